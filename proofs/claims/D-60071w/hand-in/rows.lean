section
-- ===== PART A: goes FIRST, ahead of the names: the tables' words, and 'selects' of the private methods out of them =====
/-- a private method of a class that the tables say can be made, by its rows of tables_1 -/
def lw_okq (q : MethodName × Nat) : Prop := (q.1.cls ≠ "java/lang/invoke/MethodHandle" ∧ q.1.cls ≠ "java/lang/invoke/VarHandle") ∧ Cond.instantiable q.1.cls q.2 ∈ tables_1 ∧ Cond.privateMethod q.1 ∈ tables_1 ∧ Cond.instanceMethod q.1 ∈ tables_1
set_option maxRecDepth 100000
theorem lw_p0 : lw_okq (⟨"FractionNear", "nearest", "(I)V"⟩, 3) := ⟨⟨by decide +kernel, by decide +kernel⟩, List.mem_of_getElem? (i := 6) rfl, List.mem_of_getElem? (i := 56) rfl, List.mem_of_getElem? (i := 57) rfl⟩
theorem lw_p1 : lw_okq (⟨"FractionNear", "between", "(IIII)Z"⟩, 3) := ⟨⟨by decide +kernel, by decide +kernel⟩, List.mem_of_getElem? (i := 6) rfl, List.mem_of_getElem? (i := 83) rfl, List.mem_of_getElem? (i := 84) rfl⟩
theorem lw_p2 : lw_okq (⟨"FractionNearModel", "seek", "(I)V"⟩, 4) := ⟨⟨by decide +kernel, by decide +kernel⟩, List.mem_of_getElem? (i := 95) rfl, List.mem_of_getElem? (i := 123) rfl, List.mem_of_getElem? (i := 124) rfl⟩
theorem lw_p3 : lw_okq (⟨"FractionNearModel", "better", "(IIII)Z"⟩, 4) := ⟨⟨by decide +kernel, by decide +kernel⟩, List.mem_of_getElem? (i := 95) rfl, List.mem_of_getElem? (i := 127) rfl, List.mem_of_getElem? (i := 128) rfl⟩
theorem lw_p4 : lw_okq (⟨"FractionNearModel", "simple", "(IIII)Z"⟩, 4) := ⟨⟨by decide +kernel, by decide +kernel⟩, List.mem_of_getElem? (i := 95) rfl, List.mem_of_getElem? (i := 139) rfl, List.mem_of_getElem? (i := 140) rfl⟩
def lw_privs_1 : List (MethodName × Nat) := [(⟨"FractionNear", "nearest", "(I)V"⟩, 3), (⟨"FractionNear", "between", "(IIII)Z"⟩, 3), (⟨"FractionNearModel", "seek", "(I)V"⟩, 4), (⟨"FractionNearModel", "better", "(IIII)Z"⟩, 4), (⟨"FractionNearModel", "simple", "(IIII)Z"⟩, 4)]
theorem lw_r1 : ∀ q ∈ lw_privs_1, lw_okq q := List.forall_mem_cons.mpr ⟨lw_p0, List.forall_mem_cons.mpr ⟨lw_p1, List.forall_mem_cons.mpr ⟨lw_p2, List.forall_mem_cons.mpr ⟨lw_p3, List.forall_mem_cons.mpr ⟨lw_p4, fun _ h => absurd h List.not_mem_nil⟩⟩⟩⟩⟩
def lw_privs : List (MethodName × Nat) := lw_privs_1
def lw_tbl : List Cond := k2_sels lw_privs ++ tables_1
theorem lw_privs_ok : ∀ q ∈ lw_privs, lw_okq q := lw_r1
-- ===== ONE list of words for every method: the tables' words that hold all through a run =====
def lw_all : List Cond := lw_tbl.filter goodWord
/-- a word of the tables by its place: claim/WORDS.tsv -/
theorem lw_w {w : Cond} (i : Nat) (h : lw_tbl[i]? = some w) (g : goodWord w = true) : w ∈ lw_all := List.mem_filter.mpr ⟨List.mem_of_getElem? h, g⟩
theorem lw_all_tbl {w : Cond} (h : w ∈ lw_all) : w ∈ lw_tbl := (List.mem_filter.mp h).1
theorem lw_self : GoodIn lw_all lw_all := fun w h => ⟨h, good_of_word (List.mem_filter.mp h).2⟩
/-- a class's field words, by their places -/
theorem lw_in (ws : List Cond) (ps : List Nat) (hp : ws = ps.filterMap (fun i => lw_tbl[i]?)) (hg : ws.all goodWord = true) : ∀ w ∈ ws, w ∈ lw_all := by
  intro w h
  have h1 := List.all_eq_true.mp hg w h
  rw [hp] at h
  obtain ⟨i, -, hi⟩ := List.mem_filterMap.mp h
  exact lw_w i hi h1
/-- the words of a contract for the method y with code b, L locals, answer r -/
abbrev ws_ (y : MethodName) (b : ByteArray) (L : Nat) (r : Option FieldType) : List Cond := Cond.code y b L r :: lw_all
theorem lw_meth {y : MethodName} {b : ByteArray} {L : Nat} {r : Option FieldType} (h : Cond.code y b L r ∈ lw_all) : GoodIn lw_all (ws_ y b L r) := by
  intro w hw
  rcases List.mem_cons.mp hw with e | e
  · rw [e]
    exact lw_self _ h
  · exact lw_self _ e
theorem lw_app {a c : List Cond} (ha : ∀ w ∈ a, w ∈ lw_all) (hc : GoodIn lw_all c) : GoodIn lw_all (a ++ c) := by
  intro w hw
  rcases List.mem_append.mp hw with e | e
  · exact lw_self w (ha w e)
  · exact hc w e
/-- what a call through an object asks: cwV n hts (lw_V ..) -/
theorem lw_V {own : String} {idx : Nat} {C : String} {y : MethodName} {b : ByteArray} {L : Nat} {r : Option FieldType} (h1 : Cond.methodLink own idx y ∈ lw_all) (h2 : Cond.instanceMethod y ∈ lw_all) (h3 : Cond.selects C y y ∈ lw_all) (h4 : Cond.initialized C ∈ lw_all) (h5 : Cond.code y b L r ∈ lw_all) : GoodIn lw_all (wsV own idx C y (ws_ y b L r)) := by
  refine lw_app ?_ (lw_meth h5)
  intro w hw
  simp only [List.mem_cons, List.not_mem_nil, or_false] at hw
  rcases hw with e | e | e | e
  · rw [e]; exact h1
  · rw [e]; exact h2
  · rw [e]; exact h3
  · rw [e]; exact h4
/-- what a static call asks: va_cwS n hts (lw_S ..) -/
theorem lw_S {own : String} {idx : Nat} {y : MethodName} {b : ByteArray} {L : Nat} {r : Option FieldType} (h1 : Cond.methodLink own idx y ∈ lw_all) (h2 : Cond.static y ∈ lw_all) (h3 : Cond.initialized y.cls ∈ lw_all) (h4 : Cond.code y b L r ∈ lw_all) : GoodIn lw_all (va_wsS own idx y (ws_ y b L r)) := by
  refine lw_app ?_ (lw_meth h4)
  intro w hw
  simp only [List.mem_cons, List.not_mem_nil, or_false] at hw
  rcases hw with e | e | e
  · rw [e]; exact h1
  · rw [e]; exact h2
  · rw [e]; exact h3
/-- the words of a contract for a method WITH HANDLERS (hh: its table) -/
abbrev wsW_ (y : MethodName) (b : ByteArray) (L : Nat) (r : Option FieldType) (hh : List (Nat × Nat × Nat × Nat)) : List Cond := Cond.codeWith y b L r hh :: lw_all
theorem lw_methW {y : MethodName} {b : ByteArray} {L : Nat} {r : Option FieldType} {hh : List (Nat × Nat × Nat × Nat)} (h : Cond.codeWith y b L r hh ∈ lw_all) : GoodIn lw_all (wsW_ y b L r hh) := by
  intro w hw
  rcases List.mem_cons.mp hw with e | e
  · rw [e]
    exact lw_self _ h
  · exact lw_self _ e
/-- any list of words by their places (lw_in), good -/
theorem lw_good {ws : List Cond} (h : ∀ w ∈ ws, w ∈ lw_all) : GoodIn lw_all ws := fun w hw => lw_self w (h w hw)
/-- what a call of a method with handlers asks: vx_cwVW n hts (lw_VW ..), vx_cwSW n hts (lw_SW ..) -/
theorem lw_VW {own : String} {idx : Nat} {C : String} {y : MethodName} {b : ByteArray} {L : Nat} {r : Option FieldType} {hh : List (Nat × Nat × Nat × Nat)} (h1 : Cond.methodLink own idx y ∈ lw_all) (h2 : Cond.instanceMethod y ∈ lw_all) (h3 : Cond.selects C y y ∈ lw_all) (h4 : Cond.initialized C ∈ lw_all) (h5 : Cond.codeWith y b L r hh ∈ lw_all) : GoodIn lw_all (wsV own idx C y (wsW_ y b L r hh)) := by
  refine lw_app ?_ (lw_methW h5)
  intro w hw
  simp only [List.mem_cons, List.not_mem_nil, or_false] at hw
  rcases hw with e | e | e | e
  · rw [e]; exact h1
  · rw [e]; exact h2
  · rw [e]; exact h3
  · rw [e]; exact h4
theorem lw_SW {own : String} {idx : Nat} {y : MethodName} {b : ByteArray} {L : Nat} {r : Option FieldType} {hh : List (Nat × Nat × Nat × Nat)} (h1 : Cond.methodLink own idx y ∈ lw_all) (h2 : Cond.static y ∈ lw_all) (h3 : Cond.initialized y.cls ∈ lw_all) (h4 : Cond.codeWith y b L r hh ∈ lw_all) : GoodIn lw_all (va_wsS own idx y (wsW_ y b L r hh)) := by
  refine lw_app ?_ (lw_methW h4)
  intro w hw
  simp only [List.mem_cons, List.not_mem_nil, or_false] at hw
  rcases hw with e | e | e
  · rw [e]; exact h1
  · rw [e]; exact h2
  · rw [e]; exact h3
/-- a word by its place in its run of the tables -/
theorem lw_at {r : List Cond} (hr : ∀ w ∈ r, w ∈ lw_tbl) {w : Cond} (i : Nat) (h : r[i]? = some w) : w ∈ lw_tbl := hr w (List.mem_of_getElem? h)
theorem lw_g {w : Cond} (h : w ∈ lw_tbl) (g : goodWord w = true) : w ∈ lw_all := List.mem_filter.mpr ⟨h, g⟩
theorem lw_ms : ∀ w ∈ k2_sels lw_privs, w ∈ lw_tbl := fun w h => show w ∈ k2_sels lw_privs ++ tables_1 from List.mem_append_left _ h
theorem lw_m0 : ∀ w ∈ tables_1, w ∈ lw_tbl := fun w h => show w ∈ k2_sels lw_privs ++ tables_1 from List.mem_append_right (k2_sels lw_privs) h
theorem qs0 : (Cond.selects "FractionNear" ⟨"FractionNear", "nearest", "(I)V"⟩ ⟨"FractionNear", "nearest", "(I)V"⟩) ∈ lw_all := lw_g (lw_at lw_ms 0 rfl) rfl
theorem qs1 : (Cond.selects "FractionNear" ⟨"FractionNear", "between", "(IIII)Z"⟩ ⟨"FractionNear", "between", "(IIII)Z"⟩) ∈ lw_all := lw_g (lw_at lw_ms 1 rfl) rfl
theorem qs2 : (Cond.selects "FractionNearModel" ⟨"FractionNearModel", "seek", "(I)V"⟩ ⟨"FractionNearModel", "seek", "(I)V"⟩) ∈ lw_all := lw_g (lw_at lw_ms 2 rfl) rfl
theorem qs3 : (Cond.selects "FractionNearModel" ⟨"FractionNearModel", "better", "(IIII)Z"⟩ ⟨"FractionNearModel", "better", "(IIII)Z"⟩) ∈ lw_all := lw_g (lw_at lw_ms 3 rfl) rfl
theorem qs4 : (Cond.selects "FractionNearModel" ⟨"FractionNearModel", "simple", "(IIII)Z"⟩ ⟨"FractionNearModel", "simple", "(IIII)Z"⟩) ∈ lw_all := lw_g (lw_at lw_ms 4 rfl) rfl
end
section
/-! java/lang/Object -/
set_option maxRecDepth 100000
def RJ1 : String := "java/lang/Object"
abbrev cJ1_init : ByteArray := object_method_1_code
def yJ1_init : MethodName := ⟨RJ1, "<init>", "()V"⟩
theorem dJ1_init_0 : decode cJ1_init 0 = .ok (.return_, 1) := by decide +kernel
theorem q16 : (Jvm.Cond.instanceMethod ({ cls := "java/lang/Object", name := "<init>", desc := "()V" } : Jvm.MethodName)) ∈ lw_all := lw_g (lw_at lw_m0 11 rfl) rfl
theorem q17 : (Jvm.Cond.code ({ cls := "java/lang/Object", name := "<init>", desc := "()V" } : Jvm.MethodName) object_method_1_code (1 : Nat) (Option.none : Option Jvm.ClassFile.FieldType)) ∈ lw_all := lw_g (lw_at lw_m0 12 rfl) rfl
/-! java/lang/Math -/
set_option maxRecDepth 100000
def RJ0 : String := "java/lang/Math"
abbrev cJ0_abs : ByteArray := prog_5_method_61_code
def yJ0_abs : MethodName := ⟨RJ0, "abs", "(J)J"⟩
theorem dJ0_abs_0 : decode cJ0_abs 0 = .ok (.lload_n 0, 1) := by decide +kernel
theorem dJ0_abs_1 : decode cJ0_abs 1 = .ok (.lconst 0, 1) := by decide +kernel
theorem dJ0_abs_2 : decode cJ0_abs 2 = .ok (.lcmp, 1) := by decide +kernel
theorem dJ0_abs_3 : decode cJ0_abs 3 = .ok (.ifCond .ge 8, 3) := by decide +kernel
theorem dJ0_abs_6 : decode cJ0_abs 6 = .ok (.lload_n 0, 1) := by decide +kernel
theorem dJ0_abs_7 : decode cJ0_abs 7 = .ok (.lneg, 1) := by decide +kernel
theorem dJ0_abs_8 : decode cJ0_abs 8 = .ok (.goto 4, 3) := by decide +kernel
theorem dJ0_abs_11 : decode cJ0_abs 11 = .ok (.lload_n 0, 1) := by decide +kernel
theorem dJ0_abs_12 : decode cJ0_abs 12 = .ok (.lreturn, 1) := by decide +kernel
theorem q9 : (Jvm.Cond.initialized "java/lang/Math") ∈ lw_all := lw_g (lw_at lw_m0 4 rfl) rfl
theorem q77 : (Jvm.Cond.static ({ cls := "java/lang/Math", name := "abs", desc := "(J)J" } : Jvm.MethodName)) ∈ lw_all := lw_g (lw_at lw_m0 72 rfl) rfl
theorem q78 : (Jvm.Cond.code ({ cls := "java/lang/Math", name := "abs", desc := "(J)J" } : Jvm.MethodName) prog_5_method_61_code (2 : Nat) (Option.some Jvm.ClassFile.FieldType.long)) ∈ lw_all := lw_g (lw_at lw_m0 73 rfl) rfl
/-! FractionNear$Made -/
set_option maxRecDepth 100000
def RX1 : String := "FractionNear$Made"
def TX1 : u_T := fun k => match k with
  | 0 => ("FractionNear$Made", "above", "J", false)
  | 1 => ("FractionNear$Made", "below", "J", false)
  | 2 => ("FractionNear$Made", "aboveBefore", "J", false)
  | _ => ("FractionNear$Made", "belowBefore", "J", false)
def tyX1 : Nat → FieldType := fun k => match k with
  | 0 => .long
  | 1 => .long
  | 2 => .long
  | _ => .long
abbrev wsX10 : List Cond := u_ws RX1 TX1 4
theorem nmX1 : ∀ a, a < 4 → ∀ b, b < 4 → a ≠ b → (TX1 a).2.1 ≠ (TX1 b).2.1 := by decide +kernel
theorem tyX1_ok : ∀ k, k < 4 → parseFieldDescriptor (TX1 k).2.2.1 = some (tyX1 k) := by decide +kernel
abbrev cX1_init : ByteArray := prog_2_method_1_code
def yX1_init : MethodName := ⟨RX1, "<init>", "()V"⟩
theorem dX1_init_0 : decode cX1_init 0 = .ok (.aload_n 0, 1) := by decide +kernel
theorem dX1_init_1 : decode cX1_init 1 = .ok (.invokespecial 1, 3) := by decide +kernel
theorem dX1_init_4 : decode cX1_init 4 = .ok (.return_, 1) := by decide +kernel
abbrev cX1_begin : ByteArray := prog_2_method_2_code
def yX1_begin : MethodName := ⟨RX1, "begin", "()V"⟩
theorem dX1_begin_0 : decode cX1_begin 0 = .ok (.aload_n 0, 1) := by decide +kernel
theorem dX1_begin_1 : decode cX1_begin 1 = .ok (.lconst 1, 1) := by decide +kernel
theorem dX1_begin_2 : decode cX1_begin 2 = .ok (.putfield 7, 3) := by decide +kernel
theorem dX1_begin_5 : decode cX1_begin 5 = .ok (.aload_n 0, 1) := by decide +kernel
theorem dX1_begin_6 : decode cX1_begin 6 = .ok (.lconst 0, 1) := by decide +kernel
theorem dX1_begin_7 : decode cX1_begin 7 = .ok (.putfield 13, 3) := by decide +kernel
theorem dX1_begin_10 : decode cX1_begin 10 = .ok (.aload_n 0, 1) := by decide +kernel
theorem dX1_begin_11 : decode cX1_begin 11 = .ok (.lconst 0, 1) := by decide +kernel
theorem dX1_begin_12 : decode cX1_begin 12 = .ok (.putfield 16, 3) := by decide +kernel
theorem dX1_begin_15 : decode cX1_begin 15 = .ok (.aload_n 0, 1) := by decide +kernel
theorem dX1_begin_16 : decode cX1_begin 16 = .ok (.lconst 1, 1) := by decide +kernel
theorem dX1_begin_17 : decode cX1_begin 17 = .ok (.putfield 19, 3) := by decide +kernel
theorem dX1_begin_20 : decode cX1_begin 20 = .ok (.return_, 1) := by decide +kernel
abbrev cX1_add : ByteArray := prog_2_method_3_code
def yX1_add : MethodName := ⟨RX1, "add", "(J)V"⟩
theorem dX1_add_0 : decode cX1_add 0 = .ok (.lload_n 1, 1) := by decide +kernel
theorem dX1_add_1 : decode cX1_add 1 = .ok (.aload_n 0, 1) := by decide +kernel
theorem dX1_add_2 : decode cX1_add 2 = .ok (.getfield 7, 3) := by decide +kernel
theorem dX1_add_5 : decode cX1_add 5 = .ok (.lmul, 1) := by decide +kernel
theorem dX1_add_6 : decode cX1_add 6 = .ok (.aload_n 0, 1) := by decide +kernel
theorem dX1_add_7 : decode cX1_add 7 = .ok (.getfield 16, 3) := by decide +kernel
theorem dX1_add_10 : decode cX1_add 10 = .ok (.ladd, 1) := by decide +kernel
theorem dX1_add_11 : decode cX1_add 11 = .ok (.lstore_n 3, 1) := by decide +kernel
theorem dX1_add_12 : decode cX1_add 12 = .ok (.lload_n 1, 1) := by decide +kernel
theorem dX1_add_13 : decode cX1_add 13 = .ok (.aload_n 0, 1) := by decide +kernel
theorem dX1_add_14 : decode cX1_add 14 = .ok (.getfield 13, 3) := by decide +kernel
theorem dX1_add_17 : decode cX1_add 17 = .ok (.lmul, 1) := by decide +kernel
theorem dX1_add_18 : decode cX1_add 18 = .ok (.aload_n 0, 1) := by decide +kernel
theorem dX1_add_19 : decode cX1_add 19 = .ok (.getfield 19, 3) := by decide +kernel
theorem dX1_add_22 : decode cX1_add 22 = .ok (.ladd, 1) := by decide +kernel
theorem dX1_add_23 : decode cX1_add 23 = .ok (.lstore 5, 2) := by decide +kernel
theorem dX1_add_25 : decode cX1_add 25 = .ok (.aload_n 0, 1) := by decide +kernel
theorem dX1_add_26 : decode cX1_add 26 = .ok (.aload_n 0, 1) := by decide +kernel
theorem dX1_add_27 : decode cX1_add 27 = .ok (.getfield 7, 3) := by decide +kernel
theorem dX1_add_30 : decode cX1_add 30 = .ok (.putfield 16, 3) := by decide +kernel
theorem dX1_add_33 : decode cX1_add 33 = .ok (.aload_n 0, 1) := by decide +kernel
theorem dX1_add_34 : decode cX1_add 34 = .ok (.aload_n 0, 1) := by decide +kernel
theorem dX1_add_35 : decode cX1_add 35 = .ok (.getfield 13, 3) := by decide +kernel
theorem dX1_add_38 : decode cX1_add 38 = .ok (.putfield 19, 3) := by decide +kernel
theorem dX1_add_41 : decode cX1_add 41 = .ok (.aload_n 0, 1) := by decide +kernel
theorem dX1_add_42 : decode cX1_add 42 = .ok (.lload_n 3, 1) := by decide +kernel
theorem dX1_add_43 : decode cX1_add 43 = .ok (.putfield 7, 3) := by decide +kernel
theorem dX1_add_46 : decode cX1_add 46 = .ok (.aload_n 0, 1) := by decide +kernel
theorem dX1_add_47 : decode cX1_add 47 = .ok (.lload 5, 2) := by decide +kernel
theorem dX1_add_49 : decode cX1_add 49 = .ok (.putfield 13, 3) := by decide +kernel
theorem dX1_add_52 : decode cX1_add 52 = .ok (.return_, 1) := by decide +kernel
abbrev cX1_off : ByteArray := prog_2_method_4_code
def yX1_off : MethodName := ⟨RX1, "off", "(JJ)J"⟩
theorem dX1_off_0 : decode cX1_off 0 = .ok (.aload_n 0, 1) := by decide +kernel
theorem dX1_off_1 : decode cX1_off 1 = .ok (.getfield 7, 3) := by decide +kernel
theorem dX1_off_4 : decode cX1_off 4 = .ok (.lload_n 3, 1) := by decide +kernel
theorem dX1_off_5 : decode cX1_off 5 = .ok (.lmul, 1) := by decide +kernel
theorem dX1_off_6 : decode cX1_off 6 = .ok (.lload_n 1, 1) := by decide +kernel
theorem dX1_off_7 : decode cX1_off 7 = .ok (.aload_n 0, 1) := by decide +kernel
theorem dX1_off_8 : decode cX1_off 8 = .ok (.getfield 13, 3) := by decide +kernel
theorem dX1_off_11 : decode cX1_off 11 = .ok (.lmul, 1) := by decide +kernel
theorem dX1_off_12 : decode cX1_off 12 = .ok (.lsub, 1) := by decide +kernel
theorem dX1_off_13 : decode cX1_off 13 = .ok (.lreturn, 1) := by decide +kernel
theorem q7 : (Jvm.Cond.initialized "FractionNear$Made") ∈ lw_all := lw_g (lw_at lw_m0 2 rfl) rfl
theorem q19 : (Jvm.Cond.instantiable "FractionNear$Made" (4 : Nat)) ∈ lw_all := lw_g (lw_at lw_m0 14 rfl) rfl
theorem q21 : (Jvm.Cond.instanceMethod ({ cls := "FractionNear$Made", name := "<init>", desc := "()V" } : Jvm.MethodName)) ∈ lw_all := lw_g (lw_at lw_m0 16 rfl) rfl
theorem q22 : (Jvm.Cond.code ({ cls := "FractionNear$Made", name := "<init>", desc := "()V" } : Jvm.MethodName) prog_2_method_1_code (1 : Nat) (Option.none : Option Jvm.ClassFile.FieldType)) ∈ lw_all := lw_g (lw_at lw_m0 17 rfl) rfl
theorem q23 : (Jvm.Cond.methodLink "FractionNear$Made" (1 : Nat) ({ cls := "java/lang/Object", name := "<init>", desc := "()V" } : Jvm.MethodName)) ∈ lw_all := lw_g (lw_at lw_m0 18 rfl) rfl
theorem q24 : (Jvm.Cond.fieldLink "FractionNear$Made" (7 : Nat) "FractionNear$Made" "above" "J") ∈ lw_all := lw_g (lw_at lw_m0 19 rfl) rfl
theorem q26 : (Jvm.Cond.fieldLink "FractionNear$Made" (13 : Nat) "FractionNear$Made" "below" "J") ∈ lw_all := lw_g (lw_at lw_m0 21 rfl) rfl
theorem q28 : (Jvm.Cond.fieldLink "FractionNear$Made" (16 : Nat) "FractionNear$Made" "aboveBefore" "J") ∈ lw_all := lw_g (lw_at lw_m0 23 rfl) rfl
theorem q30 : (Jvm.Cond.fieldLink "FractionNear$Made" (19 : Nat) "FractionNear$Made" "belowBefore" "J") ∈ lw_all := lw_g (lw_at lw_m0 25 rfl) rfl
theorem q32 : (Jvm.Cond.lays "FractionNear$Made" "FractionNear$Made" "above" "J") ∈ lw_all := lw_g (lw_at lw_m0 27 rfl) rfl
theorem q33 : (Jvm.Cond.soleField "FractionNear$Made" "above") ∈ lw_all := lw_g (lw_at lw_m0 28 rfl) rfl
theorem q34 : (Jvm.Cond.lays "FractionNear$Made" "FractionNear$Made" "below" "J") ∈ lw_all := lw_g (lw_at lw_m0 29 rfl) rfl
theorem q35 : (Jvm.Cond.soleField "FractionNear$Made" "below") ∈ lw_all := lw_g (lw_at lw_m0 30 rfl) rfl
theorem q36 : (Jvm.Cond.lays "FractionNear$Made" "FractionNear$Made" "aboveBefore" "J") ∈ lw_all := lw_g (lw_at lw_m0 31 rfl) rfl
theorem q37 : (Jvm.Cond.soleField "FractionNear$Made" "aboveBefore") ∈ lw_all := lw_g (lw_at lw_m0 32 rfl) rfl
theorem q38 : (Jvm.Cond.lays "FractionNear$Made" "FractionNear$Made" "belowBefore" "J") ∈ lw_all := lw_g (lw_at lw_m0 33 rfl) rfl
theorem q39 : (Jvm.Cond.soleField "FractionNear$Made" "belowBefore") ∈ lw_all := lw_g (lw_at lw_m0 34 rfl) rfl
theorem q40 : (Jvm.Cond.superclass "FractionNear$Made" "java/lang/Object") ∈ lw_all := lw_g (lw_at lw_m0 35 rfl) rfl
theorem q65 : (Jvm.Cond.instanceMethod ({ cls := "FractionNear$Made", name := "begin", desc := "()V" } : Jvm.MethodName)) ∈ lw_all := lw_g (lw_at lw_m0 60 rfl) rfl
theorem q66 : (Jvm.Cond.selects "FractionNear$Made" ({ cls := "FractionNear$Made", name := "begin", desc := "()V" } : Jvm.MethodName) ({ cls := "FractionNear$Made", name := "begin", desc := "()V" } : Jvm.MethodName)) ∈ lw_all := lw_g (lw_at lw_m0 61 rfl) rfl
theorem q67 : (Jvm.Cond.code ({ cls := "FractionNear$Made", name := "begin", desc := "()V" } : Jvm.MethodName) prog_2_method_2_code (1 : Nat) (Option.none : Option Jvm.ClassFile.FieldType)) ∈ lw_all := lw_g (lw_at lw_m0 62 rfl) rfl
theorem q69 : (Jvm.Cond.instanceMethod ({ cls := "FractionNear$Made", name := "add", desc := "(J)V" } : Jvm.MethodName)) ∈ lw_all := lw_g (lw_at lw_m0 64 rfl) rfl
theorem q70 : (Jvm.Cond.selects "FractionNear$Made" ({ cls := "FractionNear$Made", name := "add", desc := "(J)V" } : Jvm.MethodName) ({ cls := "FractionNear$Made", name := "add", desc := "(J)V" } : Jvm.MethodName)) ∈ lw_all := lw_g (lw_at lw_m0 65 rfl) rfl
theorem q71 : (Jvm.Cond.code ({ cls := "FractionNear$Made", name := "add", desc := "(J)V" } : Jvm.MethodName) prog_2_method_3_code (7 : Nat) (Option.none : Option Jvm.ClassFile.FieldType)) ∈ lw_all := lw_g (lw_at lw_m0 66 rfl) rfl
theorem q73 : (Jvm.Cond.instanceMethod ({ cls := "FractionNear$Made", name := "off", desc := "(JJ)J" } : Jvm.MethodName)) ∈ lw_all := lw_g (lw_at lw_m0 68 rfl) rfl
theorem q74 : (Jvm.Cond.selects "FractionNear$Made" ({ cls := "FractionNear$Made", name := "off", desc := "(JJ)J" } : Jvm.MethodName) ({ cls := "FractionNear$Made", name := "off", desc := "(JJ)J" } : Jvm.MethodName)) ∈ lw_all := lw_g (lw_at lw_m0 69 rfl) rfl
theorem q75 : (Jvm.Cond.code ({ cls := "FractionNear$Made", name := "off", desc := "(JJ)J" } : Jvm.MethodName) prog_2_method_4_code (5 : Nat) (Option.some Jvm.ClassFile.FieldType.long)) ∈ lw_all := lw_g (lw_at lw_m0 70 rfl) rfl
theorem in_X1 : ∀ w ∈ wsX10, w ∈ lw_all := lw_in wsX10 [32, 34, 36, 38] (by decide +kernel) (by decide +kernel)
end
section
/-! FractionNear -/
set_option maxRecDepth 100000
def RX0 : String := "FractionNear"
def TX0 : u_T := fun k => match k with
  | 0 => ("FractionNear", "made", "LFractionNear$Made;", true)
  | 1 => ("FractionNear", "above", "I", false)
  | _ => ("FractionNear", "below", "I", false)
def tyX0 : Nat → FieldType := fun k => match k with
  | 0 => .object "FractionNear$Made"
  | 1 => .int
  | _ => .int
abbrev wsX00 : List Cond := u_ws RX0 TX0 3
theorem nmX0 : ∀ a, a < 3 → ∀ b, b < 3 → a ≠ b → (TX0 a).2.1 ≠ (TX0 b).2.1 := by decide +kernel
theorem tyX0_ok : ∀ k, k < 3 → parseFieldDescriptor (TX0 k).2.2.1 = some (tyX0 k) := by decide +kernel
abbrev cX0_init : ByteArray := prog_1_method_1_code
def yX0_init : MethodName := ⟨RX0, "<init>", "()V"⟩
theorem dX0_init_0 : decode cX0_init 0 = .ok (.aload_n 0, 1) := by decide +kernel
theorem dX0_init_1 : decode cX0_init 1 = .ok (.invokespecial 1, 3) := by decide +kernel
theorem dX0_init_4 : decode cX0_init 4 = .ok (.aload_n 0, 1) := by decide +kernel
theorem dX0_init_5 : decode cX0_init 5 = .ok (.new 7, 3) := by decide +kernel
theorem dX0_init_8 : decode cX0_init 8 = .ok (.dup, 1) := by decide +kernel
theorem dX0_init_9 : decode cX0_init 9 = .ok (.invokespecial 9, 3) := by decide +kernel
theorem dX0_init_12 : decode cX0_init 12 = .ok (.putfield 10, 3) := by decide +kernel
theorem dX0_init_15 : decode cX0_init 15 = .ok (.aload_n 0, 1) := by decide +kernel
theorem dX0_init_16 : decode cX0_init 16 = .ok (.iconst 1, 1) := by decide +kernel
theorem dX0_init_17 : decode cX0_init 17 = .ok (.putfield 16, 3) := by decide +kernel
theorem dX0_init_20 : decode cX0_init 20 = .ok (.return_, 1) := by decide +kernel
abbrev cX0_load : ByteArray := prog_1_method_2_code
def yX0_load : MethodName := ⟨RX0, "load", "(II)V"⟩
theorem dX0_load_0 : decode cX0_load 0 = .ok (.aload_n 0, 1) := by decide +kernel
theorem dX0_load_1 : decode cX0_load 1 = .ok (.iload_n 1, 1) := by decide +kernel
theorem dX0_load_2 : decode cX0_load 2 = .ok (.ldc 20, 2) := by decide +kernel
theorem dX0_load_4 : decode cX0_load 4 = .ok (.iand, 1) := by decide +kernel
theorem dX0_load_5 : decode cX0_load 5 = .ok (.putfield 21, 3) := by decide +kernel
theorem dX0_load_8 : decode cX0_load 8 = .ok (.aload_n 0, 1) := by decide +kernel
theorem dX0_load_9 : decode cX0_load 9 = .ok (.iconst 1, 1) := by decide +kernel
theorem dX0_load_10 : decode cX0_load 10 = .ok (.iload_n 2, 1) := by decide +kernel
theorem dX0_load_11 : decode cX0_load 11 = .ok (.ldc 20, 2) := by decide +kernel
theorem dX0_load_13 : decode cX0_load 13 = .ok (.iand, 1) := by decide +kernel
theorem dX0_load_14 : decode cX0_load 14 = .ok (.iadd, 1) := by decide +kernel
theorem dX0_load_15 : decode cX0_load 15 = .ok (.putfield 16, 3) := by decide +kernel
theorem dX0_load_18 : decode cX0_load 18 = .ok (.return_, 1) := by decide +kernel
abbrev cX0_top : ByteArray := prog_1_method_4_code
def yX0_top : MethodName := ⟨RX0, "top", "(I)I"⟩
theorem dX0_top_0 : decode cX0_top 0 = .ok (.aload_n 0, 1) := by decide +kernel
theorem dX0_top_1 : decode cX0_top 1 = .ok (.iload_n 1, 1) := by decide +kernel
theorem dX0_top_2 : decode cX0_top 2 = .ok (.invokevirtual 52, 3) := by decide +kernel
theorem dX0_top_5 : decode cX0_top 5 = .ok (.aload_n 0, 1) := by decide +kernel
theorem dX0_top_6 : decode cX0_top 6 = .ok (.getfield 10, 3) := by decide +kernel
theorem dX0_top_9 : decode cX0_top 9 = .ok (.getfield 40, 3) := by decide +kernel
theorem dX0_top_12 : decode cX0_top 12 = .ok (.l2i, 1) := by decide +kernel
theorem dX0_top_13 : decode cX0_top 13 = .ok (.ireturn, 1) := by decide +kernel
abbrev cX0_nearest : ByteArray := prog_1_method_3_code
def yX0_nearest : MethodName := ⟨RX0, "nearest", "(I)V"⟩
theorem dX0_nearest_0 : decode cX0_nearest 0 = .ok (.iconst 1, 1) := by decide +kernel
theorem dX0_nearest_1 : decode cX0_nearest 1 = .ok (.iload_n 1, 1) := by decide +kernel
theorem dX0_nearest_2 : decode cX0_nearest 2 = .ok (.sipush 2047, 3) := by decide +kernel
theorem dX0_nearest_5 : decode cX0_nearest 5 = .ok (.iand, 1) := by decide +kernel
theorem dX0_nearest_6 : decode cX0_nearest 6 = .ok (.iadd, 1) := by decide +kernel
theorem dX0_nearest_7 : decode cX0_nearest 7 = .ok (.i2l, 1) := by decide +kernel
theorem dX0_nearest_8 : decode cX0_nearest 8 = .ok (.lstore_n 2, 1) := by decide +kernel
theorem dX0_nearest_9 : decode cX0_nearest 9 = .ok (.aload_n 0, 1) := by decide +kernel
theorem dX0_nearest_10 : decode cX0_nearest 10 = .ok (.getfield 21, 3) := by decide +kernel
theorem dX0_nearest_13 : decode cX0_nearest 13 = .ok (.i2l, 1) := by decide +kernel
theorem dX0_nearest_14 : decode cX0_nearest 14 = .ok (.lstore 4, 2) := by decide +kernel
theorem dX0_nearest_16 : decode cX0_nearest 16 = .ok (.aload_n 0, 1) := by decide +kernel
theorem dX0_nearest_17 : decode cX0_nearest 17 = .ok (.getfield 16, 3) := by decide +kernel
theorem dX0_nearest_20 : decode cX0_nearest 20 = .ok (.i2l, 1) := by decide +kernel
theorem dX0_nearest_21 : decode cX0_nearest 21 = .ok (.lstore 6, 2) := by decide +kernel
theorem dX0_nearest_23 : decode cX0_nearest 23 = .ok (.aload_n 0, 1) := by decide +kernel
theorem dX0_nearest_24 : decode cX0_nearest 24 = .ok (.getfield 10, 3) := by decide +kernel
theorem dX0_nearest_27 : decode cX0_nearest 27 = .ok (.invokevirtual 24, 3) := by decide +kernel
theorem dX0_nearest_30 : decode cX0_nearest 30 = .ok (.lload 6, 2) := by decide +kernel
theorem dX0_nearest_32 : decode cX0_nearest 32 = .ok (.lconst 0, 1) := by decide +kernel
theorem dX0_nearest_33 : decode cX0_nearest 33 = .ok (.lcmp, 1) := by decide +kernel
theorem dX0_nearest_34 : decode cX0_nearest 34 = .ok (.ifCond .eq 59, 3) := by decide +kernel
theorem dX0_nearest_37 : decode cX0_nearest 37 = .ok (.lload 4, 2) := by decide +kernel
theorem dX0_nearest_39 : decode cX0_nearest 39 = .ok (.lload 6, 2) := by decide +kernel
theorem dX0_nearest_41 : decode cX0_nearest 41 = .ok (.ldiv, 1) := by decide +kernel
theorem dX0_nearest_42 : decode cX0_nearest 42 = .ok (.aload_n 0, 1) := by decide +kernel
theorem dX0_nearest_43 : decode cX0_nearest 43 = .ok (.getfield 10, 3) := by decide +kernel
theorem dX0_nearest_46 : decode cX0_nearest 46 = .ok (.getfield 27, 3) := by decide +kernel
theorem dX0_nearest_49 : decode cX0_nearest 49 = .ok (.lmul, 1) := by decide +kernel
theorem dX0_nearest_50 : decode cX0_nearest 50 = .ok (.aload_n 0, 1) := by decide +kernel
theorem dX0_nearest_51 : decode cX0_nearest 51 = .ok (.getfield 10, 3) := by decide +kernel
theorem dX0_nearest_54 : decode cX0_nearest 54 = .ok (.getfield 30, 3) := by decide +kernel
theorem dX0_nearest_57 : decode cX0_nearest 57 = .ok (.ladd, 1) := by decide +kernel
theorem dX0_nearest_58 : decode cX0_nearest 58 = .ok (.lload_n 2, 1) := by decide +kernel
theorem dX0_nearest_59 : decode cX0_nearest 59 = .ok (.lcmp, 1) := by decide +kernel
theorem dX0_nearest_60 : decode cX0_nearest 60 = .ok (.ifCond .gt 33, 3) := by decide +kernel
theorem dX0_nearest_63 : decode cX0_nearest 63 = .ok (.aload_n 0, 1) := by decide +kernel
theorem dX0_nearest_64 : decode cX0_nearest 64 = .ok (.getfield 10, 3) := by decide +kernel
theorem dX0_nearest_67 : decode cX0_nearest 67 = .ok (.lload 4, 2) := by decide +kernel
theorem dX0_nearest_69 : decode cX0_nearest 69 = .ok (.lload 6, 2) := by decide +kernel
theorem dX0_nearest_71 : decode cX0_nearest 71 = .ok (.ldiv, 1) := by decide +kernel
theorem dX0_nearest_72 : decode cX0_nearest 72 = .ok (.invokevirtual 33, 3) := by decide +kernel
theorem dX0_nearest_75 : decode cX0_nearest 75 = .ok (.lload 4, 2) := by decide +kernel
theorem dX0_nearest_77 : decode cX0_nearest 77 = .ok (.lload 6, 2) := by decide +kernel
theorem dX0_nearest_79 : decode cX0_nearest 79 = .ok (.lrem, 1) := by decide +kernel
theorem dX0_nearest_80 : decode cX0_nearest 80 = .ok (.lstore 8, 2) := by decide +kernel
theorem dX0_nearest_82 : decode cX0_nearest 82 = .ok (.lload 6, 2) := by decide +kernel
theorem dX0_nearest_84 : decode cX0_nearest 84 = .ok (.lstore 4, 2) := by decide +kernel
theorem dX0_nearest_86 : decode cX0_nearest 86 = .ok (.lload 8, 2) := by decide +kernel
theorem dX0_nearest_88 : decode cX0_nearest 88 = .ok (.lstore 6, 2) := by decide +kernel
theorem dX0_nearest_90 : decode cX0_nearest 90 = .ok (.goto (-60), 3) := by decide +kernel
theorem dX0_nearest_93 : decode cX0_nearest 93 = .ok (.lload 6, 2) := by decide +kernel
theorem dX0_nearest_95 : decode cX0_nearest 95 = .ok (.lconst 0, 1) := by decide +kernel
theorem dX0_nearest_96 : decode cX0_nearest 96 = .ok (.lcmp, 1) := by decide +kernel
theorem dX0_nearest_97 : decode cX0_nearest 97 = .ok (.ifCond .ne 4, 3) := by decide +kernel
theorem dX0_nearest_100 : decode cX0_nearest 100 = .ok (.return_, 1) := by decide +kernel
theorem dX0_nearest_101 : decode cX0_nearest 101 = .ok (.lload_n 2, 1) := by decide +kernel
theorem dX0_nearest_102 : decode cX0_nearest 102 = .ok (.aload_n 0, 1) := by decide +kernel
theorem dX0_nearest_103 : decode cX0_nearest 103 = .ok (.getfield 10, 3) := by decide +kernel
theorem dX0_nearest_106 : decode cX0_nearest 106 = .ok (.getfield 30, 3) := by decide +kernel
theorem dX0_nearest_109 : decode cX0_nearest 109 = .ok (.lsub, 1) := by decide +kernel
theorem dX0_nearest_110 : decode cX0_nearest 110 = .ok (.aload_n 0, 1) := by decide +kernel
theorem dX0_nearest_111 : decode cX0_nearest 111 = .ok (.getfield 10, 3) := by decide +kernel
theorem dX0_nearest_114 : decode cX0_nearest 114 = .ok (.getfield 27, 3) := by decide +kernel
theorem dX0_nearest_117 : decode cX0_nearest 117 = .ok (.ldiv, 1) := by decide +kernel
theorem dX0_nearest_118 : decode cX0_nearest 118 = .ok (.lstore 8, 2) := by decide +kernel
theorem dX0_nearest_120 : decode cX0_nearest 120 = .ok (.aload_n 0, 1) := by decide +kernel
theorem dX0_nearest_121 : decode cX0_nearest 121 = .ok (.getfield 10, 3) := by decide +kernel
theorem dX0_nearest_124 : decode cX0_nearest 124 = .ok (.getfield 37, 3) := by decide +kernel
theorem dX0_nearest_127 : decode cX0_nearest 127 = .ok (.lload 8, 2) := by decide +kernel
theorem dX0_nearest_129 : decode cX0_nearest 129 = .ok (.aload_n 0, 1) := by decide +kernel
theorem dX0_nearest_130 : decode cX0_nearest 130 = .ok (.getfield 10, 3) := by decide +kernel
theorem dX0_nearest_133 : decode cX0_nearest 133 = .ok (.getfield 40, 3) := by decide +kernel
theorem dX0_nearest_136 : decode cX0_nearest 136 = .ok (.lmul, 1) := by decide +kernel
theorem dX0_nearest_137 : decode cX0_nearest 137 = .ok (.ladd, 1) := by decide +kernel
theorem dX0_nearest_138 : decode cX0_nearest 138 = .ok (.lstore 10, 2) := by decide +kernel
theorem dX0_nearest_140 : decode cX0_nearest 140 = .ok (.aload_n 0, 1) := by decide +kernel
theorem dX0_nearest_141 : decode cX0_nearest 141 = .ok (.getfield 10, 3) := by decide +kernel
theorem dX0_nearest_144 : decode cX0_nearest 144 = .ok (.getfield 30, 3) := by decide +kernel
theorem dX0_nearest_147 : decode cX0_nearest 147 = .ok (.lload 8, 2) := by decide +kernel
theorem dX0_nearest_149 : decode cX0_nearest 149 = .ok (.aload_n 0, 1) := by decide +kernel
theorem dX0_nearest_150 : decode cX0_nearest 150 = .ok (.getfield 10, 3) := by decide +kernel
theorem dX0_nearest_153 : decode cX0_nearest 153 = .ok (.getfield 27, 3) := by decide +kernel
theorem dX0_nearest_156 : decode cX0_nearest 156 = .ok (.lmul, 1) := by decide +kernel
theorem dX0_nearest_157 : decode cX0_nearest 157 = .ok (.ladd, 1) := by decide +kernel
theorem dX0_nearest_158 : decode cX0_nearest 158 = .ok (.lstore 12, 2) := by decide +kernel
theorem dX0_nearest_160 : decode cX0_nearest 160 = .ok (.aload_n 0, 1) := by decide +kernel
theorem dX0_nearest_161 : decode cX0_nearest 161 = .ok (.getfield 10, 3) := by decide +kernel
theorem dX0_nearest_164 : decode cX0_nearest 164 = .ok (.aload_n 0, 1) := by decide +kernel
theorem dX0_nearest_165 : decode cX0_nearest 165 = .ok (.getfield 21, 3) := by decide +kernel
theorem dX0_nearest_168 : decode cX0_nearest 168 = .ok (.i2l, 1) := by decide +kernel
theorem dX0_nearest_169 : decode cX0_nearest 169 = .ok (.aload_n 0, 1) := by decide +kernel
theorem dX0_nearest_170 : decode cX0_nearest 170 = .ok (.getfield 16, 3) := by decide +kernel
theorem dX0_nearest_173 : decode cX0_nearest 173 = .ok (.i2l, 1) := by decide +kernel
theorem dX0_nearest_174 : decode cX0_nearest 174 = .ok (.invokevirtual 42, 3) := by decide +kernel
theorem dX0_nearest_177 : decode cX0_nearest 177 = .ok (.invokestatic 46, 3) := by decide +kernel
theorem dX0_nearest_180 : decode cX0_nearest 180 = .ok (.lload 12, 2) := by decide +kernel
theorem dX0_nearest_182 : decode cX0_nearest 182 = .ok (.lmul, 1) := by decide +kernel
theorem dX0_nearest_183 : decode cX0_nearest 183 = .ok (.lstore 14, 2) := by decide +kernel
theorem dX0_nearest_185 : decode cX0_nearest 185 = .ok (.lload 10, 2) := by decide +kernel
theorem dX0_nearest_187 : decode cX0_nearest 187 = .ok (.aload_n 0, 1) := by decide +kernel
theorem dX0_nearest_188 : decode cX0_nearest 188 = .ok (.getfield 16, 3) := by decide +kernel
theorem dX0_nearest_191 : decode cX0_nearest 191 = .ok (.i2l, 1) := by decide +kernel
theorem dX0_nearest_192 : decode cX0_nearest 192 = .ok (.lmul, 1) := by decide +kernel
theorem dX0_nearest_193 : decode cX0_nearest 193 = .ok (.aload_n 0, 1) := by decide +kernel
theorem dX0_nearest_194 : decode cX0_nearest 194 = .ok (.getfield 21, 3) := by decide +kernel
theorem dX0_nearest_197 : decode cX0_nearest 197 = .ok (.i2l, 1) := by decide +kernel
theorem dX0_nearest_198 : decode cX0_nearest 198 = .ok (.lload 12, 2) := by decide +kernel
theorem dX0_nearest_200 : decode cX0_nearest 200 = .ok (.lmul, 1) := by decide +kernel
theorem dX0_nearest_201 : decode cX0_nearest 201 = .ok (.lsub, 1) := by decide +kernel
theorem dX0_nearest_202 : decode cX0_nearest 202 = .ok (.invokestatic 46, 3) := by decide +kernel
theorem dX0_nearest_205 : decode cX0_nearest 205 = .ok (.aload_n 0, 1) := by decide +kernel
theorem dX0_nearest_206 : decode cX0_nearest 206 = .ok (.getfield 10, 3) := by decide +kernel
theorem dX0_nearest_209 : decode cX0_nearest 209 = .ok (.getfield 27, 3) := by decide +kernel
theorem dX0_nearest_212 : decode cX0_nearest 212 = .ok (.lmul, 1) := by decide +kernel
theorem dX0_nearest_213 : decode cX0_nearest 213 = .ok (.lstore 16, 2) := by decide +kernel
theorem dX0_nearest_215 : decode cX0_nearest 215 = .ok (.aload_n 0, 1) := by decide +kernel
theorem dX0_nearest_216 : decode cX0_nearest 216 = .ok (.getfield 10, 3) := by decide +kernel
theorem dX0_nearest_219 : decode cX0_nearest 219 = .ok (.aload_n 0, 1) := by decide +kernel
theorem dX0_nearest_220 : decode cX0_nearest 220 = .ok (.getfield 21, 3) := by decide +kernel
theorem dX0_nearest_223 : decode cX0_nearest 223 = .ok (.i2l, 1) := by decide +kernel
theorem dX0_nearest_224 : decode cX0_nearest 224 = .ok (.aload_n 0, 1) := by decide +kernel
theorem dX0_nearest_225 : decode cX0_nearest 225 = .ok (.getfield 16, 3) := by decide +kernel
theorem dX0_nearest_228 : decode cX0_nearest 228 = .ok (.i2l, 1) := by decide +kernel
theorem dX0_nearest_229 : decode cX0_nearest 229 = .ok (.invokevirtual 42, 3) := by decide +kernel
theorem dX0_nearest_232 : decode cX0_nearest 232 = .ok (.lconst 0, 1) := by decide +kernel
theorem dX0_nearest_233 : decode cX0_nearest 233 = .ok (.lcmp, 1) := by decide +kernel
theorem dX0_nearest_234 : decode cX0_nearest 234 = .ok (.ifCond .ge 7, 3) := by decide +kernel
theorem dX0_nearest_237 : decode cX0_nearest 237 = .ok (.iconst 1, 1) := by decide +kernel
theorem dX0_nearest_238 : decode cX0_nearest 238 = .ok (.goto 4, 3) := by decide +kernel
theorem dX0_nearest_241 : decode cX0_nearest 241 = .ok (.iconst 0, 1) := by decide +kernel
theorem dX0_nearest_242 : decode cX0_nearest 242 = .ok (.istore 18, 2) := by decide +kernel
theorem dX0_nearest_244 : decode cX0_nearest 244 = .ok (.lload 16, 2) := by decide +kernel
theorem dX0_nearest_246 : decode cX0_nearest 246 = .ok (.lload 14, 2) := by decide +kernel
theorem dX0_nearest_248 : decode cX0_nearest 248 = .ok (.lcmp, 1) := by decide +kernel
theorem dX0_nearest_249 : decode cX0_nearest 249 = .ok (.ifCond .gt 42, 3) := by decide +kernel
theorem dX0_nearest_252 : decode cX0_nearest 252 = .ok (.lload 16, 2) := by decide +kernel
theorem dX0_nearest_254 : decode cX0_nearest 254 = .ok (.lload 14, 2) := by decide +kernel
theorem dX0_nearest_256 : decode cX0_nearest 256 = .ok (.lcmp, 1) := by decide +kernel
theorem dX0_nearest_257 : decode cX0_nearest 257 = .ok (.ifCond .ne 35, 3) := by decide +kernel
theorem dX0_nearest_260 : decode cX0_nearest 260 = .ok (.aload_n 0, 1) := by decide +kernel
theorem dX0_nearest_261 : decode cX0_nearest 261 = .ok (.getfield 10, 3) := by decide +kernel
theorem dX0_nearest_264 : decode cX0_nearest 264 = .ok (.getfield 27, 3) := by decide +kernel
theorem dX0_nearest_267 : decode cX0_nearest 267 = .ok (.lload 12, 2) := by decide +kernel
theorem dX0_nearest_269 : decode cX0_nearest 269 = .ok (.lcmp, 1) := by decide +kernel
theorem dX0_nearest_270 : decode cX0_nearest 270 = .ok (.ifCond .lt 21, 3) := by decide +kernel
theorem dX0_nearest_273 : decode cX0_nearest 273 = .ok (.aload_n 0, 1) := by decide +kernel
theorem dX0_nearest_274 : decode cX0_nearest 274 = .ok (.getfield 10, 3) := by decide +kernel
theorem dX0_nearest_277 : decode cX0_nearest 277 = .ok (.getfield 27, 3) := by decide +kernel
theorem dX0_nearest_280 : decode cX0_nearest 280 = .ok (.lload 12, 2) := by decide +kernel
theorem dX0_nearest_282 : decode cX0_nearest 282 = .ok (.lcmp, 1) := by decide +kernel
theorem dX0_nearest_283 : decode cX0_nearest 283 = .ok (.ifCond .ne 9, 3) := by decide +kernel
theorem dX0_nearest_286 : decode cX0_nearest 286 = .ok (.iload 18, 2) := by decide +kernel
theorem dX0_nearest_288 : decode cX0_nearest 288 = .ok (.ifCond .eq 4, 3) := by decide +kernel
theorem dX0_nearest_291 : decode cX0_nearest 291 = .ok (.return_, 1) := by decide +kernel
theorem dX0_nearest_292 : decode cX0_nearest 292 = .ok (.aload_n 0, 1) := by decide +kernel
theorem dX0_nearest_293 : decode cX0_nearest 293 = .ok (.getfield 10, 3) := by decide +kernel
theorem dX0_nearest_296 : decode cX0_nearest 296 = .ok (.lload 10, 2) := by decide +kernel
theorem dX0_nearest_298 : decode cX0_nearest 298 = .ok (.putfield 40, 3) := by decide +kernel
theorem dX0_nearest_301 : decode cX0_nearest 301 = .ok (.aload_n 0, 1) := by decide +kernel
theorem dX0_nearest_302 : decode cX0_nearest 302 = .ok (.getfield 10, 3) := by decide +kernel
theorem dX0_nearest_305 : decode cX0_nearest 305 = .ok (.lload 12, 2) := by decide +kernel
theorem dX0_nearest_307 : decode cX0_nearest 307 = .ok (.putfield 27, 3) := by decide +kernel
theorem dX0_nearest_310 : decode cX0_nearest 310 = .ok (.return_, 1) := by decide +kernel
abbrev cX0_bottom : ByteArray := prog_1_method_5_code
def yX0_bottom : MethodName := ⟨RX0, "bottom", "(I)I"⟩
theorem dX0_bottom_0 : decode cX0_bottom 0 = .ok (.aload_n 0, 1) := by decide +kernel
theorem dX0_bottom_1 : decode cX0_bottom 1 = .ok (.iload_n 1, 1) := by decide +kernel
theorem dX0_bottom_2 : decode cX0_bottom 2 = .ok (.invokevirtual 52, 3) := by decide +kernel
theorem dX0_bottom_5 : decode cX0_bottom 5 = .ok (.aload_n 0, 1) := by decide +kernel
theorem dX0_bottom_6 : decode cX0_bottom 6 = .ok (.getfield 10, 3) := by decide +kernel
theorem dX0_bottom_9 : decode cX0_bottom 9 = .ok (.getfield 27, 3) := by decide +kernel
theorem dX0_bottom_12 : decode cX0_bottom 12 = .ok (.l2i, 1) := by decide +kernel
theorem dX0_bottom_13 : decode cX0_bottom 13 = .ok (.ireturn, 1) := by decide +kernel
abbrev cX0_simplest : ByteArray := prog_1_method_7_code
def yX0_simplest : MethodName := ⟨RX0, "simplest", "(IIII)I"⟩
theorem dX0_simplest_0 : decode cX0_simplest 0 = .ok (.aload_n 0, 1) := by decide +kernel
theorem dX0_simplest_1 : decode cX0_simplest 1 = .ok (.iload_n 1, 1) := by decide +kernel
theorem dX0_simplest_2 : decode cX0_simplest 2 = .ok (.iload_n 2, 1) := by decide +kernel
theorem dX0_simplest_3 : decode cX0_simplest 3 = .ok (.iload_n 3, 1) := by decide +kernel
theorem dX0_simplest_4 : decode cX0_simplest 4 = .ok (.iload 4, 2) := by decide +kernel
theorem dX0_simplest_6 : decode cX0_simplest 6 = .ok (.invokevirtual 56, 3) := by decide +kernel
theorem dX0_simplest_9 : decode cX0_simplest 9 = .ok (.ifCond .eq 14, 3) := by decide +kernel
theorem dX0_simplest_12 : decode cX0_simplest 12 = .ok (.aload_n 0, 1) := by decide +kernel
theorem dX0_simplest_13 : decode cX0_simplest 13 = .ok (.getfield 10, 3) := by decide +kernel
theorem dX0_simplest_16 : decode cX0_simplest 16 = .ok (.getfield 40, 3) := by decide +kernel
theorem dX0_simplest_19 : decode cX0_simplest 19 = .ok (.l2i, 1) := by decide +kernel
theorem dX0_simplest_20 : decode cX0_simplest 20 = .ok (.goto 4, 3) := by decide +kernel
theorem dX0_simplest_23 : decode cX0_simplest 23 = .ok (.iconst (-1), 1) := by decide +kernel
theorem dX0_simplest_24 : decode cX0_simplest 24 = .ok (.ireturn, 1) := by decide +kernel
abbrev cX0_between : ByteArray := prog_1_method_6_code
def yX0_between : MethodName := ⟨RX0, "between", "(IIII)Z"⟩
theorem dX0_between_0 : decode cX0_between 0 = .ok (.iload_n 1, 1) := by decide +kernel
theorem dX0_between_1 : decode cX0_between 1 = .ok (.sipush 1023, 3) := by decide +kernel
theorem dX0_between_4 : decode cX0_between 4 = .ok (.iand, 1) := by decide +kernel
theorem dX0_between_5 : decode cX0_between 5 = .ok (.i2l, 1) := by decide +kernel
theorem dX0_between_6 : decode cX0_between 6 = .ok (.lstore 5, 2) := by decide +kernel
theorem dX0_between_8 : decode cX0_between 8 = .ok (.iconst 1, 1) := by decide +kernel
theorem dX0_between_9 : decode cX0_between 9 = .ok (.iload_n 2, 1) := by decide +kernel
theorem dX0_between_10 : decode cX0_between 10 = .ok (.sipush 1023, 3) := by decide +kernel
theorem dX0_between_13 : decode cX0_between 13 = .ok (.iand, 1) := by decide +kernel
theorem dX0_between_14 : decode cX0_between 14 = .ok (.iadd, 1) := by decide +kernel
theorem dX0_between_15 : decode cX0_between 15 = .ok (.i2l, 1) := by decide +kernel
theorem dX0_between_16 : decode cX0_between 16 = .ok (.lstore 7, 2) := by decide +kernel
theorem dX0_between_18 : decode cX0_between 18 = .ok (.iload_n 3, 1) := by decide +kernel
theorem dX0_between_19 : decode cX0_between 19 = .ok (.sipush 1023, 3) := by decide +kernel
theorem dX0_between_22 : decode cX0_between 22 = .ok (.iand, 1) := by decide +kernel
theorem dX0_between_23 : decode cX0_between 23 = .ok (.i2l, 1) := by decide +kernel
theorem dX0_between_24 : decode cX0_between 24 = .ok (.lstore 9, 2) := by decide +kernel
theorem dX0_between_26 : decode cX0_between 26 = .ok (.iconst 1, 1) := by decide +kernel
theorem dX0_between_27 : decode cX0_between 27 = .ok (.iload 4, 2) := by decide +kernel
theorem dX0_between_29 : decode cX0_between 29 = .ok (.sipush 1023, 3) := by decide +kernel
theorem dX0_between_32 : decode cX0_between 32 = .ok (.iand, 1) := by decide +kernel
theorem dX0_between_33 : decode cX0_between 33 = .ok (.iadd, 1) := by decide +kernel
theorem dX0_between_34 : decode cX0_between 34 = .ok (.i2l, 1) := by decide +kernel
theorem dX0_between_35 : decode cX0_between 35 = .ok (.lstore 11, 2) := by decide +kernel
theorem dX0_between_37 : decode cX0_between 37 = .ok (.lload 5, 2) := by decide +kernel
theorem dX0_between_39 : decode cX0_between 39 = .ok (.lload 11, 2) := by decide +kernel
theorem dX0_between_41 : decode cX0_between 41 = .ok (.lmul, 1) := by decide +kernel
theorem dX0_between_42 : decode cX0_between 42 = .ok (.lload 9, 2) := by decide +kernel
theorem dX0_between_44 : decode cX0_between 44 = .ok (.lload 7, 2) := by decide +kernel
theorem dX0_between_46 : decode cX0_between 46 = .ok (.lmul, 1) := by decide +kernel
theorem dX0_between_47 : decode cX0_between 47 = .ok (.lcmp, 1) := by decide +kernel
theorem dX0_between_48 : decode cX0_between 48 = .ok (.ifCond .lt 5, 3) := by decide +kernel
theorem dX0_between_51 : decode cX0_between 51 = .ok (.iconst 0, 1) := by decide +kernel
theorem dX0_between_52 : decode cX0_between 52 = .ok (.ireturn, 1) := by decide +kernel
theorem dX0_between_53 : decode cX0_between 53 = .ok (.aload_n 0, 1) := by decide +kernel
theorem dX0_between_54 : decode cX0_between 54 = .ok (.getfield 10, 3) := by decide +kernel
theorem dX0_between_57 : decode cX0_between 57 = .ok (.invokevirtual 24, 3) := by decide +kernel
theorem dX0_between_60 : decode cX0_between 60 = .ok (.lload 5, 2) := by decide +kernel
theorem dX0_between_62 : decode cX0_between 62 = .ok (.lload 7, 2) := by decide +kernel
theorem dX0_between_64 : decode cX0_between 64 = .ok (.ldiv, 1) := by decide +kernel
theorem dX0_between_65 : decode cX0_between 65 = .ok (.lstore 13, 2) := by decide +kernel
theorem dX0_between_67 : decode cX0_between 67 = .ok (.lload 13, 2) := by decide +kernel
theorem dX0_between_69 : decode cX0_between 69 = .ok (.lconst 1, 1) := by decide +kernel
theorem dX0_between_70 : decode cX0_between 70 = .ok (.ladd, 1) := by decide +kernel
theorem dX0_between_71 : decode cX0_between 71 = .ok (.lload 11, 2) := by decide +kernel
theorem dX0_between_73 : decode cX0_between 73 = .ok (.lmul, 1) := by decide +kernel
theorem dX0_between_74 : decode cX0_between 74 = .ok (.lload 9, 2) := by decide +kernel
theorem dX0_between_76 : decode cX0_between 76 = .ok (.lcmp, 1) := by decide +kernel
theorem dX0_between_77 : decode cX0_between 77 = .ok (.ifCond .ge 16, 3) := by decide +kernel
theorem dX0_between_80 : decode cX0_between 80 = .ok (.aload_n 0, 1) := by decide +kernel
theorem dX0_between_81 : decode cX0_between 81 = .ok (.getfield 10, 3) := by decide +kernel
theorem dX0_between_84 : decode cX0_between 84 = .ok (.lload 13, 2) := by decide +kernel
theorem dX0_between_86 : decode cX0_between 86 = .ok (.lconst 1, 1) := by decide +kernel
theorem dX0_between_87 : decode cX0_between 87 = .ok (.ladd, 1) := by decide +kernel
theorem dX0_between_88 : decode cX0_between 88 = .ok (.invokevirtual 33, 3) := by decide +kernel
theorem dX0_between_91 : decode cX0_between 91 = .ok (.iconst 1, 1) := by decide +kernel
theorem dX0_between_92 : decode cX0_between 92 = .ok (.ireturn, 1) := by decide +kernel
theorem dX0_between_93 : decode cX0_between 93 = .ok (.aload_n 0, 1) := by decide +kernel
theorem dX0_between_94 : decode cX0_between 94 = .ok (.getfield 10, 3) := by decide +kernel
theorem dX0_between_97 : decode cX0_between 97 = .ok (.lload 13, 2) := by decide +kernel
theorem dX0_between_99 : decode cX0_between 99 = .ok (.invokevirtual 33, 3) := by decide +kernel
theorem dX0_between_102 : decode cX0_between 102 = .ok (.lload 5, 2) := by decide +kernel
theorem dX0_between_104 : decode cX0_between 104 = .ok (.lload 13, 2) := by decide +kernel
theorem dX0_between_106 : decode cX0_between 106 = .ok (.lload 7, 2) := by decide +kernel
theorem dX0_between_108 : decode cX0_between 108 = .ok (.lmul, 1) := by decide +kernel
theorem dX0_between_109 : decode cX0_between 109 = .ok (.lsub, 1) := by decide +kernel
theorem dX0_between_110 : decode cX0_between 110 = .ok (.lstore 15, 2) := by decide +kernel
theorem dX0_between_112 : decode cX0_between 112 = .ok (.lload 9, 2) := by decide +kernel
theorem dX0_between_114 : decode cX0_between 114 = .ok (.lload 13, 2) := by decide +kernel
theorem dX0_between_116 : decode cX0_between 116 = .ok (.lload 11, 2) := by decide +kernel
theorem dX0_between_118 : decode cX0_between 118 = .ok (.lmul, 1) := by decide +kernel
theorem dX0_between_119 : decode cX0_between 119 = .ok (.lsub, 1) := by decide +kernel
theorem dX0_between_120 : decode cX0_between 120 = .ok (.lstore 17, 2) := by decide +kernel
theorem dX0_between_122 : decode cX0_between 122 = .ok (.lload 7, 2) := by decide +kernel
theorem dX0_between_124 : decode cX0_between 124 = .ok (.lstore 9, 2) := by decide +kernel
theorem dX0_between_126 : decode cX0_between 126 = .ok (.lload 11, 2) := by decide +kernel
theorem dX0_between_128 : decode cX0_between 128 = .ok (.lstore 5, 2) := by decide +kernel
theorem dX0_between_130 : decode cX0_between 130 = .ok (.lload 17, 2) := by decide +kernel
theorem dX0_between_132 : decode cX0_between 132 = .ok (.lstore 7, 2) := by decide +kernel
theorem dX0_between_134 : decode cX0_between 134 = .ok (.lload 15, 2) := by decide +kernel
theorem dX0_between_136 : decode cX0_between 136 = .ok (.lstore 11, 2) := by decide +kernel
theorem dX0_between_138 : decode cX0_between 138 = .ok (.goto (-78), 3) := by decide +kernel
abbrev cX0_under : ByteArray := prog_1_method_8_code
def yX0_under : MethodName := ⟨RX0, "under", "(IIII)I"⟩
theorem dX0_under_0 : decode cX0_under 0 = .ok (.aload_n 0, 1) := by decide +kernel
theorem dX0_under_1 : decode cX0_under 1 = .ok (.iload_n 1, 1) := by decide +kernel
theorem dX0_under_2 : decode cX0_under 2 = .ok (.iload_n 2, 1) := by decide +kernel
theorem dX0_under_3 : decode cX0_under 3 = .ok (.iload_n 3, 1) := by decide +kernel
theorem dX0_under_4 : decode cX0_under 4 = .ok (.iload 4, 2) := by decide +kernel
theorem dX0_under_6 : decode cX0_under 6 = .ok (.invokevirtual 56, 3) := by decide +kernel
theorem dX0_under_9 : decode cX0_under 9 = .ok (.ifCond .eq 14, 3) := by decide +kernel
theorem dX0_under_12 : decode cX0_under 12 = .ok (.aload_n 0, 1) := by decide +kernel
theorem dX0_under_13 : decode cX0_under 13 = .ok (.getfield 10, 3) := by decide +kernel
theorem dX0_under_16 : decode cX0_under 16 = .ok (.getfield 27, 3) := by decide +kernel
theorem dX0_under_19 : decode cX0_under 19 = .ok (.l2i, 1) := by decide +kernel
theorem dX0_under_20 : decode cX0_under 20 = .ok (.goto 4, 3) := by decide +kernel
theorem dX0_under_23 : decode cX0_under 23 = .ok (.iconst (-1), 1) := by decide +kernel
theorem dX0_under_24 : decode cX0_under 24 = .ok (.ireturn, 1) := by decide +kernel
abbrev cX0_depth : ByteArray := prog_1_method_9_code
def yX0_depth : MethodName := ⟨RX0, "depth", "()I"⟩
theorem dX0_depth_0 : decode cX0_depth 0 = .ok (.iconst 0, 1) := by decide +kernel
theorem dX0_depth_1 : decode cX0_depth 1 = .ok (.istore_n 1, 1) := by decide +kernel
theorem dX0_depth_2 : decode cX0_depth 2 = .ok (.aload_n 0, 1) := by decide +kernel
theorem dX0_depth_3 : decode cX0_depth 3 = .ok (.getfield 21, 3) := by decide +kernel
theorem dX0_depth_6 : decode cX0_depth 6 = .ok (.istore_n 2, 1) := by decide +kernel
theorem dX0_depth_7 : decode cX0_depth 7 = .ok (.aload_n 0, 1) := by decide +kernel
theorem dX0_depth_8 : decode cX0_depth 8 = .ok (.getfield 16, 3) := by decide +kernel
theorem dX0_depth_11 : decode cX0_depth 11 = .ok (.istore_n 3, 1) := by decide +kernel
theorem dX0_depth_12 : decode cX0_depth 12 = .ok (.iload_n 3, 1) := by decide +kernel
theorem dX0_depth_13 : decode cX0_depth 13 = .ok (.ifCond .eq 19, 3) := by decide +kernel
theorem dX0_depth_16 : decode cX0_depth 16 = .ok (.iload_n 2, 1) := by decide +kernel
theorem dX0_depth_17 : decode cX0_depth 17 = .ok (.iload_n 3, 1) := by decide +kernel
theorem dX0_depth_18 : decode cX0_depth 18 = .ok (.irem, 1) := by decide +kernel
theorem dX0_depth_19 : decode cX0_depth 19 = .ok (.istore 4, 2) := by decide +kernel
theorem dX0_depth_21 : decode cX0_depth 21 = .ok (.iload_n 3, 1) := by decide +kernel
theorem dX0_depth_22 : decode cX0_depth 22 = .ok (.istore_n 2, 1) := by decide +kernel
theorem dX0_depth_23 : decode cX0_depth 23 = .ok (.iload 4, 2) := by decide +kernel
theorem dX0_depth_25 : decode cX0_depth 25 = .ok (.istore_n 3, 1) := by decide +kernel
theorem dX0_depth_26 : decode cX0_depth 26 = .ok (.iinc 1 1, 3) := by decide +kernel
theorem dX0_depth_29 : decode cX0_depth 29 = .ok (.goto (-17), 3) := by decide +kernel
theorem dX0_depth_32 : decode cX0_depth 32 = .ok (.iload_n 1, 1) := by decide +kernel
theorem dX0_depth_33 : decode cX0_depth 33 = .ok (.ireturn, 1) := by decide +kernel
theorem q6 : (Jvm.Cond.initialized "FractionNear") ∈ lw_all := lw_g (lw_at lw_m0 1 rfl) rfl
theorem q11 : (Jvm.Cond.instantiable "FractionNear" (3 : Nat)) ∈ lw_all := lw_g (lw_at lw_m0 6 rfl) rfl
theorem q13 : (Jvm.Cond.instanceMethod ({ cls := "FractionNear", name := "<init>", desc := "()V" } : Jvm.MethodName)) ∈ lw_all := lw_g (lw_at lw_m0 8 rfl) rfl
theorem q14 : (Jvm.Cond.code ({ cls := "FractionNear", name := "<init>", desc := "()V" } : Jvm.MethodName) prog_1_method_1_code (1 : Nat) (Option.none : Option Jvm.ClassFile.FieldType)) ∈ lw_all := lw_g (lw_at lw_m0 9 rfl) rfl
theorem q15 : (Jvm.Cond.methodLink "FractionNear" (1 : Nat) ({ cls := "java/lang/Object", name := "<init>", desc := "()V" } : Jvm.MethodName)) ∈ lw_all := lw_g (lw_at lw_m0 10 rfl) rfl
theorem q18 : (Jvm.Cond.classLink "FractionNear" (7 : Nat) "FractionNear$Made") ∈ lw_all := lw_g (lw_at lw_m0 13 rfl) rfl
theorem q20 : (Jvm.Cond.methodLinkNest "FractionNear" (9 : Nat) ({ cls := "FractionNear$Made", name := "<init>", desc := "()V" } : Jvm.MethodName) "FractionNear") ∈ lw_tbl := lw_at lw_m0 15 rfl
theorem q25 : (Jvm.Cond.fieldLink "FractionNear" (40 : Nat) "FractionNear$Made" "above" "J") ∈ lw_all := lw_g (lw_at lw_m0 20 rfl) rfl
theorem q27 : (Jvm.Cond.fieldLink "FractionNear" (27 : Nat) "FractionNear$Made" "below" "J") ∈ lw_all := lw_g (lw_at lw_m0 22 rfl) rfl
theorem q29 : (Jvm.Cond.fieldLink "FractionNear" (37 : Nat) "FractionNear$Made" "aboveBefore" "J") ∈ lw_all := lw_g (lw_at lw_m0 24 rfl) rfl
theorem q31 : (Jvm.Cond.fieldLink "FractionNear" (30 : Nat) "FractionNear$Made" "belowBefore" "J") ∈ lw_all := lw_g (lw_at lw_m0 26 rfl) rfl
theorem q41 : (Jvm.Cond.fieldLink "FractionNear" (10 : Nat) "FractionNear" "made" "LFractionNear$Made;") ∈ lw_all := lw_g (lw_at lw_m0 36 rfl) rfl
theorem q42 : (Jvm.Cond.fieldLink "FractionNear" (21 : Nat) "FractionNear" "above" "I") ∈ lw_all := lw_g (lw_at lw_m0 37 rfl) rfl
theorem q43 : (Jvm.Cond.fieldLink "FractionNear" (16 : Nat) "FractionNear" "below" "I") ∈ lw_all := lw_g (lw_at lw_m0 38 rfl) rfl
theorem q44 : (Jvm.Cond.laysFinal "FractionNear" "FractionNear" "made" "LFractionNear$Made;") ∈ lw_all := lw_g (lw_at lw_m0 39 rfl) rfl
theorem q45 : (Jvm.Cond.soleField "FractionNear" "made") ∈ lw_all := lw_g (lw_at lw_m0 40 rfl) rfl
theorem q46 : (Jvm.Cond.lays "FractionNear" "FractionNear" "above" "I") ∈ lw_all := lw_g (lw_at lw_m0 41 rfl) rfl
theorem q47 : (Jvm.Cond.soleField "FractionNear" "above") ∈ lw_all := lw_g (lw_at lw_m0 42 rfl) rfl
theorem q48 : (Jvm.Cond.lays "FractionNear" "FractionNear" "below" "I") ∈ lw_all := lw_g (lw_at lw_m0 43 rfl) rfl
theorem q49 : (Jvm.Cond.soleField "FractionNear" "below") ∈ lw_all := lw_g (lw_at lw_m0 44 rfl) rfl
theorem q50 : (Jvm.Cond.superclass "FractionNear" "java/lang/Object") ∈ lw_all := lw_g (lw_at lw_m0 45 rfl) rfl
theorem q52 : (Jvm.Cond.instanceMethod ({ cls := "FractionNear", name := "load", desc := "(II)V" } : Jvm.MethodName)) ∈ lw_all := lw_g (lw_at lw_m0 47 rfl) rfl
theorem q53 : (Jvm.Cond.selects "FractionNear" ({ cls := "FractionNear", name := "load", desc := "(II)V" } : Jvm.MethodName) ({ cls := "FractionNear", name := "load", desc := "(II)V" } : Jvm.MethodName)) ∈ lw_all := lw_g (lw_at lw_m0 48 rfl) rfl
theorem q54 : (Jvm.Cond.code ({ cls := "FractionNear", name := "load", desc := "(II)V" } : Jvm.MethodName) prog_1_method_2_code (3 : Nat) (Option.none : Option Jvm.ClassFile.FieldType)) ∈ lw_all := lw_g (lw_at lw_m0 49 rfl) rfl
theorem q55 : (Jvm.Cond.constant "FractionNear" (20 : Nat) (1048575 : Int32)) ∈ lw_all := lw_g (lw_at lw_m0 50 rfl) rfl
theorem q57 : (Jvm.Cond.instanceMethod ({ cls := "FractionNear", name := "top", desc := "(I)I" } : Jvm.MethodName)) ∈ lw_all := lw_g (lw_at lw_m0 52 rfl) rfl
theorem q58 : (Jvm.Cond.selects "FractionNear" ({ cls := "FractionNear", name := "top", desc := "(I)I" } : Jvm.MethodName) ({ cls := "FractionNear", name := "top", desc := "(I)I" } : Jvm.MethodName)) ∈ lw_all := lw_g (lw_at lw_m0 53 rfl) rfl
theorem q59 : (Jvm.Cond.code ({ cls := "FractionNear", name := "top", desc := "(I)I" } : Jvm.MethodName) prog_1_method_4_code (2 : Nat) (Option.some Jvm.ClassFile.FieldType.int)) ∈ lw_all := lw_g (lw_at lw_m0 54 rfl) rfl
theorem q60 : (Jvm.Cond.methodLink "FractionNear" (52 : Nat) ({ cls := "FractionNear", name := "nearest", desc := "(I)V" } : Jvm.MethodName)) ∈ lw_all := lw_g (lw_at lw_m0 55 rfl) rfl
theorem q61 : (Jvm.Cond.privateMethod ({ cls := "FractionNear", name := "nearest", desc := "(I)V" } : Jvm.MethodName)) ∈ lw_tbl := lw_at lw_m0 56 rfl
theorem q62 : (Jvm.Cond.instanceMethod ({ cls := "FractionNear", name := "nearest", desc := "(I)V" } : Jvm.MethodName)) ∈ lw_all := lw_g (lw_at lw_m0 57 rfl) rfl
theorem q63 : (Jvm.Cond.code ({ cls := "FractionNear", name := "nearest", desc := "(I)V" } : Jvm.MethodName) prog_1_method_3_code (19 : Nat) (Option.none : Option Jvm.ClassFile.FieldType)) ∈ lw_all := lw_g (lw_at lw_m0 58 rfl) rfl
theorem q64 : (Jvm.Cond.methodLink "FractionNear" (24 : Nat) ({ cls := "FractionNear$Made", name := "begin", desc := "()V" } : Jvm.MethodName)) ∈ lw_all := lw_g (lw_at lw_m0 59 rfl) rfl
theorem q68 : (Jvm.Cond.methodLink "FractionNear" (33 : Nat) ({ cls := "FractionNear$Made", name := "add", desc := "(J)V" } : Jvm.MethodName)) ∈ lw_all := lw_g (lw_at lw_m0 63 rfl) rfl
theorem q72 : (Jvm.Cond.methodLink "FractionNear" (42 : Nat) ({ cls := "FractionNear$Made", name := "off", desc := "(JJ)J" } : Jvm.MethodName)) ∈ lw_all := lw_g (lw_at lw_m0 67 rfl) rfl
theorem q76 : (Jvm.Cond.methodLink "FractionNear" (46 : Nat) ({ cls := "java/lang/Math", name := "abs", desc := "(J)J" } : Jvm.MethodName)) ∈ lw_all := lw_g (lw_at lw_m0 71 rfl) rfl
theorem q80 : (Jvm.Cond.instanceMethod ({ cls := "FractionNear", name := "bottom", desc := "(I)I" } : Jvm.MethodName)) ∈ lw_all := lw_g (lw_at lw_m0 75 rfl) rfl
theorem q81 : (Jvm.Cond.selects "FractionNear" ({ cls := "FractionNear", name := "bottom", desc := "(I)I" } : Jvm.MethodName) ({ cls := "FractionNear", name := "bottom", desc := "(I)I" } : Jvm.MethodName)) ∈ lw_all := lw_g (lw_at lw_m0 76 rfl) rfl
theorem q82 : (Jvm.Cond.code ({ cls := "FractionNear", name := "bottom", desc := "(I)I" } : Jvm.MethodName) prog_1_method_5_code (2 : Nat) (Option.some Jvm.ClassFile.FieldType.int)) ∈ lw_all := lw_g (lw_at lw_m0 77 rfl) rfl
theorem q84 : (Jvm.Cond.instanceMethod ({ cls := "FractionNear", name := "simplest", desc := "(IIII)I" } : Jvm.MethodName)) ∈ lw_all := lw_g (lw_at lw_m0 79 rfl) rfl
theorem q85 : (Jvm.Cond.selects "FractionNear" ({ cls := "FractionNear", name := "simplest", desc := "(IIII)I" } : Jvm.MethodName) ({ cls := "FractionNear", name := "simplest", desc := "(IIII)I" } : Jvm.MethodName)) ∈ lw_all := lw_g (lw_at lw_m0 80 rfl) rfl
theorem q86 : (Jvm.Cond.code ({ cls := "FractionNear", name := "simplest", desc := "(IIII)I" } : Jvm.MethodName) prog_1_method_7_code (5 : Nat) (Option.some Jvm.ClassFile.FieldType.int)) ∈ lw_all := lw_g (lw_at lw_m0 81 rfl) rfl
theorem q87 : (Jvm.Cond.methodLink "FractionNear" (56 : Nat) ({ cls := "FractionNear", name := "between", desc := "(IIII)Z" } : Jvm.MethodName)) ∈ lw_all := lw_g (lw_at lw_m0 82 rfl) rfl
theorem q88 : (Jvm.Cond.privateMethod ({ cls := "FractionNear", name := "between", desc := "(IIII)Z" } : Jvm.MethodName)) ∈ lw_tbl := lw_at lw_m0 83 rfl
theorem q89 : (Jvm.Cond.instanceMethod ({ cls := "FractionNear", name := "between", desc := "(IIII)Z" } : Jvm.MethodName)) ∈ lw_all := lw_g (lw_at lw_m0 84 rfl) rfl
theorem q90 : (Jvm.Cond.code ({ cls := "FractionNear", name := "between", desc := "(IIII)Z" } : Jvm.MethodName) prog_1_method_6_code (19 : Nat) (Option.some Jvm.ClassFile.FieldType.boolean)) ∈ lw_all := lw_g (lw_at lw_m0 85 rfl) rfl
theorem q92 : (Jvm.Cond.instanceMethod ({ cls := "FractionNear", name := "under", desc := "(IIII)I" } : Jvm.MethodName)) ∈ lw_all := lw_g (lw_at lw_m0 87 rfl) rfl
theorem q93 : (Jvm.Cond.selects "FractionNear" ({ cls := "FractionNear", name := "under", desc := "(IIII)I" } : Jvm.MethodName) ({ cls := "FractionNear", name := "under", desc := "(IIII)I" } : Jvm.MethodName)) ∈ lw_all := lw_g (lw_at lw_m0 88 rfl) rfl
theorem q94 : (Jvm.Cond.code ({ cls := "FractionNear", name := "under", desc := "(IIII)I" } : Jvm.MethodName) prog_1_method_8_code (5 : Nat) (Option.some Jvm.ClassFile.FieldType.int)) ∈ lw_all := lw_g (lw_at lw_m0 89 rfl) rfl
theorem q96 : (Jvm.Cond.instanceMethod ({ cls := "FractionNear", name := "depth", desc := "()I" } : Jvm.MethodName)) ∈ lw_all := lw_g (lw_at lw_m0 91 rfl) rfl
theorem q97 : (Jvm.Cond.selects "FractionNear" ({ cls := "FractionNear", name := "depth", desc := "()I" } : Jvm.MethodName) ({ cls := "FractionNear", name := "depth", desc := "()I" } : Jvm.MethodName)) ∈ lw_all := lw_g (lw_at lw_m0 92 rfl) rfl
theorem q98 : (Jvm.Cond.code ({ cls := "FractionNear", name := "depth", desc := "()I" } : Jvm.MethodName) prog_1_method_9_code (5 : Nat) (Option.some Jvm.ClassFile.FieldType.int)) ∈ lw_all := lw_g (lw_at lw_m0 93 rfl) rfl
theorem in_X0 : ∀ w ∈ wsX00, w ∈ lw_all := lw_in wsX00 [44, 46, 48] (by decide +kernel) (by decide +kernel)
end
section
/-! FractionNearModel -/
set_option maxRecDepth 100000
def RX2 : String := "FractionNearModel"
def TX2 : u_T := fun k => match k with
  | 0 => ("FractionNearModel", "p", "I", false)
  | 1 => ("FractionNearModel", "q", "I", false)
  | 2 => ("FractionNearModel", "up", "I", false)
  | _ => ("FractionNearModel", "down", "I", false)
def tyX2 : Nat → FieldType := fun k => match k with
  | 0 => .int
  | 1 => .int
  | 2 => .int
  | _ => .int
abbrev wsX20 : List Cond := u_ws RX2 TX2 4
theorem nmX2 : ∀ a, a < 4 → ∀ b, b < 4 → a ≠ b → (TX2 a).2.1 ≠ (TX2 b).2.1 := by decide +kernel
theorem tyX2_ok : ∀ k, k < 4 → parseFieldDescriptor (TX2 k).2.2.1 = some (tyX2 k) := by decide +kernel
abbrev cX2_init : ByteArray := prog_4_method_1_code
def yX2_init : MethodName := ⟨RX2, "<init>", "()V"⟩
theorem dX2_init_0 : decode cX2_init 0 = .ok (.aload_n 0, 1) := by decide +kernel
theorem dX2_init_1 : decode cX2_init 1 = .ok (.invokespecial 1, 3) := by decide +kernel
theorem dX2_init_4 : decode cX2_init 4 = .ok (.aload_n 0, 1) := by decide +kernel
theorem dX2_init_5 : decode cX2_init 5 = .ok (.iconst 1, 1) := by decide +kernel
theorem dX2_init_6 : decode cX2_init 6 = .ok (.putfield 7, 3) := by decide +kernel
theorem dX2_init_9 : decode cX2_init 9 = .ok (.aload_n 0, 1) := by decide +kernel
theorem dX2_init_10 : decode cX2_init 10 = .ok (.iconst 1, 1) := by decide +kernel
theorem dX2_init_11 : decode cX2_init 11 = .ok (.putfield 13, 3) := by decide +kernel
theorem dX2_init_14 : decode cX2_init 14 = .ok (.return_, 1) := by decide +kernel
abbrev cX2_load : ByteArray := prog_4_method_2_code
def yX2_load : MethodName := ⟨RX2, "load", "(II)V"⟩
theorem dX2_load_0 : decode cX2_load 0 = .ok (.aload_n 0, 1) := by decide +kernel
theorem dX2_load_1 : decode cX2_load 1 = .ok (.iload_n 1, 1) := by decide +kernel
theorem dX2_load_2 : decode cX2_load 2 = .ok (.ldc 16, 2) := by decide +kernel
theorem dX2_load_4 : decode cX2_load 4 = .ok (.iand, 1) := by decide +kernel
theorem dX2_load_5 : decode cX2_load 5 = .ok (.putfield 17, 3) := by decide +kernel
theorem dX2_load_8 : decode cX2_load 8 = .ok (.aload_n 0, 1) := by decide +kernel
theorem dX2_load_9 : decode cX2_load 9 = .ok (.iconst 1, 1) := by decide +kernel
theorem dX2_load_10 : decode cX2_load 10 = .ok (.iload_n 2, 1) := by decide +kernel
theorem dX2_load_11 : decode cX2_load 11 = .ok (.ldc 16, 2) := by decide +kernel
theorem dX2_load_13 : decode cX2_load 13 = .ok (.iand, 1) := by decide +kernel
theorem dX2_load_14 : decode cX2_load 14 = .ok (.iadd, 1) := by decide +kernel
theorem dX2_load_15 : decode cX2_load 15 = .ok (.putfield 7, 3) := by decide +kernel
theorem dX2_load_18 : decode cX2_load 18 = .ok (.return_, 1) := by decide +kernel
abbrev cX2_top : ByteArray := prog_4_method_5_code
def yX2_top : MethodName := ⟨RX2, "top", "(I)I"⟩
theorem dX2_top_0 : decode cX2_top 0 = .ok (.aload_n 0, 1) := by decide +kernel
theorem dX2_top_1 : decode cX2_top 1 = .ok (.iconst 1, 1) := by decide +kernel
theorem dX2_top_2 : decode cX2_top 2 = .ok (.iload_n 1, 1) := by decide +kernel
theorem dX2_top_3 : decode cX2_top 3 = .ok (.sipush 2047, 3) := by decide +kernel
theorem dX2_top_6 : decode cX2_top 6 = .ok (.iand, 1) := by decide +kernel
theorem dX2_top_7 : decode cX2_top 7 = .ok (.iadd, 1) := by decide +kernel
theorem dX2_top_8 : decode cX2_top 8 = .ok (.invokevirtual 27, 3) := by decide +kernel
theorem dX2_top_11 : decode cX2_top 11 = .ok (.aload_n 0, 1) := by decide +kernel
theorem dX2_top_12 : decode cX2_top 12 = .ok (.getfield 20, 3) := by decide +kernel
theorem dX2_top_15 : decode cX2_top 15 = .ok (.ireturn, 1) := by decide +kernel
abbrev cX2_seek : ByteArray := prog_4_method_4_code
def yX2_seek : MethodName := ⟨RX2, "seek", "(I)V"⟩
theorem dX2_seek_0 : decode cX2_seek 0 = .ok (.aload_n 0, 1) := by decide +kernel
theorem dX2_seek_1 : decode cX2_seek 1 = .ok (.iconst 0, 1) := by decide +kernel
theorem dX2_seek_2 : decode cX2_seek 2 = .ok (.putfield 20, 3) := by decide +kernel
theorem dX2_seek_5 : decode cX2_seek 5 = .ok (.aload_n 0, 1) := by decide +kernel
theorem dX2_seek_6 : decode cX2_seek 6 = .ok (.iconst 1, 1) := by decide +kernel
theorem dX2_seek_7 : decode cX2_seek 7 = .ok (.putfield 13, 3) := by decide +kernel
theorem dX2_seek_10 : decode cX2_seek 10 = .ok (.iconst 1, 1) := by decide +kernel
theorem dX2_seek_11 : decode cX2_seek 11 = .ok (.istore_n 2, 1) := by decide +kernel
theorem dX2_seek_12 : decode cX2_seek 12 = .ok (.iload_n 2, 1) := by decide +kernel
theorem dX2_seek_13 : decode cX2_seek 13 = .ok (.iload_n 1, 1) := by decide +kernel
theorem dX2_seek_14 : decode cX2_seek 14 = .ok (.if_icmp .gt 83, 3) := by decide +kernel
theorem dX2_seek_17 : decode cX2_seek 17 = .ok (.aload_n 0, 1) := by decide +kernel
theorem dX2_seek_18 : decode cX2_seek 18 = .ok (.getfield 17, 3) := by decide +kernel
theorem dX2_seek_21 : decode cX2_seek 21 = .ok (.i2l, 1) := by decide +kernel
theorem dX2_seek_22 : decode cX2_seek 22 = .ok (.iload_n 2, 1) := by decide +kernel
theorem dX2_seek_23 : decode cX2_seek 23 = .ok (.i2l, 1) := by decide +kernel
theorem dX2_seek_24 : decode cX2_seek 24 = .ok (.lmul, 1) := by decide +kernel
theorem dX2_seek_25 : decode cX2_seek 25 = .ok (.aload_n 0, 1) := by decide +kernel
theorem dX2_seek_26 : decode cX2_seek 26 = .ok (.getfield 7, 3) := by decide +kernel
theorem dX2_seek_29 : decode cX2_seek 29 = .ok (.i2l, 1) := by decide +kernel
theorem dX2_seek_30 : decode cX2_seek 30 = .ok (.ldiv, 1) := by decide +kernel
theorem dX2_seek_31 : decode cX2_seek 31 = .ok (.l2i, 1) := by decide +kernel
theorem dX2_seek_32 : decode cX2_seek 32 = .ok (.istore_n 3, 1) := by decide +kernel
theorem dX2_seek_33 : decode cX2_seek 33 = .ok (.iconst 0, 1) := by decide +kernel
theorem dX2_seek_34 : decode cX2_seek 34 = .ok (.istore 4, 2) := by decide +kernel
theorem dX2_seek_36 : decode cX2_seek 36 = .ok (.iload 4, 2) := by decide +kernel
theorem dX2_seek_38 : decode cX2_seek 38 = .ok (.iconst 2, 1) := by decide +kernel
theorem dX2_seek_39 : decode cX2_seek 39 = .ok (.if_icmp .ge 52, 3) := by decide +kernel
theorem dX2_seek_42 : decode cX2_seek 42 = .ok (.iload_n 2, 1) := by decide +kernel
theorem dX2_seek_43 : decode cX2_seek 43 = .ok (.iconst 1, 1) := by decide +kernel
theorem dX2_seek_44 : decode cX2_seek 44 = .ok (.if_icmp .ne 8, 3) := by decide +kernel
theorem dX2_seek_47 : decode cX2_seek 47 = .ok (.iload 4, 2) := by decide +kernel
theorem dX2_seek_49 : decode cX2_seek 49 = .ok (.ifCond .eq 23, 3) := by decide +kernel
theorem dX2_seek_52 : decode cX2_seek 52 = .ok (.aload_n 0, 1) := by decide +kernel
theorem dX2_seek_53 : decode cX2_seek 53 = .ok (.iload_n 3, 1) := by decide +kernel
theorem dX2_seek_54 : decode cX2_seek 54 = .ok (.iload 4, 2) := by decide +kernel
theorem dX2_seek_56 : decode cX2_seek 56 = .ok (.iadd, 1) := by decide +kernel
theorem dX2_seek_57 : decode cX2_seek 57 = .ok (.iload_n 2, 1) := by decide +kernel
theorem dX2_seek_58 : decode cX2_seek 58 = .ok (.aload_n 0, 1) := by decide +kernel
theorem dX2_seek_59 : decode cX2_seek 59 = .ok (.getfield 20, 3) := by decide +kernel
theorem dX2_seek_62 : decode cX2_seek 62 = .ok (.aload_n 0, 1) := by decide +kernel
theorem dX2_seek_63 : decode cX2_seek 63 = .ok (.getfield 13, 3) := by decide +kernel
theorem dX2_seek_66 : decode cX2_seek 66 = .ok (.invokevirtual 23, 3) := by decide +kernel
theorem dX2_seek_69 : decode cX2_seek 69 = .ok (.ifCond .eq 16, 3) := by decide +kernel
theorem dX2_seek_72 : decode cX2_seek 72 = .ok (.aload_n 0, 1) := by decide +kernel
theorem dX2_seek_73 : decode cX2_seek 73 = .ok (.iload_n 3, 1) := by decide +kernel
theorem dX2_seek_74 : decode cX2_seek 74 = .ok (.iload 4, 2) := by decide +kernel
theorem dX2_seek_76 : decode cX2_seek 76 = .ok (.iadd, 1) := by decide +kernel
theorem dX2_seek_77 : decode cX2_seek 77 = .ok (.putfield 20, 3) := by decide +kernel
theorem dX2_seek_80 : decode cX2_seek 80 = .ok (.aload_n 0, 1) := by decide +kernel
theorem dX2_seek_81 : decode cX2_seek 81 = .ok (.iload_n 2, 1) := by decide +kernel
theorem dX2_seek_82 : decode cX2_seek 82 = .ok (.putfield 13, 3) := by decide +kernel
theorem dX2_seek_85 : decode cX2_seek 85 = .ok (.iinc 4 1, 3) := by decide +kernel
theorem dX2_seek_88 : decode cX2_seek 88 = .ok (.goto (-52), 3) := by decide +kernel
theorem dX2_seek_91 : decode cX2_seek 91 = .ok (.iinc 2 1, 3) := by decide +kernel
theorem dX2_seek_94 : decode cX2_seek 94 = .ok (.goto (-82), 3) := by decide +kernel
theorem dX2_seek_97 : decode cX2_seek 97 = .ok (.return_, 1) := by decide +kernel
abbrev cX2_better : ByteArray := prog_4_method_3_code
def yX2_better : MethodName := ⟨RX2, "better", "(IIII)Z"⟩
theorem dX2_better_0 : decode cX2_better 0 = .ok (.iload_n 1, 1) := by decide +kernel
theorem dX2_better_1 : decode cX2_better 1 = .ok (.i2l, 1) := by decide +kernel
theorem dX2_better_2 : decode cX2_better 2 = .ok (.aload_n 0, 1) := by decide +kernel
theorem dX2_better_3 : decode cX2_better 3 = .ok (.getfield 7, 3) := by decide +kernel
theorem dX2_better_6 : decode cX2_better 6 = .ok (.i2l, 1) := by decide +kernel
theorem dX2_better_7 : decode cX2_better 7 = .ok (.lmul, 1) := by decide +kernel
theorem dX2_better_8 : decode cX2_better 8 = .ok (.aload_n 0, 1) := by decide +kernel
theorem dX2_better_9 : decode cX2_better 9 = .ok (.getfield 17, 3) := by decide +kernel
theorem dX2_better_12 : decode cX2_better 12 = .ok (.i2l, 1) := by decide +kernel
theorem dX2_better_13 : decode cX2_better 13 = .ok (.iload_n 2, 1) := by decide +kernel
theorem dX2_better_14 : decode cX2_better 14 = .ok (.i2l, 1) := by decide +kernel
theorem dX2_better_15 : decode cX2_better 15 = .ok (.lmul, 1) := by decide +kernel
theorem dX2_better_16 : decode cX2_better 16 = .ok (.lsub, 1) := by decide +kernel
theorem dX2_better_17 : decode cX2_better 17 = .ok (.lstore 5, 2) := by decide +kernel
theorem dX2_better_19 : decode cX2_better 19 = .ok (.iload_n 3, 1) := by decide +kernel
theorem dX2_better_20 : decode cX2_better 20 = .ok (.i2l, 1) := by decide +kernel
theorem dX2_better_21 : decode cX2_better 21 = .ok (.aload_n 0, 1) := by decide +kernel
theorem dX2_better_22 : decode cX2_better 22 = .ok (.getfield 7, 3) := by decide +kernel
theorem dX2_better_25 : decode cX2_better 25 = .ok (.i2l, 1) := by decide +kernel
theorem dX2_better_26 : decode cX2_better 26 = .ok (.lmul, 1) := by decide +kernel
theorem dX2_better_27 : decode cX2_better 27 = .ok (.aload_n 0, 1) := by decide +kernel
theorem dX2_better_28 : decode cX2_better 28 = .ok (.getfield 17, 3) := by decide +kernel
theorem dX2_better_31 : decode cX2_better 31 = .ok (.i2l, 1) := by decide +kernel
theorem dX2_better_32 : decode cX2_better 32 = .ok (.iload 4, 2) := by decide +kernel
theorem dX2_better_34 : decode cX2_better 34 = .ok (.i2l, 1) := by decide +kernel
theorem dX2_better_35 : decode cX2_better 35 = .ok (.lmul, 1) := by decide +kernel
theorem dX2_better_36 : decode cX2_better 36 = .ok (.lsub, 1) := by decide +kernel
theorem dX2_better_37 : decode cX2_better 37 = .ok (.lstore 7, 2) := by decide +kernel
theorem dX2_better_39 : decode cX2_better 39 = .ok (.lload 5, 2) := by decide +kernel
theorem dX2_better_41 : decode cX2_better 41 = .ok (.lconst 0, 1) := by decide +kernel
theorem dX2_better_42 : decode cX2_better 42 = .ok (.lcmp, 1) := by decide +kernel
theorem dX2_better_43 : decode cX2_better 43 = .ok (.ifCond .ge 9, 3) := by decide +kernel
theorem dX2_better_46 : decode cX2_better 46 = .ok (.lload 5, 2) := by decide +kernel
theorem dX2_better_48 : decode cX2_better 48 = .ok (.lneg, 1) := by decide +kernel
theorem dX2_better_49 : decode cX2_better 49 = .ok (.goto 5, 3) := by decide +kernel
theorem dX2_better_52 : decode cX2_better 52 = .ok (.lload 5, 2) := by decide +kernel
theorem dX2_better_54 : decode cX2_better 54 = .ok (.lstore 5, 2) := by decide +kernel
theorem dX2_better_56 : decode cX2_better 56 = .ok (.lload 7, 2) := by decide +kernel
theorem dX2_better_58 : decode cX2_better 58 = .ok (.lconst 0, 1) := by decide +kernel
theorem dX2_better_59 : decode cX2_better 59 = .ok (.lcmp, 1) := by decide +kernel
theorem dX2_better_60 : decode cX2_better 60 = .ok (.ifCond .ge 9, 3) := by decide +kernel
theorem dX2_better_63 : decode cX2_better 63 = .ok (.lload 7, 2) := by decide +kernel
theorem dX2_better_65 : decode cX2_better 65 = .ok (.lneg, 1) := by decide +kernel
theorem dX2_better_66 : decode cX2_better 66 = .ok (.goto 5, 3) := by decide +kernel
theorem dX2_better_69 : decode cX2_better 69 = .ok (.lload 7, 2) := by decide +kernel
theorem dX2_better_71 : decode cX2_better 71 = .ok (.lstore 7, 2) := by decide +kernel
theorem dX2_better_73 : decode cX2_better 73 = .ok (.lload 5, 2) := by decide +kernel
theorem dX2_better_75 : decode cX2_better 75 = .ok (.iload 4, 2) := by decide +kernel
theorem dX2_better_77 : decode cX2_better 77 = .ok (.i2l, 1) := by decide +kernel
theorem dX2_better_78 : decode cX2_better 78 = .ok (.lmul, 1) := by decide +kernel
theorem dX2_better_79 : decode cX2_better 79 = .ok (.lload 7, 2) := by decide +kernel
theorem dX2_better_81 : decode cX2_better 81 = .ok (.iload_n 2, 1) := by decide +kernel
theorem dX2_better_82 : decode cX2_better 82 = .ok (.i2l, 1) := by decide +kernel
theorem dX2_better_83 : decode cX2_better 83 = .ok (.lmul, 1) := by decide +kernel
theorem dX2_better_84 : decode cX2_better 84 = .ok (.lcmp, 1) := by decide +kernel
theorem dX2_better_85 : decode cX2_better 85 = .ok (.ifCond .ge 7, 3) := by decide +kernel
theorem dX2_better_88 : decode cX2_better 88 = .ok (.iconst 1, 1) := by decide +kernel
theorem dX2_better_89 : decode cX2_better 89 = .ok (.goto 4, 3) := by decide +kernel
theorem dX2_better_92 : decode cX2_better 92 = .ok (.iconst 0, 1) := by decide +kernel
theorem dX2_better_93 : decode cX2_better 93 = .ok (.ireturn, 1) := by decide +kernel
abbrev cX2_bottom : ByteArray := prog_4_method_6_code
def yX2_bottom : MethodName := ⟨RX2, "bottom", "(I)I"⟩
theorem dX2_bottom_0 : decode cX2_bottom 0 = .ok (.aload_n 0, 1) := by decide +kernel
theorem dX2_bottom_1 : decode cX2_bottom 1 = .ok (.iconst 1, 1) := by decide +kernel
theorem dX2_bottom_2 : decode cX2_bottom 2 = .ok (.iload_n 1, 1) := by decide +kernel
theorem dX2_bottom_3 : decode cX2_bottom 3 = .ok (.sipush 2047, 3) := by decide +kernel
theorem dX2_bottom_6 : decode cX2_bottom 6 = .ok (.iand, 1) := by decide +kernel
theorem dX2_bottom_7 : decode cX2_bottom 7 = .ok (.iadd, 1) := by decide +kernel
theorem dX2_bottom_8 : decode cX2_bottom 8 = .ok (.invokevirtual 27, 3) := by decide +kernel
theorem dX2_bottom_11 : decode cX2_bottom 11 = .ok (.aload_n 0, 1) := by decide +kernel
theorem dX2_bottom_12 : decode cX2_bottom 12 = .ok (.getfield 13, 3) := by decide +kernel
theorem dX2_bottom_15 : decode cX2_bottom 15 = .ok (.ireturn, 1) := by decide +kernel
abbrev cX2_simplest : ByteArray := prog_4_method_7_code
def yX2_simplest : MethodName := ⟨RX2, "simplest", "(IIII)I"⟩
theorem dX2_simplest_0 : decode cX2_simplest 0 = .ok (.aload_n 0, 1) := by decide +kernel
theorem dX2_simplest_1 : decode cX2_simplest 1 = .ok (.iload_n 1, 1) := by decide +kernel
theorem dX2_simplest_2 : decode cX2_simplest 2 = .ok (.iload_n 2, 1) := by decide +kernel
theorem dX2_simplest_3 : decode cX2_simplest 3 = .ok (.iload_n 3, 1) := by decide +kernel
theorem dX2_simplest_4 : decode cX2_simplest 4 = .ok (.iload 4, 2) := by decide +kernel
theorem dX2_simplest_6 : decode cX2_simplest 6 = .ok (.invokevirtual 31, 3) := by decide +kernel
theorem dX2_simplest_9 : decode cX2_simplest 9 = .ok (.ifCond .eq 10, 3) := by decide +kernel
theorem dX2_simplest_12 : decode cX2_simplest 12 = .ok (.aload_n 0, 1) := by decide +kernel
theorem dX2_simplest_13 : decode cX2_simplest 13 = .ok (.getfield 20, 3) := by decide +kernel
theorem dX2_simplest_16 : decode cX2_simplest 16 = .ok (.goto 4, 3) := by decide +kernel
theorem dX2_simplest_19 : decode cX2_simplest 19 = .ok (.iconst (-1), 1) := by decide +kernel
theorem dX2_simplest_20 : decode cX2_simplest 20 = .ok (.ireturn, 1) := by decide +kernel
abbrev cX2_simple : ByteArray := prog_4_method_9_code
def yX2_simple : MethodName := ⟨RX2, "simple", "(IIII)Z"⟩
theorem dX2_simple_0 : decode cX2_simple 0 = .ok (.iload_n 1, 1) := by decide +kernel
theorem dX2_simple_1 : decode cX2_simple 1 = .ok (.sipush 1023, 3) := by decide +kernel
theorem dX2_simple_4 : decode cX2_simple 4 = .ok (.iand, 1) := by decide +kernel
theorem dX2_simple_5 : decode cX2_simple 5 = .ok (.istore 5, 2) := by decide +kernel
theorem dX2_simple_7 : decode cX2_simple 7 = .ok (.iconst 1, 1) := by decide +kernel
theorem dX2_simple_8 : decode cX2_simple 8 = .ok (.iload_n 2, 1) := by decide +kernel
theorem dX2_simple_9 : decode cX2_simple 9 = .ok (.sipush 1023, 3) := by decide +kernel
theorem dX2_simple_12 : decode cX2_simple 12 = .ok (.iand, 1) := by decide +kernel
theorem dX2_simple_13 : decode cX2_simple 13 = .ok (.iadd, 1) := by decide +kernel
theorem dX2_simple_14 : decode cX2_simple 14 = .ok (.istore 6, 2) := by decide +kernel
theorem dX2_simple_16 : decode cX2_simple 16 = .ok (.iload_n 3, 1) := by decide +kernel
theorem dX2_simple_17 : decode cX2_simple 17 = .ok (.sipush 1023, 3) := by decide +kernel
theorem dX2_simple_20 : decode cX2_simple 20 = .ok (.iand, 1) := by decide +kernel
theorem dX2_simple_21 : decode cX2_simple 21 = .ok (.istore 7, 2) := by decide +kernel
theorem dX2_simple_23 : decode cX2_simple 23 = .ok (.iconst 1, 1) := by decide +kernel
theorem dX2_simple_24 : decode cX2_simple 24 = .ok (.iload 4, 2) := by decide +kernel
theorem dX2_simple_26 : decode cX2_simple 26 = .ok (.sipush 1023, 3) := by decide +kernel
theorem dX2_simple_29 : decode cX2_simple 29 = .ok (.iand, 1) := by decide +kernel
theorem dX2_simple_30 : decode cX2_simple 30 = .ok (.iadd, 1) := by decide +kernel
theorem dX2_simple_31 : decode cX2_simple 31 = .ok (.istore 8, 2) := by decide +kernel
theorem dX2_simple_33 : decode cX2_simple 33 = .ok (.iload 5, 2) := by decide +kernel
theorem dX2_simple_35 : decode cX2_simple 35 = .ok (.i2l, 1) := by decide +kernel
theorem dX2_simple_36 : decode cX2_simple 36 = .ok (.iload 8, 2) := by decide +kernel
theorem dX2_simple_38 : decode cX2_simple 38 = .ok (.i2l, 1) := by decide +kernel
theorem dX2_simple_39 : decode cX2_simple 39 = .ok (.lmul, 1) := by decide +kernel
theorem dX2_simple_40 : decode cX2_simple 40 = .ok (.iload 7, 2) := by decide +kernel
theorem dX2_simple_42 : decode cX2_simple 42 = .ok (.i2l, 1) := by decide +kernel
theorem dX2_simple_43 : decode cX2_simple 43 = .ok (.iload 6, 2) := by decide +kernel
theorem dX2_simple_45 : decode cX2_simple 45 = .ok (.i2l, 1) := by decide +kernel
theorem dX2_simple_46 : decode cX2_simple 46 = .ok (.lmul, 1) := by decide +kernel
theorem dX2_simple_47 : decode cX2_simple 47 = .ok (.lcmp, 1) := by decide +kernel
theorem dX2_simple_48 : decode cX2_simple 48 = .ok (.ifCond .lt 5, 3) := by decide +kernel
theorem dX2_simple_51 : decode cX2_simple 51 = .ok (.iconst 0, 1) := by decide +kernel
theorem dX2_simple_52 : decode cX2_simple 52 = .ok (.ireturn, 1) := by decide +kernel
theorem dX2_simple_53 : decode cX2_simple 53 = .ok (.iconst 1, 1) := by decide +kernel
theorem dX2_simple_54 : decode cX2_simple 54 = .ok (.istore 9, 2) := by decide +kernel
theorem dX2_simple_56 : decode cX2_simple 56 = .ok (.iload 9, 2) := by decide +kernel
theorem dX2_simple_58 : decode cX2_simple 58 = .ok (.ldc 34, 2) := by decide +kernel
theorem dX2_simple_60 : decode cX2_simple 60 = .ok (.if_icmp .ge 48, 3) := by decide +kernel
theorem dX2_simple_63 : decode cX2_simple 63 = .ok (.iload 5, 2) := by decide +kernel
theorem dX2_simple_65 : decode cX2_simple 65 = .ok (.iload 9, 2) := by decide +kernel
theorem dX2_simple_67 : decode cX2_simple 67 = .ok (.imul, 1) := by decide +kernel
theorem dX2_simple_68 : decode cX2_simple 68 = .ok (.iload 6, 2) := by decide +kernel
theorem dX2_simple_70 : decode cX2_simple 70 = .ok (.idiv, 1) := by decide +kernel
theorem dX2_simple_71 : decode cX2_simple 71 = .ok (.iconst 1, 1) := by decide +kernel
theorem dX2_simple_72 : decode cX2_simple 72 = .ok (.iadd, 1) := by decide +kernel
theorem dX2_simple_73 : decode cX2_simple 73 = .ok (.istore 10, 2) := by decide +kernel
theorem dX2_simple_75 : decode cX2_simple 75 = .ok (.iload 10, 2) := by decide +kernel
theorem dX2_simple_77 : decode cX2_simple 77 = .ok (.iload 8, 2) := by decide +kernel
theorem dX2_simple_79 : decode cX2_simple 79 = .ok (.imul, 1) := by decide +kernel
theorem dX2_simple_80 : decode cX2_simple 80 = .ok (.iload 7, 2) := by decide +kernel
theorem dX2_simple_82 : decode cX2_simple 82 = .ok (.iload 9, 2) := by decide +kernel
theorem dX2_simple_84 : decode cX2_simple 84 = .ok (.imul, 1) := by decide +kernel
theorem dX2_simple_85 : decode cX2_simple 85 = .ok (.if_icmp .ge 17, 3) := by decide +kernel
theorem dX2_simple_88 : decode cX2_simple 88 = .ok (.aload_n 0, 1) := by decide +kernel
theorem dX2_simple_89 : decode cX2_simple 89 = .ok (.iload 10, 2) := by decide +kernel
theorem dX2_simple_91 : decode cX2_simple 91 = .ok (.putfield 20, 3) := by decide +kernel
theorem dX2_simple_94 : decode cX2_simple 94 = .ok (.aload_n 0, 1) := by decide +kernel
theorem dX2_simple_95 : decode cX2_simple 95 = .ok (.iload 9, 2) := by decide +kernel
theorem dX2_simple_97 : decode cX2_simple 97 = .ok (.putfield 13, 3) := by decide +kernel
theorem dX2_simple_100 : decode cX2_simple 100 = .ok (.iconst 1, 1) := by decide +kernel
theorem dX2_simple_101 : decode cX2_simple 101 = .ok (.ireturn, 1) := by decide +kernel
theorem dX2_simple_102 : decode cX2_simple 102 = .ok (.iinc 9 1, 3) := by decide +kernel
theorem dX2_simple_105 : decode cX2_simple 105 = .ok (.goto (-49), 3) := by decide +kernel
theorem dX2_simple_108 : decode cX2_simple 108 = .ok (.iconst 0, 1) := by decide +kernel
theorem dX2_simple_109 : decode cX2_simple 109 = .ok (.ireturn, 1) := by decide +kernel
abbrev cX2_under : ByteArray := prog_4_method_8_code
def yX2_under : MethodName := ⟨RX2, "under", "(IIII)I"⟩
theorem dX2_under_0 : decode cX2_under 0 = .ok (.aload_n 0, 1) := by decide +kernel
theorem dX2_under_1 : decode cX2_under 1 = .ok (.iload_n 1, 1) := by decide +kernel
theorem dX2_under_2 : decode cX2_under 2 = .ok (.iload_n 2, 1) := by decide +kernel
theorem dX2_under_3 : decode cX2_under 3 = .ok (.iload_n 3, 1) := by decide +kernel
theorem dX2_under_4 : decode cX2_under 4 = .ok (.iload 4, 2) := by decide +kernel
theorem dX2_under_6 : decode cX2_under 6 = .ok (.invokevirtual 31, 3) := by decide +kernel
theorem dX2_under_9 : decode cX2_under 9 = .ok (.ifCond .eq 10, 3) := by decide +kernel
theorem dX2_under_12 : decode cX2_under 12 = .ok (.aload_n 0, 1) := by decide +kernel
theorem dX2_under_13 : decode cX2_under 13 = .ok (.getfield 13, 3) := by decide +kernel
theorem dX2_under_16 : decode cX2_under 16 = .ok (.goto 4, 3) := by decide +kernel
theorem dX2_under_19 : decode cX2_under 19 = .ok (.iconst (-1), 1) := by decide +kernel
theorem dX2_under_20 : decode cX2_under 20 = .ok (.ireturn, 1) := by decide +kernel
abbrev cX2_depth : ByteArray := prog_4_method_10_code
def yX2_depth : MethodName := ⟨RX2, "depth", "()I"⟩
theorem dX2_depth_0 : decode cX2_depth 0 = .ok (.aload_n 0, 1) := by decide +kernel
theorem dX2_depth_1 : decode cX2_depth 1 = .ok (.getfield 17, 3) := by decide +kernel
theorem dX2_depth_4 : decode cX2_depth 4 = .ok (.istore_n 1, 1) := by decide +kernel
theorem dX2_depth_5 : decode cX2_depth 5 = .ok (.aload_n 0, 1) := by decide +kernel
theorem dX2_depth_6 : decode cX2_depth 6 = .ok (.getfield 7, 3) := by decide +kernel
theorem dX2_depth_9 : decode cX2_depth 9 = .ok (.istore_n 2, 1) := by decide +kernel
theorem dX2_depth_10 : decode cX2_depth 10 = .ok (.iconst 0, 1) := by decide +kernel
theorem dX2_depth_11 : decode cX2_depth 11 = .ok (.istore_n 3, 1) := by decide +kernel
theorem dX2_depth_12 : decode cX2_depth 12 = .ok (.iload_n 2, 1) := by decide +kernel
theorem dX2_depth_13 : decode cX2_depth 13 = .ok (.ifCond .eq 20, 3) := by decide +kernel
theorem dX2_depth_16 : decode cX2_depth 16 = .ok (.iload_n 1, 1) := by decide +kernel
theorem dX2_depth_17 : decode cX2_depth 17 = .ok (.iload_n 2, 1) := by decide +kernel
theorem dX2_depth_18 : decode cX2_depth 18 = .ok (.irem, 1) := by decide +kernel
theorem dX2_depth_19 : decode cX2_depth 19 = .ok (.istore 4, 2) := by decide +kernel
theorem dX2_depth_21 : decode cX2_depth 21 = .ok (.iload_n 2, 1) := by decide +kernel
theorem dX2_depth_22 : decode cX2_depth 22 = .ok (.istore_n 1, 1) := by decide +kernel
theorem dX2_depth_23 : decode cX2_depth 23 = .ok (.iload 4, 2) := by decide +kernel
theorem dX2_depth_25 : decode cX2_depth 25 = .ok (.istore_n 2, 1) := by decide +kernel
theorem dX2_depth_26 : decode cX2_depth 26 = .ok (.iload_n 3, 1) := by decide +kernel
theorem dX2_depth_27 : decode cX2_depth 27 = .ok (.iconst 1, 1) := by decide +kernel
theorem dX2_depth_28 : decode cX2_depth 28 = .ok (.iadd, 1) := by decide +kernel
theorem dX2_depth_29 : decode cX2_depth 29 = .ok (.istore_n 3, 1) := by decide +kernel
theorem dX2_depth_30 : decode cX2_depth 30 = .ok (.goto (-18), 3) := by decide +kernel
theorem dX2_depth_33 : decode cX2_depth 33 = .ok (.iload_n 3, 1) := by decide +kernel
theorem dX2_depth_34 : decode cX2_depth 34 = .ok (.ireturn, 1) := by decide +kernel
theorem q8 : (Jvm.Cond.initialized "FractionNearModel") ∈ lw_all := lw_g (lw_at lw_m0 3 rfl) rfl
theorem q100 : (Jvm.Cond.instantiable "FractionNearModel" (4 : Nat)) ∈ lw_all := lw_g (lw_at lw_m0 95 rfl) rfl
theorem q102 : (Jvm.Cond.instanceMethod ({ cls := "FractionNearModel", name := "<init>", desc := "()V" } : Jvm.MethodName)) ∈ lw_all := lw_g (lw_at lw_m0 97 rfl) rfl
theorem q103 : (Jvm.Cond.code ({ cls := "FractionNearModel", name := "<init>", desc := "()V" } : Jvm.MethodName) prog_4_method_1_code (1 : Nat) (Option.none : Option Jvm.ClassFile.FieldType)) ∈ lw_all := lw_g (lw_at lw_m0 98 rfl) rfl
theorem q104 : (Jvm.Cond.methodLink "FractionNearModel" (1 : Nat) ({ cls := "java/lang/Object", name := "<init>", desc := "()V" } : Jvm.MethodName)) ∈ lw_all := lw_g (lw_at lw_m0 99 rfl) rfl
theorem q105 : (Jvm.Cond.fieldLink "FractionNearModel" (17 : Nat) "FractionNearModel" "p" "I") ∈ lw_all := lw_g (lw_at lw_m0 100 rfl) rfl
theorem q106 : (Jvm.Cond.fieldLink "FractionNearModel" (7 : Nat) "FractionNearModel" "q" "I") ∈ lw_all := lw_g (lw_at lw_m0 101 rfl) rfl
theorem q107 : (Jvm.Cond.fieldLink "FractionNearModel" (20 : Nat) "FractionNearModel" "up" "I") ∈ lw_all := lw_g (lw_at lw_m0 102 rfl) rfl
theorem q108 : (Jvm.Cond.fieldLink "FractionNearModel" (13 : Nat) "FractionNearModel" "down" "I") ∈ lw_all := lw_g (lw_at lw_m0 103 rfl) rfl
theorem q109 : (Jvm.Cond.lays "FractionNearModel" "FractionNearModel" "p" "I") ∈ lw_all := lw_g (lw_at lw_m0 104 rfl) rfl
theorem q110 : (Jvm.Cond.soleField "FractionNearModel" "p") ∈ lw_all := lw_g (lw_at lw_m0 105 rfl) rfl
theorem q111 : (Jvm.Cond.lays "FractionNearModel" "FractionNearModel" "q" "I") ∈ lw_all := lw_g (lw_at lw_m0 106 rfl) rfl
theorem q112 : (Jvm.Cond.soleField "FractionNearModel" "q") ∈ lw_all := lw_g (lw_at lw_m0 107 rfl) rfl
theorem q113 : (Jvm.Cond.lays "FractionNearModel" "FractionNearModel" "up" "I") ∈ lw_all := lw_g (lw_at lw_m0 108 rfl) rfl
theorem q114 : (Jvm.Cond.soleField "FractionNearModel" "up") ∈ lw_all := lw_g (lw_at lw_m0 109 rfl) rfl
theorem q115 : (Jvm.Cond.lays "FractionNearModel" "FractionNearModel" "down" "I") ∈ lw_all := lw_g (lw_at lw_m0 110 rfl) rfl
theorem q116 : (Jvm.Cond.soleField "FractionNearModel" "down") ∈ lw_all := lw_g (lw_at lw_m0 111 rfl) rfl
theorem q117 : (Jvm.Cond.superclass "FractionNearModel" "java/lang/Object") ∈ lw_all := lw_g (lw_at lw_m0 112 rfl) rfl
theorem q119 : (Jvm.Cond.instanceMethod ({ cls := "FractionNearModel", name := "load", desc := "(II)V" } : Jvm.MethodName)) ∈ lw_all := lw_g (lw_at lw_m0 114 rfl) rfl
theorem q120 : (Jvm.Cond.selects "FractionNearModel" ({ cls := "FractionNearModel", name := "load", desc := "(II)V" } : Jvm.MethodName) ({ cls := "FractionNearModel", name := "load", desc := "(II)V" } : Jvm.MethodName)) ∈ lw_all := lw_g (lw_at lw_m0 115 rfl) rfl
theorem q121 : (Jvm.Cond.code ({ cls := "FractionNearModel", name := "load", desc := "(II)V" } : Jvm.MethodName) prog_4_method_2_code (3 : Nat) (Option.none : Option Jvm.ClassFile.FieldType)) ∈ lw_all := lw_g (lw_at lw_m0 116 rfl) rfl
theorem q122 : (Jvm.Cond.constant "FractionNearModel" (16 : Nat) (1048575 : Int32)) ∈ lw_all := lw_g (lw_at lw_m0 117 rfl) rfl
theorem q124 : (Jvm.Cond.instanceMethod ({ cls := "FractionNearModel", name := "top", desc := "(I)I" } : Jvm.MethodName)) ∈ lw_all := lw_g (lw_at lw_m0 119 rfl) rfl
theorem q125 : (Jvm.Cond.selects "FractionNearModel" ({ cls := "FractionNearModel", name := "top", desc := "(I)I" } : Jvm.MethodName) ({ cls := "FractionNearModel", name := "top", desc := "(I)I" } : Jvm.MethodName)) ∈ lw_all := lw_g (lw_at lw_m0 120 rfl) rfl
theorem q126 : (Jvm.Cond.code ({ cls := "FractionNearModel", name := "top", desc := "(I)I" } : Jvm.MethodName) prog_4_method_5_code (2 : Nat) (Option.some Jvm.ClassFile.FieldType.int)) ∈ lw_all := lw_g (lw_at lw_m0 121 rfl) rfl
theorem q127 : (Jvm.Cond.methodLink "FractionNearModel" (27 : Nat) ({ cls := "FractionNearModel", name := "seek", desc := "(I)V" } : Jvm.MethodName)) ∈ lw_all := lw_g (lw_at lw_m0 122 rfl) rfl
theorem q128 : (Jvm.Cond.privateMethod ({ cls := "FractionNearModel", name := "seek", desc := "(I)V" } : Jvm.MethodName)) ∈ lw_tbl := lw_at lw_m0 123 rfl
theorem q129 : (Jvm.Cond.instanceMethod ({ cls := "FractionNearModel", name := "seek", desc := "(I)V" } : Jvm.MethodName)) ∈ lw_all := lw_g (lw_at lw_m0 124 rfl) rfl
theorem q130 : (Jvm.Cond.code ({ cls := "FractionNearModel", name := "seek", desc := "(I)V" } : Jvm.MethodName) prog_4_method_4_code (5 : Nat) (Option.none : Option Jvm.ClassFile.FieldType)) ∈ lw_all := lw_g (lw_at lw_m0 125 rfl) rfl
theorem q131 : (Jvm.Cond.methodLink "FractionNearModel" (23 : Nat) ({ cls := "FractionNearModel", name := "better", desc := "(IIII)Z" } : Jvm.MethodName)) ∈ lw_all := lw_g (lw_at lw_m0 126 rfl) rfl
theorem q132 : (Jvm.Cond.privateMethod ({ cls := "FractionNearModel", name := "better", desc := "(IIII)Z" } : Jvm.MethodName)) ∈ lw_tbl := lw_at lw_m0 127 rfl
theorem q133 : (Jvm.Cond.instanceMethod ({ cls := "FractionNearModel", name := "better", desc := "(IIII)Z" } : Jvm.MethodName)) ∈ lw_all := lw_g (lw_at lw_m0 128 rfl) rfl
theorem q134 : (Jvm.Cond.code ({ cls := "FractionNearModel", name := "better", desc := "(IIII)Z" } : Jvm.MethodName) prog_4_method_3_code (9 : Nat) (Option.some Jvm.ClassFile.FieldType.boolean)) ∈ lw_all := lw_g (lw_at lw_m0 129 rfl) rfl
theorem q136 : (Jvm.Cond.instanceMethod ({ cls := "FractionNearModel", name := "bottom", desc := "(I)I" } : Jvm.MethodName)) ∈ lw_all := lw_g (lw_at lw_m0 131 rfl) rfl
theorem q137 : (Jvm.Cond.selects "FractionNearModel" ({ cls := "FractionNearModel", name := "bottom", desc := "(I)I" } : Jvm.MethodName) ({ cls := "FractionNearModel", name := "bottom", desc := "(I)I" } : Jvm.MethodName)) ∈ lw_all := lw_g (lw_at lw_m0 132 rfl) rfl
theorem q138 : (Jvm.Cond.code ({ cls := "FractionNearModel", name := "bottom", desc := "(I)I" } : Jvm.MethodName) prog_4_method_6_code (2 : Nat) (Option.some Jvm.ClassFile.FieldType.int)) ∈ lw_all := lw_g (lw_at lw_m0 133 rfl) rfl
theorem q140 : (Jvm.Cond.instanceMethod ({ cls := "FractionNearModel", name := "simplest", desc := "(IIII)I" } : Jvm.MethodName)) ∈ lw_all := lw_g (lw_at lw_m0 135 rfl) rfl
theorem q141 : (Jvm.Cond.selects "FractionNearModel" ({ cls := "FractionNearModel", name := "simplest", desc := "(IIII)I" } : Jvm.MethodName) ({ cls := "FractionNearModel", name := "simplest", desc := "(IIII)I" } : Jvm.MethodName)) ∈ lw_all := lw_g (lw_at lw_m0 136 rfl) rfl
theorem q142 : (Jvm.Cond.code ({ cls := "FractionNearModel", name := "simplest", desc := "(IIII)I" } : Jvm.MethodName) prog_4_method_7_code (5 : Nat) (Option.some Jvm.ClassFile.FieldType.int)) ∈ lw_all := lw_g (lw_at lw_m0 137 rfl) rfl
theorem q143 : (Jvm.Cond.methodLink "FractionNearModel" (31 : Nat) ({ cls := "FractionNearModel", name := "simple", desc := "(IIII)Z" } : Jvm.MethodName)) ∈ lw_all := lw_g (lw_at lw_m0 138 rfl) rfl
theorem q144 : (Jvm.Cond.privateMethod ({ cls := "FractionNearModel", name := "simple", desc := "(IIII)Z" } : Jvm.MethodName)) ∈ lw_tbl := lw_at lw_m0 139 rfl
theorem q145 : (Jvm.Cond.instanceMethod ({ cls := "FractionNearModel", name := "simple", desc := "(IIII)Z" } : Jvm.MethodName)) ∈ lw_all := lw_g (lw_at lw_m0 140 rfl) rfl
theorem q146 : (Jvm.Cond.code ({ cls := "FractionNearModel", name := "simple", desc := "(IIII)Z" } : Jvm.MethodName) prog_4_method_9_code (11 : Nat) (Option.some Jvm.ClassFile.FieldType.boolean)) ∈ lw_all := lw_g (lw_at lw_m0 141 rfl) rfl
theorem q147 : (Jvm.Cond.constant "FractionNearModel" (34 : Nat) (3000000 : Int32)) ∈ lw_all := lw_g (lw_at lw_m0 142 rfl) rfl
theorem q149 : (Jvm.Cond.instanceMethod ({ cls := "FractionNearModel", name := "under", desc := "(IIII)I" } : Jvm.MethodName)) ∈ lw_all := lw_g (lw_at lw_m0 144 rfl) rfl
theorem q150 : (Jvm.Cond.selects "FractionNearModel" ({ cls := "FractionNearModel", name := "under", desc := "(IIII)I" } : Jvm.MethodName) ({ cls := "FractionNearModel", name := "under", desc := "(IIII)I" } : Jvm.MethodName)) ∈ lw_all := lw_g (lw_at lw_m0 145 rfl) rfl
theorem q151 : (Jvm.Cond.code ({ cls := "FractionNearModel", name := "under", desc := "(IIII)I" } : Jvm.MethodName) prog_4_method_8_code (5 : Nat) (Option.some Jvm.ClassFile.FieldType.int)) ∈ lw_all := lw_g (lw_at lw_m0 146 rfl) rfl
theorem q153 : (Jvm.Cond.instanceMethod ({ cls := "FractionNearModel", name := "depth", desc := "()I" } : Jvm.MethodName)) ∈ lw_all := lw_g (lw_at lw_m0 148 rfl) rfl
theorem q154 : (Jvm.Cond.selects "FractionNearModel" ({ cls := "FractionNearModel", name := "depth", desc := "()I" } : Jvm.MethodName) ({ cls := "FractionNearModel", name := "depth", desc := "()I" } : Jvm.MethodName)) ∈ lw_all := lw_g (lw_at lw_m0 149 rfl) rfl
theorem q155 : (Jvm.Cond.code ({ cls := "FractionNearModel", name := "depth", desc := "()I" } : Jvm.MethodName) prog_4_method_10_code (5 : Nat) (Option.some Jvm.ClassFile.FieldType.int)) ∈ lw_all := lw_g (lw_at lw_m0 150 rfl) rfl
theorem in_X2 : ∀ w ∈ wsX20, w ∈ lw_all := lw_in wsX20 [109, 111, 113, 115] (by decide +kernel) (by decide +kernel)
end
section
/-! the law's own entry -/
set_option maxRecDepth 100000
abbrev cL_law : ByteArray := code
theorem dL_law_0 : decode cL_law 0 = .ok (.new 7, 3) := by decide +kernel
theorem dL_law_3 : decode cL_law 3 = .ok (.dup, 1) := by decide +kernel
theorem dL_law_4 : decode cL_law 4 = .ok (.invokespecial 9, 3) := by decide +kernel
theorem dL_law_7 : decode cL_law 7 = .ok (.astore_n 1, 1) := by decide +kernel
theorem dL_law_8 : decode cL_law 8 = .ok (.new 10, 3) := by decide +kernel
theorem dL_law_11 : decode cL_law 11 = .ok (.dup, 1) := by decide +kernel
theorem dL_law_12 : decode cL_law 12 = .ok (.invokespecial 12, 3) := by decide +kernel
theorem dL_law_15 : decode cL_law 15 = .ok (.astore_n 2, 1) := by decide +kernel
theorem dL_law_16 : decode cL_law 16 = .ok (.iconst 0, 1) := by decide +kernel
theorem dL_law_17 : decode cL_law 17 = .ok (.istore_n 3, 1) := by decide +kernel
theorem dL_law_18 : decode cL_law 18 = .ok (.iload_n 3, 1) := by decide +kernel
theorem dL_law_19 : decode cL_law 19 = .ok (.aload_n 0, 1) := by decide +kernel
theorem dL_law_20 : decode cL_law 20 = .ok (.arraylength, 1) := by decide +kernel
theorem dL_law_21 : decode cL_law 21 = .ok (.iconst 5, 1) := by decide +kernel
theorem dL_law_22 : decode cL_law 22 = .ok (.isub, 1) := by decide +kernel
theorem dL_law_23 : decode cL_law 23 = .ok (.if_icmp .gt 251, 3) := by decide +kernel
theorem dL_law_26 : decode cL_law 26 = .ok (.aload_n 0, 1) := by decide +kernel
theorem dL_law_27 : decode cL_law 27 = .ok (.iload_n 3, 1) := by decide +kernel
theorem dL_law_28 : decode cL_law 28 = .ok (.iaload, 1) := by decide +kernel
theorem dL_law_29 : decode cL_law 29 = .ok (.bipush 7, 2) := by decide +kernel
theorem dL_law_31 : decode cL_law 31 = .ok (.iand, 1) := by decide +kernel
theorem dL_law_32 : decode cL_law 32 = .ok (.tableswitch 236 0 5 #[40, 71, 94, 117, 170, 223], 40) := by decide +kernel
theorem dL_law_72 : decode cL_law 72 = .ok (.aload_n 1, 1) := by decide +kernel
theorem dL_law_73 : decode cL_law 73 = .ok (.aload_n 0, 1) := by decide +kernel
theorem dL_law_74 : decode cL_law 74 = .ok (.iload_n 3, 1) := by decide +kernel
theorem dL_law_75 : decode cL_law 75 = .ok (.iconst 1, 1) := by decide +kernel
theorem dL_law_76 : decode cL_law 76 = .ok (.iadd, 1) := by decide +kernel
theorem dL_law_77 : decode cL_law 77 = .ok (.iaload, 1) := by decide +kernel
theorem dL_law_78 : decode cL_law 78 = .ok (.aload_n 0, 1) := by decide +kernel
theorem dL_law_79 : decode cL_law 79 = .ok (.iload_n 3, 1) := by decide +kernel
theorem dL_law_80 : decode cL_law 80 = .ok (.iconst 2, 1) := by decide +kernel
theorem dL_law_81 : decode cL_law 81 = .ok (.iadd, 1) := by decide +kernel
theorem dL_law_82 : decode cL_law 82 = .ok (.iaload, 1) := by decide +kernel
theorem dL_law_83 : decode cL_law 83 = .ok (.invokevirtual 13, 3) := by decide +kernel
theorem dL_law_86 : decode cL_law 86 = .ok (.aload_n 2, 1) := by decide +kernel
theorem dL_law_87 : decode cL_law 87 = .ok (.aload_n 0, 1) := by decide +kernel
theorem dL_law_88 : decode cL_law 88 = .ok (.iload_n 3, 1) := by decide +kernel
theorem dL_law_89 : decode cL_law 89 = .ok (.iconst 1, 1) := by decide +kernel
theorem dL_law_90 : decode cL_law 90 = .ok (.iadd, 1) := by decide +kernel
theorem dL_law_91 : decode cL_law 91 = .ok (.iaload, 1) := by decide +kernel
theorem dL_law_92 : decode cL_law 92 = .ok (.aload_n 0, 1) := by decide +kernel
theorem dL_law_93 : decode cL_law 93 = .ok (.iload_n 3, 1) := by decide +kernel
theorem dL_law_94 : decode cL_law 94 = .ok (.iconst 2, 1) := by decide +kernel
theorem dL_law_95 : decode cL_law 95 = .ok (.iadd, 1) := by decide +kernel
theorem dL_law_96 : decode cL_law 96 = .ok (.iaload, 1) := by decide +kernel
theorem dL_law_97 : decode cL_law 97 = .ok (.invokevirtual 17, 3) := by decide +kernel
theorem dL_law_100 : decode cL_law 100 = .ok (.goto 168, 3) := by decide +kernel
theorem dL_law_103 : decode cL_law 103 = .ok (.aload_n 1, 1) := by decide +kernel
theorem dL_law_104 : decode cL_law 104 = .ok (.aload_n 0, 1) := by decide +kernel
theorem dL_law_105 : decode cL_law 105 = .ok (.iload_n 3, 1) := by decide +kernel
theorem dL_law_106 : decode cL_law 106 = .ok (.iconst 1, 1) := by decide +kernel
theorem dL_law_107 : decode cL_law 107 = .ok (.iadd, 1) := by decide +kernel
theorem dL_law_108 : decode cL_law 108 = .ok (.iaload, 1) := by decide +kernel
theorem dL_law_109 : decode cL_law 109 = .ok (.invokevirtual 18, 3) := by decide +kernel
theorem dL_law_112 : decode cL_law 112 = .ok (.aload_n 2, 1) := by decide +kernel
theorem dL_law_113 : decode cL_law 113 = .ok (.aload_n 0, 1) := by decide +kernel
theorem dL_law_114 : decode cL_law 114 = .ok (.iload_n 3, 1) := by decide +kernel
theorem dL_law_115 : decode cL_law 115 = .ok (.iconst 1, 1) := by decide +kernel
theorem dL_law_116 : decode cL_law 116 = .ok (.iadd, 1) := by decide +kernel
theorem dL_law_117 : decode cL_law 117 = .ok (.iaload, 1) := by decide +kernel
theorem dL_law_118 : decode cL_law 118 = .ok (.invokevirtual 22, 3) := by decide +kernel
theorem dL_law_121 : decode cL_law 121 = .ok (.if_icmp .eq 147, 3) := by decide +kernel
theorem dL_law_124 : decode cL_law 124 = .ok (.iconst 0, 1) := by decide +kernel
theorem dL_law_125 : decode cL_law 125 = .ok (.ireturn, 1) := by decide +kernel
theorem dL_law_126 : decode cL_law 126 = .ok (.aload_n 1, 1) := by decide +kernel
theorem dL_law_127 : decode cL_law 127 = .ok (.aload_n 0, 1) := by decide +kernel
theorem dL_law_128 : decode cL_law 128 = .ok (.iload_n 3, 1) := by decide +kernel
theorem dL_law_129 : decode cL_law 129 = .ok (.iconst 1, 1) := by decide +kernel
theorem dL_law_130 : decode cL_law 130 = .ok (.iadd, 1) := by decide +kernel
theorem dL_law_131 : decode cL_law 131 = .ok (.iaload, 1) := by decide +kernel
theorem dL_law_132 : decode cL_law 132 = .ok (.invokevirtual 23, 3) := by decide +kernel
theorem dL_law_135 : decode cL_law 135 = .ok (.aload_n 2, 1) := by decide +kernel
theorem dL_law_136 : decode cL_law 136 = .ok (.aload_n 0, 1) := by decide +kernel
theorem dL_law_137 : decode cL_law 137 = .ok (.iload_n 3, 1) := by decide +kernel
theorem dL_law_138 : decode cL_law 138 = .ok (.iconst 1, 1) := by decide +kernel
theorem dL_law_139 : decode cL_law 139 = .ok (.iadd, 1) := by decide +kernel
theorem dL_law_140 : decode cL_law 140 = .ok (.iaload, 1) := by decide +kernel
theorem dL_law_141 : decode cL_law 141 = .ok (.invokevirtual 26, 3) := by decide +kernel
theorem dL_law_144 : decode cL_law 144 = .ok (.if_icmp .eq 124, 3) := by decide +kernel
theorem dL_law_147 : decode cL_law 147 = .ok (.iconst 0, 1) := by decide +kernel
theorem dL_law_148 : decode cL_law 148 = .ok (.ireturn, 1) := by decide +kernel
theorem dL_law_149 : decode cL_law 149 = .ok (.aload_n 1, 1) := by decide +kernel
theorem dL_law_150 : decode cL_law 150 = .ok (.aload_n 0, 1) := by decide +kernel
theorem dL_law_151 : decode cL_law 151 = .ok (.iload_n 3, 1) := by decide +kernel
theorem dL_law_152 : decode cL_law 152 = .ok (.iconst 1, 1) := by decide +kernel
theorem dL_law_153 : decode cL_law 153 = .ok (.iadd, 1) := by decide +kernel
theorem dL_law_154 : decode cL_law 154 = .ok (.iaload, 1) := by decide +kernel
theorem dL_law_155 : decode cL_law 155 = .ok (.aload_n 0, 1) := by decide +kernel
theorem dL_law_156 : decode cL_law 156 = .ok (.iload_n 3, 1) := by decide +kernel
theorem dL_law_157 : decode cL_law 157 = .ok (.iconst 2, 1) := by decide +kernel
theorem dL_law_158 : decode cL_law 158 = .ok (.iadd, 1) := by decide +kernel
theorem dL_law_159 : decode cL_law 159 = .ok (.iaload, 1) := by decide +kernel
theorem dL_law_160 : decode cL_law 160 = .ok (.aload_n 0, 1) := by decide +kernel
theorem dL_law_161 : decode cL_law 161 = .ok (.iload_n 3, 1) := by decide +kernel
theorem dL_law_162 : decode cL_law 162 = .ok (.iconst 3, 1) := by decide +kernel
theorem dL_law_163 : decode cL_law 163 = .ok (.iadd, 1) := by decide +kernel
theorem dL_law_164 : decode cL_law 164 = .ok (.iaload, 1) := by decide +kernel
theorem dL_law_165 : decode cL_law 165 = .ok (.aload_n 0, 1) := by decide +kernel
theorem dL_law_166 : decode cL_law 166 = .ok (.iload_n 3, 1) := by decide +kernel
theorem dL_law_167 : decode cL_law 167 = .ok (.iconst 4, 1) := by decide +kernel
theorem dL_law_168 : decode cL_law 168 = .ok (.iadd, 1) := by decide +kernel
theorem dL_law_169 : decode cL_law 169 = .ok (.iaload, 1) := by decide +kernel
theorem dL_law_170 : decode cL_law 170 = .ok (.invokevirtual 27, 3) := by decide +kernel
theorem dL_law_173 : decode cL_law 173 = .ok (.aload_n 2, 1) := by decide +kernel
theorem dL_law_174 : decode cL_law 174 = .ok (.aload_n 0, 1) := by decide +kernel
theorem dL_law_175 : decode cL_law 175 = .ok (.iload_n 3, 1) := by decide +kernel
theorem dL_law_176 : decode cL_law 176 = .ok (.iconst 1, 1) := by decide +kernel
theorem dL_law_177 : decode cL_law 177 = .ok (.iadd, 1) := by decide +kernel
theorem dL_law_178 : decode cL_law 178 = .ok (.iaload, 1) := by decide +kernel
theorem dL_law_179 : decode cL_law 179 = .ok (.aload_n 0, 1) := by decide +kernel
theorem dL_law_180 : decode cL_law 180 = .ok (.iload_n 3, 1) := by decide +kernel
theorem dL_law_181 : decode cL_law 181 = .ok (.iconst 2, 1) := by decide +kernel
theorem dL_law_182 : decode cL_law 182 = .ok (.iadd, 1) := by decide +kernel
theorem dL_law_183 : decode cL_law 183 = .ok (.iaload, 1) := by decide +kernel
theorem dL_law_184 : decode cL_law 184 = .ok (.aload_n 0, 1) := by decide +kernel
theorem dL_law_185 : decode cL_law 185 = .ok (.iload_n 3, 1) := by decide +kernel
theorem dL_law_186 : decode cL_law 186 = .ok (.iconst 3, 1) := by decide +kernel
theorem dL_law_187 : decode cL_law 187 = .ok (.iadd, 1) := by decide +kernel
theorem dL_law_188 : decode cL_law 188 = .ok (.iaload, 1) := by decide +kernel
theorem dL_law_189 : decode cL_law 189 = .ok (.aload_n 0, 1) := by decide +kernel
theorem dL_law_190 : decode cL_law 190 = .ok (.iload_n 3, 1) := by decide +kernel
theorem dL_law_191 : decode cL_law 191 = .ok (.iconst 4, 1) := by decide +kernel
theorem dL_law_192 : decode cL_law 192 = .ok (.iadd, 1) := by decide +kernel
theorem dL_law_193 : decode cL_law 193 = .ok (.iaload, 1) := by decide +kernel
theorem dL_law_194 : decode cL_law 194 = .ok (.invokevirtual 31, 3) := by decide +kernel
theorem dL_law_197 : decode cL_law 197 = .ok (.if_icmp .eq 71, 3) := by decide +kernel
theorem dL_law_200 : decode cL_law 200 = .ok (.iconst 0, 1) := by decide +kernel
theorem dL_law_201 : decode cL_law 201 = .ok (.ireturn, 1) := by decide +kernel
theorem dL_law_202 : decode cL_law 202 = .ok (.aload_n 1, 1) := by decide +kernel
theorem dL_law_203 : decode cL_law 203 = .ok (.aload_n 0, 1) := by decide +kernel
theorem dL_law_204 : decode cL_law 204 = .ok (.iload_n 3, 1) := by decide +kernel
theorem dL_law_205 : decode cL_law 205 = .ok (.iconst 1, 1) := by decide +kernel
theorem dL_law_206 : decode cL_law 206 = .ok (.iadd, 1) := by decide +kernel
theorem dL_law_207 : decode cL_law 207 = .ok (.iaload, 1) := by decide +kernel
theorem dL_law_208 : decode cL_law 208 = .ok (.aload_n 0, 1) := by decide +kernel
theorem dL_law_209 : decode cL_law 209 = .ok (.iload_n 3, 1) := by decide +kernel
theorem dL_law_210 : decode cL_law 210 = .ok (.iconst 2, 1) := by decide +kernel
theorem dL_law_211 : decode cL_law 211 = .ok (.iadd, 1) := by decide +kernel
theorem dL_law_212 : decode cL_law 212 = .ok (.iaload, 1) := by decide +kernel
theorem dL_law_213 : decode cL_law 213 = .ok (.aload_n 0, 1) := by decide +kernel
theorem dL_law_214 : decode cL_law 214 = .ok (.iload_n 3, 1) := by decide +kernel
theorem dL_law_215 : decode cL_law 215 = .ok (.iconst 3, 1) := by decide +kernel
theorem dL_law_216 : decode cL_law 216 = .ok (.iadd, 1) := by decide +kernel
theorem dL_law_217 : decode cL_law 217 = .ok (.iaload, 1) := by decide +kernel
theorem dL_law_218 : decode cL_law 218 = .ok (.aload_n 0, 1) := by decide +kernel
theorem dL_law_219 : decode cL_law 219 = .ok (.iload_n 3, 1) := by decide +kernel
theorem dL_law_220 : decode cL_law 220 = .ok (.iconst 4, 1) := by decide +kernel
theorem dL_law_221 : decode cL_law 221 = .ok (.iadd, 1) := by decide +kernel
theorem dL_law_222 : decode cL_law 222 = .ok (.iaload, 1) := by decide +kernel
theorem dL_law_223 : decode cL_law 223 = .ok (.invokevirtual 32, 3) := by decide +kernel
theorem dL_law_226 : decode cL_law 226 = .ok (.aload_n 2, 1) := by decide +kernel
theorem dL_law_227 : decode cL_law 227 = .ok (.aload_n 0, 1) := by decide +kernel
theorem dL_law_228 : decode cL_law 228 = .ok (.iload_n 3, 1) := by decide +kernel
theorem dL_law_229 : decode cL_law 229 = .ok (.iconst 1, 1) := by decide +kernel
theorem dL_law_230 : decode cL_law 230 = .ok (.iadd, 1) := by decide +kernel
theorem dL_law_231 : decode cL_law 231 = .ok (.iaload, 1) := by decide +kernel
theorem dL_law_232 : decode cL_law 232 = .ok (.aload_n 0, 1) := by decide +kernel
theorem dL_law_233 : decode cL_law 233 = .ok (.iload_n 3, 1) := by decide +kernel
theorem dL_law_234 : decode cL_law 234 = .ok (.iconst 2, 1) := by decide +kernel
theorem dL_law_235 : decode cL_law 235 = .ok (.iadd, 1) := by decide +kernel
theorem dL_law_236 : decode cL_law 236 = .ok (.iaload, 1) := by decide +kernel
theorem dL_law_237 : decode cL_law 237 = .ok (.aload_n 0, 1) := by decide +kernel
theorem dL_law_238 : decode cL_law 238 = .ok (.iload_n 3, 1) := by decide +kernel
theorem dL_law_239 : decode cL_law 239 = .ok (.iconst 3, 1) := by decide +kernel
theorem dL_law_240 : decode cL_law 240 = .ok (.iadd, 1) := by decide +kernel
theorem dL_law_241 : decode cL_law 241 = .ok (.iaload, 1) := by decide +kernel
theorem dL_law_242 : decode cL_law 242 = .ok (.aload_n 0, 1) := by decide +kernel
theorem dL_law_243 : decode cL_law 243 = .ok (.iload_n 3, 1) := by decide +kernel
theorem dL_law_244 : decode cL_law 244 = .ok (.iconst 4, 1) := by decide +kernel
theorem dL_law_245 : decode cL_law 245 = .ok (.iadd, 1) := by decide +kernel
theorem dL_law_246 : decode cL_law 246 = .ok (.iaload, 1) := by decide +kernel
theorem dL_law_247 : decode cL_law 247 = .ok (.invokevirtual 35, 3) := by decide +kernel
theorem dL_law_250 : decode cL_law 250 = .ok (.if_icmp .eq 18, 3) := by decide +kernel
theorem dL_law_253 : decode cL_law 253 = .ok (.iconst 0, 1) := by decide +kernel
theorem dL_law_254 : decode cL_law 254 = .ok (.ireturn, 1) := by decide +kernel
theorem dL_law_255 : decode cL_law 255 = .ok (.aload_n 1, 1) := by decide +kernel
theorem dL_law_256 : decode cL_law 256 = .ok (.invokevirtual 36, 3) := by decide +kernel
theorem dL_law_259 : decode cL_law 259 = .ok (.aload_n 2, 1) := by decide +kernel
theorem dL_law_260 : decode cL_law 260 = .ok (.invokevirtual 40, 3) := by decide +kernel
theorem dL_law_263 : decode cL_law 263 = .ok (.if_icmp .eq 5, 3) := by decide +kernel
theorem dL_law_266 : decode cL_law 266 = .ok (.iconst 0, 1) := by decide +kernel
theorem dL_law_267 : decode cL_law 267 = .ok (.ireturn, 1) := by decide +kernel
theorem dL_law_268 : decode cL_law 268 = .ok (.iinc 3 5, 3) := by decide +kernel
theorem dL_law_271 : decode cL_law 271 = .ok (.goto (-253), 3) := by decide +kernel
theorem dL_law_274 : decode cL_law 274 = .ok (.iconst 1, 1) := by decide +kernel
theorem dL_law_275 : decode cL_law 275 = .ok (.ireturn, 1) := by decide +kernel
theorem q5 : (Jvm.Cond.initialized "FractionNearLaw") ∈ lw_all := lw_g (lw_at lw_m0 0 rfl) rfl
set_option maxRecDepth 100000
theorem q10 : (Jvm.Cond.classLink "FractionNearLaw" (7 : Nat) "FractionNear") ∈ lw_all := lw_g (lw_at lw_m0 5 rfl) rfl
theorem q12 : (Jvm.Cond.methodLink "FractionNearLaw" (9 : Nat) ({ cls := "FractionNear", name := "<init>", desc := "()V" } : Jvm.MethodName)) ∈ lw_all := lw_g (lw_at lw_m0 7 rfl) rfl
theorem q51 : (Jvm.Cond.methodLink "FractionNearLaw" (13 : Nat) ({ cls := "FractionNear", name := "load", desc := "(II)V" } : Jvm.MethodName)) ∈ lw_all := lw_g (lw_at lw_m0 46 rfl) rfl
theorem q56 : (Jvm.Cond.methodLink "FractionNearLaw" (18 : Nat) ({ cls := "FractionNear", name := "top", desc := "(I)I" } : Jvm.MethodName)) ∈ lw_all := lw_g (lw_at lw_m0 51 rfl) rfl
theorem q79 : (Jvm.Cond.methodLink "FractionNearLaw" (23 : Nat) ({ cls := "FractionNear", name := "bottom", desc := "(I)I" } : Jvm.MethodName)) ∈ lw_all := lw_g (lw_at lw_m0 74 rfl) rfl
theorem q83 : (Jvm.Cond.methodLink "FractionNearLaw" (27 : Nat) ({ cls := "FractionNear", name := "simplest", desc := "(IIII)I" } : Jvm.MethodName)) ∈ lw_all := lw_g (lw_at lw_m0 78 rfl) rfl
theorem q91 : (Jvm.Cond.methodLink "FractionNearLaw" (32 : Nat) ({ cls := "FractionNear", name := "under", desc := "(IIII)I" } : Jvm.MethodName)) ∈ lw_all := lw_g (lw_at lw_m0 86 rfl) rfl
theorem q95 : (Jvm.Cond.methodLink "FractionNearLaw" (36 : Nat) ({ cls := "FractionNear", name := "depth", desc := "()I" } : Jvm.MethodName)) ∈ lw_all := lw_g (lw_at lw_m0 90 rfl) rfl
theorem q99 : (Jvm.Cond.classLink "FractionNearLaw" (10 : Nat) "FractionNearModel") ∈ lw_all := lw_g (lw_at lw_m0 94 rfl) rfl
theorem q101 : (Jvm.Cond.methodLink "FractionNearLaw" (12 : Nat) ({ cls := "FractionNearModel", name := "<init>", desc := "()V" } : Jvm.MethodName)) ∈ lw_all := lw_g (lw_at lw_m0 96 rfl) rfl
theorem q118 : (Jvm.Cond.methodLink "FractionNearLaw" (17 : Nat) ({ cls := "FractionNearModel", name := "load", desc := "(II)V" } : Jvm.MethodName)) ∈ lw_all := lw_g (lw_at lw_m0 113 rfl) rfl
theorem q123 : (Jvm.Cond.methodLink "FractionNearLaw" (22 : Nat) ({ cls := "FractionNearModel", name := "top", desc := "(I)I" } : Jvm.MethodName)) ∈ lw_all := lw_g (lw_at lw_m0 118 rfl) rfl
theorem q135 : (Jvm.Cond.methodLink "FractionNearLaw" (26 : Nat) ({ cls := "FractionNearModel", name := "bottom", desc := "(I)I" } : Jvm.MethodName)) ∈ lw_all := lw_g (lw_at lw_m0 130 rfl) rfl
theorem q139 : (Jvm.Cond.methodLink "FractionNearLaw" (31 : Nat) ({ cls := "FractionNearModel", name := "simplest", desc := "(IIII)I" } : Jvm.MethodName)) ∈ lw_all := lw_g (lw_at lw_m0 134 rfl) rfl
theorem q148 : (Jvm.Cond.methodLink "FractionNearLaw" (35 : Nat) ({ cls := "FractionNearModel", name := "under", desc := "(IIII)I" } : Jvm.MethodName)) ∈ lw_all := lw_g (lw_at lw_m0 143 rfl) rfl
theorem q152 : (Jvm.Cond.methodLink "FractionNearLaw" (40 : Nat) ({ cls := "FractionNearModel", name := "depth", desc := "()I" } : Jvm.MethodName)) ∈ lw_all := lw_g (lw_at lw_m0 147 rfl) rfl
end
section
/-! own rows: instructions over numbers lN / nI, a compare of longs with its branch -/
section NR
variable {p : Program} {l : Launch} {e : Env} {R : Room} {s : State} {m : MethodId} {args : Array Value} {below : List Frame} {meth : Method} {c : Code} {H : Heap} {locs : List Loc} {cells slots : Nat} {Q : State → Prop}
variable {cc : ByteArray} {pc : Nat} {ls : Array Slot} {rest : List Value}
theorem nr_lmul (hexec : p.tables.exec = Jvm.exec) (hb : c.code = cc) {x y : Nat} (hdg : decode cc pc = .ok (.lmul, 1))
    (k : W p l e R s m args below meth c H locs cells slots Q (F0 m (pc + 1) ls (.long (lN (x * y)) :: rest))) : W p l e R s m args below meth c H locs cells slots Q (F0 m pc ls (.long (lN y) :: .long (lN x) :: rest)) :=
  lv_lmul hexec hb hdg (by rw [lN_mul]; exact k)
theorem nr_ladd (hexec : p.tables.exec = Jvm.exec) (hb : c.code = cc) {x y : Nat} (hdg : decode cc pc = .ok (.ladd, 1))
    (k : W p l e R s m args below meth c H locs cells slots Q (F0 m (pc + 1) ls (.long (lN (x + y)) :: rest))) : W p l e R s m args below meth c H locs cells slots Q (F0 m pc ls (.long (lN y) :: .long (lN x) :: rest)) :=
  lv_ladd hexec hb hdg (by rw [lN_add]; exact k)
theorem nr_lsub (hexec : p.tables.exec = Jvm.exec) (hb : c.code = cc) {x y : Nat} (h : y ≤ x) (hdg : decode cc pc = .ok (.lsub, 1))
    (k : W p l e R s m args below meth c H locs cells slots Q (F0 m (pc + 1) ls (.long (lN (x - y)) :: rest))) : W p l e R s m args below meth c H locs cells slots Q (F0 m pc ls (.long (lN y) :: .long (lN x) :: rest)) :=
  lv_lsub hexec hb hdg (by rw [lN_sub h]; exact k)
theorem nr_l0 {y : Nat} (h0 : 0 < y) (hy : y < 2 ^ 63) : ¬ lN y = 0 := fun h => by
  have h1 := (pk_lEQ hy (show (0 : Nat) < 2 ^ 63 by decide)).mp (show lN y = lN 0 from h)
  omega
theorem nr_ldiv (hexec : p.tables.exec = Jvm.exec) (hb : c.code = cc) {x y : Nat} (hx : x < 2 ^ 63) (h0 : 0 < y) (hy : y < 2 ^ 63) (hdg : decode cc pc = .ok (.ldiv, 1))
    (k : W p l e R s m args below meth c H locs cells slots Q (F0 m (pc + 1) ls (.long (lN (x / y)) :: rest))) : W p l e R s m args below meth c H locs cells slots Q (F0 m pc ls (.long (lN y) :: .long (lN x) :: rest)) :=
  lv_ldiv hexec hb hdg (nr_l0 h0 hy) (by rw [pk_lDiv hx h0 hy]; exact k)
theorem nr_lrem (hexec : p.tables.exec = Jvm.exec) (hb : c.code = cc) {x y : Nat} (hx : x < 2 ^ 63) (h0 : 0 < y) (hy : y < 2 ^ 63) (hdg : decode cc pc = .ok (.lrem, 1))
    (k : W p l e R s m args below meth c H locs cells slots Q (F0 m (pc + 1) ls (.long (lN (x % y)) :: rest))) : W p l e R s m args below meth c H locs cells slots Q (F0 m pc ls (.long (lN y) :: .long (lN x) :: rest)) :=
  lv_lrem hexec hb hdg (nr_l0 h0 hy) (by rw [pk_lRem hx h0 hy]; exact k)
theorem nr_i2l (hexec : p.tables.exec = Jvm.exec) (hb : c.code = cc) {x : Nat} (hx : x < 2 ^ 31) (hdg : decode cc pc = .ok (.i2l, 1))
    (k : W p l e R s m args below meth c H locs cells slots Q (F0 m (pc + 1) ls (.long (lN x) :: rest))) : W p l e R s m args below meth c H locs cells slots Q (F0 m pc ls (.int (nI x) :: rest)) :=
  lv_i2l hexec hb hdg (nI_l hx) k
theorem nr_l2i (hexec : p.tables.exec = Jvm.exec) (hb : c.code = cc) {x : Nat} (hdg : decode cc pc = .ok (.l2i, 1))
    (k : W p l e R s m args below meth c H locs cells slots Q (F0 m (pc + 1) ls (.int (nI x) :: rest))) : W p l e R s m args below meth c H locs cells slots Q (F0 m pc ls (.long (lN x) :: rest)) :=
  lv_l2i hexec hb hdg (lN_i x) k
theorem nr_imul (hexec : p.tables.exec = Jvm.exec) (hb : c.code = cc) {x y : Nat} (hdg : decode cc pc = .ok (.imul, 1))
    (k : W p l e R s m args below meth c H locs cells slots Q (F0 m (pc + 1) ls (.int (nI (x * y)) :: rest))) : W p l e R s m args below meth c H locs cells slots Q (F0 m pc ls (.int (nI y) :: .int (nI x) :: rest)) :=
  lv_imul hexec hb hdg (by rw [pk_mul]; exact k)
theorem nr_iadd (hexec : p.tables.exec = Jvm.exec) (hb : c.code = cc) {x y : Nat} (hdg : decode cc pc = .ok (.iadd, 1))
    (k : W p l e R s m args below meth c H locs cells slots Q (F0 m (pc + 1) ls (.int (nI (x + y)) :: rest))) : W p l e R s m args below meth c H locs cells slots Q (F0 m pc ls (.int (nI y) :: .int (nI x) :: rest)) :=
  lv_iadd hexec hb hdg (by rw [nI_add]; exact k)
theorem nr_idiv (hexec : p.tables.exec = Jvm.exec) (hb : c.code = cc) {x y : Nat} (hx : x < 2 ^ 31) (h0 : 0 < y) (hy : y < 2 ^ 31) (hdg : decode cc pc = .ok (.idiv, 1))
    (k : W p l e R s m args below meth c H locs cells slots Q (F0 m (pc + 1) ls (.int (nI (x / y)) :: rest))) : W p l e R s m args below meth c H locs cells slots Q (F0 m pc ls (.int (nI y) :: .int (nI x) :: rest)) :=
  lv_idiv hexec hb hdg (nI_ne0 h0 hy) (by rw [pk_div hx h0 hy]; exact k)
theorem nr_irem (hexec : p.tables.exec = Jvm.exec) (hb : c.code = cc) {x y : Nat} (hx : x < 2 ^ 31) (h0 : 0 < y) (hy : y < 2 ^ 31) (hdg : decode cc pc = .ok (.irem, 1))
    (k : W p l e R s m args below meth c H locs cells slots Q (F0 m (pc + 1) ls (.int (nI (x % y)) :: rest))) : W p l e R s m args below meth c H locs cells slots Q (F0 m pc ls (.int (nI y) :: .int (nI x) :: rest)) :=
  lv_irem hexec hb hdg (nI_ne0 h0 hy) (by rw [pk_rem hx h0 hy]; exact k)
/-- 'and' with 2^k - 1 -/
def mk_ (k : Nat) (x : Int32) : Nat := x.toBitVec.toNat % 2 ^ k
theorem mk_lt (k : Nat) (x : Int32) : mk_ k x < 2 ^ k := Nat.mod_lt _ (Nat.two_pow_pos k)
theorem nr_iand (hexec : p.tables.exec = Jvm.exec) (hb : c.code = cc) {x M : Int32} (k : Nat) (hM : M.toBitVec.toNat = 2 ^ k - 1) (hdg : decode cc pc = .ok (.iand, 1))
    (kk : W p l e R s m args below meth c H locs cells slots Q (F0 m (pc + 1) ls (.int (nI (mk_ k x)) :: rest))) : W p l e R s m args below meth c H locs cells slots Q (F0 m pc ls (.int M :: .int x :: rest)) :=
  lv_iand hexec hb hdg (by rw [pk_and x k hM]; exact kk)
/-! a compare of longs and the branch behind it -/
theorem nq_eq (hexec : p.tables.exec = Jvm.exec) (hb : c.code = cc) {x y : Int64} {off : Int} {tgt : Nat} (hdg : decode cc pc = .ok (.lcmp, 1)) (hdg2 : decode cc (pc + 1) = .ok (.ifCond .eq off, 3)) (ht : ((pc + 1 : Nat) : Int) + off = (tgt : Int))
    (kt : x = y → W p l e R s m args below meth c H locs cells slots Q (F0 m tgt ls rest)) (kf : ¬ x = y → W p l e R s m args below meth c H locs cells slots Q (F0 m (pc + 1 + 3) ls rest)) : W p l e R s m args below meth c H locs cells slots Q (F0 m pc ls (.long y :: .long x :: rest)) :=
  W.lcmp hexec hb hdg (lv_if_eq hexec hb hdg2 ht (fun h => kt ((lg_cmp_eq x y).mp h)) (fun h => kf (fun g => h ((lg_cmp_eq x y).mpr g))))
theorem nq_ne (hexec : p.tables.exec = Jvm.exec) (hb : c.code = cc) {x y : Int64} {off : Int} {tgt : Nat} (hdg : decode cc pc = .ok (.lcmp, 1)) (hdg2 : decode cc (pc + 1) = .ok (.ifCond .ne off, 3)) (ht : ((pc + 1 : Nat) : Int) + off = (tgt : Int))
    (kt : ¬ x = y → W p l e R s m args below meth c H locs cells slots Q (F0 m tgt ls rest)) (kf : x = y → W p l e R s m args below meth c H locs cells slots Q (F0 m (pc + 1 + 3) ls rest)) : W p l e R s m args below meth c H locs cells slots Q (F0 m pc ls (.long y :: .long x :: rest)) :=
  W.lcmp hexec hb hdg (lv_if_ne hexec hb hdg2 ht (fun h => kt (fun g => h ((lg_cmp_eq x y).mpr g))) (fun h => kf ((lg_cmp_eq x y).mp h)))
theorem nq_lt (hexec : p.tables.exec = Jvm.exec) (hb : c.code = cc) {x y : Int64} {off : Int} {tgt : Nat} (hdg : decode cc pc = .ok (.lcmp, 1)) (hdg2 : decode cc (pc + 1) = .ok (.ifCond .lt off, 3)) (ht : ((pc + 1 : Nat) : Int) + off = (tgt : Int))
    (kt : x < y → W p l e R s m args below meth c H locs cells slots Q (F0 m tgt ls rest)) (kf : ¬ x < y → W p l e R s m args below meth c H locs cells slots Q (F0 m (pc + 1 + 3) ls rest)) : W p l e R s m args below meth c H locs cells slots Q (F0 m pc ls (.long y :: .long x :: rest)) :=
  W.lcmp hexec hb hdg (lv_if_lt hexec hb hdg2 ht (fun h => kt ((lg_cmp_lt x y).mp h)) (fun h => kf (fun g => h ((lg_cmp_lt x y).mpr g))))
theorem nq_ge (hexec : p.tables.exec = Jvm.exec) (hb : c.code = cc) {x y : Int64} {off : Int} {tgt : Nat} (hdg : decode cc pc = .ok (.lcmp, 1)) (hdg2 : decode cc (pc + 1) = .ok (.ifCond .ge off, 3)) (ht : ((pc + 1 : Nat) : Int) + off = (tgt : Int))
    (kt : y ≤ x → W p l e R s m args below meth c H locs cells slots Q (F0 m tgt ls rest)) (kf : ¬ y ≤ x → W p l e R s m args below meth c H locs cells slots Q (F0 m (pc + 1 + 3) ls rest)) : W p l e R s m args below meth c H locs cells slots Q (F0 m pc ls (.long y :: .long x :: rest)) :=
  W.lcmp hexec hb hdg (lv_if_ge hexec hb hdg2 ht (fun h => kt ((lg_cmp_ge x y).mp h)) (fun h => kf (fun g => h ((lg_cmp_ge x y).mpr g))))
theorem nq_gt (hexec : p.tables.exec = Jvm.exec) (hb : c.code = cc) {x y : Int64} {off : Int} {tgt : Nat} (hdg : decode cc pc = .ok (.lcmp, 1)) (hdg2 : decode cc (pc + 1) = .ok (.ifCond .gt off, 3)) (ht : ((pc + 1 : Nat) : Int) + off = (tgt : Int))
    (kt : y < x → W p l e R s m args below meth c H locs cells slots Q (F0 m tgt ls rest)) (kf : ¬ y < x → W p l e R s m args below meth c H locs cells slots Q (F0 m (pc + 1 + 3) ls rest)) : W p l e R s m args below meth c H locs cells slots Q (F0 m pc ls (.long y :: .long x :: rest)) :=
  W.lcmp hexec hb hdg (lv_if_gt hexec hb hdg2 ht (fun h => kt ((lg_cmp_gt x y).mp h)) (fun h => kf (fun g => h ((lg_cmp_gt x y).mpr g))))
/-! the same over numbers -/
theorem nl_eq (hexec : p.tables.exec = Jvm.exec) (hb : c.code = cc) {x y : Nat} (hx : x < 2 ^ 63) (hy : y < 2 ^ 63) {off : Int} {tgt : Nat} (hdg : decode cc pc = .ok (.lcmp, 1)) (hdg2 : decode cc (pc + 1) = .ok (.ifCond .eq off, 3)) (ht : ((pc + 1 : Nat) : Int) + off = (tgt : Int))
    (kt : x = y → W p l e R s m args below meth c H locs cells slots Q (F0 m tgt ls rest)) (kf : ¬ x = y → W p l e R s m args below meth c H locs cells slots Q (F0 m (pc + 1 + 3) ls rest)) : W p l e R s m args below meth c H locs cells slots Q (F0 m pc ls (.long (lN y) :: .long (lN x) :: rest)) :=
  nq_eq hexec hb hdg hdg2 ht (fun h => kt ((pk_lEQ hx hy).mp h)) (fun h => kf (fun g => h ((pk_lEQ hx hy).mpr g)))
theorem nl_ne (hexec : p.tables.exec = Jvm.exec) (hb : c.code = cc) {x y : Nat} (hx : x < 2 ^ 63) (hy : y < 2 ^ 63) {off : Int} {tgt : Nat} (hdg : decode cc pc = .ok (.lcmp, 1)) (hdg2 : decode cc (pc + 1) = .ok (.ifCond .ne off, 3)) (ht : ((pc + 1 : Nat) : Int) + off = (tgt : Int))
    (kt : ¬ x = y → W p l e R s m args below meth c H locs cells slots Q (F0 m tgt ls rest)) (kf : x = y → W p l e R s m args below meth c H locs cells slots Q (F0 m (pc + 1 + 3) ls rest)) : W p l e R s m args below meth c H locs cells slots Q (F0 m pc ls (.long (lN y) :: .long (lN x) :: rest)) :=
  nq_ne hexec hb hdg hdg2 ht (fun h => kt (fun g => h ((pk_lEQ hx hy).mpr g))) (fun h => kf ((pk_lEQ hx hy).mp h))
theorem nl_lt (hexec : p.tables.exec = Jvm.exec) (hb : c.code = cc) {x y : Nat} (hx : x < 2 ^ 63) (hy : y < 2 ^ 63) {off : Int} {tgt : Nat} (hdg : decode cc pc = .ok (.lcmp, 1)) (hdg2 : decode cc (pc + 1) = .ok (.ifCond .lt off, 3)) (ht : ((pc + 1 : Nat) : Int) + off = (tgt : Int))
    (kt : x < y → W p l e R s m args below meth c H locs cells slots Q (F0 m tgt ls rest)) (kf : ¬ x < y → W p l e R s m args below meth c H locs cells slots Q (F0 m (pc + 1 + 3) ls rest)) : W p l e R s m args below meth c H locs cells slots Q (F0 m pc ls (.long (lN y) :: .long (lN x) :: rest)) :=
  nq_lt hexec hb hdg hdg2 ht (fun h => kt ((pk_lLT hx hy).mp h)) (fun h => kf (fun g => h ((pk_lLT hx hy).mpr g)))
theorem nl_ge (hexec : p.tables.exec = Jvm.exec) (hb : c.code = cc) {x y : Nat} (hx : x < 2 ^ 63) (hy : y < 2 ^ 63) {off : Int} {tgt : Nat} (hdg : decode cc pc = .ok (.lcmp, 1)) (hdg2 : decode cc (pc + 1) = .ok (.ifCond .ge off, 3)) (ht : ((pc + 1 : Nat) : Int) + off = (tgt : Int))
    (kt : y ≤ x → W p l e R s m args below meth c H locs cells slots Q (F0 m tgt ls rest)) (kf : ¬ y ≤ x → W p l e R s m args below meth c H locs cells slots Q (F0 m (pc + 1 + 3) ls rest)) : W p l e R s m args below meth c H locs cells slots Q (F0 m pc ls (.long (lN y) :: .long (lN x) :: rest)) :=
  nq_ge hexec hb hdg hdg2 ht (fun h => kt ((pk_lLE hy hx).mp h)) (fun h => kf (fun g => h ((pk_lLE hy hx).mpr g)))
theorem nl_gt (hexec : p.tables.exec = Jvm.exec) (hb : c.code = cc) {x y : Nat} (hx : x < 2 ^ 63) (hy : y < 2 ^ 63) {off : Int} {tgt : Nat} (hdg : decode cc pc = .ok (.lcmp, 1)) (hdg2 : decode cc (pc + 1) = .ok (.ifCond .gt off, 3)) (ht : ((pc + 1 : Nat) : Int) + off = (tgt : Int))
    (kt : y < x → W p l e R s m args below meth c H locs cells slots Q (F0 m tgt ls rest)) (kf : ¬ y < x → W p l e R s m args below meth c H locs cells slots Q (F0 m (pc + 1 + 3) ls rest)) : W p l e R s m args below meth c H locs cells slots Q (F0 m pc ls (.long (lN y) :: .long (lN x) :: rest)) :=
  nq_gt hexec hb hdg hdg2 ht (fun h => kt ((pk_lLT hy hx).mp h)) (fun h => kf (fun g => h ((pk_lLT hy hx).mpr g)))
/-! branches over ints that are numbers -/
theorem ni_if_eq (hexec : p.tables.exec = Jvm.exec) (hb : c.code = cc) {x : Nat} (hx : x < 2 ^ 31) {off : Int} {tgt : Nat} (hdg : decode cc pc = .ok (.ifCond .eq off, 3)) (ht : (pc : Int) + off = (tgt : Int))
    (kt : x = 0 → W p l e R s m args below meth c H locs cells slots Q (F0 m tgt ls rest)) (kf : ¬ x = 0 → W p l e R s m args below meth c H locs cells slots Q (F0 m (pc + 3) ls rest)) : W p l e R s m args below meth c H locs cells slots Q (F0 m pc ls (.int (nI x) :: rest)) :=
  lv_if_eq hexec hb hdg ht (fun h => kt ((nI_eq hx (show (0 : Nat) < 2 ^ 31 by decide)).mp (h.trans nI_0.symm))) (fun h => kf (fun g => h (by rw [g]; exact nI_0)))
theorem ni_ne (hexec : p.tables.exec = Jvm.exec) (hb : c.code = cc) {x y : Nat} (hx : x < 2 ^ 31) (hy : y < 2 ^ 31) {off : Int} {tgt : Nat} (hdg : decode cc pc = .ok (.if_icmp .ne off, 3)) (ht : (pc : Int) + off = (tgt : Int))
    (kt : ¬ x = y → W p l e R s m args below meth c H locs cells slots Q (F0 m tgt ls rest)) (kf : x = y → W p l e R s m args below meth c H locs cells slots Q (F0 m (pc + 3) ls rest)) : W p l e R s m args below meth c H locs cells slots Q (F0 m pc ls (.int (nI y) :: .int (nI x) :: rest)) :=
  lv_icmp_ne hexec hb hdg ht (fun h => kt (fun g => h ((nI_eq hx hy).mpr g))) (fun h => kf ((nI_eq hx hy).mp h))
theorem ni_ge (hexec : p.tables.exec = Jvm.exec) (hb : c.code = cc) {x y : Nat} (hx : x < 2 ^ 31) (hy : y < 2 ^ 31) {off : Int} {tgt : Nat} (hdg : decode cc pc = .ok (.if_icmp .ge off, 3)) (ht : (pc : Int) + off = (tgt : Int))
    (kt : y ≤ x → W p l e R s m args below meth c H locs cells slots Q (F0 m tgt ls rest)) (kf : ¬ y ≤ x → W p l e R s m args below meth c H locs cells slots Q (F0 m (pc + 3) ls rest)) : W p l e R s m args below meth c H locs cells slots Q (F0 m pc ls (.int (nI y) :: .int (nI x) :: rest)) :=
  lv_icmp_ge hexec hb hdg ht (fun h => kt ((nI_leI hy hx).mp h)) (fun h => kf (fun g => h ((nI_leI hy hx).mpr g)))
theorem ni_gt (hexec : p.tables.exec = Jvm.exec) (hb : c.code = cc) {x y : Nat} (hx : x < 2 ^ 31) (hy : y < 2 ^ 31) {off : Int} {tgt : Nat} (hdg : decode cc pc = .ok (.if_icmp .gt off, 3)) (ht : (pc : Int) + off = (tgt : Int))
    (kt : y < x → W p l e R s m args below meth c H locs cells slots Q (F0 m tgt ls rest)) (kf : ¬ y < x → W p l e R s m args below meth c H locs cells slots Q (F0 m (pc + 3) ls rest)) : W p l e R s m args below meth c H locs cells slots Q (F0 m pc ls (.int (nI y) :: .int (nI x) :: rest)) :=
  lv_icmp_gt hexec hb hdg ht (fun h => kt ((nI_ltI hy hx).mp h)) (fun h => kf (fun g => h ((nI_ltI hy hx).mpr g)))
end NR
/-! a difference of longs that are numbers: its sign, its size -/
theorem ld_toInt {u v : Nat} (hu : u < 2 ^ 62) (hv : v < 2 ^ 62) : (lN u - lN v).toInt = (u : Int) - (v : Int) := by
  rw [Int64.toInt_sub, pk_lT (show u < 2 ^ 63 by omega), pk_lT (show v < 2 ^ 63 by omega)]
  apply Int.bmod_eq_of_le <;> omega
theorem ld_neg {u v : Nat} (hu : u < 2 ^ 62) (hv : v < 2 ^ 62) : lN u - lN v < 0 ↔ u < v := by
  rw [Int64.lt_iff_toInt_lt, ld_toInt hu hv]
  show (u : Int) - (v : Int) < 0 ↔ u < v
  omega
theorem ld_nn {u v : Nat} (hu : u < 2 ^ 62) (hv : v < 2 ^ 62) : 0 ≤ lN u - lN v ↔ v ≤ u := by
  rw [Int64.le_iff_toInt_le, ld_toInt hu hv]
  show (0 : Int) ≤ (u : Int) - (v : Int) ↔ v ≤ u
  omega
theorem ld_flip (u v : Nat) : -(lN u - lN v) = lN v - lN u := Int64.neg_sub
/-- the absolute value of a difference -/
theorem ld_abs {u v : Nat} (hu : u < 2 ^ 62) (hv : v < 2 ^ 62) : (if lN u - lN v < 0 then -(lN u - lN v) else lN u - lN v) = lN ((u - v) + (v - u)) := by
  by_cases h : u < v
  · rw [if_pos ((ld_neg hu hv).mpr h), ld_flip, lN_sub (Nat.le_of_lt h), show (u - v) + (v - u) = v - u by omega]
  · rw [if_neg (fun g => h ((ld_neg hu hv).mp g)), lN_sub (Nat.le_of_not_lt h), show (u - v) + (v - u) = u - v by omega]
end
section
/-! THE PLAIN LAW: nearest fractions, simplest fractions, Euclid's steps. No program in sight -/
/-- how far a/b lies from p/q, times q and b -/
def fn_D (p q a b : Nat) : Nat := (a * q - p * b) + (p * b - a * q)
/-- a/b comes no later than c/d: it is nearer; or as near, with a lesser number below; or that too is the same, and the number above is no greater -/
def fn_le (p q a b c d : Nat) : Prop := fn_D p q a b * d < fn_D p q c d * b ∨ (fn_D p q a b * d = fn_D p q c d * b ∧ (b < d ∨ (b = d ∧ a ≤ c)))
def fn_Best (p q n U V : Nat) : Prop := 1 ≤ V ∧ V ≤ n ∧ ∀ a b : Nat, 1 ≤ b → b ≤ n → fn_le p q U V a b
theorem fn_le_refl (p q a b : Nat) : fn_le p q a b a b := Or.inr ⟨rfl, Or.inr ⟨rfl, Nat.le_refl a⟩⟩
theorem fn_r_le {X Y Z b d f : Nat} (h1 : X * d ≤ Y * b) (h2 : Y * f ≤ Z * d) (hd : 0 < d) : X * f ≤ Z * b := by
  have a1 : X * d * f ≤ Y * b * f := Nat.mul_le_mul_right f h1
  have a2 : Y * f * b ≤ Z * d * b := Nat.mul_le_mul_right b h2
  refine Nat.le_of_mul_le_mul_right (c := d) ?_ hd
  rw [Nat.mul_right_comm X f d, Nat.mul_right_comm Z b d]
  rw [Nat.mul_right_comm Y b f] at a1
  exact Nat.le_trans a1 a2
theorem fn_r_lt1 {X Y Z b d f : Nat} (h1 : X * d < Y * b) (h2 : Y * f ≤ Z * d) (hf : 0 < f) : X * f < Z * b := by
  have a1 : X * d * f < Y * b * f := Nat.mul_lt_mul_of_pos_right h1 hf
  have a2 : Y * f * b ≤ Z * d * b := Nat.mul_le_mul_right b h2
  refine Nat.lt_of_mul_lt_mul_right (a := d) ?_
  rw [Nat.mul_right_comm X f d, Nat.mul_right_comm Z b d]
  rw [Nat.mul_right_comm Y b f] at a1
  exact Nat.lt_of_lt_of_le a1 a2
theorem fn_r_lt2 {X Y Z b d f : Nat} (h1 : X * d ≤ Y * b) (h2 : Y * f < Z * d) (hb : 0 < b) : X * f < Z * b := by
  have a1 : X * d * f ≤ Y * b * f := Nat.mul_le_mul_right f h1
  have a2 : Y * f * b < Z * d * b := Nat.mul_lt_mul_of_pos_right h2 hb
  refine Nat.lt_of_mul_lt_mul_right (a := d) ?_
  rw [Nat.mul_right_comm X f d, Nat.mul_right_comm Z b d]
  rw [Nat.mul_right_comm Y b f] at a1
  exact Nat.lt_of_le_of_lt a1 a2
theorem fn_le_trans {p q a b c d e f : Nat} (hb : 0 < b) (hd : 0 < d) (hf : 0 < f) (h1 : fn_le p q a b c d) (h2 : fn_le p q c d e f) : fn_le p q a b e f := by
  unfold fn_le at h1 h2 ⊢
  generalize fn_D p q a b = X at h1 ⊢
  generalize fn_D p q c d = Y at h1 h2
  generalize fn_D p q e f = Z at h2 ⊢
  rcases h1 with h1 | ⟨h1, g1⟩
  · have k : Y * f ≤ Z * d := by
      rcases h2 with h2 | ⟨h2, -⟩
      · exact Nat.le_of_lt h2
      · exact Nat.le_of_eq h2
    exact Or.inl (fn_r_lt1 h1 k hf)
  · rcases h2 with h2 | ⟨h2, g2⟩
    · exact Or.inl (fn_r_lt2 (Nat.le_of_eq h1) h2 hb)
    · have k1 : X * f ≤ Z * b := fn_r_le (Nat.le_of_eq h1) (Nat.le_of_eq h2) hd
      have k2 : Z * b ≤ X * f := fn_r_le (Nat.le_of_eq h2.symm) (Nat.le_of_eq h1.symm) hd
      refine Or.inr ⟨Nat.le_antisymm k1 k2, ?_⟩
      omega
theorem fn_Best_uniq {p q n U V U' V' : Nat} (h : fn_Best p q n U V) (h' : fn_Best p q n U' V') : U = U' ∧ V = V' := by
  have h1 := h.2.2 U' V' h'.1 h'.2.1
  have h2 := h'.2.2 U V h.1 h.2.1
  unfold fn_le at h1 h2
  generalize fn_D p q U V * V' = X at h1 h2
  generalize fn_D p q U' V' * V = Y at h1 h2
  omega
/-! the reference's search -/
def fn_M (p q d k U V : Nat) : Prop := 1 ≤ V ∧ V ≤ d ∧ (V = d → 1 ≤ k ∧ U < p * d / q + k) ∧ ∀ a b : Nat, 1 ≤ b → (b < d ∨ (b = d ∧ 1 ≤ k ∧ a ≤ p * d / q) ∨ (b = d ∧ 2 ≤ k)) → fn_le p q U V a b
/-- what is less than the whole part is further off -/
theorem fn_low {p q d a : Nat} (hq : 0 < q) (hd : 0 < d) (h : a ≤ p * d / q) : fn_le p q (p * d / q) d a d := by
  have h1 : p * d / q * q ≤ p * d := Nat.div_mul_le_self (p * d) q
  rcases Nat.lt_or_ge a (p * d / q) with g | g
  · have h2 : a * q < p * d / q * q := Nat.mul_lt_mul_of_pos_right g hq
    refine Or.inl (Nat.mul_lt_mul_of_pos_right ?_ hd)
    unfold fn_D
    omega
  · have e : a = p * d / q := Nat.le_antisymm h g
    rw [← e]
    exact fn_le_refl p q a d
theorem fn_high {p q d a : Nat} (hq : 0 < q) (hd : 0 < d) (h : p * d / q + 1 ≤ a) : fn_le p q (p * d / q + 1) d a d := by
  have h1 : p * d < (p * d / q + 1) * q := by
    have h3 := Nat.div_add_mod (p * d) q
    have h4 := Nat.mod_lt (p * d) hq
    rw [Nat.add_mul, Nat.one_mul, Nat.mul_comm (p * d / q) q]
    omega
  rcases Nat.lt_or_ge (p * d / q + 1) a with g | g
  · have h2 : (p * d / q + 1) * q < a * q := Nat.mul_lt_mul_of_pos_right g hq
    refine Or.inl (Nat.mul_lt_mul_of_pos_right ?_ hd)
    unfold fn_D
    omega
  · have e : a = p * d / q + 1 := Nat.le_antisymm g h
    rw [← e]
    exact fn_le_refl p q a d
theorem fn_M_first {p q : Nat} (hq : 0 < q) : fn_M p q 1 1 (p * 1 / q) 1 := by
  refine ⟨Nat.le_refl 1, Nat.le_refl 1, fun _ => ⟨Nat.le_refl 1, Nat.lt_succ_self _⟩, fun a b hb h => ?_⟩
  rcases h with h | ⟨e, -, h⟩ | ⟨e, h⟩
  · omega
  · rw [e]; exact fn_low hq Nat.one_pos h
  · omega
theorem fn_M_keep {p q d k U V : Nat} (hq : 0 < q) (hk : k < 2) (h : fn_M p q d k U V) (hn : ¬ fn_D p q (p * d / q + k) d * V < fn_D p q U V * d) : fn_M p q d (k + 1) U V := by
  obtain ⟨h1, h2, h3, h4⟩ := h
  have hd : 0 < d := Nat.lt_of_lt_of_le h1 h2
  have hc : fn_le p q U V (p * d / q + k) d := by
    unfold fn_le
    generalize fn_D p q (p * d / q + k) d * V = X at hn ⊢
    generalize fn_D p q U V * d = Y at hn ⊢
    omega
  refine ⟨h1, h2, fun e => ⟨Nat.succ_le_succ (Nat.zero_le k), by have := h3 e; omega⟩, fun a b hb h => ?_⟩
  rcases (show k = 0 ∨ k = 1 by omega) with ek | ek
  · subst ek
    rcases h with h | ⟨e, -, h⟩ | ⟨e, h⟩
    · exact h4 a b hb (Or.inl h)
    · rw [e]; exact fn_le_trans h1 hd hd hc (fn_low hq hd h)
    · omega
  · subst ek
    rcases h with h | ⟨e, -, h⟩ | ⟨e, -⟩
    · exact h4 a b hb (Or.inl h)
    · exact h4 a b hb (Or.inr (Or.inl ⟨e, Nat.le_refl 1, h⟩))
    · rcases Nat.lt_or_ge (p * d / q) a with g | g
      · rw [e]; exact fn_le_trans h1 hd hd hc (fn_high hq hd g)
      · exact h4 a b hb (Or.inr (Or.inl ⟨e, Nat.le_refl 1, g⟩))
theorem fn_M_take {p q d k U V : Nat} (hq : 0 < q) (hk : k < 2) (h : fn_M p q d k U V) (hn : fn_D p q (p * d / q + k) d * V < fn_D p q U V * d) : fn_M p q d (k + 1) (p * d / q + k) d := by
  obtain ⟨h1, h2, h3, h4⟩ := h
  have hd : 0 < d := Nat.lt_of_lt_of_le h1 h2
  have hc : fn_le p q (p * d / q + k) d U V := Or.inl hn
  refine ⟨hd, Nat.le_refl d, fun _ => ⟨Nat.succ_le_succ (Nat.zero_le k), by omega⟩, fun a b hb h => ?_⟩
  rcases (show k = 0 ∨ k = 1 by omega) with ek | ek
  · subst ek
    rcases h with h | ⟨e, -, h⟩ | ⟨e, h⟩
    · exact fn_le_trans hd h1 hb hc (h4 a b hb (Or.inl h))
    · rw [e]; exact fn_low hq hd h
    · omega
  · subst ek
    rcases h with h | ⟨e, -, h⟩ | ⟨e, -⟩
    · exact fn_le_trans hd h1 hb hc (h4 a b hb (Or.inl h))
    · exact fn_le_trans hd h1 hb hc (h4 a b hb (Or.inr (Or.inl ⟨e, Nat.le_refl 1, h⟩)))
    · rcases Nat.lt_or_ge (p * d / q) a with g | g
      · rw [e]; exact fn_high hq hd g
      · exact fn_le_trans hd h1 hb hc (h4 a b hb (Or.inr (Or.inl ⟨e, Nat.le_refl 1, g⟩)))
theorem fn_M_next {p q d U V : Nat} (h : fn_M p q d 2 U V) : fn_M p q (d + 1) 0 U V := by
  obtain ⟨h1, h2, h3, h4⟩ := h
  refine ⟨h1, Nat.le_succ_of_le h2, fun e => by omega, fun a b hb h => ?_⟩
  rcases h with h | ⟨-, h, -⟩ | ⟨-, h⟩
  · rcases Nat.lt_or_ge b d with g | g
    · exact h4 a b hb (Or.inl g)
    · exact h4 a b hb (Or.inr (Or.inr ⟨by omega, Nat.le_refl 2⟩))
  · omega
  · omega
theorem fn_M_best {p q n U V : Nat} (h : fn_M p q (n + 1) 0 U V) : fn_Best p q n U V := by
  obtain ⟨h1, h2, h3, h4⟩ := h
  refine ⟨h1, ?_, fun a b hb hn => h4 a b hb (Or.inl (Nat.lt_succ_of_le hn))⟩
  rcases Nat.lt_or_ge n V with g | g
  · have := (h3 (by omega)).1
    omega
  · exact g
/-! the component's search: the terms of the continued fraction -/
def fn_N (p q n x y A B A' B' : Nat) : Prop := p = x * A + y * A' ∧ q = x * B + y * B' ∧ (A * B' = A' * B + 1 ∨ A' * B = A * B' + 1) ∧ ((x = p ∧ y = q ∧ A = 1 ∧ B = 0 ∧ A' = 0 ∧ B' = 1) ∨ (y < x ∧ x ≤ q ∧ B' ≤ B ∧ 1 ≤ B ∧ B ≤ n))
theorem fn_N_0 (p q n : Nat) : fn_N p q n p q 1 0 0 1 := ⟨by omega, by omega, Or.inl rfl, Or.inl ⟨rfl, rfl, rfl, rfl, rfl, rfl⟩⟩
theorem fn_N_step {p q n x y A B A' B' : Nat} (hy : 0 < y) (h : fn_N p q n x y A B A' B') (hn : x / y * B + B' ≤ n) : fn_N p q n y (x % y) (x / y * A + A') (x / y * B + B') A B := by
  obtain ⟨h1, h2, h3, h4⟩ := h
  have hx := Nat.div_add_mod x y
  have hm := Nat.mod_lt x hy
  generalize ht : x / y = t at hn hx ⊢
  generalize x % y = r at hx hm ⊢
  refine ⟨?_, ?_, ?_, Or.inr ⟨hm, ?_, ?_, ?_, hn⟩⟩
  · rw [h1, ← hx]
    simp only [Nat.mul_add, Nat.add_mul, Nat.mul_comm, Nat.mul_left_comm, Nat.mul_assoc]
    omega
  · rw [h2, ← hx]
    simp only [Nat.mul_add, Nat.add_mul, Nat.mul_comm, Nat.mul_left_comm, Nat.mul_assoc]
    omega
  · simp only [Nat.mul_add, Nat.add_mul, Nat.mul_comm, Nat.mul_left_comm, Nat.mul_assoc] at h3 ⊢
    omega
  · rcases h4 with ⟨-, e, -⟩ | ⟨e1, e2, -⟩
    · omega
    · omega
  · rcases h4 with ⟨-, -, -, e, -⟩ | ⟨e1, -⟩
    · omega
    · have ht1 : 1 ≤ t := by rw [← ht]; exact (Nat.one_le_div_iff hy).mpr (Nat.le_of_lt e1)
      have := Nat.mul_le_mul_right B ht1
      omega
  · rcases h4 with ⟨-, -, -, -, -, e⟩ | ⟨e1, -, -, e3, -⟩
    · omega
    · have ht1 : 1 ≤ t := by rw [← ht]; exact (Nat.one_le_div_iff hy).mpr (Nat.le_of_lt e1)
      have := Nat.mul_le_mul ht1 e3
      omega
/-- a fraction in lowest terms (its determinant with another one is 1) comes first among its equals -/
theorem fn_cop {A B A' B' a b : Nat} (hb : 0 < b) (hB : 0 < B) (hd : A * B' = A' * B + 1 ∨ A' * B = A * B' + 1) (h : a * B = A * b) : B < b ∨ (B = b ∧ A ≤ a) := by
  have hv : B ∣ b := by
    rcases hd with e | e
    · have k : b * (A' * B) + b = B * (a * B') := by
        have k1 : b * (A * B') = b * (A' * B) + b := by rw [e, Nat.mul_add, Nat.mul_one]
        have k2 : b * (A * B') = B * (a * B') := by rw [← Nat.mul_assoc, Nat.mul_comm b A, ← h, Nat.mul_comm a B, Nat.mul_assoc]
        omega
      have k3 : B ∣ b * (A' * B) := ⟨b * A', by rw [← Nat.mul_assoc, Nat.mul_comm]⟩
      exact (Nat.dvd_add_right k3).mp (k ▸ Nat.dvd_mul_right B (a * B'))
    · have k : B * (a * B') + b = b * (A' * B) := by
        have k1 : b * (A' * B) = b * (A * B') + b := by rw [e, Nat.mul_add, Nat.mul_one]
        have k2 : b * (A * B') = B * (a * B') := by rw [← Nat.mul_assoc, Nat.mul_comm b A, ← h, Nat.mul_comm a B, Nat.mul_assoc]
        omega
      have k3 : B ∣ b * (A' * B) := ⟨b * A', by rw [← Nat.mul_assoc, Nat.mul_comm]⟩
      exact (Nat.dvd_add_right (Nat.dvd_mul_right B (a * B'))).mp (k ▸ k3)
  rcases Nat.lt_or_ge B b with g | g
  · exact Or.inl g
  · have e : B = b := Nat.le_antisymm (Nat.le_of_dvd hb hv) g
    refine Or.inr ⟨e, ?_⟩
    rw [← e] at h
    exact Nat.le_of_eq (Nat.eq_of_mul_eq_mul_right hB h).symm
theorem fn_exit0 {p q n x y A B A' B' : Nat} (hq : 0 < q) (h : fn_N p q n x y A B A' B') (hy : y = 0) : fn_Best p q n A B := by
  obtain ⟨h1, h2, h3, h4⟩ := h
  subst hy
  rcases h4 with ⟨-, e, -⟩ | ⟨e1, e2, e3, e4, e5⟩
  · omega
  · rw [Nat.zero_mul, Nat.add_zero] at h1 h2
    refine ⟨e4, e5, fun a b hb hn => ?_⟩
    have hD : fn_D p q A B = 0 := by
      have k : A * q = p * B := by rw [h1, h2, Nat.mul_comm x A, Nat.mul_assoc]
      unfold fn_D
      omega
    unfold fn_le
    rw [hD, Nat.zero_mul]
    rcases Nat.eq_zero_or_pos (fn_D p q a b) with g | g
    · refine Or.inr ⟨by rw [g, Nat.zero_mul], ?_⟩
      have k : a * q = p * b := by
        unfold fn_D at g
        omega
      refine fn_cop hb e4 h3 ?_
      rw [h1, h2] at k
      refine Nat.eq_of_mul_eq_mul_left e1 ?_
      rw [Nat.mul_left_comm x a B, k, Nat.mul_assoc]
    · exact Or.inl (Nat.mul_pos g e4)
/-- two neighbours, U/V above p/q and u/v below: whatever else has a number below of at most n comes no earlier than one of them -/
theorem fn_two {p q n U V u v y w : Nat} (hq : 0 < q) (hV : 1 ≤ V) (hv : 1 ≤ v) (hn : n < V + v) (hU : U * q = p * V + y) (hu : p * v = u * q + w) (hd : U * v = u * V + 1) (c e : Nat) (he : 1 ≤ e) (hen : e ≤ n) : fn_le p q U V c e ∨ fn_le p q u v c e := by
  have hDU : fn_D p q U V = y := by
    unfold fn_D
    omega
  have hDu : fn_D p q u v = w := by
    unfold fn_D
    omega
  rcases Nat.lt_or_ge (c * V) (U * e) with g1 | g1
  · rcases Nat.lt_or_ge (u * e) (c * v) with g2 | g2
    · exfalso
      obtain ⟨i, hi⟩ : ∃ i, U * e = c * V + (i + 1) := ⟨U * e - c * V - 1, by omega⟩
      obtain ⟨j, hj⟩ : ∃ j, c * v = u * e + (j + 1) := ⟨c * v - u * e - 1, by omega⟩
      have k1 : e * (U * v) = e * (u * V) + e := by rw [hd, Nat.mul_add, Nat.mul_one]
      have k2 : v * (U * e) = v * (c * V) + v * (i + 1) := by rw [hi, Nat.mul_add]
      have k3 : V * (c * v) = V * (u * e) + V * (j + 1) := by rw [hj, Nat.mul_add]
      have k4 : v ≤ v * (i + 1) := Nat.le_mul_of_pos_right v (Nat.succ_pos i)
      have k5 : V ≤ V * (j + 1) := Nat.le_mul_of_pos_right V (Nat.succ_pos j)
      generalize v * (i + 1) = I at k2 k4
      generalize V * (j + 1) = J at k3 k5
      simp only [Nat.mul_comm, Nat.mul_left_comm, Nat.mul_assoc] at k1 k2 k3
      omega
    · refine Or.inr ?_
      have k1 : c * v * q ≤ u * e * q := Nat.mul_le_mul_right q g2
      have k2 : p * v * e = u * q * e + w * e := by rw [hu, Nat.add_mul]
      have k3 : c * q ≤ p * e := by
        refine Nat.le_of_mul_le_mul_right (c := v) ?_ hv
        simp only [Nat.mul_comm, Nat.mul_left_comm, Nat.mul_assoc] at k1 k2 ⊢
        omega
      obtain ⟨z, hz⟩ : ∃ z, p * e = c * q + z := ⟨p * e - c * q, by omega⟩
      have hDc : fn_D p q c e = z := by
        unfold fn_D
        omega
      have k4 : p * e * v = c * q * v + z * v := by rw [hz, Nat.add_mul]
      unfold fn_le
      rw [hDu, hDc]
      rcases Nat.lt_or_ge (c * v) (u * e) with g3 | g3
      · left
        have k5 : c * v * q < u * e * q := Nat.mul_lt_mul_of_pos_right g3 hq
        generalize hX : w * e = X at k2 ⊢
        generalize hY : z * v = Y at k4 ⊢
        simp only [Nat.mul_comm, Nat.mul_left_comm, Nat.mul_assoc] at k5 k2 k4
        omega
      · right
        have g4 : c * v = u * e := Nat.le_antisymm g2 g3
        refine ⟨?_, fn_cop he hv (A' := U) (B' := V) (Or.inr hd) g4⟩
        have k5 : c * v * q = u * e * q := by rw [g4]
        generalize hX : w * e = X at k2 ⊢
        generalize hY : z * v = Y at k4 ⊢
        simp only [Nat.mul_comm, Nat.mul_left_comm, Nat.mul_assoc] at k5 k2 k4
        omega
  · refine Or.inl ?_
    have k1 : U * e * q ≤ c * V * q := Nat.mul_le_mul_right q g1
    have k2 : U * q * e = p * V * e + y * e := by rw [hU, Nat.add_mul]
    have k3 : p * e ≤ c * q := by
      refine Nat.le_of_mul_le_mul_right (c := V) ?_ hV
      simp only [Nat.mul_comm, Nat.mul_left_comm, Nat.mul_assoc] at k1 k2 ⊢
      omega
    obtain ⟨z, hz⟩ : ∃ z, c * q = p * e + z := ⟨c * q - p * e, by omega⟩
    have hDc : fn_D p q c e = z := by
      unfold fn_D
      omega
    have k4 : c * q * V = p * e * V + z * V := by rw [hz, Nat.add_mul]
    unfold fn_le
    rw [hDU, hDc]
    rcases Nat.lt_or_ge (U * e) (c * V) with g3 | g3
    · left
      have k5 : U * e * q < c * V * q := Nat.mul_lt_mul_of_pos_right g3 hq
      generalize hX : y * e = X at k2 ⊢
      generalize hY : z * V = Y at k4 ⊢
      simp only [Nat.mul_comm, Nat.mul_left_comm, Nat.mul_assoc] at k5 k2 k4
      omega
    · right
      have g4 : c * V = U * e := Nat.le_antisymm g3 g1
      refine ⟨?_, fn_cop he hV (A' := u) (B' := v) (Or.inl hd) g4⟩
      have k5 : U * e * q = c * V * q := by rw [g4]
      generalize hX : y * e = X at k2 ⊢
      generalize hY : z * V = Y at k4 ⊢
      simp only [Nat.mul_comm, Nat.mul_left_comm, Nat.mul_assoc] at k5 k2 k4
      omega
/-- what stands behind the loop where the next term is too much: the two neighbours -/
def fn_E (p q n y w A B a b : Nat) : Prop := 0 < y ∧ 0 < w ∧ y ≤ q ∧ w ≤ q ∧ 1 ≤ B ∧ B ≤ n ∧ 1 ≤ b ∧ b ≤ n ∧ n < B + b ∧ ((A * q = p * B + y ∧ p * b = a * q + w ∧ A * b = a * B + 1) ∨ (p * B = A * q + y ∧ a * q = p * b + w ∧ a * B = A * b + 1))
theorem fn_exit1 {p q n x y A B A' B' : Nat} (h1n : 1 ≤ n) (h : fn_N p q n x y A B A' B') (hy : 0 < y) (hn : n < x / y * B + B') : B' ≤ n ∧ 0 < B ∧ fn_E p q n y (x - (n - B') / B * y) A B (A' + (n - B') / B * A) (B' + (n - B') / B * B) := by
  obtain ⟨h1, h2, h3, h4⟩ := h
  rcases h4 with ⟨-, -, -, e1, -, e2⟩ | ⟨e1, e2, e3, e4, e5⟩
  · rw [e1, e2, Nat.mul_zero] at hn
    omega
  · have hBn : B' ≤ n := Nat.le_trans e3 e5
    refine ⟨hBn, e4, ?_⟩
    have hs1 := Nat.div_add_mod (n - B') B
    have hs2 := Nat.mod_lt (n - B') e4
    generalize (n - B') / B = t at hs1 ⊢
    generalize (n - B') % B = r at hs1 hs2
    have hst : t < x / y := by
      refine Nat.lt_of_mul_lt_mul_right (a := B) ?_
      rw [Nat.mul_comm B t] at hs1
      omega
    have hxy : t * y + y ≤ x := by
      have k1 : (t + 1) * y ≤ x / y * y := Nat.mul_le_mul_right y hst
      have k2 := Nat.div_mul_le_self x y
      rw [Nat.add_mul, Nat.one_mul] at k1
      omega
    obtain ⟨w, hw⟩ : ∃ w, x = t * y + w := ⟨x - t * y, by omega⟩
    have hw2 : x - t * y = w := by omega
    rw [hw2]
    rw [Nat.mul_comm B t] at hs1
    refine ⟨hy, by omega, by omega, by omega, e4, e5, by omega, by omega, by omega, ?_⟩
    rcases h3 with g | g
    · left
      refine ⟨?_, ?_, ?_⟩
      · have k : y * (A * B') = y * (A' * B) + y := by rw [g, Nat.mul_add, Nat.mul_one]
        rw [h1, h2]
        simp only [Nat.mul_add, Nat.add_mul, Nat.mul_comm, Nat.mul_left_comm, Nat.mul_assoc] at k ⊢
        omega
      · have k : y * (A * B') = y * (A' * B) + y := by rw [g, Nat.mul_add, Nat.mul_one]
        have kt : t * (y * (A * B')) = t * (y * (A' * B)) + t * y := by rw [k, Nat.mul_add]
        have kx : x * (A * B') = x * (A' * B) + x := by rw [g, Nat.mul_add, Nat.mul_one]
        rw [h1, h2]
        simp only [Nat.mul_add, Nat.add_mul, Nat.mul_comm, Nat.mul_left_comm, Nat.mul_assoc] at k kt kx hw ⊢
        omega
      · simp only [Nat.mul_add, Nat.add_mul, Nat.mul_comm, Nat.mul_left_comm, Nat.mul_assoc] at g ⊢
        omega
    · right
      refine ⟨?_, ?_, ?_⟩
      · have k : y * (A' * B) = y * (A * B') + y := by rw [g, Nat.mul_add, Nat.mul_one]
        rw [h1, h2]
        simp only [Nat.mul_add, Nat.add_mul, Nat.mul_comm, Nat.mul_left_comm, Nat.mul_assoc] at k ⊢
        omega
      · have k : y * (A' * B) = y * (A * B') + y := by rw [g, Nat.mul_add, Nat.mul_one]
        have kt : t * (y * (A' * B)) = t * (y * (A * B')) + t * y := by rw [k, Nat.mul_add]
        have kx : x * (A' * B) = x * (A * B') + x := by rw [g, Nat.mul_add, Nat.mul_one]
        rw [h1, h2]
        simp only [Nat.mul_add, Nat.add_mul, Nat.mul_comm, Nat.mul_left_comm, Nat.mul_assoc] at k kt kx hw ⊢
        omega
      · simp only [Nat.mul_add, Nat.add_mul, Nat.mul_comm, Nat.mul_left_comm, Nat.mul_assoc] at g ⊢
        omega
theorem fn_E_D {p q n y w A B a b : Nat} (h : fn_E p q n y w A B a b) : fn_D p q A B = y ∧ fn_D p q a b = w := by
  obtain ⟨h1, h2, h3, h4, h5, h6, h7, h8, h9, h⟩ := h
  unfold fn_D
  omega
theorem fn_E_any {p q n y w A B a b : Nat} (hq : 0 < q) (h : fn_E p q n y w A B a b) (c e : Nat) (he : 1 ≤ e) (hen : e ≤ n) : fn_le p q A B c e ∨ fn_le p q a b c e := by
  obtain ⟨h1, h2, h3, h4, h5, h6, h7, h8, h9, ⟨k1, k2, k3⟩ | ⟨k1, k2, k3⟩⟩ := h
  · exact fn_two hq h5 h7 h9 k1 k2 k3 c e he hen
  · exact (fn_two hq h7 h5 (by omega) k2 k1 k3 c e he hen).symm
/-- the component's test: the fraction made stays -/
theorem fn_E_keep {p q n y w A B a b : Nat} (hq : 0 < q) (h : fn_E p q n y w A B a b) (ht : y * b < w * B ∨ (w * B = y * b ∧ (B < b ∨ (B = b ∧ A * q < p * B)))) : fn_Best p q n A B := by
  obtain ⟨hD1, hD2⟩ := fn_E_D h
  have hk := fn_E_any hq h
  obtain ⟨h1, h2, h3, h4, h5, h6, h7, h8, h9, h⟩ := h
  have hab : fn_le p q A B a b := by
    unfold fn_le
    rw [hD1, hD2]
    rcases ht with ht | ⟨ht, ht2⟩
    · exact Or.inl ht
    · refine Or.inr ⟨ht.symm, ?_⟩
      rcases ht2 with g | ⟨g1, g2⟩
      · exact Or.inl g
      · refine Or.inr ⟨g1, ?_⟩
        rcases h with ⟨k1, k2, k3⟩ | ⟨k1, k2, k3⟩
        · omega
        · rw [← g1] at k2
          have k4 : A * q ≤ a * q := by omega
          exact Nat.le_of_mul_le_mul_right k4 hq
  refine ⟨h5, h6, fun c e he hen => ?_⟩
  rcases hk c e he hen with g | g
  · exact g
  · exact fn_le_trans h5 h7 he hab g
/-- the component's test: the other neighbour is taken -/
theorem fn_E_take {p q n y w A B a b : Nat} (hq : 0 < q) (h : fn_E p q n y w A B a b) (ht : ¬ (y * b < w * B ∨ (w * B = y * b ∧ (B < b ∨ (B = b ∧ A * q < p * B))))) : fn_Best p q n a b := by
  obtain ⟨hD1, hD2⟩ := fn_E_D h
  have hk := fn_E_any hq h
  obtain ⟨h1, h2, h3, h4, h5, h6, h7, h8, h9, h⟩ := h
  have hab : fn_le p q a b A B := by
    unfold fn_le
    rw [hD1, hD2]
    have t1 : ¬ y * b < w * B := fun g => ht (Or.inl g)
    rcases Nat.lt_or_ge (w * B) (y * b) with g | g
    · exact Or.inl g
    · have ge : w * B = y * b := by omega
      refine Or.inr ⟨ge, ?_⟩
      have t2 : ¬ B < b := fun g => ht (Or.inr ⟨ge, Or.inl g⟩)
      rcases Nat.lt_or_ge b B with g2 | g2
      · exact Or.inl g2
      · have gb : B = b := by omega
        refine Or.inr ⟨gb.symm, ?_⟩
        have t3 : ¬ A * q < p * B := fun g => ht (Or.inr ⟨ge, Or.inr ⟨gb, g⟩⟩)
        rcases h with ⟨k1, k2, k3⟩ | ⟨k1, k2, k3⟩
        · rw [← gb] at k2
          have k4 : a * q ≤ A * q := by omega
          exact Nat.le_of_mul_le_mul_right k4 hq
        · omega
  refine ⟨h7, h8, fun c e he hen => ?_⟩
  rcases hk c e he hen with g | g
  · exact fn_le_trans h7 h5 he hab g
  · exact g
/-! the simplest fraction between two bounds -/
def fn_Simp (a b c d U V : Nat) : Prop := a * V < U * b ∧ U * d < c * V ∧ ∀ f n : Nat, a * n < f * b → f * d < c * n → U ≤ f ∧ V ≤ n
theorem fn_Simp_uniq {a b c d U V U' V' : Nat} (h : fn_Simp a b c d U V) (h' : fn_Simp a b c d U' V') : U = U' ∧ V = V' := by
  have h1 := h.2.2 U' V' h'.1 h'.2.1
  have h2 := h'.2.2 U V h.1 h.2.1
  omega
theorem fn_Simp_stop {a b c d : Nat} (hb : 0 < b) (h : (a / b + 1) * d < c) : fn_Simp a b c d (a / b + 1) 1 := by
  have hx := Nat.div_add_mod a b
  have hm := Nat.mod_lt a hb
  refine ⟨?_, by omega, fun f n h1 h2 => ?_⟩
  · rw [Nat.add_mul, Nat.mul_comm (a / b) b]
    omega
  · have hn : 1 ≤ n := by
      rcases Nat.eq_zero_or_pos n with g | g
      · rw [g, Nat.mul_zero] at h2
        omega
      · exact g
    refine ⟨?_, hn⟩
    have k1 : a ≤ a * n := Nat.le_mul_of_pos_right a hn
    exact (Nat.div_lt_iff_lt_mul hb).mpr (by omega)
/-- both bounds lose the whole part and are turned over -/
theorem fn_Simp_step {a b c d U V : Nat} (hb : 0 < b) (hc : a / b * d ≤ c) (h : fn_Simp d (c - a / b * d) b (a - a / b * b) U V) : fn_Simp a b c d (a / b * U + V) U := by
  have hw : a / b * b ≤ a := Nat.div_mul_le_self a b
  generalize a / b = t at hc h hw ⊢
  obtain ⟨r, hr⟩ : ∃ r, a = t * b + r := ⟨a - t * b, by omega⟩
  obtain ⟨z, hz⟩ : ∃ z, c = t * d + z := ⟨c - t * d, by omega⟩
  have er : a - t * b = r := by omega
  have ez : c - t * d = z := by omega
  rw [er, ez] at h
  obtain ⟨h1, h2, h3⟩ := h
  refine ⟨?_, ?_, fun f n g1 g2 => ?_⟩
  · rw [hr]
    simp only [Nat.mul_add, Nat.add_mul, Nat.mul_comm, Nat.mul_left_comm, Nat.mul_assoc] at h1 h2 ⊢
    omega
  · rw [hz]
    simp only [Nat.mul_add, Nat.add_mul, Nat.mul_comm, Nat.mul_left_comm, Nat.mul_assoc] at h1 h2 ⊢
    omega
  · rw [hr, Nat.add_mul] at g1
    rw [hz, Nat.add_mul] at g2
    have hf : t * n < f := by
      refine Nat.lt_of_mul_lt_mul_right (a := b) ?_
      have k : t * n * b = t * b * n := Nat.mul_right_comm t n b
      omega
    obtain ⟨m, hm⟩ : ∃ m, f = t * n + m := ⟨f - t * n, by omega⟩
    have k1 : d * m < n * z := by
      rw [hm, Nat.add_mul] at g2
      simp only [Nat.mul_comm, Nat.mul_left_comm, Nat.mul_assoc] at g2 ⊢
      omega
    have k2 : n * r < b * m := by
      rw [hm, Nat.add_mul] at g1
      simp only [Nat.mul_comm, Nat.mul_left_comm, Nat.mul_assoc] at g1 ⊢
      omega
    obtain ⟨k3, k4⟩ := h3 n m k1 k2
    refine ⟨?_, k3⟩
    have k5 : t * U ≤ t * n := Nat.mul_le_mul_left t k3
    omega
/-- what a step of the component's loop keeps -/
theorem fn_btw_step {a b c d : Nat} (hb : 0 < b) (h : a * d < c * b) (hn : ¬ (a / b + 1) * d < c) : a / b * d ≤ c ∧ a / b * b ≤ a ∧ 0 < c - a / b * d ∧ c - a / b * d ≤ d ∧ a - a / b * b < b ∧ d * (a - a / b * b) < b * (c - a / b * d) := by
  have hw : a / b * b ≤ a := Nat.div_mul_le_self a b
  have hx := Nat.div_add_mod a b
  have hm := Nat.mod_lt a hb
  rw [Nat.mul_comm b (a / b)] at hx
  rw [Nat.add_mul, Nat.one_mul] at hn
  generalize a / b = t at hn hx hw ⊢
  generalize a % b = r at hx hm
  have hc : t * d < c := by
    refine Nat.lt_of_mul_lt_mul_right (a := b) ?_
    have k : t * b * d ≤ a * d := Nat.mul_le_mul_right d hw
    rw [Nat.mul_right_comm t d b]
    omega
  refine ⟨by omega, hw, by omega, by omega, by omega, ?_⟩
  obtain ⟨z, hz⟩ : ∃ z, c = t * d + z := ⟨c - t * d, by omega⟩
  have er : a - t * b = r := by omega
  have ez : c - t * d = z := by omega
  rw [er, ez]
  rw [hz, ← hx] at h
  simp only [Nat.mul_add, Nat.add_mul, Nat.mul_comm, Nat.mul_left_comm, Nat.mul_assoc] at h ⊢
  omega
/-! the reference's search for it -/
theorem fn_S_found {a b c d n : Nat} (hb : 0 < b) (hn : 1 ≤ n) (ht : (a * n / b + 1) * d < c * n) (hl : ∀ k : Nat, 1 ≤ k → k < n → ¬ (a * k / b + 1) * d < c * k) : fn_Simp a b c d (a * n / b + 1) n := by
  have hx := Nat.div_add_mod (a * n) b
  have hm := Nat.mod_lt (a * n) hb
  refine ⟨?_, ht, fun f k g1 g2 => ?_⟩
  · rw [Nat.add_mul, Nat.mul_comm (a * n / b) b]
    omega
  · have hk : 1 ≤ k := by
      rcases Nat.eq_zero_or_pos k with g | g
      · rw [g, Nat.mul_zero] at g2
        omega
      · exact g
    have hf : a * k / b + 1 ≤ f := (Nat.div_lt_iff_lt_mul hb).mpr g1
    have hkt : (a * k / b + 1) * d < c * k := Nat.lt_of_le_of_lt (Nat.mul_le_mul_right d hf) g2
    have hnk : n ≤ k := by
      rcases Nat.lt_or_ge k n with g | g
      · exact absurd hkt (hl k hk g)
      · exact g
    refine ⟨?_, hnk⟩
    have k1 : a * n / b ≤ a * k / b := Nat.div_le_div_right (Nat.mul_le_mul_left a hnk)
    omega
/-- it is found at b + d at the latest -/
theorem fn_S_med {a b c d : Nat} (hb : 0 < b) (h : a * d < c * b) : (a * (b + d) / b + 1) * d < c * (b + d) := by
  have k1 : a * (b + d) < (a + c) * b := by
    rw [Nat.mul_add, Nat.add_mul]
    omega
  have k2 : a * (b + d) / b + 1 ≤ a + c := (Nat.div_lt_iff_lt_mul hb).mpr k1
  have k3 : (a + c) * d < c * (b + d) := by
    rw [Nat.mul_add, Nat.add_mul]
    omega
  exact Nat.lt_of_le_of_lt (Nat.mul_le_mul_right d k2) k3
/-- no overflow on the way -/
theorem fn_S_small {a b c d n : Nat} (hb : 0 < b) (h : a * d < c * b) : (a * n / b + 1) * d ≤ c * n + d := by
  have k1 : a * n / b * b ≤ a * n := Nat.div_mul_le_self (a * n) b
  rw [Nat.add_mul, Nat.one_mul]
  refine Nat.add_le_add_right ?_ d
  refine Nat.le_of_mul_le_mul_right (c := b) ?_ hb
  have k2 : a * n / b * b * d ≤ a * n * d := Nat.mul_le_mul_right d k1
  have k3 : a * d * n ≤ c * b * n := Nat.mul_le_mul_right n (Nat.le_of_lt h)
  rw [Nat.mul_right_comm (a * n / b) d b, Nat.mul_right_comm c n b]
  rw [Nat.mul_right_comm a n d] at k2
  omega
/-! Euclid's steps -/
def fn_len : Nat → Nat → Nat → Nat
  | 0, _, _ => 0
  | f + 1, x, y => if y = 0 then 0 else fn_len f y (x % y) + 1
theorem fn_len_0 (f x : Nat) : fn_len f x 0 = 0 := by
  cases f with
  | zero => rfl
  | succ f => rfl
theorem fn_len_s (f x : Nat) {y : Nat} (h : ¬ y = 0) : fn_len (f + 1) x y = fn_len f y (x % y) + 1 := if_neg h
end
section
/-! MODULE Made (and Math.abs of a long): its contracts -/
abbrev vwCl : List vw_C := [(RX0, TX0, 3), (RX1, TX1, 4), (RX2, TX2, 4)]
abbrev wsX1_init : List Cond := ws_ yX1_init cX1_init 1 none
abbrev wsX1_begin : List Cond := ws_ yX1_begin cX1_begin 1 none
abbrev wsX1_add : List Cond := ws_ yX1_add cX1_add 7 none
abbrev wsX1_off : List Cond := ws_ yX1_off cX1_off 5 (some .long)
abbrev wsJ0_abs : List Cond := ws_ yJ0_abs cJ0_abs 2 (some .long)
abbrev wsX0_init : List Cond := ws_ yX0_init cX0_init 1 none
abbrev wsX0_load : List Cond := ws_ yX0_load cX0_load 3 none
abbrev wsX0_nearest : List Cond := ws_ yX0_nearest cX0_nearest 19 none
abbrev wsX0_top : List Cond := ws_ yX0_top cX0_top 2 (some .int)
abbrev wsX0_bottom : List Cond := ws_ yX0_bottom cX0_bottom 2 (some .int)
abbrev wsX0_between : List Cond := ws_ yX0_between cX0_between 19 (some .boolean)
abbrev wsX0_simplest : List Cond := ws_ yX0_simplest cX0_simplest 5 (some .int)
abbrev wsX0_under : List Cond := ws_ yX0_under cX0_under 5 (some .int)
abbrev wsX0_depth : List Cond := ws_ yX0_depth cX0_depth 5 (some .int)
abbrev wsX2_init : List Cond := ws_ yX2_init cX2_init 1 none
abbrev wsX2_load : List Cond := ws_ yX2_load cX2_load 3 none
abbrev wsX2_better : List Cond := ws_ yX2_better cX2_better 9 (some .boolean)
abbrev wsX2_seek : List Cond := ws_ yX2_seek cX2_seek 5 none
abbrev wsX2_top : List Cond := ws_ yX2_top cX2_top 2 (some .int)
abbrev wsX2_bottom : List Cond := ws_ yX2_bottom cX2_bottom 2 (some .int)
abbrev wsX2_simple : List Cond := ws_ yX2_simple cX2_simple 11 (some .boolean)
abbrev wsX2_simplest : List Cond := ws_ yX2_simplest cX2_simplest 5 (some .int)
abbrev wsX2_under : List Cond := ws_ yX2_under cX2_under 5 (some .int)
abbrev wsX2_depth : List Cond := ws_ yX2_depth cX2_depth 5 (some .int)
/-- what the cells are behind a method of Made -/
abbrev BM (dC : Nat → ClassId) (dI : Nat → Nat → Nat) (A : Nat → Prop) (h1 : Nat) (u : Int64 × Int64 × Int64 × Int64) (t : State) : Prop := match u with
  | (a, b, c, d) => va_P (dC, dI) vwCl [(h1, .inr (1, [.long a, .long b, .long c, .long d]))] t.heap ∧ va_K (dC, dI) vwCl [] t ∧ va_D A [(h1, .inr (1, [.long a, .long b, .long c, .long d]))]
abbrev BU (dC : Nat → ClassId) (dI : Nat → Nat → Nat) (A : Nat → Prop) (_ : Unit) (t : State) : Prop := va_P (dC, dI) vwCl [] t.heap ∧ va_K (dC, dI) vwCl [] t ∧ va_D A []
set_option maxHeartbeats 4000000 in
set_option maxRecDepth 100000 in
/-- Made(): the fields stay -/
theorem metX1_init (l : Launch) (dC : Nat → ClassId) (dI : Nat → Nat → Nat) (h1 sz : Nat) (f0 f1 f2 f3 : Int64) : Met l yX1_init wsX1_init ({ frames := 1, cells := 0, slots := 0, locals := 12 }) (va_Pc [.ref h1] (fun U => U.heap.size = sz ∧ va_P (dC, dI) vwCl [(h1, .inr (1, [.long f0, .long f1, .long f2, .long f3]))] U.heap ∧ va_K (dC, dI) vwCl [] U ∧ va_D (fun _ => True) [(h1, .inr (1, [.long f0, .long f1, .long f2, .long f3]))])) (va_Qv (fun u : Int64 × Int64 × Int64 × Int64 => u = (f0, f1, f2, f3)) (BM dC dI (va_A [(h1, .inr (1, [.long f0, .long f1, .long f2, .long f3]))] sz) h1) (va_A [(h1, .inr (1, [.long f0, .long f1, .long f2, .long f3]))] sz)) 0 0 (va_A [(h1, .inr (1, [.long f0, .long f1, .long f2, .long f3]))] sz) := by
  refine Met.ofW (cc := cX1_init) (maxL := 1) (ret := none) (by decide) rfl ?_
  intro p e s m args below meth c s₁ B hml hv
  obtain ⟨rfl, hsz, hP, hK, hD0⟩ := hv
  have hx := B.exec
  have hb := B.bytes
  have hr := B.returns
  have hts := atoms_spec (ws := wsX1_init) B.pre
  have hts : ∀ w ∈ lw_all, w.before _ s = true := fun w h => hts w (List.mem_cons_of_mem _ h)
  have hown : s.vm.findClass RX1 = some m.cls := findClass_of_methodNamed B.named
  have hlocks := B.notSynchronized
  have hin : meth.name = "<init>" := (name_of_methodNamed B.named B.method).1
  subst hsz
  have hD := hD0.self (sz := s.heap.size)
  generalize hAe : va_A [(h1, .inr (1, [.long f0, .long f1, .long f2, .long f3]))] s.heap.size = A at hD ⊢
  have hA : ∀ q : Nat, s.heap.size ≤ q → A q := fun q h => by rw [← hAe]; exact Or.inr h
  have hS : va_S A s.heap s.heap [] := va_S.rf
  have hP : va_P (dC, dI) vwCl [(h1, .inr (1, [.long f0, .long f1, .long f2, .long f3]))] s.heap := hP
  have hl := lv_entry ([.ref h1]) (n := 1) (Nat.le_of_ble_eq_true rfl)
  rw [lg_entry_eq]
  generalize (lg_sl ([.ref h1]) ++ List.replicate (1 - (lg_sl ([.ref h1])).length) Slot.unset).toArray = ls at hl ⊢
  have hl : lv_has ls 1 [(0, .ref h1)] := hl
  refine lv_aload_n hx hb dX1_init_0 rfl (lv_at hl 0 rfl) ?_
  refine W.objInit hx hb hown (hts _ q23) (hts _ q16) (hts _ q17) rfl (by rw [hml]; exact hl.1) rfl dX1_init_1 (Nat.le_of_ble_eq_true rfl) (Nat.le_of_ble_eq_true rfl) ?_
  refine W.eq (g2 := F0 m 4 ls []) rfl ?_
  have hP9 := hP.sub (ws' := [(h1, .inr (1, [.long f0, .long f1, .long f2, .long f3]))]) [0] rfl
  have hD9 := hD.sub (ws' := [(h1, .inr (1, [.long f0, .long f1, .long f2, .long f3]))]) [0] (by decide) rfl
  have hK9 := hK.sub (tys' := []) [] rfl
  exact W.vret hx hb hr (fun t ht hW => ⟨⟨(f0, f1, f2, f3), rfl, rfl, by rw [ht]; exact hP9, va_K.moved hW.alike hK9, hD9⟩, hS.F ht⟩) hS.2.2 dX1_init_4
set_option maxHeartbeats 4000000 in
set_option maxRecDepth 100000 in
/-- begin(): 1/0 and 0/1 -/
theorem metX1_begin (l : Launch) (dC : Nat → ClassId) (dI : Nat → Nat → Nat) (h1 sz : Nat) (f0 f1 f2 f3 : Int64) : Met l yX1_begin wsX1_begin ({ frames := 0, cells := 0, slots := 0, locals := 0 }) (va_Pc [.ref h1] (fun U => U.heap.size = sz ∧ va_P (dC, dI) vwCl [(h1, .inr (1, [.long f0, .long f1, .long f2, .long f3]))] U.heap ∧ va_K (dC, dI) vwCl [] U ∧ va_D (fun _ => True) [(h1, .inr (1, [.long f0, .long f1, .long f2, .long f3]))])) (va_Qv (fun u : Int64 × Int64 × Int64 × Int64 => u = (lN 1, lN 0, lN 0, lN 1)) (BM dC dI (va_A [(h1, .inr (1, [.long f0, .long f1, .long f2, .long f3]))] sz) h1) (va_A [(h1, .inr (1, [.long f0, .long f1, .long f2, .long f3]))] sz)) 0 0 (va_A [(h1, .inr (1, [.long f0, .long f1, .long f2, .long f3]))] sz) := by
  refine Met.ofW (cc := cX1_begin) (maxL := 1) (ret := none) (by decide) rfl ?_
  intro p e s m args below meth c s₁ B hml hv
  obtain ⟨rfl, hsz, hP, hK, hD0⟩ := hv
  have hx := B.exec
  have hb := B.bytes
  have hr := B.returns
  have hts := atoms_spec (ws := wsX1_begin) B.pre
  have hts : ∀ w ∈ lw_all, w.before _ s = true := fun w h => hts w (List.mem_cons_of_mem _ h)
  have hown : s.vm.findClass RX1 = some m.cls := findClass_of_methodNamed B.named
  have hlocks := B.notSynchronized
  subst hsz
  have hD := hD0.self (sz := s.heap.size)
  generalize hAe : va_A [(h1, .inr (1, [.long f0, .long f1, .long f2, .long f3]))] s.heap.size = A at hD ⊢
  have hA : ∀ q : Nat, s.heap.size ≤ q → A q := fun q h => by rw [← hAe]; exact Or.inr h
  have hS : va_S A s.heap s.heap [] := va_S.rf
  have hP : va_P (dC, dI) vwCl [(h1, .inr (1, [.long f0, .long f1, .long f2, .long f3]))] s.heap := hP
  have hl := lv_entry ([.ref h1]) (n := 1) (Nat.le_of_ble_eq_true rfl)
  rw [lg_entry_eq]
  generalize (lg_sl ([.ref h1]) ++ List.replicate (1 - (lg_sl ([.ref h1])).length) Slot.unset).toArray = ls at hl ⊢
  have hl : lv_has ls 1 [(0, .ref h1)] := hl
  refine lv_aload_n hx hb dX1_begin_0 rfl (lv_at hl 0 rfl) ?_
  refine lv_lconst (v := lN 1) hx hb dX1_begin_1 rfl ?_
  refine va_put (D := (dC, dI)) (ci := 1) (v := .long (lN 1)) (ty := .long) (C := RX1) (T := TX1) (N := 4) hx hb hts in_X1 tyX1 tyX1_ok nmX1 hown hK hP hD hS 0 rfl rfl 0 (by decide) (hts _ q24) (fun _ h9 => h9) rfl (by decide +kernel) rfl rfl (Nat.le_of_ble_eq_true rfl) dX1_begin_2 (fun H locs hP hD hS => ?_)
  have hP : va_P (dC, dI) vwCl [(h1, .inr (1, [.long (lN 1), .long f1, .long f2, .long f3]))] H := hP
  have hD : va_D A [(h1, .inr (1, [.long (lN 1), .long f1, .long f2, .long f3]))] := hD
  refine lv_aload_n hx hb dX1_begin_5 rfl (lv_at hl 0 rfl) ?_
  refine lv_lconst (v := lN 0) hx hb dX1_begin_6 rfl ?_
  refine va_put (D := (dC, dI)) (ci := 1) (v := .long (lN 0)) (ty := .long) (C := RX1) (T := TX1) (N := 4) hx hb hts in_X1 tyX1 tyX1_ok nmX1 hown hK hP hD hS 0 rfl rfl 1 (by decide) (hts _ q26) (fun _ h9 => h9) rfl (by decide +kernel) rfl rfl (Nat.le_of_ble_eq_true rfl) dX1_begin_7 (fun H locs hP hD hS => ?_)
  have hP : va_P (dC, dI) vwCl [(h1, .inr (1, [.long (lN 1), .long (lN 0), .long f2, .long f3]))] H := hP
  have hD : va_D A [(h1, .inr (1, [.long (lN 1), .long (lN 0), .long f2, .long f3]))] := hD
  refine lv_aload_n hx hb dX1_begin_10 rfl (lv_at hl 0 rfl) ?_
  refine lv_lconst (v := lN 0) hx hb dX1_begin_11 rfl ?_
  refine va_put (D := (dC, dI)) (ci := 1) (v := .long (lN 0)) (ty := .long) (C := RX1) (T := TX1) (N := 4) hx hb hts in_X1 tyX1 tyX1_ok nmX1 hown hK hP hD hS 0 rfl rfl 2 (by decide) (hts _ q28) (fun _ h9 => h9) rfl (by decide +kernel) rfl rfl (Nat.le_of_ble_eq_true rfl) dX1_begin_12 (fun H locs hP hD hS => ?_)
  have hP : va_P (dC, dI) vwCl [(h1, .inr (1, [.long (lN 1), .long (lN 0), .long (lN 0), .long f3]))] H := hP
  have hD : va_D A [(h1, .inr (1, [.long (lN 1), .long (lN 0), .long (lN 0), .long f3]))] := hD
  refine lv_aload_n hx hb dX1_begin_15 rfl (lv_at hl 0 rfl) ?_
  refine lv_lconst (v := lN 1) hx hb dX1_begin_16 rfl ?_
  refine va_put (D := (dC, dI)) (ci := 1) (v := .long (lN 1)) (ty := .long) (C := RX1) (T := TX1) (N := 4) hx hb hts in_X1 tyX1 tyX1_ok nmX1 hown hK hP hD hS 0 rfl rfl 3 (by decide) (hts _ q30) (fun _ h9 => h9) rfl (by decide +kernel) rfl rfl (Nat.le_of_ble_eq_true rfl) dX1_begin_17 (fun H locs hP hD hS => ?_)
  have hP : va_P (dC, dI) vwCl [(h1, .inr (1, [.long (lN 1), .long (lN 0), .long (lN 0), .long (lN 1)]))] H := hP
  have hD : va_D A [(h1, .inr (1, [.long (lN 1), .long (lN 0), .long (lN 0), .long (lN 1)]))] := hD
  have hP9 := hP.sub (ws' := [(h1, .inr (1, [.long (lN 1), .long (lN 0), .long (lN 0), .long (lN 1)]))]) [0] rfl
  have hD9 := hD.sub (ws' := [(h1, .inr (1, [.long (lN 1), .long (lN 0), .long (lN 0), .long (lN 1)]))]) [0] (by decide) rfl
  have hK9 := hK.sub (tys' := []) [] rfl
  exact W.vret hx hb hr (fun t ht hW => ⟨⟨(lN 1, lN 0, lN 0, lN 1), rfl, rfl, by rw [ht]; exact hP9, va_K.moved hW.alike hK9, hD9⟩, hS.F ht⟩) hS.2.2 dX1_begin_20
set_option maxHeartbeats 4000000 in
set_option maxRecDepth 100000 in
/-- add(t): the next of the fractions -/
theorem metX1_add (l : Launch) (dC : Nat → ClassId) (dI : Nat → Nat → Nat) (h1 sz : Nat) (nA nB nC nD nt : Nat) : Met l yX1_add wsX1_add ({ frames := 0, cells := 0, slots := 0, locals := 0 }) (va_Pc [.ref h1, .long (lN nt)] (fun U => U.heap.size = sz ∧ va_P (dC, dI) vwCl [(h1, .inr (1, [.long (lN nA), .long (lN nB), .long (lN nC), .long (lN nD)]))] U.heap ∧ va_K (dC, dI) vwCl [] U ∧ va_D (fun _ => True) [(h1, .inr (1, [.long (lN nA), .long (lN nB), .long (lN nC), .long (lN nD)]))])) (va_Qv (fun u : Int64 × Int64 × Int64 × Int64 => u = (lN (nt * nA + nC), lN (nt * nB + nD), lN nA, lN nB)) (BM dC dI (va_A [(h1, .inr (1, [.long (lN nA), .long (lN nB), .long (lN nC), .long (lN nD)]))] sz) h1) (va_A [(h1, .inr (1, [.long (lN nA), .long (lN nB), .long (lN nC), .long (lN nD)]))] sz)) 0 0 (va_A [(h1, .inr (1, [.long (lN nA), .long (lN nB), .long (lN nC), .long (lN nD)]))] sz) := by
  refine Met.ofW (cc := cX1_add) (maxL := 7) (ret := none) (by decide) rfl ?_
  intro p e s m args below meth c s₁ B hml hv
  obtain ⟨rfl, hsz, hP, hK, hD0⟩ := hv
  have hx := B.exec
  have hb := B.bytes
  have hr := B.returns
  have hts := atoms_spec (ws := wsX1_add) B.pre
  have hts : ∀ w ∈ lw_all, w.before _ s = true := fun w h => hts w (List.mem_cons_of_mem _ h)
  have hown : s.vm.findClass RX1 = some m.cls := findClass_of_methodNamed B.named
  have hlocks := B.notSynchronized
  subst hsz
  have hD := hD0.self (sz := s.heap.size)
  generalize hAe : va_A [(h1, .inr (1, [.long (lN nA), .long (lN nB), .long (lN nC), .long (lN nD)]))] s.heap.size = A at hD ⊢
  have hA : ∀ q : Nat, s.heap.size ≤ q → A q := fun q h => by rw [← hAe]; exact Or.inr h
  have hS : va_S A s.heap s.heap [] := va_S.rf
  have hP : va_P (dC, dI) vwCl [(h1, .inr (1, [.long (lN nA), .long (lN nB), .long (lN nC), .long (lN nD)]))] s.heap := hP
  have hl := lv_entry ([.ref h1, .long (lN nt)]) (n := 7) (Nat.le_of_ble_eq_true rfl)
  rw [lg_entry_eq]
  generalize (lg_sl ([.ref h1, .long (lN nt)]) ++ List.replicate (7 - (lg_sl ([.ref h1, .long (lN nt)])).length) Slot.unset).toArray = ls at hl ⊢
  have hl : lv_has ls 7 [(0, .ref h1), (1, .long (lN nt))] := hl
  refine lv_lload_n hx hb dX1_add_0 rfl (lv_at hl 1 rfl) ?_
  refine lv_aload_n hx hb dX1_add_1 rfl (lv_at hl 0 rfl) ?_
  refine va_get (D := (dC, dI)) (ci := 1) (v := .long (lN nA)) (C := RX1) (T := TX1) (N := 4) hx hb hts in_X1 hown hK hP 0 rfl rfl 0 (by decide) (hts _ q24) (fun _ h9 => h9) rfl dX1_add_2 ?_
  refine nr_lmul hx hb dX1_add_5 ?_
  refine lv_aload_n hx hb dX1_add_6 rfl (lv_at hl 0 rfl) ?_
  refine va_get (D := (dC, dI)) (ci := 1) (v := .long (lN nC)) (C := RX1) (T := TX1) (N := 4) hx hb hts in_X1 hown hK hP 0 rfl rfl 2 (by decide) (hts _ q28) (fun _ h9 => h9) rfl dX1_add_7 ?_
  refine nr_ladd hx hb dX1_add_10 ?_
  refine lv_lstore_n (lv' := [(3, .long (lN ((nt * nA) + nC))), (0, .ref h1), (1, .long (lN nt))]) hx hb dX1_add_11 rfl hl (by decide) rfl (fun ls hl => ?_)
  refine lv_lload_n hx hb dX1_add_12 rfl (lv_at hl 2 rfl) ?_
  refine lv_aload_n hx hb dX1_add_13 rfl (lv_at hl 1 rfl) ?_
  refine va_get (D := (dC, dI)) (ci := 1) (v := .long (lN nB)) (C := RX1) (T := TX1) (N := 4) hx hb hts in_X1 hown hK hP 0 rfl rfl 1 (by decide) (hts _ q26) (fun _ h9 => h9) rfl dX1_add_14 ?_
  refine nr_lmul hx hb dX1_add_17 ?_
  refine lv_aload_n hx hb dX1_add_18 rfl (lv_at hl 1 rfl) ?_
  refine va_get (D := (dC, dI)) (ci := 1) (v := .long (lN nD)) (C := RX1) (T := TX1) (N := 4) hx hb hts in_X1 hown hK hP 0 rfl rfl 3 (by decide) (hts _ q30) (fun _ h9 => h9) rfl dX1_add_19 ?_
  refine nr_ladd hx hb dX1_add_22 ?_
  refine lv_lstore (lv' := [(5, .long (lN ((nt * nB) + nD))), (3, .long (lN ((nt * nA) + nC))), (0, .ref h1), (1, .long (lN nt))]) hx hb dX1_add_23 hl (by decide) rfl (fun ls hl => ?_)
  refine lv_aload_n hx hb dX1_add_25 rfl (lv_at hl 2 rfl) ?_
  refine lv_aload_n hx hb dX1_add_26 rfl (lv_at hl 2 rfl) ?_
  refine va_get (D := (dC, dI)) (ci := 1) (v := .long (lN nA)) (C := RX1) (T := TX1) (N := 4) hx hb hts in_X1 hown hK hP 0 rfl rfl 0 (by decide) (hts _ q24) (fun _ h9 => h9) rfl dX1_add_27 ?_
  refine va_put (D := (dC, dI)) (ci := 1) (v := .long (lN nA)) (ty := .long) (C := RX1) (T := TX1) (N := 4) hx hb hts in_X1 tyX1 tyX1_ok nmX1 hown hK hP hD hS 0 rfl rfl 2 (by decide) (hts _ q28) (fun _ h9 => h9) rfl (by decide +kernel) rfl rfl (Nat.le_of_ble_eq_true rfl) dX1_add_30 (fun H locs hP hD hS => ?_)
  have hP : va_P (dC, dI) vwCl [(h1, .inr (1, [.long (lN nA), .long (lN nB), .long (lN nA), .long (lN nD)]))] H := hP
  have hD : va_D A [(h1, .inr (1, [.long (lN nA), .long (lN nB), .long (lN nA), .long (lN nD)]))] := hD
  refine lv_aload_n hx hb dX1_add_33 rfl (lv_at hl 2 rfl) ?_
  refine lv_aload_n hx hb dX1_add_34 rfl (lv_at hl 2 rfl) ?_
  refine va_get (D := (dC, dI)) (ci := 1) (v := .long (lN nB)) (C := RX1) (T := TX1) (N := 4) hx hb hts in_X1 hown hK hP 0 rfl rfl 1 (by decide) (hts _ q26) (fun _ h9 => h9) rfl dX1_add_35 ?_
  refine va_put (D := (dC, dI)) (ci := 1) (v := .long (lN nB)) (ty := .long) (C := RX1) (T := TX1) (N := 4) hx hb hts in_X1 tyX1 tyX1_ok nmX1 hown hK hP hD hS 0 rfl rfl 3 (by decide) (hts _ q30) (fun _ h9 => h9) rfl (by decide +kernel) rfl rfl (Nat.le_of_ble_eq_true rfl) dX1_add_38 (fun H locs hP hD hS => ?_)
  have hP : va_P (dC, dI) vwCl [(h1, .inr (1, [.long (lN nA), .long (lN nB), .long (lN nA), .long (lN nB)]))] H := hP
  have hD : va_D A [(h1, .inr (1, [.long (lN nA), .long (lN nB), .long (lN nA), .long (lN nB)]))] := hD
  refine lv_aload_n hx hb dX1_add_41 rfl (lv_at hl 2 rfl) ?_
  refine lv_lload_n hx hb dX1_add_42 rfl (lv_at hl 1 rfl) ?_
  refine va_put (D := (dC, dI)) (ci := 1) (v := .long (lN ((nt * nA) + nC))) (ty := .long) (C := RX1) (T := TX1) (N := 4) hx hb hts in_X1 tyX1 tyX1_ok nmX1 hown hK hP hD hS 0 rfl rfl 0 (by decide) (hts _ q24) (fun _ h9 => h9) rfl (by decide +kernel) rfl rfl (Nat.le_of_ble_eq_true rfl) dX1_add_43 (fun H locs hP hD hS => ?_)
  have hP : va_P (dC, dI) vwCl [(h1, .inr (1, [.long (lN ((nt * nA) + nC)), .long (lN nB), .long (lN nA), .long (lN nB)]))] H := hP
  have hD : va_D A [(h1, .inr (1, [.long (lN ((nt * nA) + nC)), .long (lN nB), .long (lN nA), .long (lN nB)]))] := hD
  refine lv_aload_n hx hb dX1_add_46 rfl (lv_at hl 2 rfl) ?_
  refine lv_lload hx hb dX1_add_47 (lv_at hl 0 rfl) ?_
  refine va_put (D := (dC, dI)) (ci := 1) (v := .long (lN ((nt * nB) + nD))) (ty := .long) (C := RX1) (T := TX1) (N := 4) hx hb hts in_X1 tyX1 tyX1_ok nmX1 hown hK hP hD hS 0 rfl rfl 1 (by decide) (hts _ q26) (fun _ h9 => h9) rfl (by decide +kernel) rfl rfl (Nat.le_of_ble_eq_true rfl) dX1_add_49 (fun H locs hP hD hS => ?_)
  have hP : va_P (dC, dI) vwCl [(h1, .inr (1, [.long (lN ((nt * nA) + nC)), .long (lN ((nt * nB) + nD)), .long (lN nA), .long (lN nB)]))] H := hP
  have hD : va_D A [(h1, .inr (1, [.long (lN ((nt * nA) + nC)), .long (lN ((nt * nB) + nD)), .long (lN nA), .long (lN nB)]))] := hD
  have hP9 := hP.sub (ws' := [(h1, .inr (1, [.long (lN ((nt * nA) + nC)), .long (lN ((nt * nB) + nD)), .long (lN nA), .long (lN nB)]))]) [0] rfl
  have hD9 := hD.sub (ws' := [(h1, .inr (1, [.long (lN ((nt * nA) + nC)), .long (lN ((nt * nB) + nD)), .long (lN nA), .long (lN nB)]))]) [0] (by decide) rfl
  have hK9 := hK.sub (tys' := []) [] rfl
  exact W.vret hx hb hr (fun t ht hW => ⟨⟨(lN (nt * nA + nC), lN (nt * nB + nD), lN nA, lN nB), rfl, rfl, by rw [ht]; exact hP9, va_K.moved hW.alike hK9, hD9⟩, hS.F ht⟩) hS.2.2 dX1_add_52
set_option maxHeartbeats 4000000 in
set_option maxRecDepth 100000 in
/-- off(x, y): above * y - x * below -/
theorem metX1_off (l : Launch) (dC : Nat → ClassId) (dI : Nat → Nat → Nat) (h1 sz : Nat) (nA nB : Nat) (f2 f3 : Int64) (nx ny : Nat) : Met l yX1_off wsX1_off ({ frames := 0, cells := 0, slots := 0, locals := 0 }) (va_Pc [.ref h1, .long (lN nx), .long (lN ny)] (fun U => U.heap.size = sz ∧ va_P (dC, dI) vwCl [(h1, .inr (1, [.long (lN nA), .long (lN nB), .long f2, .long f3]))] U.heap ∧ va_K (dC, dI) vwCl [] U ∧ va_D (fun _ => True) [(h1, .inr (1, [.long (lN nA), .long (lN nB), .long f2, .long f3]))])) (va_Ql (fun (r : Int64) (u : Int64 × Int64 × Int64 × Int64) => r = lN (nA * ny) - lN (nx * nB) ∧ u = (lN nA, lN nB, f2, f3)) (BM dC dI (va_A [(h1, .inr (1, [.long (lN nA), .long (lN nB), .long f2, .long f3]))] sz) h1) (va_A [(h1, .inr (1, [.long (lN nA), .long (lN nB), .long f2, .long f3]))] sz)) 0 0 (va_A [(h1, .inr (1, [.long (lN nA), .long (lN nB), .long f2, .long f3]))] sz) := by
  refine Met.ofW (cc := cX1_off) (maxL := 5) (ret := (some .long)) (by decide) rfl ?_
  intro p e s m args below meth c s₁ B hml hv
  obtain ⟨rfl, hsz, hP, hK, hD0⟩ := hv
  have hx := B.exec
  have hb := B.bytes
  have hr := B.returns
  have hts := atoms_spec (ws := wsX1_off) B.pre
  have hts : ∀ w ∈ lw_all, w.before _ s = true := fun w h => hts w (List.mem_cons_of_mem _ h)
  have hown : s.vm.findClass RX1 = some m.cls := findClass_of_methodNamed B.named
  have hlocks := B.notSynchronized
  subst hsz
  have hD := hD0.self (sz := s.heap.size)
  generalize hAe : va_A [(h1, .inr (1, [.long (lN nA), .long (lN nB), .long f2, .long f3]))] s.heap.size = A at hD ⊢
  have hA : ∀ q : Nat, s.heap.size ≤ q → A q := fun q h => by rw [← hAe]; exact Or.inr h
  have hS : va_S A s.heap s.heap [] := va_S.rf
  have hP : va_P (dC, dI) vwCl [(h1, .inr (1, [.long (lN nA), .long (lN nB), .long f2, .long f3]))] s.heap := hP
  have hl := lv_entry ([.ref h1, .long (lN nx), .long (lN ny)]) (n := 5) (Nat.le_of_ble_eq_true rfl)
  rw [lg_entry_eq]
  generalize (lg_sl ([.ref h1, .long (lN nx), .long (lN ny)]) ++ List.replicate (5 - (lg_sl ([.ref h1, .long (lN nx), .long (lN ny)])).length) Slot.unset).toArray = ls at hl ⊢
  have hl : lv_has ls 5 [(0, .ref h1), (1, .long (lN nx)), (3, .long (lN ny))] := hl
  refine lv_aload_n hx hb dX1_off_0 rfl (lv_at hl 0 rfl) ?_
  refine va_get (D := (dC, dI)) (ci := 1) (v := .long (lN nA)) (C := RX1) (T := TX1) (N := 4) hx hb hts in_X1 hown hK hP 0 rfl rfl 0 (by decide) (hts _ q24) (fun _ h9 => h9) rfl dX1_off_1 ?_
  refine lv_lload_n hx hb dX1_off_4 rfl (lv_at hl 2 rfl) ?_
  refine nr_lmul hx hb dX1_off_5 ?_
  refine lv_lload_n hx hb dX1_off_6 rfl (lv_at hl 1 rfl) ?_
  refine lv_aload_n hx hb dX1_off_7 rfl (lv_at hl 0 rfl) ?_
  refine va_get (D := (dC, dI)) (ci := 1) (v := .long (lN nB)) (C := RX1) (T := TX1) (N := 4) hx hb hts in_X1 hown hK hP 0 rfl rfl 1 (by decide) (hts _ q26) (fun _ h9 => h9) rfl dX1_off_8 ?_
  refine nr_lmul hx hb dX1_off_11 ?_
  refine lv_lsub hx hb dX1_off_12 ?_
  have hP9 := hP.sub (ws' := [(h1, .inr (1, [.long (lN nA), .long (lN nB), .long f2, .long f3]))]) [0] rfl
  have hD9 := hD.sub (ws' := [(h1, .inr (1, [.long (lN nA), .long (lN nB), .long f2, .long f3]))]) [0] (by decide) rfl
  have hK9 := hK.sub (tys' := []) [] rfl
  exact W.lret (v := lN (nA * ny) - lN (nx * nB)) hx hb hr (fun t ht hW => ⟨⟨lN (nA * ny) - lN (nx * nB), (lN nA, lN nB, f2, f3), rfl, ⟨rfl, rfl⟩, by rw [ht]; exact hP9, va_K.moved hW.alike hK9, hD9⟩, hS.F ht⟩) hS.2.2 dX1_off_13
set_option maxHeartbeats 4000000 in
set_option maxRecDepth 100000 in
/-- Math.abs -/
theorem metJ0_abs (l : Launch) (dC : Nat → ClassId) (dI : Nat → Nat → Nat) (sz : Nat) (x0 : Int64) : Met l yJ0_abs wsJ0_abs ({ frames := 0, cells := 0, slots := 0, locals := 0 }) (va_Pc [.long x0] (fun U => U.heap.size = sz ∧ va_P (dC, dI) vwCl [] U.heap ∧ va_K (dC, dI) vwCl [] U ∧ va_D (fun _ => True) [])) (va_Ql (fun (r : Int64) (_ : Unit) => r = if x0 < 0 then -x0 else x0) (BU dC dI (va_A [] sz)) (va_A [] sz)) 0 0 (va_A [] sz) := by
  refine va_MetF (cc := cJ0_abs) (maxL := 2) (ret := (some .long)) (by decide +kernel) rfl ?_
  intro p e s m args below meth c s₁ B hml hv
  obtain ⟨rfl, hsz, hP, hK, hD0⟩ := hv
  have hx := B.exec
  have hb := B.bytes
  have hr := B.returns
  have hts := atoms_spec (ws := wsJ0_abs) B.pre
  have hts : ∀ w ∈ lw_all, w.before _ s = true := fun w h => hts w (List.mem_cons_of_mem _ h)
  have hown : s.vm.findClass RJ0 = some m.cls := findClass_of_methodNamed B.named
  have hlocks := B.notSynchronized
  subst hsz
  have hD := hD0.self (sz := s.heap.size)
  generalize hAe : va_A [] s.heap.size = A at hD ⊢
  have hA : ∀ q : Nat, s.heap.size ≤ q → A q := fun q h => by rw [← hAe]; exact Or.inr h
  have hS : va_S A s.heap s.heap [] := va_S.rf
  have hP : va_P (dC, dI) vwCl [] s.heap := hP
  have hl := lv_entry ([.long x0]) (n := 2) (Nat.le_of_ble_eq_true rfl)
  rw [lg_entry_eq]
  generalize (lg_sl ([.long x0]) ++ List.replicate (2 - (lg_sl ([.long x0])).length) Slot.unset).toArray = ls at hl ⊢
  have hl : lv_has ls 2 [(0, .long x0)] := hl
  refine lv_lload_n hx hb dJ0_abs_0 rfl (lv_at hl 0 rfl) ?_
  refine lv_lconst (v := lN 0) hx hb dJ0_abs_1 rfl ?_
  refine nq_ge (tgt := 11) hx hb dJ0_abs_2 dJ0_abs_3 (by decide) (fun c_2 => ?_) (fun c_2 => ?_)
  · refine lv_lload_n hx hb dJ0_abs_11 rfl (lv_at hl 0 rfl) ?_
    have hP9 := hP.sub (ws' := []) [] rfl
    have hD9 := hD.sub (ws' := []) [] (by decide) rfl
    have hK9 := hK.sub (tys' := []) [] rfl
    exact W.lret (v := x0) hx hb hr (fun t ht hW => ⟨⟨x0, (), rfl, (if_neg (fun g => Int64.not_le.mpr g c_2)).symm, by rw [ht]; exact hP9, va_K.moved hW.alike hK9, hD9⟩, hS.F ht⟩) hS.2.2 dJ0_abs_12
  · refine lv_lload_n hx hb dJ0_abs_6 rfl (lv_at hl 0 rfl) ?_
    refine lv_lneg hx hb dJ0_abs_7 ?_
    refine lv_goto (tgt := 12) hx hb dJ0_abs_8 (by decide) ?_
    have hP9 := hP.sub (ws' := []) [] rfl
    have hD9 := hD.sub (ws' := []) [] (by decide) rfl
    have hK9 := hK.sub (tys' := []) [] rfl
    exact W.lret (v := -x0) hx hb hr (fun t ht hW => ⟨⟨-x0, (), rfl, (if_pos (Int64.not_le.mp c_2)).symm, by rw [ht]; exact hP9, va_K.moved hW.alike hK9, hD9⟩, hS.F ht⟩) hS.2.2 dJ0_abs_12
end
section
/-! MODULE FractionNear: its constructor, load, depth -/
/-- the cell of FractionNear alone -/
abbrev BF (dC : Nat → ClassId) (dI : Nat → Nat → Nat) (A : Nat → Prop) (h0 h1 : Nat) (u : Int32 × Int32) (t : State) : Prop := match u with
  | (a, b) => va_P (dC, dI) vwCl [(h0, .inr (0, [.ref h1, .int a, .int b]))] t.heap ∧ va_K (dC, dI) vwCl [] t ∧ va_D A [(h0, .inr (0, [.ref h1, .int a, .int b]))]
/-- the cells of FractionNear and its Made -/
abbrev BFM (dC : Nat → ClassId) (dI : Nat → Nat → Nat) (A : Nat → Prop) (h0 h1 : Nat) (fa fb : Int32) (u : Int64 × Int64 × Int64 × Int64) (t : State) : Prop := match u with
  | (a, b, c, d) => va_P (dC, dI) vwCl [(h0, .inr (0, [.ref h1, .int fa, .int fb])), (h1, .inr (1, [.long a, .long b, .long c, .long d]))] t.heap ∧ va_K (dC, dI) vwCl [] t ∧ va_D A [(h0, .inr (0, [.ref h1, .int fa, .int fb])), (h1, .inr (1, [.long a, .long b, .long c, .long d]))]
/-- the cells behind the constructor -/
abbrev BFI (dC : Nat → ClassId) (dI : Nat → Nat → Nat) (A : Nat → Prop) (h0 : Nat) (_ : Unit) (t : State) : Prop := ∃ h1 : Nat, va_P (dC, dI) vwCl [(h0, .inr (0, [.ref h1, .int (nI 0), .int (nI 1)])), (h1, .inr (1, [.long 0, .long 0, .long 0, .long 0]))] t.heap ∧ va_K (dC, dI) vwCl [] t ∧ va_D A [(h0, .inr (0, [.ref h1, .int (nI 0), .int (nI 1)])), (h1, .inr (1, [.long 0, .long 0, .long 0, .long 0]))]
set_option maxHeartbeats 4000000 in
set_option maxRecDepth 100000 in
/-- FractionNear(): 0/1, and a new Made -/
theorem metX0_init (l : Launch) (dC : Nat → ClassId) (dI : Nat → Nat → Nat) (h0 sz : Nat) : Met l yX0_init wsX0_init ({ frames := 2, cells := 1, slots := 4, locals := 32 }) (va_Pc [.ref h0] (fun U => U.heap.size = sz ∧ va_P (dC, dI) vwCl [(h0, .inr (0, [.null, .int (nI 0), .int (nI 0)]))] U.heap ∧ va_K (dC, dI) vwCl [] U ∧ va_D (fun _ => True) [(h0, .inr (0, [.null, .int (nI 0), .int (nI 0)]))] ∧ va_Nw (.methodLinkNest RX0 9 yX1_init "FractionNear") U)) (va_Qv (fun _ : Unit => True) (BFI dC dI (va_A [(h0, .inr (0, [.null, .int (nI 0), .int (nI 0)]))] sz) h0) (va_A [(h0, .inr (0, [.null, .int (nI 0), .int (nI 0)]))] sz)) 1 4 (va_A [(h0, .inr (0, [.null, .int (nI 0), .int (nI 0)]))] sz) := by
  refine Met.ofW (cc := cX0_init) (maxL := 1) (ret := none) (by decide) rfl ?_
  intro p e s m args below meth c s₁ B hml hv
  obtain ⟨rfl, hsz, hP, hK, hD0, hN⟩ := hv
  have hx := B.exec
  have hb := B.bytes
  have hr := B.returns
  have hts := atoms_spec (ws := wsX0_init) B.pre
  have hts : ∀ w ∈ lw_all, w.before _ s = true := fun w h => hts w (List.mem_cons_of_mem _ h)
  have hown : s.vm.findClass RX0 = some m.cls := findClass_of_methodNamed B.named
  have hlocks := B.notSynchronized
  have hin : meth.name = "<init>" := (name_of_methodNamed B.named B.method).1
  subst hsz
  have hD := hD0.self (sz := s.heap.size)
  generalize hAe : va_A [(h0, .inr (0, [.null, .int (nI 0), .int (nI 0)]))] s.heap.size = A at hD ⊢
  have hA : ∀ q : Nat, s.heap.size ≤ q → A q := fun q h => by rw [← hAe]; exact Or.inr h
  have hS : va_S A s.heap s.heap [] := va_S.rf
  have hP : va_P (dC, dI) vwCl [(h0, .inr (0, [.null, .int (nI 0), .int (nI 0)]))] s.heap := hP
  have hl := lv_entry ([.ref h0]) (n := 1) (Nat.le_of_ble_eq_true rfl)
  rw [lg_entry_eq]
  generalize (lg_sl ([.ref h0]) ++ List.replicate (1 - (lg_sl ([.ref h0])).length) Slot.unset).toArray = ls at hl ⊢
  have hl : lv_has ls 1 [(0, .ref h0)] := hl
  refine lv_aload_n hx hb dX0_init_0 rfl (lv_at hl 0 rfl) ?_
  refine W.objInit hx hb hown (hts _ q15) (hts _ q16) (hts _ q17) rfl (by rw [hml]; exact hl.1) rfl dX0_init_1 (Nat.le_of_ble_eq_true rfl) (Nat.le_of_ble_eq_true rfl) ?_
  refine W.eq (g2 := F0 m 4 ls []) rfl ?_
  refine lv_aload_n hx hb dX0_init_4 rfl (lv_at hl 0 rfl) ?_
  refine va_new (ci := 1) (fs := [.long 0, .long 0, .long 0, .long 0]) (C := RX1) (T := TX1) (N := 4) hx hb hts in_X1 tyX1 tyX1_ok hown (hts _ q18) (hts _ q19) (hts _ q7) hK hP hD hS hA rfl (fun j hj => by rcases (show j = 0 ∨ j = 1 ∨ j = 2 ∨ j = 3 by omega) with rfl | rfl | rfl | rfl <;> rfl) (Nat.le_of_ble_eq_true rfl) (Nat.le_of_ble_eq_true rfl) dX0_init_5 (fun h1 H hP hD hS => ?_)
  have hP : va_P (dC, dI) vwCl [(h0, .inr (0, [.null, .int (nI 0), .int (nI 0)])), (h1, .inr (1, [.long 0, .long 0, .long 0, .long 0]))] H := hP
  have hD : va_D A [(h0, .inr (0, [.null, .int (nI 0), .int (nI 0)])), (h1, .inr (1, [.long 0, .long 0, .long 0, .long 0]))] := hD
  refine W.widen (k := 1) (n := 4) (by omega) (by omega) ?_
  refine lv_dup hx hb dX0_init_8 rfl ?_
  have hPc := hP.sub (ws' := [(h1, .inr (1, [.long 0, .long 0, .long 0, .long 0]))]) [1] rfl
  have hDc := hD.sub (ws' := [(h1, .inr (1, [.long 0, .long 0, .long 0, .long 0]))]) [1] (by decide) rfl
  have hKc := hK.sub (tys' := []) [] rfl
  have hFc := va_free (wc := [(h1, .inr (1, [.long 0, .long 0, .long 0, .long 0]))]) hD hS hA [1] rfl
  refine va_callv (va_runIN (As := []) (rest := [.ref h1, .ref h0]) ⟨hx, hb, hml, hown, hts⟩ (metX1_init l dC dI h1 H.size 0 0 0 0) (⟨va_cnB 0 hts (lw_meth q22) rfl rfl rfl hN (hts _ q7) (by decide +kernel) ⟨Nat.le_of_ble_eq_true rfl, Nat.le_of_ble_eq_true rfl⟩, rfl, hts _ q21⟩) ⟨fun a U g mk q => by obtain ⟨q0, q1, qP, qK, qD⟩ := q; exact ⟨q0, q1, qP, va_K.moved (u := U) (U := U.calling g mk a) (Vm.Alike.refl U.vm) qK, qD⟩, fun U hU hW => ⟨rfl, by rw [hU], by rw [hU]; exact hPc, va_K.moved hW.alike hKc, hDc.weaken (fun _ _ _ _ => trivial)⟩⟩ rfl rfl hl.1 rfl (lv_room (Nat.le_of_ble_eq_true rfl)) dX0_init_9 ⟨Nat.le_of_ble_eq_true rfl, Nat.le_of_ble_eq_true rfl⟩) hS (fun q _ h => hFc q h) hFc (fun u t H locs ht hvm hw hB hz1 hk1 hS => ?_)
  have hw : u = ((0 : Int64), (0 : Int64), (0 : Int64), (0 : Int64)) := hw
  subst hw
  obtain ⟨hP1, -, hD1⟩ := hB
  rw [ht] at hP1
  obtain ⟨hP, hD⟩ := va_join (wr := [(h0, .inr (0, [.null, .int (nI 0), .int (nI 0)]))]) (w1 := [(h1, .inr (1, [.long 0, .long 0, .long 0, .long 0]))]) hP hD [1] [0] rfl rfl (by decide) (by decide) hk1 hFc hP1 hD1
  have hP : va_P (dC, dI) vwCl [(h0, .inr (0, [.null, .int (nI 0), .int (nI 0)])), (h1, .inr (1, [.long 0, .long 0, .long 0, .long 0]))] H := hP
  have hD : va_D A [(h0, .inr (0, [.null, .int (nI 0), .int (nI 0)])), (h1, .inr (1, [.long 0, .long 0, .long 0, .long 0]))] := hD
  refine va_putF (D := (dC, dI)) (ci := 0) (v := .ref h1) (ty := .object "FractionNear$Made") (C := RX0) (T := TX0) (N := 3) hx hb hts in_X0 tyX0 tyX0_ok nmX0 hown hK hP hD hS 0 rfl rfl 0 (by decide) (hts _ q41) (fun _ h9 => h9) rfl hin rfl (by decide +kernel) rfl rfl (Nat.le_of_ble_eq_true rfl) dX0_init_12 (fun H locs hP hD hS => ?_)
  have hP : va_P (dC, dI) vwCl [(h0, .inr (0, [.ref h1, .int (nI 0), .int (nI 0)])), (h1, .inr (1, [.long 0, .long 0, .long 0, .long 0]))] H := hP
  have hD : va_D A [(h0, .inr (0, [.ref h1, .int (nI 0), .int (nI 0)])), (h1, .inr (1, [.long 0, .long 0, .long 0, .long 0]))] := hD
  refine lv_aload_n hx hb dX0_init_15 rfl (lv_at hl 0 rfl) ?_
  refine lv_iconst (v := nI 1) hx hb dX0_init_16 (by decide) ?_
  refine va_put (D := (dC, dI)) (ci := 0) (v := .int (nI 1)) (ty := .int) (C := RX0) (T := TX0) (N := 3) hx hb hts in_X0 tyX0 tyX0_ok nmX0 hown hK hP hD hS 0 rfl rfl 2 (by decide) (hts _ q43) (fun _ h9 => h9) rfl (by decide +kernel) rfl rfl (Nat.le_of_ble_eq_true rfl) dX0_init_17 (fun H locs hP hD hS => ?_)
  have hP : va_P (dC, dI) vwCl [(h0, .inr (0, [.ref h1, .int (nI 0), .int (nI 1)])), (h1, .inr (1, [.long 0, .long 0, .long 0, .long 0]))] H := hP
  have hD : va_D A [(h0, .inr (0, [.ref h1, .int (nI 0), .int (nI 1)])), (h1, .inr (1, [.long 0, .long 0, .long 0, .long 0]))] := hD
  have hP9 := hP.sub (ws' := [(h0, .inr (0, [.ref h1, .int (nI 0), .int (nI 1)])), (h1, .inr (1, [.long 0, .long 0, .long 0, .long 0]))]) [0, 1] rfl
  have hD9 := hD.sub (ws' := [(h0, .inr (0, [.ref h1, .int (nI 0), .int (nI 1)])), (h1, .inr (1, [.long 0, .long 0, .long 0, .long 0]))]) [0, 1] (by decide) rfl
  have hK9 := hK.sub (tys' := []) [] rfl
  refine W.widen (k := 1) (n := 4) (Nat.le_of_ble_eq_true rfl) (Nat.le_of_ble_eq_true rfl) ?_
  exact W.vret hx hb hr (fun t ht hW => ⟨⟨(), rfl, trivial, h1, by rw [ht]; exact hP9, va_K.moved hW.alike hK9, hD9⟩, hS.F ht⟩) hS.2.2 dX0_init_20
set_option maxHeartbeats 4000000 in
set_option maxRecDepth 100000 in
/-- load(a, b) -/
theorem metX0_load (l : Launch) (dC : Nat → ClassId) (dI : Nat → Nat → Nat) (h0 h1 sz : Nat) (fa fb k0 k1 : Int32) : Met l yX0_load wsX0_load ({ frames := 0, cells := 0, slots := 0, locals := 0 }) (va_Pc [.ref h0, .int k0, .int k1] (fun U => U.heap.size = sz ∧ va_P (dC, dI) vwCl [(h0, .inr (0, [.ref h1, .int fa, .int fb]))] U.heap ∧ va_K (dC, dI) vwCl [] U ∧ va_D (fun _ => True) [(h0, .inr (0, [.ref h1, .int fa, .int fb]))])) (va_Qv (fun u : Int32 × Int32 => u = (nI (mk_ 20 k0), nI (1 + mk_ 20 k1))) (BF dC dI (va_A [(h0, .inr (0, [.ref h1, .int fa, .int fb]))] sz) h0 h1) (va_A [(h0, .inr (0, [.ref h1, .int fa, .int fb]))] sz)) 0 0 (va_A [(h0, .inr (0, [.ref h1, .int fa, .int fb]))] sz) := by
  refine Met.ofW (cc := cX0_load) (maxL := 3) (ret := none) (by decide) rfl ?_
  intro p e s m args below meth c s₁ B hml hv
  obtain ⟨rfl, hsz, hP, hK, hD0⟩ := hv
  have hx := B.exec
  have hb := B.bytes
  have hr := B.returns
  have hts := atoms_spec (ws := wsX0_load) B.pre
  have hts : ∀ w ∈ lw_all, w.before _ s = true := fun w h => hts w (List.mem_cons_of_mem _ h)
  have hown : s.vm.findClass RX0 = some m.cls := findClass_of_methodNamed B.named
  have hlocks := B.notSynchronized
  subst hsz
  have hD := hD0.self (sz := s.heap.size)
  generalize hAe : va_A [(h0, .inr (0, [.ref h1, .int fa, .int fb]))] s.heap.size = A at hD ⊢
  have hA : ∀ q : Nat, s.heap.size ≤ q → A q := fun q h => by rw [← hAe]; exact Or.inr h
  have hS : va_S A s.heap s.heap [] := va_S.rf
  have hP : va_P (dC, dI) vwCl [(h0, .inr (0, [.ref h1, .int fa, .int fb]))] s.heap := hP
  have hl := lv_entry ([.ref h0, .int k0, .int k1]) (n := 3) (Nat.le_of_ble_eq_true rfl)
  rw [lg_entry_eq]
  generalize (lg_sl ([.ref h0, .int k0, .int k1]) ++ List.replicate (3 - (lg_sl ([.ref h0, .int k0, .int k1])).length) Slot.unset).toArray = ls at hl ⊢
  have hl : lv_has ls 3 [(0, .ref h0), (1, .int k0), (2, .int k1)] := hl
  refine lv_aload_n hx hb dX0_load_0 rfl (lv_at hl 0 rfl) ?_
  refine lv_iload_n hx hb dX0_load_1 rfl (lv_at hl 1 rfl) ?_
  refine lv_ldc (v := nI 1048575) hx hb hown (hts _ q55) dX0_load_2 ?_
  refine nr_iand hx hb 20 (by decide) dX0_load_4 ?_
  refine va_put (D := (dC, dI)) (ci := 0) (v := .int (nI (mk_ 20 k0))) (ty := .int) (C := RX0) (T := TX0) (N := 3) hx hb hts in_X0 tyX0 tyX0_ok nmX0 hown hK hP hD hS 0 rfl rfl 1 (by decide) (hts _ q42) (fun _ h9 => h9) rfl (by decide +kernel) rfl rfl (Nat.le_of_ble_eq_true rfl) dX0_load_5 (fun H locs hP hD hS => ?_)
  have hP : va_P (dC, dI) vwCl [(h0, .inr (0, [.ref h1, .int (nI (mk_ 20 k0)), .int fb]))] H := hP
  have hD : va_D A [(h0, .inr (0, [.ref h1, .int (nI (mk_ 20 k0)), .int fb]))] := hD
  refine lv_aload_n hx hb dX0_load_8 rfl (lv_at hl 0 rfl) ?_
  refine lv_iconst (v := nI 1) hx hb dX0_load_9 (by decide) ?_
  refine lv_iload_n hx hb dX0_load_10 rfl (lv_at hl 2 rfl) ?_
  refine lv_ldc (v := nI 1048575) hx hb hown (hts _ q55) dX0_load_11 ?_
  refine nr_iand hx hb 20 (by decide) dX0_load_13 ?_
  refine nr_iadd hx hb dX0_load_14 ?_
  refine va_put (D := (dC, dI)) (ci := 0) (v := .int (nI (1 + (mk_ 20 k1)))) (ty := .int) (C := RX0) (T := TX0) (N := 3) hx hb hts in_X0 tyX0 tyX0_ok nmX0 hown hK hP hD hS 0 rfl rfl 2 (by decide) (hts _ q43) (fun _ h9 => h9) rfl (by decide +kernel) rfl rfl (Nat.le_of_ble_eq_true rfl) dX0_load_15 (fun H locs hP hD hS => ?_)
  have hP : va_P (dC, dI) vwCl [(h0, .inr (0, [.ref h1, .int (nI (mk_ 20 k0)), .int (nI (1 + (mk_ 20 k1)))]))] H := hP
  have hD : va_D A [(h0, .inr (0, [.ref h1, .int (nI (mk_ 20 k0)), .int (nI (1 + (mk_ 20 k1)))]))] := hD
  have hP9 := hP.sub (ws' := [(h0, .inr (0, [.ref h1, .int (nI (mk_ 20 k0)), .int (nI (1 + (mk_ 20 k1)))]))]) [0] rfl
  have hD9 := hD.sub (ws' := [(h0, .inr (0, [.ref h1, .int (nI (mk_ 20 k0)), .int (nI (1 + (mk_ 20 k1)))]))]) [0] (by decide) rfl
  have hK9 := hK.sub (tys' := []) [] rfl
  exact W.vret hx hb hr (fun t ht hW => ⟨⟨(nI (mk_ 20 k0), nI (1 + mk_ 20 k1)), rfl, rfl, by rw [ht]; exact hP9, va_K.moved hW.alike hK9, hD9⟩, hS.F ht⟩) hS.2.2 dX0_load_18
set_option maxHeartbeats 4000000 in
set_option maxRecDepth 100000 in
/-- depth()'s loop -/
theorem lpX0_depth {p : Program} {l : Launch} {e : Env} {R : Room} {s : State} {m : MethodId} {args : Array Value} {below : List Frame} {meth : Method} {c : Code} {H : Heap} {locs : List Loc} {Q : State → Prop} (hx : p.tables.exec = Jvm.exec) (hb : c.code = cX0_depth) (nn : Nat) (K : ∀ ls : Array Slot, lv_has ls 5 [(1, .int (nI nn))] → W p l e R s m args below meth c H locs 0 0 Q (F0 m 32 ls [])) :
    ∀ (f x y i : Nat), y < f → x < 2 ^ 31 → y < 2 ^ 31 → i + fn_len f x y = nn → ∀ ls : Array Slot, lv_has ls 5 [(1, .int (nI i)), (2, .int (nI x)), (3, .int (nI y))] → W p l e R s m args below meth c H locs 0 0 Q (F0 m 12 ls []) := by
  intro f
  induction f with
  | zero =>
    intro x y i h
    exact absurd h (Nat.not_lt_zero y)
  | succ f ih =>
    intro x y i hf hx31 hy31 hi ls hl
    refine lv_iload_n hx hb dX0_depth_12 rfl (lv_at hl 2 rfl) ?_
    refine ni_if_eq (tgt := 32) hx hb hy31 dX0_depth_13 (by decide) (fun c_13 => ?_) (fun c_13 => ?_)
    · rw [c_13, fn_len_0] at hi
      have hi : i = nn := hi
      subst hi
      exact K ls (lv_sub hl [0] rfl)
    · refine lv_iload_n hx hb dX0_depth_16 rfl (lv_at hl 1 rfl) ?_
      refine lv_iload_n hx hb dX0_depth_17 rfl (lv_at hl 2 rfl) ?_
      refine nr_irem hx hb hx31 (Nat.pos_of_ne_zero c_13) hy31 dX0_depth_18 ?_
      refine lv_istore (lv' := [(4, .int (nI (x % y))), (1, .int (nI i)), (2, .int (nI x)), (3, .int (nI y))]) hx hb dX0_depth_19 hl (by decide) rfl (fun ls hl => ?_)
      refine lv_iload_n hx hb dX0_depth_21 rfl (lv_at hl 3 rfl) ?_
      refine lv_istore_n (lv' := [(2, .int (nI y)), (4, .int (nI (x % y))), (1, .int (nI i)), (3, .int (nI y))]) hx hb dX0_depth_22 rfl hl (by decide) rfl (fun ls hl => ?_)
      refine lv_iload hx hb dX0_depth_23 (lv_at hl 1 rfl) ?_
      refine lv_istore_n (lv' := [(3, .int (nI (x % y))), (2, .int (nI y)), (4, .int (nI (x % y))), (1, .int (nI i))]) hx hb dX0_depth_25 rfl hl (by decide) rfl (fun ls hl => ?_)
      refine lv_iinc (v := nI (i + 1)) (lv' := [(1, .int (nI (i + 1))), (3, .int (nI (x % y))), (2, .int (nI y)), (4, .int (nI (x % y)))]) hx hb dX0_depth_26 hl (k := 3) rfl (nI_add i 1) (by decide) rfl (fun ls hl => ?_)
      refine lv_goto (tgt := 12) hx hb dX0_depth_29 (by decide) ?_
      have hm := Nat.mod_lt x (Nat.pos_of_ne_zero c_13)
      rw [fn_len_s f x c_13] at hi
      exact ih y (x % y) (i + 1) (by omega) hy31 (by omega) (by omega) ls (lv_sub hl [0, 2, 1] rfl)
set_option maxHeartbeats 4000000 in
set_option maxRecDepth 100000 in
/-- depth(): how many steps Euclid takes -/
theorem metX0_depth (l : Launch) (dC : Nat → ClassId) (dI : Nat → Nat → Nat) (h0 h1 sz : Nat) (pp qq : Nat) (hp : pp < 2 ^ 31) (hq : qq < 2 ^ 31) : Met l yX0_depth wsX0_depth ({ frames := 0, cells := 0, slots := 0, locals := 0 }) (va_Pc [.ref h0] (fun U => U.heap.size = sz ∧ va_P (dC, dI) vwCl [(h0, .inr (0, [.ref h1, .int (nI pp), .int (nI qq)]))] U.heap ∧ va_K (dC, dI) vwCl [] U ∧ va_D (fun _ => True) [(h0, .inr (0, [.ref h1, .int (nI pp), .int (nI qq)]))])) (va_Qi (fun (r : Int32) (u : Int32 × Int32) => r = nI (fn_len (qq + 1) pp qq) ∧ u = (nI pp, nI qq)) (BF dC dI (va_A [(h0, .inr (0, [.ref h1, .int (nI pp), .int (nI qq)]))] sz) h0 h1) (va_A [(h0, .inr (0, [.ref h1, .int (nI pp), .int (nI qq)]))] sz)) 0 0 (va_A [(h0, .inr (0, [.ref h1, .int (nI pp), .int (nI qq)]))] sz) := by
  refine Met.ofW (cc := cX0_depth) (maxL := 5) (ret := (some .int)) (by decide) rfl ?_
  intro p e s m args below meth c s₁ B hml hv
  obtain ⟨rfl, hsz, hP, hK, hD0⟩ := hv
  have hx := B.exec
  have hb := B.bytes
  have hr := B.returns
  have hts := atoms_spec (ws := wsX0_depth) B.pre
  have hts : ∀ w ∈ lw_all, w.before _ s = true := fun w h => hts w (List.mem_cons_of_mem _ h)
  have hown : s.vm.findClass RX0 = some m.cls := findClass_of_methodNamed B.named
  have hlocks := B.notSynchronized
  subst hsz
  have hD := hD0.self (sz := s.heap.size)
  generalize hAe : va_A [(h0, .inr (0, [.ref h1, .int (nI pp), .int (nI qq)]))] s.heap.size = A at hD ⊢
  have hA : ∀ q : Nat, s.heap.size ≤ q → A q := fun q h => by rw [← hAe]; exact Or.inr h
  have hS : va_S A s.heap s.heap [] := va_S.rf
  have hP : va_P (dC, dI) vwCl [(h0, .inr (0, [.ref h1, .int (nI pp), .int (nI qq)]))] s.heap := hP
  have hl := lv_entry ([.ref h0]) (n := 5) (Nat.le_of_ble_eq_true rfl)
  rw [lg_entry_eq]
  generalize (lg_sl ([.ref h0]) ++ List.replicate (5 - (lg_sl ([.ref h0])).length) Slot.unset).toArray = ls at hl ⊢
  have hl : lv_has ls 5 [(0, .ref h0)] := hl
  refine lv_iconst (v := nI 0) hx hb dX0_depth_0 (by decide) ?_
  refine lv_istore_n (lv' := [(1, .int (nI 0)), (0, .ref h0)]) hx hb dX0_depth_1 rfl hl (by decide) rfl (fun ls hl => ?_)
  refine lv_aload_n hx hb dX0_depth_2 rfl (lv_at hl 1 rfl) ?_
  refine va_get (D := (dC, dI)) (ci := 0) (v := .int (nI pp)) (C := RX0) (T := TX0) (N := 3) hx hb hts in_X0 hown hK hP 0 rfl rfl 1 (by decide) (hts _ q42) (fun _ h9 => h9) rfl dX0_depth_3 ?_
  refine lv_istore_n (lv' := [(2, .int (nI pp)), (1, .int (nI 0)), (0, .ref h0)]) hx hb dX0_depth_6 rfl hl (by decide) rfl (fun ls hl => ?_)
  refine lv_aload_n hx hb dX0_depth_7 rfl (lv_at hl 2 rfl) ?_
  refine va_get (D := (dC, dI)) (ci := 0) (v := .int (nI qq)) (C := RX0) (T := TX0) (N := 3) hx hb hts in_X0 hown hK hP 0 rfl rfl 2 (by decide) (hts _ q43) (fun _ h9 => h9) rfl dX0_depth_8 ?_
  refine lv_istore_n (lv' := [(3, .int (nI qq)), (2, .int (nI pp)), (1, .int (nI 0)), (0, .ref h0)]) hx hb dX0_depth_11 rfl hl (by decide) rfl (fun ls hl => ?_)
  refine lpX0_depth hx hb (fn_len (qq + 1) pp qq) (fun ls hl => ?_) (qq + 1) pp qq 0 (Nat.lt_succ_self qq) hp hq (Nat.zero_add _) ls (lv_sub hl [2, 1, 0] rfl)
  refine lv_iload_n hx hb dX0_depth_32 rfl (lv_at hl 0 rfl) ?_
  have hP9 := hP.sub (ws' := [(h0, .inr (0, [.ref h1, .int (nI pp), .int (nI qq)]))]) [0] rfl
  have hD9 := hD.sub (ws' := [(h0, .inr (0, [.ref h1, .int (nI pp), .int (nI qq)]))]) [0] (by decide) rfl
  have hK9 := hK.sub (tys' := []) [] rfl
  exact W.iret (v := nI (fn_len (qq + 1) pp qq)) hx hb hr (fun t ht hW => ⟨⟨nI (fn_len (qq + 1) pp qq), (nI pp, nI qq), rfl, ⟨rfl, rfl⟩, by rw [ht]; exact hP9, va_K.moved hW.alike hK9, hD9⟩, hS.F ht⟩) hS.2.2 dX0_depth_33
end
section
/-! MODULE FractionNear: nearest, top, bottom -/
theorem fn_N_bd {p q n x y A B A' B' : Nat} (hn : 1 ≤ n) (h : fn_N p q n x y A B A' B') : B ≤ n ∧ B' ≤ n := by
  obtain ⟨-, -, -, ⟨-, -, -, e1, -, e2⟩ | ⟨-, -, e1, -, e2⟩⟩ := h
  · omega
  · omega
set_option maxHeartbeats 4000000 in
set_option maxRecDepth 100000 in
/-- nearest's loop: one term of the continued fraction after the other -/
theorem lpX0_nearest {p : Program} {l : Launch} {e : Env} {s : State} {m : MethodId} {args : Array Value} {below : List Frame} {meth : Method} {c : Code} {Q : State → Prop} {dC : Nat → ClassId} {dI : Nat → Nat → Nat} {A : Nat → Prop} {h0 h1 : Nat} (hx : p.tables.exec = Jvm.exec) (hb : c.code = cX0_nearest) (hml : c.maxLocals = 19) (hown : s.vm.findClass RX0 = some m.cls) (hts : ∀ w ∈ lw_all, w.before args s = true) (hA : ∀ q : Nat, s.heap.size ≤ q → A q) (hK : va_K (dC, dI) vwCl [] s) (pp qq n : Nat) (hn1 : 1 ≤ n) (hn2 : n ≤ 2048)
    (K : ∀ (x y nA nB nC nD : Nat) (H : Heap) (locs : List Loc) (ls : Array Slot), fn_N pp qq n x y nA nB nC nD → x ≤ 1048576 → y ≤ 1048576 → (y = 0 ∨ n < x / y * nB + nD) → va_P (dC, dI) vwCl [(h0, .inr (0, [.ref h1, .int (nI pp), .int (nI qq)])), (h1, .inr (1, [.long (lN nA), .long (lN nB), .long (lN nC), .long (lN nD)]))] H → va_D A [(h0, .inr (0, [.ref h1, .int (nI pp), .int (nI qq)])), (h1, .inr (1, [.long (lN nA), .long (lN nB), .long (lN nC), .long (lN nD)]))] → va_S A s.heap H locs → lv_has ls 19 [(0, .ref h0), (2, .long (lN n)), (4, .long (lN x)), (6, .long (lN y))] → W p l e (headSpec wsX0_nearest ({ frames := 1, cells := 0, slots := 0, locals := 26 })).room s m args below meth c H locs 0 0 Q (F0 m 93 ls [])) :
    ∀ (f x y nA nB nC nD : Nat), y < f → fn_N pp qq n x y nA nB nC nD → x ≤ 1048576 → y ≤ 1048576 → ∀ (H : Heap) (locs : List Loc), va_P (dC, dI) vwCl [(h0, .inr (0, [.ref h1, .int (nI pp), .int (nI qq)])), (h1, .inr (1, [.long (lN nA), .long (lN nB), .long (lN nC), .long (lN nD)]))] H → va_D A [(h0, .inr (0, [.ref h1, .int (nI pp), .int (nI qq)])), (h1, .inr (1, [.long (lN nA), .long (lN nB), .long (lN nC), .long (lN nD)]))] → va_S A s.heap H locs → ∀ ls : Array Slot, lv_has ls 19 [(0, .ref h0), (2, .long (lN n)), (4, .long (lN x)), (6, .long (lN y))] → W p l e (headSpec wsX0_nearest ({ frames := 1, cells := 0, slots := 0, locals := 26 })).room s m args below meth c H locs 0 0 Q (F0 m 30 ls []) := by
  intro f
  induction f with
  | zero =>
    intro x y nA nB nC nD h
    exact absurd h (Nat.not_lt_zero y)
  | succ f ih =>
    intro x y nA nB nC nD hf hN hxb hyb H locs hP hD hS ls hl
    obtain ⟨hBn, hDn⟩ := fn_N_bd hn1 hN
    have hmul : x / y * nB ≤ 1048576 * 2048 := Nat.mul_le_mul (Nat.le_trans (Nat.div_le_self x y) hxb) (Nat.le_trans hBn hn2)
    refine lv_lload hx hb dX0_nearest_30 (lv_at hl 3 rfl) ?_
    refine lv_lconst (v := lN 0) hx hb dX0_nearest_32 rfl ?_
    refine nl_eq (tgt := 93) hx hb (by omega) (by omega) dX0_nearest_33 dX0_nearest_34 (by decide) (fun c_33 => ?_) (fun c_33 => ?_)
    · exact K x y nA nB nC nD H locs ls hN hxb hyb (Or.inl c_33) hP hD hS hl
    · have hy0 : 0 < y := Nat.pos_of_ne_zero c_33
      refine lv_lload hx hb dX0_nearest_37 (lv_at hl 2 rfl) ?_
      refine lv_lload hx hb dX0_nearest_39 (lv_at hl 3 rfl) ?_
      refine nr_ldiv hx hb (by omega) hy0 (by omega) dX0_nearest_41 ?_
      refine lv_aload_n hx hb dX0_nearest_42 rfl (lv_at hl 0 rfl) ?_
      refine va_get (D := (dC, dI)) (ci := 0) (v := .ref h1) (C := RX0) (T := TX0) (N := 3) hx hb hts in_X0 hown hK hP 0 rfl rfl 0 (by decide) (hts _ q41) (fun _ h9 => h9) rfl dX0_nearest_43 ?_
      refine va_get (D := (dC, dI)) (ci := 1) (v := .long (lN nB)) (C := RX1) (T := TX1) (N := 4) hx hb hts in_X1 hown hK hP 1 rfl rfl 1 (by decide) (hts _ q27) (fun _ h9 => h9) rfl dX0_nearest_46 ?_
      refine nr_lmul hx hb dX0_nearest_49 ?_
      refine lv_aload_n hx hb dX0_nearest_50 rfl (lv_at hl 0 rfl) ?_
      refine va_get (D := (dC, dI)) (ci := 0) (v := .ref h1) (C := RX0) (T := TX0) (N := 3) hx hb hts in_X0 hown hK hP 0 rfl rfl 0 (by decide) (hts _ q41) (fun _ h9 => h9) rfl dX0_nearest_51 ?_
      refine va_get (D := (dC, dI)) (ci := 1) (v := .long (lN nD)) (C := RX1) (T := TX1) (N := 4) hx hb hts in_X1 hown hK hP 1 rfl rfl 3 (by decide) (hts _ q31) (fun _ h9 => h9) rfl dX0_nearest_54 ?_
      refine nr_ladd hx hb dX0_nearest_57 ?_
      refine lv_lload_n hx hb dX0_nearest_58 rfl (lv_at hl 1 rfl) ?_
      refine nl_gt (tgt := 93) hx hb (by omega) (by omega) dX0_nearest_59 dX0_nearest_60 (by decide) (fun c_59 => ?_) (fun c_59 => ?_)
      · exact K x y nA nB nC nD H locs ls hN hxb hyb (Or.inr c_59) hP hD hS hl
      · refine lv_aload_n hx hb dX0_nearest_63 rfl (lv_at hl 0 rfl) ?_
        refine va_get (D := (dC, dI)) (ci := 0) (v := .ref h1) (C := RX0) (T := TX0) (N := 3) hx hb hts in_X0 hown hK hP 0 rfl rfl 0 (by decide) (hts _ q41) (fun _ h9 => h9) rfl dX0_nearest_64 ?_
        refine lv_lload hx hb dX0_nearest_67 (lv_at hl 2 rfl) ?_
        refine lv_lload hx hb dX0_nearest_69 (lv_at hl 3 rfl) ?_
        refine nr_ldiv hx hb (by omega) hy0 (by omega) dX0_nearest_71 ?_
        have hPc := hP.sub (ws' := [(h1, .inr (1, [.long (lN nA), .long (lN nB), .long (lN nC), .long (lN nD)]))]) [1] rfl
        have hDc := hD.sub (ws' := [(h1, .inr (1, [.long (lN nA), .long (lN nB), .long (lN nC), .long (lN nD)]))]) [1] (by decide) rfl
        have hKc := hK.sub (tys' := []) [] rfl
        have hFc := va_free (wc := [(h1, .inr (1, [.long (lN nA), .long (lN nB), .long (lN nC), .long (lN nD)]))]) hD hS hA [1] rfl
        refine va_callv (va_runV (As := [.long (lN (x / y))]) (rest := []) ⟨hx, hb, hml, hown, hts⟩ (metX1_add l dC dI h1 H.size nA nB nC nD (x / y)) (cwV 1 hts (lw_V q68 q69 q70 q7 q71) rfl rfl rfl (by decide +kernel) ⟨Nat.le_of_ble_eq_true rfl, Nat.le_of_ble_eq_true rfl⟩) ⟨fun a U g mk q => by obtain ⟨q0, q1, qP, qK, qD⟩ := q; exact ⟨q0, q1, qP, va_K.moved (u := U) (U := U.calling g mk a) (Vm.Alike.refl U.vm) qK, qD⟩, va_recv hKc hPc (ci := 1) (q0 := 0) rfl rfl, fun U hU hW => ⟨rfl, by rw [hU], by rw [hU]; exact hPc, va_K.moved hW.alike hKc, hDc.weaken (fun _ _ _ _ => trivial)⟩⟩ rfl rfl hl.1 rfl (lv_room (Nat.le_of_ble_eq_true rfl)) dX0_nearest_72 ⟨Nat.le_of_ble_eq_true rfl, Nat.le_of_ble_eq_true rfl⟩) hS (fun q _ h => hFc q h) hFc (fun u t H locs ht hvm hw hB hz1 hk1 hS => ?_)
        have hw : u = (lN (x / y * nA + nC), lN (x / y * nB + nD), lN nA, lN nB) := hw
        subst hw
        obtain ⟨hP1, -, hD1⟩ := hB
        rw [ht] at hP1
        obtain ⟨hP, hD⟩ := va_join (wr := [(h0, .inr (0, [.ref h1, .int (nI pp), .int (nI qq)]))]) (w1 := [(h1, .inr (1, [.long (lN (x / y * nA + nC)), .long (lN (x / y * nB + nD)), .long (lN nA), .long (lN nB)]))]) hP hD [1] [0] rfl rfl (by decide) (by decide) hk1 hFc hP1 hD1
        have hP : va_P (dC, dI) vwCl [(h0, .inr (0, [.ref h1, .int (nI pp), .int (nI qq)])), (h1, .inr (1, [.long (lN (x / y * nA + nC)), .long (lN (x / y * nB + nD)), .long (lN nA), .long (lN nB)]))] H := hP
        have hD : va_D A [(h0, .inr (0, [.ref h1, .int (nI pp), .int (nI qq)])), (h1, .inr (1, [.long (lN (x / y * nA + nC)), .long (lN (x / y * nB + nD)), .long (lN nA), .long (lN nB)]))] := hD
        refine lv_lload hx hb dX0_nearest_75 (lv_at hl 2 rfl) ?_
        refine lv_lload hx hb dX0_nearest_77 (lv_at hl 3 rfl) ?_
        refine nr_lrem hx hb (by omega) hy0 (by omega) dX0_nearest_79 ?_
        refine lv_lstore (lv' := [(8, .long (lN (x % y))), (0, .ref h0), (2, .long (lN n)), (4, .long (lN x)), (6, .long (lN y))]) hx hb dX0_nearest_80 hl (by decide) rfl (fun ls hl => ?_)
        refine lv_lload hx hb dX0_nearest_82 (lv_at hl 4 rfl) ?_
        refine lv_lstore (lv' := [(4, .long (lN y)), (8, .long (lN (x % y))), (0, .ref h0), (2, .long (lN n)), (6, .long (lN y))]) hx hb dX0_nearest_84 hl (by decide) rfl (fun ls hl => ?_)
        refine lv_lload hx hb dX0_nearest_86 (lv_at hl 1 rfl) ?_
        refine lv_lstore (lv' := [(6, .long (lN (x % y))), (4, .long (lN y)), (8, .long (lN (x % y))), (0, .ref h0), (2, .long (lN n))]) hx hb dX0_nearest_88 hl (by decide) rfl (fun ls hl => ?_)
        refine lv_goto (tgt := 30) hx hb dX0_nearest_90 (by decide) ?_
        have hm := Nat.mod_lt x hy0
        exact ih y (x % y) (x / y * nA + nC) (x / y * nB + nD) nA nB (by omega) (fn_N_step hy0 hN (Nat.le_of_not_lt c_59)) hyb (by omega) H locs hP hD hS ls (lv_sub hl [3, 4, 1, 0] rfl)
set_option maxHeartbeats 4000000 in
set_option maxRecDepth 100000 in
/-- nearest's last test -/
theorem cmpX0_nearest {p : Program} {l : Launch} {e : Env} {s : State} {m : MethodId} {args : Array Value} {below : List Frame} {meth : Method} {c : Code} {Q : State → Prop} {dC : Nat → ClassId} {dI : Nat → Nat → Nat} {A : Nat → Prop} {h0 h1 : Nat} {H : Heap} {locs : List Loc} (hx : p.tables.exec = Jvm.exec) (hb : c.code = cX0_nearest) (hml : c.maxLocals = 19) (hown : s.vm.findClass RX0 = some m.cls) (hts : ∀ w ∈ lw_all, w.before args s = true) (hA : ∀ q : Nat, s.heap.size ≤ q → A q) (hK : va_K (dC, dI) vwCl [] s) {pp qq nA nB na nb nh nt lo : Nat} {f2 f3 : Int64} (hlo : lo < 2) (hnB : nB ≤ 2048) (hnb : nb ≤ 2048) (hnh : nh < 2 ^ 62) (hnt : nt < 2 ^ 62) (hP : va_P (dC, dI) vwCl [(h0, .inr (0, [.ref h1, .int (nI pp), .int (nI qq)])), (h1, .inr (1, [.long (lN nA), .long (lN nB), .long f2, .long f3]))] H)
    (K1 : ∀ ls : Array Slot, (nh < nt ∨ (nt = nh ∧ (nB < nb ∨ (nB = nb ∧ lo = 1)))) → lv_has ls 19 [(0, .ref h0), (10, .long (lN na)), (12, .long (lN nb))] → W p l e (headSpec wsX0_nearest ({ frames := 1, cells := 0, slots := 0, locals := 26 })).room s m args below meth c H locs 0 0 Q (F0 m 291 ls [])) (K2 : ∀ ls : Array Slot, ¬ (nh < nt ∨ (nt = nh ∧ (nB < nb ∨ (nB = nb ∧ lo = 1)))) → lv_has ls 19 [(0, .ref h0), (10, .long (lN na)), (12, .long (lN nb))] → W p l e (headSpec wsX0_nearest ({ frames := 1, cells := 0, slots := 0, locals := 26 })).room s m args below meth c H locs 0 0 Q (F0 m 292 ls [])) (ls : Array Slot) (hl : lv_has ls 19 [(0, .ref h0), (10, .long (lN na)), (12, .long (lN nb)), (14, .long (lN nh)), (16, .long (lN nt))]) : W p l e (headSpec wsX0_nearest ({ frames := 1, cells := 0, slots := 0, locals := 26 })).room s m args below meth c H locs 0 0 Q (F0 m 242 ls [.int (nI lo)]) := by
  refine lv_istore (lv' := [(18, .int (nI lo)), (0, .ref h0), (10, .long (lN na)), (12, .long (lN nb)), (14, .long (lN nh)), (16, .long (lN nt))]) hx hb dX0_nearest_242 hl (by decide) rfl (fun ls hl => ?_)
  refine lv_lload hx hb dX0_nearest_244 (lv_at hl 5 rfl) ?_
  refine lv_lload hx hb dX0_nearest_246 (lv_at hl 4 rfl) ?_
  refine nl_gt (tgt := 291) hx hb (by omega) (by omega) dX0_nearest_248 dX0_nearest_249 (by decide) (fun c_248 => ?_) (fun c_248 => ?_)
  · exact K1 ls (by omega) (lv_sub hl [1, 2, 3] rfl)
  · refine lv_lload hx hb dX0_nearest_252 (lv_at hl 5 rfl) ?_
    refine lv_lload hx hb dX0_nearest_254 (lv_at hl 4 rfl) ?_
    refine nl_ne (tgt := 292) hx hb (by omega) (by omega) dX0_nearest_256 dX0_nearest_257 (by decide) (fun c_256 => ?_) (fun c_256 => ?_)
    · exact K2 ls (by omega) (lv_sub hl [1, 2, 3] rfl)
    · refine lv_aload_n hx hb dX0_nearest_260 rfl (lv_at hl 1 rfl) ?_
      refine va_get (D := (dC, dI)) (ci := 0) (v := .ref h1) (C := RX0) (T := TX0) (N := 3) hx hb hts in_X0 hown hK hP 0 rfl rfl 0 (by decide) (hts _ q41) (fun _ h9 => h9) rfl dX0_nearest_261 ?_
      refine va_get (D := (dC, dI)) (ci := 1) (v := .long (lN nB)) (C := RX1) (T := TX1) (N := 4) hx hb hts in_X1 hown hK hP 1 rfl rfl 1 (by decide) (hts _ q27) (fun _ h9 => h9) rfl dX0_nearest_264 ?_
      refine lv_lload hx hb dX0_nearest_267 (lv_at hl 3 rfl) ?_
      refine nl_lt (tgt := 291) hx hb (by omega) (by omega) dX0_nearest_269 dX0_nearest_270 (by decide) (fun c_269 => ?_) (fun c_269 => ?_)
      · exact K1 ls (by omega) (lv_sub hl [1, 2, 3] rfl)
      · refine lv_aload_n hx hb dX0_nearest_273 rfl (lv_at hl 1 rfl) ?_
        refine va_get (D := (dC, dI)) (ci := 0) (v := .ref h1) (C := RX0) (T := TX0) (N := 3) hx hb hts in_X0 hown hK hP 0 rfl rfl 0 (by decide) (hts _ q41) (fun _ h9 => h9) rfl dX0_nearest_274 ?_
        refine va_get (D := (dC, dI)) (ci := 1) (v := .long (lN nB)) (C := RX1) (T := TX1) (N := 4) hx hb hts in_X1 hown hK hP 1 rfl rfl 1 (by decide) (hts _ q27) (fun _ h9 => h9) rfl dX0_nearest_277 ?_
        refine lv_lload hx hb dX0_nearest_280 (lv_at hl 3 rfl) ?_
        refine nl_ne (tgt := 292) hx hb (by omega) (by omega) dX0_nearest_282 dX0_nearest_283 (by decide) (fun c_282 => ?_) (fun c_282 => ?_)
        · exact K2 ls (by omega) (lv_sub hl [1, 2, 3] rfl)
        · refine lv_iload hx hb dX0_nearest_286 (lv_at hl 0 rfl) ?_
          refine ni_if_eq (tgt := 292) hx hb (by omega) dX0_nearest_288 (by decide) (fun c_288 => ?_) (fun c_288 => ?_)
          · exact K2 ls (by omega) (lv_sub hl [1, 2, 3] rfl)
          · exact K1 ls (by omega) (lv_sub hl [1, 2, 3] rfl)
set_option maxHeartbeats 4000000 in
set_option maxRecDepth 100000 in
/-- nearest(k): the nearest fraction with a number below of at most 1 + (k & 2047) -/
theorem metX0_nearest (l : Launch) (dC : Nat → ClassId) (dI : Nat → Nat → Nat) (h0 h1 sz : Nat) (pp qq : Nat) (hp : pp < 1048576) (hq1 : 1 ≤ qq) (hq2 : qq ≤ 1048576) (f0 f1 f2 f3 : Int64) (k0 : Int32) : Met l yX0_nearest wsX0_nearest ({ frames := 1, cells := 0, slots := 0, locals := 26 }) (va_Pc [.ref h0, .int k0] (fun U => U.heap.size = sz ∧ va_P (dC, dI) vwCl [(h0, .inr (0, [.ref h1, .int (nI pp), .int (nI qq)])), (h1, .inr (1, [.long f0, .long f1, .long f2, .long f3]))] U.heap ∧ va_K (dC, dI) vwCl [] U ∧ va_D (fun _ => True) [(h0, .inr (0, [.ref h1, .int (nI pp), .int (nI qq)])), (h1, .inr (1, [.long f0, .long f1, .long f2, .long f3]))])) (va_Qv (fun u : Int64 × Int64 × Int64 × Int64 => ∃ (nU nV : Nat) (g2 g3 : Int64), u = (lN nU, lN nV, g2, g3) ∧ fn_Best pp qq (1 + mk_ 11 k0) nU nV) (BFM dC dI (va_A [(h0, .inr (0, [.ref h1, .int (nI pp), .int (nI qq)])), (h1, .inr (1, [.long f0, .long f1, .long f2, .long f3]))] sz) h0 h1 (nI pp) (nI qq)) (va_A [(h0, .inr (0, [.ref h1, .int (nI pp), .int (nI qq)])), (h1, .inr (1, [.long f0, .long f1, .long f2, .long f3]))] sz)) 0 0 (va_A [(h0, .inr (0, [.ref h1, .int (nI pp), .int (nI qq)])), (h1, .inr (1, [.long f0, .long f1, .long f2, .long f3]))] sz) := by
  refine Met.ofW (cc := cX0_nearest) (maxL := 19) (ret := none) (by decide) rfl ?_
  intro p e s m args below meth c s₁ B hml hv
  obtain ⟨rfl, hsz, hP, hK, hD0⟩ := hv
  have hx := B.exec
  have hb := B.bytes
  have hr := B.returns
  have hts := atoms_spec (ws := wsX0_nearest) B.pre
  have hts : ∀ w ∈ lw_all, w.before _ s = true := fun w h => hts w (List.mem_cons_of_mem _ h)
  have hown : s.vm.findClass RX0 = some m.cls := findClass_of_methodNamed B.named
  have hlocks := B.notSynchronized
  subst hsz
  have hD := hD0.self (sz := s.heap.size)
  generalize hAe : va_A [(h0, .inr (0, [.ref h1, .int (nI pp), .int (nI qq)])), (h1, .inr (1, [.long f0, .long f1, .long f2, .long f3]))] s.heap.size = A at hD ⊢
  have hA : ∀ q : Nat, s.heap.size ≤ q → A q := fun q h => by rw [← hAe]; exact Or.inr h
  have hS : va_S A s.heap s.heap [] := va_S.rf
  have hP : va_P (dC, dI) vwCl [(h0, .inr (0, [.ref h1, .int (nI pp), .int (nI qq)])), (h1, .inr (1, [.long f0, .long f1, .long f2, .long f3]))] s.heap := hP
  have hl := lv_entry ([.ref h0, .int k0]) (n := 19) (Nat.le_of_ble_eq_true rfl)
  rw [lg_entry_eq]
  generalize (lg_sl ([.ref h0, .int k0]) ++ List.replicate (19 - (lg_sl ([.ref h0, .int k0])).length) Slot.unset).toArray = ls at hl ⊢
  have hl : lv_has ls 19 [(0, .ref h0), (1, .int k0)] := hl
  have hm11 := mk_lt 11 k0
  refine lv_iconst (v := nI 1) hx hb dX0_nearest_0 (by decide) ?_
  refine lv_iload_n hx hb dX0_nearest_1 rfl (lv_at hl 1 rfl) ?_
  refine lv_sipush (v := nI 2047) hx hb dX0_nearest_2 (by decide) ?_
  refine nr_iand hx hb 11 (by decide) dX0_nearest_5 ?_
  refine nr_iadd hx hb dX0_nearest_6 ?_
  generalize mk_ 11 k0 = mm at hm11 ⊢
  refine nr_i2l hx hb (by omega) dX0_nearest_7 ?_
  refine lv_lstore_n (lv' := [(2, .long (lN (1 + mm))), (0, .ref h0), (1, .int k0)]) hx hb dX0_nearest_8 rfl hl (by decide) rfl (fun ls hl => ?_)
  obtain ⟨n, hn⟩ : ∃ n, n = 1 + mm := ⟨_, rfl⟩
  rw [← hn] at hl ⊢
  refine lv_aload_n hx hb dX0_nearest_9 rfl (lv_at hl 1 rfl) ?_
  refine va_get (D := (dC, dI)) (ci := 0) (v := .int (nI pp)) (C := RX0) (T := TX0) (N := 3) hx hb hts in_X0 hown hK hP 0 rfl rfl 1 (by decide) (hts _ q42) (fun _ h9 => h9) rfl dX0_nearest_10 ?_
  refine nr_i2l hx hb (by omega) dX0_nearest_13 ?_
  refine lv_lstore (lv' := [(4, .long (lN pp)), (2, .long (lN n)), (0, .ref h0), (1, .int k0)]) hx hb dX0_nearest_14 hl (by decide) rfl (fun ls hl => ?_)
  refine lv_aload_n hx hb dX0_nearest_16 rfl (lv_at hl 2 rfl) ?_
  refine va_get (D := (dC, dI)) (ci := 0) (v := .int (nI qq)) (C := RX0) (T := TX0) (N := 3) hx hb hts in_X0 hown hK hP 0 rfl rfl 2 (by decide) (hts _ q43) (fun _ h9 => h9) rfl dX0_nearest_17 ?_
  refine nr_i2l hx hb (by omega) dX0_nearest_20 ?_
  refine lv_lstore (lv' := [(6, .long (lN qq)), (4, .long (lN pp)), (2, .long (lN n)), (0, .ref h0), (1, .int k0)]) hx hb dX0_nearest_21 hl (by decide) rfl (fun ls hl => ?_)
  refine lv_aload_n hx hb dX0_nearest_23 rfl (lv_at hl 3 rfl) ?_
  refine va_get (D := (dC, dI)) (ci := 0) (v := .ref h1) (C := RX0) (T := TX0) (N := 3) hx hb hts in_X0 hown hK hP 0 rfl rfl 0 (by decide) (hts _ q41) (fun _ h9 => h9) rfl dX0_nearest_24 ?_
  have hPc := hP.sub (ws' := [(h1, .inr (1, [.long f0, .long f1, .long f2, .long f3]))]) [1] rfl
  have hDc := hD.sub (ws' := [(h1, .inr (1, [.long f0, .long f1, .long f2, .long f3]))]) [1] (by decide) rfl
  have hKc := hK.sub (tys' := []) [] rfl
  have hFc := va_free (wc := [(h1, .inr (1, [.long f0, .long f1, .long f2, .long f3]))]) hD hS hA [1] rfl
  refine va_callv (va_runV (As := []) (rest := []) ⟨hx, hb, hml, hown, hts⟩ (metX1_begin l dC dI h1 s.heap.size f0 f1 f2 f3) (cwV 0 hts (lw_V q64 q65 q66 q7 q67) rfl rfl rfl (by decide +kernel) ⟨Nat.le_of_ble_eq_true rfl, Nat.le_of_ble_eq_true rfl⟩) ⟨fun a U g mk q => by obtain ⟨q0, q1, qP, qK, qD⟩ := q; exact ⟨q0, q1, qP, va_K.moved (u := U) (U := U.calling g mk a) (Vm.Alike.refl U.vm) qK, qD⟩, va_recv hKc hPc (ci := 1) (q0 := 0) rfl rfl, fun U hU hW => ⟨rfl, by rw [hU], by rw [hU]; exact hPc, va_K.moved hW.alike hKc, hDc.weaken (fun _ _ _ _ => trivial)⟩⟩ rfl rfl hl.1 rfl (lv_room (Nat.le_of_ble_eq_true rfl)) dX0_nearest_27 ⟨Nat.le_of_ble_eq_true rfl, Nat.le_of_ble_eq_true rfl⟩) hS (fun q _ h => hFc q h) hFc (fun u t H locs ht hvm hw hB hz1 hk1 hS => ?_)
  have hw : u = (lN 1, lN 0, lN 0, lN 1) := hw
  subst hw
  obtain ⟨hP1, -, hD1⟩ := hB
  rw [ht] at hP1
  obtain ⟨hP, hD⟩ := va_join (wr := [(h0, .inr (0, [.ref h1, .int (nI pp), .int (nI qq)]))]) (w1 := [(h1, .inr (1, [.long (lN 1), .long (lN 0), .long (lN 0), .long (lN 1)]))]) hP hD [1] [0] rfl rfl (by decide) (by decide) hk1 hFc hP1 hD1
  have hP : va_P (dC, dI) vwCl [(h0, .inr (0, [.ref h1, .int (nI pp), .int (nI qq)])), (h1, .inr (1, [.long (lN 1), .long (lN 0), .long (lN 0), .long (lN 1)]))] H := hP
  have hD : va_D A [(h0, .inr (0, [.ref h1, .int (nI pp), .int (nI qq)])), (h1, .inr (1, [.long (lN 1), .long (lN 0), .long (lN 0), .long (lN 1)]))] := hD
  refine lpX0_nearest hx hb hml hown hts hA hK pp qq n (by omega) (by omega) (fun x y nA nB nC nD H locs ls hN hxb hyb hex hP hD hS hl => ?_) (qq + 1) pp qq 1 0 0 1 (Nat.lt_succ_self qq) (fn_N_0 pp qq n) (by omega) hq2 H locs hP hD hS ls (lv_sub hl [3, 2, 1, 0] rfl)
  refine lv_lload hx hb dX0_nearest_93 (lv_at hl 3 rfl) ?_
  refine lv_lconst (v := lN 0) hx hb dX0_nearest_95 rfl ?_
  refine nl_ne (tgt := 101) hx hb (by omega) (by omega) dX0_nearest_96 dX0_nearest_97 (by decide) (fun c_96 => ?_) (fun c_96 => ?_)
  · have hy0 : 0 < y := Nat.pos_of_ne_zero c_96
    have hex2 : n < x / y * nB + nD := hex.resolve_left c_96
    obtain ⟨hDn, hB0, hE⟩ := fn_exit1 (by omega) hN hy0 hex2
    have hBn : nB ≤ n := (fn_N_bd (by omega) hN).1
    refine lv_lload_n hx hb dX0_nearest_101 rfl (lv_at hl 1 rfl) ?_
    refine lv_aload_n hx hb dX0_nearest_102 rfl (lv_at hl 0 rfl) ?_
    refine va_get (D := (dC, dI)) (ci := 0) (v := .ref h1) (C := RX0) (T := TX0) (N := 3) hx hb hts in_X0 hown hK hP 0 rfl rfl 0 (by decide) (hts _ q41) (fun _ h9 => h9) rfl dX0_nearest_103 ?_
    refine va_get (D := (dC, dI)) (ci := 1) (v := .long (lN nD)) (C := RX1) (T := TX1) (N := 4) hx hb hts in_X1 hown hK hP 1 rfl rfl 3 (by decide) (hts _ q31) (fun _ h9 => h9) rfl dX0_nearest_106 ?_
    refine nr_lsub hx hb hDn dX0_nearest_109 ?_
    refine lv_aload_n hx hb dX0_nearest_110 rfl (lv_at hl 0 rfl) ?_
    refine va_get (D := (dC, dI)) (ci := 0) (v := .ref h1) (C := RX0) (T := TX0) (N := 3) hx hb hts in_X0 hown hK hP 0 rfl rfl 0 (by decide) (hts _ q41) (fun _ h9 => h9) rfl dX0_nearest_111 ?_
    refine va_get (D := (dC, dI)) (ci := 1) (v := .long (lN nB)) (C := RX1) (T := TX1) (N := 4) hx hb hts in_X1 hown hK hP 1 rfl rfl 1 (by decide) (hts _ q27) (fun _ h9 => h9) rfl dX0_nearest_114 ?_
    refine nr_ldiv hx hb (by omega) hB0 (by omega) dX0_nearest_117 ?_
    generalize (n - nD) / nB = nt at hE ⊢
    refine lv_lstore (lv' := [(8, .long (lN nt)), (0, .ref h0), (2, .long (lN n)), (4, .long (lN x)), (6, .long (lN y))]) hx hb dX0_nearest_118 hl (by decide) rfl (fun ls hl => ?_)
    refine lv_aload_n hx hb dX0_nearest_120 rfl (lv_at hl 1 rfl) ?_
    refine va_get (D := (dC, dI)) (ci := 0) (v := .ref h1) (C := RX0) (T := TX0) (N := 3) hx hb hts in_X0 hown hK hP 0 rfl rfl 0 (by decide) (hts _ q41) (fun _ h9 => h9) rfl dX0_nearest_121 ?_
    refine va_get (D := (dC, dI)) (ci := 1) (v := .long (lN nC)) (C := RX1) (T := TX1) (N := 4) hx hb hts in_X1 hown hK hP 1 rfl rfl 2 (by decide) (hts _ q29) (fun _ h9 => h9) rfl dX0_nearest_124 ?_
    refine lv_lload hx hb dX0_nearest_127 (lv_at hl 0 rfl) ?_
    refine lv_aload_n hx hb dX0_nearest_129 rfl (lv_at hl 1 rfl) ?_
    refine va_get (D := (dC, dI)) (ci := 0) (v := .ref h1) (C := RX0) (T := TX0) (N := 3) hx hb hts in_X0 hown hK hP 0 rfl rfl 0 (by decide) (hts _ q41) (fun _ h9 => h9) rfl dX0_nearest_130 ?_
    refine va_get (D := (dC, dI)) (ci := 1) (v := .long (lN nA)) (C := RX1) (T := TX1) (N := 4) hx hb hts in_X1 hown hK hP 1 rfl rfl 0 (by decide) (hts _ q25) (fun _ h9 => h9) rfl dX0_nearest_133 ?_
    refine nr_lmul hx hb dX0_nearest_136 ?_
    refine nr_ladd hx hb dX0_nearest_137 ?_
    generalize nC + nt * nA = na at hE ⊢
    refine lv_lstore (lv' := [(10, .long (lN na)), (8, .long (lN nt)), (0, .ref h0), (2, .long (lN n)), (4, .long (lN x)), (6, .long (lN y))]) hx hb dX0_nearest_138 hl (by decide) rfl (fun ls hl => ?_)
    refine lv_aload_n hx hb dX0_nearest_140 rfl (lv_at hl 2 rfl) ?_
    refine va_get (D := (dC, dI)) (ci := 0) (v := .ref h1) (C := RX0) (T := TX0) (N := 3) hx hb hts in_X0 hown hK hP 0 rfl rfl 0 (by decide) (hts _ q41) (fun _ h9 => h9) rfl dX0_nearest_141 ?_
    refine va_get (D := (dC, dI)) (ci := 1) (v := .long (lN nD)) (C := RX1) (T := TX1) (N := 4) hx hb hts in_X1 hown hK hP 1 rfl rfl 3 (by decide) (hts _ q31) (fun _ h9 => h9) rfl dX0_nearest_144 ?_
    refine lv_lload hx hb dX0_nearest_147 (lv_at hl 1 rfl) ?_
    refine lv_aload_n hx hb dX0_nearest_149 rfl (lv_at hl 2 rfl) ?_
    refine va_get (D := (dC, dI)) (ci := 0) (v := .ref h1) (C := RX0) (T := TX0) (N := 3) hx hb hts in_X0 hown hK hP 0 rfl rfl 0 (by decide) (hts _ q41) (fun _ h9 => h9) rfl dX0_nearest_150 ?_
    refine va_get (D := (dC, dI)) (ci := 1) (v := .long (lN nB)) (C := RX1) (T := TX1) (N := 4) hx hb hts in_X1 hown hK hP 1 rfl rfl 1 (by decide) (hts _ q27) (fun _ h9 => h9) rfl dX0_nearest_153 ?_
    refine nr_lmul hx hb dX0_nearest_156 ?_
    refine nr_ladd hx hb dX0_nearest_157 ?_
    generalize nD + nt * nB = nb at hE ⊢
    generalize x - nt * y = nw at hE
    obtain ⟨hE1, hE2⟩ := fn_E_D hE
    have hE0 := hE
    obtain ⟨-, -, g3, g4, g5, g6, g7, g8, g9, g10⟩ := hE0
    have hb1 : pp * nB ≤ 1048576 * 2048 := Nat.mul_le_mul (by omega) (by omega)
    have hb2 : pp * nb ≤ 1048576 * 2048 := Nat.mul_le_mul (by omega) (by omega)
    have hb3 : nA * qq < 2 ^ 62 := by rcases g10 with ⟨z, -, -⟩ | ⟨z, -, -⟩ <;> omega
    have hb4 : na * qq < 2 ^ 62 := by rcases g10 with ⟨-, z, -⟩ | ⟨-, z, -⟩ <;> omega
    have hb5 : y * nb ≤ 1048576 * 2048 := Nat.mul_le_mul (by omega) (by omega)
    have hb6 : nw * nB ≤ 1048576 * 2048 := Nat.mul_le_mul (by omega) (by omega)
    refine lv_lstore (lv' := [(12, .long (lN nb)), (10, .long (lN na)), (8, .long (lN nt)), (0, .ref h0), (2, .long (lN n)), (4, .long (lN x)), (6, .long (lN y))]) hx hb dX0_nearest_158 hl (by decide) rfl (fun ls hl => ?_)
    refine lv_aload_n hx hb dX0_nearest_160 rfl (lv_at hl 3 rfl) ?_
    refine va_get (D := (dC, dI)) (ci := 0) (v := .ref h1) (C := RX0) (T := TX0) (N := 3) hx hb hts in_X0 hown hK hP 0 rfl rfl 0 (by decide) (hts _ q41) (fun _ h9 => h9) rfl dX0_nearest_161 ?_
    refine lv_aload_n hx hb dX0_nearest_164 rfl (lv_at hl 3 rfl) ?_
    refine va_get (D := (dC, dI)) (ci := 0) (v := .int (nI pp)) (C := RX0) (T := TX0) (N := 3) hx hb hts in_X0 hown hK hP 0 rfl rfl 1 (by decide) (hts _ q42) (fun _ h9 => h9) rfl dX0_nearest_165 ?_
    refine nr_i2l hx hb (by omega) dX0_nearest_168 ?_
    refine lv_aload_n hx hb dX0_nearest_169 rfl (lv_at hl 3 rfl) ?_
    refine va_get (D := (dC, dI)) (ci := 0) (v := .int (nI qq)) (C := RX0) (T := TX0) (N := 3) hx hb hts in_X0 hown hK hP 0 rfl rfl 2 (by decide) (hts _ q43) (fun _ h9 => h9) rfl dX0_nearest_170 ?_
    refine nr_i2l hx hb (by omega) dX0_nearest_173 ?_
    have hPc := hP.sub (ws' := [(h1, .inr (1, [.long (lN nA), .long (lN nB), .long (lN nC), .long (lN nD)]))]) [1] rfl
    have hDc := hD.sub (ws' := [(h1, .inr (1, [.long (lN nA), .long (lN nB), .long (lN nC), .long (lN nD)]))]) [1] (by decide) rfl
    have hKc := hK.sub (tys' := []) [] rfl
    have hFc := va_free (wc := [(h1, .inr (1, [.long (lN nA), .long (lN nB), .long (lN nC), .long (lN nD)]))]) hD hS hA [1] rfl
    refine va_calll (va_runV (As := [.long (lN pp), .long (lN qq)]) (rest := []) ⟨hx, hb, hml, hown, hts⟩ (metX1_off l dC dI h1 H.size nA nB (lN nC) (lN nD) pp qq) (cwV 2 hts (lw_V q72 q73 q74 q7 q75) rfl rfl rfl (by decide +kernel) ⟨Nat.le_of_ble_eq_true rfl, Nat.le_of_ble_eq_true rfl⟩) ⟨fun a U g mk q => by obtain ⟨q0, q1, qP, qK, qD⟩ := q; exact ⟨q0, q1, qP, va_K.moved (u := U) (U := U.calling g mk a) (Vm.Alike.refl U.vm) qK, qD⟩, va_recv hKc hPc (ci := 1) (q0 := 0) rfl rfl, fun U hU hW => ⟨rfl, by rw [hU], by rw [hU]; exact hPc, va_K.moved hW.alike hKc, hDc.weaken (fun _ _ _ _ => trivial)⟩⟩ rfl rfl hl.1 rfl (lv_room (Nat.le_of_ble_eq_true rfl)) dX0_nearest_174 ⟨Nat.le_of_ble_eq_true rfl, Nat.le_of_ble_eq_true rfl⟩) hS (fun q _ h => hFc q h) hFc (fun r_2 u t H locs ht hvm hw hB hz1 hk1 hS => ?_)
    have hw : r_2 = lN (nA * qq) - lN (pp * nB) ∧ u = (lN nA, lN nB, lN nC, lN nD) := hw
    obtain ⟨er, hw⟩ := hw
    subst hw
    subst er
    obtain ⟨hP1, -, hD1⟩ := hB
    rw [ht] at hP1
    obtain ⟨hP, hD⟩ := va_join (wr := [(h0, .inr (0, [.ref h1, .int (nI pp), .int (nI qq)]))]) (w1 := [(h1, .inr (1, [.long (lN nA), .long (lN nB), .long (lN nC), .long (lN nD)]))]) hP hD [1] [0] rfl rfl (by decide) (by decide) hk1 hFc hP1 hD1
    have hP : va_P (dC, dI) vwCl [(h0, .inr (0, [.ref h1, .int (nI pp), .int (nI qq)])), (h1, .inr (1, [.long (lN nA), .long (lN nB), .long (lN nC), .long (lN nD)]))] H := hP
    have hD : va_D A [(h0, .inr (0, [.ref h1, .int (nI pp), .int (nI qq)])), (h1, .inr (1, [.long (lN nA), .long (lN nB), .long (lN nC), .long (lN nD)]))] := hD
    have hPc := hP.sub (ws' := []) [] rfl
    have hDc := hD.sub (ws' := []) [] (by decide) rfl
    have hKc := hK.sub (tys' := []) [] rfl
    have hFc := va_free (wc := []) hD hS hA [] rfl
    refine va_calll (va_runS (As := [.long (lN (nA * qq) - lN (pp * nB))]) (rest := []) ⟨hx, hb, hml, hown, hts⟩ (metJ0_abs l dC dI H.size (lN (nA * qq) - lN (pp * nB))) (va_cwS 1 hts (lw_S q76 q77 q9 q78) rfl rfl rfl (by decide +kernel) ⟨Nat.le_of_ble_eq_true rfl, Nat.le_of_ble_eq_true rfl⟩) ⟨fun a U g mk q => by obtain ⟨q0, q1, qP, qK, qD⟩ := q; exact ⟨q0, q1, qP, va_K.moved (u := U) (U := U.calling g mk a) (Vm.Alike.refl U.vm) qK, qD⟩, fun U hU hW => ⟨rfl, by rw [hU], by rw [hU]; exact hPc, va_K.moved hW.alike hKc, hDc.weaken (fun _ _ _ _ => trivial)⟩⟩ rfl rfl hl.1 rfl (lv_room (Nat.le_of_ble_eq_true rfl)) dX0_nearest_177 ⟨Nat.le_of_ble_eq_true rfl, Nat.le_of_ble_eq_true rfl⟩) hS (fun q _ h => hFc q h) hFc (fun r_3 u t H locs ht hvm hw hB hz1 hk1 hS => ?_)
    have hw : r_3 = (if lN (nA * qq) - lN (pp * nB) < 0 then -(lN (nA * qq) - lN (pp * nB)) else lN (nA * qq) - lN (pp * nB)) := hw
    rw [ld_abs hb3 (by omega)] at hw
    have hw : r_3 = lN y := hw.trans (congrArg lN hE1)
    subst hw
    obtain ⟨hP1, -, hD1⟩ := hB
    rw [ht] at hP1
    obtain ⟨hP, hD⟩ := va_join (wr := [(h0, .inr (0, [.ref h1, .int (nI pp), .int (nI qq)])), (h1, .inr (1, [.long (lN nA), .long (lN nB), .long (lN nC), .long (lN nD)]))]) (w1 := []) hP hD [] [0, 1] rfl rfl (by decide) (by decide) hk1 hFc hP1 hD1
    have hP : va_P (dC, dI) vwCl [(h0, .inr (0, [.ref h1, .int (nI pp), .int (nI qq)])), (h1, .inr (1, [.long (lN nA), .long (lN nB), .long (lN nC), .long (lN nD)]))] H := hP
    have hD : va_D A [(h0, .inr (0, [.ref h1, .int (nI pp), .int (nI qq)])), (h1, .inr (1, [.long (lN nA), .long (lN nB), .long (lN nC), .long (lN nD)]))] := hD
    refine lv_lload hx hb dX0_nearest_180 (lv_at hl 0 rfl) ?_
    refine nr_lmul hx hb dX0_nearest_182 ?_
    refine lv_lstore (lv' := [(14, .long (lN (y * nb))), (12, .long (lN nb)), (10, .long (lN na)), (8, .long (lN nt)), (0, .ref h0), (2, .long (lN n)), (4, .long (lN x)), (6, .long (lN y))]) hx hb dX0_nearest_183 hl (by decide) rfl (fun ls hl => ?_)
    refine lv_lload hx hb dX0_nearest_185 (lv_at hl 2 rfl) ?_
    refine lv_aload_n hx hb dX0_nearest_187 rfl (lv_at hl 4 rfl) ?_
    refine va_get (D := (dC, dI)) (ci := 0) (v := .int (nI qq)) (C := RX0) (T := TX0) (N := 3) hx hb hts in_X0 hown hK hP 0 rfl rfl 2 (by decide) (hts _ q43) (fun _ h9 => h9) rfl dX0_nearest_188 ?_
    refine nr_i2l hx hb (by omega) dX0_nearest_191 ?_
    refine nr_lmul hx hb dX0_nearest_192 ?_
    refine lv_aload_n hx hb dX0_nearest_193 rfl (lv_at hl 4 rfl) ?_
    refine va_get (D := (dC, dI)) (ci := 0) (v := .int (nI pp)) (C := RX0) (T := TX0) (N := 3) hx hb hts in_X0 hown hK hP 0 rfl rfl 1 (by decide) (hts _ q42) (fun _ h9 => h9) rfl dX0_nearest_194 ?_
    refine nr_i2l hx hb (by omega) dX0_nearest_197 ?_
    refine lv_lload hx hb dX0_nearest_198 (lv_at hl 1 rfl) ?_
    refine nr_lmul hx hb dX0_nearest_200 ?_
    refine lv_lsub hx hb dX0_nearest_201 ?_
    have hPc := hP.sub (ws' := []) [] rfl
    have hDc := hD.sub (ws' := []) [] (by decide) rfl
    have hKc := hK.sub (tys' := []) [] rfl
    have hFc := va_free (wc := []) hD hS hA [] rfl
    refine va_calll (va_runS (As := [.long (lN (na * qq) - lN (pp * nb))]) (rest := []) ⟨hx, hb, hml, hown, hts⟩ (metJ0_abs l dC dI H.size (lN (na * qq) - lN (pp * nb))) (va_cwS 1 hts (lw_S q76 q77 q9 q78) rfl rfl rfl (by decide +kernel) ⟨Nat.le_of_ble_eq_true rfl, Nat.le_of_ble_eq_true rfl⟩) ⟨fun a U g mk q => by obtain ⟨q0, q1, qP, qK, qD⟩ := q; exact ⟨q0, q1, qP, va_K.moved (u := U) (U := U.calling g mk a) (Vm.Alike.refl U.vm) qK, qD⟩, fun U hU hW => ⟨rfl, by rw [hU], by rw [hU]; exact hPc, va_K.moved hW.alike hKc, hDc.weaken (fun _ _ _ _ => trivial)⟩⟩ rfl rfl hl.1 rfl (lv_room (Nat.le_of_ble_eq_true rfl)) dX0_nearest_202 ⟨Nat.le_of_ble_eq_true rfl, Nat.le_of_ble_eq_true rfl⟩) hS (fun q _ h => hFc q h) hFc (fun r_4 u t H locs ht hvm hw hB hz1 hk1 hS => ?_)
    have hw : r_4 = (if lN (na * qq) - lN (pp * nb) < 0 then -(lN (na * qq) - lN (pp * nb)) else lN (na * qq) - lN (pp * nb)) := hw
    rw [ld_abs hb4 (by omega)] at hw
    have hw : r_4 = lN nw := hw.trans (congrArg lN hE2)
    subst hw
    obtain ⟨hP1, -, hD1⟩ := hB
    rw [ht] at hP1
    obtain ⟨hP, hD⟩ := va_join (wr := [(h0, .inr (0, [.ref h1, .int (nI pp), .int (nI qq)])), (h1, .inr (1, [.long (lN nA), .long (lN nB), .long (lN nC), .long (lN nD)]))]) (w1 := []) hP hD [] [0, 1] rfl rfl (by decide) (by decide) hk1 hFc hP1 hD1
    have hP : va_P (dC, dI) vwCl [(h0, .inr (0, [.ref h1, .int (nI pp), .int (nI qq)])), (h1, .inr (1, [.long (lN nA), .long (lN nB), .long (lN nC), .long (lN nD)]))] H := hP
    have hD : va_D A [(h0, .inr (0, [.ref h1, .int (nI pp), .int (nI qq)])), (h1, .inr (1, [.long (lN nA), .long (lN nB), .long (lN nC), .long (lN nD)]))] := hD
    refine lv_aload_n hx hb dX0_nearest_205 rfl (lv_at hl 4 rfl) ?_
    refine va_get (D := (dC, dI)) (ci := 0) (v := .ref h1) (C := RX0) (T := TX0) (N := 3) hx hb hts in_X0 hown hK hP 0 rfl rfl 0 (by decide) (hts _ q41) (fun _ h9 => h9) rfl dX0_nearest_206 ?_
    refine va_get (D := (dC, dI)) (ci := 1) (v := .long (lN nB)) (C := RX1) (T := TX1) (N := 4) hx hb hts in_X1 hown hK hP 1 rfl rfl 1 (by decide) (hts _ q27) (fun _ h9 => h9) rfl dX0_nearest_209 ?_
    refine nr_lmul hx hb dX0_nearest_212 ?_
    refine lv_lstore (lv' := [(16, .long (lN (nw * nB))), (14, .long (lN (y * nb))), (12, .long (lN nb)), (10, .long (lN na)), (8, .long (lN nt)), (0, .ref h0), (2, .long (lN n)), (4, .long (lN x)), (6, .long (lN y))]) hx hb dX0_nearest_213 hl (by decide) rfl (fun ls hl => ?_)
    refine lv_aload_n hx hb dX0_nearest_215 rfl (lv_at hl 5 rfl) ?_
    refine va_get (D := (dC, dI)) (ci := 0) (v := .ref h1) (C := RX0) (T := TX0) (N := 3) hx hb hts in_X0 hown hK hP 0 rfl rfl 0 (by decide) (hts _ q41) (fun _ h9 => h9) rfl dX0_nearest_216 ?_
    refine lv_aload_n hx hb dX0_nearest_219 rfl (lv_at hl 5 rfl) ?_
    refine va_get (D := (dC, dI)) (ci := 0) (v := .int (nI pp)) (C := RX0) (T := TX0) (N := 3) hx hb hts in_X0 hown hK hP 0 rfl rfl 1 (by decide) (hts _ q42) (fun _ h9 => h9) rfl dX0_nearest_220 ?_
    refine nr_i2l hx hb (by omega) dX0_nearest_223 ?_
    refine lv_aload_n hx hb dX0_nearest_224 rfl (lv_at hl 5 rfl) ?_
    refine va_get (D := (dC, dI)) (ci := 0) (v := .int (nI qq)) (C := RX0) (T := TX0) (N := 3) hx hb hts in_X0 hown hK hP 0 rfl rfl 2 (by decide) (hts _ q43) (fun _ h9 => h9) rfl dX0_nearest_225 ?_
    refine nr_i2l hx hb (by omega) dX0_nearest_228 ?_
    have hPc := hP.sub (ws' := [(h1, .inr (1, [.long (lN nA), .long (lN nB), .long (lN nC), .long (lN nD)]))]) [1] rfl
    have hDc := hD.sub (ws' := [(h1, .inr (1, [.long (lN nA), .long (lN nB), .long (lN nC), .long (lN nD)]))]) [1] (by decide) rfl
    have hKc := hK.sub (tys' := []) [] rfl
    have hFc := va_free (wc := [(h1, .inr (1, [.long (lN nA), .long (lN nB), .long (lN nC), .long (lN nD)]))]) hD hS hA [1] rfl
    refine va_calll (va_runV (As := [.long (lN pp), .long (lN qq)]) (rest := []) ⟨hx, hb, hml, hown, hts⟩ (metX1_off l dC dI h1 H.size nA nB (lN nC) (lN nD) pp qq) (cwV 2 hts (lw_V q72 q73 q74 q7 q75) rfl rfl rfl (by decide +kernel) ⟨Nat.le_of_ble_eq_true rfl, Nat.le_of_ble_eq_true rfl⟩) ⟨fun a U g mk q => by obtain ⟨q0, q1, qP, qK, qD⟩ := q; exact ⟨q0, q1, qP, va_K.moved (u := U) (U := U.calling g mk a) (Vm.Alike.refl U.vm) qK, qD⟩, va_recv hKc hPc (ci := 1) (q0 := 0) rfl rfl, fun U hU hW => ⟨rfl, by rw [hU], by rw [hU]; exact hPc, va_K.moved hW.alike hKc, hDc.weaken (fun _ _ _ _ => trivial)⟩⟩ rfl rfl hl.1 rfl (lv_room (Nat.le_of_ble_eq_true rfl)) dX0_nearest_229 ⟨Nat.le_of_ble_eq_true rfl, Nat.le_of_ble_eq_true rfl⟩) hS (fun q _ h => hFc q h) hFc (fun r_5 u t H locs ht hvm hw hB hz1 hk1 hS => ?_)
    have hw : r_5 = lN (nA * qq) - lN (pp * nB) ∧ u = (lN nA, lN nB, lN nC, lN nD) := hw
    obtain ⟨er, hw⟩ := hw
    subst hw
    subst er
    obtain ⟨hP1, -, hD1⟩ := hB
    rw [ht] at hP1
    obtain ⟨hP, hD⟩ := va_join (wr := [(h0, .inr (0, [.ref h1, .int (nI pp), .int (nI qq)]))]) (w1 := [(h1, .inr (1, [.long (lN nA), .long (lN nB), .long (lN nC), .long (lN nD)]))]) hP hD [1] [0] rfl rfl (by decide) (by decide) hk1 hFc hP1 hD1
    have hP : va_P (dC, dI) vwCl [(h0, .inr (0, [.ref h1, .int (nI pp), .int (nI qq)])), (h1, .inr (1, [.long (lN nA), .long (lN nB), .long (lN nC), .long (lN nD)]))] H := hP
    have hD : va_D A [(h0, .inr (0, [.ref h1, .int (nI pp), .int (nI qq)])), (h1, .inr (1, [.long (lN nA), .long (lN nB), .long (lN nC), .long (lN nD)]))] := hD
    refine lv_lconst (v := lN 0) hx hb dX0_nearest_232 rfl ?_
    refine nq_ge (tgt := 241) hx hb dX0_nearest_233 dX0_nearest_234 (by decide) (fun c_233 => ?_) (fun c_233 => ?_)
    · have hlw : pp * nB ≤ nA * qq := (ld_nn hb3 (by omega)).mp c_233
      refine lv_iconst (v := nI 0) hx hb dX0_nearest_241 (by decide) ?_
      refine cmpX0_nearest hx hb hml hown hts hA hK (lo := 0) (by omega) (by omega) (by omega) (by omega) (by omega) hP (fun ls hk hl => ?_) (fun ls hk hl => ?_) ls (lv_sub hl [5, 3, 2, 1, 0] rfl)
      · have hk2 : y * nb < nw * nB ∨ (nw * nB = y * nb ∧ (nB < nb ∨ (nB = nb ∧ nA * qq < pp * nB))) := by omega
        have hP9 := hP.sub (ws' := [(h0, .inr (0, [.ref h1, .int (nI pp), .int (nI qq)])), (h1, .inr (1, [.long (lN nA), .long (lN nB), .long (lN nC), .long (lN nD)]))]) [0, 1] rfl
        have hD9 := hD.sub (ws' := [(h0, .inr (0, [.ref h1, .int (nI pp), .int (nI qq)])), (h1, .inr (1, [.long (lN nA), .long (lN nB), .long (lN nC), .long (lN nD)]))]) [0, 1] (by decide) rfl
        have hK9 := hK.sub (tys' := []) [] rfl
        exact W.vret hx hb hr (fun t ht hW => ⟨⟨(lN nA, lN nB, lN nC, lN nD), rfl, ⟨nA, nB, lN nC, lN nD, rfl, fn_E_keep hq1 hE hk2⟩, by rw [ht]; exact hP9, va_K.moved hW.alike hK9, hD9⟩, hS.F ht⟩) hS.2.2 dX0_nearest_291
      · have hk2 : ¬ (y * nb < nw * nB ∨ (nw * nB = y * nb ∧ (nB < nb ∨ (nB = nb ∧ nA * qq < pp * nB)))) := by omega
        refine lv_aload_n hx hb dX0_nearest_292 rfl (lv_at hl 0 rfl) ?_
        refine va_get (D := (dC, dI)) (ci := 0) (v := .ref h1) (C := RX0) (T := TX0) (N := 3) hx hb hts in_X0 hown hK hP 0 rfl rfl 0 (by decide) (hts _ q41) (fun _ h9 => h9) rfl dX0_nearest_293 ?_
        refine lv_lload hx hb dX0_nearest_296 (lv_at hl 1 rfl) ?_
        refine va_put (D := (dC, dI)) (ci := 1) (v := .long (lN na)) (ty := .long) (C := RX1) (T := TX1) (N := 4) hx hb hts in_X1 tyX1 tyX1_ok nmX1 hown hK hP hD hS 1 rfl rfl 0 (by decide) (hts _ q25) (fun _ h9 => h9) rfl (by decide +kernel) rfl rfl (Nat.le_of_ble_eq_true rfl) dX0_nearest_298 (fun H locs hP hD hS => ?_)
        have hP : va_P (dC, dI) vwCl [(h0, .inr (0, [.ref h1, .int (nI pp), .int (nI qq)])), (h1, .inr (1, [.long (lN na), .long (lN nB), .long (lN nC), .long (lN nD)]))] H := hP
        have hD : va_D A [(h0, .inr (0, [.ref h1, .int (nI pp), .int (nI qq)])), (h1, .inr (1, [.long (lN na), .long (lN nB), .long (lN nC), .long (lN nD)]))] := hD
        refine lv_aload_n hx hb dX0_nearest_301 rfl (lv_at hl 0 rfl) ?_
        refine va_get (D := (dC, dI)) (ci := 0) (v := .ref h1) (C := RX0) (T := TX0) (N := 3) hx hb hts in_X0 hown hK hP 0 rfl rfl 0 (by decide) (hts _ q41) (fun _ h9 => h9) rfl dX0_nearest_302 ?_
        refine lv_lload hx hb dX0_nearest_305 (lv_at hl 2 rfl) ?_
        refine va_put (D := (dC, dI)) (ci := 1) (v := .long (lN nb)) (ty := .long) (C := RX1) (T := TX1) (N := 4) hx hb hts in_X1 tyX1 tyX1_ok nmX1 hown hK hP hD hS 1 rfl rfl 1 (by decide) (hts _ q27) (fun _ h9 => h9) rfl (by decide +kernel) rfl rfl (Nat.le_of_ble_eq_true rfl) dX0_nearest_307 (fun H locs hP hD hS => ?_)
        have hP : va_P (dC, dI) vwCl [(h0, .inr (0, [.ref h1, .int (nI pp), .int (nI qq)])), (h1, .inr (1, [.long (lN na), .long (lN nb), .long (lN nC), .long (lN nD)]))] H := hP
        have hD : va_D A [(h0, .inr (0, [.ref h1, .int (nI pp), .int (nI qq)])), (h1, .inr (1, [.long (lN na), .long (lN nb), .long (lN nC), .long (lN nD)]))] := hD
        have hP9 := hP.sub (ws' := [(h0, .inr (0, [.ref h1, .int (nI pp), .int (nI qq)])), (h1, .inr (1, [.long (lN na), .long (lN nb), .long (lN nC), .long (lN nD)]))]) [0, 1] rfl
        have hD9 := hD.sub (ws' := [(h0, .inr (0, [.ref h1, .int (nI pp), .int (nI qq)])), (h1, .inr (1, [.long (lN na), .long (lN nb), .long (lN nC), .long (lN nD)]))]) [0, 1] (by decide) rfl
        have hK9 := hK.sub (tys' := []) [] rfl
        exact W.vret hx hb hr (fun t ht hW => ⟨⟨(lN na, lN nb, lN nC, lN nD), rfl, ⟨na, nb, lN nC, lN nD, rfl, fn_E_take hq1 hE hk2⟩, by rw [ht]; exact hP9, va_K.moved hW.alike hK9, hD9⟩, hS.F ht⟩) hS.2.2 dX0_nearest_310
    · have hlw : nA * qq < pp * nB := Nat.lt_of_not_le (fun g => c_233 ((ld_nn hb3 (by omega)).mpr g))
      refine lv_iconst (v := nI 1) hx hb dX0_nearest_237 (by decide) ?_
      refine lv_goto (tgt := 242) hx hb dX0_nearest_238 (by decide) ?_
      refine cmpX0_nearest hx hb hml hown hts hA hK (lo := 1) (by omega) (by omega) (by omega) (by omega) (by omega) hP (fun ls hk hl => ?_) (fun ls hk hl => ?_) ls (lv_sub hl [5, 3, 2, 1, 0] rfl)
      · have hk2 : y * nb < nw * nB ∨ (nw * nB = y * nb ∧ (nB < nb ∨ (nB = nb ∧ nA * qq < pp * nB))) := by omega
        have hP9 := hP.sub (ws' := [(h0, .inr (0, [.ref h1, .int (nI pp), .int (nI qq)])), (h1, .inr (1, [.long (lN nA), .long (lN nB), .long (lN nC), .long (lN nD)]))]) [0, 1] rfl
        have hD9 := hD.sub (ws' := [(h0, .inr (0, [.ref h1, .int (nI pp), .int (nI qq)])), (h1, .inr (1, [.long (lN nA), .long (lN nB), .long (lN nC), .long (lN nD)]))]) [0, 1] (by decide) rfl
        have hK9 := hK.sub (tys' := []) [] rfl
        exact W.vret hx hb hr (fun t ht hW => ⟨⟨(lN nA, lN nB, lN nC, lN nD), rfl, ⟨nA, nB, lN nC, lN nD, rfl, fn_E_keep hq1 hE hk2⟩, by rw [ht]; exact hP9, va_K.moved hW.alike hK9, hD9⟩, hS.F ht⟩) hS.2.2 dX0_nearest_291
      · have hk2 : ¬ (y * nb < nw * nB ∨ (nw * nB = y * nb ∧ (nB < nb ∨ (nB = nb ∧ nA * qq < pp * nB)))) := by omega
        refine lv_aload_n hx hb dX0_nearest_292 rfl (lv_at hl 0 rfl) ?_
        refine va_get (D := (dC, dI)) (ci := 0) (v := .ref h1) (C := RX0) (T := TX0) (N := 3) hx hb hts in_X0 hown hK hP 0 rfl rfl 0 (by decide) (hts _ q41) (fun _ h9 => h9) rfl dX0_nearest_293 ?_
        refine lv_lload hx hb dX0_nearest_296 (lv_at hl 1 rfl) ?_
        refine va_put (D := (dC, dI)) (ci := 1) (v := .long (lN na)) (ty := .long) (C := RX1) (T := TX1) (N := 4) hx hb hts in_X1 tyX1 tyX1_ok nmX1 hown hK hP hD hS 1 rfl rfl 0 (by decide) (hts _ q25) (fun _ h9 => h9) rfl (by decide +kernel) rfl rfl (Nat.le_of_ble_eq_true rfl) dX0_nearest_298 (fun H locs hP hD hS => ?_)
        have hP : va_P (dC, dI) vwCl [(h0, .inr (0, [.ref h1, .int (nI pp), .int (nI qq)])), (h1, .inr (1, [.long (lN na), .long (lN nB), .long (lN nC), .long (lN nD)]))] H := hP
        have hD : va_D A [(h0, .inr (0, [.ref h1, .int (nI pp), .int (nI qq)])), (h1, .inr (1, [.long (lN na), .long (lN nB), .long (lN nC), .long (lN nD)]))] := hD
        refine lv_aload_n hx hb dX0_nearest_301 rfl (lv_at hl 0 rfl) ?_
        refine va_get (D := (dC, dI)) (ci := 0) (v := .ref h1) (C := RX0) (T := TX0) (N := 3) hx hb hts in_X0 hown hK hP 0 rfl rfl 0 (by decide) (hts _ q41) (fun _ h9 => h9) rfl dX0_nearest_302 ?_
        refine lv_lload hx hb dX0_nearest_305 (lv_at hl 2 rfl) ?_
        refine va_put (D := (dC, dI)) (ci := 1) (v := .long (lN nb)) (ty := .long) (C := RX1) (T := TX1) (N := 4) hx hb hts in_X1 tyX1 tyX1_ok nmX1 hown hK hP hD hS 1 rfl rfl 1 (by decide) (hts _ q27) (fun _ h9 => h9) rfl (by decide +kernel) rfl rfl (Nat.le_of_ble_eq_true rfl) dX0_nearest_307 (fun H locs hP hD hS => ?_)
        have hP : va_P (dC, dI) vwCl [(h0, .inr (0, [.ref h1, .int (nI pp), .int (nI qq)])), (h1, .inr (1, [.long (lN na), .long (lN nb), .long (lN nC), .long (lN nD)]))] H := hP
        have hD : va_D A [(h0, .inr (0, [.ref h1, .int (nI pp), .int (nI qq)])), (h1, .inr (1, [.long (lN na), .long (lN nb), .long (lN nC), .long (lN nD)]))] := hD
        have hP9 := hP.sub (ws' := [(h0, .inr (0, [.ref h1, .int (nI pp), .int (nI qq)])), (h1, .inr (1, [.long (lN na), .long (lN nb), .long (lN nC), .long (lN nD)]))]) [0, 1] rfl
        have hD9 := hD.sub (ws' := [(h0, .inr (0, [.ref h1, .int (nI pp), .int (nI qq)])), (h1, .inr (1, [.long (lN na), .long (lN nb), .long (lN nC), .long (lN nD)]))]) [0, 1] (by decide) rfl
        have hK9 := hK.sub (tys' := []) [] rfl
        exact W.vret hx hb hr (fun t ht hW => ⟨⟨(lN na, lN nb, lN nC, lN nD), rfl, ⟨na, nb, lN nC, lN nD, rfl, fn_E_take hq1 hE hk2⟩, by rw [ht]; exact hP9, va_K.moved hW.alike hK9, hD9⟩, hS.F ht⟩) hS.2.2 dX0_nearest_310
  · have hP9 := hP.sub (ws' := [(h0, .inr (0, [.ref h1, .int (nI pp), .int (nI qq)])), (h1, .inr (1, [.long (lN nA), .long (lN nB), .long (lN nC), .long (lN nD)]))]) [0, 1] rfl
    have hD9 := hD.sub (ws' := [(h0, .inr (0, [.ref h1, .int (nI pp), .int (nI qq)])), (h1, .inr (1, [.long (lN nA), .long (lN nB), .long (lN nC), .long (lN nD)]))]) [0, 1] (by decide) rfl
    have hK9 := hK.sub (tys' := []) [] rfl
    exact W.vret hx hb hr (fun t ht hW => ⟨⟨(lN nA, lN nB, lN nC, lN nD), rfl, ⟨nA, nB, lN nC, lN nD, rfl, fn_exit0 hq1 hN c_96⟩, by rw [ht]; exact hP9, va_K.moved hW.alike hK9, hD9⟩, hS.F ht⟩) hS.2.2 dX0_nearest_100
set_option maxHeartbeats 4000000 in
set_option maxRecDepth 100000 in
/-- top(k) -/
theorem metX0_top (l : Launch) (dC : Nat → ClassId) (dI : Nat → Nat → Nat) (h0 h1 sz : Nat) (pp qq : Nat) (hp : pp < 1048576) (hq1 : 1 ≤ qq) (hq2 : qq ≤ 1048576) (f0 f1 f2 f3 : Int64) (k0 : Int32) : Met l yX0_top wsX0_top ({ frames := 2, cells := 0, slots := 0, locals := 64 }) (va_Pc [.ref h0, .int k0] (fun U => U.heap.size = sz ∧ va_P (dC, dI) vwCl [(h0, .inr (0, [.ref h1, .int (nI pp), .int (nI qq)])), (h1, .inr (1, [.long f0, .long f1, .long f2, .long f3]))] U.heap ∧ va_K (dC, dI) vwCl [] U ∧ va_D (fun _ => True) [(h0, .inr (0, [.ref h1, .int (nI pp), .int (nI qq)])), (h1, .inr (1, [.long f0, .long f1, .long f2, .long f3]))])) (va_Qi (fun (r : Int32) (u : Int64 × Int64 × Int64 × Int64) => ∃ nU nV : Nat, r = nI nU ∧ fn_Best pp qq (1 + mk_ 11 k0) nU nV) (BFM dC dI (va_A [(h0, .inr (0, [.ref h1, .int (nI pp), .int (nI qq)])), (h1, .inr (1, [.long f0, .long f1, .long f2, .long f3]))] sz) h0 h1 (nI pp) (nI qq)) (va_A [(h0, .inr (0, [.ref h1, .int (nI pp), .int (nI qq)])), (h1, .inr (1, [.long f0, .long f1, .long f2, .long f3]))] sz)) 0 0 (va_A [(h0, .inr (0, [.ref h1, .int (nI pp), .int (nI qq)])), (h1, .inr (1, [.long f0, .long f1, .long f2, .long f3]))] sz) := by
  refine Met.ofW (cc := cX0_top) (maxL := 2) (ret := (some .int)) (by decide) rfl ?_
  intro p e s m args below meth c s₁ B hml hv
  obtain ⟨rfl, hsz, hP, hK, hD0⟩ := hv
  have hx := B.exec
  have hb := B.bytes
  have hr := B.returns
  have hts := atoms_spec (ws := wsX0_top) B.pre
  have hts : ∀ w ∈ lw_all, w.before _ s = true := fun w h => hts w (List.mem_cons_of_mem _ h)
  have hown : s.vm.findClass RX0 = some m.cls := findClass_of_methodNamed B.named
  have hlocks := B.notSynchronized
  subst hsz
  have hD := hD0.self (sz := s.heap.size)
  generalize hAe : va_A [(h0, .inr (0, [.ref h1, .int (nI pp), .int (nI qq)])), (h1, .inr (1, [.long f0, .long f1, .long f2, .long f3]))] s.heap.size = A at hD ⊢
  have hA : ∀ q : Nat, s.heap.size ≤ q → A q := fun q h => by rw [← hAe]; exact Or.inr h
  have hS : va_S A s.heap s.heap [] := va_S.rf
  have hP : va_P (dC, dI) vwCl [(h0, .inr (0, [.ref h1, .int (nI pp), .int (nI qq)])), (h1, .inr (1, [.long f0, .long f1, .long f2, .long f3]))] s.heap := hP
  have hl := lv_entry ([.ref h0, .int k0]) (n := 2) (Nat.le_of_ble_eq_true rfl)
  rw [lg_entry_eq]
  generalize (lg_sl ([.ref h0, .int k0]) ++ List.replicate (2 - (lg_sl ([.ref h0, .int k0])).length) Slot.unset).toArray = ls at hl ⊢
  have hl : lv_has ls 2 [(0, .ref h0), (1, .int k0)] := hl
  refine lv_aload_n hx hb dX0_top_0 rfl (lv_at hl 0 rfl) ?_
  refine lv_iload_n hx hb dX0_top_1 rfl (lv_at hl 1 rfl) ?_
  have hPc := hP.sub (ws' := [(h0, .inr (0, [.ref h1, .int (nI pp), .int (nI qq)])), (h1, .inr (1, [.long f0, .long f1, .long f2, .long f3]))]) [0, 1] rfl
  have hDc := hD.sub (ws' := [(h0, .inr (0, [.ref h1, .int (nI pp), .int (nI qq)])), (h1, .inr (1, [.long f0, .long f1, .long f2, .long f3]))]) [0, 1] (by decide) rfl
  have hKc := hK.sub (tys' := []) [] rfl
  have hFc := va_free (wc := [(h0, .inr (0, [.ref h1, .int (nI pp), .int (nI qq)])), (h1, .inr (1, [.long f0, .long f1, .long f2, .long f3]))]) hD hS hA [0, 1] rfl
  refine va_callv (va_runV (As := [.int k0]) (rest := []) ⟨hx, hb, hml, hown, hts⟩ (metX0_nearest l dC dI h0 h1 s.heap.size pp qq hp hq1 hq2 f0 f1 f2 f3 k0) (cwV 1 hts (lw_V q60 q62 qs0 q6 q63) rfl rfl rfl (by decide +kernel) ⟨Nat.le_of_ble_eq_true rfl, Nat.le_of_ble_eq_true rfl⟩) ⟨fun a U g mk q => by obtain ⟨q0, q1, qP, qK, qD⟩ := q; exact ⟨q0, q1, qP, va_K.moved (u := U) (U := U.calling g mk a) (Vm.Alike.refl U.vm) qK, qD⟩, va_recv hKc hPc (ci := 0) (q0 := 0) rfl rfl, fun U hU hW => ⟨rfl, by rw [hU], by rw [hU]; exact hPc, va_K.moved hW.alike hKc, hDc.weaken (fun _ _ _ _ => trivial)⟩⟩ rfl rfl hl.1 rfl (lv_room (Nat.le_of_ble_eq_true rfl)) dX0_top_2 ⟨Nat.le_of_ble_eq_true rfl, Nat.le_of_ble_eq_true rfl⟩) hS (fun q _ h => hFc q h) hFc (fun u t H locs ht hvm hw hB hz1 hk1 hS => ?_)
  obtain ⟨nU, nV, g2, g3, hu, hbest⟩ := hw
  subst hu
  obtain ⟨hP1, -, hD1⟩ := hB
  rw [ht] at hP1
  obtain ⟨hP, hD⟩ := va_join (wr := []) (w1 := [(h0, .inr (0, [.ref h1, .int (nI pp), .int (nI qq)])), (h1, .inr (1, [.long (lN nU), .long (lN nV), .long g2, .long g3]))]) hP hD [0, 1] [] rfl rfl (by decide) (by decide) hk1 hFc hP1 hD1
  have hP : va_P (dC, dI) vwCl [(h0, .inr (0, [.ref h1, .int (nI pp), .int (nI qq)])), (h1, .inr (1, [.long (lN nU), .long (lN nV), .long g2, .long g3]))] H := hP
  have hD : va_D A [(h0, .inr (0, [.ref h1, .int (nI pp), .int (nI qq)])), (h1, .inr (1, [.long (lN nU), .long (lN nV), .long g2, .long g3]))] := hD
  refine lv_aload_n hx hb dX0_top_5 rfl (lv_at hl 0 rfl) ?_
  refine va_get (D := (dC, dI)) (ci := 0) (v := .ref h1) (C := RX0) (T := TX0) (N := 3) hx hb hts in_X0 hown hK hP 0 rfl rfl 0 (by decide) (hts _ q41) (fun _ h9 => h9) rfl dX0_top_6 ?_
  refine va_get (D := (dC, dI)) (ci := 1) (v := .long (lN nU)) (C := RX1) (T := TX1) (N := 4) hx hb hts in_X1 hown hK hP 1 rfl rfl 0 (by decide) (hts _ q25) (fun _ h9 => h9) rfl dX0_top_9 ?_
  refine nr_l2i hx hb dX0_top_12 ?_
  have hP9 := hP.sub (ws' := [(h0, .inr (0, [.ref h1, .int (nI pp), .int (nI qq)])), (h1, .inr (1, [.long (lN nU), .long (lN nV), .long g2, .long g3]))]) [0, 1] rfl
  have hD9 := hD.sub (ws' := [(h0, .inr (0, [.ref h1, .int (nI pp), .int (nI qq)])), (h1, .inr (1, [.long (lN nU), .long (lN nV), .long g2, .long g3]))]) [0, 1] (by decide) rfl
  have hK9 := hK.sub (tys' := []) [] rfl
  exact W.iret (v := nI nU) hx hb hr (fun t ht hW => ⟨⟨nI nU, (lN nU, lN nV, g2, g3), rfl, ⟨nU, nV, rfl, hbest⟩, by rw [ht]; exact hP9, va_K.moved hW.alike hK9, hD9⟩, hS.F ht⟩) hS.2.2 dX0_top_13
set_option maxHeartbeats 4000000 in
set_option maxRecDepth 100000 in
/-- bottom(k) -/
theorem metX0_bottom (l : Launch) (dC : Nat → ClassId) (dI : Nat → Nat → Nat) (h0 h1 sz : Nat) (pp qq : Nat) (hp : pp < 1048576) (hq1 : 1 ≤ qq) (hq2 : qq ≤ 1048576) (f0 f1 f2 f3 : Int64) (k0 : Int32) : Met l yX0_bottom wsX0_bottom ({ frames := 2, cells := 0, slots := 0, locals := 64 }) (va_Pc [.ref h0, .int k0] (fun U => U.heap.size = sz ∧ va_P (dC, dI) vwCl [(h0, .inr (0, [.ref h1, .int (nI pp), .int (nI qq)])), (h1, .inr (1, [.long f0, .long f1, .long f2, .long f3]))] U.heap ∧ va_K (dC, dI) vwCl [] U ∧ va_D (fun _ => True) [(h0, .inr (0, [.ref h1, .int (nI pp), .int (nI qq)])), (h1, .inr (1, [.long f0, .long f1, .long f2, .long f3]))])) (va_Qi (fun (r : Int32) (u : Int64 × Int64 × Int64 × Int64) => ∃ nU nV : Nat, r = nI nV ∧ fn_Best pp qq (1 + mk_ 11 k0) nU nV) (BFM dC dI (va_A [(h0, .inr (0, [.ref h1, .int (nI pp), .int (nI qq)])), (h1, .inr (1, [.long f0, .long f1, .long f2, .long f3]))] sz) h0 h1 (nI pp) (nI qq)) (va_A [(h0, .inr (0, [.ref h1, .int (nI pp), .int (nI qq)])), (h1, .inr (1, [.long f0, .long f1, .long f2, .long f3]))] sz)) 0 0 (va_A [(h0, .inr (0, [.ref h1, .int (nI pp), .int (nI qq)])), (h1, .inr (1, [.long f0, .long f1, .long f2, .long f3]))] sz) := by
  refine Met.ofW (cc := cX0_bottom) (maxL := 2) (ret := (some .int)) (by decide) rfl ?_
  intro p e s m args below meth c s₁ B hml hv
  obtain ⟨rfl, hsz, hP, hK, hD0⟩ := hv
  have hx := B.exec
  have hb := B.bytes
  have hr := B.returns
  have hts := atoms_spec (ws := wsX0_bottom) B.pre
  have hts : ∀ w ∈ lw_all, w.before _ s = true := fun w h => hts w (List.mem_cons_of_mem _ h)
  have hown : s.vm.findClass RX0 = some m.cls := findClass_of_methodNamed B.named
  have hlocks := B.notSynchronized
  subst hsz
  have hD := hD0.self (sz := s.heap.size)
  generalize hAe : va_A [(h0, .inr (0, [.ref h1, .int (nI pp), .int (nI qq)])), (h1, .inr (1, [.long f0, .long f1, .long f2, .long f3]))] s.heap.size = A at hD ⊢
  have hA : ∀ q : Nat, s.heap.size ≤ q → A q := fun q h => by rw [← hAe]; exact Or.inr h
  have hS : va_S A s.heap s.heap [] := va_S.rf
  have hP : va_P (dC, dI) vwCl [(h0, .inr (0, [.ref h1, .int (nI pp), .int (nI qq)])), (h1, .inr (1, [.long f0, .long f1, .long f2, .long f3]))] s.heap := hP
  have hl := lv_entry ([.ref h0, .int k0]) (n := 2) (Nat.le_of_ble_eq_true rfl)
  rw [lg_entry_eq]
  generalize (lg_sl ([.ref h0, .int k0]) ++ List.replicate (2 - (lg_sl ([.ref h0, .int k0])).length) Slot.unset).toArray = ls at hl ⊢
  have hl : lv_has ls 2 [(0, .ref h0), (1, .int k0)] := hl
  refine lv_aload_n hx hb dX0_bottom_0 rfl (lv_at hl 0 rfl) ?_
  refine lv_iload_n hx hb dX0_bottom_1 rfl (lv_at hl 1 rfl) ?_
  have hPc := hP.sub (ws' := [(h0, .inr (0, [.ref h1, .int (nI pp), .int (nI qq)])), (h1, .inr (1, [.long f0, .long f1, .long f2, .long f3]))]) [0, 1] rfl
  have hDc := hD.sub (ws' := [(h0, .inr (0, [.ref h1, .int (nI pp), .int (nI qq)])), (h1, .inr (1, [.long f0, .long f1, .long f2, .long f3]))]) [0, 1] (by decide) rfl
  have hKc := hK.sub (tys' := []) [] rfl
  have hFc := va_free (wc := [(h0, .inr (0, [.ref h1, .int (nI pp), .int (nI qq)])), (h1, .inr (1, [.long f0, .long f1, .long f2, .long f3]))]) hD hS hA [0, 1] rfl
  refine va_callv (va_runV (As := [.int k0]) (rest := []) ⟨hx, hb, hml, hown, hts⟩ (metX0_nearest l dC dI h0 h1 s.heap.size pp qq hp hq1 hq2 f0 f1 f2 f3 k0) (cwV 1 hts (lw_V q60 q62 qs0 q6 q63) rfl rfl rfl (by decide +kernel) ⟨Nat.le_of_ble_eq_true rfl, Nat.le_of_ble_eq_true rfl⟩) ⟨fun a U g mk q => by obtain ⟨q0, q1, qP, qK, qD⟩ := q; exact ⟨q0, q1, qP, va_K.moved (u := U) (U := U.calling g mk a) (Vm.Alike.refl U.vm) qK, qD⟩, va_recv hKc hPc (ci := 0) (q0 := 0) rfl rfl, fun U hU hW => ⟨rfl, by rw [hU], by rw [hU]; exact hPc, va_K.moved hW.alike hKc, hDc.weaken (fun _ _ _ _ => trivial)⟩⟩ rfl rfl hl.1 rfl (lv_room (Nat.le_of_ble_eq_true rfl)) dX0_bottom_2 ⟨Nat.le_of_ble_eq_true rfl, Nat.le_of_ble_eq_true rfl⟩) hS (fun q _ h => hFc q h) hFc (fun u t H locs ht hvm hw hB hz1 hk1 hS => ?_)
  obtain ⟨nU, nV, g2, g3, hu, hbest⟩ := hw
  subst hu
  obtain ⟨hP1, -, hD1⟩ := hB
  rw [ht] at hP1
  obtain ⟨hP, hD⟩ := va_join (wr := []) (w1 := [(h0, .inr (0, [.ref h1, .int (nI pp), .int (nI qq)])), (h1, .inr (1, [.long (lN nU), .long (lN nV), .long g2, .long g3]))]) hP hD [0, 1] [] rfl rfl (by decide) (by decide) hk1 hFc hP1 hD1
  have hP : va_P (dC, dI) vwCl [(h0, .inr (0, [.ref h1, .int (nI pp), .int (nI qq)])), (h1, .inr (1, [.long (lN nU), .long (lN nV), .long g2, .long g3]))] H := hP
  have hD : va_D A [(h0, .inr (0, [.ref h1, .int (nI pp), .int (nI qq)])), (h1, .inr (1, [.long (lN nU), .long (lN nV), .long g2, .long g3]))] := hD
  refine lv_aload_n hx hb dX0_bottom_5 rfl (lv_at hl 0 rfl) ?_
  refine va_get (D := (dC, dI)) (ci := 0) (v := .ref h1) (C := RX0) (T := TX0) (N := 3) hx hb hts in_X0 hown hK hP 0 rfl rfl 0 (by decide) (hts _ q41) (fun _ h9 => h9) rfl dX0_bottom_6 ?_
  refine va_get (D := (dC, dI)) (ci := 1) (v := .long (lN nV)) (C := RX1) (T := TX1) (N := 4) hx hb hts in_X1 hown hK hP 1 rfl rfl 1 (by decide) (hts _ q27) (fun _ h9 => h9) rfl dX0_bottom_9 ?_
  refine nr_l2i hx hb dX0_bottom_12 ?_
  have hP9 := hP.sub (ws' := [(h0, .inr (0, [.ref h1, .int (nI pp), .int (nI qq)])), (h1, .inr (1, [.long (lN nU), .long (lN nV), .long g2, .long g3]))]) [0, 1] rfl
  have hD9 := hD.sub (ws' := [(h0, .inr (0, [.ref h1, .int (nI pp), .int (nI qq)])), (h1, .inr (1, [.long (lN nU), .long (lN nV), .long g2, .long g3]))]) [0, 1] (by decide) rfl
  have hK9 := hK.sub (tys' := []) [] rfl
  exact W.iret (v := nI nV) hx hb hr (fun t ht hW => ⟨⟨nI nV, (lN nU, lN nV, g2, g3), rfl, ⟨nU, nV, rfl, hbest⟩, by rw [ht]; exact hP9, va_K.moved hW.alike hK9, hD9⟩, hS.F ht⟩) hS.2.2 dX0_bottom_13
end
section
/-! MODULE FractionNear: between, simplest, under -/
theorem fn_lin (t X Y U V : Nat) : X * (t * U + V) + Y * U = (t * X + Y) * U + X * V := by
  simp only [Nat.mul_add, Nat.add_mul, Nat.mul_comm, Nat.mul_left_comm, Nat.mul_assoc]
  omega
def fn_SA (a b c d : Nat) (r : Int32) : Prop := (¬ a * d < c * b ∧ r = -1) ∨ (a * d < c * b ∧ ∃ U V : Nat, fn_Simp a b c d U V ∧ r = nI U)
def fn_SB (a b c d : Nat) (r : Int32) : Prop := (¬ a * d < c * b ∧ r = -1) ∨ (a * d < c * b ∧ ∃ U V : Nat, fn_Simp a b c d U V ∧ r = nI V)
theorem fn_SA_uniq {a b c d : Nat} {r r' : Int32} (h : fn_SA a b c d r) (h' : fn_SA a b c d r') : r = r' := by
  rcases h with ⟨g, e⟩ | ⟨g, U, V, hs, e⟩ <;> rcases h' with ⟨g', e'⟩ | ⟨g', U', V', hs', e'⟩
  · rw [e, e']
  · exact absurd g' g
  · exact absurd g g'
  · rw [e, e', (fn_Simp_uniq hs hs').1]
theorem fn_SB_uniq {a b c d : Nat} {r r' : Int32} (h : fn_SB a b c d r) (h' : fn_SB a b c d r') : r = r' := by
  rcases h with ⟨g, e⟩ | ⟨g, U, V, hs, e⟩ <;> rcases h' with ⟨g', e'⟩ | ⟨g', U', V', hs', e'⟩
  · rw [e, e']
  · exact absurd g' g
  · exact absurd g g'
  · rw [e, e', (fn_Simp_uniq hs hs').2]
set_option maxHeartbeats 4000000 in
set_option maxRecDepth 100000 in
/-- between's loop -/
theorem lpX0_between {p : Program} {l : Launch} {e : Env} {s : State} {m : MethodId} {args : Array Value} {below : List Frame} {meth : Method} {c : Code} {Q : State → Prop} {dC : Nat → ClassId} {dI : Nat → Nat → Nat} {A : Nat → Prop} {h0 h1 : Nat} {fa fb : Int32} (hx : p.tables.exec = Jvm.exec) (hb : c.code = cX0_between) (hml : c.maxLocals = 19) (hown : s.vm.findClass RX0 = some m.cls) (hts : ∀ w ∈ lw_all, w.before args s = true) (hA : ∀ q : Nat, s.heap.size ≤ q → A q) (hK : va_K (dC, dI) vwCl [] s) (a0 b0 c0 d0 : Nat)
    (K : ∀ (nU nV nC nD : Nat) (H : Heap) (locs : List Loc) (ls : Array Slot), fn_Simp a0 b0 c0 d0 nU nV → va_P (dC, dI) vwCl [(h0, .inr (0, [.ref h1, .int fa, .int fb])), (h1, .inr (1, [.long (lN nU), .long (lN nV), .long (lN nC), .long (lN nD)]))] H → va_D A [(h0, .inr (0, [.ref h1, .int fa, .int fb])), (h1, .inr (1, [.long (lN nU), .long (lN nV), .long (lN nC), .long (lN nD)]))] → va_S A s.heap H locs → lv_has ls 19 [(0, .ref h0)] → W p l e (headSpec wsX0_between ({ frames := 1, cells := 0, slots := 0, locals := 26 })).room s m args below meth c H locs 0 0 Q (F0 m 91 ls [])) :
    ∀ (f ga gb gc gd nA nB nC nD : Nat), gb + gd < f → 0 < gb → ga * gd < gc * gb → ga ≤ 1024 → gb ≤ 1024 → gc ≤ 1024 → gd ≤ 1024 → (∀ U V : Nat, fn_Simp ga gb gc gd U V → fn_Simp a0 b0 c0 d0 (nA * U + nC * V) (nB * U + nD * V)) → ∀ (H : Heap) (locs : List Loc), va_P (dC, dI) vwCl [(h0, .inr (0, [.ref h1, .int fa, .int fb])), (h1, .inr (1, [.long (lN nA), .long (lN nB), .long (lN nC), .long (lN nD)]))] H → va_D A [(h0, .inr (0, [.ref h1, .int fa, .int fb])), (h1, .inr (1, [.long (lN nA), .long (lN nB), .long (lN nC), .long (lN nD)]))] → va_S A s.heap H locs → ∀ ls : Array Slot, lv_has ls 19 [(0, .ref h0), (5, .long (lN ga)), (7, .long (lN gb)), (9, .long (lN gc)), (11, .long (lN gd))] → W p l e (headSpec wsX0_between ({ frames := 1, cells := 0, slots := 0, locals := 26 })).room s m args below meth c H locs 0 0 Q (F0 m 60 ls []) := by
  intro f
  induction f with
  | zero =>
    intro ga gb gc gd nA nB nC nD h
    exact absurd h (Nat.not_lt_zero _)
  | succ f ih =>
    intro ga gb gc gd nA nB nC nD hf hgb hlt ba bb bc bd hI H locs hP hD hS ls hl
    have hq := Nat.div_le_self ga gb
    have hmul : (ga / gb + 1) * gd ≤ 1025 * 1024 := Nat.mul_le_mul (by omega) bd
    refine lv_lload hx hb dX0_between_60 (lv_at hl 1 rfl) ?_
    refine lv_lload hx hb dX0_between_62 (lv_at hl 2 rfl) ?_
    refine nr_ldiv hx hb (by omega) hgb (by omega) dX0_between_64 ?_
    refine lv_lstore (lv' := [(13, .long (lN (ga / gb))), (0, .ref h0), (5, .long (lN ga)), (7, .long (lN gb)), (9, .long (lN gc)), (11, .long (lN gd))]) hx hb dX0_between_65 hl (by decide) rfl (fun ls hl => ?_)
    refine lv_lload hx hb dX0_between_67 (lv_at hl 0 rfl) ?_
    refine lv_lconst (v := lN 1) hx hb dX0_between_69 rfl ?_
    refine nr_ladd hx hb dX0_between_70 ?_
    refine lv_lload hx hb dX0_between_71 (lv_at hl 5 rfl) ?_
    refine nr_lmul hx hb dX0_between_73 ?_
    refine lv_lload hx hb dX0_between_74 (lv_at hl 4 rfl) ?_
    refine nl_ge (tgt := 93) hx hb (by omega) (by omega) dX0_between_76 dX0_between_77 (by decide) (fun c_76 => ?_) (fun c_76 => ?_)
    · obtain ⟨s1, s2, s3, s4, s5, s6⟩ := fn_btw_step hgb hlt (Nat.not_lt_of_le c_76)
      refine lv_aload_n hx hb dX0_between_93 rfl (lv_at hl 1 rfl) ?_
      refine va_get (D := (dC, dI)) (ci := 0) (v := .ref h1) (C := RX0) (T := TX0) (N := 3) hx hb hts in_X0 hown hK hP 0 rfl rfl 0 (by decide) (hts _ q41) (fun _ h9 => h9) rfl dX0_between_94 ?_
      refine lv_lload hx hb dX0_between_97 (lv_at hl 0 rfl) ?_
      have hPc := hP.sub (ws' := [(h1, .inr (1, [.long (lN nA), .long (lN nB), .long (lN nC), .long (lN nD)]))]) [1] rfl
      have hDc := hD.sub (ws' := [(h1, .inr (1, [.long (lN nA), .long (lN nB), .long (lN nC), .long (lN nD)]))]) [1] (by decide) rfl
      have hKc := hK.sub (tys' := []) [] rfl
      have hFc := va_free (wc := [(h1, .inr (1, [.long (lN nA), .long (lN nB), .long (lN nC), .long (lN nD)]))]) hD hS hA [1] rfl
      refine va_callv (va_runV (As := [.long (lN (ga / gb))]) (rest := []) ⟨hx, hb, hml, hown, hts⟩ (metX1_add l dC dI h1 H.size nA nB nC nD (ga / gb)) (cwV 1 hts (lw_V q68 q69 q70 q7 q71) rfl rfl rfl (by decide +kernel) ⟨Nat.le_of_ble_eq_true rfl, Nat.le_of_ble_eq_true rfl⟩) ⟨fun a U g mk q => by obtain ⟨q0, q1, qP, qK, qD⟩ := q; exact ⟨q0, q1, qP, va_K.moved (u := U) (U := U.calling g mk a) (Vm.Alike.refl U.vm) qK, qD⟩, va_recv hKc hPc (ci := 1) (q0 := 0) rfl rfl, fun U hU hW => ⟨rfl, by rw [hU], by rw [hU]; exact hPc, va_K.moved hW.alike hKc, hDc.weaken (fun _ _ _ _ => trivial)⟩⟩ rfl rfl hl.1 rfl (lv_room (Nat.le_of_ble_eq_true rfl)) dX0_between_99 ⟨Nat.le_of_ble_eq_true rfl, Nat.le_of_ble_eq_true rfl⟩) hS (fun q _ h => hFc q h) hFc (fun u t H locs ht hvm hw hB hz1 hk1 hS => ?_)
      have hw : u = (lN (ga / gb * nA + nC), lN (ga / gb * nB + nD), lN nA, lN nB) := hw
      subst hw
      obtain ⟨hP1, -, hD1⟩ := hB
      rw [ht] at hP1
      obtain ⟨hP, hD⟩ := va_join (wr := [(h0, .inr (0, [.ref h1, .int fa, .int fb]))]) (w1 := [(h1, .inr (1, [.long (lN (ga / gb * nA + nC)), .long (lN (ga / gb * nB + nD)), .long (lN nA), .long (lN nB)]))]) hP hD [1] [0] rfl rfl (by decide) (by decide) hk1 hFc hP1 hD1
      have hP : va_P (dC, dI) vwCl [(h0, .inr (0, [.ref h1, .int fa, .int fb])), (h1, .inr (1, [.long (lN (ga / gb * nA + nC)), .long (lN (ga / gb * nB + nD)), .long (lN nA), .long (lN nB)]))] H := hP
      have hD : va_D A [(h0, .inr (0, [.ref h1, .int fa, .int fb])), (h1, .inr (1, [.long (lN (ga / gb * nA + nC)), .long (lN (ga / gb * nB + nD)), .long (lN nA), .long (lN nB)]))] := hD
      refine lv_lload hx hb dX0_between_102 (lv_at hl 2 rfl) ?_
      refine lv_lload hx hb dX0_between_104 (lv_at hl 0 rfl) ?_
      refine lv_lload hx hb dX0_between_106 (lv_at hl 3 rfl) ?_
      refine nr_lmul hx hb dX0_between_108 ?_
      refine nr_lsub hx hb s2 dX0_between_109 ?_
      refine lv_lstore (lv' := [(15, .long (lN (ga - ((ga / gb) * gb)))), (13, .long (lN (ga / gb))), (0, .ref h0), (5, .long (lN ga)), (7, .long (lN gb)), (9, .long (lN gc)), (11, .long (lN gd))]) hx hb dX0_between_110 hl (by decide) rfl (fun ls hl => ?_)
      refine lv_lload hx hb dX0_between_112 (lv_at hl 5 rfl) ?_
      refine lv_lload hx hb dX0_between_114 (lv_at hl 1 rfl) ?_
      refine lv_lload hx hb dX0_between_116 (lv_at hl 6 rfl) ?_
      refine nr_lmul hx hb dX0_between_118 ?_
      refine nr_lsub hx hb s1 dX0_between_119 ?_
      refine lv_lstore (lv' := [(17, .long (lN (gc - ((ga / gb) * gd)))), (15, .long (lN (ga - ((ga / gb) * gb)))), (13, .long (lN (ga / gb))), (0, .ref h0), (5, .long (lN ga)), (7, .long (lN gb)), (9, .long (lN gc)), (11, .long (lN gd))]) hx hb dX0_between_120 hl (by decide) rfl (fun ls hl => ?_)
      refine lv_lload hx hb dX0_between_122 (lv_at hl 5 rfl) ?_
      refine lv_lstore (lv' := [(9, .long (lN gb)), (17, .long (lN (gc - ((ga / gb) * gd)))), (15, .long (lN (ga - ((ga / gb) * gb)))), (13, .long (lN (ga / gb))), (0, .ref h0), (5, .long (lN ga)), (7, .long (lN gb)), (11, .long (lN gd))]) hx hb dX0_between_124 hl (by decide) rfl (fun ls hl => ?_)
      refine lv_lload hx hb dX0_between_126 (lv_at hl 7 rfl) ?_
      refine lv_lstore (lv' := [(5, .long (lN gd)), (9, .long (lN gb)), (17, .long (lN (gc - ((ga / gb) * gd)))), (15, .long (lN (ga - ((ga / gb) * gb)))), (13, .long (lN (ga / gb))), (0, .ref h0), (7, .long (lN gb)), (11, .long (lN gd))]) hx hb dX0_between_128 hl (by decide) rfl (fun ls hl => ?_)
      refine lv_lload hx hb dX0_between_130 (lv_at hl 2 rfl) ?_
      refine lv_lstore (lv' := [(7, .long (lN (gc - ((ga / gb) * gd)))), (5, .long (lN gd)), (9, .long (lN gb)), (17, .long (lN (gc - ((ga / gb) * gd)))), (15, .long (lN (ga - ((ga / gb) * gb)))), (13, .long (lN (ga / gb))), (0, .ref h0), (11, .long (lN gd))]) hx hb dX0_between_132 hl (by decide) rfl (fun ls hl => ?_)
      refine lv_lload hx hb dX0_between_134 (lv_at hl 4 rfl) ?_
      refine lv_lstore (lv' := [(11, .long (lN (ga - ((ga / gb) * gb)))), (7, .long (lN (gc - ((ga / gb) * gd)))), (5, .long (lN gd)), (9, .long (lN gb)), (17, .long (lN (gc - ((ga / gb) * gd)))), (15, .long (lN (ga - ((ga / gb) * gb)))), (13, .long (lN (ga / gb))), (0, .ref h0)]) hx hb dX0_between_136 hl (by decide) rfl (fun ls hl => ?_)
      refine lv_goto (tgt := 60) hx hb dX0_between_138 (by decide) ?_
      exact ih gd (gc - ga / gb * gd) gb (ga - ga / gb * gb) (ga / gb * nA + nC) (ga / gb * nB + nD) nA nB (by omega) s3 s6 bd (by omega) bb (by omega) (fun U V h => by rw [← fn_lin, ← fn_lin]; exact hI _ _ (fn_Simp_step hgb s1 h)) H locs hP hD hS ls (lv_sub hl [7, 2, 1, 3, 0] rfl)
    · refine lv_aload_n hx hb dX0_between_80 rfl (lv_at hl 1 rfl) ?_
      refine va_get (D := (dC, dI)) (ci := 0) (v := .ref h1) (C := RX0) (T := TX0) (N := 3) hx hb hts in_X0 hown hK hP 0 rfl rfl 0 (by decide) (hts _ q41) (fun _ h9 => h9) rfl dX0_between_81 ?_
      refine lv_lload hx hb dX0_between_84 (lv_at hl 0 rfl) ?_
      refine lv_lconst (v := lN 1) hx hb dX0_between_86 rfl ?_
      refine nr_ladd hx hb dX0_between_87 ?_
      have hPc := hP.sub (ws' := [(h1, .inr (1, [.long (lN nA), .long (lN nB), .long (lN nC), .long (lN nD)]))]) [1] rfl
      have hDc := hD.sub (ws' := [(h1, .inr (1, [.long (lN nA), .long (lN nB), .long (lN nC), .long (lN nD)]))]) [1] (by decide) rfl
      have hKc := hK.sub (tys' := []) [] rfl
      have hFc := va_free (wc := [(h1, .inr (1, [.long (lN nA), .long (lN nB), .long (lN nC), .long (lN nD)]))]) hD hS hA [1] rfl
      refine va_callv (va_runV (As := [.long (lN ((ga / gb) + 1))]) (rest := []) ⟨hx, hb, hml, hown, hts⟩ (metX1_add l dC dI h1 H.size nA nB nC nD (ga / gb + 1)) (cwV 1 hts (lw_V q68 q69 q70 q7 q71) rfl rfl rfl (by decide +kernel) ⟨Nat.le_of_ble_eq_true rfl, Nat.le_of_ble_eq_true rfl⟩) ⟨fun a U g mk q => by obtain ⟨q0, q1, qP, qK, qD⟩ := q; exact ⟨q0, q1, qP, va_K.moved (u := U) (U := U.calling g mk a) (Vm.Alike.refl U.vm) qK, qD⟩, va_recv hKc hPc (ci := 1) (q0 := 0) rfl rfl, fun U hU hW => ⟨rfl, by rw [hU], by rw [hU]; exact hPc, va_K.moved hW.alike hKc, hDc.weaken (fun _ _ _ _ => trivial)⟩⟩ rfl rfl hl.1 rfl (lv_room (Nat.le_of_ble_eq_true rfl)) dX0_between_88 ⟨Nat.le_of_ble_eq_true rfl, Nat.le_of_ble_eq_true rfl⟩) hS (fun q _ h => hFc q h) hFc (fun u t H locs ht hvm hw hB hz1 hk1 hS => ?_)
      have hw : u = (lN ((ga / gb + 1) * nA + nC), lN ((ga / gb + 1) * nB + nD), lN nA, lN nB) := hw
      subst hw
      obtain ⟨hP1, -, hD1⟩ := hB
      rw [ht] at hP1
      obtain ⟨hP, hD⟩ := va_join (wr := [(h0, .inr (0, [.ref h1, .int fa, .int fb]))]) (w1 := [(h1, .inr (1, [.long (lN ((ga / gb + 1) * nA + nC)), .long (lN ((ga / gb + 1) * nB + nD)), .long (lN nA), .long (lN nB)]))]) hP hD [1] [0] rfl rfl (by decide) (by decide) hk1 hFc hP1 hD1
      have hP : va_P (dC, dI) vwCl [(h0, .inr (0, [.ref h1, .int fa, .int fb])), (h1, .inr (1, [.long (lN ((ga / gb + 1) * nA + nC)), .long (lN ((ga / gb + 1) * nB + nD)), .long (lN nA), .long (lN nB)]))] H := hP
      have hD : va_D A [(h0, .inr (0, [.ref h1, .int fa, .int fb])), (h1, .inr (1, [.long (lN ((ga / gb + 1) * nA + nC)), .long (lN ((ga / gb + 1) * nB + nD)), .long (lN nA), .long (lN nB)]))] := hD
      have hI2 := hI _ _ (fn_Simp_stop hgb (Nat.lt_of_not_le c_76))
      rw [Nat.mul_one, Nat.mul_one, Nat.mul_comm nA, Nat.mul_comm nB] at hI2
      exact K _ _ _ _ H locs ls hI2 hP hD hS (lv_sub hl [1] rfl)
set_option maxHeartbeats 4000000 in
set_option maxRecDepth 100000 in
/-- between(a, b, c, d): whether there is one between; what it is -/
theorem metX0_between (l : Launch) (dC : Nat → ClassId) (dI : Nat → Nat → Nat) (h0 h1 sz : Nat) (fa fb : Int32) (f0 f1 f2 f3 : Int64) (k0 k1 k2 k3 : Int32) : Met l yX0_between wsX0_between ({ frames := 1, cells := 0, slots := 0, locals := 26 }) (va_Pc [.ref h0, .int k0, .int k1, .int k2, .int k3] (fun U => U.heap.size = sz ∧ va_P (dC, dI) vwCl [(h0, .inr (0, [.ref h1, .int fa, .int fb])), (h1, .inr (1, [.long f0, .long f1, .long f2, .long f3]))] U.heap ∧ va_K (dC, dI) vwCl [] U ∧ va_D (fun _ => True) [(h0, .inr (0, [.ref h1, .int fa, .int fb])), (h1, .inr (1, [.long f0, .long f1, .long f2, .long f3]))])) (va_Qi (fun (r : Int32) (u : Int64 × Int64 × Int64 × Int64) => ∃ (rr : Nat) (w0 w1 w2 w3 : Int64), r = nI rr ∧ u = (w0, w1, w2, w3) ∧ ((rr = 0 ∧ ¬ mk_ 10 k0 * (1 + mk_ 10 k3) < mk_ 10 k2 * (1 + mk_ 10 k1)) ∨ (rr = 1 ∧ mk_ 10 k0 * (1 + mk_ 10 k3) < mk_ 10 k2 * (1 + mk_ 10 k1) ∧ ∃ nU nV : Nat, w0 = lN nU ∧ w1 = lN nV ∧ fn_Simp (mk_ 10 k0) (1 + mk_ 10 k1) (mk_ 10 k2) (1 + mk_ 10 k3) nU nV))) (BFM dC dI (va_A [(h0, .inr (0, [.ref h1, .int fa, .int fb])), (h1, .inr (1, [.long f0, .long f1, .long f2, .long f3]))] sz) h0 h1 fa fb) (va_A [(h0, .inr (0, [.ref h1, .int fa, .int fb])), (h1, .inr (1, [.long f0, .long f1, .long f2, .long f3]))] sz)) 0 0 (va_A [(h0, .inr (0, [.ref h1, .int fa, .int fb])), (h1, .inr (1, [.long f0, .long f1, .long f2, .long f3]))] sz) := by
  refine Met.ofW (cc := cX0_between) (maxL := 19) (ret := (some .boolean)) (by decide) rfl ?_
  intro p e s m args below meth c s₁ B hml hv
  obtain ⟨rfl, hsz, hP, hK, hD0⟩ := hv
  have hx := B.exec
  have hb := B.bytes
  have hr := B.returns
  have hts := atoms_spec (ws := wsX0_between) B.pre
  have hts : ∀ w ∈ lw_all, w.before _ s = true := fun w h => hts w (List.mem_cons_of_mem _ h)
  have hown : s.vm.findClass RX0 = some m.cls := findClass_of_methodNamed B.named
  have hlocks := B.notSynchronized
  subst hsz
  have hD := hD0.self (sz := s.heap.size)
  generalize hAe : va_A [(h0, .inr (0, [.ref h1, .int fa, .int fb])), (h1, .inr (1, [.long f0, .long f1, .long f2, .long f3]))] s.heap.size = A at hD ⊢
  have hA : ∀ q : Nat, s.heap.size ≤ q → A q := fun q h => by rw [← hAe]; exact Or.inr h
  have hS : va_S A s.heap s.heap [] := va_S.rf
  have hP : va_P (dC, dI) vwCl [(h0, .inr (0, [.ref h1, .int fa, .int fb])), (h1, .inr (1, [.long f0, .long f1, .long f2, .long f3]))] s.heap := hP
  have hl := lv_entry ([.ref h0, .int k0, .int k1, .int k2, .int k3]) (n := 19) (Nat.le_of_ble_eq_true rfl)
  rw [lg_entry_eq]
  generalize (lg_sl ([.ref h0, .int k0, .int k1, .int k2, .int k3]) ++ List.replicate (19 - (lg_sl ([.ref h0, .int k0, .int k1, .int k2, .int k3])).length) Slot.unset).toArray = ls at hl ⊢
  have hl : lv_has ls 19 [(0, .ref h0), (1, .int k0), (2, .int k1), (3, .int k2), (4, .int k3)] := hl
  have hm0 := mk_lt 10 k0
  have hm1 := mk_lt 10 k1
  have hm2 := mk_lt 10 k2
  have hm3 := mk_lt 10 k3
  refine lv_iload_n hx hb dX0_between_0 rfl (lv_at hl 1 rfl) ?_
  refine lv_sipush (v := nI 1023) hx hb dX0_between_1 (by decide) ?_
  refine nr_iand hx hb 10 (by decide) dX0_between_4 ?_
  refine nr_i2l hx hb (by omega) dX0_between_5 ?_
  refine lv_lstore (lv' := [(5, .long (lN (mk_ 10 k0))), (0, .ref h0), (1, .int k0), (2, .int k1), (3, .int k2), (4, .int k3)]) hx hb dX0_between_6 hl (by decide) rfl (fun ls hl => ?_)
  refine lv_iconst (v := nI 1) hx hb dX0_between_8 (by decide) ?_
  refine lv_iload_n hx hb dX0_between_9 rfl (lv_at hl 3 rfl) ?_
  refine lv_sipush (v := nI 1023) hx hb dX0_between_10 (by decide) ?_
  refine nr_iand hx hb 10 (by decide) dX0_between_13 ?_
  refine nr_iadd hx hb dX0_between_14 ?_
  refine nr_i2l hx hb (by omega) dX0_between_15 ?_
  refine lv_lstore (lv' := [(7, .long (lN (1 + (mk_ 10 k1)))), (5, .long (lN (mk_ 10 k0))), (0, .ref h0), (1, .int k0), (2, .int k1), (3, .int k2), (4, .int k3)]) hx hb dX0_between_16 hl (by decide) rfl (fun ls hl => ?_)
  refine lv_iload_n hx hb dX0_between_18 rfl (lv_at hl 5 rfl) ?_
  refine lv_sipush (v := nI 1023) hx hb dX0_between_19 (by decide) ?_
  refine nr_iand hx hb 10 (by decide) dX0_between_22 ?_
  refine nr_i2l hx hb (by omega) dX0_between_23 ?_
  refine lv_lstore (lv' := [(9, .long (lN (mk_ 10 k2))), (7, .long (lN (1 + (mk_ 10 k1)))), (5, .long (lN (mk_ 10 k0))), (0, .ref h0), (1, .int k0), (2, .int k1), (3, .int k2), (4, .int k3)]) hx hb dX0_between_24 hl (by decide) rfl (fun ls hl => ?_)
  refine lv_iconst (v := nI 1) hx hb dX0_between_26 (by decide) ?_
  refine lv_iload hx hb dX0_between_27 (lv_at hl 7 rfl) ?_
  refine lv_sipush (v := nI 1023) hx hb dX0_between_29 (by decide) ?_
  refine nr_iand hx hb 10 (by decide) dX0_between_32 ?_
  refine nr_iadd hx hb dX0_between_33 ?_
  refine nr_i2l hx hb (by omega) dX0_between_34 ?_
  refine lv_lstore (lv' := [(11, .long (lN (1 + (mk_ 10 k3)))), (9, .long (lN (mk_ 10 k2))), (7, .long (lN (1 + (mk_ 10 k1)))), (5, .long (lN (mk_ 10 k0))), (0, .ref h0), (1, .int k0), (2, .int k1), (3, .int k2), (4, .int k3)]) hx hb dX0_between_35 hl (by decide) rfl (fun ls hl => ?_)
  refine lv_lload hx hb dX0_between_37 (lv_at hl 3 rfl) ?_
  refine lv_lload hx hb dX0_between_39 (lv_at hl 0 rfl) ?_
  refine nr_lmul hx hb dX0_between_41 ?_
  refine lv_lload hx hb dX0_between_42 (lv_at hl 1 rfl) ?_
  refine lv_lload hx hb dX0_between_44 (lv_at hl 2 rfl) ?_
  refine nr_lmul hx hb dX0_between_46 ?_
  have hb1 : mk_ 10 k0 * (1 + mk_ 10 k3) ≤ 1024 * 1024 := Nat.mul_le_mul (by omega) (by omega)
  have hb2 : mk_ 10 k2 * (1 + mk_ 10 k1) ≤ 1024 * 1024 := Nat.mul_le_mul (by omega) (by omega)
  refine nl_lt (tgt := 53) hx hb (by omega) (by omega) dX0_between_47 dX0_between_48 (by decide) (fun c_47 => ?_) (fun c_47 => ?_)
  · refine lv_aload_n hx hb dX0_between_53 rfl (lv_at hl 4 rfl) ?_
    refine va_get (D := (dC, dI)) (ci := 0) (v := .ref h1) (C := RX0) (T := TX0) (N := 3) hx hb hts in_X0 hown hK hP 0 rfl rfl 0 (by decide) (hts _ q41) (fun _ h9 => h9) rfl dX0_between_54 ?_
    have hPc := hP.sub (ws' := [(h1, .inr (1, [.long f0, .long f1, .long f2, .long f3]))]) [1] rfl
    have hDc := hD.sub (ws' := [(h1, .inr (1, [.long f0, .long f1, .long f2, .long f3]))]) [1] (by decide) rfl
    have hKc := hK.sub (tys' := []) [] rfl
    have hFc := va_free (wc := [(h1, .inr (1, [.long f0, .long f1, .long f2, .long f3]))]) hD hS hA [1] rfl
    refine va_callv (va_runV (As := []) (rest := []) ⟨hx, hb, hml, hown, hts⟩ (metX1_begin l dC dI h1 s.heap.size f0 f1 f2 f3) (cwV 0 hts (lw_V q64 q65 q66 q7 q67) rfl rfl rfl (by decide +kernel) ⟨Nat.le_of_ble_eq_true rfl, Nat.le_of_ble_eq_true rfl⟩) ⟨fun a U g mk q => by obtain ⟨q0, q1, qP, qK, qD⟩ := q; exact ⟨q0, q1, qP, va_K.moved (u := U) (U := U.calling g mk a) (Vm.Alike.refl U.vm) qK, qD⟩, va_recv hKc hPc (ci := 1) (q0 := 0) rfl rfl, fun U hU hW => ⟨rfl, by rw [hU], by rw [hU]; exact hPc, va_K.moved hW.alike hKc, hDc.weaken (fun _ _ _ _ => trivial)⟩⟩ rfl rfl hl.1 rfl (lv_room (Nat.le_of_ble_eq_true rfl)) dX0_between_57 ⟨Nat.le_of_ble_eq_true rfl, Nat.le_of_ble_eq_true rfl⟩) hS (fun q _ h => hFc q h) hFc (fun u t H locs ht hvm hw hB hz1 hk1 hS => ?_)
    have hw : u = (lN 1, lN 0, lN 0, lN 1) := hw
    subst hw
    obtain ⟨hP1, -, hD1⟩ := hB
    rw [ht] at hP1
    obtain ⟨hP, hD⟩ := va_join (wr := [(h0, .inr (0, [.ref h1, .int fa, .int fb]))]) (w1 := [(h1, .inr (1, [.long (lN 1), .long (lN 0), .long (lN 0), .long (lN 1)]))]) hP hD [1] [0] rfl rfl (by decide) (by decide) hk1 hFc hP1 hD1
    have hP : va_P (dC, dI) vwCl [(h0, .inr (0, [.ref h1, .int fa, .int fb])), (h1, .inr (1, [.long (lN 1), .long (lN 0), .long (lN 0), .long (lN 1)]))] H := hP
    have hD : va_D A [(h0, .inr (0, [.ref h1, .int fa, .int fb])), (h1, .inr (1, [.long (lN 1), .long (lN 0), .long (lN 0), .long (lN 1)]))] := hD
    refine lpX0_between hx hb hml hown hts hA hK (mk_ 10 k0) (1 + mk_ 10 k1) (mk_ 10 k2) (1 + mk_ 10 k3) (fun nU nV nC nD H locs ls hs hP hD hS hl => ?_) (1 + mk_ 10 k1 + (1 + mk_ 10 k3) + 1) (mk_ 10 k0) (1 + mk_ 10 k1) (mk_ 10 k2) (1 + mk_ 10 k3) 1 0 0 1 (Nat.lt_succ_self _) (by omega) c_47 (by omega) (by omega) (by omega) (by omega) (fun U V h => by rw [Nat.one_mul, Nat.zero_mul, Nat.add_zero, Nat.zero_mul, Nat.zero_add, Nat.one_mul]; exact h) H locs hP hD hS ls (lv_sub hl [4, 3, 2, 1, 0] rfl)
    refine lv_iconst (v := nI 1) hx hb dX0_between_91 (by decide) ?_
    have hP9 := hP.sub (ws' := [(h0, .inr (0, [.ref h1, .int fa, .int fb])), (h1, .inr (1, [.long (lN nU), .long (lN nV), .long (lN nC), .long (lN nD)]))]) [0, 1] rfl
    have hD9 := hD.sub (ws' := [(h0, .inr (0, [.ref h1, .int fa, .int fb])), (h1, .inr (1, [.long (lN nU), .long (lN nV), .long (lN nC), .long (lN nD)]))]) [0, 1] (by decide) rfl
    have hK9 := hK.sub (tys' := []) [] rfl
    exact W.zret (v := nI 1) hx hb hr rfl (fun t ht hW => ⟨⟨nI 1, (lN nU, lN nV, lN nC, lN nD), rfl, ⟨1, lN nU, lN nV, lN nC, lN nD, rfl, rfl, Or.inr ⟨rfl, c_47, nU, nV, rfl, rfl, hs⟩⟩, by rw [ht]; exact hP9, va_K.moved hW.alike hK9, hD9⟩, hS.F ht⟩) hS.2.2 dX0_between_92
  · refine lv_iconst (v := nI 0) hx hb dX0_between_51 (by decide) ?_
    have hP9 := hP.sub (ws' := [(h0, .inr (0, [.ref h1, .int fa, .int fb])), (h1, .inr (1, [.long f0, .long f1, .long f2, .long f3]))]) [0, 1] rfl
    have hD9 := hD.sub (ws' := [(h0, .inr (0, [.ref h1, .int fa, .int fb])), (h1, .inr (1, [.long f0, .long f1, .long f2, .long f3]))]) [0, 1] (by decide) rfl
    have hK9 := hK.sub (tys' := []) [] rfl
    exact W.zret (v := nI 0) hx hb hr rfl (fun t ht hW => ⟨⟨nI 0, (f0, f1, f2, f3), rfl, ⟨0, f0, f1, f2, f3, rfl, rfl, Or.inl ⟨rfl, c_47⟩⟩, by rw [ht]; exact hP9, va_K.moved hW.alike hK9, hD9⟩, hS.F ht⟩) hS.2.2 dX0_between_52
set_option maxHeartbeats 4000000 in
set_option maxRecDepth 100000 in
/-- simplest -/
theorem metX0_simplest (l : Launch) (dC : Nat → ClassId) (dI : Nat → Nat → Nat) (h0 h1 sz : Nat) (fa fb : Int32) (f0 f1 f2 f3 : Int64) (k0 k1 k2 k3 : Int32) : Met l yX0_simplest wsX0_simplest ({ frames := 2, cells := 0, slots := 0, locals := 64 }) (va_Pc [.ref h0, .int k0, .int k1, .int k2, .int k3] (fun U => U.heap.size = sz ∧ va_P (dC, dI) vwCl [(h0, .inr (0, [.ref h1, .int fa, .int fb])), (h1, .inr (1, [.long f0, .long f1, .long f2, .long f3]))] U.heap ∧ va_K (dC, dI) vwCl [] U ∧ va_D (fun _ => True) [(h0, .inr (0, [.ref h1, .int fa, .int fb])), (h1, .inr (1, [.long f0, .long f1, .long f2, .long f3]))])) (va_Qi (fun (r : Int32) (u : Int64 × Int64 × Int64 × Int64) => fn_SA (mk_ 10 k0) (1 + mk_ 10 k1) (mk_ 10 k2) (1 + mk_ 10 k3) r) (BFM dC dI (va_A [(h0, .inr (0, [.ref h1, .int fa, .int fb])), (h1, .inr (1, [.long f0, .long f1, .long f2, .long f3]))] sz) h0 h1 fa fb) (va_A [(h0, .inr (0, [.ref h1, .int fa, .int fb])), (h1, .inr (1, [.long f0, .long f1, .long f2, .long f3]))] sz)) 0 0 (va_A [(h0, .inr (0, [.ref h1, .int fa, .int fb])), (h1, .inr (1, [.long f0, .long f1, .long f2, .long f3]))] sz) := by
  refine Met.ofW (cc := cX0_simplest) (maxL := 5) (ret := (some .int)) (by decide) rfl ?_
  intro p e s m args below meth c s₁ B hml hv
  obtain ⟨rfl, hsz, hP, hK, hD0⟩ := hv
  have hx := B.exec
  have hb := B.bytes
  have hr := B.returns
  have hts := atoms_spec (ws := wsX0_simplest) B.pre
  have hts : ∀ w ∈ lw_all, w.before _ s = true := fun w h => hts w (List.mem_cons_of_mem _ h)
  have hown : s.vm.findClass RX0 = some m.cls := findClass_of_methodNamed B.named
  have hlocks := B.notSynchronized
  subst hsz
  have hD := hD0.self (sz := s.heap.size)
  generalize hAe : va_A [(h0, .inr (0, [.ref h1, .int fa, .int fb])), (h1, .inr (1, [.long f0, .long f1, .long f2, .long f3]))] s.heap.size = A at hD ⊢
  have hA : ∀ q : Nat, s.heap.size ≤ q → A q := fun q h => by rw [← hAe]; exact Or.inr h
  have hS : va_S A s.heap s.heap [] := va_S.rf
  have hP : va_P (dC, dI) vwCl [(h0, .inr (0, [.ref h1, .int fa, .int fb])), (h1, .inr (1, [.long f0, .long f1, .long f2, .long f3]))] s.heap := hP
  have hl := lv_entry ([.ref h0, .int k0, .int k1, .int k2, .int k3]) (n := 5) (Nat.le_of_ble_eq_true rfl)
  rw [lg_entry_eq]
  generalize (lg_sl ([.ref h0, .int k0, .int k1, .int k2, .int k3]) ++ List.replicate (5 - (lg_sl ([.ref h0, .int k0, .int k1, .int k2, .int k3])).length) Slot.unset).toArray = ls at hl ⊢
  have hl : lv_has ls 5 [(0, .ref h0), (1, .int k0), (2, .int k1), (3, .int k2), (4, .int k3)] := hl
  refine lv_aload_n hx hb dX0_simplest_0 rfl (lv_at hl 0 rfl) ?_
  refine lv_iload_n hx hb dX0_simplest_1 rfl (lv_at hl 1 rfl) ?_
  refine lv_iload_n hx hb dX0_simplest_2 rfl (lv_at hl 2 rfl) ?_
  refine lv_iload_n hx hb dX0_simplest_3 rfl (lv_at hl 3 rfl) ?_
  refine lv_iload hx hb dX0_simplest_4 (lv_at hl 4 rfl) ?_
  have hPc := hP.sub (ws' := [(h0, .inr (0, [.ref h1, .int fa, .int fb])), (h1, .inr (1, [.long f0, .long f1, .long f2, .long f3]))]) [0, 1] rfl
  have hDc := hD.sub (ws' := [(h0, .inr (0, [.ref h1, .int fa, .int fb])), (h1, .inr (1, [.long f0, .long f1, .long f2, .long f3]))]) [0, 1] (by decide) rfl
  have hKc := hK.sub (tys' := []) [] rfl
  have hFc := va_free (wc := [(h0, .inr (0, [.ref h1, .int fa, .int fb])), (h1, .inr (1, [.long f0, .long f1, .long f2, .long f3]))]) hD hS hA [0, 1] rfl
  refine va_calli (va_runV (As := [.int k0, .int k1, .int k2, .int k3]) (rest := []) ⟨hx, hb, hml, hown, hts⟩ (metX0_between l dC dI h0 h1 s.heap.size fa fb f0 f1 f2 f3 k0 k1 k2 k3) (cwV 4 hts (lw_V q87 q89 qs1 q6 q90) rfl rfl rfl (by decide +kernel) ⟨Nat.le_of_ble_eq_true rfl, Nat.le_of_ble_eq_true rfl⟩) ⟨fun a U g mk q => by obtain ⟨q0, q1, qP, qK, qD⟩ := q; exact ⟨q0, q1, qP, va_K.moved (u := U) (U := U.calling g mk a) (Vm.Alike.refl U.vm) qK, qD⟩, va_recv hKc hPc (ci := 0) (q0 := 0) rfl rfl, fun U hU hW => ⟨rfl, by rw [hU], by rw [hU]; exact hPc, va_K.moved hW.alike hKc, hDc.weaken (fun _ _ _ _ => trivial)⟩⟩ rfl rfl hl.1 rfl (lv_room (Nat.le_of_ble_eq_true rfl)) dX0_simplest_6 ⟨Nat.le_of_ble_eq_true rfl, Nat.le_of_ble_eq_true rfl⟩) hS (fun q _ h => hFc q h) hFc (fun r_1 u t H locs ht hvm hw hB hz1 hk1 hS => ?_)
  obtain ⟨rr, w0, w1, w2, w3, er, hu, hcase⟩ := hw
  subst er
  subst hu
  obtain ⟨hP1, -, hD1⟩ := hB
  rw [ht] at hP1
  obtain ⟨hP, hD⟩ := va_join (wr := []) (w1 := [(h0, .inr (0, [.ref h1, .int fa, .int fb])), (h1, .inr (1, [.long w0, .long w1, .long w2, .long w3]))]) hP hD [0, 1] [] rfl rfl (by decide) (by decide) hk1 hFc hP1 hD1
  have hP : va_P (dC, dI) vwCl [(h0, .inr (0, [.ref h1, .int fa, .int fb])), (h1, .inr (1, [.long w0, .long w1, .long w2, .long w3]))] H := hP
  have hD : va_D A [(h0, .inr (0, [.ref h1, .int fa, .int fb])), (h1, .inr (1, [.long w0, .long w1, .long w2, .long w3]))] := hD
  refine ni_if_eq (tgt := 23) hx hb (by omega) dX0_simplest_9 (by decide) (fun c_9 => ?_) (fun c_9 => ?_)
  · have hno : ¬ mk_ 10 k0 * (1 + mk_ 10 k3) < mk_ 10 k2 * (1 + mk_ 10 k1) := by rcases hcase with ⟨-, g⟩ | ⟨g, -⟩; exact g; exact absurd (c_9.symm.trans g) (by decide)
    refine lv_iconst (v := -1) hx hb dX0_simplest_23 (by decide) ?_
    have hP9 := hP.sub (ws' := [(h0, .inr (0, [.ref h1, .int fa, .int fb])), (h1, .inr (1, [.long w0, .long w1, .long w2, .long w3]))]) [0, 1] rfl
    have hD9 := hD.sub (ws' := [(h0, .inr (0, [.ref h1, .int fa, .int fb])), (h1, .inr (1, [.long w0, .long w1, .long w2, .long w3]))]) [0, 1] (by decide) rfl
    have hK9 := hK.sub (tys' := []) [] rfl
    exact W.iret (v := -1) hx hb hr (fun t ht hW => ⟨⟨-1, (w0, w1, w2, w3), rfl, Or.inl ⟨hno, rfl⟩, by rw [ht]; exact hP9, va_K.moved hW.alike hK9, hD9⟩, hS.F ht⟩) hS.2.2 dX0_simplest_24
  · obtain ⟨hlt, nU, nV, e0, e1, hs⟩ : mk_ 10 k0 * (1 + mk_ 10 k3) < mk_ 10 k2 * (1 + mk_ 10 k1) ∧ ∃ nU nV : Nat, w0 = lN nU ∧ w1 = lN nV ∧ fn_Simp (mk_ 10 k0) (1 + mk_ 10 k1) (mk_ 10 k2) (1 + mk_ 10 k3) nU nV := by rcases hcase with ⟨g, -⟩ | ⟨-, g⟩; exact absurd g c_9; exact g
    subst e0
    subst e1
    refine lv_aload_n hx hb dX0_simplest_12 rfl (lv_at hl 0 rfl) ?_
    refine va_get (D := (dC, dI)) (ci := 0) (v := .ref h1) (C := RX0) (T := TX0) (N := 3) hx hb hts in_X0 hown hK hP 0 rfl rfl 0 (by decide) (hts _ q41) (fun _ h9 => h9) rfl dX0_simplest_13 ?_
    refine va_get (D := (dC, dI)) (ci := 1) (v := .long (lN nU)) (C := RX1) (T := TX1) (N := 4) hx hb hts in_X1 hown hK hP 1 rfl rfl 0 (by decide) (hts _ q25) (fun _ h9 => h9) rfl dX0_simplest_16 ?_
    refine nr_l2i hx hb dX0_simplest_19 ?_
    refine lv_goto (tgt := 24) hx hb dX0_simplest_20 (by decide) ?_
    have hP9 := hP.sub (ws' := [(h0, .inr (0, [.ref h1, .int fa, .int fb])), (h1, .inr (1, [.long (lN nU), .long (lN nV), .long w2, .long w3]))]) [0, 1] rfl
    have hD9 := hD.sub (ws' := [(h0, .inr (0, [.ref h1, .int fa, .int fb])), (h1, .inr (1, [.long (lN nU), .long (lN nV), .long w2, .long w3]))]) [0, 1] (by decide) rfl
    have hK9 := hK.sub (tys' := []) [] rfl
    exact W.iret (v := nI nU) hx hb hr (fun t ht hW => ⟨⟨nI nU, (lN nU, lN nV, w2, w3), rfl, Or.inr ⟨hlt, nU, nV, hs, rfl⟩, by rw [ht]; exact hP9, va_K.moved hW.alike hK9, hD9⟩, hS.F ht⟩) hS.2.2 dX0_simplest_24
set_option maxHeartbeats 4000000 in
set_option maxRecDepth 100000 in
/-- under -/
theorem metX0_under (l : Launch) (dC : Nat → ClassId) (dI : Nat → Nat → Nat) (h0 h1 sz : Nat) (fa fb : Int32) (f0 f1 f2 f3 : Int64) (k0 k1 k2 k3 : Int32) : Met l yX0_under wsX0_under ({ frames := 2, cells := 0, slots := 0, locals := 64 }) (va_Pc [.ref h0, .int k0, .int k1, .int k2, .int k3] (fun U => U.heap.size = sz ∧ va_P (dC, dI) vwCl [(h0, .inr (0, [.ref h1, .int fa, .int fb])), (h1, .inr (1, [.long f0, .long f1, .long f2, .long f3]))] U.heap ∧ va_K (dC, dI) vwCl [] U ∧ va_D (fun _ => True) [(h0, .inr (0, [.ref h1, .int fa, .int fb])), (h1, .inr (1, [.long f0, .long f1, .long f2, .long f3]))])) (va_Qi (fun (r : Int32) (u : Int64 × Int64 × Int64 × Int64) => fn_SB (mk_ 10 k0) (1 + mk_ 10 k1) (mk_ 10 k2) (1 + mk_ 10 k3) r) (BFM dC dI (va_A [(h0, .inr (0, [.ref h1, .int fa, .int fb])), (h1, .inr (1, [.long f0, .long f1, .long f2, .long f3]))] sz) h0 h1 fa fb) (va_A [(h0, .inr (0, [.ref h1, .int fa, .int fb])), (h1, .inr (1, [.long f0, .long f1, .long f2, .long f3]))] sz)) 0 0 (va_A [(h0, .inr (0, [.ref h1, .int fa, .int fb])), (h1, .inr (1, [.long f0, .long f1, .long f2, .long f3]))] sz) := by
  refine Met.ofW (cc := cX0_under) (maxL := 5) (ret := (some .int)) (by decide) rfl ?_
  intro p e s m args below meth c s₁ B hml hv
  obtain ⟨rfl, hsz, hP, hK, hD0⟩ := hv
  have hx := B.exec
  have hb := B.bytes
  have hr := B.returns
  have hts := atoms_spec (ws := wsX0_under) B.pre
  have hts : ∀ w ∈ lw_all, w.before _ s = true := fun w h => hts w (List.mem_cons_of_mem _ h)
  have hown : s.vm.findClass RX0 = some m.cls := findClass_of_methodNamed B.named
  have hlocks := B.notSynchronized
  subst hsz
  have hD := hD0.self (sz := s.heap.size)
  generalize hAe : va_A [(h0, .inr (0, [.ref h1, .int fa, .int fb])), (h1, .inr (1, [.long f0, .long f1, .long f2, .long f3]))] s.heap.size = A at hD ⊢
  have hA : ∀ q : Nat, s.heap.size ≤ q → A q := fun q h => by rw [← hAe]; exact Or.inr h
  have hS : va_S A s.heap s.heap [] := va_S.rf
  have hP : va_P (dC, dI) vwCl [(h0, .inr (0, [.ref h1, .int fa, .int fb])), (h1, .inr (1, [.long f0, .long f1, .long f2, .long f3]))] s.heap := hP
  have hl := lv_entry ([.ref h0, .int k0, .int k1, .int k2, .int k3]) (n := 5) (Nat.le_of_ble_eq_true rfl)
  rw [lg_entry_eq]
  generalize (lg_sl ([.ref h0, .int k0, .int k1, .int k2, .int k3]) ++ List.replicate (5 - (lg_sl ([.ref h0, .int k0, .int k1, .int k2, .int k3])).length) Slot.unset).toArray = ls at hl ⊢
  have hl : lv_has ls 5 [(0, .ref h0), (1, .int k0), (2, .int k1), (3, .int k2), (4, .int k3)] := hl
  refine lv_aload_n hx hb dX0_under_0 rfl (lv_at hl 0 rfl) ?_
  refine lv_iload_n hx hb dX0_under_1 rfl (lv_at hl 1 rfl) ?_
  refine lv_iload_n hx hb dX0_under_2 rfl (lv_at hl 2 rfl) ?_
  refine lv_iload_n hx hb dX0_under_3 rfl (lv_at hl 3 rfl) ?_
  refine lv_iload hx hb dX0_under_4 (lv_at hl 4 rfl) ?_
  have hPc := hP.sub (ws' := [(h0, .inr (0, [.ref h1, .int fa, .int fb])), (h1, .inr (1, [.long f0, .long f1, .long f2, .long f3]))]) [0, 1] rfl
  have hDc := hD.sub (ws' := [(h0, .inr (0, [.ref h1, .int fa, .int fb])), (h1, .inr (1, [.long f0, .long f1, .long f2, .long f3]))]) [0, 1] (by decide) rfl
  have hKc := hK.sub (tys' := []) [] rfl
  have hFc := va_free (wc := [(h0, .inr (0, [.ref h1, .int fa, .int fb])), (h1, .inr (1, [.long f0, .long f1, .long f2, .long f3]))]) hD hS hA [0, 1] rfl
  refine va_calli (va_runV (As := [.int k0, .int k1, .int k2, .int k3]) (rest := []) ⟨hx, hb, hml, hown, hts⟩ (metX0_between l dC dI h0 h1 s.heap.size fa fb f0 f1 f2 f3 k0 k1 k2 k3) (cwV 4 hts (lw_V q87 q89 qs1 q6 q90) rfl rfl rfl (by decide +kernel) ⟨Nat.le_of_ble_eq_true rfl, Nat.le_of_ble_eq_true rfl⟩) ⟨fun a U g mk q => by obtain ⟨q0, q1, qP, qK, qD⟩ := q; exact ⟨q0, q1, qP, va_K.moved (u := U) (U := U.calling g mk a) (Vm.Alike.refl U.vm) qK, qD⟩, va_recv hKc hPc (ci := 0) (q0 := 0) rfl rfl, fun U hU hW => ⟨rfl, by rw [hU], by rw [hU]; exact hPc, va_K.moved hW.alike hKc, hDc.weaken (fun _ _ _ _ => trivial)⟩⟩ rfl rfl hl.1 rfl (lv_room (Nat.le_of_ble_eq_true rfl)) dX0_under_6 ⟨Nat.le_of_ble_eq_true rfl, Nat.le_of_ble_eq_true rfl⟩) hS (fun q _ h => hFc q h) hFc (fun r_1 u t H locs ht hvm hw hB hz1 hk1 hS => ?_)
  obtain ⟨rr, w0, w1, w2, w3, er, hu, hcase⟩ := hw
  subst er
  subst hu
  obtain ⟨hP1, -, hD1⟩ := hB
  rw [ht] at hP1
  obtain ⟨hP, hD⟩ := va_join (wr := []) (w1 := [(h0, .inr (0, [.ref h1, .int fa, .int fb])), (h1, .inr (1, [.long w0, .long w1, .long w2, .long w3]))]) hP hD [0, 1] [] rfl rfl (by decide) (by decide) hk1 hFc hP1 hD1
  have hP : va_P (dC, dI) vwCl [(h0, .inr (0, [.ref h1, .int fa, .int fb])), (h1, .inr (1, [.long w0, .long w1, .long w2, .long w3]))] H := hP
  have hD : va_D A [(h0, .inr (0, [.ref h1, .int fa, .int fb])), (h1, .inr (1, [.long w0, .long w1, .long w2, .long w3]))] := hD
  refine ni_if_eq (tgt := 23) hx hb (by omega) dX0_under_9 (by decide) (fun c_9 => ?_) (fun c_9 => ?_)
  · have hno : ¬ mk_ 10 k0 * (1 + mk_ 10 k3) < mk_ 10 k2 * (1 + mk_ 10 k1) := by rcases hcase with ⟨-, g⟩ | ⟨g, -⟩; exact g; exact absurd (c_9.symm.trans g) (by decide)
    refine lv_iconst (v := -1) hx hb dX0_under_23 (by decide) ?_
    have hP9 := hP.sub (ws' := [(h0, .inr (0, [.ref h1, .int fa, .int fb])), (h1, .inr (1, [.long w0, .long w1, .long w2, .long w3]))]) [0, 1] rfl
    have hD9 := hD.sub (ws' := [(h0, .inr (0, [.ref h1, .int fa, .int fb])), (h1, .inr (1, [.long w0, .long w1, .long w2, .long w3]))]) [0, 1] (by decide) rfl
    have hK9 := hK.sub (tys' := []) [] rfl
    exact W.iret (v := -1) hx hb hr (fun t ht hW => ⟨⟨-1, (w0, w1, w2, w3), rfl, Or.inl ⟨hno, rfl⟩, by rw [ht]; exact hP9, va_K.moved hW.alike hK9, hD9⟩, hS.F ht⟩) hS.2.2 dX0_under_24
  · obtain ⟨hlt, nU, nV, e0, e1, hs⟩ : mk_ 10 k0 * (1 + mk_ 10 k3) < mk_ 10 k2 * (1 + mk_ 10 k1) ∧ ∃ nU nV : Nat, w0 = lN nU ∧ w1 = lN nV ∧ fn_Simp (mk_ 10 k0) (1 + mk_ 10 k1) (mk_ 10 k2) (1 + mk_ 10 k3) nU nV := by rcases hcase with ⟨g, -⟩ | ⟨-, g⟩; exact absurd g c_9; exact g
    subst e0
    subst e1
    refine lv_aload_n hx hb dX0_under_12 rfl (lv_at hl 0 rfl) ?_
    refine va_get (D := (dC, dI)) (ci := 0) (v := .ref h1) (C := RX0) (T := TX0) (N := 3) hx hb hts in_X0 hown hK hP 0 rfl rfl 0 (by decide) (hts _ q41) (fun _ h9 => h9) rfl dX0_under_13 ?_
    refine va_get (D := (dC, dI)) (ci := 1) (v := .long (lN nV)) (C := RX1) (T := TX1) (N := 4) hx hb hts in_X1 hown hK hP 1 rfl rfl 1 (by decide) (hts _ q27) (fun _ h9 => h9) rfl dX0_under_16 ?_
    refine nr_l2i hx hb dX0_under_19 ?_
    refine lv_goto (tgt := 24) hx hb dX0_under_20 (by decide) ?_
    have hP9 := hP.sub (ws' := [(h0, .inr (0, [.ref h1, .int fa, .int fb])), (h1, .inr (1, [.long (lN nU), .long (lN nV), .long w2, .long w3]))]) [0, 1] rfl
    have hD9 := hD.sub (ws' := [(h0, .inr (0, [.ref h1, .int fa, .int fb])), (h1, .inr (1, [.long (lN nU), .long (lN nV), .long w2, .long w3]))]) [0, 1] (by decide) rfl
    have hK9 := hK.sub (tys' := []) [] rfl
    exact W.iret (v := nI nV) hx hb hr (fun t ht hW => ⟨⟨nI nV, (lN nU, lN nV, w2, w3), rfl, Or.inr ⟨hlt, nU, nV, hs, rfl⟩, by rw [ht]; exact hP9, va_K.moved hW.alike hK9, hD9⟩, hS.F ht⟩) hS.2.2 dX0_under_24
end
section
/-! MODULE FractionNearModel: its constructor, load, depth, better -/
/-- the cell of FractionNearModel -/
abbrev BN (dC : Nat → ClassId) (dI : Nat → Nat → Nat) (A : Nat → Prop) (h0 : Nat) (u : Int32 × Int32 × Int32 × Int32) (t : State) : Prop := match u with
  | (a, b, c, d) => va_P (dC, dI) vwCl [(h0, .inr (2, [.int a, .int b, .int c, .int d]))] t.heap ∧ va_K (dC, dI) vwCl [] t ∧ va_D A [(h0, .inr (2, [.int a, .int b, .int c, .int d]))]
set_option maxHeartbeats 4000000 in
set_option maxRecDepth 100000 in
/-- FractionNearModel() -/
theorem metX2_init (l : Launch) (dC : Nat → ClassId) (dI : Nat → Nat → Nat) (h0 sz : Nat) : Met l yX2_init wsX2_init ({ frames := 1, cells := 0, slots := 0, locals := 12 }) (va_Pc [.ref h0] (fun U => U.heap.size = sz ∧ va_P (dC, dI) vwCl [(h0, .inr (2, [.int (nI 0), .int (nI 0), .int (nI 0), .int (nI 0)]))] U.heap ∧ va_K (dC, dI) vwCl [] U ∧ va_D (fun _ => True) [(h0, .inr (2, [.int (nI 0), .int (nI 0), .int (nI 0), .int (nI 0)]))])) (va_Qv (fun u : Int32 × Int32 × Int32 × Int32 => u = (nI 0, nI 1, nI 0, nI 1)) (BN dC dI (va_A [(h0, .inr (2, [.int (nI 0), .int (nI 0), .int (nI 0), .int (nI 0)]))] sz) h0) (va_A [(h0, .inr (2, [.int (nI 0), .int (nI 0), .int (nI 0), .int (nI 0)]))] sz)) 0 0 (va_A [(h0, .inr (2, [.int (nI 0), .int (nI 0), .int (nI 0), .int (nI 0)]))] sz) := by
  refine Met.ofW (cc := cX2_init) (maxL := 1) (ret := none) (by decide) rfl ?_
  intro p e s m args below meth c s₁ B hml hv
  obtain ⟨rfl, hsz, hP, hK, hD0⟩ := hv
  have hx := B.exec
  have hb := B.bytes
  have hr := B.returns
  have hts := atoms_spec (ws := wsX2_init) B.pre
  have hts : ∀ w ∈ lw_all, w.before _ s = true := fun w h => hts w (List.mem_cons_of_mem _ h)
  have hown : s.vm.findClass RX2 = some m.cls := findClass_of_methodNamed B.named
  have hlocks := B.notSynchronized
  have hin : meth.name = "<init>" := (name_of_methodNamed B.named B.method).1
  subst hsz
  have hD := hD0.self (sz := s.heap.size)
  generalize hAe : va_A [(h0, .inr (2, [.int (nI 0), .int (nI 0), .int (nI 0), .int (nI 0)]))] s.heap.size = A at hD ⊢
  have hA : ∀ q : Nat, s.heap.size ≤ q → A q := fun q h => by rw [← hAe]; exact Or.inr h
  have hS : va_S A s.heap s.heap [] := va_S.rf
  have hP : va_P (dC, dI) vwCl [(h0, .inr (2, [.int (nI 0), .int (nI 0), .int (nI 0), .int (nI 0)]))] s.heap := hP
  have hl := lv_entry ([.ref h0]) (n := 1) (Nat.le_of_ble_eq_true rfl)
  rw [lg_entry_eq]
  generalize (lg_sl ([.ref h0]) ++ List.replicate (1 - (lg_sl ([.ref h0])).length) Slot.unset).toArray = ls at hl ⊢
  have hl : lv_has ls 1 [(0, .ref h0)] := hl
  refine lv_aload_n hx hb dX2_init_0 rfl (lv_at hl 0 rfl) ?_
  refine W.objInit hx hb hown (hts _ q104) (hts _ q16) (hts _ q17) rfl (by rw [hml]; exact hl.1) rfl dX2_init_1 (Nat.le_of_ble_eq_true rfl) (Nat.le_of_ble_eq_true rfl) ?_
  refine W.eq (g2 := F0 m 4 ls []) rfl ?_
  refine lv_aload_n hx hb dX2_init_4 rfl (lv_at hl 0 rfl) ?_
  refine lv_iconst (v := nI 1) hx hb dX2_init_5 (by decide) ?_
  refine va_put (D := (dC, dI)) (ci := 2) (v := .int (nI 1)) (ty := .int) (C := RX2) (T := TX2) (N := 4) hx hb hts in_X2 tyX2 tyX2_ok nmX2 hown hK hP hD hS 0 rfl rfl 1 (by decide) (hts _ q106) (fun _ h9 => h9) rfl (by decide +kernel) rfl rfl (Nat.le_of_ble_eq_true rfl) dX2_init_6 (fun H locs hP hD hS => ?_)
  have hP : va_P (dC, dI) vwCl [(h0, .inr (2, [.int (nI 0), .int (nI 1), .int (nI 0), .int (nI 0)]))] H := hP
  have hD : va_D A [(h0, .inr (2, [.int (nI 0), .int (nI 1), .int (nI 0), .int (nI 0)]))] := hD
  refine lv_aload_n hx hb dX2_init_9 rfl (lv_at hl 0 rfl) ?_
  refine lv_iconst (v := nI 1) hx hb dX2_init_10 (by decide) ?_
  refine va_put (D := (dC, dI)) (ci := 2) (v := .int (nI 1)) (ty := .int) (C := RX2) (T := TX2) (N := 4) hx hb hts in_X2 tyX2 tyX2_ok nmX2 hown hK hP hD hS 0 rfl rfl 3 (by decide) (hts _ q108) (fun _ h9 => h9) rfl (by decide +kernel) rfl rfl (Nat.le_of_ble_eq_true rfl) dX2_init_11 (fun H locs hP hD hS => ?_)
  have hP : va_P (dC, dI) vwCl [(h0, .inr (2, [.int (nI 0), .int (nI 1), .int (nI 0), .int (nI 1)]))] H := hP
  have hD : va_D A [(h0, .inr (2, [.int (nI 0), .int (nI 1), .int (nI 0), .int (nI 1)]))] := hD
  have hP9 := hP.sub (ws' := [(h0, .inr (2, [.int (nI 0), .int (nI 1), .int (nI 0), .int (nI 1)]))]) [0] rfl
  have hD9 := hD.sub (ws' := [(h0, .inr (2, [.int (nI 0), .int (nI 1), .int (nI 0), .int (nI 1)]))]) [0] (by decide) rfl
  have hK9 := hK.sub (tys' := []) [] rfl
  exact W.vret hx hb hr (fun t ht hW => ⟨⟨(nI 0, nI 1, nI 0, nI 1), rfl, rfl, by rw [ht]; exact hP9, va_K.moved hW.alike hK9, hD9⟩, hS.F ht⟩) hS.2.2 dX2_init_14
set_option maxHeartbeats 4000000 in
set_option maxRecDepth 100000 in
/-- load(a, b) -/
theorem metX2_load (l : Launch) (dC : Nat → ClassId) (dI : Nat → Nat → Nat) (h0 sz : Nat) (fa fb fc fd k0 k1 : Int32) : Met l yX2_load wsX2_load ({ frames := 0, cells := 0, slots := 0, locals := 0 }) (va_Pc [.ref h0, .int k0, .int k1] (fun U => U.heap.size = sz ∧ va_P (dC, dI) vwCl [(h0, .inr (2, [.int fa, .int fb, .int fc, .int fd]))] U.heap ∧ va_K (dC, dI) vwCl [] U ∧ va_D (fun _ => True) [(h0, .inr (2, [.int fa, .int fb, .int fc, .int fd]))])) (va_Qv (fun u : Int32 × Int32 × Int32 × Int32 => u = (nI (mk_ 20 k0), nI (1 + mk_ 20 k1), fc, fd)) (BN dC dI (va_A [(h0, .inr (2, [.int fa, .int fb, .int fc, .int fd]))] sz) h0) (va_A [(h0, .inr (2, [.int fa, .int fb, .int fc, .int fd]))] sz)) 0 0 (va_A [(h0, .inr (2, [.int fa, .int fb, .int fc, .int fd]))] sz) := by
  refine Met.ofW (cc := cX2_load) (maxL := 3) (ret := none) (by decide) rfl ?_
  intro p e s m args below meth c s₁ B hml hv
  obtain ⟨rfl, hsz, hP, hK, hD0⟩ := hv
  have hx := B.exec
  have hb := B.bytes
  have hr := B.returns
  have hts := atoms_spec (ws := wsX2_load) B.pre
  have hts : ∀ w ∈ lw_all, w.before _ s = true := fun w h => hts w (List.mem_cons_of_mem _ h)
  have hown : s.vm.findClass RX2 = some m.cls := findClass_of_methodNamed B.named
  have hlocks := B.notSynchronized
  subst hsz
  have hD := hD0.self (sz := s.heap.size)
  generalize hAe : va_A [(h0, .inr (2, [.int fa, .int fb, .int fc, .int fd]))] s.heap.size = A at hD ⊢
  have hA : ∀ q : Nat, s.heap.size ≤ q → A q := fun q h => by rw [← hAe]; exact Or.inr h
  have hS : va_S A s.heap s.heap [] := va_S.rf
  have hP : va_P (dC, dI) vwCl [(h0, .inr (2, [.int fa, .int fb, .int fc, .int fd]))] s.heap := hP
  have hl := lv_entry ([.ref h0, .int k0, .int k1]) (n := 3) (Nat.le_of_ble_eq_true rfl)
  rw [lg_entry_eq]
  generalize (lg_sl ([.ref h0, .int k0, .int k1]) ++ List.replicate (3 - (lg_sl ([.ref h0, .int k0, .int k1])).length) Slot.unset).toArray = ls at hl ⊢
  have hl : lv_has ls 3 [(0, .ref h0), (1, .int k0), (2, .int k1)] := hl
  refine lv_aload_n hx hb dX2_load_0 rfl (lv_at hl 0 rfl) ?_
  refine lv_iload_n hx hb dX2_load_1 rfl (lv_at hl 1 rfl) ?_
  refine lv_ldc (v := nI 1048575) hx hb hown (hts _ q122) dX2_load_2 ?_
  refine nr_iand hx hb 20 (by decide) dX2_load_4 ?_
  refine va_put (D := (dC, dI)) (ci := 2) (v := .int (nI (mk_ 20 k0))) (ty := .int) (C := RX2) (T := TX2) (N := 4) hx hb hts in_X2 tyX2 tyX2_ok nmX2 hown hK hP hD hS 0 rfl rfl 0 (by decide) (hts _ q105) (fun _ h9 => h9) rfl (by decide +kernel) rfl rfl (Nat.le_of_ble_eq_true rfl) dX2_load_5 (fun H locs hP hD hS => ?_)
  have hP : va_P (dC, dI) vwCl [(h0, .inr (2, [.int (nI (mk_ 20 k0)), .int fb, .int fc, .int fd]))] H := hP
  have hD : va_D A [(h0, .inr (2, [.int (nI (mk_ 20 k0)), .int fb, .int fc, .int fd]))] := hD
  refine lv_aload_n hx hb dX2_load_8 rfl (lv_at hl 0 rfl) ?_
  refine lv_iconst (v := nI 1) hx hb dX2_load_9 (by decide) ?_
  refine lv_iload_n hx hb dX2_load_10 rfl (lv_at hl 2 rfl) ?_
  refine lv_ldc (v := nI 1048575) hx hb hown (hts _ q122) dX2_load_11 ?_
  refine nr_iand hx hb 20 (by decide) dX2_load_13 ?_
  refine nr_iadd hx hb dX2_load_14 ?_
  refine va_put (D := (dC, dI)) (ci := 2) (v := .int (nI (1 + (mk_ 20 k1)))) (ty := .int) (C := RX2) (T := TX2) (N := 4) hx hb hts in_X2 tyX2 tyX2_ok nmX2 hown hK hP hD hS 0 rfl rfl 1 (by decide) (hts _ q106) (fun _ h9 => h9) rfl (by decide +kernel) rfl rfl (Nat.le_of_ble_eq_true rfl) dX2_load_15 (fun H locs hP hD hS => ?_)
  have hP : va_P (dC, dI) vwCl [(h0, .inr (2, [.int (nI (mk_ 20 k0)), .int (nI (1 + (mk_ 20 k1))), .int fc, .int fd]))] H := hP
  have hD : va_D A [(h0, .inr (2, [.int (nI (mk_ 20 k0)), .int (nI (1 + (mk_ 20 k1))), .int fc, .int fd]))] := hD
  have hP9 := hP.sub (ws' := [(h0, .inr (2, [.int (nI (mk_ 20 k0)), .int (nI (1 + (mk_ 20 k1))), .int fc, .int fd]))]) [0] rfl
  have hD9 := hD.sub (ws' := [(h0, .inr (2, [.int (nI (mk_ 20 k0)), .int (nI (1 + (mk_ 20 k1))), .int fc, .int fd]))]) [0] (by decide) rfl
  have hK9 := hK.sub (tys' := []) [] rfl
  exact W.vret hx hb hr (fun t ht hW => ⟨⟨(nI (mk_ 20 k0), nI (1 + mk_ 20 k1), fc, fd), rfl, rfl, by rw [ht]; exact hP9, va_K.moved hW.alike hK9, hD9⟩, hS.F ht⟩) hS.2.2 dX2_load_18
set_option maxHeartbeats 4000000 in
set_option maxRecDepth 100000 in
/-- depth()'s loop -/
theorem lpX2_depth {p : Program} {l : Launch} {e : Env} {R : Room} {s : State} {m : MethodId} {args : Array Value} {below : List Frame} {meth : Method} {c : Code} {H : Heap} {locs : List Loc} {Q : State → Prop} (hx : p.tables.exec = Jvm.exec) (hb : c.code = cX2_depth) (nn : Nat) (K : ∀ ls : Array Slot, lv_has ls 5 [(3, .int (nI nn))] → W p l e R s m args below meth c H locs 0 0 Q (F0 m 33 ls [])) :
    ∀ (f x y i : Nat), y < f → x < 2 ^ 31 → y < 2 ^ 31 → i + fn_len f x y = nn → ∀ ls : Array Slot, lv_has ls 5 [(1, .int (nI x)), (2, .int (nI y)), (3, .int (nI i))] → W p l e R s m args below meth c H locs 0 0 Q (F0 m 12 ls []) := by
  intro f
  induction f with
  | zero =>
    intro x y i h
    exact absurd h (Nat.not_lt_zero y)
  | succ f ih =>
    intro x y i hf hx31 hy31 hi ls hl
    refine lv_iload_n hx hb dX2_depth_12 rfl (lv_at hl 1 rfl) ?_
    refine ni_if_eq (tgt := 33) hx hb hy31 dX2_depth_13 (by decide) (fun c_13 => ?_) (fun c_13 => ?_)
    · rw [c_13, fn_len_0] at hi
      have hi : i = nn := hi
      subst hi
      exact K ls (lv_sub hl [2] rfl)
    · refine lv_iload_n hx hb dX2_depth_16 rfl (lv_at hl 0 rfl) ?_
      refine lv_iload_n hx hb dX2_depth_17 rfl (lv_at hl 1 rfl) ?_
      refine nr_irem hx hb hx31 (Nat.pos_of_ne_zero c_13) hy31 dX2_depth_18 ?_
      refine lv_istore (lv' := [(4, .int (nI (x % y))), (1, .int (nI x)), (2, .int (nI y)), (3, .int (nI i))]) hx hb dX2_depth_19 hl (by decide) rfl (fun ls hl => ?_)
      refine lv_iload_n hx hb dX2_depth_21 rfl (lv_at hl 2 rfl) ?_
      refine lv_istore_n (lv' := [(1, .int (nI y)), (4, .int (nI (x % y))), (2, .int (nI y)), (3, .int (nI i))]) hx hb dX2_depth_22 rfl hl (by decide) rfl (fun ls hl => ?_)
      refine lv_iload hx hb dX2_depth_23 (lv_at hl 1 rfl) ?_
      refine lv_istore_n (lv' := [(2, .int (nI (x % y))), (1, .int (nI y)), (4, .int (nI (x % y))), (3, .int (nI i))]) hx hb dX2_depth_25 rfl hl (by decide) rfl (fun ls hl => ?_)
      refine lv_iload_n hx hb dX2_depth_26 rfl (lv_at hl 3 rfl) ?_
      refine lv_iconst (v := nI 1) hx hb dX2_depth_27 (by decide) ?_
      refine nr_iadd hx hb dX2_depth_28 ?_
      refine lv_istore_n (lv' := [(3, .int (nI (i + 1))), (2, .int (nI (x % y))), (1, .int (nI y)), (4, .int (nI (x % y)))]) hx hb dX2_depth_29 rfl hl (by decide) rfl (fun ls hl => ?_)
      refine lv_goto (tgt := 12) hx hb dX2_depth_30 (by decide) ?_
      have hm := Nat.mod_lt x (Nat.pos_of_ne_zero c_13)
      rw [fn_len_s f x c_13] at hi
      exact ih y (x % y) (i + 1) (by omega) hy31 (by omega) (by omega) ls (lv_sub hl [2, 1, 0] rfl)
set_option maxHeartbeats 4000000 in
set_option maxRecDepth 100000 in
/-- depth(): how many steps Euclid takes -/
theorem metX2_depth (l : Launch) (dC : Nat → ClassId) (dI : Nat → Nat → Nat) (h0 sz : Nat) (pp qq : Nat) (hp : pp < 2 ^ 31) (hq : qq < 2 ^ 31) (fc fd : Int32) : Met l yX2_depth wsX2_depth ({ frames := 0, cells := 0, slots := 0, locals := 0 }) (va_Pc [.ref h0] (fun U => U.heap.size = sz ∧ va_P (dC, dI) vwCl [(h0, .inr (2, [.int (nI pp), .int (nI qq), .int fc, .int fd]))] U.heap ∧ va_K (dC, dI) vwCl [] U ∧ va_D (fun _ => True) [(h0, .inr (2, [.int (nI pp), .int (nI qq), .int fc, .int fd]))])) (va_Qi (fun (r : Int32) (u : Int32 × Int32 × Int32 × Int32) => r = nI (fn_len (qq + 1) pp qq) ∧ u = (nI pp, nI qq, fc, fd)) (BN dC dI (va_A [(h0, .inr (2, [.int (nI pp), .int (nI qq), .int fc, .int fd]))] sz) h0) (va_A [(h0, .inr (2, [.int (nI pp), .int (nI qq), .int fc, .int fd]))] sz)) 0 0 (va_A [(h0, .inr (2, [.int (nI pp), .int (nI qq), .int fc, .int fd]))] sz) := by
  refine Met.ofW (cc := cX2_depth) (maxL := 5) (ret := (some .int)) (by decide) rfl ?_
  intro p e s m args below meth c s₁ B hml hv
  obtain ⟨rfl, hsz, hP, hK, hD0⟩ := hv
  have hx := B.exec
  have hb := B.bytes
  have hr := B.returns
  have hts := atoms_spec (ws := wsX2_depth) B.pre
  have hts : ∀ w ∈ lw_all, w.before _ s = true := fun w h => hts w (List.mem_cons_of_mem _ h)
  have hown : s.vm.findClass RX2 = some m.cls := findClass_of_methodNamed B.named
  have hlocks := B.notSynchronized
  subst hsz
  have hD := hD0.self (sz := s.heap.size)
  generalize hAe : va_A [(h0, .inr (2, [.int (nI pp), .int (nI qq), .int fc, .int fd]))] s.heap.size = A at hD ⊢
  have hA : ∀ q : Nat, s.heap.size ≤ q → A q := fun q h => by rw [← hAe]; exact Or.inr h
  have hS : va_S A s.heap s.heap [] := va_S.rf
  have hP : va_P (dC, dI) vwCl [(h0, .inr (2, [.int (nI pp), .int (nI qq), .int fc, .int fd]))] s.heap := hP
  have hl := lv_entry ([.ref h0]) (n := 5) (Nat.le_of_ble_eq_true rfl)
  rw [lg_entry_eq]
  generalize (lg_sl ([.ref h0]) ++ List.replicate (5 - (lg_sl ([.ref h0])).length) Slot.unset).toArray = ls at hl ⊢
  have hl : lv_has ls 5 [(0, .ref h0)] := hl
  refine lv_aload_n hx hb dX2_depth_0 rfl (lv_at hl 0 rfl) ?_
  refine va_get (D := (dC, dI)) (ci := 2) (v := .int (nI pp)) (C := RX2) (T := TX2) (N := 4) hx hb hts in_X2 hown hK hP 0 rfl rfl 0 (by decide) (hts _ q105) (fun _ h9 => h9) rfl dX2_depth_1 ?_
  refine lv_istore_n (lv' := [(1, .int (nI pp)), (0, .ref h0)]) hx hb dX2_depth_4 rfl hl (by decide) rfl (fun ls hl => ?_)
  refine lv_aload_n hx hb dX2_depth_5 rfl (lv_at hl 1 rfl) ?_
  refine va_get (D := (dC, dI)) (ci := 2) (v := .int (nI qq)) (C := RX2) (T := TX2) (N := 4) hx hb hts in_X2 hown hK hP 0 rfl rfl 1 (by decide) (hts _ q106) (fun _ h9 => h9) rfl dX2_depth_6 ?_
  refine lv_istore_n (lv' := [(2, .int (nI qq)), (1, .int (nI pp)), (0, .ref h0)]) hx hb dX2_depth_9 rfl hl (by decide) rfl (fun ls hl => ?_)
  refine lv_iconst (v := nI 0) hx hb dX2_depth_10 (by decide) ?_
  refine lv_istore_n (lv' := [(3, .int (nI 0)), (2, .int (nI qq)), (1, .int (nI pp)), (0, .ref h0)]) hx hb dX2_depth_11 rfl hl (by decide) rfl (fun ls hl => ?_)
  refine lpX2_depth hx hb (fn_len (qq + 1) pp qq) (fun ls hl => ?_) (qq + 1) pp qq 0 (Nat.lt_succ_self qq) hp hq (Nat.zero_add _) ls (lv_sub hl [2, 1, 0] rfl)
  refine lv_iload_n hx hb dX2_depth_33 rfl (lv_at hl 0 rfl) ?_
  have hP9 := hP.sub (ws' := [(h0, .inr (2, [.int (nI pp), .int (nI qq), .int fc, .int fd]))]) [0] rfl
  have hD9 := hD.sub (ws' := [(h0, .inr (2, [.int (nI pp), .int (nI qq), .int fc, .int fd]))]) [0] (by decide) rfl
  have hK9 := hK.sub (tys' := []) [] rfl
  exact W.iret (v := nI (fn_len (qq + 1) pp qq)) hx hb hr (fun t ht hW => ⟨⟨nI (fn_len (qq + 1) pp qq), (nI pp, nI qq, fc, fd), rfl, ⟨rfl, rfl⟩, by rw [ht]; exact hP9, va_K.moved hW.alike hK9, hD9⟩, hS.F ht⟩) hS.2.2 dX2_depth_34
/-- x < 0 ? -x : x, of a difference in a local -/
theorem nr_abs {p : Program} {l : Launch} {e : Env} {R : Room} {s : State} {m : MethodId} {args : Array Value} {below : List Frame} {meth : Method} {c : Code} {H : Heap} {locs : List Loc} {cells slots : Nat} {Q : State → Prop} {cc : ByteArray} {pc : Nat} {ls : Array Slot} {rest : List Value} (hexec : p.tables.exec = Jvm.exec) (hb : c.code = cc) {i : Nat} {u v : Nat} (hu : u < 2 ^ 62) (hv : v < 2 ^ 62) (hl : ls[i]? = some (.val (.long (lN u - lN v))))
    (d0 : decode cc pc = .ok (.lload i, 2)) (d1 : decode cc (pc + 2) = .ok (.lconst 0, 1)) (d2 : decode cc (pc + 2 + 1) = .ok (.lcmp, 1)) (d3 : decode cc (pc + 2 + 1 + 1) = .ok (.ifCond .ge 9, 3)) (d4 : decode cc (pc + 2 + 1 + 1 + 3) = .ok (.lload i, 2)) (d5 : decode cc (pc + 2 + 1 + 1 + 3 + 2) = .ok (.lneg, 1)) (d6 : decode cc (pc + 2 + 1 + 1 + 3 + 2 + 1) = .ok (.goto 5, 3)) (d7 : decode cc (pc + 13) = .ok (.lload i, 2))
    (k : W p l e R s m args below meth c H locs cells slots Q (F0 m (pc + 13 + 2) ls (.long (lN ((u - v) + (v - u))) :: rest))) : W p l e R s m args below meth c H locs cells slots Q (F0 m pc ls rest) := by
  rw [← ld_abs hu hv] at k
  refine lv_lload hexec hb d0 hl ?_
  refine lv_lconst (v := lN 0) hexec hb d1 rfl ?_
  refine nq_ge (tgt := pc + 13) hexec hb d2 d3 (by omega) (fun h => ?_) (fun h => ?_)
  · have h : (0 : Int64) ≤ lN u - lN v := h
    rw [if_neg (fun g => Int64.not_le.mpr g h)] at k
    exact lv_lload hexec hb d7 hl k
  · have h : ¬ (0 : Int64) ≤ lN u - lN v := h
    rw [if_pos (Int64.not_le.mp h)] at k
    exact lv_lload hexec hb d4 hl (lv_lneg hexec hb d5 (lv_goto (tgt := pc + 13 + 2) hexec hb d6 (by omega) k))
set_option maxHeartbeats 4000000 in
set_option maxRecDepth 100000 in
/-- better(a, b, c, d): a/b is nearer than c/d -/
theorem metX2_better (l : Launch) (dC : Nat → ClassId) (dI : Nat → Nat → Nat) (h0 sz : Nat) (pp qq : Nat) (hp : pp < 1048576) (hq2 : qq ≤ 1048576) (fc fd : Int32) (na nb nc nd : Nat) (hna : na < 2 ^ 31) (hnb : nb ≤ 2048) (hnc : nc < 2 ^ 31) (hnd : nd ≤ 2048) : Met l yX2_better wsX2_better ({ frames := 0, cells := 0, slots := 0, locals := 0 }) (va_Pc [.ref h0, .int (nI na), .int (nI nb), .int (nI nc), .int (nI nd)] (fun U => U.heap.size = sz ∧ va_P (dC, dI) vwCl [(h0, .inr (2, [.int (nI pp), .int (nI qq), .int fc, .int fd]))] U.heap ∧ va_K (dC, dI) vwCl [] U ∧ va_D (fun _ => True) [(h0, .inr (2, [.int (nI pp), .int (nI qq), .int fc, .int fd]))])) (va_Qi (fun (r : Int32) (u : Int32 × Int32 × Int32 × Int32) => ∃ rr : Nat, r = nI rr ∧ u = (nI pp, nI qq, fc, fd) ∧ ((rr = 1 ∧ fn_D pp qq na nb * nd < fn_D pp qq nc nd * nb) ∨ (rr = 0 ∧ ¬ fn_D pp qq na nb * nd < fn_D pp qq nc nd * nb))) (BN dC dI (va_A [(h0, .inr (2, [.int (nI pp), .int (nI qq), .int fc, .int fd]))] sz) h0) (va_A [(h0, .inr (2, [.int (nI pp), .int (nI qq), .int fc, .int fd]))] sz)) 0 0 (va_A [(h0, .inr (2, [.int (nI pp), .int (nI qq), .int fc, .int fd]))] sz) := by
  refine Met.ofW (cc := cX2_better) (maxL := 9) (ret := (some .boolean)) (by decide) rfl ?_
  intro p e s m args below meth c s₁ B hml hv
  obtain ⟨rfl, hsz, hP, hK, hD0⟩ := hv
  have hx := B.exec
  have hb := B.bytes
  have hr := B.returns
  have hts := atoms_spec (ws := wsX2_better) B.pre
  have hts : ∀ w ∈ lw_all, w.before _ s = true := fun w h => hts w (List.mem_cons_of_mem _ h)
  have hown : s.vm.findClass RX2 = some m.cls := findClass_of_methodNamed B.named
  have hlocks := B.notSynchronized
  subst hsz
  have hD := hD0.self (sz := s.heap.size)
  generalize hAe : va_A [(h0, .inr (2, [.int (nI pp), .int (nI qq), .int fc, .int fd]))] s.heap.size = A at hD ⊢
  have hA : ∀ q : Nat, s.heap.size ≤ q → A q := fun q h => by rw [← hAe]; exact Or.inr h
  have hS : va_S A s.heap s.heap [] := va_S.rf
  have hP : va_P (dC, dI) vwCl [(h0, .inr (2, [.int (nI pp), .int (nI qq), .int fc, .int fd]))] s.heap := hP
  have hl := lv_entry ([.ref h0, .int (nI na), .int (nI nb), .int (nI nc), .int (nI nd)]) (n := 9) (Nat.le_of_ble_eq_true rfl)
  rw [lg_entry_eq]
  generalize (lg_sl ([.ref h0, .int (nI na), .int (nI nb), .int (nI nc), .int (nI nd)]) ++ List.replicate (9 - (lg_sl ([.ref h0, .int (nI na), .int (nI nb), .int (nI nc), .int (nI nd)])).length) Slot.unset).toArray = ls at hl ⊢
  have hl : lv_has ls 9 [(0, .ref h0), (1, .int (nI na)), (2, .int (nI nb)), (3, .int (nI nc)), (4, .int (nI nd))] := hl
  have b1 : na * qq ≤ 2 ^ 31 * 1048576 := Nat.mul_le_mul (Nat.le_of_lt hna) hq2
  have b2 : pp * nb ≤ 1048576 * 2048 := Nat.mul_le_mul (Nat.le_of_lt hp) hnb
  have b3 : nc * qq ≤ 2 ^ 31 * 1048576 := Nat.mul_le_mul (Nat.le_of_lt hnc) hq2
  have b4 : pp * nd ≤ 1048576 * 2048 := Nat.mul_le_mul (Nat.le_of_lt hp) hnd
  refine lv_iload_n hx hb dX2_better_0 rfl (lv_at hl 1 rfl) ?_
  refine nr_i2l hx hb (by omega) dX2_better_1 ?_
  refine lv_aload_n hx hb dX2_better_2 rfl (lv_at hl 0 rfl) ?_
  refine va_get (D := (dC, dI)) (ci := 2) (v := .int (nI qq)) (C := RX2) (T := TX2) (N := 4) hx hb hts in_X2 hown hK hP 0 rfl rfl 1 (by decide) (hts _ q106) (fun _ h9 => h9) rfl dX2_better_3 ?_
  refine nr_i2l hx hb (by omega) dX2_better_6 ?_
  refine nr_lmul hx hb dX2_better_7 ?_
  refine lv_aload_n hx hb dX2_better_8 rfl (lv_at hl 0 rfl) ?_
  refine va_get (D := (dC, dI)) (ci := 2) (v := .int (nI pp)) (C := RX2) (T := TX2) (N := 4) hx hb hts in_X2 hown hK hP 0 rfl rfl 0 (by decide) (hts _ q105) (fun _ h9 => h9) rfl dX2_better_9 ?_
  refine nr_i2l hx hb (by omega) dX2_better_12 ?_
  refine lv_iload_n hx hb dX2_better_13 rfl (lv_at hl 2 rfl) ?_
  refine nr_i2l hx hb (by omega) dX2_better_14 ?_
  refine nr_lmul hx hb dX2_better_15 ?_
  refine lv_lsub hx hb dX2_better_16 ?_
  refine lv_lstore (lv' := [(5, .long (lN (na * qq) - lN (pp * nb))), (0, .ref h0), (1, .int (nI na)), (2, .int (nI nb)), (3, .int (nI nc)), (4, .int (nI nd))]) hx hb dX2_better_17 hl (by decide) rfl (fun ls hl => ?_)
  refine lv_iload_n hx hb dX2_better_19 rfl (lv_at hl 4 rfl) ?_
  refine nr_i2l hx hb (by omega) dX2_better_20 ?_
  refine lv_aload_n hx hb dX2_better_21 rfl (lv_at hl 1 rfl) ?_
  refine va_get (D := (dC, dI)) (ci := 2) (v := .int (nI qq)) (C := RX2) (T := TX2) (N := 4) hx hb hts in_X2 hown hK hP 0 rfl rfl 1 (by decide) (hts _ q106) (fun _ h9 => h9) rfl dX2_better_22 ?_
  refine nr_i2l hx hb (by omega) dX2_better_25 ?_
  refine nr_lmul hx hb dX2_better_26 ?_
  refine lv_aload_n hx hb dX2_better_27 rfl (lv_at hl 1 rfl) ?_
  refine va_get (D := (dC, dI)) (ci := 2) (v := .int (nI pp)) (C := RX2) (T := TX2) (N := 4) hx hb hts in_X2 hown hK hP 0 rfl rfl 0 (by decide) (hts _ q105) (fun _ h9 => h9) rfl dX2_better_28 ?_
  refine nr_i2l hx hb (by omega) dX2_better_31 ?_
  refine lv_iload hx hb dX2_better_32 (lv_at hl 5 rfl) ?_
  refine nr_i2l hx hb (by omega) dX2_better_34 ?_
  refine nr_lmul hx hb dX2_better_35 ?_
  refine lv_lsub hx hb dX2_better_36 ?_
  refine lv_lstore (lv' := [(7, .long (lN (nc * qq) - lN (pp * nd))), (5, .long (lN (na * qq) - lN (pp * nb))), (0, .ref h0), (1, .int (nI na)), (2, .int (nI nb)), (3, .int (nI nc)), (4, .int (nI nd))]) hx hb dX2_better_37 hl (by decide) rfl (fun ls hl => ?_)
  obtain ⟨X, hX⟩ : ∃ X, X = fn_D pp qq na nb := ⟨_, rfl⟩
  obtain ⟨Y, hY⟩ : ∃ Y, Y = fn_D pp qq nc nd := ⟨_, rfl⟩
  have b5 : X ≤ 2 ^ 31 * 1048576 := by rw [hX]; unfold fn_D; omega
  have b6 : Y ≤ 2 ^ 31 * 1048576 := by rw [hY]; unfold fn_D; omega
  have b7 : X * nd ≤ 2 ^ 31 * 1048576 * 2048 := Nat.mul_le_mul b5 hnd
  have b8 : Y * nb ≤ 2 ^ 31 * 1048576 * 2048 := Nat.mul_le_mul b6 hnb
  unfold fn_D at hX hY
  refine nr_abs hx hb (by omega) (by omega) (lv_at hl 1 rfl) dX2_better_39 dX2_better_41 dX2_better_42 dX2_better_43 dX2_better_46 dX2_better_48 dX2_better_49 dX2_better_52 ?_
  rw [← hX]
  refine lv_lstore (lv' := [(5, .long (lN X)), (7, .long (lN (nc * qq) - lN (pp * nd))), (0, .ref h0), (1, .int (nI na)), (2, .int (nI nb)), (3, .int (nI nc)), (4, .int (nI nd))]) hx hb dX2_better_54 hl (by decide) rfl (fun ls hl => ?_)
  refine nr_abs hx hb (by omega) (by omega) (lv_at hl 1 rfl) dX2_better_56 dX2_better_58 dX2_better_59 dX2_better_60 dX2_better_63 dX2_better_65 dX2_better_66 dX2_better_69 ?_
  rw [← hY]
  refine lv_lstore (lv' := [(7, .long (lN Y)), (5, .long (lN X)), (0, .ref h0), (1, .int (nI na)), (2, .int (nI nb)), (3, .int (nI nc)), (4, .int (nI nd))]) hx hb dX2_better_71 hl (by decide) rfl (fun ls hl => ?_)
  refine lv_lload hx hb dX2_better_73 (lv_at hl 1 rfl) ?_
  refine lv_iload hx hb dX2_better_75 (lv_at hl 6 rfl) ?_
  refine nr_i2l hx hb (by omega) dX2_better_77 ?_
  refine nr_lmul hx hb dX2_better_78 ?_
  refine lv_lload hx hb dX2_better_79 (lv_at hl 0 rfl) ?_
  refine lv_iload_n hx hb dX2_better_81 rfl (lv_at hl 4 rfl) ?_
  refine nr_i2l hx hb (by omega) dX2_better_82 ?_
  refine nr_lmul hx hb dX2_better_83 ?_
  refine nl_ge (tgt := 92) hx hb (by omega) (by omega) dX2_better_84 dX2_better_85 (by decide) (fun c_84 => ?_) (fun c_84 => ?_)
  · have hX : X = fn_D pp qq na nb := hX
    have hY : Y = fn_D pp qq nc nd := hY
    refine lv_iconst (v := nI 0) hx hb dX2_better_92 (by decide) ?_
    have hP9 := hP.sub (ws' := [(h0, .inr (2, [.int (nI pp), .int (nI qq), .int fc, .int fd]))]) [0] rfl
    have hD9 := hD.sub (ws' := [(h0, .inr (2, [.int (nI pp), .int (nI qq), .int fc, .int fd]))]) [0] (by decide) rfl
    have hK9 := hK.sub (tys' := []) [] rfl
    exact W.zret (v := nI 0) hx hb hr rfl (fun t ht hW => ⟨⟨nI 0, (nI pp, nI qq, fc, fd), rfl, ⟨0, rfl, rfl, Or.inr ⟨rfl, by rw [← hX, ← hY]; exact Nat.not_lt_of_le c_84⟩⟩, by rw [ht]; exact hP9, va_K.moved hW.alike hK9, hD9⟩, hS.F ht⟩) hS.2.2 dX2_better_93
  · have hX : X = fn_D pp qq na nb := hX
    have hY : Y = fn_D pp qq nc nd := hY
    refine lv_iconst (v := nI 1) hx hb dX2_better_88 (by decide) ?_
    refine lv_goto (tgt := 93) hx hb dX2_better_89 (by decide) ?_
    have hP9 := hP.sub (ws' := [(h0, .inr (2, [.int (nI pp), .int (nI qq), .int fc, .int fd]))]) [0] rfl
    have hD9 := hD.sub (ws' := [(h0, .inr (2, [.int (nI pp), .int (nI qq), .int fc, .int fd]))]) [0] (by decide) rfl
    have hK9 := hK.sub (tys' := []) [] rfl
    exact W.zret (v := nI 1) hx hb hr rfl (fun t ht hW => ⟨⟨nI 1, (nI pp, nI qq, fc, fd), rfl, ⟨1, rfl, rfl, Or.inl ⟨rfl, by rw [← hX, ← hY]; exact Nat.lt_of_not_le c_84⟩⟩, by rw [ht]; exact hP9, va_K.moved hW.alike hK9, hD9⟩, hS.F ht⟩) hS.2.2 dX2_better_93
end
section
/-! MODULE FractionNearModel: seek, top, bottom -/
/-- what the search asks of its numbers -/
def sk_ok (pp qq n dd nf kk : Nat) : Prop := pp < 1048576 ∧ 1 ≤ qq ∧ qq ≤ 1048576 ∧ n ≤ 2048 ∧ 1 ≤ dd ∧ dd ≤ n ∧ nf = pp * dd / qq ∧ nf + 2 < 2 ^ 31 ∧ kk < 2
set_option maxHeartbeats 4000000 in
set_option maxRecDepth 100000 in
/-- the candidate is taken -/
theorem tkX2_seek {p : Program} {l : Launch} {e : Env} {s : State} {m : MethodId} {args : Array Value} {below : List Frame} {meth : Method} {c : Code} {Q : State → Prop} {dC : Nat → ClassId} {dI : Nat → Nat → Nat} {A : Nat → Prop} {h0 : Nat} (hx : p.tables.exec = Jvm.exec) (hb : c.code = cX2_seek) (hml : c.maxLocals = 5) (hown : s.vm.findClass RX2 = some m.cls) (hts : ∀ w ∈ lw_all, w.before args s = true) (hA : ∀ q : Nat, s.heap.size ≤ q → A q) (hK : va_K (dC, dI) vwCl [] s) {pp qq n dd nf kk : Nat} (ok : sk_ok pp qq n dd nf kk) (K : (∀ (nU nV : Nat) (H : Heap) (locs : List Loc) (ls : Array Slot), fn_M pp qq dd (kk + 1) nU nV → nU < 2 ^ 31 → nV ≤ 2048 → va_P (dC, dI) vwCl [(h0, .inr (2, [.int (nI pp), .int (nI qq), .int (nI nU), .int (nI nV)]))] H → va_D A [(h0, .inr (2, [.int (nI pp), .int (nI qq), .int (nI nU), .int (nI nV)]))] → va_S A s.heap H locs → lv_has ls 5 [(0, .ref h0), (1, .int (nI n)), (2, .int (nI dd)), (3, .int (nI nf)), (4, .int (nI (kk + 1)))] → W p l e (headSpec wsX2_seek ({ frames := 1, cells := 0, slots := 0, locals := 28 })).room s m args below meth c H locs 0 0 Q (F0 m 36 ls []))) (nU nV : Nat) (H : Heap) (locs : List Loc) (hM : fn_M pp qq dd (kk + 1) (nf + kk) dd) (hP : va_P (dC, dI) vwCl [(h0, .inr (2, [.int (nI pp), .int (nI qq), .int (nI nU), .int (nI nV)]))] H) (hD : va_D A [(h0, .inr (2, [.int (nI pp), .int (nI qq), .int (nI nU), .int (nI nV)]))]) (hS : va_S A s.heap H locs) (ls : Array Slot) (hl : lv_has ls 5 [(0, .ref h0), (1, .int (nI n)), (2, .int (nI dd)), (3, .int (nI nf)), (4, .int (nI kk))]) : W p l e (headSpec wsX2_seek ({ frames := 1, cells := 0, slots := 0, locals := 28 })).room s m args below meth c H locs 0 0 Q (F0 m 72 ls []) := by
  obtain ⟨hp, hq1, hq2, hn, hd1, hdn, hnf, hnf2, hk⟩ := ok
  refine lv_aload_n hx hb dX2_seek_72 rfl (lv_at hl 0 rfl) ?_
  refine lv_iload_n hx hb dX2_seek_73 rfl (lv_at hl 3 rfl) ?_
  refine lv_iload hx hb dX2_seek_74 (lv_at hl 4 rfl) ?_
  refine nr_iadd hx hb dX2_seek_76 ?_
  refine va_put (D := (dC, dI)) (ci := 2) (v := .int (nI (nf + kk))) (ty := .int) (C := RX2) (T := TX2) (N := 4) hx hb hts in_X2 tyX2 tyX2_ok nmX2 hown hK hP hD hS 0 rfl rfl 2 (by decide) (hts _ q107) (fun _ h9 => h9) rfl (by decide +kernel) rfl rfl (Nat.le_of_ble_eq_true rfl) dX2_seek_77 (fun H locs hP hD hS => ?_)
  have hP : va_P (dC, dI) vwCl [(h0, .inr (2, [.int (nI pp), .int (nI qq), .int (nI (nf + kk)), .int (nI nV)]))] H := hP
  have hD : va_D A [(h0, .inr (2, [.int (nI pp), .int (nI qq), .int (nI (nf + kk)), .int (nI nV)]))] := hD
  refine lv_aload_n hx hb dX2_seek_80 rfl (lv_at hl 0 rfl) ?_
  refine lv_iload_n hx hb dX2_seek_81 rfl (lv_at hl 2 rfl) ?_
  refine va_put (D := (dC, dI)) (ci := 2) (v := .int (nI dd)) (ty := .int) (C := RX2) (T := TX2) (N := 4) hx hb hts in_X2 tyX2 tyX2_ok nmX2 hown hK hP hD hS 0 rfl rfl 3 (by decide) (hts _ q108) (fun _ h9 => h9) rfl (by decide +kernel) rfl rfl (Nat.le_of_ble_eq_true rfl) dX2_seek_82 (fun H locs hP hD hS => ?_)
  have hP : va_P (dC, dI) vwCl [(h0, .inr (2, [.int (nI pp), .int (nI qq), .int (nI (nf + kk)), .int (nI dd)]))] H := hP
  have hD : va_D A [(h0, .inr (2, [.int (nI pp), .int (nI qq), .int (nI (nf + kk)), .int (nI dd)]))] := hD
  refine lv_iinc (v := nI (kk + 1)) (lv' := [(4, .int (nI (kk + 1))), (0, .ref h0), (1, .int (nI n)), (2, .int (nI dd)), (3, .int (nI nf))]) hx hb dX2_seek_85 hl (k := 4) rfl (nI_add kk 1) (by decide) rfl (fun ls hl => ?_)
  refine lv_goto (tgt := 36) hx hb dX2_seek_88 (by decide) ?_
  exact K (nf + kk) dd H locs ls hM (by omega) (by omega) hP hD hS (lv_sub hl [1, 2, 3, 4, 0] rfl)
set_option maxHeartbeats 4000000 in
set_option maxRecDepth 100000 in
/-- the candidate is asked -/
theorem asX2_seek {p : Program} {l : Launch} {e : Env} {s : State} {m : MethodId} {args : Array Value} {below : List Frame} {meth : Method} {c : Code} {Q : State → Prop} {dC : Nat → ClassId} {dI : Nat → Nat → Nat} {A : Nat → Prop} {h0 : Nat} (hx : p.tables.exec = Jvm.exec) (hb : c.code = cX2_seek) (hml : c.maxLocals = 5) (hown : s.vm.findClass RX2 = some m.cls) (hts : ∀ w ∈ lw_all, w.before args s = true) (hA : ∀ q : Nat, s.heap.size ≤ q → A q) (hK : va_K (dC, dI) vwCl [] s) {pp qq n dd nf kk : Nat} (ok : sk_ok pp qq n dd nf kk) (K : (∀ (nU nV : Nat) (H : Heap) (locs : List Loc) (ls : Array Slot), fn_M pp qq dd (kk + 1) nU nV → nU < 2 ^ 31 → nV ≤ 2048 → va_P (dC, dI) vwCl [(h0, .inr (2, [.int (nI pp), .int (nI qq), .int (nI nU), .int (nI nV)]))] H → va_D A [(h0, .inr (2, [.int (nI pp), .int (nI qq), .int (nI nU), .int (nI nV)]))] → va_S A s.heap H locs → lv_has ls 5 [(0, .ref h0), (1, .int (nI n)), (2, .int (nI dd)), (3, .int (nI nf)), (4, .int (nI (kk + 1)))] → W p l e (headSpec wsX2_seek ({ frames := 1, cells := 0, slots := 0, locals := 28 })).room s m args below meth c H locs 0 0 Q (F0 m 36 ls []))) (nU nV : Nat) (H : Heap) (locs : List Loc) (hM : fn_M pp qq dd kk nU nV) (hU : nU < 2 ^ 31) (hV : nV ≤ 2048) (hP : va_P (dC, dI) vwCl [(h0, .inr (2, [.int (nI pp), .int (nI qq), .int (nI nU), .int (nI nV)]))] H) (hD : va_D A [(h0, .inr (2, [.int (nI pp), .int (nI qq), .int (nI nU), .int (nI nV)]))]) (hS : va_S A s.heap H locs) (ls : Array Slot) (hl : lv_has ls 5 [(0, .ref h0), (1, .int (nI n)), (2, .int (nI dd)), (3, .int (nI nf)), (4, .int (nI kk))]) : W p l e (headSpec wsX2_seek ({ frames := 1, cells := 0, slots := 0, locals := 28 })).room s m args below meth c H locs 0 0 Q (F0 m 52 ls []) := by
  have ok0 := ok
  obtain ⟨hp, hq1, hq2, hn, hd1, hdn, hnf, hnf2, hk⟩ := ok
  refine lv_aload_n hx hb dX2_seek_52 rfl (lv_at hl 0 rfl) ?_
  refine lv_iload_n hx hb dX2_seek_53 rfl (lv_at hl 3 rfl) ?_
  refine lv_iload hx hb dX2_seek_54 (lv_at hl 4 rfl) ?_
  refine nr_iadd hx hb dX2_seek_56 ?_
  refine lv_iload_n hx hb dX2_seek_57 rfl (lv_at hl 2 rfl) ?_
  refine lv_aload_n hx hb dX2_seek_58 rfl (lv_at hl 0 rfl) ?_
  refine va_get (D := (dC, dI)) (ci := 2) (v := .int (nI nU)) (C := RX2) (T := TX2) (N := 4) hx hb hts in_X2 hown hK hP 0 rfl rfl 2 (by decide) (hts _ q107) (fun _ h9 => h9) rfl dX2_seek_59 ?_
  refine lv_aload_n hx hb dX2_seek_62 rfl (lv_at hl 0 rfl) ?_
  refine va_get (D := (dC, dI)) (ci := 2) (v := .int (nI nV)) (C := RX2) (T := TX2) (N := 4) hx hb hts in_X2 hown hK hP 0 rfl rfl 3 (by decide) (hts _ q108) (fun _ h9 => h9) rfl dX2_seek_63 ?_
  have hPc := hP.sub (ws' := [(h0, .inr (2, [.int (nI pp), .int (nI qq), .int (nI nU), .int (nI nV)]))]) [0] rfl
  have hDc := hD.sub (ws' := [(h0, .inr (2, [.int (nI pp), .int (nI qq), .int (nI nU), .int (nI nV)]))]) [0] (by decide) rfl
  have hKc := hK.sub (tys' := []) [] rfl
  have hFc := va_free (wc := [(h0, .inr (2, [.int (nI pp), .int (nI qq), .int (nI nU), .int (nI nV)]))]) hD hS hA [0] rfl
  refine va_calli (va_runV (As := [.int (nI (nf + kk)), .int (nI dd), .int (nI nU), .int (nI nV)]) (rest := []) ⟨hx, hb, hml, hown, hts⟩ (metX2_better l dC dI h0 H.size pp qq hp hq2 (nI nU) (nI nV) (nf + kk) dd nU nV (by omega) (by omega) hU hV) (cwV 4 hts (lw_V q131 q133 qs3 q8 q134) rfl rfl rfl (by decide +kernel) ⟨Nat.le_of_ble_eq_true rfl, Nat.le_of_ble_eq_true rfl⟩) ⟨fun a U g mk q => by obtain ⟨q0, q1, qP, qK, qD⟩ := q; exact ⟨q0, q1, qP, va_K.moved (u := U) (U := U.calling g mk a) (Vm.Alike.refl U.vm) qK, qD⟩, va_recv hKc hPc (ci := 2) (q0 := 0) rfl rfl, fun U hU hW => ⟨rfl, by rw [hU], by rw [hU]; exact hPc, va_K.moved hW.alike hKc, hDc.weaken (fun _ _ _ _ => trivial)⟩⟩ rfl rfl hl.1 rfl (lv_room (Nat.le_of_ble_eq_true rfl)) dX2_seek_66 ⟨Nat.le_of_ble_eq_true rfl, Nat.le_of_ble_eq_true rfl⟩) hS (fun q _ h => hFc q h) hFc (fun r_1 u t H locs ht hvm hw hB hz1 hk1 hS => ?_)
  obtain ⟨rr, er, hu, hcase⟩ := hw
  subst er
  subst hu
  obtain ⟨hP1, -, hD1⟩ := hB
  rw [ht] at hP1
  obtain ⟨hP, hD⟩ := va_join (wr := []) (w1 := [(h0, .inr (2, [.int (nI pp), .int (nI qq), .int (nI nU), .int (nI nV)]))]) hP hD [0] [] rfl rfl (by decide) (by decide) hk1 hFc hP1 hD1
  have hP : va_P (dC, dI) vwCl [(h0, .inr (2, [.int (nI pp), .int (nI qq), .int (nI nU), .int (nI nV)]))] H := hP
  have hD : va_D A [(h0, .inr (2, [.int (nI pp), .int (nI qq), .int (nI nU), .int (nI nV)]))] := hD
  rw [hnf] at hcase
  refine ni_if_eq (tgt := 85) hx hb (by omega) dX2_seek_69 (by decide) (fun c_69 => ?_) (fun c_69 => ?_)
  · have hno : ¬ fn_D pp qq (pp * dd / qq + kk) dd * nV < fn_D pp qq nU nV * dd := by rcases hcase with ⟨g, -⟩ | ⟨-, g⟩; exact absurd (c_69.symm.trans g) (by decide); exact g
    refine lv_iinc (v := nI (kk + 1)) (lv' := [(4, .int (nI (kk + 1))), (0, .ref h0), (1, .int (nI n)), (2, .int (nI dd)), (3, .int (nI nf))]) hx hb dX2_seek_85 hl (k := 4) rfl (nI_add kk 1) (by decide) rfl (fun ls hl => ?_)
    refine lv_goto (tgt := 36) hx hb dX2_seek_88 (by decide) ?_
    exact K nU nV H locs ls (fn_M_keep hq1 hk hM hno) hU hV hP hD hS (lv_sub hl [1, 2, 3, 4, 0] rfl)
  · have hye : fn_D pp qq (pp * dd / qq + kk) dd * nV < fn_D pp qq nU nV * dd := by rcases hcase with ⟨-, g⟩ | ⟨g, -⟩; exact g; exact absurd g c_69
    exact tkX2_seek hx hb hml hown hts hA hK ok0 K nU nV H locs (by rw [hnf]; exact fn_M_take hq1 hk hM hye) hP hD hS ls hl
set_option maxHeartbeats 4000000 in
set_option maxRecDepth 100000 in
/-- one of the two candidates of a number below -/
theorem inX2_seek {p : Program} {l : Launch} {e : Env} {s : State} {m : MethodId} {args : Array Value} {below : List Frame} {meth : Method} {c : Code} {Q : State → Prop} {dC : Nat → ClassId} {dI : Nat → Nat → Nat} {A : Nat → Prop} {h0 : Nat} (hx : p.tables.exec = Jvm.exec) (hb : c.code = cX2_seek) (hml : c.maxLocals = 5) (hown : s.vm.findClass RX2 = some m.cls) (hts : ∀ w ∈ lw_all, w.before args s = true) (hA : ∀ q : Nat, s.heap.size ≤ q → A q) (hK : va_K (dC, dI) vwCl [] s) {pp qq n dd nf kk : Nat} (ok : sk_ok pp qq n dd nf kk) (K : (∀ (nU nV : Nat) (H : Heap) (locs : List Loc) (ls : Array Slot), fn_M pp qq dd (kk + 1) nU nV → nU < 2 ^ 31 → nV ≤ 2048 → va_P (dC, dI) vwCl [(h0, .inr (2, [.int (nI pp), .int (nI qq), .int (nI nU), .int (nI nV)]))] H → va_D A [(h0, .inr (2, [.int (nI pp), .int (nI qq), .int (nI nU), .int (nI nV)]))] → va_S A s.heap H locs → lv_has ls 5 [(0, .ref h0), (1, .int (nI n)), (2, .int (nI dd)), (3, .int (nI nf)), (4, .int (nI (kk + 1)))] → W p l e (headSpec wsX2_seek ({ frames := 1, cells := 0, slots := 0, locals := 28 })).room s m args below meth c H locs 0 0 Q (F0 m 36 ls []))) (nU nV : Nat) (H : Heap) (locs : List Loc) (hM : (dd = 1 ∧ kk = 0) ∨ fn_M pp qq dd kk nU nV) (hU : nU < 2 ^ 31) (hV : nV ≤ 2048) (hP : va_P (dC, dI) vwCl [(h0, .inr (2, [.int (nI pp), .int (nI qq), .int (nI nU), .int (nI nV)]))] H) (hD : va_D A [(h0, .inr (2, [.int (nI pp), .int (nI qq), .int (nI nU), .int (nI nV)]))]) (hS : va_S A s.heap H locs) (ls : Array Slot) (hl : lv_has ls 5 [(0, .ref h0), (1, .int (nI n)), (2, .int (nI dd)), (3, .int (nI nf)), (4, .int (nI kk))]) : W p l e (headSpec wsX2_seek ({ frames := 1, cells := 0, slots := 0, locals := 28 })).room s m args below meth c H locs 0 0 Q (F0 m 36 ls []) := by
  have ok0 := ok
  obtain ⟨hp, hq1, hq2, hn, hd1, hdn, hnf, hnf2, hk⟩ := ok
  refine lv_iload hx hb dX2_seek_36 (lv_at hl 4 rfl) ?_
  refine lv_iconst (v := nI 2) hx hb dX2_seek_38 (by decide) ?_
  refine ni_ge (tgt := 91) hx hb (by omega) (by omega) dX2_seek_39 (by decide) (fun c_39 => ?_) (fun c_39 => ?_)
  · exact absurd c_39 (Nat.not_le_of_lt hk)
  · refine lv_iload_n hx hb dX2_seek_42 rfl (lv_at hl 2 rfl) ?_
    refine lv_iconst (v := nI 1) hx hb dX2_seek_43 (by decide) ?_
    refine ni_ne (tgt := 52) hx hb (by omega) (by omega) dX2_seek_44 (by decide) (fun c_44 => ?_) (fun c_44 => ?_)
    · exact asX2_seek hx hb hml hown hts hA hK ok0 K nU nV H locs (hM.resolve_left (fun g => c_44 g.1)) hU hV hP hD hS ls hl
    · refine lv_iload hx hb dX2_seek_47 (lv_at hl 4 rfl) ?_
      refine ni_if_eq (tgt := 72) hx hb (by omega) dX2_seek_49 (by decide) (fun c_49 => ?_) (fun c_49 => ?_)
      · refine tkX2_seek hx hb hml hown hts hA hK ok0 K nU nV H locs ?_ hP hD hS ls hl
        rw [hnf, c_44, c_49]
        exact fn_M_first hq1
      · exact asX2_seek hx hb hml hown hts hA hK ok0 K nU nV H locs (hM.resolve_left (fun g => c_49 g.2)) hU hV hP hD hS ls hl
set_option maxHeartbeats 4000000 in
set_option maxRecDepth 100000 in
/-- seek's loop over the numbers below -/
theorem lpX2_seek {p : Program} {l : Launch} {e : Env} {s : State} {m : MethodId} {args : Array Value} {below : List Frame} {meth : Method} {c : Code} {Q : State → Prop} {dC : Nat → ClassId} {dI : Nat → Nat → Nat} {A : Nat → Prop} {h0 : Nat} (hx : p.tables.exec = Jvm.exec) (hb : c.code = cX2_seek) (hml : c.maxLocals = 5) (hown : s.vm.findClass RX2 = some m.cls) (hts : ∀ w ∈ lw_all, w.before args s = true) (hA : ∀ q : Nat, s.heap.size ≤ q → A q) (hK : va_K (dC, dI) vwCl [] s) {pp qq n : Nat} (hp : pp < 1048576) (hq1 : 1 ≤ qq) (hq2 : qq ≤ 1048576) (hn1 : 1 ≤ n) (hn : n ≤ 2048)
    (K : ∀ (nU nV : Nat) (H : Heap) (locs : List Loc) (ls : Array Slot), fn_Best pp qq n nU nV → va_P (dC, dI) vwCl [(h0, .inr (2, [.int (nI pp), .int (nI qq), .int (nI nU), .int (nI nV)]))] H → va_D A [(h0, .inr (2, [.int (nI pp), .int (nI qq), .int (nI nU), .int (nI nV)]))] → va_S A s.heap H locs → W p l e (headSpec wsX2_seek ({ frames := 1, cells := 0, slots := 0, locals := 28 })).room s m args below meth c H locs 0 0 Q (F0 m 97 ls [])) :
    ∀ (f dd nU nV : Nat), n + 1 < dd + f → 1 ≤ dd → dd ≤ n + 1 → (dd = 1 ∨ fn_M pp qq dd 0 nU nV) → nU < 2 ^ 31 → nV ≤ 2048 → ∀ (H : Heap) (locs : List Loc), va_P (dC, dI) vwCl [(h0, .inr (2, [.int (nI pp), .int (nI qq), .int (nI nU), .int (nI nV)]))] H → va_D A [(h0, .inr (2, [.int (nI pp), .int (nI qq), .int (nI nU), .int (nI nV)]))] → va_S A s.heap H locs → ∀ ls : Array Slot, lv_has ls 5 [(0, .ref h0), (1, .int (nI n)), (2, .int (nI dd))] → W p l e (headSpec wsX2_seek ({ frames := 1, cells := 0, slots := 0, locals := 28 })).room s m args below meth c H locs 0 0 Q (F0 m 12 ls []) := by
  intro f
  induction f with
  | zero =>
    intro dd nU nV h1 h2 h3
    exact absurd h1 (by omega)
  | succ f ih =>
    intro dd nU nV hf hd1 hd2 hM hU hV H locs hP hD hS ls hl
    refine lv_iload_n hx hb dX2_seek_12 rfl (lv_at hl 2 rfl) ?_
    refine lv_iload_n hx hb dX2_seek_13 rfl (lv_at hl 1 rfl) ?_
    refine ni_gt (tgt := 97) hx hb (by omega) (by omega) dX2_seek_14 (by decide) (fun c_14 => ?_) (fun c_14 => ?_)
    · have hdn : dd = n + 1 := by omega
      subst hdn
      exact K nU nV H locs ls (fn_M_best (hM.resolve_left (by omega))) hP hD hS
    · have hpd : pp * dd ≤ 1048575 * 2048 := Nat.mul_le_mul (by omega) (by omega)
      have hfd : pp * dd / qq ≤ pp * dd := Nat.div_le_self _ _
      refine lv_aload_n hx hb dX2_seek_17 rfl (lv_at hl 0 rfl) ?_
      refine va_get (D := (dC, dI)) (ci := 2) (v := .int (nI pp)) (C := RX2) (T := TX2) (N := 4) hx hb hts in_X2 hown hK hP 0 rfl rfl 0 (by decide) (hts _ q105) (fun _ h9 => h9) rfl dX2_seek_18 ?_
      refine nr_i2l hx hb (by omega) dX2_seek_21 ?_
      refine lv_iload_n hx hb dX2_seek_22 rfl (lv_at hl 2 rfl) ?_
      refine nr_i2l hx hb (by omega) dX2_seek_23 ?_
      refine nr_lmul hx hb dX2_seek_24 ?_
      refine lv_aload_n hx hb dX2_seek_25 rfl (lv_at hl 0 rfl) ?_
      refine va_get (D := (dC, dI)) (ci := 2) (v := .int (nI qq)) (C := RX2) (T := TX2) (N := 4) hx hb hts in_X2 hown hK hP 0 rfl rfl 1 (by decide) (hts _ q106) (fun _ h9 => h9) rfl dX2_seek_26 ?_
      refine nr_i2l hx hb (by omega) dX2_seek_29 ?_
      refine nr_ldiv hx hb (by omega) hq1 (by omega) dX2_seek_30 ?_
      refine nr_l2i hx hb dX2_seek_31 ?_
      obtain ⟨nf, hnf⟩ : ∃ nf, nf = pp * dd / qq := ⟨_, rfl⟩
      rw [← hnf]
      refine lv_istore_n (lv' := [(3, .int (nI nf)), (0, .ref h0), (1, .int (nI n)), (2, .int (nI dd))]) hx hb dX2_seek_32 rfl hl (by decide) rfl (fun ls hl => ?_)
      refine lv_iconst (v := nI 0) hx hb dX2_seek_33 (by decide) ?_
      refine lv_istore (lv' := [(4, .int (nI 0)), (3, .int (nI nf)), (0, .ref h0), (1, .int (nI n)), (2, .int (nI dd))]) hx hb dX2_seek_34 hl (by decide) rfl (fun ls hl => ?_)
      have ok : ∀ kk, kk < 2 → sk_ok pp qq n dd nf kk := fun kk hk => ⟨hp, hq1, hq2, hn, hd1, by omega, hnf, by omega, hk⟩
      refine inX2_seek hx hb hml hown hts hA hK (ok 0 (by omega)) (fun nU nV H locs ls hM hU hV hP hD hS hl => ?_) nU nV H locs (hM.imp (fun g => ⟨g, rfl⟩) id) hU hV hP hD hS ls (lv_sub hl [2, 3, 4, 1, 0] rfl)
      refine inX2_seek hx hb hml hown hts hA hK (ok 1 (by omega)) (fun nU nV H locs ls hM hU hV hP hD hS hl => ?_) nU nV H locs (Or.inr hM) hU hV hP hD hS ls hl
      have hl : lv_has ls 5 [(0, .ref h0), (1, .int (nI n)), (2, .int (nI dd)), (3, .int (nI nf)), (4, .int (nI 2))] := hl
      refine lv_iload hx hb dX2_seek_36 (lv_at hl 4 rfl) ?_
      refine lv_iconst (v := nI 2) hx hb dX2_seek_38 (by decide) ?_
      refine ni_ge (tgt := 91) hx hb (by omega) (by omega) dX2_seek_39 (by decide) (fun c_39 => ?_) (fun c_39 => ?_)
      · refine lv_iinc (v := nI (dd + 1)) (lv' := [(2, .int (nI (dd + 1))), (0, .ref h0), (1, .int (nI n)), (3, .int (nI nf)), (4, .int (nI 2))]) hx hb dX2_seek_91 hl (k := 2) rfl (nI_add dd 1) (by decide) rfl (fun ls hl => ?_)
        refine lv_goto (tgt := 12) hx hb dX2_seek_94 (by decide) ?_
        exact ih (dd + 1) nU nV (by omega) (by omega) (by omega) (Or.inr (fn_M_next hM)) hU hV H locs hP hD hS ls (lv_sub hl [1, 2, 0] rfl)
      · exact absurd (Nat.le_refl 2) c_39
set_option maxHeartbeats 4000000 in
set_option maxRecDepth 100000 in
/-- seek(n): the nearest fraction with a number below of at most n -/
theorem metX2_seek (l : Launch) (dC : Nat → ClassId) (dI : Nat → Nat → Nat) (h0 sz : Nat) (pp qq : Nat) (hp : pp < 1048576) (hq1 : 1 ≤ qq) (hq2 : qq ≤ 1048576) (fc fd : Int32) (n : Nat) (hn1 : 1 ≤ n) (hn : n ≤ 2048) : Met l yX2_seek wsX2_seek ({ frames := 1, cells := 0, slots := 0, locals := 28 }) (va_Pc [.ref h0, .int (nI n)] (fun U => U.heap.size = sz ∧ va_P (dC, dI) vwCl [(h0, .inr (2, [.int (nI pp), .int (nI qq), .int fc, .int fd]))] U.heap ∧ va_K (dC, dI) vwCl [] U ∧ va_D (fun _ => True) [(h0, .inr (2, [.int (nI pp), .int (nI qq), .int fc, .int fd]))])) (va_Qv (fun u : Int32 × Int32 × Int32 × Int32 => ∃ nU nV : Nat, u = (nI pp, nI qq, nI nU, nI nV) ∧ fn_Best pp qq n nU nV) (BN dC dI (va_A [(h0, .inr (2, [.int (nI pp), .int (nI qq), .int fc, .int fd]))] sz) h0) (va_A [(h0, .inr (2, [.int (nI pp), .int (nI qq), .int fc, .int fd]))] sz)) 0 0 (va_A [(h0, .inr (2, [.int (nI pp), .int (nI qq), .int fc, .int fd]))] sz) := by
  refine Met.ofW (cc := cX2_seek) (maxL := 5) (ret := none) (by decide) rfl ?_
  intro p e s m args below meth c s₁ B hml hv
  obtain ⟨rfl, hsz, hP, hK, hD0⟩ := hv
  have hx := B.exec
  have hb := B.bytes
  have hr := B.returns
  have hts := atoms_spec (ws := wsX2_seek) B.pre
  have hts : ∀ w ∈ lw_all, w.before _ s = true := fun w h => hts w (List.mem_cons_of_mem _ h)
  have hown : s.vm.findClass RX2 = some m.cls := findClass_of_methodNamed B.named
  have hlocks := B.notSynchronized
  subst hsz
  have hD := hD0.self (sz := s.heap.size)
  generalize hAe : va_A [(h0, .inr (2, [.int (nI pp), .int (nI qq), .int fc, .int fd]))] s.heap.size = A at hD ⊢
  have hA : ∀ q : Nat, s.heap.size ≤ q → A q := fun q h => by rw [← hAe]; exact Or.inr h
  have hS : va_S A s.heap s.heap [] := va_S.rf
  have hP : va_P (dC, dI) vwCl [(h0, .inr (2, [.int (nI pp), .int (nI qq), .int fc, .int fd]))] s.heap := hP
  have hl := lv_entry ([.ref h0, .int (nI n)]) (n := 5) (Nat.le_of_ble_eq_true rfl)
  rw [lg_entry_eq]
  generalize (lg_sl ([.ref h0, .int (nI n)]) ++ List.replicate (5 - (lg_sl ([.ref h0, .int (nI n)])).length) Slot.unset).toArray = ls at hl ⊢
  have hl : lv_has ls 5 [(0, .ref h0), (1, .int (nI n))] := hl
  refine lv_aload_n hx hb dX2_seek_0 rfl (lv_at hl 0 rfl) ?_
  refine lv_iconst (v := nI 0) hx hb dX2_seek_1 (by decide) ?_
  refine va_put (D := (dC, dI)) (ci := 2) (v := .int (nI 0)) (ty := .int) (C := RX2) (T := TX2) (N := 4) hx hb hts in_X2 tyX2 tyX2_ok nmX2 hown hK hP hD hS 0 rfl rfl 2 (by decide) (hts _ q107) (fun _ h9 => h9) rfl (by decide +kernel) rfl rfl (Nat.le_of_ble_eq_true rfl) dX2_seek_2 (fun H locs hP hD hS => ?_)
  have hP : va_P (dC, dI) vwCl [(h0, .inr (2, [.int (nI pp), .int (nI qq), .int (nI 0), .int fd]))] H := hP
  have hD : va_D A [(h0, .inr (2, [.int (nI pp), .int (nI qq), .int (nI 0), .int fd]))] := hD
  refine lv_aload_n hx hb dX2_seek_5 rfl (lv_at hl 0 rfl) ?_
  refine lv_iconst (v := nI 1) hx hb dX2_seek_6 (by decide) ?_
  refine va_put (D := (dC, dI)) (ci := 2) (v := .int (nI 1)) (ty := .int) (C := RX2) (T := TX2) (N := 4) hx hb hts in_X2 tyX2 tyX2_ok nmX2 hown hK hP hD hS 0 rfl rfl 3 (by decide) (hts _ q108) (fun _ h9 => h9) rfl (by decide +kernel) rfl rfl (Nat.le_of_ble_eq_true rfl) dX2_seek_7 (fun H locs hP hD hS => ?_)
  have hP : va_P (dC, dI) vwCl [(h0, .inr (2, [.int (nI pp), .int (nI qq), .int (nI 0), .int (nI 1)]))] H := hP
  have hD : va_D A [(h0, .inr (2, [.int (nI pp), .int (nI qq), .int (nI 0), .int (nI 1)]))] := hD
  refine lv_iconst (v := nI 1) hx hb dX2_seek_10 (by decide) ?_
  refine lv_istore_n (lv' := [(2, .int (nI 1)), (0, .ref h0), (1, .int (nI n))]) hx hb dX2_seek_11 rfl hl (by decide) rfl (fun ls hl => ?_)
  refine lpX2_seek hx hb hml hown hts hA hK hp hq1 hq2 hn1 hn (fun nU nV H locs ls hbest hP hD hS => ?_) (n + 1) 1 0 1 (by omega) (by omega) (by omega) (Or.inl rfl) (by decide) (by decide) H locs hP hD hS ls (lv_sub hl [1, 2, 0] rfl)
  have hP9 := hP.sub (ws' := [(h0, .inr (2, [.int (nI pp), .int (nI qq), .int (nI nU), .int (nI nV)]))]) [0] rfl
  have hD9 := hD.sub (ws' := [(h0, .inr (2, [.int (nI pp), .int (nI qq), .int (nI nU), .int (nI nV)]))]) [0] (by decide) rfl
  have hK9 := hK.sub (tys' := []) [] rfl
  exact W.vret hx hb hr (fun t ht hW => ⟨⟨(nI pp, nI qq, nI nU, nI nV), rfl, ⟨nU, nV, rfl, hbest⟩, by rw [ht]; exact hP9, va_K.moved hW.alike hK9, hD9⟩, hS.F ht⟩) hS.2.2 dX2_seek_97
set_option maxHeartbeats 4000000 in
set_option maxRecDepth 100000 in
/-- top(k) -/
theorem metX2_top (l : Launch) (dC : Nat → ClassId) (dI : Nat → Nat → Nat) (h0 sz : Nat) (pp qq : Nat) (hp : pp < 1048576) (hq1 : 1 ≤ qq) (hq2 : qq ≤ 1048576) (fc fd : Int32) (k0 : Int32) : Met l yX2_top wsX2_top ({ frames := 2, cells := 0, slots := 0, locals := 52 }) (va_Pc [.ref h0, .int k0] (fun U => U.heap.size = sz ∧ va_P (dC, dI) vwCl [(h0, .inr (2, [.int (nI pp), .int (nI qq), .int fc, .int fd]))] U.heap ∧ va_K (dC, dI) vwCl [] U ∧ va_D (fun _ => True) [(h0, .inr (2, [.int (nI pp), .int (nI qq), .int fc, .int fd]))])) (va_Qi (fun (r : Int32) (u : Int32 × Int32 × Int32 × Int32) => ∃ (nU nV : Nat), u = (nI pp, nI qq, nI nU, nI nV) ∧ r = nI nU ∧ fn_Best pp qq (1 + mk_ 11 k0) nU nV) (BN dC dI (va_A [(h0, .inr (2, [.int (nI pp), .int (nI qq), .int fc, .int fd]))] sz) h0) (va_A [(h0, .inr (2, [.int (nI pp), .int (nI qq), .int fc, .int fd]))] sz)) 0 0 (va_A [(h0, .inr (2, [.int (nI pp), .int (nI qq), .int fc, .int fd]))] sz) := by
  refine Met.ofW (cc := cX2_top) (maxL := 2) (ret := (some .int)) (by decide) rfl ?_
  intro p e s m args below meth c s₁ B hml hv
  obtain ⟨rfl, hsz, hP, hK, hD0⟩ := hv
  have hx := B.exec
  have hb := B.bytes
  have hr := B.returns
  have hts := atoms_spec (ws := wsX2_top) B.pre
  have hts : ∀ w ∈ lw_all, w.before _ s = true := fun w h => hts w (List.mem_cons_of_mem _ h)
  have hown : s.vm.findClass RX2 = some m.cls := findClass_of_methodNamed B.named
  have hlocks := B.notSynchronized
  subst hsz
  have hD := hD0.self (sz := s.heap.size)
  generalize hAe : va_A [(h0, .inr (2, [.int (nI pp), .int (nI qq), .int fc, .int fd]))] s.heap.size = A at hD ⊢
  have hA : ∀ q : Nat, s.heap.size ≤ q → A q := fun q h => by rw [← hAe]; exact Or.inr h
  have hS : va_S A s.heap s.heap [] := va_S.rf
  have hP : va_P (dC, dI) vwCl [(h0, .inr (2, [.int (nI pp), .int (nI qq), .int fc, .int fd]))] s.heap := hP
  have hl := lv_entry ([.ref h0, .int k0]) (n := 2) (Nat.le_of_ble_eq_true rfl)
  rw [lg_entry_eq]
  generalize (lg_sl ([.ref h0, .int k0]) ++ List.replicate (2 - (lg_sl ([.ref h0, .int k0])).length) Slot.unset).toArray = ls at hl ⊢
  have hl : lv_has ls 2 [(0, .ref h0), (1, .int k0)] := hl
  have hm11 := mk_lt 11 k0
  refine lv_aload_n hx hb dX2_top_0 rfl (lv_at hl 0 rfl) ?_
  refine lv_iconst (v := nI 1) hx hb dX2_top_1 (by decide) ?_
  refine lv_iload_n hx hb dX2_top_2 rfl (lv_at hl 1 rfl) ?_
  refine lv_sipush (v := nI 2047) hx hb dX2_top_3 (by decide) ?_
  refine nr_iand hx hb 11 (by decide) dX2_top_6 ?_
  refine nr_iadd hx hb dX2_top_7 ?_
  have hPc := hP.sub (ws' := [(h0, .inr (2, [.int (nI pp), .int (nI qq), .int fc, .int fd]))]) [0] rfl
  have hDc := hD.sub (ws' := [(h0, .inr (2, [.int (nI pp), .int (nI qq), .int fc, .int fd]))]) [0] (by decide) rfl
  have hKc := hK.sub (tys' := []) [] rfl
  have hFc := va_free (wc := [(h0, .inr (2, [.int (nI pp), .int (nI qq), .int fc, .int fd]))]) hD hS hA [0] rfl
  refine va_callv (va_runV (As := [.int (nI (1 + (mk_ 11 k0)))]) (rest := []) ⟨hx, hb, hml, hown, hts⟩ (metX2_seek l dC dI h0 s.heap.size pp qq hp hq1 hq2 fc fd (1 + mk_ 11 k0) (by omega) (by omega)) (cwV 1 hts (lw_V q127 q129 qs2 q8 q130) rfl rfl rfl (by decide +kernel) ⟨Nat.le_of_ble_eq_true rfl, Nat.le_of_ble_eq_true rfl⟩) ⟨fun a U g mk q => by obtain ⟨q0, q1, qP, qK, qD⟩ := q; exact ⟨q0, q1, qP, va_K.moved (u := U) (U := U.calling g mk a) (Vm.Alike.refl U.vm) qK, qD⟩, va_recv hKc hPc (ci := 2) (q0 := 0) rfl rfl, fun U hU hW => ⟨rfl, by rw [hU], by rw [hU]; exact hPc, va_K.moved hW.alike hKc, hDc.weaken (fun _ _ _ _ => trivial)⟩⟩ rfl rfl hl.1 rfl (lv_room (Nat.le_of_ble_eq_true rfl)) dX2_top_8 ⟨Nat.le_of_ble_eq_true rfl, Nat.le_of_ble_eq_true rfl⟩) hS (fun q _ h => hFc q h) hFc (fun u t H locs ht hvm hw hB hz1 hk1 hS => ?_)
  obtain ⟨nU, nV, hu, hbest⟩ := hw
  subst hu
  obtain ⟨hP1, -, hD1⟩ := hB
  rw [ht] at hP1
  obtain ⟨hP, hD⟩ := va_join (wr := []) (w1 := [(h0, .inr (2, [.int (nI pp), .int (nI qq), .int (nI nU), .int (nI nV)]))]) hP hD [0] [] rfl rfl (by decide) (by decide) hk1 hFc hP1 hD1
  have hP : va_P (dC, dI) vwCl [(h0, .inr (2, [.int (nI pp), .int (nI qq), .int (nI nU), .int (nI nV)]))] H := hP
  have hD : va_D A [(h0, .inr (2, [.int (nI pp), .int (nI qq), .int (nI nU), .int (nI nV)]))] := hD
  refine lv_aload_n hx hb dX2_top_11 rfl (lv_at hl 0 rfl) ?_
  refine va_get (D := (dC, dI)) (ci := 2) (v := .int (nI nU)) (C := RX2) (T := TX2) (N := 4) hx hb hts in_X2 hown hK hP 0 rfl rfl 2 (by decide) (hts _ q107) (fun _ h9 => h9) rfl dX2_top_12 ?_
  have hP9 := hP.sub (ws' := [(h0, .inr (2, [.int (nI pp), .int (nI qq), .int (nI nU), .int (nI nV)]))]) [0] rfl
  have hD9 := hD.sub (ws' := [(h0, .inr (2, [.int (nI pp), .int (nI qq), .int (nI nU), .int (nI nV)]))]) [0] (by decide) rfl
  have hK9 := hK.sub (tys' := []) [] rfl
  exact W.iret (v := nI nU) hx hb hr (fun t ht hW => ⟨⟨nI nU, (nI pp, nI qq, nI nU, nI nV), rfl, ⟨nU, nV, rfl, rfl, hbest⟩, by rw [ht]; exact hP9, va_K.moved hW.alike hK9, hD9⟩, hS.F ht⟩) hS.2.2 dX2_top_15
set_option maxHeartbeats 4000000 in
set_option maxRecDepth 100000 in
/-- bottom(k) -/
theorem metX2_bottom (l : Launch) (dC : Nat → ClassId) (dI : Nat → Nat → Nat) (h0 sz : Nat) (pp qq : Nat) (hp : pp < 1048576) (hq1 : 1 ≤ qq) (hq2 : qq ≤ 1048576) (fc fd : Int32) (k0 : Int32) : Met l yX2_bottom wsX2_bottom ({ frames := 2, cells := 0, slots := 0, locals := 52 }) (va_Pc [.ref h0, .int k0] (fun U => U.heap.size = sz ∧ va_P (dC, dI) vwCl [(h0, .inr (2, [.int (nI pp), .int (nI qq), .int fc, .int fd]))] U.heap ∧ va_K (dC, dI) vwCl [] U ∧ va_D (fun _ => True) [(h0, .inr (2, [.int (nI pp), .int (nI qq), .int fc, .int fd]))])) (va_Qi (fun (r : Int32) (u : Int32 × Int32 × Int32 × Int32) => ∃ (nU nV : Nat), u = (nI pp, nI qq, nI nU, nI nV) ∧ r = nI nV ∧ fn_Best pp qq (1 + mk_ 11 k0) nU nV) (BN dC dI (va_A [(h0, .inr (2, [.int (nI pp), .int (nI qq), .int fc, .int fd]))] sz) h0) (va_A [(h0, .inr (2, [.int (nI pp), .int (nI qq), .int fc, .int fd]))] sz)) 0 0 (va_A [(h0, .inr (2, [.int (nI pp), .int (nI qq), .int fc, .int fd]))] sz) := by
  refine Met.ofW (cc := cX2_bottom) (maxL := 2) (ret := (some .int)) (by decide) rfl ?_
  intro p e s m args below meth c s₁ B hml hv
  obtain ⟨rfl, hsz, hP, hK, hD0⟩ := hv
  have hx := B.exec
  have hb := B.bytes
  have hr := B.returns
  have hts := atoms_spec (ws := wsX2_bottom) B.pre
  have hts : ∀ w ∈ lw_all, w.before _ s = true := fun w h => hts w (List.mem_cons_of_mem _ h)
  have hown : s.vm.findClass RX2 = some m.cls := findClass_of_methodNamed B.named
  have hlocks := B.notSynchronized
  subst hsz
  have hD := hD0.self (sz := s.heap.size)
  generalize hAe : va_A [(h0, .inr (2, [.int (nI pp), .int (nI qq), .int fc, .int fd]))] s.heap.size = A at hD ⊢
  have hA : ∀ q : Nat, s.heap.size ≤ q → A q := fun q h => by rw [← hAe]; exact Or.inr h
  have hS : va_S A s.heap s.heap [] := va_S.rf
  have hP : va_P (dC, dI) vwCl [(h0, .inr (2, [.int (nI pp), .int (nI qq), .int fc, .int fd]))] s.heap := hP
  have hl := lv_entry ([.ref h0, .int k0]) (n := 2) (Nat.le_of_ble_eq_true rfl)
  rw [lg_entry_eq]
  generalize (lg_sl ([.ref h0, .int k0]) ++ List.replicate (2 - (lg_sl ([.ref h0, .int k0])).length) Slot.unset).toArray = ls at hl ⊢
  have hl : lv_has ls 2 [(0, .ref h0), (1, .int k0)] := hl
  have hm11 := mk_lt 11 k0
  refine lv_aload_n hx hb dX2_bottom_0 rfl (lv_at hl 0 rfl) ?_
  refine lv_iconst (v := nI 1) hx hb dX2_bottom_1 (by decide) ?_
  refine lv_iload_n hx hb dX2_bottom_2 rfl (lv_at hl 1 rfl) ?_
  refine lv_sipush (v := nI 2047) hx hb dX2_bottom_3 (by decide) ?_
  refine nr_iand hx hb 11 (by decide) dX2_bottom_6 ?_
  refine nr_iadd hx hb dX2_bottom_7 ?_
  have hPc := hP.sub (ws' := [(h0, .inr (2, [.int (nI pp), .int (nI qq), .int fc, .int fd]))]) [0] rfl
  have hDc := hD.sub (ws' := [(h0, .inr (2, [.int (nI pp), .int (nI qq), .int fc, .int fd]))]) [0] (by decide) rfl
  have hKc := hK.sub (tys' := []) [] rfl
  have hFc := va_free (wc := [(h0, .inr (2, [.int (nI pp), .int (nI qq), .int fc, .int fd]))]) hD hS hA [0] rfl
  refine va_callv (va_runV (As := [.int (nI (1 + (mk_ 11 k0)))]) (rest := []) ⟨hx, hb, hml, hown, hts⟩ (metX2_seek l dC dI h0 s.heap.size pp qq hp hq1 hq2 fc fd (1 + mk_ 11 k0) (by omega) (by omega)) (cwV 1 hts (lw_V q127 q129 qs2 q8 q130) rfl rfl rfl (by decide +kernel) ⟨Nat.le_of_ble_eq_true rfl, Nat.le_of_ble_eq_true rfl⟩) ⟨fun a U g mk q => by obtain ⟨q0, q1, qP, qK, qD⟩ := q; exact ⟨q0, q1, qP, va_K.moved (u := U) (U := U.calling g mk a) (Vm.Alike.refl U.vm) qK, qD⟩, va_recv hKc hPc (ci := 2) (q0 := 0) rfl rfl, fun U hU hW => ⟨rfl, by rw [hU], by rw [hU]; exact hPc, va_K.moved hW.alike hKc, hDc.weaken (fun _ _ _ _ => trivial)⟩⟩ rfl rfl hl.1 rfl (lv_room (Nat.le_of_ble_eq_true rfl)) dX2_bottom_8 ⟨Nat.le_of_ble_eq_true rfl, Nat.le_of_ble_eq_true rfl⟩) hS (fun q _ h => hFc q h) hFc (fun u t H locs ht hvm hw hB hz1 hk1 hS => ?_)
  obtain ⟨nU, nV, hu, hbest⟩ := hw
  subst hu
  obtain ⟨hP1, -, hD1⟩ := hB
  rw [ht] at hP1
  obtain ⟨hP, hD⟩ := va_join (wr := []) (w1 := [(h0, .inr (2, [.int (nI pp), .int (nI qq), .int (nI nU), .int (nI nV)]))]) hP hD [0] [] rfl rfl (by decide) (by decide) hk1 hFc hP1 hD1
  have hP : va_P (dC, dI) vwCl [(h0, .inr (2, [.int (nI pp), .int (nI qq), .int (nI nU), .int (nI nV)]))] H := hP
  have hD : va_D A [(h0, .inr (2, [.int (nI pp), .int (nI qq), .int (nI nU), .int (nI nV)]))] := hD
  refine lv_aload_n hx hb dX2_bottom_11 rfl (lv_at hl 0 rfl) ?_
  refine va_get (D := (dC, dI)) (ci := 2) (v := .int (nI nV)) (C := RX2) (T := TX2) (N := 4) hx hb hts in_X2 hown hK hP 0 rfl rfl 3 (by decide) (hts _ q108) (fun _ h9 => h9) rfl dX2_bottom_12 ?_
  have hP9 := hP.sub (ws' := [(h0, .inr (2, [.int (nI pp), .int (nI qq), .int (nI nU), .int (nI nV)]))]) [0] rfl
  have hD9 := hD.sub (ws' := [(h0, .inr (2, [.int (nI pp), .int (nI qq), .int (nI nU), .int (nI nV)]))]) [0] (by decide) rfl
  have hK9 := hK.sub (tys' := []) [] rfl
  exact W.iret (v := nI nV) hx hb hr (fun t ht hW => ⟨⟨nI nV, (nI pp, nI qq, nI nU, nI nV), rfl, ⟨nU, nV, rfl, rfl, hbest⟩, by rw [ht]; exact hP9, va_K.moved hW.alike hK9, hD9⟩, hS.F ht⟩) hS.2.2 dX2_bottom_15
end
section
/-! MODULE FractionNearModel: simple, simplest, under -/
set_option maxHeartbeats 4000000 in
set_option maxRecDepth 100000 in
/-- simple's loop -/
theorem lpX2_simple {p : Program} {l : Launch} {e : Env} {R : Room} {s : State} {m : MethodId} {args : Array Value} {below : List Frame} {meth : Method} {c : Code} {Q : State → Prop} {dC : Nat → ClassId} {dI : Nat → Nat → Nat} {A : Nat → Prop} {h0 : Nat} {fa fb fc fd : Int32} (hx : p.tables.exec = Jvm.exec) (hb : c.code = cX2_simple) (hml : c.maxLocals = 11) (hown : s.vm.findClass RX2 = some m.cls) (hts : ∀ w ∈ lw_all, w.before args s = true) (hA : ∀ q : Nat, s.heap.size ≤ q → A q) (hK : va_K (dC, dI) vwCl [] s) {ga gb gc gd : Nat} (ba : ga ≤ 1024) (hgb : 0 < gb) (bb : gb ≤ 1024) (bc : gc ≤ 1024) (bd : gd ≤ 1024) (hlt : ga * gd < gc * gb) (H : Heap) (locs : List Loc) (hP : va_P (dC, dI) vwCl [(h0, .inr (2, [.int fa, .int fb, .int fc, .int fd]))] H) (hD : va_D A [(h0, .inr (2, [.int fa, .int fb, .int fc, .int fd]))]) (hS : va_S A s.heap H locs)
    (K : ∀ (nU nV : Nat) (H : Heap) (locs : List Loc) (ls : Array Slot), fn_Simp ga gb gc gd nU nV → va_P (dC, dI) vwCl [(h0, .inr (2, [.int fa, .int fb, .int (nI nU), .int (nI nV)]))] H → va_D A [(h0, .inr (2, [.int fa, .int fb, .int (nI nU), .int (nI nV)]))] → va_S A s.heap H locs → W p l e R s m args below meth c H locs 0 0 Q (F0 m 100 ls [])) :
    ∀ (f n : Nat), gb + gd < n + f → 1 ≤ n → n ≤ gb + gd → (∀ k : Nat, 1 ≤ k → k < n → ¬ (ga * k / gb + 1) * gd < gc * k) → ∀ ls : Array Slot, lv_has ls 11 [(0, .ref h0), (5, .int (nI ga)), (6, .int (nI gb)), (7, .int (nI gc)), (8, .int (nI gd)), (9, .int (nI n))] → W p l e R s m args below meth c H locs 0 0 Q (F0 m 56 ls []) := by
  intro f
  induction f with
  | zero =>
    intro n h1 h2 h3
    exact absurd h1 (by omega)
  | succ f ih =>
    intro n hf hn1 hn2 hall ls hl
    have b1 : ga * n ≤ 1024 * 2048 := Nat.mul_le_mul ba (by omega)
    have b2 : gc * n ≤ 1024 * 2048 := Nat.mul_le_mul bc (by omega)
    have b3 := fn_S_small (n := n) hgb hlt
    have b4 : ga * n / gb ≤ ga * n := Nat.div_le_self _ _
    refine lv_iload hx hb dX2_simple_56 (lv_at hl 5 rfl) ?_
    refine lv_ldc (v := nI 3000000) hx hb hown (hts _ q147) dX2_simple_58 ?_
    refine ni_ge (tgt := 108) hx hb (by omega) (by omega) dX2_simple_60 (by decide) (fun c_60 => ?_) (fun c_60 => ?_)
    · exact absurd c_60 (by omega)
    · refine lv_iload hx hb dX2_simple_63 (lv_at hl 1 rfl) ?_
      refine lv_iload hx hb dX2_simple_65 (lv_at hl 5 rfl) ?_
      refine nr_imul hx hb dX2_simple_67 ?_
      refine lv_iload hx hb dX2_simple_68 (lv_at hl 2 rfl) ?_
      refine nr_idiv hx hb (by omega) hgb (by omega) dX2_simple_70 ?_
      refine lv_iconst (v := nI 1) hx hb dX2_simple_71 (by decide) ?_
      refine nr_iadd hx hb dX2_simple_72 ?_
      refine lv_istore (lv' := [(10, .int (nI (((ga * n) / gb) + 1))), (0, .ref h0), (5, .int (nI ga)), (6, .int (nI gb)), (7, .int (nI gc)), (8, .int (nI gd)), (9, .int (nI n))]) hx hb dX2_simple_73 hl (by decide) rfl (fun ls hl => ?_)
      refine lv_iload hx hb dX2_simple_75 (lv_at hl 0 rfl) ?_
      refine lv_iload hx hb dX2_simple_77 (lv_at hl 5 rfl) ?_
      refine nr_imul hx hb dX2_simple_79 ?_
      refine lv_iload hx hb dX2_simple_80 (lv_at hl 4 rfl) ?_
      refine lv_iload hx hb dX2_simple_82 (lv_at hl 6 rfl) ?_
      refine nr_imul hx hb dX2_simple_84 ?_
      refine ni_ge (tgt := 102) hx hb (by omega) (by omega) dX2_simple_85 (by decide) (fun c_85 => ?_) (fun c_85 => ?_)
      · have hne : n ≠ gb + gd := fun g => absurd (fn_S_med hgb hlt) (by rw [← g]; exact Nat.not_lt_of_le c_85)
        refine lv_iinc (v := nI (n + 1)) (lv' := [(9, .int (nI (n + 1))), (10, .int (nI (((ga * n) / gb) + 1))), (0, .ref h0), (5, .int (nI ga)), (6, .int (nI gb)), (7, .int (nI gc)), (8, .int (nI gd))]) hx hb dX2_simple_102 hl (k := 6) rfl (nI_add n 1) (by decide) rfl (fun ls hl => ?_)
        refine lv_goto (tgt := 56) hx hb dX2_simple_105 (by decide) ?_
        refine ih (n + 1) (by omega) (by omega) (by omega) (fun k hk1 hk2 => ?_) ls (lv_sub hl [2, 3, 4, 5, 6, 0] rfl)
        rcases Nat.lt_or_ge k n with g | g
        · exact hall k hk1 g
        · rw [show k = n by omega]; exact Nat.not_lt_of_le c_85
      · refine lv_aload_n hx hb dX2_simple_88 rfl (lv_at hl 1 rfl) ?_
        refine lv_iload hx hb dX2_simple_89 (lv_at hl 0 rfl) ?_
        refine va_put (D := (dC, dI)) (ci := 2) (v := .int (nI (((ga * n) / gb) + 1))) (ty := .int) (C := RX2) (T := TX2) (N := 4) hx hb hts in_X2 tyX2 tyX2_ok nmX2 hown hK hP hD hS 0 rfl rfl 2 (by decide) (hts _ q107) (fun _ h9 => h9) rfl (by decide +kernel) rfl rfl (Nat.le_of_ble_eq_true rfl) dX2_simple_91 (fun H locs hP hD hS => ?_)
        have hP : va_P (dC, dI) vwCl [(h0, .inr (2, [.int fa, .int fb, .int (nI (((ga * n) / gb) + 1)), .int fd]))] H := hP
        have hD : va_D A [(h0, .inr (2, [.int fa, .int fb, .int (nI (((ga * n) / gb) + 1)), .int fd]))] := hD
        refine lv_aload_n hx hb dX2_simple_94 rfl (lv_at hl 1 rfl) ?_
        refine lv_iload hx hb dX2_simple_95 (lv_at hl 6 rfl) ?_
        refine va_put (D := (dC, dI)) (ci := 2) (v := .int (nI n)) (ty := .int) (C := RX2) (T := TX2) (N := 4) hx hb hts in_X2 tyX2 tyX2_ok nmX2 hown hK hP hD hS 0 rfl rfl 3 (by decide) (hts _ q108) (fun _ h9 => h9) rfl (by decide +kernel) rfl rfl (Nat.le_of_ble_eq_true rfl) dX2_simple_97 (fun H locs hP hD hS => ?_)
        have hP : va_P (dC, dI) vwCl [(h0, .inr (2, [.int fa, .int fb, .int (nI (((ga * n) / gb) + 1)), .int (nI n)]))] H := hP
        have hD : va_D A [(h0, .inr (2, [.int fa, .int fb, .int (nI (((ga * n) / gb) + 1)), .int (nI n)]))] := hD
        exact K _ n H locs ls (fn_S_found hgb hn1 (Nat.lt_of_not_le c_85) hall) hP hD hS
set_option maxHeartbeats 4000000 in
set_option maxRecDepth 100000 in
/-- simple(a, b, c, d): whether there is one between; what it is -/
theorem metX2_simple (l : Launch) (dC : Nat → ClassId) (dI : Nat → Nat → Nat) (h0 sz : Nat) (fa fb fc fd : Int32) (k0 k1 k2 k3 : Int32) : Met l yX2_simple wsX2_simple ({ frames := 0, cells := 0, slots := 0, locals := 0 }) (va_Pc [.ref h0, .int k0, .int k1, .int k2, .int k3] (fun U => U.heap.size = sz ∧ va_P (dC, dI) vwCl [(h0, .inr (2, [.int fa, .int fb, .int fc, .int fd]))] U.heap ∧ va_K (dC, dI) vwCl [] U ∧ va_D (fun _ => True) [(h0, .inr (2, [.int fa, .int fb, .int fc, .int fd]))])) (va_Qi (fun (r : Int32) (u : Int32 × Int32 × Int32 × Int32) => ∃ (rr : Nat) (w0 w1 : Int32), r = nI rr ∧ u = (fa, fb, w0, w1) ∧ ((rr = 0 ∧ ¬ mk_ 10 k0 * (1 + mk_ 10 k3) < mk_ 10 k2 * (1 + mk_ 10 k1)) ∨ (rr = 1 ∧ mk_ 10 k0 * (1 + mk_ 10 k3) < mk_ 10 k2 * (1 + mk_ 10 k1) ∧ ∃ nU nV : Nat, w0 = nI nU ∧ w1 = nI nV ∧ fn_Simp (mk_ 10 k0) (1 + mk_ 10 k1) (mk_ 10 k2) (1 + mk_ 10 k3) nU nV))) (BN dC dI (va_A [(h0, .inr (2, [.int fa, .int fb, .int fc, .int fd]))] sz) h0) (va_A [(h0, .inr (2, [.int fa, .int fb, .int fc, .int fd]))] sz)) 0 0 (va_A [(h0, .inr (2, [.int fa, .int fb, .int fc, .int fd]))] sz) := by
  refine Met.ofW (cc := cX2_simple) (maxL := 11) (ret := (some .boolean)) (by decide) rfl ?_
  intro p e s m args below meth c s₁ B hml hv
  obtain ⟨rfl, hsz, hP, hK, hD0⟩ := hv
  have hx := B.exec
  have hb := B.bytes
  have hr := B.returns
  have hts := atoms_spec (ws := wsX2_simple) B.pre
  have hts : ∀ w ∈ lw_all, w.before _ s = true := fun w h => hts w (List.mem_cons_of_mem _ h)
  have hown : s.vm.findClass RX2 = some m.cls := findClass_of_methodNamed B.named
  have hlocks := B.notSynchronized
  subst hsz
  have hD := hD0.self (sz := s.heap.size)
  generalize hAe : va_A [(h0, .inr (2, [.int fa, .int fb, .int fc, .int fd]))] s.heap.size = A at hD ⊢
  have hA : ∀ q : Nat, s.heap.size ≤ q → A q := fun q h => by rw [← hAe]; exact Or.inr h
  have hS : va_S A s.heap s.heap [] := va_S.rf
  have hP : va_P (dC, dI) vwCl [(h0, .inr (2, [.int fa, .int fb, .int fc, .int fd]))] s.heap := hP
  have hl := lv_entry ([.ref h0, .int k0, .int k1, .int k2, .int k3]) (n := 11) (Nat.le_of_ble_eq_true rfl)
  rw [lg_entry_eq]
  generalize (lg_sl ([.ref h0, .int k0, .int k1, .int k2, .int k3]) ++ List.replicate (11 - (lg_sl ([.ref h0, .int k0, .int k1, .int k2, .int k3])).length) Slot.unset).toArray = ls at hl ⊢
  have hl : lv_has ls 11 [(0, .ref h0), (1, .int k0), (2, .int k1), (3, .int k2), (4, .int k3)] := hl
  have hm0 := mk_lt 10 k0
  have hm1 := mk_lt 10 k1
  have hm2 := mk_lt 10 k2
  have hm3 := mk_lt 10 k3
  refine lv_iload_n hx hb dX2_simple_0 rfl (lv_at hl 1 rfl) ?_
  refine lv_sipush (v := nI 1023) hx hb dX2_simple_1 (by decide) ?_
  refine nr_iand hx hb 10 (by decide) dX2_simple_4 ?_
  refine lv_istore (lv' := [(5, .int (nI (mk_ 10 k0))), (0, .ref h0), (1, .int k0), (2, .int k1), (3, .int k2), (4, .int k3)]) hx hb dX2_simple_5 hl (by decide) rfl (fun ls hl => ?_)
  refine lv_iconst (v := nI 1) hx hb dX2_simple_7 (by decide) ?_
  refine lv_iload_n hx hb dX2_simple_8 rfl (lv_at hl 3 rfl) ?_
  refine lv_sipush (v := nI 1023) hx hb dX2_simple_9 (by decide) ?_
  refine nr_iand hx hb 10 (by decide) dX2_simple_12 ?_
  refine nr_iadd hx hb dX2_simple_13 ?_
  refine lv_istore (lv' := [(6, .int (nI (1 + (mk_ 10 k1)))), (5, .int (nI (mk_ 10 k0))), (0, .ref h0), (1, .int k0), (2, .int k1), (3, .int k2), (4, .int k3)]) hx hb dX2_simple_14 hl (by decide) rfl (fun ls hl => ?_)
  refine lv_iload_n hx hb dX2_simple_16 rfl (lv_at hl 5 rfl) ?_
  refine lv_sipush (v := nI 1023) hx hb dX2_simple_17 (by decide) ?_
  refine nr_iand hx hb 10 (by decide) dX2_simple_20 ?_
  refine lv_istore (lv' := [(7, .int (nI (mk_ 10 k2))), (6, .int (nI (1 + (mk_ 10 k1)))), (5, .int (nI (mk_ 10 k0))), (0, .ref h0), (1, .int k0), (2, .int k1), (3, .int k2), (4, .int k3)]) hx hb dX2_simple_21 hl (by decide) rfl (fun ls hl => ?_)
  refine lv_iconst (v := nI 1) hx hb dX2_simple_23 (by decide) ?_
  refine lv_iload hx hb dX2_simple_24 (lv_at hl 7 rfl) ?_
  refine lv_sipush (v := nI 1023) hx hb dX2_simple_26 (by decide) ?_
  refine nr_iand hx hb 10 (by decide) dX2_simple_29 ?_
  refine nr_iadd hx hb dX2_simple_30 ?_
  refine lv_istore (lv' := [(8, .int (nI (1 + (mk_ 10 k3)))), (7, .int (nI (mk_ 10 k2))), (6, .int (nI (1 + (mk_ 10 k1)))), (5, .int (nI (mk_ 10 k0))), (0, .ref h0), (1, .int k0), (2, .int k1), (3, .int k2), (4, .int k3)]) hx hb dX2_simple_31 hl (by decide) rfl (fun ls hl => ?_)
  refine lv_iload hx hb dX2_simple_33 (lv_at hl 3 rfl) ?_
  refine nr_i2l hx hb (by omega) dX2_simple_35 ?_
  refine lv_iload hx hb dX2_simple_36 (lv_at hl 0 rfl) ?_
  refine nr_i2l hx hb (by omega) dX2_simple_38 ?_
  refine nr_lmul hx hb dX2_simple_39 ?_
  refine lv_iload hx hb dX2_simple_40 (lv_at hl 1 rfl) ?_
  refine nr_i2l hx hb (by omega) dX2_simple_42 ?_
  refine lv_iload hx hb dX2_simple_43 (lv_at hl 2 rfl) ?_
  refine nr_i2l hx hb (by omega) dX2_simple_45 ?_
  refine nr_lmul hx hb dX2_simple_46 ?_
  have hb1 : mk_ 10 k0 * (1 + mk_ 10 k3) ≤ 1024 * 1024 := Nat.mul_le_mul (by omega) (by omega)
  have hb2 : mk_ 10 k2 * (1 + mk_ 10 k1) ≤ 1024 * 1024 := Nat.mul_le_mul (by omega) (by omega)
  refine nl_lt (tgt := 53) hx hb (by omega) (by omega) dX2_simple_47 dX2_simple_48 (by decide) (fun c_47 => ?_) (fun c_47 => ?_)
  · refine lv_iconst (v := nI 1) hx hb dX2_simple_53 (by decide) ?_
    refine lv_istore (lv' := [(9, .int (nI 1)), (8, .int (nI (1 + (mk_ 10 k3)))), (7, .int (nI (mk_ 10 k2))), (6, .int (nI (1 + (mk_ 10 k1)))), (5, .int (nI (mk_ 10 k0))), (0, .ref h0), (1, .int k0), (2, .int k1), (3, .int k2), (4, .int k3)]) hx hb dX2_simple_54 hl (by decide) rfl (fun ls hl => ?_)
    refine lpX2_simple hx hb hml hown hts hA hK (by omega) (by omega) (by omega) (by omega) (by omega) c_47 s.heap [] hP hD hS (fun nU nV H locs ls hs hP hD hS => ?_) (1 + mk_ 10 k1 + (1 + mk_ 10 k3)) 1 (by omega) (by omega) (by omega) (fun k h1 h2 => absurd h1 (by omega)) ls (lv_sub hl [5, 4, 3, 2, 1, 0] rfl)
    refine lv_iconst (v := nI 1) hx hb dX2_simple_100 (by decide) ?_
    have hP9 := hP.sub (ws' := [(h0, .inr (2, [.int fa, .int fb, .int (nI nU), .int (nI nV)]))]) [0] rfl
    have hD9 := hD.sub (ws' := [(h0, .inr (2, [.int fa, .int fb, .int (nI nU), .int (nI nV)]))]) [0] (by decide) rfl
    have hK9 := hK.sub (tys' := []) [] rfl
    exact W.zret (v := nI 1) hx hb hr rfl (fun t ht hW => ⟨⟨nI 1, (fa, fb, nI nU, nI nV), rfl, ⟨1, nI nU, nI nV, rfl, rfl, Or.inr ⟨rfl, c_47, nU, nV, rfl, rfl, hs⟩⟩, by rw [ht]; exact hP9, va_K.moved hW.alike hK9, hD9⟩, hS.F ht⟩) hS.2.2 dX2_simple_101
  · refine lv_iconst (v := nI 0) hx hb dX2_simple_51 (by decide) ?_
    have hP9 := hP.sub (ws' := [(h0, .inr (2, [.int fa, .int fb, .int fc, .int fd]))]) [0] rfl
    have hD9 := hD.sub (ws' := [(h0, .inr (2, [.int fa, .int fb, .int fc, .int fd]))]) [0] (by decide) rfl
    have hK9 := hK.sub (tys' := []) [] rfl
    exact W.zret (v := nI 0) hx hb hr rfl (fun t ht hW => ⟨⟨nI 0, (fa, fb, fc, fd), rfl, ⟨0, fc, fd, rfl, rfl, Or.inl ⟨rfl, c_47⟩⟩, by rw [ht]; exact hP9, va_K.moved hW.alike hK9, hD9⟩, hS.F ht⟩) hS.2.2 dX2_simple_52
set_option maxHeartbeats 4000000 in
set_option maxRecDepth 100000 in
/-- simplest -/
theorem metX2_simplest (l : Launch) (dC : Nat → ClassId) (dI : Nat → Nat → Nat) (h0 sz : Nat) (fa fb fc fd : Int32) (k0 k1 k2 k3 : Int32) : Met l yX2_simplest wsX2_simplest ({ frames := 1, cells := 0, slots := 0, locals := 30 }) (va_Pc [.ref h0, .int k0, .int k1, .int k2, .int k3] (fun U => U.heap.size = sz ∧ va_P (dC, dI) vwCl [(h0, .inr (2, [.int fa, .int fb, .int fc, .int fd]))] U.heap ∧ va_K (dC, dI) vwCl [] U ∧ va_D (fun _ => True) [(h0, .inr (2, [.int fa, .int fb, .int fc, .int fd]))])) (va_Qi (fun (r : Int32) (u : Int32 × Int32 × Int32 × Int32) => ∃ w0 w1 : Int32, u = (fa, fb, w0, w1) ∧ fn_SA (mk_ 10 k0) (1 + mk_ 10 k1) (mk_ 10 k2) (1 + mk_ 10 k3) r) (BN dC dI (va_A [(h0, .inr (2, [.int fa, .int fb, .int fc, .int fd]))] sz) h0) (va_A [(h0, .inr (2, [.int fa, .int fb, .int fc, .int fd]))] sz)) 0 0 (va_A [(h0, .inr (2, [.int fa, .int fb, .int fc, .int fd]))] sz) := by
  refine Met.ofW (cc := cX2_simplest) (maxL := 5) (ret := (some .int)) (by decide) rfl ?_
  intro p e s m args below meth c s₁ B hml hv
  obtain ⟨rfl, hsz, hP, hK, hD0⟩ := hv
  have hx := B.exec
  have hb := B.bytes
  have hr := B.returns
  have hts := atoms_spec (ws := wsX2_simplest) B.pre
  have hts : ∀ w ∈ lw_all, w.before _ s = true := fun w h => hts w (List.mem_cons_of_mem _ h)
  have hown : s.vm.findClass RX2 = some m.cls := findClass_of_methodNamed B.named
  have hlocks := B.notSynchronized
  subst hsz
  have hD := hD0.self (sz := s.heap.size)
  generalize hAe : va_A [(h0, .inr (2, [.int fa, .int fb, .int fc, .int fd]))] s.heap.size = A at hD ⊢
  have hA : ∀ q : Nat, s.heap.size ≤ q → A q := fun q h => by rw [← hAe]; exact Or.inr h
  have hS : va_S A s.heap s.heap [] := va_S.rf
  have hP : va_P (dC, dI) vwCl [(h0, .inr (2, [.int fa, .int fb, .int fc, .int fd]))] s.heap := hP
  have hl := lv_entry ([.ref h0, .int k0, .int k1, .int k2, .int k3]) (n := 5) (Nat.le_of_ble_eq_true rfl)
  rw [lg_entry_eq]
  generalize (lg_sl ([.ref h0, .int k0, .int k1, .int k2, .int k3]) ++ List.replicate (5 - (lg_sl ([.ref h0, .int k0, .int k1, .int k2, .int k3])).length) Slot.unset).toArray = ls at hl ⊢
  have hl : lv_has ls 5 [(0, .ref h0), (1, .int k0), (2, .int k1), (3, .int k2), (4, .int k3)] := hl
  refine lv_aload_n hx hb dX2_simplest_0 rfl (lv_at hl 0 rfl) ?_
  refine lv_iload_n hx hb dX2_simplest_1 rfl (lv_at hl 1 rfl) ?_
  refine lv_iload_n hx hb dX2_simplest_2 rfl (lv_at hl 2 rfl) ?_
  refine lv_iload_n hx hb dX2_simplest_3 rfl (lv_at hl 3 rfl) ?_
  refine lv_iload hx hb dX2_simplest_4 (lv_at hl 4 rfl) ?_
  have hPc := hP.sub (ws' := [(h0, .inr (2, [.int fa, .int fb, .int fc, .int fd]))]) [0] rfl
  have hDc := hD.sub (ws' := [(h0, .inr (2, [.int fa, .int fb, .int fc, .int fd]))]) [0] (by decide) rfl
  have hKc := hK.sub (tys' := []) [] rfl
  have hFc := va_free (wc := [(h0, .inr (2, [.int fa, .int fb, .int fc, .int fd]))]) hD hS hA [0] rfl
  refine va_calli (va_runV (As := [.int k0, .int k1, .int k2, .int k3]) (rest := []) ⟨hx, hb, hml, hown, hts⟩ (metX2_simple l dC dI h0 s.heap.size fa fb fc fd k0 k1 k2 k3) (cwV 4 hts (lw_V q143 q145 qs4 q8 q146) rfl rfl rfl (by decide +kernel) ⟨Nat.le_of_ble_eq_true rfl, Nat.le_of_ble_eq_true rfl⟩) ⟨fun a U g mk q => by obtain ⟨q0, q1, qP, qK, qD⟩ := q; exact ⟨q0, q1, qP, va_K.moved (u := U) (U := U.calling g mk a) (Vm.Alike.refl U.vm) qK, qD⟩, va_recv hKc hPc (ci := 2) (q0 := 0) rfl rfl, fun U hU hW => ⟨rfl, by rw [hU], by rw [hU]; exact hPc, va_K.moved hW.alike hKc, hDc.weaken (fun _ _ _ _ => trivial)⟩⟩ rfl rfl hl.1 rfl (lv_room (Nat.le_of_ble_eq_true rfl)) dX2_simplest_6 ⟨Nat.le_of_ble_eq_true rfl, Nat.le_of_ble_eq_true rfl⟩) hS (fun q _ h => hFc q h) hFc (fun r_1 u t H locs ht hvm hw hB hz1 hk1 hS => ?_)
  obtain ⟨rr, w0, w1, er, hu, hcase⟩ := hw
  subst er
  subst hu
  obtain ⟨hP1, -, hD1⟩ := hB
  rw [ht] at hP1
  obtain ⟨hP, hD⟩ := va_join (wr := []) (w1 := [(h0, .inr (2, [.int fa, .int fb, .int w0, .int w1]))]) hP hD [0] [] rfl rfl (by decide) (by decide) hk1 hFc hP1 hD1
  have hP : va_P (dC, dI) vwCl [(h0, .inr (2, [.int fa, .int fb, .int w0, .int w1]))] H := hP
  have hD : va_D A [(h0, .inr (2, [.int fa, .int fb, .int w0, .int w1]))] := hD
  refine ni_if_eq (tgt := 19) hx hb (by omega) dX2_simplest_9 (by decide) (fun c_9 => ?_) (fun c_9 => ?_)
  · have hno : ¬ mk_ 10 k0 * (1 + mk_ 10 k3) < mk_ 10 k2 * (1 + mk_ 10 k1) := by rcases hcase with ⟨-, g⟩ | ⟨g, -⟩; exact g; exact absurd (c_9.symm.trans g) (by decide)
    refine lv_iconst (v := -1) hx hb dX2_simplest_19 (by decide) ?_
    have hP9 := hP.sub (ws' := [(h0, .inr (2, [.int fa, .int fb, .int w0, .int w1]))]) [0] rfl
    have hD9 := hD.sub (ws' := [(h0, .inr (2, [.int fa, .int fb, .int w0, .int w1]))]) [0] (by decide) rfl
    have hK9 := hK.sub (tys' := []) [] rfl
    exact W.iret (v := -1) hx hb hr (fun t ht hW => ⟨⟨-1, (fa, fb, w0, w1), rfl, ⟨w0, w1, rfl, Or.inl ⟨hno, rfl⟩⟩, by rw [ht]; exact hP9, va_K.moved hW.alike hK9, hD9⟩, hS.F ht⟩) hS.2.2 dX2_simplest_20
  · obtain ⟨hlt, nU, nV, e0, e1, hs⟩ : mk_ 10 k0 * (1 + mk_ 10 k3) < mk_ 10 k2 * (1 + mk_ 10 k1) ∧ ∃ nU nV : Nat, w0 = nI nU ∧ w1 = nI nV ∧ fn_Simp (mk_ 10 k0) (1 + mk_ 10 k1) (mk_ 10 k2) (1 + mk_ 10 k3) nU nV := by rcases hcase with ⟨g, -⟩ | ⟨-, g⟩; exact absurd g c_9; exact g
    subst e0
    subst e1
    refine lv_aload_n hx hb dX2_simplest_12 rfl (lv_at hl 0 rfl) ?_
    refine va_get (D := (dC, dI)) (ci := 2) (v := .int (nI nU)) (C := RX2) (T := TX2) (N := 4) hx hb hts in_X2 hown hK hP 0 rfl rfl 2 (by decide) (hts _ q107) (fun _ h9 => h9) rfl dX2_simplest_13 ?_
    refine lv_goto (tgt := 20) hx hb dX2_simplest_16 (by decide) ?_
    have hP9 := hP.sub (ws' := [(h0, .inr (2, [.int fa, .int fb, .int (nI nU), .int (nI nV)]))]) [0] rfl
    have hD9 := hD.sub (ws' := [(h0, .inr (2, [.int fa, .int fb, .int (nI nU), .int (nI nV)]))]) [0] (by decide) rfl
    have hK9 := hK.sub (tys' := []) [] rfl
    exact W.iret (v := nI nU) hx hb hr (fun t ht hW => ⟨⟨nI nU, (fa, fb, nI nU, nI nV), rfl, ⟨nI nU, nI nV, rfl, Or.inr ⟨hlt, nU, nV, hs, rfl⟩⟩, by rw [ht]; exact hP9, va_K.moved hW.alike hK9, hD9⟩, hS.F ht⟩) hS.2.2 dX2_simplest_20
set_option maxHeartbeats 4000000 in
set_option maxRecDepth 100000 in
/-- under -/
theorem metX2_under (l : Launch) (dC : Nat → ClassId) (dI : Nat → Nat → Nat) (h0 sz : Nat) (fa fb fc fd : Int32) (k0 k1 k2 k3 : Int32) : Met l yX2_under wsX2_under ({ frames := 1, cells := 0, slots := 0, locals := 30 }) (va_Pc [.ref h0, .int k0, .int k1, .int k2, .int k3] (fun U => U.heap.size = sz ∧ va_P (dC, dI) vwCl [(h0, .inr (2, [.int fa, .int fb, .int fc, .int fd]))] U.heap ∧ va_K (dC, dI) vwCl [] U ∧ va_D (fun _ => True) [(h0, .inr (2, [.int fa, .int fb, .int fc, .int fd]))])) (va_Qi (fun (r : Int32) (u : Int32 × Int32 × Int32 × Int32) => ∃ w0 w1 : Int32, u = (fa, fb, w0, w1) ∧ fn_SB (mk_ 10 k0) (1 + mk_ 10 k1) (mk_ 10 k2) (1 + mk_ 10 k3) r) (BN dC dI (va_A [(h0, .inr (2, [.int fa, .int fb, .int fc, .int fd]))] sz) h0) (va_A [(h0, .inr (2, [.int fa, .int fb, .int fc, .int fd]))] sz)) 0 0 (va_A [(h0, .inr (2, [.int fa, .int fb, .int fc, .int fd]))] sz) := by
  refine Met.ofW (cc := cX2_under) (maxL := 5) (ret := (some .int)) (by decide) rfl ?_
  intro p e s m args below meth c s₁ B hml hv
  obtain ⟨rfl, hsz, hP, hK, hD0⟩ := hv
  have hx := B.exec
  have hb := B.bytes
  have hr := B.returns
  have hts := atoms_spec (ws := wsX2_under) B.pre
  have hts : ∀ w ∈ lw_all, w.before _ s = true := fun w h => hts w (List.mem_cons_of_mem _ h)
  have hown : s.vm.findClass RX2 = some m.cls := findClass_of_methodNamed B.named
  have hlocks := B.notSynchronized
  subst hsz
  have hD := hD0.self (sz := s.heap.size)
  generalize hAe : va_A [(h0, .inr (2, [.int fa, .int fb, .int fc, .int fd]))] s.heap.size = A at hD ⊢
  have hA : ∀ q : Nat, s.heap.size ≤ q → A q := fun q h => by rw [← hAe]; exact Or.inr h
  have hS : va_S A s.heap s.heap [] := va_S.rf
  have hP : va_P (dC, dI) vwCl [(h0, .inr (2, [.int fa, .int fb, .int fc, .int fd]))] s.heap := hP
  have hl := lv_entry ([.ref h0, .int k0, .int k1, .int k2, .int k3]) (n := 5) (Nat.le_of_ble_eq_true rfl)
  rw [lg_entry_eq]
  generalize (lg_sl ([.ref h0, .int k0, .int k1, .int k2, .int k3]) ++ List.replicate (5 - (lg_sl ([.ref h0, .int k0, .int k1, .int k2, .int k3])).length) Slot.unset).toArray = ls at hl ⊢
  have hl : lv_has ls 5 [(0, .ref h0), (1, .int k0), (2, .int k1), (3, .int k2), (4, .int k3)] := hl
  refine lv_aload_n hx hb dX2_under_0 rfl (lv_at hl 0 rfl) ?_
  refine lv_iload_n hx hb dX2_under_1 rfl (lv_at hl 1 rfl) ?_
  refine lv_iload_n hx hb dX2_under_2 rfl (lv_at hl 2 rfl) ?_
  refine lv_iload_n hx hb dX2_under_3 rfl (lv_at hl 3 rfl) ?_
  refine lv_iload hx hb dX2_under_4 (lv_at hl 4 rfl) ?_
  have hPc := hP.sub (ws' := [(h0, .inr (2, [.int fa, .int fb, .int fc, .int fd]))]) [0] rfl
  have hDc := hD.sub (ws' := [(h0, .inr (2, [.int fa, .int fb, .int fc, .int fd]))]) [0] (by decide) rfl
  have hKc := hK.sub (tys' := []) [] rfl
  have hFc := va_free (wc := [(h0, .inr (2, [.int fa, .int fb, .int fc, .int fd]))]) hD hS hA [0] rfl
  refine va_calli (va_runV (As := [.int k0, .int k1, .int k2, .int k3]) (rest := []) ⟨hx, hb, hml, hown, hts⟩ (metX2_simple l dC dI h0 s.heap.size fa fb fc fd k0 k1 k2 k3) (cwV 4 hts (lw_V q143 q145 qs4 q8 q146) rfl rfl rfl (by decide +kernel) ⟨Nat.le_of_ble_eq_true rfl, Nat.le_of_ble_eq_true rfl⟩) ⟨fun a U g mk q => by obtain ⟨q0, q1, qP, qK, qD⟩ := q; exact ⟨q0, q1, qP, va_K.moved (u := U) (U := U.calling g mk a) (Vm.Alike.refl U.vm) qK, qD⟩, va_recv hKc hPc (ci := 2) (q0 := 0) rfl rfl, fun U hU hW => ⟨rfl, by rw [hU], by rw [hU]; exact hPc, va_K.moved hW.alike hKc, hDc.weaken (fun _ _ _ _ => trivial)⟩⟩ rfl rfl hl.1 rfl (lv_room (Nat.le_of_ble_eq_true rfl)) dX2_under_6 ⟨Nat.le_of_ble_eq_true rfl, Nat.le_of_ble_eq_true rfl⟩) hS (fun q _ h => hFc q h) hFc (fun r_1 u t H locs ht hvm hw hB hz1 hk1 hS => ?_)
  obtain ⟨rr, w0, w1, er, hu, hcase⟩ := hw
  subst er
  subst hu
  obtain ⟨hP1, -, hD1⟩ := hB
  rw [ht] at hP1
  obtain ⟨hP, hD⟩ := va_join (wr := []) (w1 := [(h0, .inr (2, [.int fa, .int fb, .int w0, .int w1]))]) hP hD [0] [] rfl rfl (by decide) (by decide) hk1 hFc hP1 hD1
  have hP : va_P (dC, dI) vwCl [(h0, .inr (2, [.int fa, .int fb, .int w0, .int w1]))] H := hP
  have hD : va_D A [(h0, .inr (2, [.int fa, .int fb, .int w0, .int w1]))] := hD
  refine ni_if_eq (tgt := 19) hx hb (by omega) dX2_under_9 (by decide) (fun c_9 => ?_) (fun c_9 => ?_)
  · have hno : ¬ mk_ 10 k0 * (1 + mk_ 10 k3) < mk_ 10 k2 * (1 + mk_ 10 k1) := by rcases hcase with ⟨-, g⟩ | ⟨g, -⟩; exact g; exact absurd (c_9.symm.trans g) (by decide)
    refine lv_iconst (v := -1) hx hb dX2_under_19 (by decide) ?_
    have hP9 := hP.sub (ws' := [(h0, .inr (2, [.int fa, .int fb, .int w0, .int w1]))]) [0] rfl
    have hD9 := hD.sub (ws' := [(h0, .inr (2, [.int fa, .int fb, .int w0, .int w1]))]) [0] (by decide) rfl
    have hK9 := hK.sub (tys' := []) [] rfl
    exact W.iret (v := -1) hx hb hr (fun t ht hW => ⟨⟨-1, (fa, fb, w0, w1), rfl, ⟨w0, w1, rfl, Or.inl ⟨hno, rfl⟩⟩, by rw [ht]; exact hP9, va_K.moved hW.alike hK9, hD9⟩, hS.F ht⟩) hS.2.2 dX2_under_20
  · obtain ⟨hlt, nU, nV, e0, e1, hs⟩ : mk_ 10 k0 * (1 + mk_ 10 k3) < mk_ 10 k2 * (1 + mk_ 10 k1) ∧ ∃ nU nV : Nat, w0 = nI nU ∧ w1 = nI nV ∧ fn_Simp (mk_ 10 k0) (1 + mk_ 10 k1) (mk_ 10 k2) (1 + mk_ 10 k3) nU nV := by rcases hcase with ⟨g, -⟩ | ⟨-, g⟩; exact absurd g c_9; exact g
    subst e0
    subst e1
    refine lv_aload_n hx hb dX2_under_12 rfl (lv_at hl 0 rfl) ?_
    refine va_get (D := (dC, dI)) (ci := 2) (v := .int (nI nV)) (C := RX2) (T := TX2) (N := 4) hx hb hts in_X2 hown hK hP 0 rfl rfl 3 (by decide) (hts _ q108) (fun _ h9 => h9) rfl dX2_under_13 ?_
    refine lv_goto (tgt := 20) hx hb dX2_under_16 (by decide) ?_
    have hP9 := hP.sub (ws' := [(h0, .inr (2, [.int fa, .int fb, .int (nI nU), .int (nI nV)]))]) [0] rfl
    have hD9 := hD.sub (ws' := [(h0, .inr (2, [.int fa, .int fb, .int (nI nU), .int (nI nV)]))]) [0] (by decide) rfl
    have hK9 := hK.sub (tys' := []) [] rfl
    exact W.iret (v := nI nV) hx hb hr (fun t ht hW => ⟨⟨nI nV, (fa, fb, nI nU, nI nV), rfl, ⟨nI nU, nI nV, rfl, Or.inr ⟨hlt, nU, nV, hs, rfl⟩⟩, by rw [ht]; exact hP9, va_K.moved hW.alike hK9, hD9⟩, hS.F ht⟩) hS.2.2 dX2_under_20
end
section
/-! THE CLAIM OUT OF ONE WALK OF THE LAW'S BODY. Your part is whole_start (and what it stands on); all else here is the same for every law, but numbers. -/
def R_law : String := "FractionNearLaw"
def lw_P (b : Addr) (xs : List Int32) (args : Array Value) (s : State) : Prop := args = #[.ref b] ∧ s.IntsAt b xs ∧ xs.length ≤ 320 ∧ (Jvm.Cond.and given_1 narrow_1).before args s = true
def lw_Q (_ : Array Value) (s : State) (o : Outcome) (t : State) : Prop := o = .returned (some (.int 1)) ∧ Framed s o t [] 600000 7290000
def lw_Z (below : List Frame) (a : Array Value) (s : State) : State → Prop := fun t => ∃ o, t.status = .running ∧ Ended t below o ∧ lw_Q a s o t
/-- the law's own end, with 1 on the stack, nothing written that was there before, its room as the claim has it -/
theorem lw_ret {p : Program} {l : Launch} {e : Env} {s : State} {m : MethodId} {below : List Frame} {meth : Method} {c : Code} {b : Nat} (hx : p.tables.exec = Jvm.exec) (hb : c.code = code) (hr : meth.sig.returnType = ret) (hlocks : meth.locks = false) {pc : Nat} {H : Heap} {ls : Array Slot} (hdg : decode code pc = .ok (.ireturn, 1)) : W p l e room_1 s m #[Value.ref b] below meth c H [] 600000 7290000 (lw_Z below #[Value.ref b] s) (F0 m pc ls [.int 1]) := by
  intro T hT X
  obtain ⟨fs, hret, hrun, hended, hW, hframe⟩ := X.leave (v := some (.int 1)) (hlocks := hlocks) (fun h => by rw [hr] at h; cases h)
  have hmeth' : T.vm.method? m = some meth := X.method'
  refine ⟨T.setFrames fs, ?_, .returned (some (.int 1)), hrun, hended, rfl, ⟨_, rfl⟩, hW, hframe⟩
  jvm_step X.here [X.here.top, hx, hb, hdg, hmeth', hr, ret, narrow_b1]
  (try refine ⟨rfl, ?_⟩); (try refine ⟨rfl, ?_⟩)
  first | (intro acts; rw [hret _ acts rfl rfl rfl]) | rw [hret _ _ rfl rfl rfl]
  exact Steps.refl _
/-- what holds at the law's entry: the machine, the code, the tables' words (any of lw_tbl by 'hts w (by decide +kernel)'), the script of L ints xs at the cell b, what the Statement gives of the start (any of its parts by flat_of_before) -/
def lw_At (p : Program) (s : State) (m : MethodId) (meth : Method) (c : Code) (b L : Nat) (xs : Nat → Int32) : Prop :=
  p.tables.exec = Jvm.exec ∧ c.code = code ∧ meth.sig.returnType = ret ∧ c.maxLocals = 4 ∧ s.vm.findClass R_law = some m.cls ∧ (∀ w ∈ lw_tbl, w.before #[Value.ref b] s = true) ∧ va_X b L xs s s.heap ∧ b < s.heap.size ∧ meth.locks = false ∧ (Jvm.Cond.and given_1 narrow_1).before #[Value.ref b] s = true
/-! THE LAW: its cases, its loop -/
theorem nr_slen {p : Program} {l : Launch} {e : Env} {R : Room} {s : State} {m : MethodId} {args : Array Value} {below : List Frame} {meth : Method} {c : Code} {H H0 : Heap} {locs : List Loc} {cells slots : Nat} {Q : State → Prop} {cc : ByteArray} {pc : Nat} {ls : Array Slot} {rest : List Value} {A : Nat → Prop} (hexec : p.tables.exec = Jvm.exec) (hb : c.code = cc) {b L : Nat} {xs : Nat → Int32} (hX : va_X b L xs s H0) (hbl : b < H0.size) (hbA : ¬ A b) (hS : va_S A H0 H locs) (hdg : decode cc pc = .ok (.arraylength, 1))
    (kk : W p l e R s m args below meth c H locs cells slots Q (F0 m (pc + 1) ls (.int (nI L) :: rest))) : W p l e R s m args below meth c H locs cells slots Q (F0 m pc ls (.ref b :: rest)) := va_slen hexec hb hX hbl hbA hS hdg kk
theorem lw_past {i L : Nat} (hi : i < 2 ^ 30) (hL : L < 2 ^ 30) : nI L - nI 5 < nI i ↔ L < i + 5 := by
  rw [Int32.lt_iff_toInt_lt, pk_sub_toInt hL (by decide), nI_toInt (show i < 2 ^ 31 by omega)]
  omega
set_option maxHeartbeats 4000000 in
set_option maxRecDepth 100000 in
/-- the law, case 0 -/
theorem csL_0 {p : Program} {l : Launch} {e : Env} {s : State} {m : MethodId} {below : List Frame} {meth : Method} {c : Code} {dC : Nat → ClassId} {dI : Nat → Nat → Nat} {b L : Nat} {xs : Nat → Int32} (hL : L ≤ 320) (C0 : lw_At p s m meth c b L xs) (hK : va_K (dC, dI) vwCl [] s) {aF aN i : Nat} (hi : i + 5 ≤ L) (K : ∀ (aM pp qq : Nat) (f0 f1 f2 f3 : Int64) (fc fd : Int32) (H : Heap) (locs : List Loc) (ls : Array Slot), pp < 1048576 → 1 ≤ qq → qq ≤ 1048576 → va_P (dC, dI) vwCl [(aF, .inr (0, [.ref aM, .int (nI pp), .int (nI qq)])), (aM, .inr (1, [.long f0, .long f1, .long f2, .long f3])), (aN, .inr (2, [.int (nI pp), .int (nI qq), .int fc, .int fd]))] H → va_D (fun q : Nat => s.heap.size ≤ q) [(aF, .inr (0, [.ref aM, .int (nI pp), .int (nI qq)])), (aM, .inr (1, [.long f0, .long f1, .long f2, .long f3])), (aN, .inr (2, [.int (nI pp), .int (nI qq), .int fc, .int fd]))] → va_S (fun q : Nat => s.heap.size ≤ q) s.heap H locs → lv_has ls 4 [(0, .ref b), (1, .ref aF), (2, .ref aN), (3, .int (nI i))] → W p l e room_1 s m #[Value.ref b] below meth c H locs 3 11 (lw_Z below #[Value.ref b] s) (F0 m 268 ls [])) (aM pp qq : Nat) (f0 f1 f2 f3 : Int64) (fc fd : Int32) (H : Heap) (locs : List Loc) (hp : pp < 1048576) (hq1 : 1 ≤ qq) (hq2 : qq ≤ 1048576) (hP : va_P (dC, dI) vwCl [(aF, .inr (0, [.ref aM, .int (nI pp), .int (nI qq)])), (aM, .inr (1, [.long f0, .long f1, .long f2, .long f3])), (aN, .inr (2, [.int (nI pp), .int (nI qq), .int fc, .int fd]))] H) (hD : va_D (fun q : Nat => s.heap.size ≤ q) [(aF, .inr (0, [.ref aM, .int (nI pp), .int (nI qq)])), (aM, .inr (1, [.long f0, .long f1, .long f2, .long f3])), (aN, .inr (2, [.int (nI pp), .int (nI qq), .int fc, .int fd]))]) (hS : va_S (fun q : Nat => s.heap.size ≤ q) s.heap H locs) (ls : Array Slot) (hl : lv_has ls 4 [(0, .ref b), (1, .ref aF), (2, .ref aN), (3, .int (nI i))]) : W p l e room_1 s m #[Value.ref b] below meth c H locs 3 11 (lw_Z below #[Value.ref b] s) (F0 m 72 ls []) := by
  obtain ⟨hx, hb, hr, hml, hown, hts0, hX, hbl, hlocks, hgv⟩ := C0
  have hts : ∀ w ∈ lw_all, w.before #[Value.ref b] s = true := fun w h => hts0 w (lw_all_tbl h)
  have hA : ∀ q : Nat, s.heap.size ≤ q → (fun q : Nat => s.heap.size ≤ q) q := fun _ h => h
  have hbA : ¬ (fun q : Nat => s.heap.size ≤ q) b := Nat.not_le.mpr hbl
  refine lv_aload_n hx hb dL_law_72 rfl (lv_at hl 1 rfl) ?_
  refine lv_aload_n hx hb dL_law_73 rfl (lv_at hl 0 rfl) ?_
  refine lv_iload_n hx hb dL_law_74 rfl (lv_at hl 3 rfl) ?_
  refine lv_iconst (v := nI 1) hx hb dL_law_75 (by decide) ?_
  refine nr_iadd hx hb dL_law_76 ?_
  refine va_sld hx hb hX hbl hbA hS (vp_in_nI (n := i + 1) (by omega) (by omega)) dL_law_77 ?_
  refine lv_aload_n hx hb dL_law_78 rfl (lv_at hl 0 rfl) ?_
  refine lv_iload_n hx hb dL_law_79 rfl (lv_at hl 3 rfl) ?_
  refine lv_iconst (v := nI 2) hx hb dL_law_80 (by decide) ?_
  refine nr_iadd hx hb dL_law_81 ?_
  refine va_sld hx hb hX hbl hbA hS (vp_in_nI (n := i + 2) (by omega) (by omega)) dL_law_82 ?_
  have hPc := hP.sub (ws' := [(aF, .inr (0, [.ref aM, .int (nI pp), .int (nI qq)]))]) [0] rfl
  have hDc := hD.sub (ws' := [(aF, .inr (0, [.ref aM, .int (nI pp), .int (nI qq)]))]) [0] (by decide) rfl
  have hKc := hK.sub (tys' := []) [] rfl
  have hFc := va_free (wc := [(aF, .inr (0, [.ref aM, .int (nI pp), .int (nI qq)]))]) hD hS hA [0] rfl
  refine va_callv (va_runV (As := [.int (xs (nI (i + 1)).toNatClampNeg), .int (xs (nI (i + 2)).toNatClampNeg)]) (rest := []) ⟨hx, hb, hml, hown, hts⟩ (metX0_load l dC dI aF aM H.size (nI pp) (nI qq) (xs (nI (i + 1)).toNatClampNeg) (xs (nI (i + 2)).toNatClampNeg)) (cwV 2 hts (lw_V q51 q52 q53 q6 q54) rfl rfl rfl (by decide +kernel) ⟨Nat.le_of_ble_eq_true rfl, Nat.le_of_ble_eq_true rfl⟩) ⟨fun a U g mk q => by obtain ⟨q0, q1, qP, qK, qD⟩ := q; exact ⟨q0, q1, qP, va_K.moved (u := U) (U := U.calling g mk a) (Vm.Alike.refl U.vm) qK, qD⟩, va_recv hKc hPc (ci := 0) (q0 := 0) rfl rfl, fun U hU hW => ⟨rfl, by rw [hU], by rw [hU]; exact hPc, va_K.moved hW.alike hKc, hDc.weaken (fun _ _ _ _ => trivial)⟩⟩ rfl rfl hl.1 rfl (lv_room (Nat.le_of_ble_eq_true rfl)) dL_law_83 ⟨Nat.le_of_ble_eq_true rfl, Nat.le_of_ble_eq_true rfl⟩) hS (fun q _ h => hFc q h) hFc (fun u t H locs ht hvm hw hB hz1 hk1 hS => ?_)
  have hw : u = (nI (mk_ 20 (xs (nI (i + 1)).toNatClampNeg)), nI (1 + mk_ 20 (xs (nI (i + 2)).toNatClampNeg))) := hw
  subst hw
  obtain ⟨hP1, -, hD1⟩ := hB
  rw [ht] at hP1
  obtain ⟨hP, hD⟩ := va_join (wr := [(aM, .inr (1, [.long f0, .long f1, .long f2, .long f3])), (aN, .inr (2, [.int (nI pp), .int (nI qq), .int fc, .int fd]))]) (w1 := [(aF, .inr (0, [.ref aM, .int (nI (mk_ 20 (xs (nI (i + 1)).toNatClampNeg))), .int (nI (1 + mk_ 20 (xs (nI (i + 2)).toNatClampNeg)))]))]) hP hD [0] [1, 2] rfl rfl (by decide) (by decide) hk1 hFc hP1 hD1
  have hP : va_P (dC, dI) vwCl [(aM, .inr (1, [.long f0, .long f1, .long f2, .long f3])), (aN, .inr (2, [.int (nI pp), .int (nI qq), .int fc, .int fd])), (aF, .inr (0, [.ref aM, .int (nI (mk_ 20 (xs (nI (i + 1)).toNatClampNeg))), .int (nI (1 + mk_ 20 (xs (nI (i + 2)).toNatClampNeg)))]))] H := hP
  have hD : va_D (fun q : Nat => s.heap.size ≤ q) [(aM, .inr (1, [.long f0, .long f1, .long f2, .long f3])), (aN, .inr (2, [.int (nI pp), .int (nI qq), .int fc, .int fd])), (aF, .inr (0, [.ref aM, .int (nI (mk_ 20 (xs (nI (i + 1)).toNatClampNeg))), .int (nI (1 + mk_ 20 (xs (nI (i + 2)).toNatClampNeg)))]))] := hD
  have hP := hP.sub (ws' := [(aF, .inr (0, [.ref aM, .int (nI (mk_ 20 (xs (nI (i + 1)).toNatClampNeg))), .int (nI (1 + mk_ 20 (xs (nI (i + 2)).toNatClampNeg)))])), (aM, .inr (1, [.long f0, .long f1, .long f2, .long f3])), (aN, .inr (2, [.int (nI pp), .int (nI qq), .int fc, .int fd]))]) [2, 0, 1] rfl
  have hD := hD.sub (ws' := [(aF, .inr (0, [.ref aM, .int (nI (mk_ 20 (xs (nI (i + 1)).toNatClampNeg))), .int (nI (1 + mk_ 20 (xs (nI (i + 2)).toNatClampNeg)))])), (aM, .inr (1, [.long f0, .long f1, .long f2, .long f3])), (aN, .inr (2, [.int (nI pp), .int (nI qq), .int fc, .int fd]))]) [2, 0, 1] (by decide) rfl
  refine lv_aload_n hx hb dL_law_86 rfl (lv_at hl 2 rfl) ?_
  refine lv_aload_n hx hb dL_law_87 rfl (lv_at hl 0 rfl) ?_
  refine lv_iload_n hx hb dL_law_88 rfl (lv_at hl 3 rfl) ?_
  refine lv_iconst (v := nI 1) hx hb dL_law_89 (by decide) ?_
  refine nr_iadd hx hb dL_law_90 ?_
  refine va_sld hx hb hX hbl hbA hS (vp_in_nI (n := i + 1) (by omega) (by omega)) dL_law_91 ?_
  refine lv_aload_n hx hb dL_law_92 rfl (lv_at hl 0 rfl) ?_
  refine lv_iload_n hx hb dL_law_93 rfl (lv_at hl 3 rfl) ?_
  refine lv_iconst (v := nI 2) hx hb dL_law_94 (by decide) ?_
  refine nr_iadd hx hb dL_law_95 ?_
  refine va_sld hx hb hX hbl hbA hS (vp_in_nI (n := i + 2) (by omega) (by omega)) dL_law_96 ?_
  have hPc := hP.sub (ws' := [(aN, .inr (2, [.int (nI pp), .int (nI qq), .int fc, .int fd]))]) [2] rfl
  have hDc := hD.sub (ws' := [(aN, .inr (2, [.int (nI pp), .int (nI qq), .int fc, .int fd]))]) [2] (by decide) rfl
  have hKc := hK.sub (tys' := []) [] rfl
  have hFc := va_free (wc := [(aN, .inr (2, [.int (nI pp), .int (nI qq), .int fc, .int fd]))]) hD hS hA [2] rfl
  refine va_callv (va_runV (As := [.int (xs (nI (i + 1)).toNatClampNeg), .int (xs (nI (i + 2)).toNatClampNeg)]) (rest := []) ⟨hx, hb, hml, hown, hts⟩ (metX2_load l dC dI aN H.size (nI pp) (nI qq) fc fd (xs (nI (i + 1)).toNatClampNeg) (xs (nI (i + 2)).toNatClampNeg)) (cwV 2 hts (lw_V q118 q119 q120 q8 q121) rfl rfl rfl (by decide +kernel) ⟨Nat.le_of_ble_eq_true rfl, Nat.le_of_ble_eq_true rfl⟩) ⟨fun a U g mk q => by obtain ⟨q0, q1, qP, qK, qD⟩ := q; exact ⟨q0, q1, qP, va_K.moved (u := U) (U := U.calling g mk a) (Vm.Alike.refl U.vm) qK, qD⟩, va_recv hKc hPc (ci := 2) (q0 := 0) rfl rfl, fun U hU hW => ⟨rfl, by rw [hU], by rw [hU]; exact hPc, va_K.moved hW.alike hKc, hDc.weaken (fun _ _ _ _ => trivial)⟩⟩ rfl rfl hl.1 rfl (lv_room (Nat.le_of_ble_eq_true rfl)) dL_law_97 ⟨Nat.le_of_ble_eq_true rfl, Nat.le_of_ble_eq_true rfl⟩) hS (fun q _ h => hFc q h) hFc (fun u t H locs ht hvm hw hB hz1 hk1 hS => ?_)
  have hw : u = (nI (mk_ 20 (xs (nI (i + 1)).toNatClampNeg)), nI (1 + mk_ 20 (xs (nI (i + 2)).toNatClampNeg)), fc, fd) := hw
  subst hw
  obtain ⟨hP1, -, hD1⟩ := hB
  rw [ht] at hP1
  obtain ⟨hP, hD⟩ := va_join (wr := [(aF, .inr (0, [.ref aM, .int (nI (mk_ 20 (xs (nI (i + 1)).toNatClampNeg))), .int (nI (1 + mk_ 20 (xs (nI (i + 2)).toNatClampNeg)))])), (aM, .inr (1, [.long f0, .long f1, .long f2, .long f3]))]) (w1 := [(aN, .inr (2, [.int (nI (mk_ 20 (xs (nI (i + 1)).toNatClampNeg))), .int (nI (1 + mk_ 20 (xs (nI (i + 2)).toNatClampNeg))), .int fc, .int fd]))]) hP hD [2] [0, 1] rfl rfl (by decide) (by decide) hk1 hFc hP1 hD1
  have hP : va_P (dC, dI) vwCl [(aF, .inr (0, [.ref aM, .int (nI (mk_ 20 (xs (nI (i + 1)).toNatClampNeg))), .int (nI (1 + mk_ 20 (xs (nI (i + 2)).toNatClampNeg)))])), (aM, .inr (1, [.long f0, .long f1, .long f2, .long f3])), (aN, .inr (2, [.int (nI (mk_ 20 (xs (nI (i + 1)).toNatClampNeg))), .int (nI (1 + mk_ 20 (xs (nI (i + 2)).toNatClampNeg))), .int fc, .int fd]))] H := hP
  have hD : va_D (fun q : Nat => s.heap.size ≤ q) [(aF, .inr (0, [.ref aM, .int (nI (mk_ 20 (xs (nI (i + 1)).toNatClampNeg))), .int (nI (1 + mk_ 20 (xs (nI (i + 2)).toNatClampNeg)))])), (aM, .inr (1, [.long f0, .long f1, .long f2, .long f3])), (aN, .inr (2, [.int (nI (mk_ 20 (xs (nI (i + 1)).toNatClampNeg))), .int (nI (1 + mk_ 20 (xs (nI (i + 2)).toNatClampNeg))), .int fc, .int fd]))] := hD
  refine lv_goto (tgt := 268) hx hb dL_law_100 (by decide) ?_
  have hm1 := mk_lt 20 (xs (nI (i + 1)).toNatClampNeg)
  have hm2 := mk_lt 20 (xs (nI (i + 2)).toNatClampNeg)
  exact K aM (mk_ 20 (xs (nI (i + 1)).toNatClampNeg)) (1 + mk_ 20 (xs (nI (i + 2)).toNatClampNeg)) f0 f1 f2 f3 fc fd H locs ls (by omega) (by omega) (by omega) hP hD hS hl
set_option maxHeartbeats 4000000 in
set_option maxRecDepth 100000 in
/-- the law, case 1 -/
theorem csL_1 {p : Program} {l : Launch} {e : Env} {s : State} {m : MethodId} {below : List Frame} {meth : Method} {c : Code} {dC : Nat → ClassId} {dI : Nat → Nat → Nat} {b L : Nat} {xs : Nat → Int32} (hL : L ≤ 320) (C0 : lw_At p s m meth c b L xs) (hK : va_K (dC, dI) vwCl [] s) {aF aN i : Nat} (hi : i + 5 ≤ L) (K : ∀ (aM pp qq : Nat) (f0 f1 f2 f3 : Int64) (fc fd : Int32) (H : Heap) (locs : List Loc) (ls : Array Slot), pp < 1048576 → 1 ≤ qq → qq ≤ 1048576 → va_P (dC, dI) vwCl [(aF, .inr (0, [.ref aM, .int (nI pp), .int (nI qq)])), (aM, .inr (1, [.long f0, .long f1, .long f2, .long f3])), (aN, .inr (2, [.int (nI pp), .int (nI qq), .int fc, .int fd]))] H → va_D (fun q : Nat => s.heap.size ≤ q) [(aF, .inr (0, [.ref aM, .int (nI pp), .int (nI qq)])), (aM, .inr (1, [.long f0, .long f1, .long f2, .long f3])), (aN, .inr (2, [.int (nI pp), .int (nI qq), .int fc, .int fd]))] → va_S (fun q : Nat => s.heap.size ≤ q) s.heap H locs → lv_has ls 4 [(0, .ref b), (1, .ref aF), (2, .ref aN), (3, .int (nI i))] → W p l e room_1 s m #[Value.ref b] below meth c H locs 3 11 (lw_Z below #[Value.ref b] s) (F0 m 268 ls [])) (aM pp qq : Nat) (f0 f1 f2 f3 : Int64) (fc fd : Int32) (H : Heap) (locs : List Loc) (hp : pp < 1048576) (hq1 : 1 ≤ qq) (hq2 : qq ≤ 1048576) (hP : va_P (dC, dI) vwCl [(aF, .inr (0, [.ref aM, .int (nI pp), .int (nI qq)])), (aM, .inr (1, [.long f0, .long f1, .long f2, .long f3])), (aN, .inr (2, [.int (nI pp), .int (nI qq), .int fc, .int fd]))] H) (hD : va_D (fun q : Nat => s.heap.size ≤ q) [(aF, .inr (0, [.ref aM, .int (nI pp), .int (nI qq)])), (aM, .inr (1, [.long f0, .long f1, .long f2, .long f3])), (aN, .inr (2, [.int (nI pp), .int (nI qq), .int fc, .int fd]))]) (hS : va_S (fun q : Nat => s.heap.size ≤ q) s.heap H locs) (ls : Array Slot) (hl : lv_has ls 4 [(0, .ref b), (1, .ref aF), (2, .ref aN), (3, .int (nI i))]) : W p l e room_1 s m #[Value.ref b] below meth c H locs 3 11 (lw_Z below #[Value.ref b] s) (F0 m 103 ls []) := by
  obtain ⟨hx, hb, hr, hml, hown, hts0, hX, hbl, hlocks, hgv⟩ := C0
  have hts : ∀ w ∈ lw_all, w.before #[Value.ref b] s = true := fun w h => hts0 w (lw_all_tbl h)
  have hA : ∀ q : Nat, s.heap.size ≤ q → (fun q : Nat => s.heap.size ≤ q) q := fun _ h => h
  have hbA : ¬ (fun q : Nat => s.heap.size ≤ q) b := Nat.not_le.mpr hbl
  refine lv_aload_n hx hb dL_law_103 rfl (lv_at hl 1 rfl) ?_
  refine lv_aload_n hx hb dL_law_104 rfl (lv_at hl 0 rfl) ?_
  refine lv_iload_n hx hb dL_law_105 rfl (lv_at hl 3 rfl) ?_
  refine lv_iconst (v := nI 1) hx hb dL_law_106 (by decide) ?_
  refine nr_iadd hx hb dL_law_107 ?_
  refine va_sld hx hb hX hbl hbA hS (vp_in_nI (n := i + 1) (by omega) (by omega)) dL_law_108 ?_
  have hPc := hP.sub (ws' := [(aF, .inr (0, [.ref aM, .int (nI pp), .int (nI qq)])), (aM, .inr (1, [.long f0, .long f1, .long f2, .long f3]))]) [0, 1] rfl
  have hDc := hD.sub (ws' := [(aF, .inr (0, [.ref aM, .int (nI pp), .int (nI qq)])), (aM, .inr (1, [.long f0, .long f1, .long f2, .long f3]))]) [0, 1] (by decide) rfl
  have hKc := hK.sub (tys' := []) [] rfl
  have hFc := va_free (wc := [(aF, .inr (0, [.ref aM, .int (nI pp), .int (nI qq)])), (aM, .inr (1, [.long f0, .long f1, .long f2, .long f3]))]) hD hS hA [0, 1] rfl
  refine va_calli (va_runV (As := [.int (xs (nI (i + 1)).toNatClampNeg)]) (rest := []) ⟨hx, hb, hml, hown, hts⟩ (metX0_top l dC dI aF aM H.size pp qq hp hq1 hq2 f0 f1 f2 f3 (xs (nI (i + 1)).toNatClampNeg)) (cwV 1 hts (lw_V q56 q57 q58 q6 q59) rfl rfl rfl (by decide +kernel) ⟨Nat.le_of_ble_eq_true rfl, Nat.le_of_ble_eq_true rfl⟩) ⟨fun a U g mk q => by obtain ⟨q0, q1, qP, qK, qD⟩ := q; exact ⟨q0, q1, qP, va_K.moved (u := U) (U := U.calling g mk a) (Vm.Alike.refl U.vm) qK, qD⟩, va_recv hKc hPc (ci := 0) (q0 := 0) rfl rfl, fun U hU hW => ⟨rfl, by rw [hU], by rw [hU]; exact hPc, va_K.moved hW.alike hKc, hDc.weaken (fun _ _ _ _ => trivial)⟩⟩ rfl rfl hl.1 rfl (lv_room (Nat.le_of_ble_eq_true rfl)) dL_law_109 ⟨Nat.le_of_ble_eq_true rfl, Nat.le_of_ble_eq_true rfl⟩) hS (fun q _ h => hFc q h) hFc (fun r_1 u t H locs ht hvm hw hB hz1 hk1 hS => ?_)
  obtain ⟨w0, w1, w2, w3⟩ := u
  obtain ⟨nU, nV, er, hbst1⟩ := hw
  subst er
  obtain ⟨hP1, -, hD1⟩ := hB
  rw [ht] at hP1
  obtain ⟨hP, hD⟩ := va_join (wr := [(aN, .inr (2, [.int (nI pp), .int (nI qq), .int fc, .int fd]))]) (w1 := [(aF, .inr (0, [.ref aM, .int (nI pp), .int (nI qq)])), (aM, .inr (1, [.long w0, .long w1, .long w2, .long w3]))]) hP hD [0, 1] [2] rfl rfl (by decide) (by decide) hk1 hFc hP1 hD1
  have hP : va_P (dC, dI) vwCl [(aN, .inr (2, [.int (nI pp), .int (nI qq), .int fc, .int fd])), (aF, .inr (0, [.ref aM, .int (nI pp), .int (nI qq)])), (aM, .inr (1, [.long w0, .long w1, .long w2, .long w3]))] H := hP
  have hD : va_D (fun q : Nat => s.heap.size ≤ q) [(aN, .inr (2, [.int (nI pp), .int (nI qq), .int fc, .int fd])), (aF, .inr (0, [.ref aM, .int (nI pp), .int (nI qq)])), (aM, .inr (1, [.long w0, .long w1, .long w2, .long w3]))] := hD
  have hP := hP.sub (ws' := [(aF, .inr (0, [.ref aM, .int (nI pp), .int (nI qq)])), (aM, .inr (1, [.long w0, .long w1, .long w2, .long w3])), (aN, .inr (2, [.int (nI pp), .int (nI qq), .int fc, .int fd]))]) [1, 2, 0] rfl
  have hD := hD.sub (ws' := [(aF, .inr (0, [.ref aM, .int (nI pp), .int (nI qq)])), (aM, .inr (1, [.long w0, .long w1, .long w2, .long w3])), (aN, .inr (2, [.int (nI pp), .int (nI qq), .int fc, .int fd]))]) [1, 2, 0] (by decide) rfl
  refine lv_aload_n hx hb dL_law_112 rfl (lv_at hl 2 rfl) ?_
  refine lv_aload_n hx hb dL_law_113 rfl (lv_at hl 0 rfl) ?_
  refine lv_iload_n hx hb dL_law_114 rfl (lv_at hl 3 rfl) ?_
  refine lv_iconst (v := nI 1) hx hb dL_law_115 (by decide) ?_
  refine nr_iadd hx hb dL_law_116 ?_
  refine va_sld hx hb hX hbl hbA hS (vp_in_nI (n := i + 1) (by omega) (by omega)) dL_law_117 ?_
  have hPc := hP.sub (ws' := [(aN, .inr (2, [.int (nI pp), .int (nI qq), .int fc, .int fd]))]) [2] rfl
  have hDc := hD.sub (ws' := [(aN, .inr (2, [.int (nI pp), .int (nI qq), .int fc, .int fd]))]) [2] (by decide) rfl
  have hKc := hK.sub (tys' := []) [] rfl
  have hFc := va_free (wc := [(aN, .inr (2, [.int (nI pp), .int (nI qq), .int fc, .int fd]))]) hD hS hA [2] rfl
  refine va_calli (va_runV (As := [.int (xs (nI (i + 1)).toNatClampNeg)]) (rest := [.int (nI nU)]) ⟨hx, hb, hml, hown, hts⟩ (metX2_top l dC dI aN H.size pp qq hp hq1 hq2 fc fd (xs (nI (i + 1)).toNatClampNeg)) (cwV 1 hts (lw_V q123 q124 q125 q8 q126) rfl rfl rfl (by decide +kernel) ⟨Nat.le_of_ble_eq_true rfl, Nat.le_of_ble_eq_true rfl⟩) ⟨fun a U g mk q => by obtain ⟨q0, q1, qP, qK, qD⟩ := q; exact ⟨q0, q1, qP, va_K.moved (u := U) (U := U.calling g mk a) (Vm.Alike.refl U.vm) qK, qD⟩, va_recv hKc hPc (ci := 2) (q0 := 0) rfl rfl, fun U hU hW => ⟨rfl, by rw [hU], by rw [hU]; exact hPc, va_K.moved hW.alike hKc, hDc.weaken (fun _ _ _ _ => trivial)⟩⟩ rfl rfl hl.1 rfl (lv_room (Nat.le_of_ble_eq_true rfl)) dL_law_118 ⟨Nat.le_of_ble_eq_true rfl, Nat.le_of_ble_eq_true rfl⟩) hS (fun q _ h => hFc q h) hFc (fun r_2 u t H locs ht hvm hw hB hz1 hk1 hS => ?_)
  obtain ⟨mU, mV, hu, er, hbst2⟩ := hw
  subst hu
  subst er
  obtain ⟨hP1, -, hD1⟩ := hB
  rw [ht] at hP1
  obtain ⟨hP, hD⟩ := va_join (wr := [(aF, .inr (0, [.ref aM, .int (nI pp), .int (nI qq)])), (aM, .inr (1, [.long w0, .long w1, .long w2, .long w3]))]) (w1 := [(aN, .inr (2, [.int (nI pp), .int (nI qq), .int (nI mU), .int (nI mV)]))]) hP hD [2] [0, 1] rfl rfl (by decide) (by decide) hk1 hFc hP1 hD1
  have hP : va_P (dC, dI) vwCl [(aF, .inr (0, [.ref aM, .int (nI pp), .int (nI qq)])), (aM, .inr (1, [.long w0, .long w1, .long w2, .long w3])), (aN, .inr (2, [.int (nI pp), .int (nI qq), .int (nI mU), .int (nI mV)]))] H := hP
  have hD : va_D (fun q : Nat => s.heap.size ≤ q) [(aF, .inr (0, [.ref aM, .int (nI pp), .int (nI qq)])), (aM, .inr (1, [.long w0, .long w1, .long w2, .long w3])), (aN, .inr (2, [.int (nI pp), .int (nI qq), .int (nI mU), .int (nI mV)]))] := hD
  refine lv_icmp_eq (tgt := 268) hx hb dL_law_121 (by decide) (fun c_121 => ?_) (fun c_121 => ?_)
  · exact K aM pp qq w0 w1 w2 w3 (nI mU) (nI mV) H locs ls hp hq1 hq2 hP hD hS hl
  · exact absurd (congrArg nI (fn_Best_uniq hbst1 hbst2).1) c_121
set_option maxHeartbeats 4000000 in
set_option maxRecDepth 100000 in
/-- the law, case 2 -/
theorem csL_2 {p : Program} {l : Launch} {e : Env} {s : State} {m : MethodId} {below : List Frame} {meth : Method} {c : Code} {dC : Nat → ClassId} {dI : Nat → Nat → Nat} {b L : Nat} {xs : Nat → Int32} (hL : L ≤ 320) (C0 : lw_At p s m meth c b L xs) (hK : va_K (dC, dI) vwCl [] s) {aF aN i : Nat} (hi : i + 5 ≤ L) (K : ∀ (aM pp qq : Nat) (f0 f1 f2 f3 : Int64) (fc fd : Int32) (H : Heap) (locs : List Loc) (ls : Array Slot), pp < 1048576 → 1 ≤ qq → qq ≤ 1048576 → va_P (dC, dI) vwCl [(aF, .inr (0, [.ref aM, .int (nI pp), .int (nI qq)])), (aM, .inr (1, [.long f0, .long f1, .long f2, .long f3])), (aN, .inr (2, [.int (nI pp), .int (nI qq), .int fc, .int fd]))] H → va_D (fun q : Nat => s.heap.size ≤ q) [(aF, .inr (0, [.ref aM, .int (nI pp), .int (nI qq)])), (aM, .inr (1, [.long f0, .long f1, .long f2, .long f3])), (aN, .inr (2, [.int (nI pp), .int (nI qq), .int fc, .int fd]))] → va_S (fun q : Nat => s.heap.size ≤ q) s.heap H locs → lv_has ls 4 [(0, .ref b), (1, .ref aF), (2, .ref aN), (3, .int (nI i))] → W p l e room_1 s m #[Value.ref b] below meth c H locs 3 11 (lw_Z below #[Value.ref b] s) (F0 m 268 ls [])) (aM pp qq : Nat) (f0 f1 f2 f3 : Int64) (fc fd : Int32) (H : Heap) (locs : List Loc) (hp : pp < 1048576) (hq1 : 1 ≤ qq) (hq2 : qq ≤ 1048576) (hP : va_P (dC, dI) vwCl [(aF, .inr (0, [.ref aM, .int (nI pp), .int (nI qq)])), (aM, .inr (1, [.long f0, .long f1, .long f2, .long f3])), (aN, .inr (2, [.int (nI pp), .int (nI qq), .int fc, .int fd]))] H) (hD : va_D (fun q : Nat => s.heap.size ≤ q) [(aF, .inr (0, [.ref aM, .int (nI pp), .int (nI qq)])), (aM, .inr (1, [.long f0, .long f1, .long f2, .long f3])), (aN, .inr (2, [.int (nI pp), .int (nI qq), .int fc, .int fd]))]) (hS : va_S (fun q : Nat => s.heap.size ≤ q) s.heap H locs) (ls : Array Slot) (hl : lv_has ls 4 [(0, .ref b), (1, .ref aF), (2, .ref aN), (3, .int (nI i))]) : W p l e room_1 s m #[Value.ref b] below meth c H locs 3 11 (lw_Z below #[Value.ref b] s) (F0 m 126 ls []) := by
  obtain ⟨hx, hb, hr, hml, hown, hts0, hX, hbl, hlocks, hgv⟩ := C0
  have hts : ∀ w ∈ lw_all, w.before #[Value.ref b] s = true := fun w h => hts0 w (lw_all_tbl h)
  have hA : ∀ q : Nat, s.heap.size ≤ q → (fun q : Nat => s.heap.size ≤ q) q := fun _ h => h
  have hbA : ¬ (fun q : Nat => s.heap.size ≤ q) b := Nat.not_le.mpr hbl
  refine lv_aload_n hx hb dL_law_126 rfl (lv_at hl 1 rfl) ?_
  refine lv_aload_n hx hb dL_law_127 rfl (lv_at hl 0 rfl) ?_
  refine lv_iload_n hx hb dL_law_128 rfl (lv_at hl 3 rfl) ?_
  refine lv_iconst (v := nI 1) hx hb dL_law_129 (by decide) ?_
  refine nr_iadd hx hb dL_law_130 ?_
  refine va_sld hx hb hX hbl hbA hS (vp_in_nI (n := i + 1) (by omega) (by omega)) dL_law_131 ?_
  have hPc := hP.sub (ws' := [(aF, .inr (0, [.ref aM, .int (nI pp), .int (nI qq)])), (aM, .inr (1, [.long f0, .long f1, .long f2, .long f3]))]) [0, 1] rfl
  have hDc := hD.sub (ws' := [(aF, .inr (0, [.ref aM, .int (nI pp), .int (nI qq)])), (aM, .inr (1, [.long f0, .long f1, .long f2, .long f3]))]) [0, 1] (by decide) rfl
  have hKc := hK.sub (tys' := []) [] rfl
  have hFc := va_free (wc := [(aF, .inr (0, [.ref aM, .int (nI pp), .int (nI qq)])), (aM, .inr (1, [.long f0, .long f1, .long f2, .long f3]))]) hD hS hA [0, 1] rfl
  refine va_calli (va_runV (As := [.int (xs (nI (i + 1)).toNatClampNeg)]) (rest := []) ⟨hx, hb, hml, hown, hts⟩ (metX0_bottom l dC dI aF aM H.size pp qq hp hq1 hq2 f0 f1 f2 f3 (xs (nI (i + 1)).toNatClampNeg)) (cwV 1 hts (lw_V q79 q80 q81 q6 q82) rfl rfl rfl (by decide +kernel) ⟨Nat.le_of_ble_eq_true rfl, Nat.le_of_ble_eq_true rfl⟩) ⟨fun a U g mk q => by obtain ⟨q0, q1, qP, qK, qD⟩ := q; exact ⟨q0, q1, qP, va_K.moved (u := U) (U := U.calling g mk a) (Vm.Alike.refl U.vm) qK, qD⟩, va_recv hKc hPc (ci := 0) (q0 := 0) rfl rfl, fun U hU hW => ⟨rfl, by rw [hU], by rw [hU]; exact hPc, va_K.moved hW.alike hKc, hDc.weaken (fun _ _ _ _ => trivial)⟩⟩ rfl rfl hl.1 rfl (lv_room (Nat.le_of_ble_eq_true rfl)) dL_law_132 ⟨Nat.le_of_ble_eq_true rfl, Nat.le_of_ble_eq_true rfl⟩) hS (fun q _ h => hFc q h) hFc (fun r_1 u t H locs ht hvm hw hB hz1 hk1 hS => ?_)
  obtain ⟨w0, w1, w2, w3⟩ := u
  obtain ⟨nU, nV, er, hbst1⟩ := hw
  subst er
  obtain ⟨hP1, -, hD1⟩ := hB
  rw [ht] at hP1
  obtain ⟨hP, hD⟩ := va_join (wr := [(aN, .inr (2, [.int (nI pp), .int (nI qq), .int fc, .int fd]))]) (w1 := [(aF, .inr (0, [.ref aM, .int (nI pp), .int (nI qq)])), (aM, .inr (1, [.long w0, .long w1, .long w2, .long w3]))]) hP hD [0, 1] [2] rfl rfl (by decide) (by decide) hk1 hFc hP1 hD1
  have hP : va_P (dC, dI) vwCl [(aN, .inr (2, [.int (nI pp), .int (nI qq), .int fc, .int fd])), (aF, .inr (0, [.ref aM, .int (nI pp), .int (nI qq)])), (aM, .inr (1, [.long w0, .long w1, .long w2, .long w3]))] H := hP
  have hD : va_D (fun q : Nat => s.heap.size ≤ q) [(aN, .inr (2, [.int (nI pp), .int (nI qq), .int fc, .int fd])), (aF, .inr (0, [.ref aM, .int (nI pp), .int (nI qq)])), (aM, .inr (1, [.long w0, .long w1, .long w2, .long w3]))] := hD
  have hP := hP.sub (ws' := [(aF, .inr (0, [.ref aM, .int (nI pp), .int (nI qq)])), (aM, .inr (1, [.long w0, .long w1, .long w2, .long w3])), (aN, .inr (2, [.int (nI pp), .int (nI qq), .int fc, .int fd]))]) [1, 2, 0] rfl
  have hD := hD.sub (ws' := [(aF, .inr (0, [.ref aM, .int (nI pp), .int (nI qq)])), (aM, .inr (1, [.long w0, .long w1, .long w2, .long w3])), (aN, .inr (2, [.int (nI pp), .int (nI qq), .int fc, .int fd]))]) [1, 2, 0] (by decide) rfl
  refine lv_aload_n hx hb dL_law_135 rfl (lv_at hl 2 rfl) ?_
  refine lv_aload_n hx hb dL_law_136 rfl (lv_at hl 0 rfl) ?_
  refine lv_iload_n hx hb dL_law_137 rfl (lv_at hl 3 rfl) ?_
  refine lv_iconst (v := nI 1) hx hb dL_law_138 (by decide) ?_
  refine nr_iadd hx hb dL_law_139 ?_
  refine va_sld hx hb hX hbl hbA hS (vp_in_nI (n := i + 1) (by omega) (by omega)) dL_law_140 ?_
  have hPc := hP.sub (ws' := [(aN, .inr (2, [.int (nI pp), .int (nI qq), .int fc, .int fd]))]) [2] rfl
  have hDc := hD.sub (ws' := [(aN, .inr (2, [.int (nI pp), .int (nI qq), .int fc, .int fd]))]) [2] (by decide) rfl
  have hKc := hK.sub (tys' := []) [] rfl
  have hFc := va_free (wc := [(aN, .inr (2, [.int (nI pp), .int (nI qq), .int fc, .int fd]))]) hD hS hA [2] rfl
  refine va_calli (va_runV (As := [.int (xs (nI (i + 1)).toNatClampNeg)]) (rest := [.int (nI nV)]) ⟨hx, hb, hml, hown, hts⟩ (metX2_bottom l dC dI aN H.size pp qq hp hq1 hq2 fc fd (xs (nI (i + 1)).toNatClampNeg)) (cwV 1 hts (lw_V q135 q136 q137 q8 q138) rfl rfl rfl (by decide +kernel) ⟨Nat.le_of_ble_eq_true rfl, Nat.le_of_ble_eq_true rfl⟩) ⟨fun a U g mk q => by obtain ⟨q0, q1, qP, qK, qD⟩ := q; exact ⟨q0, q1, qP, va_K.moved (u := U) (U := U.calling g mk a) (Vm.Alike.refl U.vm) qK, qD⟩, va_recv hKc hPc (ci := 2) (q0 := 0) rfl rfl, fun U hU hW => ⟨rfl, by rw [hU], by rw [hU]; exact hPc, va_K.moved hW.alike hKc, hDc.weaken (fun _ _ _ _ => trivial)⟩⟩ rfl rfl hl.1 rfl (lv_room (Nat.le_of_ble_eq_true rfl)) dL_law_141 ⟨Nat.le_of_ble_eq_true rfl, Nat.le_of_ble_eq_true rfl⟩) hS (fun q _ h => hFc q h) hFc (fun r_2 u t H locs ht hvm hw hB hz1 hk1 hS => ?_)
  obtain ⟨mU, mV, hu, er, hbst2⟩ := hw
  subst hu
  subst er
  obtain ⟨hP1, -, hD1⟩ := hB
  rw [ht] at hP1
  obtain ⟨hP, hD⟩ := va_join (wr := [(aF, .inr (0, [.ref aM, .int (nI pp), .int (nI qq)])), (aM, .inr (1, [.long w0, .long w1, .long w2, .long w3]))]) (w1 := [(aN, .inr (2, [.int (nI pp), .int (nI qq), .int (nI mU), .int (nI mV)]))]) hP hD [2] [0, 1] rfl rfl (by decide) (by decide) hk1 hFc hP1 hD1
  have hP : va_P (dC, dI) vwCl [(aF, .inr (0, [.ref aM, .int (nI pp), .int (nI qq)])), (aM, .inr (1, [.long w0, .long w1, .long w2, .long w3])), (aN, .inr (2, [.int (nI pp), .int (nI qq), .int (nI mU), .int (nI mV)]))] H := hP
  have hD : va_D (fun q : Nat => s.heap.size ≤ q) [(aF, .inr (0, [.ref aM, .int (nI pp), .int (nI qq)])), (aM, .inr (1, [.long w0, .long w1, .long w2, .long w3])), (aN, .inr (2, [.int (nI pp), .int (nI qq), .int (nI mU), .int (nI mV)]))] := hD
  refine lv_icmp_eq (tgt := 268) hx hb dL_law_144 (by decide) (fun c_144 => ?_) (fun c_144 => ?_)
  · exact K aM pp qq w0 w1 w2 w3 (nI mU) (nI mV) H locs ls hp hq1 hq2 hP hD hS hl
  · exact absurd (congrArg nI (fn_Best_uniq hbst1 hbst2).2) c_144
set_option maxHeartbeats 4000000 in
set_option maxRecDepth 100000 in
/-- the law, case 3 -/
theorem csL_3 {p : Program} {l : Launch} {e : Env} {s : State} {m : MethodId} {below : List Frame} {meth : Method} {c : Code} {dC : Nat → ClassId} {dI : Nat → Nat → Nat} {b L : Nat} {xs : Nat → Int32} (hL : L ≤ 320) (C0 : lw_At p s m meth c b L xs) (hK : va_K (dC, dI) vwCl [] s) {aF aN i : Nat} (hi : i + 5 ≤ L) (K : ∀ (aM pp qq : Nat) (f0 f1 f2 f3 : Int64) (fc fd : Int32) (H : Heap) (locs : List Loc) (ls : Array Slot), pp < 1048576 → 1 ≤ qq → qq ≤ 1048576 → va_P (dC, dI) vwCl [(aF, .inr (0, [.ref aM, .int (nI pp), .int (nI qq)])), (aM, .inr (1, [.long f0, .long f1, .long f2, .long f3])), (aN, .inr (2, [.int (nI pp), .int (nI qq), .int fc, .int fd]))] H → va_D (fun q : Nat => s.heap.size ≤ q) [(aF, .inr (0, [.ref aM, .int (nI pp), .int (nI qq)])), (aM, .inr (1, [.long f0, .long f1, .long f2, .long f3])), (aN, .inr (2, [.int (nI pp), .int (nI qq), .int fc, .int fd]))] → va_S (fun q : Nat => s.heap.size ≤ q) s.heap H locs → lv_has ls 4 [(0, .ref b), (1, .ref aF), (2, .ref aN), (3, .int (nI i))] → W p l e room_1 s m #[Value.ref b] below meth c H locs 3 11 (lw_Z below #[Value.ref b] s) (F0 m 268 ls [])) (aM pp qq : Nat) (f0 f1 f2 f3 : Int64) (fc fd : Int32) (H : Heap) (locs : List Loc) (hp : pp < 1048576) (hq1 : 1 ≤ qq) (hq2 : qq ≤ 1048576) (hP : va_P (dC, dI) vwCl [(aF, .inr (0, [.ref aM, .int (nI pp), .int (nI qq)])), (aM, .inr (1, [.long f0, .long f1, .long f2, .long f3])), (aN, .inr (2, [.int (nI pp), .int (nI qq), .int fc, .int fd]))] H) (hD : va_D (fun q : Nat => s.heap.size ≤ q) [(aF, .inr (0, [.ref aM, .int (nI pp), .int (nI qq)])), (aM, .inr (1, [.long f0, .long f1, .long f2, .long f3])), (aN, .inr (2, [.int (nI pp), .int (nI qq), .int fc, .int fd]))]) (hS : va_S (fun q : Nat => s.heap.size ≤ q) s.heap H locs) (ls : Array Slot) (hl : lv_has ls 4 [(0, .ref b), (1, .ref aF), (2, .ref aN), (3, .int (nI i))]) : W p l e room_1 s m #[Value.ref b] below meth c H locs 3 11 (lw_Z below #[Value.ref b] s) (F0 m 149 ls []) := by
  obtain ⟨hx, hb, hr, hml, hown, hts0, hX, hbl, hlocks, hgv⟩ := C0
  have hts : ∀ w ∈ lw_all, w.before #[Value.ref b] s = true := fun w h => hts0 w (lw_all_tbl h)
  have hA : ∀ q : Nat, s.heap.size ≤ q → (fun q : Nat => s.heap.size ≤ q) q := fun _ h => h
  have hbA : ¬ (fun q : Nat => s.heap.size ≤ q) b := Nat.not_le.mpr hbl
  refine lv_aload_n hx hb dL_law_149 rfl (lv_at hl 1 rfl) ?_
  refine lv_aload_n hx hb dL_law_150 rfl (lv_at hl 0 rfl) ?_
  refine lv_iload_n hx hb dL_law_151 rfl (lv_at hl 3 rfl) ?_
  refine lv_iconst (v := nI 1) hx hb dL_law_152 (by decide) ?_
  refine nr_iadd hx hb dL_law_153 ?_
  refine va_sld hx hb hX hbl hbA hS (vp_in_nI (n := i + 1) (by omega) (by omega)) dL_law_154 ?_
  refine lv_aload_n hx hb dL_law_155 rfl (lv_at hl 0 rfl) ?_
  refine lv_iload_n hx hb dL_law_156 rfl (lv_at hl 3 rfl) ?_
  refine lv_iconst (v := nI 2) hx hb dL_law_157 (by decide) ?_
  refine nr_iadd hx hb dL_law_158 ?_
  refine va_sld hx hb hX hbl hbA hS (vp_in_nI (n := i + 2) (by omega) (by omega)) dL_law_159 ?_
  refine lv_aload_n hx hb dL_law_160 rfl (lv_at hl 0 rfl) ?_
  refine lv_iload_n hx hb dL_law_161 rfl (lv_at hl 3 rfl) ?_
  refine lv_iconst (v := nI 3) hx hb dL_law_162 (by decide) ?_
  refine nr_iadd hx hb dL_law_163 ?_
  refine va_sld hx hb hX hbl hbA hS (vp_in_nI (n := i + 3) (by omega) (by omega)) dL_law_164 ?_
  refine lv_aload_n hx hb dL_law_165 rfl (lv_at hl 0 rfl) ?_
  refine lv_iload_n hx hb dL_law_166 rfl (lv_at hl 3 rfl) ?_
  refine lv_iconst (v := nI 4) hx hb dL_law_167 (by decide) ?_
  refine nr_iadd hx hb dL_law_168 ?_
  refine va_sld hx hb hX hbl hbA hS (vp_in_nI (n := i + 4) (by omega) (by omega)) dL_law_169 ?_
  have hPc := hP.sub (ws' := [(aF, .inr (0, [.ref aM, .int (nI pp), .int (nI qq)])), (aM, .inr (1, [.long f0, .long f1, .long f2, .long f3]))]) [0, 1] rfl
  have hDc := hD.sub (ws' := [(aF, .inr (0, [.ref aM, .int (nI pp), .int (nI qq)])), (aM, .inr (1, [.long f0, .long f1, .long f2, .long f3]))]) [0, 1] (by decide) rfl
  have hKc := hK.sub (tys' := []) [] rfl
  have hFc := va_free (wc := [(aF, .inr (0, [.ref aM, .int (nI pp), .int (nI qq)])), (aM, .inr (1, [.long f0, .long f1, .long f2, .long f3]))]) hD hS hA [0, 1] rfl
  refine va_calli (va_runV (As := [.int (xs (nI (i + 1)).toNatClampNeg), .int (xs (nI (i + 2)).toNatClampNeg), .int (xs (nI (i + 3)).toNatClampNeg), .int (xs (nI (i + 4)).toNatClampNeg)]) (rest := []) ⟨hx, hb, hml, hown, hts⟩ (metX0_simplest l dC dI aF aM H.size (nI pp) (nI qq) f0 f1 f2 f3 (xs (nI (i + 1)).toNatClampNeg) (xs (nI (i + 2)).toNatClampNeg) (xs (nI (i + 3)).toNatClampNeg) (xs (nI (i + 4)).toNatClampNeg)) (cwV 4 hts (lw_V q83 q84 q85 q6 q86) rfl rfl rfl (by decide +kernel) ⟨Nat.le_of_ble_eq_true rfl, Nat.le_of_ble_eq_true rfl⟩) ⟨fun a U g mk q => by obtain ⟨q0, q1, qP, qK, qD⟩ := q; exact ⟨q0, q1, qP, va_K.moved (u := U) (U := U.calling g mk a) (Vm.Alike.refl U.vm) qK, qD⟩, va_recv hKc hPc (ci := 0) (q0 := 0) rfl rfl, fun U hU hW => ⟨rfl, by rw [hU], by rw [hU]; exact hPc, va_K.moved hW.alike hKc, hDc.weaken (fun _ _ _ _ => trivial)⟩⟩ rfl rfl hl.1 rfl (lv_room (Nat.le_of_ble_eq_true rfl)) dL_law_170 ⟨Nat.le_of_ble_eq_true rfl, Nat.le_of_ble_eq_true rfl⟩) hS (fun q _ h => hFc q h) hFc (fun r_1 u t H locs ht hvm hw hB hz1 hk1 hS => ?_)
  obtain ⟨w0, w1, w2, w3⟩ := u
  have hs1 := hw
  obtain ⟨hP1, -, hD1⟩ := hB
  rw [ht] at hP1
  obtain ⟨hP, hD⟩ := va_join (wr := [(aN, .inr (2, [.int (nI pp), .int (nI qq), .int fc, .int fd]))]) (w1 := [(aF, .inr (0, [.ref aM, .int (nI pp), .int (nI qq)])), (aM, .inr (1, [.long w0, .long w1, .long w2, .long w3]))]) hP hD [0, 1] [2] rfl rfl (by decide) (by decide) hk1 hFc hP1 hD1
  have hP : va_P (dC, dI) vwCl [(aN, .inr (2, [.int (nI pp), .int (nI qq), .int fc, .int fd])), (aF, .inr (0, [.ref aM, .int (nI pp), .int (nI qq)])), (aM, .inr (1, [.long w0, .long w1, .long w2, .long w3]))] H := hP
  have hD : va_D (fun q : Nat => s.heap.size ≤ q) [(aN, .inr (2, [.int (nI pp), .int (nI qq), .int fc, .int fd])), (aF, .inr (0, [.ref aM, .int (nI pp), .int (nI qq)])), (aM, .inr (1, [.long w0, .long w1, .long w2, .long w3]))] := hD
  have hP := hP.sub (ws' := [(aF, .inr (0, [.ref aM, .int (nI pp), .int (nI qq)])), (aM, .inr (1, [.long w0, .long w1, .long w2, .long w3])), (aN, .inr (2, [.int (nI pp), .int (nI qq), .int fc, .int fd]))]) [1, 2, 0] rfl
  have hD := hD.sub (ws' := [(aF, .inr (0, [.ref aM, .int (nI pp), .int (nI qq)])), (aM, .inr (1, [.long w0, .long w1, .long w2, .long w3])), (aN, .inr (2, [.int (nI pp), .int (nI qq), .int fc, .int fd]))]) [1, 2, 0] (by decide) rfl
  refine lv_aload_n hx hb dL_law_173 rfl (lv_at hl 2 rfl) ?_
  refine lv_aload_n hx hb dL_law_174 rfl (lv_at hl 0 rfl) ?_
  refine lv_iload_n hx hb dL_law_175 rfl (lv_at hl 3 rfl) ?_
  refine lv_iconst (v := nI 1) hx hb dL_law_176 (by decide) ?_
  refine nr_iadd hx hb dL_law_177 ?_
  refine va_sld hx hb hX hbl hbA hS (vp_in_nI (n := i + 1) (by omega) (by omega)) dL_law_178 ?_
  refine lv_aload_n hx hb dL_law_179 rfl (lv_at hl 0 rfl) ?_
  refine lv_iload_n hx hb dL_law_180 rfl (lv_at hl 3 rfl) ?_
  refine lv_iconst (v := nI 2) hx hb dL_law_181 (by decide) ?_
  refine nr_iadd hx hb dL_law_182 ?_
  refine va_sld hx hb hX hbl hbA hS (vp_in_nI (n := i + 2) (by omega) (by omega)) dL_law_183 ?_
  refine lv_aload_n hx hb dL_law_184 rfl (lv_at hl 0 rfl) ?_
  refine lv_iload_n hx hb dL_law_185 rfl (lv_at hl 3 rfl) ?_
  refine lv_iconst (v := nI 3) hx hb dL_law_186 (by decide) ?_
  refine nr_iadd hx hb dL_law_187 ?_
  refine va_sld hx hb hX hbl hbA hS (vp_in_nI (n := i + 3) (by omega) (by omega)) dL_law_188 ?_
  refine lv_aload_n hx hb dL_law_189 rfl (lv_at hl 0 rfl) ?_
  refine lv_iload_n hx hb dL_law_190 rfl (lv_at hl 3 rfl) ?_
  refine lv_iconst (v := nI 4) hx hb dL_law_191 (by decide) ?_
  refine nr_iadd hx hb dL_law_192 ?_
  refine va_sld hx hb hX hbl hbA hS (vp_in_nI (n := i + 4) (by omega) (by omega)) dL_law_193 ?_
  have hPc := hP.sub (ws' := [(aN, .inr (2, [.int (nI pp), .int (nI qq), .int fc, .int fd]))]) [2] rfl
  have hDc := hD.sub (ws' := [(aN, .inr (2, [.int (nI pp), .int (nI qq), .int fc, .int fd]))]) [2] (by decide) rfl
  have hKc := hK.sub (tys' := []) [] rfl
  have hFc := va_free (wc := [(aN, .inr (2, [.int (nI pp), .int (nI qq), .int fc, .int fd]))]) hD hS hA [2] rfl
  refine va_calli (va_runV (As := [.int (xs (nI (i + 1)).toNatClampNeg), .int (xs (nI (i + 2)).toNatClampNeg), .int (xs (nI (i + 3)).toNatClampNeg), .int (xs (nI (i + 4)).toNatClampNeg)]) (rest := [.int r_1]) ⟨hx, hb, hml, hown, hts⟩ (metX2_simplest l dC dI aN H.size (nI pp) (nI qq) fc fd (xs (nI (i + 1)).toNatClampNeg) (xs (nI (i + 2)).toNatClampNeg) (xs (nI (i + 3)).toNatClampNeg) (xs (nI (i + 4)).toNatClampNeg)) (cwV 4 hts (lw_V q139 q140 q141 q8 q142) rfl rfl rfl (by decide +kernel) ⟨Nat.le_of_ble_eq_true rfl, Nat.le_of_ble_eq_true rfl⟩) ⟨fun a U g mk q => by obtain ⟨q0, q1, qP, qK, qD⟩ := q; exact ⟨q0, q1, qP, va_K.moved (u := U) (U := U.calling g mk a) (Vm.Alike.refl U.vm) qK, qD⟩, va_recv hKc hPc (ci := 2) (q0 := 0) rfl rfl, fun U hU hW => ⟨rfl, by rw [hU], by rw [hU]; exact hPc, va_K.moved hW.alike hKc, hDc.weaken (fun _ _ _ _ => trivial)⟩⟩ rfl rfl hl.1 rfl (lv_room (Nat.le_of_ble_eq_true rfl)) dL_law_194 ⟨Nat.le_of_ble_eq_true rfl, Nat.le_of_ble_eq_true rfl⟩) hS (fun q _ h => hFc q h) hFc (fun r_2 u t H locs ht hvm hw hB hz1 hk1 hS => ?_)
  obtain ⟨v0, v1, hu, hs2⟩ := hw
  subst hu
  obtain ⟨hP1, -, hD1⟩ := hB
  rw [ht] at hP1
  obtain ⟨hP, hD⟩ := va_join (wr := [(aF, .inr (0, [.ref aM, .int (nI pp), .int (nI qq)])), (aM, .inr (1, [.long w0, .long w1, .long w2, .long w3]))]) (w1 := [(aN, .inr (2, [.int (nI pp), .int (nI qq), .int v0, .int v1]))]) hP hD [2] [0, 1] rfl rfl (by decide) (by decide) hk1 hFc hP1 hD1
  have hP : va_P (dC, dI) vwCl [(aF, .inr (0, [.ref aM, .int (nI pp), .int (nI qq)])), (aM, .inr (1, [.long w0, .long w1, .long w2, .long w3])), (aN, .inr (2, [.int (nI pp), .int (nI qq), .int v0, .int v1]))] H := hP
  have hD : va_D (fun q : Nat => s.heap.size ≤ q) [(aF, .inr (0, [.ref aM, .int (nI pp), .int (nI qq)])), (aM, .inr (1, [.long w0, .long w1, .long w2, .long w3])), (aN, .inr (2, [.int (nI pp), .int (nI qq), .int v0, .int v1]))] := hD
  refine lv_icmp_eq (tgt := 268) hx hb dL_law_197 (by decide) (fun c_197 => ?_) (fun c_197 => ?_)
  · exact K aM pp qq w0 w1 w2 w3 v0 v1 H locs ls hp hq1 hq2 hP hD hS hl
  · exact absurd (fn_SA_uniq hs1 hs2) c_197
set_option maxHeartbeats 4000000 in
set_option maxRecDepth 100000 in
/-- the law, case 4 -/
theorem csL_4 {p : Program} {l : Launch} {e : Env} {s : State} {m : MethodId} {below : List Frame} {meth : Method} {c : Code} {dC : Nat → ClassId} {dI : Nat → Nat → Nat} {b L : Nat} {xs : Nat → Int32} (hL : L ≤ 320) (C0 : lw_At p s m meth c b L xs) (hK : va_K (dC, dI) vwCl [] s) {aF aN i : Nat} (hi : i + 5 ≤ L) (K : ∀ (aM pp qq : Nat) (f0 f1 f2 f3 : Int64) (fc fd : Int32) (H : Heap) (locs : List Loc) (ls : Array Slot), pp < 1048576 → 1 ≤ qq → qq ≤ 1048576 → va_P (dC, dI) vwCl [(aF, .inr (0, [.ref aM, .int (nI pp), .int (nI qq)])), (aM, .inr (1, [.long f0, .long f1, .long f2, .long f3])), (aN, .inr (2, [.int (nI pp), .int (nI qq), .int fc, .int fd]))] H → va_D (fun q : Nat => s.heap.size ≤ q) [(aF, .inr (0, [.ref aM, .int (nI pp), .int (nI qq)])), (aM, .inr (1, [.long f0, .long f1, .long f2, .long f3])), (aN, .inr (2, [.int (nI pp), .int (nI qq), .int fc, .int fd]))] → va_S (fun q : Nat => s.heap.size ≤ q) s.heap H locs → lv_has ls 4 [(0, .ref b), (1, .ref aF), (2, .ref aN), (3, .int (nI i))] → W p l e room_1 s m #[Value.ref b] below meth c H locs 3 11 (lw_Z below #[Value.ref b] s) (F0 m 268 ls [])) (aM pp qq : Nat) (f0 f1 f2 f3 : Int64) (fc fd : Int32) (H : Heap) (locs : List Loc) (hp : pp < 1048576) (hq1 : 1 ≤ qq) (hq2 : qq ≤ 1048576) (hP : va_P (dC, dI) vwCl [(aF, .inr (0, [.ref aM, .int (nI pp), .int (nI qq)])), (aM, .inr (1, [.long f0, .long f1, .long f2, .long f3])), (aN, .inr (2, [.int (nI pp), .int (nI qq), .int fc, .int fd]))] H) (hD : va_D (fun q : Nat => s.heap.size ≤ q) [(aF, .inr (0, [.ref aM, .int (nI pp), .int (nI qq)])), (aM, .inr (1, [.long f0, .long f1, .long f2, .long f3])), (aN, .inr (2, [.int (nI pp), .int (nI qq), .int fc, .int fd]))]) (hS : va_S (fun q : Nat => s.heap.size ≤ q) s.heap H locs) (ls : Array Slot) (hl : lv_has ls 4 [(0, .ref b), (1, .ref aF), (2, .ref aN), (3, .int (nI i))]) : W p l e room_1 s m #[Value.ref b] below meth c H locs 3 11 (lw_Z below #[Value.ref b] s) (F0 m 202 ls []) := by
  obtain ⟨hx, hb, hr, hml, hown, hts0, hX, hbl, hlocks, hgv⟩ := C0
  have hts : ∀ w ∈ lw_all, w.before #[Value.ref b] s = true := fun w h => hts0 w (lw_all_tbl h)
  have hA : ∀ q : Nat, s.heap.size ≤ q → (fun q : Nat => s.heap.size ≤ q) q := fun _ h => h
  have hbA : ¬ (fun q : Nat => s.heap.size ≤ q) b := Nat.not_le.mpr hbl
  refine lv_aload_n hx hb dL_law_202 rfl (lv_at hl 1 rfl) ?_
  refine lv_aload_n hx hb dL_law_203 rfl (lv_at hl 0 rfl) ?_
  refine lv_iload_n hx hb dL_law_204 rfl (lv_at hl 3 rfl) ?_
  refine lv_iconst (v := nI 1) hx hb dL_law_205 (by decide) ?_
  refine nr_iadd hx hb dL_law_206 ?_
  refine va_sld hx hb hX hbl hbA hS (vp_in_nI (n := i + 1) (by omega) (by omega)) dL_law_207 ?_
  refine lv_aload_n hx hb dL_law_208 rfl (lv_at hl 0 rfl) ?_
  refine lv_iload_n hx hb dL_law_209 rfl (lv_at hl 3 rfl) ?_
  refine lv_iconst (v := nI 2) hx hb dL_law_210 (by decide) ?_
  refine nr_iadd hx hb dL_law_211 ?_
  refine va_sld hx hb hX hbl hbA hS (vp_in_nI (n := i + 2) (by omega) (by omega)) dL_law_212 ?_
  refine lv_aload_n hx hb dL_law_213 rfl (lv_at hl 0 rfl) ?_
  refine lv_iload_n hx hb dL_law_214 rfl (lv_at hl 3 rfl) ?_
  refine lv_iconst (v := nI 3) hx hb dL_law_215 (by decide) ?_
  refine nr_iadd hx hb dL_law_216 ?_
  refine va_sld hx hb hX hbl hbA hS (vp_in_nI (n := i + 3) (by omega) (by omega)) dL_law_217 ?_
  refine lv_aload_n hx hb dL_law_218 rfl (lv_at hl 0 rfl) ?_
  refine lv_iload_n hx hb dL_law_219 rfl (lv_at hl 3 rfl) ?_
  refine lv_iconst (v := nI 4) hx hb dL_law_220 (by decide) ?_
  refine nr_iadd hx hb dL_law_221 ?_
  refine va_sld hx hb hX hbl hbA hS (vp_in_nI (n := i + 4) (by omega) (by omega)) dL_law_222 ?_
  have hPc := hP.sub (ws' := [(aF, .inr (0, [.ref aM, .int (nI pp), .int (nI qq)])), (aM, .inr (1, [.long f0, .long f1, .long f2, .long f3]))]) [0, 1] rfl
  have hDc := hD.sub (ws' := [(aF, .inr (0, [.ref aM, .int (nI pp), .int (nI qq)])), (aM, .inr (1, [.long f0, .long f1, .long f2, .long f3]))]) [0, 1] (by decide) rfl
  have hKc := hK.sub (tys' := []) [] rfl
  have hFc := va_free (wc := [(aF, .inr (0, [.ref aM, .int (nI pp), .int (nI qq)])), (aM, .inr (1, [.long f0, .long f1, .long f2, .long f3]))]) hD hS hA [0, 1] rfl
  refine va_calli (va_runV (As := [.int (xs (nI (i + 1)).toNatClampNeg), .int (xs (nI (i + 2)).toNatClampNeg), .int (xs (nI (i + 3)).toNatClampNeg), .int (xs (nI (i + 4)).toNatClampNeg)]) (rest := []) ⟨hx, hb, hml, hown, hts⟩ (metX0_under l dC dI aF aM H.size (nI pp) (nI qq) f0 f1 f2 f3 (xs (nI (i + 1)).toNatClampNeg) (xs (nI (i + 2)).toNatClampNeg) (xs (nI (i + 3)).toNatClampNeg) (xs (nI (i + 4)).toNatClampNeg)) (cwV 4 hts (lw_V q91 q92 q93 q6 q94) rfl rfl rfl (by decide +kernel) ⟨Nat.le_of_ble_eq_true rfl, Nat.le_of_ble_eq_true rfl⟩) ⟨fun a U g mk q => by obtain ⟨q0, q1, qP, qK, qD⟩ := q; exact ⟨q0, q1, qP, va_K.moved (u := U) (U := U.calling g mk a) (Vm.Alike.refl U.vm) qK, qD⟩, va_recv hKc hPc (ci := 0) (q0 := 0) rfl rfl, fun U hU hW => ⟨rfl, by rw [hU], by rw [hU]; exact hPc, va_K.moved hW.alike hKc, hDc.weaken (fun _ _ _ _ => trivial)⟩⟩ rfl rfl hl.1 rfl (lv_room (Nat.le_of_ble_eq_true rfl)) dL_law_223 ⟨Nat.le_of_ble_eq_true rfl, Nat.le_of_ble_eq_true rfl⟩) hS (fun q _ h => hFc q h) hFc (fun r_1 u t H locs ht hvm hw hB hz1 hk1 hS => ?_)
  obtain ⟨w0, w1, w2, w3⟩ := u
  have hs1 := hw
  obtain ⟨hP1, -, hD1⟩ := hB
  rw [ht] at hP1
  obtain ⟨hP, hD⟩ := va_join (wr := [(aN, .inr (2, [.int (nI pp), .int (nI qq), .int fc, .int fd]))]) (w1 := [(aF, .inr (0, [.ref aM, .int (nI pp), .int (nI qq)])), (aM, .inr (1, [.long w0, .long w1, .long w2, .long w3]))]) hP hD [0, 1] [2] rfl rfl (by decide) (by decide) hk1 hFc hP1 hD1
  have hP : va_P (dC, dI) vwCl [(aN, .inr (2, [.int (nI pp), .int (nI qq), .int fc, .int fd])), (aF, .inr (0, [.ref aM, .int (nI pp), .int (nI qq)])), (aM, .inr (1, [.long w0, .long w1, .long w2, .long w3]))] H := hP
  have hD : va_D (fun q : Nat => s.heap.size ≤ q) [(aN, .inr (2, [.int (nI pp), .int (nI qq), .int fc, .int fd])), (aF, .inr (0, [.ref aM, .int (nI pp), .int (nI qq)])), (aM, .inr (1, [.long w0, .long w1, .long w2, .long w3]))] := hD
  have hP := hP.sub (ws' := [(aF, .inr (0, [.ref aM, .int (nI pp), .int (nI qq)])), (aM, .inr (1, [.long w0, .long w1, .long w2, .long w3])), (aN, .inr (2, [.int (nI pp), .int (nI qq), .int fc, .int fd]))]) [1, 2, 0] rfl
  have hD := hD.sub (ws' := [(aF, .inr (0, [.ref aM, .int (nI pp), .int (nI qq)])), (aM, .inr (1, [.long w0, .long w1, .long w2, .long w3])), (aN, .inr (2, [.int (nI pp), .int (nI qq), .int fc, .int fd]))]) [1, 2, 0] (by decide) rfl
  refine lv_aload_n hx hb dL_law_226 rfl (lv_at hl 2 rfl) ?_
  refine lv_aload_n hx hb dL_law_227 rfl (lv_at hl 0 rfl) ?_
  refine lv_iload_n hx hb dL_law_228 rfl (lv_at hl 3 rfl) ?_
  refine lv_iconst (v := nI 1) hx hb dL_law_229 (by decide) ?_
  refine nr_iadd hx hb dL_law_230 ?_
  refine va_sld hx hb hX hbl hbA hS (vp_in_nI (n := i + 1) (by omega) (by omega)) dL_law_231 ?_
  refine lv_aload_n hx hb dL_law_232 rfl (lv_at hl 0 rfl) ?_
  refine lv_iload_n hx hb dL_law_233 rfl (lv_at hl 3 rfl) ?_
  refine lv_iconst (v := nI 2) hx hb dL_law_234 (by decide) ?_
  refine nr_iadd hx hb dL_law_235 ?_
  refine va_sld hx hb hX hbl hbA hS (vp_in_nI (n := i + 2) (by omega) (by omega)) dL_law_236 ?_
  refine lv_aload_n hx hb dL_law_237 rfl (lv_at hl 0 rfl) ?_
  refine lv_iload_n hx hb dL_law_238 rfl (lv_at hl 3 rfl) ?_
  refine lv_iconst (v := nI 3) hx hb dL_law_239 (by decide) ?_
  refine nr_iadd hx hb dL_law_240 ?_
  refine va_sld hx hb hX hbl hbA hS (vp_in_nI (n := i + 3) (by omega) (by omega)) dL_law_241 ?_
  refine lv_aload_n hx hb dL_law_242 rfl (lv_at hl 0 rfl) ?_
  refine lv_iload_n hx hb dL_law_243 rfl (lv_at hl 3 rfl) ?_
  refine lv_iconst (v := nI 4) hx hb dL_law_244 (by decide) ?_
  refine nr_iadd hx hb dL_law_245 ?_
  refine va_sld hx hb hX hbl hbA hS (vp_in_nI (n := i + 4) (by omega) (by omega)) dL_law_246 ?_
  have hPc := hP.sub (ws' := [(aN, .inr (2, [.int (nI pp), .int (nI qq), .int fc, .int fd]))]) [2] rfl
  have hDc := hD.sub (ws' := [(aN, .inr (2, [.int (nI pp), .int (nI qq), .int fc, .int fd]))]) [2] (by decide) rfl
  have hKc := hK.sub (tys' := []) [] rfl
  have hFc := va_free (wc := [(aN, .inr (2, [.int (nI pp), .int (nI qq), .int fc, .int fd]))]) hD hS hA [2] rfl
  refine va_calli (va_runV (As := [.int (xs (nI (i + 1)).toNatClampNeg), .int (xs (nI (i + 2)).toNatClampNeg), .int (xs (nI (i + 3)).toNatClampNeg), .int (xs (nI (i + 4)).toNatClampNeg)]) (rest := [.int r_1]) ⟨hx, hb, hml, hown, hts⟩ (metX2_under l dC dI aN H.size (nI pp) (nI qq) fc fd (xs (nI (i + 1)).toNatClampNeg) (xs (nI (i + 2)).toNatClampNeg) (xs (nI (i + 3)).toNatClampNeg) (xs (nI (i + 4)).toNatClampNeg)) (cwV 4 hts (lw_V q148 q149 q150 q8 q151) rfl rfl rfl (by decide +kernel) ⟨Nat.le_of_ble_eq_true rfl, Nat.le_of_ble_eq_true rfl⟩) ⟨fun a U g mk q => by obtain ⟨q0, q1, qP, qK, qD⟩ := q; exact ⟨q0, q1, qP, va_K.moved (u := U) (U := U.calling g mk a) (Vm.Alike.refl U.vm) qK, qD⟩, va_recv hKc hPc (ci := 2) (q0 := 0) rfl rfl, fun U hU hW => ⟨rfl, by rw [hU], by rw [hU]; exact hPc, va_K.moved hW.alike hKc, hDc.weaken (fun _ _ _ _ => trivial)⟩⟩ rfl rfl hl.1 rfl (lv_room (Nat.le_of_ble_eq_true rfl)) dL_law_247 ⟨Nat.le_of_ble_eq_true rfl, Nat.le_of_ble_eq_true rfl⟩) hS (fun q _ h => hFc q h) hFc (fun r_2 u t H locs ht hvm hw hB hz1 hk1 hS => ?_)
  obtain ⟨v0, v1, hu, hs2⟩ := hw
  subst hu
  obtain ⟨hP1, -, hD1⟩ := hB
  rw [ht] at hP1
  obtain ⟨hP, hD⟩ := va_join (wr := [(aF, .inr (0, [.ref aM, .int (nI pp), .int (nI qq)])), (aM, .inr (1, [.long w0, .long w1, .long w2, .long w3]))]) (w1 := [(aN, .inr (2, [.int (nI pp), .int (nI qq), .int v0, .int v1]))]) hP hD [2] [0, 1] rfl rfl (by decide) (by decide) hk1 hFc hP1 hD1
  have hP : va_P (dC, dI) vwCl [(aF, .inr (0, [.ref aM, .int (nI pp), .int (nI qq)])), (aM, .inr (1, [.long w0, .long w1, .long w2, .long w3])), (aN, .inr (2, [.int (nI pp), .int (nI qq), .int v0, .int v1]))] H := hP
  have hD : va_D (fun q : Nat => s.heap.size ≤ q) [(aF, .inr (0, [.ref aM, .int (nI pp), .int (nI qq)])), (aM, .inr (1, [.long w0, .long w1, .long w2, .long w3])), (aN, .inr (2, [.int (nI pp), .int (nI qq), .int v0, .int v1]))] := hD
  refine lv_icmp_eq (tgt := 268) hx hb dL_law_250 (by decide) (fun c_250 => ?_) (fun c_250 => ?_)
  · exact K aM pp qq w0 w1 w2 w3 v0 v1 H locs ls hp hq1 hq2 hP hD hS hl
  · exact absurd (fn_SB_uniq hs1 hs2) c_250
set_option maxHeartbeats 4000000 in
set_option maxRecDepth 100000 in
/-- the law, case 5 -/
theorem csL_5 {p : Program} {l : Launch} {e : Env} {s : State} {m : MethodId} {below : List Frame} {meth : Method} {c : Code} {dC : Nat → ClassId} {dI : Nat → Nat → Nat} {b L : Nat} {xs : Nat → Int32} (hL : L ≤ 320) (C0 : lw_At p s m meth c b L xs) (hK : va_K (dC, dI) vwCl [] s) {aF aN i : Nat} (hi : i + 5 ≤ L) (K : ∀ (aM pp qq : Nat) (f0 f1 f2 f3 : Int64) (fc fd : Int32) (H : Heap) (locs : List Loc) (ls : Array Slot), pp < 1048576 → 1 ≤ qq → qq ≤ 1048576 → va_P (dC, dI) vwCl [(aF, .inr (0, [.ref aM, .int (nI pp), .int (nI qq)])), (aM, .inr (1, [.long f0, .long f1, .long f2, .long f3])), (aN, .inr (2, [.int (nI pp), .int (nI qq), .int fc, .int fd]))] H → va_D (fun q : Nat => s.heap.size ≤ q) [(aF, .inr (0, [.ref aM, .int (nI pp), .int (nI qq)])), (aM, .inr (1, [.long f0, .long f1, .long f2, .long f3])), (aN, .inr (2, [.int (nI pp), .int (nI qq), .int fc, .int fd]))] → va_S (fun q : Nat => s.heap.size ≤ q) s.heap H locs → lv_has ls 4 [(0, .ref b), (1, .ref aF), (2, .ref aN), (3, .int (nI i))] → W p l e room_1 s m #[Value.ref b] below meth c H locs 3 11 (lw_Z below #[Value.ref b] s) (F0 m 268 ls [])) (aM pp qq : Nat) (f0 f1 f2 f3 : Int64) (fc fd : Int32) (H : Heap) (locs : List Loc) (hp : pp < 1048576) (hq1 : 1 ≤ qq) (hq2 : qq ≤ 1048576) (hP : va_P (dC, dI) vwCl [(aF, .inr (0, [.ref aM, .int (nI pp), .int (nI qq)])), (aM, .inr (1, [.long f0, .long f1, .long f2, .long f3])), (aN, .inr (2, [.int (nI pp), .int (nI qq), .int fc, .int fd]))] H) (hD : va_D (fun q : Nat => s.heap.size ≤ q) [(aF, .inr (0, [.ref aM, .int (nI pp), .int (nI qq)])), (aM, .inr (1, [.long f0, .long f1, .long f2, .long f3])), (aN, .inr (2, [.int (nI pp), .int (nI qq), .int fc, .int fd]))]) (hS : va_S (fun q : Nat => s.heap.size ≤ q) s.heap H locs) (ls : Array Slot) (hl : lv_has ls 4 [(0, .ref b), (1, .ref aF), (2, .ref aN), (3, .int (nI i))]) : W p l e room_1 s m #[Value.ref b] below meth c H locs 3 11 (lw_Z below #[Value.ref b] s) (F0 m 255 ls []) := by
  obtain ⟨hx, hb, hr, hml, hown, hts0, hX, hbl, hlocks, hgv⟩ := C0
  have hts : ∀ w ∈ lw_all, w.before #[Value.ref b] s = true := fun w h => hts0 w (lw_all_tbl h)
  have hA : ∀ q : Nat, s.heap.size ≤ q → (fun q : Nat => s.heap.size ≤ q) q := fun _ h => h
  have hbA : ¬ (fun q : Nat => s.heap.size ≤ q) b := Nat.not_le.mpr hbl
  refine lv_aload_n hx hb dL_law_255 rfl (lv_at hl 1 rfl) ?_
  have hPc := hP.sub (ws' := [(aF, .inr (0, [.ref aM, .int (nI pp), .int (nI qq)]))]) [0] rfl
  have hDc := hD.sub (ws' := [(aF, .inr (0, [.ref aM, .int (nI pp), .int (nI qq)]))]) [0] (by decide) rfl
  have hKc := hK.sub (tys' := []) [] rfl
  have hFc := va_free (wc := [(aF, .inr (0, [.ref aM, .int (nI pp), .int (nI qq)]))]) hD hS hA [0] rfl
  refine va_calli (va_runV (As := []) (rest := []) ⟨hx, hb, hml, hown, hts⟩ (metX0_depth l dC dI aF aM H.size pp qq (by omega) (by omega)) (cwV 0 hts (lw_V q95 q96 q97 q6 q98) rfl rfl rfl (by decide +kernel) ⟨Nat.le_of_ble_eq_true rfl, Nat.le_of_ble_eq_true rfl⟩) ⟨fun a U g mk q => by obtain ⟨q0, q1, qP, qK, qD⟩ := q; exact ⟨q0, q1, qP, va_K.moved (u := U) (U := U.calling g mk a) (Vm.Alike.refl U.vm) qK, qD⟩, va_recv hKc hPc (ci := 0) (q0 := 0) rfl rfl, fun U hU hW => ⟨rfl, by rw [hU], by rw [hU]; exact hPc, va_K.moved hW.alike hKc, hDc.weaken (fun _ _ _ _ => trivial)⟩⟩ rfl rfl hl.1 rfl (lv_room (Nat.le_of_ble_eq_true rfl)) dL_law_256 ⟨Nat.le_of_ble_eq_true rfl, Nat.le_of_ble_eq_true rfl⟩) hS (fun q _ h => hFc q h) hFc (fun r_1 u t H locs ht hvm hw hB hz1 hk1 hS => ?_)
  have hw : r_1 = nI (fn_len (qq + 1) pp qq) ∧ u = (nI pp, nI qq) := hw
  obtain ⟨er, hu⟩ := hw
  subst hu
  subst er
  obtain ⟨hP1, -, hD1⟩ := hB
  rw [ht] at hP1
  obtain ⟨hP, hD⟩ := va_join (wr := [(aM, .inr (1, [.long f0, .long f1, .long f2, .long f3])), (aN, .inr (2, [.int (nI pp), .int (nI qq), .int fc, .int fd]))]) (w1 := [(aF, .inr (0, [.ref aM, .int (nI pp), .int (nI qq)]))]) hP hD [0] [1, 2] rfl rfl (by decide) (by decide) hk1 hFc hP1 hD1
  have hP : va_P (dC, dI) vwCl [(aM, .inr (1, [.long f0, .long f1, .long f2, .long f3])), (aN, .inr (2, [.int (nI pp), .int (nI qq), .int fc, .int fd])), (aF, .inr (0, [.ref aM, .int (nI pp), .int (nI qq)]))] H := hP
  have hD : va_D (fun q : Nat => s.heap.size ≤ q) [(aM, .inr (1, [.long f0, .long f1, .long f2, .long f3])), (aN, .inr (2, [.int (nI pp), .int (nI qq), .int fc, .int fd])), (aF, .inr (0, [.ref aM, .int (nI pp), .int (nI qq)]))] := hD
  have hP := hP.sub (ws' := [(aF, .inr (0, [.ref aM, .int (nI pp), .int (nI qq)])), (aM, .inr (1, [.long f0, .long f1, .long f2, .long f3])), (aN, .inr (2, [.int (nI pp), .int (nI qq), .int fc, .int fd]))]) [2, 0, 1] rfl
  have hD := hD.sub (ws' := [(aF, .inr (0, [.ref aM, .int (nI pp), .int (nI qq)])), (aM, .inr (1, [.long f0, .long f1, .long f2, .long f3])), (aN, .inr (2, [.int (nI pp), .int (nI qq), .int fc, .int fd]))]) [2, 0, 1] (by decide) rfl
  refine lv_aload_n hx hb dL_law_259 rfl (lv_at hl 2 rfl) ?_
  have hPc := hP.sub (ws' := [(aN, .inr (2, [.int (nI pp), .int (nI qq), .int fc, .int fd]))]) [2] rfl
  have hDc := hD.sub (ws' := [(aN, .inr (2, [.int (nI pp), .int (nI qq), .int fc, .int fd]))]) [2] (by decide) rfl
  have hKc := hK.sub (tys' := []) [] rfl
  have hFc := va_free (wc := [(aN, .inr (2, [.int (nI pp), .int (nI qq), .int fc, .int fd]))]) hD hS hA [2] rfl
  refine va_calli (va_runV (As := []) (rest := [.int (nI (fn_len (qq + 1) pp qq))]) ⟨hx, hb, hml, hown, hts⟩ (metX2_depth l dC dI aN H.size pp qq (by omega) (by omega) fc fd) (cwV 0 hts (lw_V q152 q153 q154 q8 q155) rfl rfl rfl (by decide +kernel) ⟨Nat.le_of_ble_eq_true rfl, Nat.le_of_ble_eq_true rfl⟩) ⟨fun a U g mk q => by obtain ⟨q0, q1, qP, qK, qD⟩ := q; exact ⟨q0, q1, qP, va_K.moved (u := U) (U := U.calling g mk a) (Vm.Alike.refl U.vm) qK, qD⟩, va_recv hKc hPc (ci := 2) (q0 := 0) rfl rfl, fun U hU hW => ⟨rfl, by rw [hU], by rw [hU]; exact hPc, va_K.moved hW.alike hKc, hDc.weaken (fun _ _ _ _ => trivial)⟩⟩ rfl rfl hl.1 rfl (lv_room (Nat.le_of_ble_eq_true rfl)) dL_law_260 ⟨Nat.le_of_ble_eq_true rfl, Nat.le_of_ble_eq_true rfl⟩) hS (fun q _ h => hFc q h) hFc (fun r_2 u t H locs ht hvm hw hB hz1 hk1 hS => ?_)
  have hw : r_2 = nI (fn_len (qq + 1) pp qq) ∧ u = (nI pp, nI qq, fc, fd) := hw
  obtain ⟨er, hu⟩ := hw
  subst hu
  subst er
  obtain ⟨hP1, -, hD1⟩ := hB
  rw [ht] at hP1
  obtain ⟨hP, hD⟩ := va_join (wr := [(aF, .inr (0, [.ref aM, .int (nI pp), .int (nI qq)])), (aM, .inr (1, [.long f0, .long f1, .long f2, .long f3]))]) (w1 := [(aN, .inr (2, [.int (nI pp), .int (nI qq), .int fc, .int fd]))]) hP hD [2] [0, 1] rfl rfl (by decide) (by decide) hk1 hFc hP1 hD1
  have hP : va_P (dC, dI) vwCl [(aF, .inr (0, [.ref aM, .int (nI pp), .int (nI qq)])), (aM, .inr (1, [.long f0, .long f1, .long f2, .long f3])), (aN, .inr (2, [.int (nI pp), .int (nI qq), .int fc, .int fd]))] H := hP
  have hD : va_D (fun q : Nat => s.heap.size ≤ q) [(aF, .inr (0, [.ref aM, .int (nI pp), .int (nI qq)])), (aM, .inr (1, [.long f0, .long f1, .long f2, .long f3])), (aN, .inr (2, [.int (nI pp), .int (nI qq), .int fc, .int fd]))] := hD
  refine lv_icmp_eq (tgt := 268) hx hb dL_law_263 (by decide) (fun c_263 => ?_) (fun c_263 => ?_)
  · exact K aM pp qq f0 f1 f2 f3 fc fd H locs ls hp hq1 hq2 hP hD hS hl
  · exact absurd rfl c_263
set_option maxHeartbeats 4000000 in
set_option maxRecDepth 100000 in
/-- the law's loop: at its head component and reference hold the same fraction -/
theorem law_loop {p : Program} {l : Launch} {e : Env} {s : State} {m : MethodId} {below : List Frame} {meth : Method} {c : Code} {dC : Nat → ClassId} {dI : Nat → Nat → Nat} {b L : Nat} {xs : Nat → Int32} (hL : L ≤ 320) (C0 : lw_At p s m meth c b L xs) (hK : va_K (dC, dI) vwCl [] s) {aF aN : Nat} :
    ∀ (n i : Nat), L + 1 ≤ i + n → i ≤ L → ∀ (aM pp qq : Nat) (f0 f1 f2 f3 : Int64) (fc fd : Int32) (H : Heap) (locs : List Loc), pp < 1048576 → 1 ≤ qq → qq ≤ 1048576 → va_P (dC, dI) vwCl [(aF, .inr (0, [.ref aM, .int (nI pp), .int (nI qq)])), (aM, .inr (1, [.long f0, .long f1, .long f2, .long f3])), (aN, .inr (2, [.int (nI pp), .int (nI qq), .int fc, .int fd]))] H → va_D (fun q : Nat => s.heap.size ≤ q) [(aF, .inr (0, [.ref aM, .int (nI pp), .int (nI qq)])), (aM, .inr (1, [.long f0, .long f1, .long f2, .long f3])), (aN, .inr (2, [.int (nI pp), .int (nI qq), .int fc, .int fd]))] → va_S (fun q : Nat => s.heap.size ≤ q) s.heap H locs → ∀ ls : Array Slot, lv_has ls 4 [(0, .ref b), (1, .ref aF), (2, .ref aN), (3, .int (nI i))] → W p l e room_1 s m #[Value.ref b] below meth c H locs 3 11 (lw_Z below #[Value.ref b] s) (F0 m 18 ls []) := by
  have C1 := C0
  obtain ⟨hx, hb, hr, hml, hown, hts0, hX, hbl, hlocks, hgv⟩ := C0
  have hts : ∀ w ∈ lw_all, w.before #[Value.ref b] s = true := fun w h => hts0 w (lw_all_tbl h)
  have hA : ∀ q : Nat, s.heap.size ≤ q → (fun q : Nat => s.heap.size ≤ q) q := fun _ h => h
  have hbA : ¬ (fun q : Nat => s.heap.size ≤ q) b := Nat.not_le.mpr hbl
  intro n
  induction n with
  | zero =>
    intro i h1 h2
    exact absurd h1 (by omega)
  | succ n ih =>
    intro i hin hiL aM pp qq f0 f1 f2 f3 fc fd H locs hp hq1 hq2 hP hD hS ls hl
    refine lv_iload_n hx hb dL_law_18 rfl (lv_at hl 3 rfl) ?_
    refine lv_aload_n hx hb dL_law_19 rfl (lv_at hl 0 rfl) ?_
    refine nr_slen hx hb hX hbl hbA hS dL_law_20 ?_
    refine lv_iconst (v := nI 5) hx hb dL_law_21 (by decide) ?_
    refine lv_isub hx hb dL_law_22 ?_
    refine lv_icmp_gt (tgt := 274) hx hb dL_law_23 (by decide) (fun c_23 => ?_) (fun c_23 => ?_)
    · refine lv_iconst (v := 1) hx hb dL_law_274 (by decide) ?_
      refine va_forget (fun q hq => hS.2.2 q hq) ?_
      refine W.widen (k := 600000) (n := 7290000) (Nat.le_of_ble_eq_true rfl) (Nat.le_of_ble_eq_true rfl) ?_
      exact lw_ret hx hb hr hlocks dL_law_275
    · have hi : i + 5 ≤ L := by
        rcases Nat.lt_or_ge L (i + 5) with g | g
        · exact absurd ((lw_past (by omega) (by omega)).mpr g) c_23
        · exact g
      have hend : ∀ (aM pp qq : Nat) (f0 f1 f2 f3 : Int64) (fc fd : Int32) (H : Heap) (locs : List Loc) (ls : Array Slot), pp < 1048576 → 1 ≤ qq → qq ≤ 1048576 → va_P (dC, dI) vwCl [(aF, .inr (0, [.ref aM, .int (nI pp), .int (nI qq)])), (aM, .inr (1, [.long f0, .long f1, .long f2, .long f3])), (aN, .inr (2, [.int (nI pp), .int (nI qq), .int fc, .int fd]))] H → va_D (fun q : Nat => s.heap.size ≤ q) [(aF, .inr (0, [.ref aM, .int (nI pp), .int (nI qq)])), (aM, .inr (1, [.long f0, .long f1, .long f2, .long f3])), (aN, .inr (2, [.int (nI pp), .int (nI qq), .int fc, .int fd]))] → va_S (fun q : Nat => s.heap.size ≤ q) s.heap H locs → lv_has ls 4 [(0, .ref b), (1, .ref aF), (2, .ref aN), (3, .int (nI i))] → W p l e room_1 s m #[Value.ref b] below meth c H locs 3 11 (lw_Z below #[Value.ref b] s) (F0 m 268 ls []) := by
        intro aM pp qq f0 f1 f2 f3 fc fd H locs ls hp hq1 hq2 hP hD hS hl
        refine lv_iinc (v := nI (i + 5)) (lv' := [(3, .int (nI (i + 5))), (0, .ref b), (1, .ref aF), (2, .ref aN)]) hx hb dL_law_268 hl (k := 3) rfl (nI_add i 5) (by decide) rfl (fun ls hl => ?_)
        refine lv_goto (tgt := 18) hx hb dL_law_271 (by decide) ?_
        exact ih (i + 5) (by omega) (by omega) aM pp qq f0 f1 f2 f3 fc fd H locs hp hq1 hq2 hP hD hS ls (lv_sub hl [1, 2, 3, 0] rfl)
      refine lv_aload_n hx hb dL_law_26 rfl (lv_at hl 0 rfl) ?_
      refine lv_iload_n hx hb dL_law_27 rfl (lv_at hl 3 rfl) ?_
      refine va_sld hx hb hX hbl hbA hS (vp_in_nI (n := i) (by omega) (by omega)) dL_law_28 ?_
      refine lv_bipush (v := nI 7) hx hb dL_law_29 (by decide) ?_
      refine nr_iand hx hb 3 (by decide) dL_law_31 ?_
      have hsw := mk_lt 3 (xs (nI i).toNatClampNeg)
      generalize mk_ 3 (xs (nI i).toNatClampNeg) = sw at hsw ⊢
      rcases (show sw = 0 ∨ sw = 1 ∨ sw = 2 ∨ sw = 3 ∨ sw = 4 ∨ sw = 5 ∨ sw = 6 ∨ sw = 7 by omega) with rfl | rfl | rfl | rfl | rfl | rfl | rfl | rfl
      · refine lv_tableIn (off := 40) (tgt := 72) hx hb dL_law_32 (by decide) (by decide) (by decide) (by decide) ?_
        exact csL_0 hL C1 hK hi hend aM pp qq f0 f1 f2 f3 fc fd H locs hp hq1 hq2 hP hD hS ls hl
      · refine lv_tableIn (off := 71) (tgt := 103) hx hb dL_law_32 (by decide) (by decide) (by decide) (by decide) ?_
        exact csL_1 hL C1 hK hi hend aM pp qq f0 f1 f2 f3 fc fd H locs hp hq1 hq2 hP hD hS ls hl
      · refine lv_tableIn (off := 94) (tgt := 126) hx hb dL_law_32 (by decide) (by decide) (by decide) (by decide) ?_
        exact csL_2 hL C1 hK hi hend aM pp qq f0 f1 f2 f3 fc fd H locs hp hq1 hq2 hP hD hS ls hl
      · refine lv_tableIn (off := 117) (tgt := 149) hx hb dL_law_32 (by decide) (by decide) (by decide) (by decide) ?_
        exact csL_3 hL C1 hK hi hend aM pp qq f0 f1 f2 f3 fc fd H locs hp hq1 hq2 hP hD hS ls hl
      · refine lv_tableIn (off := 170) (tgt := 202) hx hb dL_law_32 (by decide) (by decide) (by decide) (by decide) ?_
        exact csL_4 hL C1 hK hi hend aM pp qq f0 f1 f2 f3 fc fd H locs hp hq1 hq2 hP hD hS ls hl
      · refine lv_tableIn (off := 223) (tgt := 255) hx hb dL_law_32 (by decide) (by decide) (by decide) (by decide) ?_
        exact csL_5 hL C1 hK hi hend aM pp qq f0 f1 f2 f3 fc fd H locs hp hq1 hq2 hP hD hS ls hl
      · refine lv_tableOut (tgt := 268) hx hb dL_law_32 (Or.inr (by decide)) (by decide) ?_
        exact hend aM pp qq f0 f1 f2 f3 fc fd H locs ls hp hq1 hq2 hP hD hS hl
      · refine lv_tableOut (tgt := 268) hx hb dL_law_32 (Or.inr (by decide)) (by decide) ?_
        exact hend aM pp qq f0 f1 f2 f3 fc fd H locs ls hp hq1 hq2 hP hD hS hl
end
section
/-! THE LAW from its entry, and the claim -/
set_option maxHeartbeats 4000000 in
set_option maxRecDepth 100000 in
theorem whole_start {p : Program} {e : Env} {s : State} {m : MethodId} {below : List Frame} {meth : Method} {c : Code} (l : Launch) {b L : Nat} {xs : Nat → Int32} (hL : L ≤ 320) (C0 : lw_At p s m meth c b L xs) : W p l e room_1 s m #[Value.ref b] below meth c s.heap [] 0 0 (lw_Z below #[Value.ref b] s) (entryFrame m ([Value.ref b] : List Value).toArray 4) := by
  obtain ⟨hx, hb, hr, hml, hown, hts0, hX, hbl, hlocks, hgv⟩ := id C0
  have hts : ∀ w ∈ lw_all, w.before #[Value.ref b] s = true := fun w h => hts0 w (lw_all_tbl h)
  have hA : ∀ q : Nat, s.heap.size ≤ q → (fun q : Nat => s.heap.size ≤ q) q := fun _ h => h
  have hNw : va_Nw (.methodLinkNest RX0 9 yX1_init "FractionNear") s := va_Nw.of rfl (hts0 _ q20)
  obtain ⟨c0, iS0, hKn0⟩ := u_known (C := RX0) (T := TX0) (N := 3) (n := 3) hts in_X0 (hts _ q11)
  obtain ⟨c1, iS1, hKn1⟩ := u_known (C := RX1) (T := TX1) (N := 4) (n := 4) hts in_X1 (hts _ q19)
  obtain ⟨c2, iS2, hKn2⟩ := u_known (C := RX2) (T := TX2) (N := 4) (n := 4) hts in_X2 (hts _ q100)
  obtain ⟨dC, dI, hKc⟩ : ∃ (dC : Nat → ClassId) (dI : Nat → Nat → Nat), ∀ (k : Nat) (q : vw_C), vwCl[k]? = some q → u_Kn s q.1 q.2.1 q.2.2 (dC k) (dI k) := by
    refine ⟨fun k => if k = 0 then c0 else if k = 1 then c1 else c2, fun k => if k = 0 then iS0 else if k = 1 then iS1 else iS2, ?_⟩
    intro k q hq
    match k, hq with
    | 0, hq => cases hq; exact hKn0
    | 1, hq => cases hq; exact hKn1
    | 2, hq => cases hq; exact hKn2
    | k + 3, hq => simp [vwCl] at hq
  have hS : va_S (fun q : Nat => s.heap.size ≤ q) s.heap s.heap [] := va_S.rf
  have hK : va_K (dC, dI) vwCl [] s := ⟨hKc, fun k q h => by simp at h⟩
  have hP : va_P (dC, dI) vwCl [] s.heap := fun k q h => by simp at h
  have hD : va_D (fun q : Nat => s.heap.size ≤ q) [] := ⟨fun i j p q h => by simp at h, fun k q h => by simp at h⟩
  have hl := lv_entry ([.ref b]) (n := 4) (Nat.le_of_ble_eq_true rfl)
  rw [lg_entry_eq]
  generalize (lg_sl ([.ref b]) ++ List.replicate (4 - (lg_sl ([.ref b])).length) Slot.unset).toArray = ls at hl ⊢
  have hl : lv_has ls 4 [(0, .ref b)] := hl
  refine va_new (ci := 0) (fs := [.null, .int (nI 0), .int (nI 0)]) (C := RX0) (T := TX0) (N := 3) hx hb hts in_X0 tyX0 tyX0_ok hown (hts _ q10) (hts _ q11) (hts _ q6) hK hP hD hS hA rfl (fun j hj => by rcases (show j = 0 ∨ j = 1 ∨ j = 2 by omega) with rfl | rfl | rfl <;> rfl) (Nat.le_of_ble_eq_true rfl) (Nat.le_of_ble_eq_true rfl) dL_law_0 (fun aF H hP hD hS => ?_)
  have hP : va_P (dC, dI) vwCl [(aF, .inr (0, [.null, .int (nI 0), .int (nI 0)]))] H := hP
  have hD : va_D (fun q : Nat => s.heap.size ≤ q) [(aF, .inr (0, [.null, .int (nI 0), .int (nI 0)]))] := hD
  refine W.widen (k := 1) (n := 3) (Nat.le_of_ble_eq_true rfl) (Nat.le_of_ble_eq_true rfl) ?_
  refine lv_dup hx hb dL_law_3 rfl ?_
  have hPc := hP.sub (ws' := [(aF, .inr (0, [.null, .int (nI 0), .int (nI 0)]))]) [0] rfl
  have hDc := hD.sub (ws' := [(aF, .inr (0, [.null, .int (nI 0), .int (nI 0)]))]) [0] (by decide) rfl
  have hKc := hK.sub (tys' := []) [] rfl
  have hFc := va_free (wc := [(aF, .inr (0, [.null, .int (nI 0), .int (nI 0)]))]) hD hS hA [0] rfl
  refine va_callv (va_runI (As := []) (rest := [.ref aF]) ⟨hx, hb, hml, hown, hts⟩ (metX0_init l dC dI aF H.size) (cwI 0 hts (lw_meth q14) rfl rfl rfl (hts _ q6) (hts _ q12) (hts _ q13) rfl (by decide +kernel) ⟨Nat.le_of_ble_eq_true rfl, Nat.le_of_ble_eq_true rfl⟩) ⟨fun a U g mk q => by obtain ⟨q0, q1, qP, qK, qD, qN⟩ := q; exact ⟨q0, q1, qP, va_K.moved (u := U) (U := U.calling g mk a) (Vm.Alike.refl U.vm) qK, qD, va_Nw.same (u := U) (U := U.calling g mk a) rfl rfl qN⟩, fun U hU hW => ⟨rfl, by rw [hU], by rw [hU]; exact hPc, va_K.moved hW.alike hKc, hDc.weaken (fun _ _ _ _ => trivial), va_Nw.warmM hW hNw⟩⟩ rfl rfl hl.1 rfl (lv_room (Nat.le_of_ble_eq_true rfl)) dL_law_4 ⟨Nat.le_of_ble_eq_true rfl, Nat.le_of_ble_eq_true rfl⟩) hS (fun q _ h => hFc q h) hFc (fun u t H locs ht hvm hw hB hz1 hk1 hS => ?_)
  obtain ⟨aM, hP1, -, hD1⟩ := hB
  rw [ht] at hP1
  obtain ⟨hP, hD⟩ := va_join (wr := []) (w1 := [(aF, .inr (0, [.ref aM, .int (nI 0), .int (nI 1)])), (aM, .inr (1, [.long 0, .long 0, .long 0, .long 0]))]) hP hD [0] [] rfl rfl (by decide) (by decide) hk1 hFc hP1 hD1
  have hP : va_P (dC, dI) vwCl [(aF, .inr (0, [.ref aM, .int (nI 0), .int (nI 1)])), (aM, .inr (1, [.long 0, .long 0, .long 0, .long 0]))] H := hP
  have hD : va_D (fun q : Nat => s.heap.size ≤ q) [(aF, .inr (0, [.ref aM, .int (nI 0), .int (nI 1)])), (aM, .inr (1, [.long 0, .long 0, .long 0, .long 0]))] := hD
  refine W.widen (k := 2) (n := 7) (Nat.le_of_ble_eq_true rfl) (Nat.le_of_ble_eq_true rfl) ?_
  refine lv_astore_n (lv' := [(1, .ref aF), (0, .ref b)]) hx hb dL_law_7 rfl hl (by decide) rfl (fun ls hl => ?_)
  refine va_new (ci := 2) (fs := [.int (nI 0), .int (nI 0), .int (nI 0), .int (nI 0)]) (C := RX2) (T := TX2) (N := 4) hx hb hts in_X2 tyX2 tyX2_ok hown (hts _ q99) (hts _ q100) (hts _ q8) hK hP hD hS hA rfl (fun j hj => by rcases (show j = 0 ∨ j = 1 ∨ j = 2 ∨ j = 3 by omega) with rfl | rfl | rfl | rfl <;> rfl) (Nat.le_of_ble_eq_true rfl) (Nat.le_of_ble_eq_true rfl) dL_law_8 (fun aN H hP hD hS => ?_)
  have hP : va_P (dC, dI) vwCl [(aF, .inr (0, [.ref aM, .int (nI 0), .int (nI 1)])), (aM, .inr (1, [.long 0, .long 0, .long 0, .long 0])), (aN, .inr (2, [.int (nI 0), .int (nI 0), .int (nI 0), .int (nI 0)]))] H := hP
  have hD : va_D (fun q : Nat => s.heap.size ≤ q) [(aF, .inr (0, [.ref aM, .int (nI 0), .int (nI 1)])), (aM, .inr (1, [.long 0, .long 0, .long 0, .long 0])), (aN, .inr (2, [.int (nI 0), .int (nI 0), .int (nI 0), .int (nI 0)]))] := hD
  refine W.widen (k := 3) (n := 11) (Nat.le_of_ble_eq_true rfl) (Nat.le_of_ble_eq_true rfl) ?_
  refine lv_dup hx hb dL_law_11 rfl ?_
  have hPc := hP.sub (ws' := [(aN, .inr (2, [.int (nI 0), .int (nI 0), .int (nI 0), .int (nI 0)]))]) [2] rfl
  have hDc := hD.sub (ws' := [(aN, .inr (2, [.int (nI 0), .int (nI 0), .int (nI 0), .int (nI 0)]))]) [2] (by decide) rfl
  have hKc := hK.sub (tys' := []) [] rfl
  have hFc := va_free (wc := [(aN, .inr (2, [.int (nI 0), .int (nI 0), .int (nI 0), .int (nI 0)]))]) hD hS hA [2] rfl
  refine va_callv (va_runI (As := []) (rest := [.ref aN]) ⟨hx, hb, hml, hown, hts⟩ (metX2_init l dC dI aN H.size) (cwI 0 hts (lw_meth q103) rfl rfl rfl (hts _ q8) (hts _ q101) (hts _ q102) rfl (by decide +kernel) ⟨Nat.le_of_ble_eq_true rfl, Nat.le_of_ble_eq_true rfl⟩) ⟨fun a U g mk q => by obtain ⟨q0, q1, qP, qK, qD⟩ := q; exact ⟨q0, q1, qP, va_K.moved (u := U) (U := U.calling g mk a) (Vm.Alike.refl U.vm) qK, qD⟩, fun U hU hW => ⟨rfl, by rw [hU], by rw [hU]; exact hPc, va_K.moved hW.alike hKc, hDc.weaken (fun _ _ _ _ => trivial)⟩⟩ rfl rfl hl.1 rfl (lv_room (Nat.le_of_ble_eq_true rfl)) dL_law_12 ⟨Nat.le_of_ble_eq_true rfl, Nat.le_of_ble_eq_true rfl⟩) hS (fun q _ h => hFc q h) hFc (fun u t H locs ht hvm hw hB hz1 hk1 hS => ?_)
  have hw : u = (nI 0, nI 1, nI 0, nI 1) := hw
  subst hw
  obtain ⟨hP1, -, hD1⟩ := hB
  rw [ht] at hP1
  obtain ⟨hP, hD⟩ := va_join (wr := [(aF, .inr (0, [.ref aM, .int (nI 0), .int (nI 1)])), (aM, .inr (1, [.long 0, .long 0, .long 0, .long 0]))]) (w1 := [(aN, .inr (2, [.int (nI 0), .int (nI 1), .int (nI 0), .int (nI 1)]))]) hP hD [2] [0, 1] rfl rfl (by decide) (by decide) hk1 hFc hP1 hD1
  have hP : va_P (dC, dI) vwCl [(aF, .inr (0, [.ref aM, .int (nI 0), .int (nI 1)])), (aM, .inr (1, [.long 0, .long 0, .long 0, .long 0])), (aN, .inr (2, [.int (nI 0), .int (nI 1), .int (nI 0), .int (nI 1)]))] H := hP
  have hD : va_D (fun q : Nat => s.heap.size ≤ q) [(aF, .inr (0, [.ref aM, .int (nI 0), .int (nI 1)])), (aM, .inr (1, [.long 0, .long 0, .long 0, .long 0])), (aN, .inr (2, [.int (nI 0), .int (nI 1), .int (nI 0), .int (nI 1)]))] := hD
  refine lv_astore_n (lv' := [(2, .ref aN), (1, .ref aF), (0, .ref b)]) hx hb dL_law_15 rfl hl (by decide) rfl (fun ls hl => ?_)
  refine lv_iconst (v := nI 0) hx hb dL_law_16 (by decide) ?_
  refine lv_istore_n (lv' := [(3, .int (nI 0)), (2, .ref aN), (1, .ref aF), (0, .ref b)]) hx hb dL_law_17 rfl hl (by decide) rfl (fun ls hl => ?_)
  exact law_loop hL C0 hK (L + 1) 0 (by omega) (Nat.zero_le L) aM 0 1 0 0 0 0 (nI 0) (nI 1) H locs (by decide) (by decide) (by decide) hP hD hS ls (lv_sub hl [3, 2, 1, 0] rfl)
set_option maxHeartbeats 4000000 in
theorem lw_walk (l : Launch) (b : Addr) (xs : List Int32) : MetFree l x (headSpec (Jvm.Cond.code x code maxLocals ret :: tables_1) room_1) (lw_P b xs) (fun _ _ _ _ _ => True) lw_Q := by
  refine MetFree.of_bodyS (code := code) (maxLocals := maxLocals) (ret := ret) (by decide) ?_ ?_
  · intro args s m h hn
    obtain ⟨meth, c, h1, h2, h3, h4, h5, h6, -, -⟩ := Cond.code_spec hn (atoms_spec (ws := Jvm.Cond.code x code maxLocals ret :: tables_1) h _ List.mem_cons_self)
    exact ⟨meth, c, h1, h2, h3, h4, h5, h6⟩
  · intro p e s m args below meth c s₁ B hml0 hP _
    obtain ⟨rfl, hx, hbd, hgv⟩ := hP
    obtain ⟨scr, harrAt, hlist, hof, hsmall⟩ := hx
    obtain ⟨hcb, hkn, -, -⟩ := State.arrayAt?_spec harrAt
    have hown : s.vm.findClass R_law = some m.cls := findClass_of_methodNamed B.named
    have hts0 : ∀ c ∈ (Jvm.Cond.code x code maxLocals ret :: tables_1), c.before #[Value.ref b] s = true := atoms_spec (ws := Jvm.Cond.code x code maxLocals ret :: tables_1) B.pre
    have hts : ∀ w ∈ lw_tbl, w.before #[Value.ref b] s = true := k2_hts_sels lw_privs (fun w hw => hts0 w (List.mem_cons_of_mem _ hw)) lw_privs_ok
    have hml : c.maxLocals = 4 := B.maxLocals_eq (hts0 _ List.mem_cons_self)
    have X₀ : Stand p l e room_1 s m #[Value.ref b] below meth c s₁ [] 0 0 := Stand.of_body B
    have hh0 : s₁.heap = s.heap := by rw [B.state]; rfl
    have hsz : scr.slots.size = xs.length := by rw [← Array.length_toList, hlist, List.length_map]
    have hval : ∀ j : Nat, j < xs.length → scr.slots[j]? = some (.int (xs.getD j 0)) := fun j hj => by
      rw [← Array.getElem?_toList, hlist]
      simp [hj]
    have hbl : b < s.heap.size := (Array.getElem?_eq_some_iff.mp hcb).1
    have hX : va_X b xs.length (fun j => xs.getD j 0) s s.heap := ⟨scr, hcb, hof, hkn, hsz, hval⟩
    have K : W p l e room_1 s m #[Value.ref b] below meth c s₁.heap [] 0 0 (lw_Z below #[Value.ref b] s) (entryFrame m ([Value.ref b] : List Value).toArray 4) := by
      rw [hh0]
      exact whole_start l hbd ⟨B.exec, B.bytes, B.returns, hml, hown, hts, hX, hbl, B.notSynchronized, hgv⟩
    obtain ⟨t, a1, o, b1, b2, b3⟩ := K s₁ rfl X₀
    exact ⟨t, o, a1, b1, b2, b3⟩
theorem lw_pre_spec {args : Array Value} {s : State} (h : (Jvm.Cond.and given_1 narrow_1).before args s = true) (hr : rest_1_c.before args s = true) : ∃ (b : Addr) (xs : List Int32), lw_P b xs args s := by
  have hs := flat_of_before _ h
  have hq := flat_of_before _ hr
  have hc : (Cond.count 1).before args s = true := hs _ (by decide +kernel)
  have harr : (Cond.arrayOf (.arg 0) .int).before args s = true := hs _ (by decide +kernel)
  have hle : (Cond.le (.length (.arg 0)) (.int 320)).before args s = true := hs _ (by decide +kernel)
  have hlen : (Cond.isInt (.length (.arg 0))).before args s = true := hq _ (by decide +kernel)
  have hall : (Cond.all (.arg 0) (.isInt (.elem (.arg 0) (.index 0)))).before args s = true := hq _ (by decide +kernel)
  obtain ⟨b, xs, hb, hx⟩ := State.ints_of_pre rfl harr hlen hall
  have hsm : xs.length < 2 ^ 31 := hx.choose_spec.2.2.2
  have hev : (Term.length (.arg 0)).eval args s none [] s = some (.int xs.length.toInt32) := hx.length_eval hb
  have hv := Cond.le_ints hev (show (Term.int 320).eval args s none [] s = some (.int 320) from rfl)
  have hd : xs.length.toInt32 ≤ 320 := by
    simpa [Cond.before, Cond.holds, hv] using hle
  have hN : xs.length ≤ 320 := (Int32.ofNat_le_ofNat hsm (by decide)).mp (show Int32.ofNat xs.length ≤ Int32.ofNat 320 from hd)
  exact ⟨b, xs, Cond.one_arg hc (show args[0]? = some (.ref b) from hb), hx, hN, h⟩
theorem lw_comes (l : Launch) : Comes l x (Jvm.Cond.code x code maxLocals ret :: tables_1) room_1 (fun tb e args s => Calls_1 tb e args s ∧ rest_1 tb e args s ∧ Pre_1 tb e args s)
    (fun _ _ args s o t => lw_Q args s o t) := by
  intro p e ha hc hk s m args below hf hfit hheap happ hpre
  obtain ⟨b, xs, hP⟩ := lw_pre_spec hpre.2.2 hpre.2.1
  obtain ⟨k, o, h1, h2, h3, hQ⟩ := lw_walk l b xs p e ha hc hk s m args below hf ((Spec.applies_iff_loose hf).mp happ).1 hP trivial
  exact ⟨k, o, h1, h2, h3, hQ⟩
theorem lw_frame {s t : State} {o : Outcome} {args : Array Value} (h : Framed s o t [] 600000 7290000) :
    Framed s o t (fieldLocs frame_1_writes args s ++ arrayLocs frame_1_arrays args s ++ staticLocs frame_1_statics s) 600000 7290000 := h
theorem lw_limb (L : Cond) (hL : ∀ (args : Array Value) (s t : State), L.after args s (.returned (some (.int 1))) t = true) :
    ArmFor flags0 classFile x code maxLocals ret World_1 tables_1 room_1 Calls_1 rest_1 Pre_1
      (fun tb e a s o t => postC L tb e a s o t ∧ Framed s o t (fieldLocs frame_1_writes a s ++ arrayLocs frame_1_arrays a s ++ staticLocs frame_1_statics s) 600000 7290000) := by
  intro l _ _ _ p e ha hc hk s m args below hf hfit hheap happ hpre
  obtain ⟨k, o, h1, h2, h3, rfl, hF⟩ := lw_comes l p e ha hc hk s m args below hf hfit hheap happ hpre
  exact ⟨k, _, h1, h2, h3, hL args s _, lw_frame hF⟩
theorem i_vc : Claimed_1_1 ∧ Claimed_1_2 := ⟨lw_limb limb_1_1 (fun args s t => by simp [limb_1_1, Cond.after, Cond.holds, Cond.value]), lw_limb limb_1_2 (fun args s t => Cond.after_iff.mpr (by
  first | (rw [show limb_1_2 = Cond.eq .result (.int 1) from rfl, Cond.eq_ints (x := 1) (y := 1) rfl rfl]; simp; done) | (simp [limb_1_2, Cond.value, Term.eval]; done)))⟩
end
