section
-- ===== PART A: goes FIRST, ahead of the names: the tables' words, and 'selects' of the private methods out of them =====
/-- a private method of a class that the tables say can be made, by its rows of tables_1 -/
def lw_okq (q : MethodName × Nat) : Prop := (q.1.cls ≠ "java/lang/invoke/MethodHandle" ∧ q.1.cls ≠ "java/lang/invoke/VarHandle") ∧ Cond.instantiable q.1.cls q.2 ∈ tables_1 ∧ Cond.privateMethod q.1 ∈ tables_1 ∧ Cond.instanceMethod q.1 ∈ tables_1
set_option maxRecDepth 100000
theorem lw_p0 : lw_okq (⟨"SeverDesk", "near", "(II)Z"⟩, 2) := ⟨⟨by decide +kernel, by decide +kernel⟩, List.mem_of_getElem? (i := 7) rfl, List.mem_of_getElem? (i := 86) rfl, List.mem_of_getElem? (i := 87) rfl⟩
theorem lw_p1 : lw_okq (⟨"SeverDesk$Flow", "lay", "(II)V"⟩, 4) := ⟨⟨by decide +kernel, by decide +kernel⟩, List.mem_of_getElem? (i := 32) rfl, List.mem_of_getElem? (i := 98) rfl, List.mem_of_getElem? (i := 99) rfl⟩
theorem lw_p2 : lw_okq (⟨"SeverDesk$Flow", "more", "(II)Z"⟩, 4) := ⟨⟨by decide +kernel, by decide +kernel⟩, List.mem_of_getElem? (i := 32) rfl, List.mem_of_getElem? (i := 103) rfl, List.mem_of_getElem? (i := 104) rfl⟩
theorem lw_p3 : lw_okq (⟨"SeverDeskModel", "at", "(I)I"⟩, 2) := ⟨⟨by decide +kernel, by decide +kernel⟩, List.mem_of_getElem? (i := 131) rfl, List.mem_of_getElem? (i := 153) rfl, List.mem_of_getElem? (i := 154) rfl⟩
theorem lw_p4 : lw_okq (⟨"SeverDeskModel", "reach", "(II)I"⟩, 2) := ⟨⟨by decide +kernel, by decide +kernel⟩, List.mem_of_getElem? (i := 131) rfl, List.mem_of_getElem? (i := 168) rfl, List.mem_of_getElem? (i := 169) rfl⟩
def lw_privs_1 : List (MethodName × Nat) := [(⟨"SeverDesk", "near", "(II)Z"⟩, 2), (⟨"SeverDesk$Flow", "lay", "(II)V"⟩, 4), (⟨"SeverDesk$Flow", "more", "(II)Z"⟩, 4), (⟨"SeverDeskModel", "at", "(I)I"⟩, 2), (⟨"SeverDeskModel", "reach", "(II)I"⟩, 2)]
theorem lw_r1 : ∀ q ∈ lw_privs_1, lw_okq q := List.forall_mem_cons.mpr ⟨lw_p0, List.forall_mem_cons.mpr ⟨lw_p1, List.forall_mem_cons.mpr ⟨lw_p2, List.forall_mem_cons.mpr ⟨lw_p3, List.forall_mem_cons.mpr ⟨lw_p4, fun _ h => absurd h List.not_mem_nil⟩⟩⟩⟩⟩
def lw_privs : List (MethodName × Nat) := lw_privs_1
def lw_tbl : List Cond := k2_sels lw_privs ++ tables_1
theorem lw_privs_ok : ∀ q ∈ lw_privs, lw_okq q := lw_r1
-- ===== ONE list of words for every method: the tables' words that hold all through a run =====
def lw_all : List Cond := lw_tbl.filter goodWord
/-- a word of the tables by its place: claim/WORDS.tsv -/
theorem lw_w {w : Cond} (i : Nat) (h : lw_tbl[i]? = some w) (g : goodWord w = true) : w ∈ lw_all := List.mem_filter.mpr ⟨List.mem_of_getElem? h, g⟩
theorem lw_all_tbl {w : Cond} (h : w ∈ lw_all) : w ∈ lw_tbl := (List.mem_filter.mp h).1
theorem lw_self : GoodIn lw_all lw_all := fun w h => ⟨h, good_of_word (List.mem_filter.mp h).2⟩
/-- a class's field words, by their places -/
theorem lw_in (ws : List Cond) (ps : List Nat) (hp : ws = ps.filterMap (fun i => lw_tbl[i]?)) (hg : ws.all goodWord = true) : ∀ w ∈ ws, w ∈ lw_all := by
  intro w h
  have h1 := List.all_eq_true.mp hg w h
  rw [hp] at h
  obtain ⟨i, -, hi⟩ := List.mem_filterMap.mp h
  exact lw_w i hi h1
/-- the words of a contract for the method y with code b, L locals, answer r -/
abbrev ws_ (y : MethodName) (b : ByteArray) (L : Nat) (r : Option FieldType) : List Cond := Cond.code y b L r :: lw_all
theorem lw_meth {y : MethodName} {b : ByteArray} {L : Nat} {r : Option FieldType} (h : Cond.code y b L r ∈ lw_all) : GoodIn lw_all (ws_ y b L r) := by
  intro w hw
  rcases List.mem_cons.mp hw with e | e
  · rw [e]
    exact lw_self _ h
  · exact lw_self _ e
theorem lw_app {a c : List Cond} (ha : ∀ w ∈ a, w ∈ lw_all) (hc : GoodIn lw_all c) : GoodIn lw_all (a ++ c) := by
  intro w hw
  rcases List.mem_append.mp hw with e | e
  · exact lw_self w (ha w e)
  · exact hc w e
/-- what a call through an object asks: cwV n hts (lw_V ..) -/
theorem lw_V {own : String} {idx : Nat} {C : String} {y : MethodName} {b : ByteArray} {L : Nat} {r : Option FieldType} (h1 : Cond.methodLink own idx y ∈ lw_all) (h2 : Cond.instanceMethod y ∈ lw_all) (h3 : Cond.selects C y y ∈ lw_all) (h4 : Cond.initialized C ∈ lw_all) (h5 : Cond.code y b L r ∈ lw_all) : GoodIn lw_all (wsV own idx C y (ws_ y b L r)) := by
  refine lw_app ?_ (lw_meth h5)
  intro w hw
  simp only [List.mem_cons, List.not_mem_nil, or_false] at hw
  rcases hw with e | e | e | e
  · rw [e]; exact h1
  · rw [e]; exact h2
  · rw [e]; exact h3
  · rw [e]; exact h4
/-- what a static call asks: va_cwS n hts (lw_S ..) -/
theorem lw_S {own : String} {idx : Nat} {y : MethodName} {b : ByteArray} {L : Nat} {r : Option FieldType} (h1 : Cond.methodLink own idx y ∈ lw_all) (h2 : Cond.static y ∈ lw_all) (h3 : Cond.initialized y.cls ∈ lw_all) (h4 : Cond.code y b L r ∈ lw_all) : GoodIn lw_all (va_wsS own idx y (ws_ y b L r)) := by
  refine lw_app ?_ (lw_meth h4)
  intro w hw
  simp only [List.mem_cons, List.not_mem_nil, or_false] at hw
  rcases hw with e | e | e
  · rw [e]; exact h1
  · rw [e]; exact h2
  · rw [e]; exact h3
/-- the words of a contract for a method WITH HANDLERS (hh: its table) -/
abbrev wsW_ (y : MethodName) (b : ByteArray) (L : Nat) (r : Option FieldType) (hh : List (Nat × Nat × Nat × Nat)) : List Cond := Cond.codeWith y b L r hh :: lw_all
theorem lw_methW {y : MethodName} {b : ByteArray} {L : Nat} {r : Option FieldType} {hh : List (Nat × Nat × Nat × Nat)} (h : Cond.codeWith y b L r hh ∈ lw_all) : GoodIn lw_all (wsW_ y b L r hh) := by
  intro w hw
  rcases List.mem_cons.mp hw with e | e
  · rw [e]
    exact lw_self _ h
  · exact lw_self _ e
/-- any list of words by their places (lw_in), good -/
theorem lw_good {ws : List Cond} (h : ∀ w ∈ ws, w ∈ lw_all) : GoodIn lw_all ws := fun w hw => lw_self w (h w hw)
/-- what a call of a method with handlers asks: vx_cwVW n hts (lw_VW ..), vx_cwSW n hts (lw_SW ..) -/
theorem lw_VW {own : String} {idx : Nat} {C : String} {y : MethodName} {b : ByteArray} {L : Nat} {r : Option FieldType} {hh : List (Nat × Nat × Nat × Nat)} (h1 : Cond.methodLink own idx y ∈ lw_all) (h2 : Cond.instanceMethod y ∈ lw_all) (h3 : Cond.selects C y y ∈ lw_all) (h4 : Cond.initialized C ∈ lw_all) (h5 : Cond.codeWith y b L r hh ∈ lw_all) : GoodIn lw_all (wsV own idx C y (wsW_ y b L r hh)) := by
  refine lw_app ?_ (lw_methW h5)
  intro w hw
  simp only [List.mem_cons, List.not_mem_nil, or_false] at hw
  rcases hw with e | e | e | e
  · rw [e]; exact h1
  · rw [e]; exact h2
  · rw [e]; exact h3
  · rw [e]; exact h4
theorem lw_SW {own : String} {idx : Nat} {y : MethodName} {b : ByteArray} {L : Nat} {r : Option FieldType} {hh : List (Nat × Nat × Nat × Nat)} (h1 : Cond.methodLink own idx y ∈ lw_all) (h2 : Cond.static y ∈ lw_all) (h3 : Cond.initialized y.cls ∈ lw_all) (h4 : Cond.codeWith y b L r hh ∈ lw_all) : GoodIn lw_all (va_wsS own idx y (wsW_ y b L r hh)) := by
  refine lw_app ?_ (lw_methW h4)
  intro w hw
  simp only [List.mem_cons, List.not_mem_nil, or_false] at hw
  rcases hw with e | e | e
  · rw [e]; exact h1
  · rw [e]; exact h2
  · rw [e]; exact h3
/-- a word by its place in its run of the tables -/
theorem lw_at {r : List Cond} (hr : ∀ w ∈ r, w ∈ lw_tbl) {w : Cond} (i : Nat) (h : r[i]? = some w) : w ∈ lw_tbl := hr w (List.mem_of_getElem? h)
theorem lw_g {w : Cond} (h : w ∈ lw_tbl) (g : goodWord w = true) : w ∈ lw_all := List.mem_filter.mpr ⟨h, g⟩
theorem lw_ms : ∀ w ∈ k2_sels lw_privs, w ∈ lw_tbl := fun w h => show w ∈ k2_sels lw_privs ++ tables_1 from List.mem_append_left _ h
theorem lw_m0 : ∀ w ∈ tables_1, w ∈ lw_tbl := fun w h => show w ∈ k2_sels lw_privs ++ tables_1 from List.mem_append_right (k2_sels lw_privs) h
theorem qs0 : (Cond.selects "SeverDesk" ⟨"SeverDesk", "near", "(II)Z"⟩ ⟨"SeverDesk", "near", "(II)Z"⟩) ∈ lw_all := lw_g (lw_at lw_ms 0 rfl) rfl
theorem qs1 : (Cond.selects "SeverDesk$Flow" ⟨"SeverDesk$Flow", "lay", "(II)V"⟩ ⟨"SeverDesk$Flow", "lay", "(II)V"⟩) ∈ lw_all := lw_g (lw_at lw_ms 1 rfl) rfl
theorem qs2 : (Cond.selects "SeverDesk$Flow" ⟨"SeverDesk$Flow", "more", "(II)Z"⟩ ⟨"SeverDesk$Flow", "more", "(II)Z"⟩) ∈ lw_all := lw_g (lw_at lw_ms 2 rfl) rfl
theorem qs3 : (Cond.selects "SeverDeskModel" ⟨"SeverDeskModel", "at", "(I)I"⟩ ⟨"SeverDeskModel", "at", "(I)I"⟩) ∈ lw_all := lw_g (lw_at lw_ms 3 rfl) rfl
theorem qs4 : (Cond.selects "SeverDeskModel" ⟨"SeverDeskModel", "reach", "(II)I"⟩ ⟨"SeverDeskModel", "reach", "(II)I"⟩) ∈ lw_all := lw_g (lw_at lw_ms 4 rfl) rfl
end
section
/-! java/lang/Integer -/
set_option maxRecDepth 100000
def RJ0 : String := "java/lang/Integer"
abbrev cJ0_numberOfTrailingZeros : ByteArray := prog_6_method_48_code
def yJ0_numberOfTrailingZeros : MethodName := ⟨RJ0, "numberOfTrailingZeros", "(I)I"⟩
theorem dJ0_numberOfTrailingZeros_0 : decode cJ0_numberOfTrailingZeros 0 = .ok (.iload_n 0, 1) := by decide +kernel
theorem dJ0_numberOfTrailingZeros_1 : decode cJ0_numberOfTrailingZeros 1 = .ok (.iconst (-1), 1) := by decide +kernel
theorem dJ0_numberOfTrailingZeros_2 : decode cJ0_numberOfTrailingZeros 2 = .ok (.ixor, 1) := by decide +kernel
theorem dJ0_numberOfTrailingZeros_3 : decode cJ0_numberOfTrailingZeros 3 = .ok (.iload_n 0, 1) := by decide +kernel
theorem dJ0_numberOfTrailingZeros_4 : decode cJ0_numberOfTrailingZeros 4 = .ok (.iconst 1, 1) := by decide +kernel
theorem dJ0_numberOfTrailingZeros_5 : decode cJ0_numberOfTrailingZeros 5 = .ok (.isub, 1) := by decide +kernel
theorem dJ0_numberOfTrailingZeros_6 : decode cJ0_numberOfTrailingZeros 6 = .ok (.iand, 1) := by decide +kernel
theorem dJ0_numberOfTrailingZeros_7 : decode cJ0_numberOfTrailingZeros 7 = .ok (.istore_n 0, 1) := by decide +kernel
theorem dJ0_numberOfTrailingZeros_8 : decode cJ0_numberOfTrailingZeros 8 = .ok (.iload_n 0, 1) := by decide +kernel
theorem dJ0_numberOfTrailingZeros_9 : decode cJ0_numberOfTrailingZeros 9 = .ok (.ifCond .gt 8, 3) := by decide +kernel
theorem dJ0_numberOfTrailingZeros_12 : decode cJ0_numberOfTrailingZeros 12 = .ok (.iload_n 0, 1) := by decide +kernel
theorem dJ0_numberOfTrailingZeros_13 : decode cJ0_numberOfTrailingZeros 13 = .ok (.bipush 32, 2) := by decide +kernel
theorem dJ0_numberOfTrailingZeros_15 : decode cJ0_numberOfTrailingZeros 15 = .ok (.iand, 1) := by decide +kernel
theorem dJ0_numberOfTrailingZeros_16 : decode cJ0_numberOfTrailingZeros 16 = .ok (.ireturn, 1) := by decide +kernel
theorem dJ0_numberOfTrailingZeros_17 : decode cJ0_numberOfTrailingZeros 17 = .ok (.iconst 1, 1) := by decide +kernel
theorem dJ0_numberOfTrailingZeros_18 : decode cJ0_numberOfTrailingZeros 18 = .ok (.istore_n 1, 1) := by decide +kernel
theorem dJ0_numberOfTrailingZeros_19 : decode cJ0_numberOfTrailingZeros 19 = .ok (.iload_n 0, 1) := by decide +kernel
theorem dJ0_numberOfTrailingZeros_20 : decode cJ0_numberOfTrailingZeros 20 = .ok (.ldc_w 264, 3) := by decide +kernel
theorem dJ0_numberOfTrailingZeros_23 : decode cJ0_numberOfTrailingZeros 23 = .ok (.if_icmp .le 11, 3) := by decide +kernel
theorem dJ0_numberOfTrailingZeros_26 : decode cJ0_numberOfTrailingZeros 26 = .ok (.iinc 1 16, 3) := by decide +kernel
theorem dJ0_numberOfTrailingZeros_29 : decode cJ0_numberOfTrailingZeros 29 = .ok (.iload_n 0, 1) := by decide +kernel
theorem dJ0_numberOfTrailingZeros_30 : decode cJ0_numberOfTrailingZeros 30 = .ok (.bipush 16, 2) := by decide +kernel
theorem dJ0_numberOfTrailingZeros_32 : decode cJ0_numberOfTrailingZeros 32 = .ok (.iushr, 1) := by decide +kernel
theorem dJ0_numberOfTrailingZeros_33 : decode cJ0_numberOfTrailingZeros 33 = .ok (.istore_n 0, 1) := by decide +kernel
theorem dJ0_numberOfTrailingZeros_34 : decode cJ0_numberOfTrailingZeros 34 = .ok (.iload_n 0, 1) := by decide +kernel
theorem dJ0_numberOfTrailingZeros_35 : decode cJ0_numberOfTrailingZeros 35 = .ok (.sipush 256, 3) := by decide +kernel
theorem dJ0_numberOfTrailingZeros_38 : decode cJ0_numberOfTrailingZeros 38 = .ok (.if_icmp .le 11, 3) := by decide +kernel
theorem dJ0_numberOfTrailingZeros_41 : decode cJ0_numberOfTrailingZeros 41 = .ok (.iinc 1 8, 3) := by decide +kernel
theorem dJ0_numberOfTrailingZeros_44 : decode cJ0_numberOfTrailingZeros 44 = .ok (.iload_n 0, 1) := by decide +kernel
theorem dJ0_numberOfTrailingZeros_45 : decode cJ0_numberOfTrailingZeros 45 = .ok (.bipush 8, 2) := by decide +kernel
theorem dJ0_numberOfTrailingZeros_47 : decode cJ0_numberOfTrailingZeros 47 = .ok (.iushr, 1) := by decide +kernel
theorem dJ0_numberOfTrailingZeros_48 : decode cJ0_numberOfTrailingZeros 48 = .ok (.istore_n 0, 1) := by decide +kernel
theorem dJ0_numberOfTrailingZeros_49 : decode cJ0_numberOfTrailingZeros 49 = .ok (.iload_n 0, 1) := by decide +kernel
theorem dJ0_numberOfTrailingZeros_50 : decode cJ0_numberOfTrailingZeros 50 = .ok (.bipush 16, 2) := by decide +kernel
theorem dJ0_numberOfTrailingZeros_52 : decode cJ0_numberOfTrailingZeros 52 = .ok (.if_icmp .le 10, 3) := by decide +kernel
theorem dJ0_numberOfTrailingZeros_55 : decode cJ0_numberOfTrailingZeros 55 = .ok (.iinc 1 4, 3) := by decide +kernel
theorem dJ0_numberOfTrailingZeros_58 : decode cJ0_numberOfTrailingZeros 58 = .ok (.iload_n 0, 1) := by decide +kernel
theorem dJ0_numberOfTrailingZeros_59 : decode cJ0_numberOfTrailingZeros 59 = .ok (.iconst 4, 1) := by decide +kernel
theorem dJ0_numberOfTrailingZeros_60 : decode cJ0_numberOfTrailingZeros 60 = .ok (.iushr, 1) := by decide +kernel
theorem dJ0_numberOfTrailingZeros_61 : decode cJ0_numberOfTrailingZeros 61 = .ok (.istore_n 0, 1) := by decide +kernel
theorem dJ0_numberOfTrailingZeros_62 : decode cJ0_numberOfTrailingZeros 62 = .ok (.iload_n 0, 1) := by decide +kernel
theorem dJ0_numberOfTrailingZeros_63 : decode cJ0_numberOfTrailingZeros 63 = .ok (.iconst 4, 1) := by decide +kernel
theorem dJ0_numberOfTrailingZeros_64 : decode cJ0_numberOfTrailingZeros 64 = .ok (.if_icmp .le 10, 3) := by decide +kernel
theorem dJ0_numberOfTrailingZeros_67 : decode cJ0_numberOfTrailingZeros 67 = .ok (.iinc 1 2, 3) := by decide +kernel
theorem dJ0_numberOfTrailingZeros_70 : decode cJ0_numberOfTrailingZeros 70 = .ok (.iload_n 0, 1) := by decide +kernel
theorem dJ0_numberOfTrailingZeros_71 : decode cJ0_numberOfTrailingZeros 71 = .ok (.iconst 2, 1) := by decide +kernel
theorem dJ0_numberOfTrailingZeros_72 : decode cJ0_numberOfTrailingZeros 72 = .ok (.iushr, 1) := by decide +kernel
theorem dJ0_numberOfTrailingZeros_73 : decode cJ0_numberOfTrailingZeros 73 = .ok (.istore_n 0, 1) := by decide +kernel
theorem dJ0_numberOfTrailingZeros_74 : decode cJ0_numberOfTrailingZeros 74 = .ok (.iload_n 1, 1) := by decide +kernel
theorem dJ0_numberOfTrailingZeros_75 : decode cJ0_numberOfTrailingZeros 75 = .ok (.iload_n 0, 1) := by decide +kernel
theorem dJ0_numberOfTrailingZeros_76 : decode cJ0_numberOfTrailingZeros 76 = .ok (.iconst 1, 1) := by decide +kernel
theorem dJ0_numberOfTrailingZeros_77 : decode cJ0_numberOfTrailingZeros 77 = .ok (.iushr, 1) := by decide +kernel
theorem dJ0_numberOfTrailingZeros_78 : decode cJ0_numberOfTrailingZeros 78 = .ok (.iadd, 1) := by decide +kernel
theorem dJ0_numberOfTrailingZeros_79 : decode cJ0_numberOfTrailingZeros 79 = .ok (.ireturn, 1) := by decide +kernel
theorem q10 : (Jvm.Cond.initialized "java/lang/Integer") ∈ lw_all := lw_g (lw_at lw_m0 5 rfl) rfl
theorem q124 : (Jvm.Cond.static ({ cls := "java/lang/Integer", name := "numberOfTrailingZeros", desc := "(I)I" } : Jvm.MethodName)) ∈ lw_all := lw_g (lw_at lw_m0 119 rfl) rfl
theorem q125 : (Jvm.Cond.code ({ cls := "java/lang/Integer", name := "numberOfTrailingZeros", desc := "(I)I" } : Jvm.MethodName) prog_6_method_48_code (2 : Nat) (Option.some Jvm.ClassFile.FieldType.int)) ∈ lw_all := lw_g (lw_at lw_m0 120 rfl) rfl
theorem q126 : (Jvm.Cond.constant "java/lang/Integer" (264 : Nat) (65536 : Int32)) ∈ lw_all := lw_g (lw_at lw_m0 121 rfl) rfl
/-! java/lang/Object -/
set_option maxRecDepth 100000
def RJ1 : String := "java/lang/Object"
abbrev cJ1_init : ByteArray := object_method_1_code
def yJ1_init : MethodName := ⟨RJ1, "<init>", "()V"⟩
theorem dJ1_init_0 : decode cJ1_init 0 = .ok (.return_, 1) := by decide +kernel
theorem q17 : (Jvm.Cond.instanceMethod ({ cls := "java/lang/Object", name := "<init>", desc := "()V" } : Jvm.MethodName)) ∈ lw_all := lw_g (lw_at lw_m0 12 rfl) rfl
theorem q18 : (Jvm.Cond.code ({ cls := "java/lang/Object", name := "<init>", desc := "()V" } : Jvm.MethodName) object_method_1_code (1 : Nat) (Option.none : Option Jvm.ClassFile.FieldType)) ∈ lw_all := lw_g (lw_at lw_m0 13 rfl) rfl
/-! SeverDesk$Roads -/
set_option maxRecDepth 100000
def RX1 : String := "SeverDesk$Roads"
def TX1 : u_T := fun k => match k with
  | 0 => ("SeverDesk$Roads", "to", "[I", true)
  | _ => ("SeverDesk$Roads", "count", "I", false)
def tyX1 : Nat → FieldType := fun k => match k with
  | 0 => .array .int
  | _ => .int
abbrev wsX10 : List Cond := u_ws RX1 TX1 2
theorem nmX1 : ∀ a, a < 2 → ∀ b, b < 2 → a ≠ b → (TX1 a).2.1 ≠ (TX1 b).2.1 := by decide +kernel
theorem tyX1_ok : ∀ k, k < 2 → parseFieldDescriptor (TX1 k).2.2.1 = some (tyX1 k) := by decide +kernel
abbrev cX1_init : ByteArray := prog_3_method_1_code
def yX1_init : MethodName := ⟨RX1, "<init>", "()V"⟩
theorem dX1_init_0 : decode cX1_init 0 = .ok (.aload_n 0, 1) := by decide +kernel
theorem dX1_init_1 : decode cX1_init 1 = .ok (.invokespecial 3, 3) := by decide +kernel
theorem dX1_init_4 : decode cX1_init 4 = .ok (.aload_n 0, 1) := by decide +kernel
theorem dX1_init_5 : decode cX1_init 5 = .ok (.bipush 8, 2) := by decide +kernel
theorem dX1_init_7 : decode cX1_init 7 = .ok (.newarray .int, 2) := by decide +kernel
theorem dX1_init_9 : decode cX1_init 9 = .ok (.putfield 9, 3) := by decide +kernel
theorem dX1_init_12 : decode cX1_init 12 = .ok (.return_, 1) := by decide +kernel
abbrev cX1_begin : ByteArray := prog_3_method_2_code
def yX1_begin : MethodName := ⟨RX1, "begin", "(I)V"⟩
theorem dX1_begin_0 : decode cX1_begin 0 = .ok (.aload_n 0, 1) := by decide +kernel
theorem dX1_begin_1 : decode cX1_begin 1 = .ok (.iload_n 1, 1) := by decide +kernel
theorem dX1_begin_2 : decode cX1_begin 2 = .ok (.putfield 15, 3) := by decide +kernel
theorem dX1_begin_5 : decode cX1_begin 5 = .ok (.iconst 0, 1) := by decide +kernel
theorem dX1_begin_6 : decode cX1_begin 6 = .ok (.istore_n 2, 1) := by decide +kernel
theorem dX1_begin_7 : decode cX1_begin 7 = .ok (.iload_n 2, 1) := by decide +kernel
theorem dX1_begin_8 : decode cX1_begin 8 = .ok (.bipush 8, 2) := by decide +kernel
theorem dX1_begin_10 : decode cX1_begin 10 = .ok (.if_icmp .ge 16, 3) := by decide +kernel
theorem dX1_begin_13 : decode cX1_begin 13 = .ok (.aload_n 0, 1) := by decide +kernel
theorem dX1_begin_14 : decode cX1_begin 14 = .ok (.getfield 9, 3) := by decide +kernel
theorem dX1_begin_17 : decode cX1_begin 17 = .ok (.iload_n 2, 1) := by decide +kernel
theorem dX1_begin_18 : decode cX1_begin 18 = .ok (.iconst 0, 1) := by decide +kernel
theorem dX1_begin_19 : decode cX1_begin 19 = .ok (.iastore, 1) := by decide +kernel
theorem dX1_begin_20 : decode cX1_begin 20 = .ok (.iinc 2 1, 3) := by decide +kernel
theorem dX1_begin_23 : decode cX1_begin 23 = .ok (.goto (-16), 3) := by decide +kernel
theorem dX1_begin_26 : decode cX1_begin 26 = .ok (.return_, 1) := by decide +kernel
abbrev cX1_place : ByteArray := prog_3_method_3_code
def yX1_place : MethodName := ⟨RX1, "place", "(I)I"⟩
theorem dX1_place_0 : decode cX1_place 0 = .ok (.iload_n 1, 1) := by decide +kernel
theorem dX1_place_1 : decode cX1_place 1 = .ok (.ldc 19, 2) := by decide +kernel
theorem dX1_place_3 : decode cX1_place 3 = .ok (.iand, 1) := by decide +kernel
theorem dX1_place_4 : decode cX1_place 4 = .ok (.aload_n 0, 1) := by decide +kernel
theorem dX1_place_5 : decode cX1_place 5 = .ok (.getfield 15, 3) := by decide +kernel
theorem dX1_place_8 : decode cX1_place 8 = .ok (.irem, 1) := by decide +kernel
theorem dX1_place_9 : decode cX1_place 9 = .ok (.ireturn, 1) := by decide +kernel
abbrev cX1_has : ByteArray := prog_3_method_4_code
def yX1_has : MethodName := ⟨RX1, "has", "(II)Z"⟩
theorem dX1_has_0 : decode cX1_has 0 = .ok (.aload_n 0, 1) := by decide +kernel
theorem dX1_has_1 : decode cX1_has 1 = .ok (.getfield 9, 3) := by decide +kernel
theorem dX1_has_4 : decode cX1_has 4 = .ok (.iload_n 1, 1) := by decide +kernel
theorem dX1_has_5 : decode cX1_has 5 = .ok (.iaload, 1) := by decide +kernel
theorem dX1_has_6 : decode cX1_has 6 = .ok (.iload_n 2, 1) := by decide +kernel
theorem dX1_has_7 : decode cX1_has 7 = .ok (.ishr, 1) := by decide +kernel
theorem dX1_has_8 : decode cX1_has 8 = .ok (.iconst 1, 1) := by decide +kernel
theorem dX1_has_9 : decode cX1_has 9 = .ok (.iand, 1) := by decide +kernel
theorem dX1_has_10 : decode cX1_has 10 = .ok (.iconst 1, 1) := by decide +kernel
theorem dX1_has_11 : decode cX1_has 11 = .ok (.if_icmp .ne 7, 3) := by decide +kernel
theorem dX1_has_14 : decode cX1_has 14 = .ok (.iconst 1, 1) := by decide +kernel
theorem dX1_has_15 : decode cX1_has 15 = .ok (.goto 4, 3) := by decide +kernel
theorem dX1_has_18 : decode cX1_has 18 = .ok (.iconst 0, 1) := by decide +kernel
theorem dX1_has_19 : decode cX1_has 19 = .ok (.ireturn, 1) := by decide +kernel
abbrev cX1_reached : ByteArray := prog_3_method_5_code
def yX1_reached : MethodName := ⟨RX1, "reached", "(II)I"⟩
theorem dX1_reached_0 : decode cX1_reached 0 = .ok (.iconst 1, 1) := by decide +kernel
theorem dX1_reached_1 : decode cX1_reached 1 = .ok (.iload_n 1, 1) := by decide +kernel
theorem dX1_reached_2 : decode cX1_reached 2 = .ok (.ishl, 1) := by decide +kernel
theorem dX1_reached_3 : decode cX1_reached 3 = .ok (.istore_n 3, 1) := by decide +kernel
theorem dX1_reached_4 : decode cX1_reached 4 = .ok (.iload_n 3, 1) := by decide +kernel
theorem dX1_reached_5 : decode cX1_reached 5 = .ok (.istore 4, 2) := by decide +kernel
theorem dX1_reached_7 : decode cX1_reached 7 = .ok (.iload 4, 2) := by decide +kernel
theorem dX1_reached_9 : decode cX1_reached 9 = .ok (.ifCond .eq 60, 3) := by decide +kernel
theorem dX1_reached_12 : decode cX1_reached 12 = .ok (.iconst 0, 1) := by decide +kernel
theorem dX1_reached_13 : decode cX1_reached 13 = .ok (.istore 5, 2) := by decide +kernel
theorem dX1_reached_15 : decode cX1_reached 15 = .ok (.iload 4, 2) := by decide +kernel
theorem dX1_reached_17 : decode cX1_reached 17 = .ok (.istore 6, 2) := by decide +kernel
theorem dX1_reached_19 : decode cX1_reached 19 = .ok (.iload 6, 2) := by decide +kernel
theorem dX1_reached_21 : decode cX1_reached 21 = .ok (.ifCond .eq 30, 3) := by decide +kernel
theorem dX1_reached_24 : decode cX1_reached 24 = .ok (.iload 5, 2) := by decide +kernel
theorem dX1_reached_26 : decode cX1_reached 26 = .ok (.aload_n 0, 1) := by decide +kernel
theorem dX1_reached_27 : decode cX1_reached 27 = .ok (.getfield 9, 3) := by decide +kernel
theorem dX1_reached_30 : decode cX1_reached 30 = .ok (.iload 6, 2) := by decide +kernel
theorem dX1_reached_32 : decode cX1_reached 32 = .ok (.invokestatic 20, 3) := by decide +kernel
theorem dX1_reached_35 : decode cX1_reached 35 = .ok (.iaload, 1) := by decide +kernel
theorem dX1_reached_36 : decode cX1_reached 36 = .ok (.ior, 1) := by decide +kernel
theorem dX1_reached_37 : decode cX1_reached 37 = .ok (.istore 5, 2) := by decide +kernel
theorem dX1_reached_39 : decode cX1_reached 39 = .ok (.iload 6, 2) := by decide +kernel
theorem dX1_reached_41 : decode cX1_reached 41 = .ok (.iload 6, 2) := by decide +kernel
theorem dX1_reached_43 : decode cX1_reached 43 = .ok (.iconst 1, 1) := by decide +kernel
theorem dX1_reached_44 : decode cX1_reached 44 = .ok (.isub, 1) := by decide +kernel
theorem dX1_reached_45 : decode cX1_reached 45 = .ok (.iand, 1) := by decide +kernel
theorem dX1_reached_46 : decode cX1_reached 46 = .ok (.istore 6, 2) := by decide +kernel
theorem dX1_reached_48 : decode cX1_reached 48 = .ok (.goto (-29), 3) := by decide +kernel
theorem dX1_reached_51 : decode cX1_reached 51 = .ok (.iload 5, 2) := by decide +kernel
theorem dX1_reached_53 : decode cX1_reached 53 = .ok (.iload_n 2, 1) := by decide +kernel
theorem dX1_reached_54 : decode cX1_reached 54 = .ok (.iand, 1) := by decide +kernel
theorem dX1_reached_55 : decode cX1_reached 55 = .ok (.iload_n 3, 1) := by decide +kernel
theorem dX1_reached_56 : decode cX1_reached 56 = .ok (.iconst (-1), 1) := by decide +kernel
theorem dX1_reached_57 : decode cX1_reached 57 = .ok (.ixor, 1) := by decide +kernel
theorem dX1_reached_58 : decode cX1_reached 58 = .ok (.iand, 1) := by decide +kernel
theorem dX1_reached_59 : decode cX1_reached 59 = .ok (.istore 4, 2) := by decide +kernel
theorem dX1_reached_61 : decode cX1_reached 61 = .ok (.iload_n 3, 1) := by decide +kernel
theorem dX1_reached_62 : decode cX1_reached 62 = .ok (.iload 4, 2) := by decide +kernel
theorem dX1_reached_64 : decode cX1_reached 64 = .ok (.ior, 1) := by decide +kernel
theorem dX1_reached_65 : decode cX1_reached 65 = .ok (.istore_n 3, 1) := by decide +kernel
theorem dX1_reached_66 : decode cX1_reached 66 = .ok (.goto (-59), 3) := by decide +kernel
theorem dX1_reached_69 : decode cX1_reached 69 = .ok (.iload_n 3, 1) := by decide +kernel
theorem dX1_reached_70 : decode cX1_reached 70 = .ok (.ireturn, 1) := by decide +kernel
theorem q7 : (Jvm.Cond.initialized "SeverDesk$Roads") ∈ lw_all := lw_g (lw_at lw_m0 2 rfl) rfl
theorem q20 : (Jvm.Cond.instantiable "SeverDesk$Roads" (2 : Nat)) ∈ lw_all := lw_g (lw_at lw_m0 15 rfl) rfl
theorem q22 : (Jvm.Cond.instanceMethod ({ cls := "SeverDesk$Roads", name := "<init>", desc := "()V" } : Jvm.MethodName)) ∈ lw_all := lw_g (lw_at lw_m0 17 rfl) rfl
theorem q23 : (Jvm.Cond.code ({ cls := "SeverDesk$Roads", name := "<init>", desc := "()V" } : Jvm.MethodName) prog_3_method_1_code (1 : Nat) (Option.none : Option Jvm.ClassFile.FieldType)) ∈ lw_all := lw_g (lw_at lw_m0 18 rfl) rfl
theorem q24 : (Jvm.Cond.methodLink "SeverDesk$Roads" (3 : Nat) ({ cls := "java/lang/Object", name := "<init>", desc := "()V" } : Jvm.MethodName)) ∈ lw_all := lw_g (lw_at lw_m0 19 rfl) rfl
theorem q25 : (Jvm.Cond.fieldLink "SeverDesk$Roads" (9 : Nat) "SeverDesk$Roads" "to" "[I") ∈ lw_all := lw_g (lw_at lw_m0 20 rfl) rfl
theorem q27 : (Jvm.Cond.fieldLink "SeverDesk$Roads" (15 : Nat) "SeverDesk$Roads" "count" "I") ∈ lw_all := lw_g (lw_at lw_m0 22 rfl) rfl
theorem q30 : (Jvm.Cond.laysFinal "SeverDesk$Roads" "SeverDesk$Roads" "to" "[I") ∈ lw_all := lw_g (lw_at lw_m0 25 rfl) rfl
theorem q31 : (Jvm.Cond.soleField "SeverDesk$Roads" "to") ∈ lw_all := lw_g (lw_at lw_m0 26 rfl) rfl
theorem q32 : (Jvm.Cond.lays "SeverDesk$Roads" "SeverDesk$Roads" "count" "I") ∈ lw_all := lw_g (lw_at lw_m0 27 rfl) rfl
theorem q33 : (Jvm.Cond.soleField "SeverDesk$Roads" "count") ∈ lw_all := lw_g (lw_at lw_m0 28 rfl) rfl
theorem q34 : (Jvm.Cond.superclass "SeverDesk$Roads" "java/lang/Object") ∈ lw_all := lw_g (lw_at lw_m0 29 rfl) rfl
theorem q58 : (Jvm.Cond.instanceMethod ({ cls := "SeverDesk$Roads", name := "begin", desc := "(I)V" } : Jvm.MethodName)) ∈ lw_all := lw_g (lw_at lw_m0 53 rfl) rfl
theorem q59 : (Jvm.Cond.selects "SeverDesk$Roads" ({ cls := "SeverDesk$Roads", name := "begin", desc := "(I)V" } : Jvm.MethodName) ({ cls := "SeverDesk$Roads", name := "begin", desc := "(I)V" } : Jvm.MethodName)) ∈ lw_all := lw_g (lw_at lw_m0 54 rfl) rfl
theorem q60 : (Jvm.Cond.code ({ cls := "SeverDesk$Roads", name := "begin", desc := "(I)V" } : Jvm.MethodName) prog_3_method_2_code (3 : Nat) (Option.none : Option Jvm.ClassFile.FieldType)) ∈ lw_all := lw_g (lw_at lw_m0 55 rfl) rfl
theorem q78 : (Jvm.Cond.instanceMethod ({ cls := "SeverDesk$Roads", name := "place", desc := "(I)I" } : Jvm.MethodName)) ∈ lw_all := lw_g (lw_at lw_m0 73 rfl) rfl
theorem q79 : (Jvm.Cond.selects "SeverDesk$Roads" ({ cls := "SeverDesk$Roads", name := "place", desc := "(I)I" } : Jvm.MethodName) ({ cls := "SeverDesk$Roads", name := "place", desc := "(I)I" } : Jvm.MethodName)) ∈ lw_all := lw_g (lw_at lw_m0 74 rfl) rfl
theorem q80 : (Jvm.Cond.code ({ cls := "SeverDesk$Roads", name := "place", desc := "(I)I" } : Jvm.MethodName) prog_3_method_3_code (2 : Nat) (Option.some Jvm.ClassFile.FieldType.int)) ∈ lw_all := lw_g (lw_at lw_m0 75 rfl) rfl
theorem q81 : (Jvm.Cond.constant "SeverDesk$Roads" (19 : Nat) (2147483647 : Int32)) ∈ lw_all := lw_g (lw_at lw_m0 76 rfl) rfl
theorem q95 : (Jvm.Cond.instanceMethod ({ cls := "SeverDesk$Roads", name := "has", desc := "(II)Z" } : Jvm.MethodName)) ∈ lw_all := lw_g (lw_at lw_m0 90 rfl) rfl
theorem q96 : (Jvm.Cond.selects "SeverDesk$Roads" ({ cls := "SeverDesk$Roads", name := "has", desc := "(II)Z" } : Jvm.MethodName) ({ cls := "SeverDesk$Roads", name := "has", desc := "(II)Z" } : Jvm.MethodName)) ∈ lw_all := lw_g (lw_at lw_m0 91 rfl) rfl
theorem q97 : (Jvm.Cond.code ({ cls := "SeverDesk$Roads", name := "has", desc := "(II)Z" } : Jvm.MethodName) prog_3_method_4_code (3 : Nat) (Option.some Jvm.ClassFile.FieldType.boolean)) ∈ lw_all := lw_g (lw_at lw_m0 92 rfl) rfl
theorem q120 : (Jvm.Cond.instanceMethod ({ cls := "SeverDesk$Roads", name := "reached", desc := "(II)I" } : Jvm.MethodName)) ∈ lw_all := lw_g (lw_at lw_m0 115 rfl) rfl
theorem q121 : (Jvm.Cond.selects "SeverDesk$Roads" ({ cls := "SeverDesk$Roads", name := "reached", desc := "(II)I" } : Jvm.MethodName) ({ cls := "SeverDesk$Roads", name := "reached", desc := "(II)I" } : Jvm.MethodName)) ∈ lw_all := lw_g (lw_at lw_m0 116 rfl) rfl
theorem q122 : (Jvm.Cond.code ({ cls := "SeverDesk$Roads", name := "reached", desc := "(II)I" } : Jvm.MethodName) prog_3_method_5_code (7 : Nat) (Option.some Jvm.ClassFile.FieldType.int)) ∈ lw_all := lw_g (lw_at lw_m0 117 rfl) rfl
theorem q123 : (Jvm.Cond.methodLink "SeverDesk$Roads" (20 : Nat) ({ cls := "java/lang/Integer", name := "numberOfTrailingZeros", desc := "(I)I" } : Jvm.MethodName)) ∈ lw_all := lw_g (lw_at lw_m0 118 rfl) rfl
theorem in_X1 : ∀ w ∈ wsX10, w ∈ lw_all := lw_in wsX10 [30, 32] (by decide +kernel) (by decide +kernel)
theorem q5 : (Jvm.Cond.initialized "SeverDeskLaw") ∈ lw_all := lw_g (lw_at lw_m0 0 rfl) rfl
set_option maxRecDepth 100000
theorem q11 : (Jvm.Cond.classLink "SeverDeskLaw" (7 : Nat) "SeverDesk") ∈ lw_all := lw_g (lw_at lw_m0 6 rfl) rfl
theorem q13 : (Jvm.Cond.methodLink "SeverDeskLaw" (9 : Nat) ({ cls := "SeverDesk", name := "<init>", desc := "()V" } : Jvm.MethodName)) ∈ lw_all := lw_g (lw_at lw_m0 8 rfl) rfl
theorem q68 : (Jvm.Cond.methodLink "SeverDeskLaw" (13 : Nat) ({ cls := "SeverDesk", name := "places", desc := "(I)V" } : Jvm.MethodName)) ∈ lw_all := lw_g (lw_at lw_m0 63 rfl) rfl
theorem q73 : (Jvm.Cond.methodLink "SeverDeskLaw" (18 : Nat) ({ cls := "SeverDesk", name := "road", desc := "(II)Z" } : Jvm.MethodName)) ∈ lw_all := lw_g (lw_at lw_m0 68 rfl) rfl
theorem q82 : (Jvm.Cond.methodLink "SeverDeskLaw" (23 : Nat) ({ cls := "SeverDesk", name := "close", desc := "(II)V" } : Jvm.MethodName)) ∈ lw_all := lw_g (lw_at lw_m0 77 rfl) rfl
theorem q86 : (Jvm.Cond.methodLink "SeverDeskLaw" (28 : Nat) ({ cls := "SeverDesk", name := "cut", desc := "(II)I" } : Jvm.MethodName)) ∈ lw_all := lw_g (lw_at lw_m0 81 rfl) rfl
theorem q111 : (Jvm.Cond.methodLink "SeverDeskLaw" (33 : Nat) ({ cls := "SeverDesk", name := "first", desc := "(II)I" } : Jvm.MethodName)) ∈ lw_all := lw_g (lw_at lw_m0 106 rfl) rfl
theorem q115 : (Jvm.Cond.methodLink "SeverDeskLaw" (37 : Nat) ({ cls := "SeverDesk", name := "reached", desc := "(I)I" } : Jvm.MethodName)) ∈ lw_all := lw_g (lw_at lw_m0 110 rfl) rfl
theorem q127 : (Jvm.Cond.methodLink "SeverDeskLaw" (42 : Nat) ({ cls := "SeverDesk", name := "gates", desc := "(II)I" } : Jvm.MethodName)) ∈ lw_all := lw_g (lw_at lw_m0 122 rfl) rfl
theorem q131 : (Jvm.Cond.methodLink "SeverDeskLaw" (46 : Nat) ({ cls := "SeverDesk", name := "rings", desc := "()I" } : Jvm.MethodName)) ∈ lw_all := lw_g (lw_at lw_m0 126 rfl) rfl
theorem q135 : (Jvm.Cond.classLink "SeverDeskLaw" (10 : Nat) "SeverDeskModel") ∈ lw_all := lw_g (lw_at lw_m0 130 rfl) rfl
theorem q137 : (Jvm.Cond.methodLink "SeverDeskLaw" (12 : Nat) ({ cls := "SeverDeskModel", name := "<init>", desc := "()V" } : Jvm.MethodName)) ∈ lw_all := lw_g (lw_at lw_m0 132 rfl) rfl
theorem q148 : (Jvm.Cond.methodLink "SeverDeskLaw" (17 : Nat) ({ cls := "SeverDeskModel", name := "places", desc := "(I)V" } : Jvm.MethodName)) ∈ lw_all := lw_g (lw_at lw_m0 143 rfl) rfl
theorem q153 : (Jvm.Cond.methodLink "SeverDeskLaw" (22 : Nat) ({ cls := "SeverDeskModel", name := "road", desc := "(II)Z" } : Jvm.MethodName)) ∈ lw_all := lw_g (lw_at lw_m0 148 rfl) rfl
theorem q161 : (Jvm.Cond.methodLink "SeverDeskLaw" (27 : Nat) ({ cls := "SeverDeskModel", name := "close", desc := "(II)V" } : Jvm.MethodName)) ∈ lw_all := lw_g (lw_at lw_m0 156 rfl) rfl
theorem q165 : (Jvm.Cond.methodLink "SeverDeskLaw" (32 : Nat) ({ cls := "SeverDeskModel", name := "cut", desc := "(II)I" } : Jvm.MethodName)) ∈ lw_all := lw_g (lw_at lw_m0 160 rfl) rfl
theorem q176 : (Jvm.Cond.methodLink "SeverDeskLaw" (36 : Nat) ({ cls := "SeverDeskModel", name := "first", desc := "(II)I" } : Jvm.MethodName)) ∈ lw_all := lw_g (lw_at lw_m0 171 rfl) rfl
theorem q181 : (Jvm.Cond.methodLink "SeverDeskLaw" (41 : Nat) ({ cls := "SeverDeskModel", name := "reached", desc := "(I)I" } : Jvm.MethodName)) ∈ lw_all := lw_g (lw_at lw_m0 176 rfl) rfl
theorem q185 : (Jvm.Cond.methodLink "SeverDeskLaw" (45 : Nat) ({ cls := "SeverDeskModel", name := "gates", desc := "(II)I" } : Jvm.MethodName)) ∈ lw_all := lw_g (lw_at lw_m0 180 rfl) rfl
theorem q189 : (Jvm.Cond.methodLink "SeverDeskLaw" (50 : Nat) ({ cls := "SeverDeskModel", name := "rings", desc := "()I" } : Jvm.MethodName)) ∈ lw_all := lw_g (lw_at lw_m0 184 rfl) rfl
theorem q35 : (Jvm.Cond.arrayClass Jvm.ClassFile.FieldType.int) ∈ lw_all := lw_g (lw_at lw_m0 30 rfl) rfl
set_option maxRecDepth 100000
theorem q43 : (Jvm.Cond.arrayOver (Jvm.ClassFile.FieldType.array Jvm.ClassFile.FieldType.int)) ∈ lw_tbl := lw_at lw_m0 38 rfl
end
section
/-! SeverDesk$Flow -/
set_option maxRecDepth 100000
def RX2 : String := "SeverDesk$Flow"
def TX2 : u_T := fun k => match k with
  | 0 => ("SeverDesk$Flow", "roads", "LSeverDesk$Roads;", true)
  | 1 => ("SeverDesk$Flow", "left", "[[I", true)
  | 2 => ("SeverDesk$Flow", "before", "[I", true)
  | _ => ("SeverDesk$Flow", "queue", "[I", true)
def tyX2 : Nat → FieldType := fun k => match k with
  | 0 => .object "SeverDesk$Roads"
  | 1 => .array (.array .int)
  | 2 => .array .int
  | _ => .array .int
abbrev wsX20 : List Cond := u_ws RX2 TX2 4
theorem nmX2 : ∀ a, a < 4 → ∀ b, b < 4 → a ≠ b → (TX2 a).2.1 ≠ (TX2 b).2.1 := by decide +kernel
theorem tyX2_ok : ∀ k, k < 4 → parseFieldDescriptor (TX2 k).2.2.1 = some (tyX2 k) := by decide +kernel
abbrev cX2_init : ByteArray := prog_2_method_1_code
def yX2_init : MethodName := ⟨RX2, "<init>", "(LSeverDesk$Roads;)V"⟩
theorem dX2_init_0 : decode cX2_init 0 = .ok (.aload_n 0, 1) := by decide +kernel
theorem dX2_init_1 : decode cX2_init 1 = .ok (.invokespecial 3, 3) := by decide +kernel
theorem dX2_init_4 : decode cX2_init 4 = .ok (.aload_n 0, 1) := by decide +kernel
theorem dX2_init_5 : decode cX2_init 5 = .ok (.bipush 16, 2) := by decide +kernel
theorem dX2_init_7 : decode cX2_init 7 = .ok (.bipush 16, 2) := by decide +kernel
theorem dX2_init_9 : decode cX2_init 9 = .ok (.multianewarray 9 2, 4) := by decide +kernel
theorem dX2_init_13 : decode cX2_init 13 = .ok (.putfield 11, 3) := by decide +kernel
theorem dX2_init_16 : decode cX2_init 16 = .ok (.aload_n 0, 1) := by decide +kernel
theorem dX2_init_17 : decode cX2_init 17 = .ok (.bipush 16, 2) := by decide +kernel
theorem dX2_init_19 : decode cX2_init 19 = .ok (.newarray .int, 2) := by decide +kernel
theorem dX2_init_21 : decode cX2_init 21 = .ok (.putfield 16, 3) := by decide +kernel
theorem dX2_init_24 : decode cX2_init 24 = .ok (.aload_n 0, 1) := by decide +kernel
theorem dX2_init_25 : decode cX2_init 25 = .ok (.bipush 16, 2) := by decide +kernel
theorem dX2_init_27 : decode cX2_init 27 = .ok (.newarray .int, 2) := by decide +kernel
theorem dX2_init_29 : decode cX2_init 29 = .ok (.putfield 20, 3) := by decide +kernel
theorem dX2_init_32 : decode cX2_init 32 = .ok (.aload_n 0, 1) := by decide +kernel
theorem dX2_init_33 : decode cX2_init 33 = .ok (.aload_n 1, 1) := by decide +kernel
theorem dX2_init_34 : decode cX2_init 34 = .ok (.putfield 23, 3) := by decide +kernel
theorem dX2_init_37 : decode cX2_init 37 = .ok (.return_, 1) := by decide +kernel
abbrev cX2_greatest : ByteArray := prog_2_method_4_code
def yX2_greatest : MethodName := ⟨RX2, "greatest", "(IIII)I"⟩
theorem dX2_greatest_0 : decode cX2_greatest 0 = .ok (.aload_n 0, 1) := by decide +kernel
theorem dX2_greatest_1 : decode cX2_greatest 1 = .ok (.iload_n 3, 1) := by decide +kernel
theorem dX2_greatest_2 : decode cX2_greatest 2 = .ok (.iload 4, 2) := by decide +kernel
theorem dX2_greatest_4 : decode cX2_greatest 4 = .ok (.iconst 1, 1) := by decide +kernel
theorem dX2_greatest_5 : decode cX2_greatest 5 = .ok (.iload_n 1, 1) := by decide +kernel
theorem dX2_greatest_6 : decode cX2_greatest 6 = .ok (.ishl, 1) := by decide +kernel
theorem dX2_greatest_7 : decode cX2_greatest 7 = .ok (.ior, 1) := by decide +kernel
theorem dX2_greatest_8 : decode cX2_greatest 8 = .ok (.iconst 1, 1) := by decide +kernel
theorem dX2_greatest_9 : decode cX2_greatest 9 = .ok (.iload_n 2, 1) := by decide +kernel
theorem dX2_greatest_10 : decode cX2_greatest 10 = .ok (.ishl, 1) := by decide +kernel
theorem dX2_greatest_11 : decode cX2_greatest 11 = .ok (.ior, 1) := by decide +kernel
theorem dX2_greatest_12 : decode cX2_greatest 12 = .ok (.invokevirtual 37, 3) := by decide +kernel
theorem dX2_greatest_15 : decode cX2_greatest 15 = .ok (.iconst 0, 1) := by decide +kernel
theorem dX2_greatest_16 : decode cX2_greatest 16 = .ok (.istore 5, 2) := by decide +kernel
theorem dX2_greatest_18 : decode cX2_greatest 18 = .ok (.iload 5, 2) := by decide +kernel
theorem dX2_greatest_20 : decode cX2_greatest 20 = .ok (.bipush 8, 2) := by decide +kernel
theorem dX2_greatest_22 : decode cX2_greatest 22 = .ok (.if_icmp .ge 24, 3) := by decide +kernel
theorem dX2_greatest_25 : decode cX2_greatest 25 = .ok (.aload_n 0, 1) := by decide +kernel
theorem dX2_greatest_26 : decode cX2_greatest 26 = .ok (.iconst 2, 1) := by decide +kernel
theorem dX2_greatest_27 : decode cX2_greatest 27 = .ok (.iload_n 1, 1) := by decide +kernel
theorem dX2_greatest_28 : decode cX2_greatest 28 = .ok (.imul, 1) := by decide +kernel
theorem dX2_greatest_29 : decode cX2_greatest 29 = .ok (.iconst 1, 1) := by decide +kernel
theorem dX2_greatest_30 : decode cX2_greatest 30 = .ok (.iadd, 1) := by decide +kernel
theorem dX2_greatest_31 : decode cX2_greatest 31 = .ok (.iconst 2, 1) := by decide +kernel
theorem dX2_greatest_32 : decode cX2_greatest 32 = .ok (.iload_n 2, 1) := by decide +kernel
theorem dX2_greatest_33 : decode cX2_greatest 33 = .ok (.imul, 1) := by decide +kernel
theorem dX2_greatest_34 : decode cX2_greatest 34 = .ok (.invokevirtual 41, 3) := by decide +kernel
theorem dX2_greatest_37 : decode cX2_greatest 37 = .ok (.ifCond .eq 9, 3) := by decide +kernel
theorem dX2_greatest_40 : decode cX2_greatest 40 = .ok (.iinc 5 1, 3) := by decide +kernel
theorem dX2_greatest_43 : decode cX2_greatest 43 = .ok (.goto (-25), 3) := by decide +kernel
theorem dX2_greatest_46 : decode cX2_greatest 46 = .ok (.iload 5, 2) := by decide +kernel
theorem dX2_greatest_48 : decode cX2_greatest 48 = .ok (.ireturn, 1) := by decide +kernel
abbrev cX2_lay : ByteArray := prog_2_method_2_code
def yX2_lay : MethodName := ⟨RX2, "lay", "(II)V"⟩
theorem dX2_lay_0 : decode cX2_lay 0 = .ok (.iconst 0, 1) := by decide +kernel
theorem dX2_lay_1 : decode cX2_lay 1 = .ok (.istore_n 3, 1) := by decide +kernel
theorem dX2_lay_2 : decode cX2_lay 2 = .ok (.iload_n 3, 1) := by decide +kernel
theorem dX2_lay_3 : decode cX2_lay 3 = .ok (.bipush 16, 2) := by decide +kernel
theorem dX2_lay_5 : decode cX2_lay 5 = .ok (.if_icmp .ge 35, 3) := by decide +kernel
theorem dX2_lay_8 : decode cX2_lay 8 = .ok (.iconst 0, 1) := by decide +kernel
theorem dX2_lay_9 : decode cX2_lay 9 = .ok (.istore 4, 2) := by decide +kernel
theorem dX2_lay_11 : decode cX2_lay 11 = .ok (.iload 4, 2) := by decide +kernel
theorem dX2_lay_13 : decode cX2_lay 13 = .ok (.bipush 16, 2) := by decide +kernel
theorem dX2_lay_15 : decode cX2_lay 15 = .ok (.if_icmp .ge 19, 3) := by decide +kernel
theorem dX2_lay_18 : decode cX2_lay 18 = .ok (.aload_n 0, 1) := by decide +kernel
theorem dX2_lay_19 : decode cX2_lay 19 = .ok (.getfield 11, 3) := by decide +kernel
theorem dX2_lay_22 : decode cX2_lay 22 = .ok (.iload_n 3, 1) := by decide +kernel
theorem dX2_lay_23 : decode cX2_lay 23 = .ok (.aaload, 1) := by decide +kernel
theorem dX2_lay_24 : decode cX2_lay 24 = .ok (.iload 4, 2) := by decide +kernel
theorem dX2_lay_26 : decode cX2_lay 26 = .ok (.iconst 0, 1) := by decide +kernel
theorem dX2_lay_27 : decode cX2_lay 27 = .ok (.iastore, 1) := by decide +kernel
theorem dX2_lay_28 : decode cX2_lay 28 = .ok (.iinc 4 1, 3) := by decide +kernel
theorem dX2_lay_31 : decode cX2_lay 31 = .ok (.goto (-20), 3) := by decide +kernel
theorem dX2_lay_34 : decode cX2_lay 34 = .ok (.iinc 3 1, 3) := by decide +kernel
theorem dX2_lay_37 : decode cX2_lay 37 = .ok (.goto (-35), 3) := by decide +kernel
theorem dX2_lay_40 : decode cX2_lay 40 = .ok (.iconst 0, 1) := by decide +kernel
theorem dX2_lay_41 : decode cX2_lay 41 = .ok (.istore_n 3, 1) := by decide +kernel
theorem dX2_lay_42 : decode cX2_lay 42 = .ok (.iload_n 3, 1) := by decide +kernel
theorem dX2_lay_43 : decode cX2_lay 43 = .ok (.aload_n 0, 1) := by decide +kernel
theorem dX2_lay_44 : decode cX2_lay 44 = .ok (.getfield 23, 3) := by decide +kernel
theorem dX2_lay_47 : decode cX2_lay 47 = .ok (.getfield 27, 3) := by decide +kernel
theorem dX2_lay_50 : decode cX2_lay 50 = .ok (.if_icmp .ge 110, 3) := by decide +kernel
theorem dX2_lay_53 : decode cX2_lay 53 = .ok (.iload_n 1, 1) := by decide +kernel
theorem dX2_lay_54 : decode cX2_lay 54 = .ok (.iload_n 3, 1) := by decide +kernel
theorem dX2_lay_55 : decode cX2_lay 55 = .ok (.ishr, 1) := by decide +kernel
theorem dX2_lay_56 : decode cX2_lay 56 = .ok (.iconst 1, 1) := by decide +kernel
theorem dX2_lay_57 : decode cX2_lay 57 = .ok (.iand, 1) := by decide +kernel
theorem dX2_lay_58 : decode cX2_lay 58 = .ok (.iconst 1, 1) := by decide +kernel
theorem dX2_lay_59 : decode cX2_lay 59 = .ok (.if_icmp .ne 6, 3) := by decide +kernel
theorem dX2_lay_62 : decode cX2_lay 62 = .ok (.goto 92, 3) := by decide +kernel
theorem dX2_lay_65 : decode cX2_lay 65 = .ok (.aload_n 0, 1) := by decide +kernel
theorem dX2_lay_66 : decode cX2_lay 66 = .ok (.getfield 11, 3) := by decide +kernel
theorem dX2_lay_69 : decode cX2_lay 69 = .ok (.iconst 2, 1) := by decide +kernel
theorem dX2_lay_70 : decode cX2_lay 70 = .ok (.iload_n 3, 1) := by decide +kernel
theorem dX2_lay_71 : decode cX2_lay 71 = .ok (.imul, 1) := by decide +kernel
theorem dX2_lay_72 : decode cX2_lay 72 = .ok (.aaload, 1) := by decide +kernel
theorem dX2_lay_73 : decode cX2_lay 73 = .ok (.iconst 2, 1) := by decide +kernel
theorem dX2_lay_74 : decode cX2_lay 74 = .ok (.iload_n 3, 1) := by decide +kernel
theorem dX2_lay_75 : decode cX2_lay 75 = .ok (.imul, 1) := by decide +kernel
theorem dX2_lay_76 : decode cX2_lay 76 = .ok (.iconst 1, 1) := by decide +kernel
theorem dX2_lay_77 : decode cX2_lay 77 = .ok (.iadd, 1) := by decide +kernel
theorem dX2_lay_78 : decode cX2_lay 78 = .ok (.iload_n 2, 1) := by decide +kernel
theorem dX2_lay_79 : decode cX2_lay 79 = .ok (.iload_n 3, 1) := by decide +kernel
theorem dX2_lay_80 : decode cX2_lay 80 = .ok (.ishr, 1) := by decide +kernel
theorem dX2_lay_81 : decode cX2_lay 81 = .ok (.iconst 1, 1) := by decide +kernel
theorem dX2_lay_82 : decode cX2_lay 82 = .ok (.iand, 1) := by decide +kernel
theorem dX2_lay_83 : decode cX2_lay 83 = .ok (.iconst 1, 1) := by decide +kernel
theorem dX2_lay_84 : decode cX2_lay 84 = .ok (.if_icmp .ne 8, 3) := by decide +kernel
theorem dX2_lay_87 : decode cX2_lay 87 = .ok (.bipush 8, 2) := by decide +kernel
theorem dX2_lay_89 : decode cX2_lay 89 = .ok (.goto 4, 3) := by decide +kernel
theorem dX2_lay_92 : decode cX2_lay 92 = .ok (.iconst 1, 1) := by decide +kernel
theorem dX2_lay_93 : decode cX2_lay 93 = .ok (.iastore, 1) := by decide +kernel
theorem dX2_lay_94 : decode cX2_lay 94 = .ok (.iconst 0, 1) := by decide +kernel
theorem dX2_lay_95 : decode cX2_lay 95 = .ok (.istore 4, 2) := by decide +kernel
theorem dX2_lay_97 : decode cX2_lay 97 = .ok (.iload 4, 2) := by decide +kernel
theorem dX2_lay_99 : decode cX2_lay 99 = .ok (.aload_n 0, 1) := by decide +kernel
theorem dX2_lay_100 : decode cX2_lay 100 = .ok (.getfield 23, 3) := by decide +kernel
theorem dX2_lay_103 : decode cX2_lay 103 = .ok (.getfield 27, 3) := by decide +kernel
theorem dX2_lay_106 : decode cX2_lay 106 = .ok (.if_icmp .ge 48, 3) := by decide +kernel
theorem dX2_lay_109 : decode cX2_lay 109 = .ok (.aload_n 0, 1) := by decide +kernel
theorem dX2_lay_110 : decode cX2_lay 110 = .ok (.getfield 23, 3) := by decide +kernel
theorem dX2_lay_113 : decode cX2_lay 113 = .ok (.iload_n 3, 1) := by decide +kernel
theorem dX2_lay_114 : decode cX2_lay 114 = .ok (.iload 4, 2) := by decide +kernel
theorem dX2_lay_116 : decode cX2_lay 116 = .ok (.invokevirtual 33, 3) := by decide +kernel
theorem dX2_lay_119 : decode cX2_lay 119 = .ok (.ifCond .eq 29, 3) := by decide +kernel
theorem dX2_lay_122 : decode cX2_lay 122 = .ok (.iload_n 1, 1) := by decide +kernel
theorem dX2_lay_123 : decode cX2_lay 123 = .ok (.iload 4, 2) := by decide +kernel
theorem dX2_lay_125 : decode cX2_lay 125 = .ok (.ishr, 1) := by decide +kernel
theorem dX2_lay_126 : decode cX2_lay 126 = .ok (.iconst 1, 1) := by decide +kernel
theorem dX2_lay_127 : decode cX2_lay 127 = .ok (.iand, 1) := by decide +kernel
theorem dX2_lay_128 : decode cX2_lay 128 = .ok (.ifCond .ne 20, 3) := by decide +kernel
theorem dX2_lay_131 : decode cX2_lay 131 = .ok (.aload_n 0, 1) := by decide +kernel
theorem dX2_lay_132 : decode cX2_lay 132 = .ok (.getfield 11, 3) := by decide +kernel
theorem dX2_lay_135 : decode cX2_lay 135 = .ok (.iconst 2, 1) := by decide +kernel
theorem dX2_lay_136 : decode cX2_lay 136 = .ok (.iload_n 3, 1) := by decide +kernel
theorem dX2_lay_137 : decode cX2_lay 137 = .ok (.imul, 1) := by decide +kernel
theorem dX2_lay_138 : decode cX2_lay 138 = .ok (.iconst 1, 1) := by decide +kernel
theorem dX2_lay_139 : decode cX2_lay 139 = .ok (.iadd, 1) := by decide +kernel
theorem dX2_lay_140 : decode cX2_lay 140 = .ok (.aaload, 1) := by decide +kernel
theorem dX2_lay_141 : decode cX2_lay 141 = .ok (.iconst 2, 1) := by decide +kernel
theorem dX2_lay_142 : decode cX2_lay 142 = .ok (.iload 4, 2) := by decide +kernel
theorem dX2_lay_144 : decode cX2_lay 144 = .ok (.imul, 1) := by decide +kernel
theorem dX2_lay_145 : decode cX2_lay 145 = .ok (.bipush 8, 2) := by decide +kernel
theorem dX2_lay_147 : decode cX2_lay 147 = .ok (.iastore, 1) := by decide +kernel
theorem dX2_lay_148 : decode cX2_lay 148 = .ok (.iinc 4 1, 3) := by decide +kernel
theorem dX2_lay_151 : decode cX2_lay 151 = .ok (.goto (-54), 3) := by decide +kernel
theorem dX2_lay_154 : decode cX2_lay 154 = .ok (.iinc 3 1, 3) := by decide +kernel
theorem dX2_lay_157 : decode cX2_lay 157 = .ok (.goto (-115), 3) := by decide +kernel
theorem dX2_lay_160 : decode cX2_lay 160 = .ok (.return_, 1) := by decide +kernel
abbrev cX2_more : ByteArray := prog_2_method_3_code
def yX2_more : MethodName := ⟨RX2, "more", "(II)Z"⟩
theorem dX2_more_0 : decode cX2_more 0 = .ok (.iconst 0, 1) := by decide +kernel
theorem dX2_more_1 : decode cX2_more 1 = .ok (.istore_n 3, 1) := by decide +kernel
theorem dX2_more_2 : decode cX2_more 2 = .ok (.iload_n 3, 1) := by decide +kernel
theorem dX2_more_3 : decode cX2_more 3 = .ok (.aload_n 0, 1) := by decide +kernel
theorem dX2_more_4 : decode cX2_more 4 = .ok (.getfield 16, 3) := by decide +kernel
theorem dX2_more_7 : decode cX2_more 7 = .ok (.arraylength, 1) := by decide +kernel
theorem dX2_more_8 : decode cX2_more 8 = .ok (.if_icmp .ge 16, 3) := by decide +kernel
theorem dX2_more_11 : decode cX2_more 11 = .ok (.aload_n 0, 1) := by decide +kernel
theorem dX2_more_12 : decode cX2_more 12 = .ok (.getfield 16, 3) := by decide +kernel
theorem dX2_more_15 : decode cX2_more 15 = .ok (.iload_n 3, 1) := by decide +kernel
theorem dX2_more_16 : decode cX2_more 16 = .ok (.iconst (-1), 1) := by decide +kernel
theorem dX2_more_17 : decode cX2_more 17 = .ok (.iastore, 1) := by decide +kernel
theorem dX2_more_18 : decode cX2_more 18 = .ok (.iinc 3 1, 3) := by decide +kernel
theorem dX2_more_21 : decode cX2_more 21 = .ok (.goto (-19), 3) := by decide +kernel
theorem dX2_more_24 : decode cX2_more 24 = .ok (.aload_n 0, 1) := by decide +kernel
theorem dX2_more_25 : decode cX2_more 25 = .ok (.getfield 16, 3) := by decide +kernel
theorem dX2_more_28 : decode cX2_more 28 = .ok (.iload_n 1, 1) := by decide +kernel
theorem dX2_more_29 : decode cX2_more 29 = .ok (.iload_n 1, 1) := by decide +kernel
theorem dX2_more_30 : decode cX2_more 30 = .ok (.iastore, 1) := by decide +kernel
theorem dX2_more_31 : decode cX2_more 31 = .ok (.iconst 0, 1) := by decide +kernel
theorem dX2_more_32 : decode cX2_more 32 = .ok (.istore_n 3, 1) := by decide +kernel
theorem dX2_more_33 : decode cX2_more 33 = .ok (.iconst 0, 1) := by decide +kernel
theorem dX2_more_34 : decode cX2_more 34 = .ok (.istore 4, 2) := by decide +kernel
theorem dX2_more_36 : decode cX2_more 36 = .ok (.aload_n 0, 1) := by decide +kernel
theorem dX2_more_37 : decode cX2_more 37 = .ok (.getfield 20, 3) := by decide +kernel
theorem dX2_more_40 : decode cX2_more 40 = .ok (.iload 4, 2) := by decide +kernel
theorem dX2_more_42 : decode cX2_more 42 = .ok (.iload_n 1, 1) := by decide +kernel
theorem dX2_more_43 : decode cX2_more 43 = .ok (.iastore, 1) := by decide +kernel
theorem dX2_more_44 : decode cX2_more 44 = .ok (.iinc 4 1, 3) := by decide +kernel
theorem dX2_more_47 : decode cX2_more 47 = .ok (.iload_n 3, 1) := by decide +kernel
theorem dX2_more_48 : decode cX2_more 48 = .ok (.iload 4, 2) := by decide +kernel
theorem dX2_more_50 : decode cX2_more 50 = .ok (.if_icmp .ge 96, 3) := by decide +kernel
theorem dX2_more_53 : decode cX2_more 53 = .ok (.aload_n 0, 1) := by decide +kernel
theorem dX2_more_54 : decode cX2_more 54 = .ok (.getfield 16, 3) := by decide +kernel
theorem dX2_more_57 : decode cX2_more 57 = .ok (.iload_n 2, 1) := by decide +kernel
theorem dX2_more_58 : decode cX2_more 58 = .ok (.iaload, 1) := by decide +kernel
theorem dX2_more_59 : decode cX2_more 59 = .ok (.ifCond .ge 87, 3) := by decide +kernel
theorem dX2_more_62 : decode cX2_more 62 = .ok (.aload_n 0, 1) := by decide +kernel
theorem dX2_more_63 : decode cX2_more 63 = .ok (.getfield 20, 3) := by decide +kernel
theorem dX2_more_66 : decode cX2_more 66 = .ok (.iload_n 3, 1) := by decide +kernel
theorem dX2_more_67 : decode cX2_more 67 = .ok (.iaload, 1) := by decide +kernel
theorem dX2_more_68 : decode cX2_more 68 = .ok (.istore 5, 2) := by decide +kernel
theorem dX2_more_70 : decode cX2_more 70 = .ok (.iinc 3 1, 3) := by decide +kernel
theorem dX2_more_73 : decode cX2_more 73 = .ok (.iconst 0, 1) := by decide +kernel
theorem dX2_more_74 : decode cX2_more 74 = .ok (.istore 6, 2) := by decide +kernel
theorem dX2_more_76 : decode cX2_more 76 = .ok (.iload 6, 2) := by decide +kernel
theorem dX2_more_78 : decode cX2_more 78 = .ok (.iconst 2, 1) := by decide +kernel
theorem dX2_more_79 : decode cX2_more 79 = .ok (.aload_n 0, 1) := by decide +kernel
theorem dX2_more_80 : decode cX2_more 80 = .ok (.getfield 23, 3) := by decide +kernel
theorem dX2_more_83 : decode cX2_more 83 = .ok (.getfield 27, 3) := by decide +kernel
theorem dX2_more_86 : decode cX2_more 86 = .ok (.imul, 1) := by decide +kernel
theorem dX2_more_87 : decode cX2_more 87 = .ok (.if_icmp .ge 56, 3) := by decide +kernel
theorem dX2_more_90 : decode cX2_more 90 = .ok (.aload_n 0, 1) := by decide +kernel
theorem dX2_more_91 : decode cX2_more 91 = .ok (.getfield 11, 3) := by decide +kernel
theorem dX2_more_94 : decode cX2_more 94 = .ok (.iload 5, 2) := by decide +kernel
theorem dX2_more_96 : decode cX2_more 96 = .ok (.aaload, 1) := by decide +kernel
theorem dX2_more_97 : decode cX2_more 97 = .ok (.iload 6, 2) := by decide +kernel
theorem dX2_more_99 : decode cX2_more 99 = .ok (.iaload, 1) := by decide +kernel
theorem dX2_more_100 : decode cX2_more 100 = .ok (.ifCond .eq 37, 3) := by decide +kernel
theorem dX2_more_103 : decode cX2_more 103 = .ok (.aload_n 0, 1) := by decide +kernel
theorem dX2_more_104 : decode cX2_more 104 = .ok (.getfield 16, 3) := by decide +kernel
theorem dX2_more_107 : decode cX2_more 107 = .ok (.iload 6, 2) := by decide +kernel
theorem dX2_more_109 : decode cX2_more 109 = .ok (.iaload, 1) := by decide +kernel
theorem dX2_more_110 : decode cX2_more 110 = .ok (.ifCond .lt 6, 3) := by decide +kernel
theorem dX2_more_113 : decode cX2_more 113 = .ok (.goto 24, 3) := by decide +kernel
theorem dX2_more_116 : decode cX2_more 116 = .ok (.aload_n 0, 1) := by decide +kernel
theorem dX2_more_117 : decode cX2_more 117 = .ok (.getfield 16, 3) := by decide +kernel
theorem dX2_more_120 : decode cX2_more 120 = .ok (.iload 6, 2) := by decide +kernel
theorem dX2_more_122 : decode cX2_more 122 = .ok (.iload 5, 2) := by decide +kernel
theorem dX2_more_124 : decode cX2_more 124 = .ok (.iastore, 1) := by decide +kernel
theorem dX2_more_125 : decode cX2_more 125 = .ok (.aload_n 0, 1) := by decide +kernel
theorem dX2_more_126 : decode cX2_more 126 = .ok (.getfield 20, 3) := by decide +kernel
theorem dX2_more_129 : decode cX2_more 129 = .ok (.iload 4, 2) := by decide +kernel
theorem dX2_more_131 : decode cX2_more 131 = .ok (.iload 6, 2) := by decide +kernel
theorem dX2_more_133 : decode cX2_more 133 = .ok (.iastore, 1) := by decide +kernel
theorem dX2_more_134 : decode cX2_more 134 = .ok (.iinc 4 1, 3) := by decide +kernel
theorem dX2_more_137 : decode cX2_more 137 = .ok (.iinc 6 1, 3) := by decide +kernel
theorem dX2_more_140 : decode cX2_more 140 = .ok (.goto (-64), 3) := by decide +kernel
theorem dX2_more_143 : decode cX2_more 143 = .ok (.goto (-96), 3) := by decide +kernel
theorem dX2_more_146 : decode cX2_more 146 = .ok (.aload_n 0, 1) := by decide +kernel
theorem dX2_more_147 : decode cX2_more 147 = .ok (.getfield 16, 3) := by decide +kernel
theorem dX2_more_150 : decode cX2_more 150 = .ok (.iload_n 2, 1) := by decide +kernel
theorem dX2_more_151 : decode cX2_more 151 = .ok (.iaload, 1) := by decide +kernel
theorem dX2_more_152 : decode cX2_more 152 = .ok (.ifCond .ge 5, 3) := by decide +kernel
theorem dX2_more_155 : decode cX2_more 155 = .ok (.iconst 0, 1) := by decide +kernel
theorem dX2_more_156 : decode cX2_more 156 = .ok (.ireturn, 1) := by decide +kernel
theorem dX2_more_157 : decode cX2_more 157 = .ok (.iload_n 2, 1) := by decide +kernel
theorem dX2_more_158 : decode cX2_more 158 = .ok (.istore 5, 2) := by decide +kernel
theorem dX2_more_160 : decode cX2_more 160 = .ok (.iload 5, 2) := by decide +kernel
theorem dX2_more_162 : decode cX2_more 162 = .ok (.iload_n 1, 1) := by decide +kernel
theorem dX2_more_163 : decode cX2_more 163 = .ok (.if_icmp .eq 53, 3) := by decide +kernel
theorem dX2_more_166 : decode cX2_more 166 = .ok (.aload_n 0, 1) := by decide +kernel
theorem dX2_more_167 : decode cX2_more 167 = .ok (.getfield 11, 3) := by decide +kernel
theorem dX2_more_170 : decode cX2_more 170 = .ok (.aload_n 0, 1) := by decide +kernel
theorem dX2_more_171 : decode cX2_more 171 = .ok (.getfield 16, 3) := by decide +kernel
theorem dX2_more_174 : decode cX2_more 174 = .ok (.iload 5, 2) := by decide +kernel
theorem dX2_more_176 : decode cX2_more 176 = .ok (.iaload, 1) := by decide +kernel
theorem dX2_more_177 : decode cX2_more 177 = .ok (.aaload, 1) := by decide +kernel
theorem dX2_more_178 : decode cX2_more 178 = .ok (.iload 5, 2) := by decide +kernel
theorem dX2_more_180 : decode cX2_more 180 = .ok (.dup2, 1) := by decide +kernel
theorem dX2_more_181 : decode cX2_more 181 = .ok (.iaload, 1) := by decide +kernel
theorem dX2_more_182 : decode cX2_more 182 = .ok (.iconst 1, 1) := by decide +kernel
theorem dX2_more_183 : decode cX2_more 183 = .ok (.isub, 1) := by decide +kernel
theorem dX2_more_184 : decode cX2_more 184 = .ok (.iastore, 1) := by decide +kernel
theorem dX2_more_185 : decode cX2_more 185 = .ok (.aload_n 0, 1) := by decide +kernel
theorem dX2_more_186 : decode cX2_more 186 = .ok (.getfield 11, 3) := by decide +kernel
theorem dX2_more_189 : decode cX2_more 189 = .ok (.iload 5, 2) := by decide +kernel
theorem dX2_more_191 : decode cX2_more 191 = .ok (.aaload, 1) := by decide +kernel
theorem dX2_more_192 : decode cX2_more 192 = .ok (.aload_n 0, 1) := by decide +kernel
theorem dX2_more_193 : decode cX2_more 193 = .ok (.getfield 16, 3) := by decide +kernel
theorem dX2_more_196 : decode cX2_more 196 = .ok (.iload 5, 2) := by decide +kernel
theorem dX2_more_198 : decode cX2_more 198 = .ok (.iaload, 1) := by decide +kernel
theorem dX2_more_199 : decode cX2_more 199 = .ok (.dup2, 1) := by decide +kernel
theorem dX2_more_200 : decode cX2_more 200 = .ok (.iaload, 1) := by decide +kernel
theorem dX2_more_201 : decode cX2_more 201 = .ok (.iconst 1, 1) := by decide +kernel
theorem dX2_more_202 : decode cX2_more 202 = .ok (.iadd, 1) := by decide +kernel
theorem dX2_more_203 : decode cX2_more 203 = .ok (.iastore, 1) := by decide +kernel
theorem dX2_more_204 : decode cX2_more 204 = .ok (.aload_n 0, 1) := by decide +kernel
theorem dX2_more_205 : decode cX2_more 205 = .ok (.getfield 16, 3) := by decide +kernel
theorem dX2_more_208 : decode cX2_more 208 = .ok (.iload 5, 2) := by decide +kernel
theorem dX2_more_210 : decode cX2_more 210 = .ok (.iaload, 1) := by decide +kernel
theorem dX2_more_211 : decode cX2_more 211 = .ok (.istore 5, 2) := by decide +kernel
theorem dX2_more_213 : decode cX2_more 213 = .ok (.goto (-53), 3) := by decide +kernel
theorem dX2_more_216 : decode cX2_more 216 = .ok (.iconst 1, 1) := by decide +kernel
theorem dX2_more_217 : decode cX2_more 217 = .ok (.ireturn, 1) := by decide +kernel
theorem q8 : (Jvm.Cond.initialized "SeverDesk$Flow") ∈ lw_all := lw_g (lw_at lw_m0 3 rfl) rfl
theorem q28 : (Jvm.Cond.fieldLinkNest "SeverDesk$Flow" (27 : Nat) "SeverDesk$Roads" "count" "I" "SeverDesk") ∈ lw_tbl := lw_at lw_m0 23 rfl
theorem q37 : (Jvm.Cond.instantiable "SeverDesk$Flow" (4 : Nat)) ∈ lw_all := lw_g (lw_at lw_m0 32 rfl) rfl
theorem q39 : (Jvm.Cond.instanceMethod ({ cls := "SeverDesk$Flow", name := "<init>", desc := "(LSeverDesk$Roads;)V" } : Jvm.MethodName)) ∈ lw_all := lw_g (lw_at lw_m0 34 rfl) rfl
theorem q40 : (Jvm.Cond.code ({ cls := "SeverDesk$Flow", name := "<init>", desc := "(LSeverDesk$Roads;)V" } : Jvm.MethodName) prog_2_method_1_code (2 : Nat) (Option.none : Option Jvm.ClassFile.FieldType)) ∈ lw_all := lw_g (lw_at lw_m0 35 rfl) rfl
theorem q41 : (Jvm.Cond.methodLink "SeverDesk$Flow" (3 : Nat) ({ cls := "java/lang/Object", name := "<init>", desc := "()V" } : Jvm.MethodName)) ∈ lw_all := lw_g (lw_at lw_m0 36 rfl) rfl
theorem q42 : (Jvm.Cond.classLink "SeverDesk$Flow" (9 : Nat) "[[I") ∈ lw_all := lw_g (lw_at lw_m0 37 rfl) rfl
theorem q44 : (Jvm.Cond.fieldLink "SeverDesk$Flow" (23 : Nat) "SeverDesk$Flow" "roads" "LSeverDesk$Roads;") ∈ lw_all := lw_g (lw_at lw_m0 39 rfl) rfl
theorem q45 : (Jvm.Cond.fieldLink "SeverDesk$Flow" (11 : Nat) "SeverDesk$Flow" "left" "[[I") ∈ lw_all := lw_g (lw_at lw_m0 40 rfl) rfl
theorem q46 : (Jvm.Cond.fieldLink "SeverDesk$Flow" (16 : Nat) "SeverDesk$Flow" "before" "[I") ∈ lw_all := lw_g (lw_at lw_m0 41 rfl) rfl
theorem q47 : (Jvm.Cond.fieldLink "SeverDesk$Flow" (20 : Nat) "SeverDesk$Flow" "queue" "[I") ∈ lw_all := lw_g (lw_at lw_m0 42 rfl) rfl
theorem q48 : (Jvm.Cond.laysFinal "SeverDesk$Flow" "SeverDesk$Flow" "roads" "LSeverDesk$Roads;") ∈ lw_all := lw_g (lw_at lw_m0 43 rfl) rfl
theorem q49 : (Jvm.Cond.soleField "SeverDesk$Flow" "roads") ∈ lw_all := lw_g (lw_at lw_m0 44 rfl) rfl
theorem q50 : (Jvm.Cond.laysFinal "SeverDesk$Flow" "SeverDesk$Flow" "left" "[[I") ∈ lw_all := lw_g (lw_at lw_m0 45 rfl) rfl
theorem q51 : (Jvm.Cond.soleField "SeverDesk$Flow" "left") ∈ lw_all := lw_g (lw_at lw_m0 46 rfl) rfl
theorem q52 : (Jvm.Cond.laysFinal "SeverDesk$Flow" "SeverDesk$Flow" "before" "[I") ∈ lw_all := lw_g (lw_at lw_m0 47 rfl) rfl
theorem q53 : (Jvm.Cond.soleField "SeverDesk$Flow" "before") ∈ lw_all := lw_g (lw_at lw_m0 48 rfl) rfl
theorem q54 : (Jvm.Cond.laysFinal "SeverDesk$Flow" "SeverDesk$Flow" "queue" "[I") ∈ lw_all := lw_g (lw_at lw_m0 49 rfl) rfl
theorem q55 : (Jvm.Cond.soleField "SeverDesk$Flow" "queue") ∈ lw_all := lw_g (lw_at lw_m0 50 rfl) rfl
theorem q56 : (Jvm.Cond.superclass "SeverDesk$Flow" "java/lang/Object") ∈ lw_all := lw_g (lw_at lw_m0 51 rfl) rfl
theorem q99 : (Jvm.Cond.instanceMethod ({ cls := "SeverDesk$Flow", name := "greatest", desc := "(IIII)I" } : Jvm.MethodName)) ∈ lw_all := lw_g (lw_at lw_m0 94 rfl) rfl
theorem q100 : (Jvm.Cond.selects "SeverDesk$Flow" ({ cls := "SeverDesk$Flow", name := "greatest", desc := "(IIII)I" } : Jvm.MethodName) ({ cls := "SeverDesk$Flow", name := "greatest", desc := "(IIII)I" } : Jvm.MethodName)) ∈ lw_all := lw_g (lw_at lw_m0 95 rfl) rfl
theorem q101 : (Jvm.Cond.code ({ cls := "SeverDesk$Flow", name := "greatest", desc := "(IIII)I" } : Jvm.MethodName) prog_2_method_4_code (6 : Nat) (Option.some Jvm.ClassFile.FieldType.int)) ∈ lw_all := lw_g (lw_at lw_m0 96 rfl) rfl
theorem q102 : (Jvm.Cond.methodLink "SeverDesk$Flow" (37 : Nat) ({ cls := "SeverDesk$Flow", name := "lay", desc := "(II)V" } : Jvm.MethodName)) ∈ lw_all := lw_g (lw_at lw_m0 97 rfl) rfl
theorem q103 : (Jvm.Cond.privateMethod ({ cls := "SeverDesk$Flow", name := "lay", desc := "(II)V" } : Jvm.MethodName)) ∈ lw_tbl := lw_at lw_m0 98 rfl
theorem q104 : (Jvm.Cond.instanceMethod ({ cls := "SeverDesk$Flow", name := "lay", desc := "(II)V" } : Jvm.MethodName)) ∈ lw_all := lw_g (lw_at lw_m0 99 rfl) rfl
theorem q105 : (Jvm.Cond.code ({ cls := "SeverDesk$Flow", name := "lay", desc := "(II)V" } : Jvm.MethodName) prog_2_method_2_code (5 : Nat) (Option.none : Option Jvm.ClassFile.FieldType)) ∈ lw_all := lw_g (lw_at lw_m0 100 rfl) rfl
theorem q106 : (Jvm.Cond.methodLink "SeverDesk$Flow" (33 : Nat) ({ cls := "SeverDesk$Roads", name := "has", desc := "(II)Z" } : Jvm.MethodName)) ∈ lw_all := lw_g (lw_at lw_m0 101 rfl) rfl
theorem q107 : (Jvm.Cond.methodLink "SeverDesk$Flow" (41 : Nat) ({ cls := "SeverDesk$Flow", name := "more", desc := "(II)Z" } : Jvm.MethodName)) ∈ lw_all := lw_g (lw_at lw_m0 102 rfl) rfl
theorem q108 : (Jvm.Cond.privateMethod ({ cls := "SeverDesk$Flow", name := "more", desc := "(II)Z" } : Jvm.MethodName)) ∈ lw_tbl := lw_at lw_m0 103 rfl
theorem q109 : (Jvm.Cond.instanceMethod ({ cls := "SeverDesk$Flow", name := "more", desc := "(II)Z" } : Jvm.MethodName)) ∈ lw_all := lw_g (lw_at lw_m0 104 rfl) rfl
theorem q110 : (Jvm.Cond.code ({ cls := "SeverDesk$Flow", name := "more", desc := "(II)Z" } : Jvm.MethodName) prog_2_method_3_code (7 : Nat) (Option.some Jvm.ClassFile.FieldType.boolean)) ∈ lw_all := lw_g (lw_at lw_m0 105 rfl) rfl
theorem in_X2 : ∀ w ∈ wsX20, w ∈ lw_all := lw_in wsX20 [48, 50, 52, 54] (by decide +kernel) (by decide +kernel)
end
section
/-! SeverDesk -/
set_option maxRecDepth 100000
def RX0 : String := "SeverDesk"
def TX0 : u_T := fun k => match k with
  | 0 => ("SeverDesk", "roads", "LSeverDesk$Roads;", true)
  | _ => ("SeverDesk", "flow", "LSeverDesk$Flow;", true)
def tyX0 : Nat → FieldType := fun k => match k with
  | 0 => .object "SeverDesk$Roads"
  | _ => .object "SeverDesk$Flow"
abbrev wsX00 : List Cond := u_ws RX0 TX0 2
theorem nmX0 : ∀ a, a < 2 → ∀ b, b < 2 → a ≠ b → (TX0 a).2.1 ≠ (TX0 b).2.1 := by decide +kernel
theorem tyX0_ok : ∀ k, k < 2 → parseFieldDescriptor (TX0 k).2.2.1 = some (tyX0 k) := by decide +kernel
abbrev cX0_init : ByteArray := prog_1_method_1_code
def yX0_init : MethodName := ⟨RX0, "<init>", "()V"⟩
theorem dX0_init_0 : decode cX0_init 0 = .ok (.aload_n 0, 1) := by decide +kernel
theorem dX0_init_1 : decode cX0_init 1 = .ok (.invokespecial 1, 3) := by decide +kernel
theorem dX0_init_4 : decode cX0_init 4 = .ok (.aload_n 0, 1) := by decide +kernel
theorem dX0_init_5 : decode cX0_init 5 = .ok (.new 7, 3) := by decide +kernel
theorem dX0_init_8 : decode cX0_init 8 = .ok (.dup, 1) := by decide +kernel
theorem dX0_init_9 : decode cX0_init 9 = .ok (.invokespecial 9, 3) := by decide +kernel
theorem dX0_init_12 : decode cX0_init 12 = .ok (.putfield 10, 3) := by decide +kernel
theorem dX0_init_15 : decode cX0_init 15 = .ok (.aload_n 0, 1) := by decide +kernel
theorem dX0_init_16 : decode cX0_init 16 = .ok (.new 16, 3) := by decide +kernel
theorem dX0_init_19 : decode cX0_init 19 = .ok (.dup, 1) := by decide +kernel
theorem dX0_init_20 : decode cX0_init 20 = .ok (.aload_n 0, 1) := by decide +kernel
theorem dX0_init_21 : decode cX0_init 21 = .ok (.getfield 10, 3) := by decide +kernel
theorem dX0_init_24 : decode cX0_init 24 = .ok (.invokespecial 18, 3) := by decide +kernel
theorem dX0_init_27 : decode cX0_init 27 = .ok (.putfield 21, 3) := by decide +kernel
theorem dX0_init_30 : decode cX0_init 30 = .ok (.aload_n 0, 1) := by decide +kernel
theorem dX0_init_31 : decode cX0_init 31 = .ok (.getfield 10, 3) := by decide +kernel
theorem dX0_init_34 : decode cX0_init 34 = .ok (.iconst 4, 1) := by decide +kernel
theorem dX0_init_35 : decode cX0_init 35 = .ok (.invokevirtual 25, 3) := by decide +kernel
theorem dX0_init_38 : decode cX0_init 38 = .ok (.return_, 1) := by decide +kernel
abbrev cX0_places : ByteArray := prog_1_method_2_code
def yX0_places : MethodName := ⟨RX0, "places", "(I)V"⟩
theorem dX0_places_0 : decode cX0_places 0 = .ok (.aload_n 0, 1) := by decide +kernel
theorem dX0_places_1 : decode cX0_places 1 = .ok (.getfield 10, 3) := by decide +kernel
theorem dX0_places_4 : decode cX0_places 4 = .ok (.iconst 2, 1) := by decide +kernel
theorem dX0_places_5 : decode cX0_places 5 = .ok (.iload_n 1, 1) := by decide +kernel
theorem dX0_places_6 : decode cX0_places 6 = .ok (.ldc 29, 2) := by decide +kernel
theorem dX0_places_8 : decode cX0_places 8 = .ok (.iand, 1) := by decide +kernel
theorem dX0_places_9 : decode cX0_places 9 = .ok (.bipush 7, 2) := by decide +kernel
theorem dX0_places_11 : decode cX0_places 11 = .ok (.irem, 1) := by decide +kernel
theorem dX0_places_12 : decode cX0_places 12 = .ok (.iadd, 1) := by decide +kernel
theorem dX0_places_13 : decode cX0_places 13 = .ok (.invokevirtual 25, 3) := by decide +kernel
theorem dX0_places_16 : decode cX0_places 16 = .ok (.return_, 1) := by decide +kernel
abbrev cX0_road : ByteArray := prog_1_method_3_code
def yX0_road : MethodName := ⟨RX0, "road", "(II)Z"⟩
theorem dX0_road_0 : decode cX0_road 0 = .ok (.aload_n 0, 1) := by decide +kernel
theorem dX0_road_1 : decode cX0_road 1 = .ok (.getfield 10, 3) := by decide +kernel
theorem dX0_road_4 : decode cX0_road 4 = .ok (.iload_n 1, 1) := by decide +kernel
theorem dX0_road_5 : decode cX0_road 5 = .ok (.invokevirtual 30, 3) := by decide +kernel
theorem dX0_road_8 : decode cX0_road 8 = .ok (.istore_n 3, 1) := by decide +kernel
theorem dX0_road_9 : decode cX0_road 9 = .ok (.aload_n 0, 1) := by decide +kernel
theorem dX0_road_10 : decode cX0_road 10 = .ok (.getfield 10, 3) := by decide +kernel
theorem dX0_road_13 : decode cX0_road 13 = .ok (.iload_n 2, 1) := by decide +kernel
theorem dX0_road_14 : decode cX0_road 14 = .ok (.invokevirtual 30, 3) := by decide +kernel
theorem dX0_road_17 : decode cX0_road 17 = .ok (.istore 4, 2) := by decide +kernel
theorem dX0_road_19 : decode cX0_road 19 = .ok (.iload_n 3, 1) := by decide +kernel
theorem dX0_road_20 : decode cX0_road 20 = .ok (.iload 4, 2) := by decide +kernel
theorem dX0_road_22 : decode cX0_road 22 = .ok (.if_icmp .ne 5, 3) := by decide +kernel
theorem dX0_road_25 : decode cX0_road 25 = .ok (.iconst 0, 1) := by decide +kernel
theorem dX0_road_26 : decode cX0_road 26 = .ok (.ireturn, 1) := by decide +kernel
theorem dX0_road_27 : decode cX0_road 27 = .ok (.aload_n 0, 1) := by decide +kernel
theorem dX0_road_28 : decode cX0_road 28 = .ok (.getfield 10, 3) := by decide +kernel
theorem dX0_road_31 : decode cX0_road 31 = .ok (.getfield 34, 3) := by decide +kernel
theorem dX0_road_34 : decode cX0_road 34 = .ok (.iload_n 3, 1) := by decide +kernel
theorem dX0_road_35 : decode cX0_road 35 = .ok (.dup2, 1) := by decide +kernel
theorem dX0_road_36 : decode cX0_road 36 = .ok (.iaload, 1) := by decide +kernel
theorem dX0_road_37 : decode cX0_road 37 = .ok (.iconst 1, 1) := by decide +kernel
theorem dX0_road_38 : decode cX0_road 38 = .ok (.iload 4, 2) := by decide +kernel
theorem dX0_road_40 : decode cX0_road 40 = .ok (.ishl, 1) := by decide +kernel
theorem dX0_road_41 : decode cX0_road 41 = .ok (.ior, 1) := by decide +kernel
theorem dX0_road_42 : decode cX0_road 42 = .ok (.iastore, 1) := by decide +kernel
theorem dX0_road_43 : decode cX0_road 43 = .ok (.iconst 1, 1) := by decide +kernel
theorem dX0_road_44 : decode cX0_road 44 = .ok (.ireturn, 1) := by decide +kernel
abbrev cX0_close : ByteArray := prog_1_method_4_code
def yX0_close : MethodName := ⟨RX0, "close", "(II)V"⟩
theorem dX0_close_0 : decode cX0_close 0 = .ok (.aload_n 0, 1) := by decide +kernel
theorem dX0_close_1 : decode cX0_close 1 = .ok (.getfield 10, 3) := by decide +kernel
theorem dX0_close_4 : decode cX0_close 4 = .ok (.getfield 34, 3) := by decide +kernel
theorem dX0_close_7 : decode cX0_close 7 = .ok (.aload_n 0, 1) := by decide +kernel
theorem dX0_close_8 : decode cX0_close 8 = .ok (.getfield 10, 3) := by decide +kernel
theorem dX0_close_11 : decode cX0_close 11 = .ok (.iload_n 1, 1) := by decide +kernel
theorem dX0_close_12 : decode cX0_close 12 = .ok (.invokevirtual 30, 3) := by decide +kernel
theorem dX0_close_15 : decode cX0_close 15 = .ok (.dup2, 1) := by decide +kernel
theorem dX0_close_16 : decode cX0_close 16 = .ok (.iaload, 1) := by decide +kernel
theorem dX0_close_17 : decode cX0_close 17 = .ok (.iconst 1, 1) := by decide +kernel
theorem dX0_close_18 : decode cX0_close 18 = .ok (.aload_n 0, 1) := by decide +kernel
theorem dX0_close_19 : decode cX0_close 19 = .ok (.getfield 10, 3) := by decide +kernel
theorem dX0_close_22 : decode cX0_close 22 = .ok (.iload_n 2, 1) := by decide +kernel
theorem dX0_close_23 : decode cX0_close 23 = .ok (.invokevirtual 30, 3) := by decide +kernel
theorem dX0_close_26 : decode cX0_close 26 = .ok (.ishl, 1) := by decide +kernel
theorem dX0_close_27 : decode cX0_close 27 = .ok (.iconst (-1), 1) := by decide +kernel
theorem dX0_close_28 : decode cX0_close 28 = .ok (.ixor, 1) := by decide +kernel
theorem dX0_close_29 : decode cX0_close 29 = .ok (.iand, 1) := by decide +kernel
theorem dX0_close_30 : decode cX0_close 30 = .ok (.iastore, 1) := by decide +kernel
theorem dX0_close_31 : decode cX0_close 31 = .ok (.return_, 1) := by decide +kernel
abbrev cX0_cut : ByteArray := prog_1_method_6_code
def yX0_cut : MethodName := ⟨RX0, "cut", "(II)I"⟩
theorem dX0_cut_0 : decode cX0_cut 0 = .ok (.aload_n 0, 1) := by decide +kernel
theorem dX0_cut_1 : decode cX0_cut 1 = .ok (.getfield 10, 3) := by decide +kernel
theorem dX0_cut_4 : decode cX0_cut 4 = .ok (.iload_n 1, 1) := by decide +kernel
theorem dX0_cut_5 : decode cX0_cut 5 = .ok (.invokevirtual 30, 3) := by decide +kernel
theorem dX0_cut_8 : decode cX0_cut 8 = .ok (.istore_n 3, 1) := by decide +kernel
theorem dX0_cut_9 : decode cX0_cut 9 = .ok (.aload_n 0, 1) := by decide +kernel
theorem dX0_cut_10 : decode cX0_cut 10 = .ok (.getfield 10, 3) := by decide +kernel
theorem dX0_cut_13 : decode cX0_cut 13 = .ok (.iload_n 2, 1) := by decide +kernel
theorem dX0_cut_14 : decode cX0_cut 14 = .ok (.invokevirtual 30, 3) := by decide +kernel
theorem dX0_cut_17 : decode cX0_cut 17 = .ok (.istore 4, 2) := by decide +kernel
theorem dX0_cut_19 : decode cX0_cut 19 = .ok (.aload_n 0, 1) := by decide +kernel
theorem dX0_cut_20 : decode cX0_cut 20 = .ok (.iload_n 3, 1) := by decide +kernel
theorem dX0_cut_21 : decode cX0_cut 21 = .ok (.iload 4, 2) := by decide +kernel
theorem dX0_cut_23 : decode cX0_cut 23 = .ok (.invokevirtual 42, 3) := by decide +kernel
theorem dX0_cut_26 : decode cX0_cut 26 = .ok (.ifCond .eq 7, 3) := by decide +kernel
theorem dX0_cut_29 : decode cX0_cut 29 = .ok (.iconst (-1), 1) := by decide +kernel
theorem dX0_cut_30 : decode cX0_cut 30 = .ok (.goto 15, 3) := by decide +kernel
theorem dX0_cut_33 : decode cX0_cut 33 = .ok (.aload_n 0, 1) := by decide +kernel
theorem dX0_cut_34 : decode cX0_cut 34 = .ok (.getfield 21, 3) := by decide +kernel
theorem dX0_cut_37 : decode cX0_cut 37 = .ok (.iload_n 3, 1) := by decide +kernel
theorem dX0_cut_38 : decode cX0_cut 38 = .ok (.iload 4, 2) := by decide +kernel
theorem dX0_cut_40 : decode cX0_cut 40 = .ok (.iconst 0, 1) := by decide +kernel
theorem dX0_cut_41 : decode cX0_cut 41 = .ok (.iconst 0, 1) := by decide +kernel
theorem dX0_cut_42 : decode cX0_cut 42 = .ok (.invokevirtual 45, 3) := by decide +kernel
theorem dX0_cut_45 : decode cX0_cut 45 = .ok (.ireturn, 1) := by decide +kernel
abbrev cX0_near : ByteArray := prog_1_method_5_code
def yX0_near : MethodName := ⟨RX0, "near", "(II)Z"⟩
theorem dX0_near_0 : decode cX0_near 0 = .ok (.iload_n 1, 1) := by decide +kernel
theorem dX0_near_1 : decode cX0_near 1 = .ok (.iload_n 2, 1) := by decide +kernel
theorem dX0_near_2 : decode cX0_near 2 = .ok (.if_icmp .eq 15, 3) := by decide +kernel
theorem dX0_near_5 : decode cX0_near 5 = .ok (.aload_n 0, 1) := by decide +kernel
theorem dX0_near_6 : decode cX0_near 6 = .ok (.getfield 10, 3) := by decide +kernel
theorem dX0_near_9 : decode cX0_near 9 = .ok (.iload_n 1, 1) := by decide +kernel
theorem dX0_near_10 : decode cX0_near 10 = .ok (.iload_n 2, 1) := by decide +kernel
theorem dX0_near_11 : decode cX0_near 11 = .ok (.invokevirtual 38, 3) := by decide +kernel
theorem dX0_near_14 : decode cX0_near 14 = .ok (.ifCond .eq 7, 3) := by decide +kernel
theorem dX0_near_17 : decode cX0_near 17 = .ok (.iconst 1, 1) := by decide +kernel
theorem dX0_near_18 : decode cX0_near 18 = .ok (.goto 4, 3) := by decide +kernel
theorem dX0_near_21 : decode cX0_near 21 = .ok (.iconst 0, 1) := by decide +kernel
theorem dX0_near_22 : decode cX0_near 22 = .ok (.ireturn, 1) := by decide +kernel
abbrev cX0_first : ByteArray := prog_1_method_7_code
def yX0_first : MethodName := ⟨RX0, "first", "(II)I"⟩
theorem dX0_first_0 : decode cX0_first 0 = .ok (.aload_n 0, 1) := by decide +kernel
theorem dX0_first_1 : decode cX0_first 1 = .ok (.getfield 10, 3) := by decide +kernel
theorem dX0_first_4 : decode cX0_first 4 = .ok (.iload_n 1, 1) := by decide +kernel
theorem dX0_first_5 : decode cX0_first 5 = .ok (.invokevirtual 30, 3) := by decide +kernel
theorem dX0_first_8 : decode cX0_first 8 = .ok (.istore_n 3, 1) := by decide +kernel
theorem dX0_first_9 : decode cX0_first 9 = .ok (.aload_n 0, 1) := by decide +kernel
theorem dX0_first_10 : decode cX0_first 10 = .ok (.getfield 10, 3) := by decide +kernel
theorem dX0_first_13 : decode cX0_first 13 = .ok (.iload_n 2, 1) := by decide +kernel
theorem dX0_first_14 : decode cX0_first 14 = .ok (.invokevirtual 30, 3) := by decide +kernel
theorem dX0_first_17 : decode cX0_first 17 = .ok (.istore 4, 2) := by decide +kernel
theorem dX0_first_19 : decode cX0_first 19 = .ok (.aload_n 0, 1) := by decide +kernel
theorem dX0_first_20 : decode cX0_first 20 = .ok (.iload_n 3, 1) := by decide +kernel
theorem dX0_first_21 : decode cX0_first 21 = .ok (.iload 4, 2) := by decide +kernel
theorem dX0_first_23 : decode cX0_first 23 = .ok (.invokevirtual 42, 3) := by decide +kernel
theorem dX0_first_26 : decode cX0_first 26 = .ok (.ifCond .eq 5, 3) := by decide +kernel
theorem dX0_first_29 : decode cX0_first 29 = .ok (.iconst (-1), 1) := by decide +kernel
theorem dX0_first_30 : decode cX0_first 30 = .ok (.ireturn, 1) := by decide +kernel
theorem dX0_first_31 : decode cX0_first 31 = .ok (.aload_n 0, 1) := by decide +kernel
theorem dX0_first_32 : decode cX0_first 32 = .ok (.getfield 21, 3) := by decide +kernel
theorem dX0_first_35 : decode cX0_first 35 = .ok (.iload_n 3, 1) := by decide +kernel
theorem dX0_first_36 : decode cX0_first 36 = .ok (.iload 4, 2) := by decide +kernel
theorem dX0_first_38 : decode cX0_first 38 = .ok (.iconst 0, 1) := by decide +kernel
theorem dX0_first_39 : decode cX0_first 39 = .ok (.iconst 0, 1) := by decide +kernel
theorem dX0_first_40 : decode cX0_first 40 = .ok (.invokevirtual 45, 3) := by decide +kernel
theorem dX0_first_43 : decode cX0_first 43 = .ok (.istore 5, 2) := by decide +kernel
theorem dX0_first_45 : decode cX0_first 45 = .ok (.iconst 0, 1) := by decide +kernel
theorem dX0_first_46 : decode cX0_first 46 = .ok (.istore 6, 2) := by decide +kernel
theorem dX0_first_48 : decode cX0_first 48 = .ok (.iconst 0, 1) := by decide +kernel
theorem dX0_first_49 : decode cX0_first 49 = .ok (.istore 7, 2) := by decide +kernel
theorem dX0_first_51 : decode cX0_first 51 = .ok (.aload_n 0, 1) := by decide +kernel
theorem dX0_first_52 : decode cX0_first 52 = .ok (.getfield 10, 3) := by decide +kernel
theorem dX0_first_55 : decode cX0_first 55 = .ok (.getfield 49, 3) := by decide +kernel
theorem dX0_first_58 : decode cX0_first 58 = .ok (.iconst 1, 1) := by decide +kernel
theorem dX0_first_59 : decode cX0_first 59 = .ok (.isub, 1) := by decide +kernel
theorem dX0_first_60 : decode cX0_first 60 = .ok (.istore 8, 2) := by decide +kernel
theorem dX0_first_62 : decode cX0_first 62 = .ok (.iload 8, 2) := by decide +kernel
theorem dX0_first_64 : decode cX0_first 64 = .ok (.ifCond .lt 78, 3) := by decide +kernel
theorem dX0_first_67 : decode cX0_first 67 = .ok (.iload 5, 2) := by decide +kernel
theorem dX0_first_69 : decode cX0_first 69 = .ok (.ifCond .le 73, 3) := by decide +kernel
theorem dX0_first_72 : decode cX0_first 72 = .ok (.iload 8, 2) := by decide +kernel
theorem dX0_first_74 : decode cX0_first 74 = .ok (.iload_n 3, 1) := by decide +kernel
theorem dX0_first_75 : decode cX0_first 75 = .ok (.if_icmp .eq 61, 3) := by decide +kernel
theorem dX0_first_78 : decode cX0_first 78 = .ok (.iload 8, 2) := by decide +kernel
theorem dX0_first_80 : decode cX0_first 80 = .ok (.iload 4, 2) := by decide +kernel
theorem dX0_first_82 : decode cX0_first 82 = .ok (.if_icmp .ne 6, 3) := by decide +kernel
theorem dX0_first_85 : decode cX0_first 85 = .ok (.goto 51, 3) := by decide +kernel
theorem dX0_first_88 : decode cX0_first 88 = .ok (.aload_n 0, 1) := by decide +kernel
theorem dX0_first_89 : decode cX0_first 89 = .ok (.getfield 21, 3) := by decide +kernel
theorem dX0_first_92 : decode cX0_first 92 = .ok (.iload_n 3, 1) := by decide +kernel
theorem dX0_first_93 : decode cX0_first 93 = .ok (.iload 4, 2) := by decide +kernel
theorem dX0_first_95 : decode cX0_first 95 = .ok (.iload 7, 2) := by decide +kernel
theorem dX0_first_97 : decode cX0_first 97 = .ok (.iload 6, 2) := by decide +kernel
theorem dX0_first_99 : decode cX0_first 99 = .ok (.iconst 1, 1) := by decide +kernel
theorem dX0_first_100 : decode cX0_first 100 = .ok (.iload 8, 2) := by decide +kernel
theorem dX0_first_102 : decode cX0_first 102 = .ok (.ishl, 1) := by decide +kernel
theorem dX0_first_103 : decode cX0_first 103 = .ok (.ior, 1) := by decide +kernel
theorem dX0_first_104 : decode cX0_first 104 = .ok (.invokevirtual 45, 3) := by decide +kernel
theorem dX0_first_107 : decode cX0_first 107 = .ok (.iload 5, 2) := by decide +kernel
theorem dX0_first_109 : decode cX0_first 109 = .ok (.if_icmp .ne 15, 3) := by decide +kernel
theorem dX0_first_112 : decode cX0_first 112 = .ok (.iload 6, 2) := by decide +kernel
theorem dX0_first_114 : decode cX0_first 114 = .ok (.iconst 1, 1) := by decide +kernel
theorem dX0_first_115 : decode cX0_first 115 = .ok (.iload 8, 2) := by decide +kernel
theorem dX0_first_117 : decode cX0_first 117 = .ok (.ishl, 1) := by decide +kernel
theorem dX0_first_118 : decode cX0_first 118 = .ok (.ior, 1) := by decide +kernel
theorem dX0_first_119 : decode cX0_first 119 = .ok (.istore 6, 2) := by decide +kernel
theorem dX0_first_121 : decode cX0_first 121 = .ok (.goto 15, 3) := by decide +kernel
theorem dX0_first_124 : decode cX0_first 124 = .ok (.iload 7, 2) := by decide +kernel
theorem dX0_first_126 : decode cX0_first 126 = .ok (.iconst 1, 1) := by decide +kernel
theorem dX0_first_127 : decode cX0_first 127 = .ok (.iload 8, 2) := by decide +kernel
theorem dX0_first_129 : decode cX0_first 129 = .ok (.ishl, 1) := by decide +kernel
theorem dX0_first_130 : decode cX0_first 130 = .ok (.ior, 1) := by decide +kernel
theorem dX0_first_131 : decode cX0_first 131 = .ok (.istore 7, 2) := by decide +kernel
theorem dX0_first_133 : decode cX0_first 133 = .ok (.iinc 5 (-1), 3) := by decide +kernel
theorem dX0_first_136 : decode cX0_first 136 = .ok (.iinc 8 (-1), 3) := by decide +kernel
theorem dX0_first_139 : decode cX0_first 139 = .ok (.goto (-77), 3) := by decide +kernel
theorem dX0_first_142 : decode cX0_first 142 = .ok (.iload 7, 2) := by decide +kernel
theorem dX0_first_144 : decode cX0_first 144 = .ok (.ireturn, 1) := by decide +kernel
abbrev cX0_reached : ByteArray := prog_1_method_8_code
def yX0_reached : MethodName := ⟨RX0, "reached", "(I)I"⟩
theorem dX0_reached_0 : decode cX0_reached 0 = .ok (.aload_n 0, 1) := by decide +kernel
theorem dX0_reached_1 : decode cX0_reached 1 = .ok (.getfield 10, 3) := by decide +kernel
theorem dX0_reached_4 : decode cX0_reached 4 = .ok (.aload_n 0, 1) := by decide +kernel
theorem dX0_reached_5 : decode cX0_reached 5 = .ok (.getfield 10, 3) := by decide +kernel
theorem dX0_reached_8 : decode cX0_reached 8 = .ok (.iload_n 1, 1) := by decide +kernel
theorem dX0_reached_9 : decode cX0_reached 9 = .ok (.invokevirtual 30, 3) := by decide +kernel
theorem dX0_reached_12 : decode cX0_reached 12 = .ok (.iconst 1, 1) := by decide +kernel
theorem dX0_reached_13 : decode cX0_reached 13 = .ok (.aload_n 0, 1) := by decide +kernel
theorem dX0_reached_14 : decode cX0_reached 14 = .ok (.getfield 10, 3) := by decide +kernel
theorem dX0_reached_17 : decode cX0_reached 17 = .ok (.getfield 49, 3) := by decide +kernel
theorem dX0_reached_20 : decode cX0_reached 20 = .ok (.ishl, 1) := by decide +kernel
theorem dX0_reached_21 : decode cX0_reached 21 = .ok (.iconst 1, 1) := by decide +kernel
theorem dX0_reached_22 : decode cX0_reached 22 = .ok (.isub, 1) := by decide +kernel
theorem dX0_reached_23 : decode cX0_reached 23 = .ok (.invokevirtual 53, 3) := by decide +kernel
theorem dX0_reached_26 : decode cX0_reached 26 = .ok (.ireturn, 1) := by decide +kernel
abbrev cX0_gates : ByteArray := prog_1_method_9_code
def yX0_gates : MethodName := ⟨RX0, "gates", "(II)I"⟩
theorem dX0_gates_0 : decode cX0_gates 0 = .ok (.aload_n 0, 1) := by decide +kernel
theorem dX0_gates_1 : decode cX0_gates 1 = .ok (.getfield 10, 3) := by decide +kernel
theorem dX0_gates_4 : decode cX0_gates 4 = .ok (.iload_n 1, 1) := by decide +kernel
theorem dX0_gates_5 : decode cX0_gates 5 = .ok (.invokevirtual 30, 3) := by decide +kernel
theorem dX0_gates_8 : decode cX0_gates 8 = .ok (.istore_n 3, 1) := by decide +kernel
theorem dX0_gates_9 : decode cX0_gates 9 = .ok (.aload_n 0, 1) := by decide +kernel
theorem dX0_gates_10 : decode cX0_gates 10 = .ok (.getfield 10, 3) := by decide +kernel
theorem dX0_gates_13 : decode cX0_gates 13 = .ok (.iload_n 2, 1) := by decide +kernel
theorem dX0_gates_14 : decode cX0_gates 14 = .ok (.invokevirtual 30, 3) := by decide +kernel
theorem dX0_gates_17 : decode cX0_gates 17 = .ok (.istore 4, 2) := by decide +kernel
theorem dX0_gates_19 : decode cX0_gates 19 = .ok (.iconst 1, 1) := by decide +kernel
theorem dX0_gates_20 : decode cX0_gates 20 = .ok (.aload_n 0, 1) := by decide +kernel
theorem dX0_gates_21 : decode cX0_gates 21 = .ok (.getfield 10, 3) := by decide +kernel
theorem dX0_gates_24 : decode cX0_gates 24 = .ok (.getfield 49, 3) := by decide +kernel
theorem dX0_gates_27 : decode cX0_gates 27 = .ok (.ishl, 1) := by decide +kernel
theorem dX0_gates_28 : decode cX0_gates 28 = .ok (.iconst 1, 1) := by decide +kernel
theorem dX0_gates_29 : decode cX0_gates 29 = .ok (.isub, 1) := by decide +kernel
theorem dX0_gates_30 : decode cX0_gates 30 = .ok (.istore 5, 2) := by decide +kernel
theorem dX0_gates_32 : decode cX0_gates 32 = .ok (.aload_n 0, 1) := by decide +kernel
theorem dX0_gates_33 : decode cX0_gates 33 = .ok (.getfield 10, 3) := by decide +kernel
theorem dX0_gates_36 : decode cX0_gates 36 = .ok (.iload_n 3, 1) := by decide +kernel
theorem dX0_gates_37 : decode cX0_gates 37 = .ok (.iload 5, 2) := by decide +kernel
theorem dX0_gates_39 : decode cX0_gates 39 = .ok (.invokevirtual 53, 3) := by decide +kernel
theorem dX0_gates_42 : decode cX0_gates 42 = .ok (.iload 4, 2) := by decide +kernel
theorem dX0_gates_44 : decode cX0_gates 44 = .ok (.ishr, 1) := by decide +kernel
theorem dX0_gates_45 : decode cX0_gates 45 = .ok (.iconst 1, 1) := by decide +kernel
theorem dX0_gates_46 : decode cX0_gates 46 = .ok (.iand, 1) := by decide +kernel
theorem dX0_gates_47 : decode cX0_gates 47 = .ok (.ifCond .ne 5, 3) := by decide +kernel
theorem dX0_gates_50 : decode cX0_gates 50 = .ok (.iconst (-1), 1) := by decide +kernel
theorem dX0_gates_51 : decode cX0_gates 51 = .ok (.ireturn, 1) := by decide +kernel
theorem dX0_gates_52 : decode cX0_gates 52 = .ok (.iconst 0, 1) := by decide +kernel
theorem dX0_gates_53 : decode cX0_gates 53 = .ok (.istore 6, 2) := by decide +kernel
theorem dX0_gates_55 : decode cX0_gates 55 = .ok (.iconst 0, 1) := by decide +kernel
theorem dX0_gates_56 : decode cX0_gates 56 = .ok (.istore 7, 2) := by decide +kernel
theorem dX0_gates_58 : decode cX0_gates 58 = .ok (.iload 7, 2) := by decide +kernel
theorem dX0_gates_60 : decode cX0_gates 60 = .ok (.aload_n 0, 1) := by decide +kernel
theorem dX0_gates_61 : decode cX0_gates 61 = .ok (.getfield 10, 3) := by decide +kernel
theorem dX0_gates_64 : decode cX0_gates 64 = .ok (.getfield 49, 3) := by decide +kernel
theorem dX0_gates_67 : decode cX0_gates 67 = .ok (.if_icmp .ge 59, 3) := by decide +kernel
theorem dX0_gates_70 : decode cX0_gates 70 = .ok (.iload 7, 2) := by decide +kernel
theorem dX0_gates_72 : decode cX0_gates 72 = .ok (.iload_n 3, 1) := by decide +kernel
theorem dX0_gates_73 : decode cX0_gates 73 = .ok (.if_icmp .eq 47, 3) := by decide +kernel
theorem dX0_gates_76 : decode cX0_gates 76 = .ok (.iload 7, 2) := by decide +kernel
theorem dX0_gates_78 : decode cX0_gates 78 = .ok (.iload 4, 2) := by decide +kernel
theorem dX0_gates_80 : decode cX0_gates 80 = .ok (.if_icmp .ne 6, 3) := by decide +kernel
theorem dX0_gates_83 : decode cX0_gates 83 = .ok (.goto 37, 3) := by decide +kernel
theorem dX0_gates_86 : decode cX0_gates 86 = .ok (.aload_n 0, 1) := by decide +kernel
theorem dX0_gates_87 : decode cX0_gates 87 = .ok (.getfield 10, 3) := by decide +kernel
theorem dX0_gates_90 : decode cX0_gates 90 = .ok (.iload_n 3, 1) := by decide +kernel
theorem dX0_gates_91 : decode cX0_gates 91 = .ok (.iload 5, 2) := by decide +kernel
theorem dX0_gates_93 : decode cX0_gates 93 = .ok (.iconst 1, 1) := by decide +kernel
theorem dX0_gates_94 : decode cX0_gates 94 = .ok (.iload 7, 2) := by decide +kernel
theorem dX0_gates_96 : decode cX0_gates 96 = .ok (.ishl, 1) := by decide +kernel
theorem dX0_gates_97 : decode cX0_gates 97 = .ok (.iconst (-1), 1) := by decide +kernel
theorem dX0_gates_98 : decode cX0_gates 98 = .ok (.ixor, 1) := by decide +kernel
theorem dX0_gates_99 : decode cX0_gates 99 = .ok (.iand, 1) := by decide +kernel
theorem dX0_gates_100 : decode cX0_gates 100 = .ok (.invokevirtual 53, 3) := by decide +kernel
theorem dX0_gates_103 : decode cX0_gates 103 = .ok (.iload 4, 2) := by decide +kernel
theorem dX0_gates_105 : decode cX0_gates 105 = .ok (.ishr, 1) := by decide +kernel
theorem dX0_gates_106 : decode cX0_gates 106 = .ok (.iconst 1, 1) := by decide +kernel
theorem dX0_gates_107 : decode cX0_gates 107 = .ok (.iand, 1) := by decide +kernel
theorem dX0_gates_108 : decode cX0_gates 108 = .ok (.ifCond .ne 12, 3) := by decide +kernel
theorem dX0_gates_111 : decode cX0_gates 111 = .ok (.iload 6, 2) := by decide +kernel
theorem dX0_gates_113 : decode cX0_gates 113 = .ok (.iconst 1, 1) := by decide +kernel
theorem dX0_gates_114 : decode cX0_gates 114 = .ok (.iload 7, 2) := by decide +kernel
theorem dX0_gates_116 : decode cX0_gates 116 = .ok (.ishl, 1) := by decide +kernel
theorem dX0_gates_117 : decode cX0_gates 117 = .ok (.ior, 1) := by decide +kernel
theorem dX0_gates_118 : decode cX0_gates 118 = .ok (.istore 6, 2) := by decide +kernel
theorem dX0_gates_120 : decode cX0_gates 120 = .ok (.iinc 7 1, 3) := by decide +kernel
theorem dX0_gates_123 : decode cX0_gates 123 = .ok (.goto (-65), 3) := by decide +kernel
theorem dX0_gates_126 : decode cX0_gates 126 = .ok (.iload 6, 2) := by decide +kernel
theorem dX0_gates_128 : decode cX0_gates 128 = .ok (.ireturn, 1) := by decide +kernel
abbrev cX0_rings : ByteArray := prog_1_method_10_code
def yX0_rings : MethodName := ⟨RX0, "rings", "()I"⟩
theorem dX0_rings_0 : decode cX0_rings 0 = .ok (.iconst 1, 1) := by decide +kernel
theorem dX0_rings_1 : decode cX0_rings 1 = .ok (.aload_n 0, 1) := by decide +kernel
theorem dX0_rings_2 : decode cX0_rings 2 = .ok (.getfield 10, 3) := by decide +kernel
theorem dX0_rings_5 : decode cX0_rings 5 = .ok (.getfield 49, 3) := by decide +kernel
theorem dX0_rings_8 : decode cX0_rings 8 = .ok (.ishl, 1) := by decide +kernel
theorem dX0_rings_9 : decode cX0_rings 9 = .ok (.iconst 1, 1) := by decide +kernel
theorem dX0_rings_10 : decode cX0_rings 10 = .ok (.isub, 1) := by decide +kernel
theorem dX0_rings_11 : decode cX0_rings 11 = .ok (.istore_n 1, 1) := by decide +kernel
theorem dX0_rings_12 : decode cX0_rings 12 = .ok (.iconst 0, 1) := by decide +kernel
theorem dX0_rings_13 : decode cX0_rings 13 = .ok (.istore_n 2, 1) := by decide +kernel
theorem dX0_rings_14 : decode cX0_rings 14 = .ok (.iconst 0, 1) := by decide +kernel
theorem dX0_rings_15 : decode cX0_rings 15 = .ok (.istore_n 3, 1) := by decide +kernel
theorem dX0_rings_16 : decode cX0_rings 16 = .ok (.iconst 0, 1) := by decide +kernel
theorem dX0_rings_17 : decode cX0_rings 17 = .ok (.istore 4, 2) := by decide +kernel
theorem dX0_rings_19 : decode cX0_rings 19 = .ok (.iload 4, 2) := by decide +kernel
theorem dX0_rings_21 : decode cX0_rings 21 = .ok (.aload_n 0, 1) := by decide +kernel
theorem dX0_rings_22 : decode cX0_rings 22 = .ok (.getfield 10, 3) := by decide +kernel
theorem dX0_rings_25 : decode cX0_rings 25 = .ok (.getfield 49, 3) := by decide +kernel
theorem dX0_rings_28 : decode cX0_rings 28 = .ok (.if_icmp .ge 95, 3) := by decide +kernel
theorem dX0_rings_31 : decode cX0_rings 31 = .ok (.iload_n 2, 1) := by decide +kernel
theorem dX0_rings_32 : decode cX0_rings 32 = .ok (.iload 4, 2) := by decide +kernel
theorem dX0_rings_34 : decode cX0_rings 34 = .ok (.ishr, 1) := by decide +kernel
theorem dX0_rings_35 : decode cX0_rings 35 = .ok (.iconst 1, 1) := by decide +kernel
theorem dX0_rings_36 : decode cX0_rings 36 = .ok (.iand, 1) := by decide +kernel
theorem dX0_rings_37 : decode cX0_rings 37 = .ok (.iconst 1, 1) := by decide +kernel
theorem dX0_rings_38 : decode cX0_rings 38 = .ok (.if_icmp .ne 6, 3) := by decide +kernel
theorem dX0_rings_41 : decode cX0_rings 41 = .ok (.goto 76, 3) := by decide +kernel
theorem dX0_rings_44 : decode cX0_rings 44 = .ok (.iinc 3 1, 3) := by decide +kernel
theorem dX0_rings_47 : decode cX0_rings 47 = .ok (.aload_n 0, 1) := by decide +kernel
theorem dX0_rings_48 : decode cX0_rings 48 = .ok (.getfield 10, 3) := by decide +kernel
theorem dX0_rings_51 : decode cX0_rings 51 = .ok (.iload 4, 2) := by decide +kernel
theorem dX0_rings_53 : decode cX0_rings 53 = .ok (.iload_n 1, 1) := by decide +kernel
theorem dX0_rings_54 : decode cX0_rings 54 = .ok (.invokevirtual 53, 3) := by decide +kernel
theorem dX0_rings_57 : decode cX0_rings 57 = .ok (.istore 5, 2) := by decide +kernel
theorem dX0_rings_59 : decode cX0_rings 59 = .ok (.iconst 0, 1) := by decide +kernel
theorem dX0_rings_60 : decode cX0_rings 60 = .ok (.istore 6, 2) := by decide +kernel
theorem dX0_rings_62 : decode cX0_rings 62 = .ok (.iload 6, 2) := by decide +kernel
theorem dX0_rings_64 : decode cX0_rings 64 = .ok (.aload_n 0, 1) := by decide +kernel
theorem dX0_rings_65 : decode cX0_rings 65 = .ok (.getfield 10, 3) := by decide +kernel
theorem dX0_rings_68 : decode cX0_rings 68 = .ok (.getfield 49, 3) := by decide +kernel
theorem dX0_rings_71 : decode cX0_rings 71 = .ok (.if_icmp .ge 46, 3) := by decide +kernel
theorem dX0_rings_74 : decode cX0_rings 74 = .ok (.iload 5, 2) := by decide +kernel
theorem dX0_rings_76 : decode cX0_rings 76 = .ok (.iload 6, 2) := by decide +kernel
theorem dX0_rings_78 : decode cX0_rings 78 = .ok (.ishr, 1) := by decide +kernel
theorem dX0_rings_79 : decode cX0_rings 79 = .ok (.iconst 1, 1) := by decide +kernel
theorem dX0_rings_80 : decode cX0_rings 80 = .ok (.iand, 1) := by decide +kernel
theorem dX0_rings_81 : decode cX0_rings 81 = .ok (.iconst 1, 1) := by decide +kernel
theorem dX0_rings_82 : decode cX0_rings 82 = .ok (.if_icmp .ne 29, 3) := by decide +kernel
theorem dX0_rings_85 : decode cX0_rings 85 = .ok (.aload_n 0, 1) := by decide +kernel
theorem dX0_rings_86 : decode cX0_rings 86 = .ok (.getfield 10, 3) := by decide +kernel
theorem dX0_rings_89 : decode cX0_rings 89 = .ok (.iload 6, 2) := by decide +kernel
theorem dX0_rings_91 : decode cX0_rings 91 = .ok (.iload_n 1, 1) := by decide +kernel
theorem dX0_rings_92 : decode cX0_rings 92 = .ok (.invokevirtual 53, 3) := by decide +kernel
theorem dX0_rings_95 : decode cX0_rings 95 = .ok (.iload 4, 2) := by decide +kernel
theorem dX0_rings_97 : decode cX0_rings 97 = .ok (.ishr, 1) := by decide +kernel
theorem dX0_rings_98 : decode cX0_rings 98 = .ok (.iconst 1, 1) := by decide +kernel
theorem dX0_rings_99 : decode cX0_rings 99 = .ok (.iand, 1) := by decide +kernel
theorem dX0_rings_100 : decode cX0_rings 100 = .ok (.iconst 1, 1) := by decide +kernel
theorem dX0_rings_101 : decode cX0_rings 101 = .ok (.if_icmp .ne 10, 3) := by decide +kernel
theorem dX0_rings_104 : decode cX0_rings 104 = .ok (.iload_n 2, 1) := by decide +kernel
theorem dX0_rings_105 : decode cX0_rings 105 = .ok (.iconst 1, 1) := by decide +kernel
theorem dX0_rings_106 : decode cX0_rings 106 = .ok (.iload 6, 2) := by decide +kernel
theorem dX0_rings_108 : decode cX0_rings 108 = .ok (.ishl, 1) := by decide +kernel
theorem dX0_rings_109 : decode cX0_rings 109 = .ok (.ior, 1) := by decide +kernel
theorem dX0_rings_110 : decode cX0_rings 110 = .ok (.istore_n 2, 1) := by decide +kernel
theorem dX0_rings_111 : decode cX0_rings 111 = .ok (.iinc 6 1, 3) := by decide +kernel
theorem dX0_rings_114 : decode cX0_rings 114 = .ok (.goto (-52), 3) := by decide +kernel
theorem dX0_rings_117 : decode cX0_rings 117 = .ok (.iinc 4 1, 3) := by decide +kernel
theorem dX0_rings_120 : decode cX0_rings 120 = .ok (.goto (-101), 3) := by decide +kernel
theorem dX0_rings_123 : decode cX0_rings 123 = .ok (.iload_n 3, 1) := by decide +kernel
theorem dX0_rings_124 : decode cX0_rings 124 = .ok (.ireturn, 1) := by decide +kernel
theorem q6 : (Jvm.Cond.initialized "SeverDesk") ∈ lw_all := lw_g (lw_at lw_m0 1 rfl) rfl
theorem q12 : (Jvm.Cond.instantiable "SeverDesk" (2 : Nat)) ∈ lw_all := lw_g (lw_at lw_m0 7 rfl) rfl
theorem q14 : (Jvm.Cond.instanceMethod ({ cls := "SeverDesk", name := "<init>", desc := "()V" } : Jvm.MethodName)) ∈ lw_all := lw_g (lw_at lw_m0 9 rfl) rfl
theorem q15 : (Jvm.Cond.code ({ cls := "SeverDesk", name := "<init>", desc := "()V" } : Jvm.MethodName) prog_1_method_1_code (1 : Nat) (Option.none : Option Jvm.ClassFile.FieldType)) ∈ lw_all := lw_g (lw_at lw_m0 10 rfl) rfl
theorem q16 : (Jvm.Cond.methodLink "SeverDesk" (1 : Nat) ({ cls := "java/lang/Object", name := "<init>", desc := "()V" } : Jvm.MethodName)) ∈ lw_all := lw_g (lw_at lw_m0 11 rfl) rfl
theorem q19 : (Jvm.Cond.classLink "SeverDesk" (7 : Nat) "SeverDesk$Roads") ∈ lw_all := lw_g (lw_at lw_m0 14 rfl) rfl
theorem q21 : (Jvm.Cond.methodLinkNest "SeverDesk" (9 : Nat) ({ cls := "SeverDesk$Roads", name := "<init>", desc := "()V" } : Jvm.MethodName) "SeverDesk") ∈ lw_tbl := lw_at lw_m0 16 rfl
theorem q26 : (Jvm.Cond.fieldLinkNest "SeverDesk" (34 : Nat) "SeverDesk$Roads" "to" "[I" "SeverDesk") ∈ lw_tbl := lw_at lw_m0 21 rfl
theorem q29 : (Jvm.Cond.fieldLinkNest "SeverDesk" (49 : Nat) "SeverDesk$Roads" "count" "I" "SeverDesk") ∈ lw_tbl := lw_at lw_m0 24 rfl
theorem q36 : (Jvm.Cond.classLink "SeverDesk" (16 : Nat) "SeverDesk$Flow") ∈ lw_all := lw_g (lw_at lw_m0 31 rfl) rfl
theorem q38 : (Jvm.Cond.methodLink "SeverDesk" (18 : Nat) ({ cls := "SeverDesk$Flow", name := "<init>", desc := "(LSeverDesk$Roads;)V" } : Jvm.MethodName)) ∈ lw_all := lw_g (lw_at lw_m0 33 rfl) rfl
theorem q57 : (Jvm.Cond.methodLink "SeverDesk" (25 : Nat) ({ cls := "SeverDesk$Roads", name := "begin", desc := "(I)V" } : Jvm.MethodName)) ∈ lw_all := lw_g (lw_at lw_m0 52 rfl) rfl
theorem q61 : (Jvm.Cond.fieldLink "SeverDesk" (10 : Nat) "SeverDesk" "roads" "LSeverDesk$Roads;") ∈ lw_all := lw_g (lw_at lw_m0 56 rfl) rfl
theorem q62 : (Jvm.Cond.fieldLink "SeverDesk" (21 : Nat) "SeverDesk" "flow" "LSeverDesk$Flow;") ∈ lw_all := lw_g (lw_at lw_m0 57 rfl) rfl
theorem q63 : (Jvm.Cond.laysFinal "SeverDesk" "SeverDesk" "roads" "LSeverDesk$Roads;") ∈ lw_all := lw_g (lw_at lw_m0 58 rfl) rfl
theorem q64 : (Jvm.Cond.soleField "SeverDesk" "roads") ∈ lw_all := lw_g (lw_at lw_m0 59 rfl) rfl
theorem q65 : (Jvm.Cond.laysFinal "SeverDesk" "SeverDesk" "flow" "LSeverDesk$Flow;") ∈ lw_all := lw_g (lw_at lw_m0 60 rfl) rfl
theorem q66 : (Jvm.Cond.soleField "SeverDesk" "flow") ∈ lw_all := lw_g (lw_at lw_m0 61 rfl) rfl
theorem q67 : (Jvm.Cond.superclass "SeverDesk" "java/lang/Object") ∈ lw_all := lw_g (lw_at lw_m0 62 rfl) rfl
theorem q69 : (Jvm.Cond.instanceMethod ({ cls := "SeverDesk", name := "places", desc := "(I)V" } : Jvm.MethodName)) ∈ lw_all := lw_g (lw_at lw_m0 64 rfl) rfl
theorem q70 : (Jvm.Cond.selects "SeverDesk" ({ cls := "SeverDesk", name := "places", desc := "(I)V" } : Jvm.MethodName) ({ cls := "SeverDesk", name := "places", desc := "(I)V" } : Jvm.MethodName)) ∈ lw_all := lw_g (lw_at lw_m0 65 rfl) rfl
theorem q71 : (Jvm.Cond.code ({ cls := "SeverDesk", name := "places", desc := "(I)V" } : Jvm.MethodName) prog_1_method_2_code (2 : Nat) (Option.none : Option Jvm.ClassFile.FieldType)) ∈ lw_all := lw_g (lw_at lw_m0 66 rfl) rfl
theorem q72 : (Jvm.Cond.constant "SeverDesk" (29 : Nat) (2147483647 : Int32)) ∈ lw_all := lw_g (lw_at lw_m0 67 rfl) rfl
theorem q74 : (Jvm.Cond.instanceMethod ({ cls := "SeverDesk", name := "road", desc := "(II)Z" } : Jvm.MethodName)) ∈ lw_all := lw_g (lw_at lw_m0 69 rfl) rfl
theorem q75 : (Jvm.Cond.selects "SeverDesk" ({ cls := "SeverDesk", name := "road", desc := "(II)Z" } : Jvm.MethodName) ({ cls := "SeverDesk", name := "road", desc := "(II)Z" } : Jvm.MethodName)) ∈ lw_all := lw_g (lw_at lw_m0 70 rfl) rfl
theorem q76 : (Jvm.Cond.code ({ cls := "SeverDesk", name := "road", desc := "(II)Z" } : Jvm.MethodName) prog_1_method_3_code (5 : Nat) (Option.some Jvm.ClassFile.FieldType.boolean)) ∈ lw_all := lw_g (lw_at lw_m0 71 rfl) rfl
theorem q77 : (Jvm.Cond.methodLink "SeverDesk" (30 : Nat) ({ cls := "SeverDesk$Roads", name := "place", desc := "(I)I" } : Jvm.MethodName)) ∈ lw_all := lw_g (lw_at lw_m0 72 rfl) rfl
theorem q83 : (Jvm.Cond.instanceMethod ({ cls := "SeverDesk", name := "close", desc := "(II)V" } : Jvm.MethodName)) ∈ lw_all := lw_g (lw_at lw_m0 78 rfl) rfl
theorem q84 : (Jvm.Cond.selects "SeverDesk" ({ cls := "SeverDesk", name := "close", desc := "(II)V" } : Jvm.MethodName) ({ cls := "SeverDesk", name := "close", desc := "(II)V" } : Jvm.MethodName)) ∈ lw_all := lw_g (lw_at lw_m0 79 rfl) rfl
theorem q85 : (Jvm.Cond.code ({ cls := "SeverDesk", name := "close", desc := "(II)V" } : Jvm.MethodName) prog_1_method_4_code (3 : Nat) (Option.none : Option Jvm.ClassFile.FieldType)) ∈ lw_all := lw_g (lw_at lw_m0 80 rfl) rfl
theorem q87 : (Jvm.Cond.instanceMethod ({ cls := "SeverDesk", name := "cut", desc := "(II)I" } : Jvm.MethodName)) ∈ lw_all := lw_g (lw_at lw_m0 82 rfl) rfl
theorem q88 : (Jvm.Cond.selects "SeverDesk" ({ cls := "SeverDesk", name := "cut", desc := "(II)I" } : Jvm.MethodName) ({ cls := "SeverDesk", name := "cut", desc := "(II)I" } : Jvm.MethodName)) ∈ lw_all := lw_g (lw_at lw_m0 83 rfl) rfl
theorem q89 : (Jvm.Cond.code ({ cls := "SeverDesk", name := "cut", desc := "(II)I" } : Jvm.MethodName) prog_1_method_6_code (5 : Nat) (Option.some Jvm.ClassFile.FieldType.int)) ∈ lw_all := lw_g (lw_at lw_m0 84 rfl) rfl
theorem q90 : (Jvm.Cond.methodLink "SeverDesk" (42 : Nat) ({ cls := "SeverDesk", name := "near", desc := "(II)Z" } : Jvm.MethodName)) ∈ lw_all := lw_g (lw_at lw_m0 85 rfl) rfl
theorem q91 : (Jvm.Cond.privateMethod ({ cls := "SeverDesk", name := "near", desc := "(II)Z" } : Jvm.MethodName)) ∈ lw_tbl := lw_at lw_m0 86 rfl
theorem q92 : (Jvm.Cond.instanceMethod ({ cls := "SeverDesk", name := "near", desc := "(II)Z" } : Jvm.MethodName)) ∈ lw_all := lw_g (lw_at lw_m0 87 rfl) rfl
theorem q93 : (Jvm.Cond.code ({ cls := "SeverDesk", name := "near", desc := "(II)Z" } : Jvm.MethodName) prog_1_method_5_code (3 : Nat) (Option.some Jvm.ClassFile.FieldType.boolean)) ∈ lw_all := lw_g (lw_at lw_m0 88 rfl) rfl
theorem q94 : (Jvm.Cond.methodLink "SeverDesk" (38 : Nat) ({ cls := "SeverDesk$Roads", name := "has", desc := "(II)Z" } : Jvm.MethodName)) ∈ lw_all := lw_g (lw_at lw_m0 89 rfl) rfl
theorem q98 : (Jvm.Cond.methodLink "SeverDesk" (45 : Nat) ({ cls := "SeverDesk$Flow", name := "greatest", desc := "(IIII)I" } : Jvm.MethodName)) ∈ lw_all := lw_g (lw_at lw_m0 93 rfl) rfl
theorem q112 : (Jvm.Cond.instanceMethod ({ cls := "SeverDesk", name := "first", desc := "(II)I" } : Jvm.MethodName)) ∈ lw_all := lw_g (lw_at lw_m0 107 rfl) rfl
theorem q113 : (Jvm.Cond.selects "SeverDesk" ({ cls := "SeverDesk", name := "first", desc := "(II)I" } : Jvm.MethodName) ({ cls := "SeverDesk", name := "first", desc := "(II)I" } : Jvm.MethodName)) ∈ lw_all := lw_g (lw_at lw_m0 108 rfl) rfl
theorem q114 : (Jvm.Cond.code ({ cls := "SeverDesk", name := "first", desc := "(II)I" } : Jvm.MethodName) prog_1_method_7_code (9 : Nat) (Option.some Jvm.ClassFile.FieldType.int)) ∈ lw_all := lw_g (lw_at lw_m0 109 rfl) rfl
theorem q116 : (Jvm.Cond.instanceMethod ({ cls := "SeverDesk", name := "reached", desc := "(I)I" } : Jvm.MethodName)) ∈ lw_all := lw_g (lw_at lw_m0 111 rfl) rfl
theorem q117 : (Jvm.Cond.selects "SeverDesk" ({ cls := "SeverDesk", name := "reached", desc := "(I)I" } : Jvm.MethodName) ({ cls := "SeverDesk", name := "reached", desc := "(I)I" } : Jvm.MethodName)) ∈ lw_all := lw_g (lw_at lw_m0 112 rfl) rfl
theorem q118 : (Jvm.Cond.code ({ cls := "SeverDesk", name := "reached", desc := "(I)I" } : Jvm.MethodName) prog_1_method_8_code (2 : Nat) (Option.some Jvm.ClassFile.FieldType.int)) ∈ lw_all := lw_g (lw_at lw_m0 113 rfl) rfl
theorem q119 : (Jvm.Cond.methodLink "SeverDesk" (53 : Nat) ({ cls := "SeverDesk$Roads", name := "reached", desc := "(II)I" } : Jvm.MethodName)) ∈ lw_all := lw_g (lw_at lw_m0 114 rfl) rfl
theorem q128 : (Jvm.Cond.instanceMethod ({ cls := "SeverDesk", name := "gates", desc := "(II)I" } : Jvm.MethodName)) ∈ lw_all := lw_g (lw_at lw_m0 123 rfl) rfl
theorem q129 : (Jvm.Cond.selects "SeverDesk" ({ cls := "SeverDesk", name := "gates", desc := "(II)I" } : Jvm.MethodName) ({ cls := "SeverDesk", name := "gates", desc := "(II)I" } : Jvm.MethodName)) ∈ lw_all := lw_g (lw_at lw_m0 124 rfl) rfl
theorem q130 : (Jvm.Cond.code ({ cls := "SeverDesk", name := "gates", desc := "(II)I" } : Jvm.MethodName) prog_1_method_9_code (8 : Nat) (Option.some Jvm.ClassFile.FieldType.int)) ∈ lw_all := lw_g (lw_at lw_m0 125 rfl) rfl
theorem q132 : (Jvm.Cond.instanceMethod ({ cls := "SeverDesk", name := "rings", desc := "()I" } : Jvm.MethodName)) ∈ lw_all := lw_g (lw_at lw_m0 127 rfl) rfl
theorem q133 : (Jvm.Cond.selects "SeverDesk" ({ cls := "SeverDesk", name := "rings", desc := "()I" } : Jvm.MethodName) ({ cls := "SeverDesk", name := "rings", desc := "()I" } : Jvm.MethodName)) ∈ lw_all := lw_g (lw_at lw_m0 128 rfl) rfl
theorem q134 : (Jvm.Cond.code ({ cls := "SeverDesk", name := "rings", desc := "()I" } : Jvm.MethodName) prog_1_method_10_code (7 : Nat) (Option.some Jvm.ClassFile.FieldType.int)) ∈ lw_all := lw_g (lw_at lw_m0 129 rfl) rfl
theorem in_X0 : ∀ w ∈ wsX00, w ∈ lw_all := lw_in wsX00 [63, 65] (by decide +kernel) (by decide +kernel)
end
section
/-! SeverDeskModel -/
set_option maxRecDepth 100000
def RX3 : String := "SeverDeskModel"
def TX3 : u_T := fun k => match k with
  | 0 => ("SeverDeskModel", "go", "[I", true)
  | _ => ("SeverDeskModel", "n", "I", false)
def tyX3 : Nat → FieldType := fun k => match k with
  | 0 => .array .int
  | _ => .int
abbrev wsX30 : List Cond := u_ws RX3 TX3 2
theorem nmX3 : ∀ a, a < 2 → ∀ b, b < 2 → a ≠ b → (TX3 a).2.1 ≠ (TX3 b).2.1 := by decide +kernel
theorem tyX3_ok : ∀ k, k < 2 → parseFieldDescriptor (TX3 k).2.2.1 = some (tyX3 k) := by decide +kernel
abbrev cX3_init : ByteArray := prog_5_method_1_code
def yX3_init : MethodName := ⟨RX3, "<init>", "()V"⟩
theorem dX3_init_0 : decode cX3_init 0 = .ok (.aload_n 0, 1) := by decide +kernel
theorem dX3_init_1 : decode cX3_init 1 = .ok (.invokespecial 1, 3) := by decide +kernel
theorem dX3_init_4 : decode cX3_init 4 = .ok (.aload_n 0, 1) := by decide +kernel
theorem dX3_init_5 : decode cX3_init 5 = .ok (.bipush 8, 2) := by decide +kernel
theorem dX3_init_7 : decode cX3_init 7 = .ok (.newarray .int, 2) := by decide +kernel
theorem dX3_init_9 : decode cX3_init 9 = .ok (.putfield 7, 3) := by decide +kernel
theorem dX3_init_12 : decode cX3_init 12 = .ok (.aload_n 0, 1) := by decide +kernel
theorem dX3_init_13 : decode cX3_init 13 = .ok (.iconst 4, 1) := by decide +kernel
theorem dX3_init_14 : decode cX3_init 14 = .ok (.putfield 13, 3) := by decide +kernel
theorem dX3_init_17 : decode cX3_init 17 = .ok (.return_, 1) := by decide +kernel
abbrev cX3_places : ByteArray := prog_5_method_2_code
def yX3_places : MethodName := ⟨RX3, "places", "(I)V"⟩
theorem dX3_places_0 : decode cX3_places 0 = .ok (.aload_n 0, 1) := by decide +kernel
theorem dX3_places_1 : decode cX3_places 1 = .ok (.iconst 2, 1) := by decide +kernel
theorem dX3_places_2 : decode cX3_places 2 = .ok (.iload_n 1, 1) := by decide +kernel
theorem dX3_places_3 : decode cX3_places 3 = .ok (.ldc 17, 2) := by decide +kernel
theorem dX3_places_5 : decode cX3_places 5 = .ok (.iand, 1) := by decide +kernel
theorem dX3_places_6 : decode cX3_places 6 = .ok (.bipush 7, 2) := by decide +kernel
theorem dX3_places_8 : decode cX3_places 8 = .ok (.irem, 1) := by decide +kernel
theorem dX3_places_9 : decode cX3_places 9 = .ok (.iadd, 1) := by decide +kernel
theorem dX3_places_10 : decode cX3_places 10 = .ok (.putfield 13, 3) := by decide +kernel
theorem dX3_places_13 : decode cX3_places 13 = .ok (.iconst 0, 1) := by decide +kernel
theorem dX3_places_14 : decode cX3_places 14 = .ok (.istore_n 2, 1) := by decide +kernel
theorem dX3_places_15 : decode cX3_places 15 = .ok (.iload_n 2, 1) := by decide +kernel
theorem dX3_places_16 : decode cX3_places 16 = .ok (.bipush 8, 2) := by decide +kernel
theorem dX3_places_18 : decode cX3_places 18 = .ok (.if_icmp .ge 16, 3) := by decide +kernel
theorem dX3_places_21 : decode cX3_places 21 = .ok (.aload_n 0, 1) := by decide +kernel
theorem dX3_places_22 : decode cX3_places 22 = .ok (.getfield 7, 3) := by decide +kernel
theorem dX3_places_25 : decode cX3_places 25 = .ok (.iload_n 2, 1) := by decide +kernel
theorem dX3_places_26 : decode cX3_places 26 = .ok (.iconst 0, 1) := by decide +kernel
theorem dX3_places_27 : decode cX3_places 27 = .ok (.iastore, 1) := by decide +kernel
theorem dX3_places_28 : decode cX3_places 28 = .ok (.iinc 2 1, 3) := by decide +kernel
theorem dX3_places_31 : decode cX3_places 31 = .ok (.goto (-16), 3) := by decide +kernel
theorem dX3_places_34 : decode cX3_places 34 = .ok (.return_, 1) := by decide +kernel
abbrev cX3_road : ByteArray := prog_5_method_4_code
def yX3_road : MethodName := ⟨RX3, "road", "(II)Z"⟩
theorem dX3_road_0 : decode cX3_road 0 = .ok (.aload_n 0, 1) := by decide +kernel
theorem dX3_road_1 : decode cX3_road 1 = .ok (.iload_n 1, 1) := by decide +kernel
theorem dX3_road_2 : decode cX3_road 2 = .ok (.invokevirtual 18, 3) := by decide +kernel
theorem dX3_road_5 : decode cX3_road 5 = .ok (.istore_n 3, 1) := by decide +kernel
theorem dX3_road_6 : decode cX3_road 6 = .ok (.aload_n 0, 1) := by decide +kernel
theorem dX3_road_7 : decode cX3_road 7 = .ok (.iload_n 2, 1) := by decide +kernel
theorem dX3_road_8 : decode cX3_road 8 = .ok (.invokevirtual 18, 3) := by decide +kernel
theorem dX3_road_11 : decode cX3_road 11 = .ok (.istore 4, 2) := by decide +kernel
theorem dX3_road_13 : decode cX3_road 13 = .ok (.iload_n 3, 1) := by decide +kernel
theorem dX3_road_14 : decode cX3_road 14 = .ok (.iload 4, 2) := by decide +kernel
theorem dX3_road_16 : decode cX3_road 16 = .ok (.if_icmp .ne 5, 3) := by decide +kernel
theorem dX3_road_19 : decode cX3_road 19 = .ok (.iconst 0, 1) := by decide +kernel
theorem dX3_road_20 : decode cX3_road 20 = .ok (.ireturn, 1) := by decide +kernel
theorem dX3_road_21 : decode cX3_road 21 = .ok (.aload_n 0, 1) := by decide +kernel
theorem dX3_road_22 : decode cX3_road 22 = .ok (.getfield 7, 3) := by decide +kernel
theorem dX3_road_25 : decode cX3_road 25 = .ok (.iload_n 3, 1) := by decide +kernel
theorem dX3_road_26 : decode cX3_road 26 = .ok (.aload_n 0, 1) := by decide +kernel
theorem dX3_road_27 : decode cX3_road 27 = .ok (.getfield 7, 3) := by decide +kernel
theorem dX3_road_30 : decode cX3_road 30 = .ok (.iload_n 3, 1) := by decide +kernel
theorem dX3_road_31 : decode cX3_road 31 = .ok (.iaload, 1) := by decide +kernel
theorem dX3_road_32 : decode cX3_road 32 = .ok (.iconst 1, 1) := by decide +kernel
theorem dX3_road_33 : decode cX3_road 33 = .ok (.iload 4, 2) := by decide +kernel
theorem dX3_road_35 : decode cX3_road 35 = .ok (.ishl, 1) := by decide +kernel
theorem dX3_road_36 : decode cX3_road 36 = .ok (.ior, 1) := by decide +kernel
theorem dX3_road_37 : decode cX3_road 37 = .ok (.iastore, 1) := by decide +kernel
theorem dX3_road_38 : decode cX3_road 38 = .ok (.iconst 1, 1) := by decide +kernel
theorem dX3_road_39 : decode cX3_road 39 = .ok (.ireturn, 1) := by decide +kernel
abbrev cX3_at : ByteArray := prog_5_method_3_code
def yX3_at : MethodName := ⟨RX3, "at", "(I)I"⟩
theorem dX3_at_0 : decode cX3_at 0 = .ok (.iload_n 1, 1) := by decide +kernel
theorem dX3_at_1 : decode cX3_at 1 = .ok (.ldc 17, 2) := by decide +kernel
theorem dX3_at_3 : decode cX3_at 3 = .ok (.iand, 1) := by decide +kernel
theorem dX3_at_4 : decode cX3_at 4 = .ok (.aload_n 0, 1) := by decide +kernel
theorem dX3_at_5 : decode cX3_at 5 = .ok (.getfield 13, 3) := by decide +kernel
theorem dX3_at_8 : decode cX3_at 8 = .ok (.irem, 1) := by decide +kernel
theorem dX3_at_9 : decode cX3_at 9 = .ok (.ireturn, 1) := by decide +kernel
abbrev cX3_close : ByteArray := prog_5_method_5_code
def yX3_close : MethodName := ⟨RX3, "close", "(II)V"⟩
theorem dX3_close_0 : decode cX3_close 0 = .ok (.aload_n 0, 1) := by decide +kernel
theorem dX3_close_1 : decode cX3_close 1 = .ok (.getfield 7, 3) := by decide +kernel
theorem dX3_close_4 : decode cX3_close 4 = .ok (.aload_n 0, 1) := by decide +kernel
theorem dX3_close_5 : decode cX3_close 5 = .ok (.iload_n 1, 1) := by decide +kernel
theorem dX3_close_6 : decode cX3_close 6 = .ok (.invokevirtual 18, 3) := by decide +kernel
theorem dX3_close_9 : decode cX3_close 9 = .ok (.aload_n 0, 1) := by decide +kernel
theorem dX3_close_10 : decode cX3_close 10 = .ok (.getfield 7, 3) := by decide +kernel
theorem dX3_close_13 : decode cX3_close 13 = .ok (.aload_n 0, 1) := by decide +kernel
theorem dX3_close_14 : decode cX3_close 14 = .ok (.iload_n 1, 1) := by decide +kernel
theorem dX3_close_15 : decode cX3_close 15 = .ok (.invokevirtual 18, 3) := by decide +kernel
theorem dX3_close_18 : decode cX3_close 18 = .ok (.iaload, 1) := by decide +kernel
theorem dX3_close_19 : decode cX3_close 19 = .ok (.iconst 1, 1) := by decide +kernel
theorem dX3_close_20 : decode cX3_close 20 = .ok (.aload_n 0, 1) := by decide +kernel
theorem dX3_close_21 : decode cX3_close 21 = .ok (.iload_n 2, 1) := by decide +kernel
theorem dX3_close_22 : decode cX3_close 22 = .ok (.invokevirtual 18, 3) := by decide +kernel
theorem dX3_close_25 : decode cX3_close 25 = .ok (.ishl, 1) := by decide +kernel
theorem dX3_close_26 : decode cX3_close 26 = .ok (.iconst (-1), 1) := by decide +kernel
theorem dX3_close_27 : decode cX3_close 27 = .ok (.ixor, 1) := by decide +kernel
theorem dX3_close_28 : decode cX3_close 28 = .ok (.iand, 1) := by decide +kernel
theorem dX3_close_29 : decode cX3_close 29 = .ok (.iastore, 1) := by decide +kernel
theorem dX3_close_30 : decode cX3_close 30 = .ok (.return_, 1) := by decide +kernel
abbrev cX3_cut : ByteArray := prog_5_method_8_code
def yX3_cut : MethodName := ⟨RX3, "cut", "(II)I"⟩
theorem dX3_cut_0 : decode cX3_cut 0 = .ok (.aload_n 0, 1) := by decide +kernel
theorem dX3_cut_1 : decode cX3_cut 1 = .ok (.iload_n 1, 1) := by decide +kernel
theorem dX3_cut_2 : decode cX3_cut 2 = .ok (.invokevirtual 18, 3) := by decide +kernel
theorem dX3_cut_5 : decode cX3_cut 5 = .ok (.istore_n 3, 1) := by decide +kernel
theorem dX3_cut_6 : decode cX3_cut 6 = .ok (.aload_n 0, 1) := by decide +kernel
theorem dX3_cut_7 : decode cX3_cut 7 = .ok (.iload_n 2, 1) := by decide +kernel
theorem dX3_cut_8 : decode cX3_cut 8 = .ok (.invokevirtual 18, 3) := by decide +kernel
theorem dX3_cut_11 : decode cX3_cut 11 = .ok (.istore 4, 2) := by decide +kernel
theorem dX3_cut_13 : decode cX3_cut 13 = .ok (.iload_n 3, 1) := by decide +kernel
theorem dX3_cut_14 : decode cX3_cut 14 = .ok (.iload 4, 2) := by decide +kernel
theorem dX3_cut_16 : decode cX3_cut 16 = .ok (.if_icmp .eq 17, 3) := by decide +kernel
theorem dX3_cut_19 : decode cX3_cut 19 = .ok (.aload_n 0, 1) := by decide +kernel
theorem dX3_cut_20 : decode cX3_cut 20 = .ok (.getfield 7, 3) := by decide +kernel
theorem dX3_cut_23 : decode cX3_cut 23 = .ok (.iload_n 3, 1) := by decide +kernel
theorem dX3_cut_24 : decode cX3_cut 24 = .ok (.iaload, 1) := by decide +kernel
theorem dX3_cut_25 : decode cX3_cut 25 = .ok (.iload 4, 2) := by decide +kernel
theorem dX3_cut_27 : decode cX3_cut 27 = .ok (.ishr, 1) := by decide +kernel
theorem dX3_cut_28 : decode cX3_cut 28 = .ok (.iconst 1, 1) := by decide +kernel
theorem dX3_cut_29 : decode cX3_cut 29 = .ok (.iand, 1) := by decide +kernel
theorem dX3_cut_30 : decode cX3_cut 30 = .ok (.ifCond .eq 5, 3) := by decide +kernel
theorem dX3_cut_33 : decode cX3_cut 33 = .ok (.iconst (-1), 1) := by decide +kernel
theorem dX3_cut_34 : decode cX3_cut 34 = .ok (.ireturn, 1) := by decide +kernel
theorem dX3_cut_35 : decode cX3_cut 35 = .ok (.bipush 99, 2) := by decide +kernel
theorem dX3_cut_37 : decode cX3_cut 37 = .ok (.istore 5, 2) := by decide +kernel
theorem dX3_cut_39 : decode cX3_cut 39 = .ok (.iconst 0, 1) := by decide +kernel
theorem dX3_cut_40 : decode cX3_cut 40 = .ok (.istore 6, 2) := by decide +kernel
theorem dX3_cut_42 : decode cX3_cut 42 = .ok (.iload 6, 2) := by decide +kernel
theorem dX3_cut_44 : decode cX3_cut 44 = .ok (.iconst 1, 1) := by decide +kernel
theorem dX3_cut_45 : decode cX3_cut 45 = .ok (.aload_n 0, 1) := by decide +kernel
theorem dX3_cut_46 : decode cX3_cut 46 = .ok (.getfield 13, 3) := by decide +kernel
theorem dX3_cut_49 : decode cX3_cut 49 = .ok (.ishl, 1) := by decide +kernel
theorem dX3_cut_50 : decode cX3_cut 50 = .ok (.if_icmp .ge 60, 3) := by decide +kernel
theorem dX3_cut_53 : decode cX3_cut 53 = .ok (.iload 6, 2) := by decide +kernel
theorem dX3_cut_55 : decode cX3_cut 55 = .ok (.iload_n 3, 1) := by decide +kernel
theorem dX3_cut_56 : decode cX3_cut 56 = .ok (.ishr, 1) := by decide +kernel
theorem dX3_cut_57 : decode cX3_cut 57 = .ok (.iconst 1, 1) := by decide +kernel
theorem dX3_cut_58 : decode cX3_cut 58 = .ok (.iand, 1) := by decide +kernel
theorem dX3_cut_59 : decode cX3_cut 59 = .ok (.ifCond .ne 45, 3) := by decide +kernel
theorem dX3_cut_62 : decode cX3_cut 62 = .ok (.iload 6, 2) := by decide +kernel
theorem dX3_cut_64 : decode cX3_cut 64 = .ok (.iload 4, 2) := by decide +kernel
theorem dX3_cut_66 : decode cX3_cut 66 = .ok (.ishr, 1) := by decide +kernel
theorem dX3_cut_67 : decode cX3_cut 67 = .ok (.iconst 1, 1) := by decide +kernel
theorem dX3_cut_68 : decode cX3_cut 68 = .ok (.iand, 1) := by decide +kernel
theorem dX3_cut_69 : decode cX3_cut 69 = .ok (.ifCond .ne 35, 3) := by decide +kernel
theorem dX3_cut_72 : decode cX3_cut 72 = .ok (.iload 6, 2) := by decide +kernel
theorem dX3_cut_74 : decode cX3_cut 74 = .ok (.invokestatic 22, 3) := by decide +kernel
theorem dX3_cut_77 : decode cX3_cut 77 = .ok (.iload 5, 2) := by decide +kernel
theorem dX3_cut_79 : decode cX3_cut 79 = .ok (.if_icmp .ge 25, 3) := by decide +kernel
theorem dX3_cut_82 : decode cX3_cut 82 = .ok (.aload_n 0, 1) := by decide +kernel
theorem dX3_cut_83 : decode cX3_cut 83 = .ok (.iload_n 3, 1) := by decide +kernel
theorem dX3_cut_84 : decode cX3_cut 84 = .ok (.iload 6, 2) := by decide +kernel
theorem dX3_cut_86 : decode cX3_cut 86 = .ok (.invokevirtual 25, 3) := by decide +kernel
theorem dX3_cut_89 : decode cX3_cut 89 = .ok (.iload 4, 2) := by decide +kernel
theorem dX3_cut_91 : decode cX3_cut 91 = .ok (.ishr, 1) := by decide +kernel
theorem dX3_cut_92 : decode cX3_cut 92 = .ok (.iconst 1, 1) := by decide +kernel
theorem dX3_cut_93 : decode cX3_cut 93 = .ok (.iand, 1) := by decide +kernel
theorem dX3_cut_94 : decode cX3_cut 94 = .ok (.ifCond .ne 10, 3) := by decide +kernel
theorem dX3_cut_97 : decode cX3_cut 97 = .ok (.iload 6, 2) := by decide +kernel
theorem dX3_cut_99 : decode cX3_cut 99 = .ok (.invokestatic 22, 3) := by decide +kernel
theorem dX3_cut_102 : decode cX3_cut 102 = .ok (.istore 5, 2) := by decide +kernel
theorem dX3_cut_104 : decode cX3_cut 104 = .ok (.iinc 6 1, 3) := by decide +kernel
theorem dX3_cut_107 : decode cX3_cut 107 = .ok (.goto (-65), 3) := by decide +kernel
theorem dX3_cut_110 : decode cX3_cut 110 = .ok (.iload 5, 2) := by decide +kernel
theorem dX3_cut_112 : decode cX3_cut 112 = .ok (.ireturn, 1) := by decide +kernel
abbrev cX3_count : ByteArray := prog_5_method_6_code
def yX3_count : MethodName := ⟨RX3, "count", "(I)I"⟩
theorem dX3_count_0 : decode cX3_count 0 = .ok (.iconst 0, 1) := by decide +kernel
theorem dX3_count_1 : decode cX3_count 1 = .ok (.istore_n 1, 1) := by decide +kernel
theorem dX3_count_2 : decode cX3_count 2 = .ok (.iload_n 0, 1) := by decide +kernel
theorem dX3_count_3 : decode cX3_count 3 = .ok (.istore_n 2, 1) := by decide +kernel
theorem dX3_count_4 : decode cX3_count 4 = .ok (.iload_n 2, 1) := by decide +kernel
theorem dX3_count_5 : decode cX3_count 5 = .ok (.ifCond .eq 16, 3) := by decide +kernel
theorem dX3_count_8 : decode cX3_count 8 = .ok (.iload_n 2, 1) := by decide +kernel
theorem dX3_count_9 : decode cX3_count 9 = .ok (.iload_n 2, 1) := by decide +kernel
theorem dX3_count_10 : decode cX3_count 10 = .ok (.iconst 1, 1) := by decide +kernel
theorem dX3_count_11 : decode cX3_count 11 = .ok (.isub, 1) := by decide +kernel
theorem dX3_count_12 : decode cX3_count 12 = .ok (.iand, 1) := by decide +kernel
theorem dX3_count_13 : decode cX3_count 13 = .ok (.istore_n 2, 1) := by decide +kernel
theorem dX3_count_14 : decode cX3_count 14 = .ok (.iload_n 1, 1) := by decide +kernel
theorem dX3_count_15 : decode cX3_count 15 = .ok (.iconst 1, 1) := by decide +kernel
theorem dX3_count_16 : decode cX3_count 16 = .ok (.iadd, 1) := by decide +kernel
theorem dX3_count_17 : decode cX3_count 17 = .ok (.istore_n 1, 1) := by decide +kernel
theorem dX3_count_18 : decode cX3_count 18 = .ok (.goto (-14), 3) := by decide +kernel
theorem dX3_count_21 : decode cX3_count 21 = .ok (.iload_n 1, 1) := by decide +kernel
theorem dX3_count_22 : decode cX3_count 22 = .ok (.ireturn, 1) := by decide +kernel
abbrev cX3_reach : ByteArray := prog_5_method_7_code
def yX3_reach : MethodName := ⟨RX3, "reach", "(II)I"⟩
theorem dX3_reach_0 : decode cX3_reach 0 = .ok (.iconst 1, 1) := by decide +kernel
theorem dX3_reach_1 : decode cX3_reach 1 = .ok (.iload_n 1, 1) := by decide +kernel
theorem dX3_reach_2 : decode cX3_reach 2 = .ok (.ishl, 1) := by decide +kernel
theorem dX3_reach_3 : decode cX3_reach 3 = .ok (.istore_n 3, 1) := by decide +kernel
theorem dX3_reach_4 : decode cX3_reach 4 = .ok (.iconst 0, 1) := by decide +kernel
theorem dX3_reach_5 : decode cX3_reach 5 = .ok (.istore 4, 2) := by decide +kernel
theorem dX3_reach_7 : decode cX3_reach 7 = .ok (.iload_n 3, 1) := by decide +kernel
theorem dX3_reach_8 : decode cX3_reach 8 = .ok (.iload 4, 2) := by decide +kernel
theorem dX3_reach_10 : decode cX3_reach 10 = .ok (.if_icmp .eq 51, 3) := by decide +kernel
theorem dX3_reach_13 : decode cX3_reach 13 = .ok (.iload_n 3, 1) := by decide +kernel
theorem dX3_reach_14 : decode cX3_reach 14 = .ok (.istore 4, 2) := by decide +kernel
theorem dX3_reach_16 : decode cX3_reach 16 = .ok (.iconst 0, 1) := by decide +kernel
theorem dX3_reach_17 : decode cX3_reach 17 = .ok (.istore 5, 2) := by decide +kernel
theorem dX3_reach_19 : decode cX3_reach 19 = .ok (.iload 5, 2) := by decide +kernel
theorem dX3_reach_21 : decode cX3_reach 21 = .ok (.aload_n 0, 1) := by decide +kernel
theorem dX3_reach_22 : decode cX3_reach 22 = .ok (.getfield 13, 3) := by decide +kernel
theorem dX3_reach_25 : decode cX3_reach 25 = .ok (.if_icmp .ge 33, 3) := by decide +kernel
theorem dX3_reach_28 : decode cX3_reach 28 = .ok (.iload 4, 2) := by decide +kernel
theorem dX3_reach_30 : decode cX3_reach 30 = .ok (.iload 5, 2) := by decide +kernel
theorem dX3_reach_32 : decode cX3_reach 32 = .ok (.ishr, 1) := by decide +kernel
theorem dX3_reach_33 : decode cX3_reach 33 = .ok (.iconst 1, 1) := by decide +kernel
theorem dX3_reach_34 : decode cX3_reach 34 = .ok (.iand, 1) := by decide +kernel
theorem dX3_reach_35 : decode cX3_reach 35 = .ok (.ifCond .eq 17, 3) := by decide +kernel
theorem dX3_reach_38 : decode cX3_reach 38 = .ok (.iload_n 3, 1) := by decide +kernel
theorem dX3_reach_39 : decode cX3_reach 39 = .ok (.aload_n 0, 1) := by decide +kernel
theorem dX3_reach_40 : decode cX3_reach 40 = .ok (.getfield 7, 3) := by decide +kernel
theorem dX3_reach_43 : decode cX3_reach 43 = .ok (.iload 5, 2) := by decide +kernel
theorem dX3_reach_45 : decode cX3_reach 45 = .ok (.iaload, 1) := by decide +kernel
theorem dX3_reach_46 : decode cX3_reach 46 = .ok (.iload_n 2, 1) := by decide +kernel
theorem dX3_reach_47 : decode cX3_reach 47 = .ok (.iconst (-1), 1) := by decide +kernel
theorem dX3_reach_48 : decode cX3_reach 48 = .ok (.ixor, 1) := by decide +kernel
theorem dX3_reach_49 : decode cX3_reach 49 = .ok (.iand, 1) := by decide +kernel
theorem dX3_reach_50 : decode cX3_reach 50 = .ok (.ior, 1) := by decide +kernel
theorem dX3_reach_51 : decode cX3_reach 51 = .ok (.istore_n 3, 1) := by decide +kernel
theorem dX3_reach_52 : decode cX3_reach 52 = .ok (.iinc 5 1, 3) := by decide +kernel
theorem dX3_reach_55 : decode cX3_reach 55 = .ok (.goto (-36), 3) := by decide +kernel
theorem dX3_reach_58 : decode cX3_reach 58 = .ok (.goto (-51), 3) := by decide +kernel
theorem dX3_reach_61 : decode cX3_reach 61 = .ok (.iload_n 3, 1) := by decide +kernel
theorem dX3_reach_62 : decode cX3_reach 62 = .ok (.ireturn, 1) := by decide +kernel
abbrev cX3_first : ByteArray := prog_5_method_9_code
def yX3_first : MethodName := ⟨RX3, "first", "(II)I"⟩
theorem dX3_first_0 : decode cX3_first 0 = .ok (.aload_n 0, 1) := by decide +kernel
theorem dX3_first_1 : decode cX3_first 1 = .ok (.iload_n 1, 1) := by decide +kernel
theorem dX3_first_2 : decode cX3_first 2 = .ok (.invokevirtual 18, 3) := by decide +kernel
theorem dX3_first_5 : decode cX3_first 5 = .ok (.istore_n 3, 1) := by decide +kernel
theorem dX3_first_6 : decode cX3_first 6 = .ok (.aload_n 0, 1) := by decide +kernel
theorem dX3_first_7 : decode cX3_first 7 = .ok (.iload_n 2, 1) := by decide +kernel
theorem dX3_first_8 : decode cX3_first 8 = .ok (.invokevirtual 18, 3) := by decide +kernel
theorem dX3_first_11 : decode cX3_first 11 = .ok (.istore 4, 2) := by decide +kernel
theorem dX3_first_13 : decode cX3_first 13 = .ok (.aload_n 0, 1) := by decide +kernel
theorem dX3_first_14 : decode cX3_first 14 = .ok (.iload_n 1, 1) := by decide +kernel
theorem dX3_first_15 : decode cX3_first 15 = .ok (.iload_n 2, 1) := by decide +kernel
theorem dX3_first_16 : decode cX3_first 16 = .ok (.invokevirtual 29, 3) := by decide +kernel
theorem dX3_first_19 : decode cX3_first 19 = .ok (.istore 5, 2) := by decide +kernel
theorem dX3_first_21 : decode cX3_first 21 = .ok (.iload 5, 2) := by decide +kernel
theorem dX3_first_23 : decode cX3_first 23 = .ok (.ifCond .ge 5, 3) := by decide +kernel
theorem dX3_first_26 : decode cX3_first 26 = .ok (.iconst (-1), 1) := by decide +kernel
theorem dX3_first_27 : decode cX3_first 27 = .ok (.ireturn, 1) := by decide +kernel
theorem dX3_first_28 : decode cX3_first 28 = .ok (.iconst 0, 1) := by decide +kernel
theorem dX3_first_29 : decode cX3_first 29 = .ok (.istore 6, 2) := by decide +kernel
theorem dX3_first_31 : decode cX3_first 31 = .ok (.iload 6, 2) := by decide +kernel
theorem dX3_first_33 : decode cX3_first 33 = .ok (.iconst 1, 1) := by decide +kernel
theorem dX3_first_34 : decode cX3_first 34 = .ok (.aload_n 0, 1) := by decide +kernel
theorem dX3_first_35 : decode cX3_first 35 = .ok (.getfield 13, 3) := by decide +kernel
theorem dX3_first_38 : decode cX3_first 38 = .ok (.ishl, 1) := by decide +kernel
theorem dX3_first_39 : decode cX3_first 39 = .ok (.if_icmp .ge 56, 3) := by decide +kernel
theorem dX3_first_42 : decode cX3_first 42 = .ok (.iload 6, 2) := by decide +kernel
theorem dX3_first_44 : decode cX3_first 44 = .ok (.iload_n 3, 1) := by decide +kernel
theorem dX3_first_45 : decode cX3_first 45 = .ok (.ishr, 1) := by decide +kernel
theorem dX3_first_46 : decode cX3_first 46 = .ok (.iconst 1, 1) := by decide +kernel
theorem dX3_first_47 : decode cX3_first 47 = .ok (.iand, 1) := by decide +kernel
theorem dX3_first_48 : decode cX3_first 48 = .ok (.ifCond .ne 41, 3) := by decide +kernel
theorem dX3_first_51 : decode cX3_first 51 = .ok (.iload 6, 2) := by decide +kernel
theorem dX3_first_53 : decode cX3_first 53 = .ok (.iload 4, 2) := by decide +kernel
theorem dX3_first_55 : decode cX3_first 55 = .ok (.ishr, 1) := by decide +kernel
theorem dX3_first_56 : decode cX3_first 56 = .ok (.iconst 1, 1) := by decide +kernel
theorem dX3_first_57 : decode cX3_first 57 = .ok (.iand, 1) := by decide +kernel
theorem dX3_first_58 : decode cX3_first 58 = .ok (.ifCond .ne 31, 3) := by decide +kernel
theorem dX3_first_61 : decode cX3_first 61 = .ok (.iload 6, 2) := by decide +kernel
theorem dX3_first_63 : decode cX3_first 63 = .ok (.invokestatic 22, 3) := by decide +kernel
theorem dX3_first_66 : decode cX3_first 66 = .ok (.iload 5, 2) := by decide +kernel
theorem dX3_first_68 : decode cX3_first 68 = .ok (.if_icmp .ne 21, 3) := by decide +kernel
theorem dX3_first_71 : decode cX3_first 71 = .ok (.aload_n 0, 1) := by decide +kernel
theorem dX3_first_72 : decode cX3_first 72 = .ok (.iload_n 3, 1) := by decide +kernel
theorem dX3_first_73 : decode cX3_first 73 = .ok (.iload 6, 2) := by decide +kernel
theorem dX3_first_75 : decode cX3_first 75 = .ok (.invokevirtual 25, 3) := by decide +kernel
theorem dX3_first_78 : decode cX3_first 78 = .ok (.iload 4, 2) := by decide +kernel
theorem dX3_first_80 : decode cX3_first 80 = .ok (.ishr, 1) := by decide +kernel
theorem dX3_first_81 : decode cX3_first 81 = .ok (.iconst 1, 1) := by decide +kernel
theorem dX3_first_82 : decode cX3_first 82 = .ok (.iand, 1) := by decide +kernel
theorem dX3_first_83 : decode cX3_first 83 = .ok (.ifCond .ne 6, 3) := by decide +kernel
theorem dX3_first_86 : decode cX3_first 86 = .ok (.iload 6, 2) := by decide +kernel
theorem dX3_first_88 : decode cX3_first 88 = .ok (.ireturn, 1) := by decide +kernel
theorem dX3_first_89 : decode cX3_first 89 = .ok (.iinc 6 1, 3) := by decide +kernel
theorem dX3_first_92 : decode cX3_first 92 = .ok (.goto (-61), 3) := by decide +kernel
theorem dX3_first_95 : decode cX3_first 95 = .ok (.iconst (-1), 1) := by decide +kernel
theorem dX3_first_96 : decode cX3_first 96 = .ok (.ireturn, 1) := by decide +kernel
abbrev cX3_reached : ByteArray := prog_5_method_10_code
def yX3_reached : MethodName := ⟨RX3, "reached", "(I)I"⟩
theorem dX3_reached_0 : decode cX3_reached 0 = .ok (.aload_n 0, 1) := by decide +kernel
theorem dX3_reached_1 : decode cX3_reached 1 = .ok (.aload_n 0, 1) := by decide +kernel
theorem dX3_reached_2 : decode cX3_reached 2 = .ok (.iload_n 1, 1) := by decide +kernel
theorem dX3_reached_3 : decode cX3_reached 3 = .ok (.invokevirtual 18, 3) := by decide +kernel
theorem dX3_reached_6 : decode cX3_reached 6 = .ok (.iconst 0, 1) := by decide +kernel
theorem dX3_reached_7 : decode cX3_reached 7 = .ok (.invokevirtual 25, 3) := by decide +kernel
theorem dX3_reached_10 : decode cX3_reached 10 = .ok (.ireturn, 1) := by decide +kernel
abbrev cX3_gates : ByteArray := prog_5_method_11_code
def yX3_gates : MethodName := ⟨RX3, "gates", "(II)I"⟩
theorem dX3_gates_0 : decode cX3_gates 0 = .ok (.aload_n 0, 1) := by decide +kernel
theorem dX3_gates_1 : decode cX3_gates 1 = .ok (.iload_n 1, 1) := by decide +kernel
theorem dX3_gates_2 : decode cX3_gates 2 = .ok (.invokevirtual 18, 3) := by decide +kernel
theorem dX3_gates_5 : decode cX3_gates 5 = .ok (.istore_n 3, 1) := by decide +kernel
theorem dX3_gates_6 : decode cX3_gates 6 = .ok (.aload_n 0, 1) := by decide +kernel
theorem dX3_gates_7 : decode cX3_gates 7 = .ok (.iload_n 2, 1) := by decide +kernel
theorem dX3_gates_8 : decode cX3_gates 8 = .ok (.invokevirtual 18, 3) := by decide +kernel
theorem dX3_gates_11 : decode cX3_gates 11 = .ok (.istore 4, 2) := by decide +kernel
theorem dX3_gates_13 : decode cX3_gates 13 = .ok (.iconst 0, 1) := by decide +kernel
theorem dX3_gates_14 : decode cX3_gates 14 = .ok (.istore 5, 2) := by decide +kernel
theorem dX3_gates_16 : decode cX3_gates 16 = .ok (.aload_n 0, 1) := by decide +kernel
theorem dX3_gates_17 : decode cX3_gates 17 = .ok (.iload_n 3, 1) := by decide +kernel
theorem dX3_gates_18 : decode cX3_gates 18 = .ok (.iconst 0, 1) := by decide +kernel
theorem dX3_gates_19 : decode cX3_gates 19 = .ok (.invokevirtual 25, 3) := by decide +kernel
theorem dX3_gates_22 : decode cX3_gates 22 = .ok (.iload 4, 2) := by decide +kernel
theorem dX3_gates_24 : decode cX3_gates 24 = .ok (.ishr, 1) := by decide +kernel
theorem dX3_gates_25 : decode cX3_gates 25 = .ok (.iconst 1, 1) := by decide +kernel
theorem dX3_gates_26 : decode cX3_gates 26 = .ok (.iand, 1) := by decide +kernel
theorem dX3_gates_27 : decode cX3_gates 27 = .ok (.ifCond .ne 5, 3) := by decide +kernel
theorem dX3_gates_30 : decode cX3_gates 30 = .ok (.iconst (-1), 1) := by decide +kernel
theorem dX3_gates_31 : decode cX3_gates 31 = .ok (.ireturn, 1) := by decide +kernel
theorem dX3_gates_32 : decode cX3_gates 32 = .ok (.iconst 0, 1) := by decide +kernel
theorem dX3_gates_33 : decode cX3_gates 33 = .ok (.istore 6, 2) := by decide +kernel
theorem dX3_gates_35 : decode cX3_gates 35 = .ok (.iload 6, 2) := by decide +kernel
theorem dX3_gates_37 : decode cX3_gates 37 = .ok (.aload_n 0, 1) := by decide +kernel
theorem dX3_gates_38 : decode cX3_gates 38 = .ok (.getfield 13, 3) := by decide +kernel
theorem dX3_gates_41 : decode cX3_gates 41 = .ok (.if_icmp .ge 48, 3) := by decide +kernel
theorem dX3_gates_44 : decode cX3_gates 44 = .ok (.iload 6, 2) := by decide +kernel
theorem dX3_gates_46 : decode cX3_gates 46 = .ok (.iload_n 3, 1) := by decide +kernel
theorem dX3_gates_47 : decode cX3_gates 47 = .ok (.if_icmp .eq 36, 3) := by decide +kernel
theorem dX3_gates_50 : decode cX3_gates 50 = .ok (.iload 6, 2) := by decide +kernel
theorem dX3_gates_52 : decode cX3_gates 52 = .ok (.iload 4, 2) := by decide +kernel
theorem dX3_gates_54 : decode cX3_gates 54 = .ok (.if_icmp .eq 29, 3) := by decide +kernel
theorem dX3_gates_57 : decode cX3_gates 57 = .ok (.aload_n 0, 1) := by decide +kernel
theorem dX3_gates_58 : decode cX3_gates 58 = .ok (.iload_n 3, 1) := by decide +kernel
theorem dX3_gates_59 : decode cX3_gates 59 = .ok (.iconst 1, 1) := by decide +kernel
theorem dX3_gates_60 : decode cX3_gates 60 = .ok (.iload 6, 2) := by decide +kernel
theorem dX3_gates_62 : decode cX3_gates 62 = .ok (.ishl, 1) := by decide +kernel
theorem dX3_gates_63 : decode cX3_gates 63 = .ok (.invokevirtual 25, 3) := by decide +kernel
theorem dX3_gates_66 : decode cX3_gates 66 = .ok (.iload 4, 2) := by decide +kernel
theorem dX3_gates_68 : decode cX3_gates 68 = .ok (.ishr, 1) := by decide +kernel
theorem dX3_gates_69 : decode cX3_gates 69 = .ok (.iconst 1, 1) := by decide +kernel
theorem dX3_gates_70 : decode cX3_gates 70 = .ok (.iand, 1) := by decide +kernel
theorem dX3_gates_71 : decode cX3_gates 71 = .ok (.ifCond .ne 12, 3) := by decide +kernel
theorem dX3_gates_74 : decode cX3_gates 74 = .ok (.iload 5, 2) := by decide +kernel
theorem dX3_gates_76 : decode cX3_gates 76 = .ok (.iconst 1, 1) := by decide +kernel
theorem dX3_gates_77 : decode cX3_gates 77 = .ok (.iload 6, 2) := by decide +kernel
theorem dX3_gates_79 : decode cX3_gates 79 = .ok (.ishl, 1) := by decide +kernel
theorem dX3_gates_80 : decode cX3_gates 80 = .ok (.ior, 1) := by decide +kernel
theorem dX3_gates_81 : decode cX3_gates 81 = .ok (.istore 5, 2) := by decide +kernel
theorem dX3_gates_83 : decode cX3_gates 83 = .ok (.iinc 6 1, 3) := by decide +kernel
theorem dX3_gates_86 : decode cX3_gates 86 = .ok (.goto (-51), 3) := by decide +kernel
theorem dX3_gates_89 : decode cX3_gates 89 = .ok (.iload 5, 2) := by decide +kernel
theorem dX3_gates_91 : decode cX3_gates 91 = .ok (.ireturn, 1) := by decide +kernel
abbrev cX3_rings : ByteArray := prog_5_method_12_code
def yX3_rings : MethodName := ⟨RX3, "rings", "()I"⟩
theorem dX3_rings_0 : decode cX3_rings 0 = .ok (.iconst 0, 1) := by decide +kernel
theorem dX3_rings_1 : decode cX3_rings 1 = .ok (.istore_n 1, 1) := by decide +kernel
theorem dX3_rings_2 : decode cX3_rings 2 = .ok (.iconst 0, 1) := by decide +kernel
theorem dX3_rings_3 : decode cX3_rings 3 = .ok (.istore_n 2, 1) := by decide +kernel
theorem dX3_rings_4 : decode cX3_rings 4 = .ok (.iconst 0, 1) := by decide +kernel
theorem dX3_rings_5 : decode cX3_rings 5 = .ok (.istore_n 3, 1) := by decide +kernel
theorem dX3_rings_6 : decode cX3_rings 6 = .ok (.iload_n 3, 1) := by decide +kernel
theorem dX3_rings_7 : decode cX3_rings 7 = .ok (.aload_n 0, 1) := by decide +kernel
theorem dX3_rings_8 : decode cX3_rings 8 = .ok (.getfield 13, 3) := by decide +kernel
theorem dX3_rings_11 : decode cX3_rings 11 = .ok (.if_icmp .ge 78, 3) := by decide +kernel
theorem dX3_rings_14 : decode cX3_rings 14 = .ok (.iload_n 2, 1) := by decide +kernel
theorem dX3_rings_15 : decode cX3_rings 15 = .ok (.iload_n 3, 1) := by decide +kernel
theorem dX3_rings_16 : decode cX3_rings 16 = .ok (.ishr, 1) := by decide +kernel
theorem dX3_rings_17 : decode cX3_rings 17 = .ok (.iconst 1, 1) := by decide +kernel
theorem dX3_rings_18 : decode cX3_rings 18 = .ok (.iand, 1) := by decide +kernel
theorem dX3_rings_19 : decode cX3_rings 19 = .ok (.ifCond .ne 64, 3) := by decide +kernel
theorem dX3_rings_22 : decode cX3_rings 22 = .ok (.iload_n 1, 1) := by decide +kernel
theorem dX3_rings_23 : decode cX3_rings 23 = .ok (.iconst 1, 1) := by decide +kernel
theorem dX3_rings_24 : decode cX3_rings 24 = .ok (.iadd, 1) := by decide +kernel
theorem dX3_rings_25 : decode cX3_rings 25 = .ok (.istore_n 1, 1) := by decide +kernel
theorem dX3_rings_26 : decode cX3_rings 26 = .ok (.aload_n 0, 1) := by decide +kernel
theorem dX3_rings_27 : decode cX3_rings 27 = .ok (.iload_n 3, 1) := by decide +kernel
theorem dX3_rings_28 : decode cX3_rings 28 = .ok (.iconst 0, 1) := by decide +kernel
theorem dX3_rings_29 : decode cX3_rings 29 = .ok (.invokevirtual 25, 3) := by decide +kernel
theorem dX3_rings_32 : decode cX3_rings 32 = .ok (.istore 4, 2) := by decide +kernel
theorem dX3_rings_34 : decode cX3_rings 34 = .ok (.iconst 0, 1) := by decide +kernel
theorem dX3_rings_35 : decode cX3_rings 35 = .ok (.istore 5, 2) := by decide +kernel
theorem dX3_rings_37 : decode cX3_rings 37 = .ok (.iload 5, 2) := by decide +kernel
theorem dX3_rings_39 : decode cX3_rings 39 = .ok (.aload_n 0, 1) := by decide +kernel
theorem dX3_rings_40 : decode cX3_rings 40 = .ok (.getfield 13, 3) := by decide +kernel
theorem dX3_rings_43 : decode cX3_rings 43 = .ok (.if_icmp .ge 40, 3) := by decide +kernel
theorem dX3_rings_46 : decode cX3_rings 46 = .ok (.iload 4, 2) := by decide +kernel
theorem dX3_rings_48 : decode cX3_rings 48 = .ok (.iload 5, 2) := by decide +kernel
theorem dX3_rings_50 : decode cX3_rings 50 = .ok (.ishr, 1) := by decide +kernel
theorem dX3_rings_51 : decode cX3_rings 51 = .ok (.iconst 1, 1) := by decide +kernel
theorem dX3_rings_52 : decode cX3_rings 52 = .ok (.iand, 1) := by decide +kernel
theorem dX3_rings_53 : decode cX3_rings 53 = .ok (.ifCond .eq 24, 3) := by decide +kernel
theorem dX3_rings_56 : decode cX3_rings 56 = .ok (.aload_n 0, 1) := by decide +kernel
theorem dX3_rings_57 : decode cX3_rings 57 = .ok (.iload 5, 2) := by decide +kernel
theorem dX3_rings_59 : decode cX3_rings 59 = .ok (.iconst 0, 1) := by decide +kernel
theorem dX3_rings_60 : decode cX3_rings 60 = .ok (.invokevirtual 25, 3) := by decide +kernel
theorem dX3_rings_63 : decode cX3_rings 63 = .ok (.iload_n 3, 1) := by decide +kernel
theorem dX3_rings_64 : decode cX3_rings 64 = .ok (.ishr, 1) := by decide +kernel
theorem dX3_rings_65 : decode cX3_rings 65 = .ok (.iconst 1, 1) := by decide +kernel
theorem dX3_rings_66 : decode cX3_rings 66 = .ok (.iand, 1) := by decide +kernel
theorem dX3_rings_67 : decode cX3_rings 67 = .ok (.ifCond .eq 10, 3) := by decide +kernel
theorem dX3_rings_70 : decode cX3_rings 70 = .ok (.iload_n 2, 1) := by decide +kernel
theorem dX3_rings_71 : decode cX3_rings 71 = .ok (.iconst 1, 1) := by decide +kernel
theorem dX3_rings_72 : decode cX3_rings 72 = .ok (.iload 5, 2) := by decide +kernel
theorem dX3_rings_74 : decode cX3_rings 74 = .ok (.ishl, 1) := by decide +kernel
theorem dX3_rings_75 : decode cX3_rings 75 = .ok (.ior, 1) := by decide +kernel
theorem dX3_rings_76 : decode cX3_rings 76 = .ok (.istore_n 2, 1) := by decide +kernel
theorem dX3_rings_77 : decode cX3_rings 77 = .ok (.iinc 5 1, 3) := by decide +kernel
theorem dX3_rings_80 : decode cX3_rings 80 = .ok (.goto (-43), 3) := by decide +kernel
theorem dX3_rings_83 : decode cX3_rings 83 = .ok (.iinc 3 1, 3) := by decide +kernel
theorem dX3_rings_86 : decode cX3_rings 86 = .ok (.goto (-80), 3) := by decide +kernel
theorem dX3_rings_89 : decode cX3_rings 89 = .ok (.iload_n 1, 1) := by decide +kernel
theorem dX3_rings_90 : decode cX3_rings 90 = .ok (.ireturn, 1) := by decide +kernel
theorem q9 : (Jvm.Cond.initialized "SeverDeskModel") ∈ lw_all := lw_g (lw_at lw_m0 4 rfl) rfl
theorem q136 : (Jvm.Cond.instantiable "SeverDeskModel" (2 : Nat)) ∈ lw_all := lw_g (lw_at lw_m0 131 rfl) rfl
theorem q138 : (Jvm.Cond.instanceMethod ({ cls := "SeverDeskModel", name := "<init>", desc := "()V" } : Jvm.MethodName)) ∈ lw_all := lw_g (lw_at lw_m0 133 rfl) rfl
theorem q139 : (Jvm.Cond.code ({ cls := "SeverDeskModel", name := "<init>", desc := "()V" } : Jvm.MethodName) prog_5_method_1_code (1 : Nat) (Option.none : Option Jvm.ClassFile.FieldType)) ∈ lw_all := lw_g (lw_at lw_m0 134 rfl) rfl
theorem q140 : (Jvm.Cond.methodLink "SeverDeskModel" (1 : Nat) ({ cls := "java/lang/Object", name := "<init>", desc := "()V" } : Jvm.MethodName)) ∈ lw_all := lw_g (lw_at lw_m0 135 rfl) rfl
theorem q141 : (Jvm.Cond.fieldLink "SeverDeskModel" (7 : Nat) "SeverDeskModel" "go" "[I") ∈ lw_all := lw_g (lw_at lw_m0 136 rfl) rfl
theorem q142 : (Jvm.Cond.fieldLink "SeverDeskModel" (13 : Nat) "SeverDeskModel" "n" "I") ∈ lw_all := lw_g (lw_at lw_m0 137 rfl) rfl
theorem q143 : (Jvm.Cond.laysFinal "SeverDeskModel" "SeverDeskModel" "go" "[I") ∈ lw_all := lw_g (lw_at lw_m0 138 rfl) rfl
theorem q144 : (Jvm.Cond.soleField "SeverDeskModel" "go") ∈ lw_all := lw_g (lw_at lw_m0 139 rfl) rfl
theorem q145 : (Jvm.Cond.lays "SeverDeskModel" "SeverDeskModel" "n" "I") ∈ lw_all := lw_g (lw_at lw_m0 140 rfl) rfl
theorem q146 : (Jvm.Cond.soleField "SeverDeskModel" "n") ∈ lw_all := lw_g (lw_at lw_m0 141 rfl) rfl
theorem q147 : (Jvm.Cond.superclass "SeverDeskModel" "java/lang/Object") ∈ lw_all := lw_g (lw_at lw_m0 142 rfl) rfl
theorem q149 : (Jvm.Cond.instanceMethod ({ cls := "SeverDeskModel", name := "places", desc := "(I)V" } : Jvm.MethodName)) ∈ lw_all := lw_g (lw_at lw_m0 144 rfl) rfl
theorem q150 : (Jvm.Cond.selects "SeverDeskModel" ({ cls := "SeverDeskModel", name := "places", desc := "(I)V" } : Jvm.MethodName) ({ cls := "SeverDeskModel", name := "places", desc := "(I)V" } : Jvm.MethodName)) ∈ lw_all := lw_g (lw_at lw_m0 145 rfl) rfl
theorem q151 : (Jvm.Cond.code ({ cls := "SeverDeskModel", name := "places", desc := "(I)V" } : Jvm.MethodName) prog_5_method_2_code (3 : Nat) (Option.none : Option Jvm.ClassFile.FieldType)) ∈ lw_all := lw_g (lw_at lw_m0 146 rfl) rfl
theorem q152 : (Jvm.Cond.constant "SeverDeskModel" (17 : Nat) (2147483647 : Int32)) ∈ lw_all := lw_g (lw_at lw_m0 147 rfl) rfl
theorem q154 : (Jvm.Cond.instanceMethod ({ cls := "SeverDeskModel", name := "road", desc := "(II)Z" } : Jvm.MethodName)) ∈ lw_all := lw_g (lw_at lw_m0 149 rfl) rfl
theorem q155 : (Jvm.Cond.selects "SeverDeskModel" ({ cls := "SeverDeskModel", name := "road", desc := "(II)Z" } : Jvm.MethodName) ({ cls := "SeverDeskModel", name := "road", desc := "(II)Z" } : Jvm.MethodName)) ∈ lw_all := lw_g (lw_at lw_m0 150 rfl) rfl
theorem q156 : (Jvm.Cond.code ({ cls := "SeverDeskModel", name := "road", desc := "(II)Z" } : Jvm.MethodName) prog_5_method_4_code (5 : Nat) (Option.some Jvm.ClassFile.FieldType.boolean)) ∈ lw_all := lw_g (lw_at lw_m0 151 rfl) rfl
theorem q157 : (Jvm.Cond.methodLink "SeverDeskModel" (18 : Nat) ({ cls := "SeverDeskModel", name := "at", desc := "(I)I" } : Jvm.MethodName)) ∈ lw_all := lw_g (lw_at lw_m0 152 rfl) rfl
theorem q158 : (Jvm.Cond.privateMethod ({ cls := "SeverDeskModel", name := "at", desc := "(I)I" } : Jvm.MethodName)) ∈ lw_tbl := lw_at lw_m0 153 rfl
theorem q159 : (Jvm.Cond.instanceMethod ({ cls := "SeverDeskModel", name := "at", desc := "(I)I" } : Jvm.MethodName)) ∈ lw_all := lw_g (lw_at lw_m0 154 rfl) rfl
theorem q160 : (Jvm.Cond.code ({ cls := "SeverDeskModel", name := "at", desc := "(I)I" } : Jvm.MethodName) prog_5_method_3_code (2 : Nat) (Option.some Jvm.ClassFile.FieldType.int)) ∈ lw_all := lw_g (lw_at lw_m0 155 rfl) rfl
theorem q162 : (Jvm.Cond.instanceMethod ({ cls := "SeverDeskModel", name := "close", desc := "(II)V" } : Jvm.MethodName)) ∈ lw_all := lw_g (lw_at lw_m0 157 rfl) rfl
theorem q163 : (Jvm.Cond.selects "SeverDeskModel" ({ cls := "SeverDeskModel", name := "close", desc := "(II)V" } : Jvm.MethodName) ({ cls := "SeverDeskModel", name := "close", desc := "(II)V" } : Jvm.MethodName)) ∈ lw_all := lw_g (lw_at lw_m0 158 rfl) rfl
theorem q164 : (Jvm.Cond.code ({ cls := "SeverDeskModel", name := "close", desc := "(II)V" } : Jvm.MethodName) prog_5_method_5_code (3 : Nat) (Option.none : Option Jvm.ClassFile.FieldType)) ∈ lw_all := lw_g (lw_at lw_m0 159 rfl) rfl
theorem q166 : (Jvm.Cond.instanceMethod ({ cls := "SeverDeskModel", name := "cut", desc := "(II)I" } : Jvm.MethodName)) ∈ lw_all := lw_g (lw_at lw_m0 161 rfl) rfl
theorem q167 : (Jvm.Cond.selects "SeverDeskModel" ({ cls := "SeverDeskModel", name := "cut", desc := "(II)I" } : Jvm.MethodName) ({ cls := "SeverDeskModel", name := "cut", desc := "(II)I" } : Jvm.MethodName)) ∈ lw_all := lw_g (lw_at lw_m0 162 rfl) rfl
theorem q168 : (Jvm.Cond.code ({ cls := "SeverDeskModel", name := "cut", desc := "(II)I" } : Jvm.MethodName) prog_5_method_8_code (7 : Nat) (Option.some Jvm.ClassFile.FieldType.int)) ∈ lw_all := lw_g (lw_at lw_m0 163 rfl) rfl
theorem q169 : (Jvm.Cond.methodLink "SeverDeskModel" (22 : Nat) ({ cls := "SeverDeskModel", name := "count", desc := "(I)I" } : Jvm.MethodName)) ∈ lw_all := lw_g (lw_at lw_m0 164 rfl) rfl
theorem q170 : (Jvm.Cond.static ({ cls := "SeverDeskModel", name := "count", desc := "(I)I" } : Jvm.MethodName)) ∈ lw_all := lw_g (lw_at lw_m0 165 rfl) rfl
theorem q171 : (Jvm.Cond.code ({ cls := "SeverDeskModel", name := "count", desc := "(I)I" } : Jvm.MethodName) prog_5_method_6_code (3 : Nat) (Option.some Jvm.ClassFile.FieldType.int)) ∈ lw_all := lw_g (lw_at lw_m0 166 rfl) rfl
theorem q172 : (Jvm.Cond.methodLink "SeverDeskModel" (25 : Nat) ({ cls := "SeverDeskModel", name := "reach", desc := "(II)I" } : Jvm.MethodName)) ∈ lw_all := lw_g (lw_at lw_m0 167 rfl) rfl
theorem q173 : (Jvm.Cond.privateMethod ({ cls := "SeverDeskModel", name := "reach", desc := "(II)I" } : Jvm.MethodName)) ∈ lw_tbl := lw_at lw_m0 168 rfl
theorem q174 : (Jvm.Cond.instanceMethod ({ cls := "SeverDeskModel", name := "reach", desc := "(II)I" } : Jvm.MethodName)) ∈ lw_all := lw_g (lw_at lw_m0 169 rfl) rfl
theorem q175 : (Jvm.Cond.code ({ cls := "SeverDeskModel", name := "reach", desc := "(II)I" } : Jvm.MethodName) prog_5_method_7_code (6 : Nat) (Option.some Jvm.ClassFile.FieldType.int)) ∈ lw_all := lw_g (lw_at lw_m0 170 rfl) rfl
theorem q177 : (Jvm.Cond.instanceMethod ({ cls := "SeverDeskModel", name := "first", desc := "(II)I" } : Jvm.MethodName)) ∈ lw_all := lw_g (lw_at lw_m0 172 rfl) rfl
theorem q178 : (Jvm.Cond.selects "SeverDeskModel" ({ cls := "SeverDeskModel", name := "first", desc := "(II)I" } : Jvm.MethodName) ({ cls := "SeverDeskModel", name := "first", desc := "(II)I" } : Jvm.MethodName)) ∈ lw_all := lw_g (lw_at lw_m0 173 rfl) rfl
theorem q179 : (Jvm.Cond.code ({ cls := "SeverDeskModel", name := "first", desc := "(II)I" } : Jvm.MethodName) prog_5_method_9_code (7 : Nat) (Option.some Jvm.ClassFile.FieldType.int)) ∈ lw_all := lw_g (lw_at lw_m0 174 rfl) rfl
theorem q180 : (Jvm.Cond.methodLink "SeverDeskModel" (29 : Nat) ({ cls := "SeverDeskModel", name := "cut", desc := "(II)I" } : Jvm.MethodName)) ∈ lw_all := lw_g (lw_at lw_m0 175 rfl) rfl
theorem q182 : (Jvm.Cond.instanceMethod ({ cls := "SeverDeskModel", name := "reached", desc := "(I)I" } : Jvm.MethodName)) ∈ lw_all := lw_g (lw_at lw_m0 177 rfl) rfl
theorem q183 : (Jvm.Cond.selects "SeverDeskModel" ({ cls := "SeverDeskModel", name := "reached", desc := "(I)I" } : Jvm.MethodName) ({ cls := "SeverDeskModel", name := "reached", desc := "(I)I" } : Jvm.MethodName)) ∈ lw_all := lw_g (lw_at lw_m0 178 rfl) rfl
theorem q184 : (Jvm.Cond.code ({ cls := "SeverDeskModel", name := "reached", desc := "(I)I" } : Jvm.MethodName) prog_5_method_10_code (2 : Nat) (Option.some Jvm.ClassFile.FieldType.int)) ∈ lw_all := lw_g (lw_at lw_m0 179 rfl) rfl
theorem q186 : (Jvm.Cond.instanceMethod ({ cls := "SeverDeskModel", name := "gates", desc := "(II)I" } : Jvm.MethodName)) ∈ lw_all := lw_g (lw_at lw_m0 181 rfl) rfl
theorem q187 : (Jvm.Cond.selects "SeverDeskModel" ({ cls := "SeverDeskModel", name := "gates", desc := "(II)I" } : Jvm.MethodName) ({ cls := "SeverDeskModel", name := "gates", desc := "(II)I" } : Jvm.MethodName)) ∈ lw_all := lw_g (lw_at lw_m0 182 rfl) rfl
theorem q188 : (Jvm.Cond.code ({ cls := "SeverDeskModel", name := "gates", desc := "(II)I" } : Jvm.MethodName) prog_5_method_11_code (7 : Nat) (Option.some Jvm.ClassFile.FieldType.int)) ∈ lw_all := lw_g (lw_at lw_m0 183 rfl) rfl
theorem q190 : (Jvm.Cond.instanceMethod ({ cls := "SeverDeskModel", name := "rings", desc := "()I" } : Jvm.MethodName)) ∈ lw_all := lw_g (lw_at lw_m0 185 rfl) rfl
theorem q191 : (Jvm.Cond.selects "SeverDeskModel" ({ cls := "SeverDeskModel", name := "rings", desc := "()I" } : Jvm.MethodName) ({ cls := "SeverDeskModel", name := "rings", desc := "()I" } : Jvm.MethodName)) ∈ lw_all := lw_g (lw_at lw_m0 186 rfl) rfl
theorem q192 : (Jvm.Cond.code ({ cls := "SeverDeskModel", name := "rings", desc := "()I" } : Jvm.MethodName) prog_5_method_12_code (6 : Nat) (Option.some Jvm.ClassFile.FieldType.int)) ∈ lw_all := lw_g (lw_at lw_m0 187 rfl) rfl
theorem in_X3 : ∀ w ∈ wsX30, w ∈ lw_all := lw_in wsX30 [143, 145] (by decide +kernel) (by decide +kernel)
end
section
/-! the law's own entry -/
set_option maxRecDepth 100000
abbrev cL_law : ByteArray := code
theorem dL_law_0 : decode cL_law 0 = .ok (.new 7, 3) := by decide +kernel
theorem dL_law_3 : decode cL_law 3 = .ok (.dup, 1) := by decide +kernel
theorem dL_law_4 : decode cL_law 4 = .ok (.invokespecial 9, 3) := by decide +kernel
theorem dL_law_7 : decode cL_law 7 = .ok (.astore_n 1, 1) := by decide +kernel
theorem dL_law_8 : decode cL_law 8 = .ok (.new 10, 3) := by decide +kernel
theorem dL_law_11 : decode cL_law 11 = .ok (.dup, 1) := by decide +kernel
theorem dL_law_12 : decode cL_law 12 = .ok (.invokespecial 12, 3) := by decide +kernel
theorem dL_law_15 : decode cL_law 15 = .ok (.astore_n 2, 1) := by decide +kernel
theorem dL_law_16 : decode cL_law 16 = .ok (.iconst 0, 1) := by decide +kernel
theorem dL_law_17 : decode cL_law 17 = .ok (.istore_n 3, 1) := by decide +kernel
theorem dL_law_18 : decode cL_law 18 = .ok (.iload_n 3, 1) := by decide +kernel
theorem dL_law_19 : decode cL_law 19 = .ok (.aload_n 0, 1) := by decide +kernel
theorem dL_law_20 : decode cL_law 20 = .ok (.arraylength, 1) := by decide +kernel
theorem dL_law_21 : decode cL_law 21 = .ok (.iconst 3, 1) := by decide +kernel
theorem dL_law_22 : decode cL_law 22 = .ok (.isub, 1) := by decide +kernel
theorem dL_law_23 : decode cL_law 23 = .ok (.if_icmp .gt 283, 3) := by decide +kernel
theorem dL_law_26 : decode cL_law 26 = .ok (.aload_n 0, 1) := by decide +kernel
theorem dL_law_27 : decode cL_law 27 = .ok (.iload_n 3, 1) := by decide +kernel
theorem dL_law_28 : decode cL_law 28 = .ok (.iaload, 1) := by decide +kernel
theorem dL_law_29 : decode cL_law 29 = .ok (.bipush 7, 2) := by decide +kernel
theorem dL_law_31 : decode cL_law 31 = .ok (.iand, 1) := by decide +kernel
theorem dL_law_32 : decode cL_law 32 = .ok (.tableswitch 268 0 7 #[48, 69, 102, 133, 166, 199, 222, 255], 48) := by decide +kernel
theorem dL_law_80 : decode cL_law 80 = .ok (.aload_n 1, 1) := by decide +kernel
theorem dL_law_81 : decode cL_law 81 = .ok (.aload_n 0, 1) := by decide +kernel
theorem dL_law_82 : decode cL_law 82 = .ok (.iload_n 3, 1) := by decide +kernel
theorem dL_law_83 : decode cL_law 83 = .ok (.iconst 1, 1) := by decide +kernel
theorem dL_law_84 : decode cL_law 84 = .ok (.iadd, 1) := by decide +kernel
theorem dL_law_85 : decode cL_law 85 = .ok (.iaload, 1) := by decide +kernel
theorem dL_law_86 : decode cL_law 86 = .ok (.invokevirtual 13, 3) := by decide +kernel
theorem dL_law_89 : decode cL_law 89 = .ok (.aload_n 2, 1) := by decide +kernel
theorem dL_law_90 : decode cL_law 90 = .ok (.aload_n 0, 1) := by decide +kernel
theorem dL_law_91 : decode cL_law 91 = .ok (.iload_n 3, 1) := by decide +kernel
theorem dL_law_92 : decode cL_law 92 = .ok (.iconst 1, 1) := by decide +kernel
theorem dL_law_93 : decode cL_law 93 = .ok (.iadd, 1) := by decide +kernel
theorem dL_law_94 : decode cL_law 94 = .ok (.iaload, 1) := by decide +kernel
theorem dL_law_95 : decode cL_law 95 = .ok (.invokevirtual 17, 3) := by decide +kernel
theorem dL_law_98 : decode cL_law 98 = .ok (.goto 202, 3) := by decide +kernel
theorem dL_law_101 : decode cL_law 101 = .ok (.aload_n 1, 1) := by decide +kernel
theorem dL_law_102 : decode cL_law 102 = .ok (.aload_n 0, 1) := by decide +kernel
theorem dL_law_103 : decode cL_law 103 = .ok (.iload_n 3, 1) := by decide +kernel
theorem dL_law_104 : decode cL_law 104 = .ok (.iconst 1, 1) := by decide +kernel
theorem dL_law_105 : decode cL_law 105 = .ok (.iadd, 1) := by decide +kernel
theorem dL_law_106 : decode cL_law 106 = .ok (.iaload, 1) := by decide +kernel
theorem dL_law_107 : decode cL_law 107 = .ok (.aload_n 0, 1) := by decide +kernel
theorem dL_law_108 : decode cL_law 108 = .ok (.iload_n 3, 1) := by decide +kernel
theorem dL_law_109 : decode cL_law 109 = .ok (.iconst 2, 1) := by decide +kernel
theorem dL_law_110 : decode cL_law 110 = .ok (.iadd, 1) := by decide +kernel
theorem dL_law_111 : decode cL_law 111 = .ok (.iaload, 1) := by decide +kernel
theorem dL_law_112 : decode cL_law 112 = .ok (.invokevirtual 18, 3) := by decide +kernel
theorem dL_law_115 : decode cL_law 115 = .ok (.aload_n 2, 1) := by decide +kernel
theorem dL_law_116 : decode cL_law 116 = .ok (.aload_n 0, 1) := by decide +kernel
theorem dL_law_117 : decode cL_law 117 = .ok (.iload_n 3, 1) := by decide +kernel
theorem dL_law_118 : decode cL_law 118 = .ok (.iconst 1, 1) := by decide +kernel
theorem dL_law_119 : decode cL_law 119 = .ok (.iadd, 1) := by decide +kernel
theorem dL_law_120 : decode cL_law 120 = .ok (.iaload, 1) := by decide +kernel
theorem dL_law_121 : decode cL_law 121 = .ok (.aload_n 0, 1) := by decide +kernel
theorem dL_law_122 : decode cL_law 122 = .ok (.iload_n 3, 1) := by decide +kernel
theorem dL_law_123 : decode cL_law 123 = .ok (.iconst 2, 1) := by decide +kernel
theorem dL_law_124 : decode cL_law 124 = .ok (.iadd, 1) := by decide +kernel
theorem dL_law_125 : decode cL_law 125 = .ok (.iaload, 1) := by decide +kernel
theorem dL_law_126 : decode cL_law 126 = .ok (.invokevirtual 22, 3) := by decide +kernel
theorem dL_law_129 : decode cL_law 129 = .ok (.if_icmp .eq 171, 3) := by decide +kernel
theorem dL_law_132 : decode cL_law 132 = .ok (.iconst 0, 1) := by decide +kernel
theorem dL_law_133 : decode cL_law 133 = .ok (.ireturn, 1) := by decide +kernel
theorem dL_law_134 : decode cL_law 134 = .ok (.aload_n 1, 1) := by decide +kernel
theorem dL_law_135 : decode cL_law 135 = .ok (.aload_n 0, 1) := by decide +kernel
theorem dL_law_136 : decode cL_law 136 = .ok (.iload_n 3, 1) := by decide +kernel
theorem dL_law_137 : decode cL_law 137 = .ok (.iconst 1, 1) := by decide +kernel
theorem dL_law_138 : decode cL_law 138 = .ok (.iadd, 1) := by decide +kernel
theorem dL_law_139 : decode cL_law 139 = .ok (.iaload, 1) := by decide +kernel
theorem dL_law_140 : decode cL_law 140 = .ok (.aload_n 0, 1) := by decide +kernel
theorem dL_law_141 : decode cL_law 141 = .ok (.iload_n 3, 1) := by decide +kernel
theorem dL_law_142 : decode cL_law 142 = .ok (.iconst 2, 1) := by decide +kernel
theorem dL_law_143 : decode cL_law 143 = .ok (.iadd, 1) := by decide +kernel
theorem dL_law_144 : decode cL_law 144 = .ok (.iaload, 1) := by decide +kernel
theorem dL_law_145 : decode cL_law 145 = .ok (.invokevirtual 23, 3) := by decide +kernel
theorem dL_law_148 : decode cL_law 148 = .ok (.aload_n 2, 1) := by decide +kernel
theorem dL_law_149 : decode cL_law 149 = .ok (.aload_n 0, 1) := by decide +kernel
theorem dL_law_150 : decode cL_law 150 = .ok (.iload_n 3, 1) := by decide +kernel
theorem dL_law_151 : decode cL_law 151 = .ok (.iconst 1, 1) := by decide +kernel
theorem dL_law_152 : decode cL_law 152 = .ok (.iadd, 1) := by decide +kernel
theorem dL_law_153 : decode cL_law 153 = .ok (.iaload, 1) := by decide +kernel
theorem dL_law_154 : decode cL_law 154 = .ok (.aload_n 0, 1) := by decide +kernel
theorem dL_law_155 : decode cL_law 155 = .ok (.iload_n 3, 1) := by decide +kernel
theorem dL_law_156 : decode cL_law 156 = .ok (.iconst 2, 1) := by decide +kernel
theorem dL_law_157 : decode cL_law 157 = .ok (.iadd, 1) := by decide +kernel
theorem dL_law_158 : decode cL_law 158 = .ok (.iaload, 1) := by decide +kernel
theorem dL_law_159 : decode cL_law 159 = .ok (.invokevirtual 27, 3) := by decide +kernel
theorem dL_law_162 : decode cL_law 162 = .ok (.goto 138, 3) := by decide +kernel
theorem dL_law_165 : decode cL_law 165 = .ok (.aload_n 1, 1) := by decide +kernel
theorem dL_law_166 : decode cL_law 166 = .ok (.aload_n 0, 1) := by decide +kernel
theorem dL_law_167 : decode cL_law 167 = .ok (.iload_n 3, 1) := by decide +kernel
theorem dL_law_168 : decode cL_law 168 = .ok (.iconst 1, 1) := by decide +kernel
theorem dL_law_169 : decode cL_law 169 = .ok (.iadd, 1) := by decide +kernel
theorem dL_law_170 : decode cL_law 170 = .ok (.iaload, 1) := by decide +kernel
theorem dL_law_171 : decode cL_law 171 = .ok (.aload_n 0, 1) := by decide +kernel
theorem dL_law_172 : decode cL_law 172 = .ok (.iload_n 3, 1) := by decide +kernel
theorem dL_law_173 : decode cL_law 173 = .ok (.iconst 2, 1) := by decide +kernel
theorem dL_law_174 : decode cL_law 174 = .ok (.iadd, 1) := by decide +kernel
theorem dL_law_175 : decode cL_law 175 = .ok (.iaload, 1) := by decide +kernel
theorem dL_law_176 : decode cL_law 176 = .ok (.invokevirtual 28, 3) := by decide +kernel
theorem dL_law_179 : decode cL_law 179 = .ok (.aload_n 2, 1) := by decide +kernel
theorem dL_law_180 : decode cL_law 180 = .ok (.aload_n 0, 1) := by decide +kernel
theorem dL_law_181 : decode cL_law 181 = .ok (.iload_n 3, 1) := by decide +kernel
theorem dL_law_182 : decode cL_law 182 = .ok (.iconst 1, 1) := by decide +kernel
theorem dL_law_183 : decode cL_law 183 = .ok (.iadd, 1) := by decide +kernel
theorem dL_law_184 : decode cL_law 184 = .ok (.iaload, 1) := by decide +kernel
theorem dL_law_185 : decode cL_law 185 = .ok (.aload_n 0, 1) := by decide +kernel
theorem dL_law_186 : decode cL_law 186 = .ok (.iload_n 3, 1) := by decide +kernel
theorem dL_law_187 : decode cL_law 187 = .ok (.iconst 2, 1) := by decide +kernel
theorem dL_law_188 : decode cL_law 188 = .ok (.iadd, 1) := by decide +kernel
theorem dL_law_189 : decode cL_law 189 = .ok (.iaload, 1) := by decide +kernel
theorem dL_law_190 : decode cL_law 190 = .ok (.invokevirtual 32, 3) := by decide +kernel
theorem dL_law_193 : decode cL_law 193 = .ok (.if_icmp .eq 107, 3) := by decide +kernel
theorem dL_law_196 : decode cL_law 196 = .ok (.iconst 0, 1) := by decide +kernel
theorem dL_law_197 : decode cL_law 197 = .ok (.ireturn, 1) := by decide +kernel
theorem dL_law_198 : decode cL_law 198 = .ok (.aload_n 1, 1) := by decide +kernel
theorem dL_law_199 : decode cL_law 199 = .ok (.aload_n 0, 1) := by decide +kernel
theorem dL_law_200 : decode cL_law 200 = .ok (.iload_n 3, 1) := by decide +kernel
theorem dL_law_201 : decode cL_law 201 = .ok (.iconst 1, 1) := by decide +kernel
theorem dL_law_202 : decode cL_law 202 = .ok (.iadd, 1) := by decide +kernel
theorem dL_law_203 : decode cL_law 203 = .ok (.iaload, 1) := by decide +kernel
theorem dL_law_204 : decode cL_law 204 = .ok (.aload_n 0, 1) := by decide +kernel
theorem dL_law_205 : decode cL_law 205 = .ok (.iload_n 3, 1) := by decide +kernel
theorem dL_law_206 : decode cL_law 206 = .ok (.iconst 2, 1) := by decide +kernel
theorem dL_law_207 : decode cL_law 207 = .ok (.iadd, 1) := by decide +kernel
theorem dL_law_208 : decode cL_law 208 = .ok (.iaload, 1) := by decide +kernel
theorem dL_law_209 : decode cL_law 209 = .ok (.invokevirtual 33, 3) := by decide +kernel
theorem dL_law_212 : decode cL_law 212 = .ok (.aload_n 2, 1) := by decide +kernel
theorem dL_law_213 : decode cL_law 213 = .ok (.aload_n 0, 1) := by decide +kernel
theorem dL_law_214 : decode cL_law 214 = .ok (.iload_n 3, 1) := by decide +kernel
theorem dL_law_215 : decode cL_law 215 = .ok (.iconst 1, 1) := by decide +kernel
theorem dL_law_216 : decode cL_law 216 = .ok (.iadd, 1) := by decide +kernel
theorem dL_law_217 : decode cL_law 217 = .ok (.iaload, 1) := by decide +kernel
theorem dL_law_218 : decode cL_law 218 = .ok (.aload_n 0, 1) := by decide +kernel
theorem dL_law_219 : decode cL_law 219 = .ok (.iload_n 3, 1) := by decide +kernel
theorem dL_law_220 : decode cL_law 220 = .ok (.iconst 2, 1) := by decide +kernel
theorem dL_law_221 : decode cL_law 221 = .ok (.iadd, 1) := by decide +kernel
theorem dL_law_222 : decode cL_law 222 = .ok (.iaload, 1) := by decide +kernel
theorem dL_law_223 : decode cL_law 223 = .ok (.invokevirtual 36, 3) := by decide +kernel
theorem dL_law_226 : decode cL_law 226 = .ok (.if_icmp .eq 74, 3) := by decide +kernel
theorem dL_law_229 : decode cL_law 229 = .ok (.iconst 0, 1) := by decide +kernel
theorem dL_law_230 : decode cL_law 230 = .ok (.ireturn, 1) := by decide +kernel
theorem dL_law_231 : decode cL_law 231 = .ok (.aload_n 1, 1) := by decide +kernel
theorem dL_law_232 : decode cL_law 232 = .ok (.aload_n 0, 1) := by decide +kernel
theorem dL_law_233 : decode cL_law 233 = .ok (.iload_n 3, 1) := by decide +kernel
theorem dL_law_234 : decode cL_law 234 = .ok (.iconst 1, 1) := by decide +kernel
theorem dL_law_235 : decode cL_law 235 = .ok (.iadd, 1) := by decide +kernel
theorem dL_law_236 : decode cL_law 236 = .ok (.iaload, 1) := by decide +kernel
theorem dL_law_237 : decode cL_law 237 = .ok (.invokevirtual 37, 3) := by decide +kernel
theorem dL_law_240 : decode cL_law 240 = .ok (.aload_n 2, 1) := by decide +kernel
theorem dL_law_241 : decode cL_law 241 = .ok (.aload_n 0, 1) := by decide +kernel
theorem dL_law_242 : decode cL_law 242 = .ok (.iload_n 3, 1) := by decide +kernel
theorem dL_law_243 : decode cL_law 243 = .ok (.iconst 1, 1) := by decide +kernel
theorem dL_law_244 : decode cL_law 244 = .ok (.iadd, 1) := by decide +kernel
theorem dL_law_245 : decode cL_law 245 = .ok (.iaload, 1) := by decide +kernel
theorem dL_law_246 : decode cL_law 246 = .ok (.invokevirtual 41, 3) := by decide +kernel
theorem dL_law_249 : decode cL_law 249 = .ok (.if_icmp .eq 51, 3) := by decide +kernel
theorem dL_law_252 : decode cL_law 252 = .ok (.iconst 0, 1) := by decide +kernel
theorem dL_law_253 : decode cL_law 253 = .ok (.ireturn, 1) := by decide +kernel
theorem dL_law_254 : decode cL_law 254 = .ok (.aload_n 1, 1) := by decide +kernel
theorem dL_law_255 : decode cL_law 255 = .ok (.aload_n 0, 1) := by decide +kernel
theorem dL_law_256 : decode cL_law 256 = .ok (.iload_n 3, 1) := by decide +kernel
theorem dL_law_257 : decode cL_law 257 = .ok (.iconst 1, 1) := by decide +kernel
theorem dL_law_258 : decode cL_law 258 = .ok (.iadd, 1) := by decide +kernel
theorem dL_law_259 : decode cL_law 259 = .ok (.iaload, 1) := by decide +kernel
theorem dL_law_260 : decode cL_law 260 = .ok (.aload_n 0, 1) := by decide +kernel
theorem dL_law_261 : decode cL_law 261 = .ok (.iload_n 3, 1) := by decide +kernel
theorem dL_law_262 : decode cL_law 262 = .ok (.iconst 2, 1) := by decide +kernel
theorem dL_law_263 : decode cL_law 263 = .ok (.iadd, 1) := by decide +kernel
theorem dL_law_264 : decode cL_law 264 = .ok (.iaload, 1) := by decide +kernel
theorem dL_law_265 : decode cL_law 265 = .ok (.invokevirtual 42, 3) := by decide +kernel
theorem dL_law_268 : decode cL_law 268 = .ok (.aload_n 2, 1) := by decide +kernel
theorem dL_law_269 : decode cL_law 269 = .ok (.aload_n 0, 1) := by decide +kernel
theorem dL_law_270 : decode cL_law 270 = .ok (.iload_n 3, 1) := by decide +kernel
theorem dL_law_271 : decode cL_law 271 = .ok (.iconst 1, 1) := by decide +kernel
theorem dL_law_272 : decode cL_law 272 = .ok (.iadd, 1) := by decide +kernel
theorem dL_law_273 : decode cL_law 273 = .ok (.iaload, 1) := by decide +kernel
theorem dL_law_274 : decode cL_law 274 = .ok (.aload_n 0, 1) := by decide +kernel
theorem dL_law_275 : decode cL_law 275 = .ok (.iload_n 3, 1) := by decide +kernel
theorem dL_law_276 : decode cL_law 276 = .ok (.iconst 2, 1) := by decide +kernel
theorem dL_law_277 : decode cL_law 277 = .ok (.iadd, 1) := by decide +kernel
theorem dL_law_278 : decode cL_law 278 = .ok (.iaload, 1) := by decide +kernel
theorem dL_law_279 : decode cL_law 279 = .ok (.invokevirtual 45, 3) := by decide +kernel
theorem dL_law_282 : decode cL_law 282 = .ok (.if_icmp .eq 18, 3) := by decide +kernel
theorem dL_law_285 : decode cL_law 285 = .ok (.iconst 0, 1) := by decide +kernel
theorem dL_law_286 : decode cL_law 286 = .ok (.ireturn, 1) := by decide +kernel
theorem dL_law_287 : decode cL_law 287 = .ok (.aload_n 1, 1) := by decide +kernel
theorem dL_law_288 : decode cL_law 288 = .ok (.invokevirtual 46, 3) := by decide +kernel
theorem dL_law_291 : decode cL_law 291 = .ok (.aload_n 2, 1) := by decide +kernel
theorem dL_law_292 : decode cL_law 292 = .ok (.invokevirtual 50, 3) := by decide +kernel
theorem dL_law_295 : decode cL_law 295 = .ok (.if_icmp .eq 5, 3) := by decide +kernel
theorem dL_law_298 : decode cL_law 298 = .ok (.iconst 0, 1) := by decide +kernel
theorem dL_law_299 : decode cL_law 299 = .ok (.ireturn, 1) := by decide +kernel
theorem dL_law_300 : decode cL_law 300 = .ok (.iinc 3 3, 3) := by decide +kernel
theorem dL_law_303 : decode cL_law 303 = .ok (.goto (-285), 3) := by decide +kernel
theorem dL_law_306 : decode cL_law 306 = .ok (.iconst 1, 1) := by decide +kernel
theorem dL_law_307 : decode cL_law 307 = .ok (.ireturn, 1) := by decide +kernel
end
section
/-! helpers: the claim's classes, contract forms over a whole world, call rows, array rows -/
set_option maxRecDepth 100000
abbrev vwCl : List vw_C := [(RX0, TX0, 2), (RX1, TX1, 2), (RX2, TX2, 4), (RX3, TX3, 2)]
def th_NW (U : State) : Prop := va_Nw (.fieldLinkNest "SeverDesk" 34 "SeverDesk$Roads" "to" "[I" "SeverDesk") U ∧ va_Nw (.fieldLinkNest "SeverDesk" 49 "SeverDesk$Roads" "count" "I" "SeverDesk") U ∧ va_Nw (.fieldLinkNest "SeverDesk$Flow" 27 "SeverDesk$Roads" "count" "I" "SeverDesk") U ∧ va_Nw (.methodLinkNest "SeverDesk" 9 ⟨"SeverDesk$Roads", "<init>", "()V"⟩ "SeverDesk") U
def th_AK (cI cL : ClassId) (U : State) : Prop := ∃ k : Class, U.vm.classes[cL]? = some k ∧ k.kind = .array cI (.array .int)
/-- what the tables say all through: classes, the two array classes, nest links -/
def CK (D : va_G) (cI cL : ClassId) (U : State) : Prop := va_K D vwCl [(cI, .int), (cL, .array .int)] U ∧ th_NW U ∧ th_AK cI cL U
theorem th_AK.moved {cI cL : ClassId} {u U : State} (hvm : u.vm.Alike U.vm) (h : th_AK cI cL u) : th_AK cI cL U := by
  obtain ⟨k, h1, h2⟩ := h
  obtain ⟨k', hk', he⟩ := hvm.2.2 _ _ h1
  exact ⟨k', hk', by rw [he]; exact h2⟩
theorem CK.warm {D : va_G} {cI cL : ClassId} {s U : State} (hW : s.WarmedH U.vm) (h : CK D cI cL s) : CK D cI cL U :=
  ⟨va_K.moved hW.alike h.1, ⟨va_Nw.warmF hW h.2.1.1, va_Nw.warmF hW h.2.1.2.1, va_Nw.warmF hW h.2.1.2.2.1, va_Nw.warmM hW h.2.1.2.2.2⟩, h.2.2.moved hW.alike⟩
theorem CK.same {D : va_G} {cI cL : ClassId} {u U : State} (hv : u.vm = U.vm) (h : CK D cI cL u) : CK D cI cL U := by
  have al : u.vm.Alike U.vm := by rw [hv]; exact Vm.Alike.refl U.vm
  exact ⟨va_K.moved al h.1, ⟨va_Nw.same rfl hv h.2.1.1, va_Nw.same rfl hv h.2.1.2.1, va_Nw.same rfl hv h.2.1.2.2.1, va_Nw.same rfl hv h.2.1.2.2.2⟩, h.2.2.moved al⟩
/-- the start of a contract that only reads -/
def RdP (D : va_G) (cI cL : ClassId) (ws : va_W) (av : List Value) : Array Value → State → Prop := va_Pc av (fun U => va_P D vwCl ws U.heap ∧ CK D cI cL U)
theorem RdP.blind {D : va_G} {cI cL : ClassId} {ws : va_W} {av : List Value} : FrameBlind (RdP D cI cL ws av) := fun a U g mk h => ⟨h.1, h.2.1, CK.same (u := U) (U := U.calling g mk a) rfl h.2.2⟩
/-- the start of a contract that writes: the whole world is its own -/
def MuP (D : va_G) (cI cL : ClassId) (ws : va_W) (sz : Nat) (av : List Value) : Array Value → State → Prop := va_Pc av (fun U => U.heap.size = sz ∧ va_P D vwCl ws U.heap ∧ CK D cI cL U ∧ va_D (fun _ => True) ws)
def MuB (D : va_G) (ws : va_W) (sz : Nat) (u : va_W) (t : State) : Prop := va_P D vwCl u t.heap ∧ va_D (va_A ws sz) u
theorem MuP.blind {D : va_G} {cI cL : ClassId} {ws : va_W} {sz : Nat} {av : List Value} : FrameBlind (MuP D cI cL ws sz av) := fun a U g mk h => ⟨h.1, h.2.1, h.2.2.1, CK.same (u := U) (U := U.calling g mk a) rfl h.2.2.2.1, h.2.2.2.2⟩
theorem th_own {A : Nat → Prop} {ws : va_W} {H0 H : Heap} {locs : List Loc} (hD : va_D A ws) (hS : va_S A H0 H locs) (hA : ∀ q, H0.size ≤ q → A q) : ∀ q, va_A ws H.size q → A q := by
  rintro q (⟨k, e, hk⟩ | h)
  · exact hD.2 k _ hk
  · exact hA q (Nat.le_trans hS.1 h)
section TH
variable {p : Program} {l : Launch} {e : Env} {R : Room} {s : State} {m : MethodId} {args : Array Value} {below : List Frame} {meth : Method} {c : Code} {H : Heap} {locs : List Loc} {cells slots : Nat} {Q : State → Prop}
variable {cc : ByteArray} {pc : Nat} {ls : Array Slot} {rest st0 : List Value} {D : va_G} {cI cL : ClassId} {A : Nat → Prop} {a b : Nat} {ws : va_W} {H0 : Heap} {nL : Nat}
variable {y : MethodName} {bytes : ByteArray} {maxL n index mc ms : Nat} {ret : Option FieldType} {rm : Room} {own C host : String} {As : List Value}
/-- the number on top, by another name -/
theorem tp_ {x z : Int32} (h : x = z) (k : W p l e R s m args below meth c H locs cells slots Q (F0 m pc ls (.int z :: rest))) : W p l e R s m args below meth c H locs cells slots Q (F0 m pc ls (.int x :: rest)) := h ▸ k
/-- a call through an object of a method that only reads -/
theorem rdV {post : Int32 → Prop} (S : CallFix p m c cc nL s args lw_all own) (hM : Met l y (ws_ y bytes maxL ret) rm (RdP D cI cL ws (.ref b :: As)) (vp_Si post) 0 0 (fun _ => False)) (cw : CallW R s args own C index y bytes maxL ret (ws_ y bytes maxL ret) rm 0 0 n)
    (hC : CK D cI cL s) (hP : va_P D vwCl ws H) (hv : ∃ cell : Cell, H[b]? = some cell ∧ cell.vm.isStatics = false ∧ s.vm.findClass C = some cell.cls) (hst : st0 = As.reverse ++ .ref b :: rest) (hn : As.length = n) (hsize : ls.size = nL) (hroom : (rest.map fun v => v.category).sum ≤ 8) (hdg : decode cc pc = .ok (.invokevirtual index, 3)) (hf : cells + 0 ≤ R.cells ∧ slots + 0 ≤ R.slots)
    (kk : ∀ r : Int32, post r → W p l e R s m args below meth c H locs cells slots Q (F0 m (pc + 3) ls (.int r :: rest))) : W p l e R s m args below meth c H locs cells slots Q (F0 m pc ls st0) :=
  vp_callSi (va_Run.run (va_runV (As := As) (rest := rest) S hM cw ⟨RdP.blind, hv, fun U hU hW => ⟨rfl, by rw [hU]; exact hP, hC.warm hW⟩⟩ rfl hn hsize hst (lv_room hroom) hdg hf)) kk
/-- a static call of a method that only reads -/
theorem rdS {post : Int32 → Prop} (S : CallFix p m c cc nL s args lw_all own) (hM : Met l y (ws_ y bytes maxL ret) rm (RdP D cI cL ws As) (vp_Si post) 0 0 (fun _ => False)) (cw : CallB R s args own index y bytes maxL ret (ws_ y bytes maxL ret) rm 0 0 n ∧ (Cond.static y).before args s = true)
    (hC : CK D cI cL s) (hP : va_P D vwCl ws H) (hst : st0 = As.reverse ++ rest) (hn : As.length = n) (hsize : ls.size = nL) (hroom : (rest.map fun v => v.category).sum ≤ 8) (hdg : decode cc pc = .ok (.invokestatic index, 3)) (hf : cells + 0 ≤ R.cells ∧ slots + 0 ≤ R.slots)
    (kk : ∀ r : Int32, post r → W p l e R s m args below meth c H locs cells slots Q (F0 m (pc + 3) ls (.int r :: rest))) : W p l e R s m args below meth c H locs cells slots Q (F0 m pc ls st0) :=
  vp_callSi (va_Run.run (va_runS (As := As) (rest := rest) S hM cw ⟨RdP.blind, fun U hU hW => ⟨rfl, by rw [hU]; exact hP, hC.warm hW⟩⟩ rfl hn hsize hst (lv_room hroom) hdg hf)) kk
/-- a call through an object of a method that writes, with an int -/
theorem muVi {post : Int32 → va_W → Prop} (S : CallFix p m c cc nL s args lw_all own) (hM : Met l y (ws_ y bytes maxL ret) rm (MuP D cI cL ws H.size (.ref b :: As)) (va_Qi post (MuB D ws H.size) (va_A ws H.size)) mc ms (va_A ws H.size)) (cw : CallW R s args own C index y bytes maxL ret (ws_ y bytes maxL ret) rm mc ms n)
    (hC : CK D cI cL s) (hP : va_P D vwCl ws H) (hD : va_D A ws) (hS : va_S A H0 H locs) (hA : ∀ q, H0.size ≤ q → A q) (hv : ∃ cell : Cell, H[b]? = some cell ∧ cell.vm.isStatics = false ∧ s.vm.findClass C = some cell.cls) (hst : st0 = As.reverse ++ .ref b :: rest) (hn : As.length = n) (hsize : ls.size = nL) (hroom : (rest.map fun v => v.category).sum ≤ 8) (hdg : decode cc pc = .ok (.invokevirtual index, 3)) (hf : cells + mc ≤ R.cells ∧ slots + ms ≤ R.slots)
    (kk : ∀ (r : Int32) (u : va_W) (H1 : Heap) (locs1 : List Loc), post r u → va_P D vwCl u H1 → va_D A u → va_S A H0 H1 locs1 → W p l e R s m args below meth c H1 locs1 (cells + mc) (slots + ms) Q (F0 m (pc + 3) ls (.int r :: rest))) : W p l e R s m args below meth c H locs cells slots Q (F0 m pc ls st0) := by
  have hF := th_own hD hS hA
  exact va_calli (va_runV (As := As) (rest := rest) S hM cw ⟨MuP.blind, hv, fun U hU hW => ⟨rfl, by rw [hU], by rw [hU]; exact hP, hC.warm hW, hD.weaken (fun _ _ _ _ => trivial)⟩⟩ rfl hn hsize hst (lv_room hroom) hdg hf) hS (fun q _ h => hF q h) hF
    (fun r u t H1 locs1 ht hvm hp hB hz hk hS1 => kk r u H1 locs1 hp (by rw [← ht]; exact hB.1) (hB.2.weaken (fun _ _ _ h => hF _ h)) hS1)
/-- the same, void -/
theorem muVv {post : va_W → Prop} (S : CallFix p m c cc nL s args lw_all own) (hM : Met l y (ws_ y bytes maxL ret) rm (MuP D cI cL ws H.size (.ref b :: As)) (va_Qv post (MuB D ws H.size) (va_A ws H.size)) mc ms (va_A ws H.size)) (cw : CallW R s args own C index y bytes maxL ret (ws_ y bytes maxL ret) rm mc ms n)
    (hC : CK D cI cL s) (hP : va_P D vwCl ws H) (hD : va_D A ws) (hS : va_S A H0 H locs) (hA : ∀ q, H0.size ≤ q → A q) (hv : ∃ cell : Cell, H[b]? = some cell ∧ cell.vm.isStatics = false ∧ s.vm.findClass C = some cell.cls) (hst : st0 = As.reverse ++ .ref b :: rest) (hn : As.length = n) (hsize : ls.size = nL) (hroom : (rest.map fun v => v.category).sum ≤ 8) (hdg : decode cc pc = .ok (.invokevirtual index, 3)) (hf : cells + mc ≤ R.cells ∧ slots + ms ≤ R.slots)
    (kk : ∀ (u : va_W) (H1 : Heap) (locs1 : List Loc), post u → va_P D vwCl u H1 → va_D A u → va_S A H0 H1 locs1 → W p l e R s m args below meth c H1 locs1 (cells + mc) (slots + ms) Q (F0 m (pc + 3) ls rest)) : W p l e R s m args below meth c H locs cells slots Q (F0 m pc ls st0) := by
  have hF := th_own hD hS hA
  exact va_callv (va_runV (As := As) (rest := rest) S hM cw ⟨MuP.blind, hv, fun U hU hW => ⟨rfl, by rw [hU], by rw [hU]; exact hP, hC.warm hW, hD.weaken (fun _ _ _ _ => trivial)⟩⟩ rfl hn hsize hst (lv_room hroom) hdg hf) hS (fun q _ h => hF q h) hF
    (fun u t H1 locs1 ht hvm hp hB hz hk hS1 => kk u H1 locs1 hp (by rw [← ht]; exact hB.1) (hB.2.weaken (fun _ _ _ h => hF _ h)) hS1)
/-- a constructor's call -/
theorem muI {post : va_W → Prop} (S : CallFix p m c cc nL s args lw_all own) (hM : Met l y (ws_ y bytes maxL none) rm (MuP D cI cL ws H.size (.ref b :: As)) (va_Qv post (MuB D ws H.size) (va_A ws H.size)) mc ms (va_A ws H.size)) (cw : CallB R s args own index y bytes maxL none (ws_ y bytes maxL none) rm mc ms n ∧ y.name = "<init>" ∧ (Cond.instanceMethod y).before args s = true)
    (hC : CK D cI cL s) (hP : va_P D vwCl ws H) (hD : va_D A ws) (hS : va_S A H0 H locs) (hA : ∀ q, H0.size ≤ q → A q) (hst : st0 = As.reverse ++ .ref b :: rest) (hn : As.length = n) (hsize : ls.size = nL) (hroom : (rest.map fun v => v.category).sum ≤ 8) (hdg : decode cc pc = .ok (.invokespecial index, 3)) (hf : cells + mc ≤ R.cells ∧ slots + ms ≤ R.slots)
    (kk : ∀ (u : va_W) (H1 : Heap) (locs1 : List Loc), post u → va_P D vwCl u H1 → va_D A u → va_S A H0 H1 locs1 → W p l e R s m args below meth c H1 locs1 (cells + mc) (slots + ms) Q (F0 m (pc + 3) ls rest)) : W p l e R s m args below meth c H locs cells slots Q (F0 m pc ls st0) := by
  have hF := th_own hD hS hA
  exact va_callv (va_runI (As := As) (rest := rest) S hM cw ⟨MuP.blind, fun U hU hW => ⟨rfl, by rw [hU], by rw [hU]; exact hP, hC.warm hW, hD.weaken (fun _ _ _ _ => trivial)⟩⟩ rfl hn hsize hst (lv_room hroom) hdg hf) hS (fun q _ h => hF q h) hF
    (fun u t H1 locs1 ht hvm hp hB hz hk hS1 => kk u H1 locs1 hp (by rw [← ht]; exact hB.1) (hB.2.weaken (fun _ _ _ h => hF _ h)) hS1)
/-- a nest mate's private constructor's call -/
theorem muIN {post : va_W → Prop} (S : CallFix p m c cc nL s args lw_all own) (hM : Met l y (ws_ y bytes maxL none) rm (MuP D cI cL ws H.size (.ref b :: As)) (va_Qv post (MuB D ws H.size) (va_A ws H.size)) mc ms (va_A ws H.size)) (cw : va_CN R s args own index y host bytes maxL none (ws_ y bytes maxL none) rm mc ms n ∧ y.name = "<init>" ∧ (Cond.instanceMethod y).before args s = true)
    (hC : CK D cI cL s) (hP : va_P D vwCl ws H) (hD : va_D A ws) (hS : va_S A H0 H locs) (hA : ∀ q, H0.size ≤ q → A q) (hst : st0 = As.reverse ++ .ref b :: rest) (hn : As.length = n) (hsize : ls.size = nL) (hroom : (rest.map fun v => v.category).sum ≤ 8) (hdg : decode cc pc = .ok (.invokespecial index, 3)) (hf : cells + mc ≤ R.cells ∧ slots + ms ≤ R.slots)
    (kk : ∀ (u : va_W) (H1 : Heap) (locs1 : List Loc), post u → va_P D vwCl u H1 → va_D A u → va_S A H0 H1 locs1 → W p l e R s m args below meth c H1 locs1 (cells + mc) (slots + ms) Q (F0 m (pc + 3) ls rest)) : W p l e R s m args below meth c H locs cells slots Q (F0 m pc ls st0) := by
  have hF := th_own hD hS hA
  exact va_callv (va_runIN (As := As) (rest := rest) S hM cw ⟨MuP.blind, fun U hU hW => ⟨rfl, by rw [hU], by rw [hU]; exact hP, hC.warm hW, hD.weaken (fun _ _ _ _ => trivial)⟩⟩ rfl hn hsize hst (lv_room hroom) hdg hf) hS (fun q _ h => hF q h) hF
    (fun u t H1 locs1 ht hvm hp hB hz hk hS1 => kk u H1 locs1 hp (by rw [← ht]; exact hB.1) (hB.2.weaken (fun _ _ _ h => hF _ h)) hS1)
/-- int array: load at nI k -/
theorem th_iald (hexec : p.tables.exec = Jvm.exec) (hb : c.code = cc) (hC : CK D cI cL s) (hP : va_P D vwCl ws H) (q0 : Nat) {N : Nat} {f : Nat → Int32} (ha : ws[q0]? = some (a, .inl (cI, N, .inl f))) {k : Nat} (hk : k < N) (hN : N < 2 ^ 31) (hdg : decode cc pc = .ok (.iaload, 1))
    (kk : W p l e R s m args below meth c H locs cells slots Q (F0 m (pc + 1) ls (.int (f k) :: rest))) : W p l e R s m args below meth c H locs cells slots Q (F0 m pc ls (.int (nI k) :: .ref a :: rest)) :=
  va_iald hexec hb hC.1 hP q0 0 ha rfl (vp_in_nI hk hN) hdg (by rw [nI_clamp (Nat.lt_trans hk hN)]; exact kk)
/-- int array: store at nI k -/
theorem th_iast (hexec : p.tables.exec = Jvm.exec) (hb : c.code = cc) (hC : CK D cI cL s) (hP : va_P D vwCl ws H) (hD : va_D A ws) (hS : va_S A H0 H locs) (q0 : Nat) {N : Nat} {f : Nat → Int32} (ha : ws[q0]? = some (a, .inl (cI, N, .inl f))) {k : Nat} {x : Int32} (hk : k < N) (hN : N < 2 ^ 31) (hdg : decode cc pc = .ok (.iastore, 1))
    (kk : ∀ (H1 : Heap) (locs1 : List Loc), va_P D vwCl (ws.set q0 (a, .inl (cI, N, .inl (upd f k x)))) H1 → va_D A (ws.set q0 (a, .inl (cI, N, .inl (upd f k x)))) → va_S A H0 H1 locs1 → W p l e R s m args below meth c H1 locs1 cells slots Q (F0 m (pc + 1) ls rest)) : W p l e R s m args below meth c H locs cells slots Q (F0 m pc ls (.int x :: .int (nI k) :: .ref a :: rest)) :=
  va_iast hexec hb hC.1 hP hD hS q0 0 ha rfl (vp_in_nI hk hN) hdg (by rw [nI_clamp (Nat.lt_trans hk hN)]; exact kk)
/-- array of int arrays: load at nI k -/
theorem th_aald (hexec : p.tables.exec = Jvm.exec) (hb : c.code = cc) (hC : CK D cI cL s) (hP : va_P D vwCl ws H) (q0 : Nat) {N : Nat} {f : Nat → Option Nat} (ha : ws[q0]? = some (a, .inl (cL, N, .inr (.inr (.inr (.inr f)))))) {k : Nat} {v : Nat} (hv : f k = some v) (hk : k < N) (hN : N < 2 ^ 31) (hdg : decode cc pc = .ok (.aaload, 1))
    (kk : W p l e R s m args below meth c H locs cells slots Q (F0 m (pc + 1) ls (.ref v :: rest))) : W p l e R s m args below meth c H locs cells slots Q (F0 m pc ls (.int (nI k) :: .ref a :: rest)) := by
  have hin : vp_in (nI k) N := vp_in_nI hk hN
  have hlt : (nI k).toNatClampNeg < N := Nat.not_le.mp fun q => hin (Or.inr q)
  exact W.aald (v := .ref v) (ty := .array .int) hexec hb (hP q0 _ ha) ((hC.1.2 1 _ rfl).1 N (fun j => va_rf (f j))) rfl (fun q => by cases q) (by show ¬ (nI k < 0 ∨ (arrV _ _ _).slots.size ≤ _); rw [arrV_size]; exact hin) (by show (arrV _ _ _).slots[_]? = _; rw [arrV_read _ _ hlt, nI_clamp (Nat.lt_trans hk hN), hv]; rfl) rfl rfl hdg kk
/-- length of an int array -/
theorem th_alen (hexec : p.tables.exec = Jvm.exec) (hb : c.code = cc) (hC : CK D cI cL s) (hP : va_P D vwCl ws H) (q0 : Nat) {N : Nat} {f : Nat → Int32} (ha : ws[q0]? = some (a, .inl (cI, N, .inl f))) (hdg : decode cc pc = .ok (.arraylength, 1))
    (kk : W p l e R s m args below meth c H locs cells slots Q (F0 m (pc + 1) ls (.int (nI N) :: rest))) : W p l e R s m args below meth c H locs cells slots Q (F0 m pc ls (.ref a :: rest)) :=
  va_alen hexec hb hC.1 hP q0 0 ha rfl rfl hdg kk
/-- a new int array, of zeros, at the world's end -/
theorem th_newa (hexec : p.tables.exec = Jvm.exec) (hb : c.code = cc) (harr : (Cond.arrayClass .int).before args s = true) (hC : CK D cI cL s) (hP : va_P D vwCl ws H) (hD : va_D A ws) (hS : va_S A H0 H locs) (hA : ∀ q, H0.size ≤ q → A q) {N : Nat} (hN : N < 1000) (hcells : cells + 1 ≤ R.cells) (hslots : slots + N ≤ R.slots) (hdg : decode cc pc = .ok (.newarray .int, 2))
    (kk : ∀ (q : Nat) (H1 : Heap), va_P D vwCl (ws ++ [(q, .inl (cI, N, .inl (fun _ => 0)))]) H1 → va_D A (ws ++ [(q, .inl (cI, N, .inl (fun _ => 0)))]) → va_S A H0 H1 locs → W p l e R s m args below meth c H1 locs (cells + 1) (slots + N) Q (F0 m (pc + 2) ls (.ref q :: rest))) : W p l e R s m args below meth c H locs cells slots Q (F0 m pc ls (.int (nI N) :: rest)) := by
  refine va_newa (atype := .int) (ty := .int) (a0 := (N, .inl (fun _ => 0))) hexec hb harr rfl hC.1 hP hD hS hA (fun _ => rfl) (nI_pos (by omega)) (nI_clamp (by omega)) (by show N * 4 ≤ 536870912; omega) hcells hslots hdg (fun q cA H1 hK1 hP1 hD1 hS1 => ?_)
  have e1 : cA = cI := by
    have h0 : s.vm.findClass _ = some cI := (hC.1.2 0 _ rfl).2
    have h1 : s.vm.findClass _ = some cA := (hK1.2 2 _ rfl).2
    exact Option.some.inj (h1.symm.trans h0)
  subst e1
  exact kk q H1 hP1 hD1 hS1
end TH
theorem th_in1 (k : Nat) : nI k + Int32.ofInt 1 = nI (k + 1) := nI_1 k
theorem th_in3 (k : Nat) : nI k + Int32.ofInt 3 = nI (k + 3) := nI_add k 3
theorem th_dec (k : Nat) : nI (k + 1) + Int32.ofInt (-1) = nI k := pk_m1 k
theorem set_eq {ws : va_W} {i : Nat} {x z : Nat × va_E} (h : ws[i]? = some x) : (ws.set i z)[i]? = some z := by
  obtain ⟨hl, -⟩ := List.getElem?_eq_some_iff.mp h
  simp [hl]
theorem set_ne {ws : va_W} {i j : Nat} {x z : Nat × va_E} (h : ws[j]? = some x) (hn : i ≠ j) : (ws.set i z)[j]? = some x := by
  rw [List.getElem?_set_ne hn]; exact h
end
section
/-! plain numbers: bits as Nat, sums, the closure of a set of places -/
set_option maxRecDepth 100000
theorem sh_ : ∀ n, n < 32 → ((nI n &&& 31).toBitVec.smod 32).toNat = n := by decide +kernel
theorem bn_and (a b : Nat) : nI a &&& nI b = nI (a &&& b) := by
  apply Int32.toBitVec_inj.1
  show BitVec.ofNat 32 a &&& BitVec.ofNat 32 b = BitVec.ofNat 32 (a &&& b)
  apply BitVec.eq_of_getLsbD_eq
  intro i hi
  simp [hi]
theorem bn_or (a b : Nat) : nI a ||| nI b = nI (a ||| b) := by
  apply Int32.toBitVec_inj.1
  show BitVec.ofNat 32 a ||| BitVec.ofNat 32 b = BitVec.ofNat 32 (a ||| b)
  apply BitVec.eq_of_getLsbD_eq
  intro i hi
  simp [hi]
def bd (a b : Nat) : Nat := a ^^^ (a &&& b)
theorem bd_t (a b i : Nat) : (bd a b).testBit i = (a.testBit i && !b.testBit i) := by
  unfold bd
  rw [Nat.testBit_xor, Nat.testBit_and]
  cases a.testBit i <;> cases b.testBit i <;> rfl
theorem bd_le (a b : Nat) : bd a b ≤ a := by
  apply Nat.le_of_testBit
  intro i h
  rw [bd_t] at h
  simp at h
  exact h.1
theorem m1_t : ∀ i, i < 32 → ((-1 : Int32)).toBitVec.getLsbD i = true := by decide +kernel
theorem bn_andn (a b : Nat) : nI a &&& (nI b ^^^ (-1)) = nI (bd a b) := by
  apply Int32.toBitVec_inj.1
  apply BitVec.eq_of_getLsbD_eq
  intro i hi
  rw [Int32.toBitVec_and, BitVec.getLsbD_and, Int32.toBitVec_xor, BitVec.getLsbD_xor, m1_t i hi]
  show ((BitVec.ofNat 32 a).getLsbD i && ((BitVec.ofNat 32 b).getLsbD i ^^ true)) = (BitVec.ofNat 32 (bd a b)).getLsbD i
  rw [BitVec.getLsbD_ofNat, BitVec.getLsbD_ofNat, BitVec.getLsbD_ofNat, bd_t]
  simp [hi]
theorem bn_shl {k : Nat} (h : k < 31) : nI 1 <<< (nI k &&& 31) = nI (2 ^ k) := by
  have e := pk_shlN (n := 1) (nI k &&& 31) k (sh_ k (by omega)) (by
    rw [Nat.one_mul]
    exact Nat.pow_lt_pow_right (by decide) (by omega))
  rw [e, Nat.one_mul]
def b01 (b : Bool) : Nat := if b = true then 1 else 0
theorem bn_bit {a k : Nat} (ha : a < 2 ^ 31) (hk : k < 31) : (nI a >>> (nI k &&& 31)) &&& nI 1 = nI (b01 (a.testBit k)) := by
  rw [pk_shrN ha (nI k &&& 31) k (sh_ k (by omega)), bn_and]
  congr 1
  unfold b01
  rw [Nat.testBit_eq_decide_div_mod_eq, Nat.and_one_is_mod]
  have : a / 2 ^ k % 2 < 2 := Nat.mod_lt _ (by decide)
  by_cases h : a / 2 ^ k % 2 = 1
  · simp [h]
  · simp [h]; omega
theorem bn_mask {n : Nat} (h : n < 31) : nI (2 ^ n) - nI 1 = nI (2 ^ n - 1) := pk_sub (Nat.one_le_two_pow)
theorem b01_0 {b : Bool} : nI (b01 b) = 0 ↔ b = false := by cases b <;> decide
theorem b01_1 {b : Bool} : nI (b01 b) = nI 1 ↔ b = true := by cases b <;> decide
theorem b01_0' {b : Bool} : nI (b01 b) = nI 0 ↔ b = false := by cases b <;> decide
/-- the place of a number among n -/
def plc (a : Int32) (n : Nat) : Nat := a.toBitVec.toNat % 2 ^ 31 % n
theorem plc_lt (a : Int32) {n : Nat} (h : 0 < n) : plc a n < n := Nat.mod_lt _ h
theorem bn_plc (a : Int32) {n : Nat} (h : 0 < n) (hn : n < 2 ^ 31) : (a &&& 2147483647) - (a &&& 2147483647) / nI n * nI n = nI (plc a n) := by
  rw [pk_and a 31 (by decide), pk_rem (Nat.mod_lt _ (by decide)) h hn]
  rfl
/-- sums -/
def sm : Nat → (Nat → Nat) → Nat
  | 0, _ => 0
  | k + 1, f => sm k f + f k
theorem sm_congr {n : Nat} {f g : Nat → Nat} (h : ∀ k, k < n → f k = g k) : sm n f = sm n g := by
  induction n with
  | zero => rfl
  | succ n ih => simp only [sm]; rw [ih (fun k hk => h k (by omega)), h n (by omega)]
theorem sm_le {n : Nat} {f g : Nat → Nat} (h : ∀ k, k < n → f k ≤ g k) : sm n f ≤ sm n g := by
  induction n with
  | zero => exact Nat.le_refl _
  | succ n ih =>
    simp only [sm]
    exact Nat.add_le_add (ih (fun k hk => h k (by omega))) (h n (by omega))
theorem sm_add {n : Nat} {f g : Nat → Nat} : sm n (fun k => f k + g k) = sm n f + sm n g := by
  induction n with
  | zero => rfl
  | succ n ih => simp only [sm]; rw [ih]; omega
theorem sm_0 {n : Nat} : sm n (fun _ => 0) = 0 := by
  induction n with
  | zero => rfl
  | succ n ih => simp only [sm]; rw [ih]
theorem sm_comm {n k : Nat} {f : Nat → Nat → Nat} : sm n (fun u => sm k (fun v => f u v)) = sm k (fun v => sm n (fun u => f u v)) := by
  induction n with
  | zero => simp only [sm]; exact sm_0.symm
  | succ n ih => simp only [sm]; rw [ih, ← sm_add]
theorem sm_one {n : Nat} {f : Nat → Nat} {k : Nat} (hk : k < n) (h : ∀ j, j < n → j ≠ k → f j = 0) : sm n f = f k := by
  induction n with
  | zero => omega
  | succ n ih =>
    simp only [sm]
    by_cases e : k = n
    · subst e
      have : sm k f = sm k (fun _ => 0) := sm_congr (fun j hj => h j (by omega) (by omega))
      rw [this, sm_0]; omega
    · rw [ih (by omega) (fun j hj => h j (by omega)), h n (by omega) (fun q => e q.symm)]; omega
theorem sm_ge {n : Nat} {f : Nat → Nat} {k : Nat} (hk : k < n) : f k ≤ sm n f := by
  induction n with
  | zero => omega
  | succ n ih =>
    simp only [sm]
    by_cases e : k = n
    · subst e; omega
    · have := ih (by omega); omega
theorem sm_upd {n : Nat} {f g : Nat → Nat} {k : Nat} (hk : k < n) (h : ∀ j, j < n → j ≠ k → g j = f j) : sm n g + f k = sm n f + g k := by
  induction n with
  | zero => omega
  | succ n ih =>
    simp only [sm]
    by_cases e : k = n
    · subst e
      rw [sm_congr (f := g) (g := f) (fun j hj => h j (by omega) (by omega))]; omega
    · have := ih (by omega) (fun j hj => h j (by omega))
      have h2 := h n (by omega) (fun q => e q.symm)
      omega
def pop (x : Nat) : Nat := sm 8 (fun k => b01 (x.testBit k))
theorem pop_dec : ∀ y, y < 256 → y ≠ 0 → pop (y &&& (y - 1)) + 1 = pop y ∧ y &&& (y - 1) < y := by decide +kernel
theorem pop_8 (x : Nat) : pop x ≤ 8 := by
  have : pop x ≤ sm 8 (fun _ => 1) := sm_le (fun k _ => by unfold b01; split <;> omega)
  exact this
/-- the lowest bit -/
def tz (f : Nat) : Nat := if f.testBit 0 then 0 else if f.testBit 1 then 1 else if f.testBit 2 then 2 else if f.testBit 3 then 3 else if f.testBit 4 then 4 else if f.testBit 5 then 5 else if f.testBit 6 then 6 else 7
theorem tz_ok : ∀ f, f < 256 → f ≠ 0 → f.testBit (tz f) = true ∧ tz f < 8 ∧ f &&& (f - 1) = bd f (2 ^ tz f) ∧ f &&& (f - 1) < f := by decide +kernel
/-- closed sets of places, and what is reached -/
def clo (w : Nat → Nat) (n out : Nat) (T : Nat → Prop) : Prop := ∀ v j, v < n → T v → (w v).testBit j = true → out.testBit j = false → T j
def IsR (w : Nat → Nat) (n out x R : Nat) : Prop := R.testBit x = true ∧ clo w n out (fun j => R.testBit j = true) ∧ ∀ T : Nat → Prop, T x → clo w n out T → ∀ j, R.testBit j = true → T j
theorem IsR_one {w : Nat → Nat} {n out x R R' : Nat} (h : IsR w n out x R) (h' : IsR w n out x R') : R = R' := by
  apply Nat.eq_of_testBit_eq
  intro j
  rw [Bool.eq_iff_iff]
  exact ⟨fun q => h.2.2 _ h'.1 h'.2.1 j q, fun q => h'.2.2 _ h.1 h.2.1 j q⟩
noncomputable def Rf (w : Nat → Nat) (n out x : Nat) : Nat := Classical.epsilon (fun R => IsR w n out x R)
theorem Rf_eq {w : Nat → Nat} {n out x R : Nat} (h : IsR w n out x R) : Rf w n out x = R := IsR_one (Classical.epsilon_spec (p := fun R => IsR w n out x R) ⟨R, h⟩) h
def WF (w : Nat → Nat) (n : Nat) : Prop := ∀ v, v < n → w v < 2 ^ n
theorem lt_of_t {a j n : Nat} (h : a < 2 ^ n) (t : a.testBit j = true) : j < n := by
  rcases Nat.lt_or_ge j n with q | q
  · exact q
  · rw [Nat.testBit_lt_two_pow (Nat.lt_of_lt_of_le h (Nat.pow_le_pow_right (by decide) q))] at t
    cases t
theorem IsR_lt {w : Nat → Nat} {n out x R : Nat} (hw : WF w n) (hx : x < n) (h : IsR w n out x R) : R < 2 ^ n := by
  have h1 : ∀ j, R.testBit j = true → j < n := h.2.2 (fun j => j < n) hx (fun v j hv _ ht _ => lt_of_t (hw v hv) ht)
  apply Nat.lt_pow_two_of_testBit
  intro i hi
  cases hq : R.testBit i with
  | false => rfl
  | true => exact absurd (h1 i hq) (by omega)
/-- y isn't reached from x without the places of out -/
def Sep (w : Nat → Nat) (n out x y : Nat) : Prop := ∃ T : Nat → Prop, T x ∧ clo w n out T ∧ ¬ T y
theorem Sep_iff {w : Nat → Nat} {n out x y R : Nat} (h : IsR w n out x R) : Sep w n out x y ↔ R.testBit y = false := by
  constructor
  · rintro ⟨T, h1, h2, h3⟩
    cases hq : R.testBit y with
    | false => rfl
    | true => exact absurd (h.2.2 T h1 h2 y hq) h3
  · intro q
    exact ⟨_, h.1, h.2.1, by rw [q]; simp⟩
end
section
/-! plain laws of the loops that seek what is reached; small laws for the walks -/
set_option maxRecDepth 100000
theorem nI_z {n : Nat} (h : n < 2 ^ 31) (e : nI n = 0) : n = 0 := by
  rcases Nat.eq_zero_or_pos n with q | q
  · exact q
  · exact absurd e (nI_ne0 q h)
theorem nI_nz {n : Nat} (h : ¬ nI n = 0) : n ≠ 0 := fun q => h (by rw [q]; rfl)
theorem nI_i {a b : Nat} (ha : a < 2 ^ 31) (hb : b < 2 ^ 31) (e : nI a = nI b) : a = b := (nI_eq ha hb).mp e
theorem nI_ni {a b : Nat} (e : ¬ nI a = nI b) : a ≠ b := fun q => e (by rw [q])
theorem nJ_le {a b : Nat} (ha : a < 2 ^ 31) (hb : b < 2 ^ 31) (e : nI a ≤ nI b) : a ≤ b := (nI_leI ha hb).mp e
theorem nJ_nle {a b : Nat} (ha : a < 2 ^ 31) (hb : b < 2 ^ 31) (e : ¬ nI a ≤ nI b) : b < a := by
  rcases Nat.lt_or_ge b a with q | q
  · exact q
  · exact absurd ((nI_leI ha hb).mpr q) e
theorem b01_f {b : Bool} (h : ¬ nI (b01 b) = nI 1) : b = false := by cases b with
  | false => rfl
  | true => exact absurd rfl h
theorem b01_t {b : Bool} (h : ¬ nI (b01 b) = 0) : b = true := by cases b with
  | true => rfl
  | false => exact absurd rfl h
theorem b01_n (b : Bool) : narrow .boolean (.int (nI (b01 b))) = .int (nI (b01 b)) := by cases b <;> rfl
theorem pow256 {n a : Nat} (hn : n ≤ 8) (h : a < 2 ^ n) : a < 256 := Nat.lt_of_lt_of_le h (Nat.pow_le_pow_right (by decide) hn)
theorem t2p (k j : Nat) : (2 ^ k).testBit j = decide (k = j) := Nat.testBit_two_pow
theorem or_lt {a b n : Nat} (ha : a < 2 ^ n) (hb : b < 2 ^ n) : a ||| b < 2 ^ n := Nat.or_lt_two_pow ha hb
theorem sub_le {a b : Nat} (h : ∀ j, a.testBit j = true → b.testBit j = true) : a ≤ b := Nat.le_of_testBit h
theorem p2_lt {k n : Nat} (h : k < n) : 2 ^ k < 2 ^ n := Nat.pow_lt_pow_right (by decide) h
theorem grow {A F : Nat} (hF : F ≠ 0) (hd : ∀ j, F.testBit j = true → A.testBit j = false) : A < A ||| F := by
  rcases Nat.lt_or_ge A (A ||| F) with q | q
  · exact q
  · have e : A ||| F = A := Nat.le_antisymm q Nat.left_le_or
    obtain ⟨j, hj⟩ := Nat.exists_testBit_of_ne_zero hF
    have h2 : (A ||| F).testBit j = true := by rw [Nat.testBit_or, hj]; simp
    rw [e, hd j hj] at h2
    cases h2
/-- numberOfTrailingZeros -/
theorem ntz_x : ∀ f, f < 256 → f ≠ 0 → (nI f ^^^ (-1)) &&& nI (f - 1) = nI (2 ^ tz f - 1) := by decide +kernel
theorem ntz_g : ∀ f, f < 256 → 2 ^ tz f - 1 < 128 := by decide +kernel
theorem ntz_0 : ∀ f, f < 256 → f ≠ 0 → ¬ 0 < nI (2 ^ tz f - 1) → nI ((2 ^ tz f - 1) &&& 32) = nI (tz f) := by decide +kernel
theorem ntz_1 : ∀ f, f < 256 → f ≠ 0 → 0 < nI (2 ^ tz f - 1) → nI (2 ^ tz f - 1) ≤ nI 16 → nI (2 ^ tz f - 1) ≤ nI 4 → nI (1 + (2 ^ tz f - 1) / 2 ^ 1) = nI (tz f) := by decide +kernel
theorem ntz_2 : ∀ f, f < 256 → f ≠ 0 → 0 < nI (2 ^ tz f - 1) → nI (2 ^ tz f - 1) ≤ nI 16 → ¬ nI (2 ^ tz f - 1) ≤ nI 4 → nI (3 + (2 ^ tz f - 1) / 2 ^ 2 / 2 ^ 1) = nI (tz f) := by decide +kernel
theorem ntz_3 : ∀ f, f < 256 → f ≠ 0 → 0 < nI (2 ^ tz f - 1) → ¬ nI (2 ^ tz f - 1) ≤ nI 16 → nI ((2 ^ tz f - 1) / 2 ^ 4) ≤ nI 4 → nI (5 + (2 ^ tz f - 1) / 2 ^ 4 / 2 ^ 1) = nI (tz f) := by decide +kernel
theorem ntz_4 : ∀ f, f < 256 → f ≠ 0 → 0 < nI (2 ^ tz f - 1) → ¬ nI (2 ^ tz f - 1) ≤ nI 16 → ¬ nI ((2 ^ tz f - 1) / 2 ^ 4) ≤ nI 4 → nI (7 + (2 ^ tz f - 1) / 2 ^ 4 / 2 ^ 2 / 2 ^ 1) = nI (tz f) := by decide +kernel
/-- Roads.reached: the outer loop's state -/
def RI (w : Nat → Nat) (n out x A F : Nat) : Prop := A.testBit x = true ∧ A < 2 ^ n ∧ (∀ j, F.testBit j = true → A.testBit j = true) ∧ (∀ v j, v < n → A.testBit v = true → F.testBit v = false → (w v).testBit j = true → out.testBit j = false → A.testBit j = true) ∧ ∀ T : Nat → Prop, T x → clo w n out T → ∀ j, A.testBit j = true → T j
theorem RI_0 {w : Nat → Nat} {n out x : Nat} (hx : x < n) : RI w n out x (2 ^ x) (2 ^ x) := by
  refine ⟨by rw [t2p]; simp, p2_lt hx, fun j h => h, fun v j hv h1 h2 => ?_, fun T h1 h2 j h3 => ?_⟩
  · rw [h1] at h2; cases h2
  · rw [t2p] at h3
    simp at h3
    rw [← h3]; exact h1
theorem RI_end {w : Nat → Nat} {n out x A : Nat} (h : RI w n out x A 0) : IsR w n out x A := ⟨h.1, fun v j hv h1 h2 h3 => h.2.2.2.1 v j hv h1 (by simp) h2 h3, h.2.2.2.2⟩
def RN (w : Nat → Nat) (F f Nx : Nat) : Prop := (∀ j, Nx.testBit j = true ↔ ∃ v, F.testBit v = true ∧ f.testBit v = false ∧ (w v).testBit j = true) ∧ ∀ j, f.testBit j = true → F.testBit j = true
theorem RN_0 (w : Nat → Nat) (F : Nat) : RN w F F 0 := ⟨fun j => ⟨fun h => by simp at h, fun ⟨v, h1, h2, _⟩ => by rw [h1] at h2; cases h2⟩, fun j h => h⟩
theorem RN_step {w : Nat → Nat} {F f Nx : Nat} (hf : f < 256) (h0 : f ≠ 0) (h : RN w F f Nx) : RN w F (f &&& (f - 1)) (Nx ||| w (tz f)) := by
  obtain ⟨h1, h2, h3, -⟩ := tz_ok f hf h0
  rw [h3]
  refine ⟨fun j => ?_, fun j hj => ?_⟩
  · rw [Nat.testBit_or, Bool.or_eq_true, h.1 j]
    constructor
    · rintro (⟨v, a, b, c⟩ | q)
      · exact ⟨v, a, by rw [bd_t, b]; rfl, c⟩
      · exact ⟨tz f, h.2 _ h1, by rw [bd_t, t2p]; simp, q⟩
    · rintro ⟨v, a, b, c⟩
      rw [bd_t, t2p] at b
      simp at b
      by_cases e : tz f = v
      · right; rw [e]; exact c
      · left
        refine ⟨v, a, ?_, c⟩
        cases hq : f.testBit v with
        | false => rfl
        | true => exact absurd (b hq) e
  · rw [bd_t] at hj
    simp at hj
    exact h.2 j hj.1
theorem RI_step {w : Nat → Nat} {n out x A F Nx L : Nat} (hw : WF w n) (hL : ∀ j, L.testBit j = (decide (j < n) && !out.testBit j)) (h : RI w n out x A F) (hN : RN w F 0 Nx) : RI w n out x (A ||| bd (Nx &&& L) A) (bd (Nx &&& L) A) := by
  obtain ⟨h1, h2, h3, h4, h5⟩ := h
  have hFn : ∀ v, F.testBit v = true → v < n := fun v q => lt_of_t h2 (h3 v q)
  refine ⟨by rw [Nat.testBit_or, h1]; rfl, ?_, fun j q => by rw [Nat.testBit_or, q]; simp, fun v j hv q1 q2 q3 q4 => ?_, fun T t1 t2 j q => ?_⟩
  · apply or_lt h2
    apply Nat.lt_pow_two_of_testBit
    intro i hi
    rw [bd_t, Nat.testBit_and, hL]
    have : ¬ i < n := by omega
    simp [this]
  · rw [Nat.testBit_or, q2, Bool.or_false] at q1
    rw [Nat.testBit_or]
    cases hq : F.testBit v with
    | false => rw [h4 v j hv q1 hq q3 q4]; rfl
    | true =>
      cases hA : A.testBit j with
      | true => rfl
      | false =>
        have e1 : Nx.testBit j = true := (hN.1 j).mpr ⟨v, hq, by simp, q3⟩
        have hj : j < n := lt_of_t (hw v hv) q3
        rw [bd_t, Nat.testBit_and, hL, e1, hA, q4]
        simp [hj]
  · rw [Nat.testBit_or, Bool.or_eq_true] at q
    rcases q with q | q
    · exact h5 T t1 t2 j q
    · rw [bd_t, Nat.testBit_and, hL] at q
      simp at q
      obtain ⟨v, a, -, c⟩ := (hN.1 j).mp q.1.1
      exact t2 v j (hFn v a) (h5 T t1 t2 v (h3 v a)) c q.1.2.2
def mu (n A F : Nat) : Nat := 2 * (2 ^ n - A) + (if F = 0 then 0 else 1)
theorem mu_lt {w : Nat → Nat} {n out x A F B : Nat} (hF : F ≠ 0) (h' : RI w n out x (A ||| bd B A) (bd B A)) : mu n (A ||| bd B A) (bd B A) < mu n A F := by
  unfold mu
  rw [if_neg hF]
  by_cases e : bd B A = 0
  · rw [e]; simp
  · have := grow (A := A) e (fun j q => by rw [bd_t] at q; simp at q; exact q.2)
    have := h'.2.1
    rw [if_neg e]; omega
/-- the Model's reach -/
def MI (w : Nat → Nat) (n out x S O m : Nat) : Prop := S.testBit x = true ∧ S < 2 ^ n ∧ (∀ j, O.testBit j = true → S.testBit j = true) ∧ (∀ v j, v < m → O.testBit v = true → (w v).testBit j = true → out.testBit j = false → S.testBit j = true) ∧ ∀ T : Nat → Prop, T x → clo w n out T → ∀ j, S.testBit j = true → T j
theorem MI_0 {w : Nat → Nat} {n out x : Nat} (hx : x < n) : MI w n out x (2 ^ x) 0 n := by
  refine ⟨by rw [t2p]; simp, p2_lt hx, fun j h => by simp at h, fun v j hv h1 => by simp at h1, fun T h1 h2 j h3 => ?_⟩
  rw [t2p] at h3
  simp at h3
  rw [← h3]; exact h1
theorem MI_end {w : Nat → Nat} {n out x S : Nat} (h : MI w n out x S S n) : IsR w n out x S := ⟨h.1, fun v j hv h1 h2 h3 => h.2.2.2.1 v j hv h1 h2 h3, h.2.2.2.2⟩
theorem MI_turn {w : Nat → Nat} {n out x S O : Nat} (h : MI w n out x S O n) : MI w n out x S S 0 := ⟨h.1, h.2.1, fun _ q => q, fun v j hv => absurd hv (Nat.not_lt_zero v), h.2.2.2.2⟩
theorem MI_no {w : Nat → Nat} {n out x S O v : Nat} (h : MI w n out x S O v) (hb : O.testBit v = false) : MI w n out x S O (v + 1) := by
  refine ⟨h.1, h.2.1, h.2.2.1, fun u j hu q1 q2 q3 => ?_, h.2.2.2.2⟩
  by_cases e : u = v
  · subst e; rw [hb] at q1; cases q1
  · exact h.2.2.2.1 u j (by omega) q1 q2 q3
theorem MI_yes {w : Nat → Nat} {n out x S O v : Nat} (hw : WF w n) (hv : v < n) (h : MI w n out x S O v) (hb : O.testBit v = true) : MI w n out x (S ||| bd (w v) out) O (v + 1) := by
  obtain ⟨h1, h2, h3, h4, h5⟩ := h
  refine ⟨by rw [Nat.testBit_or, h1]; rfl, or_lt h2 (Nat.lt_of_le_of_lt (bd_le _ _) (hw v hv)), fun j q => by rw [Nat.testBit_or, h3 j q]; rfl, fun u j hu q1 q2 q3 => ?_, fun T t1 t2 j q => ?_⟩
  · rw [Nat.testBit_or]
    by_cases e : u = v
    · subst e; rw [bd_t, q2, q3]; simp
    · rw [h4 u j (by omega) q1 q2 q3]; rfl
  · rw [Nat.testBit_or, Bool.or_eq_true] at q
    rcases q with q | q
    · exact h5 T t1 t2 j q
    · rw [bd_t] at q
      simp at q
      exact t2 v j hv (h5 T t1 t2 v (h3 v hb)) q.1 q.2
theorem MI_lt {w : Nat → Nat} {n out x S O m : Nat} (h : MI w n out x S O m) (hne : S ≠ O) : O < S := Nat.lt_of_le_of_ne (sub_le h.2.2.1) (fun e => hne e.symm)
end
section
set_option maxRecDepth 100000
set_option maxHeartbeats 4000000 in
set_option maxRecDepth 100000 in
theorem metJ0_numberOfTrailingZeros (l : Launch) (D : va_G) (cI cL : ClassId) (ws : va_W) (f : Nat) (hf : f < 256) (hf0 : f ≠ 0) : Met l yJ0_numberOfTrailingZeros (ws_ yJ0_numberOfTrailingZeros cJ0_numberOfTrailingZeros 2 (some .int)) ({ frames := 0, cells := 0, slots := 0, locals := 0 }) (RdP D cI cL ws [.int (nI f)]) (vp_Si (fun r : Int32 => r = nI (tz f))) 0 0 (fun _ => False) := by
  refine Met.ofW (cc := cJ0_numberOfTrailingZeros) (maxL := 2) (ret := (some .int)) (by decide) rfl ?_
  intro p e s m args below meth c s₁ B hml hv
  obtain ⟨rfl, hP, hC⟩ := hv
  have hx := B.exec
  have hb := B.bytes
  have hr := B.returns
  have hts := atoms_spec (ws := (ws_ yJ0_numberOfTrailingZeros cJ0_numberOfTrailingZeros 2 (some .int))) B.pre
  have hts : ∀ w ∈ lw_all, w.before _ s = true := fun w h => hts w (List.mem_cons_of_mem _ h)
  have hown : s.vm.findClass RJ0 = some m.cls := findClass_of_methodNamed B.named
  have hlocks := B.notSynchronized
  have hl := lv_entry ([.int (nI f)]) (n := 2) (Nat.le_of_ble_eq_true rfl)
  rw [lg_entry_eq]
  generalize (lg_sl ([.int (nI f)]) ++ List.replicate (2 - (lg_sl ([.int (nI f)])).length) Slot.unset).toArray = ls at hl ⊢
  have hl : lv_has ls 2 [(0, .int (nI f))] := hl
  have hg := ntz_g f hf
  refine lv_iload_n hx hb dJ0_numberOfTrailingZeros_0 rfl (lv_at hl 0 rfl) ?_
  refine lv_iconst (v := -1) hx hb dJ0_numberOfTrailingZeros_1 (by decide) ?_
  refine lv_ixor hx hb dJ0_numberOfTrailingZeros_2 ?_
  refine lv_iload_n hx hb dJ0_numberOfTrailingZeros_3 rfl (lv_at hl 0 rfl) ?_
  refine lv_iconst (v := nI 1) hx hb dJ0_numberOfTrailingZeros_4 (by decide) ?_
  refine lv_isub hx hb dJ0_numberOfTrailingZeros_5 (tp_ (z := nI (f - 1)) (pk_sub (by omega)) ?_)
  refine lv_iand hx hb dJ0_numberOfTrailingZeros_6 (tp_ (z := nI (2 ^ tz f - 1)) (ntz_x f hf hf0) ?_)
  refine lv_istore_n (lv' := [(0, .int (nI (2 ^ tz f - 1)))]) hx hb dJ0_numberOfTrailingZeros_7 rfl hl (by decide) rfl (fun ls hl => ?_)
  refine lv_iload_n hx hb dJ0_numberOfTrailingZeros_8 rfl (lv_at hl 0 rfl) ?_
  refine lv_if_gt (tgt := 17) hx hb dJ0_numberOfTrailingZeros_9 (by decide) (fun c_0 => ?_) (fun c_0 => ?_)
  · refine lv_iconst (v := nI 1) hx hb dJ0_numberOfTrailingZeros_17 (by decide) ?_
    refine lv_istore_n (lv' := [(1, .int (nI 1)), (0, .int (nI (2 ^ tz f - 1)))]) hx hb dJ0_numberOfTrailingZeros_18 rfl hl (by decide) rfl (fun ls hl => ?_)
    refine lv_iload_n hx hb dJ0_numberOfTrailingZeros_19 rfl (lv_at hl 1 rfl) ?_
    refine lv_ldcw (v := 65536) hx hb hown (hts _ q126) dJ0_numberOfTrailingZeros_20 ?_
    refine lv_icmp_le (tgt := 34) hx hb dJ0_numberOfTrailingZeros_23 (by decide) (fun c_1 => ?_) (fun c_1 => ?_)
    · refine lv_iload_n hx hb dJ0_numberOfTrailingZeros_34 rfl (lv_at hl 1 rfl) ?_
      refine lv_sipush (v := nI 256) hx hb dJ0_numberOfTrailingZeros_35 (by decide) ?_
      refine lv_icmp_le (tgt := 49) hx hb dJ0_numberOfTrailingZeros_38 (by decide) (fun c_2 => ?_) (fun c_2 => ?_)
      · refine lv_iload_n hx hb dJ0_numberOfTrailingZeros_49 rfl (lv_at hl 1 rfl) ?_
        refine lv_bipush (v := nI 16) hx hb dJ0_numberOfTrailingZeros_50 (by decide) ?_
        refine lv_icmp_le (tgt := 62) hx hb dJ0_numberOfTrailingZeros_52 (by decide) (fun c_3 => ?_) (fun c_3 => ?_)
        · refine lv_iload_n hx hb dJ0_numberOfTrailingZeros_62 rfl (lv_at hl 1 rfl) ?_
          refine lv_iconst (v := nI 4) hx hb dJ0_numberOfTrailingZeros_63 (by decide) ?_
          refine lv_icmp_le (tgt := 74) hx hb dJ0_numberOfTrailingZeros_64 (by decide) (fun c_4 => ?_) (fun c_4 => ?_)
          · refine lv_iload_n hx hb dJ0_numberOfTrailingZeros_74 rfl (lv_at hl 0 rfl) ?_
            refine lv_iload_n hx hb dJ0_numberOfTrailingZeros_75 rfl (lv_at hl 1 rfl) ?_
            refine lv_iconst (v := nI 1) hx hb dJ0_numberOfTrailingZeros_76 (by decide) ?_
            refine lv_iushr (v := nI ((2 ^ tz f - 1) / 2 ^ 1)) hx hb dJ0_numberOfTrailingZeros_77 (pk_ushrN (by omega) _ 1 (by decide)) ?_
            refine lv_iadd hx hb dJ0_numberOfTrailingZeros_78 (tp_ (z := nI (1 + (2 ^ tz f - 1) / 2 ^ 1)) (nI_add _ _) ?_)
            exact W.iret (v := nI (1 + (2 ^ tz f - 1) / 2 ^ 1)) hx hb hr (fun t ht hW => ⟨nI (1 + (2 ^ tz f - 1) / 2 ^ 1), rfl, ntz_1 f hf hf0 c_0 c_3 c_4, ht⟩) (fun q h => by cases h) dJ0_numberOfTrailingZeros_79
          · refine lv_iinc (v := nI (1 + 2)) (lv' := [(1, .int (nI (1 + 2))), (0, .int (nI (2 ^ tz f - 1)))]) hx hb dJ0_numberOfTrailingZeros_67 hl (k := 0) rfl (nI_add _ 2) (by decide) rfl (fun ls hl => ?_)
            refine lv_iload_n hx hb dJ0_numberOfTrailingZeros_70 rfl (lv_at hl 1 rfl) ?_
            refine lv_iconst (v := nI 2) hx hb dJ0_numberOfTrailingZeros_71 (by decide) ?_
            refine lv_iushr (v := nI ((2 ^ tz f - 1) / 2 ^ 2)) hx hb dJ0_numberOfTrailingZeros_72 (pk_ushrN (by omega) _ 2 (by decide)) ?_
            refine lv_istore_n (lv' := [(0, .int (nI ((2 ^ tz f - 1) / 2 ^ 2))), (1, .int (nI (1 + 2)))]) hx hb dJ0_numberOfTrailingZeros_73 rfl hl (by decide) rfl (fun ls hl => ?_)
            refine lv_iload_n hx hb dJ0_numberOfTrailingZeros_74 rfl (lv_at hl 1 rfl) ?_
            refine lv_iload_n hx hb dJ0_numberOfTrailingZeros_75 rfl (lv_at hl 0 rfl) ?_
            refine lv_iconst (v := nI 1) hx hb dJ0_numberOfTrailingZeros_76 (by decide) ?_
            refine lv_iushr (v := nI (((2 ^ tz f - 1) / 2 ^ 2) / 2 ^ 1)) hx hb dJ0_numberOfTrailingZeros_77 (pk_ushrN (by omega) _ 1 (by decide)) ?_
            refine lv_iadd hx hb dJ0_numberOfTrailingZeros_78 (tp_ (z := nI (1 + 2 + ((2 ^ tz f - 1) / 2 ^ 2) / 2 ^ 1)) (nI_add _ _) ?_)
            exact W.iret (v := nI (1 + 2 + ((2 ^ tz f - 1) / 2 ^ 2) / 2 ^ 1)) hx hb hr (fun t ht hW => ⟨nI (1 + 2 + ((2 ^ tz f - 1) / 2 ^ 2) / 2 ^ 1), rfl, ntz_2 f hf hf0 c_0 c_3 c_4, ht⟩) (fun q h => by cases h) dJ0_numberOfTrailingZeros_79
        · refine lv_iinc (v := nI (1 + 4)) (lv' := [(1, .int (nI (1 + 4))), (0, .int (nI (2 ^ tz f - 1)))]) hx hb dJ0_numberOfTrailingZeros_55 hl (k := 0) rfl (nI_add _ 4) (by decide) rfl (fun ls hl => ?_)
          refine lv_iload_n hx hb dJ0_numberOfTrailingZeros_58 rfl (lv_at hl 1 rfl) ?_
          refine lv_iconst (v := nI 4) hx hb dJ0_numberOfTrailingZeros_59 (by decide) ?_
          refine lv_iushr (v := nI ((2 ^ tz f - 1) / 2 ^ 4)) hx hb dJ0_numberOfTrailingZeros_60 (pk_ushrN (by omega) _ 4 (by decide)) ?_
          refine lv_istore_n (lv' := [(0, .int (nI ((2 ^ tz f - 1) / 2 ^ 4))), (1, .int (nI (1 + 4)))]) hx hb dJ0_numberOfTrailingZeros_61 rfl hl (by decide) rfl (fun ls hl => ?_)
          refine lv_iload_n hx hb dJ0_numberOfTrailingZeros_62 rfl (lv_at hl 0 rfl) ?_
          refine lv_iconst (v := nI 4) hx hb dJ0_numberOfTrailingZeros_63 (by decide) ?_
          refine lv_icmp_le (tgt := 74) hx hb dJ0_numberOfTrailingZeros_64 (by decide) (fun c_4 => ?_) (fun c_4 => ?_)
          · refine lv_iload_n hx hb dJ0_numberOfTrailingZeros_74 rfl (lv_at hl 1 rfl) ?_
            refine lv_iload_n hx hb dJ0_numberOfTrailingZeros_75 rfl (lv_at hl 0 rfl) ?_
            refine lv_iconst (v := nI 1) hx hb dJ0_numberOfTrailingZeros_76 (by decide) ?_
            refine lv_iushr (v := nI (((2 ^ tz f - 1) / 2 ^ 4) / 2 ^ 1)) hx hb dJ0_numberOfTrailingZeros_77 (pk_ushrN (by omega) _ 1 (by decide)) ?_
            refine lv_iadd hx hb dJ0_numberOfTrailingZeros_78 (tp_ (z := nI (1 + 4 + ((2 ^ tz f - 1) / 2 ^ 4) / 2 ^ 1)) (nI_add _ _) ?_)
            exact W.iret (v := nI (1 + 4 + ((2 ^ tz f - 1) / 2 ^ 4) / 2 ^ 1)) hx hb hr (fun t ht hW => ⟨nI (1 + 4 + ((2 ^ tz f - 1) / 2 ^ 4) / 2 ^ 1), rfl, ntz_3 f hf hf0 c_0 c_3 c_4, ht⟩) (fun q h => by cases h) dJ0_numberOfTrailingZeros_79
          · refine lv_iinc (v := nI (1 + 4 + 2)) (lv' := [(1, .int (nI (1 + 4 + 2))), (0, .int (nI ((2 ^ tz f - 1) / 2 ^ 4)))]) hx hb dJ0_numberOfTrailingZeros_67 hl (k := 1) rfl (nI_add _ 2) (by decide) rfl (fun ls hl => ?_)
            refine lv_iload_n hx hb dJ0_numberOfTrailingZeros_70 rfl (lv_at hl 1 rfl) ?_
            refine lv_iconst (v := nI 2) hx hb dJ0_numberOfTrailingZeros_71 (by decide) ?_
            refine lv_iushr (v := nI (((2 ^ tz f - 1) / 2 ^ 4) / 2 ^ 2)) hx hb dJ0_numberOfTrailingZeros_72 (pk_ushrN (by omega) _ 2 (by decide)) ?_
            refine lv_istore_n (lv' := [(0, .int (nI (((2 ^ tz f - 1) / 2 ^ 4) / 2 ^ 2))), (1, .int (nI (1 + 4 + 2)))]) hx hb dJ0_numberOfTrailingZeros_73 rfl hl (by decide) rfl (fun ls hl => ?_)
            refine lv_iload_n hx hb dJ0_numberOfTrailingZeros_74 rfl (lv_at hl 1 rfl) ?_
            refine lv_iload_n hx hb dJ0_numberOfTrailingZeros_75 rfl (lv_at hl 0 rfl) ?_
            refine lv_iconst (v := nI 1) hx hb dJ0_numberOfTrailingZeros_76 (by decide) ?_
            refine lv_iushr (v := nI ((((2 ^ tz f - 1) / 2 ^ 4) / 2 ^ 2) / 2 ^ 1)) hx hb dJ0_numberOfTrailingZeros_77 (pk_ushrN (by omega) _ 1 (by decide)) ?_
            refine lv_iadd hx hb dJ0_numberOfTrailingZeros_78 (tp_ (z := nI (1 + 4 + 2 + (((2 ^ tz f - 1) / 2 ^ 4) / 2 ^ 2) / 2 ^ 1)) (nI_add _ _) ?_)
            exact W.iret (v := nI (1 + 4 + 2 + (((2 ^ tz f - 1) / 2 ^ 4) / 2 ^ 2) / 2 ^ 1)) hx hb hr (fun t ht hW => ⟨nI (1 + 4 + 2 + (((2 ^ tz f - 1) / 2 ^ 4) / 2 ^ 2) / 2 ^ 1), rfl, ntz_4 f hf hf0 c_0 c_3 c_4, ht⟩) (fun q h => by cases h) dJ0_numberOfTrailingZeros_79
      · exact absurd (nI_le (by omega) (by decide)) c_2
    · exact absurd (show nI (2 ^ tz f - 1) ≤ nI 65536 from nI_le (by omega) (by decide)) c_1
  · refine lv_iload_n hx hb dJ0_numberOfTrailingZeros_12 rfl (lv_at hl 0 rfl) ?_
    refine lv_bipush (v := nI 32) hx hb dJ0_numberOfTrailingZeros_13 (by decide) ?_
    refine lv_iand hx hb dJ0_numberOfTrailingZeros_15 (tp_ (z := nI ((2 ^ tz f - 1) &&& 32)) (bn_and _ _) ?_)
    exact W.iret (v := nI ((2 ^ tz f - 1) &&& 32)) hx hb hr (fun t ht hW => ⟨nI ((2 ^ tz f - 1) &&& 32), rfl, ntz_0 f hf hf0 c_0, ht⟩) (fun q h => by cases h) dJ0_numberOfTrailingZeros_16
set_option maxHeartbeats 4000000 in
set_option maxRecDepth 100000 in
theorem metX1_place (l : Launch) (D : va_G) (cI cL : ClassId) (ws : va_W) (ad : Nat → Nat) (n : Nat) (h1 : ws[1]? = some (ad 1, .inr (1, [.ref (ad 2), .int (nI n)]))) (hn0 : 0 < n) (hn1 : n < 2 ^ 31) (a0 : Int32) : Met l yX1_place (ws_ yX1_place cX1_place 2 (some .int)) ({ frames := 0, cells := 0, slots := 0, locals := 0 }) (RdP D cI cL ws [.ref (ad 1), .int a0]) (vp_Si (fun r : Int32 => r = nI (plc a0 n))) 0 0 (fun _ => False) := by
  refine Met.ofW (cc := cX1_place) (maxL := 2) (ret := (some .int)) (by decide) rfl ?_
  intro p e s m args below meth c s₁ B hml hv
  obtain ⟨rfl, hP, hC⟩ := hv
  have hx := B.exec
  have hb := B.bytes
  have hr := B.returns
  have hts := atoms_spec (ws := (ws_ yX1_place cX1_place 2 (some .int))) B.pre
  have hts : ∀ w ∈ lw_all, w.before _ s = true := fun w h => hts w (List.mem_cons_of_mem _ h)
  have hown : s.vm.findClass RX1 = some m.cls := findClass_of_methodNamed B.named
  have hlocks := B.notSynchronized
  have hl := lv_entry ([.ref (ad 1), .int a0]) (n := 2) (Nat.le_of_ble_eq_true rfl)
  rw [lg_entry_eq]
  generalize (lg_sl ([.ref (ad 1), .int a0]) ++ List.replicate (2 - (lg_sl ([.ref (ad 1), .int a0])).length) Slot.unset).toArray = ls at hl ⊢
  have hl : lv_has ls 2 [(0, .ref (ad 1)), (1, .int a0)] := hl
  refine lv_iload_n hx hb dX1_place_0 rfl (lv_at hl 1 rfl) ?_
  refine lv_ldc (v := 2147483647) hx hb hown (hts _ q81) dX1_place_1 ?_
  refine lv_iand hx hb dX1_place_3 ?_
  refine lv_aload_n hx hb dX1_place_4 rfl (lv_at hl 0 rfl) ?_
  refine va_get (D := D) (ci := 1) (v := .int (nI n)) (C := RX1) (T := TX1) (N := 2) hx hb hts in_X1 hown hC.1 hP 1 h1 rfl 1 (by decide) (hts _ q27) (fun _ h9 => h9) rfl dX1_place_5 ?_
  refine lv_irem hx hb dX1_place_8 (nI_ne0 hn0 hn1) (tp_ (z := nI (plc a0 n)) (bn_plc a0 hn0 hn1) ?_)
  exact W.iret (v := nI (plc a0 n)) hx hb hr (fun t ht hW => ⟨nI (plc a0 n), rfl, rfl, ht⟩) (fun q h => by cases h) dX1_place_9
set_option maxHeartbeats 4000000 in
set_option maxRecDepth 100000 in
theorem metX1_has (l : Launch) (D : va_G) (cI cL : ClassId) (ws : va_W) (ad : Nat → Nat) (n : Nat) (w : Nat → Nat) (h1 : ws[1]? = some (ad 1, .inr (1, [.ref (ad 2), .int (nI n)]))) (h2 : ws[2]? = some (ad 2, .inl (cI, 8, .inl (fun j => nI (w j))))) (x y : Nat) (hx8 : x < 8) (hy : y < 31) (hwx : w x < 2 ^ 31) : Met l yX1_has (ws_ yX1_has cX1_has 3 (some .boolean)) ({ frames := 0, cells := 0, slots := 0, locals := 0 }) (RdP D cI cL ws [.ref (ad 1), .int (nI x), .int (nI y)]) (vp_Si (fun r : Int32 => r = nI (b01 ((w x).testBit y)))) 0 0 (fun _ => False) := by
  refine Met.ofW (cc := cX1_has) (maxL := 3) (ret := (some .boolean)) (by decide) rfl ?_
  intro p e s m args below meth c s₁ B hml hv
  obtain ⟨rfl, hP, hC⟩ := hv
  have hx := B.exec
  have hb := B.bytes
  have hr := B.returns
  have hts := atoms_spec (ws := (ws_ yX1_has cX1_has 3 (some .boolean))) B.pre
  have hts : ∀ w ∈ lw_all, w.before _ s = true := fun w h => hts w (List.mem_cons_of_mem _ h)
  have hown : s.vm.findClass RX1 = some m.cls := findClass_of_methodNamed B.named
  have hlocks := B.notSynchronized
  have hl := lv_entry ([.ref (ad 1), .int (nI x), .int (nI y)]) (n := 3) (Nat.le_of_ble_eq_true rfl)
  rw [lg_entry_eq]
  generalize (lg_sl ([.ref (ad 1), .int (nI x), .int (nI y)]) ++ List.replicate (3 - (lg_sl ([.ref (ad 1), .int (nI x), .int (nI y)])).length) Slot.unset).toArray = ls at hl ⊢
  have hl : lv_has ls 3 [(0, .ref (ad 1)), (1, .int (nI x)), (2, .int (nI y))] := hl
  refine lv_aload_n hx hb dX1_has_0 rfl (lv_at hl 0 rfl) ?_
  refine va_get (D := D) (ci := 1) (v := .ref (ad 2)) (C := RX1) (T := TX1) (N := 2) hx hb hts in_X1 hown hC.1 hP 1 h1 rfl 0 (by decide) (hts _ q25) (fun _ h9 => h9) rfl dX1_has_1 ?_
  refine lv_iload_n hx hb dX1_has_4 rfl (lv_at hl 1 rfl) ?_
  refine th_iald hx hb hC hP 2 h2 (k := x) (by omega) (by decide) dX1_has_5 ?_
  refine lv_iload_n hx hb dX1_has_6 rfl (lv_at hl 2 rfl) ?_
  refine lv_ishr hx hb dX1_has_7 ?_
  refine lv_iconst (v := nI 1) hx hb dX1_has_8 (by decide) ?_
  refine lv_iand hx hb dX1_has_9 (tp_ (z := nI (b01 (Nat.testBit (w x) y))) (bn_bit (by first | assumption | omega) (by omega)) ?_)
  refine lv_iconst (v := nI 1) hx hb dX1_has_10 (by decide) ?_
  refine lv_icmp_ne (tgt := 18) hx hb dX1_has_11 (by decide) (fun c_1 => ?_) (fun c_1 => ?_)
  · refine lv_iconst (v := nI 0) hx hb dX1_has_18 (by decide) ?_
    exact W.zret (v := nI 0) hx hb hr rfl (fun t ht hW => ⟨nI 0, rfl, by rw [b01_f c_1]; rfl, ht⟩) (fun q h => by cases h) dX1_has_19
  · refine lv_iconst (v := nI 1) hx hb dX1_has_14 (by decide) ?_
    refine lv_goto (tgt := 19) hx hb dX1_has_15 (by decide) ?_
    exact W.zret (v := nI 1) hx hb hr rfl (fun t ht hW => ⟨nI 1, rfl, c_1.symm, ht⟩) (fun q h => by cases h) dX1_has_19
set_option maxHeartbeats 4000000 in
set_option maxRecDepth 100000 in
theorem metX1_reached (l : Launch) (D : va_G) (cI cL : ClassId) (ws : va_W) (ad : Nat → Nat) (n : Nat) (w : Nat → Nat) (h1 : ws[1]? = some (ad 1, .inr (1, [.ref (ad 2), .int (nI n)]))) (h2 : ws[2]? = some (ad 2, .inl (cI, 8, .inl (fun j => nI (w j))))) (x L out : Nat) (hn8 : n ≤ 8) (hxn : x < n) (hw : WF w n) (hL : ∀ j, L.testBit j = (decide (j < n) && !out.testBit j)) : Met l yX1_reached (ws_ yX1_reached cX1_reached 7 (some .int)) ({ frames := 1, cells := 0, slots := 0, locals := 21 }) (RdP D cI cL ws [.ref (ad 1), .int (nI x), .int (nI L)]) (vp_Si (fun r : Int32 => r = nI (Rf w n out x) ∧ IsR w n out x (Rf w n out x))) 0 0 (fun _ => False) := by
  refine Met.ofW (cc := cX1_reached) (maxL := 7) (ret := (some .int)) (by decide) rfl ?_
  intro p e s m args below meth c s₁ B hml hv
  obtain ⟨rfl, hP, hC⟩ := hv
  have hx := B.exec
  have hb := B.bytes
  have hr := B.returns
  have hts := atoms_spec (ws := (ws_ yX1_reached cX1_reached 7 (some .int))) B.pre
  have hts : ∀ w ∈ lw_all, w.before _ s = true := fun w h => hts w (List.mem_cons_of_mem _ h)
  have hown : s.vm.findClass RX1 = some m.cls := findClass_of_methodNamed B.named
  have hlocks := B.notSynchronized
  have hl := lv_entry ([.ref (ad 1), .int (nI x), .int (nI L)]) (n := 7) (Nat.le_of_ble_eq_true rfl)
  rw [lg_entry_eq]
  generalize (lg_sl ([.ref (ad 1), .int (nI x), .int (nI L)]) ++ List.replicate (7 - (lg_sl ([.ref (ad 1), .int (nI x), .int (nI L)])).length) Slot.unset).toArray = ls at hl ⊢
  have hl : lv_has ls 7 [(0, .ref (ad 1)), (1, .int (nI x)), (2, .int (nI L))] := hl
  refine lv_iconst (v := nI 1) hx hb dX1_reached_0 (by decide) ?_
  refine lv_iload_n hx hb dX1_reached_1 rfl (lv_at hl 1 rfl) ?_
  refine lv_ishl hx hb dX1_reached_2 (tp_ (z := nI (2 ^ x)) (bn_shl (by omega)) ?_)
  refine lv_istore_n (lv' := [(3, .int (nI (2 ^ x))), (0, .ref (ad 1)), (1, .int (nI x)), (2, .int (nI L))]) hx hb dX1_reached_3 rfl hl (by decide) rfl (fun ls hl => ?_)
  refine lv_iload_n hx hb dX1_reached_4 rfl (lv_at hl 0 rfl) ?_
  refine lv_istore (lv' := [(4, .int (nI (2 ^ x))), (3, .int (nI (2 ^ x))), (0, .ref (ad 1)), (1, .int (nI x)), (2, .int (nI L))]) hx hb dX1_reached_5 hl (by decide) rfl (fun ls hl => ?_)
  have outer : ∀ (k A F : Nat) (ls : Array Slot), mu n A F < k → RI w n out x A F → lv_has ls 7 [(0, .ref (ad 1)), (1, .int (nI x)), (2, .int (nI L)), (3, .int (nI A)), (4, .int (nI F))] → W p l e (headSpec (ws_ yX1_reached cX1_reached 7 (some .int)) ({ frames := 1, cells := 0, slots := 0, locals := 21 })).room s m ([.ref (ad 1), .int (nI x), .int (nI L)] : List Value).toArray below meth c s.heap [] 0 0 (MQ below (vp_Si (fun r : Int32 => r = nI (Rf w n out x) ∧ IsR w n out x (Rf w n out x))) ([.ref (ad 1), .int (nI x), .int (nI L)] : List Value).toArray s 0 0 (fun _ => False)) (F0 m 7 ls []) := by
    intro k
    induction k with
    | zero => intro A F ls h; omega
    | succ k ih =>
      intro A F ls hmu hI hl
      have hA := pow256 hn8 hI.2.1
      have hFA : F ≤ A := sub_le hI.2.2.1
      refine lv_iload hx hb dX1_reached_7 (lv_at hl 4 rfl) ?_
      refine lv_if_eq (tgt := 69) hx hb dX1_reached_9 (by decide) (fun c_1 => ?_) (fun c_1 => ?_)
      · have e0 : F = 0 := nI_z (by omega) c_1
        subst e0
        refine lv_iload_n hx hb dX1_reached_69 rfl (lv_at hl 3 rfl) ?_
        exact W.iret (v := nI A) hx hb hr (fun t ht hW => ⟨nI A, rfl, by rw [Rf_eq (RI_end hI)]; exact ⟨rfl, RI_end hI⟩, ht⟩) (fun q h => by cases h) dX1_reached_70
      · have hF0 := nI_nz c_1
        refine lv_iconst (v := nI 0) hx hb dX1_reached_12 (by decide) ?_
        refine lv_istore (lv' := [(5, .int (nI 0)), (0, .ref (ad 1)), (1, .int (nI x)), (2, .int (nI L)), (3, .int (nI A)), (4, .int (nI F))]) hx hb dX1_reached_13 hl (by decide) rfl (fun ls hl => ?_)
        refine lv_iload hx hb dX1_reached_15 (lv_at hl 5 rfl) ?_
        refine lv_istore (lv' := [(6, .int (nI F)), (5, .int (nI 0)), (0, .ref (ad 1)), (1, .int (nI x)), (2, .int (nI L)), (3, .int (nI A)), (4, .int (nI F))]) hx hb dX1_reached_17 hl (by decide) rfl (fun ls hl => ?_)
        have inner : ∀ (k2 f Nx : Nat) (ls : Array Slot), f < k2 → RN w F f Nx → lv_has ls 7 [(0, .ref (ad 1)), (1, .int (nI x)), (2, .int (nI L)), (3, .int (nI A)), (4, .int (nI F)), (5, .int (nI Nx)), (6, .int (nI f))] → W p l e (headSpec (ws_ yX1_reached cX1_reached 7 (some .int)) ({ frames := 1, cells := 0, slots := 0, locals := 21 })).room s m ([.ref (ad 1), .int (nI x), .int (nI L)] : List Value).toArray below meth c s.heap [] 0 0 (MQ below (vp_Si (fun r : Int32 => r = nI (Rf w n out x) ∧ IsR w n out x (Rf w n out x))) ([.ref (ad 1), .int (nI x), .int (nI L)] : List Value).toArray s 0 0 (fun _ => False)) (F0 m 19 ls []) := by
          intro k2
          induction k2 with
          | zero => intro f Nx ls h; omega
          | succ k2 ih2 =>
            intro f Nx ls hk2 hN hl
            have hfF : f ≤ F := sub_le hN.2
            refine lv_iload hx hb dX1_reached_19 (lv_at hl 6 rfl) ?_
            refine lv_if_eq (tgt := 51) hx hb dX1_reached_21 (by decide) (fun c_2 => ?_) (fun c_2 => ?_)
            · have e0 : f = 0 := nI_z (by omega) c_2
              rw [e0] at hN
              have hI2 := RI_step hw hL hI hN
              refine lv_iload hx hb dX1_reached_51 (lv_at hl 5 rfl) ?_
              refine lv_iload_n hx hb dX1_reached_53 rfl (lv_at hl 2 rfl) ?_
              refine lv_iand hx hb dX1_reached_54 (tp_ (z := nI (Nx &&& L)) (bn_and _ _) ?_)
              refine lv_iload_n hx hb dX1_reached_55 rfl (lv_at hl 3 rfl) ?_
              refine lv_iconst (v := -1) hx hb dX1_reached_56 (by decide) ?_
              refine lv_ixor hx hb dX1_reached_57 ?_
              refine lv_iand hx hb dX1_reached_58 (tp_ (z := nI (bd (Nx &&& L) A)) (bn_andn _ _) ?_)
              refine lv_istore (lv' := [(4, .int (nI (bd (Nx &&& L) A))), (0, .ref (ad 1)), (1, .int (nI x)), (2, .int (nI L)), (3, .int (nI A)), (5, .int (nI Nx)), (6, .int (nI f))]) hx hb dX1_reached_59 hl (by decide) rfl (fun ls hl => ?_)
              refine lv_iload_n hx hb dX1_reached_61 rfl (lv_at hl 4 rfl) ?_
              refine lv_iload hx hb dX1_reached_62 (lv_at hl 0 rfl) ?_
              refine lv_ior hx hb dX1_reached_64 (tp_ (z := nI (A ||| (bd (Nx &&& L) A))) (bn_or _ _) ?_)
              refine lv_istore_n (lv' := [(3, .int (nI (A ||| (bd (Nx &&& L) A)))), (4, .int (nI (bd (Nx &&& L) A))), (0, .ref (ad 1)), (1, .int (nI x)), (2, .int (nI L)), (5, .int (nI Nx)), (6, .int (nI f))]) hx hb dX1_reached_65 rfl hl (by decide) rfl (fun ls hl => ?_)
              refine lv_goto (tgt := 7) hx hb dX1_reached_66 (by decide) ?_
              exact ih _ _ ls (by have := mu_lt hF0 hI2; omega) hI2 (lv_sub hl [2, 3, 4, 0, 1] rfl)
            · have hf0 := nI_nz c_2
              obtain ⟨-, ht8, -, hflt⟩ := tz_ok f (by omega) hf0
              refine lv_iload hx hb dX1_reached_24 (lv_at hl 5 rfl) ?_
              refine lv_aload_n hx hb dX1_reached_26 rfl (lv_at hl 0 rfl) ?_
              refine va_get (D := D) (ci := 1) (v := .ref (ad 2)) (C := RX1) (T := TX1) (N := 2) hx hb hts in_X1 hown hC.1 hP 1 h1 rfl 0 (by decide) (hts _ q25) (fun _ h9 => h9) rfl dX1_reached_27 ?_
              refine lv_iload hx hb dX1_reached_30 (lv_at hl 6 rfl) ?_
              refine rdS (As := [.int (nI f)]) (rest := [.ref (ad 2), .int (nI Nx)]) ⟨hx, hb, hml, hown, hts⟩ (metJ0_numberOfTrailingZeros l D cI cL ws f (by omega) hf0) (va_cwS 1 hts (lw_S q123 q124 q10 q125) rfl rfl rfl (by decide +kernel) ⟨Nat.le_of_ble_eq_true rfl, Nat.le_of_ble_eq_true rfl⟩) hC hP rfl rfl hl.1 (Nat.le_of_ble_eq_true rfl) dX1_reached_32 ⟨Nat.zero_le _, Nat.zero_le _⟩ (fun r1 hr1 => ?_)
              subst hr1
              refine th_iald hx hb hC hP 2 h2 (k := (tz f)) (by omega) (by decide) dX1_reached_35 ?_
              refine lv_ior hx hb dX1_reached_36 (tp_ (z := nI (Nx ||| (w (tz f)))) (bn_or _ _) ?_)
              refine lv_istore (lv' := [(5, .int (nI (Nx ||| (w (tz f))))), (0, .ref (ad 1)), (1, .int (nI x)), (2, .int (nI L)), (3, .int (nI A)), (4, .int (nI F)), (6, .int (nI f))]) hx hb dX1_reached_37 hl (by decide) rfl (fun ls hl => ?_)
              refine lv_iload hx hb dX1_reached_39 (lv_at hl 6 rfl) ?_
              refine lv_iload hx hb dX1_reached_41 (lv_at hl 6 rfl) ?_
              refine lv_iconst (v := nI 1) hx hb dX1_reached_43 (by decide) ?_
              refine lv_isub hx hb dX1_reached_44 (tp_ (z := nI (f - 1)) (pk_sub (by omega)) ?_)
              refine lv_iand hx hb dX1_reached_45 (tp_ (z := nI (f &&& (f - 1))) (bn_and _ _) ?_)
              refine lv_istore (lv' := [(6, .int (nI (f &&& (f - 1)))), (5, .int (nI (Nx ||| (w (tz f))))), (0, .ref (ad 1)), (1, .int (nI x)), (2, .int (nI L)), (3, .int (nI A)), (4, .int (nI F))]) hx hb dX1_reached_46 hl (by decide) rfl (fun ls hl => ?_)
              refine lv_goto (tgt := 19) hx hb dX1_reached_48 (by decide) ?_
              exact ih2 _ _ ls (by omega) (RN_step (by omega) hf0 hN) (lv_sub hl [2, 3, 4, 5, 6, 1, 0] rfl)
        exact inner (F + 1) F 0 ls (by omega) (RN_0 w F) (lv_sub hl [2, 3, 4, 5, 6, 1, 0] rfl)
  exact outer _ _ _ ls (Nat.lt_succ_self _) (RI_0 hxn) (lv_sub hl [2, 3, 4, 1, 0] rfl)
end
section
/-! plain laws: cuts, gates, rings -/
set_option maxRecDepth 100000
/-- a set of places without which y isn't reached from x -/
def OKs (w : Nat → Nat) (n x y s : Nat) : Prop := s < 2 ^ n ∧ s.testBit x = false ∧ s.testBit y = false ∧ Sep w n s x y
def Best (w : Nat → Nat) (n x y k : Nat) : Prop := (∀ t, OKs w n x y t → k ≤ pop t) ∧ ∃ t, OKs w n x y t ∧ pop t = k
def BI (w : Nat → Nat) (n x y k s : Nat) : Prop := k ≤ 99 ∧ (∀ t, t < s → OKs w n x y t → k ≤ pop t) ∧ (k = 99 ∨ ∃ t, OKs w n x y t ∧ pop t = k)
theorem BI_0 (w : Nat → Nat) (n x y : Nat) : BI w n x y 99 0 := ⟨Nat.le_refl _, fun t h => absurd h (Nat.not_lt_zero t), Or.inl rfl⟩
theorem BI_no {w : Nat → Nat} {n x y k s : Nat} (h : BI w n x y k s) (hn : OKs w n x y s → k ≤ pop s) : BI w n x y k (s + 1) := by
  refine ⟨h.1, fun t ht ho => ?_, h.2.2⟩
  by_cases e : t = s
  · subst e; exact hn ho
  · exact h.2.1 t (by omega) ho
theorem BI_yes {w : Nat → Nat} {n x y k s : Nat} (h : BI w n x y k s) (ho : OKs w n x y s) (hk : pop s < k) : BI w n x y (pop s) (s + 1) := by
  refine ⟨by have := h.1; omega, fun t ht ho => ?_, Or.inr ⟨s, ho, rfl⟩⟩
  by_cases e : t = s
  · subst e; exact Nat.le_refl _
  · exact Nat.le_of_lt (Nat.lt_of_lt_of_le hk (h.2.1 t (by omega) ho))
/-- all places but x and y -/
def oth (n x y : Nat) : Nat := bd (bd (2 ^ n - 1) (2 ^ x)) (2 ^ y)
theorem oth_t (n x y j : Nat) : (oth n x y).testBit j = ((decide (j < n) && !decide (x = j)) && !decide (y = j)) := by
  unfold oth
  rw [bd_t, bd_t, t2p, t2p, Nat.testBit_two_pow_sub_one]
theorem oth_ok {w : Nat → Nat} {n x y : Nat} (hw : WF w n) (hx : x < n) (hne : x ≠ y) (hr : (w x).testBit y = false) : OKs w n x y (oth n x y) := by
  refine ⟨?_, by rw [oth_t]; simp, by rw [oth_t]; simp, fun j => j = x, rfl, fun v j hv h1 h2 h3 => ?_, fun q => hne q.symm⟩
  · apply Nat.lt_pow_two_of_testBit
    intro i hi
    rw [oth_t]
    have : ¬ i < n := by omega
    simp [this]
  · subst h1
    have hj := lt_of_t (hw v hv) h2
    rw [oth_t] at h3
    simp [hj] at h3
    rcases Classical.em (v = j) with q | q
    · exact q.symm
    · have := h3 q
      subst this
      rw [hr] at h2; cases h2
theorem BI_end {w : Nat → Nat} {n x y k : Nat} (hw : WF w n) (hx : x < n) (hne : x ≠ y) (hr : (w x).testBit y = false) (h : BI w n x y k (2 ^ n)) : Best w n x y k := by
  have hlow : ∀ t, OKs w n x y t → k ≤ pop t := fun t ho => h.2.1 t ho.1 ho
  refine ⟨hlow, ?_⟩
  rcases h.2.2 with q | q
  · have := hlow _ (oth_ok hw hx hne hr)
    have := pop_8 (oth n x y)
    omega
  · exact q
theorem Best_le {w : Nat → Nat} {n x y k : Nat} (h : Best w n x y k) : k ≤ 8 := by
  obtain ⟨t, -, e⟩ := h.2
  rw [← e]; exact pop_8 t
theorem Best_one {w : Nat → Nat} {n x y k k' : Nat} (h : Best w n x y k) (h' : Best w n x y k') : k = k' := by
  obtain ⟨t, h1, h2⟩ := h.2
  obtain ⟨t', h1', h2'⟩ := h'.2
  have := h.1 t' h1'
  have := h'.1 t h1
  omega
/-- the least set of the fewest places -/
def Fst (w : Nat → Nat) (n x y s : Nat) : Prop := OKs w n x y s ∧ Best w n x y (pop s) ∧ ∀ t, OKs w n x y t → pop t = pop s → s ≤ t
theorem Fst_one {w : Nat → Nat} {n x y s s' : Nat} (h : Fst w n x y s) (h' : Fst w n x y s') : s = s' := by
  have e : pop s = pop s' := Best_one h.2.1 h'.2.1
  exact Nat.le_antisymm (h.2.2 s' h'.1 e.symm) (h'.2.2 s h.1 e)
def FI1 (w : Nat → Nat) (n x y k s : Nat) : Prop := ∀ t, t < s → OKs w n x y t → pop t ≠ k
theorem FI1_no {w : Nat → Nat} {n x y k s : Nat} (h : FI1 w n x y k s) (hn : OKs w n x y s → pop s ≠ k) : FI1 w n x y k (s + 1) := by
  intro t ht ho
  by_cases e : t = s
  · subst e; exact hn ho
  · exact h t (by omega) ho
theorem FI1_yes {w : Nat → Nat} {n x y k s : Nat} (hB : Best w n x y k) (h : FI1 w n x y k s) (ho : OKs w n x y s) (hk : pop s = k) : Fst w n x y s := by
  refine ⟨ho, by rw [hk]; exact hB, fun t ht hp => ?_⟩
  rcases Nat.lt_or_ge t s with q | q
  · exact absurd (hp.trans hk) (h t q ht)
  · exact q
theorem FI1_end {w : Nat → Nat} {n x y k : Nat} (hB : Best w n x y k) (h : FI1 w n x y k (2 ^ n)) : False := by
  obtain ⟨t, h1, h2⟩ := hB.2
  exact h t h1.1 h1 h2
/-- gates -/
noncomputable def gat (w : Nat → Nat) (n x y : Nat) : Nat → Nat
  | 0 => 0
  | v + 1 => if v ≠ x ∧ v ≠ y ∧ (Rf w n (2 ^ v) x).testBit y = false then gat w n x y v ||| 2 ^ v else gat w n x y v
theorem gat_yes {w : Nat → Nat} {n x y v : Nat} (h1 : v ≠ x) (h2 : v ≠ y) (h3 : (Rf w n (2 ^ v) x).testBit y = false) : gat w n x y (v + 1) = gat w n x y v ||| 2 ^ v := by
  show (if _ then _ else _) = _
  rw [if_pos ⟨h1, h2, h3⟩]
theorem gat_no {w : Nat → Nat} {n x y v : Nat} (h : ¬ (v ≠ x ∧ v ≠ y ∧ (Rf w n (2 ^ v) x).testBit y = false)) : gat w n x y (v + 1) = gat w n x y v := by
  show (if _ then _ else _) = _
  rw [if_neg h]
/-- rings -/
noncomputable def rin (w : Nat → Nat) (n v r d : Nat) : Nat → Nat
  | 0 => d
  | u + 1 => if r.testBit u = true ∧ (Rf w n 0 u).testBit v = true then rin w n v r d u ||| 2 ^ u else rin w n v r d u
theorem rin_yes {w : Nat → Nat} {n v r d u : Nat} (h1 : r.testBit u = true) (h2 : (Rf w n 0 u).testBit v = true) : rin w n v r d (u + 1) = rin w n v r d u ||| 2 ^ u := by
  show (if _ then _ else _) = _
  rw [if_pos ⟨h1, h2⟩]
theorem rin_no {w : Nat → Nat} {n v r d u : Nat} (h : ¬ (r.testBit u = true ∧ (Rf w n 0 u).testBit v = true)) : rin w n v r d (u + 1) = rin w n v r d u := by
  show (if _ then _ else _) = _
  rw [if_neg h]
theorem rin_lt {w : Nat → Nat} {n v r d : Nat} (hd : d < 2 ^ n) : ∀ u, u ≤ n → rin w n v r d u < 2 ^ n
  | 0, _ => hd
  | u + 1, h => by
    have ih := rin_lt (w := w) (v := v) (r := r) hd u (by omega)
    by_cases q : r.testBit u = true ∧ (Rf w n 0 u).testBit v = true
    · rw [rin_yes q.1 q.2]; exact or_lt ih (p2_lt (by omega))
    · rw [rin_no q]; exact ih
noncomputable def rct (w : Nat → Nat) (n : Nat) : Nat → Nat × Nat
  | 0 => (0, 0)
  | v + 1 => if (rct w n v).2.testBit v = true then rct w n v else ((rct w n v).1 + 1, rin w n v (Rf w n 0 v) (rct w n v).2 n)
theorem rct_no {w : Nat → Nat} {n v : Nat} (h : (rct w n v).2.testBit v = true) : rct w n (v + 1) = rct w n v := by
  show (if _ then _ else _) = _
  rw [if_pos h]
theorem rct_yes {w : Nat → Nat} {n v : Nat} (h : (rct w n v).2.testBit v = false) : rct w n (v + 1) = ((rct w n v).1 + 1, rin w n v (Rf w n 0 v) (rct w n v).2 n) := by
  show (if _ then _ else _) = _
  rw [if_neg (by rw [h]; simp)]
theorem rct_lt (w : Nat → Nat) (n : Nat) : ∀ v, (rct w n v).2 < 2 ^ n
  | 0 => Nat.two_pow_pos n
  | v + 1 => by
    have ih := rct_lt w n v
    cases q : (rct w n v).2.testBit v with
    | true => rw [rct_no q]; exact ih
    | false => rw [rct_yes q]; exact rin_lt ih n (Nat.le_refl _)
theorem p2_256 {n : Nat} (h : n ≤ 8) : 2 ^ n ≤ 256 := Nat.pow_le_pow_right (by decide) h
theorem bit01 {R y : Nat} (h : nI (b01 (Nat.testBit R y)) = 0) : R.testBit y = false := b01_0.mp h
theorem all_t {n : Nat} : ∀ j, (2 ^ n - 1).testBit j = (decide (j < n) && !(0 : Nat).testBit j) := fun j => by rw [Nat.testBit_two_pow_sub_one]; simp
theorem allx_t {n k : Nat} : ∀ j, (bd (2 ^ n - 1) (2 ^ k)).testBit j = (decide (j < n) && !(2 ^ k).testBit j) := fun j => by rw [bd_t, Nat.testBit_two_pow_sub_one]
end
section
set_option maxRecDepth 100000
/-- what 'cut' answers -/
def CutP (w : Nat → Nat) (n x y : Nat) (r : Int32) : Prop := ((x = y ∨ (w x).testBit y = true) ∧ r = -1) ∨ ((x ≠ y ∧ (w x).testBit y = false) ∧ ∃ k, r = nI k ∧ Best w n x y k)
/-- what 'first' answers -/
def FstP (w : Nat → Nat) (n x y : Nat) (r : Int32) : Prop := ((x = y ∨ (w x).testBit y = true) ∧ r = -1) ∨ ((x ≠ y ∧ (w x).testBit y = false) ∧ ∃ k, r = nI k ∧ Fst w n x y k)
set_option maxHeartbeats 4000000 in
set_option maxRecDepth 100000 in
theorem metX3_at (l : Launch) (D : va_G) (cI cL : ClassId) (ws : va_W) (ad : Nat → Nat) (n : Nat) (w : Nat → Nat) (h23 : ws[23]? = some (ad 23, .inr (3, [.ref (ad 24), .int (nI n)]))) (h24 : ws[24]? = some (ad 24, .inl (cI, 8, .inl (fun j => nI (w j))))) (hn0 : 0 < n) (hn1 : n < 2 ^ 31) (a0 : Int32) : Met l yX3_at (ws_ yX3_at cX3_at 2 (some .int)) ({ frames := 0, cells := 0, slots := 0, locals := 0 }) (RdP D cI cL ws [.ref (ad 23), .int a0]) (vp_Si (fun r : Int32 => r = nI (plc a0 n))) 0 0 (fun _ => False) := by
  refine Met.ofW (cc := cX3_at) (maxL := 2) (ret := (some .int)) (by decide) rfl ?_
  intro p e s m args below meth c s₁ B hml hv
  obtain ⟨rfl, hP, hC⟩ := hv
  have hx := B.exec
  have hb := B.bytes
  have hr := B.returns
  have hts := atoms_spec (ws := (ws_ yX3_at cX3_at 2 (some .int))) B.pre
  have hts : ∀ w ∈ lw_all, w.before _ s = true := fun w h => hts w (List.mem_cons_of_mem _ h)
  have hown : s.vm.findClass RX3 = some m.cls := findClass_of_methodNamed B.named
  have hlocks := B.notSynchronized
  have hl := lv_entry ([.ref (ad 23), .int a0]) (n := 2) (Nat.le_of_ble_eq_true rfl)
  rw [lg_entry_eq]
  generalize (lg_sl ([.ref (ad 23), .int a0]) ++ List.replicate (2 - (lg_sl ([.ref (ad 23), .int a0])).length) Slot.unset).toArray = ls at hl ⊢
  have hl : lv_has ls 2 [(0, .ref (ad 23)), (1, .int a0)] := hl
  refine lv_iload_n hx hb dX3_at_0 rfl (lv_at hl 1 rfl) ?_
  refine lv_ldc (v := 2147483647) hx hb hown (hts _ q152) dX3_at_1 ?_
  refine lv_iand hx hb dX3_at_3 ?_
  refine lv_aload_n hx hb dX3_at_4 rfl (lv_at hl 0 rfl) ?_
  refine va_get (D := D) (ci := 3) (v := .int (nI n)) (C := RX3) (T := TX3) (N := 2) hx hb hts in_X3 hown hC.1 hP 23 h23 rfl 1 (by decide) (hts _ q142) (fun _ h9 => h9) rfl dX3_at_5 ?_
  refine lv_irem hx hb dX3_at_8 (nI_ne0 hn0 hn1) (tp_ (z := nI (plc a0 n)) (bn_plc a0 hn0 hn1) ?_)
  exact W.iret (v := nI (plc a0 n)) hx hb hr (fun t ht hW => ⟨nI (plc a0 n), rfl, rfl, ht⟩) (fun q h => by cases h) dX3_at_9
set_option maxHeartbeats 4000000 in
set_option maxRecDepth 100000 in
theorem metX3_count (l : Launch) (D : va_G) (cI cL : ClassId) (ws : va_W) (x0 : Nat) (hx256 : x0 < 256) : Met l yX3_count (ws_ yX3_count cX3_count 3 (some .int)) ({ frames := 0, cells := 0, slots := 0, locals := 0 }) (RdP D cI cL ws [.int (nI x0)]) (vp_Si (fun r : Int32 => r = nI (pop x0))) 0 0 (fun _ => False) := by
  refine Met.ofW (cc := cX3_count) (maxL := 3) (ret := (some .int)) (by decide) rfl ?_
  intro p e s m args below meth c s₁ B hml hv
  obtain ⟨rfl, hP, hC⟩ := hv
  have hx := B.exec
  have hb := B.bytes
  have hr := B.returns
  have hts := atoms_spec (ws := (ws_ yX3_count cX3_count 3 (some .int))) B.pre
  have hts : ∀ w ∈ lw_all, w.before _ s = true := fun w h => hts w (List.mem_cons_of_mem _ h)
  have hown : s.vm.findClass RX3 = some m.cls := findClass_of_methodNamed B.named
  have hlocks := B.notSynchronized
  have hl := lv_entry ([.int (nI x0)]) (n := 3) (Nat.le_of_ble_eq_true rfl)
  rw [lg_entry_eq]
  generalize (lg_sl ([.int (nI x0)]) ++ List.replicate (3 - (lg_sl ([.int (nI x0)])).length) Slot.unset).toArray = ls at hl ⊢
  have hl : lv_has ls 3 [(0, .int (nI x0))] := hl
  refine lv_iconst (v := nI 0) hx hb dX3_count_0 (by decide) ?_
  refine lv_istore_n (lv' := [(1, .int (nI 0)), (0, .int (nI x0))]) hx hb dX3_count_1 rfl hl (by decide) rfl (fun ls hl => ?_)
  refine lv_iload_n hx hb dX3_count_2 rfl (lv_at hl 1 rfl) ?_
  refine lv_istore_n (lv' := [(2, .int (nI x0)), (1, .int (nI 0)), (0, .int (nI x0))]) hx hb dX3_count_3 rfl hl (by decide) rfl (fun ls hl => ?_)
  have lp : ∀ (k q1 y1 : Nat) (ls : Array Slot), y1 < k → q1 + pop y1 = pop x0 ∧ y1 ≤ x0 → lv_has ls 3 [(1, .int (nI q1)), (2, .int (nI y1))] → W p l e (headSpec (ws_ yX3_count cX3_count 3 (some .int)) ({ frames := 0, cells := 0, slots := 0, locals := 0 })).room s m ([.int (nI x0)] : List Value).toArray below meth c s.heap [] 0 0 (MQ below (vp_Si (fun r : Int32 => r = nI (pop x0))) ([.int (nI x0)] : List Value).toArray s 0 0 (fun _ => False)) (F0 m 4 ls []) := by
    intro k
    induction k with
    | zero => intro q1 y1 ls h; exact absurd h (Nat.not_lt_zero _)
    | succ k ihlp =>
      intro q1 y1 ls hk hi hl
      refine lv_iload_n hx hb dX3_count_4 rfl (lv_at hl 1 rfl) ?_
      refine lv_if_eq (tgt := 21) hx hb dX3_count_5 (by decide) (fun c_1 => ?_) (fun c_1 => ?_)
      · have e0 : y1 = 0 := nI_z (by omega) c_1
        rw [e0] at hi
        refine lv_iload_n hx hb dX3_count_21 rfl (lv_at hl 0 rfl) ?_
        exact W.iret (v := nI q1) hx hb hr (fun t ht hW => ⟨nI q1, rfl, by rw [← hi.1]; rfl, ht⟩) (fun q h => by cases h) dX3_count_22
      · have h0 := nI_nz c_1
        obtain ⟨d1, d2⟩ := pop_dec y1 (by omega) h0
        refine lv_iload_n hx hb dX3_count_8 rfl (lv_at hl 1 rfl) ?_
        refine lv_iload_n hx hb dX3_count_9 rfl (lv_at hl 1 rfl) ?_
        refine lv_iconst (v := nI 1) hx hb dX3_count_10 (by decide) ?_
        refine lv_isub hx hb dX3_count_11 (tp_ (z := nI (y1 - 1)) (pk_sub (by omega)) ?_)
        refine lv_iand hx hb dX3_count_12 (tp_ (z := nI (y1 &&& (y1 - 1))) (bn_and _ _) ?_)
        refine lv_istore_n (lv' := [(2, .int (nI (y1 &&& (y1 - 1)))), (1, .int (nI q1))]) hx hb dX3_count_13 rfl hl (by decide) rfl (fun ls hl => ?_)
        refine lv_iload_n hx hb dX3_count_14 rfl (lv_at hl 1 rfl) ?_
        refine lv_iconst (v := nI 1) hx hb dX3_count_15 (by decide) ?_
        refine lv_iadd hx hb dX3_count_16 (tp_ (z := nI (q1 + 1)) (nI_add _ _) ?_)
        refine lv_istore_n (lv' := [(1, .int (nI (q1 + 1))), (2, .int (nI (y1 &&& (y1 - 1))))]) hx hb dX3_count_17 rfl hl (by decide) rfl (fun ls hl => ?_)
        refine lv_goto (tgt := 4) hx hb dX3_count_18 (by decide) ?_
        exact ihlp _ _ ls (by omega) ⟨by omega, by omega⟩ (lv_sub hl [0, 1] rfl)
  exact lp (x0 + 1) 0 x0 ls (by omega) ⟨by omega, Nat.le_refl _⟩ (lv_sub hl [1, 0] rfl)
set_option maxHeartbeats 4000000 in
set_option maxRecDepth 100000 in
theorem metX3_reach (l : Launch) (D : va_G) (cI cL : ClassId) (ws : va_W) (ad : Nat → Nat) (n : Nat) (w : Nat → Nat) (h23 : ws[23]? = some (ad 23, .inr (3, [.ref (ad 24), .int (nI n)]))) (h24 : ws[24]? = some (ad 24, .inl (cI, 8, .inl (fun j => nI (w j))))) (x out : Nat) (hn8 : n ≤ 8) (hxn : x < n) (hw : WF w n) : Met l yX3_reach (ws_ yX3_reach cX3_reach 6 (some .int)) ({ frames := 0, cells := 0, slots := 0, locals := 0 }) (RdP D cI cL ws [.ref (ad 23), .int (nI x), .int (nI out)]) (vp_Si (fun r : Int32 => r = nI (Rf w n out x) ∧ IsR w n out x (Rf w n out x))) 0 0 (fun _ => False) := by
  refine Met.ofW (cc := cX3_reach) (maxL := 6) (ret := (some .int)) (by decide) rfl ?_
  intro p e s m args below meth c s₁ B hml hv
  obtain ⟨rfl, hP, hC⟩ := hv
  have hx := B.exec
  have hb := B.bytes
  have hr := B.returns
  have hts := atoms_spec (ws := (ws_ yX3_reach cX3_reach 6 (some .int))) B.pre
  have hts : ∀ w ∈ lw_all, w.before _ s = true := fun w h => hts w (List.mem_cons_of_mem _ h)
  have hown : s.vm.findClass RX3 = some m.cls := findClass_of_methodNamed B.named
  have hlocks := B.notSynchronized
  have hl := lv_entry ([.ref (ad 23), .int (nI x), .int (nI out)]) (n := 6) (Nat.le_of_ble_eq_true rfl)
  rw [lg_entry_eq]
  generalize (lg_sl ([.ref (ad 23), .int (nI x), .int (nI out)]) ++ List.replicate (6 - (lg_sl ([.ref (ad 23), .int (nI x), .int (nI out)])).length) Slot.unset).toArray = ls at hl ⊢
  have hl : lv_has ls 6 [(0, .ref (ad 23)), (1, .int (nI x)), (2, .int (nI out))] := hl
  refine lv_iconst (v := nI 1) hx hb dX3_reach_0 (by decide) ?_
  refine lv_iload_n hx hb dX3_reach_1 rfl (lv_at hl 1 rfl) ?_
  refine lv_ishl hx hb dX3_reach_2 (tp_ (z := nI (2 ^ x)) (bn_shl (by omega)) ?_)
  refine lv_istore_n (lv' := [(3, .int (nI (2 ^ x))), (0, .ref (ad 23)), (1, .int (nI x)), (2, .int (nI out))]) hx hb dX3_reach_3 rfl hl (by decide) rfl (fun ls hl => ?_)
  refine lv_iconst (v := nI 0) hx hb dX3_reach_4 (by decide) ?_
  refine lv_istore (lv' := [(4, .int (nI 0)), (3, .int (nI (2 ^ x))), (0, .ref (ad 23)), (1, .int (nI x)), (2, .int (nI out))]) hx hb dX3_reach_5 hl (by decide) rfl (fun ls hl => ?_)
  have hp2 := p2_256 hn8
  have lp : ∀ (k S O : Nat) (ls : Array Slot), 2 ^ n - O < k → MI w n out x S O n → lv_has ls 6 [(0, .ref (ad 23)), (1, .int (nI x)), (2, .int (nI out)), (3, .int (nI S)), (4, .int (nI O))] → W p l e (headSpec (ws_ yX3_reach cX3_reach 6 (some .int)) ({ frames := 0, cells := 0, slots := 0, locals := 0 })).room s m ([.ref (ad 23), .int (nI x), .int (nI out)] : List Value).toArray below meth c s.heap [] 0 0 (MQ below (vp_Si (fun r : Int32 => r = nI (Rf w n out x) ∧ IsR w n out x (Rf w n out x))) ([.ref (ad 23), .int (nI x), .int (nI out)] : List Value).toArray s 0 0 (fun _ => False)) (F0 m 7 ls []) := by
    intro k
    induction k with
    | zero => intro S O ls h; exact absurd h (Nat.not_lt_zero _)
    | succ k ihlp =>
      intro S O ls hk hi hl
      have hS := hi.2.1
      have hO : O ≤ S := sub_le hi.2.2.1
      refine lv_iload_n hx hb dX3_reach_7 rfl (lv_at hl 3 rfl) ?_
      refine lv_iload hx hb dX3_reach_8 (lv_at hl 4 rfl) ?_
      refine lv_icmp_eq (tgt := 61) hx hb dX3_reach_10 (by decide) (fun c_1 => ?_) (fun c_1 => ?_)
      · have e0 : S = O := nI_i (by omega) (by omega) c_1
        rw [← e0] at hi
        refine lv_iload_n hx hb dX3_reach_61 rfl (lv_at hl 3 rfl) ?_
        exact W.iret (v := nI S) hx hb hr (fun t ht hW => ⟨nI S, rfl, by rw [Rf_eq (MI_end hi)]; exact ⟨rfl, MI_end hi⟩, ht⟩) (fun q h => by cases h) dX3_reach_62
      · have hne := nI_ni c_1
        have hlt := MI_lt hi hne
        refine lv_iload_n hx hb dX3_reach_13 rfl (lv_at hl 3 rfl) ?_
        refine lv_istore (lv' := [(4, .int (nI S)), (0, .ref (ad 23)), (1, .int (nI x)), (2, .int (nI out)), (3, .int (nI S))]) hx hb dX3_reach_14 hl (by decide) rfl (fun ls hl => ?_)
        refine lv_iconst (v := nI 0) hx hb dX3_reach_16 (by decide) ?_
        refine lv_istore (lv' := [(5, .int (nI 0)), (4, .int (nI S)), (0, .ref (ad 23)), (1, .int (nI x)), (2, .int (nI out)), (3, .int (nI S))]) hx hb dX3_reach_17 hl (by decide) rfl (fun ls hl => ?_)
        have l2 : ∀ (k v S2 : Nat) (ls : Array Slot), n - v < k → v ≤ n ∧ MI w n out x S2 S v → lv_has ls 6 [(0, .ref (ad 23)), (1, .int (nI x)), (2, .int (nI out)), (3, .int (nI S2)), (4, .int (nI S)), (5, .int (nI v))] → W p l e (headSpec (ws_ yX3_reach cX3_reach 6 (some .int)) ({ frames := 0, cells := 0, slots := 0, locals := 0 })).room s m ([.ref (ad 23), .int (nI x), .int (nI out)] : List Value).toArray below meth c s.heap [] 0 0 (MQ below (vp_Si (fun r : Int32 => r = nI (Rf w n out x) ∧ IsR w n out x (Rf w n out x))) ([.ref (ad 23), .int (nI x), .int (nI out)] : List Value).toArray s 0 0 (fun _ => False)) (F0 m 19 ls []) := by
          intro k
          induction k with
          | zero => intro v S2 ls h; exact absurd h (Nat.not_lt_zero _)
          | succ k ihl2 =>
            intro v S2 ls hk hj hl
            obtain ⟨hvn, hj⟩ := hj
            have hS2 := hj.2.1
            refine lv_iload hx hb dX3_reach_19 (lv_at hl 5 rfl) ?_
            refine lv_aload_n hx hb dX3_reach_21 rfl (lv_at hl 0 rfl) ?_
            refine va_get (D := D) (ci := 3) (v := .int (nI n)) (C := RX3) (T := TX3) (N := 2) hx hb hts in_X3 hown hC.1 hP 23 h23 rfl 1 (by decide) (hts _ q142) (fun _ h9 => h9) rfl dX3_reach_22 ?_
            refine lv_icmp_ge (tgt := 58) hx hb dX3_reach_25 (by decide) (fun c_2 => ?_) (fun c_2 => ?_)
            · have e1 : v = n := Nat.le_antisymm hvn (nJ_le (by omega) (by omega) c_2)
              rw [e1] at hj
              refine lv_goto (tgt := 7) hx hb dX3_reach_58 (by decide) ?_
              exact ihlp _ _ ls (by have := sub_le hj.2.2.1; omega) hj (lv_sub hl [0, 1, 2, 3, 4] rfl)
            · have hv : v < n := nJ_nle (by omega) (by omega) c_2
              have hw1 := hw v hv
              refine lv_iload hx hb dX3_reach_28 (lv_at hl 4 rfl) ?_
              refine lv_iload hx hb dX3_reach_30 (lv_at hl 5 rfl) ?_
              refine lv_ishr hx hb dX3_reach_32 ?_
              refine lv_iconst (v := nI 1) hx hb dX3_reach_33 (by decide) ?_
              refine lv_iand hx hb dX3_reach_34 (tp_ (z := nI (b01 (Nat.testBit S v))) (bn_bit (by first | assumption | omega) (by omega)) ?_)
              refine lv_if_eq (tgt := 52) hx hb dX3_reach_35 (by decide) (fun c_3 => ?_) (fun c_3 => ?_)
              · refine lv_iinc (v := nI (v + 1)) (lv' := [(5, .int (nI (v + 1))), (0, .ref (ad 23)), (1, .int (nI x)), (2, .int (nI out)), (3, .int (nI S2)), (4, .int (nI S))]) hx hb dX3_reach_52 hl (k := 5) rfl (th_in1 _) (by decide) rfl (fun ls hl => ?_)
                refine lv_goto (tgt := 19) hx hb dX3_reach_55 (by decide) ?_
                exact ihl2 _ _ ls (by omega) ⟨hv, MI_no hj (bit01 c_3)⟩ (lv_sub hl [1, 2, 3, 4, 5, 0] rfl)
              · refine lv_iload_n hx hb dX3_reach_38 rfl (lv_at hl 3 rfl) ?_
                refine lv_aload_n hx hb dX3_reach_39 rfl (lv_at hl 0 rfl) ?_
                refine va_get (D := D) (ci := 3) (v := .ref (ad 24)) (C := RX3) (T := TX3) (N := 2) hx hb hts in_X3 hown hC.1 hP 23 h23 rfl 0 (by decide) (hts _ q141) (fun _ h9 => h9) rfl dX3_reach_40 ?_
                refine lv_iload hx hb dX3_reach_43 (lv_at hl 5 rfl) ?_
                refine th_iald hx hb hC hP 24 h24 (k := v) (by omega) (by decide) dX3_reach_45 ?_
                refine lv_iload_n hx hb dX3_reach_46 rfl (lv_at hl 2 rfl) ?_
                refine lv_iconst (v := -1) hx hb dX3_reach_47 (by decide) ?_
                refine lv_ixor hx hb dX3_reach_48 ?_
                refine lv_iand hx hb dX3_reach_49 (tp_ (z := nI (bd (w v) out)) (bn_andn _ _) ?_)
                refine lv_ior hx hb dX3_reach_50 (tp_ (z := nI (S2 ||| (bd (w v) out))) (bn_or _ _) ?_)
                refine lv_istore_n (lv' := [(3, .int (nI (S2 ||| (bd (w v) out)))), (0, .ref (ad 23)), (1, .int (nI x)), (2, .int (nI out)), (4, .int (nI S)), (5, .int (nI v))]) hx hb dX3_reach_51 rfl hl (by decide) rfl (fun ls hl => ?_)
                refine lv_iinc (v := nI (v + 1)) (lv' := [(5, .int (nI (v + 1))), (3, .int (nI (S2 ||| (bd (w v) out)))), (0, .ref (ad 23)), (1, .int (nI x)), (2, .int (nI out)), (4, .int (nI S))]) hx hb dX3_reach_52 hl (k := 5) rfl (th_in1 _) (by decide) rfl (fun ls hl => ?_)
                refine lv_goto (tgt := 19) hx hb dX3_reach_55 (by decide) ?_
                exact ihl2 _ _ ls (by omega) ⟨hv, MI_yes hw hv hj (b01_t c_3)⟩ (lv_sub hl [2, 3, 4, 1, 5, 0] rfl)
        exact l2 (n + 1) 0 S ls (by omega) ⟨by omega, MI_turn hi⟩ (lv_sub hl [2, 3, 4, 5, 1, 0] rfl)
  exact lp (2 ^ n + 1) (2 ^ x) 0 ls (Nat.lt_succ_of_le (Nat.sub_le _ _)) (MI_0 hxn) (lv_sub hl [2, 3, 4, 1, 0] rfl)
set_option maxHeartbeats 4000000 in
set_option maxRecDepth 100000 in
theorem metX3_cut (l : Launch) (D : va_G) (cI cL : ClassId) (ws : va_W) (ad : Nat → Nat) (n : Nat) (w : Nat → Nat) (h23 : ws[23]? = some (ad 23, .inr (3, [.ref (ad 24), .int (nI n)]))) (h24 : ws[24]? = some (ad 24, .inl (cI, 8, .inl (fun j => nI (w j))))) (hn0 : 0 < n) (hn8 : n ≤ 8) (hw : WF w n) (a0 b0 : Int32) : Met l yX3_cut (ws_ yX3_cut cX3_cut 7 (some .int)) ({ frames := 1, cells := 0, slots := 0, locals := 25 }) (RdP D cI cL ws [.ref (ad 23), .int a0, .int b0]) (vp_Si (fun r : Int32 => CutP w n (plc a0 n) (plc b0 n) r)) 0 0 (fun _ => False) := by
  refine Met.ofW (cc := cX3_cut) (maxL := 7) (ret := (some .int)) (by decide) rfl ?_
  intro p e s m args below meth c s₁ B hml hv
  obtain ⟨rfl, hP, hC⟩ := hv
  have hx := B.exec
  have hb := B.bytes
  have hr := B.returns
  have hts := atoms_spec (ws := (ws_ yX3_cut cX3_cut 7 (some .int))) B.pre
  have hts : ∀ w ∈ lw_all, w.before _ s = true := fun w h => hts w (List.mem_cons_of_mem _ h)
  have hown : s.vm.findClass RX3 = some m.cls := findClass_of_methodNamed B.named
  have hlocks := B.notSynchronized
  have hl := lv_entry ([.ref (ad 23), .int a0, .int b0]) (n := 7) (Nat.le_of_ble_eq_true rfl)
  rw [lg_entry_eq]
  generalize (lg_sl ([.ref (ad 23), .int a0, .int b0]) ++ List.replicate (7 - (lg_sl ([.ref (ad 23), .int a0, .int b0])).length) Slot.unset).toArray = ls at hl ⊢
  have hl : lv_has ls 7 [(0, .ref (ad 23)), (1, .int a0), (2, .int b0)] := hl
  have hp2 := p2_256 hn8
  have hxn := plc_lt a0 hn0
  have hyn := plc_lt b0 hn0
  have hwx : w (plc a0 n) < 2 ^ 31 := by have := hw _ hxn; omega
  refine lv_aload_n hx hb dX3_cut_0 rfl (lv_at hl 0 rfl) ?_
  refine lv_iload_n hx hb dX3_cut_1 rfl (lv_at hl 1 rfl) ?_
  refine rdV (As := [.int a0]) (rest := []) ⟨hx, hb, hml, hown, hts⟩ (metX3_at l D cI cL ws ad n w h23 h24 hn0 (by omega) a0) (cwV 1 hts (lw_V q157 q159 qs3 q9 q160) rfl rfl rfl (by decide +kernel) ⟨Nat.le_of_ble_eq_true rfl, Nat.le_of_ble_eq_true rfl⟩) hC hP (va_recv hC.1 hP (ci := 3) (q0 := 23) rfl h23) rfl rfl hl.1 (Nat.le_of_ble_eq_true rfl) dX3_cut_2 ⟨Nat.zero_le _, Nat.zero_le _⟩ (fun r1 hr1 => ?_)
  subst hr1
  refine lv_istore_n (lv' := [(3, .int (nI (plc a0 n))), (0, .ref (ad 23)), (1, .int a0), (2, .int b0)]) hx hb dX3_cut_5 rfl hl (by decide) rfl (fun ls hl => ?_)
  refine lv_aload_n hx hb dX3_cut_6 rfl (lv_at hl 1 rfl) ?_
  refine lv_iload_n hx hb dX3_cut_7 rfl (lv_at hl 3 rfl) ?_
  refine rdV (As := [.int b0]) (rest := []) ⟨hx, hb, hml, hown, hts⟩ (metX3_at l D cI cL ws ad n w h23 h24 hn0 (by omega) b0) (cwV 1 hts (lw_V q157 q159 qs3 q9 q160) rfl rfl rfl (by decide +kernel) ⟨Nat.le_of_ble_eq_true rfl, Nat.le_of_ble_eq_true rfl⟩) hC hP (va_recv hC.1 hP (ci := 3) (q0 := 23) rfl h23) rfl rfl hl.1 (Nat.le_of_ble_eq_true rfl) dX3_cut_8 ⟨Nat.zero_le _, Nat.zero_le _⟩ (fun r2 hr2 => ?_)
  subst hr2
  refine lv_istore (lv' := [(4, .int (nI (plc b0 n))), (3, .int (nI (plc a0 n))), (0, .ref (ad 23)), (1, .int a0), (2, .int b0)]) hx hb dX3_cut_11 hl (by decide) rfl (fun ls hl => ?_)
  refine lv_iload_n hx hb dX3_cut_13 rfl (lv_at hl 1 rfl) ?_
  refine lv_iload hx hb dX3_cut_14 (lv_at hl 0 rfl) ?_
  refine lv_icmp_eq (tgt := 33) hx hb dX3_cut_16 (by decide) (fun c_1 => ?_) (fun c_1 => ?_)
  · have e0 := nI_i (by omega) (by omega) c_1
    refine lv_iconst (v := -1) hx hb dX3_cut_33 (by decide) ?_
    exact W.iret (v := -1) hx hb hr (fun t ht hW => ⟨-1, rfl, Or.inl ⟨Or.inl e0, rfl⟩, ht⟩) (fun q h => by cases h) dX3_cut_34
  · have hne := nI_ni c_1
    refine lv_aload_n hx hb dX3_cut_19 rfl (lv_at hl 2 rfl) ?_
    refine va_get (D := D) (ci := 3) (v := .ref (ad 24)) (C := RX3) (T := TX3) (N := 2) hx hb hts in_X3 hown hC.1 hP 23 h23 rfl 0 (by decide) (hts _ q141) (fun _ h9 => h9) rfl dX3_cut_20 ?_
    refine lv_iload_n hx hb dX3_cut_23 rfl (lv_at hl 1 rfl) ?_
    refine th_iald hx hb hC hP 24 h24 (k := (plc a0 n)) (by omega) (by decide) dX3_cut_24 ?_
    refine lv_iload hx hb dX3_cut_25 (lv_at hl 0 rfl) ?_
    refine lv_ishr hx hb dX3_cut_27 ?_
    refine lv_iconst (v := nI 1) hx hb dX3_cut_28 (by decide) ?_
    refine lv_iand hx hb dX3_cut_29 (tp_ (z := nI (b01 (Nat.testBit (w (plc a0 n)) (plc b0 n)))) (bn_bit (by first | assumption | omega) (by omega)) ?_)
    refine lv_if_eq (tgt := 35) hx hb dX3_cut_30 (by decide) (fun c_2 => ?_) (fun c_2 => ?_)
    · have hrd := bit01 c_2
      refine lv_bipush (v := nI 99) hx hb dX3_cut_35 (by decide) ?_
      refine lv_istore (lv' := [(5, .int (nI 99)), (4, .int (nI (plc b0 n))), (3, .int (nI (plc a0 n))), (0, .ref (ad 23)), (1, .int a0), (2, .int b0)]) hx hb dX3_cut_37 hl (by decide) rfl (fun ls hl => ?_)
      refine lv_iconst (v := nI 0) hx hb dX3_cut_39 (by decide) ?_
      refine lv_istore (lv' := [(6, .int (nI 0)), (5, .int (nI 99)), (4, .int (nI (plc b0 n))), (3, .int (nI (plc a0 n))), (0, .ref (ad 23)), (1, .int a0), (2, .int b0)]) hx hb dX3_cut_40 hl (by decide) rfl (fun ls hl => ?_)
      have lp : ∀ (k bst s1 : Nat) (ls : Array Slot), 2 ^ n - s1 < k → s1 ≤ 2 ^ n ∧ BI w n (plc a0 n) (plc b0 n) bst s1 → lv_has ls 7 [(0, .ref (ad 23)), (1, .int a0), (2, .int b0), (3, .int (nI (plc a0 n))), (4, .int (nI (plc b0 n))), (5, .int (nI bst)), (6, .int (nI s1))] → W p l e (headSpec (ws_ yX3_cut cX3_cut 7 (some .int)) ({ frames := 1, cells := 0, slots := 0, locals := 25 })).room s m ([.ref (ad 23), .int a0, .int b0] : List Value).toArray below meth c s.heap [] 0 0 (MQ below (vp_Si (fun r : Int32 => CutP w n (plc a0 n) (plc b0 n) r)) ([.ref (ad 23), .int a0, .int b0] : List Value).toArray s 0 0 (fun _ => False)) (F0 m 42 ls []) := by
        intro k
        induction k with
        | zero => intro bst s1 ls h; exact absurd h (Nat.not_lt_zero _)
        | succ k ihlp =>
          intro bst s1 ls hk hi hl
          obtain ⟨hsn, hi⟩ := hi
          have hb99 := hi.1
          refine lv_iload hx hb dX3_cut_42 (lv_at hl 6 rfl) ?_
          refine lv_iconst (v := nI 1) hx hb dX3_cut_44 (by decide) ?_
          refine lv_aload_n hx hb dX3_cut_45 rfl (lv_at hl 0 rfl) ?_
          refine va_get (D := D) (ci := 3) (v := .int (nI n)) (C := RX3) (T := TX3) (N := 2) hx hb hts in_X3 hown hC.1 hP 23 h23 rfl 1 (by decide) (hts _ q142) (fun _ h9 => h9) rfl dX3_cut_46 ?_
          refine lv_ishl hx hb dX3_cut_49 (tp_ (z := nI (2 ^ n)) (bn_shl (by omega)) ?_)
          refine lv_icmp_ge (tgt := 110) hx hb dX3_cut_50 (by decide) (fun c_3 => ?_) (fun c_3 => ?_)
          · have e1 : s1 = 2 ^ n := Nat.le_antisymm hsn (nJ_le (by omega) (by omega) c_3)
            rw [e1] at hi
            refine lv_iload hx hb dX3_cut_110 (lv_at hl 5 rfl) ?_
            exact W.iret (v := nI bst) hx hb hr (fun t ht hW => ⟨nI bst, rfl, Or.inr ⟨⟨hne, hrd⟩, bst, rfl, BI_end hw hxn hne hrd hi⟩, ht⟩) (fun q h => by cases h) dX3_cut_112
          · have hs : s1 < 2 ^ n := nJ_nle (by omega) (by omega) c_3
            have hp8 := pop_8 s1
            refine lv_iload hx hb dX3_cut_53 (lv_at hl 6 rfl) ?_
            refine lv_iload_n hx hb dX3_cut_55 rfl (lv_at hl 3 rfl) ?_
            refine lv_ishr hx hb dX3_cut_56 ?_
            refine lv_iconst (v := nI 1) hx hb dX3_cut_57 (by decide) ?_
            refine lv_iand hx hb dX3_cut_58 (tp_ (z := nI (b01 (Nat.testBit s1 (plc a0 n)))) (bn_bit (by first | assumption | omega) (by omega)) ?_)
            refine lv_if_ne (tgt := 104) hx hb dX3_cut_59 (by decide) (fun c_4 => ?_) (fun c_4 => ?_)
            · refine lv_iinc (v := nI (s1 + 1)) (lv' := [(6, .int (nI (s1 + 1))), (0, .ref (ad 23)), (1, .int a0), (2, .int b0), (3, .int (nI (plc a0 n))), (4, .int (nI (plc b0 n))), (5, .int (nI bst))]) hx hb dX3_cut_104 hl (k := 6) rfl (th_in1 _) (by decide) rfl (fun ls hl => ?_)
              refine lv_goto (tgt := 42) hx hb dX3_cut_107 (by decide) ?_
              exact ihlp _ _ ls (by omega) ⟨hs, BI_no hi (fun ho => absurd (by rw [ho.2.1]; rfl) c_4)⟩ (lv_sub hl [1, 2, 3, 4, 5, 6, 0] rfl)
            · have hbx := bit01 c_4
              refine lv_iload hx hb dX3_cut_62 (lv_at hl 6 rfl) ?_
              refine lv_iload hx hb dX3_cut_64 (lv_at hl 4 rfl) ?_
              refine lv_ishr hx hb dX3_cut_66 ?_
              refine lv_iconst (v := nI 1) hx hb dX3_cut_67 (by decide) ?_
              refine lv_iand hx hb dX3_cut_68 (tp_ (z := nI (b01 (Nat.testBit s1 (plc b0 n)))) (bn_bit (by first | assumption | omega) (by omega)) ?_)
              refine lv_if_ne (tgt := 104) hx hb dX3_cut_69 (by decide) (fun c_5 => ?_) (fun c_5 => ?_)
              · refine lv_iinc (v := nI (s1 + 1)) (lv' := [(6, .int (nI (s1 + 1))), (0, .ref (ad 23)), (1, .int a0), (2, .int b0), (3, .int (nI (plc a0 n))), (4, .int (nI (plc b0 n))), (5, .int (nI bst))]) hx hb dX3_cut_104 hl (k := 6) rfl (th_in1 _) (by decide) rfl (fun ls hl => ?_)
                refine lv_goto (tgt := 42) hx hb dX3_cut_107 (by decide) ?_
                exact ihlp _ _ ls (by omega) ⟨hs, BI_no hi (fun ho => absurd (by rw [ho.2.2.1]; rfl) c_5)⟩ (lv_sub hl [1, 2, 3, 4, 5, 6, 0] rfl)
              · have hby := bit01 c_5
                refine lv_iload hx hb dX3_cut_72 (lv_at hl 6 rfl) ?_
                refine rdS (As := [.int (nI s1)]) (rest := []) ⟨hx, hb, hml, hown, hts⟩ (metX3_count l D cI cL ws s1 (by omega)) (va_cwS 1 hts (lw_S q169 q170 q9 q171) rfl rfl rfl (by decide +kernel) ⟨Nat.le_of_ble_eq_true rfl, Nat.le_of_ble_eq_true rfl⟩) hC hP rfl rfl hl.1 (Nat.le_of_ble_eq_true rfl) dX3_cut_74 ⟨Nat.zero_le _, Nat.zero_le _⟩ (fun r3 hr3 => ?_)
                subst hr3
                refine lv_iload hx hb dX3_cut_77 (lv_at hl 5 rfl) ?_
                refine lv_icmp_ge (tgt := 104) hx hb dX3_cut_79 (by decide) (fun c_6 => ?_) (fun c_6 => ?_)
                · refine lv_iinc (v := nI (s1 + 1)) (lv' := [(6, .int (nI (s1 + 1))), (0, .ref (ad 23)), (1, .int a0), (2, .int b0), (3, .int (nI (plc a0 n))), (4, .int (nI (plc b0 n))), (5, .int (nI bst))]) hx hb dX3_cut_104 hl (k := 6) rfl (th_in1 _) (by decide) rfl (fun ls hl => ?_)
                  refine lv_goto (tgt := 42) hx hb dX3_cut_107 (by decide) ?_
                  exact ihlp _ _ ls (by omega) ⟨hs, BI_no hi (fun _ => nJ_le (by omega) (by omega) c_6)⟩ (lv_sub hl [1, 2, 3, 4, 5, 6, 0] rfl)
                · have hlt := nJ_nle (by omega) (by omega) c_6
                  refine lv_aload_n hx hb dX3_cut_82 rfl (lv_at hl 0 rfl) ?_
                  refine lv_iload_n hx hb dX3_cut_83 rfl (lv_at hl 3 rfl) ?_
                  refine lv_iload hx hb dX3_cut_84 (lv_at hl 6 rfl) ?_
                  refine rdV (As := [.int (nI (plc a0 n)), .int (nI s1)]) (rest := []) ⟨hx, hb, hml, hown, hts⟩ (metX3_reach l D cI cL ws ad n w h23 h24 (plc a0 n) s1 hn8 hxn hw) (cwV 2 hts (lw_V q172 q174 qs4 q9 q175) rfl rfl rfl (by decide +kernel) ⟨Nat.le_of_ble_eq_true rfl, Nat.le_of_ble_eq_true rfl⟩) hC hP (va_recv hC.1 hP (ci := 3) (q0 := 23) rfl h23) rfl rfl hl.1 (Nat.le_of_ble_eq_true rfl) dX3_cut_86 ⟨Nat.zero_le _, Nat.zero_le _⟩ (fun r4 hr4 => ?_)
                  obtain ⟨rfl, hR⟩ := hr4
                  have hRl := IsR_lt hw hxn hR
                  refine lv_iload hx hb dX3_cut_89 (lv_at hl 4 rfl) ?_
                  refine lv_ishr hx hb dX3_cut_91 ?_
                  refine lv_iconst (v := nI 1) hx hb dX3_cut_92 (by decide) ?_
                  refine lv_iand hx hb dX3_cut_93 (tp_ (z := nI (b01 (Nat.testBit (Rf w n s1 (plc a0 n)) (plc b0 n)))) (bn_bit (by first | assumption | omega) (by omega)) ?_)
                  refine lv_if_ne (tgt := 104) hx hb dX3_cut_94 (by decide) (fun c_7 => ?_) (fun c_7 => ?_)
                  · refine lv_iinc (v := nI (s1 + 1)) (lv' := [(6, .int (nI (s1 + 1))), (0, .ref (ad 23)), (1, .int a0), (2, .int b0), (3, .int (nI (plc a0 n))), (4, .int (nI (plc b0 n))), (5, .int (nI bst))]) hx hb dX3_cut_104 hl (k := 6) rfl (th_in1 _) (by decide) rfl (fun ls hl => ?_)
                    refine lv_goto (tgt := 42) hx hb dX3_cut_107 (by decide) ?_
                    exact ihlp _ _ ls (by omega) ⟨hs, BI_no hi (fun ho => absurd (by rw [(Sep_iff hR).mp ho.2.2.2]; rfl) c_7)⟩ (lv_sub hl [1, 2, 3, 4, 5, 6, 0] rfl)
                  · refine lv_iload hx hb dX3_cut_97 (lv_at hl 6 rfl) ?_
                    refine rdS (As := [.int (nI s1)]) (rest := []) ⟨hx, hb, hml, hown, hts⟩ (metX3_count l D cI cL ws s1 (by omega)) (va_cwS 1 hts (lw_S q169 q170 q9 q171) rfl rfl rfl (by decide +kernel) ⟨Nat.le_of_ble_eq_true rfl, Nat.le_of_ble_eq_true rfl⟩) hC hP rfl rfl hl.1 (Nat.le_of_ble_eq_true rfl) dX3_cut_99 ⟨Nat.zero_le _, Nat.zero_le _⟩ (fun r3 hr3 => ?_)
                    subst hr3
                    refine lv_istore (lv' := [(5, .int (nI (pop s1))), (0, .ref (ad 23)), (1, .int a0), (2, .int b0), (3, .int (nI (plc a0 n))), (4, .int (nI (plc b0 n))), (6, .int (nI s1))]) hx hb dX3_cut_102 hl (by decide) rfl (fun ls hl => ?_)
                    refine lv_iinc (v := nI (s1 + 1)) (lv' := [(6, .int (nI (s1 + 1))), (5, .int (nI (pop s1))), (0, .ref (ad 23)), (1, .int a0), (2, .int b0), (3, .int (nI (plc a0 n))), (4, .int (nI (plc b0 n)))]) hx hb dX3_cut_104 hl (k := 6) rfl (th_in1 _) (by decide) rfl (fun ls hl => ?_)
                    refine lv_goto (tgt := 42) hx hb dX3_cut_107 (by decide) ?_
                    exact ihlp _ _ ls (by omega) ⟨hs, BI_yes hi ⟨hs, hbx, hby, (Sep_iff hR).mpr (bit01 c_7)⟩ hlt⟩ (lv_sub hl [2, 3, 4, 5, 6, 1, 0] rfl)
      exact lp (2 ^ n + 1) 99 0 ls (Nat.lt_succ_of_le (Nat.sub_le _ _)) ⟨Nat.zero_le _, BI_0 w n _ _⟩ (lv_sub hl [4, 5, 6, 3, 2, 1, 0] rfl)
    · have hrd := b01_t c_2
      refine lv_iconst (v := -1) hx hb dX3_cut_33 (by decide) ?_
      exact W.iret (v := -1) hx hb hr (fun t ht hW => ⟨-1, rfl, Or.inl ⟨Or.inr hrd, rfl⟩, ht⟩) (fun q h => by cases h) dX3_cut_34
set_option maxHeartbeats 4000000 in
set_option maxRecDepth 100000 in
theorem metX3_first (l : Launch) (D : va_G) (cI cL : ClassId) (ws : va_W) (ad : Nat → Nat) (n : Nat) (w : Nat → Nat) (h23 : ws[23]? = some (ad 23, .inr (3, [.ref (ad 24), .int (nI n)]))) (h24 : ws[24]? = some (ad 24, .inl (cI, 8, .inl (fun j => nI (w j))))) (hn0 : 0 < n) (hn8 : n ≤ 8) (hw : WF w n) (a0 b0 : Int32) : Met l yX3_first (ws_ yX3_first cX3_first 7 (some .int)) ({ frames := 2, cells := 0, slots := 0, locals := 51 }) (RdP D cI cL ws [.ref (ad 23), .int a0, .int b0]) (vp_Si (fun r : Int32 => FstP w n (plc a0 n) (plc b0 n) r)) 0 0 (fun _ => False) := by
  refine Met.ofW (cc := cX3_first) (maxL := 7) (ret := (some .int)) (by decide) rfl ?_
  intro p e s m args below meth c s₁ B hml hv
  obtain ⟨rfl, hP, hC⟩ := hv
  have hx := B.exec
  have hb := B.bytes
  have hr := B.returns
  have hts := atoms_spec (ws := (ws_ yX3_first cX3_first 7 (some .int))) B.pre
  have hts : ∀ w ∈ lw_all, w.before _ s = true := fun w h => hts w (List.mem_cons_of_mem _ h)
  have hown : s.vm.findClass RX3 = some m.cls := findClass_of_methodNamed B.named
  have hlocks := B.notSynchronized
  have hl := lv_entry ([.ref (ad 23), .int a0, .int b0]) (n := 7) (Nat.le_of_ble_eq_true rfl)
  rw [lg_entry_eq]
  generalize (lg_sl ([.ref (ad 23), .int a0, .int b0]) ++ List.replicate (7 - (lg_sl ([.ref (ad 23), .int a0, .int b0])).length) Slot.unset).toArray = ls at hl ⊢
  have hl : lv_has ls 7 [(0, .ref (ad 23)), (1, .int a0), (2, .int b0)] := hl
  have hp2 := p2_256 hn8
  have hxn := plc_lt a0 hn0
  have hyn := plc_lt b0 hn0
  have hwx : w (plc a0 n) < 2 ^ 31 := by have := hw _ hxn; omega
  refine lv_aload_n hx hb dX3_first_0 rfl (lv_at hl 0 rfl) ?_
  refine lv_iload_n hx hb dX3_first_1 rfl (lv_at hl 1 rfl) ?_
  refine rdV (As := [.int a0]) (rest := []) ⟨hx, hb, hml, hown, hts⟩ (metX3_at l D cI cL ws ad n w h23 h24 hn0 (by omega) a0) (cwV 1 hts (lw_V q157 q159 qs3 q9 q160) rfl rfl rfl (by decide +kernel) ⟨Nat.le_of_ble_eq_true rfl, Nat.le_of_ble_eq_true rfl⟩) hC hP (va_recv hC.1 hP (ci := 3) (q0 := 23) rfl h23) rfl rfl hl.1 (Nat.le_of_ble_eq_true rfl) dX3_first_2 ⟨Nat.zero_le _, Nat.zero_le _⟩ (fun r1 hr1 => ?_)
  subst hr1
  refine lv_istore_n (lv' := [(3, .int (nI (plc a0 n))), (0, .ref (ad 23)), (1, .int a0), (2, .int b0)]) hx hb dX3_first_5 rfl hl (by decide) rfl (fun ls hl => ?_)
  refine lv_aload_n hx hb dX3_first_6 rfl (lv_at hl 1 rfl) ?_
  refine lv_iload_n hx hb dX3_first_7 rfl (lv_at hl 3 rfl) ?_
  refine rdV (As := [.int b0]) (rest := []) ⟨hx, hb, hml, hown, hts⟩ (metX3_at l D cI cL ws ad n w h23 h24 hn0 (by omega) b0) (cwV 1 hts (lw_V q157 q159 qs3 q9 q160) rfl rfl rfl (by decide +kernel) ⟨Nat.le_of_ble_eq_true rfl, Nat.le_of_ble_eq_true rfl⟩) hC hP (va_recv hC.1 hP (ci := 3) (q0 := 23) rfl h23) rfl rfl hl.1 (Nat.le_of_ble_eq_true rfl) dX3_first_8 ⟨Nat.zero_le _, Nat.zero_le _⟩ (fun r2 hr2 => ?_)
  subst hr2
  refine lv_istore (lv' := [(4, .int (nI (plc b0 n))), (3, .int (nI (plc a0 n))), (0, .ref (ad 23)), (1, .int a0), (2, .int b0)]) hx hb dX3_first_11 hl (by decide) rfl (fun ls hl => ?_)
  refine lv_aload_n hx hb dX3_first_13 rfl (lv_at hl 2 rfl) ?_
  refine lv_iload_n hx hb dX3_first_14 rfl (lv_at hl 3 rfl) ?_
  refine lv_iload_n hx hb dX3_first_15 rfl (lv_at hl 4 rfl) ?_
  refine rdV (As := [.int a0, .int b0]) (rest := []) ⟨hx, hb, hml, hown, hts⟩ (metX3_cut l D cI cL ws ad n w h23 h24 hn0 hn8 hw a0 b0) (cwV 2 hts (lw_V q180 q166 q167 q9 q168) rfl rfl rfl (by decide +kernel) ⟨Nat.le_of_ble_eq_true rfl, Nat.le_of_ble_eq_true rfl⟩) hC hP (va_recv hC.1 hP (ci := 3) (q0 := 23) rfl h23) rfl rfl hl.1 (Nat.le_of_ble_eq_true rfl) dX3_first_16 ⟨Nat.zero_le _, Nat.zero_le _⟩ (fun r3 hr3 => ?_)
  rcases hr3 with ⟨hnear, e3⟩ | ⟨⟨hne, hrd⟩, bst, e3, hB⟩
  · subst e3
    refine lv_istore (lv' := [(5, .int (-1)), (4, .int (nI (plc b0 n))), (3, .int (nI (plc a0 n))), (0, .ref (ad 23)), (1, .int a0), (2, .int b0)]) hx hb dX3_first_19 hl (by decide) rfl (fun ls hl => ?_)
    refine lv_iload hx hb dX3_first_21 (lv_at hl 0 rfl) ?_
    refine lv_if_ge (tgt := 28) hx hb dX3_first_23 (by decide) (fun c_1 => ?_) (fun c_1 => ?_)
    · exact absurd c_1 (by decide)
    · refine lv_iconst (v := -1) hx hb dX3_first_26 (by decide) ?_
      exact W.iret (v := -1) hx hb hr (fun t ht hW => ⟨-1, rfl, Or.inl ⟨hnear, rfl⟩, ht⟩) (fun q h => by cases h) dX3_first_27
  · subst e3
    have hb8 := Best_le hB
    refine lv_istore (lv' := [(5, .int (nI bst)), (4, .int (nI (plc b0 n))), (3, .int (nI (plc a0 n))), (0, .ref (ad 23)), (1, .int a0), (2, .int b0)]) hx hb dX3_first_19 hl (by decide) rfl (fun ls hl => ?_)
    refine lv_iload hx hb dX3_first_21 (lv_at hl 0 rfl) ?_
    refine lv_if_ge (tgt := 28) hx hb dX3_first_23 (by decide) (fun c_1 => ?_) (fun c_1 => ?_)
    · refine lv_iconst (v := nI 0) hx hb dX3_first_28 (by decide) ?_
      refine lv_istore (lv' := [(6, .int (nI 0)), (5, .int (nI bst)), (4, .int (nI (plc b0 n))), (3, .int (nI (plc a0 n))), (0, .ref (ad 23)), (1, .int a0), (2, .int b0)]) hx hb dX3_first_29 hl (by decide) rfl (fun ls hl => ?_)
      have lp : ∀ (k s1 : Nat) (ls : Array Slot), 2 ^ n - s1 < k → s1 ≤ 2 ^ n ∧ FI1 w n (plc a0 n) (plc b0 n) bst s1 → lv_has ls 7 [(0, .ref (ad 23)), (1, .int a0), (2, .int b0), (3, .int (nI (plc a0 n))), (4, .int (nI (plc b0 n))), (5, .int (nI bst)), (6, .int (nI s1))] → W p l e (headSpec (ws_ yX3_first cX3_first 7 (some .int)) ({ frames := 2, cells := 0, slots := 0, locals := 51 })).room s m ([.ref (ad 23), .int a0, .int b0] : List Value).toArray below meth c s.heap [] 0 0 (MQ below (vp_Si (fun r : Int32 => FstP w n (plc a0 n) (plc b0 n) r)) ([.ref (ad 23), .int a0, .int b0] : List Value).toArray s 0 0 (fun _ => False)) (F0 m 31 ls []) := by
        intro k
        induction k with
        | zero => intro s1 ls h; exact absurd h (Nat.not_lt_zero _)
        | succ k ihlp =>
          intro s1 ls hk hi hl
          obtain ⟨hsn, hi⟩ := hi
          refine lv_iload hx hb dX3_first_31 (lv_at hl 6 rfl) ?_
          refine lv_iconst (v := nI 1) hx hb dX3_first_33 (by decide) ?_
          refine lv_aload_n hx hb dX3_first_34 rfl (lv_at hl 0 rfl) ?_
          refine va_get (D := D) (ci := 3) (v := .int (nI n)) (C := RX3) (T := TX3) (N := 2) hx hb hts in_X3 hown hC.1 hP 23 h23 rfl 1 (by decide) (hts _ q142) (fun _ h9 => h9) rfl dX3_first_35 ?_
          refine lv_ishl hx hb dX3_first_38 (tp_ (z := nI (2 ^ n)) (bn_shl (by omega)) ?_)
          refine lv_icmp_ge (tgt := 95) hx hb dX3_first_39 (by decide) (fun c_3 => ?_) (fun c_3 => ?_)
          · have e1 : s1 = 2 ^ n := Nat.le_antisymm hsn (nJ_le (by omega) (by omega) c_3)
            rw [e1] at hi
            exact absurd hi (FI1_end hB)
          · have hs : s1 < 2 ^ n := nJ_nle (by omega) (by omega) c_3
            have hp8 := pop_8 s1
            refine lv_iload hx hb dX3_first_42 (lv_at hl 6 rfl) ?_
            refine lv_iload_n hx hb dX3_first_44 rfl (lv_at hl 3 rfl) ?_
            refine lv_ishr hx hb dX3_first_45 ?_
            refine lv_iconst (v := nI 1) hx hb dX3_first_46 (by decide) ?_
            refine lv_iand hx hb dX3_first_47 (tp_ (z := nI (b01 (Nat.testBit s1 (plc a0 n)))) (bn_bit (by first | assumption | omega) (by omega)) ?_)
            refine lv_if_ne (tgt := 89) hx hb dX3_first_48 (by decide) (fun c_4 => ?_) (fun c_4 => ?_)
            · refine lv_iinc (v := nI (s1 + 1)) (lv' := [(6, .int (nI (s1 + 1))), (0, .ref (ad 23)), (1, .int a0), (2, .int b0), (3, .int (nI (plc a0 n))), (4, .int (nI (plc b0 n))), (5, .int (nI bst))]) hx hb dX3_first_89 hl (k := 6) rfl (th_in1 _) (by decide) rfl (fun ls hl => ?_)
              refine lv_goto (tgt := 31) hx hb dX3_first_92 (by decide) ?_
              exact ihlp _ ls (by omega) ⟨hs, FI1_no hi (fun ho => absurd (by rw [ho.2.1]; rfl) c_4)⟩ (lv_sub hl [1, 2, 3, 4, 5, 6, 0] rfl)
            · have hbx := bit01 c_4
              refine lv_iload hx hb dX3_first_51 (lv_at hl 6 rfl) ?_
              refine lv_iload hx hb dX3_first_53 (lv_at hl 4 rfl) ?_
              refine lv_ishr hx hb dX3_first_55 ?_
              refine lv_iconst (v := nI 1) hx hb dX3_first_56 (by decide) ?_
              refine lv_iand hx hb dX3_first_57 (tp_ (z := nI (b01 (Nat.testBit s1 (plc b0 n)))) (bn_bit (by first | assumption | omega) (by omega)) ?_)
              refine lv_if_ne (tgt := 89) hx hb dX3_first_58 (by decide) (fun c_5 => ?_) (fun c_5 => ?_)
              · refine lv_iinc (v := nI (s1 + 1)) (lv' := [(6, .int (nI (s1 + 1))), (0, .ref (ad 23)), (1, .int a0), (2, .int b0), (3, .int (nI (plc a0 n))), (4, .int (nI (plc b0 n))), (5, .int (nI bst))]) hx hb dX3_first_89 hl (k := 6) rfl (th_in1 _) (by decide) rfl (fun ls hl => ?_)
                refine lv_goto (tgt := 31) hx hb dX3_first_92 (by decide) ?_
                exact ihlp _ ls (by omega) ⟨hs, FI1_no hi (fun ho => absurd (by rw [ho.2.2.1]; rfl) c_5)⟩ (lv_sub hl [1, 2, 3, 4, 5, 6, 0] rfl)
              · have hby := bit01 c_5
                refine lv_iload hx hb dX3_first_61 (lv_at hl 6 rfl) ?_
                refine rdS (As := [.int (nI s1)]) (rest := []) ⟨hx, hb, hml, hown, hts⟩ (metX3_count l D cI cL ws s1 (by omega)) (va_cwS 1 hts (lw_S q169 q170 q9 q171) rfl rfl rfl (by decide +kernel) ⟨Nat.le_of_ble_eq_true rfl, Nat.le_of_ble_eq_true rfl⟩) hC hP rfl rfl hl.1 (Nat.le_of_ble_eq_true rfl) dX3_first_63 ⟨Nat.zero_le _, Nat.zero_le _⟩ (fun r3 hr3 => ?_)
                subst hr3
                refine lv_iload hx hb dX3_first_66 (lv_at hl 5 rfl) ?_
                refine lv_icmp_ne (tgt := 89) hx hb dX3_first_68 (by decide) (fun c_6 => ?_) (fun c_6 => ?_)
                · refine lv_iinc (v := nI (s1 + 1)) (lv' := [(6, .int (nI (s1 + 1))), (0, .ref (ad 23)), (1, .int a0), (2, .int b0), (3, .int (nI (plc a0 n))), (4, .int (nI (plc b0 n))), (5, .int (nI bst))]) hx hb dX3_first_89 hl (k := 6) rfl (th_in1 _) (by decide) rfl (fun ls hl => ?_)
                  refine lv_goto (tgt := 31) hx hb dX3_first_92 (by decide) ?_
                  exact ihlp _ ls (by omega) ⟨hs, FI1_no hi (fun _ => nI_ni c_6)⟩ (lv_sub hl [1, 2, 3, 4, 5, 6, 0] rfl)
                · have hpe := nI_i (by omega) (by omega) c_6
                  refine lv_aload_n hx hb dX3_first_71 rfl (lv_at hl 0 rfl) ?_
                  refine lv_iload_n hx hb dX3_first_72 rfl (lv_at hl 3 rfl) ?_
                  refine lv_iload hx hb dX3_first_73 (lv_at hl 6 rfl) ?_
                  refine rdV (As := [.int (nI (plc a0 n)), .int (nI s1)]) (rest := []) ⟨hx, hb, hml, hown, hts⟩ (metX3_reach l D cI cL ws ad n w h23 h24 (plc a0 n) s1 hn8 hxn hw) (cwV 2 hts (lw_V q172 q174 qs4 q9 q175) rfl rfl rfl (by decide +kernel) ⟨Nat.le_of_ble_eq_true rfl, Nat.le_of_ble_eq_true rfl⟩) hC hP (va_recv hC.1 hP (ci := 3) (q0 := 23) rfl h23) rfl rfl hl.1 (Nat.le_of_ble_eq_true rfl) dX3_first_75 ⟨Nat.zero_le _, Nat.zero_le _⟩ (fun r4 hr4 => ?_)
                  obtain ⟨rfl, hR⟩ := hr4
                  have hRl := IsR_lt hw hxn hR
                  refine lv_iload hx hb dX3_first_78 (lv_at hl 4 rfl) ?_
                  refine lv_ishr hx hb dX3_first_80 ?_
                  refine lv_iconst (v := nI 1) hx hb dX3_first_81 (by decide) ?_
                  refine lv_iand hx hb dX3_first_82 (tp_ (z := nI (b01 (Nat.testBit (Rf w n s1 (plc a0 n)) (plc b0 n)))) (bn_bit (by first | assumption | omega) (by omega)) ?_)
                  refine lv_if_ne (tgt := 89) hx hb dX3_first_83 (by decide) (fun c_7 => ?_) (fun c_7 => ?_)
                  · refine lv_iinc (v := nI (s1 + 1)) (lv' := [(6, .int (nI (s1 + 1))), (0, .ref (ad 23)), (1, .int a0), (2, .int b0), (3, .int (nI (plc a0 n))), (4, .int (nI (plc b0 n))), (5, .int (nI bst))]) hx hb dX3_first_89 hl (k := 6) rfl (th_in1 _) (by decide) rfl (fun ls hl => ?_)
                    refine lv_goto (tgt := 31) hx hb dX3_first_92 (by decide) ?_
                    exact ihlp _ ls (by omega) ⟨hs, FI1_no hi (fun ho => absurd (by rw [(Sep_iff hR).mp ho.2.2.2]; rfl) c_7)⟩ (lv_sub hl [1, 2, 3, 4, 5, 6, 0] rfl)
                  · refine lv_iload hx hb dX3_first_86 (lv_at hl 6 rfl) ?_
                    exact W.iret (v := nI s1) hx hb hr (fun t ht hW => ⟨nI s1, rfl, Or.inr ⟨⟨hne, hrd⟩, s1, rfl, FI1_yes hB hi ⟨hs, hbx, hby, (Sep_iff hR).mpr (bit01 c_7)⟩ hpe⟩, ht⟩) (fun q h => by cases h) dX3_first_88
      exact lp (2 ^ n + 1) 0 ls (Nat.lt_succ_of_le (Nat.sub_le _ _)) ⟨Nat.zero_le _, fun t ht => absurd ht (Nat.not_lt_zero t)⟩ (lv_sub hl [4, 5, 6, 3, 2, 1, 0] rfl)
    · exact absurd (nI_pos' (by omega)) c_1
set_option maxHeartbeats 4000000 in
set_option maxRecDepth 100000 in
theorem metX3_reached (l : Launch) (D : va_G) (cI cL : ClassId) (ws : va_W) (ad : Nat → Nat) (n : Nat) (w : Nat → Nat) (h23 : ws[23]? = some (ad 23, .inr (3, [.ref (ad 24), .int (nI n)]))) (h24 : ws[24]? = some (ad 24, .inl (cI, 8, .inl (fun j => nI (w j))))) (hn0 : 0 < n) (hn8 : n ≤ 8) (hw : WF w n) (a0 : Int32) : Met l yX3_reached (ws_ yX3_reached cX3_reached 2 (some .int)) ({ frames := 1, cells := 0, slots := 0, locals := 25 }) (RdP D cI cL ws [.ref (ad 23), .int a0]) (vp_Si (fun r : Int32 => r = nI (Rf w n 0 (plc a0 n)))) 0 0 (fun _ => False) := by
  refine Met.ofW (cc := cX3_reached) (maxL := 2) (ret := (some .int)) (by decide) rfl ?_
  intro p e s m args below meth c s₁ B hml hv
  obtain ⟨rfl, hP, hC⟩ := hv
  have hx := B.exec
  have hb := B.bytes
  have hr := B.returns
  have hts := atoms_spec (ws := (ws_ yX3_reached cX3_reached 2 (some .int))) B.pre
  have hts : ∀ w ∈ lw_all, w.before _ s = true := fun w h => hts w (List.mem_cons_of_mem _ h)
  have hown : s.vm.findClass RX3 = some m.cls := findClass_of_methodNamed B.named
  have hlocks := B.notSynchronized
  have hl := lv_entry ([.ref (ad 23), .int a0]) (n := 2) (Nat.le_of_ble_eq_true rfl)
  rw [lg_entry_eq]
  generalize (lg_sl ([.ref (ad 23), .int a0]) ++ List.replicate (2 - (lg_sl ([.ref (ad 23), .int a0])).length) Slot.unset).toArray = ls at hl ⊢
  have hl : lv_has ls 2 [(0, .ref (ad 23)), (1, .int a0)] := hl
  have hp2 := p2_256 hn8
  have hxn := plc_lt a0 hn0
  have hwx : w (plc a0 n) < 2 ^ 31 := by have := hw _ hxn; omega
  refine lv_aload_n hx hb dX3_reached_0 rfl (lv_at hl 0 rfl) ?_
  refine lv_aload_n hx hb dX3_reached_1 rfl (lv_at hl 0 rfl) ?_
  refine lv_iload_n hx hb dX3_reached_2 rfl (lv_at hl 1 rfl) ?_
  refine rdV (As := [.int a0]) (rest := [.ref (ad 23)]) ⟨hx, hb, hml, hown, hts⟩ (metX3_at l D cI cL ws ad n w h23 h24 hn0 (by omega) a0) (cwV 1 hts (lw_V q157 q159 qs3 q9 q160) rfl rfl rfl (by decide +kernel) ⟨Nat.le_of_ble_eq_true rfl, Nat.le_of_ble_eq_true rfl⟩) hC hP (va_recv hC.1 hP (ci := 3) (q0 := 23) rfl h23) rfl rfl hl.1 (Nat.le_of_ble_eq_true rfl) dX3_reached_3 ⟨Nat.zero_le _, Nat.zero_le _⟩ (fun r1 hr1 => ?_)
  subst hr1
  refine lv_iconst (v := nI 0) hx hb dX3_reached_6 (by decide) ?_
  refine rdV (As := [.int (nI (plc a0 n)), .int (nI 0)]) (rest := []) ⟨hx, hb, hml, hown, hts⟩ (metX3_reach l D cI cL ws ad n w h23 h24 (plc a0 n) 0 hn8 hxn hw) (cwV 2 hts (lw_V q172 q174 qs4 q9 q175) rfl rfl rfl (by decide +kernel) ⟨Nat.le_of_ble_eq_true rfl, Nat.le_of_ble_eq_true rfl⟩) hC hP (va_recv hC.1 hP (ci := 3) (q0 := 23) rfl h23) rfl rfl hl.1 (Nat.le_of_ble_eq_true rfl) dX3_reached_7 ⟨Nat.zero_le _, Nat.zero_le _⟩ (fun r4 hr4 => ?_)
  obtain ⟨rfl, hR⟩ := hr4
  exact W.iret (v := nI (Rf w n 0 (plc a0 n))) hx hb hr (fun t ht hW => ⟨nI (Rf w n 0 (plc a0 n)), rfl, rfl, ht⟩) (fun q h => by cases h) dX3_reached_10
set_option maxHeartbeats 4000000 in
set_option maxRecDepth 100000 in
theorem metX3_gates (l : Launch) (D : va_G) (cI cL : ClassId) (ws : va_W) (ad : Nat → Nat) (n : Nat) (w : Nat → Nat) (h23 : ws[23]? = some (ad 23, .inr (3, [.ref (ad 24), .int (nI n)]))) (h24 : ws[24]? = some (ad 24, .inl (cI, 8, .inl (fun j => nI (w j))))) (hn0 : 0 < n) (hn8 : n ≤ 8) (hw : WF w n) (a0 b0 : Int32) : Met l yX3_gates (ws_ yX3_gates cX3_gates 7 (some .int)) ({ frames := 1, cells := 0, slots := 0, locals := 25 }) (RdP D cI cL ws [.ref (ad 23), .int a0, .int b0]) (vp_Si (fun r : Int32 => ((Rf w n 0 (plc a0 n)).testBit (plc b0 n) = false ∧ r = -1) ∨ ((Rf w n 0 (plc a0 n)).testBit (plc b0 n) = true ∧ r = nI (gat w n (plc a0 n) (plc b0 n) n)))) 0 0 (fun _ => False) := by
  refine Met.ofW (cc := cX3_gates) (maxL := 7) (ret := (some .int)) (by decide) rfl ?_
  intro p e s m args below meth c s₁ B hml hv
  obtain ⟨rfl, hP, hC⟩ := hv
  have hx := B.exec
  have hb := B.bytes
  have hr := B.returns
  have hts := atoms_spec (ws := (ws_ yX3_gates cX3_gates 7 (some .int))) B.pre
  have hts : ∀ w ∈ lw_all, w.before _ s = true := fun w h => hts w (List.mem_cons_of_mem _ h)
  have hown : s.vm.findClass RX3 = some m.cls := findClass_of_methodNamed B.named
  have hlocks := B.notSynchronized
  have hl := lv_entry ([.ref (ad 23), .int a0, .int b0]) (n := 7) (Nat.le_of_ble_eq_true rfl)
  rw [lg_entry_eq]
  generalize (lg_sl ([.ref (ad 23), .int a0, .int b0]) ++ List.replicate (7 - (lg_sl ([.ref (ad 23), .int a0, .int b0])).length) Slot.unset).toArray = ls at hl ⊢
  have hl : lv_has ls 7 [(0, .ref (ad 23)), (1, .int a0), (2, .int b0)] := hl
  have hp2 := p2_256 hn8
  have hxn := plc_lt a0 hn0
  have hyn := plc_lt b0 hn0
  have hwx : w (plc a0 n) < 2 ^ 31 := by have := hw _ hxn; omega
  refine lv_aload_n hx hb dX3_gates_0 rfl (lv_at hl 0 rfl) ?_
  refine lv_iload_n hx hb dX3_gates_1 rfl (lv_at hl 1 rfl) ?_
  refine rdV (As := [.int a0]) (rest := []) ⟨hx, hb, hml, hown, hts⟩ (metX3_at l D cI cL ws ad n w h23 h24 hn0 (by omega) a0) (cwV 1 hts (lw_V q157 q159 qs3 q9 q160) rfl rfl rfl (by decide +kernel) ⟨Nat.le_of_ble_eq_true rfl, Nat.le_of_ble_eq_true rfl⟩) hC hP (va_recv hC.1 hP (ci := 3) (q0 := 23) rfl h23) rfl rfl hl.1 (Nat.le_of_ble_eq_true rfl) dX3_gates_2 ⟨Nat.zero_le _, Nat.zero_le _⟩ (fun r1 hr1 => ?_)
  subst hr1
  refine lv_istore_n (lv' := [(3, .int (nI (plc a0 n))), (0, .ref (ad 23)), (1, .int a0), (2, .int b0)]) hx hb dX3_gates_5 rfl hl (by decide) rfl (fun ls hl => ?_)
  refine lv_aload_n hx hb dX3_gates_6 rfl (lv_at hl 1 rfl) ?_
  refine lv_iload_n hx hb dX3_gates_7 rfl (lv_at hl 3 rfl) ?_
  refine rdV (As := [.int b0]) (rest := []) ⟨hx, hb, hml, hown, hts⟩ (metX3_at l D cI cL ws ad n w h23 h24 hn0 (by omega) b0) (cwV 1 hts (lw_V q157 q159 qs3 q9 q160) rfl rfl rfl (by decide +kernel) ⟨Nat.le_of_ble_eq_true rfl, Nat.le_of_ble_eq_true rfl⟩) hC hP (va_recv hC.1 hP (ci := 3) (q0 := 23) rfl h23) rfl rfl hl.1 (Nat.le_of_ble_eq_true rfl) dX3_gates_8 ⟨Nat.zero_le _, Nat.zero_le _⟩ (fun r2 hr2 => ?_)
  subst hr2
  refine lv_istore (lv' := [(4, .int (nI (plc b0 n))), (3, .int (nI (plc a0 n))), (0, .ref (ad 23)), (1, .int a0), (2, .int b0)]) hx hb dX3_gates_11 hl (by decide) rfl (fun ls hl => ?_)
  refine lv_iconst (v := nI 0) hx hb dX3_gates_13 (by decide) ?_
  refine lv_istore (lv' := [(5, .int (nI 0)), (4, .int (nI (plc b0 n))), (3, .int (nI (plc a0 n))), (0, .ref (ad 23)), (1, .int a0), (2, .int b0)]) hx hb dX3_gates_14 hl (by decide) rfl (fun ls hl => ?_)
  refine lv_aload_n hx hb dX3_gates_16 rfl (lv_at hl 3 rfl) ?_
  refine lv_iload_n hx hb dX3_gates_17 rfl (lv_at hl 2 rfl) ?_
  refine lv_iconst (v := nI 0) hx hb dX3_gates_18 (by decide) ?_
  refine rdV (As := [.int (nI (plc a0 n)), .int (nI 0)]) (rest := []) ⟨hx, hb, hml, hown, hts⟩ (metX3_reach l D cI cL ws ad n w h23 h24 (plc a0 n) 0 hn8 hxn hw) (cwV 2 hts (lw_V q172 q174 qs4 q9 q175) rfl rfl rfl (by decide +kernel) ⟨Nat.le_of_ble_eq_true rfl, Nat.le_of_ble_eq_true rfl⟩) hC hP (va_recv hC.1 hP (ci := 3) (q0 := 23) rfl h23) rfl rfl hl.1 (Nat.le_of_ble_eq_true rfl) dX3_gates_19 ⟨Nat.zero_le _, Nat.zero_le _⟩ (fun r4 hr4 => ?_)
  obtain ⟨rfl, hR⟩ := hr4
  have hRl := IsR_lt hw hxn hR
  refine lv_iload hx hb dX3_gates_22 (lv_at hl 1 rfl) ?_
  refine lv_ishr hx hb dX3_gates_24 ?_
  refine lv_iconst (v := nI 1) hx hb dX3_gates_25 (by decide) ?_
  refine lv_iand hx hb dX3_gates_26 (tp_ (z := nI (b01 (Nat.testBit (Rf w n 0 (plc a0 n)) (plc b0 n)))) (bn_bit (by first | assumption | omega) (by omega)) ?_)
  refine lv_if_ne (tgt := 32) hx hb dX3_gates_27 (by decide) (fun c_1 => ?_) (fun c_1 => ?_)
  · have hb1 := b01_t c_1
    refine lv_iconst (v := nI 0) hx hb dX3_gates_32 (by decide) ?_
    refine lv_istore (lv' := [(6, .int (nI 0)), (5, .int (nI 0)), (4, .int (nI (plc b0 n))), (3, .int (nI (plc a0 n))), (0, .ref (ad 23)), (1, .int a0), (2, .int b0)]) hx hb dX3_gates_33 hl (by decide) rfl (fun ls hl => ?_)
    have lp : ∀ (k v : Nat) (ls : Array Slot), n - v < k → v ≤ n → lv_has ls 7 [(0, .ref (ad 23)), (1, .int a0), (2, .int b0), (3, .int (nI (plc a0 n))), (4, .int (nI (plc b0 n))), (5, .int (nI (gat w n (plc a0 n) (plc b0 n) v))), (6, .int (nI v))] → W p l e (headSpec (ws_ yX3_gates cX3_gates 7 (some .int)) ({ frames := 1, cells := 0, slots := 0, locals := 25 })).room s m ([.ref (ad 23), .int a0, .int b0] : List Value).toArray below meth c s.heap [] 0 0 (MQ below (vp_Si (fun r : Int32 => ((Rf w n 0 (plc a0 n)).testBit (plc b0 n) = false ∧ r = -1) ∨ ((Rf w n 0 (plc a0 n)).testBit (plc b0 n) = true ∧ r = nI (gat w n (plc a0 n) (plc b0 n) n)))) ([.ref (ad 23), .int a0, .int b0] : List Value).toArray s 0 0 (fun _ => False)) (F0 m 35 ls []) := by
      intro k
      induction k with
      | zero => intro v ls h; exact absurd h (Nat.not_lt_zero _)
      | succ k ihlp =>
        intro v ls hk hvn hl
        refine lv_iload hx hb dX3_gates_35 (lv_at hl 6 rfl) ?_
        refine lv_aload_n hx hb dX3_gates_37 rfl (lv_at hl 0 rfl) ?_
        refine va_get (D := D) (ci := 3) (v := .int (nI n)) (C := RX3) (T := TX3) (N := 2) hx hb hts in_X3 hown hC.1 hP 23 h23 rfl 1 (by decide) (hts _ q142) (fun _ h9 => h9) rfl dX3_gates_38 ?_
        refine lv_icmp_ge (tgt := 89) hx hb dX3_gates_41 (by decide) (fun c_2 => ?_) (fun c_2 => ?_)
        · have e1 : v = n := Nat.le_antisymm hvn (nJ_le (by omega) (by omega) c_2)
          refine lv_iload hx hb dX3_gates_89 (lv_at hl 5 rfl) ?_
          exact W.iret (v := nI (gat w n (plc a0 n) (plc b0 n) v)) hx hb hr (fun t ht hW => ⟨nI (gat w n (plc a0 n) (plc b0 n) v), rfl, Or.inr ⟨hb1, by rw [e1]⟩, ht⟩) (fun q h => by cases h) dX3_gates_91
        · have hs : v < n := nJ_nle (by omega) (by omega) c_2
          refine lv_iload hx hb dX3_gates_44 (lv_at hl 6 rfl) ?_
          refine lv_iload_n hx hb dX3_gates_46 rfl (lv_at hl 3 rfl) ?_
          refine lv_icmp_eq (tgt := 83) hx hb dX3_gates_47 (by decide) (fun c_3 => ?_) (fun c_3 => ?_)
          · refine lv_iinc (v := nI (v + 1)) (lv' := [(6, .int (nI (v + 1))), (0, .ref (ad 23)), (1, .int a0), (2, .int b0), (3, .int (nI (plc a0 n))), (4, .int (nI (plc b0 n))), (5, .int (nI (gat w n (plc a0 n) (plc b0 n) v)))]) hx hb dX3_gates_83 hl (k := 6) rfl (th_in1 _) (by decide) rfl (fun ls hl => ?_)
            refine lv_goto (tgt := 35) hx hb dX3_gates_86 (by decide) ?_
            rw [show gat w n (plc a0 n) (plc b0 n) v = gat w n (plc a0 n) (plc b0 n) (v + 1) from (gat_no (fun q => q.1 (nI_i (by omega) (by omega) c_3))).symm] at hl
            exact ihlp _ ls (by omega) hs (lv_sub hl [1, 2, 3, 4, 5, 6, 0] rfl)
          · have hvx := nI_ni c_3
            refine lv_iload hx hb dX3_gates_50 (lv_at hl 6 rfl) ?_
            refine lv_iload hx hb dX3_gates_52 (lv_at hl 4 rfl) ?_
            refine lv_icmp_eq (tgt := 83) hx hb dX3_gates_54 (by decide) (fun c_4 => ?_) (fun c_4 => ?_)
            · refine lv_iinc (v := nI (v + 1)) (lv' := [(6, .int (nI (v + 1))), (0, .ref (ad 23)), (1, .int a0), (2, .int b0), (3, .int (nI (plc a0 n))), (4, .int (nI (plc b0 n))), (5, .int (nI (gat w n (plc a0 n) (plc b0 n) v)))]) hx hb dX3_gates_83 hl (k := 6) rfl (th_in1 _) (by decide) rfl (fun ls hl => ?_)
              refine lv_goto (tgt := 35) hx hb dX3_gates_86 (by decide) ?_
              rw [show gat w n (plc a0 n) (plc b0 n) v = gat w n (plc a0 n) (plc b0 n) (v + 1) from (gat_no (fun q => q.2.1 (nI_i (by omega) (by omega) c_4))).symm] at hl
              exact ihlp _ ls (by omega) hs (lv_sub hl [1, 2, 3, 4, 5, 6, 0] rfl)
            · have hvy := nI_ni c_4
              refine lv_aload_n hx hb dX3_gates_57 rfl (lv_at hl 0 rfl) ?_
              refine lv_iload_n hx hb dX3_gates_58 rfl (lv_at hl 3 rfl) ?_
              refine lv_iconst (v := nI 1) hx hb dX3_gates_59 (by decide) ?_
              refine lv_iload hx hb dX3_gates_60 (lv_at hl 6 rfl) ?_
              refine lv_ishl hx hb dX3_gates_62 (tp_ (z := nI (2 ^ v)) (bn_shl (by omega)) ?_)
              refine rdV (As := [.int (nI (plc a0 n)), .int (nI (2 ^ v))]) (rest := []) ⟨hx, hb, hml, hown, hts⟩ (metX3_reach l D cI cL ws ad n w h23 h24 (plc a0 n) (2 ^ v) hn8 hxn hw) (cwV 2 hts (lw_V q172 q174 qs4 q9 q175) rfl rfl rfl (by decide +kernel) ⟨Nat.le_of_ble_eq_true rfl, Nat.le_of_ble_eq_true rfl⟩) hC hP (va_recv hC.1 hP (ci := 3) (q0 := 23) rfl h23) rfl rfl hl.1 (Nat.le_of_ble_eq_true rfl) dX3_gates_63 ⟨Nat.zero_le _, Nat.zero_le _⟩ (fun r5 hr5 => ?_)
              obtain ⟨rfl, hR2⟩ := hr5
              have hRl2 := IsR_lt hw hxn hR2
              refine lv_iload hx hb dX3_gates_66 (lv_at hl 4 rfl) ?_
              refine lv_ishr hx hb dX3_gates_68 ?_
              refine lv_iconst (v := nI 1) hx hb dX3_gates_69 (by decide) ?_
              refine lv_iand hx hb dX3_gates_70 (tp_ (z := nI (b01 (Nat.testBit (Rf w n (2 ^ v) (plc a0 n)) (plc b0 n)))) (bn_bit (by first | assumption | omega) (by omega)) ?_)
              refine lv_if_ne (tgt := 83) hx hb dX3_gates_71 (by decide) (fun c_5 => ?_) (fun c_5 => ?_)
              · refine lv_iinc (v := nI (v + 1)) (lv' := [(6, .int (nI (v + 1))), (0, .ref (ad 23)), (1, .int a0), (2, .int b0), (3, .int (nI (plc a0 n))), (4, .int (nI (plc b0 n))), (5, .int (nI (gat w n (plc a0 n) (plc b0 n) v)))]) hx hb dX3_gates_83 hl (k := 6) rfl (th_in1 _) (by decide) rfl (fun ls hl => ?_)
                refine lv_goto (tgt := 35) hx hb dX3_gates_86 (by decide) ?_
                rw [show gat w n (plc a0 n) (plc b0 n) v = gat w n (plc a0 n) (plc b0 n) (v + 1) from (gat_no (fun q => c_5 (by rw [q.2.2]; rfl))).symm] at hl
                exact ihlp _ ls (by omega) hs (lv_sub hl [1, 2, 3, 4, 5, 6, 0] rfl)
              · refine lv_iload hx hb dX3_gates_74 (lv_at hl 5 rfl) ?_
                refine lv_iconst (v := nI 1) hx hb dX3_gates_76 (by decide) ?_
                refine lv_iload hx hb dX3_gates_77 (lv_at hl 6 rfl) ?_
                refine lv_ishl hx hb dX3_gates_79 (tp_ (z := nI (2 ^ v)) (bn_shl (by omega)) ?_)
                refine lv_ior hx hb dX3_gates_80 (tp_ (z := nI ((gat w n (plc a0 n) (plc b0 n) v) ||| (2 ^ v))) (bn_or _ _) ?_)
                refine lv_istore (lv' := [(5, .int (nI ((gat w n (plc a0 n) (plc b0 n) v) ||| (2 ^ v)))), (0, .ref (ad 23)), (1, .int a0), (2, .int b0), (3, .int (nI (plc a0 n))), (4, .int (nI (plc b0 n))), (6, .int (nI v))]) hx hb dX3_gates_81 hl (by decide) rfl (fun ls hl => ?_)
                refine lv_iinc (v := nI (v + 1)) (lv' := [(6, .int (nI (v + 1))), (5, .int (nI ((gat w n (plc a0 n) (plc b0 n) v) ||| (2 ^ v)))), (0, .ref (ad 23)), (1, .int a0), (2, .int b0), (3, .int (nI (plc a0 n))), (4, .int (nI (plc b0 n)))]) hx hb dX3_gates_83 hl (k := 6) rfl (th_in1 _) (by decide) rfl (fun ls hl => ?_)
                refine lv_goto (tgt := 35) hx hb dX3_gates_86 (by decide) ?_
                rw [← gat_yes hvx hvy (bit01 c_5)] at hl
                exact ihlp _ ls (by omega) hs (lv_sub hl [2, 3, 4, 5, 6, 1, 0] rfl)
    exact lp (n + 1) 0 ls (by omega) (Nat.zero_le _) (lv_sub hl [4, 5, 6, 3, 2, 1, 0] rfl)
  · have hb1 := bit01 c_1
    refine lv_iconst (v := -1) hx hb dX3_gates_30 (by decide) ?_
    exact W.iret (v := -1) hx hb hr (fun t ht hW => ⟨-1, rfl, Or.inl ⟨hb1, rfl⟩, ht⟩) (fun q h => by cases h) dX3_gates_31
set_option maxHeartbeats 4000000 in
set_option maxRecDepth 100000 in
theorem metX3_rings (l : Launch) (D : va_G) (cI cL : ClassId) (ws : va_W) (ad : Nat → Nat) (n : Nat) (w : Nat → Nat) (h23 : ws[23]? = some (ad 23, .inr (3, [.ref (ad 24), .int (nI n)]))) (h24 : ws[24]? = some (ad 24, .inl (cI, 8, .inl (fun j => nI (w j))))) (hn0 : 0 < n) (hn8 : n ≤ 8) (hw : WF w n) : Met l yX3_rings (ws_ yX3_rings cX3_rings 6 (some .int)) ({ frames := 1, cells := 0, slots := 0, locals := 25 }) (RdP D cI cL ws [.ref (ad 23)]) (vp_Si (fun r : Int32 => r = nI (rct w n n).1)) 0 0 (fun _ => False) := by
  refine Met.ofW (cc := cX3_rings) (maxL := 6) (ret := (some .int)) (by decide) rfl ?_
  intro p e s m args below meth c s₁ B hml hv
  obtain ⟨rfl, hP, hC⟩ := hv
  have hx := B.exec
  have hb := B.bytes
  have hr := B.returns
  have hts := atoms_spec (ws := (ws_ yX3_rings cX3_rings 6 (some .int))) B.pre
  have hts : ∀ w ∈ lw_all, w.before _ s = true := fun w h => hts w (List.mem_cons_of_mem _ h)
  have hown : s.vm.findClass RX3 = some m.cls := findClass_of_methodNamed B.named
  have hlocks := B.notSynchronized
  have hl := lv_entry ([.ref (ad 23)]) (n := 6) (Nat.le_of_ble_eq_true rfl)
  rw [lg_entry_eq]
  generalize (lg_sl ([.ref (ad 23)]) ++ List.replicate (6 - (lg_sl ([.ref (ad 23)])).length) Slot.unset).toArray = ls at hl ⊢
  have hl : lv_has ls 6 [(0, .ref (ad 23))] := hl
  have hp2 := p2_256 hn8
  refine lv_iconst (v := nI 0) hx hb dX3_rings_0 (by decide) ?_
  refine lv_istore_n (lv' := [(1, .int (nI 0)), (0, .ref (ad 23))]) hx hb dX3_rings_1 rfl hl (by decide) rfl (fun ls hl => ?_)
  refine lv_iconst (v := nI 0) hx hb dX3_rings_2 (by decide) ?_
  refine lv_istore_n (lv' := [(2, .int (nI 0)), (1, .int (nI 0)), (0, .ref (ad 23))]) hx hb dX3_rings_3 rfl hl (by decide) rfl (fun ls hl => ?_)
  refine lv_iconst (v := nI 0) hx hb dX3_rings_4 (by decide) ?_
  refine lv_istore_n (lv' := [(3, .int (nI 0)), (2, .int (nI 0)), (1, .int (nI 0)), (0, .ref (ad 23))]) hx hb dX3_rings_5 rfl hl (by decide) rfl (fun ls hl => ?_)
  have lp : ∀ (k v : Nat) (ls : Array Slot), n - v < k → v ≤ n → lv_has ls 6 [(0, .ref (ad 23)), (1, .int (nI ((rct w n v).1))), (2, .int (nI ((rct w n v).2))), (3, .int (nI v))] → W p l e (headSpec (ws_ yX3_rings cX3_rings 6 (some .int)) ({ frames := 1, cells := 0, slots := 0, locals := 25 })).room s m ([.ref (ad 23)] : List Value).toArray below meth c s.heap [] 0 0 (MQ below (vp_Si (fun r : Int32 => r = nI (rct w n n).1)) ([.ref (ad 23)] : List Value).toArray s 0 0 (fun _ => False)) (F0 m 6 ls []) := by
    intro k
    induction k with
    | zero => intro v ls h; exact absurd h (Nat.not_lt_zero _)
    | succ k ihlp =>
      intro v ls hk hvn hl
      have hd := rct_lt w n v
      refine lv_iload_n hx hb dX3_rings_6 rfl (lv_at hl 3 rfl) ?_
      refine lv_aload_n hx hb dX3_rings_7 rfl (lv_at hl 0 rfl) ?_
      refine va_get (D := D) (ci := 3) (v := .int (nI n)) (C := RX3) (T := TX3) (N := 2) hx hb hts in_X3 hown hC.1 hP 23 h23 rfl 1 (by decide) (hts _ q142) (fun _ h9 => h9) rfl dX3_rings_8 ?_
      refine lv_icmp_ge (tgt := 89) hx hb dX3_rings_11 (by decide) (fun c_2 => ?_) (fun c_2 => ?_)
      · have e1 : v = n := Nat.le_antisymm hvn (nJ_le (by omega) (by omega) c_2)
        refine lv_iload_n hx hb dX3_rings_89 rfl (lv_at hl 1 rfl) ?_
        exact W.iret (v := nI ((rct w n v).1)) hx hb hr (fun t ht hW => ⟨nI ((rct w n v).1), rfl, by rw [e1], ht⟩) (fun q h => by cases h) dX3_rings_90
      · have hs : v < n := nJ_nle (by omega) (by omega) c_2
        refine lv_iload_n hx hb dX3_rings_14 rfl (lv_at hl 2 rfl) ?_
        refine lv_iload_n hx hb dX3_rings_15 rfl (lv_at hl 3 rfl) ?_
        refine lv_ishr hx hb dX3_rings_16 ?_
        refine lv_iconst (v := nI 1) hx hb dX3_rings_17 (by decide) ?_
        refine lv_iand hx hb dX3_rings_18 (tp_ (z := nI (b01 (Nat.testBit ((rct w n v).2) v))) (bn_bit (by first | assumption | omega) (by omega)) ?_)
        refine lv_if_ne (tgt := 83) hx hb dX3_rings_19 (by decide) (fun c_3 => ?_) (fun c_3 => ?_)
        · refine lv_iinc (v := nI (v + 1)) (lv' := [(3, .int (nI (v + 1))), (0, .ref (ad 23)), (1, .int (nI ((rct w n v).1))), (2, .int (nI ((rct w n v).2)))]) hx hb dX3_rings_83 hl (k := 3) rfl (th_in1 _) (by decide) rfl (fun ls hl => ?_)
          refine lv_goto (tgt := 6) hx hb dX3_rings_86 (by decide) ?_
          rw [show rct w n v = rct w n (v + 1) from (rct_no (b01_t c_3)).symm] at hl
          exact ihlp _ ls (by omega) hs (lv_sub hl [1, 2, 3, 0] rfl)
        · have hb0 := bit01 c_3
          refine lv_iload_n hx hb dX3_rings_22 rfl (lv_at hl 1 rfl) ?_
          refine lv_iconst (v := nI 1) hx hb dX3_rings_23 (by decide) ?_
          refine lv_iadd hx hb dX3_rings_24 (tp_ (z := nI (((rct w n v).1) + 1)) (nI_add _ _) ?_)
          refine lv_istore_n (lv' := [(1, .int (nI (((rct w n v).1) + 1))), (0, .ref (ad 23)), (2, .int (nI ((rct w n v).2))), (3, .int (nI v))]) hx hb dX3_rings_25 rfl hl (by decide) rfl (fun ls hl => ?_)
          refine lv_aload_n hx hb dX3_rings_26 rfl (lv_at hl 1 rfl) ?_
          refine lv_iload_n hx hb dX3_rings_27 rfl (lv_at hl 3 rfl) ?_
          refine lv_iconst (v := nI 0) hx hb dX3_rings_28 (by decide) ?_
          refine rdV (As := [.int (nI v), .int (nI 0)]) (rest := []) ⟨hx, hb, hml, hown, hts⟩ (metX3_reach l D cI cL ws ad n w h23 h24 v 0 hn8 hs hw) (cwV 2 hts (lw_V q172 q174 qs4 q9 q175) rfl rfl rfl (by decide +kernel) ⟨Nat.le_of_ble_eq_true rfl, Nat.le_of_ble_eq_true rfl⟩) hC hP (va_recv hC.1 hP (ci := 3) (q0 := 23) rfl h23) rfl rfl hl.1 (Nat.le_of_ble_eq_true rfl) dX3_rings_29 ⟨Nat.zero_le _, Nat.zero_le _⟩ (fun r5 hr5 => ?_)
          obtain ⟨rfl, hR⟩ := hr5
          have hRl := IsR_lt hw hs hR
          refine lv_istore (lv' := [(4, .int (nI (Rf w n 0 v))), (1, .int (nI (((rct w n v).1) + 1))), (0, .ref (ad 23)), (2, .int (nI ((rct w n v).2))), (3, .int (nI v))]) hx hb dX3_rings_32 hl (by decide) rfl (fun ls hl => ?_)
          refine lv_iconst (v := nI 0) hx hb dX3_rings_34 (by decide) ?_
          refine lv_istore (lv' := [(5, .int (nI 0)), (4, .int (nI (Rf w n 0 v))), (1, .int (nI (((rct w n v).1) + 1))), (0, .ref (ad 23)), (2, .int (nI ((rct w n v).2))), (3, .int (nI v))]) hx hb dX3_rings_35 hl (by decide) rfl (fun ls hl => ?_)
          have l2 : ∀ (k u : Nat) (ls : Array Slot), n - u < k → u ≤ n → lv_has ls 6 [(0, .ref (ad 23)), (1, .int (nI ((rct w n v).1 + 1))), (2, .int (nI (rin w n v (Rf w n 0 v) (rct w n v).2 u))), (3, .int (nI v)), (4, .int (nI (Rf w n 0 v))), (5, .int (nI u))] → W p l e (headSpec (ws_ yX3_rings cX3_rings 6 (some .int)) ({ frames := 1, cells := 0, slots := 0, locals := 25 })).room s m ([.ref (ad 23)] : List Value).toArray below meth c s.heap [] 0 0 (MQ below (vp_Si (fun r : Int32 => r = nI (rct w n n).1)) ([.ref (ad 23)] : List Value).toArray s 0 0 (fun _ => False)) (F0 m 37 ls []) := by
            intro k
            induction k with
            | zero => intro u ls h; exact absurd h (Nat.not_lt_zero _)
            | succ k ihl2 =>
              intro u ls hk hun hl
              have hd2 := rin_lt (w := w) (v := v) (r := Rf w n 0 v) hd u hun
              refine lv_iload hx hb dX3_rings_37 (lv_at hl 5 rfl) ?_
              refine lv_aload_n hx hb dX3_rings_39 rfl (lv_at hl 0 rfl) ?_
              refine va_get (D := D) (ci := 3) (v := .int (nI n)) (C := RX3) (T := TX3) (N := 2) hx hb hts in_X3 hown hC.1 hP 23 h23 rfl 1 (by decide) (hts _ q142) (fun _ h9 => h9) rfl dX3_rings_40 ?_
              refine lv_icmp_ge (tgt := 83) hx hb dX3_rings_43 (by decide) (fun c_4 => ?_) (fun c_4 => ?_)
              · have e1 : u = n := Nat.le_antisymm hun (nJ_le (by omega) (by omega) c_4)
                refine lv_iinc (v := nI (v + 1)) (lv' := [(3, .int (nI (v + 1))), (0, .ref (ad 23)), (1, .int (nI ((rct w n v).1 + 1))), (2, .int (nI (rin w n v (Rf w n 0 v) (rct w n v).2 u))), (4, .int (nI (Rf w n 0 v))), (5, .int (nI u))]) hx hb dX3_rings_83 hl (k := 3) rfl (th_in1 _) (by decide) rfl (fun ls hl => ?_)
                refine lv_goto (tgt := 6) hx hb dX3_rings_86 (by decide) ?_
                refine ihlp (v + 1) ls (by omega) hs ?_
                rw [rct_yes hb0]
                rw [e1] at hl
                exact lv_sub hl [1, 2, 3, 0] rfl
              · have hu : u < n := nJ_nle (by omega) (by omega) c_4
                refine lv_iload hx hb dX3_rings_46 (lv_at hl 4 rfl) ?_
                refine lv_iload hx hb dX3_rings_48 (lv_at hl 5 rfl) ?_
                refine lv_ishr hx hb dX3_rings_50 ?_
                refine lv_iconst (v := nI 1) hx hb dX3_rings_51 (by decide) ?_
                refine lv_iand hx hb dX3_rings_52 (tp_ (z := nI (b01 (Nat.testBit (Rf w n 0 v) u))) (bn_bit (by first | assumption | omega) (by omega)) ?_)
                refine lv_if_eq (tgt := 77) hx hb dX3_rings_53 (by decide) (fun c_5 => ?_) (fun c_5 => ?_)
                · refine lv_iinc (v := nI (u + 1)) (lv' := [(5, .int (nI (u + 1))), (0, .ref (ad 23)), (1, .int (nI ((rct w n v).1 + 1))), (2, .int (nI (rin w n v (Rf w n 0 v) (rct w n v).2 u))), (3, .int (nI v)), (4, .int (nI (Rf w n 0 v)))]) hx hb dX3_rings_77 hl (k := 5) rfl (th_in1 _) (by decide) rfl (fun ls hl => ?_)
                  refine lv_goto (tgt := 37) hx hb dX3_rings_80 (by decide) ?_
                  rw [← rin_no (d := (rct w n v).2) (fun q => absurd q.1 (by rw [bit01 c_5]; simp))] at hl
                  exact ihl2 _ ls (by omega) hu (lv_sub hl [1, 2, 3, 4, 5, 0] rfl)
                · have hb5 := b01_t c_5
                  refine lv_aload_n hx hb dX3_rings_56 rfl (lv_at hl 0 rfl) ?_
                  refine lv_iload hx hb dX3_rings_57 (lv_at hl 5 rfl) ?_
                  refine lv_iconst (v := nI 0) hx hb dX3_rings_59 (by decide) ?_
                  refine rdV (As := [.int (nI u), .int (nI 0)]) (rest := []) ⟨hx, hb, hml, hown, hts⟩ (metX3_reach l D cI cL ws ad n w h23 h24 u 0 hn8 hu hw) (cwV 2 hts (lw_V q172 q174 qs4 q9 q175) rfl rfl rfl (by decide +kernel) ⟨Nat.le_of_ble_eq_true rfl, Nat.le_of_ble_eq_true rfl⟩) hC hP (va_recv hC.1 hP (ci := 3) (q0 := 23) rfl h23) rfl rfl hl.1 (Nat.le_of_ble_eq_true rfl) dX3_rings_60 ⟨Nat.zero_le _, Nat.zero_le _⟩ (fun r6 hr6 => ?_)
                  obtain ⟨rfl, hR2⟩ := hr6
                  have hRl2 := IsR_lt hw hu hR2
                  refine lv_iload_n hx hb dX3_rings_63 rfl (lv_at hl 3 rfl) ?_
                  refine lv_ishr hx hb dX3_rings_64 ?_
                  refine lv_iconst (v := nI 1) hx hb dX3_rings_65 (by decide) ?_
                  refine lv_iand hx hb dX3_rings_66 (tp_ (z := nI (b01 (Nat.testBit (Rf w n 0 u) v))) (bn_bit (by first | assumption | omega) (by omega)) ?_)
                  refine lv_if_eq (tgt := 77) hx hb dX3_rings_67 (by decide) (fun c_6 => ?_) (fun c_6 => ?_)
                  · refine lv_iinc (v := nI (u + 1)) (lv' := [(5, .int (nI (u + 1))), (0, .ref (ad 23)), (1, .int (nI ((rct w n v).1 + 1))), (2, .int (nI (rin w n v (Rf w n 0 v) (rct w n v).2 u))), (3, .int (nI v)), (4, .int (nI (Rf w n 0 v)))]) hx hb dX3_rings_77 hl (k := 5) rfl (th_in1 _) (by decide) rfl (fun ls hl => ?_)
                    refine lv_goto (tgt := 37) hx hb dX3_rings_80 (by decide) ?_
                    rw [← rin_no (d := (rct w n v).2) (fun q => absurd q.2 (by rw [bit01 c_6]; simp))] at hl
                    exact ihl2 _ ls (by omega) hu (lv_sub hl [1, 2, 3, 4, 5, 0] rfl)
                  · refine lv_iload_n hx hb dX3_rings_70 rfl (lv_at hl 2 rfl) ?_
                    refine lv_iconst (v := nI 1) hx hb dX3_rings_71 (by decide) ?_
                    refine lv_iload hx hb dX3_rings_72 (lv_at hl 5 rfl) ?_
                    refine lv_ishl hx hb dX3_rings_74 (tp_ (z := nI (2 ^ u)) (bn_shl (by omega)) ?_)
                    refine lv_ior hx hb dX3_rings_75 (tp_ (z := nI ((rin w n v (Rf w n 0 v) (rct w n v).2 u) ||| (2 ^ u))) (bn_or _ _) ?_)
                    refine lv_istore_n (lv' := [(2, .int (nI ((rin w n v (Rf w n 0 v) (rct w n v).2 u) ||| (2 ^ u)))), (0, .ref (ad 23)), (1, .int (nI ((rct w n v).1 + 1))), (3, .int (nI v)), (4, .int (nI (Rf w n 0 v))), (5, .int (nI u))]) hx hb dX3_rings_76 rfl hl (by decide) rfl (fun ls hl => ?_)
                    refine lv_iinc (v := nI (u + 1)) (lv' := [(5, .int (nI (u + 1))), (2, .int (nI ((rin w n v (Rf w n 0 v) (rct w n v).2 u) ||| (2 ^ u)))), (0, .ref (ad 23)), (1, .int (nI ((rct w n v).1 + 1))), (3, .int (nI v)), (4, .int (nI (Rf w n 0 v)))]) hx hb dX3_rings_77 hl (k := 5) rfl (th_in1 _) (by decide) rfl (fun ls hl => ?_)
                    refine lv_goto (tgt := 37) hx hb dX3_rings_80 (by decide) ?_
                    rw [← rin_yes hb5 (b01_t c_6)] at hl
                    exact ihl2 _ ls (by omega) hu (lv_sub hl [2, 3, 1, 4, 5, 0] rfl)
          exact l2 (n + 1) 0 ls (by omega) (Nat.zero_le _) (lv_sub hl [3, 2, 4, 5, 1, 0] rfl)
  exact lp (n + 1) 0 ls (by omega) (Nat.zero_le _) (lv_sub hl [3, 2, 1, 0] rfl)
end
section
set_option maxRecDepth 100000
set_option maxHeartbeats 4000000 in
set_option maxRecDepth 100000 in
theorem metX0_near (l : Launch) (D : va_G) (cI cL : ClassId) (ws : va_W) (ad : Nat → Nat) (n : Nat) (w : Nat → Nat) (h0 : ws[0]? = some (ad 0, .inr (0, [.ref (ad 1), .ref (ad 3)]))) (h1 : ws[1]? = some (ad 1, .inr (1, [.ref (ad 2), .int (nI n)]))) (h2 : ws[2]? = some (ad 2, .inl (cI, 8, .inl (fun j => nI (w j))))) (x y : Nat) (hx8 : x < 8) (hy8 : y < 8) (hwx : w x < 2 ^ 31) : Met l yX0_near (ws_ yX0_near cX0_near 3 (some .boolean)) ({ frames := 1, cells := 0, slots := 0, locals := 22 }) (RdP D cI cL ws [.ref (ad 0), .int (nI x), .int (nI y)]) (vp_Si (fun r : Int32 => r = nI (b01 (decide (x = y) || (w x).testBit y)))) 0 0 (fun _ => False) := by
  refine Met.ofW (cc := cX0_near) (maxL := 3) (ret := (some .boolean)) (by decide) rfl ?_
  intro p e s m args below meth c s₁ B hml hv
  obtain ⟨rfl, hP, hC⟩ := hv
  have hx := B.exec
  have hb := B.bytes
  have hr := B.returns
  have hts := atoms_spec (ws := (ws_ yX0_near cX0_near 3 (some .boolean))) B.pre
  have hts : ∀ w ∈ lw_all, w.before _ s = true := fun w h => hts w (List.mem_cons_of_mem _ h)
  have hown : s.vm.findClass RX0 = some m.cls := findClass_of_methodNamed B.named
  have hlocks := B.notSynchronized
  have hl := lv_entry ([.ref (ad 0), .int (nI x), .int (nI y)]) (n := 3) (Nat.le_of_ble_eq_true rfl)
  rw [lg_entry_eq]
  generalize (lg_sl ([.ref (ad 0), .int (nI x), .int (nI y)]) ++ List.replicate (3 - (lg_sl ([.ref (ad 0), .int (nI x), .int (nI y)])).length) Slot.unset).toArray = ls at hl ⊢
  have hl : lv_has ls 3 [(0, .ref (ad 0)), (1, .int (nI x)), (2, .int (nI y))] := hl
  refine lv_iload_n hx hb dX0_near_0 rfl (lv_at hl 1 rfl) ?_
  refine lv_iload_n hx hb dX0_near_1 rfl (lv_at hl 2 rfl) ?_
  refine lv_icmp_eq (tgt := 17) hx hb dX0_near_2 (by decide) (fun c_1 => ?_) (fun c_1 => ?_)
  · have e0 := nI_i (by omega) (by omega) c_1
    refine lv_iconst (v := nI 1) hx hb dX0_near_17 (by decide) ?_
    refine lv_goto (tgt := 22) hx hb dX0_near_18 (by decide) ?_
    exact W.zret (v := nI 1) hx hb hr rfl (fun t ht hW => ⟨nI 1, rfl, by rw [decide_eq_true e0]; rfl, ht⟩) (fun q h => by cases h) dX0_near_22
  · have hne := nI_ni c_1
    refine lv_aload_n hx hb dX0_near_5 rfl (lv_at hl 0 rfl) ?_
    refine va_get (D := D) (ci := 0) (v := .ref (ad 1)) (C := RX0) (T := TX0) (N := 2) hx hb hts in_X0 hown hC.1 hP 0 h0 rfl 0 (by decide) (hts _ q61) (fun _ h9 => h9) rfl dX0_near_6 ?_
    refine lv_iload_n hx hb dX0_near_9 rfl (lv_at hl 1 rfl) ?_
    refine lv_iload_n hx hb dX0_near_10 rfl (lv_at hl 2 rfl) ?_
    refine rdV (As := [.int (nI x), .int (nI y)]) (rest := []) ⟨hx, hb, hml, hown, hts⟩ (metX1_has l D cI cL ws ad n w h1 h2 x y hx8 (by omega) hwx) (cwV 2 hts (lw_V q94 q95 q96 q7 q97) rfl rfl rfl (by decide +kernel) ⟨Nat.le_of_ble_eq_true rfl, Nat.le_of_ble_eq_true rfl⟩) hC hP (va_recv hC.1 hP (ci := 1) (q0 := 1) rfl h1) rfl rfl hl.1 (Nat.le_of_ble_eq_true rfl) dX0_near_11 ⟨Nat.zero_le _, Nat.zero_le _⟩ (fun r1 hr1 => ?_)
    subst hr1
    refine lv_if_eq (tgt := 21) hx hb dX0_near_14 (by decide) (fun c_2 => ?_) (fun c_2 => ?_)
    · refine lv_iconst (v := nI 0) hx hb dX0_near_21 (by decide) ?_
      exact W.zret (v := nI 0) hx hb hr rfl (fun t ht hW => ⟨nI 0, rfl, by rw [decide_eq_false hne, bit01 c_2]; rfl, ht⟩) (fun q h => by cases h) dX0_near_22
    · refine lv_iconst (v := nI 1) hx hb dX0_near_17 (by decide) ?_
      refine lv_goto (tgt := 22) hx hb dX0_near_18 (by decide) ?_
      exact W.zret (v := nI 1) hx hb hr rfl (fun t ht hW => ⟨nI 1, rfl, by rw [b01_t c_2, Bool.or_true]; rfl, ht⟩) (fun q h => by cases h) dX0_near_22
set_option maxHeartbeats 4000000 in
set_option maxRecDepth 100000 in
theorem metX0_reached (l : Launch) (D : va_G) (cI cL : ClassId) (ws : va_W) (ad : Nat → Nat) (n : Nat) (w : Nat → Nat) (h0 : ws[0]? = some (ad 0, .inr (0, [.ref (ad 1), .ref (ad 3)]))) (h1 : ws[1]? = some (ad 1, .inr (1, [.ref (ad 2), .int (nI n)]))) (h2 : ws[2]? = some (ad 2, .inl (cI, 8, .inl (fun j => nI (w j))))) (hn0 : 0 < n) (hn8 : n ≤ 8) (hw : WF w n) (a0 : Int32) : Met l yX0_reached (ws_ yX0_reached cX0_reached 2 (some .int)) ({ frames := 2, cells := 0, slots := 0, locals := 47 }) (RdP D cI cL ws [.ref (ad 0), .int a0]) (vp_Si (fun r : Int32 => r = nI (Rf w n 0 (plc a0 n)))) 0 0 (fun _ => False) := by
  refine Met.ofW (cc := cX0_reached) (maxL := 2) (ret := (some .int)) (by decide) rfl ?_
  intro p e s m args below meth c s₁ B hml hv
  obtain ⟨rfl, hP, hC⟩ := hv
  have hx := B.exec
  have hb := B.bytes
  have hr := B.returns
  have hts := atoms_spec (ws := (ws_ yX0_reached cX0_reached 2 (some .int))) B.pre
  have hts : ∀ w ∈ lw_all, w.before _ s = true := fun w h => hts w (List.mem_cons_of_mem _ h)
  have hown : s.vm.findClass RX0 = some m.cls := findClass_of_methodNamed B.named
  have hlocks := B.notSynchronized
  have hl := lv_entry ([.ref (ad 0), .int a0]) (n := 2) (Nat.le_of_ble_eq_true rfl)
  rw [lg_entry_eq]
  generalize (lg_sl ([.ref (ad 0), .int a0]) ++ List.replicate (2 - (lg_sl ([.ref (ad 0), .int a0])).length) Slot.unset).toArray = ls at hl ⊢
  have hl : lv_has ls 2 [(0, .ref (ad 0)), (1, .int a0)] := hl
  have hp2 := p2_256 hn8
  have hxn := plc_lt a0 hn0
  have hwx : w (plc a0 n) < 2 ^ 31 := by have := hw _ hxn; omega
  refine lv_aload_n hx hb dX0_reached_0 rfl (lv_at hl 0 rfl) ?_
  refine va_get (D := D) (ci := 0) (v := .ref (ad 1)) (C := RX0) (T := TX0) (N := 2) hx hb hts in_X0 hown hC.1 hP 0 h0 rfl 0 (by decide) (hts _ q61) (fun _ h9 => h9) rfl dX0_reached_1 ?_
  refine lv_aload_n hx hb dX0_reached_4 rfl (lv_at hl 0 rfl) ?_
  refine va_get (D := D) (ci := 0) (v := .ref (ad 1)) (C := RX0) (T := TX0) (N := 2) hx hb hts in_X0 hown hC.1 hP 0 h0 rfl 0 (by decide) (hts _ q61) (fun _ h9 => h9) rfl dX0_reached_5 ?_
  refine lv_iload_n hx hb dX0_reached_8 rfl (lv_at hl 1 rfl) ?_
  refine rdV (As := [.int a0]) (rest := [.ref (ad 1)]) ⟨hx, hb, hml, hown, hts⟩ (metX1_place l D cI cL ws ad n h1 hn0 (by omega) a0) (cwV 1 hts (lw_V q77 q78 q79 q7 q80) rfl rfl rfl (by decide +kernel) ⟨Nat.le_of_ble_eq_true rfl, Nat.le_of_ble_eq_true rfl⟩) hC hP (va_recv hC.1 hP (ci := 1) (q0 := 1) rfl h1) rfl rfl hl.1 (Nat.le_of_ble_eq_true rfl) dX0_reached_9 ⟨Nat.zero_le _, Nat.zero_le _⟩ (fun r1 hr1 => ?_)
  subst hr1
  refine lv_iconst (v := nI 1) hx hb dX0_reached_12 (by decide) ?_
  refine lv_aload_n hx hb dX0_reached_13 rfl (lv_at hl 0 rfl) ?_
  refine va_get (D := D) (ci := 0) (v := .ref (ad 1)) (C := RX0) (T := TX0) (N := 2) hx hb hts in_X0 hown hC.1 hP 0 h0 rfl 0 (by decide) (hts _ q61) (fun _ h9 => h9) rfl dX0_reached_14 ?_
  refine va_getN (D := D) (ci := 1) (v := .int (nI n)) (C := RX1) (T := TX1) (N := 2) hx hb hts in_X1 hown hC.1 hP 1 h1 rfl 1 (by decide) (va_Nw.use rfl hC.2.1.2.1) (fun _ h9 => h9) rfl dX0_reached_17 ?_
  refine lv_ishl hx hb dX0_reached_20 (tp_ (z := nI (2 ^ n)) (bn_shl (by omega)) ?_)
  refine lv_iconst (v := nI 1) hx hb dX0_reached_21 (by decide) ?_
  refine lv_isub hx hb dX0_reached_22 (tp_ (z := nI (2 ^ n - 1)) (bn_mask (by omega)) ?_)
  refine rdV (As := [.int (nI (plc a0 n)), .int (nI (2 ^ n - 1))]) (rest := []) ⟨hx, hb, hml, hown, hts⟩ (metX1_reached l D cI cL ws ad n w h1 h2 (plc a0 n) (2 ^ n - 1) 0 hn8 hxn hw all_t) (cwV 2 hts (lw_V q119 q120 q121 q7 q122) rfl rfl rfl (by decide +kernel) ⟨Nat.le_of_ble_eq_true rfl, Nat.le_of_ble_eq_true rfl⟩) hC hP (va_recv hC.1 hP (ci := 1) (q0 := 1) rfl h1) rfl rfl hl.1 (Nat.le_of_ble_eq_true rfl) dX0_reached_23 ⟨Nat.zero_le _, Nat.zero_le _⟩ (fun r4 hr4 => ?_)
  obtain ⟨rfl, hR⟩ := hr4
  exact W.iret (v := nI (Rf w n 0 (plc a0 n))) hx hb hr (fun t ht hW => ⟨nI (Rf w n 0 (plc a0 n)), rfl, rfl, ht⟩) (fun q h => by cases h) dX0_reached_26
set_option maxHeartbeats 4000000 in
set_option maxRecDepth 100000 in
theorem metX0_gates (l : Launch) (D : va_G) (cI cL : ClassId) (ws : va_W) (ad : Nat → Nat) (n : Nat) (w : Nat → Nat) (h0 : ws[0]? = some (ad 0, .inr (0, [.ref (ad 1), .ref (ad 3)]))) (h1 : ws[1]? = some (ad 1, .inr (1, [.ref (ad 2), .int (nI n)]))) (h2 : ws[2]? = some (ad 2, .inl (cI, 8, .inl (fun j => nI (w j))))) (hn0 : 0 < n) (hn8 : n ≤ 8) (hw : WF w n) (a0 b0 : Int32) : Met l yX0_gates (ws_ yX0_gates cX0_gates 8 (some .int)) ({ frames := 2, cells := 0, slots := 0, locals := 47 }) (RdP D cI cL ws [.ref (ad 0), .int a0, .int b0]) (vp_Si (fun r : Int32 => ((Rf w n 0 (plc a0 n)).testBit (plc b0 n) = false ∧ r = -1) ∨ ((Rf w n 0 (plc a0 n)).testBit (plc b0 n) = true ∧ r = nI (gat w n (plc a0 n) (plc b0 n) n)))) 0 0 (fun _ => False) := by
  refine Met.ofW (cc := cX0_gates) (maxL := 8) (ret := (some .int)) (by decide) rfl ?_
  intro p e s m args below meth c s₁ B hml hv
  obtain ⟨rfl, hP, hC⟩ := hv
  have hx := B.exec
  have hb := B.bytes
  have hr := B.returns
  have hts := atoms_spec (ws := (ws_ yX0_gates cX0_gates 8 (some .int))) B.pre
  have hts : ∀ w ∈ lw_all, w.before _ s = true := fun w h => hts w (List.mem_cons_of_mem _ h)
  have hown : s.vm.findClass RX0 = some m.cls := findClass_of_methodNamed B.named
  have hlocks := B.notSynchronized
  have hl := lv_entry ([.ref (ad 0), .int a0, .int b0]) (n := 8) (Nat.le_of_ble_eq_true rfl)
  rw [lg_entry_eq]
  generalize (lg_sl ([.ref (ad 0), .int a0, .int b0]) ++ List.replicate (8 - (lg_sl ([.ref (ad 0), .int a0, .int b0])).length) Slot.unset).toArray = ls at hl ⊢
  have hl : lv_has ls 8 [(0, .ref (ad 0)), (1, .int a0), (2, .int b0)] := hl
  have hp2 := p2_256 hn8
  have hxn := plc_lt a0 hn0
  have hyn := plc_lt b0 hn0
  have hwx : w (plc a0 n) < 2 ^ 31 := by have := hw _ hxn; omega
  refine lv_aload_n hx hb dX0_gates_0 rfl (lv_at hl 0 rfl) ?_
  refine va_get (D := D) (ci := 0) (v := .ref (ad 1)) (C := RX0) (T := TX0) (N := 2) hx hb hts in_X0 hown hC.1 hP 0 h0 rfl 0 (by decide) (hts _ q61) (fun _ h9 => h9) rfl dX0_gates_1 ?_
  refine lv_iload_n hx hb dX0_gates_4 rfl (lv_at hl 1 rfl) ?_
  refine rdV (As := [.int a0]) (rest := []) ⟨hx, hb, hml, hown, hts⟩ (metX1_place l D cI cL ws ad n h1 hn0 (by omega) a0) (cwV 1 hts (lw_V q77 q78 q79 q7 q80) rfl rfl rfl (by decide +kernel) ⟨Nat.le_of_ble_eq_true rfl, Nat.le_of_ble_eq_true rfl⟩) hC hP (va_recv hC.1 hP (ci := 1) (q0 := 1) rfl h1) rfl rfl hl.1 (Nat.le_of_ble_eq_true rfl) dX0_gates_5 ⟨Nat.zero_le _, Nat.zero_le _⟩ (fun r1 hr1 => ?_)
  subst hr1
  refine lv_istore_n (lv' := [(3, .int (nI (plc a0 n))), (0, .ref (ad 0)), (1, .int a0), (2, .int b0)]) hx hb dX0_gates_8 rfl hl (by decide) rfl (fun ls hl => ?_)
  refine lv_aload_n hx hb dX0_gates_9 rfl (lv_at hl 1 rfl) ?_
  refine va_get (D := D) (ci := 0) (v := .ref (ad 1)) (C := RX0) (T := TX0) (N := 2) hx hb hts in_X0 hown hC.1 hP 0 h0 rfl 0 (by decide) (hts _ q61) (fun _ h9 => h9) rfl dX0_gates_10 ?_
  refine lv_iload_n hx hb dX0_gates_13 rfl (lv_at hl 3 rfl) ?_
  refine rdV (As := [.int b0]) (rest := []) ⟨hx, hb, hml, hown, hts⟩ (metX1_place l D cI cL ws ad n h1 hn0 (by omega) b0) (cwV 1 hts (lw_V q77 q78 q79 q7 q80) rfl rfl rfl (by decide +kernel) ⟨Nat.le_of_ble_eq_true rfl, Nat.le_of_ble_eq_true rfl⟩) hC hP (va_recv hC.1 hP (ci := 1) (q0 := 1) rfl h1) rfl rfl hl.1 (Nat.le_of_ble_eq_true rfl) dX0_gates_14 ⟨Nat.zero_le _, Nat.zero_le _⟩ (fun r2 hr2 => ?_)
  subst hr2
  refine lv_istore (lv' := [(4, .int (nI (plc b0 n))), (3, .int (nI (plc a0 n))), (0, .ref (ad 0)), (1, .int a0), (2, .int b0)]) hx hb dX0_gates_17 hl (by decide) rfl (fun ls hl => ?_)
  refine lv_iconst (v := nI 1) hx hb dX0_gates_19 (by decide) ?_
  refine lv_aload_n hx hb dX0_gates_20 rfl (lv_at hl 2 rfl) ?_
  refine va_get (D := D) (ci := 0) (v := .ref (ad 1)) (C := RX0) (T := TX0) (N := 2) hx hb hts in_X0 hown hC.1 hP 0 h0 rfl 0 (by decide) (hts _ q61) (fun _ h9 => h9) rfl dX0_gates_21 ?_
  refine va_getN (D := D) (ci := 1) (v := .int (nI n)) (C := RX1) (T := TX1) (N := 2) hx hb hts in_X1 hown hC.1 hP 1 h1 rfl 1 (by decide) (va_Nw.use rfl hC.2.1.2.1) (fun _ h9 => h9) rfl dX0_gates_24 ?_
  refine lv_ishl hx hb dX0_gates_27 (tp_ (z := nI (2 ^ n)) (bn_shl (by omega)) ?_)
  refine lv_iconst (v := nI 1) hx hb dX0_gates_28 (by decide) ?_
  refine lv_isub hx hb dX0_gates_29 (tp_ (z := nI (2 ^ n - 1)) (bn_mask (by omega)) ?_)
  refine lv_istore (lv' := [(5, .int (nI (2 ^ n - 1))), (4, .int (nI (plc b0 n))), (3, .int (nI (plc a0 n))), (0, .ref (ad 0)), (1, .int a0), (2, .int b0)]) hx hb dX0_gates_30 hl (by decide) rfl (fun ls hl => ?_)
  refine lv_aload_n hx hb dX0_gates_32 rfl (lv_at hl 3 rfl) ?_
  refine va_get (D := D) (ci := 0) (v := .ref (ad 1)) (C := RX0) (T := TX0) (N := 2) hx hb hts in_X0 hown hC.1 hP 0 h0 rfl 0 (by decide) (hts _ q61) (fun _ h9 => h9) rfl dX0_gates_33 ?_
  refine lv_iload_n hx hb dX0_gates_36 rfl (lv_at hl 2 rfl) ?_
  refine lv_iload hx hb dX0_gates_37 (lv_at hl 0 rfl) ?_
  refine rdV (As := [.int (nI (plc a0 n)), .int (nI (2 ^ n - 1))]) (rest := []) ⟨hx, hb, hml, hown, hts⟩ (metX1_reached l D cI cL ws ad n w h1 h2 (plc a0 n) (2 ^ n - 1) 0 hn8 hxn hw all_t) (cwV 2 hts (lw_V q119 q120 q121 q7 q122) rfl rfl rfl (by decide +kernel) ⟨Nat.le_of_ble_eq_true rfl, Nat.le_of_ble_eq_true rfl⟩) hC hP (va_recv hC.1 hP (ci := 1) (q0 := 1) rfl h1) rfl rfl hl.1 (Nat.le_of_ble_eq_true rfl) dX0_gates_39 ⟨Nat.zero_le _, Nat.zero_le _⟩ (fun r4 hr4 => ?_)
  obtain ⟨rfl, hR⟩ := hr4
  have hRl := IsR_lt hw hxn hR
  refine lv_iload hx hb dX0_gates_42 (lv_at hl 1 rfl) ?_
  refine lv_ishr hx hb dX0_gates_44 ?_
  refine lv_iconst (v := nI 1) hx hb dX0_gates_45 (by decide) ?_
  refine lv_iand hx hb dX0_gates_46 (tp_ (z := nI (b01 (Nat.testBit (Rf w n 0 (plc a0 n)) (plc b0 n)))) (bn_bit (by first | assumption | omega) (by omega)) ?_)
  refine lv_if_ne (tgt := 52) hx hb dX0_gates_47 (by decide) (fun c_1 => ?_) (fun c_1 => ?_)
  · have hb1 := b01_t c_1
    refine lv_iconst (v := nI 0) hx hb dX0_gates_52 (by decide) ?_
    refine lv_istore (lv' := [(6, .int (nI 0)), (5, .int (nI (2 ^ n - 1))), (4, .int (nI (plc b0 n))), (3, .int (nI (plc a0 n))), (0, .ref (ad 0)), (1, .int a0), (2, .int b0)]) hx hb dX0_gates_53 hl (by decide) rfl (fun ls hl => ?_)
    refine lv_iconst (v := nI 0) hx hb dX0_gates_55 (by decide) ?_
    refine lv_istore (lv' := [(7, .int (nI 0)), (6, .int (nI 0)), (5, .int (nI (2 ^ n - 1))), (4, .int (nI (plc b0 n))), (3, .int (nI (plc a0 n))), (0, .ref (ad 0)), (1, .int a0), (2, .int b0)]) hx hb dX0_gates_56 hl (by decide) rfl (fun ls hl => ?_)
    have lp : ∀ (k v : Nat) (ls : Array Slot), n - v < k → v ≤ n → lv_has ls 8 [(0, .ref (ad 0)), (1, .int a0), (2, .int b0), (3, .int (nI (plc a0 n))), (4, .int (nI (plc b0 n))), (5, .int (nI (2 ^ n - 1))), (6, .int (nI (gat w n (plc a0 n) (plc b0 n) v))), (7, .int (nI v))] → W p l e (headSpec (ws_ yX0_gates cX0_gates 8 (some .int)) ({ frames := 2, cells := 0, slots := 0, locals := 47 })).room s m ([.ref (ad 0), .int a0, .int b0] : List Value).toArray below meth c s.heap [] 0 0 (MQ below (vp_Si (fun r : Int32 => ((Rf w n 0 (plc a0 n)).testBit (plc b0 n) = false ∧ r = -1) ∨ ((Rf w n 0 (plc a0 n)).testBit (plc b0 n) = true ∧ r = nI (gat w n (plc a0 n) (plc b0 n) n)))) ([.ref (ad 0), .int a0, .int b0] : List Value).toArray s 0 0 (fun _ => False)) (F0 m 58 ls []) := by
      intro k
      induction k with
      | zero => intro v ls h; exact absurd h (Nat.not_lt_zero _)
      | succ k ihlp =>
        intro v ls hk hvn hl
        refine lv_iload hx hb dX0_gates_58 (lv_at hl 7 rfl) ?_
        refine lv_aload_n hx hb dX0_gates_60 rfl (lv_at hl 0 rfl) ?_
        refine va_get (D := D) (ci := 0) (v := .ref (ad 1)) (C := RX0) (T := TX0) (N := 2) hx hb hts in_X0 hown hC.1 hP 0 h0 rfl 0 (by decide) (hts _ q61) (fun _ h9 => h9) rfl dX0_gates_61 ?_
        refine va_getN (D := D) (ci := 1) (v := .int (nI n)) (C := RX1) (T := TX1) (N := 2) hx hb hts in_X1 hown hC.1 hP 1 h1 rfl 1 (by decide) (va_Nw.use rfl hC.2.1.2.1) (fun _ h9 => h9) rfl dX0_gates_64 ?_
        refine lv_icmp_ge (tgt := 126) hx hb dX0_gates_67 (by decide) (fun c_2 => ?_) (fun c_2 => ?_)
        · have e1 : v = n := Nat.le_antisymm hvn (nJ_le (by omega) (by omega) c_2)
          refine lv_iload hx hb dX0_gates_126 (lv_at hl 6 rfl) ?_
          exact W.iret (v := nI (gat w n (plc a0 n) (plc b0 n) v)) hx hb hr (fun t ht hW => ⟨nI (gat w n (plc a0 n) (plc b0 n) v), rfl, Or.inr ⟨hb1, by rw [e1]⟩, ht⟩) (fun q h => by cases h) dX0_gates_128
        · have hs : v < n := nJ_nle (by omega) (by omega) c_2
          refine lv_iload hx hb dX0_gates_70 (lv_at hl 7 rfl) ?_
          refine lv_iload_n hx hb dX0_gates_72 rfl (lv_at hl 3 rfl) ?_
          refine lv_icmp_eq (tgt := 120) hx hb dX0_gates_73 (by decide) (fun c_3 => ?_) (fun c_3 => ?_)
          · refine lv_iinc (v := nI (v + 1)) (lv' := [(7, .int (nI (v + 1))), (0, .ref (ad 0)), (1, .int a0), (2, .int b0), (3, .int (nI (plc a0 n))), (4, .int (nI (plc b0 n))), (5, .int (nI (2 ^ n - 1))), (6, .int (nI (gat w n (plc a0 n) (plc b0 n) v)))]) hx hb dX0_gates_120 hl (k := 7) rfl (th_in1 _) (by decide) rfl (fun ls hl => ?_)
            refine lv_goto (tgt := 58) hx hb dX0_gates_123 (by decide) ?_
            rw [show gat w n (plc a0 n) (plc b0 n) v = gat w n (plc a0 n) (plc b0 n) (v + 1) from (gat_no (fun q => q.1 (nI_i (by omega) (by omega) c_3))).symm] at hl
            exact ihlp _ ls (by omega) hs (lv_sub hl [1, 2, 3, 4, 5, 6, 7, 0] rfl)
          · have hvx := nI_ni c_3
            refine lv_iload hx hb dX0_gates_76 (lv_at hl 7 rfl) ?_
            refine lv_iload hx hb dX0_gates_78 (lv_at hl 4 rfl) ?_
            refine lv_icmp_ne (tgt := 86) hx hb dX0_gates_80 (by decide) (fun c_4 => ?_) (fun c_4 => ?_)
            · have hvy := nI_ni c_4
              refine lv_aload_n hx hb dX0_gates_86 rfl (lv_at hl 0 rfl) ?_
              refine va_get (D := D) (ci := 0) (v := .ref (ad 1)) (C := RX0) (T := TX0) (N := 2) hx hb hts in_X0 hown hC.1 hP 0 h0 rfl 0 (by decide) (hts _ q61) (fun _ h9 => h9) rfl dX0_gates_87 ?_
              refine lv_iload_n hx hb dX0_gates_90 rfl (lv_at hl 3 rfl) ?_
              refine lv_iload hx hb dX0_gates_91 (lv_at hl 5 rfl) ?_
              refine lv_iconst (v := nI 1) hx hb dX0_gates_93 (by decide) ?_
              refine lv_iload hx hb dX0_gates_94 (lv_at hl 7 rfl) ?_
              refine lv_ishl hx hb dX0_gates_96 (tp_ (z := nI (2 ^ v)) (bn_shl (by omega)) ?_)
              refine lv_iconst (v := -1) hx hb dX0_gates_97 (by decide) ?_
              refine lv_ixor hx hb dX0_gates_98 ?_
              refine lv_iand hx hb dX0_gates_99 (tp_ (z := nI (bd (2 ^ n - 1) (2 ^ v))) (bn_andn _ _) ?_)
              refine rdV (As := [.int (nI (plc a0 n)), .int (nI (bd (2 ^ n - 1) (2 ^ v)))]) (rest := []) ⟨hx, hb, hml, hown, hts⟩ (metX1_reached l D cI cL ws ad n w h1 h2 (plc a0 n) (bd (2 ^ n - 1) (2 ^ v)) (2 ^ v) hn8 hxn hw allx_t) (cwV 2 hts (lw_V q119 q120 q121 q7 q122) rfl rfl rfl (by decide +kernel) ⟨Nat.le_of_ble_eq_true rfl, Nat.le_of_ble_eq_true rfl⟩) hC hP (va_recv hC.1 hP (ci := 1) (q0 := 1) rfl h1) rfl rfl hl.1 (Nat.le_of_ble_eq_true rfl) dX0_gates_100 ⟨Nat.zero_le _, Nat.zero_le _⟩ (fun r5 hr5 => ?_)
              obtain ⟨rfl, hR2⟩ := hr5
              have hRl2 := IsR_lt hw hxn hR2
              refine lv_iload hx hb dX0_gates_103 (lv_at hl 4 rfl) ?_
              refine lv_ishr hx hb dX0_gates_105 ?_
              refine lv_iconst (v := nI 1) hx hb dX0_gates_106 (by decide) ?_
              refine lv_iand hx hb dX0_gates_107 (tp_ (z := nI (b01 (Nat.testBit (Rf w n (2 ^ v) (plc a0 n)) (plc b0 n)))) (bn_bit (by first | assumption | omega) (by omega)) ?_)
              refine lv_if_ne (tgt := 120) hx hb dX0_gates_108 (by decide) (fun c_5 => ?_) (fun c_5 => ?_)
              · refine lv_iinc (v := nI (v + 1)) (lv' := [(7, .int (nI (v + 1))), (0, .ref (ad 0)), (1, .int a0), (2, .int b0), (3, .int (nI (plc a0 n))), (4, .int (nI (plc b0 n))), (5, .int (nI (2 ^ n - 1))), (6, .int (nI (gat w n (plc a0 n) (plc b0 n) v)))]) hx hb dX0_gates_120 hl (k := 7) rfl (th_in1 _) (by decide) rfl (fun ls hl => ?_)
                refine lv_goto (tgt := 58) hx hb dX0_gates_123 (by decide) ?_
                rw [show gat w n (plc a0 n) (plc b0 n) v = gat w n (plc a0 n) (plc b0 n) (v + 1) from (gat_no (fun q => c_5 (by rw [q.2.2]; rfl))).symm] at hl
                exact ihlp _ ls (by omega) hs (lv_sub hl [1, 2, 3, 4, 5, 6, 7, 0] rfl)
              · refine lv_iload hx hb dX0_gates_111 (lv_at hl 6 rfl) ?_
                refine lv_iconst (v := nI 1) hx hb dX0_gates_113 (by decide) ?_
                refine lv_iload hx hb dX0_gates_114 (lv_at hl 7 rfl) ?_
                refine lv_ishl hx hb dX0_gates_116 (tp_ (z := nI (2 ^ v)) (bn_shl (by omega)) ?_)
                refine lv_ior hx hb dX0_gates_117 (tp_ (z := nI ((gat w n (plc a0 n) (plc b0 n) v) ||| (2 ^ v))) (bn_or _ _) ?_)
                refine lv_istore (lv' := [(6, .int (nI ((gat w n (plc a0 n) (plc b0 n) v) ||| (2 ^ v)))), (0, .ref (ad 0)), (1, .int a0), (2, .int b0), (3, .int (nI (plc a0 n))), (4, .int (nI (plc b0 n))), (5, .int (nI (2 ^ n - 1))), (7, .int (nI v))]) hx hb dX0_gates_118 hl (by decide) rfl (fun ls hl => ?_)
                refine lv_iinc (v := nI (v + 1)) (lv' := [(7, .int (nI (v + 1))), (6, .int (nI ((gat w n (plc a0 n) (plc b0 n) v) ||| (2 ^ v)))), (0, .ref (ad 0)), (1, .int a0), (2, .int b0), (3, .int (nI (plc a0 n))), (4, .int (nI (plc b0 n))), (5, .int (nI (2 ^ n - 1)))]) hx hb dX0_gates_120 hl (k := 7) rfl (th_in1 _) (by decide) rfl (fun ls hl => ?_)
                refine lv_goto (tgt := 58) hx hb dX0_gates_123 (by decide) ?_
                rw [← gat_yes hvx hvy (bit01 c_5)] at hl
                exact ihlp _ ls (by omega) hs (lv_sub hl [2, 3, 4, 5, 6, 7, 1, 0] rfl)
            · refine lv_goto (tgt := 120) hx hb dX0_gates_83 (by decide) ?_
              refine lv_iinc (v := nI (v + 1)) (lv' := [(7, .int (nI (v + 1))), (0, .ref (ad 0)), (1, .int a0), (2, .int b0), (3, .int (nI (plc a0 n))), (4, .int (nI (plc b0 n))), (5, .int (nI (2 ^ n - 1))), (6, .int (nI (gat w n (plc a0 n) (plc b0 n) v)))]) hx hb dX0_gates_120 hl (k := 7) rfl (th_in1 _) (by decide) rfl (fun ls hl => ?_)
              refine lv_goto (tgt := 58) hx hb dX0_gates_123 (by decide) ?_
              rw [show gat w n (plc a0 n) (plc b0 n) v = gat w n (plc a0 n) (plc b0 n) (v + 1) from (gat_no (fun q => q.2.1 (nI_i (by omega) (by omega) c_4))).symm] at hl
              exact ihlp _ ls (by omega) hs (lv_sub hl [1, 2, 3, 4, 5, 6, 7, 0] rfl)
    exact lp (n + 1) 0 ls (by omega) (Nat.zero_le _) (lv_sub hl [5, 6, 7, 4, 3, 2, 1, 0] rfl)
  · have hb1 := bit01 c_1
    refine lv_iconst (v := -1) hx hb dX0_gates_50 (by decide) ?_
    exact W.iret (v := -1) hx hb hr (fun t ht hW => ⟨-1, rfl, Or.inl ⟨hb1, rfl⟩, ht⟩) (fun q h => by cases h) dX0_gates_51
set_option maxHeartbeats 4000000 in
set_option maxRecDepth 100000 in
theorem metX0_rings (l : Launch) (D : va_G) (cI cL : ClassId) (ws : va_W) (ad : Nat → Nat) (n : Nat) (w : Nat → Nat) (h0 : ws[0]? = some (ad 0, .inr (0, [.ref (ad 1), .ref (ad 3)]))) (h1 : ws[1]? = some (ad 1, .inr (1, [.ref (ad 2), .int (nI n)]))) (h2 : ws[2]? = some (ad 2, .inl (cI, 8, .inl (fun j => nI (w j))))) (hn0 : 0 < n) (hn8 : n ≤ 8) (hw : WF w n) : Met l yX0_rings (ws_ yX0_rings cX0_rings 7 (some .int)) ({ frames := 2, cells := 0, slots := 0, locals := 47 }) (RdP D cI cL ws [.ref (ad 0)]) (vp_Si (fun r : Int32 => r = nI (rct w n n).1)) 0 0 (fun _ => False) := by
  refine Met.ofW (cc := cX0_rings) (maxL := 7) (ret := (some .int)) (by decide) rfl ?_
  intro p e s m args below meth c s₁ B hml hv
  obtain ⟨rfl, hP, hC⟩ := hv
  have hx := B.exec
  have hb := B.bytes
  have hr := B.returns
  have hts := atoms_spec (ws := (ws_ yX0_rings cX0_rings 7 (some .int))) B.pre
  have hts : ∀ w ∈ lw_all, w.before _ s = true := fun w h => hts w (List.mem_cons_of_mem _ h)
  have hown : s.vm.findClass RX0 = some m.cls := findClass_of_methodNamed B.named
  have hlocks := B.notSynchronized
  have hl := lv_entry ([.ref (ad 0)]) (n := 7) (Nat.le_of_ble_eq_true rfl)
  rw [lg_entry_eq]
  generalize (lg_sl ([.ref (ad 0)]) ++ List.replicate (7 - (lg_sl ([.ref (ad 0)])).length) Slot.unset).toArray = ls at hl ⊢
  have hl : lv_has ls 7 [(0, .ref (ad 0))] := hl
  have hp2 := p2_256 hn8
  refine lv_iconst (v := nI 1) hx hb dX0_rings_0 (by decide) ?_
  refine lv_aload_n hx hb dX0_rings_1 rfl (lv_at hl 0 rfl) ?_
  refine va_get (D := D) (ci := 0) (v := .ref (ad 1)) (C := RX0) (T := TX0) (N := 2) hx hb hts in_X0 hown hC.1 hP 0 h0 rfl 0 (by decide) (hts _ q61) (fun _ h9 => h9) rfl dX0_rings_2 ?_
  refine va_getN (D := D) (ci := 1) (v := .int (nI n)) (C := RX1) (T := TX1) (N := 2) hx hb hts in_X1 hown hC.1 hP 1 h1 rfl 1 (by decide) (va_Nw.use rfl hC.2.1.2.1) (fun _ h9 => h9) rfl dX0_rings_5 ?_
  refine lv_ishl hx hb dX0_rings_8 (tp_ (z := nI (2 ^ n)) (bn_shl (by omega)) ?_)
  refine lv_iconst (v := nI 1) hx hb dX0_rings_9 (by decide) ?_
  refine lv_isub hx hb dX0_rings_10 (tp_ (z := nI (2 ^ n - 1)) (bn_mask (by omega)) ?_)
  refine lv_istore_n (lv' := [(1, .int (nI (2 ^ n - 1))), (0, .ref (ad 0))]) hx hb dX0_rings_11 rfl hl (by decide) rfl (fun ls hl => ?_)
  refine lv_iconst (v := nI 0) hx hb dX0_rings_12 (by decide) ?_
  refine lv_istore_n (lv' := [(2, .int (nI 0)), (1, .int (nI (2 ^ n - 1))), (0, .ref (ad 0))]) hx hb dX0_rings_13 rfl hl (by decide) rfl (fun ls hl => ?_)
  refine lv_iconst (v := nI 0) hx hb dX0_rings_14 (by decide) ?_
  refine lv_istore_n (lv' := [(3, .int (nI 0)), (2, .int (nI 0)), (1, .int (nI (2 ^ n - 1))), (0, .ref (ad 0))]) hx hb dX0_rings_15 rfl hl (by decide) rfl (fun ls hl => ?_)
  refine lv_iconst (v := nI 0) hx hb dX0_rings_16 (by decide) ?_
  refine lv_istore (lv' := [(4, .int (nI 0)), (3, .int (nI 0)), (2, .int (nI 0)), (1, .int (nI (2 ^ n - 1))), (0, .ref (ad 0))]) hx hb dX0_rings_17 hl (by decide) rfl (fun ls hl => ?_)
  have lp : ∀ (k v : Nat) (ls : Array Slot), n - v < k → v ≤ n → lv_has ls 7 [(0, .ref (ad 0)), (1, .int (nI (2 ^ n - 1))), (2, .int (nI ((rct w n v).2))), (3, .int (nI ((rct w n v).1))), (4, .int (nI v))] → W p l e (headSpec (ws_ yX0_rings cX0_rings 7 (some .int)) ({ frames := 2, cells := 0, slots := 0, locals := 47 })).room s m ([.ref (ad 0)] : List Value).toArray below meth c s.heap [] 0 0 (MQ below (vp_Si (fun r : Int32 => r = nI (rct w n n).1)) ([.ref (ad 0)] : List Value).toArray s 0 0 (fun _ => False)) (F0 m 19 ls []) := by
    intro k
    induction k with
    | zero => intro v ls h; exact absurd h (Nat.not_lt_zero _)
    | succ k ihlp =>
      intro v ls hk hvn hl
      have hd := rct_lt w n v
      refine lv_iload hx hb dX0_rings_19 (lv_at hl 4 rfl) ?_
      refine lv_aload_n hx hb dX0_rings_21 rfl (lv_at hl 0 rfl) ?_
      refine va_get (D := D) (ci := 0) (v := .ref (ad 1)) (C := RX0) (T := TX0) (N := 2) hx hb hts in_X0 hown hC.1 hP 0 h0 rfl 0 (by decide) (hts _ q61) (fun _ h9 => h9) rfl dX0_rings_22 ?_
      refine va_getN (D := D) (ci := 1) (v := .int (nI n)) (C := RX1) (T := TX1) (N := 2) hx hb hts in_X1 hown hC.1 hP 1 h1 rfl 1 (by decide) (va_Nw.use rfl hC.2.1.2.1) (fun _ h9 => h9) rfl dX0_rings_25 ?_
      refine lv_icmp_ge (tgt := 123) hx hb dX0_rings_28 (by decide) (fun c_2 => ?_) (fun c_2 => ?_)
      · have e1 : v = n := Nat.le_antisymm hvn (nJ_le (by omega) (by omega) c_2)
        refine lv_iload_n hx hb dX0_rings_123 rfl (lv_at hl 3 rfl) ?_
        exact W.iret (v := nI ((rct w n v).1)) hx hb hr (fun t ht hW => ⟨nI ((rct w n v).1), rfl, by rw [e1], ht⟩) (fun q h => by cases h) dX0_rings_124
      · have hs : v < n := nJ_nle (by omega) (by omega) c_2
        refine lv_iload_n hx hb dX0_rings_31 rfl (lv_at hl 2 rfl) ?_
        refine lv_iload hx hb dX0_rings_32 (lv_at hl 4 rfl) ?_
        refine lv_ishr hx hb dX0_rings_34 ?_
        refine lv_iconst (v := nI 1) hx hb dX0_rings_35 (by decide) ?_
        refine lv_iand hx hb dX0_rings_36 (tp_ (z := nI (b01 (Nat.testBit ((rct w n v).2) v))) (bn_bit (by first | assumption | omega) (by omega)) ?_)
        refine lv_iconst (v := nI 1) hx hb dX0_rings_37 (by decide) ?_
        refine lv_icmp_ne (tgt := 44) hx hb dX0_rings_38 (by decide) (fun c_3 => ?_) (fun c_3 => ?_)
        · have hb0 := b01_f c_3
          refine lv_iinc (v := nI ((rct w n v).1 + 1)) (lv' := [(3, .int (nI ((rct w n v).1 + 1))), (0, .ref (ad 0)), (1, .int (nI (2 ^ n - 1))), (2, .int (nI ((rct w n v).2))), (4, .int (nI v))]) hx hb dX0_rings_44 hl (k := 3) rfl (th_in1 _) (by decide) rfl (fun ls hl => ?_)
          refine lv_aload_n hx hb dX0_rings_47 rfl (lv_at hl 1 rfl) ?_
          refine va_get (D := D) (ci := 0) (v := .ref (ad 1)) (C := RX0) (T := TX0) (N := 2) hx hb hts in_X0 hown hC.1 hP 0 h0 rfl 0 (by decide) (hts _ q61) (fun _ h9 => h9) rfl dX0_rings_48 ?_
          refine lv_iload hx hb dX0_rings_51 (lv_at hl 4 rfl) ?_
          refine lv_iload_n hx hb dX0_rings_53 rfl (lv_at hl 2 rfl) ?_
          refine rdV (As := [.int (nI v), .int (nI (2 ^ n - 1))]) (rest := []) ⟨hx, hb, hml, hown, hts⟩ (metX1_reached l D cI cL ws ad n w h1 h2 v (2 ^ n - 1) 0 hn8 hs hw all_t) (cwV 2 hts (lw_V q119 q120 q121 q7 q122) rfl rfl rfl (by decide +kernel) ⟨Nat.le_of_ble_eq_true rfl, Nat.le_of_ble_eq_true rfl⟩) hC hP (va_recv hC.1 hP (ci := 1) (q0 := 1) rfl h1) rfl rfl hl.1 (Nat.le_of_ble_eq_true rfl) dX0_rings_54 ⟨Nat.zero_le _, Nat.zero_le _⟩ (fun r5 hr5 => ?_)
          obtain ⟨rfl, hR⟩ := hr5
          have hRl := IsR_lt hw hs hR
          refine lv_istore (lv' := [(5, .int (nI (Rf w n 0 v))), (3, .int (nI ((rct w n v).1 + 1))), (0, .ref (ad 0)), (1, .int (nI (2 ^ n - 1))), (2, .int (nI ((rct w n v).2))), (4, .int (nI v))]) hx hb dX0_rings_57 hl (by decide) rfl (fun ls hl => ?_)
          refine lv_iconst (v := nI 0) hx hb dX0_rings_59 (by decide) ?_
          refine lv_istore (lv' := [(6, .int (nI 0)), (5, .int (nI (Rf w n 0 v))), (3, .int (nI ((rct w n v).1 + 1))), (0, .ref (ad 0)), (1, .int (nI (2 ^ n - 1))), (2, .int (nI ((rct w n v).2))), (4, .int (nI v))]) hx hb dX0_rings_60 hl (by decide) rfl (fun ls hl => ?_)
          have l2 : ∀ (k u : Nat) (ls : Array Slot), n - u < k → u ≤ n → lv_has ls 7 [(0, .ref (ad 0)), (1, .int (nI (2 ^ n - 1))), (2, .int (nI (rin w n v (Rf w n 0 v) (rct w n v).2 u))), (3, .int (nI ((rct w n v).1 + 1))), (4, .int (nI v)), (5, .int (nI (Rf w n 0 v))), (6, .int (nI u))] → W p l e (headSpec (ws_ yX0_rings cX0_rings 7 (some .int)) ({ frames := 2, cells := 0, slots := 0, locals := 47 })).room s m ([.ref (ad 0)] : List Value).toArray below meth c s.heap [] 0 0 (MQ below (vp_Si (fun r : Int32 => r = nI (rct w n n).1)) ([.ref (ad 0)] : List Value).toArray s 0 0 (fun _ => False)) (F0 m 62 ls []) := by
            intro k
            induction k with
            | zero => intro u ls h; exact absurd h (Nat.not_lt_zero _)
            | succ k ihl2 =>
              intro u ls hk hun hl
              have hd2 := rin_lt (w := w) (v := v) (r := Rf w n 0 v) hd u hun
              refine lv_iload hx hb dX0_rings_62 (lv_at hl 6 rfl) ?_
              refine lv_aload_n hx hb dX0_rings_64 rfl (lv_at hl 0 rfl) ?_
              refine va_get (D := D) (ci := 0) (v := .ref (ad 1)) (C := RX0) (T := TX0) (N := 2) hx hb hts in_X0 hown hC.1 hP 0 h0 rfl 0 (by decide) (hts _ q61) (fun _ h9 => h9) rfl dX0_rings_65 ?_
              refine va_getN (D := D) (ci := 1) (v := .int (nI n)) (C := RX1) (T := TX1) (N := 2) hx hb hts in_X1 hown hC.1 hP 1 h1 rfl 1 (by decide) (va_Nw.use rfl hC.2.1.2.1) (fun _ h9 => h9) rfl dX0_rings_68 ?_
              refine lv_icmp_ge (tgt := 117) hx hb dX0_rings_71 (by decide) (fun c_4 => ?_) (fun c_4 => ?_)
              · have e1 : u = n := Nat.le_antisymm hun (nJ_le (by omega) (by omega) c_4)
                refine lv_iinc (v := nI (v + 1)) (lv' := [(4, .int (nI (v + 1))), (0, .ref (ad 0)), (1, .int (nI (2 ^ n - 1))), (2, .int (nI (rin w n v (Rf w n 0 v) (rct w n v).2 u))), (3, .int (nI ((rct w n v).1 + 1))), (5, .int (nI (Rf w n 0 v))), (6, .int (nI u))]) hx hb dX0_rings_117 hl (k := 4) rfl (th_in1 _) (by decide) rfl (fun ls hl => ?_)
                refine lv_goto (tgt := 19) hx hb dX0_rings_120 (by decide) ?_
                refine ihlp (v + 1) ls (by omega) hs ?_
                rw [rct_yes hb0]
                rw [e1] at hl
                exact lv_sub hl [1, 2, 3, 4, 0] rfl
              · have hu : u < n := nJ_nle (by omega) (by omega) c_4
                refine lv_iload hx hb dX0_rings_74 (lv_at hl 5 rfl) ?_
                refine lv_iload hx hb dX0_rings_76 (lv_at hl 6 rfl) ?_
                refine lv_ishr hx hb dX0_rings_78 ?_
                refine lv_iconst (v := nI 1) hx hb dX0_rings_79 (by decide) ?_
                refine lv_iand hx hb dX0_rings_80 (tp_ (z := nI (b01 (Nat.testBit (Rf w n 0 v) u))) (bn_bit (by first | assumption | omega) (by omega)) ?_)
                refine lv_iconst (v := nI 1) hx hb dX0_rings_81 (by decide) ?_
                refine lv_icmp_ne (tgt := 111) hx hb dX0_rings_82 (by decide) (fun c_5 => ?_) (fun c_5 => ?_)
                · refine lv_iinc (v := nI (u + 1)) (lv' := [(6, .int (nI (u + 1))), (0, .ref (ad 0)), (1, .int (nI (2 ^ n - 1))), (2, .int (nI (rin w n v (Rf w n 0 v) (rct w n v).2 u))), (3, .int (nI ((rct w n v).1 + 1))), (4, .int (nI v)), (5, .int (nI (Rf w n 0 v)))]) hx hb dX0_rings_111 hl (k := 6) rfl (th_in1 _) (by decide) rfl (fun ls hl => ?_)
                  refine lv_goto (tgt := 62) hx hb dX0_rings_114 (by decide) ?_
                  rw [← rin_no (d := (rct w n v).2) (fun q => absurd q.1 (by rw [b01_f c_5]; simp))] at hl
                  exact ihl2 _ ls (by omega) hu (lv_sub hl [1, 2, 3, 4, 5, 6, 0] rfl)
                · have hb5 := b01_1.mp c_5
                  refine lv_aload_n hx hb dX0_rings_85 rfl (lv_at hl 0 rfl) ?_
                  refine va_get (D := D) (ci := 0) (v := .ref (ad 1)) (C := RX0) (T := TX0) (N := 2) hx hb hts in_X0 hown hC.1 hP 0 h0 rfl 0 (by decide) (hts _ q61) (fun _ h9 => h9) rfl dX0_rings_86 ?_
                  refine lv_iload hx hb dX0_rings_89 (lv_at hl 6 rfl) ?_
                  refine lv_iload_n hx hb dX0_rings_91 rfl (lv_at hl 1 rfl) ?_
                  refine rdV (As := [.int (nI u), .int (nI (2 ^ n - 1))]) (rest := []) ⟨hx, hb, hml, hown, hts⟩ (metX1_reached l D cI cL ws ad n w h1 h2 u (2 ^ n - 1) 0 hn8 hu hw all_t) (cwV 2 hts (lw_V q119 q120 q121 q7 q122) rfl rfl rfl (by decide +kernel) ⟨Nat.le_of_ble_eq_true rfl, Nat.le_of_ble_eq_true rfl⟩) hC hP (va_recv hC.1 hP (ci := 1) (q0 := 1) rfl h1) rfl rfl hl.1 (Nat.le_of_ble_eq_true rfl) dX0_rings_92 ⟨Nat.zero_le _, Nat.zero_le _⟩ (fun r6 hr6 => ?_)
                  obtain ⟨rfl, hR2⟩ := hr6
                  have hRl2 := IsR_lt hw hu hR2
                  refine lv_iload hx hb dX0_rings_95 (lv_at hl 4 rfl) ?_
                  refine lv_ishr hx hb dX0_rings_97 ?_
                  refine lv_iconst (v := nI 1) hx hb dX0_rings_98 (by decide) ?_
                  refine lv_iand hx hb dX0_rings_99 (tp_ (z := nI (b01 (Nat.testBit (Rf w n 0 u) v))) (bn_bit (by first | assumption | omega) (by omega)) ?_)
                  refine lv_iconst (v := nI 1) hx hb dX0_rings_100 (by decide) ?_
                  refine lv_icmp_ne (tgt := 111) hx hb dX0_rings_101 (by decide) (fun c_6 => ?_) (fun c_6 => ?_)
                  · refine lv_iinc (v := nI (u + 1)) (lv' := [(6, .int (nI (u + 1))), (0, .ref (ad 0)), (1, .int (nI (2 ^ n - 1))), (2, .int (nI (rin w n v (Rf w n 0 v) (rct w n v).2 u))), (3, .int (nI ((rct w n v).1 + 1))), (4, .int (nI v)), (5, .int (nI (Rf w n 0 v)))]) hx hb dX0_rings_111 hl (k := 6) rfl (th_in1 _) (by decide) rfl (fun ls hl => ?_)
                    refine lv_goto (tgt := 62) hx hb dX0_rings_114 (by decide) ?_
                    rw [← rin_no (d := (rct w n v).2) (fun q => absurd q.2 (by rw [b01_f c_6]; simp))] at hl
                    exact ihl2 _ ls (by omega) hu (lv_sub hl [1, 2, 3, 4, 5, 6, 0] rfl)
                  · refine lv_iload_n hx hb dX0_rings_104 rfl (lv_at hl 2 rfl) ?_
                    refine lv_iconst (v := nI 1) hx hb dX0_rings_105 (by decide) ?_
                    refine lv_iload hx hb dX0_rings_106 (lv_at hl 6 rfl) ?_
                    refine lv_ishl hx hb dX0_rings_108 (tp_ (z := nI (2 ^ u)) (bn_shl (by omega)) ?_)
                    refine lv_ior hx hb dX0_rings_109 (tp_ (z := nI ((rin w n v (Rf w n 0 v) (rct w n v).2 u) ||| (2 ^ u))) (bn_or _ _) ?_)
                    refine lv_istore_n (lv' := [(2, .int (nI ((rin w n v (Rf w n 0 v) (rct w n v).2 u) ||| (2 ^ u)))), (0, .ref (ad 0)), (1, .int (nI (2 ^ n - 1))), (3, .int (nI ((rct w n v).1 + 1))), (4, .int (nI v)), (5, .int (nI (Rf w n 0 v))), (6, .int (nI u))]) hx hb dX0_rings_110 rfl hl (by decide) rfl (fun ls hl => ?_)
                    refine lv_iinc (v := nI (u + 1)) (lv' := [(6, .int (nI (u + 1))), (2, .int (nI ((rin w n v (Rf w n 0 v) (rct w n v).2 u) ||| (2 ^ u)))), (0, .ref (ad 0)), (1, .int (nI (2 ^ n - 1))), (3, .int (nI ((rct w n v).1 + 1))), (4, .int (nI v)), (5, .int (nI (Rf w n 0 v)))]) hx hb dX0_rings_111 hl (k := 6) rfl (th_in1 _) (by decide) rfl (fun ls hl => ?_)
                    refine lv_goto (tgt := 62) hx hb dX0_rings_114 (by decide) ?_
                    rw [← rin_yes hb5 (b01_1.mp c_6)] at hl
                    exact ihl2 _ ls (by omega) hu (lv_sub hl [2, 3, 1, 4, 5, 6, 0] rfl)
          exact l2 (n + 1) 0 ls (by omega) (Nat.zero_le _) (lv_sub hl [3, 4, 5, 2, 6, 1, 0] rfl)
        · refine lv_goto (tgt := 117) hx hb dX0_rings_41 (by decide) ?_
          refine lv_iinc (v := nI (v + 1)) (lv' := [(4, .int (nI (v + 1))), (0, .ref (ad 0)), (1, .int (nI (2 ^ n - 1))), (2, .int (nI ((rct w n v).2))), (3, .int (nI ((rct w n v).1)))]) hx hb dX0_rings_117 hl (k := 4) rfl (th_in1 _) (by decide) rfl (fun ls hl => ?_)
          refine lv_goto (tgt := 19) hx hb dX0_rings_120 (by decide) ?_
          rw [show rct w n v = rct w n (v + 1) from (rct_no (b01_1.mp c_3)).symm] at hl
          exact ihlp _ ls (by omega) hs (lv_sub hl [1, 2, 3, 4, 0] rfl)
  exact lp (n + 1) 0 ls (by omega) (Nat.zero_le _) (lv_sub hl [4, 3, 2, 1, 0] rfl)
end
section
/-! a new int[16][16]: its row over the machine (the kit has none) -/
set_option maxRecDepth 100000
/-- the outer array when i rows are laid, and a row of zeros -/
def gdO (cL : ClassId) (h0 i : Nat) : Cell := arrV cL 16 (fun j => va_rf (if j < i then some (h0 + 1 + j) else none))
def gdI (cI : ClassId) : Cell := arrV cI 16 (fun _ => .int 0)
theorem gdO_step (cL : ClassId) (h0 i : Nat) : (gdO cL h0 i).setSlot i (.ref (h0 + 1 + i)) = gdO cL h0 (i + 1) := by
  unfold gdO
  rw [arrV_store]
  congr 1
  funext j
  unfold updV
  by_cases e : j = i
  · subst e; rw [if_pos rfl, if_pos (Nat.lt_succ_self _)]; rfl
  · rw [if_neg e]
    dsimp only
    by_cases q : j < i
    · rw [if_pos q, if_pos (by omega)]
    · rw [if_neg q, if_neg (by omega)]
/-- the machine's state when i rows are laid -/
def gd (T : State) (cL cI : ClassId) : Nat → State
  | 0 => T.pushCell (gdO cL T.heap.size 0)
  | i + 1 => ((gd T cL cI i).pushCell (gdI cI)).setCell T.heap.size (gdO cL T.heap.size (i + 1))
theorem gd_size (T : State) (cL cI : ClassId) : ∀ i, (gd T cL cI i).heap.size = T.heap.size + 1 + i
  | 0 => by simp [gd]
  | i + 1 => by
    have ih := gd_size T cL cI i
    simp [gd, State.setCell, ih]; omega
theorem gd_outer (T : State) (cL cI : ClassId) : ∀ i, (gd T cL cI i).heap[T.heap.size]? = some (gdO cL T.heap.size i)
  | 0 => by simp [gd]
  | i + 1 => by
    have hlt : T.heap.size < (gd T cL cI i).heap.size := by rw [gd_size]; omega
    have h : ((gd T cL cI i).pushCell (gdI cI)).heap[T.heap.size]? = some (gdO cL T.heap.size i) := by rw [State.heap_pushCell_of_lt (h := hlt)]; exact gd_outer T cL cI i
    exact State.heap_setCell_self h
theorem gd_old (T : State) (cL cI : ClassId) {a : Addr} (ha : a < T.heap.size) : ∀ i, (gd T cL cI i).heap[a]? = T.heap[a]?
  | 0 => State.heap_pushCell_of_lt _ _ ha
  | i + 1 => by
    have hlt : a < (gd T cL cI i).heap.size := Nat.lt_of_lt_of_le ha (by rw [gd_size]; omega)
    show (((gd T cL cI i).pushCell (gdI cI)).setCell T.heap.size _).heap[a]? = _
    rw [State.heap_setCell_other (Nat.ne_of_gt ha), State.heap_pushCell_of_lt (h := hlt)]
    exact gd_old T cL cI ha i
theorem gd_row (T : State) (cL cI : ClassId) : ∀ i j, j < i → (gd T cL cI i).heap[T.heap.size + 1 + j]? = some (gdI cI)
  | 0, j, h => absurd h (Nat.not_lt_zero j)
  | i + 1, j, h => by
    show (((gd T cL cI i).pushCell (gdI cI)).setCell T.heap.size _).heap[T.heap.size + 1 + j]? = _
    rw [State.heap_setCell_other (show T.heap.size ≠ T.heap.size + 1 + j by omega)]
    rcases Nat.lt_or_ge j i with q | q
    · have hlt : T.heap.size + 1 + j < (gd T cL cI i).heap.size := by rw [gd_size]; omega
      rw [State.heap_pushCell_of_lt (h := hlt)]
      exact gd_row T cL cI i j q
    · have e : T.heap.size + 1 + j = (gd T cL cI i).heap.size := by rw [gd_size]; omega
      rw [e]
      exact State.heap_pushCell_size _ _
theorem gd_vm (T : State) (cL cI : ClassId) : ∀ i, (gd T cL cI i).vm = T.vm
  | 0 => rfl
  | i + 1 => by
    have ih := gd_vm T cL cI i
    simp [gd, ih]
theorem gd_used (T : State) (cL cI : ClassId) : ∀ i, (gd T cL cI i).slotsUsed = T.slotsUsed + 16 + i * 16
  | 0 => by simp [gd, gdO, arrV]
  | i + 1 => by
    have ih := gd_used T cL cI i
    simp [gd, ih, gdI, arrV]; omega
theorem gd_top (T : State) (f : JFrame) (cL cI : ClassId) : ∀ i, gd (T.setTop f) cL cI i = (gd T cL cI i).setTop f
  | 0 => rfl
  | i + 1 => by simp only [gd, gd_top T f cL cI i, State.heap_setTop, State.pushCell_setTop, State.setCell_setTop]
section GD
variable {p : Program} {l : Launch} {e : Env} {R : Room} {s : State} {m : MethodId} {args : Array Value} {below : List Frame} {meth : Method} {c : Code} {T : State} {locs : List Loc} {cells slots : Nat}
theorem gd_stand (X : Stand p l e R s m args below meth c T locs cells slots) (cL cI : ClassId) : ∀ i, Stand p l e R s m args below meth c (gd T cL cI i) (locs ++ (List.range i).map fun j => ⟨T.heap.size, j⟩) (cells + (1 + i)) (slots + (16 + i * 16))
  | 0 => by
    have h := X.pushed (gdO cL T.heap.size 0)
    have e1 : (gdO cL T.heap.size 0).slots.size = 16 := arrV_size _ _ _
    rw [e1] at h
    simpa [gd] using h
  | i + 1 => by
    have ih := gd_stand X cL cI i
    have hlt : T.heap.size < (gd T cL cI i).heap.size := by rw [gd_size]; omega
    have hc : ((gd T cL cI i).pushCell (gdI cI)).heap[T.heap.size]? = some (gdO cL T.heap.size i) := by rw [State.heap_pushCell_of_lt (h := hlt)]; exact gd_outer T cL cI i
    have h := (ih.pushed (gdI cI)).stored hc i (.ref (T.heap.size + 1 + i))
    have e1 : (gdI cI).slots.size = 16 := arrV_size _ _ _
    rw [e1, gdO_step] at h
    have e2 : (locs ++ (List.range (i + 1)).map fun j => (⟨T.heap.size, j⟩ : Loc)) = (locs ++ (List.range i).map fun j => (⟨T.heap.size, j⟩ : Loc)) ++ [⟨T.heap.size, i⟩] := by simp [List.range_succ, List.append_assoc]
    have e3 : cells + (1 + (i + 1)) = cells + (1 + i) + 1 := by omega
    have e4 : slots + (16 + (i + 1) * 16) = slots + (16 + i * 16) + 16 := by omega
    rw [e2, e3, e4]
    exact h
end GD
section GDW
variable {E : CtlPost} {e : Env} {d : Bool} {acts : List Action} {s : State}
theorem gd_new {c comp : ClassId} {k : Class} {ty : FieldType} {init : Value} {z : Cell} (hz : ({ cls := c, slots := Array.replicate 16 init, vm := .none } : Cell) = z) (hk : s.vm.classes[c]? = some k) (hkind : k.kind = .array comp ty) (hlim : ¬ 16 > e.platform.arrayLengthLimit) (hby : ¬ 16 * componentBytes ty > e.platform.maxHeapBytes) (h1 : s.heap.size < e.platform.maxCells) (h2 : s.slotsUsed + 16 ≤ e.platform.maxSlots) (hfit : fits ty init = true) {Q : Addr → Pre}
    (hq : ∀ acts', Q s.heap.size d acts' (s.pushCell z)) : wp (Jvm.newArray c 16 init) Q E e d acts s := by
  subst hz
  exact _root_.Jvm.W.newArray_of hk hkind hlim hby h1 h2 hfit hq
theorem gd_make {cL cI cc : ClassId} {kL kI : Class} (hkL : s.vm.classes[cL]? = some kL) (hL : kL.kind = .array cI (.array .int)) (hkI : s.vm.classes[cI]? = some kI) (hI : kI.kind = .array cc .int) (hlim : ¬ 16 > e.platform.arrayLengthLimit) (hby : ¬ 64 > e.platform.maxHeapBytes)
    (h1 : s.heap.size + 17 ≤ e.platform.maxCells) (h2 : s.slotsUsed + 272 ≤ e.platform.maxSlots) {Q : Addr → Pre} (hq : ∀ d' acts', Q s.heap.size d' acts' (gd s cL cI 16)) : wp (multianewarray.make cL [nI 16, nI 16]) Q E e d acts s := by
  have n0 : ¬ nI 16 < 0 := by decide
  have n1 : (nI 16).toNatClampNeg = 16 := by decide
  have n2 : (nI 16 == 0) = false := by decide
  have o0 : ({ cls := cL, slots := Array.replicate 16 Value.null, vm := .none } : Cell) = gdO cL s.heap.size 0 := by
    rw [arrV_new]
    unfold gdO
    congr 1
  rw [multianewarray.make]
  simp only [wp_bind', W.ite, n0, if_false, wp_pure', W.theClass, hkL, hL, Option.some.injEq, exists_eq_left', n1, n2]
  refine gd_new o0 hkL hL hlim hby (by omega) (by omega) rfl (fun acts' => ?_)
  simp only [Bool.false_eq_true, if_false, wp_pure', wp_bind']
  rw [Std.Legacy.Range.forIn_eq_forIn_range']
  have hsz : ([:16] : Std.Legacy.Range).size = 16 := by simp [Std.Legacy.Range.size]
  rw [hsz]
  refine wp_forIn_inv (fun rest s' => ∃ i, i ≤ 16 ∧ rest = List.range' i (16 - i) ∧ s' = gd s cL cI i) _ _ ⟨0, Nat.zero_le _, rfl, rfl⟩ ?_ ?_
  · rintro x rest s' d' acts2 Q' ⟨i, hi, hl, rfl⟩ hnext
    have hlt : i < 16 := by
      rcases Nat.lt_or_ge i 16 with h | h
      · exact h
      · rw [show 16 - i = 0 from by omega] at hl; cases hl
    obtain ⟨rfl, hrest⟩ : x = i ∧ rest = List.range' (i + 1) (16 - (i + 1)) := by
      rw [show 16 - i = (16 - (i + 1)) + 1 from by omega, List.range'_succ] at hl
      exact ⟨(List.cons.inj hl).1, (List.cons.inj hl).2⟩
    have i0 : ({ cls := cI, slots := Array.replicate 16 (defaultValue .int), vm := .none } : Cell) = gdI cI := arrV_new _ _ _
    simp only [wp_bind']
    rw [multianewarray.make]
    simp only [wp_bind', W.ite, n0, if_false, wp_pure', W.theClass, gd_vm, hkI, hI, Option.some.injEq, exists_eq_left', n1]
    refine gd_new i0 (by rw [gd_vm]; exact hkI) hI hlim hby (by rw [gd_size]; omega) (by rw [gd_used]; omega) rfl (fun acts3 => ?_)
    have hlt0 : s.heap.size < (gd s cL cI x).heap.size := by rw [gd_size]; omega
    simp only [wp_bind', W.writeLoc, wp_pure']
    refine ⟨gdO cL s.heap.size x, by rw [State.heap_pushCell_of_lt (h := hlt0)]; exact gd_outer s cL cI x, (fun h => by cases h), (by rw [show (gdO cL s.heap.size x).slots.size = 16 from arrV_size _ _ _]; exact hlt), ?_, hnext _ _ _ ⟨x + 1, hlt, hrest, ?_⟩⟩
    · show State.fitsSlot _ cL .none x _ = true
      simp [State.fitsSlot, State.slotType?, gd_vm, hkL, hL]
      rfl
    · rw [gd_size, gdO_step]; rfl
  · rintro s' d' acts2 ⟨i, hi, hl, rfl⟩
    have e1 : i = 16 := by
      rcases Nat.lt_or_ge i 16 with h | h
      · rw [show 16 - i = (16 - (i + 1)) + 1 from by omega, List.range'_succ] at hl; cases hl
      · omega
    subst e1
    simp only [wp_pure']
    exact hq _ _
end GDW
section GDS
variable {p : Program} {l : Launch} {e : Env} {R : Room} {s : State} {m : MethodId} {args : Array Value} {below : List Frame} {meth : Method} {c : Code} {T : State} {locs : List Loc} {cells slots : Nat}
theorem gd_steps (X : Stand p l e R s m args below meth c T locs cells slots) (hexec : p.tables.exec = Jvm.exec) {own : String} {index : Nat} (hown : s.vm.findClass own = some m.cls) (hclink : (Cond.classLink own index "[[I").before args s = true)
    {cL cI cc : ClassId} {kL kI : Class} (hcL : s.vm.findClass "[[I" = some cL) (hkL : s.vm.classes[cL]? = some kL) (hL : kL.kind = .array cI (.array .int)) (hkI : s.vm.classes[cI]? = some kI) (hI : kI.kind = .array cc .int)
    {g : JFrame} (hg : g.method = m) (hdg : decode c.code g.pc = .ok (.multianewarray index 2, 4)) {rest : List Value} (hstack : g.stack = .int (nI 16) :: .int (nI 16) :: rest) (hcells : cells + 17 ≤ R.cells) (hslots : slots + 272 ≤ R.slots) :
    ∃ vm₁ : Vm, s.WarmedH vm₁ ∧ Stand p l e R s m args below meth c (gd (T.setVm vm₁) cL cI 16) (locs ++ (List.range 16).map fun j => ⟨T.heap.size, j⟩) (cells + 17) (slots + 272) ∧
      ∀ target, Steps p.tables e below ((gd (T.setVm vm₁) cL cI 16).setTop { g with pc := g.pc + 4, stack := .ref T.heap.size :: rest }) target → Steps p.tables e below (T.setTop g) target := by
  subst hg
  have hpl : e.platform.magicAccessors = ({} : Platform).magicAccessors := by rw [X.admits.platform]
  obtain ⟨c0, hfc0, hcl⟩ := Cond.classLink_spec hown hclink e.platform hpl
  cases hcL.symm.trans hfc0
  obtain ⟨hg₁, hwarm₁, hready₁⟩ := State.classEntry (e := e) X.warmed hcl
  generalize T.vm.noted g.method.cls index (.cls cL) = vm₁ at hg₁ hwarm₁ hready₁
  have hal : s.vm.Alike vm₁ := hwarm₁.alike
  obtain ⟨kA, hkA, heA⟩ := hal.2.2 _ _ hkL
  obtain ⟨kC, hkC, heC⟩ := hal.2.2 _ _ hkI
  have hkindA : kA.kind = .array cI (.array .int) := by rw [heA]; exact hL
  have hkindC : kC.kind = .array cc .int := by rw [heC]; exact hI
  have X₁ := X.noted hwarm₁
  obtain ⟨hr1, hr2⟩ := X.roomAbove hcells hslots
  have XF := gd_stand X₁ cL cI 16
  refine ⟨vm₁, hwarm₁, XF, fun target hrest => ?_⟩
  have hl1 : ¬ 16 > e.platform.arrayLengthLimit := by rw [Launch.admits_arrayLengthLimit X.admits]; omega
  have hh1 : ¬ 64 > e.platform.maxHeapBytes := by rw [Launch.admits_maxHeapBytes X.admits]; omega
  jvm_step X.here [hexec, hdg]
  simp only [multianewarray.sem, wp_bind', W.resolveClassAt_links (State.method?_setTop g X.here.top) hg₁]
  rw [W.popN, if_neg (by decide)]
  refine ⟨g, State.topJava?_setTop' (s := T.setVm vm₁) g X.here.top, [.int (nI 16), .int (nI 16)], rest, rfl, hstack, ?_⟩
  simp only [List.mapM_cons, List.mapM_nil, wp_bind', wp_pure']
  refine gd_make (s := ((T.setTop g).setVm vm₁).setTop { g with stack := rest }) hkA hkindA hkC hkindC hl1 hh1 hr1 hr2 (fun d' acts' => ?_)
  have eS : ((T.setTop g).setVm vm₁).setTop { g with stack := rest } = (T.setVm vm₁).setTop { g with stack := rest } := by
    show ((T.setVm vm₁).setTop g).setTop _ = _
    rw [State.setTop_setTop]
  rw [eS, gd_top]
  simp only [wp_bind', W.mark, W.pushRef, State.topJava?_setTop' _ XF.here.top, Option.some.injEq, exists_eq_left', State.setTop_setTop, State.heap_setTop]
  intro acts
  simp [jvm, XF.here.top]
  exact hrest
end GDS
/-- the grid's cells in the world: the outer array, then its sixteen rows -/
def gdW (cL cI : ClassId) (q : Nat) : va_W := (q, .inl (cL, 16, .inr (.inr (.inr (.inr (fun j => some (q + 1 + j))))))) :: (List.range 16).map (fun j => (q + 1 + j, .inl (cI, 16, .inl (fun _ => 0))))
theorem gdW_at (cL cI : ClassId) (q k : Nat) (x : Nat × va_E) (h : (gdW cL cI q)[k]? = some x) : (k = 0 ∧ x = (q, .inl (cL, 16, .inr (.inr (.inr (.inr (fun j => some (q + 1 + j)))))))) ∨ ∃ j, k = j + 1 ∧ j < 16 ∧ x = (q + 1 + j, .inl (cI, 16, .inl (fun _ => 0))) := by
  cases k with
  | zero =>
    left
    simp [gdW] at h
    exact ⟨rfl, h.symm⟩
  | succ j =>
    right
    simp only [gdW, List.getElem?_cons_succ, List.getElem?_map, Option.map_eq_some_iff] at h
    obtain ⟨a, ha, hx⟩ := h
    obtain ⟨hl, ea⟩ := List.getElem?_eq_some_iff.mp ha
    rw [List.length_range] at hl
    rw [List.getElem_range] at ea
    subst ea
    exact ⟨j, rfl, hl, hx.symm⟩
theorem gdO_full (cL : ClassId) (h0 : Nat) : gdO cL h0 16 = vp_cell cL (16, .inr (.inr (.inr (.inr (fun j => some (h0 + 1 + j)))))) := by
  rw [vp_cell_q]
  unfold gdO arrV
  congr 2
  funext j
  dsimp only
  rw [if_pos j.2]
section GDR
variable {p : Program} {l : Launch} {e : Env} {R : Room} {s : State} {m : MethodId} {args : Array Value} {below : List Frame} {meth : Method} {c : Code} {H : Heap} {locs : List Loc} {cells slots : Nat} {Q : State → Prop}
variable {cc : ByteArray} {pc : Nat} {ls : Array Slot} {rest : List Value} {D : va_G} {cI cL : ClassId} {A : Nat → Prop} {ws : va_W} {H0 : Heap}
/-- multianewarray of int[16][16] -/
theorem th_multi (hexec : p.tables.exec = Jvm.exec) (hb : c.code = cc) {own : String} {index : Nat} (hown : s.vm.findClass own = some m.cls) (hclink : (Cond.classLink own index "[[I").before args s = true) (hC : CK D cI cL s) (hP : va_P D vwCl ws H) (hD : va_D A ws) (hS : va_S A H0 H locs) (hA : ∀ q, H0.size ≤ q → A q)
    (hcells : cells + 17 ≤ R.cells) (hslots : slots + 272 ≤ R.slots) (hdg : decode cc pc = .ok (.multianewarray index 2, 4))
    (kk : ∀ (q : Nat) (H1 : Heap) (locs1 : List Loc), va_P D vwCl (ws ++ gdW cL cI q) H1 → va_D A (ws ++ gdW cL cI q) → va_S A H0 H1 locs1 → W p l e R s m args below meth c H1 locs1 (cells + 17) (slots + 272) Q (F0 m (pc + 4) ls (.ref q :: rest))) : W p l e R s m args below meth c H locs cells slots Q (F0 m pc ls (.int (nI 16) :: .int (nI 16) :: rest)) := by
  intro T hT X
  subst hT; subst hb
  obtain ⟨kL, hkL, hL⟩ := hC.2.2
  obtain ⟨-, kI, hkI, cc0, hI⟩ := (hC.1.2 0 _ rfl).1 0 (fun _ => .null)
  have hcL : s.vm.findClass "[[I" = some cL := (hC.1.2 1 _ rfl).2
  obtain ⟨vm₁, hW, XF, st⟩ := gd_steps X hexec hown hclink hcL hkL hL hkI hI (g := F0 m pc ls (.int (nI 16) :: .int (nI 16) :: rest)) rfl hdg rfl hcells hslots
  have hold : ∀ q : Nat, q < T.heap.size → (gd (T.setVm vm₁) cL cI 16).heap[q]? = T.heap[q]? := fun q hq => gd_old (T.setVm vm₁) cL cI hq 16
  have hsz : (gd (T.setVm vm₁) cL cI 16).heap.size = T.heap.size + 17 := gd_size (T.setVm vm₁) cL cI 16
  have hws : ∀ (k : Nat) (x : Nat × va_E), ws[k]? = some x → x.1 < T.heap.size := fun k x hx => (hP k x hx).lt
  have hP1 : va_P D vwCl (gdW cL cI T.heap.size) (gd (T.setVm vm₁) cL cI 16).heap := by
    intro k x hx
    rcases gdW_at _ _ _ _ _ hx with ⟨-, rfl⟩ | ⟨j, -, hj, rfl⟩
    · show _ = some (vp_cell _ _)
      rw [← gdO_full]
      exact gd_outer (T.setVm vm₁) cL cI 16
    · exact gd_row (T.setVm vm₁) cL cI 16 j hj
  have hD1 : va_D A (gdW cL cI T.heap.size) := by
    refine ⟨fun i j x y hx hy e1 => ?_, fun k x hx => ?_⟩
    · rcases gdW_at _ _ _ _ _ hx with ⟨a1, rfl⟩ | ⟨u, a1, a2, rfl⟩ <;> rcases gdW_at _ _ _ _ _ hy with ⟨b1, rfl⟩ | ⟨v, b1, b2, rfl⟩ <;> simp at e1 <;> omega
    · rcases gdW_at _ _ _ _ _ hx with ⟨a1, rfl⟩ | ⟨u, a1, a2, rfl⟩
      · exact hA _ hS.1
      · exact hA _ (Nat.le_trans hS.1 (by show T.heap.size ≤ T.heap.size + 1 + u; omega))
  obtain ⟨t, a1, b1⟩ := kk T.heap.size (gd (T.setVm vm₁) cL cI 16).heap (locs ++ (List.range 16).map fun j => ⟨T.heap.size, j⟩)
    ((hP.kept (fun k x hx => hold x.1 (hws k x hx))).app hP1)
    (hD.app hD1 (fun i j x y hx hy e1 => by
      have h1 := hws i x hx
      rcases gdW_at _ _ _ _ _ hy with ⟨b1, rfl⟩ | ⟨v, b1, b2, rfl⟩
      · rw [e1] at h1; exact absurd h1 (Nat.lt_irrefl _)
      · rw [e1] at h1; exact absurd h1 (by show ¬ T.heap.size + 1 + v < T.heap.size; omega)))
    ⟨Nat.le_trans hS.1 (by rw [hsz]; omega), fun q h1 h2 => (hold q (Nat.lt_of_lt_of_le h1 hS.1)).trans (hS.2.1 q h1 h2), fun x hx => by
      rcases List.mem_append.mp hx with h | h
      · exact hS.2.2 x h
      · obtain ⟨j, -, rfl⟩ := List.mem_map.mp h
        exact hA _ hS.1⟩ (gd (T.setVm vm₁) cL cI 16) rfl XF
  exact ⟨t, st t a1, b1⟩
end GDR
end
section
set_option maxRecDepth 100000
theorem upd_nI (w : Nat → Nat) (k v : Nat) : upd (fun j => nI (w j)) k (nI v) = fun j => nI (if j = k then v else w j) := by
  funext j
  unfold upd
  by_cases e : j = k
  · rw [if_pos e, if_pos e]
  · rw [if_neg e, if_neg e]
/-- the first k places are nought -/
def zk (k : Nat) (w : Nat → Nat) (j : Nat) : Nat := if j < k then 0 else w j
theorem upd_zk (w : Nat → Nat) (i : Nat) : upd (fun j => nI (zk i w j)) i (nI 0) = fun j => nI (zk (i + 1) w j) := by
  rw [upd_nI]
  funext j
  unfold zk
  by_cases e : j = i
  · rw [if_pos e, if_pos (by omega)]
  · rw [if_neg e]
    by_cases q : j < i
    · rw [if_pos q, if_pos (by omega)]
    · rw [if_neg q, if_neg (by omega)]
theorem zk_0 (w : Nat → Nat) : (fun j => nI (zk 0 w j)) = fun j => nI (w j) := by
  funext j
  unfold zk
  rw [if_neg (Nat.not_lt_zero j)]
def np (a : Int32) : Nat := 2 + plc a 7
theorem np_ok (a : Int32) : 2 ≤ np a ∧ np a ≤ 8 := by
  have := plc_lt a (n := 7) (by decide)
  unfold np; omega
theorem bn_np (a : Int32) : (a &&& 2147483647) - (a &&& 2147483647) / nI 7 * nI 7 = nI (plc a 7) := bn_plc a (by decide) (by decide)
def rdw (w : Nat → Nat) (x y : Nat) : Nat → Nat := fun j => if j = x then w x ||| 2 ^ y else w j
def clw (w : Nat → Nat) (x y : Nat) : Nat → Nat := fun j => if j = x then bd (w x) (2 ^ y) else w j
theorem kp_set {ws u : va_W} {i : Nat} {z : Nat × va_E} {P : Nat → Prop} (h : ∀ k, P k → u[k]? = ws[k]?) (hi : ∀ k, P k → i ≠ k) : ∀ k, P k → (u.set i z)[k]? = ws[k]? := fun k hk => (List.getElem?_set_ne (hi k hk)).trans (h k hk)
theorem kp_app {ws u : va_W} {z : va_W} {P : Nat → Prop} (h : ∀ k, P k → u[k]? = ws[k]?) (hi : ∀ k, P k → k < u.length) : ∀ k, P k → (u ++ z)[k]? = ws[k]? := fun k hk => (List.getElem?_append_left (hi k hk)).trans (h k hk)
set_option maxHeartbeats 4000000 in
set_option maxRecDepth 100000 in
theorem metX1_begin (l : Launch) (D : va_G) (cI cL : ClassId) (ws : va_W) (sz : Nat) (ad : Nat → Nat) (w : Nat → Nat) (n0 : Int32) (h1 : ws[1]? = some (ad 1, .inr (1, [.ref (ad 2), .int n0]))) (h2 : ws[2]? = some (ad 2, .inl (cI, 8, .inl (fun j => nI (w j))))) (n1 : Nat) : Met l yX1_begin (ws_ yX1_begin cX1_begin 3 none) ({ frames := 0, cells := 0, slots := 0, locals := 0 }) (MuP D cI cL ws sz [.ref (ad 1), .int (nI n1)]) (va_Qv (fun u : va_W => u[1]? = some (ad 1, .inr (1, [.ref (ad 2), .int (nI (n1))])) ∧ u[2]? = some (ad 2, .inl (cI, 8, .inl (fun j => nI (zk 8 w j)))) ∧ ∀ k, (k ≠ 1 ∧ k ≠ 2) → u[k]? = ws[k]?) (MuB D ws sz) (va_A ws sz)) 0 0 (va_A ws sz) := by
  refine Met.ofW (cc := cX1_begin) (maxL := 3) (ret := none) (by decide) rfl ?_
  intro p e s m args below meth c s₁ B hml hv
  obtain ⟨rfl, hsz, hP, hC, hD0⟩ := hv
  have hx := B.exec
  have hb := B.bytes
  have hr := B.returns
  have hts := atoms_spec (ws := (ws_ yX1_begin cX1_begin 3 none)) B.pre
  have hts : ∀ w ∈ lw_all, w.before _ s = true := fun w h => hts w (List.mem_cons_of_mem _ h)
  have hown : s.vm.findClass RX1 = some m.cls := findClass_of_methodNamed B.named
  have hlocks := B.notSynchronized
  subst hsz
  have hD := hD0.self (sz := s.heap.size)
  have hA : ∀ q : Nat, s.heap.size ≤ q → va_A ws s.heap.size q := fun q h => Or.inr h
  have hS : va_S (va_A ws s.heap.size) s.heap s.heap [] := va_S.rf
  have hl := lv_entry ([.ref (ad 1), .int (nI n1)]) (n := 3) (Nat.le_of_ble_eq_true rfl)
  rw [lg_entry_eq]
  generalize (lg_sl ([.ref (ad 1), .int (nI n1)]) ++ List.replicate (3 - (lg_sl ([.ref (ad 1), .int (nI n1)])).length) Slot.unset).toArray = ls at hl ⊢
  have hl : lv_has ls 3 [(0, .ref (ad 1)), (1, .int (nI n1))] := hl
  refine lv_aload_n hx hb dX1_begin_0 rfl (lv_at hl 0 rfl) ?_
  refine lv_iload_n hx hb dX1_begin_1 rfl (lv_at hl 1 rfl) ?_
  refine va_put (D := D) (ci := 1) (v := .int (nI n1)) (ty := .int) (C := RX1) (T := TX1) (N := 2) hx hb hts in_X1 tyX1 tyX1_ok nmX1 hown hC.1 hP hD hS 1 h1 rfl 1 (by decide) (hts _ q27) (fun _ h9 => h9) rfl (by decide +kernel) rfl rfl (Nat.le_of_ble_eq_true rfl) dX1_begin_2 (fun H locs hP hD hS => ?_)
  have hP : va_P D vwCl ((ws).set 1 (ad 1, .inr (1, [.ref (ad 2), .int (nI (n1))]))) H := hP
  have hD : va_D _ ((ws).set 1 (ad 1, .inr (1, [.ref (ad 2), .int (nI (n1))]))) := hD
  have h2 := set_ne (i := 1) (z := (ad 1, .inr (1, [.ref (ad 2), .int (nI (n1))]))) h2 (by decide)
  have h1 := set_eq (z := (ad 1, .inr (1, [.ref (ad 2), .int (nI (n1))]))) h1
  refine lv_iconst (v := nI 0) hx hb dX1_begin_5 (by decide) ?_
  refine lv_istore_n (lv' := [(2, .int (nI 0)), (0, .ref (ad 1)), (1, .int (nI n1))]) hx hb dX1_begin_6 rfl hl (by decide) rfl (fun ls hl => ?_)
  have lp : ∀ (k i : Nat) (u : va_W) (H : Heap) (locs : List Loc) (ls : Array Slot), 8 - i < k → (i ≤ 8 ∧ u[1]? = some (ad 1, .inr (1, [.ref (ad 2), .int (nI (n1))])) ∧ u[2]? = some (ad 2, .inl (cI, 8, .inl (fun j => nI (zk i w j)))) ∧ ∀ k, (k ≠ 1 ∧ k ≠ 2) → u[k]? = ws[k]?) → va_P D vwCl u H → va_D (va_A ws s.heap.size) u → va_S (va_A ws s.heap.size) s.heap H locs → lv_has ls 3 [(0, .ref (ad 1)), (1, .int (nI n1)), (2, .int (nI i))] → W p l e (headSpec (ws_ yX1_begin cX1_begin 3 none) ({ frames := 0, cells := 0, slots := 0, locals := 0 })).room s m ([.ref (ad 1), .int (nI n1)] : List Value).toArray below meth c H locs 0 0 (MQ below (va_Qv (fun u : va_W => u[1]? = some (ad 1, .inr (1, [.ref (ad 2), .int (nI (n1))])) ∧ u[2]? = some (ad 2, .inl (cI, 8, .inl (fun j => nI (zk 8 w j)))) ∧ ∀ k, (k ≠ 1 ∧ k ≠ 2) → u[k]? = ws[k]?) (MuB D ws s.heap.size) (va_A ws s.heap.size)) ([.ref (ad 1), .int (nI n1)] : List Value).toArray s 0 0 (va_A ws s.heap.size)) (F0 m 7 ls []) := by
    intro k
    induction k with
    | zero => intro i u H locs ls h; exact absurd h (Nat.not_lt_zero _)
    | succ k ihlp =>
      intro i u H locs ls hk hq hP hD hS hl
      obtain ⟨hi8, h1, h2, hkp⟩ := hq
      refine lv_iload_n hx hb dX1_begin_7 rfl (lv_at hl 2 rfl) ?_
      refine lv_bipush (v := nI 8) hx hb dX1_begin_8 (by decide) ?_
      refine lv_icmp_ge (tgt := 26) hx hb dX1_begin_10 (by decide) (fun c_1 => ?_) (fun c_1 => ?_)
      · have e1 : i = 8 := Nat.le_antisymm hi8 (nJ_le (by decide) (by omega) c_1)
        subst e1
        exact W.vret hx hb hr (fun t ht hW => ⟨⟨_, rfl, ⟨h1, h2, hkp⟩, by rw [ht]; exact hP, hD⟩, hS.F ht⟩) hS.2.2 dX1_begin_26
      · have hi : i < 8 := nJ_nle (by decide) (by omega) c_1
        refine lv_aload_n hx hb dX1_begin_13 rfl (lv_at hl 0 rfl) ?_
        refine va_get (D := D) (ci := 1) (v := .ref (ad 2)) (C := RX1) (T := TX1) (N := 2) hx hb hts in_X1 hown hC.1 hP 1 h1 rfl 0 (by decide) (hts _ q25) (fun _ h9 => h9) rfl dX1_begin_14 ?_
        refine lv_iload_n hx hb dX1_begin_17 rfl (lv_at hl 2 rfl) ?_
        refine lv_iconst (v := nI 0) hx hb dX1_begin_18 (by decide) ?_
        refine th_iast hx hb hC hP hD hS 2 h2 (k := i) hi (by decide) dX1_begin_19 (fun H locs hP hD hS => ?_)
        rw [upd_zk] at hP hD
        refine lv_iinc (v := nI (i + 1)) (lv' := [(2, .int (nI (i + 1))), (0, .ref (ad 1)), (1, .int (nI n1))]) hx hb dX1_begin_20 hl (k := 2) rfl (th_in1 _) (by decide) rfl (fun ls hl => ?_)
        refine lv_goto (tgt := 7) hx hb dX1_begin_23 (by decide) ?_
        exact ihlp (i + 1) _ _ _ ls (by omega) ⟨hi, set_ne h1 (by decide), set_eq h2, kp_set hkp (fun k hk => fun e => hk.2 e.symm)⟩ hP hD hS (lv_sub hl [1, 2, 0] rfl)
  exact lp 9 0 _ _ _ ls (by omega) ⟨by omega, h1, (by rw [zk_0]; exact h2), kp_set (fun _ _ => rfl) (fun k hk => fun e => hk.1 e.symm)⟩ hP hD hS (lv_sub hl [1, 2, 0] rfl)
set_option maxHeartbeats 4000000 in
set_option maxRecDepth 100000 in
theorem metX3_places (l : Launch) (D : va_G) (cI cL : ClassId) (ws : va_W) (sz : Nat) (ad : Nat → Nat) (w : Nat → Nat) (n0 : Int32) (h23 : ws[23]? = some (ad 23, .inr (3, [.ref (ad 24), .int n0]))) (h24 : ws[24]? = some (ad 24, .inl (cI, 8, .inl (fun j => nI (w j))))) (a0 : Int32) : Met l yX3_places (ws_ yX3_places cX3_places 3 none) ({ frames := 0, cells := 0, slots := 0, locals := 0 }) (MuP D cI cL ws sz [.ref (ad 23), .int a0]) (va_Qv (fun u : va_W => u[23]? = some (ad 23, .inr (3, [.ref (ad 24), .int (nI (np a0))])) ∧ u[24]? = some (ad 24, .inl (cI, 8, .inl (fun j => nI (zk 8 w j)))) ∧ ∀ k, (k ≠ 23 ∧ k ≠ 24) → u[k]? = ws[k]?) (MuB D ws sz) (va_A ws sz)) 0 0 (va_A ws sz) := by
  refine Met.ofW (cc := cX3_places) (maxL := 3) (ret := none) (by decide) rfl ?_
  intro p e s m args below meth c s₁ B hml hv
  obtain ⟨rfl, hsz, hP, hC, hD0⟩ := hv
  have hx := B.exec
  have hb := B.bytes
  have hr := B.returns
  have hts := atoms_spec (ws := (ws_ yX3_places cX3_places 3 none)) B.pre
  have hts : ∀ w ∈ lw_all, w.before _ s = true := fun w h => hts w (List.mem_cons_of_mem _ h)
  have hown : s.vm.findClass RX3 = some m.cls := findClass_of_methodNamed B.named
  have hlocks := B.notSynchronized
  subst hsz
  have hD := hD0.self (sz := s.heap.size)
  have hA : ∀ q : Nat, s.heap.size ≤ q → va_A ws s.heap.size q := fun q h => Or.inr h
  have hS : va_S (va_A ws s.heap.size) s.heap s.heap [] := va_S.rf
  have hl := lv_entry ([.ref (ad 23), .int a0]) (n := 3) (Nat.le_of_ble_eq_true rfl)
  rw [lg_entry_eq]
  generalize (lg_sl ([.ref (ad 23), .int a0]) ++ List.replicate (3 - (lg_sl ([.ref (ad 23), .int a0])).length) Slot.unset).toArray = ls at hl ⊢
  have hl : lv_has ls 3 [(0, .ref (ad 23)), (1, .int a0)] := hl
  refine lv_aload_n hx hb dX3_places_0 rfl (lv_at hl 0 rfl) ?_
  refine lv_iconst (v := nI 2) hx hb dX3_places_1 (by decide) ?_
  refine lv_iload_n hx hb dX3_places_2 rfl (lv_at hl 1 rfl) ?_
  refine lv_ldc (v := 2147483647) hx hb hown (hts _ q152) dX3_places_3 ?_
  refine lv_iand hx hb dX3_places_5 ?_
  refine lv_bipush (v := nI 7) hx hb dX3_places_6 (by decide) ?_
  refine lv_irem hx hb dX3_places_8 (by decide) (tp_ (z := nI (plc a0 7)) (bn_np a0) ?_)
  refine lv_iadd hx hb dX3_places_9 (tp_ (z := nI (np a0)) (nI_add 2 (plc a0 7)) ?_)
  refine va_put (D := D) (ci := 3) (v := .int (nI (np a0))) (ty := .int) (C := RX3) (T := TX3) (N := 2) hx hb hts in_X3 tyX3 tyX3_ok nmX3 hown hC.1 hP hD hS 23 h23 rfl 1 (by decide) (hts _ q142) (fun _ h9 => h9) rfl (by decide +kernel) rfl rfl (Nat.le_of_ble_eq_true rfl) dX3_places_10 (fun H locs hP hD hS => ?_)
  have hP : va_P D vwCl ((ws).set 23 (ad 23, .inr (3, [.ref (ad 24), .int (nI (np a0))]))) H := hP
  have hD : va_D _ ((ws).set 23 (ad 23, .inr (3, [.ref (ad 24), .int (nI (np a0))]))) := hD
  have h24 := set_ne (i := 23) (z := (ad 23, .inr (3, [.ref (ad 24), .int (nI (np a0))]))) h24 (by decide)
  have h23 := set_eq (z := (ad 23, .inr (3, [.ref (ad 24), .int (nI (np a0))]))) h23
  refine lv_iconst (v := nI 0) hx hb dX3_places_13 (by decide) ?_
  refine lv_istore_n (lv' := [(2, .int (nI 0)), (0, .ref (ad 23)), (1, .int a0)]) hx hb dX3_places_14 rfl hl (by decide) rfl (fun ls hl => ?_)
  have lp : ∀ (k i : Nat) (u : va_W) (H : Heap) (locs : List Loc) (ls : Array Slot), 8 - i < k → (i ≤ 8 ∧ u[23]? = some (ad 23, .inr (3, [.ref (ad 24), .int (nI (np a0))])) ∧ u[24]? = some (ad 24, .inl (cI, 8, .inl (fun j => nI (zk i w j)))) ∧ ∀ k, (k ≠ 23 ∧ k ≠ 24) → u[k]? = ws[k]?) → va_P D vwCl u H → va_D (va_A ws s.heap.size) u → va_S (va_A ws s.heap.size) s.heap H locs → lv_has ls 3 [(0, .ref (ad 23)), (1, .int a0), (2, .int (nI i))] → W p l e (headSpec (ws_ yX3_places cX3_places 3 none) ({ frames := 0, cells := 0, slots := 0, locals := 0 })).room s m ([.ref (ad 23), .int a0] : List Value).toArray below meth c H locs 0 0 (MQ below (va_Qv (fun u : va_W => u[23]? = some (ad 23, .inr (3, [.ref (ad 24), .int (nI (np a0))])) ∧ u[24]? = some (ad 24, .inl (cI, 8, .inl (fun j => nI (zk 8 w j)))) ∧ ∀ k, (k ≠ 23 ∧ k ≠ 24) → u[k]? = ws[k]?) (MuB D ws s.heap.size) (va_A ws s.heap.size)) ([.ref (ad 23), .int a0] : List Value).toArray s 0 0 (va_A ws s.heap.size)) (F0 m 15 ls []) := by
    intro k
    induction k with
    | zero => intro i u H locs ls h; exact absurd h (Nat.not_lt_zero _)
    | succ k ihlp =>
      intro i u H locs ls hk hq hP hD hS hl
      obtain ⟨hi8, h23, h24, hkp⟩ := hq
      refine lv_iload_n hx hb dX3_places_15 rfl (lv_at hl 2 rfl) ?_
      refine lv_bipush (v := nI 8) hx hb dX3_places_16 (by decide) ?_
      refine lv_icmp_ge (tgt := 34) hx hb dX3_places_18 (by decide) (fun c_1 => ?_) (fun c_1 => ?_)
      · have e1 : i = 8 := Nat.le_antisymm hi8 (nJ_le (by decide) (by omega) c_1)
        subst e1
        exact W.vret hx hb hr (fun t ht hW => ⟨⟨_, rfl, ⟨h23, h24, hkp⟩, by rw [ht]; exact hP, hD⟩, hS.F ht⟩) hS.2.2 dX3_places_34
      · have hi : i < 8 := nJ_nle (by decide) (by omega) c_1
        refine lv_aload_n hx hb dX3_places_21 rfl (lv_at hl 0 rfl) ?_
        refine va_get (D := D) (ci := 3) (v := .ref (ad 24)) (C := RX3) (T := TX3) (N := 2) hx hb hts in_X3 hown hC.1 hP 23 h23 rfl 0 (by decide) (hts _ q141) (fun _ h9 => h9) rfl dX3_places_22 ?_
        refine lv_iload_n hx hb dX3_places_25 rfl (lv_at hl 2 rfl) ?_
        refine lv_iconst (v := nI 0) hx hb dX3_places_26 (by decide) ?_
        refine th_iast hx hb hC hP hD hS 24 h24 (k := i) hi (by decide) dX3_places_27 (fun H locs hP hD hS => ?_)
        rw [upd_zk] at hP hD
        refine lv_iinc (v := nI (i + 1)) (lv' := [(2, .int (nI (i + 1))), (0, .ref (ad 23)), (1, .int a0)]) hx hb dX3_places_28 hl (k := 2) rfl (th_in1 _) (by decide) rfl (fun ls hl => ?_)
        refine lv_goto (tgt := 15) hx hb dX3_places_31 (by decide) ?_
        exact ihlp (i + 1) _ _ _ ls (by omega) ⟨hi, set_ne h23 (by decide), set_eq h24, kp_set hkp (fun k hk => fun e => hk.2 e.symm)⟩ hP hD hS (lv_sub hl [1, 2, 0] rfl)
  exact lp 9 0 _ _ _ ls (by omega) ⟨by omega, h23, (by rw [zk_0]; exact h24), kp_set (fun _ _ => rfl) (fun k hk => fun e => hk.1 e.symm)⟩ hP hD hS (lv_sub hl [1, 2, 0] rfl)
set_option maxHeartbeats 4000000 in
set_option maxRecDepth 100000 in
theorem metX0_road (l : Launch) (D : va_G) (cI cL : ClassId) (ws : va_W) (sz : Nat) (ad : Nat → Nat) (n : Nat) (w : Nat → Nat) (h0 : ws[0]? = some (ad 0, .inr (0, [.ref (ad 1), .ref (ad 3)]))) (h1 : ws[1]? = some (ad 1, .inr (1, [.ref (ad 2), .int (nI n)]))) (h2 : ws[2]? = some (ad 2, .inl (cI, 8, .inl (fun j => nI (w j))))) (hn0 : 0 < n) (hn8 : n ≤ 8) (hw : WF w n) (a0 b0 : Int32) : Met l yX0_road (ws_ yX0_road cX0_road 5 (some .boolean)) ({ frames := 1, cells := 0, slots := 0, locals := 21 }) (MuP D cI cL ws sz [.ref (ad 0), .int a0, .int b0]) (va_Qi (fun (r : Int32) (u : va_W) => r = nI (b01 (decide (plc a0 n ≠ plc b0 n))) ∧ u[2]? = some (ad 2, .inl (cI, 8, .inl (fun j => nI ((if plc a0 n = plc b0 n then w else rdw w (plc a0 n) (plc b0 n)) j)))) ∧ ∀ k, k ≠ 2 → u[k]? = ws[k]?) (MuB D ws sz) (va_A ws sz)) 0 0 (va_A ws sz) := by
  refine Met.ofW (cc := cX0_road) (maxL := 5) (ret := (some .boolean)) (by decide) rfl ?_
  intro p e s m args below meth c s₁ B hml hv
  obtain ⟨rfl, hsz, hP, hC, hD0⟩ := hv
  have hx := B.exec
  have hb := B.bytes
  have hr := B.returns
  have hts := atoms_spec (ws := (ws_ yX0_road cX0_road 5 (some .boolean))) B.pre
  have hts : ∀ w ∈ lw_all, w.before _ s = true := fun w h => hts w (List.mem_cons_of_mem _ h)
  have hown : s.vm.findClass RX0 = some m.cls := findClass_of_methodNamed B.named
  have hlocks := B.notSynchronized
  subst hsz
  have hD := hD0.self (sz := s.heap.size)
  have hA : ∀ q : Nat, s.heap.size ≤ q → va_A ws s.heap.size q := fun q h => Or.inr h
  have hS : va_S (va_A ws s.heap.size) s.heap s.heap [] := va_S.rf
  have hl := lv_entry ([.ref (ad 0), .int a0, .int b0]) (n := 5) (Nat.le_of_ble_eq_true rfl)
  rw [lg_entry_eq]
  generalize (lg_sl ([.ref (ad 0), .int a0, .int b0]) ++ List.replicate (5 - (lg_sl ([.ref (ad 0), .int a0, .int b0])).length) Slot.unset).toArray = ls at hl ⊢
  have hl : lv_has ls 5 [(0, .ref (ad 0)), (1, .int a0), (2, .int b0)] := hl
  have hxn := plc_lt a0 hn0
  have hyn := plc_lt b0 hn0
  refine lv_aload_n hx hb dX0_road_0 rfl (lv_at hl 0 rfl) ?_
  refine va_get (D := D) (ci := 0) (v := .ref (ad 1)) (C := RX0) (T := TX0) (N := 2) hx hb hts in_X0 hown hC.1 hP 0 h0 rfl 0 (by decide) (hts _ q61) (fun _ h9 => h9) rfl dX0_road_1 ?_
  refine lv_iload_n hx hb dX0_road_4 rfl (lv_at hl 1 rfl) ?_
  refine rdV (As := [.int a0]) (rest := []) ⟨hx, hb, hml, hown, hts⟩ (metX1_place l D cI cL ws ad n h1 hn0 (by omega) a0) (cwV 1 hts (lw_V q77 q78 q79 q7 q80) rfl rfl rfl (by decide +kernel) ⟨Nat.le_of_ble_eq_true rfl, Nat.le_of_ble_eq_true rfl⟩) hC hP (va_recv hC.1 hP (ci := 1) (q0 := 1) rfl h1) rfl rfl hl.1 (Nat.le_of_ble_eq_true rfl) dX0_road_5 ⟨Nat.zero_le _, Nat.zero_le _⟩ (fun r1 hr1 => ?_)
  subst hr1
  refine lv_istore_n (lv' := [(3, .int (nI (plc a0 n))), (0, .ref (ad 0)), (1, .int a0), (2, .int b0)]) hx hb dX0_road_8 rfl hl (by decide) rfl (fun ls hl => ?_)
  refine lv_aload_n hx hb dX0_road_9 rfl (lv_at hl 1 rfl) ?_
  refine va_get (D := D) (ci := 0) (v := .ref (ad 1)) (C := RX0) (T := TX0) (N := 2) hx hb hts in_X0 hown hC.1 hP 0 h0 rfl 0 (by decide) (hts _ q61) (fun _ h9 => h9) rfl dX0_road_10 ?_
  refine lv_iload_n hx hb dX0_road_13 rfl (lv_at hl 3 rfl) ?_
  refine rdV (As := [.int b0]) (rest := []) ⟨hx, hb, hml, hown, hts⟩ (metX1_place l D cI cL ws ad n h1 hn0 (by omega) b0) (cwV 1 hts (lw_V q77 q78 q79 q7 q80) rfl rfl rfl (by decide +kernel) ⟨Nat.le_of_ble_eq_true rfl, Nat.le_of_ble_eq_true rfl⟩) hC hP (va_recv hC.1 hP (ci := 1) (q0 := 1) rfl h1) rfl rfl hl.1 (Nat.le_of_ble_eq_true rfl) dX0_road_14 ⟨Nat.zero_le _, Nat.zero_le _⟩ (fun r1 hr1 => ?_)
  subst hr1
  refine lv_istore (lv' := [(4, .int (nI (plc b0 n))), (3, .int (nI (plc a0 n))), (0, .ref (ad 0)), (1, .int a0), (2, .int b0)]) hx hb dX0_road_17 hl (by decide) rfl (fun ls hl => ?_)
  refine lv_iload_n hx hb dX0_road_19 rfl (lv_at hl 1 rfl) ?_
  refine lv_iload hx hb dX0_road_20 (lv_at hl 0 rfl) ?_
  refine lv_icmp_ne (tgt := 27) hx hb dX0_road_22 (by decide) (fun c_1 => ?_) (fun c_1 => ?_)
  · have hne := nI_ni c_1
    refine lv_aload_n hx hb dX0_road_27 rfl (lv_at hl 2 rfl) ?_
    refine va_get (D := D) (ci := 0) (v := .ref (ad 1)) (C := RX0) (T := TX0) (N := 2) hx hb hts in_X0 hown hC.1 hP 0 h0 rfl 0 (by decide) (hts _ q61) (fun _ h9 => h9) rfl dX0_road_28 ?_
    refine va_getN (D := D) (ci := 1) (v := .ref (ad 2)) (C := RX1) (T := TX1) (N := 2) hx hb hts in_X1 hown hC.1 hP 1 h1 rfl 0 (by decide) (va_Nw.use rfl hC.2.1.1) (fun _ h9 => h9) rfl dX0_road_31 ?_
    refine lv_iload_n hx hb dX0_road_34 rfl (lv_at hl 1 rfl) ?_
    refine lv_dup2_11 hx hb dX0_road_35 rfl rfl ?_
    refine th_iald hx hb hC hP 2 h2 (k := (plc a0 n)) (by omega) (by decide) dX0_road_36 ?_
    refine lv_iconst (v := nI 1) hx hb dX0_road_37 (by decide) ?_
    refine lv_iload hx hb dX0_road_38 (lv_at hl 0 rfl) ?_
    refine lv_ishl hx hb dX0_road_40 (tp_ (z := nI (2 ^ (plc b0 n))) (bn_shl (by omega)) ?_)
    refine lv_ior hx hb dX0_road_41 (tp_ (z := nI ((w (plc a0 n)) ||| (2 ^ (plc b0 n)))) (bn_or _ _) ?_)
    refine th_iast hx hb hC hP hD hS 2 h2 (k := (plc a0 n)) (by omega) (by decide) dX0_road_42 (fun H locs hP hD hS => ?_)
    rw [upd_nI] at hP hD
    refine lv_iconst (v := nI 1) hx hb dX0_road_43 (by decide) ?_
    exact W.zret (v := nI 1) hx hb hr rfl (fun t ht hW => ⟨⟨nI 1, _, rfl, ⟨by rw [decide_eq_true hne]; rfl, by rw [if_neg hne]; exact set_eq h2, kp_set (fun _ _ => rfl) (fun k hk => fun e => hk e.symm)⟩, by rw [ht]; exact hP, hD⟩, hS.F ht⟩) hS.2.2 dX0_road_44
  · have he := nI_i (by omega) (by omega) c_1
    refine lv_iconst (v := nI 0) hx hb dX0_road_25 (by decide) ?_
    exact W.zret (v := nI 0) hx hb hr rfl (fun t ht hW => ⟨⟨nI 0, _, rfl, ⟨by rw [decide_eq_false (fun q => q he)]; rfl, by rw [if_pos he]; exact h2, fun _ _ => rfl⟩, by rw [ht]; exact hP, hD⟩, hS.F ht⟩) hS.2.2 dX0_road_26
set_option maxHeartbeats 4000000 in
set_option maxRecDepth 100000 in
theorem metX0_close (l : Launch) (D : va_G) (cI cL : ClassId) (ws : va_W) (sz : Nat) (ad : Nat → Nat) (n : Nat) (w : Nat → Nat) (h0 : ws[0]? = some (ad 0, .inr (0, [.ref (ad 1), .ref (ad 3)]))) (h1 : ws[1]? = some (ad 1, .inr (1, [.ref (ad 2), .int (nI n)]))) (h2 : ws[2]? = some (ad 2, .inl (cI, 8, .inl (fun j => nI (w j))))) (hn0 : 0 < n) (hn8 : n ≤ 8) (hw : WF w n) (a0 b0 : Int32) : Met l yX0_close (ws_ yX0_close cX0_close 3 none) ({ frames := 1, cells := 0, slots := 0, locals := 21 }) (MuP D cI cL ws sz [.ref (ad 0), .int a0, .int b0]) (va_Qv (fun u : va_W => u[2]? = some (ad 2, .inl (cI, 8, .inl (fun j => nI (clw w (plc a0 n) (plc b0 n) j)))) ∧ ∀ k, k ≠ 2 → u[k]? = ws[k]?) (MuB D ws sz) (va_A ws sz)) 0 0 (va_A ws sz) := by
  refine Met.ofW (cc := cX0_close) (maxL := 3) (ret := none) (by decide) rfl ?_
  intro p e s m args below meth c s₁ B hml hv
  obtain ⟨rfl, hsz, hP, hC, hD0⟩ := hv
  have hx := B.exec
  have hb := B.bytes
  have hr := B.returns
  have hts := atoms_spec (ws := (ws_ yX0_close cX0_close 3 none)) B.pre
  have hts : ∀ w ∈ lw_all, w.before _ s = true := fun w h => hts w (List.mem_cons_of_mem _ h)
  have hown : s.vm.findClass RX0 = some m.cls := findClass_of_methodNamed B.named
  have hlocks := B.notSynchronized
  subst hsz
  have hD := hD0.self (sz := s.heap.size)
  have hA : ∀ q : Nat, s.heap.size ≤ q → va_A ws s.heap.size q := fun q h => Or.inr h
  have hS : va_S (va_A ws s.heap.size) s.heap s.heap [] := va_S.rf
  have hl := lv_entry ([.ref (ad 0), .int a0, .int b0]) (n := 3) (Nat.le_of_ble_eq_true rfl)
  rw [lg_entry_eq]
  generalize (lg_sl ([.ref (ad 0), .int a0, .int b0]) ++ List.replicate (3 - (lg_sl ([.ref (ad 0), .int a0, .int b0])).length) Slot.unset).toArray = ls at hl ⊢
  have hl : lv_has ls 3 [(0, .ref (ad 0)), (1, .int a0), (2, .int b0)] := hl
  have hxn := plc_lt a0 hn0
  have hyn := plc_lt b0 hn0
  refine lv_aload_n hx hb dX0_close_0 rfl (lv_at hl 0 rfl) ?_
  refine va_get (D := D) (ci := 0) (v := .ref (ad 1)) (C := RX0) (T := TX0) (N := 2) hx hb hts in_X0 hown hC.1 hP 0 h0 rfl 0 (by decide) (hts _ q61) (fun _ h9 => h9) rfl dX0_close_1 ?_
  refine va_getN (D := D) (ci := 1) (v := .ref (ad 2)) (C := RX1) (T := TX1) (N := 2) hx hb hts in_X1 hown hC.1 hP 1 h1 rfl 0 (by decide) (va_Nw.use rfl hC.2.1.1) (fun _ h9 => h9) rfl dX0_close_4 ?_
  refine lv_aload_n hx hb dX0_close_7 rfl (lv_at hl 0 rfl) ?_
  refine va_get (D := D) (ci := 0) (v := .ref (ad 1)) (C := RX0) (T := TX0) (N := 2) hx hb hts in_X0 hown hC.1 hP 0 h0 rfl 0 (by decide) (hts _ q61) (fun _ h9 => h9) rfl dX0_close_8 ?_
  refine lv_iload_n hx hb dX0_close_11 rfl (lv_at hl 1 rfl) ?_
  refine rdV (As := [.int a0]) (rest := [.ref (ad 2)]) ⟨hx, hb, hml, hown, hts⟩ (metX1_place l D cI cL ws ad n h1 hn0 (by omega) a0) (cwV 1 hts (lw_V q77 q78 q79 q7 q80) rfl rfl rfl (by decide +kernel) ⟨Nat.le_of_ble_eq_true rfl, Nat.le_of_ble_eq_true rfl⟩) hC hP (va_recv hC.1 hP (ci := 1) (q0 := 1) rfl h1) rfl rfl hl.1 (Nat.le_of_ble_eq_true rfl) dX0_close_12 ⟨Nat.zero_le _, Nat.zero_le _⟩ (fun r1 hr1 => ?_)
  subst hr1
  refine lv_dup2_11 hx hb dX0_close_15 rfl rfl ?_
  refine th_iald hx hb hC hP 2 h2 (k := (plc a0 n)) (by omega) (by decide) dX0_close_16 ?_
  refine lv_iconst (v := nI 1) hx hb dX0_close_17 (by decide) ?_
  refine lv_aload_n hx hb dX0_close_18 rfl (lv_at hl 0 rfl) ?_
  refine va_get (D := D) (ci := 0) (v := .ref (ad 1)) (C := RX0) (T := TX0) (N := 2) hx hb hts in_X0 hown hC.1 hP 0 h0 rfl 0 (by decide) (hts _ q61) (fun _ h9 => h9) rfl dX0_close_19 ?_
  refine lv_iload_n hx hb dX0_close_22 rfl (lv_at hl 2 rfl) ?_
  refine rdV (As := [.int b0]) (rest := [.int (nI 1), .int (nI (w (plc a0 n))), .int (nI (plc a0 n)), .ref (ad 2)]) ⟨hx, hb, hml, hown, hts⟩ (metX1_place l D cI cL ws ad n h1 hn0 (by omega) b0) (cwV 1 hts (lw_V q77 q78 q79 q7 q80) rfl rfl rfl (by decide +kernel) ⟨Nat.le_of_ble_eq_true rfl, Nat.le_of_ble_eq_true rfl⟩) hC hP (va_recv hC.1 hP (ci := 1) (q0 := 1) rfl h1) rfl rfl hl.1 (Nat.le_of_ble_eq_true rfl) dX0_close_23 ⟨Nat.zero_le _, Nat.zero_le _⟩ (fun r1 hr1 => ?_)
  subst hr1
  refine lv_ishl hx hb dX0_close_26 (tp_ (z := nI (2 ^ (plc b0 n))) (bn_shl (by omega)) ?_)
  refine lv_iconst (v := -1) hx hb dX0_close_27 (by decide) ?_
  refine lv_ixor hx hb dX0_close_28 ?_
  refine lv_iand hx hb dX0_close_29 (tp_ (z := nI (bd (w (plc a0 n)) (2 ^ (plc b0 n)))) (bn_andn _ _) ?_)
  refine th_iast hx hb hC hP hD hS 2 h2 (k := (plc a0 n)) (by omega) (by decide) dX0_close_30 (fun H locs hP hD hS => ?_)
  rw [upd_nI] at hP hD
  exact W.vret hx hb hr (fun t ht hW => ⟨⟨_, rfl, ⟨set_eq h2, kp_set (fun _ _ => rfl) (fun k hk => fun e => hk e.symm)⟩, by rw [ht]; exact hP, hD⟩, hS.F ht⟩) hS.2.2 dX0_close_31
set_option maxHeartbeats 4000000 in
set_option maxRecDepth 100000 in
theorem metX3_road (l : Launch) (D : va_G) (cI cL : ClassId) (ws : va_W) (sz : Nat) (ad : Nat → Nat) (n : Nat) (w : Nat → Nat) (h23 : ws[23]? = some (ad 23, .inr (3, [.ref (ad 24), .int (nI n)]))) (h24 : ws[24]? = some (ad 24, .inl (cI, 8, .inl (fun j => nI (w j))))) (hn0 : 0 < n) (hn8 : n ≤ 8) (hw : WF w n) (a0 b0 : Int32) : Met l yX3_road (ws_ yX3_road cX3_road 5 (some .boolean)) ({ frames := 1, cells := 0, slots := 0, locals := 21 }) (MuP D cI cL ws sz [.ref (ad 23), .int a0, .int b0]) (va_Qi (fun (r : Int32) (u : va_W) => r = nI (b01 (decide (plc a0 n ≠ plc b0 n))) ∧ u[24]? = some (ad 24, .inl (cI, 8, .inl (fun j => nI ((if plc a0 n = plc b0 n then w else rdw w (plc a0 n) (plc b0 n)) j)))) ∧ ∀ k, k ≠ 24 → u[k]? = ws[k]?) (MuB D ws sz) (va_A ws sz)) 0 0 (va_A ws sz) := by
  refine Met.ofW (cc := cX3_road) (maxL := 5) (ret := (some .boolean)) (by decide) rfl ?_
  intro p e s m args below meth c s₁ B hml hv
  obtain ⟨rfl, hsz, hP, hC, hD0⟩ := hv
  have hx := B.exec
  have hb := B.bytes
  have hr := B.returns
  have hts := atoms_spec (ws := (ws_ yX3_road cX3_road 5 (some .boolean))) B.pre
  have hts : ∀ w ∈ lw_all, w.before _ s = true := fun w h => hts w (List.mem_cons_of_mem _ h)
  have hown : s.vm.findClass RX3 = some m.cls := findClass_of_methodNamed B.named
  have hlocks := B.notSynchronized
  subst hsz
  have hD := hD0.self (sz := s.heap.size)
  have hA : ∀ q : Nat, s.heap.size ≤ q → va_A ws s.heap.size q := fun q h => Or.inr h
  have hS : va_S (va_A ws s.heap.size) s.heap s.heap [] := va_S.rf
  have hl := lv_entry ([.ref (ad 23), .int a0, .int b0]) (n := 5) (Nat.le_of_ble_eq_true rfl)
  rw [lg_entry_eq]
  generalize (lg_sl ([.ref (ad 23), .int a0, .int b0]) ++ List.replicate (5 - (lg_sl ([.ref (ad 23), .int a0, .int b0])).length) Slot.unset).toArray = ls at hl ⊢
  have hl : lv_has ls 5 [(0, .ref (ad 23)), (1, .int a0), (2, .int b0)] := hl
  have hxn := plc_lt a0 hn0
  have hyn := plc_lt b0 hn0
  refine lv_aload_n hx hb dX3_road_0 rfl (lv_at hl 0 rfl) ?_
  refine lv_iload_n hx hb dX3_road_1 rfl (lv_at hl 1 rfl) ?_
  refine rdV (As := [.int a0]) (rest := []) ⟨hx, hb, hml, hown, hts⟩ (metX3_at l D cI cL ws ad n w h23 h24 hn0 (by omega) a0) (cwV 1 hts (lw_V q157 q159 qs3 q9 q160) rfl rfl rfl (by decide +kernel) ⟨Nat.le_of_ble_eq_true rfl, Nat.le_of_ble_eq_true rfl⟩) hC hP (va_recv hC.1 hP (ci := 3) (q0 := 23) rfl h23) rfl rfl hl.1 (Nat.le_of_ble_eq_true rfl) dX3_road_2 ⟨Nat.zero_le _, Nat.zero_le _⟩ (fun r1 hr1 => ?_)
  subst hr1
  refine lv_istore_n (lv' := [(3, .int (nI (plc a0 n))), (0, .ref (ad 23)), (1, .int a0), (2, .int b0)]) hx hb dX3_road_5 rfl hl (by decide) rfl (fun ls hl => ?_)
  refine lv_aload_n hx hb dX3_road_6 rfl (lv_at hl 1 rfl) ?_
  refine lv_iload_n hx hb dX3_road_7 rfl (lv_at hl 3 rfl) ?_
  refine rdV (As := [.int b0]) (rest := []) ⟨hx, hb, hml, hown, hts⟩ (metX3_at l D cI cL ws ad n w h23 h24 hn0 (by omega) b0) (cwV 1 hts (lw_V q157 q159 qs3 q9 q160) rfl rfl rfl (by decide +kernel) ⟨Nat.le_of_ble_eq_true rfl, Nat.le_of_ble_eq_true rfl⟩) hC hP (va_recv hC.1 hP (ci := 3) (q0 := 23) rfl h23) rfl rfl hl.1 (Nat.le_of_ble_eq_true rfl) dX3_road_8 ⟨Nat.zero_le _, Nat.zero_le _⟩ (fun r1 hr1 => ?_)
  subst hr1
  refine lv_istore (lv' := [(4, .int (nI (plc b0 n))), (3, .int (nI (plc a0 n))), (0, .ref (ad 23)), (1, .int a0), (2, .int b0)]) hx hb dX3_road_11 hl (by decide) rfl (fun ls hl => ?_)
  refine lv_iload_n hx hb dX3_road_13 rfl (lv_at hl 1 rfl) ?_
  refine lv_iload hx hb dX3_road_14 (lv_at hl 0 rfl) ?_
  refine lv_icmp_ne (tgt := 21) hx hb dX3_road_16 (by decide) (fun c_1 => ?_) (fun c_1 => ?_)
  · have hne := nI_ni c_1
    refine lv_aload_n hx hb dX3_road_21 rfl (lv_at hl 2 rfl) ?_
    refine va_get (D := D) (ci := 3) (v := .ref (ad 24)) (C := RX3) (T := TX3) (N := 2) hx hb hts in_X3 hown hC.1 hP 23 h23 rfl 0 (by decide) (hts _ q141) (fun _ h9 => h9) rfl dX3_road_22 ?_
    refine lv_iload_n hx hb dX3_road_25 rfl (lv_at hl 1 rfl) ?_
    refine lv_aload_n hx hb dX3_road_26 rfl (lv_at hl 2 rfl) ?_
    refine va_get (D := D) (ci := 3) (v := .ref (ad 24)) (C := RX3) (T := TX3) (N := 2) hx hb hts in_X3 hown hC.1 hP 23 h23 rfl 0 (by decide) (hts _ q141) (fun _ h9 => h9) rfl dX3_road_27 ?_
    refine lv_iload_n hx hb dX3_road_30 rfl (lv_at hl 1 rfl) ?_
    refine th_iald hx hb hC hP 24 h24 (k := (plc a0 n)) (by omega) (by decide) dX3_road_31 ?_
    refine lv_iconst (v := nI 1) hx hb dX3_road_32 (by decide) ?_
    refine lv_iload hx hb dX3_road_33 (lv_at hl 0 rfl) ?_
    refine lv_ishl hx hb dX3_road_35 (tp_ (z := nI (2 ^ (plc b0 n))) (bn_shl (by omega)) ?_)
    refine lv_ior hx hb dX3_road_36 (tp_ (z := nI ((w (plc a0 n)) ||| (2 ^ (plc b0 n)))) (bn_or _ _) ?_)
    refine th_iast hx hb hC hP hD hS 24 h24 (k := (plc a0 n)) (by omega) (by decide) dX3_road_37 (fun H locs hP hD hS => ?_)
    rw [upd_nI] at hP hD
    refine lv_iconst (v := nI 1) hx hb dX3_road_38 (by decide) ?_
    exact W.zret (v := nI 1) hx hb hr rfl (fun t ht hW => ⟨⟨nI 1, _, rfl, ⟨by rw [decide_eq_true hne]; rfl, by rw [if_neg hne]; exact set_eq h24, kp_set (fun _ _ => rfl) (fun k hk => fun e => hk e.symm)⟩, by rw [ht]; exact hP, hD⟩, hS.F ht⟩) hS.2.2 dX3_road_39
  · have he := nI_i (by omega) (by omega) c_1
    refine lv_iconst (v := nI 0) hx hb dX3_road_19 (by decide) ?_
    exact W.zret (v := nI 0) hx hb hr rfl (fun t ht hW => ⟨⟨nI 0, _, rfl, ⟨by rw [decide_eq_false (fun q => q he)]; rfl, by rw [if_pos he]; exact h24, fun _ _ => rfl⟩, by rw [ht]; exact hP, hD⟩, hS.F ht⟩) hS.2.2 dX3_road_20
set_option maxHeartbeats 4000000 in
set_option maxRecDepth 100000 in
theorem metX3_close (l : Launch) (D : va_G) (cI cL : ClassId) (ws : va_W) (sz : Nat) (ad : Nat → Nat) (n : Nat) (w : Nat → Nat) (h23 : ws[23]? = some (ad 23, .inr (3, [.ref (ad 24), .int (nI n)]))) (h24 : ws[24]? = some (ad 24, .inl (cI, 8, .inl (fun j => nI (w j))))) (hn0 : 0 < n) (hn8 : n ≤ 8) (hw : WF w n) (a0 b0 : Int32) : Met l yX3_close (ws_ yX3_close cX3_close 3 none) ({ frames := 1, cells := 0, slots := 0, locals := 21 }) (MuP D cI cL ws sz [.ref (ad 23), .int a0, .int b0]) (va_Qv (fun u : va_W => u[24]? = some (ad 24, .inl (cI, 8, .inl (fun j => nI (clw w (plc a0 n) (plc b0 n) j)))) ∧ ∀ k, k ≠ 24 → u[k]? = ws[k]?) (MuB D ws sz) (va_A ws sz)) 0 0 (va_A ws sz) := by
  refine Met.ofW (cc := cX3_close) (maxL := 3) (ret := none) (by decide) rfl ?_
  intro p e s m args below meth c s₁ B hml hv
  obtain ⟨rfl, hsz, hP, hC, hD0⟩ := hv
  have hx := B.exec
  have hb := B.bytes
  have hr := B.returns
  have hts := atoms_spec (ws := (ws_ yX3_close cX3_close 3 none)) B.pre
  have hts : ∀ w ∈ lw_all, w.before _ s = true := fun w h => hts w (List.mem_cons_of_mem _ h)
  have hown : s.vm.findClass RX3 = some m.cls := findClass_of_methodNamed B.named
  have hlocks := B.notSynchronized
  subst hsz
  have hD := hD0.self (sz := s.heap.size)
  have hA : ∀ q : Nat, s.heap.size ≤ q → va_A ws s.heap.size q := fun q h => Or.inr h
  have hS : va_S (va_A ws s.heap.size) s.heap s.heap [] := va_S.rf
  have hl := lv_entry ([.ref (ad 23), .int a0, .int b0]) (n := 3) (Nat.le_of_ble_eq_true rfl)
  rw [lg_entry_eq]
  generalize (lg_sl ([.ref (ad 23), .int a0, .int b0]) ++ List.replicate (3 - (lg_sl ([.ref (ad 23), .int a0, .int b0])).length) Slot.unset).toArray = ls at hl ⊢
  have hl : lv_has ls 3 [(0, .ref (ad 23)), (1, .int a0), (2, .int b0)] := hl
  have hxn := plc_lt a0 hn0
  have hyn := plc_lt b0 hn0
  refine lv_aload_n hx hb dX3_close_0 rfl (lv_at hl 0 rfl) ?_
  refine va_get (D := D) (ci := 3) (v := .ref (ad 24)) (C := RX3) (T := TX3) (N := 2) hx hb hts in_X3 hown hC.1 hP 23 h23 rfl 0 (by decide) (hts _ q141) (fun _ h9 => h9) rfl dX3_close_1 ?_
  refine lv_aload_n hx hb dX3_close_4 rfl (lv_at hl 0 rfl) ?_
  refine lv_iload_n hx hb dX3_close_5 rfl (lv_at hl 1 rfl) ?_
  refine rdV (As := [.int a0]) (rest := [.ref (ad 24)]) ⟨hx, hb, hml, hown, hts⟩ (metX3_at l D cI cL ws ad n w h23 h24 hn0 (by omega) a0) (cwV 1 hts (lw_V q157 q159 qs3 q9 q160) rfl rfl rfl (by decide +kernel) ⟨Nat.le_of_ble_eq_true rfl, Nat.le_of_ble_eq_true rfl⟩) hC hP (va_recv hC.1 hP (ci := 3) (q0 := 23) rfl h23) rfl rfl hl.1 (Nat.le_of_ble_eq_true rfl) dX3_close_6 ⟨Nat.zero_le _, Nat.zero_le _⟩ (fun r1 hr1 => ?_)
  subst hr1
  refine lv_aload_n hx hb dX3_close_9 rfl (lv_at hl 0 rfl) ?_
  refine va_get (D := D) (ci := 3) (v := .ref (ad 24)) (C := RX3) (T := TX3) (N := 2) hx hb hts in_X3 hown hC.1 hP 23 h23 rfl 0 (by decide) (hts _ q141) (fun _ h9 => h9) rfl dX3_close_10 ?_
  refine lv_aload_n hx hb dX3_close_13 rfl (lv_at hl 0 rfl) ?_
  refine lv_iload_n hx hb dX3_close_14 rfl (lv_at hl 1 rfl) ?_
  refine rdV (As := [.int a0]) (rest := [.ref (ad 24), .int (nI (plc a0 n)), .ref (ad 24)]) ⟨hx, hb, hml, hown, hts⟩ (metX3_at l D cI cL ws ad n w h23 h24 hn0 (by omega) a0) (cwV 1 hts (lw_V q157 q159 qs3 q9 q160) rfl rfl rfl (by decide +kernel) ⟨Nat.le_of_ble_eq_true rfl, Nat.le_of_ble_eq_true rfl⟩) hC hP (va_recv hC.1 hP (ci := 3) (q0 := 23) rfl h23) rfl rfl hl.1 (Nat.le_of_ble_eq_true rfl) dX3_close_15 ⟨Nat.zero_le _, Nat.zero_le _⟩ (fun r1 hr1 => ?_)
  subst hr1
  refine th_iald hx hb hC hP 24 h24 (k := (plc a0 n)) (by omega) (by decide) dX3_close_18 ?_
  refine lv_iconst (v := nI 1) hx hb dX3_close_19 (by decide) ?_
  refine lv_aload_n hx hb dX3_close_20 rfl (lv_at hl 0 rfl) ?_
  refine lv_iload_n hx hb dX3_close_21 rfl (lv_at hl 2 rfl) ?_
  refine rdV (As := [.int b0]) (rest := [.int (nI 1), .int (nI (w (plc a0 n))), .int (nI (plc a0 n)), .ref (ad 24)]) ⟨hx, hb, hml, hown, hts⟩ (metX3_at l D cI cL ws ad n w h23 h24 hn0 (by omega) b0) (cwV 1 hts (lw_V q157 q159 qs3 q9 q160) rfl rfl rfl (by decide +kernel) ⟨Nat.le_of_ble_eq_true rfl, Nat.le_of_ble_eq_true rfl⟩) hC hP (va_recv hC.1 hP (ci := 3) (q0 := 23) rfl h23) rfl rfl hl.1 (Nat.le_of_ble_eq_true rfl) dX3_close_22 ⟨Nat.zero_le _, Nat.zero_le _⟩ (fun r1 hr1 => ?_)
  subst hr1
  refine lv_ishl hx hb dX3_close_25 (tp_ (z := nI (2 ^ (plc b0 n))) (bn_shl (by omega)) ?_)
  refine lv_iconst (v := -1) hx hb dX3_close_26 (by decide) ?_
  refine lv_ixor hx hb dX3_close_27 ?_
  refine lv_iand hx hb dX3_close_28 (tp_ (z := nI (bd (w (plc a0 n)) (2 ^ (plc b0 n)))) (bn_andn _ _) ?_)
  refine th_iast hx hb hC hP hD hS 24 h24 (k := (plc a0 n)) (by omega) (by decide) dX3_close_29 (fun H locs hP hD hS => ?_)
  rw [upd_nI] at hP hD
  exact W.vret hx hb hr (fun t ht hW => ⟨⟨_, rfl, ⟨set_eq h24, kp_set (fun _ _ => rfl) (fun k hk => fun e => hk e.symm)⟩, by rw [ht]; exact hP, hD⟩, hS.F ht⟩) hS.2.2 dX3_close_30
set_option maxHeartbeats 4000000 in
set_option maxRecDepth 100000 in
theorem metX0_places (l : Launch) (D : va_G) (cI cL : ClassId) (ws : va_W) (sz : Nat) (ad : Nat → Nat) (n : Nat) (w : Nat → Nat) (h0 : ws[0]? = some (ad 0, .inr (0, [.ref (ad 1), .ref (ad 3)]))) (h1 : ws[1]? = some (ad 1, .inr (1, [.ref (ad 2), .int (nI n)]))) (h2 : ws[2]? = some (ad 2, .inl (cI, 8, .inl (fun j => nI (w j))))) (a0 : Int32) : Met l yX0_places (ws_ yX0_places cX0_places 2 none) ({ frames := 1, cells := 0, slots := 0, locals := 22 }) (MuP D cI cL ws sz [.ref (ad 0), .int a0]) (va_Qv (fun u : va_W => u[1]? = some (ad 1, .inr (1, [.ref (ad 2), .int (nI (np a0))])) ∧ u[2]? = some (ad 2, .inl (cI, 8, .inl (fun j => nI (zk 8 w j)))) ∧ ∀ k, (k ≠ 1 ∧ k ≠ 2) → u[k]? = ws[k]?) (MuB D ws sz) (va_A ws sz)) 0 0 (va_A ws sz) := by
  refine Met.ofW (cc := cX0_places) (maxL := 2) (ret := none) (by decide) rfl ?_
  intro p e s m args below meth c s₁ B hml hv
  obtain ⟨rfl, hsz, hP, hC, hD0⟩ := hv
  have hx := B.exec
  have hb := B.bytes
  have hr := B.returns
  have hts := atoms_spec (ws := (ws_ yX0_places cX0_places 2 none)) B.pre
  have hts : ∀ w ∈ lw_all, w.before _ s = true := fun w h => hts w (List.mem_cons_of_mem _ h)
  have hown : s.vm.findClass RX0 = some m.cls := findClass_of_methodNamed B.named
  have hlocks := B.notSynchronized
  subst hsz
  have hD := hD0.self (sz := s.heap.size)
  have hA : ∀ q : Nat, s.heap.size ≤ q → va_A ws s.heap.size q := fun q h => Or.inr h
  have hS : va_S (va_A ws s.heap.size) s.heap s.heap [] := va_S.rf
  have hl := lv_entry ([.ref (ad 0), .int a0]) (n := 2) (Nat.le_of_ble_eq_true rfl)
  rw [lg_entry_eq]
  generalize (lg_sl ([.ref (ad 0), .int a0]) ++ List.replicate (2 - (lg_sl ([.ref (ad 0), .int a0])).length) Slot.unset).toArray = ls at hl ⊢
  have hl : lv_has ls 2 [(0, .ref (ad 0)), (1, .int a0)] := hl
  refine lv_aload_n hx hb dX0_places_0 rfl (lv_at hl 0 rfl) ?_
  refine va_get (D := D) (ci := 0) (v := .ref (ad 1)) (C := RX0) (T := TX0) (N := 2) hx hb hts in_X0 hown hC.1 hP 0 h0 rfl 0 (by decide) (hts _ q61) (fun _ h9 => h9) rfl dX0_places_1 ?_
  refine lv_iconst (v := nI 2) hx hb dX0_places_4 (by decide) ?_
  refine lv_iload_n hx hb dX0_places_5 rfl (lv_at hl 1 rfl) ?_
  refine lv_ldc (v := 2147483647) hx hb hown (hts _ q72) dX0_places_6 ?_
  refine lv_iand hx hb dX0_places_8 ?_
  refine lv_bipush (v := nI 7) hx hb dX0_places_9 (by decide) ?_
  refine lv_irem hx hb dX0_places_11 (by decide) (tp_ (z := nI (plc a0 7)) (bn_np a0) ?_)
  refine lv_iadd hx hb dX0_places_12 (tp_ (z := nI (np a0)) (nI_add 2 (plc a0 7)) ?_)
  refine muVv (As := [.int (nI (np a0))]) (rest := []) ⟨hx, hb, hml, hown, hts⟩ (metX1_begin l D cI cL ws _ ad w (nI n) h1 h2 (np a0)) (cwV 1 hts (lw_V q57 q58 q59 q7 q60) rfl rfl rfl (by decide +kernel) ⟨Nat.le_of_ble_eq_true rfl, Nat.le_of_ble_eq_true rfl⟩) hC hP hD hS hA (va_recv hC.1 hP (ci := 1) (q0 := 1) rfl h1) rfl rfl hl.1 (Nat.le_of_ble_eq_true rfl) dX0_places_13 ⟨Nat.le_of_ble_eq_true rfl, Nat.le_of_ble_eq_true rfl⟩ (fun u H locs hq hP hD hS => ?_)
  exact W.vret hx hb hr (fun t ht hW => ⟨⟨_, rfl, hq, by rw [ht]; exact hP, hD⟩, hS.F ht⟩) hS.2.2 dX0_places_16
end
section
/-! plain laws of the flow: residues, cuts of the split graph, cuts of places -/
set_option maxRecDepth 100000
/-- L is what is left of C when r ways go from a to b -/
def FlI (C L : Nat → Nat → Nat) (a b r : Nat) : Prop := (∀ u v, u < 16 → v < 16 → L u v + L v u = C u v + C v u) ∧ ∀ u, u < 16 → sm 16 (L u) + (if u = a then r else 0) = sm 16 (C u) + (if u = b then r else 0)
def Aug (L L' : Nat → Nat → Nat) (a b : Nat) : Prop := (∀ u v, u < 16 → v < 16 → L' u v + L' v u = L u v + L v u) ∧ ∀ u, u < 16 → sm 16 (L' u) + (if u = a then 1 else 0) = sm 16 (L u) + (if u = b then 1 else 0)
theorem FlI_0 (C : Nat → Nat → Nat) (a b : Nat) : FlI C C a b 0 := ⟨fun _ _ _ _ => rfl, fun u _ => by split <;> split <;> rfl⟩
theorem FlI_aug {C L L' : Nat → Nat → Nat} {a b r : Nat} (h : FlI C L a b r) (h' : Aug L L' a b) : FlI C L' a b (r + 1) := by
  refine ⟨fun u v hu hv => (h'.1 u v hu hv).trans (h.1 u v hu hv), fun u hu => ?_⟩
  have h1 := h.2 u hu
  have h2 := h'.2 u hu
  by_cases ea : u = a
  · rw [if_pos ea] at h1 h2 ⊢
    by_cases eb : u = b
    · rw [if_pos eb] at h1 h2 ⊢; omega
    · rw [if_neg eb] at h1 h2 ⊢; omega
  · rw [if_neg ea] at h1 h2 ⊢
    by_cases eb : u = b
    · rw [if_pos eb] at h1 h2 ⊢; omega
    · rw [if_neg eb] at h1 h2 ⊢; omega
/-- what leads out of S -/
def cutv (C : Nat → Nat → Nat) (S : Nat → Bool) : Nat := sm 16 (fun u => sm 16 (fun v => if (S u && !S v) = true then C u v else 0))
def insv (C : Nat → Nat → Nat) (S : Nat → Bool) : Nat := sm 16 (fun u => sm 16 (fun v => if (S u && S v) = true then C u v else 0))
theorem tot_eq (C : Nat → Nat → Nat) (S : Nat → Bool) : sm 16 (fun u => if S u = true then sm 16 (C u) else 0) = insv C S + cutv C S := by
  unfold insv cutv
  rw [← sm_add]
  apply sm_congr
  intro u _
  rw [← sm_add]
  cases S u with
  | false => simp [sm_0]
  | true =>
    rw [if_pos rfl]
    apply sm_congr
    intro v _
    cases S v <;> simp
theorem ins_two (C : Nat → Nat → Nat) (S : Nat → Bool) : insv C S + insv C S = sm 16 (fun u => sm 16 (fun v => if (S u && S v) = true then C u v + C v u else 0)) := by
  have e : insv C S = sm 16 (fun u => sm 16 (fun v => if (S u && S v) = true then C v u else 0)) := by
    unfold insv
    rw [sm_comm]
    apply sm_congr
    intro u _
    apply sm_congr
    intro v _
    rw [Bool.and_comm]
  rw [show insv C S + insv C S = insv C S + sm 16 (fun u => sm 16 (fun v => if (S u && S v) = true then C v u else 0)) from by rw [← e]]
  unfold insv
  rw [← sm_add]
  apply sm_congr
  intro u _
  rw [← sm_add]
  apply sm_congr
  intro v _
  cases S u <;> cases S v <;> rfl
theorem FlI_cut {C L : Nat → Nat → Nat} {a b r : Nat} {S : Nat → Bool} (h : FlI C L a b r) (ha : a < 16) (hSa : S a = true) (hSb : S b = false) : cutv L S + r = cutv C S := by
  have e1 : insv L S = insv C S := by
    have q : insv L S + insv L S = insv C S + insv C S := by
      rw [ins_two, ins_two]
      apply sm_congr
      intro u hu
      apply sm_congr
      intro v hv
      rw [h.1 u v hu hv]
    omega
  have e2 : sm 16 (fun u => if S u = true then sm 16 (L u) else 0) + r = sm 16 (fun u => if S u = true then sm 16 (C u) else 0) := by
    have q : sm 16 (fun u => if u = a then r else 0) = r := by
      rw [sm_one ha (fun j _ hj => if_neg hj), if_pos rfl]
    calc sm 16 (fun u => if S u = true then sm 16 (L u) else 0) + r = sm 16 (fun u => if S u = true then sm 16 (L u) else 0) + sm 16 (fun u => if u = a then r else 0) := by rw [q]
      _ = sm 16 (fun u => if S u = true then sm 16 (C u) else 0) := by
        rw [← sm_add]
        apply sm_congr
        intro u hu
        have h2 := h.2 u hu
        by_cases eb : u = b
        · subst eb
          have ne : ¬ u = a := fun q => by rw [q, hSa] at hSb; cases hSb
          rw [hSb, if_neg ne]; rfl
        · rw [if_neg eb] at h2
          by_cases ea : u = a
          · subst ea
            rw [if_pos rfl] at h2 ⊢
            rw [if_pos hSa, if_pos hSa]; omega
          · rw [if_neg ea] at h2 ⊢
            cases S u <;> simp <;> omega
  rw [tot_eq, tot_eq, e1] at e2
  omega
theorem cutv_ge {C : Nat → Nat → Nat} {S : Nat → Bool} {u v : Nat} (hu : u < 16) (hv : v < 16) (h1 : S u = true) (h2 : S v = false) : C u v ≤ cutv C S := by
  have a1 := sm_ge (n := 16) (f := fun u => sm 16 (fun v => if (S u && !S v) = true then C u v else 0)) hu
  have a2 := sm_ge (n := 16) (f := fun v => if (S u && !S v) = true then C u v else 0) hv
  try dsimp only at a1 a2
  rw [if_pos (by rw [h1, h2]; rfl)] at a2
  exact Nat.le_trans a2 a1
theorem cutv_0 {L : Nat → Nat → Nat} {S : Nat → Bool} (h : ∀ u v, u < 16 → v < 16 → S u = true → S v = false → L u v = 0) : cutv L S = 0 := by
  unfold cutv
  rw [sm_congr (g := fun _ => 0), sm_0]
  intro u hu
  rw [sm_congr (g := fun _ => 0), sm_0]
  intro v hv
  cases hSu : S u <;> cases hSv : S v <;> simp
  exact h u v hu hv hSu hSv
/-- the split graph: 2 k is the way into place k, 2 k + 1 the way out -/
def cap (w : Nat → Nat) (n g t u v : Nat) : Nat :=
  if u / 2 < n ∧ v / 2 < n ∧ g.testBit (u / 2) = false then
    (if u % 2 = 0 then (if v = u + 1 then (if t.testBit (u / 2) = true then 8 else 1) else 0)
     else (if v % 2 = 0 ∧ (w (u / 2)).testBit (v / 2) = true ∧ g.testBit (v / 2) = false then 8 else 0))
  else 0
theorem cap_le (w : Nat → Nat) (n g t u v : Nat) : cap w n g t u v ≤ 8 := by
  unfold cap
  repeat' split
  all_goals omega
def OKg (w : Nat → Nat) (n g t x y X : Nat) : Prop := (∀ j, X.testBit j = true → j < n ∧ g.testBit j = false ∧ t.testBit j = false) ∧ Sep w n (X ||| g) x y
theorem pop16 (X : Nat) : sm 16 (fun u => if u % 2 = 0 then b01 (X.testBit (u / 2)) else 0) = pop X := by
  simp [pop, sm]
theorem flow_low {w : Nat → Nat} {n g t x y X r : Nat} {L : Nat → Nat → Nat} (hn : n ≤ 8) (hx : x < n) (ht : t.testBit y = true) (h : FlI (cap w n g t) L (2 * x + 1) (2 * y) r) (hX : OKg w n g t x y X) : r ≤ pop X := by
  obtain ⟨hX, T, hTx, hT, hTy⟩ := hX
  obtain ⟨Tb, hTb⟩ : ∃ Tb : Nat → Bool, ∀ j, Tb j = true ↔ T j := ⟨fun j => @decide (T j) (Classical.propDecidable _), fun j => by simp⟩
  have hXy : X.testBit y = false := by
    cases q : X.testBit y with
    | false => rfl
    | true => rw [(hX y q).2.2] at ht; cases ht
  obtain ⟨S, hSe, hSo⟩ : ∃ S : Nat → Bool, (∀ u, u % 2 = 0 → S u = (Tb (u / 2) || X.testBit (u / 2))) ∧ ∀ u, ¬ u % 2 = 0 → S u = Tb (u / 2) := ⟨fun u => if u % 2 = 0 then (Tb (u / 2) || X.testBit (u / 2)) else Tb (u / 2), fun u h => if_pos h, fun u h => if_neg h⟩
  have c := FlI_cut (S := S) h (by omega) (by
    rw [hSo _ (by omega), show (2 * x + 1) / 2 = x from by omega]
    exact (hTb x).mpr hTx) (by
    rw [hSe _ (by omega), show 2 * y / 2 = y from by omega, hXy]
    cases q : Tb y with
    | false => rfl
    | true => exact absurd ((hTb y).mp q) hTy)
  have d : cutv (cap w n g t) S ≤ pop X := by
    rw [← pop16]
    unfold cutv
    apply sm_le
    intro u hu
    by_cases e : u % 2 = 0
    · rw [if_pos e, sm_one (k := u + 1) (by omega)]
      · rw [hSe u e, hSo (u + 1) (by omega), show (u + 1) / 2 = u / 2 from by omega]
        cases q : X.testBit (u / 2) with
        | false => cases Tb (u / 2) <;> simp
        | true =>
          have h1 := hX _ q
          have : cap w n g t u (u + 1) ≤ 1 := by
            unfold cap
            rw [h1.2.2]
            repeat' split
            all_goals first | omega | contradiction
          cases Tb (u / 2) <;> simp [b01]
          exact this
      · intro v hv hne
        have : cap w n g t u v = 0 := by
          unfold cap
          rw [if_pos e, if_neg hne]
          split <;> rfl
        rw [this]
        split <;> rfl
    · rw [if_neg e, sm_congr (g := fun _ => 0), sm_0]
      · exact Nat.le_refl _
      · intro v hv
        rw [hSo u e]
        cases qT : Tb (u / 2) with
        | false => rfl
        | true =>
          by_cases q : cap w n g t u v = 0
          · rw [q]; split <;> rfl
          · have h1 : (u / 2 < n ∧ v / 2 < n ∧ g.testBit (u / 2) = false) ∧ (v % 2 = 0 ∧ (w (u / 2)).testBit (v / 2) = true ∧ g.testBit (v / 2) = false) := by
              unfold cap at q
              rw [if_neg e] at q
              by_cases q1 : u / 2 < n ∧ v / 2 < n ∧ g.testBit (u / 2) = false
              · rw [if_pos q1] at q
                by_cases q2 : v % 2 = 0 ∧ (w (u / 2)).testBit (v / 2) = true ∧ g.testBit (v / 2) = false
                · exact ⟨q1, q2⟩
                · rw [if_neg q2] at q; exact absurd rfl q
              · rw [if_neg q1] at q; exact absurd rfl q
            rw [hSe v h1.2.1]
            cases qX : X.testBit (v / 2) with
            | true => simp
            | false =>
              have : T (v / 2) := hT (u / 2) (v / 2) h1.1.1 ((hTb _).mp qT) h1.2.2.1 (by rw [Nat.testBit_or, qX, h1.2.2.2]; rfl)
              rw [(hTb _).mpr this]; rfl
  omega
/-- a set of places by its bits -/
def mk (f : Nat → Bool) : Nat → Nat
  | 0 => 0
  | k + 1 => mk f k ||| (if f k = true then 2 ^ k else 0)
theorem mk_t (f : Nat → Bool) : ∀ k j, (mk f k).testBit j = (decide (j < k) && f j)
  | 0, j => by simp [mk]
  | k + 1, j => by
    show (mk f k ||| _).testBit j = _
    rw [Nat.testBit_or, mk_t f k j]
    by_cases e : j = k
    · subst e
      cases q : f j with
      | false => simp
      | true => simp [t2p]
    · have h1 : (decide (j < k + 1)) = decide (j < k) := by
        by_cases q : j < k
        · rw [decide_eq_true q, decide_eq_true (by omega)]
        · rw [decide_eq_false q, decide_eq_false (by omega)]
      rw [h1]
      split
      · rw [t2p, decide_eq_false (p := k = j) (fun q => e q.symm), Bool.or_false]
      · simp
theorem flow_high {w : Nat → Nat} {n g t x y r : Nat} {L : Nat → Nat → Nat} {S : Nat → Bool} (hn : n ≤ 8) (hw : WF w n) (hx : x < n) (hy : y < n) (hne : x ≠ y) (hgx : g.testBit x = false) (h : FlI (cap w n g t) L (2 * x + 1) (2 * y) r) (hS : ∀ u v, u < 16 → v < 16 → S u = true → S v = false → L u v = 0) (hSa : S (2 * x + 1) = true) (hSb : S (2 * y) = false) (hr : r < 8) : ∃ X, OKg w n g t x y X ∧ pop X ≤ r := by
  have c := FlI_cut (S := S) h (by omega) hSa hSb
  rw [cutv_0 hS, Nat.zero_add] at c
  have big : ∀ u v, u < 16 → v < 16 → S u = true → S v = false → ¬ cap w n g t u v = 8 := fun u v hu hv h1 h2 e => by
    have := cutv_ge (C := cap w n g t) hu hv h1 h2
    omega
  refine ⟨mk (fun k => decide (k < n) && (!g.testBit k && (S (2 * k) && !S (2 * k + 1)))) 8, ⟨fun j hj => ?_, fun j => (j = x ∨ S (2 * j) = true) ∧ S (2 * j + 1) = true ∧ g.testBit j = false ∧ j < n, ⟨Or.inl rfl, hSa, hgx, hx⟩, ?_, ?_⟩, ?_⟩
  · rw [mk_t] at hj
    simp at hj
    obtain ⟨j8, jn, jg, j1, j2⟩ := hj
    refine ⟨jn, jg, ?_⟩
    cases q : t.testBit j with
    | false => rfl
    | true =>
      refine absurd ?_ (big (2 * j) (2 * j + 1) (by omega) (by omega) j1 j2)
      unfold cap
      rw [show 2 * j / 2 = j from by omega, show (2 * j + 1) / 2 = j from by omega, if_pos ⟨jn, jn, jg⟩, if_pos (by omega), if_pos rfl, if_pos q]
  · rintro v j hv ⟨-, h2, h3, -⟩ h5 h6
    have hj : j < n := lt_of_t (hw v hv) h5
    rw [Nat.testBit_or, Bool.or_eq_false_iff] at h6
    have e1 : S (2 * j) = true := by
      cases q : S (2 * j) with
      | true => rfl
      | false =>
        refine absurd ?_ (big (2 * v + 1) (2 * j) (by omega) (by omega) h2 q)
        unfold cap
        rw [show (2 * v + 1) / 2 = v from by omega, show 2 * j / 2 = j from by omega, if_pos ⟨hv, hj, h3⟩, if_neg (by omega), if_pos ⟨by omega, h5, h6.2⟩]
    refine ⟨Or.inr e1, ?_, h6.2, hj⟩
    have h7 := h6.1
    rw [mk_t] at h7
    have j8 : j < 8 := by omega
    simp [j8, hj, h6.2, e1] at h7
    exact h7
  · rintro ⟨q | q, -⟩
    · exact hne q.symm
    · rw [hSb] at q; cases q
  · rw [c, ← pop16]
    unfold cutv
    apply sm_le
    intro u hu
    by_cases e : u % 2 = 0
    · rw [if_pos e]
      cases q : (mk (fun k => decide (k < n) && (!g.testBit k && (S (2 * k) && !S (2 * k + 1)))) 8).testBit (u / 2) with
      | false => exact Nat.zero_le _
      | true =>
        rw [mk_t] at q
        simp at q
        obtain ⟨j8, jn, jg, j1, j2⟩ := q
        have e2 : 2 * (u / 2) = u := by omega
        rw [e2] at j1 j2
        have a2 := sm_ge (n := 16) (f := fun v => if (S u && !S v) = true then cap w n g t u v else 0) (k := u + 1) (by omega)
        try dsimp only at a2
        rw [if_pos (by rw [j1, j2]; rfl)] at a2
        refine Nat.le_trans ?_ a2
        unfold cap
        rw [show (u + 1) / 2 = u / 2 from by omega, if_pos ⟨jn, jn, jg⟩, if_pos e, if_pos rfl]
        split <;> simp [b01]
    · rw [if_neg e]; exact Nat.zero_le _
/-- what 'greatest' answers -/
def GR (w : Nat → Nat) (n g t x y k : Nat) : Prop := k ≤ 8 ∧ (∀ X, OKg w n g t x y X → k ≤ pop X) ∧ (k = 8 ∨ ∃ X, OKg w n g t x y X ∧ pop X ≤ k)
end
section
/-! plain laws: from 'greatest' to the fewest places, and to the least set of them -/
set_option maxRecDepth 100000
/-- the places that stay, x and y among them -/
def ful (t x y : Nat) : Nat := (t ||| 2 ^ x) ||| 2 ^ y
theorem ful_t (t x y j : Nat) : (ful t x y).testBit j = ((t.testBit j || decide (x = j)) || decide (y = j)) := by
  unfold ful
  rw [Nat.testBit_or, Nat.testBit_or, t2p, t2p]
theorem ful_f {t x y j : Nat} : (ful t x y).testBit j = false ↔ t.testBit j = false ∧ j ≠ x ∧ j ≠ y := by
  rw [ful_t]
  simp only [Bool.or_eq_false_iff, decide_eq_false_iff_not]
  constructor
  · rintro ⟨⟨a, b⟩, c⟩; exact ⟨a, fun q => b q.symm, fun q => c q.symm⟩
  · rintro ⟨a, b, c⟩; exact ⟨⟨a, fun q => b q.symm⟩, fun q => c q.symm⟩
theorem lt_of_bits {X n : Nat} (h : ∀ j, X.testBit j = true → j < n) : X < 2 ^ n := by
  apply Nat.lt_pow_two_of_testBit
  intro i hi
  cases q : X.testBit i with
  | false => rfl
  | true => exact absurd (h i q) (by omega)
theorem OKg_lt {w : Nat → Nat} {n g t x y X : Nat} (h : OKg w n g t x y X) : X < 2 ^ n := lt_of_bits (fun j q => (h.1 j q).1)
theorem OKg_OKs {w : Nat → Nat} {n x y X : Nat} : OKg w n 0 (ful 0 x y) x y X ↔ OKs w n x y X := by
  constructor
  · intro h
    refine ⟨OKg_lt h, ?_, ?_, by have := h.2; rwa [Nat.or_zero] at this⟩
    · cases q : X.testBit x with
      | false => rfl
      | true => exact absurd rfl (ful_f.mp (h.1 x q).2.2).2.1
    · cases q : X.testBit y with
      | false => rfl
      | true => exact absurd rfl (ful_f.mp (h.1 y q).2.2).2.2
  · intro h
    refine ⟨fun j hj => ⟨lt_of_t h.1 hj, by simp, ful_f.mpr ⟨by simp, fun q => ?_, fun q => ?_⟩⟩, by rw [Nat.or_zero]; exact h.2.2.2⟩
    · rw [q, h.2.1] at hj; cases hj
    · rw [q, h.2.2.1] at hj; cases hj
theorem pop_7 : ∀ X, X < 256 → ∀ x, x < 8 → X.testBit x = false → pop X ≤ 7 := by decide +kernel
theorem pop_z : ∀ X, X < 256 → pop X = 0 → X = 0 := by decide +kernel
theorem pop_add : ∀ X, X < 256 → ∀ k, k < 8 → X.testBit k = false → pop (X ||| 2 ^ k) = pop X + 1 := by decide +kernel
theorem pop_sub : ∀ X, X < 256 → ∀ k, k < 8 → X.testBit k = true → pop (bd X (2 ^ k)) + 1 = pop X := by decide +kernel
theorem pop_bd {s g : Nat} (h : ∀ j, g.testBit j = true → s.testBit j = true) : pop (bd s g) + pop g = pop s := by
  unfold pop
  rw [← sm_add]
  apply sm_congr
  intro k _
  rw [bd_t]
  cases q : g.testBit k with
  | false => cases s.testBit k <;> rfl
  | true => rw [h k q]; rfl
/-- 'cut' -/
theorem GR_best {w : Nat → Nat} {n x y k : Nat} (hn : n ≤ 8) (hw : WF w n) (hx : x < n) (hne : x ≠ y) (hr : (w x).testBit y = false) (h : GR w n 0 (ful 0 x y) x y k) : Best w n x y k := by
  have ho := oth_ok hw hx hne hr
  have h7 : pop (oth n x y) ≤ 7 := pop_7 _ (pow256 hn ho.1) x (by omega) ho.2.1
  have hlow : ∀ t, OKs w n x y t → k ≤ pop t := fun t ht => h.2.1 t (OKg_OKs.mpr ht)
  refine ⟨hlow, ?_⟩
  rcases h.2.2 with q | ⟨X, q1, q2⟩
  · have := hlow _ ho; omega
  · have := hlow X (OKg_OKs.mp q1)
    exact ⟨X, OKg_OKs.mp q1, by omega⟩
theorem Best_7 {w : Nat → Nat} {n x y k : Nat} (hn : n ≤ 8) (hx : x < n) (h : Best w n x y k) : k ≤ 7 := by
  obtain ⟨t, h1, h2⟩ := h.2
  have := pop_7 t (pow256 hn h1.1) x (by omega) h1.2.1
  omega
/-- the loop of 'first': places from k on are decided -/
def FI2 (w : Nat → Nat) (n x y bst k g t nn : Nat) : Prop :=
  (∀ j, g.testBit j = true → k ≤ j ∧ j < n ∧ j ≠ x ∧ j ≠ y) ∧ (∀ j, t.testBit j = true → k ≤ j ∧ j < n ∧ g.testBit j = false) ∧ (∀ j, k ≤ j → j < n → j ≠ x → j ≠ y → g.testBit j = true ∨ t.testBit j = true) ∧
  nn + pop g = bst ∧ (∀ X, OKg w n g (ful t x y) x y X → nn ≤ pop X) ∧ (∃ X, OKg w n g (ful t x y) x y X ∧ pop X = nn) ∧ ∀ s, OKs w n x y s → pop s = bst → g / 2 ^ k ≤ s / 2 ^ k
theorem FI2_0 {w : Nat → Nat} {n x y bst : Nat} (h : Best w n x y bst) : FI2 w n x y bst n 0 0 bst := by
  obtain ⟨X, h1, h2⟩ := h.2
  exact ⟨fun j q => by simp at q, fun j q => by simp at q, fun j q1 q2 => by omega, rfl, fun X q => h.1 X (OKg_OKs.mp q), ⟨X, OKg_OKs.mpr h1, h2⟩, fun s _ _ => by rw [Nat.zero_div]; exact Nat.zero_le _⟩
theorem half (a k : Nat) : a / 2 ^ k = 2 * (a / 2 ^ (k + 1)) + b01 (a.testBit k) := by
  have h1 : a / 2 ^ (k + 1) = a / 2 ^ k / 2 := by rw [Nat.pow_succ, Nat.div_div_eq_div_mul]
  have h2 : b01 (a.testBit k) = a / 2 ^ k % 2 := by
    unfold b01
    rw [Nat.testBit_eq_decide_div_mod_eq]
    have : a / 2 ^ k % 2 < 2 := Nat.mod_lt _ (by decide)
    by_cases h : a / 2 ^ k % 2 = 1
    · simp [h]
    · simp [h]; omega
  rw [h1, h2]; omega
theorem half_le {a b k : Nat} (h : a / 2 ^ (k + 1) ≤ b / 2 ^ (k + 1)) (ha : a.testBit k = false) : a / 2 ^ k ≤ b / 2 ^ k := by
  rw [half a k, half b k, ha]
  have : b01 false = 0 := rfl
  omega
theorem FI2_skip {w : Nat → Nat} {n x y bst k g t nn : Nat} (h : FI2 w n x y bst (k + 1) g t nn) (hk : k = x ∨ k = y) : FI2 w n x y bst k g t nn := by
  obtain ⟨h1, h2, h3, h4, h5, h6, h7⟩ := h
  refine ⟨fun j q => ⟨by have := (h1 j q).1; omega, (h1 j q).2⟩, fun j q => ⟨by have := (h2 j q).1; omega, (h2 j q).2⟩, fun j q1 q2 q3 q4 => h3 j (by rcases hk with e | e <;> omega) q2 q3 q4, h4, h5, h6, fun s q1 q2 => half_le (h7 s q1 q2) ?_⟩
  cases q : g.testBit k with
  | false => rfl
  | true => exact absurd (h1 k q).1 (by omega)
theorem OKg_mono {w : Nat → Nat} {n g t k x y X : Nat} (h : OKg w n g (ful (t ||| 2 ^ k) x y) x y X) : OKg w n g (ful t x y) x y X := by
  refine ⟨fun j q => ⟨(h.1 j q).1, (h.1 j q).2.1, ?_⟩, h.2⟩
  have h1 := ful_f.mp (h.1 j q).2.2
  rw [Nat.testBit_or, Bool.or_eq_false_iff] at h1
  exact ful_f.mpr ⟨h1.1.1, h1.2⟩
theorem FI2_stay {w : Nat → Nat} {n x y bst k g t nn : Nat} (h : FI2 w n x y bst (k + 1) g t nn) (hk : k < n) (hn7 : nn ≤ 7) (hG : GR w n g (ful (t ||| 2 ^ k) x y) x y nn) : FI2 w n x y bst k g (t ||| 2 ^ k) nn := by
  obtain ⟨h1, h2, h3, h4, h5, h6, h7⟩ := h
  have gk : g.testBit k = false := by
    cases q : g.testBit k with
    | false => rfl
    | true => exact absurd (h1 k q).1 (by omega)
  refine ⟨fun j q => ⟨by have := (h1 j q).1; omega, (h1 j q).2⟩, fun j q => ?_, fun j q1 q2 q3 q4 => ?_, h4, fun X q => h5 X (OKg_mono q), ?_, fun s q1 q2 => half_le (h7 s q1 q2) gk⟩
  · rw [Nat.testBit_or, Bool.or_eq_true, t2p] at q
    rcases q with q | q
    · exact ⟨by have := (h2 j q).1; omega, (h2 j q).2⟩
    · simp at q
      subst q
      exact ⟨Nat.le_refl _, hk, gk⟩
  · rw [Nat.testBit_or, t2p]
    by_cases e : k = j
    · right; simp [e]
    · rcases h3 j (by omega) q2 q3 q4 with q | q
      · exact Or.inl q
      · right; rw [q]; rfl
  · rcases hG.2.2 with q | ⟨X, q1, q2⟩
    · omega
    · exact ⟨X, q1, Nat.le_antisymm q2 (h5 X (OKg_mono q1))⟩
/-- each set of the fewest holds k -/
theorem must {w : Nat → Nat} {n x y k g t nn r X : Nat} (h5 : ∀ X, OKg w n g (ful t x y) x y X → nn ≤ pop X) (hn7 : nn ≤ 7) (hG : GR w n g (ful (t ||| 2 ^ k) x y) x y r) (hr : r ≠ nn) (hX : OKg w n g (ful t x y) x y X) (hp : pop X = nn) : X.testBit k = true := by
  cases q : X.testBit k with
  | true => rfl
  | false =>
    have h1 : OKg w n g (ful (t ||| 2 ^ k) x y) x y X := by
      refine ⟨fun j z => ⟨(hX.1 j z).1, (hX.1 j z).2.1, ?_⟩, hX.2⟩
      have h2 := ful_f.mp (hX.1 j z).2.2
      refine ful_f.mpr ⟨?_, h2.2⟩
      rw [Nat.testBit_or, h2.1, t2p, Bool.false_or]
      exact decide_eq_false (fun e => by rw [e] at q; rw [q] at z; cases z)
    have h3 := hG.2.1 X h1
    rcases hG.2.2 with z | ⟨Y, z1, z2⟩
    · omega
    · have := h5 Y (OKg_mono z1)
      omega
theorem or_sw (X g k : Nat) : (X ||| 2 ^ k) ||| g = X ||| (g ||| 2 ^ k) := by
  apply Nat.eq_of_testBit_eq
  intro j
  simp only [Nat.testBit_or]
  cases X.testBit j <;> cases g.testBit j <;> cases (2 ^ k).testBit j <;> rfl
theorem bd_sw {X g k : Nat} (h : X.testBit k = true) : bd X (2 ^ k) ||| (g ||| 2 ^ k) = X ||| g := by
  apply Nat.eq_of_testBit_eq
  intro j
  simp only [Nat.testBit_or, bd_t, t2p]
  by_cases e : k = j
  · subst e; simp [h]
  · simp [e]
theorem FI2_gone {w : Nat → Nat} {n x y bst k g t nn r : Nat} (hn : n ≤ 8) (h : FI2 w n x y bst (k + 1) g t nn) (hk : k < n) (hkx : k ≠ x) (hky : k ≠ y) (hn7 : nn ≤ 7) (h0 : 0 < nn) (hG : GR w n g (ful (t ||| 2 ^ k) x y) x y r) (hr : r ≠ nn) : FI2 w n x y bst k (g ||| 2 ^ k) t (nn - 1) := by
  obtain ⟨h1, h2, h3, h4, h5, h6, h7⟩ := h
  have gk : g.testBit k = false := by
    cases q : g.testBit k with
    | false => rfl
    | true => exact absurd (h1 k q).1 (by omega)
  have tk : t.testBit k = false := by
    cases q : t.testBit k with
    | false => rfl
    | true => exact absurd (h2 k q).1 (by omega)
  have g256 : g < 256 := pow256 hn (lt_of_bits (fun j q => (h1 j q).2.1))
  have hbit : ∀ j, (g ||| 2 ^ k).testBit j = (g.testBit j || decide (k = j)) := fun j => by rw [Nat.testBit_or, t2p]
  refine ⟨fun j q => ?_, fun j q => ?_, fun j q1 q2 q3 q4 => ?_, ?_, fun X q => ?_, ?_, fun s q1 q2 => ?_⟩
  · rw [hbit, Bool.or_eq_true] at q
    rcases q with q | q
    · exact ⟨by have := (h1 j q).1; omega, (h1 j q).2⟩
    · simp at q
      subst q
      exact ⟨Nat.le_refl _, hk, hkx, hky⟩
  · have := h2 j q
    refine ⟨by omega, this.2.1, ?_⟩
    rw [hbit, this.2.2, Bool.false_or]
    exact decide_eq_false (by omega)
  · rw [hbit]
    by_cases e : k = j
    · left; simp [e]
    · rcases h3 j (by omega) q2 q3 q4 with q | q
      · left; rw [q]; rfl
      · exact Or.inr q
  · rw [pop_add g g256 k (by omega) gk]; omega
  · have Xk : X.testBit k = false := by
      cases z : X.testBit k with
      | false => rfl
      | true =>
        have := (q.1 k z).2.1
        rw [hbit] at this
        simp at this
    have hX : OKg w n g (ful t x y) x y (X ||| 2 ^ k) := by
      refine ⟨fun j z => ?_, by rw [or_sw]; exact q.2⟩
      rw [Nat.testBit_or, Bool.or_eq_true, t2p] at z
      rcases z with z | z
      · have a := q.1 j z
        have b := a.2.1
        rw [hbit, Bool.or_eq_false_iff] at b
        exact ⟨a.1, b.1, a.2.2⟩
      · simp at z
        subst z
        exact ⟨hk, gk, ful_f.mpr ⟨tk, hkx, hky⟩⟩
    have a := h5 _ hX
    rw [pop_add X (pow256 hn (OKg_lt q)) k (by omega) Xk] at a
    omega
  · obtain ⟨X, q1, q2⟩ := h6
    have Xk := must h5 hn7 hG hr q1 q2
    refine ⟨bd X (2 ^ k), ⟨fun j z => ?_, by rw [bd_sw Xk]; exact q1.2⟩, ?_⟩
    · rw [bd_t, t2p] at z
      simp at z
      have a := q1.1 j z.1
      refine ⟨a.1, ?_, a.2.2⟩
      rw [hbit, a.2.1, Bool.false_or]
      exact decide_eq_false z.2
    · have := pop_sub X (pow256 hn (OKg_lt q1)) k (by omega) Xk
      omega
  · have e1 : (g ||| 2 ^ k) / 2 ^ (k + 1) = g / 2 ^ (k + 1) := by
      apply Nat.eq_of_testBit_eq
      intro i
      rw [Nat.testBit_div_two_pow, Nat.testBit_div_two_pow, hbit, decide_eq_false (by omega), Bool.or_false]
    have e2 : (g ||| 2 ^ k).testBit k = true := by rw [hbit]; simp
    rw [half (g ||| 2 ^ k) k, half s k, e1, e2]
    have b1 : b01 true = 1 := rfl
    have hs := h7 s q1 q2
    rcases Nat.lt_or_ge (g / 2 ^ (k + 1)) (s / 2 ^ (k + 1)) with q | q
    · omega
    · have e3 : s / 2 ^ (k + 1) = g / 2 ^ (k + 1) := by omega
      have hb : ∀ j, k + 1 ≤ j → s.testBit j = g.testBit j := fun j hj => by
        have := congrArg (fun z => z.testBit (j - (k + 1))) e3
        simp only [Nat.testBit_div_two_pow] at this
        rw [show j - (k + 1) + (k + 1) = j from by omega] at this
        exact this
      have hgs : ∀ j, g.testBit j = true → s.testBit j = true := fun j z => by rw [hb j (h1 j z).1]; exact z
      have hX : OKg w n g (ful t x y) x y (bd s g) := by
        refine ⟨fun j z => ?_, ?_⟩
        · rw [bd_t] at z
          simp at z
          refine ⟨lt_of_t q1.1 z.1, z.2, ful_f.mpr ⟨?_, fun e => ?_, fun e => ?_⟩⟩
          · cases zt : t.testBit j with
            | false => rfl
            | true =>
              have a := hb j (h2 j zt).1
              rw [z.1, z.2] at a; cases a
          · rw [e, q1.2.1] at z; exact absurd z.1 (by simp)
          · rw [e, q1.2.2.1] at z; exact absurd z.1 (by simp)
        · have e4 : bd s g ||| g = s := by
            apply Nat.eq_of_testBit_eq
            intro j
            rw [Nat.testBit_or, bd_t]
            cases zg : g.testBit j with
            | false => simp
            | true => rw [hgs j zg]; rfl
          rw [e4]; exact q1.2.2.2
      have hp : pop (bd s g) = nn := by
        have := pop_bd hgs
        omega
      have a := must h5 hn7 hG hr hX hp
      rw [bd_t] at a
      simp at a
      rw [a.1, e3, b1]
      exact Nat.le_refl _
theorem FI2_end {w : Nat → Nat} {n x y bst k g t nn : Nat} (hn : n ≤ 8) (hB : Best w n x y bst) (h : FI2 w n x y bst k g t nn) (he : k = 0 ∨ nn = 0) : Fst w n x y g := by
  obtain ⟨h1, h2, h3, h4, h5, ⟨X, hX, hp⟩, h7⟩ := h
  have hX0 : X = 0 := by
    rcases he with e | e
    · apply Nat.eq_of_testBit_eq
      intro j
      cases q : X.testBit j with
      | false => simp
      | true =>
        have a := hX.1 j q
        have b := ful_f.mp a.2.2
        rcases h3 j (by omega) a.1 b.2.1 b.2.2 with z | z
        · rw [a.2.1] at z; cases z
        · rw [b.1] at z; cases z
    · exact pop_z X (pow256 hn (OKg_lt hX)) (by omega)
  have hn0 : nn = 0 := by rw [← hp, hX0]; decide
  have hpg : pop g = bst := by omega
  have hg0 : g % 2 ^ k = 0 := by
    apply Nat.eq_of_testBit_eq
    intro j
    rw [Nat.testBit_mod_two_pow]
    cases q : g.testBit j with
    | false => simp
    | true =>
      have := (h1 j q).1
      rw [decide_eq_false (by omega)]; simp
  refine ⟨⟨lt_of_bits (fun j q => (h1 j q).2.1), ?_, ?_, ?_⟩, by rw [hpg]; exact hB, fun s q1 q2 => ?_⟩
  · cases q : g.testBit x with
    | false => rfl
    | true => exact absurd rfl (h1 x q).2.2.1
  · cases q : g.testBit y with
    | false => rfl
    | true => exact absurd rfl (h1 y q).2.2.2
  · have := hX.2
    rw [hX0, Nat.zero_or] at this
    exact this
  · have a := h7 s q1 (q2.trans hpg)
    have b := Nat.div_add_mod g (2 ^ k)
    have c := Nat.div_mul_le_self s (2 ^ k)
    have d := Nat.mul_le_mul_left (2 ^ k) a
    rw [Nat.mul_comm] at c
    omega
end
section
/-! the flow's cells in the world; plain laws of 'lay' and 'more' -/
set_option maxRecDepth 100000
def FW (cI cL : ClassId) (ad : Nat → Nat) (n : Nat) (w : Nat → Nat) (u : va_W) (bf qu : Nat → Int32) (M : Nat → Nat → Int32) : Prop :=
  u[1]? = some (ad 1, .inr (1, [.ref (ad 2), .int (nI n)])) ∧ u[2]? = some (ad 2, .inl (cI, 8, .inl (fun j => nI (w j)))) ∧ u[3]? = some (ad 3, .inr (2, [.ref (ad 1), .ref (ad 4), .ref (ad 21), .ref (ad 22)])) ∧
  u[4]? = some (ad 4, .inl (cL, 16, .inr (.inr (.inr (.inr (fun i => some (ad (5 + i)))))))) ∧ u[21]? = some (ad 21, .inl (cI, 16, .inl bf)) ∧ u[22]? = some (ad 22, .inl (cI, 16, .inl qu)) ∧ ∀ i, i < 16 → u[5 + i]? = some (ad (5 + i), .inl (cI, 16, .inl (M i)))
section FWS
variable {cI cL : ClassId} {ad : Nat → Nat} {n : Nat} {w : Nat → Nat} {u : va_W} {bf qu : Nat → Int32} {M : Nat → Nat → Int32}
theorem FW.row (h : FW cI cL ad n w u bf qu M) {i : Nat} (hi : i < 16) : u[5 + i]? = some (ad (5 + i), .inl (cI, 16, .inl (M i))) := h.2.2.2.2.2.2 i hi
theorem FW.setB (h : FW cI cL ad n w u bf qu M) {r : Nat → Int32} : FW cI cL ad n w (u.set 21 (ad 21, .inl (cI, 16, .inl r))) r qu M :=
  ⟨set_ne h.1 (by decide), set_ne h.2.1 (by decide), set_ne h.2.2.1 (by decide), set_ne h.2.2.2.1 (by decide), set_eq h.2.2.2.2.1, set_ne h.2.2.2.2.2.1 (by decide), fun i hi => set_ne (h.row hi) (by omega)⟩
theorem FW.setQ (h : FW cI cL ad n w u bf qu M) {r : Nat → Int32} : FW cI cL ad n w (u.set 22 (ad 22, .inl (cI, 16, .inl r))) bf r M :=
  ⟨set_ne h.1 (by decide), set_ne h.2.1 (by decide), set_ne h.2.2.1 (by decide), set_ne h.2.2.2.1 (by decide), set_ne h.2.2.2.2.1 (by decide), set_eq h.2.2.2.2.2.1, fun i hi => set_ne (h.row hi) (by omega)⟩
theorem FW.setR (h : FW cI cL ad n w u bf qu M) {k : Nat} (hk : k < 16) {r : Nat → Int32} : FW cI cL ad n w (u.set (5 + k) (ad (5 + k), .inl (cI, 16, .inl r))) bf qu (va_up M k r) := by
  refine ⟨set_ne h.1 (by omega), set_ne h.2.1 (by omega), set_ne h.2.2.1 (by omega), set_ne h.2.2.2.1 (by omega), set_ne h.2.2.2.2.1 (by omega), set_ne h.2.2.2.2.2.1 (by omega), fun i hi => ?_⟩
  by_cases e : i = k
  · subst e
    rw [va_up_self]; exact set_eq (h.row hk)
  · rw [va_up_ne _ _ e]; exact set_ne (h.row hi) (by omega)
end FWS
def Kf (ws u : va_W) : Prop := ∀ k, (k < 5 ∨ 23 ≤ k) → u[k]? = ws[k]?
theorem Kf.rf (ws : va_W) : Kf ws ws := fun _ _ => rfl
theorem Kf.set {ws u : va_W} (h : Kf ws u) {i : Nat} (h1 : 5 ≤ i) (h2 : i < 23) {z : Nat × va_E} : Kf ws (u.set i z) := fun k hk => (List.getElem?_set_ne (by omega)).trans (h k hk)
theorem Kf.trans {a b c : va_W} (h : Kf a b) (h' : Kf b c) : Kf a c := fun k hk => (h' k hk).trans (h k hk)
def MatR (M : Nat → Nat → Int32) (L : Nat → Nat → Nat) : Prop := ∀ i j, i < 16 → j < 16 → M i j = nI (L i j)
def upL (L : Nat → Nat → Nat) (i j v : Nat) : Nat → Nat → Nat := fun a b => if a = i ∧ b = j then v else L a b
theorem MatR.put {M : Nat → Nat → Int32} {L : Nat → Nat → Nat} (h : MatR M L) (i j v : Nat) : MatR (va_up M i (upd (M i) j (nI v))) (upL L i j v) := by
  intro a b ha hb
  unfold upL
  by_cases e : a = i
  · subst e
    rw [va_up_self]
    unfold upd
    by_cases e2 : b = j
    · rw [if_pos e2, if_pos ⟨rfl, e2⟩]
    · rw [if_neg e2, if_neg (fun q => e2 q.2)]; exact h a b ha hb
  · rw [va_up_ne _ _ e, if_neg (fun q => e q.1)]; exact h a b ha hb
theorem MatR.to {M : Nat → Nat → Int32} {L L' : Nat → Nat → Nat} (h : MatR M L) (e : ∀ u v, u < 16 → v < 16 → L u v = L' u v) : MatR M L' := fun i j hi hj => by rw [h i j hi hj, e i j hi hj]
/-- lay: the zeros -/
def Z2 (M : Nat → Nat → Int32) (i j : Nat) : Prop := (∀ a, a < i → ∀ b, b < 16 → M a b = nI 0) ∧ ∀ b, b < j → M i b = nI 0
theorem Z2_step {M : Nat → Nat → Int32} {i j : Nat} (h : Z2 M i j) : Z2 (va_up M i (upd (M i) j (nI 0))) i (j + 1) := by
  refine ⟨fun a ha b hb => ?_, fun b hb => ?_⟩
  · rw [va_up_ne _ _ (by omega)]; exact h.1 a ha b hb
  · rw [va_up_self]
    unfold upd
    by_cases e : b = j
    · rw [if_pos e]
    · rw [if_neg e]; exact h.2 b (by omega)
theorem Z2_next {M : Nat → Nat → Int32} {i : Nat} (h : Z2 M i 16) : Z2 M (i + 1) 0 := by
  refine ⟨fun a ha b hb => ?_, fun b hb => absurd hb (Nat.not_lt_zero b)⟩
  by_cases e : a = i
  · subst e; exact h.2 b hb
  · exact h.1 a (by omega) b hb
theorem Z2_0 (M : Nat → Nat → Int32) : Z2 M 0 0 := ⟨fun a ha => absurd ha (Nat.not_lt_zero a), fun b hb => absurd hb (Nat.not_lt_zero b)⟩
/-- lay: the places below k are laid -/
def capA (w : Nat → Nat) (n g t k u v : Nat) : Nat := if u / 2 < k then cap w n g t u v else 0
def capQ (w : Nat → Nat) (n g t k j u v : Nat) : Nat := if u / 2 < k then cap w n g t u v else if u / 2 = k ∧ (u % 2 = 0 ∨ v / 2 < j) then cap w n g t u v else 0
theorem lay_0 {M : Nat → Nat → Int32} {w : Nat → Nat} {n g t : Nat} (h : Z2 M 16 0) : MatR M (capA w n g t 0) := fun i j hi hj => by
  rw [h.1 i hi j hj]
  unfold capA
  rw [if_neg (Nat.not_lt_zero _)]
theorem lay_gone {M : Nat → Nat → Int32} {w : Nat → Nat} {n g t k : Nat} (h : MatR M (capA w n g t k)) (hg : g.testBit k = true) : MatR M (capA w n g t (k + 1)) := by
  refine h.to (fun u v _ _ => ?_)
  unfold capA
  by_cases e : u / 2 = k
  · rw [if_neg (by omega), if_pos (by omega)]
    unfold cap
    rw [if_neg (fun q => by rw [e, hg] at q; exact absurd q.2.2 (by simp))]
  · by_cases q : u / 2 < k
    · rw [if_pos q, if_pos (by omega)]
    · rw [if_neg q, if_neg (by omega)]
theorem lay_in {M : Nat → Nat → Int32} {w : Nat → Nat} {n g t k v : Nat} (h : MatR M (capA w n g t k)) (hk : k < n) (hg : g.testBit k = false) (hv : v = if t.testBit k = true then 8 else 1) : MatR (va_up M (2 * k) (upd (M (2 * k)) (2 * k + 1) (nI v))) (capQ w n g t k 0) := by
  refine (h.put (2 * k) (2 * k + 1) v).to (fun a b _ _ => ?_)
  unfold upL capA capQ
  by_cases e : a = 2 * k ∧ b = 2 * k + 1
  · rw [if_pos e, if_neg (by omega), if_pos ⟨by omega, Or.inl (by omega)⟩]
    obtain ⟨rfl, rfl⟩ := e
    have e3 : cap w n g t (2 * k) (2 * k + 1) = if t.testBit k = true then 8 else 1 := by
      unfold cap
      rw [show 2 * k / 2 = k from by omega, show (2 * k + 1) / 2 = k from by omega, if_pos ⟨hk, hk, hg⟩, if_pos (by omega), if_pos rfl]
    rw [e3, hv]
  · rw [if_neg e]
    by_cases q : a / 2 < k
    · rw [if_pos q, if_pos q]
    · rw [if_neg q, if_neg q]
      by_cases q2 : a / 2 = k ∧ (a % 2 = 0 ∨ b / 2 < 0)
      · rw [if_pos q2]
        have e2 : a % 2 = 0 := by omega
        unfold cap
        rw [if_pos e2, if_neg (show ¬ b = a + 1 by omega)]
        split <;> rfl
      · rw [if_neg q2]
theorem lay_no {M : Nat → Nat → Int32} {w : Nat → Nat} {n g t k j : Nat} (h : MatR M (capQ w n g t k j)) (hj : ¬ ((w k).testBit j = true ∧ g.testBit j = false)) : MatR M (capQ w n g t k (j + 1)) := by
  refine h.to (fun a b _ _ => ?_)
  unfold capQ
  by_cases q : a / 2 < k
  · rw [if_pos q, if_pos q]
  · rw [if_neg q, if_neg q]
    by_cases q2 : a / 2 = k ∧ (a % 2 = 0 ∨ b / 2 < j)
    · rw [if_pos q2, if_pos ⟨q2.1, by omega⟩]
    · rw [if_neg q2]
      by_cases q3 : a / 2 = k ∧ (a % 2 = 0 ∨ b / 2 < j + 1)
      · rw [if_pos q3]
        have e1 : ¬ a % 2 = 0 := by omega
        have e2 : b / 2 = j := by omega
        unfold cap
        rw [if_neg e1, q3.1, e2]
        rw [if_neg (show ¬ (b % 2 = 0 ∧ (w k).testBit j = true ∧ g.testBit j = false) from fun z => hj z.2)]
        split <;> rfl
      · rw [if_neg q3]
theorem lay_yes {M : Nat → Nat → Int32} {w : Nat → Nat} {n g t k j : Nat} (h : MatR M (capQ w n g t k j)) (hk : k < n) (hjn : j < n) (hg : g.testBit k = false) (h1 : (w k).testBit j = true) (h2 : g.testBit j = false) : MatR (va_up M (2 * k + 1) (upd (M (2 * k + 1)) (2 * j) (nI 8))) (capQ w n g t k (j + 1)) := by
  refine (h.put (2 * k + 1) (2 * j) 8).to (fun a b _ _ => ?_)
  unfold upL capQ
  by_cases e : a = 2 * k + 1 ∧ b = 2 * j
  · rw [if_pos e, if_neg (by omega), if_pos ⟨by omega, Or.inr (by omega)⟩]
    obtain ⟨rfl, rfl⟩ := e
    unfold cap
    rw [show (2 * k + 1) / 2 = k from by omega, show 2 * j / 2 = j from by omega, if_pos ⟨hk, hjn, hg⟩, if_neg (by omega), if_pos ⟨by omega, h1, h2⟩]
  · rw [if_neg e]
    by_cases q : a / 2 < k
    · rw [if_pos q, if_pos q]
    · rw [if_neg q, if_neg q]
      by_cases q2 : a / 2 = k ∧ (a % 2 = 0 ∨ b / 2 < j)
      · rw [if_pos q2, if_pos ⟨q2.1, by omega⟩]
      · rw [if_neg q2]
        by_cases q3 : a / 2 = k ∧ (a % 2 = 0 ∨ b / 2 < j + 1)
        · rw [if_pos q3]
          have e1 : ¬ a % 2 = 0 := by omega
          unfold cap
          rw [if_neg e1, if_neg (show ¬ (b % 2 = 0 ∧ (w (a / 2)).testBit (b / 2) = true ∧ g.testBit (b / 2) = false) from fun z => by omega)]
          split <;> rfl
        · rw [if_neg q3]
theorem lay_next {M : Nat → Nat → Int32} {w : Nat → Nat} {n g t k : Nat} (h : MatR M (capQ w n g t k n)) : MatR M (capA w n g t (k + 1)) := by
  refine h.to (fun a b _ _ => ?_)
  unfold capQ capA
  by_cases q : a / 2 < k
  · rw [if_pos q, if_pos (by omega)]
  · rw [if_neg q]
    by_cases q1 : a / 2 = k
    · rw [if_pos (show a / 2 < k + 1 by omega)]
      by_cases q2 : a % 2 = 0 ∨ b / 2 < n
      · rw [if_pos ⟨q1, q2⟩]
      · rw [if_neg (fun z => q2 z.2)]
        unfold cap
        rw [if_neg (fun z => by omega)]
    · rw [if_neg (fun z => q1 z.1), if_neg (by omega)]
theorem lay_end {M : Nat → Nat → Int32} {w : Nat → Nat} {n g t : Nat} (h : MatR M (capA w n g t n)) : MatR M (cap w n g t) := by
  refine h.to (fun a b _ _ => ?_)
  unfold capA
  by_cases q : a / 2 < n
  · rw [if_pos q]
  · rw [if_neg q]
    unfold cap
    rw [if_neg (fun z => q z.1)]
/-- more: how many are seen -/
def cnt (vis : Nat → Bool) (N : Nat) : Nat := sm N (fun j => b01 (vis j))
def upB (f : Nat → Bool) (k : Nat) (v : Bool) : Nat → Bool := fun j => if j = k then v else f j
theorem cnt_le (vis : Nat → Bool) (N : Nat) : cnt vis N ≤ N := by
  have h1 : cnt vis N ≤ sm N (fun _ => 1) := sm_le (fun k _ => by unfold b01; split <;> omega)
  have h2 : ∀ N, sm N (fun _ => 1) = N := fun N => by
    induction N with
    | zero => rfl
    | succ N ih => simp only [sm]; rw [ih]
  rw [h2] at h1; exact h1
theorem cnt_up {vis : Nat → Bool} {N y : Nat} (hy : y < N) (h : vis y = false) : cnt (upB vis y true) N = cnt vis N + 1 := by
  have := sm_upd (n := N) (f := fun j => b01 (vis j)) (g := fun j => b01 (upB vis y true j)) hy (fun j _ hj => by unfold upB; rw [if_neg hj])
  try dsimp only at this
  rw [h, show upB vis y true y = true from if_pos rfl] at this
  have b0 : b01 false = 0 := rfl
  have b1 : b01 true = 1 := rfl
  unfold cnt
  omega
theorem cnt_lt {vis : Nat → Bool} {N y : Nat} (hy : y < N) (h : vis y = false) : cnt vis N < N := by
  have := cnt_up hy h
  have := cnt_le (upB vis y true) N
  omega
/-- the search's state: h nodes are done, t seen -/
def BS (L : Nat → Nat → Nat) (N a h t : Nat) (vis : Nat → Bool) (par rk q : Nat → Nat) : Prop :=
  vis a = true ∧ (∀ j, vis j = true → j < N) ∧ t = cnt vis N ∧ (∀ j, vis j = true → rk j < t ∧ q (rk j) = j) ∧ (∀ i, i < t → vis (q i) = true ∧ rk (q i) = i) ∧
  (∀ j, vis j = true → j ≠ a → vis (par j) = true ∧ L (par j) j ≠ 0 ∧ rk (par j) < rk j) ∧ (∀ i, i < h → ∀ v, v < N → L (q i) v ≠ 0 → vis v = true) ∧ h ≤ t
def bfR (bf : Nat → Int32) (vis : Nat → Bool) (par : Nat → Nat) : Prop := ∀ j, j < 16 → bf j = if vis j = true then nI (par j) else -1
def quR (qu : Nat → Int32) (q : Nat → Nat) (t : Nat) : Prop := ∀ i, i < t → qu i = nI (q i)
theorem one_sm (a : Nat) : ∀ N, a < N → sm N (fun j => b01 (upB (fun _ => false) a true j)) = 1
  | N, h => by
    rw [sm_one h (fun j _ hj => by unfold upB; rw [if_neg hj]; rfl)]
    unfold upB
    rw [if_pos rfl]; rfl
theorem BS_0 (L : Nat → Nat → Nat) {N a : Nat} (ha : a < N) : BS L N a 0 1 (upB (fun _ => false) a true) (fun _ => a) (fun _ => 0) (fun _ => a) := by
  have hv : ∀ j, upB (fun _ => false) a true j = true → j = a := fun j h => by
    unfold upB at h
    by_cases e : j = a
    · exact e
    · rw [if_neg e] at h; cases h
  have h1 : upB (fun _ => false) a true a = true := if_pos rfl
  exact ⟨h1, fun j h => by rw [hv j h]; exact ha, (one_sm a N ha).symm, fun j h => ⟨Nat.zero_lt_one, (hv j h).symm⟩, fun i hi => ⟨h1, (show 0 = i by omega)⟩, fun j h hne => absurd (hv j h) hne, fun i hi => absurd hi (Nat.not_lt_zero i), by decide⟩
theorem bfR_0 {bf : Nat → Int32} {a : Nat} (h : ∀ j, j < 16 → bf j = -1) : bfR (upd bf a (nI a)) (upB (fun _ => false) a true) (fun _ => a) := by
  intro j hj
  unfold upd upB
  by_cases e : j = a
  · rw [if_pos e, if_pos e, if_pos rfl]
  · rw [if_neg e, if_neg e, h j hj]; rfl
theorem bfR_up {bf : Nat → Int32} {vis : Nat → Bool} {par : Nat → Nat} {y x : Nat} (h : bfR bf vis par) : bfR (upd bf y (nI x)) (upB vis y true) (fun j => if j = y then x else par j) := by
  intro j hj
  unfold upd upB
  by_cases e : j = y
  · rw [if_pos e, if_pos e, if_pos rfl]; dsimp only; rw [if_pos e]
  · rw [if_neg e, if_neg e]; dsimp only; rw [if_neg e]; exact h j hj
theorem quR_up {qu : Nat → Int32} {q : Nat → Nat} {t y : Nat} (h : quR qu q t) : quR (upd qu t (nI y)) (fun i => if i = t then y else q i) (t + 1) := by
  intro i hi
  unfold upd
  by_cases e : i = t
  · rw [if_pos e]; dsimp only; rw [if_pos e]
  · rw [if_neg e]; dsimp only; rw [if_neg e]; exact h i (by omega)
theorem BS_see {L : Nat → Nat → Nat} {N a h t y : Nat} {vis : Nat → Bool} {par rk q : Nat → Nat} (B : BS L N a h t vis par rk q) (hh : h < t) (hy : y < N) (hv : vis y = false) (hL : L (q h) y ≠ 0) :
    BS L N a h (t + 1) (upB vis y true) (fun j => if j = y then q h else par j) (fun j => if j = y then t else rk j) (fun i => if i = t then y else q i) := by
  obtain ⟨b1, b2, b3, b4, b5, b6, b7, b8⟩ := B
  have vy : upB vis y true y = true := if_pos rfl
  have vo : ∀ j, vis j = true → upB vis y true j = true := fun j z => by
    unfold upB
    by_cases e : j = y
    · rw [if_pos e]
    · rw [if_neg e]; exact z
  have vn : ∀ j, upB vis y true j = true → j ≠ y → vis j = true := fun j z e => by
    unfold upB at z
    rw [if_neg e] at z; exact z
  have ne : ∀ j, vis j = true → j ≠ y := fun j z e => by rw [e, hv] at z; cases z
  refine ⟨vo a b1, fun j z => ?_, by rw [cnt_up hy hv, ← b3], fun j z => ?_, fun i hi => ?_, fun j z za => ?_, fun i hi v hvN z => ?_, by omega⟩
  · by_cases e : j = y
    · rw [e]; exact hy
    · exact b2 j (vn j z e)
  · dsimp only
    by_cases e : j = y
    · rw [if_pos e, if_pos rfl]; exact ⟨by omega, e.symm⟩
    · rw [if_neg e]
      have h4 := b4 j (vn j z e)
      rw [if_neg (by omega)]
      exact ⟨by omega, h4.2⟩
  · dsimp only
    by_cases e : i = t
    · rw [if_pos e, if_pos rfl]; exact ⟨vy, e.symm⟩
    · rw [if_neg e]
      have h5 := b5 i (by omega)
      rw [if_neg (ne _ h5.1)]
      exact ⟨vo _ h5.1, h5.2⟩
  · dsimp only
    by_cases e : j = y
    · have hq := b5 h hh
      subst e
      rw [if_pos rfl, if_pos rfl, if_neg (ne _ hq.1)]
      exact ⟨vo _ hq.1, hL, by rw [hq.2]; exact hh⟩
    · have h6 := b6 j (vn j z e) za
      rw [if_neg e, if_neg e, if_neg (ne _ h6.1)]
      exact ⟨vo _ h6.1, h6.2⟩
  · dsimp only at z
    rw [if_neg (by omega)] at z
    exact vo v (b7 i hi v hvN z)
theorem BS_done {L : Nat → Nat → Nat} {N a h t : Nat} {vis : Nat → Bool} {par rk q : Nat → Nat} (B : BS L N a h t vis par rk q) (hh : h < t) (hx : ∀ v, v < N → L (q h) v ≠ 0 → vis v = true) : BS L N a (h + 1) t vis par rk q := by
  obtain ⟨b1, b2, b3, b4, b5, b6, b7, b8⟩ := B
  refine ⟨b1, b2, b3, b4, b5, b6, fun i hi v hv z => ?_, by omega⟩
  by_cases e : i = h
  · rw [e] at z; exact hx v hv z
  · exact b7 i (by omega) v hv z
theorem BS_shut {L : Nat → Nat → Nat} {N a t : Nat} {vis : Nat → Bool} {par rk q : Nat → Nat} (B : BS L N a t t vis par rk q) : ∀ u v, v < N → vis u = true → vis v = false → L u v = 0 := by
  intro u v hv h1 h2
  obtain ⟨b1, b2, b3, b4, b5, b6, b7, b8⟩ := B
  have h4 := b4 u h1
  by_cases e : L u v = 0
  · exact e
  · have := b7 (rk u) h4.1 v hv (by rw [h4.2]; exact e)
    rw [h2] at this; cases this
theorem bf_ge {vis : Bool} {k : Nat} (hk : k < 2 ^ 31) : (0 ≤ (if vis = true then nI k else (-1 : Int32))) ↔ vis = true := by
  cases vis with
  | false => simp
  | true => simp; exact nI_pos' hk
/-- the way back -/
def PI (L Lc : Nat → Nat → Nat) (a b y : Nat) (vis : Nat → Bool) (par rk : Nat → Nat) : Prop :=
  vis y = true ∧ (∀ u v, u < 16 → v < 16 → Lc u v + Lc v u = L u v + L v u) ∧ (∀ u, u < 16 → sm 16 (Lc u) + (if u = y then 1 else 0) = sm 16 (L u) + (if u = b then 1 else 0)) ∧ ∀ j, vis j = true → j ≠ a → rk j ≤ rk y → Lc (par j) j ≠ 0
theorem PI_0 {L : Nat → Nat → Nat} {N a h t b : Nat} {vis : Nat → Bool} {par rk q : Nat → Nat} (B : BS L N a h t vis par rk q) (hb : vis b = true) : PI L L a b b vis par rk :=
  ⟨hb, fun _ _ _ _ => rfl, fun _ _ => rfl, fun j h1 h2 _ => (B.2.2.2.2.2.1 j h1 h2).2.1⟩
theorem PI_end {L Lc : Nat → Nat → Nat} {a b : Nat} {vis : Nat → Bool} {par rk : Nat → Nat} (h : PI L Lc a b a vis par rk) : Aug L Lc a b := ⟨h.2.1, h.2.2.1⟩
theorem PI_step {L Lc : Nat → Nat → Nat} {N a h t b y : Nat} {vis : Nat → Bool} {par rk q : Nat → Nat} (hN : N ≤ 16) (B : BS L N a h t vis par rk q) (h : PI L Lc a b y vis par rk) (hy : y ≠ a) :
    PI L (upL (upL Lc (par y) y (Lc (par y) y - 1)) y (par y) (Lc y (par y) + 1)) a b (par y) vis par rk := by
  obtain ⟨p1, p2, p3, p4⟩ := h
  obtain ⟨c1, c2, c3⟩ := B.2.2.2.2.2.1 y p1 hy
  have hpos := p4 y p1 hy (Nat.le_refl _)
  have hy16 : y < 16 := Nat.lt_of_lt_of_le (B.2.1 y p1) hN
  have hp16 : par y < 16 := Nat.lt_of_lt_of_le (B.2.1 _ c1) hN
  have hne : par y ≠ y := fun e => by rw [e] at c3; exact Nat.lt_irrefl _ c3
  generalize hLe : upL (upL Lc (par y) y (Lc (par y) y - 1)) y (par y) (Lc y (par y) + 1) = L2
  have e1 : L2 (par y) y = Lc (par y) y - 1 := by rw [← hLe]; unfold upL; rw [if_neg (fun z => hne z.1), if_pos ⟨rfl, rfl⟩]
  have e2 : L2 y (par y) = Lc y (par y) + 1 := by rw [← hLe]; unfold upL; rw [if_pos ⟨rfl, rfl⟩]
  have e3 : ∀ u v, ¬ (u = par y ∧ v = y) → ¬ (u = y ∧ v = par y) → L2 u v = Lc u v := fun u v z1 z2 => by rw [← hLe]; unfold upL; rw [if_neg z2, if_neg z1]
  refine ⟨c1, fun u v hu hv => ?_, fun u hu => ?_, fun j z1 z2 z3 => ?_⟩
  · by_cases q1 : u = par y ∧ v = y
    · obtain ⟨rfl, rfl⟩ := q1
      rw [e1, e2, ← p2 _ _ hu hv]; omega
    · by_cases q2 : u = y ∧ v = par y
      · obtain ⟨rfl, rfl⟩ := q2
        rw [e1, e2, ← p2 _ _ hu hv]; omega
      · rw [e3 u v q1 q2, e3 v u (fun z => q2 ⟨z.2, z.1⟩) (fun z => q1 ⟨z.2, z.1⟩)]
        exact p2 u v hu hv
  · have h3 := p3 u hu
    by_cases q1 : u = par y
    · subst q1
      have a1 := sm_upd (n := 16) (f := Lc (par y)) (g := L2 (par y)) hy16 (fun j _ hj => e3 _ _ (fun z => hj z.2) (fun z => hne z.1))
      rw [if_pos rfl]
      rw [if_neg hne] at h3
      rw [e1] at a1
      omega
    · rw [if_neg q1]
      by_cases q2 : u = y
      · subst q2
        have a1 := sm_upd (n := 16) (f := Lc u) (g := L2 u) hp16 (fun j _ hj => e3 _ _ (fun z => q1 z.1) (fun z => hj z.2))
        rw [if_pos rfl] at h3
        rw [e2] at a1
        omega
      · rw [if_neg q2] at h3
        rw [sm_congr (f := L2 u) (g := Lc u) (fun j _ => e3 u j (fun z => q1 z.1) (fun z => q2 z.1))]
        exact h3
  · have hjy : j ≠ y := fun e => by rw [e] at z3; omega
    by_cases q2 : par j = y ∧ j = par y
    · rw [q2.1, q2.2, e2]; omega
    · rw [e3 _ _ (fun z => hjy z.2) q2]
      exact p4 j z1 z2 (by omega)
end
section
set_option maxRecDepth 100000
set_option maxHeartbeats 4000000 in
set_option maxRecDepth 100000 in
theorem metX2_lay (l : Launch) (D : va_G) (cI cL : ClassId) (ws : va_W) (sz : Nat) (ad : Nat → Nat) (n : Nat) (w : Nat → Nat) (bf qu : Nat → Int32) (M : Nat → Nat → Int32) (hF : FW cI cL ad n w ws bf qu M) (hn8 : n ≤ 8) (hw : WF w n) (g t : Nat) (hg : g < 2 ^ 31) (ht : t < 2 ^ 31) : Met l yX2_lay (ws_ yX2_lay cX2_lay 5 none) ({ frames := 1, cells := 0, slots := 0, locals := 22 }) (MuP D cI cL ws sz [.ref (ad 3), .int (nI g), .int (nI t)]) (va_Qv (fun u : va_W => ∃ M2, FW cI cL ad n w u bf qu M2 ∧ Kf ws u ∧ MatR M2 (cap w n g t)) (MuB D ws sz) (va_A ws sz)) 0 0 (va_A ws sz) := by
  refine Met.ofW (cc := cX2_lay) (maxL := 5) (ret := none) (by decide) rfl ?_
  intro p e s m args below meth c s₁ B hml hv
  obtain ⟨rfl, hsz, hP, hC, hD0⟩ := hv
  have hx := B.exec
  have hb := B.bytes
  have hr := B.returns
  have hts := atoms_spec (ws := (ws_ yX2_lay cX2_lay 5 none)) B.pre
  have hts : ∀ w ∈ lw_all, w.before _ s = true := fun w h => hts w (List.mem_cons_of_mem _ h)
  have hown : s.vm.findClass RX2 = some m.cls := findClass_of_methodNamed B.named
  have hlocks := B.notSynchronized
  subst hsz
  have hD := hD0.self (sz := s.heap.size)
  have hA : ∀ q : Nat, s.heap.size ≤ q → va_A ws s.heap.size q := fun q h => Or.inr h
  have hS : va_S (va_A ws s.heap.size) s.heap s.heap [] := va_S.rf
  have hl := lv_entry ([.ref (ad 3), .int (nI g), .int (nI t)]) (n := 5) (Nat.le_of_ble_eq_true rfl)
  rw [lg_entry_eq]
  generalize (lg_sl ([.ref (ad 3), .int (nI g), .int (nI t)]) ++ List.replicate (5 - (lg_sl ([.ref (ad 3), .int (nI g), .int (nI t)])).length) Slot.unset).toArray = ls at hl ⊢
  have hl : lv_has ls 5 [(0, .ref (ad 3)), (1, .int (nI g)), (2, .int (nI t))] := hl
  have pb : ∀ (k : Nat) (i : Nat) (M : Nat → Nat → Int32) (u : va_W) (H : Heap) (locs : List Loc) (ls : Array Slot), n - i < k → (i ≤ n ∧ FW cI cL ad n w u bf qu M ∧ Kf ws u ∧ MatR M (capA w n g t i)) → va_P D vwCl u H → va_D (va_A ws s.heap.size) u → va_S (va_A ws s.heap.size) s.heap H locs → lv_has ls 5 [(0, .ref (ad 3)), (1, .int (nI g)), (2, .int (nI t)), (3, .int (nI i))] → W p l e (headSpec (ws_ yX2_lay cX2_lay 5 none) ({ frames := 1, cells := 0, slots := 0, locals := 22 })).room s m ([.ref (ad 3), .int (nI g), .int (nI t)] : List Value).toArray below meth c H locs 0 0 (MQ below (va_Qv (fun u : va_W => ∃ M2, FW cI cL ad n w u bf qu M2 ∧ Kf ws u ∧ MatR M2 (cap w n g t)) (MuB D ws s.heap.size) (va_A ws s.heap.size)) ([.ref (ad 3), .int (nI g), .int (nI t)] : List Value).toArray s 0 0 (va_A ws s.heap.size)) (F0 m 42 ls []) := by
    intro k
    induction k with
    | zero => intro i M u H locs ls h; exact absurd h (Nat.not_lt_zero _)
    | succ k ihpb =>
      intro i M u H locs ls hk hq hP hD hS hl
      obtain ⟨hin, hF, hkf, hM⟩ := hq
      refine lv_iload_n hx hb dX2_lay_42 rfl (lv_at hl 3 rfl) ?_
      refine lv_aload_n hx hb dX2_lay_43 rfl (lv_at hl 0 rfl) ?_
      refine va_get (D := D) (ci := 2) (v := .ref (ad 1)) (C := RX2) (T := TX2) (N := 4) hx hb hts in_X2 hown hC.1 hP 3 hF.2.2.1 rfl 0 (by decide) (hts _ q44) (fun _ h9 => h9) rfl dX2_lay_44 ?_
      refine va_getN (D := D) (ci := 1) (v := .int (nI n)) (C := RX1) (T := TX1) (N := 2) hx hb hts in_X1 hown hC.1 hP 1 hF.1 rfl 1 (by decide) (va_Nw.use rfl hC.2.1.2.2.1) (fun _ h9 => h9) rfl dX2_lay_47 ?_
      refine lv_icmp_ge (tgt := 160) hx hb dX2_lay_50 (by decide) (fun c_1 => ?_) (fun c_1 => ?_)
      · have e1 : i = n := Nat.le_antisymm hin (nJ_le (by omega) (by omega) c_1)
        subst e1
        exact W.vret hx hb hr (fun t ht hW => ⟨⟨_, rfl, ⟨M, hF, hkf, lay_end hM⟩, by rw [ht]; exact hP, hD⟩, hS.F ht⟩) hS.2.2 dX2_lay_160
      · have hi : i < n := nJ_nle (by omega) (by omega) c_1
        have hwi : w i < 2 ^ 31 := by have := pow256 hn8 (hw i hi); omega
        refine lv_iload_n hx hb dX2_lay_53 rfl (lv_at hl 1 rfl) ?_
        refine lv_iload_n hx hb dX2_lay_54 rfl (lv_at hl 3 rfl) ?_
        refine lv_ishr hx hb dX2_lay_55 ?_
        refine lv_iconst (v := nI 1) hx hb dX2_lay_56 (by decide) ?_
        refine lv_iand hx hb dX2_lay_57 (tp_ (z := nI (b01 (Nat.testBit g i))) (bn_bit (by first | assumption | omega) (by omega)) ?_)
        refine lv_iconst (v := nI 1) hx hb dX2_lay_58 (by decide) ?_
        refine lv_icmp_ne (tgt := 65) hx hb dX2_lay_59 (by decide) (fun c_2 => ?_) (fun c_2 => ?_)
        · have gi := b01_f c_2
          have k93 : ∀ (v : Nat), v = (if t.testBit i = true then 8 else 1) → ∀ ls : Array Slot, lv_has ls 5 [(0, .ref (ad 3)), (1, .int (nI g)), (2, .int (nI t)), (3, .int (nI i))] → W p l e (headSpec (ws_ yX2_lay cX2_lay 5 none) ({ frames := 1, cells := 0, slots := 0, locals := 22 })).room s m ([.ref (ad 3), .int (nI g), .int (nI t)] : List Value).toArray below meth c H locs 0 0 (MQ below (va_Qv (fun u : va_W => ∃ M2, FW cI cL ad n w u bf qu M2 ∧ Kf ws u ∧ MatR M2 (cap w n g t)) (MuB D ws s.heap.size) (va_A ws s.heap.size)) ([.ref (ad 3), .int (nI g), .int (nI t)] : List Value).toArray s 0 0 (va_A ws s.heap.size)) (F0 m 93 ls [.int (nI v), .int (nI (2 * i + 1)), .ref (ad (5 + 2 * i))]) := by
            intro v hv ls hl
            refine th_iast hx hb hC hP hD hS (5 + 2 * i) (hF.row (i := 2 * i) (by omega)) (k := (2 * i + 1)) (by omega) (by decide) dX2_lay_93 (fun H locs hP hD hS => ?_)
            have hF := hF.setR (k := 2 * i) (by omega) (r := upd (M (2 * i)) (2 * i + 1) (nI v))
            have hM := lay_in hM hi gi hv
            refine lv_iconst (v := nI 0) hx hb dX2_lay_94 (by decide) ?_
            refine lv_istore (lv' := [(4, .int (nI 0)), (0, .ref (ad 3)), (1, .int (nI g)), (2, .int (nI t)), (3, .int (nI i))]) hx hb dX2_lay_95 hl (by decide) rfl (fun ls hl => ?_)
            have pc_ : ∀ (k : Nat) (j : Nat) (M : Nat → Nat → Int32) (u : va_W) (H : Heap) (locs : List Loc) (ls : Array Slot), n - j < k → (j ≤ n ∧ FW cI cL ad n w u bf qu M ∧ Kf ws u ∧ MatR M (capQ w n g t i j)) → va_P D vwCl u H → va_D (va_A ws s.heap.size) u → va_S (va_A ws s.heap.size) s.heap H locs → lv_has ls 5 [(0, .ref (ad 3)), (1, .int (nI g)), (2, .int (nI t)), (3, .int (nI i)), (4, .int (nI j))] → W p l e (headSpec (ws_ yX2_lay cX2_lay 5 none) ({ frames := 1, cells := 0, slots := 0, locals := 22 })).room s m ([.ref (ad 3), .int (nI g), .int (nI t)] : List Value).toArray below meth c H locs 0 0 (MQ below (va_Qv (fun u : va_W => ∃ M2, FW cI cL ad n w u bf qu M2 ∧ Kf ws u ∧ MatR M2 (cap w n g t)) (MuB D ws s.heap.size) (va_A ws s.heap.size)) ([.ref (ad 3), .int (nI g), .int (nI t)] : List Value).toArray s 0 0 (va_A ws s.heap.size)) (F0 m 97 ls []) := by
              intro k
              induction k with
              | zero => intro j M u H locs ls h; exact absurd h (Nat.not_lt_zero _)
              | succ k ihpc_ =>
                intro j M u H locs ls hk hq hP hD hS hl
                obtain ⟨hjn, hF, hkf, hM⟩ := hq
                refine lv_iload hx hb dX2_lay_97 (lv_at hl 4 rfl) ?_
                refine lv_aload_n hx hb dX2_lay_99 rfl (lv_at hl 0 rfl) ?_
                refine va_get (D := D) (ci := 2) (v := .ref (ad 1)) (C := RX2) (T := TX2) (N := 4) hx hb hts in_X2 hown hC.1 hP 3 hF.2.2.1 rfl 0 (by decide) (hts _ q44) (fun _ h9 => h9) rfl dX2_lay_100 ?_
                refine va_getN (D := D) (ci := 1) (v := .int (nI n)) (C := RX1) (T := TX1) (N := 2) hx hb hts in_X1 hown hC.1 hP 1 hF.1 rfl 1 (by decide) (va_Nw.use rfl hC.2.1.2.2.1) (fun _ h9 => h9) rfl dX2_lay_103 ?_
                refine lv_icmp_ge (tgt := 154) hx hb dX2_lay_106 (by decide) (fun c_3 => ?_) (fun c_3 => ?_)
                · have e1 : j = n := Nat.le_antisymm hjn (nJ_le (by omega) (by omega) c_3)
                  subst e1
                  refine lv_iinc (v := nI (i + 1)) (lv' := [(3, .int (nI (i + 1))), (0, .ref (ad 3)), (1, .int (nI g)), (2, .int (nI t)), (4, .int (nI j))]) hx hb dX2_lay_154 hl (k := 3) rfl (th_in1 _) (by decide) rfl (fun ls hl => ?_)
                  refine lv_goto (tgt := 42) hx hb dX2_lay_157 (by decide) ?_
                  exact ihpb (i + 1) M _ _ _ ls (by omega) ⟨hi, hF, hkf, lay_next hM⟩ hP hD hS (lv_sub hl [1, 2, 3, 0] rfl)
                · have hj : j < n := nJ_nle (by omega) (by omega) c_3
                  refine lv_aload_n hx hb dX2_lay_109 rfl (lv_at hl 0 rfl) ?_
                  refine va_get (D := D) (ci := 2) (v := .ref (ad 1)) (C := RX2) (T := TX2) (N := 4) hx hb hts in_X2 hown hC.1 hP 3 hF.2.2.1 rfl 0 (by decide) (hts _ q44) (fun _ h9 => h9) rfl dX2_lay_110 ?_
                  refine lv_iload_n hx hb dX2_lay_113 rfl (lv_at hl 3 rfl) ?_
                  refine lv_iload hx hb dX2_lay_114 (lv_at hl 4 rfl) ?_
                  refine rdV (As := [.int (nI i), .int (nI j)]) (rest := []) ⟨hx, hb, hml, hown, hts⟩ (metX1_has l D cI cL _ ad n w hF.1 hF.2.1 i j (by omega) (by omega) hwi) (cwV 2 hts (lw_V q106 q95 q96 q7 q97) rfl rfl rfl (by decide +kernel) ⟨Nat.le_of_ble_eq_true rfl, Nat.le_of_ble_eq_true rfl⟩) hC hP (va_recv hC.1 hP (ci := 1) (q0 := 1) rfl hF.1) rfl rfl hl.1 (Nat.le_of_ble_eq_true rfl) dX2_lay_116 ⟨Nat.zero_le _, Nat.zero_le _⟩ (fun r1 hr1 => ?_)
                  subst hr1
                  refine lv_if_eq (tgt := 148) hx hb dX2_lay_119 (by decide) (fun c_4 => ?_) (fun c_4 => ?_)
                  · refine lv_iinc (v := nI (j + 1)) (lv' := [(4, .int (nI (j + 1))), (0, .ref (ad 3)), (1, .int (nI g)), (2, .int (nI t)), (3, .int (nI i))]) hx hb dX2_lay_148 hl (k := 4) rfl (th_in1 _) (by decide) rfl (fun ls hl => ?_)
                    refine lv_goto (tgt := 97) hx hb dX2_lay_151 (by decide) ?_
                    exact ihpc_ (j + 1) M _ _ _ ls (by omega) ⟨hj, hF, hkf, lay_no hM (fun z => by rw [bit01 c_4] at z; exact absurd z.1 (by simp))⟩ hP hD hS (lv_sub hl [1, 2, 3, 4, 0] rfl)
                  · have hb4 := b01_t c_4
                    refine lv_iload_n hx hb dX2_lay_122 rfl (lv_at hl 1 rfl) ?_
                    refine lv_iload hx hb dX2_lay_123 (lv_at hl 4 rfl) ?_
                    refine lv_ishr hx hb dX2_lay_125 ?_
                    refine lv_iconst (v := nI 1) hx hb dX2_lay_126 (by decide) ?_
                    refine lv_iand hx hb dX2_lay_127 (tp_ (z := nI (b01 (Nat.testBit g j))) (bn_bit (by first | assumption | omega) (by omega)) ?_)
                    refine lv_if_ne (tgt := 148) hx hb dX2_lay_128 (by decide) (fun c_5 => ?_) (fun c_5 => ?_)
                    · refine lv_iinc (v := nI (j + 1)) (lv' := [(4, .int (nI (j + 1))), (0, .ref (ad 3)), (1, .int (nI g)), (2, .int (nI t)), (3, .int (nI i))]) hx hb dX2_lay_148 hl (k := 4) rfl (th_in1 _) (by decide) rfl (fun ls hl => ?_)
                      refine lv_goto (tgt := 97) hx hb dX2_lay_151 (by decide) ?_
                      exact ihpc_ (j + 1) M _ _ _ ls (by omega) ⟨hj, hF, hkf, lay_no hM (fun z => by rw [b01_t c_5] at z; exact absurd z.2 (by simp))⟩ hP hD hS (lv_sub hl [1, 2, 3, 4, 0] rfl)
                    · have hb5 := bit01 c_5
                      refine lv_aload_n hx hb dX2_lay_131 rfl (lv_at hl 0 rfl) ?_
                      refine va_get (D := D) (ci := 2) (v := .ref (ad 4)) (C := RX2) (T := TX2) (N := 4) hx hb hts in_X2 hown hC.1 hP 3 hF.2.2.1 rfl 1 (by decide) (hts _ q45) (fun _ h9 => h9) rfl dX2_lay_132 ?_
                      refine lv_iconst (v := nI 2) hx hb dX2_lay_135 (by decide) ?_
                      refine lv_iload_n hx hb dX2_lay_136 rfl (lv_at hl 3 rfl) ?_
                      refine lv_imul hx hb dX2_lay_137 (tp_ (z := nI (2 * i)) (pk_mul _ _) ?_)
                      refine lv_iconst (v := nI 1) hx hb dX2_lay_138 (by decide) ?_
                      refine lv_iadd hx hb dX2_lay_139 (tp_ (z := nI ((2 * i) + 1)) (nI_add _ _) ?_)
                      refine th_aald hx hb hC hP 4 hF.2.2.2.1 (k := ((2 * i) + 1)) rfl (by omega) (by decide) dX2_lay_140 ?_
                      refine lv_iconst (v := nI 2) hx hb dX2_lay_141 (by decide) ?_
                      refine lv_iload hx hb dX2_lay_142 (lv_at hl 4 rfl) ?_
                      refine lv_imul hx hb dX2_lay_144 (tp_ (z := nI (2 * j)) (pk_mul _ _) ?_)
                      refine lv_bipush (v := nI 8) hx hb dX2_lay_145 (by decide) ?_
                      refine th_iast hx hb hC hP hD hS (5 + (2 * i + 1)) (hF.row (i := 2 * i + 1) (by omega)) (k := (2 * j)) (by omega) (by decide) dX2_lay_147 (fun H locs hP hD hS => ?_)
                      have hF := hF.setR (k := 2 * i + 1) (by omega) (r := upd (M (2 * i + 1)) (2 * j) (nI 8))
                      refine lv_iinc (v := nI (j + 1)) (lv' := [(4, .int (nI (j + 1))), (0, .ref (ad 3)), (1, .int (nI g)), (2, .int (nI t)), (3, .int (nI i))]) hx hb dX2_lay_148 hl (k := 4) rfl (th_in1 _) (by decide) rfl (fun ls hl => ?_)
                      refine lv_goto (tgt := 97) hx hb dX2_lay_151 (by decide) ?_
                      exact ihpc_ (j + 1) _ _ _ _ ls (by omega) ⟨hj, hF, hkf.set (by omega) (by omega), lay_yes hM hi hj gi hb4 hb5⟩ hP hD hS (lv_sub hl [1, 2, 3, 4, 0] rfl)
            exact pc_ (n + 1) 0 _ _ _ _ ls (by omega) ⟨Nat.zero_le _, hF, hkf.set (by omega) (by omega), hM⟩ hP hD hS (lv_sub hl [1, 2, 3, 4, 0] rfl)
          refine lv_aload_n hx hb dX2_lay_65 rfl (lv_at hl 0 rfl) ?_
          refine va_get (D := D) (ci := 2) (v := .ref (ad 4)) (C := RX2) (T := TX2) (N := 4) hx hb hts in_X2 hown hC.1 hP 3 hF.2.2.1 rfl 1 (by decide) (hts _ q45) (fun _ h9 => h9) rfl dX2_lay_66 ?_
          refine lv_iconst (v := nI 2) hx hb dX2_lay_69 (by decide) ?_
          refine lv_iload_n hx hb dX2_lay_70 rfl (lv_at hl 3 rfl) ?_
          refine lv_imul hx hb dX2_lay_71 (tp_ (z := nI (2 * i)) (pk_mul _ _) ?_)
          refine th_aald hx hb hC hP 4 hF.2.2.2.1 (k := (2 * i)) rfl (by omega) (by decide) dX2_lay_72 ?_
          refine lv_iconst (v := nI 2) hx hb dX2_lay_73 (by decide) ?_
          refine lv_iload_n hx hb dX2_lay_74 rfl (lv_at hl 3 rfl) ?_
          refine lv_imul hx hb dX2_lay_75 (tp_ (z := nI (2 * i)) (pk_mul _ _) ?_)
          refine lv_iconst (v := nI 1) hx hb dX2_lay_76 (by decide) ?_
          refine lv_iadd hx hb dX2_lay_77 (tp_ (z := nI ((2 * i) + 1)) (nI_add _ _) ?_)
          refine lv_iload_n hx hb dX2_lay_78 rfl (lv_at hl 2 rfl) ?_
          refine lv_iload_n hx hb dX2_lay_79 rfl (lv_at hl 3 rfl) ?_
          refine lv_ishr hx hb dX2_lay_80 ?_
          refine lv_iconst (v := nI 1) hx hb dX2_lay_81 (by decide) ?_
          refine lv_iand hx hb dX2_lay_82 (tp_ (z := nI (b01 (Nat.testBit t i))) (bn_bit (by first | assumption | omega) (by omega)) ?_)
          refine lv_iconst (v := nI 1) hx hb dX2_lay_83 (by decide) ?_
          refine lv_icmp_ne (tgt := 92) hx hb dX2_lay_84 (by decide) (fun c_6 => ?_) (fun c_6 => ?_)
          · refine lv_iconst (v := nI 1) hx hb dX2_lay_92 (by decide) ?_
            exact k93 1 (by rw [b01_f c_6]; rfl) ls (lv_sub hl [0, 1, 2, 3] rfl)
          · refine lv_bipush (v := nI 8) hx hb dX2_lay_87 (by decide) ?_
            refine lv_goto (tgt := 93) hx hb dX2_lay_89 (by decide) ?_
            exact k93 8 (by rw [b01_1.mp c_6]; rfl) ls (lv_sub hl [0, 1, 2, 3] rfl)
        · refine lv_goto (tgt := 154) hx hb dX2_lay_62 (by decide) ?_
          refine lv_iinc (v := nI (i + 1)) (lv' := [(3, .int (nI (i + 1))), (0, .ref (ad 3)), (1, .int (nI g)), (2, .int (nI t))]) hx hb dX2_lay_154 hl (k := 3) rfl (th_in1 _) (by decide) rfl (fun ls hl => ?_)
          refine lv_goto (tgt := 42) hx hb dX2_lay_157 (by decide) ?_
          exact ihpb (i + 1) M _ _ _ ls (by omega) ⟨hi, hF, hkf, lay_gone hM (b01_1.mp c_2)⟩ hP hD hS (lv_sub hl [1, 2, 3, 0] rfl)
  refine lv_iconst (v := nI 0) hx hb dX2_lay_0 (by decide) ?_
  refine lv_istore_n (lv' := [(3, .int (nI 0)), (0, .ref (ad 3)), (1, .int (nI g)), (2, .int (nI t))]) hx hb dX2_lay_1 rfl hl (by decide) rfl (fun ls hl => ?_)
  have pa : ∀ (k : Nat) (i : Nat) (M : Nat → Nat → Int32) (u : va_W) (H : Heap) (locs : List Loc) (ls : Array Slot), 16 - i < k → (i ≤ 16 ∧ FW cI cL ad n w u bf qu M ∧ Kf ws u ∧ Z2 M i 0) → va_P D vwCl u H → va_D (va_A ws s.heap.size) u → va_S (va_A ws s.heap.size) s.heap H locs → lv_has ls 5 [(0, .ref (ad 3)), (1, .int (nI g)), (2, .int (nI t)), (3, .int (nI i))] → W p l e (headSpec (ws_ yX2_lay cX2_lay 5 none) ({ frames := 1, cells := 0, slots := 0, locals := 22 })).room s m ([.ref (ad 3), .int (nI g), .int (nI t)] : List Value).toArray below meth c H locs 0 0 (MQ below (va_Qv (fun u : va_W => ∃ M2, FW cI cL ad n w u bf qu M2 ∧ Kf ws u ∧ MatR M2 (cap w n g t)) (MuB D ws s.heap.size) (va_A ws s.heap.size)) ([.ref (ad 3), .int (nI g), .int (nI t)] : List Value).toArray s 0 0 (va_A ws s.heap.size)) (F0 m 2 ls []) := by
    intro k
    induction k with
    | zero => intro i M u H locs ls h; exact absurd h (Nat.not_lt_zero _)
    | succ k ihpa =>
      intro i M u H locs ls hk hq hP hD hS hl
      obtain ⟨hin, hF, hkf, hZ⟩ := hq
      refine lv_iload_n hx hb dX2_lay_2 rfl (lv_at hl 3 rfl) ?_
      refine lv_bipush (v := nI 16) hx hb dX2_lay_3 (by decide) ?_
      refine lv_icmp_ge (tgt := 40) hx hb dX2_lay_5 (by decide) (fun c_1 => ?_) (fun c_1 => ?_)
      · have e1 : i = 16 := Nat.le_antisymm hin (nJ_le (by decide) (by omega) c_1)
        rw [e1] at hZ
        refine lv_iconst (v := nI 0) hx hb dX2_lay_40 (by decide) ?_
        refine lv_istore_n (lv' := [(3, .int (nI 0)), (0, .ref (ad 3)), (1, .int (nI g)), (2, .int (nI t))]) hx hb dX2_lay_41 rfl hl (by decide) rfl (fun ls hl => ?_)
        exact pb (n + 1) 0 M _ _ _ ls (by omega) ⟨Nat.zero_le _, hF, hkf, lay_0 hZ⟩ hP hD hS (lv_sub hl [1, 2, 3, 0] rfl)
      · have hi : i < 16 := nJ_nle (by decide) (by omega) c_1
        refine lv_iconst (v := nI 0) hx hb dX2_lay_8 (by decide) ?_
        refine lv_istore (lv' := [(4, .int (nI 0)), (0, .ref (ad 3)), (1, .int (nI g)), (2, .int (nI t)), (3, .int (nI i))]) hx hb dX2_lay_9 hl (by decide) rfl (fun ls hl => ?_)
        have pz : ∀ (k : Nat) (j : Nat) (M : Nat → Nat → Int32) (u : va_W) (H : Heap) (locs : List Loc) (ls : Array Slot), 16 - j < k → (j ≤ 16 ∧ FW cI cL ad n w u bf qu M ∧ Kf ws u ∧ Z2 M i j) → va_P D vwCl u H → va_D (va_A ws s.heap.size) u → va_S (va_A ws s.heap.size) s.heap H locs → lv_has ls 5 [(0, .ref (ad 3)), (1, .int (nI g)), (2, .int (nI t)), (3, .int (nI i)), (4, .int (nI j))] → W p l e (headSpec (ws_ yX2_lay cX2_lay 5 none) ({ frames := 1, cells := 0, slots := 0, locals := 22 })).room s m ([.ref (ad 3), .int (nI g), .int (nI t)] : List Value).toArray below meth c H locs 0 0 (MQ below (va_Qv (fun u : va_W => ∃ M2, FW cI cL ad n w u bf qu M2 ∧ Kf ws u ∧ MatR M2 (cap w n g t)) (MuB D ws s.heap.size) (va_A ws s.heap.size)) ([.ref (ad 3), .int (nI g), .int (nI t)] : List Value).toArray s 0 0 (va_A ws s.heap.size)) (F0 m 11 ls []) := by
          intro k
          induction k with
          | zero => intro j M u H locs ls h; exact absurd h (Nat.not_lt_zero _)
          | succ k ihpz =>
            intro j M u H locs ls hk hq hP hD hS hl
            obtain ⟨hjn, hF, hkf, hZ⟩ := hq
            refine lv_iload hx hb dX2_lay_11 (lv_at hl 4 rfl) ?_
            refine lv_bipush (v := nI 16) hx hb dX2_lay_13 (by decide) ?_
            refine lv_icmp_ge (tgt := 34) hx hb dX2_lay_15 (by decide) (fun c_3 => ?_) (fun c_3 => ?_)
            · have e1 : j = 16 := Nat.le_antisymm hjn (nJ_le (by decide) (by omega) c_3)
              rw [e1] at hZ
              refine lv_iinc (v := nI (i + 1)) (lv' := [(3, .int (nI (i + 1))), (0, .ref (ad 3)), (1, .int (nI g)), (2, .int (nI t)), (4, .int (nI j))]) hx hb dX2_lay_34 hl (k := 3) rfl (th_in1 _) (by decide) rfl (fun ls hl => ?_)
              refine lv_goto (tgt := 2) hx hb dX2_lay_37 (by decide) ?_
              exact ihpa (i + 1) M _ _ _ ls (by omega) ⟨hi, hF, hkf, Z2_next hZ⟩ hP hD hS (lv_sub hl [1, 2, 3, 0] rfl)
            · have hj : j < 16 := nJ_nle (by decide) (by omega) c_3
              refine lv_aload_n hx hb dX2_lay_18 rfl (lv_at hl 0 rfl) ?_
              refine va_get (D := D) (ci := 2) (v := .ref (ad 4)) (C := RX2) (T := TX2) (N := 4) hx hb hts in_X2 hown hC.1 hP 3 hF.2.2.1 rfl 1 (by decide) (hts _ q45) (fun _ h9 => h9) rfl dX2_lay_19 ?_
              refine lv_iload_n hx hb dX2_lay_22 rfl (lv_at hl 3 rfl) ?_
              refine th_aald hx hb hC hP 4 hF.2.2.2.1 (k := i) rfl (by omega) (by decide) dX2_lay_23 ?_
              refine lv_iload hx hb dX2_lay_24 (lv_at hl 4 rfl) ?_
              refine lv_iconst (v := nI 0) hx hb dX2_lay_26 (by decide) ?_
              refine th_iast hx hb hC hP hD hS (5 + i) (hF.row (i := i) hi) (k := j) hj (by decide) dX2_lay_27 (fun H locs hP hD hS => ?_)
              have hF := hF.setR (k := i) hi (r := upd (M i) j (nI 0))
              refine lv_iinc (v := nI (j + 1)) (lv' := [(4, .int (nI (j + 1))), (0, .ref (ad 3)), (1, .int (nI g)), (2, .int (nI t)), (3, .int (nI i))]) hx hb dX2_lay_28 hl (k := 4) rfl (th_in1 _) (by decide) rfl (fun ls hl => ?_)
              refine lv_goto (tgt := 11) hx hb dX2_lay_31 (by decide) ?_
              exact ihpz (j + 1) _ _ _ _ ls (by omega) ⟨hj, hF, hkf.set (by omega) (by omega), Z2_step hZ⟩ hP hD hS (lv_sub hl [1, 2, 3, 4, 0] rfl)
        exact pz 17 0 M _ _ _ ls (by omega) ⟨Nat.zero_le _, hF, hkf, hZ⟩ hP hD hS (lv_sub hl [1, 2, 3, 4, 0] rfl)
  exact pa 17 0 M _ _ _ ls (by omega) ⟨Nat.zero_le _, hF, Kf.rf ws, Z2_0 M⟩ hP hD hS (lv_sub hl [1, 2, 3, 0] rfl)
end
section
set_option maxRecDepth 100000
theorem bf_ge2 {vis : Bool} {k : Nat} (hk : vis = true → k < 2 ^ 31) : (0 ≤ (if vis = true then nI k else (-1 : Int32))) ↔ vis = true := by
  cases vis with
  | false => simp
  | true => exact bf_ge (hk rfl)
theorem bf_lt2 {vis : Bool} {k : Nat} (hk : vis = true → k < 2 ^ 31) : ((if vis = true then nI k else (-1 : Int32)) < 0) ↔ vis = false := by
  cases vis with
  | false => simp
  | true => simp; exact Int32.not_lt.mp (nI_pos (hk rfl))
theorem cap_z {w : Nat → Nat} {n g t u v : Nat} (h : 2 * n ≤ v) : cap w n g t u v = 0 ∧ cap w n g t v u = 0 := by
  have h2 : ¬ v / 2 < n := by omega
  constructor
  · unfold cap
    rw [if_neg (fun z => h2 z.2.1)]
  · unfold cap
    rw [if_neg (fun z => h2 z.1)]
theorem par_lt {L : Nat → Nat → Nat} {n a h t j : Nat} {vis : Nat → Bool} {par rk q : Nat → Nat} (hn : n ≤ 8) (B : BS L (2 * n) a h t vis par rk q) (hpa : par a = a) : vis j = true → par j < 16 := by
  intro hj
  by_cases e : j = a
  · rw [e, hpa]
    have := B.2.1 a B.1
    omega
  · have := B.2.1 _ (B.2.2.2.2.2.1 j hj e).1
    omega
set_option maxHeartbeats 4000000 in
set_option maxRecDepth 100000 in
theorem metX2_more (l : Launch) (D : va_G) (cI cL : ClassId) (ws : va_W) (sz : Nat) (ad : Nat → Nat) (n : Nat) (w : Nat → Nat) (bf qu : Nat → Int32) (M : Nat → Nat → Int32) (hF : FW cI cL ad n w ws bf qu M) (hn8 : n ≤ 8) (hw : WF w n) (L : Nat → Nat → Nat) (hM : MatR M L) (hB : ∀ u v, u < 16 → v < 16 → L u v + L v u ≤ 16) (f0 t0 : Nat) (hf0 : f0 < 2 * n) (ht0 : t0 < 2 * n) : Met l yX2_more (ws_ yX2_more cX2_more 7 (some .boolean)) ({ frames := 0, cells := 0, slots := 0, locals := 0 }) (MuP D cI cL ws sz [.ref (ad 3), .int (nI f0), .int (nI t0)]) (va_Qi (fun (r : Int32) (u : va_W) => ∃ bf2 qu2 M2 L2, FW cI cL ad n w u bf2 qu2 M2 ∧ MatR M2 L2 ∧ Kf ws u ∧ ((r = nI 0 ∧ L2 = L ∧ ∃ vis : Nat → Bool, vis f0 = true ∧ vis t0 = false ∧ ∀ u v, v < 2 * n → vis u = true → vis v = false → L u v = 0) ∨ (r = nI 1 ∧ Aug L L2 f0 t0))) (MuB D ws sz) (va_A ws sz)) 0 0 (va_A ws sz) := by
  refine Met.ofW (cc := cX2_more) (maxL := 7) (ret := (some .boolean)) (by decide) rfl ?_
  intro p e s m args below meth c s₁ B hml hv
  obtain ⟨rfl, hsz, hP, hC, hD0⟩ := hv
  have hx := B.exec
  have hb := B.bytes
  have hr := B.returns
  have hts := atoms_spec (ws := (ws_ yX2_more cX2_more 7 (some .boolean))) B.pre
  have hts : ∀ w ∈ lw_all, w.before _ s = true := fun w h => hts w (List.mem_cons_of_mem _ h)
  have hown : s.vm.findClass RX2 = some m.cls := findClass_of_methodNamed B.named
  have hlocks := B.notSynchronized
  subst hsz
  have hD := hD0.self (sz := s.heap.size)
  have hA : ∀ q : Nat, s.heap.size ≤ q → va_A ws s.heap.size q := fun q h => Or.inr h
  have hS : va_S (va_A ws s.heap.size) s.heap s.heap [] := va_S.rf
  have hl := lv_entry ([.ref (ad 3), .int (nI f0), .int (nI t0)]) (n := 7) (Nat.le_of_ble_eq_true rfl)
  rw [lg_entry_eq]
  generalize (lg_sl ([.ref (ad 3), .int (nI f0), .int (nI t0)]) ++ List.replicate (7 - (lg_sl ([.ref (ad 3), .int (nI f0), .int (nI t0)])).length) Slot.unset).toArray = ls at hl ⊢
  have hl : lv_has ls 7 [(0, .ref (ad 3)), (1, .int (nI f0)), (2, .int (nI t0))] := hl
  have k146 : ∀ (h t : Nat) (vis : Nat → Bool) (par rk q : Nat → Nat) (bf qu : Nat → Int32) (u : va_W) (H : Heap) (locs : List Loc) (ls : Array Slot), (BS L (2 * n) f0 h t vis par rk q ∧ par f0 = f0 ∧ bfR bf vis par ∧ FW cI cL ad n w u bf qu M ∧ Kf ws u ∧ (h = t ∨ vis t0 = true)) → va_P D vwCl u H → va_D (va_A ws s.heap.size) u → va_S (va_A ws s.heap.size) s.heap H locs → lv_has ls 7 [(0, .ref (ad 3)), (1, .int (nI f0)), (2, .int (nI t0))] → W p l e (headSpec (ws_ yX2_more cX2_more 7 (some .boolean)) ({ frames := 0, cells := 0, slots := 0, locals := 0 })).room s m ([.ref (ad 3), .int (nI f0), .int (nI t0)] : List Value).toArray below meth c H locs 0 0 (MQ below (va_Qi (fun (r : Int32) (u : va_W) => ∃ bf2 qu2 M2 L2, FW cI cL ad n w u bf2 qu2 M2 ∧ MatR M2 L2 ∧ Kf ws u ∧ ((r = nI 0 ∧ L2 = L ∧ ∃ vis : Nat → Bool, vis f0 = true ∧ vis t0 = false ∧ ∀ u v, v < 2 * n → vis u = true → vis v = false → L u v = 0) ∨ (r = nI 1 ∧ Aug L L2 f0 t0))) (MuB D ws s.heap.size) (va_A ws s.heap.size)) ([.ref (ad 3), .int (nI f0), .int (nI t0)] : List Value).toArray s 0 0 (va_A ws s.heap.size)) (F0 m 146 ls []) := by
    intro h t vis par rk q bf qu u H locs ls hq hP hD hS hl
    obtain ⟨hBS, hpa, hbf, hF, hkf, hdis⟩ := hq
    have hpt : vis t0 = true → par t0 < 2 ^ 31 := fun z => by have := par_lt hn8 hBS hpa z; omega
    refine lv_aload_n hx hb dX2_more_146 rfl (lv_at hl 0 rfl) ?_
    refine va_get (D := D) (ci := 2) (v := .ref (ad 21)) (C := RX2) (T := TX2) (N := 4) hx hb hts in_X2 hown hC.1 hP 3 hF.2.2.1 rfl 2 (by decide) (hts _ q46) (fun _ h9 => h9) rfl dX2_more_147 ?_
    refine lv_iload_n hx hb dX2_more_150 rfl (lv_at hl 2 rfl) ?_
    refine th_iald hx hb hC hP 21 hF.2.2.2.2.1 (k := t0) (by omega) (by decide) dX2_more_151 ?_
    refine tp_ (z := if vis t0 = true then nI (par t0) else -1) (hbf t0 (by omega)) ?_
    refine lv_if_ge (tgt := 157) hx hb dX2_more_152 (by decide) (fun c_1 => ?_) (fun c_1 => ?_)
    · have hvt := (bf_ge2 hpt).mp c_1
      refine lv_iload_n hx hb dX2_more_157 rfl (lv_at hl 2 rfl) ?_
      refine lv_istore (lv' := [(5, .int (nI t0)), (0, .ref (ad 3)), (1, .int (nI f0)), (2, .int (nI t0))]) hx hb dX2_more_158 hl (by decide) rfl (fun ls hl => ?_)
      have pp : ∀ (k : Nat) (y : Nat) (M : Nat → Nat → Int32) (Lc : Nat → Nat → Nat) (u : va_W) (H : Heap) (locs : List Loc) (ls : Array Slot), rk y < k → (FW cI cL ad n w u bf qu M ∧ Kf ws u ∧ MatR M Lc ∧ PI L Lc f0 t0 y vis par rk) → va_P D vwCl u H → va_D (va_A ws s.heap.size) u → va_S (va_A ws s.heap.size) s.heap H locs → lv_has ls 7 [(0, .ref (ad 3)), (1, .int (nI f0)), (2, .int (nI t0)), (5, .int (nI y))] → W p l e (headSpec (ws_ yX2_more cX2_more 7 (some .boolean)) ({ frames := 0, cells := 0, slots := 0, locals := 0 })).room s m ([.ref (ad 3), .int (nI f0), .int (nI t0)] : List Value).toArray below meth c H locs 0 0 (MQ below (va_Qi (fun (r : Int32) (u : va_W) => ∃ bf2 qu2 M2 L2, FW cI cL ad n w u bf2 qu2 M2 ∧ MatR M2 L2 ∧ Kf ws u ∧ ((r = nI 0 ∧ L2 = L ∧ ∃ vis : Nat → Bool, vis f0 = true ∧ vis t0 = false ∧ ∀ u v, v < 2 * n → vis u = true → vis v = false → L u v = 0) ∨ (r = nI 1 ∧ Aug L L2 f0 t0))) (MuB D ws s.heap.size) (va_A ws s.heap.size)) ([.ref (ad 3), .int (nI f0), .int (nI t0)] : List Value).toArray s 0 0 (va_A ws s.heap.size)) (F0 m 160 ls []) := by
        intro k
        induction k with
        | zero => intro y M Lc u H locs ls h; exact absurd h (Nat.not_lt_zero _)
        | succ k ihpp =>
          intro y M Lc u H locs ls hk hq hP hD hS hl
          obtain ⟨hF, hkf, hM, hPI⟩ := hq
          have hvy := hPI.1
          have hy16 := hBS.2.1 y hvy
          refine lv_iload hx hb dX2_more_160 (lv_at hl 3 rfl) ?_
          refine lv_iload_n hx hb dX2_more_162 rfl (lv_at hl 1 rfl) ?_
          refine lv_icmp_eq (tgt := 216) hx hb dX2_more_163 (by decide) (fun c_2 => ?_) (fun c_2 => ?_)
          · have e1 : y = f0 := nI_i (by omega) (by omega) c_2
            rw [e1] at hPI
            refine lv_iconst (v := nI 1) hx hb dX2_more_216 (by decide) ?_
            exact W.zret (v := nI 1) hx hb hr rfl (fun t ht hW => ⟨⟨nI 1, _, rfl, ⟨bf, qu, M, Lc, hF, hM, hkf, Or.inr ⟨rfl, PI_end hPI⟩⟩, by rw [ht]; exact hP, hD⟩, hS.F ht⟩) hS.2.2 dX2_more_217
          · have hyf := nI_ni c_2
            obtain ⟨hvp, -, hrk⟩ := hBS.2.2.2.2.2.1 y hvy hyf
            have hp16 := hBS.2.1 _ hvp
            have hne : par y ≠ y := fun z => by rw [z] at hrk; exact Nat.lt_irrefl _ hrk
            have hby : bf y = nI (par y) := by rw [hbf y (by omega), if_pos hvy]
            have hpos := hPI.2.2.2 y hvy hyf (Nat.le_refl _)
            refine lv_aload_n hx hb dX2_more_166 rfl (lv_at hl 0 rfl) ?_
            refine va_get (D := D) (ci := 2) (v := .ref (ad 4)) (C := RX2) (T := TX2) (N := 4) hx hb hts in_X2 hown hC.1 hP 3 hF.2.2.1 rfl 1 (by decide) (hts _ q45) (fun _ h9 => h9) rfl dX2_more_167 ?_
            refine lv_aload_n hx hb dX2_more_170 rfl (lv_at hl 0 rfl) ?_
            refine va_get (D := D) (ci := 2) (v := .ref (ad 21)) (C := RX2) (T := TX2) (N := 4) hx hb hts in_X2 hown hC.1 hP 3 hF.2.2.1 rfl 2 (by decide) (hts _ q46) (fun _ h9 => h9) rfl dX2_more_171 ?_
            refine lv_iload hx hb dX2_more_174 (lv_at hl 3 rfl) ?_
            refine th_iald hx hb hC hP 21 hF.2.2.2.2.1 (k := y) (by omega) (by decide) dX2_more_176 ?_
            refine tp_ (z := nI (par y)) hby ?_
            refine th_aald hx hb hC hP 4 hF.2.2.2.1 (k := (par y)) rfl (by omega) (by decide) dX2_more_177 ?_
            refine lv_iload hx hb dX2_more_178 (lv_at hl 3 rfl) ?_
            refine lv_dup2_11 hx hb dX2_more_180 rfl rfl ?_
            refine th_iald hx hb hC hP (5 + (par y)) (hF.row (i := (par y)) (by omega)) (k := y) (by omega) (by decide) dX2_more_181 ?_
            refine tp_ (z := nI (Lc (par y) y)) (hM (par y) y (by omega) (by omega)) ?_
            refine lv_iconst (v := nI 1) hx hb dX2_more_182 (by decide) ?_
            refine lv_isub hx hb dX2_more_183 (tp_ (z := nI (Lc (par y) y - 1)) (pk_sub (by omega)) ?_)
            refine th_iast hx hb hC hP hD hS (5 + par y) (hF.row (i := par y) (by omega)) (k := y) (by omega) (by decide) dX2_more_184 (fun H locs hP hD hS => ?_)
            have hF := hF.setR (k := par y) (by omega) (r := upd (M (par y)) y (nI (Lc (par y) y - 1)))
            have hM := hM.put (par y) y (Lc (par y) y - 1)
            generalize va_up M (par y) (upd (M (par y)) y (nI (Lc (par y) y - 1))) = M1 at hF hM
            refine lv_aload_n hx hb dX2_more_185 rfl (lv_at hl 0 rfl) ?_
            refine va_get (D := D) (ci := 2) (v := .ref (ad 4)) (C := RX2) (T := TX2) (N := 4) hx hb hts in_X2 hown hC.1 hP 3 hF.2.2.1 rfl 1 (by decide) (hts _ q45) (fun _ h9 => h9) rfl dX2_more_186 ?_
            refine lv_iload hx hb dX2_more_189 (lv_at hl 3 rfl) ?_
            refine th_aald hx hb hC hP 4 hF.2.2.2.1 (k := y) rfl (by omega) (by decide) dX2_more_191 ?_
            refine lv_aload_n hx hb dX2_more_192 rfl (lv_at hl 0 rfl) ?_
            refine va_get (D := D) (ci := 2) (v := .ref (ad 21)) (C := RX2) (T := TX2) (N := 4) hx hb hts in_X2 hown hC.1 hP 3 hF.2.2.1 rfl 2 (by decide) (hts _ q46) (fun _ h9 => h9) rfl dX2_more_193 ?_
            refine lv_iload hx hb dX2_more_196 (lv_at hl 3 rfl) ?_
            refine th_iald hx hb hC hP 21 hF.2.2.2.2.1 (k := y) (by omega) (by decide) dX2_more_198 ?_
            refine tp_ (z := nI (par y)) hby ?_
            refine lv_dup2_11 hx hb dX2_more_199 rfl rfl ?_
            refine th_iald hx hb hC hP (5 + y) (hF.row (i := y) (by omega)) (k := (par y)) (by omega) (by decide) dX2_more_200 ?_
            refine tp_ (z := nI (Lc y (par y))) ((hM y (par y) (by omega) (by omega)).trans (congrArg nI (if_neg (fun z => hne z.2)))) ?_
            refine lv_iconst (v := nI 1) hx hb dX2_more_201 (by decide) ?_
            refine lv_iadd hx hb dX2_more_202 (tp_ (z := nI ((Lc y (par y)) + 1)) (nI_add _ _) ?_)
            refine th_iast hx hb hC hP hD hS (5 + y) (hF.row (i := y) (by omega)) (k := (par y)) (by omega) (by decide) dX2_more_203 (fun H locs hP hD hS => ?_)
            have hF := hF.setR (k := y) (by omega) (r := upd (M1 y) (par y) (nI (Lc y (par y) + 1)))
            have hM := hM.put y (par y) (Lc y (par y) + 1)
            refine lv_aload_n hx hb dX2_more_204 rfl (lv_at hl 0 rfl) ?_
            refine va_get (D := D) (ci := 2) (v := .ref (ad 21)) (C := RX2) (T := TX2) (N := 4) hx hb hts in_X2 hown hC.1 hP 3 hF.2.2.1 rfl 2 (by decide) (hts _ q46) (fun _ h9 => h9) rfl dX2_more_205 ?_
            refine lv_iload hx hb dX2_more_208 (lv_at hl 3 rfl) ?_
            refine th_iald hx hb hC hP 21 hF.2.2.2.2.1 (k := y) (by omega) (by decide) dX2_more_210 ?_
            refine tp_ (z := nI (par y)) hby ?_
            refine lv_istore (lv' := [(5, .int (nI (par y))), (0, .ref (ad 3)), (1, .int (nI f0)), (2, .int (nI t0))]) hx hb dX2_more_211 hl (by decide) rfl (fun ls hl => ?_)
            refine lv_goto (tgt := 160) hx hb dX2_more_213 (by decide) ?_
            exact ihpp (par y) _ _ _ _ _ ls (by omega) ⟨hF, (hkf.set (by omega) (by omega)).set (by omega) (by omega), hM, PI_step (by omega) hBS hPI hyf⟩ hP hD hS (lv_sub hl [1, 2, 3, 0] rfl)
      exact pp (rk t0 + 1) t0 M L _ _ _ ls (Nat.lt_succ_self _) ⟨hF, hkf, hM, PI_0 hBS hvt⟩ hP hD hS (lv_sub hl [1, 2, 3, 0] rfl)
    · have hvt : vis t0 = false := by
        cases z : vis t0 with
        | false => rfl
        | true => exact absurd ((bf_ge2 hpt).mpr z) c_1
      have hht : h = t := by
        rcases hdis with z | z
        · exact z
        · rw [hvt] at z; cases z
      subst hht
      refine lv_iconst (v := nI 0) hx hb dX2_more_155 (by decide) ?_
      exact W.zret (v := nI 0) hx hb hr rfl (fun t ht hW => ⟨⟨nI 0, _, rfl, ⟨bf, qu, M, L, hF, hM, hkf, Or.inl ⟨rfl, rfl, vis, hBS.1, hvt, BS_shut hBS⟩⟩, by rw [ht]; exact hP, hD⟩, hS.F ht⟩) hS.2.2 dX2_more_156
  have lp : ∀ (k : Nat) (h t : Nat) (vis : Nat → Bool) (par rk q : Nat → Nat) (bf qu : Nat → Int32) (u : va_W) (H : Heap) (locs : List Loc) (ls : Array Slot), 2 * n - h < k → (BS L (2 * n) f0 h t vis par rk q ∧ par f0 = f0 ∧ bfR bf vis par ∧ quR qu q t ∧ FW cI cL ad n w u bf qu M ∧ Kf ws u) → va_P D vwCl u H → va_D (va_A ws s.heap.size) u → va_S (va_A ws s.heap.size) s.heap H locs → lv_has ls 7 [(0, .ref (ad 3)), (1, .int (nI f0)), (2, .int (nI t0)), (3, .int (nI h)), (4, .int (nI t))] → W p l e (headSpec (ws_ yX2_more cX2_more 7 (some .boolean)) ({ frames := 0, cells := 0, slots := 0, locals := 0 })).room s m ([.ref (ad 3), .int (nI f0), .int (nI t0)] : List Value).toArray below meth c H locs 0 0 (MQ below (va_Qi (fun (r : Int32) (u : va_W) => ∃ bf2 qu2 M2 L2, FW cI cL ad n w u bf2 qu2 M2 ∧ MatR M2 L2 ∧ Kf ws u ∧ ((r = nI 0 ∧ L2 = L ∧ ∃ vis : Nat → Bool, vis f0 = true ∧ vis t0 = false ∧ ∀ u v, v < 2 * n → vis u = true → vis v = false → L u v = 0) ∨ (r = nI 1 ∧ Aug L L2 f0 t0))) (MuB D ws s.heap.size) (va_A ws s.heap.size)) ([.ref (ad 3), .int (nI f0), .int (nI t0)] : List Value).toArray s 0 0 (va_A ws s.heap.size)) (F0 m 47 ls []) := by
    intro k
    induction k with
    | zero => intro h t vis par rk q bf qu u H locs ls h; exact absurd h (Nat.not_lt_zero _)
    | succ k ihlp =>
      intro h t vis par rk q bf qu u H locs ls hk hq hP hD hS hl
      obtain ⟨hBS, hpa, hbf, hqu, hF, hkf⟩ := hq
      have ht16 := cnt_le vis (2 * n)
      rw [← hBS.2.2.1] at ht16
      have hhle := hBS.2.2.2.2.2.2.2
      have hpt : vis t0 = true → par t0 < 2 ^ 31 := fun z => by have := par_lt hn8 hBS hpa z; omega
      refine lv_iload_n hx hb dX2_more_47 rfl (lv_at hl 3 rfl) ?_
      refine lv_iload hx hb dX2_more_48 (lv_at hl 4 rfl) ?_
      refine lv_icmp_ge (tgt := 146) hx hb dX2_more_50 (by decide) (fun c_1 => ?_) (fun c_1 => ?_)
      · have e1 : t ≤ h := nJ_le (by omega) (by omega) c_1
        exact k146 h t vis par rk q bf qu _ _ _ ls ⟨hBS, hpa, hbf, hF, hkf, Or.inl (by omega)⟩ hP hD hS (lv_sub hl [0, 1, 2] rfl)
      · have hht : h < t := nJ_nle (by omega) (by omega) c_1
        refine lv_aload_n hx hb dX2_more_53 rfl (lv_at hl 0 rfl) ?_
        refine va_get (D := D) (ci := 2) (v := .ref (ad 21)) (C := RX2) (T := TX2) (N := 4) hx hb hts in_X2 hown hC.1 hP 3 hF.2.2.1 rfl 2 (by decide) (hts _ q46) (fun _ h9 => h9) rfl dX2_more_54 ?_
        refine lv_iload_n hx hb dX2_more_57 rfl (lv_at hl 2 rfl) ?_
        refine th_iald hx hb hC hP 21 hF.2.2.2.2.1 (k := t0) (by omega) (by decide) dX2_more_58 ?_
        refine tp_ (z := if vis t0 = true then nI (par t0) else -1) (hbf t0 (by omega)) ?_
        refine lv_if_ge (tgt := 146) hx hb dX2_more_59 (by decide) (fun c_2 => ?_) (fun c_2 => ?_)
        · exact k146 h t vis par rk q bf qu _ _ _ ls ⟨hBS, hpa, hbf, hF, hkf, Or.inr ((bf_ge2 hpt).mp c_2)⟩ hP hD hS (lv_sub hl [0, 1, 2] rfl)
        · refine lv_aload_n hx hb dX2_more_62 rfl (lv_at hl 0 rfl) ?_
          refine va_get (D := D) (ci := 2) (v := .ref (ad 22)) (C := RX2) (T := TX2) (N := 4) hx hb hts in_X2 hown hC.1 hP 3 hF.2.2.1 rfl 3 (by decide) (hts _ q47) (fun _ h9 => h9) rfl dX2_more_63 ?_
          refine lv_iload_n hx hb dX2_more_66 rfl (lv_at hl 3 rfl) ?_
          refine th_iald hx hb hC hP 22 hF.2.2.2.2.2.1 (k := h) (by omega) (by decide) dX2_more_67 ?_
          refine tp_ (z := nI (q h)) (hqu h hht) ?_
          refine lv_istore (lv' := [(5, .int (nI (q h))), (0, .ref (ad 3)), (1, .int (nI f0)), (2, .int (nI t0)), (3, .int (nI h)), (4, .int (nI t))]) hx hb dX2_more_68 hl (by decide) rfl (fun ls hl => ?_)
          refine lv_iinc (v := nI (h + 1)) (lv' := [(3, .int (nI (h + 1))), (5, .int (nI (q h))), (0, .ref (ad 3)), (1, .int (nI f0)), (2, .int (nI t0)), (4, .int (nI t))]) hx hb dX2_more_70 hl (k := 4) rfl (th_in1 _) (by decide) rfl (fun ls hl => ?_)
          refine lv_iconst (v := nI 0) hx hb dX2_more_73 (by decide) ?_
          refine lv_istore (lv' := [(6, .int (nI 0)), (3, .int (nI (h + 1))), (5, .int (nI (q h))), (0, .ref (ad 3)), (1, .int (nI f0)), (2, .int (nI t0)), (4, .int (nI t))]) hx hb dX2_more_74 hl (by decide) rfl (fun ls hl => ?_)
          have hx16 := hBS.2.1 _ (hBS.2.2.2.2.1 h hht).1
          obtain ⟨x, hxe⟩ : ∃ z, z = q h := ⟨_, rfl⟩
          rw [← hxe] at hl hx16
          have l2 : ∀ (k : Nat) (y t : Nat) (vis : Nat → Bool) (par rk q : Nat → Nat) (bf qu : Nat → Int32) (u : va_W) (H : Heap) (locs : List Loc) (ls : Array Slot), 2 * n - y < k → (y ≤ 2 * n ∧ h < t ∧ q h = x ∧ BS L (2 * n) f0 h t vis par rk q ∧ par f0 = f0 ∧ bfR bf vis par ∧ quR qu q t ∧ FW cI cL ad n w u bf qu M ∧ Kf ws u ∧ ∀ v, v < y → L x v ≠ 0 → vis v = true) → va_P D vwCl u H → va_D (va_A ws s.heap.size) u → va_S (va_A ws s.heap.size) s.heap H locs → lv_has ls 7 [(0, .ref (ad 3)), (1, .int (nI f0)), (2, .int (nI t0)), (3, .int (nI (h + 1))), (4, .int (nI t)), (5, .int (nI x)), (6, .int (nI y))] → W p l e (headSpec (ws_ yX2_more cX2_more 7 (some .boolean)) ({ frames := 0, cells := 0, slots := 0, locals := 0 })).room s m ([.ref (ad 3), .int (nI f0), .int (nI t0)] : List Value).toArray below meth c H locs 0 0 (MQ below (va_Qi (fun (r : Int32) (u : va_W) => ∃ bf2 qu2 M2 L2, FW cI cL ad n w u bf2 qu2 M2 ∧ MatR M2 L2 ∧ Kf ws u ∧ ((r = nI 0 ∧ L2 = L ∧ ∃ vis : Nat → Bool, vis f0 = true ∧ vis t0 = false ∧ ∀ u v, v < 2 * n → vis u = true → vis v = false → L u v = 0) ∨ (r = nI 1 ∧ Aug L L2 f0 t0))) (MuB D ws s.heap.size) (va_A ws s.heap.size)) ([.ref (ad 3), .int (nI f0), .int (nI t0)] : List Value).toArray s 0 0 (va_A ws s.heap.size)) (F0 m 76 ls []) := by
            intro k
            induction k with
            | zero => intro y t vis par rk q bf qu u H locs ls h; exact absurd h (Nat.not_lt_zero _)
            | succ k ihl2 =>
              intro y t vis par rk q bf qu u H locs ls hk hq hP hD hS hl
              obtain ⟨hyn, hht, hxe, hBS, hpa, hbf, hqu, hF, hkf, hcl⟩ := hq
              refine lv_iload hx hb dX2_more_76 (lv_at hl 6 rfl) ?_
              refine lv_iconst (v := nI 2) hx hb dX2_more_78 (by decide) ?_
              refine lv_aload_n hx hb dX2_more_79 rfl (lv_at hl 0 rfl) ?_
              refine va_get (D := D) (ci := 2) (v := .ref (ad 1)) (C := RX2) (T := TX2) (N := 4) hx hb hts in_X2 hown hC.1 hP 3 hF.2.2.1 rfl 0 (by decide) (hts _ q44) (fun _ h9 => h9) rfl dX2_more_80 ?_
              refine va_getN (D := D) (ci := 1) (v := .int (nI n)) (C := RX1) (T := TX1) (N := 2) hx hb hts in_X1 hown hC.1 hP 1 hF.1 rfl 1 (by decide) (va_Nw.use rfl hC.2.1.2.2.1) (fun _ h9 => h9) rfl dX2_more_83 ?_
              refine lv_imul hx hb dX2_more_86 (tp_ (z := nI (2 * n)) (pk_mul _ _) ?_)
              refine lv_icmp_ge (tgt := 143) hx hb dX2_more_87 (by decide) (fun c_3 => ?_) (fun c_3 => ?_)
              · have e1 : y = 2 * n := Nat.le_antisymm hyn (nJ_le (by omega) (by omega) c_3)
                refine lv_goto (tgt := 47) hx hb dX2_more_143 (by decide) ?_
                exact ihlp (h + 1) t vis par rk q bf qu _ _ _ ls (by omega) ⟨BS_done hBS hht (by rw [hxe]; exact fun v hv z => hcl v (by omega) z), hpa, hbf, hqu, hF, hkf⟩ hP hD hS (lv_sub hl [0, 1, 2, 3, 4] rfl)
              · have hy : y < 2 * n := nJ_nle (by omega) (by omega) c_3
                have hLb := hB x y (by omega) (by omega)
                refine lv_aload_n hx hb dX2_more_90 rfl (lv_at hl 0 rfl) ?_
                refine va_get (D := D) (ci := 2) (v := .ref (ad 4)) (C := RX2) (T := TX2) (N := 4) hx hb hts in_X2 hown hC.1 hP 3 hF.2.2.1 rfl 1 (by decide) (hts _ q45) (fun _ h9 => h9) rfl dX2_more_91 ?_
                refine lv_iload hx hb dX2_more_94 (lv_at hl 5 rfl) ?_
                refine th_aald hx hb hC hP 4 hF.2.2.2.1 (k := x) rfl (by omega) (by decide) dX2_more_96 ?_
                refine lv_iload hx hb dX2_more_97 (lv_at hl 6 rfl) ?_
                refine th_iald hx hb hC hP (5 + x) (hF.row (i := x) (by omega)) (k := y) (by omega) (by decide) dX2_more_99 ?_
                refine tp_ (z := nI (L x y)) (hM x y (by omega) (by omega)) ?_
                refine lv_if_eq (tgt := 137) hx hb dX2_more_100 (by decide) (fun c_4 => ?_) (fun c_4 => ?_)
                · refine lv_iinc (v := nI (y + 1)) (lv' := [(6, .int (nI (y + 1))), (0, .ref (ad 3)), (1, .int (nI f0)), (2, .int (nI t0)), (3, .int (nI (h + 1))), (4, .int (nI t)), (5, .int (nI x))]) hx hb dX2_more_137 hl (k := 6) rfl (th_in1 _) (by decide) rfl (fun ls hl => ?_)
                  refine lv_goto (tgt := 76) hx hb dX2_more_140 (by decide) ?_
                  exact ihl2 (y + 1) t vis par rk q bf qu _ _ _ ls (by omega) ⟨hy, hht, hxe, hBS, hpa, hbf, hqu, hF, hkf, fun v hv z => by
                    by_cases e : v = y
                    · rw [e] at z; exact absurd (nI_z (by omega) c_4) z
                    · exact hcl v (by omega) z⟩ hP hD hS (lv_sub hl [1, 2, 3, 4, 5, 6, 0] rfl)
                · have hLn := nI_nz c_4
                  have hpy : vis y = true → par y < 2 ^ 31 := fun z => by have := par_lt hn8 hBS hpa z; omega
                  refine lv_aload_n hx hb dX2_more_103 rfl (lv_at hl 0 rfl) ?_
                  refine va_get (D := D) (ci := 2) (v := .ref (ad 21)) (C := RX2) (T := TX2) (N := 4) hx hb hts in_X2 hown hC.1 hP 3 hF.2.2.1 rfl 2 (by decide) (hts _ q46) (fun _ h9 => h9) rfl dX2_more_104 ?_
                  refine lv_iload hx hb dX2_more_107 (lv_at hl 6 rfl) ?_
                  refine th_iald hx hb hC hP 21 hF.2.2.2.2.1 (k := y) (by omega) (by decide) dX2_more_109 ?_
                  refine tp_ (z := if vis y = true then nI (par y) else -1) (hbf y (by omega)) ?_
                  refine lv_if_lt (tgt := 116) hx hb dX2_more_110 (by decide) (fun c_5 => ?_) (fun c_5 => ?_)
                  · have hvy := (bf_lt2 hpy).mp c_5
                    have htl := cnt_lt hy hvy
                    rw [← hBS.2.2.1] at htl
                    refine lv_aload_n hx hb dX2_more_116 rfl (lv_at hl 0 rfl) ?_
                    refine va_get (D := D) (ci := 2) (v := .ref (ad 21)) (C := RX2) (T := TX2) (N := 4) hx hb hts in_X2 hown hC.1 hP 3 hF.2.2.1 rfl 2 (by decide) (hts _ q46) (fun _ h9 => h9) rfl dX2_more_117 ?_
                    refine lv_iload hx hb dX2_more_120 (lv_at hl 6 rfl) ?_
                    refine lv_iload hx hb dX2_more_122 (lv_at hl 5 rfl) ?_
                    refine th_iast hx hb hC hP hD hS 21 hF.2.2.2.2.1 (k := y) (by omega) (by decide) dX2_more_124 (fun H locs hP hD hS => ?_)
                    have hF := hF.setB (r := upd bf y (nI x))
                    refine lv_aload_n hx hb dX2_more_125 rfl (lv_at hl 0 rfl) ?_
                    refine va_get (D := D) (ci := 2) (v := .ref (ad 22)) (C := RX2) (T := TX2) (N := 4) hx hb hts in_X2 hown hC.1 hP 3 hF.2.2.1 rfl 3 (by decide) (hts _ q47) (fun _ h9 => h9) rfl dX2_more_126 ?_
                    refine lv_iload hx hb dX2_more_129 (lv_at hl 4 rfl) ?_
                    refine lv_iload hx hb dX2_more_131 (lv_at hl 6 rfl) ?_
                    refine th_iast hx hb hC hP hD hS 22 hF.2.2.2.2.2.1 (k := t) (by omega) (by decide) dX2_more_133 (fun H locs hP hD hS => ?_)
                    have hF := hF.setQ (r := upd qu t (nI y))
                    have hBS2 := BS_see hBS hht hy hvy (by rw [hxe]; exact hLn)
                    rw [hxe] at hBS2
                    refine lv_iinc (v := nI (t + 1)) (lv' := [(4, .int (nI (t + 1))), (0, .ref (ad 3)), (1, .int (nI f0)), (2, .int (nI t0)), (3, .int (nI (h + 1))), (5, .int (nI x)), (6, .int (nI y))]) hx hb dX2_more_134 hl (k := 4) rfl (th_in1 _) (by decide) rfl (fun ls hl => ?_)
                    refine lv_iinc (v := nI (y + 1)) (lv' := [(6, .int (nI (y + 1))), (4, .int (nI (t + 1))), (0, .ref (ad 3)), (1, .int (nI f0)), (2, .int (nI t0)), (3, .int (nI (h + 1))), (5, .int (nI x))]) hx hb dX2_more_137 hl (k := 6) rfl (th_in1 _) (by decide) rfl (fun ls hl => ?_)
                    refine lv_goto (tgt := 76) hx hb dX2_more_140 (by decide) ?_
                    refine ihl2 (y + 1) (t + 1) _ _ _ _ _ _ _ _ _ ls (by omega) ⟨hy, by omega, ?_, hBS2, ?_, bfR_up hbf, quR_up hqu, hF, (hkf.set (by omega) (by omega)).set (by omega) (by omega), fun v hv z => ?_⟩ hP hD hS (lv_sub hl [2, 3, 4, 5, 1, 6, 0] rfl)
                    · show (if h = t then y else q h) = x
                      rw [if_neg (by omega)]; exact hxe
                    · show (if f0 = y then x else par f0) = f0
                      rw [if_neg (fun z => by rw [← z, hBS.1] at hvy; cases hvy)]; exact hpa
                    · unfold upB
                      by_cases e : v = y
                      · rw [if_pos e]
                      · rw [if_neg e]; exact hcl v (by omega) z
                  · have hvy : vis y = true := by
                      cases z : vis y with
                      | true => rfl
                      | false => exact absurd ((bf_lt2 hpy).mpr z) c_5
                    refine lv_goto (tgt := 137) hx hb dX2_more_113 (by decide) ?_
                    refine lv_iinc (v := nI (y + 1)) (lv' := [(6, .int (nI (y + 1))), (0, .ref (ad 3)), (1, .int (nI f0)), (2, .int (nI t0)), (3, .int (nI (h + 1))), (4, .int (nI t)), (5, .int (nI x))]) hx hb dX2_more_137 hl (k := 6) rfl (th_in1 _) (by decide) rfl (fun ls hl => ?_)
                    refine lv_goto (tgt := 76) hx hb dX2_more_140 (by decide) ?_
                    exact ihl2 (y + 1) t vis par rk q bf qu _ _ _ ls (by omega) ⟨hy, hht, hxe, hBS, hpa, hbf, hqu, hF, hkf, fun v hv z => by
                      by_cases e : v = y
                      · rw [e]; exact hvy
                      · exact hcl v (by omega) z⟩ hP hD hS (lv_sub hl [1, 2, 3, 4, 5, 6, 0] rfl)
          exact l2 (2 * n + 1) 0 t vis par rk q bf qu _ _ _ ls (by omega) ⟨Nat.zero_le _, hht, hxe.symm, hBS, hpa, hbf, hqu, hF, hkf, fun v hv => absurd hv (Nat.not_lt_zero v)⟩ hP hD hS (lv_sub hl [3, 4, 5, 1, 6, 2, 0] rfl)
  refine lv_iconst (v := nI 0) hx hb dX2_more_0 (by decide) ?_
  refine lv_istore_n (lv' := [(3, .int (nI 0)), (0, .ref (ad 3)), (1, .int (nI f0)), (2, .int (nI t0))]) hx hb dX2_more_1 rfl hl (by decide) rfl (fun ls hl => ?_)
  have l0 : ∀ (k : Nat) (i : Nat) (bf : Nat → Int32) (u : va_W) (H : Heap) (locs : List Loc) (ls : Array Slot), 16 - i < k → (i ≤ 16 ∧ FW cI cL ad n w u bf qu M ∧ Kf ws u ∧ ∀ j, j < i → bf j = -1) → va_P D vwCl u H → va_D (va_A ws s.heap.size) u → va_S (va_A ws s.heap.size) s.heap H locs → lv_has ls 7 [(0, .ref (ad 3)), (1, .int (nI f0)), (2, .int (nI t0)), (3, .int (nI i))] → W p l e (headSpec (ws_ yX2_more cX2_more 7 (some .boolean)) ({ frames := 0, cells := 0, slots := 0, locals := 0 })).room s m ([.ref (ad 3), .int (nI f0), .int (nI t0)] : List Value).toArray below meth c H locs 0 0 (MQ below (va_Qi (fun (r : Int32) (u : va_W) => ∃ bf2 qu2 M2 L2, FW cI cL ad n w u bf2 qu2 M2 ∧ MatR M2 L2 ∧ Kf ws u ∧ ((r = nI 0 ∧ L2 = L ∧ ∃ vis : Nat → Bool, vis f0 = true ∧ vis t0 = false ∧ ∀ u v, v < 2 * n → vis u = true → vis v = false → L u v = 0) ∨ (r = nI 1 ∧ Aug L L2 f0 t0))) (MuB D ws s.heap.size) (va_A ws s.heap.size)) ([.ref (ad 3), .int (nI f0), .int (nI t0)] : List Value).toArray s 0 0 (va_A ws s.heap.size)) (F0 m 2 ls []) := by
    intro k
    induction k with
    | zero => intro i bf u H locs ls h; exact absurd h (Nat.not_lt_zero _)
    | succ k ihl0 =>
      intro i bf u H locs ls hk hq hP hD hS hl
      obtain ⟨hin, hF, hkf, hz⟩ := hq
      refine lv_iload_n hx hb dX2_more_2 rfl (lv_at hl 3 rfl) ?_
      refine lv_aload_n hx hb dX2_more_3 rfl (lv_at hl 0 rfl) ?_
      refine va_get (D := D) (ci := 2) (v := .ref (ad 21)) (C := RX2) (T := TX2) (N := 4) hx hb hts in_X2 hown hC.1 hP 3 hF.2.2.1 rfl 2 (by decide) (hts _ q46) (fun _ h9 => h9) rfl dX2_more_4 ?_
      refine th_alen hx hb hC hP 21 hF.2.2.2.2.1 dX2_more_7 ?_
      refine lv_icmp_ge (tgt := 24) hx hb dX2_more_8 (by decide) (fun c_1 => ?_) (fun c_1 => ?_)
      · have e1 : i = 16 := Nat.le_antisymm hin (nJ_le (by decide) (by omega) c_1)
        rw [e1] at hz
        refine lv_aload_n hx hb dX2_more_24 rfl (lv_at hl 0 rfl) ?_
        refine va_get (D := D) (ci := 2) (v := .ref (ad 21)) (C := RX2) (T := TX2) (N := 4) hx hb hts in_X2 hown hC.1 hP 3 hF.2.2.1 rfl 2 (by decide) (hts _ q46) (fun _ h9 => h9) rfl dX2_more_25 ?_
        refine lv_iload_n hx hb dX2_more_28 rfl (lv_at hl 1 rfl) ?_
        refine lv_iload_n hx hb dX2_more_29 rfl (lv_at hl 1 rfl) ?_
        refine th_iast hx hb hC hP hD hS 21 hF.2.2.2.2.1 (k := f0) (by omega) (by decide) dX2_more_30 (fun H locs hP hD hS => ?_)
        have hF := hF.setB (r := upd bf f0 (nI f0))
        refine lv_iconst (v := nI 0) hx hb dX2_more_31 (by decide) ?_
        refine lv_istore_n (lv' := [(3, .int (nI 0)), (0, .ref (ad 3)), (1, .int (nI f0)), (2, .int (nI t0))]) hx hb dX2_more_32 rfl hl (by decide) rfl (fun ls hl => ?_)
        refine lv_iconst (v := nI 0) hx hb dX2_more_33 (by decide) ?_
        refine lv_istore (lv' := [(4, .int (nI 0)), (3, .int (nI 0)), (0, .ref (ad 3)), (1, .int (nI f0)), (2, .int (nI t0))]) hx hb dX2_more_34 hl (by decide) rfl (fun ls hl => ?_)
        refine lv_aload_n hx hb dX2_more_36 rfl (lv_at hl 2 rfl) ?_
        refine va_get (D := D) (ci := 2) (v := .ref (ad 22)) (C := RX2) (T := TX2) (N := 4) hx hb hts in_X2 hown hC.1 hP 3 hF.2.2.1 rfl 3 (by decide) (hts _ q47) (fun _ h9 => h9) rfl dX2_more_37 ?_
        refine lv_iload hx hb dX2_more_40 (lv_at hl 0 rfl) ?_
        refine lv_iload_n hx hb dX2_more_42 rfl (lv_at hl 3 rfl) ?_
        refine th_iast hx hb hC hP hD hS 22 hF.2.2.2.2.2.1 (k := 0) (by omega) (by decide) dX2_more_43 (fun H locs hP hD hS => ?_)
        have hF := hF.setQ (r := upd qu 0 (nI f0))
        refine lv_iinc (v := nI (0 + 1)) (lv' := [(4, .int (nI (0 + 1))), (3, .int (nI 0)), (0, .ref (ad 3)), (1, .int (nI f0)), (2, .int (nI t0))]) hx hb dX2_more_44 hl (k := 0) rfl (th_in1 _) (by decide) rfl (fun ls hl => ?_)
        exact lp (2 * n + 1) 0 1 _ _ _ _ _ _ _ _ _ ls (by omega) ⟨BS_0 L hf0, rfl, bfR_0 hz, fun i hi => by rw [show i = 0 from by omega]; rfl, hF, (hkf.set (by omega) (by omega)).set (by omega) (by omega)⟩ hP hD hS (lv_sub hl [2, 3, 4, 1, 0] rfl)
      · have hi : i < 16 := nJ_nle (by decide) (by omega) c_1
        refine lv_aload_n hx hb dX2_more_11 rfl (lv_at hl 0 rfl) ?_
        refine va_get (D := D) (ci := 2) (v := .ref (ad 21)) (C := RX2) (T := TX2) (N := 4) hx hb hts in_X2 hown hC.1 hP 3 hF.2.2.1 rfl 2 (by decide) (hts _ q46) (fun _ h9 => h9) rfl dX2_more_12 ?_
        refine lv_iload_n hx hb dX2_more_15 rfl (lv_at hl 3 rfl) ?_
        refine lv_iconst (v := -1) hx hb dX2_more_16 (by decide) ?_
        refine th_iast hx hb hC hP hD hS 21 hF.2.2.2.2.1 (k := i) hi (by decide) dX2_more_17 (fun H locs hP hD hS => ?_)
        have hF := hF.setB (r := upd bf i (-1))
        refine lv_iinc (v := nI (i + 1)) (lv' := [(3, .int (nI (i + 1))), (0, .ref (ad 3)), (1, .int (nI f0)), (2, .int (nI t0))]) hx hb dX2_more_18 hl (k := 3) rfl (th_in1 _) (by decide) rfl (fun ls hl => ?_)
        refine lv_goto (tgt := 2) hx hb dX2_more_21 (by decide) ?_
        refine ihl0 (i + 1) _ _ _ _ ls (by omega) ⟨hi, hF, hkf.set (by omega) (by omega), fun j hj => ?_⟩ hP hD hS (lv_sub hl [1, 2, 3, 0] rfl)
        unfold upd
        by_cases e : j = i
        · rw [if_pos e]
        · rw [if_neg e]; exact hz j (by omega)
  exact l0 17 0 bf _ _ _ ls (by omega) ⟨Nat.zero_le _, hF, Kf.rf ws, fun j hj => absurd hj (Nat.not_lt_zero j)⟩ hP hD hS (lv_sub hl [1, 2, 3, 0] rfl)
end
section
set_option maxRecDepth 100000
theorem sub_m1 (n : Nat) : nI n - nI 1 = nI n + (-1) := by
  rw [Int32.sub_eq_add_neg]
  rfl
set_option maxHeartbeats 4000000 in
set_option maxRecDepth 100000 in
theorem metX2_greatest (l : Launch) (D : va_G) (cI cL : ClassId) (ws : va_W) (sz : Nat) (ad : Nat → Nat) (n : Nat) (w : Nat → Nat) (bf qu : Nat → Int32) (M : Nat → Nat → Int32) (hF : FW cI cL ad n w ws bf qu M) (hn8 : n ≤ 8) (hw : WF w n) (x y g st : Nat) (hxn : x < n) (hyn : y < n) (hxy : x ≠ y) (hgx : g.testBit x = false) (hg : g < 2 ^ n) (hst : st < 2 ^ n) : Met l yX2_greatest (ws_ yX2_greatest cX2_greatest 6 (some .int)) ({ frames := 2, cells := 0, slots := 0, locals := 46 }) (MuP D cI cL ws sz [.ref (ad 3), .int (nI x), .int (nI y), .int (nI g), .int (nI st)]) (va_Qi (fun (r : Int32) (u : va_W) => ∃ k, r = nI k ∧ GR w n g (ful st x y) x y k ∧ ∃ bf2 qu2 M2, FW cI cL ad n w u bf2 qu2 M2 ∧ Kf ws u) (MuB D ws sz) (va_A ws sz)) 0 0 (va_A ws sz) := by
  refine Met.ofW (cc := cX2_greatest) (maxL := 6) (ret := (some .int)) (by decide) rfl ?_
  intro p e s m args below meth c s₁ B hml hv
  obtain ⟨rfl, hsz, hP, hC, hD0⟩ := hv
  have hx := B.exec
  have hb := B.bytes
  have hr := B.returns
  have hts := atoms_spec (ws := (ws_ yX2_greatest cX2_greatest 6 (some .int))) B.pre
  have hts : ∀ w ∈ lw_all, w.before _ s = true := fun w h => hts w (List.mem_cons_of_mem _ h)
  have hown : s.vm.findClass RX2 = some m.cls := findClass_of_methodNamed B.named
  have hlocks := B.notSynchronized
  subst hsz
  have hD := hD0.self (sz := s.heap.size)
  have hA : ∀ q : Nat, s.heap.size ≤ q → va_A ws s.heap.size q := fun q h => Or.inr h
  have hS : va_S (va_A ws s.heap.size) s.heap s.heap [] := va_S.rf
  have hl := lv_entry ([.ref (ad 3), .int (nI x), .int (nI y), .int (nI g), .int (nI st)]) (n := 6) (Nat.le_of_ble_eq_true rfl)
  rw [lg_entry_eq]
  generalize (lg_sl ([.ref (ad 3), .int (nI x), .int (nI y), .int (nI g), .int (nI st)]) ++ List.replicate (6 - (lg_sl ([.ref (ad 3), .int (nI x), .int (nI y), .int (nI g), .int (nI st)])).length) Slot.unset).toArray = ls at hl ⊢
  have hl : lv_has ls 6 [(0, .ref (ad 3)), (1, .int (nI x)), (2, .int (nI y)), (3, .int (nI g)), (4, .int (nI st))] := hl
  have hp2 := p2_256 hn8
  have hful : (st ||| 2 ^ x) ||| 2 ^ y < 2 ^ n := or_lt (or_lt hst (p2_lt hxn)) (p2_lt hyn)
  have hfy : (ful st x y).testBit y = true := by rw [ful_t]; simp
  refine lv_aload_n hx hb dX2_greatest_0 rfl (lv_at hl 0 rfl) ?_
  refine lv_iload_n hx hb dX2_greatest_1 rfl (lv_at hl 3 rfl) ?_
  refine lv_iload hx hb dX2_greatest_2 (lv_at hl 4 rfl) ?_
  refine lv_iconst (v := nI 1) hx hb dX2_greatest_4 (by decide) ?_
  refine lv_iload_n hx hb dX2_greatest_5 rfl (lv_at hl 1 rfl) ?_
  refine lv_ishl hx hb dX2_greatest_6 (tp_ (z := nI (2 ^ x)) (bn_shl (by omega)) ?_)
  refine lv_ior hx hb dX2_greatest_7 (tp_ (z := nI (st ||| (2 ^ x))) (bn_or _ _) ?_)
  refine lv_iconst (v := nI 1) hx hb dX2_greatest_8 (by decide) ?_
  refine lv_iload_n hx hb dX2_greatest_9 rfl (lv_at hl 2 rfl) ?_
  refine lv_ishl hx hb dX2_greatest_10 (tp_ (z := nI (2 ^ y)) (bn_shl (by omega)) ?_)
  refine lv_ior hx hb dX2_greatest_11 (tp_ (z := nI ((st ||| (2 ^ x)) ||| (2 ^ y))) (bn_or _ _) ?_)
  refine muVv (As := [.int (nI g), .int (nI ((st ||| (2 ^ x)) ||| (2 ^ y)))]) (rest := []) ⟨hx, hb, hml, hown, hts⟩ (metX2_lay l D cI cL ws _ ad n w bf qu M hF hn8 hw g ((st ||| 2 ^ x) ||| 2 ^ y) (by omega) (by omega)) (cwV 2 hts (lw_V q102 q104 qs1 q8 q105) rfl rfl rfl (by decide +kernel) ⟨Nat.le_of_ble_eq_true rfl, Nat.le_of_ble_eq_true rfl⟩) hC hP hD hS hA (va_recv hC.1 hP (ci := 2) (q0 := 3) rfl hF.2.2.1) rfl rfl hl.1 (Nat.le_of_ble_eq_true rfl) dX2_greatest_12 ⟨Nat.le_of_ble_eq_true rfl, Nat.le_of_ble_eq_true rfl⟩ (fun u H locs hq hP hD hS => ?_)
  obtain ⟨M2, hF, hkf, hM⟩ := hq
  refine lv_iconst (v := nI 0) hx hb dX2_greatest_15 (by decide) ?_
  refine lv_istore (lv' := [(5, .int (nI 0)), (0, .ref (ad 3)), (1, .int (nI x)), (2, .int (nI y)), (3, .int (nI g)), (4, .int (nI st))]) hx hb dX2_greatest_16 hl (by decide) rfl (fun ls hl => ?_)
  have lp : ∀ (k : Nat) (r0 : Nat) (bf qu : Nat → Int32) (M : Nat → Nat → Int32) (L : Nat → Nat → Nat) (u : va_W) (H : Heap) (locs : List Loc) (ls : Array Slot), 8 - r0 < k → (r0 ≤ 8 ∧ FW cI cL ad n w u bf qu M ∧ Kf ws u ∧ MatR M L ∧ FlI (cap w n g (ful st x y)) L (2 * x + 1) (2 * y) r0) → va_P D vwCl u H → va_D (va_A ws s.heap.size) u → va_S (va_A ws s.heap.size) s.heap H locs → lv_has ls 6 [(0, .ref (ad 3)), (1, .int (nI x)), (2, .int (nI y)), (3, .int (nI g)), (4, .int (nI st)), (5, .int (nI r0))] → W p l e (headSpec (ws_ yX2_greatest cX2_greatest 6 (some .int)) ({ frames := 2, cells := 0, slots := 0, locals := 46 })).room s m ([.ref (ad 3), .int (nI x), .int (nI y), .int (nI g), .int (nI st)] : List Value).toArray below meth c H locs 0 0 (MQ below (va_Qi (fun (r : Int32) (u : va_W) => ∃ k, r = nI k ∧ GR w n g (ful st x y) x y k ∧ ∃ bf2 qu2 M2, FW cI cL ad n w u bf2 qu2 M2 ∧ Kf ws u) (MuB D ws s.heap.size) (va_A ws s.heap.size)) ([.ref (ad 3), .int (nI x), .int (nI y), .int (nI g), .int (nI st)] : List Value).toArray s 0 0 (va_A ws s.heap.size)) (F0 m 18 ls []) := by
    intro k
    induction k with
    | zero => intro r0 bf qu M L u H locs ls h; exact absurd h (Nat.not_lt_zero _)
    | succ k ihlp =>
      intro r0 bf qu M L u H locs ls hk hq hP hD hS hl
      obtain ⟨hr8, hF, hkf, hM, hFl⟩ := hq
      have hlow : ∀ X, OKg w n g (ful st x y) x y X → r0 ≤ pop X := fun X hX => flow_low hn8 hxn hfy hFl hX
      refine lv_iload hx hb dX2_greatest_18 (lv_at hl 5 rfl) ?_
      refine lv_bipush (v := nI 8) hx hb dX2_greatest_20 (by decide) ?_
      refine lv_icmp_ge (tgt := 46) hx hb dX2_greatest_22 (by decide) (fun c_1 => ?_) (fun c_1 => ?_)
      · have e1 : 8 ≤ r0 := nJ_le (by decide) (by omega) c_1
        refine lv_iload hx hb dX2_greatest_46 (lv_at hl 5 rfl) ?_
        exact W.iret (v := nI r0) hx hb hr (fun t ht hW => ⟨⟨nI r0, _, rfl, ⟨r0, rfl, ⟨hr8, hlow, Or.inl (by omega)⟩, bf, qu, M, hF, hkf⟩, by rw [ht]; exact hP, hD⟩, hS.F ht⟩) hS.2.2 dX2_greatest_48
      · have hr1 : r0 < 8 := nJ_nle (by decide) (by omega) c_1
        have hB : ∀ u v, u < 16 → v < 16 → L u v + L v u ≤ 16 := fun u v hu hv => by
          rw [hFl.1 u v hu hv]
          have h1 := cap_le w n g (ful st x y) u v
          have h2 := cap_le w n g (ful st x y) v u
          omega
        refine lv_aload_n hx hb dX2_greatest_25 rfl (lv_at hl 0 rfl) ?_
        refine lv_iconst (v := nI 2) hx hb dX2_greatest_26 (by decide) ?_
        refine lv_iload_n hx hb dX2_greatest_27 rfl (lv_at hl 1 rfl) ?_
        refine lv_imul hx hb dX2_greatest_28 (tp_ (z := nI (2 * x)) (pk_mul _ _) ?_)
        refine lv_iconst (v := nI 1) hx hb dX2_greatest_29 (by decide) ?_
        refine lv_iadd hx hb dX2_greatest_30 (tp_ (z := nI ((2 * x) + 1)) (nI_add _ _) ?_)
        refine lv_iconst (v := nI 2) hx hb dX2_greatest_31 (by decide) ?_
        refine lv_iload_n hx hb dX2_greatest_32 rfl (lv_at hl 2 rfl) ?_
        refine lv_imul hx hb dX2_greatest_33 (tp_ (z := nI (2 * y)) (pk_mul _ _) ?_)
        refine muVi (As := [.int (nI ((2 * x) + 1)), .int (nI (2 * y))]) (rest := []) ⟨hx, hb, hml, hown, hts⟩ (metX2_more l D cI cL _ _ ad n w bf qu M hF hn8 hw L hM hB (2 * x + 1) (2 * y) (by omega) (by omega)) (cwV 2 hts (lw_V q107 q109 qs2 q8 q110) rfl rfl rfl (by decide +kernel) ⟨Nat.le_of_ble_eq_true rfl, Nat.le_of_ble_eq_true rfl⟩) hC hP hD hS hA (va_recv hC.1 hP (ci := 2) (q0 := 3) rfl hF.2.2.1) rfl rfl hl.1 (Nat.le_of_ble_eq_true rfl) dX2_greatest_34 ⟨Nat.le_of_ble_eq_true rfl, Nat.le_of_ble_eq_true rfl⟩ (fun r1 u1 H locs hq hP hD hS => ?_)
        obtain ⟨bf2, qu2, M2, L2, hF2, hM2, hkf2, hres⟩ := hq
        rcases hres with ⟨e1, e2, vis, v1, v2, v3⟩ | ⟨e1, hA⟩
        · subst e1
          refine lv_if_eq (tgt := 46) hx hb dX2_greatest_37 (by decide) (fun c_2 => ?_) (fun c_2 => ?_)
          · have hSv : ∀ u v, u < 16 → v < 16 → vis u = true → vis v = false → L u v = 0 := fun u v hu hv h1 h2 => by
              rcases Nat.lt_or_ge v (2 * n) with z | z
              · exact v3 u v z h1 h2
              · have h3 := hFl.1 u v hu hv
                have h4 := cap_z (w := w) (g := g) (t := ful st x y) (u := u) z
                omega
            refine lv_iload hx hb dX2_greatest_46 (lv_at hl 5 rfl) ?_
            exact W.iret (v := nI r0) hx hb hr (fun t ht hW => ⟨⟨nI r0, _, rfl, ⟨r0, rfl, ⟨hr8, hlow, Or.inr (flow_high hn8 hw hxn hyn hxy hgx hFl hSv v1 v2 hr1)⟩, bf2, qu2, M2, hF2, hkf.trans hkf2⟩, by rw [ht]; exact hP, hD⟩, hS.F ht⟩) hS.2.2 dX2_greatest_48
          · exact absurd rfl c_2
        · subst e1
          refine lv_if_eq (tgt := 46) hx hb dX2_greatest_37 (by decide) (fun c_2 => ?_) (fun c_2 => ?_)
          · exact absurd c_2 (by decide)
          · refine lv_iinc (v := nI (r0 + 1)) (lv' := [(5, .int (nI (r0 + 1))), (0, .ref (ad 3)), (1, .int (nI x)), (2, .int (nI y)), (3, .int (nI g)), (4, .int (nI st))]) hx hb dX2_greatest_40 hl (k := 5) rfl (th_in1 _) (by decide) rfl (fun ls hl => ?_)
            refine lv_goto (tgt := 18) hx hb dX2_greatest_43 (by decide) ?_
            exact ihlp (r0 + 1) bf2 qu2 M2 L2 _ _ _ ls (by omega) ⟨hr1, hF2, hkf.trans hkf2, hM2, FlI_aug hFl hA⟩ hP hD hS (lv_sub hl [1, 2, 3, 4, 5, 0] rfl)
  exact lp 9 0 bf qu M2 _ _ _ _ ls (by omega) ⟨Nat.zero_le _, hF, hkf, hM, FlI_0 _ _ _⟩ hP hD hS (lv_sub hl [1, 2, 3, 4, 5, 0] rfl)
set_option maxHeartbeats 4000000 in
set_option maxRecDepth 100000 in
theorem metX0_cut (l : Launch) (D : va_G) (cI cL : ClassId) (ws : va_W) (sz : Nat) (ad : Nat → Nat) (n : Nat) (w : Nat → Nat) (bf qu : Nat → Int32) (M : Nat → Nat → Int32) (h0 : ws[0]? = some (ad 0, .inr (0, [.ref (ad 1), .ref (ad 3)]))) (hF : FW cI cL ad n w ws bf qu M) (hn0 : 0 < n) (hn8 : n ≤ 8) (hw : WF w n) (a0 b0 : Int32) : Met l yX0_cut (ws_ yX0_cut cX0_cut 5 (some .int)) ({ frames := 3, cells := 0, slots := 0, locals := 71 }) (MuP D cI cL ws sz [.ref (ad 0), .int a0, .int b0]) (va_Qi (fun (r : Int32) (u : va_W) => CutP w n (plc a0 n) (plc b0 n) r ∧ ∃ bf2 qu2 M2, FW cI cL ad n w u bf2 qu2 M2 ∧ Kf ws u) (MuB D ws sz) (va_A ws sz)) 0 0 (va_A ws sz) := by
  refine Met.ofW (cc := cX0_cut) (maxL := 5) (ret := (some .int)) (by decide) rfl ?_
  intro p e s m args below meth c s₁ B hml hv
  obtain ⟨rfl, hsz, hP, hC, hD0⟩ := hv
  have hx := B.exec
  have hb := B.bytes
  have hr := B.returns
  have hts := atoms_spec (ws := (ws_ yX0_cut cX0_cut 5 (some .int))) B.pre
  have hts : ∀ w ∈ lw_all, w.before _ s = true := fun w h => hts w (List.mem_cons_of_mem _ h)
  have hown : s.vm.findClass RX0 = some m.cls := findClass_of_methodNamed B.named
  have hlocks := B.notSynchronized
  subst hsz
  have hD := hD0.self (sz := s.heap.size)
  have hA : ∀ q : Nat, s.heap.size ≤ q → va_A ws s.heap.size q := fun q h => Or.inr h
  have hS : va_S (va_A ws s.heap.size) s.heap s.heap [] := va_S.rf
  have hl := lv_entry ([.ref (ad 0), .int a0, .int b0]) (n := 5) (Nat.le_of_ble_eq_true rfl)
  rw [lg_entry_eq]
  generalize (lg_sl ([.ref (ad 0), .int a0, .int b0]) ++ List.replicate (5 - (lg_sl ([.ref (ad 0), .int a0, .int b0])).length) Slot.unset).toArray = ls at hl ⊢
  have hl : lv_has ls 5 [(0, .ref (ad 0)), (1, .int a0), (2, .int b0)] := hl
  have hp2 := p2_256 hn8
  have hxn := plc_lt a0 hn0
  have hyn := plc_lt b0 hn0
  have hwx : w (plc a0 n) < 2 ^ 31 := by have := hw _ hxn; omega
  refine lv_aload_n hx hb dX0_cut_0 rfl (lv_at hl 0 rfl) ?_
  refine va_get (D := D) (ci := 0) (v := .ref (ad 1)) (C := RX0) (T := TX0) (N := 2) hx hb hts in_X0 hown hC.1 hP 0 h0 rfl 0 (by decide) (hts _ q61) (fun _ h9 => h9) rfl dX0_cut_1 ?_
  refine lv_iload_n hx hb dX0_cut_4 rfl (lv_at hl 1 rfl) ?_
  refine rdV (As := [.int a0]) (rest := []) ⟨hx, hb, hml, hown, hts⟩ (metX1_place l D cI cL ws ad n hF.1 hn0 (by omega) a0) (cwV 1 hts (lw_V q77 q78 q79 q7 q80) rfl rfl rfl (by decide +kernel) ⟨Nat.le_of_ble_eq_true rfl, Nat.le_of_ble_eq_true rfl⟩) hC hP (va_recv hC.1 hP (ci := 1) (q0 := 1) rfl hF.1) rfl rfl hl.1 (Nat.le_of_ble_eq_true rfl) dX0_cut_5 ⟨Nat.zero_le _, Nat.zero_le _⟩ (fun r1 hr1 => ?_)
  subst hr1
  refine lv_istore_n (lv' := [(3, .int (nI (plc a0 n))), (0, .ref (ad 0)), (1, .int a0), (2, .int b0)]) hx hb dX0_cut_8 rfl hl (by decide) rfl (fun ls hl => ?_)
  refine lv_aload_n hx hb dX0_cut_9 rfl (lv_at hl 1 rfl) ?_
  refine va_get (D := D) (ci := 0) (v := .ref (ad 1)) (C := RX0) (T := TX0) (N := 2) hx hb hts in_X0 hown hC.1 hP 0 h0 rfl 0 (by decide) (hts _ q61) (fun _ h9 => h9) rfl dX0_cut_10 ?_
  refine lv_iload_n hx hb dX0_cut_13 rfl (lv_at hl 3 rfl) ?_
  refine rdV (As := [.int b0]) (rest := []) ⟨hx, hb, hml, hown, hts⟩ (metX1_place l D cI cL ws ad n hF.1 hn0 (by omega) b0) (cwV 1 hts (lw_V q77 q78 q79 q7 q80) rfl rfl rfl (by decide +kernel) ⟨Nat.le_of_ble_eq_true rfl, Nat.le_of_ble_eq_true rfl⟩) hC hP (va_recv hC.1 hP (ci := 1) (q0 := 1) rfl hF.1) rfl rfl hl.1 (Nat.le_of_ble_eq_true rfl) dX0_cut_14 ⟨Nat.zero_le _, Nat.zero_le _⟩ (fun r1 hr1 => ?_)
  subst hr1
  refine lv_istore (lv' := [(4, .int (nI (plc b0 n))), (3, .int (nI (plc a0 n))), (0, .ref (ad 0)), (1, .int a0), (2, .int b0)]) hx hb dX0_cut_17 hl (by decide) rfl (fun ls hl => ?_)
  refine lv_aload_n hx hb dX0_cut_19 rfl (lv_at hl 2 rfl) ?_
  refine lv_iload_n hx hb dX0_cut_20 rfl (lv_at hl 1 rfl) ?_
  refine lv_iload hx hb dX0_cut_21 (lv_at hl 0 rfl) ?_
  refine rdV (As := [.int (nI (plc a0 n)), .int (nI (plc b0 n))]) (rest := []) ⟨hx, hb, hml, hown, hts⟩ (metX0_near l D cI cL ws ad n w h0 hF.1 hF.2.1 (plc a0 n) (plc b0 n) (by omega) (by omega) hwx) (cwV 2 hts (lw_V q90 q92 qs0 q6 q93) rfl rfl rfl (by decide +kernel) ⟨Nat.le_of_ble_eq_true rfl, Nat.le_of_ble_eq_true rfl⟩) hC hP (va_recv hC.1 hP (ci := 0) (q0 := 0) rfl h0) rfl rfl hl.1 (Nat.le_of_ble_eq_true rfl) dX0_cut_23 ⟨Nat.zero_le _, Nat.zero_le _⟩ (fun r2 hr2 => ?_)
  subst hr2
  refine lv_if_eq (tgt := 33) hx hb dX0_cut_26 (by decide) (fun c_1 => ?_) (fun c_1 => ?_)
  · have hfar := b01_0.mp c_1
    rw [Bool.or_eq_false_iff] at hfar
    obtain ⟨hne, hrd⟩ := hfar
    have hne : plc a0 n ≠ plc b0 n := of_decide_eq_false hne
    refine lv_aload_n hx hb dX0_cut_33 rfl (lv_at hl 2 rfl) ?_
    refine va_get (D := D) (ci := 0) (v := .ref (ad 3)) (C := RX0) (T := TX0) (N := 2) hx hb hts in_X0 hown hC.1 hP 0 h0 rfl 1 (by decide) (hts _ q62) (fun _ h9 => h9) rfl dX0_cut_34 ?_
    refine lv_iload_n hx hb dX0_cut_37 rfl (lv_at hl 1 rfl) ?_
    refine lv_iload hx hb dX0_cut_38 (lv_at hl 0 rfl) ?_
    refine lv_iconst (v := nI 0) hx hb dX0_cut_40 (by decide) ?_
    refine lv_iconst (v := nI 0) hx hb dX0_cut_41 (by decide) ?_
    refine muVi (As := [.int (nI (plc a0 n)), .int (nI (plc b0 n)), .int (nI 0), .int (nI 0)]) (rest := []) ⟨hx, hb, hml, hown, hts⟩ (metX2_greatest l D cI cL ws _ ad n w bf qu M hF hn8 hw (plc a0 n) (plc b0 n) (0) (0) hxn hyn hne (by simp) (Nat.two_pow_pos n) (Nat.two_pow_pos n)) (cwV 4 hts (lw_V q98 q99 q100 q8 q101) rfl rfl rfl (by decide +kernel) ⟨Nat.le_of_ble_eq_true rfl, Nat.le_of_ble_eq_true rfl⟩) hC hP hD hS hA (va_recv hC.1 hP (ci := 2) (q0 := 3) rfl hF.2.2.1) rfl rfl hl.1 (Nat.le_of_ble_eq_true rfl) dX0_cut_42 ⟨Nat.le_of_ble_eq_true rfl, Nat.le_of_ble_eq_true rfl⟩ (fun r3 u H locs hq hP hD hS => ?_)
    obtain ⟨k1, e1, hG, bf2, qu2, M2, hF2, hkf⟩ := hq
    exact W.iret (v := r3) hx hb hr (fun t ht hW => ⟨⟨r3, _, rfl, ⟨Or.inr ⟨⟨hne, hrd⟩, k1, e1, GR_best hn8 hw hxn hne hrd hG⟩, bf2, qu2, M2, hF2, hkf⟩, by rw [ht]; exact hP, hD⟩, hS.F ht⟩) hS.2.2 dX0_cut_45
  · have hnear := b01_t c_1
    rw [Bool.or_eq_true] at hnear
    have hnear : plc a0 n = plc b0 n ∨ (w (plc a0 n)).testBit (plc b0 n) = true := hnear.imp of_decide_eq_true id
    refine lv_iconst (v := -1) hx hb dX0_cut_29 (by decide) ?_
    refine lv_goto (tgt := 45) hx hb dX0_cut_30 (by decide) ?_
    exact W.iret (v := -1) hx hb hr (fun t ht hW => ⟨⟨-1, _, rfl, ⟨Or.inl ⟨hnear, rfl⟩, bf, qu, M, hF, Kf.rf ws⟩, by rw [ht]; exact hP, hD⟩, hS.F ht⟩) hS.2.2 dX0_cut_45
set_option maxHeartbeats 4000000 in
set_option maxRecDepth 100000 in
theorem metX0_first (l : Launch) (D : va_G) (cI cL : ClassId) (ws : va_W) (sz : Nat) (ad : Nat → Nat) (n : Nat) (w : Nat → Nat) (bf qu : Nat → Int32) (M : Nat → Nat → Int32) (h0 : ws[0]? = some (ad 0, .inr (0, [.ref (ad 1), .ref (ad 3)]))) (hF : FW cI cL ad n w ws bf qu M) (hn0 : 0 < n) (hn8 : n ≤ 8) (hw : WF w n) (a0 b0 : Int32) : Met l yX0_first (ws_ yX0_first cX0_first 9 (some .int)) ({ frames := 3, cells := 0, slots := 0, locals := 71 }) (MuP D cI cL ws sz [.ref (ad 0), .int a0, .int b0]) (va_Qi (fun (r : Int32) (u : va_W) => FstP w n (plc a0 n) (plc b0 n) r ∧ ∃ bf2 qu2 M2, FW cI cL ad n w u bf2 qu2 M2 ∧ Kf ws u) (MuB D ws sz) (va_A ws sz)) 0 0 (va_A ws sz) := by
  refine Met.ofW (cc := cX0_first) (maxL := 9) (ret := (some .int)) (by decide) rfl ?_
  intro p e s m args below meth c s₁ B hml hv
  obtain ⟨rfl, hsz, hP, hC, hD0⟩ := hv
  have hx := B.exec
  have hb := B.bytes
  have hr := B.returns
  have hts := atoms_spec (ws := (ws_ yX0_first cX0_first 9 (some .int))) B.pre
  have hts : ∀ w ∈ lw_all, w.before _ s = true := fun w h => hts w (List.mem_cons_of_mem _ h)
  have hown : s.vm.findClass RX0 = some m.cls := findClass_of_methodNamed B.named
  have hlocks := B.notSynchronized
  subst hsz
  have hD := hD0.self (sz := s.heap.size)
  have hA : ∀ q : Nat, s.heap.size ≤ q → va_A ws s.heap.size q := fun q h => Or.inr h
  have hS : va_S (va_A ws s.heap.size) s.heap s.heap [] := va_S.rf
  have hl := lv_entry ([.ref (ad 0), .int a0, .int b0]) (n := 9) (Nat.le_of_ble_eq_true rfl)
  rw [lg_entry_eq]
  generalize (lg_sl ([.ref (ad 0), .int a0, .int b0]) ++ List.replicate (9 - (lg_sl ([.ref (ad 0), .int a0, .int b0])).length) Slot.unset).toArray = ls at hl ⊢
  have hl : lv_has ls 9 [(0, .ref (ad 0)), (1, .int a0), (2, .int b0)] := hl
  have hp2 := p2_256 hn8
  have hxn := plc_lt a0 hn0
  have hyn := plc_lt b0 hn0
  have hwx : w (plc a0 n) < 2 ^ 31 := by have := hw _ hxn; omega
  refine lv_aload_n hx hb dX0_first_0 rfl (lv_at hl 0 rfl) ?_
  refine va_get (D := D) (ci := 0) (v := .ref (ad 1)) (C := RX0) (T := TX0) (N := 2) hx hb hts in_X0 hown hC.1 hP 0 h0 rfl 0 (by decide) (hts _ q61) (fun _ h9 => h9) rfl dX0_first_1 ?_
  refine lv_iload_n hx hb dX0_first_4 rfl (lv_at hl 1 rfl) ?_
  refine rdV (As := [.int a0]) (rest := []) ⟨hx, hb, hml, hown, hts⟩ (metX1_place l D cI cL ws ad n hF.1 hn0 (by omega) a0) (cwV 1 hts (lw_V q77 q78 q79 q7 q80) rfl rfl rfl (by decide +kernel) ⟨Nat.le_of_ble_eq_true rfl, Nat.le_of_ble_eq_true rfl⟩) hC hP (va_recv hC.1 hP (ci := 1) (q0 := 1) rfl hF.1) rfl rfl hl.1 (Nat.le_of_ble_eq_true rfl) dX0_first_5 ⟨Nat.zero_le _, Nat.zero_le _⟩ (fun r1 hr1 => ?_)
  subst hr1
  refine lv_istore_n (lv' := [(3, .int (nI (plc a0 n))), (0, .ref (ad 0)), (1, .int a0), (2, .int b0)]) hx hb dX0_first_8 rfl hl (by decide) rfl (fun ls hl => ?_)
  refine lv_aload_n hx hb dX0_first_9 rfl (lv_at hl 1 rfl) ?_
  refine va_get (D := D) (ci := 0) (v := .ref (ad 1)) (C := RX0) (T := TX0) (N := 2) hx hb hts in_X0 hown hC.1 hP 0 h0 rfl 0 (by decide) (hts _ q61) (fun _ h9 => h9) rfl dX0_first_10 ?_
  refine lv_iload_n hx hb dX0_first_13 rfl (lv_at hl 3 rfl) ?_
  refine rdV (As := [.int b0]) (rest := []) ⟨hx, hb, hml, hown, hts⟩ (metX1_place l D cI cL ws ad n hF.1 hn0 (by omega) b0) (cwV 1 hts (lw_V q77 q78 q79 q7 q80) rfl rfl rfl (by decide +kernel) ⟨Nat.le_of_ble_eq_true rfl, Nat.le_of_ble_eq_true rfl⟩) hC hP (va_recv hC.1 hP (ci := 1) (q0 := 1) rfl hF.1) rfl rfl hl.1 (Nat.le_of_ble_eq_true rfl) dX0_first_14 ⟨Nat.zero_le _, Nat.zero_le _⟩ (fun r1 hr1 => ?_)
  subst hr1
  refine lv_istore (lv' := [(4, .int (nI (plc b0 n))), (3, .int (nI (plc a0 n))), (0, .ref (ad 0)), (1, .int a0), (2, .int b0)]) hx hb dX0_first_17 hl (by decide) rfl (fun ls hl => ?_)
  refine lv_aload_n hx hb dX0_first_19 rfl (lv_at hl 2 rfl) ?_
  refine lv_iload_n hx hb dX0_first_20 rfl (lv_at hl 1 rfl) ?_
  refine lv_iload hx hb dX0_first_21 (lv_at hl 0 rfl) ?_
  refine rdV (As := [.int (nI (plc a0 n)), .int (nI (plc b0 n))]) (rest := []) ⟨hx, hb, hml, hown, hts⟩ (metX0_near l D cI cL ws ad n w h0 hF.1 hF.2.1 (plc a0 n) (plc b0 n) (by omega) (by omega) hwx) (cwV 2 hts (lw_V q90 q92 qs0 q6 q93) rfl rfl rfl (by decide +kernel) ⟨Nat.le_of_ble_eq_true rfl, Nat.le_of_ble_eq_true rfl⟩) hC hP (va_recv hC.1 hP (ci := 0) (q0 := 0) rfl h0) rfl rfl hl.1 (Nat.le_of_ble_eq_true rfl) dX0_first_23 ⟨Nat.zero_le _, Nat.zero_le _⟩ (fun r2 hr2 => ?_)
  subst hr2
  refine lv_if_eq (tgt := 31) hx hb dX0_first_26 (by decide) (fun c_1 => ?_) (fun c_1 => ?_)
  · have hfar := b01_0.mp c_1
    rw [Bool.or_eq_false_iff] at hfar
    obtain ⟨hne, hrd⟩ := hfar
    have hne : plc a0 n ≠ plc b0 n := of_decide_eq_false hne
    refine lv_aload_n hx hb dX0_first_31 rfl (lv_at hl 2 rfl) ?_
    refine va_get (D := D) (ci := 0) (v := .ref (ad 3)) (C := RX0) (T := TX0) (N := 2) hx hb hts in_X0 hown hC.1 hP 0 h0 rfl 1 (by decide) (hts _ q62) (fun _ h9 => h9) rfl dX0_first_32 ?_
    refine lv_iload_n hx hb dX0_first_35 rfl (lv_at hl 1 rfl) ?_
    refine lv_iload hx hb dX0_first_36 (lv_at hl 0 rfl) ?_
    refine lv_iconst (v := nI 0) hx hb dX0_first_38 (by decide) ?_
    refine lv_iconst (v := nI 0) hx hb dX0_first_39 (by decide) ?_
    refine muVi (As := [.int (nI (plc a0 n)), .int (nI (plc b0 n)), .int (nI 0), .int (nI 0)]) (rest := []) ⟨hx, hb, hml, hown, hts⟩ (metX2_greatest l D cI cL ws _ ad n w bf qu M hF hn8 hw (plc a0 n) (plc b0 n) (0) (0) hxn hyn hne (by simp) (Nat.two_pow_pos n) (Nat.two_pow_pos n)) (cwV 4 hts (lw_V q98 q99 q100 q8 q101) rfl rfl rfl (by decide +kernel) ⟨Nat.le_of_ble_eq_true rfl, Nat.le_of_ble_eq_true rfl⟩) hC hP hD hS hA (va_recv hC.1 hP (ci := 2) (q0 := 3) rfl hF.2.2.1) rfl rfl hl.1 (Nat.le_of_ble_eq_true rfl) dX0_first_40 ⟨Nat.le_of_ble_eq_true rfl, Nat.le_of_ble_eq_true rfl⟩ (fun r3 u H locs hq hP hD hS => ?_)
    obtain ⟨bst, e1, hG, bf2, qu2, M2, hF, hkf⟩ := hq
    subst e1
    have hBst := GR_best hn8 hw hxn hne hrd hG
    have hb7 := Best_7 hn8 hxn hBst
    have h0 : u[0]? = some (ad 0, .inr (0, [.ref (ad 1), .ref (ad 3)])) := (hkf 0 (by omega)).trans h0
    refine lv_istore (lv' := [(5, .int (nI bst)), (4, .int (nI (plc b0 n))), (3, .int (nI (plc a0 n))), (0, .ref (ad 0)), (1, .int a0), (2, .int b0)]) hx hb dX0_first_43 hl (by decide) rfl (fun ls hl => ?_)
    refine lv_iconst (v := nI 0) hx hb dX0_first_45 (by decide) ?_
    refine lv_istore (lv' := [(6, .int (nI 0)), (5, .int (nI bst)), (4, .int (nI (plc b0 n))), (3, .int (nI (plc a0 n))), (0, .ref (ad 0)), (1, .int a0), (2, .int b0)]) hx hb dX0_first_46 hl (by decide) rfl (fun ls hl => ?_)
    refine lv_iconst (v := nI 0) hx hb dX0_first_48 (by decide) ?_
    refine lv_istore (lv' := [(7, .int (nI 0)), (6, .int (nI 0)), (5, .int (nI bst)), (4, .int (nI (plc b0 n))), (3, .int (nI (plc a0 n))), (0, .ref (ad 0)), (1, .int a0), (2, .int b0)]) hx hb dX0_first_49 hl (by decide) rfl (fun ls hl => ?_)
    refine lv_aload_n hx hb dX0_first_51 rfl (lv_at hl 5 rfl) ?_
    refine va_get (D := D) (ci := 0) (v := .ref (ad 1)) (C := RX0) (T := TX0) (N := 2) hx hb hts in_X0 hown hC.1 hP 0 h0 rfl 0 (by decide) (hts _ q61) (fun _ h9 => h9) rfl dX0_first_52 ?_
    refine va_getN (D := D) (ci := 1) (v := .int (nI n)) (C := RX1) (T := TX1) (N := 2) hx hb hts in_X1 hown hC.1 hP 1 hF.1 rfl 1 (by decide) (va_Nw.use rfl hC.2.1.2.1) (fun _ h9 => h9) rfl dX0_first_55 ?_
    refine lv_iconst (v := nI 1) hx hb dX0_first_58 (by decide) ?_
    refine lv_isub hx hb dX0_first_59 (tp_ (z := nI n + (-1)) (sub_m1 n) ?_)
    refine lv_istore (lv' := [(8, .int (nI n + (-1))), (7, .int (nI 0)), (6, .int (nI 0)), (5, .int (nI bst)), (4, .int (nI (plc b0 n))), (3, .int (nI (plc a0 n))), (0, .ref (ad 0)), (1, .int a0), (2, .int b0)]) hx hb dX0_first_60 hl (by decide) rfl (fun ls hl => ?_)
    have lp : ∀ (k : Nat) (K gg tt nn : Nat) (bf qu : Nat → Int32) (M : Nat → Nat → Int32) (u : va_W) (H : Heap) (locs : List Loc) (ls : Array Slot), K < k → (K ≤ n ∧ FI2 w n (plc a0 n) (plc b0 n) bst K gg tt nn ∧ FW cI cL ad n w u bf qu M ∧ Kf ws u ∧ u[0]? = some (ad 0, .inr (0, [.ref (ad 1), .ref (ad 3)]))) → va_P D vwCl u H → va_D (va_A ws s.heap.size) u → va_S (va_A ws s.heap.size) s.heap H locs → lv_has ls 9 [(0, .ref (ad 0)), (1, .int a0), (2, .int b0), (3, .int (nI (plc a0 n))), (4, .int (nI (plc b0 n))), (5, .int (nI nn)), (6, .int (nI tt)), (7, .int (nI gg)), (8, .int (nI K + (-1)))] → W p l e (headSpec (ws_ yX0_first cX0_first 9 (some .int)) ({ frames := 3, cells := 0, slots := 0, locals := 71 })).room s m ([.ref (ad 0), .int a0, .int b0] : List Value).toArray below meth c H locs 0 0 (MQ below (va_Qi (fun (r : Int32) (u : va_W) => FstP w n (plc a0 n) (plc b0 n) r ∧ ∃ bf2 qu2 M2, FW cI cL ad n w u bf2 qu2 M2 ∧ Kf ws u) (MuB D ws s.heap.size) (va_A ws s.heap.size)) ([.ref (ad 0), .int a0, .int b0] : List Value).toArray s 0 0 (va_A ws s.heap.size)) (F0 m 62 ls []) := by
      intro k
      induction k with
      | zero => intro K gg tt nn bf qu M u H locs ls h; exact absurd h (Nat.not_lt_zero _)
      | succ k ihlp =>
        intro K gg tt nn bf qu M u H locs ls hk hq hP hD hS hl
        obtain ⟨hKn, hI, hF, hkf, h0⟩ := hq
        have hnn : nn ≤ 7 := by have := hI.2.2.2.1; omega
        have hg : gg < 2 ^ n := lt_of_bits (fun j q => (hI.1 j q).2.1)
        have htt : tt < 2 ^ n := lt_of_bits (fun j q => (hI.2.1 j q).2.1)
        have hgx : gg.testBit (plc a0 n) = false := by
          cases z : gg.testBit (plc a0 n) with
          | false => rfl
          | true => exact absurd rfl (hI.1 _ z).2.2.1
        obtain e1 | ⟨K1, e1⟩ : K = 0 ∨ ∃ K1, K = K1 + 1 := by
          cases K with
          | zero => exact Or.inl rfl
          | succ K1 => exact Or.inr ⟨K1, rfl⟩
        · subst e1
          rw [show nI 0 + (-1) = (-1 : Int32) from by decide] at hl
          refine lv_iload hx hb dX0_first_62 (lv_at hl 8 rfl) ?_
          refine lv_if_lt (tgt := 142) hx hb dX0_first_64 (by decide) (fun c_2 => ?_) (fun c_2 => ?_)
          · refine lv_iload hx hb dX0_first_142 (lv_at hl 7 rfl) ?_
            exact W.iret (v := nI gg) hx hb hr (fun t ht hW => ⟨⟨nI gg, _, rfl, ⟨Or.inr ⟨⟨hne, hrd⟩, gg, rfl, FI2_end hn8 hBst hI (Or.inl rfl)⟩, bf, qu, M, hF, hkf⟩, by rw [ht]; exact hP, hD⟩, hS.F ht⟩) hS.2.2 dX0_first_144
          · exact absurd (by decide) c_2
        · subst e1
          rw [pk_m1] at hl
          refine lv_iload hx hb dX0_first_62 (lv_at hl 8 rfl) ?_
          refine lv_if_lt (tgt := 142) hx hb dX0_first_64 (by decide) (fun c_2 => ?_) (fun c_2 => ?_)
          · exact absurd c_2 (nI_pos (by omega))
          · refine lv_iload hx hb dX0_first_67 (lv_at hl 5 rfl) ?_
            refine lv_if_le (tgt := 142) hx hb dX0_first_69 (by decide) (fun c_3 => ?_) (fun c_3 => ?_)
            · have e0 : nn = 0 := Nat.le_zero.mp (nJ_le (b := 0) (by omega) (by decide) c_3)
              refine lv_iload hx hb dX0_first_142 (lv_at hl 7 rfl) ?_
              exact W.iret (v := nI gg) hx hb hr (fun t ht hW => ⟨⟨nI gg, _, rfl, ⟨Or.inr ⟨⟨hne, hrd⟩, gg, rfl, FI2_end hn8 hBst hI (Or.inr e0)⟩, bf, qu, M, hF, hkf⟩, by rw [ht]; exact hP, hD⟩, hS.F ht⟩) hS.2.2 dX0_first_144
            · have hn1 : 0 < nn := by
                rcases Nat.eq_zero_or_pos nn with z | z
                · exact absurd (by rw [z]; decide) c_3
                · exact z
              refine lv_iload hx hb dX0_first_72 (lv_at hl 8 rfl) ?_
              refine lv_iload_n hx hb dX0_first_74 rfl (lv_at hl 3 rfl) ?_
              refine lv_icmp_eq (tgt := 136) hx hb dX0_first_75 (by decide) (fun c_4 => ?_) (fun c_4 => ?_)
              · refine lv_iinc (v := nI K1 + (-1)) (lv' := [(8, .int (nI K1 + (-1))), (0, .ref (ad 0)), (1, .int a0), (2, .int b0), (3, .int (nI (plc a0 n))), (4, .int (nI (plc b0 n))), (5, .int (nI nn)), (6, .int (nI tt)), (7, .int (nI gg))]) hx hb dX0_first_136 hl (k := 8) rfl (rfl) (by decide) rfl (fun ls hl => ?_)
                refine lv_goto (tgt := 62) hx hb dX0_first_139 (by decide) ?_
                exact ihlp K1 gg tt nn bf qu M _ _ _ ls (by omega) ⟨by omega, FI2_skip hI (Or.inl (nI_i (by omega) (by omega) c_4)), hF, hkf, h0⟩ hP hD hS (lv_sub hl [1, 2, 3, 4, 5, 6, 7, 8, 0] rfl)
              · have hkx := nI_ni c_4
                refine lv_iload hx hb dX0_first_78 (lv_at hl 8 rfl) ?_
                refine lv_iload hx hb dX0_first_80 (lv_at hl 4 rfl) ?_
                refine lv_icmp_ne (tgt := 88) hx hb dX0_first_82 (by decide) (fun c_5 => ?_) (fun c_5 => ?_)
                · have hky := nI_ni c_5
                  refine lv_aload_n hx hb dX0_first_88 rfl (lv_at hl 0 rfl) ?_
                  refine va_get (D := D) (ci := 0) (v := .ref (ad 3)) (C := RX0) (T := TX0) (N := 2) hx hb hts in_X0 hown hC.1 hP 0 h0 rfl 1 (by decide) (hts _ q62) (fun _ h9 => h9) rfl dX0_first_89 ?_
                  refine lv_iload_n hx hb dX0_first_92 rfl (lv_at hl 3 rfl) ?_
                  refine lv_iload hx hb dX0_first_93 (lv_at hl 4 rfl) ?_
                  refine lv_iload hx hb dX0_first_95 (lv_at hl 7 rfl) ?_
                  refine lv_iload hx hb dX0_first_97 (lv_at hl 6 rfl) ?_
                  refine lv_iconst (v := nI 1) hx hb dX0_first_99 (by decide) ?_
                  refine lv_iload hx hb dX0_first_100 (lv_at hl 8 rfl) ?_
                  refine lv_ishl hx hb dX0_first_102 (tp_ (z := nI (2 ^ K1)) (bn_shl (by omega)) ?_)
                  refine lv_ior hx hb dX0_first_103 (tp_ (z := nI (tt ||| (2 ^ K1))) (bn_or _ _) ?_)
                  refine muVi (As := [.int (nI (plc a0 n)), .int (nI (plc b0 n)), .int (nI gg), .int (nI (tt ||| (2 ^ K1)))]) (rest := []) ⟨hx, hb, hml, hown, hts⟩ (metX2_greatest l D cI cL u _ ad n w bf qu M hF hn8 hw (plc a0 n) (plc b0 n) (gg) (tt ||| 2 ^ K1) hxn hyn hne hgx hg (or_lt htt (p2_lt (by omega)))) (cwV 4 hts (lw_V q98 q99 q100 q8 q101) rfl rfl rfl (by decide +kernel) ⟨Nat.le_of_ble_eq_true rfl, Nat.le_of_ble_eq_true rfl⟩) hC hP hD hS hA (va_recv hC.1 hP (ci := 2) (q0 := 3) rfl hF.2.2.1) rfl rfl hl.1 (Nat.le_of_ble_eq_true rfl) dX0_first_104 ⟨Nat.le_of_ble_eq_true rfl, Nat.le_of_ble_eq_true rfl⟩ (fun r3 u1 H locs hq hP hD hS => ?_)
                  obtain ⟨k1, e1, hG, bf2, qu2, M2, hF2, hkf2⟩ := hq
                  subst e1
                  have hk8 := hG.1
                  have h02 : u1[0]? = some (ad 0, .inr (0, [.ref (ad 1), .ref (ad 3)])) := (hkf2 0 (by omega)).trans h0
                  refine lv_iload hx hb dX0_first_107 (lv_at hl 5 rfl) ?_
                  refine lv_icmp_ne (tgt := 124) hx hb dX0_first_109 (by decide) (fun c_6 => ?_) (fun c_6 => ?_)
                  · refine lv_iload hx hb dX0_first_124 (lv_at hl 7 rfl) ?_
                    refine lv_iconst (v := nI 1) hx hb dX0_first_126 (by decide) ?_
                    refine lv_iload hx hb dX0_first_127 (lv_at hl 8 rfl) ?_
                    refine lv_ishl hx hb dX0_first_129 (tp_ (z := nI (2 ^ K1)) (bn_shl (by omega)) ?_)
                    refine lv_ior hx hb dX0_first_130 (tp_ (z := nI (gg ||| (2 ^ K1))) (bn_or _ _) ?_)
                    refine lv_istore (lv' := [(7, .int (nI (gg ||| (2 ^ K1)))), (0, .ref (ad 0)), (1, .int a0), (2, .int b0), (3, .int (nI (plc a0 n))), (4, .int (nI (plc b0 n))), (5, .int (nI nn)), (6, .int (nI tt)), (8, .int (nI K1))]) hx hb dX0_first_131 hl (by decide) rfl (fun ls hl => ?_)
                    refine lv_iinc (v := nI (nn - 1)) (lv' := [(5, .int (nI (nn - 1))), (7, .int (nI (gg ||| (2 ^ K1)))), (0, .ref (ad 0)), (1, .int a0), (2, .int b0), (3, .int (nI (plc a0 n))), (4, .int (nI (plc b0 n))), (6, .int (nI tt)), (8, .int (nI K1))]) hx hb dX0_first_133 hl (k := 6) rfl (sb_m1 hn1) (by decide) rfl (fun ls hl => ?_)
                    refine lv_iinc (v := nI K1 + (-1)) (lv' := [(8, .int (nI K1 + (-1))), (5, .int (nI (nn - 1))), (7, .int (nI (gg ||| (2 ^ K1)))), (0, .ref (ad 0)), (1, .int a0), (2, .int b0), (3, .int (nI (plc a0 n))), (4, .int (nI (plc b0 n))), (6, .int (nI tt))]) hx hb dX0_first_136 hl (k := 8) rfl (rfl) (by decide) rfl (fun ls hl => ?_)
                    refine lv_goto (tgt := 62) hx hb dX0_first_139 (by decide) ?_
                    exact ihlp K1 _ tt (nn - 1) bf2 qu2 M2 _ _ _ ls (by omega) ⟨by omega, FI2_gone hn8 hI (by omega) hkx hky hnn hn1 hG (nI_ni c_6), hF2, hkf.trans hkf2, h02⟩ hP hD hS (lv_sub hl [3, 4, 5, 6, 7, 1, 8, 2, 0] rfl)
                  · have ek := nI_i (by omega) (by omega) c_6
                    rw [ek] at hG
                    refine lv_iload hx hb dX0_first_112 (lv_at hl 6 rfl) ?_
                    refine lv_iconst (v := nI 1) hx hb dX0_first_114 (by decide) ?_
                    refine lv_iload hx hb dX0_first_115 (lv_at hl 8 rfl) ?_
                    refine lv_ishl hx hb dX0_first_117 (tp_ (z := nI (2 ^ K1)) (bn_shl (by omega)) ?_)
                    refine lv_ior hx hb dX0_first_118 (tp_ (z := nI (tt ||| (2 ^ K1))) (bn_or _ _) ?_)
                    refine lv_istore (lv' := [(6, .int (nI (tt ||| (2 ^ K1)))), (0, .ref (ad 0)), (1, .int a0), (2, .int b0), (3, .int (nI (plc a0 n))), (4, .int (nI (plc b0 n))), (5, .int (nI nn)), (7, .int (nI gg)), (8, .int (nI K1))]) hx hb dX0_first_119 hl (by decide) rfl (fun ls hl => ?_)
                    refine lv_goto (tgt := 136) hx hb dX0_first_121 (by decide) ?_
                    refine lv_iinc (v := nI K1 + (-1)) (lv' := [(8, .int (nI K1 + (-1))), (6, .int (nI (tt ||| (2 ^ K1)))), (0, .ref (ad 0)), (1, .int a0), (2, .int b0), (3, .int (nI (plc a0 n))), (4, .int (nI (plc b0 n))), (5, .int (nI nn)), (7, .int (nI gg))]) hx hb dX0_first_136 hl (k := 8) rfl (rfl) (by decide) rfl (fun ls hl => ?_)
                    refine lv_goto (tgt := 62) hx hb dX0_first_139 (by decide) ?_
                    exact ihlp K1 gg _ nn bf2 qu2 M2 _ _ _ ls (by omega) ⟨by omega, FI2_stay hI (by omega) hnn hG, hF2, hkf.trans hkf2, h02⟩ hP hD hS (lv_sub hl [2, 3, 4, 5, 6, 7, 1, 8, 0] rfl)
                · refine lv_goto (tgt := 136) hx hb dX0_first_85 (by decide) ?_
                  refine lv_iinc (v := nI K1 + (-1)) (lv' := [(8, .int (nI K1 + (-1))), (0, .ref (ad 0)), (1, .int a0), (2, .int b0), (3, .int (nI (plc a0 n))), (4, .int (nI (plc b0 n))), (5, .int (nI nn)), (6, .int (nI tt)), (7, .int (nI gg))]) hx hb dX0_first_136 hl (k := 8) rfl (rfl) (by decide) rfl (fun ls hl => ?_)
                  refine lv_goto (tgt := 62) hx hb dX0_first_139 (by decide) ?_
                  exact ihlp K1 gg tt nn bf qu M _ _ _ ls (by omega) ⟨by omega, FI2_skip hI (Or.inr (nI_i (by omega) (by omega) c_5)), hF, hkf, h0⟩ hP hD hS (lv_sub hl [1, 2, 3, 4, 5, 6, 7, 8, 0] rfl)
    exact lp (n + 1) n 0 0 bst bf2 qu2 M2 _ _ _ ls (by omega) ⟨Nat.le_refl _, FI2_0 hBst, hF, hkf, h0⟩ hP hD hS (lv_sub hl [6, 7, 8, 5, 4, 3, 2, 1, 0] rfl)
  · have hnear := b01_t c_1
    rw [Bool.or_eq_true] at hnear
    have hnear : plc a0 n = plc b0 n ∨ (w (plc a0 n)).testBit (plc b0 n) = true := hnear.imp of_decide_eq_true id
    refine lv_iconst (v := -1) hx hb dX0_first_29 (by decide) ?_
    exact W.iret (v := -1) hx hb hr (fun t ht hW => ⟨⟨-1, _, rfl, ⟨Or.inl ⟨hnear, rfl⟩, bf, qu, M, hF, Kf.rf ws⟩, by rw [ht]; exact hP, hD⟩, hS.F ht⟩) hS.2.2 dX0_first_30
end
section
set_option maxRecDepth 100000
theorem app_l {ws z : va_W} {i : Nat} {x : Nat × va_E} (h : ws[i]? = some x) : (ws ++ z)[i]? = some x := by
  rw [List.getElem?_append_left (List.getElem?_eq_some_iff.mp h).1]; exact h
theorem app_r {ws z : va_W} {i k : Nat} {x : Nat × va_E} (hl : ws.length = k) (h : z[i]? = some x) : (ws ++ z)[k + i]? = some x := by
  rw [List.getElem?_append_right (by omega), show k + i - ws.length = i from by omega]; exact h
theorem gdW_0 (cL cI : ClassId) (q : Nat) : (gdW cL cI q)[0]? = some (q, .inl (cL, 16, .inr (.inr (.inr (.inr (fun j => some (q + 1 + j))))))) := rfl
theorem gdW_s (cL cI : ClassId) (q : Nat) {i : Nat} (hi : i < 16) : (gdW cL cI q)[1 + i]? = some (q + 1 + i, .inl (cI, 16, .inl (fun _ => 0))) := by
  rw [Nat.add_comm 1 i]
  unfold gdW
  simp [hi]
theorem gdW_len (cL cI : ClassId) (q : Nat) : (gdW cL cI q).length = 17 := by simp [gdW]
theorem out_swap {D : va_G} {cL : ClassId} {u : va_W} {H : Heap} {A : Nat → Prop} {q : Nat} {f f' : Nat → Option Nat} (hP : va_P D vwCl u H) (hD : va_D A u) (h4 : u[4]? = some (q, .inl (cL, 16, .inr (.inr (.inr (.inr f)))))) (he : ∀ j, j < 16 → f j = f' j) : va_P D vwCl (u.set 4 (q, .inl (cL, 16, .inr (.inr (.inr (.inr f')))))) H ∧ va_D A (u.set 4 (q, .inl (cL, 16, .inr (.inr (.inr (.inr f')))))) := by
  refine ⟨fun k x hx => ?_, hD.set h4⟩
  by_cases e : k = 4
  · subst e
    rw [set_eq h4] at hx
    cases hx
    have h := hP 4 _ h4
    have ec : vp_cell cL (16, .inr (.inr (.inr (.inr f')))) = vp_cell cL (16, .inr (.inr (.inr (.inr f)))) := by
      rw [vp_cell_q, vp_cell_q]
      unfold arrV
      congr 2
      funext j
      dsimp only
      rw [he j.1 j.2]
    show H[q]? = some (vp_cell _ _)
    rw [ec]
    exact h
  · rw [List.getElem?_set_ne (fun z => e z.symm)] at hx
    exact hP k x hx
theorem zk_c : (fun j => nI (zk 8 (fun _ => 0) j)) = fun (_ : Nat) => (0 : Int32) := by
  funext j
  unfold zk
  split <;> rfl
set_option maxHeartbeats 4000000 in
set_option maxRecDepth 100000 in
theorem metX1_init (l : Launch) (D : va_G) (cI cL : ClassId) (ws : va_W) (sz : Nat) (a1 : Nat) (n0 : Int32) (h1 : ws[1]? = some (a1, .inr (1, [.null, .int n0]))) (hlen : ws.length = 2) : Met l yX1_init (ws_ yX1_init cX1_init 1 none) ({ frames := 1, cells := 1, slots := 8, locals := 12 }) (MuP D cI cL ws sz [.ref a1]) (va_Qv (fun u : va_W => ∃ q : Nat, u.length = 3 ∧ u[0]? = ws[0]? ∧ u[1]? = some (a1, .inr (1, [.ref q, .int n0])) ∧ u[2]? = some (q, .inl (cI, 8, .inl (fun _ => 0)))) (MuB D ws sz) (va_A ws sz)) 1 8 (va_A ws sz) := by
  refine Met.ofW (cc := cX1_init) (maxL := 1) (ret := none) (by decide) rfl ?_
  intro p e s m args below meth c s₁ B hml hv
  obtain ⟨rfl, hsz, hP, hC, hD0⟩ := hv
  have hx := B.exec
  have hb := B.bytes
  have hr := B.returns
  have hts := atoms_spec (ws := (ws_ yX1_init cX1_init 1 none)) B.pre
  have hts : ∀ w ∈ lw_all, w.before _ s = true := fun w h => hts w (List.mem_cons_of_mem _ h)
  have hown : s.vm.findClass RX1 = some m.cls := findClass_of_methodNamed B.named
  have hlocks := B.notSynchronized
  have hin : meth.name = "<init>" := (name_of_methodNamed B.named B.method).1
  subst hsz
  have hD := hD0.self (sz := s.heap.size)
  have hA : ∀ q : Nat, s.heap.size ≤ q → va_A ws s.heap.size q := fun q h => Or.inr h
  have hS : va_S (va_A ws s.heap.size) s.heap s.heap [] := va_S.rf
  have hl := lv_entry ([.ref a1]) (n := 1) (Nat.le_of_ble_eq_true rfl)
  rw [lg_entry_eq]
  generalize (lg_sl ([.ref a1]) ++ List.replicate (1 - (lg_sl ([.ref a1])).length) Slot.unset).toArray = ls at hl ⊢
  have hl : lv_has ls 1 [(0, .ref a1)] := hl
  refine lv_aload_n hx hb dX1_init_0 rfl (lv_at hl 0 rfl) ?_
  refine W.objInit hx hb hown (hts _ q24) (hts _ q17) (hts _ q18) rfl (by rw [hml]; exact hl.1) rfl dX1_init_1 (Nat.le_of_ble_eq_true rfl) (Nat.le_of_ble_eq_true rfl) ?_
  refine W.eq (g2 := F0 m 4 ls []) rfl ?_
  refine lv_aload_n hx hb dX1_init_4 rfl (lv_at hl 0 rfl) ?_
  refine lv_bipush (v := nI 8) hx hb dX1_init_5 (by decide) ?_
  refine th_newa (N := 8) hx hb (hts _ q35) hC hP hD hS hA (by decide) (Nat.le_of_ble_eq_true rfl) (Nat.le_of_ble_eq_true rfl) dX1_init_7 (fun q H hP hD hS => ?_)
  have h1 := app_l (z := [(q, .inl (cI, 8, .inl (fun _ => 0)))]) h1
  refine W.widen (k := 1) (n := 8) (Nat.le_of_ble_eq_true rfl) (Nat.le_of_ble_eq_true rfl) ?_
  refine va_putF (D := D) (ci := 1) (v := .ref q) (ty := .array .int) (C := RX1) (T := TX1) (N := 2) hx hb hts in_X1 tyX1 tyX1_ok nmX1 hown hC.1 hP hD hS 1 h1 rfl 0 (by decide) (hts _ q25) (fun _ h9 => h9) rfl hin rfl (by decide +kernel) rfl rfl (Nat.le_of_ble_eq_true rfl) dX1_init_9 (fun H locs hP hD hS => ?_)
  have hP : va_P D vwCl ((ws ++ ([(q, .inl (cI, 8, .inl (fun _ => 0)))] : va_W)).set 1 (a1, .inr (1, [.ref q, .int n0]))) H := hP
  have hD : va_D _ ((ws ++ ([(q, .inl (cI, 8, .inl (fun _ => 0)))] : va_W)).set 1 (a1, .inr (1, [.ref q, .int n0]))) := hD
  exact W.vret hx hb hr (fun t ht hW => ⟨⟨_, rfl, ⟨q, by simp [hlen], by rw [List.getElem?_set_ne (by decide), List.getElem?_append_left (by omega)], set_eq h1, set_ne (app_r (i := 0) hlen rfl) (by decide)⟩, by rw [ht]; exact hP, hD⟩, hS.F ht⟩) hS.2.2 dX1_init_12
set_option maxHeartbeats 4000000 in
set_option maxRecDepth 100000 in
theorem metX3_init (l : Launch) (D : va_G) (cI cL : ClassId) (ws : va_W) (sz : Nat) (a1 : Nat) (h23 : ws[23]? = some (a1, .inr (3, [.null, .int 0]))) (hlen : ws.length = 24) : Met l yX3_init (ws_ yX3_init cX3_init 1 none) ({ frames := 1, cells := 1, slots := 8, locals := 12 }) (MuP D cI cL ws sz [.ref a1]) (va_Qv (fun u : va_W => ∃ q : Nat, u[23]? = some (a1, .inr (3, [.ref q, .int (nI 4)])) ∧ u[24]? = some (q, .inl (cI, 8, .inl (fun _ => 0))) ∧ ∀ k, k < 23 → u[k]? = ws[k]?) (MuB D ws sz) (va_A ws sz)) 1 8 (va_A ws sz) := by
  refine Met.ofW (cc := cX3_init) (maxL := 1) (ret := none) (by decide) rfl ?_
  intro p e s m args below meth c s₁ B hml hv
  obtain ⟨rfl, hsz, hP, hC, hD0⟩ := hv
  have hx := B.exec
  have hb := B.bytes
  have hr := B.returns
  have hts := atoms_spec (ws := (ws_ yX3_init cX3_init 1 none)) B.pre
  have hts : ∀ w ∈ lw_all, w.before _ s = true := fun w h => hts w (List.mem_cons_of_mem _ h)
  have hown : s.vm.findClass RX3 = some m.cls := findClass_of_methodNamed B.named
  have hlocks := B.notSynchronized
  have hin : meth.name = "<init>" := (name_of_methodNamed B.named B.method).1
  subst hsz
  have hD := hD0.self (sz := s.heap.size)
  have hA : ∀ q : Nat, s.heap.size ≤ q → va_A ws s.heap.size q := fun q h => Or.inr h
  have hS : va_S (va_A ws s.heap.size) s.heap s.heap [] := va_S.rf
  have hl := lv_entry ([.ref a1]) (n := 1) (Nat.le_of_ble_eq_true rfl)
  rw [lg_entry_eq]
  generalize (lg_sl ([.ref a1]) ++ List.replicate (1 - (lg_sl ([.ref a1])).length) Slot.unset).toArray = ls at hl ⊢
  have hl : lv_has ls 1 [(0, .ref a1)] := hl
  refine lv_aload_n hx hb dX3_init_0 rfl (lv_at hl 0 rfl) ?_
  refine W.objInit hx hb hown (hts _ q140) (hts _ q17) (hts _ q18) rfl (by rw [hml]; exact hl.1) rfl dX3_init_1 (Nat.le_of_ble_eq_true rfl) (Nat.le_of_ble_eq_true rfl) ?_
  refine W.eq (g2 := F0 m 4 ls []) rfl ?_
  refine lv_aload_n hx hb dX3_init_4 rfl (lv_at hl 0 rfl) ?_
  refine lv_bipush (v := nI 8) hx hb dX3_init_5 (by decide) ?_
  refine th_newa (N := 8) hx hb (hts _ q35) hC hP hD hS hA (by decide) (Nat.le_of_ble_eq_true rfl) (Nat.le_of_ble_eq_true rfl) dX3_init_7 (fun q H hP hD hS => ?_)
  have h23 := app_l (z := [(q, .inl (cI, 8, .inl (fun _ => 0)))]) h23
  have h24 : (ws ++ ([(q, .inl (cI, 8, .inl (fun _ => 0)))] : va_W))[24]? = some (q, .inl (cI, 8, .inl (fun _ => 0))) := app_r (i := 0) hlen rfl
  refine W.widen (k := 1) (n := 8) (Nat.le_of_ble_eq_true rfl) (Nat.le_of_ble_eq_true rfl) ?_
  refine va_putF (D := D) (ci := 3) (v := .ref q) (ty := .array .int) (C := RX3) (T := TX3) (N := 2) hx hb hts in_X3 tyX3 tyX3_ok nmX3 hown hC.1 hP hD hS 23 h23 rfl 0 (by decide) (hts _ q141) (fun _ h9 => h9) rfl hin rfl (by decide +kernel) rfl rfl (Nat.le_of_ble_eq_true rfl) dX3_init_9 (fun H locs hP hD hS => ?_)
  have hP : va_P D vwCl ((ws ++ ([(q, .inl (cI, 8, .inl (fun _ => 0)))] : va_W)).set 23 (a1, .inr (3, [.ref q, .int 0]))) H := hP
  have hD : va_D _ ((ws ++ ([(q, .inl (cI, 8, .inl (fun _ => 0)))] : va_W)).set 23 (a1, .inr (3, [.ref q, .int 0]))) := hD
  have h24 := set_ne (i := 23) (z := (a1, .inr (3, [.ref q, .int 0]))) h24 (by decide)
  have h23 := set_eq (z := (a1, .inr (3, [.ref q, .int 0]))) h23
  refine lv_aload_n hx hb dX3_init_12 rfl (lv_at hl 0 rfl) ?_
  refine lv_iconst (v := nI 4) hx hb dX3_init_13 (by decide) ?_
  refine va_put (D := D) (ci := 3) (v := .int (nI 4)) (ty := .int) (C := RX3) (T := TX3) (N := 2) hx hb hts in_X3 tyX3 tyX3_ok nmX3 hown hC.1 hP hD hS 23 h23 rfl 1 (by decide) (hts _ q142) (fun _ h9 => h9) rfl (by decide +kernel) rfl rfl (Nat.le_of_ble_eq_true rfl) dX3_init_14 (fun H locs hP hD hS => ?_)
  have hP : va_P D vwCl (((ws ++ ([(q, .inl (cI, 8, .inl (fun _ => 0)))] : va_W)).set 23 (a1, .inr (3, [.ref q, .int 0]))).set 23 (a1, .inr (3, [.ref q, .int (nI 4)]))) H := hP
  have hD : va_D _ (((ws ++ ([(q, .inl (cI, 8, .inl (fun _ => 0)))] : va_W)).set 23 (a1, .inr (3, [.ref q, .int 0]))).set 23 (a1, .inr (3, [.ref q, .int (nI 4)]))) := hD
  exact W.vret hx hb hr (fun t ht hW => ⟨⟨_, rfl, ⟨q, set_eq h23, set_ne h24 (by decide), fun k hk => by rw [List.getElem?_set_ne (by omega), List.getElem?_set_ne (by omega), List.getElem?_append_left (by omega)]⟩, by rw [ht]; exact hP, hD⟩, hS.F ht⟩) hS.2.2 dX3_init_17
set_option maxHeartbeats 4000000 in
set_option maxRecDepth 100000 in
theorem metX2_init (l : Launch) (D : va_G) (cI cL : ClassId) (ws : va_W) (sz : Nat) (a3 r1 : Nat) (h3 : ws[3]? = some (a3, .inr (2, [.null, .null, .null, .null]))) (hlen : ws.length = 4) : Met l yX2_init (ws_ yX2_init cX2_init 2 none) ({ frames := 1, cells := 19, slots := 304, locals := 12 }) (MuP D cI cL ws sz [.ref a3, .ref r1]) (va_Qv (fun u : va_W => ∃ q4 q5 q6 : Nat, u.length = 23 ∧ (∀ k, k < 3 → u[k]? = ws[k]?) ∧ u[3]? = some (a3, .inr (2, [.ref r1, .ref q4, .ref q5, .ref q6])) ∧ u[4]? = some (q4, .inl (cL, 16, .inr (.inr (.inr (.inr (fun j => some (q4 + 1 + j))))))) ∧ (∀ i : Nat, i < 16 → u[5 + i]? = some (q4 + 1 + i, .inl (cI, 16, .inl (fun _ => 0)))) ∧ u[21]? = some (q5, .inl (cI, 16, .inl (fun _ => 0))) ∧ u[22]? = some (q6, .inl (cI, 16, .inl (fun _ => 0)))) (MuB D ws sz) (va_A ws sz)) 19 304 (va_A ws sz) := by
  refine Met.ofW (cc := cX2_init) (maxL := 2) (ret := none) (by decide) rfl ?_
  intro p e s m args below meth c s₁ B hml hv
  obtain ⟨rfl, hsz, hP, hC, hD0⟩ := hv
  have hx := B.exec
  have hb := B.bytes
  have hr := B.returns
  have hts := atoms_spec (ws := (ws_ yX2_init cX2_init 2 none)) B.pre
  have hts : ∀ w ∈ lw_all, w.before _ s = true := fun w h => hts w (List.mem_cons_of_mem _ h)
  have hown : s.vm.findClass RX2 = some m.cls := findClass_of_methodNamed B.named
  have hlocks := B.notSynchronized
  have hin : meth.name = "<init>" := (name_of_methodNamed B.named B.method).1
  subst hsz
  have hD := hD0.self (sz := s.heap.size)
  have hA : ∀ q : Nat, s.heap.size ≤ q → va_A ws s.heap.size q := fun q h => Or.inr h
  have hS : va_S (va_A ws s.heap.size) s.heap s.heap [] := va_S.rf
  have hl := lv_entry ([.ref a3, .ref r1]) (n := 2) (Nat.le_of_ble_eq_true rfl)
  rw [lg_entry_eq]
  generalize (lg_sl ([.ref a3, .ref r1]) ++ List.replicate (2 - (lg_sl ([.ref a3, .ref r1])).length) Slot.unset).toArray = ls at hl ⊢
  have hl : lv_has ls 2 [(0, .ref a3), (1, .ref r1)] := hl
  refine lv_aload_n hx hb dX2_init_0 rfl (lv_at hl 0 rfl) ?_
  refine W.objInit hx hb hown (hts _ q41) (hts _ q17) (hts _ q18) rfl (by rw [hml]; exact hl.1) rfl dX2_init_1 (Nat.le_of_ble_eq_true rfl) (Nat.le_of_ble_eq_true rfl) ?_
  refine W.eq (g2 := F0 m 4 ls []) rfl ?_
  refine lv_aload_n hx hb dX2_init_4 rfl (lv_at hl 0 rfl) ?_
  refine lv_bipush (v := nI 16) hx hb dX2_init_5 (by decide) ?_
  refine lv_bipush (v := nI 16) hx hb dX2_init_7 (by decide) ?_
  refine th_multi hx hb hown (hts _ q42) hC hP hD hS hA (Nat.le_of_ble_eq_true rfl) (Nat.le_of_ble_eq_true rfl) dX2_init_9 (fun q4 H locs hP hD hS => ?_)
  have h3 := app_l (z := gdW cL cI q4) h3
  have hlen2 : (ws ++ gdW cL cI q4).length = 21 := by rw [List.length_append, hlen, gdW_len]
  have h4 : (ws ++ gdW cL cI q4)[4]? = _ := app_r (i := 0) hlen (gdW_0 cL cI q4)
  have hrow : ∀ i, i < 16 → (ws ++ gdW cL cI q4)[5 + i]? = some (q4 + 1 + i, .inl (cI, 16, .inl (fun _ => 0))) := fun i hi => by
    rw [show 5 + i = 4 + (1 + i) from by omega]; exact app_r hlen (gdW_s cL cI q4 hi)
  have hlow : ∀ k, k < 3 → (ws ++ gdW cL cI q4)[k]? = ws[k]? := fun k hk => List.getElem?_append_left (by omega)
  generalize ws ++ gdW cL cI q4 = v1 at hP hD h3 h4 hrow hlow hlen2
  refine W.widen (k := 17) (n := 272) (Nat.le_of_ble_eq_true rfl) (Nat.le_of_ble_eq_true rfl) ?_
  refine va_putF (D := D) (ci := 2) (v := .ref q4) (ty := .array (.array .int)) (C := RX2) (T := TX2) (N := 4) hx hb hts in_X2 tyX2 tyX2_ok nmX2 hown hC.1 hP hD hS 3 h3 rfl 1 (by decide) (hts _ q45) (fun _ h9 => h9) rfl hin rfl (by decide +kernel) rfl rfl (Nat.le_of_ble_eq_true rfl) dX2_init_13 (fun H locs hP hD hS => ?_)
  have hP : va_P D vwCl ((v1).set 3 (a3, .inr (2, [.null, .ref q4, .null, .null]))) H := hP
  have hD : va_D _ ((v1).set 3 (a3, .inr (2, [.null, .ref q4, .null, .null]))) := hD
  have h4 := set_ne (i := 3) (z := (a3, .inr (2, [.null, .ref q4, .null, .null]))) h4 (by decide)
  have hrow : ∀ i, i < 16 → ((v1).set 3 (a3, .inr (2, [.null, .ref q4, .null, .null])))[5 + i]? = some (q4 + 1 + i, .inl (cI, 16, .inl (fun _ => 0))) := fun i hi => set_ne (hrow i hi) (by omega)
  have hlow : ∀ k, k < 3 → ((v1).set 3 (a3, .inr (2, [.null, .ref q4, .null, .null])))[k]? = ws[k]? := fun k hk => (List.getElem?_set_ne (by omega)).trans (hlow k hk)
  have h3 := set_eq (z := (a3, .inr (2, [.null, .ref q4, .null, .null]))) h3
  have hlen2 : ((v1).set 3 (a3, .inr (2, [.null, .ref q4, .null, .null]))).length = _ := (List.length_set ..).trans hlen2
  generalize (v1).set 3 (a3, .inr (2, [.null, .ref q4, .null, .null])) = v2 at hP hD h3 h4 hrow hlow hlen2
  refine lv_aload_n hx hb dX2_init_16 rfl (lv_at hl 0 rfl) ?_
  refine lv_bipush (v := nI 16) hx hb dX2_init_17 (by decide) ?_
  refine th_newa (N := 16) hx hb (hts _ q35) hC hP hD hS hA (by decide) (Nat.le_of_ble_eq_true rfl) (Nat.le_of_ble_eq_true rfl) dX2_init_19 (fun q5 H hP hD hS => ?_)
  have h3 := app_l (z := ([(q5, .inl (cI, 16, .inl (fun _ => 0)))] : va_W)) h3
  have h4 := app_l (z := ([(q5, .inl (cI, 16, .inl (fun _ => 0)))] : va_W)) h4
  have h21 : (v2 ++ ([(q5, .inl (cI, 16, .inl (fun _ => 0)))] : va_W))[21]? = some (q5, .inl (cI, 16, .inl (fun _ => 0))) := app_r (i := 0) hlen2 rfl
  have hrow : ∀ i, i < 16 → (v2 ++ ([(q5, .inl (cI, 16, .inl (fun _ => 0)))] : va_W))[5 + i]? = some (q4 + 1 + i, .inl (cI, 16, .inl (fun _ => 0))) := fun i hi => app_l (hrow i hi)
  have hlow : ∀ k, k < 3 → (v2 ++ ([(q5, .inl (cI, 16, .inl (fun _ => 0)))] : va_W))[k]? = ws[k]? := fun k hk => (List.getElem?_append_left (by omega)).trans (hlow k hk)
  have hlen2 : (v2 ++ ([(q5, .inl (cI, 16, .inl (fun _ => 0)))] : va_W)).length = 22 := by rw [List.length_append, hlen2]; rfl
  generalize v2 ++ ([(q5, .inl (cI, 16, .inl (fun _ => 0)))] : va_W) = v3 at hP hD h3 h4 h21 hrow hlow hlen2
  refine W.widen (k := 18) (n := 288) (Nat.le_of_ble_eq_true rfl) (Nat.le_of_ble_eq_true rfl) ?_
  refine va_putF (D := D) (ci := 2) (v := .ref q5) (ty := .array .int) (C := RX2) (T := TX2) (N := 4) hx hb hts in_X2 tyX2 tyX2_ok nmX2 hown hC.1 hP hD hS 3 h3 rfl 2 (by decide) (hts _ q46) (fun _ h9 => h9) rfl hin rfl (by decide +kernel) rfl rfl (Nat.le_of_ble_eq_true rfl) dX2_init_21 (fun H locs hP hD hS => ?_)
  have hP : va_P D vwCl ((v3).set 3 (a3, .inr (2, [.null, .ref q4, .ref q5, .null]))) H := hP
  have hD : va_D _ ((v3).set 3 (a3, .inr (2, [.null, .ref q4, .ref q5, .null]))) := hD
  have h4 := set_ne (i := 3) (z := (a3, .inr (2, [.null, .ref q4, .ref q5, .null]))) h4 (by decide)
  have h21 := set_ne (i := 3) (z := (a3, .inr (2, [.null, .ref q4, .ref q5, .null]))) h21 (by decide)
  have hrow : ∀ i, i < 16 → ((v3).set 3 (a3, .inr (2, [.null, .ref q4, .ref q5, .null])))[5 + i]? = some (q4 + 1 + i, .inl (cI, 16, .inl (fun _ => 0))) := fun i hi => set_ne (hrow i hi) (by omega)
  have hlow : ∀ k, k < 3 → ((v3).set 3 (a3, .inr (2, [.null, .ref q4, .ref q5, .null])))[k]? = ws[k]? := fun k hk => (List.getElem?_set_ne (by omega)).trans (hlow k hk)
  have h3 := set_eq (z := (a3, .inr (2, [.null, .ref q4, .ref q5, .null]))) h3
  have hlen2 : ((v3).set 3 (a3, .inr (2, [.null, .ref q4, .ref q5, .null]))).length = _ := (List.length_set ..).trans hlen2
  generalize (v3).set 3 (a3, .inr (2, [.null, .ref q4, .ref q5, .null])) = v4 at hP hD h3 h4 h21 hrow hlow hlen2
  refine lv_aload_n hx hb dX2_init_24 rfl (lv_at hl 0 rfl) ?_
  refine lv_bipush (v := nI 16) hx hb dX2_init_25 (by decide) ?_
  refine th_newa (N := 16) hx hb (hts _ q35) hC hP hD hS hA (by decide) (Nat.le_of_ble_eq_true rfl) (Nat.le_of_ble_eq_true rfl) dX2_init_27 (fun q6 H hP hD hS => ?_)
  have h3 := app_l (z := ([(q6, .inl (cI, 16, .inl (fun _ => 0)))] : va_W)) h3
  have h4 := app_l (z := ([(q6, .inl (cI, 16, .inl (fun _ => 0)))] : va_W)) h4
  have h21 := app_l (z := ([(q6, .inl (cI, 16, .inl (fun _ => 0)))] : va_W)) h21
  have h22 : (v4 ++ ([(q6, .inl (cI, 16, .inl (fun _ => 0)))] : va_W))[22]? = some (q6, .inl (cI, 16, .inl (fun _ => 0))) := app_r (i := 0) hlen2 rfl
  have hrow : ∀ i, i < 16 → (v4 ++ ([(q6, .inl (cI, 16, .inl (fun _ => 0)))] : va_W))[5 + i]? = some (q4 + 1 + i, .inl (cI, 16, .inl (fun _ => 0))) := fun i hi => app_l (hrow i hi)
  have hlow : ∀ k, k < 3 → (v4 ++ ([(q6, .inl (cI, 16, .inl (fun _ => 0)))] : va_W))[k]? = ws[k]? := fun k hk => (List.getElem?_append_left (by omega)).trans (hlow k hk)
  have hlen2 : (v4 ++ ([(q6, .inl (cI, 16, .inl (fun _ => 0)))] : va_W)).length = 23 := by rw [List.length_append, hlen2]; rfl
  generalize v4 ++ ([(q6, .inl (cI, 16, .inl (fun _ => 0)))] : va_W) = v5 at hP hD h3 h4 h21 h22 hrow hlow hlen2
  refine W.widen (k := 19) (n := 304) (Nat.le_of_ble_eq_true rfl) (Nat.le_of_ble_eq_true rfl) ?_
  refine va_putF (D := D) (ci := 2) (v := .ref q6) (ty := .array .int) (C := RX2) (T := TX2) (N := 4) hx hb hts in_X2 tyX2 tyX2_ok nmX2 hown hC.1 hP hD hS 3 h3 rfl 3 (by decide) (hts _ q47) (fun _ h9 => h9) rfl hin rfl (by decide +kernel) rfl rfl (Nat.le_of_ble_eq_true rfl) dX2_init_29 (fun H locs hP hD hS => ?_)
  have hP : va_P D vwCl ((v5).set 3 (a3, .inr (2, [.null, .ref q4, .ref q5, .ref q6]))) H := hP
  have hD : va_D _ ((v5).set 3 (a3, .inr (2, [.null, .ref q4, .ref q5, .ref q6]))) := hD
  have h4 := set_ne (i := 3) (z := (a3, .inr (2, [.null, .ref q4, .ref q5, .ref q6]))) h4 (by decide)
  have h21 := set_ne (i := 3) (z := (a3, .inr (2, [.null, .ref q4, .ref q5, .ref q6]))) h21 (by decide)
  have h22 := set_ne (i := 3) (z := (a3, .inr (2, [.null, .ref q4, .ref q5, .ref q6]))) h22 (by decide)
  have hrow : ∀ i, i < 16 → ((v5).set 3 (a3, .inr (2, [.null, .ref q4, .ref q5, .ref q6])))[5 + i]? = some (q4 + 1 + i, .inl (cI, 16, .inl (fun _ => 0))) := fun i hi => set_ne (hrow i hi) (by omega)
  have hlow : ∀ k, k < 3 → ((v5).set 3 (a3, .inr (2, [.null, .ref q4, .ref q5, .ref q6])))[k]? = ws[k]? := fun k hk => (List.getElem?_set_ne (by omega)).trans (hlow k hk)
  have h3 := set_eq (z := (a3, .inr (2, [.null, .ref q4, .ref q5, .ref q6]))) h3
  have hlen2 : ((v5).set 3 (a3, .inr (2, [.null, .ref q4, .ref q5, .ref q6]))).length = _ := (List.length_set ..).trans hlen2
  generalize (v5).set 3 (a3, .inr (2, [.null, .ref q4, .ref q5, .ref q6])) = v6 at hP hD h3 h4 h21 h22 hrow hlow hlen2
  refine lv_aload_n hx hb dX2_init_32 rfl (lv_at hl 0 rfl) ?_
  refine lv_aload_n hx hb dX2_init_33 rfl (lv_at hl 1 rfl) ?_
  refine va_putF (D := D) (ci := 2) (v := .ref r1) (ty := .object "SeverDesk$Roads") (C := RX2) (T := TX2) (N := 4) hx hb hts in_X2 tyX2 tyX2_ok nmX2 hown hC.1 hP hD hS 3 h3 rfl 0 (by decide) (hts _ q44) (fun _ h9 => h9) rfl hin rfl (by decide +kernel) rfl rfl (Nat.le_of_ble_eq_true rfl) dX2_init_34 (fun H locs hP hD hS => ?_)
  have hP : va_P D vwCl ((v6).set 3 (a3, .inr (2, [.ref r1, .ref q4, .ref q5, .ref q6]))) H := hP
  have hD : va_D _ ((v6).set 3 (a3, .inr (2, [.ref r1, .ref q4, .ref q5, .ref q6]))) := hD
  have h4 := set_ne (i := 3) (z := (a3, .inr (2, [.ref r1, .ref q4, .ref q5, .ref q6]))) h4 (by decide)
  have h21 := set_ne (i := 3) (z := (a3, .inr (2, [.ref r1, .ref q4, .ref q5, .ref q6]))) h21 (by decide)
  have h22 := set_ne (i := 3) (z := (a3, .inr (2, [.ref r1, .ref q4, .ref q5, .ref q6]))) h22 (by decide)
  have hrow : ∀ i, i < 16 → ((v6).set 3 (a3, .inr (2, [.ref r1, .ref q4, .ref q5, .ref q6])))[5 + i]? = some (q4 + 1 + i, .inl (cI, 16, .inl (fun _ => 0))) := fun i hi => set_ne (hrow i hi) (by omega)
  have hlow : ∀ k, k < 3 → ((v6).set 3 (a3, .inr (2, [.ref r1, .ref q4, .ref q5, .ref q6])))[k]? = ws[k]? := fun k hk => (List.getElem?_set_ne (by omega)).trans (hlow k hk)
  have h3 := set_eq (z := (a3, .inr (2, [.ref r1, .ref q4, .ref q5, .ref q6]))) h3
  have hlen2 : ((v6).set 3 (a3, .inr (2, [.ref r1, .ref q4, .ref q5, .ref q6]))).length = _ := (List.length_set ..).trans hlen2
  generalize (v6).set 3 (a3, .inr (2, [.ref r1, .ref q4, .ref q5, .ref q6])) = v7 at hP hD h3 h4 h21 h22 hrow hlow hlen2
  exact W.vret hx hb hr (fun t ht hW => ⟨⟨_, rfl, ⟨q4, q5, q6, hlen2, hlow, h3, h4, hrow, h21, h22⟩, by rw [ht]; exact hP, hD⟩, hS.F ht⟩) hS.2.2 dX2_init_37
set_option maxHeartbeats 4000000 in
set_option maxRecDepth 100000 in
theorem metX0_init (l : Launch) (D : va_G) (cI cL : ClassId) (ws : va_W) (sz : Nat) (x0 : Nat) (hws : ws = [(x0, .inr (0, [.null, .null]))]) : Met l yX0_init (ws_ yX0_init cX0_init 1 none) ({ frames := 2, cells := 22, slots := 318, locals := 33 }) (MuP D cI cL ws sz [.ref x0]) (va_Qv (fun u : va_W => ∃ ad : Nat → Nat, ad 0 = x0 ∧ u.length = 23 ∧ u[0]? = some (ad 0, .inr (0, [.ref (ad 1), .ref (ad 3)])) ∧ FW cI cL ad 4 (fun _ => 0) u (fun _ => 0) (fun _ => 0) (fun _ _ => 0)) (MuB D ws sz) (va_A ws sz)) 22 318 (va_A ws sz) := by
  refine Met.ofW (cc := cX0_init) (maxL := 1) (ret := none) (by decide) rfl ?_
  intro p e s m args below meth c s₁ B hml hv
  obtain ⟨rfl, hsz, hP, hC, hD0⟩ := hv
  have hx := B.exec
  have hb := B.bytes
  have hr := B.returns
  have hts := atoms_spec (ws := (ws_ yX0_init cX0_init 1 none)) B.pre
  have hts : ∀ w ∈ lw_all, w.before _ s = true := fun w h => hts w (List.mem_cons_of_mem _ h)
  have hown : s.vm.findClass RX0 = some m.cls := findClass_of_methodNamed B.named
  have hlocks := B.notSynchronized
  have hin : meth.name = "<init>" := (name_of_methodNamed B.named B.method).1
  subst hsz
  have hD := hD0.self (sz := s.heap.size)
  have hA : ∀ q : Nat, s.heap.size ≤ q → va_A ws s.heap.size q := fun q h => Or.inr h
  have hS : va_S (va_A ws s.heap.size) s.heap s.heap [] := va_S.rf
  have hl := lv_entry ([.ref x0]) (n := 1) (Nat.le_of_ble_eq_true rfl)
  rw [lg_entry_eq]
  generalize (lg_sl ([.ref x0]) ++ List.replicate (1 - (lg_sl ([.ref x0])).length) Slot.unset).toArray = ls at hl ⊢
  have hl : lv_has ls 1 [(0, .ref x0)] := hl
  refine lv_aload_n hx hb dX0_init_0 rfl (lv_at hl 0 rfl) ?_
  refine W.objInit hx hb hown (hts _ q16) (hts _ q17) (hts _ q18) rfl (by rw [hml]; exact hl.1) rfl dX0_init_1 (Nat.le_of_ble_eq_true rfl) (Nat.le_of_ble_eq_true rfl) ?_
  refine W.eq (g2 := F0 m 4 ls []) rfl ?_
  refine lv_aload_n hx hb dX0_init_4 rfl (lv_at hl 0 rfl) ?_
  refine va_new (ci := 1) (fs := [.null, .int 0]) (C := RX1) (T := TX1) (N := 2) hx hb hts in_X1 tyX1 tyX1_ok hown (hts _ q19) (hts _ q20) (hts _ q7) hC.1 hP hD hS hA rfl (fun j hj => by rcases (show j = 0 ∨ j = 1 by omega) with rfl | rfl <;> rfl) (Nat.le_of_ble_eq_true rfl) (Nat.le_of_ble_eq_true rfl) dX0_init_5 (fun q1 H hP hD hS => ?_)
  refine W.widen (k := 1) (n := 2) (Nat.le_of_ble_eq_true rfl) (Nat.le_of_ble_eq_true rfl) ?_
  refine lv_dup hx hb dX0_init_8 rfl ?_
  have hl0 : (ws ++ ([(q1, .inr (1, [.null, .int 0]))] : va_W)).length = 2 := by rw [hws]; rfl
  have g1 : (ws ++ ([(q1, .inr (1, [.null, .int 0]))] : va_W))[1]? = some (q1, .inr (1, [.null, .int 0])) := by rw [hws]; rfl
  have g0 : (ws ++ ([(q1, .inr (1, [.null, .int 0]))] : va_W))[0]? = some (x0, .inr (0, [.null, .null])) := by rw [hws]; rfl
  refine muIN (As := []) (rest := [.ref q1, .ref x0]) ⟨hx, hb, hml, hown, hts⟩ (metX1_init l D cI cL _ _ q1 0 g1 hl0) ⟨va_cnB 0 hts (lw_meth q23) rfl rfl rfl hC.2.1.2.2.2 (hts _ q7) (by decide +kernel) ⟨Nat.le_of_ble_eq_true rfl, Nat.le_of_ble_eq_true rfl⟩, rfl, hts _ q22⟩ hC hP hD hS hA rfl rfl hl.1 (Nat.le_of_ble_eq_true rfl) dX0_init_9 ⟨Nat.le_of_ble_eq_true rfl, Nat.le_of_ble_eq_true rfl⟩ (fun u1 H locs hq hP hD hS => ?_)
  obtain ⟨q2, hl1, f0, f1, f2⟩ := hq
  have f0 := f0.trans g0
  refine W.widen (k := 2) (n := 10) (Nat.le_of_ble_eq_true rfl) (Nat.le_of_ble_eq_true rfl) ?_
  refine va_putF (D := D) (ci := 0) (v := .ref q1) (ty := .object "SeverDesk$Roads") (C := RX0) (T := TX0) (N := 2) hx hb hts in_X0 tyX0 tyX0_ok nmX0 hown hC.1 hP hD hS 0 f0 rfl 0 (by decide) (hts _ q61) (fun _ h9 => h9) rfl hin rfl (by decide +kernel) rfl rfl (Nat.le_of_ble_eq_true rfl) dX0_init_12 (fun H locs hP hD hS => ?_)
  have hP : va_P D vwCl ((u1).set 0 (x0, .inr (0, [.ref q1, .null]))) H := hP
  have hD : va_D _ ((u1).set 0 (x0, .inr (0, [.ref q1, .null]))) := hD
  have f1 := set_ne (i := 0) (z := (x0, .inr (0, [.ref q1, .null]))) f1 (by decide)
  have f2 := set_ne (i := 0) (z := (x0, .inr (0, [.ref q1, .null]))) f2 (by decide)
  have f0 := set_eq (z := (x0, .inr (0, [.ref q1, .null]))) f0
  have hl1 : ((u1).set 0 (x0, .inr (0, [.ref q1, .null]))).length = 3 := (List.length_set ..).trans hl1
  generalize (u1).set 0 (x0, .inr (0, [.ref q1, .null])) = u2 at hP hD f0 f1 f2 hl1
  refine lv_aload_n hx hb dX0_init_15 rfl (lv_at hl 0 rfl) ?_
  refine va_new (ci := 2) (fs := [.null, .null, .null, .null]) (C := RX2) (T := TX2) (N := 4) hx hb hts in_X2 tyX2 tyX2_ok hown (hts _ q36) (hts _ q37) (hts _ q8) hC.1 hP hD hS hA rfl (fun j hj => by rcases (show j = 0 ∨ j = 1 ∨ j = 2 ∨ j = 3 by omega) with rfl | rfl | rfl | rfl <;> rfl) (Nat.le_of_ble_eq_true rfl) (Nat.le_of_ble_eq_true rfl) dX0_init_16 (fun q3 H hP hD hS => ?_)
  refine W.widen (k := 3) (n := 14) (Nat.le_of_ble_eq_true rfl) (Nat.le_of_ble_eq_true rfl) ?_
  have f0 := app_l (z := ([(q3, .inr (2, [.null, .null, .null, .null]))] : va_W)) f0
  have f1 := app_l (z := ([(q3, .inr (2, [.null, .null, .null, .null]))] : va_W)) f1
  have f2 := app_l (z := ([(q3, .inr (2, [.null, .null, .null, .null]))] : va_W)) f2
  have f3 : (u2 ++ ([(q3, .inr (2, [.null, .null, .null, .null]))] : va_W))[3]? = some (q3, .inr (2, [.null, .null, .null, .null])) := app_r (i := 0) hl1 rfl
  have hl1 : (u2 ++ ([(q3, .inr (2, [.null, .null, .null, .null]))] : va_W)).length = 4 := by rw [List.length_append, hl1]; rfl
  generalize u2 ++ ([(q3, .inr (2, [.null, .null, .null, .null]))] : va_W) = u3 at hP hD f0 f1 f2 f3 hl1
  refine lv_dup hx hb dX0_init_19 rfl ?_
  refine lv_aload_n hx hb dX0_init_20 rfl (lv_at hl 0 rfl) ?_
  refine va_get (D := D) (ci := 0) (v := .ref q1) (C := RX0) (T := TX0) (N := 2) hx hb hts in_X0 hown hC.1 hP 0 f0 rfl 0 (by decide) (hts _ q61) (fun _ h9 => h9) rfl dX0_init_21 ?_
  refine muI (As := [.ref q1]) (rest := [.ref q3, .ref x0]) ⟨hx, hb, hml, hown, hts⟩ (metX2_init l D cI cL _ _ q3 q1 f3 hl1) (cwI 1 hts (lw_meth q40) rfl rfl rfl (hts _ q8) (hts _ q38) (hts _ q39) rfl (by decide +kernel) ⟨Nat.le_of_ble_eq_true rfl, Nat.le_of_ble_eq_true rfl⟩) hC hP hD hS hA rfl rfl hl.1 (Nat.le_of_ble_eq_true rfl) dX0_init_24 ⟨Nat.le_of_ble_eq_true rfl, Nat.le_of_ble_eq_true rfl⟩ (fun u4 H locs hq hP hD hS => ?_)
  obtain ⟨q4, q5, q6, hl1, hlow, f3, f4, frow, f21, f22⟩ := hq
  have f0 := (hlow 0 (by omega)).trans f0
  have f1 := (hlow 1 (by omega)).trans f1
  have f2 := (hlow 2 (by omega)).trans f2
  refine W.widen (k := 22) (n := 318) (Nat.le_of_ble_eq_true rfl) (Nat.le_of_ble_eq_true rfl) ?_
  refine va_putF (D := D) (ci := 0) (v := .ref q3) (ty := .object "SeverDesk$Flow") (C := RX0) (T := TX0) (N := 2) hx hb hts in_X0 tyX0 tyX0_ok nmX0 hown hC.1 hP hD hS 0 f0 rfl 1 (by decide) (hts _ q62) (fun _ h9 => h9) rfl hin rfl (by decide +kernel) rfl rfl (Nat.le_of_ble_eq_true rfl) dX0_init_27 (fun H locs hP hD hS => ?_)
  have hP : va_P D vwCl ((u4).set 0 (x0, .inr (0, [.ref q1, .ref q3]))) H := hP
  have hD : va_D _ ((u4).set 0 (x0, .inr (0, [.ref q1, .ref q3]))) := hD
  have f1 := set_ne (i := 0) (z := (x0, .inr (0, [.ref q1, .ref q3]))) f1 (by decide)
  have f2 := set_ne (i := 0) (z := (x0, .inr (0, [.ref q1, .ref q3]))) f2 (by decide)
  have f3 := set_ne (i := 0) (z := (x0, .inr (0, [.ref q1, .ref q3]))) f3 (by decide)
  have f4 := set_ne (i := 0) (z := (x0, .inr (0, [.ref q1, .ref q3]))) f4 (by decide)
  have f21 := set_ne (i := 0) (z := (x0, .inr (0, [.ref q1, .ref q3]))) f21 (by decide)
  have f22 := set_ne (i := 0) (z := (x0, .inr (0, [.ref q1, .ref q3]))) f22 (by decide)
  have frow : ∀ i, i < 16 → ((u4).set 0 (x0, .inr (0, [.ref q1, .ref q3])))[5 + i]? = some (q4 + 1 + i, .inl (cI, 16, .inl (fun _ => 0))) := fun i hi => set_ne (frow i hi) (by omega)
  have f0 := set_eq (z := (x0, .inr (0, [.ref q1, .ref q3]))) f0
  have hl1 : ((u4).set 0 (x0, .inr (0, [.ref q1, .ref q3]))).length = 23 := (List.length_set ..).trans hl1
  generalize (u4).set 0 (x0, .inr (0, [.ref q1, .ref q3])) = u5 at hP hD f0 f1 f2 f3 f4 f21 f22 frow hl1
  refine lv_aload_n hx hb dX0_init_30 rfl (lv_at hl 0 rfl) ?_
  refine va_get (D := D) (ci := 0) (v := .ref q1) (C := RX0) (T := TX0) (N := 2) hx hb hts in_X0 hown hC.1 hP 0 f0 rfl 0 (by decide) (hts _ q61) (fun _ h9 => h9) rfl dX0_init_31 ?_
  refine lv_iconst (v := nI 4) hx hb dX0_init_34 (by decide) ?_
  refine muVv (As := [.int (nI 4)]) (rest := []) ⟨hx, hb, hml, hown, hts⟩ (metX1_begin l D cI cL u5 _ (fun k => if k = 0 then x0 else if k = 1 then q1 else if k = 2 then q2 else if k = 3 then q3 else if k = 21 then q5 else if k = 22 then q6 else q4 + (k - 4)) (fun _ => 0) 0 f1 f2 4) (cwV 1 hts (lw_V q57 q58 q59 q7 q60) rfl rfl rfl (by decide +kernel) ⟨Nat.le_of_ble_eq_true rfl, Nat.le_of_ble_eq_true rfl⟩) hC hP hD hS hA (va_recv hC.1 hP (ci := 1) (q0 := 1) rfl f1) rfl rfl hl.1 (Nat.le_of_ble_eq_true rfl) dX0_init_35 ⟨Nat.le_of_ble_eq_true rfl, Nat.le_of_ble_eq_true rfl⟩ (fun u6 H locs hq hP hD hS => ?_)
  obtain ⟨f1, f2, hkp⟩ := hq
  rw [zk_c] at f2
  have hlen6 : u6.length = 23 := by
    have h1 := hkp 22 (by decide)
    have h2 := hkp 23 (by decide)
    rw [f22] at h1
    rw [show u5[23]? = none from List.getElem?_eq_none (by omega)] at h2
    have h3 := (List.getElem?_eq_some_iff.mp h1).1
    have h4 := List.getElem?_eq_none_iff.mp h2
    omega
  have g4 := (hkp 4 (by decide)).trans f4
  obtain ⟨hP, hD⟩ := out_swap (f' := fun i => some ((fun k => if k = 0 then x0 else if k = 1 then q1 else if k = 2 then q2 else if k = 3 then q3 else if k = 21 then q5 else if k = 22 then q6 else q4 + (k - 4)) (5 + i))) hP hD g4 (fun i hi => by
    dsimp only
    rw [if_neg (by omega), if_neg (by omega), if_neg (by omega), if_neg (by omega), if_neg (by omega), if_neg (by omega), show q4 + (5 + i - 4) = q4 + 1 + i from by omega])
  have frb : ∀ i, i < 16 → u6[5 + i]? = some ((fun k => if k = 0 then x0 else if k = 1 then q1 else if k = 2 then q2 else if k = 3 then q3 else if k = 21 then q5 else if k = 22 then q6 else q4 + (k - 4)) (5 + i), .inl (cI, 16, .inl (fun _ => 0))) := fun i hi => by
    rw [hkp (5 + i) (by omega), frow i hi]
    dsimp only
    rw [if_neg (by omega), if_neg (by omega), if_neg (by omega), if_neg (by omega), if_neg (by omega), if_neg (by omega), show q4 + (5 + i - 4) = q4 + 1 + i from by omega]
  exact W.vret hx hb hr (fun t ht hW => ⟨⟨_, rfl, ⟨(fun k => if k = 0 then x0 else if k = 1 then q1 else if k = 2 then q2 else if k = 3 then q3 else if k = 21 then q5 else if k = 22 then q6 else q4 + (k - 4)), rfl, (List.length_set ..).trans hlen6, set_ne ((hkp 0 (by decide)).trans f0) (by decide), set_ne f1 (by decide), set_ne f2 (by decide), set_ne ((hkp 3 (by decide)).trans f3) (by decide), set_eq g4, set_ne ((hkp 21 (by decide)).trans f21) (by decide), set_ne ((hkp 22 (by decide)).trans f22) (by decide), fun i hi => set_ne (frb i hi) (by omega)⟩, by rw [ht]; exact hP, hD⟩, hS.F ht⟩) hS.2.2 dX0_init_38
end
section
set_option maxRecDepth 100000
/-! THE CLAIM OUT OF ONE WALK OF THE LAW'S BODY. Your part is whole_start (and what it stands on); all else here is the same for every law, but numbers. -/
def R_law : String := "SeverDeskLaw"
def lw_P (b : Addr) (xs : List Int32) (args : Array Value) (s : State) : Prop := args = #[.ref b] ∧ s.IntsAt b xs ∧ xs.length ≤ 192 ∧ (Jvm.Cond.and given_1 narrow_1).before args s = true
def lw_Q (_ : Array Value) (s : State) (o : Outcome) (t : State) : Prop := o = .returned (some (.int 1)) ∧ Framed s o t [] 600000 7302249
def lw_Z (below : List Frame) (a : Array Value) (s : State) : State → Prop := fun t => ∃ o, t.status = .running ∧ Ended t below o ∧ lw_Q a s o t
/-- the law's own end, with 1 on the stack, nothing written that was there before, its room as the claim has it -/
theorem lw_ret {p : Program} {l : Launch} {e : Env} {s : State} {m : MethodId} {below : List Frame} {meth : Method} {c : Code} {b : Nat} (hx : p.tables.exec = Jvm.exec) (hb : c.code = code) (hr : meth.sig.returnType = ret) (hlocks : meth.locks = false) {pc : Nat} {H : Heap} {ls : Array Slot} (hdg : decode code pc = .ok (.ireturn, 1)) : W p l e room_1 s m #[Value.ref b] below meth c H [] 600000 7302249 (lw_Z below #[Value.ref b] s) (F0 m pc ls [.int 1]) := by
  intro T hT X
  obtain ⟨fs, hret, hrun, hended, hW, hframe⟩ := X.leave (v := some (.int 1)) (hlocks := hlocks) (fun h => by rw [hr] at h; cases h)
  have hmeth' : T.vm.method? m = some meth := X.method'
  refine ⟨T.setFrames fs, ?_, .returned (some (.int 1)), hrun, hended, rfl, ⟨_, rfl⟩, hW, hframe⟩
  jvm_step X.here [X.here.top, hx, hb, hdg, hmeth', hr, ret, narrow_b1]
  (try refine ⟨rfl, ?_⟩); (try refine ⟨rfl, ?_⟩)
  first | (intro acts; rw [hret _ acts rfl rfl rfl]) | rw [hret _ _ rfl rfl rfl]
  exact Steps.refl _
/-- what holds at the law's entry: the machine, the code, the tables' words (any of lw_tbl by 'hts w (by decide +kernel)'), the script of L ints xs at the cell b, what the Statement gives of the start (any of its parts by flat_of_before) -/
def lw_At (p : Program) (s : State) (m : MethodId) (meth : Method) (c : Code) (b L : Nat) (xs : Nat → Int32) : Prop :=
  p.tables.exec = Jvm.exec ∧ c.code = code ∧ meth.sig.returnType = ret ∧ c.maxLocals = 4 ∧ s.vm.findClass R_law = some m.cls ∧ (∀ w ∈ lw_tbl, w.before #[Value.ref b] s = true) ∧ va_X b L xs s s.heap ∧ b < s.heap.size ∧ meth.locks = false ∧ (Jvm.Cond.and given_1 narrow_1).before #[Value.ref b] s = true
theorem over_spec {args : Array Value} {s : State} (h : (Cond.arrayOver (.array .int)).before args s = true) : ∃ (comp c : ClassId) (k : Class), s.vm.findClass "[I" = some comp ∧ s.vm.classes[c]? = some k ∧ k.kind = .array comp (.array .int) ∧ s.vm.findClass "[[I" = some c := by
  simp only [Cond.before, Cond.holds, Cond.value, beq_iff_eq] at h
  obtain ⟨comp, hc, h⟩ := Option.bind_eq_some_iff.mp h
  obtain ⟨c, hi, h⟩ := Option.bind_eq_some_iff.mp h
  obtain ⟨k, hk, h⟩ := Option.map_eq_some_iff.mp h
  obtain ⟨hlt, hp, -⟩ := Array.findIdx?_eq_some_iff_getElem.mp hi
  have hkk : s.vm.classes[c] = k := (Array.getElem?_eq_some_iff.mp hk).2
  rw [hkk] at hp
  cases hkind : k.kind with
  | array component ty =>
    rw [hkind] at h hp
    simp at h hp
    exact ⟨comp, c, k, hc, hk, by rw [hkind, hp, h.1], h.2⟩
  | _ => rw [hkind] at h; simp at h
/-- the classes, known at the law's start -/
theorem start_CK {s : State} {b : Nat} (hts : ∀ w ∈ lw_tbl, w.before #[Value.ref b] s = true) : ∃ (D : va_G) (cI cL : ClassId), CK D cI cL s := by
  obtain ⟨c0, i0, k0⟩ := u_known (C := RX0) (T := TX0) (N := 2) (n := 2) hts (fun w h => lw_all_tbl (in_X0 w h)) (hts _ (lw_all_tbl q12))
  obtain ⟨c1, i1, k1⟩ := u_known (C := RX1) (T := TX1) (N := 2) (n := 2) hts (fun w h => lw_all_tbl (in_X1 w h)) (hts _ (lw_all_tbl q20))
  obtain ⟨c2, i2, k2⟩ := u_known (C := RX2) (T := TX2) (N := 4) (n := 4) hts (fun w h => lw_all_tbl (in_X2 w h)) (hts _ (lw_all_tbl q37))
  obtain ⟨c3, i3, k3⟩ := u_known (C := RX3) (T := TX3) (N := 2) (n := 2) hts (fun w h => lw_all_tbl (in_X3 w h)) (hts _ (lw_all_tbl q136))
  obtain ⟨cI, kI, cc, hfI, hkI, hI⟩ := Cond.arrayClass_spec (hts _ (lw_all_tbl q35))
  obtain ⟨comp, cL, kL, hfc, hkL, hL, hfL⟩ := over_spec (hts _ q43)
  have hfI : s.vm.findClass "[I" = some cI := hfI
  cases hfI.symm.trans hfc
  refine ⟨(fun k => if k = 0 then c0 else if k = 1 then c1 else if k = 2 then c2 else c3, fun k => if k = 0 then i0 else if k = 1 then i1 else if k = 2 then i2 else i3), cI, cL, ⟨fun k q hq => ?_, fun k q hq => ?_⟩, ⟨va_Nw.of rfl (hts _ q26), va_Nw.of rfl (hts _ q29), va_Nw.of rfl (hts _ q28), va_Nw.of rfl (hts _ q21)⟩, kL, hkL, hL⟩
  · match k, hq with
    | 0, hq => cases hq; exact k0
    | 1, hq => cases hq; exact k1
    | 2, hq => cases hq; exact k2
    | 3, hq => cases hq; exact k3
    | k + 4, hq => simp [vwCl] at hq
  · match k, hq with
    | 0, hq => cases hq; exact ⟨fun n z => ⟨fun k h => (by cases h), kI, hkI, cc, hI⟩, hfI⟩
    | 1, hq => cases hq; exact ⟨fun n z => ⟨fun k h => (by cases h), kL, hkL, cI, hL⟩, hfL⟩
    | k + 2, hq => simp at hq
theorem CutP_one {w : Nat → Nat} {n x y : Nat} {r r' : Int32} (h : CutP w n x y r) (h' : CutP w n x y r') : r = r' := by
  rcases h with ⟨a, e⟩ | ⟨⟨a1, a2⟩, k, e, hB⟩ <;> rcases h' with ⟨a', e'⟩ | ⟨⟨a1', a2'⟩, k', e', hB'⟩
  · rw [e, e']
  · rcases a with q | q
    · exact absurd q a1'
    · rw [a2'] at q; cases q
  · rcases a' with q | q
    · exact absurd q a1
    · rw [a2] at q; cases q
  · rw [e, e', Best_one hB hB']
theorem FstP_one {w : Nat → Nat} {n x y : Nat} {r r' : Int32} (h : FstP w n x y r) (h' : FstP w n x y r') : r = r' := by
  rcases h with ⟨a, e⟩ | ⟨⟨a1, a2⟩, k, e, hB⟩ <;> rcases h' with ⟨a', e'⟩ | ⟨⟨a1', a2'⟩, k', e', hB'⟩
  · rw [e, e']
  · rcases a with q | q
    · exact absurd q a1'
    · rw [a2'] at q; cases q
  · rcases a' with q | q
    · exact absurd q a1
    · rw [a2] at q; cases q
  · rw [e, e', Fst_one hB hB']
theorem gates_one {z : Bool} {v r r' : Int32} (h : (z = false ∧ r = -1) ∨ (z = true ∧ r = v)) (h' : (z = false ∧ r' = -1) ∨ (z = true ∧ r' = v)) : r = r' := by
  rcases h with ⟨a, e⟩ | ⟨a, e⟩ <;> rcases h' with ⟨a', e'⟩ | ⟨a', e'⟩
  · rw [e, e']
  · rw [a] at a'; cases a'
  · rw [a] at a'; cases a'
  · rw [e, e']
theorem WF_zk (w : Nat → Nat) {n : Nat} (hn : n ≤ 8) : WF (zk 8 w) n := fun v hv => by
  unfold zk
  rw [if_pos (by omega)]; exact Nat.two_pow_pos n
theorem WF_rd {w : Nat → Nat} {n x y : Nat} (h : WF w n) (hx : x < n) (hy : y < n) : WF (if x = y then w else rdw w x y) n := fun v hv => by
  split
  · exact h v hv
  · unfold rdw
    split
    · exact or_lt (h x hx) (p2_lt hy)
    · exact h v hv
theorem WF_cl {w : Nat → Nat} {n x y : Nat} (h : WF w n) (hx : x < n) : WF (clw w x y) n := fun v hv => by
  unfold clw
  split
  · exact Nat.lt_of_le_of_lt (bd_le _ _) (h x hx)
  · exact h v hv
theorem FW.roads {cI cL : ClassId} {ad : Nat → Nat} {n n1 : Nat} {w w1 : Nat → Nat} {u u1 : va_W} {bf qu : Nat → Int32} {M : Nat → Nat → Int32} (h : FW cI cL ad n w u bf qu M) (h1 : u1[1]? = some (ad 1, .inr (1, [.ref (ad 2), .int (nI n1)]))) (h2 : u1[2]? = some (ad 2, .inl (cI, 8, .inl (fun j => nI (w1 j))))) (hk : ∀ k, (k ≠ 1 ∧ k ≠ 2) → u1[k]? = u[k]?) : FW cI cL ad n1 w1 u1 bf qu M :=
  ⟨h1, h2, (hk 3 (by decide)).trans h.2.2.1, (hk 4 (by decide)).trans h.2.2.2.1, (hk 21 (by decide)).trans h.2.2.2.2.1, (hk 22 (by decide)).trans h.2.2.2.2.2.1, fun i hi => (hk (5 + i) (by omega)).trans (h.row hi)⟩
theorem FW.keep {cI cL : ClassId} {ad : Nat → Nat} {n : Nat} {w : Nat → Nat} {u u1 : va_W} {bf qu : Nat → Int32} {M : Nat → Nat → Int32} (h : FW cI cL ad n w u bf qu M) (hk : ∀ k, k < 23 → u1[k]? = u[k]?) : FW cI cL ad n w u1 bf qu M :=
  ⟨(hk 1 (by decide)).trans h.1, (hk 2 (by decide)).trans h.2.1, (hk 3 (by decide)).trans h.2.2.1, (hk 4 (by decide)).trans h.2.2.2.1, (hk 21 (by decide)).trans h.2.2.2.2.1, (hk 22 (by decide)).trans h.2.2.2.2.2.1, fun i hi => (hk (5 + i) (by omega)).trans (h.row hi)⟩
theorem gt_iff {L i : Nat} (hL : L ≤ 192) (hi : i ≤ 192) : nI L - nI 3 < nI i ↔ L < i + 3 := by
  rw [Int32.lt_iff_toInt_lt, pk_sub_toInt (by omega) (by decide), nI_toInt (by omega)]
  omega
section TS
variable {p : Program} {l : Launch} {e : Env} {R : Room} {s : State} {m : MethodId} {args : Array Value} {below : List Frame} {meth : Method} {c : Code} {H : Heap} {locs : List Loc} {cells slots : Nat} {Q : State → Prop}
variable {cc : ByteArray} {pc : Nat} {ls : Array Slot} {rest : List Value} {A : Nat → Prop} {H0 : Heap}
theorem th_sld (hexec : p.tables.exec = Jvm.exec) (hb : c.code = cc) {b L : Nat} {xs : Nat → Int32} (hX : va_X b L xs s H0) (hbl : b < H0.size) (hbA : ¬ A b) (hS : va_S A H0 H locs) {k : Nat} (hk : k < L) (hL : L < 2 ^ 31) (hdg : decode cc pc = .ok (.iaload, 1))
    (kk : W p l e R s m args below meth c H locs cells slots Q (F0 m (pc + 1) ls (.int (xs k) :: rest))) : W p l e R s m args below meth c H locs cells slots Q (F0 m pc ls (.int (nI k) :: .ref b :: rest)) :=
  va_sld hexec hb hX hbl hbA hS (vp_in_nI hk hL) hdg (by rw [nI_clamp (Nat.lt_trans hk hL)]; exact kk)
end TS
set_option maxHeartbeats 8000000 in
set_option maxRecDepth 100000 in
/-- from the entry, for every script of at most 192 ints, the law comes to its end with true -/
theorem whole_start {p : Program} {e : Env} {s : State} {m : MethodId} {below : List Frame} {meth : Method} {c : Code} (l : Launch) {b L : Nat} {xs : Nat → Int32} (hL : L ≤ 192) (C0 : lw_At p s m meth c b L xs) : W p l e room_1 s m #[Value.ref b] below meth c s.heap [] 0 0 (lw_Z below #[Value.ref b] s) (entryFrame m ([Value.ref b] : List Value).toArray 4) := by
  obtain ⟨hx, hb, hr, hml, hown, hts0, hX, hbl, hlocks, hgv⟩ := id C0
  have hts : ∀ w ∈ lw_all, w.before #[Value.ref b] s = true := fun w h => hts0 w (lw_all_tbl h)
  have hA : ∀ q : Nat, s.heap.size ≤ q → (fun q : Nat => s.heap.size ≤ q) q := fun _ h => h
  have hbA : ¬ (fun q : Nat => s.heap.size ≤ q) b := Nat.not_le.mpr hbl
  obtain ⟨D, cI, cL, hC⟩ := start_CK hts0
  have lp : ∀ (ad am : Nat → Nat) (k : Nat) (i n : Nat) (w : Nat → Nat) (bf qu : Nat → Int32) (M : Nat → Nat → Int32) (u : va_W) (H : Heap) (locs : List Loc) (ls : Array Slot), L - i < k → (i ≤ L ∧ (2 ≤ n ∧ n ≤ 8) ∧ WF w n ∧ u[0]? = some (ad 0, .inr (0, [.ref (ad 1), .ref (ad 3)])) ∧ FW cI cL ad n w u bf qu M ∧ u[23]? = some (am 23, .inr (3, [.ref (am 24), .int (nI n)])) ∧ u[24]? = some (am 24, .inl (cI, 8, .inl (fun j => nI (w j))))) → va_P D vwCl u H → va_D (fun q : Nat => s.heap.size ≤ q) u → va_S (fun q : Nat => s.heap.size ≤ q) s.heap H locs → lv_has ls 4 [(0, .ref b), (1, .ref (ad 0)), (2, .ref (am 23)), (3, .int (nI i))] → W p l e room_1 s m #[Value.ref b] below meth c H locs 25 330 (lw_Z below #[Value.ref b] s) (F0 m 18 ls []) := by
    intro ad am k
    induction k with
    | zero => intro i n w bf qu M u H locs ls h; exact absurd h (Nat.not_lt_zero _)
    | succ k ih =>
      intro i n w bf qu M u H locs ls hk hq hP hD hS hl
      obtain ⟨hiL, ⟨hn2, hn8⟩, hw, h0, hF, h23, h24⟩ := hq
      have hn0 : 0 < n := by omega
      refine lv_iload_n hx hb dL_law_18 rfl (lv_at hl 3 rfl) ?_
      refine lv_aload_n hx hb dL_law_19 rfl (lv_at hl 0 rfl) ?_
      refine va_slen hx hb hX hbl hbA hS dL_law_20 ?_
      refine lv_iconst (v := nI 3) hx hb dL_law_21 (by decide) ?_
      refine lv_isub hx hb dL_law_22 ?_
      refine lv_icmp_gt (tgt := 306) hx hb dL_law_23 (by decide) (fun c_1 => ?_) (fun c_1 => ?_)
      · refine lv_iconst (v := 1) hx hb dL_law_306 (by decide) ?_
        refine va_forget (fun q hq => hS.2.2 q hq) ?_
        refine W.widen (k := 600000) (n := 7302249) (Nat.le_of_ble_eq_true rfl) (Nat.le_of_ble_eq_true rfl) ?_
        exact lw_ret hx hb hr hlocks dL_law_307
      · have hi3 : i + 3 ≤ L := Nat.le_of_not_lt (fun z => c_1 ((gt_iff hL (by omega)).mpr z))
        refine lv_aload_n hx hb dL_law_26 rfl (lv_at hl 0 rfl) ?_
        refine lv_iload_n hx hb dL_law_27 rfl (lv_at hl 3 rfl) ?_
        refine th_sld hx hb hX hbl hbA hS (k := i) (by omega) (by omega) dL_law_28 ?_
        refine lv_bipush (v := nI 7) hx hb dL_law_29 (by decide) ?_
        obtain ⟨j, hj, ej⟩ := pk_andE (xs i) (m := nI 7) 3 (by decide)
        refine lv_iand hx hb dL_law_31 (tp_ (z := nI j) ej ?_)
        obtain e1 | e1 | e1 | e1 | e1 | e1 | e1 | e1 : j = 0 ∨ j = 1 ∨ j = 2 ∨ j = 3 ∨ j = 4 ∨ j = 5 ∨ j = 6 ∨ j = 7 := by omega
        · subst e1
          refine lv_tableIn (off := 48) (tgt := 80) hx hb dL_law_32 (by decide) (by decide) (by decide) (by decide) ?_
          refine lv_aload_n hx hb dL_law_80 rfl (lv_at hl 1 rfl) ?_
          refine lv_aload_n hx hb dL_law_81 rfl (lv_at hl 0 rfl) ?_
          refine lv_iload_n hx hb dL_law_82 rfl (lv_at hl 3 rfl) ?_
          refine lv_iconst (v := nI 1) hx hb dL_law_83 (by decide) ?_
          refine lv_iadd hx hb dL_law_84 (tp_ (z := nI (i + 1)) (nI_add _ _) ?_)
          refine th_sld hx hb hX hbl hbA hS (k := (i + 1)) (by omega) (by omega) dL_law_85 ?_
          refine muVv (As := [.int (xs (i + 1))]) (rest := []) ⟨hx, hb, hml, hown, hts⟩ (metX0_places l D cI cL u _ ad n w h0 hF.1 hF.2.1 (xs (i + 1))) (cwV 1 hts (lw_V q68 q69 q70 q6 q71) rfl rfl rfl (by decide +kernel) ⟨Nat.le_of_ble_eq_true rfl, Nat.le_of_ble_eq_true rfl⟩) hC hP hD hS hA (va_recv hC.1 hP (ci := 0) (q0 := 0) rfl h0) rfl rfl hl.1 (Nat.le_of_ble_eq_true rfl) dL_law_86 ⟨Nat.le_of_ble_eq_true rfl, Nat.le_of_ble_eq_true rfl⟩ (fun u1 H locs hq hP hD hS => ?_)
          obtain ⟨g1, g2, hkp⟩ := hq
          have hF := hF.roads g1 g2 hkp
          have h0 := (hkp 0 (by decide)).trans h0
          have h23 := (hkp 23 (by decide)).trans h23
          have h24 := (hkp 24 (by decide)).trans h24
          refine lv_aload_n hx hb dL_law_89 rfl (lv_at hl 2 rfl) ?_
          refine lv_aload_n hx hb dL_law_90 rfl (lv_at hl 0 rfl) ?_
          refine lv_iload_n hx hb dL_law_91 rfl (lv_at hl 3 rfl) ?_
          refine lv_iconst (v := nI 1) hx hb dL_law_92 (by decide) ?_
          refine lv_iadd hx hb dL_law_93 (tp_ (z := nI (i + 1)) (nI_add _ _) ?_)
          refine th_sld hx hb hX hbl hbA hS (k := (i + 1)) (by omega) (by omega) dL_law_94 ?_
          refine muVv (As := [.int (xs (i + 1))]) (rest := []) ⟨hx, hb, hml, hown, hts⟩ (metX3_places l D cI cL u1 _ am w (nI n) h23 h24 (xs (i + 1))) (cwV 1 hts (lw_V q148 q149 q150 q9 q151) rfl rfl rfl (by decide +kernel) ⟨Nat.le_of_ble_eq_true rfl, Nat.le_of_ble_eq_true rfl⟩) hC hP hD hS hA (va_recv hC.1 hP (ci := 3) (q0 := 23) rfl h23) rfl rfl hl.1 (Nat.le_of_ble_eq_true rfl) dL_law_95 ⟨Nat.le_of_ble_eq_true rfl, Nat.le_of_ble_eq_true rfl⟩ (fun u2 H locs hq hP hD hS => ?_)
          obtain ⟨h23, h24, hkp2⟩ := hq
          have hF := hF.keep (fun k hk => hkp2 k (by omega))
          refine lv_goto (tgt := 300) hx hb dL_law_98 (by decide) ?_
          refine lv_iinc (v := nI (i + 3)) (lv' := [(3, .int (nI (i + 3))), (0, .ref b), (1, .ref (ad 0)), (2, .ref (am 23))]) hx hb dL_law_300 hl (k := 3) rfl (th_in3 _) (by decide) rfl (fun ls hl => ?_)
          refine lv_goto (tgt := 18) hx hb dL_law_303 (by decide) ?_
          exact ih (i + 3) _ _ bf qu M _ _ _ ls (by omega) ⟨hi3, np_ok _, WF_zk w (np_ok _).2, (hkp2 0 (by decide)).trans h0, hF, h23, h24⟩ hP hD hS (lv_sub hl [1, 2, 3, 0] rfl)
        · subst e1
          refine lv_tableIn (off := 69) (tgt := 101) hx hb dL_law_32 (by decide) (by decide) (by decide) (by decide) ?_
          refine lv_aload_n hx hb dL_law_101 rfl (lv_at hl 1 rfl) ?_
          refine lv_aload_n hx hb dL_law_102 rfl (lv_at hl 0 rfl) ?_
          refine lv_iload_n hx hb dL_law_103 rfl (lv_at hl 3 rfl) ?_
          refine lv_iconst (v := nI 1) hx hb dL_law_104 (by decide) ?_
          refine lv_iadd hx hb dL_law_105 (tp_ (z := nI (i + 1)) (nI_add _ _) ?_)
          refine th_sld hx hb hX hbl hbA hS (k := (i + 1)) (by omega) (by omega) dL_law_106 ?_
          refine lv_aload_n hx hb dL_law_107 rfl (lv_at hl 0 rfl) ?_
          refine lv_iload_n hx hb dL_law_108 rfl (lv_at hl 3 rfl) ?_
          refine lv_iconst (v := nI 2) hx hb dL_law_109 (by decide) ?_
          refine lv_iadd hx hb dL_law_110 (tp_ (z := nI (i + 2)) (nI_add _ _) ?_)
          refine th_sld hx hb hX hbl hbA hS (k := (i + 2)) (by omega) (by omega) dL_law_111 ?_
          refine muVi (As := [.int (xs (i + 1)), .int (xs (i + 2))]) (rest := []) ⟨hx, hb, hml, hown, hts⟩ (metX0_road l D cI cL u _ ad n w h0 hF.1 hF.2.1 hn0 hn8 hw (xs (i + 1)) (xs (i + 2))) (cwV 2 hts (lw_V q73 q74 q75 q6 q76) rfl rfl rfl (by decide +kernel) ⟨Nat.le_of_ble_eq_true rfl, Nat.le_of_ble_eq_true rfl⟩) hC hP hD hS hA (va_recv hC.1 hP (ci := 0) (q0 := 0) rfl h0) rfl rfl hl.1 (Nat.le_of_ble_eq_true rfl) dL_law_112 ⟨Nat.le_of_ble_eq_true rfl, Nat.le_of_ble_eq_true rfl⟩ (fun r1 u1 H locs hq hP hD hS => ?_)
          obtain ⟨er1, g2, hkp⟩ := hq
          have h0 := (hkp 0 (by decide)).trans h0
          have h23 := (hkp 23 (by decide)).trans h23
          have h24 := (hkp 24 (by decide)).trans h24
          have hF := hF.roads ((hkp 1 (by decide)).trans hF.1) g2 (fun k hk => hkp k hk.2)
          refine lv_aload_n hx hb dL_law_115 rfl (lv_at hl 2 rfl) ?_
          refine lv_aload_n hx hb dL_law_116 rfl (lv_at hl 0 rfl) ?_
          refine lv_iload_n hx hb dL_law_117 rfl (lv_at hl 3 rfl) ?_
          refine lv_iconst (v := nI 1) hx hb dL_law_118 (by decide) ?_
          refine lv_iadd hx hb dL_law_119 (tp_ (z := nI (i + 1)) (nI_add _ _) ?_)
          refine th_sld hx hb hX hbl hbA hS (k := (i + 1)) (by omega) (by omega) dL_law_120 ?_
          refine lv_aload_n hx hb dL_law_121 rfl (lv_at hl 0 rfl) ?_
          refine lv_iload_n hx hb dL_law_122 rfl (lv_at hl 3 rfl) ?_
          refine lv_iconst (v := nI 2) hx hb dL_law_123 (by decide) ?_
          refine lv_iadd hx hb dL_law_124 (tp_ (z := nI (i + 2)) (nI_add _ _) ?_)
          refine th_sld hx hb hX hbl hbA hS (k := (i + 2)) (by omega) (by omega) dL_law_125 ?_
          refine muVi (As := [.int (xs (i + 1)), .int (xs (i + 2))]) (rest := [.int r1]) ⟨hx, hb, hml, hown, hts⟩ (metX3_road l D cI cL u1 _ am n w h23 h24 hn0 hn8 hw (xs (i + 1)) (xs (i + 2))) (cwV 2 hts (lw_V q153 q154 q155 q9 q156) rfl rfl rfl (by decide +kernel) ⟨Nat.le_of_ble_eq_true rfl, Nat.le_of_ble_eq_true rfl⟩) hC hP hD hS hA (va_recv hC.1 hP (ci := 3) (q0 := 23) rfl h23) rfl rfl hl.1 (Nat.le_of_ble_eq_true rfl) dL_law_126 ⟨Nat.le_of_ble_eq_true rfl, Nat.le_of_ble_eq_true rfl⟩ (fun r2 u2 H locs hq hP hD hS => ?_)
          obtain ⟨er2, h24, hkp2⟩ := hq
          have hF := hF.keep (fun k hk => hkp2 k (by omega))
          have h23 := (hkp2 23 (by decide)).trans h23
          have h0 := (hkp2 0 (by decide)).trans h0
          refine lv_icmp_eq (tgt := 300) hx hb dL_law_129 (by decide) (fun c_2 => ?_) (fun c_2 => ?_)
          · refine lv_iinc (v := nI (i + 3)) (lv' := [(3, .int (nI (i + 3))), (0, .ref b), (1, .ref (ad 0)), (2, .ref (am 23))]) hx hb dL_law_300 hl (k := 3) rfl (th_in3 _) (by decide) rfl (fun ls hl => ?_)
            refine lv_goto (tgt := 18) hx hb dL_law_303 (by decide) ?_
            exact ih (i + 3) n _ bf qu M _ _ _ ls (by omega) ⟨hi3, ⟨hn2, hn8⟩, WF_rd hw (plc_lt _ hn0) (plc_lt _ hn0), h0, hF, h23, h24⟩ hP hD hS (lv_sub hl [1, 2, 3, 0] rfl)
          · exact absurd (er1.trans er2.symm) c_2
        · subst e1
          refine lv_tableIn (off := 102) (tgt := 134) hx hb dL_law_32 (by decide) (by decide) (by decide) (by decide) ?_
          refine lv_aload_n hx hb dL_law_134 rfl (lv_at hl 1 rfl) ?_
          refine lv_aload_n hx hb dL_law_135 rfl (lv_at hl 0 rfl) ?_
          refine lv_iload_n hx hb dL_law_136 rfl (lv_at hl 3 rfl) ?_
          refine lv_iconst (v := nI 1) hx hb dL_law_137 (by decide) ?_
          refine lv_iadd hx hb dL_law_138 (tp_ (z := nI (i + 1)) (nI_add _ _) ?_)
          refine th_sld hx hb hX hbl hbA hS (k := (i + 1)) (by omega) (by omega) dL_law_139 ?_
          refine lv_aload_n hx hb dL_law_140 rfl (lv_at hl 0 rfl) ?_
          refine lv_iload_n hx hb dL_law_141 rfl (lv_at hl 3 rfl) ?_
          refine lv_iconst (v := nI 2) hx hb dL_law_142 (by decide) ?_
          refine lv_iadd hx hb dL_law_143 (tp_ (z := nI (i + 2)) (nI_add _ _) ?_)
          refine th_sld hx hb hX hbl hbA hS (k := (i + 2)) (by omega) (by omega) dL_law_144 ?_
          refine muVv (As := [.int (xs (i + 1)), .int (xs (i + 2))]) (rest := []) ⟨hx, hb, hml, hown, hts⟩ (metX0_close l D cI cL u _ ad n w h0 hF.1 hF.2.1 hn0 hn8 hw (xs (i + 1)) (xs (i + 2))) (cwV 2 hts (lw_V q82 q83 q84 q6 q85) rfl rfl rfl (by decide +kernel) ⟨Nat.le_of_ble_eq_true rfl, Nat.le_of_ble_eq_true rfl⟩) hC hP hD hS hA (va_recv hC.1 hP (ci := 0) (q0 := 0) rfl h0) rfl rfl hl.1 (Nat.le_of_ble_eq_true rfl) dL_law_145 ⟨Nat.le_of_ble_eq_true rfl, Nat.le_of_ble_eq_true rfl⟩ (fun u1 H locs hq hP hD hS => ?_)
          obtain ⟨g2, hkp⟩ := hq
          have h0 := (hkp 0 (by decide)).trans h0
          have h23 := (hkp 23 (by decide)).trans h23
          have h24 := (hkp 24 (by decide)).trans h24
          have hF := hF.roads ((hkp 1 (by decide)).trans hF.1) g2 (fun k hk => hkp k hk.2)
          refine lv_aload_n hx hb dL_law_148 rfl (lv_at hl 2 rfl) ?_
          refine lv_aload_n hx hb dL_law_149 rfl (lv_at hl 0 rfl) ?_
          refine lv_iload_n hx hb dL_law_150 rfl (lv_at hl 3 rfl) ?_
          refine lv_iconst (v := nI 1) hx hb dL_law_151 (by decide) ?_
          refine lv_iadd hx hb dL_law_152 (tp_ (z := nI (i + 1)) (nI_add _ _) ?_)
          refine th_sld hx hb hX hbl hbA hS (k := (i + 1)) (by omega) (by omega) dL_law_153 ?_
          refine lv_aload_n hx hb dL_law_154 rfl (lv_at hl 0 rfl) ?_
          refine lv_iload_n hx hb dL_law_155 rfl (lv_at hl 3 rfl) ?_
          refine lv_iconst (v := nI 2) hx hb dL_law_156 (by decide) ?_
          refine lv_iadd hx hb dL_law_157 (tp_ (z := nI (i + 2)) (nI_add _ _) ?_)
          refine th_sld hx hb hX hbl hbA hS (k := (i + 2)) (by omega) (by omega) dL_law_158 ?_
          refine muVv (As := [.int (xs (i + 1)), .int (xs (i + 2))]) (rest := []) ⟨hx, hb, hml, hown, hts⟩ (metX3_close l D cI cL u1 _ am n w h23 h24 hn0 hn8 hw (xs (i + 1)) (xs (i + 2))) (cwV 2 hts (lw_V q161 q162 q163 q9 q164) rfl rfl rfl (by decide +kernel) ⟨Nat.le_of_ble_eq_true rfl, Nat.le_of_ble_eq_true rfl⟩) hC hP hD hS hA (va_recv hC.1 hP (ci := 3) (q0 := 23) rfl h23) rfl rfl hl.1 (Nat.le_of_ble_eq_true rfl) dL_law_159 ⟨Nat.le_of_ble_eq_true rfl, Nat.le_of_ble_eq_true rfl⟩ (fun u2 H locs hq hP hD hS => ?_)
          obtain ⟨h24, hkp2⟩ := hq
          have hF := hF.keep (fun k hk => hkp2 k (by omega))
          have h23 := (hkp2 23 (by decide)).trans h23
          have h0 := (hkp2 0 (by decide)).trans h0
          refine lv_goto (tgt := 300) hx hb dL_law_162 (by decide) ?_
          refine lv_iinc (v := nI (i + 3)) (lv' := [(3, .int (nI (i + 3))), (0, .ref b), (1, .ref (ad 0)), (2, .ref (am 23))]) hx hb dL_law_300 hl (k := 3) rfl (th_in3 _) (by decide) rfl (fun ls hl => ?_)
          refine lv_goto (tgt := 18) hx hb dL_law_303 (by decide) ?_
          exact ih (i + 3) n _ bf qu M _ _ _ ls (by omega) ⟨hi3, ⟨hn2, hn8⟩, WF_cl hw (plc_lt _ hn0), h0, hF, h23, h24⟩ hP hD hS (lv_sub hl [1, 2, 3, 0] rfl)
        · subst e1
          refine lv_tableIn (off := 133) (tgt := 165) hx hb dL_law_32 (by decide) (by decide) (by decide) (by decide) ?_
          refine lv_aload_n hx hb dL_law_165 rfl (lv_at hl 1 rfl) ?_
          refine lv_aload_n hx hb dL_law_166 rfl (lv_at hl 0 rfl) ?_
          refine lv_iload_n hx hb dL_law_167 rfl (lv_at hl 3 rfl) ?_
          refine lv_iconst (v := nI 1) hx hb dL_law_168 (by decide) ?_
          refine lv_iadd hx hb dL_law_169 (tp_ (z := nI (i + 1)) (nI_add _ _) ?_)
          refine th_sld hx hb hX hbl hbA hS (k := (i + 1)) (by omega) (by omega) dL_law_170 ?_
          refine lv_aload_n hx hb dL_law_171 rfl (lv_at hl 0 rfl) ?_
          refine lv_iload_n hx hb dL_law_172 rfl (lv_at hl 3 rfl) ?_
          refine lv_iconst (v := nI 2) hx hb dL_law_173 (by decide) ?_
          refine lv_iadd hx hb dL_law_174 (tp_ (z := nI (i + 2)) (nI_add _ _) ?_)
          refine th_sld hx hb hX hbl hbA hS (k := (i + 2)) (by omega) (by omega) dL_law_175 ?_
          refine muVi (As := [.int (xs (i + 1)), .int (xs (i + 2))]) (rest := []) ⟨hx, hb, hml, hown, hts⟩ (metX0_cut l D cI cL u _ ad n w bf qu M h0 hF hn0 hn8 hw (xs (i + 1)) (xs (i + 2))) (cwV 2 hts (lw_V q86 q87 q88 q6 q89) rfl rfl rfl (by decide +kernel) ⟨Nat.le_of_ble_eq_true rfl, Nat.le_of_ble_eq_true rfl⟩) hC hP hD hS hA (va_recv hC.1 hP (ci := 0) (q0 := 0) rfl h0) rfl rfl hl.1 (Nat.le_of_ble_eq_true rfl) dL_law_176 ⟨Nat.le_of_ble_eq_true rfl, Nat.le_of_ble_eq_true rfl⟩ (fun r1 u1 H locs hq hP hD hS => ?_)
          obtain ⟨hr1, bf2, qu2, M2, hF2, hkf⟩ := hq
          have h0 := (hkf 0 (by omega)).trans h0
          have h23 := (hkf 23 (by omega)).trans h23
          have h24 := (hkf 24 (by omega)).trans h24
          refine lv_aload_n hx hb dL_law_179 rfl (lv_at hl 2 rfl) ?_
          refine lv_aload_n hx hb dL_law_180 rfl (lv_at hl 0 rfl) ?_
          refine lv_iload_n hx hb dL_law_181 rfl (lv_at hl 3 rfl) ?_
          refine lv_iconst (v := nI 1) hx hb dL_law_182 (by decide) ?_
          refine lv_iadd hx hb dL_law_183 (tp_ (z := nI (i + 1)) (nI_add _ _) ?_)
          refine th_sld hx hb hX hbl hbA hS (k := (i + 1)) (by omega) (by omega) dL_law_184 ?_
          refine lv_aload_n hx hb dL_law_185 rfl (lv_at hl 0 rfl) ?_
          refine lv_iload_n hx hb dL_law_186 rfl (lv_at hl 3 rfl) ?_
          refine lv_iconst (v := nI 2) hx hb dL_law_187 (by decide) ?_
          refine lv_iadd hx hb dL_law_188 (tp_ (z := nI (i + 2)) (nI_add _ _) ?_)
          refine th_sld hx hb hX hbl hbA hS (k := (i + 2)) (by omega) (by omega) dL_law_189 ?_
          refine rdV (As := [.int (xs (i + 1)), .int (xs (i + 2))]) (rest := [.int r1]) ⟨hx, hb, hml, hown, hts⟩ (metX3_cut l D cI cL u1 am n w h23 h24 hn0 hn8 hw (xs (i + 1)) (xs (i + 2))) (cwV 2 hts (lw_V q165 q166 q167 q9 q168) rfl rfl rfl (by decide +kernel) ⟨Nat.le_of_ble_eq_true rfl, Nat.le_of_ble_eq_true rfl⟩) hC hP (va_recv hC.1 hP (ci := 3) (q0 := 23) rfl h23) rfl rfl hl.1 (Nat.le_of_ble_eq_true rfl) dL_law_190 ⟨Nat.le_of_ble_eq_true rfl, Nat.le_of_ble_eq_true rfl⟩ (fun r2 hr2 => ?_)
          refine lv_icmp_eq (tgt := 300) hx hb dL_law_193 (by decide) (fun c_2 => ?_) (fun c_2 => ?_)
          · refine lv_iinc (v := nI (i + 3)) (lv' := [(3, .int (nI (i + 3))), (0, .ref b), (1, .ref (ad 0)), (2, .ref (am 23))]) hx hb dL_law_300 hl (k := 3) rfl (th_in3 _) (by decide) rfl (fun ls hl => ?_)
            refine lv_goto (tgt := 18) hx hb dL_law_303 (by decide) ?_
            exact ih (i + 3) n w bf2 qu2 M2 _ _ _ ls (by omega) ⟨hi3, ⟨hn2, hn8⟩, hw, h0, hF2, h23, h24⟩ hP hD hS (lv_sub hl [1, 2, 3, 0] rfl)
          · exact absurd (CutP_one hr1 hr2) c_2
        · subst e1
          refine lv_tableIn (off := 166) (tgt := 198) hx hb dL_law_32 (by decide) (by decide) (by decide) (by decide) ?_
          refine lv_aload_n hx hb dL_law_198 rfl (lv_at hl 1 rfl) ?_
          refine lv_aload_n hx hb dL_law_199 rfl (lv_at hl 0 rfl) ?_
          refine lv_iload_n hx hb dL_law_200 rfl (lv_at hl 3 rfl) ?_
          refine lv_iconst (v := nI 1) hx hb dL_law_201 (by decide) ?_
          refine lv_iadd hx hb dL_law_202 (tp_ (z := nI (i + 1)) (nI_add _ _) ?_)
          refine th_sld hx hb hX hbl hbA hS (k := (i + 1)) (by omega) (by omega) dL_law_203 ?_
          refine lv_aload_n hx hb dL_law_204 rfl (lv_at hl 0 rfl) ?_
          refine lv_iload_n hx hb dL_law_205 rfl (lv_at hl 3 rfl) ?_
          refine lv_iconst (v := nI 2) hx hb dL_law_206 (by decide) ?_
          refine lv_iadd hx hb dL_law_207 (tp_ (z := nI (i + 2)) (nI_add _ _) ?_)
          refine th_sld hx hb hX hbl hbA hS (k := (i + 2)) (by omega) (by omega) dL_law_208 ?_
          refine muVi (As := [.int (xs (i + 1)), .int (xs (i + 2))]) (rest := []) ⟨hx, hb, hml, hown, hts⟩ (metX0_first l D cI cL u _ ad n w bf qu M h0 hF hn0 hn8 hw (xs (i + 1)) (xs (i + 2))) (cwV 2 hts (lw_V q111 q112 q113 q6 q114) rfl rfl rfl (by decide +kernel) ⟨Nat.le_of_ble_eq_true rfl, Nat.le_of_ble_eq_true rfl⟩) hC hP hD hS hA (va_recv hC.1 hP (ci := 0) (q0 := 0) rfl h0) rfl rfl hl.1 (Nat.le_of_ble_eq_true rfl) dL_law_209 ⟨Nat.le_of_ble_eq_true rfl, Nat.le_of_ble_eq_true rfl⟩ (fun r1 u1 H locs hq hP hD hS => ?_)
          obtain ⟨hr1, bf2, qu2, M2, hF2, hkf⟩ := hq
          have h0 := (hkf 0 (by omega)).trans h0
          have h23 := (hkf 23 (by omega)).trans h23
          have h24 := (hkf 24 (by omega)).trans h24
          refine lv_aload_n hx hb dL_law_212 rfl (lv_at hl 2 rfl) ?_
          refine lv_aload_n hx hb dL_law_213 rfl (lv_at hl 0 rfl) ?_
          refine lv_iload_n hx hb dL_law_214 rfl (lv_at hl 3 rfl) ?_
          refine lv_iconst (v := nI 1) hx hb dL_law_215 (by decide) ?_
          refine lv_iadd hx hb dL_law_216 (tp_ (z := nI (i + 1)) (nI_add _ _) ?_)
          refine th_sld hx hb hX hbl hbA hS (k := (i + 1)) (by omega) (by omega) dL_law_217 ?_
          refine lv_aload_n hx hb dL_law_218 rfl (lv_at hl 0 rfl) ?_
          refine lv_iload_n hx hb dL_law_219 rfl (lv_at hl 3 rfl) ?_
          refine lv_iconst (v := nI 2) hx hb dL_law_220 (by decide) ?_
          refine lv_iadd hx hb dL_law_221 (tp_ (z := nI (i + 2)) (nI_add _ _) ?_)
          refine th_sld hx hb hX hbl hbA hS (k := (i + 2)) (by omega) (by omega) dL_law_222 ?_
          refine rdV (As := [.int (xs (i + 1)), .int (xs (i + 2))]) (rest := [.int r1]) ⟨hx, hb, hml, hown, hts⟩ (metX3_first l D cI cL u1 am n w h23 h24 hn0 hn8 hw (xs (i + 1)) (xs (i + 2))) (cwV 2 hts (lw_V q176 q177 q178 q9 q179) rfl rfl rfl (by decide +kernel) ⟨Nat.le_of_ble_eq_true rfl, Nat.le_of_ble_eq_true rfl⟩) hC hP (va_recv hC.1 hP (ci := 3) (q0 := 23) rfl h23) rfl rfl hl.1 (Nat.le_of_ble_eq_true rfl) dL_law_223 ⟨Nat.le_of_ble_eq_true rfl, Nat.le_of_ble_eq_true rfl⟩ (fun r2 hr2 => ?_)
          refine lv_icmp_eq (tgt := 300) hx hb dL_law_226 (by decide) (fun c_2 => ?_) (fun c_2 => ?_)
          · refine lv_iinc (v := nI (i + 3)) (lv' := [(3, .int (nI (i + 3))), (0, .ref b), (1, .ref (ad 0)), (2, .ref (am 23))]) hx hb dL_law_300 hl (k := 3) rfl (th_in3 _) (by decide) rfl (fun ls hl => ?_)
            refine lv_goto (tgt := 18) hx hb dL_law_303 (by decide) ?_
            exact ih (i + 3) n w bf2 qu2 M2 _ _ _ ls (by omega) ⟨hi3, ⟨hn2, hn8⟩, hw, h0, hF2, h23, h24⟩ hP hD hS (lv_sub hl [1, 2, 3, 0] rfl)
          · exact absurd (FstP_one hr1 hr2) c_2
        · subst e1
          refine lv_tableIn (off := 199) (tgt := 231) hx hb dL_law_32 (by decide) (by decide) (by decide) (by decide) ?_
          refine lv_aload_n hx hb dL_law_231 rfl (lv_at hl 1 rfl) ?_
          refine lv_aload_n hx hb dL_law_232 rfl (lv_at hl 0 rfl) ?_
          refine lv_iload_n hx hb dL_law_233 rfl (lv_at hl 3 rfl) ?_
          refine lv_iconst (v := nI 1) hx hb dL_law_234 (by decide) ?_
          refine lv_iadd hx hb dL_law_235 (tp_ (z := nI (i + 1)) (nI_add _ _) ?_)
          refine th_sld hx hb hX hbl hbA hS (k := (i + 1)) (by omega) (by omega) dL_law_236 ?_
          refine rdV (As := [.int (xs (i + 1))]) (rest := []) ⟨hx, hb, hml, hown, hts⟩ (metX0_reached l D cI cL u ad n w h0 hF.1 hF.2.1 hn0 hn8 hw (xs (i + 1))) (cwV 1 hts (lw_V q115 q116 q117 q6 q118) rfl rfl rfl (by decide +kernel) ⟨Nat.le_of_ble_eq_true rfl, Nat.le_of_ble_eq_true rfl⟩) hC hP (va_recv hC.1 hP (ci := 0) (q0 := 0) rfl h0) rfl rfl hl.1 (Nat.le_of_ble_eq_true rfl) dL_law_237 ⟨Nat.le_of_ble_eq_true rfl, Nat.le_of_ble_eq_true rfl⟩ (fun r1 hr1 => ?_)
          refine lv_aload_n hx hb dL_law_240 rfl (lv_at hl 2 rfl) ?_
          refine lv_aload_n hx hb dL_law_241 rfl (lv_at hl 0 rfl) ?_
          refine lv_iload_n hx hb dL_law_242 rfl (lv_at hl 3 rfl) ?_
          refine lv_iconst (v := nI 1) hx hb dL_law_243 (by decide) ?_
          refine lv_iadd hx hb dL_law_244 (tp_ (z := nI (i + 1)) (nI_add _ _) ?_)
          refine th_sld hx hb hX hbl hbA hS (k := (i + 1)) (by omega) (by omega) dL_law_245 ?_
          refine rdV (As := [.int (xs (i + 1))]) (rest := [.int r1]) ⟨hx, hb, hml, hown, hts⟩ (metX3_reached l D cI cL u am n w h23 h24 hn0 hn8 hw (xs (i + 1))) (cwV 1 hts (lw_V q181 q182 q183 q9 q184) rfl rfl rfl (by decide +kernel) ⟨Nat.le_of_ble_eq_true rfl, Nat.le_of_ble_eq_true rfl⟩) hC hP (va_recv hC.1 hP (ci := 3) (q0 := 23) rfl h23) rfl rfl hl.1 (Nat.le_of_ble_eq_true rfl) dL_law_246 ⟨Nat.le_of_ble_eq_true rfl, Nat.le_of_ble_eq_true rfl⟩ (fun r2 hr2 => ?_)
          refine lv_icmp_eq (tgt := 300) hx hb dL_law_249 (by decide) (fun c_2 => ?_) (fun c_2 => ?_)
          · refine lv_iinc (v := nI (i + 3)) (lv' := [(3, .int (nI (i + 3))), (0, .ref b), (1, .ref (ad 0)), (2, .ref (am 23))]) hx hb dL_law_300 hl (k := 3) rfl (th_in3 _) (by decide) rfl (fun ls hl => ?_)
            refine lv_goto (tgt := 18) hx hb dL_law_303 (by decide) ?_
            exact ih (i + 3) n w bf qu M _ _ _ ls (by omega) ⟨hi3, ⟨hn2, hn8⟩, hw, h0, hF, h23, h24⟩ hP hD hS (lv_sub hl [1, 2, 3, 0] rfl)
          · exact absurd (hr1.trans hr2.symm) c_2
        · subst e1
          refine lv_tableIn (off := 222) (tgt := 254) hx hb dL_law_32 (by decide) (by decide) (by decide) (by decide) ?_
          refine lv_aload_n hx hb dL_law_254 rfl (lv_at hl 1 rfl) ?_
          refine lv_aload_n hx hb dL_law_255 rfl (lv_at hl 0 rfl) ?_
          refine lv_iload_n hx hb dL_law_256 rfl (lv_at hl 3 rfl) ?_
          refine lv_iconst (v := nI 1) hx hb dL_law_257 (by decide) ?_
          refine lv_iadd hx hb dL_law_258 (tp_ (z := nI (i + 1)) (nI_add _ _) ?_)
          refine th_sld hx hb hX hbl hbA hS (k := (i + 1)) (by omega) (by omega) dL_law_259 ?_
          refine lv_aload_n hx hb dL_law_260 rfl (lv_at hl 0 rfl) ?_
          refine lv_iload_n hx hb dL_law_261 rfl (lv_at hl 3 rfl) ?_
          refine lv_iconst (v := nI 2) hx hb dL_law_262 (by decide) ?_
          refine lv_iadd hx hb dL_law_263 (tp_ (z := nI (i + 2)) (nI_add _ _) ?_)
          refine th_sld hx hb hX hbl hbA hS (k := (i + 2)) (by omega) (by omega) dL_law_264 ?_
          refine rdV (As := [.int (xs (i + 1)), .int (xs (i + 2))]) (rest := []) ⟨hx, hb, hml, hown, hts⟩ (metX0_gates l D cI cL u ad n w h0 hF.1 hF.2.1 hn0 hn8 hw (xs (i + 1)) (xs (i + 2))) (cwV 2 hts (lw_V q127 q128 q129 q6 q130) rfl rfl rfl (by decide +kernel) ⟨Nat.le_of_ble_eq_true rfl, Nat.le_of_ble_eq_true rfl⟩) hC hP (va_recv hC.1 hP (ci := 0) (q0 := 0) rfl h0) rfl rfl hl.1 (Nat.le_of_ble_eq_true rfl) dL_law_265 ⟨Nat.le_of_ble_eq_true rfl, Nat.le_of_ble_eq_true rfl⟩ (fun r1 hr1 => ?_)
          refine lv_aload_n hx hb dL_law_268 rfl (lv_at hl 2 rfl) ?_
          refine lv_aload_n hx hb dL_law_269 rfl (lv_at hl 0 rfl) ?_
          refine lv_iload_n hx hb dL_law_270 rfl (lv_at hl 3 rfl) ?_
          refine lv_iconst (v := nI 1) hx hb dL_law_271 (by decide) ?_
          refine lv_iadd hx hb dL_law_272 (tp_ (z := nI (i + 1)) (nI_add _ _) ?_)
          refine th_sld hx hb hX hbl hbA hS (k := (i + 1)) (by omega) (by omega) dL_law_273 ?_
          refine lv_aload_n hx hb dL_law_274 rfl (lv_at hl 0 rfl) ?_
          refine lv_iload_n hx hb dL_law_275 rfl (lv_at hl 3 rfl) ?_
          refine lv_iconst (v := nI 2) hx hb dL_law_276 (by decide) ?_
          refine lv_iadd hx hb dL_law_277 (tp_ (z := nI (i + 2)) (nI_add _ _) ?_)
          refine th_sld hx hb hX hbl hbA hS (k := (i + 2)) (by omega) (by omega) dL_law_278 ?_
          refine rdV (As := [.int (xs (i + 1)), .int (xs (i + 2))]) (rest := [.int r1]) ⟨hx, hb, hml, hown, hts⟩ (metX3_gates l D cI cL u am n w h23 h24 hn0 hn8 hw (xs (i + 1)) (xs (i + 2))) (cwV 2 hts (lw_V q185 q186 q187 q9 q188) rfl rfl rfl (by decide +kernel) ⟨Nat.le_of_ble_eq_true rfl, Nat.le_of_ble_eq_true rfl⟩) hC hP (va_recv hC.1 hP (ci := 3) (q0 := 23) rfl h23) rfl rfl hl.1 (Nat.le_of_ble_eq_true rfl) dL_law_279 ⟨Nat.le_of_ble_eq_true rfl, Nat.le_of_ble_eq_true rfl⟩ (fun r2 hr2 => ?_)
          refine lv_icmp_eq (tgt := 300) hx hb dL_law_282 (by decide) (fun c_2 => ?_) (fun c_2 => ?_)
          · refine lv_iinc (v := nI (i + 3)) (lv' := [(3, .int (nI (i + 3))), (0, .ref b), (1, .ref (ad 0)), (2, .ref (am 23))]) hx hb dL_law_300 hl (k := 3) rfl (th_in3 _) (by decide) rfl (fun ls hl => ?_)
            refine lv_goto (tgt := 18) hx hb dL_law_303 (by decide) ?_
            exact ih (i + 3) n w bf qu M _ _ _ ls (by omega) ⟨hi3, ⟨hn2, hn8⟩, hw, h0, hF, h23, h24⟩ hP hD hS (lv_sub hl [1, 2, 3, 0] rfl)
          · exact absurd (gates_one hr1 hr2) c_2
        · subst e1
          refine lv_tableIn (off := 255) (tgt := 287) hx hb dL_law_32 (by decide) (by decide) (by decide) (by decide) ?_
          refine lv_aload_n hx hb dL_law_287 rfl (lv_at hl 1 rfl) ?_
          refine rdV (As := []) (rest := []) ⟨hx, hb, hml, hown, hts⟩ (metX0_rings l D cI cL u ad n w h0 hF.1 hF.2.1 hn0 hn8 hw) (cwV 0 hts (lw_V q131 q132 q133 q6 q134) rfl rfl rfl (by decide +kernel) ⟨Nat.le_of_ble_eq_true rfl, Nat.le_of_ble_eq_true rfl⟩) hC hP (va_recv hC.1 hP (ci := 0) (q0 := 0) rfl h0) rfl rfl hl.1 (Nat.le_of_ble_eq_true rfl) dL_law_288 ⟨Nat.le_of_ble_eq_true rfl, Nat.le_of_ble_eq_true rfl⟩ (fun r1 hr1 => ?_)
          refine lv_aload_n hx hb dL_law_291 rfl (lv_at hl 2 rfl) ?_
          refine rdV (As := []) (rest := [.int r1]) ⟨hx, hb, hml, hown, hts⟩ (metX3_rings l D cI cL u am n w h23 h24 hn0 hn8 hw) (cwV 0 hts (lw_V q189 q190 q191 q9 q192) rfl rfl rfl (by decide +kernel) ⟨Nat.le_of_ble_eq_true rfl, Nat.le_of_ble_eq_true rfl⟩) hC hP (va_recv hC.1 hP (ci := 3) (q0 := 23) rfl h23) rfl rfl hl.1 (Nat.le_of_ble_eq_true rfl) dL_law_292 ⟨Nat.le_of_ble_eq_true rfl, Nat.le_of_ble_eq_true rfl⟩ (fun r2 hr2 => ?_)
          refine lv_icmp_eq (tgt := 300) hx hb dL_law_295 (by decide) (fun c_2 => ?_) (fun c_2 => ?_)
          · refine lv_iinc (v := nI (i + 3)) (lv' := [(3, .int (nI (i + 3))), (0, .ref b), (1, .ref (ad 0)), (2, .ref (am 23))]) hx hb dL_law_300 hl (k := 3) rfl (th_in3 _) (by decide) rfl (fun ls hl => ?_)
            refine lv_goto (tgt := 18) hx hb dL_law_303 (by decide) ?_
            exact ih (i + 3) n w bf qu M _ _ _ ls (by omega) ⟨hi3, ⟨hn2, hn8⟩, hw, h0, hF, h23, h24⟩ hP hD hS (lv_sub hl [1, 2, 3, 0] rfl)
          · exact absurd (hr1.trans hr2.symm) c_2
  have hS : va_S (fun q : Nat => s.heap.size ≤ q) s.heap s.heap [] := va_S.rf
  have hP : va_P D vwCl [] s.heap := fun k q h => by simp at h
  have hD : va_D (fun q : Nat => s.heap.size ≤ q) [] := ⟨fun i j p q h => by simp at h, fun k q h => by simp at h⟩
  have hl := lv_entry ([.ref b]) (n := 4) (Nat.le_of_ble_eq_true rfl)
  rw [lg_entry_eq]
  generalize (lg_sl ([.ref b]) ++ List.replicate (4 - (lg_sl ([.ref b])).length) Slot.unset).toArray = ls at hl ⊢
  have hl : lv_has ls 4 [(0, .ref b)] := hl
  refine va_new (ci := 0) (fs := [.null, .null]) (C := RX0) (T := TX0) (N := 2) hx hb hts in_X0 tyX0 tyX0_ok hown (hts _ q11) (hts _ q12) (hts _ q6) hC.1 hP hD hS hA rfl (fun j hj => by rcases (show j = 0 ∨ j = 1 by omega) with rfl | rfl <;> rfl) (Nat.le_of_ble_eq_true rfl) (Nat.le_of_ble_eq_true rfl) dL_law_0 (fun x0 H hP hD hS => ?_)
  have hP : va_P D vwCl [(x0, .inr (0, [.null, .null]))] H := hP
  have hD : va_D (fun q : Nat => s.heap.size ≤ q) [(x0, .inr (0, [.null, .null]))] := hD
  refine W.widen (k := 1) (n := 2) (Nat.le_of_ble_eq_true rfl) (Nat.le_of_ble_eq_true rfl) ?_
  refine lv_dup hx hb dL_law_3 rfl ?_
  refine muI (As := []) (rest := [.ref x0]) ⟨hx, hb, hml, hown, hts⟩ (metX0_init l D cI cL _ _ x0 rfl) (cwI 0 hts (lw_meth q15) rfl rfl rfl (hts _ q6) (hts _ q13) (hts _ q14) rfl (by decide +kernel) ⟨Nat.le_of_ble_eq_true rfl, Nat.le_of_ble_eq_true rfl⟩) hC hP hD hS hA rfl rfl hl.1 (Nat.le_of_ble_eq_true rfl) dL_law_4 ⟨Nat.le_of_ble_eq_true rfl, Nat.le_of_ble_eq_true rfl⟩ (fun u1 H locs hq hP hD hS => ?_)
  obtain ⟨ad, ead, hlen, h0, hF⟩ := hq
  rw [← ead]
  refine W.widen (k := 23) (n := 320) (Nat.le_of_ble_eq_true rfl) (Nat.le_of_ble_eq_true rfl) ?_
  refine lv_astore_n (lv' := [(1, .ref (ad 0)), (0, .ref b)]) hx hb dL_law_7 rfl hl (by decide) rfl (fun ls hl => ?_)
  refine va_new (ci := 3) (fs := [.null, .int 0]) (C := RX3) (T := TX3) (N := 2) hx hb hts in_X3 tyX3 tyX3_ok hown (hts _ q135) (hts _ q136) (hts _ q9) hC.1 hP hD hS hA rfl (fun j hj => by rcases (show j = 0 ∨ j = 1 by omega) with rfl | rfl <;> rfl) (Nat.le_of_ble_eq_true rfl) (Nat.le_of_ble_eq_true rfl) dL_law_8 (fun x3 H hP hD hS => ?_)
  have h0 := app_l (z := ([(x3, .inr (3, [.null, .int 0]))] : va_W)) h0
  have hF := hF.keep (u1 := u1 ++ ([(x3, .inr (3, [.null, .int 0]))] : va_W)) (fun k hk => List.getElem?_append_left (by omega))
  have h23 : (u1 ++ ([(x3, .inr (3, [.null, .int 0]))] : va_W))[23]? = some (x3, .inr (3, [.null, .int 0])) := app_r (i := 0) hlen rfl
  have hlen : (u1 ++ ([(x3, .inr (3, [.null, .int 0]))] : va_W)).length = 24 := by rw [List.length_append, hlen]; rfl
  refine W.widen (k := 24) (n := 322) (Nat.le_of_ble_eq_true rfl) (Nat.le_of_ble_eq_true rfl) ?_
  refine lv_dup hx hb dL_law_11 rfl ?_
  refine muI (As := []) (rest := [.ref x3]) ⟨hx, hb, hml, hown, hts⟩ (metX3_init l D cI cL _ _ x3 h23 hlen) (cwI 0 hts (lw_meth q139) rfl rfl rfl (hts _ q9) (hts _ q137) (hts _ q138) rfl (by decide +kernel) ⟨Nat.le_of_ble_eq_true rfl, Nat.le_of_ble_eq_true rfl⟩) hC hP hD hS hA rfl rfl hl.1 (Nat.le_of_ble_eq_true rfl) dL_law_12 ⟨Nat.le_of_ble_eq_true rfl, Nat.le_of_ble_eq_true rfl⟩ (fun u2 H locs hq hP hD hS => ?_)
  obtain ⟨q, h23, h24, hkp⟩ := hq
  have h0 := (hkp 0 (by decide)).trans h0
  have hF := hF.keep hkp
  refine W.widen (k := 25) (n := 330) (Nat.le_of_ble_eq_true rfl) (Nat.le_of_ble_eq_true rfl) ?_
  refine lv_astore_n (lv' := [(2, .ref x3), (1, .ref (ad 0)), (0, .ref b)]) hx hb dL_law_15 rfl hl (by decide) rfl (fun ls hl => ?_)
  refine lv_iconst (v := nI 0) hx hb dL_law_16 (by decide) ?_
  refine lv_istore_n (lv' := [(3, .int (nI 0)), (2, .ref x3), (1, .ref (ad 0)), (0, .ref b)]) hx hb dL_law_17 rfl hl (by decide) rfl (fun ls hl => ?_)
  exact lp ad (fun k => if k = 23 then x3 else q) (L + 1) 0 4 (fun _ => 0) _ _ _ _ _ _ ls (by omega) ⟨Nat.zero_le _, by decide, fun v hv => (by decide : 0 < 2 ^ 4), h0, hF, h23, h24⟩ hP hD hS (lv_sub hl [3, 2, 1, 0] rfl)
end
section
set_option maxHeartbeats 4000000 in
theorem lw_walk (l : Launch) (b : Addr) (xs : List Int32) : MetFree l x (headSpec (Jvm.Cond.code x code maxLocals ret :: tables_1) room_1) (lw_P b xs) (fun _ _ _ _ _ => True) lw_Q := by
  refine MetFree.of_bodyS (code := code) (maxLocals := maxLocals) (ret := ret) (by decide) ?_ ?_
  · intro args s m h hn
    obtain ⟨meth, c, h1, h2, h3, h4, h5, h6, -, -⟩ := Cond.code_spec hn (atoms_spec (ws := Jvm.Cond.code x code maxLocals ret :: tables_1) h _ List.mem_cons_self)
    exact ⟨meth, c, h1, h2, h3, h4, h5, h6⟩
  · intro p e s m args below meth c s₁ B hml0 hP _
    obtain ⟨rfl, hx, hbd, hgv⟩ := hP
    obtain ⟨scr, harrAt, hlist, hof, hsmall⟩ := hx
    obtain ⟨hcb, hkn, -, -⟩ := State.arrayAt?_spec harrAt
    have hown : s.vm.findClass R_law = some m.cls := findClass_of_methodNamed B.named
    have hts0 : ∀ c ∈ (Jvm.Cond.code x code maxLocals ret :: tables_1), c.before #[Value.ref b] s = true := atoms_spec (ws := Jvm.Cond.code x code maxLocals ret :: tables_1) B.pre
    have hts : ∀ w ∈ lw_tbl, w.before #[Value.ref b] s = true := k2_hts_sels lw_privs (fun w hw => hts0 w (List.mem_cons_of_mem _ hw)) lw_privs_ok
    have hml : c.maxLocals = 4 := B.maxLocals_eq (hts0 _ List.mem_cons_self)
    have X₀ : Stand p l e room_1 s m #[Value.ref b] below meth c s₁ [] 0 0 := Stand.of_body B
    have hh0 : s₁.heap = s.heap := by rw [B.state]; rfl
    have hsz : scr.slots.size = xs.length := by rw [← Array.length_toList, hlist, List.length_map]
    have hval : ∀ j : Nat, j < xs.length → scr.slots[j]? = some (.int (xs.getD j 0)) := fun j hj => by
      rw [← Array.getElem?_toList, hlist]
      simp [hj]
    have hbl : b < s.heap.size := (Array.getElem?_eq_some_iff.mp hcb).1
    have hX : va_X b xs.length (fun j => xs.getD j 0) s s.heap := ⟨scr, hcb, hof, hkn, hsz, hval⟩
    have K : W p l e room_1 s m #[Value.ref b] below meth c s₁.heap [] 0 0 (lw_Z below #[Value.ref b] s) (entryFrame m ([Value.ref b] : List Value).toArray 4) := by
      rw [hh0]
      exact whole_start l hbd ⟨B.exec, B.bytes, B.returns, hml, hown, hts, hX, hbl, B.notSynchronized, hgv⟩
    obtain ⟨t, a1, o, b1, b2, b3⟩ := K s₁ rfl X₀
    exact ⟨t, o, a1, b1, b2, b3⟩
theorem lw_pre_spec {args : Array Value} {s : State} (h : (Jvm.Cond.and given_1 narrow_1).before args s = true) (hr : rest_1_c.before args s = true) : ∃ (b : Addr) (xs : List Int32), lw_P b xs args s := by
  have hs := flat_of_before _ h
  have hq := flat_of_before _ hr
  have hc : (Cond.count 1).before args s = true := hs _ (by decide +kernel)
  have harr : (Cond.arrayOf (.arg 0) .int).before args s = true := hs _ (by decide +kernel)
  have hle : (Cond.le (.length (.arg 0)) (.int 192)).before args s = true := hs _ (by decide +kernel)
  have hlen : (Cond.isInt (.length (.arg 0))).before args s = true := hq _ (by decide +kernel)
  have hall : (Cond.all (.arg 0) (.isInt (.elem (.arg 0) (.index 0)))).before args s = true := hq _ (by decide +kernel)
  obtain ⟨b, xs, hb, hx⟩ := State.ints_of_pre rfl harr hlen hall
  have hsm : xs.length < 2 ^ 31 := hx.choose_spec.2.2.2
  have hev : (Term.length (.arg 0)).eval args s none [] s = some (.int xs.length.toInt32) := hx.length_eval hb
  have hv := Cond.le_ints hev (show (Term.int 192).eval args s none [] s = some (.int 192) from rfl)
  have hd : xs.length.toInt32 ≤ 192 := by
    simpa [Cond.before, Cond.holds, hv] using hle
  have hN : xs.length ≤ 192 := (Int32.ofNat_le_ofNat hsm (by decide)).mp (show Int32.ofNat xs.length ≤ Int32.ofNat 192 from hd)
  exact ⟨b, xs, Cond.one_arg hc (show args[0]? = some (.ref b) from hb), hx, hN, h⟩
theorem lw_comes (l : Launch) : Comes l x (Jvm.Cond.code x code maxLocals ret :: tables_1) room_1 (fun tb e args s => Calls_1 tb e args s ∧ rest_1 tb e args s ∧ Pre_1 tb e args s)
    (fun _ _ args s o t => lw_Q args s o t) := by
  intro p e ha hc hk s m args below hf hfit hheap happ hpre
  obtain ⟨b, xs, hP⟩ := lw_pre_spec hpre.2.2 hpre.2.1
  obtain ⟨k, o, h1, h2, h3, hQ⟩ := lw_walk l b xs p e ha hc hk s m args below hf ((Spec.applies_iff_loose hf).mp happ).1 hP trivial
  exact ⟨k, o, h1, h2, h3, hQ⟩
theorem lw_frame {s t : State} {o : Outcome} {args : Array Value} (h : Framed s o t [] 600000 7302249) :
    Framed s o t (fieldLocs frame_1_writes args s ++ arrayLocs frame_1_arrays args s ++ staticLocs frame_1_statics s) 600000 7302249 := h
theorem lw_limb (L : Cond) (hL : ∀ (args : Array Value) (s t : State), L.after args s (.returned (some (.int 1))) t = true) :
    ArmFor flags0 classFile x code maxLocals ret World_1 tables_1 room_1 Calls_1 rest_1 Pre_1
      (fun tb e a s o t => postC L tb e a s o t ∧ Framed s o t (fieldLocs frame_1_writes a s ++ arrayLocs frame_1_arrays a s ++ staticLocs frame_1_statics s) 600000 7302249) := by
  intro l _ _ _ p e ha hc hk s m args below hf hfit hheap happ hpre
  obtain ⟨k, o, h1, h2, h3, rfl, hF⟩ := lw_comes l p e ha hc hk s m args below hf hfit hheap happ hpre
  exact ⟨k, _, h1, h2, h3, hL args s _, lw_frame hF⟩
theorem i_vc : Claimed_1_1 ∧ Claimed_1_2 := ⟨lw_limb limb_1_1 (fun args s t => by simp [limb_1_1, Cond.after, Cond.holds, Cond.value]), lw_limb limb_1_2 (fun args s t => Cond.after_iff.mpr (by
  first | (rw [show limb_1_2 = Cond.eq .result (.int 1) from rfl, Cond.eq_ints (x := 1) (y := 1) rfl rfl]; simp; done) | (simp [limb_1_2, Cond.value, Term.eval]; done)))⟩
end
