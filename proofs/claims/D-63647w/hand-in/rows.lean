section
-- ===== PART A: goes FIRST, ahead of the names: the tables' words, and 'selects' of the private methods out of them =====
/-- a private method of a class that the tables say can be made, by its rows of tables_1 -/
def lw_okq (q : MethodName × Nat) : Prop := (q.1.cls ≠ "java/lang/invoke/MethodHandle" ∧ q.1.cls ≠ "java/lang/invoke/VarHandle") ∧ Cond.instantiable q.1.cls q.2 ∈ tables_1 ∧ Cond.privateMethod q.1 ∈ tables_1 ∧ Cond.instanceMethod q.1 ∈ tables_1
set_option maxRecDepth 100000
theorem lw_p0 : lw_okq (⟨"PriorityLocks", "dependsOn", "(II)Z"⟩, 6) := ⟨⟨by decide +kernel, by decide +kernel⟩, List.mem_of_getElem? (i := 4) rfl, List.mem_of_getElem? (i := 43) rfl, List.mem_of_getElem? (i := 44) rfl⟩
theorem lw_p1 : lw_okq (⟨"PriorityLocks", "refresh", "(I)V"⟩, 6) := ⟨⟨by decide +kernel, by decide +kernel⟩, List.mem_of_getElem? (i := 4) rfl, List.mem_of_getElem? (i := 47) rfl, List.mem_of_getElem? (i := 48) rfl⟩
theorem lw_p2 : lw_okq (⟨"PriorityLocks", "lent", "(I)I"⟩, 6) := ⟨⟨by decide +kernel, by decide +kernel⟩, List.mem_of_getElem? (i := 4) rfl, List.mem_of_getElem? (i := 51) rfl, List.mem_of_getElem? (i := 52) rfl⟩
theorem lw_p3 : lw_okq (⟨"PriorityLocks", "bestWaiting", "(I)I"⟩, 6) := ⟨⟨by decide +kernel, by decide +kernel⟩, List.mem_of_getElem? (i := 4) rfl, List.mem_of_getElem? (i := 59) rfl, List.mem_of_getElem? (i := 60) rfl⟩
theorem lw_p4 : lw_okq (⟨"PriorityLocksModel", "thread", "(I)Z"⟩, 6) := ⟨⟨by decide +kernel, by decide +kernel⟩, List.mem_of_getElem? (i := 111) rfl, List.mem_of_getElem? (i := 140) rfl, List.mem_of_getElem? (i := 141) rfl⟩
theorem lw_p5 : lw_okq (⟨"PriorityLocksModel", "lock", "(I)Z"⟩, 6) := ⟨⟨by decide +kernel, by decide +kernel⟩, List.mem_of_getElem? (i := 111) rfl, List.mem_of_getElem? (i := 144) rfl, List.mem_of_getElem? (i := 145) rfl⟩
theorem lw_p6 : lw_okq (⟨"PriorityLocksModel", "behind", "(I)I"⟩, 6) := ⟨⟨by decide +kernel, by decide +kernel⟩, List.mem_of_getElem? (i := 111) rfl, List.mem_of_getElem? (i := 148) rfl, List.mem_of_getElem? (i := 149) rfl⟩
theorem lw_p7 : lw_okq (⟨"PriorityLocksModel", "lend", "()V"⟩, 6) := ⟨⟨by decide +kernel, by decide +kernel⟩, List.mem_of_getElem? (i := 111) rfl, List.mem_of_getElem? (i := 160) rfl, List.mem_of_getElem? (i := 161) rfl⟩
def lw_privs_1 : List (MethodName × Nat) := [(⟨"PriorityLocks", "dependsOn", "(II)Z"⟩, 6), (⟨"PriorityLocks", "refresh", "(I)V"⟩, 6), (⟨"PriorityLocks", "lent", "(I)I"⟩, 6), (⟨"PriorityLocks", "bestWaiting", "(I)I"⟩, 6), (⟨"PriorityLocksModel", "thread", "(I)Z"⟩, 6), (⟨"PriorityLocksModel", "lock", "(I)Z"⟩, 6), (⟨"PriorityLocksModel", "behind", "(I)I"⟩, 6), (⟨"PriorityLocksModel", "lend", "()V"⟩, 6)]
theorem lw_r1 : ∀ q ∈ lw_privs_1, lw_okq q := List.forall_mem_cons.mpr ⟨lw_p0, List.forall_mem_cons.mpr ⟨lw_p1, List.forall_mem_cons.mpr ⟨lw_p2, List.forall_mem_cons.mpr ⟨lw_p3, List.forall_mem_cons.mpr ⟨lw_p4, List.forall_mem_cons.mpr ⟨lw_p5, List.forall_mem_cons.mpr ⟨lw_p6, List.forall_mem_cons.mpr ⟨lw_p7, fun _ h => absurd h List.not_mem_nil⟩⟩⟩⟩⟩⟩⟩⟩
def lw_privs : List (MethodName × Nat) := lw_privs_1
def lw_tbl : List Cond := k2_sels lw_privs ++ tables_1
theorem lw_privs_ok : ∀ q ∈ lw_privs, lw_okq q := lw_r1
-- ===== ONE list of words for every method: the tables' words that hold all through a run =====
def lw_all : List Cond := lw_tbl.filter goodWord
/-- a word of the tables by its place: claim/WORDS.tsv -/
theorem lw_w {w : Cond} (i : Nat) (h : lw_tbl[i]? = some w) (g : goodWord w = true) : w ∈ lw_all := List.mem_filter.mpr ⟨List.mem_of_getElem? h, g⟩
theorem lw_all_tbl {w : Cond} (h : w ∈ lw_all) : w ∈ lw_tbl := (List.mem_filter.mp h).1
theorem lw_self : GoodIn lw_all lw_all := fun w h => ⟨h, good_of_word (List.mem_filter.mp h).2⟩
/-- a class's field words, by their places -/
theorem lw_in (ws : List Cond) (ps : List Nat) (hp : ws = ps.filterMap (fun i => lw_tbl[i]?)) (hg : ws.all goodWord = true) : ∀ w ∈ ws, w ∈ lw_all := by
  intro w h
  have h1 := List.all_eq_true.mp hg w h
  rw [hp] at h
  obtain ⟨i, -, hi⟩ := List.mem_filterMap.mp h
  exact lw_w i hi h1
/-- the words of a contract for the method y with code b, L locals, answer r -/
abbrev ws_ (y : MethodName) (b : ByteArray) (L : Nat) (r : Option FieldType) : List Cond := Cond.code y b L r :: lw_all
theorem lw_meth {y : MethodName} {b : ByteArray} {L : Nat} {r : Option FieldType} (h : Cond.code y b L r ∈ lw_all) : GoodIn lw_all (ws_ y b L r) := by
  intro w hw
  rcases List.mem_cons.mp hw with e | e
  · rw [e]
    exact lw_self _ h
  · exact lw_self _ e
theorem lw_app {a c : List Cond} (ha : ∀ w ∈ a, w ∈ lw_all) (hc : GoodIn lw_all c) : GoodIn lw_all (a ++ c) := by
  intro w hw
  rcases List.mem_append.mp hw with e | e
  · exact lw_self w (ha w e)
  · exact hc w e
/-- what a call through an object asks: cwV n hts (lw_V ..) -/
theorem lw_V {own : String} {idx : Nat} {C : String} {y : MethodName} {b : ByteArray} {L : Nat} {r : Option FieldType} (h1 : Cond.methodLink own idx y ∈ lw_all) (h2 : Cond.instanceMethod y ∈ lw_all) (h3 : Cond.selects C y y ∈ lw_all) (h4 : Cond.initialized C ∈ lw_all) (h5 : Cond.code y b L r ∈ lw_all) : GoodIn lw_all (wsV own idx C y (ws_ y b L r)) := by
  refine lw_app ?_ (lw_meth h5)
  intro w hw
  simp only [List.mem_cons, List.not_mem_nil, or_false] at hw
  rcases hw with e | e | e | e
  · rw [e]; exact h1
  · rw [e]; exact h2
  · rw [e]; exact h3
  · rw [e]; exact h4
/-- what a static call asks: va_cwS n hts (lw_S ..) -/
theorem lw_S {own : String} {idx : Nat} {y : MethodName} {b : ByteArray} {L : Nat} {r : Option FieldType} (h1 : Cond.methodLink own idx y ∈ lw_all) (h2 : Cond.static y ∈ lw_all) (h3 : Cond.initialized y.cls ∈ lw_all) (h4 : Cond.code y b L r ∈ lw_all) : GoodIn lw_all (va_wsS own idx y (ws_ y b L r)) := by
  refine lw_app ?_ (lw_meth h4)
  intro w hw
  simp only [List.mem_cons, List.not_mem_nil, or_false] at hw
  rcases hw with e | e | e
  · rw [e]; exact h1
  · rw [e]; exact h2
  · rw [e]; exact h3
/-- the words of a contract for a method WITH HANDLERS (hh: its table) -/
abbrev wsW_ (y : MethodName) (b : ByteArray) (L : Nat) (r : Option FieldType) (hh : List (Nat × Nat × Nat × Nat)) : List Cond := Cond.codeWith y b L r hh :: lw_all
theorem lw_methW {y : MethodName} {b : ByteArray} {L : Nat} {r : Option FieldType} {hh : List (Nat × Nat × Nat × Nat)} (h : Cond.codeWith y b L r hh ∈ lw_all) : GoodIn lw_all (wsW_ y b L r hh) := by
  intro w hw
  rcases List.mem_cons.mp hw with e | e
  · rw [e]
    exact lw_self _ h
  · exact lw_self _ e
/-- any list of words by their places (lw_in), good -/
theorem lw_good {ws : List Cond} (h : ∀ w ∈ ws, w ∈ lw_all) : GoodIn lw_all ws := fun w hw => lw_self w (h w hw)
/-- what a call of a method with handlers asks: vx_cwVW n hts (lw_VW ..), vx_cwSW n hts (lw_SW ..) -/
theorem lw_VW {own : String} {idx : Nat} {C : String} {y : MethodName} {b : ByteArray} {L : Nat} {r : Option FieldType} {hh : List (Nat × Nat × Nat × Nat)} (h1 : Cond.methodLink own idx y ∈ lw_all) (h2 : Cond.instanceMethod y ∈ lw_all) (h3 : Cond.selects C y y ∈ lw_all) (h4 : Cond.initialized C ∈ lw_all) (h5 : Cond.codeWith y b L r hh ∈ lw_all) : GoodIn lw_all (wsV own idx C y (wsW_ y b L r hh)) := by
  refine lw_app ?_ (lw_methW h5)
  intro w hw
  simp only [List.mem_cons, List.not_mem_nil, or_false] at hw
  rcases hw with e | e | e | e
  · rw [e]; exact h1
  · rw [e]; exact h2
  · rw [e]; exact h3
  · rw [e]; exact h4
theorem lw_SW {own : String} {idx : Nat} {y : MethodName} {b : ByteArray} {L : Nat} {r : Option FieldType} {hh : List (Nat × Nat × Nat × Nat)} (h1 : Cond.methodLink own idx y ∈ lw_all) (h2 : Cond.static y ∈ lw_all) (h3 : Cond.initialized y.cls ∈ lw_all) (h4 : Cond.codeWith y b L r hh ∈ lw_all) : GoodIn lw_all (va_wsS own idx y (wsW_ y b L r hh)) := by
  refine lw_app ?_ (lw_methW h4)
  intro w hw
  simp only [List.mem_cons, List.not_mem_nil, or_false] at hw
  rcases hw with e | e | e
  · rw [e]; exact h1
  · rw [e]; exact h2
  · rw [e]; exact h3
/-- a word by its place in its run of the tables -/
theorem lw_at {r : List Cond} (hr : ∀ w ∈ r, w ∈ lw_tbl) {w : Cond} (i : Nat) (h : r[i]? = some w) : w ∈ lw_tbl := hr w (List.mem_of_getElem? h)
theorem lw_g {w : Cond} (h : w ∈ lw_tbl) (g : goodWord w = true) : w ∈ lw_all := List.mem_filter.mpr ⟨h, g⟩
theorem lw_ms : ∀ w ∈ k2_sels lw_privs, w ∈ lw_tbl := fun w h => show w ∈ k2_sels lw_privs ++ tables_1 from List.mem_append_left _ h
theorem lw_m0 : ∀ w ∈ tables_1, w ∈ lw_tbl := fun w h => show w ∈ k2_sels lw_privs ++ tables_1 from List.mem_append_right (k2_sels lw_privs) h
theorem qs0 : (Cond.selects "PriorityLocks" ⟨"PriorityLocks", "dependsOn", "(II)Z"⟩ ⟨"PriorityLocks", "dependsOn", "(II)Z"⟩) ∈ lw_all := lw_g (lw_at lw_ms 0 rfl) rfl
theorem qs1 : (Cond.selects "PriorityLocks" ⟨"PriorityLocks", "refresh", "(I)V"⟩ ⟨"PriorityLocks", "refresh", "(I)V"⟩) ∈ lw_all := lw_g (lw_at lw_ms 1 rfl) rfl
theorem qs2 : (Cond.selects "PriorityLocks" ⟨"PriorityLocks", "lent", "(I)I"⟩ ⟨"PriorityLocks", "lent", "(I)I"⟩) ∈ lw_all := lw_g (lw_at lw_ms 2 rfl) rfl
theorem qs3 : (Cond.selects "PriorityLocks" ⟨"PriorityLocks", "bestWaiting", "(I)I"⟩ ⟨"PriorityLocks", "bestWaiting", "(I)I"⟩) ∈ lw_all := lw_g (lw_at lw_ms 3 rfl) rfl
theorem qs4 : (Cond.selects "PriorityLocksModel" ⟨"PriorityLocksModel", "thread", "(I)Z"⟩ ⟨"PriorityLocksModel", "thread", "(I)Z"⟩) ∈ lw_all := lw_g (lw_at lw_ms 4 rfl) rfl
theorem qs5 : (Cond.selects "PriorityLocksModel" ⟨"PriorityLocksModel", "lock", "(I)Z"⟩ ⟨"PriorityLocksModel", "lock", "(I)Z"⟩) ∈ lw_all := lw_g (lw_at lw_ms 5 rfl) rfl
theorem qs6 : (Cond.selects "PriorityLocksModel" ⟨"PriorityLocksModel", "behind", "(I)I"⟩ ⟨"PriorityLocksModel", "behind", "(I)I"⟩) ∈ lw_all := lw_g (lw_at lw_ms 6 rfl) rfl
theorem qs7 : (Cond.selects "PriorityLocksModel" ⟨"PriorityLocksModel", "lend", "()V"⟩ ⟨"PriorityLocksModel", "lend", "()V"⟩) ∈ lw_all := lw_g (lw_at lw_ms 7 rfl) rfl
end
section
theorem q38 : (Jvm.Cond.arrayClass Jvm.ClassFile.FieldType.byte) ∈ lw_all := lw_g (lw_at lw_m0 30 rfl) rfl
set_option maxRecDepth 100000
theorem q39 : (Jvm.Cond.arrayClass Jvm.ClassFile.FieldType.int) ∈ lw_all := lw_g (lw_at lw_m0 31 rfl) rfl
/-! java/lang/Object -/
set_option maxRecDepth 100000
def RJ0 : String := "java/lang/Object"
abbrev cJ0_init : ByteArray := object_method_1_code
def yJ0_init : MethodName := ⟨RJ0, "<init>", "()V"⟩
theorem dJ0_init_0 : decode cJ0_init 0 = .ok (.return_, 1) := by decide +kernel
theorem q17 : (Jvm.Cond.instanceMethod ({ cls := "java/lang/Object", name := "<init>", desc := "()V" } : Jvm.MethodName)) ∈ lw_all := lw_g (lw_at lw_m0 9 rfl) rfl
theorem q18 : (Jvm.Cond.code ({ cls := "java/lang/Object", name := "<init>", desc := "()V" } : Jvm.MethodName) object_method_1_code (1 : Nat) (Option.none : Option Jvm.ClassFile.FieldType)) ∈ lw_all := lw_g (lw_at lw_m0 10 rfl) rfl
/-! PriorityLocks -/
set_option maxRecDepth 100000
def RX0 : String := "PriorityLocks"
def TX0 : u_T := fun k => match k with
  | 0 => ("PriorityLocks", "baseOf", "[B", true)
  | 1 => ("PriorityLocks", "urgencyOf", "[B", true)
  | 2 => ("PriorityLocks", "waitsAt", "[B", true)
  | 3 => ("PriorityLocks", "since", "[I", true)
  | 4 => ("PriorityLocks", "holderOf", "[B", true)
  | _ => ("PriorityLocks", "stamp", "I", false)
def tyX0 : Nat → FieldType := fun k => match k with
  | 0 => .array .byte
  | 1 => .array .byte
  | 2 => .array .byte
  | 3 => .array .int
  | 4 => .array .byte
  | _ => .int
abbrev wsX00 : List Cond := u_ws RX0 TX0 6
theorem nmX0 : ∀ a, a < 6 → ∀ b, b < 6 → a ≠ b → (TX0 a).2.1 ≠ (TX0 b).2.1 := by decide +kernel
theorem tyX0_ok : ∀ k, k < 6 → parseFieldDescriptor (TX0 k).2.2.1 = some (tyX0 k) := by decide +kernel
abbrev cX0_init : ByteArray := prog_1_method_1_code
def yX0_init : MethodName := ⟨RX0, "<init>", "()V"⟩
theorem dX0_init_0 : decode cX0_init 0 = .ok (.aload_n 0, 1) := by decide +kernel
theorem dX0_init_1 : decode cX0_init 1 = .ok (.invokespecial 1, 3) := by decide +kernel
theorem dX0_init_4 : decode cX0_init 4 = .ok (.aload_n 0, 1) := by decide +kernel
theorem dX0_init_5 : decode cX0_init 5 = .ok (.bipush 6, 2) := by decide +kernel
theorem dX0_init_7 : decode cX0_init 7 = .ok (.newarray .byte, 2) := by decide +kernel
theorem dX0_init_9 : decode cX0_init 9 = .ok (.putfield 7, 3) := by decide +kernel
theorem dX0_init_12 : decode cX0_init 12 = .ok (.aload_n 0, 1) := by decide +kernel
theorem dX0_init_13 : decode cX0_init 13 = .ok (.bipush 6, 2) := by decide +kernel
theorem dX0_init_15 : decode cX0_init 15 = .ok (.newarray .byte, 2) := by decide +kernel
theorem dX0_init_17 : decode cX0_init 17 = .ok (.putfield 13, 3) := by decide +kernel
theorem dX0_init_20 : decode cX0_init 20 = .ok (.aload_n 0, 1) := by decide +kernel
theorem dX0_init_21 : decode cX0_init 21 = .ok (.bipush 6, 2) := by decide +kernel
theorem dX0_init_23 : decode cX0_init 23 = .ok (.newarray .byte, 2) := by decide +kernel
theorem dX0_init_25 : decode cX0_init 25 = .ok (.putfield 16, 3) := by decide +kernel
theorem dX0_init_28 : decode cX0_init 28 = .ok (.aload_n 0, 1) := by decide +kernel
theorem dX0_init_29 : decode cX0_init 29 = .ok (.bipush 6, 2) := by decide +kernel
theorem dX0_init_31 : decode cX0_init 31 = .ok (.newarray .int, 2) := by decide +kernel
theorem dX0_init_33 : decode cX0_init 33 = .ok (.putfield 19, 3) := by decide +kernel
theorem dX0_init_36 : decode cX0_init 36 = .ok (.aload_n 0, 1) := by decide +kernel
theorem dX0_init_37 : decode cX0_init 37 = .ok (.iconst 5, 1) := by decide +kernel
theorem dX0_init_38 : decode cX0_init 38 = .ok (.newarray .byte, 2) := by decide +kernel
theorem dX0_init_40 : decode cX0_init 40 = .ok (.putfield 23, 3) := by decide +kernel
theorem dX0_init_43 : decode cX0_init 43 = .ok (.iconst 0, 1) := by decide +kernel
theorem dX0_init_44 : decode cX0_init 44 = .ok (.istore_n 1, 1) := by decide +kernel
theorem dX0_init_45 : decode cX0_init 45 = .ok (.iload_n 1, 1) := by decide +kernel
theorem dX0_init_46 : decode cX0_init 46 = .ok (.bipush 6, 2) := by decide +kernel
theorem dX0_init_48 : decode cX0_init 48 = .ok (.if_icmp .ge 16, 3) := by decide +kernel
theorem dX0_init_51 : decode cX0_init 51 = .ok (.aload_n 0, 1) := by decide +kernel
theorem dX0_init_52 : decode cX0_init 52 = .ok (.getfield 16, 3) := by decide +kernel
theorem dX0_init_55 : decode cX0_init 55 = .ok (.iload_n 1, 1) := by decide +kernel
theorem dX0_init_56 : decode cX0_init 56 = .ok (.iconst (-1), 1) := by decide +kernel
theorem dX0_init_57 : decode cX0_init 57 = .ok (.bastore, 1) := by decide +kernel
theorem dX0_init_58 : decode cX0_init 58 = .ok (.iinc 1 1, 3) := by decide +kernel
theorem dX0_init_61 : decode cX0_init 61 = .ok (.goto (-16), 3) := by decide +kernel
theorem dX0_init_64 : decode cX0_init 64 = .ok (.iconst 0, 1) := by decide +kernel
theorem dX0_init_65 : decode cX0_init 65 = .ok (.istore_n 1, 1) := by decide +kernel
theorem dX0_init_66 : decode cX0_init 66 = .ok (.iload_n 1, 1) := by decide +kernel
theorem dX0_init_67 : decode cX0_init 67 = .ok (.iconst 5, 1) := by decide +kernel
theorem dX0_init_68 : decode cX0_init 68 = .ok (.if_icmp .ge 16, 3) := by decide +kernel
theorem dX0_init_71 : decode cX0_init 71 = .ok (.aload_n 0, 1) := by decide +kernel
theorem dX0_init_72 : decode cX0_init 72 = .ok (.getfield 23, 3) := by decide +kernel
theorem dX0_init_75 : decode cX0_init 75 = .ok (.iload_n 1, 1) := by decide +kernel
theorem dX0_init_76 : decode cX0_init 76 = .ok (.iconst (-1), 1) := by decide +kernel
theorem dX0_init_77 : decode cX0_init 77 = .ok (.bastore, 1) := by decide +kernel
theorem dX0_init_78 : decode cX0_init 78 = .ok (.iinc 1 1, 3) := by decide +kernel
theorem dX0_init_81 : decode cX0_init 81 = .ok (.goto (-15), 3) := by decide +kernel
theorem dX0_init_84 : decode cX0_init 84 = .ok (.return_, 1) := by decide +kernel
abbrev cX0_take : ByteArray := prog_1_method_7_code
def yX0_take : MethodName := ⟨RX0, "take", "(II)I"⟩
theorem dX0_take_0 : decode cX0_take 0 = .ok (.iload_n 1, 1) := by decide +kernel
theorem dX0_take_1 : decode cX0_take 1 = .ok (.invokestatic 30, 3) := by decide +kernel
theorem dX0_take_4 : decode cX0_take 4 = .ok (.ifCond .eq 29, 3) := by decide +kernel
theorem dX0_take_7 : decode cX0_take 7 = .ok (.iload_n 2, 1) := by decide +kernel
theorem dX0_take_8 : decode cX0_take 8 = .ok (.invokestatic 34, 3) := by decide +kernel
theorem dX0_take_11 : decode cX0_take 11 = .ok (.ifCond .eq 22, 3) := by decide +kernel
theorem dX0_take_14 : decode cX0_take 14 = .ok (.aload_n 0, 1) := by decide +kernel
theorem dX0_take_15 : decode cX0_take 15 = .ok (.getfield 16, 3) := by decide +kernel
theorem dX0_take_18 : decode cX0_take 18 = .ok (.iload_n 1, 1) := by decide +kernel
theorem dX0_take_19 : decode cX0_take 19 = .ok (.baload, 1) := by decide +kernel
theorem dX0_take_20 : decode cX0_take 20 = .ok (.ifCond .ge 13, 3) := by decide +kernel
theorem dX0_take_23 : decode cX0_take 23 = .ok (.aload_n 0, 1) := by decide +kernel
theorem dX0_take_24 : decode cX0_take 24 = .ok (.getfield 23, 3) := by decide +kernel
theorem dX0_take_27 : decode cX0_take 27 = .ok (.iload_n 2, 1) := by decide +kernel
theorem dX0_take_28 : decode cX0_take 28 = .ok (.baload, 1) := by decide +kernel
theorem dX0_take_29 : decode cX0_take 29 = .ok (.iload_n 1, 1) := by decide +kernel
theorem dX0_take_30 : decode cX0_take 30 = .ok (.if_icmp .ne 5, 3) := by decide +kernel
theorem dX0_take_33 : decode cX0_take 33 = .ok (.iconst (-1), 1) := by decide +kernel
theorem dX0_take_34 : decode cX0_take 34 = .ok (.ireturn, 1) := by decide +kernel
theorem dX0_take_35 : decode cX0_take 35 = .ok (.aload_n 0, 1) := by decide +kernel
theorem dX0_take_36 : decode cX0_take 36 = .ok (.getfield 23, 3) := by decide +kernel
theorem dX0_take_39 : decode cX0_take 39 = .ok (.iload_n 2, 1) := by decide +kernel
theorem dX0_take_40 : decode cX0_take 40 = .ok (.baload, 1) := by decide +kernel
theorem dX0_take_41 : decode cX0_take 41 = .ok (.istore_n 3, 1) := by decide +kernel
theorem dX0_take_42 : decode cX0_take 42 = .ok (.iload_n 3, 1) := by decide +kernel
theorem dX0_take_43 : decode cX0_take 43 = .ok (.ifCond .ge 13, 3) := by decide +kernel
theorem dX0_take_46 : decode cX0_take 46 = .ok (.aload_n 0, 1) := by decide +kernel
theorem dX0_take_47 : decode cX0_take 47 = .ok (.getfield 23, 3) := by decide +kernel
theorem dX0_take_50 : decode cX0_take 50 = .ok (.iload_n 2, 1) := by decide +kernel
theorem dX0_take_51 : decode cX0_take 51 = .ok (.iload_n 1, 1) := by decide +kernel
theorem dX0_take_52 : decode cX0_take 52 = .ok (.i2b, 1) := by decide +kernel
theorem dX0_take_53 : decode cX0_take 53 = .ok (.bastore, 1) := by decide +kernel
theorem dX0_take_54 : decode cX0_take 54 = .ok (.iconst 0, 1) := by decide +kernel
theorem dX0_take_55 : decode cX0_take 55 = .ok (.ireturn, 1) := by decide +kernel
theorem dX0_take_56 : decode cX0_take 56 = .ok (.aload_n 0, 1) := by decide +kernel
theorem dX0_take_57 : decode cX0_take 57 = .ok (.iload_n 3, 1) := by decide +kernel
theorem dX0_take_58 : decode cX0_take 58 = .ok (.iload_n 1, 1) := by decide +kernel
theorem dX0_take_59 : decode cX0_take 59 = .ok (.invokevirtual 37, 3) := by decide +kernel
theorem dX0_take_62 : decode cX0_take 62 = .ok (.ifCond .eq 6, 3) := by decide +kernel
theorem dX0_take_65 : decode cX0_take 65 = .ok (.bipush (-2), 2) := by decide +kernel
theorem dX0_take_67 : decode cX0_take 67 = .ok (.ireturn, 1) := by decide +kernel
theorem dX0_take_68 : decode cX0_take 68 = .ok (.aload_n 0, 1) := by decide +kernel
theorem dX0_take_69 : decode cX0_take 69 = .ok (.getfield 16, 3) := by decide +kernel
theorem dX0_take_72 : decode cX0_take 72 = .ok (.iload_n 1, 1) := by decide +kernel
theorem dX0_take_73 : decode cX0_take 73 = .ok (.iload_n 2, 1) := by decide +kernel
theorem dX0_take_74 : decode cX0_take 74 = .ok (.i2b, 1) := by decide +kernel
theorem dX0_take_75 : decode cX0_take 75 = .ok (.bastore, 1) := by decide +kernel
theorem dX0_take_76 : decode cX0_take 76 = .ok (.aload_n 0, 1) := by decide +kernel
theorem dX0_take_77 : decode cX0_take 77 = .ok (.getfield 19, 3) := by decide +kernel
theorem dX0_take_80 : decode cX0_take 80 = .ok (.iload_n 1, 1) := by decide +kernel
theorem dX0_take_81 : decode cX0_take 81 = .ok (.aload_n 0, 1) := by decide +kernel
theorem dX0_take_82 : decode cX0_take 82 = .ok (.getfield 41, 3) := by decide +kernel
theorem dX0_take_85 : decode cX0_take 85 = .ok (.iastore, 1) := by decide +kernel
theorem dX0_take_86 : decode cX0_take 86 = .ok (.aload_n 0, 1) := by decide +kernel
theorem dX0_take_87 : decode cX0_take 87 = .ok (.dup, 1) := by decide +kernel
theorem dX0_take_88 : decode cX0_take 88 = .ok (.getfield 41, 3) := by decide +kernel
theorem dX0_take_91 : decode cX0_take 91 = .ok (.iconst 1, 1) := by decide +kernel
theorem dX0_take_92 : decode cX0_take 92 = .ok (.iadd, 1) := by decide +kernel
theorem dX0_take_93 : decode cX0_take 93 = .ok (.putfield 41, 3) := by decide +kernel
theorem dX0_take_96 : decode cX0_take 96 = .ok (.aload_n 0, 1) := by decide +kernel
theorem dX0_take_97 : decode cX0_take 97 = .ok (.iload_n 3, 1) := by decide +kernel
theorem dX0_take_98 : decode cX0_take 98 = .ok (.invokevirtual 45, 3) := by decide +kernel
theorem dX0_take_101 : decode cX0_take 101 = .ok (.iconst 1, 1) := by decide +kernel
theorem dX0_take_102 : decode cX0_take 102 = .ok (.ireturn, 1) := by decide +kernel
abbrev cX0_isThread : ByteArray := prog_1_method_2_code
def yX0_isThread : MethodName := ⟨RX0, "isThread", "(I)Z"⟩
theorem dX0_isThread_0 : decode cX0_isThread 0 = .ok (.iload_n 0, 1) := by decide +kernel
theorem dX0_isThread_1 : decode cX0_isThread 1 = .ok (.ifCond .lt 13, 3) := by decide +kernel
theorem dX0_isThread_4 : decode cX0_isThread 4 = .ok (.iload_n 0, 1) := by decide +kernel
theorem dX0_isThread_5 : decode cX0_isThread 5 = .ok (.bipush 6, 2) := by decide +kernel
theorem dX0_isThread_7 : decode cX0_isThread 7 = .ok (.if_icmp .ge 7, 3) := by decide +kernel
theorem dX0_isThread_10 : decode cX0_isThread 10 = .ok (.iconst 1, 1) := by decide +kernel
theorem dX0_isThread_11 : decode cX0_isThread 11 = .ok (.goto 4, 3) := by decide +kernel
theorem dX0_isThread_14 : decode cX0_isThread 14 = .ok (.iconst 0, 1) := by decide +kernel
theorem dX0_isThread_15 : decode cX0_isThread 15 = .ok (.ireturn, 1) := by decide +kernel
abbrev cX0_isLock : ByteArray := prog_1_method_3_code
def yX0_isLock : MethodName := ⟨RX0, "isLock", "(I)Z"⟩
theorem dX0_isLock_0 : decode cX0_isLock 0 = .ok (.iload_n 0, 1) := by decide +kernel
theorem dX0_isLock_1 : decode cX0_isLock 1 = .ok (.ifCond .lt 12, 3) := by decide +kernel
theorem dX0_isLock_4 : decode cX0_isLock 4 = .ok (.iload_n 0, 1) := by decide +kernel
theorem dX0_isLock_5 : decode cX0_isLock 5 = .ok (.iconst 5, 1) := by decide +kernel
theorem dX0_isLock_6 : decode cX0_isLock 6 = .ok (.if_icmp .ge 7, 3) := by decide +kernel
theorem dX0_isLock_9 : decode cX0_isLock 9 = .ok (.iconst 1, 1) := by decide +kernel
theorem dX0_isLock_10 : decode cX0_isLock 10 = .ok (.goto 4, 3) := by decide +kernel
theorem dX0_isLock_13 : decode cX0_isLock 13 = .ok (.iconst 0, 1) := by decide +kernel
theorem dX0_isLock_14 : decode cX0_isLock 14 = .ok (.ireturn, 1) := by decide +kernel
abbrev cX0_dependsOn : ByteArray := prog_1_method_6_code
def yX0_dependsOn : MethodName := ⟨RX0, "dependsOn", "(II)Z"⟩
theorem dX0_dependsOn_0 : decode cX0_dependsOn 0 = .ok (.iload_n 1, 1) := by decide +kernel
theorem dX0_dependsOn_1 : decode cX0_dependsOn 1 = .ok (.istore_n 3, 1) := by decide +kernel
theorem dX0_dependsOn_2 : decode cX0_dependsOn 2 = .ok (.iconst 0, 1) := by decide +kernel
theorem dX0_dependsOn_3 : decode cX0_dependsOn 3 = .ok (.istore 4, 2) := by decide +kernel
theorem dX0_dependsOn_5 : decode cX0_dependsOn 5 = .ok (.iload 4, 2) := by decide +kernel
theorem dX0_dependsOn_7 : decode cX0_dependsOn 7 = .ok (.bipush 6, 2) := by decide +kernel
theorem dX0_dependsOn_9 : decode cX0_dependsOn 9 = .ok (.if_icmp .ge 37, 3) := by decide +kernel
theorem dX0_dependsOn_12 : decode cX0_dependsOn 12 = .ok (.aload_n 0, 1) := by decide +kernel
theorem dX0_dependsOn_13 : decode cX0_dependsOn 13 = .ok (.getfield 16, 3) := by decide +kernel
theorem dX0_dependsOn_16 : decode cX0_dependsOn 16 = .ok (.iload_n 3, 1) := by decide +kernel
theorem dX0_dependsOn_17 : decode cX0_dependsOn 17 = .ok (.baload, 1) := by decide +kernel
theorem dX0_dependsOn_18 : decode cX0_dependsOn 18 = .ok (.ifCond .lt 28, 3) := by decide +kernel
theorem dX0_dependsOn_21 : decode cX0_dependsOn 21 = .ok (.aload_n 0, 1) := by decide +kernel
theorem dX0_dependsOn_22 : decode cX0_dependsOn 22 = .ok (.getfield 23, 3) := by decide +kernel
theorem dX0_dependsOn_25 : decode cX0_dependsOn 25 = .ok (.aload_n 0, 1) := by decide +kernel
theorem dX0_dependsOn_26 : decode cX0_dependsOn 26 = .ok (.getfield 16, 3) := by decide +kernel
theorem dX0_dependsOn_29 : decode cX0_dependsOn 29 = .ok (.iload_n 3, 1) := by decide +kernel
theorem dX0_dependsOn_30 : decode cX0_dependsOn 30 = .ok (.baload, 1) := by decide +kernel
theorem dX0_dependsOn_31 : decode cX0_dependsOn 31 = .ok (.baload, 1) := by decide +kernel
theorem dX0_dependsOn_32 : decode cX0_dependsOn 32 = .ok (.istore_n 3, 1) := by decide +kernel
theorem dX0_dependsOn_33 : decode cX0_dependsOn 33 = .ok (.iload_n 3, 1) := by decide +kernel
theorem dX0_dependsOn_34 : decode cX0_dependsOn 34 = .ok (.iload_n 2, 1) := by decide +kernel
theorem dX0_dependsOn_35 : decode cX0_dependsOn 35 = .ok (.if_icmp .ne 5, 3) := by decide +kernel
theorem dX0_dependsOn_38 : decode cX0_dependsOn 38 = .ok (.iconst 1, 1) := by decide +kernel
theorem dX0_dependsOn_39 : decode cX0_dependsOn 39 = .ok (.ireturn, 1) := by decide +kernel
theorem dX0_dependsOn_40 : decode cX0_dependsOn 40 = .ok (.iinc 4 1, 3) := by decide +kernel
theorem dX0_dependsOn_43 : decode cX0_dependsOn 43 = .ok (.goto (-38), 3) := by decide +kernel
theorem dX0_dependsOn_46 : decode cX0_dependsOn 46 = .ok (.iconst 0, 1) := by decide +kernel
theorem dX0_dependsOn_47 : decode cX0_dependsOn 47 = .ok (.ireturn, 1) := by decide +kernel
abbrev cX0_refresh : ByteArray := prog_1_method_5_code
def yX0_refresh : MethodName := ⟨RX0, "refresh", "(I)V"⟩
theorem dX0_refresh_0 : decode cX0_refresh 0 = .ok (.iload_n 1, 1) := by decide +kernel
theorem dX0_refresh_1 : decode cX0_refresh 1 = .ok (.istore_n 2, 1) := by decide +kernel
theorem dX0_refresh_2 : decode cX0_refresh 2 = .ok (.iconst 0, 1) := by decide +kernel
theorem dX0_refresh_3 : decode cX0_refresh 3 = .ok (.istore_n 3, 1) := by decide +kernel
theorem dX0_refresh_4 : decode cX0_refresh 4 = .ok (.iload_n 3, 1) := by decide +kernel
theorem dX0_refresh_5 : decode cX0_refresh 5 = .ok (.bipush 6, 2) := by decide +kernel
theorem dX0_refresh_7 : decode cX0_refresh 7 = .ok (.if_icmp .ge 77, 3) := by decide +kernel
theorem dX0_refresh_10 : decode cX0_refresh 10 = .ok (.iload_n 2, 1) := by decide +kernel
theorem dX0_refresh_11 : decode cX0_refresh 11 = .ok (.ifCond .lt 73, 3) := by decide +kernel
theorem dX0_refresh_14 : decode cX0_refresh 14 = .ok (.aload_n 0, 1) := by decide +kernel
theorem dX0_refresh_15 : decode cX0_refresh 15 = .ok (.iload_n 2, 1) := by decide +kernel
theorem dX0_refresh_16 : decode cX0_refresh 16 = .ok (.invokevirtual 26, 3) := by decide +kernel
theorem dX0_refresh_19 : decode cX0_refresh 19 = .ok (.istore 4, 2) := by decide +kernel
theorem dX0_refresh_21 : decode cX0_refresh 21 = .ok (.iload 4, 2) := by decide +kernel
theorem dX0_refresh_23 : decode cX0_refresh 23 = .ok (.aload_n 0, 1) := by decide +kernel
theorem dX0_refresh_24 : decode cX0_refresh 24 = .ok (.getfield 13, 3) := by decide +kernel
theorem dX0_refresh_27 : decode cX0_refresh 27 = .ok (.iload_n 2, 1) := by decide +kernel
theorem dX0_refresh_28 : decode cX0_refresh 28 = .ok (.baload, 1) := by decide +kernel
theorem dX0_refresh_29 : decode cX0_refresh 29 = .ok (.if_icmp .ne 7, 3) := by decide +kernel
theorem dX0_refresh_32 : decode cX0_refresh 32 = .ok (.iconst 1, 1) := by decide +kernel
theorem dX0_refresh_33 : decode cX0_refresh 33 = .ok (.goto 4, 3) := by decide +kernel
theorem dX0_refresh_36 : decode cX0_refresh 36 = .ok (.iconst 0, 1) := by decide +kernel
theorem dX0_refresh_37 : decode cX0_refresh 37 = .ok (.istore 5, 2) := by decide +kernel
theorem dX0_refresh_39 : decode cX0_refresh 39 = .ok (.aload_n 0, 1) := by decide +kernel
theorem dX0_refresh_40 : decode cX0_refresh 40 = .ok (.getfield 13, 3) := by decide +kernel
theorem dX0_refresh_43 : decode cX0_refresh 43 = .ok (.iload_n 2, 1) := by decide +kernel
theorem dX0_refresh_44 : decode cX0_refresh 44 = .ok (.iload 4, 2) := by decide +kernel
theorem dX0_refresh_46 : decode cX0_refresh 46 = .ok (.i2b, 1) := by decide +kernel
theorem dX0_refresh_47 : decode cX0_refresh 47 = .ok (.bastore, 1) := by decide +kernel
theorem dX0_refresh_48 : decode cX0_refresh 48 = .ok (.iload 5, 2) := by decide +kernel
theorem dX0_refresh_50 : decode cX0_refresh 50 = .ok (.ifCond .ne 12, 3) := by decide +kernel
theorem dX0_refresh_53 : decode cX0_refresh 53 = .ok (.aload_n 0, 1) := by decide +kernel
theorem dX0_refresh_54 : decode cX0_refresh 54 = .ok (.getfield 16, 3) := by decide +kernel
theorem dX0_refresh_57 : decode cX0_refresh 57 = .ok (.iload_n 2, 1) := by decide +kernel
theorem dX0_refresh_58 : decode cX0_refresh 58 = .ok (.baload, 1) := by decide +kernel
theorem dX0_refresh_59 : decode cX0_refresh 59 = .ok (.ifCond .ge 7, 3) := by decide +kernel
theorem dX0_refresh_62 : decode cX0_refresh 62 = .ok (.iconst (-1), 1) := by decide +kernel
theorem dX0_refresh_63 : decode cX0_refresh 63 = .ok (.goto 14, 3) := by decide +kernel
theorem dX0_refresh_66 : decode cX0_refresh 66 = .ok (.aload_n 0, 1) := by decide +kernel
theorem dX0_refresh_67 : decode cX0_refresh 67 = .ok (.getfield 23, 3) := by decide +kernel
theorem dX0_refresh_70 : decode cX0_refresh 70 = .ok (.aload_n 0, 1) := by decide +kernel
theorem dX0_refresh_71 : decode cX0_refresh 71 = .ok (.getfield 16, 3) := by decide +kernel
theorem dX0_refresh_74 : decode cX0_refresh 74 = .ok (.iload_n 2, 1) := by decide +kernel
theorem dX0_refresh_75 : decode cX0_refresh 75 = .ok (.baload, 1) := by decide +kernel
theorem dX0_refresh_76 : decode cX0_refresh 76 = .ok (.baload, 1) := by decide +kernel
theorem dX0_refresh_77 : decode cX0_refresh 77 = .ok (.istore_n 2, 1) := by decide +kernel
theorem dX0_refresh_78 : decode cX0_refresh 78 = .ok (.iinc 3 1, 3) := by decide +kernel
theorem dX0_refresh_81 : decode cX0_refresh 81 = .ok (.goto (-77), 3) := by decide +kernel
theorem dX0_refresh_84 : decode cX0_refresh 84 = .ok (.return_, 1) := by decide +kernel
abbrev cX0_lent : ByteArray := prog_1_method_4_code
def yX0_lent : MethodName := ⟨RX0, "lent", "(I)I"⟩
theorem dX0_lent_0 : decode cX0_lent 0 = .ok (.aload_n 0, 1) := by decide +kernel
theorem dX0_lent_1 : decode cX0_lent 1 = .ok (.getfield 7, 3) := by decide +kernel
theorem dX0_lent_4 : decode cX0_lent 4 = .ok (.iload_n 1, 1) := by decide +kernel
theorem dX0_lent_5 : decode cX0_lent 5 = .ok (.baload, 1) := by decide +kernel
theorem dX0_lent_6 : decode cX0_lent 6 = .ok (.istore_n 2, 1) := by decide +kernel
theorem dX0_lent_7 : decode cX0_lent 7 = .ok (.iconst 0, 1) := by decide +kernel
theorem dX0_lent_8 : decode cX0_lent 8 = .ok (.istore_n 3, 1) := by decide +kernel
theorem dX0_lent_9 : decode cX0_lent 9 = .ok (.iload_n 3, 1) := by decide +kernel
theorem dX0_lent_10 : decode cX0_lent 10 = .ok (.bipush 6, 2) := by decide +kernel
theorem dX0_lent_12 : decode cX0_lent 12 = .ok (.if_icmp .ge 66, 3) := by decide +kernel
theorem dX0_lent_15 : decode cX0_lent 15 = .ok (.aload_n 0, 1) := by decide +kernel
theorem dX0_lent_16 : decode cX0_lent 16 = .ok (.getfield 16, 3) := by decide +kernel
theorem dX0_lent_19 : decode cX0_lent 19 = .ok (.iload_n 3, 1) := by decide +kernel
theorem dX0_lent_20 : decode cX0_lent 20 = .ok (.baload, 1) := by decide +kernel
theorem dX0_lent_21 : decode cX0_lent 21 = .ok (.ifCond .lt 22, 3) := by decide +kernel
theorem dX0_lent_24 : decode cX0_lent 24 = .ok (.aload_n 0, 1) := by decide +kernel
theorem dX0_lent_25 : decode cX0_lent 25 = .ok (.getfield 23, 3) := by decide +kernel
theorem dX0_lent_28 : decode cX0_lent 28 = .ok (.aload_n 0, 1) := by decide +kernel
theorem dX0_lent_29 : decode cX0_lent 29 = .ok (.getfield 16, 3) := by decide +kernel
theorem dX0_lent_32 : decode cX0_lent 32 = .ok (.iload_n 3, 1) := by decide +kernel
theorem dX0_lent_33 : decode cX0_lent 33 = .ok (.baload, 1) := by decide +kernel
theorem dX0_lent_34 : decode cX0_lent 34 = .ok (.baload, 1) := by decide +kernel
theorem dX0_lent_35 : decode cX0_lent 35 = .ok (.iload_n 1, 1) := by decide +kernel
theorem dX0_lent_36 : decode cX0_lent 36 = .ok (.if_icmp .ne 7, 3) := by decide +kernel
theorem dX0_lent_39 : decode cX0_lent 39 = .ok (.iconst 1, 1) := by decide +kernel
theorem dX0_lent_40 : decode cX0_lent 40 = .ok (.goto 4, 3) := by decide +kernel
theorem dX0_lent_43 : decode cX0_lent 43 = .ok (.iconst 0, 1) := by decide +kernel
theorem dX0_lent_44 : decode cX0_lent 44 = .ok (.istore 4, 2) := by decide +kernel
theorem dX0_lent_46 : decode cX0_lent 46 = .ok (.iload 4, 2) := by decide +kernel
theorem dX0_lent_48 : decode cX0_lent 48 = .ok (.ifCond .eq 22, 3) := by decide +kernel
theorem dX0_lent_51 : decode cX0_lent 51 = .ok (.aload_n 0, 1) := by decide +kernel
theorem dX0_lent_52 : decode cX0_lent 52 = .ok (.getfield 13, 3) := by decide +kernel
theorem dX0_lent_55 : decode cX0_lent 55 = .ok (.iload_n 3, 1) := by decide +kernel
theorem dX0_lent_56 : decode cX0_lent 56 = .ok (.baload, 1) := by decide +kernel
theorem dX0_lent_57 : decode cX0_lent 57 = .ok (.iload_n 2, 1) := by decide +kernel
theorem dX0_lent_58 : decode cX0_lent 58 = .ok (.if_icmp .le 12, 3) := by decide +kernel
theorem dX0_lent_61 : decode cX0_lent 61 = .ok (.aload_n 0, 1) := by decide +kernel
theorem dX0_lent_62 : decode cX0_lent 62 = .ok (.getfield 13, 3) := by decide +kernel
theorem dX0_lent_65 : decode cX0_lent 65 = .ok (.iload_n 3, 1) := by decide +kernel
theorem dX0_lent_66 : decode cX0_lent 66 = .ok (.baload, 1) := by decide +kernel
theorem dX0_lent_67 : decode cX0_lent 67 = .ok (.goto 4, 3) := by decide +kernel
theorem dX0_lent_70 : decode cX0_lent 70 = .ok (.iload_n 2, 1) := by decide +kernel
theorem dX0_lent_71 : decode cX0_lent 71 = .ok (.istore_n 2, 1) := by decide +kernel
theorem dX0_lent_72 : decode cX0_lent 72 = .ok (.iinc 3 1, 3) := by decide +kernel
theorem dX0_lent_75 : decode cX0_lent 75 = .ok (.goto (-66), 3) := by decide +kernel
theorem dX0_lent_78 : decode cX0_lent 78 = .ok (.iload_n 2, 1) := by decide +kernel
theorem dX0_lent_79 : decode cX0_lent 79 = .ok (.ireturn, 1) := by decide +kernel
abbrev cX0_give : ByteArray := prog_1_method_9_code
def yX0_give : MethodName := ⟨RX0, "give", "(II)I"⟩
theorem dX0_give_0 : decode cX0_give 0 = .ok (.iload_n 1, 1) := by decide +kernel
theorem dX0_give_1 : decode cX0_give 1 = .ok (.invokestatic 30, 3) := by decide +kernel
theorem dX0_give_4 : decode cX0_give 4 = .ok (.ifCond .eq 29, 3) := by decide +kernel
theorem dX0_give_7 : decode cX0_give 7 = .ok (.iload_n 2, 1) := by decide +kernel
theorem dX0_give_8 : decode cX0_give 8 = .ok (.invokestatic 34, 3) := by decide +kernel
theorem dX0_give_11 : decode cX0_give 11 = .ok (.ifCond .eq 22, 3) := by decide +kernel
theorem dX0_give_14 : decode cX0_give 14 = .ok (.aload_n 0, 1) := by decide +kernel
theorem dX0_give_15 : decode cX0_give 15 = .ok (.getfield 16, 3) := by decide +kernel
theorem dX0_give_18 : decode cX0_give 18 = .ok (.iload_n 1, 1) := by decide +kernel
theorem dX0_give_19 : decode cX0_give 19 = .ok (.baload, 1) := by decide +kernel
theorem dX0_give_20 : decode cX0_give 20 = .ok (.ifCond .ge 13, 3) := by decide +kernel
theorem dX0_give_23 : decode cX0_give 23 = .ok (.aload_n 0, 1) := by decide +kernel
theorem dX0_give_24 : decode cX0_give 24 = .ok (.getfield 23, 3) := by decide +kernel
theorem dX0_give_27 : decode cX0_give 27 = .ok (.iload_n 2, 1) := by decide +kernel
theorem dX0_give_28 : decode cX0_give 28 = .ok (.baload, 1) := by decide +kernel
theorem dX0_give_29 : decode cX0_give 29 = .ok (.iload_n 1, 1) := by decide +kernel
theorem dX0_give_30 : decode cX0_give 30 = .ok (.if_icmp .eq 6, 3) := by decide +kernel
theorem dX0_give_33 : decode cX0_give 33 = .ok (.bipush (-2), 2) := by decide +kernel
theorem dX0_give_35 : decode cX0_give 35 = .ok (.ireturn, 1) := by decide +kernel
theorem dX0_give_36 : decode cX0_give 36 = .ok (.aload_n 0, 1) := by decide +kernel
theorem dX0_give_37 : decode cX0_give 37 = .ok (.iload_n 2, 1) := by decide +kernel
theorem dX0_give_38 : decode cX0_give 38 = .ok (.invokevirtual 49, 3) := by decide +kernel
theorem dX0_give_41 : decode cX0_give 41 = .ok (.istore_n 3, 1) := by decide +kernel
theorem dX0_give_42 : decode cX0_give 42 = .ok (.aload_n 0, 1) := by decide +kernel
theorem dX0_give_43 : decode cX0_give 43 = .ok (.getfield 23, 3) := by decide +kernel
theorem dX0_give_46 : decode cX0_give 46 = .ok (.iload_n 2, 1) := by decide +kernel
theorem dX0_give_47 : decode cX0_give 47 = .ok (.iload_n 3, 1) := by decide +kernel
theorem dX0_give_48 : decode cX0_give 48 = .ok (.i2b, 1) := by decide +kernel
theorem dX0_give_49 : decode cX0_give 49 = .ok (.bastore, 1) := by decide +kernel
theorem dX0_give_50 : decode cX0_give 50 = .ok (.iload_n 3, 1) := by decide +kernel
theorem dX0_give_51 : decode cX0_give 51 = .ok (.ifCond .lt 15, 3) := by decide +kernel
theorem dX0_give_54 : decode cX0_give 54 = .ok (.aload_n 0, 1) := by decide +kernel
theorem dX0_give_55 : decode cX0_give 55 = .ok (.getfield 16, 3) := by decide +kernel
theorem dX0_give_58 : decode cX0_give 58 = .ok (.iload_n 3, 1) := by decide +kernel
theorem dX0_give_59 : decode cX0_give 59 = .ok (.iconst (-1), 1) := by decide +kernel
theorem dX0_give_60 : decode cX0_give 60 = .ok (.bastore, 1) := by decide +kernel
theorem dX0_give_61 : decode cX0_give 61 = .ok (.aload_n 0, 1) := by decide +kernel
theorem dX0_give_62 : decode cX0_give 62 = .ok (.iload_n 3, 1) := by decide +kernel
theorem dX0_give_63 : decode cX0_give 63 = .ok (.invokevirtual 45, 3) := by decide +kernel
theorem dX0_give_66 : decode cX0_give 66 = .ok (.aload_n 0, 1) := by decide +kernel
theorem dX0_give_67 : decode cX0_give 67 = .ok (.iload_n 1, 1) := by decide +kernel
theorem dX0_give_68 : decode cX0_give 68 = .ok (.invokevirtual 45, 3) := by decide +kernel
theorem dX0_give_71 : decode cX0_give 71 = .ok (.iload_n 3, 1) := by decide +kernel
theorem dX0_give_72 : decode cX0_give 72 = .ok (.ireturn, 1) := by decide +kernel
abbrev cX0_bestWaiting : ByteArray := prog_1_method_8_code
def yX0_bestWaiting : MethodName := ⟨RX0, "bestWaiting", "(I)I"⟩
theorem dX0_bestWaiting_0 : decode cX0_bestWaiting 0 = .ok (.iconst (-1), 1) := by decide +kernel
theorem dX0_bestWaiting_1 : decode cX0_bestWaiting 1 = .ok (.istore_n 2, 1) := by decide +kernel
theorem dX0_bestWaiting_2 : decode cX0_bestWaiting 2 = .ok (.iconst 0, 1) := by decide +kernel
theorem dX0_bestWaiting_3 : decode cX0_bestWaiting 3 = .ok (.istore_n 3, 1) := by decide +kernel
theorem dX0_bestWaiting_4 : decode cX0_bestWaiting 4 = .ok (.iload_n 3, 1) := by decide +kernel
theorem dX0_bestWaiting_5 : decode cX0_bestWaiting 5 = .ok (.bipush 6, 2) := by decide +kernel
theorem dX0_bestWaiting_7 : decode cX0_bestWaiting 7 = .ok (.if_icmp .ge 102, 3) := by decide +kernel
theorem dX0_bestWaiting_10 : decode cX0_bestWaiting 10 = .ok (.aload_n 0, 1) := by decide +kernel
theorem dX0_bestWaiting_11 : decode cX0_bestWaiting 11 = .ok (.getfield 16, 3) := by decide +kernel
theorem dX0_bestWaiting_14 : decode cX0_bestWaiting 14 = .ok (.iload_n 3, 1) := by decide +kernel
theorem dX0_bestWaiting_15 : decode cX0_bestWaiting 15 = .ok (.baload, 1) := by decide +kernel
theorem dX0_bestWaiting_16 : decode cX0_bestWaiting 16 = .ok (.iload_n 1, 1) := by decide +kernel
theorem dX0_bestWaiting_17 : decode cX0_bestWaiting 17 = .ok (.if_icmp .ne 86, 3) := by decide +kernel
theorem dX0_bestWaiting_20 : decode cX0_bestWaiting 20 = .ok (.iload_n 2, 1) := by decide +kernel
theorem dX0_bestWaiting_21 : decode cX0_bestWaiting 21 = .ok (.ifCond .lt 18, 3) := by decide +kernel
theorem dX0_bestWaiting_24 : decode cX0_bestWaiting 24 = .ok (.aload_n 0, 1) := by decide +kernel
theorem dX0_bestWaiting_25 : decode cX0_bestWaiting 25 = .ok (.getfield 13, 3) := by decide +kernel
theorem dX0_bestWaiting_28 : decode cX0_bestWaiting 28 = .ok (.iload_n 3, 1) := by decide +kernel
theorem dX0_bestWaiting_29 : decode cX0_bestWaiting 29 = .ok (.baload, 1) := by decide +kernel
theorem dX0_bestWaiting_30 : decode cX0_bestWaiting 30 = .ok (.aload_n 0, 1) := by decide +kernel
theorem dX0_bestWaiting_31 : decode cX0_bestWaiting 31 = .ok (.getfield 13, 3) := by decide +kernel
theorem dX0_bestWaiting_34 : decode cX0_bestWaiting 34 = .ok (.iload_n 2, 1) := by decide +kernel
theorem dX0_bestWaiting_35 : decode cX0_bestWaiting 35 = .ok (.baload, 1) := by decide +kernel
theorem dX0_bestWaiting_36 : decode cX0_bestWaiting 36 = .ok (.if_icmp .le 7, 3) := by decide +kernel
theorem dX0_bestWaiting_39 : decode cX0_bestWaiting 39 = .ok (.iconst 1, 1) := by decide +kernel
theorem dX0_bestWaiting_40 : decode cX0_bestWaiting 40 = .ok (.goto 4, 3) := by decide +kernel
theorem dX0_bestWaiting_43 : decode cX0_bestWaiting 43 = .ok (.iconst 0, 1) := by decide +kernel
theorem dX0_bestWaiting_44 : decode cX0_bestWaiting 44 = .ok (.istore 4, 2) := by decide +kernel
theorem dX0_bestWaiting_46 : decode cX0_bestWaiting 46 = .ok (.iload_n 2, 1) := by decide +kernel
theorem dX0_bestWaiting_47 : decode cX0_bestWaiting 47 = .ok (.ifCond .lt 37, 3) := by decide +kernel
theorem dX0_bestWaiting_50 : decode cX0_bestWaiting 50 = .ok (.aload_n 0, 1) := by decide +kernel
theorem dX0_bestWaiting_51 : decode cX0_bestWaiting 51 = .ok (.getfield 13, 3) := by decide +kernel
theorem dX0_bestWaiting_54 : decode cX0_bestWaiting 54 = .ok (.iload_n 3, 1) := by decide +kernel
theorem dX0_bestWaiting_55 : decode cX0_bestWaiting 55 = .ok (.baload, 1) := by decide +kernel
theorem dX0_bestWaiting_56 : decode cX0_bestWaiting 56 = .ok (.aload_n 0, 1) := by decide +kernel
theorem dX0_bestWaiting_57 : decode cX0_bestWaiting 57 = .ok (.getfield 13, 3) := by decide +kernel
theorem dX0_bestWaiting_60 : decode cX0_bestWaiting 60 = .ok (.iload_n 2, 1) := by decide +kernel
theorem dX0_bestWaiting_61 : decode cX0_bestWaiting 61 = .ok (.baload, 1) := by decide +kernel
theorem dX0_bestWaiting_62 : decode cX0_bestWaiting 62 = .ok (.if_icmp .ne 22, 3) := by decide +kernel
theorem dX0_bestWaiting_65 : decode cX0_bestWaiting 65 = .ok (.aload_n 0, 1) := by decide +kernel
theorem dX0_bestWaiting_66 : decode cX0_bestWaiting 66 = .ok (.getfield 19, 3) := by decide +kernel
theorem dX0_bestWaiting_69 : decode cX0_bestWaiting 69 = .ok (.iload_n 3, 1) := by decide +kernel
theorem dX0_bestWaiting_70 : decode cX0_bestWaiting 70 = .ok (.iaload, 1) := by decide +kernel
theorem dX0_bestWaiting_71 : decode cX0_bestWaiting 71 = .ok (.aload_n 0, 1) := by decide +kernel
theorem dX0_bestWaiting_72 : decode cX0_bestWaiting 72 = .ok (.getfield 19, 3) := by decide +kernel
theorem dX0_bestWaiting_75 : decode cX0_bestWaiting 75 = .ok (.iload_n 2, 1) := by decide +kernel
theorem dX0_bestWaiting_76 : decode cX0_bestWaiting 76 = .ok (.iaload, 1) := by decide +kernel
theorem dX0_bestWaiting_77 : decode cX0_bestWaiting 77 = .ok (.if_icmp .ge 7, 3) := by decide +kernel
theorem dX0_bestWaiting_80 : decode cX0_bestWaiting 80 = .ok (.iconst 1, 1) := by decide +kernel
theorem dX0_bestWaiting_81 : decode cX0_bestWaiting 81 = .ok (.goto 4, 3) := by decide +kernel
theorem dX0_bestWaiting_84 : decode cX0_bestWaiting 84 = .ok (.iconst 0, 1) := by decide +kernel
theorem dX0_bestWaiting_85 : decode cX0_bestWaiting 85 = .ok (.istore 5, 2) := by decide +kernel
theorem dX0_bestWaiting_87 : decode cX0_bestWaiting 87 = .ok (.iload 4, 2) := by decide +kernel
theorem dX0_bestWaiting_89 : decode cX0_bestWaiting 89 = .ok (.ifCond .ne 8, 3) := by decide +kernel
theorem dX0_bestWaiting_92 : decode cX0_bestWaiting 92 = .ok (.iload 5, 2) := by decide +kernel
theorem dX0_bestWaiting_94 : decode cX0_bestWaiting 94 = .ok (.ifCond .eq 7, 3) := by decide +kernel
theorem dX0_bestWaiting_97 : decode cX0_bestWaiting 97 = .ok (.iload_n 3, 1) := by decide +kernel
theorem dX0_bestWaiting_98 : decode cX0_bestWaiting 98 = .ok (.goto 4, 3) := by decide +kernel
theorem dX0_bestWaiting_101 : decode cX0_bestWaiting 101 = .ok (.iload_n 2, 1) := by decide +kernel
theorem dX0_bestWaiting_102 : decode cX0_bestWaiting 102 = .ok (.istore_n 2, 1) := by decide +kernel
theorem dX0_bestWaiting_103 : decode cX0_bestWaiting 103 = .ok (.iinc 3 1, 3) := by decide +kernel
theorem dX0_bestWaiting_106 : decode cX0_bestWaiting 106 = .ok (.goto (-102), 3) := by decide +kernel
theorem dX0_bestWaiting_109 : decode cX0_bestWaiting 109 = .ok (.iload_n 2, 1) := by decide +kernel
theorem dX0_bestWaiting_110 : decode cX0_bestWaiting 110 = .ok (.ireturn, 1) := by decide +kernel
abbrev cX0_giveUp : ByteArray := prog_1_method_10_code
def yX0_giveUp : MethodName := ⟨RX0, "giveUp", "(I)Z"⟩
theorem dX0_giveUp_0 : decode cX0_giveUp 0 = .ok (.iload_n 1, 1) := by decide +kernel
theorem dX0_giveUp_1 : decode cX0_giveUp 1 = .ok (.invokestatic 30, 3) := by decide +kernel
theorem dX0_giveUp_4 : decode cX0_giveUp 4 = .ok (.ifCond .eq 12, 3) := by decide +kernel
theorem dX0_giveUp_7 : decode cX0_giveUp 7 = .ok (.aload_n 0, 1) := by decide +kernel
theorem dX0_giveUp_8 : decode cX0_giveUp 8 = .ok (.getfield 16, 3) := by decide +kernel
theorem dX0_giveUp_11 : decode cX0_giveUp 11 = .ok (.iload_n 1, 1) := by decide +kernel
theorem dX0_giveUp_12 : decode cX0_giveUp 12 = .ok (.baload, 1) := by decide +kernel
theorem dX0_giveUp_13 : decode cX0_giveUp 13 = .ok (.ifCond .ge 5, 3) := by decide +kernel
theorem dX0_giveUp_16 : decode cX0_giveUp 16 = .ok (.iconst 0, 1) := by decide +kernel
theorem dX0_giveUp_17 : decode cX0_giveUp 17 = .ok (.ireturn, 1) := by decide +kernel
theorem dX0_giveUp_18 : decode cX0_giveUp 18 = .ok (.aload_n 0, 1) := by decide +kernel
theorem dX0_giveUp_19 : decode cX0_giveUp 19 = .ok (.getfield 23, 3) := by decide +kernel
theorem dX0_giveUp_22 : decode cX0_giveUp 22 = .ok (.aload_n 0, 1) := by decide +kernel
theorem dX0_giveUp_23 : decode cX0_giveUp 23 = .ok (.getfield 16, 3) := by decide +kernel
theorem dX0_giveUp_26 : decode cX0_giveUp 26 = .ok (.iload_n 1, 1) := by decide +kernel
theorem dX0_giveUp_27 : decode cX0_giveUp 27 = .ok (.baload, 1) := by decide +kernel
theorem dX0_giveUp_28 : decode cX0_giveUp 28 = .ok (.baload, 1) := by decide +kernel
theorem dX0_giveUp_29 : decode cX0_giveUp 29 = .ok (.istore_n 2, 1) := by decide +kernel
theorem dX0_giveUp_30 : decode cX0_giveUp 30 = .ok (.aload_n 0, 1) := by decide +kernel
theorem dX0_giveUp_31 : decode cX0_giveUp 31 = .ok (.getfield 16, 3) := by decide +kernel
theorem dX0_giveUp_34 : decode cX0_giveUp 34 = .ok (.iload_n 1, 1) := by decide +kernel
theorem dX0_giveUp_35 : decode cX0_giveUp 35 = .ok (.iconst (-1), 1) := by decide +kernel
theorem dX0_giveUp_36 : decode cX0_giveUp 36 = .ok (.bastore, 1) := by decide +kernel
theorem dX0_giveUp_37 : decode cX0_giveUp 37 = .ok (.aload_n 0, 1) := by decide +kernel
theorem dX0_giveUp_38 : decode cX0_giveUp 38 = .ok (.iload_n 2, 1) := by decide +kernel
theorem dX0_giveUp_39 : decode cX0_giveUp 39 = .ok (.invokevirtual 45, 3) := by decide +kernel
theorem dX0_giveUp_42 : decode cX0_giveUp 42 = .ok (.iconst 1, 1) := by decide +kernel
theorem dX0_giveUp_43 : decode cX0_giveUp 43 = .ok (.ireturn, 1) := by decide +kernel
abbrev cX0_setBase : ByteArray := prog_1_method_11_code
def yX0_setBase : MethodName := ⟨RX0, "setBase", "(II)Z"⟩
theorem dX0_setBase_0 : decode cX0_setBase 0 = .ok (.iload_n 1, 1) := by decide +kernel
theorem dX0_setBase_1 : decode cX0_setBase 1 = .ok (.invokestatic 30, 3) := by decide +kernel
theorem dX0_setBase_4 : decode cX0_setBase 4 = .ok (.ifCond .eq 13, 3) := by decide +kernel
theorem dX0_setBase_7 : decode cX0_setBase 7 = .ok (.iload_n 2, 1) := by decide +kernel
theorem dX0_setBase_8 : decode cX0_setBase 8 = .ok (.ifCond .lt 9, 3) := by decide +kernel
theorem dX0_setBase_11 : decode cX0_setBase 11 = .ok (.iload_n 2, 1) := by decide +kernel
theorem dX0_setBase_12 : decode cX0_setBase 12 = .ok (.bipush 9, 2) := by decide +kernel
theorem dX0_setBase_14 : decode cX0_setBase 14 = .ok (.if_icmp .le 5, 3) := by decide +kernel
theorem dX0_setBase_17 : decode cX0_setBase 17 = .ok (.iconst 0, 1) := by decide +kernel
theorem dX0_setBase_18 : decode cX0_setBase 18 = .ok (.ireturn, 1) := by decide +kernel
theorem dX0_setBase_19 : decode cX0_setBase 19 = .ok (.aload_n 0, 1) := by decide +kernel
theorem dX0_setBase_20 : decode cX0_setBase 20 = .ok (.getfield 7, 3) := by decide +kernel
theorem dX0_setBase_23 : decode cX0_setBase 23 = .ok (.iload_n 1, 1) := by decide +kernel
theorem dX0_setBase_24 : decode cX0_setBase 24 = .ok (.iload_n 2, 1) := by decide +kernel
theorem dX0_setBase_25 : decode cX0_setBase 25 = .ok (.i2b, 1) := by decide +kernel
theorem dX0_setBase_26 : decode cX0_setBase 26 = .ok (.bastore, 1) := by decide +kernel
theorem dX0_setBase_27 : decode cX0_setBase 27 = .ok (.aload_n 0, 1) := by decide +kernel
theorem dX0_setBase_28 : decode cX0_setBase 28 = .ok (.iload_n 1, 1) := by decide +kernel
theorem dX0_setBase_29 : decode cX0_setBase 29 = .ok (.invokevirtual 45, 3) := by decide +kernel
theorem dX0_setBase_32 : decode cX0_setBase 32 = .ok (.iconst 1, 1) := by decide +kernel
theorem dX0_setBase_33 : decode cX0_setBase 33 = .ok (.ireturn, 1) := by decide +kernel
abbrev cX0_urgency : ByteArray := prog_1_method_12_code
def yX0_urgency : MethodName := ⟨RX0, "urgency", "(I)I"⟩
theorem dX0_urgency_0 : decode cX0_urgency 0 = .ok (.iload_n 1, 1) := by decide +kernel
theorem dX0_urgency_1 : decode cX0_urgency 1 = .ok (.invokestatic 30, 3) := by decide +kernel
theorem dX0_urgency_4 : decode cX0_urgency 4 = .ok (.ifCond .eq 12, 3) := by decide +kernel
theorem dX0_urgency_7 : decode cX0_urgency 7 = .ok (.aload_n 0, 1) := by decide +kernel
theorem dX0_urgency_8 : decode cX0_urgency 8 = .ok (.getfield 13, 3) := by decide +kernel
theorem dX0_urgency_11 : decode cX0_urgency 11 = .ok (.iload_n 1, 1) := by decide +kernel
theorem dX0_urgency_12 : decode cX0_urgency 12 = .ok (.baload, 1) := by decide +kernel
theorem dX0_urgency_13 : decode cX0_urgency 13 = .ok (.goto 4, 3) := by decide +kernel
theorem dX0_urgency_16 : decode cX0_urgency 16 = .ok (.iconst (-1), 1) := by decide +kernel
theorem dX0_urgency_17 : decode cX0_urgency 17 = .ok (.ireturn, 1) := by decide +kernel
abbrev cX0_base : ByteArray := prog_1_method_13_code
def yX0_base : MethodName := ⟨RX0, "base", "(I)I"⟩
theorem dX0_base_0 : decode cX0_base 0 = .ok (.iload_n 1, 1) := by decide +kernel
theorem dX0_base_1 : decode cX0_base 1 = .ok (.invokestatic 30, 3) := by decide +kernel
theorem dX0_base_4 : decode cX0_base 4 = .ok (.ifCond .eq 12, 3) := by decide +kernel
theorem dX0_base_7 : decode cX0_base 7 = .ok (.aload_n 0, 1) := by decide +kernel
theorem dX0_base_8 : decode cX0_base 8 = .ok (.getfield 7, 3) := by decide +kernel
theorem dX0_base_11 : decode cX0_base 11 = .ok (.iload_n 1, 1) := by decide +kernel
theorem dX0_base_12 : decode cX0_base 12 = .ok (.baload, 1) := by decide +kernel
theorem dX0_base_13 : decode cX0_base 13 = .ok (.goto 4, 3) := by decide +kernel
theorem dX0_base_16 : decode cX0_base 16 = .ok (.iconst (-1), 1) := by decide +kernel
theorem dX0_base_17 : decode cX0_base 17 = .ok (.ireturn, 1) := by decide +kernel
abbrev cX0_holder : ByteArray := prog_1_method_14_code
def yX0_holder : MethodName := ⟨RX0, "holder", "(I)I"⟩
theorem dX0_holder_0 : decode cX0_holder 0 = .ok (.iload_n 1, 1) := by decide +kernel
theorem dX0_holder_1 : decode cX0_holder 1 = .ok (.invokestatic 34, 3) := by decide +kernel
theorem dX0_holder_4 : decode cX0_holder 4 = .ok (.ifCond .eq 12, 3) := by decide +kernel
theorem dX0_holder_7 : decode cX0_holder 7 = .ok (.aload_n 0, 1) := by decide +kernel
theorem dX0_holder_8 : decode cX0_holder 8 = .ok (.getfield 23, 3) := by decide +kernel
theorem dX0_holder_11 : decode cX0_holder 11 = .ok (.iload_n 1, 1) := by decide +kernel
theorem dX0_holder_12 : decode cX0_holder 12 = .ok (.baload, 1) := by decide +kernel
theorem dX0_holder_13 : decode cX0_holder 13 = .ok (.goto 4, 3) := by decide +kernel
theorem dX0_holder_16 : decode cX0_holder 16 = .ok (.iconst (-1), 1) := by decide +kernel
theorem dX0_holder_17 : decode cX0_holder 17 = .ok (.ireturn, 1) := by decide +kernel
abbrev cX0_waitsFor : ByteArray := prog_1_method_15_code
def yX0_waitsFor : MethodName := ⟨RX0, "waitsFor", "(I)I"⟩
theorem dX0_waitsFor_0 : decode cX0_waitsFor 0 = .ok (.iload_n 1, 1) := by decide +kernel
theorem dX0_waitsFor_1 : decode cX0_waitsFor 1 = .ok (.invokestatic 30, 3) := by decide +kernel
theorem dX0_waitsFor_4 : decode cX0_waitsFor 4 = .ok (.ifCond .eq 12, 3) := by decide +kernel
theorem dX0_waitsFor_7 : decode cX0_waitsFor 7 = .ok (.aload_n 0, 1) := by decide +kernel
theorem dX0_waitsFor_8 : decode cX0_waitsFor 8 = .ok (.getfield 16, 3) := by decide +kernel
theorem dX0_waitsFor_11 : decode cX0_waitsFor 11 = .ok (.iload_n 1, 1) := by decide +kernel
theorem dX0_waitsFor_12 : decode cX0_waitsFor 12 = .ok (.baload, 1) := by decide +kernel
theorem dX0_waitsFor_13 : decode cX0_waitsFor 13 = .ok (.goto 4, 3) := by decide +kernel
theorem dX0_waitsFor_16 : decode cX0_waitsFor 16 = .ok (.iconst (-1), 1) := by decide +kernel
theorem dX0_waitsFor_17 : decode cX0_waitsFor 17 = .ok (.ireturn, 1) := by decide +kernel
abbrev cX0_waiting : ByteArray := prog_1_method_16_code
def yX0_waiting : MethodName := ⟨RX0, "waiting", "(I)I"⟩
theorem dX0_waiting_0 : decode cX0_waiting 0 = .ok (.iconst 0, 1) := by decide +kernel
theorem dX0_waiting_1 : decode cX0_waiting 1 = .ok (.istore_n 2, 1) := by decide +kernel
theorem dX0_waiting_2 : decode cX0_waiting 2 = .ok (.iconst 0, 1) := by decide +kernel
theorem dX0_waiting_3 : decode cX0_waiting 3 = .ok (.istore_n 3, 1) := by decide +kernel
theorem dX0_waiting_4 : decode cX0_waiting 4 = .ok (.iload_n 3, 1) := by decide +kernel
theorem dX0_waiting_5 : decode cX0_waiting 5 = .ok (.bipush 6, 2) := by decide +kernel
theorem dX0_waiting_7 : decode cX0_waiting 7 = .ok (.if_icmp .ge 34, 3) := by decide +kernel
theorem dX0_waiting_10 : decode cX0_waiting 10 = .ok (.iload_n 1, 1) := by decide +kernel
theorem dX0_waiting_11 : decode cX0_waiting 11 = .ok (.invokestatic 34, 3) := by decide +kernel
theorem dX0_waiting_14 : decode cX0_waiting 14 = .ok (.ifCond .eq 27, 3) := by decide +kernel
theorem dX0_waiting_17 : decode cX0_waiting 17 = .ok (.iload_n 2, 1) := by decide +kernel
theorem dX0_waiting_18 : decode cX0_waiting 18 = .ok (.aload_n 0, 1) := by decide +kernel
theorem dX0_waiting_19 : decode cX0_waiting 19 = .ok (.getfield 16, 3) := by decide +kernel
theorem dX0_waiting_22 : decode cX0_waiting 22 = .ok (.iload_n 3, 1) := by decide +kernel
theorem dX0_waiting_23 : decode cX0_waiting 23 = .ok (.baload, 1) := by decide +kernel
theorem dX0_waiting_24 : decode cX0_waiting 24 = .ok (.iload_n 1, 1) := by decide +kernel
theorem dX0_waiting_25 : decode cX0_waiting 25 = .ok (.if_icmp .ne 7, 3) := by decide +kernel
theorem dX0_waiting_28 : decode cX0_waiting 28 = .ok (.iconst 1, 1) := by decide +kernel
theorem dX0_waiting_29 : decode cX0_waiting 29 = .ok (.goto 4, 3) := by decide +kernel
theorem dX0_waiting_32 : decode cX0_waiting 32 = .ok (.iconst 0, 1) := by decide +kernel
theorem dX0_waiting_33 : decode cX0_waiting 33 = .ok (.iadd, 1) := by decide +kernel
theorem dX0_waiting_34 : decode cX0_waiting 34 = .ok (.istore_n 2, 1) := by decide +kernel
theorem dX0_waiting_35 : decode cX0_waiting 35 = .ok (.iinc 3 1, 3) := by decide +kernel
theorem dX0_waiting_38 : decode cX0_waiting 38 = .ok (.goto (-34), 3) := by decide +kernel
theorem dX0_waiting_41 : decode cX0_waiting 41 = .ok (.iload_n 2, 1) := by decide +kernel
theorem dX0_waiting_42 : decode cX0_waiting 42 = .ok (.ireturn, 1) := by decide +kernel
abbrev cX0_nextFor : ByteArray := prog_1_method_17_code
def yX0_nextFor : MethodName := ⟨RX0, "nextFor", "(I)I"⟩
theorem dX0_nextFor_0 : decode cX0_nextFor 0 = .ok (.iload_n 1, 1) := by decide +kernel
theorem dX0_nextFor_1 : decode cX0_nextFor 1 = .ok (.invokestatic 34, 3) := by decide +kernel
theorem dX0_nextFor_4 : decode cX0_nextFor 4 = .ok (.ifCond .eq 11, 3) := by decide +kernel
theorem dX0_nextFor_7 : decode cX0_nextFor 7 = .ok (.aload_n 0, 1) := by decide +kernel
theorem dX0_nextFor_8 : decode cX0_nextFor 8 = .ok (.iload_n 1, 1) := by decide +kernel
theorem dX0_nextFor_9 : decode cX0_nextFor 9 = .ok (.invokevirtual 49, 3) := by decide +kernel
theorem dX0_nextFor_12 : decode cX0_nextFor 12 = .ok (.goto 4, 3) := by decide +kernel
theorem dX0_nextFor_15 : decode cX0_nextFor 15 = .ok (.iconst (-1), 1) := by decide +kernel
theorem dX0_nextFor_16 : decode cX0_nextFor 16 = .ok (.ireturn, 1) := by decide +kernel
abbrev cX0_held : ByteArray := prog_1_method_18_code
def yX0_held : MethodName := ⟨RX0, "held", "(I)I"⟩
theorem dX0_held_0 : decode cX0_held 0 = .ok (.iconst 0, 1) := by decide +kernel
theorem dX0_held_1 : decode cX0_held 1 = .ok (.istore_n 2, 1) := by decide +kernel
theorem dX0_held_2 : decode cX0_held 2 = .ok (.iconst 0, 1) := by decide +kernel
theorem dX0_held_3 : decode cX0_held 3 = .ok (.istore_n 3, 1) := by decide +kernel
theorem dX0_held_4 : decode cX0_held 4 = .ok (.iload_n 3, 1) := by decide +kernel
theorem dX0_held_5 : decode cX0_held 5 = .ok (.iconst 5, 1) := by decide +kernel
theorem dX0_held_6 : decode cX0_held 6 = .ok (.if_icmp .ge 36, 3) := by decide +kernel
theorem dX0_held_9 : decode cX0_held 9 = .ok (.iload_n 1, 1) := by decide +kernel
theorem dX0_held_10 : decode cX0_held 10 = .ok (.invokestatic 30, 3) := by decide +kernel
theorem dX0_held_13 : decode cX0_held 13 = .ok (.ifCond .eq 29, 3) := by decide +kernel
theorem dX0_held_16 : decode cX0_held 16 = .ok (.iload_n 2, 1) := by decide +kernel
theorem dX0_held_17 : decode cX0_held 17 = .ok (.aload_n 0, 1) := by decide +kernel
theorem dX0_held_18 : decode cX0_held 18 = .ok (.getfield 23, 3) := by decide +kernel
theorem dX0_held_21 : decode cX0_held 21 = .ok (.iload_n 3, 1) := by decide +kernel
theorem dX0_held_22 : decode cX0_held 22 = .ok (.baload, 1) := by decide +kernel
theorem dX0_held_23 : decode cX0_held 23 = .ok (.iload_n 1, 1) := by decide +kernel
theorem dX0_held_24 : decode cX0_held 24 = .ok (.if_icmp .ne 9, 3) := by decide +kernel
theorem dX0_held_27 : decode cX0_held 27 = .ok (.iconst 1, 1) := by decide +kernel
theorem dX0_held_28 : decode cX0_held 28 = .ok (.iload_n 3, 1) := by decide +kernel
theorem dX0_held_29 : decode cX0_held 29 = .ok (.ishl, 1) := by decide +kernel
theorem dX0_held_30 : decode cX0_held 30 = .ok (.goto 4, 3) := by decide +kernel
theorem dX0_held_33 : decode cX0_held 33 = .ok (.iconst 0, 1) := by decide +kernel
theorem dX0_held_34 : decode cX0_held 34 = .ok (.ior, 1) := by decide +kernel
theorem dX0_held_35 : decode cX0_held 35 = .ok (.istore_n 2, 1) := by decide +kernel
theorem dX0_held_36 : decode cX0_held 36 = .ok (.iinc 3 1, 3) := by decide +kernel
theorem dX0_held_39 : decode cX0_held 39 = .ok (.goto (-35), 3) := by decide +kernel
theorem dX0_held_42 : decode cX0_held 42 = .ok (.iload_n 2, 1) := by decide +kernel
theorem dX0_held_43 : decode cX0_held 43 = .ok (.ireturn, 1) := by decide +kernel
abbrev cX0_running : ByteArray := prog_1_method_19_code
def yX0_running : MethodName := ⟨RX0, "running", "()I"⟩
theorem dX0_running_0 : decode cX0_running 0 = .ok (.iconst (-1), 1) := by decide +kernel
theorem dX0_running_1 : decode cX0_running 1 = .ok (.istore_n 1, 1) := by decide +kernel
theorem dX0_running_2 : decode cX0_running 2 = .ok (.iconst 0, 1) := by decide +kernel
theorem dX0_running_3 : decode cX0_running 3 = .ok (.istore_n 2, 1) := by decide +kernel
theorem dX0_running_4 : decode cX0_running 4 = .ok (.iload_n 2, 1) := by decide +kernel
theorem dX0_running_5 : decode cX0_running 5 = .ok (.bipush 6, 2) := by decide +kernel
theorem dX0_running_7 : decode cX0_running 7 = .ok (.if_icmp .ge 39, 3) := by decide +kernel
theorem dX0_running_10 : decode cX0_running 10 = .ok (.aload_n 0, 1) := by decide +kernel
theorem dX0_running_11 : decode cX0_running 11 = .ok (.getfield 16, 3) := by decide +kernel
theorem dX0_running_14 : decode cX0_running 14 = .ok (.iload_n 2, 1) := by decide +kernel
theorem dX0_running_15 : decode cX0_running 15 = .ok (.baload, 1) := by decide +kernel
theorem dX0_running_16 : decode cX0_running 16 = .ok (.ifCond .ge 24, 3) := by decide +kernel
theorem dX0_running_19 : decode cX0_running 19 = .ok (.iload_n 1, 1) := by decide +kernel
theorem dX0_running_20 : decode cX0_running 20 = .ok (.ifCond .lt 18, 3) := by decide +kernel
theorem dX0_running_23 : decode cX0_running 23 = .ok (.aload_n 0, 1) := by decide +kernel
theorem dX0_running_24 : decode cX0_running 24 = .ok (.getfield 13, 3) := by decide +kernel
theorem dX0_running_27 : decode cX0_running 27 = .ok (.iload_n 2, 1) := by decide +kernel
theorem dX0_running_28 : decode cX0_running 28 = .ok (.baload, 1) := by decide +kernel
theorem dX0_running_29 : decode cX0_running 29 = .ok (.aload_n 0, 1) := by decide +kernel
theorem dX0_running_30 : decode cX0_running 30 = .ok (.getfield 13, 3) := by decide +kernel
theorem dX0_running_33 : decode cX0_running 33 = .ok (.iload_n 1, 1) := by decide +kernel
theorem dX0_running_34 : decode cX0_running 34 = .ok (.baload, 1) := by decide +kernel
theorem dX0_running_35 : decode cX0_running 35 = .ok (.if_icmp .le 5, 3) := by decide +kernel
theorem dX0_running_38 : decode cX0_running 38 = .ok (.iload_n 2, 1) := by decide +kernel
theorem dX0_running_39 : decode cX0_running 39 = .ok (.istore_n 1, 1) := by decide +kernel
theorem dX0_running_40 : decode cX0_running 40 = .ok (.iinc 2 1, 3) := by decide +kernel
theorem dX0_running_43 : decode cX0_running 43 = .ok (.goto (-39), 3) := by decide +kernel
theorem dX0_running_46 : decode cX0_running 46 = .ok (.iload_n 1, 1) := by decide +kernel
theorem dX0_running_47 : decode cX0_running 47 = .ok (.ireturn, 1) := by decide +kernel
abbrev cX0_waitingOn : ByteArray := prog_1_method_20_code
def yX0_waitingOn : MethodName := ⟨RX0, "waitingOn", "(I)I"⟩
theorem dX0_waitingOn_0 : decode cX0_waitingOn 0 = .ok (.iconst 0, 1) := by decide +kernel
theorem dX0_waitingOn_1 : decode cX0_waitingOn 1 = .ok (.istore_n 2, 1) := by decide +kernel
theorem dX0_waitingOn_2 : decode cX0_waitingOn 2 = .ok (.iconst 0, 1) := by decide +kernel
theorem dX0_waitingOn_3 : decode cX0_waitingOn 3 = .ok (.istore_n 3, 1) := by decide +kernel
theorem dX0_waitingOn_4 : decode cX0_waitingOn 4 = .ok (.iload_n 3, 1) := by decide +kernel
theorem dX0_waitingOn_5 : decode cX0_waitingOn 5 = .ok (.bipush 6, 2) := by decide +kernel
theorem dX0_waitingOn_7 : decode cX0_waitingOn 7 = .ok (.if_icmp .ge 35, 3) := by decide +kernel
theorem dX0_waitingOn_10 : decode cX0_waitingOn 10 = .ok (.iload_n 1, 1) := by decide +kernel
theorem dX0_waitingOn_11 : decode cX0_waitingOn 11 = .ok (.invokestatic 30, 3) := by decide +kernel
theorem dX0_waitingOn_14 : decode cX0_waitingOn 14 = .ok (.ifCond .eq 28, 3) := by decide +kernel
theorem dX0_waitingOn_17 : decode cX0_waitingOn 17 = .ok (.iload_n 2, 1) := by decide +kernel
theorem dX0_waitingOn_18 : decode cX0_waitingOn 18 = .ok (.aload_n 0, 1) := by decide +kernel
theorem dX0_waitingOn_19 : decode cX0_waitingOn 19 = .ok (.iload_n 3, 1) := by decide +kernel
theorem dX0_waitingOn_20 : decode cX0_waitingOn 20 = .ok (.iload_n 1, 1) := by decide +kernel
theorem dX0_waitingOn_21 : decode cX0_waitingOn 21 = .ok (.invokevirtual 37, 3) := by decide +kernel
theorem dX0_waitingOn_24 : decode cX0_waitingOn 24 = .ok (.ifCond .eq 9, 3) := by decide +kernel
theorem dX0_waitingOn_27 : decode cX0_waitingOn 27 = .ok (.iconst 1, 1) := by decide +kernel
theorem dX0_waitingOn_28 : decode cX0_waitingOn 28 = .ok (.iload_n 3, 1) := by decide +kernel
theorem dX0_waitingOn_29 : decode cX0_waitingOn 29 = .ok (.ishl, 1) := by decide +kernel
theorem dX0_waitingOn_30 : decode cX0_waitingOn 30 = .ok (.goto 4, 3) := by decide +kernel
theorem dX0_waitingOn_33 : decode cX0_waitingOn 33 = .ok (.iconst 0, 1) := by decide +kernel
theorem dX0_waitingOn_34 : decode cX0_waitingOn 34 = .ok (.ior, 1) := by decide +kernel
theorem dX0_waitingOn_35 : decode cX0_waitingOn 35 = .ok (.istore_n 2, 1) := by decide +kernel
theorem dX0_waitingOn_36 : decode cX0_waitingOn 36 = .ok (.iinc 3 1, 3) := by decide +kernel
theorem dX0_waitingOn_39 : decode cX0_waitingOn 39 = .ok (.goto (-35), 3) := by decide +kernel
theorem dX0_waitingOn_42 : decode cX0_waitingOn 42 = .ok (.iload_n 2, 1) := by decide +kernel
theorem dX0_waitingOn_43 : decode cX0_waitingOn 43 = .ok (.ireturn, 1) := by decide +kernel
abbrev cX0_lifted : ByteArray := prog_1_method_21_code
def yX0_lifted : MethodName := ⟨RX0, "lifted", "()I"⟩
theorem dX0_lifted_0 : decode cX0_lifted 0 = .ok (.iconst 0, 1) := by decide +kernel
theorem dX0_lifted_1 : decode cX0_lifted 1 = .ok (.istore_n 1, 1) := by decide +kernel
theorem dX0_lifted_2 : decode cX0_lifted 2 = .ok (.iconst 0, 1) := by decide +kernel
theorem dX0_lifted_3 : decode cX0_lifted 3 = .ok (.istore_n 2, 1) := by decide +kernel
theorem dX0_lifted_4 : decode cX0_lifted 4 = .ok (.iload_n 2, 1) := by decide +kernel
theorem dX0_lifted_5 : decode cX0_lifted 5 = .ok (.bipush 6, 2) := by decide +kernel
theorem dX0_lifted_7 : decode cX0_lifted 7 = .ok (.if_icmp .ge 34, 3) := by decide +kernel
theorem dX0_lifted_10 : decode cX0_lifted 10 = .ok (.iload_n 1, 1) := by decide +kernel
theorem dX0_lifted_11 : decode cX0_lifted 11 = .ok (.aload_n 0, 1) := by decide +kernel
theorem dX0_lifted_12 : decode cX0_lifted 12 = .ok (.getfield 13, 3) := by decide +kernel
theorem dX0_lifted_15 : decode cX0_lifted 15 = .ok (.iload_n 2, 1) := by decide +kernel
theorem dX0_lifted_16 : decode cX0_lifted 16 = .ok (.baload, 1) := by decide +kernel
theorem dX0_lifted_17 : decode cX0_lifted 17 = .ok (.aload_n 0, 1) := by decide +kernel
theorem dX0_lifted_18 : decode cX0_lifted 18 = .ok (.getfield 7, 3) := by decide +kernel
theorem dX0_lifted_21 : decode cX0_lifted 21 = .ok (.iload_n 2, 1) := by decide +kernel
theorem dX0_lifted_22 : decode cX0_lifted 22 = .ok (.baload, 1) := by decide +kernel
theorem dX0_lifted_23 : decode cX0_lifted 23 = .ok (.if_icmp .le 9, 3) := by decide +kernel
theorem dX0_lifted_26 : decode cX0_lifted 26 = .ok (.iconst 1, 1) := by decide +kernel
theorem dX0_lifted_27 : decode cX0_lifted 27 = .ok (.iload_n 2, 1) := by decide +kernel
theorem dX0_lifted_28 : decode cX0_lifted 28 = .ok (.ishl, 1) := by decide +kernel
theorem dX0_lifted_29 : decode cX0_lifted 29 = .ok (.goto 4, 3) := by decide +kernel
theorem dX0_lifted_32 : decode cX0_lifted 32 = .ok (.iconst 0, 1) := by decide +kernel
theorem dX0_lifted_33 : decode cX0_lifted 33 = .ok (.ior, 1) := by decide +kernel
theorem dX0_lifted_34 : decode cX0_lifted 34 = .ok (.istore_n 1, 1) := by decide +kernel
theorem dX0_lifted_35 : decode cX0_lifted 35 = .ok (.iinc 2 1, 3) := by decide +kernel
theorem dX0_lifted_38 : decode cX0_lifted 38 = .ok (.goto (-34), 3) := by decide +kernel
theorem dX0_lifted_41 : decode cX0_lifted 41 = .ok (.iload_n 1, 1) := by decide +kernel
theorem dX0_lifted_42 : decode cX0_lifted 42 = .ok (.ireturn, 1) := by decide +kernel
theorem q9 : (Jvm.Cond.initialized "PriorityLocks") ∈ lw_all := lw_g (lw_at lw_m0 1 rfl) rfl
theorem q12 : (Jvm.Cond.instantiable "PriorityLocks" (6 : Nat)) ∈ lw_all := lw_g (lw_at lw_m0 4 rfl) rfl
theorem q14 : (Jvm.Cond.instanceMethod ({ cls := "PriorityLocks", name := "<init>", desc := "()V" } : Jvm.MethodName)) ∈ lw_all := lw_g (lw_at lw_m0 6 rfl) rfl
theorem q15 : (Jvm.Cond.code ({ cls := "PriorityLocks", name := "<init>", desc := "()V" } : Jvm.MethodName) prog_1_method_1_code (2 : Nat) (Option.none : Option Jvm.ClassFile.FieldType)) ∈ lw_all := lw_g (lw_at lw_m0 7 rfl) rfl
theorem q16 : (Jvm.Cond.methodLink "PriorityLocks" (1 : Nat) ({ cls := "java/lang/Object", name := "<init>", desc := "()V" } : Jvm.MethodName)) ∈ lw_all := lw_g (lw_at lw_m0 8 rfl) rfl
theorem q19 : (Jvm.Cond.fieldLink "PriorityLocks" (7 : Nat) "PriorityLocks" "baseOf" "[B") ∈ lw_all := lw_g (lw_at lw_m0 11 rfl) rfl
theorem q20 : (Jvm.Cond.fieldLink "PriorityLocks" (13 : Nat) "PriorityLocks" "urgencyOf" "[B") ∈ lw_all := lw_g (lw_at lw_m0 12 rfl) rfl
theorem q21 : (Jvm.Cond.fieldLink "PriorityLocks" (16 : Nat) "PriorityLocks" "waitsAt" "[B") ∈ lw_all := lw_g (lw_at lw_m0 13 rfl) rfl
theorem q22 : (Jvm.Cond.fieldLink "PriorityLocks" (19 : Nat) "PriorityLocks" "since" "[I") ∈ lw_all := lw_g (lw_at lw_m0 14 rfl) rfl
theorem q23 : (Jvm.Cond.fieldLink "PriorityLocks" (23 : Nat) "PriorityLocks" "holderOf" "[B") ∈ lw_all := lw_g (lw_at lw_m0 15 rfl) rfl
theorem q24 : (Jvm.Cond.fieldLink "PriorityLocks" (41 : Nat) "PriorityLocks" "stamp" "I") ∈ lw_all := lw_g (lw_at lw_m0 16 rfl) rfl
theorem q25 : (Jvm.Cond.laysFinal "PriorityLocks" "PriorityLocks" "baseOf" "[B") ∈ lw_all := lw_g (lw_at lw_m0 17 rfl) rfl
theorem q26 : (Jvm.Cond.soleField "PriorityLocks" "baseOf") ∈ lw_all := lw_g (lw_at lw_m0 18 rfl) rfl
theorem q27 : (Jvm.Cond.laysFinal "PriorityLocks" "PriorityLocks" "urgencyOf" "[B") ∈ lw_all := lw_g (lw_at lw_m0 19 rfl) rfl
theorem q28 : (Jvm.Cond.soleField "PriorityLocks" "urgencyOf") ∈ lw_all := lw_g (lw_at lw_m0 20 rfl) rfl
theorem q29 : (Jvm.Cond.laysFinal "PriorityLocks" "PriorityLocks" "waitsAt" "[B") ∈ lw_all := lw_g (lw_at lw_m0 21 rfl) rfl
theorem q30 : (Jvm.Cond.soleField "PriorityLocks" "waitsAt") ∈ lw_all := lw_g (lw_at lw_m0 22 rfl) rfl
theorem q31 : (Jvm.Cond.laysFinal "PriorityLocks" "PriorityLocks" "since" "[I") ∈ lw_all := lw_g (lw_at lw_m0 23 rfl) rfl
theorem q32 : (Jvm.Cond.soleField "PriorityLocks" "since") ∈ lw_all := lw_g (lw_at lw_m0 24 rfl) rfl
theorem q33 : (Jvm.Cond.laysFinal "PriorityLocks" "PriorityLocks" "holderOf" "[B") ∈ lw_all := lw_g (lw_at lw_m0 25 rfl) rfl
theorem q34 : (Jvm.Cond.soleField "PriorityLocks" "holderOf") ∈ lw_all := lw_g (lw_at lw_m0 26 rfl) rfl
theorem q35 : (Jvm.Cond.lays "PriorityLocks" "PriorityLocks" "stamp" "I") ∈ lw_all := lw_g (lw_at lw_m0 27 rfl) rfl
theorem q36 : (Jvm.Cond.soleField "PriorityLocks" "stamp") ∈ lw_all := lw_g (lw_at lw_m0 28 rfl) rfl
theorem q37 : (Jvm.Cond.superclass "PriorityLocks" "java/lang/Object") ∈ lw_all := lw_g (lw_at lw_m0 29 rfl) rfl
theorem q41 : (Jvm.Cond.instanceMethod ({ cls := "PriorityLocks", name := "take", desc := "(II)I" } : Jvm.MethodName)) ∈ lw_all := lw_g (lw_at lw_m0 33 rfl) rfl
theorem q42 : (Jvm.Cond.selects "PriorityLocks" ({ cls := "PriorityLocks", name := "take", desc := "(II)I" } : Jvm.MethodName) ({ cls := "PriorityLocks", name := "take", desc := "(II)I" } : Jvm.MethodName)) ∈ lw_all := lw_g (lw_at lw_m0 34 rfl) rfl
theorem q43 : (Jvm.Cond.code ({ cls := "PriorityLocks", name := "take", desc := "(II)I" } : Jvm.MethodName) prog_1_method_7_code (4 : Nat) (Option.some Jvm.ClassFile.FieldType.int)) ∈ lw_all := lw_g (lw_at lw_m0 35 rfl) rfl
theorem q44 : (Jvm.Cond.methodLink "PriorityLocks" (30 : Nat) ({ cls := "PriorityLocks", name := "isThread", desc := "(I)Z" } : Jvm.MethodName)) ∈ lw_all := lw_g (lw_at lw_m0 36 rfl) rfl
theorem q45 : (Jvm.Cond.static ({ cls := "PriorityLocks", name := "isThread", desc := "(I)Z" } : Jvm.MethodName)) ∈ lw_all := lw_g (lw_at lw_m0 37 rfl) rfl
theorem q46 : (Jvm.Cond.code ({ cls := "PriorityLocks", name := "isThread", desc := "(I)Z" } : Jvm.MethodName) prog_1_method_2_code (1 : Nat) (Option.some Jvm.ClassFile.FieldType.boolean)) ∈ lw_all := lw_g (lw_at lw_m0 38 rfl) rfl
theorem q47 : (Jvm.Cond.methodLink "PriorityLocks" (34 : Nat) ({ cls := "PriorityLocks", name := "isLock", desc := "(I)Z" } : Jvm.MethodName)) ∈ lw_all := lw_g (lw_at lw_m0 39 rfl) rfl
theorem q48 : (Jvm.Cond.static ({ cls := "PriorityLocks", name := "isLock", desc := "(I)Z" } : Jvm.MethodName)) ∈ lw_all := lw_g (lw_at lw_m0 40 rfl) rfl
theorem q49 : (Jvm.Cond.code ({ cls := "PriorityLocks", name := "isLock", desc := "(I)Z" } : Jvm.MethodName) prog_1_method_3_code (1 : Nat) (Option.some Jvm.ClassFile.FieldType.boolean)) ∈ lw_all := lw_g (lw_at lw_m0 41 rfl) rfl
theorem q50 : (Jvm.Cond.methodLink "PriorityLocks" (37 : Nat) ({ cls := "PriorityLocks", name := "dependsOn", desc := "(II)Z" } : Jvm.MethodName)) ∈ lw_all := lw_g (lw_at lw_m0 42 rfl) rfl
theorem q51 : (Jvm.Cond.privateMethod ({ cls := "PriorityLocks", name := "dependsOn", desc := "(II)Z" } : Jvm.MethodName)) ∈ lw_tbl := lw_at lw_m0 43 rfl
theorem q52 : (Jvm.Cond.instanceMethod ({ cls := "PriorityLocks", name := "dependsOn", desc := "(II)Z" } : Jvm.MethodName)) ∈ lw_all := lw_g (lw_at lw_m0 44 rfl) rfl
theorem q53 : (Jvm.Cond.code ({ cls := "PriorityLocks", name := "dependsOn", desc := "(II)Z" } : Jvm.MethodName) prog_1_method_6_code (5 : Nat) (Option.some Jvm.ClassFile.FieldType.boolean)) ∈ lw_all := lw_g (lw_at lw_m0 45 rfl) rfl
theorem q54 : (Jvm.Cond.methodLink "PriorityLocks" (45 : Nat) ({ cls := "PriorityLocks", name := "refresh", desc := "(I)V" } : Jvm.MethodName)) ∈ lw_all := lw_g (lw_at lw_m0 46 rfl) rfl
theorem q55 : (Jvm.Cond.privateMethod ({ cls := "PriorityLocks", name := "refresh", desc := "(I)V" } : Jvm.MethodName)) ∈ lw_tbl := lw_at lw_m0 47 rfl
theorem q56 : (Jvm.Cond.instanceMethod ({ cls := "PriorityLocks", name := "refresh", desc := "(I)V" } : Jvm.MethodName)) ∈ lw_all := lw_g (lw_at lw_m0 48 rfl) rfl
theorem q57 : (Jvm.Cond.code ({ cls := "PriorityLocks", name := "refresh", desc := "(I)V" } : Jvm.MethodName) prog_1_method_5_code (6 : Nat) (Option.none : Option Jvm.ClassFile.FieldType)) ∈ lw_all := lw_g (lw_at lw_m0 49 rfl) rfl
theorem q58 : (Jvm.Cond.methodLink "PriorityLocks" (26 : Nat) ({ cls := "PriorityLocks", name := "lent", desc := "(I)I" } : Jvm.MethodName)) ∈ lw_all := lw_g (lw_at lw_m0 50 rfl) rfl
theorem q59 : (Jvm.Cond.privateMethod ({ cls := "PriorityLocks", name := "lent", desc := "(I)I" } : Jvm.MethodName)) ∈ lw_tbl := lw_at lw_m0 51 rfl
theorem q60 : (Jvm.Cond.instanceMethod ({ cls := "PriorityLocks", name := "lent", desc := "(I)I" } : Jvm.MethodName)) ∈ lw_all := lw_g (lw_at lw_m0 52 rfl) rfl
theorem q61 : (Jvm.Cond.code ({ cls := "PriorityLocks", name := "lent", desc := "(I)I" } : Jvm.MethodName) prog_1_method_4_code (5 : Nat) (Option.some Jvm.ClassFile.FieldType.int)) ∈ lw_all := lw_g (lw_at lw_m0 53 rfl) rfl
theorem q63 : (Jvm.Cond.instanceMethod ({ cls := "PriorityLocks", name := "give", desc := "(II)I" } : Jvm.MethodName)) ∈ lw_all := lw_g (lw_at lw_m0 55 rfl) rfl
theorem q64 : (Jvm.Cond.selects "PriorityLocks" ({ cls := "PriorityLocks", name := "give", desc := "(II)I" } : Jvm.MethodName) ({ cls := "PriorityLocks", name := "give", desc := "(II)I" } : Jvm.MethodName)) ∈ lw_all := lw_g (lw_at lw_m0 56 rfl) rfl
theorem q65 : (Jvm.Cond.code ({ cls := "PriorityLocks", name := "give", desc := "(II)I" } : Jvm.MethodName) prog_1_method_9_code (4 : Nat) (Option.some Jvm.ClassFile.FieldType.int)) ∈ lw_all := lw_g (lw_at lw_m0 57 rfl) rfl
theorem q66 : (Jvm.Cond.methodLink "PriorityLocks" (49 : Nat) ({ cls := "PriorityLocks", name := "bestWaiting", desc := "(I)I" } : Jvm.MethodName)) ∈ lw_all := lw_g (lw_at lw_m0 58 rfl) rfl
theorem q67 : (Jvm.Cond.privateMethod ({ cls := "PriorityLocks", name := "bestWaiting", desc := "(I)I" } : Jvm.MethodName)) ∈ lw_tbl := lw_at lw_m0 59 rfl
theorem q68 : (Jvm.Cond.instanceMethod ({ cls := "PriorityLocks", name := "bestWaiting", desc := "(I)I" } : Jvm.MethodName)) ∈ lw_all := lw_g (lw_at lw_m0 60 rfl) rfl
theorem q69 : (Jvm.Cond.code ({ cls := "PriorityLocks", name := "bestWaiting", desc := "(I)I" } : Jvm.MethodName) prog_1_method_8_code (6 : Nat) (Option.some Jvm.ClassFile.FieldType.int)) ∈ lw_all := lw_g (lw_at lw_m0 61 rfl) rfl
theorem q71 : (Jvm.Cond.instanceMethod ({ cls := "PriorityLocks", name := "giveUp", desc := "(I)Z" } : Jvm.MethodName)) ∈ lw_all := lw_g (lw_at lw_m0 63 rfl) rfl
theorem q72 : (Jvm.Cond.selects "PriorityLocks" ({ cls := "PriorityLocks", name := "giveUp", desc := "(I)Z" } : Jvm.MethodName) ({ cls := "PriorityLocks", name := "giveUp", desc := "(I)Z" } : Jvm.MethodName)) ∈ lw_all := lw_g (lw_at lw_m0 64 rfl) rfl
theorem q73 : (Jvm.Cond.code ({ cls := "PriorityLocks", name := "giveUp", desc := "(I)Z" } : Jvm.MethodName) prog_1_method_10_code (3 : Nat) (Option.some Jvm.ClassFile.FieldType.boolean)) ∈ lw_all := lw_g (lw_at lw_m0 65 rfl) rfl
theorem q75 : (Jvm.Cond.instanceMethod ({ cls := "PriorityLocks", name := "setBase", desc := "(II)Z" } : Jvm.MethodName)) ∈ lw_all := lw_g (lw_at lw_m0 67 rfl) rfl
theorem q76 : (Jvm.Cond.selects "PriorityLocks" ({ cls := "PriorityLocks", name := "setBase", desc := "(II)Z" } : Jvm.MethodName) ({ cls := "PriorityLocks", name := "setBase", desc := "(II)Z" } : Jvm.MethodName)) ∈ lw_all := lw_g (lw_at lw_m0 68 rfl) rfl
theorem q77 : (Jvm.Cond.code ({ cls := "PriorityLocks", name := "setBase", desc := "(II)Z" } : Jvm.MethodName) prog_1_method_11_code (3 : Nat) (Option.some Jvm.ClassFile.FieldType.boolean)) ∈ lw_all := lw_g (lw_at lw_m0 69 rfl) rfl
theorem q79 : (Jvm.Cond.instanceMethod ({ cls := "PriorityLocks", name := "urgency", desc := "(I)I" } : Jvm.MethodName)) ∈ lw_all := lw_g (lw_at lw_m0 71 rfl) rfl
theorem q80 : (Jvm.Cond.selects "PriorityLocks" ({ cls := "PriorityLocks", name := "urgency", desc := "(I)I" } : Jvm.MethodName) ({ cls := "PriorityLocks", name := "urgency", desc := "(I)I" } : Jvm.MethodName)) ∈ lw_all := lw_g (lw_at lw_m0 72 rfl) rfl
theorem q81 : (Jvm.Cond.code ({ cls := "PriorityLocks", name := "urgency", desc := "(I)I" } : Jvm.MethodName) prog_1_method_12_code (2 : Nat) (Option.some Jvm.ClassFile.FieldType.int)) ∈ lw_all := lw_g (lw_at lw_m0 73 rfl) rfl
theorem q83 : (Jvm.Cond.instanceMethod ({ cls := "PriorityLocks", name := "base", desc := "(I)I" } : Jvm.MethodName)) ∈ lw_all := lw_g (lw_at lw_m0 75 rfl) rfl
theorem q84 : (Jvm.Cond.selects "PriorityLocks" ({ cls := "PriorityLocks", name := "base", desc := "(I)I" } : Jvm.MethodName) ({ cls := "PriorityLocks", name := "base", desc := "(I)I" } : Jvm.MethodName)) ∈ lw_all := lw_g (lw_at lw_m0 76 rfl) rfl
theorem q85 : (Jvm.Cond.code ({ cls := "PriorityLocks", name := "base", desc := "(I)I" } : Jvm.MethodName) prog_1_method_13_code (2 : Nat) (Option.some Jvm.ClassFile.FieldType.int)) ∈ lw_all := lw_g (lw_at lw_m0 77 rfl) rfl
theorem q87 : (Jvm.Cond.instanceMethod ({ cls := "PriorityLocks", name := "holder", desc := "(I)I" } : Jvm.MethodName)) ∈ lw_all := lw_g (lw_at lw_m0 79 rfl) rfl
theorem q88 : (Jvm.Cond.selects "PriorityLocks" ({ cls := "PriorityLocks", name := "holder", desc := "(I)I" } : Jvm.MethodName) ({ cls := "PriorityLocks", name := "holder", desc := "(I)I" } : Jvm.MethodName)) ∈ lw_all := lw_g (lw_at lw_m0 80 rfl) rfl
theorem q89 : (Jvm.Cond.code ({ cls := "PriorityLocks", name := "holder", desc := "(I)I" } : Jvm.MethodName) prog_1_method_14_code (2 : Nat) (Option.some Jvm.ClassFile.FieldType.int)) ∈ lw_all := lw_g (lw_at lw_m0 81 rfl) rfl
theorem q91 : (Jvm.Cond.instanceMethod ({ cls := "PriorityLocks", name := "waitsFor", desc := "(I)I" } : Jvm.MethodName)) ∈ lw_all := lw_g (lw_at lw_m0 83 rfl) rfl
theorem q92 : (Jvm.Cond.selects "PriorityLocks" ({ cls := "PriorityLocks", name := "waitsFor", desc := "(I)I" } : Jvm.MethodName) ({ cls := "PriorityLocks", name := "waitsFor", desc := "(I)I" } : Jvm.MethodName)) ∈ lw_all := lw_g (lw_at lw_m0 84 rfl) rfl
theorem q93 : (Jvm.Cond.code ({ cls := "PriorityLocks", name := "waitsFor", desc := "(I)I" } : Jvm.MethodName) prog_1_method_15_code (2 : Nat) (Option.some Jvm.ClassFile.FieldType.int)) ∈ lw_all := lw_g (lw_at lw_m0 85 rfl) rfl
theorem q95 : (Jvm.Cond.instanceMethod ({ cls := "PriorityLocks", name := "waiting", desc := "(I)I" } : Jvm.MethodName)) ∈ lw_all := lw_g (lw_at lw_m0 87 rfl) rfl
theorem q96 : (Jvm.Cond.selects "PriorityLocks" ({ cls := "PriorityLocks", name := "waiting", desc := "(I)I" } : Jvm.MethodName) ({ cls := "PriorityLocks", name := "waiting", desc := "(I)I" } : Jvm.MethodName)) ∈ lw_all := lw_g (lw_at lw_m0 88 rfl) rfl
theorem q97 : (Jvm.Cond.code ({ cls := "PriorityLocks", name := "waiting", desc := "(I)I" } : Jvm.MethodName) prog_1_method_16_code (4 : Nat) (Option.some Jvm.ClassFile.FieldType.int)) ∈ lw_all := lw_g (lw_at lw_m0 89 rfl) rfl
theorem q99 : (Jvm.Cond.instanceMethod ({ cls := "PriorityLocks", name := "nextFor", desc := "(I)I" } : Jvm.MethodName)) ∈ lw_all := lw_g (lw_at lw_m0 91 rfl) rfl
theorem q100 : (Jvm.Cond.selects "PriorityLocks" ({ cls := "PriorityLocks", name := "nextFor", desc := "(I)I" } : Jvm.MethodName) ({ cls := "PriorityLocks", name := "nextFor", desc := "(I)I" } : Jvm.MethodName)) ∈ lw_all := lw_g (lw_at lw_m0 92 rfl) rfl
theorem q101 : (Jvm.Cond.code ({ cls := "PriorityLocks", name := "nextFor", desc := "(I)I" } : Jvm.MethodName) prog_1_method_17_code (2 : Nat) (Option.some Jvm.ClassFile.FieldType.int)) ∈ lw_all := lw_g (lw_at lw_m0 93 rfl) rfl
theorem q103 : (Jvm.Cond.instanceMethod ({ cls := "PriorityLocks", name := "held", desc := "(I)I" } : Jvm.MethodName)) ∈ lw_all := lw_g (lw_at lw_m0 95 rfl) rfl
theorem q104 : (Jvm.Cond.selects "PriorityLocks" ({ cls := "PriorityLocks", name := "held", desc := "(I)I" } : Jvm.MethodName) ({ cls := "PriorityLocks", name := "held", desc := "(I)I" } : Jvm.MethodName)) ∈ lw_all := lw_g (lw_at lw_m0 96 rfl) rfl
theorem q105 : (Jvm.Cond.code ({ cls := "PriorityLocks", name := "held", desc := "(I)I" } : Jvm.MethodName) prog_1_method_18_code (4 : Nat) (Option.some Jvm.ClassFile.FieldType.int)) ∈ lw_all := lw_g (lw_at lw_m0 97 rfl) rfl
theorem q107 : (Jvm.Cond.instanceMethod ({ cls := "PriorityLocks", name := "running", desc := "()I" } : Jvm.MethodName)) ∈ lw_all := lw_g (lw_at lw_m0 99 rfl) rfl
theorem q108 : (Jvm.Cond.selects "PriorityLocks" ({ cls := "PriorityLocks", name := "running", desc := "()I" } : Jvm.MethodName) ({ cls := "PriorityLocks", name := "running", desc := "()I" } : Jvm.MethodName)) ∈ lw_all := lw_g (lw_at lw_m0 100 rfl) rfl
theorem q109 : (Jvm.Cond.code ({ cls := "PriorityLocks", name := "running", desc := "()I" } : Jvm.MethodName) prog_1_method_19_code (3 : Nat) (Option.some Jvm.ClassFile.FieldType.int)) ∈ lw_all := lw_g (lw_at lw_m0 101 rfl) rfl
theorem q111 : (Jvm.Cond.instanceMethod ({ cls := "PriorityLocks", name := "waitingOn", desc := "(I)I" } : Jvm.MethodName)) ∈ lw_all := lw_g (lw_at lw_m0 103 rfl) rfl
theorem q112 : (Jvm.Cond.selects "PriorityLocks" ({ cls := "PriorityLocks", name := "waitingOn", desc := "(I)I" } : Jvm.MethodName) ({ cls := "PriorityLocks", name := "waitingOn", desc := "(I)I" } : Jvm.MethodName)) ∈ lw_all := lw_g (lw_at lw_m0 104 rfl) rfl
theorem q113 : (Jvm.Cond.code ({ cls := "PriorityLocks", name := "waitingOn", desc := "(I)I" } : Jvm.MethodName) prog_1_method_20_code (4 : Nat) (Option.some Jvm.ClassFile.FieldType.int)) ∈ lw_all := lw_g (lw_at lw_m0 105 rfl) rfl
theorem q115 : (Jvm.Cond.instanceMethod ({ cls := "PriorityLocks", name := "lifted", desc := "()I" } : Jvm.MethodName)) ∈ lw_all := lw_g (lw_at lw_m0 107 rfl) rfl
theorem q116 : (Jvm.Cond.selects "PriorityLocks" ({ cls := "PriorityLocks", name := "lifted", desc := "()I" } : Jvm.MethodName) ({ cls := "PriorityLocks", name := "lifted", desc := "()I" } : Jvm.MethodName)) ∈ lw_all := lw_g (lw_at lw_m0 108 rfl) rfl
theorem q117 : (Jvm.Cond.code ({ cls := "PriorityLocks", name := "lifted", desc := "()I" } : Jvm.MethodName) prog_1_method_21_code (3 : Nat) (Option.some Jvm.ClassFile.FieldType.int)) ∈ lw_all := lw_g (lw_at lw_m0 109 rfl) rfl
theorem in_X0 : ∀ w ∈ wsX00, w ∈ lw_all := lw_in wsX00 [25, 27, 29, 31, 33, 35] (by decide +kernel) (by decide +kernel)
end
section
/-! PriorityLocksModel -/
set_option maxRecDepth 100000
def RX1 : String := "PriorityLocksModel"
def TX1 : u_T := fun k => match k with
  | 0 => ("PriorityLocksModel", "bases", "[I", false)
  | 1 => ("PriorityLocksModel", "holds", "[I", false)
  | 2 => ("PriorityLocksModel", "wants", "[I", false)
  | 3 => ("PriorityLocksModel", "since", "[I", false)
  | 4 => ("PriorityLocksModel", "time", "I", false)
  | _ => ("PriorityLocksModel", "urgent", "[I", false)
def tyX1 : Nat → FieldType := fun k => match k with
  | 0 => .array .int
  | 1 => .array .int
  | 2 => .array .int
  | 3 => .array .int
  | 4 => .int
  | _ => .array .int
abbrev wsX10 : List Cond := u_ws RX1 TX1 6
theorem nmX1 : ∀ a, a < 6 → ∀ b, b < 6 → a ≠ b → (TX1 a).2.1 ≠ (TX1 b).2.1 := by decide +kernel
theorem tyX1_ok : ∀ k, k < 6 → parseFieldDescriptor (TX1 k).2.2.1 = some (tyX1 k) := by decide +kernel
abbrev cX1_init : ByteArray := prog_3_method_1_code
def yX1_init : MethodName := ⟨RX1, "<init>", "()V"⟩
theorem dX1_init_0 : decode cX1_init 0 = .ok (.aload_n 0, 1) := by decide +kernel
theorem dX1_init_1 : decode cX1_init 1 = .ok (.invokespecial 1, 3) := by decide +kernel
theorem dX1_init_4 : decode cX1_init 4 = .ok (.aload_n 0, 1) := by decide +kernel
theorem dX1_init_5 : decode cX1_init 5 = .ok (.bipush 6, 2) := by decide +kernel
theorem dX1_init_7 : decode cX1_init 7 = .ok (.newarray .int, 2) := by decide +kernel
theorem dX1_init_9 : decode cX1_init 9 = .ok (.putfield 7, 3) := by decide +kernel
theorem dX1_init_12 : decode cX1_init 12 = .ok (.aload_n 0, 1) := by decide +kernel
theorem dX1_init_13 : decode cX1_init 13 = .ok (.iconst 5, 1) := by decide +kernel
theorem dX1_init_14 : decode cX1_init 14 = .ok (.newarray .int, 2) := by decide +kernel
theorem dX1_init_16 : decode cX1_init 16 = .ok (.putfield 13, 3) := by decide +kernel
theorem dX1_init_19 : decode cX1_init 19 = .ok (.aload_n 0, 1) := by decide +kernel
theorem dX1_init_20 : decode cX1_init 20 = .ok (.bipush 6, 2) := by decide +kernel
theorem dX1_init_22 : decode cX1_init 22 = .ok (.newarray .int, 2) := by decide +kernel
theorem dX1_init_24 : decode cX1_init 24 = .ok (.putfield 16, 3) := by decide +kernel
theorem dX1_init_27 : decode cX1_init 27 = .ok (.aload_n 0, 1) := by decide +kernel
theorem dX1_init_28 : decode cX1_init 28 = .ok (.bipush 6, 2) := by decide +kernel
theorem dX1_init_30 : decode cX1_init 30 = .ok (.newarray .int, 2) := by decide +kernel
theorem dX1_init_32 : decode cX1_init 32 = .ok (.putfield 19, 3) := by decide +kernel
theorem dX1_init_35 : decode cX1_init 35 = .ok (.aload_n 0, 1) := by decide +kernel
theorem dX1_init_36 : decode cX1_init 36 = .ok (.bipush 6, 2) := by decide +kernel
theorem dX1_init_38 : decode cX1_init 38 = .ok (.newarray .int, 2) := by decide +kernel
theorem dX1_init_40 : decode cX1_init 40 = .ok (.putfield 22, 3) := by decide +kernel
theorem dX1_init_43 : decode cX1_init 43 = .ok (.return_, 1) := by decide +kernel
abbrev cX1_take : ByteArray := prog_3_method_6_code
def yX1_take : MethodName := ⟨RX1, "take", "(II)I"⟩
theorem dX1_take_0 : decode cX1_take 0 = .ok (.aload_n 0, 1) := by decide +kernel
theorem dX1_take_1 : decode cX1_take 1 = .ok (.iload_n 1, 1) := by decide +kernel
theorem dX1_take_2 : decode cX1_take 2 = .ok (.invokevirtual 25, 3) := by decide +kernel
theorem dX1_take_5 : decode cX1_take 5 = .ok (.ifCond .eq 32, 3) := by decide +kernel
theorem dX1_take_8 : decode cX1_take 8 = .ok (.aload_n 0, 1) := by decide +kernel
theorem dX1_take_9 : decode cX1_take 9 = .ok (.iload_n 2, 1) := by decide +kernel
theorem dX1_take_10 : decode cX1_take 10 = .ok (.invokevirtual 29, 3) := by decide +kernel
theorem dX1_take_13 : decode cX1_take 13 = .ok (.ifCond .eq 24, 3) := by decide +kernel
theorem dX1_take_16 : decode cX1_take 16 = .ok (.aload_n 0, 1) := by decide +kernel
theorem dX1_take_17 : decode cX1_take 17 = .ok (.getfield 16, 3) := by decide +kernel
theorem dX1_take_20 : decode cX1_take 20 = .ok (.iload_n 1, 1) := by decide +kernel
theorem dX1_take_21 : decode cX1_take 21 = .ok (.iaload, 1) := by decide +kernel
theorem dX1_take_22 : decode cX1_take 22 = .ok (.ifCond .gt 15, 3) := by decide +kernel
theorem dX1_take_25 : decode cX1_take 25 = .ok (.aload_n 0, 1) := by decide +kernel
theorem dX1_take_26 : decode cX1_take 26 = .ok (.getfield 13, 3) := by decide +kernel
theorem dX1_take_29 : decode cX1_take 29 = .ok (.iload_n 2, 1) := by decide +kernel
theorem dX1_take_30 : decode cX1_take 30 = .ok (.iaload, 1) := by decide +kernel
theorem dX1_take_31 : decode cX1_take 31 = .ok (.iload_n 1, 1) := by decide +kernel
theorem dX1_take_32 : decode cX1_take 32 = .ok (.iconst 1, 1) := by decide +kernel
theorem dX1_take_33 : decode cX1_take 33 = .ok (.iadd, 1) := by decide +kernel
theorem dX1_take_34 : decode cX1_take 34 = .ok (.if_icmp .ne 5, 3) := by decide +kernel
theorem dX1_take_37 : decode cX1_take 37 = .ok (.iconst (-1), 1) := by decide +kernel
theorem dX1_take_38 : decode cX1_take 38 = .ok (.ireturn, 1) := by decide +kernel
theorem dX1_take_39 : decode cX1_take 39 = .ok (.aload_n 0, 1) := by decide +kernel
theorem dX1_take_40 : decode cX1_take 40 = .ok (.getfield 13, 3) := by decide +kernel
theorem dX1_take_43 : decode cX1_take 43 = .ok (.iload_n 2, 1) := by decide +kernel
theorem dX1_take_44 : decode cX1_take 44 = .ok (.iaload, 1) := by decide +kernel
theorem dX1_take_45 : decode cX1_take 45 = .ok (.ifCond .ne 14, 3) := by decide +kernel
theorem dX1_take_48 : decode cX1_take 48 = .ok (.aload_n 0, 1) := by decide +kernel
theorem dX1_take_49 : decode cX1_take 49 = .ok (.getfield 13, 3) := by decide +kernel
theorem dX1_take_52 : decode cX1_take 52 = .ok (.iload_n 2, 1) := by decide +kernel
theorem dX1_take_53 : decode cX1_take 53 = .ok (.iload_n 1, 1) := by decide +kernel
theorem dX1_take_54 : decode cX1_take 54 = .ok (.iconst 1, 1) := by decide +kernel
theorem dX1_take_55 : decode cX1_take 55 = .ok (.iadd, 1) := by decide +kernel
theorem dX1_take_56 : decode cX1_take 56 = .ok (.iastore, 1) := by decide +kernel
theorem dX1_take_57 : decode cX1_take 57 = .ok (.iconst 0, 1) := by decide +kernel
theorem dX1_take_58 : decode cX1_take 58 = .ok (.ireturn, 1) := by decide +kernel
theorem dX1_take_59 : decode cX1_take 59 = .ok (.aload_n 0, 1) := by decide +kernel
theorem dX1_take_60 : decode cX1_take 60 = .ok (.getfield 13, 3) := by decide +kernel
theorem dX1_take_63 : decode cX1_take 63 = .ok (.iload_n 2, 1) := by decide +kernel
theorem dX1_take_64 : decode cX1_take 64 = .ok (.iaload, 1) := by decide +kernel
theorem dX1_take_65 : decode cX1_take 65 = .ok (.iconst 1, 1) := by decide +kernel
theorem dX1_take_66 : decode cX1_take 66 = .ok (.isub, 1) := by decide +kernel
theorem dX1_take_67 : decode cX1_take 67 = .ok (.istore_n 3, 1) := by decide +kernel
theorem dX1_take_68 : decode cX1_take 68 = .ok (.aload_n 0, 1) := by decide +kernel
theorem dX1_take_69 : decode cX1_take 69 = .ok (.iload_n 1, 1) := by decide +kernel
theorem dX1_take_70 : decode cX1_take 70 = .ok (.invokevirtual 32, 3) := by decide +kernel
theorem dX1_take_73 : decode cX1_take 73 = .ok (.iload_n 3, 1) := by decide +kernel
theorem dX1_take_74 : decode cX1_take 74 = .ok (.ishr, 1) := by decide +kernel
theorem dX1_take_75 : decode cX1_take 75 = .ok (.iconst 1, 1) := by decide +kernel
theorem dX1_take_76 : decode cX1_take 76 = .ok (.iand, 1) := by decide +kernel
theorem dX1_take_77 : decode cX1_take 77 = .ok (.iconst 1, 1) := by decide +kernel
theorem dX1_take_78 : decode cX1_take 78 = .ok (.if_icmp .ne 6, 3) := by decide +kernel
theorem dX1_take_81 : decode cX1_take 81 = .ok (.bipush (-2), 2) := by decide +kernel
theorem dX1_take_83 : decode cX1_take 83 = .ok (.ireturn, 1) := by decide +kernel
theorem dX1_take_84 : decode cX1_take 84 = .ok (.aload_n 0, 1) := by decide +kernel
theorem dX1_take_85 : decode cX1_take 85 = .ok (.getfield 16, 3) := by decide +kernel
theorem dX1_take_88 : decode cX1_take 88 = .ok (.iload_n 1, 1) := by decide +kernel
theorem dX1_take_89 : decode cX1_take 89 = .ok (.iload_n 2, 1) := by decide +kernel
theorem dX1_take_90 : decode cX1_take 90 = .ok (.iconst 1, 1) := by decide +kernel
theorem dX1_take_91 : decode cX1_take 91 = .ok (.iadd, 1) := by decide +kernel
theorem dX1_take_92 : decode cX1_take 92 = .ok (.iastore, 1) := by decide +kernel
theorem dX1_take_93 : decode cX1_take 93 = .ok (.aload_n 0, 1) := by decide +kernel
theorem dX1_take_94 : decode cX1_take 94 = .ok (.dup, 1) := by decide +kernel
theorem dX1_take_95 : decode cX1_take 95 = .ok (.getfield 36, 3) := by decide +kernel
theorem dX1_take_98 : decode cX1_take 98 = .ok (.iconst 1, 1) := by decide +kernel
theorem dX1_take_99 : decode cX1_take 99 = .ok (.iadd, 1) := by decide +kernel
theorem dX1_take_100 : decode cX1_take 100 = .ok (.putfield 36, 3) := by decide +kernel
theorem dX1_take_103 : decode cX1_take 103 = .ok (.aload_n 0, 1) := by decide +kernel
theorem dX1_take_104 : decode cX1_take 104 = .ok (.getfield 19, 3) := by decide +kernel
theorem dX1_take_107 : decode cX1_take 107 = .ok (.iload_n 1, 1) := by decide +kernel
theorem dX1_take_108 : decode cX1_take 108 = .ok (.aload_n 0, 1) := by decide +kernel
theorem dX1_take_109 : decode cX1_take 109 = .ok (.getfield 36, 3) := by decide +kernel
theorem dX1_take_112 : decode cX1_take 112 = .ok (.iastore, 1) := by decide +kernel
theorem dX1_take_113 : decode cX1_take 113 = .ok (.iconst 1, 1) := by decide +kernel
theorem dX1_take_114 : decode cX1_take 114 = .ok (.ireturn, 1) := by decide +kernel
abbrev cX1_thread : ByteArray := prog_3_method_2_code
def yX1_thread : MethodName := ⟨RX1, "thread", "(I)Z"⟩
theorem dX1_thread_0 : decode cX1_thread 0 = .ok (.iload_n 1, 1) := by decide +kernel
theorem dX1_thread_1 : decode cX1_thread 1 = .ok (.ifCond .lt 12, 3) := by decide +kernel
theorem dX1_thread_4 : decode cX1_thread 4 = .ok (.iload_n 1, 1) := by decide +kernel
theorem dX1_thread_5 : decode cX1_thread 5 = .ok (.iconst 5, 1) := by decide +kernel
theorem dX1_thread_6 : decode cX1_thread 6 = .ok (.if_icmp .gt 7, 3) := by decide +kernel
theorem dX1_thread_9 : decode cX1_thread 9 = .ok (.iconst 1, 1) := by decide +kernel
theorem dX1_thread_10 : decode cX1_thread 10 = .ok (.goto 4, 3) := by decide +kernel
theorem dX1_thread_13 : decode cX1_thread 13 = .ok (.iconst 0, 1) := by decide +kernel
theorem dX1_thread_14 : decode cX1_thread 14 = .ok (.ireturn, 1) := by decide +kernel
abbrev cX1_lock : ByteArray := prog_3_method_3_code
def yX1_lock : MethodName := ⟨RX1, "lock", "(I)Z"⟩
theorem dX1_lock_0 : decode cX1_lock 0 = .ok (.iload_n 1, 1) := by decide +kernel
theorem dX1_lock_1 : decode cX1_lock 1 = .ok (.ifCond .lt 12, 3) := by decide +kernel
theorem dX1_lock_4 : decode cX1_lock 4 = .ok (.iload_n 1, 1) := by decide +kernel
theorem dX1_lock_5 : decode cX1_lock 5 = .ok (.iconst 4, 1) := by decide +kernel
theorem dX1_lock_6 : decode cX1_lock 6 = .ok (.if_icmp .gt 7, 3) := by decide +kernel
theorem dX1_lock_9 : decode cX1_lock 9 = .ok (.iconst 1, 1) := by decide +kernel
theorem dX1_lock_10 : decode cX1_lock 10 = .ok (.goto 4, 3) := by decide +kernel
theorem dX1_lock_13 : decode cX1_lock 13 = .ok (.iconst 0, 1) := by decide +kernel
theorem dX1_lock_14 : decode cX1_lock 14 = .ok (.ireturn, 1) := by decide +kernel
abbrev cX1_behind : ByteArray := prog_3_method_5_code
def yX1_behind : MethodName := ⟨RX1, "behind", "(I)I"⟩
theorem dX1_behind_0 : decode cX1_behind 0 = .ok (.iconst 0, 1) := by decide +kernel
theorem dX1_behind_1 : decode cX1_behind 1 = .ok (.istore_n 2, 1) := by decide +kernel
theorem dX1_behind_2 : decode cX1_behind 2 = .ok (.iconst 0, 1) := by decide +kernel
theorem dX1_behind_3 : decode cX1_behind 3 = .ok (.istore_n 3, 1) := by decide +kernel
theorem dX1_behind_4 : decode cX1_behind 4 = .ok (.iload_n 3, 1) := by decide +kernel
theorem dX1_behind_5 : decode cX1_behind 5 = .ok (.bipush 6, 2) := by decide +kernel
theorem dX1_behind_7 : decode cX1_behind 7 = .ok (.if_icmp .ge 101, 3) := by decide +kernel
theorem dX1_behind_10 : decode cX1_behind 10 = .ok (.iconst 0, 1) := by decide +kernel
theorem dX1_behind_11 : decode cX1_behind 11 = .ok (.istore 4, 2) := by decide +kernel
theorem dX1_behind_13 : decode cX1_behind 13 = .ok (.iload 4, 2) := by decide +kernel
theorem dX1_behind_15 : decode cX1_behind 15 = .ok (.bipush 6, 2) := by decide +kernel
theorem dX1_behind_17 : decode cX1_behind 17 = .ok (.if_icmp .ge 85, 3) := by decide +kernel
theorem dX1_behind_20 : decode cX1_behind 20 = .ok (.aload_n 0, 1) := by decide +kernel
theorem dX1_behind_21 : decode cX1_behind 21 = .ok (.getfield 16, 3) := by decide +kernel
theorem dX1_behind_24 : decode cX1_behind 24 = .ok (.iload 4, 2) := by decide +kernel
theorem dX1_behind_26 : decode cX1_behind 26 = .ok (.iaload, 1) := by decide +kernel
theorem dX1_behind_27 : decode cX1_behind 27 = .ok (.ifCond .le 22, 3) := by decide +kernel
theorem dX1_behind_30 : decode cX1_behind 30 = .ok (.aload_n 0, 1) := by decide +kernel
theorem dX1_behind_31 : decode cX1_behind 31 = .ok (.getfield 13, 3) := by decide +kernel
theorem dX1_behind_34 : decode cX1_behind 34 = .ok (.aload_n 0, 1) := by decide +kernel
theorem dX1_behind_35 : decode cX1_behind 35 = .ok (.getfield 16, 3) := by decide +kernel
theorem dX1_behind_38 : decode cX1_behind 38 = .ok (.iload 4, 2) := by decide +kernel
theorem dX1_behind_40 : decode cX1_behind 40 = .ok (.iaload, 1) := by decide +kernel
theorem dX1_behind_41 : decode cX1_behind 41 = .ok (.iconst 1, 1) := by decide +kernel
theorem dX1_behind_42 : decode cX1_behind 42 = .ok (.isub, 1) := by decide +kernel
theorem dX1_behind_43 : decode cX1_behind 43 = .ok (.iaload, 1) := by decide +kernel
theorem dX1_behind_44 : decode cX1_behind 44 = .ok (.iconst 1, 1) := by decide +kernel
theorem dX1_behind_45 : decode cX1_behind 45 = .ok (.isub, 1) := by decide +kernel
theorem dX1_behind_46 : decode cX1_behind 46 = .ok (.goto 4, 3) := by decide +kernel
theorem dX1_behind_49 : decode cX1_behind 49 = .ok (.iconst (-1), 1) := by decide +kernel
theorem dX1_behind_50 : decode cX1_behind 50 = .ok (.istore 5, 2) := by decide +kernel
theorem dX1_behind_52 : decode cX1_behind 52 = .ok (.iload 5, 2) := by decide +kernel
theorem dX1_behind_54 : decode cX1_behind 54 = .ok (.ifCond .lt 23, 3) := by decide +kernel
theorem dX1_behind_57 : decode cX1_behind 57 = .ok (.iload 5, 2) := by decide +kernel
theorem dX1_behind_59 : decode cX1_behind 59 = .ok (.iload_n 1, 1) := by decide +kernel
theorem dX1_behind_60 : decode cX1_behind 60 = .ok (.if_icmp .eq 13, 3) := by decide +kernel
theorem dX1_behind_63 : decode cX1_behind 63 = .ok (.iload_n 2, 1) := by decide +kernel
theorem dX1_behind_64 : decode cX1_behind 64 = .ok (.iload 5, 2) := by decide +kernel
theorem dX1_behind_66 : decode cX1_behind 66 = .ok (.ishr, 1) := by decide +kernel
theorem dX1_behind_67 : decode cX1_behind 67 = .ok (.iconst 1, 1) := by decide +kernel
theorem dX1_behind_68 : decode cX1_behind 68 = .ok (.iand, 1) := by decide +kernel
theorem dX1_behind_69 : decode cX1_behind 69 = .ok (.iconst 1, 1) := by decide +kernel
theorem dX1_behind_70 : decode cX1_behind 70 = .ok (.if_icmp .ne 7, 3) := by decide +kernel
theorem dX1_behind_73 : decode cX1_behind 73 = .ok (.iconst 1, 1) := by decide +kernel
theorem dX1_behind_74 : decode cX1_behind 74 = .ok (.goto 4, 3) := by decide +kernel
theorem dX1_behind_77 : decode cX1_behind 77 = .ok (.iconst 0, 1) := by decide +kernel
theorem dX1_behind_78 : decode cX1_behind 78 = .ok (.istore 6, 2) := by decide +kernel
theorem dX1_behind_80 : decode cX1_behind 80 = .ok (.iload 6, 2) := by decide +kernel
theorem dX1_behind_82 : decode cX1_behind 82 = .ok (.ifCond .eq 12, 3) := by decide +kernel
theorem dX1_behind_85 : decode cX1_behind 85 = .ok (.iload_n 2, 1) := by decide +kernel
theorem dX1_behind_86 : decode cX1_behind 86 = .ok (.iconst 1, 1) := by decide +kernel
theorem dX1_behind_87 : decode cX1_behind 87 = .ok (.iload 4, 2) := by decide +kernel
theorem dX1_behind_89 : decode cX1_behind 89 = .ok (.ishl, 1) := by decide +kernel
theorem dX1_behind_90 : decode cX1_behind 90 = .ok (.ior, 1) := by decide +kernel
theorem dX1_behind_91 : decode cX1_behind 91 = .ok (.goto 4, 3) := by decide +kernel
theorem dX1_behind_94 : decode cX1_behind 94 = .ok (.iload_n 2, 1) := by decide +kernel
theorem dX1_behind_95 : decode cX1_behind 95 = .ok (.istore_n 2, 1) := by decide +kernel
theorem dX1_behind_96 : decode cX1_behind 96 = .ok (.iinc 4 1, 3) := by decide +kernel
theorem dX1_behind_99 : decode cX1_behind 99 = .ok (.goto (-86), 3) := by decide +kernel
theorem dX1_behind_102 : decode cX1_behind 102 = .ok (.iinc 3 1, 3) := by decide +kernel
theorem dX1_behind_105 : decode cX1_behind 105 = .ok (.goto (-101), 3) := by decide +kernel
theorem dX1_behind_108 : decode cX1_behind 108 = .ok (.iload_n 2, 1) := by decide +kernel
theorem dX1_behind_109 : decode cX1_behind 109 = .ok (.ireturn, 1) := by decide +kernel
abbrev cX1_give : ByteArray := prog_3_method_7_code
def yX1_give : MethodName := ⟨RX1, "give", "(II)I"⟩
theorem dX1_give_0 : decode cX1_give 0 = .ok (.aload_n 0, 1) := by decide +kernel
theorem dX1_give_1 : decode cX1_give 1 = .ok (.iload_n 1, 1) := by decide +kernel
theorem dX1_give_2 : decode cX1_give 2 = .ok (.invokevirtual 25, 3) := by decide +kernel
theorem dX1_give_5 : decode cX1_give 5 = .ok (.ifCond .eq 32, 3) := by decide +kernel
theorem dX1_give_8 : decode cX1_give 8 = .ok (.aload_n 0, 1) := by decide +kernel
theorem dX1_give_9 : decode cX1_give 9 = .ok (.iload_n 2, 1) := by decide +kernel
theorem dX1_give_10 : decode cX1_give 10 = .ok (.invokevirtual 29, 3) := by decide +kernel
theorem dX1_give_13 : decode cX1_give 13 = .ok (.ifCond .eq 24, 3) := by decide +kernel
theorem dX1_give_16 : decode cX1_give 16 = .ok (.aload_n 0, 1) := by decide +kernel
theorem dX1_give_17 : decode cX1_give 17 = .ok (.getfield 16, 3) := by decide +kernel
theorem dX1_give_20 : decode cX1_give 20 = .ok (.iload_n 1, 1) := by decide +kernel
theorem dX1_give_21 : decode cX1_give 21 = .ok (.iaload, 1) := by decide +kernel
theorem dX1_give_22 : decode cX1_give 22 = .ok (.ifCond .gt 15, 3) := by decide +kernel
theorem dX1_give_25 : decode cX1_give 25 = .ok (.aload_n 0, 1) := by decide +kernel
theorem dX1_give_26 : decode cX1_give 26 = .ok (.getfield 13, 3) := by decide +kernel
theorem dX1_give_29 : decode cX1_give 29 = .ok (.iload_n 2, 1) := by decide +kernel
theorem dX1_give_30 : decode cX1_give 30 = .ok (.iaload, 1) := by decide +kernel
theorem dX1_give_31 : decode cX1_give 31 = .ok (.iload_n 1, 1) := by decide +kernel
theorem dX1_give_32 : decode cX1_give 32 = .ok (.iconst 1, 1) := by decide +kernel
theorem dX1_give_33 : decode cX1_give 33 = .ok (.iadd, 1) := by decide +kernel
theorem dX1_give_34 : decode cX1_give 34 = .ok (.if_icmp .eq 6, 3) := by decide +kernel
theorem dX1_give_37 : decode cX1_give 37 = .ok (.bipush (-2), 2) := by decide +kernel
theorem dX1_give_39 : decode cX1_give 39 = .ok (.ireturn, 1) := by decide +kernel
theorem dX1_give_40 : decode cX1_give 40 = .ok (.aload_n 0, 1) := by decide +kernel
theorem dX1_give_41 : decode cX1_give 41 = .ok (.iload_n 2, 1) := by decide +kernel
theorem dX1_give_42 : decode cX1_give 42 = .ok (.invokevirtual 40, 3) := by decide +kernel
theorem dX1_give_45 : decode cX1_give 45 = .ok (.istore_n 3, 1) := by decide +kernel
theorem dX1_give_46 : decode cX1_give 46 = .ok (.aload_n 0, 1) := by decide +kernel
theorem dX1_give_47 : decode cX1_give 47 = .ok (.getfield 13, 3) := by decide +kernel
theorem dX1_give_50 : decode cX1_give 50 = .ok (.iload_n 2, 1) := by decide +kernel
theorem dX1_give_51 : decode cX1_give 51 = .ok (.iload_n 3, 1) := by decide +kernel
theorem dX1_give_52 : decode cX1_give 52 = .ok (.iconst 1, 1) := by decide +kernel
theorem dX1_give_53 : decode cX1_give 53 = .ok (.iadd, 1) := by decide +kernel
theorem dX1_give_54 : decode cX1_give 54 = .ok (.iastore, 1) := by decide +kernel
theorem dX1_give_55 : decode cX1_give 55 = .ok (.iload_n 3, 1) := by decide +kernel
theorem dX1_give_56 : decode cX1_give 56 = .ok (.ifCond .lt 10, 3) := by decide +kernel
theorem dX1_give_59 : decode cX1_give 59 = .ok (.aload_n 0, 1) := by decide +kernel
theorem dX1_give_60 : decode cX1_give 60 = .ok (.getfield 16, 3) := by decide +kernel
theorem dX1_give_63 : decode cX1_give 63 = .ok (.iload_n 3, 1) := by decide +kernel
theorem dX1_give_64 : decode cX1_give 64 = .ok (.iconst 0, 1) := by decide +kernel
theorem dX1_give_65 : decode cX1_give 65 = .ok (.iastore, 1) := by decide +kernel
theorem dX1_give_66 : decode cX1_give 66 = .ok (.iload_n 3, 1) := by decide +kernel
theorem dX1_give_67 : decode cX1_give 67 = .ok (.ireturn, 1) := by decide +kernel
abbrev cX1_nextFor : ByteArray := prog_3_method_15_code
def yX1_nextFor : MethodName := ⟨RX1, "nextFor", "(I)I"⟩
theorem dX1_nextFor_0 : decode cX1_nextFor 0 = .ok (.aload_n 0, 1) := by decide +kernel
theorem dX1_nextFor_1 : decode cX1_nextFor 1 = .ok (.invokevirtual 43, 3) := by decide +kernel
theorem dX1_nextFor_4 : decode cX1_nextFor 4 = .ok (.iconst (-1), 1) := by decide +kernel
theorem dX1_nextFor_5 : decode cX1_nextFor 5 = .ok (.istore_n 2, 1) := by decide +kernel
theorem dX1_nextFor_6 : decode cX1_nextFor 6 = .ok (.iconst 0, 1) := by decide +kernel
theorem dX1_nextFor_7 : decode cX1_nextFor 7 = .ok (.istore_n 3, 1) := by decide +kernel
theorem dX1_nextFor_8 : decode cX1_nextFor 8 = .ok (.iload_n 3, 1) := by decide +kernel
theorem dX1_nextFor_9 : decode cX1_nextFor 9 = .ok (.bipush 6, 2) := by decide +kernel
theorem dX1_nextFor_11 : decode cX1_nextFor 11 = .ok (.if_icmp .ge 96, 3) := by decide +kernel
theorem dX1_nextFor_14 : decode cX1_nextFor 14 = .ok (.aload_n 0, 1) := by decide +kernel
theorem dX1_nextFor_15 : decode cX1_nextFor 15 = .ok (.iload_n 1, 1) := by decide +kernel
theorem dX1_nextFor_16 : decode cX1_nextFor 16 = .ok (.invokevirtual 29, 3) := by decide +kernel
theorem dX1_nextFor_19 : decode cX1_nextFor 19 = .ok (.ifCond .eq 88, 3) := by decide +kernel
theorem dX1_nextFor_22 : decode cX1_nextFor 22 = .ok (.aload_n 0, 1) := by decide +kernel
theorem dX1_nextFor_23 : decode cX1_nextFor 23 = .ok (.getfield 16, 3) := by decide +kernel
theorem dX1_nextFor_26 : decode cX1_nextFor 26 = .ok (.iload_n 3, 1) := by decide +kernel
theorem dX1_nextFor_27 : decode cX1_nextFor 27 = .ok (.iaload, 1) := by decide +kernel
theorem dX1_nextFor_28 : decode cX1_nextFor 28 = .ok (.iload_n 1, 1) := by decide +kernel
theorem dX1_nextFor_29 : decode cX1_nextFor 29 = .ok (.iconst 1, 1) := by decide +kernel
theorem dX1_nextFor_30 : decode cX1_nextFor 30 = .ok (.iadd, 1) := by decide +kernel
theorem dX1_nextFor_31 : decode cX1_nextFor 31 = .ok (.if_icmp .ne 70, 3) := by decide +kernel
theorem dX1_nextFor_34 : decode cX1_nextFor 34 = .ok (.iload_n 2, 1) := by decide +kernel
theorem dX1_nextFor_35 : decode cX1_nextFor 35 = .ok (.ifCond .lt 48, 3) := by decide +kernel
theorem dX1_nextFor_38 : decode cX1_nextFor 38 = .ok (.aload_n 0, 1) := by decide +kernel
theorem dX1_nextFor_39 : decode cX1_nextFor 39 = .ok (.getfield 22, 3) := by decide +kernel
theorem dX1_nextFor_42 : decode cX1_nextFor 42 = .ok (.iload_n 3, 1) := by decide +kernel
theorem dX1_nextFor_43 : decode cX1_nextFor 43 = .ok (.iaload, 1) := by decide +kernel
theorem dX1_nextFor_44 : decode cX1_nextFor 44 = .ok (.aload_n 0, 1) := by decide +kernel
theorem dX1_nextFor_45 : decode cX1_nextFor 45 = .ok (.getfield 22, 3) := by decide +kernel
theorem dX1_nextFor_48 : decode cX1_nextFor 48 = .ok (.iload_n 2, 1) := by decide +kernel
theorem dX1_nextFor_49 : decode cX1_nextFor 49 = .ok (.iaload, 1) := by decide +kernel
theorem dX1_nextFor_50 : decode cX1_nextFor 50 = .ok (.if_icmp .gt 33, 3) := by decide +kernel
theorem dX1_nextFor_53 : decode cX1_nextFor 53 = .ok (.aload_n 0, 1) := by decide +kernel
theorem dX1_nextFor_54 : decode cX1_nextFor 54 = .ok (.getfield 22, 3) := by decide +kernel
theorem dX1_nextFor_57 : decode cX1_nextFor 57 = .ok (.iload_n 3, 1) := by decide +kernel
theorem dX1_nextFor_58 : decode cX1_nextFor 58 = .ok (.iaload, 1) := by decide +kernel
theorem dX1_nextFor_59 : decode cX1_nextFor 59 = .ok (.aload_n 0, 1) := by decide +kernel
theorem dX1_nextFor_60 : decode cX1_nextFor 60 = .ok (.getfield 22, 3) := by decide +kernel
theorem dX1_nextFor_63 : decode cX1_nextFor 63 = .ok (.iload_n 2, 1) := by decide +kernel
theorem dX1_nextFor_64 : decode cX1_nextFor 64 = .ok (.iaload, 1) := by decide +kernel
theorem dX1_nextFor_65 : decode cX1_nextFor 65 = .ok (.if_icmp .ne 22, 3) := by decide +kernel
theorem dX1_nextFor_68 : decode cX1_nextFor 68 = .ok (.aload_n 0, 1) := by decide +kernel
theorem dX1_nextFor_69 : decode cX1_nextFor 69 = .ok (.getfield 19, 3) := by decide +kernel
theorem dX1_nextFor_72 : decode cX1_nextFor 72 = .ok (.iload_n 3, 1) := by decide +kernel
theorem dX1_nextFor_73 : decode cX1_nextFor 73 = .ok (.iaload, 1) := by decide +kernel
theorem dX1_nextFor_74 : decode cX1_nextFor 74 = .ok (.aload_n 0, 1) := by decide +kernel
theorem dX1_nextFor_75 : decode cX1_nextFor 75 = .ok (.getfield 19, 3) := by decide +kernel
theorem dX1_nextFor_78 : decode cX1_nextFor 78 = .ok (.iload_n 2, 1) := by decide +kernel
theorem dX1_nextFor_79 : decode cX1_nextFor 79 = .ok (.iaload, 1) := by decide +kernel
theorem dX1_nextFor_80 : decode cX1_nextFor 80 = .ok (.if_icmp .ge 7, 3) := by decide +kernel
theorem dX1_nextFor_83 : decode cX1_nextFor 83 = .ok (.iconst 1, 1) := by decide +kernel
theorem dX1_nextFor_84 : decode cX1_nextFor 84 = .ok (.goto 4, 3) := by decide +kernel
theorem dX1_nextFor_87 : decode cX1_nextFor 87 = .ok (.iconst 0, 1) := by decide +kernel
theorem dX1_nextFor_88 : decode cX1_nextFor 88 = .ok (.istore 4, 2) := by decide +kernel
theorem dX1_nextFor_90 : decode cX1_nextFor 90 = .ok (.iload 4, 2) := by decide +kernel
theorem dX1_nextFor_92 : decode cX1_nextFor 92 = .ok (.ifCond .eq 7, 3) := by decide +kernel
theorem dX1_nextFor_95 : decode cX1_nextFor 95 = .ok (.iload_n 3, 1) := by decide +kernel
theorem dX1_nextFor_96 : decode cX1_nextFor 96 = .ok (.goto 4, 3) := by decide +kernel
theorem dX1_nextFor_99 : decode cX1_nextFor 99 = .ok (.iload_n 2, 1) := by decide +kernel
theorem dX1_nextFor_100 : decode cX1_nextFor 100 = .ok (.istore_n 2, 1) := by decide +kernel
theorem dX1_nextFor_101 : decode cX1_nextFor 101 = .ok (.iinc 3 1, 3) := by decide +kernel
theorem dX1_nextFor_104 : decode cX1_nextFor 104 = .ok (.goto (-96), 3) := by decide +kernel
theorem dX1_nextFor_107 : decode cX1_nextFor 107 = .ok (.iload_n 2, 1) := by decide +kernel
theorem dX1_nextFor_108 : decode cX1_nextFor 108 = .ok (.ireturn, 1) := by decide +kernel
abbrev cX1_lend : ByteArray := prog_3_method_4_code
def yX1_lend : MethodName := ⟨RX1, "lend", "()V"⟩
theorem dX1_lend_0 : decode cX1_lend 0 = .ok (.iconst 0, 1) := by decide +kernel
theorem dX1_lend_1 : decode cX1_lend 1 = .ok (.istore_n 1, 1) := by decide +kernel
theorem dX1_lend_2 : decode cX1_lend 2 = .ok (.iload_n 1, 1) := by decide +kernel
theorem dX1_lend_3 : decode cX1_lend 3 = .ok (.bipush 6, 2) := by decide +kernel
theorem dX1_lend_5 : decode cX1_lend 5 = .ok (.if_icmp .ge 21, 3) := by decide +kernel
theorem dX1_lend_8 : decode cX1_lend 8 = .ok (.aload_n 0, 1) := by decide +kernel
theorem dX1_lend_9 : decode cX1_lend 9 = .ok (.getfield 22, 3) := by decide +kernel
theorem dX1_lend_12 : decode cX1_lend 12 = .ok (.iload_n 1, 1) := by decide +kernel
theorem dX1_lend_13 : decode cX1_lend 13 = .ok (.aload_n 0, 1) := by decide +kernel
theorem dX1_lend_14 : decode cX1_lend 14 = .ok (.getfield 7, 3) := by decide +kernel
theorem dX1_lend_17 : decode cX1_lend 17 = .ok (.iload_n 1, 1) := by decide +kernel
theorem dX1_lend_18 : decode cX1_lend 18 = .ok (.iaload, 1) := by decide +kernel
theorem dX1_lend_19 : decode cX1_lend 19 = .ok (.iastore, 1) := by decide +kernel
theorem dX1_lend_20 : decode cX1_lend 20 = .ok (.iinc 1 1, 3) := by decide +kernel
theorem dX1_lend_23 : decode cX1_lend 23 = .ok (.goto (-21), 3) := by decide +kernel
theorem dX1_lend_26 : decode cX1_lend 26 = .ok (.iconst 0, 1) := by decide +kernel
theorem dX1_lend_27 : decode cX1_lend 27 = .ok (.istore_n 1, 1) := by decide +kernel
theorem dX1_lend_28 : decode cX1_lend 28 = .ok (.iload_n 1, 1) := by decide +kernel
theorem dX1_lend_29 : decode cX1_lend 29 = .ok (.bipush 6, 2) := by decide +kernel
theorem dX1_lend_31 : decode cX1_lend 31 = .ok (.if_icmp .ge 83, 3) := by decide +kernel
theorem dX1_lend_34 : decode cX1_lend 34 = .ok (.iconst 0, 1) := by decide +kernel
theorem dX1_lend_35 : decode cX1_lend 35 = .ok (.istore_n 2, 1) := by decide +kernel
theorem dX1_lend_36 : decode cX1_lend 36 = .ok (.iload_n 2, 1) := by decide +kernel
theorem dX1_lend_37 : decode cX1_lend 37 = .ok (.bipush 6, 2) := by decide +kernel
theorem dX1_lend_39 : decode cX1_lend 39 = .ok (.if_icmp .ge 69, 3) := by decide +kernel
theorem dX1_lend_42 : decode cX1_lend 42 = .ok (.aload_n 0, 1) := by decide +kernel
theorem dX1_lend_43 : decode cX1_lend 43 = .ok (.getfield 16, 3) := by decide +kernel
theorem dX1_lend_46 : decode cX1_lend 46 = .ok (.iload_n 2, 1) := by decide +kernel
theorem dX1_lend_47 : decode cX1_lend 47 = .ok (.iaload, 1) := by decide +kernel
theorem dX1_lend_48 : decode cX1_lend 48 = .ok (.ifCond .le 21, 3) := by decide +kernel
theorem dX1_lend_51 : decode cX1_lend 51 = .ok (.aload_n 0, 1) := by decide +kernel
theorem dX1_lend_52 : decode cX1_lend 52 = .ok (.getfield 13, 3) := by decide +kernel
theorem dX1_lend_55 : decode cX1_lend 55 = .ok (.aload_n 0, 1) := by decide +kernel
theorem dX1_lend_56 : decode cX1_lend 56 = .ok (.getfield 16, 3) := by decide +kernel
theorem dX1_lend_59 : decode cX1_lend 59 = .ok (.iload_n 2, 1) := by decide +kernel
theorem dX1_lend_60 : decode cX1_lend 60 = .ok (.iaload, 1) := by decide +kernel
theorem dX1_lend_61 : decode cX1_lend 61 = .ok (.iconst 1, 1) := by decide +kernel
theorem dX1_lend_62 : decode cX1_lend 62 = .ok (.isub, 1) := by decide +kernel
theorem dX1_lend_63 : decode cX1_lend 63 = .ok (.iaload, 1) := by decide +kernel
theorem dX1_lend_64 : decode cX1_lend 64 = .ok (.iconst 1, 1) := by decide +kernel
theorem dX1_lend_65 : decode cX1_lend 65 = .ok (.isub, 1) := by decide +kernel
theorem dX1_lend_66 : decode cX1_lend 66 = .ok (.goto 4, 3) := by decide +kernel
theorem dX1_lend_69 : decode cX1_lend 69 = .ok (.iconst (-1), 1) := by decide +kernel
theorem dX1_lend_70 : decode cX1_lend 70 = .ok (.istore_n 3, 1) := by decide +kernel
theorem dX1_lend_71 : decode cX1_lend 71 = .ok (.iload_n 3, 1) := by decide +kernel
theorem dX1_lend_72 : decode cX1_lend 72 = .ok (.ifCond .lt 30, 3) := by decide +kernel
theorem dX1_lend_75 : decode cX1_lend 75 = .ok (.aload_n 0, 1) := by decide +kernel
theorem dX1_lend_76 : decode cX1_lend 76 = .ok (.getfield 22, 3) := by decide +kernel
theorem dX1_lend_79 : decode cX1_lend 79 = .ok (.iload_n 2, 1) := by decide +kernel
theorem dX1_lend_80 : decode cX1_lend 80 = .ok (.iaload, 1) := by decide +kernel
theorem dX1_lend_81 : decode cX1_lend 81 = .ok (.aload_n 0, 1) := by decide +kernel
theorem dX1_lend_82 : decode cX1_lend 82 = .ok (.getfield 22, 3) := by decide +kernel
theorem dX1_lend_85 : decode cX1_lend 85 = .ok (.iload_n 3, 1) := by decide +kernel
theorem dX1_lend_86 : decode cX1_lend 86 = .ok (.iaload, 1) := by decide +kernel
theorem dX1_lend_87 : decode cX1_lend 87 = .ok (.if_icmp .le 15, 3) := by decide +kernel
theorem dX1_lend_90 : decode cX1_lend 90 = .ok (.aload_n 0, 1) := by decide +kernel
theorem dX1_lend_91 : decode cX1_lend 91 = .ok (.getfield 22, 3) := by decide +kernel
theorem dX1_lend_94 : decode cX1_lend 94 = .ok (.iload_n 3, 1) := by decide +kernel
theorem dX1_lend_95 : decode cX1_lend 95 = .ok (.aload_n 0, 1) := by decide +kernel
theorem dX1_lend_96 : decode cX1_lend 96 = .ok (.getfield 22, 3) := by decide +kernel
theorem dX1_lend_99 : decode cX1_lend 99 = .ok (.iload_n 2, 1) := by decide +kernel
theorem dX1_lend_100 : decode cX1_lend 100 = .ok (.iaload, 1) := by decide +kernel
theorem dX1_lend_101 : decode cX1_lend 101 = .ok (.iastore, 1) := by decide +kernel
theorem dX1_lend_102 : decode cX1_lend 102 = .ok (.iinc 2 1, 3) := by decide +kernel
theorem dX1_lend_105 : decode cX1_lend 105 = .ok (.goto (-69), 3) := by decide +kernel
theorem dX1_lend_108 : decode cX1_lend 108 = .ok (.iinc 1 1, 3) := by decide +kernel
theorem dX1_lend_111 : decode cX1_lend 111 = .ok (.goto (-83), 3) := by decide +kernel
theorem dX1_lend_114 : decode cX1_lend 114 = .ok (.return_, 1) := by decide +kernel
abbrev cX1_giveUp : ByteArray := prog_3_method_8_code
def yX1_giveUp : MethodName := ⟨RX1, "giveUp", "(I)Z"⟩
theorem dX1_giveUp_0 : decode cX1_giveUp 0 = .ok (.aload_n 0, 1) := by decide +kernel
theorem dX1_giveUp_1 : decode cX1_giveUp 1 = .ok (.iload_n 1, 1) := by decide +kernel
theorem dX1_giveUp_2 : decode cX1_giveUp 2 = .ok (.invokevirtual 25, 3) := by decide +kernel
theorem dX1_giveUp_5 : decode cX1_giveUp 5 = .ok (.ifCond .eq 12, 3) := by decide +kernel
theorem dX1_giveUp_8 : decode cX1_giveUp 8 = .ok (.aload_n 0, 1) := by decide +kernel
theorem dX1_giveUp_9 : decode cX1_giveUp 9 = .ok (.getfield 16, 3) := by decide +kernel
theorem dX1_giveUp_12 : decode cX1_giveUp 12 = .ok (.iload_n 1, 1) := by decide +kernel
theorem dX1_giveUp_13 : decode cX1_giveUp 13 = .ok (.iaload, 1) := by decide +kernel
theorem dX1_giveUp_14 : decode cX1_giveUp 14 = .ok (.ifCond .ne 5, 3) := by decide +kernel
theorem dX1_giveUp_17 : decode cX1_giveUp 17 = .ok (.iconst 0, 1) := by decide +kernel
theorem dX1_giveUp_18 : decode cX1_giveUp 18 = .ok (.ireturn, 1) := by decide +kernel
theorem dX1_giveUp_19 : decode cX1_giveUp 19 = .ok (.aload_n 0, 1) := by decide +kernel
theorem dX1_giveUp_20 : decode cX1_giveUp 20 = .ok (.getfield 16, 3) := by decide +kernel
theorem dX1_giveUp_23 : decode cX1_giveUp 23 = .ok (.iload_n 1, 1) := by decide +kernel
theorem dX1_giveUp_24 : decode cX1_giveUp 24 = .ok (.iconst 0, 1) := by decide +kernel
theorem dX1_giveUp_25 : decode cX1_giveUp 25 = .ok (.iastore, 1) := by decide +kernel
theorem dX1_giveUp_26 : decode cX1_giveUp 26 = .ok (.iconst 1, 1) := by decide +kernel
theorem dX1_giveUp_27 : decode cX1_giveUp 27 = .ok (.ireturn, 1) := by decide +kernel
abbrev cX1_setBase : ByteArray := prog_3_method_9_code
def yX1_setBase : MethodName := ⟨RX1, "setBase", "(II)Z"⟩
theorem dX1_setBase_0 : decode cX1_setBase 0 = .ok (.aload_n 0, 1) := by decide +kernel
theorem dX1_setBase_1 : decode cX1_setBase 1 = .ok (.iload_n 1, 1) := by decide +kernel
theorem dX1_setBase_2 : decode cX1_setBase 2 = .ok (.invokevirtual 25, 3) := by decide +kernel
theorem dX1_setBase_5 : decode cX1_setBase 5 = .ok (.ifCond .eq 13, 3) := by decide +kernel
theorem dX1_setBase_8 : decode cX1_setBase 8 = .ok (.iload_n 2, 1) := by decide +kernel
theorem dX1_setBase_9 : decode cX1_setBase 9 = .ok (.ifCond .lt 9, 3) := by decide +kernel
theorem dX1_setBase_12 : decode cX1_setBase 12 = .ok (.iload_n 2, 1) := by decide +kernel
theorem dX1_setBase_13 : decode cX1_setBase 13 = .ok (.bipush 9, 2) := by decide +kernel
theorem dX1_setBase_15 : decode cX1_setBase 15 = .ok (.if_icmp .le 5, 3) := by decide +kernel
theorem dX1_setBase_18 : decode cX1_setBase 18 = .ok (.iconst 0, 1) := by decide +kernel
theorem dX1_setBase_19 : decode cX1_setBase 19 = .ok (.ireturn, 1) := by decide +kernel
theorem dX1_setBase_20 : decode cX1_setBase 20 = .ok (.aload_n 0, 1) := by decide +kernel
theorem dX1_setBase_21 : decode cX1_setBase 21 = .ok (.getfield 7, 3) := by decide +kernel
theorem dX1_setBase_24 : decode cX1_setBase 24 = .ok (.iload_n 1, 1) := by decide +kernel
theorem dX1_setBase_25 : decode cX1_setBase 25 = .ok (.iload_n 2, 1) := by decide +kernel
theorem dX1_setBase_26 : decode cX1_setBase 26 = .ok (.iastore, 1) := by decide +kernel
theorem dX1_setBase_27 : decode cX1_setBase 27 = .ok (.iconst 1, 1) := by decide +kernel
theorem dX1_setBase_28 : decode cX1_setBase 28 = .ok (.ireturn, 1) := by decide +kernel
abbrev cX1_urgency : ByteArray := prog_3_method_10_code
def yX1_urgency : MethodName := ⟨RX1, "urgency", "(I)I"⟩
theorem dX1_urgency_0 : decode cX1_urgency 0 = .ok (.aload_n 0, 1) := by decide +kernel
theorem dX1_urgency_1 : decode cX1_urgency 1 = .ok (.invokevirtual 43, 3) := by decide +kernel
theorem dX1_urgency_4 : decode cX1_urgency 4 = .ok (.aload_n 0, 1) := by decide +kernel
theorem dX1_urgency_5 : decode cX1_urgency 5 = .ok (.iload_n 1, 1) := by decide +kernel
theorem dX1_urgency_6 : decode cX1_urgency 6 = .ok (.invokevirtual 25, 3) := by decide +kernel
theorem dX1_urgency_9 : decode cX1_urgency 9 = .ok (.ifCond .eq 12, 3) := by decide +kernel
theorem dX1_urgency_12 : decode cX1_urgency 12 = .ok (.aload_n 0, 1) := by decide +kernel
theorem dX1_urgency_13 : decode cX1_urgency 13 = .ok (.getfield 22, 3) := by decide +kernel
theorem dX1_urgency_16 : decode cX1_urgency 16 = .ok (.iload_n 1, 1) := by decide +kernel
theorem dX1_urgency_17 : decode cX1_urgency 17 = .ok (.iaload, 1) := by decide +kernel
theorem dX1_urgency_18 : decode cX1_urgency 18 = .ok (.goto 4, 3) := by decide +kernel
theorem dX1_urgency_21 : decode cX1_urgency 21 = .ok (.iconst (-1), 1) := by decide +kernel
theorem dX1_urgency_22 : decode cX1_urgency 22 = .ok (.ireturn, 1) := by decide +kernel
abbrev cX1_base : ByteArray := prog_3_method_11_code
def yX1_base : MethodName := ⟨RX1, "base", "(I)I"⟩
theorem dX1_base_0 : decode cX1_base 0 = .ok (.aload_n 0, 1) := by decide +kernel
theorem dX1_base_1 : decode cX1_base 1 = .ok (.iload_n 1, 1) := by decide +kernel
theorem dX1_base_2 : decode cX1_base 2 = .ok (.invokevirtual 25, 3) := by decide +kernel
theorem dX1_base_5 : decode cX1_base 5 = .ok (.ifCond .eq 12, 3) := by decide +kernel
theorem dX1_base_8 : decode cX1_base 8 = .ok (.aload_n 0, 1) := by decide +kernel
theorem dX1_base_9 : decode cX1_base 9 = .ok (.getfield 7, 3) := by decide +kernel
theorem dX1_base_12 : decode cX1_base 12 = .ok (.iload_n 1, 1) := by decide +kernel
theorem dX1_base_13 : decode cX1_base 13 = .ok (.iaload, 1) := by decide +kernel
theorem dX1_base_14 : decode cX1_base 14 = .ok (.goto 4, 3) := by decide +kernel
theorem dX1_base_17 : decode cX1_base 17 = .ok (.iconst (-1), 1) := by decide +kernel
theorem dX1_base_18 : decode cX1_base 18 = .ok (.ireturn, 1) := by decide +kernel
abbrev cX1_holder : ByteArray := prog_3_method_12_code
def yX1_holder : MethodName := ⟨RX1, "holder", "(I)I"⟩
theorem dX1_holder_0 : decode cX1_holder 0 = .ok (.aload_n 0, 1) := by decide +kernel
theorem dX1_holder_1 : decode cX1_holder 1 = .ok (.iload_n 1, 1) := by decide +kernel
theorem dX1_holder_2 : decode cX1_holder 2 = .ok (.invokevirtual 29, 3) := by decide +kernel
theorem dX1_holder_5 : decode cX1_holder 5 = .ok (.ifCond .eq 14, 3) := by decide +kernel
theorem dX1_holder_8 : decode cX1_holder 8 = .ok (.aload_n 0, 1) := by decide +kernel
theorem dX1_holder_9 : decode cX1_holder 9 = .ok (.getfield 13, 3) := by decide +kernel
theorem dX1_holder_12 : decode cX1_holder 12 = .ok (.iload_n 1, 1) := by decide +kernel
theorem dX1_holder_13 : decode cX1_holder 13 = .ok (.iaload, 1) := by decide +kernel
theorem dX1_holder_14 : decode cX1_holder 14 = .ok (.iconst 1, 1) := by decide +kernel
theorem dX1_holder_15 : decode cX1_holder 15 = .ok (.isub, 1) := by decide +kernel
theorem dX1_holder_16 : decode cX1_holder 16 = .ok (.goto 4, 3) := by decide +kernel
theorem dX1_holder_19 : decode cX1_holder 19 = .ok (.iconst (-1), 1) := by decide +kernel
theorem dX1_holder_20 : decode cX1_holder 20 = .ok (.ireturn, 1) := by decide +kernel
abbrev cX1_waitsFor : ByteArray := prog_3_method_13_code
def yX1_waitsFor : MethodName := ⟨RX1, "waitsFor", "(I)I"⟩
theorem dX1_waitsFor_0 : decode cX1_waitsFor 0 = .ok (.aload_n 0, 1) := by decide +kernel
theorem dX1_waitsFor_1 : decode cX1_waitsFor 1 = .ok (.iload_n 1, 1) := by decide +kernel
theorem dX1_waitsFor_2 : decode cX1_waitsFor 2 = .ok (.invokevirtual 25, 3) := by decide +kernel
theorem dX1_waitsFor_5 : decode cX1_waitsFor 5 = .ok (.ifCond .eq 14, 3) := by decide +kernel
theorem dX1_waitsFor_8 : decode cX1_waitsFor 8 = .ok (.aload_n 0, 1) := by decide +kernel
theorem dX1_waitsFor_9 : decode cX1_waitsFor 9 = .ok (.getfield 16, 3) := by decide +kernel
theorem dX1_waitsFor_12 : decode cX1_waitsFor 12 = .ok (.iload_n 1, 1) := by decide +kernel
theorem dX1_waitsFor_13 : decode cX1_waitsFor 13 = .ok (.iaload, 1) := by decide +kernel
theorem dX1_waitsFor_14 : decode cX1_waitsFor 14 = .ok (.iconst 1, 1) := by decide +kernel
theorem dX1_waitsFor_15 : decode cX1_waitsFor 15 = .ok (.isub, 1) := by decide +kernel
theorem dX1_waitsFor_16 : decode cX1_waitsFor 16 = .ok (.goto 4, 3) := by decide +kernel
theorem dX1_waitsFor_19 : decode cX1_waitsFor 19 = .ok (.iconst (-1), 1) := by decide +kernel
theorem dX1_waitsFor_20 : decode cX1_waitsFor 20 = .ok (.ireturn, 1) := by decide +kernel
abbrev cX1_waiting : ByteArray := prog_3_method_14_code
def yX1_waiting : MethodName := ⟨RX1, "waiting", "(I)I"⟩
theorem dX1_waiting_0 : decode cX1_waiting 0 = .ok (.iconst 0, 1) := by decide +kernel
theorem dX1_waiting_1 : decode cX1_waiting 1 = .ok (.istore_n 2, 1) := by decide +kernel
theorem dX1_waiting_2 : decode cX1_waiting 2 = .ok (.iconst 0, 1) := by decide +kernel
theorem dX1_waiting_3 : decode cX1_waiting 3 = .ok (.istore_n 3, 1) := by decide +kernel
theorem dX1_waiting_4 : decode cX1_waiting 4 = .ok (.iload_n 3, 1) := by decide +kernel
theorem dX1_waiting_5 : decode cX1_waiting 5 = .ok (.bipush 6, 2) := by decide +kernel
theorem dX1_waiting_7 : decode cX1_waiting 7 = .ok (.if_icmp .ge 37, 3) := by decide +kernel
theorem dX1_waiting_10 : decode cX1_waiting 10 = .ok (.aload_n 0, 1) := by decide +kernel
theorem dX1_waiting_11 : decode cX1_waiting 11 = .ok (.iload_n 1, 1) := by decide +kernel
theorem dX1_waiting_12 : decode cX1_waiting 12 = .ok (.invokevirtual 29, 3) := by decide +kernel
theorem dX1_waiting_15 : decode cX1_waiting 15 = .ok (.ifCond .eq 29, 3) := by decide +kernel
theorem dX1_waiting_18 : decode cX1_waiting 18 = .ok (.aload_n 0, 1) := by decide +kernel
theorem dX1_waiting_19 : decode cX1_waiting 19 = .ok (.getfield 16, 3) := by decide +kernel
theorem dX1_waiting_22 : decode cX1_waiting 22 = .ok (.iload_n 3, 1) := by decide +kernel
theorem dX1_waiting_23 : decode cX1_waiting 23 = .ok (.iaload, 1) := by decide +kernel
theorem dX1_waiting_24 : decode cX1_waiting 24 = .ok (.iload_n 1, 1) := by decide +kernel
theorem dX1_waiting_25 : decode cX1_waiting 25 = .ok (.iconst 1, 1) := by decide +kernel
theorem dX1_waiting_26 : decode cX1_waiting 26 = .ok (.iadd, 1) := by decide +kernel
theorem dX1_waiting_27 : decode cX1_waiting 27 = .ok (.if_icmp .ne 9, 3) := by decide +kernel
theorem dX1_waiting_30 : decode cX1_waiting 30 = .ok (.iload_n 2, 1) := by decide +kernel
theorem dX1_waiting_31 : decode cX1_waiting 31 = .ok (.iconst 1, 1) := by decide +kernel
theorem dX1_waiting_32 : decode cX1_waiting 32 = .ok (.iadd, 1) := by decide +kernel
theorem dX1_waiting_33 : decode cX1_waiting 33 = .ok (.goto 4, 3) := by decide +kernel
theorem dX1_waiting_36 : decode cX1_waiting 36 = .ok (.iload_n 2, 1) := by decide +kernel
theorem dX1_waiting_37 : decode cX1_waiting 37 = .ok (.istore_n 2, 1) := by decide +kernel
theorem dX1_waiting_38 : decode cX1_waiting 38 = .ok (.iinc 3 1, 3) := by decide +kernel
theorem dX1_waiting_41 : decode cX1_waiting 41 = .ok (.goto (-37), 3) := by decide +kernel
theorem dX1_waiting_44 : decode cX1_waiting 44 = .ok (.iload_n 2, 1) := by decide +kernel
theorem dX1_waiting_45 : decode cX1_waiting 45 = .ok (.ireturn, 1) := by decide +kernel
abbrev cX1_held : ByteArray := prog_3_method_16_code
def yX1_held : MethodName := ⟨RX1, "held", "(I)I"⟩
theorem dX1_held_0 : decode cX1_held 0 = .ok (.iconst 0, 1) := by decide +kernel
theorem dX1_held_1 : decode cX1_held 1 = .ok (.istore_n 2, 1) := by decide +kernel
theorem dX1_held_2 : decode cX1_held 2 = .ok (.iconst 0, 1) := by decide +kernel
theorem dX1_held_3 : decode cX1_held 3 = .ok (.istore_n 3, 1) := by decide +kernel
theorem dX1_held_4 : decode cX1_held 4 = .ok (.iload_n 3, 1) := by decide +kernel
theorem dX1_held_5 : decode cX1_held 5 = .ok (.iconst 5, 1) := by decide +kernel
theorem dX1_held_6 : decode cX1_held 6 = .ok (.if_icmp .ge 39, 3) := by decide +kernel
theorem dX1_held_9 : decode cX1_held 9 = .ok (.aload_n 0, 1) := by decide +kernel
theorem dX1_held_10 : decode cX1_held 10 = .ok (.iload_n 1, 1) := by decide +kernel
theorem dX1_held_11 : decode cX1_held 11 = .ok (.invokevirtual 25, 3) := by decide +kernel
theorem dX1_held_14 : decode cX1_held 14 = .ok (.ifCond .eq 31, 3) := by decide +kernel
theorem dX1_held_17 : decode cX1_held 17 = .ok (.aload_n 0, 1) := by decide +kernel
theorem dX1_held_18 : decode cX1_held 18 = .ok (.getfield 13, 3) := by decide +kernel
theorem dX1_held_21 : decode cX1_held 21 = .ok (.iload_n 3, 1) := by decide +kernel
theorem dX1_held_22 : decode cX1_held 22 = .ok (.iaload, 1) := by decide +kernel
theorem dX1_held_23 : decode cX1_held 23 = .ok (.iload_n 1, 1) := by decide +kernel
theorem dX1_held_24 : decode cX1_held 24 = .ok (.iconst 1, 1) := by decide +kernel
theorem dX1_held_25 : decode cX1_held 25 = .ok (.iadd, 1) := by decide +kernel
theorem dX1_held_26 : decode cX1_held 26 = .ok (.if_icmp .ne 11, 3) := by decide +kernel
theorem dX1_held_29 : decode cX1_held 29 = .ok (.iload_n 2, 1) := by decide +kernel
theorem dX1_held_30 : decode cX1_held 30 = .ok (.iconst 1, 1) := by decide +kernel
theorem dX1_held_31 : decode cX1_held 31 = .ok (.iload_n 3, 1) := by decide +kernel
theorem dX1_held_32 : decode cX1_held 32 = .ok (.ishl, 1) := by decide +kernel
theorem dX1_held_33 : decode cX1_held 33 = .ok (.ior, 1) := by decide +kernel
theorem dX1_held_34 : decode cX1_held 34 = .ok (.goto 4, 3) := by decide +kernel
theorem dX1_held_37 : decode cX1_held 37 = .ok (.iload_n 2, 1) := by decide +kernel
theorem dX1_held_38 : decode cX1_held 38 = .ok (.istore_n 2, 1) := by decide +kernel
theorem dX1_held_39 : decode cX1_held 39 = .ok (.iinc 3 1, 3) := by decide +kernel
theorem dX1_held_42 : decode cX1_held 42 = .ok (.goto (-38), 3) := by decide +kernel
theorem dX1_held_45 : decode cX1_held 45 = .ok (.iload_n 2, 1) := by decide +kernel
theorem dX1_held_46 : decode cX1_held 46 = .ok (.ireturn, 1) := by decide +kernel
abbrev cX1_running : ByteArray := prog_3_method_17_code
def yX1_running : MethodName := ⟨RX1, "running", "()I"⟩
theorem dX1_running_0 : decode cX1_running 0 = .ok (.aload_n 0, 1) := by decide +kernel
theorem dX1_running_1 : decode cX1_running 1 = .ok (.invokevirtual 43, 3) := by decide +kernel
theorem dX1_running_4 : decode cX1_running 4 = .ok (.iconst (-1), 1) := by decide +kernel
theorem dX1_running_5 : decode cX1_running 5 = .ok (.istore_n 1, 1) := by decide +kernel
theorem dX1_running_6 : decode cX1_running 6 = .ok (.iconst 0, 1) := by decide +kernel
theorem dX1_running_7 : decode cX1_running 7 = .ok (.istore_n 2, 1) := by decide +kernel
theorem dX1_running_8 : decode cX1_running 8 = .ok (.iload_n 2, 1) := by decide +kernel
theorem dX1_running_9 : decode cX1_running 9 = .ok (.bipush 6, 2) := by decide +kernel
theorem dX1_running_11 : decode cX1_running 11 = .ok (.if_icmp .ge 43, 3) := by decide +kernel
theorem dX1_running_14 : decode cX1_running 14 = .ok (.aload_n 0, 1) := by decide +kernel
theorem dX1_running_15 : decode cX1_running 15 = .ok (.getfield 16, 3) := by decide +kernel
theorem dX1_running_18 : decode cX1_running 18 = .ok (.iload_n 2, 1) := by decide +kernel
theorem dX1_running_19 : decode cX1_running 19 = .ok (.iaload, 1) := by decide +kernel
theorem dX1_running_20 : decode cX1_running 20 = .ok (.ifCond .ne 26, 3) := by decide +kernel
theorem dX1_running_23 : decode cX1_running 23 = .ok (.iload_n 1, 1) := by decide +kernel
theorem dX1_running_24 : decode cX1_running 24 = .ok (.ifCond .lt 18, 3) := by decide +kernel
theorem dX1_running_27 : decode cX1_running 27 = .ok (.aload_n 0, 1) := by decide +kernel
theorem dX1_running_28 : decode cX1_running 28 = .ok (.getfield 22, 3) := by decide +kernel
theorem dX1_running_31 : decode cX1_running 31 = .ok (.iload_n 2, 1) := by decide +kernel
theorem dX1_running_32 : decode cX1_running 32 = .ok (.iaload, 1) := by decide +kernel
theorem dX1_running_33 : decode cX1_running 33 = .ok (.aload_n 0, 1) := by decide +kernel
theorem dX1_running_34 : decode cX1_running 34 = .ok (.getfield 22, 3) := by decide +kernel
theorem dX1_running_37 : decode cX1_running 37 = .ok (.iload_n 1, 1) := by decide +kernel
theorem dX1_running_38 : decode cX1_running 38 = .ok (.iaload, 1) := by decide +kernel
theorem dX1_running_39 : decode cX1_running 39 = .ok (.if_icmp .le 7, 3) := by decide +kernel
theorem dX1_running_42 : decode cX1_running 42 = .ok (.iload_n 2, 1) := by decide +kernel
theorem dX1_running_43 : decode cX1_running 43 = .ok (.goto 4, 3) := by decide +kernel
theorem dX1_running_46 : decode cX1_running 46 = .ok (.iload_n 1, 1) := by decide +kernel
theorem dX1_running_47 : decode cX1_running 47 = .ok (.istore_n 1, 1) := by decide +kernel
theorem dX1_running_48 : decode cX1_running 48 = .ok (.iinc 2 1, 3) := by decide +kernel
theorem dX1_running_51 : decode cX1_running 51 = .ok (.goto (-43), 3) := by decide +kernel
theorem dX1_running_54 : decode cX1_running 54 = .ok (.iload_n 1, 1) := by decide +kernel
theorem dX1_running_55 : decode cX1_running 55 = .ok (.ireturn, 1) := by decide +kernel
abbrev cX1_waitingOn : ByteArray := prog_3_method_18_code
def yX1_waitingOn : MethodName := ⟨RX1, "waitingOn", "(I)I"⟩
theorem dX1_waitingOn_0 : decode cX1_waitingOn 0 = .ok (.aload_n 0, 1) := by decide +kernel
theorem dX1_waitingOn_1 : decode cX1_waitingOn 1 = .ok (.iload_n 1, 1) := by decide +kernel
theorem dX1_waitingOn_2 : decode cX1_waitingOn 2 = .ok (.invokevirtual 25, 3) := by decide +kernel
theorem dX1_waitingOn_5 : decode cX1_waitingOn 5 = .ok (.ifCond .eq 11, 3) := by decide +kernel
theorem dX1_waitingOn_8 : decode cX1_waitingOn 8 = .ok (.aload_n 0, 1) := by decide +kernel
theorem dX1_waitingOn_9 : decode cX1_waitingOn 9 = .ok (.iload_n 1, 1) := by decide +kernel
theorem dX1_waitingOn_10 : decode cX1_waitingOn 10 = .ok (.invokevirtual 32, 3) := by decide +kernel
theorem dX1_waitingOn_13 : decode cX1_waitingOn 13 = .ok (.goto 4, 3) := by decide +kernel
theorem dX1_waitingOn_16 : decode cX1_waitingOn 16 = .ok (.iconst 0, 1) := by decide +kernel
theorem dX1_waitingOn_17 : decode cX1_waitingOn 17 = .ok (.ireturn, 1) := by decide +kernel
abbrev cX1_lifted : ByteArray := prog_3_method_19_code
def yX1_lifted : MethodName := ⟨RX1, "lifted", "()I"⟩
theorem dX1_lifted_0 : decode cX1_lifted 0 = .ok (.aload_n 0, 1) := by decide +kernel
theorem dX1_lifted_1 : decode cX1_lifted 1 = .ok (.invokevirtual 43, 3) := by decide +kernel
theorem dX1_lifted_4 : decode cX1_lifted 4 = .ok (.iconst 0, 1) := by decide +kernel
theorem dX1_lifted_5 : decode cX1_lifted 5 = .ok (.istore_n 1, 1) := by decide +kernel
theorem dX1_lifted_6 : decode cX1_lifted 6 = .ok (.iconst 0, 1) := by decide +kernel
theorem dX1_lifted_7 : decode cX1_lifted 7 = .ok (.istore_n 2, 1) := by decide +kernel
theorem dX1_lifted_8 : decode cX1_lifted 8 = .ok (.iload_n 2, 1) := by decide +kernel
theorem dX1_lifted_9 : decode cX1_lifted 9 = .ok (.bipush 6, 2) := by decide +kernel
theorem dX1_lifted_11 : decode cX1_lifted 11 = .ok (.if_icmp .ge 34, 3) := by decide +kernel
theorem dX1_lifted_14 : decode cX1_lifted 14 = .ok (.aload_n 0, 1) := by decide +kernel
theorem dX1_lifted_15 : decode cX1_lifted 15 = .ok (.getfield 22, 3) := by decide +kernel
theorem dX1_lifted_18 : decode cX1_lifted 18 = .ok (.iload_n 2, 1) := by decide +kernel
theorem dX1_lifted_19 : decode cX1_lifted 19 = .ok (.iaload, 1) := by decide +kernel
theorem dX1_lifted_20 : decode cX1_lifted 20 = .ok (.aload_n 0, 1) := by decide +kernel
theorem dX1_lifted_21 : decode cX1_lifted 21 = .ok (.getfield 7, 3) := by decide +kernel
theorem dX1_lifted_24 : decode cX1_lifted 24 = .ok (.iload_n 2, 1) := by decide +kernel
theorem dX1_lifted_25 : decode cX1_lifted 25 = .ok (.iaload, 1) := by decide +kernel
theorem dX1_lifted_26 : decode cX1_lifted 26 = .ok (.if_icmp .le 11, 3) := by decide +kernel
theorem dX1_lifted_29 : decode cX1_lifted 29 = .ok (.iload_n 1, 1) := by decide +kernel
theorem dX1_lifted_30 : decode cX1_lifted 30 = .ok (.iconst 1, 1) := by decide +kernel
theorem dX1_lifted_31 : decode cX1_lifted 31 = .ok (.iload_n 2, 1) := by decide +kernel
theorem dX1_lifted_32 : decode cX1_lifted 32 = .ok (.ishl, 1) := by decide +kernel
theorem dX1_lifted_33 : decode cX1_lifted 33 = .ok (.ior, 1) := by decide +kernel
theorem dX1_lifted_34 : decode cX1_lifted 34 = .ok (.goto 4, 3) := by decide +kernel
theorem dX1_lifted_37 : decode cX1_lifted 37 = .ok (.iload_n 1, 1) := by decide +kernel
theorem dX1_lifted_38 : decode cX1_lifted 38 = .ok (.istore_n 1, 1) := by decide +kernel
theorem dX1_lifted_39 : decode cX1_lifted 39 = .ok (.iinc 2 1, 3) := by decide +kernel
theorem dX1_lifted_42 : decode cX1_lifted 42 = .ok (.goto (-34), 3) := by decide +kernel
theorem dX1_lifted_45 : decode cX1_lifted 45 = .ok (.iload_n 1, 1) := by decide +kernel
theorem dX1_lifted_46 : decode cX1_lifted 46 = .ok (.ireturn, 1) := by decide +kernel
theorem q10 : (Jvm.Cond.initialized "PriorityLocksModel") ∈ lw_all := lw_g (lw_at lw_m0 2 rfl) rfl
theorem q119 : (Jvm.Cond.instantiable "PriorityLocksModel" (6 : Nat)) ∈ lw_all := lw_g (lw_at lw_m0 111 rfl) rfl
theorem q121 : (Jvm.Cond.instanceMethod ({ cls := "PriorityLocksModel", name := "<init>", desc := "()V" } : Jvm.MethodName)) ∈ lw_all := lw_g (lw_at lw_m0 113 rfl) rfl
theorem q122 : (Jvm.Cond.code ({ cls := "PriorityLocksModel", name := "<init>", desc := "()V" } : Jvm.MethodName) prog_3_method_1_code (1 : Nat) (Option.none : Option Jvm.ClassFile.FieldType)) ∈ lw_all := lw_g (lw_at lw_m0 114 rfl) rfl
theorem q123 : (Jvm.Cond.methodLink "PriorityLocksModel" (1 : Nat) ({ cls := "java/lang/Object", name := "<init>", desc := "()V" } : Jvm.MethodName)) ∈ lw_all := lw_g (lw_at lw_m0 115 rfl) rfl
theorem q124 : (Jvm.Cond.fieldLink "PriorityLocksModel" (7 : Nat) "PriorityLocksModel" "bases" "[I") ∈ lw_all := lw_g (lw_at lw_m0 116 rfl) rfl
theorem q125 : (Jvm.Cond.fieldLink "PriorityLocksModel" (13 : Nat) "PriorityLocksModel" "holds" "[I") ∈ lw_all := lw_g (lw_at lw_m0 117 rfl) rfl
theorem q126 : (Jvm.Cond.fieldLink "PriorityLocksModel" (16 : Nat) "PriorityLocksModel" "wants" "[I") ∈ lw_all := lw_g (lw_at lw_m0 118 rfl) rfl
theorem q127 : (Jvm.Cond.fieldLink "PriorityLocksModel" (19 : Nat) "PriorityLocksModel" "since" "[I") ∈ lw_all := lw_g (lw_at lw_m0 119 rfl) rfl
theorem q128 : (Jvm.Cond.fieldLink "PriorityLocksModel" (36 : Nat) "PriorityLocksModel" "time" "I") ∈ lw_all := lw_g (lw_at lw_m0 120 rfl) rfl
theorem q129 : (Jvm.Cond.fieldLink "PriorityLocksModel" (22 : Nat) "PriorityLocksModel" "urgent" "[I") ∈ lw_all := lw_g (lw_at lw_m0 121 rfl) rfl
theorem q130 : (Jvm.Cond.lays "PriorityLocksModel" "PriorityLocksModel" "bases" "[I") ∈ lw_all := lw_g (lw_at lw_m0 122 rfl) rfl
theorem q131 : (Jvm.Cond.soleField "PriorityLocksModel" "bases") ∈ lw_all := lw_g (lw_at lw_m0 123 rfl) rfl
theorem q132 : (Jvm.Cond.lays "PriorityLocksModel" "PriorityLocksModel" "holds" "[I") ∈ lw_all := lw_g (lw_at lw_m0 124 rfl) rfl
theorem q133 : (Jvm.Cond.soleField "PriorityLocksModel" "holds") ∈ lw_all := lw_g (lw_at lw_m0 125 rfl) rfl
theorem q134 : (Jvm.Cond.lays "PriorityLocksModel" "PriorityLocksModel" "wants" "[I") ∈ lw_all := lw_g (lw_at lw_m0 126 rfl) rfl
theorem q135 : (Jvm.Cond.soleField "PriorityLocksModel" "wants") ∈ lw_all := lw_g (lw_at lw_m0 127 rfl) rfl
theorem q136 : (Jvm.Cond.lays "PriorityLocksModel" "PriorityLocksModel" "since" "[I") ∈ lw_all := lw_g (lw_at lw_m0 128 rfl) rfl
theorem q137 : (Jvm.Cond.soleField "PriorityLocksModel" "since") ∈ lw_all := lw_g (lw_at lw_m0 129 rfl) rfl
theorem q138 : (Jvm.Cond.lays "PriorityLocksModel" "PriorityLocksModel" "time" "I") ∈ lw_all := lw_g (lw_at lw_m0 130 rfl) rfl
theorem q139 : (Jvm.Cond.soleField "PriorityLocksModel" "time") ∈ lw_all := lw_g (lw_at lw_m0 131 rfl) rfl
theorem q140 : (Jvm.Cond.lays "PriorityLocksModel" "PriorityLocksModel" "urgent" "[I") ∈ lw_all := lw_g (lw_at lw_m0 132 rfl) rfl
theorem q141 : (Jvm.Cond.soleField "PriorityLocksModel" "urgent") ∈ lw_all := lw_g (lw_at lw_m0 133 rfl) rfl
theorem q142 : (Jvm.Cond.superclass "PriorityLocksModel" "java/lang/Object") ∈ lw_all := lw_g (lw_at lw_m0 134 rfl) rfl
theorem q144 : (Jvm.Cond.instanceMethod ({ cls := "PriorityLocksModel", name := "take", desc := "(II)I" } : Jvm.MethodName)) ∈ lw_all := lw_g (lw_at lw_m0 136 rfl) rfl
theorem q145 : (Jvm.Cond.selects "PriorityLocksModel" ({ cls := "PriorityLocksModel", name := "take", desc := "(II)I" } : Jvm.MethodName) ({ cls := "PriorityLocksModel", name := "take", desc := "(II)I" } : Jvm.MethodName)) ∈ lw_all := lw_g (lw_at lw_m0 137 rfl) rfl
theorem q146 : (Jvm.Cond.code ({ cls := "PriorityLocksModel", name := "take", desc := "(II)I" } : Jvm.MethodName) prog_3_method_6_code (4 : Nat) (Option.some Jvm.ClassFile.FieldType.int)) ∈ lw_all := lw_g (lw_at lw_m0 138 rfl) rfl
theorem q147 : (Jvm.Cond.methodLink "PriorityLocksModel" (25 : Nat) ({ cls := "PriorityLocksModel", name := "thread", desc := "(I)Z" } : Jvm.MethodName)) ∈ lw_all := lw_g (lw_at lw_m0 139 rfl) rfl
theorem q148 : (Jvm.Cond.privateMethod ({ cls := "PriorityLocksModel", name := "thread", desc := "(I)Z" } : Jvm.MethodName)) ∈ lw_tbl := lw_at lw_m0 140 rfl
theorem q149 : (Jvm.Cond.instanceMethod ({ cls := "PriorityLocksModel", name := "thread", desc := "(I)Z" } : Jvm.MethodName)) ∈ lw_all := lw_g (lw_at lw_m0 141 rfl) rfl
theorem q150 : (Jvm.Cond.code ({ cls := "PriorityLocksModel", name := "thread", desc := "(I)Z" } : Jvm.MethodName) prog_3_method_2_code (2 : Nat) (Option.some Jvm.ClassFile.FieldType.boolean)) ∈ lw_all := lw_g (lw_at lw_m0 142 rfl) rfl
theorem q151 : (Jvm.Cond.methodLink "PriorityLocksModel" (29 : Nat) ({ cls := "PriorityLocksModel", name := "lock", desc := "(I)Z" } : Jvm.MethodName)) ∈ lw_all := lw_g (lw_at lw_m0 143 rfl) rfl
theorem q152 : (Jvm.Cond.privateMethod ({ cls := "PriorityLocksModel", name := "lock", desc := "(I)Z" } : Jvm.MethodName)) ∈ lw_tbl := lw_at lw_m0 144 rfl
theorem q153 : (Jvm.Cond.instanceMethod ({ cls := "PriorityLocksModel", name := "lock", desc := "(I)Z" } : Jvm.MethodName)) ∈ lw_all := lw_g (lw_at lw_m0 145 rfl) rfl
theorem q154 : (Jvm.Cond.code ({ cls := "PriorityLocksModel", name := "lock", desc := "(I)Z" } : Jvm.MethodName) prog_3_method_3_code (2 : Nat) (Option.some Jvm.ClassFile.FieldType.boolean)) ∈ lw_all := lw_g (lw_at lw_m0 146 rfl) rfl
theorem q155 : (Jvm.Cond.methodLink "PriorityLocksModel" (32 : Nat) ({ cls := "PriorityLocksModel", name := "behind", desc := "(I)I" } : Jvm.MethodName)) ∈ lw_all := lw_g (lw_at lw_m0 147 rfl) rfl
theorem q156 : (Jvm.Cond.privateMethod ({ cls := "PriorityLocksModel", name := "behind", desc := "(I)I" } : Jvm.MethodName)) ∈ lw_tbl := lw_at lw_m0 148 rfl
theorem q157 : (Jvm.Cond.instanceMethod ({ cls := "PriorityLocksModel", name := "behind", desc := "(I)I" } : Jvm.MethodName)) ∈ lw_all := lw_g (lw_at lw_m0 149 rfl) rfl
theorem q158 : (Jvm.Cond.code ({ cls := "PriorityLocksModel", name := "behind", desc := "(I)I" } : Jvm.MethodName) prog_3_method_5_code (7 : Nat) (Option.some Jvm.ClassFile.FieldType.int)) ∈ lw_all := lw_g (lw_at lw_m0 150 rfl) rfl
theorem q160 : (Jvm.Cond.instanceMethod ({ cls := "PriorityLocksModel", name := "give", desc := "(II)I" } : Jvm.MethodName)) ∈ lw_all := lw_g (lw_at lw_m0 152 rfl) rfl
theorem q161 : (Jvm.Cond.selects "PriorityLocksModel" ({ cls := "PriorityLocksModel", name := "give", desc := "(II)I" } : Jvm.MethodName) ({ cls := "PriorityLocksModel", name := "give", desc := "(II)I" } : Jvm.MethodName)) ∈ lw_all := lw_g (lw_at lw_m0 153 rfl) rfl
theorem q162 : (Jvm.Cond.code ({ cls := "PriorityLocksModel", name := "give", desc := "(II)I" } : Jvm.MethodName) prog_3_method_7_code (4 : Nat) (Option.some Jvm.ClassFile.FieldType.int)) ∈ lw_all := lw_g (lw_at lw_m0 154 rfl) rfl
theorem q163 : (Jvm.Cond.methodLink "PriorityLocksModel" (40 : Nat) ({ cls := "PriorityLocksModel", name := "nextFor", desc := "(I)I" } : Jvm.MethodName)) ∈ lw_all := lw_g (lw_at lw_m0 155 rfl) rfl
theorem q164 : (Jvm.Cond.instanceMethod ({ cls := "PriorityLocksModel", name := "nextFor", desc := "(I)I" } : Jvm.MethodName)) ∈ lw_all := lw_g (lw_at lw_m0 156 rfl) rfl
theorem q165 : (Jvm.Cond.selects "PriorityLocksModel" ({ cls := "PriorityLocksModel", name := "nextFor", desc := "(I)I" } : Jvm.MethodName) ({ cls := "PriorityLocksModel", name := "nextFor", desc := "(I)I" } : Jvm.MethodName)) ∈ lw_all := lw_g (lw_at lw_m0 157 rfl) rfl
theorem q166 : (Jvm.Cond.code ({ cls := "PriorityLocksModel", name := "nextFor", desc := "(I)I" } : Jvm.MethodName) prog_3_method_15_code (5 : Nat) (Option.some Jvm.ClassFile.FieldType.int)) ∈ lw_all := lw_g (lw_at lw_m0 158 rfl) rfl
theorem q167 : (Jvm.Cond.methodLink "PriorityLocksModel" (43 : Nat) ({ cls := "PriorityLocksModel", name := "lend", desc := "()V" } : Jvm.MethodName)) ∈ lw_all := lw_g (lw_at lw_m0 159 rfl) rfl
theorem q168 : (Jvm.Cond.privateMethod ({ cls := "PriorityLocksModel", name := "lend", desc := "()V" } : Jvm.MethodName)) ∈ lw_tbl := lw_at lw_m0 160 rfl
theorem q169 : (Jvm.Cond.instanceMethod ({ cls := "PriorityLocksModel", name := "lend", desc := "()V" } : Jvm.MethodName)) ∈ lw_all := lw_g (lw_at lw_m0 161 rfl) rfl
theorem q170 : (Jvm.Cond.code ({ cls := "PriorityLocksModel", name := "lend", desc := "()V" } : Jvm.MethodName) prog_3_method_4_code (4 : Nat) (Option.none : Option Jvm.ClassFile.FieldType)) ∈ lw_all := lw_g (lw_at lw_m0 162 rfl) rfl
theorem q172 : (Jvm.Cond.instanceMethod ({ cls := "PriorityLocksModel", name := "giveUp", desc := "(I)Z" } : Jvm.MethodName)) ∈ lw_all := lw_g (lw_at lw_m0 164 rfl) rfl
theorem q173 : (Jvm.Cond.selects "PriorityLocksModel" ({ cls := "PriorityLocksModel", name := "giveUp", desc := "(I)Z" } : Jvm.MethodName) ({ cls := "PriorityLocksModel", name := "giveUp", desc := "(I)Z" } : Jvm.MethodName)) ∈ lw_all := lw_g (lw_at lw_m0 165 rfl) rfl
theorem q174 : (Jvm.Cond.code ({ cls := "PriorityLocksModel", name := "giveUp", desc := "(I)Z" } : Jvm.MethodName) prog_3_method_8_code (2 : Nat) (Option.some Jvm.ClassFile.FieldType.boolean)) ∈ lw_all := lw_g (lw_at lw_m0 166 rfl) rfl
theorem q176 : (Jvm.Cond.instanceMethod ({ cls := "PriorityLocksModel", name := "setBase", desc := "(II)Z" } : Jvm.MethodName)) ∈ lw_all := lw_g (lw_at lw_m0 168 rfl) rfl
theorem q177 : (Jvm.Cond.selects "PriorityLocksModel" ({ cls := "PriorityLocksModel", name := "setBase", desc := "(II)Z" } : Jvm.MethodName) ({ cls := "PriorityLocksModel", name := "setBase", desc := "(II)Z" } : Jvm.MethodName)) ∈ lw_all := lw_g (lw_at lw_m0 169 rfl) rfl
theorem q178 : (Jvm.Cond.code ({ cls := "PriorityLocksModel", name := "setBase", desc := "(II)Z" } : Jvm.MethodName) prog_3_method_9_code (3 : Nat) (Option.some Jvm.ClassFile.FieldType.boolean)) ∈ lw_all := lw_g (lw_at lw_m0 170 rfl) rfl
theorem q180 : (Jvm.Cond.instanceMethod ({ cls := "PriorityLocksModel", name := "urgency", desc := "(I)I" } : Jvm.MethodName)) ∈ lw_all := lw_g (lw_at lw_m0 172 rfl) rfl
theorem q181 : (Jvm.Cond.selects "PriorityLocksModel" ({ cls := "PriorityLocksModel", name := "urgency", desc := "(I)I" } : Jvm.MethodName) ({ cls := "PriorityLocksModel", name := "urgency", desc := "(I)I" } : Jvm.MethodName)) ∈ lw_all := lw_g (lw_at lw_m0 173 rfl) rfl
theorem q182 : (Jvm.Cond.code ({ cls := "PriorityLocksModel", name := "urgency", desc := "(I)I" } : Jvm.MethodName) prog_3_method_10_code (2 : Nat) (Option.some Jvm.ClassFile.FieldType.int)) ∈ lw_all := lw_g (lw_at lw_m0 174 rfl) rfl
theorem q184 : (Jvm.Cond.instanceMethod ({ cls := "PriorityLocksModel", name := "base", desc := "(I)I" } : Jvm.MethodName)) ∈ lw_all := lw_g (lw_at lw_m0 176 rfl) rfl
theorem q185 : (Jvm.Cond.selects "PriorityLocksModel" ({ cls := "PriorityLocksModel", name := "base", desc := "(I)I" } : Jvm.MethodName) ({ cls := "PriorityLocksModel", name := "base", desc := "(I)I" } : Jvm.MethodName)) ∈ lw_all := lw_g (lw_at lw_m0 177 rfl) rfl
theorem q186 : (Jvm.Cond.code ({ cls := "PriorityLocksModel", name := "base", desc := "(I)I" } : Jvm.MethodName) prog_3_method_11_code (2 : Nat) (Option.some Jvm.ClassFile.FieldType.int)) ∈ lw_all := lw_g (lw_at lw_m0 178 rfl) rfl
theorem q188 : (Jvm.Cond.instanceMethod ({ cls := "PriorityLocksModel", name := "holder", desc := "(I)I" } : Jvm.MethodName)) ∈ lw_all := lw_g (lw_at lw_m0 180 rfl) rfl
theorem q189 : (Jvm.Cond.selects "PriorityLocksModel" ({ cls := "PriorityLocksModel", name := "holder", desc := "(I)I" } : Jvm.MethodName) ({ cls := "PriorityLocksModel", name := "holder", desc := "(I)I" } : Jvm.MethodName)) ∈ lw_all := lw_g (lw_at lw_m0 181 rfl) rfl
theorem q190 : (Jvm.Cond.code ({ cls := "PriorityLocksModel", name := "holder", desc := "(I)I" } : Jvm.MethodName) prog_3_method_12_code (2 : Nat) (Option.some Jvm.ClassFile.FieldType.int)) ∈ lw_all := lw_g (lw_at lw_m0 182 rfl) rfl
theorem q192 : (Jvm.Cond.instanceMethod ({ cls := "PriorityLocksModel", name := "waitsFor", desc := "(I)I" } : Jvm.MethodName)) ∈ lw_all := lw_g (lw_at lw_m0 184 rfl) rfl
theorem q193 : (Jvm.Cond.selects "PriorityLocksModel" ({ cls := "PriorityLocksModel", name := "waitsFor", desc := "(I)I" } : Jvm.MethodName) ({ cls := "PriorityLocksModel", name := "waitsFor", desc := "(I)I" } : Jvm.MethodName)) ∈ lw_all := lw_g (lw_at lw_m0 185 rfl) rfl
theorem q194 : (Jvm.Cond.code ({ cls := "PriorityLocksModel", name := "waitsFor", desc := "(I)I" } : Jvm.MethodName) prog_3_method_13_code (2 : Nat) (Option.some Jvm.ClassFile.FieldType.int)) ∈ lw_all := lw_g (lw_at lw_m0 186 rfl) rfl
theorem q196 : (Jvm.Cond.instanceMethod ({ cls := "PriorityLocksModel", name := "waiting", desc := "(I)I" } : Jvm.MethodName)) ∈ lw_all := lw_g (lw_at lw_m0 188 rfl) rfl
theorem q197 : (Jvm.Cond.selects "PriorityLocksModel" ({ cls := "PriorityLocksModel", name := "waiting", desc := "(I)I" } : Jvm.MethodName) ({ cls := "PriorityLocksModel", name := "waiting", desc := "(I)I" } : Jvm.MethodName)) ∈ lw_all := lw_g (lw_at lw_m0 189 rfl) rfl
theorem q198 : (Jvm.Cond.code ({ cls := "PriorityLocksModel", name := "waiting", desc := "(I)I" } : Jvm.MethodName) prog_3_method_14_code (4 : Nat) (Option.some Jvm.ClassFile.FieldType.int)) ∈ lw_all := lw_g (lw_at lw_m0 190 rfl) rfl
theorem q201 : (Jvm.Cond.instanceMethod ({ cls := "PriorityLocksModel", name := "held", desc := "(I)I" } : Jvm.MethodName)) ∈ lw_all := lw_g (lw_at lw_m0 193 rfl) rfl
theorem q202 : (Jvm.Cond.selects "PriorityLocksModel" ({ cls := "PriorityLocksModel", name := "held", desc := "(I)I" } : Jvm.MethodName) ({ cls := "PriorityLocksModel", name := "held", desc := "(I)I" } : Jvm.MethodName)) ∈ lw_all := lw_g (lw_at lw_m0 194 rfl) rfl
theorem q203 : (Jvm.Cond.code ({ cls := "PriorityLocksModel", name := "held", desc := "(I)I" } : Jvm.MethodName) prog_3_method_16_code (4 : Nat) (Option.some Jvm.ClassFile.FieldType.int)) ∈ lw_all := lw_g (lw_at lw_m0 195 rfl) rfl
theorem q205 : (Jvm.Cond.instanceMethod ({ cls := "PriorityLocksModel", name := "running", desc := "()I" } : Jvm.MethodName)) ∈ lw_all := lw_g (lw_at lw_m0 197 rfl) rfl
theorem q206 : (Jvm.Cond.selects "PriorityLocksModel" ({ cls := "PriorityLocksModel", name := "running", desc := "()I" } : Jvm.MethodName) ({ cls := "PriorityLocksModel", name := "running", desc := "()I" } : Jvm.MethodName)) ∈ lw_all := lw_g (lw_at lw_m0 198 rfl) rfl
theorem q207 : (Jvm.Cond.code ({ cls := "PriorityLocksModel", name := "running", desc := "()I" } : Jvm.MethodName) prog_3_method_17_code (3 : Nat) (Option.some Jvm.ClassFile.FieldType.int)) ∈ lw_all := lw_g (lw_at lw_m0 199 rfl) rfl
theorem q209 : (Jvm.Cond.instanceMethod ({ cls := "PriorityLocksModel", name := "waitingOn", desc := "(I)I" } : Jvm.MethodName)) ∈ lw_all := lw_g (lw_at lw_m0 201 rfl) rfl
theorem q210 : (Jvm.Cond.selects "PriorityLocksModel" ({ cls := "PriorityLocksModel", name := "waitingOn", desc := "(I)I" } : Jvm.MethodName) ({ cls := "PriorityLocksModel", name := "waitingOn", desc := "(I)I" } : Jvm.MethodName)) ∈ lw_all := lw_g (lw_at lw_m0 202 rfl) rfl
theorem q211 : (Jvm.Cond.code ({ cls := "PriorityLocksModel", name := "waitingOn", desc := "(I)I" } : Jvm.MethodName) prog_3_method_18_code (2 : Nat) (Option.some Jvm.ClassFile.FieldType.int)) ∈ lw_all := lw_g (lw_at lw_m0 203 rfl) rfl
theorem q213 : (Jvm.Cond.instanceMethod ({ cls := "PriorityLocksModel", name := "lifted", desc := "()I" } : Jvm.MethodName)) ∈ lw_all := lw_g (lw_at lw_m0 205 rfl) rfl
theorem q214 : (Jvm.Cond.selects "PriorityLocksModel" ({ cls := "PriorityLocksModel", name := "lifted", desc := "()I" } : Jvm.MethodName) ({ cls := "PriorityLocksModel", name := "lifted", desc := "()I" } : Jvm.MethodName)) ∈ lw_all := lw_g (lw_at lw_m0 206 rfl) rfl
theorem q215 : (Jvm.Cond.code ({ cls := "PriorityLocksModel", name := "lifted", desc := "()I" } : Jvm.MethodName) prog_3_method_19_code (3 : Nat) (Option.some Jvm.ClassFile.FieldType.int)) ∈ lw_all := lw_g (lw_at lw_m0 207 rfl) rfl
theorem in_X1 : ∀ w ∈ wsX10, w ∈ lw_all := lw_in wsX10 [130, 132, 134, 136, 138, 140] (by decide +kernel) (by decide +kernel)
end
section
theorem q8 : (Jvm.Cond.initialized "PriorityLocksLaw") ∈ lw_all := lw_g (lw_at lw_m0 0 rfl) rfl
set_option maxRecDepth 100000
theorem q11 : (Jvm.Cond.classLink "PriorityLocksLaw" (7 : Nat) "PriorityLocks") ∈ lw_all := lw_g (lw_at lw_m0 3 rfl) rfl
theorem q13 : (Jvm.Cond.methodLink "PriorityLocksLaw" (9 : Nat) ({ cls := "PriorityLocks", name := "<init>", desc := "()V" } : Jvm.MethodName)) ∈ lw_all := lw_g (lw_at lw_m0 5 rfl) rfl
theorem q40 : (Jvm.Cond.methodLink "PriorityLocksLaw" (13 : Nat) ({ cls := "PriorityLocks", name := "take", desc := "(II)I" } : Jvm.MethodName)) ∈ lw_all := lw_g (lw_at lw_m0 32 rfl) rfl
theorem q62 : (Jvm.Cond.methodLink "PriorityLocksLaw" (18 : Nat) ({ cls := "PriorityLocks", name := "give", desc := "(II)I" } : Jvm.MethodName)) ∈ lw_all := lw_g (lw_at lw_m0 54 rfl) rfl
theorem q70 : (Jvm.Cond.methodLink "PriorityLocksLaw" (22 : Nat) ({ cls := "PriorityLocks", name := "giveUp", desc := "(I)Z" } : Jvm.MethodName)) ∈ lw_all := lw_g (lw_at lw_m0 62 rfl) rfl
theorem q74 : (Jvm.Cond.methodLink "PriorityLocksLaw" (27 : Nat) ({ cls := "PriorityLocks", name := "setBase", desc := "(II)Z" } : Jvm.MethodName)) ∈ lw_all := lw_g (lw_at lw_m0 66 rfl) rfl
theorem q78 : (Jvm.Cond.methodLink "PriorityLocksLaw" (32 : Nat) ({ cls := "PriorityLocks", name := "urgency", desc := "(I)I" } : Jvm.MethodName)) ∈ lw_all := lw_g (lw_at lw_m0 70 rfl) rfl
theorem q82 : (Jvm.Cond.methodLink "PriorityLocksLaw" (37 : Nat) ({ cls := "PriorityLocks", name := "base", desc := "(I)I" } : Jvm.MethodName)) ∈ lw_all := lw_g (lw_at lw_m0 74 rfl) rfl
theorem q86 : (Jvm.Cond.methodLink "PriorityLocksLaw" (41 : Nat) ({ cls := "PriorityLocks", name := "holder", desc := "(I)I" } : Jvm.MethodName)) ∈ lw_all := lw_g (lw_at lw_m0 78 rfl) rfl
theorem q90 : (Jvm.Cond.methodLink "PriorityLocksLaw" (45 : Nat) ({ cls := "PriorityLocks", name := "waitsFor", desc := "(I)I" } : Jvm.MethodName)) ∈ lw_all := lw_g (lw_at lw_m0 82 rfl) rfl
theorem q94 : (Jvm.Cond.methodLink "PriorityLocksLaw" (49 : Nat) ({ cls := "PriorityLocks", name := "waiting", desc := "(I)I" } : Jvm.MethodName)) ∈ lw_all := lw_g (lw_at lw_m0 86 rfl) rfl
theorem q98 : (Jvm.Cond.methodLink "PriorityLocksLaw" (53 : Nat) ({ cls := "PriorityLocks", name := "nextFor", desc := "(I)I" } : Jvm.MethodName)) ∈ lw_all := lw_g (lw_at lw_m0 90 rfl) rfl
theorem q102 : (Jvm.Cond.methodLink "PriorityLocksLaw" (57 : Nat) ({ cls := "PriorityLocks", name := "held", desc := "(I)I" } : Jvm.MethodName)) ∈ lw_all := lw_g (lw_at lw_m0 94 rfl) rfl
theorem q106 : (Jvm.Cond.methodLink "PriorityLocksLaw" (61 : Nat) ({ cls := "PriorityLocks", name := "running", desc := "()I" } : Jvm.MethodName)) ∈ lw_all := lw_g (lw_at lw_m0 98 rfl) rfl
theorem q110 : (Jvm.Cond.methodLink "PriorityLocksLaw" (66 : Nat) ({ cls := "PriorityLocks", name := "waitingOn", desc := "(I)I" } : Jvm.MethodName)) ∈ lw_all := lw_g (lw_at lw_m0 102 rfl) rfl
theorem q114 : (Jvm.Cond.methodLink "PriorityLocksLaw" (70 : Nat) ({ cls := "PriorityLocks", name := "lifted", desc := "()I" } : Jvm.MethodName)) ∈ lw_all := lw_g (lw_at lw_m0 106 rfl) rfl
theorem q118 : (Jvm.Cond.classLink "PriorityLocksLaw" (10 : Nat) "PriorityLocksModel") ∈ lw_all := lw_g (lw_at lw_m0 110 rfl) rfl
theorem q120 : (Jvm.Cond.methodLink "PriorityLocksLaw" (12 : Nat) ({ cls := "PriorityLocksModel", name := "<init>", desc := "()V" } : Jvm.MethodName)) ∈ lw_all := lw_g (lw_at lw_m0 112 rfl) rfl
theorem q143 : (Jvm.Cond.methodLink "PriorityLocksLaw" (17 : Nat) ({ cls := "PriorityLocksModel", name := "take", desc := "(II)I" } : Jvm.MethodName)) ∈ lw_all := lw_g (lw_at lw_m0 135 rfl) rfl
theorem q159 : (Jvm.Cond.methodLink "PriorityLocksLaw" (21 : Nat) ({ cls := "PriorityLocksModel", name := "give", desc := "(II)I" } : Jvm.MethodName)) ∈ lw_all := lw_g (lw_at lw_m0 151 rfl) rfl
theorem q171 : (Jvm.Cond.methodLink "PriorityLocksLaw" (26 : Nat) ({ cls := "PriorityLocksModel", name := "giveUp", desc := "(I)Z" } : Jvm.MethodName)) ∈ lw_all := lw_g (lw_at lw_m0 163 rfl) rfl
theorem q175 : (Jvm.Cond.methodLink "PriorityLocksLaw" (31 : Nat) ({ cls := "PriorityLocksModel", name := "setBase", desc := "(II)Z" } : Jvm.MethodName)) ∈ lw_all := lw_g (lw_at lw_m0 167 rfl) rfl
theorem q179 : (Jvm.Cond.methodLink "PriorityLocksLaw" (36 : Nat) ({ cls := "PriorityLocksModel", name := "urgency", desc := "(I)I" } : Jvm.MethodName)) ∈ lw_all := lw_g (lw_at lw_m0 171 rfl) rfl
theorem q183 : (Jvm.Cond.methodLink "PriorityLocksLaw" (40 : Nat) ({ cls := "PriorityLocksModel", name := "base", desc := "(I)I" } : Jvm.MethodName)) ∈ lw_all := lw_g (lw_at lw_m0 175 rfl) rfl
theorem q187 : (Jvm.Cond.methodLink "PriorityLocksLaw" (44 : Nat) ({ cls := "PriorityLocksModel", name := "holder", desc := "(I)I" } : Jvm.MethodName)) ∈ lw_all := lw_g (lw_at lw_m0 179 rfl) rfl
theorem q191 : (Jvm.Cond.methodLink "PriorityLocksLaw" (48 : Nat) ({ cls := "PriorityLocksModel", name := "waitsFor", desc := "(I)I" } : Jvm.MethodName)) ∈ lw_all := lw_g (lw_at lw_m0 183 rfl) rfl
theorem q195 : (Jvm.Cond.methodLink "PriorityLocksLaw" (52 : Nat) ({ cls := "PriorityLocksModel", name := "waiting", desc := "(I)I" } : Jvm.MethodName)) ∈ lw_all := lw_g (lw_at lw_m0 187 rfl) rfl
theorem q199 : (Jvm.Cond.methodLink "PriorityLocksLaw" (56 : Nat) ({ cls := "PriorityLocksModel", name := "nextFor", desc := "(I)I" } : Jvm.MethodName)) ∈ lw_all := lw_g (lw_at lw_m0 191 rfl) rfl
theorem q200 : (Jvm.Cond.methodLink "PriorityLocksLaw" (60 : Nat) ({ cls := "PriorityLocksModel", name := "held", desc := "(I)I" } : Jvm.MethodName)) ∈ lw_all := lw_g (lw_at lw_m0 192 rfl) rfl
theorem q204 : (Jvm.Cond.methodLink "PriorityLocksLaw" (65 : Nat) ({ cls := "PriorityLocksModel", name := "running", desc := "()I" } : Jvm.MethodName)) ∈ lw_all := lw_g (lw_at lw_m0 196 rfl) rfl
theorem q208 : (Jvm.Cond.methodLink "PriorityLocksLaw" (69 : Nat) ({ cls := "PriorityLocksModel", name := "waitingOn", desc := "(I)I" } : Jvm.MethodName)) ∈ lw_all := lw_g (lw_at lw_m0 200 rfl) rfl
theorem q212 : (Jvm.Cond.methodLink "PriorityLocksLaw" (73 : Nat) ({ cls := "PriorityLocksModel", name := "lifted", desc := "()I" } : Jvm.MethodName)) ∈ lw_all := lw_g (lw_at lw_m0 204 rfl) rfl
/-! the law's own entry -/
set_option maxRecDepth 100000
abbrev cL_law : ByteArray := code
theorem dL_law_0 : decode cL_law 0 = .ok (.new 7, 3) := by decide +kernel
theorem dL_law_3 : decode cL_law 3 = .ok (.dup, 1) := by decide +kernel
theorem dL_law_4 : decode cL_law 4 = .ok (.invokespecial 9, 3) := by decide +kernel
theorem dL_law_7 : decode cL_law 7 = .ok (.astore_n 1, 1) := by decide +kernel
theorem dL_law_8 : decode cL_law 8 = .ok (.new 10, 3) := by decide +kernel
theorem dL_law_11 : decode cL_law 11 = .ok (.dup, 1) := by decide +kernel
theorem dL_law_12 : decode cL_law 12 = .ok (.invokespecial 12, 3) := by decide +kernel
theorem dL_law_15 : decode cL_law 15 = .ok (.astore_n 2, 1) := by decide +kernel
theorem dL_law_16 : decode cL_law 16 = .ok (.iconst 0, 1) := by decide +kernel
theorem dL_law_17 : decode cL_law 17 = .ok (.istore_n 3, 1) := by decide +kernel
theorem dL_law_18 : decode cL_law 18 = .ok (.iload_n 3, 1) := by decide +kernel
theorem dL_law_19 : decode cL_law 19 = .ok (.aload_n 0, 1) := by decide +kernel
theorem dL_law_20 : decode cL_law 20 = .ok (.arraylength, 1) := by decide +kernel
theorem dL_law_21 : decode cL_law 21 = .ok (.iconst 3, 1) := by decide +kernel
theorem dL_law_22 : decode cL_law 22 = .ok (.isub, 1) := by decide +kernel
theorem dL_law_23 : decode cL_law 23 = .ok (.if_icmp .gt 419, 3) := by decide +kernel
theorem dL_law_26 : decode cL_law 26 = .ok (.aload_n 0, 1) := by decide +kernel
theorem dL_law_27 : decode cL_law 27 = .ok (.iload_n 3, 1) := by decide +kernel
theorem dL_law_28 : decode cL_law 28 = .ok (.iaload, 1) := by decide +kernel
theorem dL_law_29 : decode cL_law 29 = .ok (.bipush 15, 2) := by decide +kernel
theorem dL_law_31 : decode cL_law 31 = .ok (.iand, 1) := by decide +kernel
theorem dL_law_32 : decode cL_law 32 = .ok (.tableswitch 404 0 13 #[72, 105, 138, 161, 194, 217, 240, 263, 286, 309, 332, 355, 368, 391], 72) := by decide +kernel
theorem dL_law_104 : decode cL_law 104 = .ok (.aload_n 1, 1) := by decide +kernel
theorem dL_law_105 : decode cL_law 105 = .ok (.aload_n 0, 1) := by decide +kernel
theorem dL_law_106 : decode cL_law 106 = .ok (.iload_n 3, 1) := by decide +kernel
theorem dL_law_107 : decode cL_law 107 = .ok (.iconst 1, 1) := by decide +kernel
theorem dL_law_108 : decode cL_law 108 = .ok (.iadd, 1) := by decide +kernel
theorem dL_law_109 : decode cL_law 109 = .ok (.iaload, 1) := by decide +kernel
theorem dL_law_110 : decode cL_law 110 = .ok (.aload_n 0, 1) := by decide +kernel
theorem dL_law_111 : decode cL_law 111 = .ok (.iload_n 3, 1) := by decide +kernel
theorem dL_law_112 : decode cL_law 112 = .ok (.iconst 2, 1) := by decide +kernel
theorem dL_law_113 : decode cL_law 113 = .ok (.iadd, 1) := by decide +kernel
theorem dL_law_114 : decode cL_law 114 = .ok (.iaload, 1) := by decide +kernel
theorem dL_law_115 : decode cL_law 115 = .ok (.invokevirtual 13, 3) := by decide +kernel
theorem dL_law_118 : decode cL_law 118 = .ok (.aload_n 2, 1) := by decide +kernel
theorem dL_law_119 : decode cL_law 119 = .ok (.aload_n 0, 1) := by decide +kernel
theorem dL_law_120 : decode cL_law 120 = .ok (.iload_n 3, 1) := by decide +kernel
theorem dL_law_121 : decode cL_law 121 = .ok (.iconst 1, 1) := by decide +kernel
theorem dL_law_122 : decode cL_law 122 = .ok (.iadd, 1) := by decide +kernel
theorem dL_law_123 : decode cL_law 123 = .ok (.iaload, 1) := by decide +kernel
theorem dL_law_124 : decode cL_law 124 = .ok (.aload_n 0, 1) := by decide +kernel
theorem dL_law_125 : decode cL_law 125 = .ok (.iload_n 3, 1) := by decide +kernel
theorem dL_law_126 : decode cL_law 126 = .ok (.iconst 2, 1) := by decide +kernel
theorem dL_law_127 : decode cL_law 127 = .ok (.iadd, 1) := by decide +kernel
theorem dL_law_128 : decode cL_law 128 = .ok (.iaload, 1) := by decide +kernel
theorem dL_law_129 : decode cL_law 129 = .ok (.invokevirtual 17, 3) := by decide +kernel
theorem dL_law_132 : decode cL_law 132 = .ok (.if_icmp .eq 304, 3) := by decide +kernel
theorem dL_law_135 : decode cL_law 135 = .ok (.iconst 0, 1) := by decide +kernel
theorem dL_law_136 : decode cL_law 136 = .ok (.ireturn, 1) := by decide +kernel
theorem dL_law_137 : decode cL_law 137 = .ok (.aload_n 1, 1) := by decide +kernel
theorem dL_law_138 : decode cL_law 138 = .ok (.aload_n 0, 1) := by decide +kernel
theorem dL_law_139 : decode cL_law 139 = .ok (.iload_n 3, 1) := by decide +kernel
theorem dL_law_140 : decode cL_law 140 = .ok (.iconst 1, 1) := by decide +kernel
theorem dL_law_141 : decode cL_law 141 = .ok (.iadd, 1) := by decide +kernel
theorem dL_law_142 : decode cL_law 142 = .ok (.iaload, 1) := by decide +kernel
theorem dL_law_143 : decode cL_law 143 = .ok (.aload_n 0, 1) := by decide +kernel
theorem dL_law_144 : decode cL_law 144 = .ok (.iload_n 3, 1) := by decide +kernel
theorem dL_law_145 : decode cL_law 145 = .ok (.iconst 2, 1) := by decide +kernel
theorem dL_law_146 : decode cL_law 146 = .ok (.iadd, 1) := by decide +kernel
theorem dL_law_147 : decode cL_law 147 = .ok (.iaload, 1) := by decide +kernel
theorem dL_law_148 : decode cL_law 148 = .ok (.invokevirtual 18, 3) := by decide +kernel
theorem dL_law_151 : decode cL_law 151 = .ok (.aload_n 2, 1) := by decide +kernel
theorem dL_law_152 : decode cL_law 152 = .ok (.aload_n 0, 1) := by decide +kernel
theorem dL_law_153 : decode cL_law 153 = .ok (.iload_n 3, 1) := by decide +kernel
theorem dL_law_154 : decode cL_law 154 = .ok (.iconst 1, 1) := by decide +kernel
theorem dL_law_155 : decode cL_law 155 = .ok (.iadd, 1) := by decide +kernel
theorem dL_law_156 : decode cL_law 156 = .ok (.iaload, 1) := by decide +kernel
theorem dL_law_157 : decode cL_law 157 = .ok (.aload_n 0, 1) := by decide +kernel
theorem dL_law_158 : decode cL_law 158 = .ok (.iload_n 3, 1) := by decide +kernel
theorem dL_law_159 : decode cL_law 159 = .ok (.iconst 2, 1) := by decide +kernel
theorem dL_law_160 : decode cL_law 160 = .ok (.iadd, 1) := by decide +kernel
theorem dL_law_161 : decode cL_law 161 = .ok (.iaload, 1) := by decide +kernel
theorem dL_law_162 : decode cL_law 162 = .ok (.invokevirtual 21, 3) := by decide +kernel
theorem dL_law_165 : decode cL_law 165 = .ok (.if_icmp .eq 271, 3) := by decide +kernel
theorem dL_law_168 : decode cL_law 168 = .ok (.iconst 0, 1) := by decide +kernel
theorem dL_law_169 : decode cL_law 169 = .ok (.ireturn, 1) := by decide +kernel
theorem dL_law_170 : decode cL_law 170 = .ok (.aload_n 1, 1) := by decide +kernel
theorem dL_law_171 : decode cL_law 171 = .ok (.aload_n 0, 1) := by decide +kernel
theorem dL_law_172 : decode cL_law 172 = .ok (.iload_n 3, 1) := by decide +kernel
theorem dL_law_173 : decode cL_law 173 = .ok (.iconst 1, 1) := by decide +kernel
theorem dL_law_174 : decode cL_law 174 = .ok (.iadd, 1) := by decide +kernel
theorem dL_law_175 : decode cL_law 175 = .ok (.iaload, 1) := by decide +kernel
theorem dL_law_176 : decode cL_law 176 = .ok (.invokevirtual 22, 3) := by decide +kernel
theorem dL_law_179 : decode cL_law 179 = .ok (.aload_n 2, 1) := by decide +kernel
theorem dL_law_180 : decode cL_law 180 = .ok (.aload_n 0, 1) := by decide +kernel
theorem dL_law_181 : decode cL_law 181 = .ok (.iload_n 3, 1) := by decide +kernel
theorem dL_law_182 : decode cL_law 182 = .ok (.iconst 1, 1) := by decide +kernel
theorem dL_law_183 : decode cL_law 183 = .ok (.iadd, 1) := by decide +kernel
theorem dL_law_184 : decode cL_law 184 = .ok (.iaload, 1) := by decide +kernel
theorem dL_law_185 : decode cL_law 185 = .ok (.invokevirtual 26, 3) := by decide +kernel
theorem dL_law_188 : decode cL_law 188 = .ok (.if_icmp .eq 248, 3) := by decide +kernel
theorem dL_law_191 : decode cL_law 191 = .ok (.iconst 0, 1) := by decide +kernel
theorem dL_law_192 : decode cL_law 192 = .ok (.ireturn, 1) := by decide +kernel
theorem dL_law_193 : decode cL_law 193 = .ok (.aload_n 1, 1) := by decide +kernel
theorem dL_law_194 : decode cL_law 194 = .ok (.aload_n 0, 1) := by decide +kernel
theorem dL_law_195 : decode cL_law 195 = .ok (.iload_n 3, 1) := by decide +kernel
theorem dL_law_196 : decode cL_law 196 = .ok (.iconst 1, 1) := by decide +kernel
theorem dL_law_197 : decode cL_law 197 = .ok (.iadd, 1) := by decide +kernel
theorem dL_law_198 : decode cL_law 198 = .ok (.iaload, 1) := by decide +kernel
theorem dL_law_199 : decode cL_law 199 = .ok (.aload_n 0, 1) := by decide +kernel
theorem dL_law_200 : decode cL_law 200 = .ok (.iload_n 3, 1) := by decide +kernel
theorem dL_law_201 : decode cL_law 201 = .ok (.iconst 2, 1) := by decide +kernel
theorem dL_law_202 : decode cL_law 202 = .ok (.iadd, 1) := by decide +kernel
theorem dL_law_203 : decode cL_law 203 = .ok (.iaload, 1) := by decide +kernel
theorem dL_law_204 : decode cL_law 204 = .ok (.invokevirtual 27, 3) := by decide +kernel
theorem dL_law_207 : decode cL_law 207 = .ok (.aload_n 2, 1) := by decide +kernel
theorem dL_law_208 : decode cL_law 208 = .ok (.aload_n 0, 1) := by decide +kernel
theorem dL_law_209 : decode cL_law 209 = .ok (.iload_n 3, 1) := by decide +kernel
theorem dL_law_210 : decode cL_law 210 = .ok (.iconst 1, 1) := by decide +kernel
theorem dL_law_211 : decode cL_law 211 = .ok (.iadd, 1) := by decide +kernel
theorem dL_law_212 : decode cL_law 212 = .ok (.iaload, 1) := by decide +kernel
theorem dL_law_213 : decode cL_law 213 = .ok (.aload_n 0, 1) := by decide +kernel
theorem dL_law_214 : decode cL_law 214 = .ok (.iload_n 3, 1) := by decide +kernel
theorem dL_law_215 : decode cL_law 215 = .ok (.iconst 2, 1) := by decide +kernel
theorem dL_law_216 : decode cL_law 216 = .ok (.iadd, 1) := by decide +kernel
theorem dL_law_217 : decode cL_law 217 = .ok (.iaload, 1) := by decide +kernel
theorem dL_law_218 : decode cL_law 218 = .ok (.invokevirtual 31, 3) := by decide +kernel
theorem dL_law_221 : decode cL_law 221 = .ok (.if_icmp .eq 215, 3) := by decide +kernel
theorem dL_law_224 : decode cL_law 224 = .ok (.iconst 0, 1) := by decide +kernel
theorem dL_law_225 : decode cL_law 225 = .ok (.ireturn, 1) := by decide +kernel
theorem dL_law_226 : decode cL_law 226 = .ok (.aload_n 1, 1) := by decide +kernel
theorem dL_law_227 : decode cL_law 227 = .ok (.aload_n 0, 1) := by decide +kernel
theorem dL_law_228 : decode cL_law 228 = .ok (.iload_n 3, 1) := by decide +kernel
theorem dL_law_229 : decode cL_law 229 = .ok (.iconst 1, 1) := by decide +kernel
theorem dL_law_230 : decode cL_law 230 = .ok (.iadd, 1) := by decide +kernel
theorem dL_law_231 : decode cL_law 231 = .ok (.iaload, 1) := by decide +kernel
theorem dL_law_232 : decode cL_law 232 = .ok (.invokevirtual 32, 3) := by decide +kernel
theorem dL_law_235 : decode cL_law 235 = .ok (.aload_n 2, 1) := by decide +kernel
theorem dL_law_236 : decode cL_law 236 = .ok (.aload_n 0, 1) := by decide +kernel
theorem dL_law_237 : decode cL_law 237 = .ok (.iload_n 3, 1) := by decide +kernel
theorem dL_law_238 : decode cL_law 238 = .ok (.iconst 1, 1) := by decide +kernel
theorem dL_law_239 : decode cL_law 239 = .ok (.iadd, 1) := by decide +kernel
theorem dL_law_240 : decode cL_law 240 = .ok (.iaload, 1) := by decide +kernel
theorem dL_law_241 : decode cL_law 241 = .ok (.invokevirtual 36, 3) := by decide +kernel
theorem dL_law_244 : decode cL_law 244 = .ok (.if_icmp .eq 192, 3) := by decide +kernel
theorem dL_law_247 : decode cL_law 247 = .ok (.iconst 0, 1) := by decide +kernel
theorem dL_law_248 : decode cL_law 248 = .ok (.ireturn, 1) := by decide +kernel
theorem dL_law_249 : decode cL_law 249 = .ok (.aload_n 1, 1) := by decide +kernel
theorem dL_law_250 : decode cL_law 250 = .ok (.aload_n 0, 1) := by decide +kernel
theorem dL_law_251 : decode cL_law 251 = .ok (.iload_n 3, 1) := by decide +kernel
theorem dL_law_252 : decode cL_law 252 = .ok (.iconst 1, 1) := by decide +kernel
theorem dL_law_253 : decode cL_law 253 = .ok (.iadd, 1) := by decide +kernel
theorem dL_law_254 : decode cL_law 254 = .ok (.iaload, 1) := by decide +kernel
theorem dL_law_255 : decode cL_law 255 = .ok (.invokevirtual 37, 3) := by decide +kernel
theorem dL_law_258 : decode cL_law 258 = .ok (.aload_n 2, 1) := by decide +kernel
theorem dL_law_259 : decode cL_law 259 = .ok (.aload_n 0, 1) := by decide +kernel
theorem dL_law_260 : decode cL_law 260 = .ok (.iload_n 3, 1) := by decide +kernel
theorem dL_law_261 : decode cL_law 261 = .ok (.iconst 1, 1) := by decide +kernel
theorem dL_law_262 : decode cL_law 262 = .ok (.iadd, 1) := by decide +kernel
theorem dL_law_263 : decode cL_law 263 = .ok (.iaload, 1) := by decide +kernel
theorem dL_law_264 : decode cL_law 264 = .ok (.invokevirtual 40, 3) := by decide +kernel
theorem dL_law_267 : decode cL_law 267 = .ok (.if_icmp .eq 169, 3) := by decide +kernel
theorem dL_law_270 : decode cL_law 270 = .ok (.iconst 0, 1) := by decide +kernel
theorem dL_law_271 : decode cL_law 271 = .ok (.ireturn, 1) := by decide +kernel
theorem dL_law_272 : decode cL_law 272 = .ok (.aload_n 1, 1) := by decide +kernel
theorem dL_law_273 : decode cL_law 273 = .ok (.aload_n 0, 1) := by decide +kernel
theorem dL_law_274 : decode cL_law 274 = .ok (.iload_n 3, 1) := by decide +kernel
theorem dL_law_275 : decode cL_law 275 = .ok (.iconst 1, 1) := by decide +kernel
theorem dL_law_276 : decode cL_law 276 = .ok (.iadd, 1) := by decide +kernel
theorem dL_law_277 : decode cL_law 277 = .ok (.iaload, 1) := by decide +kernel
theorem dL_law_278 : decode cL_law 278 = .ok (.invokevirtual 41, 3) := by decide +kernel
theorem dL_law_281 : decode cL_law 281 = .ok (.aload_n 2, 1) := by decide +kernel
theorem dL_law_282 : decode cL_law 282 = .ok (.aload_n 0, 1) := by decide +kernel
theorem dL_law_283 : decode cL_law 283 = .ok (.iload_n 3, 1) := by decide +kernel
theorem dL_law_284 : decode cL_law 284 = .ok (.iconst 1, 1) := by decide +kernel
theorem dL_law_285 : decode cL_law 285 = .ok (.iadd, 1) := by decide +kernel
theorem dL_law_286 : decode cL_law 286 = .ok (.iaload, 1) := by decide +kernel
theorem dL_law_287 : decode cL_law 287 = .ok (.invokevirtual 44, 3) := by decide +kernel
theorem dL_law_290 : decode cL_law 290 = .ok (.if_icmp .eq 146, 3) := by decide +kernel
theorem dL_law_293 : decode cL_law 293 = .ok (.iconst 0, 1) := by decide +kernel
theorem dL_law_294 : decode cL_law 294 = .ok (.ireturn, 1) := by decide +kernel
theorem dL_law_295 : decode cL_law 295 = .ok (.aload_n 1, 1) := by decide +kernel
theorem dL_law_296 : decode cL_law 296 = .ok (.aload_n 0, 1) := by decide +kernel
theorem dL_law_297 : decode cL_law 297 = .ok (.iload_n 3, 1) := by decide +kernel
theorem dL_law_298 : decode cL_law 298 = .ok (.iconst 1, 1) := by decide +kernel
theorem dL_law_299 : decode cL_law 299 = .ok (.iadd, 1) := by decide +kernel
theorem dL_law_300 : decode cL_law 300 = .ok (.iaload, 1) := by decide +kernel
theorem dL_law_301 : decode cL_law 301 = .ok (.invokevirtual 45, 3) := by decide +kernel
theorem dL_law_304 : decode cL_law 304 = .ok (.aload_n 2, 1) := by decide +kernel
theorem dL_law_305 : decode cL_law 305 = .ok (.aload_n 0, 1) := by decide +kernel
theorem dL_law_306 : decode cL_law 306 = .ok (.iload_n 3, 1) := by decide +kernel
theorem dL_law_307 : decode cL_law 307 = .ok (.iconst 1, 1) := by decide +kernel
theorem dL_law_308 : decode cL_law 308 = .ok (.iadd, 1) := by decide +kernel
theorem dL_law_309 : decode cL_law 309 = .ok (.iaload, 1) := by decide +kernel
theorem dL_law_310 : decode cL_law 310 = .ok (.invokevirtual 48, 3) := by decide +kernel
theorem dL_law_313 : decode cL_law 313 = .ok (.if_icmp .eq 123, 3) := by decide +kernel
theorem dL_law_316 : decode cL_law 316 = .ok (.iconst 0, 1) := by decide +kernel
theorem dL_law_317 : decode cL_law 317 = .ok (.ireturn, 1) := by decide +kernel
theorem dL_law_318 : decode cL_law 318 = .ok (.aload_n 1, 1) := by decide +kernel
theorem dL_law_319 : decode cL_law 319 = .ok (.aload_n 0, 1) := by decide +kernel
theorem dL_law_320 : decode cL_law 320 = .ok (.iload_n 3, 1) := by decide +kernel
theorem dL_law_321 : decode cL_law 321 = .ok (.iconst 1, 1) := by decide +kernel
theorem dL_law_322 : decode cL_law 322 = .ok (.iadd, 1) := by decide +kernel
theorem dL_law_323 : decode cL_law 323 = .ok (.iaload, 1) := by decide +kernel
theorem dL_law_324 : decode cL_law 324 = .ok (.invokevirtual 49, 3) := by decide +kernel
theorem dL_law_327 : decode cL_law 327 = .ok (.aload_n 2, 1) := by decide +kernel
theorem dL_law_328 : decode cL_law 328 = .ok (.aload_n 0, 1) := by decide +kernel
theorem dL_law_329 : decode cL_law 329 = .ok (.iload_n 3, 1) := by decide +kernel
theorem dL_law_330 : decode cL_law 330 = .ok (.iconst 1, 1) := by decide +kernel
theorem dL_law_331 : decode cL_law 331 = .ok (.iadd, 1) := by decide +kernel
theorem dL_law_332 : decode cL_law 332 = .ok (.iaload, 1) := by decide +kernel
theorem dL_law_333 : decode cL_law 333 = .ok (.invokevirtual 52, 3) := by decide +kernel
theorem dL_law_336 : decode cL_law 336 = .ok (.if_icmp .eq 100, 3) := by decide +kernel
theorem dL_law_339 : decode cL_law 339 = .ok (.iconst 0, 1) := by decide +kernel
theorem dL_law_340 : decode cL_law 340 = .ok (.ireturn, 1) := by decide +kernel
theorem dL_law_341 : decode cL_law 341 = .ok (.aload_n 1, 1) := by decide +kernel
theorem dL_law_342 : decode cL_law 342 = .ok (.aload_n 0, 1) := by decide +kernel
theorem dL_law_343 : decode cL_law 343 = .ok (.iload_n 3, 1) := by decide +kernel
theorem dL_law_344 : decode cL_law 344 = .ok (.iconst 1, 1) := by decide +kernel
theorem dL_law_345 : decode cL_law 345 = .ok (.iadd, 1) := by decide +kernel
theorem dL_law_346 : decode cL_law 346 = .ok (.iaload, 1) := by decide +kernel
theorem dL_law_347 : decode cL_law 347 = .ok (.invokevirtual 53, 3) := by decide +kernel
theorem dL_law_350 : decode cL_law 350 = .ok (.aload_n 2, 1) := by decide +kernel
theorem dL_law_351 : decode cL_law 351 = .ok (.aload_n 0, 1) := by decide +kernel
theorem dL_law_352 : decode cL_law 352 = .ok (.iload_n 3, 1) := by decide +kernel
theorem dL_law_353 : decode cL_law 353 = .ok (.iconst 1, 1) := by decide +kernel
theorem dL_law_354 : decode cL_law 354 = .ok (.iadd, 1) := by decide +kernel
theorem dL_law_355 : decode cL_law 355 = .ok (.iaload, 1) := by decide +kernel
theorem dL_law_356 : decode cL_law 356 = .ok (.invokevirtual 56, 3) := by decide +kernel
theorem dL_law_359 : decode cL_law 359 = .ok (.if_icmp .eq 77, 3) := by decide +kernel
theorem dL_law_362 : decode cL_law 362 = .ok (.iconst 0, 1) := by decide +kernel
theorem dL_law_363 : decode cL_law 363 = .ok (.ireturn, 1) := by decide +kernel
theorem dL_law_364 : decode cL_law 364 = .ok (.aload_n 1, 1) := by decide +kernel
theorem dL_law_365 : decode cL_law 365 = .ok (.aload_n 0, 1) := by decide +kernel
theorem dL_law_366 : decode cL_law 366 = .ok (.iload_n 3, 1) := by decide +kernel
theorem dL_law_367 : decode cL_law 367 = .ok (.iconst 1, 1) := by decide +kernel
theorem dL_law_368 : decode cL_law 368 = .ok (.iadd, 1) := by decide +kernel
theorem dL_law_369 : decode cL_law 369 = .ok (.iaload, 1) := by decide +kernel
theorem dL_law_370 : decode cL_law 370 = .ok (.invokevirtual 57, 3) := by decide +kernel
theorem dL_law_373 : decode cL_law 373 = .ok (.aload_n 2, 1) := by decide +kernel
theorem dL_law_374 : decode cL_law 374 = .ok (.aload_n 0, 1) := by decide +kernel
theorem dL_law_375 : decode cL_law 375 = .ok (.iload_n 3, 1) := by decide +kernel
theorem dL_law_376 : decode cL_law 376 = .ok (.iconst 1, 1) := by decide +kernel
theorem dL_law_377 : decode cL_law 377 = .ok (.iadd, 1) := by decide +kernel
theorem dL_law_378 : decode cL_law 378 = .ok (.iaload, 1) := by decide +kernel
theorem dL_law_379 : decode cL_law 379 = .ok (.invokevirtual 60, 3) := by decide +kernel
theorem dL_law_382 : decode cL_law 382 = .ok (.if_icmp .eq 54, 3) := by decide +kernel
theorem dL_law_385 : decode cL_law 385 = .ok (.iconst 0, 1) := by decide +kernel
theorem dL_law_386 : decode cL_law 386 = .ok (.ireturn, 1) := by decide +kernel
theorem dL_law_387 : decode cL_law 387 = .ok (.aload_n 1, 1) := by decide +kernel
theorem dL_law_388 : decode cL_law 388 = .ok (.invokevirtual 61, 3) := by decide +kernel
theorem dL_law_391 : decode cL_law 391 = .ok (.aload_n 2, 1) := by decide +kernel
theorem dL_law_392 : decode cL_law 392 = .ok (.invokevirtual 65, 3) := by decide +kernel
theorem dL_law_395 : decode cL_law 395 = .ok (.if_icmp .eq 41, 3) := by decide +kernel
theorem dL_law_398 : decode cL_law 398 = .ok (.iconst 0, 1) := by decide +kernel
theorem dL_law_399 : decode cL_law 399 = .ok (.ireturn, 1) := by decide +kernel
theorem dL_law_400 : decode cL_law 400 = .ok (.aload_n 1, 1) := by decide +kernel
theorem dL_law_401 : decode cL_law 401 = .ok (.aload_n 0, 1) := by decide +kernel
theorem dL_law_402 : decode cL_law 402 = .ok (.iload_n 3, 1) := by decide +kernel
theorem dL_law_403 : decode cL_law 403 = .ok (.iconst 1, 1) := by decide +kernel
theorem dL_law_404 : decode cL_law 404 = .ok (.iadd, 1) := by decide +kernel
theorem dL_law_405 : decode cL_law 405 = .ok (.iaload, 1) := by decide +kernel
theorem dL_law_406 : decode cL_law 406 = .ok (.invokevirtual 66, 3) := by decide +kernel
theorem dL_law_409 : decode cL_law 409 = .ok (.aload_n 2, 1) := by decide +kernel
theorem dL_law_410 : decode cL_law 410 = .ok (.aload_n 0, 1) := by decide +kernel
theorem dL_law_411 : decode cL_law 411 = .ok (.iload_n 3, 1) := by decide +kernel
theorem dL_law_412 : decode cL_law 412 = .ok (.iconst 1, 1) := by decide +kernel
theorem dL_law_413 : decode cL_law 413 = .ok (.iadd, 1) := by decide +kernel
theorem dL_law_414 : decode cL_law 414 = .ok (.iaload, 1) := by decide +kernel
theorem dL_law_415 : decode cL_law 415 = .ok (.invokevirtual 69, 3) := by decide +kernel
theorem dL_law_418 : decode cL_law 418 = .ok (.if_icmp .eq 18, 3) := by decide +kernel
theorem dL_law_421 : decode cL_law 421 = .ok (.iconst 0, 1) := by decide +kernel
theorem dL_law_422 : decode cL_law 422 = .ok (.ireturn, 1) := by decide +kernel
theorem dL_law_423 : decode cL_law 423 = .ok (.aload_n 1, 1) := by decide +kernel
theorem dL_law_424 : decode cL_law 424 = .ok (.invokevirtual 70, 3) := by decide +kernel
theorem dL_law_427 : decode cL_law 427 = .ok (.aload_n 2, 1) := by decide +kernel
theorem dL_law_428 : decode cL_law 428 = .ok (.invokevirtual 73, 3) := by decide +kernel
theorem dL_law_431 : decode cL_law 431 = .ok (.if_icmp .eq 5, 3) := by decide +kernel
theorem dL_law_434 : decode cL_law 434 = .ok (.iconst 0, 1) := by decide +kernel
theorem dL_law_435 : decode cL_law 435 = .ok (.ireturn, 1) := by decide +kernel
theorem dL_law_436 : decode cL_law 436 = .ok (.iinc 3 3, 3) := by decide +kernel
theorem dL_law_439 : decode cL_law 439 = .ok (.goto (-421), 3) := by decide +kernel
theorem dL_law_442 : decode cL_law 442 = .ok (.iconst 1, 1) := by decide +kernel
theorem dL_law_443 : decode cL_law 443 = .ok (.ireturn, 1) := by decide +kernel
end
section
/-! 05: ints as iI of an integer; arrays as aF of a function; one row an instruction over them -/
def iI (a : Int) : Int32 := Int32.ofInt a
theorem iI_toInt {a : Int} (h : -2147483648 ≤ a ∧ a < 2147483648) : (iI a).toInt = a := Int32.toInt_ofInt_of_le (by omega) (by omega)
theorem iI_lt {a b : Int} (ha : -2147483648 ≤ a ∧ a < 2147483648) (hb : -2147483648 ≤ b ∧ b < 2147483648) : iI a < iI b ↔ a < b := by
  rw [Int32.lt_iff_toInt_lt, iI_toInt ha, iI_toInt hb]
theorem iI_le {a b : Int} (ha : -2147483648 ≤ a ∧ a < 2147483648) (hb : -2147483648 ≤ b ∧ b < 2147483648) : iI a ≤ iI b ↔ a ≤ b := by
  rw [Int32.le_iff_toInt_le, iI_toInt ha, iI_toInt hb]
theorem iI_eq {a b : Int} (ha : -2147483648 ≤ a ∧ a < 2147483648) (hb : -2147483648 ≤ b ∧ b < 2147483648) : iI a = iI b ↔ a = b := by
  rw [← Int32.toInt_inj, iI_toInt ha, iI_toInt hb]
theorem iI_add (a b : Int) : iI a + iI b = iI (a + b) := (Int32.ofInt_add a b).symm
theorem iI_sub (a b : Int) : iI a - iI b = iI (a - b) := (Int32.ofInt_sub a b).symm
theorem iI_z : (0 : Int32) = iI 0 := by decide +kernel
theorem iI_o : (1 : Int32) = iI 1 := by decide +kernel
theorem iI_cl {a : Int} (h : 0 ≤ a ∧ a < 2147483648) : (iI a).toNatClampNeg = a.toNat := by
  unfold Int32.toNatClampNeg
  rw [iI_toInt (by omega)]
theorem iI_in {a : Int} {n : Nat} (h : 0 ≤ a ∧ a < (n : Int)) (hn : n < 2147483648) : vp_in (iI a) n := by
  rw [vp_in_iff, iI_toInt (by omega)]
  exact h
theorem iI_b8 {a : Int} (h : -128 ≤ a ∧ a < 128) : (iI a).toInt8.toInt32 = iI a := by
  unfold iI
  have h1 : Int8.minValue.toInt = -128 := by decide +kernel
  have h2 : Int8.maxValue.toInt = 127 := by decide +kernel
  rw [Int32.toInt8_ofInt, Int8.toInt32_ofInt (by omega) (by omega)]
theorem iI_nb {a : Int} (h : -128 ≤ a ∧ a < 128) : vp_nar .byte (iI a) = iI a := by
  rw [vp_nar_byte]
  exact iI_b8 h
theorem iI_of (x : Int32) : x = iI x.toInt := (Int32.ofInt_toInt x).symm
theorem iI_rg (x : Int32) : -2147483648 ≤ x.toInt ∧ x.toInt < 2147483648 := by
  have h1 := Int32.le_toInt x
  have h2 := Int32.toInt_lt x
  omega
def aF (f : Int → Int) : Nat → Int32 := fun j => iI (f (j : Int))
def iu (f : Int → Int) (k v : Int) : Int → Int := fun j => if j = k then v else f j
theorem iu_s {f : Int → Int} {k v : Int} : iu f k v k = v := if_pos rfl
theorem iu_n {f : Int → Int} {k v j : Int} (h : j ≠ k) : iu f k v j = f j := if_neg h
theorem aF_at {f : Int → Int} {a : Int} (h : 0 ≤ a ∧ a < 2147483648) : aF f (iI a).toNatClampNeg = iI (f a) := by
  rw [iI_cl h]
  unfold aF
  rw [Int.toNat_of_nonneg h.1]
theorem aF_up {f : Int → Int} {a v : Int} (h : 0 ≤ a ∧ a < 2147483648) : upd (aF f) (iI a).toNatClampNeg (iI v) = aF (iu f a v) := by
  rw [iI_cl h]
  funext j
  unfold upd aF iu
  by_cases hj : j = a.toNat
  · rw [if_pos hj, if_pos (by omega)]
  · rw [if_neg hj, if_neg (by omega)]
-- masks of six bits
def mk6 (B : Int → Bool) : Int32 := (if B 0 then 1 else 0) ||| (if B 1 then 2 else 0) ||| (if B 2 then 4 else 0) ||| (if B 3 then 8 else 0) ||| (if B 4 then 16 else 0) ||| (if B 5 then 32 else 0)
def bu (B : Int → Bool) (s : Int) : Int → Bool := fun j => j == s || B j
def b0 : Int → Bool := fun _ => false
def bI (s : Int) : Int32 := iI 1 <<< (iI s &&& 31)
theorem mk6_0 : iI 0 = mk6 b0 := by decide +kernel
theorem mk6_or {B : Int → Bool} {s : Int} (h : 0 ≤ s ∧ s < 6) : mk6 B ||| bI s = mk6 (bu B s) := by
  have hs : s = 0 ∨ s = 1 ∨ s = 2 ∨ s = 3 ∨ s = 4 ∨ s = 5 := by omega
  unfold mk6 bu
  rcases hs with rfl | rfl | rfl | rfl | rfl | rfl <;> generalize B 0 = x0 <;> generalize B 1 = x1 <;> generalize B 2 = x2 <;> generalize B 3 = x3 <;> generalize B 4 = x4 <;> generalize B 5 = x5 <;> revert x0 x1 x2 x3 x4 x5 <;> decide +kernel
def sI (B : Int → Bool) (h : Int) : Int32 := mk6 B >>> (iI h &&& 31)
theorem mk6_bit {B : Int → Bool} {s : Int} (h : 0 ≤ s ∧ s < 6) : sI B s &&& iI 1 = iI (if B s then 1 else 0) := by
  have hs : s = 0 ∨ s = 1 ∨ s = 2 ∨ s = 3 ∨ s = 4 ∨ s = 5 := by omega
  unfold sI mk6
  rcases hs with rfl | rfl | rfl | rfl | rfl | rfl <;> generalize B 0 = x0 <;> generalize B 1 = x1 <;> generalize B 2 = x2 <;> generalize B 3 = x3 <;> generalize B 4 = x4 <;> generalize B 5 = x5 <;> revert x0 x1 x2 x3 x4 x5 <;> decide +kernel
theorem mk6_ext {B C : Int → Bool} (h : ∀ j, 0 ≤ j → j < 6 → B j = C j) : mk6 B = mk6 C := by
  unfold mk6
  rw [h 0 (by omega) (by omega), h 1 (by omega) (by omega), h 2 (by omega) (by omega), h 3 (by omega) (by omega), h 4 (by omega) (by omega), h 5 (by omega) (by omega)]
section RW0
variable {p : Program} {l : Launch} {e : Env} {R : Room} {s : State} {m : MethodId} {args : Array Value} {below : List Frame} {meth : Method} {c : Code} {H : Heap} {locs : List Loc} {cells slots : Nat} {Q : State → Prop}
variable {cc : ByteArray} {pc : Nat} {ls : Array Slot} {rest : List Value} {D : va_G} {cl : List vw_C} {A : Nat → Prop} {ad : Nat} {tys : List (ClassId × FieldType)} {ws : va_W} {H0 : Heap}
theorem r_ic (hx : p.tables.exec = Jvm.exec) (hb : c.code = cc) {n : Int} (hdg : decode cc pc = .ok (.iconst n, 1)) (k : W p l e R s m args below meth c H locs cells slots Q (F0 m (pc + 1) ls (.int (iI n) :: rest))) : W p l e R s m args below meth c H locs cells slots Q (F0 m pc ls (rest)) := lv_iconst hx hb hdg rfl k
theorem r_icm (hx : p.tables.exec = Jvm.exec) (hb : c.code = cc) (hdg : decode cc pc = .ok (.iconst 0, 1)) (k : W p l e R s m args below meth c H locs cells slots Q (F0 m (pc + 1) ls (.int (mk6 b0) :: rest))) : W p l e R s m args below meth c H locs cells slots Q (F0 m pc ls (rest)) := lv_iconst hx hb hdg mk6_0 k
theorem r_bp (hx : p.tables.exec = Jvm.exec) (hb : c.code = cc) {n : Int} (hdg : decode cc pc = .ok (.bipush n, 2)) (hn : (Int8.ofInt n).toInt32 = iI n) (k : W p l e R s m args below meth c H locs cells slots Q (F0 m (pc + 2) ls (.int (iI n) :: rest))) : W p l e R s m args below meth c H locs cells slots Q (F0 m pc ls (rest)) := lv_bipush hx hb hdg hn k
theorem r_add (hx : p.tables.exec = Jvm.exec) (hb : c.code = cc) {a b : Int} (hdg : decode cc pc = .ok (.iadd, 1)) (k : W p l e R s m args below meth c H locs cells slots Q (F0 m (pc + 1) ls (.int (iI (a + b)) :: rest))) : W p l e R s m args below meth c H locs cells slots Q (F0 m pc ls (.int (iI b) :: .int (iI a) :: rest)) := lv_iadd hx hb hdg (by rw [iI_add]; exact k)
theorem r_sub (hx : p.tables.exec = Jvm.exec) (hb : c.code = cc) {a b : Int} (hdg : decode cc pc = .ok (.isub, 1)) (k : W p l e R s m args below meth c H locs cells slots Q (F0 m (pc + 1) ls (.int (iI (a - b)) :: rest))) : W p l e R s m args below meth c H locs cells slots Q (F0 m pc ls (.int (iI b) :: .int (iI a) :: rest)) := lv_isub hx hb hdg (by rw [iI_sub]; exact k)
theorem r_i2b (hx : p.tables.exec = Jvm.exec) (hb : c.code = cc) {a : Int} (hdg : decode cc pc = .ok (.i2b, 1)) (ha : -128 ≤ a ∧ a < 128) (k : W p l e R s m args below meth c H locs cells slots Q (F0 m (pc + 1) ls (.int (iI a) :: rest))) : W p l e R s m args below meth c H locs cells slots Q (F0 m pc ls (.int (iI a) :: rest)) := lv_i2b hx hb hdg (iI_b8 ha) k
theorem r_iinc (hx : p.tables.exec = Jvm.exec) (hb : c.code = cc) {i nL j : Nat} {n a : Int} {lv lv' : List (Nat × Value)} (b : Int) (hdg : decode cc pc = .ok (.iinc i n, 3)) (h : lv_has ls nL lv) (hk : lv[j]? = some (i, .int (iI a))) (hv : a + n = b) (hn : i < nL) (hl : (i, Value.int (iI b)) :: lv.filter (fun q => !(q.1 == i) && !(q.1 + 1 == i && q.2.category == 2)) = lv')
    (kk : ∀ ls' : Array Slot, lv_has ls' nL lv' → W p l e R s m args below meth c H locs cells slots Q (F0 m (pc + 3) ls' rest)) : W p l e R s m args below meth c H locs cells slots Q (F0 m pc ls rest) := lv_iinc hx hb hdg h hk (by rw [← hv, ← iI_add]; rfl) hn hl kk
theorem r_shl (hx : p.tables.exec = Jvm.exec) (hb : c.code = cc) {a : Int} (hdg : decode cc pc = .ok (.ishl, 1)) (k : W p l e R s m args below meth c H locs cells slots Q (F0 m (pc + 1) ls (.int (bI a) :: rest))) : W p l e R s m args below meth c H locs cells slots Q (F0 m pc ls (.int (iI a) :: .int (iI 1) :: rest)) := lv_ishl hx hb hdg k
theorem r_orb (hx : p.tables.exec = Jvm.exec) (hb : c.code = cc) {a : Int} {B : Int → Bool} (hdg : decode cc pc = .ok (.ior, 1)) (ha : 0 ≤ a ∧ a < 6) (k : W p l e R s m args below meth c H locs cells slots Q (F0 m (pc + 1) ls (.int (mk6 (bu B a)) :: rest))) : W p l e R s m args below meth c H locs cells slots Q (F0 m pc ls (.int (bI a) :: .int (mk6 B) :: rest)) := lv_ior hx hb hdg (by rw [mk6_or ha]; exact k)
theorem r_or0 (hx : p.tables.exec = Jvm.exec) (hb : c.code = cc) {B : Int → Bool} (hdg : decode cc pc = .ok (.ior, 1)) (k : W p l e R s m args below meth c H locs cells slots Q (F0 m (pc + 1) ls (.int (mk6 B) :: rest))) : W p l e R s m args below meth c H locs cells slots Q (F0 m pc ls (.int (iI 0) :: .int (mk6 B) :: rest)) := lv_ior hx hb hdg (by rw [← iI_z, Int32.or_zero]; exact k)
theorem r_shr (hx : p.tables.exec = Jvm.exec) (hb : c.code = cc) {a : Int} {B : Int → Bool} (hdg : decode cc pc = .ok (.ishr, 1)) (k : W p l e R s m args below meth c H locs cells slots Q (F0 m (pc + 1) ls (.int (sI B a) :: rest))) : W p l e R s m args below meth c H locs cells slots Q (F0 m pc ls (.int (iI a) :: .int (mk6 B) :: rest)) := lv_ishr hx hb hdg k
theorem r_and1 (hx : p.tables.exec = Jvm.exec) (hb : c.code = cc) {a : Int} {B : Int → Bool} (hdg : decode cc pc = .ok (.iand, 1)) (ha : 0 ≤ a ∧ a < 6) (k : W p l e R s m args below meth c H locs cells slots Q (F0 m (pc + 1) ls (.int (iI (if B a then 1 else 0)) :: rest))) : W p l e R s m args below meth c H locs cells slots Q (F0 m pc ls (.int (iI 1) :: .int (sI B a) :: rest)) := lv_iand hx hb hdg (by rw [mk6_bit ha]; exact k)
theorem r_bne (hx : p.tables.exec = Jvm.exec) (hb : c.code = cc) {b : Bool} {off : Int} {tgt : Nat} (hdg : decode cc pc = .ok (.if_icmp .ne off, 3)) (ht : (pc : Int) + off = (tgt : Int)) (kt : b = false → W p l e R s m args below meth c H locs cells slots Q (F0 m tgt ls (rest))) (kf : b = true → W p l e R s m args below meth c H locs cells slots Q (F0 m (pc + 3) ls (rest))) : W p l e R s m args below meth c H locs cells slots Q (F0 m pc ls (.int (iI 1) :: .int (iI (if b then 1 else 0)) :: rest)) := by
  cases b with
  | false => exact lv_icmp_ne hx hb hdg ht (fun _ => kt rfl) (fun h => absurd h (by decide +kernel))
  | true => exact lv_icmp_ne hx hb hdg ht (fun h => absurd rfl h) (fun _ => kf rfl)
theorem r_beq (hx : p.tables.exec = Jvm.exec) (hb : c.code = cc) {b : Bool} {off : Int} {tgt : Nat} (hdg : decode cc pc = .ok (.ifCond .eq off, 3)) (ht : (pc : Int) + off = (tgt : Int)) (kt : b = false → W p l e R s m args below meth c H locs cells slots Q (F0 m tgt ls (rest))) (kf : b = true → W p l e R s m args below meth c H locs cells slots Q (F0 m (pc + 3) ls (rest))) : W p l e R s m args below meth c H locs cells slots Q (F0 m pc ls (.int (iI (if b then 1 else 0)) :: rest)) := by
  cases b with
  | false => exact lv_if_eq hx hb hdg ht (fun _ => kt rfl) (fun h => absurd (by decide +kernel) h)
  | true => exact lv_if_eq hx hb hdg ht (fun h => absurd h (by decide +kernel)) (fun _ => kf rfl)
theorem r_peq (hx : p.tables.exec = Jvm.exec) (hb : c.code = cc) {P : Prop} {v : Int} {off : Int} {tgt : Nat} (hv : (P ∧ v = 1) ∨ (¬ P ∧ v = 0)) (hdg : decode cc pc = .ok (.ifCond .eq off, 3)) (ht : (pc : Int) + off = (tgt : Int)) (kt : ¬ P → W p l e R s m args below meth c H locs cells slots Q (F0 m tgt ls (rest))) (kf : P → W p l e R s m args below meth c H locs cells slots Q (F0 m (pc + 3) ls (rest))) : W p l e R s m args below meth c H locs cells slots Q (F0 m pc ls (.int (iI v) :: rest)) := by
  rcases hv with ⟨h, rfl⟩ | ⟨h, rfl⟩
  · exact lv_if_eq hx hb hdg ht (fun q => absurd q (by decide +kernel)) (fun _ => kf h)
  · exact lv_if_eq hx hb hdg ht (fun _ => kt h) (fun q => absurd (by decide +kernel) q)
theorem r_if_eq (hx : p.tables.exec = Jvm.exec) (hb : c.code = cc) {a off : Int} {tgt : Nat} (hdg : decode cc pc = .ok (.ifCond .eq off, 3)) (ht : (pc : Int) + off = (tgt : Int)) (ha : -2147483648 ≤ a ∧ a < 2147483648) (kt : a = 0 → W p l e R s m args below meth c H locs cells slots Q (F0 m tgt ls (rest))) (kf : a ≠ 0 → W p l e R s m args below meth c H locs cells slots Q (F0 m (pc + 3) ls (rest))) : W p l e R s m args below meth c H locs cells slots Q (F0 m pc ls (.int (iI a) :: rest)) :=
  lv_if_eq hx hb hdg ht (fun h => kt ((iI_eq ha (show (-2147483648 : Int) ≤ 0 ∧ (0 : Int) < 2147483648 by omega)).mp (h.trans iI_z))) (fun h => kf (fun q => h (((iI_eq ha (show (-2147483648 : Int) ≤ 0 ∧ (0 : Int) < 2147483648 by omega)).mpr q).trans iI_z.symm)))
theorem r_if_ne (hx : p.tables.exec = Jvm.exec) (hb : c.code = cc) {a off : Int} {tgt : Nat} (hdg : decode cc pc = .ok (.ifCond .ne off, 3)) (ht : (pc : Int) + off = (tgt : Int)) (ha : -2147483648 ≤ a ∧ a < 2147483648) (kt : a ≠ 0 → W p l e R s m args below meth c H locs cells slots Q (F0 m tgt ls (rest))) (kf : a = 0 → W p l e R s m args below meth c H locs cells slots Q (F0 m (pc + 3) ls (rest))) : W p l e R s m args below meth c H locs cells slots Q (F0 m pc ls (.int (iI a) :: rest)) :=
  lv_if_ne hx hb hdg ht (fun h => kt (fun q => h (((iI_eq ha (show (-2147483648 : Int) ≤ 0 ∧ (0 : Int) < 2147483648 by omega)).mpr q).trans iI_z.symm))) (fun h => kf ((iI_eq ha (show (-2147483648 : Int) ≤ 0 ∧ (0 : Int) < 2147483648 by omega)).mp (h.trans iI_z)))
theorem r_if_lt (hx : p.tables.exec = Jvm.exec) (hb : c.code = cc) {a off : Int} {tgt : Nat} (hdg : decode cc pc = .ok (.ifCond .lt off, 3)) (ht : (pc : Int) + off = (tgt : Int)) (ha : -2147483648 ≤ a ∧ a < 2147483648) (kt : a < 0 → W p l e R s m args below meth c H locs cells slots Q (F0 m tgt ls (rest))) (kf : 0 ≤ a → W p l e R s m args below meth c H locs cells slots Q (F0 m (pc + 3) ls (rest))) : W p l e R s m args below meth c H locs cells slots Q (F0 m pc ls (.int (iI a) :: rest)) :=
  lv_if_lt hx hb hdg ht (fun h => kt (by rw [iI_z] at h; exact (iI_lt ha (show (-2147483648 : Int) ≤ 0 ∧ (0 : Int) < 2147483648 by omega)).mp h)) (fun h => kf (by rw [iI_z, iI_lt ha (show (-2147483648 : Int) ≤ 0 ∧ (0 : Int) < 2147483648 by omega)] at h; omega))
theorem r_if_ge (hx : p.tables.exec = Jvm.exec) (hb : c.code = cc) {a off : Int} {tgt : Nat} (hdg : decode cc pc = .ok (.ifCond .ge off, 3)) (ht : (pc : Int) + off = (tgt : Int)) (ha : -2147483648 ≤ a ∧ a < 2147483648) (kt : 0 ≤ a → W p l e R s m args below meth c H locs cells slots Q (F0 m tgt ls (rest))) (kf : a < 0 → W p l e R s m args below meth c H locs cells slots Q (F0 m (pc + 3) ls (rest))) : W p l e R s m args below meth c H locs cells slots Q (F0 m pc ls (.int (iI a) :: rest)) :=
  lv_if_ge hx hb hdg ht (fun h => kt (by rw [iI_z] at h; exact (iI_le (show (-2147483648 : Int) ≤ 0 ∧ (0 : Int) < 2147483648 by omega) ha).mp h)) (fun h => kf (by rw [iI_z, iI_le (show (-2147483648 : Int) ≤ 0 ∧ (0 : Int) < 2147483648 by omega) ha] at h; omega))
theorem r_if_gt (hx : p.tables.exec = Jvm.exec) (hb : c.code = cc) {a off : Int} {tgt : Nat} (hdg : decode cc pc = .ok (.ifCond .gt off, 3)) (ht : (pc : Int) + off = (tgt : Int)) (ha : -2147483648 ≤ a ∧ a < 2147483648) (kt : 0 < a → W p l e R s m args below meth c H locs cells slots Q (F0 m tgt ls (rest))) (kf : a ≤ 0 → W p l e R s m args below meth c H locs cells slots Q (F0 m (pc + 3) ls (rest))) : W p l e R s m args below meth c H locs cells slots Q (F0 m pc ls (.int (iI a) :: rest)) :=
  lv_if_gt hx hb hdg ht (fun h => kt (by rw [iI_z] at h; exact (iI_lt (show (-2147483648 : Int) ≤ 0 ∧ (0 : Int) < 2147483648 by omega) ha).mp h)) (fun h => kf (by rw [iI_z, iI_lt (show (-2147483648 : Int) ≤ 0 ∧ (0 : Int) < 2147483648 by omega) ha] at h; omega))
theorem r_if_le (hx : p.tables.exec = Jvm.exec) (hb : c.code = cc) {a off : Int} {tgt : Nat} (hdg : decode cc pc = .ok (.ifCond .le off, 3)) (ht : (pc : Int) + off = (tgt : Int)) (ha : -2147483648 ≤ a ∧ a < 2147483648) (kt : a ≤ 0 → W p l e R s m args below meth c H locs cells slots Q (F0 m tgt ls (rest))) (kf : 0 < a → W p l e R s m args below meth c H locs cells slots Q (F0 m (pc + 3) ls (rest))) : W p l e R s m args below meth c H locs cells slots Q (F0 m pc ls (.int (iI a) :: rest)) :=
  lv_if_le hx hb hdg ht (fun h => kt (by rw [iI_z] at h; exact (iI_le ha (show (-2147483648 : Int) ≤ 0 ∧ (0 : Int) < 2147483648 by omega)).mp h)) (fun h => kf (by rw [iI_z, iI_le ha (show (-2147483648 : Int) ≤ 0 ∧ (0 : Int) < 2147483648 by omega)] at h; omega))
theorem r_ic_eq (hx : p.tables.exec = Jvm.exec) (hb : c.code = cc) {a b off : Int} {tgt : Nat} (hdg : decode cc pc = .ok (.if_icmp .eq off, 3)) (ht : (pc : Int) + off = (tgt : Int)) (ha : -2147483648 ≤ a ∧ a < 2147483648) (hb1 : -2147483648 ≤ b ∧ b < 2147483648) (kt : a = b → W p l e R s m args below meth c H locs cells slots Q (F0 m tgt ls (rest))) (kf : a ≠ b → W p l e R s m args below meth c H locs cells slots Q (F0 m (pc + 3) ls (rest))) : W p l e R s m args below meth c H locs cells slots Q (F0 m pc ls (.int (iI b) :: .int (iI a) :: rest)) :=
  lv_icmp_eq hx hb hdg ht (fun h => kt ((iI_eq ha hb1).mp h)) (fun h => kf (fun q => h ((iI_eq ha hb1).mpr q)))
theorem r_ic_ne (hx : p.tables.exec = Jvm.exec) (hb : c.code = cc) {a b off : Int} {tgt : Nat} (hdg : decode cc pc = .ok (.if_icmp .ne off, 3)) (ht : (pc : Int) + off = (tgt : Int)) (ha : -2147483648 ≤ a ∧ a < 2147483648) (hb1 : -2147483648 ≤ b ∧ b < 2147483648) (kt : a ≠ b → W p l e R s m args below meth c H locs cells slots Q (F0 m tgt ls (rest))) (kf : a = b → W p l e R s m args below meth c H locs cells slots Q (F0 m (pc + 3) ls (rest))) : W p l e R s m args below meth c H locs cells slots Q (F0 m pc ls (.int (iI b) :: .int (iI a) :: rest)) :=
  lv_icmp_ne hx hb hdg ht (fun h => kt (fun q => h ((iI_eq ha hb1).mpr q))) (fun h => kf ((iI_eq ha hb1).mp h))
theorem r_ic_lt (hx : p.tables.exec = Jvm.exec) (hb : c.code = cc) {a b off : Int} {tgt : Nat} (hdg : decode cc pc = .ok (.if_icmp .lt off, 3)) (ht : (pc : Int) + off = (tgt : Int)) (ha : -2147483648 ≤ a ∧ a < 2147483648) (hb1 : -2147483648 ≤ b ∧ b < 2147483648) (kt : a < b → W p l e R s m args below meth c H locs cells slots Q (F0 m tgt ls (rest))) (kf : b ≤ a → W p l e R s m args below meth c H locs cells slots Q (F0 m (pc + 3) ls (rest))) : W p l e R s m args below meth c H locs cells slots Q (F0 m pc ls (.int (iI b) :: .int (iI a) :: rest)) :=
  lv_icmp_lt hx hb hdg ht (fun h => kt ((iI_lt ha hb1).mp h)) (fun h => kf (by rw [iI_lt ha hb1] at h; omega))
theorem r_ic_ge (hx : p.tables.exec = Jvm.exec) (hb : c.code = cc) {a b off : Int} {tgt : Nat} (hdg : decode cc pc = .ok (.if_icmp .ge off, 3)) (ht : (pc : Int) + off = (tgt : Int)) (ha : -2147483648 ≤ a ∧ a < 2147483648) (hb1 : -2147483648 ≤ b ∧ b < 2147483648) (kt : b ≤ a → W p l e R s m args below meth c H locs cells slots Q (F0 m tgt ls (rest))) (kf : a < b → W p l e R s m args below meth c H locs cells slots Q (F0 m (pc + 3) ls (rest))) : W p l e R s m args below meth c H locs cells slots Q (F0 m pc ls (.int (iI b) :: .int (iI a) :: rest)) :=
  lv_icmp_ge hx hb hdg ht (fun h => kt ((iI_le hb1 ha).mp h)) (fun h => kf (by rw [iI_le hb1 ha] at h; omega))
theorem r_ic_gt (hx : p.tables.exec = Jvm.exec) (hb : c.code = cc) {a b off : Int} {tgt : Nat} (hdg : decode cc pc = .ok (.if_icmp .gt off, 3)) (ht : (pc : Int) + off = (tgt : Int)) (ha : -2147483648 ≤ a ∧ a < 2147483648) (hb1 : -2147483648 ≤ b ∧ b < 2147483648) (kt : b < a → W p l e R s m args below meth c H locs cells slots Q (F0 m tgt ls (rest))) (kf : a ≤ b → W p l e R s m args below meth c H locs cells slots Q (F0 m (pc + 3) ls (rest))) : W p l e R s m args below meth c H locs cells slots Q (F0 m pc ls (.int (iI b) :: .int (iI a) :: rest)) :=
  lv_icmp_gt hx hb hdg ht (fun h => kt ((iI_lt hb1 ha).mp h)) (fun h => kf (by rw [iI_lt hb1 ha] at h; omega))
theorem r_ic_le (hx : p.tables.exec = Jvm.exec) (hb : c.code = cc) {a b off : Int} {tgt : Nat} (hdg : decode cc pc = .ok (.if_icmp .le off, 3)) (ht : (pc : Int) + off = (tgt : Int)) (ha : -2147483648 ≤ a ∧ a < 2147483648) (hb1 : -2147483648 ≤ b ∧ b < 2147483648) (kt : a ≤ b → W p l e R s m args below meth c H locs cells slots Q (F0 m tgt ls (rest))) (kf : b < a → W p l e R s m args below meth c H locs cells slots Q (F0 m (pc + 3) ls (rest))) : W p l e R s m args below meth c H locs cells slots Q (F0 m pc ls (.int (iI b) :: .int (iI a) :: rest)) :=
  lv_icmp_le hx hb hdg ht (fun h => kt ((iI_le ha hb1).mp h)) (fun h => kf (by rw [iI_le ha hb1] at h; omega))
theorem r_bald (hx : p.tables.exec = Jvm.exec) (hb : c.code = cc) (hK : va_K D cl tys s) (hP : va_P D cl ws H) (q0 t0 : Nat) {cA : ClassId} {n : Nat} {f : Int → Int} (ha : ws[q0]? = some (ad, .inl (cA, n, .inl (aF f)))) (ht : tys[t0]? = some (cA, .byte)) {i : Int} (hi : 0 ≤ i ∧ i < (n : Int)) (hn : n < 2147483648) (hdg : decode cc pc = .ok (.baload, 1)) (k : W p l e R s m args below meth c H locs cells slots Q (F0 m (pc + 1) ls (.int (iI (f i)) :: rest))) : W p l e R s m args below meth c H locs cells slots Q (F0 m pc ls (.int (iI i) :: .ref ad :: rest)) :=
  va_bald hx hb hK hP q0 t0 ha ht (iI_in hi hn) hdg (by rw [aF_at (by omega)]; exact k)
theorem r_iald (hx : p.tables.exec = Jvm.exec) (hb : c.code = cc) (hK : va_K D cl tys s) (hP : va_P D cl ws H) (q0 t0 : Nat) {cA : ClassId} {n : Nat} {f : Int → Int} (ha : ws[q0]? = some (ad, .inl (cA, n, .inl (aF f)))) (ht : tys[t0]? = some (cA, .int)) {i : Int} (hi : 0 ≤ i ∧ i < (n : Int)) (hn : n < 2147483648) (hdg : decode cc pc = .ok (.iaload, 1)) (k : W p l e R s m args below meth c H locs cells slots Q (F0 m (pc + 1) ls (.int (iI (f i)) :: rest))) : W p l e R s m args below meth c H locs cells slots Q (F0 m pc ls (.int (iI i) :: .ref ad :: rest)) :=
  va_iald hx hb hK hP q0 t0 ha ht (iI_in hi hn) hdg (by rw [aF_at (by omega)]; exact k)
theorem r_bast (hx : p.tables.exec = Jvm.exec) (hb : c.code = cc) (hK : va_K D cl tys s) (hP : va_P D cl ws H) (hD : va_D A ws) (hS : va_S A H0 H locs) (q0 t0 : Nat) {cA : ClassId} {n : Nat} {f : Int → Int} (ha : ws[q0]? = some (ad, .inl (cA, n, .inl (aF f)))) (ht : tys[t0]? = some (cA, .byte)) {i v : Int} (hi : 0 ≤ i ∧ i < (n : Int)) (hn : n < 2147483648) (hv : -128 ≤ v ∧ v < 128) (hdg : decode cc pc = .ok (.bastore, 1))
    (kk : ∀ (H1 : Heap) (locs1 : List Loc), va_P D cl (ws.set q0 (ad, .inl (cA, n, .inl (aF (iu f i v))))) H1 → va_D A (ws.set q0 (ad, .inl (cA, n, .inl (aF (iu f i v))))) → va_S A H0 H1 locs1 → W p l e R s m args below meth c H1 locs1 cells slots Q (F0 m (pc + 1) ls (rest))) : W p l e R s m args below meth c H locs cells slots Q (F0 m pc ls (.int (iI v) :: .int (iI i) :: .ref ad :: rest)) :=
  va_bast hx hb hK hP hD hS q0 t0 ha ht (iI_in hi hn) hdg (fun H1 locs1 h1 h2 h3 => kk H1 locs1 (by rw [iI_nb hv, aF_up (by omega)] at h1; exact h1) (by rw [iI_nb hv, aF_up (by omega)] at h2; exact h2) h3)
theorem r_iast (hx : p.tables.exec = Jvm.exec) (hb : c.code = cc) (hK : va_K D cl tys s) (hP : va_P D cl ws H) (hD : va_D A ws) (hS : va_S A H0 H locs) (q0 t0 : Nat) {cA : ClassId} {n : Nat} {f : Int → Int} (ha : ws[q0]? = some (ad, .inl (cA, n, .inl (aF f)))) (ht : tys[t0]? = some (cA, .int)) {i v : Int} (hi : 0 ≤ i ∧ i < (n : Int)) (hn : n < 2147483648) (hdg : decode cc pc = .ok (.iastore, 1))
    (kk : ∀ (H1 : Heap) (locs1 : List Loc), va_P D cl (ws.set q0 (ad, .inl (cA, n, .inl (aF (iu f i v))))) H1 → va_D A (ws.set q0 (ad, .inl (cA, n, .inl (aF (iu f i v))))) → va_S A H0 H1 locs1 → W p l e R s m args below meth c H1 locs1 cells slots Q (F0 m (pc + 1) ls (rest))) : W p l e R s m args below meth c H locs cells slots Q (F0 m pc ls (.int (iI v) :: .int (iI i) :: .ref ad :: rest)) :=
  va_iast hx hb hK hP hD hS q0 t0 ha ht (iI_in hi hn) hdg (fun H1 locs1 h1 h2 h3 => kk H1 locs1 (by rw [aF_up (by omega)] at h1; exact h1) (by rw [aF_up (by omega)] at h2; exact h2) h3)
end RW0
end
section
/-! 06: the pure functions that the methods compute; the two objects' worlds; rows over them; calls that leave the heap as it is -/
def it {α : Type} (f : Int → α → α) : Nat → α → α
  | 0, x => x
  | n + 1, x => f (n : Int) (it f n x)
theorem it1 {α : Type} {f : Int → α → α} {n : Nat} {x : α} : it f (n + 1) x = f (n : Int) (it f n x) := rfl
def rg (lo hi n : Int) (f : Int → Int) : Prop := ∀ s, 0 ≤ s → s < n → lo ≤ f s ∧ f s < hi
theorem rg_iu {lo hi n k v : Int} {f : Int → Int} (h : rg lo hi n f) (h1 : lo ≤ v ∧ v < hi) : rg lo hi n (iu f k v) := by
  intro s h0 hn
  unfold iu
  split
  · exact h1
  · exact h s h0 hn
/-- a waiting thread's lock has a holder -/
def wk (fw fh : Int → Int) : Prop := ∀ s, 0 ≤ s → s < 6 → 0 ≤ fw s → 0 ≤ fh (fw s)
-- the class
def lnS (fu fw fh : Int → Int) (t s v : Int) : Int := if 0 ≤ fw s ∧ fh (fw s) = t ∧ v < fu s then fu s else v
def lnt (fb fu fw fh : Int → Int) (t : Int) : Int := it (lnS fu fw fh t) 6 (fb t)
def rfr (fb fw fh : Int → Int) : Nat → (Int → Int) → Int → (Int → Int)
  | 0, fu, _ => fu
  | n + 1, fu, s => if s < 0 then fu else rfr fb fw fh n (iu fu s (lnt fb fu fw fh s)) (if lnt fb fu fw fh s = fu s ∨ fw s < 0 then -1 else fh (fw s))
def dpo (fw fh : Int → Int) (o : Int) : Nat → Int → Bool
  | 0, _ => false
  | n + 1, s => if fw s < 0 then false else if fh (fw s) = o then true else dpo fw fh o n (fh (fw s))
def bwS (fu fw fs : Int → Int) (l s v : Int) : Int := if fw s = l ∧ (v < 0 ∨ fu v < fu s ∨ (fu s = fu v ∧ fs s < fs v)) then s else v
def bwt (fu fw fs : Int → Int) (l : Int) : Int := it (bwS fu fw fs l) 6 (-1)
def wtS (fw : Int → Int) (l s v : Int) : Int := if fw s = l then v + 1 else v
def hdS (fh : Int → Int) (t s : Int) (B : Int → Bool) : Int → Bool := if fh s = t then bu B s else B
def rnS (fu fw : Int → Int) (s v : Int) : Int := if fw s < 0 ∧ (v < 0 ∨ fu v < fu s) then s else v
def woS (fw fh : Int → Int) (t s : Int) (B : Int → Bool) : Int → Bool := if dpo fw fh t 6 s = true then bu B s else B
def lfS (fu fb : Int → Int) (s : Int) (B : Int → Bool) : Int → Bool := if fb s < fu s then bu B s else B
abbrev PX : Type := (Int → Int) × (Int → Int) × (Int → Int) × (Int → Int) × (Int → Int) × Int
def tkX (fb fu fw fs fh : Int → Int) (st t l : Int) : Int × PX :=
  if ¬ (0 ≤ t ∧ t < 6) ∨ ¬ (0 ≤ l ∧ l < 5) ∨ 0 ≤ fw t ∨ fh l = t then (-1, (fb, fu, fw, fs, fh, st))
  else if fh l < 0 then (0, (fb, fu, fw, fs, iu fh l t, st))
  else if dpo fw fh t 6 (fh l) = true then (-2, (fb, fu, fw, fs, fh, st))
  else (1, (fb, rfr fb (iu fw t l) fh 6 fu (fh l), iu fw t l, iu fs t st, fh, st + 1))
def gvX (fb fu fw fs fh : Int → Int) (st t l : Int) : Int × PX :=
  if ¬ (0 ≤ t ∧ t < 6) ∨ ¬ (0 ≤ l ∧ l < 5) ∨ 0 ≤ fw t ∨ fh l ≠ t then (-2, (fb, fu, fw, fs, fh, st))
  else if bwt fu fw fs l < 0 then (bwt fu fw fs l, (fb, rfr fb fw (iu fh l (bwt fu fw fs l)) 6 fu t, fw, fs, iu fh l (bwt fu fw fs l), st))
  else (bwt fu fw fs l, (fb, rfr fb (iu fw (bwt fu fw fs l) (-1)) (iu fh l (bwt fu fw fs l)) 6 (rfr fb (iu fw (bwt fu fw fs l) (-1)) (iu fh l (bwt fu fw fs l)) 6 fu (bwt fu fw fs l)) t, iu fw (bwt fu fw fs l) (-1), fs, iu fh l (bwt fu fw fs l), st))
def guX (fb fu fw fs fh : Int → Int) (st t : Int) : Int × PX :=
  if ¬ (0 ≤ t ∧ t < 6) ∨ fw t < 0 then (0, (fb, fu, fw, fs, fh, st))
  else (1, (fb, rfr fb (iu fw t (-1)) fh 6 fu (fh (fw t)), iu fw t (-1), fs, fh, st))
def sbX (fb fu fw fs fh : Int → Int) (st t u : Int) : Int × PX :=
  if ¬ (0 ≤ t ∧ t < 6) ∨ u < 0 ∨ 9 < u then (0, (fb, fu, fw, fs, fh, st))
  else (1, (iu fb t u, rfr (iu fb t u) fw fh 6 fu t, fw, fs, fh, st))
def urX (fu : Int → Int) (t : Int) : Int := if 0 ≤ t ∧ t < 6 then fu t else -1
def hoX (fh : Int → Int) (t : Int) : Int := if 0 ≤ t ∧ t < 5 then fh t else -1
def wtX (fw : Int → Int) (l : Int) : Int := if 0 ≤ l ∧ l < 5 then it (wtS fw l) 6 0 else 0
def nfX (fu fw fs : Int → Int) (l : Int) : Int := if 0 ≤ l ∧ l < 5 then bwt fu fw fs l else -1
def hdX (fh : Int → Int) (t : Int) : Int → Bool := if 0 ≤ t ∧ t < 6 then it (hdS fh t) 5 b0 else b0
def rnX (fu fw : Int → Int) : Int := it (rnS fu fw) 6 (-1)
def woX (fw fh : Int → Int) (t : Int) : Int → Bool := if 0 ≤ t ∧ t < 6 then it (woS fw fh t) 6 b0 else b0
def lfX (fu fb : Int → Int) : Int → Bool := it (lfS fu fb) 6 b0
-- the reference
def pM (mw mh : Int → Int) (s : Int) : Int := if 0 < mw s then mh (mw s - 1) - 1 else -1
theorem pM_p {mw mh : Int → Int} {s : Int} (h : 0 < mw s) : pM mw mh s = mh (mw s - 1) - 1 := if_pos h
theorem pM_n {mw mh : Int → Int} {s : Int} (h : ¬ 0 < mw s) : pM mw mh s = -1 := if_neg h
def lnM (mh mw : Int → Int) (s : Int) (g : Int → Int) : Int → Int := if 0 ≤ pM mw mh s ∧ g (pM mw mh s) < g s then iu g (pM mw mh s) (g s) else g
def cpM (mb : Int → Int) (s : Int) (g : Int → Int) : Int → Int := iu g s (mb s)
def psM (mh mw : Int → Int) (_ : Int) (g : Int → Int) : Int → Int := it (lnM mh mw) 6 g
def ldG (mb mh mw mu : Int → Int) : Int → Int := it (psM mh mw) 6 (it (cpM mb) 6 mu)
def bhM (mh mw : Int → Int) (t s : Int) (B : Int → Bool) : Int → Bool := if 0 ≤ pM mw mh s ∧ (pM mw mh s = t ∨ B (pM mw mh s) = true) then bu B s else B
def bpM (mh mw : Int → Int) (t _i : Int) (B : Int → Bool) : Int → Bool := it (bhM mh mw t) 6 B
def bhd (mh mw : Int → Int) (t : Int) : Int → Bool := it (bpM mh mw t) 6 b0
def wtT (mw : Int → Int) (l s v : Int) : Int := if mw s = l + 1 then v + 1 else v
def bwM (g mw ms : Int → Int) (l s v : Int) : Int := if mw s = l + 1 ∧ (v < 0 ∨ g v < g s ∨ (g s = g v ∧ ms s < ms v)) then s else v
def hdT (mh : Int → Int) (t s : Int) (B : Int → Bool) : Int → Bool := if mh s = t + 1 then bu B s else B
def rnT (g mw : Int → Int) (s v : Int) : Int := if mw s = 0 ∧ (v < 0 ∨ g v < g s) then s else v
def lfT (g mb : Int → Int) (s : Int) (B : Int → Bool) : Int → Bool := if mb s < g s then bu B s else B
abbrev PM : Type := (Int → Int) × (Int → Int) × (Int → Int) × (Int → Int) × Int × (Int → Int)
def tkM (mb mh mw ms : Int → Int) (tm : Int) (mu : Int → Int) (t l : Int) : Int × PM :=
  if ¬ (0 ≤ t ∧ t < 6) ∨ ¬ (0 ≤ l ∧ l < 5) ∨ 0 < mw t ∨ mh l = t + 1 then (-1, (mb, mh, mw, ms, tm, mu))
  else if mh l = 0 then (0, (mb, iu mh l (t + 1), mw, ms, tm, mu))
  else if bhd mh mw t (mh l - 1) = true then (-2, (mb, mh, mw, ms, tm, mu))
  else (1, (mb, mh, iu mw t (l + 1), iu ms t (tm + 1), tm + 1, mu))
def nfM (mb mh mw ms mu : Int → Int) (l : Int) : Int := if 0 ≤ l ∧ l < 5 then it (bwM (ldG mb mh mw mu) mw ms l) 6 (-1) else -1
def gvM (mb mh mw ms : Int → Int) (tm : Int) (mu : Int → Int) (t l : Int) : Int × PM :=
  if ¬ (0 ≤ t ∧ t < 6) ∨ ¬ (0 ≤ l ∧ l < 5) ∨ 0 < mw t ∨ mh l ≠ t + 1 then (-2, (mb, mh, mw, ms, tm, mu))
  else if nfM mb mh mw ms mu l < 0 then (nfM mb mh mw ms mu l, (mb, iu mh l (nfM mb mh mw ms mu l + 1), mw, ms, tm, ldG mb mh mw mu))
  else (nfM mb mh mw ms mu l, (mb, iu mh l (nfM mb mh mw ms mu l + 1), iu mw (nfM mb mh mw ms mu l) 0, ms, tm, ldG mb mh mw mu))
def guM (mb mh mw ms : Int → Int) (tm : Int) (mu : Int → Int) (t : Int) : Int × PM :=
  if ¬ (0 ≤ t ∧ t < 6) ∨ mw t = 0 then (0, (mb, mh, mw, ms, tm, mu)) else (1, (mb, mh, iu mw t 0, ms, tm, mu))
def sbM (mb mh mw ms : Int → Int) (tm : Int) (mu : Int → Int) (t u : Int) : Int × PM :=
  if ¬ (0 ≤ t ∧ t < 6) ∨ u < 0 ∨ 9 < u then (0, (mb, mh, mw, ms, tm, mu)) else (1, (iu mb t u, mh, mw, ms, tm, mu))
def urM (g : Int → Int) (t : Int) : Int := if 0 ≤ t ∧ t < 6 then g t else -1
def hoM (mh : Int → Int) (t : Int) : Int := if 0 ≤ t ∧ t < 5 then mh t - 1 else -1
def wfM (mw : Int → Int) (t : Int) : Int := if 0 ≤ t ∧ t < 6 then mw t - 1 else -1
def wtM (mw : Int → Int) (l : Int) : Int := if 0 ≤ l ∧ l < 5 then it (wtT mw l) 6 0 else 0
def hdM (mh : Int → Int) (t : Int) : Int → Bool := if 0 ≤ t ∧ t < 6 then it (hdT mh t) 5 b0 else b0
def rnM (g mw : Int → Int) : Int := it (rnT g mw) 6 (-1)
def woM (mh mw : Int → Int) (t : Int) : Int → Bool := if 0 ≤ t ∧ t < 6 then bhd mh mw t else b0
def lfM (g mb : Int → Int) : Int → Bool := it (lfT g mb) 6 b0
-- worlds
abbrev vwCl : List vw_C := [(RX0, TX0, 6), (RX1, TX1, 6)]
abbrev tX (cB cI : ClassId) : List (ClassId × FieldType) := [(cB, .byte), (cI, .int)]
def wX (h : Nat) (a : Nat → Nat) (cB cI : ClassId) (fb fu fw fs fh : Int → Int) (st : Int) : va_W :=
  [(h, .inr (0, [.ref (a 0), .ref (a 1), .ref (a 2), .ref (a 3), .ref (a 4), .int (iI st)])), (a 0, .inl (cB, 6, .inl (aF fb))), (a 1, .inl (cB, 6, .inl (aF fu))), (a 2, .inl (cB, 6, .inl (aF fw))), (a 3, .inl (cI, 6, .inl (aF fs))), (a 4, .inl (cB, 5, .inl (aF fh)))]
def wM (h : Nat) (a : Nat → Nat) (cI : ClassId) (mb mh mw ms : Int → Int) (tm : Int) (mu : Int → Int) : va_W :=
  [(h, .inr (1, [.ref (a 0), .ref (a 1), .ref (a 2), .ref (a 3), .int (iI tm), .ref (a 4)])), (a 0, .inl (cI, 6, .inl (aF mb))), (a 1, .inl (cI, 5, .inl (aF mh))), (a 2, .inl (cI, 6, .inl (aF mw))), (a 3, .inl (cI, 6, .inl (aF ms))), (a 4, .inl (cI, 6, .inl (aF mu)))]
theorem ite_10 {P : Prop} {_i : Decidable P} : (P ∧ (if P then (1 : Int) else 0) = 1) ∨ (¬ P ∧ (if P then (1 : Int) else 0) = 0) := by
  by_cases h : P
  · exact Or.inl ⟨h, if_pos h⟩
  · exact Or.inr ⟨h, if_neg h⟩
section RW1
variable {p : Program} {l : Launch} {e : Env} {R : Room} {s : State} {m : MethodId} {args : Array Value} {below : List Frame} {meth : Method} {c : Code} {H : Heap} {locs : List Loc} {cells slots : Nat} {Q : State → Prop}
variable {cc : ByteArray} {pc : Nat} {ls : Array Slot} {rest : List Value} {D : va_G} {A : Nat → Prop} {H0 : Heap} {h : Nat} {a : Nat → Nat} {cB cI : ClassId} {fb fu fw fs fh mb mh mw ms mu : Int → Int} {st tm : Int}
theorem x_gb (hx : p.tables.exec = Jvm.exec) (hb : c.code = cc) (hown : s.vm.findClass RX0 = some m.cls) (hts : ∀ w ∈ lw_all, w.before args s = true) (hK : va_K D vwCl (tX cB cI) s) (hP : va_P D vwCl (wX h a cB cI fb fu fw fs fh st) H) (hdg : decode cc pc = .ok (.getfield 7, 3)) (k : W p l e R s m args below meth c H locs cells slots Q (F0 m (pc + 3) ls (.ref (a 0) :: rest))) : W p l e R s m args below meth c H locs cells slots Q (F0 m pc ls (.ref h :: rest)) :=
  va_get (D := D) (ci := 0) (v := .ref (a 0)) (C := RX0) (T := TX0) (N := 6) hx hb hts in_X0 hown hK hP 0 rfl rfl 0 (by decide) (hts _ q19) (fun _ h9 => h9) rfl hdg k
theorem x_gu (hx : p.tables.exec = Jvm.exec) (hb : c.code = cc) (hown : s.vm.findClass RX0 = some m.cls) (hts : ∀ w ∈ lw_all, w.before args s = true) (hK : va_K D vwCl (tX cB cI) s) (hP : va_P D vwCl (wX h a cB cI fb fu fw fs fh st) H) (hdg : decode cc pc = .ok (.getfield 13, 3)) (k : W p l e R s m args below meth c H locs cells slots Q (F0 m (pc + 3) ls (.ref (a 1) :: rest))) : W p l e R s m args below meth c H locs cells slots Q (F0 m pc ls (.ref h :: rest)) :=
  va_get (D := D) (ci := 0) (v := .ref (a 1)) (C := RX0) (T := TX0) (N := 6) hx hb hts in_X0 hown hK hP 0 rfl rfl 1 (by decide) (hts _ q20) (fun _ h9 => h9) rfl hdg k
theorem x_gw (hx : p.tables.exec = Jvm.exec) (hb : c.code = cc) (hown : s.vm.findClass RX0 = some m.cls) (hts : ∀ w ∈ lw_all, w.before args s = true) (hK : va_K D vwCl (tX cB cI) s) (hP : va_P D vwCl (wX h a cB cI fb fu fw fs fh st) H) (hdg : decode cc pc = .ok (.getfield 16, 3)) (k : W p l e R s m args below meth c H locs cells slots Q (F0 m (pc + 3) ls (.ref (a 2) :: rest))) : W p l e R s m args below meth c H locs cells slots Q (F0 m pc ls (.ref h :: rest)) :=
  va_get (D := D) (ci := 0) (v := .ref (a 2)) (C := RX0) (T := TX0) (N := 6) hx hb hts in_X0 hown hK hP 0 rfl rfl 2 (by decide) (hts _ q21) (fun _ h9 => h9) rfl hdg k
theorem x_gs (hx : p.tables.exec = Jvm.exec) (hb : c.code = cc) (hown : s.vm.findClass RX0 = some m.cls) (hts : ∀ w ∈ lw_all, w.before args s = true) (hK : va_K D vwCl (tX cB cI) s) (hP : va_P D vwCl (wX h a cB cI fb fu fw fs fh st) H) (hdg : decode cc pc = .ok (.getfield 19, 3)) (k : W p l e R s m args below meth c H locs cells slots Q (F0 m (pc + 3) ls (.ref (a 3) :: rest))) : W p l e R s m args below meth c H locs cells slots Q (F0 m pc ls (.ref h :: rest)) :=
  va_get (D := D) (ci := 0) (v := .ref (a 3)) (C := RX0) (T := TX0) (N := 6) hx hb hts in_X0 hown hK hP 0 rfl rfl 3 (by decide) (hts _ q22) (fun _ h9 => h9) rfl hdg k
theorem x_gh (hx : p.tables.exec = Jvm.exec) (hb : c.code = cc) (hown : s.vm.findClass RX0 = some m.cls) (hts : ∀ w ∈ lw_all, w.before args s = true) (hK : va_K D vwCl (tX cB cI) s) (hP : va_P D vwCl (wX h a cB cI fb fu fw fs fh st) H) (hdg : decode cc pc = .ok (.getfield 23, 3)) (k : W p l e R s m args below meth c H locs cells slots Q (F0 m (pc + 3) ls (.ref (a 4) :: rest))) : W p l e R s m args below meth c H locs cells slots Q (F0 m pc ls (.ref h :: rest)) :=
  va_get (D := D) (ci := 0) (v := .ref (a 4)) (C := RX0) (T := TX0) (N := 6) hx hb hts in_X0 hown hK hP 0 rfl rfl 4 (by decide) (hts _ q23) (fun _ h9 => h9) rfl hdg k
theorem x_gt (hx : p.tables.exec = Jvm.exec) (hb : c.code = cc) (hown : s.vm.findClass RX0 = some m.cls) (hts : ∀ w ∈ lw_all, w.before args s = true) (hK : va_K D vwCl (tX cB cI) s) (hP : va_P D vwCl (wX h a cB cI fb fu fw fs fh st) H) (hdg : decode cc pc = .ok (.getfield 41, 3)) (k : W p l e R s m args below meth c H locs cells slots Q (F0 m (pc + 3) ls (.int (iI st) :: rest))) : W p l e R s m args below meth c H locs cells slots Q (F0 m pc ls (.ref h :: rest)) :=
  va_get (D := D) (ci := 0) (v := .int (iI st)) (C := RX0) (T := TX0) (N := 6) hx hb hts in_X0 hown hK hP 0 rfl rfl 5 (by decide) (hts _ q24) (fun _ h9 => h9) rfl hdg k
theorem x_lb (hx : p.tables.exec = Jvm.exec) (hb : c.code = cc) (hK : va_K D vwCl (tX cB cI) s) (hP : va_P D vwCl (wX h a cB cI fb fu fw fs fh st) H) {i : Int} (hi : 0 ≤ i ∧ i < 6) (hdg : decode cc pc = .ok (.baload, 1)) (k : W p l e R s m args below meth c H locs cells slots Q (F0 m (pc + 1) ls (.int (iI (fb i)) :: rest))) : W p l e R s m args below meth c H locs cells slots Q (F0 m pc ls (.int (iI i) :: .ref (a 0) :: rest)) :=
  r_bald hx hb hK hP 1 0 rfl rfl (n := 6) (by omega) (by decide) hdg k
theorem x_sb (hx : p.tables.exec = Jvm.exec) (hb : c.code = cc) (hK : va_K D vwCl (tX cB cI) s) (hP : va_P D vwCl (wX h a cB cI fb fu fw fs fh st) H) (hD : va_D A (wX h a cB cI fb fu fw fs fh st)) (hS : va_S A H0 H locs) {i v : Int} (hi : 0 ≤ i ∧ i < 6) (hv : -128 ≤ v ∧ v < 128) (hdg : decode cc pc = .ok (.bastore, 1))
    (kk : ∀ (H1 : Heap) (locs1 : List Loc), va_P D vwCl (wX h a cB cI (iu fb i v) fu fw fs fh st) H1 → va_D A (wX h a cB cI (iu fb i v) fu fw fs fh st) → va_S A H0 H1 locs1 → W p l e R s m args below meth c H1 locs1 cells slots Q (F0 m (pc + 1) ls (rest))) : W p l e R s m args below meth c H locs cells slots Q (F0 m pc ls (.int (iI v) :: .int (iI i) :: .ref (a 0) :: rest)) :=
  r_bast hx hb hK hP hD hS 1 0 rfl rfl (n := 6) (by omega) (by decide) hv hdg (fun H1 locs1 h1 h2 h3 => kk H1 locs1 h1 h2 h3)
theorem x_lu (hx : p.tables.exec = Jvm.exec) (hb : c.code = cc) (hK : va_K D vwCl (tX cB cI) s) (hP : va_P D vwCl (wX h a cB cI fb fu fw fs fh st) H) {i : Int} (hi : 0 ≤ i ∧ i < 6) (hdg : decode cc pc = .ok (.baload, 1)) (k : W p l e R s m args below meth c H locs cells slots Q (F0 m (pc + 1) ls (.int (iI (fu i)) :: rest))) : W p l e R s m args below meth c H locs cells slots Q (F0 m pc ls (.int (iI i) :: .ref (a 1) :: rest)) :=
  r_bald hx hb hK hP 2 0 rfl rfl (n := 6) (by omega) (by decide) hdg k
theorem x_su (hx : p.tables.exec = Jvm.exec) (hb : c.code = cc) (hK : va_K D vwCl (tX cB cI) s) (hP : va_P D vwCl (wX h a cB cI fb fu fw fs fh st) H) (hD : va_D A (wX h a cB cI fb fu fw fs fh st)) (hS : va_S A H0 H locs) {i v : Int} (hi : 0 ≤ i ∧ i < 6) (hv : -128 ≤ v ∧ v < 128) (hdg : decode cc pc = .ok (.bastore, 1))
    (kk : ∀ (H1 : Heap) (locs1 : List Loc), va_P D vwCl (wX h a cB cI fb (iu fu i v) fw fs fh st) H1 → va_D A (wX h a cB cI fb (iu fu i v) fw fs fh st) → va_S A H0 H1 locs1 → W p l e R s m args below meth c H1 locs1 cells slots Q (F0 m (pc + 1) ls (rest))) : W p l e R s m args below meth c H locs cells slots Q (F0 m pc ls (.int (iI v) :: .int (iI i) :: .ref (a 1) :: rest)) :=
  r_bast hx hb hK hP hD hS 2 0 rfl rfl (n := 6) (by omega) (by decide) hv hdg (fun H1 locs1 h1 h2 h3 => kk H1 locs1 h1 h2 h3)
theorem x_lw (hx : p.tables.exec = Jvm.exec) (hb : c.code = cc) (hK : va_K D vwCl (tX cB cI) s) (hP : va_P D vwCl (wX h a cB cI fb fu fw fs fh st) H) {i : Int} (hi : 0 ≤ i ∧ i < 6) (hdg : decode cc pc = .ok (.baload, 1)) (k : W p l e R s m args below meth c H locs cells slots Q (F0 m (pc + 1) ls (.int (iI (fw i)) :: rest))) : W p l e R s m args below meth c H locs cells slots Q (F0 m pc ls (.int (iI i) :: .ref (a 2) :: rest)) :=
  r_bald hx hb hK hP 3 0 rfl rfl (n := 6) (by omega) (by decide) hdg k
theorem x_sw (hx : p.tables.exec = Jvm.exec) (hb : c.code = cc) (hK : va_K D vwCl (tX cB cI) s) (hP : va_P D vwCl (wX h a cB cI fb fu fw fs fh st) H) (hD : va_D A (wX h a cB cI fb fu fw fs fh st)) (hS : va_S A H0 H locs) {i v : Int} (hi : 0 ≤ i ∧ i < 6) (hv : -128 ≤ v ∧ v < 128) (hdg : decode cc pc = .ok (.bastore, 1))
    (kk : ∀ (H1 : Heap) (locs1 : List Loc), va_P D vwCl (wX h a cB cI fb fu (iu fw i v) fs fh st) H1 → va_D A (wX h a cB cI fb fu (iu fw i v) fs fh st) → va_S A H0 H1 locs1 → W p l e R s m args below meth c H1 locs1 cells slots Q (F0 m (pc + 1) ls (rest))) : W p l e R s m args below meth c H locs cells slots Q (F0 m pc ls (.int (iI v) :: .int (iI i) :: .ref (a 2) :: rest)) :=
  r_bast hx hb hK hP hD hS 3 0 rfl rfl (n := 6) (by omega) (by decide) hv hdg (fun H1 locs1 h1 h2 h3 => kk H1 locs1 h1 h2 h3)
theorem x_ls (hx : p.tables.exec = Jvm.exec) (hb : c.code = cc) (hK : va_K D vwCl (tX cB cI) s) (hP : va_P D vwCl (wX h a cB cI fb fu fw fs fh st) H) {i : Int} (hi : 0 ≤ i ∧ i < 6) (hdg : decode cc pc = .ok (.iaload, 1)) (k : W p l e R s m args below meth c H locs cells slots Q (F0 m (pc + 1) ls (.int (iI (fs i)) :: rest))) : W p l e R s m args below meth c H locs cells slots Q (F0 m pc ls (.int (iI i) :: .ref (a 3) :: rest)) :=
  r_iald hx hb hK hP 4 1 rfl rfl (n := 6) (by omega) (by decide) hdg k
theorem x_ss (hx : p.tables.exec = Jvm.exec) (hb : c.code = cc) (hK : va_K D vwCl (tX cB cI) s) (hP : va_P D vwCl (wX h a cB cI fb fu fw fs fh st) H) (hD : va_D A (wX h a cB cI fb fu fw fs fh st)) (hS : va_S A H0 H locs) {i v : Int} (hi : 0 ≤ i ∧ i < 6) (hdg : decode cc pc = .ok (.iastore, 1))
    (kk : ∀ (H1 : Heap) (locs1 : List Loc), va_P D vwCl (wX h a cB cI fb fu fw (iu fs i v) fh st) H1 → va_D A (wX h a cB cI fb fu fw (iu fs i v) fh st) → va_S A H0 H1 locs1 → W p l e R s m args below meth c H1 locs1 cells slots Q (F0 m (pc + 1) ls (rest))) : W p l e R s m args below meth c H locs cells slots Q (F0 m pc ls (.int (iI v) :: .int (iI i) :: .ref (a 3) :: rest)) :=
  r_iast hx hb hK hP hD hS 4 1 rfl rfl (n := 6) (by omega) (by decide) hdg (fun H1 locs1 h1 h2 h3 => kk H1 locs1 h1 h2 h3)
theorem x_lh (hx : p.tables.exec = Jvm.exec) (hb : c.code = cc) (hK : va_K D vwCl (tX cB cI) s) (hP : va_P D vwCl (wX h a cB cI fb fu fw fs fh st) H) {i : Int} (hi : 0 ≤ i ∧ i < 5) (hdg : decode cc pc = .ok (.baload, 1)) (k : W p l e R s m args below meth c H locs cells slots Q (F0 m (pc + 1) ls (.int (iI (fh i)) :: rest))) : W p l e R s m args below meth c H locs cells slots Q (F0 m pc ls (.int (iI i) :: .ref (a 4) :: rest)) :=
  r_bald hx hb hK hP 5 0 rfl rfl (n := 5) (by omega) (by decide) hdg k
theorem x_sh (hx : p.tables.exec = Jvm.exec) (hb : c.code = cc) (hK : va_K D vwCl (tX cB cI) s) (hP : va_P D vwCl (wX h a cB cI fb fu fw fs fh st) H) (hD : va_D A (wX h a cB cI fb fu fw fs fh st)) (hS : va_S A H0 H locs) {i v : Int} (hi : 0 ≤ i ∧ i < 5) (hv : -128 ≤ v ∧ v < 128) (hdg : decode cc pc = .ok (.bastore, 1))
    (kk : ∀ (H1 : Heap) (locs1 : List Loc), va_P D vwCl (wX h a cB cI fb fu fw fs (iu fh i v) st) H1 → va_D A (wX h a cB cI fb fu fw fs (iu fh i v) st) → va_S A H0 H1 locs1 → W p l e R s m args below meth c H1 locs1 cells slots Q (F0 m (pc + 1) ls (rest))) : W p l e R s m args below meth c H locs cells slots Q (F0 m pc ls (.int (iI v) :: .int (iI i) :: .ref (a 4) :: rest)) :=
  r_bast hx hb hK hP hD hS 5 0 rfl rfl (n := 5) (by omega) (by decide) hv hdg (fun H1 locs1 h1 h2 h3 => kk H1 locs1 h1 h2 h3)
theorem x_pt (hx : p.tables.exec = Jvm.exec) (hb : c.code = cc) (hown : s.vm.findClass RX0 = some m.cls) (hts : ∀ w ∈ lw_all, w.before args s = true) (hK : va_K D vwCl (tX cB cI) s) (hP : va_P D vwCl (wX h a cB cI fb fu fw fs fh st) H) (hD : va_D A (wX h a cB cI fb fu fw fs fh st)) (hS : va_S A H0 H locs) {v : Int} (hdg : decode cc pc = .ok (.putfield 41, 3))
    (kk : ∀ (H1 : Heap) (locs1 : List Loc), va_P D vwCl (wX h a cB cI fb fu fw fs fh v) H1 → va_D A (wX h a cB cI fb fu fw fs fh v) → va_S A H0 H1 locs1 → W p l e R s m args below meth c H1 locs1 cells slots Q (F0 m (pc + 3) ls (rest))) : W p l e R s m args below meth c H locs cells slots Q (F0 m pc ls (.int (iI v) :: .ref h :: rest)) :=
  va_put (D := D) (ci := 0) (v := .int (iI v)) (ty := .int) (C := RX0) (T := TX0) (N := 6) hx hb hts in_X0 tyX0 tyX0_ok nmX0 hown hK hP hD hS 0 rfl rfl 5 (by decide) (hts _ q24) (fun _ h9 => h9) rfl (by decide +kernel) rfl rfl (Nat.le_of_ble_eq_true rfl) hdg (fun H1 locs1 h1 h2 h3 => kk H1 locs1 h1 h2 h3)
theorem y_gb (hx : p.tables.exec = Jvm.exec) (hb : c.code = cc) (hown : s.vm.findClass RX1 = some m.cls) (hts : ∀ w ∈ lw_all, w.before args s = true) (hK : va_K D vwCl (tX cB cI) s) (hP : va_P D vwCl (wM h a cI mb mh mw ms tm mu) H) (hdg : decode cc pc = .ok (.getfield 7, 3)) (k : W p l e R s m args below meth c H locs cells slots Q (F0 m (pc + 3) ls (.ref (a 0) :: rest))) : W p l e R s m args below meth c H locs cells slots Q (F0 m pc ls (.ref h :: rest)) :=
  va_get (D := D) (ci := 1) (v := .ref (a 0)) (C := RX1) (T := TX1) (N := 6) hx hb hts in_X1 hown hK hP 0 rfl rfl 0 (by decide) (hts _ q124) (fun _ h9 => h9) rfl hdg k
theorem y_gh (hx : p.tables.exec = Jvm.exec) (hb : c.code = cc) (hown : s.vm.findClass RX1 = some m.cls) (hts : ∀ w ∈ lw_all, w.before args s = true) (hK : va_K D vwCl (tX cB cI) s) (hP : va_P D vwCl (wM h a cI mb mh mw ms tm mu) H) (hdg : decode cc pc = .ok (.getfield 13, 3)) (k : W p l e R s m args below meth c H locs cells slots Q (F0 m (pc + 3) ls (.ref (a 1) :: rest))) : W p l e R s m args below meth c H locs cells slots Q (F0 m pc ls (.ref h :: rest)) :=
  va_get (D := D) (ci := 1) (v := .ref (a 1)) (C := RX1) (T := TX1) (N := 6) hx hb hts in_X1 hown hK hP 0 rfl rfl 1 (by decide) (hts _ q125) (fun _ h9 => h9) rfl hdg k
theorem y_gw (hx : p.tables.exec = Jvm.exec) (hb : c.code = cc) (hown : s.vm.findClass RX1 = some m.cls) (hts : ∀ w ∈ lw_all, w.before args s = true) (hK : va_K D vwCl (tX cB cI) s) (hP : va_P D vwCl (wM h a cI mb mh mw ms tm mu) H) (hdg : decode cc pc = .ok (.getfield 16, 3)) (k : W p l e R s m args below meth c H locs cells slots Q (F0 m (pc + 3) ls (.ref (a 2) :: rest))) : W p l e R s m args below meth c H locs cells slots Q (F0 m pc ls (.ref h :: rest)) :=
  va_get (D := D) (ci := 1) (v := .ref (a 2)) (C := RX1) (T := TX1) (N := 6) hx hb hts in_X1 hown hK hP 0 rfl rfl 2 (by decide) (hts _ q126) (fun _ h9 => h9) rfl hdg k
theorem y_gs (hx : p.tables.exec = Jvm.exec) (hb : c.code = cc) (hown : s.vm.findClass RX1 = some m.cls) (hts : ∀ w ∈ lw_all, w.before args s = true) (hK : va_K D vwCl (tX cB cI) s) (hP : va_P D vwCl (wM h a cI mb mh mw ms tm mu) H) (hdg : decode cc pc = .ok (.getfield 19, 3)) (k : W p l e R s m args below meth c H locs cells slots Q (F0 m (pc + 3) ls (.ref (a 3) :: rest))) : W p l e R s m args below meth c H locs cells slots Q (F0 m pc ls (.ref h :: rest)) :=
  va_get (D := D) (ci := 1) (v := .ref (a 3)) (C := RX1) (T := TX1) (N := 6) hx hb hts in_X1 hown hK hP 0 rfl rfl 3 (by decide) (hts _ q127) (fun _ h9 => h9) rfl hdg k
theorem y_gt (hx : p.tables.exec = Jvm.exec) (hb : c.code = cc) (hown : s.vm.findClass RX1 = some m.cls) (hts : ∀ w ∈ lw_all, w.before args s = true) (hK : va_K D vwCl (tX cB cI) s) (hP : va_P D vwCl (wM h a cI mb mh mw ms tm mu) H) (hdg : decode cc pc = .ok (.getfield 36, 3)) (k : W p l e R s m args below meth c H locs cells slots Q (F0 m (pc + 3) ls (.int (iI tm) :: rest))) : W p l e R s m args below meth c H locs cells slots Q (F0 m pc ls (.ref h :: rest)) :=
  va_get (D := D) (ci := 1) (v := .int (iI tm)) (C := RX1) (T := TX1) (N := 6) hx hb hts in_X1 hown hK hP 0 rfl rfl 4 (by decide) (hts _ q128) (fun _ h9 => h9) rfl hdg k
theorem y_gu (hx : p.tables.exec = Jvm.exec) (hb : c.code = cc) (hown : s.vm.findClass RX1 = some m.cls) (hts : ∀ w ∈ lw_all, w.before args s = true) (hK : va_K D vwCl (tX cB cI) s) (hP : va_P D vwCl (wM h a cI mb mh mw ms tm mu) H) (hdg : decode cc pc = .ok (.getfield 22, 3)) (k : W p l e R s m args below meth c H locs cells slots Q (F0 m (pc + 3) ls (.ref (a 4) :: rest))) : W p l e R s m args below meth c H locs cells slots Q (F0 m pc ls (.ref h :: rest)) :=
  va_get (D := D) (ci := 1) (v := .ref (a 4)) (C := RX1) (T := TX1) (N := 6) hx hb hts in_X1 hown hK hP 0 rfl rfl 5 (by decide) (hts _ q129) (fun _ h9 => h9) rfl hdg k
theorem y_lb (hx : p.tables.exec = Jvm.exec) (hb : c.code = cc) (hK : va_K D vwCl (tX cB cI) s) (hP : va_P D vwCl (wM h a cI mb mh mw ms tm mu) H) {i : Int} (hi : 0 ≤ i ∧ i < 6) (hdg : decode cc pc = .ok (.iaload, 1)) (k : W p l e R s m args below meth c H locs cells slots Q (F0 m (pc + 1) ls (.int (iI (mb i)) :: rest))) : W p l e R s m args below meth c H locs cells slots Q (F0 m pc ls (.int (iI i) :: .ref (a 0) :: rest)) :=
  r_iald hx hb hK hP 1 1 rfl rfl (n := 6) (by omega) (by decide) hdg k
theorem y_sb (hx : p.tables.exec = Jvm.exec) (hb : c.code = cc) (hK : va_K D vwCl (tX cB cI) s) (hP : va_P D vwCl (wM h a cI mb mh mw ms tm mu) H) (hD : va_D A (wM h a cI mb mh mw ms tm mu)) (hS : va_S A H0 H locs) {i v : Int} (hi : 0 ≤ i ∧ i < 6) (hdg : decode cc pc = .ok (.iastore, 1))
    (kk : ∀ (H1 : Heap) (locs1 : List Loc), va_P D vwCl (wM h a cI (iu mb i v) mh mw ms tm mu) H1 → va_D A (wM h a cI (iu mb i v) mh mw ms tm mu) → va_S A H0 H1 locs1 → W p l e R s m args below meth c H1 locs1 cells slots Q (F0 m (pc + 1) ls (rest))) : W p l e R s m args below meth c H locs cells slots Q (F0 m pc ls (.int (iI v) :: .int (iI i) :: .ref (a 0) :: rest)) :=
  r_iast hx hb hK hP hD hS 1 1 rfl rfl (n := 6) (by omega) (by decide) hdg (fun H1 locs1 h1 h2 h3 => kk H1 locs1 h1 h2 h3)
theorem y_lh (hx : p.tables.exec = Jvm.exec) (hb : c.code = cc) (hK : va_K D vwCl (tX cB cI) s) (hP : va_P D vwCl (wM h a cI mb mh mw ms tm mu) H) {i : Int} (hi : 0 ≤ i ∧ i < 5) (hdg : decode cc pc = .ok (.iaload, 1)) (k : W p l e R s m args below meth c H locs cells slots Q (F0 m (pc + 1) ls (.int (iI (mh i)) :: rest))) : W p l e R s m args below meth c H locs cells slots Q (F0 m pc ls (.int (iI i) :: .ref (a 1) :: rest)) :=
  r_iald hx hb hK hP 2 1 rfl rfl (n := 5) (by omega) (by decide) hdg k
theorem y_sh (hx : p.tables.exec = Jvm.exec) (hb : c.code = cc) (hK : va_K D vwCl (tX cB cI) s) (hP : va_P D vwCl (wM h a cI mb mh mw ms tm mu) H) (hD : va_D A (wM h a cI mb mh mw ms tm mu)) (hS : va_S A H0 H locs) {i v : Int} (hi : 0 ≤ i ∧ i < 5) (hdg : decode cc pc = .ok (.iastore, 1))
    (kk : ∀ (H1 : Heap) (locs1 : List Loc), va_P D vwCl (wM h a cI mb (iu mh i v) mw ms tm mu) H1 → va_D A (wM h a cI mb (iu mh i v) mw ms tm mu) → va_S A H0 H1 locs1 → W p l e R s m args below meth c H1 locs1 cells slots Q (F0 m (pc + 1) ls (rest))) : W p l e R s m args below meth c H locs cells slots Q (F0 m pc ls (.int (iI v) :: .int (iI i) :: .ref (a 1) :: rest)) :=
  r_iast hx hb hK hP hD hS 2 1 rfl rfl (n := 5) (by omega) (by decide) hdg (fun H1 locs1 h1 h2 h3 => kk H1 locs1 h1 h2 h3)
theorem y_lw (hx : p.tables.exec = Jvm.exec) (hb : c.code = cc) (hK : va_K D vwCl (tX cB cI) s) (hP : va_P D vwCl (wM h a cI mb mh mw ms tm mu) H) {i : Int} (hi : 0 ≤ i ∧ i < 6) (hdg : decode cc pc = .ok (.iaload, 1)) (k : W p l e R s m args below meth c H locs cells slots Q (F0 m (pc + 1) ls (.int (iI (mw i)) :: rest))) : W p l e R s m args below meth c H locs cells slots Q (F0 m pc ls (.int (iI i) :: .ref (a 2) :: rest)) :=
  r_iald hx hb hK hP 3 1 rfl rfl (n := 6) (by omega) (by decide) hdg k
theorem y_sw (hx : p.tables.exec = Jvm.exec) (hb : c.code = cc) (hK : va_K D vwCl (tX cB cI) s) (hP : va_P D vwCl (wM h a cI mb mh mw ms tm mu) H) (hD : va_D A (wM h a cI mb mh mw ms tm mu)) (hS : va_S A H0 H locs) {i v : Int} (hi : 0 ≤ i ∧ i < 6) (hdg : decode cc pc = .ok (.iastore, 1))
    (kk : ∀ (H1 : Heap) (locs1 : List Loc), va_P D vwCl (wM h a cI mb mh (iu mw i v) ms tm mu) H1 → va_D A (wM h a cI mb mh (iu mw i v) ms tm mu) → va_S A H0 H1 locs1 → W p l e R s m args below meth c H1 locs1 cells slots Q (F0 m (pc + 1) ls (rest))) : W p l e R s m args below meth c H locs cells slots Q (F0 m pc ls (.int (iI v) :: .int (iI i) :: .ref (a 2) :: rest)) :=
  r_iast hx hb hK hP hD hS 3 1 rfl rfl (n := 6) (by omega) (by decide) hdg (fun H1 locs1 h1 h2 h3 => kk H1 locs1 h1 h2 h3)
theorem y_ls (hx : p.tables.exec = Jvm.exec) (hb : c.code = cc) (hK : va_K D vwCl (tX cB cI) s) (hP : va_P D vwCl (wM h a cI mb mh mw ms tm mu) H) {i : Int} (hi : 0 ≤ i ∧ i < 6) (hdg : decode cc pc = .ok (.iaload, 1)) (k : W p l e R s m args below meth c H locs cells slots Q (F0 m (pc + 1) ls (.int (iI (ms i)) :: rest))) : W p l e R s m args below meth c H locs cells slots Q (F0 m pc ls (.int (iI i) :: .ref (a 3) :: rest)) :=
  r_iald hx hb hK hP 4 1 rfl rfl (n := 6) (by omega) (by decide) hdg k
theorem y_ss (hx : p.tables.exec = Jvm.exec) (hb : c.code = cc) (hK : va_K D vwCl (tX cB cI) s) (hP : va_P D vwCl (wM h a cI mb mh mw ms tm mu) H) (hD : va_D A (wM h a cI mb mh mw ms tm mu)) (hS : va_S A H0 H locs) {i v : Int} (hi : 0 ≤ i ∧ i < 6) (hdg : decode cc pc = .ok (.iastore, 1))
    (kk : ∀ (H1 : Heap) (locs1 : List Loc), va_P D vwCl (wM h a cI mb mh mw (iu ms i v) tm mu) H1 → va_D A (wM h a cI mb mh mw (iu ms i v) tm mu) → va_S A H0 H1 locs1 → W p l e R s m args below meth c H1 locs1 cells slots Q (F0 m (pc + 1) ls (rest))) : W p l e R s m args below meth c H locs cells slots Q (F0 m pc ls (.int (iI v) :: .int (iI i) :: .ref (a 3) :: rest)) :=
  r_iast hx hb hK hP hD hS 4 1 rfl rfl (n := 6) (by omega) (by decide) hdg (fun H1 locs1 h1 h2 h3 => kk H1 locs1 h1 h2 h3)
theorem y_lu (hx : p.tables.exec = Jvm.exec) (hb : c.code = cc) (hK : va_K D vwCl (tX cB cI) s) (hP : va_P D vwCl (wM h a cI mb mh mw ms tm mu) H) {i : Int} (hi : 0 ≤ i ∧ i < 6) (hdg : decode cc pc = .ok (.iaload, 1)) (k : W p l e R s m args below meth c H locs cells slots Q (F0 m (pc + 1) ls (.int (iI (mu i)) :: rest))) : W p l e R s m args below meth c H locs cells slots Q (F0 m pc ls (.int (iI i) :: .ref (a 4) :: rest)) :=
  r_iald hx hb hK hP 5 1 rfl rfl (n := 6) (by omega) (by decide) hdg k
theorem y_su (hx : p.tables.exec = Jvm.exec) (hb : c.code = cc) (hK : va_K D vwCl (tX cB cI) s) (hP : va_P D vwCl (wM h a cI mb mh mw ms tm mu) H) (hD : va_D A (wM h a cI mb mh mw ms tm mu)) (hS : va_S A H0 H locs) {i v : Int} (hi : 0 ≤ i ∧ i < 6) (hdg : decode cc pc = .ok (.iastore, 1))
    (kk : ∀ (H1 : Heap) (locs1 : List Loc), va_P D vwCl (wM h a cI mb mh mw ms tm (iu mu i v)) H1 → va_D A (wM h a cI mb mh mw ms tm (iu mu i v)) → va_S A H0 H1 locs1 → W p l e R s m args below meth c H1 locs1 cells slots Q (F0 m (pc + 1) ls (rest))) : W p l e R s m args below meth c H locs cells slots Q (F0 m pc ls (.int (iI v) :: .int (iI i) :: .ref (a 4) :: rest)) :=
  r_iast hx hb hK hP hD hS 5 1 rfl rfl (n := 6) (by omega) (by decide) hdg (fun H1 locs1 h1 h2 h3 => kk H1 locs1 h1 h2 h3)
theorem y_pt (hx : p.tables.exec = Jvm.exec) (hb : c.code = cc) (hown : s.vm.findClass RX1 = some m.cls) (hts : ∀ w ∈ lw_all, w.before args s = true) (hK : va_K D vwCl (tX cB cI) s) (hP : va_P D vwCl (wM h a cI mb mh mw ms tm mu) H) (hD : va_D A (wM h a cI mb mh mw ms tm mu)) (hS : va_S A H0 H locs) {v : Int} (hdg : decode cc pc = .ok (.putfield 36, 3))
    (kk : ∀ (H1 : Heap) (locs1 : List Loc), va_P D vwCl (wM h a cI mb mh mw ms v mu) H1 → va_D A (wM h a cI mb mh mw ms v mu) → va_S A H0 H1 locs1 → W p l e R s m args below meth c H1 locs1 cells slots Q (F0 m (pc + 3) ls (rest))) : W p l e R s m args below meth c H locs cells slots Q (F0 m pc ls (.int (iI v) :: .ref h :: rest)) :=
  va_put (D := D) (ci := 1) (v := .int (iI v)) (ty := .int) (C := RX1) (T := TX1) (N := 6) hx hb hts in_X1 tyX1 tyX1_ok nmX1 hown hK hP hD hS 0 rfl rfl 4 (by decide) (hts _ q128) (fun _ h9 => h9) rfl (by decide +kernel) rfl rfl (Nat.le_of_ble_eq_true rfl) hdg (fun H1 locs1 h1 h2 h3 => kk H1 locs1 h1 h2 h3)
/-- a call through an object, of a method that leaves the heap as it is -/
theorem ro_V {y : MethodName} {bytes : ByteArray} {maxL nL n index : Nat} {ret : Option FieldType} {rm : Room} {own C : String} {b : Nat} {As st0 : List Value} {v : Int32} {cl : List vw_C} {tys : List (ClassId × FieldType)}
    (hM : Met l y (ws_ y bytes maxL ret) rm (va_Pc (.ref b :: As) (fun U => U.heap = H ∧ va_K D cl tys U)) (va_Qi (fun (r : Int32) (_ : Unit) => r = v) (fun _ t => t.heap = H) (fun _ => False)) 0 0 (fun _ => False))
    (S : CallFix p m c cc nL s args lw_all own) (cw : CallW R s args own C index y bytes maxL ret (ws_ y bytes maxL ret) rm 0 0 n) (hK : va_K D cl tys s) (hrc : ∃ cell : Cell, H[b]? = some cell ∧ cell.vm.isStatics = false ∧ s.vm.findClass C = some cell.cls) (hn : As.length = n) (hsz : ls.size = nL) (hst : st0 = As.reverse ++ .ref b :: rest) (hroom : (rest.map fun v => v.category).sum ≤ 8) (hdg : decode cc pc = .ok (.invokevirtual index, 3)) (hf : cells ≤ R.cells ∧ slots ≤ R.slots) (hS : va_S A H0 H locs)
    (k : ∀ locs1 : List Loc, va_S A H0 H locs1 → W p l e R s m args below meth c H locs1 cells slots Q (F0 m (pc + 3) ls (.int v :: rest))) : W p l e R s m args below meth c H locs cells slots Q (F0 m pc ls st0) := by
  refine va_calli (va_runV (As := As) (rest := rest) S hM cw ⟨fun a U g mk q => ?_, hrc, fun U hU hW => ⟨rfl, hU, va_K.moved hW.alike hK⟩⟩ rfl hn hsz hst (lv_room hroom) hdg hf) hS (fun q _ h => h.elim) (fun q h => h.elim) (fun r u t H1 locs1 ht hvm hw hB hz hk hS1 => ?_)
  · obtain ⟨q0, q1, qK⟩ := q
    exact ⟨q0, q1, va_K.moved (u := U) (U := U.calling g mk a) (Vm.Alike.refl U.vm) qK⟩
  · have e1 : H1 = H := ht.symm.trans hB
    have e2 : r = v := hw
    subst e1
    subst e2
    exact k locs1 hS1
theorem ro_S {y : MethodName} {bytes : ByteArray} {maxL nL n index : Nat} {ret : Option FieldType} {rm : Room} {own : String} {As st0 : List Value} {v : Int32} {cl : List vw_C} {tys : List (ClassId × FieldType)}
    (hM : Met l y (ws_ y bytes maxL ret) rm (va_Pc As (fun U => U.heap = H ∧ va_K D cl tys U)) (va_Qi (fun (r : Int32) (_ : Unit) => r = v) (fun _ t => t.heap = H) (fun _ => False)) 0 0 (fun _ => False))
    (S : CallFix p m c cc nL s args lw_all own) (cw : CallB R s args own index y bytes maxL ret (ws_ y bytes maxL ret) rm 0 0 n ∧ (Cond.static y).before args s = true) (hK : va_K D cl tys s) (hn : As.length = n) (hsz : ls.size = nL) (hst : st0 = As.reverse ++ rest) (hroom : (rest.map fun v => v.category).sum ≤ 8) (hdg : decode cc pc = .ok (.invokestatic index, 3)) (hf : cells ≤ R.cells ∧ slots ≤ R.slots) (hS : va_S A H0 H locs)
    (k : ∀ locs1 : List Loc, va_S A H0 H locs1 → W p l e R s m args below meth c H locs1 cells slots Q (F0 m (pc + 3) ls (.int v :: rest))) : W p l e R s m args below meth c H locs cells slots Q (F0 m pc ls st0) := by
  refine va_calli (va_runS (As := As) (rest := rest) S hM cw ⟨fun a U g mk q => ?_, fun U hU hW => ⟨rfl, hU, va_K.moved hW.alike hK⟩⟩ rfl hn hsz hst (lv_room hroom) hdg hf) hS (fun q _ h => h.elim) (fun q h => h.elim) (fun r u t H1 locs1 ht hvm hw hB hz hk hS1 => ?_)
  · obtain ⟨q0, q1, qK⟩ := q
    exact ⟨q0, q1, va_K.moved (u := U) (U := U.calling g mk a) (Vm.Alike.refl U.vm) qK⟩
  · have e1 : H1 = H := ht.symm.trans hB
    have e2 : r = v := hw
    subst e1
    subst e2
    exact k locs1 hS1
end RW1
end
section
/-! 07: PriorityLocks' private methods -/
theorem rfr_n {fb fw fh g : Int → Int} {x : Int} (n : Nat) (h : x < 0) : rfr fb fw fh n g x = g := by
  cases n with
  | zero => rfl
  | succ n => exact if_pos h
theorem rfr_p {fb fw fh g : Int → Int} {x : Int} {n : Nat} (h : 0 ≤ x) : rfr fb fw fh (n + 1) g x = rfr fb fw fh n (iu g x (lnt fb g fw fh x)) (if lnt fb g fw fh x = g x ∨ fw x < 0 then -1 else fh (fw x)) := if_neg (by omega)
theorem dpo_n {fw fh : Int → Int} {o x : Int} {n : Nat} (h : fw x < 0) : dpo fw fh o (n + 1) x = false := if_pos h
theorem dpo_e {fw fh : Int → Int} {o x : Int} {n : Nat} (h : 0 ≤ fw x) (h2 : fh (fw x) = o) : dpo fw fh o (n + 1) x = true := (if_neg (by omega)).trans (if_pos h2)
theorem dpo_s {fw fh : Int → Int} {o x : Int} {n : Nat} (h : 0 ≤ fw x) (h2 : fh (fw x) ≠ o) : dpo fw fh o (n + 1) x = dpo fw fh o n (fh (fw x)) := (if_neg (by omega)).trans (if_neg h2)
theorem it_rg {f : Int → Int → Int} {lo hi : Int} {x : Int} (hx : lo ≤ x ∧ x < hi) : ∀ n : Nat, (∀ (k v : Int), 0 ≤ k → k < (n : Int) → lo ≤ v ∧ v < hi → lo ≤ f k v ∧ f k v < hi) → lo ≤ it f n x ∧ it f n x < hi := by
  intro n
  induction n with
  | zero => intro _; exact hx
  | succ n ih =>
    intro h
    rw [it1]
    exact h _ _ (by omega) (by omega) (ih (fun k v h0 h1 h2 => h k v h0 (by omega) h2))
theorem lnt_rg {fb fu fw fh : Int → Int} {t : Int} (hfb : rg 0 10 6 fb) (hfu : rg 0 10 6 fu) (ht : 0 ≤ t ∧ t < 6) : 0 ≤ lnt fb fu fw fh t ∧ lnt fb fu fw fh t < 10 := by
  unfold lnt
  refine it_rg (hfb t ht.1 ht.2) 6 (fun k v h0 h1 h2 => ?_)
  unfold lnS
  split
  · exact hfu k h0 (by omega)
  · exact h2
theorem bwt_rg {fu fw fs : Int → Int} {l : Int} : -1 ≤ bwt fu fw fs l ∧ bwt fu fw fs l < 6 := by
  unfold bwt
  refine it_rg (by omega) 6 (fun k v h0 h1 h2 => ?_)
  unfold bwS
  split <;> omega
abbrev bX (D : va_G) (A : Nat → Prop) (h : Nat) (a : Nat → Nat) (cB cI : ClassId) (u : PX) (t : State) : Prop := va_P D vwCl (wX h a cB cI u.1 u.2.1 u.2.2.1 u.2.2.2.1 u.2.2.2.2.1 u.2.2.2.2.2) t.heap ∧ va_K D vwCl (tX cB cI) t ∧ va_D A (wX h a cB cI u.1 u.2.1 u.2.2.1 u.2.2.2.1 u.2.2.2.2.1 u.2.2.2.2.2)
abbrev bM (D : va_G) (A : Nat → Prop) (h : Nat) (a : Nat → Nat) (cB cI : ClassId) (u : PM) (t : State) : Prop := va_P D vwCl (wM h a cI u.1 u.2.1 u.2.2.1 u.2.2.2.1 u.2.2.2.2.1 u.2.2.2.2.2) t.heap ∧ va_K D vwCl (tX cB cI) t ∧ va_D A (wM h a cI u.1 u.2.1 u.2.2.1 u.2.2.2.1 u.2.2.2.2.1 u.2.2.2.2.2)
section S07
variable {p : Program} {l : Launch} {e : Env} {R : Room} {s : State} {m : MethodId} {args : Array Value} {below : List Frame} {meth : Method} {c : Code} {H : Heap} {locs : List Loc} {cells slots : Nat} {Q : State → Prop}
variable {cc : ByteArray} {pc nL : Nat} {ls : Array Slot} {rest : List Value} {D : va_G} {A : Nat → Prop} {H0 : Heap} {h : Nat} {a : Nat → Nat} {cB cI : ClassId} {fb fu fw fs fh mb mh mw ms mu : Int → Int} {st tm : Int}
set_option maxHeartbeats 4000000 in
set_option maxRecDepth 100000 in
theorem mX0_isThread (l : Launch) (D : va_G) (cB cI : ClassId) (Hh : Heap) (t : Int) (ht : -2147483648 ≤ t ∧ t < 2147483648) : Met l yX0_isThread (ws_ yX0_isThread cX0_isThread 1 (some .boolean)) ({ frames := 0, cells := 0, slots := 0, locals := 0 }) (va_Pc [.int (iI t)] (fun U => U.heap = Hh ∧ va_K D vwCl (tX cB cI) U)) (va_Qi (fun (r : Int32) (_ : Unit) => r = iI (if 0 ≤ t ∧ t < 6 then 1 else 0)) (fun _ u => u.heap = Hh) (fun _ => False)) 0 0 (fun _ => False) := by
  refine Met.ofW (cc := cX0_isThread) (maxL := 1) (ret := (some .boolean)) (by decide) rfl ?_
  intro p e s m args below meth c s₁ B hml hv
  obtain ⟨rfl, hsz, hK⟩ := hv
  have hx := B.exec
  have hb := B.bytes
  have hr := B.returns
  have hts := atoms_spec (ws := ws_ yX0_isThread cX0_isThread 1 (some .boolean)) B.pre
  have hts : ∀ w ∈ lw_all, w.before _ s = true := fun w h => hts w (List.mem_cons_of_mem _ h)
  have hown : s.vm.findClass RX0 = some m.cls := findClass_of_methodNamed B.named
  have hlocks := B.notSynchronized
  subst hsz
  have hS : va_S (fun _ => False) s.heap s.heap [] := va_S.rf
  have hl := lv_entry ([.int (iI t)]) (n := 1) (Nat.le_of_ble_eq_true rfl)
  rw [lg_entry_eq]
  generalize (lg_sl ([.int (iI t)]) ++ List.replicate (1 - (lg_sl ([.int (iI t)])).length) Slot.unset).toArray = ls at hl ⊢
  have hl : lv_has ls 1 [(0, .int (iI t))] := hl
  refine lv_iload_n hx hb dX0_isThread_0 rfl (lv_at hl 0 rfl) ?_
  refine r_if_lt (tgt := 14) hx hb dX0_isThread_1 (by decide) (by omega) (fun c1_1 => ?_) (fun c1_1 => ?_)
  · refine r_ic hx hb dX0_isThread_14 ?_
    exact W.zret (v := (iI 0)) hx hb hr (by decide +kernel) (fun u hu hW => ⟨⟨_, (), rfl, by rw [if_neg (by omega)], hu⟩, hS.F hu⟩) hS.2.2 dX0_isThread_15
  · refine lv_iload_n hx hb dX0_isThread_4 rfl (lv_at hl 0 rfl) ?_
    refine r_bp hx hb dX0_isThread_5 (by decide +kernel) ?_
    refine r_ic_ge (tgt := 14) hx hb dX0_isThread_7 (by decide) (by omega) (by omega) (fun c7_2 => ?_) (fun c7_2 => ?_)
    · refine r_ic hx hb dX0_isThread_14 ?_
      exact W.zret (v := (iI 0)) hx hb hr (by decide +kernel) (fun u hu hW => ⟨⟨_, (), rfl, by rw [if_neg (by omega)], hu⟩, hS.F hu⟩) hS.2.2 dX0_isThread_15
    · refine r_ic hx hb dX0_isThread_10 ?_
      refine lv_goto (tgt := 15) hx hb dX0_isThread_11 (by decide) ?_
      exact W.zret (v := (iI 1)) hx hb hr (by decide +kernel) (fun u hu hW => ⟨⟨_, (), rfl, by rw [if_pos (by omega)], hu⟩, hS.F hu⟩) hS.2.2 dX0_isThread_15
theorem k_isThread (hx : p.tables.exec = Jvm.exec) (hb : c.code = cc) (hml : c.maxLocals = nL) (hown : s.vm.findClass RX0 = some m.cls) (hts : ∀ w ∈ lw_all, w.before args s = true) (hK : va_K D vwCl (tX cB cI) s) {t : Int} (ht : -2147483648 ≤ t ∧ t < 2147483648) (hRf : 1 ≤ R.frames) (hRl : 20 ≤ R.locals) (hRc : cells ≤ R.cells) (hRs : slots ≤ R.slots) (hS : va_S A H0 H locs) (hsz : ls.size = nL) (hroom : (rest.map fun v => v.category).sum ≤ 8) (hdg : decode cc pc = .ok (.invokestatic 30, 3)) (k : ∀ locs1 : List Loc, va_S A H0 H locs1 → W p l e R s m args below meth c H locs1 cells slots Q (F0 m (pc + 3) ls (.int (iI (if 0 ≤ t ∧ t < 6 then 1 else 0)) :: rest))) : W p l e R s m args below meth c H locs cells slots Q (F0 m pc ls (.int (iI t) :: rest)) :=
  ro_S (As := [.int (iI t)]) (mX0_isThread l D cB cI H t ht) ⟨hx, hb, hml, hown, hts⟩ (va_cwS 1 hts (lw_S q44 q45 q9 q46) rfl rfl rfl (by decide +kernel) ⟨hRf, hRl⟩) hK rfl hsz rfl hroom hdg ⟨hRc, hRs⟩ hS k
set_option maxHeartbeats 4000000 in
set_option maxRecDepth 100000 in
theorem mX0_isLock (l : Launch) (D : va_G) (cB cI : ClassId) (Hh : Heap) (t : Int) (ht : -2147483648 ≤ t ∧ t < 2147483648) : Met l yX0_isLock (ws_ yX0_isLock cX0_isLock 1 (some .boolean)) ({ frames := 0, cells := 0, slots := 0, locals := 0 }) (va_Pc [.int (iI t)] (fun U => U.heap = Hh ∧ va_K D vwCl (tX cB cI) U)) (va_Qi (fun (r : Int32) (_ : Unit) => r = iI (if 0 ≤ t ∧ t < 5 then 1 else 0)) (fun _ u => u.heap = Hh) (fun _ => False)) 0 0 (fun _ => False) := by
  refine Met.ofW (cc := cX0_isLock) (maxL := 1) (ret := (some .boolean)) (by decide) rfl ?_
  intro p e s m args below meth c s₁ B hml hv
  obtain ⟨rfl, hsz, hK⟩ := hv
  have hx := B.exec
  have hb := B.bytes
  have hr := B.returns
  have hts := atoms_spec (ws := ws_ yX0_isLock cX0_isLock 1 (some .boolean)) B.pre
  have hts : ∀ w ∈ lw_all, w.before _ s = true := fun w h => hts w (List.mem_cons_of_mem _ h)
  have hown : s.vm.findClass RX0 = some m.cls := findClass_of_methodNamed B.named
  have hlocks := B.notSynchronized
  subst hsz
  have hS : va_S (fun _ => False) s.heap s.heap [] := va_S.rf
  have hl := lv_entry ([.int (iI t)]) (n := 1) (Nat.le_of_ble_eq_true rfl)
  rw [lg_entry_eq]
  generalize (lg_sl ([.int (iI t)]) ++ List.replicate (1 - (lg_sl ([.int (iI t)])).length) Slot.unset).toArray = ls at hl ⊢
  have hl : lv_has ls 1 [(0, .int (iI t))] := hl
  refine lv_iload_n hx hb dX0_isLock_0 rfl (lv_at hl 0 rfl) ?_
  refine r_if_lt (tgt := 13) hx hb dX0_isLock_1 (by decide) (by omega) (fun c1_1 => ?_) (fun c1_1 => ?_)
  · refine r_ic hx hb dX0_isLock_13 ?_
    exact W.zret (v := (iI 0)) hx hb hr (by decide +kernel) (fun u hu hW => ⟨⟨_, (), rfl, by rw [if_neg (by omega)], hu⟩, hS.F hu⟩) hS.2.2 dX0_isLock_14
  · refine lv_iload_n hx hb dX0_isLock_4 rfl (lv_at hl 0 rfl) ?_
    refine r_ic hx hb dX0_isLock_5 ?_
    refine r_ic_ge (tgt := 13) hx hb dX0_isLock_6 (by decide) (by omega) (by omega) (fun c6_2 => ?_) (fun c6_2 => ?_)
    · refine r_ic hx hb dX0_isLock_13 ?_
      exact W.zret (v := (iI 0)) hx hb hr (by decide +kernel) (fun u hu hW => ⟨⟨_, (), rfl, by rw [if_neg (by omega)], hu⟩, hS.F hu⟩) hS.2.2 dX0_isLock_14
    · refine r_ic hx hb dX0_isLock_9 ?_
      refine lv_goto (tgt := 14) hx hb dX0_isLock_10 (by decide) ?_
      exact W.zret (v := (iI 1)) hx hb hr (by decide +kernel) (fun u hu hW => ⟨⟨_, (), rfl, by rw [if_pos (by omega)], hu⟩, hS.F hu⟩) hS.2.2 dX0_isLock_14
theorem k_isLock (hx : p.tables.exec = Jvm.exec) (hb : c.code = cc) (hml : c.maxLocals = nL) (hown : s.vm.findClass RX0 = some m.cls) (hts : ∀ w ∈ lw_all, w.before args s = true) (hK : va_K D vwCl (tX cB cI) s) {t : Int} (ht : -2147483648 ≤ t ∧ t < 2147483648) (hRf : 1 ≤ R.frames) (hRl : 20 ≤ R.locals) (hRc : cells ≤ R.cells) (hRs : slots ≤ R.slots) (hS : va_S A H0 H locs) (hsz : ls.size = nL) (hroom : (rest.map fun v => v.category).sum ≤ 8) (hdg : decode cc pc = .ok (.invokestatic 34, 3)) (k : ∀ locs1 : List Loc, va_S A H0 H locs1 → W p l e R s m args below meth c H locs1 cells slots Q (F0 m (pc + 3) ls (.int (iI (if 0 ≤ t ∧ t < 5 then 1 else 0)) :: rest))) : W p l e R s m args below meth c H locs cells slots Q (F0 m pc ls (.int (iI t) :: rest)) :=
  ro_S (As := [.int (iI t)]) (mX0_isLock l D cB cI H t ht) ⟨hx, hb, hml, hown, hts⟩ (va_cwS 1 hts (lw_S q47 q48 q9 q49) rfl rfl rfl (by decide +kernel) ⟨hRf, hRl⟩) hK rfl hsz rfl hroom hdg ⟨hRc, hRs⟩ hS k
set_option maxHeartbeats 4000000 in
set_option maxRecDepth 100000 in
theorem lp_lent (hx : p.tables.exec = Jvm.exec) (hb : c.code = cX0_lent) (hml : c.maxLocals = 5) (hown : s.vm.findClass RX0 = some m.cls) (hts : ∀ w ∈ lw_all, w.before args s = true) (hK : va_K D vwCl (tX cB cI) s) (hP : va_P D vwCl (wX h a cB cI fb fu fw fs fh st) H) (hfu : rg 0 10 6 fu) (hfw : rg (-1) 5 6 fw) (hfh : rg (-1) 6 5 fh) {t : Int} (ht : 0 ≤ t ∧ t < 6)
    (kk : ∀ (v : Int) (ls : Array Slot), v = lnt fb fu fw fh t → lv_has ls 5 [(0, .ref h), (2, .int (iI v))] → W p l e R s m args below meth c H locs cells slots Q (F0 m 78 ls [])) :
    ∀ (n k : Nat) (v : Int) (ls : Array Slot), k + n = 6 → v = it (lnS fu fw fh t) k (fb t) → (0 ≤ v ∧ v < 10) → lv_has ls 5 [(0, .ref h), (1, .int (iI t)), (2, .int (iI v)), (3, .int (iI ((k : Int))))] → W p l e R s m args below meth c H locs cells slots Q (F0 m 9 ls []) := by
  intro n
  induction n with
  | zero =>
    intro k v ls hk hv hr hl
    refine lv_iload_n hx hb dX0_lent_9 rfl (lv_at hl 3 rfl) ?_
    refine r_bp hx hb dX0_lent_10 (by decide +kernel) ?_
    refine r_ic_ge (tgt := 78) hx hb dX0_lent_12 (by decide) (by omega) (by omega) (fun c12_1 => ?_) (fun c12_1 => by exfalso; omega)
    exact kk v ls (by obtain rfl : k = 6 := (by omega); exact hv) (lv_sub hl [0, 2] rfl)
  | succ n ih =>
    intro k v ls hk hv hr hl
    refine lv_iload_n hx hb dX0_lent_9 rfl (lv_at hl 3 rfl) ?_
    refine r_bp hx hb dX0_lent_10 (by decide +kernel) ?_
    refine r_ic_ge (tgt := 78) hx hb dX0_lent_12 (by decide) (by omega) (by omega) (fun c12_1 => by exfalso; omega) (fun c12_1 => ?_)
    refine lv_aload_n hx hb dX0_lent_15 rfl (lv_at hl 0 rfl) ?_
    refine x_gw hx hb hown hts hK hP dX0_lent_16 ?_
    refine lv_iload_n hx hb dX0_lent_19 rfl (lv_at hl 3 rfl) ?_
    have z20_2 := hfw ((k : Int)) (by omega) (by omega)
    refine x_lw hx hb hK hP (by omega) dX0_lent_20 ?_
    refine r_if_lt (tgt := 43) hx hb dX0_lent_21 (by decide) (by omega) (fun c21_3 => ?_) (fun c21_3 => ?_)
    · refine r_ic hx hb dX0_lent_43 ?_
      refine lv_istore (lv' := [(4, .int (iI 0)), (0, .ref h), (1, .int (iI t)), (2, .int (iI v)), (3, .int (iI ((k : Int))))]) hx hb dX0_lent_44 hl (by decide) rfl (fun ls hl => ?_)
      refine lv_iload hx hb dX0_lent_46 (lv_at hl 0 rfl) ?_
      refine r_if_eq (tgt := 70) hx hb dX0_lent_48 (by decide) (by omega) (fun c48_4 => ?_) (fun c48_4 => by exfalso; omega)
      refine lv_iload_n hx hb dX0_lent_70 rfl (lv_at hl 3 rfl) ?_
      refine lv_istore_n (lv' := [(2, .int (iI v)), (4, .int (iI 0)), (0, .ref h), (1, .int (iI t)), (3, .int (iI ((k : Int))))]) hx hb dX0_lent_71 rfl hl (by decide) rfl (fun ls hl => ?_)
      refine r_iinc (j := 4) (lv' := [(3, .int (iI (((k + 1 : Nat) : Int)))), (2, .int (iI v)), (4, .int (iI 0)), (0, .ref h), (1, .int (iI t))]) (b := ((k + 1 : Nat) : Int)) hx hb dX0_lent_72 hl rfl (by omega) (by decide) rfl (fun ls hl => ?_)
      refine lv_goto (tgt := 9) hx hb dX0_lent_75 (by decide) ?_
      exact ih (k + 1) v ls (by omega) (by rw [it1, ← hv]; unfold lnS; split <;> omega) (by omega) (lv_sub hl [3, 4, 1, 0] rfl)
    · refine lv_aload_n hx hb dX0_lent_24 rfl (lv_at hl 0 rfl) ?_
      refine x_gh hx hb hown hts hK hP dX0_lent_25 ?_
      refine lv_aload_n hx hb dX0_lent_28 rfl (lv_at hl 0 rfl) ?_
      refine x_gw hx hb hown hts hK hP dX0_lent_29 ?_
      refine lv_iload_n hx hb dX0_lent_32 rfl (lv_at hl 3 rfl) ?_
      refine x_lw hx hb hK hP (by omega) dX0_lent_33 ?_
      have z34_4 := hfh (fw ((k : Int))) (by omega) (by omega)
      refine x_lh hx hb hK hP (by omega) dX0_lent_34 ?_
      refine lv_iload_n hx hb dX0_lent_35 rfl (lv_at hl 1 rfl) ?_
      refine r_ic_ne (tgt := 43) hx hb dX0_lent_36 (by decide) (by omega) (by omega) (fun c36_5 => ?_) (fun c36_5 => ?_)
      · refine r_ic hx hb dX0_lent_43 ?_
        refine lv_istore (lv' := [(4, .int (iI 0)), (0, .ref h), (1, .int (iI t)), (2, .int (iI v)), (3, .int (iI ((k : Int))))]) hx hb dX0_lent_44 hl (by decide) rfl (fun ls hl => ?_)
        refine lv_iload hx hb dX0_lent_46 (lv_at hl 0 rfl) ?_
        refine r_if_eq (tgt := 70) hx hb dX0_lent_48 (by decide) (by omega) (fun c48_6 => ?_) (fun c48_6 => by exfalso; omega)
        refine lv_iload_n hx hb dX0_lent_70 rfl (lv_at hl 3 rfl) ?_
        refine lv_istore_n (lv' := [(2, .int (iI v)), (4, .int (iI 0)), (0, .ref h), (1, .int (iI t)), (3, .int (iI ((k : Int))))]) hx hb dX0_lent_71 rfl hl (by decide) rfl (fun ls hl => ?_)
        refine r_iinc (j := 4) (lv' := [(3, .int (iI (((k + 1 : Nat) : Int)))), (2, .int (iI v)), (4, .int (iI 0)), (0, .ref h), (1, .int (iI t))]) (b := ((k + 1 : Nat) : Int)) hx hb dX0_lent_72 hl rfl (by omega) (by decide) rfl (fun ls hl => ?_)
        refine lv_goto (tgt := 9) hx hb dX0_lent_75 (by decide) ?_
        exact ih (k + 1) v ls (by omega) (by rw [it1, ← hv]; unfold lnS; split <;> omega) (by omega) (lv_sub hl [3, 4, 1, 0] rfl)
      · refine r_ic hx hb dX0_lent_39 ?_
        refine lv_goto (tgt := 44) hx hb dX0_lent_40 (by decide) ?_
        refine lv_istore (lv' := [(4, .int (iI 1)), (0, .ref h), (1, .int (iI t)), (2, .int (iI v)), (3, .int (iI ((k : Int))))]) hx hb dX0_lent_44 hl (by decide) rfl (fun ls hl => ?_)
        refine lv_iload hx hb dX0_lent_46 (lv_at hl 0 rfl) ?_
        refine r_if_eq (tgt := 70) hx hb dX0_lent_48 (by decide) (by omega) (fun c48_6 => by exfalso; omega) (fun c48_6 => ?_)
        refine lv_aload_n hx hb dX0_lent_51 rfl (lv_at hl 1 rfl) ?_
        refine x_gu hx hb hown hts hK hP dX0_lent_52 ?_
        refine lv_iload_n hx hb dX0_lent_55 rfl (lv_at hl 4 rfl) ?_
        have z56_7 := hfu ((k : Int)) (by omega) (by omega)
        refine x_lu hx hb hK hP (by omega) dX0_lent_56 ?_
        refine lv_iload_n hx hb dX0_lent_57 rfl (lv_at hl 3 rfl) ?_
        refine r_ic_le (tgt := 70) hx hb dX0_lent_58 (by decide) (by omega) (by omega) (fun c58_8 => ?_) (fun c58_8 => ?_)
        · refine lv_iload_n hx hb dX0_lent_70 rfl (lv_at hl 3 rfl) ?_
          refine lv_istore_n (lv' := [(2, .int (iI v)), (4, .int (iI 1)), (0, .ref h), (1, .int (iI t)), (3, .int (iI ((k : Int))))]) hx hb dX0_lent_71 rfl hl (by decide) rfl (fun ls hl => ?_)
          refine r_iinc (j := 4) (lv' := [(3, .int (iI (((k + 1 : Nat) : Int)))), (2, .int (iI v)), (4, .int (iI 1)), (0, .ref h), (1, .int (iI t))]) (b := ((k + 1 : Nat) : Int)) hx hb dX0_lent_72 hl rfl (by omega) (by decide) rfl (fun ls hl => ?_)
          refine lv_goto (tgt := 9) hx hb dX0_lent_75 (by decide) ?_
          exact ih (k + 1) v ls (by omega) (by rw [it1, ← hv]; unfold lnS; split <;> omega) (by omega) (lv_sub hl [3, 4, 1, 0] rfl)
        · refine lv_aload_n hx hb dX0_lent_61 rfl (lv_at hl 1 rfl) ?_
          refine x_gu hx hb hown hts hK hP dX0_lent_62 ?_
          refine lv_iload_n hx hb dX0_lent_65 rfl (lv_at hl 4 rfl) ?_
          refine x_lu hx hb hK hP (by omega) dX0_lent_66 ?_
          refine lv_goto (tgt := 71) hx hb dX0_lent_67 (by decide) ?_
          refine lv_istore_n (lv' := [(2, .int (iI (fu ((k : Int))))), (4, .int (iI 1)), (0, .ref h), (1, .int (iI t)), (3, .int (iI ((k : Int))))]) hx hb dX0_lent_71 rfl hl (by decide) rfl (fun ls hl => ?_)
          refine r_iinc (j := 4) (lv' := [(3, .int (iI (((k + 1 : Nat) : Int)))), (2, .int (iI (fu ((k : Int))))), (4, .int (iI 1)), (0, .ref h), (1, .int (iI t))]) (b := ((k + 1 : Nat) : Int)) hx hb dX0_lent_72 hl rfl (by omega) (by decide) rfl (fun ls hl => ?_)
          refine lv_goto (tgt := 9) hx hb dX0_lent_75 (by decide) ?_
          exact ih (k + 1) (fu ((k : Int))) ls (by omega) (by rw [it1, ← hv]; unfold lnS; split <;> omega) (by omega) (lv_sub hl [3, 4, 1, 0] rfl)
set_option maxHeartbeats 4000000 in
set_option maxRecDepth 100000 in
theorem mX0_lent (l : Launch) (D : va_G) (cB cI : ClassId) (Hh : Heap) {fb fu fw fs fh : Int → Int} {st : Int} (h : Nat) (a : Nat → Nat) (hP : va_P D vwCl (wX h a cB cI fb fu fw fs fh st) Hh) (hfb : rg 0 10 6 fb) (hfu : rg 0 10 6 fu) (hfw : rg (-1) 5 6 fw) (hfh : rg (-1) 6 5 fh) (t : Int) (ht : 0 ≤ t ∧ t < 6) : Met l yX0_lent (ws_ yX0_lent cX0_lent 5 (some .int)) ({ frames := 0, cells := 0, slots := 0, locals := 0 }) (va_Pc [.ref h, .int (iI t)] (fun U => U.heap = Hh ∧ va_K D vwCl (tX cB cI) U)) (va_Qi (fun (r : Int32) (_ : Unit) => r = iI (lnt fb fu fw fh t)) (fun _ u => u.heap = Hh) (fun _ => False)) 0 0 (fun _ => False) := by
  refine Met.ofW (cc := cX0_lent) (maxL := 5) (ret := (some .int)) (by decide) rfl ?_
  intro p e s m args below meth c s₁ B hml hv
  obtain ⟨rfl, hsz, hK⟩ := hv
  have hx := B.exec
  have hb := B.bytes
  have hr := B.returns
  have hts := atoms_spec (ws := ws_ yX0_lent cX0_lent 5 (some .int)) B.pre
  have hts : ∀ w ∈ lw_all, w.before _ s = true := fun w h => hts w (List.mem_cons_of_mem _ h)
  have hown : s.vm.findClass RX0 = some m.cls := findClass_of_methodNamed B.named
  have hlocks := B.notSynchronized
  subst hsz
  have hS : va_S (fun _ => False) s.heap s.heap [] := va_S.rf
  have hl := lv_entry ([.ref h, .int (iI t)]) (n := 5) (Nat.le_of_ble_eq_true rfl)
  rw [lg_entry_eq]
  generalize (lg_sl ([.ref h, .int (iI t)]) ++ List.replicate (5 - (lg_sl ([.ref h, .int (iI t)])).length) Slot.unset).toArray = ls at hl ⊢
  have hl : lv_has ls 5 [(0, .ref h), (1, .int (iI t))] := hl
  refine lv_aload_n hx hb dX0_lent_0 rfl (lv_at hl 0 rfl) ?_
  refine x_gb hx hb hown hts hK hP dX0_lent_1 ?_
  refine lv_iload_n hx hb dX0_lent_4 rfl (lv_at hl 1 rfl) ?_
  have z5_1 := hfb t (by omega) (by omega)
  refine x_lb hx hb hK hP (by omega) dX0_lent_5 ?_
  refine lv_istore_n (lv' := [(2, .int (iI (fb t))), (0, .ref h), (1, .int (iI t))]) hx hb dX0_lent_6 rfl hl (by decide) rfl (fun ls hl => ?_)
  refine r_ic hx hb dX0_lent_7 ?_
  refine lv_istore_n (lv' := [(3, .int (iI 0)), (2, .int (iI (fb t))), (0, .ref h), (1, .int (iI t))]) hx hb dX0_lent_8 rfl hl (by decide) rfl (fun ls hl => ?_)
  have zb := hfb t ht.1 ht.2
  refine lp_lent hx hb hml hown hts hK hP hfu hfw hfh ht (fun v ls hv hl => ?_) 6 0 (fb t) ls rfl rfl (by omega) (lv_sub hl [2, 3, 1, 0] rfl)
  refine lv_iload_n hx hb dX0_lent_78 rfl (lv_at hl 1 rfl) ?_
  exact W.iret (v := (iI v)) hx hb hr (fun u hu hW => ⟨⟨_, (), rfl, by rw [hv], hu⟩, hS.F hu⟩) hS.2.2 dX0_lent_79
theorem k_lent (hx : p.tables.exec = Jvm.exec) (hb : c.code = cc) (hml : c.maxLocals = nL) (hown : s.vm.findClass RX0 = some m.cls) (hts : ∀ w ∈ lw_all, w.before args s = true) (hK : va_K D vwCl (tX cB cI) s) (hP : va_P D vwCl (wX h a cB cI fb fu fw fs fh st) H) (hfb : rg 0 10 6 fb) (hfu : rg 0 10 6 fu) (hfw : rg (-1) 5 6 fw) (hfh : rg (-1) 6 5 fh) {t : Int} (ht : 0 ≤ t ∧ t < 6) (hRf : 1 ≤ R.frames) (hRl : 24 ≤ R.locals) (hRc : cells ≤ R.cells) (hRs : slots ≤ R.slots) (hS : va_S A H0 H locs) (hsz : ls.size = nL) (hroom : (rest.map fun v => v.category).sum ≤ 8) (hdg : decode cc pc = .ok (.invokevirtual 26, 3)) (k : ∀ locs1 : List Loc, va_S A H0 H locs1 → W p l e R s m args below meth c H locs1 cells slots Q (F0 m (pc + 3) ls (.int (iI (lnt fb fu fw fh t)) :: rest))) : W p l e R s m args below meth c H locs cells slots Q (F0 m pc ls (.int (iI t) :: .ref h :: rest)) :=
  ro_V (As := [.int (iI t)]) (mX0_lent l D cB cI H h a hP hfb hfu hfw hfh t ht) ⟨hx, hb, hml, hown, hts⟩ (cwV 1 hts (lw_V q58 q60 qs2 q9 q61) rfl rfl rfl (by decide +kernel) ⟨hRf, hRl⟩) hK (va_recv hK hP (ci := 0) (q0 := 0) rfl rfl) rfl hsz rfl hroom hdg ⟨hRc, hRs⟩ hS k
set_option maxHeartbeats 4000000 in
set_option maxRecDepth 100000 in
theorem lp_refresh (hx : p.tables.exec = Jvm.exec) (hb : c.code = cX0_refresh) (hml : c.maxLocals = 6) (hown : s.vm.findClass RX0 = some m.cls) (hts : ∀ w ∈ lw_all, w.before args s = true) (hK : va_K D vwCl (tX cB cI) s) (hRf : 1 ≤ R.frames) (hRl : 24 ≤ R.locals) (hRc : cells ≤ R.cells) (hRs : slots ≤ R.slots) (hfb : rg 0 10 6 fb) (hfw : rg (-1) 5 6 fw) (hfh : rg (-1) 6 5 fh) (hwk : wk fw fh) {gg : Int → Int}
    (kk : ∀ (g : Int → Int) (H : Heap) (locs : List Loc) (ls : Array Slot), g = gg → va_P D vwCl (wX h a cB cI fb g fw fs fh st) H → va_D A (wX h a cB cI fb g fw fs fh st) → va_S A H0 H locs → W p l e R s m args below meth c H locs cells slots Q (F0 m 84 ls [])) :
    ∀ (n k : Nat) (g : Int → Int) (x : Int) (H : Heap) (locs : List Loc) (ls : Array Slot), k + n = 6 → rfr fb fw fh n g x = gg → rg 0 10 6 g → (-1 ≤ x ∧ x < 6) → va_P D vwCl (wX h a cB cI fb g fw fs fh st) H → va_D A (wX h a cB cI fb g fw fs fh st) → va_S A H0 H locs → lv_has ls 6 [(0, .ref h), (2, .int (iI x)), (3, .int (iI ((k : Int))))] → W p l e R s m args below meth c H locs cells slots Q (F0 m 4 ls []) := by
  intro n
  induction n with
  | zero =>
    intro k g x H locs ls hk hv hg hxr hP hD hS hl
    refine lv_iload_n hx hb dX0_refresh_4 rfl (lv_at hl 2 rfl) ?_
    refine r_bp hx hb dX0_refresh_5 (by decide +kernel) ?_
    refine r_ic_ge (tgt := 84) hx hb dX0_refresh_7 (by decide) (by omega) (by omega) (fun c7_1 => ?_) (fun c7_1 => by exfalso; omega)
    exact kk g H locs ls hv hP hD hS
  | succ n ih =>
    intro k g x H locs ls hk hv hg hxr hP hD hS hl
    refine lv_iload_n hx hb dX0_refresh_4 rfl (lv_at hl 2 rfl) ?_
    refine r_bp hx hb dX0_refresh_5 (by decide +kernel) ?_
    refine r_ic_ge (tgt := 84) hx hb dX0_refresh_7 (by decide) (by omega) (by omega) (fun c7_1 => by exfalso; omega) (fun c7_1 => ?_)
    refine lv_iload_n hx hb dX0_refresh_10 rfl (lv_at hl 1 rfl) ?_
    refine r_if_lt (tgt := 84) hx hb dX0_refresh_11 (by decide) (by omega) (fun c11_2 => ?_) (fun c11_2 => ?_)
    · exact kk g H locs ls (by rw [← hv, rfr_n _ c11_2]) hP hD hS
    · refine lv_aload_n hx hb dX0_refresh_14 rfl (lv_at hl 0 rfl) ?_
      refine lv_iload_n hx hb dX0_refresh_15 rfl (lv_at hl 1 rfl) ?_
      refine k_lent hx hb hml hown hts hK hP hfb hg hfw hfh (by omega) hRf hRl hRc hRs hS hl.1 (Nat.le_of_ble_eq_true rfl) dX0_refresh_16 (fun locs hS => ?_)
      have zl := lnt_rg (fw := fw) (fh := fh) hfb hg (show 0 ≤ x ∧ x < 6 by omega)
      refine lv_istore (lv' := [(4, .int (iI (lnt fb g fw fh x))), (0, .ref h), (2, .int (iI x)), (3, .int (iI ((k : Int))))]) hx hb dX0_refresh_19 hl (by decide) rfl (fun ls hl => ?_)
      refine lv_iload hx hb dX0_refresh_21 (lv_at hl 0 rfl) ?_
      refine lv_aload_n hx hb dX0_refresh_23 rfl (lv_at hl 1 rfl) ?_
      refine x_gu hx hb hown hts hK hP dX0_refresh_24 ?_
      refine lv_iload_n hx hb dX0_refresh_27 rfl (lv_at hl 2 rfl) ?_
      have z28_3 := hg x (by omega) (by omega)
      refine x_lu hx hb hK hP (by omega) dX0_refresh_28 ?_
      refine r_ic_ne (tgt := 36) hx hb dX0_refresh_29 (by decide) (by omega) (by omega) (fun c29_4 => ?_) (fun c29_4 => ?_)
      · refine r_ic hx hb dX0_refresh_36 ?_
        refine lv_istore (lv' := [(5, .int (iI 0)), (4, .int (iI (lnt fb g fw fh x))), (0, .ref h), (2, .int (iI x)), (3, .int (iI ((k : Int))))]) hx hb dX0_refresh_37 hl (by decide) rfl (fun ls hl => ?_)
        refine lv_aload_n hx hb dX0_refresh_39 rfl (lv_at hl 2 rfl) ?_
        refine x_gu hx hb hown hts hK hP dX0_refresh_40 ?_
        refine lv_iload_n hx hb dX0_refresh_43 rfl (lv_at hl 3 rfl) ?_
        refine lv_iload hx hb dX0_refresh_44 (lv_at hl 1 rfl) ?_
        refine r_i2b hx hb dX0_refresh_46 (by omega) ?_
        refine x_su hx hb hK hP hD hS (by omega) (by omega) dX0_refresh_47 (fun H locs hP hD hS => ?_)
        refine lv_iload hx hb dX0_refresh_48 (lv_at hl 0 rfl) ?_
        refine r_if_ne (tgt := 62) hx hb dX0_refresh_50 (by decide) (by omega) (fun c50_5 => by exfalso; omega) (fun c50_5 => ?_)
        refine lv_aload_n hx hb dX0_refresh_53 rfl (lv_at hl 2 rfl) ?_
        refine x_gw hx hb hown hts hK hP dX0_refresh_54 ?_
        refine lv_iload_n hx hb dX0_refresh_57 rfl (lv_at hl 3 rfl) ?_
        have z58_6 := hfw x (by omega) (by omega)
        refine x_lw hx hb hK hP (by omega) dX0_refresh_58 ?_
        refine r_if_ge (tgt := 66) hx hb dX0_refresh_59 (by decide) (by omega) (fun c59_7 => ?_) (fun c59_7 => ?_)
        · refine lv_aload_n hx hb dX0_refresh_66 rfl (lv_at hl 2 rfl) ?_
          refine x_gh hx hb hown hts hK hP dX0_refresh_67 ?_
          refine lv_aload_n hx hb dX0_refresh_70 rfl (lv_at hl 2 rfl) ?_
          refine x_gw hx hb hown hts hK hP dX0_refresh_71 ?_
          refine lv_iload_n hx hb dX0_refresh_74 rfl (lv_at hl 3 rfl) ?_
          refine x_lw hx hb hK hP (by omega) dX0_refresh_75 ?_
          have z76_8 := hfh (fw x) (by omega) (by omega)
          refine x_lh hx hb hK hP (by omega) dX0_refresh_76 ?_
          refine lv_istore_n (lv' := [(2, .int (iI (fh (fw x)))), (5, .int (iI 0)), (4, .int (iI (lnt fb g fw fh x))), (0, .ref h), (3, .int (iI ((k : Int))))]) hx hb dX0_refresh_77 rfl hl (by decide) rfl (fun ls hl => ?_)
          refine r_iinc (j := 4) (lv' := [(3, .int (iI (((k + 1 : Nat) : Int)))), (2, .int (iI (fh (fw x)))), (5, .int (iI 0)), (4, .int (iI (lnt fb g fw fh x))), (0, .ref h)]) (b := ((k + 1 : Nat) : Int)) hx hb dX0_refresh_78 hl rfl (by omega) (by decide) rfl (fun ls hl => ?_)
          refine lv_goto (tgt := 4) hx hb dX0_refresh_81 (by decide) ?_
          exact ih (k + 1) (iu g x (lnt fb g fw fh x)) (fh (fw x)) H locs ls (by omega) (by rw [← hv, rfr_p (show 0 ≤ x by omega), if_neg (by omega)]) (rg_iu hg zl) (by omega) hP hD hS (lv_sub hl [4, 1, 0] rfl)
        · refine r_ic hx hb dX0_refresh_62 ?_
          refine lv_goto (tgt := 77) hx hb dX0_refresh_63 (by decide) ?_
          refine lv_istore_n (lv' := [(2, .int (iI (-1))), (5, .int (iI 0)), (4, .int (iI (lnt fb g fw fh x))), (0, .ref h), (3, .int (iI ((k : Int))))]) hx hb dX0_refresh_77 rfl hl (by decide) rfl (fun ls hl => ?_)
          refine r_iinc (j := 4) (lv' := [(3, .int (iI (((k + 1 : Nat) : Int)))), (2, .int (iI (-1))), (5, .int (iI 0)), (4, .int (iI (lnt fb g fw fh x))), (0, .ref h)]) (b := ((k + 1 : Nat) : Int)) hx hb dX0_refresh_78 hl rfl (by omega) (by decide) rfl (fun ls hl => ?_)
          refine lv_goto (tgt := 4) hx hb dX0_refresh_81 (by decide) ?_
          exact ih (k + 1) (iu g x (lnt fb g fw fh x)) (-1) H locs ls (by omega) (by rw [← hv, rfr_p (show 0 ≤ x by omega), if_pos (by omega)]) (rg_iu hg zl) (by omega) hP hD hS (lv_sub hl [4, 1, 0] rfl)
      · refine r_ic hx hb dX0_refresh_32 ?_
        refine lv_goto (tgt := 37) hx hb dX0_refresh_33 (by decide) ?_
        refine lv_istore (lv' := [(5, .int (iI 1)), (4, .int (iI (lnt fb g fw fh x))), (0, .ref h), (2, .int (iI x)), (3, .int (iI ((k : Int))))]) hx hb dX0_refresh_37 hl (by decide) rfl (fun ls hl => ?_)
        refine lv_aload_n hx hb dX0_refresh_39 rfl (lv_at hl 2 rfl) ?_
        refine x_gu hx hb hown hts hK hP dX0_refresh_40 ?_
        refine lv_iload_n hx hb dX0_refresh_43 rfl (lv_at hl 3 rfl) ?_
        refine lv_iload hx hb dX0_refresh_44 (lv_at hl 1 rfl) ?_
        refine r_i2b hx hb dX0_refresh_46 (by omega) ?_
        refine x_su hx hb hK hP hD hS (by omega) (by omega) dX0_refresh_47 (fun H locs hP hD hS => ?_)
        refine lv_iload hx hb dX0_refresh_48 (lv_at hl 0 rfl) ?_
        refine r_if_ne (tgt := 62) hx hb dX0_refresh_50 (by decide) (by omega) (fun c50_5 => ?_) (fun c50_5 => by exfalso; omega)
        refine r_ic hx hb dX0_refresh_62 ?_
        refine lv_goto (tgt := 77) hx hb dX0_refresh_63 (by decide) ?_
        refine lv_istore_n (lv' := [(2, .int (iI (-1))), (5, .int (iI 1)), (4, .int (iI (lnt fb g fw fh x))), (0, .ref h), (3, .int (iI ((k : Int))))]) hx hb dX0_refresh_77 rfl hl (by decide) rfl (fun ls hl => ?_)
        refine r_iinc (j := 4) (lv' := [(3, .int (iI (((k + 1 : Nat) : Int)))), (2, .int (iI (-1))), (5, .int (iI 1)), (4, .int (iI (lnt fb g fw fh x))), (0, .ref h)]) (b := ((k + 1 : Nat) : Int)) hx hb dX0_refresh_78 hl rfl (by omega) (by decide) rfl (fun ls hl => ?_)
        refine lv_goto (tgt := 4) hx hb dX0_refresh_81 (by decide) ?_
        exact ih (k + 1) (iu g x (lnt fb g fw fh x)) (-1) H locs ls (by omega) (by rw [← hv, rfr_p (show 0 ≤ x by omega), if_pos (by omega)]) (rg_iu hg zl) (by omega) hP hD hS (lv_sub hl [4, 1, 0] rfl)
set_option maxHeartbeats 4000000 in
set_option maxRecDepth 100000 in
theorem mX0_refresh (l : Launch) (D : va_G) (h : Nat) (a : Nat → Nat) (cB cI : ClassId) (sz : Nat) (fb fu fw fs fh : Int → Int) (st : Int) (hfb : rg 0 10 6 fb) (hfu : rg 0 10 6 fu) (hfw : rg (-1) 5 6 fw) (hfh : rg (-1) 6 5 fh) (hwk : wk fw fh) (t : Int) (ht : 0 ≤ t ∧ t < 6) : Met l yX0_refresh (ws_ yX0_refresh cX0_refresh 6 none) ({ frames := 1, cells := 0, slots := 0, locals := 24 }) (va_Pc [.ref h, .int (iI t)] (fun U => U.heap.size = sz ∧ va_P D vwCl (wX h a cB cI fb fu fw fs fh st) U.heap ∧ va_K D vwCl (tX cB cI) U ∧ va_D (fun _ => True) (wX h a cB cI fb fu fw fs fh st))) (va_Qv (fun u : PX => u = (fb, rfr fb fw fh 6 fu t, fw, fs, fh, st)) (bX D (va_A (wX h a cB cI fb fu fw fs fh st) sz) h a cB cI) (va_A (wX h a cB cI fb fu fw fs fh st) sz)) 0 0 (va_A (wX h a cB cI fb fu fw fs fh st) sz) := by
  refine Met.ofW (cc := cX0_refresh) (maxL := 6) (ret := none) (by decide) rfl ?_
  intro p e s m args below meth c s₁ B hml hv
  obtain ⟨rfl, hsz, hP, hK, hD0⟩ := hv
  have hx := B.exec
  have hb := B.bytes
  have hr := B.returns
  have hts := atoms_spec (ws := ws_ yX0_refresh cX0_refresh 6 none) B.pre
  have hts : ∀ w ∈ lw_all, w.before _ s = true := fun w h => hts w (List.mem_cons_of_mem _ h)
  have hown : s.vm.findClass RX0 = some m.cls := findClass_of_methodNamed B.named
  have hlocks := B.notSynchronized
  subst hsz
  have hD := hD0.self (sz := s.heap.size)
  generalize hAe : va_A (wX h a cB cI fb fu fw fs fh st) s.heap.size = A at hD ⊢
  have hA : ∀ q : Nat, s.heap.size ≤ q → A q := fun q h => by rw [← hAe]; exact Or.inr h
  have hS : va_S A s.heap s.heap [] := va_S.rf
  have hl := lv_entry ([.ref h, .int (iI t)]) (n := 6) (Nat.le_of_ble_eq_true rfl)
  rw [lg_entry_eq]
  generalize (lg_sl ([.ref h, .int (iI t)]) ++ List.replicate (6 - (lg_sl ([.ref h, .int (iI t)])).length) Slot.unset).toArray = ls at hl ⊢
  have hl : lv_has ls 6 [(0, .ref h), (1, .int (iI t))] := hl
  refine lv_iload_n hx hb dX0_refresh_0 rfl (lv_at hl 1 rfl) ?_
  refine lv_istore_n (lv' := [(2, .int (iI t)), (0, .ref h), (1, .int (iI t))]) hx hb dX0_refresh_1 rfl hl (by decide) rfl (fun ls hl => ?_)
  refine r_ic hx hb dX0_refresh_2 ?_
  refine lv_istore_n (lv' := [(3, .int (iI 0)), (2, .int (iI t)), (0, .ref h), (1, .int (iI t))]) hx hb dX0_refresh_3 rfl hl (by decide) rfl (fun ls hl => ?_)
  refine lp_refresh hx hb hml hown hts hK (Nat.le_of_ble_eq_true rfl) (Nat.le_of_ble_eq_true rfl) (Nat.zero_le _) (Nat.zero_le _) hfb hfw hfh hwk (gg := rfr fb fw fh 6 fu t) (fun g H locs ls hv hP hD hS => ?_) 6 0 fu t s.heap [] ls rfl rfl hfu (by omega) hP hD hS (lv_sub hl [2, 1, 0] rfl)
  exact W.vret hx hb hr (fun u hu hW => ⟨⟨(fb, g, fw, fs, fh, st), rfl, by rw [hv], by rw [hu]; exact hP, va_K.moved hW.alike hK, hD⟩, hS.F hu⟩) hS.2.2 dX0_refresh_84
set_option maxHeartbeats 4000000 in
set_option maxRecDepth 100000 in
theorem k_refresh (hx : p.tables.exec = Jvm.exec) (hb : c.code = cc) (hml : c.maxLocals = nL) (hown : s.vm.findClass RX0 = some m.cls) (hts : ∀ w ∈ lw_all, w.before args s = true) (hK : va_K D vwCl (tX cB cI) s) (hP : va_P D vwCl (wX h a cB cI fb fu fw fs fh st) H) (hD : va_D A (wX h a cB cI fb fu fw fs fh st)) (hA : ∀ q : Nat, H0.size ≤ q → A q) (hfb : rg 0 10 6 fb) (hfu : rg 0 10 6 fu) (hfw : rg (-1) 5 6 fw) (hfh : rg (-1) 6 5 fh) (hwk : wk fw fh) {t : Int} (ht : 0 ≤ t ∧ t < 6) (hRf : 2 ≤ R.frames) (hRl : 49 ≤ R.locals) (hRc : cells ≤ R.cells) (hRs : slots ≤ R.slots) (hS : va_S A H0 H locs) (hsz : ls.size = nL) (hroom : (rest.map fun v => v.category).sum ≤ 8) (hdg : decode cc pc = .ok (.invokevirtual 45, 3)) (k : ∀ (H1 : Heap) (locs1 : List Loc), va_P D vwCl (wX h a cB cI fb (rfr fb fw fh 6 fu t) fw fs fh st) H1 → va_D A (wX h a cB cI fb (rfr fb fw fh 6 fu t) fw fs fh st) → va_S A H0 H1 locs1 → W p l e R s m args below meth c H1 locs1 cells slots Q (F0 m (pc + 3) ls rest)) : W p l e R s m args below meth c H locs cells slots Q (F0 m pc ls (.int (iI t) :: .ref h :: rest)) := by
  have hFc := va_free (wc := (wX h a cB cI fb fu fw fs fh st)) hD hS hA [0, 1, 2, 3, 4, 5] rfl
  refine va_callv (va_runV (As := [.int (iI t)]) (rest := rest) ⟨hx, hb, hml, hown, hts⟩ (mX0_refresh l D h a cB cI H.size fb fu fw fs fh st hfb hfu hfw hfh hwk t ht) (cwV 1 hts (lw_V q54 q56 qs1 q9 q57) rfl rfl rfl (by decide +kernel) ⟨hRf, hRl⟩) ⟨fun a U g mk q => ?_, va_recv hK hP (ci := 0) (q0 := 0) rfl rfl, fun U hU hW => ⟨rfl, by rw [hU], by rw [hU]; exact hP, va_K.moved hW.alike hK, hD.weaken (fun _ _ _ _ => trivial)⟩⟩ rfl rfl hsz rfl (lv_room hroom) hdg ⟨hRc, hRs⟩) hS (fun q _ h => hFc q h) hFc (fun u t1 H1 locs1 ht1 hvm hw hB hz1 hk1 hS1 => ?_)
  · obtain ⟨q0, q1, qP, qK, qD⟩ := q
    exact ⟨q0, q1, qP, va_K.moved (u := U) (U := U.calling g mk a) (Vm.Alike.refl U.vm) qK, qD⟩
  · obtain ⟨hP1, hK1, hD1⟩ := hB
    have hw : u = (fb, rfr fb fw fh 6 fu t, fw, fs, fh, st) := hw
    subst hw
    rw [ht1] at hP1
    exact k H1 locs1 hP1 (hD1.weaken (fun _ q _ h => hFc q.1 h)) hS1
set_option maxHeartbeats 4000000 in
set_option maxRecDepth 100000 in
theorem lp_dep (hx : p.tables.exec = Jvm.exec) (hb : c.code = cX0_dependsOn) (hml : c.maxLocals = 5) (hown : s.vm.findClass RX0 = some m.cls) (hts : ∀ w ∈ lw_all, w.before args s = true) (hK : va_K D vwCl (tX cB cI) s) (hP : va_P D vwCl (wX h a cB cI fb fu fw fs fh st) H) (hfw : rg (-1) 5 6 fw) (hfh : rg (-1) 6 5 fh) (hwk : wk fw fh) {o : Int} (ho : 0 ≤ o ∧ o < 6) {r : Bool}
    (k1 : ∀ ls : Array Slot, r = true → W p l e R s m args below meth c H locs cells slots Q (F0 m 38 ls [])) (k0 : ∀ ls : Array Slot, r = false → W p l e R s m args below meth c H locs cells slots Q (F0 m 46 ls [])) :
    ∀ (n k : Nat) (x : Int) (ls : Array Slot), k + n = 6 → dpo fw fh o n x = r → (0 ≤ x ∧ x < 6) → lv_has ls 5 [(0, .ref h), (2, .int (iI o)), (3, .int (iI x)), (4, .int (iI ((k : Int))))] → W p l e R s m args below meth c H locs cells slots Q (F0 m 5 ls []) := by
  intro n
  induction n with
  | zero =>
    intro k x ls hk hv hxr hl
    refine lv_iload hx hb dX0_dependsOn_5 (lv_at hl 3 rfl) ?_
    refine r_bp hx hb dX0_dependsOn_7 (by decide +kernel) ?_
    refine r_ic_ge (tgt := 46) hx hb dX0_dependsOn_9 (by decide) (by omega) (by omega) (fun c9_1 => ?_) (fun c9_1 => by exfalso; omega)
    exact k0 ls hv.symm
  | succ n ih =>
    intro k x ls hk hv hxr hl
    refine lv_iload hx hb dX0_dependsOn_5 (lv_at hl 3 rfl) ?_
    refine r_bp hx hb dX0_dependsOn_7 (by decide +kernel) ?_
    refine r_ic_ge (tgt := 46) hx hb dX0_dependsOn_9 (by decide) (by omega) (by omega) (fun c9_1 => by exfalso; omega) (fun c9_1 => ?_)
    refine lv_aload_n hx hb dX0_dependsOn_12 rfl (lv_at hl 0 rfl) ?_
    refine x_gw hx hb hown hts hK hP dX0_dependsOn_13 ?_
    refine lv_iload_n hx hb dX0_dependsOn_16 rfl (lv_at hl 2 rfl) ?_
    have z17_2 := hfw x (by omega) (by omega)
    refine x_lw hx hb hK hP (by omega) dX0_dependsOn_17 ?_
    refine r_if_lt (tgt := 46) hx hb dX0_dependsOn_18 (by decide) (by omega) (fun c18_3 => ?_) (fun c18_3 => ?_)
    · exact k0 ls (by rw [← hv, dpo_n c18_3])
    · refine lv_aload_n hx hb dX0_dependsOn_21 rfl (lv_at hl 0 rfl) ?_
      refine x_gh hx hb hown hts hK hP dX0_dependsOn_22 ?_
      refine lv_aload_n hx hb dX0_dependsOn_25 rfl (lv_at hl 0 rfl) ?_
      refine x_gw hx hb hown hts hK hP dX0_dependsOn_26 ?_
      refine lv_iload_n hx hb dX0_dependsOn_29 rfl (lv_at hl 2 rfl) ?_
      refine x_lw hx hb hK hP (by omega) dX0_dependsOn_30 ?_
      have z31_4 := hfh (fw x) (by omega) (by omega)
      refine x_lh hx hb hK hP (by omega) dX0_dependsOn_31 ?_
      refine lv_istore_n (lv' := [(3, .int (iI (fh (fw x)))), (0, .ref h), (2, .int (iI o)), (4, .int (iI ((k : Int))))]) hx hb dX0_dependsOn_32 rfl hl (by decide) rfl (fun ls hl => ?_)
      refine lv_iload_n hx hb dX0_dependsOn_33 rfl (lv_at hl 0 rfl) ?_
      refine lv_iload_n hx hb dX0_dependsOn_34 rfl (lv_at hl 2 rfl) ?_
      refine r_ic_ne (tgt := 40) hx hb dX0_dependsOn_35 (by decide) (by omega) (by omega) (fun c35_5 => ?_) (fun c35_5 => ?_)
      · refine r_iinc (j := 3) (lv' := [(4, .int (iI (((k + 1 : Nat) : Int)))), (3, .int (iI (fh (fw x)))), (0, .ref h), (2, .int (iI o))]) (b := ((k + 1 : Nat) : Int)) hx hb dX0_dependsOn_40 hl rfl (by omega) (by decide) rfl (fun ls hl => ?_)
        refine lv_goto (tgt := 5) hx hb dX0_dependsOn_43 (by decide) ?_
        have zk := hwk x hxr.1 hxr.2 c18_3
        exact ih (k + 1) (fh (fw x)) ls (by omega) (by rw [← hv, dpo_s c18_3 c35_5]) (by omega) (lv_sub hl [2, 3, 1, 0] rfl)
      · exact k1 ls (by rw [← hv, dpo_e c18_3 c35_5])
set_option maxHeartbeats 4000000 in
set_option maxRecDepth 100000 in
theorem mX0_dependsOn (l : Launch) (D : va_G) (cB cI : ClassId) (Hh : Heap) {fb fu fw fs fh : Int → Int} {st : Int} (h : Nat) (a : Nat → Nat) (hP : va_P D vwCl (wX h a cB cI fb fu fw fs fh st) Hh) (hfw : rg (-1) 5 6 fw) (hfh : rg (-1) 6 5 fh) (hwk : wk fw fh) (x o : Int) (hxr : 0 ≤ x ∧ x < 6) (ho : 0 ≤ o ∧ o < 6) : Met l yX0_dependsOn (ws_ yX0_dependsOn cX0_dependsOn 5 (some .boolean)) ({ frames := 0, cells := 0, slots := 0, locals := 0 }) (va_Pc [.ref h, .int (iI x), .int (iI o)] (fun U => U.heap = Hh ∧ va_K D vwCl (tX cB cI) U)) (va_Qi (fun (r : Int32) (_ : Unit) => r = iI (if dpo fw fh o 6 x then 1 else 0)) (fun _ u => u.heap = Hh) (fun _ => False)) 0 0 (fun _ => False) := by
  refine Met.ofW (cc := cX0_dependsOn) (maxL := 5) (ret := (some .boolean)) (by decide) rfl ?_
  intro p e s m args below meth c s₁ B hml hv
  obtain ⟨rfl, hsz, hK⟩ := hv
  have hx := B.exec
  have hb := B.bytes
  have hr := B.returns
  have hts := atoms_spec (ws := ws_ yX0_dependsOn cX0_dependsOn 5 (some .boolean)) B.pre
  have hts : ∀ w ∈ lw_all, w.before _ s = true := fun w h => hts w (List.mem_cons_of_mem _ h)
  have hown : s.vm.findClass RX0 = some m.cls := findClass_of_methodNamed B.named
  have hlocks := B.notSynchronized
  subst hsz
  have hS : va_S (fun _ => False) s.heap s.heap [] := va_S.rf
  have hl := lv_entry ([.ref h, .int (iI x), .int (iI o)]) (n := 5) (Nat.le_of_ble_eq_true rfl)
  rw [lg_entry_eq]
  generalize (lg_sl ([.ref h, .int (iI x), .int (iI o)]) ++ List.replicate (5 - (lg_sl ([.ref h, .int (iI x), .int (iI o)])).length) Slot.unset).toArray = ls at hl ⊢
  have hl : lv_has ls 5 [(0, .ref h), (1, .int (iI x)), (2, .int (iI o))] := hl
  refine lv_iload_n hx hb dX0_dependsOn_0 rfl (lv_at hl 1 rfl) ?_
  refine lv_istore_n (lv' := [(3, .int (iI x)), (0, .ref h), (1, .int (iI x)), (2, .int (iI o))]) hx hb dX0_dependsOn_1 rfl hl (by decide) rfl (fun ls hl => ?_)
  refine r_ic hx hb dX0_dependsOn_2 ?_
  refine lv_istore (lv' := [(4, .int (iI 0)), (3, .int (iI x)), (0, .ref h), (1, .int (iI x)), (2, .int (iI o))]) hx hb dX0_dependsOn_3 hl (by decide) rfl (fun ls hl => ?_)
  refine lp_dep hx hb hml hown hts hK hP hfw hfh hwk ho (r := dpo fw fh o 6 x) (fun ls hr1 => ?_) (fun ls hr0 => ?_) 6 0 x ls rfl rfl hxr (lv_sub hl [2, 4, 1, 0] rfl)
  · refine r_ic hx hb dX0_dependsOn_38 ?_
    exact W.zret (v := (iI 1)) hx hb hr (by decide +kernel) (fun u hu hW => ⟨⟨_, (), rfl, by rw [hr1]; rfl, hu⟩, hS.F hu⟩) hS.2.2 dX0_dependsOn_39
  · refine r_ic hx hb dX0_dependsOn_46 ?_
    exact W.zret (v := (iI 0)) hx hb hr (by decide +kernel) (fun u hu hW => ⟨⟨_, (), rfl, by rw [hr0]; rfl, hu⟩, hS.F hu⟩) hS.2.2 dX0_dependsOn_47
theorem k_dep (hx : p.tables.exec = Jvm.exec) (hb : c.code = cc) (hml : c.maxLocals = nL) (hown : s.vm.findClass RX0 = some m.cls) (hts : ∀ w ∈ lw_all, w.before args s = true) (hK : va_K D vwCl (tX cB cI) s) (hP : va_P D vwCl (wX h a cB cI fb fu fw fs fh st) H) (hfw : rg (-1) 5 6 fw) (hfh : rg (-1) 6 5 fh) (hwk : wk fw fh) {x o : Int} (hxr : 0 ≤ x ∧ x < 6) (ho : 0 ≤ o ∧ o < 6) (hRf : 1 ≤ R.frames) (hRl : 24 ≤ R.locals) (hRc : cells ≤ R.cells) (hRs : slots ≤ R.slots) (hS : va_S A H0 H locs) (hsz : ls.size = nL) (hroom : (rest.map fun v => v.category).sum ≤ 8) (hdg : decode cc pc = .ok (.invokevirtual 37, 3)) (k : ∀ locs1 : List Loc, va_S A H0 H locs1 → W p l e R s m args below meth c H locs1 cells slots Q (F0 m (pc + 3) ls (.int (iI (if dpo fw fh o 6 x then 1 else 0)) :: rest))) : W p l e R s m args below meth c H locs cells slots Q (F0 m pc ls (.int (iI o) :: .int (iI x) :: .ref h :: rest)) :=
  ro_V (As := [.int (iI x), .int (iI o)]) (mX0_dependsOn l D cB cI H h a hP hfw hfh hwk x o hxr ho) ⟨hx, hb, hml, hown, hts⟩ (cwV 2 hts (lw_V q50 q52 qs0 q9 q53) rfl rfl rfl (by decide +kernel) ⟨hRf, hRl⟩) hK (va_recv hK hP (ci := 0) (q0 := 0) rfl rfl) rfl hsz rfl hroom hdg ⟨hRc, hRs⟩ hS k
set_option maxHeartbeats 4000000 in
set_option maxRecDepth 100000 in
theorem lp_best (hx : p.tables.exec = Jvm.exec) (hb : c.code = cX0_bestWaiting) (hml : c.maxLocals = 6) (hown : s.vm.findClass RX0 = some m.cls) (hts : ∀ w ∈ lw_all, w.before args s = true) (hK : va_K D vwCl (tX cB cI) s) (hP : va_P D vwCl (wX h a cB cI fb fu fw fs fh st) H) (hfu : rg 0 10 6 fu) (hfw : rg (-1) 5 6 fw) (hfs : rg 0 1000000 6 fs) {lk : Int} (hlk : -2147483648 ≤ lk ∧ lk < 2147483648)
    (kk : ∀ (v : Int) (ls : Array Slot), v = bwt fu fw fs lk → lv_has ls 6 [(0, .ref h), (2, .int (iI v))] → W p l e R s m args below meth c H locs cells slots Q (F0 m 109 ls [])) :
    ∀ (n k : Nat) (v : Int) (ls : Array Slot), k + n = 6 → v = it (bwS fu fw fs lk) k (-1) → (-1 ≤ v ∧ v < 6) → lv_has ls 6 [(0, .ref h), (1, .int (iI lk)), (2, .int (iI v)), (3, .int (iI ((k : Int))))] → W p l e R s m args below meth c H locs cells slots Q (F0 m 4 ls []) := by
  intro n
  induction n with
  | zero =>
    intro k v ls hk hv hr hl
    refine lv_iload_n hx hb dX0_bestWaiting_4 rfl (lv_at hl 3 rfl) ?_
    refine r_bp hx hb dX0_bestWaiting_5 (by decide +kernel) ?_
    refine r_ic_ge (tgt := 109) hx hb dX0_bestWaiting_7 (by decide) (by omega) (by omega) (fun c7_1 => ?_) (fun c7_1 => by exfalso; omega)
    exact kk v ls (by obtain rfl : k = 6 := (by omega); exact hv) (lv_sub hl [0, 2] rfl)
  | succ n ih =>
    intro k v ls hk hv hr hl
    refine lv_iload_n hx hb dX0_bestWaiting_4 rfl (lv_at hl 3 rfl) ?_
    refine r_bp hx hb dX0_bestWaiting_5 (by decide +kernel) ?_
    refine r_ic_ge (tgt := 109) hx hb dX0_bestWaiting_7 (by decide) (by omega) (by omega) (fun c7_1 => by exfalso; omega) (fun c7_1 => ?_)
    refine lv_aload_n hx hb dX0_bestWaiting_10 rfl (lv_at hl 0 rfl) ?_
    refine x_gw hx hb hown hts hK hP dX0_bestWaiting_11 ?_
    refine lv_iload_n hx hb dX0_bestWaiting_14 rfl (lv_at hl 3 rfl) ?_
    have z15_2 := hfw ((k : Int)) (by omega) (by omega)
    refine x_lw hx hb hK hP (by omega) dX0_bestWaiting_15 ?_
    refine lv_iload_n hx hb dX0_bestWaiting_16 rfl (lv_at hl 1 rfl) ?_
    refine r_ic_ne (tgt := 103) hx hb dX0_bestWaiting_17 (by decide) (by omega) (by omega) (fun c17_3 => ?_) (fun c17_3 => ?_)
    · refine r_iinc (j := 3) (lv' := [(3, .int (iI (((k + 1 : Nat) : Int)))), (0, .ref h), (1, .int (iI lk)), (2, .int (iI v))]) (b := ((k + 1 : Nat) : Int)) hx hb dX0_bestWaiting_103 hl rfl (by omega) (by decide) rfl (fun ls hl => ?_)
      refine lv_goto (tgt := 4) hx hb dX0_bestWaiting_106 (by decide) ?_
      exact ih (k + 1) v ls (by omega) (by rw [it1, ← hv]; unfold bwS; split <;> omega) (by omega) (lv_sub hl [1, 2, 3, 0] rfl)
    · refine lv_iload_n hx hb dX0_bestWaiting_20 rfl (lv_at hl 2 rfl) ?_
      refine r_if_lt (tgt := 39) hx hb dX0_bestWaiting_21 (by decide) (by omega) (fun c21_4 => ?_) (fun c21_4 => ?_)
      · refine r_ic hx hb dX0_bestWaiting_39 ?_
        refine lv_goto (tgt := 44) hx hb dX0_bestWaiting_40 (by decide) ?_
        refine lv_istore (lv' := [(4, .int (iI 1)), (0, .ref h), (1, .int (iI lk)), (2, .int (iI v)), (3, .int (iI ((k : Int))))]) hx hb dX0_bestWaiting_44 hl (by decide) rfl (fun ls hl => ?_)
        refine lv_iload_n hx hb dX0_bestWaiting_46 rfl (lv_at hl 3 rfl) ?_
        refine r_if_lt (tgt := 84) hx hb dX0_bestWaiting_47 (by decide) (by omega) (fun c47_5 => ?_) (fun c47_5 => by exfalso; omega)
        refine r_ic hx hb dX0_bestWaiting_84 ?_
        refine lv_istore (lv' := [(5, .int (iI 0)), (4, .int (iI 1)), (0, .ref h), (1, .int (iI lk)), (2, .int (iI v)), (3, .int (iI ((k : Int))))]) hx hb dX0_bestWaiting_85 hl (by decide) rfl (fun ls hl => ?_)
        refine lv_iload hx hb dX0_bestWaiting_87 (lv_at hl 1 rfl) ?_
        refine r_if_ne (tgt := 97) hx hb dX0_bestWaiting_89 (by decide) (by omega) (fun c89_6 => ?_) (fun c89_6 => by exfalso; omega)
        refine lv_iload_n hx hb dX0_bestWaiting_97 rfl (lv_at hl 5 rfl) ?_
        refine lv_goto (tgt := 102) hx hb dX0_bestWaiting_98 (by decide) ?_
        refine lv_istore_n (lv' := [(2, .int (iI ((k : Int)))), (5, .int (iI 0)), (4, .int (iI 1)), (0, .ref h), (1, .int (iI lk)), (3, .int (iI ((k : Int))))]) hx hb dX0_bestWaiting_102 rfl hl (by decide) rfl (fun ls hl => ?_)
        refine r_iinc (j := 5) (lv' := [(3, .int (iI (((k + 1 : Nat) : Int)))), (2, .int (iI ((k : Int)))), (5, .int (iI 0)), (4, .int (iI 1)), (0, .ref h), (1, .int (iI lk))]) (b := ((k + 1 : Nat) : Int)) hx hb dX0_bestWaiting_103 hl rfl (by omega) (by decide) rfl (fun ls hl => ?_)
        refine lv_goto (tgt := 4) hx hb dX0_bestWaiting_106 (by decide) ?_
        exact ih (k + 1) ((k : Int)) ls (by omega) (by rw [it1, ← hv]; unfold bwS; split <;> omega) (by omega) (lv_sub hl [4, 5, 1, 0] rfl)
      · refine lv_aload_n hx hb dX0_bestWaiting_24 rfl (lv_at hl 0 rfl) ?_
        refine x_gu hx hb hown hts hK hP dX0_bestWaiting_25 ?_
        refine lv_iload_n hx hb dX0_bestWaiting_28 rfl (lv_at hl 3 rfl) ?_
        have z29_5 := hfu ((k : Int)) (by omega) (by omega)
        refine x_lu hx hb hK hP (by omega) dX0_bestWaiting_29 ?_
        refine lv_aload_n hx hb dX0_bestWaiting_30 rfl (lv_at hl 0 rfl) ?_
        refine x_gu hx hb hown hts hK hP dX0_bestWaiting_31 ?_
        refine lv_iload_n hx hb dX0_bestWaiting_34 rfl (lv_at hl 2 rfl) ?_
        have z35_6 := hfu v (by omega) (by omega)
        refine x_lu hx hb hK hP (by omega) dX0_bestWaiting_35 ?_
        refine r_ic_le (tgt := 43) hx hb dX0_bestWaiting_36 (by decide) (by omega) (by omega) (fun c36_7 => ?_) (fun c36_7 => ?_)
        · refine r_ic hx hb dX0_bestWaiting_43 ?_
          refine lv_istore (lv' := [(4, .int (iI 0)), (0, .ref h), (1, .int (iI lk)), (2, .int (iI v)), (3, .int (iI ((k : Int))))]) hx hb dX0_bestWaiting_44 hl (by decide) rfl (fun ls hl => ?_)
          refine lv_iload_n hx hb dX0_bestWaiting_46 rfl (lv_at hl 3 rfl) ?_
          refine r_if_lt (tgt := 84) hx hb dX0_bestWaiting_47 (by decide) (by omega) (fun c47_8 => by exfalso; omega) (fun c47_8 => ?_)
          refine lv_aload_n hx hb dX0_bestWaiting_50 rfl (lv_at hl 1 rfl) ?_
          refine x_gu hx hb hown hts hK hP dX0_bestWaiting_51 ?_
          refine lv_iload_n hx hb dX0_bestWaiting_54 rfl (lv_at hl 4 rfl) ?_
          refine x_lu hx hb hK hP (by omega) dX0_bestWaiting_55 ?_
          refine lv_aload_n hx hb dX0_bestWaiting_56 rfl (lv_at hl 1 rfl) ?_
          refine x_gu hx hb hown hts hK hP dX0_bestWaiting_57 ?_
          refine lv_iload_n hx hb dX0_bestWaiting_60 rfl (lv_at hl 3 rfl) ?_
          refine x_lu hx hb hK hP (by omega) dX0_bestWaiting_61 ?_
          refine r_ic_ne (tgt := 84) hx hb dX0_bestWaiting_62 (by decide) (by omega) (by omega) (fun c62_9 => ?_) (fun c62_9 => ?_)
          · refine r_ic hx hb dX0_bestWaiting_84 ?_
            refine lv_istore (lv' := [(5, .int (iI 0)), (4, .int (iI 0)), (0, .ref h), (1, .int (iI lk)), (2, .int (iI v)), (3, .int (iI ((k : Int))))]) hx hb dX0_bestWaiting_85 hl (by decide) rfl (fun ls hl => ?_)
            refine lv_iload hx hb dX0_bestWaiting_87 (lv_at hl 1 rfl) ?_
            refine r_if_ne (tgt := 97) hx hb dX0_bestWaiting_89 (by decide) (by omega) (fun c89_10 => by exfalso; omega) (fun c89_10 => ?_)
            refine lv_iload hx hb dX0_bestWaiting_92 (lv_at hl 0 rfl) ?_
            refine r_if_eq (tgt := 101) hx hb dX0_bestWaiting_94 (by decide) (by omega) (fun c94_11 => ?_) (fun c94_11 => by exfalso; omega)
            refine lv_iload_n hx hb dX0_bestWaiting_101 rfl (lv_at hl 4 rfl) ?_
            refine lv_istore_n (lv' := [(2, .int (iI v)), (5, .int (iI 0)), (4, .int (iI 0)), (0, .ref h), (1, .int (iI lk)), (3, .int (iI ((k : Int))))]) hx hb dX0_bestWaiting_102 rfl hl (by decide) rfl (fun ls hl => ?_)
            refine r_iinc (j := 5) (lv' := [(3, .int (iI (((k + 1 : Nat) : Int)))), (2, .int (iI v)), (5, .int (iI 0)), (4, .int (iI 0)), (0, .ref h), (1, .int (iI lk))]) (b := ((k + 1 : Nat) : Int)) hx hb dX0_bestWaiting_103 hl rfl (by omega) (by decide) rfl (fun ls hl => ?_)
            refine lv_goto (tgt := 4) hx hb dX0_bestWaiting_106 (by decide) ?_
            exact ih (k + 1) v ls (by omega) (by rw [it1, ← hv]; unfold bwS; split <;> omega) (by omega) (lv_sub hl [4, 5, 1, 0] rfl)
          · refine lv_aload_n hx hb dX0_bestWaiting_65 rfl (lv_at hl 1 rfl) ?_
            refine x_gs hx hb hown hts hK hP dX0_bestWaiting_66 ?_
            refine lv_iload_n hx hb dX0_bestWaiting_69 rfl (lv_at hl 4 rfl) ?_
            have z70_10 := hfs ((k : Int)) (by omega) (by omega)
            refine x_ls hx hb hK hP (by omega) dX0_bestWaiting_70 ?_
            refine lv_aload_n hx hb dX0_bestWaiting_71 rfl (lv_at hl 1 rfl) ?_
            refine x_gs hx hb hown hts hK hP dX0_bestWaiting_72 ?_
            refine lv_iload_n hx hb dX0_bestWaiting_75 rfl (lv_at hl 3 rfl) ?_
            have z76_11 := hfs v (by omega) (by omega)
            refine x_ls hx hb hK hP (by omega) dX0_bestWaiting_76 ?_
            refine r_ic_ge (tgt := 84) hx hb dX0_bestWaiting_77 (by decide) (by omega) (by omega) (fun c77_12 => ?_) (fun c77_12 => ?_)
            · refine r_ic hx hb dX0_bestWaiting_84 ?_
              refine lv_istore (lv' := [(5, .int (iI 0)), (4, .int (iI 0)), (0, .ref h), (1, .int (iI lk)), (2, .int (iI v)), (3, .int (iI ((k : Int))))]) hx hb dX0_bestWaiting_85 hl (by decide) rfl (fun ls hl => ?_)
              refine lv_iload hx hb dX0_bestWaiting_87 (lv_at hl 1 rfl) ?_
              refine r_if_ne (tgt := 97) hx hb dX0_bestWaiting_89 (by decide) (by omega) (fun c89_13 => by exfalso; omega) (fun c89_13 => ?_)
              refine lv_iload hx hb dX0_bestWaiting_92 (lv_at hl 0 rfl) ?_
              refine r_if_eq (tgt := 101) hx hb dX0_bestWaiting_94 (by decide) (by omega) (fun c94_14 => ?_) (fun c94_14 => by exfalso; omega)
              refine lv_iload_n hx hb dX0_bestWaiting_101 rfl (lv_at hl 4 rfl) ?_
              refine lv_istore_n (lv' := [(2, .int (iI v)), (5, .int (iI 0)), (4, .int (iI 0)), (0, .ref h), (1, .int (iI lk)), (3, .int (iI ((k : Int))))]) hx hb dX0_bestWaiting_102 rfl hl (by decide) rfl (fun ls hl => ?_)
              refine r_iinc (j := 5) (lv' := [(3, .int (iI (((k + 1 : Nat) : Int)))), (2, .int (iI v)), (5, .int (iI 0)), (4, .int (iI 0)), (0, .ref h), (1, .int (iI lk))]) (b := ((k + 1 : Nat) : Int)) hx hb dX0_bestWaiting_103 hl rfl (by omega) (by decide) rfl (fun ls hl => ?_)
              refine lv_goto (tgt := 4) hx hb dX0_bestWaiting_106 (by decide) ?_
              exact ih (k + 1) v ls (by omega) (by rw [it1, ← hv]; unfold bwS; split <;> omega) (by omega) (lv_sub hl [4, 5, 1, 0] rfl)
            · refine r_ic hx hb dX0_bestWaiting_80 ?_
              refine lv_goto (tgt := 85) hx hb dX0_bestWaiting_81 (by decide) ?_
              refine lv_istore (lv' := [(5, .int (iI 1)), (4, .int (iI 0)), (0, .ref h), (1, .int (iI lk)), (2, .int (iI v)), (3, .int (iI ((k : Int))))]) hx hb dX0_bestWaiting_85 hl (by decide) rfl (fun ls hl => ?_)
              refine lv_iload hx hb dX0_bestWaiting_87 (lv_at hl 1 rfl) ?_
              refine r_if_ne (tgt := 97) hx hb dX0_bestWaiting_89 (by decide) (by omega) (fun c89_13 => by exfalso; omega) (fun c89_13 => ?_)
              refine lv_iload hx hb dX0_bestWaiting_92 (lv_at hl 0 rfl) ?_
              refine r_if_eq (tgt := 101) hx hb dX0_bestWaiting_94 (by decide) (by omega) (fun c94_14 => by exfalso; omega) (fun c94_14 => ?_)
              refine lv_iload_n hx hb dX0_bestWaiting_97 rfl (lv_at hl 5 rfl) ?_
              refine lv_goto (tgt := 102) hx hb dX0_bestWaiting_98 (by decide) ?_
              refine lv_istore_n (lv' := [(2, .int (iI ((k : Int)))), (5, .int (iI 1)), (4, .int (iI 0)), (0, .ref h), (1, .int (iI lk)), (3, .int (iI ((k : Int))))]) hx hb dX0_bestWaiting_102 rfl hl (by decide) rfl (fun ls hl => ?_)
              refine r_iinc (j := 5) (lv' := [(3, .int (iI (((k + 1 : Nat) : Int)))), (2, .int (iI ((k : Int)))), (5, .int (iI 1)), (4, .int (iI 0)), (0, .ref h), (1, .int (iI lk))]) (b := ((k + 1 : Nat) : Int)) hx hb dX0_bestWaiting_103 hl rfl (by omega) (by decide) rfl (fun ls hl => ?_)
              refine lv_goto (tgt := 4) hx hb dX0_bestWaiting_106 (by decide) ?_
              exact ih (k + 1) ((k : Int)) ls (by omega) (by rw [it1, ← hv]; unfold bwS; split <;> omega) (by omega) (lv_sub hl [4, 5, 1, 0] rfl)
        · refine r_ic hx hb dX0_bestWaiting_39 ?_
          refine lv_goto (tgt := 44) hx hb dX0_bestWaiting_40 (by decide) ?_
          refine lv_istore (lv' := [(4, .int (iI 1)), (0, .ref h), (1, .int (iI lk)), (2, .int (iI v)), (3, .int (iI ((k : Int))))]) hx hb dX0_bestWaiting_44 hl (by decide) rfl (fun ls hl => ?_)
          refine lv_iload_n hx hb dX0_bestWaiting_46 rfl (lv_at hl 3 rfl) ?_
          refine r_if_lt (tgt := 84) hx hb dX0_bestWaiting_47 (by decide) (by omega) (fun c47_8 => by exfalso; omega) (fun c47_8 => ?_)
          refine lv_aload_n hx hb dX0_bestWaiting_50 rfl (lv_at hl 1 rfl) ?_
          refine x_gu hx hb hown hts hK hP dX0_bestWaiting_51 ?_
          refine lv_iload_n hx hb dX0_bestWaiting_54 rfl (lv_at hl 4 rfl) ?_
          refine x_lu hx hb hK hP (by omega) dX0_bestWaiting_55 ?_
          refine lv_aload_n hx hb dX0_bestWaiting_56 rfl (lv_at hl 1 rfl) ?_
          refine x_gu hx hb hown hts hK hP dX0_bestWaiting_57 ?_
          refine lv_iload_n hx hb dX0_bestWaiting_60 rfl (lv_at hl 3 rfl) ?_
          refine x_lu hx hb hK hP (by omega) dX0_bestWaiting_61 ?_
          refine r_ic_ne (tgt := 84) hx hb dX0_bestWaiting_62 (by decide) (by omega) (by omega) (fun c62_9 => ?_) (fun c62_9 => by exfalso; omega)
          refine r_ic hx hb dX0_bestWaiting_84 ?_
          refine lv_istore (lv' := [(5, .int (iI 0)), (4, .int (iI 1)), (0, .ref h), (1, .int (iI lk)), (2, .int (iI v)), (3, .int (iI ((k : Int))))]) hx hb dX0_bestWaiting_85 hl (by decide) rfl (fun ls hl => ?_)
          refine lv_iload hx hb dX0_bestWaiting_87 (lv_at hl 1 rfl) ?_
          refine r_if_ne (tgt := 97) hx hb dX0_bestWaiting_89 (by decide) (by omega) (fun c89_10 => ?_) (fun c89_10 => by exfalso; omega)
          refine lv_iload_n hx hb dX0_bestWaiting_97 rfl (lv_at hl 5 rfl) ?_
          refine lv_goto (tgt := 102) hx hb dX0_bestWaiting_98 (by decide) ?_
          refine lv_istore_n (lv' := [(2, .int (iI ((k : Int)))), (5, .int (iI 0)), (4, .int (iI 1)), (0, .ref h), (1, .int (iI lk)), (3, .int (iI ((k : Int))))]) hx hb dX0_bestWaiting_102 rfl hl (by decide) rfl (fun ls hl => ?_)
          refine r_iinc (j := 5) (lv' := [(3, .int (iI (((k + 1 : Nat) : Int)))), (2, .int (iI ((k : Int)))), (5, .int (iI 0)), (4, .int (iI 1)), (0, .ref h), (1, .int (iI lk))]) (b := ((k + 1 : Nat) : Int)) hx hb dX0_bestWaiting_103 hl rfl (by omega) (by decide) rfl (fun ls hl => ?_)
          refine lv_goto (tgt := 4) hx hb dX0_bestWaiting_106 (by decide) ?_
          exact ih (k + 1) ((k : Int)) ls (by omega) (by rw [it1, ← hv]; unfold bwS; split <;> omega) (by omega) (lv_sub hl [4, 5, 1, 0] rfl)
set_option maxHeartbeats 4000000 in
set_option maxRecDepth 100000 in
theorem mX0_bestWaiting (l : Launch) (D : va_G) (cB cI : ClassId) (Hh : Heap) {fb fu fw fs fh : Int → Int} {st : Int} (h : Nat) (a : Nat → Nat) (hP : va_P D vwCl (wX h a cB cI fb fu fw fs fh st) Hh) (hfu : rg 0 10 6 fu) (hfw : rg (-1) 5 6 fw) (hfs : rg 0 1000000 6 fs) (lk : Int) (hlk : -2147483648 ≤ lk ∧ lk < 2147483648) : Met l yX0_bestWaiting (ws_ yX0_bestWaiting cX0_bestWaiting 6 (some .int)) ({ frames := 0, cells := 0, slots := 0, locals := 0 }) (va_Pc [.ref h, .int (iI lk)] (fun U => U.heap = Hh ∧ va_K D vwCl (tX cB cI) U)) (va_Qi (fun (r : Int32) (_ : Unit) => r = iI (bwt fu fw fs lk)) (fun _ u => u.heap = Hh) (fun _ => False)) 0 0 (fun _ => False) := by
  refine Met.ofW (cc := cX0_bestWaiting) (maxL := 6) (ret := (some .int)) (by decide) rfl ?_
  intro p e s m args below meth c s₁ B hml hv
  obtain ⟨rfl, hsz, hK⟩ := hv
  have hx := B.exec
  have hb := B.bytes
  have hr := B.returns
  have hts := atoms_spec (ws := ws_ yX0_bestWaiting cX0_bestWaiting 6 (some .int)) B.pre
  have hts : ∀ w ∈ lw_all, w.before _ s = true := fun w h => hts w (List.mem_cons_of_mem _ h)
  have hown : s.vm.findClass RX0 = some m.cls := findClass_of_methodNamed B.named
  have hlocks := B.notSynchronized
  subst hsz
  have hS : va_S (fun _ => False) s.heap s.heap [] := va_S.rf
  have hl := lv_entry ([.ref h, .int (iI lk)]) (n := 6) (Nat.le_of_ble_eq_true rfl)
  rw [lg_entry_eq]
  generalize (lg_sl ([.ref h, .int (iI lk)]) ++ List.replicate (6 - (lg_sl ([.ref h, .int (iI lk)])).length) Slot.unset).toArray = ls at hl ⊢
  have hl : lv_has ls 6 [(0, .ref h), (1, .int (iI lk))] := hl
  refine r_ic hx hb dX0_bestWaiting_0 ?_
  refine lv_istore_n (lv' := [(2, .int (iI (-1))), (0, .ref h), (1, .int (iI lk))]) hx hb dX0_bestWaiting_1 rfl hl (by decide) rfl (fun ls hl => ?_)
  refine r_ic hx hb dX0_bestWaiting_2 ?_
  refine lv_istore_n (lv' := [(3, .int (iI 0)), (2, .int (iI (-1))), (0, .ref h), (1, .int (iI lk))]) hx hb dX0_bestWaiting_3 rfl hl (by decide) rfl (fun ls hl => ?_)
  refine lp_best hx hb hml hown hts hK hP hfu hfw hfs hlk (fun v ls hv hl => ?_) 6 0 (-1) ls rfl rfl (by omega) (lv_sub hl [2, 3, 1, 0] rfl)
  refine lv_iload_n hx hb dX0_bestWaiting_109 rfl (lv_at hl 1 rfl) ?_
  exact W.iret (v := (iI v)) hx hb hr (fun u hu hW => ⟨⟨_, (), rfl, by rw [hv], hu⟩, hS.F hu⟩) hS.2.2 dX0_bestWaiting_110
theorem k_best (hx : p.tables.exec = Jvm.exec) (hb : c.code = cc) (hml : c.maxLocals = nL) (hown : s.vm.findClass RX0 = some m.cls) (hts : ∀ w ∈ lw_all, w.before args s = true) (hK : va_K D vwCl (tX cB cI) s) (hP : va_P D vwCl (wX h a cB cI fb fu fw fs fh st) H) (hfu : rg 0 10 6 fu) (hfw : rg (-1) 5 6 fw) (hfs : rg 0 1000000 6 fs) {lk : Int} (hlk : -2147483648 ≤ lk ∧ lk < 2147483648) (hRf : 1 ≤ R.frames) (hRl : 25 ≤ R.locals) (hRc : cells ≤ R.cells) (hRs : slots ≤ R.slots) (hS : va_S A H0 H locs) (hsz : ls.size = nL) (hroom : (rest.map fun v => v.category).sum ≤ 8) (hdg : decode cc pc = .ok (.invokevirtual 49, 3)) (k : ∀ locs1 : List Loc, va_S A H0 H locs1 → W p l e R s m args below meth c H locs1 cells slots Q (F0 m (pc + 3) ls (.int (iI (bwt fu fw fs lk)) :: rest))) : W p l e R s m args below meth c H locs cells slots Q (F0 m pc ls (.int (iI lk) :: .ref h :: rest)) :=
  ro_V (As := [.int (iI lk)]) (mX0_bestWaiting l D cB cI H h a hP hfu hfw hfs lk hlk) ⟨hx, hb, hml, hown, hts⟩ (cwV 1 hts (lw_V q66 q68 qs3 q9 q69) rfl rfl rfl (by decide +kernel) ⟨hRf, hRl⟩) hK (va_recv hK hP (ci := 0) (q0 := 0) rfl rfl) rfl hsz rfl hroom hdg ⟨hRc, hRs⟩ hS k
end S07
end
section
/-! 08: PriorityLocks' questions -/
section S08
variable {p : Program} {l : Launch} {e : Env} {R : Room} {s : State} {m : MethodId} {args : Array Value} {below : List Frame} {meth : Method} {c : Code} {H : Heap} {locs : List Loc} {cells slots : Nat} {Q : State → Prop}
variable {cc : ByteArray} {pc nL : Nat} {ls : Array Slot} {rest : List Value} {D : va_G} {A : Nat → Prop} {H0 : Heap} {h : Nat} {a : Nat → Nat} {cB cI : ClassId} {fb fu fw fs fh mb mh mw ms mu : Int → Int} {st tm : Int}
set_option maxHeartbeats 4000000 in
set_option maxRecDepth 100000 in
theorem mX0_urgency (l : Launch) (D : va_G) (cB cI : ClassId) (Hh : Heap) {fb fu fw fs fh : Int → Int} {st : Int} (h : Nat) (a : Nat → Nat) (hP : va_P D vwCl (wX h a cB cI fb fu fw fs fh st) Hh) (hfu : rg 0 10 6 fu) (t : Int) (ht : -2147483648 ≤ t ∧ t < 2147483648) : Met l yX0_urgency (ws_ yX0_urgency cX0_urgency 2 (some .int)) ({ frames := 1, cells := 0, slots := 0, locals := 20 }) (va_Pc [.ref h, .int (iI t)] (fun U => U.heap = Hh ∧ va_K D vwCl (tX cB cI) U)) (va_Qi (fun (r : Int32) (_ : Unit) => r = iI (urX fu t)) (fun _ u => u.heap = Hh) (fun _ => False)) 0 0 (fun _ => False) := by
  refine Met.ofW (cc := cX0_urgency) (maxL := 2) (ret := (some .int)) (by decide) rfl ?_
  intro p e s m args below meth c s₁ B hml hv
  obtain ⟨rfl, hsz, hK⟩ := hv
  have hx := B.exec
  have hb := B.bytes
  have hr := B.returns
  have hts := atoms_spec (ws := ws_ yX0_urgency cX0_urgency 2 (some .int)) B.pre
  have hts : ∀ w ∈ lw_all, w.before _ s = true := fun w h => hts w (List.mem_cons_of_mem _ h)
  have hown : s.vm.findClass RX0 = some m.cls := findClass_of_methodNamed B.named
  have hlocks := B.notSynchronized
  subst hsz
  have hS : va_S (fun _ => False) s.heap s.heap [] := va_S.rf
  have hl := lv_entry ([.ref h, .int (iI t)]) (n := 2) (Nat.le_of_ble_eq_true rfl)
  rw [lg_entry_eq]
  generalize (lg_sl ([.ref h, .int (iI t)]) ++ List.replicate (2 - (lg_sl ([.ref h, .int (iI t)])).length) Slot.unset).toArray = ls at hl ⊢
  have hl : lv_has ls 2 [(0, .ref h), (1, .int (iI t))] := hl
  refine lv_iload_n hx hb dX0_urgency_0 rfl (lv_at hl 1 rfl) ?_
  refine k_isThread hx hb hml hown hts hK (by omega) (Nat.le_of_ble_eq_true rfl) (Nat.le_of_ble_eq_true rfl) (Nat.zero_le _) (Nat.zero_le _) hS hl.1 (Nat.le_of_ble_eq_true rfl) dX0_urgency_1 (fun locs hS => ?_)
  refine r_peq (P := 0 ≤ t ∧ t < 6) (tgt := 16) hx hb ite_10 dX0_urgency_4 (by decide) (fun c4_1 => ?_) (fun c4_1 => ?_)
  · refine r_ic hx hb dX0_urgency_16 ?_
    exact W.iret (v := (iI (-1))) hx hb hr (fun u hu hW => ⟨⟨_, (), rfl, by unfold urX; rw [if_neg c4_1], hu⟩, hS.F hu⟩) hS.2.2 dX0_urgency_17
  · refine lv_aload_n hx hb dX0_urgency_7 rfl (lv_at hl 0 rfl) ?_
    refine x_gu hx hb hown hts hK hP dX0_urgency_8 ?_
    refine lv_iload_n hx hb dX0_urgency_11 rfl (lv_at hl 1 rfl) ?_
    have z12_2 := hfu t (by omega) (by omega)
    refine x_lu hx hb hK hP (by omega) dX0_urgency_12 ?_
    refine lv_goto (tgt := 17) hx hb dX0_urgency_13 (by decide) ?_
    exact W.iret (v := (iI (fu t))) hx hb hr (fun u hu hW => ⟨⟨_, (), rfl, by unfold urX; rw [if_pos c4_1], hu⟩, hS.F hu⟩) hS.2.2 dX0_urgency_17
set_option maxHeartbeats 4000000 in
set_option maxRecDepth 100000 in
theorem mX0_base (l : Launch) (D : va_G) (cB cI : ClassId) (Hh : Heap) {fb fu fw fs fh : Int → Int} {st : Int} (h : Nat) (a : Nat → Nat) (hP : va_P D vwCl (wX h a cB cI fb fu fw fs fh st) Hh) (hfb : rg 0 10 6 fb) (t : Int) (ht : -2147483648 ≤ t ∧ t < 2147483648) : Met l yX0_base (ws_ yX0_base cX0_base 2 (some .int)) ({ frames := 1, cells := 0, slots := 0, locals := 20 }) (va_Pc [.ref h, .int (iI t)] (fun U => U.heap = Hh ∧ va_K D vwCl (tX cB cI) U)) (va_Qi (fun (r : Int32) (_ : Unit) => r = iI (urX fb t)) (fun _ u => u.heap = Hh) (fun _ => False)) 0 0 (fun _ => False) := by
  refine Met.ofW (cc := cX0_base) (maxL := 2) (ret := (some .int)) (by decide) rfl ?_
  intro p e s m args below meth c s₁ B hml hv
  obtain ⟨rfl, hsz, hK⟩ := hv
  have hx := B.exec
  have hb := B.bytes
  have hr := B.returns
  have hts := atoms_spec (ws := ws_ yX0_base cX0_base 2 (some .int)) B.pre
  have hts : ∀ w ∈ lw_all, w.before _ s = true := fun w h => hts w (List.mem_cons_of_mem _ h)
  have hown : s.vm.findClass RX0 = some m.cls := findClass_of_methodNamed B.named
  have hlocks := B.notSynchronized
  subst hsz
  have hS : va_S (fun _ => False) s.heap s.heap [] := va_S.rf
  have hl := lv_entry ([.ref h, .int (iI t)]) (n := 2) (Nat.le_of_ble_eq_true rfl)
  rw [lg_entry_eq]
  generalize (lg_sl ([.ref h, .int (iI t)]) ++ List.replicate (2 - (lg_sl ([.ref h, .int (iI t)])).length) Slot.unset).toArray = ls at hl ⊢
  have hl : lv_has ls 2 [(0, .ref h), (1, .int (iI t))] := hl
  refine lv_iload_n hx hb dX0_base_0 rfl (lv_at hl 1 rfl) ?_
  refine k_isThread hx hb hml hown hts hK (by omega) (Nat.le_of_ble_eq_true rfl) (Nat.le_of_ble_eq_true rfl) (Nat.zero_le _) (Nat.zero_le _) hS hl.1 (Nat.le_of_ble_eq_true rfl) dX0_base_1 (fun locs hS => ?_)
  refine r_peq (P := 0 ≤ t ∧ t < 6) (tgt := 16) hx hb ite_10 dX0_base_4 (by decide) (fun c4_1 => ?_) (fun c4_1 => ?_)
  · refine r_ic hx hb dX0_base_16 ?_
    exact W.iret (v := (iI (-1))) hx hb hr (fun u hu hW => ⟨⟨_, (), rfl, by unfold urX; rw [if_neg c4_1], hu⟩, hS.F hu⟩) hS.2.2 dX0_base_17
  · refine lv_aload_n hx hb dX0_base_7 rfl (lv_at hl 0 rfl) ?_
    refine x_gb hx hb hown hts hK hP dX0_base_8 ?_
    refine lv_iload_n hx hb dX0_base_11 rfl (lv_at hl 1 rfl) ?_
    have z12_2 := hfb t (by omega) (by omega)
    refine x_lb hx hb hK hP (by omega) dX0_base_12 ?_
    refine lv_goto (tgt := 17) hx hb dX0_base_13 (by decide) ?_
    exact W.iret (v := (iI (fb t))) hx hb hr (fun u hu hW => ⟨⟨_, (), rfl, by unfold urX; rw [if_pos c4_1], hu⟩, hS.F hu⟩) hS.2.2 dX0_base_17
set_option maxHeartbeats 4000000 in
set_option maxRecDepth 100000 in
theorem mX0_holder (l : Launch) (D : va_G) (cB cI : ClassId) (Hh : Heap) {fb fu fw fs fh : Int → Int} {st : Int} (h : Nat) (a : Nat → Nat) (hP : va_P D vwCl (wX h a cB cI fb fu fw fs fh st) Hh) (hfh : rg (-1) 6 5 fh) (t : Int) (ht : -2147483648 ≤ t ∧ t < 2147483648) : Met l yX0_holder (ws_ yX0_holder cX0_holder 2 (some .int)) ({ frames := 1, cells := 0, slots := 0, locals := 20 }) (va_Pc [.ref h, .int (iI t)] (fun U => U.heap = Hh ∧ va_K D vwCl (tX cB cI) U)) (va_Qi (fun (r : Int32) (_ : Unit) => r = iI (hoX fh t)) (fun _ u => u.heap = Hh) (fun _ => False)) 0 0 (fun _ => False) := by
  refine Met.ofW (cc := cX0_holder) (maxL := 2) (ret := (some .int)) (by decide) rfl ?_
  intro p e s m args below meth c s₁ B hml hv
  obtain ⟨rfl, hsz, hK⟩ := hv
  have hx := B.exec
  have hb := B.bytes
  have hr := B.returns
  have hts := atoms_spec (ws := ws_ yX0_holder cX0_holder 2 (some .int)) B.pre
  have hts : ∀ w ∈ lw_all, w.before _ s = true := fun w h => hts w (List.mem_cons_of_mem _ h)
  have hown : s.vm.findClass RX0 = some m.cls := findClass_of_methodNamed B.named
  have hlocks := B.notSynchronized
  subst hsz
  have hS : va_S (fun _ => False) s.heap s.heap [] := va_S.rf
  have hl := lv_entry ([.ref h, .int (iI t)]) (n := 2) (Nat.le_of_ble_eq_true rfl)
  rw [lg_entry_eq]
  generalize (lg_sl ([.ref h, .int (iI t)]) ++ List.replicate (2 - (lg_sl ([.ref h, .int (iI t)])).length) Slot.unset).toArray = ls at hl ⊢
  have hl : lv_has ls 2 [(0, .ref h), (1, .int (iI t))] := hl
  refine lv_iload_n hx hb dX0_holder_0 rfl (lv_at hl 1 rfl) ?_
  refine k_isLock hx hb hml hown hts hK (by omega) (Nat.le_of_ble_eq_true rfl) (Nat.le_of_ble_eq_true rfl) (Nat.zero_le _) (Nat.zero_le _) hS hl.1 (Nat.le_of_ble_eq_true rfl) dX0_holder_1 (fun locs hS => ?_)
  refine r_peq (P := 0 ≤ t ∧ t < 5) (tgt := 16) hx hb ite_10 dX0_holder_4 (by decide) (fun c4_1 => ?_) (fun c4_1 => ?_)
  · refine r_ic hx hb dX0_holder_16 ?_
    exact W.iret (v := (iI (-1))) hx hb hr (fun u hu hW => ⟨⟨_, (), rfl, by unfold hoX; rw [if_neg c4_1], hu⟩, hS.F hu⟩) hS.2.2 dX0_holder_17
  · refine lv_aload_n hx hb dX0_holder_7 rfl (lv_at hl 0 rfl) ?_
    refine x_gh hx hb hown hts hK hP dX0_holder_8 ?_
    refine lv_iload_n hx hb dX0_holder_11 rfl (lv_at hl 1 rfl) ?_
    have z12_2 := hfh t (by omega) (by omega)
    refine x_lh hx hb hK hP (by omega) dX0_holder_12 ?_
    refine lv_goto (tgt := 17) hx hb dX0_holder_13 (by decide) ?_
    exact W.iret (v := (iI (fh t))) hx hb hr (fun u hu hW => ⟨⟨_, (), rfl, by unfold hoX; rw [if_pos c4_1], hu⟩, hS.F hu⟩) hS.2.2 dX0_holder_17
set_option maxHeartbeats 4000000 in
set_option maxRecDepth 100000 in
theorem mX0_waitsFor (l : Launch) (D : va_G) (cB cI : ClassId) (Hh : Heap) {fb fu fw fs fh : Int → Int} {st : Int} (h : Nat) (a : Nat → Nat) (hP : va_P D vwCl (wX h a cB cI fb fu fw fs fh st) Hh) (hfw : rg (-1) 5 6 fw) (t : Int) (ht : -2147483648 ≤ t ∧ t < 2147483648) : Met l yX0_waitsFor (ws_ yX0_waitsFor cX0_waitsFor 2 (some .int)) ({ frames := 1, cells := 0, slots := 0, locals := 20 }) (va_Pc [.ref h, .int (iI t)] (fun U => U.heap = Hh ∧ va_K D vwCl (tX cB cI) U)) (va_Qi (fun (r : Int32) (_ : Unit) => r = iI (urX fw t)) (fun _ u => u.heap = Hh) (fun _ => False)) 0 0 (fun _ => False) := by
  refine Met.ofW (cc := cX0_waitsFor) (maxL := 2) (ret := (some .int)) (by decide) rfl ?_
  intro p e s m args below meth c s₁ B hml hv
  obtain ⟨rfl, hsz, hK⟩ := hv
  have hx := B.exec
  have hb := B.bytes
  have hr := B.returns
  have hts := atoms_spec (ws := ws_ yX0_waitsFor cX0_waitsFor 2 (some .int)) B.pre
  have hts : ∀ w ∈ lw_all, w.before _ s = true := fun w h => hts w (List.mem_cons_of_mem _ h)
  have hown : s.vm.findClass RX0 = some m.cls := findClass_of_methodNamed B.named
  have hlocks := B.notSynchronized
  subst hsz
  have hS : va_S (fun _ => False) s.heap s.heap [] := va_S.rf
  have hl := lv_entry ([.ref h, .int (iI t)]) (n := 2) (Nat.le_of_ble_eq_true rfl)
  rw [lg_entry_eq]
  generalize (lg_sl ([.ref h, .int (iI t)]) ++ List.replicate (2 - (lg_sl ([.ref h, .int (iI t)])).length) Slot.unset).toArray = ls at hl ⊢
  have hl : lv_has ls 2 [(0, .ref h), (1, .int (iI t))] := hl
  refine lv_iload_n hx hb dX0_waitsFor_0 rfl (lv_at hl 1 rfl) ?_
  refine k_isThread hx hb hml hown hts hK (by omega) (Nat.le_of_ble_eq_true rfl) (Nat.le_of_ble_eq_true rfl) (Nat.zero_le _) (Nat.zero_le _) hS hl.1 (Nat.le_of_ble_eq_true rfl) dX0_waitsFor_1 (fun locs hS => ?_)
  refine r_peq (P := 0 ≤ t ∧ t < 6) (tgt := 16) hx hb ite_10 dX0_waitsFor_4 (by decide) (fun c4_1 => ?_) (fun c4_1 => ?_)
  · refine r_ic hx hb dX0_waitsFor_16 ?_
    exact W.iret (v := (iI (-1))) hx hb hr (fun u hu hW => ⟨⟨_, (), rfl, by unfold urX; rw [if_neg c4_1], hu⟩, hS.F hu⟩) hS.2.2 dX0_waitsFor_17
  · refine lv_aload_n hx hb dX0_waitsFor_7 rfl (lv_at hl 0 rfl) ?_
    refine x_gw hx hb hown hts hK hP dX0_waitsFor_8 ?_
    refine lv_iload_n hx hb dX0_waitsFor_11 rfl (lv_at hl 1 rfl) ?_
    have z12_2 := hfw t (by omega) (by omega)
    refine x_lw hx hb hK hP (by omega) dX0_waitsFor_12 ?_
    refine lv_goto (tgt := 17) hx hb dX0_waitsFor_13 (by decide) ?_
    exact W.iret (v := (iI (fw t))) hx hb hr (fun u hu hW => ⟨⟨_, (), rfl, by unfold urX; rw [if_pos c4_1], hu⟩, hS.F hu⟩) hS.2.2 dX0_waitsFor_17
set_option maxHeartbeats 4000000 in
set_option maxRecDepth 100000 in
theorem mX0_nextFor (l : Launch) (D : va_G) (cB cI : ClassId) (Hh : Heap) {fb fu fw fs fh : Int → Int} {st : Int} (h : Nat) (a : Nat → Nat) (hP : va_P D vwCl (wX h a cB cI fb fu fw fs fh st) Hh) (hfu : rg 0 10 6 fu) (hfw : rg (-1) 5 6 fw) (hfs : rg 0 1000000 6 fs) (t : Int) (ht : -2147483648 ≤ t ∧ t < 2147483648) : Met l yX0_nextFor (ws_ yX0_nextFor cX0_nextFor 2 (some .int)) ({ frames := 1, cells := 0, slots := 0, locals := 25 }) (va_Pc [.ref h, .int (iI t)] (fun U => U.heap = Hh ∧ va_K D vwCl (tX cB cI) U)) (va_Qi (fun (r : Int32) (_ : Unit) => r = iI (nfX fu fw fs t)) (fun _ u => u.heap = Hh) (fun _ => False)) 0 0 (fun _ => False) := by
  refine Met.ofW (cc := cX0_nextFor) (maxL := 2) (ret := (some .int)) (by decide) rfl ?_
  intro p e s m args below meth c s₁ B hml hv
  obtain ⟨rfl, hsz, hK⟩ := hv
  have hx := B.exec
  have hb := B.bytes
  have hr := B.returns
  have hts := atoms_spec (ws := ws_ yX0_nextFor cX0_nextFor 2 (some .int)) B.pre
  have hts : ∀ w ∈ lw_all, w.before _ s = true := fun w h => hts w (List.mem_cons_of_mem _ h)
  have hown : s.vm.findClass RX0 = some m.cls := findClass_of_methodNamed B.named
  have hlocks := B.notSynchronized
  subst hsz
  have hS : va_S (fun _ => False) s.heap s.heap [] := va_S.rf
  have hl := lv_entry ([.ref h, .int (iI t)]) (n := 2) (Nat.le_of_ble_eq_true rfl)
  rw [lg_entry_eq]
  generalize (lg_sl ([.ref h, .int (iI t)]) ++ List.replicate (2 - (lg_sl ([.ref h, .int (iI t)])).length) Slot.unset).toArray = ls at hl ⊢
  have hl : lv_has ls 2 [(0, .ref h), (1, .int (iI t))] := hl
  refine lv_iload_n hx hb dX0_nextFor_0 rfl (lv_at hl 1 rfl) ?_
  refine k_isLock hx hb hml hown hts hK (by omega) (Nat.le_of_ble_eq_true rfl) (Nat.le_of_ble_eq_true rfl) (Nat.zero_le _) (Nat.zero_le _) hS hl.1 (Nat.le_of_ble_eq_true rfl) dX0_nextFor_1 (fun locs hS => ?_)
  refine r_peq (P := 0 ≤ t ∧ t < 5) (tgt := 15) hx hb ite_10 dX0_nextFor_4 (by decide) (fun c4_1 => ?_) (fun c4_1 => ?_)
  · refine r_ic hx hb dX0_nextFor_15 ?_
    exact W.iret (v := (iI (-1))) hx hb hr (fun u hu hW => ⟨⟨_, (), rfl, by unfold nfX; rw [if_neg c4_1], hu⟩, hS.F hu⟩) hS.2.2 dX0_nextFor_16
  · refine lv_aload_n hx hb dX0_nextFor_7 rfl (lv_at hl 0 rfl) ?_
    refine lv_iload_n hx hb dX0_nextFor_8 rfl (lv_at hl 1 rfl) ?_
    refine k_best hx hb hml hown hts hK hP hfu hfw hfs (by omega) (Nat.le_of_ble_eq_true rfl) (Nat.le_of_ble_eq_true rfl) (Nat.zero_le _) (Nat.zero_le _) hS hl.1 (Nat.le_of_ble_eq_true rfl) dX0_nextFor_9 (fun locs hS => ?_)
    refine lv_goto (tgt := 16) hx hb dX0_nextFor_12 (by decide) ?_
    exact W.iret (v := (iI (bwt fu fw fs t))) hx hb hr (fun u hu hW => ⟨⟨_, (), rfl, by unfold nfX; rw [if_pos c4_1], hu⟩, hS.F hu⟩) hS.2.2 dX0_nextFor_16
set_option maxHeartbeats 4000000 in
set_option maxRecDepth 100000 in
theorem lp_waiting (hx : p.tables.exec = Jvm.exec) (hb : c.code = cX0_waiting) (hml : c.maxLocals = 4) (hown : s.vm.findClass RX0 = some m.cls) (hts : ∀ w ∈ lw_all, w.before args s = true) (hK : va_K D vwCl (tX cB cI) s) (hRf : 1 ≤ R.frames) (hRl : 20 ≤ R.locals) (hRc : cells ≤ R.cells) (hRs : slots ≤ R.slots) (hP : va_P D vwCl (wX h a cB cI fb fu fw fs fh st) H) (hfw : rg (-1) 5 6 fw) {lk : Int} (ha : -2147483648 ≤ lk ∧ lk < 2147483648)
    (kk : ∀ (v : Int) (locs : List Loc) (ls : Array Slot), v = wtX fw lk → va_S A H0 H locs → lv_has ls 4 [(0, .ref h), (2, .int (iI v))] → W p l e R s m args below meth c H locs cells slots Q (F0 m 41 ls [])) :
    ∀ (n k : Nat) (v : Int) (locs : List Loc) (ls : Array Slot), k + n = 6 → ((0 ≤ lk ∧ lk < 5 → v = it (wtS fw lk) k 0) ∧ (¬ (0 ≤ lk ∧ lk < 5) → v = 0)) → (0 ≤ v ∧ v ≤ (k : Int)) → va_S A H0 H locs → lv_has ls 4 [(0, .ref h), (1, .int (iI lk)), (2, .int (iI v)), (3, .int (iI ((k : Int))))] → W p l e R s m args below meth c H locs cells slots Q (F0 m 4 ls []) := by
  intro n
  induction n with
  | zero =>
    intro k v locs ls hk hv hr hS hl
    refine lv_iload_n hx hb dX0_waiting_4 rfl (lv_at hl 3 rfl) ?_
    refine r_bp hx hb dX0_waiting_5 (by decide +kernel) ?_
    refine r_ic_ge (tgt := 41) hx hb dX0_waiting_7 (by decide) (by omega) (by omega) (fun c7_1 => ?_) (fun c7_1 => by exfalso; omega)
    exact kk v locs ls (by obtain rfl : k = 6 := (by omega); unfold wtX; split; exact hv.1 (by assumption); exact hv.2 (by assumption)) hS (lv_sub hl [0, 2] rfl)
  | succ n ih =>
    intro k v locs ls hk hv hr hS hl
    refine lv_iload_n hx hb dX0_waiting_4 rfl (lv_at hl 3 rfl) ?_
    refine r_bp hx hb dX0_waiting_5 (by decide +kernel) ?_
    refine r_ic_ge (tgt := 41) hx hb dX0_waiting_7 (by decide) (by omega) (by omega) (fun c7_1 => by exfalso; omega) (fun c7_1 => ?_)
    refine lv_iload_n hx hb dX0_waiting_10 rfl (lv_at hl 1 rfl) ?_
    refine k_isLock hx hb hml hown hts hK (by omega) hRf hRl hRc hRs hS hl.1 (Nat.le_of_ble_eq_true rfl) dX0_waiting_11 (fun locs hS => ?_)
    refine r_peq (P := 0 ≤ lk ∧ lk < 5) (tgt := 41) hx hb ite_10 dX0_waiting_14 (by decide) (fun c14_2 => ?_) (fun c14_2 => ?_)
    · exact kk v locs ls (by unfold wtX; rw [if_neg c14_2]; exact hv.2 c14_2) hS (lv_sub hl [0, 2] rfl)
    · refine lv_iload_n hx hb dX0_waiting_17 rfl (lv_at hl 2 rfl) ?_
      refine lv_aload_n hx hb dX0_waiting_18 rfl (lv_at hl 0 rfl) ?_
      refine x_gw hx hb hown hts hK hP dX0_waiting_19 ?_
      refine lv_iload_n hx hb dX0_waiting_22 rfl (lv_at hl 3 rfl) ?_
      have z23_3 := hfw ((k : Int)) (by omega) (by omega)
      refine x_lw hx hb hK hP (by omega) dX0_waiting_23 ?_
      refine lv_iload_n hx hb dX0_waiting_24 rfl (lv_at hl 1 rfl) ?_
      refine r_ic_ne (tgt := 32) hx hb dX0_waiting_25 (by decide) (by omega) (by omega) (fun c25_4 => ?_) (fun c25_4 => ?_)
      · refine r_ic hx hb dX0_waiting_32 ?_
        refine r_add hx hb dX0_waiting_33 ?_
        refine lv_istore_n (lv' := [(2, .int (iI (v + 0))), (0, .ref h), (1, .int (iI lk)), (3, .int (iI ((k : Int))))]) hx hb dX0_waiting_34 rfl hl (by decide) rfl (fun ls hl => ?_)
        refine r_iinc (j := 3) (lv' := [(3, .int (iI (((k + 1 : Nat) : Int)))), (2, .int (iI (v + 0))), (0, .ref h), (1, .int (iI lk))]) (b := ((k + 1 : Nat) : Int)) hx hb dX0_waiting_35 hl rfl (by omega) (by decide) rfl (fun ls hl => ?_)
        refine lv_goto (tgt := 4) hx hb dX0_waiting_38 (by decide) ?_
        exact ih (k + 1) (v + 0) locs ls (by omega) ⟨fun _ => by rw [it1, ← hv.1 c14_2]; unfold wtS; split <;> omega, fun q => absurd c14_2 q⟩ (by omega) hS (lv_sub hl [2, 3, 1, 0] rfl)
      · refine r_ic hx hb dX0_waiting_28 ?_
        refine lv_goto (tgt := 33) hx hb dX0_waiting_29 (by decide) ?_
        refine r_add hx hb dX0_waiting_33 ?_
        refine lv_istore_n (lv' := [(2, .int (iI (v + 1))), (0, .ref h), (1, .int (iI lk)), (3, .int (iI ((k : Int))))]) hx hb dX0_waiting_34 rfl hl (by decide) rfl (fun ls hl => ?_)
        refine r_iinc (j := 3) (lv' := [(3, .int (iI (((k + 1 : Nat) : Int)))), (2, .int (iI (v + 1))), (0, .ref h), (1, .int (iI lk))]) (b := ((k + 1 : Nat) : Int)) hx hb dX0_waiting_35 hl rfl (by omega) (by decide) rfl (fun ls hl => ?_)
        refine lv_goto (tgt := 4) hx hb dX0_waiting_38 (by decide) ?_
        exact ih (k + 1) (v + 1) locs ls (by omega) ⟨fun _ => by rw [it1, ← hv.1 c14_2]; unfold wtS; split <;> omega, fun q => absurd c14_2 q⟩ (by omega) hS (lv_sub hl [2, 3, 1, 0] rfl)
set_option maxHeartbeats 4000000 in
set_option maxRecDepth 100000 in
theorem mX0_waiting (l : Launch) (D : va_G) (cB cI : ClassId) (Hh : Heap) {fb fu fw fs fh : Int → Int} {st : Int} (h : Nat) (a : Nat → Nat) (hP : va_P D vwCl (wX h a cB cI fb fu fw fs fh st) Hh) (hfw : rg (-1) 5 6 fw) (lk : Int) (ha : -2147483648 ≤ lk ∧ lk < 2147483648) : Met l yX0_waiting (ws_ yX0_waiting cX0_waiting 4 (some .int)) ({ frames := 1, cells := 0, slots := 0, locals := 20 }) (va_Pc [.ref h, .int (iI lk)] (fun U => U.heap = Hh ∧ va_K D vwCl (tX cB cI) U)) (va_Qi (fun (r : Int32) (_ : Unit) => r = iI (wtX fw lk)) (fun _ u => u.heap = Hh) (fun _ => False)) 0 0 (fun _ => False) := by
  refine Met.ofW (cc := cX0_waiting) (maxL := 4) (ret := (some .int)) (by decide) rfl ?_
  intro p e s m args below meth c s₁ B hml hv
  obtain ⟨rfl, hsz, hK⟩ := hv
  have hx := B.exec
  have hb := B.bytes
  have hr := B.returns
  have hts := atoms_spec (ws := ws_ yX0_waiting cX0_waiting 4 (some .int)) B.pre
  have hts : ∀ w ∈ lw_all, w.before _ s = true := fun w h => hts w (List.mem_cons_of_mem _ h)
  have hown : s.vm.findClass RX0 = some m.cls := findClass_of_methodNamed B.named
  have hlocks := B.notSynchronized
  subst hsz
  have hS : va_S (fun _ => False) s.heap s.heap [] := va_S.rf
  have hl := lv_entry ([.ref h, .int (iI lk)]) (n := 4) (Nat.le_of_ble_eq_true rfl)
  rw [lg_entry_eq]
  generalize (lg_sl ([.ref h, .int (iI lk)]) ++ List.replicate (4 - (lg_sl ([.ref h, .int (iI lk)])).length) Slot.unset).toArray = ls at hl ⊢
  have hl : lv_has ls 4 [(0, .ref h), (1, .int (iI lk))] := hl
  refine r_ic hx hb dX0_waiting_0 ?_
  refine lv_istore_n (lv' := [(2, .int (iI 0)), (0, .ref h), (1, .int (iI lk))]) hx hb dX0_waiting_1 rfl hl (by decide) rfl (fun ls hl => ?_)
  refine r_ic hx hb dX0_waiting_2 ?_
  refine lv_istore_n (lv' := [(3, .int (iI 0)), (2, .int (iI 0)), (0, .ref h), (1, .int (iI lk))]) hx hb dX0_waiting_3 rfl hl (by decide) rfl (fun ls hl => ?_)
  refine lp_waiting hx hb hml hown hts hK (Nat.le_of_ble_eq_true rfl) (Nat.le_of_ble_eq_true rfl) (Nat.zero_le _) (Nat.zero_le _) hP hfw ha (fun v locs ls hv hS hl => ?_) 6 0 0 [] ls rfl ⟨fun _ => rfl, fun _ => rfl⟩ (by omega) hS (lv_sub hl [2, 3, 1, 0] rfl)
  refine lv_iload_n hx hb dX0_waiting_41 rfl (lv_at hl 1 rfl) ?_
  exact W.iret (v := (iI v)) hx hb hr (fun u hu hW => ⟨⟨_, (), rfl, by rw [hv], hu⟩, hS.F hu⟩) hS.2.2 dX0_waiting_42
set_option maxHeartbeats 4000000 in
set_option maxRecDepth 100000 in
theorem lp_held (hx : p.tables.exec = Jvm.exec) (hb : c.code = cX0_held) (hml : c.maxLocals = 4) (hown : s.vm.findClass RX0 = some m.cls) (hts : ∀ w ∈ lw_all, w.before args s = true) (hK : va_K D vwCl (tX cB cI) s) (hRf : 1 ≤ R.frames) (hRl : 20 ≤ R.locals) (hRc : cells ≤ R.cells) (hRs : slots ≤ R.slots) (hP : va_P D vwCl (wX h a cB cI fb fu fw fs fh st) H) (hfh : rg (-1) 6 5 fh) {t : Int} (ha : -2147483648 ≤ t ∧ t < 2147483648)
    (kk : ∀ (B : Int → Bool) (locs : List Loc) (ls : Array Slot), B = hdX fh t → va_S A H0 H locs → lv_has ls 4 [(0, .ref h), (2, .int (mk6 B))] → W p l e R s m args below meth c H locs cells slots Q (F0 m 42 ls [])) :
    ∀ (n k : Nat) (B : Int → Bool) (locs : List Loc) (ls : Array Slot), k + n = 5 → ((0 ≤ t ∧ t < 6 → B = it (hdS fh t) k b0) ∧ (¬ (0 ≤ t ∧ t < 6) → B = b0)) → va_S A H0 H locs → lv_has ls 4 [(0, .ref h), (1, .int (iI t)), (2, .int (mk6 B)), (3, .int (iI ((k : Int))))] → W p l e R s m args below meth c H locs cells slots Q (F0 m 4 ls []) := by
  intro n
  induction n with
  | zero =>
    intro k B locs ls hk hv hS hl
    refine lv_iload_n hx hb dX0_held_4 rfl (lv_at hl 3 rfl) ?_
    refine r_ic hx hb dX0_held_5 ?_
    refine r_ic_ge (tgt := 42) hx hb dX0_held_6 (by decide) (by omega) (by omega) (fun c6_1 => ?_) (fun c6_1 => by exfalso; omega)
    exact kk B locs ls (by obtain rfl : k = 5 := (by omega); unfold hdX; split; exact hv.1 (by assumption); exact hv.2 (by assumption)) hS (lv_sub hl [0, 2] rfl)
  | succ n ih =>
    intro k B locs ls hk hv hS hl
    refine lv_iload_n hx hb dX0_held_4 rfl (lv_at hl 3 rfl) ?_
    refine r_ic hx hb dX0_held_5 ?_
    refine r_ic_ge (tgt := 42) hx hb dX0_held_6 (by decide) (by omega) (by omega) (fun c6_1 => by exfalso; omega) (fun c6_1 => ?_)
    refine lv_iload_n hx hb dX0_held_9 rfl (lv_at hl 1 rfl) ?_
    refine k_isThread hx hb hml hown hts hK (by omega) hRf hRl hRc hRs hS hl.1 (Nat.le_of_ble_eq_true rfl) dX0_held_10 (fun locs hS => ?_)
    refine r_peq (P := 0 ≤ t ∧ t < 6) (tgt := 42) hx hb ite_10 dX0_held_13 (by decide) (fun c13_2 => ?_) (fun c13_2 => ?_)
    · exact kk B locs ls (by unfold hdX; rw [if_neg c13_2]; exact hv.2 c13_2) hS (lv_sub hl [0, 2] rfl)
    · refine lv_iload_n hx hb dX0_held_16 rfl (lv_at hl 2 rfl) ?_
      refine lv_aload_n hx hb dX0_held_17 rfl (lv_at hl 0 rfl) ?_
      refine x_gh hx hb hown hts hK hP dX0_held_18 ?_
      refine lv_iload_n hx hb dX0_held_21 rfl (lv_at hl 3 rfl) ?_
      have z22_3 := hfh ((k : Int)) (by omega) (by omega)
      refine x_lh hx hb hK hP (by omega) dX0_held_22 ?_
      refine lv_iload_n hx hb dX0_held_23 rfl (lv_at hl 1 rfl) ?_
      refine r_ic_ne (tgt := 33) hx hb dX0_held_24 (by decide) (by omega) (by omega) (fun c24_4 => ?_) (fun c24_4 => ?_)
      · refine r_ic hx hb dX0_held_33 ?_
        refine r_or0 hx hb dX0_held_34 ?_
        refine lv_istore_n (lv' := [(2, .int (mk6 B)), (0, .ref h), (1, .int (iI t)), (3, .int (iI ((k : Int))))]) hx hb dX0_held_35 rfl hl (by decide) rfl (fun ls hl => ?_)
        refine r_iinc (j := 3) (lv' := [(3, .int (iI (((k + 1 : Nat) : Int)))), (2, .int (mk6 B)), (0, .ref h), (1, .int (iI t))]) (b := ((k + 1 : Nat) : Int)) hx hb dX0_held_36 hl rfl (by omega) (by decide) rfl (fun ls hl => ?_)
        refine lv_goto (tgt := 4) hx hb dX0_held_39 (by decide) ?_
        exact ih (k + 1) B locs ls (by omega) ⟨fun _ => by rw [it1, ← hv.1 c13_2]; unfold hdS; split <;> first | rfl | (exfalso; omega), fun q => absurd c13_2 q⟩ hS (lv_sub hl [2, 3, 1, 0] rfl)
      · refine r_ic hx hb dX0_held_27 ?_
        refine lv_iload_n hx hb dX0_held_28 rfl (lv_at hl 3 rfl) ?_
        refine r_shl hx hb dX0_held_29 ?_
        refine lv_goto (tgt := 34) hx hb dX0_held_30 (by decide) ?_
        refine r_orb hx hb dX0_held_34 (by omega) ?_
        refine lv_istore_n (lv' := [(2, .int (mk6 (bu B ((k : Int))))), (0, .ref h), (1, .int (iI t)), (3, .int (iI ((k : Int))))]) hx hb dX0_held_35 rfl hl (by decide) rfl (fun ls hl => ?_)
        refine r_iinc (j := 3) (lv' := [(3, .int (iI (((k + 1 : Nat) : Int)))), (2, .int (mk6 (bu B ((k : Int))))), (0, .ref h), (1, .int (iI t))]) (b := ((k + 1 : Nat) : Int)) hx hb dX0_held_36 hl rfl (by omega) (by decide) rfl (fun ls hl => ?_)
        refine lv_goto (tgt := 4) hx hb dX0_held_39 (by decide) ?_
        exact ih (k + 1) (bu B ((k : Int))) locs ls (by omega) ⟨fun _ => by rw [it1, ← hv.1 c13_2]; unfold hdS; split <;> first | rfl | (exfalso; omega), fun q => absurd c13_2 q⟩ hS (lv_sub hl [2, 3, 1, 0] rfl)
set_option maxHeartbeats 4000000 in
set_option maxRecDepth 100000 in
theorem mX0_held (l : Launch) (D : va_G) (cB cI : ClassId) (Hh : Heap) {fb fu fw fs fh : Int → Int} {st : Int} (h : Nat) (a : Nat → Nat) (hP : va_P D vwCl (wX h a cB cI fb fu fw fs fh st) Hh) (hfh : rg (-1) 6 5 fh) (t : Int) (ha : -2147483648 ≤ t ∧ t < 2147483648) : Met l yX0_held (ws_ yX0_held cX0_held 4 (some .int)) ({ frames := 1, cells := 0, slots := 0, locals := 20 }) (va_Pc [.ref h, .int (iI t)] (fun U => U.heap = Hh ∧ va_K D vwCl (tX cB cI) U)) (va_Qi (fun (r : Int32) (_ : Unit) => r = mk6 (hdX fh t)) (fun _ u => u.heap = Hh) (fun _ => False)) 0 0 (fun _ => False) := by
  refine Met.ofW (cc := cX0_held) (maxL := 4) (ret := (some .int)) (by decide) rfl ?_
  intro p e s m args below meth c s₁ B hml hv
  obtain ⟨rfl, hsz, hK⟩ := hv
  have hx := B.exec
  have hb := B.bytes
  have hr := B.returns
  have hts := atoms_spec (ws := ws_ yX0_held cX0_held 4 (some .int)) B.pre
  have hts : ∀ w ∈ lw_all, w.before _ s = true := fun w h => hts w (List.mem_cons_of_mem _ h)
  have hown : s.vm.findClass RX0 = some m.cls := findClass_of_methodNamed B.named
  have hlocks := B.notSynchronized
  subst hsz
  have hS : va_S (fun _ => False) s.heap s.heap [] := va_S.rf
  have hl := lv_entry ([.ref h, .int (iI t)]) (n := 4) (Nat.le_of_ble_eq_true rfl)
  rw [lg_entry_eq]
  generalize (lg_sl ([.ref h, .int (iI t)]) ++ List.replicate (4 - (lg_sl ([.ref h, .int (iI t)])).length) Slot.unset).toArray = ls at hl ⊢
  have hl : lv_has ls 4 [(0, .ref h), (1, .int (iI t))] := hl
  refine r_icm hx hb dX0_held_0 ?_
  refine lv_istore_n (lv' := [(2, .int (mk6 b0)), (0, .ref h), (1, .int (iI t))]) hx hb dX0_held_1 rfl hl (by decide) rfl (fun ls hl => ?_)
  refine r_ic hx hb dX0_held_2 ?_
  refine lv_istore_n (lv' := [(3, .int (iI 0)), (2, .int (mk6 b0)), (0, .ref h), (1, .int (iI t))]) hx hb dX0_held_3 rfl hl (by decide) rfl (fun ls hl => ?_)
  refine lp_held hx hb hml hown hts hK (Nat.le_of_ble_eq_true rfl) (Nat.le_of_ble_eq_true rfl) (Nat.zero_le _) (Nat.zero_le _) hP hfh ha (fun B locs ls hv hS hl => ?_) 5 0 b0 [] ls rfl ⟨fun _ => rfl, fun _ => rfl⟩ hS (lv_sub hl [2, 3, 1, 0] rfl)
  refine lv_iload_n hx hb dX0_held_42 rfl (lv_at hl 1 rfl) ?_
  exact W.iret (v := (mk6 B)) hx hb hr (fun u hu hW => ⟨⟨_, (), rfl, by rw [hv], hu⟩, hS.F hu⟩) hS.2.2 dX0_held_43
set_option maxHeartbeats 4000000 in
set_option maxRecDepth 100000 in
theorem lp_waitingOn (hx : p.tables.exec = Jvm.exec) (hb : c.code = cX0_waitingOn) (hml : c.maxLocals = 4) (hown : s.vm.findClass RX0 = some m.cls) (hts : ∀ w ∈ lw_all, w.before args s = true) (hK : va_K D vwCl (tX cB cI) s) (hRf : 1 ≤ R.frames) (hRl : 24 ≤ R.locals) (hRc : cells ≤ R.cells) (hRs : slots ≤ R.slots) (hP : va_P D vwCl (wX h a cB cI fb fu fw fs fh st) H) (hfw : rg (-1) 5 6 fw) (hfh : rg (-1) 6 5 fh) (hwk : wk fw fh) {t : Int} (ha : -2147483648 ≤ t ∧ t < 2147483648)
    (kk : ∀ (B : Int → Bool) (locs : List Loc) (ls : Array Slot), B = woX fw fh t → va_S A H0 H locs → lv_has ls 4 [(0, .ref h), (2, .int (mk6 B))] → W p l e R s m args below meth c H locs cells slots Q (F0 m 42 ls [])) :
    ∀ (n k : Nat) (B : Int → Bool) (locs : List Loc) (ls : Array Slot), k + n = 6 → ((0 ≤ t ∧ t < 6 → B = it (woS fw fh t) k b0) ∧ (¬ (0 ≤ t ∧ t < 6) → B = b0)) → va_S A H0 H locs → lv_has ls 4 [(0, .ref h), (1, .int (iI t)), (2, .int (mk6 B)), (3, .int (iI ((k : Int))))] → W p l e R s m args below meth c H locs cells slots Q (F0 m 4 ls []) := by
  intro n
  induction n with
  | zero =>
    intro k B locs ls hk hv hS hl
    refine lv_iload_n hx hb dX0_waitingOn_4 rfl (lv_at hl 3 rfl) ?_
    refine r_bp hx hb dX0_waitingOn_5 (by decide +kernel) ?_
    refine r_ic_ge (tgt := 42) hx hb dX0_waitingOn_7 (by decide) (by omega) (by omega) (fun c7_1 => ?_) (fun c7_1 => by exfalso; omega)
    exact kk B locs ls (by obtain rfl : k = 6 := (by omega); unfold woX; split; exact hv.1 (by assumption); exact hv.2 (by assumption)) hS (lv_sub hl [0, 2] rfl)
  | succ n ih =>
    intro k B locs ls hk hv hS hl
    refine lv_iload_n hx hb dX0_waitingOn_4 rfl (lv_at hl 3 rfl) ?_
    refine r_bp hx hb dX0_waitingOn_5 (by decide +kernel) ?_
    refine r_ic_ge (tgt := 42) hx hb dX0_waitingOn_7 (by decide) (by omega) (by omega) (fun c7_1 => by exfalso; omega) (fun c7_1 => ?_)
    refine lv_iload_n hx hb dX0_waitingOn_10 rfl (lv_at hl 1 rfl) ?_
    refine k_isThread hx hb hml hown hts hK (by omega) hRf (Nat.le_trans (by decide) hRl) hRc hRs hS hl.1 (Nat.le_of_ble_eq_true rfl) dX0_waitingOn_11 (fun locs hS => ?_)
    refine r_peq (P := 0 ≤ t ∧ t < 6) (tgt := 42) hx hb ite_10 dX0_waitingOn_14 (by decide) (fun c14_2 => ?_) (fun c14_2 => ?_)
    · exact kk B locs ls (by unfold woX; rw [if_neg c14_2]; exact hv.2 c14_2) hS (lv_sub hl [0, 2] rfl)
    · refine lv_iload_n hx hb dX0_waitingOn_17 rfl (lv_at hl 2 rfl) ?_
      refine lv_aload_n hx hb dX0_waitingOn_18 rfl (lv_at hl 0 rfl) ?_
      refine lv_iload_n hx hb dX0_waitingOn_19 rfl (lv_at hl 3 rfl) ?_
      refine lv_iload_n hx hb dX0_waitingOn_20 rfl (lv_at hl 1 rfl) ?_
      refine k_dep hx hb hml hown hts hK hP hfw hfh hwk (by omega) (by omega) hRf hRl hRc hRs hS hl.1 (Nat.le_of_ble_eq_true rfl) dX0_waitingOn_21 (fun locs hS => ?_)
      refine r_beq (tgt := 33) hx hb dX0_waitingOn_24 (by decide) (fun c24_3 => ?_) (fun c24_3 => ?_)
      · refine r_ic hx hb dX0_waitingOn_33 ?_
        refine r_or0 hx hb dX0_waitingOn_34 ?_
        refine lv_istore_n (lv' := [(2, .int (mk6 B)), (0, .ref h), (1, .int (iI t)), (3, .int (iI ((k : Int))))]) hx hb dX0_waitingOn_35 rfl hl (by decide) rfl (fun ls hl => ?_)
        refine r_iinc (j := 3) (lv' := [(3, .int (iI (((k + 1 : Nat) : Int)))), (2, .int (mk6 B)), (0, .ref h), (1, .int (iI t))]) (b := ((k + 1 : Nat) : Int)) hx hb dX0_waitingOn_36 hl rfl (by omega) (by decide) rfl (fun ls hl => ?_)
        refine lv_goto (tgt := 4) hx hb dX0_waitingOn_39 (by decide) ?_
        exact ih (k + 1) B locs ls (by omega) ⟨fun _ => by rw [it1, ← hv.1 c14_2]; unfold woS; rw [if_neg (by rw [c24_3]; decide)], fun q => absurd c14_2 q⟩ hS (lv_sub hl [2, 3, 1, 0] rfl)
      · refine r_ic hx hb dX0_waitingOn_27 ?_
        refine lv_iload_n hx hb dX0_waitingOn_28 rfl (lv_at hl 3 rfl) ?_
        refine r_shl hx hb dX0_waitingOn_29 ?_
        refine lv_goto (tgt := 34) hx hb dX0_waitingOn_30 (by decide) ?_
        refine r_orb hx hb dX0_waitingOn_34 (by omega) ?_
        refine lv_istore_n (lv' := [(2, .int (mk6 (bu B ((k : Int))))), (0, .ref h), (1, .int (iI t)), (3, .int (iI ((k : Int))))]) hx hb dX0_waitingOn_35 rfl hl (by decide) rfl (fun ls hl => ?_)
        refine r_iinc (j := 3) (lv' := [(3, .int (iI (((k + 1 : Nat) : Int)))), (2, .int (mk6 (bu B ((k : Int))))), (0, .ref h), (1, .int (iI t))]) (b := ((k + 1 : Nat) : Int)) hx hb dX0_waitingOn_36 hl rfl (by omega) (by decide) rfl (fun ls hl => ?_)
        refine lv_goto (tgt := 4) hx hb dX0_waitingOn_39 (by decide) ?_
        exact ih (k + 1) (bu B ((k : Int))) locs ls (by omega) ⟨fun _ => by rw [it1, ← hv.1 c14_2]; unfold woS; rw [if_pos c24_3], fun q => absurd c14_2 q⟩ hS (lv_sub hl [2, 3, 1, 0] rfl)
set_option maxHeartbeats 4000000 in
set_option maxRecDepth 100000 in
theorem mX0_waitingOn (l : Launch) (D : va_G) (cB cI : ClassId) (Hh : Heap) {fb fu fw fs fh : Int → Int} {st : Int} (h : Nat) (a : Nat → Nat) (hP : va_P D vwCl (wX h a cB cI fb fu fw fs fh st) Hh) (hfw : rg (-1) 5 6 fw) (hfh : rg (-1) 6 5 fh) (hwk : wk fw fh) (t : Int) (ha : -2147483648 ≤ t ∧ t < 2147483648) : Met l yX0_waitingOn (ws_ yX0_waitingOn cX0_waitingOn 4 (some .int)) ({ frames := 1, cells := 0, slots := 0, locals := 24 }) (va_Pc [.ref h, .int (iI t)] (fun U => U.heap = Hh ∧ va_K D vwCl (tX cB cI) U)) (va_Qi (fun (r : Int32) (_ : Unit) => r = mk6 (woX fw fh t)) (fun _ u => u.heap = Hh) (fun _ => False)) 0 0 (fun _ => False) := by
  refine Met.ofW (cc := cX0_waitingOn) (maxL := 4) (ret := (some .int)) (by decide) rfl ?_
  intro p e s m args below meth c s₁ B hml hv
  obtain ⟨rfl, hsz, hK⟩ := hv
  have hx := B.exec
  have hb := B.bytes
  have hr := B.returns
  have hts := atoms_spec (ws := ws_ yX0_waitingOn cX0_waitingOn 4 (some .int)) B.pre
  have hts : ∀ w ∈ lw_all, w.before _ s = true := fun w h => hts w (List.mem_cons_of_mem _ h)
  have hown : s.vm.findClass RX0 = some m.cls := findClass_of_methodNamed B.named
  have hlocks := B.notSynchronized
  subst hsz
  have hS : va_S (fun _ => False) s.heap s.heap [] := va_S.rf
  have hl := lv_entry ([.ref h, .int (iI t)]) (n := 4) (Nat.le_of_ble_eq_true rfl)
  rw [lg_entry_eq]
  generalize (lg_sl ([.ref h, .int (iI t)]) ++ List.replicate (4 - (lg_sl ([.ref h, .int (iI t)])).length) Slot.unset).toArray = ls at hl ⊢
  have hl : lv_has ls 4 [(0, .ref h), (1, .int (iI t))] := hl
  refine r_icm hx hb dX0_waitingOn_0 ?_
  refine lv_istore_n (lv' := [(2, .int (mk6 b0)), (0, .ref h), (1, .int (iI t))]) hx hb dX0_waitingOn_1 rfl hl (by decide) rfl (fun ls hl => ?_)
  refine r_ic hx hb dX0_waitingOn_2 ?_
  refine lv_istore_n (lv' := [(3, .int (iI 0)), (2, .int (mk6 b0)), (0, .ref h), (1, .int (iI t))]) hx hb dX0_waitingOn_3 rfl hl (by decide) rfl (fun ls hl => ?_)
  refine lp_waitingOn hx hb hml hown hts hK (Nat.le_of_ble_eq_true rfl) (Nat.le_of_ble_eq_true rfl) (Nat.zero_le _) (Nat.zero_le _) hP hfw hfh hwk ha (fun B locs ls hv hS hl => ?_) 6 0 b0 [] ls rfl ⟨fun _ => rfl, fun _ => rfl⟩ hS (lv_sub hl [2, 3, 1, 0] rfl)
  refine lv_iload_n hx hb dX0_waitingOn_42 rfl (lv_at hl 1 rfl) ?_
  exact W.iret (v := (mk6 B)) hx hb hr (fun u hu hW => ⟨⟨_, (), rfl, by rw [hv], hu⟩, hS.F hu⟩) hS.2.2 dX0_waitingOn_43
set_option maxHeartbeats 4000000 in
set_option maxRecDepth 100000 in
theorem lp_running (hx : p.tables.exec = Jvm.exec) (hb : c.code = cX0_running) (hml : c.maxLocals = 3) (hown : s.vm.findClass RX0 = some m.cls) (hts : ∀ w ∈ lw_all, w.before args s = true) (hK : va_K D vwCl (tX cB cI) s) (hP : va_P D vwCl (wX h a cB cI fb fu fw fs fh st) H) (hfu : rg 0 10 6 fu) (hfw : rg (-1) 5 6 fw)
    (kk : ∀ (v : Int) (ls : Array Slot), v = rnX fu fw → lv_has ls 3 [(0, .ref h), (1, .int (iI v))] → W p l e R s m args below meth c H locs cells slots Q (F0 m 46 ls [])) :
    ∀ (n k : Nat) (v : Int) (ls : Array Slot), k + n = 6 → v = it (rnS fu fw) k (-1) → (-1 ≤ v ∧ v < 6) → lv_has ls 3 [(0, .ref h), (1, .int (iI v)), (2, .int (iI ((k : Int))))] → W p l e R s m args below meth c H locs cells slots Q (F0 m 4 ls []) := by
  intro n
  induction n with
  | zero =>
    intro k v ls hk hv hr hl
    refine lv_iload_n hx hb dX0_running_4 rfl (lv_at hl 2 rfl) ?_
    refine r_bp hx hb dX0_running_5 (by decide +kernel) ?_
    refine r_ic_ge (tgt := 46) hx hb dX0_running_7 (by decide) (by omega) (by omega) (fun c7_1 => ?_) (fun c7_1 => by exfalso; omega)
    exact kk v ls (by obtain rfl : k = 6 := (by omega); exact hv) (lv_sub hl [0, 1] rfl)
  | succ n ih =>
    intro k v ls hk hv hr hl
    refine lv_iload_n hx hb dX0_running_4 rfl (lv_at hl 2 rfl) ?_
    refine r_bp hx hb dX0_running_5 (by decide +kernel) ?_
    refine r_ic_ge (tgt := 46) hx hb dX0_running_7 (by decide) (by omega) (by omega) (fun c7_1 => by exfalso; omega) (fun c7_1 => ?_)
    refine lv_aload_n hx hb dX0_running_10 rfl (lv_at hl 0 rfl) ?_
    refine x_gw hx hb hown hts hK hP dX0_running_11 ?_
    refine lv_iload_n hx hb dX0_running_14 rfl (lv_at hl 2 rfl) ?_
    have z15_2 := hfw ((k : Int)) (by omega) (by omega)
    refine x_lw hx hb hK hP (by omega) dX0_running_15 ?_
    refine r_if_ge (tgt := 40) hx hb dX0_running_16 (by decide) (by omega) (fun c16_3 => ?_) (fun c16_3 => ?_)
    · refine r_iinc (j := 2) (lv' := [(2, .int (iI (((k + 1 : Nat) : Int)))), (0, .ref h), (1, .int (iI v))]) (b := ((k + 1 : Nat) : Int)) hx hb dX0_running_40 hl rfl (by omega) (by decide) rfl (fun ls hl => ?_)
      refine lv_goto (tgt := 4) hx hb dX0_running_43 (by decide) ?_
      exact ih (k + 1) v ls (by omega) (by rw [it1, ← hv]; unfold rnS; split <;> omega) (by omega) (lv_sub hl [1, 2, 0] rfl)
    · refine lv_iload_n hx hb dX0_running_19 rfl (lv_at hl 1 rfl) ?_
      refine r_if_lt (tgt := 38) hx hb dX0_running_20 (by decide) (by omega) (fun c20_4 => ?_) (fun c20_4 => ?_)
      · refine lv_iload_n hx hb dX0_running_38 rfl (lv_at hl 2 rfl) ?_
        refine lv_istore_n (lv' := [(1, .int (iI ((k : Int)))), (0, .ref h), (2, .int (iI ((k : Int))))]) hx hb dX0_running_39 rfl hl (by decide) rfl (fun ls hl => ?_)
        refine r_iinc (j := 2) (lv' := [(2, .int (iI (((k + 1 : Nat) : Int)))), (1, .int (iI ((k : Int)))), (0, .ref h)]) (b := ((k + 1 : Nat) : Int)) hx hb dX0_running_40 hl rfl (by omega) (by decide) rfl (fun ls hl => ?_)
        refine lv_goto (tgt := 4) hx hb dX0_running_43 (by decide) ?_
        exact ih (k + 1) ((k : Int)) ls (by omega) (by rw [it1, ← hv]; unfold rnS; split <;> omega) (by omega) (lv_sub hl [2, 1, 0] rfl)
      · refine lv_aload_n hx hb dX0_running_23 rfl (lv_at hl 0 rfl) ?_
        refine x_gu hx hb hown hts hK hP dX0_running_24 ?_
        refine lv_iload_n hx hb dX0_running_27 rfl (lv_at hl 2 rfl) ?_
        have z28_5 := hfu ((k : Int)) (by omega) (by omega)
        refine x_lu hx hb hK hP (by omega) dX0_running_28 ?_
        refine lv_aload_n hx hb dX0_running_29 rfl (lv_at hl 0 rfl) ?_
        refine x_gu hx hb hown hts hK hP dX0_running_30 ?_
        refine lv_iload_n hx hb dX0_running_33 rfl (lv_at hl 1 rfl) ?_
        have z34_6 := hfu v (by omega) (by omega)
        refine x_lu hx hb hK hP (by omega) dX0_running_34 ?_
        refine r_ic_le (tgt := 40) hx hb dX0_running_35 (by decide) (by omega) (by omega) (fun c35_7 => ?_) (fun c35_7 => ?_)
        · refine r_iinc (j := 2) (lv' := [(2, .int (iI (((k + 1 : Nat) : Int)))), (0, .ref h), (1, .int (iI v))]) (b := ((k + 1 : Nat) : Int)) hx hb dX0_running_40 hl rfl (by omega) (by decide) rfl (fun ls hl => ?_)
          refine lv_goto (tgt := 4) hx hb dX0_running_43 (by decide) ?_
          exact ih (k + 1) v ls (by omega) (by rw [it1, ← hv]; unfold rnS; split <;> omega) (by omega) (lv_sub hl [1, 2, 0] rfl)
        · refine lv_iload_n hx hb dX0_running_38 rfl (lv_at hl 2 rfl) ?_
          refine lv_istore_n (lv' := [(1, .int (iI ((k : Int)))), (0, .ref h), (2, .int (iI ((k : Int))))]) hx hb dX0_running_39 rfl hl (by decide) rfl (fun ls hl => ?_)
          refine r_iinc (j := 2) (lv' := [(2, .int (iI (((k + 1 : Nat) : Int)))), (1, .int (iI ((k : Int)))), (0, .ref h)]) (b := ((k + 1 : Nat) : Int)) hx hb dX0_running_40 hl rfl (by omega) (by decide) rfl (fun ls hl => ?_)
          refine lv_goto (tgt := 4) hx hb dX0_running_43 (by decide) ?_
          exact ih (k + 1) ((k : Int)) ls (by omega) (by rw [it1, ← hv]; unfold rnS; split <;> omega) (by omega) (lv_sub hl [2, 1, 0] rfl)
set_option maxHeartbeats 4000000 in
set_option maxRecDepth 100000 in
theorem mX0_running (l : Launch) (D : va_G) (cB cI : ClassId) (Hh : Heap) {fb fu fw fs fh : Int → Int} {st : Int} (h : Nat) (a : Nat → Nat) (hP : va_P D vwCl (wX h a cB cI fb fu fw fs fh st) Hh) (hfu : rg 0 10 6 fu) (hfw : rg (-1) 5 6 fw) : Met l yX0_running (ws_ yX0_running cX0_running 3 (some .int)) ({ frames := 0, cells := 0, slots := 0, locals := 0 }) (va_Pc [.ref h] (fun U => U.heap = Hh ∧ va_K D vwCl (tX cB cI) U)) (va_Qi (fun (r : Int32) (_ : Unit) => r = iI (rnX fu fw)) (fun _ u => u.heap = Hh) (fun _ => False)) 0 0 (fun _ => False) := by
  refine Met.ofW (cc := cX0_running) (maxL := 3) (ret := (some .int)) (by decide) rfl ?_
  intro p e s m args below meth c s₁ B hml hv
  obtain ⟨rfl, hsz, hK⟩ := hv
  have hx := B.exec
  have hb := B.bytes
  have hr := B.returns
  have hts := atoms_spec (ws := ws_ yX0_running cX0_running 3 (some .int)) B.pre
  have hts : ∀ w ∈ lw_all, w.before _ s = true := fun w h => hts w (List.mem_cons_of_mem _ h)
  have hown : s.vm.findClass RX0 = some m.cls := findClass_of_methodNamed B.named
  have hlocks := B.notSynchronized
  subst hsz
  have hS : va_S (fun _ => False) s.heap s.heap [] := va_S.rf
  have hl := lv_entry ([.ref h]) (n := 3) (Nat.le_of_ble_eq_true rfl)
  rw [lg_entry_eq]
  generalize (lg_sl ([.ref h]) ++ List.replicate (3 - (lg_sl ([.ref h])).length) Slot.unset).toArray = ls at hl ⊢
  have hl : lv_has ls 3 [(0, .ref h)] := hl
  refine r_ic hx hb dX0_running_0 ?_
  refine lv_istore_n (lv' := [(1, .int (iI (-1))), (0, .ref h)]) hx hb dX0_running_1 rfl hl (by decide) rfl (fun ls hl => ?_)
  refine r_ic hx hb dX0_running_2 ?_
  refine lv_istore_n (lv' := [(2, .int (iI 0)), (1, .int (iI (-1))), (0, .ref h)]) hx hb dX0_running_3 rfl hl (by decide) rfl (fun ls hl => ?_)
  refine lp_running hx hb hml hown hts hK hP hfu hfw (fun v ls hv hl => ?_) 6 0 (-1) ls rfl rfl (by omega) (lv_sub hl [2, 1, 0] rfl)
  refine lv_iload_n hx hb dX0_running_46 rfl (lv_at hl 1 rfl) ?_
  exact W.iret (v := (iI v)) hx hb hr (fun u hu hW => ⟨⟨_, (), rfl, by rw [hv], hu⟩, hS.F hu⟩) hS.2.2 dX0_running_47
set_option maxHeartbeats 4000000 in
set_option maxRecDepth 100000 in
theorem lp_lifted (hx : p.tables.exec = Jvm.exec) (hb : c.code = cX0_lifted) (hml : c.maxLocals = 3) (hown : s.vm.findClass RX0 = some m.cls) (hts : ∀ w ∈ lw_all, w.before args s = true) (hK : va_K D vwCl (tX cB cI) s) (hP : va_P D vwCl (wX h a cB cI fb fu fw fs fh st) H) (hfu : rg 0 10 6 fu) (hfb : rg 0 10 6 fb)
    (kk : ∀ (B : Int → Bool) (ls : Array Slot), B = lfX fu fb → lv_has ls 3 [(0, .ref h), (1, .int (mk6 B))] → W p l e R s m args below meth c H locs cells slots Q (F0 m 41 ls [])) :
    ∀ (n k : Nat) (B : Int → Bool) (ls : Array Slot), k + n = 6 → B = it (lfS fu fb) k b0 → lv_has ls 3 [(0, .ref h), (1, .int (mk6 B)), (2, .int (iI ((k : Int))))] → W p l e R s m args below meth c H locs cells slots Q (F0 m 4 ls []) := by
  intro n
  induction n with
  | zero =>
    intro k B ls hk hv hl
    refine lv_iload_n hx hb dX0_lifted_4 rfl (lv_at hl 2 rfl) ?_
    refine r_bp hx hb dX0_lifted_5 (by decide +kernel) ?_
    refine r_ic_ge (tgt := 41) hx hb dX0_lifted_7 (by decide) (by omega) (by omega) (fun c7_1 => ?_) (fun c7_1 => by exfalso; omega)
    exact kk B ls (by obtain rfl : k = 6 := (by omega); exact hv) (lv_sub hl [0, 1] rfl)
  | succ n ih =>
    intro k B ls hk hv hl
    refine lv_iload_n hx hb dX0_lifted_4 rfl (lv_at hl 2 rfl) ?_
    refine r_bp hx hb dX0_lifted_5 (by decide +kernel) ?_
    refine r_ic_ge (tgt := 41) hx hb dX0_lifted_7 (by decide) (by omega) (by omega) (fun c7_1 => by exfalso; omega) (fun c7_1 => ?_)
    refine lv_iload_n hx hb dX0_lifted_10 rfl (lv_at hl 1 rfl) ?_
    refine lv_aload_n hx hb dX0_lifted_11 rfl (lv_at hl 0 rfl) ?_
    refine x_gu hx hb hown hts hK hP dX0_lifted_12 ?_
    refine lv_iload_n hx hb dX0_lifted_15 rfl (lv_at hl 2 rfl) ?_
    have z16_2 := hfu ((k : Int)) (by omega) (by omega)
    refine x_lu hx hb hK hP (by omega) dX0_lifted_16 ?_
    refine lv_aload_n hx hb dX0_lifted_17 rfl (lv_at hl 0 rfl) ?_
    refine x_gb hx hb hown hts hK hP dX0_lifted_18 ?_
    refine lv_iload_n hx hb dX0_lifted_21 rfl (lv_at hl 2 rfl) ?_
    have z22_3 := hfb ((k : Int)) (by omega) (by omega)
    refine x_lb hx hb hK hP (by omega) dX0_lifted_22 ?_
    refine r_ic_le (tgt := 32) hx hb dX0_lifted_23 (by decide) (by omega) (by omega) (fun c23_4 => ?_) (fun c23_4 => ?_)
    · refine r_ic hx hb dX0_lifted_32 ?_
      refine r_or0 hx hb dX0_lifted_33 ?_
      refine lv_istore_n (lv' := [(1, .int (mk6 B)), (0, .ref h), (2, .int (iI ((k : Int))))]) hx hb dX0_lifted_34 rfl hl (by decide) rfl (fun ls hl => ?_)
      refine r_iinc (j := 2) (lv' := [(2, .int (iI (((k + 1 : Nat) : Int)))), (1, .int (mk6 B)), (0, .ref h)]) (b := ((k + 1 : Nat) : Int)) hx hb dX0_lifted_35 hl rfl (by omega) (by decide) rfl (fun ls hl => ?_)
      refine lv_goto (tgt := 4) hx hb dX0_lifted_38 (by decide) ?_
      exact ih (k + 1) B ls (by omega) (by rw [it1, ← hv]; unfold lfS; split <;> first | rfl | (exfalso; omega)) (lv_sub hl [2, 1, 0] rfl)
    · refine r_ic hx hb dX0_lifted_26 ?_
      refine lv_iload_n hx hb dX0_lifted_27 rfl (lv_at hl 2 rfl) ?_
      refine r_shl hx hb dX0_lifted_28 ?_
      refine lv_goto (tgt := 33) hx hb dX0_lifted_29 (by decide) ?_
      refine r_orb hx hb dX0_lifted_33 (by omega) ?_
      refine lv_istore_n (lv' := [(1, .int (mk6 (bu B ((k : Int))))), (0, .ref h), (2, .int (iI ((k : Int))))]) hx hb dX0_lifted_34 rfl hl (by decide) rfl (fun ls hl => ?_)
      refine r_iinc (j := 2) (lv' := [(2, .int (iI (((k + 1 : Nat) : Int)))), (1, .int (mk6 (bu B ((k : Int))))), (0, .ref h)]) (b := ((k + 1 : Nat) : Int)) hx hb dX0_lifted_35 hl rfl (by omega) (by decide) rfl (fun ls hl => ?_)
      refine lv_goto (tgt := 4) hx hb dX0_lifted_38 (by decide) ?_
      exact ih (k + 1) (bu B ((k : Int))) ls (by omega) (by rw [it1, ← hv]; unfold lfS; split <;> first | rfl | (exfalso; omega)) (lv_sub hl [2, 1, 0] rfl)
set_option maxHeartbeats 4000000 in
set_option maxRecDepth 100000 in
theorem mX0_lifted (l : Launch) (D : va_G) (cB cI : ClassId) (Hh : Heap) {fb fu fw fs fh : Int → Int} {st : Int} (h : Nat) (a : Nat → Nat) (hP : va_P D vwCl (wX h a cB cI fb fu fw fs fh st) Hh) (hfu : rg 0 10 6 fu) (hfb : rg 0 10 6 fb) : Met l yX0_lifted (ws_ yX0_lifted cX0_lifted 3 (some .int)) ({ frames := 0, cells := 0, slots := 0, locals := 0 }) (va_Pc [.ref h] (fun U => U.heap = Hh ∧ va_K D vwCl (tX cB cI) U)) (va_Qi (fun (r : Int32) (_ : Unit) => r = mk6 (lfX fu fb)) (fun _ u => u.heap = Hh) (fun _ => False)) 0 0 (fun _ => False) := by
  refine Met.ofW (cc := cX0_lifted) (maxL := 3) (ret := (some .int)) (by decide) rfl ?_
  intro p e s m args below meth c s₁ B hml hv
  obtain ⟨rfl, hsz, hK⟩ := hv
  have hx := B.exec
  have hb := B.bytes
  have hr := B.returns
  have hts := atoms_spec (ws := ws_ yX0_lifted cX0_lifted 3 (some .int)) B.pre
  have hts : ∀ w ∈ lw_all, w.before _ s = true := fun w h => hts w (List.mem_cons_of_mem _ h)
  have hown : s.vm.findClass RX0 = some m.cls := findClass_of_methodNamed B.named
  have hlocks := B.notSynchronized
  subst hsz
  have hS : va_S (fun _ => False) s.heap s.heap [] := va_S.rf
  have hl := lv_entry ([.ref h]) (n := 3) (Nat.le_of_ble_eq_true rfl)
  rw [lg_entry_eq]
  generalize (lg_sl ([.ref h]) ++ List.replicate (3 - (lg_sl ([.ref h])).length) Slot.unset).toArray = ls at hl ⊢
  have hl : lv_has ls 3 [(0, .ref h)] := hl
  refine r_icm hx hb dX0_lifted_0 ?_
  refine lv_istore_n (lv' := [(1, .int (mk6 b0)), (0, .ref h)]) hx hb dX0_lifted_1 rfl hl (by decide) rfl (fun ls hl => ?_)
  refine r_ic hx hb dX0_lifted_2 ?_
  refine lv_istore_n (lv' := [(2, .int (iI 0)), (1, .int (mk6 b0)), (0, .ref h)]) hx hb dX0_lifted_3 rfl hl (by decide) rfl (fun ls hl => ?_)
  refine lp_lifted hx hb hml hown hts hK hP hfu hfb (fun B ls hv hl => ?_) 6 0 b0 ls rfl rfl (lv_sub hl [2, 1, 0] rfl)
  refine lv_iload_n hx hb dX0_lifted_41 rfl (lv_at hl 1 rfl) ?_
  exact W.iret (v := (mk6 B)) hx hb hr (fun u hu hW => ⟨⟨_, (), rfl, by rw [hv], hu⟩, hS.F hu⟩) hS.2.2 dX0_lifted_42
end S08
end
section
/-! 09: PriorityLocks' writing methods -/
theorem wk_put {fw fh : Int → Int} {t l : Int} (h : wk fw fh) (hl : 0 ≤ fh l) : wk (iu fw t l) fh := by
  intro s h0 h6 hs
  unfold iu at hs ⊢
  by_cases e : s = t
  · rw [if_pos e]; exact hl
  · rw [if_neg e] at hs ⊢; exact h s h0 h6 hs
theorem wk_drop {fw fh : Int → Int} {t : Int} (h : wk fw fh) : wk (iu fw t (-1)) fh := by
  intro s h0 h6 hs
  unfold iu at hs ⊢
  by_cases e : s = t
  · rw [if_pos e] at hs; omega
  · rw [if_neg e] at hs ⊢; exact h s h0 h6 hs
theorem wk_pass {fw fh : Int → Int} {n l : Int} (h : wk fw fh) (hn : 0 ≤ n) : wk (iu fw n (-1)) (iu fh l n) := by
  intro s h0 h6 hs
  have h1 := wk_drop (t := n) h s h0 h6 hs
  by_cases e : iu fw n (-1) s = l
  · rw [e, iu_s]; exact hn
  · rw [iu_n e]; exact h1
theorem wk_free {fw fh : Int → Int} {n l : Int} (h : wk fw fh) (hn : ∀ s, 0 ≤ s → s < 6 → fw s ≠ l) : wk fw (iu fh l n) := by
  intro s h0 h6 hs
  rw [iu_n (hn s h0 h6)]
  exact h s h0 h6 hs
theorem bwt_none_k {fu fw fs : Int → Int} {l : Int} : ∀ n : Nat, it (bwS fu fw fs l) n (-1) < 0 → ∀ s, 0 ≤ s → s < (n : Int) → fw s ≠ l := by
  intro n
  induction n with
  | zero => intro _ s h0 h1; omega
  | succ n ih =>
    intro h s h0 h1
    rw [it1] at h
    unfold bwS at h
    split at h
    · omega
    · rename_i hc
      by_cases e : s = (n : Int)
      · intro q
        rw [e] at q
        exact hc ⟨q, Or.inl h⟩
      · exact ih h s h0 (by omega)
theorem bwt_none {fu fw fs : Int → Int} {l : Int} (h : bwt fu fw fs l < 0) : ∀ s, 0 ≤ s → s < 6 → fw s ≠ l := fun s h0 h6 => bwt_none_k 6 h s h0 h6
theorem rfr_rg {fb fw fh : Int → Int} (hfb : rg 0 10 6 fb) (hfw : rg (-1) 5 6 fw) (hfh : rg (-1) 6 5 fh) : ∀ (n : Nat) (g : Int → Int) (x : Int), rg 0 10 6 g → x < 6 → rg 0 10 6 (rfr fb fw fh n g x) := by
  intro n
  induction n with
  | zero => intro g x hg _; exact hg
  | succ n ih =>
    intro g x hg hx
    by_cases h0 : x < 0
    · rw [rfr_n _ h0]; exact hg
    · rw [rfr_p (by omega)]
      refine ih _ _ (rg_iu hg (lnt_rg hfb hg ⟨by omega, hx⟩)) ?_
      split
      · omega
      · rename_i hc
        have h1 := hfw x (by omega) hx
        exact (hfh (fw x) (by omega) (by omega)).2
section S09
variable {p : Program} {l : Launch} {e : Env} {R : Room} {s : State} {m : MethodId} {args : Array Value} {below : List Frame} {meth : Method} {c : Code} {H : Heap} {locs : List Loc} {cells slots : Nat} {Q : State → Prop}
variable {cc : ByteArray} {pc nL : Nat} {ls : Array Slot} {rest : List Value} {D : va_G} {A : Nat → Prop} {H0 : Heap} {h : Nat} {a : Nat → Nat} {cB cI : ClassId} {fb fu fw fs fh mb mh mw ms mu : Int → Int} {st tm : Int}
set_option maxHeartbeats 4000000 in
set_option maxRecDepth 100000 in
theorem mX0_take (l : Launch) (D : va_G) (h : Nat) (a : Nat → Nat) (cB cI : ClassId) (sz : Nat) (fb fu fw fs fh : Int → Int) (st : Int) (hfb : rg 0 10 6 fb) (hfu : rg 0 10 6 fu) (hfw : rg (-1) 5 6 fw) (hfs : rg 0 1000000 6 fs) (hfh : rg (-1) 6 5 fh) (hwk : wk fw fh) (hst : 0 ≤ st ∧ st < 1000000) (t lk : Int) (ht : -2147483648 ≤ t ∧ t < 2147483648) (hlk : -2147483648 ≤ lk ∧ lk < 2147483648) : Met l yX0_take (ws_ yX0_take cX0_take 4 (some .int)) ({ frames := 2, cells := 0, slots := 0, locals := 49 }) (va_Pc [.ref h, .int (iI t), .int (iI lk)] (fun U => U.heap.size = sz ∧ va_P D vwCl (wX h a cB cI fb fu fw fs fh st) U.heap ∧ va_K D vwCl (tX cB cI) U ∧ va_D (fun _ => True) (wX h a cB cI fb fu fw fs fh st))) (va_Qi (fun (r : Int32) (u : PX) => r = iI (tkX fb fu fw fs fh st t lk).1 ∧ u = (tkX fb fu fw fs fh st t lk).2) (bX D (va_A (wX h a cB cI fb fu fw fs fh st) sz) h a cB cI) (va_A (wX h a cB cI fb fu fw fs fh st) sz)) 0 0 (va_A (wX h a cB cI fb fu fw fs fh st) sz) := by
  refine Met.ofW (cc := cX0_take) (maxL := 4) (ret := (some .int)) (by decide) rfl ?_
  intro p e s m args below meth c s₁ B hml hv
  obtain ⟨rfl, hsz, hP, hK, hD0⟩ := hv
  have hx := B.exec
  have hb := B.bytes
  have hr := B.returns
  have hts := atoms_spec (ws := ws_ yX0_take cX0_take 4 (some .int)) B.pre
  have hts : ∀ w ∈ lw_all, w.before _ s = true := fun w h => hts w (List.mem_cons_of_mem _ h)
  have hown : s.vm.findClass RX0 = some m.cls := findClass_of_methodNamed B.named
  have hlocks := B.notSynchronized
  subst hsz
  have hD := hD0.self (sz := s.heap.size)
  generalize hAe : va_A (wX h a cB cI fb fu fw fs fh st) s.heap.size = A at hD ⊢
  have hA : ∀ q : Nat, s.heap.size ≤ q → A q := fun q h => by rw [← hAe]; exact Or.inr h
  have hS : va_S A s.heap s.heap [] := va_S.rf
  have hl := lv_entry ([.ref h, .int (iI t), .int (iI lk)]) (n := 4) (Nat.le_of_ble_eq_true rfl)
  rw [lg_entry_eq]
  generalize (lg_sl ([.ref h, .int (iI t), .int (iI lk)]) ++ List.replicate (4 - (lg_sl ([.ref h, .int (iI t), .int (iI lk)])).length) Slot.unset).toArray = ls at hl ⊢
  have hl : lv_has ls 4 [(0, .ref h), (1, .int (iI t)), (2, .int (iI lk))] := hl
  refine lv_iload_n hx hb dX0_take_0 rfl (lv_at hl 1 rfl) ?_
  refine k_isThread hx hb hml hown hts hK (by omega) (Nat.le_of_ble_eq_true rfl) (Nat.le_of_ble_eq_true rfl) (Nat.zero_le _) (Nat.zero_le _) hS hl.1 (Nat.le_of_ble_eq_true rfl) dX0_take_1 (fun locs hS => ?_)
  refine r_peq (P := 0 ≤ t ∧ t < 6) (tgt := 33) hx hb ite_10 dX0_take_4 (by decide) (fun c4_1 => ?_) (fun c4_1 => ?_)
  · refine r_ic hx hb dX0_take_33 ?_
    have ev : tkX fb fu fw fs fh st t lk = (-1, (fb, fu, fw, fs, fh, st)) := by unfold tkX; rw [if_pos (by omega)]
    exact W.iret (v := (iI (-1))) hx hb hr (fun u hu hW => ⟨⟨_, (fb, fu, fw, fs, fh, st), rfl, ⟨by rw [ev], by rw [ev]⟩, by rw [hu]; exact hP, va_K.moved hW.alike hK, hD⟩, hS.F hu⟩) hS.2.2 dX0_take_34
  · refine lv_iload_n hx hb dX0_take_7 rfl (lv_at hl 2 rfl) ?_
    refine k_isLock hx hb hml hown hts hK (by omega) (Nat.le_of_ble_eq_true rfl) (Nat.le_of_ble_eq_true rfl) (Nat.zero_le _) (Nat.zero_le _) hS hl.1 (Nat.le_of_ble_eq_true rfl) dX0_take_8 (fun locs hS => ?_)
    refine r_peq (P := 0 ≤ lk ∧ lk < 5) (tgt := 33) hx hb ite_10 dX0_take_11 (by decide) (fun c11_2 => ?_) (fun c11_2 => ?_)
    · refine r_ic hx hb dX0_take_33 ?_
      have ev : tkX fb fu fw fs fh st t lk = (-1, (fb, fu, fw, fs, fh, st)) := by unfold tkX; rw [if_pos (by omega)]
      exact W.iret (v := (iI (-1))) hx hb hr (fun u hu hW => ⟨⟨_, (fb, fu, fw, fs, fh, st), rfl, ⟨by rw [ev], by rw [ev]⟩, by rw [hu]; exact hP, va_K.moved hW.alike hK, hD⟩, hS.F hu⟩) hS.2.2 dX0_take_34
    · refine lv_aload_n hx hb dX0_take_14 rfl (lv_at hl 0 rfl) ?_
      refine x_gw hx hb hown hts hK hP dX0_take_15 ?_
      refine lv_iload_n hx hb dX0_take_18 rfl (lv_at hl 1 rfl) ?_
      have z19_3 := hfw t (by omega) (by omega)
      refine x_lw hx hb hK hP (by omega) dX0_take_19 ?_
      refine r_if_ge (tgt := 33) hx hb dX0_take_20 (by decide) (by omega) (fun c20_4 => ?_) (fun c20_4 => ?_)
      · refine r_ic hx hb dX0_take_33 ?_
        have ev : tkX fb fu fw fs fh st t lk = (-1, (fb, fu, fw, fs, fh, st)) := by unfold tkX; rw [if_pos (by omega)]
        exact W.iret (v := (iI (-1))) hx hb hr (fun u hu hW => ⟨⟨_, (fb, fu, fw, fs, fh, st), rfl, ⟨by rw [ev], by rw [ev]⟩, by rw [hu]; exact hP, va_K.moved hW.alike hK, hD⟩, hS.F hu⟩) hS.2.2 dX0_take_34
      · refine lv_aload_n hx hb dX0_take_23 rfl (lv_at hl 0 rfl) ?_
        refine x_gh hx hb hown hts hK hP dX0_take_24 ?_
        refine lv_iload_n hx hb dX0_take_27 rfl (lv_at hl 2 rfl) ?_
        have z28_5 := hfh lk (by omega) (by omega)
        refine x_lh hx hb hK hP (by omega) dX0_take_28 ?_
        refine lv_iload_n hx hb dX0_take_29 rfl (lv_at hl 1 rfl) ?_
        refine r_ic_ne (tgt := 35) hx hb dX0_take_30 (by decide) (by omega) (by omega) (fun c30_6 => ?_) (fun c30_6 => ?_)
        · refine lv_aload_n hx hb dX0_take_35 rfl (lv_at hl 0 rfl) ?_
          refine x_gh hx hb hown hts hK hP dX0_take_36 ?_
          refine lv_iload_n hx hb dX0_take_39 rfl (lv_at hl 2 rfl) ?_
          refine x_lh hx hb hK hP (by omega) dX0_take_40 ?_
          refine lv_istore_n (lv' := [(3, .int (iI (fh lk))), (0, .ref h), (1, .int (iI t)), (2, .int (iI lk))]) hx hb dX0_take_41 rfl hl (by decide) rfl (fun ls hl => ?_)
          refine lv_iload_n hx hb dX0_take_42 rfl (lv_at hl 0 rfl) ?_
          refine r_if_ge (tgt := 56) hx hb dX0_take_43 (by decide) (by omega) (fun c43_7 => ?_) (fun c43_7 => ?_)
          · refine lv_aload_n hx hb dX0_take_56 rfl (lv_at hl 1 rfl) ?_
            refine lv_iload_n hx hb dX0_take_57 rfl (lv_at hl 0 rfl) ?_
            refine lv_iload_n hx hb dX0_take_58 rfl (lv_at hl 2 rfl) ?_
            refine k_dep hx hb hml hown hts hK hP hfw hfh hwk (by omega) (by omega) (Nat.le_of_ble_eq_true rfl) (Nat.le_of_ble_eq_true rfl) (Nat.zero_le _) (Nat.zero_le _) hS hl.1 (Nat.le_of_ble_eq_true rfl) dX0_take_59 (fun locs hS => ?_)
            refine r_beq (tgt := 68) hx hb dX0_take_62 (by decide) (fun c62_8 => ?_) (fun c62_8 => ?_)
            · refine lv_aload_n hx hb dX0_take_68 rfl (lv_at hl 1 rfl) ?_
              refine x_gw hx hb hown hts hK hP dX0_take_69 ?_
              refine lv_iload_n hx hb dX0_take_72 rfl (lv_at hl 2 rfl) ?_
              refine lv_iload_n hx hb dX0_take_73 rfl (lv_at hl 3 rfl) ?_
              refine r_i2b hx hb dX0_take_74 (by omega) ?_
              refine x_sw hx hb hK hP hD hS (by omega) (by omega) dX0_take_75 (fun H locs hP hD hS => ?_)
              refine lv_aload_n hx hb dX0_take_76 rfl (lv_at hl 1 rfl) ?_
              refine x_gs hx hb hown hts hK hP dX0_take_77 ?_
              refine lv_iload_n hx hb dX0_take_80 rfl (lv_at hl 2 rfl) ?_
              refine lv_aload_n hx hb dX0_take_81 rfl (lv_at hl 1 rfl) ?_
              refine x_gt hx hb hown hts hK hP dX0_take_82 ?_
              refine x_ss hx hb hK hP hD hS (by omega) dX0_take_85 (fun H locs hP hD hS => ?_)
              refine lv_aload_n hx hb dX0_take_86 rfl (lv_at hl 1 rfl) ?_
              refine lv_dup hx hb dX0_take_87 rfl ?_
              refine x_gt hx hb hown hts hK hP dX0_take_88 ?_
              refine r_ic hx hb dX0_take_91 ?_
              refine r_add hx hb dX0_take_92 ?_
              refine x_pt hx hb hown hts hK hP hD hS dX0_take_93 (fun H locs hP hD hS => ?_)
              refine lv_aload_n hx hb dX0_take_96 rfl (lv_at hl 1 rfl) ?_
              refine lv_iload_n hx hb dX0_take_97 rfl (lv_at hl 0 rfl) ?_
              refine k_refresh hx hb hml hown hts hK hP hD hA hfb hfu (rg_iu hfw (by omega)) hfh (wk_put hwk (by omega)) (by omega) (Nat.le_of_ble_eq_true rfl) (Nat.le_of_ble_eq_true rfl) (Nat.zero_le _) (Nat.zero_le _) hS hl.1 (Nat.le_of_ble_eq_true rfl) dX0_take_98 (fun H locs hP hD hS => ?_)
              refine r_ic hx hb dX0_take_101 ?_
              have ev : tkX fb fu fw fs fh st t lk = (1, (fb, rfr fb (iu fw t lk) fh 6 fu (fh lk), iu fw t lk, iu fs t st, fh, st + 1)) := by unfold tkX; rw [if_neg (by omega), if_neg (by omega), if_neg (by rw [c62_8]; decide)]
              exact W.iret (v := (iI 1)) hx hb hr (fun u hu hW => ⟨⟨_, (fb, rfr fb (iu fw t lk) fh 6 fu (fh lk), iu fw t lk, iu fs t st, fh, st + 1), rfl, ⟨by rw [ev], by rw [ev]⟩, by rw [hu]; exact hP, va_K.moved hW.alike hK, hD⟩, hS.F hu⟩) hS.2.2 dX0_take_102
            · refine r_bp hx hb dX0_take_65 (by decide +kernel) ?_
              have ev : tkX fb fu fw fs fh st t lk = (-2, (fb, fu, fw, fs, fh, st)) := by unfold tkX; rw [if_neg (by omega), if_neg (by omega), if_pos c62_8]
              exact W.iret (v := (iI (-2))) hx hb hr (fun u hu hW => ⟨⟨_, (fb, fu, fw, fs, fh, st), rfl, ⟨by rw [ev], by rw [ev]⟩, by rw [hu]; exact hP, va_K.moved hW.alike hK, hD⟩, hS.F hu⟩) hS.2.2 dX0_take_67
          · refine lv_aload_n hx hb dX0_take_46 rfl (lv_at hl 1 rfl) ?_
            refine x_gh hx hb hown hts hK hP dX0_take_47 ?_
            refine lv_iload_n hx hb dX0_take_50 rfl (lv_at hl 3 rfl) ?_
            refine lv_iload_n hx hb dX0_take_51 rfl (lv_at hl 2 rfl) ?_
            refine r_i2b hx hb dX0_take_52 (by omega) ?_
            refine x_sh hx hb hK hP hD hS (by omega) (by omega) dX0_take_53 (fun H locs hP hD hS => ?_)
            refine r_ic hx hb dX0_take_54 ?_
            have ev : tkX fb fu fw fs fh st t lk = (0, (fb, fu, fw, fs, iu fh lk t, st)) := by unfold tkX; rw [if_neg (by omega), if_pos (by omega)]
            exact W.iret (v := (iI 0)) hx hb hr (fun u hu hW => ⟨⟨_, (fb, fu, fw, fs, iu fh lk t, st), rfl, ⟨by rw [ev], by rw [ev]⟩, by rw [hu]; exact hP, va_K.moved hW.alike hK, hD⟩, hS.F hu⟩) hS.2.2 dX0_take_55
        · refine r_ic hx hb dX0_take_33 ?_
          have ev : tkX fb fu fw fs fh st t lk = (-1, (fb, fu, fw, fs, fh, st)) := by unfold tkX; rw [if_pos (by omega)]
          exact W.iret (v := (iI (-1))) hx hb hr (fun u hu hW => ⟨⟨_, (fb, fu, fw, fs, fh, st), rfl, ⟨by rw [ev], by rw [ev]⟩, by rw [hu]; exact hP, va_K.moved hW.alike hK, hD⟩, hS.F hu⟩) hS.2.2 dX0_take_34
set_option maxHeartbeats 4000000 in
set_option maxRecDepth 100000 in
theorem mX0_give (l : Launch) (D : va_G) (h : Nat) (a : Nat → Nat) (cB cI : ClassId) (sz : Nat) (fb fu fw fs fh : Int → Int) (st : Int) (hfb : rg 0 10 6 fb) (hfu : rg 0 10 6 fu) (hfw : rg (-1) 5 6 fw) (hfs : rg 0 1000000 6 fs) (hfh : rg (-1) 6 5 fh) (hwk : wk fw fh) (hst : 0 ≤ st ∧ st < 1000000) (t lk : Int) (ht : -2147483648 ≤ t ∧ t < 2147483648) (hlk : -2147483648 ≤ lk ∧ lk < 2147483648) : Met l yX0_give (ws_ yX0_give cX0_give 4 (some .int)) ({ frames := 2, cells := 0, slots := 0, locals := 49 }) (va_Pc [.ref h, .int (iI t), .int (iI lk)] (fun U => U.heap.size = sz ∧ va_P D vwCl (wX h a cB cI fb fu fw fs fh st) U.heap ∧ va_K D vwCl (tX cB cI) U ∧ va_D (fun _ => True) (wX h a cB cI fb fu fw fs fh st))) (va_Qi (fun (r : Int32) (u : PX) => r = iI (gvX fb fu fw fs fh st t lk).1 ∧ u = (gvX fb fu fw fs fh st t lk).2) (bX D (va_A (wX h a cB cI fb fu fw fs fh st) sz) h a cB cI) (va_A (wX h a cB cI fb fu fw fs fh st) sz)) 0 0 (va_A (wX h a cB cI fb fu fw fs fh st) sz) := by
  refine Met.ofW (cc := cX0_give) (maxL := 4) (ret := (some .int)) (by decide) rfl ?_
  intro p e s m args below meth c s₁ B hml hv
  obtain ⟨rfl, hsz, hP, hK, hD0⟩ := hv
  have hx := B.exec
  have hb := B.bytes
  have hr := B.returns
  have hts := atoms_spec (ws := ws_ yX0_give cX0_give 4 (some .int)) B.pre
  have hts : ∀ w ∈ lw_all, w.before _ s = true := fun w h => hts w (List.mem_cons_of_mem _ h)
  have hown : s.vm.findClass RX0 = some m.cls := findClass_of_methodNamed B.named
  have hlocks := B.notSynchronized
  subst hsz
  have hD := hD0.self (sz := s.heap.size)
  generalize hAe : va_A (wX h a cB cI fb fu fw fs fh st) s.heap.size = A at hD ⊢
  have hA : ∀ q : Nat, s.heap.size ≤ q → A q := fun q h => by rw [← hAe]; exact Or.inr h
  have hS : va_S A s.heap s.heap [] := va_S.rf
  have hl := lv_entry ([.ref h, .int (iI t), .int (iI lk)]) (n := 4) (Nat.le_of_ble_eq_true rfl)
  rw [lg_entry_eq]
  generalize (lg_sl ([.ref h, .int (iI t), .int (iI lk)]) ++ List.replicate (4 - (lg_sl ([.ref h, .int (iI t), .int (iI lk)])).length) Slot.unset).toArray = ls at hl ⊢
  have hl : lv_has ls 4 [(0, .ref h), (1, .int (iI t)), (2, .int (iI lk))] := hl
  refine lv_iload_n hx hb dX0_give_0 rfl (lv_at hl 1 rfl) ?_
  refine k_isThread hx hb hml hown hts hK (by omega) (Nat.le_of_ble_eq_true rfl) (Nat.le_of_ble_eq_true rfl) (Nat.zero_le _) (Nat.zero_le _) hS hl.1 (Nat.le_of_ble_eq_true rfl) dX0_give_1 (fun locs hS => ?_)
  refine r_peq (P := 0 ≤ t ∧ t < 6) (tgt := 33) hx hb ite_10 dX0_give_4 (by decide) (fun c4_1 => ?_) (fun c4_1 => ?_)
  · refine r_bp hx hb dX0_give_33 (by decide +kernel) ?_
    have ev : gvX fb fu fw fs fh st t lk = (-2, (fb, fu, fw, fs, fh, st)) := by unfold gvX; rw [if_pos (by omega)]
    exact W.iret (v := (iI (-2))) hx hb hr (fun u hu hW => ⟨⟨_, (fb, fu, fw, fs, fh, st), rfl, ⟨by rw [ev], by rw [ev]⟩, by rw [hu]; exact hP, va_K.moved hW.alike hK, hD⟩, hS.F hu⟩) hS.2.2 dX0_give_35
  · refine lv_iload_n hx hb dX0_give_7 rfl (lv_at hl 2 rfl) ?_
    refine k_isLock hx hb hml hown hts hK (by omega) (Nat.le_of_ble_eq_true rfl) (Nat.le_of_ble_eq_true rfl) (Nat.zero_le _) (Nat.zero_le _) hS hl.1 (Nat.le_of_ble_eq_true rfl) dX0_give_8 (fun locs hS => ?_)
    refine r_peq (P := 0 ≤ lk ∧ lk < 5) (tgt := 33) hx hb ite_10 dX0_give_11 (by decide) (fun c11_2 => ?_) (fun c11_2 => ?_)
    · refine r_bp hx hb dX0_give_33 (by decide +kernel) ?_
      have ev : gvX fb fu fw fs fh st t lk = (-2, (fb, fu, fw, fs, fh, st)) := by unfold gvX; rw [if_pos (by omega)]
      exact W.iret (v := (iI (-2))) hx hb hr (fun u hu hW => ⟨⟨_, (fb, fu, fw, fs, fh, st), rfl, ⟨by rw [ev], by rw [ev]⟩, by rw [hu]; exact hP, va_K.moved hW.alike hK, hD⟩, hS.F hu⟩) hS.2.2 dX0_give_35
    · refine lv_aload_n hx hb dX0_give_14 rfl (lv_at hl 0 rfl) ?_
      refine x_gw hx hb hown hts hK hP dX0_give_15 ?_
      refine lv_iload_n hx hb dX0_give_18 rfl (lv_at hl 1 rfl) ?_
      have z19_3 := hfw t (by omega) (by omega)
      refine x_lw hx hb hK hP (by omega) dX0_give_19 ?_
      refine r_if_ge (tgt := 33) hx hb dX0_give_20 (by decide) (by omega) (fun c20_4 => ?_) (fun c20_4 => ?_)
      · refine r_bp hx hb dX0_give_33 (by decide +kernel) ?_
        have ev : gvX fb fu fw fs fh st t lk = (-2, (fb, fu, fw, fs, fh, st)) := by unfold gvX; rw [if_pos (by omega)]
        exact W.iret (v := (iI (-2))) hx hb hr (fun u hu hW => ⟨⟨_, (fb, fu, fw, fs, fh, st), rfl, ⟨by rw [ev], by rw [ev]⟩, by rw [hu]; exact hP, va_K.moved hW.alike hK, hD⟩, hS.F hu⟩) hS.2.2 dX0_give_35
      · refine lv_aload_n hx hb dX0_give_23 rfl (lv_at hl 0 rfl) ?_
        refine x_gh hx hb hown hts hK hP dX0_give_24 ?_
        refine lv_iload_n hx hb dX0_give_27 rfl (lv_at hl 2 rfl) ?_
        have z28_5 := hfh lk (by omega) (by omega)
        refine x_lh hx hb hK hP (by omega) dX0_give_28 ?_
        refine lv_iload_n hx hb dX0_give_29 rfl (lv_at hl 1 rfl) ?_
        refine r_ic_eq (tgt := 36) hx hb dX0_give_30 (by decide) (by omega) (by omega) (fun c30_6 => ?_) (fun c30_6 => ?_)
        · refine lv_aload_n hx hb dX0_give_36 rfl (lv_at hl 0 rfl) ?_
          refine lv_iload_n hx hb dX0_give_37 rfl (lv_at hl 2 rfl) ?_
          refine k_best hx hb hml hown hts hK hP hfu hfw hfs (by omega) (Nat.le_of_ble_eq_true rfl) (Nat.le_of_ble_eq_true rfl) (Nat.zero_le _) (Nat.zero_le _) hS hl.1 (Nat.le_of_ble_eq_true rfl) dX0_give_38 (fun locs hS => ?_)
          have zb := bwt_rg (fu := fu) (fw := fw) (fs := fs) (l := lk)
          refine lv_istore_n (lv' := [(3, .int (iI (bwt fu fw fs lk))), (0, .ref h), (1, .int (iI t)), (2, .int (iI lk))]) hx hb dX0_give_41 rfl hl (by decide) rfl (fun ls hl => ?_)
          refine lv_aload_n hx hb dX0_give_42 rfl (lv_at hl 1 rfl) ?_
          refine x_gh hx hb hown hts hK hP dX0_give_43 ?_
          refine lv_iload_n hx hb dX0_give_46 rfl (lv_at hl 3 rfl) ?_
          refine lv_iload_n hx hb dX0_give_47 rfl (lv_at hl 0 rfl) ?_
          refine r_i2b hx hb dX0_give_48 (by omega) ?_
          refine x_sh hx hb hK hP hD hS (by omega) (by omega) dX0_give_49 (fun H locs hP hD hS => ?_)
          refine lv_iload_n hx hb dX0_give_50 rfl (lv_at hl 0 rfl) ?_
          refine r_if_lt (tgt := 66) hx hb dX0_give_51 (by decide) (by omega) (fun c51_7 => ?_) (fun c51_7 => ?_)
          · refine lv_aload_n hx hb dX0_give_66 rfl (lv_at hl 1 rfl) ?_
            refine lv_iload_n hx hb dX0_give_67 rfl (lv_at hl 2 rfl) ?_
            refine k_refresh hx hb hml hown hts hK hP hD hA hfb hfu hfw (rg_iu hfh (by omega)) (wk_free hwk (bwt_none c51_7)) (by omega) (Nat.le_of_ble_eq_true rfl) (Nat.le_of_ble_eq_true rfl) (Nat.zero_le _) (Nat.zero_le _) hS hl.1 (Nat.le_of_ble_eq_true rfl) dX0_give_68 (fun H locs hP hD hS => ?_)
            refine lv_iload_n hx hb dX0_give_71 rfl (lv_at hl 0 rfl) ?_
            have ev : gvX fb fu fw fs fh st t lk = (bwt fu fw fs lk, (fb, rfr fb fw (iu fh lk (bwt fu fw fs lk)) 6 fu t, fw, fs, iu fh lk (bwt fu fw fs lk), st)) := by unfold gvX; rw [if_neg (by omega), if_pos (by omega)]
            exact W.iret (v := (iI (bwt fu fw fs lk))) hx hb hr (fun u hu hW => ⟨⟨_, (fb, rfr fb fw (iu fh lk (bwt fu fw fs lk)) 6 fu t, fw, fs, iu fh lk (bwt fu fw fs lk), st), rfl, ⟨by rw [ev], by rw [ev]⟩, by rw [hu]; exact hP, va_K.moved hW.alike hK, hD⟩, hS.F hu⟩) hS.2.2 dX0_give_72
          · refine lv_aload_n hx hb dX0_give_54 rfl (lv_at hl 1 rfl) ?_
            refine x_gw hx hb hown hts hK hP dX0_give_55 ?_
            refine lv_iload_n hx hb dX0_give_58 rfl (lv_at hl 0 rfl) ?_
            refine r_ic hx hb dX0_give_59 ?_
            refine x_sw hx hb hK hP hD hS (by omega) (by omega) dX0_give_60 (fun H locs hP hD hS => ?_)
            refine lv_aload_n hx hb dX0_give_61 rfl (lv_at hl 1 rfl) ?_
            refine lv_iload_n hx hb dX0_give_62 rfl (lv_at hl 0 rfl) ?_
            refine k_refresh hx hb hml hown hts hK hP hD hA hfb hfu (rg_iu hfw (by omega)) (rg_iu hfh (by omega)) (wk_pass hwk (by omega)) (by omega) (Nat.le_of_ble_eq_true rfl) (Nat.le_of_ble_eq_true rfl) (Nat.zero_le _) (Nat.zero_le _) hS hl.1 (Nat.le_of_ble_eq_true rfl) dX0_give_63 (fun H locs hP hD hS => ?_)
            refine lv_aload_n hx hb dX0_give_66 rfl (lv_at hl 1 rfl) ?_
            refine lv_iload_n hx hb dX0_give_67 rfl (lv_at hl 2 rfl) ?_
            refine k_refresh hx hb hml hown hts hK hP hD hA hfb (rfr_rg hfb (rg_iu hfw (by omega)) (rg_iu hfh (by omega)) 6 _ _ hfu (by omega)) (rg_iu hfw (by omega)) (rg_iu hfh (by omega)) (wk_pass hwk (by omega)) (by omega) (Nat.le_of_ble_eq_true rfl) (Nat.le_of_ble_eq_true rfl) (Nat.zero_le _) (Nat.zero_le _) hS hl.1 (Nat.le_of_ble_eq_true rfl) dX0_give_68 (fun H locs hP hD hS => ?_)
            refine lv_iload_n hx hb dX0_give_71 rfl (lv_at hl 0 rfl) ?_
            have ev : gvX fb fu fw fs fh st t lk = (bwt fu fw fs lk, (fb, rfr fb (iu fw (bwt fu fw fs lk) (-1)) (iu fh lk (bwt fu fw fs lk)) 6 (rfr fb (iu fw (bwt fu fw fs lk) (-1)) (iu fh lk (bwt fu fw fs lk)) 6 fu (bwt fu fw fs lk)) t, iu fw (bwt fu fw fs lk) (-1), fs, iu fh lk (bwt fu fw fs lk), st)) := by unfold gvX; rw [if_neg (by omega), if_neg (by omega)]
            exact W.iret (v := (iI (bwt fu fw fs lk))) hx hb hr (fun u hu hW => ⟨⟨_, (fb, rfr fb (iu fw (bwt fu fw fs lk) (-1)) (iu fh lk (bwt fu fw fs lk)) 6 (rfr fb (iu fw (bwt fu fw fs lk) (-1)) (iu fh lk (bwt fu fw fs lk)) 6 fu (bwt fu fw fs lk)) t, iu fw (bwt fu fw fs lk) (-1), fs, iu fh lk (bwt fu fw fs lk), st), rfl, ⟨by rw [ev], by rw [ev]⟩, by rw [hu]; exact hP, va_K.moved hW.alike hK, hD⟩, hS.F hu⟩) hS.2.2 dX0_give_72
        · refine r_bp hx hb dX0_give_33 (by decide +kernel) ?_
          have ev : gvX fb fu fw fs fh st t lk = (-2, (fb, fu, fw, fs, fh, st)) := by unfold gvX; rw [if_pos (by omega)]
          exact W.iret (v := (iI (-2))) hx hb hr (fun u hu hW => ⟨⟨_, (fb, fu, fw, fs, fh, st), rfl, ⟨by rw [ev], by rw [ev]⟩, by rw [hu]; exact hP, va_K.moved hW.alike hK, hD⟩, hS.F hu⟩) hS.2.2 dX0_give_35
set_option maxHeartbeats 4000000 in
set_option maxRecDepth 100000 in
theorem mX0_giveUp (l : Launch) (D : va_G) (h : Nat) (a : Nat → Nat) (cB cI : ClassId) (sz : Nat) (fb fu fw fs fh : Int → Int) (st : Int) (hfb : rg 0 10 6 fb) (hfu : rg 0 10 6 fu) (hfw : rg (-1) 5 6 fw) (hfs : rg 0 1000000 6 fs) (hfh : rg (-1) 6 5 fh) (hwk : wk fw fh) (hst : 0 ≤ st ∧ st < 1000000) (t : Int) (ht : -2147483648 ≤ t ∧ t < 2147483648) : Met l yX0_giveUp (ws_ yX0_giveUp cX0_giveUp 3 (some .boolean)) ({ frames := 2, cells := 0, slots := 0, locals := 49 }) (va_Pc [.ref h, .int (iI t)] (fun U => U.heap.size = sz ∧ va_P D vwCl (wX h a cB cI fb fu fw fs fh st) U.heap ∧ va_K D vwCl (tX cB cI) U ∧ va_D (fun _ => True) (wX h a cB cI fb fu fw fs fh st))) (va_Qi (fun (r : Int32) (u : PX) => r = iI (guX fb fu fw fs fh st t).1 ∧ u = (guX fb fu fw fs fh st t).2) (bX D (va_A (wX h a cB cI fb fu fw fs fh st) sz) h a cB cI) (va_A (wX h a cB cI fb fu fw fs fh st) sz)) 0 0 (va_A (wX h a cB cI fb fu fw fs fh st) sz) := by
  refine Met.ofW (cc := cX0_giveUp) (maxL := 3) (ret := (some .boolean)) (by decide) rfl ?_
  intro p e s m args below meth c s₁ B hml hv
  obtain ⟨rfl, hsz, hP, hK, hD0⟩ := hv
  have hx := B.exec
  have hb := B.bytes
  have hr := B.returns
  have hts := atoms_spec (ws := ws_ yX0_giveUp cX0_giveUp 3 (some .boolean)) B.pre
  have hts : ∀ w ∈ lw_all, w.before _ s = true := fun w h => hts w (List.mem_cons_of_mem _ h)
  have hown : s.vm.findClass RX0 = some m.cls := findClass_of_methodNamed B.named
  have hlocks := B.notSynchronized
  subst hsz
  have hD := hD0.self (sz := s.heap.size)
  generalize hAe : va_A (wX h a cB cI fb fu fw fs fh st) s.heap.size = A at hD ⊢
  have hA : ∀ q : Nat, s.heap.size ≤ q → A q := fun q h => by rw [← hAe]; exact Or.inr h
  have hS : va_S A s.heap s.heap [] := va_S.rf
  have hl := lv_entry ([.ref h, .int (iI t)]) (n := 3) (Nat.le_of_ble_eq_true rfl)
  rw [lg_entry_eq]
  generalize (lg_sl ([.ref h, .int (iI t)]) ++ List.replicate (3 - (lg_sl ([.ref h, .int (iI t)])).length) Slot.unset).toArray = ls at hl ⊢
  have hl : lv_has ls 3 [(0, .ref h), (1, .int (iI t))] := hl
  refine lv_iload_n hx hb dX0_giveUp_0 rfl (lv_at hl 1 rfl) ?_
  refine k_isThread hx hb hml hown hts hK (by omega) (Nat.le_of_ble_eq_true rfl) (Nat.le_of_ble_eq_true rfl) (Nat.zero_le _) (Nat.zero_le _) hS hl.1 (Nat.le_of_ble_eq_true rfl) dX0_giveUp_1 (fun locs hS => ?_)
  refine r_peq (P := 0 ≤ t ∧ t < 6) (tgt := 16) hx hb ite_10 dX0_giveUp_4 (by decide) (fun c4_1 => ?_) (fun c4_1 => ?_)
  · refine r_ic hx hb dX0_giveUp_16 ?_
    have ev : guX fb fu fw fs fh st t = (0, (fb, fu, fw, fs, fh, st)) := by unfold guX; rw [if_pos (by omega)]
    exact W.zret (v := (iI 0)) hx hb hr (by decide +kernel) (fun u hu hW => ⟨⟨_, (fb, fu, fw, fs, fh, st), rfl, ⟨by rw [ev], by rw [ev]⟩, by rw [hu]; exact hP, va_K.moved hW.alike hK, hD⟩, hS.F hu⟩) hS.2.2 dX0_giveUp_17
  · refine lv_aload_n hx hb dX0_giveUp_7 rfl (lv_at hl 0 rfl) ?_
    refine x_gw hx hb hown hts hK hP dX0_giveUp_8 ?_
    refine lv_iload_n hx hb dX0_giveUp_11 rfl (lv_at hl 1 rfl) ?_
    have z12_2 := hfw t (by omega) (by omega)
    refine x_lw hx hb hK hP (by omega) dX0_giveUp_12 ?_
    refine r_if_ge (tgt := 18) hx hb dX0_giveUp_13 (by decide) (by omega) (fun c13_3 => ?_) (fun c13_3 => ?_)
    · refine lv_aload_n hx hb dX0_giveUp_18 rfl (lv_at hl 0 rfl) ?_
      refine x_gh hx hb hown hts hK hP dX0_giveUp_19 ?_
      refine lv_aload_n hx hb dX0_giveUp_22 rfl (lv_at hl 0 rfl) ?_
      refine x_gw hx hb hown hts hK hP dX0_giveUp_23 ?_
      refine lv_iload_n hx hb dX0_giveUp_26 rfl (lv_at hl 1 rfl) ?_
      refine x_lw hx hb hK hP (by omega) dX0_giveUp_27 ?_
      have z28_4 := hfh (fw t) (by omega) (by omega)
      refine x_lh hx hb hK hP (by omega) dX0_giveUp_28 ?_
      refine lv_istore_n (lv' := [(2, .int (iI (fh (fw t)))), (0, .ref h), (1, .int (iI t))]) hx hb dX0_giveUp_29 rfl hl (by decide) rfl (fun ls hl => ?_)
      refine lv_aload_n hx hb dX0_giveUp_30 rfl (lv_at hl 1 rfl) ?_
      refine x_gw hx hb hown hts hK hP dX0_giveUp_31 ?_
      refine lv_iload_n hx hb dX0_giveUp_34 rfl (lv_at hl 2 rfl) ?_
      refine r_ic hx hb dX0_giveUp_35 ?_
      refine x_sw hx hb hK hP hD hS (by omega) (by omega) dX0_giveUp_36 (fun H locs hP hD hS => ?_)
      refine lv_aload_n hx hb dX0_giveUp_37 rfl (lv_at hl 1 rfl) ?_
      refine lv_iload_n hx hb dX0_giveUp_38 rfl (lv_at hl 0 rfl) ?_
      have zk := hwk t (by omega) (by omega) (by omega)
      refine k_refresh hx hb hml hown hts hK hP hD hA hfb hfu (rg_iu hfw (by omega)) hfh (wk_drop hwk) (by omega) (Nat.le_of_ble_eq_true rfl) (Nat.le_of_ble_eq_true rfl) (Nat.zero_le _) (Nat.zero_le _) hS hl.1 (Nat.le_of_ble_eq_true rfl) dX0_giveUp_39 (fun H locs hP hD hS => ?_)
      refine r_ic hx hb dX0_giveUp_42 ?_
      have ev : guX fb fu fw fs fh st t = (1, (fb, rfr fb (iu fw t (-1)) fh 6 fu (fh (fw t)), iu fw t (-1), fs, fh, st)) := by unfold guX; rw [if_neg (by omega)]
      exact W.zret (v := (iI 1)) hx hb hr (by decide +kernel) (fun u hu hW => ⟨⟨_, (fb, rfr fb (iu fw t (-1)) fh 6 fu (fh (fw t)), iu fw t (-1), fs, fh, st), rfl, ⟨by rw [ev], by rw [ev]⟩, by rw [hu]; exact hP, va_K.moved hW.alike hK, hD⟩, hS.F hu⟩) hS.2.2 dX0_giveUp_43
    · refine r_ic hx hb dX0_giveUp_16 ?_
      have ev : guX fb fu fw fs fh st t = (0, (fb, fu, fw, fs, fh, st)) := by unfold guX; rw [if_pos (by omega)]
      exact W.zret (v := (iI 0)) hx hb hr (by decide +kernel) (fun u hu hW => ⟨⟨_, (fb, fu, fw, fs, fh, st), rfl, ⟨by rw [ev], by rw [ev]⟩, by rw [hu]; exact hP, va_K.moved hW.alike hK, hD⟩, hS.F hu⟩) hS.2.2 dX0_giveUp_17
set_option maxHeartbeats 4000000 in
set_option maxRecDepth 100000 in
theorem mX0_setBase (l : Launch) (D : va_G) (h : Nat) (a : Nat → Nat) (cB cI : ClassId) (sz : Nat) (fb fu fw fs fh : Int → Int) (st : Int) (hfb : rg 0 10 6 fb) (hfu : rg 0 10 6 fu) (hfw : rg (-1) 5 6 fw) (hfs : rg 0 1000000 6 fs) (hfh : rg (-1) 6 5 fh) (hwk : wk fw fh) (hst : 0 ≤ st ∧ st < 1000000) (t ub : Int) (ht : -2147483648 ≤ t ∧ t < 2147483648) (hub : -2147483648 ≤ ub ∧ ub < 2147483648) : Met l yX0_setBase (ws_ yX0_setBase cX0_setBase 3 (some .boolean)) ({ frames := 2, cells := 0, slots := 0, locals := 49 }) (va_Pc [.ref h, .int (iI t), .int (iI ub)] (fun U => U.heap.size = sz ∧ va_P D vwCl (wX h a cB cI fb fu fw fs fh st) U.heap ∧ va_K D vwCl (tX cB cI) U ∧ va_D (fun _ => True) (wX h a cB cI fb fu fw fs fh st))) (va_Qi (fun (r : Int32) (u : PX) => r = iI (sbX fb fu fw fs fh st t ub).1 ∧ u = (sbX fb fu fw fs fh st t ub).2) (bX D (va_A (wX h a cB cI fb fu fw fs fh st) sz) h a cB cI) (va_A (wX h a cB cI fb fu fw fs fh st) sz)) 0 0 (va_A (wX h a cB cI fb fu fw fs fh st) sz) := by
  refine Met.ofW (cc := cX0_setBase) (maxL := 3) (ret := (some .boolean)) (by decide) rfl ?_
  intro p e s m args below meth c s₁ B hml hv
  obtain ⟨rfl, hsz, hP, hK, hD0⟩ := hv
  have hx := B.exec
  have hb := B.bytes
  have hr := B.returns
  have hts := atoms_spec (ws := ws_ yX0_setBase cX0_setBase 3 (some .boolean)) B.pre
  have hts : ∀ w ∈ lw_all, w.before _ s = true := fun w h => hts w (List.mem_cons_of_mem _ h)
  have hown : s.vm.findClass RX0 = some m.cls := findClass_of_methodNamed B.named
  have hlocks := B.notSynchronized
  subst hsz
  have hD := hD0.self (sz := s.heap.size)
  generalize hAe : va_A (wX h a cB cI fb fu fw fs fh st) s.heap.size = A at hD ⊢
  have hA : ∀ q : Nat, s.heap.size ≤ q → A q := fun q h => by rw [← hAe]; exact Or.inr h
  have hS : va_S A s.heap s.heap [] := va_S.rf
  have hl := lv_entry ([.ref h, .int (iI t), .int (iI ub)]) (n := 3) (Nat.le_of_ble_eq_true rfl)
  rw [lg_entry_eq]
  generalize (lg_sl ([.ref h, .int (iI t), .int (iI ub)]) ++ List.replicate (3 - (lg_sl ([.ref h, .int (iI t), .int (iI ub)])).length) Slot.unset).toArray = ls at hl ⊢
  have hl : lv_has ls 3 [(0, .ref h), (1, .int (iI t)), (2, .int (iI ub))] := hl
  refine lv_iload_n hx hb dX0_setBase_0 rfl (lv_at hl 1 rfl) ?_
  refine k_isThread hx hb hml hown hts hK (by omega) (Nat.le_of_ble_eq_true rfl) (Nat.le_of_ble_eq_true rfl) (Nat.zero_le _) (Nat.zero_le _) hS hl.1 (Nat.le_of_ble_eq_true rfl) dX0_setBase_1 (fun locs hS => ?_)
  refine r_peq (P := 0 ≤ t ∧ t < 6) (tgt := 17) hx hb ite_10 dX0_setBase_4 (by decide) (fun c4_1 => ?_) (fun c4_1 => ?_)
  · refine r_ic hx hb dX0_setBase_17 ?_
    have ev : sbX fb fu fw fs fh st t ub = (0, (fb, fu, fw, fs, fh, st)) := by unfold sbX; rw [if_pos (by omega)]
    exact W.zret (v := (iI 0)) hx hb hr (by decide +kernel) (fun u hu hW => ⟨⟨_, (fb, fu, fw, fs, fh, st), rfl, ⟨by rw [ev], by rw [ev]⟩, by rw [hu]; exact hP, va_K.moved hW.alike hK, hD⟩, hS.F hu⟩) hS.2.2 dX0_setBase_18
  · refine lv_iload_n hx hb dX0_setBase_7 rfl (lv_at hl 2 rfl) ?_
    refine r_if_lt (tgt := 17) hx hb dX0_setBase_8 (by decide) (by omega) (fun c8_2 => ?_) (fun c8_2 => ?_)
    · refine r_ic hx hb dX0_setBase_17 ?_
      have ev : sbX fb fu fw fs fh st t ub = (0, (fb, fu, fw, fs, fh, st)) := by unfold sbX; rw [if_pos (by omega)]
      exact W.zret (v := (iI 0)) hx hb hr (by decide +kernel) (fun u hu hW => ⟨⟨_, (fb, fu, fw, fs, fh, st), rfl, ⟨by rw [ev], by rw [ev]⟩, by rw [hu]; exact hP, va_K.moved hW.alike hK, hD⟩, hS.F hu⟩) hS.2.2 dX0_setBase_18
    · refine lv_iload_n hx hb dX0_setBase_11 rfl (lv_at hl 2 rfl) ?_
      refine r_bp hx hb dX0_setBase_12 (by decide +kernel) ?_
      refine r_ic_le (tgt := 19) hx hb dX0_setBase_14 (by decide) (by omega) (by omega) (fun c14_3 => ?_) (fun c14_3 => ?_)
      · refine lv_aload_n hx hb dX0_setBase_19 rfl (lv_at hl 0 rfl) ?_
        refine x_gb hx hb hown hts hK hP dX0_setBase_20 ?_
        refine lv_iload_n hx hb dX0_setBase_23 rfl (lv_at hl 1 rfl) ?_
        refine lv_iload_n hx hb dX0_setBase_24 rfl (lv_at hl 2 rfl) ?_
        refine r_i2b hx hb dX0_setBase_25 (by omega) ?_
        refine x_sb hx hb hK hP hD hS (by omega) (by omega) dX0_setBase_26 (fun H locs hP hD hS => ?_)
        refine lv_aload_n hx hb dX0_setBase_27 rfl (lv_at hl 0 rfl) ?_
        refine lv_iload_n hx hb dX0_setBase_28 rfl (lv_at hl 1 rfl) ?_
        refine k_refresh hx hb hml hown hts hK hP hD hA (rg_iu hfb (by omega)) hfu hfw hfh hwk (by omega) (Nat.le_of_ble_eq_true rfl) (Nat.le_of_ble_eq_true rfl) (Nat.zero_le _) (Nat.zero_le _) hS hl.1 (Nat.le_of_ble_eq_true rfl) dX0_setBase_29 (fun H locs hP hD hS => ?_)
        refine r_ic hx hb dX0_setBase_32 ?_
        have ev : sbX fb fu fw fs fh st t ub = (1, (iu fb t ub, rfr (iu fb t ub) fw fh 6 fu t, fw, fs, fh, st)) := by unfold sbX; rw [if_neg (by omega)]
        exact W.zret (v := (iI 1)) hx hb hr (by decide +kernel) (fun u hu hW => ⟨⟨_, (iu fb t ub, rfr (iu fb t ub) fw fh 6 fu t, fw, fs, fh, st), rfl, ⟨by rw [ev], by rw [ev]⟩, by rw [hu]; exact hP, va_K.moved hW.alike hK, hD⟩, hS.F hu⟩) hS.2.2 dX0_setBase_33
      · refine r_ic hx hb dX0_setBase_17 ?_
        have ev : sbX fb fu fw fs fh st t ub = (0, (fb, fu, fw, fs, fh, st)) := by unfold sbX; rw [if_pos (by omega)]
        exact W.zret (v := (iI 0)) hx hb hr (by decide +kernel) (fun u hu hW => ⟨⟨_, (fb, fu, fw, fs, fh, st), rfl, ⟨by rw [ev], by rw [ev]⟩, by rw [hu]; exact hP, va_K.moved hW.alike hK, hD⟩, hS.F hu⟩) hS.2.2 dX0_setBase_18
end S09
end
section
/-! 10: PriorityLocksModel's private methods -/
theorem cp_at {mb mu : Int → Int} : ∀ (n : Nat) (s : Int), 0 ≤ s → s < (n : Int) → it (cpM mb) n mu s = mb s := by
  intro n
  induction n with
  | zero => intro s h0 h1; omega
  | succ n ih =>
    intro s h0 h1
    rw [it1]
    unfold cpM iu
    split
    · rename_i e; rw [e]
    · exact ih s h0 (by omega)
theorem cp_rg {mb mu : Int → Int} (h : rg 0 10 6 mb) : rg 0 10 6 (it (cpM mb) 6 mu) := by
  intro s h0 h6
  rw [cp_at 6 s h0 h6]
  exact h s h0 h6
theorem ln_rg {mh mw g : Int → Int} {s : Int} (h0 : 0 ≤ s) (h6 : s < 6) (h : rg 0 10 6 g) : rg 0 10 6 (lnM mh mw s g) := by
  unfold lnM
  split
  · exact rg_iu h (h s h0 h6)
  · exact h
theorem lns_rg {mh mw g : Int → Int} (h : rg 0 10 6 g) : ∀ n : Nat, n ≤ 6 → rg 0 10 6 (it (lnM mh mw) n g) := by
  intro n
  induction n with
  | zero => intro _; exact h
  | succ n ih => intro hn; rw [it1]; exact ln_rg (by omega) (by omega) (ih (by omega))
theorem ps_rg {mh mw g : Int → Int} (h : rg 0 10 6 g) : ∀ n : Nat, rg 0 10 6 (it (psM mh mw) n g) := by
  intro n
  induction n with
  | zero => exact h
  | succ n ih => rw [it1]; exact lns_rg ih 6 (Nat.le_refl 6)
theorem ldG_rg {mb mh mw mu : Int → Int} (h : rg 0 10 6 mb) : rg 0 10 6 (ldG mb mh mw mu) := ps_rg (cp_rg h) 6
section S10
variable {p : Program} {l : Launch} {e : Env} {R : Room} {s : State} {m : MethodId} {args : Array Value} {below : List Frame} {meth : Method} {c : Code} {H : Heap} {locs : List Loc} {cells slots : Nat} {Q : State → Prop}
variable {cc : ByteArray} {pc nL : Nat} {ls : Array Slot} {rest : List Value} {D : va_G} {A : Nat → Prop} {H0 : Heap} {h : Nat} {a : Nat → Nat} {cB cI : ClassId} {fb fu fw fs fh mb mh mw ms mu : Int → Int} {st tm : Int}
set_option maxHeartbeats 4000000 in
set_option maxRecDepth 100000 in
theorem mX1_thread (l : Launch) (D : va_G) (cB cI : ClassId) (Hh : Heap) {mb mh mw ms mu : Int → Int} {tm : Int} (h : Nat) (a : Nat → Nat) (hP : va_P D vwCl (wM h a cI mb mh mw ms tm mu) Hh) (t : Int) (ht : -2147483648 ≤ t ∧ t < 2147483648) : Met l yX1_thread (ws_ yX1_thread cX1_thread 2 (some .boolean)) ({ frames := 0, cells := 0, slots := 0, locals := 0 }) (va_Pc [.ref h, .int (iI t)] (fun U => U.heap = Hh ∧ va_K D vwCl (tX cB cI) U)) (va_Qi (fun (r : Int32) (_ : Unit) => r = iI (if 0 ≤ t ∧ t < 6 then 1 else 0)) (fun _ u => u.heap = Hh) (fun _ => False)) 0 0 (fun _ => False) := by
  refine Met.ofW (cc := cX1_thread) (maxL := 2) (ret := (some .boolean)) (by decide) rfl ?_
  intro p e s m args below meth c s₁ B hml hv
  obtain ⟨rfl, hsz, hK⟩ := hv
  have hx := B.exec
  have hb := B.bytes
  have hr := B.returns
  have hts := atoms_spec (ws := ws_ yX1_thread cX1_thread 2 (some .boolean)) B.pre
  have hts : ∀ w ∈ lw_all, w.before _ s = true := fun w h => hts w (List.mem_cons_of_mem _ h)
  have hown : s.vm.findClass RX1 = some m.cls := findClass_of_methodNamed B.named
  have hlocks := B.notSynchronized
  subst hsz
  have hS : va_S (fun _ => False) s.heap s.heap [] := va_S.rf
  have hl := lv_entry ([.ref h, .int (iI t)]) (n := 2) (Nat.le_of_ble_eq_true rfl)
  rw [lg_entry_eq]
  generalize (lg_sl ([.ref h, .int (iI t)]) ++ List.replicate (2 - (lg_sl ([.ref h, .int (iI t)])).length) Slot.unset).toArray = ls at hl ⊢
  have hl : lv_has ls 2 [(0, .ref h), (1, .int (iI t))] := hl
  refine lv_iload_n hx hb dX1_thread_0 rfl (lv_at hl 1 rfl) ?_
  refine r_if_lt (tgt := 13) hx hb dX1_thread_1 (by decide) (by omega) (fun c1_1 => ?_) (fun c1_1 => ?_)
  · refine r_ic hx hb dX1_thread_13 ?_
    exact W.zret (v := (iI 0)) hx hb hr (by decide +kernel) (fun u hu hW => ⟨⟨_, (), rfl, by rw [if_neg (by omega)], hu⟩, hS.F hu⟩) hS.2.2 dX1_thread_14
  · refine lv_iload_n hx hb dX1_thread_4 rfl (lv_at hl 1 rfl) ?_
    refine r_ic hx hb dX1_thread_5 ?_
    refine r_ic_gt (tgt := 13) hx hb dX1_thread_6 (by decide) (by omega) (by omega) (fun c6_2 => ?_) (fun c6_2 => ?_)
    · refine r_ic hx hb dX1_thread_13 ?_
      exact W.zret (v := (iI 0)) hx hb hr (by decide +kernel) (fun u hu hW => ⟨⟨_, (), rfl, by rw [if_neg (by omega)], hu⟩, hS.F hu⟩) hS.2.2 dX1_thread_14
    · refine r_ic hx hb dX1_thread_9 ?_
      refine lv_goto (tgt := 14) hx hb dX1_thread_10 (by decide) ?_
      exact W.zret (v := (iI 1)) hx hb hr (by decide +kernel) (fun u hu hW => ⟨⟨_, (), rfl, by rw [if_pos (by omega)], hu⟩, hS.F hu⟩) hS.2.2 dX1_thread_14
theorem k_thread (hx : p.tables.exec = Jvm.exec) (hb : c.code = cc) (hml : c.maxLocals = nL) (hown : s.vm.findClass RX1 = some m.cls) (hts : ∀ w ∈ lw_all, w.before args s = true) (hK : va_K D vwCl (tX cB cI) s) (hP : va_P D vwCl (wM h a cI mb mh mw ms tm mu) H) {t : Int} (ht : -2147483648 ≤ t ∧ t < 2147483648) (hRf : 1 ≤ R.frames) (hRl : 21 ≤ R.locals) (hRc : cells ≤ R.cells) (hRs : slots ≤ R.slots) (hS : va_S A H0 H locs) (hsz : ls.size = nL) (hroom : (rest.map fun v => v.category).sum ≤ 8) (hdg : decode cc pc = .ok (.invokevirtual 25, 3)) (k : ∀ locs1 : List Loc, va_S A H0 H locs1 → W p l e R s m args below meth c H locs1 cells slots Q (F0 m (pc + 3) ls (.int (iI (if 0 ≤ t ∧ t < 6 then 1 else 0)) :: rest))) : W p l e R s m args below meth c H locs cells slots Q (F0 m pc ls (.int (iI t) :: .ref h :: rest)) :=
  ro_V (As := [.int (iI t)]) (mX1_thread l D cB cI H h a hP t ht) ⟨hx, hb, hml, hown, hts⟩ (cwV 1 hts (lw_V q147 q149 qs4 q10 q150) rfl rfl rfl (by decide +kernel) ⟨hRf, hRl⟩) hK (va_recv hK hP (ci := 1) (q0 := 0) rfl rfl) rfl hsz rfl hroom hdg ⟨hRc, hRs⟩ hS k
set_option maxHeartbeats 4000000 in
set_option maxRecDepth 100000 in
theorem mX1_lock (l : Launch) (D : va_G) (cB cI : ClassId) (Hh : Heap) {mb mh mw ms mu : Int → Int} {tm : Int} (h : Nat) (a : Nat → Nat) (hP : va_P D vwCl (wM h a cI mb mh mw ms tm mu) Hh) (t : Int) (ht : -2147483648 ≤ t ∧ t < 2147483648) : Met l yX1_lock (ws_ yX1_lock cX1_lock 2 (some .boolean)) ({ frames := 0, cells := 0, slots := 0, locals := 0 }) (va_Pc [.ref h, .int (iI t)] (fun U => U.heap = Hh ∧ va_K D vwCl (tX cB cI) U)) (va_Qi (fun (r : Int32) (_ : Unit) => r = iI (if 0 ≤ t ∧ t < 5 then 1 else 0)) (fun _ u => u.heap = Hh) (fun _ => False)) 0 0 (fun _ => False) := by
  refine Met.ofW (cc := cX1_lock) (maxL := 2) (ret := (some .boolean)) (by decide) rfl ?_
  intro p e s m args below meth c s₁ B hml hv
  obtain ⟨rfl, hsz, hK⟩ := hv
  have hx := B.exec
  have hb := B.bytes
  have hr := B.returns
  have hts := atoms_spec (ws := ws_ yX1_lock cX1_lock 2 (some .boolean)) B.pre
  have hts : ∀ w ∈ lw_all, w.before _ s = true := fun w h => hts w (List.mem_cons_of_mem _ h)
  have hown : s.vm.findClass RX1 = some m.cls := findClass_of_methodNamed B.named
  have hlocks := B.notSynchronized
  subst hsz
  have hS : va_S (fun _ => False) s.heap s.heap [] := va_S.rf
  have hl := lv_entry ([.ref h, .int (iI t)]) (n := 2) (Nat.le_of_ble_eq_true rfl)
  rw [lg_entry_eq]
  generalize (lg_sl ([.ref h, .int (iI t)]) ++ List.replicate (2 - (lg_sl ([.ref h, .int (iI t)])).length) Slot.unset).toArray = ls at hl ⊢
  have hl : lv_has ls 2 [(0, .ref h), (1, .int (iI t))] := hl
  refine lv_iload_n hx hb dX1_lock_0 rfl (lv_at hl 1 rfl) ?_
  refine r_if_lt (tgt := 13) hx hb dX1_lock_1 (by decide) (by omega) (fun c1_1 => ?_) (fun c1_1 => ?_)
  · refine r_ic hx hb dX1_lock_13 ?_
    exact W.zret (v := (iI 0)) hx hb hr (by decide +kernel) (fun u hu hW => ⟨⟨_, (), rfl, by rw [if_neg (by omega)], hu⟩, hS.F hu⟩) hS.2.2 dX1_lock_14
  · refine lv_iload_n hx hb dX1_lock_4 rfl (lv_at hl 1 rfl) ?_
    refine r_ic hx hb dX1_lock_5 ?_
    refine r_ic_gt (tgt := 13) hx hb dX1_lock_6 (by decide) (by omega) (by omega) (fun c6_2 => ?_) (fun c6_2 => ?_)
    · refine r_ic hx hb dX1_lock_13 ?_
      exact W.zret (v := (iI 0)) hx hb hr (by decide +kernel) (fun u hu hW => ⟨⟨_, (), rfl, by rw [if_neg (by omega)], hu⟩, hS.F hu⟩) hS.2.2 dX1_lock_14
    · refine r_ic hx hb dX1_lock_9 ?_
      refine lv_goto (tgt := 14) hx hb dX1_lock_10 (by decide) ?_
      exact W.zret (v := (iI 1)) hx hb hr (by decide +kernel) (fun u hu hW => ⟨⟨_, (), rfl, by rw [if_pos (by omega)], hu⟩, hS.F hu⟩) hS.2.2 dX1_lock_14
theorem k_lock (hx : p.tables.exec = Jvm.exec) (hb : c.code = cc) (hml : c.maxLocals = nL) (hown : s.vm.findClass RX1 = some m.cls) (hts : ∀ w ∈ lw_all, w.before args s = true) (hK : va_K D vwCl (tX cB cI) s) (hP : va_P D vwCl (wM h a cI mb mh mw ms tm mu) H) {t : Int} (ht : -2147483648 ≤ t ∧ t < 2147483648) (hRf : 1 ≤ R.frames) (hRl : 21 ≤ R.locals) (hRc : cells ≤ R.cells) (hRs : slots ≤ R.slots) (hS : va_S A H0 H locs) (hsz : ls.size = nL) (hroom : (rest.map fun v => v.category).sum ≤ 8) (hdg : decode cc pc = .ok (.invokevirtual 29, 3)) (k : ∀ locs1 : List Loc, va_S A H0 H locs1 → W p l e R s m args below meth c H locs1 cells slots Q (F0 m (pc + 3) ls (.int (iI (if 0 ≤ t ∧ t < 5 then 1 else 0)) :: rest))) : W p l e R s m args below meth c H locs cells slots Q (F0 m pc ls (.int (iI t) :: .ref h :: rest)) :=
  ro_V (As := [.int (iI t)]) (mX1_lock l D cB cI H h a hP t ht) ⟨hx, hb, hml, hown, hts⟩ (cwV 1 hts (lw_V q151 q153 qs5 q10 q154) rfl rfl rfl (by decide +kernel) ⟨hRf, hRl⟩) hK (va_recv hK hP (ci := 1) (q0 := 0) rfl rfl) rfl hsz rfl hroom hdg ⟨hRc, hRs⟩ hS k
set_option maxHeartbeats 4000000 in
set_option maxRecDepth 100000 in
theorem lp_lendA (hx : p.tables.exec = Jvm.exec) (hb : c.code = cX1_lend) (hml : c.maxLocals = 4) (hown : s.vm.findClass RX1 = some m.cls) (hts : ∀ w ∈ lw_all, w.before args s = true) (hK : va_K D vwCl (tX cB cI) s) (hmb : rg 0 10 6 mb)
    (kk : ∀ (g : Int → Int) (H : Heap) (locs : List Loc) (ls : Array Slot), g = it (cpM mb) 6 mu → va_P D vwCl (wM h a cI mb mh mw ms tm g) H → va_D A (wM h a cI mb mh mw ms tm g) → va_S A H0 H locs → lv_has ls 4 [(0, .ref h)] → W p l e R s m args below meth c H locs cells slots Q (F0 m 26 ls [])) :
    ∀ (n k : Nat) (g : Int → Int) (H : Heap) (locs : List Loc) (ls : Array Slot), k + n = 6 → g = it (cpM mb) k mu → va_P D vwCl (wM h a cI mb mh mw ms tm g) H → va_D A (wM h a cI mb mh mw ms tm g) → va_S A H0 H locs → lv_has ls 4 [(0, .ref h), (1, .int (iI ((k : Int))))] → W p l e R s m args below meth c H locs cells slots Q (F0 m 2 ls []) := by
  intro n
  induction n with
  | zero =>
    intro k g H locs ls hk hv hP hD hS hl
    refine lv_iload_n hx hb dX1_lend_2 rfl (lv_at hl 1 rfl) ?_
    refine r_bp hx hb dX1_lend_3 (by decide +kernel) ?_
    refine r_ic_ge (tgt := 26) hx hb dX1_lend_5 (by decide) (by omega) (by omega) (fun c5_1 => ?_) (fun c5_1 => by exfalso; omega)
    exact kk g H locs ls (by obtain rfl : k = 6 := (by omega); exact hv) hP hD hS (lv_sub hl [0] rfl)
  | succ n ih =>
    intro k g H locs ls hk hv hP hD hS hl
    refine lv_iload_n hx hb dX1_lend_2 rfl (lv_at hl 1 rfl) ?_
    refine r_bp hx hb dX1_lend_3 (by decide +kernel) ?_
    refine r_ic_ge (tgt := 26) hx hb dX1_lend_5 (by decide) (by omega) (by omega) (fun c5_1 => by exfalso; omega) (fun c5_1 => ?_)
    refine lv_aload_n hx hb dX1_lend_8 rfl (lv_at hl 0 rfl) ?_
    refine y_gu hx hb hown hts hK hP dX1_lend_9 ?_
    refine lv_iload_n hx hb dX1_lend_12 rfl (lv_at hl 1 rfl) ?_
    refine lv_aload_n hx hb dX1_lend_13 rfl (lv_at hl 0 rfl) ?_
    refine y_gb hx hb hown hts hK hP dX1_lend_14 ?_
    refine lv_iload_n hx hb dX1_lend_17 rfl (lv_at hl 1 rfl) ?_
    have z18_2 := hmb ((k : Int)) (by omega) (by omega)
    refine y_lb hx hb hK hP (by omega) dX1_lend_18 ?_
    refine y_su hx hb hK hP hD hS (by omega) dX1_lend_19 (fun H locs hP hD hS => ?_)
    refine r_iinc (j := 1) (lv' := [(1, .int (iI (((k + 1 : Nat) : Int)))), (0, .ref h)]) (b := ((k + 1 : Nat) : Int)) hx hb dX1_lend_20 hl rfl (by omega) (by decide) rfl (fun ls hl => ?_)
    refine lv_goto (tgt := 2) hx hb dX1_lend_23 (by decide) ?_
    exact ih (k + 1) (iu g (k : Int) (mb (k : Int))) H locs ls (by omega) (by rw [it1, ← hv]; rfl) hP hD hS (lv_sub hl [1, 0] rfl)
set_option maxHeartbeats 4000000 in
set_option maxRecDepth 100000 in
theorem lp_lendC (hx : p.tables.exec = Jvm.exec) (hb : c.code = cX1_lend) (hml : c.maxLocals = 4) (hown : s.vm.findClass RX1 = some m.cls) (hts : ∀ w ∈ lw_all, w.before args s = true) (hK : va_K D vwCl (tX cB cI) s) (hmh : rg 0 7 5 mh) (hmw : rg 0 6 6 mw) {i : Nat} {gi : Int → Int}
    (kk : ∀ (g : Int → Int) (H : Heap) (locs : List Loc) (ls : Array Slot), g = it (lnM mh mw) 6 gi → va_P D vwCl (wM h a cI mb mh mw ms tm g) H → va_D A (wM h a cI mb mh mw ms tm g) → va_S A H0 H locs → lv_has ls 4 [(0, .ref h), (1, .int (iI (i : Int)))] → W p l e R s m args below meth c H locs cells slots Q (F0 m 108 ls [])) :
    ∀ (n k : Nat) (g : Int → Int) (H : Heap) (locs : List Loc) (ls : Array Slot), k + n = 6 → g = it (lnM mh mw) k gi → rg 0 10 6 g → va_P D vwCl (wM h a cI mb mh mw ms tm g) H → va_D A (wM h a cI mb mh mw ms tm g) → va_S A H0 H locs → lv_has ls 4 [(0, .ref h), (1, .int (iI ((i : Int)))), (2, .int (iI ((k : Int))))] → W p l e R s m args below meth c H locs cells slots Q (F0 m 36 ls []) := by
  intro n
  induction n with
  | zero =>
    intro k g H locs ls hk hv hg hP hD hS hl
    refine lv_iload_n hx hb dX1_lend_36 rfl (lv_at hl 2 rfl) ?_
    refine r_bp hx hb dX1_lend_37 (by decide +kernel) ?_
    refine r_ic_ge (tgt := 108) hx hb dX1_lend_39 (by decide) (by omega) (by omega) (fun c39_1 => ?_) (fun c39_1 => by exfalso; omega)
    exact kk g H locs ls (by obtain rfl : k = 6 := (by omega); exact hv) hP hD hS (lv_sub hl [0, 1] rfl)
  | succ n ih =>
    intro k g H locs ls hk hv hg hP hD hS hl
    refine lv_iload_n hx hb dX1_lend_36 rfl (lv_at hl 2 rfl) ?_
    refine r_bp hx hb dX1_lend_37 (by decide +kernel) ?_
    refine r_ic_ge (tgt := 108) hx hb dX1_lend_39 (by decide) (by omega) (by omega) (fun c39_1 => by exfalso; omega) (fun c39_1 => ?_)
    refine lv_aload_n hx hb dX1_lend_42 rfl (lv_at hl 0 rfl) ?_
    refine y_gw hx hb hown hts hK hP dX1_lend_43 ?_
    refine lv_iload_n hx hb dX1_lend_46 rfl (lv_at hl 2 rfl) ?_
    have z47_2 := hmw ((k : Int)) (by omega) (by omega)
    refine y_lw hx hb hK hP (by omega) dX1_lend_47 ?_
    refine r_if_le (tgt := 69) hx hb dX1_lend_48 (by decide) (by omega) (fun c48_3 => ?_) (fun c48_3 => ?_)
    · refine r_ic hx hb dX1_lend_69 ?_
      refine lv_istore_n (lv' := [(3, .int (iI (-1))), (0, .ref h), (1, .int (iI ((i : Int)))), (2, .int (iI ((k : Int))))]) hx hb dX1_lend_70 rfl hl (by decide) rfl (fun ls hl => ?_)
      refine lv_iload_n hx hb dX1_lend_71 rfl (lv_at hl 0 rfl) ?_
      refine r_if_lt (tgt := 102) hx hb dX1_lend_72 (by decide) (by omega) (fun c72_4 => ?_) (fun c72_4 => by exfalso; omega)
      refine r_iinc (j := 3) (lv' := [(2, .int (iI (((k + 1 : Nat) : Int)))), (3, .int (iI (-1))), (0, .ref h), (1, .int (iI ((i : Int))))]) (b := ((k + 1 : Nat) : Int)) hx hb dX1_lend_102 hl rfl (by omega) (by decide) rfl (fun ls hl => ?_)
      refine lv_goto (tgt := 36) hx hb dX1_lend_105 (by decide) ?_
      exact ih (k + 1) g H locs ls (by omega) (by rw [it1, ← hv]; unfold lnM; rw [pM_n (by omega), if_neg (fun q => absurd q.1 (by omega))]) hg hP hD hS (lv_sub hl [2, 3, 0] rfl)
    · refine lv_aload_n hx hb dX1_lend_51 rfl (lv_at hl 0 rfl) ?_
      refine y_gh hx hb hown hts hK hP dX1_lend_52 ?_
      refine lv_aload_n hx hb dX1_lend_55 rfl (lv_at hl 0 rfl) ?_
      refine y_gw hx hb hown hts hK hP dX1_lend_56 ?_
      refine lv_iload_n hx hb dX1_lend_59 rfl (lv_at hl 2 rfl) ?_
      refine y_lw hx hb hK hP (by omega) dX1_lend_60 ?_
      refine r_ic hx hb dX1_lend_61 ?_
      refine r_sub hx hb dX1_lend_62 ?_
      have z63_4 := hmh ((mw ((k : Int))) - 1) (by omega) (by omega)
      refine y_lh hx hb hK hP (by omega) dX1_lend_63 ?_
      refine r_ic hx hb dX1_lend_64 ?_
      refine r_sub hx hb dX1_lend_65 ?_
      refine lv_goto (tgt := 70) hx hb dX1_lend_66 (by decide) ?_
      refine lv_istore_n (lv' := [(3, .int (iI ((mh ((mw ((k : Int))) - 1)) - 1))), (0, .ref h), (1, .int (iI ((i : Int)))), (2, .int (iI ((k : Int))))]) hx hb dX1_lend_70 rfl hl (by decide) rfl (fun ls hl => ?_)
      refine lv_iload_n hx hb dX1_lend_71 rfl (lv_at hl 0 rfl) ?_
      refine r_if_lt (tgt := 102) hx hb dX1_lend_72 (by decide) (by omega) (fun c72_5 => ?_) (fun c72_5 => ?_)
      · refine r_iinc (j := 3) (lv' := [(2, .int (iI (((k + 1 : Nat) : Int)))), (3, .int (iI ((mh ((mw ((k : Int))) - 1)) - 1))), (0, .ref h), (1, .int (iI ((i : Int))))]) (b := ((k + 1 : Nat) : Int)) hx hb dX1_lend_102 hl rfl (by omega) (by decide) rfl (fun ls hl => ?_)
        refine lv_goto (tgt := 36) hx hb dX1_lend_105 (by decide) ?_
        exact ih (k + 1) g H locs ls (by omega) (by rw [it1, ← hv]; unfold lnM; rw [pM_p c48_3, if_neg (fun q => absurd q.1 (by omega))]) hg hP hD hS (lv_sub hl [2, 3, 0] rfl)
      · refine lv_aload_n hx hb dX1_lend_75 rfl (lv_at hl 1 rfl) ?_
        refine y_gu hx hb hown hts hK hP dX1_lend_76 ?_
        refine lv_iload_n hx hb dX1_lend_79 rfl (lv_at hl 3 rfl) ?_
        have z80_6 := hg ((k : Int)) (by omega) (by omega)
        refine y_lu hx hb hK hP (by omega) dX1_lend_80 ?_
        refine lv_aload_n hx hb dX1_lend_81 rfl (lv_at hl 1 rfl) ?_
        refine y_gu hx hb hown hts hK hP dX1_lend_82 ?_
        refine lv_iload_n hx hb dX1_lend_85 rfl (lv_at hl 0 rfl) ?_
        have z86_7 := hg ((mh ((mw ((k : Int))) - 1)) - 1) (by omega) (by omega)
        refine y_lu hx hb hK hP (by omega) dX1_lend_86 ?_
        refine r_ic_le (tgt := 102) hx hb dX1_lend_87 (by decide) (by omega) (by omega) (fun c87_8 => ?_) (fun c87_8 => ?_)
        · refine r_iinc (j := 3) (lv' := [(2, .int (iI (((k + 1 : Nat) : Int)))), (3, .int (iI ((mh ((mw ((k : Int))) - 1)) - 1))), (0, .ref h), (1, .int (iI ((i : Int))))]) (b := ((k + 1 : Nat) : Int)) hx hb dX1_lend_102 hl rfl (by omega) (by decide) rfl (fun ls hl => ?_)
          refine lv_goto (tgt := 36) hx hb dX1_lend_105 (by decide) ?_
          exact ih (k + 1) g H locs ls (by omega) (by rw [it1, ← hv]; unfold lnM; rw [pM_p c48_3, if_neg (fun q => absurd q.2 (by omega))]) hg hP hD hS (lv_sub hl [2, 3, 0] rfl)
        · refine lv_aload_n hx hb dX1_lend_90 rfl (lv_at hl 1 rfl) ?_
          refine y_gu hx hb hown hts hK hP dX1_lend_91 ?_
          refine lv_iload_n hx hb dX1_lend_94 rfl (lv_at hl 0 rfl) ?_
          refine lv_aload_n hx hb dX1_lend_95 rfl (lv_at hl 1 rfl) ?_
          refine y_gu hx hb hown hts hK hP dX1_lend_96 ?_
          refine lv_iload_n hx hb dX1_lend_99 rfl (lv_at hl 3 rfl) ?_
          refine y_lu hx hb hK hP (by omega) dX1_lend_100 ?_
          refine y_su hx hb hK hP hD hS (by omega) dX1_lend_101 (fun H locs hP hD hS => ?_)
          refine r_iinc (j := 3) (lv' := [(2, .int (iI (((k + 1 : Nat) : Int)))), (3, .int (iI ((mh ((mw ((k : Int))) - 1)) - 1))), (0, .ref h), (1, .int (iI ((i : Int))))]) (b := ((k + 1 : Nat) : Int)) hx hb dX1_lend_102 hl rfl (by omega) (by decide) rfl (fun ls hl => ?_)
          refine lv_goto (tgt := 36) hx hb dX1_lend_105 (by decide) ?_
          exact ih (k + 1) (iu g ((mh ((mw ((k : Int))) - 1)) - 1) (g ((k : Int)))) H locs ls (by omega) (by rw [it1, ← hv]; unfold lnM; rw [pM_p c48_3, if_pos ⟨by omega, by omega⟩]) (rg_iu hg (by omega)) hP hD hS (lv_sub hl [2, 3, 0] rfl)
set_option maxHeartbeats 4000000 in
set_option maxRecDepth 100000 in
theorem lp_lendB (hx : p.tables.exec = Jvm.exec) (hb : c.code = cX1_lend) (hml : c.maxLocals = 4) (hown : s.vm.findClass RX1 = some m.cls) (hts : ∀ w ∈ lw_all, w.before args s = true) (hK : va_K D vwCl (tX cB cI) s) (hmh : rg 0 7 5 mh) (hmw : rg 0 6 6 mw) {g0 : Int → Int} (hg0 : rg 0 10 6 g0)
    (kk : ∀ (g : Int → Int) (H : Heap) (locs : List Loc) (ls : Array Slot), g = it (psM mh mw) 6 g0 → va_P D vwCl (wM h a cI mb mh mw ms tm g) H → va_D A (wM h a cI mb mh mw ms tm g) → va_S A H0 H locs → W p l e R s m args below meth c H locs cells slots Q (F0 m 114 ls [])) :
    ∀ (n i : Nat) (g : Int → Int) (H : Heap) (locs : List Loc) (ls : Array Slot), i + n = 6 → g = it (psM mh mw) i g0 → va_P D vwCl (wM h a cI mb mh mw ms tm g) H → va_D A (wM h a cI mb mh mw ms tm g) → va_S A H0 H locs → lv_has ls 4 [(0, .ref h), (1, .int (iI ((i : Int))))] → W p l e R s m args below meth c H locs cells slots Q (F0 m 28 ls []) := by
  intro n
  induction n with
  | zero =>
    intro i g H locs ls hk hv hP hD hS hl
    refine lv_iload_n hx hb dX1_lend_28 rfl (lv_at hl 1 rfl) ?_
    refine r_bp hx hb dX1_lend_29 (by decide +kernel) ?_
    refine r_ic_ge (tgt := 114) hx hb dX1_lend_31 (by decide) (by omega) (by omega) (fun c31_1 => ?_) (fun c31_1 => by exfalso; omega)
    exact kk g H locs ls (by obtain rfl : i = 6 := (by omega); exact hv) hP hD hS
  | succ n ih =>
    intro i g H locs ls hk hv hP hD hS hl
    have hg : rg 0 10 6 g := by rw [hv]; exact ps_rg hg0 i
    refine lv_iload_n hx hb dX1_lend_28 rfl (lv_at hl 1 rfl) ?_
    refine r_bp hx hb dX1_lend_29 (by decide +kernel) ?_
    refine r_ic_ge (tgt := 114) hx hb dX1_lend_31 (by decide) (by omega) (by omega) (fun c31_1 => by exfalso; omega) (fun c31_1 => ?_)
    refine r_ic hx hb dX1_lend_34 ?_
    refine lv_istore_n (lv' := [(2, .int (iI 0)), (0, .ref h), (1, .int (iI ((i : Int))))]) hx hb dX1_lend_35 rfl hl (by decide) rfl (fun ls hl => ?_)
    refine lp_lendC hx hb hml hown hts hK hmh hmw (i := i) (gi := g) (fun g2 H locs ls hv2 hP hD hS hl => ?_) 6 0 g H locs ls rfl rfl hg hP hD hS (lv_sub hl [1, 2, 0] rfl)
    refine r_iinc (j := 1) (lv' := [(1, .int (iI (((i + 1 : Nat) : Int)))), (0, .ref h)]) (b := ((i + 1 : Nat) : Int)) hx hb dX1_lend_108 hl rfl (by omega) (by decide) rfl (fun ls hl => ?_)
    refine lv_goto (tgt := 28) hx hb dX1_lend_111 (by decide) ?_
    exact ih (i + 1) g2 H locs ls (by omega) (by rw [it1, ← hv]; exact hv2) hP hD hS (lv_sub hl [1, 0] rfl)
set_option maxHeartbeats 4000000 in
set_option maxRecDepth 100000 in
theorem mX1_lend (l : Launch) (D : va_G) (h : Nat) (a : Nat → Nat) (cB cI : ClassId) (sz : Nat) (mb mh mw ms : Int → Int) (tm : Int) (mu : Int → Int) (hmb : rg 0 10 6 mb) (hmh : rg 0 7 5 mh) (hmw : rg 0 6 6 mw) : Met l yX1_lend (ws_ yX1_lend cX1_lend 4 none) ({ frames := 0, cells := 0, slots := 0, locals := 0 }) (va_Pc [.ref h] (fun U => U.heap.size = sz ∧ va_P D vwCl (wM h a cI mb mh mw ms tm mu) U.heap ∧ va_K D vwCl (tX cB cI) U ∧ va_D (fun _ => True) (wM h a cI mb mh mw ms tm mu))) (va_Qv (fun u : PM => u = (mb, mh, mw, ms, tm, ldG mb mh mw mu)) (bM D (va_A (wM h a cI mb mh mw ms tm mu) sz) h a cB cI) (va_A (wM h a cI mb mh mw ms tm mu) sz)) 0 0 (va_A (wM h a cI mb mh mw ms tm mu) sz) := by
  refine Met.ofW (cc := cX1_lend) (maxL := 4) (ret := none) (by decide) rfl ?_
  intro p e s m args below meth c s₁ B hml hv
  obtain ⟨rfl, hsz, hP, hK, hD0⟩ := hv
  have hx := B.exec
  have hb := B.bytes
  have hr := B.returns
  have hts := atoms_spec (ws := ws_ yX1_lend cX1_lend 4 none) B.pre
  have hts : ∀ w ∈ lw_all, w.before _ s = true := fun w h => hts w (List.mem_cons_of_mem _ h)
  have hown : s.vm.findClass RX1 = some m.cls := findClass_of_methodNamed B.named
  have hlocks := B.notSynchronized
  subst hsz
  have hD := hD0.self (sz := s.heap.size)
  generalize hAe : va_A (wM h a cI mb mh mw ms tm mu) s.heap.size = A at hD ⊢
  have hA : ∀ q : Nat, s.heap.size ≤ q → A q := fun q h => by rw [← hAe]; exact Or.inr h
  have hS : va_S A s.heap s.heap [] := va_S.rf
  have hl := lv_entry ([.ref h]) (n := 4) (Nat.le_of_ble_eq_true rfl)
  rw [lg_entry_eq]
  generalize (lg_sl ([.ref h]) ++ List.replicate (4 - (lg_sl ([.ref h])).length) Slot.unset).toArray = ls at hl ⊢
  have hl : lv_has ls 4 [(0, .ref h)] := hl
  refine r_ic hx hb dX1_lend_0 ?_
  refine lv_istore_n (lv' := [(1, .int (iI 0)), (0, .ref h)]) hx hb dX1_lend_1 rfl hl (by decide) rfl (fun ls hl => ?_)
  refine lp_lendA hx hb hml hown hts hK hmb (mu := mu) (fun g H locs ls hv hP hD hS hl => ?_) 6 0 mu s.heap [] ls rfl rfl hP hD hS (lv_sub hl [1, 0] rfl)
  refine r_ic hx hb dX1_lend_26 ?_
  refine lv_istore_n (lv' := [(1, .int (iI 0)), (0, .ref h)]) hx hb dX1_lend_27 rfl hl (by decide) rfl (fun ls hl => ?_)
  have hg : rg 0 10 6 g := by rw [hv]; exact cp_rg hmb
  refine lp_lendB hx hb hml hown hts hK hmh hmw (g0 := g) hg (fun g2 H locs ls hv2 hP hD hS => ?_) 6 0 g H locs ls rfl rfl hP hD hS (lv_sub hl [1, 0] rfl)
  exact W.vret hx hb hr (fun u hu hW => ⟨⟨(mb, mh, mw, ms, tm, g2), rfl, by rw [hv2, hv]; rfl, by rw [hu]; exact hP, va_K.moved hW.alike hK, hD⟩, hS.F hu⟩) hS.2.2 dX1_lend_114
set_option maxHeartbeats 4000000 in
set_option maxRecDepth 100000 in
theorem k_lend (hx : p.tables.exec = Jvm.exec) (hb : c.code = cc) (hml : c.maxLocals = nL) (hown : s.vm.findClass RX1 = some m.cls) (hts : ∀ w ∈ lw_all, w.before args s = true) (hK : va_K D vwCl (tX cB cI) s) (hP : va_P D vwCl (wM h a cI mb mh mw ms tm mu) H) (hD : va_D A (wM h a cI mb mh mw ms tm mu)) (hA : ∀ q : Nat, H0.size ≤ q → A q) (hmb : rg 0 10 6 mb) (hmh : rg 0 7 5 mh) (hmw : rg 0 6 6 mw) (hRf : 1 ≤ R.frames) (hRl : 23 ≤ R.locals) (hRc : cells ≤ R.cells) (hRs : slots ≤ R.slots) (hS : va_S A H0 H locs) (hsz : ls.size = nL) (hroom : (rest.map fun v => v.category).sum ≤ 8) (hdg : decode cc pc = .ok (.invokevirtual 43, 3)) (k : ∀ (H1 : Heap) (locs1 : List Loc), va_P D vwCl (wM h a cI mb mh mw ms tm (ldG mb mh mw mu)) H1 → va_D A (wM h a cI mb mh mw ms tm (ldG mb mh mw mu)) → va_S A H0 H1 locs1 → W p l e R s m args below meth c H1 locs1 cells slots Q (F0 m (pc + 3) ls (rest))) : W p l e R s m args below meth c H locs cells slots Q (F0 m pc ls (.ref h :: rest)) := by
  have hFc := va_free (wc := (wM h a cI mb mh mw ms tm mu)) hD hS hA [0, 1, 2, 3, 4, 5] rfl
  refine va_callv (va_runV (As := []) (rest := rest) ⟨hx, hb, hml, hown, hts⟩ (mX1_lend l D h a cB cI H.size mb mh mw ms tm mu hmb hmh hmw) (cwV 0 hts (lw_V q167 q169 qs7 q10 q170) rfl rfl rfl (by decide +kernel) ⟨hRf, hRl⟩) ⟨fun a U g mk q => ?_, va_recv hK hP (ci := 1) (q0 := 0) rfl rfl, fun U hU hW => ⟨rfl, by rw [hU], by rw [hU]; exact hP, va_K.moved hW.alike hK, hD.weaken (fun _ _ _ _ => trivial)⟩⟩ rfl rfl hsz rfl (lv_room hroom) hdg ⟨hRc, hRs⟩) hS (fun q _ h => hFc q h) hFc (fun u t1 H1 locs1 ht1 hvm hw hB hz1 hk1 hS1 => ?_)
  · obtain ⟨q0, q1, qP, qK, qD⟩ := q
    exact ⟨q0, q1, qP, va_K.moved (u := U) (U := U.calling g mk a) (Vm.Alike.refl U.vm) qK, qD⟩
  · obtain ⟨hP1, hK1, hD1⟩ := hB
    have hw : u = (mb, mh, mw, ms, tm, (ldG mb mh mw mu)) := hw
    subst hw
    rw [ht1] at hP1
    exact k H1 locs1 hP1 (hD1.weaken (fun _ q _ h => hFc q.1 h)) hS1
set_option maxHeartbeats 4000000 in
set_option maxRecDepth 100000 in
theorem lp_behC (hx : p.tables.exec = Jvm.exec) (hb : c.code = cX1_behind) (hml : c.maxLocals = 7) (hown : s.vm.findClass RX1 = some m.cls) (hts : ∀ w ∈ lw_all, w.before args s = true) (hK : va_K D vwCl (tX cB cI) s) (hP : va_P D vwCl (wM h a cI mb mh mw ms tm mu) H) (hmh : rg 0 7 5 mh) (hmw : rg 0 6 6 mw) {t : Int} (ht : 0 ≤ t ∧ t < 6) {i : Nat} {Bi : Int → Bool}
    (kk : ∀ (B : Int → Bool) (ls : Array Slot), B = it (bhM mh mw t) 6 Bi → lv_has ls 7 [(0, .ref h), (1, .int (iI t)), (2, .int (mk6 B)), (3, .int (iI ((i : Int))))] → W p l e R s m args below meth c H locs cells slots Q (F0 m 102 ls [])) :
    ∀ (n k : Nat) (B : Int → Bool) (ls : Array Slot), k + n = 6 → B = it (bhM mh mw t) k Bi → lv_has ls 7 [(0, .ref h), (1, .int (iI t)), (2, .int (mk6 B)), (3, .int (iI ((i : Int)))), (4, .int (iI ((k : Int))))] → W p l e R s m args below meth c H locs cells slots Q (F0 m 13 ls []) := by
  intro n
  induction n with
  | zero =>
    intro k B ls hk hv hl
    refine lv_iload hx hb dX1_behind_13 (lv_at hl 4 rfl) ?_
    refine r_bp hx hb dX1_behind_15 (by decide +kernel) ?_
    refine r_ic_ge (tgt := 102) hx hb dX1_behind_17 (by decide) (by omega) (by omega) (fun c17_1 => ?_) (fun c17_1 => by exfalso; omega)
    exact kk B ls (by obtain rfl : k = 6 := (by omega); exact hv) (lv_sub hl [0, 1, 2, 3] rfl)
  | succ n ih =>
    intro k B ls hk hv hl
    refine lv_iload hx hb dX1_behind_13 (lv_at hl 4 rfl) ?_
    refine r_bp hx hb dX1_behind_15 (by decide +kernel) ?_
    refine r_ic_ge (tgt := 102) hx hb dX1_behind_17 (by decide) (by omega) (by omega) (fun c17_1 => by exfalso; omega) (fun c17_1 => ?_)
    refine lv_aload_n hx hb dX1_behind_20 rfl (lv_at hl 0 rfl) ?_
    refine y_gw hx hb hown hts hK hP dX1_behind_21 ?_
    refine lv_iload hx hb dX1_behind_24 (lv_at hl 4 rfl) ?_
    have z26_2 := hmw ((k : Int)) (by omega) (by omega)
    refine y_lw hx hb hK hP (by omega) dX1_behind_26 ?_
    refine r_if_le (tgt := 49) hx hb dX1_behind_27 (by decide) (by omega) (fun c27_3 => ?_) (fun c27_3 => ?_)
    · refine r_ic hx hb dX1_behind_49 ?_
      refine lv_istore (lv' := [(5, .int (iI (-1))), (0, .ref h), (1, .int (iI t)), (2, .int (mk6 B)), (3, .int (iI ((i : Int)))), (4, .int (iI ((k : Int))))]) hx hb dX1_behind_50 hl (by decide) rfl (fun ls hl => ?_)
      refine lv_iload hx hb dX1_behind_52 (lv_at hl 0 rfl) ?_
      refine r_if_lt (tgt := 77) hx hb dX1_behind_54 (by decide) (by omega) (fun c54_4 => ?_) (fun c54_4 => by exfalso; omega)
      refine r_ic hx hb dX1_behind_77 ?_
      refine lv_istore (lv' := [(6, .int (iI 0)), (5, .int (iI (-1))), (0, .ref h), (1, .int (iI t)), (2, .int (mk6 B)), (3, .int (iI ((i : Int)))), (4, .int (iI ((k : Int))))]) hx hb dX1_behind_78 hl (by decide) rfl (fun ls hl => ?_)
      refine lv_iload hx hb dX1_behind_80 (lv_at hl 0 rfl) ?_
      refine r_if_eq (tgt := 94) hx hb dX1_behind_82 (by decide) (by omega) (fun c82_5 => ?_) (fun c82_5 => by exfalso; omega)
      refine lv_iload_n hx hb dX1_behind_94 rfl (lv_at hl 4 rfl) ?_
      refine lv_istore_n (lv' := [(2, .int (mk6 B)), (6, .int (iI 0)), (5, .int (iI (-1))), (0, .ref h), (1, .int (iI t)), (3, .int (iI ((i : Int)))), (4, .int (iI ((k : Int))))]) hx hb dX1_behind_95 rfl hl (by decide) rfl (fun ls hl => ?_)
      refine r_iinc (j := 6) (lv' := [(4, .int (iI (((k + 1 : Nat) : Int)))), (2, .int (mk6 B)), (6, .int (iI 0)), (5, .int (iI (-1))), (0, .ref h), (1, .int (iI t)), (3, .int (iI ((i : Int))))]) (b := ((k + 1 : Nat) : Int)) hx hb dX1_behind_96 hl rfl (by omega) (by decide) rfl (fun ls hl => ?_)
      refine lv_goto (tgt := 13) hx hb dX1_behind_99 (by decide) ?_
      exact ih (k + 1) B ls (by omega) (by rw [it1, ← hv]; unfold bhM; rw [pM_n (by omega), if_neg (fun q => absurd q.1 (by omega))]) (lv_sub hl [4, 5, 1, 6, 0] rfl)
    · refine lv_aload_n hx hb dX1_behind_30 rfl (lv_at hl 0 rfl) ?_
      refine y_gh hx hb hown hts hK hP dX1_behind_31 ?_
      refine lv_aload_n hx hb dX1_behind_34 rfl (lv_at hl 0 rfl) ?_
      refine y_gw hx hb hown hts hK hP dX1_behind_35 ?_
      refine lv_iload hx hb dX1_behind_38 (lv_at hl 4 rfl) ?_
      refine y_lw hx hb hK hP (by omega) dX1_behind_40 ?_
      refine r_ic hx hb dX1_behind_41 ?_
      refine r_sub hx hb dX1_behind_42 ?_
      have z43_4 := hmh ((mw ((k : Int))) - 1) (by omega) (by omega)
      refine y_lh hx hb hK hP (by omega) dX1_behind_43 ?_
      refine r_ic hx hb dX1_behind_44 ?_
      refine r_sub hx hb dX1_behind_45 ?_
      refine lv_goto (tgt := 50) hx hb dX1_behind_46 (by decide) ?_
      refine lv_istore (lv' := [(5, .int (iI ((mh ((mw ((k : Int))) - 1)) - 1))), (0, .ref h), (1, .int (iI t)), (2, .int (mk6 B)), (3, .int (iI ((i : Int)))), (4, .int (iI ((k : Int))))]) hx hb dX1_behind_50 hl (by decide) rfl (fun ls hl => ?_)
      refine lv_iload hx hb dX1_behind_52 (lv_at hl 0 rfl) ?_
      refine r_if_lt (tgt := 77) hx hb dX1_behind_54 (by decide) (by omega) (fun c54_5 => ?_) (fun c54_5 => ?_)
      · refine r_ic hx hb dX1_behind_77 ?_
        refine lv_istore (lv' := [(6, .int (iI 0)), (5, .int (iI ((mh ((mw ((k : Int))) - 1)) - 1))), (0, .ref h), (1, .int (iI t)), (2, .int (mk6 B)), (3, .int (iI ((i : Int)))), (4, .int (iI ((k : Int))))]) hx hb dX1_behind_78 hl (by decide) rfl (fun ls hl => ?_)
        refine lv_iload hx hb dX1_behind_80 (lv_at hl 0 rfl) ?_
        refine r_if_eq (tgt := 94) hx hb dX1_behind_82 (by decide) (by omega) (fun c82_6 => ?_) (fun c82_6 => by exfalso; omega)
        refine lv_iload_n hx hb dX1_behind_94 rfl (lv_at hl 4 rfl) ?_
        refine lv_istore_n (lv' := [(2, .int (mk6 B)), (6, .int (iI 0)), (5, .int (iI ((mh ((mw ((k : Int))) - 1)) - 1))), (0, .ref h), (1, .int (iI t)), (3, .int (iI ((i : Int)))), (4, .int (iI ((k : Int))))]) hx hb dX1_behind_95 rfl hl (by decide) rfl (fun ls hl => ?_)
        refine r_iinc (j := 6) (lv' := [(4, .int (iI (((k + 1 : Nat) : Int)))), (2, .int (mk6 B)), (6, .int (iI 0)), (5, .int (iI ((mh ((mw ((k : Int))) - 1)) - 1))), (0, .ref h), (1, .int (iI t)), (3, .int (iI ((i : Int))))]) (b := ((k + 1 : Nat) : Int)) hx hb dX1_behind_96 hl rfl (by omega) (by decide) rfl (fun ls hl => ?_)
        refine lv_goto (tgt := 13) hx hb dX1_behind_99 (by decide) ?_
        exact ih (k + 1) B ls (by omega) (by rw [it1, ← hv]; unfold bhM; rw [pM_p c27_3, if_neg (fun q => absurd q.1 (by omega))]) (lv_sub hl [4, 5, 1, 6, 0] rfl)
      · refine lv_iload hx hb dX1_behind_57 (lv_at hl 0 rfl) ?_
        refine lv_iload_n hx hb dX1_behind_59 rfl (lv_at hl 2 rfl) ?_
        refine r_ic_eq (tgt := 73) hx hb dX1_behind_60 (by decide) (by omega) (by omega) (fun c60_6 => ?_) (fun c60_6 => ?_)
        · refine r_ic hx hb dX1_behind_73 ?_
          refine lv_goto (tgt := 78) hx hb dX1_behind_74 (by decide) ?_
          refine lv_istore (lv' := [(6, .int (iI 1)), (5, .int (iI ((mh ((mw ((k : Int))) - 1)) - 1))), (0, .ref h), (1, .int (iI t)), (2, .int (mk6 B)), (3, .int (iI ((i : Int)))), (4, .int (iI ((k : Int))))]) hx hb dX1_behind_78 hl (by decide) rfl (fun ls hl => ?_)
          refine lv_iload hx hb dX1_behind_80 (lv_at hl 0 rfl) ?_
          refine r_if_eq (tgt := 94) hx hb dX1_behind_82 (by decide) (by omega) (fun c82_7 => by exfalso; omega) (fun c82_7 => ?_)
          refine lv_iload_n hx hb dX1_behind_85 rfl (lv_at hl 4 rfl) ?_
          refine r_ic hx hb dX1_behind_86 ?_
          refine lv_iload hx hb dX1_behind_87 (lv_at hl 6 rfl) ?_
          refine r_shl hx hb dX1_behind_89 ?_
          refine r_orb hx hb dX1_behind_90 (by omega) ?_
          refine lv_goto (tgt := 95) hx hb dX1_behind_91 (by decide) ?_
          refine lv_istore_n (lv' := [(2, .int (mk6 (bu B ((k : Int))))), (6, .int (iI 1)), (5, .int (iI ((mh ((mw ((k : Int))) - 1)) - 1))), (0, .ref h), (1, .int (iI t)), (3, .int (iI ((i : Int)))), (4, .int (iI ((k : Int))))]) hx hb dX1_behind_95 rfl hl (by decide) rfl (fun ls hl => ?_)
          refine r_iinc (j := 6) (lv' := [(4, .int (iI (((k + 1 : Nat) : Int)))), (2, .int (mk6 (bu B ((k : Int))))), (6, .int (iI 1)), (5, .int (iI ((mh ((mw ((k : Int))) - 1)) - 1))), (0, .ref h), (1, .int (iI t)), (3, .int (iI ((i : Int))))]) (b := ((k + 1 : Nat) : Int)) hx hb dX1_behind_96 hl rfl (by omega) (by decide) rfl (fun ls hl => ?_)
          refine lv_goto (tgt := 13) hx hb dX1_behind_99 (by decide) ?_
          exact ih (k + 1) (bu B ((k : Int))) ls (by omega) (by rw [it1, ← hv]; unfold bhM; rw [pM_p c27_3, if_pos ⟨by omega, Or.inl c60_6⟩]) (lv_sub hl [4, 5, 1, 6, 0] rfl)
        · refine lv_iload_n hx hb dX1_behind_63 rfl (lv_at hl 3 rfl) ?_
          refine lv_iload hx hb dX1_behind_64 (lv_at hl 0 rfl) ?_
          refine r_shr hx hb dX1_behind_66 ?_
          refine r_ic hx hb dX1_behind_67 ?_
          refine r_and1 hx hb dX1_behind_68 (by omega) ?_
          refine r_ic hx hb dX1_behind_69 ?_
          refine r_bne (tgt := 77) hx hb dX1_behind_70 (by decide) (fun c70_7 => ?_) (fun c70_7 => ?_)
          · refine r_ic hx hb dX1_behind_77 ?_
            refine lv_istore (lv' := [(6, .int (iI 0)), (5, .int (iI ((mh ((mw ((k : Int))) - 1)) - 1))), (0, .ref h), (1, .int (iI t)), (2, .int (mk6 B)), (3, .int (iI ((i : Int)))), (4, .int (iI ((k : Int))))]) hx hb dX1_behind_78 hl (by decide) rfl (fun ls hl => ?_)
            refine lv_iload hx hb dX1_behind_80 (lv_at hl 0 rfl) ?_
            refine r_if_eq (tgt := 94) hx hb dX1_behind_82 (by decide) (by omega) (fun c82_8 => ?_) (fun c82_8 => by exfalso; omega)
            refine lv_iload_n hx hb dX1_behind_94 rfl (lv_at hl 4 rfl) ?_
            refine lv_istore_n (lv' := [(2, .int (mk6 B)), (6, .int (iI 0)), (5, .int (iI ((mh ((mw ((k : Int))) - 1)) - 1))), (0, .ref h), (1, .int (iI t)), (3, .int (iI ((i : Int)))), (4, .int (iI ((k : Int))))]) hx hb dX1_behind_95 rfl hl (by decide) rfl (fun ls hl => ?_)
            refine r_iinc (j := 6) (lv' := [(4, .int (iI (((k + 1 : Nat) : Int)))), (2, .int (mk6 B)), (6, .int (iI 0)), (5, .int (iI ((mh ((mw ((k : Int))) - 1)) - 1))), (0, .ref h), (1, .int (iI t)), (3, .int (iI ((i : Int))))]) (b := ((k + 1 : Nat) : Int)) hx hb dX1_behind_96 hl rfl (by omega) (by decide) rfl (fun ls hl => ?_)
            refine lv_goto (tgt := 13) hx hb dX1_behind_99 (by decide) ?_
            exact ih (k + 1) B ls (by omega) (by rw [it1, ← hv]; unfold bhM; rw [pM_p c27_3, if_neg (fun q => q.2.elim c60_6 (fun q2 => by rw [c70_7] at q2; cases q2))]) (lv_sub hl [4, 5, 1, 6, 0] rfl)
          · refine r_ic hx hb dX1_behind_73 ?_
            refine lv_goto (tgt := 78) hx hb dX1_behind_74 (by decide) ?_
            refine lv_istore (lv' := [(6, .int (iI 1)), (5, .int (iI ((mh ((mw ((k : Int))) - 1)) - 1))), (0, .ref h), (1, .int (iI t)), (2, .int (mk6 B)), (3, .int (iI ((i : Int)))), (4, .int (iI ((k : Int))))]) hx hb dX1_behind_78 hl (by decide) rfl (fun ls hl => ?_)
            refine lv_iload hx hb dX1_behind_80 (lv_at hl 0 rfl) ?_
            refine r_if_eq (tgt := 94) hx hb dX1_behind_82 (by decide) (by omega) (fun c82_8 => by exfalso; omega) (fun c82_8 => ?_)
            refine lv_iload_n hx hb dX1_behind_85 rfl (lv_at hl 4 rfl) ?_
            refine r_ic hx hb dX1_behind_86 ?_
            refine lv_iload hx hb dX1_behind_87 (lv_at hl 6 rfl) ?_
            refine r_shl hx hb dX1_behind_89 ?_
            refine r_orb hx hb dX1_behind_90 (by omega) ?_
            refine lv_goto (tgt := 95) hx hb dX1_behind_91 (by decide) ?_
            refine lv_istore_n (lv' := [(2, .int (mk6 (bu B ((k : Int))))), (6, .int (iI 1)), (5, .int (iI ((mh ((mw ((k : Int))) - 1)) - 1))), (0, .ref h), (1, .int (iI t)), (3, .int (iI ((i : Int)))), (4, .int (iI ((k : Int))))]) hx hb dX1_behind_95 rfl hl (by decide) rfl (fun ls hl => ?_)
            refine r_iinc (j := 6) (lv' := [(4, .int (iI (((k + 1 : Nat) : Int)))), (2, .int (mk6 (bu B ((k : Int))))), (6, .int (iI 1)), (5, .int (iI ((mh ((mw ((k : Int))) - 1)) - 1))), (0, .ref h), (1, .int (iI t)), (3, .int (iI ((i : Int))))]) (b := ((k + 1 : Nat) : Int)) hx hb dX1_behind_96 hl rfl (by omega) (by decide) rfl (fun ls hl => ?_)
            refine lv_goto (tgt := 13) hx hb dX1_behind_99 (by decide) ?_
            exact ih (k + 1) (bu B ((k : Int))) ls (by omega) (by rw [it1, ← hv]; unfold bhM; rw [pM_p c27_3, if_pos ⟨by omega, Or.inr c70_7⟩]) (lv_sub hl [4, 5, 1, 6, 0] rfl)
set_option maxHeartbeats 4000000 in
set_option maxRecDepth 100000 in
theorem lp_behB (hx : p.tables.exec = Jvm.exec) (hb : c.code = cX1_behind) (hml : c.maxLocals = 7) (hown : s.vm.findClass RX1 = some m.cls) (hts : ∀ w ∈ lw_all, w.before args s = true) (hK : va_K D vwCl (tX cB cI) s) (hP : va_P D vwCl (wM h a cI mb mh mw ms tm mu) H) (hmh : rg 0 7 5 mh) (hmw : rg 0 6 6 mw) {t : Int} (ht : 0 ≤ t ∧ t < 6)
    (kk : ∀ (B : Int → Bool) (ls : Array Slot), B = bhd mh mw t → lv_has ls 7 [(0, .ref h), (2, .int (mk6 B))] → W p l e R s m args below meth c H locs cells slots Q (F0 m 108 ls [])) :
    ∀ (n i : Nat) (B : Int → Bool) (ls : Array Slot), i + n = 6 → B = it (bpM mh mw t) i b0 → lv_has ls 7 [(0, .ref h), (1, .int (iI t)), (2, .int (mk6 B)), (3, .int (iI ((i : Int))))] → W p l e R s m args below meth c H locs cells slots Q (F0 m 4 ls []) := by
  intro n
  induction n with
  | zero =>
    intro i B ls hk hv hl
    refine lv_iload_n hx hb dX1_behind_4 rfl (lv_at hl 3 rfl) ?_
    refine r_bp hx hb dX1_behind_5 (by decide +kernel) ?_
    refine r_ic_ge (tgt := 108) hx hb dX1_behind_7 (by decide) (by omega) (by omega) (fun c7_1 => ?_) (fun c7_1 => by exfalso; omega)
    exact kk B ls (by obtain rfl : i = 6 := (by omega); exact hv) (lv_sub hl [0, 2] rfl)
  | succ n ih =>
    intro i B ls hk hv hl
    refine lv_iload_n hx hb dX1_behind_4 rfl (lv_at hl 3 rfl) ?_
    refine r_bp hx hb dX1_behind_5 (by decide +kernel) ?_
    refine r_ic_ge (tgt := 108) hx hb dX1_behind_7 (by decide) (by omega) (by omega) (fun c7_1 => by exfalso; omega) (fun c7_1 => ?_)
    refine r_ic hx hb dX1_behind_10 ?_
    refine lv_istore (lv' := [(4, .int (iI 0)), (0, .ref h), (1, .int (iI t)), (2, .int (mk6 B)), (3, .int (iI ((i : Int))))]) hx hb dX1_behind_11 hl (by decide) rfl (fun ls hl => ?_)
    refine lp_behC hx hb hml hown hts hK hP hmh hmw ht (i := i) (Bi := B) (fun B2 ls hv2 hl => ?_) 6 0 B ls rfl rfl (lv_sub hl [1, 2, 3, 4, 0] rfl)
    refine r_iinc (j := 3) (lv' := [(3, .int (iI (((i + 1 : Nat) : Int)))), (0, .ref h), (1, .int (iI t)), (2, .int (mk6 B2))]) (b := ((i + 1 : Nat) : Int)) hx hb dX1_behind_102 hl rfl (by omega) (by decide) rfl (fun ls hl => ?_)
    refine lv_goto (tgt := 4) hx hb dX1_behind_105 (by decide) ?_
    exact ih (i + 1) B2 ls (by omega) (by rw [it1, ← hv]; exact hv2) (lv_sub hl [1, 2, 3, 0] rfl)
set_option maxHeartbeats 4000000 in
set_option maxRecDepth 100000 in
theorem mX1_behind (l : Launch) (D : va_G) (cB cI : ClassId) (Hh : Heap) {mb mh mw ms mu : Int → Int} {tm : Int} (h : Nat) (a : Nat → Nat) (hP : va_P D vwCl (wM h a cI mb mh mw ms tm mu) Hh) (hmh : rg 0 7 5 mh) (hmw : rg 0 6 6 mw) (t : Int) (ht : 0 ≤ t ∧ t < 6) : Met l yX1_behind (ws_ yX1_behind cX1_behind 7 (some .int)) ({ frames := 0, cells := 0, slots := 0, locals := 0 }) (va_Pc [.ref h, .int (iI t)] (fun U => U.heap = Hh ∧ va_K D vwCl (tX cB cI) U)) (va_Qi (fun (r : Int32) (_ : Unit) => r = mk6 (bhd mh mw t)) (fun _ u => u.heap = Hh) (fun _ => False)) 0 0 (fun _ => False) := by
  refine Met.ofW (cc := cX1_behind) (maxL := 7) (ret := (some .int)) (by decide) rfl ?_
  intro p e s m args below meth c s₁ B hml hv
  obtain ⟨rfl, hsz, hK⟩ := hv
  have hx := B.exec
  have hb := B.bytes
  have hr := B.returns
  have hts := atoms_spec (ws := ws_ yX1_behind cX1_behind 7 (some .int)) B.pre
  have hts : ∀ w ∈ lw_all, w.before _ s = true := fun w h => hts w (List.mem_cons_of_mem _ h)
  have hown : s.vm.findClass RX1 = some m.cls := findClass_of_methodNamed B.named
  have hlocks := B.notSynchronized
  subst hsz
  have hS : va_S (fun _ => False) s.heap s.heap [] := va_S.rf
  have hl := lv_entry ([.ref h, .int (iI t)]) (n := 7) (Nat.le_of_ble_eq_true rfl)
  rw [lg_entry_eq]
  generalize (lg_sl ([.ref h, .int (iI t)]) ++ List.replicate (7 - (lg_sl ([.ref h, .int (iI t)])).length) Slot.unset).toArray = ls at hl ⊢
  have hl : lv_has ls 7 [(0, .ref h), (1, .int (iI t))] := hl
  refine r_icm hx hb dX1_behind_0 ?_
  refine lv_istore_n (lv' := [(2, .int (mk6 b0)), (0, .ref h), (1, .int (iI t))]) hx hb dX1_behind_1 rfl hl (by decide) rfl (fun ls hl => ?_)
  refine r_ic hx hb dX1_behind_2 ?_
  refine lv_istore_n (lv' := [(3, .int (iI 0)), (2, .int (mk6 b0)), (0, .ref h), (1, .int (iI t))]) hx hb dX1_behind_3 rfl hl (by decide) rfl (fun ls hl => ?_)
  refine lp_behB hx hb hml hown hts hK hP hmh hmw ht (fun B ls hv hl => ?_) 6 0 b0 ls rfl rfl (lv_sub hl [2, 3, 1, 0] rfl)
  refine lv_iload_n hx hb dX1_behind_108 rfl (lv_at hl 1 rfl) ?_
  exact W.iret (v := (mk6 B)) hx hb hr (fun u hu hW => ⟨⟨_, (), rfl, by rw [hv], hu⟩, hS.F hu⟩) hS.2.2 dX1_behind_109
theorem k_behind (hx : p.tables.exec = Jvm.exec) (hb : c.code = cc) (hml : c.maxLocals = nL) (hown : s.vm.findClass RX1 = some m.cls) (hts : ∀ w ∈ lw_all, w.before args s = true) (hK : va_K D vwCl (tX cB cI) s) (hP : va_P D vwCl (wM h a cI mb mh mw ms tm mu) H) (hmh : rg 0 7 5 mh) (hmw : rg 0 6 6 mw) {t : Int} (ht : 0 ≤ t ∧ t < 6) (hRf : 1 ≤ R.frames) (hRl : 26 ≤ R.locals) (hRc : cells ≤ R.cells) (hRs : slots ≤ R.slots) (hS : va_S A H0 H locs) (hsz : ls.size = nL) (hroom : (rest.map fun v => v.category).sum ≤ 8) (hdg : decode cc pc = .ok (.invokevirtual 32, 3)) (k : ∀ locs1 : List Loc, va_S A H0 H locs1 → W p l e R s m args below meth c H locs1 cells slots Q (F0 m (pc + 3) ls (.int (mk6 (bhd mh mw t)) :: rest))) : W p l e R s m args below meth c H locs cells slots Q (F0 m pc ls (.int (iI t) :: .ref h :: rest)) :=
  ro_V (As := [.int (iI t)]) (mX1_behind l D cB cI H h a hP hmh hmw t ht) ⟨hx, hb, hml, hown, hts⟩ (cwV 1 hts (lw_V q155 q157 qs6 q10 q158) rfl rfl rfl (by decide +kernel) ⟨hRf, hRl⟩) hK (va_recv hK hP (ci := 1) (q0 := 0) rfl rfl) rfl hsz rfl hroom hdg ⟨hRc, hRs⟩ hS k
end S10
end
section
/-! 11: PriorityLocksModel's public methods -/
theorem nfM_rg {mb mh mw ms mu : Int → Int} {l : Int} : -1 ≤ nfM mb mh mw ms mu l ∧ nfM mb mh mw ms mu l < 6 := by
  unfold nfM
  split
  · refine it_rg (by omega) 6 (fun k v h0 h1 h2 => ?_)
    unfold bwM
    split <;> omega
  · omega
section S11
variable {p : Program} {l : Launch} {e : Env} {R : Room} {s : State} {m : MethodId} {args : Array Value} {below : List Frame} {meth : Method} {c : Code} {H : Heap} {locs : List Loc} {cells slots : Nat} {Q : State → Prop}
variable {cc : ByteArray} {pc nL : Nat} {ls : Array Slot} {rest : List Value} {D : va_G} {A : Nat → Prop} {H0 : Heap} {h : Nat} {a : Nat → Nat} {cB cI : ClassId} {fb fu fw fs fh mb mh mw ms mu : Int → Int} {st tm : Int}
set_option maxHeartbeats 4000000 in
set_option maxRecDepth 100000 in
theorem mX1_base (l : Launch) (D : va_G) (cB cI : ClassId) (Hh : Heap) {mb mh mw ms mu : Int → Int} {tm : Int} (h : Nat) (a : Nat → Nat) (hP : va_P D vwCl (wM h a cI mb mh mw ms tm mu) Hh) (hmb : rg 0 10 6 mb) (t : Int) (ht : -2147483648 ≤ t ∧ t < 2147483648) : Met l yX1_base (ws_ yX1_base cX1_base 2 (some .int)) ({ frames := 1, cells := 0, slots := 0, locals := 21 }) (va_Pc [.ref h, .int (iI t)] (fun U => U.heap = Hh ∧ va_K D vwCl (tX cB cI) U)) (va_Qi (fun (r : Int32) (_ : Unit) => r = iI (urM mb t)) (fun _ u => u.heap = Hh) (fun _ => False)) 0 0 (fun _ => False) := by
  refine Met.ofW (cc := cX1_base) (maxL := 2) (ret := (some .int)) (by decide) rfl ?_
  intro p e s m args below meth c s₁ B hml hv
  obtain ⟨rfl, hsz, hK⟩ := hv
  have hx := B.exec
  have hb := B.bytes
  have hr := B.returns
  have hts := atoms_spec (ws := ws_ yX1_base cX1_base 2 (some .int)) B.pre
  have hts : ∀ w ∈ lw_all, w.before _ s = true := fun w h => hts w (List.mem_cons_of_mem _ h)
  have hown : s.vm.findClass RX1 = some m.cls := findClass_of_methodNamed B.named
  have hlocks := B.notSynchronized
  subst hsz
  have hS : va_S (fun _ => False) s.heap s.heap [] := va_S.rf
  have hl := lv_entry ([.ref h, .int (iI t)]) (n := 2) (Nat.le_of_ble_eq_true rfl)
  rw [lg_entry_eq]
  generalize (lg_sl ([.ref h, .int (iI t)]) ++ List.replicate (2 - (lg_sl ([.ref h, .int (iI t)])).length) Slot.unset).toArray = ls at hl ⊢
  have hl : lv_has ls 2 [(0, .ref h), (1, .int (iI t))] := hl
  refine lv_aload_n hx hb dX1_base_0 rfl (lv_at hl 0 rfl) ?_
  refine lv_iload_n hx hb dX1_base_1 rfl (lv_at hl 1 rfl) ?_
  refine k_thread hx hb hml hown hts hK hP (by omega) (Nat.le_of_ble_eq_true rfl) (Nat.le_of_ble_eq_true rfl) (Nat.zero_le _) (Nat.zero_le _) hS hl.1 (Nat.le_of_ble_eq_true rfl) dX1_base_2 (fun locs hS => ?_)
  refine r_peq (P := 0 ≤ t ∧ t < 6) (tgt := 17) hx hb ite_10 dX1_base_5 (by decide) (fun c5_1 => ?_) (fun c5_1 => ?_)
  · refine r_ic hx hb dX1_base_17 ?_
    exact W.iret (v := (iI (-1))) hx hb hr (fun u hu hW => ⟨⟨_, (), rfl, by unfold urM; rw [if_neg c5_1], hu⟩, hS.F hu⟩) hS.2.2 dX1_base_18
  · refine lv_aload_n hx hb dX1_base_8 rfl (lv_at hl 0 rfl) ?_
    refine y_gb hx hb hown hts hK hP dX1_base_9 ?_
    refine lv_iload_n hx hb dX1_base_12 rfl (lv_at hl 1 rfl) ?_
    have z13_2 := hmb t (by omega) (by omega)
    refine y_lb hx hb hK hP (by omega) dX1_base_13 ?_
    refine lv_goto (tgt := 18) hx hb dX1_base_14 (by decide) ?_
    exact W.iret (v := (iI (mb t))) hx hb hr (fun u hu hW => ⟨⟨_, (), rfl, by unfold urM; rw [if_pos c5_1], hu⟩, hS.F hu⟩) hS.2.2 dX1_base_18
set_option maxHeartbeats 4000000 in
set_option maxRecDepth 100000 in
theorem mX1_holder (l : Launch) (D : va_G) (cB cI : ClassId) (Hh : Heap) {mb mh mw ms mu : Int → Int} {tm : Int} (h : Nat) (a : Nat → Nat) (hP : va_P D vwCl (wM h a cI mb mh mw ms tm mu) Hh) (hmh : rg 0 7 5 mh) (t : Int) (ht : -2147483648 ≤ t ∧ t < 2147483648) : Met l yX1_holder (ws_ yX1_holder cX1_holder 2 (some .int)) ({ frames := 1, cells := 0, slots := 0, locals := 21 }) (va_Pc [.ref h, .int (iI t)] (fun U => U.heap = Hh ∧ va_K D vwCl (tX cB cI) U)) (va_Qi (fun (r : Int32) (_ : Unit) => r = iI (hoM mh t)) (fun _ u => u.heap = Hh) (fun _ => False)) 0 0 (fun _ => False) := by
  refine Met.ofW (cc := cX1_holder) (maxL := 2) (ret := (some .int)) (by decide) rfl ?_
  intro p e s m args below meth c s₁ B hml hv
  obtain ⟨rfl, hsz, hK⟩ := hv
  have hx := B.exec
  have hb := B.bytes
  have hr := B.returns
  have hts := atoms_spec (ws := ws_ yX1_holder cX1_holder 2 (some .int)) B.pre
  have hts : ∀ w ∈ lw_all, w.before _ s = true := fun w h => hts w (List.mem_cons_of_mem _ h)
  have hown : s.vm.findClass RX1 = some m.cls := findClass_of_methodNamed B.named
  have hlocks := B.notSynchronized
  subst hsz
  have hS : va_S (fun _ => False) s.heap s.heap [] := va_S.rf
  have hl := lv_entry ([.ref h, .int (iI t)]) (n := 2) (Nat.le_of_ble_eq_true rfl)
  rw [lg_entry_eq]
  generalize (lg_sl ([.ref h, .int (iI t)]) ++ List.replicate (2 - (lg_sl ([.ref h, .int (iI t)])).length) Slot.unset).toArray = ls at hl ⊢
  have hl : lv_has ls 2 [(0, .ref h), (1, .int (iI t))] := hl
  refine lv_aload_n hx hb dX1_holder_0 rfl (lv_at hl 0 rfl) ?_
  refine lv_iload_n hx hb dX1_holder_1 rfl (lv_at hl 1 rfl) ?_
  refine k_lock hx hb hml hown hts hK hP (by omega) (Nat.le_of_ble_eq_true rfl) (Nat.le_of_ble_eq_true rfl) (Nat.zero_le _) (Nat.zero_le _) hS hl.1 (Nat.le_of_ble_eq_true rfl) dX1_holder_2 (fun locs hS => ?_)
  refine r_peq (P := 0 ≤ t ∧ t < 5) (tgt := 19) hx hb ite_10 dX1_holder_5 (by decide) (fun c5_1 => ?_) (fun c5_1 => ?_)
  · refine r_ic hx hb dX1_holder_19 ?_
    exact W.iret (v := (iI (-1))) hx hb hr (fun u hu hW => ⟨⟨_, (), rfl, by unfold hoM; rw [if_neg c5_1], hu⟩, hS.F hu⟩) hS.2.2 dX1_holder_20
  · refine lv_aload_n hx hb dX1_holder_8 rfl (lv_at hl 0 rfl) ?_
    refine y_gh hx hb hown hts hK hP dX1_holder_9 ?_
    refine lv_iload_n hx hb dX1_holder_12 rfl (lv_at hl 1 rfl) ?_
    have z13_2 := hmh t (by omega) (by omega)
    refine y_lh hx hb hK hP (by omega) dX1_holder_13 ?_
    refine r_ic hx hb dX1_holder_14 ?_
    refine r_sub hx hb dX1_holder_15 ?_
    refine lv_goto (tgt := 20) hx hb dX1_holder_16 (by decide) ?_
    exact W.iret (v := (iI ((mh t) - 1))) hx hb hr (fun u hu hW => ⟨⟨_, (), rfl, by unfold hoM; rw [if_pos c5_1], hu⟩, hS.F hu⟩) hS.2.2 dX1_holder_20
set_option maxHeartbeats 4000000 in
set_option maxRecDepth 100000 in
theorem mX1_waitsFor (l : Launch) (D : va_G) (cB cI : ClassId) (Hh : Heap) {mb mh mw ms mu : Int → Int} {tm : Int} (h : Nat) (a : Nat → Nat) (hP : va_P D vwCl (wM h a cI mb mh mw ms tm mu) Hh) (hmw : rg 0 6 6 mw) (t : Int) (ht : -2147483648 ≤ t ∧ t < 2147483648) : Met l yX1_waitsFor (ws_ yX1_waitsFor cX1_waitsFor 2 (some .int)) ({ frames := 1, cells := 0, slots := 0, locals := 21 }) (va_Pc [.ref h, .int (iI t)] (fun U => U.heap = Hh ∧ va_K D vwCl (tX cB cI) U)) (va_Qi (fun (r : Int32) (_ : Unit) => r = iI (wfM mw t)) (fun _ u => u.heap = Hh) (fun _ => False)) 0 0 (fun _ => False) := by
  refine Met.ofW (cc := cX1_waitsFor) (maxL := 2) (ret := (some .int)) (by decide) rfl ?_
  intro p e s m args below meth c s₁ B hml hv
  obtain ⟨rfl, hsz, hK⟩ := hv
  have hx := B.exec
  have hb := B.bytes
  have hr := B.returns
  have hts := atoms_spec (ws := ws_ yX1_waitsFor cX1_waitsFor 2 (some .int)) B.pre
  have hts : ∀ w ∈ lw_all, w.before _ s = true := fun w h => hts w (List.mem_cons_of_mem _ h)
  have hown : s.vm.findClass RX1 = some m.cls := findClass_of_methodNamed B.named
  have hlocks := B.notSynchronized
  subst hsz
  have hS : va_S (fun _ => False) s.heap s.heap [] := va_S.rf
  have hl := lv_entry ([.ref h, .int (iI t)]) (n := 2) (Nat.le_of_ble_eq_true rfl)
  rw [lg_entry_eq]
  generalize (lg_sl ([.ref h, .int (iI t)]) ++ List.replicate (2 - (lg_sl ([.ref h, .int (iI t)])).length) Slot.unset).toArray = ls at hl ⊢
  have hl : lv_has ls 2 [(0, .ref h), (1, .int (iI t))] := hl
  refine lv_aload_n hx hb dX1_waitsFor_0 rfl (lv_at hl 0 rfl) ?_
  refine lv_iload_n hx hb dX1_waitsFor_1 rfl (lv_at hl 1 rfl) ?_
  refine k_thread hx hb hml hown hts hK hP (by omega) (Nat.le_of_ble_eq_true rfl) (Nat.le_of_ble_eq_true rfl) (Nat.zero_le _) (Nat.zero_le _) hS hl.1 (Nat.le_of_ble_eq_true rfl) dX1_waitsFor_2 (fun locs hS => ?_)
  refine r_peq (P := 0 ≤ t ∧ t < 6) (tgt := 19) hx hb ite_10 dX1_waitsFor_5 (by decide) (fun c5_1 => ?_) (fun c5_1 => ?_)
  · refine r_ic hx hb dX1_waitsFor_19 ?_
    exact W.iret (v := (iI (-1))) hx hb hr (fun u hu hW => ⟨⟨_, (), rfl, by unfold wfM; rw [if_neg c5_1], hu⟩, hS.F hu⟩) hS.2.2 dX1_waitsFor_20
  · refine lv_aload_n hx hb dX1_waitsFor_8 rfl (lv_at hl 0 rfl) ?_
    refine y_gw hx hb hown hts hK hP dX1_waitsFor_9 ?_
    refine lv_iload_n hx hb dX1_waitsFor_12 rfl (lv_at hl 1 rfl) ?_
    have z13_2 := hmw t (by omega) (by omega)
    refine y_lw hx hb hK hP (by omega) dX1_waitsFor_13 ?_
    refine r_ic hx hb dX1_waitsFor_14 ?_
    refine r_sub hx hb dX1_waitsFor_15 ?_
    refine lv_goto (tgt := 20) hx hb dX1_waitsFor_16 (by decide) ?_
    exact W.iret (v := (iI ((mw t) - 1))) hx hb hr (fun u hu hW => ⟨⟨_, (), rfl, by unfold wfM; rw [if_pos c5_1], hu⟩, hS.F hu⟩) hS.2.2 dX1_waitsFor_20
set_option maxHeartbeats 4000000 in
set_option maxRecDepth 100000 in
theorem mX1_waitingOn (l : Launch) (D : va_G) (cB cI : ClassId) (Hh : Heap) {mb mh mw ms mu : Int → Int} {tm : Int} (h : Nat) (a : Nat → Nat) (hP : va_P D vwCl (wM h a cI mb mh mw ms tm mu) Hh) (hmh : rg 0 7 5 mh) (hmw : rg 0 6 6 mw) (t : Int) (ht : -2147483648 ≤ t ∧ t < 2147483648) : Met l yX1_waitingOn (ws_ yX1_waitingOn cX1_waitingOn 2 (some .int)) ({ frames := 1, cells := 0, slots := 0, locals := 26 }) (va_Pc [.ref h, .int (iI t)] (fun U => U.heap = Hh ∧ va_K D vwCl (tX cB cI) U)) (va_Qi (fun (r : Int32) (_ : Unit) => r = mk6 (woM mh mw t)) (fun _ u => u.heap = Hh) (fun _ => False)) 0 0 (fun _ => False) := by
  refine Met.ofW (cc := cX1_waitingOn) (maxL := 2) (ret := (some .int)) (by decide) rfl ?_
  intro p e s m args below meth c s₁ B hml hv
  obtain ⟨rfl, hsz, hK⟩ := hv
  have hx := B.exec
  have hb := B.bytes
  have hr := B.returns
  have hts := atoms_spec (ws := ws_ yX1_waitingOn cX1_waitingOn 2 (some .int)) B.pre
  have hts : ∀ w ∈ lw_all, w.before _ s = true := fun w h => hts w (List.mem_cons_of_mem _ h)
  have hown : s.vm.findClass RX1 = some m.cls := findClass_of_methodNamed B.named
  have hlocks := B.notSynchronized
  subst hsz
  have hS : va_S (fun _ => False) s.heap s.heap [] := va_S.rf
  have hl := lv_entry ([.ref h, .int (iI t)]) (n := 2) (Nat.le_of_ble_eq_true rfl)
  rw [lg_entry_eq]
  generalize (lg_sl ([.ref h, .int (iI t)]) ++ List.replicate (2 - (lg_sl ([.ref h, .int (iI t)])).length) Slot.unset).toArray = ls at hl ⊢
  have hl : lv_has ls 2 [(0, .ref h), (1, .int (iI t))] := hl
  refine lv_aload_n hx hb dX1_waitingOn_0 rfl (lv_at hl 0 rfl) ?_
  refine lv_iload_n hx hb dX1_waitingOn_1 rfl (lv_at hl 1 rfl) ?_
  refine k_thread hx hb hml hown hts hK hP (by omega) (Nat.le_of_ble_eq_true rfl) (Nat.le_of_ble_eq_true rfl) (Nat.zero_le _) (Nat.zero_le _) hS hl.1 (Nat.le_of_ble_eq_true rfl) dX1_waitingOn_2 (fun locs hS => ?_)
  refine r_peq (P := 0 ≤ t ∧ t < 6) (tgt := 16) hx hb ite_10 dX1_waitingOn_5 (by decide) (fun c5_1 => ?_) (fun c5_1 => ?_)
  · refine r_icm hx hb dX1_waitingOn_16 ?_
    exact W.iret (v := (mk6 b0)) hx hb hr (fun u hu hW => ⟨⟨_, (), rfl, by unfold woM; rw [if_neg c5_1], hu⟩, hS.F hu⟩) hS.2.2 dX1_waitingOn_17
  · refine lv_aload_n hx hb dX1_waitingOn_8 rfl (lv_at hl 0 rfl) ?_
    refine lv_iload_n hx hb dX1_waitingOn_9 rfl (lv_at hl 1 rfl) ?_
    refine k_behind hx hb hml hown hts hK hP hmh hmw (by omega) (Nat.le_of_ble_eq_true rfl) (Nat.le_of_ble_eq_true rfl) (Nat.zero_le _) (Nat.zero_le _) hS hl.1 (Nat.le_of_ble_eq_true rfl) dX1_waitingOn_10 (fun locs hS => ?_)
    refine lv_goto (tgt := 17) hx hb dX1_waitingOn_13 (by decide) ?_
    exact W.iret (v := (mk6 (bhd mh mw t))) hx hb hr (fun u hu hW => ⟨⟨_, (), rfl, by unfold woM; rw [if_pos c5_1], hu⟩, hS.F hu⟩) hS.2.2 dX1_waitingOn_17
set_option maxHeartbeats 4000000 in
set_option maxRecDepth 100000 in
theorem lq_waiting (hx : p.tables.exec = Jvm.exec) (hb : c.code = cX1_waiting) (hml : c.maxLocals = 4) (hown : s.vm.findClass RX1 = some m.cls) (hts : ∀ w ∈ lw_all, w.before args s = true) (hK : va_K D vwCl (tX cB cI) s) (hRf : 1 ≤ R.frames) (hRl : 21 ≤ R.locals) (hRc : cells ≤ R.cells) (hRs : slots ≤ R.slots) (hP : va_P D vwCl (wM h a cI mb mh mw ms tm mu) H) (hmw : rg 0 6 6 mw) {lk : Int} (ha : -2147483648 ≤ lk ∧ lk < 2147483648)
    (kk : ∀ (v : Int) (locs : List Loc) (ls : Array Slot), v = wtM mw lk → va_S A H0 H locs → lv_has ls 4 [(0, .ref h), (2, .int (iI v))] → W p l e R s m args below meth c H locs cells slots Q (F0 m 44 ls [])) :
    ∀ (n k : Nat) (v : Int) (locs : List Loc) (ls : Array Slot), k + n = 6 → ((0 ≤ lk ∧ lk < 5 → v = it (wtT mw lk) k 0) ∧ (¬ (0 ≤ lk ∧ lk < 5) → v = 0)) → (0 ≤ v ∧ v ≤ (k : Int)) → va_S A H0 H locs → lv_has ls 4 [(0, .ref h), (1, .int (iI lk)), (2, .int (iI v)), (3, .int (iI ((k : Int))))] → W p l e R s m args below meth c H locs cells slots Q (F0 m 4 ls []) := by
  intro n
  induction n with
  | zero =>
    intro k v locs ls hk hv hr hS hl
    refine lv_iload_n hx hb dX1_waiting_4 rfl (lv_at hl 3 rfl) ?_
    refine r_bp hx hb dX1_waiting_5 (by decide +kernel) ?_
    refine r_ic_ge (tgt := 44) hx hb dX1_waiting_7 (by decide) (by omega) (by omega) (fun c7_1 => ?_) (fun c7_1 => by exfalso; omega)
    exact kk v locs ls (by obtain rfl : k = 6 := (by omega); unfold wtM; split; exact hv.1 (by assumption); exact hv.2 (by assumption)) hS (lv_sub hl [0, 2] rfl)
  | succ n ih =>
    intro k v locs ls hk hv hr hS hl
    refine lv_iload_n hx hb dX1_waiting_4 rfl (lv_at hl 3 rfl) ?_
    refine r_bp hx hb dX1_waiting_5 (by decide +kernel) ?_
    refine r_ic_ge (tgt := 44) hx hb dX1_waiting_7 (by decide) (by omega) (by omega) (fun c7_1 => by exfalso; omega) (fun c7_1 => ?_)
    refine lv_aload_n hx hb dX1_waiting_10 rfl (lv_at hl 0 rfl) ?_
    refine lv_iload_n hx hb dX1_waiting_11 rfl (lv_at hl 1 rfl) ?_
    refine k_lock hx hb hml hown hts hK hP (by omega) hRf hRl hRc hRs hS hl.1 (Nat.le_of_ble_eq_true rfl) dX1_waiting_12 (fun locs hS => ?_)
    refine r_peq (P := 0 ≤ lk ∧ lk < 5) (tgt := 44) hx hb ite_10 dX1_waiting_15 (by decide) (fun c15_2 => ?_) (fun c15_2 => ?_)
    · exact kk v locs ls (by unfold wtM; rw [if_neg c15_2]; exact hv.2 c15_2) hS (lv_sub hl [0, 2] rfl)
    · refine lv_aload_n hx hb dX1_waiting_18 rfl (lv_at hl 0 rfl) ?_
      refine y_gw hx hb hown hts hK hP dX1_waiting_19 ?_
      refine lv_iload_n hx hb dX1_waiting_22 rfl (lv_at hl 3 rfl) ?_
      have z23_3 := hmw ((k : Int)) (by omega) (by omega)
      refine y_lw hx hb hK hP (by omega) dX1_waiting_23 ?_
      refine lv_iload_n hx hb dX1_waiting_24 rfl (lv_at hl 1 rfl) ?_
      refine r_ic hx hb dX1_waiting_25 ?_
      refine r_add hx hb dX1_waiting_26 ?_
      refine r_ic_ne (tgt := 36) hx hb dX1_waiting_27 (by decide) (by omega) (by omega) (fun c27_4 => ?_) (fun c27_4 => ?_)
      · refine lv_iload_n hx hb dX1_waiting_36 rfl (lv_at hl 2 rfl) ?_
        refine lv_istore_n (lv' := [(2, .int (iI v)), (0, .ref h), (1, .int (iI lk)), (3, .int (iI ((k : Int))))]) hx hb dX1_waiting_37 rfl hl (by decide) rfl (fun ls hl => ?_)
        refine r_iinc (j := 3) (lv' := [(3, .int (iI (((k + 1 : Nat) : Int)))), (2, .int (iI v)), (0, .ref h), (1, .int (iI lk))]) (b := ((k + 1 : Nat) : Int)) hx hb dX1_waiting_38 hl rfl (by omega) (by decide) rfl (fun ls hl => ?_)
        refine lv_goto (tgt := 4) hx hb dX1_waiting_41 (by decide) ?_
        exact ih (k + 1) v locs ls (by omega) ⟨fun _ => by rw [it1, ← hv.1 c15_2]; unfold wtT; split <;> omega, fun q => absurd c15_2 q⟩ (by omega) hS (lv_sub hl [2, 3, 1, 0] rfl)
      · refine lv_iload_n hx hb dX1_waiting_30 rfl (lv_at hl 2 rfl) ?_
        refine r_ic hx hb dX1_waiting_31 ?_
        refine r_add hx hb dX1_waiting_32 ?_
        refine lv_goto (tgt := 37) hx hb dX1_waiting_33 (by decide) ?_
        refine lv_istore_n (lv' := [(2, .int (iI (v + 1))), (0, .ref h), (1, .int (iI lk)), (3, .int (iI ((k : Int))))]) hx hb dX1_waiting_37 rfl hl (by decide) rfl (fun ls hl => ?_)
        refine r_iinc (j := 3) (lv' := [(3, .int (iI (((k + 1 : Nat) : Int)))), (2, .int (iI (v + 1))), (0, .ref h), (1, .int (iI lk))]) (b := ((k + 1 : Nat) : Int)) hx hb dX1_waiting_38 hl rfl (by omega) (by decide) rfl (fun ls hl => ?_)
        refine lv_goto (tgt := 4) hx hb dX1_waiting_41 (by decide) ?_
        exact ih (k + 1) (v + 1) locs ls (by omega) ⟨fun _ => by rw [it1, ← hv.1 c15_2]; unfold wtT; split <;> omega, fun q => absurd c15_2 q⟩ (by omega) hS (lv_sub hl [2, 3, 1, 0] rfl)
set_option maxHeartbeats 4000000 in
set_option maxRecDepth 100000 in
theorem mX1_waiting (l : Launch) (D : va_G) (cB cI : ClassId) (Hh : Heap) {mb mh mw ms mu : Int → Int} {tm : Int} (h : Nat) (a : Nat → Nat) (hP : va_P D vwCl (wM h a cI mb mh mw ms tm mu) Hh) (hmw : rg 0 6 6 mw) (lk : Int) (ha : -2147483648 ≤ lk ∧ lk < 2147483648) : Met l yX1_waiting (ws_ yX1_waiting cX1_waiting 4 (some .int)) ({ frames := 1, cells := 0, slots := 0, locals := 21 }) (va_Pc [.ref h, .int (iI lk)] (fun U => U.heap = Hh ∧ va_K D vwCl (tX cB cI) U)) (va_Qi (fun (r : Int32) (_ : Unit) => r = iI (wtM mw lk)) (fun _ u => u.heap = Hh) (fun _ => False)) 0 0 (fun _ => False) := by
  refine Met.ofW (cc := cX1_waiting) (maxL := 4) (ret := (some .int)) (by decide) rfl ?_
  intro p e s m args below meth c s₁ B hml hv
  obtain ⟨rfl, hsz, hK⟩ := hv
  have hx := B.exec
  have hb := B.bytes
  have hr := B.returns
  have hts := atoms_spec (ws := ws_ yX1_waiting cX1_waiting 4 (some .int)) B.pre
  have hts : ∀ w ∈ lw_all, w.before _ s = true := fun w h => hts w (List.mem_cons_of_mem _ h)
  have hown : s.vm.findClass RX1 = some m.cls := findClass_of_methodNamed B.named
  have hlocks := B.notSynchronized
  subst hsz
  have hS : va_S (fun _ => False) s.heap s.heap [] := va_S.rf
  have hl := lv_entry ([.ref h, .int (iI lk)]) (n := 4) (Nat.le_of_ble_eq_true rfl)
  rw [lg_entry_eq]
  generalize (lg_sl ([.ref h, .int (iI lk)]) ++ List.replicate (4 - (lg_sl ([.ref h, .int (iI lk)])).length) Slot.unset).toArray = ls at hl ⊢
  have hl : lv_has ls 4 [(0, .ref h), (1, .int (iI lk))] := hl
  refine r_ic hx hb dX1_waiting_0 ?_
  refine lv_istore_n (lv' := [(2, .int (iI 0)), (0, .ref h), (1, .int (iI lk))]) hx hb dX1_waiting_1 rfl hl (by decide) rfl (fun ls hl => ?_)
  refine r_ic hx hb dX1_waiting_2 ?_
  refine lv_istore_n (lv' := [(3, .int (iI 0)), (2, .int (iI 0)), (0, .ref h), (1, .int (iI lk))]) hx hb dX1_waiting_3 rfl hl (by decide) rfl (fun ls hl => ?_)
  refine lq_waiting hx hb hml hown hts hK (Nat.le_of_ble_eq_true rfl) (Nat.le_of_ble_eq_true rfl) (Nat.zero_le _) (Nat.zero_le _) hP hmw ha (fun v locs ls hv hS hl => ?_) 6 0 0 [] ls rfl ⟨fun _ => rfl, fun _ => rfl⟩ (by omega) hS (lv_sub hl [2, 3, 1, 0] rfl)
  refine lv_iload_n hx hb dX1_waiting_44 rfl (lv_at hl 1 rfl) ?_
  exact W.iret (v := (iI v)) hx hb hr (fun u hu hW => ⟨⟨_, (), rfl, by rw [hv], hu⟩, hS.F hu⟩) hS.2.2 dX1_waiting_45
set_option maxHeartbeats 4000000 in
set_option maxRecDepth 100000 in
theorem lq_held (hx : p.tables.exec = Jvm.exec) (hb : c.code = cX1_held) (hml : c.maxLocals = 4) (hown : s.vm.findClass RX1 = some m.cls) (hts : ∀ w ∈ lw_all, w.before args s = true) (hK : va_K D vwCl (tX cB cI) s) (hRf : 1 ≤ R.frames) (hRl : 21 ≤ R.locals) (hRc : cells ≤ R.cells) (hRs : slots ≤ R.slots) (hP : va_P D vwCl (wM h a cI mb mh mw ms tm mu) H) (hmh : rg 0 7 5 mh) {t : Int} (ha : -2147483648 ≤ t ∧ t < 2147483648)
    (kk : ∀ (B : Int → Bool) (locs : List Loc) (ls : Array Slot), B = hdM mh t → va_S A H0 H locs → lv_has ls 4 [(0, .ref h), (2, .int (mk6 B))] → W p l e R s m args below meth c H locs cells slots Q (F0 m 45 ls [])) :
    ∀ (n k : Nat) (B : Int → Bool) (locs : List Loc) (ls : Array Slot), k + n = 5 → ((0 ≤ t ∧ t < 6 → B = it (hdT mh t) k b0) ∧ (¬ (0 ≤ t ∧ t < 6) → B = b0)) → va_S A H0 H locs → lv_has ls 4 [(0, .ref h), (1, .int (iI t)), (2, .int (mk6 B)), (3, .int (iI ((k : Int))))] → W p l e R s m args below meth c H locs cells slots Q (F0 m 4 ls []) := by
  intro n
  induction n with
  | zero =>
    intro k B locs ls hk hv hS hl
    refine lv_iload_n hx hb dX1_held_4 rfl (lv_at hl 3 rfl) ?_
    refine r_ic hx hb dX1_held_5 ?_
    refine r_ic_ge (tgt := 45) hx hb dX1_held_6 (by decide) (by omega) (by omega) (fun c6_1 => ?_) (fun c6_1 => by exfalso; omega)
    exact kk B locs ls (by obtain rfl : k = 5 := (by omega); unfold hdM; split; exact hv.1 (by assumption); exact hv.2 (by assumption)) hS (lv_sub hl [0, 2] rfl)
  | succ n ih =>
    intro k B locs ls hk hv hS hl
    refine lv_iload_n hx hb dX1_held_4 rfl (lv_at hl 3 rfl) ?_
    refine r_ic hx hb dX1_held_5 ?_
    refine r_ic_ge (tgt := 45) hx hb dX1_held_6 (by decide) (by omega) (by omega) (fun c6_1 => by exfalso; omega) (fun c6_1 => ?_)
    refine lv_aload_n hx hb dX1_held_9 rfl (lv_at hl 0 rfl) ?_
    refine lv_iload_n hx hb dX1_held_10 rfl (lv_at hl 1 rfl) ?_
    refine k_thread hx hb hml hown hts hK hP (by omega) hRf hRl hRc hRs hS hl.1 (Nat.le_of_ble_eq_true rfl) dX1_held_11 (fun locs hS => ?_)
    refine r_peq (P := 0 ≤ t ∧ t < 6) (tgt := 45) hx hb ite_10 dX1_held_14 (by decide) (fun c14_2 => ?_) (fun c14_2 => ?_)
    · exact kk B locs ls (by unfold hdM; rw [if_neg c14_2]; exact hv.2 c14_2) hS (lv_sub hl [0, 2] rfl)
    · refine lv_aload_n hx hb dX1_held_17 rfl (lv_at hl 0 rfl) ?_
      refine y_gh hx hb hown hts hK hP dX1_held_18 ?_
      refine lv_iload_n hx hb dX1_held_21 rfl (lv_at hl 3 rfl) ?_
      have z22_3 := hmh ((k : Int)) (by omega) (by omega)
      refine y_lh hx hb hK hP (by omega) dX1_held_22 ?_
      refine lv_iload_n hx hb dX1_held_23 rfl (lv_at hl 1 rfl) ?_
      refine r_ic hx hb dX1_held_24 ?_
      refine r_add hx hb dX1_held_25 ?_
      refine r_ic_ne (tgt := 37) hx hb dX1_held_26 (by decide) (by omega) (by omega) (fun c26_4 => ?_) (fun c26_4 => ?_)
      · refine lv_iload_n hx hb dX1_held_37 rfl (lv_at hl 2 rfl) ?_
        refine lv_istore_n (lv' := [(2, .int (mk6 B)), (0, .ref h), (1, .int (iI t)), (3, .int (iI ((k : Int))))]) hx hb dX1_held_38 rfl hl (by decide) rfl (fun ls hl => ?_)
        refine r_iinc (j := 3) (lv' := [(3, .int (iI (((k + 1 : Nat) : Int)))), (2, .int (mk6 B)), (0, .ref h), (1, .int (iI t))]) (b := ((k + 1 : Nat) : Int)) hx hb dX1_held_39 hl rfl (by omega) (by decide) rfl (fun ls hl => ?_)
        refine lv_goto (tgt := 4) hx hb dX1_held_42 (by decide) ?_
        exact ih (k + 1) B locs ls (by omega) ⟨fun _ => by rw [it1, ← hv.1 c14_2]; unfold hdT; split <;> first | rfl | (exfalso; omega), fun q => absurd c14_2 q⟩ hS (lv_sub hl [2, 3, 1, 0] rfl)
      · refine lv_iload_n hx hb dX1_held_29 rfl (lv_at hl 2 rfl) ?_
        refine r_ic hx hb dX1_held_30 ?_
        refine lv_iload_n hx hb dX1_held_31 rfl (lv_at hl 3 rfl) ?_
        refine r_shl hx hb dX1_held_32 ?_
        refine r_orb hx hb dX1_held_33 (by omega) ?_
        refine lv_goto (tgt := 38) hx hb dX1_held_34 (by decide) ?_
        refine lv_istore_n (lv' := [(2, .int (mk6 (bu B ((k : Int))))), (0, .ref h), (1, .int (iI t)), (3, .int (iI ((k : Int))))]) hx hb dX1_held_38 rfl hl (by decide) rfl (fun ls hl => ?_)
        refine r_iinc (j := 3) (lv' := [(3, .int (iI (((k + 1 : Nat) : Int)))), (2, .int (mk6 (bu B ((k : Int))))), (0, .ref h), (1, .int (iI t))]) (b := ((k + 1 : Nat) : Int)) hx hb dX1_held_39 hl rfl (by omega) (by decide) rfl (fun ls hl => ?_)
        refine lv_goto (tgt := 4) hx hb dX1_held_42 (by decide) ?_
        exact ih (k + 1) (bu B ((k : Int))) locs ls (by omega) ⟨fun _ => by rw [it1, ← hv.1 c14_2]; unfold hdT; split <;> first | rfl | (exfalso; omega), fun q => absurd c14_2 q⟩ hS (lv_sub hl [2, 3, 1, 0] rfl)
set_option maxHeartbeats 4000000 in
set_option maxRecDepth 100000 in
theorem mX1_held (l : Launch) (D : va_G) (cB cI : ClassId) (Hh : Heap) {mb mh mw ms mu : Int → Int} {tm : Int} (h : Nat) (a : Nat → Nat) (hP : va_P D vwCl (wM h a cI mb mh mw ms tm mu) Hh) (hmh : rg 0 7 5 mh) (t : Int) (ha : -2147483648 ≤ t ∧ t < 2147483648) : Met l yX1_held (ws_ yX1_held cX1_held 4 (some .int)) ({ frames := 1, cells := 0, slots := 0, locals := 21 }) (va_Pc [.ref h, .int (iI t)] (fun U => U.heap = Hh ∧ va_K D vwCl (tX cB cI) U)) (va_Qi (fun (r : Int32) (_ : Unit) => r = mk6 (hdM mh t)) (fun _ u => u.heap = Hh) (fun _ => False)) 0 0 (fun _ => False) := by
  refine Met.ofW (cc := cX1_held) (maxL := 4) (ret := (some .int)) (by decide) rfl ?_
  intro p e s m args below meth c s₁ B hml hv
  obtain ⟨rfl, hsz, hK⟩ := hv
  have hx := B.exec
  have hb := B.bytes
  have hr := B.returns
  have hts := atoms_spec (ws := ws_ yX1_held cX1_held 4 (some .int)) B.pre
  have hts : ∀ w ∈ lw_all, w.before _ s = true := fun w h => hts w (List.mem_cons_of_mem _ h)
  have hown : s.vm.findClass RX1 = some m.cls := findClass_of_methodNamed B.named
  have hlocks := B.notSynchronized
  subst hsz
  have hS : va_S (fun _ => False) s.heap s.heap [] := va_S.rf
  have hl := lv_entry ([.ref h, .int (iI t)]) (n := 4) (Nat.le_of_ble_eq_true rfl)
  rw [lg_entry_eq]
  generalize (lg_sl ([.ref h, .int (iI t)]) ++ List.replicate (4 - (lg_sl ([.ref h, .int (iI t)])).length) Slot.unset).toArray = ls at hl ⊢
  have hl : lv_has ls 4 [(0, .ref h), (1, .int (iI t))] := hl
  refine r_icm hx hb dX1_held_0 ?_
  refine lv_istore_n (lv' := [(2, .int (mk6 b0)), (0, .ref h), (1, .int (iI t))]) hx hb dX1_held_1 rfl hl (by decide) rfl (fun ls hl => ?_)
  refine r_ic hx hb dX1_held_2 ?_
  refine lv_istore_n (lv' := [(3, .int (iI 0)), (2, .int (mk6 b0)), (0, .ref h), (1, .int (iI t))]) hx hb dX1_held_3 rfl hl (by decide) rfl (fun ls hl => ?_)
  refine lq_held hx hb hml hown hts hK (Nat.le_of_ble_eq_true rfl) (Nat.le_of_ble_eq_true rfl) (Nat.zero_le _) (Nat.zero_le _) hP hmh ha (fun B locs ls hv hS hl => ?_) 5 0 b0 [] ls rfl ⟨fun _ => rfl, fun _ => rfl⟩ hS (lv_sub hl [2, 3, 1, 0] rfl)
  refine lv_iload_n hx hb dX1_held_45 rfl (lv_at hl 1 rfl) ?_
  exact W.iret (v := (mk6 B)) hx hb hr (fun u hu hW => ⟨⟨_, (), rfl, by rw [hv], hu⟩, hS.F hu⟩) hS.2.2 dX1_held_46
set_option maxHeartbeats 4000000 in
set_option maxRecDepth 100000 in
theorem lq_nextFor (hx : p.tables.exec = Jvm.exec) (hb : c.code = cX1_nextFor) (hml : c.maxLocals = 5) (hown : s.vm.findClass RX1 = some m.cls) (hts : ∀ w ∈ lw_all, w.before args s = true) (hK : va_K D vwCl (tX cB cI) s) (hRf : 1 ≤ R.frames) (hRl : 21 ≤ R.locals) (hRc : cells ≤ R.cells) (hRs : slots ≤ R.slots) (hP : va_P D vwCl (wM h a cI mb mh mw ms tm mu) H) (hmu : rg 0 10 6 mu) (hmw : rg 0 6 6 mw) (hms : rg 0 1000000 6 ms) {lk : Int} (ha : -2147483648 ≤ lk ∧ lk < 2147483648)
    (kk : ∀ (v : Int) (locs : List Loc) (ls : Array Slot), v = (if 0 ≤ lk ∧ lk < 5 then it (bwM mu mw ms lk) 6 (-1) else -1) → va_S A H0 H locs → lv_has ls 5 [(0, .ref h), (2, .int (iI v))] → W p l e R s m args below meth c H locs cells slots Q (F0 m 107 ls [])) :
    ∀ (n k : Nat) (v : Int) (locs : List Loc) (ls : Array Slot), k + n = 6 → ((0 ≤ lk ∧ lk < 5 → v = it (bwM mu mw ms lk) k (-1)) ∧ (¬ (0 ≤ lk ∧ lk < 5) → v = (-1))) → (-1 ≤ v ∧ v < 6) → va_S A H0 H locs → lv_has ls 5 [(0, .ref h), (1, .int (iI lk)), (2, .int (iI v)), (3, .int (iI ((k : Int))))] → W p l e R s m args below meth c H locs cells slots Q (F0 m 8 ls []) := by
  intro n
  induction n with
  | zero =>
    intro k v locs ls hk hv hr hS hl
    refine lv_iload_n hx hb dX1_nextFor_8 rfl (lv_at hl 3 rfl) ?_
    refine r_bp hx hb dX1_nextFor_9 (by decide +kernel) ?_
    refine r_ic_ge (tgt := 107) hx hb dX1_nextFor_11 (by decide) (by omega) (by omega) (fun c11_1 => ?_) (fun c11_1 => by exfalso; omega)
    exact kk v locs ls (by obtain rfl : k = 6 := (by omega); split; exact hv.1 (by assumption); exact hv.2 (by assumption)) hS (lv_sub hl [0, 2] rfl)
  | succ n ih =>
    intro k v locs ls hk hv hr hS hl
    refine lv_iload_n hx hb dX1_nextFor_8 rfl (lv_at hl 3 rfl) ?_
    refine r_bp hx hb dX1_nextFor_9 (by decide +kernel) ?_
    refine r_ic_ge (tgt := 107) hx hb dX1_nextFor_11 (by decide) (by omega) (by omega) (fun c11_1 => by exfalso; omega) (fun c11_1 => ?_)
    refine lv_aload_n hx hb dX1_nextFor_14 rfl (lv_at hl 0 rfl) ?_
    refine lv_iload_n hx hb dX1_nextFor_15 rfl (lv_at hl 1 rfl) ?_
    refine k_lock hx hb hml hown hts hK hP (by omega) hRf hRl hRc hRs hS hl.1 (Nat.le_of_ble_eq_true rfl) dX1_nextFor_16 (fun locs hS => ?_)
    refine r_peq (P := 0 ≤ lk ∧ lk < 5) (tgt := 107) hx hb ite_10 dX1_nextFor_19 (by decide) (fun c19_2 => ?_) (fun c19_2 => ?_)
    · exact kk v locs ls (by rw [if_neg c19_2]; exact hv.2 c19_2) hS (lv_sub hl [0, 2] rfl)
    · refine lv_aload_n hx hb dX1_nextFor_22 rfl (lv_at hl 0 rfl) ?_
      refine y_gw hx hb hown hts hK hP dX1_nextFor_23 ?_
      refine lv_iload_n hx hb dX1_nextFor_26 rfl (lv_at hl 3 rfl) ?_
      have z27_3 := hmw ((k : Int)) (by omega) (by omega)
      refine y_lw hx hb hK hP (by omega) dX1_nextFor_27 ?_
      refine lv_iload_n hx hb dX1_nextFor_28 rfl (lv_at hl 1 rfl) ?_
      refine r_ic hx hb dX1_nextFor_29 ?_
      refine r_add hx hb dX1_nextFor_30 ?_
      refine r_ic_ne (tgt := 101) hx hb dX1_nextFor_31 (by decide) (by omega) (by omega) (fun c31_4 => ?_) (fun c31_4 => ?_)
      · refine r_iinc (j := 3) (lv' := [(3, .int (iI (((k + 1 : Nat) : Int)))), (0, .ref h), (1, .int (iI lk)), (2, .int (iI v))]) (b := ((k + 1 : Nat) : Int)) hx hb dX1_nextFor_101 hl rfl (by omega) (by decide) rfl (fun ls hl => ?_)
        refine lv_goto (tgt := 8) hx hb dX1_nextFor_104 (by decide) ?_
        exact ih (k + 1) v locs ls (by omega) ⟨fun _ => by rw [it1, ← hv.1 c19_2]; unfold bwM; split <;> omega, fun q => absurd c19_2 q⟩ (by omega) hS (lv_sub hl [1, 2, 3, 0] rfl)
      · refine lv_iload_n hx hb dX1_nextFor_34 rfl (lv_at hl 2 rfl) ?_
        refine r_if_lt (tgt := 83) hx hb dX1_nextFor_35 (by decide) (by omega) (fun c35_5 => ?_) (fun c35_5 => ?_)
        · refine r_ic hx hb dX1_nextFor_83 ?_
          refine lv_goto (tgt := 88) hx hb dX1_nextFor_84 (by decide) ?_
          refine lv_istore (lv' := [(4, .int (iI 1)), (0, .ref h), (1, .int (iI lk)), (2, .int (iI v)), (3, .int (iI ((k : Int))))]) hx hb dX1_nextFor_88 hl (by decide) rfl (fun ls hl => ?_)
          refine lv_iload hx hb dX1_nextFor_90 (lv_at hl 0 rfl) ?_
          refine r_if_eq (tgt := 99) hx hb dX1_nextFor_92 (by decide) (by omega) (fun c92_6 => by exfalso; omega) (fun c92_6 => ?_)
          refine lv_iload_n hx hb dX1_nextFor_95 rfl (lv_at hl 4 rfl) ?_
          refine lv_goto (tgt := 100) hx hb dX1_nextFor_96 (by decide) ?_
          refine lv_istore_n (lv' := [(2, .int (iI ((k : Int)))), (4, .int (iI 1)), (0, .ref h), (1, .int (iI lk)), (3, .int (iI ((k : Int))))]) hx hb dX1_nextFor_100 rfl hl (by decide) rfl (fun ls hl => ?_)
          refine r_iinc (j := 4) (lv' := [(3, .int (iI (((k + 1 : Nat) : Int)))), (2, .int (iI ((k : Int)))), (4, .int (iI 1)), (0, .ref h), (1, .int (iI lk))]) (b := ((k + 1 : Nat) : Int)) hx hb dX1_nextFor_101 hl rfl (by omega) (by decide) rfl (fun ls hl => ?_)
          refine lv_goto (tgt := 8) hx hb dX1_nextFor_104 (by decide) ?_
          exact ih (k + 1) ((k : Int)) locs ls (by omega) ⟨fun _ => by rw [it1, ← hv.1 c19_2]; unfold bwM; split <;> omega, fun q => absurd c19_2 q⟩ (by omega) hS (lv_sub hl [3, 4, 1, 0] rfl)
        · refine lv_aload_n hx hb dX1_nextFor_38 rfl (lv_at hl 0 rfl) ?_
          refine y_gu hx hb hown hts hK hP dX1_nextFor_39 ?_
          refine lv_iload_n hx hb dX1_nextFor_42 rfl (lv_at hl 3 rfl) ?_
          have z43_6 := hmu ((k : Int)) (by omega) (by omega)
          refine y_lu hx hb hK hP (by omega) dX1_nextFor_43 ?_
          refine lv_aload_n hx hb dX1_nextFor_44 rfl (lv_at hl 0 rfl) ?_
          refine y_gu hx hb hown hts hK hP dX1_nextFor_45 ?_
          refine lv_iload_n hx hb dX1_nextFor_48 rfl (lv_at hl 2 rfl) ?_
          have z49_7 := hmu v (by omega) (by omega)
          refine y_lu hx hb hK hP (by omega) dX1_nextFor_49 ?_
          refine r_ic_gt (tgt := 83) hx hb dX1_nextFor_50 (by decide) (by omega) (by omega) (fun c50_8 => ?_) (fun c50_8 => ?_)
          · refine r_ic hx hb dX1_nextFor_83 ?_
            refine lv_goto (tgt := 88) hx hb dX1_nextFor_84 (by decide) ?_
            refine lv_istore (lv' := [(4, .int (iI 1)), (0, .ref h), (1, .int (iI lk)), (2, .int (iI v)), (3, .int (iI ((k : Int))))]) hx hb dX1_nextFor_88 hl (by decide) rfl (fun ls hl => ?_)
            refine lv_iload hx hb dX1_nextFor_90 (lv_at hl 0 rfl) ?_
            refine r_if_eq (tgt := 99) hx hb dX1_nextFor_92 (by decide) (by omega) (fun c92_9 => by exfalso; omega) (fun c92_9 => ?_)
            refine lv_iload_n hx hb dX1_nextFor_95 rfl (lv_at hl 4 rfl) ?_
            refine lv_goto (tgt := 100) hx hb dX1_nextFor_96 (by decide) ?_
            refine lv_istore_n (lv' := [(2, .int (iI ((k : Int)))), (4, .int (iI 1)), (0, .ref h), (1, .int (iI lk)), (3, .int (iI ((k : Int))))]) hx hb dX1_nextFor_100 rfl hl (by decide) rfl (fun ls hl => ?_)
            refine r_iinc (j := 4) (lv' := [(3, .int (iI (((k + 1 : Nat) : Int)))), (2, .int (iI ((k : Int)))), (4, .int (iI 1)), (0, .ref h), (1, .int (iI lk))]) (b := ((k + 1 : Nat) : Int)) hx hb dX1_nextFor_101 hl rfl (by omega) (by decide) rfl (fun ls hl => ?_)
            refine lv_goto (tgt := 8) hx hb dX1_nextFor_104 (by decide) ?_
            exact ih (k + 1) ((k : Int)) locs ls (by omega) ⟨fun _ => by rw [it1, ← hv.1 c19_2]; unfold bwM; split <;> omega, fun q => absurd c19_2 q⟩ (by omega) hS (lv_sub hl [3, 4, 1, 0] rfl)
          · refine lv_aload_n hx hb dX1_nextFor_53 rfl (lv_at hl 0 rfl) ?_
            refine y_gu hx hb hown hts hK hP dX1_nextFor_54 ?_
            refine lv_iload_n hx hb dX1_nextFor_57 rfl (lv_at hl 3 rfl) ?_
            refine y_lu hx hb hK hP (by omega) dX1_nextFor_58 ?_
            refine lv_aload_n hx hb dX1_nextFor_59 rfl (lv_at hl 0 rfl) ?_
            refine y_gu hx hb hown hts hK hP dX1_nextFor_60 ?_
            refine lv_iload_n hx hb dX1_nextFor_63 rfl (lv_at hl 2 rfl) ?_
            refine y_lu hx hb hK hP (by omega) dX1_nextFor_64 ?_
            refine r_ic_ne (tgt := 87) hx hb dX1_nextFor_65 (by decide) (by omega) (by omega) (fun c65_9 => ?_) (fun c65_9 => ?_)
            · refine r_ic hx hb dX1_nextFor_87 ?_
              refine lv_istore (lv' := [(4, .int (iI 0)), (0, .ref h), (1, .int (iI lk)), (2, .int (iI v)), (3, .int (iI ((k : Int))))]) hx hb dX1_nextFor_88 hl (by decide) rfl (fun ls hl => ?_)
              refine lv_iload hx hb dX1_nextFor_90 (lv_at hl 0 rfl) ?_
              refine r_if_eq (tgt := 99) hx hb dX1_nextFor_92 (by decide) (by omega) (fun c92_10 => ?_) (fun c92_10 => by exfalso; omega)
              refine lv_iload_n hx hb dX1_nextFor_99 rfl (lv_at hl 3 rfl) ?_
              refine lv_istore_n (lv' := [(2, .int (iI v)), (4, .int (iI 0)), (0, .ref h), (1, .int (iI lk)), (3, .int (iI ((k : Int))))]) hx hb dX1_nextFor_100 rfl hl (by decide) rfl (fun ls hl => ?_)
              refine r_iinc (j := 4) (lv' := [(3, .int (iI (((k + 1 : Nat) : Int)))), (2, .int (iI v)), (4, .int (iI 0)), (0, .ref h), (1, .int (iI lk))]) (b := ((k + 1 : Nat) : Int)) hx hb dX1_nextFor_101 hl rfl (by omega) (by decide) rfl (fun ls hl => ?_)
              refine lv_goto (tgt := 8) hx hb dX1_nextFor_104 (by decide) ?_
              exact ih (k + 1) v locs ls (by omega) ⟨fun _ => by rw [it1, ← hv.1 c19_2]; unfold bwM; split <;> omega, fun q => absurd c19_2 q⟩ (by omega) hS (lv_sub hl [3, 4, 1, 0] rfl)
            · refine lv_aload_n hx hb dX1_nextFor_68 rfl (lv_at hl 0 rfl) ?_
              refine y_gs hx hb hown hts hK hP dX1_nextFor_69 ?_
              refine lv_iload_n hx hb dX1_nextFor_72 rfl (lv_at hl 3 rfl) ?_
              have z73_10 := hms ((k : Int)) (by omega) (by omega)
              refine y_ls hx hb hK hP (by omega) dX1_nextFor_73 ?_
              refine lv_aload_n hx hb dX1_nextFor_74 rfl (lv_at hl 0 rfl) ?_
              refine y_gs hx hb hown hts hK hP dX1_nextFor_75 ?_
              refine lv_iload_n hx hb dX1_nextFor_78 rfl (lv_at hl 2 rfl) ?_
              have z79_11 := hms v (by omega) (by omega)
              refine y_ls hx hb hK hP (by omega) dX1_nextFor_79 ?_
              refine r_ic_ge (tgt := 87) hx hb dX1_nextFor_80 (by decide) (by omega) (by omega) (fun c80_12 => ?_) (fun c80_12 => ?_)
              · refine r_ic hx hb dX1_nextFor_87 ?_
                refine lv_istore (lv' := [(4, .int (iI 0)), (0, .ref h), (1, .int (iI lk)), (2, .int (iI v)), (3, .int (iI ((k : Int))))]) hx hb dX1_nextFor_88 hl (by decide) rfl (fun ls hl => ?_)
                refine lv_iload hx hb dX1_nextFor_90 (lv_at hl 0 rfl) ?_
                refine r_if_eq (tgt := 99) hx hb dX1_nextFor_92 (by decide) (by omega) (fun c92_13 => ?_) (fun c92_13 => by exfalso; omega)
                refine lv_iload_n hx hb dX1_nextFor_99 rfl (lv_at hl 3 rfl) ?_
                refine lv_istore_n (lv' := [(2, .int (iI v)), (4, .int (iI 0)), (0, .ref h), (1, .int (iI lk)), (3, .int (iI ((k : Int))))]) hx hb dX1_nextFor_100 rfl hl (by decide) rfl (fun ls hl => ?_)
                refine r_iinc (j := 4) (lv' := [(3, .int (iI (((k + 1 : Nat) : Int)))), (2, .int (iI v)), (4, .int (iI 0)), (0, .ref h), (1, .int (iI lk))]) (b := ((k + 1 : Nat) : Int)) hx hb dX1_nextFor_101 hl rfl (by omega) (by decide) rfl (fun ls hl => ?_)
                refine lv_goto (tgt := 8) hx hb dX1_nextFor_104 (by decide) ?_
                exact ih (k + 1) v locs ls (by omega) ⟨fun _ => by rw [it1, ← hv.1 c19_2]; unfold bwM; split <;> omega, fun q => absurd c19_2 q⟩ (by omega) hS (lv_sub hl [3, 4, 1, 0] rfl)
              · refine r_ic hx hb dX1_nextFor_83 ?_
                refine lv_goto (tgt := 88) hx hb dX1_nextFor_84 (by decide) ?_
                refine lv_istore (lv' := [(4, .int (iI 1)), (0, .ref h), (1, .int (iI lk)), (2, .int (iI v)), (3, .int (iI ((k : Int))))]) hx hb dX1_nextFor_88 hl (by decide) rfl (fun ls hl => ?_)
                refine lv_iload hx hb dX1_nextFor_90 (lv_at hl 0 rfl) ?_
                refine r_if_eq (tgt := 99) hx hb dX1_nextFor_92 (by decide) (by omega) (fun c92_13 => by exfalso; omega) (fun c92_13 => ?_)
                refine lv_iload_n hx hb dX1_nextFor_95 rfl (lv_at hl 4 rfl) ?_
                refine lv_goto (tgt := 100) hx hb dX1_nextFor_96 (by decide) ?_
                refine lv_istore_n (lv' := [(2, .int (iI ((k : Int)))), (4, .int (iI 1)), (0, .ref h), (1, .int (iI lk)), (3, .int (iI ((k : Int))))]) hx hb dX1_nextFor_100 rfl hl (by decide) rfl (fun ls hl => ?_)
                refine r_iinc (j := 4) (lv' := [(3, .int (iI (((k + 1 : Nat) : Int)))), (2, .int (iI ((k : Int)))), (4, .int (iI 1)), (0, .ref h), (1, .int (iI lk))]) (b := ((k + 1 : Nat) : Int)) hx hb dX1_nextFor_101 hl rfl (by omega) (by decide) rfl (fun ls hl => ?_)
                refine lv_goto (tgt := 8) hx hb dX1_nextFor_104 (by decide) ?_
                exact ih (k + 1) ((k : Int)) locs ls (by omega) ⟨fun _ => by rw [it1, ← hv.1 c19_2]; unfold bwM; split <;> omega, fun q => absurd c19_2 q⟩ (by omega) hS (lv_sub hl [3, 4, 1, 0] rfl)
set_option maxHeartbeats 4000000 in
set_option maxRecDepth 100000 in
theorem mX1_urgency (l : Launch) (D : va_G) (h : Nat) (a : Nat → Nat) (cB cI : ClassId) (sz : Nat) (mb mh mw ms : Int → Int) (tm : Int) (mu : Int → Int) (hmb : rg 0 10 6 mb) (hmh : rg 0 7 5 mh) (hmw : rg 0 6 6 mw) (t : Int) (ht : -2147483648 ≤ t ∧ t < 2147483648) : Met l yX1_urgency (ws_ yX1_urgency cX1_urgency 2 (some .int)) ({ frames := 1, cells := 0, slots := 0, locals := 23 }) (va_Pc [.ref h, .int (iI t)] (fun U => U.heap.size = sz ∧ va_P D vwCl (wM h a cI mb mh mw ms tm mu) U.heap ∧ va_K D vwCl (tX cB cI) U ∧ va_D (fun _ => True) (wM h a cI mb mh mw ms tm mu))) (va_Qi (fun (r : Int32) (u : PM) => r = iI (urM (ldG mb mh mw mu) t) ∧ u = (mb, mh, mw, ms, tm, ldG mb mh mw mu)) (bM D (va_A (wM h a cI mb mh mw ms tm mu) sz) h a cB cI) (va_A (wM h a cI mb mh mw ms tm mu) sz)) 0 0 (va_A (wM h a cI mb mh mw ms tm mu) sz) := by
  refine Met.ofW (cc := cX1_urgency) (maxL := 2) (ret := (some .int)) (by decide) rfl ?_
  intro p e s m args below meth c s₁ B hml hv
  obtain ⟨rfl, hsz, hP, hK, hD0⟩ := hv
  have hx := B.exec
  have hb := B.bytes
  have hr := B.returns
  have hts := atoms_spec (ws := ws_ yX1_urgency cX1_urgency 2 (some .int)) B.pre
  have hts : ∀ w ∈ lw_all, w.before _ s = true := fun w h => hts w (List.mem_cons_of_mem _ h)
  have hown : s.vm.findClass RX1 = some m.cls := findClass_of_methodNamed B.named
  have hlocks := B.notSynchronized
  subst hsz
  have hD := hD0.self (sz := s.heap.size)
  generalize hAe : va_A (wM h a cI mb mh mw ms tm mu) s.heap.size = A at hD ⊢
  have hA : ∀ q : Nat, s.heap.size ≤ q → A q := fun q h => by rw [← hAe]; exact Or.inr h
  have hS : va_S A s.heap s.heap [] := va_S.rf
  have hl := lv_entry ([.ref h, .int (iI t)]) (n := 2) (Nat.le_of_ble_eq_true rfl)
  rw [lg_entry_eq]
  generalize (lg_sl ([.ref h, .int (iI t)]) ++ List.replicate (2 - (lg_sl ([.ref h, .int (iI t)])).length) Slot.unset).toArray = ls at hl ⊢
  have hl : lv_has ls 2 [(0, .ref h), (1, .int (iI t))] := hl
  refine lv_aload_n hx hb dX1_urgency_0 rfl (lv_at hl 0 rfl) ?_
  refine k_lend hx hb hml hown hts hK hP hD hA hmb hmh hmw (Nat.le_of_ble_eq_true rfl) (Nat.le_of_ble_eq_true rfl) (Nat.zero_le _) (Nat.zero_le _) hS hl.1 (Nat.le_of_ble_eq_true rfl) dX1_urgency_1 (fun H locs hP hD hS => ?_)
  have hmu : rg 0 10 6 (ldG mb mh mw mu) := ldG_rg hmb
  refine lv_aload_n hx hb dX1_urgency_4 rfl (lv_at hl 0 rfl) ?_
  refine lv_iload_n hx hb dX1_urgency_5 rfl (lv_at hl 1 rfl) ?_
  refine k_thread hx hb hml hown hts hK hP (by omega) (Nat.le_of_ble_eq_true rfl) (Nat.le_of_ble_eq_true rfl) (Nat.zero_le _) (Nat.zero_le _) hS hl.1 (Nat.le_of_ble_eq_true rfl) dX1_urgency_6 (fun locs hS => ?_)
  refine r_peq (P := 0 ≤ t ∧ t < 6) (tgt := 21) hx hb ite_10 dX1_urgency_9 (by decide) (fun c9_1 => ?_) (fun c9_1 => ?_)
  · refine r_ic hx hb dX1_urgency_21 ?_
    exact W.iret (v := (iI (-1))) hx hb hr (fun u hu hW => ⟨⟨_, (mb, mh, mw, ms, tm, ldG mb mh mw mu), rfl, ⟨by unfold urM; rw [if_neg c9_1], rfl⟩, by rw [hu]; exact hP, va_K.moved hW.alike hK, hD⟩, hS.F hu⟩) hS.2.2 dX1_urgency_22
  · refine lv_aload_n hx hb dX1_urgency_12 rfl (lv_at hl 0 rfl) ?_
    refine y_gu hx hb hown hts hK hP dX1_urgency_13 ?_
    refine lv_iload_n hx hb dX1_urgency_16 rfl (lv_at hl 1 rfl) ?_
    have z17_2 := hmu t (by omega) (by omega)
    refine y_lu hx hb hK hP (by omega) dX1_urgency_17 ?_
    refine lv_goto (tgt := 22) hx hb dX1_urgency_18 (by decide) ?_
    exact W.iret (v := (iI ((ldG mb mh mw mu) t))) hx hb hr (fun u hu hW => ⟨⟨_, (mb, mh, mw, ms, tm, ldG mb mh mw mu), rfl, ⟨by unfold urM; rw [if_pos c9_1], rfl⟩, by rw [hu]; exact hP, va_K.moved hW.alike hK, hD⟩, hS.F hu⟩) hS.2.2 dX1_urgency_22
set_option maxHeartbeats 4000000 in
set_option maxRecDepth 100000 in
theorem mX1_nextFor (l : Launch) (D : va_G) (h : Nat) (a : Nat → Nat) (cB cI : ClassId) (sz : Nat) (mb mh mw ms : Int → Int) (tm : Int) (mu : Int → Int) (hmb : rg 0 10 6 mb) (hmh : rg 0 7 5 mh) (hmw : rg 0 6 6 mw) (hms : rg 0 1000000 6 ms) (lk : Int) (ha : -2147483648 ≤ lk ∧ lk < 2147483648) : Met l yX1_nextFor (ws_ yX1_nextFor cX1_nextFor 5 (some .int)) ({ frames := 1, cells := 0, slots := 0, locals := 23 }) (va_Pc [.ref h, .int (iI lk)] (fun U => U.heap.size = sz ∧ va_P D vwCl (wM h a cI mb mh mw ms tm mu) U.heap ∧ va_K D vwCl (tX cB cI) U ∧ va_D (fun _ => True) (wM h a cI mb mh mw ms tm mu))) (va_Qi (fun (r : Int32) (u : PM) => r = iI (nfM mb mh mw ms mu lk) ∧ u = (mb, mh, mw, ms, tm, ldG mb mh mw mu)) (bM D (va_A (wM h a cI mb mh mw ms tm mu) sz) h a cB cI) (va_A (wM h a cI mb mh mw ms tm mu) sz)) 0 0 (va_A (wM h a cI mb mh mw ms tm mu) sz) := by
  refine Met.ofW (cc := cX1_nextFor) (maxL := 5) (ret := (some .int)) (by decide) rfl ?_
  intro p e s m args below meth c s₁ B hml hv
  obtain ⟨rfl, hsz, hP, hK, hD0⟩ := hv
  have hx := B.exec
  have hb := B.bytes
  have hr := B.returns
  have hts := atoms_spec (ws := ws_ yX1_nextFor cX1_nextFor 5 (some .int)) B.pre
  have hts : ∀ w ∈ lw_all, w.before _ s = true := fun w h => hts w (List.mem_cons_of_mem _ h)
  have hown : s.vm.findClass RX1 = some m.cls := findClass_of_methodNamed B.named
  have hlocks := B.notSynchronized
  subst hsz
  have hD := hD0.self (sz := s.heap.size)
  generalize hAe : va_A (wM h a cI mb mh mw ms tm mu) s.heap.size = A at hD ⊢
  have hA : ∀ q : Nat, s.heap.size ≤ q → A q := fun q h => by rw [← hAe]; exact Or.inr h
  have hS : va_S A s.heap s.heap [] := va_S.rf
  have hl := lv_entry ([.ref h, .int (iI lk)]) (n := 5) (Nat.le_of_ble_eq_true rfl)
  rw [lg_entry_eq]
  generalize (lg_sl ([.ref h, .int (iI lk)]) ++ List.replicate (5 - (lg_sl ([.ref h, .int (iI lk)])).length) Slot.unset).toArray = ls at hl ⊢
  have hl : lv_has ls 5 [(0, .ref h), (1, .int (iI lk))] := hl
  refine lv_aload_n hx hb dX1_nextFor_0 rfl (lv_at hl 0 rfl) ?_
  refine k_lend hx hb hml hown hts hK hP hD hA hmb hmh hmw (Nat.le_of_ble_eq_true rfl) (Nat.le_of_ble_eq_true rfl) (Nat.zero_le _) (Nat.zero_le _) hS hl.1 (Nat.le_of_ble_eq_true rfl) dX1_nextFor_1 (fun H locs hP hD hS => ?_)
  have hmu : rg 0 10 6 (ldG mb mh mw mu) := ldG_rg hmb
  refine r_ic hx hb dX1_nextFor_4 ?_
  refine lv_istore_n (lv' := [(2, .int (iI (-1))), (0, .ref h), (1, .int (iI lk))]) hx hb dX1_nextFor_5 rfl hl (by decide) rfl (fun ls hl => ?_)
  refine r_ic hx hb dX1_nextFor_6 ?_
  refine lv_istore_n (lv' := [(3, .int (iI 0)), (2, .int (iI (-1))), (0, .ref h), (1, .int (iI lk))]) hx hb dX1_nextFor_7 rfl hl (by decide) rfl (fun ls hl => ?_)
  refine lq_nextFor hx hb hml hown hts hK (Nat.le_of_ble_eq_true rfl) (Nat.le_of_ble_eq_true rfl) (Nat.zero_le _) (Nat.zero_le _) hP hmu hmw hms ha (fun v locs ls hv hS hl => ?_) 6 0 (-1) locs ls rfl ⟨fun _ => rfl, fun _ => rfl⟩ (by omega) hS (lv_sub hl [2, 3, 1, 0] rfl)
  refine lv_iload_n hx hb dX1_nextFor_107 rfl (lv_at hl 1 rfl) ?_
  exact W.iret (v := (iI v)) hx hb hr (fun u hu hW => ⟨⟨_, (mb, mh, mw, ms, tm, ldG mb mh mw mu), rfl, ⟨by rw [hv]; rfl, rfl⟩, by rw [hu]; exact hP, va_K.moved hW.alike hK, hD⟩, hS.F hu⟩) hS.2.2 dX1_nextFor_108
set_option maxHeartbeats 4000000 in
set_option maxRecDepth 100000 in
theorem k_nextFor (hx : p.tables.exec = Jvm.exec) (hb : c.code = cc) (hml : c.maxLocals = nL) (hown : s.vm.findClass RX1 = some m.cls) (hts : ∀ w ∈ lw_all, w.before args s = true) (hK : va_K D vwCl (tX cB cI) s) (hP : va_P D vwCl (wM h a cI mb mh mw ms tm mu) H) (hD : va_D A (wM h a cI mb mh mw ms tm mu)) (hA : ∀ q : Nat, H0.size ≤ q → A q) (hmb : rg 0 10 6 mb) (hmh : rg 0 7 5 mh) (hmw : rg 0 6 6 mw) (hms : rg 0 1000000 6 ms) {lk : Int} (ha : -2147483648 ≤ lk ∧ lk < 2147483648) (hRf : 2 ≤ R.frames) (hRl : 47 ≤ R.locals) (hRc : cells ≤ R.cells) (hRs : slots ≤ R.slots) (hS : va_S A H0 H locs) (hsz : ls.size = nL) (hroom : (rest.map fun v => v.category).sum ≤ 8) (hdg : decode cc pc = .ok (.invokevirtual 40, 3)) (k : ∀ (H1 : Heap) (locs1 : List Loc), va_P D vwCl (wM h a cI mb mh mw ms tm (ldG mb mh mw mu)) H1 → va_D A (wM h a cI mb mh mw ms tm (ldG mb mh mw mu)) → va_S A H0 H1 locs1 → W p l e R s m args below meth c H1 locs1 cells slots Q (F0 m (pc + 3) ls (.int (iI (nfM mb mh mw ms mu lk)) :: rest))) : W p l e R s m args below meth c H locs cells slots Q (F0 m pc ls (.int (iI lk) :: .ref h :: rest)) := by
  have hFc := va_free (wc := (wM h a cI mb mh mw ms tm mu)) hD hS hA [0, 1, 2, 3, 4, 5] rfl
  refine va_calli (va_runV (As := [.int (iI lk)]) (rest := rest) ⟨hx, hb, hml, hown, hts⟩ (mX1_nextFor l D h a cB cI H.size mb mh mw ms tm mu hmb hmh hmw hms lk ha) (cwV 1 hts (lw_V q163 q164 q165 q10 q166) rfl rfl rfl (by decide +kernel) ⟨hRf, hRl⟩) ⟨fun a U g mk q => ?_, va_recv hK hP (ci := 1) (q0 := 0) rfl rfl, fun U hU hW => ⟨rfl, by rw [hU], by rw [hU]; exact hP, va_K.moved hW.alike hK, hD.weaken (fun _ _ _ _ => trivial)⟩⟩ rfl rfl hsz rfl (lv_room hroom) hdg ⟨hRc, hRs⟩) hS (fun q _ h => hFc q h) hFc (fun r u t1 H1 locs1 ht1 hvm hw hB hz1 hk1 hS1 => ?_)
  · obtain ⟨q0, q1, qP, qK, qD⟩ := q
    exact ⟨q0, q1, qP, va_K.moved (u := U) (U := U.calling g mk a) (Vm.Alike.refl U.vm) qK, qD⟩
  · obtain ⟨hP1, hK1, hD1⟩ := hB
    have hw1 : r = (iI (nfM mb mh mw ms mu lk)) := hw.1
    have hw : u = (mb, mh, mw, ms, tm, (ldG mb mh mw mu)) := hw.2
    subst hw
    subst hw1
    rw [ht1] at hP1
    exact k H1 locs1 hP1 (hD1.weaken (fun _ q _ h => hFc q.1 h)) hS1
set_option maxHeartbeats 4000000 in
set_option maxRecDepth 100000 in
theorem lq_running (hx : p.tables.exec = Jvm.exec) (hb : c.code = cX1_running) (hml : c.maxLocals = 3) (hown : s.vm.findClass RX1 = some m.cls) (hts : ∀ w ∈ lw_all, w.before args s = true) (hK : va_K D vwCl (tX cB cI) s) (hP : va_P D vwCl (wM h a cI mb mh mw ms tm mu) H) (hmu : rg 0 10 6 mu) (hmw : rg 0 6 6 mw)
    (kk : ∀ (v : Int) (ls : Array Slot), v = rnM mu mw → lv_has ls 3 [(0, .ref h), (1, .int (iI v))] → W p l e R s m args below meth c H locs cells slots Q (F0 m 54 ls [])) :
    ∀ (n k : Nat) (v : Int) (ls : Array Slot), k + n = 6 → v = it (rnT mu mw) k (-1) → (-1 ≤ v ∧ v < 6) → lv_has ls 3 [(0, .ref h), (1, .int (iI v)), (2, .int (iI ((k : Int))))] → W p l e R s m args below meth c H locs cells slots Q (F0 m 8 ls []) := by
  intro n
  induction n with
  | zero =>
    intro k v ls hk hv hr hl
    refine lv_iload_n hx hb dX1_running_8 rfl (lv_at hl 2 rfl) ?_
    refine r_bp hx hb dX1_running_9 (by decide +kernel) ?_
    refine r_ic_ge (tgt := 54) hx hb dX1_running_11 (by decide) (by omega) (by omega) (fun c11_1 => ?_) (fun c11_1 => by exfalso; omega)
    exact kk v ls (by obtain rfl : k = 6 := (by omega); exact hv) (lv_sub hl [0, 1] rfl)
  | succ n ih =>
    intro k v ls hk hv hr hl
    refine lv_iload_n hx hb dX1_running_8 rfl (lv_at hl 2 rfl) ?_
    refine r_bp hx hb dX1_running_9 (by decide +kernel) ?_
    refine r_ic_ge (tgt := 54) hx hb dX1_running_11 (by decide) (by omega) (by omega) (fun c11_1 => by exfalso; omega) (fun c11_1 => ?_)
    refine lv_aload_n hx hb dX1_running_14 rfl (lv_at hl 0 rfl) ?_
    refine y_gw hx hb hown hts hK hP dX1_running_15 ?_
    refine lv_iload_n hx hb dX1_running_18 rfl (lv_at hl 2 rfl) ?_
    have z19_2 := hmw ((k : Int)) (by omega) (by omega)
    refine y_lw hx hb hK hP (by omega) dX1_running_19 ?_
    refine r_if_ne (tgt := 46) hx hb dX1_running_20 (by decide) (by omega) (fun c20_3 => ?_) (fun c20_3 => ?_)
    · refine lv_iload_n hx hb dX1_running_46 rfl (lv_at hl 1 rfl) ?_
      refine lv_istore_n (lv' := [(1, .int (iI v)), (0, .ref h), (2, .int (iI ((k : Int))))]) hx hb dX1_running_47 rfl hl (by decide) rfl (fun ls hl => ?_)
      refine r_iinc (j := 2) (lv' := [(2, .int (iI (((k + 1 : Nat) : Int)))), (1, .int (iI v)), (0, .ref h)]) (b := ((k + 1 : Nat) : Int)) hx hb dX1_running_48 hl rfl (by omega) (by decide) rfl (fun ls hl => ?_)
      refine lv_goto (tgt := 8) hx hb dX1_running_51 (by decide) ?_
      exact ih (k + 1) v ls (by omega) (by rw [it1, ← hv]; unfold rnT; split <;> omega) (by omega) (lv_sub hl [2, 1, 0] rfl)
    · refine lv_iload_n hx hb dX1_running_23 rfl (lv_at hl 1 rfl) ?_
      refine r_if_lt (tgt := 42) hx hb dX1_running_24 (by decide) (by omega) (fun c24_4 => ?_) (fun c24_4 => ?_)
      · refine lv_iload_n hx hb dX1_running_42 rfl (lv_at hl 2 rfl) ?_
        refine lv_goto (tgt := 47) hx hb dX1_running_43 (by decide) ?_
        refine lv_istore_n (lv' := [(1, .int (iI ((k : Int)))), (0, .ref h), (2, .int (iI ((k : Int))))]) hx hb dX1_running_47 rfl hl (by decide) rfl (fun ls hl => ?_)
        refine r_iinc (j := 2) (lv' := [(2, .int (iI (((k + 1 : Nat) : Int)))), (1, .int (iI ((k : Int)))), (0, .ref h)]) (b := ((k + 1 : Nat) : Int)) hx hb dX1_running_48 hl rfl (by omega) (by decide) rfl (fun ls hl => ?_)
        refine lv_goto (tgt := 8) hx hb dX1_running_51 (by decide) ?_
        exact ih (k + 1) ((k : Int)) ls (by omega) (by rw [it1, ← hv]; unfold rnT; split <;> omega) (by omega) (lv_sub hl [2, 1, 0] rfl)
      · refine lv_aload_n hx hb dX1_running_27 rfl (lv_at hl 0 rfl) ?_
        refine y_gu hx hb hown hts hK hP dX1_running_28 ?_
        refine lv_iload_n hx hb dX1_running_31 rfl (lv_at hl 2 rfl) ?_
        have z32_5 := hmu ((k : Int)) (by omega) (by omega)
        refine y_lu hx hb hK hP (by omega) dX1_running_32 ?_
        refine lv_aload_n hx hb dX1_running_33 rfl (lv_at hl 0 rfl) ?_
        refine y_gu hx hb hown hts hK hP dX1_running_34 ?_
        refine lv_iload_n hx hb dX1_running_37 rfl (lv_at hl 1 rfl) ?_
        have z38_6 := hmu v (by omega) (by omega)
        refine y_lu hx hb hK hP (by omega) dX1_running_38 ?_
        refine r_ic_le (tgt := 46) hx hb dX1_running_39 (by decide) (by omega) (by omega) (fun c39_7 => ?_) (fun c39_7 => ?_)
        · refine lv_iload_n hx hb dX1_running_46 rfl (lv_at hl 1 rfl) ?_
          refine lv_istore_n (lv' := [(1, .int (iI v)), (0, .ref h), (2, .int (iI ((k : Int))))]) hx hb dX1_running_47 rfl hl (by decide) rfl (fun ls hl => ?_)
          refine r_iinc (j := 2) (lv' := [(2, .int (iI (((k + 1 : Nat) : Int)))), (1, .int (iI v)), (0, .ref h)]) (b := ((k + 1 : Nat) : Int)) hx hb dX1_running_48 hl rfl (by omega) (by decide) rfl (fun ls hl => ?_)
          refine lv_goto (tgt := 8) hx hb dX1_running_51 (by decide) ?_
          exact ih (k + 1) v ls (by omega) (by rw [it1, ← hv]; unfold rnT; split <;> omega) (by omega) (lv_sub hl [2, 1, 0] rfl)
        · refine lv_iload_n hx hb dX1_running_42 rfl (lv_at hl 2 rfl) ?_
          refine lv_goto (tgt := 47) hx hb dX1_running_43 (by decide) ?_
          refine lv_istore_n (lv' := [(1, .int (iI ((k : Int)))), (0, .ref h), (2, .int (iI ((k : Int))))]) hx hb dX1_running_47 rfl hl (by decide) rfl (fun ls hl => ?_)
          refine r_iinc (j := 2) (lv' := [(2, .int (iI (((k + 1 : Nat) : Int)))), (1, .int (iI ((k : Int)))), (0, .ref h)]) (b := ((k + 1 : Nat) : Int)) hx hb dX1_running_48 hl rfl (by omega) (by decide) rfl (fun ls hl => ?_)
          refine lv_goto (tgt := 8) hx hb dX1_running_51 (by decide) ?_
          exact ih (k + 1) ((k : Int)) ls (by omega) (by rw [it1, ← hv]; unfold rnT; split <;> omega) (by omega) (lv_sub hl [2, 1, 0] rfl)
set_option maxHeartbeats 4000000 in
set_option maxRecDepth 100000 in
theorem mX1_running (l : Launch) (D : va_G) (h : Nat) (a : Nat → Nat) (cB cI : ClassId) (sz : Nat) (mb mh mw ms : Int → Int) (tm : Int) (mu : Int → Int) (hmb : rg 0 10 6 mb) (hmh : rg 0 7 5 mh) (hmw : rg 0 6 6 mw) : Met l yX1_running (ws_ yX1_running cX1_running 3 (some .int)) ({ frames := 1, cells := 0, slots := 0, locals := 23 }) (va_Pc [.ref h] (fun U => U.heap.size = sz ∧ va_P D vwCl (wM h a cI mb mh mw ms tm mu) U.heap ∧ va_K D vwCl (tX cB cI) U ∧ va_D (fun _ => True) (wM h a cI mb mh mw ms tm mu))) (va_Qi (fun (r : Int32) (u : PM) => r = iI (rnM (ldG mb mh mw mu) mw) ∧ u = (mb, mh, mw, ms, tm, ldG mb mh mw mu)) (bM D (va_A (wM h a cI mb mh mw ms tm mu) sz) h a cB cI) (va_A (wM h a cI mb mh mw ms tm mu) sz)) 0 0 (va_A (wM h a cI mb mh mw ms tm mu) sz) := by
  refine Met.ofW (cc := cX1_running) (maxL := 3) (ret := (some .int)) (by decide) rfl ?_
  intro p e s m args below meth c s₁ B hml hv
  obtain ⟨rfl, hsz, hP, hK, hD0⟩ := hv
  have hx := B.exec
  have hb := B.bytes
  have hr := B.returns
  have hts := atoms_spec (ws := ws_ yX1_running cX1_running 3 (some .int)) B.pre
  have hts : ∀ w ∈ lw_all, w.before _ s = true := fun w h => hts w (List.mem_cons_of_mem _ h)
  have hown : s.vm.findClass RX1 = some m.cls := findClass_of_methodNamed B.named
  have hlocks := B.notSynchronized
  subst hsz
  have hD := hD0.self (sz := s.heap.size)
  generalize hAe : va_A (wM h a cI mb mh mw ms tm mu) s.heap.size = A at hD ⊢
  have hA : ∀ q : Nat, s.heap.size ≤ q → A q := fun q h => by rw [← hAe]; exact Or.inr h
  have hS : va_S A s.heap s.heap [] := va_S.rf
  have hl := lv_entry ([.ref h]) (n := 3) (Nat.le_of_ble_eq_true rfl)
  rw [lg_entry_eq]
  generalize (lg_sl ([.ref h]) ++ List.replicate (3 - (lg_sl ([.ref h])).length) Slot.unset).toArray = ls at hl ⊢
  have hl : lv_has ls 3 [(0, .ref h)] := hl
  refine lv_aload_n hx hb dX1_running_0 rfl (lv_at hl 0 rfl) ?_
  refine k_lend hx hb hml hown hts hK hP hD hA hmb hmh hmw (Nat.le_of_ble_eq_true rfl) (Nat.le_of_ble_eq_true rfl) (Nat.zero_le _) (Nat.zero_le _) hS hl.1 (Nat.le_of_ble_eq_true rfl) dX1_running_1 (fun H locs hP hD hS => ?_)
  have hmu : rg 0 10 6 (ldG mb mh mw mu) := ldG_rg hmb
  refine r_ic hx hb dX1_running_4 ?_
  refine lv_istore_n (lv' := [(1, .int (iI (-1))), (0, .ref h)]) hx hb dX1_running_5 rfl hl (by decide) rfl (fun ls hl => ?_)
  refine r_ic hx hb dX1_running_6 ?_
  refine lv_istore_n (lv' := [(2, .int (iI 0)), (1, .int (iI (-1))), (0, .ref h)]) hx hb dX1_running_7 rfl hl (by decide) rfl (fun ls hl => ?_)
  refine lq_running hx hb hml hown hts hK hP hmu hmw (fun v ls hv hl => ?_) 6 0 (-1) ls rfl rfl (by omega) (lv_sub hl [2, 1, 0] rfl)
  refine lv_iload_n hx hb dX1_running_54 rfl (lv_at hl 1 rfl) ?_
  exact W.iret (v := (iI v)) hx hb hr (fun u hu hW => ⟨⟨_, (mb, mh, mw, ms, tm, ldG mb mh mw mu), rfl, ⟨by rw [hv], rfl⟩, by rw [hu]; exact hP, va_K.moved hW.alike hK, hD⟩, hS.F hu⟩) hS.2.2 dX1_running_55
set_option maxHeartbeats 4000000 in
set_option maxRecDepth 100000 in
theorem lq_lifted (hx : p.tables.exec = Jvm.exec) (hb : c.code = cX1_lifted) (hml : c.maxLocals = 3) (hown : s.vm.findClass RX1 = some m.cls) (hts : ∀ w ∈ lw_all, w.before args s = true) (hK : va_K D vwCl (tX cB cI) s) (hP : va_P D vwCl (wM h a cI mb mh mw ms tm mu) H) (hmu : rg 0 10 6 mu) (hmb : rg 0 10 6 mb)
    (kk : ∀ (B : Int → Bool) (ls : Array Slot), B = lfM mu mb → lv_has ls 3 [(0, .ref h), (1, .int (mk6 B))] → W p l e R s m args below meth c H locs cells slots Q (F0 m 45 ls [])) :
    ∀ (n k : Nat) (B : Int → Bool) (ls : Array Slot), k + n = 6 → B = it (lfT mu mb) k b0 → lv_has ls 3 [(0, .ref h), (1, .int (mk6 B)), (2, .int (iI ((k : Int))))] → W p l e R s m args below meth c H locs cells slots Q (F0 m 8 ls []) := by
  intro n
  induction n with
  | zero =>
    intro k B ls hk hv hl
    refine lv_iload_n hx hb dX1_lifted_8 rfl (lv_at hl 2 rfl) ?_
    refine r_bp hx hb dX1_lifted_9 (by decide +kernel) ?_
    refine r_ic_ge (tgt := 45) hx hb dX1_lifted_11 (by decide) (by omega) (by omega) (fun c11_1 => ?_) (fun c11_1 => by exfalso; omega)
    exact kk B ls (by obtain rfl : k = 6 := (by omega); exact hv) (lv_sub hl [0, 1] rfl)
  | succ n ih =>
    intro k B ls hk hv hl
    refine lv_iload_n hx hb dX1_lifted_8 rfl (lv_at hl 2 rfl) ?_
    refine r_bp hx hb dX1_lifted_9 (by decide +kernel) ?_
    refine r_ic_ge (tgt := 45) hx hb dX1_lifted_11 (by decide) (by omega) (by omega) (fun c11_1 => by exfalso; omega) (fun c11_1 => ?_)
    refine lv_aload_n hx hb dX1_lifted_14 rfl (lv_at hl 0 rfl) ?_
    refine y_gu hx hb hown hts hK hP dX1_lifted_15 ?_
    refine lv_iload_n hx hb dX1_lifted_18 rfl (lv_at hl 2 rfl) ?_
    have z19_2 := hmu ((k : Int)) (by omega) (by omega)
    refine y_lu hx hb hK hP (by omega) dX1_lifted_19 ?_
    refine lv_aload_n hx hb dX1_lifted_20 rfl (lv_at hl 0 rfl) ?_
    refine y_gb hx hb hown hts hK hP dX1_lifted_21 ?_
    refine lv_iload_n hx hb dX1_lifted_24 rfl (lv_at hl 2 rfl) ?_
    have z25_3 := hmb ((k : Int)) (by omega) (by omega)
    refine y_lb hx hb hK hP (by omega) dX1_lifted_25 ?_
    refine r_ic_le (tgt := 37) hx hb dX1_lifted_26 (by decide) (by omega) (by omega) (fun c26_4 => ?_) (fun c26_4 => ?_)
    · refine lv_iload_n hx hb dX1_lifted_37 rfl (lv_at hl 1 rfl) ?_
      refine lv_istore_n (lv' := [(1, .int (mk6 B)), (0, .ref h), (2, .int (iI ((k : Int))))]) hx hb dX1_lifted_38 rfl hl (by decide) rfl (fun ls hl => ?_)
      refine r_iinc (j := 2) (lv' := [(2, .int (iI (((k + 1 : Nat) : Int)))), (1, .int (mk6 B)), (0, .ref h)]) (b := ((k + 1 : Nat) : Int)) hx hb dX1_lifted_39 hl rfl (by omega) (by decide) rfl (fun ls hl => ?_)
      refine lv_goto (tgt := 8) hx hb dX1_lifted_42 (by decide) ?_
      exact ih (k + 1) B ls (by omega) (by rw [it1, ← hv]; unfold lfT; split <;> first | rfl | (exfalso; omega)) (lv_sub hl [2, 1, 0] rfl)
    · refine lv_iload_n hx hb dX1_lifted_29 rfl (lv_at hl 1 rfl) ?_
      refine r_ic hx hb dX1_lifted_30 ?_
      refine lv_iload_n hx hb dX1_lifted_31 rfl (lv_at hl 2 rfl) ?_
      refine r_shl hx hb dX1_lifted_32 ?_
      refine r_orb hx hb dX1_lifted_33 (by omega) ?_
      refine lv_goto (tgt := 38) hx hb dX1_lifted_34 (by decide) ?_
      refine lv_istore_n (lv' := [(1, .int (mk6 (bu B ((k : Int))))), (0, .ref h), (2, .int (iI ((k : Int))))]) hx hb dX1_lifted_38 rfl hl (by decide) rfl (fun ls hl => ?_)
      refine r_iinc (j := 2) (lv' := [(2, .int (iI (((k + 1 : Nat) : Int)))), (1, .int (mk6 (bu B ((k : Int))))), (0, .ref h)]) (b := ((k + 1 : Nat) : Int)) hx hb dX1_lifted_39 hl rfl (by omega) (by decide) rfl (fun ls hl => ?_)
      refine lv_goto (tgt := 8) hx hb dX1_lifted_42 (by decide) ?_
      exact ih (k + 1) (bu B ((k : Int))) ls (by omega) (by rw [it1, ← hv]; unfold lfT; split <;> first | rfl | (exfalso; omega)) (lv_sub hl [2, 1, 0] rfl)
set_option maxHeartbeats 4000000 in
set_option maxRecDepth 100000 in
theorem mX1_lifted (l : Launch) (D : va_G) (h : Nat) (a : Nat → Nat) (cB cI : ClassId) (sz : Nat) (mb mh mw ms : Int → Int) (tm : Int) (mu : Int → Int) (hmb : rg 0 10 6 mb) (hmh : rg 0 7 5 mh) (hmw : rg 0 6 6 mw) : Met l yX1_lifted (ws_ yX1_lifted cX1_lifted 3 (some .int)) ({ frames := 1, cells := 0, slots := 0, locals := 23 }) (va_Pc [.ref h] (fun U => U.heap.size = sz ∧ va_P D vwCl (wM h a cI mb mh mw ms tm mu) U.heap ∧ va_K D vwCl (tX cB cI) U ∧ va_D (fun _ => True) (wM h a cI mb mh mw ms tm mu))) (va_Qi (fun (r : Int32) (u : PM) => r = mk6 (lfM (ldG mb mh mw mu) mb) ∧ u = (mb, mh, mw, ms, tm, ldG mb mh mw mu)) (bM D (va_A (wM h a cI mb mh mw ms tm mu) sz) h a cB cI) (va_A (wM h a cI mb mh mw ms tm mu) sz)) 0 0 (va_A (wM h a cI mb mh mw ms tm mu) sz) := by
  refine Met.ofW (cc := cX1_lifted) (maxL := 3) (ret := (some .int)) (by decide) rfl ?_
  intro p e s m args below meth c s₁ B hml hv
  obtain ⟨rfl, hsz, hP, hK, hD0⟩ := hv
  have hx := B.exec
  have hb := B.bytes
  have hr := B.returns
  have hts := atoms_spec (ws := ws_ yX1_lifted cX1_lifted 3 (some .int)) B.pre
  have hts : ∀ w ∈ lw_all, w.before _ s = true := fun w h => hts w (List.mem_cons_of_mem _ h)
  have hown : s.vm.findClass RX1 = some m.cls := findClass_of_methodNamed B.named
  have hlocks := B.notSynchronized
  subst hsz
  have hD := hD0.self (sz := s.heap.size)
  generalize hAe : va_A (wM h a cI mb mh mw ms tm mu) s.heap.size = A at hD ⊢
  have hA : ∀ q : Nat, s.heap.size ≤ q → A q := fun q h => by rw [← hAe]; exact Or.inr h
  have hS : va_S A s.heap s.heap [] := va_S.rf
  have hl := lv_entry ([.ref h]) (n := 3) (Nat.le_of_ble_eq_true rfl)
  rw [lg_entry_eq]
  generalize (lg_sl ([.ref h]) ++ List.replicate (3 - (lg_sl ([.ref h])).length) Slot.unset).toArray = ls at hl ⊢
  have hl : lv_has ls 3 [(0, .ref h)] := hl
  refine lv_aload_n hx hb dX1_lifted_0 rfl (lv_at hl 0 rfl) ?_
  refine k_lend hx hb hml hown hts hK hP hD hA hmb hmh hmw (Nat.le_of_ble_eq_true rfl) (Nat.le_of_ble_eq_true rfl) (Nat.zero_le _) (Nat.zero_le _) hS hl.1 (Nat.le_of_ble_eq_true rfl) dX1_lifted_1 (fun H locs hP hD hS => ?_)
  have hmu : rg 0 10 6 (ldG mb mh mw mu) := ldG_rg hmb
  refine r_icm hx hb dX1_lifted_4 ?_
  refine lv_istore_n (lv' := [(1, .int (mk6 b0)), (0, .ref h)]) hx hb dX1_lifted_5 rfl hl (by decide) rfl (fun ls hl => ?_)
  refine r_ic hx hb dX1_lifted_6 ?_
  refine lv_istore_n (lv' := [(2, .int (iI 0)), (1, .int (mk6 b0)), (0, .ref h)]) hx hb dX1_lifted_7 rfl hl (by decide) rfl (fun ls hl => ?_)
  refine lq_lifted hx hb hml hown hts hK hP hmu hmb (fun B ls hv hl => ?_) 6 0 b0 ls rfl rfl (lv_sub hl [2, 1, 0] rfl)
  refine lv_iload_n hx hb dX1_lifted_45 rfl (lv_at hl 1 rfl) ?_
  exact W.iret (v := (mk6 B)) hx hb hr (fun u hu hW => ⟨⟨_, (mb, mh, mw, ms, tm, ldG mb mh mw mu), rfl, ⟨by rw [hv], rfl⟩, by rw [hu]; exact hP, va_K.moved hW.alike hK, hD⟩, hS.F hu⟩) hS.2.2 dX1_lifted_46
set_option maxHeartbeats 4000000 in
set_option maxRecDepth 100000 in
theorem mX1_take (l : Launch) (D : va_G) (h : Nat) (a : Nat → Nat) (cB cI : ClassId) (sz : Nat) (mb mh mw ms : Int → Int) (tm : Int) (mu : Int → Int) (hmb : rg 0 10 6 mb) (hmh : rg 0 7 5 mh) (hmw : rg 0 6 6 mw) (hms : rg 0 1000000 6 ms) (htm : 0 ≤ tm ∧ tm < 1000000) (t lk : Int) (ht : -2147483648 ≤ t ∧ t < 2147483648) (hlk : -2147483648 ≤ lk ∧ lk < 2147483648) : Met l yX1_take (ws_ yX1_take cX1_take 4 (some .int)) ({ frames := 1, cells := 0, slots := 0, locals := 26 }) (va_Pc [.ref h, .int (iI t), .int (iI lk)] (fun U => U.heap.size = sz ∧ va_P D vwCl (wM h a cI mb mh mw ms tm mu) U.heap ∧ va_K D vwCl (tX cB cI) U ∧ va_D (fun _ => True) (wM h a cI mb mh mw ms tm mu))) (va_Qi (fun (r : Int32) (u : PM) => r = iI (tkM mb mh mw ms tm mu t lk).1 ∧ u = (tkM mb mh mw ms tm mu t lk).2) (bM D (va_A (wM h a cI mb mh mw ms tm mu) sz) h a cB cI) (va_A (wM h a cI mb mh mw ms tm mu) sz)) 0 0 (va_A (wM h a cI mb mh mw ms tm mu) sz) := by
  refine Met.ofW (cc := cX1_take) (maxL := 4) (ret := (some .int)) (by decide) rfl ?_
  intro p e s m args below meth c s₁ B hml hv
  obtain ⟨rfl, hsz, hP, hK, hD0⟩ := hv
  have hx := B.exec
  have hb := B.bytes
  have hr := B.returns
  have hts := atoms_spec (ws := ws_ yX1_take cX1_take 4 (some .int)) B.pre
  have hts : ∀ w ∈ lw_all, w.before _ s = true := fun w h => hts w (List.mem_cons_of_mem _ h)
  have hown : s.vm.findClass RX1 = some m.cls := findClass_of_methodNamed B.named
  have hlocks := B.notSynchronized
  subst hsz
  have hD := hD0.self (sz := s.heap.size)
  generalize hAe : va_A (wM h a cI mb mh mw ms tm mu) s.heap.size = A at hD ⊢
  have hA : ∀ q : Nat, s.heap.size ≤ q → A q := fun q h => by rw [← hAe]; exact Or.inr h
  have hS : va_S A s.heap s.heap [] := va_S.rf
  have hl := lv_entry ([.ref h, .int (iI t), .int (iI lk)]) (n := 4) (Nat.le_of_ble_eq_true rfl)
  rw [lg_entry_eq]
  generalize (lg_sl ([.ref h, .int (iI t), .int (iI lk)]) ++ List.replicate (4 - (lg_sl ([.ref h, .int (iI t), .int (iI lk)])).length) Slot.unset).toArray = ls at hl ⊢
  have hl : lv_has ls 4 [(0, .ref h), (1, .int (iI t)), (2, .int (iI lk))] := hl
  refine lv_aload_n hx hb dX1_take_0 rfl (lv_at hl 0 rfl) ?_
  refine lv_iload_n hx hb dX1_take_1 rfl (lv_at hl 1 rfl) ?_
  refine k_thread hx hb hml hown hts hK hP (by omega) (Nat.le_of_ble_eq_true rfl) (Nat.le_of_ble_eq_true rfl) (Nat.zero_le _) (Nat.zero_le _) hS hl.1 (Nat.le_of_ble_eq_true rfl) dX1_take_2 (fun locs hS => ?_)
  refine r_peq (P := 0 ≤ t ∧ t < 6) (tgt := 37) hx hb ite_10 dX1_take_5 (by decide) (fun c5_1 => ?_) (fun c5_1 => ?_)
  · refine r_ic hx hb dX1_take_37 ?_
    have ev : tkM mb mh mw ms tm mu t lk = (-1, (mb, mh, mw, ms, tm, mu)) := by unfold tkM; rw [if_pos (by omega)]
    exact W.iret (v := (iI (-1))) hx hb hr (fun u hu hW => ⟨⟨_, (mb, mh, mw, ms, tm, mu), rfl, ⟨by rw [ev], by rw [ev]⟩, by rw [hu]; exact hP, va_K.moved hW.alike hK, hD⟩, hS.F hu⟩) hS.2.2 dX1_take_38
  · refine lv_aload_n hx hb dX1_take_8 rfl (lv_at hl 0 rfl) ?_
    refine lv_iload_n hx hb dX1_take_9 rfl (lv_at hl 2 rfl) ?_
    refine k_lock hx hb hml hown hts hK hP (by omega) (Nat.le_of_ble_eq_true rfl) (Nat.le_of_ble_eq_true rfl) (Nat.zero_le _) (Nat.zero_le _) hS hl.1 (Nat.le_of_ble_eq_true rfl) dX1_take_10 (fun locs hS => ?_)
    refine r_peq (P := 0 ≤ lk ∧ lk < 5) (tgt := 37) hx hb ite_10 dX1_take_13 (by decide) (fun c13_2 => ?_) (fun c13_2 => ?_)
    · refine r_ic hx hb dX1_take_37 ?_
      have ev : tkM mb mh mw ms tm mu t lk = (-1, (mb, mh, mw, ms, tm, mu)) := by unfold tkM; rw [if_pos (by omega)]
      exact W.iret (v := (iI (-1))) hx hb hr (fun u hu hW => ⟨⟨_, (mb, mh, mw, ms, tm, mu), rfl, ⟨by rw [ev], by rw [ev]⟩, by rw [hu]; exact hP, va_K.moved hW.alike hK, hD⟩, hS.F hu⟩) hS.2.2 dX1_take_38
    · refine lv_aload_n hx hb dX1_take_16 rfl (lv_at hl 0 rfl) ?_
      refine y_gw hx hb hown hts hK hP dX1_take_17 ?_
      refine lv_iload_n hx hb dX1_take_20 rfl (lv_at hl 1 rfl) ?_
      have z21_3 := hmw t (by omega) (by omega)
      refine y_lw hx hb hK hP (by omega) dX1_take_21 ?_
      refine r_if_gt (tgt := 37) hx hb dX1_take_22 (by decide) (by omega) (fun c22_4 => ?_) (fun c22_4 => ?_)
      · refine r_ic hx hb dX1_take_37 ?_
        have ev : tkM mb mh mw ms tm mu t lk = (-1, (mb, mh, mw, ms, tm, mu)) := by unfold tkM; rw [if_pos (by omega)]
        exact W.iret (v := (iI (-1))) hx hb hr (fun u hu hW => ⟨⟨_, (mb, mh, mw, ms, tm, mu), rfl, ⟨by rw [ev], by rw [ev]⟩, by rw [hu]; exact hP, va_K.moved hW.alike hK, hD⟩, hS.F hu⟩) hS.2.2 dX1_take_38
      · refine lv_aload_n hx hb dX1_take_25 rfl (lv_at hl 0 rfl) ?_
        refine y_gh hx hb hown hts hK hP dX1_take_26 ?_
        refine lv_iload_n hx hb dX1_take_29 rfl (lv_at hl 2 rfl) ?_
        have z30_5 := hmh lk (by omega) (by omega)
        refine y_lh hx hb hK hP (by omega) dX1_take_30 ?_
        refine lv_iload_n hx hb dX1_take_31 rfl (lv_at hl 1 rfl) ?_
        refine r_ic hx hb dX1_take_32 ?_
        refine r_add hx hb dX1_take_33 ?_
        refine r_ic_ne (tgt := 39) hx hb dX1_take_34 (by decide) (by omega) (by omega) (fun c34_6 => ?_) (fun c34_6 => ?_)
        · refine lv_aload_n hx hb dX1_take_39 rfl (lv_at hl 0 rfl) ?_
          refine y_gh hx hb hown hts hK hP dX1_take_40 ?_
          refine lv_iload_n hx hb dX1_take_43 rfl (lv_at hl 2 rfl) ?_
          refine y_lh hx hb hK hP (by omega) dX1_take_44 ?_
          refine r_if_ne (tgt := 59) hx hb dX1_take_45 (by decide) (by omega) (fun c45_7 => ?_) (fun c45_7 => ?_)
          · refine lv_aload_n hx hb dX1_take_59 rfl (lv_at hl 0 rfl) ?_
            refine y_gh hx hb hown hts hK hP dX1_take_60 ?_
            refine lv_iload_n hx hb dX1_take_63 rfl (lv_at hl 2 rfl) ?_
            refine y_lh hx hb hK hP (by omega) dX1_take_64 ?_
            refine r_ic hx hb dX1_take_65 ?_
            refine r_sub hx hb dX1_take_66 ?_
            refine lv_istore_n (lv' := [(3, .int (iI ((mh lk) - 1))), (0, .ref h), (1, .int (iI t)), (2, .int (iI lk))]) hx hb dX1_take_67 rfl hl (by decide) rfl (fun ls hl => ?_)
            refine lv_aload_n hx hb dX1_take_68 rfl (lv_at hl 1 rfl) ?_
            refine lv_iload_n hx hb dX1_take_69 rfl (lv_at hl 2 rfl) ?_
            refine k_behind hx hb hml hown hts hK hP hmh hmw (by omega) (Nat.le_of_ble_eq_true rfl) (Nat.le_of_ble_eq_true rfl) (Nat.zero_le _) (Nat.zero_le _) hS hl.1 (Nat.le_of_ble_eq_true rfl) dX1_take_70 (fun locs hS => ?_)
            refine lv_iload_n hx hb dX1_take_73 rfl (lv_at hl 0 rfl) ?_
            refine r_shr hx hb dX1_take_74 ?_
            refine r_ic hx hb dX1_take_75 ?_
            refine r_and1 hx hb dX1_take_76 (by omega) ?_
            refine r_ic hx hb dX1_take_77 ?_
            refine r_bne (tgt := 84) hx hb dX1_take_78 (by decide) (fun c78_8 => ?_) (fun c78_8 => ?_)
            · refine lv_aload_n hx hb dX1_take_84 rfl (lv_at hl 1 rfl) ?_
              refine y_gw hx hb hown hts hK hP dX1_take_85 ?_
              refine lv_iload_n hx hb dX1_take_88 rfl (lv_at hl 2 rfl) ?_
              refine lv_iload_n hx hb dX1_take_89 rfl (lv_at hl 3 rfl) ?_
              refine r_ic hx hb dX1_take_90 ?_
              refine r_add hx hb dX1_take_91 ?_
              refine y_sw hx hb hK hP hD hS (by omega) dX1_take_92 (fun H locs hP hD hS => ?_)
              refine lv_aload_n hx hb dX1_take_93 rfl (lv_at hl 1 rfl) ?_
              refine lv_dup hx hb dX1_take_94 rfl ?_
              refine y_gt hx hb hown hts hK hP dX1_take_95 ?_
              refine r_ic hx hb dX1_take_98 ?_
              refine r_add hx hb dX1_take_99 ?_
              refine y_pt hx hb hown hts hK hP hD hS dX1_take_100 (fun H locs hP hD hS => ?_)
              refine lv_aload_n hx hb dX1_take_103 rfl (lv_at hl 1 rfl) ?_
              refine y_gs hx hb hown hts hK hP dX1_take_104 ?_
              refine lv_iload_n hx hb dX1_take_107 rfl (lv_at hl 2 rfl) ?_
              refine lv_aload_n hx hb dX1_take_108 rfl (lv_at hl 1 rfl) ?_
              refine y_gt hx hb hown hts hK hP dX1_take_109 ?_
              refine y_ss hx hb hK hP hD hS (by omega) dX1_take_112 (fun H locs hP hD hS => ?_)
              refine r_ic hx hb dX1_take_113 ?_
              have ev : tkM mb mh mw ms tm mu t lk = (1, (mb, mh, iu mw t (lk + 1), iu ms t (tm + 1), tm + 1, mu)) := by unfold tkM; rw [if_neg (by omega), if_neg (by omega), if_neg (by rw [c78_8]; decide)]
              exact W.iret (v := (iI 1)) hx hb hr (fun u hu hW => ⟨⟨_, (mb, mh, iu mw t (lk + 1), iu ms t (tm + 1), tm + 1, mu), rfl, ⟨by rw [ev], by rw [ev]⟩, by rw [hu]; exact hP, va_K.moved hW.alike hK, hD⟩, hS.F hu⟩) hS.2.2 dX1_take_114
            · refine r_bp hx hb dX1_take_81 (by decide +kernel) ?_
              have ev : tkM mb mh mw ms tm mu t lk = (-2, (mb, mh, mw, ms, tm, mu)) := by unfold tkM; rw [if_neg (by omega), if_neg (by omega), if_pos c78_8]
              exact W.iret (v := (iI (-2))) hx hb hr (fun u hu hW => ⟨⟨_, (mb, mh, mw, ms, tm, mu), rfl, ⟨by rw [ev], by rw [ev]⟩, by rw [hu]; exact hP, va_K.moved hW.alike hK, hD⟩, hS.F hu⟩) hS.2.2 dX1_take_83
          · refine lv_aload_n hx hb dX1_take_48 rfl (lv_at hl 0 rfl) ?_
            refine y_gh hx hb hown hts hK hP dX1_take_49 ?_
            refine lv_iload_n hx hb dX1_take_52 rfl (lv_at hl 2 rfl) ?_
            refine lv_iload_n hx hb dX1_take_53 rfl (lv_at hl 1 rfl) ?_
            refine r_ic hx hb dX1_take_54 ?_
            refine r_add hx hb dX1_take_55 ?_
            refine y_sh hx hb hK hP hD hS (by omega) dX1_take_56 (fun H locs hP hD hS => ?_)
            refine r_ic hx hb dX1_take_57 ?_
            have ev : tkM mb mh mw ms tm mu t lk = (0, (mb, iu mh lk (t + 1), mw, ms, tm, mu)) := by unfold tkM; rw [if_neg (by omega), if_pos (by omega)]
            exact W.iret (v := (iI 0)) hx hb hr (fun u hu hW => ⟨⟨_, (mb, iu mh lk (t + 1), mw, ms, tm, mu), rfl, ⟨by rw [ev], by rw [ev]⟩, by rw [hu]; exact hP, va_K.moved hW.alike hK, hD⟩, hS.F hu⟩) hS.2.2 dX1_take_58
        · refine r_ic hx hb dX1_take_37 ?_
          have ev : tkM mb mh mw ms tm mu t lk = (-1, (mb, mh, mw, ms, tm, mu)) := by unfold tkM; rw [if_pos (by omega)]
          exact W.iret (v := (iI (-1))) hx hb hr (fun u hu hW => ⟨⟨_, (mb, mh, mw, ms, tm, mu), rfl, ⟨by rw [ev], by rw [ev]⟩, by rw [hu]; exact hP, va_K.moved hW.alike hK, hD⟩, hS.F hu⟩) hS.2.2 dX1_take_38
set_option maxHeartbeats 4000000 in
set_option maxRecDepth 100000 in
theorem mX1_give (l : Launch) (D : va_G) (h : Nat) (a : Nat → Nat) (cB cI : ClassId) (sz : Nat) (mb mh mw ms : Int → Int) (tm : Int) (mu : Int → Int) (hmb : rg 0 10 6 mb) (hmh : rg 0 7 5 mh) (hmw : rg 0 6 6 mw) (hms : rg 0 1000000 6 ms) (htm : 0 ≤ tm ∧ tm < 1000000) (t lk : Int) (ht : -2147483648 ≤ t ∧ t < 2147483648) (hlk : -2147483648 ≤ lk ∧ lk < 2147483648) : Met l yX1_give (ws_ yX1_give cX1_give 4 (some .int)) ({ frames := 2, cells := 0, slots := 0, locals := 47 }) (va_Pc [.ref h, .int (iI t), .int (iI lk)] (fun U => U.heap.size = sz ∧ va_P D vwCl (wM h a cI mb mh mw ms tm mu) U.heap ∧ va_K D vwCl (tX cB cI) U ∧ va_D (fun _ => True) (wM h a cI mb mh mw ms tm mu))) (va_Qi (fun (r : Int32) (u : PM) => r = iI (gvM mb mh mw ms tm mu t lk).1 ∧ u = (gvM mb mh mw ms tm mu t lk).2) (bM D (va_A (wM h a cI mb mh mw ms tm mu) sz) h a cB cI) (va_A (wM h a cI mb mh mw ms tm mu) sz)) 0 0 (va_A (wM h a cI mb mh mw ms tm mu) sz) := by
  refine Met.ofW (cc := cX1_give) (maxL := 4) (ret := (some .int)) (by decide) rfl ?_
  intro p e s m args below meth c s₁ B hml hv
  obtain ⟨rfl, hsz, hP, hK, hD0⟩ := hv
  have hx := B.exec
  have hb := B.bytes
  have hr := B.returns
  have hts := atoms_spec (ws := ws_ yX1_give cX1_give 4 (some .int)) B.pre
  have hts : ∀ w ∈ lw_all, w.before _ s = true := fun w h => hts w (List.mem_cons_of_mem _ h)
  have hown : s.vm.findClass RX1 = some m.cls := findClass_of_methodNamed B.named
  have hlocks := B.notSynchronized
  subst hsz
  have hD := hD0.self (sz := s.heap.size)
  generalize hAe : va_A (wM h a cI mb mh mw ms tm mu) s.heap.size = A at hD ⊢
  have hA : ∀ q : Nat, s.heap.size ≤ q → A q := fun q h => by rw [← hAe]; exact Or.inr h
  have hS : va_S A s.heap s.heap [] := va_S.rf
  have hl := lv_entry ([.ref h, .int (iI t), .int (iI lk)]) (n := 4) (Nat.le_of_ble_eq_true rfl)
  rw [lg_entry_eq]
  generalize (lg_sl ([.ref h, .int (iI t), .int (iI lk)]) ++ List.replicate (4 - (lg_sl ([.ref h, .int (iI t), .int (iI lk)])).length) Slot.unset).toArray = ls at hl ⊢
  have hl : lv_has ls 4 [(0, .ref h), (1, .int (iI t)), (2, .int (iI lk))] := hl
  refine lv_aload_n hx hb dX1_give_0 rfl (lv_at hl 0 rfl) ?_
  refine lv_iload_n hx hb dX1_give_1 rfl (lv_at hl 1 rfl) ?_
  refine k_thread hx hb hml hown hts hK hP (by omega) (Nat.le_of_ble_eq_true rfl) (Nat.le_of_ble_eq_true rfl) (Nat.zero_le _) (Nat.zero_le _) hS hl.1 (Nat.le_of_ble_eq_true rfl) dX1_give_2 (fun locs hS => ?_)
  refine r_peq (P := 0 ≤ t ∧ t < 6) (tgt := 37) hx hb ite_10 dX1_give_5 (by decide) (fun c5_1 => ?_) (fun c5_1 => ?_)
  · refine r_bp hx hb dX1_give_37 (by decide +kernel) ?_
    have ev : gvM mb mh mw ms tm mu t lk = (-2, (mb, mh, mw, ms, tm, mu)) := by unfold gvM; rw [if_pos (by omega)]
    exact W.iret (v := (iI (-2))) hx hb hr (fun u hu hW => ⟨⟨_, (mb, mh, mw, ms, tm, mu), rfl, ⟨by rw [ev], by rw [ev]⟩, by rw [hu]; exact hP, va_K.moved hW.alike hK, hD⟩, hS.F hu⟩) hS.2.2 dX1_give_39
  · refine lv_aload_n hx hb dX1_give_8 rfl (lv_at hl 0 rfl) ?_
    refine lv_iload_n hx hb dX1_give_9 rfl (lv_at hl 2 rfl) ?_
    refine k_lock hx hb hml hown hts hK hP (by omega) (Nat.le_of_ble_eq_true rfl) (Nat.le_of_ble_eq_true rfl) (Nat.zero_le _) (Nat.zero_le _) hS hl.1 (Nat.le_of_ble_eq_true rfl) dX1_give_10 (fun locs hS => ?_)
    refine r_peq (P := 0 ≤ lk ∧ lk < 5) (tgt := 37) hx hb ite_10 dX1_give_13 (by decide) (fun c13_2 => ?_) (fun c13_2 => ?_)
    · refine r_bp hx hb dX1_give_37 (by decide +kernel) ?_
      have ev : gvM mb mh mw ms tm mu t lk = (-2, (mb, mh, mw, ms, tm, mu)) := by unfold gvM; rw [if_pos (by omega)]
      exact W.iret (v := (iI (-2))) hx hb hr (fun u hu hW => ⟨⟨_, (mb, mh, mw, ms, tm, mu), rfl, ⟨by rw [ev], by rw [ev]⟩, by rw [hu]; exact hP, va_K.moved hW.alike hK, hD⟩, hS.F hu⟩) hS.2.2 dX1_give_39
    · refine lv_aload_n hx hb dX1_give_16 rfl (lv_at hl 0 rfl) ?_
      refine y_gw hx hb hown hts hK hP dX1_give_17 ?_
      refine lv_iload_n hx hb dX1_give_20 rfl (lv_at hl 1 rfl) ?_
      have z21_3 := hmw t (by omega) (by omega)
      refine y_lw hx hb hK hP (by omega) dX1_give_21 ?_
      refine r_if_gt (tgt := 37) hx hb dX1_give_22 (by decide) (by omega) (fun c22_4 => ?_) (fun c22_4 => ?_)
      · refine r_bp hx hb dX1_give_37 (by decide +kernel) ?_
        have ev : gvM mb mh mw ms tm mu t lk = (-2, (mb, mh, mw, ms, tm, mu)) := by unfold gvM; rw [if_pos (by omega)]
        exact W.iret (v := (iI (-2))) hx hb hr (fun u hu hW => ⟨⟨_, (mb, mh, mw, ms, tm, mu), rfl, ⟨by rw [ev], by rw [ev]⟩, by rw [hu]; exact hP, va_K.moved hW.alike hK, hD⟩, hS.F hu⟩) hS.2.2 dX1_give_39
      · refine lv_aload_n hx hb dX1_give_25 rfl (lv_at hl 0 rfl) ?_
        refine y_gh hx hb hown hts hK hP dX1_give_26 ?_
        refine lv_iload_n hx hb dX1_give_29 rfl (lv_at hl 2 rfl) ?_
        have z30_5 := hmh lk (by omega) (by omega)
        refine y_lh hx hb hK hP (by omega) dX1_give_30 ?_
        refine lv_iload_n hx hb dX1_give_31 rfl (lv_at hl 1 rfl) ?_
        refine r_ic hx hb dX1_give_32 ?_
        refine r_add hx hb dX1_give_33 ?_
        refine r_ic_eq (tgt := 40) hx hb dX1_give_34 (by decide) (by omega) (by omega) (fun c34_6 => ?_) (fun c34_6 => ?_)
        · refine lv_aload_n hx hb dX1_give_40 rfl (lv_at hl 0 rfl) ?_
          refine lv_iload_n hx hb dX1_give_41 rfl (lv_at hl 2 rfl) ?_
          refine k_nextFor hx hb hml hown hts hK hP hD hA hmb hmh hmw hms (by omega) (Nat.le_of_ble_eq_true rfl) (Nat.le_of_ble_eq_true rfl) (Nat.zero_le _) (Nat.zero_le _) hS hl.1 (Nat.le_of_ble_eq_true rfl) dX1_give_42 (fun H locs hP hD hS => ?_)
          have zn := nfM_rg (mb := mb) (mh := mh) (mw := mw) (ms := ms) (mu := mu) (l := lk)
          refine lv_istore_n (lv' := [(3, .int (iI (nfM mb mh mw ms mu lk))), (0, .ref h), (1, .int (iI t)), (2, .int (iI lk))]) hx hb dX1_give_45 rfl hl (by decide) rfl (fun ls hl => ?_)
          refine lv_aload_n hx hb dX1_give_46 rfl (lv_at hl 1 rfl) ?_
          refine y_gh hx hb hown hts hK hP dX1_give_47 ?_
          refine lv_iload_n hx hb dX1_give_50 rfl (lv_at hl 3 rfl) ?_
          refine lv_iload_n hx hb dX1_give_51 rfl (lv_at hl 0 rfl) ?_
          refine r_ic hx hb dX1_give_52 ?_
          refine r_add hx hb dX1_give_53 ?_
          refine y_sh hx hb hK hP hD hS (by omega) dX1_give_54 (fun H locs hP hD hS => ?_)
          refine lv_iload_n hx hb dX1_give_55 rfl (lv_at hl 0 rfl) ?_
          refine r_if_lt (tgt := 66) hx hb dX1_give_56 (by decide) (by omega) (fun c56_7 => ?_) (fun c56_7 => ?_)
          · refine lv_iload_n hx hb dX1_give_66 rfl (lv_at hl 0 rfl) ?_
            have ev : gvM mb mh mw ms tm mu t lk = (nfM mb mh mw ms mu lk, (mb, iu mh lk ((nfM mb mh mw ms mu lk) + 1), mw, ms, tm, ldG mb mh mw mu)) := by unfold gvM; rw [if_neg (by omega), if_pos (by omega)]
            exact W.iret (v := (iI (nfM mb mh mw ms mu lk))) hx hb hr (fun u hu hW => ⟨⟨_, (mb, iu mh lk ((nfM mb mh mw ms mu lk) + 1), mw, ms, tm, ldG mb mh mw mu), rfl, ⟨by rw [ev], by rw [ev]⟩, by rw [hu]; exact hP, va_K.moved hW.alike hK, hD⟩, hS.F hu⟩) hS.2.2 dX1_give_67
          · refine lv_aload_n hx hb dX1_give_59 rfl (lv_at hl 1 rfl) ?_
            refine y_gw hx hb hown hts hK hP dX1_give_60 ?_
            refine lv_iload_n hx hb dX1_give_63 rfl (lv_at hl 0 rfl) ?_
            refine r_ic hx hb dX1_give_64 ?_
            refine y_sw hx hb hK hP hD hS (by omega) dX1_give_65 (fun H locs hP hD hS => ?_)
            refine lv_iload_n hx hb dX1_give_66 rfl (lv_at hl 0 rfl) ?_
            have ev : gvM mb mh mw ms tm mu t lk = (nfM mb mh mw ms mu lk, (mb, iu mh lk ((nfM mb mh mw ms mu lk) + 1), iu mw (nfM mb mh mw ms mu lk) 0, ms, tm, ldG mb mh mw mu)) := by unfold gvM; rw [if_neg (by omega), if_neg (by omega)]
            exact W.iret (v := (iI (nfM mb mh mw ms mu lk))) hx hb hr (fun u hu hW => ⟨⟨_, (mb, iu mh lk ((nfM mb mh mw ms mu lk) + 1), iu mw (nfM mb mh mw ms mu lk) 0, ms, tm, ldG mb mh mw mu), rfl, ⟨by rw [ev], by rw [ev]⟩, by rw [hu]; exact hP, va_K.moved hW.alike hK, hD⟩, hS.F hu⟩) hS.2.2 dX1_give_67
        · refine r_bp hx hb dX1_give_37 (by decide +kernel) ?_
          have ev : gvM mb mh mw ms tm mu t lk = (-2, (mb, mh, mw, ms, tm, mu)) := by unfold gvM; rw [if_pos (by omega)]
          exact W.iret (v := (iI (-2))) hx hb hr (fun u hu hW => ⟨⟨_, (mb, mh, mw, ms, tm, mu), rfl, ⟨by rw [ev], by rw [ev]⟩, by rw [hu]; exact hP, va_K.moved hW.alike hK, hD⟩, hS.F hu⟩) hS.2.2 dX1_give_39
set_option maxHeartbeats 4000000 in
set_option maxRecDepth 100000 in
theorem mX1_giveUp (l : Launch) (D : va_G) (h : Nat) (a : Nat → Nat) (cB cI : ClassId) (sz : Nat) (mb mh mw ms : Int → Int) (tm : Int) (mu : Int → Int) (hmb : rg 0 10 6 mb) (hmh : rg 0 7 5 mh) (hmw : rg 0 6 6 mw) (hms : rg 0 1000000 6 ms) (htm : 0 ≤ tm ∧ tm < 1000000) (t : Int) (ht : -2147483648 ≤ t ∧ t < 2147483648) : Met l yX1_giveUp (ws_ yX1_giveUp cX1_giveUp 2 (some .boolean)) ({ frames := 1, cells := 0, slots := 0, locals := 21 }) (va_Pc [.ref h, .int (iI t)] (fun U => U.heap.size = sz ∧ va_P D vwCl (wM h a cI mb mh mw ms tm mu) U.heap ∧ va_K D vwCl (tX cB cI) U ∧ va_D (fun _ => True) (wM h a cI mb mh mw ms tm mu))) (va_Qi (fun (r : Int32) (u : PM) => r = iI (guM mb mh mw ms tm mu t).1 ∧ u = (guM mb mh mw ms tm mu t).2) (bM D (va_A (wM h a cI mb mh mw ms tm mu) sz) h a cB cI) (va_A (wM h a cI mb mh mw ms tm mu) sz)) 0 0 (va_A (wM h a cI mb mh mw ms tm mu) sz) := by
  refine Met.ofW (cc := cX1_giveUp) (maxL := 2) (ret := (some .boolean)) (by decide) rfl ?_
  intro p e s m args below meth c s₁ B hml hv
  obtain ⟨rfl, hsz, hP, hK, hD0⟩ := hv
  have hx := B.exec
  have hb := B.bytes
  have hr := B.returns
  have hts := atoms_spec (ws := ws_ yX1_giveUp cX1_giveUp 2 (some .boolean)) B.pre
  have hts : ∀ w ∈ lw_all, w.before _ s = true := fun w h => hts w (List.mem_cons_of_mem _ h)
  have hown : s.vm.findClass RX1 = some m.cls := findClass_of_methodNamed B.named
  have hlocks := B.notSynchronized
  subst hsz
  have hD := hD0.self (sz := s.heap.size)
  generalize hAe : va_A (wM h a cI mb mh mw ms tm mu) s.heap.size = A at hD ⊢
  have hA : ∀ q : Nat, s.heap.size ≤ q → A q := fun q h => by rw [← hAe]; exact Or.inr h
  have hS : va_S A s.heap s.heap [] := va_S.rf
  have hl := lv_entry ([.ref h, .int (iI t)]) (n := 2) (Nat.le_of_ble_eq_true rfl)
  rw [lg_entry_eq]
  generalize (lg_sl ([.ref h, .int (iI t)]) ++ List.replicate (2 - (lg_sl ([.ref h, .int (iI t)])).length) Slot.unset).toArray = ls at hl ⊢
  have hl : lv_has ls 2 [(0, .ref h), (1, .int (iI t))] := hl
  refine lv_aload_n hx hb dX1_giveUp_0 rfl (lv_at hl 0 rfl) ?_
  refine lv_iload_n hx hb dX1_giveUp_1 rfl (lv_at hl 1 rfl) ?_
  refine k_thread hx hb hml hown hts hK hP (by omega) (Nat.le_of_ble_eq_true rfl) (Nat.le_of_ble_eq_true rfl) (Nat.zero_le _) (Nat.zero_le _) hS hl.1 (Nat.le_of_ble_eq_true rfl) dX1_giveUp_2 (fun locs hS => ?_)
  refine r_peq (P := 0 ≤ t ∧ t < 6) (tgt := 17) hx hb ite_10 dX1_giveUp_5 (by decide) (fun c5_1 => ?_) (fun c5_1 => ?_)
  · refine r_ic hx hb dX1_giveUp_17 ?_
    have ev : guM mb mh mw ms tm mu t = (0, (mb, mh, mw, ms, tm, mu)) := by unfold guM; rw [if_pos (by omega)]
    exact W.zret (v := (iI 0)) hx hb hr (by decide +kernel) (fun u hu hW => ⟨⟨_, (mb, mh, mw, ms, tm, mu), rfl, ⟨by rw [ev], by rw [ev]⟩, by rw [hu]; exact hP, va_K.moved hW.alike hK, hD⟩, hS.F hu⟩) hS.2.2 dX1_giveUp_18
  · refine lv_aload_n hx hb dX1_giveUp_8 rfl (lv_at hl 0 rfl) ?_
    refine y_gw hx hb hown hts hK hP dX1_giveUp_9 ?_
    refine lv_iload_n hx hb dX1_giveUp_12 rfl (lv_at hl 1 rfl) ?_
    have z13_2 := hmw t (by omega) (by omega)
    refine y_lw hx hb hK hP (by omega) dX1_giveUp_13 ?_
    refine r_if_ne (tgt := 19) hx hb dX1_giveUp_14 (by decide) (by omega) (fun c14_3 => ?_) (fun c14_3 => ?_)
    · refine lv_aload_n hx hb dX1_giveUp_19 rfl (lv_at hl 0 rfl) ?_
      refine y_gw hx hb hown hts hK hP dX1_giveUp_20 ?_
      refine lv_iload_n hx hb dX1_giveUp_23 rfl (lv_at hl 1 rfl) ?_
      refine r_ic hx hb dX1_giveUp_24 ?_
      refine y_sw hx hb hK hP hD hS (by omega) dX1_giveUp_25 (fun H locs hP hD hS => ?_)
      refine r_ic hx hb dX1_giveUp_26 ?_
      have ev : guM mb mh mw ms tm mu t = (1, (mb, mh, iu mw t 0, ms, tm, mu)) := by unfold guM; rw [if_neg (by omega)]
      exact W.zret (v := (iI 1)) hx hb hr (by decide +kernel) (fun u hu hW => ⟨⟨_, (mb, mh, iu mw t 0, ms, tm, mu), rfl, ⟨by rw [ev], by rw [ev]⟩, by rw [hu]; exact hP, va_K.moved hW.alike hK, hD⟩, hS.F hu⟩) hS.2.2 dX1_giveUp_27
    · refine r_ic hx hb dX1_giveUp_17 ?_
      have ev : guM mb mh mw ms tm mu t = (0, (mb, mh, mw, ms, tm, mu)) := by unfold guM; rw [if_pos (by omega)]
      exact W.zret (v := (iI 0)) hx hb hr (by decide +kernel) (fun u hu hW => ⟨⟨_, (mb, mh, mw, ms, tm, mu), rfl, ⟨by rw [ev], by rw [ev]⟩, by rw [hu]; exact hP, va_K.moved hW.alike hK, hD⟩, hS.F hu⟩) hS.2.2 dX1_giveUp_18
set_option maxHeartbeats 4000000 in
set_option maxRecDepth 100000 in
theorem mX1_setBase (l : Launch) (D : va_G) (h : Nat) (a : Nat → Nat) (cB cI : ClassId) (sz : Nat) (mb mh mw ms : Int → Int) (tm : Int) (mu : Int → Int) (hmb : rg 0 10 6 mb) (hmh : rg 0 7 5 mh) (hmw : rg 0 6 6 mw) (hms : rg 0 1000000 6 ms) (htm : 0 ≤ tm ∧ tm < 1000000) (t ub : Int) (ht : -2147483648 ≤ t ∧ t < 2147483648) (hub : -2147483648 ≤ ub ∧ ub < 2147483648) : Met l yX1_setBase (ws_ yX1_setBase cX1_setBase 3 (some .boolean)) ({ frames := 1, cells := 0, slots := 0, locals := 21 }) (va_Pc [.ref h, .int (iI t), .int (iI ub)] (fun U => U.heap.size = sz ∧ va_P D vwCl (wM h a cI mb mh mw ms tm mu) U.heap ∧ va_K D vwCl (tX cB cI) U ∧ va_D (fun _ => True) (wM h a cI mb mh mw ms tm mu))) (va_Qi (fun (r : Int32) (u : PM) => r = iI (sbM mb mh mw ms tm mu t ub).1 ∧ u = (sbM mb mh mw ms tm mu t ub).2) (bM D (va_A (wM h a cI mb mh mw ms tm mu) sz) h a cB cI) (va_A (wM h a cI mb mh mw ms tm mu) sz)) 0 0 (va_A (wM h a cI mb mh mw ms tm mu) sz) := by
  refine Met.ofW (cc := cX1_setBase) (maxL := 3) (ret := (some .boolean)) (by decide) rfl ?_
  intro p e s m args below meth c s₁ B hml hv
  obtain ⟨rfl, hsz, hP, hK, hD0⟩ := hv
  have hx := B.exec
  have hb := B.bytes
  have hr := B.returns
  have hts := atoms_spec (ws := ws_ yX1_setBase cX1_setBase 3 (some .boolean)) B.pre
  have hts : ∀ w ∈ lw_all, w.before _ s = true := fun w h => hts w (List.mem_cons_of_mem _ h)
  have hown : s.vm.findClass RX1 = some m.cls := findClass_of_methodNamed B.named
  have hlocks := B.notSynchronized
  subst hsz
  have hD := hD0.self (sz := s.heap.size)
  generalize hAe : va_A (wM h a cI mb mh mw ms tm mu) s.heap.size = A at hD ⊢
  have hA : ∀ q : Nat, s.heap.size ≤ q → A q := fun q h => by rw [← hAe]; exact Or.inr h
  have hS : va_S A s.heap s.heap [] := va_S.rf
  have hl := lv_entry ([.ref h, .int (iI t), .int (iI ub)]) (n := 3) (Nat.le_of_ble_eq_true rfl)
  rw [lg_entry_eq]
  generalize (lg_sl ([.ref h, .int (iI t), .int (iI ub)]) ++ List.replicate (3 - (lg_sl ([.ref h, .int (iI t), .int (iI ub)])).length) Slot.unset).toArray = ls at hl ⊢
  have hl : lv_has ls 3 [(0, .ref h), (1, .int (iI t)), (2, .int (iI ub))] := hl
  refine lv_aload_n hx hb dX1_setBase_0 rfl (lv_at hl 0 rfl) ?_
  refine lv_iload_n hx hb dX1_setBase_1 rfl (lv_at hl 1 rfl) ?_
  refine k_thread hx hb hml hown hts hK hP (by omega) (Nat.le_of_ble_eq_true rfl) (Nat.le_of_ble_eq_true rfl) (Nat.zero_le _) (Nat.zero_le _) hS hl.1 (Nat.le_of_ble_eq_true rfl) dX1_setBase_2 (fun locs hS => ?_)
  refine r_peq (P := 0 ≤ t ∧ t < 6) (tgt := 18) hx hb ite_10 dX1_setBase_5 (by decide) (fun c5_1 => ?_) (fun c5_1 => ?_)
  · refine r_ic hx hb dX1_setBase_18 ?_
    have ev : sbM mb mh mw ms tm mu t ub = (0, (mb, mh, mw, ms, tm, mu)) := by unfold sbM; rw [if_pos (by omega)]
    exact W.zret (v := (iI 0)) hx hb hr (by decide +kernel) (fun u hu hW => ⟨⟨_, (mb, mh, mw, ms, tm, mu), rfl, ⟨by rw [ev], by rw [ev]⟩, by rw [hu]; exact hP, va_K.moved hW.alike hK, hD⟩, hS.F hu⟩) hS.2.2 dX1_setBase_19
  · refine lv_iload_n hx hb dX1_setBase_8 rfl (lv_at hl 2 rfl) ?_
    refine r_if_lt (tgt := 18) hx hb dX1_setBase_9 (by decide) (by omega) (fun c9_2 => ?_) (fun c9_2 => ?_)
    · refine r_ic hx hb dX1_setBase_18 ?_
      have ev : sbM mb mh mw ms tm mu t ub = (0, (mb, mh, mw, ms, tm, mu)) := by unfold sbM; rw [if_pos (by omega)]
      exact W.zret (v := (iI 0)) hx hb hr (by decide +kernel) (fun u hu hW => ⟨⟨_, (mb, mh, mw, ms, tm, mu), rfl, ⟨by rw [ev], by rw [ev]⟩, by rw [hu]; exact hP, va_K.moved hW.alike hK, hD⟩, hS.F hu⟩) hS.2.2 dX1_setBase_19
    · refine lv_iload_n hx hb dX1_setBase_12 rfl (lv_at hl 2 rfl) ?_
      refine r_bp hx hb dX1_setBase_13 (by decide +kernel) ?_
      refine r_ic_le (tgt := 20) hx hb dX1_setBase_15 (by decide) (by omega) (by omega) (fun c15_3 => ?_) (fun c15_3 => ?_)
      · refine lv_aload_n hx hb dX1_setBase_20 rfl (lv_at hl 0 rfl) ?_
        refine y_gb hx hb hown hts hK hP dX1_setBase_21 ?_
        refine lv_iload_n hx hb dX1_setBase_24 rfl (lv_at hl 1 rfl) ?_
        refine lv_iload_n hx hb dX1_setBase_25 rfl (lv_at hl 2 rfl) ?_
        refine y_sb hx hb hK hP hD hS (by omega) dX1_setBase_26 (fun H locs hP hD hS => ?_)
        refine r_ic hx hb dX1_setBase_27 ?_
        have ev : sbM mb mh mw ms tm mu t ub = (1, (iu mb t ub, mh, mw, ms, tm, mu)) := by unfold sbM; rw [if_neg (by omega)]
        exact W.zret (v := (iI 1)) hx hb hr (by decide +kernel) (fun u hu hW => ⟨⟨_, (iu mb t ub, mh, mw, ms, tm, mu), rfl, ⟨by rw [ev], by rw [ev]⟩, by rw [hu]; exact hP, va_K.moved hW.alike hK, hD⟩, hS.F hu⟩) hS.2.2 dX1_setBase_28
      · refine r_ic hx hb dX1_setBase_18 ?_
        have ev : sbM mb mh mw ms tm mu t ub = (0, (mb, mh, mw, ms, tm, mu)) := by unfold sbM; rw [if_pos (by omega)]
        exact W.zret (v := (iI 0)) hx hb hr (by decide +kernel) (fun u hu hW => ⟨⟨_, (mb, mh, mw, ms, tm, mu), rfl, ⟨by rw [ev], by rw [ev]⟩, by rw [hu]; exact hP, va_K.moved hW.alike hK, hD⟩, hS.F hu⟩) hS.2.2 dX1_setBase_19
end S11
end
section
/-! 12: the two constructors -/
def m1S (s : Int) (f : Int → Int) : Int → Int := iu f s (-1)
theorem m1_at {f : Int → Int} : ∀ (n : Nat) (s : Int), 0 ≤ s → s < (n : Int) → it m1S n f s = -1 := by
  intro n
  induction n with
  | zero => intro s h0 h1; omega
  | succ n ih =>
    intro s h0 h1
    rw [it1]
    unfold m1S iu
    split
    · rfl
    · exact ih s h0 (by omega)
theorem aF_ext {n : Nat} {f g : Int → Int} (h : ∀ j : Int, 0 ≤ j → j < (n : Int) → f j = g j) (cA : ClassId) : vp_cell cA (n, .inl (aF f)) = vp_cell cA (n, .inl (aF g)) := by
  have e : (fun j : Fin n => Value.int (aF f j.val)) = (fun j : Fin n => Value.int (aF g j.val)) := by
    funext j
    have hj := j.isLt
    unfold aF
    rw [h (j.val : Int) (by omega) (by omega)]
  exact congrArg (fun z => ({ cls := cA, slots := Array.ofFn z, vm := .none } : Cell)) e
theorem za {n : Nat} (cA : ClassId) : vp_cell cA (n, .inl (aF (fun _ => 0))) = arrV cA n (fun _ => Value.int 0) := by
  rw [vp_cell_i]
  show arrV cA n (fun _ => Value.int (iI 0)) = _
  rw [← iI_z]
theorem wX_w {D : va_G} {A : Nat → Prop} {H : Heap} {h : Nat} {a : Nat → Nat} {cB cI : ClassId} {fb fu fw fs fh f2 : Int → Int} {st : Int} (hP : va_P D vwCl (wX h a cB cI fb fu fw fs fh st) H) (hD : va_D A (wX h a cB cI fb fu fw fs fh st)) (e : ∀ j : Int, 0 ≤ j → j < 6 → fw j = f2 j) : va_P D vwCl (wX h a cB cI fb fu f2 fs fh st) H ∧ va_D A (wX h a cB cI fb fu f2 fs fh st) := by
  have h3 : H[a 2]? = some (vp_cell cB (6, .inl (aF fw))) := hP 3 _ rfl
  rw [aF_ext (n := 6) (g := f2) e] at h3
  exact ⟨hP.set hD (p := 3) (a := a 2) (e := .inl (cB, 6, .inl (aF f2))) rfl h3 (fun _ _ => rfl), hD.set (p := 3) (a := a 2) (e := .inl (cB, 6, .inl (aF f2))) rfl⟩
theorem wX_h {D : va_G} {A : Nat → Prop} {H : Heap} {h : Nat} {a : Nat → Nat} {cB cI : ClassId} {fb fu fw fs fh f2 : Int → Int} {st : Int} (hP : va_P D vwCl (wX h a cB cI fb fu fw fs fh st) H) (hD : va_D A (wX h a cB cI fb fu fw fs fh st)) (e : ∀ j : Int, 0 ≤ j → j < 5 → fh j = f2 j) : va_P D vwCl (wX h a cB cI fb fu fw fs f2 st) H ∧ va_D A (wX h a cB cI fb fu fw fs f2 st) := by
  have h3 : H[a 4]? = some (vp_cell cB (5, .inl (aF fh))) := hP 5 _ rfl
  rw [aF_ext (n := 5) (g := f2) e] at h3
  exact ⟨hP.set hD (p := 5) (a := a 4) (e := .inl (cB, 5, .inl (aF f2))) rfl h3 (fun _ _ => rfl), hD.set (p := 5) (a := a 4) (e := .inl (cB, 5, .inl (aF f2))) rfl⟩
theorem cls_b {D : va_G} {cl : List vw_C} {tys : List (ClassId × FieldType)} {s : State} {c1 c2 : ClassId} (hK : va_K D cl tys s) (i j : Nat) (h1 : tys[i]? = some (c1, .byte)) (h2 : tys[j]? = some (c2, .byte)) : c2 = c1 := by
  have e1 : s.vm.findClass _ = some c1 := (hK.2 i _ h1).2
  have e2 : s.vm.findClass _ = some c2 := (hK.2 j _ h2).2
  exact Option.some.inj (e2.symm.trans e1)
theorem cls_i {D : va_G} {cl : List vw_C} {tys : List (ClassId × FieldType)} {s : State} {c1 c2 : ClassId} (hK : va_K D cl tys s) (i j : Nat) (h1 : tys[i]? = some (c1, .int)) (h2 : tys[j]? = some (c2, .int)) : c2 = c1 := by
  have e1 : s.vm.findClass _ = some c1 := (hK.2 i _ h1).2
  have e2 : s.vm.findClass _ = some c2 := (hK.2 j _ h2).2
  exact Option.some.inj (e2.symm.trans e1)
section S12
variable {p : Program} {l : Launch} {e : Env} {R : Room} {s : State} {m : MethodId} {args : Array Value} {below : List Frame} {meth : Method} {c : Code} {H : Heap} {locs : List Loc} {cells slots : Nat} {Q : State → Prop}
variable {cc : ByteArray} {pc nL : Nat} {ls : Array Slot} {rest : List Value} {D : va_G} {A : Nat → Prop} {H0 : Heap} {h : Nat} {a : Nat → Nat} {cB cI : ClassId} {fb fu fw fs fh mb mh mw ms mu : Int → Int} {st tm : Int}
set_option maxHeartbeats 4000000 in
set_option maxRecDepth 100000 in
theorem lp_initA (hx : p.tables.exec = Jvm.exec) (hb : c.code = cX0_init) (hml : c.maxLocals = 2) (hown : s.vm.findClass RX0 = some m.cls) (hts : ∀ w ∈ lw_all, w.before args s = true) (hK : va_K D vwCl (tX cB cI) s) {g0 : Int → Int}
    (kk : ∀ (g : Int → Int) (H : Heap) (locs : List Loc) (ls : Array Slot), g = it m1S 6 g0 → va_P D vwCl (wX h a cB cI fb fu g fs fh st) H → va_D A (wX h a cB cI fb fu g fs fh st) → va_S A H0 H locs → lv_has ls 2 [(0, .ref h)] → W p l e R s m args below meth c H locs cells slots Q (F0 m 64 ls [])) :
    ∀ (n k : Nat) (g : Int → Int) (H : Heap) (locs : List Loc) (ls : Array Slot), k + n = 6 → g = it m1S k g0 → va_P D vwCl (wX h a cB cI fb fu g fs fh st) H → va_D A (wX h a cB cI fb fu g fs fh st) → va_S A H0 H locs → lv_has ls 2 [(0, .ref h), (1, .int (iI ((k : Int))))] → W p l e R s m args below meth c H locs cells slots Q (F0 m 45 ls []) := by
  intro n
  induction n with
  | zero =>
    intro k g H locs ls hk hv hP hD hS hl
    refine lv_iload_n hx hb dX0_init_45 rfl (lv_at hl 1 rfl) ?_
    refine r_bp hx hb dX0_init_46 (by decide +kernel) ?_
    refine r_ic_ge (tgt := 64) hx hb dX0_init_48 (by decide) (by omega) (by omega) (fun c48_1 => ?_) (fun c48_1 => by exfalso; omega)
    exact kk g H locs ls (by obtain rfl : k = 6 := (by omega); exact hv) hP hD hS (lv_sub hl [0] rfl)
  | succ n ih =>
    intro k g H locs ls hk hv hP hD hS hl
    refine lv_iload_n hx hb dX0_init_45 rfl (lv_at hl 1 rfl) ?_
    refine r_bp hx hb dX0_init_46 (by decide +kernel) ?_
    refine r_ic_ge (tgt := 64) hx hb dX0_init_48 (by decide) (by omega) (by omega) (fun c48_1 => by exfalso; omega) (fun c48_1 => ?_)
    refine lv_aload_n hx hb dX0_init_51 rfl (lv_at hl 0 rfl) ?_
    refine x_gw hx hb hown hts hK hP dX0_init_52 ?_
    refine lv_iload_n hx hb dX0_init_55 rfl (lv_at hl 1 rfl) ?_
    refine r_ic hx hb dX0_init_56 ?_
    refine x_sw hx hb hK hP hD hS (by omega) (by omega) dX0_init_57 (fun H locs hP hD hS => ?_)
    refine r_iinc (j := 1) (lv' := [(1, .int (iI (((k + 1 : Nat) : Int)))), (0, .ref h)]) (b := ((k + 1 : Nat) : Int)) hx hb dX0_init_58 hl rfl (by omega) (by decide) rfl (fun ls hl => ?_)
    refine lv_goto (tgt := 45) hx hb dX0_init_61 (by decide) ?_
    exact ih (k + 1) (iu g (k : Int) (-1)) H locs ls (by omega) (by rw [it1, ← hv]; rfl) hP hD hS (lv_sub hl [1, 0] rfl)
set_option maxHeartbeats 4000000 in
set_option maxRecDepth 100000 in
theorem lp_initB (hx : p.tables.exec = Jvm.exec) (hb : c.code = cX0_init) (hml : c.maxLocals = 2) (hown : s.vm.findClass RX0 = some m.cls) (hts : ∀ w ∈ lw_all, w.before args s = true) (hK : va_K D vwCl (tX cB cI) s) {g0 : Int → Int}
    (kk : ∀ (g : Int → Int) (H : Heap) (locs : List Loc) (ls : Array Slot), g = it m1S 5 g0 → va_P D vwCl (wX h a cB cI fb fu fw fs g st) H → va_D A (wX h a cB cI fb fu fw fs g st) → va_S A H0 H locs → lv_has ls 2 [(0, .ref h)] → W p l e R s m args below meth c H locs cells slots Q (F0 m 84 ls [])) :
    ∀ (n k : Nat) (g : Int → Int) (H : Heap) (locs : List Loc) (ls : Array Slot), k + n = 5 → g = it m1S k g0 → va_P D vwCl (wX h a cB cI fb fu fw fs g st) H → va_D A (wX h a cB cI fb fu fw fs g st) → va_S A H0 H locs → lv_has ls 2 [(0, .ref h), (1, .int (iI ((k : Int))))] → W p l e R s m args below meth c H locs cells slots Q (F0 m 66 ls []) := by
  intro n
  induction n with
  | zero =>
    intro k g H locs ls hk hv hP hD hS hl
    refine lv_iload_n hx hb dX0_init_66 rfl (lv_at hl 1 rfl) ?_
    refine r_ic hx hb dX0_init_67 ?_
    refine r_ic_ge (tgt := 84) hx hb dX0_init_68 (by decide) (by omega) (by omega) (fun c68_1 => ?_) (fun c68_1 => by exfalso; omega)
    exact kk g H locs ls (by obtain rfl : k = 5 := (by omega); exact hv) hP hD hS (lv_sub hl [0] rfl)
  | succ n ih =>
    intro k g H locs ls hk hv hP hD hS hl
    refine lv_iload_n hx hb dX0_init_66 rfl (lv_at hl 1 rfl) ?_
    refine r_ic hx hb dX0_init_67 ?_
    refine r_ic_ge (tgt := 84) hx hb dX0_init_68 (by decide) (by omega) (by omega) (fun c68_1 => by exfalso; omega) (fun c68_1 => ?_)
    refine lv_aload_n hx hb dX0_init_71 rfl (lv_at hl 0 rfl) ?_
    refine x_gh hx hb hown hts hK hP dX0_init_72 ?_
    refine lv_iload_n hx hb dX0_init_75 rfl (lv_at hl 1 rfl) ?_
    refine r_ic hx hb dX0_init_76 ?_
    refine x_sh hx hb hK hP hD hS (by omega) (by omega) dX0_init_77 (fun H locs hP hD hS => ?_)
    refine r_iinc (j := 1) (lv' := [(1, .int (iI (((k + 1 : Nat) : Int)))), (0, .ref h)]) (b := ((k + 1 : Nat) : Int)) hx hb dX0_init_78 hl rfl (by omega) (by decide) rfl (fun ls hl => ?_)
    refine lv_goto (tgt := 66) hx hb dX0_init_81 (by decide) ?_
    exact ih (k + 1) (iu g (k : Int) (-1)) H locs ls (by omega) (by rw [it1, ← hv]; rfl) hP hD hS (lv_sub hl [1, 0] rfl)
set_option maxHeartbeats 4000000 in
set_option maxRecDepth 100000 in
theorem mX0_init (l : Launch) (D : va_G) (h : Nat) (sz : Nat) : Met l yX0_init (ws_ yX0_init cX0_init 2 none) ({ frames := 1, cells := 5, slots := 29, locals := 12 }) (va_Pc [.ref h] (fun U => U.heap.size = sz ∧ va_P D vwCl [(h, .inr (0, [.null, .null, .null, .null, .null, .int (iI 0)]))] U.heap ∧ va_K D vwCl [] U ∧ va_D (fun _ => True) [(h, .inr (0, [.null, .null, .null, .null, .null, .int (iI 0)]))])) (va_Qv (fun _ : Unit => True) (fun _ t => ∃ (a : Nat → Nat) (cB cI : ClassId), va_P D vwCl (wX h a cB cI (fun _ => 0) (fun _ => 0) (fun _ => -1) (fun _ => 0) (fun _ => -1) 0) t.heap ∧ va_K D vwCl (tX cB cI) t ∧ va_D (va_A [(h, .inr (0, [.null, .null, .null, .null, .null, .int (iI 0)]))] sz) (wX h a cB cI (fun _ => 0) (fun _ => 0) (fun _ => -1) (fun _ => 0) (fun _ => -1) 0)) (va_A [(h, .inr (0, [.null, .null, .null, .null, .null, .int (iI 0)]))] sz)) 5 29 (va_A [(h, .inr (0, [.null, .null, .null, .null, .null, .int (iI 0)]))] sz) := by
  refine Met.ofW (cc := cX0_init) (maxL := 2) (ret := none) (by decide) rfl ?_
  intro p e s m args below meth c s₁ B hml hv
  obtain ⟨rfl, hsz, hP, hK, hD0⟩ := hv
  have hx := B.exec
  have hb := B.bytes
  have hr := B.returns
  have hts := atoms_spec (ws := ws_ yX0_init cX0_init 2 none) B.pre
  have hts : ∀ w ∈ lw_all, w.before _ s = true := fun w h => hts w (List.mem_cons_of_mem _ h)
  have hown : s.vm.findClass RX0 = some m.cls := findClass_of_methodNamed B.named
  have hlocks := B.notSynchronized
  have hin : meth.name = "<init>" := (name_of_methodNamed B.named B.method).1
  subst hsz
  have hD := hD0.self (sz := s.heap.size)
  generalize hAe : va_A [(h, .inr (0, [.null, .null, .null, .null, .null, .int (iI 0)]))] s.heap.size = A at hD ⊢
  have hA : ∀ q : Nat, s.heap.size ≤ q → A q := fun q h => by rw [← hAe]; exact Or.inr h
  have hS : va_S A s.heap s.heap [] := va_S.rf
  have hl := lv_entry ([.ref h]) (n := 2) (Nat.le_of_ble_eq_true rfl)
  rw [lg_entry_eq]
  generalize (lg_sl ([.ref h]) ++ List.replicate (2 - (lg_sl ([.ref h])).length) Slot.unset).toArray = ls at hl ⊢
  have hl : lv_has ls 2 [(0, .ref h)] := hl
  refine lv_aload_n hx hb dX0_init_0 rfl (lv_at hl 0 rfl) ?_
  refine W.objInit hx hb hown (hts _ q16) (hts _ q17) (hts _ q18) rfl (by rw [hml]; exact hl.1) rfl dX0_init_1 (Nat.le_of_ble_eq_true rfl) (Nat.le_of_ble_eq_true rfl) ?_
  refine W.eq (g2 := F0 m 4 ls []) rfl ?_
  refine lv_aload_n hx hb dX0_init_4 rfl (lv_at hl 0 rfl) ?_
  refine r_bp hx hb dX0_init_5 (by decide +kernel) ?_
  refine va_newa (atype := .byte) (D := D) (n := iI 6) (N' := 6) (a0 := (6, .inl (aF (fun _ => 0)))) hx hb (hts _ q38) rfl hK hP hD hS hA za (by decide +kernel) (by decide +kernel) (by decide) (Nat.le_of_ble_eq_true rfl) (Nat.le_of_ble_eq_true rfl) dX0_init_7 (fun q0 k0 H hK hP hD hS => ?_)
  refine W.widen (k := 1) (n := 6) (Nat.le_of_ble_eq_true rfl) (Nat.le_of_ble_eq_true rfl) ?_
  have hK : va_K D vwCl [(k0, .byte)] s := hK
  have hP : va_P D vwCl [(h, .inr (0, [.null, .null, .null, .null, .null, .int (iI 0)])), (q0, .inl (k0, 6, .inl (aF (fun _ => 0))))] H := hP
  have hD : va_D A [(h, .inr (0, [.null, .null, .null, .null, .null, .int (iI 0)])), (q0, .inl (k0, 6, .inl (aF (fun _ => 0))))] := hD
  refine va_putF (D := D) (ci := 0) (v := .ref q0) (ty := .array .byte) (C := RX0) (T := TX0) (N := 6) hx hb hts in_X0 tyX0 tyX0_ok nmX0 hown hK hP hD hS 0 rfl rfl 0 (by decide) (hts _ q19) (fun _ h9 => h9) rfl hin rfl (by decide +kernel) rfl rfl (Nat.le_of_ble_eq_true rfl) dX0_init_9 (fun H locs hP hD hS => ?_)
  have hP : va_P D vwCl [(h, .inr (0, [.ref q0, .null, .null, .null, .null, .int (iI 0)])), (q0, .inl (k0, 6, .inl (aF (fun _ => 0))))] H := hP
  have hD : va_D A [(h, .inr (0, [.ref q0, .null, .null, .null, .null, .int (iI 0)])), (q0, .inl (k0, 6, .inl (aF (fun _ => 0))))] := hD
  refine lv_aload_n hx hb dX0_init_12 rfl (lv_at hl 0 rfl) ?_
  refine r_bp hx hb dX0_init_13 (by decide +kernel) ?_
  refine va_newa (atype := .byte) (D := D) (n := iI 6) (N' := 6) (a0 := (6, .inl (aF (fun _ => 0)))) hx hb (hts _ q38) rfl hK hP hD hS hA za (by decide +kernel) (by decide +kernel) (by decide) (Nat.le_of_ble_eq_true rfl) (Nat.le_of_ble_eq_true rfl) dX0_init_15 (fun q1 k1 H hK hP hD hS => ?_)
  refine W.widen (k := 2) (n := 12) (Nat.le_of_ble_eq_true rfl) (Nat.le_of_ble_eq_true rfl) ?_
  have hK : va_K D vwCl [(k0, .byte), (k1, .byte)] s := hK
  have hP : va_P D vwCl [(h, .inr (0, [.ref q0, .null, .null, .null, .null, .int (iI 0)])), (q0, .inl (k0, 6, .inl (aF (fun _ => 0)))), (q1, .inl (k1, 6, .inl (aF (fun _ => 0))))] H := hP
  have hD : va_D A [(h, .inr (0, [.ref q0, .null, .null, .null, .null, .int (iI 0)])), (q0, .inl (k0, 6, .inl (aF (fun _ => 0)))), (q1, .inl (k1, 6, .inl (aF (fun _ => 0))))] := hD
  obtain rfl := (cls_b hK 0 1 rfl rfl).symm
  have hK := hK.sub (tys' := [(k0, .byte)]) [0] rfl
  refine va_putF (D := D) (ci := 0) (v := .ref q1) (ty := .array .byte) (C := RX0) (T := TX0) (N := 6) hx hb hts in_X0 tyX0 tyX0_ok nmX0 hown hK hP hD hS 0 rfl rfl 1 (by decide) (hts _ q20) (fun _ h9 => h9) rfl hin rfl (by decide +kernel) rfl rfl (Nat.le_of_ble_eq_true rfl) dX0_init_17 (fun H locs hP hD hS => ?_)
  have hP : va_P D vwCl [(h, .inr (0, [.ref q0, .ref q1, .null, .null, .null, .int (iI 0)])), (q0, .inl (k0, 6, .inl (aF (fun _ => 0)))), (q1, .inl (k0, 6, .inl (aF (fun _ => 0))))] H := hP
  have hD : va_D A [(h, .inr (0, [.ref q0, .ref q1, .null, .null, .null, .int (iI 0)])), (q0, .inl (k0, 6, .inl (aF (fun _ => 0)))), (q1, .inl (k0, 6, .inl (aF (fun _ => 0))))] := hD
  refine lv_aload_n hx hb dX0_init_20 rfl (lv_at hl 0 rfl) ?_
  refine r_bp hx hb dX0_init_21 (by decide +kernel) ?_
  refine va_newa (atype := .byte) (D := D) (n := iI 6) (N' := 6) (a0 := (6, .inl (aF (fun _ => 0)))) hx hb (hts _ q38) rfl hK hP hD hS hA za (by decide +kernel) (by decide +kernel) (by decide) (Nat.le_of_ble_eq_true rfl) (Nat.le_of_ble_eq_true rfl) dX0_init_23 (fun q2 k2 H hK hP hD hS => ?_)
  refine W.widen (k := 3) (n := 18) (Nat.le_of_ble_eq_true rfl) (Nat.le_of_ble_eq_true rfl) ?_
  have hK : va_K D vwCl [(k0, .byte), (k2, .byte)] s := hK
  have hP : va_P D vwCl [(h, .inr (0, [.ref q0, .ref q1, .null, .null, .null, .int (iI 0)])), (q0, .inl (k0, 6, .inl (aF (fun _ => 0)))), (q1, .inl (k0, 6, .inl (aF (fun _ => 0)))), (q2, .inl (k2, 6, .inl (aF (fun _ => 0))))] H := hP
  have hD : va_D A [(h, .inr (0, [.ref q0, .ref q1, .null, .null, .null, .int (iI 0)])), (q0, .inl (k0, 6, .inl (aF (fun _ => 0)))), (q1, .inl (k0, 6, .inl (aF (fun _ => 0)))), (q2, .inl (k2, 6, .inl (aF (fun _ => 0))))] := hD
  obtain rfl := (cls_b hK 0 1 rfl rfl).symm
  have hK := hK.sub (tys' := [(k0, .byte)]) [0] rfl
  refine va_putF (D := D) (ci := 0) (v := .ref q2) (ty := .array .byte) (C := RX0) (T := TX0) (N := 6) hx hb hts in_X0 tyX0 tyX0_ok nmX0 hown hK hP hD hS 0 rfl rfl 2 (by decide) (hts _ q21) (fun _ h9 => h9) rfl hin rfl (by decide +kernel) rfl rfl (Nat.le_of_ble_eq_true rfl) dX0_init_25 (fun H locs hP hD hS => ?_)
  have hP : va_P D vwCl [(h, .inr (0, [.ref q0, .ref q1, .ref q2, .null, .null, .int (iI 0)])), (q0, .inl (k0, 6, .inl (aF (fun _ => 0)))), (q1, .inl (k0, 6, .inl (aF (fun _ => 0)))), (q2, .inl (k0, 6, .inl (aF (fun _ => 0))))] H := hP
  have hD : va_D A [(h, .inr (0, [.ref q0, .ref q1, .ref q2, .null, .null, .int (iI 0)])), (q0, .inl (k0, 6, .inl (aF (fun _ => 0)))), (q1, .inl (k0, 6, .inl (aF (fun _ => 0)))), (q2, .inl (k0, 6, .inl (aF (fun _ => 0))))] := hD
  refine lv_aload_n hx hb dX0_init_28 rfl (lv_at hl 0 rfl) ?_
  refine r_bp hx hb dX0_init_29 (by decide +kernel) ?_
  refine va_newa (atype := .int) (D := D) (n := iI 6) (N' := 6) (a0 := (6, .inl (aF (fun _ => 0)))) hx hb (hts _ q39) rfl hK hP hD hS hA za (by decide +kernel) (by decide +kernel) (by decide) (Nat.le_of_ble_eq_true rfl) (Nat.le_of_ble_eq_true rfl) dX0_init_31 (fun q3 k3 H hK hP hD hS => ?_)
  refine W.widen (k := 4) (n := 24) (Nat.le_of_ble_eq_true rfl) (Nat.le_of_ble_eq_true rfl) ?_
  have hK : va_K D vwCl [(k0, .byte), (k3, .int)] s := hK
  have hP : va_P D vwCl [(h, .inr (0, [.ref q0, .ref q1, .ref q2, .null, .null, .int (iI 0)])), (q0, .inl (k0, 6, .inl (aF (fun _ => 0)))), (q1, .inl (k0, 6, .inl (aF (fun _ => 0)))), (q2, .inl (k0, 6, .inl (aF (fun _ => 0)))), (q3, .inl (k3, 6, .inl (aF (fun _ => 0))))] H := hP
  have hD : va_D A [(h, .inr (0, [.ref q0, .ref q1, .ref q2, .null, .null, .int (iI 0)])), (q0, .inl (k0, 6, .inl (aF (fun _ => 0)))), (q1, .inl (k0, 6, .inl (aF (fun _ => 0)))), (q2, .inl (k0, 6, .inl (aF (fun _ => 0)))), (q3, .inl (k3, 6, .inl (aF (fun _ => 0))))] := hD
  refine va_putF (D := D) (ci := 0) (v := .ref q3) (ty := .array .int) (C := RX0) (T := TX0) (N := 6) hx hb hts in_X0 tyX0 tyX0_ok nmX0 hown hK hP hD hS 0 rfl rfl 3 (by decide) (hts _ q22) (fun _ h9 => h9) rfl hin rfl (by decide +kernel) rfl rfl (Nat.le_of_ble_eq_true rfl) dX0_init_33 (fun H locs hP hD hS => ?_)
  have hP : va_P D vwCl [(h, .inr (0, [.ref q0, .ref q1, .ref q2, .ref q3, .null, .int (iI 0)])), (q0, .inl (k0, 6, .inl (aF (fun _ => 0)))), (q1, .inl (k0, 6, .inl (aF (fun _ => 0)))), (q2, .inl (k0, 6, .inl (aF (fun _ => 0)))), (q3, .inl (k3, 6, .inl (aF (fun _ => 0))))] H := hP
  have hD : va_D A [(h, .inr (0, [.ref q0, .ref q1, .ref q2, .ref q3, .null, .int (iI 0)])), (q0, .inl (k0, 6, .inl (aF (fun _ => 0)))), (q1, .inl (k0, 6, .inl (aF (fun _ => 0)))), (q2, .inl (k0, 6, .inl (aF (fun _ => 0)))), (q3, .inl (k3, 6, .inl (aF (fun _ => 0))))] := hD
  refine lv_aload_n hx hb dX0_init_36 rfl (lv_at hl 0 rfl) ?_
  refine r_ic hx hb dX0_init_37 ?_
  refine va_newa (atype := .byte) (D := D) (n := iI 5) (N' := 5) (a0 := (5, .inl (aF (fun _ => 0)))) hx hb (hts _ q38) rfl hK hP hD hS hA za (by decide +kernel) (by decide +kernel) (by decide) (Nat.le_of_ble_eq_true rfl) (Nat.le_of_ble_eq_true rfl) dX0_init_38 (fun q4 k4 H hK hP hD hS => ?_)
  refine W.widen (k := 5) (n := 29) (Nat.le_of_ble_eq_true rfl) (Nat.le_of_ble_eq_true rfl) ?_
  have hK : va_K D vwCl [(k0, .byte), (k3, .int), (k4, .byte)] s := hK
  have hP : va_P D vwCl [(h, .inr (0, [.ref q0, .ref q1, .ref q2, .ref q3, .null, .int (iI 0)])), (q0, .inl (k0, 6, .inl (aF (fun _ => 0)))), (q1, .inl (k0, 6, .inl (aF (fun _ => 0)))), (q2, .inl (k0, 6, .inl (aF (fun _ => 0)))), (q3, .inl (k3, 6, .inl (aF (fun _ => 0)))), (q4, .inl (k4, 5, .inl (aF (fun _ => 0))))] H := hP
  have hD : va_D A [(h, .inr (0, [.ref q0, .ref q1, .ref q2, .ref q3, .null, .int (iI 0)])), (q0, .inl (k0, 6, .inl (aF (fun _ => 0)))), (q1, .inl (k0, 6, .inl (aF (fun _ => 0)))), (q2, .inl (k0, 6, .inl (aF (fun _ => 0)))), (q3, .inl (k3, 6, .inl (aF (fun _ => 0)))), (q4, .inl (k4, 5, .inl (aF (fun _ => 0))))] := hD
  obtain rfl := (cls_b hK 0 2 rfl rfl).symm
  have hK := hK.sub (tys' := [(k0, .byte), (k3, .int)]) [0, 1] rfl
  refine va_putF (D := D) (ci := 0) (v := .ref q4) (ty := .array .byte) (C := RX0) (T := TX0) (N := 6) hx hb hts in_X0 tyX0 tyX0_ok nmX0 hown hK hP hD hS 0 rfl rfl 4 (by decide) (hts _ q23) (fun _ h9 => h9) rfl hin rfl (by decide +kernel) rfl rfl (Nat.le_of_ble_eq_true rfl) dX0_init_40 (fun H locs hP hD hS => ?_)
  have hP : va_P D vwCl [(h, .inr (0, [.ref q0, .ref q1, .ref q2, .ref q3, .ref q4, .int (iI 0)])), (q0, .inl (k0, 6, .inl (aF (fun _ => 0)))), (q1, .inl (k0, 6, .inl (aF (fun _ => 0)))), (q2, .inl (k0, 6, .inl (aF (fun _ => 0)))), (q3, .inl (k3, 6, .inl (aF (fun _ => 0)))), (q4, .inl (k0, 5, .inl (aF (fun _ => 0))))] H := hP
  have hD : va_D A [(h, .inr (0, [.ref q0, .ref q1, .ref q2, .ref q3, .ref q4, .int (iI 0)])), (q0, .inl (k0, 6, .inl (aF (fun _ => 0)))), (q1, .inl (k0, 6, .inl (aF (fun _ => 0)))), (q2, .inl (k0, 6, .inl (aF (fun _ => 0)))), (q3, .inl (k3, 6, .inl (aF (fun _ => 0)))), (q4, .inl (k0, 5, .inl (aF (fun _ => 0))))] := hD
  have hP : va_P D vwCl (wX h (fun k => match k with | 0 => q0 | 1 => q1 | 2 => q2 | 3 => q3 | _ => q4) k0 k3 (fun _ => 0) (fun _ => 0) (fun _ => 0) (fun _ => 0) (fun _ => 0) 0) H := hP
  have hD : va_D A (wX h (fun k => match k with | 0 => q0 | 1 => q1 | 2 => q2 | 3 => q3 | _ => q4) k0 k3 (fun _ => 0) (fun _ => 0) (fun _ => 0) (fun _ => 0) (fun _ => 0) 0) := hD
  refine r_ic hx hb dX0_init_43 ?_
  refine lv_istore_n (lv' := [(1, .int (iI 0)), (0, .ref h)]) hx hb dX0_init_44 rfl hl (by decide) rfl (fun ls hl => ?_)
  refine lp_initA hx hb hml hown hts hK (g0 := (fun _ => 0)) (fun g H locs ls hv hP hD hS hl => ?_) 6 0 (fun _ => 0) _ _ ls rfl rfl hP hD hS (lv_sub hl [1, 0] rfl)
  obtain ⟨hP, hD⟩ := wX_w (f2 := (fun _ => -1)) hP hD (fun j h0 h6 => by rw [hv]; exact m1_at 6 j h0 h6)
  refine r_ic hx hb dX0_init_64 ?_
  refine lv_istore_n (lv' := [(1, .int (iI 0)), (0, .ref h)]) hx hb dX0_init_65 rfl hl (by decide) rfl (fun ls hl => ?_)
  refine lp_initB hx hb hml hown hts hK (g0 := (fun _ => 0)) (fun g H locs ls hv hP hD hS hl => ?_) 5 0 (fun _ => 0) _ _ ls rfl rfl hP hD hS (lv_sub hl [1, 0] rfl)
  obtain ⟨hP, hD⟩ := wX_h (f2 := (fun _ => -1)) hP hD (fun j h0 h6 => by rw [hv]; exact m1_at 5 j h0 h6)
  exact W.vret hx hb hr (fun u hu hW => ⟨⟨(), rfl, trivial, (fun k => match k with | 0 => q0 | 1 => q1 | 2 => q2 | 3 => q3 | _ => q4), k0, k3, by rw [hu]; exact hP, va_K.moved hW.alike hK, hD⟩, hS.F hu⟩) hS.2.2 dX0_init_84
set_option maxHeartbeats 4000000 in
set_option maxRecDepth 100000 in
theorem mX1_init (l : Launch) (D : va_G) (h : Nat) (sz : Nat) : Met l yX1_init (ws_ yX1_init cX1_init 1 none) ({ frames := 1, cells := 5, slots := 29, locals := 12 }) (va_Pc [.ref h] (fun U => U.heap.size = sz ∧ va_P D vwCl [(h, .inr (1, [.null, .null, .null, .null, .int (iI 0), .null]))] U.heap ∧ va_K D vwCl [] U ∧ va_D (fun _ => True) [(h, .inr (1, [.null, .null, .null, .null, .int (iI 0), .null]))])) (va_Qv (fun _ : Unit => True) (fun _ t => ∃ (a : Nat → Nat) (cI : ClassId), va_P D vwCl (wM h a cI (fun _ => 0) (fun _ => 0) (fun _ => 0) (fun _ => 0) 0 (fun _ => 0)) t.heap ∧ va_K D vwCl [(cI, .int)] t ∧ va_D (va_A [(h, .inr (1, [.null, .null, .null, .null, .int (iI 0), .null]))] sz) (wM h a cI (fun _ => 0) (fun _ => 0) (fun _ => 0) (fun _ => 0) 0 (fun _ => 0))) (va_A [(h, .inr (1, [.null, .null, .null, .null, .int (iI 0), .null]))] sz)) 5 29 (va_A [(h, .inr (1, [.null, .null, .null, .null, .int (iI 0), .null]))] sz) := by
  refine Met.ofW (cc := cX1_init) (maxL := 1) (ret := none) (by decide) rfl ?_
  intro p e s m args below meth c s₁ B hml hv
  obtain ⟨rfl, hsz, hP, hK, hD0⟩ := hv
  have hx := B.exec
  have hb := B.bytes
  have hr := B.returns
  have hts := atoms_spec (ws := ws_ yX1_init cX1_init 1 none) B.pre
  have hts : ∀ w ∈ lw_all, w.before _ s = true := fun w h => hts w (List.mem_cons_of_mem _ h)
  have hown : s.vm.findClass RX1 = some m.cls := findClass_of_methodNamed B.named
  have hlocks := B.notSynchronized
  have hin : meth.name = "<init>" := (name_of_methodNamed B.named B.method).1
  subst hsz
  have hD := hD0.self (sz := s.heap.size)
  generalize hAe : va_A [(h, .inr (1, [.null, .null, .null, .null, .int (iI 0), .null]))] s.heap.size = A at hD ⊢
  have hA : ∀ q : Nat, s.heap.size ≤ q → A q := fun q h => by rw [← hAe]; exact Or.inr h
  have hS : va_S A s.heap s.heap [] := va_S.rf
  have hl := lv_entry ([.ref h]) (n := 1) (Nat.le_of_ble_eq_true rfl)
  rw [lg_entry_eq]
  generalize (lg_sl ([.ref h]) ++ List.replicate (1 - (lg_sl ([.ref h])).length) Slot.unset).toArray = ls at hl ⊢
  have hl : lv_has ls 1 [(0, .ref h)] := hl
  refine lv_aload_n hx hb dX1_init_0 rfl (lv_at hl 0 rfl) ?_
  refine W.objInit hx hb hown (hts _ q123) (hts _ q17) (hts _ q18) rfl (by rw [hml]; exact hl.1) rfl dX1_init_1 (Nat.le_of_ble_eq_true rfl) (Nat.le_of_ble_eq_true rfl) ?_
  refine W.eq (g2 := F0 m 4 ls []) rfl ?_
  refine lv_aload_n hx hb dX1_init_4 rfl (lv_at hl 0 rfl) ?_
  refine r_bp hx hb dX1_init_5 (by decide +kernel) ?_
  refine va_newa (atype := .int) (D := D) (n := iI 6) (N' := 6) (a0 := (6, .inl (aF (fun _ => 0)))) hx hb (hts _ q39) rfl hK hP hD hS hA za (by decide +kernel) (by decide +kernel) (by decide) (Nat.le_of_ble_eq_true rfl) (Nat.le_of_ble_eq_true rfl) dX1_init_7 (fun q0 k0 H hK hP hD hS => ?_)
  refine W.widen (k := 1) (n := 6) (Nat.le_of_ble_eq_true rfl) (Nat.le_of_ble_eq_true rfl) ?_
  have hK : va_K D vwCl [(k0, .int)] s := hK
  have hP : va_P D vwCl [(h, .inr (1, [.null, .null, .null, .null, .int (iI 0), .null])), (q0, .inl (k0, 6, .inl (aF (fun _ => 0))))] H := hP
  have hD : va_D A [(h, .inr (1, [.null, .null, .null, .null, .int (iI 0), .null])), (q0, .inl (k0, 6, .inl (aF (fun _ => 0))))] := hD
  refine va_put (D := D) (ci := 1) (v := .ref q0) (ty := .array .int) (C := RX1) (T := TX1) (N := 6) hx hb hts in_X1 tyX1 tyX1_ok nmX1 hown hK hP hD hS 0 rfl rfl 0 (by decide) (hts _ q124) (fun _ h9 => h9) rfl (by decide +kernel) rfl rfl (Nat.le_of_ble_eq_true rfl) dX1_init_9 (fun H locs hP hD hS => ?_)
  have hP : va_P D vwCl [(h, .inr (1, [.ref q0, .null, .null, .null, .int (iI 0), .null])), (q0, .inl (k0, 6, .inl (aF (fun _ => 0))))] H := hP
  have hD : va_D A [(h, .inr (1, [.ref q0, .null, .null, .null, .int (iI 0), .null])), (q0, .inl (k0, 6, .inl (aF (fun _ => 0))))] := hD
  refine lv_aload_n hx hb dX1_init_12 rfl (lv_at hl 0 rfl) ?_
  refine r_ic hx hb dX1_init_13 ?_
  refine va_newa (atype := .int) (D := D) (n := iI 5) (N' := 5) (a0 := (5, .inl (aF (fun _ => 0)))) hx hb (hts _ q39) rfl hK hP hD hS hA za (by decide +kernel) (by decide +kernel) (by decide) (Nat.le_of_ble_eq_true rfl) (Nat.le_of_ble_eq_true rfl) dX1_init_14 (fun q1 k1 H hK hP hD hS => ?_)
  refine W.widen (k := 2) (n := 11) (Nat.le_of_ble_eq_true rfl) (Nat.le_of_ble_eq_true rfl) ?_
  have hK : va_K D vwCl [(k0, .int), (k1, .int)] s := hK
  have hP : va_P D vwCl [(h, .inr (1, [.ref q0, .null, .null, .null, .int (iI 0), .null])), (q0, .inl (k0, 6, .inl (aF (fun _ => 0)))), (q1, .inl (k1, 5, .inl (aF (fun _ => 0))))] H := hP
  have hD : va_D A [(h, .inr (1, [.ref q0, .null, .null, .null, .int (iI 0), .null])), (q0, .inl (k0, 6, .inl (aF (fun _ => 0)))), (q1, .inl (k1, 5, .inl (aF (fun _ => 0))))] := hD
  obtain rfl := (cls_i hK 0 1 rfl rfl).symm
  have hK := hK.sub (tys' := [(k0, .int)]) [0] rfl
  refine va_put (D := D) (ci := 1) (v := .ref q1) (ty := .array .int) (C := RX1) (T := TX1) (N := 6) hx hb hts in_X1 tyX1 tyX1_ok nmX1 hown hK hP hD hS 0 rfl rfl 1 (by decide) (hts _ q125) (fun _ h9 => h9) rfl (by decide +kernel) rfl rfl (Nat.le_of_ble_eq_true rfl) dX1_init_16 (fun H locs hP hD hS => ?_)
  have hP : va_P D vwCl [(h, .inr (1, [.ref q0, .ref q1, .null, .null, .int (iI 0), .null])), (q0, .inl (k0, 6, .inl (aF (fun _ => 0)))), (q1, .inl (k0, 5, .inl (aF (fun _ => 0))))] H := hP
  have hD : va_D A [(h, .inr (1, [.ref q0, .ref q1, .null, .null, .int (iI 0), .null])), (q0, .inl (k0, 6, .inl (aF (fun _ => 0)))), (q1, .inl (k0, 5, .inl (aF (fun _ => 0))))] := hD
  refine lv_aload_n hx hb dX1_init_19 rfl (lv_at hl 0 rfl) ?_
  refine r_bp hx hb dX1_init_20 (by decide +kernel) ?_
  refine va_newa (atype := .int) (D := D) (n := iI 6) (N' := 6) (a0 := (6, .inl (aF (fun _ => 0)))) hx hb (hts _ q39) rfl hK hP hD hS hA za (by decide +kernel) (by decide +kernel) (by decide) (Nat.le_of_ble_eq_true rfl) (Nat.le_of_ble_eq_true rfl) dX1_init_22 (fun q2 k2 H hK hP hD hS => ?_)
  refine W.widen (k := 3) (n := 17) (Nat.le_of_ble_eq_true rfl) (Nat.le_of_ble_eq_true rfl) ?_
  have hK : va_K D vwCl [(k0, .int), (k2, .int)] s := hK
  have hP : va_P D vwCl [(h, .inr (1, [.ref q0, .ref q1, .null, .null, .int (iI 0), .null])), (q0, .inl (k0, 6, .inl (aF (fun _ => 0)))), (q1, .inl (k0, 5, .inl (aF (fun _ => 0)))), (q2, .inl (k2, 6, .inl (aF (fun _ => 0))))] H := hP
  have hD : va_D A [(h, .inr (1, [.ref q0, .ref q1, .null, .null, .int (iI 0), .null])), (q0, .inl (k0, 6, .inl (aF (fun _ => 0)))), (q1, .inl (k0, 5, .inl (aF (fun _ => 0)))), (q2, .inl (k2, 6, .inl (aF (fun _ => 0))))] := hD
  obtain rfl := (cls_i hK 0 1 rfl rfl).symm
  have hK := hK.sub (tys' := [(k0, .int)]) [0] rfl
  refine va_put (D := D) (ci := 1) (v := .ref q2) (ty := .array .int) (C := RX1) (T := TX1) (N := 6) hx hb hts in_X1 tyX1 tyX1_ok nmX1 hown hK hP hD hS 0 rfl rfl 2 (by decide) (hts _ q126) (fun _ h9 => h9) rfl (by decide +kernel) rfl rfl (Nat.le_of_ble_eq_true rfl) dX1_init_24 (fun H locs hP hD hS => ?_)
  have hP : va_P D vwCl [(h, .inr (1, [.ref q0, .ref q1, .ref q2, .null, .int (iI 0), .null])), (q0, .inl (k0, 6, .inl (aF (fun _ => 0)))), (q1, .inl (k0, 5, .inl (aF (fun _ => 0)))), (q2, .inl (k0, 6, .inl (aF (fun _ => 0))))] H := hP
  have hD : va_D A [(h, .inr (1, [.ref q0, .ref q1, .ref q2, .null, .int (iI 0), .null])), (q0, .inl (k0, 6, .inl (aF (fun _ => 0)))), (q1, .inl (k0, 5, .inl (aF (fun _ => 0)))), (q2, .inl (k0, 6, .inl (aF (fun _ => 0))))] := hD
  refine lv_aload_n hx hb dX1_init_27 rfl (lv_at hl 0 rfl) ?_
  refine r_bp hx hb dX1_init_28 (by decide +kernel) ?_
  refine va_newa (atype := .int) (D := D) (n := iI 6) (N' := 6) (a0 := (6, .inl (aF (fun _ => 0)))) hx hb (hts _ q39) rfl hK hP hD hS hA za (by decide +kernel) (by decide +kernel) (by decide) (Nat.le_of_ble_eq_true rfl) (Nat.le_of_ble_eq_true rfl) dX1_init_30 (fun q3 k3 H hK hP hD hS => ?_)
  refine W.widen (k := 4) (n := 23) (Nat.le_of_ble_eq_true rfl) (Nat.le_of_ble_eq_true rfl) ?_
  have hK : va_K D vwCl [(k0, .int), (k3, .int)] s := hK
  have hP : va_P D vwCl [(h, .inr (1, [.ref q0, .ref q1, .ref q2, .null, .int (iI 0), .null])), (q0, .inl (k0, 6, .inl (aF (fun _ => 0)))), (q1, .inl (k0, 5, .inl (aF (fun _ => 0)))), (q2, .inl (k0, 6, .inl (aF (fun _ => 0)))), (q3, .inl (k3, 6, .inl (aF (fun _ => 0))))] H := hP
  have hD : va_D A [(h, .inr (1, [.ref q0, .ref q1, .ref q2, .null, .int (iI 0), .null])), (q0, .inl (k0, 6, .inl (aF (fun _ => 0)))), (q1, .inl (k0, 5, .inl (aF (fun _ => 0)))), (q2, .inl (k0, 6, .inl (aF (fun _ => 0)))), (q3, .inl (k3, 6, .inl (aF (fun _ => 0))))] := hD
  obtain rfl := (cls_i hK 0 1 rfl rfl).symm
  have hK := hK.sub (tys' := [(k0, .int)]) [0] rfl
  refine va_put (D := D) (ci := 1) (v := .ref q3) (ty := .array .int) (C := RX1) (T := TX1) (N := 6) hx hb hts in_X1 tyX1 tyX1_ok nmX1 hown hK hP hD hS 0 rfl rfl 3 (by decide) (hts _ q127) (fun _ h9 => h9) rfl (by decide +kernel) rfl rfl (Nat.le_of_ble_eq_true rfl) dX1_init_32 (fun H locs hP hD hS => ?_)
  have hP : va_P D vwCl [(h, .inr (1, [.ref q0, .ref q1, .ref q2, .ref q3, .int (iI 0), .null])), (q0, .inl (k0, 6, .inl (aF (fun _ => 0)))), (q1, .inl (k0, 5, .inl (aF (fun _ => 0)))), (q2, .inl (k0, 6, .inl (aF (fun _ => 0)))), (q3, .inl (k0, 6, .inl (aF (fun _ => 0))))] H := hP
  have hD : va_D A [(h, .inr (1, [.ref q0, .ref q1, .ref q2, .ref q3, .int (iI 0), .null])), (q0, .inl (k0, 6, .inl (aF (fun _ => 0)))), (q1, .inl (k0, 5, .inl (aF (fun _ => 0)))), (q2, .inl (k0, 6, .inl (aF (fun _ => 0)))), (q3, .inl (k0, 6, .inl (aF (fun _ => 0))))] := hD
  refine lv_aload_n hx hb dX1_init_35 rfl (lv_at hl 0 rfl) ?_
  refine r_bp hx hb dX1_init_36 (by decide +kernel) ?_
  refine va_newa (atype := .int) (D := D) (n := iI 6) (N' := 6) (a0 := (6, .inl (aF (fun _ => 0)))) hx hb (hts _ q39) rfl hK hP hD hS hA za (by decide +kernel) (by decide +kernel) (by decide) (Nat.le_of_ble_eq_true rfl) (Nat.le_of_ble_eq_true rfl) dX1_init_38 (fun q4 k4 H hK hP hD hS => ?_)
  refine W.widen (k := 5) (n := 29) (Nat.le_of_ble_eq_true rfl) (Nat.le_of_ble_eq_true rfl) ?_
  have hK : va_K D vwCl [(k0, .int), (k4, .int)] s := hK
  have hP : va_P D vwCl [(h, .inr (1, [.ref q0, .ref q1, .ref q2, .ref q3, .int (iI 0), .null])), (q0, .inl (k0, 6, .inl (aF (fun _ => 0)))), (q1, .inl (k0, 5, .inl (aF (fun _ => 0)))), (q2, .inl (k0, 6, .inl (aF (fun _ => 0)))), (q3, .inl (k0, 6, .inl (aF (fun _ => 0)))), (q4, .inl (k4, 6, .inl (aF (fun _ => 0))))] H := hP
  have hD : va_D A [(h, .inr (1, [.ref q0, .ref q1, .ref q2, .ref q3, .int (iI 0), .null])), (q0, .inl (k0, 6, .inl (aF (fun _ => 0)))), (q1, .inl (k0, 5, .inl (aF (fun _ => 0)))), (q2, .inl (k0, 6, .inl (aF (fun _ => 0)))), (q3, .inl (k0, 6, .inl (aF (fun _ => 0)))), (q4, .inl (k4, 6, .inl (aF (fun _ => 0))))] := hD
  obtain rfl := (cls_i hK 0 1 rfl rfl).symm
  have hK := hK.sub (tys' := [(k0, .int)]) [0] rfl
  refine va_put (D := D) (ci := 1) (v := .ref q4) (ty := .array .int) (C := RX1) (T := TX1) (N := 6) hx hb hts in_X1 tyX1 tyX1_ok nmX1 hown hK hP hD hS 0 rfl rfl 5 (by decide) (hts _ q129) (fun _ h9 => h9) rfl (by decide +kernel) rfl rfl (Nat.le_of_ble_eq_true rfl) dX1_init_40 (fun H locs hP hD hS => ?_)
  have hP : va_P D vwCl [(h, .inr (1, [.ref q0, .ref q1, .ref q2, .ref q3, .int (iI 0), .ref q4])), (q0, .inl (k0, 6, .inl (aF (fun _ => 0)))), (q1, .inl (k0, 5, .inl (aF (fun _ => 0)))), (q2, .inl (k0, 6, .inl (aF (fun _ => 0)))), (q3, .inl (k0, 6, .inl (aF (fun _ => 0)))), (q4, .inl (k0, 6, .inl (aF (fun _ => 0))))] H := hP
  have hD : va_D A [(h, .inr (1, [.ref q0, .ref q1, .ref q2, .ref q3, .int (iI 0), .ref q4])), (q0, .inl (k0, 6, .inl (aF (fun _ => 0)))), (q1, .inl (k0, 5, .inl (aF (fun _ => 0)))), (q2, .inl (k0, 6, .inl (aF (fun _ => 0)))), (q3, .inl (k0, 6, .inl (aF (fun _ => 0)))), (q4, .inl (k0, 6, .inl (aF (fun _ => 0))))] := hD
  have hP : va_P D vwCl (wM h (fun k => match k with | 0 => q0 | 1 => q1 | 2 => q2 | 3 => q3 | _ => q4) k0 (fun _ => 0) (fun _ => 0) (fun _ => 0) (fun _ => 0) 0 (fun _ => 0)) H := hP
  have hD : va_D A (wM h (fun k => match k with | 0 => q0 | 1 => q1 | 2 => q2 | 3 => q3 | _ => q4) k0 (fun _ => 0) (fun _ => 0) (fun _ => 0) (fun _ => 0) 0 (fun _ => 0)) := hD
  exact W.vret hx hb hr (fun u hu hW => ⟨⟨(), rfl, trivial, (fun k => match k with | 0 => q0 | 1 => q1 | 2 => q2 | 3 => q3 | _ => q4), k0, by rw [hu]; exact hP, va_K.moved hW.alike hK, hD⟩, hS.F hu⟩) hS.2.2 dX1_init_43
end S12
end
section
/-! 13: the plain law, no program in sight: the wait graph, urgencies, what is behind a thread -/
theorem php : ∀ (n : Nat) (f : Nat → Nat), (∀ i, i ≤ n → f i < n) → ∃ i j, i < j ∧ j ≤ n ∧ f i = f j := by
  intro n
  induction n with
  | zero => intro f h; exact absurd (h 0 (Nat.le_refl 0)) (Nat.not_lt_zero _)
  | succ n ih =>
    intro f h
    by_cases hc : ∃ i, i ≤ n ∧ f i = f (n + 1)
    · obtain ⟨i, hi, e⟩ := hc
      exact ⟨i, n + 1, by omega, Nat.le_refl _, e⟩
    · have hne : ∀ i, i ≤ n → f i ≠ f (n + 1) := fun i hi e => hc ⟨i, hi, e⟩
      obtain ⟨i, j, hij, hj, e⟩ := ih (fun i => if f i = n then f (n + 1) else f i) (fun i hi => by
        have h1 := h i (by omega)
        have h2 := h (n + 1) (Nat.le_refl _)
        have h3 := hne i hi
        split <;> omega)
      refine ⟨i, j, hij, by omega, ?_⟩
      have h3 := hne i (by omega)
      have h4 := hne j hj
      split at e <;> split at e <;> omega
def par (fw fh : Int → Int) (s : Int) : Int := if 0 ≤ fw s then fh (fw s) else -1
theorem par_p {fw fh : Int → Int} {s : Int} (h : 0 ≤ fw s) : par fw fh s = fh (fw s) := if_pos h
theorem par_n {fw fh : Int → Int} {s : Int} (h : fw s < 0) : par fw fh s = -1 := if_neg (by omega)
theorem par_rg {fw fh : Int → Int} (hfw : rg (-1) 5 6 fw) (hfh : rg (-1) 6 5 fh) : rg (-1) 6 6 (par fw fh) := by
  intro s h0 h6
  have h1 := hfw s h0 h6
  unfold par
  split
  · exact hfh (fw s) (by assumption) (by omega)
  · omega
def pit (P : Int → Int) : Nat → Int → Int
  | 0, s => s
  | n + 1, s => if pit P n s < 0 then -1 else P (pit P n s)
theorem pit_1 {P : Int → Int} {n : Nat} {s : Int} : pit P (n + 1) s = if pit P n s < 0 then -1 else P (pit P n s) := rfl
theorem pit_s {P : Int → Int} {s : Int} : ∀ n : Nat, pit P (n + 1) s = pit P n (if s < 0 then -1 else P s)
  | 0 => rfl
  | n + 1 => by rw [pit_1, pit_s n, pit_1]
theorem pit_dn {P : Int → Int} {n : Nat} {s : Int} (h : pit P n s < 0) : ∀ m : Nat, pit P (n + 1 + m) s = -1
  | 0 => if_pos h
  | m + 1 => by
    rw [show n + 1 + (m + 1) = (n + 1 + m) + 1 from rfl, pit_1, pit_dn h m, if_pos (by omega)]
theorem pit_ng {P : Int → Int} {s : Int} (h : s < 0) (n : Nat) : pit P (n + 1) s = -1 := by
  have h1 := pit_dn (P := P) (n := 0) (s := s) h n
  rw [show n + 1 = 0 + 1 + n by omega]
  exact h1
theorem pit_rg {P : Int → Int} (hP : rg (-1) 6 6 P) {s : Int} (h0 : 0 ≤ s) (h6 : s < 6) : ∀ n : Nat, -1 ≤ pit P n s ∧ pit P n s < 6
  | 0 => ⟨Int.le_trans (by omega) h0, h6⟩
  | n + 1 => by
    have ih := pit_rg hP h0 h6 n
    rw [pit_1]
    split
    · omega
    · exact hP _ (by omega) ih.2
/-- a measure that grows along every edge: no ring -/
def RK (P : Int → Int) : Prop := ∃ ρ : Int → Nat, ∀ s, 0 ≤ s → s < 6 → 0 ≤ P s → ρ s < ρ (P s)
theorem pit6 {P : Int → Int} (hP : rg (-1) 6 6 P) (hR : RK P) {s : Int} (h0 : 0 ≤ s) (h6 : s < 6) : pit P 6 s = -1 := by
  obtain ⟨ρ, hρ⟩ := hR
  by_cases h : pit P 6 s = -1
  · exact h
  · exfalso
    have hr := pit_rg hP h0 h6
    have hge : ∀ i, i ≤ 6 → 0 ≤ pit P i s := by
      intro i hi
      by_cases hi6 : i = 6
      · have h1 := hr i
        rw [hi6] at h1 ⊢
        omega
      · by_cases hn : 0 ≤ pit P i s
        · exact hn
        · have h1 := pit_dn (P := P) (n := i) (s := s) (by omega) (5 - i)
          rw [show i + 1 + (5 - i) = 6 by omega] at h1
          exact absurd h1 h
    have hinc : ∀ i, i < 6 → ρ (pit P i s) < ρ (pit P (i + 1) s) := by
      intro i hi
      have h1 := hge i (by omega)
      have h2 := hge (i + 1) (by omega)
      have e : pit P (i + 1) s = P (pit P i s) := by rw [pit_1, if_neg (by omega)]
      rw [e] at h2 ⊢
      exact hρ _ h1 (hr i).2 h2
    have hmono : ∀ j i, i < j → j ≤ 6 → ρ (pit P i s) < ρ (pit P j s) := by
      intro j
      induction j with
      | zero => intro i h1 _; omega
      | succ j ih =>
        intro i h1 h2
        have h3 := hinc j (by omega)
        by_cases e : i = j
        · rw [e]; exact h3
        · exact Nat.lt_trans (ih i (by omega) (by omega)) h3
    obtain ⟨i, j, hij, hj, e⟩ := php 6 (fun i => (pit P i s).toNat) (fun i hi => by
      have h1 := hge i hi
      have h2 := hr i
      omega)
    have h1 := hge i (by omega)
    have h2 := hge j hj
    have e2 : pit P i s = pit P j s := by omega
    have h3 := hmono j i hij hj
    rw [e2] at h3
    exact absurd h3 (Nat.lt_irrefl _)
theorem pit_lt6 {P : Int → Int} (hP : rg (-1) 6 6 P) (hR : RK P) {s o : Int} {k : Nat} (h0 : 0 ≤ s) (h6 : s < 6) (ho : 0 ≤ o) (e : pit P (k + 1) s = o) : k < 6 := by
  by_cases h : k < 6
  · exact h
  · have h1 := pit_dn (P := P) (n := 6) (s := s) (by rw [pit6 hP hR h0 h6]; omega) (k - 6)
    rw [show 6 + 1 + (k - 6) = k + 1 by omega] at h1
    omega
theorem RK_self {P : Int → Int} (hR : RK P) {x : Int} (h0 : 0 ≤ x) (h6 : x < 6) : P x ≠ x := by
  obtain ⟨ρ, hρ⟩ := hR
  intro e
  have h := hρ x h0 h6 (by rw [e]; exact h0)
  rw [e] at h
  exact absurd h (Nat.lt_irrefl _)
theorem RK_congr {P P2 : Int → Int} (hR : RK P) (e : ∀ s, 0 ≤ s → s < 6 → P2 s = P s) : RK P2 := by
  obtain ⟨ρ, hρ⟩ := hR
  exact ⟨ρ, fun s h0 h6 h => by rw [e s h0 h6] at h ⊢; exact hρ s h0 h6 h⟩
/-- x is the greatest of t's base and of the urgencies of those that wait for t -/
def IsL (P b u : Int → Int) (t x : Int) : Prop := b t ≤ x ∧ (∀ s, 0 ≤ s → s < 6 → P s = t → u s ≤ x) ∧ (x = b t ∨ ∃ s, 0 ≤ s ∧ s < 6 ∧ P s = t ∧ u s = x)
theorem IsL_congr {P P2 b u : Int → Int} {t x : Int} (h : IsL P b u t x) (e : ∀ s, 0 ≤ s → s < 6 → (P2 s = t ↔ P s = t)) : IsL P2 b u t x := by
  obtain ⟨h1, h2, h3⟩ := h
  refine ⟨h1, fun s h0 h6 q => h2 s h0 h6 ((e s h0 h6).mp q), ?_⟩
  rcases h3 with h | ⟨s, h0, h6, q, r⟩
  · exact Or.inl h
  · exact Or.inr ⟨s, h0, h6, (e s h0 h6).mpr q, r⟩
theorem IsL_base {P b b2 u : Int → Int} {t x : Int} (h : IsL P b u t x) (e : b2 t = b t) : IsL P b2 u t x := by
  unfold IsL
  rw [e]
  exact h
theorem IsL_iu {P b g : Int → Int} {t x y v : Int} (h : IsL P b g t v) (hne : P x ≠ t) : IsL P b (iu g x y) t v := by
  obtain ⟨h1, h2, h3⟩ := h
  have hs : ∀ s, P s = t → s ≠ x := fun s q r => hne (by rw [← r]; exact q)
  refine ⟨h1, fun s h0 h6 q => ?_, ?_⟩
  · rw [iu_n (hs s q)]; exact h2 s h0 h6 q
  · rcases h3 with h | ⟨s, h0, h6, q, r⟩
    · exact Or.inl h
    · exact Or.inr ⟨s, h0, h6, q, by rw [iu_n (hs s q)]; exact r⟩
theorem lnt_is {fb fu fw fh : Int → Int} {t : Int} (ht : 0 ≤ t) : IsL (par fw fh) fb fu t (lnt fb fu fw fh t) := by
  have key : ∀ n : Nat, fb t ≤ it (lnS fu fw fh t) n (fb t) ∧ (∀ s, 0 ≤ s → s < (n : Int) → par fw fh s = t → fu s ≤ it (lnS fu fw fh t) n (fb t)) ∧ (it (lnS fu fw fh t) n (fb t) = fb t ∨ ∃ s, 0 ≤ s ∧ s < (n : Int) ∧ par fw fh s = t ∧ fu s = it (lnS fu fw fh t) n (fb t)) := by
    intro n
    induction n with
    | zero => exact ⟨Int.le_refl _, fun s h0 h1 => by omega, Or.inl rfl⟩
    | succ n ih =>
      rw [it1]
      obtain ⟨v, hv⟩ : ∃ v, v = it (lnS fu fw fh t) n (fb t) := ⟨_, rfl⟩
      rw [← hv] at ih ⊢
      have hp : par fw fh (n : Int) = t ↔ (0 ≤ fw (n : Int) ∧ fh (fw (n : Int)) = t) := by
        unfold par
        split
        · exact ⟨fun q => ⟨by assumption, q⟩, fun q => q.2⟩
        · exact ⟨fun q => by omega, fun q => absurd q.1 (by assumption)⟩
      unfold lnS
      split
      · rename_i hc
        refine ⟨by omega, fun s h0 h1 q => ?_, Or.inr ⟨(n : Int), by omega, by omega, hp.mpr ⟨hc.1, hc.2.1⟩, rfl⟩⟩
        by_cases e : s = (n : Int)
        · rw [e]; exact Int.le_refl _
        · have h3 := ih.2.1 s h0 (by omega) q
          omega
      · rename_i hc
        refine ⟨ih.1, fun s h0 h1 q => ?_, ?_⟩
        · by_cases e : s = (n : Int)
          · rw [e] at q ⊢
            have h3 := hp.mp q
            omega
          · exact ih.2.1 s h0 (by omega) q
        · rcases ih.2.2 with h | ⟨s, h0, h1, q, r⟩
          · exact Or.inl h
          · exact Or.inr ⟨s, h0, by omega, q, r⟩
  exact key 6
def OKu (P b u : Int → Int) : Prop := ∀ t, 0 ≤ t → t < 6 → IsL P b u t (u t)
/-- refresh repairs: if all urgencies but x's (and those that Z names) are right, then behind it all but those that Z names are -/
theorem rfr_ok {fb fw fh : Int → Int} (hfw : rg (-1) 5 6 fw) (hfh : rg (-1) 6 5 fh) (hwk : wk fw fh) (hR : RK (par fw fh)) (Z : Int → Prop) :
    ∀ (n : Nat) (g : Int → Int) (x : Int), ((x < 0 ∧ ∀ t, 0 ≤ t → t < 6 → ¬ Z t → IsL (par fw fh) fb g t (g t)) ∨ (0 ≤ x ∧ x < 6 ∧ pit (par fw fh) n x = -1 ∧ ∀ t, 0 ≤ t → t < 6 → t ≠ x → ¬ Z t → IsL (par fw fh) fb g t (g t))) →
      ∀ t, 0 ≤ t → t < 6 → ¬ Z t → IsL (par fw fh) fb (rfr fb fw fh n g x) t (rfr fb fw fh n g x t) := by
  intro n
  induction n with
  | zero =>
    intro g x h
    rcases h with ⟨_, h⟩ | ⟨h0, _, hp, _⟩
    · exact h
    · have hp : x = -1 := hp
      omega
  | succ n ih =>
    intro g x h
    rcases h with ⟨hx, h⟩ | ⟨h0, h6, hp, h⟩
    · rw [rfr_n _ hx]
      exact h
    · rw [rfr_p h0]
      have hL := lnt_is (fb := fb) (fu := g) (fw := fw) (fh := fh) h0
      obtain ⟨y, hy⟩ : ∃ y, y = lnt fb g fw fh x := ⟨_, rfl⟩
      rw [← hy] at hL ⊢
      have hself := RK_self hR h0 h6
      have okx : IsL (par fw fh) fb (iu g x y) x (iu g x y x) := by
        rw [iu_s]
        exact IsL_iu hL hself
      have okt : ∀ t, 0 ≤ t → t < 6 → t ≠ x → par fw fh x ≠ t → ¬ Z t → IsL (par fw fh) fb (iu g x y) t (iu g x y t) := by
        intro t t0 t6 hne hnp hz
        rw [iu_n hne]
        exact IsL_iu (h t t0 t6 hne hz) hnp
      apply ih
      split
      · rename_i hc
        refine Or.inl ⟨by omega, fun t t0 t6 hz => ?_⟩
        by_cases etx : t = x
        · rw [etx]; exact okx
        · rcases hc with he | hf
          · have e : iu g x y = g := by
              funext j
              unfold iu
              split
              · rename_i q; rw [q, he]
              · rfl
            rw [e]
            exact h t t0 t6 etx hz
          · exact okt t t0 t6 etx (by rw [par_n hf]; omega) hz
      · rename_i hc
        have hfx : 0 ≤ fw x := by omega
        have hw := hfw x h0 h6
        refine Or.inr ⟨hwk x h0 h6 hfx, (hfh (fw x) hfx hw.2).2, ?_, fun t t0 t6 hne hz => ?_⟩
        · rw [pit_s, if_neg (by omega), par_p hfx] at hp
          exact hp
        · by_cases etx : t = x
          · rw [etx]; exact okx
          · exact okt t t0 t6 etx (by rw [par_p hfx]; exact fun q => hne q.symm) hz
theorem dpo_iff {fw fh : Int → Int} (hfw : rg (-1) 5 6 fw) (hfh : rg (-1) 6 5 fh) (hwk : wk fw fh) {o : Int} (ho : 0 ≤ o) : ∀ (n : Nat) (x : Int), 0 ≤ x → x < 6 → (dpo fw fh o n x = true ↔ ∃ k, k < n ∧ pit (par fw fh) (k + 1) x = o) := by
  intro n
  induction n with
  | zero =>
    intro x _ _
    refine ⟨fun h => ?_, fun ⟨k, hk, _⟩ => by omega⟩
    have h1 : dpo fw fh o 0 x = false := rfl
    rw [h1] at h
    cases h
  | succ n ih =>
    intro x h0 h6
    by_cases hf : fw x < 0
    · rw [dpo_n hf]
      refine ⟨fun h => (by cases h), fun ⟨k, hk, e⟩ => ?_⟩
      exfalso
      rw [pit_s, if_neg (by omega), par_n hf] at e
      cases k with
      | zero => have e : (-1 : Int) = o := e; omega
      | succ k => rw [pit_ng (by omega)] at e; omega
    · have hfx : 0 ≤ fw x := by omega
      have hw := hfw x h0 h6
      by_cases h2 : fh (fw x) = o
      · rw [dpo_e hfx h2]
        refine ⟨fun _ => ⟨0, by omega, ?_⟩, fun _ => rfl⟩
        rw [pit_s, if_neg (by omega), par_p hfx]
        exact h2
      · rw [dpo_s hfx h2, ih _ (hwk x h0 h6 hfx) (hfh (fw x) hfx hw.2).2]
        constructor
        · intro ⟨k, hk, e⟩
          exact ⟨k + 1, by omega, by rw [pit_s, if_neg (by omega), par_p hfx]; exact e⟩
        · intro ⟨k, hk, e⟩
          rw [pit_s, if_neg (by omega), par_p hfx] at e
          cases k with
          | zero => exact absurd e h2
          | succ k => exact ⟨k, by omega, e⟩
-- what is behind a thread, by passes
theorem bu_k {B : Int → Bool} {x s : Int} (h : B s = true) : bu B x s = true := by
  unfold bu
  rw [h, Bool.or_true]
theorem bu_x {B : Int → Bool} {x : Int} : bu B x x = true := by
  unfold bu
  rw [beq_self_eq_true, Bool.true_or]
theorem bu_c {B : Int → Bool} {x s : Int} (h : bu B x s = true) : s = x ∨ B s = true := by
  unfold bu at h
  rw [Bool.or_eq_true] at h
  rcases h with h | h
  · exact Or.inl (eq_of_beq h)
  · exact Or.inr h
theorem bh_m {mh mw : Int → Int} {t x s : Int} {B : Int → Bool} (h : B s = true) : bhM mh mw t x B s = true := by
  unfold bhM
  split
  · exact bu_k h
  · exact h
theorem bhs_m {mh mw : Int → Int} {t s : Int} {B : Int → Bool} (h : B s = true) : ∀ n : Nat, it (bhM mh mw t) n B s = true
  | 0 => h
  | n + 1 => bh_m (bhs_m h n)
theorem bhs_hit {mh mw : Int → Int} {t : Int} {B : Int → Bool} : ∀ (n : Nat) (s : Int), 0 ≤ s → s < (n : Int) → 0 ≤ pM mw mh s → (pM mw mh s = t ∨ B (pM mw mh s) = true) → it (bhM mh mw t) n B s = true := by
  intro n
  induction n with
  | zero => intro s h0 h1; omega
  | succ n ih =>
    intro s h0 h1 hp hq
    by_cases e : s = (n : Int)
    · rw [it1, ← e]
      unfold bhM
      rw [if_pos ⟨hp, hq.elim Or.inl (fun q => Or.inr (bhs_m q n))⟩]
      exact bu_x
    · rw [it1]
      exact bh_m (ih s h0 (by omega) hp hq)
def bhI (P : Int → Int) (t : Int) (B : Int → Bool) : Prop := ∀ s, 0 ≤ s → s < 6 → B s = true → ∃ k, pit P (k + 1) s = t
theorem bh_i {mh mw : Int → Int} (hP : rg (-1) 6 6 (pM mw mh)) {t x : Int} {B : Int → Bool} (h0 : 0 ≤ x) (h6 : x < 6) (h : bhI (pM mw mh) t B) : bhI (pM mw mh) t (bhM mh mw t x B) := by
  intro s s0 s6 hs
  unfold bhM at hs
  split at hs
  · rename_i hc
    rcases bu_c hs with e | e
    · rw [e]
      rcases hc.2 with q | q
      · exact ⟨0, by rw [pit_s, if_neg (by omega)]; exact q⟩
      · obtain ⟨k, hk⟩ := h _ hc.1 (hP x h0 h6).2 q
        exact ⟨k + 1, by rw [pit_s, if_neg (by omega)]; exact hk⟩
    · exact h s s0 s6 e
  · exact h s s0 s6 hs
theorem bhs_i {mh mw : Int → Int} (hP : rg (-1) 6 6 (pM mw mh)) {t : Int} {B : Int → Bool} (h : bhI (pM mw mh) t B) : ∀ n : Nat, n ≤ 6 → bhI (pM mw mh) t (it (bhM mh mw t) n B) := by
  intro n
  induction n with
  | zero => intro _; exact h
  | succ n ih => intro hn; rw [it1]; exact bh_i hP (by omega) (by omega) (ih (by omega))
theorem bhp_i {mh mw : Int → Int} (hP : rg (-1) 6 6 (pM mw mh)) {t : Int} : ∀ n : Nat, bhI (pM mw mh) t (it (bpM mh mw t) n b0) := by
  intro n
  induction n with
  | zero => intro s _ _ h; cases h
  | succ n ih => rw [it1]; exact bhs_i hP ih 6 (Nat.le_refl 6)
theorem bhp_c {mh mw : Int → Int} (hP : rg (-1) 6 6 (pM mw mh)) {t : Int} (ht : 0 ≤ t) : ∀ (n : Nat) (s : Int) (k : Nat), 0 ≤ s → s < 6 → k < n → pit (pM mw mh) (k + 1) s = t → it (bpM mh mw t) n b0 s = true := by
  intro n
  induction n with
  | zero => intro s k _ _ hk; omega
  | succ n ih =>
    intro s k h0 h6 hk e
    rw [it1]
    rw [pit_s, if_neg (by omega)] at e
    have hr := hP s h0 h6
    have hp : 0 ≤ pM mw mh s := by
      by_cases q : 0 ≤ pM mw mh s
      · exact q
      · exfalso
        cases k with
        | zero => have e : pM mw mh s = t := e; omega
        | succ k => rw [pit_ng (by omega)] at e; omega
    refine bhs_hit 6 s h0 h6 hp ?_
    cases k with
    | zero => exact Or.inl e
    | succ k => exact Or.inr (ih _ k hp hr.2 (by omega) e)
theorem bhd_iff {mh mw : Int → Int} (hP : rg (-1) 6 6 (pM mw mh)) (hR : RK (pM mw mh)) {t s : Int} (ht : 0 ≤ t) (h0 : 0 ≤ s) (h6 : s < 6) : bhd mh mw t s = true ↔ ∃ k, k < 6 ∧ pit (pM mw mh) (k + 1) s = t := by
  constructor
  · intro h
    obtain ⟨k, e⟩ := bhp_i hP 6 s h0 h6 h
    exact ⟨k, pit_lt6 hP hR h0 h6 ht e, e⟩
  · intro ⟨k, hk, e⟩
    exact bhp_c hP ht 6 s k h0 h6 hk e
-- lending
theorem ln_m {mh mw g : Int → Int} {s t : Int} : g t ≤ lnM mh mw s g t := by
  unfold lnM
  split
  · rename_i hc
    unfold iu
    split
    · rename_i e; rw [e]; omega
    · exact Int.le_refl _
  · exact Int.le_refl _
theorem lns_m {mh mw g : Int → Int} {t : Int} : ∀ n : Nat, g t ≤ it (lnM mh mw) n g t
  | 0 => Int.le_refl _
  | n + 1 => Int.le_trans (lns_m n) ln_m
theorem ps_m {mh mw g : Int → Int} {t : Int} : ∀ n : Nat, g t ≤ it (psM mh mw) n g t
  | 0 => Int.le_refl _
  | n + 1 => Int.le_trans (ps_m n) (lns_m 6)
theorem lns_hit {mh mw g : Int → Int} : ∀ (n : Nat) (s : Int), 0 ≤ s → s < (n : Int) → 0 ≤ pM mw mh s → g s ≤ it (lnM mh mw) n g (pM mw mh s) := by
  intro n
  induction n with
  | zero => intro s h0 h1; omega
  | succ n ih =>
    intro s h0 h1 hp
    rw [it1]
    by_cases e : s = (n : Int)
    · rw [← e]
      have h2 := lns_m (mh := mh) (mw := mw) (g := g) (t := s) n
      obtain ⟨q, hq⟩ : ∃ q, q = it (lnM mh mw) n g := ⟨_, rfl⟩
      rw [← hq] at h2 ⊢
      unfold lnM
      split
      · rw [iu_s]; exact h2
      · rename_i hc
        have h3 : ¬ q (pM mw mh s) < q s := fun z => hc ⟨hp, z⟩
        omega
    · exact Int.le_trans (ih s h0 (by omega) hp) ln_m
def upI (u g : Int → Int) : Prop := ∀ t, 0 ≤ t → t < 6 → g t ≤ u t
theorem ln_u {mh mw mb u g : Int → Int} (hP : rg (-1) 6 6 (pM mw mh)) (hok : OKu (pM mw mh) mb u) {s : Int} (h0 : 0 ≤ s) (h6 : s < 6) (h : upI u g) : upI u (lnM mh mw s g) := by
  intro t t0 t6
  unfold lnM
  split
  · rename_i hc
    unfold iu
    split
    · rename_i e
      have h1 := h s h0 h6
      have h2 := (hok t t0 t6).2.1 s h0 h6 e.symm
      omega
    · exact h t t0 t6
  · exact h t t0 t6
theorem lns_u {mh mw mb u g : Int → Int} (hP : rg (-1) 6 6 (pM mw mh)) (hok : OKu (pM mw mh) mb u) (h : upI u g) : ∀ n : Nat, n ≤ 6 → upI u (it (lnM mh mw) n g) := by
  intro n
  induction n with
  | zero => intro _; exact h
  | succ n ih => intro hn; rw [it1]; exact ln_u hP hok (by omega) (by omega) (ih (by omega))
theorem ps_u {mh mw mb u g : Int → Int} (hP : rg (-1) 6 6 (pM mw mh)) (hok : OKu (pM mw mh) mb u) (h : upI u g) : ∀ n : Nat, upI u (it (psM mh mw) n g) := by
  intro n
  induction n with
  | zero => exact h
  | succ n ih => rw [it1]; exact lns_u hP hok ih 6 (Nat.le_refl 6)
theorem ps_l {mh mw mb u g : Int → Int} (hP : rg (-1) 6 6 (pM mw mh)) (hok : OKu (pM mw mh) mb u) (hg : ∀ t, 0 ≤ t → t < 6 → g t = mb t) : ∀ (n : Nat) (t : Int), 0 ≤ t → t < 6 → (∀ s, 0 ≤ s → s < 6 → pit (pM mw mh) (n + 1) s ≠ t) → u t ≤ it (psM mh mw) n g t := by
  intro n
  induction n with
  | zero =>
    intro t t0 t6 hn
    rcases (hok t t0 t6).2.2 with h | ⟨s, s0, s6, e, _⟩
    · rw [h, ← hg t t0 t6]; exact Int.le_refl _
    · exact absurd (by rw [pit_s, if_neg (by omega)]; exact e) (hn s s0 s6)
  | succ n ih =>
    intro t t0 t6 hn
    rcases (hok t t0 t6).2.2 with h | ⟨s, s0, s6, e, r⟩
    · rw [h, ← hg t t0 t6]
      exact ps_m (n + 1)
    · have hs : ∀ z, 0 ≤ z → z < 6 → pit (pM mw mh) (n + 1) z ≠ s := by
        intro z z0 z6 q
        refine hn z z0 z6 ?_
        rw [pit_1, q, if_neg (by omega)]
        exact e
      have h1 := ih s s0 s6 hs
      have h2 := lns_hit (mh := mh) (mw := mw) (g := it (psM mh mw) n g) 6 s s0 s6 (by rw [e]; exact t0)
      rw [e] at h2
      rw [it1, ← r]
      exact Int.le_trans h1 h2
theorem ldG_eq {mb mh mw mu u : Int → Int} (hP : rg (-1) 6 6 (pM mw mh)) (hR : RK (pM mw mh)) (hok : OKu (pM mw mh) mb u) : ∀ t, 0 ≤ t → t < 6 → ldG mb mh mw mu t = u t := by
  intro t t0 t6
  have hg : ∀ t, 0 ≤ t → t < 6 → it (cpM mb) 6 mu t = mb t := fun t h0 h6 => cp_at 6 t h0 h6
  have h1 := ps_u hP hok (g := it (cpM mb) 6 mu) (fun t h0 h6 => by rw [hg t h0 h6]; exact (hok t h0 h6).1) 6 t t0 t6
  have h2 := ps_l hP hok hg 6 t t0 t6 (fun s s0 s6 q => by
    rw [pit_1, pit6 hP hR s0 s6, if_pos (by omega)] at q
    omega)
  exact Int.le_antisymm h1 h2
end
section
/-! 14: the tie between the class and the reference; every call keeps it, and the answers are the same -/
def INV (N : Int) (fb fu fw fs fh : Int → Int) (st : Int) (mb mh mw ms : Int → Int) (tm : Int) : Prop :=
  (rg 0 10 6 fb ∧ rg 0 10 6 fu ∧ rg (-1) 5 6 fw ∧ rg 0 (N + 1) 6 fs ∧ rg (-1) 6 5 fh ∧ wk fw fh ∧ 0 ≤ st ∧ st ≤ N) ∧
  (mb = fb ∧ (∀ i, mh i = fh i + 1) ∧ (∀ i, mw i = fw i + 1) ∧ (∀ s, 0 ≤ s → s < 6 → 0 ≤ fw s → ms s = fs s + 1) ∧ rg 0 (N + 2) 6 ms ∧ tm = st) ∧
  RK (par fw fh) ∧ OKu (par fw fh) fb fu
theorem rg_w {lo hi hi2 n : Int} {f : Int → Int} (h : rg lo hi n f) (hh : hi ≤ hi2) : rg lo hi2 n f := fun s h0 hn => ⟨(h s h0 hn).1, by have := (h s h0 hn).2; omega⟩
theorem INV_w {N : Int} {fb fu fw fs fh : Int → Int} {st : Int} {mb mh mw ms : Int → Int} {tm : Int} (h : INV N fb fu fw fs fh st mb mh mw ms tm) : INV (N + 1) fb fu fw fs fh st mb mh mw ms tm := by
  obtain ⟨⟨h1, h2, h3, h4, h5, h6, h7, h8⟩, ⟨e1, e2, e3, e4, e5, e6⟩, r, k⟩ := h
  exact ⟨⟨h1, h2, h3, rg_w h4 (by omega), h5, h6, h7, by omega⟩, ⟨e1, e2, e3, e4, rg_w e5 (by omega), e6⟩, r, k⟩
theorem par_eq {fw fh mw mh : Int → Int} (e2 : ∀ i, mh i = fh i + 1) (e3 : ∀ i, mw i = fw i + 1) : pM mw mh = par fw fh := by
  funext s
  have h := e3 s
  by_cases q : 0 ≤ fw s
  · rw [pM_p (by omega), par_p q, e2, h, show fw s + 1 - 1 = fw s by omega]
    omega
  · rw [pM_n (by omega), par_n (by omega)]
theorem mh_rg {fh mh : Int → Int} (h : rg (-1) 6 5 fh) (e : ∀ i, mh i = fh i + 1) : rg 0 7 5 mh := fun s h0 h5 => by
  have h1 := h s h0 h5
  rw [e]
  omega
theorem mw_rg {fw mw : Int → Int} (h : rg (-1) 5 6 fw) (e : ∀ i, mw i = fw i + 1) : rg 0 6 6 mw := fun s h0 h5 => by
  have h1 := h s h0 h5
  rw [e]
  omega
theorem iu_1 {f m : Int → Int} {k v w : Int} (e : ∀ i, m i = f i + 1) (hv : w = v + 1) : ∀ i, iu m k w i = iu f k v i + 1 := by
  intro i
  unfold iu
  split
  · exact hv
  · exact e i
theorem bool_eq {a b : Bool} (h : a = true ↔ b = true) : a = b := by
  cases a <;> cases b
  · rfl
  · exact absurd (h.mpr rfl) (by decide)
  · exact absurd (h.mp rfl) (by decide)
  · rfl
theorem dep_eq {fw fh mw mh : Int → Int} (hfw : rg (-1) 5 6 fw) (hfh : rg (-1) 6 5 fh) (hwk : wk fw fh) (hR : RK (par fw fh)) (e2 : ∀ i, mh i = fh i + 1) (e3 : ∀ i, mw i = fw i + 1) {t x : Int} (ht : 0 ≤ t) (h0 : 0 ≤ x) (h6 : x < 6) : dpo fw fh t 6 x = bhd mh mw t x := by
  refine bool_eq ?_
  have hp := par_eq e2 e3
  rw [dpo_iff hfw hfh hwk ht 6 x h0 h6, bhd_iff (by rw [hp]; exact par_rg hfw hfh) (by rw [hp]; exact hR) ht h0 h6, hp]
section S14
variable {N : Int} {fb fu fw fs fh : Int → Int} {st : Int} {mb mh mw ms mu : Int → Int} {tm : Int}
theorem ld_eq (h : INV N fb fu fw fs fh st mb mh mw ms tm) : ∀ t, 0 ≤ t → t < 6 → ldG mb mh mw mu t = fu t := by
  obtain ⟨⟨h1, h2, h3, h4, h5, h6, h7, h8⟩, ⟨e1, e2, e3, e4, e5, e6⟩, r, k⟩ := h
  have hp := par_eq e2 e3
  subst e1
  exact ldG_eq (by rw [hp]; exact par_rg h3 h5) (by rw [hp]; exact r) (by rw [hp]; exact k)
-- the questions
theorem a_urgency (h : INV N fb fu fw fs fh st mb mh mw ms tm) (t : Int) : urX fu t = urM (ldG mb mh mw mu) t := by
  unfold urX urM
  split
  · rename_i q; rw [ld_eq h t q.1 q.2]
  · rfl
theorem a_base (h : INV N fb fu fw fs fh st mb mh mw ms tm) (t : Int) : urX fb t = urM mb t := by
  rw [h.2.1.1]; rfl
theorem a_holder (h : INV N fb fu fw fs fh st mb mh mw ms tm) (t : Int) : hoX fh t = hoM mh t := by
  have e := h.2.1.2.1 t
  unfold hoX hoM
  split <;> omega
theorem a_waitsFor (h : INV N fb fu fw fs fh st mb mh mw ms tm) (t : Int) : urX fw t = wfM mw t := by
  have e := h.2.1.2.2.1 t
  unfold urX wfM
  split <;> omega
theorem a_waiting (h : INV N fb fu fw fs fh st mb mh mw ms tm) (t : Int) : wtX fw t = wtM mw t := by
  have e := h.2.1.2.2.1
  have f : wtS fw t = wtT mw t := by
    funext s v
    have es := e s
    unfold wtS wtT
    split <;> split <;> omega
  unfold wtX wtM
  rw [f]
theorem a_held (h : INV N fb fu fw fs fh st mb mh mw ms tm) (t : Int) : hdX fh t = hdM mh t := by
  have e := h.2.1.2.1
  have f : hdS fh t = hdT mh t := by
    funext s v
    have es := e s
    unfold hdS hdT
    by_cases q : fh s = t
    · rw [if_pos q, if_pos (by omega)]
    · rw [if_neg q, if_neg (by omega)]
  unfold hdX hdM
  rw [f]
theorem best_k (h : INV N fb fu fw fs fh st mb mh mw ms tm) {l : Int} (hl : 0 ≤ l) : ∀ n : Nat, n ≤ 6 → it (bwS fu fw fs l) n (-1) = it (bwM (ldG mb mh mw mu) mw ms l) n (-1) ∧ (-1 ≤ it (bwS fu fw fs l) n (-1) ∧ it (bwS fu fw fs l) n (-1) < 6) ∧ (0 ≤ it (bwS fu fw fs l) n (-1) → fw (it (bwS fu fw fs l) n (-1)) = l) := by
  have hg := ld_eq (mu := mu) h
  have e3 := h.2.1.2.2.1
  have e4 := h.2.1.2.2.2.1
  intro n
  induction n with
  | zero => intro _; exact ⟨rfl, by show (-1 : Int) ≤ -1 ∧ (-1 : Int) < 6; omega, fun q => by have q : (0 : Int) ≤ -1 := q; omega⟩
  | succ n ih =>
    intro hn
    obtain ⟨i1, i2, i3⟩ := ih (by omega)
    rw [it1, it1, ← i1]
    obtain ⟨v, hv⟩ : ∃ v, v = it (bwS fu fw fs l) n (-1) := ⟨_, rfl⟩
    rw [← hv] at i2 i3 ⊢
    have en := e3 (n : Int)
    by_cases hk : fw (n : Int) = l
    · have gn := hg (n : Int) (by omega) (by omega)
      have sn := e4 (n : Int) (by omega) (by omega) (by omega)
      by_cases hv0 : v < 0
      · unfold bwS bwM
        rw [if_pos ⟨hk, Or.inl hv0⟩, if_pos ⟨by omega, Or.inl hv0⟩]
        exact ⟨rfl, by omega, fun _ => hk⟩
      · have gv := hg v (by omega) i2.2
        have wv := i3 (by omega)
        have sv := e4 v (by omega) i2.2 (by omega)
        unfold bwS bwM
        rw [gn, gv, sn, sv]
        by_cases q : fu v < fu (n : Int) ∨ (fu (n : Int) = fu v ∧ fs (n : Int) < fs v)
        · rw [if_pos ⟨hk, Or.inr q⟩, if_pos ⟨by omega, Or.inr (by omega)⟩]
          exact ⟨rfl, by omega, fun _ => hk⟩
        · rw [if_neg (fun z => z.2.elim hv0 q), if_neg (fun z => z.2.elim hv0 (fun y => q (by omega)))]
          exact ⟨rfl, i2, i3⟩
    · unfold bwS bwM
      rw [if_neg (fun z => hk z.1), if_neg (fun z => hk (by omega))]
      exact ⟨rfl, i2, i3⟩
theorem best_w (h : INV N fb fu fw fs fh st mb mh mw ms tm) {l : Int} (hl : 0 ≤ l) (h0 : 0 ≤ bwt fu fw fs l) : fw (bwt fu fw fs l) = l := (best_k (mu := mb) h hl 6 (Nat.le_refl 6)).2.2 h0
theorem best_m (h : INV N fb fu fw fs fh st mb mh mw ms tm) {l : Int} (hl : 0 ≤ l) (hl5 : l < 5) : nfM mb mh mw ms mu l = bwt fu fw fs l := by
  unfold nfM
  rw [if_pos ⟨hl, hl5⟩]
  exact (best_k h hl 6 (Nat.le_refl 6)).1.symm
theorem a_nextFor (h : INV N fb fu fw fs fh st mb mh mw ms tm) (t : Int) : nfX fu fw fs t = nfM mb mh mw ms mu t := by
  by_cases q : 0 ≤ t ∧ t < 5
  · rw [best_m h q.1 q.2]
    unfold nfX
    rw [if_pos q]
  · unfold nfX nfM
    rw [if_neg q, if_neg q]
theorem run_k (h : INV N fb fu fw fs fh st mb mh mw ms tm) : ∀ n : Nat, n ≤ 6 → it (rnS fu fw) n (-1) = it (rnT (ldG mb mh mw mu) mw) n (-1) ∧ (-1 ≤ it (rnS fu fw) n (-1) ∧ it (rnS fu fw) n (-1) < 6) := by
  have hg := ld_eq (mu := mu) h
  have e3 := h.2.1.2.2.1
  have hfw := h.1.2.2.1
  intro n
  induction n with
  | zero => intro _; exact ⟨rfl, by show (-1 : Int) ≤ -1 ∧ (-1 : Int) < 6; omega⟩
  | succ n ih =>
    intro hn
    obtain ⟨i1, i2⟩ := ih (by omega)
    rw [it1, it1, ← i1]
    obtain ⟨v, hv⟩ : ∃ v, v = it (rnS fu fw) n (-1) := ⟨_, rfl⟩
    rw [← hv] at i2 ⊢
    have en := e3 (n : Int)
    have wn := hfw (n : Int) (by omega) (by omega)
    have gn := hg (n : Int) (by omega) (by omega)
    by_cases hk : fw (n : Int) < 0
    · by_cases hv0 : v < 0
      · unfold rnS rnT
        rw [if_pos ⟨hk, Or.inl hv0⟩, if_pos ⟨by omega, Or.inl hv0⟩]
        exact ⟨rfl, by omega⟩
      · have gv := hg v (by omega) i2.2
        unfold rnS rnT
        rw [gn, gv]
        by_cases q : fu v < fu (n : Int)
        · rw [if_pos ⟨hk, Or.inr q⟩, if_pos ⟨by omega, Or.inr q⟩]
          exact ⟨rfl, by omega⟩
        · rw [if_neg (fun z => z.2.elim hv0 q), if_neg (fun z => z.2.elim hv0 q)]
          exact ⟨rfl, i2⟩
    · unfold rnS rnT
      rw [if_neg (fun z => hk z.1), if_neg (fun z => hk (by omega))]
      exact ⟨rfl, i2⟩
theorem a_running (h : INV N fb fu fw fs fh st mb mh mw ms tm) : rnX fu fw = rnM (ldG mb mh mw mu) mw := (run_k h 6 (Nat.le_refl 6)).1
theorem a_lifted (h : INV N fb fu fw fs fh st mb mh mw ms tm) : lfX fu fb = lfM (ldG mb mh mw mu) mb := by
  have hg := ld_eq (mu := mu) h
  have e1 := h.2.1.1
  have key : ∀ n : Nat, n ≤ 6 → it (lfS fu fb) n b0 = it (lfT (ldG mb mh mw mu) mb) n b0 := by
    intro n
    induction n with
    | zero => intro _; rfl
    | succ n ih =>
      intro hn
      rw [it1, it1, ← ih (by omega)]
      unfold lfS lfT
      rw [hg (n : Int) (by omega) (by omega), e1]
  exact key 6 (Nat.le_refl 6)
theorem wo_at {fw fh : Int → Int} {t : Int} : ∀ (n : Nat) (j : Int), it (woS fw fh t) n b0 j = true ↔ ((0 ≤ j ∧ j < (n : Int)) ∧ dpo fw fh t 6 j = true) := by
  intro n
  induction n with
  | zero =>
    intro j
    refine ⟨fun q => ?_, fun q => by omega⟩
    cases q
  | succ n ih =>
    intro j
    rw [it1]
    by_cases q : dpo fw fh t 6 (n : Int) = true
    · rw [show woS fw fh t (n : Int) (it (woS fw fh t) n b0) = bu (it (woS fw fh t) n b0) (n : Int) from if_pos q]
      constructor
      · intro z
        rcases bu_c z with e | e
        · rw [e]; exact ⟨by omega, q⟩
        · have h1 := (ih j).mp e
          exact ⟨by omega, h1.2⟩
      · intro z
        by_cases e : j = (n : Int)
        · rw [e]; exact bu_x
        · exact bu_k ((ih j).mpr ⟨by omega, z.2⟩)
    · rw [show woS fw fh t (n : Int) (it (woS fw fh t) n b0) = it (woS fw fh t) n b0 from if_neg q, ih j]
      constructor
      · intro z; exact ⟨by omega, z.2⟩
      · intro z
        by_cases e : j = (n : Int)
        · rw [e] at z; exact absurd z.2 q
        · exact ⟨by omega, z.2⟩
theorem a_waitingOn (h : INV N fb fu fw fs fh st mb mh mw ms tm) (t : Int) : mk6 (woX fw fh t) = mk6 (woM mh mw t) := by
  obtain ⟨⟨h1, h2, h3, h4, h5, h6, h7, h8⟩, ⟨e1, e2, e3, e4, e5, e6⟩, r, k⟩ := h
  unfold woX woM
  split
  · rename_i q
    refine mk6_ext (fun j j0 j6 => bool_eq ?_)
    rw [wo_at, dep_eq h3 h5 h6 r e2 e3 q.1 j0 j6]
    exact ⟨fun z => z.2, fun z => ⟨⟨j0, j6⟩, z⟩⟩
  · rfl
-- the writing calls
theorem l_setBase (h : INV N fb fu fw fs fh st mb mh mw ms tm) (t u : Int) : (sbX fb fu fw fs fh st t u).1 = (sbM mb mh mw ms tm mu t u).1 ∧ INV (N + 1) (sbX fb fu fw fs fh st t u).2.1 (sbX fb fu fw fs fh st t u).2.2.1 (sbX fb fu fw fs fh st t u).2.2.2.1 (sbX fb fu fw fs fh st t u).2.2.2.2.1 (sbX fb fu fw fs fh st t u).2.2.2.2.2.1 (sbX fb fu fw fs fh st t u).2.2.2.2.2.2 (sbM mb mh mw ms tm mu t u).2.1 (sbM mb mh mw ms tm mu t u).2.2.1 (sbM mb mh mw ms tm mu t u).2.2.2.1 (sbM mb mh mw ms tm mu t u).2.2.2.2.1 (sbM mb mh mw ms tm mu t u).2.2.2.2.2.1 := by
  unfold sbX sbM
  by_cases c : ¬ (0 ≤ t ∧ t < 6) ∨ u < 0 ∨ 9 < u
  · rw [if_pos c, if_pos c]
    exact ⟨rfl, INV_w h⟩
  · rw [if_neg c, if_neg c]
    obtain ⟨⟨h1, h2, h3, h4, h5, h6, h7, h8⟩, ⟨e1, e2, e3, e4, e5, e6⟩, r, k⟩ := INV_w h
    have hb : rg 0 10 6 (iu fb t u) := rg_iu h1 (by omega)
    refine ⟨rfl, ⟨hb, rfr_rg hb h3 h5 6 _ _ h2 (by omega), h3, h4, h5, h6, h7, h8⟩, ⟨by show iu mb t u = iu fb t u; rw [e1], e2, e3, e4, e5, e6⟩, r, ?_⟩
    have hok := rfr_ok (fb := iu fb t u) h3 h5 h6 r (fun _ => False) 6 fu t (Or.inr ⟨by omega, by omega, pit6 (par_rg h3 h5) r (by omega) (by omega), fun y y0 y6 hne _ => IsL_base (k y y0 y6) (iu_n hne)⟩)
    exact fun y y0 y6 => hok y y0 y6 (fun z => z)
theorem l_giveUp (h : INV N fb fu fw fs fh st mb mh mw ms tm) (t : Int) : (guX fb fu fw fs fh st t).1 = (guM mb mh mw ms tm mu t).1 ∧ INV (N + 1) (guX fb fu fw fs fh st t).2.1 (guX fb fu fw fs fh st t).2.2.1 (guX fb fu fw fs fh st t).2.2.2.1 (guX fb fu fw fs fh st t).2.2.2.2.1 (guX fb fu fw fs fh st t).2.2.2.2.2.1 (guX fb fu fw fs fh st t).2.2.2.2.2.2 (guM mb mh mw ms tm mu t).2.1 (guM mb mh mw ms tm mu t).2.2.1 (guM mb mh mw ms tm mu t).2.2.2.1 (guM mb mh mw ms tm mu t).2.2.2.2.1 (guM mb mh mw ms tm mu t).2.2.2.2.2.1 := by
  unfold guX guM
  have et := h.2.1.2.2.1 t
  have hfw := h.1.2.2.1
  by_cases c : ¬ (0 ≤ t ∧ t < 6) ∨ fw t < 0
  · rw [if_pos c, if_pos (by
      rcases c with c | c
      · exact Or.inl c
      · by_cases q : 0 ≤ t ∧ t < 6
        · have h1 := hfw t q.1 q.2
          omega
        · exact Or.inl q)]
    exact ⟨rfl, INV_w h⟩
  · rw [if_neg c, if_neg (by omega)]
    obtain ⟨⟨h1, h2, h3, h4, h5, h6, h7, h8⟩, ⟨e1, e2, e3, e4, e5, e6⟩, r, k⟩ := INV_w h
    have hw2 : rg (-1) 5 6 (iu fw t (-1)) := rg_iu h3 (by omega)
    have hk2 : wk (iu fw t (-1)) fh := wk_drop h6
    have wt := h3 t (by omega) (by omega)
    have x0 := h6 t (by omega) (by omega) (by omega)
    have x6 := (h5 (fw t) (by omega) (by omega)).2
    have pt : par (iu fw t (-1)) fh t = -1 := par_n (by rw [iu_s]; omega)
    have po : ∀ s, s ≠ t → par (iu fw t (-1)) fh s = par fw fh s := by
      intro s hs
      unfold par
      rw [iu_n hs]
    have p0 : par fw fh t = fh (fw t) := par_p (by omega)
    have r2 : RK (par (iu fw t (-1)) fh) := by
      obtain ⟨ρ, hρ⟩ := r
      refine ⟨ρ, fun s s0 s6 hs => ?_⟩
      by_cases e : s = t
      · rw [e, pt] at hs; omega
      · rw [po s e] at hs ⊢; exact hρ s s0 s6 hs
    refine ⟨rfl, ⟨h1, rfr_rg h1 hw2 h5 6 _ _ h2 x6, hw2, h4, h5, hk2, h7, h8⟩, ⟨e1, e2, iu_1 e3 rfl, fun s s0 s6 hs => ?_, e5, e6⟩, r2, ?_⟩
    · have hs : 0 ≤ iu fw t (-1) s := hs
      by_cases e : s = t
      · rw [e, iu_s] at hs; omega
      · rw [iu_n e] at hs; exact e4 s s0 s6 hs
    · have hok := rfr_ok (fb := fb) hw2 h5 hk2 r2 (fun _ => False) 6 fu (fh (fw t)) (Or.inr ⟨x0, x6, pit6 (par_rg hw2 h5) r2 x0 x6, fun y y0 y6 hne _ => IsL_congr (k y y0 y6) (fun s s0 s6 => by
        by_cases e : s = t
        · rw [e, pt, p0]; omega
        · rw [po s e])⟩)
      exact fun y y0 y6 => hok y y0 y6 (fun z => z)
theorem l_take (h : INV N fb fu fw fs fh st mb mh mw ms tm) (t l : Int) : (tkX fb fu fw fs fh st t l).1 = (tkM mb mh mw ms tm mu t l).1 ∧ INV (N + 1) (tkX fb fu fw fs fh st t l).2.1 (tkX fb fu fw fs fh st t l).2.2.1 (tkX fb fu fw fs fh st t l).2.2.2.1 (tkX fb fu fw fs fh st t l).2.2.2.2.1 (tkX fb fu fw fs fh st t l).2.2.2.2.2.1 (tkX fb fu fw fs fh st t l).2.2.2.2.2.2 (tkM mb mh mw ms tm mu t l).2.1 (tkM mb mh mw ms tm mu t l).2.2.1 (tkM mb mh mw ms tm mu t l).2.2.2.1 (tkM mb mh mw ms tm mu t l).2.2.2.2.1 (tkM mb mh mw ms tm mu t l).2.2.2.2.2.1 := by
  unfold tkX tkM
  have et := h.2.1.2.2.1 t
  have el := h.2.1.2.1 l
  by_cases c : ¬ (0 ≤ t ∧ t < 6) ∨ ¬ (0 ≤ l ∧ l < 5) ∨ 0 ≤ fw t ∨ fh l = t
  · rw [if_pos c, if_pos (by omega)]
    exact ⟨rfl, INV_w h⟩
  · have c1 : ¬ (¬ (0 ≤ t ∧ t < 6) ∨ ¬ (0 ≤ l ∧ l < 5) ∨ 0 < mw t ∨ mh l = t + 1) := by omega
    rw [if_neg c, if_neg c1]
    have hN := h.1.2.2.2.2.2.2.2
    have hfs0 := h.1.2.2.2.1
    have hms0 := h.2.1.2.2.2.2.1
    obtain ⟨⟨h1, h2, h3, h4, h5, h6, h7, h8⟩, ⟨e1, e2, e3, e4, e5, e6⟩, r, k⟩ := INV_w h
    have hl := h5 l (by omega) (by omega)
    by_cases c2 : fh l < 0
    · have c4 : mh l = 0 := by omega
      rw [if_pos c2, if_pos c4]
      have po : ∀ s, 0 ≤ s → s < 6 → par fw (iu fh l t) s = par fw fh s := by
        intro s s0 s6
        unfold par
        split
        · rename_i q
          have h9 := h6 s s0 s6 q
          rw [iu_n (fun e => by rw [e] at h9; omega)]
        · rfl
      refine ⟨rfl, ⟨h1, h2, h3, h4, rg_iu h5 (by omega), fun s s0 s6 hs => ?_, h7, h8⟩, ⟨e1, iu_1 e2 rfl, e3, e4, e5, e6⟩, RK_congr r po, fun y y0 y6 => IsL_congr (k y y0 y6) (fun s s0 s6 => by rw [po s s0 s6])⟩
      have h9 := h6 s s0 s6 hs
      show 0 ≤ iu fh l t (fw s)
      rw [iu_n (fun e => by rw [e] at h9; omega)]
      exact h9
    · have c4 : ¬ mh l = 0 := by omega
      rw [if_neg c2, if_neg c4]
      have hd := dep_eq h3 h5 h6 r e2 e3 (t := t) (x := fh l) (by omega) (by omega) (by omega)
      rw [show mh l - 1 = fh l by omega, ← hd]
      by_cases c3 : dpo fw fh t 6 (fh l) = true
      · rw [if_pos c3, if_pos c3]
        exact ⟨rfl, INV_w h⟩
      · rw [if_neg c3, if_neg c3]
        have hw2 : rg (-1) 5 6 (iu fw t l) := rg_iu h3 (by omega)
        have hk2 : wk (iu fw t l) fh := wk_put h6 (by omega)
        have pt : par (iu fw t l) fh t = fh l := by
          rw [par_p (by rw [iu_s]; omega), iu_s]
        have po : ∀ s, s ≠ t → par (iu fw t l) fh s = par fw fh s := by
          intro s hs
          unfold par
          rw [iu_n hs]
        have p0 : par fw fh t = -1 := par_n (by omega)
        have r2 : RK (par (iu fw t l) fh) := by
          have hpr := par_rg h3 h5
          have hnr : ∀ j, pit (par fw fh) j (fh l) ≠ t := by
            intro j e
            cases j with
            | zero => have e : fh l = t := e; omega
            | succ j => exact c3 ((dpo_iff h3 h5 h6 (by omega) 6 (fh l) (by omega) (by omega)).mpr ⟨j, pit_lt6 hpr r (by omega) (by omega) (by omega) e, e⟩)
          obtain ⟨ρ, hρ⟩ := r
          obtain ⟨σ, hσ⟩ : ∃ σ : Int → Nat, ∀ s, ((∃ j, pit (par fw fh) j (fh l) = s) → σ s = ρ s + ρ t + 1) ∧ ((¬ ∃ j, pit (par fw fh) j (fh l) = s) → σ s = ρ s) := by
            classical
            exact ⟨fun s => if ∃ j, pit (par fw fh) j (fh l) = s then ρ s + ρ t + 1 else ρ s, fun s => ⟨fun q => if_pos q, fun q => if_neg q⟩⟩
          refine ⟨σ, fun s s0 s6 hs => ?_⟩
          by_cases e : s = t
          · rw [e, pt, (hσ (fh l)).1 ⟨0, rfl⟩, (hσ t).2 (fun ⟨j, q⟩ => hnr j q)]
            omega
          · rw [po s e] at hs ⊢
            have h9 := hρ s s0 s6 hs
            by_cases q : ∃ j, pit (par fw fh) j (fh l) = s
            · obtain ⟨j, hj⟩ := q
              rw [(hσ s).1 ⟨j, hj⟩, (hσ (par fw fh s)).1 ⟨j + 1, by rw [pit_1, hj, if_neg (by omega)]⟩]
              omega
            · rw [(hσ s).2 q]
              by_cases q2 : ∃ j, pit (par fw fh) j (fh l) = par fw fh s
              · rw [(hσ _).1 q2]; omega
              · rw [(hσ _).2 q2]; exact h9
        refine ⟨rfl, ⟨h1, rfr_rg h1 hw2 h5 6 _ _ h2 (by omega), hw2, rg_iu h4 (by omega), h5, hk2, by show 0 ≤ st + 1; omega, by show st + 1 ≤ N + 1; omega⟩, ⟨e1, e2, iu_1 e3 rfl, fun s s0 s6 hs => ?_, rg_iu e5 (by omega), by show tm + 1 = st + 1; omega⟩, r2, ?_⟩
        · have hs : 0 ≤ iu fw t l s := hs
          show iu ms t (tm + 1) s = iu fs t st s + 1
          by_cases e : s = t
          · rw [e, iu_s, iu_s, e6]
          · rw [iu_n e] at hs ⊢
            rw [iu_n e]
            exact e4 s s0 s6 hs
        · have hok := rfr_ok (fb := fb) hw2 h5 hk2 r2 (fun _ => False) 6 fu (fh l) (Or.inr ⟨by omega, by omega, pit6 (par_rg hw2 h5) r2 (by omega) (by omega), fun y y0 y6 hne _ => IsL_congr (k y y0 y6) (fun s s0 s6 => by
            by_cases e : s = t
            · rw [e, pt, p0]; omega
            · rw [po s e])⟩)
          exact fun y y0 y6 => hok y y0 y6 (fun z => z)
theorem l_give (h : INV N fb fu fw fs fh st mb mh mw ms tm) (t l : Int) : (gvX fb fu fw fs fh st t l).1 = (gvM mb mh mw ms tm mu t l).1 ∧ INV (N + 1) (gvX fb fu fw fs fh st t l).2.1 (gvX fb fu fw fs fh st t l).2.2.1 (gvX fb fu fw fs fh st t l).2.2.2.1 (gvX fb fu fw fs fh st t l).2.2.2.2.1 (gvX fb fu fw fs fh st t l).2.2.2.2.2.1 (gvX fb fu fw fs fh st t l).2.2.2.2.2.2 (gvM mb mh mw ms tm mu t l).2.1 (gvM mb mh mw ms tm mu t l).2.2.1 (gvM mb mh mw ms tm mu t l).2.2.2.1 (gvM mb mh mw ms tm mu t l).2.2.2.2.1 (gvM mb mh mw ms tm mu t l).2.2.2.2.2.1 := by
  unfold gvX gvM
  have et := h.2.1.2.2.1 t
  have el := h.2.1.2.1 l
  by_cases c : ¬ (0 ≤ t ∧ t < 6) ∨ ¬ (0 ≤ l ∧ l < 5) ∨ 0 ≤ fw t ∨ fh l ≠ t
  · rw [if_pos c, if_pos (by omega)]
    exact ⟨rfl, INV_w h⟩
  · have c1 : ¬ (¬ (0 ≤ t ∧ t < 6) ∨ ¬ (0 ≤ l ∧ l < 5) ∨ 0 < mw t ∨ mh l ≠ t + 1) := by omega
    rw [if_neg c, if_neg c1, best_m h (by omega) (by omega)]
    have hnr := bwt_rg (fu := fu) (fw := fw) (fs := fs) (l := l)
    have hnn := bwt_none (fu := fu) (fw := fw) (fs := fs) (l := l)
    have hnw := best_w h (l := l) (by omega)
    obtain ⟨n, hn⟩ : ∃ n, n = bwt fu fw fs l := ⟨_, rfl⟩
    rw [← hn] at hnr hnn hnw ⊢
    obtain ⟨⟨h1, h2, h3, h4, h5, h6, h7, h8⟩, ⟨e1, e2, e3, e4, e5, e6⟩, r, k⟩ := INV_w h
    have hh2 : rg (-1) 6 5 (iu fh l n) := rg_iu h5 (by omega)
    by_cases c2 : n < 0
    · rw [if_pos c2, if_pos c2]
      have hno := hnn c2
      have hk2 : wk fw (iu fh l n) := wk_free h6 hno
      have po : ∀ s, 0 ≤ s → s < 6 → par fw (iu fh l n) s = par fw fh s := by
        intro s s0 s6
        unfold par
        rw [iu_n (hno s s0 s6)]
      have r2 := RK_congr r po
      refine ⟨rfl, ⟨h1, rfr_rg h1 h3 hh2 6 _ _ h2 (by omega), h3, h4, hh2, hk2, h7, h8⟩, ⟨e1, iu_1 e2 rfl, e3, e4, e5, e6⟩, r2, ?_⟩
      have hok := rfr_ok (fb := fb) h3 hh2 hk2 r2 (fun _ => False) 6 fu t (Or.inr ⟨by omega, by omega, pit6 (par_rg h3 hh2) r2 (by omega) (by omega), fun y y0 y6 _ _ => IsL_congr (k y y0 y6) (fun s s0 s6 => by rw [po s s0 s6])⟩)
      exact fun y y0 y6 => hok y y0 y6 (fun z => z)
    · rw [if_neg c2, if_neg c2]
      have hwn := hnw (by omega)
      have hw2 : rg (-1) 5 6 (iu fw n (-1)) := rg_iu h3 (by omega)
      have hk2 : wk (iu fw n (-1)) (iu fh l n) := wk_pass h6 (by omega)
      have htn : t ≠ n := by
        intro e
        rw [← e] at hwn
        omega
      have pn : par (iu fw n (-1)) (iu fh l n) n = -1 := par_n (by rw [iu_s]; omega)
      have p0 : par fw fh n = t := by rw [par_p (by omega), hwn]; omega
      have pl : ∀ s, s ≠ n → fw s = l → par (iu fw n (-1)) (iu fh l n) s = n ∧ par fw fh s = t := by
        intro s hs q
        constructor
        · rw [par_p (by rw [iu_n hs]; omega), iu_n hs, q, iu_s]
        · rw [par_p (by omega), q]; omega
      have po : ∀ s, s ≠ n → fw s ≠ l → par (iu fw n (-1)) (iu fh l n) s = par fw fh s := by
        intro s hs q
        unfold par
        rw [iu_n hs, iu_n q]
      have r2 : RK (par (iu fw n (-1)) (iu fh l n)) := by
        obtain ⟨ρ, hρ⟩ := r
        have hnt := hρ n (by omega) (by omega) (by rw [p0]; omega)
        rw [p0] at hnt
        obtain ⟨σ, s1, s2⟩ : ∃ σ : Int → Nat, σ n = ρ t ∧ ∀ s, s ≠ n → σ s = ρ s := ⟨fun s => if s = n then ρ t else ρ s, if_pos rfl, fun s q => if_neg q⟩
        refine ⟨σ, fun s a0 a6 hs => ?_⟩
        by_cases e : s = n
        · rw [e, pn] at hs; omega
        · rw [s2 s e]
          by_cases q : fw s = l
          · obtain ⟨q1, q2⟩ := pl s e q
            rw [q1, s1]
            have h9 := hρ s a0 a6 (by rw [q2]; omega)
            rw [q2] at h9
            exact h9
          · rw [po s e q] at hs ⊢
            have h9 := hρ s a0 a6 hs
            by_cases q2 : par fw fh s = n
            · rw [q2] at h9 ⊢
              rw [s1]; omega
            · rw [s2 _ q2]; exact h9
      have hu1 := rfr_rg h1 hw2 hh2 6 fu n h2 (by omega)
      have hok1 := rfr_ok (fb := fb) hw2 hh2 hk2 r2 (fun y => y = t) 6 fu n (Or.inr ⟨by omega, by omega, pit6 (par_rg hw2 hh2) r2 (by omega) (by omega), fun y y0 y6 hne hz => IsL_congr (k y y0 y6) (fun s s0 s6 => by
        by_cases e : s = n
        · rw [e, pn, p0]; omega
        · by_cases q : fw s = l
          · obtain ⟨q1, q2⟩ := pl s e q
            rw [q1, q2]; omega
          · rw [po s e q])⟩)
      have hok := rfr_ok (fb := fb) hw2 hh2 hk2 r2 (fun _ => False) 6 (rfr fb (iu fw n (-1)) (iu fh l n) 6 fu n) t (Or.inr ⟨by omega, by omega, pit6 (par_rg hw2 hh2) r2 (by omega) (by omega), fun y y0 y6 hne _ => hok1 y y0 y6 hne⟩)
      refine ⟨rfl, ⟨h1, rfr_rg h1 hw2 hh2 6 _ _ hu1 (by omega), hw2, h4, hh2, hk2, h7, h8⟩, ⟨e1, iu_1 e2 rfl, iu_1 e3 rfl, fun s s0 s6 hs => ?_, e5, e6⟩, r2, fun y y0 y6 => hok y y0 y6 (fun z => z)⟩
      have hs : 0 ≤ iu fw n (-1) s := hs
      by_cases e : s = n
      · rw [e, iu_s] at hs; omega
      · rw [iu_n e] at hs; exact e4 s s0 s6 hs
end S14
theorem rg_c {lo hi n v : Int} (h : lo ≤ v ∧ v < hi) : rg lo hi n (fun _ => v) := fun _ _ _ => h
theorem INV_0 : INV 0 (fun _ => 0) (fun _ => 0) (fun _ => -1) (fun _ => 0) (fun _ => -1) 0 (fun _ => 0) (fun _ => 0) (fun _ => 0) (fun _ => 0) 0 := by
  refine ⟨⟨rg_c (by omega), rg_c (by omega), rg_c (by omega), rg_c (by omega), rg_c (by omega), fun s _ _ h => ?_, by omega, by omega⟩, ⟨rfl, fun _ => rfl, fun _ => rfl, fun s _ _ h => ?_, rg_c (by omega), rfl⟩, ⟨fun _ => 0, fun s _ _ h => ?_⟩, fun t h0 h6 => ⟨Int.le_refl _, fun s _ _ _ => Int.le_refl _, Or.inl rfl⟩⟩
  · have h : (0 : Int) ≤ -1 := h
    omega
  · have h : (0 : Int) ≤ -1 := h
    omega
  · have e : par (fun _ => -1) (fun _ => -1) s = -1 := if_neg (by show ¬ (0 : Int) ≤ -1; omega)
    rw [e] at h
    omega
end
section
/-! 15: the law's cases (its first rows: the skeleton's words of the law) -/
/-! THE CLAIM OUT OF ONE WALK OF THE LAW'S BODY. Your part is whole_start (and what it stands on); all else here is the same for every law, but numbers. -/
def R_law : String := "PriorityLocksLaw"
def lw_P (b : Addr) (xs : List Int32) (args : Array Value) (s : State) : Prop := args = #[.ref b] ∧ s.IntsAt b xs ∧ xs.length ≤ 192 ∧ (Jvm.Cond.and given_1 narrow_1).before args s = true
def lw_Q (_ : Array Value) (s : State) (o : Outcome) (t : State) : Prop := o = .returned (some (.int 1)) ∧ Framed s o t [] 600000 7290000
def lw_Z (below : List Frame) (a : Array Value) (s : State) : State → Prop := fun t => ∃ o, t.status = .running ∧ Ended t below o ∧ lw_Q a s o t
/-- the law's own end, with 1 on the stack, nothing written that was there before, its room as the claim has it -/
theorem lw_ret {p : Program} {l : Launch} {e : Env} {s : State} {m : MethodId} {below : List Frame} {meth : Method} {c : Code} {b : Nat} (hx : p.tables.exec = Jvm.exec) (hb : c.code = code) (hr : meth.sig.returnType = ret) (hlocks : meth.locks = false) {pc : Nat} {H : Heap} {ls : Array Slot} (hdg : decode code pc = .ok (.ireturn, 1)) : W p l e room_1 s m #[Value.ref b] below meth c H [] 600000 7290000 (lw_Z below #[Value.ref b] s) (F0 m pc ls [.int 1]) := by
  intro T hT X
  obtain ⟨fs, hret, hrun, hended, hW, hframe⟩ := X.leave (v := some (.int 1)) (hlocks := hlocks) (fun h => by rw [hr] at h; cases h)
  have hmeth' : T.vm.method? m = some meth := X.method'
  refine ⟨T.setFrames fs, ?_, .returned (some (.int 1)), hrun, hended, rfl, ⟨_, rfl⟩, hW, hframe⟩
  jvm_step X.here [X.here.top, hx, hb, hdg, hmeth', hr, ret, narrow_b1]
  (try refine ⟨rfl, ?_⟩); (try refine ⟨rfl, ?_⟩)
  first | (intro acts; rw [hret _ acts rfl rfl rfl]) | rw [hret _ _ rfl rfl rfl]
  exact Steps.refl _
/-- what holds at the law's entry: the machine, the code, the tables' words (any of lw_tbl by 'hts w (by decide +kernel)'), the script of L ints xs at the cell b, what the Statement gives of the start (any of its parts by flat_of_before) -/
def lw_At (p : Program) (s : State) (m : MethodId) (meth : Method) (c : Code) (b L : Nat) (xs : Nat → Int32) : Prop :=
  p.tables.exec = Jvm.exec ∧ c.code = code ∧ meth.sig.returnType = ret ∧ c.maxLocals = 4 ∧ s.vm.findClass R_law = some m.cls ∧ (∀ w ∈ lw_tbl, w.before #[Value.ref b] s = true) ∧ va_X b L xs s s.heap ∧ b < s.heap.size ∧ meth.locks = false ∧ (Jvm.Cond.and given_1 narrow_1).before #[Value.ref b] s = true
def sc (xs : Nat → Int32) (j : Int) : Int := (xs j.toNat).toInt
theorem sc_rg (xs : Nat → Int32) (j : Int) : -2147483648 ≤ sc xs j ∧ sc xs j < 2147483648 := iI_rg _
def wL (hX : Nat) (aX : Nat → Nat) (hM : Nat) (aM : Nat → Nat) (cB cI : ClassId) (fb fu fw fs fh : Int → Int) (st : Int) (mb mh mw ms : Int → Int) (tm : Int) (mu : Int → Int) : va_W := wX hX aX cB cI fb fu fw fs fh st ++ wM hM aM cI mb mh mw ms tm mu
section S15
variable {p : Program} {l : Launch} {e : Env} {R : Room} {s : State} {m : MethodId} {args : Array Value} {below : List Frame} {meth : Method} {c : Code} {H : Heap} {locs : List Loc} {cells slots : Nat} {Q : State → Prop}
variable {cc : ByteArray} {pc nL : Nat} {ls : Array Slot} {rest : List Value} {D : va_G} {A : Nat → Prop} {H0 : Heap} {hX hM : Nat} {aX aM : Nat → Nat} {cB cI : ClassId} {fb fu fw fs fh mb mh mw ms mu : Int → Int} {st tm : Int}
theorem r_sld (hx : p.tables.exec = Jvm.exec) (hb : c.code = cc) {b L : Nat} {xs : Nat → Int32} (hXs : va_X b L xs s H0) (hbl : b < H0.size) (hbA : ¬ A b) (hS : va_S A H0 H locs) {i : Int} (hi : 0 ≤ i ∧ i < (L : Int)) (hL : L < 2147483648) (hdg : decode cc pc = .ok (.iaload, 1)) (k : W p l e R s m args below meth c H locs cells slots Q (F0 m (pc + 1) ls (.int (iI (sc xs i)) :: rest))) : W p l e R s m args below meth c H locs cells slots Q (F0 m pc ls (.int (iI i) :: .ref b :: rest)) :=
  va_sld hx hb hXs hbl hbA hS (iI_in hi hL) hdg (by rw [iI_cl (by omega), iI_of (xs i.toNat)]; exact k)
theorem r_slen (hx : p.tables.exec = Jvm.exec) (hb : c.code = cc) {b L : Nat} {xs : Nat → Int32} (hXs : va_X b L xs s H0) (hbl : b < H0.size) (hbA : ¬ A b) (hS : va_S A H0 H locs) (hdg : decode cc pc = .ok (.arraylength, 1)) (k : W p l e R s m args below meth c H locs cells slots Q (F0 m (pc + 1) ls (.int (iI (L : Int)) :: rest))) : W p l e R s m args below meth c H locs cells slots Q (F0 m pc ls (.ref b :: rest)) :=
  va_slen hx hb hXs hbl hbA hS hdg (by rw [← Int32.ofInt_eq_ofNat]; exact k)
set_option maxHeartbeats 4000000 in
set_option maxRecDepth 100000 in
theorem rwX {post : Int32 → PX → Prop} {y : MethodName} {bytes : ByteArray} {maxL n index : Nat} {ret : Option FieldType} {rm : Room} {own : String} {As st0 : List Value}
    (hM1 : Met l y (ws_ y bytes maxL ret) rm (va_Pc (.ref hX :: As) (fun U => U.heap.size = H.size ∧ va_P D vwCl (wX hX aX cB cI fb fu fw fs fh st) U.heap ∧ va_K D vwCl (tX cB cI) U ∧ va_D (fun _ => True) (wX hX aX cB cI fb fu fw fs fh st))) (va_Qi post (bX D (va_A (wX hX aX cB cI fb fu fw fs fh st) H.size) hX aX cB cI) (va_A (wX hX aX cB cI fb fu fw fs fh st) H.size)) 0 0 (va_A (wX hX aX cB cI fb fu fw fs fh st) H.size))
    (S : CallFix p m c cc nL s args lw_all own) (cw : CallW R s args own RX0 index y bytes maxL ret (ws_ y bytes maxL ret) rm 0 0 n) (hK : va_K D vwCl (tX cB cI) s) (hP : va_P D vwCl (wL hX aX hM aM cB cI fb fu fw fs fh st mb mh mw ms tm mu) H) (hD : va_D A (wL hX aX hM aM cB cI fb fu fw fs fh st mb mh mw ms tm mu)) (hA : ∀ q : Nat, H0.size ≤ q → A q) (hS : va_S A H0 H locs) (hn : As.length = n) (hsz : ls.size = nL) (hst : st0 = As.reverse ++ .ref hX :: rest) (hroom : (rest.map fun v => v.category).sum ≤ 8) (hdg : decode cc pc = .ok (.invokevirtual index, 3)) (hf : cells ≤ R.cells ∧ slots ≤ R.slots)
    (k : ∀ (r : Int32) (u : PX) (H1 : Heap) (locs1 : List Loc), post r u → va_P D vwCl (wL hX aX hM aM cB cI u.1 u.2.1 u.2.2.1 u.2.2.2.1 u.2.2.2.2.1 u.2.2.2.2.2 mb mh mw ms tm mu) H1 → va_D A (wL hX aX hM aM cB cI u.1 u.2.1 u.2.2.1 u.2.2.2.1 u.2.2.2.2.1 u.2.2.2.2.2 mb mh mw ms tm mu) → va_S A H0 H1 locs1 → W p l e R s m args below meth c H1 locs1 cells slots Q (F0 m (pc + 3) ls (.int r :: rest))) : W p l e R s m args below meth c H locs cells slots Q (F0 m pc ls st0) := by
  have hPc := hP.sub (ws' := (wX hX aX cB cI fb fu fw fs fh st)) [0, 1, 2, 3, 4, 5] rfl
  have hDc := hD.sub (ws' := (wX hX aX cB cI fb fu fw fs fh st)) [0, 1, 2, 3, 4, 5] (by decide) rfl
  have hFc := va_free (wc := (wX hX aX cB cI fb fu fw fs fh st)) hD hS hA [0, 1, 2, 3, 4, 5] rfl
  refine va_calli (va_runV (As := As) (rest := rest) S hM1 cw ⟨fun a U g mk q => ?_, va_recv hK hPc (ci := 0) (q0 := 0) rfl rfl, fun U hU hW => ⟨rfl, by rw [hU], by rw [hU]; exact hPc, va_K.moved hW.alike hK, hDc.weaken (fun _ _ _ _ => trivial)⟩⟩ rfl hn hsz hst (lv_room hroom) hdg hf) hS (fun q _ h => hFc q h) hFc (fun r u t1 H1 locs1 ht1 hvm hw hB hz1 hk1 hS1 => ?_)
  · obtain ⟨q0, q1, qP, qK, qD⟩ := q
    exact ⟨q0, q1, qP, va_K.moved (u := U) (U := U.calling g mk a) (Vm.Alike.refl U.vm) qK, qD⟩
  · obtain ⟨hP1, hK1, hD1⟩ := hB
    rw [ht1] at hP1
    obtain ⟨hP2, hD2⟩ := va_join (wr := (wM hM aM cI mb mh mw ms tm mu)) (w1 := (wX hX aX cB cI u.1 u.2.1 u.2.2.1 u.2.2.2.1 u.2.2.2.2.1 u.2.2.2.2.2)) hP hD [0, 1, 2, 3, 4, 5] [6, 7, 8, 9, 10, 11] rfl rfl (by decide) (by decide) hk1 hFc hP1 hD1
    exact k r u H1 locs1 hw (hP2.sub (ws' := (wL hX aX hM aM cB cI u.1 u.2.1 u.2.2.1 u.2.2.2.1 u.2.2.2.2.1 u.2.2.2.2.2 mb mh mw ms tm mu)) [6, 7, 8, 9, 10, 11, 0, 1, 2, 3, 4, 5] rfl) (hD2.sub (ws' := (wL hX aX hM aM cB cI u.1 u.2.1 u.2.2.1 u.2.2.2.1 u.2.2.2.2.1 u.2.2.2.2.2 mb mh mw ms tm mu)) [6, 7, 8, 9, 10, 11, 0, 1, 2, 3, 4, 5] (by decide) rfl) hS1
set_option maxHeartbeats 4000000 in
set_option maxRecDepth 100000 in
theorem rwM {post : Int32 → PM → Prop} {y : MethodName} {bytes : ByteArray} {maxL n index : Nat} {ret : Option FieldType} {rm : Room} {own : String} {As st0 : List Value}
    (hM1 : Met l y (ws_ y bytes maxL ret) rm (va_Pc (.ref hM :: As) (fun U => U.heap.size = H.size ∧ va_P D vwCl (wM hM aM cI mb mh mw ms tm mu) U.heap ∧ va_K D vwCl (tX cB cI) U ∧ va_D (fun _ => True) (wM hM aM cI mb mh mw ms tm mu))) (va_Qi post (bM D (va_A (wM hM aM cI mb mh mw ms tm mu) H.size) hM aM cB cI) (va_A (wM hM aM cI mb mh mw ms tm mu) H.size)) 0 0 (va_A (wM hM aM cI mb mh mw ms tm mu) H.size))
    (S : CallFix p m c cc nL s args lw_all own) (cw : CallW R s args own RX1 index y bytes maxL ret (ws_ y bytes maxL ret) rm 0 0 n) (hK : va_K D vwCl (tX cB cI) s) (hP : va_P D vwCl (wL hX aX hM aM cB cI fb fu fw fs fh st mb mh mw ms tm mu) H) (hD : va_D A (wL hX aX hM aM cB cI fb fu fw fs fh st mb mh mw ms tm mu)) (hA : ∀ q : Nat, H0.size ≤ q → A q) (hS : va_S A H0 H locs) (hn : As.length = n) (hsz : ls.size = nL) (hst : st0 = As.reverse ++ .ref hM :: rest) (hroom : (rest.map fun v => v.category).sum ≤ 8) (hdg : decode cc pc = .ok (.invokevirtual index, 3)) (hf : cells ≤ R.cells ∧ slots ≤ R.slots)
    (k : ∀ (r : Int32) (u : PM) (H1 : Heap) (locs1 : List Loc), post r u → va_P D vwCl (wL hX aX hM aM cB cI fb fu fw fs fh st u.1 u.2.1 u.2.2.1 u.2.2.2.1 u.2.2.2.2.1 u.2.2.2.2.2) H1 → va_D A (wL hX aX hM aM cB cI fb fu fw fs fh st u.1 u.2.1 u.2.2.1 u.2.2.2.1 u.2.2.2.2.1 u.2.2.2.2.2) → va_S A H0 H1 locs1 → W p l e R s m args below meth c H1 locs1 cells slots Q (F0 m (pc + 3) ls (.int r :: rest))) : W p l e R s m args below meth c H locs cells slots Q (F0 m pc ls st0) := by
  have hPc := hP.sub (ws' := (wM hM aM cI mb mh mw ms tm mu)) [6, 7, 8, 9, 10, 11] rfl
  have hDc := hD.sub (ws' := (wM hM aM cI mb mh mw ms tm mu)) [6, 7, 8, 9, 10, 11] (by decide) rfl
  have hFc := va_free (wc := (wM hM aM cI mb mh mw ms tm mu)) hD hS hA [6, 7, 8, 9, 10, 11] rfl
  refine va_calli (va_runV (As := As) (rest := rest) S hM1 cw ⟨fun a U g mk q => ?_, va_recv hK hPc (ci := 1) (q0 := 0) rfl rfl, fun U hU hW => ⟨rfl, by rw [hU], by rw [hU]; exact hPc, va_K.moved hW.alike hK, hDc.weaken (fun _ _ _ _ => trivial)⟩⟩ rfl hn hsz hst (lv_room hroom) hdg hf) hS (fun q _ h => hFc q h) hFc (fun r u t1 H1 locs1 ht1 hvm hw hB hz1 hk1 hS1 => ?_)
  · obtain ⟨q0, q1, qP, qK, qD⟩ := q
    exact ⟨q0, q1, qP, va_K.moved (u := U) (U := U.calling g mk a) (Vm.Alike.refl U.vm) qK, qD⟩
  · obtain ⟨hP1, hK1, hD1⟩ := hB
    rw [ht1] at hP1
    obtain ⟨hP2, hD2⟩ := va_join (wr := (wX hX aX cB cI fb fu fw fs fh st)) (w1 := (wM hM aM cI u.1 u.2.1 u.2.2.1 u.2.2.2.1 u.2.2.2.2.1 u.2.2.2.2.2)) hP hD [6, 7, 8, 9, 10, 11] [0, 1, 2, 3, 4, 5] rfl rfl (by decide) (by decide) hk1 hFc hP1 hD1
    exact k r u H1 locs1 hw (hP2.sub (ws' := (wL hX aX hM aM cB cI fb fu fw fs fh st u.1 u.2.1 u.2.2.1 u.2.2.2.1 u.2.2.2.2.1 u.2.2.2.2.2)) [0, 1, 2, 3, 4, 5, 6, 7, 8, 9, 10, 11] rfl) (hD2.sub (ws' := (wL hX aX hM aM cB cI fb fu fw fs fh st u.1 u.2.1 u.2.2.1 u.2.2.2.1 u.2.2.2.2.1 u.2.2.2.2.2)) [0, 1, 2, 3, 4, 5, 6, 7, 8, 9, 10, 11] (by decide) rfl) hS1
set_option maxHeartbeats 4000000 in
set_option maxRecDepth 100000 in
theorem cs_take {b L : Nat} {xs : Nat → Int32} {N i : Int} (hL : L ≤ 192) (hx : p.tables.exec = Jvm.exec) (hb : c.code = code) (hml : c.maxLocals = 4) (hown : s.vm.findClass R_law = some m.cls) (hts : ∀ w ∈ lw_all, w.before args s = true) (hXs : va_X b L xs s s.heap) (hbl : b < s.heap.size) (hbA : ¬ A b) (hA : ∀ q : Nat, s.heap.size ≤ q → A q) (hK : va_K D vwCl (tX cB cI) s) (hi : 0 ≤ i ∧ i + 3 ≤ (L : Int)) (hN : 0 ≤ N ∧ N ≤ 64) (hI : INV N fb fu fw fs fh st mb mh mw ms tm) (hP : va_P D vwCl (wL hX aX hM aM cB cI fb fu fw fs fh st mb mh mw ms tm mu) H) (hD : va_D A (wL hX aX hM aM cB cI fb fu fw fs fh st mb mh mw ms tm mu)) (hS : va_S A s.heap H locs) (hl : lv_has ls 4 [(0, .ref b), (1, .ref hX), (2, .ref hM), (3, .int (iI i))])
    (kk : ∀ (u : PX) (v : PM) (H : Heap) (locs : List Loc), INV (N + 1) u.1 u.2.1 u.2.2.1 u.2.2.2.1 u.2.2.2.2.1 u.2.2.2.2.2 v.1 v.2.1 v.2.2.1 v.2.2.2.1 v.2.2.2.2.1 → va_P D vwCl (wL hX aX hM aM cB cI u.1 u.2.1 u.2.2.1 u.2.2.2.1 u.2.2.2.2.1 u.2.2.2.2.2 v.1 v.2.1 v.2.2.1 v.2.2.2.1 v.2.2.2.2.1 v.2.2.2.2.2) H → va_D A (wL hX aX hM aM cB cI u.1 u.2.1 u.2.2.1 u.2.2.2.1 u.2.2.2.2.1 u.2.2.2.2.2 v.1 v.2.1 v.2.2.1 v.2.2.2.1 v.2.2.2.2.1 v.2.2.2.2.2) → va_S A s.heap H locs → W p l e room_1 s m args below meth c H locs 600000 7290000 Q (F0 m 436 ls [])) : W p l e room_1 s m args below meth c H locs 600000 7290000 Q (F0 m 104 ls []) := by
  obtain ⟨⟨hfb, hfu, hfw, hfs0, hfh, hwk, hs0, hsN⟩, ⟨e1, e2, e3, e4, e5, e6⟩, hrk, hok⟩ := id hI
  have hfs : rg 0 1000000 6 fs := rg_w hfs0 (by omega)
  have hst : 0 ≤ st ∧ st < 1000000 := ⟨hs0, by omega⟩
  have hmb : rg 0 10 6 mb := by rw [e1]; exact hfb
  have hmh := mh_rg hfh e2
  have hmw := mw_rg hfw e3
  have hms : rg 0 1000000 6 ms := rg_w e5 (by omega)
  have htm : 0 ≤ tm ∧ tm < 1000000 := by omega
  have hPx := hP.sub (ws' := (wX hX aX cB cI fb fu fw fs fh st)) [0, 1, 2, 3, 4, 5] rfl
  have hPm := hP.sub (ws' := (wM hM aM cI mb mh mw ms tm mu)) [6, 7, 8, 9, 10, 11] rfl
  refine lv_aload_n hx hb dL_law_104 rfl (lv_at hl 1 rfl) ?_
  refine lv_aload_n hx hb dL_law_105 rfl (lv_at hl 0 rfl) ?_
  refine lv_iload_n hx hb dL_law_106 rfl (lv_at hl 3 rfl) ?_
  refine r_ic hx hb dL_law_107 ?_
  refine r_add hx hb dL_law_108 ?_
  refine r_sld hx hb hXs hbl hbA hS (by omega) (by omega) dL_law_109 ?_
  refine lv_aload_n hx hb dL_law_110 rfl (lv_at hl 0 rfl) ?_
  refine lv_iload_n hx hb dL_law_111 rfl (lv_at hl 3 rfl) ?_
  refine r_ic hx hb dL_law_112 ?_
  refine r_add hx hb dL_law_113 ?_
  refine r_sld hx hb hXs hbl hbA hS (by omega) (by omega) dL_law_114 ?_
  refine rwX (As := [.int (iI (sc xs (i + 1))), .int (iI (sc xs (i + 2)))]) (mX0_take l D hX aX cB cI H.size fb fu fw fs fh st hfb hfu hfw hfs hfh hwk hst (sc xs (i + 1)) (sc xs (i + 2)) (sc_rg xs (i + 1)) (sc_rg xs (i + 2))) ⟨hx, hb, hml, hown, hts⟩ (cwV 2 hts (lw_V q40 q41 q42 q9 q43) rfl rfl rfl (by decide +kernel) ⟨(Nat.le_of_ble_eq_true rfl), (Nat.le_of_ble_eq_true rfl)⟩) hK hP hD hA hS rfl hl.1 rfl (Nat.le_of_ble_eq_true rfl) dL_law_115 ⟨Nat.le_refl _, Nat.le_refl _⟩ (fun r1 u1 H locs hwr1 hP hD hS => ?_)
  have hwr1 : r1 = iI (tkX fb fu fw fs fh st (sc xs (i + 1)) (sc xs (i + 2))).1 ∧ u1 = (tkX fb fu fw fs fh st (sc xs (i + 1)) (sc xs (i + 2))).2 := hwr1
  refine lv_aload_n hx hb dL_law_118 rfl (lv_at hl 2 rfl) ?_
  refine lv_aload_n hx hb dL_law_119 rfl (lv_at hl 0 rfl) ?_
  refine lv_iload_n hx hb dL_law_120 rfl (lv_at hl 3 rfl) ?_
  refine r_ic hx hb dL_law_121 ?_
  refine r_add hx hb dL_law_122 ?_
  refine r_sld hx hb hXs hbl hbA hS (by omega) (by omega) dL_law_123 ?_
  refine lv_aload_n hx hb dL_law_124 rfl (lv_at hl 0 rfl) ?_
  refine lv_iload_n hx hb dL_law_125 rfl (lv_at hl 3 rfl) ?_
  refine r_ic hx hb dL_law_126 ?_
  refine r_add hx hb dL_law_127 ?_
  refine r_sld hx hb hXs hbl hbA hS (by omega) (by omega) dL_law_128 ?_
  refine rwM (As := [.int (iI (sc xs (i + 1))), .int (iI (sc xs (i + 2)))]) (mX1_take l D hM aM cB cI H.size mb mh mw ms tm mu hmb hmh hmw hms htm (sc xs (i + 1)) (sc xs (i + 2)) (sc_rg xs (i + 1)) (sc_rg xs (i + 2))) ⟨hx, hb, hml, hown, hts⟩ (cwV 2 hts (lw_V q143 q144 q145 q10 q146) rfl rfl rfl (by decide +kernel) ⟨(Nat.le_of_ble_eq_true rfl), (Nat.le_of_ble_eq_true rfl)⟩) hK hP hD hA hS rfl hl.1 rfl (Nat.le_of_ble_eq_true rfl) dL_law_129 ⟨Nat.le_refl _, Nat.le_refl _⟩ (fun r2 v1 H locs hwr2 hP hD hS => ?_)
  have hwr2 : r2 = iI (tkM mb mh mw ms tm mu (sc xs (i + 1)) (sc xs (i + 2))).1 ∧ v1 = (tkM mb mh mw ms tm mu (sc xs (i + 1)) (sc xs (i + 2))).2 := hwr2
  refine lv_icmp_eq (tgt := 436) hx hb dL_law_132 (by decide) (fun _ => ?_) (fun q => absurd (by rw [hwr1.1, hwr2.1, (l_take (mu := mu) hI (sc xs (i + 1)) (sc xs (i + 2))).1]) q)
  exact kk u1 v1 H locs (by rw [hwr1.2, hwr2.2]; exact (l_take (mu := mu) hI (sc xs (i + 1)) (sc xs (i + 2))).2) hP hD hS
set_option maxHeartbeats 4000000 in
set_option maxRecDepth 100000 in
theorem cs_give {b L : Nat} {xs : Nat → Int32} {N i : Int} (hL : L ≤ 192) (hx : p.tables.exec = Jvm.exec) (hb : c.code = code) (hml : c.maxLocals = 4) (hown : s.vm.findClass R_law = some m.cls) (hts : ∀ w ∈ lw_all, w.before args s = true) (hXs : va_X b L xs s s.heap) (hbl : b < s.heap.size) (hbA : ¬ A b) (hA : ∀ q : Nat, s.heap.size ≤ q → A q) (hK : va_K D vwCl (tX cB cI) s) (hi : 0 ≤ i ∧ i + 3 ≤ (L : Int)) (hN : 0 ≤ N ∧ N ≤ 64) (hI : INV N fb fu fw fs fh st mb mh mw ms tm) (hP : va_P D vwCl (wL hX aX hM aM cB cI fb fu fw fs fh st mb mh mw ms tm mu) H) (hD : va_D A (wL hX aX hM aM cB cI fb fu fw fs fh st mb mh mw ms tm mu)) (hS : va_S A s.heap H locs) (hl : lv_has ls 4 [(0, .ref b), (1, .ref hX), (2, .ref hM), (3, .int (iI i))])
    (kk : ∀ (u : PX) (v : PM) (H : Heap) (locs : List Loc), INV (N + 1) u.1 u.2.1 u.2.2.1 u.2.2.2.1 u.2.2.2.2.1 u.2.2.2.2.2 v.1 v.2.1 v.2.2.1 v.2.2.2.1 v.2.2.2.2.1 → va_P D vwCl (wL hX aX hM aM cB cI u.1 u.2.1 u.2.2.1 u.2.2.2.1 u.2.2.2.2.1 u.2.2.2.2.2 v.1 v.2.1 v.2.2.1 v.2.2.2.1 v.2.2.2.2.1 v.2.2.2.2.2) H → va_D A (wL hX aX hM aM cB cI u.1 u.2.1 u.2.2.1 u.2.2.2.1 u.2.2.2.2.1 u.2.2.2.2.2 v.1 v.2.1 v.2.2.1 v.2.2.2.1 v.2.2.2.2.1 v.2.2.2.2.2) → va_S A s.heap H locs → W p l e room_1 s m args below meth c H locs 600000 7290000 Q (F0 m 436 ls [])) : W p l e room_1 s m args below meth c H locs 600000 7290000 Q (F0 m 137 ls []) := by
  obtain ⟨⟨hfb, hfu, hfw, hfs0, hfh, hwk, hs0, hsN⟩, ⟨e1, e2, e3, e4, e5, e6⟩, hrk, hok⟩ := id hI
  have hfs : rg 0 1000000 6 fs := rg_w hfs0 (by omega)
  have hst : 0 ≤ st ∧ st < 1000000 := ⟨hs0, by omega⟩
  have hmb : rg 0 10 6 mb := by rw [e1]; exact hfb
  have hmh := mh_rg hfh e2
  have hmw := mw_rg hfw e3
  have hms : rg 0 1000000 6 ms := rg_w e5 (by omega)
  have htm : 0 ≤ tm ∧ tm < 1000000 := by omega
  have hPx := hP.sub (ws' := (wX hX aX cB cI fb fu fw fs fh st)) [0, 1, 2, 3, 4, 5] rfl
  have hPm := hP.sub (ws' := (wM hM aM cI mb mh mw ms tm mu)) [6, 7, 8, 9, 10, 11] rfl
  refine lv_aload_n hx hb dL_law_137 rfl (lv_at hl 1 rfl) ?_
  refine lv_aload_n hx hb dL_law_138 rfl (lv_at hl 0 rfl) ?_
  refine lv_iload_n hx hb dL_law_139 rfl (lv_at hl 3 rfl) ?_
  refine r_ic hx hb dL_law_140 ?_
  refine r_add hx hb dL_law_141 ?_
  refine r_sld hx hb hXs hbl hbA hS (by omega) (by omega) dL_law_142 ?_
  refine lv_aload_n hx hb dL_law_143 rfl (lv_at hl 0 rfl) ?_
  refine lv_iload_n hx hb dL_law_144 rfl (lv_at hl 3 rfl) ?_
  refine r_ic hx hb dL_law_145 ?_
  refine r_add hx hb dL_law_146 ?_
  refine r_sld hx hb hXs hbl hbA hS (by omega) (by omega) dL_law_147 ?_
  refine rwX (As := [.int (iI (sc xs (i + 1))), .int (iI (sc xs (i + 2)))]) (mX0_give l D hX aX cB cI H.size fb fu fw fs fh st hfb hfu hfw hfs hfh hwk hst (sc xs (i + 1)) (sc xs (i + 2)) (sc_rg xs (i + 1)) (sc_rg xs (i + 2))) ⟨hx, hb, hml, hown, hts⟩ (cwV 2 hts (lw_V q62 q63 q64 q9 q65) rfl rfl rfl (by decide +kernel) ⟨(Nat.le_of_ble_eq_true rfl), (Nat.le_of_ble_eq_true rfl)⟩) hK hP hD hA hS rfl hl.1 rfl (Nat.le_of_ble_eq_true rfl) dL_law_148 ⟨Nat.le_refl _, Nat.le_refl _⟩ (fun r1 u1 H locs hwr1 hP hD hS => ?_)
  have hwr1 : r1 = iI (gvX fb fu fw fs fh st (sc xs (i + 1)) (sc xs (i + 2))).1 ∧ u1 = (gvX fb fu fw fs fh st (sc xs (i + 1)) (sc xs (i + 2))).2 := hwr1
  refine lv_aload_n hx hb dL_law_151 rfl (lv_at hl 2 rfl) ?_
  refine lv_aload_n hx hb dL_law_152 rfl (lv_at hl 0 rfl) ?_
  refine lv_iload_n hx hb dL_law_153 rfl (lv_at hl 3 rfl) ?_
  refine r_ic hx hb dL_law_154 ?_
  refine r_add hx hb dL_law_155 ?_
  refine r_sld hx hb hXs hbl hbA hS (by omega) (by omega) dL_law_156 ?_
  refine lv_aload_n hx hb dL_law_157 rfl (lv_at hl 0 rfl) ?_
  refine lv_iload_n hx hb dL_law_158 rfl (lv_at hl 3 rfl) ?_
  refine r_ic hx hb dL_law_159 ?_
  refine r_add hx hb dL_law_160 ?_
  refine r_sld hx hb hXs hbl hbA hS (by omega) (by omega) dL_law_161 ?_
  refine rwM (As := [.int (iI (sc xs (i + 1))), .int (iI (sc xs (i + 2)))]) (mX1_give l D hM aM cB cI H.size mb mh mw ms tm mu hmb hmh hmw hms htm (sc xs (i + 1)) (sc xs (i + 2)) (sc_rg xs (i + 1)) (sc_rg xs (i + 2))) ⟨hx, hb, hml, hown, hts⟩ (cwV 2 hts (lw_V q159 q160 q161 q10 q162) rfl rfl rfl (by decide +kernel) ⟨(Nat.le_of_ble_eq_true rfl), (Nat.le_of_ble_eq_true rfl)⟩) hK hP hD hA hS rfl hl.1 rfl (Nat.le_of_ble_eq_true rfl) dL_law_162 ⟨Nat.le_refl _, Nat.le_refl _⟩ (fun r2 v1 H locs hwr2 hP hD hS => ?_)
  have hwr2 : r2 = iI (gvM mb mh mw ms tm mu (sc xs (i + 1)) (sc xs (i + 2))).1 ∧ v1 = (gvM mb mh mw ms tm mu (sc xs (i + 1)) (sc xs (i + 2))).2 := hwr2
  refine lv_icmp_eq (tgt := 436) hx hb dL_law_165 (by decide) (fun _ => ?_) (fun q => absurd (by rw [hwr1.1, hwr2.1, (l_give (mu := mu) hI (sc xs (i + 1)) (sc xs (i + 2))).1]) q)
  exact kk u1 v1 H locs (by rw [hwr1.2, hwr2.2]; exact (l_give (mu := mu) hI (sc xs (i + 1)) (sc xs (i + 2))).2) hP hD hS
set_option maxHeartbeats 4000000 in
set_option maxRecDepth 100000 in
theorem cs_giveUp {b L : Nat} {xs : Nat → Int32} {N i : Int} (hL : L ≤ 192) (hx : p.tables.exec = Jvm.exec) (hb : c.code = code) (hml : c.maxLocals = 4) (hown : s.vm.findClass R_law = some m.cls) (hts : ∀ w ∈ lw_all, w.before args s = true) (hXs : va_X b L xs s s.heap) (hbl : b < s.heap.size) (hbA : ¬ A b) (hA : ∀ q : Nat, s.heap.size ≤ q → A q) (hK : va_K D vwCl (tX cB cI) s) (hi : 0 ≤ i ∧ i + 3 ≤ (L : Int)) (hN : 0 ≤ N ∧ N ≤ 64) (hI : INV N fb fu fw fs fh st mb mh mw ms tm) (hP : va_P D vwCl (wL hX aX hM aM cB cI fb fu fw fs fh st mb mh mw ms tm mu) H) (hD : va_D A (wL hX aX hM aM cB cI fb fu fw fs fh st mb mh mw ms tm mu)) (hS : va_S A s.heap H locs) (hl : lv_has ls 4 [(0, .ref b), (1, .ref hX), (2, .ref hM), (3, .int (iI i))])
    (kk : ∀ (u : PX) (v : PM) (H : Heap) (locs : List Loc), INV (N + 1) u.1 u.2.1 u.2.2.1 u.2.2.2.1 u.2.2.2.2.1 u.2.2.2.2.2 v.1 v.2.1 v.2.2.1 v.2.2.2.1 v.2.2.2.2.1 → va_P D vwCl (wL hX aX hM aM cB cI u.1 u.2.1 u.2.2.1 u.2.2.2.1 u.2.2.2.2.1 u.2.2.2.2.2 v.1 v.2.1 v.2.2.1 v.2.2.2.1 v.2.2.2.2.1 v.2.2.2.2.2) H → va_D A (wL hX aX hM aM cB cI u.1 u.2.1 u.2.2.1 u.2.2.2.1 u.2.2.2.2.1 u.2.2.2.2.2 v.1 v.2.1 v.2.2.1 v.2.2.2.1 v.2.2.2.2.1 v.2.2.2.2.2) → va_S A s.heap H locs → W p l e room_1 s m args below meth c H locs 600000 7290000 Q (F0 m 436 ls [])) : W p l e room_1 s m args below meth c H locs 600000 7290000 Q (F0 m 170 ls []) := by
  obtain ⟨⟨hfb, hfu, hfw, hfs0, hfh, hwk, hs0, hsN⟩, ⟨e1, e2, e3, e4, e5, e6⟩, hrk, hok⟩ := id hI
  have hfs : rg 0 1000000 6 fs := rg_w hfs0 (by omega)
  have hst : 0 ≤ st ∧ st < 1000000 := ⟨hs0, by omega⟩
  have hmb : rg 0 10 6 mb := by rw [e1]; exact hfb
  have hmh := mh_rg hfh e2
  have hmw := mw_rg hfw e3
  have hms : rg 0 1000000 6 ms := rg_w e5 (by omega)
  have htm : 0 ≤ tm ∧ tm < 1000000 := by omega
  have hPx := hP.sub (ws' := (wX hX aX cB cI fb fu fw fs fh st)) [0, 1, 2, 3, 4, 5] rfl
  have hPm := hP.sub (ws' := (wM hM aM cI mb mh mw ms tm mu)) [6, 7, 8, 9, 10, 11] rfl
  refine lv_aload_n hx hb dL_law_170 rfl (lv_at hl 1 rfl) ?_
  refine lv_aload_n hx hb dL_law_171 rfl (lv_at hl 0 rfl) ?_
  refine lv_iload_n hx hb dL_law_172 rfl (lv_at hl 3 rfl) ?_
  refine r_ic hx hb dL_law_173 ?_
  refine r_add hx hb dL_law_174 ?_
  refine r_sld hx hb hXs hbl hbA hS (by omega) (by omega) dL_law_175 ?_
  refine rwX (As := [.int (iI (sc xs (i + 1)))]) (mX0_giveUp l D hX aX cB cI H.size fb fu fw fs fh st hfb hfu hfw hfs hfh hwk hst (sc xs (i + 1)) (sc_rg xs (i + 1))) ⟨hx, hb, hml, hown, hts⟩ (cwV 1 hts (lw_V q70 q71 q72 q9 q73) rfl rfl rfl (by decide +kernel) ⟨(Nat.le_of_ble_eq_true rfl), (Nat.le_of_ble_eq_true rfl)⟩) hK hP hD hA hS rfl hl.1 rfl (Nat.le_of_ble_eq_true rfl) dL_law_176 ⟨Nat.le_refl _, Nat.le_refl _⟩ (fun r1 u1 H locs hwr1 hP hD hS => ?_)
  have hwr1 : r1 = iI (guX fb fu fw fs fh st (sc xs (i + 1))).1 ∧ u1 = (guX fb fu fw fs fh st (sc xs (i + 1))).2 := hwr1
  refine lv_aload_n hx hb dL_law_179 rfl (lv_at hl 2 rfl) ?_
  refine lv_aload_n hx hb dL_law_180 rfl (lv_at hl 0 rfl) ?_
  refine lv_iload_n hx hb dL_law_181 rfl (lv_at hl 3 rfl) ?_
  refine r_ic hx hb dL_law_182 ?_
  refine r_add hx hb dL_law_183 ?_
  refine r_sld hx hb hXs hbl hbA hS (by omega) (by omega) dL_law_184 ?_
  refine rwM (As := [.int (iI (sc xs (i + 1)))]) (mX1_giveUp l D hM aM cB cI H.size mb mh mw ms tm mu hmb hmh hmw hms htm (sc xs (i + 1)) (sc_rg xs (i + 1))) ⟨hx, hb, hml, hown, hts⟩ (cwV 1 hts (lw_V q171 q172 q173 q10 q174) rfl rfl rfl (by decide +kernel) ⟨(Nat.le_of_ble_eq_true rfl), (Nat.le_of_ble_eq_true rfl)⟩) hK hP hD hA hS rfl hl.1 rfl (Nat.le_of_ble_eq_true rfl) dL_law_185 ⟨Nat.le_refl _, Nat.le_refl _⟩ (fun r2 v1 H locs hwr2 hP hD hS => ?_)
  have hwr2 : r2 = iI (guM mb mh mw ms tm mu (sc xs (i + 1))).1 ∧ v1 = (guM mb mh mw ms tm mu (sc xs (i + 1))).2 := hwr2
  refine lv_icmp_eq (tgt := 436) hx hb dL_law_188 (by decide) (fun _ => ?_) (fun q => absurd (by rw [hwr1.1, hwr2.1, (l_giveUp (mu := mu) hI (sc xs (i + 1))).1]) q)
  exact kk u1 v1 H locs (by rw [hwr1.2, hwr2.2]; exact (l_giveUp (mu := mu) hI (sc xs (i + 1))).2) hP hD hS
set_option maxHeartbeats 4000000 in
set_option maxRecDepth 100000 in
theorem cs_setBase {b L : Nat} {xs : Nat → Int32} {N i : Int} (hL : L ≤ 192) (hx : p.tables.exec = Jvm.exec) (hb : c.code = code) (hml : c.maxLocals = 4) (hown : s.vm.findClass R_law = some m.cls) (hts : ∀ w ∈ lw_all, w.before args s = true) (hXs : va_X b L xs s s.heap) (hbl : b < s.heap.size) (hbA : ¬ A b) (hA : ∀ q : Nat, s.heap.size ≤ q → A q) (hK : va_K D vwCl (tX cB cI) s) (hi : 0 ≤ i ∧ i + 3 ≤ (L : Int)) (hN : 0 ≤ N ∧ N ≤ 64) (hI : INV N fb fu fw fs fh st mb mh mw ms tm) (hP : va_P D vwCl (wL hX aX hM aM cB cI fb fu fw fs fh st mb mh mw ms tm mu) H) (hD : va_D A (wL hX aX hM aM cB cI fb fu fw fs fh st mb mh mw ms tm mu)) (hS : va_S A s.heap H locs) (hl : lv_has ls 4 [(0, .ref b), (1, .ref hX), (2, .ref hM), (3, .int (iI i))])
    (kk : ∀ (u : PX) (v : PM) (H : Heap) (locs : List Loc), INV (N + 1) u.1 u.2.1 u.2.2.1 u.2.2.2.1 u.2.2.2.2.1 u.2.2.2.2.2 v.1 v.2.1 v.2.2.1 v.2.2.2.1 v.2.2.2.2.1 → va_P D vwCl (wL hX aX hM aM cB cI u.1 u.2.1 u.2.2.1 u.2.2.2.1 u.2.2.2.2.1 u.2.2.2.2.2 v.1 v.2.1 v.2.2.1 v.2.2.2.1 v.2.2.2.2.1 v.2.2.2.2.2) H → va_D A (wL hX aX hM aM cB cI u.1 u.2.1 u.2.2.1 u.2.2.2.1 u.2.2.2.2.1 u.2.2.2.2.2 v.1 v.2.1 v.2.2.1 v.2.2.2.1 v.2.2.2.2.1 v.2.2.2.2.2) → va_S A s.heap H locs → W p l e room_1 s m args below meth c H locs 600000 7290000 Q (F0 m 436 ls [])) : W p l e room_1 s m args below meth c H locs 600000 7290000 Q (F0 m 193 ls []) := by
  obtain ⟨⟨hfb, hfu, hfw, hfs0, hfh, hwk, hs0, hsN⟩, ⟨e1, e2, e3, e4, e5, e6⟩, hrk, hok⟩ := id hI
  have hfs : rg 0 1000000 6 fs := rg_w hfs0 (by omega)
  have hst : 0 ≤ st ∧ st < 1000000 := ⟨hs0, by omega⟩
  have hmb : rg 0 10 6 mb := by rw [e1]; exact hfb
  have hmh := mh_rg hfh e2
  have hmw := mw_rg hfw e3
  have hms : rg 0 1000000 6 ms := rg_w e5 (by omega)
  have htm : 0 ≤ tm ∧ tm < 1000000 := by omega
  have hPx := hP.sub (ws' := (wX hX aX cB cI fb fu fw fs fh st)) [0, 1, 2, 3, 4, 5] rfl
  have hPm := hP.sub (ws' := (wM hM aM cI mb mh mw ms tm mu)) [6, 7, 8, 9, 10, 11] rfl
  refine lv_aload_n hx hb dL_law_193 rfl (lv_at hl 1 rfl) ?_
  refine lv_aload_n hx hb dL_law_194 rfl (lv_at hl 0 rfl) ?_
  refine lv_iload_n hx hb dL_law_195 rfl (lv_at hl 3 rfl) ?_
  refine r_ic hx hb dL_law_196 ?_
  refine r_add hx hb dL_law_197 ?_
  refine r_sld hx hb hXs hbl hbA hS (by omega) (by omega) dL_law_198 ?_
  refine lv_aload_n hx hb dL_law_199 rfl (lv_at hl 0 rfl) ?_
  refine lv_iload_n hx hb dL_law_200 rfl (lv_at hl 3 rfl) ?_
  refine r_ic hx hb dL_law_201 ?_
  refine r_add hx hb dL_law_202 ?_
  refine r_sld hx hb hXs hbl hbA hS (by omega) (by omega) dL_law_203 ?_
  refine rwX (As := [.int (iI (sc xs (i + 1))), .int (iI (sc xs (i + 2)))]) (mX0_setBase l D hX aX cB cI H.size fb fu fw fs fh st hfb hfu hfw hfs hfh hwk hst (sc xs (i + 1)) (sc xs (i + 2)) (sc_rg xs (i + 1)) (sc_rg xs (i + 2))) ⟨hx, hb, hml, hown, hts⟩ (cwV 2 hts (lw_V q74 q75 q76 q9 q77) rfl rfl rfl (by decide +kernel) ⟨(Nat.le_of_ble_eq_true rfl), (Nat.le_of_ble_eq_true rfl)⟩) hK hP hD hA hS rfl hl.1 rfl (Nat.le_of_ble_eq_true rfl) dL_law_204 ⟨Nat.le_refl _, Nat.le_refl _⟩ (fun r1 u1 H locs hwr1 hP hD hS => ?_)
  have hwr1 : r1 = iI (sbX fb fu fw fs fh st (sc xs (i + 1)) (sc xs (i + 2))).1 ∧ u1 = (sbX fb fu fw fs fh st (sc xs (i + 1)) (sc xs (i + 2))).2 := hwr1
  refine lv_aload_n hx hb dL_law_207 rfl (lv_at hl 2 rfl) ?_
  refine lv_aload_n hx hb dL_law_208 rfl (lv_at hl 0 rfl) ?_
  refine lv_iload_n hx hb dL_law_209 rfl (lv_at hl 3 rfl) ?_
  refine r_ic hx hb dL_law_210 ?_
  refine r_add hx hb dL_law_211 ?_
  refine r_sld hx hb hXs hbl hbA hS (by omega) (by omega) dL_law_212 ?_
  refine lv_aload_n hx hb dL_law_213 rfl (lv_at hl 0 rfl) ?_
  refine lv_iload_n hx hb dL_law_214 rfl (lv_at hl 3 rfl) ?_
  refine r_ic hx hb dL_law_215 ?_
  refine r_add hx hb dL_law_216 ?_
  refine r_sld hx hb hXs hbl hbA hS (by omega) (by omega) dL_law_217 ?_
  refine rwM (As := [.int (iI (sc xs (i + 1))), .int (iI (sc xs (i + 2)))]) (mX1_setBase l D hM aM cB cI H.size mb mh mw ms tm mu hmb hmh hmw hms htm (sc xs (i + 1)) (sc xs (i + 2)) (sc_rg xs (i + 1)) (sc_rg xs (i + 2))) ⟨hx, hb, hml, hown, hts⟩ (cwV 2 hts (lw_V q175 q176 q177 q10 q178) rfl rfl rfl (by decide +kernel) ⟨(Nat.le_of_ble_eq_true rfl), (Nat.le_of_ble_eq_true rfl)⟩) hK hP hD hA hS rfl hl.1 rfl (Nat.le_of_ble_eq_true rfl) dL_law_218 ⟨Nat.le_refl _, Nat.le_refl _⟩ (fun r2 v1 H locs hwr2 hP hD hS => ?_)
  have hwr2 : r2 = iI (sbM mb mh mw ms tm mu (sc xs (i + 1)) (sc xs (i + 2))).1 ∧ v1 = (sbM mb mh mw ms tm mu (sc xs (i + 1)) (sc xs (i + 2))).2 := hwr2
  refine lv_icmp_eq (tgt := 436) hx hb dL_law_221 (by decide) (fun _ => ?_) (fun q => absurd (by rw [hwr1.1, hwr2.1, (l_setBase (mu := mu) hI (sc xs (i + 1)) (sc xs (i + 2))).1]) q)
  exact kk u1 v1 H locs (by rw [hwr1.2, hwr2.2]; exact (l_setBase (mu := mu) hI (sc xs (i + 1)) (sc xs (i + 2))).2) hP hD hS
set_option maxHeartbeats 4000000 in
set_option maxRecDepth 100000 in
theorem cs_urgency {b L : Nat} {xs : Nat → Int32} {N i : Int} (hL : L ≤ 192) (hx : p.tables.exec = Jvm.exec) (hb : c.code = code) (hml : c.maxLocals = 4) (hown : s.vm.findClass R_law = some m.cls) (hts : ∀ w ∈ lw_all, w.before args s = true) (hXs : va_X b L xs s s.heap) (hbl : b < s.heap.size) (hbA : ¬ A b) (hA : ∀ q : Nat, s.heap.size ≤ q → A q) (hK : va_K D vwCl (tX cB cI) s) (hi : 0 ≤ i ∧ i + 3 ≤ (L : Int)) (hN : 0 ≤ N ∧ N ≤ 64) (hI : INV N fb fu fw fs fh st mb mh mw ms tm) (hP : va_P D vwCl (wL hX aX hM aM cB cI fb fu fw fs fh st mb mh mw ms tm mu) H) (hD : va_D A (wL hX aX hM aM cB cI fb fu fw fs fh st mb mh mw ms tm mu)) (hS : va_S A s.heap H locs) (hl : lv_has ls 4 [(0, .ref b), (1, .ref hX), (2, .ref hM), (3, .int (iI i))])
    (kk : ∀ (u : PX) (v : PM) (H : Heap) (locs : List Loc), INV (N + 1) u.1 u.2.1 u.2.2.1 u.2.2.2.1 u.2.2.2.2.1 u.2.2.2.2.2 v.1 v.2.1 v.2.2.1 v.2.2.2.1 v.2.2.2.2.1 → va_P D vwCl (wL hX aX hM aM cB cI u.1 u.2.1 u.2.2.1 u.2.2.2.1 u.2.2.2.2.1 u.2.2.2.2.2 v.1 v.2.1 v.2.2.1 v.2.2.2.1 v.2.2.2.2.1 v.2.2.2.2.2) H → va_D A (wL hX aX hM aM cB cI u.1 u.2.1 u.2.2.1 u.2.2.2.1 u.2.2.2.2.1 u.2.2.2.2.2 v.1 v.2.1 v.2.2.1 v.2.2.2.1 v.2.2.2.2.1 v.2.2.2.2.2) → va_S A s.heap H locs → W p l e room_1 s m args below meth c H locs 600000 7290000 Q (F0 m 436 ls [])) : W p l e room_1 s m args below meth c H locs 600000 7290000 Q (F0 m 226 ls []) := by
  obtain ⟨⟨hfb, hfu, hfw, hfs0, hfh, hwk, hs0, hsN⟩, ⟨e1, e2, e3, e4, e5, e6⟩, hrk, hok⟩ := id hI
  have hfs : rg 0 1000000 6 fs := rg_w hfs0 (by omega)
  have hst : 0 ≤ st ∧ st < 1000000 := ⟨hs0, by omega⟩
  have hmb : rg 0 10 6 mb := by rw [e1]; exact hfb
  have hmh := mh_rg hfh e2
  have hmw := mw_rg hfw e3
  have hms : rg 0 1000000 6 ms := rg_w e5 (by omega)
  have htm : 0 ≤ tm ∧ tm < 1000000 := by omega
  have hPx := hP.sub (ws' := (wX hX aX cB cI fb fu fw fs fh st)) [0, 1, 2, 3, 4, 5] rfl
  have hPm := hP.sub (ws' := (wM hM aM cI mb mh mw ms tm mu)) [6, 7, 8, 9, 10, 11] rfl
  refine lv_aload_n hx hb dL_law_226 rfl (lv_at hl 1 rfl) ?_
  refine lv_aload_n hx hb dL_law_227 rfl (lv_at hl 0 rfl) ?_
  refine lv_iload_n hx hb dL_law_228 rfl (lv_at hl 3 rfl) ?_
  refine r_ic hx hb dL_law_229 ?_
  refine r_add hx hb dL_law_230 ?_
  refine r_sld hx hb hXs hbl hbA hS (by omega) (by omega) dL_law_231 ?_
  refine ro_V (As := [.int (iI (sc xs (i + 1)))]) (mX0_urgency l D cB cI H hX aX hPx hfu (sc xs (i + 1)) (sc_rg xs (i + 1))) ⟨hx, hb, hml, hown, hts⟩ (cwV 1 hts (lw_V q78 q79 q80 q9 q81) rfl rfl rfl (by decide +kernel) ⟨(Nat.le_of_ble_eq_true rfl), (Nat.le_of_ble_eq_true rfl)⟩) hK (va_recv hK hPx (ci := 0) (q0 := 0) rfl rfl) rfl hl.1 rfl (Nat.le_of_ble_eq_true rfl) dL_law_232 ⟨Nat.le_refl _, Nat.le_refl _⟩ hS (fun locs hS => ?_)
  refine lv_aload_n hx hb dL_law_235 rfl (lv_at hl 2 rfl) ?_
  refine lv_aload_n hx hb dL_law_236 rfl (lv_at hl 0 rfl) ?_
  refine lv_iload_n hx hb dL_law_237 rfl (lv_at hl 3 rfl) ?_
  refine r_ic hx hb dL_law_238 ?_
  refine r_add hx hb dL_law_239 ?_
  refine r_sld hx hb hXs hbl hbA hS (by omega) (by omega) dL_law_240 ?_
  refine rwM (As := [.int (iI (sc xs (i + 1)))]) (mX1_urgency l D hM aM cB cI H.size mb mh mw ms tm mu hmb hmh hmw (sc xs (i + 1)) (sc_rg xs (i + 1))) ⟨hx, hb, hml, hown, hts⟩ (cwV 1 hts (lw_V q179 q180 q181 q10 q182) rfl rfl rfl (by decide +kernel) ⟨(Nat.le_of_ble_eq_true rfl), (Nat.le_of_ble_eq_true rfl)⟩) hK hP hD hA hS rfl hl.1 rfl (Nat.le_of_ble_eq_true rfl) dL_law_241 ⟨Nat.le_refl _, Nat.le_refl _⟩ (fun r2 v1 H locs hwr2 hP hD hS => ?_)
  have hwr2 : r2 = iI (urM (ldG mb mh mw mu) (sc xs (i + 1))) ∧ v1 = (mb, mh, mw, ms, tm, ldG mb mh mw mu) := hwr2
  refine lv_icmp_eq (tgt := 436) hx hb dL_law_244 (by decide) (fun _ => ?_) (fun q => absurd (by rw [hwr2.1, a_urgency (mu := mu) hI (sc xs (i + 1))]) q)
  exact kk (fb, fu, fw, fs, fh, st) v1 H locs (by rw [hwr2.2]; exact INV_w hI) hP hD hS
set_option maxHeartbeats 4000000 in
set_option maxRecDepth 100000 in
theorem cs_base {b L : Nat} {xs : Nat → Int32} {N i : Int} (hL : L ≤ 192) (hx : p.tables.exec = Jvm.exec) (hb : c.code = code) (hml : c.maxLocals = 4) (hown : s.vm.findClass R_law = some m.cls) (hts : ∀ w ∈ lw_all, w.before args s = true) (hXs : va_X b L xs s s.heap) (hbl : b < s.heap.size) (hbA : ¬ A b) (hA : ∀ q : Nat, s.heap.size ≤ q → A q) (hK : va_K D vwCl (tX cB cI) s) (hi : 0 ≤ i ∧ i + 3 ≤ (L : Int)) (hN : 0 ≤ N ∧ N ≤ 64) (hI : INV N fb fu fw fs fh st mb mh mw ms tm) (hP : va_P D vwCl (wL hX aX hM aM cB cI fb fu fw fs fh st mb mh mw ms tm mu) H) (hD : va_D A (wL hX aX hM aM cB cI fb fu fw fs fh st mb mh mw ms tm mu)) (hS : va_S A s.heap H locs) (hl : lv_has ls 4 [(0, .ref b), (1, .ref hX), (2, .ref hM), (3, .int (iI i))])
    (kk : ∀ (u : PX) (v : PM) (H : Heap) (locs : List Loc), INV (N + 1) u.1 u.2.1 u.2.2.1 u.2.2.2.1 u.2.2.2.2.1 u.2.2.2.2.2 v.1 v.2.1 v.2.2.1 v.2.2.2.1 v.2.2.2.2.1 → va_P D vwCl (wL hX aX hM aM cB cI u.1 u.2.1 u.2.2.1 u.2.2.2.1 u.2.2.2.2.1 u.2.2.2.2.2 v.1 v.2.1 v.2.2.1 v.2.2.2.1 v.2.2.2.2.1 v.2.2.2.2.2) H → va_D A (wL hX aX hM aM cB cI u.1 u.2.1 u.2.2.1 u.2.2.2.1 u.2.2.2.2.1 u.2.2.2.2.2 v.1 v.2.1 v.2.2.1 v.2.2.2.1 v.2.2.2.2.1 v.2.2.2.2.2) → va_S A s.heap H locs → W p l e room_1 s m args below meth c H locs 600000 7290000 Q (F0 m 436 ls [])) : W p l e room_1 s m args below meth c H locs 600000 7290000 Q (F0 m 249 ls []) := by
  obtain ⟨⟨hfb, hfu, hfw, hfs0, hfh, hwk, hs0, hsN⟩, ⟨e1, e2, e3, e4, e5, e6⟩, hrk, hok⟩ := id hI
  have hfs : rg 0 1000000 6 fs := rg_w hfs0 (by omega)
  have hst : 0 ≤ st ∧ st < 1000000 := ⟨hs0, by omega⟩
  have hmb : rg 0 10 6 mb := by rw [e1]; exact hfb
  have hmh := mh_rg hfh e2
  have hmw := mw_rg hfw e3
  have hms : rg 0 1000000 6 ms := rg_w e5 (by omega)
  have htm : 0 ≤ tm ∧ tm < 1000000 := by omega
  have hPx := hP.sub (ws' := (wX hX aX cB cI fb fu fw fs fh st)) [0, 1, 2, 3, 4, 5] rfl
  have hPm := hP.sub (ws' := (wM hM aM cI mb mh mw ms tm mu)) [6, 7, 8, 9, 10, 11] rfl
  refine lv_aload_n hx hb dL_law_249 rfl (lv_at hl 1 rfl) ?_
  refine lv_aload_n hx hb dL_law_250 rfl (lv_at hl 0 rfl) ?_
  refine lv_iload_n hx hb dL_law_251 rfl (lv_at hl 3 rfl) ?_
  refine r_ic hx hb dL_law_252 ?_
  refine r_add hx hb dL_law_253 ?_
  refine r_sld hx hb hXs hbl hbA hS (by omega) (by omega) dL_law_254 ?_
  refine ro_V (As := [.int (iI (sc xs (i + 1)))]) (mX0_base l D cB cI H hX aX hPx hfb (sc xs (i + 1)) (sc_rg xs (i + 1))) ⟨hx, hb, hml, hown, hts⟩ (cwV 1 hts (lw_V q82 q83 q84 q9 q85) rfl rfl rfl (by decide +kernel) ⟨(Nat.le_of_ble_eq_true rfl), (Nat.le_of_ble_eq_true rfl)⟩) hK (va_recv hK hPx (ci := 0) (q0 := 0) rfl rfl) rfl hl.1 rfl (Nat.le_of_ble_eq_true rfl) dL_law_255 ⟨Nat.le_refl _, Nat.le_refl _⟩ hS (fun locs hS => ?_)
  refine lv_aload_n hx hb dL_law_258 rfl (lv_at hl 2 rfl) ?_
  refine lv_aload_n hx hb dL_law_259 rfl (lv_at hl 0 rfl) ?_
  refine lv_iload_n hx hb dL_law_260 rfl (lv_at hl 3 rfl) ?_
  refine r_ic hx hb dL_law_261 ?_
  refine r_add hx hb dL_law_262 ?_
  refine r_sld hx hb hXs hbl hbA hS (by omega) (by omega) dL_law_263 ?_
  refine ro_V (As := [.int (iI (sc xs (i + 1)))]) (mX1_base l D cB cI H hM aM hPm hmb (sc xs (i + 1)) (sc_rg xs (i + 1))) ⟨hx, hb, hml, hown, hts⟩ (cwV 1 hts (lw_V q183 q184 q185 q10 q186) rfl rfl rfl (by decide +kernel) ⟨(Nat.le_of_ble_eq_true rfl), (Nat.le_of_ble_eq_true rfl)⟩) hK (va_recv hK hPm (ci := 1) (q0 := 0) rfl rfl) rfl hl.1 rfl (Nat.le_of_ble_eq_true rfl) dL_law_264 ⟨Nat.le_refl _, Nat.le_refl _⟩ hS (fun locs hS => ?_)
  refine lv_icmp_eq (tgt := 436) hx hb dL_law_267 (by decide) (fun _ => ?_) (fun q => absurd (by rw [a_base hI (sc xs (i + 1))]) q)
  exact kk (fb, fu, fw, fs, fh, st) (mb, mh, mw, ms, tm, mu) H locs (INV_w hI) hP hD hS
set_option maxHeartbeats 4000000 in
set_option maxRecDepth 100000 in
theorem cs_holder {b L : Nat} {xs : Nat → Int32} {N i : Int} (hL : L ≤ 192) (hx : p.tables.exec = Jvm.exec) (hb : c.code = code) (hml : c.maxLocals = 4) (hown : s.vm.findClass R_law = some m.cls) (hts : ∀ w ∈ lw_all, w.before args s = true) (hXs : va_X b L xs s s.heap) (hbl : b < s.heap.size) (hbA : ¬ A b) (hA : ∀ q : Nat, s.heap.size ≤ q → A q) (hK : va_K D vwCl (tX cB cI) s) (hi : 0 ≤ i ∧ i + 3 ≤ (L : Int)) (hN : 0 ≤ N ∧ N ≤ 64) (hI : INV N fb fu fw fs fh st mb mh mw ms tm) (hP : va_P D vwCl (wL hX aX hM aM cB cI fb fu fw fs fh st mb mh mw ms tm mu) H) (hD : va_D A (wL hX aX hM aM cB cI fb fu fw fs fh st mb mh mw ms tm mu)) (hS : va_S A s.heap H locs) (hl : lv_has ls 4 [(0, .ref b), (1, .ref hX), (2, .ref hM), (3, .int (iI i))])
    (kk : ∀ (u : PX) (v : PM) (H : Heap) (locs : List Loc), INV (N + 1) u.1 u.2.1 u.2.2.1 u.2.2.2.1 u.2.2.2.2.1 u.2.2.2.2.2 v.1 v.2.1 v.2.2.1 v.2.2.2.1 v.2.2.2.2.1 → va_P D vwCl (wL hX aX hM aM cB cI u.1 u.2.1 u.2.2.1 u.2.2.2.1 u.2.2.2.2.1 u.2.2.2.2.2 v.1 v.2.1 v.2.2.1 v.2.2.2.1 v.2.2.2.2.1 v.2.2.2.2.2) H → va_D A (wL hX aX hM aM cB cI u.1 u.2.1 u.2.2.1 u.2.2.2.1 u.2.2.2.2.1 u.2.2.2.2.2 v.1 v.2.1 v.2.2.1 v.2.2.2.1 v.2.2.2.2.1 v.2.2.2.2.2) → va_S A s.heap H locs → W p l e room_1 s m args below meth c H locs 600000 7290000 Q (F0 m 436 ls [])) : W p l e room_1 s m args below meth c H locs 600000 7290000 Q (F0 m 272 ls []) := by
  obtain ⟨⟨hfb, hfu, hfw, hfs0, hfh, hwk, hs0, hsN⟩, ⟨e1, e2, e3, e4, e5, e6⟩, hrk, hok⟩ := id hI
  have hfs : rg 0 1000000 6 fs := rg_w hfs0 (by omega)
  have hst : 0 ≤ st ∧ st < 1000000 := ⟨hs0, by omega⟩
  have hmb : rg 0 10 6 mb := by rw [e1]; exact hfb
  have hmh := mh_rg hfh e2
  have hmw := mw_rg hfw e3
  have hms : rg 0 1000000 6 ms := rg_w e5 (by omega)
  have htm : 0 ≤ tm ∧ tm < 1000000 := by omega
  have hPx := hP.sub (ws' := (wX hX aX cB cI fb fu fw fs fh st)) [0, 1, 2, 3, 4, 5] rfl
  have hPm := hP.sub (ws' := (wM hM aM cI mb mh mw ms tm mu)) [6, 7, 8, 9, 10, 11] rfl
  refine lv_aload_n hx hb dL_law_272 rfl (lv_at hl 1 rfl) ?_
  refine lv_aload_n hx hb dL_law_273 rfl (lv_at hl 0 rfl) ?_
  refine lv_iload_n hx hb dL_law_274 rfl (lv_at hl 3 rfl) ?_
  refine r_ic hx hb dL_law_275 ?_
  refine r_add hx hb dL_law_276 ?_
  refine r_sld hx hb hXs hbl hbA hS (by omega) (by omega) dL_law_277 ?_
  refine ro_V (As := [.int (iI (sc xs (i + 1)))]) (mX0_holder l D cB cI H hX aX hPx hfh (sc xs (i + 1)) (sc_rg xs (i + 1))) ⟨hx, hb, hml, hown, hts⟩ (cwV 1 hts (lw_V q86 q87 q88 q9 q89) rfl rfl rfl (by decide +kernel) ⟨(Nat.le_of_ble_eq_true rfl), (Nat.le_of_ble_eq_true rfl)⟩) hK (va_recv hK hPx (ci := 0) (q0 := 0) rfl rfl) rfl hl.1 rfl (Nat.le_of_ble_eq_true rfl) dL_law_278 ⟨Nat.le_refl _, Nat.le_refl _⟩ hS (fun locs hS => ?_)
  refine lv_aload_n hx hb dL_law_281 rfl (lv_at hl 2 rfl) ?_
  refine lv_aload_n hx hb dL_law_282 rfl (lv_at hl 0 rfl) ?_
  refine lv_iload_n hx hb dL_law_283 rfl (lv_at hl 3 rfl) ?_
  refine r_ic hx hb dL_law_284 ?_
  refine r_add hx hb dL_law_285 ?_
  refine r_sld hx hb hXs hbl hbA hS (by omega) (by omega) dL_law_286 ?_
  refine ro_V (As := [.int (iI (sc xs (i + 1)))]) (mX1_holder l D cB cI H hM aM hPm hmh (sc xs (i + 1)) (sc_rg xs (i + 1))) ⟨hx, hb, hml, hown, hts⟩ (cwV 1 hts (lw_V q187 q188 q189 q10 q190) rfl rfl rfl (by decide +kernel) ⟨(Nat.le_of_ble_eq_true rfl), (Nat.le_of_ble_eq_true rfl)⟩) hK (va_recv hK hPm (ci := 1) (q0 := 0) rfl rfl) rfl hl.1 rfl (Nat.le_of_ble_eq_true rfl) dL_law_287 ⟨Nat.le_refl _, Nat.le_refl _⟩ hS (fun locs hS => ?_)
  refine lv_icmp_eq (tgt := 436) hx hb dL_law_290 (by decide) (fun _ => ?_) (fun q => absurd (by rw [a_holder hI (sc xs (i + 1))]) q)
  exact kk (fb, fu, fw, fs, fh, st) (mb, mh, mw, ms, tm, mu) H locs (INV_w hI) hP hD hS
set_option maxHeartbeats 4000000 in
set_option maxRecDepth 100000 in
theorem cs_waitsFor {b L : Nat} {xs : Nat → Int32} {N i : Int} (hL : L ≤ 192) (hx : p.tables.exec = Jvm.exec) (hb : c.code = code) (hml : c.maxLocals = 4) (hown : s.vm.findClass R_law = some m.cls) (hts : ∀ w ∈ lw_all, w.before args s = true) (hXs : va_X b L xs s s.heap) (hbl : b < s.heap.size) (hbA : ¬ A b) (hA : ∀ q : Nat, s.heap.size ≤ q → A q) (hK : va_K D vwCl (tX cB cI) s) (hi : 0 ≤ i ∧ i + 3 ≤ (L : Int)) (hN : 0 ≤ N ∧ N ≤ 64) (hI : INV N fb fu fw fs fh st mb mh mw ms tm) (hP : va_P D vwCl (wL hX aX hM aM cB cI fb fu fw fs fh st mb mh mw ms tm mu) H) (hD : va_D A (wL hX aX hM aM cB cI fb fu fw fs fh st mb mh mw ms tm mu)) (hS : va_S A s.heap H locs) (hl : lv_has ls 4 [(0, .ref b), (1, .ref hX), (2, .ref hM), (3, .int (iI i))])
    (kk : ∀ (u : PX) (v : PM) (H : Heap) (locs : List Loc), INV (N + 1) u.1 u.2.1 u.2.2.1 u.2.2.2.1 u.2.2.2.2.1 u.2.2.2.2.2 v.1 v.2.1 v.2.2.1 v.2.2.2.1 v.2.2.2.2.1 → va_P D vwCl (wL hX aX hM aM cB cI u.1 u.2.1 u.2.2.1 u.2.2.2.1 u.2.2.2.2.1 u.2.2.2.2.2 v.1 v.2.1 v.2.2.1 v.2.2.2.1 v.2.2.2.2.1 v.2.2.2.2.2) H → va_D A (wL hX aX hM aM cB cI u.1 u.2.1 u.2.2.1 u.2.2.2.1 u.2.2.2.2.1 u.2.2.2.2.2 v.1 v.2.1 v.2.2.1 v.2.2.2.1 v.2.2.2.2.1 v.2.2.2.2.2) → va_S A s.heap H locs → W p l e room_1 s m args below meth c H locs 600000 7290000 Q (F0 m 436 ls [])) : W p l e room_1 s m args below meth c H locs 600000 7290000 Q (F0 m 295 ls []) := by
  obtain ⟨⟨hfb, hfu, hfw, hfs0, hfh, hwk, hs0, hsN⟩, ⟨e1, e2, e3, e4, e5, e6⟩, hrk, hok⟩ := id hI
  have hfs : rg 0 1000000 6 fs := rg_w hfs0 (by omega)
  have hst : 0 ≤ st ∧ st < 1000000 := ⟨hs0, by omega⟩
  have hmb : rg 0 10 6 mb := by rw [e1]; exact hfb
  have hmh := mh_rg hfh e2
  have hmw := mw_rg hfw e3
  have hms : rg 0 1000000 6 ms := rg_w e5 (by omega)
  have htm : 0 ≤ tm ∧ tm < 1000000 := by omega
  have hPx := hP.sub (ws' := (wX hX aX cB cI fb fu fw fs fh st)) [0, 1, 2, 3, 4, 5] rfl
  have hPm := hP.sub (ws' := (wM hM aM cI mb mh mw ms tm mu)) [6, 7, 8, 9, 10, 11] rfl
  refine lv_aload_n hx hb dL_law_295 rfl (lv_at hl 1 rfl) ?_
  refine lv_aload_n hx hb dL_law_296 rfl (lv_at hl 0 rfl) ?_
  refine lv_iload_n hx hb dL_law_297 rfl (lv_at hl 3 rfl) ?_
  refine r_ic hx hb dL_law_298 ?_
  refine r_add hx hb dL_law_299 ?_
  refine r_sld hx hb hXs hbl hbA hS (by omega) (by omega) dL_law_300 ?_
  refine ro_V (As := [.int (iI (sc xs (i + 1)))]) (mX0_waitsFor l D cB cI H hX aX hPx hfw (sc xs (i + 1)) (sc_rg xs (i + 1))) ⟨hx, hb, hml, hown, hts⟩ (cwV 1 hts (lw_V q90 q91 q92 q9 q93) rfl rfl rfl (by decide +kernel) ⟨(Nat.le_of_ble_eq_true rfl), (Nat.le_of_ble_eq_true rfl)⟩) hK (va_recv hK hPx (ci := 0) (q0 := 0) rfl rfl) rfl hl.1 rfl (Nat.le_of_ble_eq_true rfl) dL_law_301 ⟨Nat.le_refl _, Nat.le_refl _⟩ hS (fun locs hS => ?_)
  refine lv_aload_n hx hb dL_law_304 rfl (lv_at hl 2 rfl) ?_
  refine lv_aload_n hx hb dL_law_305 rfl (lv_at hl 0 rfl) ?_
  refine lv_iload_n hx hb dL_law_306 rfl (lv_at hl 3 rfl) ?_
  refine r_ic hx hb dL_law_307 ?_
  refine r_add hx hb dL_law_308 ?_
  refine r_sld hx hb hXs hbl hbA hS (by omega) (by omega) dL_law_309 ?_
  refine ro_V (As := [.int (iI (sc xs (i + 1)))]) (mX1_waitsFor l D cB cI H hM aM hPm hmw (sc xs (i + 1)) (sc_rg xs (i + 1))) ⟨hx, hb, hml, hown, hts⟩ (cwV 1 hts (lw_V q191 q192 q193 q10 q194) rfl rfl rfl (by decide +kernel) ⟨(Nat.le_of_ble_eq_true rfl), (Nat.le_of_ble_eq_true rfl)⟩) hK (va_recv hK hPm (ci := 1) (q0 := 0) rfl rfl) rfl hl.1 rfl (Nat.le_of_ble_eq_true rfl) dL_law_310 ⟨Nat.le_refl _, Nat.le_refl _⟩ hS (fun locs hS => ?_)
  refine lv_icmp_eq (tgt := 436) hx hb dL_law_313 (by decide) (fun _ => ?_) (fun q => absurd (by rw [a_waitsFor hI (sc xs (i + 1))]) q)
  exact kk (fb, fu, fw, fs, fh, st) (mb, mh, mw, ms, tm, mu) H locs (INV_w hI) hP hD hS
set_option maxHeartbeats 4000000 in
set_option maxRecDepth 100000 in
theorem cs_waiting {b L : Nat} {xs : Nat → Int32} {N i : Int} (hL : L ≤ 192) (hx : p.tables.exec = Jvm.exec) (hb : c.code = code) (hml : c.maxLocals = 4) (hown : s.vm.findClass R_law = some m.cls) (hts : ∀ w ∈ lw_all, w.before args s = true) (hXs : va_X b L xs s s.heap) (hbl : b < s.heap.size) (hbA : ¬ A b) (hA : ∀ q : Nat, s.heap.size ≤ q → A q) (hK : va_K D vwCl (tX cB cI) s) (hi : 0 ≤ i ∧ i + 3 ≤ (L : Int)) (hN : 0 ≤ N ∧ N ≤ 64) (hI : INV N fb fu fw fs fh st mb mh mw ms tm) (hP : va_P D vwCl (wL hX aX hM aM cB cI fb fu fw fs fh st mb mh mw ms tm mu) H) (hD : va_D A (wL hX aX hM aM cB cI fb fu fw fs fh st mb mh mw ms tm mu)) (hS : va_S A s.heap H locs) (hl : lv_has ls 4 [(0, .ref b), (1, .ref hX), (2, .ref hM), (3, .int (iI i))])
    (kk : ∀ (u : PX) (v : PM) (H : Heap) (locs : List Loc), INV (N + 1) u.1 u.2.1 u.2.2.1 u.2.2.2.1 u.2.2.2.2.1 u.2.2.2.2.2 v.1 v.2.1 v.2.2.1 v.2.2.2.1 v.2.2.2.2.1 → va_P D vwCl (wL hX aX hM aM cB cI u.1 u.2.1 u.2.2.1 u.2.2.2.1 u.2.2.2.2.1 u.2.2.2.2.2 v.1 v.2.1 v.2.2.1 v.2.2.2.1 v.2.2.2.2.1 v.2.2.2.2.2) H → va_D A (wL hX aX hM aM cB cI u.1 u.2.1 u.2.2.1 u.2.2.2.1 u.2.2.2.2.1 u.2.2.2.2.2 v.1 v.2.1 v.2.2.1 v.2.2.2.1 v.2.2.2.2.1 v.2.2.2.2.2) → va_S A s.heap H locs → W p l e room_1 s m args below meth c H locs 600000 7290000 Q (F0 m 436 ls [])) : W p l e room_1 s m args below meth c H locs 600000 7290000 Q (F0 m 318 ls []) := by
  obtain ⟨⟨hfb, hfu, hfw, hfs0, hfh, hwk, hs0, hsN⟩, ⟨e1, e2, e3, e4, e5, e6⟩, hrk, hok⟩ := id hI
  have hfs : rg 0 1000000 6 fs := rg_w hfs0 (by omega)
  have hst : 0 ≤ st ∧ st < 1000000 := ⟨hs0, by omega⟩
  have hmb : rg 0 10 6 mb := by rw [e1]; exact hfb
  have hmh := mh_rg hfh e2
  have hmw := mw_rg hfw e3
  have hms : rg 0 1000000 6 ms := rg_w e5 (by omega)
  have htm : 0 ≤ tm ∧ tm < 1000000 := by omega
  have hPx := hP.sub (ws' := (wX hX aX cB cI fb fu fw fs fh st)) [0, 1, 2, 3, 4, 5] rfl
  have hPm := hP.sub (ws' := (wM hM aM cI mb mh mw ms tm mu)) [6, 7, 8, 9, 10, 11] rfl
  refine lv_aload_n hx hb dL_law_318 rfl (lv_at hl 1 rfl) ?_
  refine lv_aload_n hx hb dL_law_319 rfl (lv_at hl 0 rfl) ?_
  refine lv_iload_n hx hb dL_law_320 rfl (lv_at hl 3 rfl) ?_
  refine r_ic hx hb dL_law_321 ?_
  refine r_add hx hb dL_law_322 ?_
  refine r_sld hx hb hXs hbl hbA hS (by omega) (by omega) dL_law_323 ?_
  refine ro_V (As := [.int (iI (sc xs (i + 1)))]) (mX0_waiting l D cB cI H hX aX hPx hfw (sc xs (i + 1)) (sc_rg xs (i + 1))) ⟨hx, hb, hml, hown, hts⟩ (cwV 1 hts (lw_V q94 q95 q96 q9 q97) rfl rfl rfl (by decide +kernel) ⟨(Nat.le_of_ble_eq_true rfl), (Nat.le_of_ble_eq_true rfl)⟩) hK (va_recv hK hPx (ci := 0) (q0 := 0) rfl rfl) rfl hl.1 rfl (Nat.le_of_ble_eq_true rfl) dL_law_324 ⟨Nat.le_refl _, Nat.le_refl _⟩ hS (fun locs hS => ?_)
  refine lv_aload_n hx hb dL_law_327 rfl (lv_at hl 2 rfl) ?_
  refine lv_aload_n hx hb dL_law_328 rfl (lv_at hl 0 rfl) ?_
  refine lv_iload_n hx hb dL_law_329 rfl (lv_at hl 3 rfl) ?_
  refine r_ic hx hb dL_law_330 ?_
  refine r_add hx hb dL_law_331 ?_
  refine r_sld hx hb hXs hbl hbA hS (by omega) (by omega) dL_law_332 ?_
  refine ro_V (As := [.int (iI (sc xs (i + 1)))]) (mX1_waiting l D cB cI H hM aM hPm hmw (sc xs (i + 1)) (sc_rg xs (i + 1))) ⟨hx, hb, hml, hown, hts⟩ (cwV 1 hts (lw_V q195 q196 q197 q10 q198) rfl rfl rfl (by decide +kernel) ⟨(Nat.le_of_ble_eq_true rfl), (Nat.le_of_ble_eq_true rfl)⟩) hK (va_recv hK hPm (ci := 1) (q0 := 0) rfl rfl) rfl hl.1 rfl (Nat.le_of_ble_eq_true rfl) dL_law_333 ⟨Nat.le_refl _, Nat.le_refl _⟩ hS (fun locs hS => ?_)
  refine lv_icmp_eq (tgt := 436) hx hb dL_law_336 (by decide) (fun _ => ?_) (fun q => absurd (by rw [a_waiting hI (sc xs (i + 1))]) q)
  exact kk (fb, fu, fw, fs, fh, st) (mb, mh, mw, ms, tm, mu) H locs (INV_w hI) hP hD hS
set_option maxHeartbeats 4000000 in
set_option maxRecDepth 100000 in
theorem cs_nextFor {b L : Nat} {xs : Nat → Int32} {N i : Int} (hL : L ≤ 192) (hx : p.tables.exec = Jvm.exec) (hb : c.code = code) (hml : c.maxLocals = 4) (hown : s.vm.findClass R_law = some m.cls) (hts : ∀ w ∈ lw_all, w.before args s = true) (hXs : va_X b L xs s s.heap) (hbl : b < s.heap.size) (hbA : ¬ A b) (hA : ∀ q : Nat, s.heap.size ≤ q → A q) (hK : va_K D vwCl (tX cB cI) s) (hi : 0 ≤ i ∧ i + 3 ≤ (L : Int)) (hN : 0 ≤ N ∧ N ≤ 64) (hI : INV N fb fu fw fs fh st mb mh mw ms tm) (hP : va_P D vwCl (wL hX aX hM aM cB cI fb fu fw fs fh st mb mh mw ms tm mu) H) (hD : va_D A (wL hX aX hM aM cB cI fb fu fw fs fh st mb mh mw ms tm mu)) (hS : va_S A s.heap H locs) (hl : lv_has ls 4 [(0, .ref b), (1, .ref hX), (2, .ref hM), (3, .int (iI i))])
    (kk : ∀ (u : PX) (v : PM) (H : Heap) (locs : List Loc), INV (N + 1) u.1 u.2.1 u.2.2.1 u.2.2.2.1 u.2.2.2.2.1 u.2.2.2.2.2 v.1 v.2.1 v.2.2.1 v.2.2.2.1 v.2.2.2.2.1 → va_P D vwCl (wL hX aX hM aM cB cI u.1 u.2.1 u.2.2.1 u.2.2.2.1 u.2.2.2.2.1 u.2.2.2.2.2 v.1 v.2.1 v.2.2.1 v.2.2.2.1 v.2.2.2.2.1 v.2.2.2.2.2) H → va_D A (wL hX aX hM aM cB cI u.1 u.2.1 u.2.2.1 u.2.2.2.1 u.2.2.2.2.1 u.2.2.2.2.2 v.1 v.2.1 v.2.2.1 v.2.2.2.1 v.2.2.2.2.1 v.2.2.2.2.2) → va_S A s.heap H locs → W p l e room_1 s m args below meth c H locs 600000 7290000 Q (F0 m 436 ls [])) : W p l e room_1 s m args below meth c H locs 600000 7290000 Q (F0 m 341 ls []) := by
  obtain ⟨⟨hfb, hfu, hfw, hfs0, hfh, hwk, hs0, hsN⟩, ⟨e1, e2, e3, e4, e5, e6⟩, hrk, hok⟩ := id hI
  have hfs : rg 0 1000000 6 fs := rg_w hfs0 (by omega)
  have hst : 0 ≤ st ∧ st < 1000000 := ⟨hs0, by omega⟩
  have hmb : rg 0 10 6 mb := by rw [e1]; exact hfb
  have hmh := mh_rg hfh e2
  have hmw := mw_rg hfw e3
  have hms : rg 0 1000000 6 ms := rg_w e5 (by omega)
  have htm : 0 ≤ tm ∧ tm < 1000000 := by omega
  have hPx := hP.sub (ws' := (wX hX aX cB cI fb fu fw fs fh st)) [0, 1, 2, 3, 4, 5] rfl
  have hPm := hP.sub (ws' := (wM hM aM cI mb mh mw ms tm mu)) [6, 7, 8, 9, 10, 11] rfl
  refine lv_aload_n hx hb dL_law_341 rfl (lv_at hl 1 rfl) ?_
  refine lv_aload_n hx hb dL_law_342 rfl (lv_at hl 0 rfl) ?_
  refine lv_iload_n hx hb dL_law_343 rfl (lv_at hl 3 rfl) ?_
  refine r_ic hx hb dL_law_344 ?_
  refine r_add hx hb dL_law_345 ?_
  refine r_sld hx hb hXs hbl hbA hS (by omega) (by omega) dL_law_346 ?_
  refine ro_V (As := [.int (iI (sc xs (i + 1)))]) (mX0_nextFor l D cB cI H hX aX hPx hfu hfw hfs (sc xs (i + 1)) (sc_rg xs (i + 1))) ⟨hx, hb, hml, hown, hts⟩ (cwV 1 hts (lw_V q98 q99 q100 q9 q101) rfl rfl rfl (by decide +kernel) ⟨(Nat.le_of_ble_eq_true rfl), (Nat.le_of_ble_eq_true rfl)⟩) hK (va_recv hK hPx (ci := 0) (q0 := 0) rfl rfl) rfl hl.1 rfl (Nat.le_of_ble_eq_true rfl) dL_law_347 ⟨Nat.le_refl _, Nat.le_refl _⟩ hS (fun locs hS => ?_)
  refine lv_aload_n hx hb dL_law_350 rfl (lv_at hl 2 rfl) ?_
  refine lv_aload_n hx hb dL_law_351 rfl (lv_at hl 0 rfl) ?_
  refine lv_iload_n hx hb dL_law_352 rfl (lv_at hl 3 rfl) ?_
  refine r_ic hx hb dL_law_353 ?_
  refine r_add hx hb dL_law_354 ?_
  refine r_sld hx hb hXs hbl hbA hS (by omega) (by omega) dL_law_355 ?_
  refine rwM (As := [.int (iI (sc xs (i + 1)))]) (mX1_nextFor l D hM aM cB cI H.size mb mh mw ms tm mu hmb hmh hmw hms (sc xs (i + 1)) (sc_rg xs (i + 1))) ⟨hx, hb, hml, hown, hts⟩ (cwV 1 hts (lw_V q199 q164 q165 q10 q166) rfl rfl rfl (by decide +kernel) ⟨(Nat.le_of_ble_eq_true rfl), (Nat.le_of_ble_eq_true rfl)⟩) hK hP hD hA hS rfl hl.1 rfl (Nat.le_of_ble_eq_true rfl) dL_law_356 ⟨Nat.le_refl _, Nat.le_refl _⟩ (fun r2 v1 H locs hwr2 hP hD hS => ?_)
  have hwr2 : r2 = iI (nfM mb mh mw ms mu (sc xs (i + 1))) ∧ v1 = (mb, mh, mw, ms, tm, ldG mb mh mw mu) := hwr2
  refine lv_icmp_eq (tgt := 436) hx hb dL_law_359 (by decide) (fun _ => ?_) (fun q => absurd (by rw [hwr2.1, a_nextFor (mu := mu) hI (sc xs (i + 1))]) q)
  exact kk (fb, fu, fw, fs, fh, st) v1 H locs (by rw [hwr2.2]; exact INV_w hI) hP hD hS
set_option maxHeartbeats 4000000 in
set_option maxRecDepth 100000 in
theorem cs_held {b L : Nat} {xs : Nat → Int32} {N i : Int} (hL : L ≤ 192) (hx : p.tables.exec = Jvm.exec) (hb : c.code = code) (hml : c.maxLocals = 4) (hown : s.vm.findClass R_law = some m.cls) (hts : ∀ w ∈ lw_all, w.before args s = true) (hXs : va_X b L xs s s.heap) (hbl : b < s.heap.size) (hbA : ¬ A b) (hA : ∀ q : Nat, s.heap.size ≤ q → A q) (hK : va_K D vwCl (tX cB cI) s) (hi : 0 ≤ i ∧ i + 3 ≤ (L : Int)) (hN : 0 ≤ N ∧ N ≤ 64) (hI : INV N fb fu fw fs fh st mb mh mw ms tm) (hP : va_P D vwCl (wL hX aX hM aM cB cI fb fu fw fs fh st mb mh mw ms tm mu) H) (hD : va_D A (wL hX aX hM aM cB cI fb fu fw fs fh st mb mh mw ms tm mu)) (hS : va_S A s.heap H locs) (hl : lv_has ls 4 [(0, .ref b), (1, .ref hX), (2, .ref hM), (3, .int (iI i))])
    (kk : ∀ (u : PX) (v : PM) (H : Heap) (locs : List Loc), INV (N + 1) u.1 u.2.1 u.2.2.1 u.2.2.2.1 u.2.2.2.2.1 u.2.2.2.2.2 v.1 v.2.1 v.2.2.1 v.2.2.2.1 v.2.2.2.2.1 → va_P D vwCl (wL hX aX hM aM cB cI u.1 u.2.1 u.2.2.1 u.2.2.2.1 u.2.2.2.2.1 u.2.2.2.2.2 v.1 v.2.1 v.2.2.1 v.2.2.2.1 v.2.2.2.2.1 v.2.2.2.2.2) H → va_D A (wL hX aX hM aM cB cI u.1 u.2.1 u.2.2.1 u.2.2.2.1 u.2.2.2.2.1 u.2.2.2.2.2 v.1 v.2.1 v.2.2.1 v.2.2.2.1 v.2.2.2.2.1 v.2.2.2.2.2) → va_S A s.heap H locs → W p l e room_1 s m args below meth c H locs 600000 7290000 Q (F0 m 436 ls [])) : W p l e room_1 s m args below meth c H locs 600000 7290000 Q (F0 m 364 ls []) := by
  obtain ⟨⟨hfb, hfu, hfw, hfs0, hfh, hwk, hs0, hsN⟩, ⟨e1, e2, e3, e4, e5, e6⟩, hrk, hok⟩ := id hI
  have hfs : rg 0 1000000 6 fs := rg_w hfs0 (by omega)
  have hst : 0 ≤ st ∧ st < 1000000 := ⟨hs0, by omega⟩
  have hmb : rg 0 10 6 mb := by rw [e1]; exact hfb
  have hmh := mh_rg hfh e2
  have hmw := mw_rg hfw e3
  have hms : rg 0 1000000 6 ms := rg_w e5 (by omega)
  have htm : 0 ≤ tm ∧ tm < 1000000 := by omega
  have hPx := hP.sub (ws' := (wX hX aX cB cI fb fu fw fs fh st)) [0, 1, 2, 3, 4, 5] rfl
  have hPm := hP.sub (ws' := (wM hM aM cI mb mh mw ms tm mu)) [6, 7, 8, 9, 10, 11] rfl
  refine lv_aload_n hx hb dL_law_364 rfl (lv_at hl 1 rfl) ?_
  refine lv_aload_n hx hb dL_law_365 rfl (lv_at hl 0 rfl) ?_
  refine lv_iload_n hx hb dL_law_366 rfl (lv_at hl 3 rfl) ?_
  refine r_ic hx hb dL_law_367 ?_
  refine r_add hx hb dL_law_368 ?_
  refine r_sld hx hb hXs hbl hbA hS (by omega) (by omega) dL_law_369 ?_
  refine ro_V (As := [.int (iI (sc xs (i + 1)))]) (mX0_held l D cB cI H hX aX hPx hfh (sc xs (i + 1)) (sc_rg xs (i + 1))) ⟨hx, hb, hml, hown, hts⟩ (cwV 1 hts (lw_V q102 q103 q104 q9 q105) rfl rfl rfl (by decide +kernel) ⟨(Nat.le_of_ble_eq_true rfl), (Nat.le_of_ble_eq_true rfl)⟩) hK (va_recv hK hPx (ci := 0) (q0 := 0) rfl rfl) rfl hl.1 rfl (Nat.le_of_ble_eq_true rfl) dL_law_370 ⟨Nat.le_refl _, Nat.le_refl _⟩ hS (fun locs hS => ?_)
  refine lv_aload_n hx hb dL_law_373 rfl (lv_at hl 2 rfl) ?_
  refine lv_aload_n hx hb dL_law_374 rfl (lv_at hl 0 rfl) ?_
  refine lv_iload_n hx hb dL_law_375 rfl (lv_at hl 3 rfl) ?_
  refine r_ic hx hb dL_law_376 ?_
  refine r_add hx hb dL_law_377 ?_
  refine r_sld hx hb hXs hbl hbA hS (by omega) (by omega) dL_law_378 ?_
  refine ro_V (As := [.int (iI (sc xs (i + 1)))]) (mX1_held l D cB cI H hM aM hPm hmh (sc xs (i + 1)) (sc_rg xs (i + 1))) ⟨hx, hb, hml, hown, hts⟩ (cwV 1 hts (lw_V q200 q201 q202 q10 q203) rfl rfl rfl (by decide +kernel) ⟨(Nat.le_of_ble_eq_true rfl), (Nat.le_of_ble_eq_true rfl)⟩) hK (va_recv hK hPm (ci := 1) (q0 := 0) rfl rfl) rfl hl.1 rfl (Nat.le_of_ble_eq_true rfl) dL_law_379 ⟨Nat.le_refl _, Nat.le_refl _⟩ hS (fun locs hS => ?_)
  refine lv_icmp_eq (tgt := 436) hx hb dL_law_382 (by decide) (fun _ => ?_) (fun q => absurd (by rw [a_held hI (sc xs (i + 1))]) q)
  exact kk (fb, fu, fw, fs, fh, st) (mb, mh, mw, ms, tm, mu) H locs (INV_w hI) hP hD hS
set_option maxHeartbeats 4000000 in
set_option maxRecDepth 100000 in
theorem cs_running {b L : Nat} {xs : Nat → Int32} {N i : Int} (hL : L ≤ 192) (hx : p.tables.exec = Jvm.exec) (hb : c.code = code) (hml : c.maxLocals = 4) (hown : s.vm.findClass R_law = some m.cls) (hts : ∀ w ∈ lw_all, w.before args s = true) (hXs : va_X b L xs s s.heap) (hbl : b < s.heap.size) (hbA : ¬ A b) (hA : ∀ q : Nat, s.heap.size ≤ q → A q) (hK : va_K D vwCl (tX cB cI) s) (hi : 0 ≤ i ∧ i + 3 ≤ (L : Int)) (hN : 0 ≤ N ∧ N ≤ 64) (hI : INV N fb fu fw fs fh st mb mh mw ms tm) (hP : va_P D vwCl (wL hX aX hM aM cB cI fb fu fw fs fh st mb mh mw ms tm mu) H) (hD : va_D A (wL hX aX hM aM cB cI fb fu fw fs fh st mb mh mw ms tm mu)) (hS : va_S A s.heap H locs) (hl : lv_has ls 4 [(0, .ref b), (1, .ref hX), (2, .ref hM), (3, .int (iI i))])
    (kk : ∀ (u : PX) (v : PM) (H : Heap) (locs : List Loc), INV (N + 1) u.1 u.2.1 u.2.2.1 u.2.2.2.1 u.2.2.2.2.1 u.2.2.2.2.2 v.1 v.2.1 v.2.2.1 v.2.2.2.1 v.2.2.2.2.1 → va_P D vwCl (wL hX aX hM aM cB cI u.1 u.2.1 u.2.2.1 u.2.2.2.1 u.2.2.2.2.1 u.2.2.2.2.2 v.1 v.2.1 v.2.2.1 v.2.2.2.1 v.2.2.2.2.1 v.2.2.2.2.2) H → va_D A (wL hX aX hM aM cB cI u.1 u.2.1 u.2.2.1 u.2.2.2.1 u.2.2.2.2.1 u.2.2.2.2.2 v.1 v.2.1 v.2.2.1 v.2.2.2.1 v.2.2.2.2.1 v.2.2.2.2.2) → va_S A s.heap H locs → W p l e room_1 s m args below meth c H locs 600000 7290000 Q (F0 m 436 ls [])) : W p l e room_1 s m args below meth c H locs 600000 7290000 Q (F0 m 387 ls []) := by
  obtain ⟨⟨hfb, hfu, hfw, hfs0, hfh, hwk, hs0, hsN⟩, ⟨e1, e2, e3, e4, e5, e6⟩, hrk, hok⟩ := id hI
  have hfs : rg 0 1000000 6 fs := rg_w hfs0 (by omega)
  have hst : 0 ≤ st ∧ st < 1000000 := ⟨hs0, by omega⟩
  have hmb : rg 0 10 6 mb := by rw [e1]; exact hfb
  have hmh := mh_rg hfh e2
  have hmw := mw_rg hfw e3
  have hms : rg 0 1000000 6 ms := rg_w e5 (by omega)
  have htm : 0 ≤ tm ∧ tm < 1000000 := by omega
  have hPx := hP.sub (ws' := (wX hX aX cB cI fb fu fw fs fh st)) [0, 1, 2, 3, 4, 5] rfl
  have hPm := hP.sub (ws' := (wM hM aM cI mb mh mw ms tm mu)) [6, 7, 8, 9, 10, 11] rfl
  refine lv_aload_n hx hb dL_law_387 rfl (lv_at hl 1 rfl) ?_
  refine ro_V (As := []) (mX0_running l D cB cI H hX aX hPx hfu hfw) ⟨hx, hb, hml, hown, hts⟩ (cwV 0 hts (lw_V q106 q107 q108 q9 q109) rfl rfl rfl (by decide +kernel) ⟨(Nat.le_of_ble_eq_true rfl), (Nat.le_of_ble_eq_true rfl)⟩) hK (va_recv hK hPx (ci := 0) (q0 := 0) rfl rfl) rfl hl.1 rfl (Nat.le_of_ble_eq_true rfl) dL_law_388 ⟨Nat.le_refl _, Nat.le_refl _⟩ hS (fun locs hS => ?_)
  refine lv_aload_n hx hb dL_law_391 rfl (lv_at hl 2 rfl) ?_
  refine rwM (As := []) (mX1_running l D hM aM cB cI H.size mb mh mw ms tm mu hmb hmh hmw) ⟨hx, hb, hml, hown, hts⟩ (cwV 0 hts (lw_V q204 q205 q206 q10 q207) rfl rfl rfl (by decide +kernel) ⟨(Nat.le_of_ble_eq_true rfl), (Nat.le_of_ble_eq_true rfl)⟩) hK hP hD hA hS rfl hl.1 rfl (Nat.le_of_ble_eq_true rfl) dL_law_392 ⟨Nat.le_refl _, Nat.le_refl _⟩ (fun r2 v1 H locs hwr2 hP hD hS => ?_)
  have hwr2 : r2 = iI (rnM (ldG mb mh mw mu) mw) ∧ v1 = (mb, mh, mw, ms, tm, ldG mb mh mw mu) := hwr2
  refine lv_icmp_eq (tgt := 436) hx hb dL_law_395 (by decide) (fun _ => ?_) (fun q => absurd (by rw [hwr2.1, a_running (mu := mu) hI]) q)
  exact kk (fb, fu, fw, fs, fh, st) v1 H locs (by rw [hwr2.2]; exact INV_w hI) hP hD hS
set_option maxHeartbeats 4000000 in
set_option maxRecDepth 100000 in
theorem cs_waitingOn {b L : Nat} {xs : Nat → Int32} {N i : Int} (hL : L ≤ 192) (hx : p.tables.exec = Jvm.exec) (hb : c.code = code) (hml : c.maxLocals = 4) (hown : s.vm.findClass R_law = some m.cls) (hts : ∀ w ∈ lw_all, w.before args s = true) (hXs : va_X b L xs s s.heap) (hbl : b < s.heap.size) (hbA : ¬ A b) (hA : ∀ q : Nat, s.heap.size ≤ q → A q) (hK : va_K D vwCl (tX cB cI) s) (hi : 0 ≤ i ∧ i + 3 ≤ (L : Int)) (hN : 0 ≤ N ∧ N ≤ 64) (hI : INV N fb fu fw fs fh st mb mh mw ms tm) (hP : va_P D vwCl (wL hX aX hM aM cB cI fb fu fw fs fh st mb mh mw ms tm mu) H) (hD : va_D A (wL hX aX hM aM cB cI fb fu fw fs fh st mb mh mw ms tm mu)) (hS : va_S A s.heap H locs) (hl : lv_has ls 4 [(0, .ref b), (1, .ref hX), (2, .ref hM), (3, .int (iI i))])
    (kk : ∀ (u : PX) (v : PM) (H : Heap) (locs : List Loc), INV (N + 1) u.1 u.2.1 u.2.2.1 u.2.2.2.1 u.2.2.2.2.1 u.2.2.2.2.2 v.1 v.2.1 v.2.2.1 v.2.2.2.1 v.2.2.2.2.1 → va_P D vwCl (wL hX aX hM aM cB cI u.1 u.2.1 u.2.2.1 u.2.2.2.1 u.2.2.2.2.1 u.2.2.2.2.2 v.1 v.2.1 v.2.2.1 v.2.2.2.1 v.2.2.2.2.1 v.2.2.2.2.2) H → va_D A (wL hX aX hM aM cB cI u.1 u.2.1 u.2.2.1 u.2.2.2.1 u.2.2.2.2.1 u.2.2.2.2.2 v.1 v.2.1 v.2.2.1 v.2.2.2.1 v.2.2.2.2.1 v.2.2.2.2.2) → va_S A s.heap H locs → W p l e room_1 s m args below meth c H locs 600000 7290000 Q (F0 m 436 ls [])) : W p l e room_1 s m args below meth c H locs 600000 7290000 Q (F0 m 400 ls []) := by
  obtain ⟨⟨hfb, hfu, hfw, hfs0, hfh, hwk, hs0, hsN⟩, ⟨e1, e2, e3, e4, e5, e6⟩, hrk, hok⟩ := id hI
  have hfs : rg 0 1000000 6 fs := rg_w hfs0 (by omega)
  have hst : 0 ≤ st ∧ st < 1000000 := ⟨hs0, by omega⟩
  have hmb : rg 0 10 6 mb := by rw [e1]; exact hfb
  have hmh := mh_rg hfh e2
  have hmw := mw_rg hfw e3
  have hms : rg 0 1000000 6 ms := rg_w e5 (by omega)
  have htm : 0 ≤ tm ∧ tm < 1000000 := by omega
  have hPx := hP.sub (ws' := (wX hX aX cB cI fb fu fw fs fh st)) [0, 1, 2, 3, 4, 5] rfl
  have hPm := hP.sub (ws' := (wM hM aM cI mb mh mw ms tm mu)) [6, 7, 8, 9, 10, 11] rfl
  refine lv_aload_n hx hb dL_law_400 rfl (lv_at hl 1 rfl) ?_
  refine lv_aload_n hx hb dL_law_401 rfl (lv_at hl 0 rfl) ?_
  refine lv_iload_n hx hb dL_law_402 rfl (lv_at hl 3 rfl) ?_
  refine r_ic hx hb dL_law_403 ?_
  refine r_add hx hb dL_law_404 ?_
  refine r_sld hx hb hXs hbl hbA hS (by omega) (by omega) dL_law_405 ?_
  refine ro_V (As := [.int (iI (sc xs (i + 1)))]) (mX0_waitingOn l D cB cI H hX aX hPx hfw hfh hwk (sc xs (i + 1)) (sc_rg xs (i + 1))) ⟨hx, hb, hml, hown, hts⟩ (cwV 1 hts (lw_V q110 q111 q112 q9 q113) rfl rfl rfl (by decide +kernel) ⟨(Nat.le_of_ble_eq_true rfl), (Nat.le_of_ble_eq_true rfl)⟩) hK (va_recv hK hPx (ci := 0) (q0 := 0) rfl rfl) rfl hl.1 rfl (Nat.le_of_ble_eq_true rfl) dL_law_406 ⟨Nat.le_refl _, Nat.le_refl _⟩ hS (fun locs hS => ?_)
  refine lv_aload_n hx hb dL_law_409 rfl (lv_at hl 2 rfl) ?_
  refine lv_aload_n hx hb dL_law_410 rfl (lv_at hl 0 rfl) ?_
  refine lv_iload_n hx hb dL_law_411 rfl (lv_at hl 3 rfl) ?_
  refine r_ic hx hb dL_law_412 ?_
  refine r_add hx hb dL_law_413 ?_
  refine r_sld hx hb hXs hbl hbA hS (by omega) (by omega) dL_law_414 ?_
  refine ro_V (As := [.int (iI (sc xs (i + 1)))]) (mX1_waitingOn l D cB cI H hM aM hPm hmh hmw (sc xs (i + 1)) (sc_rg xs (i + 1))) ⟨hx, hb, hml, hown, hts⟩ (cwV 1 hts (lw_V q208 q209 q210 q10 q211) rfl rfl rfl (by decide +kernel) ⟨(Nat.le_of_ble_eq_true rfl), (Nat.le_of_ble_eq_true rfl)⟩) hK (va_recv hK hPm (ci := 1) (q0 := 0) rfl rfl) rfl hl.1 rfl (Nat.le_of_ble_eq_true rfl) dL_law_415 ⟨Nat.le_refl _, Nat.le_refl _⟩ hS (fun locs hS => ?_)
  refine lv_icmp_eq (tgt := 436) hx hb dL_law_418 (by decide) (fun _ => ?_) (fun q => absurd ((a_waitingOn hI (sc xs (i + 1)))) q)
  exact kk (fb, fu, fw, fs, fh, st) (mb, mh, mw, ms, tm, mu) H locs (INV_w hI) hP hD hS
set_option maxHeartbeats 4000000 in
set_option maxRecDepth 100000 in
theorem cs_lifted {b L : Nat} {xs : Nat → Int32} {N i : Int} (hL : L ≤ 192) (hx : p.tables.exec = Jvm.exec) (hb : c.code = code) (hml : c.maxLocals = 4) (hown : s.vm.findClass R_law = some m.cls) (hts : ∀ w ∈ lw_all, w.before args s = true) (hXs : va_X b L xs s s.heap) (hbl : b < s.heap.size) (hbA : ¬ A b) (hA : ∀ q : Nat, s.heap.size ≤ q → A q) (hK : va_K D vwCl (tX cB cI) s) (hi : 0 ≤ i ∧ i + 3 ≤ (L : Int)) (hN : 0 ≤ N ∧ N ≤ 64) (hI : INV N fb fu fw fs fh st mb mh mw ms tm) (hP : va_P D vwCl (wL hX aX hM aM cB cI fb fu fw fs fh st mb mh mw ms tm mu) H) (hD : va_D A (wL hX aX hM aM cB cI fb fu fw fs fh st mb mh mw ms tm mu)) (hS : va_S A s.heap H locs) (hl : lv_has ls 4 [(0, .ref b), (1, .ref hX), (2, .ref hM), (3, .int (iI i))])
    (kk : ∀ (u : PX) (v : PM) (H : Heap) (locs : List Loc), INV (N + 1) u.1 u.2.1 u.2.2.1 u.2.2.2.1 u.2.2.2.2.1 u.2.2.2.2.2 v.1 v.2.1 v.2.2.1 v.2.2.2.1 v.2.2.2.2.1 → va_P D vwCl (wL hX aX hM aM cB cI u.1 u.2.1 u.2.2.1 u.2.2.2.1 u.2.2.2.2.1 u.2.2.2.2.2 v.1 v.2.1 v.2.2.1 v.2.2.2.1 v.2.2.2.2.1 v.2.2.2.2.2) H → va_D A (wL hX aX hM aM cB cI u.1 u.2.1 u.2.2.1 u.2.2.2.1 u.2.2.2.2.1 u.2.2.2.2.2 v.1 v.2.1 v.2.2.1 v.2.2.2.1 v.2.2.2.2.1 v.2.2.2.2.2) → va_S A s.heap H locs → W p l e room_1 s m args below meth c H locs 600000 7290000 Q (F0 m 436 ls [])) : W p l e room_1 s m args below meth c H locs 600000 7290000 Q (F0 m 423 ls []) := by
  obtain ⟨⟨hfb, hfu, hfw, hfs0, hfh, hwk, hs0, hsN⟩, ⟨e1, e2, e3, e4, e5, e6⟩, hrk, hok⟩ := id hI
  have hfs : rg 0 1000000 6 fs := rg_w hfs0 (by omega)
  have hst : 0 ≤ st ∧ st < 1000000 := ⟨hs0, by omega⟩
  have hmb : rg 0 10 6 mb := by rw [e1]; exact hfb
  have hmh := mh_rg hfh e2
  have hmw := mw_rg hfw e3
  have hms : rg 0 1000000 6 ms := rg_w e5 (by omega)
  have htm : 0 ≤ tm ∧ tm < 1000000 := by omega
  have hPx := hP.sub (ws' := (wX hX aX cB cI fb fu fw fs fh st)) [0, 1, 2, 3, 4, 5] rfl
  have hPm := hP.sub (ws' := (wM hM aM cI mb mh mw ms tm mu)) [6, 7, 8, 9, 10, 11] rfl
  refine lv_aload_n hx hb dL_law_423 rfl (lv_at hl 1 rfl) ?_
  refine ro_V (As := []) (mX0_lifted l D cB cI H hX aX hPx hfu hfb) ⟨hx, hb, hml, hown, hts⟩ (cwV 0 hts (lw_V q114 q115 q116 q9 q117) rfl rfl rfl (by decide +kernel) ⟨(Nat.le_of_ble_eq_true rfl), (Nat.le_of_ble_eq_true rfl)⟩) hK (va_recv hK hPx (ci := 0) (q0 := 0) rfl rfl) rfl hl.1 rfl (Nat.le_of_ble_eq_true rfl) dL_law_424 ⟨Nat.le_refl _, Nat.le_refl _⟩ hS (fun locs hS => ?_)
  refine lv_aload_n hx hb dL_law_427 rfl (lv_at hl 2 rfl) ?_
  refine rwM (As := []) (mX1_lifted l D hM aM cB cI H.size mb mh mw ms tm mu hmb hmh hmw) ⟨hx, hb, hml, hown, hts⟩ (cwV 0 hts (lw_V q212 q213 q214 q10 q215) rfl rfl rfl (by decide +kernel) ⟨(Nat.le_of_ble_eq_true rfl), (Nat.le_of_ble_eq_true rfl)⟩) hK hP hD hA hS rfl hl.1 rfl (Nat.le_of_ble_eq_true rfl) dL_law_428 ⟨Nat.le_refl _, Nat.le_refl _⟩ (fun r2 v1 H locs hwr2 hP hD hS => ?_)
  have hwr2 : r2 = mk6 (lfM (ldG mb mh mw mu) mb) ∧ v1 = (mb, mh, mw, ms, tm, ldG mb mh mw mu) := hwr2
  refine lv_icmp_eq (tgt := 436) hx hb dL_law_431 (by decide) (fun _ => ?_) (fun q => absurd (by rw [hwr2.1, a_lifted (mu := mu) hI]) q)
  exact kk (fb, fu, fw, fs, fh, st) v1 H locs (by rw [hwr2.2]; exact INV_w hI) hP hD hS
end S15
end
section
/-! 16: the law's loop, its start, and the claim (the last rows are the skeleton's) -/
set_option maxHeartbeats 4000000 in
set_option maxRecDepth 100000 in
theorem law_loop {p : Program} {l : Launch} {e : Env} {s : State} {m : MethodId} {below : List Frame} {meth : Method} {c : Code} {D : va_G} {b L : Nat} {xs : Nat → Int32} {hX hM : Nat} {aX aM : Nat → Nat} {cB cI : ClassId} (hL : L ≤ 192) (C0 : lw_At p s m meth c b L xs) (hK : va_K D vwCl (tX cB cI) s) :
    ∀ (n k : Nat) (u : PX) (v : PM) (H : Heap) (locs : List Loc) (ls : Array Slot), k ≤ 64 → L < 3 * k + 3 * n + 3 → INV (k : Int) u.1 u.2.1 u.2.2.1 u.2.2.2.1 u.2.2.2.2.1 u.2.2.2.2.2 v.1 v.2.1 v.2.2.1 v.2.2.2.1 v.2.2.2.2.1 → va_P D vwCl (wL hX aX hM aM cB cI u.1 u.2.1 u.2.2.1 u.2.2.2.1 u.2.2.2.2.1 u.2.2.2.2.2 v.1 v.2.1 v.2.2.1 v.2.2.2.1 v.2.2.2.2.1 v.2.2.2.2.2) H → va_D (fun q : Nat => s.heap.size ≤ q) (wL hX aX hM aM cB cI u.1 u.2.1 u.2.2.1 u.2.2.2.1 u.2.2.2.2.1 u.2.2.2.2.2 v.1 v.2.1 v.2.2.1 v.2.2.2.1 v.2.2.2.2.1 v.2.2.2.2.2) → va_S (fun q : Nat => s.heap.size ≤ q) s.heap H locs → lv_has ls 4 [(0, .ref b), (1, .ref hX), (2, .ref hM), (3, .int (iI (3 * (k : Int))))] → W p l e room_1 s m #[Value.ref b] below meth c H locs 600000 7290000 (lw_Z below #[Value.ref b] s) (F0 m 18 ls []) := by
  obtain ⟨hx, hb, hr, hml, hown, hts0, hXs, hbl, hlocks, hgv⟩ := C0
  have hts : ∀ w ∈ lw_all, w.before #[Value.ref b] s = true := fun w h => hts0 w (lw_all_tbl h)
  have hA : ∀ q : Nat, s.heap.size ≤ q → (fun q : Nat => s.heap.size ≤ q) q := fun _ h => h
  have hbA : ¬ (fun q : Nat => s.heap.size ≤ q) b := Nat.not_le.mpr hbl
  intro n
  induction n with
  | zero =>
    intro k u v H locs ls hk hn hI hP hD hS hl
    refine lv_iload_n hx hb dL_law_18 rfl (lv_at hl 3 rfl) ?_
    refine lv_aload_n hx hb dL_law_19 rfl (lv_at hl 0 rfl) ?_
    refine r_slen hx hb hXs hbl hbA hS dL_law_20 ?_
    refine r_ic hx hb dL_law_21 ?_
    refine r_sub hx hb dL_law_22 ?_
    refine r_ic_gt (tgt := 442) hx hb dL_law_23 (by decide) (by omega) (by omega) (fun c23 => ?_) (fun c23 => by exfalso; omega)
    refine lv_iconst (v := 1) hx hb dL_law_442 (by decide) ?_
    refine va_forget (fun q hq => hS.2.2 q hq) ?_
    exact lw_ret hx hb hr hlocks dL_law_443
  | succ n ih =>
    intro k u v H locs ls hk hn hI hP hD hS hl
    refine lv_iload_n hx hb dL_law_18 rfl (lv_at hl 3 rfl) ?_
    refine lv_aload_n hx hb dL_law_19 rfl (lv_at hl 0 rfl) ?_
    refine r_slen hx hb hXs hbl hbA hS dL_law_20 ?_
    refine r_ic hx hb dL_law_21 ?_
    refine r_sub hx hb dL_law_22 ?_
    refine r_ic_gt (tgt := 442) hx hb dL_law_23 (by decide) (by omega) (by omega) (fun c23 => ?_) (fun c23 => ?_)
    · refine lv_iconst (v := 1) hx hb dL_law_442 (by decide) ?_
      refine va_forget (fun q hq => hS.2.2 q hq) ?_
      exact lw_ret hx hb hr hlocks dL_law_443
    · have hi : 0 ≤ 3 * (k : Int) ∧ 3 * (k : Int) + 3 ≤ (L : Int) := by omega
      have hN : 0 ≤ (k : Int) ∧ (k : Int) ≤ 64 := by omega
      have next : ∀ (u : PX) (v : PM) (H : Heap) (locs : List Loc), INV ((k : Int) + 1) u.1 u.2.1 u.2.2.1 u.2.2.2.1 u.2.2.2.2.1 u.2.2.2.2.2 v.1 v.2.1 v.2.2.1 v.2.2.2.1 v.2.2.2.2.1 → va_P D vwCl (wL hX aX hM aM cB cI u.1 u.2.1 u.2.2.1 u.2.2.2.1 u.2.2.2.2.1 u.2.2.2.2.2 v.1 v.2.1 v.2.2.1 v.2.2.2.1 v.2.2.2.2.1 v.2.2.2.2.2) H → va_D (fun q : Nat => s.heap.size ≤ q) (wL hX aX hM aM cB cI u.1 u.2.1 u.2.2.1 u.2.2.2.1 u.2.2.2.2.1 u.2.2.2.2.2 v.1 v.2.1 v.2.2.1 v.2.2.2.1 v.2.2.2.2.1 v.2.2.2.2.2) → va_S (fun q : Nat => s.heap.size ≤ q) s.heap H locs → W p l e room_1 s m #[Value.ref b] below meth c H locs 600000 7290000 (lw_Z below #[Value.ref b] s) (F0 m 436 ls []) := by
        intro u v H locs hI hP hD hS
        refine r_iinc (j := 3) (lv' := [(3, .int (iI (3 * ((k + 1 : Nat) : Int)))), (0, .ref b), (1, .ref hX), (2, .ref hM)]) (b := 3 * ((k + 1 : Nat) : Int)) hx hb dL_law_436 hl rfl (by omega) (by decide) rfl (fun ls hl => ?_)
        refine lv_goto (tgt := 18) hx hb dL_law_439 (by decide) ?_
        exact ih (k + 1) u v H locs ls (by omega) (by omega) hI hP hD hS (lv_sub hl [1, 2, 3, 0] rfl)
      refine lv_aload_n hx hb dL_law_26 rfl (lv_at hl 0 rfl) ?_
      refine lv_iload_n hx hb dL_law_27 rfl (lv_at hl 3 rfl) ?_
      refine r_sld hx hb hXs hbl hbA hS (by omega) (by omega) dL_law_28 ?_
      refine r_bp hx hb dL_law_29 (by decide +kernel) ?_
      refine lv_iand hx hb dL_law_31 ?_
      obtain ⟨j, hj, ej⟩ := pk_andE (iI (sc xs (3 * (k : Int)))) (m := iI 15) 4 (by decide +kernel)
      rw [ej]
      have hj : j = 0 ∨ j = 1 ∨ j = 2 ∨ j = 3 ∨ j = 4 ∨ j = 5 ∨ j = 6 ∨ j = 7 ∨ j = 8 ∨ j = 9 ∨ j = 10 ∨ j = 11 ∨ j = 12 ∨ j = 13 ∨ j = 14 ∨ j = 15 := by omega
      rcases hj with rfl | rfl | rfl | rfl | rfl | rfl | rfl | rfl | rfl | rfl | rfl | rfl | rfl | rfl | rfl | rfl
      · refine lv_tableIn (tgt := 104) (off := 72) hx hb dL_law_32 (by decide +kernel) (by decide +kernel) (by decide +kernel) (by decide) ?_
        exact cs_take hL hx hb hml hown hts hXs hbl hbA hA hK hi hN hI hP hD hS hl next
      · refine lv_tableIn (tgt := 137) (off := 105) hx hb dL_law_32 (by decide +kernel) (by decide +kernel) (by decide +kernel) (by decide) ?_
        exact cs_give hL hx hb hml hown hts hXs hbl hbA hA hK hi hN hI hP hD hS hl next
      · refine lv_tableIn (tgt := 170) (off := 138) hx hb dL_law_32 (by decide +kernel) (by decide +kernel) (by decide +kernel) (by decide) ?_
        exact cs_giveUp hL hx hb hml hown hts hXs hbl hbA hA hK hi hN hI hP hD hS hl next
      · refine lv_tableIn (tgt := 193) (off := 161) hx hb dL_law_32 (by decide +kernel) (by decide +kernel) (by decide +kernel) (by decide) ?_
        exact cs_setBase hL hx hb hml hown hts hXs hbl hbA hA hK hi hN hI hP hD hS hl next
      · refine lv_tableIn (tgt := 226) (off := 194) hx hb dL_law_32 (by decide +kernel) (by decide +kernel) (by decide +kernel) (by decide) ?_
        exact cs_urgency hL hx hb hml hown hts hXs hbl hbA hA hK hi hN hI hP hD hS hl next
      · refine lv_tableIn (tgt := 249) (off := 217) hx hb dL_law_32 (by decide +kernel) (by decide +kernel) (by decide +kernel) (by decide) ?_
        exact cs_base hL hx hb hml hown hts hXs hbl hbA hA hK hi hN hI hP hD hS hl next
      · refine lv_tableIn (tgt := 272) (off := 240) hx hb dL_law_32 (by decide +kernel) (by decide +kernel) (by decide +kernel) (by decide) ?_
        exact cs_holder hL hx hb hml hown hts hXs hbl hbA hA hK hi hN hI hP hD hS hl next
      · refine lv_tableIn (tgt := 295) (off := 263) hx hb dL_law_32 (by decide +kernel) (by decide +kernel) (by decide +kernel) (by decide) ?_
        exact cs_waitsFor hL hx hb hml hown hts hXs hbl hbA hA hK hi hN hI hP hD hS hl next
      · refine lv_tableIn (tgt := 318) (off := 286) hx hb dL_law_32 (by decide +kernel) (by decide +kernel) (by decide +kernel) (by decide) ?_
        exact cs_waiting hL hx hb hml hown hts hXs hbl hbA hA hK hi hN hI hP hD hS hl next
      · refine lv_tableIn (tgt := 341) (off := 309) hx hb dL_law_32 (by decide +kernel) (by decide +kernel) (by decide +kernel) (by decide) ?_
        exact cs_nextFor hL hx hb hml hown hts hXs hbl hbA hA hK hi hN hI hP hD hS hl next
      · refine lv_tableIn (tgt := 364) (off := 332) hx hb dL_law_32 (by decide +kernel) (by decide +kernel) (by decide +kernel) (by decide) ?_
        exact cs_held hL hx hb hml hown hts hXs hbl hbA hA hK hi hN hI hP hD hS hl next
      · refine lv_tableIn (tgt := 387) (off := 355) hx hb dL_law_32 (by decide +kernel) (by decide +kernel) (by decide +kernel) (by decide) ?_
        exact cs_running hL hx hb hml hown hts hXs hbl hbA hA hK hi hN hI hP hD hS hl next
      · refine lv_tableIn (tgt := 400) (off := 368) hx hb dL_law_32 (by decide +kernel) (by decide +kernel) (by decide +kernel) (by decide) ?_
        exact cs_waitingOn hL hx hb hml hown hts hXs hbl hbA hA hK hi hN hI hP hD hS hl next
      · refine lv_tableIn (tgt := 423) (off := 391) hx hb dL_law_32 (by decide +kernel) (by decide +kernel) (by decide +kernel) (by decide) ?_
        exact cs_lifted hL hx hb hml hown hts hXs hbl hbA hA hK hi hN hI hP hD hS hl next
      · refine lv_tableOut (tgt := 436) hx hb dL_law_32 (by decide +kernel) (by decide) ?_
        exact next u v H locs (INV_w hI) hP hD hS
      · refine lv_tableOut (tgt := 436) hx hb dL_law_32 (by decide +kernel) (by decide) ?_
        exact next u v H locs (INV_w hI) hP hD hS
set_option maxHeartbeats 4000000 in
set_option maxRecDepth 100000 in
/-- from the entry, for every script of at most 192 ints, the law comes to its end with true -/
theorem whole_start {p : Program} {e : Env} {s : State} {m : MethodId} {below : List Frame} {meth : Method} {c : Code} (l : Launch) {b L : Nat} {xs : Nat → Int32} (hL : L ≤ 192) (C0 : lw_At p s m meth c b L xs) : W p l e room_1 s m #[Value.ref b] below meth c s.heap [] 0 0 (lw_Z below #[Value.ref b] s) (entryFrame m ([Value.ref b] : List Value).toArray 4) := by
  obtain ⟨hx, hb, hr, hml, hown, hts0, hXs, hbl, hlocks, hgv⟩ := id C0
  have hts : ∀ w ∈ lw_all, w.before #[Value.ref b] s = true := fun w h => hts0 w (lw_all_tbl h)
  obtain ⟨c0_, iS0, hKn0⟩ := u_known (C := RX0) (T := TX0) (N := 6) (n := 6) hts in_X0 (hts _ q12)
  obtain ⟨c1_, iS1, hKn1⟩ := u_known (C := RX1) (T := TX1) (N := 6) (n := 6) hts in_X1 (hts _ q119)
  obtain ⟨D, hK⟩ : ∃ D : va_G, va_K D vwCl [] s := by
    refine ⟨(fun k => if k = 0 then c0_ else c1_, fun k => if k = 0 then iS0 else iS1), fun k q hq => ?_, fun k q hq => by simp at hq⟩
    match k, hq with
    | 0, hq => cases hq; exact hKn0
    | 1, hq => cases hq; exact hKn1
    | k + 2, hq => simp [vwCl] at hq
  have hA : ∀ q : Nat, s.heap.size ≤ q → (fun q : Nat => s.heap.size ≤ q) q := fun _ h => h
  have hS : va_S (fun q : Nat => s.heap.size ≤ q) s.heap s.heap [] := va_S.rf
  have hP : va_P D vwCl [] s.heap := fun k q hq => by simp at hq
  have hD : va_D (fun q : Nat => s.heap.size ≤ q) [] := ⟨fun i j x y hq => by simp at hq, fun k q hq => by simp at hq⟩
  have hl := lv_entry ([Value.ref b]) (n := 4) (Nat.le_of_ble_eq_true rfl)
  rw [lg_entry_eq]
  generalize (lg_sl ([Value.ref b]) ++ List.replicate (4 - (lg_sl ([Value.ref b])).length) Slot.unset).toArray = ls at hl ⊢
  have hl : lv_has ls 4 [(0, .ref b)] := hl
  refine va_new (ci := 0) (fs := [.null, .null, .null, .null, .null, .int (iI 0)]) (C := RX0) (T := TX0) (N := 6) hx hb hts in_X0 tyX0 tyX0_ok hown (hts _ q11) (hts _ q12) (hts _ q9) hK hP hD hS hA rfl (fun j hj => by rcases (show j = 0 ∨ j = 1 ∨ j = 2 ∨ j = 3 ∨ j = 4 ∨ j = 5 by omega) with rfl | rfl | rfl | rfl | rfl | rfl <;> first | rfl | exact congrArg Value.int iI_z) (Nat.le_of_ble_eq_true rfl) (Nat.le_of_ble_eq_true rfl) dL_law_0 (fun hX H hP hD hS => ?_)
  have hP : va_P D vwCl [(hX, .inr (0, [.null, .null, .null, .null, .null, .int (iI 0)]))] H := hP
  have hD : va_D (fun q : Nat => s.heap.size ≤ q) [(hX, .inr (0, [.null, .null, .null, .null, .null, .int (iI 0)]))] := hD
  refine W.widen (k := 1) (n := 6) (Nat.le_of_ble_eq_true rfl) (Nat.le_of_ble_eq_true rfl) ?_
  refine lv_dup hx hb dL_law_3 rfl ?_
  have hFc := va_free (wc := [(hX, .inr (0, [.null, .null, .null, .null, .null, .int (iI 0)]))]) hD hS hA [0] rfl
  refine va_callv (va_runI (As := []) (rest := [.ref hX]) ⟨hx, hb, hml, hown, hts⟩ (mX0_init l D hX H.size) (cwI 0 hts (lw_meth q15) rfl rfl rfl (hts _ q9) (hts _ q13) (hts _ q14) rfl (by decide +kernel) ⟨(Nat.le_of_ble_eq_true rfl), (Nat.le_of_ble_eq_true rfl)⟩) ⟨fun a U g mk q => by obtain ⟨q0, q1, qP, qK, qD⟩ := q; exact ⟨q0, q1, qP, va_K.moved (u := U) (U := U.calling g mk a) (Vm.Alike.refl U.vm) qK, qD⟩, fun U hU hW => ⟨rfl, by rw [hU], by rw [hU]; exact hP, va_K.moved hW.alike hK, hD.weaken (fun _ _ _ _ => trivial)⟩⟩ rfl rfl hl.1 rfl (lv_room (Nat.le_of_ble_eq_true rfl)) dL_law_4 ⟨(Nat.le_of_ble_eq_true rfl), (Nat.le_of_ble_eq_true rfl)⟩) hS (fun q _ h => hFc q h) hFc (fun u t1 H1 locs ht1 hvm hw hB hz1 hk1 hS => ?_)
  obtain ⟨aX, cB, cI, hP1, hK1, hD1⟩ := hB
  rw [ht1] at hP1
  have hK := va_K.moved hvm.symm hK1
  have hP := hP1
  have hD : va_D (fun q : Nat => s.heap.size ≤ q) (wX hX aX cB cI (fun _ => 0) (fun _ => 0) (fun _ => -1) (fun _ => 0) (fun _ => -1) 0) := hD1.weaken (fun _ q _ h => hFc q.1 h)
  generalize H1 = H at hP hS ⊢
  refine W.widen (k := 6) (n := 35) (Nat.le_of_ble_eq_true rfl) (Nat.le_of_ble_eq_true rfl) ?_
  refine lv_astore_n (lv' := [(1, .ref hX), (0, .ref b)]) hx hb dL_law_7 rfl hl (by decide) rfl (fun ls hl => ?_)
  refine va_new (ci := 1) (fs := [.null, .null, .null, .null, .int (iI 0), .null]) (C := RX1) (T := TX1) (N := 6) hx hb hts in_X1 tyX1 tyX1_ok hown (hts _ q118) (hts _ q119) (hts _ q10) hK hP hD hS hA rfl (fun j hj => by rcases (show j = 0 ∨ j = 1 ∨ j = 2 ∨ j = 3 ∨ j = 4 ∨ j = 5 by omega) with rfl | rfl | rfl | rfl | rfl | rfl <;> first | rfl | exact congrArg Value.int iI_z) (Nat.le_of_ble_eq_true rfl) (Nat.le_of_ble_eq_true rfl) dL_law_8 (fun hM H hP hD hS => ?_)
  have hP : va_P D vwCl ((wX hX aX cB cI (fun _ => 0) (fun _ => 0) (fun _ => -1) (fun _ => 0) (fun _ => -1) 0) ++ [(hM, .inr (1, [.null, .null, .null, .null, .int (iI 0), .null]))]) H := hP
  have hD : va_D (fun q : Nat => s.heap.size ≤ q) ((wX hX aX cB cI (fun _ => 0) (fun _ => 0) (fun _ => -1) (fun _ => 0) (fun _ => -1) 0) ++ [(hM, .inr (1, [.null, .null, .null, .null, .int (iI 0), .null]))]) := hD
  refine W.widen (k := 7) (n := 41) (Nat.le_of_ble_eq_true rfl) (Nat.le_of_ble_eq_true rfl) ?_
  refine lv_dup hx hb dL_law_11 rfl ?_
  have hPc := hP.sub (ws' := [(hM, .inr (1, [.null, .null, .null, .null, .int (iI 0), .null]))]) [6] rfl
  have hDc := hD.sub (ws' := [(hM, .inr (1, [.null, .null, .null, .null, .int (iI 0), .null]))]) [6] (by decide) rfl
  have hKc := hK.sub (tys' := []) [] rfl
  have hFc := va_free (wc := [(hM, .inr (1, [.null, .null, .null, .null, .int (iI 0), .null]))]) hD hS hA [6] rfl
  refine va_callv (va_runI (As := []) (rest := [.ref hM]) ⟨hx, hb, hml, hown, hts⟩ (mX1_init l D hM H.size) (cwI 0 hts (lw_meth q122) rfl rfl rfl (hts _ q10) (hts _ q120) (hts _ q121) rfl (by decide +kernel) ⟨(Nat.le_of_ble_eq_true rfl), (Nat.le_of_ble_eq_true rfl)⟩) ⟨fun a U g mk q => by obtain ⟨q0, q1, qP, qK, qD⟩ := q; exact ⟨q0, q1, qP, va_K.moved (u := U) (U := U.calling g mk a) (Vm.Alike.refl U.vm) qK, qD⟩, fun U hU hW => ⟨rfl, by rw [hU], by rw [hU]; exact hPc, va_K.moved hW.alike hKc, hDc.weaken (fun _ _ _ _ => trivial)⟩⟩ rfl rfl hl.1 rfl (lv_room (Nat.le_of_ble_eq_true rfl)) dL_law_12 ⟨(Nat.le_of_ble_eq_true rfl), (Nat.le_of_ble_eq_true rfl)⟩) hS (fun q _ h => hFc q h) hFc (fun u t1 H1 locs ht1 hvm hw hB hz1 hk1 hS => ?_)
  obtain ⟨aM, cI2, hP1, hK1, hD1⟩ := hB
  rw [ht1] at hP1
  have hK2 := hK.app (va_K.moved hvm.symm hK1)
  obtain ⟨hP, hD⟩ := va_join (wr := (wX hX aX cB cI (fun _ => 0) (fun _ => 0) (fun _ => -1) (fun _ => 0) (fun _ => -1) 0)) (w1 := (wM hM aM cI2 (fun _ => 0) (fun _ => 0) (fun _ => 0) (fun _ => 0) 0 (fun _ => 0))) hP hD [6] [0, 1, 2, 3, 4, 5] rfl rfl (by decide) (by decide) hk1 hFc hP1 hD1
  obtain rfl := (cls_i hK2 1 2 rfl rfl).symm
  generalize H1 = H at hP hS ⊢
  refine W.widen (k := 600000) (n := 7290000) (Nat.le_of_ble_eq_true rfl) (Nat.le_of_ble_eq_true rfl) ?_
  refine lv_astore_n (lv' := [(2, .ref hM), (1, .ref hX), (0, .ref b)]) hx hb dL_law_15 rfl hl (by decide) rfl (fun ls hl => ?_)
  refine r_ic hx hb dL_law_16 ?_
  refine lv_istore_n (lv' := [(3, .int (iI 0)), (2, .ref hM), (1, .ref hX), (0, .ref b)]) hx hb dL_law_17 rfl hl (by decide) rfl (fun ls hl => ?_)
  exact law_loop hL C0 hK 64 0 ((fun _ => 0), (fun _ => 0), (fun _ => -1), (fun _ => 0), (fun _ => -1), 0) ((fun _ => 0), (fun _ => 0), (fun _ => 0), (fun _ => 0), 0, (fun _ => 0)) H locs ls (by omega) (by omega) INV_0 hP hD hS (lv_sub hl [3, 2, 1, 0] rfl)
set_option maxHeartbeats 4000000 in
theorem lw_walk (l : Launch) (b : Addr) (xs : List Int32) : MetFree l x (headSpec (Jvm.Cond.code x code maxLocals ret :: tables_1) room_1) (lw_P b xs) (fun _ _ _ _ _ => True) lw_Q := by
  refine MetFree.of_bodyS (code := code) (maxLocals := maxLocals) (ret := ret) (by decide) ?_ ?_
  · intro args s m h hn
    obtain ⟨meth, c, h1, h2, h3, h4, h5, h6, -, -⟩ := Cond.code_spec hn (atoms_spec (ws := Jvm.Cond.code x code maxLocals ret :: tables_1) h _ List.mem_cons_self)
    exact ⟨meth, c, h1, h2, h3, h4, h5, h6⟩
  · intro p e s m args below meth c s₁ B hml0 hP _
    obtain ⟨rfl, hx, hbd, hgv⟩ := hP
    obtain ⟨scr, harrAt, hlist, hof, hsmall⟩ := hx
    obtain ⟨hcb, hkn, -, -⟩ := State.arrayAt?_spec harrAt
    have hown : s.vm.findClass R_law = some m.cls := findClass_of_methodNamed B.named
    have hts0 : ∀ c ∈ (Jvm.Cond.code x code maxLocals ret :: tables_1), c.before #[Value.ref b] s = true := atoms_spec (ws := Jvm.Cond.code x code maxLocals ret :: tables_1) B.pre
    have hts : ∀ w ∈ lw_tbl, w.before #[Value.ref b] s = true := k2_hts_sels lw_privs (fun w hw => hts0 w (List.mem_cons_of_mem _ hw)) lw_privs_ok
    have hml : c.maxLocals = 4 := B.maxLocals_eq (hts0 _ List.mem_cons_self)
    have X₀ : Stand p l e room_1 s m #[Value.ref b] below meth c s₁ [] 0 0 := Stand.of_body B
    have hh0 : s₁.heap = s.heap := by rw [B.state]; rfl
    have hsz : scr.slots.size = xs.length := by rw [← Array.length_toList, hlist, List.length_map]
    have hval : ∀ j : Nat, j < xs.length → scr.slots[j]? = some (.int (xs.getD j 0)) := fun j hj => by
      rw [← Array.getElem?_toList, hlist]
      simp [hj]
    have hbl : b < s.heap.size := (Array.getElem?_eq_some_iff.mp hcb).1
    have hX : va_X b xs.length (fun j => xs.getD j 0) s s.heap := ⟨scr, hcb, hof, hkn, hsz, hval⟩
    have K : W p l e room_1 s m #[Value.ref b] below meth c s₁.heap [] 0 0 (lw_Z below #[Value.ref b] s) (entryFrame m ([Value.ref b] : List Value).toArray 4) := by
      rw [hh0]
      exact whole_start l hbd ⟨B.exec, B.bytes, B.returns, hml, hown, hts, hX, hbl, B.notSynchronized, hgv⟩
    obtain ⟨t, a1, o, b1, b2, b3⟩ := K s₁ rfl X₀
    exact ⟨t, o, a1, b1, b2, b3⟩
theorem lw_pre_spec {args : Array Value} {s : State} (h : (Jvm.Cond.and given_1 narrow_1).before args s = true) (hr : rest_1_c.before args s = true) : ∃ (b : Addr) (xs : List Int32), lw_P b xs args s := by
  have hs := flat_of_before _ h
  have hq := flat_of_before _ hr
  have hc : (Cond.count 1).before args s = true := hs _ (by decide +kernel)
  have harr : (Cond.arrayOf (.arg 0) .int).before args s = true := hs _ (by decide +kernel)
  have hle : (Cond.le (.length (.arg 0)) (.int 192)).before args s = true := hs _ (by decide +kernel)
  have hlen : (Cond.isInt (.length (.arg 0))).before args s = true := hq _ (by decide +kernel)
  have hall : (Cond.all (.arg 0) (.isInt (.elem (.arg 0) (.index 0)))).before args s = true := hq _ (by decide +kernel)
  obtain ⟨b, xs, hb, hx⟩ := State.ints_of_pre rfl harr hlen hall
  have hsm : xs.length < 2 ^ 31 := hx.choose_spec.2.2.2
  have hev : (Term.length (.arg 0)).eval args s none [] s = some (.int xs.length.toInt32) := hx.length_eval hb
  have hv := Cond.le_ints hev (show (Term.int 192).eval args s none [] s = some (.int 192) from rfl)
  have hd : xs.length.toInt32 ≤ 192 := by
    simpa [Cond.before, Cond.holds, hv] using hle
  have hN : xs.length ≤ 192 := (Int32.ofNat_le_ofNat hsm (by decide)).mp (show Int32.ofNat xs.length ≤ Int32.ofNat 192 from hd)
  exact ⟨b, xs, Cond.one_arg hc (show args[0]? = some (.ref b) from hb), hx, hN, h⟩
theorem lw_comes (l : Launch) : Comes l x (Jvm.Cond.code x code maxLocals ret :: tables_1) room_1 (fun tb e args s => Calls_1 tb e args s ∧ rest_1 tb e args s ∧ Pre_1 tb e args s)
    (fun _ _ args s o t => lw_Q args s o t) := by
  intro p e ha hc hk s m args below hf hfit hheap happ hpre
  obtain ⟨b, xs, hP⟩ := lw_pre_spec hpre.2.2 hpre.2.1
  obtain ⟨k, o, h1, h2, h3, hQ⟩ := lw_walk l b xs p e ha hc hk s m args below hf ((Spec.applies_iff_loose hf).mp happ).1 hP trivial
  exact ⟨k, o, h1, h2, h3, hQ⟩
theorem lw_frame {s t : State} {o : Outcome} {args : Array Value} (h : Framed s o t [] 600000 7290000) :
    Framed s o t (fieldLocs frame_1_writes args s ++ arrayLocs frame_1_arrays args s ++ staticLocs frame_1_statics s) 600000 7290000 := h
theorem lw_limb (L : Cond) (hL : ∀ (args : Array Value) (s t : State), L.after args s (.returned (some (.int 1))) t = true) :
    ArmFor flags0 classFile x code maxLocals ret World_1 tables_1 room_1 Calls_1 rest_1 Pre_1
      (fun tb e a s o t => postC L tb e a s o t ∧ Framed s o t (fieldLocs frame_1_writes a s ++ arrayLocs frame_1_arrays a s ++ staticLocs frame_1_statics s) 600000 7290000) := by
  intro l _ _ _ p e ha hc hk s m args below hf hfit hheap happ hpre
  obtain ⟨k, o, h1, h2, h3, rfl, hF⟩ := lw_comes l p e ha hc hk s m args below hf hfit hheap happ hpre
  exact ⟨k, _, h1, h2, h3, hL args s _, lw_frame hF⟩
theorem i_vc : Claimed_1_1 ∧ Claimed_1_2 := ⟨lw_limb limb_1_1 (fun args s t => by simp [limb_1_1, Cond.after, Cond.holds, Cond.value]), lw_limb limb_1_2 (fun args s t => Cond.after_iff.mpr (by
  first | (rw [show limb_1_2 = Cond.eq .result (.int 1) from rfl, Cond.eq_ints (x := 1) (y := 1) rfl rfl]; simp; done) | (simp [limb_1_2, Cond.value, Term.eval]; done)))⟩
end
