section
-- ===== PART A: goes FIRST, ahead of the names: the tables' words, and 'selects' of the private methods out of them =====
/-- a private method of a class that the tables say can be made, by its rows of tables_1 -/
def lw_okq (q : MethodName × Nat) : Prop := (q.1.cls ≠ "java/lang/invoke/MethodHandle" ∧ q.1.cls ≠ "java/lang/invoke/VarHandle") ∧ Cond.instantiable q.1.cls q.2 ∈ tables_1 ∧ Cond.privateMethod q.1 ∈ tables_1 ∧ Cond.instanceMethod q.1 ∈ tables_1
set_option maxRecDepth 100000
theorem lw_p0 : lw_okq (⟨"ShadowPages", "ownObject", "(I)I"⟩, 7) := ⟨⟨by decide +kernel, by decide +kernel⟩, List.mem_of_getElem? (i := 4) rfl, List.mem_of_getElem? (i := 43) rfl, List.mem_of_getElem? (i := 44) rfl⟩
theorem lw_p1 : lw_okq (⟨"ShadowPages", "freeObject", "()I"⟩, 7) := ⟨⟨by decide +kernel, by decide +kernel⟩, List.mem_of_getElem? (i := 4) rfl, List.mem_of_getElem? (i := 47) rfl, List.mem_of_getElem? (i := 48) rfl⟩
theorem lw_p2 : lw_okq (⟨"ShadowPages", "letGo", "(I)V"⟩, 7) := ⟨⟨by decide +kernel, by decide +kernel⟩, List.mem_of_getElem? (i := 4) rfl, List.mem_of_getElem? (i := 51) rfl, List.mem_of_getElem? (i := 52) rfl⟩
theorem lw_p3 : lw_okq (⟨"ShadowPages", "foldAll", "()V"⟩, 7) := ⟨⟨by decide +kernel, by decide +kernel⟩, List.mem_of_getElem? (i := 4) rfl, List.mem_of_getElem? (i := 55) rfl, List.mem_of_getElem? (i := 56) rfl⟩
theorem lw_p4 : lw_okq (⟨"ShadowPages", "fold", "(I)V"⟩, 7) := ⟨⟨by decide +kernel, by decide +kernel⟩, List.mem_of_getElem? (i := 4) rfl, List.mem_of_getElem? (i := 59) rfl, List.mem_of_getElem? (i := 60) rfl⟩
theorem lw_p5 : lw_okq (⟨"ShadowPages", "cellOf", "(II)I"⟩, 7) := ⟨⟨by decide +kernel, by decide +kernel⟩, List.mem_of_getElem? (i := 4) rfl, List.mem_of_getElem? (i := 67) rfl, List.mem_of_getElem? (i := 68) rfl⟩
theorem lw_p6 : lw_okq (⟨"ShadowPages", "lead", "(II)V"⟩, 7) := ⟨⟨by decide +kernel, by decide +kernel⟩, List.mem_of_getElem? (i := 4) rfl, List.mem_of_getElem? (i := 75) rfl, List.mem_of_getElem? (i := 76) rfl⟩
theorem lw_p7 : lw_okq (⟨"ShadowPages", "samePage", "(II)Z"⟩, 7) := ⟨⟨by decide +kernel, by decide +kernel⟩, List.mem_of_getElem? (i := 4) rfl, List.mem_of_getElem? (i := 107) rfl, List.mem_of_getElem? (i := 108) rfl⟩
theorem lw_p8 : lw_okq (⟨"ShadowPagesModel", "copyPage", "(II)V"⟩, 2) := ⟨⟨by decide +kernel, by decide +kernel⟩, List.mem_of_getElem? (i := 111) rfl, List.mem_of_getElem? (i := 142) rfl, List.mem_of_getElem? (i := 143) rfl⟩
def lw_privs_1 : List (MethodName × Nat) := [(⟨"ShadowPages", "ownObject", "(I)I"⟩, 7), (⟨"ShadowPages", "freeObject", "()I"⟩, 7), (⟨"ShadowPages", "letGo", "(I)V"⟩, 7), (⟨"ShadowPages", "foldAll", "()V"⟩, 7), (⟨"ShadowPages", "fold", "(I)V"⟩, 7), (⟨"ShadowPages", "cellOf", "(II)I"⟩, 7), (⟨"ShadowPages", "lead", "(II)V"⟩, 7), (⟨"ShadowPages", "samePage", "(II)Z"⟩, 7), (⟨"ShadowPagesModel", "copyPage", "(II)V"⟩, 2)]
theorem lw_r1 : ∀ q ∈ lw_privs_1, lw_okq q := List.forall_mem_cons.mpr ⟨lw_p0, List.forall_mem_cons.mpr ⟨lw_p1, List.forall_mem_cons.mpr ⟨lw_p2, List.forall_mem_cons.mpr ⟨lw_p3, List.forall_mem_cons.mpr ⟨lw_p4, List.forall_mem_cons.mpr ⟨lw_p5, List.forall_mem_cons.mpr ⟨lw_p6, List.forall_mem_cons.mpr ⟨lw_p7, List.forall_mem_cons.mpr ⟨lw_p8, fun _ h => absurd h List.not_mem_nil⟩⟩⟩⟩⟩⟩⟩⟩⟩
def lw_privs : List (MethodName × Nat) := lw_privs_1
def lw_tbl : List Cond := k2_sels lw_privs ++ tables_1
theorem lw_privs_ok : ∀ q ∈ lw_privs, lw_okq q := lw_r1
-- ===== ONE list of words for every method: the tables' words that hold all through a run =====
def lw_all : List Cond := lw_tbl.filter goodWord
/-- a word of the tables by its place: claim/WORDS.tsv -/
theorem lw_w {w : Cond} (i : Nat) (h : lw_tbl[i]? = some w) (g : goodWord w = true) : w ∈ lw_all := List.mem_filter.mpr ⟨List.mem_of_getElem? h, g⟩
theorem lw_all_tbl {w : Cond} (h : w ∈ lw_all) : w ∈ lw_tbl := (List.mem_filter.mp h).1
theorem lw_self : GoodIn lw_all lw_all := fun w h => ⟨h, good_of_word (List.mem_filter.mp h).2⟩
/-- a class's field words, by their places -/
theorem lw_in (ws : List Cond) (ps : List Nat) (hp : ws = ps.filterMap (fun i => lw_tbl[i]?)) (hg : ws.all goodWord = true) : ∀ w ∈ ws, w ∈ lw_all := by
  intro w h
  have h1 := List.all_eq_true.mp hg w h
  rw [hp] at h
  obtain ⟨i, -, hi⟩ := List.mem_filterMap.mp h
  exact lw_w i hi h1
/-- the words of a contract for the method y with code b, L locals, answer r -/
abbrev ws_ (y : MethodName) (b : ByteArray) (L : Nat) (r : Option FieldType) : List Cond := Cond.code y b L r :: lw_all
theorem lw_meth {y : MethodName} {b : ByteArray} {L : Nat} {r : Option FieldType} (h : Cond.code y b L r ∈ lw_all) : GoodIn lw_all (ws_ y b L r) := by
  intro w hw
  rcases List.mem_cons.mp hw with e | e
  · rw [e]
    exact lw_self _ h
  · exact lw_self _ e
theorem lw_app {a c : List Cond} (ha : ∀ w ∈ a, w ∈ lw_all) (hc : GoodIn lw_all c) : GoodIn lw_all (a ++ c) := by
  intro w hw
  rcases List.mem_append.mp hw with e | e
  · exact lw_self w (ha w e)
  · exact hc w e
/-- what a call through an object asks: cwV n hts (lw_V ..) -/
theorem lw_V {own : String} {idx : Nat} {C : String} {y : MethodName} {b : ByteArray} {L : Nat} {r : Option FieldType} (h1 : Cond.methodLink own idx y ∈ lw_all) (h2 : Cond.instanceMethod y ∈ lw_all) (h3 : Cond.selects C y y ∈ lw_all) (h4 : Cond.initialized C ∈ lw_all) (h5 : Cond.code y b L r ∈ lw_all) : GoodIn lw_all (wsV own idx C y (ws_ y b L r)) := by
  refine lw_app ?_ (lw_meth h5)
  intro w hw
  simp only [List.mem_cons, List.not_mem_nil, or_false] at hw
  rcases hw with e | e | e | e
  · rw [e]; exact h1
  · rw [e]; exact h2
  · rw [e]; exact h3
  · rw [e]; exact h4
/-- what a static call asks: va_cwS n hts (lw_S ..) -/
theorem lw_S {own : String} {idx : Nat} {y : MethodName} {b : ByteArray} {L : Nat} {r : Option FieldType} (h1 : Cond.methodLink own idx y ∈ lw_all) (h2 : Cond.static y ∈ lw_all) (h3 : Cond.initialized y.cls ∈ lw_all) (h4 : Cond.code y b L r ∈ lw_all) : GoodIn lw_all (va_wsS own idx y (ws_ y b L r)) := by
  refine lw_app ?_ (lw_meth h4)
  intro w hw
  simp only [List.mem_cons, List.not_mem_nil, or_false] at hw
  rcases hw with e | e | e
  · rw [e]; exact h1
  · rw [e]; exact h2
  · rw [e]; exact h3
/-- the words of a contract for a method WITH HANDLERS (hh: its table) -/
abbrev wsW_ (y : MethodName) (b : ByteArray) (L : Nat) (r : Option FieldType) (hh : List (Nat × Nat × Nat × Nat)) : List Cond := Cond.codeWith y b L r hh :: lw_all
theorem lw_methW {y : MethodName} {b : ByteArray} {L : Nat} {r : Option FieldType} {hh : List (Nat × Nat × Nat × Nat)} (h : Cond.codeWith y b L r hh ∈ lw_all) : GoodIn lw_all (wsW_ y b L r hh) := by
  intro w hw
  rcases List.mem_cons.mp hw with e | e
  · rw [e]
    exact lw_self _ h
  · exact lw_self _ e
/-- any list of words by their places (lw_in), good -/
theorem lw_good {ws : List Cond} (h : ∀ w ∈ ws, w ∈ lw_all) : GoodIn lw_all ws := fun w hw => lw_self w (h w hw)
/-- what a call of a method with handlers asks: vx_cwVW n hts (lw_VW ..), vx_cwSW n hts (lw_SW ..) -/
theorem lw_VW {own : String} {idx : Nat} {C : String} {y : MethodName} {b : ByteArray} {L : Nat} {r : Option FieldType} {hh : List (Nat × Nat × Nat × Nat)} (h1 : Cond.methodLink own idx y ∈ lw_all) (h2 : Cond.instanceMethod y ∈ lw_all) (h3 : Cond.selects C y y ∈ lw_all) (h4 : Cond.initialized C ∈ lw_all) (h5 : Cond.codeWith y b L r hh ∈ lw_all) : GoodIn lw_all (wsV own idx C y (wsW_ y b L r hh)) := by
  refine lw_app ?_ (lw_methW h5)
  intro w hw
  simp only [List.mem_cons, List.not_mem_nil, or_false] at hw
  rcases hw with e | e | e | e
  · rw [e]; exact h1
  · rw [e]; exact h2
  · rw [e]; exact h3
  · rw [e]; exact h4
theorem lw_SW {own : String} {idx : Nat} {y : MethodName} {b : ByteArray} {L : Nat} {r : Option FieldType} {hh : List (Nat × Nat × Nat × Nat)} (h1 : Cond.methodLink own idx y ∈ lw_all) (h2 : Cond.static y ∈ lw_all) (h3 : Cond.initialized y.cls ∈ lw_all) (h4 : Cond.codeWith y b L r hh ∈ lw_all) : GoodIn lw_all (va_wsS own idx y (wsW_ y b L r hh)) := by
  refine lw_app ?_ (lw_methW h4)
  intro w hw
  simp only [List.mem_cons, List.not_mem_nil, or_false] at hw
  rcases hw with e | e | e
  · rw [e]; exact h1
  · rw [e]; exact h2
  · rw [e]; exact h3
/-- a word by its place in its run of the tables -/
theorem lw_at {r : List Cond} (hr : ∀ w ∈ r, w ∈ lw_tbl) {w : Cond} (i : Nat) (h : r[i]? = some w) : w ∈ lw_tbl := hr w (List.mem_of_getElem? h)
theorem lw_g {w : Cond} (h : w ∈ lw_tbl) (g : goodWord w = true) : w ∈ lw_all := List.mem_filter.mpr ⟨h, g⟩
theorem lw_ms : ∀ w ∈ k2_sels lw_privs, w ∈ lw_tbl := fun w h => show w ∈ k2_sels lw_privs ++ tables_1 from List.mem_append_left _ h
theorem lw_m0 : ∀ w ∈ tables_1, w ∈ lw_tbl := fun w h => show w ∈ k2_sels lw_privs ++ tables_1 from List.mem_append_right (k2_sels lw_privs) h
theorem qs0 : (Cond.selects "ShadowPages" ⟨"ShadowPages", "ownObject", "(I)I"⟩ ⟨"ShadowPages", "ownObject", "(I)I"⟩) ∈ lw_all := lw_g (lw_at lw_ms 0 rfl) rfl
theorem qs1 : (Cond.selects "ShadowPages" ⟨"ShadowPages", "freeObject", "()I"⟩ ⟨"ShadowPages", "freeObject", "()I"⟩) ∈ lw_all := lw_g (lw_at lw_ms 1 rfl) rfl
theorem qs2 : (Cond.selects "ShadowPages" ⟨"ShadowPages", "letGo", "(I)V"⟩ ⟨"ShadowPages", "letGo", "(I)V"⟩) ∈ lw_all := lw_g (lw_at lw_ms 2 rfl) rfl
theorem qs3 : (Cond.selects "ShadowPages" ⟨"ShadowPages", "foldAll", "()V"⟩ ⟨"ShadowPages", "foldAll", "()V"⟩) ∈ lw_all := lw_g (lw_at lw_ms 3 rfl) rfl
theorem qs4 : (Cond.selects "ShadowPages" ⟨"ShadowPages", "fold", "(I)V"⟩ ⟨"ShadowPages", "fold", "(I)V"⟩) ∈ lw_all := lw_g (lw_at lw_ms 4 rfl) rfl
theorem qs5 : (Cond.selects "ShadowPages" ⟨"ShadowPages", "cellOf", "(II)I"⟩ ⟨"ShadowPages", "cellOf", "(II)I"⟩) ∈ lw_all := lw_g (lw_at lw_ms 5 rfl) rfl
theorem qs6 : (Cond.selects "ShadowPages" ⟨"ShadowPages", "lead", "(II)V"⟩ ⟨"ShadowPages", "lead", "(II)V"⟩) ∈ lw_all := lw_g (lw_at lw_ms 6 rfl) rfl
theorem qs7 : (Cond.selects "ShadowPages" ⟨"ShadowPages", "samePage", "(II)Z"⟩ ⟨"ShadowPages", "samePage", "(II)Z"⟩) ∈ lw_all := lw_g (lw_at lw_ms 7 rfl) rfl
theorem qs8 : (Cond.selects "ShadowPagesModel" ⟨"ShadowPagesModel", "copyPage", "(II)V"⟩ ⟨"ShadowPagesModel", "copyPage", "(II)V"⟩) ∈ lw_all := lw_g (lw_at lw_ms 8 rfl) rfl
end
section
/-! java/lang/Object -/
def RJ0 : String := "java/lang/Object"
abbrev cJ0_init : ByteArray := object_method_1_code
def yJ0_init : MethodName := ⟨RJ0, "<init>", "()V"⟩
theorem dJ0_init_0 : decode cJ0_init 0 = .ok (.return_, 1) := by decide +kernel
theorem q18 : (Jvm.Cond.instanceMethod ({ cls := "java/lang/Object", name := "<init>", desc := "()V" } : Jvm.MethodName)) ∈ lw_all := lw_g (lw_at lw_m0 9 rfl) rfl
theorem q19 : (Jvm.Cond.code ({ cls := "java/lang/Object", name := "<init>", desc := "()V" } : Jvm.MethodName) object_method_1_code (1 : Nat) (Option.none : Option Jvm.ClassFile.FieldType)) ∈ lw_all := lw_g (lw_at lw_m0 10 rfl) rfl
/-! ShadowPages -/
set_option maxRecDepth 100000
def RX0 : String := "ShadowPages"
def TX0 : u_T := fun k => match k with
  | 0 => ("ShadowPages", "object", "[I", true)
  | 1 => ("ShadowPages", "parcelSize", "[I", true)
  | 2 => ("ShadowPages", "taken", "[Z", true)
  | 3 => ("ShadowPages", "holds", "[I", true)
  | 4 => ("ShadowPages", "cells", "[I", true)
  | 5 => ("ShadowPages", "shadow", "[I", true)
  | _ => ("ShadowPages", "users", "[I", true)
def tyX0 : Nat → FieldType := fun k => match k with
  | 0 => .array .int
  | 1 => .array .int
  | 2 => .array .boolean
  | 3 => .array .int
  | 4 => .array .int
  | 5 => .array .int
  | _ => .array .int
abbrev wsX00 : List Cond := u_ws RX0 TX0 7
theorem nmX0 : ∀ a, a < 7 → ∀ b, b < 7 → a ≠ b → (TX0 a).2.1 ≠ (TX0 b).2.1 := by decide +kernel
theorem tyX0_ok : ∀ k, k < 7 → parseFieldDescriptor (TX0 k).2.2.1 = some (tyX0 k) := by decide +kernel
abbrev cX0_init : ByteArray := prog_1_method_1_code
def yX0_init : MethodName := ⟨RX0, "<init>", "()V"⟩
theorem dX0_init_0 : decode cX0_init 0 = .ok (.aload_n 0, 1) := by decide +kernel
theorem dX0_init_1 : decode cX0_init 1 = .ok (.invokespecial 1, 3) := by decide +kernel
theorem dX0_init_4 : decode cX0_init 4 = .ok (.aload_n 0, 1) := by decide +kernel
theorem dX0_init_5 : decode cX0_init 5 = .ok (.bipush 64, 2) := by decide +kernel
theorem dX0_init_7 : decode cX0_init 7 = .ok (.newarray .int, 2) := by decide +kernel
theorem dX0_init_9 : decode cX0_init 9 = .ok (.putfield 7, 3) := by decide +kernel
theorem dX0_init_12 : decode cX0_init 12 = .ok (.aload_n 0, 1) := by decide +kernel
theorem dX0_init_13 : decode cX0_init 13 = .ok (.iconst 4, 1) := by decide +kernel
theorem dX0_init_14 : decode cX0_init 14 = .ok (.newarray .int, 2) := by decide +kernel
theorem dX0_init_16 : decode cX0_init 16 = .ok (.putfield 13, 3) := by decide +kernel
theorem dX0_init_19 : decode cX0_init 19 = .ok (.aload_n 0, 1) := by decide +kernel
theorem dX0_init_20 : decode cX0_init 20 = .ok (.sipush 130, 3) := by decide +kernel
theorem dX0_init_23 : decode cX0_init 23 = .ok (.newarray .boolean, 2) := by decide +kernel
theorem dX0_init_25 : decode cX0_init 25 = .ok (.putfield 16, 3) := by decide +kernel
theorem dX0_init_28 : decode cX0_init 28 = .ok (.aload_n 0, 1) := by decide +kernel
theorem dX0_init_29 : decode cX0_init 29 = .ok (.sipush 130, 3) := by decide +kernel
theorem dX0_init_32 : decode cX0_init 32 = .ok (.newarray .int, 2) := by decide +kernel
theorem dX0_init_34 : decode cX0_init 34 = .ok (.putfield 20, 3) := by decide +kernel
theorem dX0_init_37 : decode cX0_init 37 = .ok (.aload_n 0, 1) := by decide +kernel
theorem dX0_init_38 : decode cX0_init 38 = .ok (.sipush 520, 3) := by decide +kernel
theorem dX0_init_41 : decode cX0_init 41 = .ok (.newarray .int, 2) := by decide +kernel
theorem dX0_init_43 : decode cX0_init 43 = .ok (.putfield 23, 3) := by decide +kernel
theorem dX0_init_46 : decode cX0_init 46 = .ok (.aload_n 0, 1) := by decide +kernel
theorem dX0_init_47 : decode cX0_init 47 = .ok (.sipush 130, 3) := by decide +kernel
theorem dX0_init_50 : decode cX0_init 50 = .ok (.newarray .int, 2) := by decide +kernel
theorem dX0_init_52 : decode cX0_init 52 = .ok (.putfield 26, 3) := by decide +kernel
theorem dX0_init_55 : decode cX0_init 55 = .ok (.aload_n 0, 1) := by decide +kernel
theorem dX0_init_56 : decode cX0_init 56 = .ok (.sipush 130, 3) := by decide +kernel
theorem dX0_init_59 : decode cX0_init 59 = .ok (.newarray .int, 2) := by decide +kernel
theorem dX0_init_61 : decode cX0_init 61 = .ok (.putfield 29, 3) := by decide +kernel
theorem dX0_init_64 : decode cX0_init 64 = .ok (.iconst 0, 1) := by decide +kernel
theorem dX0_init_65 : decode cX0_init 65 = .ok (.istore_n 1, 1) := by decide +kernel
theorem dX0_init_66 : decode cX0_init 66 = .ok (.iload_n 1, 1) := by decide +kernel
theorem dX0_init_67 : decode cX0_init 67 = .ok (.bipush 64, 2) := by decide +kernel
theorem dX0_init_69 : decode cX0_init 69 = .ok (.if_icmp .ge 16, 3) := by decide +kernel
theorem dX0_init_72 : decode cX0_init 72 = .ok (.aload_n 0, 1) := by decide +kernel
theorem dX0_init_73 : decode cX0_init 73 = .ok (.getfield 7, 3) := by decide +kernel
theorem dX0_init_76 : decode cX0_init 76 = .ok (.iload_n 1, 1) := by decide +kernel
theorem dX0_init_77 : decode cX0_init 77 = .ok (.iconst (-1), 1) := by decide +kernel
theorem dX0_init_78 : decode cX0_init 78 = .ok (.iastore, 1) := by decide +kernel
theorem dX0_init_79 : decode cX0_init 79 = .ok (.iinc 1 1, 3) := by decide +kernel
theorem dX0_init_82 : decode cX0_init 82 = .ok (.goto (-16), 3) := by decide +kernel
theorem dX0_init_85 : decode cX0_init 85 = .ok (.return_, 1) := by decide +kernel
abbrev cX0_write : ByteArray := prog_1_method_2_code
def yX0_write : MethodName := ⟨RX0, "write", "(IIII)I"⟩
theorem dX0_write_0 : decode cX0_write 0 = .ok (.iload_n 1, 1) := by decide +kernel
theorem dX0_write_1 : decode cX0_write 1 = .ok (.iload_n 2, 1) := by decide +kernel
theorem dX0_write_2 : decode cX0_write 2 = .ok (.invokestatic 32, 3) := by decide +kernel
theorem dX0_write_5 : decode cX0_write 5 = .ok (.ifCond .eq 12, 3) := by decide +kernel
theorem dX0_write_8 : decode cX0_write 8 = .ok (.iload_n 3, 1) := by decide +kernel
theorem dX0_write_9 : decode cX0_write 9 = .ok (.ifCond .lt 8, 3) := by decide +kernel
theorem dX0_write_12 : decode cX0_write 12 = .ok (.iload_n 3, 1) := by decide +kernel
theorem dX0_write_13 : decode cX0_write 13 = .ok (.iconst 3, 1) := by decide +kernel
theorem dX0_write_14 : decode cX0_write 14 = .ok (.if_icmp .le 5, 3) := by decide +kernel
theorem dX0_write_17 : decode cX0_write 17 = .ok (.iconst (-1), 1) := by decide +kernel
theorem dX0_write_18 : decode cX0_write 18 = .ok (.ireturn, 1) := by decide +kernel
theorem dX0_write_19 : decode cX0_write 19 = .ok (.bipush 8, 2) := by decide +kernel
theorem dX0_write_21 : decode cX0_write 21 = .ok (.iload_n 1, 1) := by decide +kernel
theorem dX0_write_22 : decode cX0_write 22 = .ok (.imul, 1) := by decide +kernel
theorem dX0_write_23 : decode cX0_write 23 = .ok (.iload_n 2, 1) := by decide +kernel
theorem dX0_write_24 : decode cX0_write 24 = .ok (.iadd, 1) := by decide +kernel
theorem dX0_write_25 : decode cX0_write 25 = .ok (.istore 5, 2) := by decide +kernel
theorem dX0_write_27 : decode cX0_write 27 = .ok (.aload_n 0, 1) := by decide +kernel
theorem dX0_write_28 : decode cX0_write 28 = .ok (.iload 5, 2) := by decide +kernel
theorem dX0_write_30 : decode cX0_write 30 = .ok (.invokevirtual 36, 3) := by decide +kernel
theorem dX0_write_33 : decode cX0_write 33 = .ok (.istore 6, 2) := by decide +kernel
theorem dX0_write_35 : decode cX0_write 35 = .ok (.aload_n 0, 1) := by decide +kernel
theorem dX0_write_36 : decode cX0_write 36 = .ok (.getfield 23, 3) := by decide +kernel
theorem dX0_write_39 : decode cX0_write 39 = .ok (.iconst 4, 1) := by decide +kernel
theorem dX0_write_40 : decode cX0_write 40 = .ok (.iload 6, 2) := by decide +kernel
theorem dX0_write_42 : decode cX0_write 42 = .ok (.imul, 1) := by decide +kernel
theorem dX0_write_43 : decode cX0_write 43 = .ok (.iload_n 3, 1) := by decide +kernel
theorem dX0_write_44 : decode cX0_write 44 = .ok (.iadd, 1) := by decide +kernel
theorem dX0_write_45 : decode cX0_write 45 = .ok (.iload 4, 2) := by decide +kernel
theorem dX0_write_47 : decode cX0_write 47 = .ok (.iastore, 1) := by decide +kernel
theorem dX0_write_48 : decode cX0_write 48 = .ok (.aload_n 0, 1) := by decide +kernel
theorem dX0_write_49 : decode cX0_write 49 = .ok (.getfield 20, 3) := by decide +kernel
theorem dX0_write_52 : decode cX0_write 52 = .ok (.iload 6, 2) := by decide +kernel
theorem dX0_write_54 : decode cX0_write 54 = .ok (.dup2, 1) := by decide +kernel
theorem dX0_write_55 : decode cX0_write 55 = .ok (.iaload, 1) := by decide +kernel
theorem dX0_write_56 : decode cX0_write 56 = .ok (.iconst 1, 1) := by decide +kernel
theorem dX0_write_57 : decode cX0_write 57 = .ok (.iload_n 3, 1) := by decide +kernel
theorem dX0_write_58 : decode cX0_write 58 = .ok (.ishl, 1) := by decide +kernel
theorem dX0_write_59 : decode cX0_write 59 = .ok (.ior, 1) := by decide +kernel
theorem dX0_write_60 : decode cX0_write 60 = .ok (.iastore, 1) := by decide +kernel
theorem dX0_write_61 : decode cX0_write 61 = .ok (.aload_n 0, 1) := by decide +kernel
theorem dX0_write_62 : decode cX0_write 62 = .ok (.getfield 20, 3) := by decide +kernel
theorem dX0_write_65 : decode cX0_write 65 = .ok (.iload 6, 2) := by decide +kernel
theorem dX0_write_67 : decode cX0_write 67 = .ok (.iaload, 1) := by decide +kernel
theorem dX0_write_68 : decode cX0_write 68 = .ok (.bipush 15, 2) := by decide +kernel
theorem dX0_write_70 : decode cX0_write 70 = .ok (.if_icmp .ne 36, 3) := by decide +kernel
theorem dX0_write_73 : decode cX0_write 73 = .ok (.aload_n 0, 1) := by decide +kernel
theorem dX0_write_74 : decode cX0_write 74 = .ok (.getfield 26, 3) := by decide +kernel
theorem dX0_write_77 : decode cX0_write 77 = .ok (.iload 6, 2) := by decide +kernel
theorem dX0_write_79 : decode cX0_write 79 = .ok (.iaload, 1) := by decide +kernel
theorem dX0_write_80 : decode cX0_write 80 = .ok (.ifCond .lt 26, 3) := by decide +kernel
theorem dX0_write_83 : decode cX0_write 83 = .ok (.aload_n 0, 1) := by decide +kernel
theorem dX0_write_84 : decode cX0_write 84 = .ok (.getfield 26, 3) := by decide +kernel
theorem dX0_write_87 : decode cX0_write 87 = .ok (.iload 6, 2) := by decide +kernel
theorem dX0_write_89 : decode cX0_write 89 = .ok (.iaload, 1) := by decide +kernel
theorem dX0_write_90 : decode cX0_write 90 = .ok (.istore 7, 2) := by decide +kernel
theorem dX0_write_92 : decode cX0_write 92 = .ok (.aload_n 0, 1) := by decide +kernel
theorem dX0_write_93 : decode cX0_write 93 = .ok (.getfield 26, 3) := by decide +kernel
theorem dX0_write_96 : decode cX0_write 96 = .ok (.iload 6, 2) := by decide +kernel
theorem dX0_write_98 : decode cX0_write 98 = .ok (.iconst (-1), 1) := by decide +kernel
theorem dX0_write_99 : decode cX0_write 99 = .ok (.iastore, 1) := by decide +kernel
theorem dX0_write_100 : decode cX0_write 100 = .ok (.aload_n 0, 1) := by decide +kernel
theorem dX0_write_101 : decode cX0_write 101 = .ok (.iload 7, 2) := by decide +kernel
theorem dX0_write_103 : decode cX0_write 103 = .ok (.invokevirtual 40, 3) := by decide +kernel
theorem dX0_write_106 : decode cX0_write 106 = .ok (.aload_n 0, 1) := by decide +kernel
theorem dX0_write_107 : decode cX0_write 107 = .ok (.invokevirtual 44, 3) := by decide +kernel
theorem dX0_write_110 : decode cX0_write 110 = .ok (.iconst 0, 1) := by decide +kernel
theorem dX0_write_111 : decode cX0_write 111 = .ok (.ireturn, 1) := by decide +kernel
abbrev cX0_isPage : ByteArray := prog_1_method_12_code
def yX0_isPage : MethodName := ⟨RX0, "isPage", "(II)Z"⟩
theorem dX0_isPage_0 : decode cX0_isPage 0 = .ok (.iload_n 0, 1) := by decide +kernel
theorem dX0_isPage_1 : decode cX0_isPage 1 = .ok (.ifCond .lt 22, 3) := by decide +kernel
theorem dX0_isPage_4 : decode cX0_isPage 4 = .ok (.iload_n 0, 1) := by decide +kernel
theorem dX0_isPage_5 : decode cX0_isPage 5 = .ok (.iconst 3, 1) := by decide +kernel
theorem dX0_isPage_6 : decode cX0_isPage 6 = .ok (.if_icmp .gt 17, 3) := by decide +kernel
theorem dX0_isPage_9 : decode cX0_isPage 9 = .ok (.iload_n 1, 1) := by decide +kernel
theorem dX0_isPage_10 : decode cX0_isPage 10 = .ok (.ifCond .lt 13, 3) := by decide +kernel
theorem dX0_isPage_13 : decode cX0_isPage 13 = .ok (.iload_n 1, 1) := by decide +kernel
theorem dX0_isPage_14 : decode cX0_isPage 14 = .ok (.bipush 7, 2) := by decide +kernel
theorem dX0_isPage_16 : decode cX0_isPage 16 = .ok (.if_icmp .gt 7, 3) := by decide +kernel
theorem dX0_isPage_19 : decode cX0_isPage 19 = .ok (.iconst 1, 1) := by decide +kernel
theorem dX0_isPage_20 : decode cX0_isPage 20 = .ok (.goto 4, 3) := by decide +kernel
theorem dX0_isPage_23 : decode cX0_isPage 23 = .ok (.iconst 0, 1) := by decide +kernel
theorem dX0_isPage_24 : decode cX0_isPage 24 = .ok (.ireturn, 1) := by decide +kernel
abbrev cX0_ownObject : ByteArray := prog_1_method_17_code
def yX0_ownObject : MethodName := ⟨RX0, "ownObject", "(I)I"⟩
theorem dX0_ownObject_0 : decode cX0_ownObject 0 = .ok (.aload_n 0, 1) := by decide +kernel
theorem dX0_ownObject_1 : decode cX0_ownObject 1 = .ok (.getfield 7, 3) := by decide +kernel
theorem dX0_ownObject_4 : decode cX0_ownObject 4 = .ok (.iload_n 1, 1) := by decide +kernel
theorem dX0_ownObject_5 : decode cX0_ownObject 5 = .ok (.iaload, 1) := by decide +kernel
theorem dX0_ownObject_6 : decode cX0_ownObject 6 = .ok (.istore_n 2, 1) := by decide +kernel
theorem dX0_ownObject_7 : decode cX0_ownObject 7 = .ok (.iload_n 2, 1) := by decide +kernel
theorem dX0_ownObject_8 : decode cX0_ownObject 8 = .ok (.ifCond .lt 15, 3) := by decide +kernel
theorem dX0_ownObject_11 : decode cX0_ownObject 11 = .ok (.aload_n 0, 1) := by decide +kernel
theorem dX0_ownObject_12 : decode cX0_ownObject 12 = .ok (.getfield 29, 3) := by decide +kernel
theorem dX0_ownObject_15 : decode cX0_ownObject 15 = .ok (.iload_n 2, 1) := by decide +kernel
theorem dX0_ownObject_16 : decode cX0_ownObject 16 = .ok (.iaload, 1) := by decide +kernel
theorem dX0_ownObject_17 : decode cX0_ownObject 17 = .ok (.iconst 1, 1) := by decide +kernel
theorem dX0_ownObject_18 : decode cX0_ownObject 18 = .ok (.if_icmp .ne 5, 3) := by decide +kernel
theorem dX0_ownObject_21 : decode cX0_ownObject 21 = .ok (.iload_n 2, 1) := by decide +kernel
theorem dX0_ownObject_22 : decode cX0_ownObject 22 = .ok (.ireturn, 1) := by decide +kernel
theorem dX0_ownObject_23 : decode cX0_ownObject 23 = .ok (.aload_n 0, 1) := by decide +kernel
theorem dX0_ownObject_24 : decode cX0_ownObject 24 = .ok (.invokevirtual 58, 3) := by decide +kernel
theorem dX0_ownObject_27 : decode cX0_ownObject 27 = .ok (.istore_n 3, 1) := by decide +kernel
theorem dX0_ownObject_28 : decode cX0_ownObject 28 = .ok (.aload_n 0, 1) := by decide +kernel
theorem dX0_ownObject_29 : decode cX0_ownObject 29 = .ok (.getfield 16, 3) := by decide +kernel
theorem dX0_ownObject_32 : decode cX0_ownObject 32 = .ok (.iload_n 3, 1) := by decide +kernel
theorem dX0_ownObject_33 : decode cX0_ownObject 33 = .ok (.iconst 1, 1) := by decide +kernel
theorem dX0_ownObject_34 : decode cX0_ownObject 34 = .ok (.bastore, 1) := by decide +kernel
theorem dX0_ownObject_35 : decode cX0_ownObject 35 = .ok (.aload_n 0, 1) := by decide +kernel
theorem dX0_ownObject_36 : decode cX0_ownObject 36 = .ok (.getfield 20, 3) := by decide +kernel
theorem dX0_ownObject_39 : decode cX0_ownObject 39 = .ok (.iload_n 3, 1) := by decide +kernel
theorem dX0_ownObject_40 : decode cX0_ownObject 40 = .ok (.iconst 0, 1) := by decide +kernel
theorem dX0_ownObject_41 : decode cX0_ownObject 41 = .ok (.iastore, 1) := by decide +kernel
theorem dX0_ownObject_42 : decode cX0_ownObject 42 = .ok (.aload_n 0, 1) := by decide +kernel
theorem dX0_ownObject_43 : decode cX0_ownObject 43 = .ok (.getfield 26, 3) := by decide +kernel
theorem dX0_ownObject_46 : decode cX0_ownObject 46 = .ok (.iload_n 3, 1) := by decide +kernel
theorem dX0_ownObject_47 : decode cX0_ownObject 47 = .ok (.iload_n 2, 1) := by decide +kernel
theorem dX0_ownObject_48 : decode cX0_ownObject 48 = .ok (.iastore, 1) := by decide +kernel
theorem dX0_ownObject_49 : decode cX0_ownObject 49 = .ok (.aload_n 0, 1) := by decide +kernel
theorem dX0_ownObject_50 : decode cX0_ownObject 50 = .ok (.getfield 29, 3) := by decide +kernel
theorem dX0_ownObject_53 : decode cX0_ownObject 53 = .ok (.iload_n 3, 1) := by decide +kernel
theorem dX0_ownObject_54 : decode cX0_ownObject 54 = .ok (.iconst 1, 1) := by decide +kernel
theorem dX0_ownObject_55 : decode cX0_ownObject 55 = .ok (.iastore, 1) := by decide +kernel
theorem dX0_ownObject_56 : decode cX0_ownObject 56 = .ok (.aload_n 0, 1) := by decide +kernel
theorem dX0_ownObject_57 : decode cX0_ownObject 57 = .ok (.getfield 7, 3) := by decide +kernel
theorem dX0_ownObject_60 : decode cX0_ownObject 60 = .ok (.iload_n 1, 1) := by decide +kernel
theorem dX0_ownObject_61 : decode cX0_ownObject 61 = .ok (.iload_n 3, 1) := by decide +kernel
theorem dX0_ownObject_62 : decode cX0_ownObject 62 = .ok (.iastore, 1) := by decide +kernel
theorem dX0_ownObject_63 : decode cX0_ownObject 63 = .ok (.iload_n 3, 1) := by decide +kernel
theorem dX0_ownObject_64 : decode cX0_ownObject 64 = .ok (.ireturn, 1) := by decide +kernel
abbrev cX0_freeObject : ByteArray := prog_1_method_18_code
def yX0_freeObject : MethodName := ⟨RX0, "freeObject", "()I"⟩
theorem dX0_freeObject_0 : decode cX0_freeObject 0 = .ok (.iconst 0, 1) := by decide +kernel
theorem dX0_freeObject_1 : decode cX0_freeObject 1 = .ok (.istore_n 1, 1) := by decide +kernel
theorem dX0_freeObject_2 : decode cX0_freeObject 2 = .ok (.iload_n 1, 1) := by decide +kernel
theorem dX0_freeObject_3 : decode cX0_freeObject 3 = .ok (.sipush 130, 3) := by decide +kernel
theorem dX0_freeObject_6 : decode cX0_freeObject 6 = .ok (.if_icmp .ge 20, 3) := by decide +kernel
theorem dX0_freeObject_9 : decode cX0_freeObject 9 = .ok (.aload_n 0, 1) := by decide +kernel
theorem dX0_freeObject_10 : decode cX0_freeObject 10 = .ok (.getfield 16, 3) := by decide +kernel
theorem dX0_freeObject_13 : decode cX0_freeObject 13 = .ok (.iload_n 1, 1) := by decide +kernel
theorem dX0_freeObject_14 : decode cX0_freeObject 14 = .ok (.baload, 1) := by decide +kernel
theorem dX0_freeObject_15 : decode cX0_freeObject 15 = .ok (.ifCond .ne 5, 3) := by decide +kernel
theorem dX0_freeObject_18 : decode cX0_freeObject 18 = .ok (.iload_n 1, 1) := by decide +kernel
theorem dX0_freeObject_19 : decode cX0_freeObject 19 = .ok (.ireturn, 1) := by decide +kernel
theorem dX0_freeObject_20 : decode cX0_freeObject 20 = .ok (.iinc 1 1, 3) := by decide +kernel
theorem dX0_freeObject_23 : decode cX0_freeObject 23 = .ok (.goto (-21), 3) := by decide +kernel
theorem dX0_freeObject_26 : decode cX0_freeObject 26 = .ok (.sipush 129, 3) := by decide +kernel
theorem dX0_freeObject_29 : decode cX0_freeObject 29 = .ok (.ireturn, 1) := by decide +kernel
abbrev cX0_letGo : ByteArray := prog_1_method_16_code
def yX0_letGo : MethodName := ⟨RX0, "letGo", "(I)V"⟩
theorem dX0_letGo_0 : decode cX0_letGo 0 = .ok (.iload_n 1, 1) := by decide +kernel
theorem dX0_letGo_1 : decode cX0_letGo 1 = .ok (.istore_n 2, 1) := by decide +kernel
theorem dX0_letGo_2 : decode cX0_letGo 2 = .ok (.iconst 0, 1) := by decide +kernel
theorem dX0_letGo_3 : decode cX0_letGo 3 = .ok (.istore_n 3, 1) := by decide +kernel
theorem dX0_letGo_4 : decode cX0_letGo 4 = .ok (.iload_n 3, 1) := by decide +kernel
theorem dX0_letGo_5 : decode cX0_letGo 5 = .ok (.sipush 130, 3) := by decide +kernel
theorem dX0_letGo_8 : decode cX0_letGo 8 = .ok (.if_icmp .ge 47, 3) := by decide +kernel
theorem dX0_letGo_11 : decode cX0_letGo 11 = .ok (.iload_n 2, 1) := by decide +kernel
theorem dX0_letGo_12 : decode cX0_letGo 12 = .ok (.ifCond .lt 43, 3) := by decide +kernel
theorem dX0_letGo_15 : decode cX0_letGo 15 = .ok (.aload_n 0, 1) := by decide +kernel
theorem dX0_letGo_16 : decode cX0_letGo 16 = .ok (.getfield 29, 3) := by decide +kernel
theorem dX0_letGo_19 : decode cX0_letGo 19 = .ok (.iload_n 2, 1) := by decide +kernel
theorem dX0_letGo_20 : decode cX0_letGo 20 = .ok (.dup2, 1) := by decide +kernel
theorem dX0_letGo_21 : decode cX0_letGo 21 = .ok (.iaload, 1) := by decide +kernel
theorem dX0_letGo_22 : decode cX0_letGo 22 = .ok (.iconst 1, 1) := by decide +kernel
theorem dX0_letGo_23 : decode cX0_letGo 23 = .ok (.isub, 1) := by decide +kernel
theorem dX0_letGo_24 : decode cX0_letGo 24 = .ok (.iastore, 1) := by decide +kernel
theorem dX0_letGo_25 : decode cX0_letGo 25 = .ok (.aload_n 0, 1) := by decide +kernel
theorem dX0_letGo_26 : decode cX0_letGo 26 = .ok (.getfield 29, 3) := by decide +kernel
theorem dX0_letGo_29 : decode cX0_letGo 29 = .ok (.iload_n 2, 1) := by decide +kernel
theorem dX0_letGo_30 : decode cX0_letGo 30 = .ok (.iaload, 1) := by decide +kernel
theorem dX0_letGo_31 : decode cX0_letGo 31 = .ok (.ifCond .le 4, 3) := by decide +kernel
theorem dX0_letGo_34 : decode cX0_letGo 34 = .ok (.return_, 1) := by decide +kernel
theorem dX0_letGo_35 : decode cX0_letGo 35 = .ok (.aload_n 0, 1) := by decide +kernel
theorem dX0_letGo_36 : decode cX0_letGo 36 = .ok (.getfield 16, 3) := by decide +kernel
theorem dX0_letGo_39 : decode cX0_letGo 39 = .ok (.iload_n 2, 1) := by decide +kernel
theorem dX0_letGo_40 : decode cX0_letGo 40 = .ok (.iconst 0, 1) := by decide +kernel
theorem dX0_letGo_41 : decode cX0_letGo 41 = .ok (.bastore, 1) := by decide +kernel
theorem dX0_letGo_42 : decode cX0_letGo 42 = .ok (.aload_n 0, 1) := by decide +kernel
theorem dX0_letGo_43 : decode cX0_letGo 43 = .ok (.getfield 26, 3) := by decide +kernel
theorem dX0_letGo_46 : decode cX0_letGo 46 = .ok (.iload_n 2, 1) := by decide +kernel
theorem dX0_letGo_47 : decode cX0_letGo 47 = .ok (.iaload, 1) := by decide +kernel
theorem dX0_letGo_48 : decode cX0_letGo 48 = .ok (.istore_n 2, 1) := by decide +kernel
theorem dX0_letGo_49 : decode cX0_letGo 49 = .ok (.iinc 3 1, 3) := by decide +kernel
theorem dX0_letGo_52 : decode cX0_letGo 52 = .ok (.goto (-48), 3) := by decide +kernel
theorem dX0_letGo_55 : decode cX0_letGo 55 = .ok (.return_, 1) := by decide +kernel
abbrev cX0_foldAll : ByteArray := prog_1_method_19_code
def yX0_foldAll : MethodName := ⟨RX0, "foldAll", "()V"⟩
theorem dX0_foldAll_0 : decode cX0_foldAll 0 = .ok (.iconst 1, 1) := by decide +kernel
theorem dX0_foldAll_1 : decode cX0_foldAll 1 = .ok (.istore_n 1, 1) := by decide +kernel
theorem dX0_foldAll_2 : decode cX0_foldAll 2 = .ok (.iconst 0, 1) := by decide +kernel
theorem dX0_foldAll_3 : decode cX0_foldAll 3 = .ok (.istore_n 2, 1) := by decide +kernel
theorem dX0_foldAll_4 : decode cX0_foldAll 4 = .ok (.iload_n 2, 1) := by decide +kernel
theorem dX0_foldAll_5 : decode cX0_foldAll 5 = .ok (.sipush 130, 3) := by decide +kernel
theorem dX0_foldAll_8 : decode cX0_foldAll 8 = .ok (.if_icmp .ge 70, 3) := by decide +kernel
theorem dX0_foldAll_11 : decode cX0_foldAll 11 = .ok (.iload_n 1, 1) := by decide +kernel
theorem dX0_foldAll_12 : decode cX0_foldAll 12 = .ok (.ifCond .eq 66, 3) := by decide +kernel
theorem dX0_foldAll_15 : decode cX0_foldAll 15 = .ok (.iconst 0, 1) := by decide +kernel
theorem dX0_foldAll_16 : decode cX0_foldAll 16 = .ok (.istore_n 1, 1) := by decide +kernel
theorem dX0_foldAll_17 : decode cX0_foldAll 17 = .ok (.iconst 0, 1) := by decide +kernel
theorem dX0_foldAll_18 : decode cX0_foldAll 18 = .ok (.istore_n 3, 1) := by decide +kernel
theorem dX0_foldAll_19 : decode cX0_foldAll 19 = .ok (.iload_n 3, 1) := by decide +kernel
theorem dX0_foldAll_20 : decode cX0_foldAll 20 = .ok (.sipush 130, 3) := by decide +kernel
theorem dX0_foldAll_23 : decode cX0_foldAll 23 = .ok (.if_icmp .ge 49, 3) := by decide +kernel
theorem dX0_foldAll_26 : decode cX0_foldAll 26 = .ok (.aload_n 0, 1) := by decide +kernel
theorem dX0_foldAll_27 : decode cX0_foldAll 27 = .ok (.getfield 16, 3) := by decide +kernel
theorem dX0_foldAll_30 : decode cX0_foldAll 30 = .ok (.iload_n 3, 1) := by decide +kernel
theorem dX0_foldAll_31 : decode cX0_foldAll 31 = .ok (.baload, 1) := by decide +kernel
theorem dX0_foldAll_32 : decode cX0_foldAll 32 = .ok (.ifCond .eq 34, 3) := by decide +kernel
theorem dX0_foldAll_35 : decode cX0_foldAll 35 = .ok (.aload_n 0, 1) := by decide +kernel
theorem dX0_foldAll_36 : decode cX0_foldAll 36 = .ok (.getfield 26, 3) := by decide +kernel
theorem dX0_foldAll_39 : decode cX0_foldAll 39 = .ok (.iload_n 3, 1) := by decide +kernel
theorem dX0_foldAll_40 : decode cX0_foldAll 40 = .ok (.iaload, 1) := by decide +kernel
theorem dX0_foldAll_41 : decode cX0_foldAll 41 = .ok (.ifCond .lt 25, 3) := by decide +kernel
theorem dX0_foldAll_44 : decode cX0_foldAll 44 = .ok (.aload_n 0, 1) := by decide +kernel
theorem dX0_foldAll_45 : decode cX0_foldAll 45 = .ok (.getfield 29, 3) := by decide +kernel
theorem dX0_foldAll_48 : decode cX0_foldAll 48 = .ok (.aload_n 0, 1) := by decide +kernel
theorem dX0_foldAll_49 : decode cX0_foldAll 49 = .ok (.getfield 26, 3) := by decide +kernel
theorem dX0_foldAll_52 : decode cX0_foldAll 52 = .ok (.iload_n 3, 1) := by decide +kernel
theorem dX0_foldAll_53 : decode cX0_foldAll 53 = .ok (.iaload, 1) := by decide +kernel
theorem dX0_foldAll_54 : decode cX0_foldAll 54 = .ok (.iaload, 1) := by decide +kernel
theorem dX0_foldAll_55 : decode cX0_foldAll 55 = .ok (.iconst 1, 1) := by decide +kernel
theorem dX0_foldAll_56 : decode cX0_foldAll 56 = .ok (.if_icmp .ne 10, 3) := by decide +kernel
theorem dX0_foldAll_59 : decode cX0_foldAll 59 = .ok (.aload_n 0, 1) := by decide +kernel
theorem dX0_foldAll_60 : decode cX0_foldAll 60 = .ok (.iload_n 3, 1) := by decide +kernel
theorem dX0_foldAll_61 : decode cX0_foldAll 61 = .ok (.invokevirtual 62, 3) := by decide +kernel
theorem dX0_foldAll_64 : decode cX0_foldAll 64 = .ok (.iconst 1, 1) := by decide +kernel
theorem dX0_foldAll_65 : decode cX0_foldAll 65 = .ok (.istore_n 1, 1) := by decide +kernel
theorem dX0_foldAll_66 : decode cX0_foldAll 66 = .ok (.iinc 3 1, 3) := by decide +kernel
theorem dX0_foldAll_69 : decode cX0_foldAll 69 = .ok (.goto (-50), 3) := by decide +kernel
theorem dX0_foldAll_72 : decode cX0_foldAll 72 = .ok (.iinc 2 1, 3) := by decide +kernel
theorem dX0_foldAll_75 : decode cX0_foldAll 75 = .ok (.goto (-71), 3) := by decide +kernel
theorem dX0_foldAll_78 : decode cX0_foldAll 78 = .ok (.return_, 1) := by decide +kernel
abbrev cX0_fold : ByteArray := prog_1_method_20_code
def yX0_fold : MethodName := ⟨RX0, "fold", "(I)V"⟩
theorem dX0_fold_0 : decode cX0_fold 0 = .ok (.aload_n 0, 1) := by decide +kernel
theorem dX0_fold_1 : decode cX0_fold 1 = .ok (.getfield 26, 3) := by decide +kernel
theorem dX0_fold_4 : decode cX0_fold 4 = .ok (.iload_n 1, 1) := by decide +kernel
theorem dX0_fold_5 : decode cX0_fold 5 = .ok (.iaload, 1) := by decide +kernel
theorem dX0_fold_6 : decode cX0_fold 6 = .ok (.istore_n 2, 1) := by decide +kernel
theorem dX0_fold_7 : decode cX0_fold 7 = .ok (.iconst 0, 1) := by decide +kernel
theorem dX0_fold_8 : decode cX0_fold 8 = .ok (.istore_n 3, 1) := by decide +kernel
theorem dX0_fold_9 : decode cX0_fold 9 = .ok (.iload_n 3, 1) := by decide +kernel
theorem dX0_fold_10 : decode cX0_fold 10 = .ok (.iconst 4, 1) := by decide +kernel
theorem dX0_fold_11 : decode cX0_fold 11 = .ok (.if_icmp .ge 67, 3) := by decide +kernel
theorem dX0_fold_14 : decode cX0_fold 14 = .ok (.aload_n 0, 1) := by decide +kernel
theorem dX0_fold_15 : decode cX0_fold 15 = .ok (.getfield 20, 3) := by decide +kernel
theorem dX0_fold_18 : decode cX0_fold 18 = .ok (.iload_n 1, 1) := by decide +kernel
theorem dX0_fold_19 : decode cX0_fold 19 = .ok (.iaload, 1) := by decide +kernel
theorem dX0_fold_20 : decode cX0_fold 20 = .ok (.iload_n 3, 1) := by decide +kernel
theorem dX0_fold_21 : decode cX0_fold 21 = .ok (.iushr, 1) := by decide +kernel
theorem dX0_fold_22 : decode cX0_fold 22 = .ok (.iconst 1, 1) := by decide +kernel
theorem dX0_fold_23 : decode cX0_fold 23 = .ok (.iand, 1) := by decide +kernel
theorem dX0_fold_24 : decode cX0_fold 24 = .ok (.ifCond .ne 20, 3) := by decide +kernel
theorem dX0_fold_27 : decode cX0_fold 27 = .ok (.aload_n 0, 1) := by decide +kernel
theorem dX0_fold_28 : decode cX0_fold 28 = .ok (.getfield 20, 3) := by decide +kernel
theorem dX0_fold_31 : decode cX0_fold 31 = .ok (.iload_n 2, 1) := by decide +kernel
theorem dX0_fold_32 : decode cX0_fold 32 = .ok (.iaload, 1) := by decide +kernel
theorem dX0_fold_33 : decode cX0_fold 33 = .ok (.iload_n 3, 1) := by decide +kernel
theorem dX0_fold_34 : decode cX0_fold 34 = .ok (.iushr, 1) := by decide +kernel
theorem dX0_fold_35 : decode cX0_fold 35 = .ok (.iconst 1, 1) := by decide +kernel
theorem dX0_fold_36 : decode cX0_fold 36 = .ok (.iand, 1) := by decide +kernel
theorem dX0_fold_37 : decode cX0_fold 37 = .ok (.ifCond .eq 7, 3) := by decide +kernel
theorem dX0_fold_40 : decode cX0_fold 40 = .ok (.iconst 1, 1) := by decide +kernel
theorem dX0_fold_41 : decode cX0_fold 41 = .ok (.goto 4, 3) := by decide +kernel
theorem dX0_fold_44 : decode cX0_fold 44 = .ok (.iconst 0, 1) := by decide +kernel
theorem dX0_fold_45 : decode cX0_fold 45 = .ok (.istore 4, 2) := by decide +kernel
theorem dX0_fold_47 : decode cX0_fold 47 = .ok (.iload 4, 2) := by decide +kernel
theorem dX0_fold_49 : decode cX0_fold 49 = .ok (.ifCond .eq 23, 3) := by decide +kernel
theorem dX0_fold_52 : decode cX0_fold 52 = .ok (.aload_n 0, 1) := by decide +kernel
theorem dX0_fold_53 : decode cX0_fold 53 = .ok (.getfield 23, 3) := by decide +kernel
theorem dX0_fold_56 : decode cX0_fold 56 = .ok (.iconst 4, 1) := by decide +kernel
theorem dX0_fold_57 : decode cX0_fold 57 = .ok (.iload_n 1, 1) := by decide +kernel
theorem dX0_fold_58 : decode cX0_fold 58 = .ok (.imul, 1) := by decide +kernel
theorem dX0_fold_59 : decode cX0_fold 59 = .ok (.iload_n 3, 1) := by decide +kernel
theorem dX0_fold_60 : decode cX0_fold 60 = .ok (.iadd, 1) := by decide +kernel
theorem dX0_fold_61 : decode cX0_fold 61 = .ok (.aload_n 0, 1) := by decide +kernel
theorem dX0_fold_62 : decode cX0_fold 62 = .ok (.getfield 23, 3) := by decide +kernel
theorem dX0_fold_65 : decode cX0_fold 65 = .ok (.iconst 4, 1) := by decide +kernel
theorem dX0_fold_66 : decode cX0_fold 66 = .ok (.iload_n 2, 1) := by decide +kernel
theorem dX0_fold_67 : decode cX0_fold 67 = .ok (.imul, 1) := by decide +kernel
theorem dX0_fold_68 : decode cX0_fold 68 = .ok (.iload_n 3, 1) := by decide +kernel
theorem dX0_fold_69 : decode cX0_fold 69 = .ok (.iadd, 1) := by decide +kernel
theorem dX0_fold_70 : decode cX0_fold 70 = .ok (.iaload, 1) := by decide +kernel
theorem dX0_fold_71 : decode cX0_fold 71 = .ok (.iastore, 1) := by decide +kernel
theorem dX0_fold_72 : decode cX0_fold 72 = .ok (.iinc 3 1, 3) := by decide +kernel
theorem dX0_fold_75 : decode cX0_fold 75 = .ok (.goto (-66), 3) := by decide +kernel
theorem dX0_fold_78 : decode cX0_fold 78 = .ok (.aload_n 0, 1) := by decide +kernel
theorem dX0_fold_79 : decode cX0_fold 79 = .ok (.getfield 20, 3) := by decide +kernel
theorem dX0_fold_82 : decode cX0_fold 82 = .ok (.iload_n 1, 1) := by decide +kernel
theorem dX0_fold_83 : decode cX0_fold 83 = .ok (.dup2, 1) := by decide +kernel
theorem dX0_fold_84 : decode cX0_fold 84 = .ok (.iaload, 1) := by decide +kernel
theorem dX0_fold_85 : decode cX0_fold 85 = .ok (.aload_n 0, 1) := by decide +kernel
theorem dX0_fold_86 : decode cX0_fold 86 = .ok (.getfield 20, 3) := by decide +kernel
theorem dX0_fold_89 : decode cX0_fold 89 = .ok (.iload_n 2, 1) := by decide +kernel
theorem dX0_fold_90 : decode cX0_fold 90 = .ok (.iaload, 1) := by decide +kernel
theorem dX0_fold_91 : decode cX0_fold 91 = .ok (.ior, 1) := by decide +kernel
theorem dX0_fold_92 : decode cX0_fold 92 = .ok (.iastore, 1) := by decide +kernel
theorem dX0_fold_93 : decode cX0_fold 93 = .ok (.aload_n 0, 1) := by decide +kernel
theorem dX0_fold_94 : decode cX0_fold 94 = .ok (.getfield 26, 3) := by decide +kernel
theorem dX0_fold_97 : decode cX0_fold 97 = .ok (.iload_n 1, 1) := by decide +kernel
theorem dX0_fold_98 : decode cX0_fold 98 = .ok (.aload_n 0, 1) := by decide +kernel
theorem dX0_fold_99 : decode cX0_fold 99 = .ok (.getfield 26, 3) := by decide +kernel
theorem dX0_fold_102 : decode cX0_fold 102 = .ok (.iload_n 2, 1) := by decide +kernel
theorem dX0_fold_103 : decode cX0_fold 103 = .ok (.iaload, 1) := by decide +kernel
theorem dX0_fold_104 : decode cX0_fold 104 = .ok (.iastore, 1) := by decide +kernel
theorem dX0_fold_105 : decode cX0_fold 105 = .ok (.aload_n 0, 1) := by decide +kernel
theorem dX0_fold_106 : decode cX0_fold 106 = .ok (.getfield 16, 3) := by decide +kernel
theorem dX0_fold_109 : decode cX0_fold 109 = .ok (.iload_n 2, 1) := by decide +kernel
theorem dX0_fold_110 : decode cX0_fold 110 = .ok (.iconst 0, 1) := by decide +kernel
theorem dX0_fold_111 : decode cX0_fold 111 = .ok (.bastore, 1) := by decide +kernel
theorem dX0_fold_112 : decode cX0_fold 112 = .ok (.aload_n 0, 1) := by decide +kernel
theorem dX0_fold_113 : decode cX0_fold 113 = .ok (.getfield 29, 3) := by decide +kernel
theorem dX0_fold_116 : decode cX0_fold 116 = .ok (.iload_n 2, 1) := by decide +kernel
theorem dX0_fold_117 : decode cX0_fold 117 = .ok (.iconst 0, 1) := by decide +kernel
theorem dX0_fold_118 : decode cX0_fold 118 = .ok (.iastore, 1) := by decide +kernel
theorem dX0_fold_119 : decode cX0_fold 119 = .ok (.aload_n 0, 1) := by decide +kernel
theorem dX0_fold_120 : decode cX0_fold 120 = .ok (.getfield 20, 3) := by decide +kernel
theorem dX0_fold_123 : decode cX0_fold 123 = .ok (.iload_n 1, 1) := by decide +kernel
theorem dX0_fold_124 : decode cX0_fold 124 = .ok (.iaload, 1) := by decide +kernel
theorem dX0_fold_125 : decode cX0_fold 125 = .ok (.bipush 15, 2) := by decide +kernel
theorem dX0_fold_127 : decode cX0_fold 127 = .ok (.if_icmp .ne 31, 3) := by decide +kernel
theorem dX0_fold_130 : decode cX0_fold 130 = .ok (.aload_n 0, 1) := by decide +kernel
theorem dX0_fold_131 : decode cX0_fold 131 = .ok (.getfield 26, 3) := by decide +kernel
theorem dX0_fold_134 : decode cX0_fold 134 = .ok (.iload_n 1, 1) := by decide +kernel
theorem dX0_fold_135 : decode cX0_fold 135 = .ok (.iaload, 1) := by decide +kernel
theorem dX0_fold_136 : decode cX0_fold 136 = .ok (.ifCond .lt 22, 3) := by decide +kernel
theorem dX0_fold_139 : decode cX0_fold 139 = .ok (.aload_n 0, 1) := by decide +kernel
theorem dX0_fold_140 : decode cX0_fold 140 = .ok (.getfield 26, 3) := by decide +kernel
theorem dX0_fold_143 : decode cX0_fold 143 = .ok (.iload_n 1, 1) := by decide +kernel
theorem dX0_fold_144 : decode cX0_fold 144 = .ok (.iaload, 1) := by decide +kernel
theorem dX0_fold_145 : decode cX0_fold 145 = .ok (.istore_n 3, 1) := by decide +kernel
theorem dX0_fold_146 : decode cX0_fold 146 = .ok (.aload_n 0, 1) := by decide +kernel
theorem dX0_fold_147 : decode cX0_fold 147 = .ok (.getfield 26, 3) := by decide +kernel
theorem dX0_fold_150 : decode cX0_fold 150 = .ok (.iload_n 1, 1) := by decide +kernel
theorem dX0_fold_151 : decode cX0_fold 151 = .ok (.iconst (-1), 1) := by decide +kernel
theorem dX0_fold_152 : decode cX0_fold 152 = .ok (.iastore, 1) := by decide +kernel
theorem dX0_fold_153 : decode cX0_fold 153 = .ok (.aload_n 0, 1) := by decide +kernel
theorem dX0_fold_154 : decode cX0_fold 154 = .ok (.iload_n 3, 1) := by decide +kernel
theorem dX0_fold_155 : decode cX0_fold 155 = .ok (.invokevirtual 40, 3) := by decide +kernel
theorem dX0_fold_158 : decode cX0_fold 158 = .ok (.return_, 1) := by decide +kernel
abbrev cX0_read : ByteArray := prog_1_method_3_code
def yX0_read : MethodName := ⟨RX0, "read", "(III)I"⟩
theorem dX0_read_0 : decode cX0_read 0 = .ok (.iload_n 1, 1) := by decide +kernel
theorem dX0_read_1 : decode cX0_read 1 = .ok (.iload_n 2, 1) := by decide +kernel
theorem dX0_read_2 : decode cX0_read 2 = .ok (.invokestatic 32, 3) := by decide +kernel
theorem dX0_read_5 : decode cX0_read 5 = .ok (.ifCond .eq 12, 3) := by decide +kernel
theorem dX0_read_8 : decode cX0_read 8 = .ok (.iload_n 3, 1) := by decide +kernel
theorem dX0_read_9 : decode cX0_read 9 = .ok (.ifCond .lt 8, 3) := by decide +kernel
theorem dX0_read_12 : decode cX0_read 12 = .ok (.iload_n 3, 1) := by decide +kernel
theorem dX0_read_13 : decode cX0_read 13 = .ok (.iconst 3, 1) := by decide +kernel
theorem dX0_read_14 : decode cX0_read 14 = .ok (.if_icmp .le 5, 3) := by decide +kernel
theorem dX0_read_17 : decode cX0_read 17 = .ok (.iconst 0, 1) := by decide +kernel
theorem dX0_read_18 : decode cX0_read 18 = .ok (.ireturn, 1) := by decide +kernel
theorem dX0_read_19 : decode cX0_read 19 = .ok (.aload_n 0, 1) := by decide +kernel
theorem dX0_read_20 : decode cX0_read 20 = .ok (.aload_n 0, 1) := by decide +kernel
theorem dX0_read_21 : decode cX0_read 21 = .ok (.getfield 7, 3) := by decide +kernel
theorem dX0_read_24 : decode cX0_read 24 = .ok (.bipush 8, 2) := by decide +kernel
theorem dX0_read_26 : decode cX0_read 26 = .ok (.iload_n 1, 1) := by decide +kernel
theorem dX0_read_27 : decode cX0_read 27 = .ok (.imul, 1) := by decide +kernel
theorem dX0_read_28 : decode cX0_read 28 = .ok (.iload_n 2, 1) := by decide +kernel
theorem dX0_read_29 : decode cX0_read 29 = .ok (.iadd, 1) := by decide +kernel
theorem dX0_read_30 : decode cX0_read 30 = .ok (.iaload, 1) := by decide +kernel
theorem dX0_read_31 : decode cX0_read 31 = .ok (.iload_n 3, 1) := by decide +kernel
theorem dX0_read_32 : decode cX0_read 32 = .ok (.invokevirtual 47, 3) := by decide +kernel
theorem dX0_read_35 : decode cX0_read 35 = .ok (.ireturn, 1) := by decide +kernel
abbrev cX0_cellOf : ByteArray := prog_1_method_13_code
def yX0_cellOf : MethodName := ⟨RX0, "cellOf", "(II)I"⟩
theorem dX0_cellOf_0 : decode cX0_cellOf 0 = .ok (.iload_n 1, 1) := by decide +kernel
theorem dX0_cellOf_1 : decode cX0_cellOf 1 = .ok (.istore_n 3, 1) := by decide +kernel
theorem dX0_cellOf_2 : decode cX0_cellOf 2 = .ok (.iconst 0, 1) := by decide +kernel
theorem dX0_cellOf_3 : decode cX0_cellOf 3 = .ok (.istore 4, 2) := by decide +kernel
theorem dX0_cellOf_5 : decode cX0_cellOf 5 = .ok (.iload 4, 2) := by decide +kernel
theorem dX0_cellOf_7 : decode cX0_cellOf 7 = .ok (.sipush 130, 3) := by decide +kernel
theorem dX0_cellOf_10 : decode cX0_cellOf 10 = .ok (.if_icmp .ge 44, 3) := by decide +kernel
theorem dX0_cellOf_13 : decode cX0_cellOf 13 = .ok (.iload_n 3, 1) := by decide +kernel
theorem dX0_cellOf_14 : decode cX0_cellOf 14 = .ok (.ifCond .lt 40, 3) := by decide +kernel
theorem dX0_cellOf_17 : decode cX0_cellOf 17 = .ok (.aload_n 0, 1) := by decide +kernel
theorem dX0_cellOf_18 : decode cX0_cellOf 18 = .ok (.getfield 20, 3) := by decide +kernel
theorem dX0_cellOf_21 : decode cX0_cellOf 21 = .ok (.iload_n 3, 1) := by decide +kernel
theorem dX0_cellOf_22 : decode cX0_cellOf 22 = .ok (.iaload, 1) := by decide +kernel
theorem dX0_cellOf_23 : decode cX0_cellOf 23 = .ok (.iload_n 2, 1) := by decide +kernel
theorem dX0_cellOf_24 : decode cX0_cellOf 24 = .ok (.iushr, 1) := by decide +kernel
theorem dX0_cellOf_25 : decode cX0_cellOf 25 = .ok (.iconst 1, 1) := by decide +kernel
theorem dX0_cellOf_26 : decode cX0_cellOf 26 = .ok (.iand, 1) := by decide +kernel
theorem dX0_cellOf_27 : decode cX0_cellOf 27 = .ok (.ifCond .eq 14, 3) := by decide +kernel
theorem dX0_cellOf_30 : decode cX0_cellOf 30 = .ok (.aload_n 0, 1) := by decide +kernel
theorem dX0_cellOf_31 : decode cX0_cellOf 31 = .ok (.getfield 23, 3) := by decide +kernel
theorem dX0_cellOf_34 : decode cX0_cellOf 34 = .ok (.iconst 4, 1) := by decide +kernel
theorem dX0_cellOf_35 : decode cX0_cellOf 35 = .ok (.iload_n 3, 1) := by decide +kernel
theorem dX0_cellOf_36 : decode cX0_cellOf 36 = .ok (.imul, 1) := by decide +kernel
theorem dX0_cellOf_37 : decode cX0_cellOf 37 = .ok (.iload_n 2, 1) := by decide +kernel
theorem dX0_cellOf_38 : decode cX0_cellOf 38 = .ok (.iadd, 1) := by decide +kernel
theorem dX0_cellOf_39 : decode cX0_cellOf 39 = .ok (.iaload, 1) := by decide +kernel
theorem dX0_cellOf_40 : decode cX0_cellOf 40 = .ok (.ireturn, 1) := by decide +kernel
theorem dX0_cellOf_41 : decode cX0_cellOf 41 = .ok (.aload_n 0, 1) := by decide +kernel
theorem dX0_cellOf_42 : decode cX0_cellOf 42 = .ok (.getfield 26, 3) := by decide +kernel
theorem dX0_cellOf_45 : decode cX0_cellOf 45 = .ok (.iload_n 3, 1) := by decide +kernel
theorem dX0_cellOf_46 : decode cX0_cellOf 46 = .ok (.iaload, 1) := by decide +kernel
theorem dX0_cellOf_47 : decode cX0_cellOf 47 = .ok (.istore_n 3, 1) := by decide +kernel
theorem dX0_cellOf_48 : decode cX0_cellOf 48 = .ok (.iinc 4 1, 3) := by decide +kernel
theorem dX0_cellOf_51 : decode cX0_cellOf 51 = .ok (.goto (-46), 3) := by decide +kernel
theorem dX0_cellOf_54 : decode cX0_cellOf 54 = .ok (.iconst 0, 1) := by decide +kernel
theorem dX0_cellOf_55 : decode cX0_cellOf 55 = .ok (.ireturn, 1) := by decide +kernel
abbrev cX0_fork : ByteArray := prog_1_method_4_code
def yX0_fork : MethodName := ⟨RX0, "fork", "(II)I"⟩
theorem dX0_fork_0 : decode cX0_fork 0 = .ok (.iload_n 1, 1) := by decide +kernel
theorem dX0_fork_1 : decode cX0_fork 1 = .ok (.iconst 0, 1) := by decide +kernel
theorem dX0_fork_2 : decode cX0_fork 2 = .ok (.invokestatic 32, 3) := by decide +kernel
theorem dX0_fork_5 : decode cX0_fork 5 = .ok (.ifCond .eq 11, 3) := by decide +kernel
theorem dX0_fork_8 : decode cX0_fork 8 = .ok (.iload_n 2, 1) := by decide +kernel
theorem dX0_fork_9 : decode cX0_fork 9 = .ok (.iconst 0, 1) := by decide +kernel
theorem dX0_fork_10 : decode cX0_fork 10 = .ok (.invokestatic 32, 3) := by decide +kernel
theorem dX0_fork_13 : decode cX0_fork 13 = .ok (.ifCond .ne 5, 3) := by decide +kernel
theorem dX0_fork_16 : decode cX0_fork 16 = .ok (.iconst (-1), 1) := by decide +kernel
theorem dX0_fork_17 : decode cX0_fork 17 = .ok (.ireturn, 1) := by decide +kernel
theorem dX0_fork_18 : decode cX0_fork 18 = .ok (.iconst 0, 1) := by decide +kernel
theorem dX0_fork_19 : decode cX0_fork 19 = .ok (.istore_n 3, 1) := by decide +kernel
theorem dX0_fork_20 : decode cX0_fork 20 = .ok (.iload_n 3, 1) := by decide +kernel
theorem dX0_fork_21 : decode cX0_fork 21 = .ok (.bipush 8, 2) := by decide +kernel
theorem dX0_fork_23 : decode cX0_fork 23 = .ok (.if_icmp .ge 30, 3) := by decide +kernel
theorem dX0_fork_26 : decode cX0_fork 26 = .ok (.aload_n 0, 1) := by decide +kernel
theorem dX0_fork_27 : decode cX0_fork 27 = .ok (.bipush 8, 2) := by decide +kernel
theorem dX0_fork_29 : decode cX0_fork 29 = .ok (.iload_n 2, 1) := by decide +kernel
theorem dX0_fork_30 : decode cX0_fork 30 = .ok (.imul, 1) := by decide +kernel
theorem dX0_fork_31 : decode cX0_fork 31 = .ok (.iload_n 3, 1) := by decide +kernel
theorem dX0_fork_32 : decode cX0_fork 32 = .ok (.iadd, 1) := by decide +kernel
theorem dX0_fork_33 : decode cX0_fork 33 = .ok (.aload_n 0, 1) := by decide +kernel
theorem dX0_fork_34 : decode cX0_fork 34 = .ok (.getfield 7, 3) := by decide +kernel
theorem dX0_fork_37 : decode cX0_fork 37 = .ok (.bipush 8, 2) := by decide +kernel
theorem dX0_fork_39 : decode cX0_fork 39 = .ok (.iload_n 1, 1) := by decide +kernel
theorem dX0_fork_40 : decode cX0_fork 40 = .ok (.imul, 1) := by decide +kernel
theorem dX0_fork_41 : decode cX0_fork 41 = .ok (.iload_n 3, 1) := by decide +kernel
theorem dX0_fork_42 : decode cX0_fork 42 = .ok (.iadd, 1) := by decide +kernel
theorem dX0_fork_43 : decode cX0_fork 43 = .ok (.iaload, 1) := by decide +kernel
theorem dX0_fork_44 : decode cX0_fork 44 = .ok (.invokevirtual 51, 3) := by decide +kernel
theorem dX0_fork_47 : decode cX0_fork 47 = .ok (.iinc 3 1, 3) := by decide +kernel
theorem dX0_fork_50 : decode cX0_fork 50 = .ok (.goto (-30), 3) := by decide +kernel
theorem dX0_fork_53 : decode cX0_fork 53 = .ok (.aload_n 0, 1) := by decide +kernel
theorem dX0_fork_54 : decode cX0_fork 54 = .ok (.invokevirtual 44, 3) := by decide +kernel
theorem dX0_fork_57 : decode cX0_fork 57 = .ok (.iconst 0, 1) := by decide +kernel
theorem dX0_fork_58 : decode cX0_fork 58 = .ok (.ireturn, 1) := by decide +kernel
abbrev cX0_lead : ByteArray := prog_1_method_15_code
def yX0_lead : MethodName := ⟨RX0, "lead", "(II)V"⟩
theorem dX0_lead_0 : decode cX0_lead 0 = .ok (.aload_n 0, 1) := by decide +kernel
theorem dX0_lead_1 : decode cX0_lead 1 = .ok (.getfield 7, 3) := by decide +kernel
theorem dX0_lead_4 : decode cX0_lead 4 = .ok (.iload_n 1, 1) := by decide +kernel
theorem dX0_lead_5 : decode cX0_lead 5 = .ok (.iaload, 1) := by decide +kernel
theorem dX0_lead_6 : decode cX0_lead 6 = .ok (.istore_n 3, 1) := by decide +kernel
theorem dX0_lead_7 : decode cX0_lead 7 = .ok (.iload_n 2, 1) := by decide +kernel
theorem dX0_lead_8 : decode cX0_lead 8 = .ok (.ifCond .lt 13, 3) := by decide +kernel
theorem dX0_lead_11 : decode cX0_lead 11 = .ok (.aload_n 0, 1) := by decide +kernel
theorem dX0_lead_12 : decode cX0_lead 12 = .ok (.getfield 29, 3) := by decide +kernel
theorem dX0_lead_15 : decode cX0_lead 15 = .ok (.iload_n 2, 1) := by decide +kernel
theorem dX0_lead_16 : decode cX0_lead 16 = .ok (.dup2, 1) := by decide +kernel
theorem dX0_lead_17 : decode cX0_lead 17 = .ok (.iaload, 1) := by decide +kernel
theorem dX0_lead_18 : decode cX0_lead 18 = .ok (.iconst 1, 1) := by decide +kernel
theorem dX0_lead_19 : decode cX0_lead 19 = .ok (.iadd, 1) := by decide +kernel
theorem dX0_lead_20 : decode cX0_lead 20 = .ok (.iastore, 1) := by decide +kernel
theorem dX0_lead_21 : decode cX0_lead 21 = .ok (.aload_n 0, 1) := by decide +kernel
theorem dX0_lead_22 : decode cX0_lead 22 = .ok (.getfield 7, 3) := by decide +kernel
theorem dX0_lead_25 : decode cX0_lead 25 = .ok (.iload_n 1, 1) := by decide +kernel
theorem dX0_lead_26 : decode cX0_lead 26 = .ok (.iload_n 2, 1) := by decide +kernel
theorem dX0_lead_27 : decode cX0_lead 27 = .ok (.iastore, 1) := by decide +kernel
theorem dX0_lead_28 : decode cX0_lead 28 = .ok (.aload_n 0, 1) := by decide +kernel
theorem dX0_lead_29 : decode cX0_lead 29 = .ok (.iload_n 3, 1) := by decide +kernel
theorem dX0_lead_30 : decode cX0_lead 30 = .ok (.invokevirtual 40, 3) := by decide +kernel
theorem dX0_lead_33 : decode cX0_lead 33 = .ok (.return_, 1) := by decide +kernel
abbrev cX0_pack : ByteArray := prog_1_method_5_code
def yX0_pack : MethodName := ⟨RX0, "pack", "(IIII)I"⟩
theorem dX0_pack_0 : decode cX0_pack 0 = .ok (.iload 4, 2) := by decide +kernel
theorem dX0_pack_2 : decode cX0_pack 2 = .ok (.iconst 1, 1) := by decide +kernel
theorem dX0_pack_3 : decode cX0_pack 3 = .ok (.if_icmp .lt 33, 3) := by decide +kernel
theorem dX0_pack_6 : decode cX0_pack 6 = .ok (.iload 4, 2) := by decide +kernel
theorem dX0_pack_8 : decode cX0_pack 8 = .ok (.bipush 8, 2) := by decide +kernel
theorem dX0_pack_10 : decode cX0_pack 10 = .ok (.if_icmp .gt 26, 3) := by decide +kernel
theorem dX0_pack_13 : decode cX0_pack 13 = .ok (.iload_n 3, 1) := by decide +kernel
theorem dX0_pack_14 : decode cX0_pack 14 = .ok (.ifCond .lt 22, 3) := by decide +kernel
theorem dX0_pack_17 : decode cX0_pack 17 = .ok (.iload_n 3, 1) := by decide +kernel
theorem dX0_pack_18 : decode cX0_pack 18 = .ok (.bipush 7, 2) := by decide +kernel
theorem dX0_pack_20 : decode cX0_pack 20 = .ok (.if_icmp .gt 16, 3) := by decide +kernel
theorem dX0_pack_23 : decode cX0_pack 23 = .ok (.iload_n 3, 1) := by decide +kernel
theorem dX0_pack_24 : decode cX0_pack 24 = .ok (.iload 4, 2) := by decide +kernel
theorem dX0_pack_26 : decode cX0_pack 26 = .ok (.iadd, 1) := by decide +kernel
theorem dX0_pack_27 : decode cX0_pack 27 = .ok (.bipush 8, 2) := by decide +kernel
theorem dX0_pack_29 : decode cX0_pack 29 = .ok (.if_icmp .gt 7, 3) := by decide +kernel
theorem dX0_pack_32 : decode cX0_pack 32 = .ok (.iconst 1, 1) := by decide +kernel
theorem dX0_pack_33 : decode cX0_pack 33 = .ok (.goto 4, 3) := by decide +kernel
theorem dX0_pack_36 : decode cX0_pack 36 = .ok (.iconst 0, 1) := by decide +kernel
theorem dX0_pack_37 : decode cX0_pack 37 = .ok (.istore 5, 2) := by decide +kernel
theorem dX0_pack_39 : decode cX0_pack 39 = .ok (.iload_n 1, 1) := by decide +kernel
theorem dX0_pack_40 : decode cX0_pack 40 = .ok (.ifCond .lt 21, 3) := by decide +kernel
theorem dX0_pack_43 : decode cX0_pack 43 = .ok (.iload_n 1, 1) := by decide +kernel
theorem dX0_pack_44 : decode cX0_pack 44 = .ok (.iconst 3, 1) := by decide +kernel
theorem dX0_pack_45 : decode cX0_pack 45 = .ok (.if_icmp .gt 16, 3) := by decide +kernel
theorem dX0_pack_48 : decode cX0_pack 48 = .ok (.iload_n 2, 1) := by decide +kernel
theorem dX0_pack_49 : decode cX0_pack 49 = .ok (.iconst 0, 1) := by decide +kernel
theorem dX0_pack_50 : decode cX0_pack 50 = .ok (.invokestatic 32, 3) := by decide +kernel
theorem dX0_pack_53 : decode cX0_pack 53 = .ok (.ifCond .eq 8, 3) := by decide +kernel
theorem dX0_pack_56 : decode cX0_pack 56 = .ok (.iload 5, 2) := by decide +kernel
theorem dX0_pack_58 : decode cX0_pack 58 = .ok (.ifCond .ne 5, 3) := by decide +kernel
theorem dX0_pack_61 : decode cX0_pack 61 = .ok (.iconst (-1), 1) := by decide +kernel
theorem dX0_pack_62 : decode cX0_pack 62 = .ok (.ireturn, 1) := by decide +kernel
theorem dX0_pack_63 : decode cX0_pack 63 = .ok (.iconst 0, 1) := by decide +kernel
theorem dX0_pack_64 : decode cX0_pack 64 = .ok (.istore 6, 2) := by decide +kernel
theorem dX0_pack_66 : decode cX0_pack 66 = .ok (.iload 6, 2) := by decide +kernel
theorem dX0_pack_68 : decode cX0_pack 68 = .ok (.bipush 8, 2) := by decide +kernel
theorem dX0_pack_70 : decode cX0_pack 70 = .ok (.if_icmp .ge 48, 3) := by decide +kernel
theorem dX0_pack_73 : decode cX0_pack 73 = .ok (.aload_n 0, 1) := by decide +kernel
theorem dX0_pack_74 : decode cX0_pack 74 = .ok (.bipush 32, 2) := by decide +kernel
theorem dX0_pack_76 : decode cX0_pack 76 = .ok (.bipush 8, 2) := by decide +kernel
theorem dX0_pack_78 : decode cX0_pack 78 = .ok (.iload_n 1, 1) := by decide +kernel
theorem dX0_pack_79 : decode cX0_pack 79 = .ok (.imul, 1) := by decide +kernel
theorem dX0_pack_80 : decode cX0_pack 80 = .ok (.iadd, 1) := by decide +kernel
theorem dX0_pack_81 : decode cX0_pack 81 = .ok (.iload 6, 2) := by decide +kernel
theorem dX0_pack_83 : decode cX0_pack 83 = .ok (.iadd, 1) := by decide +kernel
theorem dX0_pack_84 : decode cX0_pack 84 = .ok (.iload 6, 2) := by decide +kernel
theorem dX0_pack_86 : decode cX0_pack 86 = .ok (.iload 4, 2) := by decide +kernel
theorem dX0_pack_88 : decode cX0_pack 88 = .ok (.if_icmp .ge 20, 3) := by decide +kernel
theorem dX0_pack_91 : decode cX0_pack 91 = .ok (.aload_n 0, 1) := by decide +kernel
theorem dX0_pack_92 : decode cX0_pack 92 = .ok (.getfield 7, 3) := by decide +kernel
theorem dX0_pack_95 : decode cX0_pack 95 = .ok (.bipush 8, 2) := by decide +kernel
theorem dX0_pack_97 : decode cX0_pack 97 = .ok (.iload_n 2, 1) := by decide +kernel
theorem dX0_pack_98 : decode cX0_pack 98 = .ok (.imul, 1) := by decide +kernel
theorem dX0_pack_99 : decode cX0_pack 99 = .ok (.iload_n 3, 1) := by decide +kernel
theorem dX0_pack_100 : decode cX0_pack 100 = .ok (.iadd, 1) := by decide +kernel
theorem dX0_pack_101 : decode cX0_pack 101 = .ok (.iload 6, 2) := by decide +kernel
theorem dX0_pack_103 : decode cX0_pack 103 = .ok (.iadd, 1) := by decide +kernel
theorem dX0_pack_104 : decode cX0_pack 104 = .ok (.iaload, 1) := by decide +kernel
theorem dX0_pack_105 : decode cX0_pack 105 = .ok (.goto 4, 3) := by decide +kernel
theorem dX0_pack_108 : decode cX0_pack 108 = .ok (.iconst (-1), 1) := by decide +kernel
theorem dX0_pack_109 : decode cX0_pack 109 = .ok (.invokevirtual 51, 3) := by decide +kernel
theorem dX0_pack_112 : decode cX0_pack 112 = .ok (.iinc 6 1, 3) := by decide +kernel
theorem dX0_pack_115 : decode cX0_pack 115 = .ok (.goto (-49), 3) := by decide +kernel
theorem dX0_pack_118 : decode cX0_pack 118 = .ok (.aload_n 0, 1) := by decide +kernel
theorem dX0_pack_119 : decode cX0_pack 119 = .ok (.getfield 13, 3) := by decide +kernel
theorem dX0_pack_122 : decode cX0_pack 122 = .ok (.iload_n 1, 1) := by decide +kernel
theorem dX0_pack_123 : decode cX0_pack 123 = .ok (.iload 4, 2) := by decide +kernel
theorem dX0_pack_125 : decode cX0_pack 125 = .ok (.iastore, 1) := by decide +kernel
theorem dX0_pack_126 : decode cX0_pack 126 = .ok (.aload_n 0, 1) := by decide +kernel
theorem dX0_pack_127 : decode cX0_pack 127 = .ok (.invokevirtual 44, 3) := by decide +kernel
theorem dX0_pack_130 : decode cX0_pack 130 = .ok (.iconst 0, 1) := by decide +kernel
theorem dX0_pack_131 : decode cX0_pack 131 = .ok (.ireturn, 1) := by decide +kernel
abbrev cX0_unpack : ByteArray := prog_1_method_6_code
def yX0_unpack : MethodName := ⟨RX0, "unpack", "(IIIZ)I"⟩
theorem dX0_unpack_0 : decode cX0_unpack 0 = .ok (.iload_n 1, 1) := by decide +kernel
theorem dX0_unpack_1 : decode cX0_unpack 1 = .ok (.ifCond .lt 16, 3) := by decide +kernel
theorem dX0_unpack_4 : decode cX0_unpack 4 = .ok (.iload_n 1, 1) := by decide +kernel
theorem dX0_unpack_5 : decode cX0_unpack 5 = .ok (.iconst 3, 1) := by decide +kernel
theorem dX0_unpack_6 : decode cX0_unpack 6 = .ok (.if_icmp .gt 11, 3) := by decide +kernel
theorem dX0_unpack_9 : decode cX0_unpack 9 = .ok (.iload_n 2, 1) := by decide +kernel
theorem dX0_unpack_10 : decode cX0_unpack 10 = .ok (.iload_n 3, 1) := by decide +kernel
theorem dX0_unpack_11 : decode cX0_unpack 11 = .ok (.invokestatic 32, 3) := by decide +kernel
theorem dX0_unpack_14 : decode cX0_unpack 14 = .ok (.ifCond .ne 5, 3) := by decide +kernel
theorem dX0_unpack_17 : decode cX0_unpack 17 = .ok (.iconst (-1), 1) := by decide +kernel
theorem dX0_unpack_18 : decode cX0_unpack 18 = .ok (.ireturn, 1) := by decide +kernel
theorem dX0_unpack_19 : decode cX0_unpack 19 = .ok (.aload_n 0, 1) := by decide +kernel
theorem dX0_unpack_20 : decode cX0_unpack 20 = .ok (.getfield 13, 3) := by decide +kernel
theorem dX0_unpack_23 : decode cX0_unpack 23 = .ok (.iload_n 1, 1) := by decide +kernel
theorem dX0_unpack_24 : decode cX0_unpack 24 = .ok (.iaload, 1) := by decide +kernel
theorem dX0_unpack_25 : decode cX0_unpack 25 = .ok (.istore 5, 2) := by decide +kernel
theorem dX0_unpack_27 : decode cX0_unpack 27 = .ok (.iload 5, 2) := by decide +kernel
theorem dX0_unpack_29 : decode cX0_unpack 29 = .ok (.ifCond .eq 12, 3) := by decide +kernel
theorem dX0_unpack_32 : decode cX0_unpack 32 = .ok (.iload_n 3, 1) := by decide +kernel
theorem dX0_unpack_33 : decode cX0_unpack 33 = .ok (.iload 5, 2) := by decide +kernel
theorem dX0_unpack_35 : decode cX0_unpack 35 = .ok (.iadd, 1) := by decide +kernel
theorem dX0_unpack_36 : decode cX0_unpack 36 = .ok (.bipush 8, 2) := by decide +kernel
theorem dX0_unpack_38 : decode cX0_unpack 38 = .ok (.if_icmp .le 5, 3) := by decide +kernel
theorem dX0_unpack_41 : decode cX0_unpack 41 = .ok (.iconst (-1), 1) := by decide +kernel
theorem dX0_unpack_42 : decode cX0_unpack 42 = .ok (.ireturn, 1) := by decide +kernel
theorem dX0_unpack_43 : decode cX0_unpack 43 = .ok (.iconst 0, 1) := by decide +kernel
theorem dX0_unpack_44 : decode cX0_unpack 44 = .ok (.istore 6, 2) := by decide +kernel
theorem dX0_unpack_46 : decode cX0_unpack 46 = .ok (.iload 6, 2) := by decide +kernel
theorem dX0_unpack_48 : decode cX0_unpack 48 = .ok (.iload 5, 2) := by decide +kernel
theorem dX0_unpack_50 : decode cX0_unpack 50 = .ok (.if_icmp .ge 37, 3) := by decide +kernel
theorem dX0_unpack_53 : decode cX0_unpack 53 = .ok (.aload_n 0, 1) := by decide +kernel
theorem dX0_unpack_54 : decode cX0_unpack 54 = .ok (.bipush 8, 2) := by decide +kernel
theorem dX0_unpack_56 : decode cX0_unpack 56 = .ok (.iload_n 2, 1) := by decide +kernel
theorem dX0_unpack_57 : decode cX0_unpack 57 = .ok (.imul, 1) := by decide +kernel
theorem dX0_unpack_58 : decode cX0_unpack 58 = .ok (.iload_n 3, 1) := by decide +kernel
theorem dX0_unpack_59 : decode cX0_unpack 59 = .ok (.iadd, 1) := by decide +kernel
theorem dX0_unpack_60 : decode cX0_unpack 60 = .ok (.iload 6, 2) := by decide +kernel
theorem dX0_unpack_62 : decode cX0_unpack 62 = .ok (.iadd, 1) := by decide +kernel
theorem dX0_unpack_63 : decode cX0_unpack 63 = .ok (.aload_n 0, 1) := by decide +kernel
theorem dX0_unpack_64 : decode cX0_unpack 64 = .ok (.getfield 7, 3) := by decide +kernel
theorem dX0_unpack_67 : decode cX0_unpack 67 = .ok (.bipush 32, 2) := by decide +kernel
theorem dX0_unpack_69 : decode cX0_unpack 69 = .ok (.bipush 8, 2) := by decide +kernel
theorem dX0_unpack_71 : decode cX0_unpack 71 = .ok (.iload_n 1, 1) := by decide +kernel
theorem dX0_unpack_72 : decode cX0_unpack 72 = .ok (.imul, 1) := by decide +kernel
theorem dX0_unpack_73 : decode cX0_unpack 73 = .ok (.iadd, 1) := by decide +kernel
theorem dX0_unpack_74 : decode cX0_unpack 74 = .ok (.iload 6, 2) := by decide +kernel
theorem dX0_unpack_76 : decode cX0_unpack 76 = .ok (.iadd, 1) := by decide +kernel
theorem dX0_unpack_77 : decode cX0_unpack 77 = .ok (.iaload, 1) := by decide +kernel
theorem dX0_unpack_78 : decode cX0_unpack 78 = .ok (.invokevirtual 51, 3) := by decide +kernel
theorem dX0_unpack_81 : decode cX0_unpack 81 = .ok (.iinc 6 1, 3) := by decide +kernel
theorem dX0_unpack_84 : decode cX0_unpack 84 = .ok (.goto (-38), 3) := by decide +kernel
theorem dX0_unpack_87 : decode cX0_unpack 87 = .ok (.iload 4, 2) := by decide +kernel
theorem dX0_unpack_89 : decode cX0_unpack 89 = .ok (.ifCond .ne 41, 3) := by decide +kernel
theorem dX0_unpack_92 : decode cX0_unpack 92 = .ok (.iconst 0, 1) := by decide +kernel
theorem dX0_unpack_93 : decode cX0_unpack 93 = .ok (.istore 6, 2) := by decide +kernel
theorem dX0_unpack_95 : decode cX0_unpack 95 = .ok (.iload 6, 2) := by decide +kernel
theorem dX0_unpack_97 : decode cX0_unpack 97 = .ok (.iload 5, 2) := by decide +kernel
theorem dX0_unpack_99 : decode cX0_unpack 99 = .ok (.if_icmp .ge 24, 3) := by decide +kernel
theorem dX0_unpack_102 : decode cX0_unpack 102 = .ok (.aload_n 0, 1) := by decide +kernel
theorem dX0_unpack_103 : decode cX0_unpack 103 = .ok (.bipush 32, 2) := by decide +kernel
theorem dX0_unpack_105 : decode cX0_unpack 105 = .ok (.bipush 8, 2) := by decide +kernel
theorem dX0_unpack_107 : decode cX0_unpack 107 = .ok (.iload_n 1, 1) := by decide +kernel
theorem dX0_unpack_108 : decode cX0_unpack 108 = .ok (.imul, 1) := by decide +kernel
theorem dX0_unpack_109 : decode cX0_unpack 109 = .ok (.iadd, 1) := by decide +kernel
theorem dX0_unpack_110 : decode cX0_unpack 110 = .ok (.iload 6, 2) := by decide +kernel
theorem dX0_unpack_112 : decode cX0_unpack 112 = .ok (.iadd, 1) := by decide +kernel
theorem dX0_unpack_113 : decode cX0_unpack 113 = .ok (.iconst (-1), 1) := by decide +kernel
theorem dX0_unpack_114 : decode cX0_unpack 114 = .ok (.invokevirtual 51, 3) := by decide +kernel
theorem dX0_unpack_117 : decode cX0_unpack 117 = .ok (.iinc 6 1, 3) := by decide +kernel
theorem dX0_unpack_120 : decode cX0_unpack 120 = .ok (.goto (-25), 3) := by decide +kernel
theorem dX0_unpack_123 : decode cX0_unpack 123 = .ok (.aload_n 0, 1) := by decide +kernel
theorem dX0_unpack_124 : decode cX0_unpack 124 = .ok (.getfield 13, 3) := by decide +kernel
theorem dX0_unpack_127 : decode cX0_unpack 127 = .ok (.iload_n 1, 1) := by decide +kernel
theorem dX0_unpack_128 : decode cX0_unpack 128 = .ok (.iconst 0, 1) := by decide +kernel
theorem dX0_unpack_129 : decode cX0_unpack 129 = .ok (.iastore, 1) := by decide +kernel
theorem dX0_unpack_130 : decode cX0_unpack 130 = .ok (.aload_n 0, 1) := by decide +kernel
theorem dX0_unpack_131 : decode cX0_unpack 131 = .ok (.invokevirtual 44, 3) := by decide +kernel
theorem dX0_unpack_134 : decode cX0_unpack 134 = .ok (.iload 5, 2) := by decide +kernel
theorem dX0_unpack_136 : decode cX0_unpack 136 = .ok (.ireturn, 1) := by decide +kernel
abbrev cX0_exchange : ByteArray := prog_1_method_7_code
def yX0_exchange : MethodName := ⟨RX0, "exchange", "(III)I"⟩
theorem dX0_exchange_0 : decode cX0_exchange 0 = .ok (.iload_n 1, 1) := by decide +kernel
theorem dX0_exchange_1 : decode cX0_exchange 1 = .ok (.iload_n 2, 1) := by decide +kernel
theorem dX0_exchange_2 : decode cX0_exchange 2 = .ok (.invokestatic 32, 3) := by decide +kernel
theorem dX0_exchange_5 : decode cX0_exchange 5 = .ok (.ifCond .eq 11, 3) := by decide +kernel
theorem dX0_exchange_8 : decode cX0_exchange 8 = .ok (.iload_n 1, 1) := by decide +kernel
theorem dX0_exchange_9 : decode cX0_exchange 9 = .ok (.iload_n 3, 1) := by decide +kernel
theorem dX0_exchange_10 : decode cX0_exchange 10 = .ok (.invokestatic 32, 3) := by decide +kernel
theorem dX0_exchange_13 : decode cX0_exchange 13 = .ok (.ifCond .ne 5, 3) := by decide +kernel
theorem dX0_exchange_16 : decode cX0_exchange 16 = .ok (.iconst (-1), 1) := by decide +kernel
theorem dX0_exchange_17 : decode cX0_exchange 17 = .ok (.ireturn, 1) := by decide +kernel
theorem dX0_exchange_18 : decode cX0_exchange 18 = .ok (.aload_n 0, 1) := by decide +kernel
theorem dX0_exchange_19 : decode cX0_exchange 19 = .ok (.getfield 7, 3) := by decide +kernel
theorem dX0_exchange_22 : decode cX0_exchange 22 = .ok (.bipush 8, 2) := by decide +kernel
theorem dX0_exchange_24 : decode cX0_exchange 24 = .ok (.iload_n 1, 1) := by decide +kernel
theorem dX0_exchange_25 : decode cX0_exchange 25 = .ok (.imul, 1) := by decide +kernel
theorem dX0_exchange_26 : decode cX0_exchange 26 = .ok (.iload_n 2, 1) := by decide +kernel
theorem dX0_exchange_27 : decode cX0_exchange 27 = .ok (.iadd, 1) := by decide +kernel
theorem dX0_exchange_28 : decode cX0_exchange 28 = .ok (.iaload, 1) := by decide +kernel
theorem dX0_exchange_29 : decode cX0_exchange 29 = .ok (.istore 4, 2) := by decide +kernel
theorem dX0_exchange_31 : decode cX0_exchange 31 = .ok (.aload_n 0, 1) := by decide +kernel
theorem dX0_exchange_32 : decode cX0_exchange 32 = .ok (.getfield 7, 3) := by decide +kernel
theorem dX0_exchange_35 : decode cX0_exchange 35 = .ok (.bipush 8, 2) := by decide +kernel
theorem dX0_exchange_37 : decode cX0_exchange 37 = .ok (.iload_n 1, 1) := by decide +kernel
theorem dX0_exchange_38 : decode cX0_exchange 38 = .ok (.imul, 1) := by decide +kernel
theorem dX0_exchange_39 : decode cX0_exchange 39 = .ok (.iload_n 2, 1) := by decide +kernel
theorem dX0_exchange_40 : decode cX0_exchange 40 = .ok (.iadd, 1) := by decide +kernel
theorem dX0_exchange_41 : decode cX0_exchange 41 = .ok (.aload_n 0, 1) := by decide +kernel
theorem dX0_exchange_42 : decode cX0_exchange 42 = .ok (.getfield 7, 3) := by decide +kernel
theorem dX0_exchange_45 : decode cX0_exchange 45 = .ok (.bipush 8, 2) := by decide +kernel
theorem dX0_exchange_47 : decode cX0_exchange 47 = .ok (.iload_n 1, 1) := by decide +kernel
theorem dX0_exchange_48 : decode cX0_exchange 48 = .ok (.imul, 1) := by decide +kernel
theorem dX0_exchange_49 : decode cX0_exchange 49 = .ok (.iload_n 3, 1) := by decide +kernel
theorem dX0_exchange_50 : decode cX0_exchange 50 = .ok (.iadd, 1) := by decide +kernel
theorem dX0_exchange_51 : decode cX0_exchange 51 = .ok (.iaload, 1) := by decide +kernel
theorem dX0_exchange_52 : decode cX0_exchange 52 = .ok (.iastore, 1) := by decide +kernel
theorem dX0_exchange_53 : decode cX0_exchange 53 = .ok (.aload_n 0, 1) := by decide +kernel
theorem dX0_exchange_54 : decode cX0_exchange 54 = .ok (.getfield 7, 3) := by decide +kernel
theorem dX0_exchange_57 : decode cX0_exchange 57 = .ok (.bipush 8, 2) := by decide +kernel
theorem dX0_exchange_59 : decode cX0_exchange 59 = .ok (.iload_n 1, 1) := by decide +kernel
theorem dX0_exchange_60 : decode cX0_exchange 60 = .ok (.imul, 1) := by decide +kernel
theorem dX0_exchange_61 : decode cX0_exchange 61 = .ok (.iload_n 3, 1) := by decide +kernel
theorem dX0_exchange_62 : decode cX0_exchange 62 = .ok (.iadd, 1) := by decide +kernel
theorem dX0_exchange_63 : decode cX0_exchange 63 = .ok (.iload 4, 2) := by decide +kernel
theorem dX0_exchange_65 : decode cX0_exchange 65 = .ok (.iastore, 1) := by decide +kernel
theorem dX0_exchange_66 : decode cX0_exchange 66 = .ok (.iconst 0, 1) := by decide +kernel
theorem dX0_exchange_67 : decode cX0_exchange 67 = .ok (.ireturn, 1) := by decide +kernel
abbrev cX0_clear : ByteArray := prog_1_method_8_code
def yX0_clear : MethodName := ⟨RX0, "clear", "(II)I"⟩
theorem dX0_clear_0 : decode cX0_clear 0 = .ok (.iload_n 1, 1) := by decide +kernel
theorem dX0_clear_1 : decode cX0_clear 1 = .ok (.iload_n 2, 1) := by decide +kernel
theorem dX0_clear_2 : decode cX0_clear 2 = .ok (.invokestatic 32, 3) := by decide +kernel
theorem dX0_clear_5 : decode cX0_clear 5 = .ok (.ifCond .ne 5, 3) := by decide +kernel
theorem dX0_clear_8 : decode cX0_clear 8 = .ok (.iconst (-1), 1) := by decide +kernel
theorem dX0_clear_9 : decode cX0_clear 9 = .ok (.ireturn, 1) := by decide +kernel
theorem dX0_clear_10 : decode cX0_clear 10 = .ok (.aload_n 0, 1) := by decide +kernel
theorem dX0_clear_11 : decode cX0_clear 11 = .ok (.bipush 8, 2) := by decide +kernel
theorem dX0_clear_13 : decode cX0_clear 13 = .ok (.iload_n 1, 1) := by decide +kernel
theorem dX0_clear_14 : decode cX0_clear 14 = .ok (.imul, 1) := by decide +kernel
theorem dX0_clear_15 : decode cX0_clear 15 = .ok (.iload_n 2, 1) := by decide +kernel
theorem dX0_clear_16 : decode cX0_clear 16 = .ok (.iadd, 1) := by decide +kernel
theorem dX0_clear_17 : decode cX0_clear 17 = .ok (.iconst (-1), 1) := by decide +kernel
theorem dX0_clear_18 : decode cX0_clear 18 = .ok (.invokevirtual 51, 3) := by decide +kernel
theorem dX0_clear_21 : decode cX0_clear 21 = .ok (.aload_n 0, 1) := by decide +kernel
theorem dX0_clear_22 : decode cX0_clear 22 = .ok (.invokevirtual 44, 3) := by decide +kernel
theorem dX0_clear_25 : decode cX0_clear 25 = .ok (.iconst 0, 1) := by decide +kernel
theorem dX0_clear_26 : decode cX0_clear 26 = .ok (.ireturn, 1) := by decide +kernel
abbrev cX0_size : ByteArray := prog_1_method_9_code
def yX0_size : MethodName := ⟨RX0, "size", "(I)I"⟩
theorem dX0_size_0 : decode cX0_size 0 = .ok (.iload_n 1, 1) := by decide +kernel
theorem dX0_size_1 : decode cX0_size 1 = .ok (.ifCond .lt 8, 3) := by decide +kernel
theorem dX0_size_4 : decode cX0_size 4 = .ok (.iload_n 1, 1) := by decide +kernel
theorem dX0_size_5 : decode cX0_size 5 = .ok (.iconst 3, 1) := by decide +kernel
theorem dX0_size_6 : decode cX0_size 6 = .ok (.if_icmp .le 7, 3) := by decide +kernel
theorem dX0_size_9 : decode cX0_size 9 = .ok (.iconst (-1), 1) := by decide +kernel
theorem dX0_size_10 : decode cX0_size 10 = .ok (.goto 9, 3) := by decide +kernel
theorem dX0_size_13 : decode cX0_size 13 = .ok (.aload_n 0, 1) := by decide +kernel
theorem dX0_size_14 : decode cX0_size 14 = .ok (.getfield 13, 3) := by decide +kernel
theorem dX0_size_17 : decode cX0_size 17 = .ok (.iload_n 1, 1) := by decide +kernel
theorem dX0_size_18 : decode cX0_size 18 = .ok (.iaload, 1) := by decide +kernel
theorem dX0_size_19 : decode cX0_size 19 = .ok (.ireturn, 1) := by decide +kernel
abbrev cX0_peek : ByteArray := prog_1_method_10_code
def yX0_peek : MethodName := ⟨RX0, "peek", "(III)I"⟩
theorem dX0_peek_0 : decode cX0_peek 0 = .ok (.iload_n 1, 1) := by decide +kernel
theorem dX0_peek_1 : decode cX0_peek 1 = .ok (.ifCond .lt 31, 3) := by decide +kernel
theorem dX0_peek_4 : decode cX0_peek 4 = .ok (.iload_n 1, 1) := by decide +kernel
theorem dX0_peek_5 : decode cX0_peek 5 = .ok (.iconst 3, 1) := by decide +kernel
theorem dX0_peek_6 : decode cX0_peek 6 = .ok (.if_icmp .gt 26, 3) := by decide +kernel
theorem dX0_peek_9 : decode cX0_peek 9 = .ok (.iload_n 2, 1) := by decide +kernel
theorem dX0_peek_10 : decode cX0_peek 10 = .ok (.ifCond .lt 22, 3) := by decide +kernel
theorem dX0_peek_13 : decode cX0_peek 13 = .ok (.iload_n 2, 1) := by decide +kernel
theorem dX0_peek_14 : decode cX0_peek 14 = .ok (.aload_n 0, 1) := by decide +kernel
theorem dX0_peek_15 : decode cX0_peek 15 = .ok (.getfield 13, 3) := by decide +kernel
theorem dX0_peek_18 : decode cX0_peek 18 = .ok (.iload_n 1, 1) := by decide +kernel
theorem dX0_peek_19 : decode cX0_peek 19 = .ok (.iaload, 1) := by decide +kernel
theorem dX0_peek_20 : decode cX0_peek 20 = .ok (.if_icmp .ge 12, 3) := by decide +kernel
theorem dX0_peek_23 : decode cX0_peek 23 = .ok (.iload_n 3, 1) := by decide +kernel
theorem dX0_peek_24 : decode cX0_peek 24 = .ok (.ifCond .lt 8, 3) := by decide +kernel
theorem dX0_peek_27 : decode cX0_peek 27 = .ok (.iload_n 3, 1) := by decide +kernel
theorem dX0_peek_28 : decode cX0_peek 28 = .ok (.iconst 3, 1) := by decide +kernel
theorem dX0_peek_29 : decode cX0_peek 29 = .ok (.if_icmp .le 5, 3) := by decide +kernel
theorem dX0_peek_32 : decode cX0_peek 32 = .ok (.iconst 0, 1) := by decide +kernel
theorem dX0_peek_33 : decode cX0_peek 33 = .ok (.ireturn, 1) := by decide +kernel
theorem dX0_peek_34 : decode cX0_peek 34 = .ok (.aload_n 0, 1) := by decide +kernel
theorem dX0_peek_35 : decode cX0_peek 35 = .ok (.aload_n 0, 1) := by decide +kernel
theorem dX0_peek_36 : decode cX0_peek 36 = .ok (.getfield 7, 3) := by decide +kernel
theorem dX0_peek_39 : decode cX0_peek 39 = .ok (.bipush 32, 2) := by decide +kernel
theorem dX0_peek_41 : decode cX0_peek 41 = .ok (.bipush 8, 2) := by decide +kernel
theorem dX0_peek_43 : decode cX0_peek 43 = .ok (.iload_n 1, 1) := by decide +kernel
theorem dX0_peek_44 : decode cX0_peek 44 = .ok (.imul, 1) := by decide +kernel
theorem dX0_peek_45 : decode cX0_peek 45 = .ok (.iadd, 1) := by decide +kernel
theorem dX0_peek_46 : decode cX0_peek 46 = .ok (.iload_n 2, 1) := by decide +kernel
theorem dX0_peek_47 : decode cX0_peek 47 = .ok (.iadd, 1) := by decide +kernel
theorem dX0_peek_48 : decode cX0_peek 48 = .ok (.iaload, 1) := by decide +kernel
theorem dX0_peek_49 : decode cX0_peek 49 = .ok (.iload_n 3, 1) := by decide +kernel
theorem dX0_peek_50 : decode cX0_peek 50 = .ok (.invokevirtual 47, 3) := by decide +kernel
theorem dX0_peek_53 : decode cX0_peek 53 = .ok (.ireturn, 1) := by decide +kernel
abbrev cX0_alike : ByteArray := prog_1_method_11_code
def yX0_alike : MethodName := ⟨RX0, "alike", "(II)I"⟩
theorem dX0_alike_0 : decode cX0_alike 0 = .ok (.iload_n 1, 1) := by decide +kernel
theorem dX0_alike_1 : decode cX0_alike 1 = .ok (.iconst 0, 1) := by decide +kernel
theorem dX0_alike_2 : decode cX0_alike 2 = .ok (.invokestatic 32, 3) := by decide +kernel
theorem dX0_alike_5 : decode cX0_alike 5 = .ok (.ifCond .eq 11, 3) := by decide +kernel
theorem dX0_alike_8 : decode cX0_alike 8 = .ok (.iload_n 2, 1) := by decide +kernel
theorem dX0_alike_9 : decode cX0_alike 9 = .ok (.iconst 0, 1) := by decide +kernel
theorem dX0_alike_10 : decode cX0_alike 10 = .ok (.invokestatic 32, 3) := by decide +kernel
theorem dX0_alike_13 : decode cX0_alike 13 = .ok (.ifCond .ne 5, 3) := by decide +kernel
theorem dX0_alike_16 : decode cX0_alike 16 = .ok (.iconst (-1), 1) := by decide +kernel
theorem dX0_alike_17 : decode cX0_alike 17 = .ok (.ireturn, 1) := by decide +kernel
theorem dX0_alike_18 : decode cX0_alike 18 = .ok (.iconst 0, 1) := by decide +kernel
theorem dX0_alike_19 : decode cX0_alike 19 = .ok (.istore_n 3, 1) := by decide +kernel
theorem dX0_alike_20 : decode cX0_alike 20 = .ok (.iconst 0, 1) := by decide +kernel
theorem dX0_alike_21 : decode cX0_alike 21 = .ok (.istore 4, 2) := by decide +kernel
theorem dX0_alike_23 : decode cX0_alike 23 = .ok (.iload 4, 2) := by decide +kernel
theorem dX0_alike_25 : decode cX0_alike 25 = .ok (.bipush 8, 2) := by decide +kernel
theorem dX0_alike_27 : decode cX0_alike 27 = .ok (.if_icmp .ge 43, 3) := by decide +kernel
theorem dX0_alike_30 : decode cX0_alike 30 = .ok (.aload_n 0, 1) := by decide +kernel
theorem dX0_alike_31 : decode cX0_alike 31 = .ok (.aload_n 0, 1) := by decide +kernel
theorem dX0_alike_32 : decode cX0_alike 32 = .ok (.getfield 7, 3) := by decide +kernel
theorem dX0_alike_35 : decode cX0_alike 35 = .ok (.bipush 8, 2) := by decide +kernel
theorem dX0_alike_37 : decode cX0_alike 37 = .ok (.iload_n 1, 1) := by decide +kernel
theorem dX0_alike_38 : decode cX0_alike 38 = .ok (.imul, 1) := by decide +kernel
theorem dX0_alike_39 : decode cX0_alike 39 = .ok (.iload 4, 2) := by decide +kernel
theorem dX0_alike_41 : decode cX0_alike 41 = .ok (.iadd, 1) := by decide +kernel
theorem dX0_alike_42 : decode cX0_alike 42 = .ok (.iaload, 1) := by decide +kernel
theorem dX0_alike_43 : decode cX0_alike 43 = .ok (.aload_n 0, 1) := by decide +kernel
theorem dX0_alike_44 : decode cX0_alike 44 = .ok (.getfield 7, 3) := by decide +kernel
theorem dX0_alike_47 : decode cX0_alike 47 = .ok (.bipush 8, 2) := by decide +kernel
theorem dX0_alike_49 : decode cX0_alike 49 = .ok (.iload_n 2, 1) := by decide +kernel
theorem dX0_alike_50 : decode cX0_alike 50 = .ok (.imul, 1) := by decide +kernel
theorem dX0_alike_51 : decode cX0_alike 51 = .ok (.iload 4, 2) := by decide +kernel
theorem dX0_alike_53 : decode cX0_alike 53 = .ok (.iadd, 1) := by decide +kernel
theorem dX0_alike_54 : decode cX0_alike 54 = .ok (.iaload, 1) := by decide +kernel
theorem dX0_alike_55 : decode cX0_alike 55 = .ok (.invokevirtual 55, 3) := by decide +kernel
theorem dX0_alike_58 : decode cX0_alike 58 = .ok (.ifCond .eq 6, 3) := by decide +kernel
theorem dX0_alike_61 : decode cX0_alike 61 = .ok (.iinc 3 1, 3) := by decide +kernel
theorem dX0_alike_64 : decode cX0_alike 64 = .ok (.iinc 4 1, 3) := by decide +kernel
theorem dX0_alike_67 : decode cX0_alike 67 = .ok (.goto (-44), 3) := by decide +kernel
theorem dX0_alike_70 : decode cX0_alike 70 = .ok (.iload_n 3, 1) := by decide +kernel
theorem dX0_alike_71 : decode cX0_alike 71 = .ok (.ireturn, 1) := by decide +kernel
abbrev cX0_samePage : ByteArray := prog_1_method_14_code
def yX0_samePage : MethodName := ⟨RX0, "samePage", "(II)Z"⟩
theorem dX0_samePage_0 : decode cX0_samePage 0 = .ok (.iload_n 1, 1) := by decide +kernel
theorem dX0_samePage_1 : decode cX0_samePage 1 = .ok (.iload_n 2, 1) := by decide +kernel
theorem dX0_samePage_2 : decode cX0_samePage 2 = .ok (.if_icmp .ne 5, 3) := by decide +kernel
theorem dX0_samePage_5 : decode cX0_samePage 5 = .ok (.iconst 1, 1) := by decide +kernel
theorem dX0_samePage_6 : decode cX0_samePage 6 = .ok (.ireturn, 1) := by decide +kernel
theorem dX0_samePage_7 : decode cX0_samePage 7 = .ok (.iconst 0, 1) := by decide +kernel
theorem dX0_samePage_8 : decode cX0_samePage 8 = .ok (.istore_n 3, 1) := by decide +kernel
theorem dX0_samePage_9 : decode cX0_samePage 9 = .ok (.iload_n 3, 1) := by decide +kernel
theorem dX0_samePage_10 : decode cX0_samePage 10 = .ok (.iconst 4, 1) := by decide +kernel
theorem dX0_samePage_11 : decode cX0_samePage 11 = .ok (.if_icmp .ge 26, 3) := by decide +kernel
theorem dX0_samePage_14 : decode cX0_samePage 14 = .ok (.aload_n 0, 1) := by decide +kernel
theorem dX0_samePage_15 : decode cX0_samePage 15 = .ok (.iload_n 1, 1) := by decide +kernel
theorem dX0_samePage_16 : decode cX0_samePage 16 = .ok (.iload_n 3, 1) := by decide +kernel
theorem dX0_samePage_17 : decode cX0_samePage 17 = .ok (.invokevirtual 47, 3) := by decide +kernel
theorem dX0_samePage_20 : decode cX0_samePage 20 = .ok (.aload_n 0, 1) := by decide +kernel
theorem dX0_samePage_21 : decode cX0_samePage 21 = .ok (.iload_n 2, 1) := by decide +kernel
theorem dX0_samePage_22 : decode cX0_samePage 22 = .ok (.iload_n 3, 1) := by decide +kernel
theorem dX0_samePage_23 : decode cX0_samePage 23 = .ok (.invokevirtual 47, 3) := by decide +kernel
theorem dX0_samePage_26 : decode cX0_samePage 26 = .ok (.if_icmp .eq 5, 3) := by decide +kernel
theorem dX0_samePage_29 : decode cX0_samePage 29 = .ok (.iconst 0, 1) := by decide +kernel
theorem dX0_samePage_30 : decode cX0_samePage 30 = .ok (.ireturn, 1) := by decide +kernel
theorem dX0_samePage_31 : decode cX0_samePage 31 = .ok (.iinc 3 1, 3) := by decide +kernel
theorem dX0_samePage_34 : decode cX0_samePage 34 = .ok (.goto (-25), 3) := by decide +kernel
theorem dX0_samePage_37 : decode cX0_samePage 37 = .ok (.iconst 1, 1) := by decide +kernel
theorem dX0_samePage_38 : decode cX0_samePage 38 = .ok (.ireturn, 1) := by decide +kernel
theorem q10 : (Jvm.Cond.initialized "ShadowPages") ∈ lw_all := lw_g (lw_at lw_m0 1 rfl) rfl
theorem q13 : (Jvm.Cond.instantiable "ShadowPages" (7 : Nat)) ∈ lw_all := lw_g (lw_at lw_m0 4 rfl) rfl
theorem q15 : (Jvm.Cond.instanceMethod ({ cls := "ShadowPages", name := "<init>", desc := "()V" } : Jvm.MethodName)) ∈ lw_all := lw_g (lw_at lw_m0 6 rfl) rfl
theorem q16 : (Jvm.Cond.code ({ cls := "ShadowPages", name := "<init>", desc := "()V" } : Jvm.MethodName) prog_1_method_1_code (2 : Nat) (Option.none : Option Jvm.ClassFile.FieldType)) ∈ lw_all := lw_g (lw_at lw_m0 7 rfl) rfl
theorem q17 : (Jvm.Cond.methodLink "ShadowPages" (1 : Nat) ({ cls := "java/lang/Object", name := "<init>", desc := "()V" } : Jvm.MethodName)) ∈ lw_all := lw_g (lw_at lw_m0 8 rfl) rfl
theorem q20 : (Jvm.Cond.fieldLink "ShadowPages" (7 : Nat) "ShadowPages" "object" "[I") ∈ lw_all := lw_g (lw_at lw_m0 11 rfl) rfl
theorem q21 : (Jvm.Cond.fieldLink "ShadowPages" (13 : Nat) "ShadowPages" "parcelSize" "[I") ∈ lw_all := lw_g (lw_at lw_m0 12 rfl) rfl
theorem q22 : (Jvm.Cond.fieldLink "ShadowPages" (16 : Nat) "ShadowPages" "taken" "[Z") ∈ lw_all := lw_g (lw_at lw_m0 13 rfl) rfl
theorem q23 : (Jvm.Cond.fieldLink "ShadowPages" (20 : Nat) "ShadowPages" "holds" "[I") ∈ lw_all := lw_g (lw_at lw_m0 14 rfl) rfl
theorem q24 : (Jvm.Cond.fieldLink "ShadowPages" (23 : Nat) "ShadowPages" "cells" "[I") ∈ lw_all := lw_g (lw_at lw_m0 15 rfl) rfl
theorem q25 : (Jvm.Cond.fieldLink "ShadowPages" (26 : Nat) "ShadowPages" "shadow" "[I") ∈ lw_all := lw_g (lw_at lw_m0 16 rfl) rfl
theorem q26 : (Jvm.Cond.fieldLink "ShadowPages" (29 : Nat) "ShadowPages" "users" "[I") ∈ lw_all := lw_g (lw_at lw_m0 17 rfl) rfl
theorem q27 : (Jvm.Cond.laysFinal "ShadowPages" "ShadowPages" "object" "[I") ∈ lw_all := lw_g (lw_at lw_m0 18 rfl) rfl
theorem q28 : (Jvm.Cond.soleField "ShadowPages" "object") ∈ lw_all := lw_g (lw_at lw_m0 19 rfl) rfl
theorem q29 : (Jvm.Cond.laysFinal "ShadowPages" "ShadowPages" "parcelSize" "[I") ∈ lw_all := lw_g (lw_at lw_m0 20 rfl) rfl
theorem q30 : (Jvm.Cond.soleField "ShadowPages" "parcelSize") ∈ lw_all := lw_g (lw_at lw_m0 21 rfl) rfl
theorem q31 : (Jvm.Cond.laysFinal "ShadowPages" "ShadowPages" "taken" "[Z") ∈ lw_all := lw_g (lw_at lw_m0 22 rfl) rfl
theorem q32 : (Jvm.Cond.soleField "ShadowPages" "taken") ∈ lw_all := lw_g (lw_at lw_m0 23 rfl) rfl
theorem q33 : (Jvm.Cond.laysFinal "ShadowPages" "ShadowPages" "holds" "[I") ∈ lw_all := lw_g (lw_at lw_m0 24 rfl) rfl
theorem q34 : (Jvm.Cond.soleField "ShadowPages" "holds") ∈ lw_all := lw_g (lw_at lw_m0 25 rfl) rfl
theorem q35 : (Jvm.Cond.laysFinal "ShadowPages" "ShadowPages" "cells" "[I") ∈ lw_all := lw_g (lw_at lw_m0 26 rfl) rfl
theorem q36 : (Jvm.Cond.soleField "ShadowPages" "cells") ∈ lw_all := lw_g (lw_at lw_m0 27 rfl) rfl
theorem q37 : (Jvm.Cond.laysFinal "ShadowPages" "ShadowPages" "shadow" "[I") ∈ lw_all := lw_g (lw_at lw_m0 28 rfl) rfl
theorem q38 : (Jvm.Cond.soleField "ShadowPages" "shadow") ∈ lw_all := lw_g (lw_at lw_m0 29 rfl) rfl
theorem q39 : (Jvm.Cond.laysFinal "ShadowPages" "ShadowPages" "users" "[I") ∈ lw_all := lw_g (lw_at lw_m0 30 rfl) rfl
theorem q40 : (Jvm.Cond.soleField "ShadowPages" "users") ∈ lw_all := lw_g (lw_at lw_m0 31 rfl) rfl
theorem q41 : (Jvm.Cond.superclass "ShadowPages" "java/lang/Object") ∈ lw_all := lw_g (lw_at lw_m0 32 rfl) rfl
theorem q45 : (Jvm.Cond.instanceMethod ({ cls := "ShadowPages", name := "write", desc := "(IIII)I" } : Jvm.MethodName)) ∈ lw_all := lw_g (lw_at lw_m0 36 rfl) rfl
theorem q46 : (Jvm.Cond.selects "ShadowPages" ({ cls := "ShadowPages", name := "write", desc := "(IIII)I" } : Jvm.MethodName) ({ cls := "ShadowPages", name := "write", desc := "(IIII)I" } : Jvm.MethodName)) ∈ lw_all := lw_g (lw_at lw_m0 37 rfl) rfl
theorem q47 : (Jvm.Cond.code ({ cls := "ShadowPages", name := "write", desc := "(IIII)I" } : Jvm.MethodName) prog_1_method_2_code (8 : Nat) (Option.some Jvm.ClassFile.FieldType.int)) ∈ lw_all := lw_g (lw_at lw_m0 38 rfl) rfl
theorem q48 : (Jvm.Cond.methodLink "ShadowPages" (32 : Nat) ({ cls := "ShadowPages", name := "isPage", desc := "(II)Z" } : Jvm.MethodName)) ∈ lw_all := lw_g (lw_at lw_m0 39 rfl) rfl
theorem q49 : (Jvm.Cond.static ({ cls := "ShadowPages", name := "isPage", desc := "(II)Z" } : Jvm.MethodName)) ∈ lw_all := lw_g (lw_at lw_m0 40 rfl) rfl
theorem q50 : (Jvm.Cond.code ({ cls := "ShadowPages", name := "isPage", desc := "(II)Z" } : Jvm.MethodName) prog_1_method_12_code (2 : Nat) (Option.some Jvm.ClassFile.FieldType.boolean)) ∈ lw_all := lw_g (lw_at lw_m0 41 rfl) rfl
theorem q51 : (Jvm.Cond.methodLink "ShadowPages" (36 : Nat) ({ cls := "ShadowPages", name := "ownObject", desc := "(I)I" } : Jvm.MethodName)) ∈ lw_all := lw_g (lw_at lw_m0 42 rfl) rfl
theorem q52 : (Jvm.Cond.privateMethod ({ cls := "ShadowPages", name := "ownObject", desc := "(I)I" } : Jvm.MethodName)) ∈ lw_tbl := lw_at lw_m0 43 rfl
theorem q53 : (Jvm.Cond.instanceMethod ({ cls := "ShadowPages", name := "ownObject", desc := "(I)I" } : Jvm.MethodName)) ∈ lw_all := lw_g (lw_at lw_m0 44 rfl) rfl
theorem q54 : (Jvm.Cond.code ({ cls := "ShadowPages", name := "ownObject", desc := "(I)I" } : Jvm.MethodName) prog_1_method_17_code (4 : Nat) (Option.some Jvm.ClassFile.FieldType.int)) ∈ lw_all := lw_g (lw_at lw_m0 45 rfl) rfl
theorem q55 : (Jvm.Cond.methodLink "ShadowPages" (58 : Nat) ({ cls := "ShadowPages", name := "freeObject", desc := "()I" } : Jvm.MethodName)) ∈ lw_all := lw_g (lw_at lw_m0 46 rfl) rfl
theorem q56 : (Jvm.Cond.privateMethod ({ cls := "ShadowPages", name := "freeObject", desc := "()I" } : Jvm.MethodName)) ∈ lw_tbl := lw_at lw_m0 47 rfl
theorem q57 : (Jvm.Cond.instanceMethod ({ cls := "ShadowPages", name := "freeObject", desc := "()I" } : Jvm.MethodName)) ∈ lw_all := lw_g (lw_at lw_m0 48 rfl) rfl
theorem q58 : (Jvm.Cond.code ({ cls := "ShadowPages", name := "freeObject", desc := "()I" } : Jvm.MethodName) prog_1_method_18_code (2 : Nat) (Option.some Jvm.ClassFile.FieldType.int)) ∈ lw_all := lw_g (lw_at lw_m0 49 rfl) rfl
theorem q59 : (Jvm.Cond.methodLink "ShadowPages" (40 : Nat) ({ cls := "ShadowPages", name := "letGo", desc := "(I)V" } : Jvm.MethodName)) ∈ lw_all := lw_g (lw_at lw_m0 50 rfl) rfl
theorem q60 : (Jvm.Cond.privateMethod ({ cls := "ShadowPages", name := "letGo", desc := "(I)V" } : Jvm.MethodName)) ∈ lw_tbl := lw_at lw_m0 51 rfl
theorem q61 : (Jvm.Cond.instanceMethod ({ cls := "ShadowPages", name := "letGo", desc := "(I)V" } : Jvm.MethodName)) ∈ lw_all := lw_g (lw_at lw_m0 52 rfl) rfl
theorem q62 : (Jvm.Cond.code ({ cls := "ShadowPages", name := "letGo", desc := "(I)V" } : Jvm.MethodName) prog_1_method_16_code (4 : Nat) (Option.none : Option Jvm.ClassFile.FieldType)) ∈ lw_all := lw_g (lw_at lw_m0 53 rfl) rfl
theorem q63 : (Jvm.Cond.methodLink "ShadowPages" (44 : Nat) ({ cls := "ShadowPages", name := "foldAll", desc := "()V" } : Jvm.MethodName)) ∈ lw_all := lw_g (lw_at lw_m0 54 rfl) rfl
theorem q64 : (Jvm.Cond.privateMethod ({ cls := "ShadowPages", name := "foldAll", desc := "()V" } : Jvm.MethodName)) ∈ lw_tbl := lw_at lw_m0 55 rfl
theorem q65 : (Jvm.Cond.instanceMethod ({ cls := "ShadowPages", name := "foldAll", desc := "()V" } : Jvm.MethodName)) ∈ lw_all := lw_g (lw_at lw_m0 56 rfl) rfl
theorem q66 : (Jvm.Cond.code ({ cls := "ShadowPages", name := "foldAll", desc := "()V" } : Jvm.MethodName) prog_1_method_19_code (4 : Nat) (Option.none : Option Jvm.ClassFile.FieldType)) ∈ lw_all := lw_g (lw_at lw_m0 57 rfl) rfl
theorem q67 : (Jvm.Cond.methodLink "ShadowPages" (62 : Nat) ({ cls := "ShadowPages", name := "fold", desc := "(I)V" } : Jvm.MethodName)) ∈ lw_all := lw_g (lw_at lw_m0 58 rfl) rfl
theorem q68 : (Jvm.Cond.privateMethod ({ cls := "ShadowPages", name := "fold", desc := "(I)V" } : Jvm.MethodName)) ∈ lw_tbl := lw_at lw_m0 59 rfl
theorem q69 : (Jvm.Cond.instanceMethod ({ cls := "ShadowPages", name := "fold", desc := "(I)V" } : Jvm.MethodName)) ∈ lw_all := lw_g (lw_at lw_m0 60 rfl) rfl
theorem q70 : (Jvm.Cond.code ({ cls := "ShadowPages", name := "fold", desc := "(I)V" } : Jvm.MethodName) prog_1_method_20_code (5 : Nat) (Option.none : Option Jvm.ClassFile.FieldType)) ∈ lw_all := lw_g (lw_at lw_m0 61 rfl) rfl
theorem q72 : (Jvm.Cond.instanceMethod ({ cls := "ShadowPages", name := "read", desc := "(III)I" } : Jvm.MethodName)) ∈ lw_all := lw_g (lw_at lw_m0 63 rfl) rfl
theorem q73 : (Jvm.Cond.selects "ShadowPages" ({ cls := "ShadowPages", name := "read", desc := "(III)I" } : Jvm.MethodName) ({ cls := "ShadowPages", name := "read", desc := "(III)I" } : Jvm.MethodName)) ∈ lw_all := lw_g (lw_at lw_m0 64 rfl) rfl
theorem q74 : (Jvm.Cond.code ({ cls := "ShadowPages", name := "read", desc := "(III)I" } : Jvm.MethodName) prog_1_method_3_code (4 : Nat) (Option.some Jvm.ClassFile.FieldType.int)) ∈ lw_all := lw_g (lw_at lw_m0 65 rfl) rfl
theorem q75 : (Jvm.Cond.methodLink "ShadowPages" (47 : Nat) ({ cls := "ShadowPages", name := "cellOf", desc := "(II)I" } : Jvm.MethodName)) ∈ lw_all := lw_g (lw_at lw_m0 66 rfl) rfl
theorem q76 : (Jvm.Cond.privateMethod ({ cls := "ShadowPages", name := "cellOf", desc := "(II)I" } : Jvm.MethodName)) ∈ lw_tbl := lw_at lw_m0 67 rfl
theorem q77 : (Jvm.Cond.instanceMethod ({ cls := "ShadowPages", name := "cellOf", desc := "(II)I" } : Jvm.MethodName)) ∈ lw_all := lw_g (lw_at lw_m0 68 rfl) rfl
theorem q78 : (Jvm.Cond.code ({ cls := "ShadowPages", name := "cellOf", desc := "(II)I" } : Jvm.MethodName) prog_1_method_13_code (5 : Nat) (Option.some Jvm.ClassFile.FieldType.int)) ∈ lw_all := lw_g (lw_at lw_m0 69 rfl) rfl
theorem q80 : (Jvm.Cond.instanceMethod ({ cls := "ShadowPages", name := "fork", desc := "(II)I" } : Jvm.MethodName)) ∈ lw_all := lw_g (lw_at lw_m0 71 rfl) rfl
theorem q81 : (Jvm.Cond.selects "ShadowPages" ({ cls := "ShadowPages", name := "fork", desc := "(II)I" } : Jvm.MethodName) ({ cls := "ShadowPages", name := "fork", desc := "(II)I" } : Jvm.MethodName)) ∈ lw_all := lw_g (lw_at lw_m0 72 rfl) rfl
theorem q82 : (Jvm.Cond.code ({ cls := "ShadowPages", name := "fork", desc := "(II)I" } : Jvm.MethodName) prog_1_method_4_code (4 : Nat) (Option.some Jvm.ClassFile.FieldType.int)) ∈ lw_all := lw_g (lw_at lw_m0 73 rfl) rfl
theorem q83 : (Jvm.Cond.methodLink "ShadowPages" (51 : Nat) ({ cls := "ShadowPages", name := "lead", desc := "(II)V" } : Jvm.MethodName)) ∈ lw_all := lw_g (lw_at lw_m0 74 rfl) rfl
theorem q84 : (Jvm.Cond.privateMethod ({ cls := "ShadowPages", name := "lead", desc := "(II)V" } : Jvm.MethodName)) ∈ lw_tbl := lw_at lw_m0 75 rfl
theorem q85 : (Jvm.Cond.instanceMethod ({ cls := "ShadowPages", name := "lead", desc := "(II)V" } : Jvm.MethodName)) ∈ lw_all := lw_g (lw_at lw_m0 76 rfl) rfl
theorem q86 : (Jvm.Cond.code ({ cls := "ShadowPages", name := "lead", desc := "(II)V" } : Jvm.MethodName) prog_1_method_15_code (4 : Nat) (Option.none : Option Jvm.ClassFile.FieldType)) ∈ lw_all := lw_g (lw_at lw_m0 77 rfl) rfl
theorem q88 : (Jvm.Cond.instanceMethod ({ cls := "ShadowPages", name := "pack", desc := "(IIII)I" } : Jvm.MethodName)) ∈ lw_all := lw_g (lw_at lw_m0 79 rfl) rfl
theorem q89 : (Jvm.Cond.selects "ShadowPages" ({ cls := "ShadowPages", name := "pack", desc := "(IIII)I" } : Jvm.MethodName) ({ cls := "ShadowPages", name := "pack", desc := "(IIII)I" } : Jvm.MethodName)) ∈ lw_all := lw_g (lw_at lw_m0 80 rfl) rfl
theorem q90 : (Jvm.Cond.code ({ cls := "ShadowPages", name := "pack", desc := "(IIII)I" } : Jvm.MethodName) prog_1_method_5_code (7 : Nat) (Option.some Jvm.ClassFile.FieldType.int)) ∈ lw_all := lw_g (lw_at lw_m0 81 rfl) rfl
theorem q92 : (Jvm.Cond.instanceMethod ({ cls := "ShadowPages", name := "unpack", desc := "(IIIZ)I" } : Jvm.MethodName)) ∈ lw_all := lw_g (lw_at lw_m0 83 rfl) rfl
theorem q93 : (Jvm.Cond.selects "ShadowPages" ({ cls := "ShadowPages", name := "unpack", desc := "(IIIZ)I" } : Jvm.MethodName) ({ cls := "ShadowPages", name := "unpack", desc := "(IIIZ)I" } : Jvm.MethodName)) ∈ lw_all := lw_g (lw_at lw_m0 84 rfl) rfl
theorem q94 : (Jvm.Cond.code ({ cls := "ShadowPages", name := "unpack", desc := "(IIIZ)I" } : Jvm.MethodName) prog_1_method_6_code (7 : Nat) (Option.some Jvm.ClassFile.FieldType.int)) ∈ lw_all := lw_g (lw_at lw_m0 85 rfl) rfl
theorem q96 : (Jvm.Cond.instanceMethod ({ cls := "ShadowPages", name := "exchange", desc := "(III)I" } : Jvm.MethodName)) ∈ lw_all := lw_g (lw_at lw_m0 87 rfl) rfl
theorem q97 : (Jvm.Cond.selects "ShadowPages" ({ cls := "ShadowPages", name := "exchange", desc := "(III)I" } : Jvm.MethodName) ({ cls := "ShadowPages", name := "exchange", desc := "(III)I" } : Jvm.MethodName)) ∈ lw_all := lw_g (lw_at lw_m0 88 rfl) rfl
theorem q98 : (Jvm.Cond.code ({ cls := "ShadowPages", name := "exchange", desc := "(III)I" } : Jvm.MethodName) prog_1_method_7_code (5 : Nat) (Option.some Jvm.ClassFile.FieldType.int)) ∈ lw_all := lw_g (lw_at lw_m0 89 rfl) rfl
theorem q100 : (Jvm.Cond.instanceMethod ({ cls := "ShadowPages", name := "clear", desc := "(II)I" } : Jvm.MethodName)) ∈ lw_all := lw_g (lw_at lw_m0 91 rfl) rfl
theorem q101 : (Jvm.Cond.selects "ShadowPages" ({ cls := "ShadowPages", name := "clear", desc := "(II)I" } : Jvm.MethodName) ({ cls := "ShadowPages", name := "clear", desc := "(II)I" } : Jvm.MethodName)) ∈ lw_all := lw_g (lw_at lw_m0 92 rfl) rfl
theorem q102 : (Jvm.Cond.code ({ cls := "ShadowPages", name := "clear", desc := "(II)I" } : Jvm.MethodName) prog_1_method_8_code (3 : Nat) (Option.some Jvm.ClassFile.FieldType.int)) ∈ lw_all := lw_g (lw_at lw_m0 93 rfl) rfl
theorem q104 : (Jvm.Cond.instanceMethod ({ cls := "ShadowPages", name := "size", desc := "(I)I" } : Jvm.MethodName)) ∈ lw_all := lw_g (lw_at lw_m0 95 rfl) rfl
theorem q105 : (Jvm.Cond.selects "ShadowPages" ({ cls := "ShadowPages", name := "size", desc := "(I)I" } : Jvm.MethodName) ({ cls := "ShadowPages", name := "size", desc := "(I)I" } : Jvm.MethodName)) ∈ lw_all := lw_g (lw_at lw_m0 96 rfl) rfl
theorem q106 : (Jvm.Cond.code ({ cls := "ShadowPages", name := "size", desc := "(I)I" } : Jvm.MethodName) prog_1_method_9_code (2 : Nat) (Option.some Jvm.ClassFile.FieldType.int)) ∈ lw_all := lw_g (lw_at lw_m0 97 rfl) rfl
theorem q108 : (Jvm.Cond.instanceMethod ({ cls := "ShadowPages", name := "peek", desc := "(III)I" } : Jvm.MethodName)) ∈ lw_all := lw_g (lw_at lw_m0 99 rfl) rfl
theorem q109 : (Jvm.Cond.selects "ShadowPages" ({ cls := "ShadowPages", name := "peek", desc := "(III)I" } : Jvm.MethodName) ({ cls := "ShadowPages", name := "peek", desc := "(III)I" } : Jvm.MethodName)) ∈ lw_all := lw_g (lw_at lw_m0 100 rfl) rfl
theorem q110 : (Jvm.Cond.code ({ cls := "ShadowPages", name := "peek", desc := "(III)I" } : Jvm.MethodName) prog_1_method_10_code (4 : Nat) (Option.some Jvm.ClassFile.FieldType.int)) ∈ lw_all := lw_g (lw_at lw_m0 101 rfl) rfl
theorem q112 : (Jvm.Cond.instanceMethod ({ cls := "ShadowPages", name := "alike", desc := "(II)I" } : Jvm.MethodName)) ∈ lw_all := lw_g (lw_at lw_m0 103 rfl) rfl
theorem q113 : (Jvm.Cond.selects "ShadowPages" ({ cls := "ShadowPages", name := "alike", desc := "(II)I" } : Jvm.MethodName) ({ cls := "ShadowPages", name := "alike", desc := "(II)I" } : Jvm.MethodName)) ∈ lw_all := lw_g (lw_at lw_m0 104 rfl) rfl
theorem q114 : (Jvm.Cond.code ({ cls := "ShadowPages", name := "alike", desc := "(II)I" } : Jvm.MethodName) prog_1_method_11_code (5 : Nat) (Option.some Jvm.ClassFile.FieldType.int)) ∈ lw_all := lw_g (lw_at lw_m0 105 rfl) rfl
theorem q115 : (Jvm.Cond.methodLink "ShadowPages" (55 : Nat) ({ cls := "ShadowPages", name := "samePage", desc := "(II)Z" } : Jvm.MethodName)) ∈ lw_all := lw_g (lw_at lw_m0 106 rfl) rfl
theorem q116 : (Jvm.Cond.privateMethod ({ cls := "ShadowPages", name := "samePage", desc := "(II)Z" } : Jvm.MethodName)) ∈ lw_tbl := lw_at lw_m0 107 rfl
theorem q117 : (Jvm.Cond.instanceMethod ({ cls := "ShadowPages", name := "samePage", desc := "(II)Z" } : Jvm.MethodName)) ∈ lw_all := lw_g (lw_at lw_m0 108 rfl) rfl
theorem q118 : (Jvm.Cond.code ({ cls := "ShadowPages", name := "samePage", desc := "(II)Z" } : Jvm.MethodName) prog_1_method_14_code (4 : Nat) (Option.some Jvm.ClassFile.FieldType.boolean)) ∈ lw_all := lw_g (lw_at lw_m0 109 rfl) rfl
theorem in_X0 : ∀ w ∈ wsX00, w ∈ lw_all := lw_in wsX00 [27, 29, 31, 33, 35, 37, 39] (by decide +kernel) (by decide +kernel)
end
section
/-! ShadowPagesModel -/
set_option maxRecDepth 100000
def RX1 : String := "ShadowPagesModel"
def TX1 : u_T := fun k => match k with
  | 0 => ("ShadowPagesModel", "cells", "[I", true)
  | _ => ("ShadowPagesModel", "sizes", "[I", true)
def tyX1 : Nat → FieldType := fun k => match k with
  | 0 => .array .int
  | _ => .array .int
abbrev wsX10 : List Cond := u_ws RX1 TX1 2
theorem nmX1 : ∀ a, a < 2 → ∀ b, b < 2 → a ≠ b → (TX1 a).2.1 ≠ (TX1 b).2.1 := by decide +kernel
theorem tyX1_ok : ∀ k, k < 2 → parseFieldDescriptor (TX1 k).2.2.1 = some (tyX1 k) := by decide +kernel
abbrev cX1_init : ByteArray := prog_3_method_1_code
def yX1_init : MethodName := ⟨RX1, "<init>", "()V"⟩
theorem dX1_init_0 : decode cX1_init 0 = .ok (.aload_n 0, 1) := by decide +kernel
theorem dX1_init_1 : decode cX1_init 1 = .ok (.invokespecial 1, 3) := by decide +kernel
theorem dX1_init_4 : decode cX1_init 4 = .ok (.aload_n 0, 1) := by decide +kernel
theorem dX1_init_5 : decode cX1_init 5 = .ok (.sipush 260, 3) := by decide +kernel
theorem dX1_init_8 : decode cX1_init 8 = .ok (.newarray .int, 2) := by decide +kernel
theorem dX1_init_10 : decode cX1_init 10 = .ok (.putfield 7, 3) := by decide +kernel
theorem dX1_init_13 : decode cX1_init 13 = .ok (.aload_n 0, 1) := by decide +kernel
theorem dX1_init_14 : decode cX1_init 14 = .ok (.iconst 4, 1) := by decide +kernel
theorem dX1_init_15 : decode cX1_init 15 = .ok (.newarray .int, 2) := by decide +kernel
theorem dX1_init_17 : decode cX1_init 17 = .ok (.putfield 13, 3) := by decide +kernel
theorem dX1_init_20 : decode cX1_init 20 = .ok (.return_, 1) := by decide +kernel
abbrev cX1_write : ByteArray := prog_3_method_5_code
def yX1_write : MethodName := ⟨RX1, "write", "(IIII)I"⟩
theorem dX1_write_0 : decode cX1_write 0 = .ok (.iload_n 1, 1) := by decide +kernel
theorem dX1_write_1 : decode cX1_write 1 = .ok (.iload_n 2, 1) := by decide +kernel
theorem dX1_write_2 : decode cX1_write 2 = .ok (.invokestatic 20, 3) := by decide +kernel
theorem dX1_write_5 : decode cX1_write 5 = .ok (.ifCond .ne 11, 3) := by decide +kernel
theorem dX1_write_8 : decode cX1_write 8 = .ok (.iload_n 3, 1) := by decide +kernel
theorem dX1_write_9 : decode cX1_write 9 = .ok (.iconst 3, 1) := by decide +kernel
theorem dX1_write_10 : decode cX1_write 10 = .ok (.invokestatic 16, 3) := by decide +kernel
theorem dX1_write_13 : decode cX1_write 13 = .ok (.ifCond .eq 5, 3) := by decide +kernel
theorem dX1_write_16 : decode cX1_write 16 = .ok (.iconst (-1), 1) := by decide +kernel
theorem dX1_write_17 : decode cX1_write 17 = .ok (.ireturn, 1) := by decide +kernel
theorem dX1_write_18 : decode cX1_write 18 = .ok (.aload_n 0, 1) := by decide +kernel
theorem dX1_write_19 : decode cX1_write 19 = .ok (.getfield 7, 3) := by decide +kernel
theorem dX1_write_22 : decode cX1_write 22 = .ok (.bipush 32, 2) := by decide +kernel
theorem dX1_write_24 : decode cX1_write 24 = .ok (.iload_n 1, 1) := by decide +kernel
theorem dX1_write_25 : decode cX1_write 25 = .ok (.imul, 1) := by decide +kernel
theorem dX1_write_26 : decode cX1_write 26 = .ok (.iconst 4, 1) := by decide +kernel
theorem dX1_write_27 : decode cX1_write 27 = .ok (.iload_n 2, 1) := by decide +kernel
theorem dX1_write_28 : decode cX1_write 28 = .ok (.imul, 1) := by decide +kernel
theorem dX1_write_29 : decode cX1_write 29 = .ok (.iadd, 1) := by decide +kernel
theorem dX1_write_30 : decode cX1_write 30 = .ok (.iload_n 3, 1) := by decide +kernel
theorem dX1_write_31 : decode cX1_write 31 = .ok (.iadd, 1) := by decide +kernel
theorem dX1_write_32 : decode cX1_write 32 = .ok (.iload 4, 2) := by decide +kernel
theorem dX1_write_34 : decode cX1_write 34 = .ok (.iastore, 1) := by decide +kernel
theorem dX1_write_35 : decode cX1_write 35 = .ok (.iconst 0, 1) := by decide +kernel
theorem dX1_write_36 : decode cX1_write 36 = .ok (.ireturn, 1) := by decide +kernel
abbrev cX1_bad : ByteArray := prog_3_method_3_code
def yX1_bad : MethodName := ⟨RX1, "bad", "(II)Z"⟩
theorem dX1_bad_0 : decode cX1_bad 0 = .ok (.iload_n 0, 1) := by decide +kernel
theorem dX1_bad_1 : decode cX1_bad 1 = .ok (.iconst 3, 1) := by decide +kernel
theorem dX1_bad_2 : decode cX1_bad 2 = .ok (.invokestatic 16, 3) := by decide +kernel
theorem dX1_bad_5 : decode cX1_bad 5 = .ok (.ifCond .ne 12, 3) := by decide +kernel
theorem dX1_bad_8 : decode cX1_bad 8 = .ok (.iload_n 1, 1) := by decide +kernel
theorem dX1_bad_9 : decode cX1_bad 9 = .ok (.bipush 7, 2) := by decide +kernel
theorem dX1_bad_11 : decode cX1_bad 11 = .ok (.invokestatic 16, 3) := by decide +kernel
theorem dX1_bad_14 : decode cX1_bad 14 = .ok (.ifCond .eq 7, 3) := by decide +kernel
theorem dX1_bad_17 : decode cX1_bad 17 = .ok (.iconst 1, 1) := by decide +kernel
theorem dX1_bad_18 : decode cX1_bad 18 = .ok (.goto 4, 3) := by decide +kernel
theorem dX1_bad_21 : decode cX1_bad 21 = .ok (.iconst 0, 1) := by decide +kernel
theorem dX1_bad_22 : decode cX1_bad 22 = .ok (.ireturn, 1) := by decide +kernel
abbrev cX1_outside : ByteArray := prog_3_method_2_code
def yX1_outside : MethodName := ⟨RX1, "outside", "(II)Z"⟩
theorem dX1_outside_0 : decode cX1_outside 0 = .ok (.iload_n 0, 1) := by decide +kernel
theorem dX1_outside_1 : decode cX1_outside 1 = .ok (.ifCond .lt 8, 3) := by decide +kernel
theorem dX1_outside_4 : decode cX1_outside 4 = .ok (.iload_n 0, 1) := by decide +kernel
theorem dX1_outside_5 : decode cX1_outside 5 = .ok (.iload_n 1, 1) := by decide +kernel
theorem dX1_outside_6 : decode cX1_outside 6 = .ok (.if_icmp .le 7, 3) := by decide +kernel
theorem dX1_outside_9 : decode cX1_outside 9 = .ok (.iconst 1, 1) := by decide +kernel
theorem dX1_outside_10 : decode cX1_outside 10 = .ok (.goto 4, 3) := by decide +kernel
theorem dX1_outside_13 : decode cX1_outside 13 = .ok (.iconst 0, 1) := by decide +kernel
theorem dX1_outside_14 : decode cX1_outside 14 = .ok (.ireturn, 1) := by decide +kernel
abbrev cX1_read : ByteArray := prog_3_method_6_code
def yX1_read : MethodName := ⟨RX1, "read", "(III)I"⟩
theorem dX1_read_0 : decode cX1_read 0 = .ok (.iload_n 1, 1) := by decide +kernel
theorem dX1_read_1 : decode cX1_read 1 = .ok (.iload_n 2, 1) := by decide +kernel
theorem dX1_read_2 : decode cX1_read 2 = .ok (.invokestatic 20, 3) := by decide +kernel
theorem dX1_read_5 : decode cX1_read 5 = .ok (.ifCond .ne 11, 3) := by decide +kernel
theorem dX1_read_8 : decode cX1_read 8 = .ok (.iload_n 3, 1) := by decide +kernel
theorem dX1_read_9 : decode cX1_read 9 = .ok (.iconst 3, 1) := by decide +kernel
theorem dX1_read_10 : decode cX1_read 10 = .ok (.invokestatic 16, 3) := by decide +kernel
theorem dX1_read_13 : decode cX1_read 13 = .ok (.ifCond .eq 5, 3) := by decide +kernel
theorem dX1_read_16 : decode cX1_read 16 = .ok (.iconst 0, 1) := by decide +kernel
theorem dX1_read_17 : decode cX1_read 17 = .ok (.ireturn, 1) := by decide +kernel
theorem dX1_read_18 : decode cX1_read 18 = .ok (.aload_n 0, 1) := by decide +kernel
theorem dX1_read_19 : decode cX1_read 19 = .ok (.getfield 7, 3) := by decide +kernel
theorem dX1_read_22 : decode cX1_read 22 = .ok (.bipush 32, 2) := by decide +kernel
theorem dX1_read_24 : decode cX1_read 24 = .ok (.iload_n 1, 1) := by decide +kernel
theorem dX1_read_25 : decode cX1_read 25 = .ok (.imul, 1) := by decide +kernel
theorem dX1_read_26 : decode cX1_read 26 = .ok (.iconst 4, 1) := by decide +kernel
theorem dX1_read_27 : decode cX1_read 27 = .ok (.iload_n 2, 1) := by decide +kernel
theorem dX1_read_28 : decode cX1_read 28 = .ok (.imul, 1) := by decide +kernel
theorem dX1_read_29 : decode cX1_read 29 = .ok (.iadd, 1) := by decide +kernel
theorem dX1_read_30 : decode cX1_read 30 = .ok (.iload_n 3, 1) := by decide +kernel
theorem dX1_read_31 : decode cX1_read 31 = .ok (.iadd, 1) := by decide +kernel
theorem dX1_read_32 : decode cX1_read 32 = .ok (.iaload, 1) := by decide +kernel
theorem dX1_read_33 : decode cX1_read 33 = .ok (.ireturn, 1) := by decide +kernel
abbrev cX1_fork : ByteArray := prog_3_method_7_code
def yX1_fork : MethodName := ⟨RX1, "fork", "(II)I"⟩
theorem dX1_fork_0 : decode cX1_fork 0 = .ok (.iload_n 1, 1) := by decide +kernel
theorem dX1_fork_1 : decode cX1_fork 1 = .ok (.iconst 3, 1) := by decide +kernel
theorem dX1_fork_2 : decode cX1_fork 2 = .ok (.invokestatic 16, 3) := by decide +kernel
theorem dX1_fork_5 : decode cX1_fork 5 = .ok (.ifCond .ne 11, 3) := by decide +kernel
theorem dX1_fork_8 : decode cX1_fork 8 = .ok (.iload_n 2, 1) := by decide +kernel
theorem dX1_fork_9 : decode cX1_fork 9 = .ok (.iconst 3, 1) := by decide +kernel
theorem dX1_fork_10 : decode cX1_fork 10 = .ok (.invokestatic 16, 3) := by decide +kernel
theorem dX1_fork_13 : decode cX1_fork 13 = .ok (.ifCond .eq 5, 3) := by decide +kernel
theorem dX1_fork_16 : decode cX1_fork 16 = .ok (.iconst (-1), 1) := by decide +kernel
theorem dX1_fork_17 : decode cX1_fork 17 = .ok (.ireturn, 1) := by decide +kernel
theorem dX1_fork_18 : decode cX1_fork 18 = .ok (.iconst 0, 1) := by decide +kernel
theorem dX1_fork_19 : decode cX1_fork 19 = .ok (.istore_n 3, 1) := by decide +kernel
theorem dX1_fork_20 : decode cX1_fork 20 = .ok (.iload_n 3, 1) := by decide +kernel
theorem dX1_fork_21 : decode cX1_fork 21 = .ok (.bipush 8, 2) := by decide +kernel
theorem dX1_fork_23 : decode cX1_fork 23 = .ok (.if_icmp .ge 29, 3) := by decide +kernel
theorem dX1_fork_26 : decode cX1_fork 26 = .ok (.aload_n 0, 1) := by decide +kernel
theorem dX1_fork_27 : decode cX1_fork 27 = .ok (.bipush 32, 2) := by decide +kernel
theorem dX1_fork_29 : decode cX1_fork 29 = .ok (.iload_n 2, 1) := by decide +kernel
theorem dX1_fork_30 : decode cX1_fork 30 = .ok (.imul, 1) := by decide +kernel
theorem dX1_fork_31 : decode cX1_fork 31 = .ok (.iconst 4, 1) := by decide +kernel
theorem dX1_fork_32 : decode cX1_fork 32 = .ok (.iload_n 3, 1) := by decide +kernel
theorem dX1_fork_33 : decode cX1_fork 33 = .ok (.imul, 1) := by decide +kernel
theorem dX1_fork_34 : decode cX1_fork 34 = .ok (.iadd, 1) := by decide +kernel
theorem dX1_fork_35 : decode cX1_fork 35 = .ok (.bipush 32, 2) := by decide +kernel
theorem dX1_fork_37 : decode cX1_fork 37 = .ok (.iload_n 1, 1) := by decide +kernel
theorem dX1_fork_38 : decode cX1_fork 38 = .ok (.imul, 1) := by decide +kernel
theorem dX1_fork_39 : decode cX1_fork 39 = .ok (.iconst 4, 1) := by decide +kernel
theorem dX1_fork_40 : decode cX1_fork 40 = .ok (.iload_n 3, 1) := by decide +kernel
theorem dX1_fork_41 : decode cX1_fork 41 = .ok (.imul, 1) := by decide +kernel
theorem dX1_fork_42 : decode cX1_fork 42 = .ok (.iadd, 1) := by decide +kernel
theorem dX1_fork_43 : decode cX1_fork 43 = .ok (.invokevirtual 23, 3) := by decide +kernel
theorem dX1_fork_46 : decode cX1_fork 46 = .ok (.iinc 3 1, 3) := by decide +kernel
theorem dX1_fork_49 : decode cX1_fork 49 = .ok (.goto (-29), 3) := by decide +kernel
theorem dX1_fork_52 : decode cX1_fork 52 = .ok (.iconst 0, 1) := by decide +kernel
theorem dX1_fork_53 : decode cX1_fork 53 = .ok (.ireturn, 1) := by decide +kernel
abbrev cX1_copyPage : ByteArray := prog_3_method_4_code
def yX1_copyPage : MethodName := ⟨RX1, "copyPage", "(II)V"⟩
theorem dX1_copyPage_0 : decode cX1_copyPage 0 = .ok (.iconst 0, 1) := by decide +kernel
theorem dX1_copyPage_1 : decode cX1_copyPage 1 = .ok (.istore_n 3, 1) := by decide +kernel
theorem dX1_copyPage_2 : decode cX1_copyPage 2 = .ok (.iload_n 3, 1) := by decide +kernel
theorem dX1_copyPage_3 : decode cX1_copyPage 3 = .ok (.iconst 4, 1) := by decide +kernel
theorem dX1_copyPage_4 : decode cX1_copyPage 4 = .ok (.if_icmp .ge 25, 3) := by decide +kernel
theorem dX1_copyPage_7 : decode cX1_copyPage 7 = .ok (.aload_n 0, 1) := by decide +kernel
theorem dX1_copyPage_8 : decode cX1_copyPage 8 = .ok (.getfield 7, 3) := by decide +kernel
theorem dX1_copyPage_11 : decode cX1_copyPage 11 = .ok (.iload_n 1, 1) := by decide +kernel
theorem dX1_copyPage_12 : decode cX1_copyPage 12 = .ok (.iload_n 3, 1) := by decide +kernel
theorem dX1_copyPage_13 : decode cX1_copyPage 13 = .ok (.iadd, 1) := by decide +kernel
theorem dX1_copyPage_14 : decode cX1_copyPage 14 = .ok (.aload_n 0, 1) := by decide +kernel
theorem dX1_copyPage_15 : decode cX1_copyPage 15 = .ok (.getfield 7, 3) := by decide +kernel
theorem dX1_copyPage_18 : decode cX1_copyPage 18 = .ok (.iload_n 2, 1) := by decide +kernel
theorem dX1_copyPage_19 : decode cX1_copyPage 19 = .ok (.iload_n 3, 1) := by decide +kernel
theorem dX1_copyPage_20 : decode cX1_copyPage 20 = .ok (.iadd, 1) := by decide +kernel
theorem dX1_copyPage_21 : decode cX1_copyPage 21 = .ok (.iaload, 1) := by decide +kernel
theorem dX1_copyPage_22 : decode cX1_copyPage 22 = .ok (.iastore, 1) := by decide +kernel
theorem dX1_copyPage_23 : decode cX1_copyPage 23 = .ok (.iinc 3 1, 3) := by decide +kernel
theorem dX1_copyPage_26 : decode cX1_copyPage 26 = .ok (.goto (-24), 3) := by decide +kernel
theorem dX1_copyPage_29 : decode cX1_copyPage 29 = .ok (.return_, 1) := by decide +kernel
abbrev cX1_pack : ByteArray := prog_3_method_8_code
def yX1_pack : MethodName := ⟨RX1, "pack", "(IIII)I"⟩
theorem dX1_pack_0 : decode cX1_pack 0 = .ok (.iload_n 1, 1) := by decide +kernel
theorem dX1_pack_1 : decode cX1_pack 1 = .ok (.iconst 3, 1) := by decide +kernel
theorem dX1_pack_2 : decode cX1_pack 2 = .ok (.invokestatic 16, 3) := by decide +kernel
theorem dX1_pack_5 : decode cX1_pack 5 = .ok (.ifCond .ne 33, 3) := by decide +kernel
theorem dX1_pack_8 : decode cX1_pack 8 = .ok (.iload_n 2, 1) := by decide +kernel
theorem dX1_pack_9 : decode cX1_pack 9 = .ok (.iload_n 3, 1) := by decide +kernel
theorem dX1_pack_10 : decode cX1_pack 10 = .ok (.invokestatic 20, 3) := by decide +kernel
theorem dX1_pack_13 : decode cX1_pack 13 = .ok (.ifCond .ne 25, 3) := by decide +kernel
theorem dX1_pack_16 : decode cX1_pack 16 = .ok (.iload 4, 2) := by decide +kernel
theorem dX1_pack_18 : decode cX1_pack 18 = .ok (.iconst 1, 1) := by decide +kernel
theorem dX1_pack_19 : decode cX1_pack 19 = .ok (.if_icmp .lt 19, 3) := by decide +kernel
theorem dX1_pack_22 : decode cX1_pack 22 = .ok (.iload 4, 2) := by decide +kernel
theorem dX1_pack_24 : decode cX1_pack 24 = .ok (.bipush 8, 2) := by decide +kernel
theorem dX1_pack_26 : decode cX1_pack 26 = .ok (.if_icmp .gt 12, 3) := by decide +kernel
theorem dX1_pack_29 : decode cX1_pack 29 = .ok (.iload_n 3, 1) := by decide +kernel
theorem dX1_pack_30 : decode cX1_pack 30 = .ok (.iload 4, 2) := by decide +kernel
theorem dX1_pack_32 : decode cX1_pack 32 = .ok (.iadd, 1) := by decide +kernel
theorem dX1_pack_33 : decode cX1_pack 33 = .ok (.bipush 8, 2) := by decide +kernel
theorem dX1_pack_35 : decode cX1_pack 35 = .ok (.if_icmp .le 5, 3) := by decide +kernel
theorem dX1_pack_38 : decode cX1_pack 38 = .ok (.iconst (-1), 1) := by decide +kernel
theorem dX1_pack_39 : decode cX1_pack 39 = .ok (.ireturn, 1) := by decide +kernel
theorem dX1_pack_40 : decode cX1_pack 40 = .ok (.iconst 0, 1) := by decide +kernel
theorem dX1_pack_41 : decode cX1_pack 41 = .ok (.istore 5, 2) := by decide +kernel
theorem dX1_pack_43 : decode cX1_pack 43 = .ok (.iload 5, 2) := by decide +kernel
theorem dX1_pack_45 : decode cX1_pack 45 = .ok (.iload 4, 2) := by decide +kernel
theorem dX1_pack_47 : decode cX1_pack 47 = .ok (.if_icmp .ge 37, 3) := by decide +kernel
theorem dX1_pack_50 : decode cX1_pack 50 = .ok (.aload_n 0, 1) := by decide +kernel
theorem dX1_pack_51 : decode cX1_pack 51 = .ok (.sipush 128, 3) := by decide +kernel
theorem dX1_pack_54 : decode cX1_pack 54 = .ok (.bipush 32, 2) := by decide +kernel
theorem dX1_pack_56 : decode cX1_pack 56 = .ok (.iload_n 1, 1) := by decide +kernel
theorem dX1_pack_57 : decode cX1_pack 57 = .ok (.imul, 1) := by decide +kernel
theorem dX1_pack_58 : decode cX1_pack 58 = .ok (.iadd, 1) := by decide +kernel
theorem dX1_pack_59 : decode cX1_pack 59 = .ok (.iconst 4, 1) := by decide +kernel
theorem dX1_pack_60 : decode cX1_pack 60 = .ok (.iload 5, 2) := by decide +kernel
theorem dX1_pack_62 : decode cX1_pack 62 = .ok (.imul, 1) := by decide +kernel
theorem dX1_pack_63 : decode cX1_pack 63 = .ok (.iadd, 1) := by decide +kernel
theorem dX1_pack_64 : decode cX1_pack 64 = .ok (.bipush 32, 2) := by decide +kernel
theorem dX1_pack_66 : decode cX1_pack 66 = .ok (.iload_n 2, 1) := by decide +kernel
theorem dX1_pack_67 : decode cX1_pack 67 = .ok (.imul, 1) := by decide +kernel
theorem dX1_pack_68 : decode cX1_pack 68 = .ok (.iconst 4, 1) := by decide +kernel
theorem dX1_pack_69 : decode cX1_pack 69 = .ok (.iload_n 3, 1) := by decide +kernel
theorem dX1_pack_70 : decode cX1_pack 70 = .ok (.iload 5, 2) := by decide +kernel
theorem dX1_pack_72 : decode cX1_pack 72 = .ok (.iadd, 1) := by decide +kernel
theorem dX1_pack_73 : decode cX1_pack 73 = .ok (.imul, 1) := by decide +kernel
theorem dX1_pack_74 : decode cX1_pack 74 = .ok (.iadd, 1) := by decide +kernel
theorem dX1_pack_75 : decode cX1_pack 75 = .ok (.invokevirtual 23, 3) := by decide +kernel
theorem dX1_pack_78 : decode cX1_pack 78 = .ok (.iinc 5 1, 3) := by decide +kernel
theorem dX1_pack_81 : decode cX1_pack 81 = .ok (.goto (-38), 3) := by decide +kernel
theorem dX1_pack_84 : decode cX1_pack 84 = .ok (.aload_n 0, 1) := by decide +kernel
theorem dX1_pack_85 : decode cX1_pack 85 = .ok (.getfield 13, 3) := by decide +kernel
theorem dX1_pack_88 : decode cX1_pack 88 = .ok (.iload_n 1, 1) := by decide +kernel
theorem dX1_pack_89 : decode cX1_pack 89 = .ok (.iload 4, 2) := by decide +kernel
theorem dX1_pack_91 : decode cX1_pack 91 = .ok (.iastore, 1) := by decide +kernel
theorem dX1_pack_92 : decode cX1_pack 92 = .ok (.iconst 0, 1) := by decide +kernel
theorem dX1_pack_93 : decode cX1_pack 93 = .ok (.ireturn, 1) := by decide +kernel
abbrev cX1_unpack : ByteArray := prog_3_method_9_code
def yX1_unpack : MethodName := ⟨RX1, "unpack", "(IIIZ)I"⟩
theorem dX1_unpack_0 : decode cX1_unpack 0 = .ok (.iload_n 1, 1) := by decide +kernel
theorem dX1_unpack_1 : decode cX1_unpack 1 = .ok (.iconst 3, 1) := by decide +kernel
theorem dX1_unpack_2 : decode cX1_unpack 2 = .ok (.invokestatic 16, 3) := by decide +kernel
theorem dX1_unpack_5 : decode cX1_unpack 5 = .ok (.ifCond .ne 33, 3) := by decide +kernel
theorem dX1_unpack_8 : decode cX1_unpack 8 = .ok (.iload_n 2, 1) := by decide +kernel
theorem dX1_unpack_9 : decode cX1_unpack 9 = .ok (.iload_n 3, 1) := by decide +kernel
theorem dX1_unpack_10 : decode cX1_unpack 10 = .ok (.invokestatic 20, 3) := by decide +kernel
theorem dX1_unpack_13 : decode cX1_unpack 13 = .ok (.ifCond .ne 25, 3) := by decide +kernel
theorem dX1_unpack_16 : decode cX1_unpack 16 = .ok (.aload_n 0, 1) := by decide +kernel
theorem dX1_unpack_17 : decode cX1_unpack 17 = .ok (.getfield 13, 3) := by decide +kernel
theorem dX1_unpack_20 : decode cX1_unpack 20 = .ok (.iload_n 1, 1) := by decide +kernel
theorem dX1_unpack_21 : decode cX1_unpack 21 = .ok (.iaload, 1) := by decide +kernel
theorem dX1_unpack_22 : decode cX1_unpack 22 = .ok (.ifCond .eq 16, 3) := by decide +kernel
theorem dX1_unpack_25 : decode cX1_unpack 25 = .ok (.iload_n 3, 1) := by decide +kernel
theorem dX1_unpack_26 : decode cX1_unpack 26 = .ok (.aload_n 0, 1) := by decide +kernel
theorem dX1_unpack_27 : decode cX1_unpack 27 = .ok (.getfield 13, 3) := by decide +kernel
theorem dX1_unpack_30 : decode cX1_unpack 30 = .ok (.iload_n 1, 1) := by decide +kernel
theorem dX1_unpack_31 : decode cX1_unpack 31 = .ok (.iaload, 1) := by decide +kernel
theorem dX1_unpack_32 : decode cX1_unpack 32 = .ok (.iadd, 1) := by decide +kernel
theorem dX1_unpack_33 : decode cX1_unpack 33 = .ok (.bipush 8, 2) := by decide +kernel
theorem dX1_unpack_35 : decode cX1_unpack 35 = .ok (.if_icmp .le 5, 3) := by decide +kernel
theorem dX1_unpack_38 : decode cX1_unpack 38 = .ok (.iconst (-1), 1) := by decide +kernel
theorem dX1_unpack_39 : decode cX1_unpack 39 = .ok (.ireturn, 1) := by decide +kernel
theorem dX1_unpack_40 : decode cX1_unpack 40 = .ok (.aload_n 0, 1) := by decide +kernel
theorem dX1_unpack_41 : decode cX1_unpack 41 = .ok (.getfield 13, 3) := by decide +kernel
theorem dX1_unpack_44 : decode cX1_unpack 44 = .ok (.iload_n 1, 1) := by decide +kernel
theorem dX1_unpack_45 : decode cX1_unpack 45 = .ok (.iaload, 1) := by decide +kernel
theorem dX1_unpack_46 : decode cX1_unpack 46 = .ok (.istore 5, 2) := by decide +kernel
theorem dX1_unpack_48 : decode cX1_unpack 48 = .ok (.iconst 0, 1) := by decide +kernel
theorem dX1_unpack_49 : decode cX1_unpack 49 = .ok (.istore 6, 2) := by decide +kernel
theorem dX1_unpack_51 : decode cX1_unpack 51 = .ok (.iload 6, 2) := by decide +kernel
theorem dX1_unpack_53 : decode cX1_unpack 53 = .ok (.iload 5, 2) := by decide +kernel
theorem dX1_unpack_55 : decode cX1_unpack 55 = .ok (.if_icmp .ge 37, 3) := by decide +kernel
theorem dX1_unpack_58 : decode cX1_unpack 58 = .ok (.aload_n 0, 1) := by decide +kernel
theorem dX1_unpack_59 : decode cX1_unpack 59 = .ok (.bipush 32, 2) := by decide +kernel
theorem dX1_unpack_61 : decode cX1_unpack 61 = .ok (.iload_n 2, 1) := by decide +kernel
theorem dX1_unpack_62 : decode cX1_unpack 62 = .ok (.imul, 1) := by decide +kernel
theorem dX1_unpack_63 : decode cX1_unpack 63 = .ok (.iconst 4, 1) := by decide +kernel
theorem dX1_unpack_64 : decode cX1_unpack 64 = .ok (.iload_n 3, 1) := by decide +kernel
theorem dX1_unpack_65 : decode cX1_unpack 65 = .ok (.iload 6, 2) := by decide +kernel
theorem dX1_unpack_67 : decode cX1_unpack 67 = .ok (.iadd, 1) := by decide +kernel
theorem dX1_unpack_68 : decode cX1_unpack 68 = .ok (.imul, 1) := by decide +kernel
theorem dX1_unpack_69 : decode cX1_unpack 69 = .ok (.iadd, 1) := by decide +kernel
theorem dX1_unpack_70 : decode cX1_unpack 70 = .ok (.sipush 128, 3) := by decide +kernel
theorem dX1_unpack_73 : decode cX1_unpack 73 = .ok (.bipush 32, 2) := by decide +kernel
theorem dX1_unpack_75 : decode cX1_unpack 75 = .ok (.iload_n 1, 1) := by decide +kernel
theorem dX1_unpack_76 : decode cX1_unpack 76 = .ok (.imul, 1) := by decide +kernel
theorem dX1_unpack_77 : decode cX1_unpack 77 = .ok (.iadd, 1) := by decide +kernel
theorem dX1_unpack_78 : decode cX1_unpack 78 = .ok (.iconst 4, 1) := by decide +kernel
theorem dX1_unpack_79 : decode cX1_unpack 79 = .ok (.iload 6, 2) := by decide +kernel
theorem dX1_unpack_81 : decode cX1_unpack 81 = .ok (.imul, 1) := by decide +kernel
theorem dX1_unpack_82 : decode cX1_unpack 82 = .ok (.iadd, 1) := by decide +kernel
theorem dX1_unpack_83 : decode cX1_unpack 83 = .ok (.invokevirtual 23, 3) := by decide +kernel
theorem dX1_unpack_86 : decode cX1_unpack 86 = .ok (.iinc 6 1, 3) := by decide +kernel
theorem dX1_unpack_89 : decode cX1_unpack 89 = .ok (.goto (-38), 3) := by decide +kernel
theorem dX1_unpack_92 : decode cX1_unpack 92 = .ok (.iload 4, 2) := by decide +kernel
theorem dX1_unpack_94 : decode cX1_unpack 94 = .ok (.ifCond .ne 10, 3) := by decide +kernel
theorem dX1_unpack_97 : decode cX1_unpack 97 = .ok (.aload_n 0, 1) := by decide +kernel
theorem dX1_unpack_98 : decode cX1_unpack 98 = .ok (.getfield 13, 3) := by decide +kernel
theorem dX1_unpack_101 : decode cX1_unpack 101 = .ok (.iload_n 1, 1) := by decide +kernel
theorem dX1_unpack_102 : decode cX1_unpack 102 = .ok (.iconst 0, 1) := by decide +kernel
theorem dX1_unpack_103 : decode cX1_unpack 103 = .ok (.iastore, 1) := by decide +kernel
theorem dX1_unpack_104 : decode cX1_unpack 104 = .ok (.iload 5, 2) := by decide +kernel
theorem dX1_unpack_106 : decode cX1_unpack 106 = .ok (.ireturn, 1) := by decide +kernel
abbrev cX1_exchange : ByteArray := prog_3_method_10_code
def yX1_exchange : MethodName := ⟨RX1, "exchange", "(III)I"⟩
theorem dX1_exchange_0 : decode cX1_exchange 0 = .ok (.iload_n 1, 1) := by decide +kernel
theorem dX1_exchange_1 : decode cX1_exchange 1 = .ok (.iload_n 2, 1) := by decide +kernel
theorem dX1_exchange_2 : decode cX1_exchange 2 = .ok (.invokestatic 20, 3) := by decide +kernel
theorem dX1_exchange_5 : decode cX1_exchange 5 = .ok (.ifCond .ne 11, 3) := by decide +kernel
theorem dX1_exchange_8 : decode cX1_exchange 8 = .ok (.iload_n 1, 1) := by decide +kernel
theorem dX1_exchange_9 : decode cX1_exchange 9 = .ok (.iload_n 3, 1) := by decide +kernel
theorem dX1_exchange_10 : decode cX1_exchange 10 = .ok (.invokestatic 20, 3) := by decide +kernel
theorem dX1_exchange_13 : decode cX1_exchange 13 = .ok (.ifCond .eq 5, 3) := by decide +kernel
theorem dX1_exchange_16 : decode cX1_exchange 16 = .ok (.iconst (-1), 1) := by decide +kernel
theorem dX1_exchange_17 : decode cX1_exchange 17 = .ok (.ireturn, 1) := by decide +kernel
theorem dX1_exchange_18 : decode cX1_exchange 18 = .ok (.aload_n 0, 1) := by decide +kernel
theorem dX1_exchange_19 : decode cX1_exchange 19 = .ok (.sipush 256, 3) := by decide +kernel
theorem dX1_exchange_22 : decode cX1_exchange 22 = .ok (.bipush 32, 2) := by decide +kernel
theorem dX1_exchange_24 : decode cX1_exchange 24 = .ok (.iload_n 1, 1) := by decide +kernel
theorem dX1_exchange_25 : decode cX1_exchange 25 = .ok (.imul, 1) := by decide +kernel
theorem dX1_exchange_26 : decode cX1_exchange 26 = .ok (.iconst 4, 1) := by decide +kernel
theorem dX1_exchange_27 : decode cX1_exchange 27 = .ok (.iload_n 2, 1) := by decide +kernel
theorem dX1_exchange_28 : decode cX1_exchange 28 = .ok (.imul, 1) := by decide +kernel
theorem dX1_exchange_29 : decode cX1_exchange 29 = .ok (.iadd, 1) := by decide +kernel
theorem dX1_exchange_30 : decode cX1_exchange 30 = .ok (.invokevirtual 23, 3) := by decide +kernel
theorem dX1_exchange_33 : decode cX1_exchange 33 = .ok (.aload_n 0, 1) := by decide +kernel
theorem dX1_exchange_34 : decode cX1_exchange 34 = .ok (.bipush 32, 2) := by decide +kernel
theorem dX1_exchange_36 : decode cX1_exchange 36 = .ok (.iload_n 1, 1) := by decide +kernel
theorem dX1_exchange_37 : decode cX1_exchange 37 = .ok (.imul, 1) := by decide +kernel
theorem dX1_exchange_38 : decode cX1_exchange 38 = .ok (.iconst 4, 1) := by decide +kernel
theorem dX1_exchange_39 : decode cX1_exchange 39 = .ok (.iload_n 2, 1) := by decide +kernel
theorem dX1_exchange_40 : decode cX1_exchange 40 = .ok (.imul, 1) := by decide +kernel
theorem dX1_exchange_41 : decode cX1_exchange 41 = .ok (.iadd, 1) := by decide +kernel
theorem dX1_exchange_42 : decode cX1_exchange 42 = .ok (.bipush 32, 2) := by decide +kernel
theorem dX1_exchange_44 : decode cX1_exchange 44 = .ok (.iload_n 1, 1) := by decide +kernel
theorem dX1_exchange_45 : decode cX1_exchange 45 = .ok (.imul, 1) := by decide +kernel
theorem dX1_exchange_46 : decode cX1_exchange 46 = .ok (.iconst 4, 1) := by decide +kernel
theorem dX1_exchange_47 : decode cX1_exchange 47 = .ok (.iload_n 3, 1) := by decide +kernel
theorem dX1_exchange_48 : decode cX1_exchange 48 = .ok (.imul, 1) := by decide +kernel
theorem dX1_exchange_49 : decode cX1_exchange 49 = .ok (.iadd, 1) := by decide +kernel
theorem dX1_exchange_50 : decode cX1_exchange 50 = .ok (.invokevirtual 23, 3) := by decide +kernel
theorem dX1_exchange_53 : decode cX1_exchange 53 = .ok (.aload_n 0, 1) := by decide +kernel
theorem dX1_exchange_54 : decode cX1_exchange 54 = .ok (.bipush 32, 2) := by decide +kernel
theorem dX1_exchange_56 : decode cX1_exchange 56 = .ok (.iload_n 1, 1) := by decide +kernel
theorem dX1_exchange_57 : decode cX1_exchange 57 = .ok (.imul, 1) := by decide +kernel
theorem dX1_exchange_58 : decode cX1_exchange 58 = .ok (.iconst 4, 1) := by decide +kernel
theorem dX1_exchange_59 : decode cX1_exchange 59 = .ok (.iload_n 3, 1) := by decide +kernel
theorem dX1_exchange_60 : decode cX1_exchange 60 = .ok (.imul, 1) := by decide +kernel
theorem dX1_exchange_61 : decode cX1_exchange 61 = .ok (.iadd, 1) := by decide +kernel
theorem dX1_exchange_62 : decode cX1_exchange 62 = .ok (.sipush 256, 3) := by decide +kernel
theorem dX1_exchange_65 : decode cX1_exchange 65 = .ok (.invokevirtual 23, 3) := by decide +kernel
theorem dX1_exchange_68 : decode cX1_exchange 68 = .ok (.iconst 0, 1) := by decide +kernel
theorem dX1_exchange_69 : decode cX1_exchange 69 = .ok (.ireturn, 1) := by decide +kernel
abbrev cX1_clear : ByteArray := prog_3_method_11_code
def yX1_clear : MethodName := ⟨RX1, "clear", "(II)I"⟩
theorem dX1_clear_0 : decode cX1_clear 0 = .ok (.iload_n 1, 1) := by decide +kernel
theorem dX1_clear_1 : decode cX1_clear 1 = .ok (.iload_n 2, 1) := by decide +kernel
theorem dX1_clear_2 : decode cX1_clear 2 = .ok (.invokestatic 20, 3) := by decide +kernel
theorem dX1_clear_5 : decode cX1_clear 5 = .ok (.ifCond .eq 5, 3) := by decide +kernel
theorem dX1_clear_8 : decode cX1_clear 8 = .ok (.iconst (-1), 1) := by decide +kernel
theorem dX1_clear_9 : decode cX1_clear 9 = .ok (.ireturn, 1) := by decide +kernel
theorem dX1_clear_10 : decode cX1_clear 10 = .ok (.iconst 0, 1) := by decide +kernel
theorem dX1_clear_11 : decode cX1_clear 11 = .ok (.istore_n 3, 1) := by decide +kernel
theorem dX1_clear_12 : decode cX1_clear 12 = .ok (.iload_n 3, 1) := by decide +kernel
theorem dX1_clear_13 : decode cX1_clear 13 = .ok (.iconst 4, 1) := by decide +kernel
theorem dX1_clear_14 : decode cX1_clear 14 = .ok (.if_icmp .ge 25, 3) := by decide +kernel
theorem dX1_clear_17 : decode cX1_clear 17 = .ok (.aload_n 0, 1) := by decide +kernel
theorem dX1_clear_18 : decode cX1_clear 18 = .ok (.getfield 7, 3) := by decide +kernel
theorem dX1_clear_21 : decode cX1_clear 21 = .ok (.bipush 32, 2) := by decide +kernel
theorem dX1_clear_23 : decode cX1_clear 23 = .ok (.iload_n 1, 1) := by decide +kernel
theorem dX1_clear_24 : decode cX1_clear 24 = .ok (.imul, 1) := by decide +kernel
theorem dX1_clear_25 : decode cX1_clear 25 = .ok (.iconst 4, 1) := by decide +kernel
theorem dX1_clear_26 : decode cX1_clear 26 = .ok (.iload_n 2, 1) := by decide +kernel
theorem dX1_clear_27 : decode cX1_clear 27 = .ok (.imul, 1) := by decide +kernel
theorem dX1_clear_28 : decode cX1_clear 28 = .ok (.iadd, 1) := by decide +kernel
theorem dX1_clear_29 : decode cX1_clear 29 = .ok (.iload_n 3, 1) := by decide +kernel
theorem dX1_clear_30 : decode cX1_clear 30 = .ok (.iadd, 1) := by decide +kernel
theorem dX1_clear_31 : decode cX1_clear 31 = .ok (.iconst 0, 1) := by decide +kernel
theorem dX1_clear_32 : decode cX1_clear 32 = .ok (.iastore, 1) := by decide +kernel
theorem dX1_clear_33 : decode cX1_clear 33 = .ok (.iinc 3 1, 3) := by decide +kernel
theorem dX1_clear_36 : decode cX1_clear 36 = .ok (.goto (-24), 3) := by decide +kernel
theorem dX1_clear_39 : decode cX1_clear 39 = .ok (.iconst 0, 1) := by decide +kernel
theorem dX1_clear_40 : decode cX1_clear 40 = .ok (.ireturn, 1) := by decide +kernel
abbrev cX1_size : ByteArray := prog_3_method_12_code
def yX1_size : MethodName := ⟨RX1, "size", "(I)I"⟩
theorem dX1_size_0 : decode cX1_size 0 = .ok (.iload_n 1, 1) := by decide +kernel
theorem dX1_size_1 : decode cX1_size 1 = .ok (.iconst 3, 1) := by decide +kernel
theorem dX1_size_2 : decode cX1_size 2 = .ok (.invokestatic 16, 3) := by decide +kernel
theorem dX1_size_5 : decode cX1_size 5 = .ok (.ifCond .eq 7, 3) := by decide +kernel
theorem dX1_size_8 : decode cX1_size 8 = .ok (.iconst (-1), 1) := by decide +kernel
theorem dX1_size_9 : decode cX1_size 9 = .ok (.goto 9, 3) := by decide +kernel
theorem dX1_size_12 : decode cX1_size 12 = .ok (.aload_n 0, 1) := by decide +kernel
theorem dX1_size_13 : decode cX1_size 13 = .ok (.getfield 13, 3) := by decide +kernel
theorem dX1_size_16 : decode cX1_size 16 = .ok (.iload_n 1, 1) := by decide +kernel
theorem dX1_size_17 : decode cX1_size 17 = .ok (.iaload, 1) := by decide +kernel
theorem dX1_size_18 : decode cX1_size 18 = .ok (.ireturn, 1) := by decide +kernel
abbrev cX1_peek : ByteArray := prog_3_method_13_code
def yX1_peek : MethodName := ⟨RX1, "peek", "(III)I"⟩
theorem dX1_peek_0 : decode cX1_peek 0 = .ok (.iload_n 1, 1) := by decide +kernel
theorem dX1_peek_1 : decode cX1_peek 1 = .ok (.iconst 3, 1) := by decide +kernel
theorem dX1_peek_2 : decode cX1_peek 2 = .ok (.invokestatic 16, 3) := by decide +kernel
theorem dX1_peek_5 : decode cX1_peek 5 = .ok (.ifCond .ne 25, 3) := by decide +kernel
theorem dX1_peek_8 : decode cX1_peek 8 = .ok (.iload_n 2, 1) := by decide +kernel
theorem dX1_peek_9 : decode cX1_peek 9 = .ok (.ifCond .lt 21, 3) := by decide +kernel
theorem dX1_peek_12 : decode cX1_peek 12 = .ok (.iload_n 2, 1) := by decide +kernel
theorem dX1_peek_13 : decode cX1_peek 13 = .ok (.aload_n 0, 1) := by decide +kernel
theorem dX1_peek_14 : decode cX1_peek 14 = .ok (.getfield 13, 3) := by decide +kernel
theorem dX1_peek_17 : decode cX1_peek 17 = .ok (.iload_n 1, 1) := by decide +kernel
theorem dX1_peek_18 : decode cX1_peek 18 = .ok (.iaload, 1) := by decide +kernel
theorem dX1_peek_19 : decode cX1_peek 19 = .ok (.if_icmp .ge 11, 3) := by decide +kernel
theorem dX1_peek_22 : decode cX1_peek 22 = .ok (.iload_n 3, 1) := by decide +kernel
theorem dX1_peek_23 : decode cX1_peek 23 = .ok (.iconst 3, 1) := by decide +kernel
theorem dX1_peek_24 : decode cX1_peek 24 = .ok (.invokestatic 16, 3) := by decide +kernel
theorem dX1_peek_27 : decode cX1_peek 27 = .ok (.ifCond .eq 5, 3) := by decide +kernel
theorem dX1_peek_30 : decode cX1_peek 30 = .ok (.iconst 0, 1) := by decide +kernel
theorem dX1_peek_31 : decode cX1_peek 31 = .ok (.ireturn, 1) := by decide +kernel
theorem dX1_peek_32 : decode cX1_peek 32 = .ok (.aload_n 0, 1) := by decide +kernel
theorem dX1_peek_33 : decode cX1_peek 33 = .ok (.getfield 7, 3) := by decide +kernel
theorem dX1_peek_36 : decode cX1_peek 36 = .ok (.sipush 128, 3) := by decide +kernel
theorem dX1_peek_39 : decode cX1_peek 39 = .ok (.bipush 32, 2) := by decide +kernel
theorem dX1_peek_41 : decode cX1_peek 41 = .ok (.iload_n 1, 1) := by decide +kernel
theorem dX1_peek_42 : decode cX1_peek 42 = .ok (.imul, 1) := by decide +kernel
theorem dX1_peek_43 : decode cX1_peek 43 = .ok (.iadd, 1) := by decide +kernel
theorem dX1_peek_44 : decode cX1_peek 44 = .ok (.iconst 4, 1) := by decide +kernel
theorem dX1_peek_45 : decode cX1_peek 45 = .ok (.iload_n 2, 1) := by decide +kernel
theorem dX1_peek_46 : decode cX1_peek 46 = .ok (.imul, 1) := by decide +kernel
theorem dX1_peek_47 : decode cX1_peek 47 = .ok (.iadd, 1) := by decide +kernel
theorem dX1_peek_48 : decode cX1_peek 48 = .ok (.iload_n 3, 1) := by decide +kernel
theorem dX1_peek_49 : decode cX1_peek 49 = .ok (.iadd, 1) := by decide +kernel
theorem dX1_peek_50 : decode cX1_peek 50 = .ok (.iaload, 1) := by decide +kernel
theorem dX1_peek_51 : decode cX1_peek 51 = .ok (.ireturn, 1) := by decide +kernel
abbrev cX1_alike : ByteArray := prog_3_method_14_code
def yX1_alike : MethodName := ⟨RX1, "alike", "(II)I"⟩
theorem dX1_alike_0 : decode cX1_alike 0 = .ok (.iload_n 1, 1) := by decide +kernel
theorem dX1_alike_1 : decode cX1_alike 1 = .ok (.iconst 3, 1) := by decide +kernel
theorem dX1_alike_2 : decode cX1_alike 2 = .ok (.invokestatic 16, 3) := by decide +kernel
theorem dX1_alike_5 : decode cX1_alike 5 = .ok (.ifCond .ne 11, 3) := by decide +kernel
theorem dX1_alike_8 : decode cX1_alike 8 = .ok (.iload_n 2, 1) := by decide +kernel
theorem dX1_alike_9 : decode cX1_alike 9 = .ok (.iconst 3, 1) := by decide +kernel
theorem dX1_alike_10 : decode cX1_alike 10 = .ok (.invokestatic 16, 3) := by decide +kernel
theorem dX1_alike_13 : decode cX1_alike 13 = .ok (.ifCond .eq 5, 3) := by decide +kernel
theorem dX1_alike_16 : decode cX1_alike 16 = .ok (.iconst (-1), 1) := by decide +kernel
theorem dX1_alike_17 : decode cX1_alike 17 = .ok (.ireturn, 1) := by decide +kernel
theorem dX1_alike_18 : decode cX1_alike 18 = .ok (.iconst 0, 1) := by decide +kernel
theorem dX1_alike_19 : decode cX1_alike 19 = .ok (.istore_n 3, 1) := by decide +kernel
theorem dX1_alike_20 : decode cX1_alike 20 = .ok (.iconst 0, 1) := by decide +kernel
theorem dX1_alike_21 : decode cX1_alike 21 = .ok (.istore 4, 2) := by decide +kernel
theorem dX1_alike_23 : decode cX1_alike 23 = .ok (.iload 4, 2) := by decide +kernel
theorem dX1_alike_25 : decode cX1_alike 25 = .ok (.bipush 8, 2) := by decide +kernel
theorem dX1_alike_27 : decode cX1_alike 27 = .ok (.if_icmp .ge 75, 3) := by decide +kernel
theorem dX1_alike_30 : decode cX1_alike 30 = .ok (.iconst 1, 1) := by decide +kernel
theorem dX1_alike_31 : decode cX1_alike 31 = .ok (.istore 5, 2) := by decide +kernel
theorem dX1_alike_33 : decode cX1_alike 33 = .ok (.iconst 0, 1) := by decide +kernel
theorem dX1_alike_34 : decode cX1_alike 34 = .ok (.istore 6, 2) := by decide +kernel
theorem dX1_alike_36 : decode cX1_alike 36 = .ok (.iload 6, 2) := by decide +kernel
theorem dX1_alike_38 : decode cX1_alike 38 = .ok (.iconst 4, 1) := by decide +kernel
theorem dX1_alike_39 : decode cX1_alike 39 = .ok (.if_icmp .ge 49, 3) := by decide +kernel
theorem dX1_alike_42 : decode cX1_alike 42 = .ok (.aload_n 0, 1) := by decide +kernel
theorem dX1_alike_43 : decode cX1_alike 43 = .ok (.getfield 7, 3) := by decide +kernel
theorem dX1_alike_46 : decode cX1_alike 46 = .ok (.bipush 32, 2) := by decide +kernel
theorem dX1_alike_48 : decode cX1_alike 48 = .ok (.iload_n 1, 1) := by decide +kernel
theorem dX1_alike_49 : decode cX1_alike 49 = .ok (.imul, 1) := by decide +kernel
theorem dX1_alike_50 : decode cX1_alike 50 = .ok (.iconst 4, 1) := by decide +kernel
theorem dX1_alike_51 : decode cX1_alike 51 = .ok (.iload 4, 2) := by decide +kernel
theorem dX1_alike_53 : decode cX1_alike 53 = .ok (.imul, 1) := by decide +kernel
theorem dX1_alike_54 : decode cX1_alike 54 = .ok (.iadd, 1) := by decide +kernel
theorem dX1_alike_55 : decode cX1_alike 55 = .ok (.iload 6, 2) := by decide +kernel
theorem dX1_alike_57 : decode cX1_alike 57 = .ok (.iadd, 1) := by decide +kernel
theorem dX1_alike_58 : decode cX1_alike 58 = .ok (.iaload, 1) := by decide +kernel
theorem dX1_alike_59 : decode cX1_alike 59 = .ok (.aload_n 0, 1) := by decide +kernel
theorem dX1_alike_60 : decode cX1_alike 60 = .ok (.getfield 7, 3) := by decide +kernel
theorem dX1_alike_63 : decode cX1_alike 63 = .ok (.bipush 32, 2) := by decide +kernel
theorem dX1_alike_65 : decode cX1_alike 65 = .ok (.iload_n 2, 1) := by decide +kernel
theorem dX1_alike_66 : decode cX1_alike 66 = .ok (.imul, 1) := by decide +kernel
theorem dX1_alike_67 : decode cX1_alike 67 = .ok (.iconst 4, 1) := by decide +kernel
theorem dX1_alike_68 : decode cX1_alike 68 = .ok (.iload 4, 2) := by decide +kernel
theorem dX1_alike_70 : decode cX1_alike 70 = .ok (.imul, 1) := by decide +kernel
theorem dX1_alike_71 : decode cX1_alike 71 = .ok (.iadd, 1) := by decide +kernel
theorem dX1_alike_72 : decode cX1_alike 72 = .ok (.iload 6, 2) := by decide +kernel
theorem dX1_alike_74 : decode cX1_alike 74 = .ok (.iadd, 1) := by decide +kernel
theorem dX1_alike_75 : decode cX1_alike 75 = .ok (.iaload, 1) := by decide +kernel
theorem dX1_alike_76 : decode cX1_alike 76 = .ok (.if_icmp .eq 6, 3) := by decide +kernel
theorem dX1_alike_79 : decode cX1_alike 79 = .ok (.iconst 0, 1) := by decide +kernel
theorem dX1_alike_80 : decode cX1_alike 80 = .ok (.istore 5, 2) := by decide +kernel
theorem dX1_alike_82 : decode cX1_alike 82 = .ok (.iinc 6 1, 3) := by decide +kernel
theorem dX1_alike_85 : decode cX1_alike 85 = .ok (.goto (-49), 3) := by decide +kernel
theorem dX1_alike_88 : decode cX1_alike 88 = .ok (.iload 5, 2) := by decide +kernel
theorem dX1_alike_90 : decode cX1_alike 90 = .ok (.ifCond .eq 6, 3) := by decide +kernel
theorem dX1_alike_93 : decode cX1_alike 93 = .ok (.iinc 3 1, 3) := by decide +kernel
theorem dX1_alike_96 : decode cX1_alike 96 = .ok (.iinc 4 1, 3) := by decide +kernel
theorem dX1_alike_99 : decode cX1_alike 99 = .ok (.goto (-76), 3) := by decide +kernel
theorem dX1_alike_102 : decode cX1_alike 102 = .ok (.iload_n 3, 1) := by decide +kernel
theorem dX1_alike_103 : decode cX1_alike 103 = .ok (.ireturn, 1) := by decide +kernel
theorem q11 : (Jvm.Cond.initialized "ShadowPagesModel") ∈ lw_all := lw_g (lw_at lw_m0 2 rfl) rfl
theorem q120 : (Jvm.Cond.instantiable "ShadowPagesModel" (2 : Nat)) ∈ lw_all := lw_g (lw_at lw_m0 111 rfl) rfl
theorem q122 : (Jvm.Cond.instanceMethod ({ cls := "ShadowPagesModel", name := "<init>", desc := "()V" } : Jvm.MethodName)) ∈ lw_all := lw_g (lw_at lw_m0 113 rfl) rfl
theorem q123 : (Jvm.Cond.code ({ cls := "ShadowPagesModel", name := "<init>", desc := "()V" } : Jvm.MethodName) prog_3_method_1_code (1 : Nat) (Option.none : Option Jvm.ClassFile.FieldType)) ∈ lw_all := lw_g (lw_at lw_m0 114 rfl) rfl
theorem q124 : (Jvm.Cond.methodLink "ShadowPagesModel" (1 : Nat) ({ cls := "java/lang/Object", name := "<init>", desc := "()V" } : Jvm.MethodName)) ∈ lw_all := lw_g (lw_at lw_m0 115 rfl) rfl
theorem q125 : (Jvm.Cond.fieldLink "ShadowPagesModel" (7 : Nat) "ShadowPagesModel" "cells" "[I") ∈ lw_all := lw_g (lw_at lw_m0 116 rfl) rfl
theorem q126 : (Jvm.Cond.fieldLink "ShadowPagesModel" (13 : Nat) "ShadowPagesModel" "sizes" "[I") ∈ lw_all := lw_g (lw_at lw_m0 117 rfl) rfl
theorem q127 : (Jvm.Cond.laysFinal "ShadowPagesModel" "ShadowPagesModel" "cells" "[I") ∈ lw_all := lw_g (lw_at lw_m0 118 rfl) rfl
theorem q128 : (Jvm.Cond.soleField "ShadowPagesModel" "cells") ∈ lw_all := lw_g (lw_at lw_m0 119 rfl) rfl
theorem q129 : (Jvm.Cond.laysFinal "ShadowPagesModel" "ShadowPagesModel" "sizes" "[I") ∈ lw_all := lw_g (lw_at lw_m0 120 rfl) rfl
theorem q130 : (Jvm.Cond.soleField "ShadowPagesModel" "sizes") ∈ lw_all := lw_g (lw_at lw_m0 121 rfl) rfl
theorem q131 : (Jvm.Cond.superclass "ShadowPagesModel" "java/lang/Object") ∈ lw_all := lw_g (lw_at lw_m0 122 rfl) rfl
theorem q133 : (Jvm.Cond.instanceMethod ({ cls := "ShadowPagesModel", name := "write", desc := "(IIII)I" } : Jvm.MethodName)) ∈ lw_all := lw_g (lw_at lw_m0 124 rfl) rfl
theorem q134 : (Jvm.Cond.selects "ShadowPagesModel" ({ cls := "ShadowPagesModel", name := "write", desc := "(IIII)I" } : Jvm.MethodName) ({ cls := "ShadowPagesModel", name := "write", desc := "(IIII)I" } : Jvm.MethodName)) ∈ lw_all := lw_g (lw_at lw_m0 125 rfl) rfl
theorem q135 : (Jvm.Cond.code ({ cls := "ShadowPagesModel", name := "write", desc := "(IIII)I" } : Jvm.MethodName) prog_3_method_5_code (5 : Nat) (Option.some Jvm.ClassFile.FieldType.int)) ∈ lw_all := lw_g (lw_at lw_m0 126 rfl) rfl
theorem q136 : (Jvm.Cond.methodLink "ShadowPagesModel" (20 : Nat) ({ cls := "ShadowPagesModel", name := "bad", desc := "(II)Z" } : Jvm.MethodName)) ∈ lw_all := lw_g (lw_at lw_m0 127 rfl) rfl
theorem q137 : (Jvm.Cond.static ({ cls := "ShadowPagesModel", name := "bad", desc := "(II)Z" } : Jvm.MethodName)) ∈ lw_all := lw_g (lw_at lw_m0 128 rfl) rfl
theorem q138 : (Jvm.Cond.code ({ cls := "ShadowPagesModel", name := "bad", desc := "(II)Z" } : Jvm.MethodName) prog_3_method_3_code (2 : Nat) (Option.some Jvm.ClassFile.FieldType.boolean)) ∈ lw_all := lw_g (lw_at lw_m0 129 rfl) rfl
theorem q139 : (Jvm.Cond.methodLink "ShadowPagesModel" (16 : Nat) ({ cls := "ShadowPagesModel", name := "outside", desc := "(II)Z" } : Jvm.MethodName)) ∈ lw_all := lw_g (lw_at lw_m0 130 rfl) rfl
theorem q140 : (Jvm.Cond.static ({ cls := "ShadowPagesModel", name := "outside", desc := "(II)Z" } : Jvm.MethodName)) ∈ lw_all := lw_g (lw_at lw_m0 131 rfl) rfl
theorem q141 : (Jvm.Cond.code ({ cls := "ShadowPagesModel", name := "outside", desc := "(II)Z" } : Jvm.MethodName) prog_3_method_2_code (2 : Nat) (Option.some Jvm.ClassFile.FieldType.boolean)) ∈ lw_all := lw_g (lw_at lw_m0 132 rfl) rfl
theorem q143 : (Jvm.Cond.instanceMethod ({ cls := "ShadowPagesModel", name := "read", desc := "(III)I" } : Jvm.MethodName)) ∈ lw_all := lw_g (lw_at lw_m0 134 rfl) rfl
theorem q144 : (Jvm.Cond.selects "ShadowPagesModel" ({ cls := "ShadowPagesModel", name := "read", desc := "(III)I" } : Jvm.MethodName) ({ cls := "ShadowPagesModel", name := "read", desc := "(III)I" } : Jvm.MethodName)) ∈ lw_all := lw_g (lw_at lw_m0 135 rfl) rfl
theorem q145 : (Jvm.Cond.code ({ cls := "ShadowPagesModel", name := "read", desc := "(III)I" } : Jvm.MethodName) prog_3_method_6_code (4 : Nat) (Option.some Jvm.ClassFile.FieldType.int)) ∈ lw_all := lw_g (lw_at lw_m0 136 rfl) rfl
theorem q147 : (Jvm.Cond.instanceMethod ({ cls := "ShadowPagesModel", name := "fork", desc := "(II)I" } : Jvm.MethodName)) ∈ lw_all := lw_g (lw_at lw_m0 138 rfl) rfl
theorem q148 : (Jvm.Cond.selects "ShadowPagesModel" ({ cls := "ShadowPagesModel", name := "fork", desc := "(II)I" } : Jvm.MethodName) ({ cls := "ShadowPagesModel", name := "fork", desc := "(II)I" } : Jvm.MethodName)) ∈ lw_all := lw_g (lw_at lw_m0 139 rfl) rfl
theorem q149 : (Jvm.Cond.code ({ cls := "ShadowPagesModel", name := "fork", desc := "(II)I" } : Jvm.MethodName) prog_3_method_7_code (4 : Nat) (Option.some Jvm.ClassFile.FieldType.int)) ∈ lw_all := lw_g (lw_at lw_m0 140 rfl) rfl
theorem q150 : (Jvm.Cond.methodLink "ShadowPagesModel" (23 : Nat) ({ cls := "ShadowPagesModel", name := "copyPage", desc := "(II)V" } : Jvm.MethodName)) ∈ lw_all := lw_g (lw_at lw_m0 141 rfl) rfl
theorem q151 : (Jvm.Cond.privateMethod ({ cls := "ShadowPagesModel", name := "copyPage", desc := "(II)V" } : Jvm.MethodName)) ∈ lw_tbl := lw_at lw_m0 142 rfl
theorem q152 : (Jvm.Cond.instanceMethod ({ cls := "ShadowPagesModel", name := "copyPage", desc := "(II)V" } : Jvm.MethodName)) ∈ lw_all := lw_g (lw_at lw_m0 143 rfl) rfl
theorem q153 : (Jvm.Cond.code ({ cls := "ShadowPagesModel", name := "copyPage", desc := "(II)V" } : Jvm.MethodName) prog_3_method_4_code (4 : Nat) (Option.none : Option Jvm.ClassFile.FieldType)) ∈ lw_all := lw_g (lw_at lw_m0 144 rfl) rfl
theorem q155 : (Jvm.Cond.instanceMethod ({ cls := "ShadowPagesModel", name := "pack", desc := "(IIII)I" } : Jvm.MethodName)) ∈ lw_all := lw_g (lw_at lw_m0 146 rfl) rfl
theorem q156 : (Jvm.Cond.selects "ShadowPagesModel" ({ cls := "ShadowPagesModel", name := "pack", desc := "(IIII)I" } : Jvm.MethodName) ({ cls := "ShadowPagesModel", name := "pack", desc := "(IIII)I" } : Jvm.MethodName)) ∈ lw_all := lw_g (lw_at lw_m0 147 rfl) rfl
theorem q157 : (Jvm.Cond.code ({ cls := "ShadowPagesModel", name := "pack", desc := "(IIII)I" } : Jvm.MethodName) prog_3_method_8_code (6 : Nat) (Option.some Jvm.ClassFile.FieldType.int)) ∈ lw_all := lw_g (lw_at lw_m0 148 rfl) rfl
theorem q159 : (Jvm.Cond.instanceMethod ({ cls := "ShadowPagesModel", name := "unpack", desc := "(IIIZ)I" } : Jvm.MethodName)) ∈ lw_all := lw_g (lw_at lw_m0 150 rfl) rfl
theorem q160 : (Jvm.Cond.selects "ShadowPagesModel" ({ cls := "ShadowPagesModel", name := "unpack", desc := "(IIIZ)I" } : Jvm.MethodName) ({ cls := "ShadowPagesModel", name := "unpack", desc := "(IIIZ)I" } : Jvm.MethodName)) ∈ lw_all := lw_g (lw_at lw_m0 151 rfl) rfl
theorem q161 : (Jvm.Cond.code ({ cls := "ShadowPagesModel", name := "unpack", desc := "(IIIZ)I" } : Jvm.MethodName) prog_3_method_9_code (7 : Nat) (Option.some Jvm.ClassFile.FieldType.int)) ∈ lw_all := lw_g (lw_at lw_m0 152 rfl) rfl
theorem q163 : (Jvm.Cond.instanceMethod ({ cls := "ShadowPagesModel", name := "exchange", desc := "(III)I" } : Jvm.MethodName)) ∈ lw_all := lw_g (lw_at lw_m0 154 rfl) rfl
theorem q164 : (Jvm.Cond.selects "ShadowPagesModel" ({ cls := "ShadowPagesModel", name := "exchange", desc := "(III)I" } : Jvm.MethodName) ({ cls := "ShadowPagesModel", name := "exchange", desc := "(III)I" } : Jvm.MethodName)) ∈ lw_all := lw_g (lw_at lw_m0 155 rfl) rfl
theorem q165 : (Jvm.Cond.code ({ cls := "ShadowPagesModel", name := "exchange", desc := "(III)I" } : Jvm.MethodName) prog_3_method_10_code (4 : Nat) (Option.some Jvm.ClassFile.FieldType.int)) ∈ lw_all := lw_g (lw_at lw_m0 156 rfl) rfl
theorem q167 : (Jvm.Cond.instanceMethod ({ cls := "ShadowPagesModel", name := "clear", desc := "(II)I" } : Jvm.MethodName)) ∈ lw_all := lw_g (lw_at lw_m0 158 rfl) rfl
theorem q168 : (Jvm.Cond.selects "ShadowPagesModel" ({ cls := "ShadowPagesModel", name := "clear", desc := "(II)I" } : Jvm.MethodName) ({ cls := "ShadowPagesModel", name := "clear", desc := "(II)I" } : Jvm.MethodName)) ∈ lw_all := lw_g (lw_at lw_m0 159 rfl) rfl
theorem q169 : (Jvm.Cond.code ({ cls := "ShadowPagesModel", name := "clear", desc := "(II)I" } : Jvm.MethodName) prog_3_method_11_code (4 : Nat) (Option.some Jvm.ClassFile.FieldType.int)) ∈ lw_all := lw_g (lw_at lw_m0 160 rfl) rfl
theorem q171 : (Jvm.Cond.instanceMethod ({ cls := "ShadowPagesModel", name := "size", desc := "(I)I" } : Jvm.MethodName)) ∈ lw_all := lw_g (lw_at lw_m0 162 rfl) rfl
theorem q172 : (Jvm.Cond.selects "ShadowPagesModel" ({ cls := "ShadowPagesModel", name := "size", desc := "(I)I" } : Jvm.MethodName) ({ cls := "ShadowPagesModel", name := "size", desc := "(I)I" } : Jvm.MethodName)) ∈ lw_all := lw_g (lw_at lw_m0 163 rfl) rfl
theorem q173 : (Jvm.Cond.code ({ cls := "ShadowPagesModel", name := "size", desc := "(I)I" } : Jvm.MethodName) prog_3_method_12_code (2 : Nat) (Option.some Jvm.ClassFile.FieldType.int)) ∈ lw_all := lw_g (lw_at lw_m0 164 rfl) rfl
theorem q175 : (Jvm.Cond.instanceMethod ({ cls := "ShadowPagesModel", name := "peek", desc := "(III)I" } : Jvm.MethodName)) ∈ lw_all := lw_g (lw_at lw_m0 166 rfl) rfl
theorem q176 : (Jvm.Cond.selects "ShadowPagesModel" ({ cls := "ShadowPagesModel", name := "peek", desc := "(III)I" } : Jvm.MethodName) ({ cls := "ShadowPagesModel", name := "peek", desc := "(III)I" } : Jvm.MethodName)) ∈ lw_all := lw_g (lw_at lw_m0 167 rfl) rfl
theorem q177 : (Jvm.Cond.code ({ cls := "ShadowPagesModel", name := "peek", desc := "(III)I" } : Jvm.MethodName) prog_3_method_13_code (4 : Nat) (Option.some Jvm.ClassFile.FieldType.int)) ∈ lw_all := lw_g (lw_at lw_m0 168 rfl) rfl
theorem q179 : (Jvm.Cond.instanceMethod ({ cls := "ShadowPagesModel", name := "alike", desc := "(II)I" } : Jvm.MethodName)) ∈ lw_all := lw_g (lw_at lw_m0 170 rfl) rfl
theorem q180 : (Jvm.Cond.selects "ShadowPagesModel" ({ cls := "ShadowPagesModel", name := "alike", desc := "(II)I" } : Jvm.MethodName) ({ cls := "ShadowPagesModel", name := "alike", desc := "(II)I" } : Jvm.MethodName)) ∈ lw_all := lw_g (lw_at lw_m0 171 rfl) rfl
theorem q181 : (Jvm.Cond.code ({ cls := "ShadowPagesModel", name := "alike", desc := "(II)I" } : Jvm.MethodName) prog_3_method_14_code (7 : Nat) (Option.some Jvm.ClassFile.FieldType.int)) ∈ lw_all := lw_g (lw_at lw_m0 172 rfl) rfl
theorem in_X1 : ∀ w ∈ wsX10, w ∈ lw_all := lw_in wsX10 [127, 129] (by decide +kernel) (by decide +kernel)
end
section
/-! the law's own entry -/
set_option maxRecDepth 100000
abbrev cL_law : ByteArray := code
theorem dL_law_0 : decode cL_law 0 = .ok (.new 7, 3) := by decide +kernel
theorem dL_law_3 : decode cL_law 3 = .ok (.dup, 1) := by decide +kernel
theorem dL_law_4 : decode cL_law 4 = .ok (.invokespecial 9, 3) := by decide +kernel
theorem dL_law_7 : decode cL_law 7 = .ok (.astore_n 1, 1) := by decide +kernel
theorem dL_law_8 : decode cL_law 8 = .ok (.new 10, 3) := by decide +kernel
theorem dL_law_11 : decode cL_law 11 = .ok (.dup, 1) := by decide +kernel
theorem dL_law_12 : decode cL_law 12 = .ok (.invokespecial 12, 3) := by decide +kernel
theorem dL_law_15 : decode cL_law 15 = .ok (.astore_n 2, 1) := by decide +kernel
theorem dL_law_16 : decode cL_law 16 = .ok (.iconst 0, 1) := by decide +kernel
theorem dL_law_17 : decode cL_law 17 = .ok (.istore_n 3, 1) := by decide +kernel
theorem dL_law_18 : decode cL_law 18 = .ok (.iload_n 3, 1) := by decide +kernel
theorem dL_law_19 : decode cL_law 19 = .ok (.aload_n 0, 1) := by decide +kernel
theorem dL_law_20 : decode cL_law 20 = .ok (.arraylength, 1) := by decide +kernel
theorem dL_law_21 : decode cL_law 21 = .ok (.iconst 5, 1) := by decide +kernel
theorem dL_law_22 : decode cL_law 22 = .ok (.isub, 1) := by decide +kernel
theorem dL_law_23 : decode cL_law 23 = .ok (.if_icmp .gt 497, 3) := by decide +kernel
theorem dL_law_26 : decode cL_law 26 = .ok (.aload_n 0, 1) := by decide +kernel
theorem dL_law_27 : decode cL_law 27 = .ok (.iload_n 3, 1) := by decide +kernel
theorem dL_law_28 : decode cL_law 28 = .ok (.iaload, 1) := by decide +kernel
theorem dL_law_29 : decode cL_law 29 = .ok (.bipush 15, 2) := by decide +kernel
theorem dL_law_31 : decode cL_law 31 = .ok (.iand, 1) := by decide +kernel
theorem dL_law_32 : decode cL_law 32 = .ok (.tableswitch 482 0 9 #[56, 109, 152, 185, 238, 307, 350, 383, 406, 449], 56) := by decide +kernel
theorem dL_law_88 : decode cL_law 88 = .ok (.aload_n 1, 1) := by decide +kernel
theorem dL_law_89 : decode cL_law 89 = .ok (.aload_n 0, 1) := by decide +kernel
theorem dL_law_90 : decode cL_law 90 = .ok (.iload_n 3, 1) := by decide +kernel
theorem dL_law_91 : decode cL_law 91 = .ok (.iconst 1, 1) := by decide +kernel
theorem dL_law_92 : decode cL_law 92 = .ok (.iadd, 1) := by decide +kernel
theorem dL_law_93 : decode cL_law 93 = .ok (.iaload, 1) := by decide +kernel
theorem dL_law_94 : decode cL_law 94 = .ok (.aload_n 0, 1) := by decide +kernel
theorem dL_law_95 : decode cL_law 95 = .ok (.iload_n 3, 1) := by decide +kernel
theorem dL_law_96 : decode cL_law 96 = .ok (.iconst 2, 1) := by decide +kernel
theorem dL_law_97 : decode cL_law 97 = .ok (.iadd, 1) := by decide +kernel
theorem dL_law_98 : decode cL_law 98 = .ok (.iaload, 1) := by decide +kernel
theorem dL_law_99 : decode cL_law 99 = .ok (.aload_n 0, 1) := by decide +kernel
theorem dL_law_100 : decode cL_law 100 = .ok (.iload_n 3, 1) := by decide +kernel
theorem dL_law_101 : decode cL_law 101 = .ok (.iconst 3, 1) := by decide +kernel
theorem dL_law_102 : decode cL_law 102 = .ok (.iadd, 1) := by decide +kernel
theorem dL_law_103 : decode cL_law 103 = .ok (.iaload, 1) := by decide +kernel
theorem dL_law_104 : decode cL_law 104 = .ok (.aload_n 0, 1) := by decide +kernel
theorem dL_law_105 : decode cL_law 105 = .ok (.iload_n 3, 1) := by decide +kernel
theorem dL_law_106 : decode cL_law 106 = .ok (.iconst 4, 1) := by decide +kernel
theorem dL_law_107 : decode cL_law 107 = .ok (.iadd, 1) := by decide +kernel
theorem dL_law_108 : decode cL_law 108 = .ok (.iaload, 1) := by decide +kernel
theorem dL_law_109 : decode cL_law 109 = .ok (.invokevirtual 13, 3) := by decide +kernel
theorem dL_law_112 : decode cL_law 112 = .ok (.aload_n 2, 1) := by decide +kernel
theorem dL_law_113 : decode cL_law 113 = .ok (.aload_n 0, 1) := by decide +kernel
theorem dL_law_114 : decode cL_law 114 = .ok (.iload_n 3, 1) := by decide +kernel
theorem dL_law_115 : decode cL_law 115 = .ok (.iconst 1, 1) := by decide +kernel
theorem dL_law_116 : decode cL_law 116 = .ok (.iadd, 1) := by decide +kernel
theorem dL_law_117 : decode cL_law 117 = .ok (.iaload, 1) := by decide +kernel
theorem dL_law_118 : decode cL_law 118 = .ok (.aload_n 0, 1) := by decide +kernel
theorem dL_law_119 : decode cL_law 119 = .ok (.iload_n 3, 1) := by decide +kernel
theorem dL_law_120 : decode cL_law 120 = .ok (.iconst 2, 1) := by decide +kernel
theorem dL_law_121 : decode cL_law 121 = .ok (.iadd, 1) := by decide +kernel
theorem dL_law_122 : decode cL_law 122 = .ok (.iaload, 1) := by decide +kernel
theorem dL_law_123 : decode cL_law 123 = .ok (.aload_n 0, 1) := by decide +kernel
theorem dL_law_124 : decode cL_law 124 = .ok (.iload_n 3, 1) := by decide +kernel
theorem dL_law_125 : decode cL_law 125 = .ok (.iconst 3, 1) := by decide +kernel
theorem dL_law_126 : decode cL_law 126 = .ok (.iadd, 1) := by decide +kernel
theorem dL_law_127 : decode cL_law 127 = .ok (.iaload, 1) := by decide +kernel
theorem dL_law_128 : decode cL_law 128 = .ok (.aload_n 0, 1) := by decide +kernel
theorem dL_law_129 : decode cL_law 129 = .ok (.iload_n 3, 1) := by decide +kernel
theorem dL_law_130 : decode cL_law 130 = .ok (.iconst 4, 1) := by decide +kernel
theorem dL_law_131 : decode cL_law 131 = .ok (.iadd, 1) := by decide +kernel
theorem dL_law_132 : decode cL_law 132 = .ok (.iaload, 1) := by decide +kernel
theorem dL_law_133 : decode cL_law 133 = .ok (.invokevirtual 17, 3) := by decide +kernel
theorem dL_law_136 : decode cL_law 136 = .ok (.if_icmp .eq 378, 3) := by decide +kernel
theorem dL_law_139 : decode cL_law 139 = .ok (.iconst 0, 1) := by decide +kernel
theorem dL_law_140 : decode cL_law 140 = .ok (.ireturn, 1) := by decide +kernel
theorem dL_law_141 : decode cL_law 141 = .ok (.aload_n 1, 1) := by decide +kernel
theorem dL_law_142 : decode cL_law 142 = .ok (.aload_n 0, 1) := by decide +kernel
theorem dL_law_143 : decode cL_law 143 = .ok (.iload_n 3, 1) := by decide +kernel
theorem dL_law_144 : decode cL_law 144 = .ok (.iconst 1, 1) := by decide +kernel
theorem dL_law_145 : decode cL_law 145 = .ok (.iadd, 1) := by decide +kernel
theorem dL_law_146 : decode cL_law 146 = .ok (.iaload, 1) := by decide +kernel
theorem dL_law_147 : decode cL_law 147 = .ok (.aload_n 0, 1) := by decide +kernel
theorem dL_law_148 : decode cL_law 148 = .ok (.iload_n 3, 1) := by decide +kernel
theorem dL_law_149 : decode cL_law 149 = .ok (.iconst 2, 1) := by decide +kernel
theorem dL_law_150 : decode cL_law 150 = .ok (.iadd, 1) := by decide +kernel
theorem dL_law_151 : decode cL_law 151 = .ok (.iaload, 1) := by decide +kernel
theorem dL_law_152 : decode cL_law 152 = .ok (.aload_n 0, 1) := by decide +kernel
theorem dL_law_153 : decode cL_law 153 = .ok (.iload_n 3, 1) := by decide +kernel
theorem dL_law_154 : decode cL_law 154 = .ok (.iconst 3, 1) := by decide +kernel
theorem dL_law_155 : decode cL_law 155 = .ok (.iadd, 1) := by decide +kernel
theorem dL_law_156 : decode cL_law 156 = .ok (.iaload, 1) := by decide +kernel
theorem dL_law_157 : decode cL_law 157 = .ok (.invokevirtual 18, 3) := by decide +kernel
theorem dL_law_160 : decode cL_law 160 = .ok (.aload_n 2, 1) := by decide +kernel
theorem dL_law_161 : decode cL_law 161 = .ok (.aload_n 0, 1) := by decide +kernel
theorem dL_law_162 : decode cL_law 162 = .ok (.iload_n 3, 1) := by decide +kernel
theorem dL_law_163 : decode cL_law 163 = .ok (.iconst 1, 1) := by decide +kernel
theorem dL_law_164 : decode cL_law 164 = .ok (.iadd, 1) := by decide +kernel
theorem dL_law_165 : decode cL_law 165 = .ok (.iaload, 1) := by decide +kernel
theorem dL_law_166 : decode cL_law 166 = .ok (.aload_n 0, 1) := by decide +kernel
theorem dL_law_167 : decode cL_law 167 = .ok (.iload_n 3, 1) := by decide +kernel
theorem dL_law_168 : decode cL_law 168 = .ok (.iconst 2, 1) := by decide +kernel
theorem dL_law_169 : decode cL_law 169 = .ok (.iadd, 1) := by decide +kernel
theorem dL_law_170 : decode cL_law 170 = .ok (.iaload, 1) := by decide +kernel
theorem dL_law_171 : decode cL_law 171 = .ok (.aload_n 0, 1) := by decide +kernel
theorem dL_law_172 : decode cL_law 172 = .ok (.iload_n 3, 1) := by decide +kernel
theorem dL_law_173 : decode cL_law 173 = .ok (.iconst 3, 1) := by decide +kernel
theorem dL_law_174 : decode cL_law 174 = .ok (.iadd, 1) := by decide +kernel
theorem dL_law_175 : decode cL_law 175 = .ok (.iaload, 1) := by decide +kernel
theorem dL_law_176 : decode cL_law 176 = .ok (.invokevirtual 22, 3) := by decide +kernel
theorem dL_law_179 : decode cL_law 179 = .ok (.if_icmp .eq 335, 3) := by decide +kernel
theorem dL_law_182 : decode cL_law 182 = .ok (.iconst 0, 1) := by decide +kernel
theorem dL_law_183 : decode cL_law 183 = .ok (.ireturn, 1) := by decide +kernel
theorem dL_law_184 : decode cL_law 184 = .ok (.aload_n 1, 1) := by decide +kernel
theorem dL_law_185 : decode cL_law 185 = .ok (.aload_n 0, 1) := by decide +kernel
theorem dL_law_186 : decode cL_law 186 = .ok (.iload_n 3, 1) := by decide +kernel
theorem dL_law_187 : decode cL_law 187 = .ok (.iconst 1, 1) := by decide +kernel
theorem dL_law_188 : decode cL_law 188 = .ok (.iadd, 1) := by decide +kernel
theorem dL_law_189 : decode cL_law 189 = .ok (.iaload, 1) := by decide +kernel
theorem dL_law_190 : decode cL_law 190 = .ok (.aload_n 0, 1) := by decide +kernel
theorem dL_law_191 : decode cL_law 191 = .ok (.iload_n 3, 1) := by decide +kernel
theorem dL_law_192 : decode cL_law 192 = .ok (.iconst 2, 1) := by decide +kernel
theorem dL_law_193 : decode cL_law 193 = .ok (.iadd, 1) := by decide +kernel
theorem dL_law_194 : decode cL_law 194 = .ok (.iaload, 1) := by decide +kernel
theorem dL_law_195 : decode cL_law 195 = .ok (.invokevirtual 23, 3) := by decide +kernel
theorem dL_law_198 : decode cL_law 198 = .ok (.aload_n 2, 1) := by decide +kernel
theorem dL_law_199 : decode cL_law 199 = .ok (.aload_n 0, 1) := by decide +kernel
theorem dL_law_200 : decode cL_law 200 = .ok (.iload_n 3, 1) := by decide +kernel
theorem dL_law_201 : decode cL_law 201 = .ok (.iconst 1, 1) := by decide +kernel
theorem dL_law_202 : decode cL_law 202 = .ok (.iadd, 1) := by decide +kernel
theorem dL_law_203 : decode cL_law 203 = .ok (.iaload, 1) := by decide +kernel
theorem dL_law_204 : decode cL_law 204 = .ok (.aload_n 0, 1) := by decide +kernel
theorem dL_law_205 : decode cL_law 205 = .ok (.iload_n 3, 1) := by decide +kernel
theorem dL_law_206 : decode cL_law 206 = .ok (.iconst 2, 1) := by decide +kernel
theorem dL_law_207 : decode cL_law 207 = .ok (.iadd, 1) := by decide +kernel
theorem dL_law_208 : decode cL_law 208 = .ok (.iaload, 1) := by decide +kernel
theorem dL_law_209 : decode cL_law 209 = .ok (.invokevirtual 27, 3) := by decide +kernel
theorem dL_law_212 : decode cL_law 212 = .ok (.if_icmp .eq 302, 3) := by decide +kernel
theorem dL_law_215 : decode cL_law 215 = .ok (.iconst 0, 1) := by decide +kernel
theorem dL_law_216 : decode cL_law 216 = .ok (.ireturn, 1) := by decide +kernel
theorem dL_law_217 : decode cL_law 217 = .ok (.aload_n 1, 1) := by decide +kernel
theorem dL_law_218 : decode cL_law 218 = .ok (.aload_n 0, 1) := by decide +kernel
theorem dL_law_219 : decode cL_law 219 = .ok (.iload_n 3, 1) := by decide +kernel
theorem dL_law_220 : decode cL_law 220 = .ok (.iconst 1, 1) := by decide +kernel
theorem dL_law_221 : decode cL_law 221 = .ok (.iadd, 1) := by decide +kernel
theorem dL_law_222 : decode cL_law 222 = .ok (.iaload, 1) := by decide +kernel
theorem dL_law_223 : decode cL_law 223 = .ok (.aload_n 0, 1) := by decide +kernel
theorem dL_law_224 : decode cL_law 224 = .ok (.iload_n 3, 1) := by decide +kernel
theorem dL_law_225 : decode cL_law 225 = .ok (.iconst 2, 1) := by decide +kernel
theorem dL_law_226 : decode cL_law 226 = .ok (.iadd, 1) := by decide +kernel
theorem dL_law_227 : decode cL_law 227 = .ok (.iaload, 1) := by decide +kernel
theorem dL_law_228 : decode cL_law 228 = .ok (.aload_n 0, 1) := by decide +kernel
theorem dL_law_229 : decode cL_law 229 = .ok (.iload_n 3, 1) := by decide +kernel
theorem dL_law_230 : decode cL_law 230 = .ok (.iconst 3, 1) := by decide +kernel
theorem dL_law_231 : decode cL_law 231 = .ok (.iadd, 1) := by decide +kernel
theorem dL_law_232 : decode cL_law 232 = .ok (.iaload, 1) := by decide +kernel
theorem dL_law_233 : decode cL_law 233 = .ok (.aload_n 0, 1) := by decide +kernel
theorem dL_law_234 : decode cL_law 234 = .ok (.iload_n 3, 1) := by decide +kernel
theorem dL_law_235 : decode cL_law 235 = .ok (.iconst 4, 1) := by decide +kernel
theorem dL_law_236 : decode cL_law 236 = .ok (.iadd, 1) := by decide +kernel
theorem dL_law_237 : decode cL_law 237 = .ok (.iaload, 1) := by decide +kernel
theorem dL_law_238 : decode cL_law 238 = .ok (.invokevirtual 28, 3) := by decide +kernel
theorem dL_law_241 : decode cL_law 241 = .ok (.aload_n 2, 1) := by decide +kernel
theorem dL_law_242 : decode cL_law 242 = .ok (.aload_n 0, 1) := by decide +kernel
theorem dL_law_243 : decode cL_law 243 = .ok (.iload_n 3, 1) := by decide +kernel
theorem dL_law_244 : decode cL_law 244 = .ok (.iconst 1, 1) := by decide +kernel
theorem dL_law_245 : decode cL_law 245 = .ok (.iadd, 1) := by decide +kernel
theorem dL_law_246 : decode cL_law 246 = .ok (.iaload, 1) := by decide +kernel
theorem dL_law_247 : decode cL_law 247 = .ok (.aload_n 0, 1) := by decide +kernel
theorem dL_law_248 : decode cL_law 248 = .ok (.iload_n 3, 1) := by decide +kernel
theorem dL_law_249 : decode cL_law 249 = .ok (.iconst 2, 1) := by decide +kernel
theorem dL_law_250 : decode cL_law 250 = .ok (.iadd, 1) := by decide +kernel
theorem dL_law_251 : decode cL_law 251 = .ok (.iaload, 1) := by decide +kernel
theorem dL_law_252 : decode cL_law 252 = .ok (.aload_n 0, 1) := by decide +kernel
theorem dL_law_253 : decode cL_law 253 = .ok (.iload_n 3, 1) := by decide +kernel
theorem dL_law_254 : decode cL_law 254 = .ok (.iconst 3, 1) := by decide +kernel
theorem dL_law_255 : decode cL_law 255 = .ok (.iadd, 1) := by decide +kernel
theorem dL_law_256 : decode cL_law 256 = .ok (.iaload, 1) := by decide +kernel
theorem dL_law_257 : decode cL_law 257 = .ok (.aload_n 0, 1) := by decide +kernel
theorem dL_law_258 : decode cL_law 258 = .ok (.iload_n 3, 1) := by decide +kernel
theorem dL_law_259 : decode cL_law 259 = .ok (.iconst 4, 1) := by decide +kernel
theorem dL_law_260 : decode cL_law 260 = .ok (.iadd, 1) := by decide +kernel
theorem dL_law_261 : decode cL_law 261 = .ok (.iaload, 1) := by decide +kernel
theorem dL_law_262 : decode cL_law 262 = .ok (.invokevirtual 31, 3) := by decide +kernel
theorem dL_law_265 : decode cL_law 265 = .ok (.if_icmp .eq 249, 3) := by decide +kernel
theorem dL_law_268 : decode cL_law 268 = .ok (.iconst 0, 1) := by decide +kernel
theorem dL_law_269 : decode cL_law 269 = .ok (.ireturn, 1) := by decide +kernel
theorem dL_law_270 : decode cL_law 270 = .ok (.aload_n 1, 1) := by decide +kernel
theorem dL_law_271 : decode cL_law 271 = .ok (.aload_n 0, 1) := by decide +kernel
theorem dL_law_272 : decode cL_law 272 = .ok (.iload_n 3, 1) := by decide +kernel
theorem dL_law_273 : decode cL_law 273 = .ok (.iconst 1, 1) := by decide +kernel
theorem dL_law_274 : decode cL_law 274 = .ok (.iadd, 1) := by decide +kernel
theorem dL_law_275 : decode cL_law 275 = .ok (.iaload, 1) := by decide +kernel
theorem dL_law_276 : decode cL_law 276 = .ok (.aload_n 0, 1) := by decide +kernel
theorem dL_law_277 : decode cL_law 277 = .ok (.iload_n 3, 1) := by decide +kernel
theorem dL_law_278 : decode cL_law 278 = .ok (.iconst 2, 1) := by decide +kernel
theorem dL_law_279 : decode cL_law 279 = .ok (.iadd, 1) := by decide +kernel
theorem dL_law_280 : decode cL_law 280 = .ok (.iaload, 1) := by decide +kernel
theorem dL_law_281 : decode cL_law 281 = .ok (.aload_n 0, 1) := by decide +kernel
theorem dL_law_282 : decode cL_law 282 = .ok (.iload_n 3, 1) := by decide +kernel
theorem dL_law_283 : decode cL_law 283 = .ok (.iconst 3, 1) := by decide +kernel
theorem dL_law_284 : decode cL_law 284 = .ok (.iadd, 1) := by decide +kernel
theorem dL_law_285 : decode cL_law 285 = .ok (.iaload, 1) := by decide +kernel
theorem dL_law_286 : decode cL_law 286 = .ok (.aload_n 0, 1) := by decide +kernel
theorem dL_law_287 : decode cL_law 287 = .ok (.iload_n 3, 1) := by decide +kernel
theorem dL_law_288 : decode cL_law 288 = .ok (.iconst 4, 1) := by decide +kernel
theorem dL_law_289 : decode cL_law 289 = .ok (.iadd, 1) := by decide +kernel
theorem dL_law_290 : decode cL_law 290 = .ok (.iaload, 1) := by decide +kernel
theorem dL_law_291 : decode cL_law 291 = .ok (.ifCond .eq 7, 3) := by decide +kernel
theorem dL_law_294 : decode cL_law 294 = .ok (.iconst 1, 1) := by decide +kernel
theorem dL_law_295 : decode cL_law 295 = .ok (.goto 4, 3) := by decide +kernel
theorem dL_law_298 : decode cL_law 298 = .ok (.iconst 0, 1) := by decide +kernel
theorem dL_law_299 : decode cL_law 299 = .ok (.invokevirtual 32, 3) := by decide +kernel
theorem dL_law_302 : decode cL_law 302 = .ok (.aload_n 2, 1) := by decide +kernel
theorem dL_law_303 : decode cL_law 303 = .ok (.aload_n 0, 1) := by decide +kernel
theorem dL_law_304 : decode cL_law 304 = .ok (.iload_n 3, 1) := by decide +kernel
theorem dL_law_305 : decode cL_law 305 = .ok (.iconst 1, 1) := by decide +kernel
theorem dL_law_306 : decode cL_law 306 = .ok (.iadd, 1) := by decide +kernel
theorem dL_law_307 : decode cL_law 307 = .ok (.iaload, 1) := by decide +kernel
theorem dL_law_308 : decode cL_law 308 = .ok (.aload_n 0, 1) := by decide +kernel
theorem dL_law_309 : decode cL_law 309 = .ok (.iload_n 3, 1) := by decide +kernel
theorem dL_law_310 : decode cL_law 310 = .ok (.iconst 2, 1) := by decide +kernel
theorem dL_law_311 : decode cL_law 311 = .ok (.iadd, 1) := by decide +kernel
theorem dL_law_312 : decode cL_law 312 = .ok (.iaload, 1) := by decide +kernel
theorem dL_law_313 : decode cL_law 313 = .ok (.aload_n 0, 1) := by decide +kernel
theorem dL_law_314 : decode cL_law 314 = .ok (.iload_n 3, 1) := by decide +kernel
theorem dL_law_315 : decode cL_law 315 = .ok (.iconst 3, 1) := by decide +kernel
theorem dL_law_316 : decode cL_law 316 = .ok (.iadd, 1) := by decide +kernel
theorem dL_law_317 : decode cL_law 317 = .ok (.iaload, 1) := by decide +kernel
theorem dL_law_318 : decode cL_law 318 = .ok (.aload_n 0, 1) := by decide +kernel
theorem dL_law_319 : decode cL_law 319 = .ok (.iload_n 3, 1) := by decide +kernel
theorem dL_law_320 : decode cL_law 320 = .ok (.iconst 4, 1) := by decide +kernel
theorem dL_law_321 : decode cL_law 321 = .ok (.iadd, 1) := by decide +kernel
theorem dL_law_322 : decode cL_law 322 = .ok (.iaload, 1) := by decide +kernel
theorem dL_law_323 : decode cL_law 323 = .ok (.ifCond .eq 7, 3) := by decide +kernel
theorem dL_law_326 : decode cL_law 326 = .ok (.iconst 1, 1) := by decide +kernel
theorem dL_law_327 : decode cL_law 327 = .ok (.goto 4, 3) := by decide +kernel
theorem dL_law_330 : decode cL_law 330 = .ok (.iconst 0, 1) := by decide +kernel
theorem dL_law_331 : decode cL_law 331 = .ok (.invokevirtual 36, 3) := by decide +kernel
theorem dL_law_334 : decode cL_law 334 = .ok (.if_icmp .eq 180, 3) := by decide +kernel
theorem dL_law_337 : decode cL_law 337 = .ok (.iconst 0, 1) := by decide +kernel
theorem dL_law_338 : decode cL_law 338 = .ok (.ireturn, 1) := by decide +kernel
theorem dL_law_339 : decode cL_law 339 = .ok (.aload_n 1, 1) := by decide +kernel
theorem dL_law_340 : decode cL_law 340 = .ok (.aload_n 0, 1) := by decide +kernel
theorem dL_law_341 : decode cL_law 341 = .ok (.iload_n 3, 1) := by decide +kernel
theorem dL_law_342 : decode cL_law 342 = .ok (.iconst 1, 1) := by decide +kernel
theorem dL_law_343 : decode cL_law 343 = .ok (.iadd, 1) := by decide +kernel
theorem dL_law_344 : decode cL_law 344 = .ok (.iaload, 1) := by decide +kernel
theorem dL_law_345 : decode cL_law 345 = .ok (.aload_n 0, 1) := by decide +kernel
theorem dL_law_346 : decode cL_law 346 = .ok (.iload_n 3, 1) := by decide +kernel
theorem dL_law_347 : decode cL_law 347 = .ok (.iconst 2, 1) := by decide +kernel
theorem dL_law_348 : decode cL_law 348 = .ok (.iadd, 1) := by decide +kernel
theorem dL_law_349 : decode cL_law 349 = .ok (.iaload, 1) := by decide +kernel
theorem dL_law_350 : decode cL_law 350 = .ok (.aload_n 0, 1) := by decide +kernel
theorem dL_law_351 : decode cL_law 351 = .ok (.iload_n 3, 1) := by decide +kernel
theorem dL_law_352 : decode cL_law 352 = .ok (.iconst 3, 1) := by decide +kernel
theorem dL_law_353 : decode cL_law 353 = .ok (.iadd, 1) := by decide +kernel
theorem dL_law_354 : decode cL_law 354 = .ok (.iaload, 1) := by decide +kernel
theorem dL_law_355 : decode cL_law 355 = .ok (.invokevirtual 37, 3) := by decide +kernel
theorem dL_law_358 : decode cL_law 358 = .ok (.aload_n 2, 1) := by decide +kernel
theorem dL_law_359 : decode cL_law 359 = .ok (.aload_n 0, 1) := by decide +kernel
theorem dL_law_360 : decode cL_law 360 = .ok (.iload_n 3, 1) := by decide +kernel
theorem dL_law_361 : decode cL_law 361 = .ok (.iconst 1, 1) := by decide +kernel
theorem dL_law_362 : decode cL_law 362 = .ok (.iadd, 1) := by decide +kernel
theorem dL_law_363 : decode cL_law 363 = .ok (.iaload, 1) := by decide +kernel
theorem dL_law_364 : decode cL_law 364 = .ok (.aload_n 0, 1) := by decide +kernel
theorem dL_law_365 : decode cL_law 365 = .ok (.iload_n 3, 1) := by decide +kernel
theorem dL_law_366 : decode cL_law 366 = .ok (.iconst 2, 1) := by decide +kernel
theorem dL_law_367 : decode cL_law 367 = .ok (.iadd, 1) := by decide +kernel
theorem dL_law_368 : decode cL_law 368 = .ok (.iaload, 1) := by decide +kernel
theorem dL_law_369 : decode cL_law 369 = .ok (.aload_n 0, 1) := by decide +kernel
theorem dL_law_370 : decode cL_law 370 = .ok (.iload_n 3, 1) := by decide +kernel
theorem dL_law_371 : decode cL_law 371 = .ok (.iconst 3, 1) := by decide +kernel
theorem dL_law_372 : decode cL_law 372 = .ok (.iadd, 1) := by decide +kernel
theorem dL_law_373 : decode cL_law 373 = .ok (.iaload, 1) := by decide +kernel
theorem dL_law_374 : decode cL_law 374 = .ok (.invokevirtual 40, 3) := by decide +kernel
theorem dL_law_377 : decode cL_law 377 = .ok (.if_icmp .eq 137, 3) := by decide +kernel
theorem dL_law_380 : decode cL_law 380 = .ok (.iconst 0, 1) := by decide +kernel
theorem dL_law_381 : decode cL_law 381 = .ok (.ireturn, 1) := by decide +kernel
theorem dL_law_382 : decode cL_law 382 = .ok (.aload_n 1, 1) := by decide +kernel
theorem dL_law_383 : decode cL_law 383 = .ok (.aload_n 0, 1) := by decide +kernel
theorem dL_law_384 : decode cL_law 384 = .ok (.iload_n 3, 1) := by decide +kernel
theorem dL_law_385 : decode cL_law 385 = .ok (.iconst 1, 1) := by decide +kernel
theorem dL_law_386 : decode cL_law 386 = .ok (.iadd, 1) := by decide +kernel
theorem dL_law_387 : decode cL_law 387 = .ok (.iaload, 1) := by decide +kernel
theorem dL_law_388 : decode cL_law 388 = .ok (.aload_n 0, 1) := by decide +kernel
theorem dL_law_389 : decode cL_law 389 = .ok (.iload_n 3, 1) := by decide +kernel
theorem dL_law_390 : decode cL_law 390 = .ok (.iconst 2, 1) := by decide +kernel
theorem dL_law_391 : decode cL_law 391 = .ok (.iadd, 1) := by decide +kernel
theorem dL_law_392 : decode cL_law 392 = .ok (.iaload, 1) := by decide +kernel
theorem dL_law_393 : decode cL_law 393 = .ok (.invokevirtual 41, 3) := by decide +kernel
theorem dL_law_396 : decode cL_law 396 = .ok (.aload_n 2, 1) := by decide +kernel
theorem dL_law_397 : decode cL_law 397 = .ok (.aload_n 0, 1) := by decide +kernel
theorem dL_law_398 : decode cL_law 398 = .ok (.iload_n 3, 1) := by decide +kernel
theorem dL_law_399 : decode cL_law 399 = .ok (.iconst 1, 1) := by decide +kernel
theorem dL_law_400 : decode cL_law 400 = .ok (.iadd, 1) := by decide +kernel
theorem dL_law_401 : decode cL_law 401 = .ok (.iaload, 1) := by decide +kernel
theorem dL_law_402 : decode cL_law 402 = .ok (.aload_n 0, 1) := by decide +kernel
theorem dL_law_403 : decode cL_law 403 = .ok (.iload_n 3, 1) := by decide +kernel
theorem dL_law_404 : decode cL_law 404 = .ok (.iconst 2, 1) := by decide +kernel
theorem dL_law_405 : decode cL_law 405 = .ok (.iadd, 1) := by decide +kernel
theorem dL_law_406 : decode cL_law 406 = .ok (.iaload, 1) := by decide +kernel
theorem dL_law_407 : decode cL_law 407 = .ok (.invokevirtual 44, 3) := by decide +kernel
theorem dL_law_410 : decode cL_law 410 = .ok (.if_icmp .eq 104, 3) := by decide +kernel
theorem dL_law_413 : decode cL_law 413 = .ok (.iconst 0, 1) := by decide +kernel
theorem dL_law_414 : decode cL_law 414 = .ok (.ireturn, 1) := by decide +kernel
theorem dL_law_415 : decode cL_law 415 = .ok (.aload_n 1, 1) := by decide +kernel
theorem dL_law_416 : decode cL_law 416 = .ok (.aload_n 0, 1) := by decide +kernel
theorem dL_law_417 : decode cL_law 417 = .ok (.iload_n 3, 1) := by decide +kernel
theorem dL_law_418 : decode cL_law 418 = .ok (.iconst 1, 1) := by decide +kernel
theorem dL_law_419 : decode cL_law 419 = .ok (.iadd, 1) := by decide +kernel
theorem dL_law_420 : decode cL_law 420 = .ok (.iaload, 1) := by decide +kernel
theorem dL_law_421 : decode cL_law 421 = .ok (.invokevirtual 45, 3) := by decide +kernel
theorem dL_law_424 : decode cL_law 424 = .ok (.aload_n 2, 1) := by decide +kernel
theorem dL_law_425 : decode cL_law 425 = .ok (.aload_n 0, 1) := by decide +kernel
theorem dL_law_426 : decode cL_law 426 = .ok (.iload_n 3, 1) := by decide +kernel
theorem dL_law_427 : decode cL_law 427 = .ok (.iconst 1, 1) := by decide +kernel
theorem dL_law_428 : decode cL_law 428 = .ok (.iadd, 1) := by decide +kernel
theorem dL_law_429 : decode cL_law 429 = .ok (.iaload, 1) := by decide +kernel
theorem dL_law_430 : decode cL_law 430 = .ok (.invokevirtual 49, 3) := by decide +kernel
theorem dL_law_433 : decode cL_law 433 = .ok (.if_icmp .eq 81, 3) := by decide +kernel
theorem dL_law_436 : decode cL_law 436 = .ok (.iconst 0, 1) := by decide +kernel
theorem dL_law_437 : decode cL_law 437 = .ok (.ireturn, 1) := by decide +kernel
theorem dL_law_438 : decode cL_law 438 = .ok (.aload_n 1, 1) := by decide +kernel
theorem dL_law_439 : decode cL_law 439 = .ok (.aload_n 0, 1) := by decide +kernel
theorem dL_law_440 : decode cL_law 440 = .ok (.iload_n 3, 1) := by decide +kernel
theorem dL_law_441 : decode cL_law 441 = .ok (.iconst 1, 1) := by decide +kernel
theorem dL_law_442 : decode cL_law 442 = .ok (.iadd, 1) := by decide +kernel
theorem dL_law_443 : decode cL_law 443 = .ok (.iaload, 1) := by decide +kernel
theorem dL_law_444 : decode cL_law 444 = .ok (.aload_n 0, 1) := by decide +kernel
theorem dL_law_445 : decode cL_law 445 = .ok (.iload_n 3, 1) := by decide +kernel
theorem dL_law_446 : decode cL_law 446 = .ok (.iconst 2, 1) := by decide +kernel
theorem dL_law_447 : decode cL_law 447 = .ok (.iadd, 1) := by decide +kernel
theorem dL_law_448 : decode cL_law 448 = .ok (.iaload, 1) := by decide +kernel
theorem dL_law_449 : decode cL_law 449 = .ok (.aload_n 0, 1) := by decide +kernel
theorem dL_law_450 : decode cL_law 450 = .ok (.iload_n 3, 1) := by decide +kernel
theorem dL_law_451 : decode cL_law 451 = .ok (.iconst 3, 1) := by decide +kernel
theorem dL_law_452 : decode cL_law 452 = .ok (.iadd, 1) := by decide +kernel
theorem dL_law_453 : decode cL_law 453 = .ok (.iaload, 1) := by decide +kernel
theorem dL_law_454 : decode cL_law 454 = .ok (.invokevirtual 50, 3) := by decide +kernel
theorem dL_law_457 : decode cL_law 457 = .ok (.aload_n 2, 1) := by decide +kernel
theorem dL_law_458 : decode cL_law 458 = .ok (.aload_n 0, 1) := by decide +kernel
theorem dL_law_459 : decode cL_law 459 = .ok (.iload_n 3, 1) := by decide +kernel
theorem dL_law_460 : decode cL_law 460 = .ok (.iconst 1, 1) := by decide +kernel
theorem dL_law_461 : decode cL_law 461 = .ok (.iadd, 1) := by decide +kernel
theorem dL_law_462 : decode cL_law 462 = .ok (.iaload, 1) := by decide +kernel
theorem dL_law_463 : decode cL_law 463 = .ok (.aload_n 0, 1) := by decide +kernel
theorem dL_law_464 : decode cL_law 464 = .ok (.iload_n 3, 1) := by decide +kernel
theorem dL_law_465 : decode cL_law 465 = .ok (.iconst 2, 1) := by decide +kernel
theorem dL_law_466 : decode cL_law 466 = .ok (.iadd, 1) := by decide +kernel
theorem dL_law_467 : decode cL_law 467 = .ok (.iaload, 1) := by decide +kernel
theorem dL_law_468 : decode cL_law 468 = .ok (.aload_n 0, 1) := by decide +kernel
theorem dL_law_469 : decode cL_law 469 = .ok (.iload_n 3, 1) := by decide +kernel
theorem dL_law_470 : decode cL_law 470 = .ok (.iconst 3, 1) := by decide +kernel
theorem dL_law_471 : decode cL_law 471 = .ok (.iadd, 1) := by decide +kernel
theorem dL_law_472 : decode cL_law 472 = .ok (.iaload, 1) := by decide +kernel
theorem dL_law_473 : decode cL_law 473 = .ok (.invokevirtual 53, 3) := by decide +kernel
theorem dL_law_476 : decode cL_law 476 = .ok (.if_icmp .eq 38, 3) := by decide +kernel
theorem dL_law_479 : decode cL_law 479 = .ok (.iconst 0, 1) := by decide +kernel
theorem dL_law_480 : decode cL_law 480 = .ok (.ireturn, 1) := by decide +kernel
theorem dL_law_481 : decode cL_law 481 = .ok (.aload_n 1, 1) := by decide +kernel
theorem dL_law_482 : decode cL_law 482 = .ok (.aload_n 0, 1) := by decide +kernel
theorem dL_law_483 : decode cL_law 483 = .ok (.iload_n 3, 1) := by decide +kernel
theorem dL_law_484 : decode cL_law 484 = .ok (.iconst 1, 1) := by decide +kernel
theorem dL_law_485 : decode cL_law 485 = .ok (.iadd, 1) := by decide +kernel
theorem dL_law_486 : decode cL_law 486 = .ok (.iaload, 1) := by decide +kernel
theorem dL_law_487 : decode cL_law 487 = .ok (.aload_n 0, 1) := by decide +kernel
theorem dL_law_488 : decode cL_law 488 = .ok (.iload_n 3, 1) := by decide +kernel
theorem dL_law_489 : decode cL_law 489 = .ok (.iconst 2, 1) := by decide +kernel
theorem dL_law_490 : decode cL_law 490 = .ok (.iadd, 1) := by decide +kernel
theorem dL_law_491 : decode cL_law 491 = .ok (.iaload, 1) := by decide +kernel
theorem dL_law_492 : decode cL_law 492 = .ok (.invokevirtual 54, 3) := by decide +kernel
theorem dL_law_495 : decode cL_law 495 = .ok (.aload_n 2, 1) := by decide +kernel
theorem dL_law_496 : decode cL_law 496 = .ok (.aload_n 0, 1) := by decide +kernel
theorem dL_law_497 : decode cL_law 497 = .ok (.iload_n 3, 1) := by decide +kernel
theorem dL_law_498 : decode cL_law 498 = .ok (.iconst 1, 1) := by decide +kernel
theorem dL_law_499 : decode cL_law 499 = .ok (.iadd, 1) := by decide +kernel
theorem dL_law_500 : decode cL_law 500 = .ok (.iaload, 1) := by decide +kernel
theorem dL_law_501 : decode cL_law 501 = .ok (.aload_n 0, 1) := by decide +kernel
theorem dL_law_502 : decode cL_law 502 = .ok (.iload_n 3, 1) := by decide +kernel
theorem dL_law_503 : decode cL_law 503 = .ok (.iconst 2, 1) := by decide +kernel
theorem dL_law_504 : decode cL_law 504 = .ok (.iadd, 1) := by decide +kernel
theorem dL_law_505 : decode cL_law 505 = .ok (.iaload, 1) := by decide +kernel
theorem dL_law_506 : decode cL_law 506 = .ok (.invokevirtual 57, 3) := by decide +kernel
theorem dL_law_509 : decode cL_law 509 = .ok (.if_icmp .eq 5, 3) := by decide +kernel
theorem dL_law_512 : decode cL_law 512 = .ok (.iconst 0, 1) := by decide +kernel
theorem dL_law_513 : decode cL_law 513 = .ok (.ireturn, 1) := by decide +kernel
theorem dL_law_514 : decode cL_law 514 = .ok (.iinc 3 5, 3) := by decide +kernel
theorem dL_law_517 : decode cL_law 517 = .ok (.goto (-499), 3) := by decide +kernel
theorem dL_law_520 : decode cL_law 520 = .ok (.iconst 1, 1) := by decide +kernel
theorem dL_law_521 : decode cL_law 521 = .ok (.ireturn, 1) := by decide +kernel

theorem q42 : (Jvm.Cond.arrayClass Jvm.ClassFile.FieldType.int) ∈ lw_all := lw_g (lw_at lw_m0 33 rfl) rfl
set_option maxRecDepth 100000
theorem q43 : (Jvm.Cond.arrayClass Jvm.ClassFile.FieldType.boolean) ∈ lw_all := lw_g (lw_at lw_m0 34 rfl) rfl
theorem q9 : (Jvm.Cond.initialized "ShadowPagesLaw") ∈ lw_all := lw_g (lw_at lw_m0 0 rfl) rfl
set_option maxRecDepth 100000
theorem q12 : (Jvm.Cond.classLink "ShadowPagesLaw" (7 : Nat) "ShadowPages") ∈ lw_all := lw_g (lw_at lw_m0 3 rfl) rfl
theorem q14 : (Jvm.Cond.methodLink "ShadowPagesLaw" (9 : Nat) ({ cls := "ShadowPages", name := "<init>", desc := "()V" } : Jvm.MethodName)) ∈ lw_all := lw_g (lw_at lw_m0 5 rfl) rfl
theorem q44 : (Jvm.Cond.methodLink "ShadowPagesLaw" (13 : Nat) ({ cls := "ShadowPages", name := "write", desc := "(IIII)I" } : Jvm.MethodName)) ∈ lw_all := lw_g (lw_at lw_m0 35 rfl) rfl
theorem q71 : (Jvm.Cond.methodLink "ShadowPagesLaw" (18 : Nat) ({ cls := "ShadowPages", name := "read", desc := "(III)I" } : Jvm.MethodName)) ∈ lw_all := lw_g (lw_at lw_m0 62 rfl) rfl
theorem q79 : (Jvm.Cond.methodLink "ShadowPagesLaw" (23 : Nat) ({ cls := "ShadowPages", name := "fork", desc := "(II)I" } : Jvm.MethodName)) ∈ lw_all := lw_g (lw_at lw_m0 70 rfl) rfl
theorem q87 : (Jvm.Cond.methodLink "ShadowPagesLaw" (28 : Nat) ({ cls := "ShadowPages", name := "pack", desc := "(IIII)I" } : Jvm.MethodName)) ∈ lw_all := lw_g (lw_at lw_m0 78 rfl) rfl
theorem q91 : (Jvm.Cond.methodLink "ShadowPagesLaw" (32 : Nat) ({ cls := "ShadowPages", name := "unpack", desc := "(IIIZ)I" } : Jvm.MethodName)) ∈ lw_all := lw_g (lw_at lw_m0 82 rfl) rfl
theorem q95 : (Jvm.Cond.methodLink "ShadowPagesLaw" (37 : Nat) ({ cls := "ShadowPages", name := "exchange", desc := "(III)I" } : Jvm.MethodName)) ∈ lw_all := lw_g (lw_at lw_m0 86 rfl) rfl
theorem q99 : (Jvm.Cond.methodLink "ShadowPagesLaw" (41 : Nat) ({ cls := "ShadowPages", name := "clear", desc := "(II)I" } : Jvm.MethodName)) ∈ lw_all := lw_g (lw_at lw_m0 90 rfl) rfl
theorem q103 : (Jvm.Cond.methodLink "ShadowPagesLaw" (45 : Nat) ({ cls := "ShadowPages", name := "size", desc := "(I)I" } : Jvm.MethodName)) ∈ lw_all := lw_g (lw_at lw_m0 94 rfl) rfl
theorem q107 : (Jvm.Cond.methodLink "ShadowPagesLaw" (50 : Nat) ({ cls := "ShadowPages", name := "peek", desc := "(III)I" } : Jvm.MethodName)) ∈ lw_all := lw_g (lw_at lw_m0 98 rfl) rfl
theorem q111 : (Jvm.Cond.methodLink "ShadowPagesLaw" (54 : Nat) ({ cls := "ShadowPages", name := "alike", desc := "(II)I" } : Jvm.MethodName)) ∈ lw_all := lw_g (lw_at lw_m0 102 rfl) rfl
theorem q119 : (Jvm.Cond.classLink "ShadowPagesLaw" (10 : Nat) "ShadowPagesModel") ∈ lw_all := lw_g (lw_at lw_m0 110 rfl) rfl
theorem q121 : (Jvm.Cond.methodLink "ShadowPagesLaw" (12 : Nat) ({ cls := "ShadowPagesModel", name := "<init>", desc := "()V" } : Jvm.MethodName)) ∈ lw_all := lw_g (lw_at lw_m0 112 rfl) rfl
theorem q132 : (Jvm.Cond.methodLink "ShadowPagesLaw" (17 : Nat) ({ cls := "ShadowPagesModel", name := "write", desc := "(IIII)I" } : Jvm.MethodName)) ∈ lw_all := lw_g (lw_at lw_m0 123 rfl) rfl
theorem q142 : (Jvm.Cond.methodLink "ShadowPagesLaw" (22 : Nat) ({ cls := "ShadowPagesModel", name := "read", desc := "(III)I" } : Jvm.MethodName)) ∈ lw_all := lw_g (lw_at lw_m0 133 rfl) rfl
theorem q146 : (Jvm.Cond.methodLink "ShadowPagesLaw" (27 : Nat) ({ cls := "ShadowPagesModel", name := "fork", desc := "(II)I" } : Jvm.MethodName)) ∈ lw_all := lw_g (lw_at lw_m0 137 rfl) rfl
theorem q154 : (Jvm.Cond.methodLink "ShadowPagesLaw" (31 : Nat) ({ cls := "ShadowPagesModel", name := "pack", desc := "(IIII)I" } : Jvm.MethodName)) ∈ lw_all := lw_g (lw_at lw_m0 145 rfl) rfl
theorem q158 : (Jvm.Cond.methodLink "ShadowPagesLaw" (36 : Nat) ({ cls := "ShadowPagesModel", name := "unpack", desc := "(IIIZ)I" } : Jvm.MethodName)) ∈ lw_all := lw_g (lw_at lw_m0 149 rfl) rfl
theorem q162 : (Jvm.Cond.methodLink "ShadowPagesLaw" (40 : Nat) ({ cls := "ShadowPagesModel", name := "exchange", desc := "(III)I" } : Jvm.MethodName)) ∈ lw_all := lw_g (lw_at lw_m0 153 rfl) rfl
theorem q166 : (Jvm.Cond.methodLink "ShadowPagesLaw" (44 : Nat) ({ cls := "ShadowPagesModel", name := "clear", desc := "(II)I" } : Jvm.MethodName)) ∈ lw_all := lw_g (lw_at lw_m0 157 rfl) rfl
theorem q170 : (Jvm.Cond.methodLink "ShadowPagesLaw" (49 : Nat) ({ cls := "ShadowPagesModel", name := "size", desc := "(I)I" } : Jvm.MethodName)) ∈ lw_all := lw_g (lw_at lw_m0 161 rfl) rfl
theorem q174 : (Jvm.Cond.methodLink "ShadowPagesLaw" (53 : Nat) ({ cls := "ShadowPagesModel", name := "peek", desc := "(III)I" } : Jvm.MethodName)) ∈ lw_all := lw_g (lw_at lw_m0 165 rfl) rfl
theorem q178 : (Jvm.Cond.methodLink "ShadowPagesLaw" (57 : Nat) ({ cls := "ShadowPagesModel", name := "alike", desc := "(II)I" } : Jvm.MethodName)) ∈ lw_all := lw_g (lw_at lw_m0 169 rfl) rfl
end
section
def fb_ct (p : Nat → Bool) : Nat → Nat
  | 0 => 0
  | n + 1 => fb_ct p n + (if p n then 1 else 0)
theorem fb_ct_succ (p : Nat → Bool) (n : Nat) : fb_ct p (n + 1) = fb_ct p n + (if p n then 1 else 0) := rfl
theorem fb_ct_le (p : Nat → Bool) : ∀ n, fb_ct p n ≤ n
  | 0 => Nat.le_refl _
  | n + 1 => by
    have h := fb_ct_le p n
    rw [fb_ct_succ]
    split <;> omega
theorem fb_ct_step (p : Nat → Bool) (m : Nat) : ∀ n, fb_ct p m ≤ fb_ct p (m + n)
  | 0 => Nat.le_refl _
  | n + 1 => by
    have h := fb_ct_step p m n
    show fb_ct p m ≤ fb_ct p (m + n + 1)
    rw [fb_ct_succ]
    omega
theorem fb_ct_mono (p : Nat → Bool) {m n : Nat} (h : m ≤ n) : fb_ct p m ≤ fb_ct p n := by
  have := fb_ct_step p m (n - m)
  rwa [Nat.add_sub_cancel' h] at this
theorem fb_ct_cong {p q : Nat → Bool} : ∀ {n : Nat}, (∀ k, k < n → p k = q k) → fb_ct p n = fb_ct q n
  | 0, _ => rfl
  | n + 1, h => by
    rw [fb_ct_succ, fb_ct_succ, fb_ct_cong (fun k hk => h k (by omega)), h n (by omega)]
/-- one place changed -/
theorem fb_ct_out (p : Nat → Bool) (b : Bool) {i n : Nat} (h : n ≤ i) : fb_ct (fun k => if k = i then b else p k) n = fb_ct p n :=
  fb_ct_cong fun k hk => if_neg (by omega)
theorem fb_ct_upd (p : Nat → Bool) (b : Bool) {i : Nat} : ∀ {n : Nat}, i < n → fb_ct (fun k => if k = i then b else p k) n + (if p i then 1 else 0) = fb_ct p n + (if b then 1 else 0)
  | 0, h => absurd h (Nat.not_lt_zero i)
  | n + 1, h => by
    rw [fb_ct_succ, fb_ct_succ]
    rcases Nat.lt_or_ge i n with q | q
    · have := fb_ct_upd p b q
      have e : (if n = i then b else p n) = p n := if_neg (by omega)
      rw [e]
      omega
    · have e : i = n := by omega
      subst e
      rw [fb_ct_out p b (Nat.le_refl _)]
      simp only [if_true]
      omega
theorem fb_ct_sub {p q : Nat → Bool} : ∀ {n : Nat}, (∀ k, k < n → p k = true → q k = true) → fb_ct p n ≤ fb_ct q n
  | 0, _ => Nat.le_refl _
  | n + 1, h => by
    have h1 := fb_ct_sub (n := n) (p := p) (q := q) (fun k hk => h k (by omega))
    have h2 := h n (by omega)
    rw [fb_ct_succ, fb_ct_succ]
    cases hp : p n <;> cases hq : q n <;> simp_all <;> omega
theorem fb_ct_or {p q : Nat → Bool} : ∀ {n : Nat}, (∀ k, k < n → ¬ (p k = true ∧ q k = true)) → fb_ct (fun k => p k || q k) n = fb_ct p n + fb_ct q n
  | 0, _ => rfl
  | n + 1, h => by
    have h1 := fb_ct_or (n := n) (p := p) (q := q) (fun k hk => h k (by omega))
    have h2 := h n (by omega)
    rw [fb_ct_succ, fb_ct_succ, fb_ct_succ, h1]
    cases hp : p n <;> cases hq : q n <;> simp_all <;> omega
theorem fb_ct_not (p : Nat → Bool) : ∀ n, fb_ct p n + fb_ct (fun k => !p k) n = n
  | 0 => rfl
  | n + 1 => by
    have h := fb_ct_not p n
    rw [fb_ct_succ, fb_ct_succ]
    cases p n <;> simp <;> omega
theorem fb_ct_split (p : Nat → Bool) (m : Nat) : ∀ n, fb_ct p (m + n) = fb_ct p m + fb_ct (fun k => p (m + k)) n
  | 0 => rfl
  | n + 1 => by
    have h := fb_ct_split p m n
    show fb_ct p (m + n + 1) = _
    rw [fb_ct_succ, fb_ct_succ, h, Nat.add_assoc]
theorem fb_ct_zero {p : Nat → Bool} : ∀ {n : Nat}, fb_ct p n = 0 ↔ ∀ k, k < n → p k = false
  | 0 => ⟨fun _ k hk => absurd hk (Nat.not_lt_zero k), fun _ => rfl⟩
  | n + 1 => by
    have h := fb_ct_zero (p := p) (n := n)
    rw [fb_ct_succ]
    constructor
    · intro e k hk
      have e1 : fb_ct p n = 0 := by omega
      rcases Nat.lt_or_ge k n with q | q
      · exact h.mp e1 k q
      · have ek : k = n := by omega
        subst ek
        cases hp : p k
        · rfl
        · simp [hp] at e
    · intro a
      rw [h.mpr (fun k hk => a k (by omega)), a n (by omega)]
      rfl
theorem fb_ct_pos {p : Nat → Bool} {n : Nat} : 0 < fb_ct p n ↔ ∃ k, k < n ∧ p k = true := by
  constructor
  · intro h
    refine Classical.byContradiction fun hx => ?_
    have := fb_ct_zero.mpr (fun k hk => by
      cases hp : p k
      · rfl
      · exact absurd ⟨k, hk, hp⟩ hx : ∀ k, k < n → p k = false)
    omega
  · rintro ⟨k, hk, hp⟩
    rcases Nat.eq_zero_or_pos (fb_ct p n) with e | e
    · have := fb_ct_zero.mp e k hk
      rw [this] at hp
      cases hp
    · exact e
theorem fb_ct_all {p : Nat → Bool} {n : Nat} : fb_ct p n = n ↔ ∀ k, k < n → p k = true := by
  have h := fb_ct_not p n
  constructor
  · intro e k hk
    have z : fb_ct (fun k => !p k) n = 0 := by omega
    have := fb_ct_zero.mp z k hk
    cases hp : p k
    · simp [hp] at this
    · rfl
  · intro a
    have z : fb_ct (fun k => !p k) n = 0 := fb_ct_zero.mpr (fun k hk => by simp [a k hk])
    omega
/-- the k-th place with the property -/
theorem fb_ct_kth {p : Nat → Bool} {k : Nat} : ∀ {n : Nat}, k < fb_ct p n → ∃ i, i < n ∧ p i = true ∧ fb_ct p i = k
  | 0, h => absurd h (Nat.not_lt_zero k)
  | n + 1, h => by
    rcases Nat.lt_or_ge k (fb_ct p n) with q | q
    · obtain ⟨i, h1, h2⟩ := fb_ct_kth q
      exact ⟨i, by omega, h2⟩
    · rw [fb_ct_succ] at h
      cases hp : p n
      · simp [hp] at h; omega
      · simp [hp] at h
        exact ⟨n, by omega, hp, by omega⟩
theorem fb_ct_kth_one {p : Nat → Bool} {i j : Nat} (hi : p i = true) (hj : p j = true) (e : fb_ct p i = fb_ct p j) : i = j := by
  have key : ∀ a b : Nat, a < b → p a = true → fb_ct p a < fb_ct p b := by
    intro a b hab ha
    have h := fb_ct_mono p (show a + 1 ≤ b from hab)
    rw [fb_ct_succ, ha] at h
    simp at h
    omega
  rcases Nat.lt_trichotomy i j with q | q | q
  · have := key i j q hi; omega
  · exact q
  · have := key j i q hj; omega
def fb_sm (f : Nat → Nat) : Nat → Nat
  | 0 => 0
  | n + 1 => fb_sm f n + f n
theorem fb_sm_succ (f : Nat → Nat) (n : Nat) : fb_sm f (n + 1) = fb_sm f n + f n := rfl
theorem fb_sm_cong {f g : Nat → Nat} : ∀ {n : Nat}, (∀ k, k < n → f k = g k) → fb_sm f n = fb_sm g n
  | 0, _ => rfl
  | n + 1, h => by rw [fb_sm_succ, fb_sm_succ, fb_sm_cong (fun k hk => h k (by omega)), h n (by omega)]
theorem fb_sm_out (f : Nat → Nat) (v : Nat) {i n : Nat} (h : n ≤ i) : fb_sm (fun k => if k = i then v else f k) n = fb_sm f n :=
  fb_sm_cong fun k hk => if_neg (by omega)
theorem fb_sm_upd (f : Nat → Nat) (v : Nat) {i : Nat} : ∀ {n : Nat}, i < n → fb_sm (fun k => if k = i then v else f k) n + f i = fb_sm f n + v
  | 0, h => absurd h (Nat.not_lt_zero i)
  | n + 1, h => by
    rw [fb_sm_succ, fb_sm_succ]
    rcases Nat.lt_or_ge i n with q | q
    · have := fb_sm_upd f v q
      have e : (if n = i then v else f n) = f n := if_neg (by omega)
      rw [e]
      omega
    · have e : i = n := by omega
      subst e
      rw [fb_sm_out f v (Nat.le_refl _)]
      simp only [if_true]
      omega
theorem fb_sm_add (f g : Nat → Nat) : ∀ n, fb_sm (fun k => f k + g k) n = fb_sm f n + fb_sm g n
  | 0 => rfl
  | n + 1 => by
    have h := fb_sm_add f g n
    rw [fb_sm_succ, fb_sm_succ, fb_sm_succ, h]
    omega
theorem fb_sm_le {f g : Nat → Nat} : ∀ {n : Nat}, (∀ k, k < n → f k ≤ g k) → fb_sm f n ≤ fb_sm g n
  | 0, _ => Nat.le_refl _
  | n + 1, h => by
    have h1 := fb_sm_le (n := n) (f := f) (g := g) (fun k hk => h k (by omega))
    have h2 := h n (by omega)
    rw [fb_sm_succ, fb_sm_succ]
    omega
theorem fb_sm_const (c : Nat) : ∀ n, fb_sm (fun _ => c) n = n * c
  | 0 => by rw [Nat.zero_mul]; rfl
  | n + 1 => by rw [fb_sm_succ, fb_sm_const c n, Nat.succ_mul]
theorem fb_sm_bound {f : Nat → Nat} {c n : Nat} (h : ∀ k, k < n → f k ≤ c) : fb_sm f n ≤ n * c := by
  rw [← fb_sm_const c n]
  exact fb_sm_le h
theorem fb_sm_mono (f : Nat → Nat) (m : Nat) : ∀ n, fb_sm f m ≤ fb_sm f (m + n)
  | 0 => Nat.le_refl _
  | n + 1 => by
    have h := fb_sm_mono f m n
    show fb_sm f m ≤ fb_sm f (m + n + 1)
    rw [fb_sm_succ]
    omega
theorem fb_sm_part (f : Nat → Nat) {i n : Nat} (h : i < n) : fb_sm f i + f i ≤ fb_sm f n := by
  have := fb_sm_mono f (i + 1) (n - (i + 1))
  rw [fb_sm_succ, show i + 1 + (n - (i + 1)) = n by omega] at this
  exact this
theorem fb_sm_split (f : Nat → Nat) (m : Nat) : ∀ n, fb_sm f (m + n) = fb_sm f m + fb_sm (fun k => f (m + k)) n
  | 0 => rfl
  | n + 1 => by
    have h := fb_sm_split f m n
    show fb_sm f (m + n + 1) = _
    rw [fb_sm_succ, fb_sm_succ, h, Nat.add_assoc]
theorem fb_sm_zero {f : Nat → Nat} {n : Nat} (h : fb_sm f n = 0) : ∀ k, k < n → f k = 0 := fun k hk => by
  have := fb_sm_part f hk
  omega
/-- the same over whole numbers -/
theorem fb_bit_set (n j i : Nat) : (n ||| 2 ^ j).testBit i = (n.testBit i || decide (i = j)) := by
  rw [Nat.testBit_or]
  by_cases h : j = i
  · subst h; simp
  · have h2 : ¬ i = j := fun e => h e.symm
    first | (simp [Nat.testBit_two_pow, h, h2]; done) | (simp [Nat.testBit_two_pow_of_ne h, h2]; done)
def fb_put {α : Type} (f g : Nat → α) (a n : Nat) : Nat → α := fun k => if a ≤ k ∧ k < a + n then g (k - a) else f k
theorem fb_put_0 {α : Type} (f g : Nat → α) (a : Nat) : fb_put f g a 0 = f := funext fun k => if_neg (by omega)
theorem fb_put_in {α : Type} {f g : Nat → α} {a n k : Nat} (h1 : a ≤ k) (h2 : k < a + n) : fb_put f g a n k = g (k - a) := if_pos ⟨h1, h2⟩
theorem fb_put_out {α : Type} {f g : Nat → α} {a n k : Nat} (h : k < a ∨ a + n ≤ k) : fb_put f g a n k = f k := if_neg (by omega)
theorem fb_put_succ (f g : Nat → Int32) (a n : Nat) : upd (fb_put f g a n) (a + n) (g n) = fb_put f g a (n + 1) := by
  funext k
  by_cases h : k = a + n
  · subst h
    simp [upd, fb_put]
  · by_cases h1 : a ≤ k ∧ k < a + n
    · have h2 : a ≤ k ∧ k < a + (n + 1) := by omega
      simp only [upd, fb_put, if_neg h, if_pos h1, if_pos h2]
    · have h2 : ¬ (a ≤ k ∧ k < a + (n + 1)) := by omega
      simp only [upd, fb_put, if_neg h, if_neg h1, if_neg h2]
/-- .. from the far end down -/
theorem fb_put_down (f g : Nat → Int32) {a n m : Nat} (h : m < n) : upd (fb_put f (fun k => g (k + (m + 1))) (a + (m + 1)) (n - (m + 1))) (a + m) (g m) = fb_put f (fun k => g (k + m)) (a + m) (n - m) := by
  funext k
  by_cases h0 : k = a + m
  · subst h0
    simp only [upd, if_true]
    rw [fb_put_in (by omega) (by omega)]
    exact congrArg g (by omega)
  · simp only [upd, if_neg h0]
    by_cases h1 : a + (m + 1) ≤ k ∧ k < a + (m + 1) + (n - (m + 1))
    · rw [fb_put_in h1.1 h1.2, fb_put_in (by omega) (by omega)]
      exact congrArg g (by omega)
    · rw [fb_put_out (by omega), fb_put_out (by omega)]
theorem fb_put_cong {α : Type} {f f2 g g2 : Nat → α} {a n : Nat} (hf : ∀ k, (k < a ∨ a + n ≤ k) → f k = f2 k) (hg : ∀ k, k < n → g k = g2 k) : fb_put f g a n = fb_put f2 g2 a n := by
  funext k
  by_cases h : a ≤ k ∧ k < a + n
  · rw [fb_put_in h.1 h.2, fb_put_in h.1 h.2, hg _ (by omega)]
  · rw [fb_put_out (by omega), fb_put_out (by omega), hf _ (by omega)]
theorem nx_and (a b : Nat) : nI a &&& nI b = nI (a &&& b) := by
  apply Int32.toBitVec_inj.1
  show BitVec.ofNat 32 a &&& BitVec.ofNat 32 b = BitVec.ofNat 32 (a &&& b)
  apply BitVec.eq_of_getLsbD_eq
  intro i hi
  simp [hi]
theorem nx_xor (a b : Nat) : nI a ^^^ nI b = nI (a ^^^ b) := by
  apply Int32.toBitVec_inj.1
  show BitVec.ofNat 32 a ^^^ BitVec.ofNat 32 b = BitVec.ofNat 32 (a ^^^ b)
  apply BitVec.eq_of_getLsbD_eq
  intro i hi
  simp [hi]
theorem nx_cnt : ∀ j : Fin 32, (UInt32.ofNat j.val &&& Int32.toUInt32 31).toNat % 32 = j.val := by decide +kernel
theorem nx_ush {k j : Nat} (hk : k < 65536) (hj : j < 32) : ((nI k).toUInt32 >>> ((nI j).toUInt32 &&& Int32.toUInt32 31)).toInt32 = nI (k >>> j) := by
  have hs : k >>> j ≤ k := by
    rw [Nat.shiftRight_eq_div_pow]
    exact Nat.div_le_self _ _
  have e2 : UInt32.ofNat k >>> (UInt32.ofNat j &&& Int32.toUInt32 31) = UInt32.ofNat (k >>> j) := by
    apply UInt32.toNat_inj.1
    have h1 : (UInt32.ofNat k).toNat = k := Nat.mod_eq_of_lt (by omega)
    have h2 : (UInt32.ofNat (k >>> j)).toNat = k >>> j := Nat.mod_eq_of_lt (by omega)
    rw [UInt32.toNat_shiftRight, nx_cnt ⟨j, hj⟩, h1, h2]
  show (UInt32.ofNat k >>> (UInt32.ofNat j &&& Int32.toUInt32 31)).toInt32 = _
  rw [e2]
  rfl
theorem nx_bit {k j : Nat} (hk : k < 65536) (hj : j < 16) : (((nI k).toUInt32 >>> ((nI j).toUInt32 &&& Int32.toUInt32 31)).toInt32 &&& 1) = 0 ↔ k.testBit j = false := by
  rw [nx_ush hk (by omega)]
  show nI (k >>> j) &&& nI 1 = 0 ↔ _
  rw [nx_and, Nat.and_one_is_mod, ← nI_0, nI_eq (by omega) (by omega), Nat.testBit_eq_decide_div_mod_eq, Nat.shiftRight_eq_div_pow, decide_eq_false_iff_not]
  generalize k / 2 ^ j = z
  omega
end
section
/-! THE PURE PICTURE OF ShadowPages: O the object behind each page, Z the parcels' sizes, T which objects are taken, M the cells that they hold (bits), C the cells, S the shadows, U the users; V what the 64 pages hold (4 * page + cell) -/
/-- an object's number, or none, as the class writes it -/
def sp_eo (o : Option Nat) : Int32 := match o with
  | none => -1
  | some k => nI k
def sp_eb (b : Bool) : Int32 := if b = true then 1 else 0
/-- what an object shows in a cell; none shows 0 -/
def sp_pv (vl : Nat → Nat → Int32) (o : Option Nat) (c : Nat) : Int32 := match o with
  | none => 0
  | some k => vl k c
theorem sp_us {α : Type} {f : Nat → α} {k : Nat} {v : α} : va_up f k v k = v := if_pos rfl
theorem sp_un {α : Type} {f : Nat → α} {k j : Nat} {v : α} (h : j ≠ k) : va_up f k v j = f j := if_neg h
/-- pages that use object k; objects in whose shadow k stands; one use that isn't written yet -/
def sp_cp (O : Nat → Option Nat) (k : Nat) : Nat := fb_ct (fun p => decide (O p = some k)) 64
def sp_cs (T : Nat → Bool) (S : Nat → Option Nat) (k : Nat) : Nat := fb_ct (fun j => T j && decide (S j = some k)) 130
def sp_ow (d : Option Nat) (k : Nat) : Nat := if d = some k then 1 else 0
theorem sp_ow_none (k : Nat) : sp_ow none k = 0 := if_neg (fun h => by cases h)
theorem sp_ow_self (k : Nat) : sp_ow (some k) k = 1 := if_pos rfl
theorem sp_ow_z {d : Option Nat} {k : Nat} (h : d ≠ some k) : sp_ow d k = 0 := if_neg h
theorem sp_ow_ne {a k : Nat} (h : a ≠ k) : sp_ow (some a) k = 0 := if_neg (fun e => h (Option.some.inj e))
theorem sp_ow_le (d : Option Nat) (k : Nat) : sp_ow d k ≤ 1 := by
  unfold sp_ow
  split <;> omega
theorem sp_ite_dec (P : Prop) [Decidable P] : (if decide P = true then 1 else 0) = (if P then 1 else 0 : Nat) := by
  by_cases h : P <;> simp [h]
theorem sp_cp_up (O : Nat → Option Nat) {p : Nat} (hp : p < 64) (x : Option Nat) (k : Nat) : sp_cp (va_up O p x) k + sp_ow (O p) k = sp_cp O k + sp_ow x k := by
  have h := fb_ct_upd (fun q => decide (O q = some k)) (decide (x = some k)) (i := p) (n := 64) hp
  have e : (fun q => if q = p then decide (x = some k) else decide (O q = some k)) = (fun q => decide (va_up O p x q = some k)) := by
    funext q
    by_cases hq : q = p
    · rw [if_pos hq, hq, sp_us]
    · rw [if_neg hq, sp_un hq]
  rw [e] at h
  simp only [sp_ite_dec] at h
  exact h
theorem sp_cs_gen {T T' : Nat → Bool} {S S' : Nat → Option Nat} {i : Nat} (hi : i < 130) (hT : ∀ j, j ≠ i → T' j = T j) (hS : ∀ j, j ≠ i → S' j = S j) (k : Nat) :
    sp_cs T' S' k + (if T i = true then sp_ow (S i) k else 0) = sp_cs T S k + (if T' i = true then sp_ow (S' i) k else 0) := by
  have h := fb_ct_upd (fun j => T j && decide (S j = some k)) (T' i && decide (S' i = some k)) (i := i) (n := 130) hi
  have e : (fun j => if j = i then (T' i && decide (S' i = some k)) else (T j && decide (S j = some k))) = (fun j => T' j && decide (S' j = some k)) := by
    funext j
    by_cases hj : j = i
    · rw [if_pos hj, hj]
    · rw [if_neg hj, hT j hj, hS j hj]
  rw [e] at h
  have key : ∀ (b : Bool) (o : Option Nat), (if (b && decide (o = some k)) = true then 1 else 0) = (if b = true then sp_ow o k else 0 : Nat) := by
    intro b o
    unfold sp_ow
    cases b <;> by_cases q : o = some k <;> simp [q]
  rw [key, key] at h
  exact h
theorem sp_cp_zero {O : Nat → Option Nat} {k : Nat} (h : sp_cp O k = 0) : ∀ p, p < 64 → O p ≠ some k := by
  intro p hp
  have h1 := fb_ct_zero.mp h p hp
  exact of_decide_eq_false h1
theorem sp_cp_zero_of {O : Nat → Option Nat} {k : Nat} (h : ∀ p, p < 64 → O p ≠ some k) : sp_cp O k = 0 := fb_ct_zero.mpr (fun p hp => decide_eq_false (h p hp))
theorem sp_cs_zero {T : Nat → Bool} {S : Nat → Option Nat} {k : Nat} (h : sp_cs T S k = 0) : ∀ j, j < 130 → T j = true → S j ≠ some k := by
  intro j hj hT hs
  have h1 : (T j && decide (S j = some k)) = false := fb_ct_zero.mp h j hj
  rw [hT, hs] at h1
  simp at h1
theorem sp_cs_zero_of {T : Nat → Bool} {S : Nat → Option Nat} {k : Nat} (h : ∀ j, j < 130 → T j = true → S j ≠ some k) : sp_cs T S k = 0 := by
  refine fb_ct_zero.mpr (fun j hj => ?_)
  cases hT : T j with
  | false => rfl
  | true => simp [h j hj hT]
theorem sp_cp_pos {O : Nat → Option Nat} {k p : Nat} (hp : p < 64) (h : O p = some k) : 1 ≤ sp_cp O k := by
  rcases Nat.eq_zero_or_pos (sp_cp O k) with q | q
  · exact absurd h (sp_cp_zero q p hp)
  · exact q
theorem sp_cs_pos {T : Nat → Bool} {S : Nat → Option Nat} {k j : Nat} (hj : j < 130) (hT : T j = true) (h : S j = some k) : 1 ≤ sp_cs T S k := by
  rcases Nat.eq_zero_or_pos (sp_cs T S k) with q | q
  · exact absurd h (sp_cs_zero q j hj hT)
  · exact q
theorem sp_cp_le (O : Nat → Option Nat) (k : Nat) : sp_cp O k ≤ 64 := fb_ct_le _ _
theorem sp_cs_le (T : Nat → Bool) (S : Nat → Option Nat) (k : Nat) : sp_cs T S k ≤ 130 := fb_ct_le _ _
/-- the objects stand in order: what is used is taken, users are counted (d: one use that is owed), shadows lead down (rk), vl is what each object shows, V what each page shows -/
def sp_G (O : Nat → Option Nat) (T : Nat → Bool) (M : Nat → Nat) (C : Nat → Int32) (S : Nat → Option Nat) (U : Nat → Nat) (d : Option Nat) (V : Nat → Int32) (vl : Nat → Nat → Int32) (rk : Nat → Nat) : Prop :=
  (∀ p, p < 64 → ∀ k, O p = some k → k < 130 ∧ T k = true) ∧
  (∀ o, o < 130 → T o = true → ∀ k, S o = some k → k < 130 ∧ T k = true ∧ rk k < rk o) ∧
  (∀ k, d = some k → k < 130 ∧ T k = true) ∧
  (∀ k, k < 130 → T k = true → U k = sp_cp O k + sp_cs T S k + sp_ow d k ∧ 1 ≤ U k) ∧
  (∀ o, o < 130 → T o = true → M o < 16) ∧
  (∀ o, o < 130 → T o = true → ∀ c, c < 4 → vl o c = if (M o).testBit c = true then C (4 * o + c) else sp_pv vl (S o) c) ∧
  (∀ p, p < 64 → ∀ c, c < 4 → V (4 * p + c) = sp_pv vl (O p) c)
def sp_Gd (O : Nat → Option Nat) (T : Nat → Bool) (M : Nat → Nat) (C : Nat → Int32) (S : Nat → Option Nat) (U : Nat → Nat) (d : Option Nat) (V : Nat → Int32) : Prop := ∃ (vl : Nat → Nat → Int32) (rk : Nat → Nat), sp_G O T M C S U d V vl rk
section PURE
variable {O : Nat → Option Nat} {T : Nat → Bool} {M : Nat → Nat} {C : Nat → Int32} {S : Nat → Option Nat} {U : Nat → Nat} {V : Nat → Int32}
theorem sp_Gd.page {d : Option Nat} (h : sp_Gd O T M C S U d V) {p k : Nat} (hp : p < 64) (hk : O p = some k) : k < 130 ∧ T k = true := by
  obtain ⟨vl, rk, hO, -⟩ := h
  exact hO p hp k hk
theorem sp_Gd.shadow {d : Option Nat} (h : sp_Gd O T M C S U d V) {o k : Nat} (ho : o < 130) (hT : T o = true) (hk : S o = some k) : k < 130 ∧ T k = true := by
  obtain ⟨vl, rk, -, hS, -⟩ := h
  exact ⟨(hS o ho hT k hk).1, (hS o ho hT k hk).2.1⟩
theorem sp_Gd.debt {d : Option Nat} (h : sp_Gd O T M C S U d V) {k : Nat} (hk : d = some k) : k < 130 ∧ T k = true := by
  obtain ⟨vl, rk, -, -, hd, -⟩ := h
  exact hd k hk
theorem sp_Gd.users {d : Option Nat} (h : sp_Gd O T M C S U d V) {k : Nat} (hk : k < 130) (hT : T k = true) : 1 ≤ U k ∧ U k ≤ 195 := by
  obtain ⟨vl, rk, -, -, -, hU, -⟩ := h
  have h1 := hU k hk hT
  have h2 := sp_cp_le O k
  have h3 := sp_cs_le T S k
  have h4 := sp_ow_le d k
  omega
theorem sp_Gd.bits {d : Option Nat} (h : sp_Gd O T M C S U d V) {k : Nat} (hk : k < 130) (hT : T k = true) : M k < 16 := by
  obtain ⟨vl, rk, -, -, -, -, hM, -⟩ := h
  exact hM k hk hT
theorem sp_Gd.noself {d : Option Nat} (h : sp_Gd O T M C S U d V) {k : Nat} (hk : k < 130) (hT : T k = true) : S k ≠ some k := by
  obtain ⟨vl, rk, -, hS, -⟩ := h
  intro e
  exact absurd (hS k hk hT k e).2.2 (Nat.lt_irrefl _)
/-- one user less, others are left -/
theorem sp_stay {a : Nat} (h : sp_Gd O T M C S U (some a) V) (hu : 1 < U a) : sp_Gd O T M C S (va_up U a (U a - 1)) none V := by
  obtain ⟨vl, rk, hO, hS, hd, hU, hM, hv, hV⟩ := h
  refine ⟨vl, rk, hO, hS, fun k hk => (by cases hk), fun k hk hT => ?_, hM, hv, hV⟩
  have h1 := hU k hk hT
  rw [sp_ow_none]
  by_cases e : k = a
  · rw [e] at h1 ⊢
    rw [sp_ow_self] at h1
    rw [sp_us]
    omega
  · rw [sp_un e]
    rw [sp_ow_ne (fun q => e q.symm)] at h1
    exact h1
/-- the last user goes: the object goes, and owes its use of the one behind -/
theorem sp_free {a : Nat} (h : sp_Gd O T M C S U (some a) V) (hu : U a = 1) : sp_Gd O (va_up T a false) M C S (va_up U a 0) (S a) V ∧ fb_ct (va_up T a false) 130 + 1 = fb_ct T 130 := by
  obtain ⟨vl, rk, hO, hS, hd, hU, hM, hv, hV⟩ := h
  obtain ⟨ha, hTa⟩ := hd a rfl
  have hUa := (hU a ha hTa).1
  rw [hu, sp_ow_self] at hUa
  have nP := sp_cp_zero (O := O) (k := a) (by omega)
  have nS := sp_cs_zero (T := T) (S := S) (k := a) (by omega)
  have nT : ∀ o, va_up T a false o = true → o ≠ a ∧ T o = true := by
    intro o ho
    by_cases e : o = a
    · rw [e, sp_us] at ho
      cases ho
    · rw [sp_un e] at ho
      exact ⟨e, ho⟩
  refine ⟨⟨vl, rk, fun p hp k hk => ?_, fun o ho hT k hk => ?_, fun k hk => ?_, fun k hk hT => ?_, fun o ho hT => hM o ho (nT o hT).2, fun o ho hT => hv o ho (nT o hT).2, hV⟩, ?_⟩
  · obtain ⟨h1, h2⟩ := hO p hp k hk
    refine ⟨h1, ?_⟩
    rw [sp_un (fun e => nP p hp (by rw [hk, e]))]
    exact h2
  · obtain ⟨h1, h2, h3⟩ := hS o ho (nT o hT).2 k hk
    refine ⟨h1, ?_, h3⟩
    rw [sp_un (fun e => nS o ho (nT o hT).2 (by rw [hk, e]))]
    exact h2
  · obtain ⟨h1, h2, h3⟩ := hS a ha hTa k hk
    refine ⟨h1, ?_⟩
    rw [sp_un (fun e => nS a ha hTa (by rw [hk, e]))]
    exact h2
  · obtain ⟨hka, hTk⟩ := nT k hT
    have h1 := hU k hk hTk
    rw [sp_ow_ne (fun q => hka q.symm)] at h1
    have h2 := sp_cs_gen (T := T) (S := S) (T' := va_up T a false) (S' := S) ha (fun j hj => sp_un hj) (fun _ _ => rfl) k
    rw [if_pos hTa, sp_us, if_neg (by decide)] at h2
    rw [sp_un hka]
    omega
  · have h3 := fb_ct_upd T false (i := a) (n := 130) ha
    rw [if_pos hTa, if_neg (by decide), Nat.add_zero] at h3
    have e : (fun k => if k = a then false else T k) = va_up T a false := rfl
    rw [e] at h3
    omega
def sp_inc (U : Nat → Nat) (o : Option Nat) : Nat → Nat := match o with
  | none => U
  | some k => va_up U k (U k + 1)
theorem sp_inc_at (U : Nat → Nat) (o : Option Nat) (k : Nat) : sp_inc U o k = U k + sp_ow o k := by
  cases o with
  | none => rw [sp_ow_none]; rfl
  | some a =>
    show va_up U a (U a + 1) k = _
    by_cases e : k = a
    · rw [e, sp_us, sp_ow_self]
    · rw [sp_un e, sp_ow_ne (fun q => e q.symm)]; rfl
/-- a page leads to another object; the old one is owed its letting go -/
theorem sp_lead {pg : Nat} {tgt : Option Nat} {w : Nat → Int32} (h : sp_Gd O T M C S U none V) (hp : pg < 64) (ht : (tgt = none ∧ ∀ c, c < 4 → w c = 0) ∨ ∃ q, q < 64 ∧ O q = tgt ∧ ∀ c, c < 4 → w c = V (4 * q + c)) : sp_Gd (va_up O pg tgt) T M C S (sp_inc U tgt) (O pg) (fb_put V w (4 * pg) 4) := by
  obtain ⟨vl, rk, hO, hS, hd, hU, hM, hv, hV⟩ := h
  have hw : ∀ c, c < 4 → w c = sp_pv vl tgt c := by
    rcases ht with ⟨rfl, h⟩ | ⟨q, hq, rfl, h⟩
    · exact h
    · intro c hc
      rw [h c hc]
      exact hV q hq c hc
  have hT1 : ∀ k, tgt = some k → k < 130 ∧ T k = true := by
    rcases ht with ⟨rfl, -⟩ | ⟨q, hq, rfl, -⟩
    · intro k h
      cases h
    · exact hO q hq
  refine ⟨vl, rk, fun p hp2 k hk => ?_, hS, fun k hk => hO pg hp k hk, fun k hk hT => ?_, hM, hv, fun p hp2 c hc => ?_⟩
  · by_cases e : p = pg
    · rw [e, sp_us] at hk
      exact hT1 k hk
    · rw [sp_un e] at hk
      exact hO p hp2 k hk
  · have h1 := hU k hk hT
    have h2 := sp_cp_up O hp tgt k
    rw [sp_ow_none] at h1
    rw [sp_inc_at]
    omega
  · by_cases e : p = pg
    · rw [e, sp_us, fb_put_in (by omega) (by omega), show 4 * pg + c - 4 * pg = c by omega]
      exact hw c hc
    · rw [sp_un e, fb_put_out (by omega)]
      exact hV p hp2 c hc
def sp_rk (rk : Nat → Nat) (o : Option Nat) : Nat := match o with
  | none => 0
  | some k => rk k + 1
theorem sp_pv_up {vl : Nat → Nat → Int32} {n : Nat} {x : Nat → Int32} {o : Option Nat} (h : o ≠ some n) (c : Nat) : sp_pv (va_up vl n x) o c = sp_pv vl o c := by
  cases o with
  | none => rfl
  | some k =>
    show va_up vl n x k c = vl k c
    rw [sp_un (fun e => h (by rw [e]))]
/-- a new object in front of the page's -/
theorem sp_new {pg n : Nat} (h : sp_Gd O T M C S U none V) (hp : pg < 64) (hn : n < 130) (hTn : T n = false) : sp_Gd (va_up O pg (some n)) (va_up T n true) (va_up M n 0) C (va_up S n (O pg)) (va_up U n 1) none V := by
  obtain ⟨vl, rk, hO, hS, hd, hU, hM, hv, hV⟩ := h
  have nP : ∀ p, p < 64 → O p ≠ some n := fun p hp e => by
    have := (hO p hp n e).2
    rw [hTn] at this
    cases this
  have nS : ∀ j, j < 130 → T j = true → S j ≠ some n := fun j hj hT e => by
    have := (hS j hj hT n e).2.1
    rw [hTn] at this
    cases this
  have tk : ∀ k, T k = true → k ≠ n ∧ va_up T n true k = true := fun k hk => by
    have e : k ≠ n := fun e => by
      rw [e, hTn] at hk
      cases hk
    exact ⟨e, by rw [sp_un e]; exact hk⟩
  refine ⟨va_up vl n (sp_pv vl (O pg)), va_up rk n (sp_rk rk (O pg)), fun p hp2 k hk => ?_, fun o ho hT k hk => ?_, fun k hk => (by cases hk), fun k hk hT => ?_, fun o ho hT => ?_, fun o ho hT c hc => ?_, fun p hp2 c hc => ?_⟩
  · by_cases e : p = pg
    · rw [e, sp_us] at hk
      cases hk
      exact ⟨hn, sp_us⟩
    · rw [sp_un e] at hk
      obtain ⟨h1, h2⟩ := hO p hp2 k hk
      exact ⟨h1, (tk k h2).2⟩
  · by_cases e : o = n
    · rw [e, sp_us] at hk
      obtain ⟨h1, h2⟩ := hO pg hp k hk
      refine ⟨h1, (tk k h2).2, ?_⟩
      rw [e, sp_us, sp_un (tk k h2).1, hk]
      exact Nat.lt_succ_self _
    · rw [sp_un e] at hT hk
      obtain ⟨h1, h2, h3⟩ := hS o ho hT k hk
      refine ⟨h1, (tk k h2).2, ?_⟩
      rw [sp_un e, sp_un (tk k h2).1]
      exact h3
  · have h2 := sp_cp_up O hp (some n) k
    have h3 := sp_cs_gen (T := T) (S := S) (T' := va_up T n true) (S' := va_up S n (O pg)) hn (fun j hj => sp_un hj) (fun j hj => sp_un hj) k
    rw [if_neg (by rw [hTn]; decide), sp_us, sp_us, if_pos rfl] at h3
    rw [sp_ow_none]
    by_cases e : k = n
    · rw [e] at h2 h3 ⊢
      rw [sp_us]
      rw [sp_ow_z (nP pg hp)] at h2 h3
      rw [sp_ow_self, sp_cp_zero_of nP] at h2
      rw [sp_cs_zero_of nS] at h3
      omega
    · rw [sp_un e] at hT
      have h1 := hU k hk hT
      rw [sp_ow_none] at h1
      rw [sp_ow_ne (fun q => e q.symm)] at h2
      rw [sp_un e]
      omega
  · by_cases e : o = n
    · rw [e, sp_us]
      decide
    · rw [sp_un e] at hT ⊢
      exact hM o ho hT
  · by_cases e : o = n
    · rw [e, sp_us, sp_us, sp_us, if_neg (by rw [Nat.zero_testBit]; decide), sp_pv_up (nP pg hp)]
    · rw [sp_un e] at hT
      rw [sp_un e, sp_un e, sp_un e, sp_pv_up (nS o ho hT)]
      exact hv o ho hT c hc
  · by_cases e : p = pg
    · rw [e, sp_us]
      show _ = va_up vl n (sp_pv vl (O pg)) n c
      rw [sp_us]
      exact hV pg hp c hc
    · rw [sp_un e, sp_pv_up (nP p hp2)]
      exact hV p hp2 c hc
/-- a cell of an object that this page alone uses is written -/
theorem sp_write {pg o cell : Nat} (v : Int32) (h : sp_Gd O T M C S U none V) (hp : pg < 64) (ho : O pg = some o) (hu : U o = 1) (hcl : cell < 4) : sp_Gd O T (va_up M o (M o ||| 2 ^ cell)) (upd C (4 * o + cell) v) S U none (upd V (4 * pg + cell) v) := by
  obtain ⟨vl, rk, hO, hS, hd, hU, hM, hv, hV⟩ := h
  obtain ⟨hob, hTo⟩ := hO pg hp o ho
  have hUo := (hU o hob hTo).1
  rw [hu, sp_ow_none] at hUo
  have hcp := sp_cp_pos hp ho
  have nS := sp_cs_zero (T := T) (S := S) (k := o) (by omega)
  have nP : ∀ p, p < 64 → p ≠ pg → O p ≠ some o := by
    have h2 := sp_cp_up O hp none o
    rw [ho, sp_ow_self, sp_ow_none] at h2
    have h3 := sp_cp_zero (O := va_up O pg none) (k := o) (by omega)
    intro p hp2 e
    have := h3 p hp2
    rw [sp_un e] at this
    exact this
  have pvE : ∀ (x : Option Nat) (c : Nat), x ≠ some o → sp_pv (fun j c => if j = o ∧ c = cell then v else vl j c) x c = sp_pv vl x c := by
    intro x c hx
    cases x with
    | none => rfl
    | some k => exact if_neg (fun q => hx (by rw [q.1]))
  refine ⟨fun j c => if j = o ∧ c = cell then v else vl j c, rk, hO, hS, hd, hU, fun j hj hT => ?_, fun j hj hT c hc => ?_, fun p hp2 c hc => ?_⟩
  · by_cases e : j = o
    · rw [e, sp_us]
      exact Nat.or_lt_two_pow (n := 4) (hM o hob hTo) (Nat.pow_lt_pow_right (by decide) hcl)
    · rw [sp_un e]
      exact hM j hj hT
  · rw [pvE (S j) c (nS j hj hT)]
    show (if j = o ∧ c = cell then v else vl j c) = _
    have h1 := hv j hj hT c hc
    by_cases e : j = o
    · rw [e, sp_us, fb_bit_set]
      rw [e] at h1
      by_cases ec : c = cell
      · rw [if_pos ⟨rfl, ec⟩, if_pos (by rw [decide_eq_true ec, Bool.or_true]), ec]
        exact (if_pos rfl).symm
      · rw [if_neg (fun q => ec q.2), decide_eq_false ec, Bool.or_false, h1]
        have : upd C (4 * o + cell) v (4 * o + c) = C (4 * o + c) := if_neg (by omega)
        rw [this]
    · rw [if_neg (fun q => e q.1), sp_un e, h1]
      have : upd C (4 * o + cell) v (4 * j + c) = C (4 * j + c) := if_neg (by omega)
      rw [this]
  · by_cases e : p = pg
    · rw [e, ho]
      show _ = if o = o ∧ c = cell then v else vl o c
      by_cases ec : c = cell
      · rw [if_pos ⟨rfl, ec⟩, ec]
        exact if_pos rfl
      · rw [if_neg (fun q => ec q.2)]
        have : upd V (4 * pg + cell) v (4 * pg + c) = V (4 * pg + c) := if_neg (by omega)
        rw [this, hV pg hp c hc, ho]
        rfl
    · rw [pvE _ c (nP p hp2 e)]
      have : upd V (4 * pg + cell) v (4 * p + c) = V (4 * p + c) := if_neg (by omega)
      rw [this]
      exact hV p hp2 c hc
theorem sp_15 : ∀ c, c < 4 → (15 : Nat).testBit c = true := by decide
/-- an object that holds all its cells needs none behind it: that one is owed its letting go -/
theorem sp_drop {o k : Nat} (h : sp_Gd O T M C S U none V) (ho : o < 130) (hTo : T o = true) (hm : M o = 15) (hs : S o = some k) : sp_Gd O T M C (va_up S o none) U (some k) V := by
  obtain ⟨vl, rk, hO, hS, hd, hU, hM, hv, hV⟩ := h
  refine ⟨vl, rk, hO, fun j hj hT q hq => ?_, fun q hq => ?_, fun q hq hT => ?_, hM, fun j hj hT c hc => ?_, hV⟩
  · by_cases e : j = o
    · rw [e, sp_us] at hq
      cases hq
    · rw [sp_un e] at hq
      exact hS j hj hT q hq
  · cases hq
    exact ⟨(hS o ho hTo k hs).1, (hS o ho hTo k hs).2.1⟩
  · have h1 := hU q hq hT
    have h2 := sp_cs_gen (T := T) (S := S) (T' := T) (S' := va_up S o none) ho (fun _ _ => rfl) (fun j hj => sp_un hj) q
    rw [if_pos hTo, if_pos hTo, sp_us, hs, sp_ow_none] at h2
    rw [sp_ow_none] at h1
    omega
  · have h1 := hv j hj hT c hc
    by_cases e : j = o
    · rw [e, hm, if_pos (sp_15 c hc)] at h1
      rw [e, hm, if_pos (sp_15 c hc)]
      exact h1
    · rw [sp_un e]
      exact h1
/-- the cells of o when n of them have been taken over from b -/
def sp_fc (o b : Nat) (M : Nat → Nat) (C : Nat → Int32) (n : Nat) : Nat → Int32 := fun i => if 4 * o ≤ i ∧ i < 4 * o + n ∧ (M o).testBit (i - 4 * o) = false ∧ (M b).testBit (i - 4 * o) = true then C (4 * b + (i - 4 * o)) else C i
theorem sp_fc_0 (o b : Nat) (M : Nat → Nat) (C : Nat → Int32) : sp_fc o b M C 0 = C := funext fun i => if_neg (by omega)
theorem sp_fc_other {o b j c n : Nat} (M : Nat → Nat) (C : Nat → Int32) (hj : j ≠ o) (hc : c < 4) (hn : n ≤ 4) : sp_fc o b M C n (4 * j + c) = C (4 * j + c) := if_neg (by omega)
theorem sp_fc_take {o b c : Nat} (M : Nat → Nat) (C : Nat → Int32) (h1 : (M o).testBit c = false) (h2 : (M b).testBit c = true) : upd (sp_fc o b M C c) (4 * o + c) (C (4 * b + c)) = sp_fc o b M C (c + 1) := by
  funext i
  by_cases e : i = 4 * o + c
  · have e2 : i - 4 * o = c := by omega
    have r : sp_fc o b M C (c + 1) i = C (4 * b + (i - 4 * o)) := if_pos ⟨by omega, by omega, by rw [e2]; exact h1, by rw [e2]; exact h2⟩
    rw [r, e2]
    exact if_pos e
  · have r : upd (sp_fc o b M C c) (4 * o + c) (C (4 * b + c)) i = sp_fc o b M C c i := if_neg e
    rw [r]
    unfold sp_fc
    by_cases q : 4 * o ≤ i ∧ i < 4 * o + c ∧ (M o).testBit (i - 4 * o) = false ∧ (M b).testBit (i - 4 * o) = true
    · rw [if_pos q, if_pos ⟨q.1, by omega, q.2.2⟩]
    · rw [if_neg q, if_neg (fun z => q ⟨z.1, by omega, z.2.2⟩)]
theorem sp_fc_skip {o b c : Nat} (M : Nat → Nat) (C : Nat → Int32) (h : ¬ ((M o).testBit c = false ∧ (M b).testBit c = true)) : sp_fc o b M C c = sp_fc o b M C (c + 1) := by
  funext i
  unfold sp_fc
  by_cases q : 4 * o ≤ i ∧ i < 4 * o + c ∧ (M o).testBit (i - 4 * o) = false ∧ (M b).testBit (i - 4 * o) = true
  · rw [if_pos q, if_pos ⟨q.1, by omega, q.2.2⟩]
  · rw [if_neg q, if_neg (fun z => ?_)]
    by_cases e : i = 4 * o + c
    · have e2 : i - 4 * o = c := by omega
      rw [e2] at z
      exact h z.2.2
    · exact q ⟨z.1, by omega, z.2.2⟩
/-- an object that one other object alone uses is taken into that one -/
theorem sp_fold {o b : Nat} (h : sp_Gd O T M C S U none V) (ho : o < 130) (hTo : T o = true) (hs : S o = some b) (hu : U b = 1) : sp_Gd O (va_up T b false) (va_up M o (M o ||| M b)) (sp_fc o b M C 4) (va_up S o (S b)) (va_up U b 0) none V ∧ fb_ct (va_up T b false) 130 + 1 = fb_ct T 130 := by
  obtain ⟨vl, rk, hO, hS, hd, hU, hM, hv, hV⟩ := h
  obtain ⟨hb, hTb, hrb⟩ := hS o ho hTo b hs
  have hne : b ≠ o := fun e => by rw [e] at hrb; exact Nat.lt_irrefl _ hrb
  have hUb := (hU b hb hTb).1
  rw [hu, sp_ow_none] at hUb
  have hcs := sp_cs_pos ho hTo hs
  have nP := sp_cp_zero (O := O) (k := b) (by omega)
  have hsb : S b ≠ some b := fun e => Nat.lt_irrefl _ (hS b hb hTb b e).2.2
  have nS : ∀ j, j < 130 → T j = true → va_up S o (S b) j ≠ some b := by
    have h2 := sp_cs_gen (T := T) (S := S) (T' := T) (S' := va_up S o (S b)) ho (fun _ _ => rfl) (fun j hj => sp_un hj) b
    rw [if_pos hTo, if_pos hTo, sp_us, hs, sp_ow_self, sp_ow_z hsb] at h2
    exact sp_cs_zero (by omega)
  have nT : ∀ j, va_up T b false j = true → j ≠ b ∧ T j = true := by
    intro j hj
    by_cases e : j = b
    · rw [e, sp_us] at hj
      cases hj
    · rw [sp_un e] at hj
      exact ⟨e, hj⟩
  refine ⟨⟨vl, rk, fun p hp k hk => ?_, fun j hj hT k hk => ?_, fun k hk => (by cases hk), fun k hk hT => ?_, fun j hj hT => ?_, fun j hj hT c hc => ?_, hV⟩, ?_⟩
  · obtain ⟨h1, h2⟩ := hO p hp k hk
    refine ⟨h1, ?_⟩
    rw [sp_un (fun e => nP p hp (by rw [hk, e]))]
    exact h2
  · obtain ⟨hjb, hTj⟩ := nT j hT
    have hkb : k ≠ b := fun e => nS j hj hTj (by rw [hk, e])
    rw [sp_un hkb]
    by_cases e : j = o
    · rw [e, sp_us] at hk
      obtain ⟨h1, h2, h3⟩ := hS b hb hTb k hk
      exact ⟨h1, h2, by rw [e]; omega⟩
    · rw [sp_un e] at hk
      exact hS j hj hTj k hk
  · obtain ⟨hkb, hTk⟩ := nT k hT
    have h1 := hU k hk hTk
    have h2 := sp_cs_gen (T := T) (S := S) (T' := T) (S' := va_up S o (S b)) ho (fun _ _ => rfl) (fun j hj => sp_un hj) k
    rw [if_pos hTo, if_pos hTo, sp_us, hs, sp_ow_ne (fun q => hkb q.symm)] at h2
    have h3 := sp_cs_gen (T := T) (S := va_up S o (S b)) (T' := va_up T b false) (S' := va_up S o (S b)) hb (fun j hj => sp_un hj) (fun _ _ => rfl) k
    rw [if_pos hTb, sp_us, if_neg (by decide), sp_un hne] at h3
    rw [sp_un hkb]
    omega
  · by_cases e : j = o
    · rw [e, sp_us]
      exact Nat.or_lt_two_pow (n := 4) (hM o ho hTo) (hM b hb hTb)
    · rw [sp_un e]
      exact hM j hj (nT j hT).2
  · obtain ⟨hjb, hTj⟩ := nT j hT
    by_cases e : j = o
    · have h1 := hv o ho hTo c hc
      have h2 := hv b hb hTb c hc
      have h4 : sp_fc o b M C 4 (4 * o + c) = if (M o).testBit c = false ∧ (M b).testBit c = true then C (4 * b + c) else C (4 * o + c) := by
        have e2 : 4 * o + c - 4 * o = c := by omega
        unfold sp_fc
        rw [e2]
        by_cases q : (M o).testBit c = false ∧ (M b).testBit c = true
        · rw [if_pos ⟨by omega, by omega, q.1, q.2⟩, if_pos q]
        · rw [if_neg (fun z => q z.2.2), if_neg q]
      rw [hs] at h1
      rw [e, sp_us, sp_us, Nat.testBit_or, h4, h1]
      show (if (M o).testBit c = true then C (4 * o + c) else vl b c) = _
      rw [h2]
      cases (M o).testBit c <;> cases (M b).testBit c <;> simp
    · rw [sp_un e, sp_un e, sp_fc_other M C e hc (Nat.le_refl 4)]
      exact hv j hj hTj c hc
  · have h3 := fb_ct_upd T false (i := b) (n := 130) hb
    rw [if_pos hTb, if_neg (by decide), Nat.add_zero] at h3
    have e : (fun k => if k = b then false else T k) = va_up T b false := rfl
    rw [e] at h3
    omega
/-- two pages changed about -/
theorem sp_swap {a b : Nat} (h : sp_Gd O T M C S U none V) (ha : a < 64) (hb : b < 64) : sp_Gd (va_up (va_up O a (O b)) b (O a)) T M C S U none (fb_put (fb_put V (fun c => V (4 * b + c)) (4 * a) 4) (fun c => V (4 * a + c)) (4 * b) 4) := by
  obtain ⟨vl, rk, hO, hS, hd, hU, hM, hv, hV⟩ := h
  refine ⟨vl, rk, fun p hp k hk => ?_, hS, hd, fun k hk hT => ?_, hM, hv, fun p hp c hc => ?_⟩
  · by_cases e : p = b
    · rw [e, sp_us] at hk
      exact hO a ha k hk
    · rw [sp_un e] at hk
      by_cases e2 : p = a
      · rw [e2, sp_us] at hk
        exact hO b hb k hk
      · rw [sp_un e2] at hk
        exact hO p hp k hk
  · have h1 := hU k hk hT
    have h2 := sp_cp_up O ha (O b) k
    have h3 := sp_cp_up (va_up O a (O b)) hb (O a) k
    have h4 : va_up O a (O b) b = O b := by
      by_cases e : b = a
      · rw [e, sp_us]
      · rw [sp_un e]
    rw [h4] at h3
    omega
  · by_cases e : p = b
    · rw [e, sp_us, fb_put_in (by omega) (by omega), show 4 * b + c - 4 * b = c by omega]
      exact hV a ha c hc
    · rw [sp_un e, fb_put_out (by omega)]
      by_cases e2 : p = a
      · rw [e2, sp_us, fb_put_in (by omega) (by omega), show 4 * a + c - 4 * a = c by omega]
        exact hV b hb c hc
      · rw [sp_un e2, fb_put_out (by omega)]
        exact hV p hp c hc
/-- folded: no object is used by one object alone -/
def sp_Fd (T : Nat → Bool) (S : Nat → Option Nat) (U : Nat → Nat) : Prop := ∀ o, o < 130 → T o = true → ∀ k, S o = some k → U k ≠ 1
theorem sp_sum_one (x : Option Nat) : ∀ n, fb_sm (fun k => sp_ow x k) n ≤ 1 := by
  intro n
  cases x with
  | none =>
    have := fb_sm_bound (f := fun k => sp_ow none k) (c := 0) (n := n) (fun k _ => by rw [sp_ow_none]; exact Nat.le_refl 0)
    omega
  | some a =>
    induction n with
    | zero => exact Nat.zero_le _
    | succ n ih =>
      rw [fb_sm_succ]
      by_cases e : a = n
      · have : fb_sm (fun k => sp_ow (some a) k) n ≤ n * 0 := fb_sm_bound (fun k hk => by rw [sp_ow_ne (by omega)]; exact Nat.le_refl 0)
        have := sp_ow_le (some a) n
        omega
      · have := sp_ow_ne e
        omega
/-- all uses of a list of n users are at most n -/
theorem sp_sum_ct (B : Nat → Bool) (X : Nat → Option Nat) (N : Nat) : ∀ n, fb_sm (fun k => fb_ct (fun j => B j && decide (X j = some k)) n) N ≤ fb_ct B n := by
  intro n
  induction n with
  | zero =>
    have := fb_sm_bound (f := fun k => fb_ct (fun j => B j && decide (X j = some k)) 0) (c := 0) (n := N) (fun k _ => Nat.le_refl 0)
    rw [Nat.mul_zero] at this
    exact Nat.le_trans this (Nat.zero_le _)
  | succ n ih =>
    have e : (fun k => fb_ct (fun j => B j && decide (X j = some k)) (n + 1)) = fun k => fb_ct (fun j => B j && decide (X j = some k)) n + (if B n = true then sp_ow (X n) k else 0) := by
      funext k
      rw [fb_ct_succ]
      congr 1
      unfold sp_ow
      cases B n <;> by_cases q : X n = some k <;> simp [q]
    rw [e, fb_sm_add, fb_ct_succ]
    have h2 : fb_sm (fun k => if B n = true then sp_ow (X n) k else 0) N ≤ (if B n = true then 1 else 0) := by
      cases B n with
      | false =>
        have := fb_sm_bound (f := fun k => if false = true then sp_ow (X n) k else 0) (c := 0) (n := N) (fun k _ => by simp)
        simpa using this
      | true =>
        have := sp_sum_one (X n) N
        simpa using this
    omega
/-- folded, at most 128 objects are taken: one is free -/
theorem sp_room (h : sp_Gd O T M C S U none V) (hf : sp_Fd T S U) : ∃ n, n < 130 ∧ T n = false := by
  obtain ⟨vl, rk, hO, hS, hd, hU, hM, hv, hV⟩ := h
  have h1 : fb_sm (sp_cp O) 130 ≤ 64 := by
    have := sp_sum_ct (fun _ => true) O 130 64
    have e : (fun k => fb_ct (fun j => (fun _ => true) j && decide (O j = some k)) 64) = sp_cp O := by
      funext k
      unfold sp_cp
      congr 1
    rw [e] at this
    exact Nat.le_trans this (fb_ct_le _ _)
  have h2 : fb_sm (sp_cs T S) 130 ≤ fb_ct T 130 := sp_sum_ct T S 130 130
  have h3 : fb_sm (fun k => if T k = true then 2 else 0) 130 ≤ fb_sm (fun k => (sp_cp O k + sp_cp O k) + sp_cs T S k) 130 := by
    refine fb_sm_le (fun k hk => ?_)
    by_cases hT : T k = true
    · rw [if_pos hT]
      have h4 := hU k hk hT
      rw [sp_ow_none] at h4
      by_cases q : sp_cs T S k = 0
      · omega
      · have h5 : ∃ j, j < 130 ∧ (T j && decide (S j = some k)) = true := fb_ct_pos.mp (Nat.pos_of_ne_zero q)
        obtain ⟨j, hj, hjk⟩ := h5
        rw [Bool.and_eq_true, decide_eq_true_eq] at hjk
        have h6 := hf j hj hjk.1 k hjk.2
        omega
    · rw [if_neg hT]
      exact Nat.zero_le _
  have h4 : ∀ n, fb_sm (fun k => if T k = true then 2 else 0) n = 2 * fb_ct T n := by
    intro n
    induction n with
    | zero => rfl
    | succ n ih =>
      rw [fb_sm_succ, fb_ct_succ, ih]
      cases T n <;> simp <;> omega
  rw [fb_sm_add, fb_sm_add, h4] at h3
  have h5 : fb_ct T 130 ≤ 128 := by omega
  rcases Classical.em (∃ n, n < 130 ∧ T n = false) with q | q
  · exact q
  · have h6 : fb_ct T 130 = 130 := fb_ct_all.mpr (fun k hk => by
      cases e : T k with
      | true => rfl
      | false => exact absurd ⟨k, hk, e⟩ q)
    omega
/-- the walk along the shadows: as many taken objects lie above -/
def sp_ab (T : Nat → Bool) (rk : Nat → Nat) (k : Nat) : Nat := fb_ct (fun j => T j && decide (rk k < rk j)) 130
theorem sp_ab_lt {rk : Nat → Nat} {k : Nat} (hk : k < 130) : sp_ab T rk k < 130 := by
  rcases Nat.lt_or_ge (sp_ab T rk k) 130 with q | q
  · exact q
  · have h1 := fb_ct_all.mp (Nat.le_antisymm (fb_ct_le _ _) q) k hk
    simp at h1
theorem sp_ab_up {rk : Nat → Nat} {k k2 : Nat} (hk : k < 130) (hT : T k = true) (hr : rk k2 < rk k) : sp_ab T rk k + 1 ≤ sp_ab T rk k2 := by
  have h1 := fb_ct_upd (fun j => T j && decide (rk k < rk j)) true (i := k) (n := 130) hk
  have e0 : (T k && decide (rk k < rk k)) = false := by simp
  rw [e0, if_neg (by decide), if_pos rfl] at h1
  have h2 : fb_ct (fun j => if j = k then true else (T j && decide (rk k < rk j))) 130 ≤ sp_ab T rk k2 := by
    refine fb_ct_sub (fun j hj hp => ?_)
    by_cases e : j = k
    · rw [e, hT, decide_eq_true hr]
      rfl
    · rw [if_neg e, Bool.and_eq_true, decide_eq_true_eq] at hp
      rw [hp.1, decide_eq_true (Nat.lt_trans hr hp.2)]
      rfl
  unfold sp_ab at h2 ⊢
  omega
/-- the start: no object is taken, every page is of zeros -/
theorem sp_start {d : Nat → Option Nat} {a b : Nat → Nat} {c : Nat → Int32} (hO : ∀ p, p < 64 → O p = none) : sp_Gd O (fun _ => false) a c d b none (fun _ => 0) := by
  refine ⟨fun _ _ => 0, fun _ => 0, fun p hp k hk => ?_, fun o ho hT => (by cases hT), fun k hk => (by cases hk), fun k hk hT => (by cases hT), fun o ho hT => (by cases hT), fun o ho hT => (by cases hT), fun p hp c hc => ?_⟩
  · rw [hO p hp] at hk
    cases hk
  · rw [hO p hp]
    rfl
theorem sp_Fd_start {S : Nat → Option Nat} {U : Nat → Nat} : sp_Fd (fun _ => false) S U := fun o ho hT => by cases hT
end PURE
theorem sp_eo_inj {a b : Option Nat} (ha : ∀ k, a = some k → k < 130) (hb : ∀ k, b = some k → k < 130) (h : sp_eo a = sp_eo b) : a = b := by
  cases a with
  | none =>
    cases b with
    | none => rfl
    | some k =>
      have := hb k rfl
      have h2 : (sp_eo none).toInt = (sp_eo (some k)).toInt := by rw [h]
      have h3 : (sp_eo (some k)).toInt = (k : Int) := nI_toInt (by omega)
      rw [h3] at h2
      have h4 : (sp_eo none).toInt = -1 := by decide
      omega
  | some j =>
    have hj := ha j rfl
    have h3 : (sp_eo (some j)).toInt = (j : Int) := nI_toInt (by omega)
    cases b with
    | none =>
      have h2 : (sp_eo (some j)).toInt = (sp_eo none).toInt := by rw [h]
      have h4 : (sp_eo none).toInt = -1 := by decide
      omega
    | some k =>
      have := hb k rfl
      have h5 : (sp_eo (some k)).toInt = (k : Int) := nI_toInt (by omega)
      have h2 : (sp_eo (some j)).toInt = (sp_eo (some k)).toInt := by rw [h]
      have : j = k := by omega
      rw [this]
theorem sp_orI (a b : Nat) : nI a ||| nI b = nI (a ||| b) := by
  apply Int32.toBitVec_inj.1
  show BitVec.ofNat 32 a ||| BitVec.ofNat 32 b = BitVec.ofNat 32 (a ||| b)
  apply BitVec.eq_of_getLsbD_eq
  intro i hi
  simp [hi]
theorem sp_shl1 : ∀ c, c < 4 → nI 1 <<< (nI c &&& 31) = nI (2 ^ c) := by decide +kernel
end
section
/-! ROWS: instructions over natural numbers; the two classes' worlds, their fields and arrays, entries, ends and calls (written by gen/rows.py) -/
set_option maxRecDepth 100000
abbrev vwCl : List vw_C := [(RX0, TX0, 7), (RX1, TX1, 2)]
theorem sp_up_eo (f : Nat → Option Nat) (k : Nat) (v : Option Nat) : upd (fun j => sp_eo (f j)) k (sp_eo v) = fun j => sp_eo (va_up f k v j) := by
  funext j
  unfold upd va_up
  by_cases e : j = k
  · rw [if_pos e, if_pos e]
  · rw [if_neg e, if_neg e]
theorem sp_up_nI (f : Nat → Nat) (k v : Nat) : upd (fun j => nI (f j)) k (nI v) = fun j => nI (va_up f k v j) := by
  funext j
  unfold upd va_up
  by_cases e : j = k
  · rw [if_pos e, if_pos e]
  · rw [if_neg e, if_neg e]
theorem sp_nar (v : Bool) : vp_nar .boolean (sp_eb v) = sp_eb v := by cases v <;> rfl
theorem sp_up_eb (f : Nat → Bool) (k : Nat) (v : Bool) : upd (fun j => sp_eb (f j)) k (vp_nar .boolean (sp_eb v)) = fun j => sp_eb (va_up f k v j) := by
  rw [sp_nar]
  funext j
  unfold upd va_up
  by_cases e : j = k
  · rw [if_pos e, if_pos e]
  · rw [if_neg e, if_neg e]
section NV
variable {p : Program} {l : Launch} {e : Env} {R : Room} {s : State} {m : MethodId} {args : Array Value} {below : List Frame} {meth : Method} {c : Code} {H : Heap} {locs : List Loc} {cells slots : Nat} {Q : State → Prop} {cc : ByteArray} {pc : Nat} {ls : Array Slot} {rest : List Value}
theorem nv_top {x : Int32} (y : Int32) (h : x = y) (k : W p l e R s m args below meth c H locs cells slots Q (F0 m pc ls (.int y :: rest))) : W p l e R s m args below meth c H locs cells slots Q (F0 m pc ls (.int x :: rest)) := h ▸ k
theorem nv_iadd (hx : p.tables.exec = Jvm.exec) (hb : c.code = cc) {a b : Nat} (hdg : decode cc pc = .ok (.iadd, 1)) (k : W p l e R s m args below meth c H locs cells slots Q (F0 m (pc + 1) ls (.int (nI (a + b)) :: rest))) : W p l e R s m args below meth c H locs cells slots Q (F0 m pc ls (.int (nI b) :: .int (nI a) :: rest)) := lv_iadd hx hb hdg (by rw [nI_add]; exact k)
theorem nv_imul (hx : p.tables.exec = Jvm.exec) (hb : c.code = cc) {a b : Nat} (hdg : decode cc pc = .ok (.imul, 1)) (k : W p l e R s m args below meth c H locs cells slots Q (F0 m (pc + 1) ls (.int (nI (a * b)) :: rest))) : W p l e R s m args below meth c H locs cells slots Q (F0 m pc ls (.int (nI b) :: .int (nI a) :: rest)) := lv_imul hx hb hdg (by rw [pk_mul]; exact k)
theorem nv_isub1 (hx : p.tables.exec = Jvm.exec) (hb : c.code = cc) {a : Nat} (ha : 1 ≤ a) (hdg : decode cc pc = .ok (.isub, 1)) (k : W p l e R s m args below meth c H locs cells slots Q (F0 m (pc + 1) ls (.int (nI (a - 1)) :: rest))) : W p l e R s m args below meth c H locs cells slots Q (F0 m pc ls (.int (nI 1) :: .int (nI a) :: rest)) := lv_isub hx hb hdg (by rw [pk_sub ha]; exact k)
theorem nv_ior (hx : p.tables.exec = Jvm.exec) (hb : c.code = cc) {a b : Nat} (hdg : decode cc pc = .ok (.ior, 1)) (k : W p l e R s m args below meth c H locs cells slots Q (F0 m (pc + 1) ls (.int (nI (a ||| b)) :: rest))) : W p l e R s m args below meth c H locs cells slots Q (F0 m pc ls (.int (nI b) :: .int (nI a) :: rest)) := lv_ior hx hb hdg (by rw [sp_orI]; exact k)
theorem nv_ishl1 (hx : p.tables.exec = Jvm.exec) (hb : c.code = cc) {a : Nat} (ha : a < 4) (hdg : decode cc pc = .ok (.ishl, 1)) (k : W p l e R s m args below meth c H locs cells slots Q (F0 m (pc + 1) ls (.int (nI (2 ^ a)) :: rest))) : W p l e R s m args below meth c H locs cells slots Q (F0 m pc ls (.int (nI a) :: .int (nI 1) :: rest)) := lv_ishl hx hb hdg (by rw [sp_shl1 a ha]; exact k)
theorem nv_icmp_ge (hx : p.tables.exec = Jvm.exec) (hb : c.code = cc) {a b : Nat} (ha : a < 2147483648) (hb2 : b < 2147483648) {off : Int} {tgt : Nat} (hdg : decode cc pc = .ok (.if_icmp .ge off, 3)) (ht : (pc : Int) + off = (tgt : Int)) (kt : b ≤ a → W p l e R s m args below meth c H locs cells slots Q (F0 m tgt ls (rest))) (kf : a < b → W p l e R s m args below meth c H locs cells slots Q (F0 m (pc + 3) ls (rest))) : W p l e R s m args below meth c H locs cells slots Q (F0 m pc ls (.int (nI b) :: .int (nI a) :: rest)) := lv_icmp_ge hx hb hdg ht (fun h => kt ((nI_leI hb2 ha).mp h)) (fun h => kf (Nat.lt_of_not_le (fun q => h ((nI_leI hb2 ha).mpr q))))
theorem nv_icmp_le (hx : p.tables.exec = Jvm.exec) (hb : c.code = cc) {a b : Nat} (ha : a < 2147483648) (hb2 : b < 2147483648) {off : Int} {tgt : Nat} (hdg : decode cc pc = .ok (.if_icmp .le off, 3)) (ht : (pc : Int) + off = (tgt : Int)) (kt : a ≤ b → W p l e R s m args below meth c H locs cells slots Q (F0 m tgt ls (rest))) (kf : b < a → W p l e R s m args below meth c H locs cells slots Q (F0 m (pc + 3) ls (rest))) : W p l e R s m args below meth c H locs cells slots Q (F0 m pc ls (.int (nI b) :: .int (nI a) :: rest)) := lv_icmp_le hx hb hdg ht (fun h => kt ((nI_leI ha hb2).mp h)) (fun h => kf (Nat.lt_of_not_le (fun q => h ((nI_leI ha hb2).mpr q))))
theorem nv_icmp_gt (hx : p.tables.exec = Jvm.exec) (hb : c.code = cc) {a b : Nat} (ha : a < 2147483648) (hb2 : b < 2147483648) {off : Int} {tgt : Nat} (hdg : decode cc pc = .ok (.if_icmp .gt off, 3)) (ht : (pc : Int) + off = (tgt : Int)) (kt : b < a → W p l e R s m args below meth c H locs cells slots Q (F0 m tgt ls (rest))) (kf : a ≤ b → W p l e R s m args below meth c H locs cells slots Q (F0 m (pc + 3) ls (rest))) : W p l e R s m args below meth c H locs cells slots Q (F0 m pc ls (.int (nI b) :: .int (nI a) :: rest)) := lv_icmp_gt hx hb hdg ht (fun h => kt ((nI_ltI hb2 ha).mp h)) (fun h => kf (Nat.le_of_not_lt (fun q => h ((nI_ltI hb2 ha).mpr q))))
theorem nv_icmp_lt (hx : p.tables.exec = Jvm.exec) (hb : c.code = cc) {a b : Nat} (ha : a < 2147483648) (hb2 : b < 2147483648) {off : Int} {tgt : Nat} (hdg : decode cc pc = .ok (.if_icmp .lt off, 3)) (ht : (pc : Int) + off = (tgt : Int)) (kt : a < b → W p l e R s m args below meth c H locs cells slots Q (F0 m tgt ls (rest))) (kf : b ≤ a → W p l e R s m args below meth c H locs cells slots Q (F0 m (pc + 3) ls (rest))) : W p l e R s m args below meth c H locs cells slots Q (F0 m pc ls (.int (nI b) :: .int (nI a) :: rest)) := lv_icmp_lt hx hb hdg ht (fun h => kt ((nI_ltI ha hb2).mp h)) (fun h => kf (Nat.le_of_not_lt (fun q => h ((nI_ltI ha hb2).mpr q))))
theorem nv_icmp_ne (hx : p.tables.exec = Jvm.exec) (hb : c.code = cc) {a b : Nat} (ha : a < 2147483648) (hb2 : b < 2147483648) {off : Int} {tgt : Nat} (hdg : decode cc pc = .ok (.if_icmp .ne off, 3)) (ht : (pc : Int) + off = (tgt : Int)) (kt : a ≠ b → W p l e R s m args below meth c H locs cells slots Q (F0 m tgt ls (rest))) (kf : a = b → W p l e R s m args below meth c H locs cells slots Q (F0 m (pc + 3) ls (rest))) : W p l e R s m args below meth c H locs cells slots Q (F0 m pc ls (.int (nI b) :: .int (nI a) :: rest)) := lv_icmp_ne hx hb hdg ht (fun h => kt (fun q => h (by rw [q]))) (fun h => kf ((nI_eq ha hb2).mp h))
theorem nv_if_le (hx : p.tables.exec = Jvm.exec) (hb : c.code = cc) {a : Nat} (ha : a < 2147483648) {off : Int} {tgt : Nat} (hdg : decode cc pc = .ok (.ifCond .le off, 3)) (ht : (pc : Int) + off = (tgt : Int)) (kt : a = 0 → W p l e R s m args below meth c H locs cells slots Q (F0 m tgt ls (rest))) (kf : 0 < a → W p l e R s m args below meth c H locs cells slots Q (F0 m (pc + 3) ls (rest))) : W p l e R s m args below meth c H locs cells slots Q (F0 m pc ls (.int (nI a) :: rest)) := lv_if_le hx hb hdg ht (fun h => kt (by rcases Nat.eq_zero_or_pos a with q | q; exact q; exact absurd h (nI_nle q ha))) (fun h => kf (Nat.pos_of_ne_zero (fun q => h (by rw [q]; decide))))
theorem nv_if_eq (hx : p.tables.exec = Jvm.exec) (hb : c.code = cc) {a : Nat} (ha : a < 2147483648) {off : Int} {tgt : Nat} (hdg : decode cc pc = .ok (.ifCond .eq off, 3)) (ht : (pc : Int) + off = (tgt : Int)) (kt : a = 0 → W p l e R s m args below meth c H locs cells slots Q (F0 m tgt ls (rest))) (kf : 0 < a → W p l e R s m args below meth c H locs cells slots Q (F0 m (pc + 3) ls (rest))) : W p l e R s m args below meth c H locs cells slots Q (F0 m pc ls (.int (nI a) :: rest)) := lv_if_eq hx hb hdg ht (fun h => kt (by rcases Nat.eq_zero_or_pos a with q | q; exact q; exact absurd h (nI_ne0 q ha))) (fun h => kf (Nat.pos_of_ne_zero (fun q => h (by rw [q]; rfl))))
theorem nv_if_lt (hx : p.tables.exec = Jvm.exec) (hb : c.code = cc) {a : Nat} (ha : a < 2147483648) {off : Int} {tgt : Nat} (hdg : decode cc pc = .ok (.ifCond .lt off, 3)) (ht : (pc : Int) + off = (tgt : Int)) (kt : False → W p l e R s m args below meth c H locs cells slots Q (F0 m tgt ls (rest))) (kf : True → W p l e R s m args below meth c H locs cells slots Q (F0 m (pc + 3) ls (rest))) : W p l e R s m args below meth c H locs cells slots Q (F0 m pc ls (.int (nI a) :: rest)) := lv_if_lt hx hb hdg ht (fun h => kt (nI_pos ha h)) (fun h => kf trivial)
theorem nv_if_lt_eo (hx : p.tables.exec = Jvm.exec) (hb : c.code = cc) {o : Option Nat} (ho : ∀ k, o = some k → k < 130) {off : Int} {tgt : Nat} (hdg : decode cc pc = .ok (.ifCond .lt off, 3)) (ht : (pc : Int) + off = (tgt : Int)) (kt : o = none → W p l e R s m args below meth c H locs cells slots Q (F0 m tgt ls (rest))) (kf : (∃ k, o = some k) → W p l e R s m args below meth c H locs cells slots Q (F0 m (pc + 3) ls (rest))) : W p l e R s m args below meth c H locs cells slots Q (F0 m pc ls (.int (sp_eo o) :: rest)) := lv_if_lt hx hb hdg ht (fun h => kt (by cases o with | none => rfl | some k => exact absurd h (nI_pos (by have := ho k rfl; omega)))) (fun h => kf (by cases o with | none => exact absurd (by decide) h | some k => exact ⟨k, rfl⟩))
theorem nv_if_eq_eb (hx : p.tables.exec = Jvm.exec) (hb : c.code = cc) {o : Bool} {off : Int} {tgt : Nat} (hdg : decode cc pc = .ok (.ifCond .eq off, 3)) (ht : (pc : Int) + off = (tgt : Int)) (kt : o = false → W p l e R s m args below meth c H locs cells slots Q (F0 m tgt ls (rest))) (kf : o = true → W p l e R s m args below meth c H locs cells slots Q (F0 m (pc + 3) ls (rest))) : W p l e R s m args below meth c H locs cells slots Q (F0 m pc ls (.int (sp_eb o) :: rest)) := lv_if_eq hx hb hdg ht (fun h => kt (by cases o with | false => rfl | true => exact absurd h (by decide))) (fun h => kf (by cases o with | true => rfl | false => exact absurd (by decide) h))
theorem nv_if_ne_eb (hx : p.tables.exec = Jvm.exec) (hb : c.code = cc) {o : Bool} {off : Int} {tgt : Nat} (hdg : decode cc pc = .ok (.ifCond .ne off, 3)) (ht : (pc : Int) + off = (tgt : Int)) (kt : o = true → W p l e R s m args below meth c H locs cells slots Q (F0 m tgt ls (rest))) (kf : o = false → W p l e R s m args below meth c H locs cells slots Q (F0 m (pc + 3) ls (rest))) : W p l e R s m args below meth c H locs cells slots Q (F0 m pc ls (.int (sp_eb o) :: rest)) := lv_if_ne hx hb hdg ht (fun h => kt (by cases o with | true => rfl | false => exact absurd (by decide) h)) (fun h => kf (by cases o with | false => rfl | true => exact absurd h (by decide)))
theorem nv_bit_eq (hx : p.tables.exec = Jvm.exec) (hb : c.code = cc) {a b : Nat} (ha : a < 16) (hb2 : b < 4) {off : Int} {tgt : Nat} (d0 : decode cc pc = .ok (.iushr, 1)) (d1 : decode cc (pc + 1) = .ok (.iconst 1, 1)) (d2 : decode cc (pc + 2) = .ok (.iand, 1)) (d3 : decode cc (pc + 3) = .ok (.ifCond .eq off, 3)) (ht : ((pc + 3 : Nat) : Int) + off = (tgt : Int)) (kt : a.testBit b = false → W p l e R s m args below meth c H locs cells slots Q (F0 m tgt ls (rest))) (kf : a.testBit b = true → W p l e R s m args below meth c H locs cells slots Q (F0 m (pc + 3 + 3) ls (rest))) : W p l e R s m args below meth c H locs cells slots Q (F0 m pc ls (.int (nI b) :: .int (nI a) :: rest)) :=
  lv_iushr hx hb d0 rfl (lv_iconst (v := 1) hx hb d1 (by decide) (lv_iand hx hb d2 (lv_if_eq hx hb d3 ht (fun h => kt ((nx_bit (by omega) (by omega)).mp h)) (fun h => kf (by cases e : a.testBit b with | true => rfl | false => exact absurd ((nx_bit (by omega) (by omega)).mpr e) h)))))
theorem nv_bit_ne (hx : p.tables.exec = Jvm.exec) (hb : c.code = cc) {a b : Nat} (ha : a < 16) (hb2 : b < 4) {off : Int} {tgt : Nat} (d0 : decode cc pc = .ok (.iushr, 1)) (d1 : decode cc (pc + 1) = .ok (.iconst 1, 1)) (d2 : decode cc (pc + 2) = .ok (.iand, 1)) (d3 : decode cc (pc + 3) = .ok (.ifCond .ne off, 3)) (ht : ((pc + 3 : Nat) : Int) + off = (tgt : Int)) (kt : a.testBit b = true → W p l e R s m args below meth c H locs cells slots Q (F0 m tgt ls (rest))) (kf : a.testBit b = false → W p l e R s m args below meth c H locs cells slots Q (F0 m (pc + 3 + 3) ls (rest))) : W p l e R s m args below meth c H locs cells slots Q (F0 m pc ls (.int (nI b) :: .int (nI a) :: rest)) :=
  lv_iushr hx hb d0 rfl (lv_iconst (v := 1) hx hb d1 (by decide) (lv_iand hx hb d2 (lv_if_ne hx hb d3 ht (fun h => kt (by cases e : a.testBit b with | true => rfl | false => exact absurd ((nx_bit (by omega) (by omega)).mpr e) h)) (fun h => kf ((nx_bit (by omega) (by omega)).mp h)))))
end NV
theorem nv_inc (a : Nat) : nI a + Int32.ofInt 1 = nI (a + 1) := nI_1 a
section ST
variable {l : Launch} {y : MethodName} {cc : ByteArray} {maxL : Nat} {ret : Option FieldType} {rm : Room} {As : List Value} {post : Int32 → Prop}
theorem st_entry (own : String) (hy : plainName y.cls = true) (hyR : y.cls = own) (hsl : (lg_sl As).length ≤ maxL)
    (body : ∀ (p : Program) (e : Env) (s : State) (m : MethodId) (below : List Frame) (meth : Method) (c : Code), p.tables.exec = Jvm.exec → c.code = cc → meth.sig.returnType = ret → c.maxLocals = maxL → s.vm.findClass own = some m.cls → (∀ w ∈ lw_all, w.before As.toArray s = true) → meth.locks = false → ∀ ls : Array Slot, lv_has ls maxL (lv_args 0 As) → W p l e rm s m As.toArray below meth c s.heap [] 0 0 (MQ below (vp_Si post) As.toArray s 0 0 (fun _ => False)) (F0 m 0 ls [])) :
    Met l y (ws_ y cc maxL ret) rm (fun v _ => v = As.toArray) (vp_Si post) 0 0 (fun _ => False) := by
  refine Met.ofW (cc := cc) (maxL := maxL) (ret := ret) hy rfl ?_
  intro p e s m args below meth c s₁ B hml hv
  have hv : args = As.toArray := hv
  subst hv
  have hts0 := atoms_spec (ws := ws_ y cc maxL ret) B.pre
  have hts : ∀ w ∈ lw_all, w.before As.toArray s = true := fun w h => hts0 w (List.mem_cons_of_mem _ h)
  have hown : s.vm.findClass own = some m.cls := by rw [← hyR]; exact findClass_of_methodNamed B.named
  rw [lg_entry_eq]
  exact body p e s m below meth c B.exec B.bytes B.returns hml hown hts B.notSynchronized _ (lv_entry _ hsl)
end ST
section STC
variable {p : Program} {l : Launch} {e : Env} {R : Room} {s : State} {m : MethodId} {args : Array Value} {below : List Frame} {meth : Method} {c : Code} {H : Heap} {locs : List Loc} {cells slots : Nat} {Q : State → Prop} {cc : ByteArray} {pc : Nat} {ls : Array Slot} {rest : List Value}
theorem st_iret {post : Int32 → Prop} {v : Int32} {ty : FieldType} (hx : p.tables.exec = Jvm.exec) (hb : c.code = cc) (hr : meth.sig.returnType = some ty) (hn : narrow ty (.int v) = .int v) (hlocks : meth.locks = false) (hp : post v) (hdg : decode cc pc = .ok (.ireturn, 1)) : W p l e R s m args below meth c s.heap [] 0 0 (MQ below (vp_Si post) args s 0 0 (fun _ => False)) (F0 m pc ls [.int v]) :=
  W.zret hx hb hr hn (fun t ht hW => ⟨v, rfl, hp, ht⟩) (fun q h => absurd h List.not_mem_nil) hdg hlocks
theorem st_ent {l : Launch} {y : MethodName} {cc : ByteArray} {maxL : Nat} {ty : FieldType} {rm : Room} {As : List Value} {post : Int32 → Prop} (own : String) (hy : plainName y.cls = true) (hyR : y.cls = own) (hsl : (lg_sl As).length ≤ maxL)
    (body : ∀ (p : Program) (e : Env) (s : State) (m : MethodId) (args : Array Value) (below : List Frame) (meth : Method) (c : Code) (Q : State → Prop), p.tables.exec = Jvm.exec → c.code = cc → c.maxLocals = maxL → s.vm.findClass own = some m.cls → (∀ w ∈ lw_all, w.before args s = true) → (∀ (r : Int32) (pc : Nat) (ls : Array Slot), narrow ty (.int r) = .int r → post r → decode cc pc = .ok (.ireturn, 1) → W p l e rm s m args below meth c s.heap [] 0 0 Q (F0 m pc ls [.int r])) → ∀ ls : Array Slot, lv_has ls maxL (lv_args 0 As) → W p l e rm s m args below meth c s.heap [] 0 0 Q (F0 m 0 ls [])) :
    Met l y (ws_ y cc maxL (some ty)) rm (fun v _ => v = As.toArray) (vp_Si post) 0 0 (fun _ => False) := by
  refine st_entry own hy hyR hsl ?_
  intro p e s m below meth c hx hb hr hml hown hts hlocks ls hl
  exact body p e s m _ below meth c _ hx hb hml hown hts (fun r pc ls hn hp hd => st_iret hx hb hr hn hlocks hp hd) ls hl
theorem st_call {own : String} {y : MethodName} {bytes : ByteArray} {maxL nL n index : Nat} {ret : Option FieldType} {rm : Room} {As st0 : List Value} {post : Int32 → Prop} {ws : List Cond} (hx : p.tables.exec = Jvm.exec) (hb : c.code = cc) (hml : c.maxLocals = nL) (hown : s.vm.findClass own = some m.cls) (hts : ∀ w ∈ lw_all, w.before args s = true)
    (hM : Met l y ws rm (fun v _ => v = As.toArray) (vp_Si post) 0 0 (fun _ => False)) (cw : CallB R s args own index y bytes maxL ret ws rm 0 0 n ∧ (Cond.static y).before args s = true) (hn : As.length = n) (hsize : ls.size = nL) (hst : st0 = As.reverse ++ rest) (hW : (rest.map fun v => v.category).sum ≤ 8) (hdg : decode cc pc = .ok (.invokestatic index, 3)) (hf : cells ≤ R.cells ∧ slots ≤ R.slots)
    (kk : ∀ r : Int32, post r → W p l e R s m args below meth c H locs cells slots Q (F0 m (pc + 3) ls (.int r :: rest))) : W p l e R s m args below meth c H locs cells slots Q (F0 m pc ls st0) :=
  vp_callSi (W.runS (As := As) (rest := rest) ⟨hx, hb, hml, hown, hts⟩ hM cw preEq rfl hn hsize hst (lv_room hW) hdg hf) kk
end STC
/-! the world of RX0 -/
abbrev sp_xg : Type := (Nat → Option Nat) × (Nat → Nat) × (Nat → Bool) × (Nat → Nat) × (Nat → Int32) × (Nat → Option Nat) × (Nat → Nat)
abbrev sp_xw (h0 : Nat) (a : Nat → Nat) (d : Nat → ClassId) (g : sp_xg) : va_W := [(h0, .inr (0, [.ref (a 0), .ref (a 1), .ref (a 2), .ref (a 3), .ref (a 4), .ref (a 5), .ref (a 6)])), (a 0, .inl (d 0, 64, .inl (fun j => sp_eo (g.1 j)))), (a 1, .inl (d 1, 4, .inl (fun j => nI (g.2.1 j)))), (a 2, .inl (d 2, 130, .inl (fun j => sp_eb (g.2.2.1 j)))), (a 3, .inl (d 3, 130, .inl (fun j => nI (g.2.2.2.1 j)))), (a 4, .inl (d 4, 520, .inl g.2.2.2.2.1)), (a 5, .inl (d 5, 130, .inl (fun j => sp_eo (g.2.2.2.2.2.1 j)))), (a 6, .inl (d 6, 130, .inl (fun j => nI (g.2.2.2.2.2.2 j))))]
abbrev sp_xt (d : Nat → ClassId) : List (ClassId × FieldType) := [(d 0, .int), (d 1, .int), (d 2, .boolean), (d 3, .int), (d 4, .int), (d 5, .int), (d 6, .int)]
def sp_xP (D : va_G) (A : Nat → Prop) (h0 : Nat) (a : Nat → Nat) (d : Nat → ClassId) (g : sp_xg) (H0 H : Heap) (locs : List Loc) : Prop := va_P D vwCl (sp_xw h0 a d g) H ∧ va_D A (sp_xw h0 a d g) ∧ va_S A H0 H locs
def sp_xB (D : va_G) (A : Nat → Prop) (h0 : Nat) (a : Nat → Nat) (d : Nat → ClassId) (g : sp_xg) (t : State) : Prop := va_P D vwCl (sp_xw h0 a d g) t.heap ∧ va_K D vwCl (sp_xt d) t ∧ va_D A (sp_xw h0 a d g)
def sp_xS (D : va_G) (h0 : Nat) (a : Nat → Nat) (d : Nat → ClassId) (sz : Nat) (g : sp_xg) (U : State) : Prop := U.heap.size = sz ∧ va_P D vwCl (sp_xw h0 a d g) U.heap ∧ va_K D vwCl (sp_xt d) U ∧ va_D (fun _ => True) (sp_xw h0 a d g)
def sp_xR (D : va_G) (h0 : Nat) (a : Nat → Nat) (d : Nat → ClassId) (g : sp_xg) (U : State) : Prop := va_P D vwCl (sp_xw h0 a d g) U.heap ∧ va_K D vwCl (sp_xt d) U
section XROWS
variable {p : Program} {l : Launch} {e : Env} {R : Room} {s : State} {m : MethodId} {args : Array Value} {below : List Frame} {meth : Method} {c : Code} {H H0 : Heap} {locs : List Loc} {cells slots : Nat} {Q : State → Prop} {cc : ByteArray} {pc : Nat} {ls : Array Slot} {rest : List Value} {D : va_G} {A : Nat → Prop} {h0 : Nat} {a : Nat → Nat} {d : Nat → ClassId} {g : sp_xg}
variable {O : Nat → Option Nat} {Z : Nat → Nat} {T : Nat → Bool} {M : Nat → Nat} {C : Nat → Int32} {S : Nat → Option Nat} {U : Nat → Nat}
theorem xg_O (hx : p.tables.exec = Jvm.exec) (hb : c.code = cc) (hts : ∀ w ∈ lw_all, w.before args s = true) (hown : s.vm.findClass RX0 = some m.cls) (hK : va_K D vwCl (sp_xt d) s) (hP : va_P D vwCl (sp_xw h0 a d g) H) (hdg : decode cc pc = .ok (.getfield 7, 3)) (kk : W p l e R s m args below meth c H locs cells slots Q (F0 m (pc + 3) ls (.ref (a 0) :: rest))) : W p l e R s m args below meth c H locs cells slots Q (F0 m pc ls (.ref h0 :: rest)) :=
  va_get (D := D) (ci := 0) (v := .ref (a 0)) (C := RX0) (T := TX0) (N := 7) hx hb hts in_X0 hown hK hP 0 rfl rfl 0 (by decide) (hts _ q20) (fun _ h9 => h9) rfl hdg kk
theorem xl_O (hx : p.tables.exec = Jvm.exec) (hb : c.code = cc) (hK : va_K D vwCl (sp_xt d) s) (hP : va_P D vwCl (sp_xw h0 a d (O, Z, T, M, C, S, U)) H) {k : Nat} (hk : k < 64) (hdg : decode cc pc = .ok (.iaload, 1)) (kk : W p l e R s m args below meth c H locs cells slots Q (F0 m (pc + 1) ls (.int (sp_eo (O k)) :: rest))) : W p l e R s m args below meth c H locs cells slots Q (F0 m pc ls (.int (nI k) :: .ref (a 0) :: rest)) :=
  va_iald hx hb hK hP 1 0 rfl rfl (vp_in_nI hk (by decide)) hdg (by rw [nI_clamp (Nat.lt_trans hk (by decide))]; exact kk)
theorem xs_O (hx : p.tables.exec = Jvm.exec) (hb : c.code = cc) (hK : va_K D vwCl (sp_xt d) s) (hX : sp_xP D A h0 a d (O, Z, T, M, C, S, U) H0 H locs) {k : Nat} {v : Option Nat} (hk : k < 64) (hdg : decode cc pc = .ok (.iastore, 1)) (kk : ∀ (H1 : Heap) (locs1 : List Loc), sp_xP D A h0 a d (va_up O k v, Z, T, M, C, S, U) H0 H1 locs1 → W p l e R s m args below meth c H1 locs1 cells slots Q (F0 m (pc + 1) ls (rest))) : W p l e R s m args below meth c H locs cells slots Q (F0 m pc ls (.int (sp_eo v) :: .int (nI k) :: .ref (a 0) :: rest)) := by
  refine va_iast hx hb hK hX.1 hX.2.1 hX.2.2 1 0 rfl rfl (vp_in_nI hk (by decide)) hdg (fun H1 locs1 hP hD hS => ?_)
  have e2 : (sp_xw h0 a d (O, Z, T, M, C, S, U)).set 1 (a 0, .inl (d 0, 64, .inl (upd (fun j => sp_eo (O j)) (nI k).toNatClampNeg (sp_eo v)))) = sp_xw h0 a d (va_up O k v, Z, T, M, C, S, U) := by
    rw [nI_clamp (Nat.lt_trans hk (by decide)), sp_up_eo O k v]
    rfl
  exact kk H1 locs1 ⟨e2 ▸ hP, e2 ▸ hD, hS⟩
theorem xg_Z (hx : p.tables.exec = Jvm.exec) (hb : c.code = cc) (hts : ∀ w ∈ lw_all, w.before args s = true) (hown : s.vm.findClass RX0 = some m.cls) (hK : va_K D vwCl (sp_xt d) s) (hP : va_P D vwCl (sp_xw h0 a d g) H) (hdg : decode cc pc = .ok (.getfield 13, 3)) (kk : W p l e R s m args below meth c H locs cells slots Q (F0 m (pc + 3) ls (.ref (a 1) :: rest))) : W p l e R s m args below meth c H locs cells slots Q (F0 m pc ls (.ref h0 :: rest)) :=
  va_get (D := D) (ci := 0) (v := .ref (a 1)) (C := RX0) (T := TX0) (N := 7) hx hb hts in_X0 hown hK hP 0 rfl rfl 1 (by decide) (hts _ q21) (fun _ h9 => h9) rfl hdg kk
theorem xl_Z (hx : p.tables.exec = Jvm.exec) (hb : c.code = cc) (hK : va_K D vwCl (sp_xt d) s) (hP : va_P D vwCl (sp_xw h0 a d (O, Z, T, M, C, S, U)) H) {k : Nat} (hk : k < 4) (hdg : decode cc pc = .ok (.iaload, 1)) (kk : W p l e R s m args below meth c H locs cells slots Q (F0 m (pc + 1) ls (.int (nI (Z k)) :: rest))) : W p l e R s m args below meth c H locs cells slots Q (F0 m pc ls (.int (nI k) :: .ref (a 1) :: rest)) :=
  va_iald hx hb hK hP 2 1 rfl rfl (vp_in_nI hk (by decide)) hdg (by rw [nI_clamp (Nat.lt_trans hk (by decide))]; exact kk)
theorem xs_Z (hx : p.tables.exec = Jvm.exec) (hb : c.code = cc) (hK : va_K D vwCl (sp_xt d) s) (hX : sp_xP D A h0 a d (O, Z, T, M, C, S, U) H0 H locs) {k : Nat} {v : Nat} (hk : k < 4) (hdg : decode cc pc = .ok (.iastore, 1)) (kk : ∀ (H1 : Heap) (locs1 : List Loc), sp_xP D A h0 a d (O, va_up Z k v, T, M, C, S, U) H0 H1 locs1 → W p l e R s m args below meth c H1 locs1 cells slots Q (F0 m (pc + 1) ls (rest))) : W p l e R s m args below meth c H locs cells slots Q (F0 m pc ls (.int (nI v) :: .int (nI k) :: .ref (a 1) :: rest)) := by
  refine va_iast hx hb hK hX.1 hX.2.1 hX.2.2 2 1 rfl rfl (vp_in_nI hk (by decide)) hdg (fun H1 locs1 hP hD hS => ?_)
  have e2 : (sp_xw h0 a d (O, Z, T, M, C, S, U)).set 2 (a 1, .inl (d 1, 4, .inl (upd (fun j => nI (Z j)) (nI k).toNatClampNeg (nI v)))) = sp_xw h0 a d (O, va_up Z k v, T, M, C, S, U) := by
    rw [nI_clamp (Nat.lt_trans hk (by decide)), sp_up_nI Z k v]
    rfl
  exact kk H1 locs1 ⟨e2 ▸ hP, e2 ▸ hD, hS⟩
theorem xg_T (hx : p.tables.exec = Jvm.exec) (hb : c.code = cc) (hts : ∀ w ∈ lw_all, w.before args s = true) (hown : s.vm.findClass RX0 = some m.cls) (hK : va_K D vwCl (sp_xt d) s) (hP : va_P D vwCl (sp_xw h0 a d g) H) (hdg : decode cc pc = .ok (.getfield 16, 3)) (kk : W p l e R s m args below meth c H locs cells slots Q (F0 m (pc + 3) ls (.ref (a 2) :: rest))) : W p l e R s m args below meth c H locs cells slots Q (F0 m pc ls (.ref h0 :: rest)) :=
  va_get (D := D) (ci := 0) (v := .ref (a 2)) (C := RX0) (T := TX0) (N := 7) hx hb hts in_X0 hown hK hP 0 rfl rfl 2 (by decide) (hts _ q22) (fun _ h9 => h9) rfl hdg kk
theorem xl_T (hx : p.tables.exec = Jvm.exec) (hb : c.code = cc) (hK : va_K D vwCl (sp_xt d) s) (hP : va_P D vwCl (sp_xw h0 a d (O, Z, T, M, C, S, U)) H) {k : Nat} (hk : k < 130) (hdg : decode cc pc = .ok (.baload, 1)) (kk : W p l e R s m args below meth c H locs cells slots Q (F0 m (pc + 1) ls (.int (sp_eb (T k)) :: rest))) : W p l e R s m args below meth c H locs cells slots Q (F0 m pc ls (.int (nI k) :: .ref (a 2) :: rest)) :=
  va_zald hx hb hK hP 3 2 rfl rfl (vp_in_nI hk (by decide)) hdg (by rw [nI_clamp (Nat.lt_trans hk (by decide))]; exact kk)
theorem xs_T (hx : p.tables.exec = Jvm.exec) (hb : c.code = cc) (hK : va_K D vwCl (sp_xt d) s) (hX : sp_xP D A h0 a d (O, Z, T, M, C, S, U) H0 H locs) {k : Nat} {v : Bool} (hk : k < 130) (hdg : decode cc pc = .ok (.bastore, 1)) (kk : ∀ (H1 : Heap) (locs1 : List Loc), sp_xP D A h0 a d (O, Z, va_up T k v, M, C, S, U) H0 H1 locs1 → W p l e R s m args below meth c H1 locs1 cells slots Q (F0 m (pc + 1) ls (rest))) : W p l e R s m args below meth c H locs cells slots Q (F0 m pc ls (.int (sp_eb v) :: .int (nI k) :: .ref (a 2) :: rest)) := by
  refine va_zast hx hb hK hX.1 hX.2.1 hX.2.2 3 2 rfl rfl (vp_in_nI hk (by decide)) hdg (fun H1 locs1 hP hD hS => ?_)
  have e2 : (sp_xw h0 a d (O, Z, T, M, C, S, U)).set 3 (a 2, .inl (d 2, 130, .inl (upd (fun j => sp_eb (T j)) (nI k).toNatClampNeg (vp_nar .boolean (sp_eb v))))) = sp_xw h0 a d (O, Z, va_up T k v, M, C, S, U) := by
    rw [nI_clamp (Nat.lt_trans hk (by decide)), sp_up_eb T k v]
    rfl
  exact kk H1 locs1 ⟨e2 ▸ hP, e2 ▸ hD, hS⟩
theorem xg_M (hx : p.tables.exec = Jvm.exec) (hb : c.code = cc) (hts : ∀ w ∈ lw_all, w.before args s = true) (hown : s.vm.findClass RX0 = some m.cls) (hK : va_K D vwCl (sp_xt d) s) (hP : va_P D vwCl (sp_xw h0 a d g) H) (hdg : decode cc pc = .ok (.getfield 20, 3)) (kk : W p l e R s m args below meth c H locs cells slots Q (F0 m (pc + 3) ls (.ref (a 3) :: rest))) : W p l e R s m args below meth c H locs cells slots Q (F0 m pc ls (.ref h0 :: rest)) :=
  va_get (D := D) (ci := 0) (v := .ref (a 3)) (C := RX0) (T := TX0) (N := 7) hx hb hts in_X0 hown hK hP 0 rfl rfl 3 (by decide) (hts _ q23) (fun _ h9 => h9) rfl hdg kk
theorem xl_M (hx : p.tables.exec = Jvm.exec) (hb : c.code = cc) (hK : va_K D vwCl (sp_xt d) s) (hP : va_P D vwCl (sp_xw h0 a d (O, Z, T, M, C, S, U)) H) {k : Nat} (hk : k < 130) (hdg : decode cc pc = .ok (.iaload, 1)) (kk : W p l e R s m args below meth c H locs cells slots Q (F0 m (pc + 1) ls (.int (nI (M k)) :: rest))) : W p l e R s m args below meth c H locs cells slots Q (F0 m pc ls (.int (nI k) :: .ref (a 3) :: rest)) :=
  va_iald hx hb hK hP 4 3 rfl rfl (vp_in_nI hk (by decide)) hdg (by rw [nI_clamp (Nat.lt_trans hk (by decide))]; exact kk)
theorem xs_M (hx : p.tables.exec = Jvm.exec) (hb : c.code = cc) (hK : va_K D vwCl (sp_xt d) s) (hX : sp_xP D A h0 a d (O, Z, T, M, C, S, U) H0 H locs) {k : Nat} {v : Nat} (hk : k < 130) (hdg : decode cc pc = .ok (.iastore, 1)) (kk : ∀ (H1 : Heap) (locs1 : List Loc), sp_xP D A h0 a d (O, Z, T, va_up M k v, C, S, U) H0 H1 locs1 → W p l e R s m args below meth c H1 locs1 cells slots Q (F0 m (pc + 1) ls (rest))) : W p l e R s m args below meth c H locs cells slots Q (F0 m pc ls (.int (nI v) :: .int (nI k) :: .ref (a 3) :: rest)) := by
  refine va_iast hx hb hK hX.1 hX.2.1 hX.2.2 4 3 rfl rfl (vp_in_nI hk (by decide)) hdg (fun H1 locs1 hP hD hS => ?_)
  have e2 : (sp_xw h0 a d (O, Z, T, M, C, S, U)).set 4 (a 3, .inl (d 3, 130, .inl (upd (fun j => nI (M j)) (nI k).toNatClampNeg (nI v)))) = sp_xw h0 a d (O, Z, T, va_up M k v, C, S, U) := by
    rw [nI_clamp (Nat.lt_trans hk (by decide)), sp_up_nI M k v]
    rfl
  exact kk H1 locs1 ⟨e2 ▸ hP, e2 ▸ hD, hS⟩
theorem xg_C (hx : p.tables.exec = Jvm.exec) (hb : c.code = cc) (hts : ∀ w ∈ lw_all, w.before args s = true) (hown : s.vm.findClass RX0 = some m.cls) (hK : va_K D vwCl (sp_xt d) s) (hP : va_P D vwCl (sp_xw h0 a d g) H) (hdg : decode cc pc = .ok (.getfield 23, 3)) (kk : W p l e R s m args below meth c H locs cells slots Q (F0 m (pc + 3) ls (.ref (a 4) :: rest))) : W p l e R s m args below meth c H locs cells slots Q (F0 m pc ls (.ref h0 :: rest)) :=
  va_get (D := D) (ci := 0) (v := .ref (a 4)) (C := RX0) (T := TX0) (N := 7) hx hb hts in_X0 hown hK hP 0 rfl rfl 4 (by decide) (hts _ q24) (fun _ h9 => h9) rfl hdg kk
theorem xl_C (hx : p.tables.exec = Jvm.exec) (hb : c.code = cc) (hK : va_K D vwCl (sp_xt d) s) (hP : va_P D vwCl (sp_xw h0 a d (O, Z, T, M, C, S, U)) H) {k : Nat} (hk : k < 520) (hdg : decode cc pc = .ok (.iaload, 1)) (kk : W p l e R s m args below meth c H locs cells slots Q (F0 m (pc + 1) ls (.int (C k) :: rest))) : W p l e R s m args below meth c H locs cells slots Q (F0 m pc ls (.int (nI k) :: .ref (a 4) :: rest)) :=
  va_iald hx hb hK hP 5 4 rfl rfl (vp_in_nI hk (by decide)) hdg (by rw [nI_clamp (Nat.lt_trans hk (by decide))]; exact kk)
theorem xs_C (hx : p.tables.exec = Jvm.exec) (hb : c.code = cc) (hK : va_K D vwCl (sp_xt d) s) (hX : sp_xP D A h0 a d (O, Z, T, M, C, S, U) H0 H locs) {k : Nat} {v : Int32} (hk : k < 520) (hdg : decode cc pc = .ok (.iastore, 1)) (kk : ∀ (H1 : Heap) (locs1 : List Loc), sp_xP D A h0 a d (O, Z, T, M, upd C k v, S, U) H0 H1 locs1 → W p l e R s m args below meth c H1 locs1 cells slots Q (F0 m (pc + 1) ls (rest))) : W p l e R s m args below meth c H locs cells slots Q (F0 m pc ls (.int (v) :: .int (nI k) :: .ref (a 4) :: rest)) := by
  refine va_iast hx hb hK hX.1 hX.2.1 hX.2.2 5 4 rfl rfl (vp_in_nI hk (by decide)) hdg (fun H1 locs1 hP hD hS => ?_)
  have e2 : (sp_xw h0 a d (O, Z, T, M, C, S, U)).set 5 (a 4, .inl (d 4, 520, .inl (upd C (nI k).toNatClampNeg v))) = sp_xw h0 a d (O, Z, T, M, upd C k v, S, U) := by
    rw [nI_clamp (Nat.lt_trans hk (by decide))]
    rfl
  exact kk H1 locs1 ⟨e2 ▸ hP, e2 ▸ hD, hS⟩
theorem xg_S (hx : p.tables.exec = Jvm.exec) (hb : c.code = cc) (hts : ∀ w ∈ lw_all, w.before args s = true) (hown : s.vm.findClass RX0 = some m.cls) (hK : va_K D vwCl (sp_xt d) s) (hP : va_P D vwCl (sp_xw h0 a d g) H) (hdg : decode cc pc = .ok (.getfield 26, 3)) (kk : W p l e R s m args below meth c H locs cells slots Q (F0 m (pc + 3) ls (.ref (a 5) :: rest))) : W p l e R s m args below meth c H locs cells slots Q (F0 m pc ls (.ref h0 :: rest)) :=
  va_get (D := D) (ci := 0) (v := .ref (a 5)) (C := RX0) (T := TX0) (N := 7) hx hb hts in_X0 hown hK hP 0 rfl rfl 5 (by decide) (hts _ q25) (fun _ h9 => h9) rfl hdg kk
theorem xl_S (hx : p.tables.exec = Jvm.exec) (hb : c.code = cc) (hK : va_K D vwCl (sp_xt d) s) (hP : va_P D vwCl (sp_xw h0 a d (O, Z, T, M, C, S, U)) H) {k : Nat} (hk : k < 130) (hdg : decode cc pc = .ok (.iaload, 1)) (kk : W p l e R s m args below meth c H locs cells slots Q (F0 m (pc + 1) ls (.int (sp_eo (S k)) :: rest))) : W p l e R s m args below meth c H locs cells slots Q (F0 m pc ls (.int (nI k) :: .ref (a 5) :: rest)) :=
  va_iald hx hb hK hP 6 5 rfl rfl (vp_in_nI hk (by decide)) hdg (by rw [nI_clamp (Nat.lt_trans hk (by decide))]; exact kk)
theorem xs_S (hx : p.tables.exec = Jvm.exec) (hb : c.code = cc) (hK : va_K D vwCl (sp_xt d) s) (hX : sp_xP D A h0 a d (O, Z, T, M, C, S, U) H0 H locs) {k : Nat} {v : Option Nat} (hk : k < 130) (hdg : decode cc pc = .ok (.iastore, 1)) (kk : ∀ (H1 : Heap) (locs1 : List Loc), sp_xP D A h0 a d (O, Z, T, M, C, va_up S k v, U) H0 H1 locs1 → W p l e R s m args below meth c H1 locs1 cells slots Q (F0 m (pc + 1) ls (rest))) : W p l e R s m args below meth c H locs cells slots Q (F0 m pc ls (.int (sp_eo v) :: .int (nI k) :: .ref (a 5) :: rest)) := by
  refine va_iast hx hb hK hX.1 hX.2.1 hX.2.2 6 5 rfl rfl (vp_in_nI hk (by decide)) hdg (fun H1 locs1 hP hD hS => ?_)
  have e2 : (sp_xw h0 a d (O, Z, T, M, C, S, U)).set 6 (a 5, .inl (d 5, 130, .inl (upd (fun j => sp_eo (S j)) (nI k).toNatClampNeg (sp_eo v)))) = sp_xw h0 a d (O, Z, T, M, C, va_up S k v, U) := by
    rw [nI_clamp (Nat.lt_trans hk (by decide)), sp_up_eo S k v]
    rfl
  exact kk H1 locs1 ⟨e2 ▸ hP, e2 ▸ hD, hS⟩
theorem xg_U (hx : p.tables.exec = Jvm.exec) (hb : c.code = cc) (hts : ∀ w ∈ lw_all, w.before args s = true) (hown : s.vm.findClass RX0 = some m.cls) (hK : va_K D vwCl (sp_xt d) s) (hP : va_P D vwCl (sp_xw h0 a d g) H) (hdg : decode cc pc = .ok (.getfield 29, 3)) (kk : W p l e R s m args below meth c H locs cells slots Q (F0 m (pc + 3) ls (.ref (a 6) :: rest))) : W p l e R s m args below meth c H locs cells slots Q (F0 m pc ls (.ref h0 :: rest)) :=
  va_get (D := D) (ci := 0) (v := .ref (a 6)) (C := RX0) (T := TX0) (N := 7) hx hb hts in_X0 hown hK hP 0 rfl rfl 6 (by decide) (hts _ q26) (fun _ h9 => h9) rfl hdg kk
theorem xl_U (hx : p.tables.exec = Jvm.exec) (hb : c.code = cc) (hK : va_K D vwCl (sp_xt d) s) (hP : va_P D vwCl (sp_xw h0 a d (O, Z, T, M, C, S, U)) H) {k : Nat} (hk : k < 130) (hdg : decode cc pc = .ok (.iaload, 1)) (kk : W p l e R s m args below meth c H locs cells slots Q (F0 m (pc + 1) ls (.int (nI (U k)) :: rest))) : W p l e R s m args below meth c H locs cells slots Q (F0 m pc ls (.int (nI k) :: .ref (a 6) :: rest)) :=
  va_iald hx hb hK hP 7 6 rfl rfl (vp_in_nI hk (by decide)) hdg (by rw [nI_clamp (Nat.lt_trans hk (by decide))]; exact kk)
theorem xs_U (hx : p.tables.exec = Jvm.exec) (hb : c.code = cc) (hK : va_K D vwCl (sp_xt d) s) (hX : sp_xP D A h0 a d (O, Z, T, M, C, S, U) H0 H locs) {k : Nat} {v : Nat} (hk : k < 130) (hdg : decode cc pc = .ok (.iastore, 1)) (kk : ∀ (H1 : Heap) (locs1 : List Loc), sp_xP D A h0 a d (O, Z, T, M, C, S, va_up U k v) H0 H1 locs1 → W p l e R s m args below meth c H1 locs1 cells slots Q (F0 m (pc + 1) ls (rest))) : W p l e R s m args below meth c H locs cells slots Q (F0 m pc ls (.int (nI v) :: .int (nI k) :: .ref (a 6) :: rest)) := by
  refine va_iast hx hb hK hX.1 hX.2.1 hX.2.2 7 6 rfl rfl (vp_in_nI hk (by decide)) hdg (fun H1 locs1 hP hD hS => ?_)
  have e2 : (sp_xw h0 a d (O, Z, T, M, C, S, U)).set 7 (a 6, .inl (d 6, 130, .inl (upd (fun j => nI (U j)) (nI k).toNatClampNeg (nI v)))) = sp_xw h0 a d (O, Z, T, M, C, S, va_up U k v) := by
    rw [nI_clamp (Nat.lt_trans hk (by decide)), sp_up_nI U k v]
    rfl
  exact kk H1 locs1 ⟨e2 ▸ hP, e2 ▸ hD, hS⟩
theorem x_entry {y : MethodName} {maxL sz : Nat} {ret : Option FieldType} {rm : Room} {As : List Value} {Qc : (Nat → Prop) → Array Value → State → Outcome → State → Prop} (hy : plainName y.cls = true) (hyR : y.cls = RX0) (hsl : (lg_sl (.ref h0 :: As)).length ≤ maxL)
    (body : ∀ (p : Program) (e : Env) (s : State) (m : MethodId) (below : List Frame) (meth : Method) (c : Code) (A : Nat → Prop), p.tables.exec = Jvm.exec → c.code = cc → meth.sig.returnType = ret → c.maxLocals = maxL → s.vm.findClass RX0 = some m.cls → (∀ w ∈ lw_all, w.before (.ref h0 :: As).toArray s = true) → meth.locks = false → va_K D vwCl (sp_xt d) s → (∀ q, s.heap.size ≤ q → A q) → sp_xP D A h0 a d g s.heap s.heap [] → ∀ ls : Array Slot, lv_has ls maxL (lv_args 0 (.ref h0 :: As)) → W p l e rm s m (.ref h0 :: As).toArray below meth c s.heap [] 0 0 (MQ below (Qc A) (.ref h0 :: As).toArray s 0 0 A) (F0 m 0 ls [])) :
    Met l y (ws_ y cc maxL ret) rm (va_Pc (.ref h0 :: As) (sp_xS D h0 a d sz g)) (Qc (va_A (sp_xw h0 a d g) sz)) 0 0 (va_A (sp_xw h0 a d g) sz) := by
  refine Met.ofW (cc := cc) (maxL := maxL) (ret := ret) hy rfl ?_
  intro p e s m args below meth c s₁ B hml hv
  obtain ⟨rfl, hsz, hP, hK, hD0⟩ := hv
  have hts0 := atoms_spec (ws := ws_ y cc maxL ret) B.pre
  have hts : ∀ w ∈ lw_all, w.before (.ref h0 :: As).toArray s = true := fun w h => hts0 w (List.mem_cons_of_mem _ h)
  have hown : s.vm.findClass RX0 = some m.cls := by rw [← hyR]; exact findClass_of_methodNamed B.named
  subst hsz
  have hD := hD0.self (sz := s.heap.size)
  rw [lg_entry_eq]
  exact body p e s m below meth c _ B.exec B.bytes B.returns hml hown hts B.notSynchronized hK (fun q h => Or.inr h) ⟨hP, hD, va_S.rf⟩ _ (lv_entry _ hsl)
theorem x_entryR {y : MethodName} {maxL : Nat} {ret : Option FieldType} {rm : Room} {As : List Value} {post : Int32 → Prop} (hy : plainName y.cls = true) (hyR : y.cls = RX0) (hsl : (lg_sl (.ref h0 :: As)).length ≤ maxL)
    (body : ∀ (p : Program) (e : Env) (s : State) (m : MethodId) (below : List Frame) (meth : Method) (c : Code), p.tables.exec = Jvm.exec → c.code = cc → meth.sig.returnType = ret → c.maxLocals = maxL → s.vm.findClass RX0 = some m.cls → (∀ w ∈ lw_all, w.before (.ref h0 :: As).toArray s = true) → meth.locks = false → va_K D vwCl (sp_xt d) s → va_P D vwCl (sp_xw h0 a d g) s.heap → ∀ ls : Array Slot, lv_has ls maxL (lv_args 0 (.ref h0 :: As)) → W p l e rm s m (.ref h0 :: As).toArray below meth c s.heap [] 0 0 (MQ below (vp_Si post) (.ref h0 :: As).toArray s 0 0 (fun _ => False)) (F0 m 0 ls [])) :
    Met l y (ws_ y cc maxL ret) rm (va_Pc (.ref h0 :: As) (sp_xR D h0 a d g)) (vp_Si post) 0 0 (fun _ => False) := by
  refine Met.ofW (cc := cc) (maxL := maxL) (ret := ret) hy rfl ?_
  intro p e s m args below meth c s₁ B hml hv
  obtain ⟨rfl, hP, hK⟩ := hv
  have hts0 := atoms_spec (ws := ws_ y cc maxL ret) B.pre
  have hts : ∀ w ∈ lw_all, w.before (.ref h0 :: As).toArray s = true := fun w h => hts0 w (List.mem_cons_of_mem _ h)
  have hown : s.vm.findClass RX0 = some m.cls := by rw [← hyR]; exact findClass_of_methodNamed B.named
  rw [lg_entry_eq]
  exact body p e s m below meth c B.exec B.bytes B.returns hml hown hts B.notSynchronized hK hP _ (lv_entry _ hsl)
theorem x_vret {post : sp_xg → Prop} (hx : p.tables.exec = Jvm.exec) (hb : c.code = cc) (hr : meth.sig.returnType = none) (hlocks : meth.locks = false) (hK : va_K D vwCl (sp_xt d) s) (hX : sp_xP D A h0 a d g s.heap H locs) (hp : post g) (hdg : decode cc pc = .ok (.return_, 1)) : W p l e R s m args below meth c H locs 0 0 (MQ below (va_Qv post (sp_xB D A h0 a d) A) args s 0 0 A) (F0 m pc ls []) :=
  W.vret hx hb hr (fun t ht hW => ⟨⟨g, rfl, hp, by rw [ht]; exact hX.1, va_K.moved hW.alike hK, hX.2.1⟩, hX.2.2.F ht⟩) hX.2.2.2.2 hdg hlocks
theorem x_iret {post : Int32 → sp_xg → Prop} {v : Int32} (hx : p.tables.exec = Jvm.exec) (hb : c.code = cc) (hr : meth.sig.returnType = some .int) (hlocks : meth.locks = false) (hK : va_K D vwCl (sp_xt d) s) (hX : sp_xP D A h0 a d g s.heap H locs) (hp : post v g) (hdg : decode cc pc = .ok (.ireturn, 1)) : W p l e R s m args below meth c H locs 0 0 (MQ below (va_Qi post (sp_xB D A h0 a d) A) args s 0 0 A) (F0 m pc ls [.int v]) :=
  W.iret hx hb hr (fun t ht hW => ⟨⟨v, g, rfl, hp, by rw [ht]; exact hX.1, va_K.moved hW.alike hK, hX.2.1⟩, hX.2.2.F ht⟩) hX.2.2.2.2 hdg hlocks
theorem x_entv {y : MethodName} {maxL sz : Nat} {rm : Room} {As : List Value} {post : sp_xg → Prop} (hy : plainName y.cls = true) (hyR : y.cls = RX0) (hsl : (lg_sl (.ref h0 :: As)).length ≤ maxL)
    (body : ∀ (p : Program) (e : Env) (s : State) (m : MethodId) (args : Array Value) (below : List Frame) (meth : Method) (c : Code) (A : Nat → Prop) (Q : State → Prop), p.tables.exec = Jvm.exec → c.code = cc → c.maxLocals = maxL → s.vm.findClass RX0 = some m.cls → (∀ w ∈ lw_all, w.before args s = true) → va_K D vwCl (sp_xt d) s → (∀ q, s.heap.size ≤ q → A q) → sp_xP D A h0 a d g s.heap s.heap [] → (∀ (H : Heap) (locs : List Loc) (g1 : sp_xg) (pc : Nat) (ls : Array Slot), sp_xP D A h0 a d g1 s.heap H locs → post g1 → decode cc pc = .ok (.return_, 1) → W p l e rm s m args below meth c H locs 0 0 Q (F0 m pc ls [])) → ∀ ls : Array Slot, lv_has ls maxL (lv_args 0 (.ref h0 :: As)) → W p l e rm s m args below meth c s.heap [] 0 0 Q (F0 m 0 ls [])) :
    Met l y (ws_ y cc maxL (none)) rm (va_Pc (.ref h0 :: As) (sp_xS D h0 a d sz g)) (va_Qv post (sp_xB D (va_A (sp_xw h0 a d g) sz) h0 a d) (va_A (sp_xw h0 a d g) sz)) 0 0 (va_A (sp_xw h0 a d g) sz) := by
  refine x_entry (Qc := fun A => va_Qv post (sp_xB D A h0 a d) A) hy hyR hsl ?_
  intro p e s m below meth c A hx hb hr hml hown hts hlocks hK hA hX ls hl
  exact body p e s m _ below meth c A _ hx hb hml hown hts hK hA hX (fun H locs g1 pc ls hX1 hp hd => x_vret hx hb hr hlocks hK hX1 hp hd) ls hl
theorem x_enti {y : MethodName} {maxL sz : Nat} {rm : Room} {As : List Value} {post : Int32 → sp_xg → Prop} (hy : plainName y.cls = true) (hyR : y.cls = RX0) (hsl : (lg_sl (.ref h0 :: As)).length ≤ maxL)
    (body : ∀ (p : Program) (e : Env) (s : State) (m : MethodId) (args : Array Value) (below : List Frame) (meth : Method) (c : Code) (A : Nat → Prop) (Q : State → Prop), p.tables.exec = Jvm.exec → c.code = cc → c.maxLocals = maxL → s.vm.findClass RX0 = some m.cls → (∀ w ∈ lw_all, w.before args s = true) → va_K D vwCl (sp_xt d) s → (∀ q, s.heap.size ≤ q → A q) → sp_xP D A h0 a d g s.heap s.heap [] → (∀ (r : Int32) (H : Heap) (locs : List Loc) (g1 : sp_xg) (pc : Nat) (ls : Array Slot), sp_xP D A h0 a d g1 s.heap H locs → post r g1 → decode cc pc = .ok (.ireturn, 1) → W p l e rm s m args below meth c H locs 0 0 Q (F0 m pc ls [.int r])) → ∀ ls : Array Slot, lv_has ls maxL (lv_args 0 (.ref h0 :: As)) → W p l e rm s m args below meth c s.heap [] 0 0 Q (F0 m 0 ls [])) :
    Met l y (ws_ y cc maxL (some .int)) rm (va_Pc (.ref h0 :: As) (sp_xS D h0 a d sz g)) (va_Qi post (sp_xB D (va_A (sp_xw h0 a d g) sz) h0 a d) (va_A (sp_xw h0 a d g) sz)) 0 0 (va_A (sp_xw h0 a d g) sz) := by
  refine x_entry (Qc := fun A => va_Qi post (sp_xB D A h0 a d) A) hy hyR hsl ?_
  intro p e s m below meth c A hx hb hr hml hown hts hlocks hK hA hX ls hl
  exact body p e s m _ below meth c A _ hx hb hml hown hts hK hA hX (fun r H locs g1 pc ls hX1 hp hd => x_iret hx hb hr hlocks hK hX1 hp hd) ls hl
theorem x_entr {y : MethodName} {maxL : Nat} {ty : FieldType} {rm : Room} {As : List Value} {post : Int32 → Prop} (hy : plainName y.cls = true) (hyR : y.cls = RX0) (hsl : (lg_sl (.ref h0 :: As)).length ≤ maxL)
    (body : ∀ (p : Program) (e : Env) (s : State) (m : MethodId) (args : Array Value) (below : List Frame) (meth : Method) (c : Code) (Q : State → Prop), p.tables.exec = Jvm.exec → c.code = cc → c.maxLocals = maxL → s.vm.findClass RX0 = some m.cls → (∀ w ∈ lw_all, w.before args s = true) → va_K D vwCl (sp_xt d) s → va_P D vwCl (sp_xw h0 a d g) s.heap → (∀ (r : Int32) (pc : Nat) (ls : Array Slot), narrow ty (.int r) = .int r → post r → decode cc pc = .ok (.ireturn, 1) → W p l e rm s m args below meth c s.heap [] 0 0 Q (F0 m pc ls [.int r])) → ∀ ls : Array Slot, lv_has ls maxL (lv_args 0 (.ref h0 :: As)) → W p l e rm s m args below meth c s.heap [] 0 0 Q (F0 m 0 ls [])) :
    Met l y (ws_ y cc maxL (some ty)) rm (va_Pc (.ref h0 :: As) (sp_xR D h0 a d g)) (vp_Si post) 0 0 (fun _ => False) := by
  refine x_entryR hy hyR hsl ?_
  intro p e s m below meth c hx hb hr hml hown hts hlocks hK hP ls hl
  exact body p e s m _ below meth c _ hx hb hml hown hts hK hP (fun r pc ls hn hp hd => st_iret hx hb hr hn hlocks hp hd) ls hl
theorem x_callv {y : MethodName} {bytes : ByteArray} {maxL nL n index : Nat} {ret : Option FieldType} {rm : Room} {As st0 : List Value} {ws : List Cond} {post : sp_xg → Prop} (hx : p.tables.exec = Jvm.exec) (hb : c.code = cc) (hml : c.maxLocals = nL) (hown : s.vm.findClass RX0 = some m.cls) (hts : ∀ w ∈ lw_all, w.before args s = true)
    (hM : Met l y ws rm (va_Pc (.ref h0 :: As) (sp_xS D h0 a d H.size g)) (va_Qv post (sp_xB D (va_A (sp_xw h0 a d g) H.size) h0 a d) (va_A (sp_xw h0 a d g) H.size)) 0 0 (va_A (sp_xw h0 a d g) H.size)) (cw : CallW R s args RX0 RX0 index y bytes maxL ret ws rm 0 0 n) (hK : va_K D vwCl (sp_xt d) s) (hX : sp_xP D A h0 a d g H0 H locs) (hA : ∀ q, H0.size ≤ q → A q) (hn : As.length = n) (hsize : ls.size = nL) (hst : st0 = As.reverse ++ .ref h0 :: rest) (hW : (rest.map fun v => v.category).sum ≤ 8) (hdg : decode cc pc = .ok (.invokevirtual index, 3)) (hf : cells ≤ R.cells ∧ slots ≤ R.slots)
    (kk : ∀ (g1 : sp_xg) (H1 : Heap) (locs1 : List Loc), post g1 → sp_xP D A h0 a d g1 H0 H1 locs1 → W p l e R s m args below meth c H1 locs1 cells slots Q (F0 m (pc + 3) ls (rest))) : W p l e R s m args below meth c H locs cells slots Q (F0 m pc ls (st0)) := by
  obtain ⟨hP, hD, hS⟩ := hX
  have hFc := va_free (wc := sp_xw h0 a d g) hD hS hA [0, 1, 2, 3, 4, 5, 6, 7] rfl
  refine va_callv (va_runV (As := As) (rest := rest) ⟨hx, hb, hml, hown, hts⟩ hM cw ⟨fun a1 U g1 mk q => by obtain ⟨q0, q1, qP, qK, qD⟩ := q; exact ⟨q0, q1, qP, va_K.moved (u := U) (U := U.calling g1 mk a1) (Vm.Alike.refl U.vm) qK, qD⟩, va_recv hK hP (ci := 0) (q0 := 0) rfl rfl, fun U hU hW => ⟨rfl, by rw [hU], by rw [hU]; exact hP, va_K.moved hW.alike hK, hD.weaken (fun _ _ _ _ => trivial)⟩⟩ rfl hn hsize hst (lv_room hW) hdg hf) hS (fun q _ h => hFc q h) hFc (fun u t H1 locs1 ht hvm hw1 hB hz1 hk1 hS1 => ?_)
  obtain ⟨hP1, hK1, hD1⟩ := hB
  rw [ht] at hP1
  exact kk u H1 locs1 hw1 ⟨hP1, hD1.weaken (fun _ q _ h => hFc q.1 h), hS1⟩
theorem x_calli {y : MethodName} {bytes : ByteArray} {maxL nL n index : Nat} {ret : Option FieldType} {rm : Room} {As st0 : List Value} {ws : List Cond} {post : Int32 → sp_xg → Prop} (hx : p.tables.exec = Jvm.exec) (hb : c.code = cc) (hml : c.maxLocals = nL) (hown : s.vm.findClass RX0 = some m.cls) (hts : ∀ w ∈ lw_all, w.before args s = true)
    (hM : Met l y ws rm (va_Pc (.ref h0 :: As) (sp_xS D h0 a d H.size g)) (va_Qi post (sp_xB D (va_A (sp_xw h0 a d g) H.size) h0 a d) (va_A (sp_xw h0 a d g) H.size)) 0 0 (va_A (sp_xw h0 a d g) H.size)) (cw : CallW R s args RX0 RX0 index y bytes maxL ret ws rm 0 0 n) (hK : va_K D vwCl (sp_xt d) s) (hX : sp_xP D A h0 a d g H0 H locs) (hA : ∀ q, H0.size ≤ q → A q) (hn : As.length = n) (hsize : ls.size = nL) (hst : st0 = As.reverse ++ .ref h0 :: rest) (hW : (rest.map fun v => v.category).sum ≤ 8) (hdg : decode cc pc = .ok (.invokevirtual index, 3)) (hf : cells ≤ R.cells ∧ slots ≤ R.slots)
    (kk : ∀ (r : Int32) (g1 : sp_xg) (H1 : Heap) (locs1 : List Loc), post r g1 → sp_xP D A h0 a d g1 H0 H1 locs1 → W p l e R s m args below meth c H1 locs1 cells slots Q (F0 m (pc + 3) ls (.int r :: rest))) : W p l e R s m args below meth c H locs cells slots Q (F0 m pc ls (st0)) := by
  obtain ⟨hP, hD, hS⟩ := hX
  have hFc := va_free (wc := sp_xw h0 a d g) hD hS hA [0, 1, 2, 3, 4, 5, 6, 7] rfl
  refine va_calli (va_runV (As := As) (rest := rest) ⟨hx, hb, hml, hown, hts⟩ hM cw ⟨fun a1 U g1 mk q => by obtain ⟨q0, q1, qP, qK, qD⟩ := q; exact ⟨q0, q1, qP, va_K.moved (u := U) (U := U.calling g1 mk a1) (Vm.Alike.refl U.vm) qK, qD⟩, va_recv hK hP (ci := 0) (q0 := 0) rfl rfl, fun U hU hW => ⟨rfl, by rw [hU], by rw [hU]; exact hP, va_K.moved hW.alike hK, hD.weaken (fun _ _ _ _ => trivial)⟩⟩ rfl hn hsize hst (lv_room hW) hdg hf) hS (fun q _ h => hFc q h) hFc (fun r u t H1 locs1 ht hvm hw1 hB hz1 hk1 hS1 => ?_)
  obtain ⟨hP1, hK1, hD1⟩ := hB
  rw [ht] at hP1
  exact kk r u H1 locs1 hw1 ⟨hP1, hD1.weaken (fun _ q _ h => hFc q.1 h), hS1⟩
theorem x_callr {y : MethodName} {bytes : ByteArray} {maxL nL n index : Nat} {ret : Option FieldType} {rm : Room} {As st0 : List Value} {ws : List Cond} {post : Int32 → Prop} (hx : p.tables.exec = Jvm.exec) (hb : c.code = cc) (hml : c.maxLocals = nL) (hown : s.vm.findClass RX0 = some m.cls) (hts : ∀ w ∈ lw_all, w.before args s = true)
    (hM : Met l y ws rm (va_Pc (.ref h0 :: As) (sp_xR D h0 a d g)) (vp_Si post) 0 0 (fun _ => False)) (cw : CallW R s args RX0 RX0 index y bytes maxL ret ws rm 0 0 n) (hK : va_K D vwCl (sp_xt d) s) (hP : va_P D vwCl (sp_xw h0 a d g) H) (hn : As.length = n) (hsize : ls.size = nL) (hst : st0 = As.reverse ++ .ref h0 :: rest) (hW : (rest.map fun v => v.category).sum ≤ 8) (hdg : decode cc pc = .ok (.invokevirtual index, 3)) (hf : cells ≤ R.cells ∧ slots ≤ R.slots)
    (kk : ∀ r : Int32, post r → W p l e R s m args below meth c H locs cells slots Q (F0 m (pc + 3) ls (.int r :: rest))) : W p l e R s m args below meth c H locs cells slots Q (F0 m pc ls (st0)) :=
  vp_callSi (W.runV (As := As) (rest := rest) ⟨hx, hb, hml, hown, hts⟩ hM cw ⟨fun a1 U g1 mk q => by obtain ⟨q0, qP, qK⟩ := q; exact ⟨q0, qP, va_K.moved (u := U) (U := U.calling g1 mk a1) (Vm.Alike.refl U.vm) qK⟩, va_recv hK hP (ci := 0) (q0 := 0) rfl rfl, fun U hU hW => ⟨rfl, by rw [hU]; exact hP, va_K.moved hW.alike hK⟩⟩ rfl hn hsize hst (lv_room hW) hdg hf) kk
end XROWS
/-! the world of RX1 -/
abbrev sp_mg : Type := (Nat → Int32) × (Nat → Nat)
abbrev sp_mw (h0 : Nat) (a : Nat → Nat) (d : Nat → ClassId) (g : sp_mg) : va_W := [(h0, .inr (1, [.ref (a 0), .ref (a 1)])), (a 0, .inl (d 0, 260, .inl g.1)), (a 1, .inl (d 1, 4, .inl (fun j => nI (g.2 j))))]
abbrev sp_mt (d : Nat → ClassId) : List (ClassId × FieldType) := [(d 0, .int), (d 1, .int)]
def sp_mP (D : va_G) (A : Nat → Prop) (h0 : Nat) (a : Nat → Nat) (d : Nat → ClassId) (g : sp_mg) (H0 H : Heap) (locs : List Loc) : Prop := va_P D vwCl (sp_mw h0 a d g) H ∧ va_D A (sp_mw h0 a d g) ∧ va_S A H0 H locs
def sp_mB (D : va_G) (A : Nat → Prop) (h0 : Nat) (a : Nat → Nat) (d : Nat → ClassId) (g : sp_mg) (t : State) : Prop := va_P D vwCl (sp_mw h0 a d g) t.heap ∧ va_K D vwCl (sp_mt d) t ∧ va_D A (sp_mw h0 a d g)
def sp_mS (D : va_G) (h0 : Nat) (a : Nat → Nat) (d : Nat → ClassId) (sz : Nat) (g : sp_mg) (U : State) : Prop := U.heap.size = sz ∧ va_P D vwCl (sp_mw h0 a d g) U.heap ∧ va_K D vwCl (sp_mt d) U ∧ va_D (fun _ => True) (sp_mw h0 a d g)
def sp_mR (D : va_G) (h0 : Nat) (a : Nat → Nat) (d : Nat → ClassId) (g : sp_mg) (U : State) : Prop := va_P D vwCl (sp_mw h0 a d g) U.heap ∧ va_K D vwCl (sp_mt d) U
section MROWS
variable {p : Program} {l : Launch} {e : Env} {R : Room} {s : State} {m : MethodId} {args : Array Value} {below : List Frame} {meth : Method} {c : Code} {H H0 : Heap} {locs : List Loc} {cells slots : Nat} {Q : State → Prop} {cc : ByteArray} {pc : Nat} {ls : Array Slot} {rest : List Value} {D : va_G} {A : Nat → Prop} {h0 : Nat} {a : Nat → Nat} {d : Nat → ClassId} {g : sp_mg}
variable {K : Nat → Int32} {Y : Nat → Nat}
theorem mg_K (hx : p.tables.exec = Jvm.exec) (hb : c.code = cc) (hts : ∀ w ∈ lw_all, w.before args s = true) (hown : s.vm.findClass RX1 = some m.cls) (hK : va_K D vwCl (sp_mt d) s) (hP : va_P D vwCl (sp_mw h0 a d g) H) (hdg : decode cc pc = .ok (.getfield 7, 3)) (kk : W p l e R s m args below meth c H locs cells slots Q (F0 m (pc + 3) ls (.ref (a 0) :: rest))) : W p l e R s m args below meth c H locs cells slots Q (F0 m pc ls (.ref h0 :: rest)) :=
  va_get (D := D) (ci := 1) (v := .ref (a 0)) (C := RX1) (T := TX1) (N := 2) hx hb hts in_X1 hown hK hP 0 rfl rfl 0 (by decide) (hts _ q125) (fun _ h9 => h9) rfl hdg kk
theorem ml_K (hx : p.tables.exec = Jvm.exec) (hb : c.code = cc) (hK : va_K D vwCl (sp_mt d) s) (hP : va_P D vwCl (sp_mw h0 a d (K, Y)) H) {k : Nat} (hk : k < 260) (hdg : decode cc pc = .ok (.iaload, 1)) (kk : W p l e R s m args below meth c H locs cells slots Q (F0 m (pc + 1) ls (.int (K k) :: rest))) : W p l e R s m args below meth c H locs cells slots Q (F0 m pc ls (.int (nI k) :: .ref (a 0) :: rest)) :=
  va_iald hx hb hK hP 1 0 rfl rfl (vp_in_nI hk (by decide)) hdg (by rw [nI_clamp (Nat.lt_trans hk (by decide))]; exact kk)
theorem ms_K (hx : p.tables.exec = Jvm.exec) (hb : c.code = cc) (hK : va_K D vwCl (sp_mt d) s) (hX : sp_mP D A h0 a d (K, Y) H0 H locs) {k : Nat} {v : Int32} (hk : k < 260) (hdg : decode cc pc = .ok (.iastore, 1)) (kk : ∀ (H1 : Heap) (locs1 : List Loc), sp_mP D A h0 a d (upd K k v, Y) H0 H1 locs1 → W p l e R s m args below meth c H1 locs1 cells slots Q (F0 m (pc + 1) ls (rest))) : W p l e R s m args below meth c H locs cells slots Q (F0 m pc ls (.int (v) :: .int (nI k) :: .ref (a 0) :: rest)) := by
  refine va_iast hx hb hK hX.1 hX.2.1 hX.2.2 1 0 rfl rfl (vp_in_nI hk (by decide)) hdg (fun H1 locs1 hP hD hS => ?_)
  have e2 : (sp_mw h0 a d (K, Y)).set 1 (a 0, .inl (d 0, 260, .inl (upd K (nI k).toNatClampNeg v))) = sp_mw h0 a d (upd K k v, Y) := by
    rw [nI_clamp (Nat.lt_trans hk (by decide))]
    rfl
  exact kk H1 locs1 ⟨e2 ▸ hP, e2 ▸ hD, hS⟩
theorem mg_Y (hx : p.tables.exec = Jvm.exec) (hb : c.code = cc) (hts : ∀ w ∈ lw_all, w.before args s = true) (hown : s.vm.findClass RX1 = some m.cls) (hK : va_K D vwCl (sp_mt d) s) (hP : va_P D vwCl (sp_mw h0 a d g) H) (hdg : decode cc pc = .ok (.getfield 13, 3)) (kk : W p l e R s m args below meth c H locs cells slots Q (F0 m (pc + 3) ls (.ref (a 1) :: rest))) : W p l e R s m args below meth c H locs cells slots Q (F0 m pc ls (.ref h0 :: rest)) :=
  va_get (D := D) (ci := 1) (v := .ref (a 1)) (C := RX1) (T := TX1) (N := 2) hx hb hts in_X1 hown hK hP 0 rfl rfl 1 (by decide) (hts _ q126) (fun _ h9 => h9) rfl hdg kk
theorem ml_Y (hx : p.tables.exec = Jvm.exec) (hb : c.code = cc) (hK : va_K D vwCl (sp_mt d) s) (hP : va_P D vwCl (sp_mw h0 a d (K, Y)) H) {k : Nat} (hk : k < 4) (hdg : decode cc pc = .ok (.iaload, 1)) (kk : W p l e R s m args below meth c H locs cells slots Q (F0 m (pc + 1) ls (.int (nI (Y k)) :: rest))) : W p l e R s m args below meth c H locs cells slots Q (F0 m pc ls (.int (nI k) :: .ref (a 1) :: rest)) :=
  va_iald hx hb hK hP 2 1 rfl rfl (vp_in_nI hk (by decide)) hdg (by rw [nI_clamp (Nat.lt_trans hk (by decide))]; exact kk)
theorem ms_Y (hx : p.tables.exec = Jvm.exec) (hb : c.code = cc) (hK : va_K D vwCl (sp_mt d) s) (hX : sp_mP D A h0 a d (K, Y) H0 H locs) {k : Nat} {v : Nat} (hk : k < 4) (hdg : decode cc pc = .ok (.iastore, 1)) (kk : ∀ (H1 : Heap) (locs1 : List Loc), sp_mP D A h0 a d (K, va_up Y k v) H0 H1 locs1 → W p l e R s m args below meth c H1 locs1 cells slots Q (F0 m (pc + 1) ls (rest))) : W p l e R s m args below meth c H locs cells slots Q (F0 m pc ls (.int (nI v) :: .int (nI k) :: .ref (a 1) :: rest)) := by
  refine va_iast hx hb hK hX.1 hX.2.1 hX.2.2 2 1 rfl rfl (vp_in_nI hk (by decide)) hdg (fun H1 locs1 hP hD hS => ?_)
  have e2 : (sp_mw h0 a d (K, Y)).set 2 (a 1, .inl (d 1, 4, .inl (upd (fun j => nI (Y j)) (nI k).toNatClampNeg (nI v)))) = sp_mw h0 a d (K, va_up Y k v) := by
    rw [nI_clamp (Nat.lt_trans hk (by decide)), sp_up_nI Y k v]
    rfl
  exact kk H1 locs1 ⟨e2 ▸ hP, e2 ▸ hD, hS⟩
theorem m_entry {y : MethodName} {maxL sz : Nat} {ret : Option FieldType} {rm : Room} {As : List Value} {Qc : (Nat → Prop) → Array Value → State → Outcome → State → Prop} (hy : plainName y.cls = true) (hyR : y.cls = RX1) (hsl : (lg_sl (.ref h0 :: As)).length ≤ maxL)
    (body : ∀ (p : Program) (e : Env) (s : State) (m : MethodId) (below : List Frame) (meth : Method) (c : Code) (A : Nat → Prop), p.tables.exec = Jvm.exec → c.code = cc → meth.sig.returnType = ret → c.maxLocals = maxL → s.vm.findClass RX1 = some m.cls → (∀ w ∈ lw_all, w.before (.ref h0 :: As).toArray s = true) → meth.locks = false → va_K D vwCl (sp_mt d) s → (∀ q, s.heap.size ≤ q → A q) → sp_mP D A h0 a d g s.heap s.heap [] → ∀ ls : Array Slot, lv_has ls maxL (lv_args 0 (.ref h0 :: As)) → W p l e rm s m (.ref h0 :: As).toArray below meth c s.heap [] 0 0 (MQ below (Qc A) (.ref h0 :: As).toArray s 0 0 A) (F0 m 0 ls [])) :
    Met l y (ws_ y cc maxL ret) rm (va_Pc (.ref h0 :: As) (sp_mS D h0 a d sz g)) (Qc (va_A (sp_mw h0 a d g) sz)) 0 0 (va_A (sp_mw h0 a d g) sz) := by
  refine Met.ofW (cc := cc) (maxL := maxL) (ret := ret) hy rfl ?_
  intro p e s m args below meth c s₁ B hml hv
  obtain ⟨rfl, hsz, hP, hK, hD0⟩ := hv
  have hts0 := atoms_spec (ws := ws_ y cc maxL ret) B.pre
  have hts : ∀ w ∈ lw_all, w.before (.ref h0 :: As).toArray s = true := fun w h => hts0 w (List.mem_cons_of_mem _ h)
  have hown : s.vm.findClass RX1 = some m.cls := by rw [← hyR]; exact findClass_of_methodNamed B.named
  subst hsz
  have hD := hD0.self (sz := s.heap.size)
  rw [lg_entry_eq]
  exact body p e s m below meth c _ B.exec B.bytes B.returns hml hown hts B.notSynchronized hK (fun q h => Or.inr h) ⟨hP, hD, va_S.rf⟩ _ (lv_entry _ hsl)
theorem m_entryR {y : MethodName} {maxL : Nat} {ret : Option FieldType} {rm : Room} {As : List Value} {post : Int32 → Prop} (hy : plainName y.cls = true) (hyR : y.cls = RX1) (hsl : (lg_sl (.ref h0 :: As)).length ≤ maxL)
    (body : ∀ (p : Program) (e : Env) (s : State) (m : MethodId) (below : List Frame) (meth : Method) (c : Code), p.tables.exec = Jvm.exec → c.code = cc → meth.sig.returnType = ret → c.maxLocals = maxL → s.vm.findClass RX1 = some m.cls → (∀ w ∈ lw_all, w.before (.ref h0 :: As).toArray s = true) → meth.locks = false → va_K D vwCl (sp_mt d) s → va_P D vwCl (sp_mw h0 a d g) s.heap → ∀ ls : Array Slot, lv_has ls maxL (lv_args 0 (.ref h0 :: As)) → W p l e rm s m (.ref h0 :: As).toArray below meth c s.heap [] 0 0 (MQ below (vp_Si post) (.ref h0 :: As).toArray s 0 0 (fun _ => False)) (F0 m 0 ls [])) :
    Met l y (ws_ y cc maxL ret) rm (va_Pc (.ref h0 :: As) (sp_mR D h0 a d g)) (vp_Si post) 0 0 (fun _ => False) := by
  refine Met.ofW (cc := cc) (maxL := maxL) (ret := ret) hy rfl ?_
  intro p e s m args below meth c s₁ B hml hv
  obtain ⟨rfl, hP, hK⟩ := hv
  have hts0 := atoms_spec (ws := ws_ y cc maxL ret) B.pre
  have hts : ∀ w ∈ lw_all, w.before (.ref h0 :: As).toArray s = true := fun w h => hts0 w (List.mem_cons_of_mem _ h)
  have hown : s.vm.findClass RX1 = some m.cls := by rw [← hyR]; exact findClass_of_methodNamed B.named
  rw [lg_entry_eq]
  exact body p e s m below meth c B.exec B.bytes B.returns hml hown hts B.notSynchronized hK hP _ (lv_entry _ hsl)
theorem m_vret {post : sp_mg → Prop} (hx : p.tables.exec = Jvm.exec) (hb : c.code = cc) (hr : meth.sig.returnType = none) (hlocks : meth.locks = false) (hK : va_K D vwCl (sp_mt d) s) (hX : sp_mP D A h0 a d g s.heap H locs) (hp : post g) (hdg : decode cc pc = .ok (.return_, 1)) : W p l e R s m args below meth c H locs 0 0 (MQ below (va_Qv post (sp_mB D A h0 a d) A) args s 0 0 A) (F0 m pc ls []) :=
  W.vret hx hb hr (fun t ht hW => ⟨⟨g, rfl, hp, by rw [ht]; exact hX.1, va_K.moved hW.alike hK, hX.2.1⟩, hX.2.2.F ht⟩) hX.2.2.2.2 hdg hlocks
theorem m_iret {post : Int32 → sp_mg → Prop} {v : Int32} (hx : p.tables.exec = Jvm.exec) (hb : c.code = cc) (hr : meth.sig.returnType = some .int) (hlocks : meth.locks = false) (hK : va_K D vwCl (sp_mt d) s) (hX : sp_mP D A h0 a d g s.heap H locs) (hp : post v g) (hdg : decode cc pc = .ok (.ireturn, 1)) : W p l e R s m args below meth c H locs 0 0 (MQ below (va_Qi post (sp_mB D A h0 a d) A) args s 0 0 A) (F0 m pc ls [.int v]) :=
  W.iret hx hb hr (fun t ht hW => ⟨⟨v, g, rfl, hp, by rw [ht]; exact hX.1, va_K.moved hW.alike hK, hX.2.1⟩, hX.2.2.F ht⟩) hX.2.2.2.2 hdg hlocks
theorem m_entv {y : MethodName} {maxL sz : Nat} {rm : Room} {As : List Value} {post : sp_mg → Prop} (hy : plainName y.cls = true) (hyR : y.cls = RX1) (hsl : (lg_sl (.ref h0 :: As)).length ≤ maxL)
    (body : ∀ (p : Program) (e : Env) (s : State) (m : MethodId) (args : Array Value) (below : List Frame) (meth : Method) (c : Code) (A : Nat → Prop) (Q : State → Prop), p.tables.exec = Jvm.exec → c.code = cc → c.maxLocals = maxL → s.vm.findClass RX1 = some m.cls → (∀ w ∈ lw_all, w.before args s = true) → va_K D vwCl (sp_mt d) s → (∀ q, s.heap.size ≤ q → A q) → sp_mP D A h0 a d g s.heap s.heap [] → (∀ (H : Heap) (locs : List Loc) (g1 : sp_mg) (pc : Nat) (ls : Array Slot), sp_mP D A h0 a d g1 s.heap H locs → post g1 → decode cc pc = .ok (.return_, 1) → W p l e rm s m args below meth c H locs 0 0 Q (F0 m pc ls [])) → ∀ ls : Array Slot, lv_has ls maxL (lv_args 0 (.ref h0 :: As)) → W p l e rm s m args below meth c s.heap [] 0 0 Q (F0 m 0 ls [])) :
    Met l y (ws_ y cc maxL (none)) rm (va_Pc (.ref h0 :: As) (sp_mS D h0 a d sz g)) (va_Qv post (sp_mB D (va_A (sp_mw h0 a d g) sz) h0 a d) (va_A (sp_mw h0 a d g) sz)) 0 0 (va_A (sp_mw h0 a d g) sz) := by
  refine m_entry (Qc := fun A => va_Qv post (sp_mB D A h0 a d) A) hy hyR hsl ?_
  intro p e s m below meth c A hx hb hr hml hown hts hlocks hK hA hX ls hl
  exact body p e s m _ below meth c A _ hx hb hml hown hts hK hA hX (fun H locs g1 pc ls hX1 hp hd => m_vret hx hb hr hlocks hK hX1 hp hd) ls hl
theorem m_enti {y : MethodName} {maxL sz : Nat} {rm : Room} {As : List Value} {post : Int32 → sp_mg → Prop} (hy : plainName y.cls = true) (hyR : y.cls = RX1) (hsl : (lg_sl (.ref h0 :: As)).length ≤ maxL)
    (body : ∀ (p : Program) (e : Env) (s : State) (m : MethodId) (args : Array Value) (below : List Frame) (meth : Method) (c : Code) (A : Nat → Prop) (Q : State → Prop), p.tables.exec = Jvm.exec → c.code = cc → c.maxLocals = maxL → s.vm.findClass RX1 = some m.cls → (∀ w ∈ lw_all, w.before args s = true) → va_K D vwCl (sp_mt d) s → (∀ q, s.heap.size ≤ q → A q) → sp_mP D A h0 a d g s.heap s.heap [] → (∀ (r : Int32) (H : Heap) (locs : List Loc) (g1 : sp_mg) (pc : Nat) (ls : Array Slot), sp_mP D A h0 a d g1 s.heap H locs → post r g1 → decode cc pc = .ok (.ireturn, 1) → W p l e rm s m args below meth c H locs 0 0 Q (F0 m pc ls [.int r])) → ∀ ls : Array Slot, lv_has ls maxL (lv_args 0 (.ref h0 :: As)) → W p l e rm s m args below meth c s.heap [] 0 0 Q (F0 m 0 ls [])) :
    Met l y (ws_ y cc maxL (some .int)) rm (va_Pc (.ref h0 :: As) (sp_mS D h0 a d sz g)) (va_Qi post (sp_mB D (va_A (sp_mw h0 a d g) sz) h0 a d) (va_A (sp_mw h0 a d g) sz)) 0 0 (va_A (sp_mw h0 a d g) sz) := by
  refine m_entry (Qc := fun A => va_Qi post (sp_mB D A h0 a d) A) hy hyR hsl ?_
  intro p e s m below meth c A hx hb hr hml hown hts hlocks hK hA hX ls hl
  exact body p e s m _ below meth c A _ hx hb hml hown hts hK hA hX (fun r H locs g1 pc ls hX1 hp hd => m_iret hx hb hr hlocks hK hX1 hp hd) ls hl
theorem m_entr {y : MethodName} {maxL : Nat} {ty : FieldType} {rm : Room} {As : List Value} {post : Int32 → Prop} (hy : plainName y.cls = true) (hyR : y.cls = RX1) (hsl : (lg_sl (.ref h0 :: As)).length ≤ maxL)
    (body : ∀ (p : Program) (e : Env) (s : State) (m : MethodId) (args : Array Value) (below : List Frame) (meth : Method) (c : Code) (Q : State → Prop), p.tables.exec = Jvm.exec → c.code = cc → c.maxLocals = maxL → s.vm.findClass RX1 = some m.cls → (∀ w ∈ lw_all, w.before args s = true) → va_K D vwCl (sp_mt d) s → va_P D vwCl (sp_mw h0 a d g) s.heap → (∀ (r : Int32) (pc : Nat) (ls : Array Slot), narrow ty (.int r) = .int r → post r → decode cc pc = .ok (.ireturn, 1) → W p l e rm s m args below meth c s.heap [] 0 0 Q (F0 m pc ls [.int r])) → ∀ ls : Array Slot, lv_has ls maxL (lv_args 0 (.ref h0 :: As)) → W p l e rm s m args below meth c s.heap [] 0 0 Q (F0 m 0 ls [])) :
    Met l y (ws_ y cc maxL (some ty)) rm (va_Pc (.ref h0 :: As) (sp_mR D h0 a d g)) (vp_Si post) 0 0 (fun _ => False) := by
  refine m_entryR hy hyR hsl ?_
  intro p e s m below meth c hx hb hr hml hown hts hlocks hK hP ls hl
  exact body p e s m _ below meth c _ hx hb hml hown hts hK hP (fun r pc ls hn hp hd => st_iret hx hb hr hn hlocks hp hd) ls hl
theorem m_callv {y : MethodName} {bytes : ByteArray} {maxL nL n index : Nat} {ret : Option FieldType} {rm : Room} {As st0 : List Value} {ws : List Cond} {post : sp_mg → Prop} (hx : p.tables.exec = Jvm.exec) (hb : c.code = cc) (hml : c.maxLocals = nL) (hown : s.vm.findClass RX1 = some m.cls) (hts : ∀ w ∈ lw_all, w.before args s = true)
    (hM : Met l y ws rm (va_Pc (.ref h0 :: As) (sp_mS D h0 a d H.size g)) (va_Qv post (sp_mB D (va_A (sp_mw h0 a d g) H.size) h0 a d) (va_A (sp_mw h0 a d g) H.size)) 0 0 (va_A (sp_mw h0 a d g) H.size)) (cw : CallW R s args RX1 RX1 index y bytes maxL ret ws rm 0 0 n) (hK : va_K D vwCl (sp_mt d) s) (hX : sp_mP D A h0 a d g H0 H locs) (hA : ∀ q, H0.size ≤ q → A q) (hn : As.length = n) (hsize : ls.size = nL) (hst : st0 = As.reverse ++ .ref h0 :: rest) (hW : (rest.map fun v => v.category).sum ≤ 8) (hdg : decode cc pc = .ok (.invokevirtual index, 3)) (hf : cells ≤ R.cells ∧ slots ≤ R.slots)
    (kk : ∀ (g1 : sp_mg) (H1 : Heap) (locs1 : List Loc), post g1 → sp_mP D A h0 a d g1 H0 H1 locs1 → W p l e R s m args below meth c H1 locs1 cells slots Q (F0 m (pc + 3) ls (rest))) : W p l e R s m args below meth c H locs cells slots Q (F0 m pc ls (st0)) := by
  obtain ⟨hP, hD, hS⟩ := hX
  have hFc := va_free (wc := sp_mw h0 a d g) hD hS hA [0, 1, 2] rfl
  refine va_callv (va_runV (As := As) (rest := rest) ⟨hx, hb, hml, hown, hts⟩ hM cw ⟨fun a1 U g1 mk q => by obtain ⟨q0, q1, qP, qK, qD⟩ := q; exact ⟨q0, q1, qP, va_K.moved (u := U) (U := U.calling g1 mk a1) (Vm.Alike.refl U.vm) qK, qD⟩, va_recv hK hP (ci := 1) (q0 := 0) rfl rfl, fun U hU hW => ⟨rfl, by rw [hU], by rw [hU]; exact hP, va_K.moved hW.alike hK, hD.weaken (fun _ _ _ _ => trivial)⟩⟩ rfl hn hsize hst (lv_room hW) hdg hf) hS (fun q _ h => hFc q h) hFc (fun u t H1 locs1 ht hvm hw1 hB hz1 hk1 hS1 => ?_)
  obtain ⟨hP1, hK1, hD1⟩ := hB
  rw [ht] at hP1
  exact kk u H1 locs1 hw1 ⟨hP1, hD1.weaken (fun _ q _ h => hFc q.1 h), hS1⟩
theorem m_calli {y : MethodName} {bytes : ByteArray} {maxL nL n index : Nat} {ret : Option FieldType} {rm : Room} {As st0 : List Value} {ws : List Cond} {post : Int32 → sp_mg → Prop} (hx : p.tables.exec = Jvm.exec) (hb : c.code = cc) (hml : c.maxLocals = nL) (hown : s.vm.findClass RX1 = some m.cls) (hts : ∀ w ∈ lw_all, w.before args s = true)
    (hM : Met l y ws rm (va_Pc (.ref h0 :: As) (sp_mS D h0 a d H.size g)) (va_Qi post (sp_mB D (va_A (sp_mw h0 a d g) H.size) h0 a d) (va_A (sp_mw h0 a d g) H.size)) 0 0 (va_A (sp_mw h0 a d g) H.size)) (cw : CallW R s args RX1 RX1 index y bytes maxL ret ws rm 0 0 n) (hK : va_K D vwCl (sp_mt d) s) (hX : sp_mP D A h0 a d g H0 H locs) (hA : ∀ q, H0.size ≤ q → A q) (hn : As.length = n) (hsize : ls.size = nL) (hst : st0 = As.reverse ++ .ref h0 :: rest) (hW : (rest.map fun v => v.category).sum ≤ 8) (hdg : decode cc pc = .ok (.invokevirtual index, 3)) (hf : cells ≤ R.cells ∧ slots ≤ R.slots)
    (kk : ∀ (r : Int32) (g1 : sp_mg) (H1 : Heap) (locs1 : List Loc), post r g1 → sp_mP D A h0 a d g1 H0 H1 locs1 → W p l e R s m args below meth c H1 locs1 cells slots Q (F0 m (pc + 3) ls (.int r :: rest))) : W p l e R s m args below meth c H locs cells slots Q (F0 m pc ls (st0)) := by
  obtain ⟨hP, hD, hS⟩ := hX
  have hFc := va_free (wc := sp_mw h0 a d g) hD hS hA [0, 1, 2] rfl
  refine va_calli (va_runV (As := As) (rest := rest) ⟨hx, hb, hml, hown, hts⟩ hM cw ⟨fun a1 U g1 mk q => by obtain ⟨q0, q1, qP, qK, qD⟩ := q; exact ⟨q0, q1, qP, va_K.moved (u := U) (U := U.calling g1 mk a1) (Vm.Alike.refl U.vm) qK, qD⟩, va_recv hK hP (ci := 1) (q0 := 0) rfl rfl, fun U hU hW => ⟨rfl, by rw [hU], by rw [hU]; exact hP, va_K.moved hW.alike hK, hD.weaken (fun _ _ _ _ => trivial)⟩⟩ rfl hn hsize hst (lv_room hW) hdg hf) hS (fun q _ h => hFc q h) hFc (fun r u t H1 locs1 ht hvm hw1 hB hz1 hk1 hS1 => ?_)
  obtain ⟨hP1, hK1, hD1⟩ := hB
  rw [ht] at hP1
  exact kk r u H1 locs1 hw1 ⟨hP1, hD1.weaken (fun _ q _ h => hFc q.1 h), hS1⟩
theorem m_callr {y : MethodName} {bytes : ByteArray} {maxL nL n index : Nat} {ret : Option FieldType} {rm : Room} {As st0 : List Value} {ws : List Cond} {post : Int32 → Prop} (hx : p.tables.exec = Jvm.exec) (hb : c.code = cc) (hml : c.maxLocals = nL) (hown : s.vm.findClass RX1 = some m.cls) (hts : ∀ w ∈ lw_all, w.before args s = true)
    (hM : Met l y ws rm (va_Pc (.ref h0 :: As) (sp_mR D h0 a d g)) (vp_Si post) 0 0 (fun _ => False)) (cw : CallW R s args RX1 RX1 index y bytes maxL ret ws rm 0 0 n) (hK : va_K D vwCl (sp_mt d) s) (hP : va_P D vwCl (sp_mw h0 a d g) H) (hn : As.length = n) (hsize : ls.size = nL) (hst : st0 = As.reverse ++ .ref h0 :: rest) (hW : (rest.map fun v => v.category).sum ≤ 8) (hdg : decode cc pc = .ok (.invokevirtual index, 3)) (hf : cells ≤ R.cells ∧ slots ≤ R.slots)
    (kk : ∀ r : Int32, post r → W p l e R s m args below meth c H locs cells slots Q (F0 m (pc + 3) ls (.int r :: rest))) : W p l e R s m args below meth c H locs cells slots Q (F0 m pc ls (st0)) :=
  vp_callSi (W.runV (As := As) (rest := rest) ⟨hx, hb, hml, hown, hts⟩ hM cw ⟨fun a1 U g1 mk q => by obtain ⟨q0, qP, qK⟩ := q; exact ⟨q0, qP, va_K.moved (u := U) (U := U.calling g1 mk a1) (Vm.Alike.refl U.vm) qK⟩, va_recv hK hP (ci := 1) (q0 := 0) rfl rfl, fun U hU hW => ⟨rfl, by rw [hU]; exact hP, va_K.moved hW.alike hK⟩⟩ rfl hn hsize hst (lv_room hW) hdg hf) kk
end MROWS
end
section
/-! ShadowPages: its leaves (written by gen/xleaf.py) -/
/-- a space and a page of it -/
def sp_pg (x y : Int32) : Prop := ∃ i j : Nat, i < 4 ∧ j < 8 ∧ x = nI i ∧ y = nI j
theorem sp_pg_of {x y : Int32} (h1 : ¬ x < 0) (h2 : ¬ nI 3 < x) (h3 : ¬ y < 0) (h4 : ¬ nI 7 < y) : sp_pg x y := by
  obtain ⟨i, hi, ei⟩ := nI_of2 (M := nI 3) (n := 3) (by decide) h1 (Int32.not_lt.mp h2)
  obtain ⟨j, hj, ej⟩ := nI_of2 (M := nI 7) (n := 7) (by decide) h3 (Int32.not_lt.mp h4)
  exact ⟨i, j, by omega, by omega, ei, ej⟩
theorem sp_pg_x {x y : Int32} (h : sp_pg x y) : ¬ x < 0 ∧ ¬ nI 3 < x ∧ ¬ y < 0 ∧ ¬ nI 7 < y := by
  obtain ⟨i, j, hi, hj, rfl, rfl⟩ := h
  exact ⟨nI_pos (by omega), nI_nlt (by omega) (by omega), nI_pos (by omega), nI_nlt (by omega) (by omega)⟩
theorem sp_yes {r : Int32} {P : Prop} (h : (r = 1 ∧ P) ∨ (r = 0 ∧ ¬ P)) (hr : ¬ r = 0) : P := by
  rcases h with h | h
  · exact h.2
  · exact absurd h.1 hr
theorem sp_no {r : Int32} {P : Prop} (h : (r = 1 ∧ P) ∨ (r = 0 ∧ ¬ P)) (hr : r = 0) : ¬ P := by
  rcases h with h | h
  · exact absurd (h.1.symm.trans hr) (by decide)
  · exact h.2
abbrev rm_isPage : Room := { frames := 0, cells := 0, slots := 0, locals := 0 }
set_option maxHeartbeats 4000000 in
set_option maxRecDepth 100000 in
theorem met_isPage (l : Launch) (x y : Int32) : Met l yX0_isPage (ws_ yX0_isPage cX0_isPage 2 (some .boolean)) rm_isPage (fun v _ => v = [.int x, .int y].toArray) (vp_Si (fun r => (r = 1 ∧ sp_pg x y) ∨ (r = 0 ∧ ¬ sp_pg x y))) 0 0 (fun _ => False) := by
  refine st_ent (As := [.int x, .int y]) RX0 (by decide) rfl (Nat.le_of_ble_eq_true rfl) ?_
  intro p e s m args below meth c Q hx hb hml hown hts hret ls hl
  have hl : lv_has ls 2 [(0, .int x), (1, .int y)] := hl
  refine lv_iload_n hx hb dX0_isPage_0 rfl (lv_at hl 0 rfl) ?_
  refine lv_if_lt (tgt := 23) hx hb dX0_isPage_1 (by decide) (fun h1 => ?_) (fun h1 => ?_)
  · refine lv_iconst (v := 0) hx hb dX0_isPage_23 (by decide) ?_
    exact hret 0 24 ls rfl (Or.inr ⟨rfl, fun q => (sp_pg_x q).1 h1⟩) dX0_isPage_24
  · refine lv_iload_n hx hb dX0_isPage_4 rfl (lv_at hl 0 rfl) ?_
    refine lv_iconst (v := (nI 3)) hx hb dX0_isPage_5 (by decide) ?_
    refine lv_icmp_gt (tgt := 23) hx hb dX0_isPage_6 (by decide) (fun h2 => ?_) (fun h2 => ?_)
    · refine lv_iconst (v := 0) hx hb dX0_isPage_23 (by decide) ?_
      exact hret 0 24 ls rfl (Or.inr ⟨rfl, fun q => (sp_pg_x q).2.1 h2⟩) dX0_isPage_24
    · refine lv_iload_n hx hb dX0_isPage_9 rfl (lv_at hl 1 rfl) ?_
      refine lv_if_lt (tgt := 23) hx hb dX0_isPage_10 (by decide) (fun h3 => ?_) (fun h3 => ?_)
      · refine lv_iconst (v := 0) hx hb dX0_isPage_23 (by decide) ?_
        exact hret 0 24 ls rfl (Or.inr ⟨rfl, fun q => (sp_pg_x q).2.2.1 h3⟩) dX0_isPage_24
      · refine lv_iload_n hx hb dX0_isPage_13 rfl (lv_at hl 1 rfl) ?_
        refine lv_bipush (v := (nI 7)) hx hb dX0_isPage_14 (by decide) ?_
        refine lv_icmp_gt (tgt := 23) hx hb dX0_isPage_16 (by decide) (fun h4 => ?_) (fun h4 => ?_)
        · refine lv_iconst (v := 0) hx hb dX0_isPage_23 (by decide) ?_
          exact hret 0 24 ls rfl (Or.inr ⟨rfl, fun q => (sp_pg_x q).2.2.2 h4⟩) dX0_isPage_24
        · refine lv_iconst (v := 1) hx hb dX0_isPage_19 (by decide) ?_
          refine lv_goto (tgt := 24) hx hb dX0_isPage_20 (by decide) ?_
          exact hret 1 24 ls rfl (Or.inl ⟨rfl, sp_pg_of h1 h2 h3 h4⟩) dX0_isPage_24
abbrev rm_letGo : Room := { frames := 0, cells := 0, slots := 0, locals := 0 }
set_option maxHeartbeats 4000000 in
set_option maxRecDepth 100000 in
/-- letGo: the use that is owed is written; what nobody uses goes -/
theorem met_letGo (l : Launch) (D : va_G) (h0 : Nat) (a : Nat → Nat) (d : Nat → ClassId) (sz : Nat) {O : Nat → Option Nat} {Z : Nat → Nat} {T : Nat → Bool} {M : Nat → Nat} {C : Nat → Int32} {S : Nat → Option Nat} {U : Nat → Nat} {V : Nat → Int32} (o : Option Nat) (hG : sp_Gd O T M C S U o V) : Met l yX0_letGo (ws_ yX0_letGo cX0_letGo 4 none) rm_letGo (va_Pc [.ref h0, .int (sp_eo o)] (sp_xS D h0 a d sz (O, Z, T, M, C, S, U))) (va_Qv (fun g1 : sp_xg => ∃ (T1 : Nat → Bool) (U1 : Nat → Nat), g1 = (O, Z, T1, M, C, S, U1) ∧ sp_Gd O T1 M C S U1 none V ∧ fb_ct T1 130 ≤ fb_ct T 130) (sp_xB D (va_A (sp_xw h0 a d (O, Z, T, M, C, S, U)) sz) h0 a d) (va_A (sp_xw h0 a d (O, Z, T, M, C, S, U)) sz)) 0 0 (va_A (sp_xw h0 a d (O, Z, T, M, C, S, U)) sz) := by
  refine x_entv (As := [.int (sp_eo o)]) (by decide) rfl (Nat.le_of_ble_eq_true rfl) ?_
  intro p e s m args below meth c A Q hx hb hml hown hts hK hA hX hret ls hl
  have hl : lv_has ls 4 [(0, .ref h0), (1, .int (sp_eo o))] := hl
  refine lv_iload_n hx hb dX0_letGo_0 rfl (lv_at hl 1 rfl) ?_
  refine lv_istore_n (lv' := [(2, .int (sp_eo o)), (0, .ref h0), (1, .int (sp_eo o))]) hx hb dX0_letGo_1 rfl hl (by decide) rfl (fun ls hl => ?_)
  refine lv_iconst (v := (nI 0)) hx hb dX0_letGo_2 (by decide) ?_
  refine lv_istore_n (lv' := [(3, .int (nI 0)), (2, .int (sp_eo o)), (0, .ref h0), (1, .int (sp_eo o))]) hx hb dX0_letGo_3 rfl hl (by decide) rfl (fun ls hl => ?_)
  have loop : ∀ (n i : Nat) (o1 : Option Nat) (T1 : Nat → Bool) (U1 : Nat → Nat), i + n = 130 → sp_Gd O T1 M C S U1 o1 V → fb_ct T1 130 + i ≤ 130 → fb_ct T1 130 ≤ fb_ct T 130 → ∀ (H : Heap) (locs : List Loc), sp_xP D A h0 a d (O, Z, T1, M, C, S, U1) s.heap H locs → ∀ ls : Array Slot, lv_has ls 4 [(3, .int (nI i)), (2, .int (sp_eo o1)), (0, .ref h0)] → W p l e rm_letGo s m args below meth c H locs 0 0 Q (F0 m 4 ls []) := by
    intro n
    induction n with
    | zero =>
      intro i o1 T1 U1 hin hG1 hc1 hc2 H locs hX ls hl
      refine lv_iload_n hx hb dX0_letGo_4 rfl (lv_at hl 0 rfl) ?_
      refine lv_sipush (v := (nI 130)) hx hb dX0_letGo_5 (by decide) ?_
      refine nv_icmp_ge (tgt := 55) hx hb (by omega) (by decide) dX0_letGo_8 (by decide) (fun h1 => ?_) (fun h1 => ?_)
      · have hn : o1 = none := by
          cases o1 with
          | none => rfl
          | some k =>
            obtain ⟨hk, hTk⟩ := hG1.debt rfl
            have := fb_ct_pos.mpr ⟨k, hk, hTk⟩
            omega
        subst hn
        exact hret _ _ _ _ _ hX ⟨T1, U1, rfl, hG1, hc2⟩ dX0_letGo_55
      · exact absurd h1 (by omega)
    | succ n ih =>
      intro i o1 T1 U1 hin hG1 hc1 hc2 H locs hX ls hl
      refine lv_iload_n hx hb dX0_letGo_4 rfl (lv_at hl 0 rfl) ?_
      refine lv_sipush (v := (nI 130)) hx hb dX0_letGo_5 (by decide) ?_
      refine nv_icmp_ge (tgt := 55) hx hb (by omega) (by decide) dX0_letGo_8 (by decide) (fun h1 => ?_) (fun h1 => ?_)
      · exact absurd h1 (by omega)
      · refine lv_iload_n hx hb dX0_letGo_11 rfl (lv_at hl 1 rfl) ?_
        refine nv_if_lt_eo (tgt := 55) hx hb (fun k hk => (hG1.debt hk).1) dX0_letGo_12 (by decide) (fun h2 => ?_) (fun h2 => ?_)
        · subst h2
          exact hret _ _ _ _ _ hX ⟨T1, U1, rfl, hG1, hc2⟩ dX0_letGo_55
        · obtain ⟨k, rfl⟩ := h2
          obtain ⟨hk, hTk⟩ := hG1.debt rfl
          obtain ⟨hu1, hu2⟩ := hG1.users hk hTk
          have hl : lv_has ls 4 [(3, .int (nI i)), (2, .int (nI k)), (0, .ref h0)] := hl
          refine lv_aload_n hx hb dX0_letGo_15 rfl (lv_at hl 2 rfl) ?_
          refine xg_U hx hb hts hown hK hX.1 dX0_letGo_16 ?_
          refine lv_iload_n hx hb dX0_letGo_19 rfl (lv_at hl 1 rfl) ?_
          refine lv_dup2_11 hx hb dX0_letGo_20 rfl rfl ?_
          refine xl_U hx hb hK hX.1 (by omega) dX0_letGo_21 ?_
          refine lv_iconst (v := (nI 1)) hx hb dX0_letGo_22 (by decide) ?_
          refine nv_isub1 hx hb hu1 dX0_letGo_23 ?_
          refine xs_U hx hb hK hX (by omega) dX0_letGo_24 (fun H locs hX => ?_)
          refine lv_aload_n hx hb dX0_letGo_25 rfl (lv_at hl 2 rfl) ?_
          refine xg_U hx hb hts hown hK hX.1 dX0_letGo_26 ?_
          refine lv_iload_n hx hb dX0_letGo_29 rfl (lv_at hl 1 rfl) ?_
          refine xl_U hx hb hK hX.1 (by omega) dX0_letGo_30 ?_
          refine nv_top ((nI (U1 k - 1))) (by rw [sp_us]) ?_
          refine nv_if_le (tgt := 35) hx hb (by omega) dX0_letGo_31 (by decide) (fun h3 => ?_) (fun h3 => ?_)
          · refine lv_aload_n hx hb dX0_letGo_35 rfl (lv_at hl 2 rfl) ?_
            refine xg_T hx hb hts hown hK hX.1 dX0_letGo_36 ?_
            refine lv_iload_n hx hb dX0_letGo_39 rfl (lv_at hl 1 rfl) ?_
            refine lv_iconst (v := (sp_eb false)) hx hb dX0_letGo_40 (by decide) ?_
            refine xs_T hx hb hK hX (by omega) dX0_letGo_41 (fun H locs hX => ?_)
            refine lv_aload_n hx hb dX0_letGo_42 rfl (lv_at hl 2 rfl) ?_
            refine xg_S hx hb hts hown hK hX.1 dX0_letGo_43 ?_
            refine lv_iload_n hx hb dX0_letGo_46 rfl (lv_at hl 1 rfl) ?_
            refine xl_S hx hb hK hX.1 (by omega) dX0_letGo_47 ?_
            refine lv_istore_n (lv' := [(2, .int (sp_eo (S k))), (3, .int (nI i)), (0, .ref h0)]) hx hb dX0_letGo_48 rfl hl (by decide) rfl (fun ls hl => ?_)
            refine lv_iinc (v := (nI (i + 1))) (lv' := [(3, .int (nI (i + 1))), (2, .int (sp_eo (S k))), (0, .ref h0)]) hx hb dX0_letGo_49 hl (k := 1) rfl (nv_inc i) (by decide) rfl (fun ls hl => ?_)
            refine lv_goto (tgt := 4) hx hb dX0_letGo_52 (by decide) ?_
            obtain ⟨hG2, hc3⟩ := sp_free hG1 (by omega)
            rw [h3] at hX
            exact ih (i + 1) (S k) (va_up T1 k false) (va_up U1 k 0) (by omega) hG2 (by omega) (by omega) H locs hX ls (lv_sub hl [0, 1, 2] rfl)
          · exact hret _ _ _ _ _ hX ⟨T1, va_up U1 k (U1 k - 1), rfl, sp_stay hG1 (by omega), hc2⟩ dX0_letGo_34
  exact loop 130 0 o T U rfl hG (by have := fb_ct_le T 130; omega) (Nat.le_refl _) _ _ hX ls (lv_sub hl [0, 1, 2] rfl)
abbrev rm_cellOf : Room := { frames := 0, cells := 0, slots := 0, locals := 0 }
set_option maxHeartbeats 4000000 in
set_option maxRecDepth 100000 in
/-- cellOf: what the object shows in the cell -/
theorem met_cellOf (l : Launch) (D : va_G) (h0 : Nat) (a : Nat → Nat) (d : Nat → ClassId) {O : Nat → Option Nat} {Z : Nat → Nat} {T : Nat → Bool} {M : Nat → Nat} {C : Nat → Int32} {S : Nat → Option Nat} {U : Nat → Nat} {V : Nat → Int32} {vl : Nat → Nat → Int32} {rk : Nat → Nat} (hG : sp_G O T M C S U none V vl rk) (o : Option Nat) (ho : ∀ k, o = some k → k < 130 ∧ T k = true) (z : Nat) (hz : z < 4) : Met l yX0_cellOf (ws_ yX0_cellOf cX0_cellOf 5 (some .int)) rm_cellOf (va_Pc [.ref h0, .int (sp_eo o), .int (nI z)] (sp_xR D h0 a d (O, Z, T, M, C, S, U))) (vp_Si (fun r => r = sp_pv vl o z)) 0 0 (fun _ => False) := by
  refine x_entr (As := [.int (sp_eo o), .int (nI z)]) (by decide) rfl (Nat.le_of_ble_eq_true rfl) ?_
  intro p e s m args below meth c Q hx hb hml hown hts hK hP hret ls hl
  have hl : lv_has ls 5 [(0, .ref h0), (1, .int (sp_eo o)), (2, .int (nI z))] := hl
  refine lv_iload_n hx hb dX0_cellOf_0 rfl (lv_at hl 1 rfl) ?_
  refine lv_istore_n (lv' := [(3, .int (sp_eo o)), (0, .ref h0), (1, .int (sp_eo o)), (2, .int (nI z))]) hx hb dX0_cellOf_1 rfl hl (by decide) rfl (fun ls hl => ?_)
  refine lv_iconst (v := (nI 0)) hx hb dX0_cellOf_2 (by decide) ?_
  refine lv_istore (lv' := [(4, .int (nI 0)), (3, .int (sp_eo o)), (0, .ref h0), (1, .int (sp_eo o)), (2, .int (nI z))]) hx hb dX0_cellOf_3 hl (by decide) rfl (fun ls hl => ?_)
  obtain ⟨hO, hS, hd, hU, hM, hv, hV⟩ := hG
  have loop : ∀ (n i : Nat) (o1 : Option Nat), i + n = 130 → (∀ k, o1 = some k → k < 130 ∧ T k = true ∧ i ≤ sp_ab T rk k) → sp_pv vl o1 z = sp_pv vl o z → ∀ ls : Array Slot, lv_has ls 5 [(4, .int (nI i)), (3, .int (sp_eo o1)), (0, .ref h0), (2, .int (nI z))] → W p l e rm_cellOf s m args below meth c s.heap [] 0 0 Q (F0 m 5 ls []) := by
    intro n
    induction n with
    | zero =>
      intro i o1 hin ho1 he ls hl
      refine lv_iload hx hb dX0_cellOf_5 (lv_at hl 0 rfl) ?_
      refine lv_sipush (v := (nI 130)) hx hb dX0_cellOf_7 (by decide) ?_
      refine nv_icmp_ge (tgt := 54) hx hb (by omega) (by decide) dX0_cellOf_10 (by decide) (fun h1 => ?_) (fun h1 => ?_)
      · refine lv_iconst (v := 0) hx hb dX0_cellOf_54 (by decide) ?_
        have hn : o1 = none := by
          cases o1 with
          | none => rfl
          | some k =>
            obtain ⟨hk, -, hab⟩ := ho1 k rfl
            have := sp_ab_lt (T := T) (rk := rk) hk
            omega
        rw [hn] at he
        exact hret 0 55 ls rfl he dX0_cellOf_55
      · exact absurd h1 (by omega)
    | succ n ih =>
      intro i o1 hin ho1 he ls hl
      refine lv_iload hx hb dX0_cellOf_5 (lv_at hl 0 rfl) ?_
      refine lv_sipush (v := (nI 130)) hx hb dX0_cellOf_7 (by decide) ?_
      refine nv_icmp_ge (tgt := 54) hx hb (by omega) (by decide) dX0_cellOf_10 (by decide) (fun h1 => ?_) (fun h1 => ?_)
      · exact absurd h1 (by omega)
      · refine lv_iload_n hx hb dX0_cellOf_13 rfl (lv_at hl 1 rfl) ?_
        refine nv_if_lt_eo (tgt := 54) hx hb (fun k hk => (ho1 k hk).1) dX0_cellOf_14 (by decide) (fun h2 => ?_) (fun h2 => ?_)
        · refine lv_iconst (v := 0) hx hb dX0_cellOf_54 (by decide) ?_
          rw [h2] at he
          exact hret 0 55 ls rfl he dX0_cellOf_55
        · obtain ⟨k, rfl⟩ := h2
          obtain ⟨hk, hTk, hab⟩ := ho1 k rfl
          have hvk := hv k hk hTk z hz
          have hl : lv_has ls 5 [(4, .int (nI i)), (3, .int (nI k)), (0, .ref h0), (2, .int (nI z))] := hl
          refine lv_aload_n hx hb dX0_cellOf_17 rfl (lv_at hl 2 rfl) ?_
          refine xg_M hx hb hts hown hK hP dX0_cellOf_18 ?_
          refine lv_iload_n hx hb dX0_cellOf_21 rfl (lv_at hl 1 rfl) ?_
          refine xl_M hx hb hK hP (by omega) dX0_cellOf_22 ?_
          refine lv_iload_n hx hb dX0_cellOf_23 rfl (lv_at hl 3 rfl) ?_
          refine nv_bit_eq (tgt := 41) hx hb (hM k hk hTk) hz dX0_cellOf_24 dX0_cellOf_25 dX0_cellOf_26 dX0_cellOf_27 (by decide) (fun h3 => ?_) (fun h3 => ?_)
          · refine lv_aload_n hx hb dX0_cellOf_41 rfl (lv_at hl 2 rfl) ?_
            refine xg_S hx hb hts hown hK hP dX0_cellOf_42 ?_
            refine lv_iload_n hx hb dX0_cellOf_45 rfl (lv_at hl 1 rfl) ?_
            refine xl_S hx hb hK hP (by omega) dX0_cellOf_46 ?_
            refine lv_istore_n (lv' := [(3, .int (sp_eo (S k))), (4, .int (nI i)), (0, .ref h0), (2, .int (nI z))]) hx hb dX0_cellOf_47 rfl hl (by decide) rfl (fun ls hl => ?_)
            refine lv_iinc (v := (nI (i + 1))) (lv' := [(4, .int (nI (i + 1))), (3, .int (sp_eo (S k))), (0, .ref h0), (2, .int (nI z))]) hx hb dX0_cellOf_48 hl (k := 1) rfl (nv_inc i) (by decide) rfl (fun ls hl => ?_)
            refine lv_goto (tgt := 5) hx hb dX0_cellOf_51 (by decide) ?_
            refine ih (i + 1) (S k) (by omega) (fun k2 hk2 => ?_) ?_ ls (lv_sub hl [0, 1, 2, 3] rfl)
            · obtain ⟨g1, g2, g3⟩ := hS k hk hTk k2 hk2
              have := sp_ab_up (T := T) hk hTk g3
              exact ⟨g1, g2, by omega⟩
            · rw [← he]
              show _ = vl k z
              rw [hvk, h3, if_neg (by decide)]
          · refine lv_aload_n hx hb dX0_cellOf_30 rfl (lv_at hl 2 rfl) ?_
            refine xg_C hx hb hts hown hK hP dX0_cellOf_31 ?_
            refine lv_iconst (v := (nI 4)) hx hb dX0_cellOf_34 (by decide) ?_
            refine lv_iload_n hx hb dX0_cellOf_35 rfl (lv_at hl 1 rfl) ?_
            refine nv_imul hx hb dX0_cellOf_36 ?_
            refine lv_iload_n hx hb dX0_cellOf_37 rfl (lv_at hl 3 rfl) ?_
            refine nv_iadd hx hb dX0_cellOf_38 ?_
            refine xl_C hx hb hK hP (by omega) dX0_cellOf_39 ?_
            refine hret _ 40 ls rfl ?_ dX0_cellOf_40
            rw [← he]
            show _ = vl k z
            rw [hvk, if_pos h3]
  exact loop 130 0 o rfl (fun k hk => ⟨(ho k hk).1, (ho k hk).2, Nat.zero_le _⟩) rfl ls (lv_sub hl [0, 1, 2, 4] rfl)
abbrev rm_freeObject : Room := { frames := 0, cells := 0, slots := 0, locals := 0 }
set_option maxHeartbeats 4000000 in
set_option maxRecDepth 100000 in
/-- freeObject: an object that isn't taken, where there is one -/
theorem met_freeObject (l : Launch) (D : va_G) (h0 : Nat) (a : Nat → Nat) (d : Nat → ClassId) {O : Nat → Option Nat} {Z : Nat → Nat} {T : Nat → Bool} {M : Nat → Nat} {C : Nat → Int32} {S : Nat → Option Nat} {U : Nat → Nat} (hF : ∃ n, n < 130 ∧ T n = false) : Met l yX0_freeObject (ws_ yX0_freeObject cX0_freeObject 2 (some .int)) rm_freeObject (va_Pc [.ref h0] (sp_xR D h0 a d (O, Z, T, M, C, S, U))) (vp_Si (fun r => ∃ n, n < 130 ∧ T n = false ∧ r = nI n)) 0 0 (fun _ => False) := by
  refine x_entr (As := []) (by decide) rfl (Nat.le_of_ble_eq_true rfl) ?_
  intro p e s m args below meth c Q hx hb hml hown hts hK hP hret ls hl
  have hl : lv_has ls 2 [(0, .ref h0)] := hl
  refine lv_iconst (v := (nI 0)) hx hb dX0_freeObject_0 (by decide) ?_
  refine lv_istore_n (lv' := [(1, .int (nI 0)), (0, .ref h0)]) hx hb dX0_freeObject_1 rfl hl (by decide) rfl (fun ls hl => ?_)
  have loop : ∀ (n i : Nat), i + n = 130 → (∀ j, j < i → T j = true) → ∀ ls : Array Slot, lv_has ls 2 [(1, .int (nI i)), (0, .ref h0)] → W p l e rm_freeObject s m args below meth c s.heap [] 0 0 Q (F0 m 2 ls []) := by
    intro n
    induction n with
    | zero =>
      intro i hin hT ls hl
      obtain ⟨j, hj, hTj⟩ := hF
      rw [hT j (by omega)] at hTj
      cases hTj
    | succ n ih =>
      intro i hin hT ls hl
      refine lv_iload_n hx hb dX0_freeObject_2 rfl (lv_at hl 0 rfl) ?_
      refine lv_sipush (v := (nI 130)) hx hb dX0_freeObject_3 (by decide) ?_
      refine nv_icmp_ge (tgt := 26) hx hb (by omega) (by decide) dX0_freeObject_6 (by decide) (fun h1 => ?_) (fun h1 => ?_)
      · exact absurd h1 (by omega)
      · refine lv_aload_n hx hb dX0_freeObject_9 rfl (lv_at hl 1 rfl) ?_
        refine xg_T hx hb hts hown hK hP dX0_freeObject_10 ?_
        refine lv_iload_n hx hb dX0_freeObject_13 rfl (lv_at hl 0 rfl) ?_
        refine xl_T hx hb hK hP (by omega) dX0_freeObject_14 ?_
        refine nv_if_ne_eb (tgt := 20) hx hb dX0_freeObject_15 (by decide) (fun h2 => ?_) (fun h2 => ?_)
        · refine lv_iinc (v := (nI (i + 1))) (lv' := [(1, .int (nI (i + 1))), (0, .ref h0)]) hx hb dX0_freeObject_20 hl (k := 0) rfl (nv_inc i) (by decide) rfl (fun ls hl => ?_)
          refine lv_goto (tgt := 2) hx hb dX0_freeObject_23 (by decide) ?_
          exact ih (i + 1) (by omega) (fun j hj => by
            by_cases e : j = i
            · rw [e]; exact h2
            · exact hT j (by omega)) ls (lv_sub hl [0, 1] rfl)
        · refine lv_iload_n hx hb dX0_freeObject_18 rfl (lv_at hl 0 rfl) ?_
          exact hret _ 19 ls rfl ⟨i, h1, h2, rfl⟩ dX0_freeObject_19
  exact loop 130 0 rfl (fun j hj => absurd hj (Nat.not_lt_zero _)) ls (lv_sub hl [0, 1] rfl)
end
section
/-! ShadowPages: lead, ownObject, samePage, fold, foldAll (written by gen/xmid.py) -/
abbrev rm_lead : Room := { frames := 1, cells := 0, slots := 0, locals := 23 }
set_option maxHeartbeats 4000000 in
set_option maxRecDepth 100000 in
/-- lead: the page leads to another object -/
theorem met_lead (l : Launch) (D : va_G) (h0 : Nat) (a : Nat → Nat) (d : Nat → ClassId) (sz : Nat) {O : Nat → Option Nat} {Z : Nat → Nat} {T : Nat → Bool} {M : Nat → Nat} {C : Nat → Int32} {S : Nat → Option Nat} {U : Nat → Nat} {V : Nat → Int32} (pg : Nat) (tgt : Option Nat) (w : Nat → Int32) (hG : sp_Gd O T M C S U none V) (hp : pg < 64) (ht : (tgt = none ∧ ∀ c, c < 4 → w c = 0) ∨ ∃ q, q < 64 ∧ O q = tgt ∧ ∀ c, c < 4 → w c = V (4 * q + c)) : Met l yX0_lead (ws_ yX0_lead cX0_lead 4 none) rm_lead (va_Pc [.ref h0, .int (nI pg), .int (sp_eo tgt)] (sp_xS D h0 a d sz (O, Z, T, M, C, S, U))) (va_Qv (fun g1 : sp_xg => ∃ (T1 : Nat → Bool) (U1 : Nat → Nat), g1 = (va_up O pg tgt, Z, T1, M, C, S, U1) ∧ sp_Gd (va_up O pg tgt) T1 M C S U1 none (fb_put V w (4 * pg) 4)) (sp_xB D (va_A (sp_xw h0 a d (O, Z, T, M, C, S, U)) sz) h0 a d) (va_A (sp_xw h0 a d (O, Z, T, M, C, S, U)) sz)) 0 0 (va_A (sp_xw h0 a d (O, Z, T, M, C, S, U)) sz) := by
  have htk : ∀ k, tgt = some k → k < 130 ∧ T k = true := by
    intro k hk
    rcases ht with h | ⟨q, hq, h, -⟩
    · rw [h.1] at hk
      cases hk
    · exact hG.page hq (h.trans hk)
  refine x_entv (As := [.int (nI pg), .int (sp_eo tgt)]) (by decide) rfl (Nat.le_of_ble_eq_true rfl) ?_
  intro p e s m args below meth c A Q hx hb hml hown hts hK hA hX hret ls hl
  have hl : lv_has ls 4 [(0, .ref h0), (1, .int (nI pg)), (2, .int (sp_eo tgt))] := hl
  refine lv_aload_n hx hb dX0_lead_0 rfl (lv_at hl 0 rfl) ?_
  refine xg_O hx hb hts hown hK hX.1 dX0_lead_1 ?_
  refine lv_iload_n hx hb dX0_lead_4 rfl (lv_at hl 1 rfl) ?_
  refine xl_O hx hb hK hX.1 (by omega) dX0_lead_5 ?_
  refine lv_istore_n (lv' := [(3, .int (sp_eo (O pg))), (0, .ref h0), (1, .int (nI pg)), (2, .int (sp_eo tgt))]) hx hb dX0_lead_6 rfl hl (by decide) rfl (fun ls hl => ?_)
  refine lv_iload_n hx hb dX0_lead_7 rfl (lv_at hl 3 rfl) ?_
  have J : ∀ (U1 : Nat → Nat), U1 = sp_inc U tgt → ∀ (H : Heap) (locs : List Loc), sp_xP D A h0 a d (O, Z, T, M, C, S, U1) s.heap H locs → W p l e rm_lead s m args below meth c H locs 0 0 Q (F0 m 21 ls []) := by
    intro U1 eU H locs hX
    refine lv_aload_n hx hb dX0_lead_21 rfl (lv_at hl 1 rfl) ?_
    refine xg_O hx hb hts hown hK hX.1 dX0_lead_22 ?_
    refine lv_iload_n hx hb dX0_lead_25 rfl (lv_at hl 2 rfl) ?_
    refine lv_iload_n hx hb dX0_lead_26 rfl (lv_at hl 3 rfl) ?_
    refine xs_O hx hb hK hX (by omega) dX0_lead_27 (fun H locs hX => ?_)
    refine lv_aload_n hx hb dX0_lead_28 rfl (lv_at hl 1 rfl) ?_
    refine lv_iload_n hx hb dX0_lead_29 rfl (lv_at hl 0 rfl) ?_
    rw [eU] at hX
    refine x_callv (As := [.int (sp_eo (O pg))]) (rest := []) hx hb hml hown hts (met_letGo l D h0 a d H.size (O pg) (sp_lead hG hp ht)) (cwV 1 hts (lw_V q59 q61 qs2 q10 q62) rfl rfl rfl (by decide +kernel) ⟨Nat.le_of_ble_eq_true rfl, Nat.le_of_ble_eq_true rfl⟩) hK hX hA rfl hl.1 rfl (Nat.le_of_ble_eq_true rfl) dX0_lead_30 ⟨Nat.zero_le _, Nat.zero_le _⟩ (fun g1 H locs hq hX => ?_)
    obtain ⟨T1, U2, rfl, hG2, -⟩ := hq
    exact hret _ _ _ _ _ hX ⟨T1, U2, rfl, hG2⟩ dX0_lead_33
  refine nv_if_lt_eo (tgt := 21) hx hb (fun k hk => (htk k hk).1) dX0_lead_8 (by decide) (fun h1 => ?_) (fun h1 => ?_)
  · exact J U (by rw [h1]; rfl) _ _ hX
  · obtain ⟨k, hk⟩ := h1
    obtain ⟨hk1, hk2⟩ := htk k hk
    refine lv_aload_n hx hb dX0_lead_11 rfl (lv_at hl 1 rfl) ?_
    refine xg_U hx hb hts hown hK hX.1 dX0_lead_12 ?_
    refine lv_iload_n hx hb dX0_lead_15 rfl (lv_at hl 3 rfl) ?_
    refine nv_top ((nI k)) (by rw [hk]; rfl) ?_
    refine lv_dup2_11 hx hb dX0_lead_16 rfl rfl ?_
    refine xl_U hx hb hK hX.1 (by omega) dX0_lead_17 ?_
    refine lv_iconst (v := (nI 1)) hx hb dX0_lead_18 (by decide) ?_
    refine nv_iadd hx hb dX0_lead_19 ?_
    refine xs_U hx hb hK hX (by omega) dX0_lead_20 (fun H locs hX => ?_)
    exact J _ (by rw [hk]; rfl) _ _ hX
abbrev rm_ownObject : Room := { frames := 1, cells := 0, slots := 0, locals := 21 }
set_option maxHeartbeats 4000000 in
set_option maxRecDepth 100000 in
/-- ownObject: an object that this page alone uses -/
theorem met_ownObject (l : Launch) (D : va_G) (h0 : Nat) (a : Nat → Nat) (d : Nat → ClassId) (sz : Nat) {O : Nat → Option Nat} {Z : Nat → Nat} {T : Nat → Bool} {M : Nat → Nat} {C : Nat → Int32} {S : Nat → Option Nat} {U : Nat → Nat} {V : Nat → Int32} (pg : Nat) (hG : sp_Gd O T M C S U none V) (hF : sp_Fd T S U) (hp : pg < 64) : Met l yX0_ownObject (ws_ yX0_ownObject cX0_ownObject 4 (some .int)) rm_ownObject (va_Pc [.ref h0, .int (nI pg)] (sp_xS D h0 a d sz (O, Z, T, M, C, S, U))) (va_Qi (fun (r : Int32) (g1 : sp_xg) => ∃ (o : Nat) (O1 : Nat → Option Nat) (T1 : Nat → Bool) (M1 : Nat → Nat) (S1 : Nat → Option Nat) (U1 : Nat → Nat), r = nI o ∧ g1 = (O1, Z, T1, M1, C, S1, U1) ∧ sp_Gd O1 T1 M1 C S1 U1 none V ∧ O1 pg = some o ∧ U1 o = 1) (sp_xB D (va_A (sp_xw h0 a d (O, Z, T, M, C, S, U)) sz) h0 a d) (va_A (sp_xw h0 a d (O, Z, T, M, C, S, U)) sz)) 0 0 (va_A (sp_xw h0 a d (O, Z, T, M, C, S, U)) sz) := by
  refine x_enti (As := [.int (nI pg)]) (by decide) rfl (Nat.le_of_ble_eq_true rfl) ?_
  intro p e s m args below meth c A Q hx hb hml hown hts hK hA hX hret ls hl
  have hl : lv_has ls 4 [(0, .ref h0), (1, .int (nI pg))] := hl
  refine lv_aload_n hx hb dX0_ownObject_0 rfl (lv_at hl 0 rfl) ?_
  refine xg_O hx hb hts hown hK hX.1 dX0_ownObject_1 ?_
  refine lv_iload_n hx hb dX0_ownObject_4 rfl (lv_at hl 1 rfl) ?_
  refine xl_O hx hb hK hX.1 (by omega) dX0_ownObject_5 ?_
  refine lv_istore_n (lv' := [(2, .int (sp_eo (O pg))), (0, .ref h0), (1, .int (nI pg))]) hx hb dX0_ownObject_6 rfl hl (by decide) rfl (fun ls hl => ?_)
  refine lv_iload_n hx hb dX0_ownObject_7 rfl (lv_at hl 0 rfl) ?_
  have J : W p l e rm_ownObject s m args below meth c s.heap [] 0 0 Q (F0 m 23 ls []) := by
    refine lv_aload_n hx hb dX0_ownObject_23 rfl (lv_at hl 1 rfl) ?_
    refine x_callr (As := []) (rest := []) hx hb hml hown hts (met_freeObject l D h0 a d (sp_room hG hF)) (cwV 0 hts (lw_V q55 q57 qs1 q10 q58) rfl rfl rfl (by decide +kernel) ⟨Nat.le_of_ble_eq_true rfl, Nat.le_of_ble_eq_true rfl⟩) hK hX.1 rfl hl.1 rfl (Nat.le_of_ble_eq_true rfl) dX0_ownObject_24 ⟨Nat.zero_le _, Nat.zero_le _⟩ (fun r hr => ?_)
    obtain ⟨n, hn, hTn, rfl⟩ := hr
    refine lv_istore_n (lv' := [(3, .int (nI n)), (2, .int (sp_eo (O pg))), (0, .ref h0), (1, .int (nI pg))]) hx hb dX0_ownObject_27 rfl hl (by decide) rfl (fun ls hl => ?_)
    refine lv_aload_n hx hb dX0_ownObject_28 rfl (lv_at hl 2 rfl) ?_
    refine xg_T hx hb hts hown hK hX.1 dX0_ownObject_29 ?_
    refine lv_iload_n hx hb dX0_ownObject_32 rfl (lv_at hl 0 rfl) ?_
    refine lv_iconst (v := (sp_eb true)) hx hb dX0_ownObject_33 (by decide) ?_
    refine xs_T hx hb hK hX (by omega) dX0_ownObject_34 (fun H locs hX => ?_)
    refine lv_aload_n hx hb dX0_ownObject_35 rfl (lv_at hl 2 rfl) ?_
    refine xg_M hx hb hts hown hK hX.1 dX0_ownObject_36 ?_
    refine lv_iload_n hx hb dX0_ownObject_39 rfl (lv_at hl 0 rfl) ?_
    refine lv_iconst (v := (nI 0)) hx hb dX0_ownObject_40 (by decide) ?_
    refine xs_M hx hb hK hX (by omega) dX0_ownObject_41 (fun H locs hX => ?_)
    refine lv_aload_n hx hb dX0_ownObject_42 rfl (lv_at hl 2 rfl) ?_
    refine xg_S hx hb hts hown hK hX.1 dX0_ownObject_43 ?_
    refine lv_iload_n hx hb dX0_ownObject_46 rfl (lv_at hl 0 rfl) ?_
    refine lv_iload_n hx hb dX0_ownObject_47 rfl (lv_at hl 1 rfl) ?_
    refine xs_S hx hb hK hX (by omega) dX0_ownObject_48 (fun H locs hX => ?_)
    refine lv_aload_n hx hb dX0_ownObject_49 rfl (lv_at hl 2 rfl) ?_
    refine xg_U hx hb hts hown hK hX.1 dX0_ownObject_50 ?_
    refine lv_iload_n hx hb dX0_ownObject_53 rfl (lv_at hl 0 rfl) ?_
    refine lv_iconst (v := (nI 1)) hx hb dX0_ownObject_54 (by decide) ?_
    refine xs_U hx hb hK hX (by omega) dX0_ownObject_55 (fun H locs hX => ?_)
    refine lv_aload_n hx hb dX0_ownObject_56 rfl (lv_at hl 2 rfl) ?_
    refine xg_O hx hb hts hown hK hX.1 dX0_ownObject_57 ?_
    refine lv_iload_n hx hb dX0_ownObject_60 rfl (lv_at hl 3 rfl) ?_
    refine lv_iload_n hx hb dX0_ownObject_61 rfl (lv_at hl 0 rfl) ?_
    refine nv_top ((sp_eo (some n))) (rfl) ?_
    refine xs_O hx hb hK hX (by omega) dX0_ownObject_62 (fun H locs hX => ?_)
    refine lv_iload_n hx hb dX0_ownObject_63 rfl (lv_at hl 0 rfl) ?_
    exact hret _ _ _ _ _ _ hX ⟨n, _, _, _, _, _, rfl, rfl, sp_new hG hp hn hTn, sp_us, sp_us⟩ dX0_ownObject_64
  refine nv_if_lt_eo (tgt := 23) hx hb (fun k hk => (hG.page hp hk).1) dX0_ownObject_8 (by decide) (fun h1 => ?_) (fun h1 => ?_)
  · exact J
  · obtain ⟨k, hk⟩ := h1
    obtain ⟨hk1, hk2⟩ := hG.page hp hk
    have hu := hG.users hk1 hk2
    refine lv_aload_n hx hb dX0_ownObject_11 rfl (lv_at hl 1 rfl) ?_
    refine xg_U hx hb hts hown hK hX.1 dX0_ownObject_12 ?_
    refine lv_iload_n hx hb dX0_ownObject_15 rfl (lv_at hl 0 rfl) ?_
    refine nv_top ((nI k)) (by rw [hk]; rfl) ?_
    refine xl_U hx hb hK hX.1 (by omega) dX0_ownObject_16 ?_
    refine lv_iconst (v := (nI 1)) hx hb dX0_ownObject_17 (by decide) ?_
    refine nv_icmp_ne (tgt := 23) hx hb (by omega) (by decide) dX0_ownObject_18 (by decide) (fun h2 => ?_) (fun h2 => ?_)
    · exact J
    · refine lv_iload_n hx hb dX0_ownObject_21 rfl (lv_at hl 0 rfl) ?_
      refine nv_top ((nI k)) (by rw [hk]; rfl) ?_
      exact hret _ _ _ _ _ _ hX ⟨k, _, _, _, _, _, rfl, rfl, hG, hk, h2⟩ dX0_ownObject_22
abbrev rm_samePage : Room := { frames := 1, cells := 0, slots := 0, locals := 24 }
set_option maxHeartbeats 4000000 in
set_option maxRecDepth 100000 in
/-- samePage: whether two objects show the same -/
theorem met_samePage (l : Launch) (D : va_G) (h0 : Nat) (a : Nat → Nat) (d : Nat → ClassId) {O : Nat → Option Nat} {Z : Nat → Nat} {T : Nat → Bool} {M : Nat → Nat} {C : Nat → Int32} {S : Nat → Option Nat} {U : Nat → Nat} {V : Nat → Int32} {vl : Nat → Nat → Int32} {rk : Nat → Nat} (hG : sp_G O T M C S U none V vl rk) (oa ob : Option Nat) (ha : ∀ k, oa = some k → k < 130 ∧ T k = true) (hob : ∀ k, ob = some k → k < 130 ∧ T k = true) : Met l yX0_samePage (ws_ yX0_samePage cX0_samePage 4 (some .boolean)) rm_samePage (va_Pc [.ref h0, .int (sp_eo oa), .int (sp_eo ob)] (sp_xR D h0 a d (O, Z, T, M, C, S, U))) (vp_Si (fun r => (r = 1 ∧ ∀ z, z < 4 → sp_pv vl oa z = sp_pv vl ob z) ∨ (r = 0 ∧ ¬ ∀ z, z < 4 → sp_pv vl oa z = sp_pv vl ob z))) 0 0 (fun _ => False) := by
  refine x_entr (As := [.int (sp_eo oa), .int (sp_eo ob)]) (by decide) rfl (Nat.le_of_ble_eq_true rfl) ?_
  intro p e s m args below meth c Q hx hb hml hown hts hK hP hret ls hl
  have hl : lv_has ls 4 [(0, .ref h0), (1, .int (sp_eo oa)), (2, .int (sp_eo ob))] := hl
  refine lv_iload_n hx hb dX0_samePage_0 rfl (lv_at hl 1 rfl) ?_
  refine lv_iload_n hx hb dX0_samePage_1 rfl (lv_at hl 2 rfl) ?_
  refine lv_icmp_ne (tgt := 7) hx hb dX0_samePage_2 (by decide) (fun h1 => ?_) (fun h1 => ?_)
  · refine lv_iconst (v := (nI 0)) hx hb dX0_samePage_7 (by decide) ?_
    refine lv_istore_n (lv' := [(3, .int (nI 0)), (0, .ref h0), (1, .int (sp_eo oa)), (2, .int (sp_eo ob))]) hx hb dX0_samePage_8 rfl hl (by decide) rfl (fun ls hl => ?_)
    have loop : ∀ (n i : Nat), i + n = 4 → (∀ z, z < i → sp_pv vl oa z = sp_pv vl ob z) → ∀ ls : Array Slot, lv_has ls 4 [(3, .int (nI i)), (0, .ref h0), (1, .int (sp_eo oa)), (2, .int (sp_eo ob))] → W p l e rm_samePage s m args below meth c s.heap [] 0 0 Q (F0 m 9 ls []) := by
      intro n
      induction n with
      | zero =>
        intro i hin hE ls hl
        refine lv_iload_n hx hb dX0_samePage_9 rfl (lv_at hl 0 rfl) ?_
        refine lv_iconst (v := (nI 4)) hx hb dX0_samePage_10 (by decide) ?_
        refine nv_icmp_ge (tgt := 37) hx hb (by omega) (by decide) dX0_samePage_11 (by decide) (fun h2 => ?_) (fun h2 => ?_)
        · refine lv_iconst (v := 1) hx hb dX0_samePage_37 (by decide) ?_
          exact hret 1 38 ls rfl (Or.inl ⟨rfl, fun z hz => hE z (by omega)⟩) dX0_samePage_38
        · exact absurd h2 (by omega)
      | succ n ih =>
        intro i hin hE ls hl
        refine lv_iload_n hx hb dX0_samePage_9 rfl (lv_at hl 0 rfl) ?_
        refine lv_iconst (v := (nI 4)) hx hb dX0_samePage_10 (by decide) ?_
        refine nv_icmp_ge (tgt := 37) hx hb (by omega) (by decide) dX0_samePage_11 (by decide) (fun h2 => ?_) (fun h2 => ?_)
        · exact absurd h2 (by omega)
        · refine lv_aload_n hx hb dX0_samePage_14 rfl (lv_at hl 1 rfl) ?_
          refine lv_iload_n hx hb dX0_samePage_15 rfl (lv_at hl 2 rfl) ?_
          refine lv_iload_n hx hb dX0_samePage_16 rfl (lv_at hl 0 rfl) ?_
          refine x_callr (As := [.int (sp_eo oa), .int (nI i)]) (rest := []) hx hb hml hown hts (met_cellOf l D h0 a d hG oa ha i (by omega)) (cwV 2 hts (lw_V q75 q77 qs5 q10 q78) rfl rfl rfl (by decide +kernel) ⟨Nat.le_of_ble_eq_true rfl, Nat.le_of_ble_eq_true rfl⟩) hK hP rfl hl.1 rfl (Nat.le_of_ble_eq_true rfl) dX0_samePage_17 ⟨Nat.zero_le _, Nat.zero_le _⟩ (fun r1 hr1 => ?_)
          refine lv_aload_n hx hb dX0_samePage_20 rfl (lv_at hl 1 rfl) ?_
          refine lv_iload_n hx hb dX0_samePage_21 rfl (lv_at hl 3 rfl) ?_
          refine lv_iload_n hx hb dX0_samePage_22 rfl (lv_at hl 0 rfl) ?_
          refine x_callr (As := [.int (sp_eo ob), .int (nI i)]) (rest := [.int r1]) hx hb hml hown hts (met_cellOf l D h0 a d hG ob hob i (by omega)) (cwV 2 hts (lw_V q75 q77 qs5 q10 q78) rfl rfl rfl (by decide +kernel) ⟨Nat.le_of_ble_eq_true rfl, Nat.le_of_ble_eq_true rfl⟩) hK hP rfl hl.1 rfl (Nat.le_of_ble_eq_true rfl) dX0_samePage_23 ⟨Nat.zero_le _, Nat.zero_le _⟩ (fun r2 hr2 => ?_)
          refine lv_icmp_eq (tgt := 31) hx hb dX0_samePage_26 (by decide) (fun h3 => ?_) (fun h3 => ?_)
          · refine lv_iinc (v := (nI (i + 1))) (lv' := [(3, .int (nI (i + 1))), (0, .ref h0), (1, .int (sp_eo oa)), (2, .int (sp_eo ob))]) hx hb dX0_samePage_31 hl (k := 0) rfl (nv_inc i) (by decide) rfl (fun ls hl => ?_)
            refine lv_goto (tgt := 9) hx hb dX0_samePage_34 (by decide) ?_
            exact ih (i + 1) (by omega) (fun z hz => by
              by_cases e : z = i
              · rw [e, ← hr1, ← hr2]; exact h3
              · exact hE z (by omega)) ls (lv_sub hl [0, 1, 2, 3] rfl)
          · refine lv_iconst (v := 0) hx hb dX0_samePage_29 (by decide) ?_
            exact hret 0 30 ls rfl (Or.inr ⟨rfl, fun q => h3 (by rw [hr1, hr2]; exact q i (by omega))⟩) dX0_samePage_30
    exact loop 4 0 rfl (fun z hz => absurd hz (Nat.not_lt_zero _)) ls (lv_sub hl [0, 1, 2, 3] rfl)
  · refine lv_iconst (v := 1) hx hb dX0_samePage_5 (by decide) ?_
    have hab := sp_eo_inj (fun k hk => (ha k hk).1) (fun k hk => (hob k hk).1) h1
    exact hret 1 6 ls rfl (Or.inl ⟨rfl, fun z hz => by rw [hab]⟩) dX0_samePage_6
abbrev rm_fold : Room := { frames := 1, cells := 0, slots := 0, locals := 23 }
set_option maxHeartbeats 4000000 in
set_option maxRecDepth 100000 in
/-- fold: the object behind, used by this one alone, is taken into it -/
theorem met_fold (l : Launch) (D : va_G) (h0 : Nat) (a : Nat → Nat) (d : Nat → ClassId) (sz : Nat) {O : Nat → Option Nat} {Z : Nat → Nat} {T : Nat → Bool} {M : Nat → Nat} {C : Nat → Int32} {S : Nat → Option Nat} {U : Nat → Nat} {V : Nat → Int32} (o b : Nat) (hG : sp_Gd O T M C S U none V) (ho : o < 130) (hTo : T o = true) (hs : S o = some b) (hu : U b = 1) : Met l yX0_fold (ws_ yX0_fold cX0_fold 5 none) rm_fold (va_Pc [.ref h0, .int (nI o)] (sp_xS D h0 a d sz (O, Z, T, M, C, S, U))) (va_Qv (fun g1 : sp_xg => ∃ (T1 : Nat → Bool) (M1 : Nat → Nat) (C1 : Nat → Int32) (S1 : Nat → Option Nat) (U1 : Nat → Nat), g1 = (O, Z, T1, M1, C1, S1, U1) ∧ sp_Gd O T1 M1 C1 S1 U1 none V ∧ fb_ct T1 130 + 1 ≤ fb_ct T 130) (sp_xB D (va_A (sp_xw h0 a d (O, Z, T, M, C, S, U)) sz) h0 a d) (va_A (sp_xw h0 a d (O, Z, T, M, C, S, U)) sz)) 0 0 (va_A (sp_xw h0 a d (O, Z, T, M, C, S, U)) sz) := by
  obtain ⟨hb1, hTb⟩ := hG.shadow ho hTo hs
  have hne : b ≠ o := fun q => hG.noself ho hTo (by rw [hs, q])
  have hMo := hG.bits ho hTo
  have hMb := hG.bits hb1 hTb
  obtain ⟨hGf, hcf⟩ := sp_fold hG ho hTo hs hu
  have hMf := hGf.bits ho (by rw [sp_un hne.symm]; exact hTo)
  refine x_entv (As := [.int (nI o)]) (by decide) rfl (Nat.le_of_ble_eq_true rfl) ?_
  intro p e s m args below meth c A Q hx hb hml hown hts hK hA hX hret ls hl
  have hl : lv_has ls 5 [(0, .ref h0), (1, .int (nI o))] := hl
  refine lv_aload_n hx hb dX0_fold_0 rfl (lv_at hl 0 rfl) ?_
  refine xg_S hx hb hts hown hK hX.1 dX0_fold_1 ?_
  refine lv_iload_n hx hb dX0_fold_4 rfl (lv_at hl 1 rfl) ?_
  refine xl_S hx hb hK hX.1 (by omega) dX0_fold_5 ?_
  refine nv_top ((nI b)) (by rw [hs]; rfl) ?_
  refine lv_istore_n (lv' := [(2, .int (nI b)), (0, .ref h0), (1, .int (nI o))]) hx hb dX0_fold_6 rfl hl (by decide) rfl (fun ls hl => ?_)
  refine lv_iconst (v := (nI 0)) hx hb dX0_fold_7 (by decide) ?_
  refine lv_istore_n (lv' := [(3, .int (nI 0)), (2, .int (nI b)), (0, .ref h0), (1, .int (nI o))]) hx hb dX0_fold_8 rfl hl (by decide) rfl (fun ls hl => ?_)
  have loop : ∀ (n i : Nat), i + n = 4 → ∀ (H : Heap) (locs : List Loc), sp_xP D A h0 a d (O, Z, T, M, sp_fc o b M C i, S, U) s.heap H locs → ∀ ls : Array Slot, lv_has ls 5 [(3, .int (nI i)), (2, .int (nI b)), (0, .ref h0), (1, .int (nI o))] → W p l e rm_fold s m args below meth c H locs 0 0 Q (F0 m 9 ls []) := by
    intro n
    induction n with
    | zero =>
      intro i hin H locs hX ls hl
      have hi4 : i = 4 := by omega
      subst hi4
      have hl : lv_has ls 5 [(3, .int (nI 4)), (2, .int (nI b)), (0, .ref h0), (1, .int (nI o))] := hl
      refine lv_iload_n hx hb dX0_fold_9 rfl (lv_at hl 0 rfl) ?_
      refine lv_iconst (v := (nI 4)) hx hb dX0_fold_10 (by decide) ?_
      refine nv_icmp_ge (tgt := 78) hx hb (by decide) (by decide) dX0_fold_11 (by decide) (fun h1 => ?_) (fun h1 => ?_)
      · refine lv_aload_n hx hb dX0_fold_78 rfl (lv_at hl 2 rfl) ?_
        refine xg_M hx hb hts hown hK hX.1 dX0_fold_79 ?_
        refine lv_iload_n hx hb dX0_fold_82 rfl (lv_at hl 3 rfl) ?_
        refine lv_dup2_11 hx hb dX0_fold_83 rfl rfl ?_
        refine xl_M hx hb hK hX.1 (by omega) dX0_fold_84 ?_
        refine lv_aload_n hx hb dX0_fold_85 rfl (lv_at hl 2 rfl) ?_
        refine xg_M hx hb hts hown hK hX.1 dX0_fold_86 ?_
        refine lv_iload_n hx hb dX0_fold_89 rfl (lv_at hl 1 rfl) ?_
        refine xl_M hx hb hK hX.1 (by omega) dX0_fold_90 ?_
        refine nv_ior hx hb dX0_fold_91 ?_
        refine xs_M hx hb hK hX (by omega) dX0_fold_92 (fun H locs hX => ?_)
        refine lv_aload_n hx hb dX0_fold_93 rfl (lv_at hl 2 rfl) ?_
        refine xg_S hx hb hts hown hK hX.1 dX0_fold_94 ?_
        refine lv_iload_n hx hb dX0_fold_97 rfl (lv_at hl 3 rfl) ?_
        refine lv_aload_n hx hb dX0_fold_98 rfl (lv_at hl 2 rfl) ?_
        refine xg_S hx hb hts hown hK hX.1 dX0_fold_99 ?_
        refine lv_iload_n hx hb dX0_fold_102 rfl (lv_at hl 1 rfl) ?_
        refine xl_S hx hb hK hX.1 (by omega) dX0_fold_103 ?_
        refine xs_S hx hb hK hX (by omega) dX0_fold_104 (fun H locs hX => ?_)
        refine lv_aload_n hx hb dX0_fold_105 rfl (lv_at hl 2 rfl) ?_
        refine xg_T hx hb hts hown hK hX.1 dX0_fold_106 ?_
        refine lv_iload_n hx hb dX0_fold_109 rfl (lv_at hl 1 rfl) ?_
        refine lv_iconst (v := (sp_eb false)) hx hb dX0_fold_110 (by decide) ?_
        refine xs_T hx hb hK hX (by omega) dX0_fold_111 (fun H locs hX => ?_)
        refine lv_aload_n hx hb dX0_fold_112 rfl (lv_at hl 2 rfl) ?_
        refine xg_U hx hb hts hown hK hX.1 dX0_fold_113 ?_
        refine lv_iload_n hx hb dX0_fold_116 rfl (lv_at hl 1 rfl) ?_
        refine lv_iconst (v := (nI 0)) hx hb dX0_fold_117 (by decide) ?_
        refine xs_U hx hb hK hX (by omega) dX0_fold_118 (fun H locs hX => ?_)
        refine lv_aload_n hx hb dX0_fold_119 rfl (lv_at hl 2 rfl) ?_
        refine xg_M hx hb hts hown hK hX.1 dX0_fold_120 ?_
        refine lv_iload_n hx hb dX0_fold_123 rfl (lv_at hl 3 rfl) ?_
        refine xl_M hx hb hK hX.1 (by omega) dX0_fold_124 ?_
        refine lv_bipush (v := (nI 15)) hx hb dX0_fold_125 (by decide) ?_
        refine nv_icmp_ne (tgt := 158) hx hb (by omega) (by decide) dX0_fold_127 (by decide) (fun h2 => ?_) (fun h2 => ?_)
        · exact hret _ _ _ _ _ hX ⟨_, _, _, _, _, rfl, hGf, by omega⟩ dX0_fold_158
        · refine lv_aload_n hx hb dX0_fold_130 rfl (lv_at hl 2 rfl) ?_
          refine xg_S hx hb hts hown hK hX.1 dX0_fold_131 ?_
          refine lv_iload_n hx hb dX0_fold_134 rfl (lv_at hl 3 rfl) ?_
          refine xl_S hx hb hK hX.1 (by omega) dX0_fold_135 ?_
          refine nv_if_lt_eo (tgt := 158) hx hb (fun k hk => (hGf.shadow ho (by rw [sp_un hne.symm]; exact hTo) hk).1) dX0_fold_136 (by decide) (fun h3 => ?_) (fun h3 => ?_)
          · exact hret _ _ _ _ _ hX ⟨_, _, _, _, _, rfl, hGf, by omega⟩ dX0_fold_158
          · obtain ⟨k, hk⟩ := h3
            refine lv_aload_n hx hb dX0_fold_139 rfl (lv_at hl 2 rfl) ?_
            refine xg_S hx hb hts hown hK hX.1 dX0_fold_140 ?_
            refine lv_iload_n hx hb dX0_fold_143 rfl (lv_at hl 3 rfl) ?_
            refine xl_S hx hb hK hX.1 (by omega) dX0_fold_144 ?_
            refine nv_top ((sp_eo (some k))) (by rw [hk]) ?_
            refine lv_istore_n (lv' := [(3, .int (sp_eo (some k))), (2, .int (nI b)), (0, .ref h0), (1, .int (nI o))]) hx hb dX0_fold_145 rfl hl (by decide) rfl (fun ls hl => ?_)
            refine lv_aload_n hx hb dX0_fold_146 rfl (lv_at hl 2 rfl) ?_
            refine xg_S hx hb hts hown hK hX.1 dX0_fold_147 ?_
            refine lv_iload_n hx hb dX0_fold_150 rfl (lv_at hl 3 rfl) ?_
            refine lv_iconst (v := (sp_eo none)) hx hb dX0_fold_151 (by decide) ?_
            refine xs_S hx hb hK hX (by omega) dX0_fold_152 (fun H locs hX => ?_)
            refine lv_aload_n hx hb dX0_fold_153 rfl (lv_at hl 2 rfl) ?_
            refine lv_iload_n hx hb dX0_fold_154 rfl (lv_at hl 0 rfl) ?_
            refine x_callv (As := [.int (sp_eo (some k))]) (rest := []) hx hb hml hown hts (met_letGo l D h0 a d H.size (some k) (sp_drop hGf ho (by rw [sp_un hne.symm]; exact hTo) h2 hk)) (cwV 1 hts (lw_V q59 q61 qs2 q10 q62) rfl rfl rfl (by decide +kernel) ⟨Nat.le_of_ble_eq_true rfl, Nat.le_of_ble_eq_true rfl⟩) hK hX hA rfl hl.1 rfl (Nat.le_of_ble_eq_true rfl) dX0_fold_155 ⟨Nat.zero_le _, Nat.zero_le _⟩ (fun g1 H locs hq hX => ?_)
            obtain ⟨T1, U2, rfl, hG2, hc2⟩ := hq
            exact hret _ _ _ _ _ hX ⟨_, _, _, _, _, rfl, hG2, by omega⟩ dX0_fold_158
      · exact absurd h1 (by decide)
    | succ n ih =>
      intro i hin H locs hX ls hl
      refine lv_iload_n hx hb dX0_fold_9 rfl (lv_at hl 0 rfl) ?_
      refine lv_iconst (v := (nI 4)) hx hb dX0_fold_10 (by decide) ?_
      refine nv_icmp_ge (tgt := 78) hx hb (by omega) (by decide) dX0_fold_11 (by decide) (fun h1 => ?_) (fun h1 => ?_)
      · exact absurd h1 (by omega)
      · have J : ∀ (bb : Bool), (bb = true → (M o).testBit i = false ∧ (M b).testBit i = true) → (bb = false → ¬ ((M o).testBit i = false ∧ (M b).testBit i = true)) → W p l e rm_fold s m args below meth c H locs 0 0 Q (F0 m 45 ls [.int (sp_eb bb)]) := by
          intro bb hb1t hb1f
          refine lv_istore (lv' := [(4, .int (sp_eb bb)), (3, .int (nI i)), (2, .int (nI b)), (0, .ref h0), (1, .int (nI o))]) hx hb dX0_fold_45 hl (by decide) rfl (fun ls hl => ?_)
          refine lv_iload hx hb dX0_fold_47 (lv_at hl 0 rfl) ?_
          refine nv_if_eq_eb (tgt := 72) hx hb dX0_fold_49 (by decide) (fun h2 => ?_) (fun h2 => ?_)
          · refine lv_iinc (v := (nI (i + 1))) (lv' := [(3, .int (nI (i + 1))), (4, .int (sp_eb bb)), (2, .int (nI b)), (0, .ref h0), (1, .int (nI o))]) hx hb dX0_fold_72 hl (k := 1) rfl (nv_inc i) (by decide) rfl (fun ls hl => ?_)
            refine lv_goto (tgt := 9) hx hb dX0_fold_75 (by decide) ?_
            rw [sp_fc_skip M C (hb1f h2)] at hX
            exact ih (i + 1) (by omega) H locs hX ls (lv_sub hl [0, 2, 3, 4] rfl)
          · refine lv_aload_n hx hb dX0_fold_52 rfl (lv_at hl 3 rfl) ?_
            refine xg_C hx hb hts hown hK hX.1 dX0_fold_53 ?_
            refine lv_iconst (v := (nI 4)) hx hb dX0_fold_56 (by decide) ?_
            refine lv_iload_n hx hb dX0_fold_57 rfl (lv_at hl 4 rfl) ?_
            refine nv_imul hx hb dX0_fold_58 ?_
            refine lv_iload_n hx hb dX0_fold_59 rfl (lv_at hl 1 rfl) ?_
            refine nv_iadd hx hb dX0_fold_60 ?_
            refine lv_aload_n hx hb dX0_fold_61 rfl (lv_at hl 3 rfl) ?_
            refine xg_C hx hb hts hown hK hX.1 dX0_fold_62 ?_
            refine lv_iconst (v := (nI 4)) hx hb dX0_fold_65 (by decide) ?_
            refine lv_iload_n hx hb dX0_fold_66 rfl (lv_at hl 2 rfl) ?_
            refine nv_imul hx hb dX0_fold_67 ?_
            refine lv_iload_n hx hb dX0_fold_68 rfl (lv_at hl 1 rfl) ?_
            refine nv_iadd hx hb dX0_fold_69 ?_
            refine xl_C hx hb hK hX.1 (by omega) dX0_fold_70 ?_
            refine xs_C hx hb hK hX (by omega) dX0_fold_71 (fun H locs hX => ?_)
            refine lv_iinc (v := (nI (i + 1))) (lv' := [(3, .int (nI (i + 1))), (4, .int (sp_eb bb)), (2, .int (nI b)), (0, .ref h0), (1, .int (nI o))]) hx hb dX0_fold_72 hl (k := 1) rfl (nv_inc i) (by decide) rfl (fun ls hl => ?_)
            refine lv_goto (tgt := 9) hx hb dX0_fold_75 (by decide) ?_
            obtain ⟨g1, g2⟩ := hb1t h2
            rw [sp_fc_other M C hne (by omega) (by omega), sp_fc_take M C g1 g2] at hX
            exact ih (i + 1) (by omega) H locs hX ls (lv_sub hl [0, 2, 3, 4] rfl)
        refine lv_aload_n hx hb dX0_fold_14 rfl (lv_at hl 2 rfl) ?_
        refine xg_M hx hb hts hown hK hX.1 dX0_fold_15 ?_
        refine lv_iload_n hx hb dX0_fold_18 rfl (lv_at hl 3 rfl) ?_
        refine xl_M hx hb hK hX.1 (by omega) dX0_fold_19 ?_
        refine lv_iload_n hx hb dX0_fold_20 rfl (lv_at hl 0 rfl) ?_
        refine nv_bit_ne (tgt := 44) hx hb hMo (by omega) dX0_fold_21 dX0_fold_22 dX0_fold_23 dX0_fold_24 (by decide) (fun h2 => ?_) (fun h2 => ?_)
        · refine lv_iconst (v := (sp_eb false)) hx hb dX0_fold_44 (by decide) ?_
          exact J false (fun q => by cases q) (fun _ q => by rw [h2] at q; exact absurd q.1 (by decide))
        · refine lv_aload_n hx hb dX0_fold_27 rfl (lv_at hl 2 rfl) ?_
          refine xg_M hx hb hts hown hK hX.1 dX0_fold_28 ?_
          refine lv_iload_n hx hb dX0_fold_31 rfl (lv_at hl 1 rfl) ?_
          refine xl_M hx hb hK hX.1 (by omega) dX0_fold_32 ?_
          refine lv_iload_n hx hb dX0_fold_33 rfl (lv_at hl 0 rfl) ?_
          refine nv_bit_eq (tgt := 44) hx hb hMb (by omega) dX0_fold_34 dX0_fold_35 dX0_fold_36 dX0_fold_37 (by decide) (fun h3 => ?_) (fun h3 => ?_)
          · refine lv_iconst (v := (sp_eb false)) hx hb dX0_fold_44 (by decide) ?_
            exact J false (fun q => by cases q) (fun _ q => by rw [h3] at q; exact absurd q.2 (by decide))
          · refine lv_iconst (v := (sp_eb true)) hx hb dX0_fold_40 (by decide) ?_
            refine lv_goto (tgt := 45) hx hb dX0_fold_41 (by decide) ?_
            exact J true (fun _ => ⟨h2, h3⟩) (fun q => by cases q)
  rw [← sp_fc_0 o b M C] at hX
  exact loop 4 0 rfl _ _ hX ls (lv_sub hl [0, 1, 2, 3] rfl)
abbrev rm_foldAll : Room := { frames := 2, cells := 0, slots := 0, locals := 47 }
set_option maxHeartbeats 4000000 in
set_option maxRecDepth 100000 in
/-- foldAll: until nothing is left to fold -/
theorem met_foldAll (l : Launch) (D : va_G) (h0 : Nat) (a : Nat → Nat) (d : Nat → ClassId) (sz : Nat) {O : Nat → Option Nat} {Z : Nat → Nat} {T : Nat → Bool} {M : Nat → Nat} {C : Nat → Int32} {S : Nat → Option Nat} {U : Nat → Nat} {V : Nat → Int32} (hG : sp_Gd O T M C S U none V) : Met l yX0_foldAll (ws_ yX0_foldAll cX0_foldAll 4 none) rm_foldAll (va_Pc [.ref h0] (sp_xS D h0 a d sz (O, Z, T, M, C, S, U))) (va_Qv (fun g1 : sp_xg => ∃ (T1 : Nat → Bool) (M1 : Nat → Nat) (C1 : Nat → Int32) (S1 : Nat → Option Nat) (U1 : Nat → Nat), g1 = (O, Z, T1, M1, C1, S1, U1) ∧ sp_Gd O T1 M1 C1 S1 U1 none V ∧ sp_Fd T1 S1 U1) (sp_xB D (va_A (sp_xw h0 a d (O, Z, T, M, C, S, U)) sz) h0 a d) (va_A (sp_xw h0 a d (O, Z, T, M, C, S, U)) sz)) 0 0 (va_A (sp_xw h0 a d (O, Z, T, M, C, S, U)) sz) := by
  refine x_entv (As := []) (by decide) rfl (Nat.le_of_ble_eq_true rfl) ?_
  intro p e s m args below meth c A Q hx hb hml hown hts hK hA hX hret ls hl
  have hl : lv_has ls 4 [(0, .ref h0)] := hl
  refine lv_iconst (v := (sp_eb true)) hx hb dX0_foldAll_0 (by decide) ?_
  refine lv_istore_n (lv' := [(1, .int (sp_eb true)), (0, .ref h0)]) hx hb dX0_foldAll_1 rfl hl (by decide) rfl (fun ls hl => ?_)
  refine lv_iconst (v := (nI 0)) hx hb dX0_foldAll_2 (by decide) ?_
  refine lv_istore_n (lv' := [(2, .int (nI 0)), (1, .int (sp_eb true)), (0, .ref h0)]) hx hb dX0_foldAll_3 rfl hl (by decide) rfl (fun ls hl => ?_)
  have loop : ∀ (n i : Nat) (ch : Bool) (T1 : Nat → Bool) (M1 : Nat → Nat) (C1 : Nat → Int32) (S1 : Nat → Option Nat) (U1 : Nat → Nat), i + n = 130 → sp_Gd O T1 M1 C1 S1 U1 none V → (ch = false → sp_Fd T1 S1 U1) → (ch = true → fb_ct T1 130 + i ≤ 130) → ∀ (H : Heap) (locs : List Loc), sp_xP D A h0 a d (O, Z, T1, M1, C1, S1, U1) s.heap H locs → ∀ ls : Array Slot, lv_has ls 4 [(2, .int (nI i)), (1, .int (sp_eb ch)), (0, .ref h0)] → W p l e rm_foldAll s m args below meth c H locs 0 0 Q (F0 m 4 ls []) := by
    intro n
    induction n with
    | zero =>
      intro i ch T1 M1 C1 S1 U1 hin hG1 hf1 hc1 H locs hX ls hl
      refine lv_iload_n hx hb dX0_foldAll_4 rfl (lv_at hl 0 rfl) ?_
      refine lv_sipush (v := (nI 130)) hx hb dX0_foldAll_5 (by decide) ?_
      refine nv_icmp_ge (tgt := 78) hx hb (by omega) (by decide) dX0_foldAll_8 (by decide) (fun h1 => ?_) (fun h1 => ?_)
      · refine hret _ _ _ _ _ hX ⟨_, _, _, _, _, rfl, hG1, ?_⟩ dX0_foldAll_78
        cases ch with
        | false => exact hf1 rfl
        | true =>
          have h2 := hc1 rfl
          intro o ho hT
          have := fb_ct_pos.mpr ⟨o, ho, hT⟩
          omega
      · exact absurd h1 (by omega)
    | succ n ih =>
      intro i ch T1 M1 C1 S1 U1 hin hG1 hf1 hc1 H locs hX ls hl
      refine lv_iload_n hx hb dX0_foldAll_4 rfl (lv_at hl 0 rfl) ?_
      refine lv_sipush (v := (nI 130)) hx hb dX0_foldAll_5 (by decide) ?_
      refine nv_icmp_ge (tgt := 78) hx hb (by omega) (by decide) dX0_foldAll_8 (by decide) (fun h1 => ?_) (fun h1 => ?_)
      · exact absurd h1 (by omega)
      · refine lv_iload_n hx hb dX0_foldAll_11 rfl (lv_at hl 1 rfl) ?_
        refine nv_if_eq_eb (tgt := 78) hx hb dX0_foldAll_12 (by decide) (fun h2 => ?_) (fun h2 => ?_)
        · exact hret _ _ _ _ _ hX ⟨_, _, _, _, _, rfl, hG1, hf1 h2⟩ dX0_foldAll_78
        · have hc0 := hc1 h2
          refine lv_iconst (v := (sp_eb false)) hx hb dX0_foldAll_15 (by decide) ?_
          refine lv_istore_n (lv' := [(1, .int (sp_eb false)), (2, .int (nI i)), (0, .ref h0)]) hx hb dX0_foldAll_16 rfl hl (by decide) rfl (fun ls hl => ?_)
          refine lv_iconst (v := (nI 0)) hx hb dX0_foldAll_17 (by decide) ?_
          refine lv_istore_n (lv' := [(3, .int (nI 0)), (1, .int (sp_eb false)), (2, .int (nI i)), (0, .ref h0)]) hx hb dX0_foldAll_18 rfl hl (by decide) rfl (fun ls hl => ?_)
          have inner : ∀ (n2 j : Nat) (ch : Bool) (T1 : Nat → Bool) (M1 : Nat → Nat) (C1 : Nat → Int32) (S1 : Nat → Option Nat) (U1 : Nat → Nat), j + n2 = 130 → sp_Gd O T1 M1 C1 S1 U1 none V → fb_ct T1 130 + i ≤ 130 → (ch = false → ∀ q, q < j → T1 q = true → ∀ k, S1 q = some k → U1 k ≠ 1) → (ch = true → fb_ct T1 130 + (i + 1) ≤ 130) → ∀ (H : Heap) (locs : List Loc), sp_xP D A h0 a d (O, Z, T1, M1, C1, S1, U1) s.heap H locs → ∀ ls : Array Slot, lv_has ls 4 [(3, .int (nI j)), (1, .int (sp_eb ch)), (2, .int (nI i)), (0, .ref h0)] → W p l e rm_foldAll s m args below meth c H locs 0 0 Q (F0 m 19 ls []) := by
            intro n2
            induction n2 with
            | zero =>
              intro j ch T1 M1 C1 S1 U1 hjn hG1 hc2 hf2 hc3 H locs hX ls hl
              refine lv_iload_n hx hb dX0_foldAll_19 rfl (lv_at hl 0 rfl) ?_
              refine lv_sipush (v := (nI 130)) hx hb dX0_foldAll_20 (by decide) ?_
              refine nv_icmp_ge (tgt := 72) hx hb (by omega) (by decide) dX0_foldAll_23 (by decide) (fun h3 => ?_) (fun h3 => ?_)
              · refine lv_iinc (v := (nI (i + 1))) (lv' := [(2, .int (nI (i + 1))), (3, .int (nI j)), (1, .int (sp_eb ch)), (0, .ref h0)]) hx hb dX0_foldAll_72 hl (k := 2) rfl (nv_inc i) (by decide) rfl (fun ls hl => ?_)
                refine lv_goto (tgt := 4) hx hb dX0_foldAll_75 (by decide) ?_
                exact ih (i + 1) ch T1 M1 C1 S1 U1 (by omega) hG1 (fun q o ho hT k hk => hf2 q o (by omega) hT k hk) hc3 H locs hX ls (lv_sub hl [0, 2, 3] rfl)
              · exact absurd h3 (by omega)
            | succ n2 ih2 =>
              intro j ch T1 M1 C1 S1 U1 hjn hG1 hc2 hf2 hc3 H locs hX ls hl
              refine lv_iload_n hx hb dX0_foldAll_19 rfl (lv_at hl 0 rfl) ?_
              refine lv_sipush (v := (nI 130)) hx hb dX0_foldAll_20 (by decide) ?_
              refine nv_icmp_ge (tgt := 72) hx hb (by omega) (by decide) dX0_foldAll_23 (by decide) (fun h3 => ?_) (fun h3 => ?_)
              · exact absurd h3 (by omega)
              · have J : (T1 j = true → ∀ k, S1 j = some k → U1 k ≠ 1) → W p l e rm_foldAll s m args below meth c H locs 0 0 Q (F0 m 66 ls []) := by
                  intro hnf
                  refine lv_iinc (v := (nI (j + 1))) (lv' := [(3, .int (nI (j + 1))), (1, .int (sp_eb ch)), (2, .int (nI i)), (0, .ref h0)]) hx hb dX0_foldAll_66 hl (k := 0) rfl (nv_inc j) (by decide) rfl (fun ls hl => ?_)
                  refine lv_goto (tgt := 19) hx hb dX0_foldAll_69 (by decide) ?_
                  exact ih2 (j + 1) ch T1 M1 C1 S1 U1 (by omega) hG1 hc2 (fun q r hr hT k hk => by
                    by_cases e : r = j
                    · rw [e] at hT hk
                      exact hnf hT k hk
                    · exact hf2 q r (by omega) hT k hk) hc3 H locs hX ls (lv_sub hl [0, 1, 2, 3] rfl)
                refine lv_aload_n hx hb dX0_foldAll_26 rfl (lv_at hl 3 rfl) ?_
                refine xg_T hx hb hts hown hK hX.1 dX0_foldAll_27 ?_
                refine lv_iload_n hx hb dX0_foldAll_30 rfl (lv_at hl 0 rfl) ?_
                refine xl_T hx hb hK hX.1 (by omega) dX0_foldAll_31 ?_
                refine nv_if_eq_eb (tgt := 66) hx hb dX0_foldAll_32 (by decide) (fun h4 => ?_) (fun h4 => ?_)
                · exact J (fun q => by rw [h4] at q; cases q)
                · refine lv_aload_n hx hb dX0_foldAll_35 rfl (lv_at hl 3 rfl) ?_
                  refine xg_S hx hb hts hown hK hX.1 dX0_foldAll_36 ?_
                  refine lv_iload_n hx hb dX0_foldAll_39 rfl (lv_at hl 0 rfl) ?_
                  refine xl_S hx hb hK hX.1 (by omega) dX0_foldAll_40 ?_
                  refine nv_if_lt_eo (tgt := 66) hx hb (fun k hk => (hG1.shadow (by omega) h4 hk).1) dX0_foldAll_41 (by decide) (fun h5 => ?_) (fun h5 => ?_)
                  · exact J (fun _ k hk => by rw [h5] at hk; cases hk)
                  · obtain ⟨k, hk⟩ := h5
                    obtain ⟨hk1, hk2⟩ := hG1.shadow (by omega) h4 hk
                    have hu := hG1.users hk1 hk2
                    refine lv_aload_n hx hb dX0_foldAll_44 rfl (lv_at hl 3 rfl) ?_
                    refine xg_U hx hb hts hown hK hX.1 dX0_foldAll_45 ?_
                    refine lv_aload_n hx hb dX0_foldAll_48 rfl (lv_at hl 3 rfl) ?_
                    refine xg_S hx hb hts hown hK hX.1 dX0_foldAll_49 ?_
                    refine lv_iload_n hx hb dX0_foldAll_52 rfl (lv_at hl 0 rfl) ?_
                    refine xl_S hx hb hK hX.1 (by omega) dX0_foldAll_53 ?_
                    refine nv_top ((nI k)) (by rw [hk]; rfl) ?_
                    refine xl_U hx hb hK hX.1 (by omega) dX0_foldAll_54 ?_
                    refine lv_iconst (v := (nI 1)) hx hb dX0_foldAll_55 (by decide) ?_
                    refine nv_icmp_ne (tgt := 66) hx hb (by omega) (by decide) dX0_foldAll_56 (by decide) (fun h6 => ?_) (fun h6 => ?_)
                    · exact J (fun _ k2 hk2 => by
                        have : k = k2 := Option.some.inj (hk.symm.trans hk2)
                        rw [← this]
                        exact h6)
                    · refine lv_aload_n hx hb dX0_foldAll_59 rfl (lv_at hl 3 rfl) ?_
                      refine lv_iload_n hx hb dX0_foldAll_60 rfl (lv_at hl 0 rfl) ?_
                      refine x_callv (As := [.int (nI j)]) (rest := []) hx hb hml hown hts (met_fold l D h0 a d H.size j k hG1 (by omega) h4 hk h6) (cwV 1 hts (lw_V q67 q69 qs4 q10 q70) rfl rfl rfl (by decide +kernel) ⟨Nat.le_of_ble_eq_true rfl, Nat.le_of_ble_eq_true rfl⟩) hK hX hA rfl hl.1 rfl (Nat.le_of_ble_eq_true rfl) dX0_foldAll_61 ⟨Nat.zero_le _, Nat.zero_le _⟩ (fun g1 H locs hq hX => ?_)
                      obtain ⟨T2, M2, C2, S2, U2, rfl, hG2, hc4⟩ := hq
                      refine lv_iconst (v := (sp_eb true)) hx hb dX0_foldAll_64 (by decide) ?_
                      refine lv_istore_n (lv' := [(1, .int (sp_eb true)), (3, .int (nI j)), (2, .int (nI i)), (0, .ref h0)]) hx hb dX0_foldAll_65 rfl hl (by decide) rfl (fun ls hl => ?_)
                      refine lv_iinc (v := (nI (j + 1))) (lv' := [(3, .int (nI (j + 1))), (1, .int (sp_eb true)), (2, .int (nI i)), (0, .ref h0)]) hx hb dX0_foldAll_66 hl (k := 1) rfl (nv_inc j) (by decide) rfl (fun ls hl => ?_)
                      refine lv_goto (tgt := 19) hx hb dX0_foldAll_69 (by decide) ?_
                      exact ih2 (j + 1) true T2 M2 C2 S2 U2 (by omega) hG2 (by omega) (fun q => by cases q) (fun _ => by omega) H locs hX ls (lv_sub hl [0, 1, 2, 3] rfl)
          exact inner 130 0 false T1 M1 C1 S1 U1 rfl hG1 hc0 (fun _ q hq => absurd hq (Nat.not_lt_zero _)) (fun q => by cases q) H locs hX ls (lv_sub hl [0, 1, 2, 3] rfl)
  exact loop 130 0 true T M C S U rfl hG (fun q => by cases q) (fun _ => by have := fb_ct_le T 130; omega) _ _ hX ls (lv_sub hl [0, 1, 2] rfl)
end
section
/-! WHAT THE CALLS ANSWER AND DO, in plain words: F what the pages hold (4 * page + cell, 256 places), Z the parcels' sizes. Both classes answer so -/
def sp_c3 (x y z : Int32) (i j k : Nat) : Prop := i < 4 ∧ j < 8 ∧ k < 4 ∧ x = nI i ∧ y = nI j ∧ z = nI k
def sp_write_s (x y z v r : Int32) (F F1 : Nat → Int32) : Prop := (∃ i j k, sp_c3 x y z i j k ∧ r = 0 ∧ F1 = upd F (32 * i + 4 * j + k) v) ∨ ((∀ i j k, ¬ sp_c3 x y z i j k) ∧ r = -1 ∧ F1 = F)
def sp_read_s (x y z r : Int32) (F : Nat → Int32) : Prop := (∃ i j k, sp_c3 x y z i j k ∧ r = F (32 * i + 4 * j + k)) ∨ ((∀ i j k, ¬ sp_c3 x y z i j k) ∧ r = 0)
/-- n places from src are copied to dst, all else of the 256 stays -/
def sp_cpd (F F1 : Nat → Int32) (src dst n : Nat) : Prop := (∀ q, q < n → F1 (dst + q) = F (src + q)) ∧ ∀ q, q < 256 → (q < dst ∨ dst + n ≤ q) → F1 q = F q
def sp_c2 (x y : Int32) (i j : Nat) : Prop := i < 4 ∧ j < 4 ∧ x = nI i ∧ y = nI j
def sp_fork_s (x y r : Int32) (F F1 : Nat → Int32) : Prop := (∃ i j, sp_c2 x y i j ∧ r = 0 ∧ sp_cpd F F1 (32 * i) (32 * j) 32) ∨ ((∀ i j, ¬ sp_c2 x y i j) ∧ r = -1 ∧ F1 = F)
def sp_c4 (x y z v : Int32) (k i f n : Nat) : Prop := k < 4 ∧ i < 4 ∧ f < 8 ∧ 1 ≤ n ∧ f + n ≤ 8 ∧ x = nI k ∧ y = nI i ∧ z = nI f ∧ v = nI n
def sp_pack_s (x y z v r : Int32) (F F1 : Nat → Int32) (Z Z1 : Nat → Nat) : Prop := (∃ k i f n, sp_c4 x y z v k i f n ∧ r = 0 ∧ Z1 = va_up Z k n ∧ (∀ q, q < 4 * n → F1 (128 + 32 * k + q) = F (32 * i + 4 * f + q)) ∧ ∀ q, q < 256 → (q < 128 + 32 * k ∨ 128 + 32 * k + 32 ≤ q) → F1 q = F q) ∨ ((∀ k i f n, ¬ sp_c4 x y z v k i f n) ∧ r = -1 ∧ F1 = F ∧ Z1 = Z)
def sp_cu (x y z : Int32) (Z : Nat → Nat) (k i f : Nat) : Prop := k < 4 ∧ i < 4 ∧ f < 8 ∧ Z k ≠ 0 ∧ f + Z k ≤ 8 ∧ x = nI k ∧ y = nI i ∧ z = nI f
def sp_unpack_s (x y z : Int32) (kp : Bool) (r : Int32) (F F1 : Nat → Int32) (Z Z1 : Nat → Nat) : Prop := (∃ k i f, sp_cu x y z Z k i f ∧ r = nI (Z k) ∧ Z1 = (if kp = true then Z else va_up Z k 0) ∧ (∀ q, q < 4 * Z k → F1 (32 * i + 4 * f + q) = F (128 + 32 * k + q)) ∧ (∀ q, q < 128 → (q < 32 * i + 4 * f ∨ 32 * i + 4 * f + 4 * Z k ≤ q) → F1 q = F q) ∧ ∀ k2, k2 < 4 → ∀ q, q < 4 * Z1 k2 → F1 (128 + 32 * k2 + q) = F (128 + 32 * k2 + q)) ∨ ((∀ k i f, ¬ sp_cu x y z Z k i f) ∧ r = -1 ∧ F1 = F ∧ Z1 = Z)
def sp_ce (x y z : Int32) (i a b : Nat) : Prop := i < 4 ∧ a < 8 ∧ b < 8 ∧ x = nI i ∧ y = nI a ∧ z = nI b
def sp_exchange_s (x y z r : Int32) (F F1 : Nat → Int32) : Prop := (∃ i a b, sp_ce x y z i a b ∧ r = 0 ∧ (∀ q, q < 4 → F1 (32 * i + 4 * a + q) = F (32 * i + 4 * b + q)) ∧ (∀ q, q < 4 → F1 (32 * i + 4 * b + q) = F (32 * i + 4 * a + q)) ∧ ∀ q, q < 256 → (q < 32 * i + 4 * a ∨ 32 * i + 4 * a + 4 ≤ q) → (q < 32 * i + 4 * b ∨ 32 * i + 4 * b + 4 ≤ q) → F1 q = F q) ∨ ((∀ i a b, ¬ sp_ce x y z i a b) ∧ r = -1 ∧ F1 = F)
def sp_cc (x y : Int32) (i j : Nat) : Prop := i < 4 ∧ j < 8 ∧ x = nI i ∧ y = nI j
def sp_clear_s (x y r : Int32) (F F1 : Nat → Int32) : Prop := (∃ i j, sp_cc x y i j ∧ r = 0 ∧ (∀ q, q < 4 → F1 (32 * i + 4 * j + q) = 0) ∧ ∀ q, q < 256 → (q < 32 * i + 4 * j ∨ 32 * i + 4 * j + 4 ≤ q) → F1 q = F q) ∨ ((∀ i j, ¬ sp_cc x y i j) ∧ r = -1 ∧ F1 = F)
def sp_size_s (x r : Int32) (Z : Nat → Nat) : Prop := (∃ k, k < 4 ∧ x = nI k ∧ r = nI (Z k)) ∨ ((∀ k, ¬ (k < 4 ∧ x = nI k)) ∧ r = -1)
def sp_cp3 (x y z : Int32) (Z : Nat → Nat) (k p c : Nat) : Prop := k < 4 ∧ p < Z k ∧ c < 4 ∧ x = nI k ∧ y = nI p ∧ z = nI c
def sp_peek_s (x y z r : Int32) (F : Nat → Int32) (Z : Nat → Nat) : Prop := (∃ k p c, sp_cp3 x y z Z k p c ∧ r = F (128 + 32 * k + 4 * p + c)) ∨ ((∀ k p c, ¬ sp_cp3 x y z Z k p c) ∧ r = 0)
noncomputable def sp_alk (F : Nat → Int32) (i j p : Nat) : Bool := @decide (∀ c, c < 4 → F (32 * i + 4 * p + c) = F (32 * j + 4 * p + c)) (Classical.propDecidable _)
def sp_alike_s (x y r : Int32) (F : Nat → Int32) : Prop := (∃ i j, sp_c2 x y i j ∧ r = nI (fb_ct (sp_alk F i j) 8)) ∨ ((∀ i j, ¬ sp_c2 x y i j) ∧ r = -1)
theorem sp_cpd_0 (F : Nat → Int32) (src dst : Nat) : sp_cpd F F src dst 0 := ⟨fun q hq => absurd hq (Nat.not_lt_zero _), fun q _ _ => rfl⟩
/-- one page more is copied -/
theorem sp_cpd_step {F F1 w : Nat → Int32} {src dst n e : Nat} (h : sp_cpd F F1 src dst n) (he : e = dst + n) (hw : ∀ c, c < 4 → w c = F1 (src + n + c)) (h1 : src + n + 4 ≤ 256) (h2 : ∀ c, c < 4 → src + n + c < dst ∨ dst + n ≤ src + n + c) : sp_cpd F (fb_put F1 w e 4) src dst (n + 4) := by
  subst he
  refine ⟨fun q hq => ?_, fun q hq ho => ?_⟩
  · by_cases hn : q < n
    · rw [fb_put_out (by omega)]
      exact h.1 q hn
    · rw [fb_put_in (by omega) (by omega), hw _ (by omega), h.2 _ (by omega) (by have := h2 (dst + q - (dst + n)) (by omega); omega)]
      exact congrArg F (by omega)
  · rw [fb_put_out (by omega)]
    exact h.2 q hq (by omega)
theorem sp_nI_inj {a b : Nat} (ha : a < 2147483648) (hb : b < 2147483648) (h : nI a = nI b) : a = b := (nI_eq ha hb).mp h
theorem sp_c3_u {x y z : Int32} {i j k i2 j2 k2 : Nat} (h : sp_c3 x y z i j k) (h2 : sp_c3 x y z i2 j2 k2) : i = i2 ∧ j = j2 ∧ k = k2 := by
  obtain ⟨a1, a2, a3, rfl, rfl, rfl⟩ := h
  obtain ⟨b1, b2, b3, b4, b5, b6⟩ := h2
  exact ⟨sp_nI_inj (by omega) (by omega) b4, sp_nI_inj (by omega) (by omega) b5, sp_nI_inj (by omega) (by omega) b6⟩
theorem sp_c2_u {x y : Int32} {i j i2 j2 : Nat} (h : sp_c2 x y i j) (h2 : sp_c2 x y i2 j2) : i = i2 ∧ j = j2 := by
  obtain ⟨a1, a2, rfl, rfl⟩ := h
  obtain ⟨b1, b2, b4, b5⟩ := h2
  exact ⟨sp_nI_inj (by omega) (by omega) b4, sp_nI_inj (by omega) (by omega) b5⟩
theorem sp_cc_u {x y : Int32} {i j i2 j2 : Nat} (h : sp_cc x y i j) (h2 : sp_cc x y i2 j2) : i = i2 ∧ j = j2 := by
  obtain ⟨a1, a2, rfl, rfl⟩ := h
  obtain ⟨b1, b2, b4, b5⟩ := h2
  exact ⟨sp_nI_inj (by omega) (by omega) b4, sp_nI_inj (by omega) (by omega) b5⟩
theorem sp_c4_u {x y z v : Int32} {k i f n k2 i2 f2 n2 : Nat} (h : sp_c4 x y z v k i f n) (h2 : sp_c4 x y z v k2 i2 f2 n2) : k = k2 ∧ i = i2 ∧ f = f2 ∧ n = n2 := by
  obtain ⟨a1, a2, a3, a4, a5, rfl, rfl, rfl, rfl⟩ := h
  obtain ⟨b1, b2, b3, b4, b5, b6, b7, b8, b9⟩ := h2
  exact ⟨sp_nI_inj (by omega) (by omega) b6, sp_nI_inj (by omega) (by omega) b7, sp_nI_inj (by omega) (by omega) b8, sp_nI_inj (by omega) (by omega) b9⟩
theorem sp_cu_u {x y z : Int32} {Z Y : Nat → Nat} {k i f k2 i2 f2 : Nat} (h : sp_cu x y z Z k i f) (h2 : sp_cu x y z Y k2 i2 f2) : k = k2 ∧ i = i2 ∧ f = f2 := by
  obtain ⟨a1, a2, a3, -, -, rfl, rfl, rfl⟩ := h
  obtain ⟨b1, b2, b3, -, -, b6, b7, b8⟩ := h2
  exact ⟨sp_nI_inj (by omega) (by omega) b6, sp_nI_inj (by omega) (by omega) b7, sp_nI_inj (by omega) (by omega) b8⟩
theorem sp_ce_u {x y z : Int32} {i j k i2 j2 k2 : Nat} (h : sp_ce x y z i j k) (h2 : sp_ce x y z i2 j2 k2) : i = i2 ∧ j = j2 ∧ k = k2 := by
  obtain ⟨a1, a2, a3, rfl, rfl, rfl⟩ := h
  obtain ⟨b1, b2, b3, b4, b5, b6⟩ := h2
  exact ⟨sp_nI_inj (by omega) (by omega) b4, sp_nI_inj (by omega) (by omega) b5, sp_nI_inj (by omega) (by omega) b6⟩
/-- what the class holds and what the reference holds agree, where the reference's cells count -/
def sp_Rl (V : Nat → Int32) (Z : Nat → Nat) (K : Nat → Int32) (Y : Nat → Nat) : Prop := (∀ k, k < 4 → Z k ≤ 8) ∧ (∀ k, k < 4 → Y k = Z k) ∧ (∀ q, q < 128 → V q = K q) ∧ ∀ k, k < 4 → ∀ q, q < 4 * Z k → V (128 + 32 * k + q) = K (128 + 32 * k + q)
section LAWS
variable {V V1 K K1 : Nat → Int32} {Z Z1 Y Y1 : Nat → Nat} {x y z v r r2 : Int32}
theorem sp_Rl_0 : sp_Rl (fun _ => 0) (fun _ => 0) (fun _ => 0) (fun _ => 0) := ⟨fun _ _ => Nat.zero_le _, fun _ _ => rfl, fun _ _ => rfl, fun _ _ _ _ => rfl⟩
theorem sp_law_write (h : sp_Rl V Z K Y) (hx : sp_write_s x y z v r V V1) (hm : sp_write_s x y z v r2 K K1) : r = r2 ∧ sp_Rl V1 Z K1 Y := by
  rcases hx with ⟨i, j, k, c1, rfl, rfl⟩ | ⟨c1, rfl, rfl⟩
  · rcases hm with ⟨i2, j2, k2, c2, rfl, rfl⟩ | ⟨c2, -, -⟩
    · obtain ⟨rfl, rfl, rfl⟩ := sp_c3_u c1 c2
      refine ⟨rfl, h.1, h.2.1, fun q hq => ?_, fun k3 hk q hq => ?_⟩
      · unfold upd
        by_cases e : q = 32 * i + 4 * j + k
        · rw [if_pos e, if_pos e]
        · rw [if_neg e, if_neg e]
          exact h.2.2.1 q hq
      · have := c1.1
        have := c1.2.1
        have := c1.2.2.1
        unfold upd
        rw [if_neg (by omega), if_neg (by omega)]
        exact h.2.2.2 k3 hk q hq
    · exact absurd c1 (c2 _ _ _)
  · rcases hm with ⟨i2, j2, k2, c2, -, -⟩ | ⟨-, rfl, rfl⟩
    · exact absurd c2 (c1 _ _ _)
    · exact ⟨rfl, h⟩
theorem sp_law_read (h : sp_Rl V Z K Y) (hx : sp_read_s x y z r V) (hm : sp_read_s x y z r2 K) : r = r2 := by
  rcases hx with ⟨i, j, k, c1, rfl⟩ | ⟨c1, rfl⟩
  · rcases hm with ⟨i2, j2, k2, c2, rfl⟩ | ⟨c2, -⟩
    · obtain ⟨rfl, rfl, rfl⟩ := sp_c3_u c1 c2
      have := c1.1
      have := c1.2.1
      have := c1.2.2.1
      exact h.2.2.1 _ (by omega)
    · exact absurd c1 (c2 _ _ _)
  · rcases hm with ⟨i2, j2, k2, c2, -⟩ | ⟨-, rfl⟩
    · exact absurd c2 (c1 _ _ _)
    · rfl
theorem sp_law_fork (h : sp_Rl V Z K Y) (hx : sp_fork_s x y r V V1) (hm : sp_fork_s x y r2 K K1) : r = r2 ∧ sp_Rl V1 Z K1 Y := by
  rcases hx with ⟨i, j, c1, rfl, p1⟩ | ⟨c1, rfl, rfl⟩
  · rcases hm with ⟨i2, j2, c2, rfl, p2⟩ | ⟨c2, -, -⟩
    · obtain ⟨rfl, rfl⟩ := sp_c2_u c1 c2
      have h1 := c1.1
      have h2 := c1.2.1
      refine ⟨rfl, h.1, h.2.1, fun q hq => ?_, fun k3 hk q hq => ?_⟩
      · by_cases e : 32 * j ≤ q ∧ q < 32 * j + 32
        · have a1 := p1.1 (q - 32 * j) (by omega)
          have a2 := p2.1 (q - 32 * j) (by omega)
          rw [show 32 * j + (q - 32 * j) = q by omega] at a1 a2
          rw [a1, a2]
          exact h.2.2.1 _ (by omega)
        · rw [p1.2 q (by omega) (by omega), p2.2 q (by omega) (by omega)]
          exact h.2.2.1 q hq
      · have h3 := h.1 k3 hk
        rw [p1.2 _ (by omega) (by omega), p2.2 _ (by omega) (by omega)]
        exact h.2.2.2 k3 hk q hq
    · exact absurd c1 (c2 _ _)
  · rcases hm with ⟨i2, j2, c2, -, -⟩ | ⟨-, rfl, rfl⟩
    · exact absurd c2 (c1 _ _)
    · exact ⟨rfl, h⟩
theorem sp_law_pack (h : sp_Rl V Z K Y) (hx : sp_pack_s x y z v r V V1 Z Z1) (hm : sp_pack_s x y z v r2 K K1 Y Y1) : r = r2 ∧ sp_Rl V1 Z1 K1 Y1 := by
  rcases hx with ⟨k, i, f, n, c1, rfl, rfl, p1, p2⟩ | ⟨c1, rfl, rfl, rfl⟩
  · rcases hm with ⟨k2, i2, f2, n2, c2, rfl, rfl, s1, s2⟩ | ⟨c2, -, -, -⟩
    · obtain ⟨rfl, rfl, rfl, rfl⟩ := sp_c4_u c1 c2
      obtain ⟨b1, b2, b3, b4, b5, -⟩ := c1
      refine ⟨rfl, fun q hq => ?_, fun q hq => ?_, fun q hq => ?_, fun k3 hk q hq => ?_⟩
      · by_cases e : q = k
        · rw [e, sp_us]
          omega
        · rw [sp_un e]
          exact h.1 q hq
      · by_cases e : q = k
        · rw [e, sp_us, sp_us]
        · rw [sp_un e, sp_un e]
          exact h.2.1 q hq
      · rw [p2 q (by omega) (by omega), s2 q (by omega) (by omega)]
        exact h.2.2.1 q hq
      · by_cases e : k3 = k
        · rw [e, sp_us] at hq
          rw [e, p1 q hq, s1 q hq]
          exact h.2.2.1 _ (by omega)
        · rw [sp_un e] at hq
          have h3 := h.1 k3 hk
          rw [p2 _ (by omega) (by omega), s2 _ (by omega) (by omega)]
          exact h.2.2.2 k3 hk q hq
    · exact absurd c1 (c2 _ _ _ _)
  · rcases hm with ⟨k2, i2, f2, n2, c2, -⟩ | ⟨-, rfl, rfl, rfl⟩
    · exact absurd c2 (c1 _ _ _ _)
    · exact ⟨rfl, h⟩
theorem sp_law_unpack {kp : Bool} (h : sp_Rl V Z K Y) (hx : sp_unpack_s x y z kp r V V1 Z Z1) (hm : sp_unpack_s x y z kp r2 K K1 Y Y1) : r = r2 ∧ sp_Rl V1 Z1 K1 Y1 := by
  have tr : ∀ k i f, sp_cu x y z Z k i f → sp_cu x y z Y k i f := fun k i f q => by
    obtain ⟨b1, b2, b3, b4, b5, b6⟩ := q
    have e := h.2.1 k b1
    exact ⟨b1, b2, b3, by rw [e]; exact b4, by rw [e]; exact b5, b6⟩
  have tr2 : ∀ k i f, sp_cu x y z Y k i f → sp_cu x y z Z k i f := fun k i f q => by
    obtain ⟨b1, b2, b3, b4, b5, b6⟩ := q
    have e := h.2.1 k b1
    exact ⟨b1, b2, b3, by rw [← e]; exact b4, by rw [← e]; exact b5, b6⟩
  rcases hx with ⟨k, i, f, c1, rfl, e1, p1, p2, p3⟩ | ⟨c1, rfl, rfl, rfl⟩
  · rcases hm with ⟨k2, i2, f2, c2, rfl, e2, s1, s2, s3⟩ | ⟨c2, -, -, -⟩
    · obtain ⟨rfl, rfl, rfl⟩ := sp_cu_u c1 c2
      obtain ⟨b1, b2, b3, b4, b5, -⟩ := c1
      have eY := h.2.1 k b1
      rw [eY] at s1 s2
      have hz : ∀ q, q < 4 → Z1 q ≤ Z q ∧ Y1 q = Z1 q := by
        intro q hq
        rw [e1, e2]
        cases kp with
        | true => exact ⟨Nat.le_refl _, h.2.1 q hq⟩
        | false =>
          show va_up Z k 0 q ≤ Z q ∧ va_up Y k 0 q = va_up Z k 0 q
          by_cases e : q = k
          · rw [e, sp_us, sp_us]
            exact ⟨Nat.zero_le _, rfl⟩
          · rw [sp_un e, sp_un e]
            exact ⟨Nat.le_refl _, h.2.1 q hq⟩
      refine ⟨by rw [eY], fun q hq => Nat.le_trans (hz q hq).1 (h.1 q hq), fun q hq => (hz q hq).2, fun q hq => ?_, fun k3 hk q hq => ?_⟩
      · have h8 := h.1 k b1
        by_cases e : 32 * i + 4 * f ≤ q ∧ q < 32 * i + 4 * f + 4 * Z k
        · have a1 := p1 (q - (32 * i + 4 * f)) (by omega)
          have a2 := s1 (q - (32 * i + 4 * f)) (by omega)
          rw [show 32 * i + 4 * f + (q - (32 * i + 4 * f)) = q by omega] at a1 a2
          rw [a1, a2]
          exact h.2.2.2 k b1 _ (by omega)
        · rw [p2 q hq (by omega), s2 q hq (by omega)]
          exact h.2.2.1 q hq
      · have h3 := hz k3 hk
        rw [p3 k3 hk q hq, s3 k3 hk q (by rw [h3.2]; exact hq)]
        exact h.2.2.2 k3 hk q (by omega)
    · exact absurd (tr _ _ _ c1) (c2 _ _ _)
  · rcases hm with ⟨k2, i2, f2, c2, -⟩ | ⟨-, rfl, rfl, rfl⟩
    · exact absurd (tr2 _ _ _ c2) (c1 _ _ _)
    · exact ⟨rfl, h⟩
theorem sp_law_exchange (h : sp_Rl V Z K Y) (hx : sp_exchange_s x y z r V V1) (hm : sp_exchange_s x y z r2 K K1) : r = r2 ∧ sp_Rl V1 Z K1 Y := by
  rcases hx with ⟨i, a, b, c1, rfl, p1, p2, p3⟩ | ⟨c1, rfl, rfl⟩
  · rcases hm with ⟨i2, a2, b2, c2, rfl, s1, s2, s3⟩ | ⟨c2, -, -⟩
    · obtain ⟨rfl, rfl, rfl⟩ := sp_ce_u c1 c2
      have h1 := c1.1
      have h2 := c1.2.1
      have h3 := c1.2.2.1
      refine ⟨rfl, h.1, h.2.1, fun q hq => ?_, fun k3 hk q hq => ?_⟩
      · by_cases e : 32 * i + 4 * a ≤ q ∧ q < 32 * i + 4 * a + 4
        · have q1 := p1 (q - (32 * i + 4 * a)) (by omega)
          have q2 := s1 (q - (32 * i + 4 * a)) (by omega)
          rw [show 32 * i + 4 * a + (q - (32 * i + 4 * a)) = q by omega] at q1 q2
          rw [q1, q2]
          exact h.2.2.1 _ (by omega)
        · by_cases e2 : 32 * i + 4 * b ≤ q ∧ q < 32 * i + 4 * b + 4
          · have q1 := p2 (q - (32 * i + 4 * b)) (by omega)
            have q2 := s2 (q - (32 * i + 4 * b)) (by omega)
            rw [show 32 * i + 4 * b + (q - (32 * i + 4 * b)) = q by omega] at q1 q2
            rw [q1, q2]
            exact h.2.2.1 _ (by omega)
          · rw [p3 q (by omega) (by omega) (by omega), s3 q (by omega) (by omega) (by omega)]
            exact h.2.2.1 q hq
      · have h4 := h.1 k3 hk
        rw [p3 _ (by omega) (by omega) (by omega), s3 _ (by omega) (by omega) (by omega)]
        exact h.2.2.2 k3 hk q hq
    · exact absurd c1 (c2 _ _ _)
  · rcases hm with ⟨i2, a2, b2, c2, -⟩ | ⟨-, rfl, rfl⟩
    · exact absurd c2 (c1 _ _ _)
    · exact ⟨rfl, h⟩
theorem sp_law_clear (h : sp_Rl V Z K Y) (hx : sp_clear_s x y r V V1) (hm : sp_clear_s x y r2 K K1) : r = r2 ∧ sp_Rl V1 Z K1 Y := by
  rcases hx with ⟨i, j, c1, rfl, p1, p2⟩ | ⟨c1, rfl, rfl⟩
  · rcases hm with ⟨i2, j2, c2, rfl, s1, s2⟩ | ⟨c2, -, -⟩
    · obtain ⟨rfl, rfl⟩ := sp_cc_u c1 c2
      have h1 := c1.1
      have h2 := c1.2.1
      refine ⟨rfl, h.1, h.2.1, fun q hq => ?_, fun k3 hk q hq => ?_⟩
      · by_cases e : 32 * i + 4 * j ≤ q ∧ q < 32 * i + 4 * j + 4
        · have a1 := p1 (q - (32 * i + 4 * j)) (by omega)
          have a2 := s1 (q - (32 * i + 4 * j)) (by omega)
          rw [show 32 * i + 4 * j + (q - (32 * i + 4 * j)) = q by omega] at a1 a2
          rw [a1, a2]
        · rw [p2 q (by omega) (by omega), s2 q (by omega) (by omega)]
          exact h.2.2.1 q hq
      · have h3 := h.1 k3 hk
        rw [p2 _ (by omega) (by omega), s2 _ (by omega) (by omega)]
        exact h.2.2.2 k3 hk q hq
    · exact absurd c1 (c2 _ _)
  · rcases hm with ⟨i2, j2, c2, -, -⟩ | ⟨-, rfl, rfl⟩
    · exact absurd c2 (c1 _ _)
    · exact ⟨rfl, h⟩
theorem sp_law_size (h : sp_Rl V Z K Y) (hx : sp_size_s x r Z) (hm : sp_size_s x r2 Y) : r = r2 := by
  rcases hx with ⟨k, hk, e, rfl⟩ | ⟨c1, rfl⟩
  · rcases hm with ⟨k2, hk2, e2, rfl⟩ | ⟨c2, -⟩
    · have : k = k2 := sp_nI_inj (by omega) (by omega) (e.symm.trans e2)
      subst this
      rw [h.2.1 k hk]
    · exact absurd ⟨hk, e⟩ (c2 _)
  · rcases hm with ⟨k2, hk2, e2, -⟩ | ⟨-, rfl⟩
    · exact absurd ⟨hk2, e2⟩ (c1 _)
    · rfl
theorem sp_law_peek (h : sp_Rl V Z K Y) (hx : sp_peek_s x y z r V Z) (hm : sp_peek_s x y z r2 K Y) : r = r2 := by
  rcases hx with ⟨k, p, c, c1, rfl⟩ | ⟨c1, rfl⟩
  · obtain ⟨a1, a2, a3, a4, a5, a6⟩ := c1
    have h8 := h.1 k a1
    rcases hm with ⟨k2, p2, c2, d1, rfl⟩ | ⟨d1, -⟩
    · obtain ⟨b1, b2, b3, b4, b5, b6⟩ := d1
      have e1 : k = k2 := sp_nI_inj (by omega) (by omega) (a4.symm.trans b4)
      subst e1
      rw [h.2.1 k a1] at b2
      have e2 : p = p2 := sp_nI_inj (by omega) (by omega) (a5.symm.trans b5)
      have e3 : c = c2 := sp_nI_inj (by omega) (by omega) (a6.symm.trans b6)
      subst e2
      subst e3
      have := h.2.2.2 k a1 (4 * p + c) (by omega)
      rw [show 128 + 32 * k + (4 * p + c) = 128 + 32 * k + 4 * p + c by omega] at this
      exact this
    · exact absurd ⟨a1, by rw [h.2.1 k a1]; exact a2, a3, a4, a5, a6⟩ (d1 k p c)
  · rcases hm with ⟨k2, p2, c2, d1, -⟩ | ⟨-, rfl⟩
    · obtain ⟨b1, b2, b3, b4⟩ := d1
      exact absurd ⟨b1, by rw [← h.2.1 k2 b1]; exact b2, b3, b4⟩ (c1 k2 p2 c2)
    · rfl
theorem sp_law_alike (h : sp_Rl V Z K Y) (hx : sp_alike_s x y r V) (hm : sp_alike_s x y r2 K) : r = r2 := by
  rcases hx with ⟨i, j, c1, rfl⟩ | ⟨c1, rfl⟩
  · rcases hm with ⟨i2, j2, c2, rfl⟩ | ⟨c2, -⟩
    · obtain ⟨rfl, rfl⟩ := sp_c2_u c1 c2
      have h1 := c1.1
      have h2 := c1.2.1
      have : fb_ct (sp_alk V i j) 8 = fb_ct (sp_alk K i j) 8 := fb_ct_cong (fun p hp => by
        unfold sp_alk
        have e : (∀ c, c < 4 → V (32 * i + 4 * p + c) = V (32 * j + 4 * p + c)) ↔ ∀ c, c < 4 → K (32 * i + 4 * p + c) = K (32 * j + 4 * p + c) := by
          constructor
          · intro q c hc
            rw [← h.2.2.1 _ (by omega), ← h.2.2.1 _ (by omega)]
            exact q c hc
          · intro q c hc
            rw [h.2.2.1 _ (by omega), h.2.2.1 _ (by omega)]
            exact q c hc
        exact decide_eq_decide.mpr e)
      rw [this]
    · exact absurd c1 (c2 _ _)
  · rcases hm with ⟨i2, j2, c2, -⟩ | ⟨-, rfl⟩
    · exact absurd c2 (c1 _ _)
    · rfl
end LAWS
end
section
/-! ShadowPages: its public methods (written by gen/xpub.py) -/
/-- between two calls -/
def sp_XI (g : sp_xg) (V : Nat → Int32) (Z : Nat → Nat) : Prop := ∃ (O : Nat → Option Nat) (T : Nat → Bool) (M : Nat → Nat) (C : Nat → Int32) (S : Nat → Option Nat) (U : Nat → Nat), g = (O, Z, T, M, C, S, U) ∧ sp_Gd O T M C S U none V ∧ sp_Fd T S U
theorem sp_c3_x {x y z : Int32} {i j k : Nat} (h : sp_c3 x y z i j k) : sp_pg x y ∧ ¬ z < 0 ∧ z ≤ nI 3 := by
  obtain ⟨h1, h2, h3, rfl, rfl, rfl⟩ := h
  exact ⟨⟨i, j, h1, h2, rfl, rfl⟩, nI_pos (by omega), nI_le (by omega) (by omega)⟩
theorem sp_k3 {z : Int32} (h : ¬ z < 0) (h2 : z ≤ nI 3) : ∃ k, k < 4 ∧ z = nI k := by
  obtain ⟨k, hk, e⟩ := nI_of2 (M := nI 3) (n := 3) (by decide) h h2
  exact ⟨k, by omega, e⟩
theorem sp_k3x {z : Int32} (h : ∃ k, k < 4 ∧ z = nI k) : ¬ z < 0 ∧ z ≤ nI 3 ∧ ¬ nI 3 < z := by
  obtain ⟨k, hk, rfl⟩ := h
  exact ⟨nI_pos (by omega), nI_le (by omega) (by omega), nI_nlt (by omega) (by omega)⟩
theorem sp_pg0 {x : Int32} (h : sp_pg x (nI 0)) : ∃ i, i < 4 ∧ x = nI i := by
  obtain ⟨i, j, h1, -, h3, -⟩ := h
  exact ⟨i, h1, h3⟩
theorem sp_pg0_of {x : Int32} {i : Nat} (h : i < 4) (e : x = nI i) : sp_pg x (nI 0) := ⟨i, 0, h, by decide, e, rfl⟩
theorem sp_alk_iff {F : Nat → Int32} {i j p : Nat} : sp_alk F i j p = true ↔ ∀ c, c < 4 → F (32 * i + 4 * p + c) = F (32 * j + 4 * p + c) := @decide_eq_true_iff _ (Classical.propDecidable _)
def sp_ft (z v : Int32) : Prop := ∃ f n : Nat, f < 8 ∧ 1 ≤ n ∧ f + n ≤ 8 ∧ z = nI f ∧ v = nI n
theorem sp_ft_x {z v : Int32} (h : sp_ft z v) : ¬ v < nI 1 ∧ ¬ nI 8 < v ∧ ¬ z < 0 ∧ ¬ nI 7 < z ∧ ¬ nI 8 < z + v := by
  obtain ⟨f, n, h1, h2, h3, rfl, rfl⟩ := h
  rw [nI_add]
  exact ⟨nI_nlt (by omega) (by omega), nI_nlt (by omega) (by omega), nI_pos (by omega), nI_nlt (by omega) (by omega), nI_nlt (by omega) (by omega)⟩
theorem sp_ft_of {z v : Int32} (h1 : ¬ v < nI 1) (h2 : ¬ nI 8 < v) (h3 : ¬ z < 0) (h4 : ¬ nI 7 < z) (h5 : ¬ nI 8 < z + v) : sp_ft z v := by
  obtain ⟨n, hn, rfl⟩ := nI_of2 (M := nI 8) (n := 8) (by decide) (fun q => h1 (Int32.lt_trans q (by decide))) (Int32.not_lt.mp h2)
  obtain ⟨f, hf, rfl⟩ := nI_of2 (M := nI 7) (n := 7) (by decide) h3 (Int32.not_lt.mp h4)
  rw [nI_add] at h5
  refine ⟨f, n, by omega, ?_, ?_, rfl, rfl⟩
  · rcases Nat.lt_or_ge n 1 with q | q
    · exact absurd (nI_lt q (by decide)) h1
    · exact q
  · rcases Nat.lt_or_ge 8 (f + n) with q | q
    · exact absurd (nI_lt q (by omega)) h5
    · exact q
/-- n places of m have been packed; the parcel's 32 places alone have changed -/
def sp_pkd (F F1 : Nat → Int32) (src dst n m : Nat) : Prop := (∀ q, q < n → q < m → F1 (dst + q) = F (src + q)) ∧ ∀ q, q < 256 → (q < dst ∨ dst + 32 ≤ q) → F1 q = F q
theorem sp_pkd_0 (F : Nat → Int32) (src dst m : Nat) : sp_pkd F F src dst 0 m := ⟨fun q hq => absurd hq (Nat.not_lt_zero _), fun q _ _ => rfl⟩
theorem sp_pkd_step {F F1 w : Nat → Int32} {src dst n m e : Nat} (h : sp_pkd F F1 src dst n m) (he : e = dst + n) (h1 : n + 4 ≤ 32) (h3 : dst ≤ 256) (h2 : n < m → src + n + 4 ≤ dst ∧ ∀ c, c < 4 → w c = F1 (src + n + c)) : sp_pkd F (fb_put F1 w e 4) src dst (n + 4) m := by
  subst he
  refine ⟨fun q hq hm => ?_, fun q hq ho => ?_⟩
  · by_cases hn : q < n
    · rw [fb_put_out (by omega)]
      exact h.1 q hn hm
    · obtain ⟨g1, g2⟩ := h2 (by omega)
      rw [fb_put_in (by omega) (by omega), g2 _ (by omega), h.2 _ (by omega) (by omega)]
      exact congrArg F (by omega)
  · rw [fb_put_out (by omega)]
    exact h.2 q hq ho
theorem sp_swap_s {F : Nat → Int32} {i a b A B : Nat} (hi : i < 4) (ha : a < 8) (hb : b < 8) (hA : A = 32 * i + 4 * a) (hB : B = 32 * i + 4 * b) : (∀ q, q < 4 → fb_put (fb_put F (fun c => F (B + c)) A 4) (fun c => F (A + c)) B 4 (32 * i + 4 * a + q) = F (32 * i + 4 * b + q)) ∧ (∀ q, q < 4 → fb_put (fb_put F (fun c => F (B + c)) A 4) (fun c => F (A + c)) B 4 (32 * i + 4 * b + q) = F (32 * i + 4 * a + q)) ∧ ∀ q, q < 256 → (q < 32 * i + 4 * a ∨ 32 * i + 4 * a + 4 ≤ q) → (q < 32 * i + 4 * b ∨ 32 * i + 4 * b + 4 ≤ q) → fb_put (fb_put F (fun c => F (B + c)) A 4) (fun c => F (A + c)) B 4 q = F q := by
  subst hA
  subst hB
  refine ⟨fun q hq => ?_, fun q hq => ?_, fun q hq h1 h2 => ?_⟩
  · by_cases e : a = b
    · subst e
      rw [fb_put_in (by omega) (by omega)]
      exact congrArg F (by omega)
    · rw [fb_put_out (by omega), fb_put_in (by omega) (by omega)]
      exact congrArg F (by omega)
  · rw [fb_put_in (by omega) (by omega)]
    exact congrArg F (by omega)
  · rw [fb_put_out (by omega), fb_put_out (by omega)]
abbrev rm_write : Room := { frames := 3, cells := 0, slots := 0, locals := 70 }
set_option maxHeartbeats 4000000 in
set_option maxRecDepth 100000 in
theorem met_write (l : Launch) (D : va_G) (h0 : Nat) (a : Nat → Nat) (d : Nat → ClassId) (sz : Nat) (g : sp_xg) (V : Nat → Int32) (Z : Nat → Nat) (hI : sp_XI g V Z) (x y z v : Int32) : Met l yX0_write (ws_ yX0_write cX0_write 8 (some .int)) rm_write (va_Pc [.ref h0, .int x, .int y, .int z, .int v] (sp_xS D h0 a d sz g)) (va_Qi (fun (r : Int32) (g1 : sp_xg) => ∃ V1 : Nat → Int32, sp_XI g1 V1 Z ∧ sp_write_s x y z v r V V1) (sp_xB D (va_A (sp_xw h0 a d g) sz) h0 a d) (va_A (sp_xw h0 a d g) sz)) 0 0 (va_A (sp_xw h0 a d g) sz) := by
  obtain ⟨O, T, M, C, S, U, rfl, hG, hF⟩ := hI
  refine x_enti (As := [.int x, .int y, .int z, .int v]) (by decide) rfl (Nat.le_of_ble_eq_true rfl) ?_
  intro p e s m args below meth c A Q hx hb hml hown hts hK hA hX hret ls hl
  have hl : lv_has ls 8 [(0, .ref h0), (1, .int x), (2, .int y), (3, .int z), (4, .int v)] := hl
  refine lv_iload_n hx hb dX0_write_0 rfl (lv_at hl 1 rfl) ?_
  refine lv_iload_n hx hb dX0_write_1 rfl (lv_at hl 2 rfl) ?_
  refine st_call (As := [.int x, .int y]) (rest := []) hx hb hml hown hts (met_isPage l x y) (va_cwS 2 hts (lw_S q48 q49 q10 q50) rfl rfl rfl (by decide +kernel) ⟨Nat.le_of_ble_eq_true rfl, Nat.le_of_ble_eq_true rfl⟩) rfl hl.1 rfl (Nat.le_of_ble_eq_true rfl) dX0_write_2 ⟨Nat.zero_le _, Nat.zero_le _⟩ (fun r hr => ?_)
  refine lv_if_eq (tgt := 17) hx hb dX0_write_5 (by decide) (fun h1 => ?_) (fun h1 => ?_)
  · refine lv_iconst (v := (-1)) hx hb dX0_write_17 (by decide) ?_
    exact hret _ _ _ _ _ _ hX ⟨V, ⟨O, T, M, C, S, U, rfl, hG, hF⟩, Or.inr ⟨fun i j k q => sp_no hr h1 (sp_c3_x q).1, rfl, rfl⟩⟩ dX0_write_18
  · refine lv_iload_n hx hb dX0_write_8 rfl (lv_at hl 3 rfl) ?_
    refine lv_if_lt (tgt := 17) hx hb dX0_write_9 (by decide) (fun h2 => ?_) (fun h2 => ?_)
    · refine lv_iconst (v := (-1)) hx hb dX0_write_17 (by decide) ?_
      exact hret _ _ _ _ _ _ hX ⟨V, ⟨O, T, M, C, S, U, rfl, hG, hF⟩, Or.inr ⟨fun i j k q => (sp_c3_x q).2.1 h2, rfl, rfl⟩⟩ dX0_write_18
    · refine lv_iload_n hx hb dX0_write_12 rfl (lv_at hl 3 rfl) ?_
      refine lv_iconst (v := (nI 3)) hx hb dX0_write_13 (by decide) ?_
      refine lv_icmp_le (tgt := 19) hx hb dX0_write_14 (by decide) (fun h3 => ?_) (fun h3 => ?_)
      · obtain ⟨i, j, hi, hj, rfl, rfl⟩ := sp_yes hr h1
        obtain ⟨k, hk, rfl⟩ := sp_k3 h2 h3
        have hl : lv_has ls 8 [(0, .ref h0), (1, .int (nI i)), (2, .int (nI j)), (3, .int (nI k)), (4, .int v)] := hl
        refine lv_bipush (v := (nI 8)) hx hb dX0_write_19 (by decide) ?_
        refine lv_iload_n hx hb dX0_write_21 rfl (lv_at hl 1 rfl) ?_
        refine nv_imul hx hb dX0_write_22 ?_
        refine lv_iload_n hx hb dX0_write_23 rfl (lv_at hl 2 rfl) ?_
        refine nv_iadd hx hb dX0_write_24 ?_
        refine lv_istore (lv' := [(5, .int (nI ((8 * i) + j))), (0, .ref h0), (1, .int (nI i)), (2, .int (nI j)), (3, .int (nI k)), (4, .int v)]) hx hb dX0_write_25 hl (by decide) rfl (fun ls hl => ?_)
        refine lv_aload_n hx hb dX0_write_27 rfl (lv_at hl 1 rfl) ?_
        refine lv_iload hx hb dX0_write_28 (lv_at hl 0 rfl) ?_
        refine x_calli (As := [.int (nI ((8 * i) + j))]) (rest := []) hx hb hml hown hts (met_ownObject l D h0 a d s.heap.size (8 * i + j) hG hF (by omega)) (cwV 1 hts (lw_V q51 q53 qs0 q10 q54) rfl rfl rfl (by decide +kernel) ⟨Nat.le_of_ble_eq_true rfl, Nat.le_of_ble_eq_true rfl⟩) hK hX hA rfl hl.1 rfl (Nat.le_of_ble_eq_true rfl) dX0_write_30 ⟨Nat.zero_le _, Nat.zero_le _⟩ (fun r1 g1 H locs hq hX => ?_)
        obtain ⟨o, O1, T1, M1, S1, U1, rfl, rfl, hG1, hO1, hU1⟩ := hq
        obtain ⟨ho, hTo⟩ := hG1.page (by omega) hO1
        have hGw := sp_write v hG1 (by omega) hO1 hU1 hk
        have hbt := hGw.bits ho hTo
        rw [sp_us] at hbt
        refine lv_istore (lv' := [(6, .int (nI o)), (5, .int (nI ((8 * i) + j))), (0, .ref h0), (1, .int (nI i)), (2, .int (nI j)), (3, .int (nI k)), (4, .int v)]) hx hb dX0_write_33 hl (by decide) rfl (fun ls hl => ?_)
        refine lv_aload_n hx hb dX0_write_35 rfl (lv_at hl 2 rfl) ?_
        refine xg_C hx hb hts hown hK hX.1 dX0_write_36 ?_
        refine lv_iconst (v := (nI 4)) hx hb dX0_write_39 (by decide) ?_
        refine lv_iload hx hb dX0_write_40 (lv_at hl 0 rfl) ?_
        refine nv_imul hx hb dX0_write_42 ?_
        refine lv_iload_n hx hb dX0_write_43 rfl (lv_at hl 5 rfl) ?_
        refine nv_iadd hx hb dX0_write_44 ?_
        refine lv_iload hx hb dX0_write_45 (lv_at hl 6 rfl) ?_
        refine xs_C hx hb hK hX (by omega) dX0_write_47 (fun H locs hX => ?_)
        refine lv_aload_n hx hb dX0_write_48 rfl (lv_at hl 2 rfl) ?_
        refine xg_M hx hb hts hown hK hX.1 dX0_write_49 ?_
        refine lv_iload hx hb dX0_write_52 (lv_at hl 0 rfl) ?_
        refine lv_dup2_11 hx hb dX0_write_54 rfl rfl ?_
        refine xl_M hx hb hK hX.1 (by omega) dX0_write_55 ?_
        refine lv_iconst (v := (nI 1)) hx hb dX0_write_56 (by decide) ?_
        refine lv_iload_n hx hb dX0_write_57 rfl (lv_at hl 5 rfl) ?_
        refine nv_ishl1 hx hb hk dX0_write_58 ?_
        refine nv_ior hx hb dX0_write_59 ?_
        refine xs_M hx hb hK hX (by omega) dX0_write_60 (fun H locs hX => ?_)
        refine lv_aload_n hx hb dX0_write_61 rfl (lv_at hl 2 rfl) ?_
        refine xg_M hx hb hts hown hK hX.1 dX0_write_62 ?_
        refine lv_iload hx hb dX0_write_65 (lv_at hl 0 rfl) ?_
        refine xl_M hx hb hK hX.1 (by omega) dX0_write_67 ?_
        refine nv_top ((nI (M1 o ||| 2 ^ k))) (by rw [sp_us]) ?_
        refine lv_bipush (v := (nI 15)) hx hb dX0_write_68 (by decide) ?_
        have J : ∀ (T2 : Nat → Bool) (S2 : Nat → Option Nat) (U2 : Nat → Nat) (H : Heap) (locs : List Loc), sp_Gd O1 T2 (va_up M1 o (M1 o ||| 2 ^ k)) (upd C (4 * o + k) v) S2 U2 none (upd V (4 * (8 * i + j) + k) v) → sp_xP D A h0 a d (O1, Z, T2, va_up M1 o (M1 o ||| 2 ^ k), upd C (4 * o + k) v, S2, U2) s.heap H locs → ∀ ls : Array Slot, lv_has ls 8 [(0, .ref h0)] → W p l e rm_write s m args below meth c H locs 0 0 Q (F0 m 106 ls []) := by
          intro T2 S2 U2 H locs hG2 hX ls hl
          refine lv_aload_n hx hb dX0_write_106 rfl (lv_at hl 0 rfl) ?_
          refine x_callv (As := []) (rest := []) hx hb hml hown hts (met_foldAll l D h0 a d H.size hG2) (cwV 0 hts (lw_V q63 q65 qs3 q10 q66) rfl rfl rfl (by decide +kernel) ⟨Nat.le_of_ble_eq_true rfl, Nat.le_of_ble_eq_true rfl⟩) hK hX hA rfl hl.1 rfl (Nat.le_of_ble_eq_true rfl) dX0_write_107 ⟨Nat.zero_le _, Nat.zero_le _⟩ (fun g1 H locs hq hX => ?_)
          refine lv_iconst (v := 0) hx hb dX0_write_110 (by decide) ?_
          obtain ⟨T3, M3, C3, S3, U3, rfl, hG3, hF3⟩ := hq
          exact hret _ _ _ _ _ _ hX ⟨_, ⟨_, _, _, _, _, _, rfl, hG3, hF3⟩, Or.inl ⟨i, j, k, ⟨hi, hj, hk, rfl, rfl, rfl⟩, rfl, by rw [show 32 * i + 4 * j + k = 4 * (8 * i + j) + k by omega]⟩⟩ dX0_write_111
        refine nv_icmp_ne (tgt := 106) hx hb (by omega) (by decide) dX0_write_70 (by decide) (fun h4 => ?_) (fun h4 => ?_)
        · exact J _ _ _ _ _ hGw hX ls (lv_sub hl [2] rfl)
        · refine lv_aload_n hx hb dX0_write_73 rfl (lv_at hl 2 rfl) ?_
          refine xg_S hx hb hts hown hK hX.1 dX0_write_74 ?_
          refine lv_iload hx hb dX0_write_77 (lv_at hl 0 rfl) ?_
          refine xl_S hx hb hK hX.1 (by omega) dX0_write_79 ?_
          refine nv_if_lt_eo (tgt := 106) hx hb (fun q hq => (hGw.shadow ho hTo hq).1) dX0_write_80 (by decide) (fun h5 => ?_) (fun h5 => ?_)
          · exact J _ _ _ _ _ hGw hX ls (lv_sub hl [2] rfl)
          · obtain ⟨b, hb5⟩ := h5
            refine lv_aload_n hx hb dX0_write_83 rfl (lv_at hl 2 rfl) ?_
            refine xg_S hx hb hts hown hK hX.1 dX0_write_84 ?_
            refine lv_iload hx hb dX0_write_87 (lv_at hl 0 rfl) ?_
            refine xl_S hx hb hK hX.1 (by omega) dX0_write_89 ?_
            refine nv_top ((sp_eo (some b))) (by rw [hb5]) ?_
            refine lv_istore (lv' := [(7, .int (sp_eo (some b))), (6, .int (nI o)), (5, .int (nI ((8 * i) + j))), (0, .ref h0), (1, .int (nI i)), (2, .int (nI j)), (3, .int (nI k)), (4, .int v)]) hx hb dX0_write_90 hl (by decide) rfl (fun ls hl => ?_)
            refine lv_aload_n hx hb dX0_write_92 rfl (lv_at hl 3 rfl) ?_
            refine xg_S hx hb hts hown hK hX.1 dX0_write_93 ?_
            refine lv_iload hx hb dX0_write_96 (lv_at hl 1 rfl) ?_
            refine lv_iconst (v := (sp_eo none)) hx hb dX0_write_98 (by decide) ?_
            refine xs_S hx hb hK hX (by omega) dX0_write_99 (fun H locs hX => ?_)
            refine lv_aload_n hx hb dX0_write_100 rfl (lv_at hl 3 rfl) ?_
            refine lv_iload hx hb dX0_write_101 (lv_at hl 0 rfl) ?_
            refine x_callv (As := [.int (sp_eo (some b))]) (rest := []) hx hb hml hown hts (met_letGo l D h0 a d H.size (some b) (sp_drop hGw ho hTo (by rw [sp_us]; exact h4) hb5)) (cwV 1 hts (lw_V q59 q61 qs2 q10 q62) rfl rfl rfl (by decide +kernel) ⟨Nat.le_of_ble_eq_true rfl, Nat.le_of_ble_eq_true rfl⟩) hK hX hA rfl hl.1 rfl (Nat.le_of_ble_eq_true rfl) dX0_write_103 ⟨Nat.zero_le _, Nat.zero_le _⟩ (fun g1 H locs hq hX => ?_)
            obtain ⟨T2, U2, rfl, hG2, -⟩ := hq
            exact J _ _ _ _ _ hG2 hX ls (lv_sub hl [3] rfl)
      · refine lv_iconst (v := (-1)) hx hb dX0_write_17 (by decide) ?_
        exact hret _ _ _ _ _ _ hX ⟨V, ⟨O, T, M, C, S, U, rfl, hG, hF⟩, Or.inr ⟨fun i j k q => h3 (sp_c3_x q).2.2, rfl, rfl⟩⟩ dX0_write_18
abbrev rm_read : Room := { frames := 1, cells := 0, slots := 0, locals := 24 }
set_option maxHeartbeats 4000000 in
set_option maxRecDepth 100000 in
theorem met_read (l : Launch) (D : va_G) (h0 : Nat) (a : Nat → Nat) (d : Nat → ClassId) (g : sp_xg) (V : Nat → Int32) (Z : Nat → Nat) (hI : sp_XI g V Z) (x y z : Int32) : Met l yX0_read (ws_ yX0_read cX0_read 4 (some .int)) rm_read (va_Pc [.ref h0, .int x, .int y, .int z] (sp_xR D h0 a d g)) (vp_Si (fun r => sp_read_s x y z r V)) 0 0 (fun _ => False) := by
  obtain ⟨O, T, M, C, S, U, rfl, hG, hF⟩ := hI
  obtain ⟨vl, rk, hG⟩ := hG
  refine x_entr (As := [.int x, .int y, .int z]) (by decide) rfl (Nat.le_of_ble_eq_true rfl) ?_
  intro p e s m args below meth c Q hx hb hml hown hts hK hP hret ls hl
  have hl : lv_has ls 4 [(0, .ref h0), (1, .int x), (2, .int y), (3, .int z)] := hl
  refine lv_iload_n hx hb dX0_read_0 rfl (lv_at hl 1 rfl) ?_
  refine lv_iload_n hx hb dX0_read_1 rfl (lv_at hl 2 rfl) ?_
  refine st_call (As := [.int x, .int y]) (rest := []) hx hb hml hown hts (met_isPage l x y) (va_cwS 2 hts (lw_S q48 q49 q10 q50) rfl rfl rfl (by decide +kernel) ⟨Nat.le_of_ble_eq_true rfl, Nat.le_of_ble_eq_true rfl⟩) rfl hl.1 rfl (Nat.le_of_ble_eq_true rfl) dX0_read_2 ⟨Nat.zero_le _, Nat.zero_le _⟩ (fun r hr => ?_)
  refine lv_if_eq (tgt := 17) hx hb dX0_read_5 (by decide) (fun h1 => ?_) (fun h1 => ?_)
  · refine lv_iconst (v := 0) hx hb dX0_read_17 (by decide) ?_
    exact hret _ _ _ rfl (Or.inr ⟨fun i j k q => sp_no hr h1 (sp_c3_x q).1, rfl⟩) dX0_read_18
  · refine lv_iload_n hx hb dX0_read_8 rfl (lv_at hl 3 rfl) ?_
    refine lv_if_lt (tgt := 17) hx hb dX0_read_9 (by decide) (fun h2 => ?_) (fun h2 => ?_)
    · refine lv_iconst (v := 0) hx hb dX0_read_17 (by decide) ?_
      exact hret _ _ _ rfl (Or.inr ⟨fun i j k q => (sp_c3_x q).2.1 h2, rfl⟩) dX0_read_18
    · refine lv_iload_n hx hb dX0_read_12 rfl (lv_at hl 3 rfl) ?_
      refine lv_iconst (v := (nI 3)) hx hb dX0_read_13 (by decide) ?_
      refine lv_icmp_le (tgt := 19) hx hb dX0_read_14 (by decide) (fun h3 => ?_) (fun h3 => ?_)
      · obtain ⟨i, j, hi, hj, rfl, rfl⟩ := sp_yes hr h1
        obtain ⟨k, hk, rfl⟩ := sp_k3 h2 h3
        have hl : lv_has ls 4 [(0, .ref h0), (1, .int (nI i)), (2, .int (nI j)), (3, .int (nI k))] := hl
        refine lv_aload_n hx hb dX0_read_19 rfl (lv_at hl 0 rfl) ?_
        refine lv_aload_n hx hb dX0_read_20 rfl (lv_at hl 0 rfl) ?_
        refine xg_O hx hb hts hown hK hP dX0_read_21 ?_
        refine lv_bipush (v := (nI 8)) hx hb dX0_read_24 (by decide) ?_
        refine lv_iload_n hx hb dX0_read_26 rfl (lv_at hl 1 rfl) ?_
        refine nv_imul hx hb dX0_read_27 ?_
        refine lv_iload_n hx hb dX0_read_28 rfl (lv_at hl 2 rfl) ?_
        refine nv_iadd hx hb dX0_read_29 ?_
        refine xl_O hx hb hK hP (by omega) dX0_read_30 ?_
        refine lv_iload_n hx hb dX0_read_31 rfl (lv_at hl 3 rfl) ?_
        refine x_callr (As := [.int (sp_eo (O ((8 * i) + j))), .int (nI k)]) (rest := []) hx hb hml hown hts (met_cellOf l D h0 a d hG (O (8 * i + j)) (fun q hq => hG.1 _ (by omega) q hq) k hk) (cwV 2 hts (lw_V q75 q77 qs5 q10 q78) rfl rfl rfl (by decide +kernel) ⟨Nat.le_of_ble_eq_true rfl, Nat.le_of_ble_eq_true rfl⟩) hK hP rfl hl.1 rfl (Nat.le_of_ble_eq_true rfl) dX0_read_32 ⟨Nat.zero_le _, Nat.zero_le _⟩ (fun r1 hr1 => ?_)
        refine hret _ _ _ rfl (Or.inl ⟨i, j, k, ⟨hi, hj, hk, rfl, rfl, rfl⟩, ?_⟩) dX0_read_35
        rw [hr1, show 32 * i + 4 * j + k = 4 * (8 * i + j) + k by omega]
        exact (hG.2.2.2.2.2.2 (8 * i + j) (by omega) k hk).symm
      · refine lv_iconst (v := 0) hx hb dX0_read_17 (by decide) ?_
        exact hret _ _ _ rfl (Or.inr ⟨fun i j k q => h3 (sp_c3_x q).2.2, rfl⟩) dX0_read_18
abbrev rm_fork : Room := { frames := 3, cells := 0, slots := 0, locals := 70 }
set_option maxHeartbeats 4000000 in
set_option maxRecDepth 100000 in
theorem met_fork (l : Launch) (D : va_G) (h0 : Nat) (a : Nat → Nat) (d : Nat → ClassId) (sz : Nat) (g : sp_xg) (V : Nat → Int32) (Z : Nat → Nat) (hI : sp_XI g V Z) (x y : Int32) : Met l yX0_fork (ws_ yX0_fork cX0_fork 4 (some .int)) rm_fork (va_Pc [.ref h0, .int x, .int y] (sp_xS D h0 a d sz g)) (va_Qi (fun (r : Int32) (g1 : sp_xg) => ∃ V1 : Nat → Int32, sp_XI g1 V1 Z ∧ sp_fork_s x y r V V1) (sp_xB D (va_A (sp_xw h0 a d g) sz) h0 a d) (va_A (sp_xw h0 a d g) sz)) 0 0 (va_A (sp_xw h0 a d g) sz) := by
  obtain ⟨O, T, M, C, S, U, rfl, hG, hF⟩ := hI
  refine x_enti (As := [.int x, .int y]) (by decide) rfl (Nat.le_of_ble_eq_true rfl) ?_
  intro p e s m args below meth c A Q hx hb hml hown hts hK hA hX hret ls hl
  have hl : lv_has ls 4 [(0, .ref h0), (1, .int x), (2, .int y)] := hl
  refine lv_iload_n hx hb dX0_fork_0 rfl (lv_at hl 1 rfl) ?_
  refine lv_iconst (v := (nI 0)) hx hb dX0_fork_1 (by decide) ?_
  refine st_call (As := [.int x, .int (nI 0)]) (rest := []) hx hb hml hown hts (met_isPage l x (nI 0)) (va_cwS 2 hts (lw_S q48 q49 q10 q50) rfl rfl rfl (by decide +kernel) ⟨Nat.le_of_ble_eq_true rfl, Nat.le_of_ble_eq_true rfl⟩) rfl hl.1 rfl (Nat.le_of_ble_eq_true rfl) dX0_fork_2 ⟨Nat.zero_le _, Nat.zero_le _⟩ (fun r hr => ?_)
  refine lv_if_eq (tgt := 16) hx hb dX0_fork_5 (by decide) (fun h1 => ?_) (fun h1 => ?_)
  · refine lv_iconst (v := (-1)) hx hb dX0_fork_16 (by decide) ?_
    exact hret _ _ _ _ _ _ hX ⟨V, ⟨O, T, M, C, S, U, rfl, hG, hF⟩, Or.inr ⟨fun i j q => sp_no hr h1 (sp_pg0_of q.1 q.2.2.1), rfl, rfl⟩⟩ dX0_fork_17
  · refine lv_iload_n hx hb dX0_fork_8 rfl (lv_at hl 2 rfl) ?_
    refine lv_iconst (v := (nI 0)) hx hb dX0_fork_9 (by decide) ?_
    refine st_call (As := [.int y, .int (nI 0)]) (rest := []) hx hb hml hown hts (met_isPage l y (nI 0)) (va_cwS 2 hts (lw_S q48 q49 q10 q50) rfl rfl rfl (by decide +kernel) ⟨Nat.le_of_ble_eq_true rfl, Nat.le_of_ble_eq_true rfl⟩) rfl hl.1 rfl (Nat.le_of_ble_eq_true rfl) dX0_fork_10 ⟨Nat.zero_le _, Nat.zero_le _⟩ (fun r2 hr2 => ?_)
    refine lv_if_ne (tgt := 18) hx hb dX0_fork_13 (by decide) (fun h2 => ?_) (fun h2 => ?_)
    · obtain ⟨i, hi, rfl⟩ := sp_pg0 (sp_yes hr h1)
      obtain ⟨j, hj, rfl⟩ := sp_pg0 (sp_yes hr2 h2)
      have hl : lv_has ls 4 [(0, .ref h0), (1, .int (nI i)), (2, .int (nI j))] := hl
      refine lv_iconst (v := (nI 0)) hx hb dX0_fork_18 (by decide) ?_
      refine lv_istore_n (lv' := [(3, .int (nI 0)), (0, .ref h0), (1, .int (nI i)), (2, .int (nI j))]) hx hb dX0_fork_19 rfl hl (by decide) rfl (fun ls hl => ?_)
      have loop : ∀ (n t : Nat) (O1 : Nat → Option Nat) (T1 : Nat → Bool) (U1 : Nat → Nat) (V1 : Nat → Int32), t + n = 8 → sp_Gd O1 T1 M C S U1 none V1 → sp_cpd V V1 (32 * i) (32 * j) (4 * t) → ∀ (H : Heap) (locs : List Loc), sp_xP D A h0 a d (O1, Z, T1, M, C, S, U1) s.heap H locs → ∀ ls : Array Slot, lv_has ls 4 [(3, .int (nI t)), (0, .ref h0), (1, .int (nI i)), (2, .int (nI j))] → W p l e rm_fork s m args below meth c H locs 0 0 Q (F0 m 20 ls []) := by
        intro n
        induction n with
        | zero =>
          intro t O1 T1 U1 V1 htn hG1 hc H locs hX ls hl
          have ht8 : t = 8 := by omega
          subst ht8
          have hl : lv_has ls 4 [(3, .int (nI 8)), (0, .ref h0), (1, .int (nI i)), (2, .int (nI j))] := hl
          refine lv_iload_n hx hb dX0_fork_20 rfl (lv_at hl 0 rfl) ?_
          refine lv_bipush (v := (nI 8)) hx hb dX0_fork_21 (by decide) ?_
          refine nv_icmp_ge (tgt := 53) hx hb (by decide) (by decide) dX0_fork_23 (by decide) (fun h3 => ?_) (fun h3 => ?_)
          · refine lv_aload_n hx hb dX0_fork_53 rfl (lv_at hl 1 rfl) ?_
            refine x_callv (As := []) (rest := []) hx hb hml hown hts (met_foldAll l D h0 a d H.size hG1) (cwV 0 hts (lw_V q63 q65 qs3 q10 q66) rfl rfl rfl (by decide +kernel) ⟨Nat.le_of_ble_eq_true rfl, Nat.le_of_ble_eq_true rfl⟩) hK hX hA rfl hl.1 rfl (Nat.le_of_ble_eq_true rfl) dX0_fork_54 ⟨Nat.zero_le _, Nat.zero_le _⟩ (fun g1 H locs hq hX => ?_)
            refine lv_iconst (v := 0) hx hb dX0_fork_57 (by decide) ?_
            obtain ⟨T3, M3, C3, S3, U3, rfl, hG3, hF3⟩ := hq
            exact hret _ _ _ _ _ _ hX ⟨_, ⟨_, _, _, _, _, _, rfl, hG3, hF3⟩, Or.inl ⟨i, j, ⟨hi, hj, rfl, rfl⟩, rfl, hc⟩⟩ dX0_fork_58
          · exact absurd h3 (by decide)
        | succ n ih =>
          intro t O1 T1 U1 V1 htn hG1 hc H locs hX ls hl
          refine lv_iload_n hx hb dX0_fork_20 rfl (lv_at hl 0 rfl) ?_
          refine lv_bipush (v := (nI 8)) hx hb dX0_fork_21 (by decide) ?_
          refine nv_icmp_ge (tgt := 53) hx hb (by omega) (by decide) dX0_fork_23 (by decide) (fun h3 => ?_) (fun h3 => ?_)
          · exact absurd h3 (by omega)
          · refine lv_aload_n hx hb dX0_fork_26 rfl (lv_at hl 1 rfl) ?_
            refine lv_bipush (v := (nI 8)) hx hb dX0_fork_27 (by decide) ?_
            refine lv_iload_n hx hb dX0_fork_29 rfl (lv_at hl 3 rfl) ?_
            refine nv_imul hx hb dX0_fork_30 ?_
            refine lv_iload_n hx hb dX0_fork_31 rfl (lv_at hl 0 rfl) ?_
            refine nv_iadd hx hb dX0_fork_32 ?_
            refine lv_aload_n hx hb dX0_fork_33 rfl (lv_at hl 1 rfl) ?_
            refine xg_O hx hb hts hown hK hX.1 dX0_fork_34 ?_
            refine lv_bipush (v := (nI 8)) hx hb dX0_fork_37 (by decide) ?_
            refine lv_iload_n hx hb dX0_fork_39 rfl (lv_at hl 2 rfl) ?_
            refine nv_imul hx hb dX0_fork_40 ?_
            refine lv_iload_n hx hb dX0_fork_41 rfl (lv_at hl 0 rfl) ?_
            refine nv_iadd hx hb dX0_fork_42 ?_
            refine xl_O hx hb hK hX.1 (by omega) dX0_fork_43 ?_
            refine x_callv (As := [.int (nI ((8 * j) + t)), .int (sp_eo (O1 ((8 * i) + t)))]) (rest := []) hx hb hml hown hts (met_lead l D h0 a d H.size (8 * j + t) (O1 (8 * i + t)) (fun c => V1 (4 * (8 * i + t) + c)) hG1 (by omega) (Or.inr ⟨8 * i + t, by omega, rfl, fun c hc => rfl⟩)) (cwV 2 hts (lw_V q83 q85 qs6 q10 q86) rfl rfl rfl (by decide +kernel) ⟨Nat.le_of_ble_eq_true rfl, Nat.le_of_ble_eq_true rfl⟩) hK hX hA rfl hl.1 rfl (Nat.le_of_ble_eq_true rfl) dX0_fork_44 ⟨Nat.zero_le _, Nat.zero_le _⟩ (fun g1 H locs hq hX => ?_)
            obtain ⟨T2, U2, rfl, hG2⟩ := hq
            refine lv_iinc (v := (nI (t + 1))) (lv' := [(3, .int (nI (t + 1))), (0, .ref h0), (1, .int (nI i)), (2, .int (nI j))]) hx hb dX0_fork_47 hl (k := 0) rfl (nv_inc t) (by decide) rfl (fun ls hl => ?_)
            refine lv_goto (tgt := 20) hx hb dX0_fork_50 (by decide) ?_
            exact ih (t + 1) _ T2 U2 _ (by omega) hG2 (show sp_cpd V _ (32 * i) (32 * j) (4 * t + 4) from sp_cpd_step hc (by omega) (fun c hc => congrArg V1 (by omega)) (by omega) (fun c hc => by omega)) H locs hX ls (lv_sub hl [0, 1, 2, 3] rfl)
      exact loop 8 0 O T U V rfl hG (sp_cpd_0 V _ _) _ _ hX ls (lv_sub hl [0, 1, 2, 3] rfl)
    · refine lv_iconst (v := (-1)) hx hb dX0_fork_16 (by decide) ?_
      exact hret _ _ _ _ _ _ hX ⟨V, ⟨O, T, M, C, S, U, rfl, hG, hF⟩, Or.inr ⟨fun i j q => sp_no hr2 h2 (sp_pg0_of q.2.1 q.2.2.2), rfl, rfl⟩⟩ dX0_fork_17
abbrev rm_pack : Room := { frames := 3, cells := 0, slots := 0, locals := 70 }
set_option maxHeartbeats 4000000 in
set_option maxRecDepth 100000 in
theorem met_pack (l : Launch) (D : va_G) (h0 : Nat) (a : Nat → Nat) (d : Nat → ClassId) (sz : Nat) (g : sp_xg) (V : Nat → Int32) (Z : Nat → Nat) (hI : sp_XI g V Z) (x y z v : Int32) : Met l yX0_pack (ws_ yX0_pack cX0_pack 7 (some .int)) rm_pack (va_Pc [.ref h0, .int x, .int y, .int z, .int v] (sp_xS D h0 a d sz g)) (va_Qi (fun (r : Int32) (g1 : sp_xg) => ∃ (V1 : Nat → Int32) (Z1 : Nat → Nat), sp_XI g1 V1 Z1 ∧ sp_pack_s x y z v r V V1 Z Z1) (sp_xB D (va_A (sp_xw h0 a d g) sz) h0 a d) (va_A (sp_xw h0 a d g) sz)) 0 0 (va_A (sp_xw h0 a d g) sz) := by
  obtain ⟨O, T, M, C, S, U, rfl, hG, hF⟩ := hI
  refine x_enti (As := [.int x, .int y, .int z, .int v]) (by decide) rfl (Nat.le_of_ble_eq_true rfl) ?_
  intro p e s m args below meth c A Q hx hb hml hown hts hK hA hX hret ls hl
  have hl : lv_has ls 7 [(0, .ref h0), (1, .int x), (2, .int y), (3, .int z), (4, .int v)] := hl
  have J : ∀ (b : Bool), (b = true → sp_ft z v) → (b = false → ¬ sp_ft z v) → W p l e rm_pack s m args below meth c s.heap [] 0 0 Q (F0 m 37 ls [.int (sp_eb b)]) := by
    intro b hbt hbf
    refine lv_istore (lv' := [(5, .int (sp_eb b)), (0, .ref h0), (1, .int x), (2, .int y), (3, .int z), (4, .int v)]) hx hb dX0_pack_37 hl (by decide) rfl (fun ls hl => ?_)
    refine lv_iload_n hx hb dX0_pack_39 rfl (lv_at hl 2 rfl) ?_
    refine lv_if_lt (tgt := 61) hx hb dX0_pack_40 (by decide) (fun h1 => ?_) (fun h1 => ?_)
    · refine lv_iconst (v := (-1)) hx hb dX0_pack_61 (by decide) ?_
      exact hret _ _ _ _ _ _ hX ⟨V, Z, ⟨O, T, M, C, S, U, rfl, hG, hF⟩, Or.inr ⟨fun k i f n q => (sp_k3x ⟨k, q.1, q.2.2.2.2.2.1⟩).1 h1, rfl, rfl, rfl⟩⟩ dX0_pack_62
    · refine lv_iload_n hx hb dX0_pack_43 rfl (lv_at hl 2 rfl) ?_
      refine lv_iconst (v := (nI 3)) hx hb dX0_pack_44 (by decide) ?_
      refine lv_icmp_gt (tgt := 61) hx hb dX0_pack_45 (by decide) (fun h2 => ?_) (fun h2 => ?_)
      · refine lv_iconst (v := (-1)) hx hb dX0_pack_61 (by decide) ?_
        exact hret _ _ _ _ _ _ hX ⟨V, Z, ⟨O, T, M, C, S, U, rfl, hG, hF⟩, Or.inr ⟨fun k i f n q => (sp_k3x ⟨k, q.1, q.2.2.2.2.2.1⟩).2.2 h2, rfl, rfl, rfl⟩⟩ dX0_pack_62
      · refine lv_iload_n hx hb dX0_pack_48 rfl (lv_at hl 3 rfl) ?_
        refine lv_iconst (v := (nI 0)) hx hb dX0_pack_49 (by decide) ?_
        refine st_call (As := [.int y, .int (nI 0)]) (rest := []) hx hb hml hown hts (met_isPage l y (nI 0)) (va_cwS 2 hts (lw_S q48 q49 q10 q50) rfl rfl rfl (by decide +kernel) ⟨Nat.le_of_ble_eq_true rfl, Nat.le_of_ble_eq_true rfl⟩) rfl hl.1 rfl (Nat.le_of_ble_eq_true rfl) dX0_pack_50 ⟨Nat.zero_le _, Nat.zero_le _⟩ (fun r hr => ?_)
        refine lv_if_eq (tgt := 61) hx hb dX0_pack_53 (by decide) (fun h3 => ?_) (fun h3 => ?_)
        · refine lv_iconst (v := (-1)) hx hb dX0_pack_61 (by decide) ?_
          exact hret _ _ _ _ _ _ hX ⟨V, Z, ⟨O, T, M, C, S, U, rfl, hG, hF⟩, Or.inr ⟨fun k i f n q => sp_no hr h3 (sp_pg0_of q.2.1 q.2.2.2.2.2.2.1), rfl, rfl, rfl⟩⟩ dX0_pack_62
        · refine lv_iload hx hb dX0_pack_56 (lv_at hl 0 rfl) ?_
          refine nv_if_ne_eb (tgt := 63) hx hb dX0_pack_58 (by decide) (fun h4 => ?_) (fun h4 => ?_)
          · obtain ⟨k, hk, rfl⟩ := sp_k3 h1 (Int32.not_lt.mp h2)
            obtain ⟨i, hi, rfl⟩ := sp_pg0 (sp_yes hr h3)
            obtain ⟨f, n, hf, hn, hfn, rfl, rfl⟩ := hbt h4
            have hl : lv_has ls 7 [(5, .int (sp_eb b)), (0, .ref h0), (1, .int (nI k)), (2, .int (nI i)), (3, .int (nI f)), (4, .int (nI n))] := hl
            refine lv_iconst (v := (nI 0)) hx hb dX0_pack_63 (by decide) ?_
            refine lv_istore (lv' := [(6, .int (nI 0)), (5, .int (sp_eb b)), (0, .ref h0), (1, .int (nI k)), (2, .int (nI i)), (3, .int (nI f)), (4, .int (nI n))]) hx hb dX0_pack_64 hl (by decide) rfl (fun ls hl => ?_)
            have loop : ∀ (n2 t : Nat) (O1 : Nat → Option Nat) (T1 : Nat → Bool) (U1 : Nat → Nat) (V1 : Nat → Int32), t + n2 = 8 → sp_Gd O1 T1 M C S U1 none V1 → sp_pkd V V1 (32 * i + 4 * f) (128 + 32 * k) (4 * t) (4 * n) → ∀ (H : Heap) (locs : List Loc), sp_xP D A h0 a d (O1, Z, T1, M, C, S, U1) s.heap H locs → ∀ ls : Array Slot, lv_has ls 7 [(6, .int (nI t)), (0, .ref h0), (1, .int (nI k)), (2, .int (nI i)), (3, .int (nI f)), (4, .int (nI n))] → W p l e rm_pack s m args below meth c H locs 0 0 Q (F0 m 66 ls []) := by
              intro n2
              induction n2 with
              | zero =>
                intro t O1 T1 U1 V1 htn hG1 hc H locs hX ls hl
                have ht8 : t = 8 := by omega
                subst ht8
                have hl : lv_has ls 7 [(6, .int (nI 8)), (0, .ref h0), (1, .int (nI k)), (2, .int (nI i)), (3, .int (nI f)), (4, .int (nI n))] := hl
                refine lv_iload hx hb dX0_pack_66 (lv_at hl 0 rfl) ?_
                refine lv_bipush (v := (nI 8)) hx hb dX0_pack_68 (by decide) ?_
                refine nv_icmp_ge (tgt := 118) hx hb (by decide) (by decide) dX0_pack_70 (by decide) (fun h5 => ?_) (fun h5 => ?_)
                · refine lv_aload_n hx hb dX0_pack_118 rfl (lv_at hl 1 rfl) ?_
                  refine xg_Z hx hb hts hown hK hX.1 dX0_pack_119 ?_
                  refine lv_iload_n hx hb dX0_pack_122 rfl (lv_at hl 2 rfl) ?_
                  refine lv_iload hx hb dX0_pack_123 (lv_at hl 5 rfl) ?_
                  refine xs_Z hx hb hK hX (by omega) dX0_pack_125 (fun H locs hX => ?_)
                  refine lv_aload_n hx hb dX0_pack_126 rfl (lv_at hl 1 rfl) ?_
                  refine x_callv (As := []) (rest := []) hx hb hml hown hts (met_foldAll l D h0 a d H.size hG1) (cwV 0 hts (lw_V q63 q65 qs3 q10 q66) rfl rfl rfl (by decide +kernel) ⟨Nat.le_of_ble_eq_true rfl, Nat.le_of_ble_eq_true rfl⟩) hK hX hA rfl hl.1 rfl (Nat.le_of_ble_eq_true rfl) dX0_pack_127 ⟨Nat.zero_le _, Nat.zero_le _⟩ (fun g1 H locs hq hX => ?_)
                  refine lv_iconst (v := 0) hx hb dX0_pack_130 (by decide) ?_
                  obtain ⟨T3, M3, C3, S3, U3, rfl, hG3, hF3⟩ := hq
                  exact hret _ _ _ _ _ _ hX ⟨_, _, ⟨_, _, _, _, _, _, rfl, hG3, hF3⟩, Or.inl ⟨k, i, f, n, ⟨hk, hi, hf, hn, hfn, rfl, rfl, rfl, rfl⟩, rfl, rfl, fun q hq => hc.1 q (by omega) hq, hc.2⟩⟩ dX0_pack_131
                · exact absurd h5 (by decide)
              | succ n2 ih =>
                intro t O1 T1 U1 V1 htn hG1 hc H locs hX ls hl
                refine lv_iload hx hb dX0_pack_66 (lv_at hl 0 rfl) ?_
                refine lv_bipush (v := (nI 8)) hx hb dX0_pack_68 (by decide) ?_
                refine nv_icmp_ge (tgt := 118) hx hb (by omega) (by decide) dX0_pack_70 (by decide) (fun h5 => ?_) (fun h5 => ?_)
                · exact absurd h5 (by omega)
                · refine lv_aload_n hx hb dX0_pack_73 rfl (lv_at hl 1 rfl) ?_
                  refine lv_bipush (v := (nI 32)) hx hb dX0_pack_74 (by decide) ?_
                  refine lv_bipush (v := (nI 8)) hx hb dX0_pack_76 (by decide) ?_
                  refine lv_iload_n hx hb dX0_pack_78 rfl (lv_at hl 2 rfl) ?_
                  refine nv_imul hx hb dX0_pack_79 ?_
                  refine nv_iadd hx hb dX0_pack_80 ?_
                  refine lv_iload hx hb dX0_pack_81 (lv_at hl 0 rfl) ?_
                  refine nv_iadd hx hb dX0_pack_83 ?_
                  refine lv_iload hx hb dX0_pack_84 (lv_at hl 0 rfl) ?_
                  refine lv_iload hx hb dX0_pack_86 (lv_at hl 5 rfl) ?_
                  refine nv_icmp_ge (tgt := 108) hx hb (by omega) (by omega) dX0_pack_88 (by decide) (fun h6 => ?_) (fun h6 => ?_)
                  · refine lv_iconst (v := (sp_eo none)) hx hb dX0_pack_108 (by decide) ?_
                    refine x_callv (As := [.int (nI ((32 + (8 * k)) + t)), .int (sp_eo none)]) (rest := []) hx hb hml hown hts (met_lead l D h0 a d H.size (32 + 8 * k + t) none (fun _ => 0) hG1 (by omega) (Or.inl ⟨rfl, fun _ _ => rfl⟩)) (cwV 2 hts (lw_V q83 q85 qs6 q10 q86) rfl rfl rfl (by decide +kernel) ⟨Nat.le_of_ble_eq_true rfl, Nat.le_of_ble_eq_true rfl⟩) hK hX hA rfl hl.1 rfl (Nat.le_of_ble_eq_true rfl) dX0_pack_109 ⟨Nat.zero_le _, Nat.zero_le _⟩ (fun g1 H locs hq hX => ?_)
                    obtain ⟨T2, U2, rfl, hG2⟩ := hq
                    refine lv_iinc (v := (nI (t + 1))) (lv' := [(6, .int (nI (t + 1))), (0, .ref h0), (1, .int (nI k)), (2, .int (nI i)), (3, .int (nI f)), (4, .int (nI n))]) hx hb dX0_pack_112 hl (k := 0) rfl (nv_inc t) (by decide) rfl (fun ls hl => ?_)
                    refine lv_goto (tgt := 66) hx hb dX0_pack_115 (by decide) ?_
                    exact ih (t + 1) _ T2 U2 _ (by omega) hG2 (show sp_pkd V _ (32 * i + 4 * f) (128 + 32 * k) (4 * t + 4) (4 * n) from sp_pkd_step hc (by omega) (by omega) (by omega) (fun q => absurd q (by omega))) H locs hX ls (lv_sub hl [0, 1, 2, 3, 4, 5] rfl)
                  · refine lv_aload_n hx hb dX0_pack_91 rfl (lv_at hl 1 rfl) ?_
                    refine xg_O hx hb hts hown hK hX.1 dX0_pack_92 ?_
                    refine lv_bipush (v := (nI 8)) hx hb dX0_pack_95 (by decide) ?_
                    refine lv_iload_n hx hb dX0_pack_97 rfl (lv_at hl 3 rfl) ?_
                    refine nv_imul hx hb dX0_pack_98 ?_
                    refine lv_iload_n hx hb dX0_pack_99 rfl (lv_at hl 4 rfl) ?_
                    refine nv_iadd hx hb dX0_pack_100 ?_
                    refine lv_iload hx hb dX0_pack_101 (lv_at hl 0 rfl) ?_
                    refine nv_iadd hx hb dX0_pack_103 ?_
                    refine xl_O hx hb hK hX.1 (by omega) dX0_pack_104 ?_
                    refine lv_goto (tgt := 109) hx hb dX0_pack_105 (by decide) ?_
                    refine x_callv (As := [.int (nI ((32 + (8 * k)) + t)), .int (sp_eo (O1 (((8 * i) + f) + t)))]) (rest := []) hx hb hml hown hts (met_lead l D h0 a d H.size (32 + 8 * k + t) (O1 (8 * i + f + t)) (fun c => V1 (4 * (8 * i + f + t) + c)) hG1 (by omega) (Or.inr ⟨8 * i + f + t, by omega, rfl, fun c hc => rfl⟩)) (cwV 2 hts (lw_V q83 q85 qs6 q10 q86) rfl rfl rfl (by decide +kernel) ⟨Nat.le_of_ble_eq_true rfl, Nat.le_of_ble_eq_true rfl⟩) hK hX hA rfl hl.1 rfl (Nat.le_of_ble_eq_true rfl) dX0_pack_109 ⟨Nat.zero_le _, Nat.zero_le _⟩ (fun g1 H locs hq hX => ?_)
                    obtain ⟨T2, U2, rfl, hG2⟩ := hq
                    refine lv_iinc (v := (nI (t + 1))) (lv' := [(6, .int (nI (t + 1))), (0, .ref h0), (1, .int (nI k)), (2, .int (nI i)), (3, .int (nI f)), (4, .int (nI n))]) hx hb dX0_pack_112 hl (k := 0) rfl (nv_inc t) (by decide) rfl (fun ls hl => ?_)
                    refine lv_goto (tgt := 66) hx hb dX0_pack_115 (by decide) ?_
                    exact ih (t + 1) _ T2 U2 _ (by omega) hG2 (show sp_pkd V _ (32 * i + 4 * f) (128 + 32 * k) (4 * t + 4) (4 * n) from sp_pkd_step hc (by omega) (by omega) (by omega) (fun q => ⟨by omega, fun c hc => congrArg V1 (by omega)⟩)) H locs hX ls (lv_sub hl [0, 1, 2, 3, 4, 5] rfl)
            exact loop 8 0 O T U V rfl hG (sp_pkd_0 V _ _ _) _ _ hX ls (lv_sub hl [0, 2, 3, 4, 5, 6] rfl)
          · refine lv_iconst (v := (-1)) hx hb dX0_pack_61 (by decide) ?_
            exact hret _ _ _ _ _ _ hX ⟨V, Z, ⟨O, T, M, C, S, U, rfl, hG, hF⟩, Or.inr ⟨fun k i f n q => hbf h4 ⟨f, n, q.2.2.1, q.2.2.2.1, q.2.2.2.2.1, q.2.2.2.2.2.2.2.1, q.2.2.2.2.2.2.2.2⟩, rfl, rfl, rfl⟩⟩ dX0_pack_62
  refine lv_iload hx hb dX0_pack_0 (lv_at hl 4 rfl) ?_
  refine lv_iconst (v := (nI 1)) hx hb dX0_pack_2 (by decide) ?_
  refine lv_icmp_lt (tgt := 36) hx hb dX0_pack_3 (by decide) (fun h1 => ?_) (fun h1 => ?_)
  · refine lv_iconst (v := (sp_eb false)) hx hb dX0_pack_36 (by decide) ?_
    exact J false (fun q => by cases q) (fun _ q => (sp_ft_x q).1 h1)
  · refine lv_iload hx hb dX0_pack_6 (lv_at hl 4 rfl) ?_
    refine lv_bipush (v := (nI 8)) hx hb dX0_pack_8 (by decide) ?_
    refine lv_icmp_gt (tgt := 36) hx hb dX0_pack_10 (by decide) (fun h2 => ?_) (fun h2 => ?_)
    · refine lv_iconst (v := (sp_eb false)) hx hb dX0_pack_36 (by decide) ?_
      exact J false (fun q => by cases q) (fun _ q => (sp_ft_x q).2.1 h2)
    · refine lv_iload_n hx hb dX0_pack_13 rfl (lv_at hl 3 rfl) ?_
      refine lv_if_lt (tgt := 36) hx hb dX0_pack_14 (by decide) (fun h3 => ?_) (fun h3 => ?_)
      · refine lv_iconst (v := (sp_eb false)) hx hb dX0_pack_36 (by decide) ?_
        exact J false (fun q => by cases q) (fun _ q => (sp_ft_x q).2.2.1 h3)
      · refine lv_iload_n hx hb dX0_pack_17 rfl (lv_at hl 3 rfl) ?_
        refine lv_bipush (v := (nI 7)) hx hb dX0_pack_18 (by decide) ?_
        refine lv_icmp_gt (tgt := 36) hx hb dX0_pack_20 (by decide) (fun h4 => ?_) (fun h4 => ?_)
        · refine lv_iconst (v := (sp_eb false)) hx hb dX0_pack_36 (by decide) ?_
          exact J false (fun q => by cases q) (fun _ q => (sp_ft_x q).2.2.2.1 h4)
        · refine lv_iload_n hx hb dX0_pack_23 rfl (lv_at hl 3 rfl) ?_
          refine lv_iload hx hb dX0_pack_24 (lv_at hl 4 rfl) ?_
          refine lv_iadd hx hb dX0_pack_26 ?_
          refine lv_bipush (v := (nI 8)) hx hb dX0_pack_27 (by decide) ?_
          refine lv_icmp_gt (tgt := 36) hx hb dX0_pack_29 (by decide) (fun h5 => ?_) (fun h5 => ?_)
          · refine lv_iconst (v := (sp_eb false)) hx hb dX0_pack_36 (by decide) ?_
            exact J false (fun q => by cases q) (fun _ q => (sp_ft_x q).2.2.2.2 h5)
          · refine lv_iconst (v := (sp_eb true)) hx hb dX0_pack_32 (by decide) ?_
            refine lv_goto (tgt := 37) hx hb dX0_pack_33 (by decide) ?_
            exact J true (fun _ => sp_ft_of h1 h2 h3 h4 h5) (fun q => by cases q)
abbrev rm_unpack : Room := { frames := 3, cells := 0, slots := 0, locals := 70 }
set_option maxHeartbeats 4000000 in
set_option maxRecDepth 100000 in
theorem met_unpack (l : Launch) (D : va_G) (h0 : Nat) (a : Nat → Nat) (d : Nat → ClassId) (sz : Nat) (g : sp_xg) (V : Nat → Int32) (Z : Nat → Nat) (hI : sp_XI g V Z) (hZ : ∀ k, k < 4 → Z k ≤ 8) (x y z : Int32) (kp : Bool) : Met l yX0_unpack (ws_ yX0_unpack cX0_unpack 7 (some .int)) rm_unpack (va_Pc [.ref h0, .int x, .int y, .int z, .int (sp_eb kp)] (sp_xS D h0 a d sz g)) (va_Qi (fun (r : Int32) (g1 : sp_xg) => ∃ (V1 : Nat → Int32) (Z1 : Nat → Nat), sp_XI g1 V1 Z1 ∧ sp_unpack_s x y z kp r V V1 Z Z1) (sp_xB D (va_A (sp_xw h0 a d g) sz) h0 a d) (va_A (sp_xw h0 a d g) sz)) 0 0 (va_A (sp_xw h0 a d g) sz) := by
  obtain ⟨O, T, M, C, S, U, rfl, hG, hF⟩ := hI
  refine x_enti (As := [.int x, .int y, .int z, .int (sp_eb kp)]) (by decide) rfl (Nat.le_of_ble_eq_true rfl) ?_
  intro p e s m args below meth c A Q hx hb hml hown hts hK hA hX hret ls hl
  have hl : lv_has ls 7 [(0, .ref h0), (1, .int x), (2, .int y), (3, .int z), (4, .int (sp_eb kp))] := hl
  refine lv_iload_n hx hb dX0_unpack_0 rfl (lv_at hl 1 rfl) ?_
  refine lv_if_lt (tgt := 17) hx hb dX0_unpack_1 (by decide) (fun h1 => ?_) (fun h1 => ?_)
  · refine lv_iconst (v := (-1)) hx hb dX0_unpack_17 (by decide) ?_
    exact hret _ _ _ _ _ _ hX ⟨V, Z, ⟨O, T, M, C, S, U, rfl, hG, hF⟩, Or.inr ⟨fun k2 i2 f2 q => (sp_k3x ⟨k2, q.1, q.2.2.2.2.2.1⟩).1 h1, rfl, rfl, rfl⟩⟩ dX0_unpack_18
  · refine lv_iload_n hx hb dX0_unpack_4 rfl (lv_at hl 1 rfl) ?_
    refine lv_iconst (v := (nI 3)) hx hb dX0_unpack_5 (by decide) ?_
    refine lv_icmp_gt (tgt := 17) hx hb dX0_unpack_6 (by decide) (fun h2 => ?_) (fun h2 => ?_)
    · refine lv_iconst (v := (-1)) hx hb dX0_unpack_17 (by decide) ?_
      exact hret _ _ _ _ _ _ hX ⟨V, Z, ⟨O, T, M, C, S, U, rfl, hG, hF⟩, Or.inr ⟨fun k2 i2 f2 q => (sp_k3x ⟨k2, q.1, q.2.2.2.2.2.1⟩).2.2 h2, rfl, rfl, rfl⟩⟩ dX0_unpack_18
    · refine lv_iload_n hx hb dX0_unpack_9 rfl (lv_at hl 2 rfl) ?_
      refine lv_iload_n hx hb dX0_unpack_10 rfl (lv_at hl 3 rfl) ?_
      refine st_call (As := [.int y, .int z]) (rest := []) hx hb hml hown hts (met_isPage l y z) (va_cwS 2 hts (lw_S q48 q49 q10 q50) rfl rfl rfl (by decide +kernel) ⟨Nat.le_of_ble_eq_true rfl, Nat.le_of_ble_eq_true rfl⟩) rfl hl.1 rfl (Nat.le_of_ble_eq_true rfl) dX0_unpack_11 ⟨Nat.zero_le _, Nat.zero_le _⟩ (fun r hr => ?_)
      refine lv_if_ne (tgt := 19) hx hb dX0_unpack_14 (by decide) (fun h3 => ?_) (fun h3 => ?_)
      · obtain ⟨k, hk, rfl⟩ := sp_k3 h1 (Int32.not_lt.mp h2)
        obtain ⟨i, f, hi, hf, rfl, rfl⟩ := sp_yes hr h3
        have hZk := hZ k hk
        have hl : lv_has ls 7 [(0, .ref h0), (1, .int (nI k)), (2, .int (nI i)), (3, .int (nI f)), (4, .int (sp_eb kp))] := hl
        refine lv_aload_n hx hb dX0_unpack_19 rfl (lv_at hl 0 rfl) ?_
        refine xg_Z hx hb hts hown hK hX.1 dX0_unpack_20 ?_
        refine lv_iload_n hx hb dX0_unpack_23 rfl (lv_at hl 1 rfl) ?_
        refine xl_Z hx hb hK hX.1 (by omega) dX0_unpack_24 ?_
        refine lv_istore (lv' := [(5, .int (nI (Z k))), (0, .ref h0), (1, .int (nI k)), (2, .int (nI i)), (3, .int (nI f)), (4, .int (sp_eb kp))]) hx hb dX0_unpack_25 hl (by decide) rfl (fun ls hl => ?_)
        refine lv_iload hx hb dX0_unpack_27 (lv_at hl 0 rfl) ?_
        refine nv_if_eq (tgt := 41) hx hb (by omega) dX0_unpack_29 (by decide) (fun h4 => ?_) (fun h4 => ?_)
        · refine lv_iconst (v := (-1)) hx hb dX0_unpack_41 (by decide) ?_
          exact hret _ _ _ _ _ _ hX ⟨V, Z, ⟨O, T, M, C, S, U, rfl, hG, hF⟩, Or.inr ⟨fun k2 i2 f2 q => by
            obtain ⟨b1, b2, b3, b4, b5, b6, b7, b8⟩ := q
            have e1 : k = k2 := sp_nI_inj (by omega) (by omega) b6
            rw [← e1] at b4
            exact b4 h4, rfl, rfl, rfl⟩⟩ dX0_unpack_42
        · refine lv_iload_n hx hb dX0_unpack_32 rfl (lv_at hl 4 rfl) ?_
          refine lv_iload hx hb dX0_unpack_33 (lv_at hl 0 rfl) ?_
          refine nv_iadd hx hb dX0_unpack_35 ?_
          refine lv_bipush (v := (nI 8)) hx hb dX0_unpack_36 (by decide) ?_
          refine nv_icmp_le (tgt := 43) hx hb (by omega) (by decide) dX0_unpack_38 (by decide) (fun h5 => ?_) (fun h5 => ?_)
          · have J : ∀ (O1 : Nat → Option Nat) (Z1 : Nat → Nat) (T1 : Nat → Bool) (U1 : Nat → Nat) (V1 : Nat → Int32), sp_Gd O1 T1 M C S U1 none V1 → sp_unpack_s (nI k) (nI i) (nI f) kp (nI (Z k)) V V1 Z Z1 → ∀ (H : Heap) (locs : List Loc), sp_xP D A h0 a d (O1, Z1, T1, M, C, S, U1) s.heap H locs → ∀ ls : Array Slot, lv_has ls 7 [(0, .ref h0), (5, .int (nI (Z k)))] → W p l e rm_unpack s m args below meth c H locs 0 0 Q (F0 m 130 ls []) := by
              intro O1 Z1 T1 U1 V1 hG1 hsp H locs hX ls hl
              refine lv_aload_n hx hb dX0_unpack_130 rfl (lv_at hl 0 rfl) ?_
              refine x_callv (As := []) (rest := []) hx hb hml hown hts (met_foldAll l D h0 a d H.size hG1) (cwV 0 hts (lw_V q63 q65 qs3 q10 q66) rfl rfl rfl (by decide +kernel) ⟨Nat.le_of_ble_eq_true rfl, Nat.le_of_ble_eq_true rfl⟩) hK hX hA rfl hl.1 rfl (Nat.le_of_ble_eq_true rfl) dX0_unpack_131 ⟨Nat.zero_le _, Nat.zero_le _⟩ (fun g1 H locs hq hX => ?_)
              refine lv_iload hx hb dX0_unpack_134 (lv_at hl 1 rfl) ?_
              obtain ⟨T3, M3, C3, S3, U3, rfl, hG3, hF3⟩ := hq
              exact hret _ _ _ _ _ _ hX ⟨_, _, ⟨_, _, _, _, _, _, rfl, hG3, hF3⟩, hsp⟩ dX0_unpack_136
            refine lv_iconst (v := (nI 0)) hx hb dX0_unpack_43 (by decide) ?_
            refine lv_istore (lv' := [(6, .int (nI 0)), (5, .int (nI (Z k))), (0, .ref h0), (1, .int (nI k)), (2, .int (nI i)), (3, .int (nI f)), (4, .int (sp_eb kp))]) hx hb dX0_unpack_44 hl (by decide) rfl (fun ls hl => ?_)
            have loop : ∀ (n t : Nat) (O1 : Nat → Option Nat) (T1 : Nat → Bool) (U1 : Nat → Nat) (V1 : Nat → Int32), t + n = Z k → sp_Gd O1 T1 M C S U1 none V1 → sp_cpd V V1 (128 + 32 * k) (32 * i + 4 * f) (4 * t) → ∀ (H : Heap) (locs : List Loc), sp_xP D A h0 a d (O1, Z, T1, M, C, S, U1) s.heap H locs → ∀ ls : Array Slot, lv_has ls 7 [(6, .int (nI t)), (5, .int (nI (Z k))), (0, .ref h0), (1, .int (nI k)), (2, .int (nI i)), (3, .int (nI f)), (4, .int (sp_eb kp))] → W p l e rm_unpack s m args below meth c H locs 0 0 Q (F0 m 46 ls []) := by
              intro n
              induction n with
              | zero =>
                intro t O1 T1 U1 V1 htn hG1 hc H locs hX ls hl
                have ht8 : t = Z k := by omega
                refine lv_iload hx hb dX0_unpack_46 (lv_at hl 0 rfl) ?_
                refine lv_iload hx hb dX0_unpack_48 (lv_at hl 1 rfl) ?_
                refine nv_icmp_ge (tgt := 87) hx hb (by omega) (by omega) dX0_unpack_50 (by decide) (fun h6 => ?_) (fun h6 => ?_)
                · rw [ht8] at hc
                  refine lv_iload hx hb dX0_unpack_87 (lv_at hl 6 rfl) ?_
                  refine nv_if_ne_eb (tgt := 130) hx hb dX0_unpack_89 (by decide) (fun h7 => ?_) (fun h7 => ?_)
                  · refine J O1 Z T1 U1 V1 hG1 ?_ _ _ hX ls (lv_sub hl [2, 1] rfl)
                    rw [h7]
                    exact Or.inl ⟨k, i, f, ⟨hk, hi, hf, by omega, h5, rfl, rfl, rfl⟩, rfl, rfl, hc.1, fun q hq ho => hc.2 q (by omega) ho, fun k2 hk2 q hq => hc.2 _ (by have := hZ k2 hk2; omega) (by omega)⟩
                  · refine lv_iconst (v := (nI 0)) hx hb dX0_unpack_92 (by decide) ?_
                    refine lv_istore (lv' := [(6, .int (nI 0)), (5, .int (nI (Z k))), (0, .ref h0), (1, .int (nI k)), (2, .int (nI i)), (3, .int (nI f)), (4, .int (sp_eb kp))]) hx hb dX0_unpack_93 hl (by decide) rfl (fun ls hl => ?_)
                    have loop2 : ∀ (n t : Nat) (O2 : Nat → Option Nat) (T2 : Nat → Bool) (U2 : Nat → Nat) (V2 : Nat → Int32), t + n = Z k → sp_Gd O2 T2 M C S U2 none V2 → (∀ q, q < 256 → (q < 128 + 32 * k ∨ 128 + 32 * k + 32 ≤ q) → V2 q = V1 q) → ∀ (H : Heap) (locs : List Loc), sp_xP D A h0 a d (O2, Z, T2, M, C, S, U2) s.heap H locs → ∀ ls : Array Slot, lv_has ls 7 [(6, .int (nI t)), (5, .int (nI (Z k))), (0, .ref h0), (1, .int (nI k)), (2, .int (nI i)), (3, .int (nI f)), (4, .int (sp_eb kp))] → W p l e rm_unpack s m args below meth c H locs 0 0 Q (F0 m 95 ls []) := by
                      intro n
                      induction n with
                      | zero =>
                        intro t O2 T2 U2 V2 htn hG2 hc2 H locs hX ls hl
                        refine lv_iload hx hb dX0_unpack_95 (lv_at hl 0 rfl) ?_
                        refine lv_iload hx hb dX0_unpack_97 (lv_at hl 1 rfl) ?_
                        refine nv_icmp_ge (tgt := 123) hx hb (by omega) (by omega) dX0_unpack_99 (by decide) (fun h8 => ?_) (fun h8 => ?_)
                        · refine lv_aload_n hx hb dX0_unpack_123 rfl (lv_at hl 2 rfl) ?_
                          refine xg_Z hx hb hts hown hK hX.1 dX0_unpack_124 ?_
                          refine lv_iload_n hx hb dX0_unpack_127 rfl (lv_at hl 3 rfl) ?_
                          refine lv_iconst (v := (nI 0)) hx hb dX0_unpack_128 (by decide) ?_
                          refine xs_Z hx hb hK hX (by omega) dX0_unpack_129 (fun H locs hX => ?_)
                          refine J O2 (va_up Z k 0) T2 U2 V2 hG2 ?_ _ _ hX ls (lv_sub hl [2, 1] rfl)
                          rw [h7]
                          refine Or.inl ⟨k, i, f, ⟨hk, hi, hf, by omega, h5, rfl, rfl, rfl⟩, rfl, rfl, fun q hq => ?_, fun q hq ho => ?_, fun k2 hk2 q hq => ?_⟩
                          · rw [hc2 _ (by omega) (by omega)]
                            exact hc.1 q hq
                          · rw [hc2 _ (by omega) (by omega)]
                            exact hc.2 q (by omega) ho
                          · by_cases e9 : k2 = k
                            · rw [e9] at hq
                              have hq : q < 4 * va_up Z k 0 k := hq
                              rw [sp_us] at hq
                              exact absurd hq (by omega)
                            · have hq : q < 4 * va_up Z k 0 k2 := hq
                              rw [sp_un e9] at hq
                              have h9 := hZ k2 hk2
                              rw [hc2 _ (by omega) (by omega)]
                              exact hc.2 _ (by omega) (by omega)
                        · exact absurd h8 (by omega)
                      | succ n ih2 =>
                        intro t O2 T2 U2 V2 htn hG2 hc2 H locs hX ls hl
                        refine lv_iload hx hb dX0_unpack_95 (lv_at hl 0 rfl) ?_
                        refine lv_iload hx hb dX0_unpack_97 (lv_at hl 1 rfl) ?_
                        refine nv_icmp_ge (tgt := 123) hx hb (by omega) (by omega) dX0_unpack_99 (by decide) (fun h8 => ?_) (fun h8 => ?_)
                        · exact absurd h8 (by omega)
                        · refine lv_aload_n hx hb dX0_unpack_102 rfl (lv_at hl 2 rfl) ?_
                          refine lv_bipush (v := (nI 32)) hx hb dX0_unpack_103 (by decide) ?_
                          refine lv_bipush (v := (nI 8)) hx hb dX0_unpack_105 (by decide) ?_
                          refine lv_iload_n hx hb dX0_unpack_107 rfl (lv_at hl 3 rfl) ?_
                          refine nv_imul hx hb dX0_unpack_108 ?_
                          refine nv_iadd hx hb dX0_unpack_109 ?_
                          refine lv_iload hx hb dX0_unpack_110 (lv_at hl 0 rfl) ?_
                          refine nv_iadd hx hb dX0_unpack_112 ?_
                          refine lv_iconst (v := (sp_eo none)) hx hb dX0_unpack_113 (by decide) ?_
                          refine x_callv (As := [.int (nI ((32 + (8 * k)) + t)), .int (sp_eo none)]) (rest := []) hx hb hml hown hts (met_lead l D h0 a d H.size (32 + 8 * k + t) none (fun _ => 0) hG2 (by omega) (Or.inl ⟨rfl, fun _ _ => rfl⟩)) (cwV 2 hts (lw_V q83 q85 qs6 q10 q86) rfl rfl rfl (by decide +kernel) ⟨Nat.le_of_ble_eq_true rfl, Nat.le_of_ble_eq_true rfl⟩) hK hX hA rfl hl.1 rfl (Nat.le_of_ble_eq_true rfl) dX0_unpack_114 ⟨Nat.zero_le _, Nat.zero_le _⟩ (fun g1 H locs hq hX => ?_)
                          obtain ⟨T3, U3, rfl, hG3⟩ := hq
                          refine lv_iinc (v := (nI (t + 1))) (lv' := [(6, .int (nI (t + 1))), (5, .int (nI (Z k))), (0, .ref h0), (1, .int (nI k)), (2, .int (nI i)), (3, .int (nI f)), (4, .int (sp_eb kp))]) hx hb dX0_unpack_117 hl (k := 0) rfl (nv_inc t) (by decide) rfl (fun ls hl => ?_)
                          refine lv_goto (tgt := 95) hx hb dX0_unpack_120 (by decide) ?_
                          exact ih2 (t + 1) _ T3 U3 _ (by omega) hG3 (fun q hq ho => by rw [fb_put_out (by omega)]; exact hc2 q hq ho) H locs hX ls (lv_sub hl [0, 1, 2, 3, 4, 5, 6] rfl)
                    exact loop2 (Z k) 0 O1 T1 U1 V1 (by omega) hG1 (fun _ _ _ => rfl) _ _ hX ls (lv_sub hl [0, 1, 2, 3, 4, 5, 6] rfl)
                · exact absurd h6 (by omega)
              | succ n ih =>
                intro t O1 T1 U1 V1 htn hG1 hc H locs hX ls hl
                refine lv_iload hx hb dX0_unpack_46 (lv_at hl 0 rfl) ?_
                refine lv_iload hx hb dX0_unpack_48 (lv_at hl 1 rfl) ?_
                refine nv_icmp_ge (tgt := 87) hx hb (by omega) (by omega) dX0_unpack_50 (by decide) (fun h6 => ?_) (fun h6 => ?_)
                · exact absurd h6 (by omega)
                · refine lv_aload_n hx hb dX0_unpack_53 rfl (lv_at hl 2 rfl) ?_
                  refine lv_bipush (v := (nI 8)) hx hb dX0_unpack_54 (by decide) ?_
                  refine lv_iload_n hx hb dX0_unpack_56 rfl (lv_at hl 4 rfl) ?_
                  refine nv_imul hx hb dX0_unpack_57 ?_
                  refine lv_iload_n hx hb dX0_unpack_58 rfl (lv_at hl 5 rfl) ?_
                  refine nv_iadd hx hb dX0_unpack_59 ?_
                  refine lv_iload hx hb dX0_unpack_60 (lv_at hl 0 rfl) ?_
                  refine nv_iadd hx hb dX0_unpack_62 ?_
                  refine lv_aload_n hx hb dX0_unpack_63 rfl (lv_at hl 2 rfl) ?_
                  refine xg_O hx hb hts hown hK hX.1 dX0_unpack_64 ?_
                  refine lv_bipush (v := (nI 32)) hx hb dX0_unpack_67 (by decide) ?_
                  refine lv_bipush (v := (nI 8)) hx hb dX0_unpack_69 (by decide) ?_
                  refine lv_iload_n hx hb dX0_unpack_71 rfl (lv_at hl 3 rfl) ?_
                  refine nv_imul hx hb dX0_unpack_72 ?_
                  refine nv_iadd hx hb dX0_unpack_73 ?_
                  refine lv_iload hx hb dX0_unpack_74 (lv_at hl 0 rfl) ?_
                  refine nv_iadd hx hb dX0_unpack_76 ?_
                  refine xl_O hx hb hK hX.1 (by omega) dX0_unpack_77 ?_
                  refine x_callv (As := [.int (nI (((8 * i) + f) + t)), .int (sp_eo (O1 ((32 + (8 * k)) + t)))]) (rest := []) hx hb hml hown hts (met_lead l D h0 a d H.size (8 * i + f + t) (O1 (32 + 8 * k + t)) (fun c => V1 (4 * (32 + 8 * k + t) + c)) hG1 (by omega) (Or.inr ⟨32 + 8 * k + t, by omega, rfl, fun c hc => rfl⟩)) (cwV 2 hts (lw_V q83 q85 qs6 q10 q86) rfl rfl rfl (by decide +kernel) ⟨Nat.le_of_ble_eq_true rfl, Nat.le_of_ble_eq_true rfl⟩) hK hX hA rfl hl.1 rfl (Nat.le_of_ble_eq_true rfl) dX0_unpack_78 ⟨Nat.zero_le _, Nat.zero_le _⟩ (fun g1 H locs hq hX => ?_)
                  obtain ⟨T2, U2, rfl, hG2⟩ := hq
                  refine lv_iinc (v := (nI (t + 1))) (lv' := [(6, .int (nI (t + 1))), (5, .int (nI (Z k))), (0, .ref h0), (1, .int (nI k)), (2, .int (nI i)), (3, .int (nI f)), (4, .int (sp_eb kp))]) hx hb dX0_unpack_81 hl (k := 0) rfl (nv_inc t) (by decide) rfl (fun ls hl => ?_)
                  refine lv_goto (tgt := 46) hx hb dX0_unpack_84 (by decide) ?_
                  exact ih (t + 1) _ T2 U2 _ (by omega) hG2 (show sp_cpd V _ (128 + 32 * k) (32 * i + 4 * f) (4 * t + 4) from sp_cpd_step hc (by omega) (fun c hc => congrArg V1 (by omega)) (by omega) (fun c hc => by omega)) H locs hX ls (lv_sub hl [0, 1, 2, 3, 4, 5, 6] rfl)
            exact loop (Z k) 0 O T U V (by omega) hG (sp_cpd_0 V _ _) _ _ hX ls (lv_sub hl [0, 1, 2, 3, 4, 5, 6] rfl)
          · refine lv_iconst (v := (-1)) hx hb dX0_unpack_41 (by decide) ?_
            exact hret _ _ _ _ _ _ hX ⟨V, Z, ⟨O, T, M, C, S, U, rfl, hG, hF⟩, Or.inr ⟨fun k2 i2 f2 q => by
              obtain ⟨b1, b2, b3, b4, b5, b6, b7, b8⟩ := q
              have e1 : k = k2 := sp_nI_inj (by omega) (by omega) b6
              have e2 : f = f2 := sp_nI_inj (by omega) (by omega) b8
              rw [← e1, ← e2] at b5
              omega, rfl, rfl, rfl⟩⟩ dX0_unpack_42
      · refine lv_iconst (v := (-1)) hx hb dX0_unpack_17 (by decide) ?_
        exact hret _ _ _ _ _ _ hX ⟨V, Z, ⟨O, T, M, C, S, U, rfl, hG, hF⟩, Or.inr ⟨fun k2 i2 f2 q => sp_no hr h3 ⟨i2, f2, q.2.1, q.2.2.1, q.2.2.2.2.2.2.1, q.2.2.2.2.2.2.2⟩, rfl, rfl, rfl⟩⟩ dX0_unpack_18
abbrev rm_exchange : Room := { frames := 1, cells := 0, slots := 0, locals := 21 }
set_option maxHeartbeats 4000000 in
set_option maxRecDepth 100000 in
theorem met_exchange (l : Launch) (D : va_G) (h0 : Nat) (a : Nat → Nat) (d : Nat → ClassId) (sz : Nat) (g : sp_xg) (V : Nat → Int32) (Z : Nat → Nat) (hI : sp_XI g V Z) (x y z : Int32) : Met l yX0_exchange (ws_ yX0_exchange cX0_exchange 5 (some .int)) rm_exchange (va_Pc [.ref h0, .int x, .int y, .int z] (sp_xS D h0 a d sz g)) (va_Qi (fun (r : Int32) (g1 : sp_xg) => ∃ V1 : Nat → Int32, sp_XI g1 V1 Z ∧ sp_exchange_s x y z r V V1) (sp_xB D (va_A (sp_xw h0 a d g) sz) h0 a d) (va_A (sp_xw h0 a d g) sz)) 0 0 (va_A (sp_xw h0 a d g) sz) := by
  obtain ⟨O, T, M, C, S, U, rfl, hG, hF⟩ := hI
  refine x_enti (As := [.int x, .int y, .int z]) (by decide) rfl (Nat.le_of_ble_eq_true rfl) ?_
  intro p e s m args below meth c A Q hx hb hml hown hts hK hA hX hret ls hl
  have hl : lv_has ls 5 [(0, .ref h0), (1, .int x), (2, .int y), (3, .int z)] := hl
  refine lv_iload_n hx hb dX0_exchange_0 rfl (lv_at hl 1 rfl) ?_
  refine lv_iload_n hx hb dX0_exchange_1 rfl (lv_at hl 2 rfl) ?_
  refine st_call (As := [.int x, .int y]) (rest := []) hx hb hml hown hts (met_isPage l x y) (va_cwS 2 hts (lw_S q48 q49 q10 q50) rfl rfl rfl (by decide +kernel) ⟨Nat.le_of_ble_eq_true rfl, Nat.le_of_ble_eq_true rfl⟩) rfl hl.1 rfl (Nat.le_of_ble_eq_true rfl) dX0_exchange_2 ⟨Nat.zero_le _, Nat.zero_le _⟩ (fun r hr => ?_)
  refine lv_if_eq (tgt := 16) hx hb dX0_exchange_5 (by decide) (fun h1 => ?_) (fun h1 => ?_)
  · refine lv_iconst (v := (-1)) hx hb dX0_exchange_16 (by decide) ?_
    exact hret _ _ _ _ _ _ hX ⟨V, ⟨O, T, M, C, S, U, rfl, hG, hF⟩, Or.inr ⟨fun i a b q => sp_no hr h1 ⟨i, a, q.1, q.2.1, q.2.2.2.1, q.2.2.2.2.1⟩, rfl, rfl⟩⟩ dX0_exchange_17
  · refine lv_iload_n hx hb dX0_exchange_8 rfl (lv_at hl 1 rfl) ?_
    refine lv_iload_n hx hb dX0_exchange_9 rfl (lv_at hl 3 rfl) ?_
    refine st_call (As := [.int x, .int z]) (rest := []) hx hb hml hown hts (met_isPage l x z) (va_cwS 2 hts (lw_S q48 q49 q10 q50) rfl rfl rfl (by decide +kernel) ⟨Nat.le_of_ble_eq_true rfl, Nat.le_of_ble_eq_true rfl⟩) rfl hl.1 rfl (Nat.le_of_ble_eq_true rfl) dX0_exchange_10 ⟨Nat.zero_le _, Nat.zero_le _⟩ (fun r2 hr2 => ?_)
    refine lv_if_ne (tgt := 18) hx hb dX0_exchange_13 (by decide) (fun h2 => ?_) (fun h2 => ?_)
    · obtain ⟨i, j, hi, hj, rfl, rfl⟩ := sp_yes hr h1
      obtain ⟨i2, k, hi2, hk, e2, rfl⟩ := sp_yes hr2 h2
      have hl : lv_has ls 5 [(0, .ref h0), (1, .int (nI i)), (2, .int (nI j)), (3, .int (nI k))] := hl
      refine lv_aload_n hx hb dX0_exchange_18 rfl (lv_at hl 0 rfl) ?_
      refine xg_O hx hb hts hown hK hX.1 dX0_exchange_19 ?_
      refine lv_bipush (v := (nI 8)) hx hb dX0_exchange_22 (by decide) ?_
      refine lv_iload_n hx hb dX0_exchange_24 rfl (lv_at hl 1 rfl) ?_
      refine nv_imul hx hb dX0_exchange_25 ?_
      refine lv_iload_n hx hb dX0_exchange_26 rfl (lv_at hl 2 rfl) ?_
      refine nv_iadd hx hb dX0_exchange_27 ?_
      refine xl_O hx hb hK hX.1 (by omega) dX0_exchange_28 ?_
      refine lv_istore (lv' := [(4, .int (sp_eo (O ((8 * i) + j)))), (0, .ref h0), (1, .int (nI i)), (2, .int (nI j)), (3, .int (nI k))]) hx hb dX0_exchange_29 hl (by decide) rfl (fun ls hl => ?_)
      refine lv_aload_n hx hb dX0_exchange_31 rfl (lv_at hl 1 rfl) ?_
      refine xg_O hx hb hts hown hK hX.1 dX0_exchange_32 ?_
      refine lv_bipush (v := (nI 8)) hx hb dX0_exchange_35 (by decide) ?_
      refine lv_iload_n hx hb dX0_exchange_37 rfl (lv_at hl 2 rfl) ?_
      refine nv_imul hx hb dX0_exchange_38 ?_
      refine lv_iload_n hx hb dX0_exchange_39 rfl (lv_at hl 3 rfl) ?_
      refine nv_iadd hx hb dX0_exchange_40 ?_
      refine lv_aload_n hx hb dX0_exchange_41 rfl (lv_at hl 1 rfl) ?_
      refine xg_O hx hb hts hown hK hX.1 dX0_exchange_42 ?_
      refine lv_bipush (v := (nI 8)) hx hb dX0_exchange_45 (by decide) ?_
      refine lv_iload_n hx hb dX0_exchange_47 rfl (lv_at hl 2 rfl) ?_
      refine nv_imul hx hb dX0_exchange_48 ?_
      refine lv_iload_n hx hb dX0_exchange_49 rfl (lv_at hl 4 rfl) ?_
      refine nv_iadd hx hb dX0_exchange_50 ?_
      refine xl_O hx hb hK hX.1 (by omega) dX0_exchange_51 ?_
      refine xs_O hx hb hK hX (by omega) dX0_exchange_52 (fun H locs hX => ?_)
      refine lv_aload_n hx hb dX0_exchange_53 rfl (lv_at hl 1 rfl) ?_
      refine xg_O hx hb hts hown hK hX.1 dX0_exchange_54 ?_
      refine lv_bipush (v := (nI 8)) hx hb dX0_exchange_57 (by decide) ?_
      refine lv_iload_n hx hb dX0_exchange_59 rfl (lv_at hl 2 rfl) ?_
      refine nv_imul hx hb dX0_exchange_60 ?_
      refine lv_iload_n hx hb dX0_exchange_61 rfl (lv_at hl 4 rfl) ?_
      refine nv_iadd hx hb dX0_exchange_62 ?_
      refine lv_iload hx hb dX0_exchange_63 (lv_at hl 0 rfl) ?_
      refine xs_O hx hb hK hX (by omega) dX0_exchange_65 (fun H locs hX => ?_)
      refine lv_iconst (v := 0) hx hb dX0_exchange_66 (by decide) ?_
      exact hret _ _ _ _ _ _ hX ⟨_, ⟨_, _, _, _, _, _, rfl, sp_swap hG (by omega) (by omega), hF⟩, Or.inl ⟨i, j, k, ⟨hi, hj, hk, rfl, rfl, rfl⟩, rfl, sp_swap_s hi hj hk (by omega) (by omega)⟩⟩ dX0_exchange_67
    · refine lv_iconst (v := (-1)) hx hb dX0_exchange_16 (by decide) ?_
      exact hret _ _ _ _ _ _ hX ⟨V, ⟨O, T, M, C, S, U, rfl, hG, hF⟩, Or.inr ⟨fun i a b q => sp_no hr2 h2 ⟨i, b, q.1, q.2.2.1, q.2.2.2.1, q.2.2.2.2.2⟩, rfl, rfl⟩⟩ dX0_exchange_17
abbrev rm_clear : Room := { frames := 3, cells := 0, slots := 0, locals := 70 }
set_option maxHeartbeats 4000000 in
set_option maxRecDepth 100000 in
theorem met_clear (l : Launch) (D : va_G) (h0 : Nat) (a : Nat → Nat) (d : Nat → ClassId) (sz : Nat) (g : sp_xg) (V : Nat → Int32) (Z : Nat → Nat) (hI : sp_XI g V Z) (x y : Int32) : Met l yX0_clear (ws_ yX0_clear cX0_clear 3 (some .int)) rm_clear (va_Pc [.ref h0, .int x, .int y] (sp_xS D h0 a d sz g)) (va_Qi (fun (r : Int32) (g1 : sp_xg) => ∃ V1 : Nat → Int32, sp_XI g1 V1 Z ∧ sp_clear_s x y r V V1) (sp_xB D (va_A (sp_xw h0 a d g) sz) h0 a d) (va_A (sp_xw h0 a d g) sz)) 0 0 (va_A (sp_xw h0 a d g) sz) := by
  obtain ⟨O, T, M, C, S, U, rfl, hG, hF⟩ := hI
  refine x_enti (As := [.int x, .int y]) (by decide) rfl (Nat.le_of_ble_eq_true rfl) ?_
  intro p e s m args below meth c A Q hx hb hml hown hts hK hA hX hret ls hl
  have hl : lv_has ls 3 [(0, .ref h0), (1, .int x), (2, .int y)] := hl
  refine lv_iload_n hx hb dX0_clear_0 rfl (lv_at hl 1 rfl) ?_
  refine lv_iload_n hx hb dX0_clear_1 rfl (lv_at hl 2 rfl) ?_
  refine st_call (As := [.int x, .int y]) (rest := []) hx hb hml hown hts (met_isPage l x y) (va_cwS 2 hts (lw_S q48 q49 q10 q50) rfl rfl rfl (by decide +kernel) ⟨Nat.le_of_ble_eq_true rfl, Nat.le_of_ble_eq_true rfl⟩) rfl hl.1 rfl (Nat.le_of_ble_eq_true rfl) dX0_clear_2 ⟨Nat.zero_le _, Nat.zero_le _⟩ (fun r hr => ?_)
  refine lv_if_ne (tgt := 10) hx hb dX0_clear_5 (by decide) (fun h1 => ?_) (fun h1 => ?_)
  · obtain ⟨i, j, hi, hj, rfl, rfl⟩ := sp_yes hr h1
    have hl : lv_has ls 3 [(0, .ref h0), (1, .int (nI i)), (2, .int (nI j))] := hl
    refine lv_aload_n hx hb dX0_clear_10 rfl (lv_at hl 0 rfl) ?_
    refine lv_bipush (v := (nI 8)) hx hb dX0_clear_11 (by decide) ?_
    refine lv_iload_n hx hb dX0_clear_13 rfl (lv_at hl 1 rfl) ?_
    refine nv_imul hx hb dX0_clear_14 ?_
    refine lv_iload_n hx hb dX0_clear_15 rfl (lv_at hl 2 rfl) ?_
    refine nv_iadd hx hb dX0_clear_16 ?_
    refine lv_iconst (v := (sp_eo none)) hx hb dX0_clear_17 (by decide) ?_
    refine x_callv (As := [.int (nI ((8 * i) + j)), .int (sp_eo none)]) (rest := []) hx hb hml hown hts (met_lead l D h0 a d s.heap.size (8 * i + j) none (fun _ => 0) hG (by omega) (Or.inl ⟨rfl, fun _ _ => rfl⟩)) (cwV 2 hts (lw_V q83 q85 qs6 q10 q86) rfl rfl rfl (by decide +kernel) ⟨Nat.le_of_ble_eq_true rfl, Nat.le_of_ble_eq_true rfl⟩) hK hX hA rfl hl.1 rfl (Nat.le_of_ble_eq_true rfl) dX0_clear_18 ⟨Nat.zero_le _, Nat.zero_le _⟩ (fun g1 H locs hq hX => ?_)
    obtain ⟨T2, U2, rfl, hG2⟩ := hq
    refine lv_aload_n hx hb dX0_clear_21 rfl (lv_at hl 0 rfl) ?_
    refine x_callv (As := []) (rest := []) hx hb hml hown hts (met_foldAll l D h0 a d H.size hG2) (cwV 0 hts (lw_V q63 q65 qs3 q10 q66) rfl rfl rfl (by decide +kernel) ⟨Nat.le_of_ble_eq_true rfl, Nat.le_of_ble_eq_true rfl⟩) hK hX hA rfl hl.1 rfl (Nat.le_of_ble_eq_true rfl) dX0_clear_22 ⟨Nat.zero_le _, Nat.zero_le _⟩ (fun g1 H locs hq hX => ?_)
    refine lv_iconst (v := 0) hx hb dX0_clear_25 (by decide) ?_
    obtain ⟨T3, M3, C3, S3, U3, rfl, hG3, hF3⟩ := hq
    refine hret _ _ _ _ _ _ hX ⟨_, ⟨_, _, _, _, _, _, rfl, hG3, hF3⟩, Or.inl ⟨i, j, ⟨hi, hj, rfl, rfl⟩, rfl, fun q hq => ?_, fun q hq ho => ?_⟩⟩ dX0_clear_26
    · rw [fb_put_in (by omega) (by omega)]
    · rw [fb_put_out (by omega)]
  · refine lv_iconst (v := (-1)) hx hb dX0_clear_8 (by decide) ?_
    exact hret _ _ _ _ _ _ hX ⟨V, ⟨O, T, M, C, S, U, rfl, hG, hF⟩, Or.inr ⟨fun i j q => sp_no hr h1 ⟨i, j, q⟩, rfl, rfl⟩⟩ dX0_clear_9
abbrev rm_size : Room := { frames := 0, cells := 0, slots := 0, locals := 0 }
set_option maxHeartbeats 4000000 in
set_option maxRecDepth 100000 in
theorem met_size (l : Launch) (D : va_G) (h0 : Nat) (a : Nat → Nat) (d : Nat → ClassId) (g : sp_xg) (V : Nat → Int32) (Z : Nat → Nat) (hI : sp_XI g V Z) (x : Int32) : Met l yX0_size (ws_ yX0_size cX0_size 2 (some .int)) rm_size (va_Pc [.ref h0, .int x] (sp_xR D h0 a d g)) (vp_Si (fun r => sp_size_s x r Z)) 0 0 (fun _ => False) := by
  obtain ⟨O, T, M, C, S, U, rfl, hG, hF⟩ := hI
  refine x_entr (As := [.int x]) (by decide) rfl (Nat.le_of_ble_eq_true rfl) ?_
  intro p e s m args below meth c Q hx hb hml hown hts hK hP hret ls hl
  have hl : lv_has ls 2 [(0, .ref h0), (1, .int x)] := hl
  refine lv_iload_n hx hb dX0_size_0 rfl (lv_at hl 1 rfl) ?_
  refine lv_if_lt (tgt := 9) hx hb dX0_size_1 (by decide) (fun h1 => ?_) (fun h1 => ?_)
  · refine lv_iconst (v := (-1)) hx hb dX0_size_9 (by decide) ?_
    refine lv_goto (tgt := 19) hx hb dX0_size_10 (by decide) ?_
    exact hret _ _ _ rfl (Or.inr ⟨fun k q => (sp_k3x ⟨k, q⟩).1 h1, rfl⟩) dX0_size_19
  · refine lv_iload_n hx hb dX0_size_4 rfl (lv_at hl 1 rfl) ?_
    refine lv_iconst (v := (nI 3)) hx hb dX0_size_5 (by decide) ?_
    refine lv_icmp_le (tgt := 13) hx hb dX0_size_6 (by decide) (fun h2 => ?_) (fun h2 => ?_)
    · obtain ⟨k, hk, rfl⟩ := sp_k3 h1 h2
      have hl : lv_has ls 2 [(0, .ref h0), (1, .int (nI k))] := hl
      refine lv_aload_n hx hb dX0_size_13 rfl (lv_at hl 0 rfl) ?_
      refine xg_Z hx hb hts hown hK hP dX0_size_14 ?_
      refine lv_iload_n hx hb dX0_size_17 rfl (lv_at hl 1 rfl) ?_
      refine xl_Z hx hb hK hP (by omega) dX0_size_18 ?_
      exact hret _ _ _ rfl (Or.inl ⟨k, hk, rfl, rfl⟩) dX0_size_19
    · refine lv_iconst (v := (-1)) hx hb dX0_size_9 (by decide) ?_
      refine lv_goto (tgt := 19) hx hb dX0_size_10 (by decide) ?_
      exact hret _ _ _ rfl (Or.inr ⟨fun k q => h2 (sp_k3x ⟨k, q⟩).2.1, rfl⟩) dX0_size_19
abbrev rm_peek : Room := { frames := 1, cells := 0, slots := 0, locals := 24 }
set_option maxHeartbeats 4000000 in
set_option maxRecDepth 100000 in
theorem met_peek (l : Launch) (D : va_G) (h0 : Nat) (a : Nat → Nat) (d : Nat → ClassId) (g : sp_xg) (V : Nat → Int32) (Z : Nat → Nat) (hI : sp_XI g V Z) (hZ : ∀ k, k < 4 → Z k ≤ 8) (x y z : Int32) : Met l yX0_peek (ws_ yX0_peek cX0_peek 4 (some .int)) rm_peek (va_Pc [.ref h0, .int x, .int y, .int z] (sp_xR D h0 a d g)) (vp_Si (fun r => sp_peek_s x y z r V Z)) 0 0 (fun _ => False) := by
  obtain ⟨O, T, M, C, S, U, rfl, hG, hF⟩ := hI
  obtain ⟨vl, rk, hG⟩ := hG
  refine x_entr (As := [.int x, .int y, .int z]) (by decide) rfl (Nat.le_of_ble_eq_true rfl) ?_
  intro p e s m args below meth c Q hx hb hml hown hts hK hP hret ls hl
  have hl : lv_has ls 4 [(0, .ref h0), (1, .int x), (2, .int y), (3, .int z)] := hl
  refine lv_iload_n hx hb dX0_peek_0 rfl (lv_at hl 1 rfl) ?_
  refine lv_if_lt (tgt := 32) hx hb dX0_peek_1 (by decide) (fun h1 => ?_) (fun h1 => ?_)
  · refine lv_iconst (v := 0) hx hb dX0_peek_32 (by decide) ?_
    exact hret _ _ _ rfl (Or.inr ⟨fun k2 p2 c2 q => (sp_k3x ⟨k2, q.1, q.2.2.2.1⟩).1 h1, rfl⟩) dX0_peek_33
  · refine lv_iload_n hx hb dX0_peek_4 rfl (lv_at hl 1 rfl) ?_
    refine lv_iconst (v := (nI 3)) hx hb dX0_peek_5 (by decide) ?_
    refine lv_icmp_gt (tgt := 32) hx hb dX0_peek_6 (by decide) (fun h2 => ?_) (fun h2 => ?_)
    · refine lv_iconst (v := 0) hx hb dX0_peek_32 (by decide) ?_
      exact hret _ _ _ rfl (Or.inr ⟨fun k2 p2 c2 q => (sp_k3x ⟨k2, q.1, q.2.2.2.1⟩).2.2 h2, rfl⟩) dX0_peek_33
    · refine lv_iload_n hx hb dX0_peek_9 rfl (lv_at hl 2 rfl) ?_
      refine lv_if_lt (tgt := 32) hx hb dX0_peek_10 (by decide) (fun h3 => ?_) (fun h3 => ?_)
      · refine lv_iconst (v := 0) hx hb dX0_peek_32 (by decide) ?_
        exact hret _ _ _ rfl (Or.inr ⟨fun k2 p2 c2 q => by
          obtain ⟨b1, b2, b3, b4, b5, b6⟩ := q
          have := hZ k2 b1
          rw [b5] at h3
          exact nI_pos (by omega) h3, rfl⟩) dX0_peek_33
      · obtain ⟨k, hk, rfl⟩ := sp_k3 h1 (Int32.not_lt.mp h2)
        obtain ⟨b, hb31, rfl⟩ := nI_of h3
        have hZk := hZ k hk
        have hl : lv_has ls 4 [(0, .ref h0), (1, .int (nI k)), (2, .int (nI b)), (3, .int z)] := hl
        refine lv_iload_n hx hb dX0_peek_13 rfl (lv_at hl 2 rfl) ?_
        refine lv_aload_n hx hb dX0_peek_14 rfl (lv_at hl 0 rfl) ?_
        refine xg_Z hx hb hts hown hK hP dX0_peek_15 ?_
        refine lv_iload_n hx hb dX0_peek_18 rfl (lv_at hl 1 rfl) ?_
        refine xl_Z hx hb hK hP (by omega) dX0_peek_19 ?_
        refine nv_icmp_ge (tgt := 32) hx hb (by omega) (by omega) dX0_peek_20 (by decide) (fun h4 => ?_) (fun h4 => ?_)
        · refine lv_iconst (v := 0) hx hb dX0_peek_32 (by decide) ?_
          exact hret _ _ _ rfl (Or.inr ⟨fun k2 p2 c2 q => by
            obtain ⟨b1, b2, b3, b4, b5, b6⟩ := q
            have h9 := hZ k2 b1
            have e1 : k = k2 := sp_nI_inj (by omega) (by omega) b4
            have e2 : b = p2 := sp_nI_inj (by omega) (by omega) b5
            rw [← e1, ← e2] at b2
            omega, rfl⟩) dX0_peek_33
        · refine lv_iload_n hx hb dX0_peek_23 rfl (lv_at hl 3 rfl) ?_
          refine lv_if_lt (tgt := 32) hx hb dX0_peek_24 (by decide) (fun h5 => ?_) (fun h5 => ?_)
          · refine lv_iconst (v := 0) hx hb dX0_peek_32 (by decide) ?_
            exact hret _ _ _ rfl (Or.inr ⟨fun k2 p2 c2 q => (sp_k3x ⟨c2, q.2.2.1, q.2.2.2.2.2⟩).1 h5, rfl⟩) dX0_peek_33
          · refine lv_iload_n hx hb dX0_peek_27 rfl (lv_at hl 3 rfl) ?_
            refine lv_iconst (v := (nI 3)) hx hb dX0_peek_28 (by decide) ?_
            refine lv_icmp_le (tgt := 34) hx hb dX0_peek_29 (by decide) (fun h6 => ?_) (fun h6 => ?_)
            · obtain ⟨z, hz, rfl⟩ := sp_k3 h5 h6
              have hl : lv_has ls 4 [(0, .ref h0), (1, .int (nI k)), (2, .int (nI b)), (3, .int (nI z))] := hl
              refine lv_aload_n hx hb dX0_peek_34 rfl (lv_at hl 0 rfl) ?_
              refine lv_aload_n hx hb dX0_peek_35 rfl (lv_at hl 0 rfl) ?_
              refine xg_O hx hb hts hown hK hP dX0_peek_36 ?_
              refine lv_bipush (v := (nI 32)) hx hb dX0_peek_39 (by decide) ?_
              refine lv_bipush (v := (nI 8)) hx hb dX0_peek_41 (by decide) ?_
              refine lv_iload_n hx hb dX0_peek_43 rfl (lv_at hl 1 rfl) ?_
              refine nv_imul hx hb dX0_peek_44 ?_
              refine nv_iadd hx hb dX0_peek_45 ?_
              refine lv_iload_n hx hb dX0_peek_46 rfl (lv_at hl 2 rfl) ?_
              refine nv_iadd hx hb dX0_peek_47 ?_
              refine xl_O hx hb hK hP (by omega) dX0_peek_48 ?_
              refine lv_iload_n hx hb dX0_peek_49 rfl (lv_at hl 3 rfl) ?_
              refine x_callr (As := [.int (sp_eo (O ((32 + (8 * k)) + b))), .int (nI z)]) (rest := []) hx hb hml hown hts (met_cellOf l D h0 a d hG (O (32 + 8 * k + b)) (fun q hq => hG.1 _ (by omega) q hq) z hz) (cwV 2 hts (lw_V q75 q77 qs5 q10 q78) rfl rfl rfl (by decide +kernel) ⟨Nat.le_of_ble_eq_true rfl, Nat.le_of_ble_eq_true rfl⟩) hK hP rfl hl.1 rfl (Nat.le_of_ble_eq_true rfl) dX0_peek_50 ⟨Nat.zero_le _, Nat.zero_le _⟩ (fun r1 hr1 => ?_)
              refine hret _ _ _ rfl (Or.inl ⟨k, b, z, ⟨hk, h4, hz, rfl, rfl, rfl⟩, ?_⟩) dX0_peek_53
              rw [hr1, show 128 + 32 * k + 4 * b + z = 4 * (32 + 8 * k + b) + z by omega]
              exact (hG.2.2.2.2.2.2 (32 + 8 * k + b) (by omega) z hz).symm
            · refine lv_iconst (v := 0) hx hb dX0_peek_32 (by decide) ?_
              exact hret _ _ _ rfl (Or.inr ⟨fun k2 p2 c2 q => h6 (sp_k3x ⟨c2, q.2.2.1, q.2.2.2.2.2⟩).2.1, rfl⟩) dX0_peek_33
abbrev rm_alike : Room := { frames := 2, cells := 0, slots := 0, locals := 47 }
set_option maxHeartbeats 4000000 in
set_option maxRecDepth 100000 in
theorem met_alike (l : Launch) (D : va_G) (h0 : Nat) (a : Nat → Nat) (d : Nat → ClassId) (g : sp_xg) (V : Nat → Int32) (Z : Nat → Nat) (hI : sp_XI g V Z) (x y : Int32) : Met l yX0_alike (ws_ yX0_alike cX0_alike 5 (some .int)) rm_alike (va_Pc [.ref h0, .int x, .int y] (sp_xR D h0 a d g)) (vp_Si (fun r => sp_alike_s x y r V)) 0 0 (fun _ => False) := by
  obtain ⟨O, T, M, C, S, U, rfl, hG, hF⟩ := hI
  obtain ⟨vl, rk, hG⟩ := hG
  have hV := hG.2.2.2.2.2.2
  refine x_entr (As := [.int x, .int y]) (by decide) rfl (Nat.le_of_ble_eq_true rfl) ?_
  intro p e s m args below meth c Q hx hb hml hown hts hK hP hret ls hl
  have hl : lv_has ls 5 [(0, .ref h0), (1, .int x), (2, .int y)] := hl
  refine lv_iload_n hx hb dX0_alike_0 rfl (lv_at hl 1 rfl) ?_
  refine lv_iconst (v := (nI 0)) hx hb dX0_alike_1 (by decide) ?_
  refine st_call (As := [.int x, .int (nI 0)]) (rest := []) hx hb hml hown hts (met_isPage l x (nI 0)) (va_cwS 2 hts (lw_S q48 q49 q10 q50) rfl rfl rfl (by decide +kernel) ⟨Nat.le_of_ble_eq_true rfl, Nat.le_of_ble_eq_true rfl⟩) rfl hl.1 rfl (Nat.le_of_ble_eq_true rfl) dX0_alike_2 ⟨Nat.zero_le _, Nat.zero_le _⟩ (fun r hr => ?_)
  refine lv_if_eq (tgt := 16) hx hb dX0_alike_5 (by decide) (fun h1 => ?_) (fun h1 => ?_)
  · refine lv_iconst (v := (-1)) hx hb dX0_alike_16 (by decide) ?_
    exact hret _ _ _ rfl (Or.inr ⟨fun i j q => sp_no hr h1 (sp_pg0_of q.1 q.2.2.1), rfl⟩) dX0_alike_17
  · refine lv_iload_n hx hb dX0_alike_8 rfl (lv_at hl 2 rfl) ?_
    refine lv_iconst (v := (nI 0)) hx hb dX0_alike_9 (by decide) ?_
    refine st_call (As := [.int y, .int (nI 0)]) (rest := []) hx hb hml hown hts (met_isPage l y (nI 0)) (va_cwS 2 hts (lw_S q48 q49 q10 q50) rfl rfl rfl (by decide +kernel) ⟨Nat.le_of_ble_eq_true rfl, Nat.le_of_ble_eq_true rfl⟩) rfl hl.1 rfl (Nat.le_of_ble_eq_true rfl) dX0_alike_10 ⟨Nat.zero_le _, Nat.zero_le _⟩ (fun r2 hr2 => ?_)
    refine lv_if_ne (tgt := 18) hx hb dX0_alike_13 (by decide) (fun h2 => ?_) (fun h2 => ?_)
    · obtain ⟨i, hi, rfl⟩ := sp_pg0 (sp_yes hr h1)
      obtain ⟨j, hj, rfl⟩ := sp_pg0 (sp_yes hr2 h2)
      have hl : lv_has ls 5 [(0, .ref h0), (1, .int (nI i)), (2, .int (nI j))] := hl
      refine lv_iconst (v := (nI 0)) hx hb dX0_alike_18 (by decide) ?_
      refine lv_istore_n (lv' := [(3, .int (nI 0)), (0, .ref h0), (1, .int (nI i)), (2, .int (nI j))]) hx hb dX0_alike_19 rfl hl (by decide) rfl (fun ls hl => ?_)
      refine lv_iconst (v := (nI 0)) hx hb dX0_alike_20 (by decide) ?_
      refine lv_istore (lv' := [(4, .int (nI 0)), (3, .int (nI 0)), (0, .ref h0), (1, .int (nI i)), (2, .int (nI j))]) hx hb dX0_alike_21 hl (by decide) rfl (fun ls hl => ?_)
      have loop : ∀ (n t : Nat), t + n = 8 → ∀ ls : Array Slot, lv_has ls 5 [(4, .int (nI t)), (3, .int (nI (fb_ct (sp_alk V i j) t))), (0, .ref h0), (1, .int (nI i)), (2, .int (nI j))] → W p l e rm_alike s m args below meth c s.heap [] 0 0 Q (F0 m 23 ls []) := by
        intro n
        induction n with
        | zero =>
          intro t htn ls hl
          have ht8 : t = 8 := by omega
          subst ht8
          have hl : lv_has ls 5 [(4, .int (nI 8)), (3, .int (nI (fb_ct (sp_alk V i j) 8))), (0, .ref h0), (1, .int (nI i)), (2, .int (nI j))] := hl
          refine lv_iload hx hb dX0_alike_23 (lv_at hl 0 rfl) ?_
          refine lv_bipush (v := (nI 8)) hx hb dX0_alike_25 (by decide) ?_
          refine nv_icmp_ge (tgt := 70) hx hb (by decide) (by decide) dX0_alike_27 (by decide) (fun h3 => ?_) (fun h3 => ?_)
          · refine lv_iload_n hx hb dX0_alike_70 rfl (lv_at hl 1 rfl) ?_
            exact hret _ _ _ rfl (Or.inl ⟨i, j, ⟨hi, hj, rfl, rfl⟩, rfl⟩) dX0_alike_71
          · exact absurd h3 (by decide)
        | succ n ih =>
          intro t htn ls hl
          refine lv_iload hx hb dX0_alike_23 (lv_at hl 0 rfl) ?_
          refine lv_bipush (v := (nI 8)) hx hb dX0_alike_25 (by decide) ?_
          refine nv_icmp_ge (tgt := 70) hx hb (by omega) (by decide) dX0_alike_27 (by decide) (fun h3 => ?_) (fun h3 => ?_)
          · exact absurd h3 (by omega)
          · refine lv_aload_n hx hb dX0_alike_30 rfl (lv_at hl 2 rfl) ?_
            refine lv_aload_n hx hb dX0_alike_31 rfl (lv_at hl 2 rfl) ?_
            refine xg_O hx hb hts hown hK hP dX0_alike_32 ?_
            refine lv_bipush (v := (nI 8)) hx hb dX0_alike_35 (by decide) ?_
            refine lv_iload_n hx hb dX0_alike_37 rfl (lv_at hl 3 rfl) ?_
            refine nv_imul hx hb dX0_alike_38 ?_
            refine lv_iload hx hb dX0_alike_39 (lv_at hl 0 rfl) ?_
            refine nv_iadd hx hb dX0_alike_41 ?_
            refine xl_O hx hb hK hP (by omega) dX0_alike_42 ?_
            refine lv_aload_n hx hb dX0_alike_43 rfl (lv_at hl 2 rfl) ?_
            refine xg_O hx hb hts hown hK hP dX0_alike_44 ?_
            refine lv_bipush (v := (nI 8)) hx hb dX0_alike_47 (by decide) ?_
            refine lv_iload_n hx hb dX0_alike_49 rfl (lv_at hl 4 rfl) ?_
            refine nv_imul hx hb dX0_alike_50 ?_
            refine lv_iload hx hb dX0_alike_51 (lv_at hl 0 rfl) ?_
            refine nv_iadd hx hb dX0_alike_53 ?_
            refine xl_O hx hb hK hP (by omega) dX0_alike_54 ?_
            refine x_callr (As := [.int (sp_eo (O ((8 * i) + t))), .int (sp_eo (O ((8 * j) + t)))]) (rest := []) hx hb hml hown hts (met_samePage l D h0 a d hG (O (8 * i + t)) (O (8 * j + t)) (fun q hq => hG.1 _ (by omega) q hq) (fun q hq => hG.1 _ (by omega) q hq)) (cwV 2 hts (lw_V q115 q117 qs7 q10 q118) rfl rfl rfl (by decide +kernel) ⟨Nat.le_of_ble_eq_true rfl, Nat.le_of_ble_eq_true rfl⟩) hK hP rfl hl.1 rfl (Nat.le_of_ble_eq_true rfl) dX0_alike_55 ⟨Nat.zero_le _, Nat.zero_le _⟩ (fun r3 hr3 => ?_)
            have hsame : (∀ z, z < 4 → sp_pv vl (O (8 * i + t)) z = sp_pv vl (O (8 * j + t)) z) ↔ sp_alk V i j t = true := by
              rw [sp_alk_iff]
              constructor
              · intro q c hc
                rw [show 32 * i + 4 * t + c = 4 * (8 * i + t) + c by omega, show 32 * j + 4 * t + c = 4 * (8 * j + t) + c by omega, hV _ (by omega) c hc, hV _ (by omega) c hc]
                exact q c hc
              · intro q c hc
                have := q c hc
                rw [show 32 * i + 4 * t + c = 4 * (8 * i + t) + c by omega, show 32 * j + 4 * t + c = 4 * (8 * j + t) + c by omega, hV _ (by omega) c hc, hV _ (by omega) c hc] at this
                exact this
            refine lv_if_eq (tgt := 64) hx hb dX0_alike_58 (by decide) (fun h4 => ?_) (fun h4 => ?_)
            · refine lv_iinc (v := (nI (t + 1))) (lv' := [(4, .int (nI (t + 1))), (3, .int (nI (fb_ct (sp_alk V i j) t))), (0, .ref h0), (1, .int (nI i)), (2, .int (nI j))]) hx hb dX0_alike_64 hl (k := 0) rfl (nv_inc t) (by decide) rfl (fun ls hl => ?_)
              refine lv_goto (tgt := 23) hx hb dX0_alike_67 (by decide) ?_
              have hct : fb_ct (sp_alk V i j) t = fb_ct (sp_alk V i j) (t + 1) := by
                rw [fb_ct_succ, if_neg (fun q => sp_no hr3 h4 (hsame.mpr q)), Nat.add_zero]
              rw [hct] at hl
              exact ih (t + 1) (by omega) ls (lv_sub hl [0, 1, 2, 3, 4] rfl)
            · refine lv_iinc (v := (nI ((fb_ct (sp_alk V i j) t) + 1))) (lv' := [(3, .int (nI ((fb_ct (sp_alk V i j) t) + 1))), (4, .int (nI t)), (0, .ref h0), (1, .int (nI i)), (2, .int (nI j))]) hx hb dX0_alike_61 hl (k := 1) rfl (nv_inc (fb_ct (sp_alk V i j) t)) (by decide) rfl (fun ls hl => ?_)
              refine lv_iinc (v := (nI (t + 1))) (lv' := [(4, .int (nI (t + 1))), (3, .int (nI ((fb_ct (sp_alk V i j) t) + 1))), (0, .ref h0), (1, .int (nI i)), (2, .int (nI j))]) hx hb dX0_alike_64 hl (k := 1) rfl (nv_inc t) (by decide) rfl (fun ls hl => ?_)
              refine lv_goto (tgt := 23) hx hb dX0_alike_67 (by decide) ?_
              have hct : fb_ct (sp_alk V i j) t + 1 = fb_ct (sp_alk V i j) (t + 1) := by
                rw [fb_ct_succ, if_pos (hsame.mp (sp_yes hr3 h4))]
              rw [hct] at hl
              exact ih (t + 1) (by omega) ls (lv_sub hl [0, 1, 2, 3, 4] rfl)
      exact loop 8 0 rfl ls (lv_sub hl [0, 1, 2, 3, 4] rfl)
    · refine lv_iconst (v := (-1)) hx hb dX0_alike_16 (by decide) ?_
      exact hret _ _ _ rfl (Or.inr ⟨fun i j q => sp_no hr2 h2 (sp_pg0_of q.2.1 q.2.2.2), rfl⟩) dX0_alike_17
end
section
/-! ShadowPagesModel: its methods (written by gen/mmeth.py) -/
theorem sp_k3o {z : Int32} (h : ¬ (z < 0 ∨ ¬ z ≤ nI 3)) : ∃ k, k < 4 ∧ z = nI k := sp_k3 (fun q => h (Or.inl q)) (Classical.not_not.mp (fun q => h (Or.inr q)))
theorem sp_k3n {z : Int32} (h : z < 0 ∨ ¬ z ≤ nI 3) (h2 : ∃ k, k < 4 ∧ z = nI k) : False := by
  rcases h with h | h
  · exact (sp_k3x h2).1 h
  · exact h (sp_k3x h2).2.1
theorem sp_pg_k {x y : Int32} (h : sp_pg x y) : ∃ i, i < 4 ∧ x = nI i := by
  obtain ⟨i, j, h1, -, h3, -⟩ := h
  exact ⟨i, h1, h3⟩
theorem sp_xch_s {F : Nat → Int32} {i a b : Nat} (hi : i < 4) (ha : a < 8) (hb : b < 8) (F1 F2 F3 : Nat → Int32) (e1 : F1 = fb_put F (fun c => F (32 * i + 4 * a + c)) 256 4) (e2 : F2 = fb_put F1 (fun c => F1 (32 * i + 4 * b + c)) (32 * i + 4 * a) 4) (e3 : F3 = fb_put F2 (fun c => F2 (256 + c)) (32 * i + 4 * b) 4) : (∀ q, q < 4 → F3 (32 * i + 4 * a + q) = F (32 * i + 4 * b + q)) ∧ (∀ q, q < 4 → F3 (32 * i + 4 * b + q) = F (32 * i + 4 * a + q)) ∧ ∀ q, q < 256 → (q < 32 * i + 4 * a ∨ 32 * i + 4 * a + 4 ≤ q) → (q < 32 * i + 4 * b ∨ 32 * i + 4 * b + 4 ≤ q) → F3 q = F q := by
  have k1 : ∀ q, q < 256 → F1 q = F q := fun q hq => by rw [e1, fb_put_out (by omega)]
  have k2 : ∀ q, q < 4 → F2 (256 + q) = F (32 * i + 4 * a + q) := fun q hq => by
    rw [e2, fb_put_out (by omega), e1, fb_put_in (by omega) (by omega)]
    exact congrArg F (by omega)
  refine ⟨fun q hq => ?_, fun q hq => ?_, fun q hq h1 h2 => ?_⟩
  · by_cases e : a = b
    · subst e
      rw [e3, fb_put_in (by omega) (by omega), k2 _ (by omega)]
      exact congrArg F (by omega)
    · rw [e3, fb_put_out (by omega), e2, fb_put_in (by omega) (by omega), k1 _ (by omega)]
      exact congrArg F (by omega)
  · rw [e3, fb_put_in (by omega) (by omega), k2 _ (by omega)]
    exact congrArg F (by omega)
  · rw [e3, fb_put_out (by omega), e2, fb_put_out (by omega), k1 q hq]
abbrev rmm_outside : Room := { frames := 0, cells := 0, slots := 0, locals := 0 }
set_option maxHeartbeats 4000000 in
set_option maxRecDepth 100000 in
theorem met_outside (l : Launch) (x y : Int32) : Met l yX1_outside (ws_ yX1_outside cX1_outside 2 (some .boolean)) rmm_outside (fun v _ => v = [.int x, .int y].toArray) (vp_Si (fun r => (r = 1 ∧ (x < 0 ∨ ¬ x ≤ y)) ∨ (r = 0 ∧ ¬ (x < 0 ∨ ¬ x ≤ y)))) 0 0 (fun _ => False) := by
  refine st_ent (As := [.int x, .int y]) RX1 (by decide) rfl (Nat.le_of_ble_eq_true rfl) ?_
  intro p e s m args below meth c Q hx hb hml hown hts hret ls hl
  have hl : lv_has ls 2 [(0, .int x), (1, .int y)] := hl
  refine lv_iload_n hx hb dX1_outside_0 rfl (lv_at hl 0 rfl) ?_
  refine lv_if_lt (tgt := 9) hx hb dX1_outside_1 (by decide) (fun h1 => ?_) (fun h1 => ?_)
  · refine lv_iconst (v := 1) hx hb dX1_outside_9 (by decide) ?_
    refine lv_goto (tgt := 14) hx hb dX1_outside_10 (by decide) ?_
    exact hret 1 14 ls rfl (Or.inl ⟨rfl, Or.inl h1⟩) dX1_outside_14
  · refine lv_iload_n hx hb dX1_outside_4 rfl (lv_at hl 0 rfl) ?_
    refine lv_iload_n hx hb dX1_outside_5 rfl (lv_at hl 1 rfl) ?_
    refine lv_icmp_le (tgt := 13) hx hb dX1_outside_6 (by decide) (fun h2 => ?_) (fun h2 => ?_)
    · refine lv_iconst (v := 0) hx hb dX1_outside_13 (by decide) ?_
      exact hret 0 14 ls rfl (Or.inr ⟨rfl, fun q => by
        rcases q with q | q
        · exact h1 q
        · exact q h2⟩) dX1_outside_14
    · refine lv_iconst (v := 1) hx hb dX1_outside_9 (by decide) ?_
      refine lv_goto (tgt := 14) hx hb dX1_outside_10 (by decide) ?_
      exact hret 1 14 ls rfl (Or.inl ⟨rfl, Or.inr h2⟩) dX1_outside_14
abbrev rmm_bad : Room := { frames := 1, cells := 0, slots := 0, locals := 21 }
set_option maxHeartbeats 4000000 in
set_option maxRecDepth 100000 in
theorem met_bad (l : Launch) (x y : Int32) : Met l yX1_bad (ws_ yX1_bad cX1_bad 2 (some .boolean)) rmm_bad (fun v _ => v = [.int x, .int y].toArray) (vp_Si (fun r => (r = 1 ∧ ¬ sp_pg x y) ∨ (r = 0 ∧ ¬ ¬ sp_pg x y))) 0 0 (fun _ => False) := by
  refine st_ent (As := [.int x, .int y]) RX1 (by decide) rfl (Nat.le_of_ble_eq_true rfl) ?_
  intro p e s m args below meth c Q hx hb hml hown hts hret ls hl
  have hl : lv_has ls 2 [(0, .int x), (1, .int y)] := hl
  refine lv_iload_n hx hb dX1_bad_0 rfl (lv_at hl 0 rfl) ?_
  refine lv_iconst (v := (nI 3)) hx hb dX1_bad_1 (by decide) ?_
  refine st_call (As := [.int x, .int (nI 3)]) (rest := []) hx hb hml hown hts (met_outside l x (nI 3)) (va_cwS 2 hts (lw_S q139 q140 q11 q141) rfl rfl rfl (by decide +kernel) ⟨Nat.le_of_ble_eq_true rfl, Nat.le_of_ble_eq_true rfl⟩) rfl hl.1 rfl (Nat.le_of_ble_eq_true rfl) dX1_bad_2 ⟨Nat.zero_le _, Nat.zero_le _⟩ (fun r hr => ?_)
  refine lv_if_ne (tgt := 17) hx hb dX1_bad_5 (by decide) (fun h1 => ?_) (fun h1 => ?_)
  · refine lv_iconst (v := 1) hx hb dX1_bad_17 (by decide) ?_
    refine lv_goto (tgt := 22) hx hb dX1_bad_18 (by decide) ?_
    exact hret 1 22 ls rfl (Or.inl ⟨rfl, fun q => sp_k3n (sp_yes hr h1) (sp_pg_k q)⟩) dX1_bad_22
  · refine lv_iload_n hx hb dX1_bad_8 rfl (lv_at hl 1 rfl) ?_
    refine lv_bipush (v := (nI 7)) hx hb dX1_bad_9 (by decide) ?_
    refine st_call (As := [.int y, .int (nI 7)]) (rest := []) hx hb hml hown hts (met_outside l y (nI 7)) (va_cwS 2 hts (lw_S q139 q140 q11 q141) rfl rfl rfl (by decide +kernel) ⟨Nat.le_of_ble_eq_true rfl, Nat.le_of_ble_eq_true rfl⟩) rfl hl.1 rfl (Nat.le_of_ble_eq_true rfl) dX1_bad_11 ⟨Nat.zero_le _, Nat.zero_le _⟩ (fun r2 hr2 => ?_)
    refine lv_if_eq (tgt := 21) hx hb dX1_bad_14 (by decide) (fun h2 => ?_) (fun h2 => ?_)
    · refine lv_iconst (v := 0) hx hb dX1_bad_21 (by decide) ?_
      have g1 := sp_no hr h1
      have g2 := sp_no hr2 h2
      exact hret 0 22 ls rfl (Or.inr ⟨rfl, fun q => q (sp_pg_of (fun z => g1 (Or.inl z)) (fun z => g1 (Or.inr (Int32.not_le.mpr z))) (fun z => g2 (Or.inl z)) (fun z => g2 (Or.inr (Int32.not_le.mpr z))))⟩) dX1_bad_22
    · refine lv_iconst (v := 1) hx hb dX1_bad_17 (by decide) ?_
      refine lv_goto (tgt := 22) hx hb dX1_bad_18 (by decide) ?_
      refine hret 1 22 ls rfl (Or.inl ⟨rfl, fun q => ?_⟩) dX1_bad_22
      obtain ⟨g1, g2, g3, g4⟩ := sp_pg_x q
      rcases sp_yes hr2 h2 with z | z
      · exact g3 z
      · exact z (Int32.not_lt.mp g4)
abbrev rmm_copyPage : Room := { frames := 0, cells := 0, slots := 0, locals := 0 }
set_option maxHeartbeats 4000000 in
set_option maxRecDepth 100000 in
theorem met_copyPage (l : Launch) (D : va_G) (h0 : Nat) (a : Nat → Nat) (d : Nat → ClassId) (sz : Nat) (K : Nat → Int32) (Y : Nat → Nat) (to fr : Nat) (h1 : to + 4 ≤ 260) (h2 : fr + 4 ≤ 260) (h3 : to = fr ∨ to + 4 ≤ fr ∨ fr + 4 ≤ to) : Met l yX1_copyPage (ws_ yX1_copyPage cX1_copyPage 4 none) rmm_copyPage (va_Pc [.ref h0, .int (nI to), .int (nI fr)] (sp_mS D h0 a d sz (K, Y))) (va_Qv (fun g1 : sp_mg => g1 = (fb_put K (fun c => K (fr + c)) to 4, Y)) (sp_mB D (va_A (sp_mw h0 a d (K, Y)) sz) h0 a d) (va_A (sp_mw h0 a d (K, Y)) sz)) 0 0 (va_A (sp_mw h0 a d (K, Y)) sz) := by
  refine m_entv (As := [.int (nI to), .int (nI fr)]) (by decide) rfl (Nat.le_of_ble_eq_true rfl) ?_
  intro p e s m args below meth c A Q hx hb hml hown hts hK hA hX hret ls hl
  have hl : lv_has ls 4 [(0, .ref h0), (1, .int (nI to)), (2, .int (nI fr))] := hl
  refine lv_iconst (v := (nI 0)) hx hb dX1_copyPage_0 (by decide) ?_
  refine lv_istore_n (lv' := [(3, .int (nI 0)), (0, .ref h0), (1, .int (nI to)), (2, .int (nI fr))]) hx hb dX1_copyPage_1 rfl hl (by decide) rfl (fun ls hl => ?_)
  have loop : ∀ (n t : Nat), t + n = 4 → ∀ (H : Heap) (locs : List Loc), sp_mP D A h0 a d (fb_put K (fun c => K (fr + c)) to t, Y) s.heap H locs → ∀ ls : Array Slot, lv_has ls 4 [(3, .int (nI t)), (0, .ref h0), (1, .int (nI to)), (2, .int (nI fr))] → W p l e rmm_copyPage s m args below meth c H locs 0 0 Q (F0 m 2 ls []) := by
    intro n
    induction n with
    | zero =>
      intro t htn H locs hX ls hl
      have ht4 : t = 4 := by omega
      subst ht4
      have hl : lv_has ls 4 [(3, .int (nI 4)), (0, .ref h0), (1, .int (nI to)), (2, .int (nI fr))] := hl
      refine lv_iload_n hx hb dX1_copyPage_2 rfl (lv_at hl 0 rfl) ?_
      refine lv_iconst (v := (nI 4)) hx hb dX1_copyPage_3 (by decide) ?_
      refine nv_icmp_ge (tgt := 29) hx hb (by decide) (by decide) dX1_copyPage_4 (by decide) (fun h4 => ?_) (fun h4 => ?_)
      · exact hret _ _ _ _ _ hX rfl dX1_copyPage_29
      · exact absurd h4 (by decide)
    | succ n ih =>
      intro t htn H locs hX ls hl
      refine lv_iload_n hx hb dX1_copyPage_2 rfl (lv_at hl 0 rfl) ?_
      refine lv_iconst (v := (nI 4)) hx hb dX1_copyPage_3 (by decide) ?_
      refine nv_icmp_ge (tgt := 29) hx hb (by omega) (by decide) dX1_copyPage_4 (by decide) (fun h4 => ?_) (fun h4 => ?_)
      · exact absurd h4 (by omega)
      · refine lv_aload_n hx hb dX1_copyPage_7 rfl (lv_at hl 1 rfl) ?_
        refine mg_K hx hb hts hown hK hX.1 dX1_copyPage_8 ?_
        refine lv_iload_n hx hb dX1_copyPage_11 rfl (lv_at hl 2 rfl) ?_
        refine lv_iload_n hx hb dX1_copyPage_12 rfl (lv_at hl 0 rfl) ?_
        refine nv_iadd hx hb dX1_copyPage_13 ?_
        refine lv_aload_n hx hb dX1_copyPage_14 rfl (lv_at hl 1 rfl) ?_
        refine mg_K hx hb hts hown hK hX.1 dX1_copyPage_15 ?_
        refine lv_iload_n hx hb dX1_copyPage_18 rfl (lv_at hl 3 rfl) ?_
        refine lv_iload_n hx hb dX1_copyPage_19 rfl (lv_at hl 0 rfl) ?_
        refine nv_iadd hx hb dX1_copyPage_20 ?_
        refine ml_K hx hb hK hX.1 (by omega) dX1_copyPage_21 ?_
        refine nv_top (((fun c => K (fr + c)) t)) (fb_put_out (by omega)) ?_
        refine ms_K hx hb hK hX (by omega) dX1_copyPage_22 (fun H locs hX => ?_)
        refine lv_iinc (v := (nI (t + 1))) (lv' := [(3, .int (nI (t + 1))), (0, .ref h0), (1, .int (nI to)), (2, .int (nI fr))]) hx hb dX1_copyPage_23 hl (k := 0) rfl (nv_inc t) (by decide) rfl (fun ls hl => ?_)
        refine lv_goto (tgt := 2) hx hb dX1_copyPage_26 (by decide) ?_
        rw [fb_put_succ] at hX
        exact ih (t + 1) (by omega) H locs hX ls (lv_sub hl [0, 1, 2, 3] rfl)
  have e0 : fb_put K (fun c => K (fr + c)) to 0 = K := fb_put_0 _ _ _
  rw [← e0] at hX
  exact loop 4 0 rfl _ _ hX ls (lv_sub hl [0, 1, 2, 3] rfl)
abbrev rmm_write : Room := { frames := 2, cells := 0, slots := 0, locals := 42 }
set_option maxHeartbeats 4000000 in
set_option maxRecDepth 100000 in
theorem mem_write (l : Launch) (D : va_G) (h0 : Nat) (a : Nat → Nat) (d : Nat → ClassId) (sz : Nat) (K : Nat → Int32) (Y : Nat → Nat) (x y z v : Int32) : Met l yX1_write (ws_ yX1_write cX1_write 5 (some .int)) rmm_write (va_Pc [.ref h0, .int x, .int y, .int z, .int v] (sp_mS D h0 a d sz (K, Y))) (va_Qi (fun (r : Int32) (g1 : sp_mg) => ∃ K1 : Nat → Int32, g1 = (K1, Y) ∧ sp_write_s x y z v r K K1) (sp_mB D (va_A (sp_mw h0 a d (K, Y)) sz) h0 a d) (va_A (sp_mw h0 a d (K, Y)) sz)) 0 0 (va_A (sp_mw h0 a d (K, Y)) sz) := by
  refine m_enti (As := [.int x, .int y, .int z, .int v]) (by decide) rfl (Nat.le_of_ble_eq_true rfl) ?_
  intro p e s m args below meth c A Q hx hb hml hown hts hK hA hX hret ls hl
  have hl : lv_has ls 5 [(0, .ref h0), (1, .int x), (2, .int y), (3, .int z), (4, .int v)] := hl
  refine lv_iload_n hx hb dX1_write_0 rfl (lv_at hl 1 rfl) ?_
  refine lv_iload_n hx hb dX1_write_1 rfl (lv_at hl 2 rfl) ?_
  refine st_call (As := [.int x, .int y]) (rest := []) hx hb hml hown hts (met_bad l x y) (va_cwS 2 hts (lw_S q136 q137 q11 q138) rfl rfl rfl (by decide +kernel) ⟨Nat.le_of_ble_eq_true rfl, Nat.le_of_ble_eq_true rfl⟩) rfl hl.1 rfl (Nat.le_of_ble_eq_true rfl) dX1_write_2 ⟨Nat.zero_le _, Nat.zero_le _⟩ (fun r hr => ?_)
  refine lv_if_ne (tgt := 16) hx hb dX1_write_5 (by decide) (fun h1 => ?_) (fun h1 => ?_)
  · refine lv_iconst (v := (-1)) hx hb dX1_write_16 (by decide) ?_
    exact hret _ _ _ _ _ _ hX ⟨K, rfl, Or.inr ⟨fun i j k q => sp_yes hr h1 (sp_c3_x q).1, rfl, rfl⟩⟩ dX1_write_17
  · refine lv_iload_n hx hb dX1_write_8 rfl (lv_at hl 3 rfl) ?_
    refine lv_iconst (v := (nI 3)) hx hb dX1_write_9 (by decide) ?_
    refine st_call (As := [.int z, .int (nI 3)]) (rest := []) hx hb hml hown hts (met_outside l z (nI 3)) (va_cwS 2 hts (lw_S q139 q140 q11 q141) rfl rfl rfl (by decide +kernel) ⟨Nat.le_of_ble_eq_true rfl, Nat.le_of_ble_eq_true rfl⟩) rfl hl.1 rfl (Nat.le_of_ble_eq_true rfl) dX1_write_10 ⟨Nat.zero_le _, Nat.zero_le _⟩ (fun r2 hr2 => ?_)
    refine lv_if_eq (tgt := 18) hx hb dX1_write_13 (by decide) (fun h2 => ?_) (fun h2 => ?_)
    · obtain ⟨i, j, hi, hj, rfl, rfl⟩ := Classical.not_not.mp (sp_no hr h1)
      obtain ⟨k, hk, rfl⟩ := sp_k3o (sp_no hr2 h2)
      have hl : lv_has ls 5 [(0, .ref h0), (1, .int (nI i)), (2, .int (nI j)), (3, .int (nI k)), (4, .int v)] := hl
      refine lv_aload_n hx hb dX1_write_18 rfl (lv_at hl 0 rfl) ?_
      refine mg_K hx hb hts hown hK hX.1 dX1_write_19 ?_
      refine lv_bipush (v := (nI 32)) hx hb dX1_write_22 (by decide) ?_
      refine lv_iload_n hx hb dX1_write_24 rfl (lv_at hl 1 rfl) ?_
      refine nv_imul hx hb dX1_write_25 ?_
      refine lv_iconst (v := (nI 4)) hx hb dX1_write_26 (by decide) ?_
      refine lv_iload_n hx hb dX1_write_27 rfl (lv_at hl 2 rfl) ?_
      refine nv_imul hx hb dX1_write_28 ?_
      refine nv_iadd hx hb dX1_write_29 ?_
      refine lv_iload_n hx hb dX1_write_30 rfl (lv_at hl 3 rfl) ?_
      refine nv_iadd hx hb dX1_write_31 ?_
      refine lv_iload hx hb dX1_write_32 (lv_at hl 4 rfl) ?_
      refine ms_K hx hb hK hX (by omega) dX1_write_34 (fun H locs hX => ?_)
      refine lv_iconst (v := 0) hx hb dX1_write_35 (by decide) ?_
      exact hret _ _ _ _ _ _ hX ⟨_, rfl, Or.inl ⟨i, j, k, ⟨hi, hj, hk, rfl, rfl, rfl⟩, rfl, rfl⟩⟩ dX1_write_36
    · refine lv_iconst (v := (-1)) hx hb dX1_write_16 (by decide) ?_
      exact hret _ _ _ _ _ _ hX ⟨K, rfl, Or.inr ⟨fun i j k q => sp_k3n (sp_yes hr2 h2) ⟨k, q.2.2.1, q.2.2.2.2.2⟩, rfl, rfl⟩⟩ dX1_write_17
abbrev rmm_read : Room := { frames := 2, cells := 0, slots := 0, locals := 42 }
set_option maxHeartbeats 4000000 in
set_option maxRecDepth 100000 in
theorem mem_read (l : Launch) (D : va_G) (h0 : Nat) (a : Nat → Nat) (d : Nat → ClassId) (K : Nat → Int32) (Y : Nat → Nat) (x y z : Int32) : Met l yX1_read (ws_ yX1_read cX1_read 4 (some .int)) rmm_read (va_Pc [.ref h0, .int x, .int y, .int z] (sp_mR D h0 a d (K, Y))) (vp_Si (fun r => sp_read_s x y z r K)) 0 0 (fun _ => False) := by
  refine m_entr (As := [.int x, .int y, .int z]) (by decide) rfl (Nat.le_of_ble_eq_true rfl) ?_
  intro p e s m args below meth c Q hx hb hml hown hts hK hP hret ls hl
  have hl : lv_has ls 4 [(0, .ref h0), (1, .int x), (2, .int y), (3, .int z)] := hl
  refine lv_iload_n hx hb dX1_read_0 rfl (lv_at hl 1 rfl) ?_
  refine lv_iload_n hx hb dX1_read_1 rfl (lv_at hl 2 rfl) ?_
  refine st_call (As := [.int x, .int y]) (rest := []) hx hb hml hown hts (met_bad l x y) (va_cwS 2 hts (lw_S q136 q137 q11 q138) rfl rfl rfl (by decide +kernel) ⟨Nat.le_of_ble_eq_true rfl, Nat.le_of_ble_eq_true rfl⟩) rfl hl.1 rfl (Nat.le_of_ble_eq_true rfl) dX1_read_2 ⟨Nat.zero_le _, Nat.zero_le _⟩ (fun r hr => ?_)
  refine lv_if_ne (tgt := 16) hx hb dX1_read_5 (by decide) (fun h1 => ?_) (fun h1 => ?_)
  · refine lv_iconst (v := 0) hx hb dX1_read_16 (by decide) ?_
    exact hret _ _ _ rfl (Or.inr ⟨fun i j k q => sp_yes hr h1 (sp_c3_x q).1, rfl⟩) dX1_read_17
  · refine lv_iload_n hx hb dX1_read_8 rfl (lv_at hl 3 rfl) ?_
    refine lv_iconst (v := (nI 3)) hx hb dX1_read_9 (by decide) ?_
    refine st_call (As := [.int z, .int (nI 3)]) (rest := []) hx hb hml hown hts (met_outside l z (nI 3)) (va_cwS 2 hts (lw_S q139 q140 q11 q141) rfl rfl rfl (by decide +kernel) ⟨Nat.le_of_ble_eq_true rfl, Nat.le_of_ble_eq_true rfl⟩) rfl hl.1 rfl (Nat.le_of_ble_eq_true rfl) dX1_read_10 ⟨Nat.zero_le _, Nat.zero_le _⟩ (fun r2 hr2 => ?_)
    refine lv_if_eq (tgt := 18) hx hb dX1_read_13 (by decide) (fun h2 => ?_) (fun h2 => ?_)
    · obtain ⟨i, j, hi, hj, rfl, rfl⟩ := Classical.not_not.mp (sp_no hr h1)
      obtain ⟨k, hk, rfl⟩ := sp_k3o (sp_no hr2 h2)
      have hl : lv_has ls 4 [(0, .ref h0), (1, .int (nI i)), (2, .int (nI j)), (3, .int (nI k))] := hl
      refine lv_aload_n hx hb dX1_read_18 rfl (lv_at hl 0 rfl) ?_
      refine mg_K hx hb hts hown hK hP dX1_read_19 ?_
      refine lv_bipush (v := (nI 32)) hx hb dX1_read_22 (by decide) ?_
      refine lv_iload_n hx hb dX1_read_24 rfl (lv_at hl 1 rfl) ?_
      refine nv_imul hx hb dX1_read_25 ?_
      refine lv_iconst (v := (nI 4)) hx hb dX1_read_26 (by decide) ?_
      refine lv_iload_n hx hb dX1_read_27 rfl (lv_at hl 2 rfl) ?_
      refine nv_imul hx hb dX1_read_28 ?_
      refine nv_iadd hx hb dX1_read_29 ?_
      refine lv_iload_n hx hb dX1_read_30 rfl (lv_at hl 3 rfl) ?_
      refine nv_iadd hx hb dX1_read_31 ?_
      refine ml_K hx hb hK hP (by omega) dX1_read_32 ?_
      exact hret _ _ _ rfl (Or.inl ⟨i, j, k, ⟨hi, hj, hk, rfl, rfl, rfl⟩, rfl⟩) dX1_read_33
    · refine lv_iconst (v := 0) hx hb dX1_read_16 (by decide) ?_
      exact hret _ _ _ rfl (Or.inr ⟨fun i j k q => sp_k3n (sp_yes hr2 h2) ⟨k, q.2.2.1, q.2.2.2.2.2⟩, rfl⟩) dX1_read_17
abbrev rmm_fork : Room := { frames := 2, cells := 0, slots := 0, locals := 42 }
set_option maxHeartbeats 4000000 in
set_option maxRecDepth 100000 in
theorem mem_fork (l : Launch) (D : va_G) (h0 : Nat) (a : Nat → Nat) (d : Nat → ClassId) (sz : Nat) (K : Nat → Int32) (Y : Nat → Nat) (x y : Int32) : Met l yX1_fork (ws_ yX1_fork cX1_fork 4 (some .int)) rmm_fork (va_Pc [.ref h0, .int x, .int y] (sp_mS D h0 a d sz (K, Y))) (va_Qi (fun (r : Int32) (g1 : sp_mg) => ∃ K1 : Nat → Int32, g1 = (K1, Y) ∧ sp_fork_s x y r K K1) (sp_mB D (va_A (sp_mw h0 a d (K, Y)) sz) h0 a d) (va_A (sp_mw h0 a d (K, Y)) sz)) 0 0 (va_A (sp_mw h0 a d (K, Y)) sz) := by
  refine m_enti (As := [.int x, .int y]) (by decide) rfl (Nat.le_of_ble_eq_true rfl) ?_
  intro p e s m args below meth c A Q hx hb hml hown hts hK hA hX hret ls hl
  have hl : lv_has ls 4 [(0, .ref h0), (1, .int x), (2, .int y)] := hl
  refine lv_iload_n hx hb dX1_fork_0 rfl (lv_at hl 1 rfl) ?_
  refine lv_iconst (v := (nI 3)) hx hb dX1_fork_1 (by decide) ?_
  refine st_call (As := [.int x, .int (nI 3)]) (rest := []) hx hb hml hown hts (met_outside l x (nI 3)) (va_cwS 2 hts (lw_S q139 q140 q11 q141) rfl rfl rfl (by decide +kernel) ⟨Nat.le_of_ble_eq_true rfl, Nat.le_of_ble_eq_true rfl⟩) rfl hl.1 rfl (Nat.le_of_ble_eq_true rfl) dX1_fork_2 ⟨Nat.zero_le _, Nat.zero_le _⟩ (fun r hr => ?_)
  refine lv_if_ne (tgt := 16) hx hb dX1_fork_5 (by decide) (fun h1 => ?_) (fun h1 => ?_)
  · refine lv_iconst (v := (-1)) hx hb dX1_fork_16 (by decide) ?_
    exact hret _ _ _ _ _ _ hX ⟨K, rfl, Or.inr ⟨fun i j q => sp_k3n (sp_yes hr h1) ⟨i, q.1, q.2.2.1⟩, rfl, rfl⟩⟩ dX1_fork_17
  · refine lv_iload_n hx hb dX1_fork_8 rfl (lv_at hl 2 rfl) ?_
    refine lv_iconst (v := (nI 3)) hx hb dX1_fork_9 (by decide) ?_
    refine st_call (As := [.int y, .int (nI 3)]) (rest := []) hx hb hml hown hts (met_outside l y (nI 3)) (va_cwS 2 hts (lw_S q139 q140 q11 q141) rfl rfl rfl (by decide +kernel) ⟨Nat.le_of_ble_eq_true rfl, Nat.le_of_ble_eq_true rfl⟩) rfl hl.1 rfl (Nat.le_of_ble_eq_true rfl) dX1_fork_10 ⟨Nat.zero_le _, Nat.zero_le _⟩ (fun r2 hr2 => ?_)
    refine lv_if_eq (tgt := 18) hx hb dX1_fork_13 (by decide) (fun h2 => ?_) (fun h2 => ?_)
    · obtain ⟨i, hi, rfl⟩ := sp_k3o (sp_no hr h1)
      obtain ⟨j, hj, rfl⟩ := sp_k3o (sp_no hr2 h2)
      have hl : lv_has ls 4 [(0, .ref h0), (1, .int (nI i)), (2, .int (nI j))] := hl
      refine lv_iconst (v := (nI 0)) hx hb dX1_fork_18 (by decide) ?_
      refine lv_istore_n (lv' := [(3, .int (nI 0)), (0, .ref h0), (1, .int (nI i)), (2, .int (nI j))]) hx hb dX1_fork_19 rfl hl (by decide) rfl (fun ls hl => ?_)
      have loop : ∀ (n t : Nat) (K1 : Nat → Int32), t + n = 8 → sp_cpd K K1 (32 * i) (32 * j) (4 * t) → ∀ (H : Heap) (locs : List Loc), sp_mP D A h0 a d (K1, Y) s.heap H locs → ∀ ls : Array Slot, lv_has ls 4 [(3, .int (nI t)), (0, .ref h0), (1, .int (nI i)), (2, .int (nI j))] → W p l e rmm_fork s m args below meth c H locs 0 0 Q (F0 m 20 ls []) := by
        intro n
        induction n with
        | zero =>
          intro t K1 htn hc H locs hX ls hl
          have ht8 : t = 8 := by omega
          subst ht8
          have hl : lv_has ls 4 [(3, .int (nI 8)), (0, .ref h0), (1, .int (nI i)), (2, .int (nI j))] := hl
          refine lv_iload_n hx hb dX1_fork_20 rfl (lv_at hl 0 rfl) ?_
          refine lv_bipush (v := (nI 8)) hx hb dX1_fork_21 (by decide) ?_
          refine nv_icmp_ge (tgt := 52) hx hb (by decide) (by decide) dX1_fork_23 (by decide) (fun h3 => ?_) (fun h3 => ?_)
          · refine lv_iconst (v := 0) hx hb dX1_fork_52 (by decide) ?_
            exact hret _ _ _ _ _ _ hX ⟨_, rfl, Or.inl ⟨i, j, ⟨hi, hj, rfl, rfl⟩, rfl, hc⟩⟩ dX1_fork_53
          · exact absurd h3 (by decide)
        | succ n ih =>
          intro t K1 htn hc H locs hX ls hl
          refine lv_iload_n hx hb dX1_fork_20 rfl (lv_at hl 0 rfl) ?_
          refine lv_bipush (v := (nI 8)) hx hb dX1_fork_21 (by decide) ?_
          refine nv_icmp_ge (tgt := 52) hx hb (by omega) (by decide) dX1_fork_23 (by decide) (fun h3 => ?_) (fun h3 => ?_)
          · exact absurd h3 (by omega)
          · refine lv_aload_n hx hb dX1_fork_26 rfl (lv_at hl 1 rfl) ?_
            refine lv_bipush (v := (nI 32)) hx hb dX1_fork_27 (by decide) ?_
            refine lv_iload_n hx hb dX1_fork_29 rfl (lv_at hl 3 rfl) ?_
            refine nv_imul hx hb dX1_fork_30 ?_
            refine lv_iconst (v := (nI 4)) hx hb dX1_fork_31 (by decide) ?_
            refine lv_iload_n hx hb dX1_fork_32 rfl (lv_at hl 0 rfl) ?_
            refine nv_imul hx hb dX1_fork_33 ?_
            refine nv_iadd hx hb dX1_fork_34 ?_
            refine lv_bipush (v := (nI 32)) hx hb dX1_fork_35 (by decide) ?_
            refine lv_iload_n hx hb dX1_fork_37 rfl (lv_at hl 2 rfl) ?_
            refine nv_imul hx hb dX1_fork_38 ?_
            refine lv_iconst (v := (nI 4)) hx hb dX1_fork_39 (by decide) ?_
            refine lv_iload_n hx hb dX1_fork_40 rfl (lv_at hl 0 rfl) ?_
            refine nv_imul hx hb dX1_fork_41 ?_
            refine nv_iadd hx hb dX1_fork_42 ?_
            refine m_callv (As := [.int (nI ((32 * j) + (4 * t))), .int (nI ((32 * i) + (4 * t)))]) (rest := []) hx hb hml hown hts (met_copyPage l D h0 a d H.size K1 Y (32 * j + 4 * t) (32 * i + 4 * t) (by omega) (by omega) (by omega)) (cwV 2 hts (lw_V q150 q152 qs8 q11 q153) rfl rfl rfl (by decide +kernel) ⟨Nat.le_of_ble_eq_true rfl, Nat.le_of_ble_eq_true rfl⟩) hK hX hA rfl hl.1 rfl (Nat.le_of_ble_eq_true rfl) dX1_fork_43 ⟨Nat.zero_le _, Nat.zero_le _⟩ (fun g1 H locs hq hX => ?_)
            subst hq
            refine lv_iinc (v := (nI (t + 1))) (lv' := [(3, .int (nI (t + 1))), (0, .ref h0), (1, .int (nI i)), (2, .int (nI j))]) hx hb dX1_fork_46 hl (k := 0) rfl (nv_inc t) (by decide) rfl (fun ls hl => ?_)
            refine lv_goto (tgt := 20) hx hb dX1_fork_49 (by decide) ?_
            exact ih (t + 1) _ (by omega) (show sp_cpd K _ (32 * i) (32 * j) (4 * t + 4) from sp_cpd_step hc rfl (fun c hc => rfl) (by omega) (fun c hc => by omega)) H locs hX ls (lv_sub hl [0, 1, 2, 3] rfl)
      exact loop 8 0 K rfl (sp_cpd_0 K _ _) _ _ hX ls (lv_sub hl [0, 1, 2, 3] rfl)
    · refine lv_iconst (v := (-1)) hx hb dX1_fork_16 (by decide) ?_
      exact hret _ _ _ _ _ _ hX ⟨K, rfl, Or.inr ⟨fun i j q => sp_k3n (sp_yes hr2 h2) ⟨j, q.2.1, q.2.2.2⟩, rfl, rfl⟩⟩ dX1_fork_17
abbrev rmm_pack : Room := { frames := 2, cells := 0, slots := 0, locals := 42 }
set_option maxHeartbeats 4000000 in
set_option maxRecDepth 100000 in
theorem mem_pack (l : Launch) (D : va_G) (h0 : Nat) (a : Nat → Nat) (d : Nat → ClassId) (sz : Nat) (K : Nat → Int32) (Y : Nat → Nat) (x y z v : Int32) : Met l yX1_pack (ws_ yX1_pack cX1_pack 6 (some .int)) rmm_pack (va_Pc [.ref h0, .int x, .int y, .int z, .int v] (sp_mS D h0 a d sz (K, Y))) (va_Qi (fun (r : Int32) (g1 : sp_mg) => ∃ (K1 : Nat → Int32) (Y1 : Nat → Nat), g1 = (K1, Y1) ∧ sp_pack_s x y z v r K K1 Y Y1) (sp_mB D (va_A (sp_mw h0 a d (K, Y)) sz) h0 a d) (va_A (sp_mw h0 a d (K, Y)) sz)) 0 0 (va_A (sp_mw h0 a d (K, Y)) sz) := by
  refine m_enti (As := [.int x, .int y, .int z, .int v]) (by decide) rfl (Nat.le_of_ble_eq_true rfl) ?_
  intro p e s m args below meth c A Q hx hb hml hown hts hK hA hX hret ls hl
  have hl : lv_has ls 6 [(0, .ref h0), (1, .int x), (2, .int y), (3, .int z), (4, .int v)] := hl
  refine lv_iload_n hx hb dX1_pack_0 rfl (lv_at hl 1 rfl) ?_
  refine lv_iconst (v := (nI 3)) hx hb dX1_pack_1 (by decide) ?_
  refine st_call (As := [.int x, .int (nI 3)]) (rest := []) hx hb hml hown hts (met_outside l x (nI 3)) (va_cwS 2 hts (lw_S q139 q140 q11 q141) rfl rfl rfl (by decide +kernel) ⟨Nat.le_of_ble_eq_true rfl, Nat.le_of_ble_eq_true rfl⟩) rfl hl.1 rfl (Nat.le_of_ble_eq_true rfl) dX1_pack_2 ⟨Nat.zero_le _, Nat.zero_le _⟩ (fun r hr => ?_)
  refine lv_if_ne (tgt := 38) hx hb dX1_pack_5 (by decide) (fun h1 => ?_) (fun h1 => ?_)
  · refine lv_iconst (v := (-1)) hx hb dX1_pack_38 (by decide) ?_
    exact hret _ _ _ _ _ _ hX ⟨K, Y, rfl, Or.inr ⟨fun k i f n q => sp_k3n (sp_yes hr h1) ⟨k, q.1, q.2.2.2.2.2.1⟩, rfl, rfl, rfl⟩⟩ dX1_pack_39
  · refine lv_iload_n hx hb dX1_pack_8 rfl (lv_at hl 2 rfl) ?_
    refine lv_iload_n hx hb dX1_pack_9 rfl (lv_at hl 3 rfl) ?_
    refine st_call (As := [.int y, .int z]) (rest := []) hx hb hml hown hts (met_bad l y z) (va_cwS 2 hts (lw_S q136 q137 q11 q138) rfl rfl rfl (by decide +kernel) ⟨Nat.le_of_ble_eq_true rfl, Nat.le_of_ble_eq_true rfl⟩) rfl hl.1 rfl (Nat.le_of_ble_eq_true rfl) dX1_pack_10 ⟨Nat.zero_le _, Nat.zero_le _⟩ (fun r2 hr2 => ?_)
    refine lv_if_ne (tgt := 38) hx hb dX1_pack_13 (by decide) (fun h2 => ?_) (fun h2 => ?_)
    · refine lv_iconst (v := (-1)) hx hb dX1_pack_38 (by decide) ?_
      exact hret _ _ _ _ _ _ hX ⟨K, Y, rfl, Or.inr ⟨fun k i f n q => sp_yes hr2 h2 ⟨i, f, q.2.1, q.2.2.1, q.2.2.2.2.2.2.1, q.2.2.2.2.2.2.2.1⟩, rfl, rfl, rfl⟩⟩ dX1_pack_39
    · refine lv_iload hx hb dX1_pack_16 (lv_at hl 4 rfl) ?_
      refine lv_iconst (v := (nI 1)) hx hb dX1_pack_18 (by decide) ?_
      refine lv_icmp_lt (tgt := 38) hx hb dX1_pack_19 (by decide) (fun h3 => ?_) (fun h3 => ?_)
      · refine lv_iconst (v := (-1)) hx hb dX1_pack_38 (by decide) ?_
        exact hret _ _ _ _ _ _ hX ⟨K, Y, rfl, Or.inr ⟨fun k i f n q => (sp_ft_x ⟨f, n, q.2.2.1, q.2.2.2.1, q.2.2.2.2.1, q.2.2.2.2.2.2.2.1, q.2.2.2.2.2.2.2.2⟩).1 h3, rfl, rfl, rfl⟩⟩ dX1_pack_39
      · refine lv_iload hx hb dX1_pack_22 (lv_at hl 4 rfl) ?_
        refine lv_bipush (v := (nI 8)) hx hb dX1_pack_24 (by decide) ?_
        refine lv_icmp_gt (tgt := 38) hx hb dX1_pack_26 (by decide) (fun h4 => ?_) (fun h4 => ?_)
        · refine lv_iconst (v := (-1)) hx hb dX1_pack_38 (by decide) ?_
          exact hret _ _ _ _ _ _ hX ⟨K, Y, rfl, Or.inr ⟨fun k i f n q => (sp_ft_x ⟨f, n, q.2.2.1, q.2.2.2.1, q.2.2.2.2.1, q.2.2.2.2.2.2.2.1, q.2.2.2.2.2.2.2.2⟩).2.1 h4, rfl, rfl, rfl⟩⟩ dX1_pack_39
        · refine lv_iload_n hx hb dX1_pack_29 rfl (lv_at hl 3 rfl) ?_
          refine lv_iload hx hb dX1_pack_30 (lv_at hl 4 rfl) ?_
          refine lv_iadd hx hb dX1_pack_32 ?_
          refine lv_bipush (v := (nI 8)) hx hb dX1_pack_33 (by decide) ?_
          refine lv_icmp_le (tgt := 40) hx hb dX1_pack_35 (by decide) (fun h5 => ?_) (fun h5 => ?_)
          · obtain ⟨k, hk, rfl⟩ := sp_k3o (sp_no hr h1)
            obtain ⟨g1, g2, g3, g4⟩ := sp_pg_x (Classical.not_not.mp (sp_no hr2 h2))
            obtain ⟨i, hi, rfl⟩ := sp_pg_k (Classical.not_not.mp (sp_no hr2 h2))
            obtain ⟨f, n, hf, hn, hfn, rfl, rfl⟩ := sp_ft_of h3 h4 g3 g4 (Int32.not_lt.mpr h5)
            have hl : lv_has ls 6 [(0, .ref h0), (1, .int (nI k)), (2, .int (nI i)), (3, .int (nI f)), (4, .int (nI n))] := hl
            refine lv_iconst (v := (nI 0)) hx hb dX1_pack_40 (by decide) ?_
            refine lv_istore (lv' := [(5, .int (nI 0)), (0, .ref h0), (1, .int (nI k)), (2, .int (nI i)), (3, .int (nI f)), (4, .int (nI n))]) hx hb dX1_pack_41 hl (by decide) rfl (fun ls hl => ?_)
            have loop : ∀ (n2 t : Nat) (K1 : Nat → Int32), t + n2 = n → sp_cpd K K1 (32 * i + 4 * f) (128 + 32 * k) (4 * t) → ∀ (H : Heap) (locs : List Loc), sp_mP D A h0 a d (K1, Y) s.heap H locs → ∀ ls : Array Slot, lv_has ls 6 [(5, .int (nI t)), (0, .ref h0), (1, .int (nI k)), (2, .int (nI i)), (3, .int (nI f)), (4, .int (nI n))] → W p l e rmm_pack s m args below meth c H locs 0 0 Q (F0 m 43 ls []) := by
              intro n2
              induction n2 with
              | zero =>
                intro t K1 htn hc H locs hX ls hl
                have ht8 : t = n := by omega
                rw [ht8] at hc
                refine lv_iload hx hb dX1_pack_43 (lv_at hl 0 rfl) ?_
                refine lv_iload hx hb dX1_pack_45 (lv_at hl 5 rfl) ?_
                refine nv_icmp_ge (tgt := 84) hx hb (by omega) (by omega) dX1_pack_47 (by decide) (fun h6 => ?_) (fun h6 => ?_)
                · refine lv_aload_n hx hb dX1_pack_84 rfl (lv_at hl 1 rfl) ?_
                  refine mg_Y hx hb hts hown hK hX.1 dX1_pack_85 ?_
                  refine lv_iload_n hx hb dX1_pack_88 rfl (lv_at hl 2 rfl) ?_
                  refine lv_iload hx hb dX1_pack_89 (lv_at hl 5 rfl) ?_
                  refine ms_Y hx hb hK hX (by omega) dX1_pack_91 (fun H locs hX => ?_)
                  refine lv_iconst (v := 0) hx hb dX1_pack_92 (by decide) ?_
                  exact hret _ _ _ _ _ _ hX ⟨_, _, rfl, Or.inl ⟨k, i, f, n, ⟨hk, hi, hf, hn, hfn, rfl, rfl, rfl, rfl⟩, rfl, rfl, hc.1, fun q hq ho => hc.2 q hq (by omega)⟩⟩ dX1_pack_93
                · exact absurd h6 (by omega)
              | succ n2 ih =>
                intro t K1 htn hc H locs hX ls hl
                refine lv_iload hx hb dX1_pack_43 (lv_at hl 0 rfl) ?_
                refine lv_iload hx hb dX1_pack_45 (lv_at hl 5 rfl) ?_
                refine nv_icmp_ge (tgt := 84) hx hb (by omega) (by omega) dX1_pack_47 (by decide) (fun h6 => ?_) (fun h6 => ?_)
                · exact absurd h6 (by omega)
                · refine lv_aload_n hx hb dX1_pack_50 rfl (lv_at hl 1 rfl) ?_
                  refine lv_sipush (v := (nI 128)) hx hb dX1_pack_51 (by decide) ?_
                  refine lv_bipush (v := (nI 32)) hx hb dX1_pack_54 (by decide) ?_
                  refine lv_iload_n hx hb dX1_pack_56 rfl (lv_at hl 2 rfl) ?_
                  refine nv_imul hx hb dX1_pack_57 ?_
                  refine nv_iadd hx hb dX1_pack_58 ?_
                  refine lv_iconst (v := (nI 4)) hx hb dX1_pack_59 (by decide) ?_
                  refine lv_iload hx hb dX1_pack_60 (lv_at hl 0 rfl) ?_
                  refine nv_imul hx hb dX1_pack_62 ?_
                  refine nv_iadd hx hb dX1_pack_63 ?_
                  refine lv_bipush (v := (nI 32)) hx hb dX1_pack_64 (by decide) ?_
                  refine lv_iload_n hx hb dX1_pack_66 rfl (lv_at hl 3 rfl) ?_
                  refine nv_imul hx hb dX1_pack_67 ?_
                  refine lv_iconst (v := (nI 4)) hx hb dX1_pack_68 (by decide) ?_
                  refine lv_iload_n hx hb dX1_pack_69 rfl (lv_at hl 4 rfl) ?_
                  refine lv_iload hx hb dX1_pack_70 (lv_at hl 0 rfl) ?_
                  refine nv_iadd hx hb dX1_pack_72 ?_
                  refine nv_imul hx hb dX1_pack_73 ?_
                  refine nv_iadd hx hb dX1_pack_74 ?_
                  refine m_callv (As := [.int (nI ((128 + (32 * k)) + (4 * t))), .int (nI ((32 * i) + (4 * (f + t))))]) (rest := []) hx hb hml hown hts (met_copyPage l D h0 a d H.size K1 Y (128 + 32 * k + 4 * t) (32 * i + 4 * (f + t)) (by omega) (by omega) (by omega)) (cwV 2 hts (lw_V q150 q152 qs8 q11 q153) rfl rfl rfl (by decide +kernel) ⟨Nat.le_of_ble_eq_true rfl, Nat.le_of_ble_eq_true rfl⟩) hK hX hA rfl hl.1 rfl (Nat.le_of_ble_eq_true rfl) dX1_pack_75 ⟨Nat.zero_le _, Nat.zero_le _⟩ (fun g1 H locs hq hX => ?_)
                  subst hq
                  refine lv_iinc (v := (nI (t + 1))) (lv' := [(5, .int (nI (t + 1))), (0, .ref h0), (1, .int (nI k)), (2, .int (nI i)), (3, .int (nI f)), (4, .int (nI n))]) hx hb dX1_pack_78 hl (k := 0) rfl (nv_inc t) (by decide) rfl (fun ls hl => ?_)
                  refine lv_goto (tgt := 43) hx hb dX1_pack_81 (by decide) ?_
                  exact ih (t + 1) _ (by omega) (show sp_cpd K _ (32 * i + 4 * f) (128 + 32 * k) (4 * t + 4) from sp_cpd_step hc rfl (fun c hc => congrArg K1 (by omega)) (by omega) (fun c hc => by omega)) H locs hX ls (lv_sub hl [0, 1, 2, 3, 4, 5] rfl)
            exact loop n 0 K (by omega) (sp_cpd_0 K _ _) _ _ hX ls (lv_sub hl [0, 1, 2, 3, 4, 5] rfl)
          · refine lv_iconst (v := (-1)) hx hb dX1_pack_38 (by decide) ?_
            exact hret _ _ _ _ _ _ hX ⟨K, Y, rfl, Or.inr ⟨fun k i f n q => (sp_ft_x ⟨f, n, q.2.2.1, q.2.2.2.1, q.2.2.2.2.1, q.2.2.2.2.2.2.2.1, q.2.2.2.2.2.2.2.2⟩).2.2.2.2 (Int32.not_le.mp h5), rfl, rfl, rfl⟩⟩ dX1_pack_39
abbrev rmm_unpack : Room := { frames := 2, cells := 0, slots := 0, locals := 42 }
set_option maxHeartbeats 4000000 in
set_option maxRecDepth 100000 in
theorem mem_unpack (l : Launch) (D : va_G) (h0 : Nat) (a : Nat → Nat) (d : Nat → ClassId) (sz : Nat) (K : Nat → Int32) (Y : Nat → Nat) (hY : ∀ k, k < 4 → Y k ≤ 8) (x y z : Int32) (kp : Bool) : Met l yX1_unpack (ws_ yX1_unpack cX1_unpack 7 (some .int)) rmm_unpack (va_Pc [.ref h0, .int x, .int y, .int z, .int (sp_eb kp)] (sp_mS D h0 a d sz (K, Y))) (va_Qi (fun (r : Int32) (g1 : sp_mg) => ∃ (K1 : Nat → Int32) (Y1 : Nat → Nat), g1 = (K1, Y1) ∧ sp_unpack_s x y z kp r K K1 Y Y1) (sp_mB D (va_A (sp_mw h0 a d (K, Y)) sz) h0 a d) (va_A (sp_mw h0 a d (K, Y)) sz)) 0 0 (va_A (sp_mw h0 a d (K, Y)) sz) := by
  refine m_enti (As := [.int x, .int y, .int z, .int (sp_eb kp)]) (by decide) rfl (Nat.le_of_ble_eq_true rfl) ?_
  intro p e s m args below meth c A Q hx hb hml hown hts hK hA hX hret ls hl
  have hl : lv_has ls 7 [(0, .ref h0), (1, .int x), (2, .int y), (3, .int z), (4, .int (sp_eb kp))] := hl
  refine lv_iload_n hx hb dX1_unpack_0 rfl (lv_at hl 1 rfl) ?_
  refine lv_iconst (v := (nI 3)) hx hb dX1_unpack_1 (by decide) ?_
  refine st_call (As := [.int x, .int (nI 3)]) (rest := []) hx hb hml hown hts (met_outside l x (nI 3)) (va_cwS 2 hts (lw_S q139 q140 q11 q141) rfl rfl rfl (by decide +kernel) ⟨Nat.le_of_ble_eq_true rfl, Nat.le_of_ble_eq_true rfl⟩) rfl hl.1 rfl (Nat.le_of_ble_eq_true rfl) dX1_unpack_2 ⟨Nat.zero_le _, Nat.zero_le _⟩ (fun r hr => ?_)
  refine lv_if_ne (tgt := 38) hx hb dX1_unpack_5 (by decide) (fun h1 => ?_) (fun h1 => ?_)
  · refine lv_iconst (v := (-1)) hx hb dX1_unpack_38 (by decide) ?_
    exact hret _ _ _ _ _ _ hX ⟨K, Y, rfl, Or.inr ⟨fun k2 i2 f2 q => sp_k3n (sp_yes hr h1) ⟨k2, q.1, q.2.2.2.2.2.1⟩, rfl, rfl, rfl⟩⟩ dX1_unpack_39
  · refine lv_iload_n hx hb dX1_unpack_8 rfl (lv_at hl 2 rfl) ?_
    refine lv_iload_n hx hb dX1_unpack_9 rfl (lv_at hl 3 rfl) ?_
    refine st_call (As := [.int y, .int z]) (rest := []) hx hb hml hown hts (met_bad l y z) (va_cwS 2 hts (lw_S q136 q137 q11 q138) rfl rfl rfl (by decide +kernel) ⟨Nat.le_of_ble_eq_true rfl, Nat.le_of_ble_eq_true rfl⟩) rfl hl.1 rfl (Nat.le_of_ble_eq_true rfl) dX1_unpack_10 ⟨Nat.zero_le _, Nat.zero_le _⟩ (fun r2 hr2 => ?_)
    refine lv_if_ne (tgt := 38) hx hb dX1_unpack_13 (by decide) (fun h2 => ?_) (fun h2 => ?_)
    · refine lv_iconst (v := (-1)) hx hb dX1_unpack_38 (by decide) ?_
      exact hret _ _ _ _ _ _ hX ⟨K, Y, rfl, Or.inr ⟨fun k2 i2 f2 q => sp_yes hr2 h2 ⟨i2, f2, q.2.1, q.2.2.1, q.2.2.2.2.2.2.1, q.2.2.2.2.2.2.2⟩, rfl, rfl, rfl⟩⟩ dX1_unpack_39
    · obtain ⟨k, hk, rfl⟩ := sp_k3o (sp_no hr h1)
      obtain ⟨i, f, hi, hf, rfl, rfl⟩ := Classical.not_not.mp (sp_no hr2 h2)
      have hYk := hY k hk
      have hl : lv_has ls 7 [(0, .ref h0), (1, .int (nI k)), (2, .int (nI i)), (3, .int (nI f)), (4, .int (sp_eb kp))] := hl
      refine lv_aload_n hx hb dX1_unpack_16 rfl (lv_at hl 0 rfl) ?_
      refine mg_Y hx hb hts hown hK hX.1 dX1_unpack_17 ?_
      refine lv_iload_n hx hb dX1_unpack_20 rfl (lv_at hl 1 rfl) ?_
      refine ml_Y hx hb hK hX.1 (by omega) dX1_unpack_21 ?_
      refine nv_if_eq (tgt := 38) hx hb (by omega) dX1_unpack_22 (by decide) (fun h4 => ?_) (fun h4 => ?_)
      · refine lv_iconst (v := (-1)) hx hb dX1_unpack_38 (by decide) ?_
        exact hret _ _ _ _ _ _ hX ⟨K, Y, rfl, Or.inr ⟨fun k2 i2 f2 q => by
          obtain ⟨b1, b2, b3, b4, b5, b6, b7, b8⟩ := q
          have e1 : k = k2 := sp_nI_inj (by omega) (by omega) b6
          rw [← e1] at b4
          exact b4 h4, rfl, rfl, rfl⟩⟩ dX1_unpack_39
      · refine lv_iload_n hx hb dX1_unpack_25 rfl (lv_at hl 3 rfl) ?_
        refine lv_aload_n hx hb dX1_unpack_26 rfl (lv_at hl 0 rfl) ?_
        refine mg_Y hx hb hts hown hK hX.1 dX1_unpack_27 ?_
        refine lv_iload_n hx hb dX1_unpack_30 rfl (lv_at hl 1 rfl) ?_
        refine ml_Y hx hb hK hX.1 (by omega) dX1_unpack_31 ?_
        refine nv_iadd hx hb dX1_unpack_32 ?_
        refine lv_bipush (v := (nI 8)) hx hb dX1_unpack_33 (by decide) ?_
        refine nv_icmp_le (tgt := 40) hx hb (by omega) (by decide) dX1_unpack_35 (by decide) (fun h5 => ?_) (fun h5 => ?_)
        · refine lv_aload_n hx hb dX1_unpack_40 rfl (lv_at hl 0 rfl) ?_
          refine mg_Y hx hb hts hown hK hX.1 dX1_unpack_41 ?_
          refine lv_iload_n hx hb dX1_unpack_44 rfl (lv_at hl 1 rfl) ?_
          refine ml_Y hx hb hK hX.1 (by omega) dX1_unpack_45 ?_
          refine lv_istore (lv' := [(5, .int (nI (Y k))), (0, .ref h0), (1, .int (nI k)), (2, .int (nI i)), (3, .int (nI f)), (4, .int (sp_eb kp))]) hx hb dX1_unpack_46 hl (by decide) rfl (fun ls hl => ?_)
          refine lv_iconst (v := (nI 0)) hx hb dX1_unpack_48 (by decide) ?_
          refine lv_istore (lv' := [(6, .int (nI 0)), (5, .int (nI (Y k))), (0, .ref h0), (1, .int (nI k)), (2, .int (nI i)), (3, .int (nI f)), (4, .int (sp_eb kp))]) hx hb dX1_unpack_49 hl (by decide) rfl (fun ls hl => ?_)
          have loop : ∀ (n t : Nat) (K1 : Nat → Int32), t + n = Y k → sp_cpd K K1 (128 + 32 * k) (32 * i + 4 * f) (4 * t) → ∀ (H : Heap) (locs : List Loc), sp_mP D A h0 a d (K1, Y) s.heap H locs → ∀ ls : Array Slot, lv_has ls 7 [(6, .int (nI t)), (5, .int (nI (Y k))), (0, .ref h0), (1, .int (nI k)), (2, .int (nI i)), (3, .int (nI f)), (4, .int (sp_eb kp))] → W p l e rmm_unpack s m args below meth c H locs 0 0 Q (F0 m 51 ls []) := by
            intro n
            induction n with
            | zero =>
              intro t K1 htn hc H locs hX ls hl
              have ht8 : t = Y k := by omega
              rw [ht8] at hc
              refine lv_iload hx hb dX1_unpack_51 (lv_at hl 0 rfl) ?_
              refine lv_iload hx hb dX1_unpack_53 (lv_at hl 1 rfl) ?_
              refine nv_icmp_ge (tgt := 92) hx hb (by omega) (by omega) dX1_unpack_55 (by decide) (fun h6 => ?_) (fun h6 => ?_)
              · refine lv_iload hx hb dX1_unpack_92 (lv_at hl 6 rfl) ?_
                refine nv_if_ne_eb (tgt := 104) hx hb dX1_unpack_94 (by decide) (fun h7 => ?_) (fun h7 => ?_)
                · refine lv_iload hx hb dX1_unpack_104 (lv_at hl 1 rfl) ?_
                  refine hret _ _ _ _ _ _ hX ⟨_, _, rfl, ?_⟩ dX1_unpack_106
                  rw [h7]
                  refine Or.inl ⟨k, i, f, ⟨hk, hi, hf, by omega, h5, rfl, rfl, rfl⟩, rfl, rfl, hc.1, fun q hq ho => hc.2 q (by omega) ho, fun k2 hk2 q hq => ?_⟩
                  have h9 := hY k2 hk2
                  have hq : q < 4 * Y k2 := hq
                  exact hc.2 _ (by omega) (by omega)
                · refine lv_aload_n hx hb dX1_unpack_97 rfl (lv_at hl 2 rfl) ?_
                  refine mg_Y hx hb hts hown hK hX.1 dX1_unpack_98 ?_
                  refine lv_iload_n hx hb dX1_unpack_101 rfl (lv_at hl 3 rfl) ?_
                  refine lv_iconst (v := (nI 0)) hx hb dX1_unpack_102 (by decide) ?_
                  refine ms_Y hx hb hK hX (by omega) dX1_unpack_103 (fun H locs hX => ?_)
                  refine lv_iload hx hb dX1_unpack_104 (lv_at hl 1 rfl) ?_
                  refine hret _ _ _ _ _ _ hX ⟨_, _, rfl, ?_⟩ dX1_unpack_106
                  rw [h7]
                  refine Or.inl ⟨k, i, f, ⟨hk, hi, hf, by omega, h5, rfl, rfl, rfl⟩, rfl, rfl, hc.1, fun q hq ho => hc.2 q (by omega) ho, fun k2 hk2 q hq => ?_⟩
                  have hq : q < 4 * va_up Y k 0 k2 := hq
                  have h9 := hY k2 hk2
                  have h10 : va_up Y k 0 k2 ≤ Y k2 := by
                    by_cases e9 : k2 = k
                    · rw [e9, sp_us]
                      exact Nat.zero_le _
                    · rw [sp_un e9]
                      exact Nat.le_refl _
                  exact hc.2 _ (by omega) (by omega)
              · exact absurd h6 (by omega)
            | succ n ih =>
              intro t K1 htn hc H locs hX ls hl
              refine lv_iload hx hb dX1_unpack_51 (lv_at hl 0 rfl) ?_
              refine lv_iload hx hb dX1_unpack_53 (lv_at hl 1 rfl) ?_
              refine nv_icmp_ge (tgt := 92) hx hb (by omega) (by omega) dX1_unpack_55 (by decide) (fun h6 => ?_) (fun h6 => ?_)
              · exact absurd h6 (by omega)
              · refine lv_aload_n hx hb dX1_unpack_58 rfl (lv_at hl 2 rfl) ?_
                refine lv_bipush (v := (nI 32)) hx hb dX1_unpack_59 (by decide) ?_
                refine lv_iload_n hx hb dX1_unpack_61 rfl (lv_at hl 4 rfl) ?_
                refine nv_imul hx hb dX1_unpack_62 ?_
                refine lv_iconst (v := (nI 4)) hx hb dX1_unpack_63 (by decide) ?_
                refine lv_iload_n hx hb dX1_unpack_64 rfl (lv_at hl 5 rfl) ?_
                refine lv_iload hx hb dX1_unpack_65 (lv_at hl 0 rfl) ?_
                refine nv_iadd hx hb dX1_unpack_67 ?_
                refine nv_imul hx hb dX1_unpack_68 ?_
                refine nv_iadd hx hb dX1_unpack_69 ?_
                refine lv_sipush (v := (nI 128)) hx hb dX1_unpack_70 (by decide) ?_
                refine lv_bipush (v := (nI 32)) hx hb dX1_unpack_73 (by decide) ?_
                refine lv_iload_n hx hb dX1_unpack_75 rfl (lv_at hl 3 rfl) ?_
                refine nv_imul hx hb dX1_unpack_76 ?_
                refine nv_iadd hx hb dX1_unpack_77 ?_
                refine lv_iconst (v := (nI 4)) hx hb dX1_unpack_78 (by decide) ?_
                refine lv_iload hx hb dX1_unpack_79 (lv_at hl 0 rfl) ?_
                refine nv_imul hx hb dX1_unpack_81 ?_
                refine nv_iadd hx hb dX1_unpack_82 ?_
                refine m_callv (As := [.int (nI ((32 * i) + (4 * (f + t)))), .int (nI ((128 + (32 * k)) + (4 * t)))]) (rest := []) hx hb hml hown hts (met_copyPage l D h0 a d H.size K1 Y (32 * i + 4 * (f + t)) (128 + 32 * k + 4 * t) (by omega) (by omega) (by omega)) (cwV 2 hts (lw_V q150 q152 qs8 q11 q153) rfl rfl rfl (by decide +kernel) ⟨Nat.le_of_ble_eq_true rfl, Nat.le_of_ble_eq_true rfl⟩) hK hX hA rfl hl.1 rfl (Nat.le_of_ble_eq_true rfl) dX1_unpack_83 ⟨Nat.zero_le _, Nat.zero_le _⟩ (fun g1 H locs hq hX => ?_)
                subst hq
                refine lv_iinc (v := (nI (t + 1))) (lv' := [(6, .int (nI (t + 1))), (5, .int (nI (Y k))), (0, .ref h0), (1, .int (nI k)), (2, .int (nI i)), (3, .int (nI f)), (4, .int (sp_eb kp))]) hx hb dX1_unpack_86 hl (k := 0) rfl (nv_inc t) (by decide) rfl (fun ls hl => ?_)
                refine lv_goto (tgt := 51) hx hb dX1_unpack_89 (by decide) ?_
                exact ih (t + 1) _ (by omega) (show sp_cpd K _ (128 + 32 * k) (32 * i + 4 * f) (4 * t + 4) from sp_cpd_step hc (by omega) (fun c hc => rfl) (by omega) (fun c hc => by omega)) H locs hX ls (lv_sub hl [0, 1, 2, 3, 4, 5, 6] rfl)
          exact loop (Y k) 0 K (by omega) (sp_cpd_0 K _ _) _ _ hX ls (lv_sub hl [0, 1, 2, 3, 4, 5, 6] rfl)
        · refine lv_iconst (v := (-1)) hx hb dX1_unpack_38 (by decide) ?_
          exact hret _ _ _ _ _ _ hX ⟨K, Y, rfl, Or.inr ⟨fun k2 i2 f2 q => by
            obtain ⟨b1, b2, b3, b4, b5, b6, b7, b8⟩ := q
            have e1 : k = k2 := sp_nI_inj (by omega) (by omega) b6
            have e2 : f = f2 := sp_nI_inj (by omega) (by omega) b8
            rw [← e1, ← e2] at b5
            omega, rfl, rfl, rfl⟩⟩ dX1_unpack_39
abbrev rmm_exchange : Room := { frames := 2, cells := 0, slots := 0, locals := 42 }
set_option maxHeartbeats 4000000 in
set_option maxRecDepth 100000 in
theorem mem_exchange (l : Launch) (D : va_G) (h0 : Nat) (a : Nat → Nat) (d : Nat → ClassId) (sz : Nat) (K : Nat → Int32) (Y : Nat → Nat) (x y z : Int32) : Met l yX1_exchange (ws_ yX1_exchange cX1_exchange 4 (some .int)) rmm_exchange (va_Pc [.ref h0, .int x, .int y, .int z] (sp_mS D h0 a d sz (K, Y))) (va_Qi (fun (r : Int32) (g1 : sp_mg) => ∃ K1 : Nat → Int32, g1 = (K1, Y) ∧ sp_exchange_s x y z r K K1) (sp_mB D (va_A (sp_mw h0 a d (K, Y)) sz) h0 a d) (va_A (sp_mw h0 a d (K, Y)) sz)) 0 0 (va_A (sp_mw h0 a d (K, Y)) sz) := by
  refine m_enti (As := [.int x, .int y, .int z]) (by decide) rfl (Nat.le_of_ble_eq_true rfl) ?_
  intro p e s m args below meth c A Q hx hb hml hown hts hK hA hX hret ls hl
  have hl : lv_has ls 4 [(0, .ref h0), (1, .int x), (2, .int y), (3, .int z)] := hl
  refine lv_iload_n hx hb dX1_exchange_0 rfl (lv_at hl 1 rfl) ?_
  refine lv_iload_n hx hb dX1_exchange_1 rfl (lv_at hl 2 rfl) ?_
  refine st_call (As := [.int x, .int y]) (rest := []) hx hb hml hown hts (met_bad l x y) (va_cwS 2 hts (lw_S q136 q137 q11 q138) rfl rfl rfl (by decide +kernel) ⟨Nat.le_of_ble_eq_true rfl, Nat.le_of_ble_eq_true rfl⟩) rfl hl.1 rfl (Nat.le_of_ble_eq_true rfl) dX1_exchange_2 ⟨Nat.zero_le _, Nat.zero_le _⟩ (fun r hr => ?_)
  refine lv_if_ne (tgt := 16) hx hb dX1_exchange_5 (by decide) (fun h1 => ?_) (fun h1 => ?_)
  · refine lv_iconst (v := (-1)) hx hb dX1_exchange_16 (by decide) ?_
    exact hret _ _ _ _ _ _ hX ⟨K, rfl, Or.inr ⟨fun i a b q => sp_yes hr h1 ⟨i, a, q.1, q.2.1, q.2.2.2.1, q.2.2.2.2.1⟩, rfl, rfl⟩⟩ dX1_exchange_17
  · refine lv_iload_n hx hb dX1_exchange_8 rfl (lv_at hl 1 rfl) ?_
    refine lv_iload_n hx hb dX1_exchange_9 rfl (lv_at hl 3 rfl) ?_
    refine st_call (As := [.int x, .int z]) (rest := []) hx hb hml hown hts (met_bad l x z) (va_cwS 2 hts (lw_S q136 q137 q11 q138) rfl rfl rfl (by decide +kernel) ⟨Nat.le_of_ble_eq_true rfl, Nat.le_of_ble_eq_true rfl⟩) rfl hl.1 rfl (Nat.le_of_ble_eq_true rfl) dX1_exchange_10 ⟨Nat.zero_le _, Nat.zero_le _⟩ (fun r2 hr2 => ?_)
    refine lv_if_eq (tgt := 18) hx hb dX1_exchange_13 (by decide) (fun h2 => ?_) (fun h2 => ?_)
    · obtain ⟨i, j, hi, hj, rfl, rfl⟩ := Classical.not_not.mp (sp_no hr h1)
      obtain ⟨i2, k, hi2, hk, e2, rfl⟩ := Classical.not_not.mp (sp_no hr2 h2)
      have hl : lv_has ls 4 [(0, .ref h0), (1, .int (nI i)), (2, .int (nI j)), (3, .int (nI k))] := hl
      refine lv_aload_n hx hb dX1_exchange_18 rfl (lv_at hl 0 rfl) ?_
      refine lv_sipush (v := (nI 256)) hx hb dX1_exchange_19 (by decide) ?_
      refine lv_bipush (v := (nI 32)) hx hb dX1_exchange_22 (by decide) ?_
      refine lv_iload_n hx hb dX1_exchange_24 rfl (lv_at hl 1 rfl) ?_
      refine nv_imul hx hb dX1_exchange_25 ?_
      refine lv_iconst (v := (nI 4)) hx hb dX1_exchange_26 (by decide) ?_
      refine lv_iload_n hx hb dX1_exchange_27 rfl (lv_at hl 2 rfl) ?_
      refine nv_imul hx hb dX1_exchange_28 ?_
      refine nv_iadd hx hb dX1_exchange_29 ?_
      refine m_callv (As := [.int (nI 256), .int (nI ((32 * i) + (4 * j)))]) (rest := []) hx hb hml hown hts (met_copyPage l D h0 a d s.heap.size K Y 256 (32 * i + 4 * j) (by omega) (by omega) (by omega)) (cwV 2 hts (lw_V q150 q152 qs8 q11 q153) rfl rfl rfl (by decide +kernel) ⟨Nat.le_of_ble_eq_true rfl, Nat.le_of_ble_eq_true rfl⟩) hK hX hA rfl hl.1 rfl (Nat.le_of_ble_eq_true rfl) dX1_exchange_30 ⟨Nat.zero_le _, Nat.zero_le _⟩ (fun g1 H locs hq hX => ?_)
      subst hq
      obtain ⟨K1, e1⟩ : ∃ K1, K1 = fb_put K (fun c => K (32 * i + 4 * j + c)) 256 4 := ⟨_, rfl⟩
      rw [← e1] at hX
      refine lv_aload_n hx hb dX1_exchange_33 rfl (lv_at hl 0 rfl) ?_
      refine lv_bipush (v := (nI 32)) hx hb dX1_exchange_34 (by decide) ?_
      refine lv_iload_n hx hb dX1_exchange_36 rfl (lv_at hl 1 rfl) ?_
      refine nv_imul hx hb dX1_exchange_37 ?_
      refine lv_iconst (v := (nI 4)) hx hb dX1_exchange_38 (by decide) ?_
      refine lv_iload_n hx hb dX1_exchange_39 rfl (lv_at hl 2 rfl) ?_
      refine nv_imul hx hb dX1_exchange_40 ?_
      refine nv_iadd hx hb dX1_exchange_41 ?_
      refine lv_bipush (v := (nI 32)) hx hb dX1_exchange_42 (by decide) ?_
      refine lv_iload_n hx hb dX1_exchange_44 rfl (lv_at hl 1 rfl) ?_
      refine nv_imul hx hb dX1_exchange_45 ?_
      refine lv_iconst (v := (nI 4)) hx hb dX1_exchange_46 (by decide) ?_
      refine lv_iload_n hx hb dX1_exchange_47 rfl (lv_at hl 3 rfl) ?_
      refine nv_imul hx hb dX1_exchange_48 ?_
      refine nv_iadd hx hb dX1_exchange_49 ?_
      refine m_callv (As := [.int (nI ((32 * i) + (4 * j))), .int (nI ((32 * i) + (4 * k)))]) (rest := []) hx hb hml hown hts (met_copyPage l D h0 a d H.size K1 Y (32 * i + 4 * j) (32 * i + 4 * k) (by omega) (by omega) (by omega)) (cwV 2 hts (lw_V q150 q152 qs8 q11 q153) rfl rfl rfl (by decide +kernel) ⟨Nat.le_of_ble_eq_true rfl, Nat.le_of_ble_eq_true rfl⟩) hK hX hA rfl hl.1 rfl (Nat.le_of_ble_eq_true rfl) dX1_exchange_50 ⟨Nat.zero_le _, Nat.zero_le _⟩ (fun g1 H locs hq hX => ?_)
      subst hq
      obtain ⟨K2, e3⟩ : ∃ K2, K2 = fb_put K1 (fun c => K1 (32 * i + 4 * k + c)) (32 * i + 4 * j) 4 := ⟨_, rfl⟩
      rw [← e3] at hX
      refine lv_aload_n hx hb dX1_exchange_53 rfl (lv_at hl 0 rfl) ?_
      refine lv_bipush (v := (nI 32)) hx hb dX1_exchange_54 (by decide) ?_
      refine lv_iload_n hx hb dX1_exchange_56 rfl (lv_at hl 1 rfl) ?_
      refine nv_imul hx hb dX1_exchange_57 ?_
      refine lv_iconst (v := (nI 4)) hx hb dX1_exchange_58 (by decide) ?_
      refine lv_iload_n hx hb dX1_exchange_59 rfl (lv_at hl 3 rfl) ?_
      refine nv_imul hx hb dX1_exchange_60 ?_
      refine nv_iadd hx hb dX1_exchange_61 ?_
      refine lv_sipush (v := (nI 256)) hx hb dX1_exchange_62 (by decide) ?_
      refine m_callv (As := [.int (nI ((32 * i) + (4 * k))), .int (nI 256)]) (rest := []) hx hb hml hown hts (met_copyPage l D h0 a d H.size K2 Y (32 * i + 4 * k) 256 (by omega) (by omega) (by omega)) (cwV 2 hts (lw_V q150 q152 qs8 q11 q153) rfl rfl rfl (by decide +kernel) ⟨Nat.le_of_ble_eq_true rfl, Nat.le_of_ble_eq_true rfl⟩) hK hX hA rfl hl.1 rfl (Nat.le_of_ble_eq_true rfl) dX1_exchange_65 ⟨Nat.zero_le _, Nat.zero_le _⟩ (fun g1 H locs hq hX => ?_)
      subst hq
      refine lv_iconst (v := 0) hx hb dX1_exchange_68 (by decide) ?_
      exact hret _ _ _ _ _ _ hX ⟨_, rfl, Or.inl ⟨i, j, k, ⟨hi, hj, hk, rfl, rfl, rfl⟩, rfl, sp_xch_s hi hj hk K1 K2 _ e1 e3 rfl⟩⟩ dX1_exchange_69
    · refine lv_iconst (v := (-1)) hx hb dX1_exchange_16 (by decide) ?_
      exact hret _ _ _ _ _ _ hX ⟨K, rfl, Or.inr ⟨fun i a b q => sp_yes hr2 h2 ⟨i, b, q.1, q.2.2.1, q.2.2.2.1, q.2.2.2.2.2⟩, rfl, rfl⟩⟩ dX1_exchange_17
abbrev rmm_clear : Room := { frames := 2, cells := 0, slots := 0, locals := 42 }
set_option maxHeartbeats 4000000 in
set_option maxRecDepth 100000 in
theorem mem_clear (l : Launch) (D : va_G) (h0 : Nat) (a : Nat → Nat) (d : Nat → ClassId) (sz : Nat) (K : Nat → Int32) (Y : Nat → Nat) (x y : Int32) : Met l yX1_clear (ws_ yX1_clear cX1_clear 4 (some .int)) rmm_clear (va_Pc [.ref h0, .int x, .int y] (sp_mS D h0 a d sz (K, Y))) (va_Qi (fun (r : Int32) (g1 : sp_mg) => ∃ K1 : Nat → Int32, g1 = (K1, Y) ∧ sp_clear_s x y r K K1) (sp_mB D (va_A (sp_mw h0 a d (K, Y)) sz) h0 a d) (va_A (sp_mw h0 a d (K, Y)) sz)) 0 0 (va_A (sp_mw h0 a d (K, Y)) sz) := by
  refine m_enti (As := [.int x, .int y]) (by decide) rfl (Nat.le_of_ble_eq_true rfl) ?_
  intro p e s m args below meth c A Q hx hb hml hown hts hK hA hX hret ls hl
  have hl : lv_has ls 4 [(0, .ref h0), (1, .int x), (2, .int y)] := hl
  refine lv_iload_n hx hb dX1_clear_0 rfl (lv_at hl 1 rfl) ?_
  refine lv_iload_n hx hb dX1_clear_1 rfl (lv_at hl 2 rfl) ?_
  refine st_call (As := [.int x, .int y]) (rest := []) hx hb hml hown hts (met_bad l x y) (va_cwS 2 hts (lw_S q136 q137 q11 q138) rfl rfl rfl (by decide +kernel) ⟨Nat.le_of_ble_eq_true rfl, Nat.le_of_ble_eq_true rfl⟩) rfl hl.1 rfl (Nat.le_of_ble_eq_true rfl) dX1_clear_2 ⟨Nat.zero_le _, Nat.zero_le _⟩ (fun r hr => ?_)
  refine lv_if_eq (tgt := 10) hx hb dX1_clear_5 (by decide) (fun h1 => ?_) (fun h1 => ?_)
  · obtain ⟨i, j, hi, hj, rfl, rfl⟩ := Classical.not_not.mp (sp_no hr h1)
    have hl : lv_has ls 4 [(0, .ref h0), (1, .int (nI i)), (2, .int (nI j))] := hl
    refine lv_iconst (v := (nI 0)) hx hb dX1_clear_10 (by decide) ?_
    refine lv_istore_n (lv' := [(3, .int (nI 0)), (0, .ref h0), (1, .int (nI i)), (2, .int (nI j))]) hx hb dX1_clear_11 rfl hl (by decide) rfl (fun ls hl => ?_)
    have loop : ∀ (n t : Nat), t + n = 4 → ∀ (H : Heap) (locs : List Loc), sp_mP D A h0 a d (fb_put K (fun _ => 0) (32 * i + 4 * j) t, Y) s.heap H locs → ∀ ls : Array Slot, lv_has ls 4 [(3, .int (nI t)), (0, .ref h0), (1, .int (nI i)), (2, .int (nI j))] → W p l e rmm_clear s m args below meth c H locs 0 0 Q (F0 m 12 ls []) := by
      intro n
      induction n with
      | zero =>
        intro t htn H locs hX ls hl
        have ht4 : t = 4 := by omega
        subst ht4
        have hl : lv_has ls 4 [(3, .int (nI 4)), (0, .ref h0), (1, .int (nI i)), (2, .int (nI j))] := hl
        refine lv_iload_n hx hb dX1_clear_12 rfl (lv_at hl 0 rfl) ?_
        refine lv_iconst (v := (nI 4)) hx hb dX1_clear_13 (by decide) ?_
        refine nv_icmp_ge (tgt := 39) hx hb (by decide) (by decide) dX1_clear_14 (by decide) (fun h3 => ?_) (fun h3 => ?_)
        · refine lv_iconst (v := 0) hx hb dX1_clear_39 (by decide) ?_
          refine hret _ _ _ _ _ _ hX ⟨_, rfl, Or.inl ⟨i, j, ⟨hi, hj, rfl, rfl⟩, rfl, fun q hq => ?_, fun q hq ho => ?_⟩⟩ dX1_clear_40
          · rw [fb_put_in (by omega) (by omega)]
          · rw [fb_put_out (by omega)]
        · exact absurd h3 (by decide)
      | succ n ih =>
        intro t htn H locs hX ls hl
        refine lv_iload_n hx hb dX1_clear_12 rfl (lv_at hl 0 rfl) ?_
        refine lv_iconst (v := (nI 4)) hx hb dX1_clear_13 (by decide) ?_
        refine nv_icmp_ge (tgt := 39) hx hb (by omega) (by decide) dX1_clear_14 (by decide) (fun h3 => ?_) (fun h3 => ?_)
        · exact absurd h3 (by omega)
        · refine lv_aload_n hx hb dX1_clear_17 rfl (lv_at hl 1 rfl) ?_
          refine mg_K hx hb hts hown hK hX.1 dX1_clear_18 ?_
          refine lv_bipush (v := (nI 32)) hx hb dX1_clear_21 (by decide) ?_
          refine lv_iload_n hx hb dX1_clear_23 rfl (lv_at hl 2 rfl) ?_
          refine nv_imul hx hb dX1_clear_24 ?_
          refine lv_iconst (v := (nI 4)) hx hb dX1_clear_25 (by decide) ?_
          refine lv_iload_n hx hb dX1_clear_26 rfl (lv_at hl 3 rfl) ?_
          refine nv_imul hx hb dX1_clear_27 ?_
          refine nv_iadd hx hb dX1_clear_28 ?_
          refine lv_iload_n hx hb dX1_clear_29 rfl (lv_at hl 0 rfl) ?_
          refine nv_iadd hx hb dX1_clear_30 ?_
          refine lv_iconst (v := 0) hx hb dX1_clear_31 (by decide) ?_
          refine ms_K hx hb hK hX (by omega) dX1_clear_32 (fun H locs hX => ?_)
          refine lv_iinc (v := (nI (t + 1))) (lv' := [(3, .int (nI (t + 1))), (0, .ref h0), (1, .int (nI i)), (2, .int (nI j))]) hx hb dX1_clear_33 hl (k := 0) rfl (nv_inc t) (by decide) rfl (fun ls hl => ?_)
          refine lv_goto (tgt := 12) hx hb dX1_clear_36 (by decide) ?_
          have e4 := fb_put_succ K (fun _ => (0 : Int32)) (32 * i + 4 * j) t
          rw [e4] at hX
          exact ih (t + 1) (by omega) H locs hX ls (lv_sub hl [0, 1, 2, 3] rfl)
    have e0 : fb_put K (fun _ => (0 : Int32)) (32 * i + 4 * j) 0 = K := fb_put_0 _ _ _
    rw [← e0] at hX
    exact loop 4 0 rfl _ _ hX ls (lv_sub hl [0, 1, 2, 3] rfl)
  · refine lv_iconst (v := (-1)) hx hb dX1_clear_8 (by decide) ?_
    exact hret _ _ _ _ _ _ hX ⟨K, rfl, Or.inr ⟨fun i j q => sp_yes hr h1 ⟨i, j, q⟩, rfl, rfl⟩⟩ dX1_clear_9
abbrev rmm_size : Room := { frames := 2, cells := 0, slots := 0, locals := 42 }
set_option maxHeartbeats 4000000 in
set_option maxRecDepth 100000 in
theorem mem_size (l : Launch) (D : va_G) (h0 : Nat) (a : Nat → Nat) (d : Nat → ClassId) (K : Nat → Int32) (Y : Nat → Nat) (x : Int32) : Met l yX1_size (ws_ yX1_size cX1_size 2 (some .int)) rmm_size (va_Pc [.ref h0, .int x] (sp_mR D h0 a d (K, Y))) (vp_Si (fun r => sp_size_s x r Y)) 0 0 (fun _ => False) := by
  refine m_entr (As := [.int x]) (by decide) rfl (Nat.le_of_ble_eq_true rfl) ?_
  intro p e s m args below meth c Q hx hb hml hown hts hK hP hret ls hl
  have hl : lv_has ls 2 [(0, .ref h0), (1, .int x)] := hl
  refine lv_iload_n hx hb dX1_size_0 rfl (lv_at hl 1 rfl) ?_
  refine lv_iconst (v := (nI 3)) hx hb dX1_size_1 (by decide) ?_
  refine st_call (As := [.int x, .int (nI 3)]) (rest := []) hx hb hml hown hts (met_outside l x (nI 3)) (va_cwS 2 hts (lw_S q139 q140 q11 q141) rfl rfl rfl (by decide +kernel) ⟨Nat.le_of_ble_eq_true rfl, Nat.le_of_ble_eq_true rfl⟩) rfl hl.1 rfl (Nat.le_of_ble_eq_true rfl) dX1_size_2 ⟨Nat.zero_le _, Nat.zero_le _⟩ (fun r hr => ?_)
  refine lv_if_eq (tgt := 12) hx hb dX1_size_5 (by decide) (fun h1 => ?_) (fun h1 => ?_)
  · obtain ⟨k, hk, rfl⟩ := sp_k3o (sp_no hr h1)
    have hl : lv_has ls 2 [(0, .ref h0), (1, .int (nI k))] := hl
    refine lv_aload_n hx hb dX1_size_12 rfl (lv_at hl 0 rfl) ?_
    refine mg_Y hx hb hts hown hK hP dX1_size_13 ?_
    refine lv_iload_n hx hb dX1_size_16 rfl (lv_at hl 1 rfl) ?_
    refine ml_Y hx hb hK hP (by omega) dX1_size_17 ?_
    exact hret _ _ _ rfl (Or.inl ⟨k, hk, rfl, rfl⟩) dX1_size_18
  · refine lv_iconst (v := (-1)) hx hb dX1_size_8 (by decide) ?_
    refine lv_goto (tgt := 18) hx hb dX1_size_9 (by decide) ?_
    exact hret _ _ _ rfl (Or.inr ⟨fun k q => sp_k3n (sp_yes hr h1) ⟨k, q⟩, rfl⟩) dX1_size_18
abbrev rmm_peek : Room := { frames := 2, cells := 0, slots := 0, locals := 42 }
set_option maxHeartbeats 4000000 in
set_option maxRecDepth 100000 in
theorem mem_peek (l : Launch) (D : va_G) (h0 : Nat) (a : Nat → Nat) (d : Nat → ClassId) (K : Nat → Int32) (Y : Nat → Nat) (hY : ∀ k, k < 4 → Y k ≤ 8) (x y z : Int32) : Met l yX1_peek (ws_ yX1_peek cX1_peek 4 (some .int)) rmm_peek (va_Pc [.ref h0, .int x, .int y, .int z] (sp_mR D h0 a d (K, Y))) (vp_Si (fun r => sp_peek_s x y z r K Y)) 0 0 (fun _ => False) := by
  refine m_entr (As := [.int x, .int y, .int z]) (by decide) rfl (Nat.le_of_ble_eq_true rfl) ?_
  intro p e s m args below meth c Q hx hb hml hown hts hK hP hret ls hl
  have hl : lv_has ls 4 [(0, .ref h0), (1, .int x), (2, .int y), (3, .int z)] := hl
  refine lv_iload_n hx hb dX1_peek_0 rfl (lv_at hl 1 rfl) ?_
  refine lv_iconst (v := (nI 3)) hx hb dX1_peek_1 (by decide) ?_
  refine st_call (As := [.int x, .int (nI 3)]) (rest := []) hx hb hml hown hts (met_outside l x (nI 3)) (va_cwS 2 hts (lw_S q139 q140 q11 q141) rfl rfl rfl (by decide +kernel) ⟨Nat.le_of_ble_eq_true rfl, Nat.le_of_ble_eq_true rfl⟩) rfl hl.1 rfl (Nat.le_of_ble_eq_true rfl) dX1_peek_2 ⟨Nat.zero_le _, Nat.zero_le _⟩ (fun r hr => ?_)
  refine lv_if_ne (tgt := 30) hx hb dX1_peek_5 (by decide) (fun h1 => ?_) (fun h1 => ?_)
  · refine lv_iconst (v := 0) hx hb dX1_peek_30 (by decide) ?_
    exact hret _ _ _ rfl (Or.inr ⟨fun k2 p2 c2 q => sp_k3n (sp_yes hr h1) ⟨k2, q.1, q.2.2.2.1⟩, rfl⟩) dX1_peek_31
  · refine lv_iload_n hx hb dX1_peek_8 rfl (lv_at hl 2 rfl) ?_
    refine lv_if_lt (tgt := 30) hx hb dX1_peek_9 (by decide) (fun h3 => ?_) (fun h3 => ?_)
    · refine lv_iconst (v := 0) hx hb dX1_peek_30 (by decide) ?_
      exact hret _ _ _ rfl (Or.inr ⟨fun k2 p2 c2 q => by
        obtain ⟨b1, b2, b3, b4, b5, b6⟩ := q
        have := hY k2 b1
        rw [b5] at h3
        exact nI_pos (by omega) h3, rfl⟩) dX1_peek_31
    · obtain ⟨k, hk, rfl⟩ := sp_k3o (sp_no hr h1)
      obtain ⟨b, hb31, rfl⟩ := nI_of h3
      have hYk := hY k hk
      have hl : lv_has ls 4 [(0, .ref h0), (1, .int (nI k)), (2, .int (nI b)), (3, .int z)] := hl
      refine lv_iload_n hx hb dX1_peek_12 rfl (lv_at hl 2 rfl) ?_
      refine lv_aload_n hx hb dX1_peek_13 rfl (lv_at hl 0 rfl) ?_
      refine mg_Y hx hb hts hown hK hP dX1_peek_14 ?_
      refine lv_iload_n hx hb dX1_peek_17 rfl (lv_at hl 1 rfl) ?_
      refine ml_Y hx hb hK hP (by omega) dX1_peek_18 ?_
      refine nv_icmp_ge (tgt := 30) hx hb (by omega) (by omega) dX1_peek_19 (by decide) (fun h4 => ?_) (fun h4 => ?_)
      · refine lv_iconst (v := 0) hx hb dX1_peek_30 (by decide) ?_
        exact hret _ _ _ rfl (Or.inr ⟨fun k2 p2 c2 q => by
          obtain ⟨b1, b2, b3, b4, b5, b6⟩ := q
          have h9 := hY k2 b1
          have e1 : k = k2 := sp_nI_inj (by omega) (by omega) b4
          have e2 : b = p2 := sp_nI_inj (by omega) (by omega) b5
          rw [← e1, ← e2] at b2
          omega, rfl⟩) dX1_peek_31
      · refine lv_iload_n hx hb dX1_peek_22 rfl (lv_at hl 3 rfl) ?_
        refine lv_iconst (v := (nI 3)) hx hb dX1_peek_23 (by decide) ?_
        refine st_call (As := [.int z, .int (nI 3)]) (rest := []) hx hb hml hown hts (met_outside l z (nI 3)) (va_cwS 2 hts (lw_S q139 q140 q11 q141) rfl rfl rfl (by decide +kernel) ⟨Nat.le_of_ble_eq_true rfl, Nat.le_of_ble_eq_true rfl⟩) rfl hl.1 rfl (Nat.le_of_ble_eq_true rfl) dX1_peek_24 ⟨Nat.zero_le _, Nat.zero_le _⟩ (fun r2 hr2 => ?_)
        refine lv_if_eq (tgt := 32) hx hb dX1_peek_27 (by decide) (fun h6 => ?_) (fun h6 => ?_)
        · obtain ⟨z, hz, rfl⟩ := sp_k3o (sp_no hr2 h6)
          have hl : lv_has ls 4 [(0, .ref h0), (1, .int (nI k)), (2, .int (nI b)), (3, .int (nI z))] := hl
          refine lv_aload_n hx hb dX1_peek_32 rfl (lv_at hl 0 rfl) ?_
          refine mg_K hx hb hts hown hK hP dX1_peek_33 ?_
          refine lv_sipush (v := (nI 128)) hx hb dX1_peek_36 (by decide) ?_
          refine lv_bipush (v := (nI 32)) hx hb dX1_peek_39 (by decide) ?_
          refine lv_iload_n hx hb dX1_peek_41 rfl (lv_at hl 1 rfl) ?_
          refine nv_imul hx hb dX1_peek_42 ?_
          refine nv_iadd hx hb dX1_peek_43 ?_
          refine lv_iconst (v := (nI 4)) hx hb dX1_peek_44 (by decide) ?_
          refine lv_iload_n hx hb dX1_peek_45 rfl (lv_at hl 2 rfl) ?_
          refine nv_imul hx hb dX1_peek_46 ?_
          refine nv_iadd hx hb dX1_peek_47 ?_
          refine lv_iload_n hx hb dX1_peek_48 rfl (lv_at hl 3 rfl) ?_
          refine nv_iadd hx hb dX1_peek_49 ?_
          refine ml_K hx hb hK hP (by omega) dX1_peek_50 ?_
          exact hret _ _ _ rfl (Or.inl ⟨k, b, z, ⟨hk, h4, hz, rfl, rfl, rfl⟩, rfl⟩) dX1_peek_51
        · refine lv_iconst (v := 0) hx hb dX1_peek_30 (by decide) ?_
          exact hret _ _ _ rfl (Or.inr ⟨fun k2 p2 c2 q => sp_k3n (sp_yes hr2 h6) ⟨c2, q.2.2.1, q.2.2.2.2.2⟩, rfl⟩) dX1_peek_31
abbrev rmm_alike : Room := { frames := 2, cells := 0, slots := 0, locals := 42 }
set_option maxHeartbeats 4000000 in
set_option maxRecDepth 100000 in
theorem mem_alike (l : Launch) (D : va_G) (h0 : Nat) (a : Nat → Nat) (d : Nat → ClassId) (K : Nat → Int32) (Y : Nat → Nat) (x y : Int32) : Met l yX1_alike (ws_ yX1_alike cX1_alike 7 (some .int)) rmm_alike (va_Pc [.ref h0, .int x, .int y] (sp_mR D h0 a d (K, Y))) (vp_Si (fun r => sp_alike_s x y r K)) 0 0 (fun _ => False) := by
  refine m_entr (As := [.int x, .int y]) (by decide) rfl (Nat.le_of_ble_eq_true rfl) ?_
  intro p e s m args below meth c Q hx hb hml hown hts hK hP hret ls hl
  have hl : lv_has ls 7 [(0, .ref h0), (1, .int x), (2, .int y)] := hl
  refine lv_iload_n hx hb dX1_alike_0 rfl (lv_at hl 1 rfl) ?_
  refine lv_iconst (v := (nI 3)) hx hb dX1_alike_1 (by decide) ?_
  refine st_call (As := [.int x, .int (nI 3)]) (rest := []) hx hb hml hown hts (met_outside l x (nI 3)) (va_cwS 2 hts (lw_S q139 q140 q11 q141) rfl rfl rfl (by decide +kernel) ⟨Nat.le_of_ble_eq_true rfl, Nat.le_of_ble_eq_true rfl⟩) rfl hl.1 rfl (Nat.le_of_ble_eq_true rfl) dX1_alike_2 ⟨Nat.zero_le _, Nat.zero_le _⟩ (fun r hr => ?_)
  refine lv_if_ne (tgt := 16) hx hb dX1_alike_5 (by decide) (fun h1 => ?_) (fun h1 => ?_)
  · refine lv_iconst (v := (-1)) hx hb dX1_alike_16 (by decide) ?_
    exact hret _ _ _ rfl (Or.inr ⟨fun i j q => sp_k3n (sp_yes hr h1) ⟨i, q.1, q.2.2.1⟩, rfl⟩) dX1_alike_17
  · refine lv_iload_n hx hb dX1_alike_8 rfl (lv_at hl 2 rfl) ?_
    refine lv_iconst (v := (nI 3)) hx hb dX1_alike_9 (by decide) ?_
    refine st_call (As := [.int y, .int (nI 3)]) (rest := []) hx hb hml hown hts (met_outside l y (nI 3)) (va_cwS 2 hts (lw_S q139 q140 q11 q141) rfl rfl rfl (by decide +kernel) ⟨Nat.le_of_ble_eq_true rfl, Nat.le_of_ble_eq_true rfl⟩) rfl hl.1 rfl (Nat.le_of_ble_eq_true rfl) dX1_alike_10 ⟨Nat.zero_le _, Nat.zero_le _⟩ (fun r2 hr2 => ?_)
    refine lv_if_eq (tgt := 18) hx hb dX1_alike_13 (by decide) (fun h2 => ?_) (fun h2 => ?_)
    · obtain ⟨i, hi, rfl⟩ := sp_k3o (sp_no hr h1)
      obtain ⟨j, hj, rfl⟩ := sp_k3o (sp_no hr2 h2)
      have hl : lv_has ls 7 [(0, .ref h0), (1, .int (nI i)), (2, .int (nI j))] := hl
      refine lv_iconst (v := (nI 0)) hx hb dX1_alike_18 (by decide) ?_
      refine lv_istore_n (lv' := [(3, .int (nI 0)), (0, .ref h0), (1, .int (nI i)), (2, .int (nI j))]) hx hb dX1_alike_19 rfl hl (by decide) rfl (fun ls hl => ?_)
      refine lv_iconst (v := (nI 0)) hx hb dX1_alike_20 (by decide) ?_
      refine lv_istore (lv' := [(4, .int (nI 0)), (3, .int (nI 0)), (0, .ref h0), (1, .int (nI i)), (2, .int (nI j))]) hx hb dX1_alike_21 hl (by decide) rfl (fun ls hl => ?_)
      have loop : ∀ (n t : Nat), t + n = 8 → ∀ ls : Array Slot, lv_has ls 7 [(4, .int (nI t)), (3, .int (nI (fb_ct (sp_alk K i j) t))), (0, .ref h0), (1, .int (nI i)), (2, .int (nI j))] → W p l e rmm_alike s m args below meth c s.heap [] 0 0 Q (F0 m 23 ls []) := by
        intro n
        induction n with
        | zero =>
          intro t htn ls hl
          have ht8 : t = 8 := by omega
          subst ht8
          have hl : lv_has ls 7 [(4, .int (nI 8)), (3, .int (nI (fb_ct (sp_alk K i j) 8))), (0, .ref h0), (1, .int (nI i)), (2, .int (nI j))] := hl
          refine lv_iload hx hb dX1_alike_23 (lv_at hl 0 rfl) ?_
          refine lv_bipush (v := (nI 8)) hx hb dX1_alike_25 (by decide) ?_
          refine nv_icmp_ge (tgt := 102) hx hb (by decide) (by decide) dX1_alike_27 (by decide) (fun h3 => ?_) (fun h3 => ?_)
          · refine lv_iload_n hx hb dX1_alike_102 rfl (lv_at hl 1 rfl) ?_
            exact hret _ _ _ rfl (Or.inl ⟨i, j, ⟨hi, hj, rfl, rfl⟩, rfl⟩) dX1_alike_103
          · exact absurd h3 (by decide)
        | succ n ih =>
          intro t htn ls hl
          refine lv_iload hx hb dX1_alike_23 (lv_at hl 0 rfl) ?_
          refine lv_bipush (v := (nI 8)) hx hb dX1_alike_25 (by decide) ?_
          refine nv_icmp_ge (tgt := 102) hx hb (by omega) (by decide) dX1_alike_27 (by decide) (fun h3 => ?_) (fun h3 => ?_)
          · exact absurd h3 (by omega)
          · refine lv_iconst (v := (sp_eb true)) hx hb dX1_alike_30 (by decide) ?_
            refine lv_istore (lv' := [(5, .int (sp_eb true)), (4, .int (nI t)), (3, .int (nI (fb_ct (sp_alk K i j) t))), (0, .ref h0), (1, .int (nI i)), (2, .int (nI j))]) hx hb dX1_alike_31 hl (by decide) rfl (fun ls hl => ?_)
            refine lv_iconst (v := (nI 0)) hx hb dX1_alike_33 (by decide) ?_
            refine lv_istore (lv' := [(6, .int (nI 0)), (5, .int (sp_eb true)), (4, .int (nI t)), (3, .int (nI (fb_ct (sp_alk K i j) t))), (0, .ref h0), (1, .int (nI i)), (2, .int (nI j))]) hx hb dX1_alike_34 hl (by decide) rfl (fun ls hl => ?_)
            have inner : ∀ (n2 u : Nat) (b : Bool), u + n2 = 4 → (b = true ↔ ∀ c, c < u → K (32 * i + 4 * t + c) = K (32 * j + 4 * t + c)) → ∀ ls : Array Slot, lv_has ls 7 [(6, .int (nI u)), (5, .int (sp_eb b)), (4, .int (nI t)), (3, .int (nI (fb_ct (sp_alk K i j) t))), (0, .ref h0), (1, .int (nI i)), (2, .int (nI j))] → W p l e rmm_alike s m args below meth c s.heap [] 0 0 Q (F0 m 36 ls []) := by
              intro n2
              induction n2 with
              | zero =>
                intro u b hun hb2 ls hl
                have hu4 : u = 4 := by omega
                subst hu4
                rw [← sp_alk_iff] at hb2
                have hl : lv_has ls 7 [(6, .int (nI 4)), (5, .int (sp_eb b)), (4, .int (nI t)), (3, .int (nI (fb_ct (sp_alk K i j) t))), (0, .ref h0), (1, .int (nI i)), (2, .int (nI j))] := hl
                refine lv_iload hx hb dX1_alike_36 (lv_at hl 0 rfl) ?_
                refine lv_iconst (v := (nI 4)) hx hb dX1_alike_38 (by decide) ?_
                refine nv_icmp_ge (tgt := 88) hx hb (by decide) (by decide) dX1_alike_39 (by decide) (fun h4 => ?_) (fun h4 => ?_)
                · refine lv_iload hx hb dX1_alike_88 (lv_at hl 1 rfl) ?_
                  refine nv_if_eq_eb (tgt := 96) hx hb dX1_alike_90 (by decide) (fun h5 => ?_) (fun h5 => ?_)
                  · refine lv_iinc (v := (nI (t + 1))) (lv' := [(4, .int (nI (t + 1))), (6, .int (nI 4)), (5, .int (sp_eb b)), (3, .int (nI (fb_ct (sp_alk K i j) t))), (0, .ref h0), (1, .int (nI i)), (2, .int (nI j))]) hx hb dX1_alike_96 hl (k := 2) rfl (nv_inc t) (by decide) rfl (fun ls hl => ?_)
                    refine lv_goto (tgt := 23) hx hb dX1_alike_99 (by decide) ?_
                    have hct : fb_ct (sp_alk K i j) t = fb_ct (sp_alk K i j) (t + 1) := by
                      rw [fb_ct_succ, if_neg (fun q => by rw [hb2.mpr q] at h5; cases h5), Nat.add_zero]
                    rw [hct] at hl
                    exact ih (t + 1) (by omega) ls (lv_sub hl [0, 3, 4, 5, 6] rfl)
                  · refine lv_iinc (v := (nI ((fb_ct (sp_alk K i j) t) + 1))) (lv' := [(3, .int (nI ((fb_ct (sp_alk K i j) t) + 1))), (6, .int (nI 4)), (5, .int (sp_eb b)), (4, .int (nI t)), (0, .ref h0), (1, .int (nI i)), (2, .int (nI j))]) hx hb dX1_alike_93 hl (k := 3) rfl (nv_inc (fb_ct (sp_alk K i j) t)) (by decide) rfl (fun ls hl => ?_)
                    refine lv_iinc (v := (nI (t + 1))) (lv' := [(4, .int (nI (t + 1))), (3, .int (nI ((fb_ct (sp_alk K i j) t) + 1))), (6, .int (nI 4)), (5, .int (sp_eb b)), (0, .ref h0), (1, .int (nI i)), (2, .int (nI j))]) hx hb dX1_alike_96 hl (k := 3) rfl (nv_inc t) (by decide) rfl (fun ls hl => ?_)
                    refine lv_goto (tgt := 23) hx hb dX1_alike_99 (by decide) ?_
                    have hct : fb_ct (sp_alk K i j) t + 1 = fb_ct (sp_alk K i j) (t + 1) := by
                      rw [fb_ct_succ, if_pos (hb2.mp h5)]
                    rw [hct] at hl
                    exact ih (t + 1) (by omega) ls (lv_sub hl [0, 1, 4, 5, 6] rfl)
                · exact absurd h4 (by decide)
              | succ n2 ih2 =>
                intro u b hun hb2 ls hl
                refine lv_iload hx hb dX1_alike_36 (lv_at hl 0 rfl) ?_
                refine lv_iconst (v := (nI 4)) hx hb dX1_alike_38 (by decide) ?_
                refine nv_icmp_ge (tgt := 88) hx hb (by omega) (by decide) dX1_alike_39 (by decide) (fun h4 => ?_) (fun h4 => ?_)
                · exact absurd h4 (by omega)
                · refine lv_aload_n hx hb dX1_alike_42 rfl (lv_at hl 4 rfl) ?_
                  refine mg_K hx hb hts hown hK hP dX1_alike_43 ?_
                  refine lv_bipush (v := (nI 32)) hx hb dX1_alike_46 (by decide) ?_
                  refine lv_iload_n hx hb dX1_alike_48 rfl (lv_at hl 5 rfl) ?_
                  refine nv_imul hx hb dX1_alike_49 ?_
                  refine lv_iconst (v := (nI 4)) hx hb dX1_alike_50 (by decide) ?_
                  refine lv_iload hx hb dX1_alike_51 (lv_at hl 2 rfl) ?_
                  refine nv_imul hx hb dX1_alike_53 ?_
                  refine nv_iadd hx hb dX1_alike_54 ?_
                  refine lv_iload hx hb dX1_alike_55 (lv_at hl 0 rfl) ?_
                  refine nv_iadd hx hb dX1_alike_57 ?_
                  refine ml_K hx hb hK hP (by omega) dX1_alike_58 ?_
                  refine lv_aload_n hx hb dX1_alike_59 rfl (lv_at hl 4 rfl) ?_
                  refine mg_K hx hb hts hown hK hP dX1_alike_60 ?_
                  refine lv_bipush (v := (nI 32)) hx hb dX1_alike_63 (by decide) ?_
                  refine lv_iload_n hx hb dX1_alike_65 rfl (lv_at hl 6 rfl) ?_
                  refine nv_imul hx hb dX1_alike_66 ?_
                  refine lv_iconst (v := (nI 4)) hx hb dX1_alike_67 (by decide) ?_
                  refine lv_iload hx hb dX1_alike_68 (lv_at hl 2 rfl) ?_
                  refine nv_imul hx hb dX1_alike_70 ?_
                  refine nv_iadd hx hb dX1_alike_71 ?_
                  refine lv_iload hx hb dX1_alike_72 (lv_at hl 0 rfl) ?_
                  refine nv_iadd hx hb dX1_alike_74 ?_
                  refine ml_K hx hb hK hP (by omega) dX1_alike_75 ?_
                  refine lv_icmp_eq (tgt := 82) hx hb dX1_alike_76 (by decide) (fun h5 => ?_) (fun h5 => ?_)
                  · refine lv_iinc (v := (nI (u + 1))) (lv' := [(6, .int (nI (u + 1))), (5, .int (sp_eb b)), (4, .int (nI t)), (3, .int (nI (fb_ct (sp_alk K i j) t))), (0, .ref h0), (1, .int (nI i)), (2, .int (nI j))]) hx hb dX1_alike_82 hl (k := 0) rfl (nv_inc u) (by decide) rfl (fun ls hl => ?_)
                    refine lv_goto (tgt := 36) hx hb dX1_alike_85 (by decide) ?_
                    refine ih2 (u + 1) b (by omega) ?_ ls (lv_sub hl [0, 1, 2, 3, 4, 5, 6] rfl)
                    rw [hb2]
                    constructor
                    · intro q c hc
                      by_cases e : c = u
                      · rw [e]; exact h5
                      · exact q c (by omega)
                    · intro q c hc
                      exact q c (by omega)
                  · refine lv_iconst (v := (sp_eb false)) hx hb dX1_alike_79 (by decide) ?_
                    refine lv_istore (lv' := [(5, .int (sp_eb false)), (6, .int (nI u)), (4, .int (nI t)), (3, .int (nI (fb_ct (sp_alk K i j) t))), (0, .ref h0), (1, .int (nI i)), (2, .int (nI j))]) hx hb dX1_alike_80 hl (by decide) rfl (fun ls hl => ?_)
                    refine lv_iinc (v := (nI (u + 1))) (lv' := [(6, .int (nI (u + 1))), (5, .int (sp_eb false)), (4, .int (nI t)), (3, .int (nI (fb_ct (sp_alk K i j) t))), (0, .ref h0), (1, .int (nI i)), (2, .int (nI j))]) hx hb dX1_alike_82 hl (k := 1) rfl (nv_inc u) (by decide) rfl (fun ls hl => ?_)
                    refine lv_goto (tgt := 36) hx hb dX1_alike_85 (by decide) ?_
                    refine ih2 (u + 1) false (by omega) ?_ ls (lv_sub hl [0, 1, 2, 3, 4, 5, 6] rfl)
                    constructor
                    · intro q
                      cases q
                    · intro q
                      exact absurd (q u (by omega)) h5
            exact inner 4 0 true rfl ⟨fun _ c hc => absurd hc (Nat.not_lt_zero _), fun _ => rfl⟩ ls (lv_sub hl [0, 1, 2, 3, 4, 5, 6] rfl)
      exact loop 8 0 rfl ls (lv_sub hl [0, 1, 2, 3, 4] rfl)
    · refine lv_iconst (v := (-1)) hx hb dX1_alike_16 (by decide) ?_
      exact hret _ _ _ rfl (Or.inr ⟨fun i j q => sp_k3n (sp_yes hr2 h2) ⟨j, q.2.1, q.2.2.2⟩, rfl⟩) dX1_alike_17
end
section
/-! the two constructors (written by gen/inits.py) -/
def sp_a7 {α : Type} (q0 q1 q2 q3 q4 q5 q6 : α) (k : Nat) : α := match k with
  | 0 => q0
  | 1 => q1
  | 2 => q2
  | 3 => q3
  | 4 => q4
  | 5 => q5
  | _ => q6
def sp_a2 {α : Type} (q0 q1 : α) (k : Nat) : α := match k with
  | 0 => q0
  | _ => q1
/-- the pages when i of them have been set to none -/
def sp_O0 (i : Nat) : Nat → Option Nat := fun j => if j < i then none else some 0
theorem sp_O0_0 : (fun _ => some 0 : Nat → Option Nat) = sp_O0 0 := funext fun j => (if_neg (Nat.not_lt_zero j)).symm
theorem sp_O0_up (i : Nat) : va_up (sp_O0 i) i none = sp_O0 (i + 1) := by
  funext j
  unfold va_up sp_O0
  by_cases e : j = i
  · rw [if_pos e, if_pos (by omega)]
  · rw [if_neg e]
    by_cases h : j < i
    · rw [if_pos h, if_pos (by omega)]
    · rw [if_neg h, if_neg (by omega)]
def sp_g0 : sp_xg := (sp_O0 64, fun _ => 0, fun _ => false, fun _ => 0, fun _ => 0, fun _ => some 0, fun _ => 0)
theorem sp_g0_ok : sp_XI sp_g0 (fun _ => 0) (fun _ => 0) := ⟨_, _, _, _, _, _, rfl, sp_start (fun p hp => if_pos hp), sp_Fd_start⟩
abbrev sp_n7 : List Value := [.null, .null, .null, .null, .null, .null, .null]
abbrev sp_n2 : List Value := [.null, .null]
section INITS
variable {p : Program} {l : Launch} {e : Env} {R : Room} {s : State} {m : MethodId} {args : Array Value} {below : List Frame} {meth : Method} {c : Code} {cells slots : Nat} {Q : State → Prop} {D : va_G} {A : Nat → Prop} {h0 : Nat} {a : Nat → Nat} {d : Nat → ClassId}
set_option maxHeartbeats 4000000 in
set_option maxRecDepth 100000 in
theorem sp_init_loop (hx : p.tables.exec = Jvm.exec) (hb : c.code = cX0_init) (hown : s.vm.findClass RX0 = some m.cls) (hts : ∀ w ∈ lw_all, w.before args s = true) (hK : va_K D vwCl (sp_xt d) s) (hend : ∀ (H : Heap) (locs : List Loc) (ls : Array Slot), sp_xP D A h0 a d sp_g0 s.heap H locs → W p l e R s m args below meth c H locs cells slots Q (F0 m 85 ls [])) : ∀ (n i : Nat), i + n = 64 → ∀ (H : Heap) (locs : List Loc), sp_xP D A h0 a d (sp_O0 i, fun _ => 0, fun _ => false, fun _ => 0, fun _ => 0, fun _ => some 0, fun _ => 0) s.heap H locs → ∀ ls : Array Slot, lv_has ls 2 [(1, .int (nI i)), (0, .ref h0)] → W p l e R s m args below meth c H locs cells slots Q (F0 m 66 ls []) := by
  intro n
  induction n with
  | zero =>
    intro i hin H locs hX ls hl
    have hi64 : i = 64 := by omega
    subst hi64
    refine lv_iload_n hx hb dX0_init_66 rfl (lv_at hl 0 rfl) ?_
    refine lv_bipush (v := (nI 64)) hx hb dX0_init_67 (by decide) ?_
    refine nv_icmp_ge (tgt := 85) hx hb (by decide) (by decide) dX0_init_69 (by decide) (fun h1 => ?_) (fun h1 => ?_)
    · exact hend _ _ _ hX
    · exact absurd h1 (by decide)
  | succ n ih =>
    intro i hin H locs hX ls hl
    refine lv_iload_n hx hb dX0_init_66 rfl (lv_at hl 0 rfl) ?_
    refine lv_bipush (v := (nI 64)) hx hb dX0_init_67 (by decide) ?_
    refine nv_icmp_ge (tgt := 85) hx hb (by omega) (by decide) dX0_init_69 (by decide) (fun h1 => ?_) (fun h1 => ?_)
    · exact absurd h1 (by omega)
    · refine lv_aload_n hx hb dX0_init_72 rfl (lv_at hl 1 rfl) ?_
      refine xg_O hx hb hts hown hK hX.1 dX0_init_73 ?_
      refine lv_iload_n hx hb dX0_init_76 rfl (lv_at hl 0 rfl) ?_
      refine lv_iconst (v := (sp_eo none)) hx hb dX0_init_77 (by decide) ?_
      refine xs_O hx hb hK hX (by omega) dX0_init_78 (fun H locs hX => ?_)
      refine lv_iinc (v := (nI (i + 1))) (lv' := [(1, .int (nI (i + 1))), (0, .ref h0)]) hx hb dX0_init_79 hl (k := 0) rfl (nv_inc i) (by decide) rfl (fun ls hl => ?_)
      refine lv_goto (tgt := 66) hx hb dX0_init_82 (by decide) ?_
      rw [sp_O0_up] at hX
      exact ih (i + 1) (by omega) H locs hX ls (lv_sub hl [0, 1] rfl)
end INITS
abbrev rm_init : Room := { frames := 1, cells := 7, slots := 1108, locals := 12 }
set_option maxHeartbeats 4000000 in
set_option maxRecDepth 100000 in
theorem met_xinit (l : Launch) (D : va_G) (h0 sz : Nat) : Met l yX0_init (ws_ yX0_init cX0_init 2 none) rm_init (va_Pc [.ref h0] (fun U => U.heap.size = sz ∧ va_P D vwCl [(h0, .inr (0, sp_n7))] U.heap ∧ va_K D vwCl [] U ∧ va_D (fun _ => True) [(h0, .inr (0, sp_n7))])) (va_Qv (fun _ : Unit => True) (fun _ t => ∃ (a : Nat → Nat) (d : Nat → ClassId), va_P D vwCl (sp_xw h0 a d sp_g0) t.heap ∧ va_K D vwCl (sp_xt d) t ∧ va_D (va_A [(h0, .inr (0, sp_n7))] sz) (sp_xw h0 a d sp_g0)) (va_A [(h0, .inr (0, sp_n7))] sz)) 7 1108 (va_A [(h0, .inr (0, sp_n7))] sz) := by
  refine Met.ofW (cc := cX0_init) (maxL := 2) (ret := none) (by decide) rfl ?_
  intro p e s m args below meth c s₁ B hml hv
  obtain ⟨rfl, hsz, hP, hK, hD0⟩ := hv
  have hx := B.exec
  have hb := B.bytes
  have hr := B.returns
  have hts := atoms_spec (ws := ws_ yX0_init cX0_init 2 none) B.pre
  have hts : ∀ w ∈ lw_all, w.before _ s = true := fun w h => hts w (List.mem_cons_of_mem _ h)
  have hown : s.vm.findClass RX0 = some m.cls := findClass_of_methodNamed B.named
  have hlocks := B.notSynchronized
  have hin : meth.name = "<init>" := (name_of_methodNamed B.named B.method).1
  subst hsz
  have hD := hD0.self (sz := s.heap.size)
  generalize hAe : va_A [(h0, .inr (0, sp_n7))] s.heap.size = A at hD ⊢
  have hA : ∀ q : Nat, s.heap.size ≤ q → A q := fun q h => by rw [← hAe]; exact Or.inr h
  have hS : va_S A s.heap s.heap [] := va_S.rf
  have hl := lv_entry ([.ref h0]) (n := 2) (Nat.le_of_ble_eq_true rfl)
  rw [lg_entry_eq]
  generalize (lg_sl ([.ref h0]) ++ List.replicate (2 - (lg_sl ([.ref h0])).length) Slot.unset).toArray = ls at hl ⊢
  have hl : lv_has ls 2 [(0, .ref h0)] := hl
  refine lv_aload_n hx hb dX0_init_0 rfl (lv_at hl 0 rfl) ?_
  refine W.objInit hx hb hown (hts _ q17) (hts _ q18) (hts _ q19) rfl (by rw [hml]; exact hl.1) rfl dX0_init_1 (Nat.le_of_ble_eq_true rfl) (Nat.le_of_ble_eq_true rfl) ?_
  refine W.eq (g2 := F0 m 4 ls []) rfl ?_
  refine lv_aload_n hx hb dX0_init_4 rfl (lv_at hl 0 rfl) ?_
  refine lv_bipush (v := (nI 64)) hx hb dX0_init_5 (by decide) ?_
  refine va_newa (atype := .int) (n := nI 64) (N' := 64) (a0 := (64, .inl (fun j => sp_eo ((fun _ => some 0) j)))) (ty := .int) hx hb (hts _ q42) rfl hK hP hD hS hA (fun _ => rfl) (by decide) (by decide) (Nat.le_of_ble_eq_true rfl) (Nat.le_of_ble_eq_true rfl) (Nat.le_of_ble_eq_true rfl) dX0_init_7 (fun q0 cA0 H hK hP hD hS => ?_)
  have hP : va_P D vwCl [(h0, .inr (0, [.null, .null, .null, .null, .null, .null, .null])), (q0, .inl (cA0, 64, .inl (fun j => sp_eo ((fun _ => some 0) j))))] H := hP
  have hD : va_D A [(h0, .inr (0, [.null, .null, .null, .null, .null, .null, .null])), (q0, .inl (cA0, 64, .inl (fun j => sp_eo ((fun _ => some 0) j))))] := hD
  have hK : va_K D vwCl [(cA0, .int)] s := hK
  refine va_putF (D := D) (ci := 0) (v := .ref q0) (ty := .array .int) (C := RX0) (T := TX0) (N := 7) hx hb hts in_X0 tyX0 tyX0_ok nmX0 hown hK hP hD hS 0 rfl rfl 0 (by decide) (hts _ q20) (fun _ h9 => h9) rfl hin rfl (by decide +kernel) rfl rfl (Nat.le_of_ble_eq_true rfl) dX0_init_9 (fun H locs hP hD hS => ?_)
  have hP : va_P D vwCl [(h0, .inr (0, [.ref q0, .null, .null, .null, .null, .null, .null])), (q0, .inl (cA0, 64, .inl (fun j => sp_eo ((fun _ => some 0) j))))] H := hP
  have hD : va_D A [(h0, .inr (0, [.ref q0, .null, .null, .null, .null, .null, .null])), (q0, .inl (cA0, 64, .inl (fun j => sp_eo ((fun _ => some 0) j))))] := hD
  refine lv_aload_n hx hb dX0_init_12 rfl (lv_at hl 0 rfl) ?_
  refine lv_iconst (v := (nI 4)) hx hb dX0_init_13 (by decide) ?_
  refine va_newa (atype := .int) (n := nI 4) (N' := 4) (a0 := (4, .inl (fun j => nI ((fun _ => 0) j)))) (ty := .int) hx hb (hts _ q42) rfl hK hP hD hS hA (fun _ => rfl) (by decide) (by decide) (Nat.le_of_ble_eq_true rfl) (Nat.le_of_ble_eq_true rfl) (Nat.le_of_ble_eq_true rfl) dX0_init_14 (fun q1 cA1 H hK hP hD hS => ?_)
  have hP : va_P D vwCl [(h0, .inr (0, [.ref q0, .null, .null, .null, .null, .null, .null])), (q0, .inl (cA0, 64, .inl (fun j => sp_eo ((fun _ => some 0) j)))), (q1, .inl (cA1, 4, .inl (fun j => nI ((fun _ => 0) j))))] H := hP
  have hD : va_D A [(h0, .inr (0, [.ref q0, .null, .null, .null, .null, .null, .null])), (q0, .inl (cA0, 64, .inl (fun j => sp_eo ((fun _ => some 0) j)))), (q1, .inl (cA1, 4, .inl (fun j => nI ((fun _ => 0) j))))] := hD
  have hK : va_K D vwCl [(cA0, .int), (cA1, .int)] s := hK
  refine va_putF (D := D) (ci := 0) (v := .ref q1) (ty := .array .int) (C := RX0) (T := TX0) (N := 7) hx hb hts in_X0 tyX0 tyX0_ok nmX0 hown hK hP hD hS 0 rfl rfl 1 (by decide) (hts _ q21) (fun _ h9 => h9) rfl hin rfl (by decide +kernel) rfl rfl (Nat.le_of_ble_eq_true rfl) dX0_init_16 (fun H locs hP hD hS => ?_)
  have hP : va_P D vwCl [(h0, .inr (0, [.ref q0, .ref q1, .null, .null, .null, .null, .null])), (q0, .inl (cA0, 64, .inl (fun j => sp_eo ((fun _ => some 0) j)))), (q1, .inl (cA1, 4, .inl (fun j => nI ((fun _ => 0) j))))] H := hP
  have hD : va_D A [(h0, .inr (0, [.ref q0, .ref q1, .null, .null, .null, .null, .null])), (q0, .inl (cA0, 64, .inl (fun j => sp_eo ((fun _ => some 0) j)))), (q1, .inl (cA1, 4, .inl (fun j => nI ((fun _ => 0) j))))] := hD
  refine lv_aload_n hx hb dX0_init_19 rfl (lv_at hl 0 rfl) ?_
  refine lv_sipush (v := (nI 130)) hx hb dX0_init_20 (by decide) ?_
  refine va_newa (atype := .boolean) (n := nI 130) (N' := 130) (a0 := (130, .inl (fun j => sp_eb ((fun _ => false) j)))) (ty := .boolean) hx hb (hts _ q43) rfl hK hP hD hS hA (fun _ => rfl) (by decide) (by decide) (Nat.le_of_ble_eq_true rfl) (Nat.le_of_ble_eq_true rfl) (Nat.le_of_ble_eq_true rfl) dX0_init_23 (fun q2 cA2 H hK hP hD hS => ?_)
  have hP : va_P D vwCl [(h0, .inr (0, [.ref q0, .ref q1, .null, .null, .null, .null, .null])), (q0, .inl (cA0, 64, .inl (fun j => sp_eo ((fun _ => some 0) j)))), (q1, .inl (cA1, 4, .inl (fun j => nI ((fun _ => 0) j)))), (q2, .inl (cA2, 130, .inl (fun j => sp_eb ((fun _ => false) j))))] H := hP
  have hD : va_D A [(h0, .inr (0, [.ref q0, .ref q1, .null, .null, .null, .null, .null])), (q0, .inl (cA0, 64, .inl (fun j => sp_eo ((fun _ => some 0) j)))), (q1, .inl (cA1, 4, .inl (fun j => nI ((fun _ => 0) j)))), (q2, .inl (cA2, 130, .inl (fun j => sp_eb ((fun _ => false) j))))] := hD
  have hK : va_K D vwCl [(cA0, .int), (cA1, .int), (cA2, .boolean)] s := hK
  refine va_putF (D := D) (ci := 0) (v := .ref q2) (ty := .array .boolean) (C := RX0) (T := TX0) (N := 7) hx hb hts in_X0 tyX0 tyX0_ok nmX0 hown hK hP hD hS 0 rfl rfl 2 (by decide) (hts _ q22) (fun _ h9 => h9) rfl hin rfl (by decide +kernel) rfl rfl (Nat.le_of_ble_eq_true rfl) dX0_init_25 (fun H locs hP hD hS => ?_)
  have hP : va_P D vwCl [(h0, .inr (0, [.ref q0, .ref q1, .ref q2, .null, .null, .null, .null])), (q0, .inl (cA0, 64, .inl (fun j => sp_eo ((fun _ => some 0) j)))), (q1, .inl (cA1, 4, .inl (fun j => nI ((fun _ => 0) j)))), (q2, .inl (cA2, 130, .inl (fun j => sp_eb ((fun _ => false) j))))] H := hP
  have hD : va_D A [(h0, .inr (0, [.ref q0, .ref q1, .ref q2, .null, .null, .null, .null])), (q0, .inl (cA0, 64, .inl (fun j => sp_eo ((fun _ => some 0) j)))), (q1, .inl (cA1, 4, .inl (fun j => nI ((fun _ => 0) j)))), (q2, .inl (cA2, 130, .inl (fun j => sp_eb ((fun _ => false) j))))] := hD
  refine lv_aload_n hx hb dX0_init_28 rfl (lv_at hl 0 rfl) ?_
  refine lv_sipush (v := (nI 130)) hx hb dX0_init_29 (by decide) ?_
  refine va_newa (atype := .int) (n := nI 130) (N' := 130) (a0 := (130, .inl (fun j => nI ((fun _ => 0) j)))) (ty := .int) hx hb (hts _ q42) rfl hK hP hD hS hA (fun _ => rfl) (by decide) (by decide) (Nat.le_of_ble_eq_true rfl) (Nat.le_of_ble_eq_true rfl) (Nat.le_of_ble_eq_true rfl) dX0_init_32 (fun q3 cA3 H hK hP hD hS => ?_)
  have hP : va_P D vwCl [(h0, .inr (0, [.ref q0, .ref q1, .ref q2, .null, .null, .null, .null])), (q0, .inl (cA0, 64, .inl (fun j => sp_eo ((fun _ => some 0) j)))), (q1, .inl (cA1, 4, .inl (fun j => nI ((fun _ => 0) j)))), (q2, .inl (cA2, 130, .inl (fun j => sp_eb ((fun _ => false) j)))), (q3, .inl (cA3, 130, .inl (fun j => nI ((fun _ => 0) j))))] H := hP
  have hD : va_D A [(h0, .inr (0, [.ref q0, .ref q1, .ref q2, .null, .null, .null, .null])), (q0, .inl (cA0, 64, .inl (fun j => sp_eo ((fun _ => some 0) j)))), (q1, .inl (cA1, 4, .inl (fun j => nI ((fun _ => 0) j)))), (q2, .inl (cA2, 130, .inl (fun j => sp_eb ((fun _ => false) j)))), (q3, .inl (cA3, 130, .inl (fun j => nI ((fun _ => 0) j))))] := hD
  have hK : va_K D vwCl [(cA0, .int), (cA1, .int), (cA2, .boolean), (cA3, .int)] s := hK
  refine va_putF (D := D) (ci := 0) (v := .ref q3) (ty := .array .int) (C := RX0) (T := TX0) (N := 7) hx hb hts in_X0 tyX0 tyX0_ok nmX0 hown hK hP hD hS 0 rfl rfl 3 (by decide) (hts _ q23) (fun _ h9 => h9) rfl hin rfl (by decide +kernel) rfl rfl (Nat.le_of_ble_eq_true rfl) dX0_init_34 (fun H locs hP hD hS => ?_)
  have hP : va_P D vwCl [(h0, .inr (0, [.ref q0, .ref q1, .ref q2, .ref q3, .null, .null, .null])), (q0, .inl (cA0, 64, .inl (fun j => sp_eo ((fun _ => some 0) j)))), (q1, .inl (cA1, 4, .inl (fun j => nI ((fun _ => 0) j)))), (q2, .inl (cA2, 130, .inl (fun j => sp_eb ((fun _ => false) j)))), (q3, .inl (cA3, 130, .inl (fun j => nI ((fun _ => 0) j))))] H := hP
  have hD : va_D A [(h0, .inr (0, [.ref q0, .ref q1, .ref q2, .ref q3, .null, .null, .null])), (q0, .inl (cA0, 64, .inl (fun j => sp_eo ((fun _ => some 0) j)))), (q1, .inl (cA1, 4, .inl (fun j => nI ((fun _ => 0) j)))), (q2, .inl (cA2, 130, .inl (fun j => sp_eb ((fun _ => false) j)))), (q3, .inl (cA3, 130, .inl (fun j => nI ((fun _ => 0) j))))] := hD
  refine lv_aload_n hx hb dX0_init_37 rfl (lv_at hl 0 rfl) ?_
  refine lv_sipush (v := (nI 520)) hx hb dX0_init_38 (by decide) ?_
  refine va_newa (atype := .int) (n := nI 520) (N' := 520) (a0 := (520, .inl (fun _ => 0))) (ty := .int) hx hb (hts _ q42) rfl hK hP hD hS hA (fun _ => rfl) (by decide) (by decide) (Nat.le_of_ble_eq_true rfl) (Nat.le_of_ble_eq_true rfl) (Nat.le_of_ble_eq_true rfl) dX0_init_41 (fun q4 cA4 H hK hP hD hS => ?_)
  have hP : va_P D vwCl [(h0, .inr (0, [.ref q0, .ref q1, .ref q2, .ref q3, .null, .null, .null])), (q0, .inl (cA0, 64, .inl (fun j => sp_eo ((fun _ => some 0) j)))), (q1, .inl (cA1, 4, .inl (fun j => nI ((fun _ => 0) j)))), (q2, .inl (cA2, 130, .inl (fun j => sp_eb ((fun _ => false) j)))), (q3, .inl (cA3, 130, .inl (fun j => nI ((fun _ => 0) j)))), (q4, .inl (cA4, 520, .inl (fun _ => 0)))] H := hP
  have hD : va_D A [(h0, .inr (0, [.ref q0, .ref q1, .ref q2, .ref q3, .null, .null, .null])), (q0, .inl (cA0, 64, .inl (fun j => sp_eo ((fun _ => some 0) j)))), (q1, .inl (cA1, 4, .inl (fun j => nI ((fun _ => 0) j)))), (q2, .inl (cA2, 130, .inl (fun j => sp_eb ((fun _ => false) j)))), (q3, .inl (cA3, 130, .inl (fun j => nI ((fun _ => 0) j)))), (q4, .inl (cA4, 520, .inl (fun _ => 0)))] := hD
  have hK : va_K D vwCl [(cA0, .int), (cA1, .int), (cA2, .boolean), (cA3, .int), (cA4, .int)] s := hK
  refine va_putF (D := D) (ci := 0) (v := .ref q4) (ty := .array .int) (C := RX0) (T := TX0) (N := 7) hx hb hts in_X0 tyX0 tyX0_ok nmX0 hown hK hP hD hS 0 rfl rfl 4 (by decide) (hts _ q24) (fun _ h9 => h9) rfl hin rfl (by decide +kernel) rfl rfl (Nat.le_of_ble_eq_true rfl) dX0_init_43 (fun H locs hP hD hS => ?_)
  have hP : va_P D vwCl [(h0, .inr (0, [.ref q0, .ref q1, .ref q2, .ref q3, .ref q4, .null, .null])), (q0, .inl (cA0, 64, .inl (fun j => sp_eo ((fun _ => some 0) j)))), (q1, .inl (cA1, 4, .inl (fun j => nI ((fun _ => 0) j)))), (q2, .inl (cA2, 130, .inl (fun j => sp_eb ((fun _ => false) j)))), (q3, .inl (cA3, 130, .inl (fun j => nI ((fun _ => 0) j)))), (q4, .inl (cA4, 520, .inl (fun _ => 0)))] H := hP
  have hD : va_D A [(h0, .inr (0, [.ref q0, .ref q1, .ref q2, .ref q3, .ref q4, .null, .null])), (q0, .inl (cA0, 64, .inl (fun j => sp_eo ((fun _ => some 0) j)))), (q1, .inl (cA1, 4, .inl (fun j => nI ((fun _ => 0) j)))), (q2, .inl (cA2, 130, .inl (fun j => sp_eb ((fun _ => false) j)))), (q3, .inl (cA3, 130, .inl (fun j => nI ((fun _ => 0) j)))), (q4, .inl (cA4, 520, .inl (fun _ => 0)))] := hD
  refine lv_aload_n hx hb dX0_init_46 rfl (lv_at hl 0 rfl) ?_
  refine lv_sipush (v := (nI 130)) hx hb dX0_init_47 (by decide) ?_
  refine va_newa (atype := .int) (n := nI 130) (N' := 130) (a0 := (130, .inl (fun j => sp_eo ((fun _ => some 0) j)))) (ty := .int) hx hb (hts _ q42) rfl hK hP hD hS hA (fun _ => rfl) (by decide) (by decide) (Nat.le_of_ble_eq_true rfl) (Nat.le_of_ble_eq_true rfl) (Nat.le_of_ble_eq_true rfl) dX0_init_50 (fun q5 cA5 H hK hP hD hS => ?_)
  have hP : va_P D vwCl [(h0, .inr (0, [.ref q0, .ref q1, .ref q2, .ref q3, .ref q4, .null, .null])), (q0, .inl (cA0, 64, .inl (fun j => sp_eo ((fun _ => some 0) j)))), (q1, .inl (cA1, 4, .inl (fun j => nI ((fun _ => 0) j)))), (q2, .inl (cA2, 130, .inl (fun j => sp_eb ((fun _ => false) j)))), (q3, .inl (cA3, 130, .inl (fun j => nI ((fun _ => 0) j)))), (q4, .inl (cA4, 520, .inl (fun _ => 0))), (q5, .inl (cA5, 130, .inl (fun j => sp_eo ((fun _ => some 0) j))))] H := hP
  have hD : va_D A [(h0, .inr (0, [.ref q0, .ref q1, .ref q2, .ref q3, .ref q4, .null, .null])), (q0, .inl (cA0, 64, .inl (fun j => sp_eo ((fun _ => some 0) j)))), (q1, .inl (cA1, 4, .inl (fun j => nI ((fun _ => 0) j)))), (q2, .inl (cA2, 130, .inl (fun j => sp_eb ((fun _ => false) j)))), (q3, .inl (cA3, 130, .inl (fun j => nI ((fun _ => 0) j)))), (q4, .inl (cA4, 520, .inl (fun _ => 0))), (q5, .inl (cA5, 130, .inl (fun j => sp_eo ((fun _ => some 0) j))))] := hD
  have hK : va_K D vwCl [(cA0, .int), (cA1, .int), (cA2, .boolean), (cA3, .int), (cA4, .int), (cA5, .int)] s := hK
  refine va_putF (D := D) (ci := 0) (v := .ref q5) (ty := .array .int) (C := RX0) (T := TX0) (N := 7) hx hb hts in_X0 tyX0 tyX0_ok nmX0 hown hK hP hD hS 0 rfl rfl 5 (by decide) (hts _ q25) (fun _ h9 => h9) rfl hin rfl (by decide +kernel) rfl rfl (Nat.le_of_ble_eq_true rfl) dX0_init_52 (fun H locs hP hD hS => ?_)
  have hP : va_P D vwCl [(h0, .inr (0, [.ref q0, .ref q1, .ref q2, .ref q3, .ref q4, .ref q5, .null])), (q0, .inl (cA0, 64, .inl (fun j => sp_eo ((fun _ => some 0) j)))), (q1, .inl (cA1, 4, .inl (fun j => nI ((fun _ => 0) j)))), (q2, .inl (cA2, 130, .inl (fun j => sp_eb ((fun _ => false) j)))), (q3, .inl (cA3, 130, .inl (fun j => nI ((fun _ => 0) j)))), (q4, .inl (cA4, 520, .inl (fun _ => 0))), (q5, .inl (cA5, 130, .inl (fun j => sp_eo ((fun _ => some 0) j))))] H := hP
  have hD : va_D A [(h0, .inr (0, [.ref q0, .ref q1, .ref q2, .ref q3, .ref q4, .ref q5, .null])), (q0, .inl (cA0, 64, .inl (fun j => sp_eo ((fun _ => some 0) j)))), (q1, .inl (cA1, 4, .inl (fun j => nI ((fun _ => 0) j)))), (q2, .inl (cA2, 130, .inl (fun j => sp_eb ((fun _ => false) j)))), (q3, .inl (cA3, 130, .inl (fun j => nI ((fun _ => 0) j)))), (q4, .inl (cA4, 520, .inl (fun _ => 0))), (q5, .inl (cA5, 130, .inl (fun j => sp_eo ((fun _ => some 0) j))))] := hD
  refine lv_aload_n hx hb dX0_init_55 rfl (lv_at hl 0 rfl) ?_
  refine lv_sipush (v := (nI 130)) hx hb dX0_init_56 (by decide) ?_
  refine va_newa (atype := .int) (n := nI 130) (N' := 130) (a0 := (130, .inl (fun j => nI ((fun _ => 0) j)))) (ty := .int) hx hb (hts _ q42) rfl hK hP hD hS hA (fun _ => rfl) (by decide) (by decide) (Nat.le_of_ble_eq_true rfl) (Nat.le_of_ble_eq_true rfl) (Nat.le_of_ble_eq_true rfl) dX0_init_59 (fun q6 cA6 H hK hP hD hS => ?_)
  have hP : va_P D vwCl [(h0, .inr (0, [.ref q0, .ref q1, .ref q2, .ref q3, .ref q4, .ref q5, .null])), (q0, .inl (cA0, 64, .inl (fun j => sp_eo ((fun _ => some 0) j)))), (q1, .inl (cA1, 4, .inl (fun j => nI ((fun _ => 0) j)))), (q2, .inl (cA2, 130, .inl (fun j => sp_eb ((fun _ => false) j)))), (q3, .inl (cA3, 130, .inl (fun j => nI ((fun _ => 0) j)))), (q4, .inl (cA4, 520, .inl (fun _ => 0))), (q5, .inl (cA5, 130, .inl (fun j => sp_eo ((fun _ => some 0) j)))), (q6, .inl (cA6, 130, .inl (fun j => nI ((fun _ => 0) j))))] H := hP
  have hD : va_D A [(h0, .inr (0, [.ref q0, .ref q1, .ref q2, .ref q3, .ref q4, .ref q5, .null])), (q0, .inl (cA0, 64, .inl (fun j => sp_eo ((fun _ => some 0) j)))), (q1, .inl (cA1, 4, .inl (fun j => nI ((fun _ => 0) j)))), (q2, .inl (cA2, 130, .inl (fun j => sp_eb ((fun _ => false) j)))), (q3, .inl (cA3, 130, .inl (fun j => nI ((fun _ => 0) j)))), (q4, .inl (cA4, 520, .inl (fun _ => 0))), (q5, .inl (cA5, 130, .inl (fun j => sp_eo ((fun _ => some 0) j)))), (q6, .inl (cA6, 130, .inl (fun j => nI ((fun _ => 0) j))))] := hD
  have hK : va_K D vwCl [(cA0, .int), (cA1, .int), (cA2, .boolean), (cA3, .int), (cA4, .int), (cA5, .int), (cA6, .int)] s := hK
  refine va_putF (D := D) (ci := 0) (v := .ref q6) (ty := .array .int) (C := RX0) (T := TX0) (N := 7) hx hb hts in_X0 tyX0 tyX0_ok nmX0 hown hK hP hD hS 0 rfl rfl 6 (by decide) (hts _ q26) (fun _ h9 => h9) rfl hin rfl (by decide +kernel) rfl rfl (Nat.le_of_ble_eq_true rfl) dX0_init_61 (fun H locs hP hD hS => ?_)
  have hP : va_P D vwCl [(h0, .inr (0, [.ref q0, .ref q1, .ref q2, .ref q3, .ref q4, .ref q5, .ref q6])), (q0, .inl (cA0, 64, .inl (fun j => sp_eo ((fun _ => some 0) j)))), (q1, .inl (cA1, 4, .inl (fun j => nI ((fun _ => 0) j)))), (q2, .inl (cA2, 130, .inl (fun j => sp_eb ((fun _ => false) j)))), (q3, .inl (cA3, 130, .inl (fun j => nI ((fun _ => 0) j)))), (q4, .inl (cA4, 520, .inl (fun _ => 0))), (q5, .inl (cA5, 130, .inl (fun j => sp_eo ((fun _ => some 0) j)))), (q6, .inl (cA6, 130, .inl (fun j => nI ((fun _ => 0) j))))] H := hP
  have hD : va_D A [(h0, .inr (0, [.ref q0, .ref q1, .ref q2, .ref q3, .ref q4, .ref q5, .ref q6])), (q0, .inl (cA0, 64, .inl (fun j => sp_eo ((fun _ => some 0) j)))), (q1, .inl (cA1, 4, .inl (fun j => nI ((fun _ => 0) j)))), (q2, .inl (cA2, 130, .inl (fun j => sp_eb ((fun _ => false) j)))), (q3, .inl (cA3, 130, .inl (fun j => nI ((fun _ => 0) j)))), (q4, .inl (cA4, 520, .inl (fun _ => 0))), (q5, .inl (cA5, 130, .inl (fun j => sp_eo ((fun _ => some 0) j)))), (q6, .inl (cA6, 130, .inl (fun j => nI ((fun _ => 0) j))))] := hD
  refine W.widen (k := 7) (n := 1108) (Nat.le_of_ble_eq_true rfl) (Nat.le_of_ble_eq_true rfl) ?_
  have hK : va_K D vwCl (sp_xt (sp_a7 cA0 cA1 cA2 cA3 cA4 cA5 cA6)) s := hK
  have hX : sp_xP D A h0 (sp_a7 q0 q1 q2 q3 q4 q5 q6) (sp_a7 cA0 cA1 cA2 cA3 cA4 cA5 cA6) ((fun _ => some 0), (fun _ => 0), (fun _ => false), (fun _ => 0), (fun _ => 0), (fun _ => some 0), (fun _ => 0)) s.heap H locs := ⟨hP, hD, hS⟩
  rw [sp_O0_0] at hX
  refine lv_iconst (v := (nI 0)) hx hb dX0_init_64 (by decide) ?_
  refine lv_istore_n (lv' := [(1, .int (nI 0)), (0, .ref h0)]) hx hb dX0_init_65 rfl hl (by decide) rfl (fun ls hl => ?_)
  refine sp_init_loop hx hb hown hts hK (fun H locs ls hX => ?_) 64 0 rfl H locs hX ls (lv_sub hl [0, 1] rfl)
  exact W.vret hx hb hr (fun t ht hW => ⟨⟨(), rfl, trivial, _, _, by rw [ht]; exact hX.1, va_K.moved hW.alike hK, hX.2.1⟩, hX.2.2.F ht⟩) hX.2.2.2.2 dX0_init_85
abbrev rmm_init : Room := { frames := 1, cells := 2, slots := 264, locals := 12 }
set_option maxHeartbeats 4000000 in
set_option maxRecDepth 100000 in
theorem met_minit (l : Launch) (D : va_G) (h0 sz : Nat) : Met l yX1_init (ws_ yX1_init cX1_init 1 none) rmm_init (va_Pc [.ref h0] (fun U => U.heap.size = sz ∧ va_P D vwCl [(h0, .inr (1, sp_n2))] U.heap ∧ va_K D vwCl [] U ∧ va_D (fun _ => True) [(h0, .inr (1, sp_n2))])) (va_Qv (fun _ : Unit => True) (fun _ t => ∃ (a : Nat → Nat) (d : Nat → ClassId), va_P D vwCl (sp_mw h0 a d (fun _ => 0, fun _ => 0)) t.heap ∧ va_K D vwCl (sp_mt d) t ∧ va_D (va_A [(h0, .inr (1, sp_n2))] sz) (sp_mw h0 a d (fun _ => 0, fun _ => 0))) (va_A [(h0, .inr (1, sp_n2))] sz)) 2 264 (va_A [(h0, .inr (1, sp_n2))] sz) := by
  refine Met.ofW (cc := cX1_init) (maxL := 1) (ret := none) (by decide) rfl ?_
  intro p e s m args below meth c s₁ B hml hv
  obtain ⟨rfl, hsz, hP, hK, hD0⟩ := hv
  have hx := B.exec
  have hb := B.bytes
  have hr := B.returns
  have hts := atoms_spec (ws := ws_ yX1_init cX1_init 1 none) B.pre
  have hts : ∀ w ∈ lw_all, w.before _ s = true := fun w h => hts w (List.mem_cons_of_mem _ h)
  have hown : s.vm.findClass RX1 = some m.cls := findClass_of_methodNamed B.named
  have hlocks := B.notSynchronized
  have hin : meth.name = "<init>" := (name_of_methodNamed B.named B.method).1
  subst hsz
  have hD := hD0.self (sz := s.heap.size)
  generalize hAe : va_A [(h0, .inr (1, sp_n2))] s.heap.size = A at hD ⊢
  have hA : ∀ q : Nat, s.heap.size ≤ q → A q := fun q h => by rw [← hAe]; exact Or.inr h
  have hS : va_S A s.heap s.heap [] := va_S.rf
  have hl := lv_entry ([.ref h0]) (n := 1) (Nat.le_of_ble_eq_true rfl)
  rw [lg_entry_eq]
  generalize (lg_sl ([.ref h0]) ++ List.replicate (1 - (lg_sl ([.ref h0])).length) Slot.unset).toArray = ls at hl ⊢
  have hl : lv_has ls 1 [(0, .ref h0)] := hl
  refine lv_aload_n hx hb dX1_init_0 rfl (lv_at hl 0 rfl) ?_
  refine W.objInit hx hb hown (hts _ q124) (hts _ q18) (hts _ q19) rfl (by rw [hml]; exact hl.1) rfl dX1_init_1 (Nat.le_of_ble_eq_true rfl) (Nat.le_of_ble_eq_true rfl) ?_
  refine W.eq (g2 := F0 m 4 ls []) rfl ?_
  refine lv_aload_n hx hb dX1_init_4 rfl (lv_at hl 0 rfl) ?_
  refine lv_sipush (v := (nI 260)) hx hb dX1_init_5 (by decide) ?_
  refine va_newa (atype := .int) (n := nI 260) (N' := 260) (a0 := (260, .inl (fun _ => 0))) (ty := .int) hx hb (hts _ q42) rfl hK hP hD hS hA (fun _ => rfl) (by decide) (by decide) (Nat.le_of_ble_eq_true rfl) (Nat.le_of_ble_eq_true rfl) (Nat.le_of_ble_eq_true rfl) dX1_init_8 (fun q0 cA0 H hK hP hD hS => ?_)
  have hP : va_P D vwCl [(h0, .inr (1, [.null, .null])), (q0, .inl (cA0, 260, .inl (fun _ => 0)))] H := hP
  have hD : va_D A [(h0, .inr (1, [.null, .null])), (q0, .inl (cA0, 260, .inl (fun _ => 0)))] := hD
  have hK : va_K D vwCl [(cA0, .int)] s := hK
  refine va_putF (D := D) (ci := 1) (v := .ref q0) (ty := .array .int) (C := RX1) (T := TX1) (N := 2) hx hb hts in_X1 tyX1 tyX1_ok nmX1 hown hK hP hD hS 0 rfl rfl 0 (by decide) (hts _ q125) (fun _ h9 => h9) rfl hin rfl (by decide +kernel) rfl rfl (Nat.le_of_ble_eq_true rfl) dX1_init_10 (fun H locs hP hD hS => ?_)
  have hP : va_P D vwCl [(h0, .inr (1, [.ref q0, .null])), (q0, .inl (cA0, 260, .inl (fun _ => 0)))] H := hP
  have hD : va_D A [(h0, .inr (1, [.ref q0, .null])), (q0, .inl (cA0, 260, .inl (fun _ => 0)))] := hD
  refine lv_aload_n hx hb dX1_init_13 rfl (lv_at hl 0 rfl) ?_
  refine lv_iconst (v := (nI 4)) hx hb dX1_init_14 (by decide) ?_
  refine va_newa (atype := .int) (n := nI 4) (N' := 4) (a0 := (4, .inl (fun j => nI ((fun _ => 0) j)))) (ty := .int) hx hb (hts _ q42) rfl hK hP hD hS hA (fun _ => rfl) (by decide) (by decide) (Nat.le_of_ble_eq_true rfl) (Nat.le_of_ble_eq_true rfl) (Nat.le_of_ble_eq_true rfl) dX1_init_15 (fun q1 cA1 H hK hP hD hS => ?_)
  have hP : va_P D vwCl [(h0, .inr (1, [.ref q0, .null])), (q0, .inl (cA0, 260, .inl (fun _ => 0))), (q1, .inl (cA1, 4, .inl (fun j => nI ((fun _ => 0) j))))] H := hP
  have hD : va_D A [(h0, .inr (1, [.ref q0, .null])), (q0, .inl (cA0, 260, .inl (fun _ => 0))), (q1, .inl (cA1, 4, .inl (fun j => nI ((fun _ => 0) j))))] := hD
  have hK : va_K D vwCl [(cA0, .int), (cA1, .int)] s := hK
  refine va_putF (D := D) (ci := 1) (v := .ref q1) (ty := .array .int) (C := RX1) (T := TX1) (N := 2) hx hb hts in_X1 tyX1 tyX1_ok nmX1 hown hK hP hD hS 0 rfl rfl 1 (by decide) (hts _ q126) (fun _ h9 => h9) rfl hin rfl (by decide +kernel) rfl rfl (Nat.le_of_ble_eq_true rfl) dX1_init_17 (fun H locs hP hD hS => ?_)
  have hP : va_P D vwCl [(h0, .inr (1, [.ref q0, .ref q1])), (q0, .inl (cA0, 260, .inl (fun _ => 0))), (q1, .inl (cA1, 4, .inl (fun j => nI ((fun _ => 0) j))))] H := hP
  have hD : va_D A [(h0, .inr (1, [.ref q0, .ref q1])), (q0, .inl (cA0, 260, .inl (fun _ => 0))), (q1, .inl (cA1, 4, .inl (fun j => nI ((fun _ => 0) j))))] := hD
  refine W.widen (k := 2) (n := 264) (Nat.le_of_ble_eq_true rfl) (Nat.le_of_ble_eq_true rfl) ?_
  have hK : va_K D vwCl (sp_mt (sp_a2 cA0 cA1)) s := hK
  have hX : sp_mP D A h0 (sp_a2 q0 q1) (sp_a2 cA0 cA1) ((fun _ => 0), (fun _ => 0)) s.heap H locs := ⟨hP, hD, hS⟩
  exact W.vret hx hb hr (fun t ht hW => ⟨⟨(), rfl, trivial, _, _, by rw [ht]; exact hX.1, va_K.moved hW.alike hK, hX.2.1⟩, hX.2.2.F ht⟩) hX.2.2.2.2 dX1_init_20
end
section
/-! THE CLAIM OUT OF ONE WALK OF THE LAW'S BODY. Your part is whole_start (and what it stands on); all else here is the same for every law, but numbers. -/
def R_law : String := "ShadowPagesLaw"
def lw_P (b : Addr) (xs : List Int32) (args : Array Value) (s : State) : Prop := args = #[.ref b] ∧ s.IntsAt b xs ∧ xs.length ≤ 320 ∧ (Jvm.Cond.and given_1 narrow_1).before args s = true
def lw_Q (_ : Array Value) (s : State) (o : Outcome) (t : State) : Prop := o = .returned (some (.int 1)) ∧ Framed s o t [] 600000 7290000
def lw_Z (below : List Frame) (a : Array Value) (s : State) : State → Prop := fun t => ∃ o, t.status = .running ∧ Ended t below o ∧ lw_Q a s o t
/-- the law's own end, with 1 on the stack, nothing written that was there before, its room as the claim has it -/
theorem lw_ret {p : Program} {l : Launch} {e : Env} {s : State} {m : MethodId} {below : List Frame} {meth : Method} {c : Code} {b : Nat} (hx : p.tables.exec = Jvm.exec) (hb : c.code = code) (hr : meth.sig.returnType = ret) (hlocks : meth.locks = false) {pc : Nat} {H : Heap} {ls : Array Slot} (hdg : decode code pc = .ok (.ireturn, 1)) : W p l e room_1 s m #[Value.ref b] below meth c H [] 600000 7290000 (lw_Z below #[Value.ref b] s) (F0 m pc ls [.int 1]) := by
  intro T hT X
  obtain ⟨fs, hret, hrun, hended, hW, hframe⟩ := X.leave (v := some (.int 1)) (hlocks := hlocks) (fun h => by rw [hr] at h; cases h)
  have hmeth' : T.vm.method? m = some meth := X.method'
  refine ⟨T.setFrames fs, ?_, .returned (some (.int 1)), hrun, hended, rfl, ⟨_, rfl⟩, hW, hframe⟩
  jvm_step X.here [X.here.top, hx, hb, hdg, hmeth', hr, ret, narrow_b1]
  (try refine ⟨rfl, ?_⟩); (try refine ⟨rfl, ?_⟩)
  first | (intro acts; rw [hret _ acts rfl rfl rfl]) | rw [hret _ _ rfl rfl rfl]
  exact Steps.refl _
/-- what holds at the law's entry: the machine, the code, the tables' words (any of lw_tbl by 'hts w (by decide +kernel)'), the script of L ints xs at the cell b, what the Statement gives of the start (any of its parts by flat_of_before) -/
def lw_At (p : Program) (s : State) (m : MethodId) (meth : Method) (c : Code) (b L : Nat) (xs : Nat → Int32) : Prop :=
  p.tables.exec = Jvm.exec ∧ c.code = code ∧ meth.sig.returnType = ret ∧ c.maxLocals = 4 ∧ s.vm.findClass R_law = some m.cls ∧ (∀ w ∈ lw_tbl, w.before #[Value.ref b] s = true) ∧ va_X b L xs s s.heap ∧ b < s.heap.size ∧ meth.locks = false ∧ (Jvm.Cond.and given_1 narrow_1).before #[Value.ref b] s = true
end
section
/-! THE LAW: rows of its calls, its ten cases (written by gen/law.py) -/
/-- the law's world: an object of the class, an object of the reference -/
def sp_LP (D : va_G) (A : Nat → Prop) (q0 : Nat) (a : Nat → Nat) (d : Nat → ClassId) (q1 : Nat) (b2 : Nat → Nat) (f : Nat → ClassId) (g : sp_xg) (k : sp_mg) (H0 H : Heap) (locs : List Loc) : Prop := va_P D vwCl (sp_xw q0 a d g ++ sp_mw q1 b2 f k) H ∧ va_D A (sp_xw q0 a d g ++ sp_mw q1 b2 f k) ∧ va_S A H0 H locs
theorem nv_inc5 (a : Nat) : nI a + Int32.ofInt 5 = nI (a + 5) := nI_add a 5
section LAWROWS
variable {p : Program} {l : Launch} {e : Env} {R : Room} {s : State} {m : MethodId} {args : Array Value} {below : List Frame} {meth : Method} {c : Code} {H H0 : Heap} {locs : List Loc} {cells slots : Nat} {Q : State → Prop} {cc : ByteArray} {pc : Nat} {ls : Array Slot} {rest : List Value} {D : va_G} {A : Nat → Prop} {q0 : Nat} {a : Nat → Nat} {d : Nat → ClassId} {q1 : Nat} {b2 : Nat → Nat} {f : Nat → ClassId} {g : sp_xg} {k : sp_mg}
theorem nv_sld (hx : p.tables.exec = Jvm.exec) (hb : c.code = cc) {b L : Nat} {xs : Nat → Int32} (hX : va_X b L xs s H0) (hbl : b < H0.size) (hbA : ¬ A b) (hS : va_S A H0 H locs) {i : Nat} (hi : i < L) (hL : L < 2147483648) (hdg : decode cc pc = .ok (.iaload, 1))
    (kk : W p l e R s m args below meth c H locs cells slots Q (F0 m (pc + 1) ls (.int (xs i) :: rest))) : W p l e R s m args below meth c H locs cells slots Q (F0 m pc ls (.int (nI i) :: .ref b :: rest)) :=
  va_sld hx hb hX hbl hbA hS (vp_in_nI hi hL) hdg (by rw [nI_clamp (Nat.lt_trans hi hL)]; exact kk)
theorem l_callx {y : MethodName} {bytes : ByteArray} {maxL nL n index : Nat} {ret : Option FieldType} {rm : Room} {As st0 : List Value} {ws : List Cond} {post : Int32 → sp_xg → Prop} (hx : p.tables.exec = Jvm.exec) (hb : c.code = cc) (hml : c.maxLocals = nL) (hown : s.vm.findClass R_law = some m.cls) (hts : ∀ w ∈ lw_all, w.before args s = true)
    (hM : Met l y ws rm (va_Pc (.ref q0 :: As) (sp_xS D q0 a d H.size g)) (va_Qi post (sp_xB D (va_A (sp_xw q0 a d g) H.size) q0 a d) (va_A (sp_xw q0 a d g) H.size)) 0 0 (va_A (sp_xw q0 a d g) H.size)) (cw : CallW R s args R_law RX0 index y bytes maxL ret ws rm 0 0 n) (hK : va_K D vwCl (sp_xt d ++ sp_mt f) s) (hL : sp_LP D A q0 a d q1 b2 f g k H0 H locs) (hA : ∀ q, H0.size ≤ q → A q) (hn : As.length = n) (hsize : ls.size = nL) (hst : st0 = As.reverse ++ .ref q0 :: rest) (hW : (rest.map fun v => v.category).sum ≤ 8) (hdg : decode cc pc = .ok (.invokevirtual index, 3)) (hf : cells ≤ R.cells ∧ slots ≤ R.slots)
    (kk : ∀ (r : Int32) (u : sp_xg) (H1 : Heap) (locs1 : List Loc), post r u → sp_LP D A q0 a d q1 b2 f u k H0 H1 locs1 → W p l e R s m args below meth c H1 locs1 cells slots Q (F0 m (pc + 3) ls (.int r :: rest))) : W p l e R s m args below meth c H locs cells slots Q (F0 m pc ls st0) := by
  obtain ⟨hP, hD, hS⟩ := hL
  have hPc := hP.sub (ws' := sp_xw q0 a d g) [0, 1, 2, 3, 4, 5, 6, 7] rfl
  have hDc := hD.sub (ws' := sp_xw q0 a d g) [0, 1, 2, 3, 4, 5, 6, 7] (by decide) rfl
  have hKc := hK.sub (tys' := sp_xt d) [0, 1, 2, 3, 4, 5, 6] rfl
  have hFc := va_free (wc := sp_xw q0 a d g) hD hS hA [0, 1, 2, 3, 4, 5, 6, 7] rfl
  refine va_calli (va_runV (As := As) (rest := rest) ⟨hx, hb, hml, hown, hts⟩ hM cw ⟨fun a1 U g1 mk q => by obtain ⟨q0, q1, qP, qK, qD⟩ := q; exact ⟨q0, q1, qP, va_K.moved (u := U) (U := U.calling g1 mk a1) (Vm.Alike.refl U.vm) qK, qD⟩, va_recv hKc hPc (ci := 0) (q0 := 0) rfl rfl, fun U hU hW => ⟨rfl, by rw [hU], by rw [hU]; exact hPc, va_K.moved hW.alike hKc, hDc.weaken (fun _ _ _ _ => trivial)⟩⟩ rfl hn hsize hst (lv_room hW) hdg hf) hS (fun q _ h => hFc q h) hFc (fun r u t H1 locs1 ht hvm hw1 hB hz1 hk1 hS1 => ?_)
  obtain ⟨hP1, hK1, hD1⟩ := hB
  rw [ht] at hP1
  obtain ⟨hP2, hD2⟩ := va_join (wr := sp_mw q1 b2 f k) (w1 := sp_xw q0 a d u) hP hD [0, 1, 2, 3, 4, 5, 6, 7] [8, 9, 10] rfl rfl (by decide) (by decide) hk1 hFc hP1 hD1
  exact kk r u H1 locs1 hw1 ⟨hP2.sub [3, 4, 5, 6, 7, 8, 9, 10, 0, 1, 2] rfl, hD2.sub [3, 4, 5, 6, 7, 8, 9, 10, 0, 1, 2] (by decide) rfl, hS1⟩
theorem l_callxr {y : MethodName} {bytes : ByteArray} {maxL nL n index : Nat} {ret : Option FieldType} {rm : Room} {As st0 : List Value} {ws : List Cond} {post : Int32 → Prop} (hx : p.tables.exec = Jvm.exec) (hb : c.code = cc) (hml : c.maxLocals = nL) (hown : s.vm.findClass R_law = some m.cls) (hts : ∀ w ∈ lw_all, w.before args s = true)
    (hM : Met l y ws rm (va_Pc (.ref q0 :: As) (sp_xR D q0 a d g)) (vp_Si post) 0 0 (fun _ => False)) (cw : CallW R s args R_law RX0 index y bytes maxL ret ws rm 0 0 n) (hK : va_K D vwCl (sp_xt d ++ sp_mt f) s) (hP : va_P D vwCl (sp_xw q0 a d g ++ sp_mw q1 b2 f k) H) (hn : As.length = n) (hsize : ls.size = nL) (hst : st0 = As.reverse ++ .ref q0 :: rest) (hW : (rest.map fun v => v.category).sum ≤ 8) (hdg : decode cc pc = .ok (.invokevirtual index, 3)) (hf : cells ≤ R.cells ∧ slots ≤ R.slots)
    (kk : ∀ r : Int32, post r → W p l e R s m args below meth c H locs cells slots Q (F0 m (pc + 3) ls (.int r :: rest))) : W p l e R s m args below meth c H locs cells slots Q (F0 m pc ls st0) := by
  have hPc := hP.sub (ws' := sp_xw q0 a d g) [0, 1, 2, 3, 4, 5, 6, 7] rfl
  have hKc := hK.sub (tys' := sp_xt d) [0, 1, 2, 3, 4, 5, 6] rfl
  exact vp_callSi (W.runV (As := As) (rest := rest) ⟨hx, hb, hml, hown, hts⟩ hM cw ⟨fun a1 U g1 mk q => by obtain ⟨q0, qP, qK⟩ := q; exact ⟨q0, qP, va_K.moved (u := U) (U := U.calling g1 mk a1) (Vm.Alike.refl U.vm) qK⟩, va_recv hKc hPc (ci := 0) (q0 := 0) rfl rfl, fun U hU hW => ⟨rfl, by rw [hU]; exact hPc, va_K.moved hW.alike hKc⟩⟩ rfl hn hsize hst (lv_room hW) hdg hf) kk
theorem l_callm {y : MethodName} {bytes : ByteArray} {maxL nL n index : Nat} {ret : Option FieldType} {rm : Room} {As st0 : List Value} {ws : List Cond} {post : Int32 → sp_mg → Prop} (hx : p.tables.exec = Jvm.exec) (hb : c.code = cc) (hml : c.maxLocals = nL) (hown : s.vm.findClass R_law = some m.cls) (hts : ∀ w ∈ lw_all, w.before args s = true)
    (hM : Met l y ws rm (va_Pc (.ref q1 :: As) (sp_mS D q1 b2 f H.size k)) (va_Qi post (sp_mB D (va_A (sp_mw q1 b2 f k) H.size) q1 b2 f) (va_A (sp_mw q1 b2 f k) H.size)) 0 0 (va_A (sp_mw q1 b2 f k) H.size)) (cw : CallW R s args R_law RX1 index y bytes maxL ret ws rm 0 0 n) (hK : va_K D vwCl (sp_xt d ++ sp_mt f) s) (hL : sp_LP D A q0 a d q1 b2 f g k H0 H locs) (hA : ∀ q, H0.size ≤ q → A q) (hn : As.length = n) (hsize : ls.size = nL) (hst : st0 = As.reverse ++ .ref q1 :: rest) (hW : (rest.map fun v => v.category).sum ≤ 8) (hdg : decode cc pc = .ok (.invokevirtual index, 3)) (hf : cells ≤ R.cells ∧ slots ≤ R.slots)
    (kk : ∀ (r : Int32) (u : sp_mg) (H1 : Heap) (locs1 : List Loc), post r u → sp_LP D A q0 a d q1 b2 f g u H0 H1 locs1 → W p l e R s m args below meth c H1 locs1 cells slots Q (F0 m (pc + 3) ls (.int r :: rest))) : W p l e R s m args below meth c H locs cells slots Q (F0 m pc ls st0) := by
  obtain ⟨hP, hD, hS⟩ := hL
  have hPc := hP.sub (ws' := sp_mw q1 b2 f k) [8, 9, 10] rfl
  have hDc := hD.sub (ws' := sp_mw q1 b2 f k) [8, 9, 10] (by decide) rfl
  have hKc := hK.sub (tys' := sp_mt f) [7, 8] rfl
  have hFc := va_free (wc := sp_mw q1 b2 f k) hD hS hA [8, 9, 10] rfl
  refine va_calli (va_runV (As := As) (rest := rest) ⟨hx, hb, hml, hown, hts⟩ hM cw ⟨fun a1 U g1 mk q => by obtain ⟨q0, q1, qP, qK, qD⟩ := q; exact ⟨q0, q1, qP, va_K.moved (u := U) (U := U.calling g1 mk a1) (Vm.Alike.refl U.vm) qK, qD⟩, va_recv hKc hPc (ci := 1) (q0 := 0) rfl rfl, fun U hU hW => ⟨rfl, by rw [hU], by rw [hU]; exact hPc, va_K.moved hW.alike hKc, hDc.weaken (fun _ _ _ _ => trivial)⟩⟩ rfl hn hsize hst (lv_room hW) hdg hf) hS (fun q _ h => hFc q h) hFc (fun r u t H1 locs1 ht hvm hw1 hB hz1 hk1 hS1 => ?_)
  obtain ⟨hP1, hK1, hD1⟩ := hB
  rw [ht] at hP1
  obtain ⟨hP2, hD2⟩ := va_join (wr := sp_xw q0 a d g) (w1 := sp_mw q1 b2 f u) hP hD [8, 9, 10] [0, 1, 2, 3, 4, 5, 6, 7] rfl rfl (by decide) (by decide) hk1 hFc hP1 hD1
  exact kk r u H1 locs1 hw1 ⟨hP2.sub [0, 1, 2, 3, 4, 5, 6, 7, 8, 9, 10] rfl, hD2.sub [0, 1, 2, 3, 4, 5, 6, 7, 8, 9, 10] (by decide) rfl, hS1⟩
theorem l_callmr {y : MethodName} {bytes : ByteArray} {maxL nL n index : Nat} {ret : Option FieldType} {rm : Room} {As st0 : List Value} {ws : List Cond} {post : Int32 → Prop} (hx : p.tables.exec = Jvm.exec) (hb : c.code = cc) (hml : c.maxLocals = nL) (hown : s.vm.findClass R_law = some m.cls) (hts : ∀ w ∈ lw_all, w.before args s = true)
    (hM : Met l y ws rm (va_Pc (.ref q1 :: As) (sp_mR D q1 b2 f k)) (vp_Si post) 0 0 (fun _ => False)) (cw : CallW R s args R_law RX1 index y bytes maxL ret ws rm 0 0 n) (hK : va_K D vwCl (sp_xt d ++ sp_mt f) s) (hP : va_P D vwCl (sp_xw q0 a d g ++ sp_mw q1 b2 f k) H) (hn : As.length = n) (hsize : ls.size = nL) (hst : st0 = As.reverse ++ .ref q1 :: rest) (hW : (rest.map fun v => v.category).sum ≤ 8) (hdg : decode cc pc = .ok (.invokevirtual index, 3)) (hf : cells ≤ R.cells ∧ slots ≤ R.slots)
    (kk : ∀ r : Int32, post r → W p l e R s m args below meth c H locs cells slots Q (F0 m (pc + 3) ls (.int r :: rest))) : W p l e R s m args below meth c H locs cells slots Q (F0 m pc ls st0) := by
  have hPc := hP.sub (ws' := sp_mw q1 b2 f k) [8, 9, 10] rfl
  have hKc := hK.sub (tys' := sp_mt f) [7, 8] rfl
  exact vp_callSi (W.runV (As := As) (rest := rest) ⟨hx, hb, hml, hown, hts⟩ hM cw ⟨fun a1 U g1 mk q => by obtain ⟨q0, qP, qK⟩ := q; exact ⟨q0, qP, va_K.moved (u := U) (U := U.calling g1 mk a1) (Vm.Alike.refl U.vm) qK⟩, va_recv hKc hPc (ci := 1) (q0 := 0) rfl rfl, fun U hU hW => ⟨rfl, by rw [hU]; exact hPc, va_K.moved hW.alike hKc⟩⟩ rfl hn hsize hst (lv_room hW) hdg hf) kk
end LAWROWS
section LAWCASES
variable {p : Program} {l : Launch} {e : Env} {s : State} {m : MethodId} {below : List Frame} {meth : Method} {c : Code} {D : va_G} {q0 : Nat} {a : Nat → Nat} {d : Nat → ClassId} {q1 : Nat} {b2 : Nat → Nat} {f : Nat → ClassId} {b L i : Nat} {xs : Nat → Int32} {g : sp_xg} {k : sp_mg} {V : Nat → Int32} {Z : Nat → Nat} {H : Heap} {locs : List Loc} {ls : Array Slot}
/-- the law goes on behind a case -/
def sp_next (p : Program) (l : Launch) (e : Env) (s : State) (m : MethodId) (below : List Frame) (meth : Method) (c : Code) (D : va_G) (q0 : Nat) (a : Nat → Nat) (d : Nat → ClassId) (q1 : Nat) (b2 : Nat → Nat) (f : Nat → ClassId) (b i : Nat) : Prop := ∀ (g : sp_xg) (k : sp_mg) (V : Nat → Int32) (Z : Nat → Nat) (H : Heap) (locs : List Loc) (ls : Array Slot), sp_XI g V Z → sp_Rl V Z k.1 k.2 → sp_LP D (fun q : Nat => s.heap.size ≤ q) q0 a d q1 b2 f g k s.heap H locs → lv_has ls 4 [(3, .int (nI i)), (2, .ref q1), (1, .ref q0), (0, .ref b)] → W p l e room_1 s m #[Value.ref b] below meth c H locs 600000 7290000 (lw_Z below #[Value.ref b] s) (F0 m 514 ls [])
set_option maxHeartbeats 4000000 in
set_option maxRecDepth 100000 in
theorem law_write (hL : L ≤ 320) (C0 : lw_At p s m meth c b L xs) (hi : i + 5 ≤ L) (hn : sp_next p l e s m below meth c D q0 a d q1 b2 f b i) (hK : va_K D vwCl (sp_xt d ++ sp_mt f) s) (hI : sp_XI g V Z) (hR : sp_Rl V Z k.1 k.2) (hW : sp_LP D (fun q : Nat => s.heap.size ≤ q) q0 a d q1 b2 f g k s.heap H locs) (hl : lv_has ls 4 [(3, .int (nI i)), (2, .ref q1), (1, .ref q0), (0, .ref b)]) : W p l e room_1 s m #[Value.ref b] below meth c H locs 600000 7290000 (lw_Z below #[Value.ref b] s) (F0 m 88 ls []) := by
  obtain ⟨hx, hb, hr, hml, hown, hts0, hX, hbl, hlocks, hgv⟩ := C0
  have hts : ∀ w ∈ lw_all, w.before #[Value.ref b] s = true := fun w h => hts0 w (lw_all_tbl h)
  have hA : ∀ q : Nat, s.heap.size ≤ q → (fun q : Nat => s.heap.size ≤ q) q := fun _ h => h
  have hbA : ¬ (fun q : Nat => s.heap.size ≤ q) b := Nat.not_le.mpr hbl
  refine lv_aload_n hx hb dL_law_88 rfl (lv_at hl 2 rfl) ?_
  refine lv_aload_n hx hb dL_law_89 rfl (lv_at hl 3 rfl) ?_
  refine lv_iload_n hx hb dL_law_90 rfl (lv_at hl 0 rfl) ?_
  refine lv_iconst (v := (nI 1)) hx hb dL_law_91 (by decide) ?_
  refine nv_iadd hx hb dL_law_92 ?_
  refine nv_sld hx hb hX hbl hbA hW.2.2 (by omega) (by omega) dL_law_93 ?_
  refine lv_aload_n hx hb dL_law_94 rfl (lv_at hl 3 rfl) ?_
  refine lv_iload_n hx hb dL_law_95 rfl (lv_at hl 0 rfl) ?_
  refine lv_iconst (v := (nI 2)) hx hb dL_law_96 (by decide) ?_
  refine nv_iadd hx hb dL_law_97 ?_
  refine nv_sld hx hb hX hbl hbA hW.2.2 (by omega) (by omega) dL_law_98 ?_
  refine lv_aload_n hx hb dL_law_99 rfl (lv_at hl 3 rfl) ?_
  refine lv_iload_n hx hb dL_law_100 rfl (lv_at hl 0 rfl) ?_
  refine lv_iconst (v := (nI 3)) hx hb dL_law_101 (by decide) ?_
  refine nv_iadd hx hb dL_law_102 ?_
  refine nv_sld hx hb hX hbl hbA hW.2.2 (by omega) (by omega) dL_law_103 ?_
  refine lv_aload_n hx hb dL_law_104 rfl (lv_at hl 3 rfl) ?_
  refine lv_iload_n hx hb dL_law_105 rfl (lv_at hl 0 rfl) ?_
  refine lv_iconst (v := (nI 4)) hx hb dL_law_106 (by decide) ?_
  refine nv_iadd hx hb dL_law_107 ?_
  refine nv_sld hx hb hX hbl hbA hW.2.2 (by omega) (by omega) dL_law_108 ?_
  refine l_callx (As := [.int (xs (i + 1)), .int (xs (i + 2)), .int (xs (i + 3)), .int (xs (i + 4))]) (rest := []) hx hb hml hown hts (met_write l D q0 a d H.size g V Z hI (xs (i + 1)) (xs (i + 2)) (xs (i + 3)) (xs (i + 4))) (cwV 4 hts (lw_V q44 q45 q46 q10 q47) rfl rfl rfl (by decide +kernel) ⟨Nat.le_of_ble_eq_true rfl, Nat.le_of_ble_eq_true rfl⟩) hK hW hA rfl hl.1 rfl (Nat.le_of_ble_eq_true rfl) dL_law_109 ⟨Nat.le_refl _, Nat.le_refl _⟩ (fun r1 g1 H1 locs1 hq1 hW => ?_)
  obtain ⟨V1, hI1, hs1⟩ := hq1
  refine lv_aload_n hx hb dL_law_112 rfl (lv_at hl 1 rfl) ?_
  refine lv_aload_n hx hb dL_law_113 rfl (lv_at hl 3 rfl) ?_
  refine lv_iload_n hx hb dL_law_114 rfl (lv_at hl 0 rfl) ?_
  refine lv_iconst (v := (nI 1)) hx hb dL_law_115 (by decide) ?_
  refine nv_iadd hx hb dL_law_116 ?_
  refine nv_sld hx hb hX hbl hbA hW.2.2 (by omega) (by omega) dL_law_117 ?_
  refine lv_aload_n hx hb dL_law_118 rfl (lv_at hl 3 rfl) ?_
  refine lv_iload_n hx hb dL_law_119 rfl (lv_at hl 0 rfl) ?_
  refine lv_iconst (v := (nI 2)) hx hb dL_law_120 (by decide) ?_
  refine nv_iadd hx hb dL_law_121 ?_
  refine nv_sld hx hb hX hbl hbA hW.2.2 (by omega) (by omega) dL_law_122 ?_
  refine lv_aload_n hx hb dL_law_123 rfl (lv_at hl 3 rfl) ?_
  refine lv_iload_n hx hb dL_law_124 rfl (lv_at hl 0 rfl) ?_
  refine lv_iconst (v := (nI 3)) hx hb dL_law_125 (by decide) ?_
  refine nv_iadd hx hb dL_law_126 ?_
  refine nv_sld hx hb hX hbl hbA hW.2.2 (by omega) (by omega) dL_law_127 ?_
  refine lv_aload_n hx hb dL_law_128 rfl (lv_at hl 3 rfl) ?_
  refine lv_iload_n hx hb dL_law_129 rfl (lv_at hl 0 rfl) ?_
  refine lv_iconst (v := (nI 4)) hx hb dL_law_130 (by decide) ?_
  refine nv_iadd hx hb dL_law_131 ?_
  refine nv_sld hx hb hX hbl hbA hW.2.2 (by omega) (by omega) dL_law_132 ?_
  refine l_callm (As := [.int (xs (i + 1)), .int (xs (i + 2)), .int (xs (i + 3)), .int (xs (i + 4))]) (rest := [.int r1]) hx hb hml hown hts (mem_write l D q1 b2 f H1.size k.1 k.2 (xs (i + 1)) (xs (i + 2)) (xs (i + 3)) (xs (i + 4))) (cwV 4 hts (lw_V q132 q133 q134 q11 q135) rfl rfl rfl (by decide +kernel) ⟨Nat.le_of_ble_eq_true rfl, Nat.le_of_ble_eq_true rfl⟩) hK hW hA rfl hl.1 rfl (Nat.le_of_ble_eq_true rfl) dL_law_133 ⟨Nat.le_refl _, Nat.le_refl _⟩ (fun r2 k1 H2 locs2 hq2 hW => ?_)
  obtain ⟨K1, rfl, hs2⟩ := hq2
  obtain ⟨er, hR1⟩ := sp_law_write hR hs1 hs2
  refine lv_icmp_eq (tgt := 514) hx hb dL_law_136 (by decide) (fun hq => ?_) (fun hq => ?_)
  · exact hn _ _ _ _ _ _ ls hI1 hR1 hW (lv_sub hl [0, 1, 2, 3] rfl)
  · exact absurd er hq
set_option maxHeartbeats 4000000 in
set_option maxRecDepth 100000 in
theorem law_read (hL : L ≤ 320) (C0 : lw_At p s m meth c b L xs) (hi : i + 5 ≤ L) (hn : sp_next p l e s m below meth c D q0 a d q1 b2 f b i) (hK : va_K D vwCl (sp_xt d ++ sp_mt f) s) (hI : sp_XI g V Z) (hR : sp_Rl V Z k.1 k.2) (hW : sp_LP D (fun q : Nat => s.heap.size ≤ q) q0 a d q1 b2 f g k s.heap H locs) (hl : lv_has ls 4 [(3, .int (nI i)), (2, .ref q1), (1, .ref q0), (0, .ref b)]) : W p l e room_1 s m #[Value.ref b] below meth c H locs 600000 7290000 (lw_Z below #[Value.ref b] s) (F0 m 141 ls []) := by
  obtain ⟨hx, hb, hr, hml, hown, hts0, hX, hbl, hlocks, hgv⟩ := C0
  have hts : ∀ w ∈ lw_all, w.before #[Value.ref b] s = true := fun w h => hts0 w (lw_all_tbl h)
  have hA : ∀ q : Nat, s.heap.size ≤ q → (fun q : Nat => s.heap.size ≤ q) q := fun _ h => h
  have hbA : ¬ (fun q : Nat => s.heap.size ≤ q) b := Nat.not_le.mpr hbl
  refine lv_aload_n hx hb dL_law_141 rfl (lv_at hl 2 rfl) ?_
  refine lv_aload_n hx hb dL_law_142 rfl (lv_at hl 3 rfl) ?_
  refine lv_iload_n hx hb dL_law_143 rfl (lv_at hl 0 rfl) ?_
  refine lv_iconst (v := (nI 1)) hx hb dL_law_144 (by decide) ?_
  refine nv_iadd hx hb dL_law_145 ?_
  refine nv_sld hx hb hX hbl hbA hW.2.2 (by omega) (by omega) dL_law_146 ?_
  refine lv_aload_n hx hb dL_law_147 rfl (lv_at hl 3 rfl) ?_
  refine lv_iload_n hx hb dL_law_148 rfl (lv_at hl 0 rfl) ?_
  refine lv_iconst (v := (nI 2)) hx hb dL_law_149 (by decide) ?_
  refine nv_iadd hx hb dL_law_150 ?_
  refine nv_sld hx hb hX hbl hbA hW.2.2 (by omega) (by omega) dL_law_151 ?_
  refine lv_aload_n hx hb dL_law_152 rfl (lv_at hl 3 rfl) ?_
  refine lv_iload_n hx hb dL_law_153 rfl (lv_at hl 0 rfl) ?_
  refine lv_iconst (v := (nI 3)) hx hb dL_law_154 (by decide) ?_
  refine nv_iadd hx hb dL_law_155 ?_
  refine nv_sld hx hb hX hbl hbA hW.2.2 (by omega) (by omega) dL_law_156 ?_
  refine l_callxr (As := [.int (xs (i + 1)), .int (xs (i + 2)), .int (xs (i + 3))]) (rest := []) hx hb hml hown hts (met_read l D q0 a d g V Z hI (xs (i + 1)) (xs (i + 2)) (xs (i + 3))) (cwV 3 hts (lw_V q71 q72 q73 q10 q74) rfl rfl rfl (by decide +kernel) ⟨Nat.le_of_ble_eq_true rfl, Nat.le_of_ble_eq_true rfl⟩) hK hW.1 rfl hl.1 rfl (Nat.le_of_ble_eq_true rfl) dL_law_157 ⟨Nat.le_refl _, Nat.le_refl _⟩ (fun r1 hs1 => ?_)
  refine lv_aload_n hx hb dL_law_160 rfl (lv_at hl 1 rfl) ?_
  refine lv_aload_n hx hb dL_law_161 rfl (lv_at hl 3 rfl) ?_
  refine lv_iload_n hx hb dL_law_162 rfl (lv_at hl 0 rfl) ?_
  refine lv_iconst (v := (nI 1)) hx hb dL_law_163 (by decide) ?_
  refine nv_iadd hx hb dL_law_164 ?_
  refine nv_sld hx hb hX hbl hbA hW.2.2 (by omega) (by omega) dL_law_165 ?_
  refine lv_aload_n hx hb dL_law_166 rfl (lv_at hl 3 rfl) ?_
  refine lv_iload_n hx hb dL_law_167 rfl (lv_at hl 0 rfl) ?_
  refine lv_iconst (v := (nI 2)) hx hb dL_law_168 (by decide) ?_
  refine nv_iadd hx hb dL_law_169 ?_
  refine nv_sld hx hb hX hbl hbA hW.2.2 (by omega) (by omega) dL_law_170 ?_
  refine lv_aload_n hx hb dL_law_171 rfl (lv_at hl 3 rfl) ?_
  refine lv_iload_n hx hb dL_law_172 rfl (lv_at hl 0 rfl) ?_
  refine lv_iconst (v := (nI 3)) hx hb dL_law_173 (by decide) ?_
  refine nv_iadd hx hb dL_law_174 ?_
  refine nv_sld hx hb hX hbl hbA hW.2.2 (by omega) (by omega) dL_law_175 ?_
  refine l_callmr (As := [.int (xs (i + 1)), .int (xs (i + 2)), .int (xs (i + 3))]) (rest := [.int r1]) hx hb hml hown hts (mem_read l D q1 b2 f k.1 k.2 (xs (i + 1)) (xs (i + 2)) (xs (i + 3))) (cwV 3 hts (lw_V q142 q143 q144 q11 q145) rfl rfl rfl (by decide +kernel) ⟨Nat.le_of_ble_eq_true rfl, Nat.le_of_ble_eq_true rfl⟩) hK hW.1 rfl hl.1 rfl (Nat.le_of_ble_eq_true rfl) dL_law_176 ⟨Nat.le_refl _, Nat.le_refl _⟩ (fun r2 hs2 => ?_)
  have er := sp_law_read hR hs1 hs2
  refine lv_icmp_eq (tgt := 514) hx hb dL_law_179 (by decide) (fun hq => ?_) (fun hq => ?_)
  · exact hn _ _ _ _ _ _ ls hI hR hW (lv_sub hl [0, 1, 2, 3] rfl)
  · exact absurd er hq
set_option maxHeartbeats 4000000 in
set_option maxRecDepth 100000 in
theorem law_fork (hL : L ≤ 320) (C0 : lw_At p s m meth c b L xs) (hi : i + 5 ≤ L) (hn : sp_next p l e s m below meth c D q0 a d q1 b2 f b i) (hK : va_K D vwCl (sp_xt d ++ sp_mt f) s) (hI : sp_XI g V Z) (hR : sp_Rl V Z k.1 k.2) (hW : sp_LP D (fun q : Nat => s.heap.size ≤ q) q0 a d q1 b2 f g k s.heap H locs) (hl : lv_has ls 4 [(3, .int (nI i)), (2, .ref q1), (1, .ref q0), (0, .ref b)]) : W p l e room_1 s m #[Value.ref b] below meth c H locs 600000 7290000 (lw_Z below #[Value.ref b] s) (F0 m 184 ls []) := by
  obtain ⟨hx, hb, hr, hml, hown, hts0, hX, hbl, hlocks, hgv⟩ := C0
  have hts : ∀ w ∈ lw_all, w.before #[Value.ref b] s = true := fun w h => hts0 w (lw_all_tbl h)
  have hA : ∀ q : Nat, s.heap.size ≤ q → (fun q : Nat => s.heap.size ≤ q) q := fun _ h => h
  have hbA : ¬ (fun q : Nat => s.heap.size ≤ q) b := Nat.not_le.mpr hbl
  refine lv_aload_n hx hb dL_law_184 rfl (lv_at hl 2 rfl) ?_
  refine lv_aload_n hx hb dL_law_185 rfl (lv_at hl 3 rfl) ?_
  refine lv_iload_n hx hb dL_law_186 rfl (lv_at hl 0 rfl) ?_
  refine lv_iconst (v := (nI 1)) hx hb dL_law_187 (by decide) ?_
  refine nv_iadd hx hb dL_law_188 ?_
  refine nv_sld hx hb hX hbl hbA hW.2.2 (by omega) (by omega) dL_law_189 ?_
  refine lv_aload_n hx hb dL_law_190 rfl (lv_at hl 3 rfl) ?_
  refine lv_iload_n hx hb dL_law_191 rfl (lv_at hl 0 rfl) ?_
  refine lv_iconst (v := (nI 2)) hx hb dL_law_192 (by decide) ?_
  refine nv_iadd hx hb dL_law_193 ?_
  refine nv_sld hx hb hX hbl hbA hW.2.2 (by omega) (by omega) dL_law_194 ?_
  refine l_callx (As := [.int (xs (i + 1)), .int (xs (i + 2))]) (rest := []) hx hb hml hown hts (met_fork l D q0 a d H.size g V Z hI (xs (i + 1)) (xs (i + 2))) (cwV 2 hts (lw_V q79 q80 q81 q10 q82) rfl rfl rfl (by decide +kernel) ⟨Nat.le_of_ble_eq_true rfl, Nat.le_of_ble_eq_true rfl⟩) hK hW hA rfl hl.1 rfl (Nat.le_of_ble_eq_true rfl) dL_law_195 ⟨Nat.le_refl _, Nat.le_refl _⟩ (fun r1 g1 H1 locs1 hq1 hW => ?_)
  obtain ⟨V1, hI1, hs1⟩ := hq1
  refine lv_aload_n hx hb dL_law_198 rfl (lv_at hl 1 rfl) ?_
  refine lv_aload_n hx hb dL_law_199 rfl (lv_at hl 3 rfl) ?_
  refine lv_iload_n hx hb dL_law_200 rfl (lv_at hl 0 rfl) ?_
  refine lv_iconst (v := (nI 1)) hx hb dL_law_201 (by decide) ?_
  refine nv_iadd hx hb dL_law_202 ?_
  refine nv_sld hx hb hX hbl hbA hW.2.2 (by omega) (by omega) dL_law_203 ?_
  refine lv_aload_n hx hb dL_law_204 rfl (lv_at hl 3 rfl) ?_
  refine lv_iload_n hx hb dL_law_205 rfl (lv_at hl 0 rfl) ?_
  refine lv_iconst (v := (nI 2)) hx hb dL_law_206 (by decide) ?_
  refine nv_iadd hx hb dL_law_207 ?_
  refine nv_sld hx hb hX hbl hbA hW.2.2 (by omega) (by omega) dL_law_208 ?_
  refine l_callm (As := [.int (xs (i + 1)), .int (xs (i + 2))]) (rest := [.int r1]) hx hb hml hown hts (mem_fork l D q1 b2 f H1.size k.1 k.2 (xs (i + 1)) (xs (i + 2))) (cwV 2 hts (lw_V q146 q147 q148 q11 q149) rfl rfl rfl (by decide +kernel) ⟨Nat.le_of_ble_eq_true rfl, Nat.le_of_ble_eq_true rfl⟩) hK hW hA rfl hl.1 rfl (Nat.le_of_ble_eq_true rfl) dL_law_209 ⟨Nat.le_refl _, Nat.le_refl _⟩ (fun r2 k1 H2 locs2 hq2 hW => ?_)
  obtain ⟨K1, rfl, hs2⟩ := hq2
  obtain ⟨er, hR1⟩ := sp_law_fork hR hs1 hs2
  refine lv_icmp_eq (tgt := 514) hx hb dL_law_212 (by decide) (fun hq => ?_) (fun hq => ?_)
  · exact hn _ _ _ _ _ _ ls hI1 hR1 hW (lv_sub hl [0, 1, 2, 3] rfl)
  · exact absurd er hq
set_option maxHeartbeats 4000000 in
set_option maxRecDepth 100000 in
theorem law_pack (hL : L ≤ 320) (C0 : lw_At p s m meth c b L xs) (hi : i + 5 ≤ L) (hn : sp_next p l e s m below meth c D q0 a d q1 b2 f b i) (hK : va_K D vwCl (sp_xt d ++ sp_mt f) s) (hI : sp_XI g V Z) (hR : sp_Rl V Z k.1 k.2) (hW : sp_LP D (fun q : Nat => s.heap.size ≤ q) q0 a d q1 b2 f g k s.heap H locs) (hl : lv_has ls 4 [(3, .int (nI i)), (2, .ref q1), (1, .ref q0), (0, .ref b)]) : W p l e room_1 s m #[Value.ref b] below meth c H locs 600000 7290000 (lw_Z below #[Value.ref b] s) (F0 m 217 ls []) := by
  obtain ⟨hx, hb, hr, hml, hown, hts0, hX, hbl, hlocks, hgv⟩ := C0
  have hts : ∀ w ∈ lw_all, w.before #[Value.ref b] s = true := fun w h => hts0 w (lw_all_tbl h)
  have hA : ∀ q : Nat, s.heap.size ≤ q → (fun q : Nat => s.heap.size ≤ q) q := fun _ h => h
  have hbA : ¬ (fun q : Nat => s.heap.size ≤ q) b := Nat.not_le.mpr hbl
  refine lv_aload_n hx hb dL_law_217 rfl (lv_at hl 2 rfl) ?_
  refine lv_aload_n hx hb dL_law_218 rfl (lv_at hl 3 rfl) ?_
  refine lv_iload_n hx hb dL_law_219 rfl (lv_at hl 0 rfl) ?_
  refine lv_iconst (v := (nI 1)) hx hb dL_law_220 (by decide) ?_
  refine nv_iadd hx hb dL_law_221 ?_
  refine nv_sld hx hb hX hbl hbA hW.2.2 (by omega) (by omega) dL_law_222 ?_
  refine lv_aload_n hx hb dL_law_223 rfl (lv_at hl 3 rfl) ?_
  refine lv_iload_n hx hb dL_law_224 rfl (lv_at hl 0 rfl) ?_
  refine lv_iconst (v := (nI 2)) hx hb dL_law_225 (by decide) ?_
  refine nv_iadd hx hb dL_law_226 ?_
  refine nv_sld hx hb hX hbl hbA hW.2.2 (by omega) (by omega) dL_law_227 ?_
  refine lv_aload_n hx hb dL_law_228 rfl (lv_at hl 3 rfl) ?_
  refine lv_iload_n hx hb dL_law_229 rfl (lv_at hl 0 rfl) ?_
  refine lv_iconst (v := (nI 3)) hx hb dL_law_230 (by decide) ?_
  refine nv_iadd hx hb dL_law_231 ?_
  refine nv_sld hx hb hX hbl hbA hW.2.2 (by omega) (by omega) dL_law_232 ?_
  refine lv_aload_n hx hb dL_law_233 rfl (lv_at hl 3 rfl) ?_
  refine lv_iload_n hx hb dL_law_234 rfl (lv_at hl 0 rfl) ?_
  refine lv_iconst (v := (nI 4)) hx hb dL_law_235 (by decide) ?_
  refine nv_iadd hx hb dL_law_236 ?_
  refine nv_sld hx hb hX hbl hbA hW.2.2 (by omega) (by omega) dL_law_237 ?_
  refine l_callx (As := [.int (xs (i + 1)), .int (xs (i + 2)), .int (xs (i + 3)), .int (xs (i + 4))]) (rest := []) hx hb hml hown hts (met_pack l D q0 a d H.size g V Z hI (xs (i + 1)) (xs (i + 2)) (xs (i + 3)) (xs (i + 4))) (cwV 4 hts (lw_V q87 q88 q89 q10 q90) rfl rfl rfl (by decide +kernel) ⟨Nat.le_of_ble_eq_true rfl, Nat.le_of_ble_eq_true rfl⟩) hK hW hA rfl hl.1 rfl (Nat.le_of_ble_eq_true rfl) dL_law_238 ⟨Nat.le_refl _, Nat.le_refl _⟩ (fun r1 g1 H1 locs1 hq1 hW => ?_)
  obtain ⟨V1, Z1, hI1, hs1⟩ := hq1
  refine lv_aload_n hx hb dL_law_241 rfl (lv_at hl 1 rfl) ?_
  refine lv_aload_n hx hb dL_law_242 rfl (lv_at hl 3 rfl) ?_
  refine lv_iload_n hx hb dL_law_243 rfl (lv_at hl 0 rfl) ?_
  refine lv_iconst (v := (nI 1)) hx hb dL_law_244 (by decide) ?_
  refine nv_iadd hx hb dL_law_245 ?_
  refine nv_sld hx hb hX hbl hbA hW.2.2 (by omega) (by omega) dL_law_246 ?_
  refine lv_aload_n hx hb dL_law_247 rfl (lv_at hl 3 rfl) ?_
  refine lv_iload_n hx hb dL_law_248 rfl (lv_at hl 0 rfl) ?_
  refine lv_iconst (v := (nI 2)) hx hb dL_law_249 (by decide) ?_
  refine nv_iadd hx hb dL_law_250 ?_
  refine nv_sld hx hb hX hbl hbA hW.2.2 (by omega) (by omega) dL_law_251 ?_
  refine lv_aload_n hx hb dL_law_252 rfl (lv_at hl 3 rfl) ?_
  refine lv_iload_n hx hb dL_law_253 rfl (lv_at hl 0 rfl) ?_
  refine lv_iconst (v := (nI 3)) hx hb dL_law_254 (by decide) ?_
  refine nv_iadd hx hb dL_law_255 ?_
  refine nv_sld hx hb hX hbl hbA hW.2.2 (by omega) (by omega) dL_law_256 ?_
  refine lv_aload_n hx hb dL_law_257 rfl (lv_at hl 3 rfl) ?_
  refine lv_iload_n hx hb dL_law_258 rfl (lv_at hl 0 rfl) ?_
  refine lv_iconst (v := (nI 4)) hx hb dL_law_259 (by decide) ?_
  refine nv_iadd hx hb dL_law_260 ?_
  refine nv_sld hx hb hX hbl hbA hW.2.2 (by omega) (by omega) dL_law_261 ?_
  refine l_callm (As := [.int (xs (i + 1)), .int (xs (i + 2)), .int (xs (i + 3)), .int (xs (i + 4))]) (rest := [.int r1]) hx hb hml hown hts (mem_pack l D q1 b2 f H1.size k.1 k.2 (xs (i + 1)) (xs (i + 2)) (xs (i + 3)) (xs (i + 4))) (cwV 4 hts (lw_V q154 q155 q156 q11 q157) rfl rfl rfl (by decide +kernel) ⟨Nat.le_of_ble_eq_true rfl, Nat.le_of_ble_eq_true rfl⟩) hK hW hA rfl hl.1 rfl (Nat.le_of_ble_eq_true rfl) dL_law_262 ⟨Nat.le_refl _, Nat.le_refl _⟩ (fun r2 k1 H2 locs2 hq2 hW => ?_)
  obtain ⟨K1, Y1, rfl, hs2⟩ := hq2
  obtain ⟨er, hR1⟩ := sp_law_pack hR hs1 hs2
  refine lv_icmp_eq (tgt := 514) hx hb dL_law_265 (by decide) (fun hq => ?_) (fun hq => ?_)
  · exact hn _ _ _ _ _ _ ls hI1 hR1 hW (lv_sub hl [0, 1, 2, 3] rfl)
  · exact absurd er hq
set_option maxHeartbeats 4000000 in
set_option maxRecDepth 100000 in
theorem law_unpack (hL : L ≤ 320) (C0 : lw_At p s m meth c b L xs) (hi : i + 5 ≤ L) (hn : sp_next p l e s m below meth c D q0 a d q1 b2 f b i) (hK : va_K D vwCl (sp_xt d ++ sp_mt f) s) (hI : sp_XI g V Z) (hR : sp_Rl V Z k.1 k.2) (hW : sp_LP D (fun q : Nat => s.heap.size ≤ q) q0 a d q1 b2 f g k s.heap H locs) (hl : lv_has ls 4 [(3, .int (nI i)), (2, .ref q1), (1, .ref q0), (0, .ref b)]) : W p l e room_1 s m #[Value.ref b] below meth c H locs 600000 7290000 (lw_Z below #[Value.ref b] s) (F0 m 270 ls []) := by
  obtain ⟨hx, hb, hr, hml, hown, hts0, hX, hbl, hlocks, hgv⟩ := C0
  have hts : ∀ w ∈ lw_all, w.before #[Value.ref b] s = true := fun w h => hts0 w (lw_all_tbl h)
  have hA : ∀ q : Nat, s.heap.size ≤ q → (fun q : Nat => s.heap.size ≤ q) q := fun _ h => h
  have hbA : ¬ (fun q : Nat => s.heap.size ≤ q) b := Nat.not_le.mpr hbl
  have hZ8 := hR.1
  have hY8 : ∀ k2, k2 < 4 → k.2 k2 ≤ 8 := fun k2 h2 => by rw [hR.2.1 k2 h2]; exact hR.1 k2 h2
  refine lv_aload_n hx hb dL_law_270 rfl (lv_at hl 2 rfl) ?_
  refine lv_aload_n hx hb dL_law_271 rfl (lv_at hl 3 rfl) ?_
  refine lv_iload_n hx hb dL_law_272 rfl (lv_at hl 0 rfl) ?_
  refine lv_iconst (v := (nI 1)) hx hb dL_law_273 (by decide) ?_
  refine nv_iadd hx hb dL_law_274 ?_
  refine nv_sld hx hb hX hbl hbA hW.2.2 (by omega) (by omega) dL_law_275 ?_
  refine lv_aload_n hx hb dL_law_276 rfl (lv_at hl 3 rfl) ?_
  refine lv_iload_n hx hb dL_law_277 rfl (lv_at hl 0 rfl) ?_
  refine lv_iconst (v := (nI 2)) hx hb dL_law_278 (by decide) ?_
  refine nv_iadd hx hb dL_law_279 ?_
  refine nv_sld hx hb hX hbl hbA hW.2.2 (by omega) (by omega) dL_law_280 ?_
  refine lv_aload_n hx hb dL_law_281 rfl (lv_at hl 3 rfl) ?_
  refine lv_iload_n hx hb dL_law_282 rfl (lv_at hl 0 rfl) ?_
  refine lv_iconst (v := (nI 3)) hx hb dL_law_283 (by decide) ?_
  refine nv_iadd hx hb dL_law_284 ?_
  refine nv_sld hx hb hX hbl hbA hW.2.2 (by omega) (by omega) dL_law_285 ?_
  refine lv_aload_n hx hb dL_law_286 rfl (lv_at hl 3 rfl) ?_
  refine lv_iload_n hx hb dL_law_287 rfl (lv_at hl 0 rfl) ?_
  refine lv_iconst (v := (nI 4)) hx hb dL_law_288 (by decide) ?_
  refine nv_iadd hx hb dL_law_289 ?_
  refine nv_sld hx hb hX hbl hbA hW.2.2 (by omega) (by omega) dL_law_290 ?_
  refine lv_if_eq (tgt := 298) hx hb dL_law_291 (by decide) (fun h0 => ?_) (fun h0 => ?_)
  · refine lv_iconst (v := (sp_eb false)) hx hb dL_law_298 (by decide) ?_
    refine l_callx (As := [.int (xs (i + 1)), .int (xs (i + 2)), .int (xs (i + 3)), .int (sp_eb false)]) (rest := []) hx hb hml hown hts (met_unpack l D q0 a d H.size g V Z hI hZ8 (xs (i + 1)) (xs (i + 2)) (xs (i + 3)) false) (cwV 4 hts (lw_V q91 q92 q93 q10 q94) rfl rfl rfl (by decide +kernel) ⟨Nat.le_of_ble_eq_true rfl, Nat.le_of_ble_eq_true rfl⟩) hK hW hA rfl hl.1 rfl (Nat.le_of_ble_eq_true rfl) dL_law_299 ⟨Nat.le_refl _, Nat.le_refl _⟩ (fun r1 g1 H1 locs1 hq1 hW => ?_)
    obtain ⟨V1, Z1, hI1, hs1⟩ := hq1
    refine lv_aload_n hx hb dL_law_302 rfl (lv_at hl 1 rfl) ?_
    refine lv_aload_n hx hb dL_law_303 rfl (lv_at hl 3 rfl) ?_
    refine lv_iload_n hx hb dL_law_304 rfl (lv_at hl 0 rfl) ?_
    refine lv_iconst (v := (nI 1)) hx hb dL_law_305 (by decide) ?_
    refine nv_iadd hx hb dL_law_306 ?_
    refine nv_sld hx hb hX hbl hbA hW.2.2 (by omega) (by omega) dL_law_307 ?_
    refine lv_aload_n hx hb dL_law_308 rfl (lv_at hl 3 rfl) ?_
    refine lv_iload_n hx hb dL_law_309 rfl (lv_at hl 0 rfl) ?_
    refine lv_iconst (v := (nI 2)) hx hb dL_law_310 (by decide) ?_
    refine nv_iadd hx hb dL_law_311 ?_
    refine nv_sld hx hb hX hbl hbA hW.2.2 (by omega) (by omega) dL_law_312 ?_
    refine lv_aload_n hx hb dL_law_313 rfl (lv_at hl 3 rfl) ?_
    refine lv_iload_n hx hb dL_law_314 rfl (lv_at hl 0 rfl) ?_
    refine lv_iconst (v := (nI 3)) hx hb dL_law_315 (by decide) ?_
    refine nv_iadd hx hb dL_law_316 ?_
    refine nv_sld hx hb hX hbl hbA hW.2.2 (by omega) (by omega) dL_law_317 ?_
    refine lv_aload_n hx hb dL_law_318 rfl (lv_at hl 3 rfl) ?_
    refine lv_iload_n hx hb dL_law_319 rfl (lv_at hl 0 rfl) ?_
    refine lv_iconst (v := (nI 4)) hx hb dL_law_320 (by decide) ?_
    refine nv_iadd hx hb dL_law_321 ?_
    refine nv_sld hx hb hX hbl hbA hW.2.2 (by omega) (by omega) dL_law_322 ?_
    refine lv_if_eq (tgt := 330) hx hb dL_law_323 (by decide) (fun h9 => ?_) (fun h9 => ?_)
    · refine lv_iconst (v := (sp_eb false)) hx hb dL_law_330 (by decide) ?_
      refine l_callm (As := [.int (xs (i + 1)), .int (xs (i + 2)), .int (xs (i + 3)), .int (sp_eb false)]) (rest := [.int r1]) hx hb hml hown hts (mem_unpack l D q1 b2 f H1.size k.1 k.2 hY8 (xs (i + 1)) (xs (i + 2)) (xs (i + 3)) false) (cwV 4 hts (lw_V q158 q159 q160 q11 q161) rfl rfl rfl (by decide +kernel) ⟨Nat.le_of_ble_eq_true rfl, Nat.le_of_ble_eq_true rfl⟩) hK hW hA rfl hl.1 rfl (Nat.le_of_ble_eq_true rfl) dL_law_331 ⟨Nat.le_refl _, Nat.le_refl _⟩ (fun r2 k1 H2 locs2 hq2 hW => ?_)
      obtain ⟨K1, Y1, rfl, hs2⟩ := hq2
      obtain ⟨er, hR1⟩ := sp_law_unpack hR hs1 hs2
      refine lv_icmp_eq (tgt := 514) hx hb dL_law_334 (by decide) (fun hq => ?_) (fun hq => ?_)
      · exact hn _ _ _ _ _ _ ls hI1 hR1 hW (lv_sub hl [0, 1, 2, 3] rfl)
      · exact absurd er hq
    · exact absurd h0 h9
  · refine lv_iconst (v := (sp_eb true)) hx hb dL_law_294 (by decide) ?_
    refine lv_goto (tgt := 299) hx hb dL_law_295 (by decide) ?_
    refine l_callx (As := [.int (xs (i + 1)), .int (xs (i + 2)), .int (xs (i + 3)), .int (sp_eb true)]) (rest := []) hx hb hml hown hts (met_unpack l D q0 a d H.size g V Z hI hZ8 (xs (i + 1)) (xs (i + 2)) (xs (i + 3)) true) (cwV 4 hts (lw_V q91 q92 q93 q10 q94) rfl rfl rfl (by decide +kernel) ⟨Nat.le_of_ble_eq_true rfl, Nat.le_of_ble_eq_true rfl⟩) hK hW hA rfl hl.1 rfl (Nat.le_of_ble_eq_true rfl) dL_law_299 ⟨Nat.le_refl _, Nat.le_refl _⟩ (fun r1 g1 H1 locs1 hq1 hW => ?_)
    obtain ⟨V1, Z1, hI1, hs1⟩ := hq1
    refine lv_aload_n hx hb dL_law_302 rfl (lv_at hl 1 rfl) ?_
    refine lv_aload_n hx hb dL_law_303 rfl (lv_at hl 3 rfl) ?_
    refine lv_iload_n hx hb dL_law_304 rfl (lv_at hl 0 rfl) ?_
    refine lv_iconst (v := (nI 1)) hx hb dL_law_305 (by decide) ?_
    refine nv_iadd hx hb dL_law_306 ?_
    refine nv_sld hx hb hX hbl hbA hW.2.2 (by omega) (by omega) dL_law_307 ?_
    refine lv_aload_n hx hb dL_law_308 rfl (lv_at hl 3 rfl) ?_
    refine lv_iload_n hx hb dL_law_309 rfl (lv_at hl 0 rfl) ?_
    refine lv_iconst (v := (nI 2)) hx hb dL_law_310 (by decide) ?_
    refine nv_iadd hx hb dL_law_311 ?_
    refine nv_sld hx hb hX hbl hbA hW.2.2 (by omega) (by omega) dL_law_312 ?_
    refine lv_aload_n hx hb dL_law_313 rfl (lv_at hl 3 rfl) ?_
    refine lv_iload_n hx hb dL_law_314 rfl (lv_at hl 0 rfl) ?_
    refine lv_iconst (v := (nI 3)) hx hb dL_law_315 (by decide) ?_
    refine nv_iadd hx hb dL_law_316 ?_
    refine nv_sld hx hb hX hbl hbA hW.2.2 (by omega) (by omega) dL_law_317 ?_
    refine lv_aload_n hx hb dL_law_318 rfl (lv_at hl 3 rfl) ?_
    refine lv_iload_n hx hb dL_law_319 rfl (lv_at hl 0 rfl) ?_
    refine lv_iconst (v := (nI 4)) hx hb dL_law_320 (by decide) ?_
    refine nv_iadd hx hb dL_law_321 ?_
    refine nv_sld hx hb hX hbl hbA hW.2.2 (by omega) (by omega) dL_law_322 ?_
    refine lv_if_eq (tgt := 330) hx hb dL_law_323 (by decide) (fun h9 => ?_) (fun h9 => ?_)
    · exact absurd h9 h0
    · refine lv_iconst (v := (sp_eb true)) hx hb dL_law_326 (by decide) ?_
      refine lv_goto (tgt := 331) hx hb dL_law_327 (by decide) ?_
      refine l_callm (As := [.int (xs (i + 1)), .int (xs (i + 2)), .int (xs (i + 3)), .int (sp_eb true)]) (rest := [.int r1]) hx hb hml hown hts (mem_unpack l D q1 b2 f H1.size k.1 k.2 hY8 (xs (i + 1)) (xs (i + 2)) (xs (i + 3)) true) (cwV 4 hts (lw_V q158 q159 q160 q11 q161) rfl rfl rfl (by decide +kernel) ⟨Nat.le_of_ble_eq_true rfl, Nat.le_of_ble_eq_true rfl⟩) hK hW hA rfl hl.1 rfl (Nat.le_of_ble_eq_true rfl) dL_law_331 ⟨Nat.le_refl _, Nat.le_refl _⟩ (fun r2 k1 H2 locs2 hq2 hW => ?_)
      obtain ⟨K1, Y1, rfl, hs2⟩ := hq2
      obtain ⟨er, hR1⟩ := sp_law_unpack hR hs1 hs2
      refine lv_icmp_eq (tgt := 514) hx hb dL_law_334 (by decide) (fun hq => ?_) (fun hq => ?_)
      · exact hn _ _ _ _ _ _ ls hI1 hR1 hW (lv_sub hl [0, 1, 2, 3] rfl)
      · exact absurd er hq
set_option maxHeartbeats 4000000 in
set_option maxRecDepth 100000 in
theorem law_exchange (hL : L ≤ 320) (C0 : lw_At p s m meth c b L xs) (hi : i + 5 ≤ L) (hn : sp_next p l e s m below meth c D q0 a d q1 b2 f b i) (hK : va_K D vwCl (sp_xt d ++ sp_mt f) s) (hI : sp_XI g V Z) (hR : sp_Rl V Z k.1 k.2) (hW : sp_LP D (fun q : Nat => s.heap.size ≤ q) q0 a d q1 b2 f g k s.heap H locs) (hl : lv_has ls 4 [(3, .int (nI i)), (2, .ref q1), (1, .ref q0), (0, .ref b)]) : W p l e room_1 s m #[Value.ref b] below meth c H locs 600000 7290000 (lw_Z below #[Value.ref b] s) (F0 m 339 ls []) := by
  obtain ⟨hx, hb, hr, hml, hown, hts0, hX, hbl, hlocks, hgv⟩ := C0
  have hts : ∀ w ∈ lw_all, w.before #[Value.ref b] s = true := fun w h => hts0 w (lw_all_tbl h)
  have hA : ∀ q : Nat, s.heap.size ≤ q → (fun q : Nat => s.heap.size ≤ q) q := fun _ h => h
  have hbA : ¬ (fun q : Nat => s.heap.size ≤ q) b := Nat.not_le.mpr hbl
  refine lv_aload_n hx hb dL_law_339 rfl (lv_at hl 2 rfl) ?_
  refine lv_aload_n hx hb dL_law_340 rfl (lv_at hl 3 rfl) ?_
  refine lv_iload_n hx hb dL_law_341 rfl (lv_at hl 0 rfl) ?_
  refine lv_iconst (v := (nI 1)) hx hb dL_law_342 (by decide) ?_
  refine nv_iadd hx hb dL_law_343 ?_
  refine nv_sld hx hb hX hbl hbA hW.2.2 (by omega) (by omega) dL_law_344 ?_
  refine lv_aload_n hx hb dL_law_345 rfl (lv_at hl 3 rfl) ?_
  refine lv_iload_n hx hb dL_law_346 rfl (lv_at hl 0 rfl) ?_
  refine lv_iconst (v := (nI 2)) hx hb dL_law_347 (by decide) ?_
  refine nv_iadd hx hb dL_law_348 ?_
  refine nv_sld hx hb hX hbl hbA hW.2.2 (by omega) (by omega) dL_law_349 ?_
  refine lv_aload_n hx hb dL_law_350 rfl (lv_at hl 3 rfl) ?_
  refine lv_iload_n hx hb dL_law_351 rfl (lv_at hl 0 rfl) ?_
  refine lv_iconst (v := (nI 3)) hx hb dL_law_352 (by decide) ?_
  refine nv_iadd hx hb dL_law_353 ?_
  refine nv_sld hx hb hX hbl hbA hW.2.2 (by omega) (by omega) dL_law_354 ?_
  refine l_callx (As := [.int (xs (i + 1)), .int (xs (i + 2)), .int (xs (i + 3))]) (rest := []) hx hb hml hown hts (met_exchange l D q0 a d H.size g V Z hI (xs (i + 1)) (xs (i + 2)) (xs (i + 3))) (cwV 3 hts (lw_V q95 q96 q97 q10 q98) rfl rfl rfl (by decide +kernel) ⟨Nat.le_of_ble_eq_true rfl, Nat.le_of_ble_eq_true rfl⟩) hK hW hA rfl hl.1 rfl (Nat.le_of_ble_eq_true rfl) dL_law_355 ⟨Nat.le_refl _, Nat.le_refl _⟩ (fun r1 g1 H1 locs1 hq1 hW => ?_)
  obtain ⟨V1, hI1, hs1⟩ := hq1
  refine lv_aload_n hx hb dL_law_358 rfl (lv_at hl 1 rfl) ?_
  refine lv_aload_n hx hb dL_law_359 rfl (lv_at hl 3 rfl) ?_
  refine lv_iload_n hx hb dL_law_360 rfl (lv_at hl 0 rfl) ?_
  refine lv_iconst (v := (nI 1)) hx hb dL_law_361 (by decide) ?_
  refine nv_iadd hx hb dL_law_362 ?_
  refine nv_sld hx hb hX hbl hbA hW.2.2 (by omega) (by omega) dL_law_363 ?_
  refine lv_aload_n hx hb dL_law_364 rfl (lv_at hl 3 rfl) ?_
  refine lv_iload_n hx hb dL_law_365 rfl (lv_at hl 0 rfl) ?_
  refine lv_iconst (v := (nI 2)) hx hb dL_law_366 (by decide) ?_
  refine nv_iadd hx hb dL_law_367 ?_
  refine nv_sld hx hb hX hbl hbA hW.2.2 (by omega) (by omega) dL_law_368 ?_
  refine lv_aload_n hx hb dL_law_369 rfl (lv_at hl 3 rfl) ?_
  refine lv_iload_n hx hb dL_law_370 rfl (lv_at hl 0 rfl) ?_
  refine lv_iconst (v := (nI 3)) hx hb dL_law_371 (by decide) ?_
  refine nv_iadd hx hb dL_law_372 ?_
  refine nv_sld hx hb hX hbl hbA hW.2.2 (by omega) (by omega) dL_law_373 ?_
  refine l_callm (As := [.int (xs (i + 1)), .int (xs (i + 2)), .int (xs (i + 3))]) (rest := [.int r1]) hx hb hml hown hts (mem_exchange l D q1 b2 f H1.size k.1 k.2 (xs (i + 1)) (xs (i + 2)) (xs (i + 3))) (cwV 3 hts (lw_V q162 q163 q164 q11 q165) rfl rfl rfl (by decide +kernel) ⟨Nat.le_of_ble_eq_true rfl, Nat.le_of_ble_eq_true rfl⟩) hK hW hA rfl hl.1 rfl (Nat.le_of_ble_eq_true rfl) dL_law_374 ⟨Nat.le_refl _, Nat.le_refl _⟩ (fun r2 k1 H2 locs2 hq2 hW => ?_)
  obtain ⟨K1, rfl, hs2⟩ := hq2
  obtain ⟨er, hR1⟩ := sp_law_exchange hR hs1 hs2
  refine lv_icmp_eq (tgt := 514) hx hb dL_law_377 (by decide) (fun hq => ?_) (fun hq => ?_)
  · exact hn _ _ _ _ _ _ ls hI1 hR1 hW (lv_sub hl [0, 1, 2, 3] rfl)
  · exact absurd er hq
set_option maxHeartbeats 4000000 in
set_option maxRecDepth 100000 in
theorem law_clear (hL : L ≤ 320) (C0 : lw_At p s m meth c b L xs) (hi : i + 5 ≤ L) (hn : sp_next p l e s m below meth c D q0 a d q1 b2 f b i) (hK : va_K D vwCl (sp_xt d ++ sp_mt f) s) (hI : sp_XI g V Z) (hR : sp_Rl V Z k.1 k.2) (hW : sp_LP D (fun q : Nat => s.heap.size ≤ q) q0 a d q1 b2 f g k s.heap H locs) (hl : lv_has ls 4 [(3, .int (nI i)), (2, .ref q1), (1, .ref q0), (0, .ref b)]) : W p l e room_1 s m #[Value.ref b] below meth c H locs 600000 7290000 (lw_Z below #[Value.ref b] s) (F0 m 382 ls []) := by
  obtain ⟨hx, hb, hr, hml, hown, hts0, hX, hbl, hlocks, hgv⟩ := C0
  have hts : ∀ w ∈ lw_all, w.before #[Value.ref b] s = true := fun w h => hts0 w (lw_all_tbl h)
  have hA : ∀ q : Nat, s.heap.size ≤ q → (fun q : Nat => s.heap.size ≤ q) q := fun _ h => h
  have hbA : ¬ (fun q : Nat => s.heap.size ≤ q) b := Nat.not_le.mpr hbl
  refine lv_aload_n hx hb dL_law_382 rfl (lv_at hl 2 rfl) ?_
  refine lv_aload_n hx hb dL_law_383 rfl (lv_at hl 3 rfl) ?_
  refine lv_iload_n hx hb dL_law_384 rfl (lv_at hl 0 rfl) ?_
  refine lv_iconst (v := (nI 1)) hx hb dL_law_385 (by decide) ?_
  refine nv_iadd hx hb dL_law_386 ?_
  refine nv_sld hx hb hX hbl hbA hW.2.2 (by omega) (by omega) dL_law_387 ?_
  refine lv_aload_n hx hb dL_law_388 rfl (lv_at hl 3 rfl) ?_
  refine lv_iload_n hx hb dL_law_389 rfl (lv_at hl 0 rfl) ?_
  refine lv_iconst (v := (nI 2)) hx hb dL_law_390 (by decide) ?_
  refine nv_iadd hx hb dL_law_391 ?_
  refine nv_sld hx hb hX hbl hbA hW.2.2 (by omega) (by omega) dL_law_392 ?_
  refine l_callx (As := [.int (xs (i + 1)), .int (xs (i + 2))]) (rest := []) hx hb hml hown hts (met_clear l D q0 a d H.size g V Z hI (xs (i + 1)) (xs (i + 2))) (cwV 2 hts (lw_V q99 q100 q101 q10 q102) rfl rfl rfl (by decide +kernel) ⟨Nat.le_of_ble_eq_true rfl, Nat.le_of_ble_eq_true rfl⟩) hK hW hA rfl hl.1 rfl (Nat.le_of_ble_eq_true rfl) dL_law_393 ⟨Nat.le_refl _, Nat.le_refl _⟩ (fun r1 g1 H1 locs1 hq1 hW => ?_)
  obtain ⟨V1, hI1, hs1⟩ := hq1
  refine lv_aload_n hx hb dL_law_396 rfl (lv_at hl 1 rfl) ?_
  refine lv_aload_n hx hb dL_law_397 rfl (lv_at hl 3 rfl) ?_
  refine lv_iload_n hx hb dL_law_398 rfl (lv_at hl 0 rfl) ?_
  refine lv_iconst (v := (nI 1)) hx hb dL_law_399 (by decide) ?_
  refine nv_iadd hx hb dL_law_400 ?_
  refine nv_sld hx hb hX hbl hbA hW.2.2 (by omega) (by omega) dL_law_401 ?_
  refine lv_aload_n hx hb dL_law_402 rfl (lv_at hl 3 rfl) ?_
  refine lv_iload_n hx hb dL_law_403 rfl (lv_at hl 0 rfl) ?_
  refine lv_iconst (v := (nI 2)) hx hb dL_law_404 (by decide) ?_
  refine nv_iadd hx hb dL_law_405 ?_
  refine nv_sld hx hb hX hbl hbA hW.2.2 (by omega) (by omega) dL_law_406 ?_
  refine l_callm (As := [.int (xs (i + 1)), .int (xs (i + 2))]) (rest := [.int r1]) hx hb hml hown hts (mem_clear l D q1 b2 f H1.size k.1 k.2 (xs (i + 1)) (xs (i + 2))) (cwV 2 hts (lw_V q166 q167 q168 q11 q169) rfl rfl rfl (by decide +kernel) ⟨Nat.le_of_ble_eq_true rfl, Nat.le_of_ble_eq_true rfl⟩) hK hW hA rfl hl.1 rfl (Nat.le_of_ble_eq_true rfl) dL_law_407 ⟨Nat.le_refl _, Nat.le_refl _⟩ (fun r2 k1 H2 locs2 hq2 hW => ?_)
  obtain ⟨K1, rfl, hs2⟩ := hq2
  obtain ⟨er, hR1⟩ := sp_law_clear hR hs1 hs2
  refine lv_icmp_eq (tgt := 514) hx hb dL_law_410 (by decide) (fun hq => ?_) (fun hq => ?_)
  · exact hn _ _ _ _ _ _ ls hI1 hR1 hW (lv_sub hl [0, 1, 2, 3] rfl)
  · exact absurd er hq
set_option maxHeartbeats 4000000 in
set_option maxRecDepth 100000 in
theorem law_size (hL : L ≤ 320) (C0 : lw_At p s m meth c b L xs) (hi : i + 5 ≤ L) (hn : sp_next p l e s m below meth c D q0 a d q1 b2 f b i) (hK : va_K D vwCl (sp_xt d ++ sp_mt f) s) (hI : sp_XI g V Z) (hR : sp_Rl V Z k.1 k.2) (hW : sp_LP D (fun q : Nat => s.heap.size ≤ q) q0 a d q1 b2 f g k s.heap H locs) (hl : lv_has ls 4 [(3, .int (nI i)), (2, .ref q1), (1, .ref q0), (0, .ref b)]) : W p l e room_1 s m #[Value.ref b] below meth c H locs 600000 7290000 (lw_Z below #[Value.ref b] s) (F0 m 415 ls []) := by
  obtain ⟨hx, hb, hr, hml, hown, hts0, hX, hbl, hlocks, hgv⟩ := C0
  have hts : ∀ w ∈ lw_all, w.before #[Value.ref b] s = true := fun w h => hts0 w (lw_all_tbl h)
  have hA : ∀ q : Nat, s.heap.size ≤ q → (fun q : Nat => s.heap.size ≤ q) q := fun _ h => h
  have hbA : ¬ (fun q : Nat => s.heap.size ≤ q) b := Nat.not_le.mpr hbl
  refine lv_aload_n hx hb dL_law_415 rfl (lv_at hl 2 rfl) ?_
  refine lv_aload_n hx hb dL_law_416 rfl (lv_at hl 3 rfl) ?_
  refine lv_iload_n hx hb dL_law_417 rfl (lv_at hl 0 rfl) ?_
  refine lv_iconst (v := (nI 1)) hx hb dL_law_418 (by decide) ?_
  refine nv_iadd hx hb dL_law_419 ?_
  refine nv_sld hx hb hX hbl hbA hW.2.2 (by omega) (by omega) dL_law_420 ?_
  refine l_callxr (As := [.int (xs (i + 1))]) (rest := []) hx hb hml hown hts (met_size l D q0 a d g V Z hI (xs (i + 1))) (cwV 1 hts (lw_V q103 q104 q105 q10 q106) rfl rfl rfl (by decide +kernel) ⟨Nat.le_of_ble_eq_true rfl, Nat.le_of_ble_eq_true rfl⟩) hK hW.1 rfl hl.1 rfl (Nat.le_of_ble_eq_true rfl) dL_law_421 ⟨Nat.le_refl _, Nat.le_refl _⟩ (fun r1 hs1 => ?_)
  refine lv_aload_n hx hb dL_law_424 rfl (lv_at hl 1 rfl) ?_
  refine lv_aload_n hx hb dL_law_425 rfl (lv_at hl 3 rfl) ?_
  refine lv_iload_n hx hb dL_law_426 rfl (lv_at hl 0 rfl) ?_
  refine lv_iconst (v := (nI 1)) hx hb dL_law_427 (by decide) ?_
  refine nv_iadd hx hb dL_law_428 ?_
  refine nv_sld hx hb hX hbl hbA hW.2.2 (by omega) (by omega) dL_law_429 ?_
  refine l_callmr (As := [.int (xs (i + 1))]) (rest := [.int r1]) hx hb hml hown hts (mem_size l D q1 b2 f k.1 k.2 (xs (i + 1))) (cwV 1 hts (lw_V q170 q171 q172 q11 q173) rfl rfl rfl (by decide +kernel) ⟨Nat.le_of_ble_eq_true rfl, Nat.le_of_ble_eq_true rfl⟩) hK hW.1 rfl hl.1 rfl (Nat.le_of_ble_eq_true rfl) dL_law_430 ⟨Nat.le_refl _, Nat.le_refl _⟩ (fun r2 hs2 => ?_)
  have er := sp_law_size hR hs1 hs2
  refine lv_icmp_eq (tgt := 514) hx hb dL_law_433 (by decide) (fun hq => ?_) (fun hq => ?_)
  · exact hn _ _ _ _ _ _ ls hI hR hW (lv_sub hl [0, 1, 2, 3] rfl)
  · exact absurd er hq
set_option maxHeartbeats 4000000 in
set_option maxRecDepth 100000 in
theorem law_peek (hL : L ≤ 320) (C0 : lw_At p s m meth c b L xs) (hi : i + 5 ≤ L) (hn : sp_next p l e s m below meth c D q0 a d q1 b2 f b i) (hK : va_K D vwCl (sp_xt d ++ sp_mt f) s) (hI : sp_XI g V Z) (hR : sp_Rl V Z k.1 k.2) (hW : sp_LP D (fun q : Nat => s.heap.size ≤ q) q0 a d q1 b2 f g k s.heap H locs) (hl : lv_has ls 4 [(3, .int (nI i)), (2, .ref q1), (1, .ref q0), (0, .ref b)]) : W p l e room_1 s m #[Value.ref b] below meth c H locs 600000 7290000 (lw_Z below #[Value.ref b] s) (F0 m 438 ls []) := by
  obtain ⟨hx, hb, hr, hml, hown, hts0, hX, hbl, hlocks, hgv⟩ := C0
  have hts : ∀ w ∈ lw_all, w.before #[Value.ref b] s = true := fun w h => hts0 w (lw_all_tbl h)
  have hA : ∀ q : Nat, s.heap.size ≤ q → (fun q : Nat => s.heap.size ≤ q) q := fun _ h => h
  have hbA : ¬ (fun q : Nat => s.heap.size ≤ q) b := Nat.not_le.mpr hbl
  have hZ8 := hR.1
  have hY8 : ∀ k2, k2 < 4 → k.2 k2 ≤ 8 := fun k2 h2 => by rw [hR.2.1 k2 h2]; exact hR.1 k2 h2
  refine lv_aload_n hx hb dL_law_438 rfl (lv_at hl 2 rfl) ?_
  refine lv_aload_n hx hb dL_law_439 rfl (lv_at hl 3 rfl) ?_
  refine lv_iload_n hx hb dL_law_440 rfl (lv_at hl 0 rfl) ?_
  refine lv_iconst (v := (nI 1)) hx hb dL_law_441 (by decide) ?_
  refine nv_iadd hx hb dL_law_442 ?_
  refine nv_sld hx hb hX hbl hbA hW.2.2 (by omega) (by omega) dL_law_443 ?_
  refine lv_aload_n hx hb dL_law_444 rfl (lv_at hl 3 rfl) ?_
  refine lv_iload_n hx hb dL_law_445 rfl (lv_at hl 0 rfl) ?_
  refine lv_iconst (v := (nI 2)) hx hb dL_law_446 (by decide) ?_
  refine nv_iadd hx hb dL_law_447 ?_
  refine nv_sld hx hb hX hbl hbA hW.2.2 (by omega) (by omega) dL_law_448 ?_
  refine lv_aload_n hx hb dL_law_449 rfl (lv_at hl 3 rfl) ?_
  refine lv_iload_n hx hb dL_law_450 rfl (lv_at hl 0 rfl) ?_
  refine lv_iconst (v := (nI 3)) hx hb dL_law_451 (by decide) ?_
  refine nv_iadd hx hb dL_law_452 ?_
  refine nv_sld hx hb hX hbl hbA hW.2.2 (by omega) (by omega) dL_law_453 ?_
  refine l_callxr (As := [.int (xs (i + 1)), .int (xs (i + 2)), .int (xs (i + 3))]) (rest := []) hx hb hml hown hts (met_peek l D q0 a d g V Z hI hZ8 (xs (i + 1)) (xs (i + 2)) (xs (i + 3))) (cwV 3 hts (lw_V q107 q108 q109 q10 q110) rfl rfl rfl (by decide +kernel) ⟨Nat.le_of_ble_eq_true rfl, Nat.le_of_ble_eq_true rfl⟩) hK hW.1 rfl hl.1 rfl (Nat.le_of_ble_eq_true rfl) dL_law_454 ⟨Nat.le_refl _, Nat.le_refl _⟩ (fun r1 hs1 => ?_)
  refine lv_aload_n hx hb dL_law_457 rfl (lv_at hl 1 rfl) ?_
  refine lv_aload_n hx hb dL_law_458 rfl (lv_at hl 3 rfl) ?_
  refine lv_iload_n hx hb dL_law_459 rfl (lv_at hl 0 rfl) ?_
  refine lv_iconst (v := (nI 1)) hx hb dL_law_460 (by decide) ?_
  refine nv_iadd hx hb dL_law_461 ?_
  refine nv_sld hx hb hX hbl hbA hW.2.2 (by omega) (by omega) dL_law_462 ?_
  refine lv_aload_n hx hb dL_law_463 rfl (lv_at hl 3 rfl) ?_
  refine lv_iload_n hx hb dL_law_464 rfl (lv_at hl 0 rfl) ?_
  refine lv_iconst (v := (nI 2)) hx hb dL_law_465 (by decide) ?_
  refine nv_iadd hx hb dL_law_466 ?_
  refine nv_sld hx hb hX hbl hbA hW.2.2 (by omega) (by omega) dL_law_467 ?_
  refine lv_aload_n hx hb dL_law_468 rfl (lv_at hl 3 rfl) ?_
  refine lv_iload_n hx hb dL_law_469 rfl (lv_at hl 0 rfl) ?_
  refine lv_iconst (v := (nI 3)) hx hb dL_law_470 (by decide) ?_
  refine nv_iadd hx hb dL_law_471 ?_
  refine nv_sld hx hb hX hbl hbA hW.2.2 (by omega) (by omega) dL_law_472 ?_
  refine l_callmr (As := [.int (xs (i + 1)), .int (xs (i + 2)), .int (xs (i + 3))]) (rest := [.int r1]) hx hb hml hown hts (mem_peek l D q1 b2 f k.1 k.2 hY8 (xs (i + 1)) (xs (i + 2)) (xs (i + 3))) (cwV 3 hts (lw_V q174 q175 q176 q11 q177) rfl rfl rfl (by decide +kernel) ⟨Nat.le_of_ble_eq_true rfl, Nat.le_of_ble_eq_true rfl⟩) hK hW.1 rfl hl.1 rfl (Nat.le_of_ble_eq_true rfl) dL_law_473 ⟨Nat.le_refl _, Nat.le_refl _⟩ (fun r2 hs2 => ?_)
  have er := sp_law_peek hR hs1 hs2
  refine lv_icmp_eq (tgt := 514) hx hb dL_law_476 (by decide) (fun hq => ?_) (fun hq => ?_)
  · exact hn _ _ _ _ _ _ ls hI hR hW (lv_sub hl [0, 1, 2, 3] rfl)
  · exact absurd er hq
set_option maxHeartbeats 4000000 in
set_option maxRecDepth 100000 in
theorem law_alike (hL : L ≤ 320) (C0 : lw_At p s m meth c b L xs) (hi : i + 5 ≤ L) (hn : sp_next p l e s m below meth c D q0 a d q1 b2 f b i) (hK : va_K D vwCl (sp_xt d ++ sp_mt f) s) (hI : sp_XI g V Z) (hR : sp_Rl V Z k.1 k.2) (hW : sp_LP D (fun q : Nat => s.heap.size ≤ q) q0 a d q1 b2 f g k s.heap H locs) (hl : lv_has ls 4 [(3, .int (nI i)), (2, .ref q1), (1, .ref q0), (0, .ref b)]) : W p l e room_1 s m #[Value.ref b] below meth c H locs 600000 7290000 (lw_Z below #[Value.ref b] s) (F0 m 481 ls []) := by
  obtain ⟨hx, hb, hr, hml, hown, hts0, hX, hbl, hlocks, hgv⟩ := C0
  have hts : ∀ w ∈ lw_all, w.before #[Value.ref b] s = true := fun w h => hts0 w (lw_all_tbl h)
  have hA : ∀ q : Nat, s.heap.size ≤ q → (fun q : Nat => s.heap.size ≤ q) q := fun _ h => h
  have hbA : ¬ (fun q : Nat => s.heap.size ≤ q) b := Nat.not_le.mpr hbl
  refine lv_aload_n hx hb dL_law_481 rfl (lv_at hl 2 rfl) ?_
  refine lv_aload_n hx hb dL_law_482 rfl (lv_at hl 3 rfl) ?_
  refine lv_iload_n hx hb dL_law_483 rfl (lv_at hl 0 rfl) ?_
  refine lv_iconst (v := (nI 1)) hx hb dL_law_484 (by decide) ?_
  refine nv_iadd hx hb dL_law_485 ?_
  refine nv_sld hx hb hX hbl hbA hW.2.2 (by omega) (by omega) dL_law_486 ?_
  refine lv_aload_n hx hb dL_law_487 rfl (lv_at hl 3 rfl) ?_
  refine lv_iload_n hx hb dL_law_488 rfl (lv_at hl 0 rfl) ?_
  refine lv_iconst (v := (nI 2)) hx hb dL_law_489 (by decide) ?_
  refine nv_iadd hx hb dL_law_490 ?_
  refine nv_sld hx hb hX hbl hbA hW.2.2 (by omega) (by omega) dL_law_491 ?_
  refine l_callxr (As := [.int (xs (i + 1)), .int (xs (i + 2))]) (rest := []) hx hb hml hown hts (met_alike l D q0 a d g V Z hI (xs (i + 1)) (xs (i + 2))) (cwV 2 hts (lw_V q111 q112 q113 q10 q114) rfl rfl rfl (by decide +kernel) ⟨Nat.le_of_ble_eq_true rfl, Nat.le_of_ble_eq_true rfl⟩) hK hW.1 rfl hl.1 rfl (Nat.le_of_ble_eq_true rfl) dL_law_492 ⟨Nat.le_refl _, Nat.le_refl _⟩ (fun r1 hs1 => ?_)
  refine lv_aload_n hx hb dL_law_495 rfl (lv_at hl 1 rfl) ?_
  refine lv_aload_n hx hb dL_law_496 rfl (lv_at hl 3 rfl) ?_
  refine lv_iload_n hx hb dL_law_497 rfl (lv_at hl 0 rfl) ?_
  refine lv_iconst (v := (nI 1)) hx hb dL_law_498 (by decide) ?_
  refine nv_iadd hx hb dL_law_499 ?_
  refine nv_sld hx hb hX hbl hbA hW.2.2 (by omega) (by omega) dL_law_500 ?_
  refine lv_aload_n hx hb dL_law_501 rfl (lv_at hl 3 rfl) ?_
  refine lv_iload_n hx hb dL_law_502 rfl (lv_at hl 0 rfl) ?_
  refine lv_iconst (v := (nI 2)) hx hb dL_law_503 (by decide) ?_
  refine nv_iadd hx hb dL_law_504 ?_
  refine nv_sld hx hb hX hbl hbA hW.2.2 (by omega) (by omega) dL_law_505 ?_
  refine l_callmr (As := [.int (xs (i + 1)), .int (xs (i + 2))]) (rest := [.int r1]) hx hb hml hown hts (mem_alike l D q1 b2 f k.1 k.2 (xs (i + 1)) (xs (i + 2))) (cwV 2 hts (lw_V q178 q179 q180 q11 q181) rfl rfl rfl (by decide +kernel) ⟨Nat.le_of_ble_eq_true rfl, Nat.le_of_ble_eq_true rfl⟩) hK hW.1 rfl hl.1 rfl (Nat.le_of_ble_eq_true rfl) dL_law_506 ⟨Nat.le_refl _, Nat.le_refl _⟩ (fun r2 hs2 => ?_)
  have er := sp_law_alike hR hs1 hs2
  refine lv_icmp_eq (tgt := 514) hx hb dL_law_509 (by decide) (fun hq => ?_) (fun hq => ?_)
  · exact hn _ _ _ _ _ _ ls hI hR hW (lv_sub hl [0, 1, 2, 3] rfl)
  · exact absurd er hq
end LAWCASES
end
section
/-! the law's loop, its start, and the claim (the rows behind whole_start began as the skeleton's) -/
set_option maxHeartbeats 4000000 in
set_option maxRecDepth 100000 in
theorem law_loop {p : Program} {l : Launch} {e : Env} {s : State} {m : MethodId} {below : List Frame} {meth : Method} {c : Code} {D : va_G} {q0 : Nat} {a : Nat → Nat} {d : Nat → ClassId} {q1 : Nat} {b2 : Nat → Nat} {f : Nat → ClassId} {b L : Nat} {xs : Nat → Int32} (hL : L ≤ 320) (C0 : lw_At p s m meth c b L xs) (hK : va_K D vwCl (sp_xt d ++ sp_mt f) s) : ∀ (n i : Nat), L + 5 ≤ i + 5 * n → i ≤ 1000 → ∀ (g : sp_xg) (k : sp_mg) (V : Nat → Int32) (Z : Nat → Nat) (H : Heap) (locs : List Loc) (ls : Array Slot), sp_XI g V Z → sp_Rl V Z k.1 k.2 → sp_LP D (fun q : Nat => s.heap.size ≤ q) q0 a d q1 b2 f g k s.heap H locs → lv_has ls 4 [(3, .int (nI i)), (2, .ref q1), (1, .ref q0), (0, .ref b)] → W p l e room_1 s m #[Value.ref b] below meth c H locs 600000 7290000 (lw_Z below #[Value.ref b] s) (F0 m 18 ls []) := by
  have C1 := C0
  obtain ⟨hx, hb, hr, hml, hown, hts0, hX, hbl, hlocks, hgv⟩ := C0
  have hts : ∀ w ∈ lw_all, w.before #[Value.ref b] s = true := fun w h => hts0 w (lw_all_tbl h)
  have hA : ∀ q : Nat, s.heap.size ≤ q → (fun q : Nat => s.heap.size ≤ q) q := fun _ h => h
  have hbA : ¬ (fun q : Nat => s.heap.size ≤ q) b := Nat.not_le.mpr hbl
  have hgt : ∀ i, i ≤ 1000 → ¬ (nI L - nI 5 < nI i) → i + 5 ≤ L := fun i hi1 hi => by
    rw [Int32.lt_iff_toInt_lt, pk_sub_toInt (by omega) (by omega), nI_toInt (by omega)] at hi
    omega
  intro n
  induction n with
  | zero =>
    intro i h2 h3 g k V Z H locs ls hI hR hW hl
    refine lv_iload_n hx hb dL_law_18 rfl (lv_at hl 0 rfl) ?_
    refine lv_aload_n hx hb dL_law_19 rfl (lv_at hl 3 rfl) ?_
    refine va_slen hx hb hX hbl hbA hW.2.2 dL_law_20 ?_
    refine lv_iconst (v := (nI 5)) hx hb dL_law_21 (by decide) ?_
    refine lv_isub hx hb dL_law_22 ?_
    refine lv_icmp_gt (tgt := 520) hx hb dL_law_23 (by decide) (fun h1 => ?_) (fun h1 => ?_)
    · refine lv_iconst (v := 1) hx hb dL_law_520 (by decide) ?_
      refine va_forget (fun q hq => hW.2.2.2.2 q hq) ?_
      exact lw_ret hx hb hr hlocks dL_law_521
    · exact absurd (hgt i h3 h1) (by omega)
  | succ n ih =>
    intro i h2 h3 g k V Z H locs ls hI hR hW hl
    refine lv_iload_n hx hb dL_law_18 rfl (lv_at hl 0 rfl) ?_
    refine lv_aload_n hx hb dL_law_19 rfl (lv_at hl 3 rfl) ?_
    refine va_slen hx hb hX hbl hbA hW.2.2 dL_law_20 ?_
    refine lv_iconst (v := (nI 5)) hx hb dL_law_21 (by decide) ?_
    refine lv_isub hx hb dL_law_22 ?_
    refine lv_icmp_gt (tgt := 520) hx hb dL_law_23 (by decide) (fun h1 => ?_) (fun h1 => ?_)
    · refine lv_iconst (v := 1) hx hb dL_law_520 (by decide) ?_
      refine va_forget (fun q hq => hW.2.2.2.2 q hq) ?_
      exact lw_ret hx hb hr hlocks dL_law_521
    · have hi := hgt i h3 h1
      have hn : sp_next p l e s m below meth c D q0 a d q1 b2 f b i := by
        intro g k V Z H locs ls hI hR hW hl
        refine lv_iinc (v := nI (i + 5)) (lv' := [(3, .int (nI (i + 5))), (2, .ref q1), (1, .ref q0), (0, .ref b)]) hx hb dL_law_514 hl (k := 0) rfl (nv_inc5 i) (by decide) rfl (fun ls hl => ?_)
        refine lv_goto (tgt := 18) hx hb dL_law_517 (by decide) ?_
        exact ih (i + 5) (by omega) (by omega) g k V Z H locs ls hI hR hW hl
      refine lv_aload_n hx hb dL_law_26 rfl (lv_at hl 3 rfl) ?_
      refine lv_iload_n hx hb dL_law_27 rfl (lv_at hl 0 rfl) ?_
      refine nv_sld hx hb hX hbl hbA hW.2.2 (by omega) (by omega) dL_law_28 ?_
      refine lv_bipush (v := (nI 15)) hx hb dL_law_29 (by decide) ?_
      refine lv_iand hx hb dL_law_31 ?_
      obtain ⟨j, hj, ej⟩ := pk_andE (xs i) (m := nI 15) 4 (by decide)
      refine nv_top ((nI j)) (ej) ?_
      have hj : j < 16 := hj
      rcases (show j = 0 ∨ j = 1 ∨ j = 2 ∨ j = 3 ∨ j = 4 ∨ j = 5 ∨ j = 6 ∨ j = 7 ∨ j = 8 ∨ j = 9 ∨ 10 ≤ j by omega) with rfl | rfl | rfl | rfl | rfl | rfl | rfl | rfl | rfl | rfl | h10
      · exact lv_tableIn (off := 56) (tgt := 88) hx hb dL_law_32 (by decide) (by decide) (by decide) (by decide) (law_write hL C1 hi hn hK hI hR hW hl)
      · exact lv_tableIn (off := 109) (tgt := 141) hx hb dL_law_32 (by decide) (by decide) (by decide) (by decide) (law_read hL C1 hi hn hK hI hR hW hl)
      · exact lv_tableIn (off := 152) (tgt := 184) hx hb dL_law_32 (by decide) (by decide) (by decide) (by decide) (law_fork hL C1 hi hn hK hI hR hW hl)
      · exact lv_tableIn (off := 185) (tgt := 217) hx hb dL_law_32 (by decide) (by decide) (by decide) (by decide) (law_pack hL C1 hi hn hK hI hR hW hl)
      · exact lv_tableIn (off := 238) (tgt := 270) hx hb dL_law_32 (by decide) (by decide) (by decide) (by decide) (law_unpack hL C1 hi hn hK hI hR hW hl)
      · exact lv_tableIn (off := 307) (tgt := 339) hx hb dL_law_32 (by decide) (by decide) (by decide) (by decide) (law_exchange hL C1 hi hn hK hI hR hW hl)
      · exact lv_tableIn (off := 350) (tgt := 382) hx hb dL_law_32 (by decide) (by decide) (by decide) (by decide) (law_clear hL C1 hi hn hK hI hR hW hl)
      · exact lv_tableIn (off := 383) (tgt := 415) hx hb dL_law_32 (by decide) (by decide) (by decide) (by decide) (law_size hL C1 hi hn hK hI hR hW hl)
      · exact lv_tableIn (off := 406) (tgt := 438) hx hb dL_law_32 (by decide) (by decide) (by decide) (by decide) (law_peek hL C1 hi hn hK hI hR hW hl)
      · exact lv_tableIn (off := 449) (tgt := 481) hx hb dL_law_32 (by decide) (by decide) (by decide) (by decide) (law_alike hL C1 hi hn hK hI hR hW hl)
      · refine lv_tableOut (tgt := 514) hx hb dL_law_32 (Or.inr (by rw [nI_toInt (by omega)]; omega)) (by decide) ?_
        exact hn g k V Z H locs ls hI hR hW hl
set_option maxHeartbeats 4000000 in
set_option maxRecDepth 100000 in
/-- from the entry, for every script of at most 320 ints, the law comes to its end with true -/
theorem whole_start {p : Program} {e : Env} {s : State} {m : MethodId} {below : List Frame} {meth : Method} {c : Code} (l : Launch) {b L : Nat} {xs : Nat → Int32} (hL : L ≤ 320) (C0 : lw_At p s m meth c b L xs) : W p l e room_1 s m #[Value.ref b] below meth c s.heap [] 0 0 (lw_Z below #[Value.ref b] s) (entryFrame m ([Value.ref b] : List Value).toArray 4) := by
  obtain ⟨hx, hb, hr, hml, hown, hts0, hX, hbl, hlocks, hgv⟩ := id C0
  have hts : ∀ w ∈ lw_all, w.before #[Value.ref b] s = true := fun w h => hts0 w (lw_all_tbl h)
  have hA : ∀ q : Nat, s.heap.size ≤ q → (fun q : Nat => s.heap.size ≤ q) q := fun _ h => h
  have hbA : ¬ (fun q : Nat => s.heap.size ≤ q) b := Nat.not_le.mpr hbl
  obtain ⟨c0, iS0, hKn0⟩ := u_known (C := RX0) (T := TX0) (N := 7) (n := 7) hts in_X0 (hts _ q13)
  obtain ⟨c1, iS1, hKn1⟩ := u_known (C := RX1) (T := TX1) (N := 2) (n := 2) hts in_X1 (hts _ q120)
  obtain ⟨D, hKc⟩ : ∃ D : va_G, ∀ (k : Nat) (q : vw_C), vwCl[k]? = some q → u_Kn s q.1 q.2.1 q.2.2 (D.1 k) (D.2 k) := by
    refine ⟨(fun k => if k = 0 then c0 else c1, fun k => if k = 0 then iS0 else iS1), ?_⟩
    intro k q hq
    match k, hq with
    | 0, hq => cases hq; exact hKn0
    | 1, hq => cases hq; exact hKn1
    | k + 2, hq => simp [vwCl] at hq
  have hS : va_S (fun q : Nat => s.heap.size ≤ q) s.heap s.heap [] := va_S.rf
  have hK : va_K D vwCl [] s := ⟨hKc, fun k q h => by simp at h⟩
  have hP : va_P D vwCl [] s.heap := fun k q h => by simp at h
  have hD : va_D (fun q : Nat => s.heap.size ≤ q) [] := ⟨fun i j p q h => by simp at h, fun k q h => by simp at h⟩
  have hl := lv_entry ([.ref b]) (n := 4) (Nat.le_of_ble_eq_true rfl)
  rw [lg_entry_eq]
  generalize (lg_sl ([.ref b]) ++ List.replicate (4 - (lg_sl ([.ref b])).length) Slot.unset).toArray = ls at hl ⊢
  have hl : lv_has ls 4 [(0, .ref b)] := hl
  refine va_new (ci := 0) (fs := sp_n7) (C := RX0) (T := TX0) (N := 7) hx hb hts in_X0 tyX0 tyX0_ok hown (hts _ q12) (hts _ q13) (hts _ q10) hK hP hD hS hA rfl (fun j hj => by rcases (show j = 0 ∨ j = 1 ∨ j = 2 ∨ j = 3 ∨ j = 4 ∨ j = 5 ∨ j = 6 by omega) with rfl | rfl | rfl | rfl | rfl | rfl | rfl <;> rfl) (Nat.le_of_ble_eq_true rfl) (Nat.le_of_ble_eq_true rfl) dL_law_0 (fun x0 H hP hD hS => ?_)
  have hP : va_P D vwCl [(x0, .inr (0, sp_n7))] H := hP
  have hD : va_D (fun q : Nat => s.heap.size ≤ q) [(x0, .inr (0, sp_n7))] := hD
  refine W.widen (k := 1) (n := 7) (Nat.le_of_ble_eq_true rfl) (Nat.le_of_ble_eq_true rfl) ?_
  refine lv_dup hx hb dL_law_3 rfl ?_
  have hFc := va_free (wc := [(x0, .inr (0, sp_n7))]) hD hS hA [0] rfl
  refine va_callv (va_runI (As := []) (rest := [.ref x0]) ⟨hx, hb, hml, hown, hts⟩ (met_xinit l D x0 H.size) (cwI 0 hts (lw_meth q16) rfl rfl rfl (hts _ q10) (hts _ q14) (hts _ q15) rfl (by decide +kernel) ⟨Nat.le_of_ble_eq_true rfl, Nat.le_of_ble_eq_true rfl⟩) ⟨fun a U g mk q => by obtain ⟨q0, q1, qP, qK, qD⟩ := q; exact ⟨q0, q1, qP, va_K.moved (u := U) (U := U.calling g mk a) (Vm.Alike.refl U.vm) qK, qD⟩, fun U hU hW => ⟨rfl, by rw [hU], by rw [hU]; exact hP, va_K.moved hW.alike hK, hD.weaken (fun _ _ _ _ => trivial)⟩⟩ rfl rfl hl.1 rfl (lv_room (Nat.le_of_ble_eq_true rfl)) dL_law_4 ⟨Nat.le_of_ble_eq_true rfl, Nat.le_of_ble_eq_true rfl⟩) hS (fun q _ h => hFc q h) hFc (fun u t H1 locs ht hvm hw1 hB hz1 hk1 hS => ?_)
  obtain ⟨a, d, hP1, hK1, hD1⟩ := hB
  rw [ht] at hP1
  have hK := va_K.moved hvm.symm hK1
  have hP : va_P D vwCl (sp_xw x0 a d sp_g0) H1 := hP1
  have hD : va_D (fun q : Nat => s.heap.size ≤ q) (sp_xw x0 a d sp_g0) := hD1.weaken (fun _ q _ h => hFc q.1 h)
  refine lv_astore_n (lv' := [(1, .ref x0), (0, .ref b)]) hx hb dL_law_7 rfl hl (by decide) rfl (fun ls hl => ?_)
  refine va_new (ci := 1) (fs := sp_n2) (C := RX1) (T := TX1) (N := 2) hx hb hts in_X1 tyX1 tyX1_ok hown (hts _ q119) (hts _ q120) (hts _ q11) hK hP hD hS hA rfl (fun j hj => by rcases (show j = 0 ∨ j = 1 by omega) with rfl | rfl <;> rfl) (Nat.le_of_ble_eq_true rfl) (Nat.le_of_ble_eq_true rfl) dL_law_8 (fun x1 H2 hP hD hS => ?_)
  have hP : va_P D vwCl (sp_xw x0 a d sp_g0 ++ [(x1, .inr (1, sp_n2))]) H2 := hP
  have hD : va_D (fun q : Nat => s.heap.size ≤ q) (sp_xw x0 a d sp_g0 ++ [(x1, .inr (1, sp_n2))]) := hD
  refine W.widen (k := 9) (n := 1117) (Nat.le_of_ble_eq_true rfl) (Nat.le_of_ble_eq_true rfl) ?_
  refine lv_dup hx hb dL_law_11 rfl ?_
  have hPc := hP.sub (ws' := [(x1, .inr (1, sp_n2))]) [8] rfl
  have hDc := hD.sub (ws' := [(x1, .inr (1, sp_n2))]) [8] (by decide) rfl
  have hKc := hK.sub (tys' := []) [] rfl
  have hFc := va_free (wc := [(x1, .inr (1, sp_n2))]) hD hS hA [8] rfl
  refine va_callv (va_runI (As := []) (rest := [.ref x1]) ⟨hx, hb, hml, hown, hts⟩ (met_minit l D x1 H2.size) (cwI 0 hts (lw_meth q123) rfl rfl rfl (hts _ q11) (hts _ q121) (hts _ q122) rfl (by decide +kernel) ⟨Nat.le_of_ble_eq_true rfl, Nat.le_of_ble_eq_true rfl⟩) ⟨fun a U g mk q => by obtain ⟨q0, q1, qP, qK, qD⟩ := q; exact ⟨q0, q1, qP, va_K.moved (u := U) (U := U.calling g mk a) (Vm.Alike.refl U.vm) qK, qD⟩, fun U hU hW => ⟨rfl, by rw [hU], by rw [hU]; exact hPc, va_K.moved hW.alike hKc, hDc.weaken (fun _ _ _ _ => trivial)⟩⟩ rfl rfl hl.1 rfl (lv_room (Nat.le_of_ble_eq_true rfl)) dL_law_12 ⟨Nat.le_of_ble_eq_true rfl, Nat.le_of_ble_eq_true rfl⟩) hS (fun q _ h => hFc q h) hFc (fun u2 t2 H3 locs ht2 hvm2 hw2 hB2 hz2 hk2 hS => ?_)
  obtain ⟨b2, f, hP2, hK2, hD2⟩ := hB2
  rw [ht2] at hP2
  have hK2 := va_K.moved hvm2.symm hK2
  obtain ⟨hP, hD⟩ := va_join (wr := sp_xw x0 a d sp_g0) (w1 := sp_mw x1 b2 f (fun _ => 0, fun _ => 0)) hP hD [8] [0, 1, 2, 3, 4, 5, 6, 7] rfl rfl (by decide) (by decide) hk2 hFc hP2 hD2
  have hK := hK.app hK2
  refine lv_astore_n (lv' := [(2, .ref x1), (1, .ref x0), (0, .ref b)]) hx hb dL_law_15 rfl hl (by decide) rfl (fun ls hl => ?_)
  refine lv_iconst (v := nI 0) hx hb dL_law_16 (by decide) ?_
  refine lv_istore_n (lv' := [(3, .int (nI 0)), (2, .ref x1), (1, .ref x0), (0, .ref b)]) hx hb dL_law_17 rfl hl (by decide) rfl (fun ls hl => ?_)
  refine W.widen (k := 600000) (n := 7290000) (Nat.le_of_ble_eq_true rfl) (Nat.le_of_ble_eq_true rfl) ?_
  exact law_loop hL C0 hK 66 0 (by omega) (by omega) sp_g0 (fun _ => 0, fun _ => 0) (fun _ => 0) (fun _ => 0) H3 locs ls sp_g0_ok sp_Rl_0 ⟨hP, hD, hS⟩ hl
set_option maxHeartbeats 4000000 in
theorem lw_walk (l : Launch) (b : Addr) (xs : List Int32) : MetFree l x (headSpec (Jvm.Cond.code x code maxLocals ret :: tables_1) room_1) (lw_P b xs) (fun _ _ _ _ _ => True) lw_Q := by
  refine MetFree.of_bodyS (code := code) (maxLocals := maxLocals) (ret := ret) (by decide) ?_ ?_
  · intro args s m h hn
    obtain ⟨meth, c, h1, h2, h3, h4, h5, h6, -, -⟩ := Cond.code_spec hn (atoms_spec (ws := Jvm.Cond.code x code maxLocals ret :: tables_1) h _ List.mem_cons_self)
    exact ⟨meth, c, h1, h2, h3, h4, h5, h6⟩
  · intro p e s m args below meth c s₁ B hml0 hP _
    obtain ⟨rfl, hx, hbd, hgv⟩ := hP
    obtain ⟨scr, harrAt, hlist, hof, hsmall⟩ := hx
    obtain ⟨hcb, hkn, -, -⟩ := State.arrayAt?_spec harrAt
    have hown : s.vm.findClass R_law = some m.cls := findClass_of_methodNamed B.named
    have hts0 : ∀ c ∈ (Jvm.Cond.code x code maxLocals ret :: tables_1), c.before #[Value.ref b] s = true := atoms_spec (ws := Jvm.Cond.code x code maxLocals ret :: tables_1) B.pre
    have hts : ∀ w ∈ lw_tbl, w.before #[Value.ref b] s = true := k2_hts_sels lw_privs (fun w hw => hts0 w (List.mem_cons_of_mem _ hw)) lw_privs_ok
    have hml : c.maxLocals = 4 := B.maxLocals_eq (hts0 _ List.mem_cons_self)
    have X₀ : Stand p l e room_1 s m #[Value.ref b] below meth c s₁ [] 0 0 := Stand.of_body B
    have hh0 : s₁.heap = s.heap := by rw [B.state]; rfl
    have hsz : scr.slots.size = xs.length := by rw [← Array.length_toList, hlist, List.length_map]
    have hval : ∀ j : Nat, j < xs.length → scr.slots[j]? = some (.int (xs.getD j 0)) := fun j hj => by
      rw [← Array.getElem?_toList, hlist]
      simp [hj]
    have hbl : b < s.heap.size := (Array.getElem?_eq_some_iff.mp hcb).1
    have hX : va_X b xs.length (fun j => xs.getD j 0) s s.heap := ⟨scr, hcb, hof, hkn, hsz, hval⟩
    have K : W p l e room_1 s m #[Value.ref b] below meth c s₁.heap [] 0 0 (lw_Z below #[Value.ref b] s) (entryFrame m ([Value.ref b] : List Value).toArray 4) := by
      rw [hh0]
      exact whole_start l hbd ⟨B.exec, B.bytes, B.returns, hml, hown, hts, hX, hbl, B.notSynchronized, hgv⟩
    obtain ⟨t, a1, o, b1, b2, b3⟩ := K s₁ rfl X₀
    exact ⟨t, o, a1, b1, b2, b3⟩
theorem lw_pre_spec {args : Array Value} {s : State} (h : (Jvm.Cond.and given_1 narrow_1).before args s = true) (hr : rest_1_c.before args s = true) : ∃ (b : Addr) (xs : List Int32), lw_P b xs args s := by
  have hs := flat_of_before _ h
  have hq := flat_of_before _ hr
  have hc : (Cond.count 1).before args s = true := hs _ (by decide +kernel)
  have harr : (Cond.arrayOf (.arg 0) .int).before args s = true := hs _ (by decide +kernel)
  have hle : (Cond.le (.length (.arg 0)) (.int 320)).before args s = true := hs _ (by decide +kernel)
  have hlen : (Cond.isInt (.length (.arg 0))).before args s = true := hq _ (by decide +kernel)
  have hall : (Cond.all (.arg 0) (.isInt (.elem (.arg 0) (.index 0)))).before args s = true := hq _ (by decide +kernel)
  obtain ⟨b, xs, hb, hx⟩ := State.ints_of_pre rfl harr hlen hall
  have hsm : xs.length < 2 ^ 31 := hx.choose_spec.2.2.2
  have hev : (Term.length (.arg 0)).eval args s none [] s = some (.int xs.length.toInt32) := hx.length_eval hb
  have hv := Cond.le_ints hev (show (Term.int 320).eval args s none [] s = some (.int 320) from rfl)
  have hd : xs.length.toInt32 ≤ 320 := by
    simpa [Cond.before, Cond.holds, hv] using hle
  have hN : xs.length ≤ 320 := (Int32.ofNat_le_ofNat hsm (by decide)).mp (show Int32.ofNat xs.length ≤ Int32.ofNat 320 from hd)
  exact ⟨b, xs, Cond.one_arg hc (show args[0]? = some (.ref b) from hb), hx, hN, h⟩
theorem lw_comes (l : Launch) : Comes l x (Jvm.Cond.code x code maxLocals ret :: tables_1) room_1 (fun tb e args s => Calls_1 tb e args s ∧ rest_1 tb e args s ∧ Pre_1 tb e args s)
    (fun _ _ args s o t => lw_Q args s o t) := by
  intro p e ha hc hk s m args below hf hfit hheap happ hpre
  obtain ⟨b, xs, hP⟩ := lw_pre_spec hpre.2.2 hpre.2.1
  obtain ⟨k, o, h1, h2, h3, hQ⟩ := lw_walk l b xs p e ha hc hk s m args below hf ((Spec.applies_iff_loose hf).mp happ).1 hP trivial
  exact ⟨k, o, h1, h2, h3, hQ⟩
theorem lw_frame {s t : State} {o : Outcome} {args : Array Value} (h : Framed s o t [] 600000 7290000) :
    Framed s o t (fieldLocs frame_1_writes args s ++ arrayLocs frame_1_arrays args s ++ staticLocs frame_1_statics s) 600000 7290000 := h
theorem lw_limb (L : Cond) (hL : ∀ (args : Array Value) (s t : State), L.after args s (.returned (some (.int 1))) t = true) :
    ArmFor flags0 classFile x code maxLocals ret World_1 tables_1 room_1 Calls_1 rest_1 Pre_1
      (fun tb e a s o t => postC L tb e a s o t ∧ Framed s o t (fieldLocs frame_1_writes a s ++ arrayLocs frame_1_arrays a s ++ staticLocs frame_1_statics s) 600000 7290000) := by
  intro l _ _ _ p e ha hc hk s m args below hf hfit hheap happ hpre
  obtain ⟨k, o, h1, h2, h3, rfl, hF⟩ := lw_comes l p e ha hc hk s m args below hf hfit hheap happ hpre
  exact ⟨k, _, h1, h2, h3, hL args s _, lw_frame hF⟩
theorem i_vc : Claimed_1_1 ∧ Claimed_1_2 := ⟨lw_limb limb_1_1 (fun args s t => by simp [limb_1_1, Cond.after, Cond.holds, Cond.value]), lw_limb limb_1_2 (fun args s t => Cond.after_iff.mpr (by
  first | (rw [show limb_1_2 = Cond.eq .result (.int 1) from rfl, Cond.eq_ints (x := 1) (y := 1) rfl rfl]; simp; done) | (simp [limb_1_2, Cond.value, Term.eval]; done)))⟩
end
