section
-- ===== PART A: goes FIRST, ahead of the names: the tables' words, and 'selects' of the private methods out of them =====
/-- a private method of a class that the tables say can be made, by its rows of tables_1 -/
def lw_okq (q : MethodName × Nat) : Prop := (q.1.cls ≠ "java/lang/invoke/MethodHandle" ∧ q.1.cls ≠ "java/lang/invoke/VarHandle") ∧ Cond.instantiable q.1.cls q.2 ∈ tables_1 ∧ Cond.privateMethod q.1 ∈ tables_1 ∧ Cond.instanceMethod q.1 ∈ tables_1
set_option maxRecDepth 100000
theorem lw_p0 : lw_okq (⟨"CowMemory", "check", "(II)I"⟩, 13) := ⟨⟨by decide +kernel, by decide +kernel⟩, List.mem_of_getElem? (i := 4) rfl, List.mem_of_getElem? (i := 59) rfl, List.mem_of_getElem? (i := 60) rfl⟩
theorem lw_p1 : lw_okq (⟨"CowMemory", "newContent", "()I"⟩, 13) := ⟨⟨by decide +kernel, by decide +kernel⟩, List.mem_of_getElem? (i := 4) rfl, List.mem_of_getElem? (i := 63) rfl, List.mem_of_getElem? (i := 64) rfl⟩
theorem lw_p2 : lw_okq (⟨"CowMemory", "release", "(I)V"⟩, 13) := ⟨⟨by decide +kernel, by decide +kernel⟩, List.mem_of_getElem? (i := 4) rfl, List.mem_of_getElem? (i := 71) rfl, List.mem_of_getElem? (i := 72) rfl⟩
theorem lw_p3 : lw_okq (⟨"CowMemory", "part", "(I)V"⟩, 13) := ⟨⟨by decide +kernel, by decide +kernel⟩, List.mem_of_getElem? (i := 4) rfl, List.mem_of_getElem? (i := 91) rfl, List.mem_of_getElem? (i := 92) rfl⟩
theorem lw_p4 : lw_okq (⟨"CowMemory", "bringIn", "(I)I"⟩, 13) := ⟨⟨by decide +kernel, by decide +kernel⟩, List.mem_of_getElem? (i := 4) rfl, List.mem_of_getElem? (i := 95) rfl, List.mem_of_getElem? (i := 96) rfl⟩
theorem lw_p5 : lw_okq (⟨"CowMemory", "freeFrame", "()I"⟩, 13) := ⟨⟨by decide +kernel, by decide +kernel⟩, List.mem_of_getElem? (i := 4) rfl, List.mem_of_getElem? (i := 99) rfl, List.mem_of_getElem? (i := 100) rfl⟩
theorem lw_p6 : lw_okq (⟨"CowMemory", "pageOut", "(I)V"⟩, 13) := ⟨⟨by decide +kernel, by decide +kernel⟩, List.mem_of_getElem? (i := 4) rfl, List.mem_of_getElem? (i := 103) rfl, List.mem_of_getElem? (i := 104) rfl⟩
theorem lw_p7 : lw_okq (⟨"CowMemory", "sumOf", "(I)J"⟩, 13) := ⟨⟨by decide +kernel, by decide +kernel⟩, List.mem_of_getElem? (i := 4) rfl, List.mem_of_getElem? (i := 123) rfl, List.mem_of_getElem? (i := 124) rfl⟩
theorem lw_p8 : lw_okq (⟨"CowMemoryModel", "isProcess", "(I)Z"⟩, 4) := ⟨⟨by decide +kernel, by decide +kernel⟩, List.mem_of_getElem? (i := 134) rfl, List.mem_of_getElem? (i := 157) rfl, List.mem_of_getElem? (i := 158) rfl⟩
theorem lw_p9 : lw_okq (⟨"CowMemoryModel", "isPage", "(I)Z"⟩, 4) := ⟨⟨by decide +kernel, by decide +kernel⟩, List.mem_of_getElem? (i := 134) rfl, List.mem_of_getElem? (i := 161) rfl, List.mem_of_getElem? (i := 162) rfl⟩
theorem lw_p10 : lw_okq (⟨"CowMemoryModel", "newSheet", "()I"⟩, 4) := ⟨⟨by decide +kernel, by decide +kernel⟩, List.mem_of_getElem? (i := 134) rfl, List.mem_of_getElem? (i := 165) rfl, List.mem_of_getElem? (i := 166) rfl⟩
theorem lw_p11 : lw_okq (⟨"CowMemoryModel", "used", "(I)Z"⟩, 4) := ⟨⟨by decide +kernel, by decide +kernel⟩, List.mem_of_getElem? (i := 134) rfl, List.mem_of_getElem? (i := 169) rfl, List.mem_of_getElem? (i := 170) rfl⟩
theorem lw_p12 : lw_okq (⟨"CowMemoryModel", "copyPage", "(II)V"⟩, 4) := ⟨⟨by decide +kernel, by decide +kernel⟩, List.mem_of_getElem? (i := 134) rfl, List.mem_of_getElem? (i := 185) rfl, List.mem_of_getElem? (i := 186) rfl⟩
def lw_privs_1 : List (MethodName × Nat) := [(⟨"CowMemory", "check", "(II)I"⟩, 13), (⟨"CowMemory", "newContent", "()I"⟩, 13), (⟨"CowMemory", "release", "(I)V"⟩, 13), (⟨"CowMemory", "part", "(I)V"⟩, 13), (⟨"CowMemory", "bringIn", "(I)I"⟩, 13), (⟨"CowMemory", "freeFrame", "()I"⟩, 13), (⟨"CowMemory", "pageOut", "(I)V"⟩, 13), (⟨"CowMemory", "sumOf", "(I)J"⟩, 13), (⟨"CowMemoryModel", "isProcess", "(I)Z"⟩, 4), (⟨"CowMemoryModel", "isPage", "(I)Z"⟩, 4), (⟨"CowMemoryModel", "newSheet", "()I"⟩, 4), (⟨"CowMemoryModel", "used", "(I)Z"⟩, 4), (⟨"CowMemoryModel", "copyPage", "(II)V"⟩, 4)]
theorem lw_r1 : ∀ q ∈ lw_privs_1, lw_okq q := List.forall_mem_cons.mpr ⟨lw_p0, List.forall_mem_cons.mpr ⟨lw_p1, List.forall_mem_cons.mpr ⟨lw_p2, List.forall_mem_cons.mpr ⟨lw_p3, List.forall_mem_cons.mpr ⟨lw_p4, List.forall_mem_cons.mpr ⟨lw_p5, List.forall_mem_cons.mpr ⟨lw_p6, List.forall_mem_cons.mpr ⟨lw_p7, List.forall_mem_cons.mpr ⟨lw_p8, List.forall_mem_cons.mpr ⟨lw_p9, List.forall_mem_cons.mpr ⟨lw_p10, List.forall_mem_cons.mpr ⟨lw_p11, List.forall_mem_cons.mpr ⟨lw_p12, fun _ h => absurd h List.not_mem_nil⟩⟩⟩⟩⟩⟩⟩⟩⟩⟩⟩⟩⟩
def lw_privs : List (MethodName × Nat) := lw_privs_1
def lw_tbl : List Cond := k2_sels lw_privs ++ tables_1
theorem lw_privs_ok : ∀ q ∈ lw_privs, lw_okq q := lw_r1
-- ===== ONE list of words for every method: the tables' words that hold all through a run =====
def lw_all : List Cond := lw_tbl.filter goodWord
/-- a word of the tables by its place: claim/WORDS.tsv -/
theorem lw_w {w : Cond} (i : Nat) (h : lw_tbl[i]? = some w) (g : goodWord w = true) : w ∈ lw_all := List.mem_filter.mpr ⟨List.mem_of_getElem? h, g⟩
theorem lw_all_tbl {w : Cond} (h : w ∈ lw_all) : w ∈ lw_tbl := (List.mem_filter.mp h).1
theorem lw_self : GoodIn lw_all lw_all := fun w h => ⟨h, good_of_word (List.mem_filter.mp h).2⟩
/-- a class's field words, by their places -/
theorem lw_in (ws : List Cond) (ps : List Nat) (hp : ws = ps.filterMap (fun i => lw_tbl[i]?)) (hg : ws.all goodWord = true) : ∀ w ∈ ws, w ∈ lw_all := by
  intro w h
  have h1 := List.all_eq_true.mp hg w h
  rw [hp] at h
  obtain ⟨i, -, hi⟩ := List.mem_filterMap.mp h
  exact lw_w i hi h1
/-- the words of a contract for the method y with code b, L locals, answer r -/
abbrev ws_ (y : MethodName) (b : ByteArray) (L : Nat) (r : Option FieldType) : List Cond := Cond.code y b L r :: lw_all
theorem lw_meth {y : MethodName} {b : ByteArray} {L : Nat} {r : Option FieldType} (h : Cond.code y b L r ∈ lw_all) : GoodIn lw_all (ws_ y b L r) := by
  intro w hw
  rcases List.mem_cons.mp hw with e | e
  · rw [e]
    exact lw_self _ h
  · exact lw_self _ e
theorem lw_app {a c : List Cond} (ha : ∀ w ∈ a, w ∈ lw_all) (hc : GoodIn lw_all c) : GoodIn lw_all (a ++ c) := by
  intro w hw
  rcases List.mem_append.mp hw with e | e
  · exact lw_self w (ha w e)
  · exact hc w e
/-- what a call through an object asks: cwV n hts (lw_V ..) -/
theorem lw_V {own : String} {idx : Nat} {C : String} {y : MethodName} {b : ByteArray} {L : Nat} {r : Option FieldType} (h1 : Cond.methodLink own idx y ∈ lw_all) (h2 : Cond.instanceMethod y ∈ lw_all) (h3 : Cond.selects C y y ∈ lw_all) (h4 : Cond.initialized C ∈ lw_all) (h5 : Cond.code y b L r ∈ lw_all) : GoodIn lw_all (wsV own idx C y (ws_ y b L r)) := by
  refine lw_app ?_ (lw_meth h5)
  intro w hw
  simp only [List.mem_cons, List.not_mem_nil, or_false] at hw
  rcases hw with e | e | e | e
  · rw [e]; exact h1
  · rw [e]; exact h2
  · rw [e]; exact h3
  · rw [e]; exact h4
/-- what a static call asks: va_cwS n hts (lw_S ..) -/
theorem lw_S {own : String} {idx : Nat} {y : MethodName} {b : ByteArray} {L : Nat} {r : Option FieldType} (h1 : Cond.methodLink own idx y ∈ lw_all) (h2 : Cond.static y ∈ lw_all) (h3 : Cond.initialized y.cls ∈ lw_all) (h4 : Cond.code y b L r ∈ lw_all) : GoodIn lw_all (va_wsS own idx y (ws_ y b L r)) := by
  refine lw_app ?_ (lw_meth h4)
  intro w hw
  simp only [List.mem_cons, List.not_mem_nil, or_false] at hw
  rcases hw with e | e | e
  · rw [e]; exact h1
  · rw [e]; exact h2
  · rw [e]; exact h3
/-- the words of a contract for a method WITH HANDLERS (hh: its table) -/
abbrev wsW_ (y : MethodName) (b : ByteArray) (L : Nat) (r : Option FieldType) (hh : List (Nat × Nat × Nat × Nat)) : List Cond := Cond.codeWith y b L r hh :: lw_all
theorem lw_methW {y : MethodName} {b : ByteArray} {L : Nat} {r : Option FieldType} {hh : List (Nat × Nat × Nat × Nat)} (h : Cond.codeWith y b L r hh ∈ lw_all) : GoodIn lw_all (wsW_ y b L r hh) := by
  intro w hw
  rcases List.mem_cons.mp hw with e | e
  · rw [e]
    exact lw_self _ h
  · exact lw_self _ e
/-- any list of words by their places (lw_in), good -/
theorem lw_good {ws : List Cond} (h : ∀ w ∈ ws, w ∈ lw_all) : GoodIn lw_all ws := fun w hw => lw_self w (h w hw)
/-- what a call of a method with handlers asks: vx_cwVW n hts (lw_VW ..), vx_cwSW n hts (lw_SW ..) -/
theorem lw_VW {own : String} {idx : Nat} {C : String} {y : MethodName} {b : ByteArray} {L : Nat} {r : Option FieldType} {hh : List (Nat × Nat × Nat × Nat)} (h1 : Cond.methodLink own idx y ∈ lw_all) (h2 : Cond.instanceMethod y ∈ lw_all) (h3 : Cond.selects C y y ∈ lw_all) (h4 : Cond.initialized C ∈ lw_all) (h5 : Cond.codeWith y b L r hh ∈ lw_all) : GoodIn lw_all (wsV own idx C y (wsW_ y b L r hh)) := by
  refine lw_app ?_ (lw_methW h5)
  intro w hw
  simp only [List.mem_cons, List.not_mem_nil, or_false] at hw
  rcases hw with e | e | e | e
  · rw [e]; exact h1
  · rw [e]; exact h2
  · rw [e]; exact h3
  · rw [e]; exact h4
theorem lw_SW {own : String} {idx : Nat} {y : MethodName} {b : ByteArray} {L : Nat} {r : Option FieldType} {hh : List (Nat × Nat × Nat × Nat)} (h1 : Cond.methodLink own idx y ∈ lw_all) (h2 : Cond.static y ∈ lw_all) (h3 : Cond.initialized y.cls ∈ lw_all) (h4 : Cond.codeWith y b L r hh ∈ lw_all) : GoodIn lw_all (va_wsS own idx y (wsW_ y b L r hh)) := by
  refine lw_app ?_ (lw_methW h4)
  intro w hw
  simp only [List.mem_cons, List.not_mem_nil, or_false] at hw
  rcases hw with e | e | e
  · rw [e]; exact h1
  · rw [e]; exact h2
  · rw [e]; exact h3
/-- a word by its place in its run of the tables -/
theorem lw_at {r : List Cond} (hr : ∀ w ∈ r, w ∈ lw_tbl) {w : Cond} (i : Nat) (h : r[i]? = some w) : w ∈ lw_tbl := hr w (List.mem_of_getElem? h)
theorem lw_g {w : Cond} (h : w ∈ lw_tbl) (g : goodWord w = true) : w ∈ lw_all := List.mem_filter.mpr ⟨h, g⟩
theorem lw_ms : ∀ w ∈ k2_sels lw_privs, w ∈ lw_tbl := fun w h => show w ∈ k2_sels lw_privs ++ tables_1 from List.mem_append_left _ h
theorem lw_m0 : ∀ w ∈ tables_1, w ∈ lw_tbl := fun w h => show w ∈ k2_sels lw_privs ++ tables_1 from List.mem_append_right (k2_sels lw_privs) h
theorem qs0 : (Cond.selects "CowMemory" ⟨"CowMemory", "check", "(II)I"⟩ ⟨"CowMemory", "check", "(II)I"⟩) ∈ lw_all := lw_g (lw_at lw_ms 0 rfl) rfl
theorem qs1 : (Cond.selects "CowMemory" ⟨"CowMemory", "newContent", "()I"⟩ ⟨"CowMemory", "newContent", "()I"⟩) ∈ lw_all := lw_g (lw_at lw_ms 1 rfl) rfl
theorem qs2 : (Cond.selects "CowMemory" ⟨"CowMemory", "release", "(I)V"⟩ ⟨"CowMemory", "release", "(I)V"⟩) ∈ lw_all := lw_g (lw_at lw_ms 2 rfl) rfl
theorem qs3 : (Cond.selects "CowMemory" ⟨"CowMemory", "part", "(I)V"⟩ ⟨"CowMemory", "part", "(I)V"⟩) ∈ lw_all := lw_g (lw_at lw_ms 3 rfl) rfl
theorem qs4 : (Cond.selects "CowMemory" ⟨"CowMemory", "bringIn", "(I)I"⟩ ⟨"CowMemory", "bringIn", "(I)I"⟩) ∈ lw_all := lw_g (lw_at lw_ms 4 rfl) rfl
theorem qs5 : (Cond.selects "CowMemory" ⟨"CowMemory", "freeFrame", "()I"⟩ ⟨"CowMemory", "freeFrame", "()I"⟩) ∈ lw_all := lw_g (lw_at lw_ms 5 rfl) rfl
theorem qs6 : (Cond.selects "CowMemory" ⟨"CowMemory", "pageOut", "(I)V"⟩ ⟨"CowMemory", "pageOut", "(I)V"⟩) ∈ lw_all := lw_g (lw_at lw_ms 6 rfl) rfl
theorem qs7 : (Cond.selects "CowMemory" ⟨"CowMemory", "sumOf", "(I)J"⟩ ⟨"CowMemory", "sumOf", "(I)J"⟩) ∈ lw_all := lw_g (lw_at lw_ms 7 rfl) rfl
theorem qs8 : (Cond.selects "CowMemoryModel" ⟨"CowMemoryModel", "isProcess", "(I)Z"⟩ ⟨"CowMemoryModel", "isProcess", "(I)Z"⟩) ∈ lw_all := lw_g (lw_at lw_ms 8 rfl) rfl
theorem qs9 : (Cond.selects "CowMemoryModel" ⟨"CowMemoryModel", "isPage", "(I)Z"⟩ ⟨"CowMemoryModel", "isPage", "(I)Z"⟩) ∈ lw_all := lw_g (lw_at lw_ms 9 rfl) rfl
theorem qs10 : (Cond.selects "CowMemoryModel" ⟨"CowMemoryModel", "newSheet", "()I"⟩ ⟨"CowMemoryModel", "newSheet", "()I"⟩) ∈ lw_all := lw_g (lw_at lw_ms 10 rfl) rfl
theorem qs11 : (Cond.selects "CowMemoryModel" ⟨"CowMemoryModel", "used", "(I)Z"⟩ ⟨"CowMemoryModel", "used", "(I)Z"⟩) ∈ lw_all := lw_g (lw_at lw_ms 11 rfl) rfl
theorem qs12 : (Cond.selects "CowMemoryModel" ⟨"CowMemoryModel", "copyPage", "(II)V"⟩ ⟨"CowMemoryModel", "copyPage", "(II)V"⟩) ∈ lw_all := lw_g (lw_at lw_ms 12 rfl) rfl
end
section
/-! java/lang/Object -/
set_option maxRecDepth 100000
def RJ0 : String := "java/lang/Object"
abbrev cJ0_init : ByteArray := object_method_1_code
def yJ0_init : MethodName := ⟨RJ0, "<init>", "()V"⟩
theorem dJ0_init_0 : decode cJ0_init 0 = .ok (.return_, 1) := by decide +kernel
theorem q22 : (Jvm.Cond.instanceMethod ({ cls := "java/lang/Object", name := "<init>", desc := "()V" } : Jvm.MethodName)) ∈ lw_all := lw_g (lw_at lw_m0 9 rfl) rfl
theorem q23 : (Jvm.Cond.code ({ cls := "java/lang/Object", name := "<init>", desc := "()V" } : Jvm.MethodName) object_method_1_code (1 : Nat) (Option.none : Option Jvm.ClassFile.FieldType)) ∈ lw_all := lw_g (lw_at lw_m0 10 rfl) rfl
theorem q64 : (Jvm.Cond.arrayClass Jvm.ClassFile.FieldType.boolean) ∈ lw_all := lw_g (lw_at lw_m0 51 rfl) rfl
set_option maxRecDepth 100000
theorem q65 : (Jvm.Cond.arrayClass Jvm.ClassFile.FieldType.byte) ∈ lw_all := lw_g (lw_at lw_m0 52 rfl) rfl
theorem q66 : (Jvm.Cond.arrayClass Jvm.ClassFile.FieldType.int) ∈ lw_all := lw_g (lw_at lw_m0 53 rfl) rfl
/-! CowMemoryModel -/
set_option maxRecDepth 100000
def RX2 : String := "CowMemoryModel"
def TX2 : u_T := fun k => match k with
  | 0 => ("CowMemoryModel", "alive", "[Z", false)
  | 1 => ("CowMemoryModel", "sheet", "[I", false)
  | 2 => ("CowMemoryModel", "open", "[Z", false)
  | _ => ("CowMemoryModel", "cells", "[I", false)
def tyX2 : Nat → FieldType := fun k => match k with
  | 0 => .array .boolean
  | 1 => .array .int
  | 2 => .array .boolean
  | _ => .array .int
abbrev wsX20 : List Cond := u_ws RX2 TX2 4
theorem nmX2 : ∀ a, a < 4 → ∀ b, b < 4 → a ≠ b → (TX2 a).2.1 ≠ (TX2 b).2.1 := by decide +kernel
theorem tyX2_ok : ∀ k, k < 4 → parseFieldDescriptor (TX2 k).2.2.1 = some (tyX2 k) := by decide +kernel
abbrev cX2_init : ByteArray := prog_3_method_1_code
def yX2_init : MethodName := ⟨RX2, "<init>", "(I)V"⟩
theorem dX2_init_0 : decode cX2_init 0 = .ok (.aload_n 0, 1) := by decide +kernel
theorem dX2_init_1 : decode cX2_init 1 = .ok (.invokespecial 1, 3) := by decide +kernel
theorem dX2_init_4 : decode cX2_init 4 = .ok (.aload_n 0, 1) := by decide +kernel
theorem dX2_init_5 : decode cX2_init 5 = .ok (.iconst 4, 1) := by decide +kernel
theorem dX2_init_6 : decode cX2_init 6 = .ok (.newarray .boolean, 2) := by decide +kernel
theorem dX2_init_8 : decode cX2_init 8 = .ok (.putfield 7, 3) := by decide +kernel
theorem dX2_init_11 : decode cX2_init 11 = .ok (.aload_n 0, 1) := by decide +kernel
theorem dX2_init_12 : decode cX2_init 12 = .ok (.bipush 20, 2) := by decide +kernel
theorem dX2_init_14 : decode cX2_init 14 = .ok (.newarray .int, 2) := by decide +kernel
theorem dX2_init_16 : decode cX2_init 16 = .ok (.putfield 13, 3) := by decide +kernel
theorem dX2_init_19 : decode cX2_init 19 = .ok (.aload_n 0, 1) := by decide +kernel
theorem dX2_init_20 : decode cX2_init 20 = .ok (.bipush 20, 2) := by decide +kernel
theorem dX2_init_22 : decode cX2_init 22 = .ok (.newarray .boolean, 2) := by decide +kernel
theorem dX2_init_24 : decode cX2_init 24 = .ok (.putfield 17, 3) := by decide +kernel
theorem dX2_init_27 : decode cX2_init 27 = .ok (.aload_n 0, 1) := by decide +kernel
theorem dX2_init_28 : decode cX2_init 28 = .ok (.bipush 80, 2) := by decide +kernel
theorem dX2_init_30 : decode cX2_init 30 = .ok (.newarray .int, 2) := by decide +kernel
theorem dX2_init_32 : decode cX2_init 32 = .ok (.putfield 20, 3) := by decide +kernel
theorem dX2_init_35 : decode cX2_init 35 = .ok (.aload_n 0, 1) := by decide +kernel
theorem dX2_init_36 : decode cX2_init 36 = .ok (.getfield 7, 3) := by decide +kernel
theorem dX2_init_39 : decode cX2_init 39 = .ok (.iconst 0, 1) := by decide +kernel
theorem dX2_init_40 : decode cX2_init 40 = .ok (.iconst 1, 1) := by decide +kernel
theorem dX2_init_41 : decode cX2_init 41 = .ok (.bastore, 1) := by decide +kernel
theorem dX2_init_42 : decode cX2_init 42 = .ok (.iconst 0, 1) := by decide +kernel
theorem dX2_init_43 : decode cX2_init 43 = .ok (.istore_n 2, 1) := by decide +kernel
theorem dX2_init_44 : decode cX2_init 44 = .ok (.iload_n 2, 1) := by decide +kernel
theorem dX2_init_45 : decode cX2_init 45 = .ok (.bipush 20, 2) := by decide +kernel
theorem dX2_init_47 : decode cX2_init 47 = .ok (.if_icmp .ge 16, 3) := by decide +kernel
theorem dX2_init_50 : decode cX2_init 50 = .ok (.aload_n 0, 1) := by decide +kernel
theorem dX2_init_51 : decode cX2_init 51 = .ok (.getfield 13, 3) := by decide +kernel
theorem dX2_init_54 : decode cX2_init 54 = .ok (.iload_n 2, 1) := by decide +kernel
theorem dX2_init_55 : decode cX2_init 55 = .ok (.iconst (-1), 1) := by decide +kernel
theorem dX2_init_56 : decode cX2_init 56 = .ok (.iastore, 1) := by decide +kernel
theorem dX2_init_57 : decode cX2_init 57 = .ok (.iinc 2 1, 3) := by decide +kernel
theorem dX2_init_60 : decode cX2_init 60 = .ok (.goto (-16), 3) := by decide +kernel
theorem dX2_init_63 : decode cX2_init 63 = .ok (.return_, 1) := by decide +kernel
abbrev cX2_map : ByteArray := prog_3_method_6_code
def yX2_map : MethodName := ⟨RX2, "map", "(IIZ)I"⟩
theorem dX2_map_0 : decode cX2_map 0 = .ok (.aload_n 0, 1) := by decide +kernel
theorem dX2_map_1 : decode cX2_map 1 = .ok (.iload_n 1, 1) := by decide +kernel
theorem dX2_map_2 : decode cX2_map 2 = .ok (.invokevirtual 27, 3) := by decide +kernel
theorem dX2_map_5 : decode cX2_map 5 = .ok (.ifCond .eq 11, 3) := by decide +kernel
theorem dX2_map_8 : decode cX2_map 8 = .ok (.aload_n 0, 1) := by decide +kernel
theorem dX2_map_9 : decode cX2_map 9 = .ok (.iload_n 2, 1) := by decide +kernel
theorem dX2_map_10 : decode cX2_map 10 = .ok (.invokevirtual 30, 3) := by decide +kernel
theorem dX2_map_13 : decode cX2_map 13 = .ok (.ifCond .ne 5, 3) := by decide +kernel
theorem dX2_map_16 : decode cX2_map 16 = .ok (.iconst (-1), 1) := by decide +kernel
theorem dX2_map_17 : decode cX2_map 17 = .ok (.ireturn, 1) := by decide +kernel
theorem dX2_map_18 : decode cX2_map 18 = .ok (.aload_n 0, 1) := by decide +kernel
theorem dX2_map_19 : decode cX2_map 19 = .ok (.getfield 7, 3) := by decide +kernel
theorem dX2_map_22 : decode cX2_map 22 = .ok (.iload_n 1, 1) := by decide +kernel
theorem dX2_map_23 : decode cX2_map 23 = .ok (.baload, 1) := by decide +kernel
theorem dX2_map_24 : decode cX2_map 24 = .ok (.ifCond .ne 6, 3) := by decide +kernel
theorem dX2_map_27 : decode cX2_map 27 = .ok (.bipush (-2), 2) := by decide +kernel
theorem dX2_map_29 : decode cX2_map 29 = .ok (.ireturn, 1) := by decide +kernel
theorem dX2_map_30 : decode cX2_map 30 = .ok (.aload_n 0, 1) := by decide +kernel
theorem dX2_map_31 : decode cX2_map 31 = .ok (.getfield 13, 3) := by decide +kernel
theorem dX2_map_34 : decode cX2_map 34 = .ok (.iconst 5, 1) := by decide +kernel
theorem dX2_map_35 : decode cX2_map 35 = .ok (.iload_n 1, 1) := by decide +kernel
theorem dX2_map_36 : decode cX2_map 36 = .ok (.imul, 1) := by decide +kernel
theorem dX2_map_37 : decode cX2_map 37 = .ok (.iload_n 2, 1) := by decide +kernel
theorem dX2_map_38 : decode cX2_map 38 = .ok (.iadd, 1) := by decide +kernel
theorem dX2_map_39 : decode cX2_map 39 = .ok (.iaload, 1) := by decide +kernel
theorem dX2_map_40 : decode cX2_map 40 = .ok (.ifCond .lt 6, 3) := by decide +kernel
theorem dX2_map_43 : decode cX2_map 43 = .ok (.bipush (-4), 2) := by decide +kernel
theorem dX2_map_45 : decode cX2_map 45 = .ok (.ireturn, 1) := by decide +kernel
theorem dX2_map_46 : decode cX2_map 46 = .ok (.aload_n 0, 1) := by decide +kernel
theorem dX2_map_47 : decode cX2_map 47 = .ok (.invokevirtual 33, 3) := by decide +kernel
theorem dX2_map_50 : decode cX2_map 50 = .ok (.istore 4, 2) := by decide +kernel
theorem dX2_map_52 : decode cX2_map 52 = .ok (.iconst 0, 1) := by decide +kernel
theorem dX2_map_53 : decode cX2_map 53 = .ok (.istore 5, 2) := by decide +kernel
theorem dX2_map_55 : decode cX2_map 55 = .ok (.iload 5, 2) := by decide +kernel
theorem dX2_map_57 : decode cX2_map 57 = .ok (.iconst 4, 1) := by decide +kernel
theorem dX2_map_58 : decode cX2_map 58 = .ok (.if_icmp .ge 22, 3) := by decide +kernel
theorem dX2_map_61 : decode cX2_map 61 = .ok (.aload_n 0, 1) := by decide +kernel
theorem dX2_map_62 : decode cX2_map 62 = .ok (.getfield 20, 3) := by decide +kernel
theorem dX2_map_65 : decode cX2_map 65 = .ok (.iconst 4, 1) := by decide +kernel
theorem dX2_map_66 : decode cX2_map 66 = .ok (.iload 4, 2) := by decide +kernel
theorem dX2_map_68 : decode cX2_map 68 = .ok (.imul, 1) := by decide +kernel
theorem dX2_map_69 : decode cX2_map 69 = .ok (.iload 5, 2) := by decide +kernel
theorem dX2_map_71 : decode cX2_map 71 = .ok (.iadd, 1) := by decide +kernel
theorem dX2_map_72 : decode cX2_map 72 = .ok (.iconst 0, 1) := by decide +kernel
theorem dX2_map_73 : decode cX2_map 73 = .ok (.iastore, 1) := by decide +kernel
theorem dX2_map_74 : decode cX2_map 74 = .ok (.iinc 5 1, 3) := by decide +kernel
theorem dX2_map_77 : decode cX2_map 77 = .ok (.goto (-22), 3) := by decide +kernel
theorem dX2_map_80 : decode cX2_map 80 = .ok (.aload_n 0, 1) := by decide +kernel
theorem dX2_map_81 : decode cX2_map 81 = .ok (.getfield 13, 3) := by decide +kernel
theorem dX2_map_84 : decode cX2_map 84 = .ok (.iconst 5, 1) := by decide +kernel
theorem dX2_map_85 : decode cX2_map 85 = .ok (.iload_n 1, 1) := by decide +kernel
theorem dX2_map_86 : decode cX2_map 86 = .ok (.imul, 1) := by decide +kernel
theorem dX2_map_87 : decode cX2_map 87 = .ok (.iload_n 2, 1) := by decide +kernel
theorem dX2_map_88 : decode cX2_map 88 = .ok (.iadd, 1) := by decide +kernel
theorem dX2_map_89 : decode cX2_map 89 = .ok (.iload 4, 2) := by decide +kernel
theorem dX2_map_91 : decode cX2_map 91 = .ok (.iastore, 1) := by decide +kernel
theorem dX2_map_92 : decode cX2_map 92 = .ok (.aload_n 0, 1) := by decide +kernel
theorem dX2_map_93 : decode cX2_map 93 = .ok (.getfield 17, 3) := by decide +kernel
theorem dX2_map_96 : decode cX2_map 96 = .ok (.iconst 5, 1) := by decide +kernel
theorem dX2_map_97 : decode cX2_map 97 = .ok (.iload_n 1, 1) := by decide +kernel
theorem dX2_map_98 : decode cX2_map 98 = .ok (.imul, 1) := by decide +kernel
theorem dX2_map_99 : decode cX2_map 99 = .ok (.iload_n 2, 1) := by decide +kernel
theorem dX2_map_100 : decode cX2_map 100 = .ok (.iadd, 1) := by decide +kernel
theorem dX2_map_101 : decode cX2_map 101 = .ok (.iload_n 3, 1) := by decide +kernel
theorem dX2_map_102 : decode cX2_map 102 = .ok (.bastore, 1) := by decide +kernel
theorem dX2_map_103 : decode cX2_map 103 = .ok (.iload_n 2, 1) := by decide +kernel
theorem dX2_map_104 : decode cX2_map 104 = .ok (.ireturn, 1) := by decide +kernel
abbrev cX2_isProcess : ByteArray := prog_3_method_2_code
def yX2_isProcess : MethodName := ⟨RX2, "isProcess", "(I)Z"⟩
theorem dX2_isProcess_0 : decode cX2_isProcess 0 = .ok (.iload_n 1, 1) := by decide +kernel
theorem dX2_isProcess_1 : decode cX2_isProcess 1 = .ok (.ifCond .lt 12, 3) := by decide +kernel
theorem dX2_isProcess_4 : decode cX2_isProcess 4 = .ok (.iload_n 1, 1) := by decide +kernel
theorem dX2_isProcess_5 : decode cX2_isProcess 5 = .ok (.iconst 3, 1) := by decide +kernel
theorem dX2_isProcess_6 : decode cX2_isProcess 6 = .ok (.if_icmp .gt 7, 3) := by decide +kernel
theorem dX2_isProcess_9 : decode cX2_isProcess 9 = .ok (.iconst 1, 1) := by decide +kernel
theorem dX2_isProcess_10 : decode cX2_isProcess 10 = .ok (.goto 4, 3) := by decide +kernel
theorem dX2_isProcess_13 : decode cX2_isProcess 13 = .ok (.iconst 0, 1) := by decide +kernel
theorem dX2_isProcess_14 : decode cX2_isProcess 14 = .ok (.ireturn, 1) := by decide +kernel
abbrev cX2_isPage : ByteArray := prog_3_method_3_code
def yX2_isPage : MethodName := ⟨RX2, "isPage", "(I)Z"⟩
theorem dX2_isPage_0 : decode cX2_isPage 0 = .ok (.iload_n 1, 1) := by decide +kernel
theorem dX2_isPage_1 : decode cX2_isPage 1 = .ok (.ifCond .lt 12, 3) := by decide +kernel
theorem dX2_isPage_4 : decode cX2_isPage 4 = .ok (.iload_n 1, 1) := by decide +kernel
theorem dX2_isPage_5 : decode cX2_isPage 5 = .ok (.iconst 4, 1) := by decide +kernel
theorem dX2_isPage_6 : decode cX2_isPage 6 = .ok (.if_icmp .gt 7, 3) := by decide +kernel
theorem dX2_isPage_9 : decode cX2_isPage 9 = .ok (.iconst 1, 1) := by decide +kernel
theorem dX2_isPage_10 : decode cX2_isPage 10 = .ok (.goto 4, 3) := by decide +kernel
theorem dX2_isPage_13 : decode cX2_isPage 13 = .ok (.iconst 0, 1) := by decide +kernel
theorem dX2_isPage_14 : decode cX2_isPage 14 = .ok (.ireturn, 1) := by decide +kernel
abbrev cX2_newSheet : ByteArray := prog_3_method_5_code
def yX2_newSheet : MethodName := ⟨RX2, "newSheet", "()I"⟩
theorem dX2_newSheet_0 : decode cX2_newSheet 0 = .ok (.iconst 0, 1) := by decide +kernel
theorem dX2_newSheet_1 : decode cX2_newSheet 1 = .ok (.istore_n 1, 1) := by decide +kernel
theorem dX2_newSheet_2 : decode cX2_newSheet 2 = .ok (.iload_n 1, 1) := by decide +kernel
theorem dX2_newSheet_3 : decode cX2_newSheet 3 = .ok (.bipush 20, 2) := by decide +kernel
theorem dX2_newSheet_5 : decode cX2_newSheet 5 = .ok (.if_icmp .ge 19, 3) := by decide +kernel
theorem dX2_newSheet_8 : decode cX2_newSheet 8 = .ok (.aload_n 0, 1) := by decide +kernel
theorem dX2_newSheet_9 : decode cX2_newSheet 9 = .ok (.iload_n 1, 1) := by decide +kernel
theorem dX2_newSheet_10 : decode cX2_newSheet 10 = .ok (.invokevirtual 23, 3) := by decide +kernel
theorem dX2_newSheet_13 : decode cX2_newSheet 13 = .ok (.ifCond .ne 5, 3) := by decide +kernel
theorem dX2_newSheet_16 : decode cX2_newSheet 16 = .ok (.iload_n 1, 1) := by decide +kernel
theorem dX2_newSheet_17 : decode cX2_newSheet 17 = .ok (.ireturn, 1) := by decide +kernel
theorem dX2_newSheet_18 : decode cX2_newSheet 18 = .ok (.iinc 1 1, 3) := by decide +kernel
theorem dX2_newSheet_21 : decode cX2_newSheet 21 = .ok (.goto (-19), 3) := by decide +kernel
theorem dX2_newSheet_24 : decode cX2_newSheet 24 = .ok (.iconst 0, 1) := by decide +kernel
theorem dX2_newSheet_25 : decode cX2_newSheet 25 = .ok (.ireturn, 1) := by decide +kernel
abbrev cX2_used : ByteArray := prog_3_method_4_code
def yX2_used : MethodName := ⟨RX2, "used", "(I)Z"⟩
theorem dX2_used_0 : decode cX2_used 0 = .ok (.iconst 0, 1) := by decide +kernel
theorem dX2_used_1 : decode cX2_used 1 = .ok (.istore_n 2, 1) := by decide +kernel
theorem dX2_used_2 : decode cX2_used 2 = .ok (.iload_n 2, 1) := by decide +kernel
theorem dX2_used_3 : decode cX2_used 3 = .ok (.bipush 20, 2) := by decide +kernel
theorem dX2_used_5 : decode cX2_used 5 = .ok (.if_icmp .ge 21, 3) := by decide +kernel
theorem dX2_used_8 : decode cX2_used 8 = .ok (.aload_n 0, 1) := by decide +kernel
theorem dX2_used_9 : decode cX2_used 9 = .ok (.getfield 13, 3) := by decide +kernel
theorem dX2_used_12 : decode cX2_used 12 = .ok (.iload_n 2, 1) := by decide +kernel
theorem dX2_used_13 : decode cX2_used 13 = .ok (.iaload, 1) := by decide +kernel
theorem dX2_used_14 : decode cX2_used 14 = .ok (.iload_n 1, 1) := by decide +kernel
theorem dX2_used_15 : decode cX2_used 15 = .ok (.if_icmp .ne 5, 3) := by decide +kernel
theorem dX2_used_18 : decode cX2_used 18 = .ok (.iconst 1, 1) := by decide +kernel
theorem dX2_used_19 : decode cX2_used 19 = .ok (.ireturn, 1) := by decide +kernel
theorem dX2_used_20 : decode cX2_used 20 = .ok (.iinc 2 1, 3) := by decide +kernel
theorem dX2_used_23 : decode cX2_used 23 = .ok (.goto (-21), 3) := by decide +kernel
theorem dX2_used_26 : decode cX2_used 26 = .ok (.iconst 0, 1) := by decide +kernel
theorem dX2_used_27 : decode cX2_used 27 = .ok (.ireturn, 1) := by decide +kernel
abbrev cX2_unmap : ByteArray := prog_3_method_7_code
def yX2_unmap : MethodName := ⟨RX2, "unmap", "(II)I"⟩
theorem dX2_unmap_0 : decode cX2_unmap 0 = .ok (.aload_n 0, 1) := by decide +kernel
theorem dX2_unmap_1 : decode cX2_unmap 1 = .ok (.iload_n 1, 1) := by decide +kernel
theorem dX2_unmap_2 : decode cX2_unmap 2 = .ok (.invokevirtual 27, 3) := by decide +kernel
theorem dX2_unmap_5 : decode cX2_unmap 5 = .ok (.ifCond .eq 11, 3) := by decide +kernel
theorem dX2_unmap_8 : decode cX2_unmap 8 = .ok (.aload_n 0, 1) := by decide +kernel
theorem dX2_unmap_9 : decode cX2_unmap 9 = .ok (.iload_n 2, 1) := by decide +kernel
theorem dX2_unmap_10 : decode cX2_unmap 10 = .ok (.invokevirtual 30, 3) := by decide +kernel
theorem dX2_unmap_13 : decode cX2_unmap 13 = .ok (.ifCond .ne 5, 3) := by decide +kernel
theorem dX2_unmap_16 : decode cX2_unmap 16 = .ok (.iconst (-1), 1) := by decide +kernel
theorem dX2_unmap_17 : decode cX2_unmap 17 = .ok (.ireturn, 1) := by decide +kernel
theorem dX2_unmap_18 : decode cX2_unmap 18 = .ok (.aload_n 0, 1) := by decide +kernel
theorem dX2_unmap_19 : decode cX2_unmap 19 = .ok (.getfield 7, 3) := by decide +kernel
theorem dX2_unmap_22 : decode cX2_unmap 22 = .ok (.iload_n 1, 1) := by decide +kernel
theorem dX2_unmap_23 : decode cX2_unmap 23 = .ok (.baload, 1) := by decide +kernel
theorem dX2_unmap_24 : decode cX2_unmap 24 = .ok (.ifCond .ne 6, 3) := by decide +kernel
theorem dX2_unmap_27 : decode cX2_unmap 27 = .ok (.bipush (-2), 2) := by decide +kernel
theorem dX2_unmap_29 : decode cX2_unmap 29 = .ok (.ireturn, 1) := by decide +kernel
theorem dX2_unmap_30 : decode cX2_unmap 30 = .ok (.aload_n 0, 1) := by decide +kernel
theorem dX2_unmap_31 : decode cX2_unmap 31 = .ok (.getfield 13, 3) := by decide +kernel
theorem dX2_unmap_34 : decode cX2_unmap 34 = .ok (.iconst 5, 1) := by decide +kernel
theorem dX2_unmap_35 : decode cX2_unmap 35 = .ok (.iload_n 1, 1) := by decide +kernel
theorem dX2_unmap_36 : decode cX2_unmap 36 = .ok (.imul, 1) := by decide +kernel
theorem dX2_unmap_37 : decode cX2_unmap 37 = .ok (.iload_n 2, 1) := by decide +kernel
theorem dX2_unmap_38 : decode cX2_unmap 38 = .ok (.iadd, 1) := by decide +kernel
theorem dX2_unmap_39 : decode cX2_unmap 39 = .ok (.iaload, 1) := by decide +kernel
theorem dX2_unmap_40 : decode cX2_unmap 40 = .ok (.ifCond .ge 6, 3) := by decide +kernel
theorem dX2_unmap_43 : decode cX2_unmap 43 = .ok (.bipush (-3), 2) := by decide +kernel
theorem dX2_unmap_45 : decode cX2_unmap 45 = .ok (.ireturn, 1) := by decide +kernel
theorem dX2_unmap_46 : decode cX2_unmap 46 = .ok (.aload_n 0, 1) := by decide +kernel
theorem dX2_unmap_47 : decode cX2_unmap 47 = .ok (.getfield 13, 3) := by decide +kernel
theorem dX2_unmap_50 : decode cX2_unmap 50 = .ok (.iconst 5, 1) := by decide +kernel
theorem dX2_unmap_51 : decode cX2_unmap 51 = .ok (.iload_n 1, 1) := by decide +kernel
theorem dX2_unmap_52 : decode cX2_unmap 52 = .ok (.imul, 1) := by decide +kernel
theorem dX2_unmap_53 : decode cX2_unmap 53 = .ok (.iload_n 2, 1) := by decide +kernel
theorem dX2_unmap_54 : decode cX2_unmap 54 = .ok (.iadd, 1) := by decide +kernel
theorem dX2_unmap_55 : decode cX2_unmap 55 = .ok (.iconst (-1), 1) := by decide +kernel
theorem dX2_unmap_56 : decode cX2_unmap 56 = .ok (.iastore, 1) := by decide +kernel
theorem dX2_unmap_57 : decode cX2_unmap 57 = .ok (.iload_n 2, 1) := by decide +kernel
theorem dX2_unmap_58 : decode cX2_unmap 58 = .ok (.ireturn, 1) := by decide +kernel
abbrev cX2_attach : ByteArray := prog_3_method_8_code
def yX2_attach : MethodName := ⟨RX2, "attach", "(II)I"⟩
theorem dX2_attach_0 : decode cX2_attach 0 = .ok (.iload_n 1, 1) := by decide +kernel
theorem dX2_attach_1 : decode cX2_attach 1 = .ok (.ifCond .lt 35, 3) := by decide +kernel
theorem dX2_attach_4 : decode cX2_attach 4 = .ok (.iload_n 2, 1) := by decide +kernel
theorem dX2_attach_5 : decode cX2_attach 5 = .ok (.ifCond .lt 31, 3) := by decide +kernel
theorem dX2_attach_8 : decode cX2_attach 8 = .ok (.iload_n 1, 1) := by decide +kernel
theorem dX2_attach_9 : decode cX2_attach 9 = .ok (.bipush 28, 2) := by decide +kernel
theorem dX2_attach_11 : decode cX2_attach 11 = .ok (.if_icmp .gt 25, 3) := by decide +kernel
theorem dX2_attach_14 : decode cX2_attach 14 = .ok (.iload_n 2, 1) := by decide +kernel
theorem dX2_attach_15 : decode cX2_attach 15 = .ok (.bipush 28, 2) := by decide +kernel
theorem dX2_attach_17 : decode cX2_attach 17 = .ok (.if_icmp .gt 19, 3) := by decide +kernel
theorem dX2_attach_20 : decode cX2_attach 20 = .ok (.iload_n 1, 1) := by decide +kernel
theorem dX2_attach_21 : decode cX2_attach 21 = .ok (.bipush 8, 2) := by decide +kernel
theorem dX2_attach_23 : decode cX2_attach 23 = .ok (.irem, 1) := by decide +kernel
theorem dX2_attach_24 : decode cX2_attach 24 = .ok (.iconst 4, 1) := by decide +kernel
theorem dX2_attach_25 : decode cX2_attach 25 = .ok (.if_icmp .gt 11, 3) := by decide +kernel
theorem dX2_attach_28 : decode cX2_attach 28 = .ok (.iload_n 2, 1) := by decide +kernel
theorem dX2_attach_29 : decode cX2_attach 29 = .ok (.bipush 8, 2) := by decide +kernel
theorem dX2_attach_31 : decode cX2_attach 31 = .ok (.irem, 1) := by decide +kernel
theorem dX2_attach_32 : decode cX2_attach 32 = .ok (.iconst 4, 1) := by decide +kernel
theorem dX2_attach_33 : decode cX2_attach 33 = .ok (.if_icmp .le 5, 3) := by decide +kernel
theorem dX2_attach_36 : decode cX2_attach 36 = .ok (.iconst (-1), 1) := by decide +kernel
theorem dX2_attach_37 : decode cX2_attach 37 = .ok (.ireturn, 1) := by decide +kernel
theorem dX2_attach_38 : decode cX2_attach 38 = .ok (.iconst 5, 1) := by decide +kernel
theorem dX2_attach_39 : decode cX2_attach 39 = .ok (.iload_n 1, 1) := by decide +kernel
theorem dX2_attach_40 : decode cX2_attach 40 = .ok (.bipush 8, 2) := by decide +kernel
theorem dX2_attach_42 : decode cX2_attach 42 = .ok (.idiv, 1) := by decide +kernel
theorem dX2_attach_43 : decode cX2_attach 43 = .ok (.imul, 1) := by decide +kernel
theorem dX2_attach_44 : decode cX2_attach 44 = .ok (.iload_n 1, 1) := by decide +kernel
theorem dX2_attach_45 : decode cX2_attach 45 = .ok (.bipush 8, 2) := by decide +kernel
theorem dX2_attach_47 : decode cX2_attach 47 = .ok (.irem, 1) := by decide +kernel
theorem dX2_attach_48 : decode cX2_attach 48 = .ok (.iadd, 1) := by decide +kernel
theorem dX2_attach_49 : decode cX2_attach 49 = .ok (.istore_n 3, 1) := by decide +kernel
theorem dX2_attach_50 : decode cX2_attach 50 = .ok (.iconst 5, 1) := by decide +kernel
theorem dX2_attach_51 : decode cX2_attach 51 = .ok (.iload_n 2, 1) := by decide +kernel
theorem dX2_attach_52 : decode cX2_attach 52 = .ok (.bipush 8, 2) := by decide +kernel
theorem dX2_attach_54 : decode cX2_attach 54 = .ok (.idiv, 1) := by decide +kernel
theorem dX2_attach_55 : decode cX2_attach 55 = .ok (.imul, 1) := by decide +kernel
theorem dX2_attach_56 : decode cX2_attach 56 = .ok (.iload_n 2, 1) := by decide +kernel
theorem dX2_attach_57 : decode cX2_attach 57 = .ok (.bipush 8, 2) := by decide +kernel
theorem dX2_attach_59 : decode cX2_attach 59 = .ok (.irem, 1) := by decide +kernel
theorem dX2_attach_60 : decode cX2_attach 60 = .ok (.iadd, 1) := by decide +kernel
theorem dX2_attach_61 : decode cX2_attach 61 = .ok (.istore 4, 2) := by decide +kernel
theorem dX2_attach_63 : decode cX2_attach 63 = .ok (.aload_n 0, 1) := by decide +kernel
theorem dX2_attach_64 : decode cX2_attach 64 = .ok (.getfield 7, 3) := by decide +kernel
theorem dX2_attach_67 : decode cX2_attach 67 = .ok (.iload_n 1, 1) := by decide +kernel
theorem dX2_attach_68 : decode cX2_attach 68 = .ok (.bipush 8, 2) := by decide +kernel
theorem dX2_attach_70 : decode cX2_attach 70 = .ok (.idiv, 1) := by decide +kernel
theorem dX2_attach_71 : decode cX2_attach 71 = .ok (.baload, 1) := by decide +kernel
theorem dX2_attach_72 : decode cX2_attach 72 = .ok (.ifCond .eq 15, 3) := by decide +kernel
theorem dX2_attach_75 : decode cX2_attach 75 = .ok (.aload_n 0, 1) := by decide +kernel
theorem dX2_attach_76 : decode cX2_attach 76 = .ok (.getfield 7, 3) := by decide +kernel
theorem dX2_attach_79 : decode cX2_attach 79 = .ok (.iload_n 2, 1) := by decide +kernel
theorem dX2_attach_80 : decode cX2_attach 80 = .ok (.bipush 8, 2) := by decide +kernel
theorem dX2_attach_82 : decode cX2_attach 82 = .ok (.idiv, 1) := by decide +kernel
theorem dX2_attach_83 : decode cX2_attach 83 = .ok (.baload, 1) := by decide +kernel
theorem dX2_attach_84 : decode cX2_attach 84 = .ok (.ifCond .ne 6, 3) := by decide +kernel
theorem dX2_attach_87 : decode cX2_attach 87 = .ok (.bipush (-2), 2) := by decide +kernel
theorem dX2_attach_89 : decode cX2_attach 89 = .ok (.ireturn, 1) := by decide +kernel
theorem dX2_attach_90 : decode cX2_attach 90 = .ok (.aload_n 0, 1) := by decide +kernel
theorem dX2_attach_91 : decode cX2_attach 91 = .ok (.getfield 13, 3) := by decide +kernel
theorem dX2_attach_94 : decode cX2_attach 94 = .ok (.iload_n 3, 1) := by decide +kernel
theorem dX2_attach_95 : decode cX2_attach 95 = .ok (.iaload, 1) := by decide +kernel
theorem dX2_attach_96 : decode cX2_attach 96 = .ok (.ifCond .lt 6, 3) := by decide +kernel
theorem dX2_attach_99 : decode cX2_attach 99 = .ok (.bipush (-4), 2) := by decide +kernel
theorem dX2_attach_101 : decode cX2_attach 101 = .ok (.ireturn, 1) := by decide +kernel
theorem dX2_attach_102 : decode cX2_attach 102 = .ok (.aload_n 0, 1) := by decide +kernel
theorem dX2_attach_103 : decode cX2_attach 103 = .ok (.getfield 13, 3) := by decide +kernel
theorem dX2_attach_106 : decode cX2_attach 106 = .ok (.iload 4, 2) := by decide +kernel
theorem dX2_attach_108 : decode cX2_attach 108 = .ok (.iaload, 1) := by decide +kernel
theorem dX2_attach_109 : decode cX2_attach 109 = .ok (.ifCond .lt 13, 3) := by decide +kernel
theorem dX2_attach_112 : decode cX2_attach 112 = .ok (.aload_n 0, 1) := by decide +kernel
theorem dX2_attach_113 : decode cX2_attach 113 = .ok (.getfield 17, 3) := by decide +kernel
theorem dX2_attach_116 : decode cX2_attach 116 = .ok (.iload 4, 2) := by decide +kernel
theorem dX2_attach_118 : decode cX2_attach 118 = .ok (.baload, 1) := by decide +kernel
theorem dX2_attach_119 : decode cX2_attach 119 = .ok (.ifCond .ne 6, 3) := by decide +kernel
theorem dX2_attach_122 : decode cX2_attach 122 = .ok (.bipush (-3), 2) := by decide +kernel
theorem dX2_attach_124 : decode cX2_attach 124 = .ok (.ireturn, 1) := by decide +kernel
theorem dX2_attach_125 : decode cX2_attach 125 = .ok (.aload_n 0, 1) := by decide +kernel
theorem dX2_attach_126 : decode cX2_attach 126 = .ok (.getfield 13, 3) := by decide +kernel
theorem dX2_attach_129 : decode cX2_attach 129 = .ok (.iload_n 3, 1) := by decide +kernel
theorem dX2_attach_130 : decode cX2_attach 130 = .ok (.aload_n 0, 1) := by decide +kernel
theorem dX2_attach_131 : decode cX2_attach 131 = .ok (.getfield 13, 3) := by decide +kernel
theorem dX2_attach_134 : decode cX2_attach 134 = .ok (.iload 4, 2) := by decide +kernel
theorem dX2_attach_136 : decode cX2_attach 136 = .ok (.iaload, 1) := by decide +kernel
theorem dX2_attach_137 : decode cX2_attach 137 = .ok (.iastore, 1) := by decide +kernel
theorem dX2_attach_138 : decode cX2_attach 138 = .ok (.aload_n 0, 1) := by decide +kernel
theorem dX2_attach_139 : decode cX2_attach 139 = .ok (.getfield 17, 3) := by decide +kernel
theorem dX2_attach_142 : decode cX2_attach 142 = .ok (.iload_n 3, 1) := by decide +kernel
theorem dX2_attach_143 : decode cX2_attach 143 = .ok (.iconst 1, 1) := by decide +kernel
theorem dX2_attach_144 : decode cX2_attach 144 = .ok (.bastore, 1) := by decide +kernel
theorem dX2_attach_145 : decode cX2_attach 145 = .ok (.iload_n 1, 1) := by decide +kernel
theorem dX2_attach_146 : decode cX2_attach 146 = .ok (.bipush 8, 2) := by decide +kernel
theorem dX2_attach_148 : decode cX2_attach 148 = .ok (.irem, 1) := by decide +kernel
theorem dX2_attach_149 : decode cX2_attach 149 = .ok (.ireturn, 1) := by decide +kernel
abbrev cX2_fork : ByteArray := prog_3_method_10_code
def yX2_fork : MethodName := ⟨RX2, "fork", "(II)I"⟩
theorem dX2_fork_0 : decode cX2_fork 0 = .ok (.aload_n 0, 1) := by decide +kernel
theorem dX2_fork_1 : decode cX2_fork 1 = .ok (.iload_n 1, 1) := by decide +kernel
theorem dX2_fork_2 : decode cX2_fork 2 = .ok (.invokevirtual 27, 3) := by decide +kernel
theorem dX2_fork_5 : decode cX2_fork 5 = .ok (.ifCond .eq 11, 3) := by decide +kernel
theorem dX2_fork_8 : decode cX2_fork 8 = .ok (.aload_n 0, 1) := by decide +kernel
theorem dX2_fork_9 : decode cX2_fork 9 = .ok (.iload_n 2, 1) := by decide +kernel
theorem dX2_fork_10 : decode cX2_fork 10 = .ok (.invokevirtual 27, 3) := by decide +kernel
theorem dX2_fork_13 : decode cX2_fork 13 = .ok (.ifCond .ne 5, 3) := by decide +kernel
theorem dX2_fork_16 : decode cX2_fork 16 = .ok (.iconst (-1), 1) := by decide +kernel
theorem dX2_fork_17 : decode cX2_fork 17 = .ok (.ireturn, 1) := by decide +kernel
theorem dX2_fork_18 : decode cX2_fork 18 = .ok (.aload_n 0, 1) := by decide +kernel
theorem dX2_fork_19 : decode cX2_fork 19 = .ok (.getfield 7, 3) := by decide +kernel
theorem dX2_fork_22 : decode cX2_fork 22 = .ok (.iload_n 1, 1) := by decide +kernel
theorem dX2_fork_23 : decode cX2_fork 23 = .ok (.baload, 1) := by decide +kernel
theorem dX2_fork_24 : decode cX2_fork 24 = .ok (.ifCond .ne 6, 3) := by decide +kernel
theorem dX2_fork_27 : decode cX2_fork 27 = .ok (.bipush (-2), 2) := by decide +kernel
theorem dX2_fork_29 : decode cX2_fork 29 = .ok (.ireturn, 1) := by decide +kernel
theorem dX2_fork_30 : decode cX2_fork 30 = .ok (.aload_n 0, 1) := by decide +kernel
theorem dX2_fork_31 : decode cX2_fork 31 = .ok (.getfield 7, 3) := by decide +kernel
theorem dX2_fork_34 : decode cX2_fork 34 = .ok (.iload_n 2, 1) := by decide +kernel
theorem dX2_fork_35 : decode cX2_fork 35 = .ok (.baload, 1) := by decide +kernel
theorem dX2_fork_36 : decode cX2_fork 36 = .ok (.ifCond .eq 6, 3) := by decide +kernel
theorem dX2_fork_39 : decode cX2_fork 39 = .ok (.bipush (-4), 2) := by decide +kernel
theorem dX2_fork_41 : decode cX2_fork 41 = .ok (.ireturn, 1) := by decide +kernel
theorem dX2_fork_42 : decode cX2_fork 42 = .ok (.aload_n 0, 1) := by decide +kernel
theorem dX2_fork_43 : decode cX2_fork 43 = .ok (.getfield 7, 3) := by decide +kernel
theorem dX2_fork_46 : decode cX2_fork 46 = .ok (.iload_n 2, 1) := by decide +kernel
theorem dX2_fork_47 : decode cX2_fork 47 = .ok (.iconst 1, 1) := by decide +kernel
theorem dX2_fork_48 : decode cX2_fork 48 = .ok (.bastore, 1) := by decide +kernel
theorem dX2_fork_49 : decode cX2_fork 49 = .ok (.iconst 0, 1) := by decide +kernel
theorem dX2_fork_50 : decode cX2_fork 50 = .ok (.istore_n 3, 1) := by decide +kernel
theorem dX2_fork_51 : decode cX2_fork 51 = .ok (.iconst 0, 1) := by decide +kernel
theorem dX2_fork_52 : decode cX2_fork 52 = .ok (.istore 4, 2) := by decide +kernel
theorem dX2_fork_54 : decode cX2_fork 54 = .ok (.iload 4, 2) := by decide +kernel
theorem dX2_fork_56 : decode cX2_fork 56 = .ok (.iconst 5, 1) := by decide +kernel
theorem dX2_fork_57 : decode cX2_fork 57 = .ok (.if_icmp .ge 42, 3) := by decide +kernel
theorem dX2_fork_60 : decode cX2_fork 60 = .ok (.aload_n 0, 1) := by decide +kernel
theorem dX2_fork_61 : decode cX2_fork 61 = .ok (.getfield 13, 3) := by decide +kernel
theorem dX2_fork_64 : decode cX2_fork 64 = .ok (.iconst 5, 1) := by decide +kernel
theorem dX2_fork_65 : decode cX2_fork 65 = .ok (.iload_n 1, 1) := by decide +kernel
theorem dX2_fork_66 : decode cX2_fork 66 = .ok (.imul, 1) := by decide +kernel
theorem dX2_fork_67 : decode cX2_fork 67 = .ok (.iload 4, 2) := by decide +kernel
theorem dX2_fork_69 : decode cX2_fork 69 = .ok (.iadd, 1) := by decide +kernel
theorem dX2_fork_70 : decode cX2_fork 70 = .ok (.iaload, 1) := by decide +kernel
theorem dX2_fork_71 : decode cX2_fork 71 = .ok (.ifCond .lt 22, 3) := by decide +kernel
theorem dX2_fork_74 : decode cX2_fork 74 = .ok (.aload_n 0, 1) := by decide +kernel
theorem dX2_fork_75 : decode cX2_fork 75 = .ok (.iconst 5, 1) := by decide +kernel
theorem dX2_fork_76 : decode cX2_fork 76 = .ok (.iload_n 1, 1) := by decide +kernel
theorem dX2_fork_77 : decode cX2_fork 77 = .ok (.imul, 1) := by decide +kernel
theorem dX2_fork_78 : decode cX2_fork 78 = .ok (.iload 4, 2) := by decide +kernel
theorem dX2_fork_80 : decode cX2_fork 80 = .ok (.iadd, 1) := by decide +kernel
theorem dX2_fork_81 : decode cX2_fork 81 = .ok (.iconst 5, 1) := by decide +kernel
theorem dX2_fork_82 : decode cX2_fork 82 = .ok (.iload_n 2, 1) := by decide +kernel
theorem dX2_fork_83 : decode cX2_fork 83 = .ok (.imul, 1) := by decide +kernel
theorem dX2_fork_84 : decode cX2_fork 84 = .ok (.iload 4, 2) := by decide +kernel
theorem dX2_fork_86 : decode cX2_fork 86 = .ok (.iadd, 1) := by decide +kernel
theorem dX2_fork_87 : decode cX2_fork 87 = .ok (.invokevirtual 37, 3) := by decide +kernel
theorem dX2_fork_90 : decode cX2_fork 90 = .ok (.iinc 3 1, 3) := by decide +kernel
theorem dX2_fork_93 : decode cX2_fork 93 = .ok (.iinc 4 1, 3) := by decide +kernel
theorem dX2_fork_96 : decode cX2_fork 96 = .ok (.goto (-42), 3) := by decide +kernel
theorem dX2_fork_99 : decode cX2_fork 99 = .ok (.iload_n 3, 1) := by decide +kernel
theorem dX2_fork_100 : decode cX2_fork 100 = .ok (.ireturn, 1) := by decide +kernel
abbrev cX2_copyPage : ByteArray := prog_3_method_9_code
def yX2_copyPage : MethodName := ⟨RX2, "copyPage", "(II)V"⟩
theorem dX2_copyPage_0 : decode cX2_copyPage 0 = .ok (.aload_n 0, 1) := by decide +kernel
theorem dX2_copyPage_1 : decode cX2_copyPage 1 = .ok (.getfield 13, 3) := by decide +kernel
theorem dX2_copyPage_4 : decode cX2_copyPage 4 = .ok (.iload_n 1, 1) := by decide +kernel
theorem dX2_copyPage_5 : decode cX2_copyPage 5 = .ok (.iaload, 1) := by decide +kernel
theorem dX2_copyPage_6 : decode cX2_copyPage 6 = .ok (.istore_n 3, 1) := by decide +kernel
theorem dX2_copyPage_7 : decode cX2_copyPage 7 = .ok (.aload_n 0, 1) := by decide +kernel
theorem dX2_copyPage_8 : decode cX2_copyPage 8 = .ok (.getfield 17, 3) := by decide +kernel
theorem dX2_copyPage_11 : decode cX2_copyPage 11 = .ok (.iload_n 1, 1) := by decide +kernel
theorem dX2_copyPage_12 : decode cX2_copyPage 12 = .ok (.baload, 1) := by decide +kernel
theorem dX2_copyPage_13 : decode cX2_copyPage 13 = .ok (.ifCond .ne 50, 3) := by decide +kernel
theorem dX2_copyPage_16 : decode cX2_copyPage 16 = .ok (.aload_n 0, 1) := by decide +kernel
theorem dX2_copyPage_17 : decode cX2_copyPage 17 = .ok (.invokevirtual 33, 3) := by decide +kernel
theorem dX2_copyPage_20 : decode cX2_copyPage 20 = .ok (.istore_n 3, 1) := by decide +kernel
theorem dX2_copyPage_21 : decode cX2_copyPage 21 = .ok (.iconst 0, 1) := by decide +kernel
theorem dX2_copyPage_22 : decode cX2_copyPage 22 = .ok (.istore 4, 2) := by decide +kernel
theorem dX2_copyPage_24 : decode cX2_copyPage 24 = .ok (.iload 4, 2) := by decide +kernel
theorem dX2_copyPage_26 : decode cX2_copyPage 26 = .ok (.iconst 4, 1) := by decide +kernel
theorem dX2_copyPage_27 : decode cX2_copyPage 27 = .ok (.if_icmp .ge 36, 3) := by decide +kernel
theorem dX2_copyPage_30 : decode cX2_copyPage 30 = .ok (.aload_n 0, 1) := by decide +kernel
theorem dX2_copyPage_31 : decode cX2_copyPage 31 = .ok (.getfield 20, 3) := by decide +kernel
theorem dX2_copyPage_34 : decode cX2_copyPage 34 = .ok (.iconst 4, 1) := by decide +kernel
theorem dX2_copyPage_35 : decode cX2_copyPage 35 = .ok (.iload_n 3, 1) := by decide +kernel
theorem dX2_copyPage_36 : decode cX2_copyPage 36 = .ok (.imul, 1) := by decide +kernel
theorem dX2_copyPage_37 : decode cX2_copyPage 37 = .ok (.iload 4, 2) := by decide +kernel
theorem dX2_copyPage_39 : decode cX2_copyPage 39 = .ok (.iadd, 1) := by decide +kernel
theorem dX2_copyPage_40 : decode cX2_copyPage 40 = .ok (.aload_n 0, 1) := by decide +kernel
theorem dX2_copyPage_41 : decode cX2_copyPage 41 = .ok (.getfield 20, 3) := by decide +kernel
theorem dX2_copyPage_44 : decode cX2_copyPage 44 = .ok (.iconst 4, 1) := by decide +kernel
theorem dX2_copyPage_45 : decode cX2_copyPage 45 = .ok (.aload_n 0, 1) := by decide +kernel
theorem dX2_copyPage_46 : decode cX2_copyPage 46 = .ok (.getfield 13, 3) := by decide +kernel
theorem dX2_copyPage_49 : decode cX2_copyPage 49 = .ok (.iload_n 1, 1) := by decide +kernel
theorem dX2_copyPage_50 : decode cX2_copyPage 50 = .ok (.iaload, 1) := by decide +kernel
theorem dX2_copyPage_51 : decode cX2_copyPage 51 = .ok (.imul, 1) := by decide +kernel
theorem dX2_copyPage_52 : decode cX2_copyPage 52 = .ok (.iload 4, 2) := by decide +kernel
theorem dX2_copyPage_54 : decode cX2_copyPage 54 = .ok (.iadd, 1) := by decide +kernel
theorem dX2_copyPage_55 : decode cX2_copyPage 55 = .ok (.iaload, 1) := by decide +kernel
theorem dX2_copyPage_56 : decode cX2_copyPage 56 = .ok (.iastore, 1) := by decide +kernel
theorem dX2_copyPage_57 : decode cX2_copyPage 57 = .ok (.iinc 4 1, 3) := by decide +kernel
theorem dX2_copyPage_60 : decode cX2_copyPage 60 = .ok (.goto (-36), 3) := by decide +kernel
theorem dX2_copyPage_63 : decode cX2_copyPage 63 = .ok (.aload_n 0, 1) := by decide +kernel
theorem dX2_copyPage_64 : decode cX2_copyPage 64 = .ok (.getfield 13, 3) := by decide +kernel
theorem dX2_copyPage_67 : decode cX2_copyPage 67 = .ok (.iload_n 2, 1) := by decide +kernel
theorem dX2_copyPage_68 : decode cX2_copyPage 68 = .ok (.iload_n 3, 1) := by decide +kernel
theorem dX2_copyPage_69 : decode cX2_copyPage 69 = .ok (.iastore, 1) := by decide +kernel
theorem dX2_copyPage_70 : decode cX2_copyPage 70 = .ok (.aload_n 0, 1) := by decide +kernel
theorem dX2_copyPage_71 : decode cX2_copyPage 71 = .ok (.getfield 17, 3) := by decide +kernel
theorem dX2_copyPage_74 : decode cX2_copyPage 74 = .ok (.iload_n 2, 1) := by decide +kernel
theorem dX2_copyPage_75 : decode cX2_copyPage 75 = .ok (.aload_n 0, 1) := by decide +kernel
theorem dX2_copyPage_76 : decode cX2_copyPage 76 = .ok (.getfield 17, 3) := by decide +kernel
theorem dX2_copyPage_79 : decode cX2_copyPage 79 = .ok (.iload_n 1, 1) := by decide +kernel
theorem dX2_copyPage_80 : decode cX2_copyPage 80 = .ok (.baload, 1) := by decide +kernel
theorem dX2_copyPage_81 : decode cX2_copyPage 81 = .ok (.bastore, 1) := by decide +kernel
theorem dX2_copyPage_82 : decode cX2_copyPage 82 = .ok (.return_, 1) := by decide +kernel
abbrev cX2_exit : ByteArray := prog_3_method_11_code
def yX2_exit : MethodName := ⟨RX2, "exit", "(I)I"⟩
theorem dX2_exit_0 : decode cX2_exit 0 = .ok (.aload_n 0, 1) := by decide +kernel
theorem dX2_exit_1 : decode cX2_exit 1 = .ok (.iload_n 1, 1) := by decide +kernel
theorem dX2_exit_2 : decode cX2_exit 2 = .ok (.invokevirtual 27, 3) := by decide +kernel
theorem dX2_exit_5 : decode cX2_exit 5 = .ok (.ifCond .ne 5, 3) := by decide +kernel
theorem dX2_exit_8 : decode cX2_exit 8 = .ok (.iconst (-1), 1) := by decide +kernel
theorem dX2_exit_9 : decode cX2_exit 9 = .ok (.ireturn, 1) := by decide +kernel
theorem dX2_exit_10 : decode cX2_exit 10 = .ok (.aload_n 0, 1) := by decide +kernel
theorem dX2_exit_11 : decode cX2_exit 11 = .ok (.getfield 7, 3) := by decide +kernel
theorem dX2_exit_14 : decode cX2_exit 14 = .ok (.iload_n 1, 1) := by decide +kernel
theorem dX2_exit_15 : decode cX2_exit 15 = .ok (.baload, 1) := by decide +kernel
theorem dX2_exit_16 : decode cX2_exit 16 = .ok (.ifCond .ne 6, 3) := by decide +kernel
theorem dX2_exit_19 : decode cX2_exit 19 = .ok (.bipush (-2), 2) := by decide +kernel
theorem dX2_exit_21 : decode cX2_exit 21 = .ok (.ireturn, 1) := by decide +kernel
theorem dX2_exit_22 : decode cX2_exit 22 = .ok (.iconst 0, 1) := by decide +kernel
theorem dX2_exit_23 : decode cX2_exit 23 = .ok (.istore_n 2, 1) := by decide +kernel
theorem dX2_exit_24 : decode cX2_exit 24 = .ok (.iconst 0, 1) := by decide +kernel
theorem dX2_exit_25 : decode cX2_exit 25 = .ok (.istore_n 3, 1) := by decide +kernel
theorem dX2_exit_26 : decode cX2_exit 26 = .ok (.iload_n 3, 1) := by decide +kernel
theorem dX2_exit_27 : decode cX2_exit 27 = .ok (.iconst 5, 1) := by decide +kernel
theorem dX2_exit_28 : decode cX2_exit 28 = .ok (.if_icmp .ge 36, 3) := by decide +kernel
theorem dX2_exit_31 : decode cX2_exit 31 = .ok (.aload_n 0, 1) := by decide +kernel
theorem dX2_exit_32 : decode cX2_exit 32 = .ok (.getfield 13, 3) := by decide +kernel
theorem dX2_exit_35 : decode cX2_exit 35 = .ok (.iconst 5, 1) := by decide +kernel
theorem dX2_exit_36 : decode cX2_exit 36 = .ok (.iload_n 1, 1) := by decide +kernel
theorem dX2_exit_37 : decode cX2_exit 37 = .ok (.imul, 1) := by decide +kernel
theorem dX2_exit_38 : decode cX2_exit 38 = .ok (.iload_n 3, 1) := by decide +kernel
theorem dX2_exit_39 : decode cX2_exit 39 = .ok (.iadd, 1) := by decide +kernel
theorem dX2_exit_40 : decode cX2_exit 40 = .ok (.iaload, 1) := by decide +kernel
theorem dX2_exit_41 : decode cX2_exit 41 = .ok (.ifCond .lt 6, 3) := by decide +kernel
theorem dX2_exit_44 : decode cX2_exit 44 = .ok (.iinc 2 1, 3) := by decide +kernel
theorem dX2_exit_47 : decode cX2_exit 47 = .ok (.aload_n 0, 1) := by decide +kernel
theorem dX2_exit_48 : decode cX2_exit 48 = .ok (.getfield 13, 3) := by decide +kernel
theorem dX2_exit_51 : decode cX2_exit 51 = .ok (.iconst 5, 1) := by decide +kernel
theorem dX2_exit_52 : decode cX2_exit 52 = .ok (.iload_n 1, 1) := by decide +kernel
theorem dX2_exit_53 : decode cX2_exit 53 = .ok (.imul, 1) := by decide +kernel
theorem dX2_exit_54 : decode cX2_exit 54 = .ok (.iload_n 3, 1) := by decide +kernel
theorem dX2_exit_55 : decode cX2_exit 55 = .ok (.iadd, 1) := by decide +kernel
theorem dX2_exit_56 : decode cX2_exit 56 = .ok (.iconst (-1), 1) := by decide +kernel
theorem dX2_exit_57 : decode cX2_exit 57 = .ok (.iastore, 1) := by decide +kernel
theorem dX2_exit_58 : decode cX2_exit 58 = .ok (.iinc 3 1, 3) := by decide +kernel
theorem dX2_exit_61 : decode cX2_exit 61 = .ok (.goto (-35), 3) := by decide +kernel
theorem dX2_exit_64 : decode cX2_exit 64 = .ok (.aload_n 0, 1) := by decide +kernel
theorem dX2_exit_65 : decode cX2_exit 65 = .ok (.getfield 7, 3) := by decide +kernel
theorem dX2_exit_68 : decode cX2_exit 68 = .ok (.iload_n 1, 1) := by decide +kernel
theorem dX2_exit_69 : decode cX2_exit 69 = .ok (.iconst 0, 1) := by decide +kernel
theorem dX2_exit_70 : decode cX2_exit 70 = .ok (.bastore, 1) := by decide +kernel
theorem dX2_exit_71 : decode cX2_exit 71 = .ok (.iload_n 2, 1) := by decide +kernel
theorem dX2_exit_72 : decode cX2_exit 72 = .ok (.ireturn, 1) := by decide +kernel
abbrev cX2_write : ByteArray := prog_3_method_12_code
def yX2_write : MethodName := ⟨RX2, "write", "(III)I"⟩
theorem dX2_write_0 : decode cX2_write 0 = .ok (.aload_n 0, 1) := by decide +kernel
theorem dX2_write_1 : decode cX2_write 1 = .ok (.iload_n 1, 1) := by decide +kernel
theorem dX2_write_2 : decode cX2_write 2 = .ok (.invokevirtual 27, 3) := by decide +kernel
theorem dX2_write_5 : decode cX2_write 5 = .ok (.ifCond .eq 13, 3) := by decide +kernel
theorem dX2_write_8 : decode cX2_write 8 = .ok (.iload_n 2, 1) := by decide +kernel
theorem dX2_write_9 : decode cX2_write 9 = .ok (.ifCond .lt 9, 3) := by decide +kernel
theorem dX2_write_12 : decode cX2_write 12 = .ok (.iload_n 2, 1) := by decide +kernel
theorem dX2_write_13 : decode cX2_write 13 = .ok (.bipush 19, 2) := by decide +kernel
theorem dX2_write_15 : decode cX2_write 15 = .ok (.if_icmp .le 5, 3) := by decide +kernel
theorem dX2_write_18 : decode cX2_write 18 = .ok (.iconst (-1), 1) := by decide +kernel
theorem dX2_write_19 : decode cX2_write 19 = .ok (.ireturn, 1) := by decide +kernel
theorem dX2_write_20 : decode cX2_write 20 = .ok (.aload_n 0, 1) := by decide +kernel
theorem dX2_write_21 : decode cX2_write 21 = .ok (.getfield 7, 3) := by decide +kernel
theorem dX2_write_24 : decode cX2_write 24 = .ok (.iload_n 1, 1) := by decide +kernel
theorem dX2_write_25 : decode cX2_write 25 = .ok (.baload, 1) := by decide +kernel
theorem dX2_write_26 : decode cX2_write 26 = .ok (.ifCond .ne 6, 3) := by decide +kernel
theorem dX2_write_29 : decode cX2_write 29 = .ok (.bipush (-2), 2) := by decide +kernel
theorem dX2_write_31 : decode cX2_write 31 = .ok (.ireturn, 1) := by decide +kernel
theorem dX2_write_32 : decode cX2_write 32 = .ok (.aload_n 0, 1) := by decide +kernel
theorem dX2_write_33 : decode cX2_write 33 = .ok (.getfield 13, 3) := by decide +kernel
theorem dX2_write_36 : decode cX2_write 36 = .ok (.iconst 5, 1) := by decide +kernel
theorem dX2_write_37 : decode cX2_write 37 = .ok (.iload_n 1, 1) := by decide +kernel
theorem dX2_write_38 : decode cX2_write 38 = .ok (.imul, 1) := by decide +kernel
theorem dX2_write_39 : decode cX2_write 39 = .ok (.iload_n 2, 1) := by decide +kernel
theorem dX2_write_40 : decode cX2_write 40 = .ok (.iconst 4, 1) := by decide +kernel
theorem dX2_write_41 : decode cX2_write 41 = .ok (.idiv, 1) := by decide +kernel
theorem dX2_write_42 : decode cX2_write 42 = .ok (.iadd, 1) := by decide +kernel
theorem dX2_write_43 : decode cX2_write 43 = .ok (.iaload, 1) := by decide +kernel
theorem dX2_write_44 : decode cX2_write 44 = .ok (.istore 4, 2) := by decide +kernel
theorem dX2_write_46 : decode cX2_write 46 = .ok (.iload 4, 2) := by decide +kernel
theorem dX2_write_48 : decode cX2_write 48 = .ok (.ifCond .ge 6, 3) := by decide +kernel
theorem dX2_write_51 : decode cX2_write 51 = .ok (.bipush (-3), 2) := by decide +kernel
theorem dX2_write_53 : decode cX2_write 53 = .ok (.ireturn, 1) := by decide +kernel
theorem dX2_write_54 : decode cX2_write 54 = .ok (.aload_n 0, 1) := by decide +kernel
theorem dX2_write_55 : decode cX2_write 55 = .ok (.getfield 20, 3) := by decide +kernel
theorem dX2_write_58 : decode cX2_write 58 = .ok (.iconst 4, 1) := by decide +kernel
theorem dX2_write_59 : decode cX2_write 59 = .ok (.iload 4, 2) := by decide +kernel
theorem dX2_write_61 : decode cX2_write 61 = .ok (.imul, 1) := by decide +kernel
theorem dX2_write_62 : decode cX2_write 62 = .ok (.iload_n 2, 1) := by decide +kernel
theorem dX2_write_63 : decode cX2_write 63 = .ok (.iconst 4, 1) := by decide +kernel
theorem dX2_write_64 : decode cX2_write 64 = .ok (.irem, 1) := by decide +kernel
theorem dX2_write_65 : decode cX2_write 65 = .ok (.iadd, 1) := by decide +kernel
theorem dX2_write_66 : decode cX2_write 66 = .ok (.iload_n 3, 1) := by decide +kernel
theorem dX2_write_67 : decode cX2_write 67 = .ok (.iastore, 1) := by decide +kernel
theorem dX2_write_68 : decode cX2_write 68 = .ok (.iload_n 2, 1) := by decide +kernel
theorem dX2_write_69 : decode cX2_write 69 = .ok (.ireturn, 1) := by decide +kernel
abbrev cX2_read : ByteArray := prog_3_method_13_code
def yX2_read : MethodName := ⟨RX2, "read", "(II)I"⟩
theorem dX2_read_0 : decode cX2_read 0 = .ok (.aload_n 0, 1) := by decide +kernel
theorem dX2_read_1 : decode cX2_read 1 = .ok (.iload_n 1, 1) := by decide +kernel
theorem dX2_read_2 : decode cX2_read 2 = .ok (.invokevirtual 27, 3) := by decide +kernel
theorem dX2_read_5 : decode cX2_read 5 = .ok (.ifCond .eq 28, 3) := by decide +kernel
theorem dX2_read_8 : decode cX2_read 8 = .ok (.iload_n 2, 1) := by decide +kernel
theorem dX2_read_9 : decode cX2_read 9 = .ok (.ifCond .lt 24, 3) := by decide +kernel
theorem dX2_read_12 : decode cX2_read 12 = .ok (.iload_n 2, 1) := by decide +kernel
theorem dX2_read_13 : decode cX2_read 13 = .ok (.bipush 19, 2) := by decide +kernel
theorem dX2_read_15 : decode cX2_read 15 = .ok (.if_icmp .gt 18, 3) := by decide +kernel
theorem dX2_read_18 : decode cX2_read 18 = .ok (.aload_n 0, 1) := by decide +kernel
theorem dX2_read_19 : decode cX2_read 19 = .ok (.getfield 13, 3) := by decide +kernel
theorem dX2_read_22 : decode cX2_read 22 = .ok (.iconst 5, 1) := by decide +kernel
theorem dX2_read_23 : decode cX2_read 23 = .ok (.iload_n 1, 1) := by decide +kernel
theorem dX2_read_24 : decode cX2_read 24 = .ok (.imul, 1) := by decide +kernel
theorem dX2_read_25 : decode cX2_read 25 = .ok (.iload_n 2, 1) := by decide +kernel
theorem dX2_read_26 : decode cX2_read 26 = .ok (.iconst 4, 1) := by decide +kernel
theorem dX2_read_27 : decode cX2_read 27 = .ok (.idiv, 1) := by decide +kernel
theorem dX2_read_28 : decode cX2_read 28 = .ok (.iadd, 1) := by decide +kernel
theorem dX2_read_29 : decode cX2_read 29 = .ok (.iaload, 1) := by decide +kernel
theorem dX2_read_30 : decode cX2_read 30 = .ok (.ifCond .ge 5, 3) := by decide +kernel
theorem dX2_read_33 : decode cX2_read 33 = .ok (.iconst 0, 1) := by decide +kernel
theorem dX2_read_34 : decode cX2_read 34 = .ok (.ireturn, 1) := by decide +kernel
theorem dX2_read_35 : decode cX2_read 35 = .ok (.aload_n 0, 1) := by decide +kernel
theorem dX2_read_36 : decode cX2_read 36 = .ok (.getfield 20, 3) := by decide +kernel
theorem dX2_read_39 : decode cX2_read 39 = .ok (.iconst 4, 1) := by decide +kernel
theorem dX2_read_40 : decode cX2_read 40 = .ok (.aload_n 0, 1) := by decide +kernel
theorem dX2_read_41 : decode cX2_read 41 = .ok (.getfield 13, 3) := by decide +kernel
theorem dX2_read_44 : decode cX2_read 44 = .ok (.iconst 5, 1) := by decide +kernel
theorem dX2_read_45 : decode cX2_read 45 = .ok (.iload_n 1, 1) := by decide +kernel
theorem dX2_read_46 : decode cX2_read 46 = .ok (.imul, 1) := by decide +kernel
theorem dX2_read_47 : decode cX2_read 47 = .ok (.iload_n 2, 1) := by decide +kernel
theorem dX2_read_48 : decode cX2_read 48 = .ok (.iconst 4, 1) := by decide +kernel
theorem dX2_read_49 : decode cX2_read 49 = .ok (.idiv, 1) := by decide +kernel
theorem dX2_read_50 : decode cX2_read 50 = .ok (.iadd, 1) := by decide +kernel
theorem dX2_read_51 : decode cX2_read 51 = .ok (.iaload, 1) := by decide +kernel
theorem dX2_read_52 : decode cX2_read 52 = .ok (.imul, 1) := by decide +kernel
theorem dX2_read_53 : decode cX2_read 53 = .ok (.iload_n 2, 1) := by decide +kernel
theorem dX2_read_54 : decode cX2_read 54 = .ok (.iconst 4, 1) := by decide +kernel
theorem dX2_read_55 : decode cX2_read 55 = .ok (.irem, 1) := by decide +kernel
theorem dX2_read_56 : decode cX2_read 56 = .ok (.iadd, 1) := by decide +kernel
theorem dX2_read_57 : decode cX2_read 57 = .ok (.iaload, 1) := by decide +kernel
theorem dX2_read_58 : decode cX2_read 58 = .ok (.ireturn, 1) := by decide +kernel
abbrev cX2_isMapped : ByteArray := prog_3_method_14_code
def yX2_isMapped : MethodName := ⟨RX2, "isMapped", "(II)Z"⟩
theorem dX2_isMapped_0 : decode cX2_isMapped 0 = .ok (.aload_n 0, 1) := by decide +kernel
theorem dX2_isMapped_1 : decode cX2_isMapped 1 = .ok (.iload_n 1, 1) := by decide +kernel
theorem dX2_isMapped_2 : decode cX2_isMapped 2 = .ok (.invokevirtual 27, 3) := by decide +kernel
theorem dX2_isMapped_5 : decode cX2_isMapped 5 = .ok (.ifCond .eq 28, 3) := by decide +kernel
theorem dX2_isMapped_8 : decode cX2_isMapped 8 = .ok (.aload_n 0, 1) := by decide +kernel
theorem dX2_isMapped_9 : decode cX2_isMapped 9 = .ok (.iload_n 2, 1) := by decide +kernel
theorem dX2_isMapped_10 : decode cX2_isMapped 10 = .ok (.invokevirtual 30, 3) := by decide +kernel
theorem dX2_isMapped_13 : decode cX2_isMapped 13 = .ok (.ifCond .eq 20, 3) := by decide +kernel
theorem dX2_isMapped_16 : decode cX2_isMapped 16 = .ok (.aload_n 0, 1) := by decide +kernel
theorem dX2_isMapped_17 : decode cX2_isMapped 17 = .ok (.getfield 13, 3) := by decide +kernel
theorem dX2_isMapped_20 : decode cX2_isMapped 20 = .ok (.iconst 5, 1) := by decide +kernel
theorem dX2_isMapped_21 : decode cX2_isMapped 21 = .ok (.iload_n 1, 1) := by decide +kernel
theorem dX2_isMapped_22 : decode cX2_isMapped 22 = .ok (.imul, 1) := by decide +kernel
theorem dX2_isMapped_23 : decode cX2_isMapped 23 = .ok (.iload_n 2, 1) := by decide +kernel
theorem dX2_isMapped_24 : decode cX2_isMapped 24 = .ok (.iadd, 1) := by decide +kernel
theorem dX2_isMapped_25 : decode cX2_isMapped 25 = .ok (.iaload, 1) := by decide +kernel
theorem dX2_isMapped_26 : decode cX2_isMapped 26 = .ok (.ifCond .lt 7, 3) := by decide +kernel
theorem dX2_isMapped_29 : decode cX2_isMapped 29 = .ok (.iconst 1, 1) := by decide +kernel
theorem dX2_isMapped_30 : decode cX2_isMapped 30 = .ok (.goto 4, 3) := by decide +kernel
theorem dX2_isMapped_33 : decode cX2_isMapped 33 = .ok (.iconst 0, 1) := by decide +kernel
theorem dX2_isMapped_34 : decode cX2_isMapped 34 = .ok (.ireturn, 1) := by decide +kernel
abbrev cX2_showing : ByteArray := prog_3_method_15_code
def yX2_showing : MethodName := ⟨RX2, "showing", "(II)I"⟩
theorem dX2_showing_0 : decode cX2_showing 0 = .ok (.aload_n 0, 1) := by decide +kernel
theorem dX2_showing_1 : decode cX2_showing 1 = .ok (.iload_n 1, 1) := by decide +kernel
theorem dX2_showing_2 : decode cX2_showing 2 = .ok (.invokevirtual 27, 3) := by decide +kernel
theorem dX2_showing_5 : decode cX2_showing 5 = .ok (.ifCond .eq 11, 3) := by decide +kernel
theorem dX2_showing_8 : decode cX2_showing 8 = .ok (.aload_n 0, 1) := by decide +kernel
theorem dX2_showing_9 : decode cX2_showing 9 = .ok (.iload_n 2, 1) := by decide +kernel
theorem dX2_showing_10 : decode cX2_showing 10 = .ok (.invokevirtual 30, 3) := by decide +kernel
theorem dX2_showing_13 : decode cX2_showing 13 = .ok (.ifCond .ne 5, 3) := by decide +kernel
theorem dX2_showing_16 : decode cX2_showing 16 = .ok (.iconst (-1), 1) := by decide +kernel
theorem dX2_showing_17 : decode cX2_showing 17 = .ok (.ireturn, 1) := by decide +kernel
theorem dX2_showing_18 : decode cX2_showing 18 = .ok (.aload_n 0, 1) := by decide +kernel
theorem dX2_showing_19 : decode cX2_showing 19 = .ok (.getfield 7, 3) := by decide +kernel
theorem dX2_showing_22 : decode cX2_showing 22 = .ok (.iload_n 1, 1) := by decide +kernel
theorem dX2_showing_23 : decode cX2_showing 23 = .ok (.baload, 1) := by decide +kernel
theorem dX2_showing_24 : decode cX2_showing 24 = .ok (.ifCond .ne 6, 3) := by decide +kernel
theorem dX2_showing_27 : decode cX2_showing 27 = .ok (.bipush (-2), 2) := by decide +kernel
theorem dX2_showing_29 : decode cX2_showing 29 = .ok (.ireturn, 1) := by decide +kernel
theorem dX2_showing_30 : decode cX2_showing 30 = .ok (.aload_n 0, 1) := by decide +kernel
theorem dX2_showing_31 : decode cX2_showing 31 = .ok (.getfield 13, 3) := by decide +kernel
theorem dX2_showing_34 : decode cX2_showing 34 = .ok (.iconst 5, 1) := by decide +kernel
theorem dX2_showing_35 : decode cX2_showing 35 = .ok (.iload_n 1, 1) := by decide +kernel
theorem dX2_showing_36 : decode cX2_showing 36 = .ok (.imul, 1) := by decide +kernel
theorem dX2_showing_37 : decode cX2_showing 37 = .ok (.iload_n 2, 1) := by decide +kernel
theorem dX2_showing_38 : decode cX2_showing 38 = .ok (.iadd, 1) := by decide +kernel
theorem dX2_showing_39 : decode cX2_showing 39 = .ok (.iaload, 1) := by decide +kernel
theorem dX2_showing_40 : decode cX2_showing 40 = .ok (.ifCond .ge 6, 3) := by decide +kernel
theorem dX2_showing_43 : decode cX2_showing 43 = .ok (.bipush (-3), 2) := by decide +kernel
theorem dX2_showing_45 : decode cX2_showing 45 = .ok (.ireturn, 1) := by decide +kernel
theorem dX2_showing_46 : decode cX2_showing 46 = .ok (.iconst 0, 1) := by decide +kernel
theorem dX2_showing_47 : decode cX2_showing 47 = .ok (.istore_n 3, 1) := by decide +kernel
theorem dX2_showing_48 : decode cX2_showing 48 = .ok (.iconst 0, 1) := by decide +kernel
theorem dX2_showing_49 : decode cX2_showing 49 = .ok (.istore 4, 2) := by decide +kernel
theorem dX2_showing_51 : decode cX2_showing 51 = .ok (.iload 4, 2) := by decide +kernel
theorem dX2_showing_53 : decode cX2_showing 53 = .ok (.bipush 20, 2) := by decide +kernel
theorem dX2_showing_55 : decode cX2_showing 55 = .ok (.if_icmp .ge 32, 3) := by decide +kernel
theorem dX2_showing_58 : decode cX2_showing 58 = .ok (.aload_n 0, 1) := by decide +kernel
theorem dX2_showing_59 : decode cX2_showing 59 = .ok (.getfield 13, 3) := by decide +kernel
theorem dX2_showing_62 : decode cX2_showing 62 = .ok (.iload 4, 2) := by decide +kernel
theorem dX2_showing_64 : decode cX2_showing 64 = .ok (.iaload, 1) := by decide +kernel
theorem dX2_showing_65 : decode cX2_showing 65 = .ok (.aload_n 0, 1) := by decide +kernel
theorem dX2_showing_66 : decode cX2_showing 66 = .ok (.getfield 13, 3) := by decide +kernel
theorem dX2_showing_69 : decode cX2_showing 69 = .ok (.iconst 5, 1) := by decide +kernel
theorem dX2_showing_70 : decode cX2_showing 70 = .ok (.iload_n 1, 1) := by decide +kernel
theorem dX2_showing_71 : decode cX2_showing 71 = .ok (.imul, 1) := by decide +kernel
theorem dX2_showing_72 : decode cX2_showing 72 = .ok (.iload_n 2, 1) := by decide +kernel
theorem dX2_showing_73 : decode cX2_showing 73 = .ok (.iadd, 1) := by decide +kernel
theorem dX2_showing_74 : decode cX2_showing 74 = .ok (.iaload, 1) := by decide +kernel
theorem dX2_showing_75 : decode cX2_showing 75 = .ok (.if_icmp .ne 6, 3) := by decide +kernel
theorem dX2_showing_78 : decode cX2_showing 78 = .ok (.iinc 3 1, 3) := by decide +kernel
theorem dX2_showing_81 : decode cX2_showing 81 = .ok (.iinc 4 1, 3) := by decide +kernel
theorem dX2_showing_84 : decode cX2_showing 84 = .ok (.goto (-33), 3) := by decide +kernel
theorem dX2_showing_87 : decode cX2_showing 87 = .ok (.iload_n 3, 1) := by decide +kernel
theorem dX2_showing_88 : decode cX2_showing 88 = .ok (.ireturn, 1) := by decide +kernel
abbrev cX2_total : ByteArray := prog_3_method_16_code
def yX2_total : MethodName := ⟨RX2, "total", "()J"⟩
theorem dX2_total_0 : decode cX2_total 0 = .ok (.lconst 0, 1) := by decide +kernel
theorem dX2_total_1 : decode cX2_total 1 = .ok (.lstore_n 1, 1) := by decide +kernel
theorem dX2_total_2 : decode cX2_total 2 = .ok (.iconst 0, 1) := by decide +kernel
theorem dX2_total_3 : decode cX2_total 3 = .ok (.istore_n 3, 1) := by decide +kernel
theorem dX2_total_4 : decode cX2_total 4 = .ok (.iload_n 3, 1) := by decide +kernel
theorem dX2_total_5 : decode cX2_total 5 = .ok (.bipush 20, 2) := by decide +kernel
theorem dX2_total_7 : decode cX2_total 7 = .ok (.if_icmp .ge 47, 3) := by decide +kernel
theorem dX2_total_10 : decode cX2_total 10 = .ok (.iconst 0, 1) := by decide +kernel
theorem dX2_total_11 : decode cX2_total 11 = .ok (.istore 4, 2) := by decide +kernel
theorem dX2_total_13 : decode cX2_total 13 = .ok (.iload 4, 2) := by decide +kernel
theorem dX2_total_15 : decode cX2_total 15 = .ok (.iconst 4, 1) := by decide +kernel
theorem dX2_total_16 : decode cX2_total 16 = .ok (.if_icmp .ge 32, 3) := by decide +kernel
theorem dX2_total_19 : decode cX2_total 19 = .ok (.aload_n 0, 1) := by decide +kernel
theorem dX2_total_20 : decode cX2_total 20 = .ok (.iload_n 3, 1) := by decide +kernel
theorem dX2_total_21 : decode cX2_total 21 = .ok (.invokevirtual 23, 3) := by decide +kernel
theorem dX2_total_24 : decode cX2_total 24 = .ok (.ifCond .eq 18, 3) := by decide +kernel
theorem dX2_total_27 : decode cX2_total 27 = .ok (.lload_n 1, 1) := by decide +kernel
theorem dX2_total_28 : decode cX2_total 28 = .ok (.aload_n 0, 1) := by decide +kernel
theorem dX2_total_29 : decode cX2_total 29 = .ok (.getfield 20, 3) := by decide +kernel
theorem dX2_total_32 : decode cX2_total 32 = .ok (.iconst 4, 1) := by decide +kernel
theorem dX2_total_33 : decode cX2_total 33 = .ok (.iload_n 3, 1) := by decide +kernel
theorem dX2_total_34 : decode cX2_total 34 = .ok (.imul, 1) := by decide +kernel
theorem dX2_total_35 : decode cX2_total 35 = .ok (.iload 4, 2) := by decide +kernel
theorem dX2_total_37 : decode cX2_total 37 = .ok (.iadd, 1) := by decide +kernel
theorem dX2_total_38 : decode cX2_total 38 = .ok (.iaload, 1) := by decide +kernel
theorem dX2_total_39 : decode cX2_total 39 = .ok (.i2l, 1) := by decide +kernel
theorem dX2_total_40 : decode cX2_total 40 = .ok (.ladd, 1) := by decide +kernel
theorem dX2_total_41 : decode cX2_total 41 = .ok (.lstore_n 1, 1) := by decide +kernel
theorem dX2_total_42 : decode cX2_total 42 = .ok (.iinc 4 1, 3) := by decide +kernel
theorem dX2_total_45 : decode cX2_total 45 = .ok (.goto (-32), 3) := by decide +kernel
theorem dX2_total_48 : decode cX2_total 48 = .ok (.iinc 3 1, 3) := by decide +kernel
theorem dX2_total_51 : decode cX2_total 51 = .ok (.goto (-47), 3) := by decide +kernel
theorem dX2_total_54 : decode cX2_total 54 = .ok (.lload_n 1, 1) := by decide +kernel
theorem dX2_total_55 : decode cX2_total 55 = .ok (.lreturn, 1) := by decide +kernel
abbrev cX2_sheets : ByteArray := prog_3_method_17_code
def yX2_sheets : MethodName := ⟨RX2, "sheets", "()I"⟩
theorem dX2_sheets_0 : decode cX2_sheets 0 = .ok (.iconst 0, 1) := by decide +kernel
theorem dX2_sheets_1 : decode cX2_sheets 1 = .ok (.istore_n 1, 1) := by decide +kernel
theorem dX2_sheets_2 : decode cX2_sheets 2 = .ok (.iconst 0, 1) := by decide +kernel
theorem dX2_sheets_3 : decode cX2_sheets 3 = .ok (.istore_n 2, 1) := by decide +kernel
theorem dX2_sheets_4 : decode cX2_sheets 4 = .ok (.iload_n 2, 1) := by decide +kernel
theorem dX2_sheets_5 : decode cX2_sheets 5 = .ok (.bipush 20, 2) := by decide +kernel
theorem dX2_sheets_7 : decode cX2_sheets 7 = .ok (.if_icmp .ge 20, 3) := by decide +kernel
theorem dX2_sheets_10 : decode cX2_sheets 10 = .ok (.aload_n 0, 1) := by decide +kernel
theorem dX2_sheets_11 : decode cX2_sheets 11 = .ok (.iload_n 2, 1) := by decide +kernel
theorem dX2_sheets_12 : decode cX2_sheets 12 = .ok (.invokevirtual 23, 3) := by decide +kernel
theorem dX2_sheets_15 : decode cX2_sheets 15 = .ok (.ifCond .eq 6, 3) := by decide +kernel
theorem dX2_sheets_18 : decode cX2_sheets 18 = .ok (.iinc 1 1, 3) := by decide +kernel
theorem dX2_sheets_21 : decode cX2_sheets 21 = .ok (.iinc 2 1, 3) := by decide +kernel
theorem dX2_sheets_24 : decode cX2_sheets 24 = .ok (.goto (-20), 3) := by decide +kernel
theorem dX2_sheets_27 : decode cX2_sheets 27 = .ok (.iload_n 1, 1) := by decide +kernel
theorem dX2_sheets_28 : decode cX2_sheets 28 = .ok (.ireturn, 1) := by decide +kernel
theorem q15 : (Jvm.Cond.initialized "CowMemoryModel") ∈ lw_all := lw_g (lw_at lw_m0 2 rfl) rfl
theorem q147 : (Jvm.Cond.instantiable "CowMemoryModel" (4 : Nat)) ∈ lw_all := lw_g (lw_at lw_m0 134 rfl) rfl
theorem q149 : (Jvm.Cond.instanceMethod ({ cls := "CowMemoryModel", name := "<init>", desc := "(I)V" } : Jvm.MethodName)) ∈ lw_all := lw_g (lw_at lw_m0 136 rfl) rfl
theorem q150 : (Jvm.Cond.code ({ cls := "CowMemoryModel", name := "<init>", desc := "(I)V" } : Jvm.MethodName) prog_3_method_1_code (3 : Nat) (Option.none : Option Jvm.ClassFile.FieldType)) ∈ lw_all := lw_g (lw_at lw_m0 137 rfl) rfl
theorem q151 : (Jvm.Cond.methodLink "CowMemoryModel" (1 : Nat) ({ cls := "java/lang/Object", name := "<init>", desc := "()V" } : Jvm.MethodName)) ∈ lw_all := lw_g (lw_at lw_m0 138 rfl) rfl
theorem q152 : (Jvm.Cond.fieldLink "CowMemoryModel" (7 : Nat) "CowMemoryModel" "alive" "[Z") ∈ lw_all := lw_g (lw_at lw_m0 139 rfl) rfl
theorem q153 : (Jvm.Cond.fieldLink "CowMemoryModel" (13 : Nat) "CowMemoryModel" "sheet" "[I") ∈ lw_all := lw_g (lw_at lw_m0 140 rfl) rfl
theorem q154 : (Jvm.Cond.fieldLink "CowMemoryModel" (17 : Nat) "CowMemoryModel" "open" "[Z") ∈ lw_all := lw_g (lw_at lw_m0 141 rfl) rfl
theorem q155 : (Jvm.Cond.fieldLink "CowMemoryModel" (20 : Nat) "CowMemoryModel" "cells" "[I") ∈ lw_all := lw_g (lw_at lw_m0 142 rfl) rfl
theorem q156 : (Jvm.Cond.lays "CowMemoryModel" "CowMemoryModel" "alive" "[Z") ∈ lw_all := lw_g (lw_at lw_m0 143 rfl) rfl
theorem q157 : (Jvm.Cond.soleField "CowMemoryModel" "alive") ∈ lw_all := lw_g (lw_at lw_m0 144 rfl) rfl
theorem q158 : (Jvm.Cond.lays "CowMemoryModel" "CowMemoryModel" "sheet" "[I") ∈ lw_all := lw_g (lw_at lw_m0 145 rfl) rfl
theorem q159 : (Jvm.Cond.soleField "CowMemoryModel" "sheet") ∈ lw_all := lw_g (lw_at lw_m0 146 rfl) rfl
theorem q160 : (Jvm.Cond.lays "CowMemoryModel" "CowMemoryModel" "open" "[Z") ∈ lw_all := lw_g (lw_at lw_m0 147 rfl) rfl
theorem q161 : (Jvm.Cond.soleField "CowMemoryModel" "open") ∈ lw_all := lw_g (lw_at lw_m0 148 rfl) rfl
theorem q162 : (Jvm.Cond.lays "CowMemoryModel" "CowMemoryModel" "cells" "[I") ∈ lw_all := lw_g (lw_at lw_m0 149 rfl) rfl
theorem q163 : (Jvm.Cond.soleField "CowMemoryModel" "cells") ∈ lw_all := lw_g (lw_at lw_m0 150 rfl) rfl
theorem q164 : (Jvm.Cond.superclass "CowMemoryModel" "java/lang/Object") ∈ lw_all := lw_g (lw_at lw_m0 151 rfl) rfl
theorem q166 : (Jvm.Cond.instanceMethod ({ cls := "CowMemoryModel", name := "map", desc := "(IIZ)I" } : Jvm.MethodName)) ∈ lw_all := lw_g (lw_at lw_m0 153 rfl) rfl
theorem q167 : (Jvm.Cond.selects "CowMemoryModel" ({ cls := "CowMemoryModel", name := "map", desc := "(IIZ)I" } : Jvm.MethodName) ({ cls := "CowMemoryModel", name := "map", desc := "(IIZ)I" } : Jvm.MethodName)) ∈ lw_all := lw_g (lw_at lw_m0 154 rfl) rfl
theorem q168 : (Jvm.Cond.code ({ cls := "CowMemoryModel", name := "map", desc := "(IIZ)I" } : Jvm.MethodName) prog_3_method_6_code (6 : Nat) (Option.some Jvm.ClassFile.FieldType.int)) ∈ lw_all := lw_g (lw_at lw_m0 155 rfl) rfl
theorem q169 : (Jvm.Cond.methodLink "CowMemoryModel" (27 : Nat) ({ cls := "CowMemoryModel", name := "isProcess", desc := "(I)Z" } : Jvm.MethodName)) ∈ lw_all := lw_g (lw_at lw_m0 156 rfl) rfl
theorem q170 : (Jvm.Cond.privateMethod ({ cls := "CowMemoryModel", name := "isProcess", desc := "(I)Z" } : Jvm.MethodName)) ∈ lw_tbl := lw_at lw_m0 157 rfl
theorem q171 : (Jvm.Cond.instanceMethod ({ cls := "CowMemoryModel", name := "isProcess", desc := "(I)Z" } : Jvm.MethodName)) ∈ lw_all := lw_g (lw_at lw_m0 158 rfl) rfl
theorem q172 : (Jvm.Cond.code ({ cls := "CowMemoryModel", name := "isProcess", desc := "(I)Z" } : Jvm.MethodName) prog_3_method_2_code (2 : Nat) (Option.some Jvm.ClassFile.FieldType.boolean)) ∈ lw_all := lw_g (lw_at lw_m0 159 rfl) rfl
theorem q173 : (Jvm.Cond.methodLink "CowMemoryModel" (30 : Nat) ({ cls := "CowMemoryModel", name := "isPage", desc := "(I)Z" } : Jvm.MethodName)) ∈ lw_all := lw_g (lw_at lw_m0 160 rfl) rfl
theorem q174 : (Jvm.Cond.privateMethod ({ cls := "CowMemoryModel", name := "isPage", desc := "(I)Z" } : Jvm.MethodName)) ∈ lw_tbl := lw_at lw_m0 161 rfl
theorem q175 : (Jvm.Cond.instanceMethod ({ cls := "CowMemoryModel", name := "isPage", desc := "(I)Z" } : Jvm.MethodName)) ∈ lw_all := lw_g (lw_at lw_m0 162 rfl) rfl
theorem q176 : (Jvm.Cond.code ({ cls := "CowMemoryModel", name := "isPage", desc := "(I)Z" } : Jvm.MethodName) prog_3_method_3_code (2 : Nat) (Option.some Jvm.ClassFile.FieldType.boolean)) ∈ lw_all := lw_g (lw_at lw_m0 163 rfl) rfl
theorem q177 : (Jvm.Cond.methodLink "CowMemoryModel" (33 : Nat) ({ cls := "CowMemoryModel", name := "newSheet", desc := "()I" } : Jvm.MethodName)) ∈ lw_all := lw_g (lw_at lw_m0 164 rfl) rfl
theorem q178 : (Jvm.Cond.privateMethod ({ cls := "CowMemoryModel", name := "newSheet", desc := "()I" } : Jvm.MethodName)) ∈ lw_tbl := lw_at lw_m0 165 rfl
theorem q179 : (Jvm.Cond.instanceMethod ({ cls := "CowMemoryModel", name := "newSheet", desc := "()I" } : Jvm.MethodName)) ∈ lw_all := lw_g (lw_at lw_m0 166 rfl) rfl
theorem q180 : (Jvm.Cond.code ({ cls := "CowMemoryModel", name := "newSheet", desc := "()I" } : Jvm.MethodName) prog_3_method_5_code (2 : Nat) (Option.some Jvm.ClassFile.FieldType.int)) ∈ lw_all := lw_g (lw_at lw_m0 167 rfl) rfl
theorem q181 : (Jvm.Cond.methodLink "CowMemoryModel" (23 : Nat) ({ cls := "CowMemoryModel", name := "used", desc := "(I)Z" } : Jvm.MethodName)) ∈ lw_all := lw_g (lw_at lw_m0 168 rfl) rfl
theorem q182 : (Jvm.Cond.privateMethod ({ cls := "CowMemoryModel", name := "used", desc := "(I)Z" } : Jvm.MethodName)) ∈ lw_tbl := lw_at lw_m0 169 rfl
theorem q183 : (Jvm.Cond.instanceMethod ({ cls := "CowMemoryModel", name := "used", desc := "(I)Z" } : Jvm.MethodName)) ∈ lw_all := lw_g (lw_at lw_m0 170 rfl) rfl
theorem q184 : (Jvm.Cond.code ({ cls := "CowMemoryModel", name := "used", desc := "(I)Z" } : Jvm.MethodName) prog_3_method_4_code (3 : Nat) (Option.some Jvm.ClassFile.FieldType.boolean)) ∈ lw_all := lw_g (lw_at lw_m0 171 rfl) rfl
theorem q186 : (Jvm.Cond.instanceMethod ({ cls := "CowMemoryModel", name := "unmap", desc := "(II)I" } : Jvm.MethodName)) ∈ lw_all := lw_g (lw_at lw_m0 173 rfl) rfl
theorem q187 : (Jvm.Cond.selects "CowMemoryModel" ({ cls := "CowMemoryModel", name := "unmap", desc := "(II)I" } : Jvm.MethodName) ({ cls := "CowMemoryModel", name := "unmap", desc := "(II)I" } : Jvm.MethodName)) ∈ lw_all := lw_g (lw_at lw_m0 174 rfl) rfl
theorem q188 : (Jvm.Cond.code ({ cls := "CowMemoryModel", name := "unmap", desc := "(II)I" } : Jvm.MethodName) prog_3_method_7_code (3 : Nat) (Option.some Jvm.ClassFile.FieldType.int)) ∈ lw_all := lw_g (lw_at lw_m0 175 rfl) rfl
theorem q190 : (Jvm.Cond.instanceMethod ({ cls := "CowMemoryModel", name := "attach", desc := "(II)I" } : Jvm.MethodName)) ∈ lw_all := lw_g (lw_at lw_m0 177 rfl) rfl
theorem q191 : (Jvm.Cond.selects "CowMemoryModel" ({ cls := "CowMemoryModel", name := "attach", desc := "(II)I" } : Jvm.MethodName) ({ cls := "CowMemoryModel", name := "attach", desc := "(II)I" } : Jvm.MethodName)) ∈ lw_all := lw_g (lw_at lw_m0 178 rfl) rfl
theorem q192 : (Jvm.Cond.code ({ cls := "CowMemoryModel", name := "attach", desc := "(II)I" } : Jvm.MethodName) prog_3_method_8_code (5 : Nat) (Option.some Jvm.ClassFile.FieldType.int)) ∈ lw_all := lw_g (lw_at lw_m0 179 rfl) rfl
theorem q194 : (Jvm.Cond.instanceMethod ({ cls := "CowMemoryModel", name := "fork", desc := "(II)I" } : Jvm.MethodName)) ∈ lw_all := lw_g (lw_at lw_m0 181 rfl) rfl
theorem q195 : (Jvm.Cond.selects "CowMemoryModel" ({ cls := "CowMemoryModel", name := "fork", desc := "(II)I" } : Jvm.MethodName) ({ cls := "CowMemoryModel", name := "fork", desc := "(II)I" } : Jvm.MethodName)) ∈ lw_all := lw_g (lw_at lw_m0 182 rfl) rfl
theorem q196 : (Jvm.Cond.code ({ cls := "CowMemoryModel", name := "fork", desc := "(II)I" } : Jvm.MethodName) prog_3_method_10_code (5 : Nat) (Option.some Jvm.ClassFile.FieldType.int)) ∈ lw_all := lw_g (lw_at lw_m0 183 rfl) rfl
theorem q197 : (Jvm.Cond.methodLink "CowMemoryModel" (37 : Nat) ({ cls := "CowMemoryModel", name := "copyPage", desc := "(II)V" } : Jvm.MethodName)) ∈ lw_all := lw_g (lw_at lw_m0 184 rfl) rfl
theorem q198 : (Jvm.Cond.privateMethod ({ cls := "CowMemoryModel", name := "copyPage", desc := "(II)V" } : Jvm.MethodName)) ∈ lw_tbl := lw_at lw_m0 185 rfl
theorem q199 : (Jvm.Cond.instanceMethod ({ cls := "CowMemoryModel", name := "copyPage", desc := "(II)V" } : Jvm.MethodName)) ∈ lw_all := lw_g (lw_at lw_m0 186 rfl) rfl
theorem q200 : (Jvm.Cond.code ({ cls := "CowMemoryModel", name := "copyPage", desc := "(II)V" } : Jvm.MethodName) prog_3_method_9_code (5 : Nat) (Option.none : Option Jvm.ClassFile.FieldType)) ∈ lw_all := lw_g (lw_at lw_m0 187 rfl) rfl
theorem q202 : (Jvm.Cond.instanceMethod ({ cls := "CowMemoryModel", name := "exit", desc := "(I)I" } : Jvm.MethodName)) ∈ lw_all := lw_g (lw_at lw_m0 189 rfl) rfl
theorem q203 : (Jvm.Cond.selects "CowMemoryModel" ({ cls := "CowMemoryModel", name := "exit", desc := "(I)I" } : Jvm.MethodName) ({ cls := "CowMemoryModel", name := "exit", desc := "(I)I" } : Jvm.MethodName)) ∈ lw_all := lw_g (lw_at lw_m0 190 rfl) rfl
theorem q204 : (Jvm.Cond.code ({ cls := "CowMemoryModel", name := "exit", desc := "(I)I" } : Jvm.MethodName) prog_3_method_11_code (4 : Nat) (Option.some Jvm.ClassFile.FieldType.int)) ∈ lw_all := lw_g (lw_at lw_m0 191 rfl) rfl
theorem q206 : (Jvm.Cond.instanceMethod ({ cls := "CowMemoryModel", name := "write", desc := "(III)I" } : Jvm.MethodName)) ∈ lw_all := lw_g (lw_at lw_m0 193 rfl) rfl
theorem q207 : (Jvm.Cond.selects "CowMemoryModel" ({ cls := "CowMemoryModel", name := "write", desc := "(III)I" } : Jvm.MethodName) ({ cls := "CowMemoryModel", name := "write", desc := "(III)I" } : Jvm.MethodName)) ∈ lw_all := lw_g (lw_at lw_m0 194 rfl) rfl
theorem q208 : (Jvm.Cond.code ({ cls := "CowMemoryModel", name := "write", desc := "(III)I" } : Jvm.MethodName) prog_3_method_12_code (5 : Nat) (Option.some Jvm.ClassFile.FieldType.int)) ∈ lw_all := lw_g (lw_at lw_m0 195 rfl) rfl
theorem q210 : (Jvm.Cond.instanceMethod ({ cls := "CowMemoryModel", name := "read", desc := "(II)I" } : Jvm.MethodName)) ∈ lw_all := lw_g (lw_at lw_m0 197 rfl) rfl
theorem q211 : (Jvm.Cond.selects "CowMemoryModel" ({ cls := "CowMemoryModel", name := "read", desc := "(II)I" } : Jvm.MethodName) ({ cls := "CowMemoryModel", name := "read", desc := "(II)I" } : Jvm.MethodName)) ∈ lw_all := lw_g (lw_at lw_m0 198 rfl) rfl
theorem q212 : (Jvm.Cond.code ({ cls := "CowMemoryModel", name := "read", desc := "(II)I" } : Jvm.MethodName) prog_3_method_13_code (3 : Nat) (Option.some Jvm.ClassFile.FieldType.int)) ∈ lw_all := lw_g (lw_at lw_m0 199 rfl) rfl
theorem q214 : (Jvm.Cond.instanceMethod ({ cls := "CowMemoryModel", name := "isMapped", desc := "(II)Z" } : Jvm.MethodName)) ∈ lw_all := lw_g (lw_at lw_m0 201 rfl) rfl
theorem q215 : (Jvm.Cond.selects "CowMemoryModel" ({ cls := "CowMemoryModel", name := "isMapped", desc := "(II)Z" } : Jvm.MethodName) ({ cls := "CowMemoryModel", name := "isMapped", desc := "(II)Z" } : Jvm.MethodName)) ∈ lw_all := lw_g (lw_at lw_m0 202 rfl) rfl
theorem q216 : (Jvm.Cond.code ({ cls := "CowMemoryModel", name := "isMapped", desc := "(II)Z" } : Jvm.MethodName) prog_3_method_14_code (3 : Nat) (Option.some Jvm.ClassFile.FieldType.boolean)) ∈ lw_all := lw_g (lw_at lw_m0 203 rfl) rfl
theorem q218 : (Jvm.Cond.instanceMethod ({ cls := "CowMemoryModel", name := "showing", desc := "(II)I" } : Jvm.MethodName)) ∈ lw_all := lw_g (lw_at lw_m0 205 rfl) rfl
theorem q219 : (Jvm.Cond.selects "CowMemoryModel" ({ cls := "CowMemoryModel", name := "showing", desc := "(II)I" } : Jvm.MethodName) ({ cls := "CowMemoryModel", name := "showing", desc := "(II)I" } : Jvm.MethodName)) ∈ lw_all := lw_g (lw_at lw_m0 206 rfl) rfl
theorem q220 : (Jvm.Cond.code ({ cls := "CowMemoryModel", name := "showing", desc := "(II)I" } : Jvm.MethodName) prog_3_method_15_code (5 : Nat) (Option.some Jvm.ClassFile.FieldType.int)) ∈ lw_all := lw_g (lw_at lw_m0 207 rfl) rfl
theorem q222 : (Jvm.Cond.instanceMethod ({ cls := "CowMemoryModel", name := "total", desc := "()J" } : Jvm.MethodName)) ∈ lw_all := lw_g (lw_at lw_m0 209 rfl) rfl
theorem q223 : (Jvm.Cond.selects "CowMemoryModel" ({ cls := "CowMemoryModel", name := "total", desc := "()J" } : Jvm.MethodName) ({ cls := "CowMemoryModel", name := "total", desc := "()J" } : Jvm.MethodName)) ∈ lw_all := lw_g (lw_at lw_m0 210 rfl) rfl
theorem q224 : (Jvm.Cond.code ({ cls := "CowMemoryModel", name := "total", desc := "()J" } : Jvm.MethodName) prog_3_method_16_code (5 : Nat) (Option.some Jvm.ClassFile.FieldType.long)) ∈ lw_all := lw_g (lw_at lw_m0 211 rfl) rfl
theorem q226 : (Jvm.Cond.instanceMethod ({ cls := "CowMemoryModel", name := "sheets", desc := "()I" } : Jvm.MethodName)) ∈ lw_all := lw_g (lw_at lw_m0 213 rfl) rfl
theorem q227 : (Jvm.Cond.selects "CowMemoryModel" ({ cls := "CowMemoryModel", name := "sheets", desc := "()I" } : Jvm.MethodName) ({ cls := "CowMemoryModel", name := "sheets", desc := "()I" } : Jvm.MethodName)) ∈ lw_all := lw_g (lw_at lw_m0 214 rfl) rfl
theorem q228 : (Jvm.Cond.code ({ cls := "CowMemoryModel", name := "sheets", desc := "()I" } : Jvm.MethodName) prog_3_method_17_code (3 : Nat) (Option.some Jvm.ClassFile.FieldType.int)) ∈ lw_all := lw_g (lw_at lw_m0 215 rfl) rfl
theorem in_X2 : ∀ w ∈ wsX20, w ∈ lw_all := lw_in wsX20 [156, 158, 160, 162] (by decide +kernel) (by decide +kernel)
end
section
/-! CowMemory -/
set_option maxRecDepth 100000
def RX1 : String := "CowMemory"
def TX1 : u_T := fun k => match k with
  | 0 => ("CowMemory", "alive", "[Z", true)
  | 1 => ("CowMemory", "shows", "[B", true)
  | 2 => ("CowMemory", "isShared", "[Z", true)
  | 3 => ("CowMemory", "users", "[B", true)
  | 4 => ("CowMemory", "frameOf", "[B", true)
  | 5 => ("CowMemory", "swapped", "[Z", true)
  | 6 => ("CowMemory", "swapCells", "[I", true)
  | 7 => ("CowMemory", "frameCount", "I", false)
  | 8 => ("CowMemory", "holds", "[B", true)
  | 9 => ("CowMemory", "frameCells", "[I", true)
  | 10 => ("CowMemory", "touched", "[Z", true)
  | 11 => ("CowMemory", "dirty", "[Z", true)
  | _ => ("CowMemory", "hand", "I", false)
def tyX1 : Nat → FieldType := fun k => match k with
  | 0 => .array .boolean
  | 1 => .array .byte
  | 2 => .array .boolean
  | 3 => .array .byte
  | 4 => .array .byte
  | 5 => .array .boolean
  | 6 => .array .int
  | 7 => .int
  | 8 => .array .byte
  | 9 => .array .int
  | 10 => .array .boolean
  | 11 => .array .boolean
  | _ => .int
abbrev wsX10 : List Cond := u_ws RX1 TX1 13
set_option maxRecDepth 100000 in
theorem nmX1 : ∀ a, a < 13 → ∀ b, b < 13 → a ≠ b → (TX1 a).2.1 ≠ (TX1 b).2.1 := by decide +kernel
set_option maxRecDepth 100000 in
theorem tyX1_ok : ∀ k, k < 13 → parseFieldDescriptor (TX1 k).2.2.1 = some (tyX1 k) := by decide +kernel
abbrev cX1_init : ByteArray := prog_1_method_1_code
def yX1_init : MethodName := ⟨RX1, "<init>", "(I)V"⟩
abbrev cX1_map : ByteArray := prog_1_method_2_code
def yX1_map : MethodName := ⟨RX1, "map", "(IIZ)I"⟩
abbrev cX1_check : ByteArray := prog_1_method_7_code
def yX1_check : MethodName := ⟨RX1, "check", "(II)I"⟩
abbrev cX1_newContent : ByteArray := prog_1_method_15_code
def yX1_newContent : MethodName := ⟨RX1, "newContent", "()I"⟩
abbrev cX1_unmap : ByteArray := prog_1_method_3_code
def yX1_unmap : MethodName := ⟨RX1, "unmap", "(II)I"⟩
abbrev cX1_release : ByteArray := prog_1_method_16_code
def yX1_release : MethodName := ⟨RX1, "release", "(I)V"⟩
abbrev cX1_attach : ByteArray := prog_1_method_4_code
def yX1_attach : MethodName := ⟨RX1, "attach", "(II)I"⟩
abbrev cX1_fork : ByteArray := prog_1_method_5_code
def yX1_fork : MethodName := ⟨RX1, "fork", "(II)I"⟩
abbrev cX1_exit : ByteArray := prog_1_method_6_code
def yX1_exit : MethodName := ⟨RX1, "exit", "(I)I"⟩
abbrev cX1_write : ByteArray := prog_1_method_8_code
def yX1_write : MethodName := ⟨RX1, "write", "(III)I"⟩
abbrev cX1_part : ByteArray := prog_1_method_17_code
def yX1_part : MethodName := ⟨RX1, "part", "(I)V"⟩
abbrev cX1_bringIn : ByteArray := prog_1_method_18_code
def yX1_bringIn : MethodName := ⟨RX1, "bringIn", "(I)I"⟩
abbrev cX1_freeFrame : ByteArray := prog_1_method_19_code
def yX1_freeFrame : MethodName := ⟨RX1, "freeFrame", "()I"⟩
abbrev cX1_pageOut : ByteArray := prog_1_method_20_code
def yX1_pageOut : MethodName := ⟨RX1, "pageOut", "(I)V"⟩
abbrev cX1_read : ByteArray := prog_1_method_9_code
def yX1_read : MethodName := ⟨RX1, "read", "(II)I"⟩
abbrev cX1_isMapped : ByteArray := prog_1_method_10_code
def yX1_isMapped : MethodName := ⟨RX1, "isMapped", "(II)Z"⟩
abbrev cX1_showing : ByteArray := prog_1_method_11_code
def yX1_showing : MethodName := ⟨RX1, "showing", "(II)I"⟩
abbrev cX1_total : ByteArray := prog_1_method_12_code
def yX1_total : MethodName := ⟨RX1, "total", "()J"⟩
abbrev cX1_sumOf : ByteArray := prog_1_method_14_code
def yX1_sumOf : MethodName := ⟨RX1, "sumOf", "(I)J"⟩
abbrev cX1_sheets : ByteArray := prog_1_method_13_code
def yX1_sheets : MethodName := ⟨RX1, "sheets", "()I"⟩
theorem q14 : (Jvm.Cond.initialized "CowMemory") ∈ lw_all := lw_g (lw_at lw_m0 1 rfl) rfl
theorem q17 : (Jvm.Cond.instantiable "CowMemory" (13 : Nat)) ∈ lw_all := lw_g (lw_at lw_m0 4 rfl) rfl
theorem q19 : (Jvm.Cond.instanceMethod ({ cls := "CowMemory", name := "<init>", desc := "(I)V" } : Jvm.MethodName)) ∈ lw_all := lw_g (lw_at lw_m0 6 rfl) rfl
theorem q20 : (Jvm.Cond.code ({ cls := "CowMemory", name := "<init>", desc := "(I)V" } : Jvm.MethodName) prog_1_method_1_code (3 : Nat) (Option.none : Option Jvm.ClassFile.FieldType)) ∈ lw_all := lw_g (lw_at lw_m0 7 rfl) rfl
theorem q21 : (Jvm.Cond.methodLink "CowMemory" (1 : Nat) ({ cls := "java/lang/Object", name := "<init>", desc := "()V" } : Jvm.MethodName)) ∈ lw_all := lw_g (lw_at lw_m0 8 rfl) rfl
theorem q24 : (Jvm.Cond.fieldLink "CowMemory" (7 : Nat) "CowMemory" "alive" "[Z") ∈ lw_all := lw_g (lw_at lw_m0 11 rfl) rfl
theorem q25 : (Jvm.Cond.fieldLink "CowMemory" (13 : Nat) "CowMemory" "shows" "[B") ∈ lw_all := lw_g (lw_at lw_m0 12 rfl) rfl
theorem q26 : (Jvm.Cond.fieldLink "CowMemory" (17 : Nat) "CowMemory" "isShared" "[Z") ∈ lw_all := lw_g (lw_at lw_m0 13 rfl) rfl
theorem q27 : (Jvm.Cond.fieldLink "CowMemory" (20 : Nat) "CowMemory" "users" "[B") ∈ lw_all := lw_g (lw_at lw_m0 14 rfl) rfl
theorem q28 : (Jvm.Cond.fieldLink "CowMemory" (23 : Nat) "CowMemory" "frameOf" "[B") ∈ lw_all := lw_g (lw_at lw_m0 15 rfl) rfl
theorem q29 : (Jvm.Cond.fieldLink "CowMemory" (26 : Nat) "CowMemory" "swapped" "[Z") ∈ lw_all := lw_g (lw_at lw_m0 16 rfl) rfl
theorem q30 : (Jvm.Cond.fieldLink "CowMemory" (29 : Nat) "CowMemory" "swapCells" "[I") ∈ lw_all := lw_g (lw_at lw_m0 17 rfl) rfl
theorem q31 : (Jvm.Cond.fieldLink "CowMemory" (45 : Nat) "CowMemory" "frameCount" "I") ∈ lw_all := lw_g (lw_at lw_m0 18 rfl) rfl
theorem q32 : (Jvm.Cond.fieldLink "CowMemory" (33 : Nat) "CowMemory" "holds" "[B") ∈ lw_all := lw_g (lw_at lw_m0 19 rfl) rfl
theorem q33 : (Jvm.Cond.fieldLink "CowMemory" (36 : Nat) "CowMemory" "frameCells" "[I") ∈ lw_all := lw_g (lw_at lw_m0 20 rfl) rfl
theorem q34 : (Jvm.Cond.fieldLink "CowMemory" (39 : Nat) "CowMemory" "touched" "[Z") ∈ lw_all := lw_g (lw_at lw_m0 21 rfl) rfl
theorem q35 : (Jvm.Cond.fieldLink "CowMemory" (42 : Nat) "CowMemory" "dirty" "[Z") ∈ lw_all := lw_g (lw_at lw_m0 22 rfl) rfl
theorem q36 : (Jvm.Cond.fieldLink "CowMemory" (75 : Nat) "CowMemory" "hand" "I") ∈ lw_all := lw_g (lw_at lw_m0 23 rfl) rfl
theorem q37 : (Jvm.Cond.laysFinal "CowMemory" "CowMemory" "alive" "[Z") ∈ lw_all := lw_g (lw_at lw_m0 24 rfl) rfl
theorem q38 : (Jvm.Cond.soleField "CowMemory" "alive") ∈ lw_all := lw_g (lw_at lw_m0 25 rfl) rfl
theorem q39 : (Jvm.Cond.laysFinal "CowMemory" "CowMemory" "shows" "[B") ∈ lw_all := lw_g (lw_at lw_m0 26 rfl) rfl
theorem q40 : (Jvm.Cond.soleField "CowMemory" "shows") ∈ lw_all := lw_g (lw_at lw_m0 27 rfl) rfl
theorem q41 : (Jvm.Cond.laysFinal "CowMemory" "CowMemory" "isShared" "[Z") ∈ lw_all := lw_g (lw_at lw_m0 28 rfl) rfl
theorem q42 : (Jvm.Cond.soleField "CowMemory" "isShared") ∈ lw_all := lw_g (lw_at lw_m0 29 rfl) rfl
theorem q43 : (Jvm.Cond.laysFinal "CowMemory" "CowMemory" "users" "[B") ∈ lw_all := lw_g (lw_at lw_m0 30 rfl) rfl
theorem q44 : (Jvm.Cond.soleField "CowMemory" "users") ∈ lw_all := lw_g (lw_at lw_m0 31 rfl) rfl
theorem q45 : (Jvm.Cond.laysFinal "CowMemory" "CowMemory" "frameOf" "[B") ∈ lw_all := lw_g (lw_at lw_m0 32 rfl) rfl
theorem q46 : (Jvm.Cond.soleField "CowMemory" "frameOf") ∈ lw_all := lw_g (lw_at lw_m0 33 rfl) rfl
theorem q47 : (Jvm.Cond.laysFinal "CowMemory" "CowMemory" "swapped" "[Z") ∈ lw_all := lw_g (lw_at lw_m0 34 rfl) rfl
theorem q48 : (Jvm.Cond.soleField "CowMemory" "swapped") ∈ lw_all := lw_g (lw_at lw_m0 35 rfl) rfl
theorem q49 : (Jvm.Cond.laysFinal "CowMemory" "CowMemory" "swapCells" "[I") ∈ lw_all := lw_g (lw_at lw_m0 36 rfl) rfl
theorem q50 : (Jvm.Cond.soleField "CowMemory" "swapCells") ∈ lw_all := lw_g (lw_at lw_m0 37 rfl) rfl
theorem q51 : (Jvm.Cond.lays "CowMemory" "CowMemory" "frameCount" "I") ∈ lw_all := lw_g (lw_at lw_m0 38 rfl) rfl
theorem q52 : (Jvm.Cond.soleField "CowMemory" "frameCount") ∈ lw_all := lw_g (lw_at lw_m0 39 rfl) rfl
theorem q53 : (Jvm.Cond.laysFinal "CowMemory" "CowMemory" "holds" "[B") ∈ lw_all := lw_g (lw_at lw_m0 40 rfl) rfl
theorem q54 : (Jvm.Cond.soleField "CowMemory" "holds") ∈ lw_all := lw_g (lw_at lw_m0 41 rfl) rfl
theorem q55 : (Jvm.Cond.laysFinal "CowMemory" "CowMemory" "frameCells" "[I") ∈ lw_all := lw_g (lw_at lw_m0 42 rfl) rfl
theorem q56 : (Jvm.Cond.soleField "CowMemory" "frameCells") ∈ lw_all := lw_g (lw_at lw_m0 43 rfl) rfl
theorem q57 : (Jvm.Cond.laysFinal "CowMemory" "CowMemory" "touched" "[Z") ∈ lw_all := lw_g (lw_at lw_m0 44 rfl) rfl
theorem q58 : (Jvm.Cond.soleField "CowMemory" "touched") ∈ lw_all := lw_g (lw_at lw_m0 45 rfl) rfl
theorem q59 : (Jvm.Cond.laysFinal "CowMemory" "CowMemory" "dirty" "[Z") ∈ lw_all := lw_g (lw_at lw_m0 46 rfl) rfl
theorem q60 : (Jvm.Cond.soleField "CowMemory" "dirty") ∈ lw_all := lw_g (lw_at lw_m0 47 rfl) rfl
theorem q61 : (Jvm.Cond.lays "CowMemory" "CowMemory" "hand" "I") ∈ lw_all := lw_g (lw_at lw_m0 48 rfl) rfl
theorem q62 : (Jvm.Cond.soleField "CowMemory" "hand") ∈ lw_all := lw_g (lw_at lw_m0 49 rfl) rfl
theorem q63 : (Jvm.Cond.superclass "CowMemory" "java/lang/Object") ∈ lw_all := lw_g (lw_at lw_m0 50 rfl) rfl
theorem q68 : (Jvm.Cond.instanceMethod ({ cls := "CowMemory", name := "map", desc := "(IIZ)I" } : Jvm.MethodName)) ∈ lw_all := lw_g (lw_at lw_m0 55 rfl) rfl
theorem q69 : (Jvm.Cond.selects "CowMemory" ({ cls := "CowMemory", name := "map", desc := "(IIZ)I" } : Jvm.MethodName) ({ cls := "CowMemory", name := "map", desc := "(IIZ)I" } : Jvm.MethodName)) ∈ lw_all := lw_g (lw_at lw_m0 56 rfl) rfl
theorem q70 : (Jvm.Cond.code ({ cls := "CowMemory", name := "map", desc := "(IIZ)I" } : Jvm.MethodName) prog_1_method_2_code (6 : Nat) (Option.some Jvm.ClassFile.FieldType.int)) ∈ lw_all := lw_g (lw_at lw_m0 57 rfl) rfl
theorem q71 : (Jvm.Cond.methodLink "CowMemory" (49 : Nat) ({ cls := "CowMemory", name := "check", desc := "(II)I" } : Jvm.MethodName)) ∈ lw_all := lw_g (lw_at lw_m0 58 rfl) rfl
theorem q72 : (Jvm.Cond.privateMethod ({ cls := "CowMemory", name := "check", desc := "(II)I" } : Jvm.MethodName)) ∈ lw_tbl := lw_at lw_m0 59 rfl
theorem q73 : (Jvm.Cond.instanceMethod ({ cls := "CowMemory", name := "check", desc := "(II)I" } : Jvm.MethodName)) ∈ lw_all := lw_g (lw_at lw_m0 60 rfl) rfl
theorem q74 : (Jvm.Cond.code ({ cls := "CowMemory", name := "check", desc := "(II)I" } : Jvm.MethodName) prog_1_method_7_code (3 : Nat) (Option.some Jvm.ClassFile.FieldType.int)) ∈ lw_all := lw_g (lw_at lw_m0 61 rfl) rfl
theorem q75 : (Jvm.Cond.methodLink "CowMemory" (53 : Nat) ({ cls := "CowMemory", name := "newContent", desc := "()I" } : Jvm.MethodName)) ∈ lw_all := lw_g (lw_at lw_m0 62 rfl) rfl
theorem q76 : (Jvm.Cond.privateMethod ({ cls := "CowMemory", name := "newContent", desc := "()I" } : Jvm.MethodName)) ∈ lw_tbl := lw_at lw_m0 63 rfl
theorem q77 : (Jvm.Cond.instanceMethod ({ cls := "CowMemory", name := "newContent", desc := "()I" } : Jvm.MethodName)) ∈ lw_all := lw_g (lw_at lw_m0 64 rfl) rfl
theorem q78 : (Jvm.Cond.code ({ cls := "CowMemory", name := "newContent", desc := "()I" } : Jvm.MethodName) prog_1_method_15_code (2 : Nat) (Option.some Jvm.ClassFile.FieldType.int)) ∈ lw_all := lw_g (lw_at lw_m0 65 rfl) rfl
theorem q80 : (Jvm.Cond.instanceMethod ({ cls := "CowMemory", name := "unmap", desc := "(II)I" } : Jvm.MethodName)) ∈ lw_all := lw_g (lw_at lw_m0 67 rfl) rfl
theorem q81 : (Jvm.Cond.selects "CowMemory" ({ cls := "CowMemory", name := "unmap", desc := "(II)I" } : Jvm.MethodName) ({ cls := "CowMemory", name := "unmap", desc := "(II)I" } : Jvm.MethodName)) ∈ lw_all := lw_g (lw_at lw_m0 68 rfl) rfl
theorem q82 : (Jvm.Cond.code ({ cls := "CowMemory", name := "unmap", desc := "(II)I" } : Jvm.MethodName) prog_1_method_3_code (5 : Nat) (Option.some Jvm.ClassFile.FieldType.int)) ∈ lw_all := lw_g (lw_at lw_m0 69 rfl) rfl
theorem q83 : (Jvm.Cond.methodLink "CowMemory" (57 : Nat) ({ cls := "CowMemory", name := "release", desc := "(I)V" } : Jvm.MethodName)) ∈ lw_all := lw_g (lw_at lw_m0 70 rfl) rfl
theorem q84 : (Jvm.Cond.privateMethod ({ cls := "CowMemory", name := "release", desc := "(I)V" } : Jvm.MethodName)) ∈ lw_tbl := lw_at lw_m0 71 rfl
theorem q85 : (Jvm.Cond.instanceMethod ({ cls := "CowMemory", name := "release", desc := "(I)V" } : Jvm.MethodName)) ∈ lw_all := lw_g (lw_at lw_m0 72 rfl) rfl
theorem q86 : (Jvm.Cond.code ({ cls := "CowMemory", name := "release", desc := "(I)V" } : Jvm.MethodName) prog_1_method_16_code (3 : Nat) (Option.none : Option Jvm.ClassFile.FieldType)) ∈ lw_all := lw_g (lw_at lw_m0 73 rfl) rfl
theorem q88 : (Jvm.Cond.instanceMethod ({ cls := "CowMemory", name := "attach", desc := "(II)I" } : Jvm.MethodName)) ∈ lw_all := lw_g (lw_at lw_m0 75 rfl) rfl
theorem q89 : (Jvm.Cond.selects "CowMemory" ({ cls := "CowMemory", name := "attach", desc := "(II)I" } : Jvm.MethodName) ({ cls := "CowMemory", name := "attach", desc := "(II)I" } : Jvm.MethodName)) ∈ lw_all := lw_g (lw_at lw_m0 76 rfl) rfl
theorem q90 : (Jvm.Cond.code ({ cls := "CowMemory", name := "attach", desc := "(II)I" } : Jvm.MethodName) prog_1_method_4_code (7 : Nat) (Option.some Jvm.ClassFile.FieldType.int)) ∈ lw_all := lw_g (lw_at lw_m0 77 rfl) rfl
theorem q92 : (Jvm.Cond.instanceMethod ({ cls := "CowMemory", name := "fork", desc := "(II)I" } : Jvm.MethodName)) ∈ lw_all := lw_g (lw_at lw_m0 79 rfl) rfl
theorem q93 : (Jvm.Cond.selects "CowMemory" ({ cls := "CowMemory", name := "fork", desc := "(II)I" } : Jvm.MethodName) ({ cls := "CowMemory", name := "fork", desc := "(II)I" } : Jvm.MethodName)) ∈ lw_all := lw_g (lw_at lw_m0 80 rfl) rfl
theorem q94 : (Jvm.Cond.code ({ cls := "CowMemory", name := "fork", desc := "(II)I" } : Jvm.MethodName) prog_1_method_5_code (7 : Nat) (Option.some Jvm.ClassFile.FieldType.int)) ∈ lw_all := lw_g (lw_at lw_m0 81 rfl) rfl
theorem q96 : (Jvm.Cond.instanceMethod ({ cls := "CowMemory", name := "exit", desc := "(I)I" } : Jvm.MethodName)) ∈ lw_all := lw_g (lw_at lw_m0 83 rfl) rfl
theorem q97 : (Jvm.Cond.selects "CowMemory" ({ cls := "CowMemory", name := "exit", desc := "(I)I" } : Jvm.MethodName) ({ cls := "CowMemory", name := "exit", desc := "(I)I" } : Jvm.MethodName)) ∈ lw_all := lw_g (lw_at lw_m0 84 rfl) rfl
theorem q98 : (Jvm.Cond.code ({ cls := "CowMemory", name := "exit", desc := "(I)I" } : Jvm.MethodName) prog_1_method_6_code (4 : Nat) (Option.some Jvm.ClassFile.FieldType.int)) ∈ lw_all := lw_g (lw_at lw_m0 85 rfl) rfl
theorem q100 : (Jvm.Cond.instanceMethod ({ cls := "CowMemory", name := "write", desc := "(III)I" } : Jvm.MethodName)) ∈ lw_all := lw_g (lw_at lw_m0 87 rfl) rfl
theorem q101 : (Jvm.Cond.selects "CowMemory" ({ cls := "CowMemory", name := "write", desc := "(III)I" } : Jvm.MethodName) ({ cls := "CowMemory", name := "write", desc := "(III)I" } : Jvm.MethodName)) ∈ lw_all := lw_g (lw_at lw_m0 88 rfl) rfl
theorem q102 : (Jvm.Cond.code ({ cls := "CowMemory", name := "write", desc := "(III)I" } : Jvm.MethodName) prog_1_method_8_code (6 : Nat) (Option.some Jvm.ClassFile.FieldType.int)) ∈ lw_all := lw_g (lw_at lw_m0 89 rfl) rfl
theorem q103 : (Jvm.Cond.methodLink "CowMemory" (61 : Nat) ({ cls := "CowMemory", name := "part", desc := "(I)V" } : Jvm.MethodName)) ∈ lw_all := lw_g (lw_at lw_m0 90 rfl) rfl
theorem q104 : (Jvm.Cond.privateMethod ({ cls := "CowMemory", name := "part", desc := "(I)V" } : Jvm.MethodName)) ∈ lw_tbl := lw_at lw_m0 91 rfl
theorem q105 : (Jvm.Cond.instanceMethod ({ cls := "CowMemory", name := "part", desc := "(I)V" } : Jvm.MethodName)) ∈ lw_all := lw_g (lw_at lw_m0 92 rfl) rfl
theorem q106 : (Jvm.Cond.code ({ cls := "CowMemory", name := "part", desc := "(I)V" } : Jvm.MethodName) prog_1_method_17_code (9 : Nat) (Option.none : Option Jvm.ClassFile.FieldType)) ∈ lw_all := lw_g (lw_at lw_m0 93 rfl) rfl
theorem q107 : (Jvm.Cond.methodLink "CowMemory" (64 : Nat) ({ cls := "CowMemory", name := "bringIn", desc := "(I)I" } : Jvm.MethodName)) ∈ lw_all := lw_g (lw_at lw_m0 94 rfl) rfl
theorem q108 : (Jvm.Cond.privateMethod ({ cls := "CowMemory", name := "bringIn", desc := "(I)I" } : Jvm.MethodName)) ∈ lw_tbl := lw_at lw_m0 95 rfl
theorem q109 : (Jvm.Cond.instanceMethod ({ cls := "CowMemory", name := "bringIn", desc := "(I)I" } : Jvm.MethodName)) ∈ lw_all := lw_g (lw_at lw_m0 96 rfl) rfl
theorem q110 : (Jvm.Cond.code ({ cls := "CowMemory", name := "bringIn", desc := "(I)I" } : Jvm.MethodName) prog_1_method_18_code (4 : Nat) (Option.some Jvm.ClassFile.FieldType.int)) ∈ lw_all := lw_g (lw_at lw_m0 97 rfl) rfl
theorem q111 : (Jvm.Cond.methodLink "CowMemory" (72 : Nat) ({ cls := "CowMemory", name := "freeFrame", desc := "()I" } : Jvm.MethodName)) ∈ lw_all := lw_g (lw_at lw_m0 98 rfl) rfl
theorem q112 : (Jvm.Cond.privateMethod ({ cls := "CowMemory", name := "freeFrame", desc := "()I" } : Jvm.MethodName)) ∈ lw_tbl := lw_at lw_m0 99 rfl
theorem q113 : (Jvm.Cond.instanceMethod ({ cls := "CowMemory", name := "freeFrame", desc := "()I" } : Jvm.MethodName)) ∈ lw_all := lw_g (lw_at lw_m0 100 rfl) rfl
theorem q114 : (Jvm.Cond.code ({ cls := "CowMemory", name := "freeFrame", desc := "()I" } : Jvm.MethodName) prog_1_method_19_code (2 : Nat) (Option.some Jvm.ClassFile.FieldType.int)) ∈ lw_all := lw_g (lw_at lw_m0 101 rfl) rfl
theorem q115 : (Jvm.Cond.methodLink "CowMemory" (78 : Nat) ({ cls := "CowMemory", name := "pageOut", desc := "(I)V" } : Jvm.MethodName)) ∈ lw_all := lw_g (lw_at lw_m0 102 rfl) rfl
theorem q116 : (Jvm.Cond.privateMethod ({ cls := "CowMemory", name := "pageOut", desc := "(I)V" } : Jvm.MethodName)) ∈ lw_tbl := lw_at lw_m0 103 rfl
theorem q117 : (Jvm.Cond.instanceMethod ({ cls := "CowMemory", name := "pageOut", desc := "(I)V" } : Jvm.MethodName)) ∈ lw_all := lw_g (lw_at lw_m0 104 rfl) rfl
theorem q118 : (Jvm.Cond.code ({ cls := "CowMemory", name := "pageOut", desc := "(I)V" } : Jvm.MethodName) prog_1_method_20_code (4 : Nat) (Option.none : Option Jvm.ClassFile.FieldType)) ∈ lw_all := lw_g (lw_at lw_m0 105 rfl) rfl
theorem q120 : (Jvm.Cond.instanceMethod ({ cls := "CowMemory", name := "read", desc := "(II)I" } : Jvm.MethodName)) ∈ lw_all := lw_g (lw_at lw_m0 107 rfl) rfl
theorem q121 : (Jvm.Cond.selects "CowMemory" ({ cls := "CowMemory", name := "read", desc := "(II)I" } : Jvm.MethodName) ({ cls := "CowMemory", name := "read", desc := "(II)I" } : Jvm.MethodName)) ∈ lw_all := lw_g (lw_at lw_m0 108 rfl) rfl
theorem q122 : (Jvm.Cond.code ({ cls := "CowMemory", name := "read", desc := "(II)I" } : Jvm.MethodName) prog_1_method_9_code (5 : Nat) (Option.some Jvm.ClassFile.FieldType.int)) ∈ lw_all := lw_g (lw_at lw_m0 109 rfl) rfl
theorem q124 : (Jvm.Cond.instanceMethod ({ cls := "CowMemory", name := "isMapped", desc := "(II)Z" } : Jvm.MethodName)) ∈ lw_all := lw_g (lw_at lw_m0 111 rfl) rfl
theorem q125 : (Jvm.Cond.selects "CowMemory" ({ cls := "CowMemory", name := "isMapped", desc := "(II)Z" } : Jvm.MethodName) ({ cls := "CowMemory", name := "isMapped", desc := "(II)Z" } : Jvm.MethodName)) ∈ lw_all := lw_g (lw_at lw_m0 112 rfl) rfl
theorem q126 : (Jvm.Cond.code ({ cls := "CowMemory", name := "isMapped", desc := "(II)Z" } : Jvm.MethodName) prog_1_method_10_code (3 : Nat) (Option.some Jvm.ClassFile.FieldType.boolean)) ∈ lw_all := lw_g (lw_at lw_m0 113 rfl) rfl
theorem q128 : (Jvm.Cond.instanceMethod ({ cls := "CowMemory", name := "showing", desc := "(II)I" } : Jvm.MethodName)) ∈ lw_all := lw_g (lw_at lw_m0 115 rfl) rfl
theorem q129 : (Jvm.Cond.selects "CowMemory" ({ cls := "CowMemory", name := "showing", desc := "(II)I" } : Jvm.MethodName) ({ cls := "CowMemory", name := "showing", desc := "(II)I" } : Jvm.MethodName)) ∈ lw_all := lw_g (lw_at lw_m0 116 rfl) rfl
theorem q130 : (Jvm.Cond.code ({ cls := "CowMemory", name := "showing", desc := "(II)I" } : Jvm.MethodName) prog_1_method_11_code (5 : Nat) (Option.some Jvm.ClassFile.FieldType.int)) ∈ lw_all := lw_g (lw_at lw_m0 117 rfl) rfl
theorem q132 : (Jvm.Cond.instanceMethod ({ cls := "CowMemory", name := "total", desc := "()J" } : Jvm.MethodName)) ∈ lw_all := lw_g (lw_at lw_m0 119 rfl) rfl
theorem q133 : (Jvm.Cond.selects "CowMemory" ({ cls := "CowMemory", name := "total", desc := "()J" } : Jvm.MethodName) ({ cls := "CowMemory", name := "total", desc := "()J" } : Jvm.MethodName)) ∈ lw_all := lw_g (lw_at lw_m0 120 rfl) rfl
theorem q134 : (Jvm.Cond.code ({ cls := "CowMemory", name := "total", desc := "()J" } : Jvm.MethodName) prog_1_method_12_code (7 : Nat) (Option.some Jvm.ClassFile.FieldType.long)) ∈ lw_all := lw_g (lw_at lw_m0 121 rfl) rfl
theorem q135 : (Jvm.Cond.methodLink "CowMemory" (68 : Nat) ({ cls := "CowMemory", name := "sumOf", desc := "(I)J" } : Jvm.MethodName)) ∈ lw_all := lw_g (lw_at lw_m0 122 rfl) rfl
theorem q136 : (Jvm.Cond.privateMethod ({ cls := "CowMemory", name := "sumOf", desc := "(I)J" } : Jvm.MethodName)) ∈ lw_tbl := lw_at lw_m0 123 rfl
theorem q137 : (Jvm.Cond.instanceMethod ({ cls := "CowMemory", name := "sumOf", desc := "(I)J" } : Jvm.MethodName)) ∈ lw_all := lw_g (lw_at lw_m0 124 rfl) rfl
theorem q138 : (Jvm.Cond.code ({ cls := "CowMemory", name := "sumOf", desc := "(I)J" } : Jvm.MethodName) prog_1_method_14_code (5 : Nat) (Option.some Jvm.ClassFile.FieldType.long)) ∈ lw_all := lw_g (lw_at lw_m0 125 rfl) rfl
theorem q140 : (Jvm.Cond.instanceMethod ({ cls := "CowMemory", name := "sheets", desc := "()I" } : Jvm.MethodName)) ∈ lw_all := lw_g (lw_at lw_m0 127 rfl) rfl
theorem q141 : (Jvm.Cond.selects "CowMemory" ({ cls := "CowMemory", name := "sheets", desc := "()I" } : Jvm.MethodName) ({ cls := "CowMemory", name := "sheets", desc := "()I" } : Jvm.MethodName)) ∈ lw_all := lw_g (lw_at lw_m0 128 rfl) rfl
theorem q142 : (Jvm.Cond.code ({ cls := "CowMemory", name := "sheets", desc := "()I" } : Jvm.MethodName) prog_1_method_13_code (4 : Nat) (Option.some Jvm.ClassFile.FieldType.int)) ∈ lw_all := lw_g (lw_at lw_m0 129 rfl) rfl
theorem in_X1 : ∀ w ∈ wsX10, w ∈ lw_all := lw_in wsX10 [37, 39, 41, 43, 45, 47, 49, 51, 53, 55, 57, 59, 61] (by decide +kernel) (by decide +kernel)
end
section
set_option maxRecDepth 100000
theorem dX1_init_0 : decode cX1_init 0 = .ok (.aload_n 0, 1) := by decide +kernel
theorem dX1_init_1 : decode cX1_init 1 = .ok (.invokespecial 1, 3) := by decide +kernel
theorem dX1_init_4 : decode cX1_init 4 = .ok (.aload_n 0, 1) := by decide +kernel
theorem dX1_init_5 : decode cX1_init 5 = .ok (.iconst 4, 1) := by decide +kernel
theorem dX1_init_6 : decode cX1_init 6 = .ok (.newarray .boolean, 2) := by decide +kernel
theorem dX1_init_8 : decode cX1_init 8 = .ok (.putfield 7, 3) := by decide +kernel
theorem dX1_init_11 : decode cX1_init 11 = .ok (.aload_n 0, 1) := by decide +kernel
theorem dX1_init_12 : decode cX1_init 12 = .ok (.bipush 20, 2) := by decide +kernel
theorem dX1_init_14 : decode cX1_init 14 = .ok (.newarray .byte, 2) := by decide +kernel
theorem dX1_init_16 : decode cX1_init 16 = .ok (.putfield 13, 3) := by decide +kernel
theorem dX1_init_19 : decode cX1_init 19 = .ok (.aload_n 0, 1) := by decide +kernel
theorem dX1_init_20 : decode cX1_init 20 = .ok (.bipush 20, 2) := by decide +kernel
theorem dX1_init_22 : decode cX1_init 22 = .ok (.newarray .boolean, 2) := by decide +kernel
theorem dX1_init_24 : decode cX1_init 24 = .ok (.putfield 17, 3) := by decide +kernel
theorem dX1_init_27 : decode cX1_init 27 = .ok (.aload_n 0, 1) := by decide +kernel
theorem dX1_init_28 : decode cX1_init 28 = .ok (.bipush 20, 2) := by decide +kernel
theorem dX1_init_30 : decode cX1_init 30 = .ok (.newarray .byte, 2) := by decide +kernel
theorem dX1_init_32 : decode cX1_init 32 = .ok (.putfield 20, 3) := by decide +kernel
theorem dX1_init_35 : decode cX1_init 35 = .ok (.aload_n 0, 1) := by decide +kernel
theorem dX1_init_36 : decode cX1_init 36 = .ok (.bipush 20, 2) := by decide +kernel
theorem dX1_init_38 : decode cX1_init 38 = .ok (.newarray .byte, 2) := by decide +kernel
theorem dX1_init_40 : decode cX1_init 40 = .ok (.putfield 23, 3) := by decide +kernel
theorem dX1_init_43 : decode cX1_init 43 = .ok (.aload_n 0, 1) := by decide +kernel
theorem dX1_init_44 : decode cX1_init 44 = .ok (.bipush 20, 2) := by decide +kernel
theorem dX1_init_46 : decode cX1_init 46 = .ok (.newarray .boolean, 2) := by decide +kernel
theorem dX1_init_48 : decode cX1_init 48 = .ok (.putfield 26, 3) := by decide +kernel
theorem dX1_init_51 : decode cX1_init 51 = .ok (.aload_n 0, 1) := by decide +kernel
theorem dX1_init_52 : decode cX1_init 52 = .ok (.bipush 80, 2) := by decide +kernel
theorem dX1_init_54 : decode cX1_init 54 = .ok (.newarray .int, 2) := by decide +kernel
theorem dX1_init_56 : decode cX1_init 56 = .ok (.putfield 29, 3) := by decide +kernel
theorem dX1_init_59 : decode cX1_init 59 = .ok (.aload_n 0, 1) := by decide +kernel
theorem dX1_init_60 : decode cX1_init 60 = .ok (.bipush 6, 2) := by decide +kernel
theorem dX1_init_62 : decode cX1_init 62 = .ok (.newarray .byte, 2) := by decide +kernel
theorem dX1_init_64 : decode cX1_init 64 = .ok (.putfield 33, 3) := by decide +kernel
theorem dX1_init_67 : decode cX1_init 67 = .ok (.aload_n 0, 1) := by decide +kernel
theorem dX1_init_68 : decode cX1_init 68 = .ok (.bipush 24, 2) := by decide +kernel
theorem dX1_init_70 : decode cX1_init 70 = .ok (.newarray .int, 2) := by decide +kernel
theorem dX1_init_72 : decode cX1_init 72 = .ok (.putfield 36, 3) := by decide +kernel
theorem dX1_init_75 : decode cX1_init 75 = .ok (.aload_n 0, 1) := by decide +kernel
theorem dX1_init_76 : decode cX1_init 76 = .ok (.bipush 6, 2) := by decide +kernel
theorem dX1_init_78 : decode cX1_init 78 = .ok (.newarray .boolean, 2) := by decide +kernel
theorem dX1_init_80 : decode cX1_init 80 = .ok (.putfield 39, 3) := by decide +kernel
theorem dX1_init_83 : decode cX1_init 83 = .ok (.aload_n 0, 1) := by decide +kernel
theorem dX1_init_84 : decode cX1_init 84 = .ok (.bipush 6, 2) := by decide +kernel
theorem dX1_init_86 : decode cX1_init 86 = .ok (.newarray .boolean, 2) := by decide +kernel
theorem dX1_init_88 : decode cX1_init 88 = .ok (.putfield 42, 3) := by decide +kernel
theorem dX1_init_91 : decode cX1_init 91 = .ok (.aload_n 0, 1) := by decide +kernel
theorem dX1_init_92 : decode cX1_init 92 = .ok (.iload_n 1, 1) := by decide +kernel
theorem dX1_init_93 : decode cX1_init 93 = .ok (.iconst 2, 1) := by decide +kernel
theorem dX1_init_94 : decode cX1_init 94 = .ok (.if_icmp .ge 7, 3) := by decide +kernel
theorem dX1_init_97 : decode cX1_init 97 = .ok (.iconst 2, 1) := by decide +kernel
theorem dX1_init_98 : decode cX1_init 98 = .ok (.goto 15, 3) := by decide +kernel
theorem dX1_init_101 : decode cX1_init 101 = .ok (.iload_n 1, 1) := by decide +kernel
theorem dX1_init_102 : decode cX1_init 102 = .ok (.bipush 6, 2) := by decide +kernel
theorem dX1_init_104 : decode cX1_init 104 = .ok (.if_icmp .le 8, 3) := by decide +kernel
theorem dX1_init_107 : decode cX1_init 107 = .ok (.bipush 6, 2) := by decide +kernel
theorem dX1_init_109 : decode cX1_init 109 = .ok (.goto 4, 3) := by decide +kernel
theorem dX1_init_112 : decode cX1_init 112 = .ok (.iload_n 1, 1) := by decide +kernel
theorem dX1_init_113 : decode cX1_init 113 = .ok (.putfield 45, 3) := by decide +kernel
theorem dX1_init_116 : decode cX1_init 116 = .ok (.aload_n 0, 1) := by decide +kernel
theorem dX1_init_117 : decode cX1_init 117 = .ok (.getfield 7, 3) := by decide +kernel
theorem dX1_init_120 : decode cX1_init 120 = .ok (.iconst 0, 1) := by decide +kernel
theorem dX1_init_121 : decode cX1_init 121 = .ok (.iconst 1, 1) := by decide +kernel
theorem dX1_init_122 : decode cX1_init 122 = .ok (.bastore, 1) := by decide +kernel
theorem dX1_init_123 : decode cX1_init 123 = .ok (.iconst 0, 1) := by decide +kernel
theorem dX1_init_124 : decode cX1_init 124 = .ok (.istore_n 2, 1) := by decide +kernel
theorem dX1_init_125 : decode cX1_init 125 = .ok (.iload_n 2, 1) := by decide +kernel
theorem dX1_init_126 : decode cX1_init 126 = .ok (.bipush 20, 2) := by decide +kernel
theorem dX1_init_128 : decode cX1_init 128 = .ok (.if_icmp .ge 23, 3) := by decide +kernel
theorem dX1_init_131 : decode cX1_init 131 = .ok (.aload_n 0, 1) := by decide +kernel
theorem dX1_init_132 : decode cX1_init 132 = .ok (.getfield 13, 3) := by decide +kernel
theorem dX1_init_135 : decode cX1_init 135 = .ok (.iload_n 2, 1) := by decide +kernel
theorem dX1_init_136 : decode cX1_init 136 = .ok (.iconst (-1), 1) := by decide +kernel
theorem dX1_init_137 : decode cX1_init 137 = .ok (.bastore, 1) := by decide +kernel
theorem dX1_init_138 : decode cX1_init 138 = .ok (.aload_n 0, 1) := by decide +kernel
theorem dX1_init_139 : decode cX1_init 139 = .ok (.getfield 23, 3) := by decide +kernel
theorem dX1_init_142 : decode cX1_init 142 = .ok (.iload_n 2, 1) := by decide +kernel
theorem dX1_init_143 : decode cX1_init 143 = .ok (.iconst (-1), 1) := by decide +kernel
theorem dX1_init_144 : decode cX1_init 144 = .ok (.bastore, 1) := by decide +kernel
theorem dX1_init_145 : decode cX1_init 145 = .ok (.iinc 2 1, 3) := by decide +kernel
theorem dX1_init_148 : decode cX1_init 148 = .ok (.goto (-23), 3) := by decide +kernel
theorem dX1_init_151 : decode cX1_init 151 = .ok (.iconst 0, 1) := by decide +kernel
theorem dX1_init_152 : decode cX1_init 152 = .ok (.istore_n 2, 1) := by decide +kernel
theorem dX1_init_153 : decode cX1_init 153 = .ok (.iload_n 2, 1) := by decide +kernel
theorem dX1_init_154 : decode cX1_init 154 = .ok (.bipush 6, 2) := by decide +kernel
theorem dX1_init_156 : decode cX1_init 156 = .ok (.if_icmp .ge 16, 3) := by decide +kernel
theorem dX1_init_159 : decode cX1_init 159 = .ok (.aload_n 0, 1) := by decide +kernel
theorem dX1_init_160 : decode cX1_init 160 = .ok (.getfield 33, 3) := by decide +kernel
theorem dX1_init_163 : decode cX1_init 163 = .ok (.iload_n 2, 1) := by decide +kernel
theorem dX1_init_164 : decode cX1_init 164 = .ok (.iconst (-1), 1) := by decide +kernel
theorem dX1_init_165 : decode cX1_init 165 = .ok (.bastore, 1) := by decide +kernel
theorem dX1_init_166 : decode cX1_init 166 = .ok (.iinc 2 1, 3) := by decide +kernel
theorem dX1_init_169 : decode cX1_init 169 = .ok (.goto (-16), 3) := by decide +kernel
theorem dX1_init_172 : decode cX1_init 172 = .ok (.return_, 1) := by decide +kernel
theorem dX1_map_0 : decode cX1_map 0 = .ok (.aload_n 0, 1) := by decide +kernel
theorem dX1_map_1 : decode cX1_map 1 = .ok (.iload_n 1, 1) := by decide +kernel
theorem dX1_map_2 : decode cX1_map 2 = .ok (.iload_n 2, 1) := by decide +kernel
theorem dX1_map_3 : decode cX1_map 3 = .ok (.invokevirtual 49, 3) := by decide +kernel
theorem dX1_map_6 : decode cX1_map 6 = .ok (.istore 4, 2) := by decide +kernel
theorem dX1_map_8 : decode cX1_map 8 = .ok (.iload 4, 2) := by decide +kernel
theorem dX1_map_10 : decode cX1_map 10 = .ok (.ifCond .eq 6, 3) := by decide +kernel
theorem dX1_map_13 : decode cX1_map 13 = .ok (.iload 4, 2) := by decide +kernel
theorem dX1_map_15 : decode cX1_map 15 = .ok (.ireturn, 1) := by decide +kernel
theorem dX1_map_16 : decode cX1_map 16 = .ok (.iconst 5, 1) := by decide +kernel
theorem dX1_map_17 : decode cX1_map 17 = .ok (.iload_n 1, 1) := by decide +kernel
theorem dX1_map_18 : decode cX1_map 18 = .ok (.imul, 1) := by decide +kernel
theorem dX1_map_19 : decode cX1_map 19 = .ok (.iload_n 2, 1) := by decide +kernel
theorem dX1_map_20 : decode cX1_map 20 = .ok (.iadd, 1) := by decide +kernel
theorem dX1_map_21 : decode cX1_map 21 = .ok (.istore 5, 2) := by decide +kernel
theorem dX1_map_23 : decode cX1_map 23 = .ok (.aload_n 0, 1) := by decide +kernel
theorem dX1_map_24 : decode cX1_map 24 = .ok (.getfield 13, 3) := by decide +kernel
theorem dX1_map_27 : decode cX1_map 27 = .ok (.iload 5, 2) := by decide +kernel
theorem dX1_map_29 : decode cX1_map 29 = .ok (.baload, 1) := by decide +kernel
theorem dX1_map_30 : decode cX1_map 30 = .ok (.ifCond .lt 6, 3) := by decide +kernel
theorem dX1_map_33 : decode cX1_map 33 = .ok (.bipush (-4), 2) := by decide +kernel
theorem dX1_map_35 : decode cX1_map 35 = .ok (.ireturn, 1) := by decide +kernel
theorem dX1_map_36 : decode cX1_map 36 = .ok (.aload_n 0, 1) := by decide +kernel
theorem dX1_map_37 : decode cX1_map 37 = .ok (.getfield 13, 3) := by decide +kernel
theorem dX1_map_40 : decode cX1_map 40 = .ok (.iload 5, 2) := by decide +kernel
theorem dX1_map_42 : decode cX1_map 42 = .ok (.aload_n 0, 1) := by decide +kernel
theorem dX1_map_43 : decode cX1_map 43 = .ok (.invokevirtual 53, 3) := by decide +kernel
theorem dX1_map_46 : decode cX1_map 46 = .ok (.i2b, 1) := by decide +kernel
theorem dX1_map_47 : decode cX1_map 47 = .ok (.bastore, 1) := by decide +kernel
theorem dX1_map_48 : decode cX1_map 48 = .ok (.aload_n 0, 1) := by decide +kernel
theorem dX1_map_49 : decode cX1_map 49 = .ok (.getfield 17, 3) := by decide +kernel
theorem dX1_map_52 : decode cX1_map 52 = .ok (.iload 5, 2) := by decide +kernel
theorem dX1_map_54 : decode cX1_map 54 = .ok (.iload_n 3, 1) := by decide +kernel
theorem dX1_map_55 : decode cX1_map 55 = .ok (.bastore, 1) := by decide +kernel
theorem dX1_map_56 : decode cX1_map 56 = .ok (.iload_n 2, 1) := by decide +kernel
theorem dX1_map_57 : decode cX1_map 57 = .ok (.ireturn, 1) := by decide +kernel
theorem dX1_check_0 : decode cX1_check 0 = .ok (.iload_n 1, 1) := by decide +kernel
theorem dX1_check_1 : decode cX1_check 1 = .ok (.ifCond .lt 17, 3) := by decide +kernel
theorem dX1_check_4 : decode cX1_check 4 = .ok (.iload_n 1, 1) := by decide +kernel
theorem dX1_check_5 : decode cX1_check 5 = .ok (.iconst 3, 1) := by decide +kernel
theorem dX1_check_6 : decode cX1_check 6 = .ok (.if_icmp .gt 12, 3) := by decide +kernel
theorem dX1_check_9 : decode cX1_check 9 = .ok (.iload_n 2, 1) := by decide +kernel
theorem dX1_check_10 : decode cX1_check 10 = .ok (.ifCond .lt 8, 3) := by decide +kernel
theorem dX1_check_13 : decode cX1_check 13 = .ok (.iload_n 2, 1) := by decide +kernel
theorem dX1_check_14 : decode cX1_check 14 = .ok (.iconst 4, 1) := by decide +kernel
theorem dX1_check_15 : decode cX1_check 15 = .ok (.if_icmp .le 5, 3) := by decide +kernel
theorem dX1_check_18 : decode cX1_check 18 = .ok (.iconst (-1), 1) := by decide +kernel
theorem dX1_check_19 : decode cX1_check 19 = .ok (.ireturn, 1) := by decide +kernel
theorem dX1_check_20 : decode cX1_check 20 = .ok (.aload_n 0, 1) := by decide +kernel
theorem dX1_check_21 : decode cX1_check 21 = .ok (.getfield 7, 3) := by decide +kernel
theorem dX1_check_24 : decode cX1_check 24 = .ok (.iload_n 1, 1) := by decide +kernel
theorem dX1_check_25 : decode cX1_check 25 = .ok (.baload, 1) := by decide +kernel
theorem dX1_check_26 : decode cX1_check 26 = .ok (.ifCond .eq 7, 3) := by decide +kernel
theorem dX1_check_29 : decode cX1_check 29 = .ok (.iconst 0, 1) := by decide +kernel
theorem dX1_check_30 : decode cX1_check 30 = .ok (.goto 5, 3) := by decide +kernel
theorem dX1_check_33 : decode cX1_check 33 = .ok (.bipush (-2), 2) := by decide +kernel
theorem dX1_check_35 : decode cX1_check 35 = .ok (.ireturn, 1) := by decide +kernel
theorem dX1_newContent_0 : decode cX1_newContent 0 = .ok (.iconst 0, 1) := by decide +kernel
theorem dX1_newContent_1 : decode cX1_newContent 1 = .ok (.istore_n 1, 1) := by decide +kernel
theorem dX1_newContent_2 : decode cX1_newContent 2 = .ok (.iload_n 1, 1) := by decide +kernel
theorem dX1_newContent_3 : decode cX1_newContent 3 = .ok (.bipush 19, 2) := by decide +kernel
theorem dX1_newContent_5 : decode cX1_newContent 5 = .ok (.if_icmp .ge 18, 3) := by decide +kernel
theorem dX1_newContent_8 : decode cX1_newContent 8 = .ok (.aload_n 0, 1) := by decide +kernel
theorem dX1_newContent_9 : decode cX1_newContent 9 = .ok (.getfield 20, 3) := by decide +kernel
theorem dX1_newContent_12 : decode cX1_newContent 12 = .ok (.iload_n 1, 1) := by decide +kernel
theorem dX1_newContent_13 : decode cX1_newContent 13 = .ok (.baload, 1) := by decide +kernel
theorem dX1_newContent_14 : decode cX1_newContent 14 = .ok (.ifCond .eq 9, 3) := by decide +kernel
theorem dX1_newContent_17 : decode cX1_newContent 17 = .ok (.iinc 1 1, 3) := by decide +kernel
theorem dX1_newContent_20 : decode cX1_newContent 20 = .ok (.goto (-18), 3) := by decide +kernel
theorem dX1_newContent_23 : decode cX1_newContent 23 = .ok (.aload_n 0, 1) := by decide +kernel
theorem dX1_newContent_24 : decode cX1_newContent 24 = .ok (.getfield 20, 3) := by decide +kernel
theorem dX1_newContent_27 : decode cX1_newContent 27 = .ok (.iload_n 1, 1) := by decide +kernel
theorem dX1_newContent_28 : decode cX1_newContent 28 = .ok (.iconst 1, 1) := by decide +kernel
theorem dX1_newContent_29 : decode cX1_newContent 29 = .ok (.bastore, 1) := by decide +kernel
theorem dX1_newContent_30 : decode cX1_newContent 30 = .ok (.aload_n 0, 1) := by decide +kernel
theorem dX1_newContent_31 : decode cX1_newContent 31 = .ok (.getfield 23, 3) := by decide +kernel
theorem dX1_newContent_34 : decode cX1_newContent 34 = .ok (.iload_n 1, 1) := by decide +kernel
theorem dX1_newContent_35 : decode cX1_newContent 35 = .ok (.iconst (-1), 1) := by decide +kernel
theorem dX1_newContent_36 : decode cX1_newContent 36 = .ok (.bastore, 1) := by decide +kernel
theorem dX1_newContent_37 : decode cX1_newContent 37 = .ok (.aload_n 0, 1) := by decide +kernel
theorem dX1_newContent_38 : decode cX1_newContent 38 = .ok (.getfield 26, 3) := by decide +kernel
theorem dX1_newContent_41 : decode cX1_newContent 41 = .ok (.iload_n 1, 1) := by decide +kernel
theorem dX1_newContent_42 : decode cX1_newContent 42 = .ok (.iconst 0, 1) := by decide +kernel
theorem dX1_newContent_43 : decode cX1_newContent 43 = .ok (.bastore, 1) := by decide +kernel
theorem dX1_newContent_44 : decode cX1_newContent 44 = .ok (.iload_n 1, 1) := by decide +kernel
theorem dX1_newContent_45 : decode cX1_newContent 45 = .ok (.ireturn, 1) := by decide +kernel
theorem dX1_unmap_0 : decode cX1_unmap 0 = .ok (.aload_n 0, 1) := by decide +kernel
theorem dX1_unmap_1 : decode cX1_unmap 1 = .ok (.iload_n 1, 1) := by decide +kernel
theorem dX1_unmap_2 : decode cX1_unmap 2 = .ok (.iload_n 2, 1) := by decide +kernel
theorem dX1_unmap_3 : decode cX1_unmap 3 = .ok (.invokevirtual 49, 3) := by decide +kernel
theorem dX1_unmap_6 : decode cX1_unmap 6 = .ok (.istore_n 3, 1) := by decide +kernel
theorem dX1_unmap_7 : decode cX1_unmap 7 = .ok (.iload_n 3, 1) := by decide +kernel
theorem dX1_unmap_8 : decode cX1_unmap 8 = .ok (.ifCond .eq 5, 3) := by decide +kernel
theorem dX1_unmap_11 : decode cX1_unmap 11 = .ok (.iload_n 3, 1) := by decide +kernel
theorem dX1_unmap_12 : decode cX1_unmap 12 = .ok (.ireturn, 1) := by decide +kernel
theorem dX1_unmap_13 : decode cX1_unmap 13 = .ok (.iconst 5, 1) := by decide +kernel
theorem dX1_unmap_14 : decode cX1_unmap 14 = .ok (.iload_n 1, 1) := by decide +kernel
theorem dX1_unmap_15 : decode cX1_unmap 15 = .ok (.imul, 1) := by decide +kernel
theorem dX1_unmap_16 : decode cX1_unmap 16 = .ok (.iload_n 2, 1) := by decide +kernel
theorem dX1_unmap_17 : decode cX1_unmap 17 = .ok (.iadd, 1) := by decide +kernel
theorem dX1_unmap_18 : decode cX1_unmap 18 = .ok (.istore 4, 2) := by decide +kernel
theorem dX1_unmap_20 : decode cX1_unmap 20 = .ok (.aload_n 0, 1) := by decide +kernel
theorem dX1_unmap_21 : decode cX1_unmap 21 = .ok (.getfield 13, 3) := by decide +kernel
theorem dX1_unmap_24 : decode cX1_unmap 24 = .ok (.iload 4, 2) := by decide +kernel
theorem dX1_unmap_26 : decode cX1_unmap 26 = .ok (.baload, 1) := by decide +kernel
theorem dX1_unmap_27 : decode cX1_unmap 27 = .ok (.ifCond .ge 6, 3) := by decide +kernel
theorem dX1_unmap_30 : decode cX1_unmap 30 = .ok (.bipush (-3), 2) := by decide +kernel
theorem dX1_unmap_32 : decode cX1_unmap 32 = .ok (.ireturn, 1) := by decide +kernel
theorem dX1_unmap_33 : decode cX1_unmap 33 = .ok (.aload_n 0, 1) := by decide +kernel
theorem dX1_unmap_34 : decode cX1_unmap 34 = .ok (.iload 4, 2) := by decide +kernel
theorem dX1_unmap_36 : decode cX1_unmap 36 = .ok (.invokevirtual 57, 3) := by decide +kernel
theorem dX1_unmap_39 : decode cX1_unmap 39 = .ok (.iload_n 2, 1) := by decide +kernel
theorem dX1_unmap_40 : decode cX1_unmap 40 = .ok (.ireturn, 1) := by decide +kernel
theorem dX1_release_0 : decode cX1_release 0 = .ok (.aload_n 0, 1) := by decide +kernel
theorem dX1_release_1 : decode cX1_release 1 = .ok (.getfield 13, 3) := by decide +kernel
theorem dX1_release_4 : decode cX1_release 4 = .ok (.iload_n 1, 1) := by decide +kernel
theorem dX1_release_5 : decode cX1_release 5 = .ok (.baload, 1) := by decide +kernel
theorem dX1_release_6 : decode cX1_release 6 = .ok (.istore_n 2, 1) := by decide +kernel
theorem dX1_release_7 : decode cX1_release 7 = .ok (.aload_n 0, 1) := by decide +kernel
theorem dX1_release_8 : decode cX1_release 8 = .ok (.getfield 13, 3) := by decide +kernel
theorem dX1_release_11 : decode cX1_release 11 = .ok (.iload_n 1, 1) := by decide +kernel
theorem dX1_release_12 : decode cX1_release 12 = .ok (.iconst (-1), 1) := by decide +kernel
theorem dX1_release_13 : decode cX1_release 13 = .ok (.bastore, 1) := by decide +kernel
theorem dX1_release_14 : decode cX1_release 14 = .ok (.aload_n 0, 1) := by decide +kernel
theorem dX1_release_15 : decode cX1_release 15 = .ok (.getfield 20, 3) := by decide +kernel
theorem dX1_release_18 : decode cX1_release 18 = .ok (.iload_n 2, 1) := by decide +kernel
theorem dX1_release_19 : decode cX1_release 19 = .ok (.dup2, 1) := by decide +kernel
theorem dX1_release_20 : decode cX1_release 20 = .ok (.baload, 1) := by decide +kernel
theorem dX1_release_21 : decode cX1_release 21 = .ok (.iconst 1, 1) := by decide +kernel
theorem dX1_release_22 : decode cX1_release 22 = .ok (.isub, 1) := by decide +kernel
theorem dX1_release_23 : decode cX1_release 23 = .ok (.i2b, 1) := by decide +kernel
theorem dX1_release_24 : decode cX1_release 24 = .ok (.bastore, 1) := by decide +kernel
theorem dX1_release_25 : decode cX1_release 25 = .ok (.aload_n 0, 1) := by decide +kernel
theorem dX1_release_26 : decode cX1_release 26 = .ok (.getfield 20, 3) := by decide +kernel
theorem dX1_release_29 : decode cX1_release 29 = .ok (.iload_n 2, 1) := by decide +kernel
theorem dX1_release_30 : decode cX1_release 30 = .ok (.baload, 1) := by decide +kernel
theorem dX1_release_31 : decode cX1_release 31 = .ok (.ifCond .gt 12, 3) := by decide +kernel
theorem dX1_release_34 : decode cX1_release 34 = .ok (.aload_n 0, 1) := by decide +kernel
theorem dX1_release_35 : decode cX1_release 35 = .ok (.getfield 23, 3) := by decide +kernel
theorem dX1_release_38 : decode cX1_release 38 = .ok (.iload_n 2, 1) := by decide +kernel
theorem dX1_release_39 : decode cX1_release 39 = .ok (.baload, 1) := by decide +kernel
theorem dX1_release_40 : decode cX1_release 40 = .ok (.ifCond .ge 4, 3) := by decide +kernel
theorem dX1_release_43 : decode cX1_release 43 = .ok (.return_, 1) := by decide +kernel
theorem dX1_release_44 : decode cX1_release 44 = .ok (.aload_n 0, 1) := by decide +kernel
theorem dX1_release_45 : decode cX1_release 45 = .ok (.getfield 33, 3) := by decide +kernel
theorem dX1_release_48 : decode cX1_release 48 = .ok (.aload_n 0, 1) := by decide +kernel
theorem dX1_release_49 : decode cX1_release 49 = .ok (.getfield 23, 3) := by decide +kernel
theorem dX1_release_52 : decode cX1_release 52 = .ok (.iload_n 2, 1) := by decide +kernel
theorem dX1_release_53 : decode cX1_release 53 = .ok (.baload, 1) := by decide +kernel
theorem dX1_release_54 : decode cX1_release 54 = .ok (.iconst (-1), 1) := by decide +kernel
theorem dX1_release_55 : decode cX1_release 55 = .ok (.bastore, 1) := by decide +kernel
theorem dX1_release_56 : decode cX1_release 56 = .ok (.aload_n 0, 1) := by decide +kernel
theorem dX1_release_57 : decode cX1_release 57 = .ok (.getfield 23, 3) := by decide +kernel
theorem dX1_release_60 : decode cX1_release 60 = .ok (.iload_n 2, 1) := by decide +kernel
theorem dX1_release_61 : decode cX1_release 61 = .ok (.iconst (-1), 1) := by decide +kernel
theorem dX1_release_62 : decode cX1_release 62 = .ok (.bastore, 1) := by decide +kernel
theorem dX1_release_63 : decode cX1_release 63 = .ok (.return_, 1) := by decide +kernel
theorem dX1_attach_0 : decode cX1_attach 0 = .ok (.iload_n 1, 1) := by decide +kernel
theorem dX1_attach_1 : decode cX1_attach 1 = .ok (.ifCond .lt 7, 3) := by decide +kernel
theorem dX1_attach_4 : decode cX1_attach 4 = .ok (.iload_n 2, 1) := by decide +kernel
theorem dX1_attach_5 : decode cX1_attach 5 = .ok (.ifCond .ge 5, 3) := by decide +kernel
theorem dX1_attach_8 : decode cX1_attach 8 = .ok (.iconst (-1), 1) := by decide +kernel
theorem dX1_attach_9 : decode cX1_attach 9 = .ok (.ireturn, 1) := by decide +kernel
theorem dX1_attach_10 : decode cX1_attach 10 = .ok (.iload_n 1, 1) := by decide +kernel
theorem dX1_attach_11 : decode cX1_attach 11 = .ok (.iconst 3, 1) := by decide +kernel
theorem dX1_attach_12 : decode cX1_attach 12 = .ok (.ishr, 1) := by decide +kernel
theorem dX1_attach_13 : decode cX1_attach 13 = .ok (.istore_n 3, 1) := by decide +kernel
theorem dX1_attach_14 : decode cX1_attach 14 = .ok (.iload_n 2, 1) := by decide +kernel
theorem dX1_attach_15 : decode cX1_attach 15 = .ok (.iconst 3, 1) := by decide +kernel
theorem dX1_attach_16 : decode cX1_attach 16 = .ok (.ishr, 1) := by decide +kernel
theorem dX1_attach_17 : decode cX1_attach 17 = .ok (.istore 4, 2) := by decide +kernel
theorem dX1_attach_19 : decode cX1_attach 19 = .ok (.iload_n 3, 1) := by decide +kernel
theorem dX1_attach_20 : decode cX1_attach 20 = .ok (.iconst 3, 1) := by decide +kernel
theorem dX1_attach_21 : decode cX1_attach 21 = .ok (.if_icmp .gt 25, 3) := by decide +kernel
theorem dX1_attach_24 : decode cX1_attach 24 = .ok (.iload 4, 2) := by decide +kernel
theorem dX1_attach_26 : decode cX1_attach 26 = .ok (.iconst 3, 1) := by decide +kernel
theorem dX1_attach_27 : decode cX1_attach 27 = .ok (.if_icmp .gt 19, 3) := by decide +kernel
theorem dX1_attach_30 : decode cX1_attach 30 = .ok (.iload_n 1, 1) := by decide +kernel
theorem dX1_attach_31 : decode cX1_attach 31 = .ok (.bipush 7, 2) := by decide +kernel
theorem dX1_attach_33 : decode cX1_attach 33 = .ok (.iand, 1) := by decide +kernel
theorem dX1_attach_34 : decode cX1_attach 34 = .ok (.iconst 4, 1) := by decide +kernel
theorem dX1_attach_35 : decode cX1_attach 35 = .ok (.if_icmp .gt 11, 3) := by decide +kernel
theorem dX1_attach_38 : decode cX1_attach 38 = .ok (.iload_n 2, 1) := by decide +kernel
theorem dX1_attach_39 : decode cX1_attach 39 = .ok (.bipush 7, 2) := by decide +kernel
theorem dX1_attach_41 : decode cX1_attach 41 = .ok (.iand, 1) := by decide +kernel
theorem dX1_attach_42 : decode cX1_attach 42 = .ok (.iconst 4, 1) := by decide +kernel
theorem dX1_attach_43 : decode cX1_attach 43 = .ok (.if_icmp .le 5, 3) := by decide +kernel
theorem dX1_attach_46 : decode cX1_attach 46 = .ok (.iconst (-1), 1) := by decide +kernel
theorem dX1_attach_47 : decode cX1_attach 47 = .ok (.ireturn, 1) := by decide +kernel
theorem dX1_attach_48 : decode cX1_attach 48 = .ok (.aload_n 0, 1) := by decide +kernel
theorem dX1_attach_49 : decode cX1_attach 49 = .ok (.getfield 7, 3) := by decide +kernel
theorem dX1_attach_52 : decode cX1_attach 52 = .ok (.iload_n 3, 1) := by decide +kernel
theorem dX1_attach_53 : decode cX1_attach 53 = .ok (.baload, 1) := by decide +kernel
theorem dX1_attach_54 : decode cX1_attach 54 = .ok (.ifCond .eq 13, 3) := by decide +kernel
theorem dX1_attach_57 : decode cX1_attach 57 = .ok (.aload_n 0, 1) := by decide +kernel
theorem dX1_attach_58 : decode cX1_attach 58 = .ok (.getfield 7, 3) := by decide +kernel
theorem dX1_attach_61 : decode cX1_attach 61 = .ok (.iload 4, 2) := by decide +kernel
theorem dX1_attach_63 : decode cX1_attach 63 = .ok (.baload, 1) := by decide +kernel
theorem dX1_attach_64 : decode cX1_attach 64 = .ok (.ifCond .ne 6, 3) := by decide +kernel
theorem dX1_attach_67 : decode cX1_attach 67 = .ok (.bipush (-2), 2) := by decide +kernel
theorem dX1_attach_69 : decode cX1_attach 69 = .ok (.ireturn, 1) := by decide +kernel
theorem dX1_attach_70 : decode cX1_attach 70 = .ok (.iconst 5, 1) := by decide +kernel
theorem dX1_attach_71 : decode cX1_attach 71 = .ok (.iload_n 3, 1) := by decide +kernel
theorem dX1_attach_72 : decode cX1_attach 72 = .ok (.imul, 1) := by decide +kernel
theorem dX1_attach_73 : decode cX1_attach 73 = .ok (.iload_n 1, 1) := by decide +kernel
theorem dX1_attach_74 : decode cX1_attach 74 = .ok (.bipush 7, 2) := by decide +kernel
theorem dX1_attach_76 : decode cX1_attach 76 = .ok (.iand, 1) := by decide +kernel
theorem dX1_attach_77 : decode cX1_attach 77 = .ok (.iadd, 1) := by decide +kernel
theorem dX1_attach_78 : decode cX1_attach 78 = .ok (.istore 5, 2) := by decide +kernel
theorem dX1_attach_80 : decode cX1_attach 80 = .ok (.iconst 5, 1) := by decide +kernel
theorem dX1_attach_81 : decode cX1_attach 81 = .ok (.iload 4, 2) := by decide +kernel
theorem dX1_attach_83 : decode cX1_attach 83 = .ok (.imul, 1) := by decide +kernel
theorem dX1_attach_84 : decode cX1_attach 84 = .ok (.iload_n 2, 1) := by decide +kernel
theorem dX1_attach_85 : decode cX1_attach 85 = .ok (.bipush 7, 2) := by decide +kernel
theorem dX1_attach_87 : decode cX1_attach 87 = .ok (.iand, 1) := by decide +kernel
theorem dX1_attach_88 : decode cX1_attach 88 = .ok (.iadd, 1) := by decide +kernel
theorem dX1_attach_89 : decode cX1_attach 89 = .ok (.istore 6, 2) := by decide +kernel
theorem dX1_attach_91 : decode cX1_attach 91 = .ok (.aload_n 0, 1) := by decide +kernel
theorem dX1_attach_92 : decode cX1_attach 92 = .ok (.getfield 13, 3) := by decide +kernel
theorem dX1_attach_95 : decode cX1_attach 95 = .ok (.iload 5, 2) := by decide +kernel
theorem dX1_attach_97 : decode cX1_attach 97 = .ok (.baload, 1) := by decide +kernel
theorem dX1_attach_98 : decode cX1_attach 98 = .ok (.ifCond .lt 6, 3) := by decide +kernel
theorem dX1_attach_101 : decode cX1_attach 101 = .ok (.bipush (-4), 2) := by decide +kernel
theorem dX1_attach_103 : decode cX1_attach 103 = .ok (.ireturn, 1) := by decide +kernel
theorem dX1_attach_104 : decode cX1_attach 104 = .ok (.aload_n 0, 1) := by decide +kernel
theorem dX1_attach_105 : decode cX1_attach 105 = .ok (.getfield 13, 3) := by decide +kernel
theorem dX1_attach_108 : decode cX1_attach 108 = .ok (.iload 6, 2) := by decide +kernel
theorem dX1_attach_110 : decode cX1_attach 110 = .ok (.baload, 1) := by decide +kernel
theorem dX1_attach_111 : decode cX1_attach 111 = .ok (.ifCond .lt 13, 3) := by decide +kernel
theorem dX1_attach_114 : decode cX1_attach 114 = .ok (.aload_n 0, 1) := by decide +kernel
theorem dX1_attach_115 : decode cX1_attach 115 = .ok (.getfield 17, 3) := by decide +kernel
theorem dX1_attach_118 : decode cX1_attach 118 = .ok (.iload 6, 2) := by decide +kernel
theorem dX1_attach_120 : decode cX1_attach 120 = .ok (.baload, 1) := by decide +kernel
theorem dX1_attach_121 : decode cX1_attach 121 = .ok (.ifCond .ne 6, 3) := by decide +kernel
theorem dX1_attach_124 : decode cX1_attach 124 = .ok (.bipush (-3), 2) := by decide +kernel
theorem dX1_attach_126 : decode cX1_attach 126 = .ok (.ireturn, 1) := by decide +kernel
theorem dX1_attach_127 : decode cX1_attach 127 = .ok (.aload_n 0, 1) := by decide +kernel
theorem dX1_attach_128 : decode cX1_attach 128 = .ok (.getfield 13, 3) := by decide +kernel
theorem dX1_attach_131 : decode cX1_attach 131 = .ok (.iload 5, 2) := by decide +kernel
theorem dX1_attach_133 : decode cX1_attach 133 = .ok (.aload_n 0, 1) := by decide +kernel
theorem dX1_attach_134 : decode cX1_attach 134 = .ok (.getfield 13, 3) := by decide +kernel
theorem dX1_attach_137 : decode cX1_attach 137 = .ok (.iload 6, 2) := by decide +kernel
theorem dX1_attach_139 : decode cX1_attach 139 = .ok (.baload, 1) := by decide +kernel
theorem dX1_attach_140 : decode cX1_attach 140 = .ok (.bastore, 1) := by decide +kernel
theorem dX1_attach_141 : decode cX1_attach 141 = .ok (.aload_n 0, 1) := by decide +kernel
theorem dX1_attach_142 : decode cX1_attach 142 = .ok (.getfield 20, 3) := by decide +kernel
theorem dX1_attach_145 : decode cX1_attach 145 = .ok (.aload_n 0, 1) := by decide +kernel
theorem dX1_attach_146 : decode cX1_attach 146 = .ok (.getfield 13, 3) := by decide +kernel
theorem dX1_attach_149 : decode cX1_attach 149 = .ok (.iload 5, 2) := by decide +kernel
theorem dX1_attach_151 : decode cX1_attach 151 = .ok (.baload, 1) := by decide +kernel
theorem dX1_attach_152 : decode cX1_attach 152 = .ok (.dup2, 1) := by decide +kernel
theorem dX1_attach_153 : decode cX1_attach 153 = .ok (.baload, 1) := by decide +kernel
theorem dX1_attach_154 : decode cX1_attach 154 = .ok (.iconst 1, 1) := by decide +kernel
theorem dX1_attach_155 : decode cX1_attach 155 = .ok (.iadd, 1) := by decide +kernel
theorem dX1_attach_156 : decode cX1_attach 156 = .ok (.i2b, 1) := by decide +kernel
theorem dX1_attach_157 : decode cX1_attach 157 = .ok (.bastore, 1) := by decide +kernel
theorem dX1_attach_158 : decode cX1_attach 158 = .ok (.aload_n 0, 1) := by decide +kernel
theorem dX1_attach_159 : decode cX1_attach 159 = .ok (.getfield 17, 3) := by decide +kernel
theorem dX1_attach_162 : decode cX1_attach 162 = .ok (.iload 5, 2) := by decide +kernel
theorem dX1_attach_164 : decode cX1_attach 164 = .ok (.iconst 1, 1) := by decide +kernel
theorem dX1_attach_165 : decode cX1_attach 165 = .ok (.bastore, 1) := by decide +kernel
theorem dX1_attach_166 : decode cX1_attach 166 = .ok (.iload_n 1, 1) := by decide +kernel
theorem dX1_attach_167 : decode cX1_attach 167 = .ok (.bipush 7, 2) := by decide +kernel
theorem dX1_attach_169 : decode cX1_attach 169 = .ok (.iand, 1) := by decide +kernel
theorem dX1_attach_170 : decode cX1_attach 170 = .ok (.ireturn, 1) := by decide +kernel
theorem dX1_fork_0 : decode cX1_fork 0 = .ok (.iload_n 1, 1) := by decide +kernel
theorem dX1_fork_1 : decode cX1_fork 1 = .ok (.ifCond .lt 17, 3) := by decide +kernel
theorem dX1_fork_4 : decode cX1_fork 4 = .ok (.iload_n 1, 1) := by decide +kernel
theorem dX1_fork_5 : decode cX1_fork 5 = .ok (.iconst 3, 1) := by decide +kernel
theorem dX1_fork_6 : decode cX1_fork 6 = .ok (.if_icmp .gt 12, 3) := by decide +kernel
theorem dX1_fork_9 : decode cX1_fork 9 = .ok (.iload_n 2, 1) := by decide +kernel
theorem dX1_fork_10 : decode cX1_fork 10 = .ok (.ifCond .lt 8, 3) := by decide +kernel
theorem dX1_fork_13 : decode cX1_fork 13 = .ok (.iload_n 2, 1) := by decide +kernel
theorem dX1_fork_14 : decode cX1_fork 14 = .ok (.iconst 3, 1) := by decide +kernel
theorem dX1_fork_15 : decode cX1_fork 15 = .ok (.if_icmp .le 5, 3) := by decide +kernel
theorem dX1_fork_18 : decode cX1_fork 18 = .ok (.iconst (-1), 1) := by decide +kernel
theorem dX1_fork_19 : decode cX1_fork 19 = .ok (.ireturn, 1) := by decide +kernel
theorem dX1_fork_20 : decode cX1_fork 20 = .ok (.aload_n 0, 1) := by decide +kernel
theorem dX1_fork_21 : decode cX1_fork 21 = .ok (.getfield 7, 3) := by decide +kernel
theorem dX1_fork_24 : decode cX1_fork 24 = .ok (.iload_n 1, 1) := by decide +kernel
end
section
set_option maxRecDepth 100000
theorem dX1_fork_25 : decode cX1_fork 25 = .ok (.baload, 1) := by decide +kernel
theorem dX1_fork_26 : decode cX1_fork 26 = .ok (.ifCond .ne 6, 3) := by decide +kernel
theorem dX1_fork_29 : decode cX1_fork 29 = .ok (.bipush (-2), 2) := by decide +kernel
theorem dX1_fork_31 : decode cX1_fork 31 = .ok (.ireturn, 1) := by decide +kernel
theorem dX1_fork_32 : decode cX1_fork 32 = .ok (.aload_n 0, 1) := by decide +kernel
theorem dX1_fork_33 : decode cX1_fork 33 = .ok (.getfield 7, 3) := by decide +kernel
theorem dX1_fork_36 : decode cX1_fork 36 = .ok (.iload_n 2, 1) := by decide +kernel
theorem dX1_fork_37 : decode cX1_fork 37 = .ok (.baload, 1) := by decide +kernel
theorem dX1_fork_38 : decode cX1_fork 38 = .ok (.ifCond .eq 6, 3) := by decide +kernel
theorem dX1_fork_41 : decode cX1_fork 41 = .ok (.bipush (-4), 2) := by decide +kernel
theorem dX1_fork_43 : decode cX1_fork 43 = .ok (.ireturn, 1) := by decide +kernel
theorem dX1_fork_44 : decode cX1_fork 44 = .ok (.aload_n 0, 1) := by decide +kernel
theorem dX1_fork_45 : decode cX1_fork 45 = .ok (.getfield 7, 3) := by decide +kernel
theorem dX1_fork_48 : decode cX1_fork 48 = .ok (.iload_n 2, 1) := by decide +kernel
theorem dX1_fork_49 : decode cX1_fork 49 = .ok (.iconst 1, 1) := by decide +kernel
theorem dX1_fork_50 : decode cX1_fork 50 = .ok (.bastore, 1) := by decide +kernel
theorem dX1_fork_51 : decode cX1_fork 51 = .ok (.iconst 0, 1) := by decide +kernel
theorem dX1_fork_52 : decode cX1_fork 52 = .ok (.istore_n 3, 1) := by decide +kernel
theorem dX1_fork_53 : decode cX1_fork 53 = .ok (.iconst 0, 1) := by decide +kernel
theorem dX1_fork_54 : decode cX1_fork 54 = .ok (.istore 4, 2) := by decide +kernel
theorem dX1_fork_56 : decode cX1_fork 56 = .ok (.iload 4, 2) := by decide +kernel
theorem dX1_fork_58 : decode cX1_fork 58 = .ok (.iconst 5, 1) := by decide +kernel
theorem dX1_fork_59 : decode cX1_fork 59 = .ok (.if_icmp .ge 86, 3) := by decide +kernel
theorem dX1_fork_62 : decode cX1_fork 62 = .ok (.iconst 5, 1) := by decide +kernel
theorem dX1_fork_63 : decode cX1_fork 63 = .ok (.iload_n 1, 1) := by decide +kernel
theorem dX1_fork_64 : decode cX1_fork 64 = .ok (.imul, 1) := by decide +kernel
theorem dX1_fork_65 : decode cX1_fork 65 = .ok (.iload 4, 2) := by decide +kernel
theorem dX1_fork_67 : decode cX1_fork 67 = .ok (.iadd, 1) := by decide +kernel
theorem dX1_fork_68 : decode cX1_fork 68 = .ok (.istore 5, 2) := by decide +kernel
theorem dX1_fork_70 : decode cX1_fork 70 = .ok (.iconst 5, 1) := by decide +kernel
theorem dX1_fork_71 : decode cX1_fork 71 = .ok (.iload_n 2, 1) := by decide +kernel
theorem dX1_fork_72 : decode cX1_fork 72 = .ok (.imul, 1) := by decide +kernel
theorem dX1_fork_73 : decode cX1_fork 73 = .ok (.iload 4, 2) := by decide +kernel
theorem dX1_fork_75 : decode cX1_fork 75 = .ok (.iadd, 1) := by decide +kernel
theorem dX1_fork_76 : decode cX1_fork 76 = .ok (.istore 6, 2) := by decide +kernel
theorem dX1_fork_78 : decode cX1_fork 78 = .ok (.aload_n 0, 1) := by decide +kernel
theorem dX1_fork_79 : decode cX1_fork 79 = .ok (.getfield 13, 3) := by decide +kernel
theorem dX1_fork_82 : decode cX1_fork 82 = .ok (.iload 6, 2) := by decide +kernel
theorem dX1_fork_84 : decode cX1_fork 84 = .ok (.aload_n 0, 1) := by decide +kernel
theorem dX1_fork_85 : decode cX1_fork 85 = .ok (.getfield 13, 3) := by decide +kernel
theorem dX1_fork_88 : decode cX1_fork 88 = .ok (.iload 5, 2) := by decide +kernel
theorem dX1_fork_90 : decode cX1_fork 90 = .ok (.baload, 1) := by decide +kernel
theorem dX1_fork_91 : decode cX1_fork 91 = .ok (.bastore, 1) := by decide +kernel
theorem dX1_fork_92 : decode cX1_fork 92 = .ok (.aload_n 0, 1) := by decide +kernel
theorem dX1_fork_93 : decode cX1_fork 93 = .ok (.getfield 17, 3) := by decide +kernel
theorem dX1_fork_96 : decode cX1_fork 96 = .ok (.iload 6, 2) := by decide +kernel
theorem dX1_fork_98 : decode cX1_fork 98 = .ok (.aload_n 0, 1) := by decide +kernel
theorem dX1_fork_99 : decode cX1_fork 99 = .ok (.getfield 17, 3) := by decide +kernel
theorem dX1_fork_102 : decode cX1_fork 102 = .ok (.iload 5, 2) := by decide +kernel
theorem dX1_fork_104 : decode cX1_fork 104 = .ok (.baload, 1) := by decide +kernel
theorem dX1_fork_105 : decode cX1_fork 105 = .ok (.bastore, 1) := by decide +kernel
theorem dX1_fork_106 : decode cX1_fork 106 = .ok (.aload_n 0, 1) := by decide +kernel
theorem dX1_fork_107 : decode cX1_fork 107 = .ok (.getfield 13, 3) := by decide +kernel
theorem dX1_fork_110 : decode cX1_fork 110 = .ok (.iload 5, 2) := by decide +kernel
theorem dX1_fork_112 : decode cX1_fork 112 = .ok (.baload, 1) := by decide +kernel
theorem dX1_fork_113 : decode cX1_fork 113 = .ok (.ifCond .ge 6, 3) := by decide +kernel
theorem dX1_fork_116 : decode cX1_fork 116 = .ok (.goto 23, 3) := by decide +kernel
theorem dX1_fork_119 : decode cX1_fork 119 = .ok (.aload_n 0, 1) := by decide +kernel
theorem dX1_fork_120 : decode cX1_fork 120 = .ok (.getfield 20, 3) := by decide +kernel
theorem dX1_fork_123 : decode cX1_fork 123 = .ok (.aload_n 0, 1) := by decide +kernel
theorem dX1_fork_124 : decode cX1_fork 124 = .ok (.getfield 13, 3) := by decide +kernel
theorem dX1_fork_127 : decode cX1_fork 127 = .ok (.iload 5, 2) := by decide +kernel
theorem dX1_fork_129 : decode cX1_fork 129 = .ok (.baload, 1) := by decide +kernel
theorem dX1_fork_130 : decode cX1_fork 130 = .ok (.dup2, 1) := by decide +kernel
theorem dX1_fork_131 : decode cX1_fork 131 = .ok (.baload, 1) := by decide +kernel
theorem dX1_fork_132 : decode cX1_fork 132 = .ok (.iconst 1, 1) := by decide +kernel
theorem dX1_fork_133 : decode cX1_fork 133 = .ok (.iadd, 1) := by decide +kernel
theorem dX1_fork_134 : decode cX1_fork 134 = .ok (.i2b, 1) := by decide +kernel
theorem dX1_fork_135 : decode cX1_fork 135 = .ok (.bastore, 1) := by decide +kernel
theorem dX1_fork_136 : decode cX1_fork 136 = .ok (.iinc 3 1, 3) := by decide +kernel
theorem dX1_fork_139 : decode cX1_fork 139 = .ok (.iinc 4 1, 3) := by decide +kernel
theorem dX1_fork_142 : decode cX1_fork 142 = .ok (.goto (-86), 3) := by decide +kernel
theorem dX1_fork_145 : decode cX1_fork 145 = .ok (.iload_n 3, 1) := by decide +kernel
theorem dX1_fork_146 : decode cX1_fork 146 = .ok (.ireturn, 1) := by decide +kernel
theorem dX1_exit_0 : decode cX1_exit 0 = .ok (.iload_n 1, 1) := by decide +kernel
theorem dX1_exit_1 : decode cX1_exit 1 = .ok (.ifCond .lt 8, 3) := by decide +kernel
theorem dX1_exit_4 : decode cX1_exit 4 = .ok (.iload_n 1, 1) := by decide +kernel
theorem dX1_exit_5 : decode cX1_exit 5 = .ok (.iconst 3, 1) := by decide +kernel
theorem dX1_exit_6 : decode cX1_exit 6 = .ok (.if_icmp .le 5, 3) := by decide +kernel
theorem dX1_exit_9 : decode cX1_exit 9 = .ok (.iconst (-1), 1) := by decide +kernel
theorem dX1_exit_10 : decode cX1_exit 10 = .ok (.ireturn, 1) := by decide +kernel
theorem dX1_exit_11 : decode cX1_exit 11 = .ok (.aload_n 0, 1) := by decide +kernel
theorem dX1_exit_12 : decode cX1_exit 12 = .ok (.getfield 7, 3) := by decide +kernel
theorem dX1_exit_15 : decode cX1_exit 15 = .ok (.iload_n 1, 1) := by decide +kernel
theorem dX1_exit_16 : decode cX1_exit 16 = .ok (.baload, 1) := by decide +kernel
theorem dX1_exit_17 : decode cX1_exit 17 = .ok (.ifCond .ne 6, 3) := by decide +kernel
theorem dX1_exit_20 : decode cX1_exit 20 = .ok (.bipush (-2), 2) := by decide +kernel
theorem dX1_exit_22 : decode cX1_exit 22 = .ok (.ireturn, 1) := by decide +kernel
theorem dX1_exit_23 : decode cX1_exit 23 = .ok (.aload_n 0, 1) := by decide +kernel
theorem dX1_exit_24 : decode cX1_exit 24 = .ok (.getfield 7, 3) := by decide +kernel
theorem dX1_exit_27 : decode cX1_exit 27 = .ok (.iload_n 1, 1) := by decide +kernel
theorem dX1_exit_28 : decode cX1_exit 28 = .ok (.iconst 0, 1) := by decide +kernel
theorem dX1_exit_29 : decode cX1_exit 29 = .ok (.bastore, 1) := by decide +kernel
theorem dX1_exit_30 : decode cX1_exit 30 = .ok (.iconst 0, 1) := by decide +kernel
theorem dX1_exit_31 : decode cX1_exit 31 = .ok (.istore_n 2, 1) := by decide +kernel
theorem dX1_exit_32 : decode cX1_exit 32 = .ok (.iconst 5, 1) := by decide +kernel
theorem dX1_exit_33 : decode cX1_exit 33 = .ok (.iload_n 1, 1) := by decide +kernel
theorem dX1_exit_34 : decode cX1_exit 34 = .ok (.imul, 1) := by decide +kernel
theorem dX1_exit_35 : decode cX1_exit 35 = .ok (.istore_n 3, 1) := by decide +kernel
theorem dX1_exit_36 : decode cX1_exit 36 = .ok (.iload_n 3, 1) := by decide +kernel
theorem dX1_exit_37 : decode cX1_exit 37 = .ok (.iconst 5, 1) := by decide +kernel
theorem dX1_exit_38 : decode cX1_exit 38 = .ok (.iload_n 1, 1) := by decide +kernel
theorem dX1_exit_39 : decode cX1_exit 39 = .ok (.imul, 1) := by decide +kernel
theorem dX1_exit_40 : decode cX1_exit 40 = .ok (.iconst 5, 1) := by decide +kernel
theorem dX1_exit_41 : decode cX1_exit 41 = .ok (.iadd, 1) := by decide +kernel
theorem dX1_exit_42 : decode cX1_exit 42 = .ok (.if_icmp .ge 29, 3) := by decide +kernel
theorem dX1_exit_45 : decode cX1_exit 45 = .ok (.aload_n 0, 1) := by decide +kernel
theorem dX1_exit_46 : decode cX1_exit 46 = .ok (.getfield 13, 3) := by decide +kernel
theorem dX1_exit_49 : decode cX1_exit 49 = .ok (.iload_n 3, 1) := by decide +kernel
theorem dX1_exit_50 : decode cX1_exit 50 = .ok (.baload, 1) := by decide +kernel
theorem dX1_exit_51 : decode cX1_exit 51 = .ok (.ifCond .ge 6, 3) := by decide +kernel
theorem dX1_exit_54 : decode cX1_exit 54 = .ok (.goto 11, 3) := by decide +kernel
theorem dX1_exit_57 : decode cX1_exit 57 = .ok (.aload_n 0, 1) := by decide +kernel
theorem dX1_exit_58 : decode cX1_exit 58 = .ok (.iload_n 3, 1) := by decide +kernel
theorem dX1_exit_59 : decode cX1_exit 59 = .ok (.invokevirtual 57, 3) := by decide +kernel
theorem dX1_exit_62 : decode cX1_exit 62 = .ok (.iinc 2 1, 3) := by decide +kernel
theorem dX1_exit_65 : decode cX1_exit 65 = .ok (.iinc 3 1, 3) := by decide +kernel
theorem dX1_exit_68 : decode cX1_exit 68 = .ok (.goto (-32), 3) := by decide +kernel
theorem dX1_exit_71 : decode cX1_exit 71 = .ok (.iload_n 2, 1) := by decide +kernel
theorem dX1_exit_72 : decode cX1_exit 72 = .ok (.ireturn, 1) := by decide +kernel
theorem dX1_write_0 : decode cX1_write 0 = .ok (.iload_n 1, 1) := by decide +kernel
theorem dX1_write_1 : decode cX1_write 1 = .ok (.ifCond .lt 18, 3) := by decide +kernel
theorem dX1_write_4 : decode cX1_write 4 = .ok (.iload_n 1, 1) := by decide +kernel
theorem dX1_write_5 : decode cX1_write 5 = .ok (.iconst 3, 1) := by decide +kernel
theorem dX1_write_6 : decode cX1_write 6 = .ok (.if_icmp .gt 13, 3) := by decide +kernel
theorem dX1_write_9 : decode cX1_write 9 = .ok (.iload_n 2, 1) := by decide +kernel
theorem dX1_write_10 : decode cX1_write 10 = .ok (.ifCond .lt 9, 3) := by decide +kernel
theorem dX1_write_13 : decode cX1_write 13 = .ok (.iload_n 2, 1) := by decide +kernel
theorem dX1_write_14 : decode cX1_write 14 = .ok (.bipush 19, 2) := by decide +kernel
theorem dX1_write_16 : decode cX1_write 16 = .ok (.if_icmp .le 5, 3) := by decide +kernel
theorem dX1_write_19 : decode cX1_write 19 = .ok (.iconst (-1), 1) := by decide +kernel
theorem dX1_write_20 : decode cX1_write 20 = .ok (.ireturn, 1) := by decide +kernel
theorem dX1_write_21 : decode cX1_write 21 = .ok (.aload_n 0, 1) := by decide +kernel
theorem dX1_write_22 : decode cX1_write 22 = .ok (.getfield 7, 3) := by decide +kernel
theorem dX1_write_25 : decode cX1_write 25 = .ok (.iload_n 1, 1) := by decide +kernel
theorem dX1_write_26 : decode cX1_write 26 = .ok (.baload, 1) := by decide +kernel
theorem dX1_write_27 : decode cX1_write 27 = .ok (.ifCond .ne 6, 3) := by decide +kernel
theorem dX1_write_30 : decode cX1_write 30 = .ok (.bipush (-2), 2) := by decide +kernel
theorem dX1_write_32 : decode cX1_write 32 = .ok (.ireturn, 1) := by decide +kernel
theorem dX1_write_33 : decode cX1_write 33 = .ok (.iconst 5, 1) := by decide +kernel
theorem dX1_write_34 : decode cX1_write 34 = .ok (.iload_n 1, 1) := by decide +kernel
theorem dX1_write_35 : decode cX1_write 35 = .ok (.imul, 1) := by decide +kernel
theorem dX1_write_36 : decode cX1_write 36 = .ok (.iload_n 2, 1) := by decide +kernel
theorem dX1_write_37 : decode cX1_write 37 = .ok (.iconst 2, 1) := by decide +kernel
theorem dX1_write_38 : decode cX1_write 38 = .ok (.ishr, 1) := by decide +kernel
theorem dX1_write_39 : decode cX1_write 39 = .ok (.iadd, 1) := by decide +kernel
theorem dX1_write_40 : decode cX1_write 40 = .ok (.istore 4, 2) := by decide +kernel
theorem dX1_write_42 : decode cX1_write 42 = .ok (.aload_n 0, 1) := by decide +kernel
theorem dX1_write_43 : decode cX1_write 43 = .ok (.getfield 13, 3) := by decide +kernel
theorem dX1_write_46 : decode cX1_write 46 = .ok (.iload 4, 2) := by decide +kernel
theorem dX1_write_48 : decode cX1_write 48 = .ok (.baload, 1) := by decide +kernel
theorem dX1_write_49 : decode cX1_write 49 = .ok (.ifCond .ge 6, 3) := by decide +kernel
theorem dX1_write_52 : decode cX1_write 52 = .ok (.bipush (-3), 2) := by decide +kernel
theorem dX1_write_54 : decode cX1_write 54 = .ok (.ireturn, 1) := by decide +kernel
theorem dX1_write_55 : decode cX1_write 55 = .ok (.aload_n 0, 1) := by decide +kernel
theorem dX1_write_56 : decode cX1_write 56 = .ok (.getfield 17, 3) := by decide +kernel
theorem dX1_write_59 : decode cX1_write 59 = .ok (.iload 4, 2) := by decide +kernel
theorem dX1_write_61 : decode cX1_write 61 = .ok (.baload, 1) := by decide +kernel
theorem dX1_write_62 : decode cX1_write 62 = .ok (.ifCond .ne 25, 3) := by decide +kernel
theorem dX1_write_65 : decode cX1_write 65 = .ok (.aload_n 0, 1) := by decide +kernel
theorem dX1_write_66 : decode cX1_write 66 = .ok (.getfield 20, 3) := by decide +kernel
theorem dX1_write_69 : decode cX1_write 69 = .ok (.aload_n 0, 1) := by decide +kernel
theorem dX1_write_70 : decode cX1_write 70 = .ok (.getfield 13, 3) := by decide +kernel
theorem dX1_write_73 : decode cX1_write 73 = .ok (.iload 4, 2) := by decide +kernel
theorem dX1_write_75 : decode cX1_write 75 = .ok (.baload, 1) := by decide +kernel
theorem dX1_write_76 : decode cX1_write 76 = .ok (.baload, 1) := by decide +kernel
theorem dX1_write_77 : decode cX1_write 77 = .ok (.iconst 1, 1) := by decide +kernel
theorem dX1_write_78 : decode cX1_write 78 = .ok (.if_icmp .le 9, 3) := by decide +kernel
theorem dX1_write_81 : decode cX1_write 81 = .ok (.aload_n 0, 1) := by decide +kernel
theorem dX1_write_82 : decode cX1_write 82 = .ok (.iload 4, 2) := by decide +kernel
theorem dX1_write_84 : decode cX1_write 84 = .ok (.invokevirtual 61, 3) := by decide +kernel
theorem dX1_write_87 : decode cX1_write 87 = .ok (.aload_n 0, 1) := by decide +kernel
theorem dX1_write_88 : decode cX1_write 88 = .ok (.aload_n 0, 1) := by decide +kernel
theorem dX1_write_89 : decode cX1_write 89 = .ok (.getfield 13, 3) := by decide +kernel
theorem dX1_write_92 : decode cX1_write 92 = .ok (.iload 4, 2) := by decide +kernel
theorem dX1_write_94 : decode cX1_write 94 = .ok (.baload, 1) := by decide +kernel
theorem dX1_write_95 : decode cX1_write 95 = .ok (.invokevirtual 64, 3) := by decide +kernel
theorem dX1_write_98 : decode cX1_write 98 = .ok (.istore 5, 2) := by decide +kernel
theorem dX1_write_100 : decode cX1_write 100 = .ok (.aload_n 0, 1) := by decide +kernel
theorem dX1_write_101 : decode cX1_write 101 = .ok (.getfield 36, 3) := by decide +kernel
theorem dX1_write_104 : decode cX1_write 104 = .ok (.iconst 4, 1) := by decide +kernel
theorem dX1_write_105 : decode cX1_write 105 = .ok (.iload 5, 2) := by decide +kernel
theorem dX1_write_107 : decode cX1_write 107 = .ok (.imul, 1) := by decide +kernel
theorem dX1_write_108 : decode cX1_write 108 = .ok (.iload_n 2, 1) := by decide +kernel
theorem dX1_write_109 : decode cX1_write 109 = .ok (.iconst 3, 1) := by decide +kernel
theorem dX1_write_110 : decode cX1_write 110 = .ok (.iand, 1) := by decide +kernel
theorem dX1_write_111 : decode cX1_write 111 = .ok (.iadd, 1) := by decide +kernel
theorem dX1_write_112 : decode cX1_write 112 = .ok (.iload_n 3, 1) := by decide +kernel
theorem dX1_write_113 : decode cX1_write 113 = .ok (.iastore, 1) := by decide +kernel
theorem dX1_write_114 : decode cX1_write 114 = .ok (.aload_n 0, 1) := by decide +kernel
theorem dX1_write_115 : decode cX1_write 115 = .ok (.getfield 42, 3) := by decide +kernel
theorem dX1_write_118 : decode cX1_write 118 = .ok (.iload 5, 2) := by decide +kernel
theorem dX1_write_120 : decode cX1_write 120 = .ok (.iconst 1, 1) := by decide +kernel
theorem dX1_write_121 : decode cX1_write 121 = .ok (.bastore, 1) := by decide +kernel
theorem dX1_write_122 : decode cX1_write 122 = .ok (.iload_n 2, 1) := by decide +kernel
theorem dX1_write_123 : decode cX1_write 123 = .ok (.ireturn, 1) := by decide +kernel
theorem dX1_part_0 : decode cX1_part 0 = .ok (.aload_n 0, 1) := by decide +kernel
theorem dX1_part_1 : decode cX1_part 1 = .ok (.getfield 13, 3) := by decide +kernel
theorem dX1_part_4 : decode cX1_part 4 = .ok (.iload_n 1, 1) := by decide +kernel
theorem dX1_part_5 : decode cX1_part 5 = .ok (.baload, 1) := by decide +kernel
theorem dX1_part_6 : decode cX1_part 6 = .ok (.istore_n 2, 1) := by decide +kernel
theorem dX1_part_7 : decode cX1_part 7 = .ok (.aload_n 0, 1) := by decide +kernel
theorem dX1_part_8 : decode cX1_part 8 = .ok (.iload_n 2, 1) := by decide +kernel
theorem dX1_part_9 : decode cX1_part 9 = .ok (.invokevirtual 64, 3) := by decide +kernel
theorem dX1_part_12 : decode cX1_part 12 = .ok (.istore_n 3, 1) := by decide +kernel
theorem dX1_part_13 : decode cX1_part 13 = .ok (.aload_n 0, 1) := by decide +kernel
theorem dX1_part_14 : decode cX1_part 14 = .ok (.getfield 36, 3) := by decide +kernel
theorem dX1_part_17 : decode cX1_part 17 = .ok (.iconst 4, 1) := by decide +kernel
theorem dX1_part_18 : decode cX1_part 18 = .ok (.iload_n 3, 1) := by decide +kernel
theorem dX1_part_19 : decode cX1_part 19 = .ok (.imul, 1) := by decide +kernel
theorem dX1_part_20 : decode cX1_part 20 = .ok (.iaload, 1) := by decide +kernel
theorem dX1_part_21 : decode cX1_part 21 = .ok (.istore 4, 2) := by decide +kernel
theorem dX1_part_23 : decode cX1_part 23 = .ok (.aload_n 0, 1) := by decide +kernel
theorem dX1_part_24 : decode cX1_part 24 = .ok (.getfield 36, 3) := by decide +kernel
theorem dX1_part_27 : decode cX1_part 27 = .ok (.iconst 4, 1) := by decide +kernel
theorem dX1_part_28 : decode cX1_part 28 = .ok (.iload_n 3, 1) := by decide +kernel
theorem dX1_part_29 : decode cX1_part 29 = .ok (.imul, 1) := by decide +kernel
theorem dX1_part_30 : decode cX1_part 30 = .ok (.iconst 1, 1) := by decide +kernel
theorem dX1_part_31 : decode cX1_part 31 = .ok (.iadd, 1) := by decide +kernel
theorem dX1_part_32 : decode cX1_part 32 = .ok (.iaload, 1) := by decide +kernel
theorem dX1_part_33 : decode cX1_part 33 = .ok (.istore 5, 2) := by decide +kernel
theorem dX1_part_35 : decode cX1_part 35 = .ok (.aload_n 0, 1) := by decide +kernel
theorem dX1_part_36 : decode cX1_part 36 = .ok (.getfield 36, 3) := by decide +kernel
theorem dX1_part_39 : decode cX1_part 39 = .ok (.iconst 4, 1) := by decide +kernel
theorem dX1_part_40 : decode cX1_part 40 = .ok (.iload_n 3, 1) := by decide +kernel
theorem dX1_part_41 : decode cX1_part 41 = .ok (.imul, 1) := by decide +kernel
theorem dX1_part_42 : decode cX1_part 42 = .ok (.iconst 2, 1) := by decide +kernel
theorem dX1_part_43 : decode cX1_part 43 = .ok (.iadd, 1) := by decide +kernel
theorem dX1_part_44 : decode cX1_part 44 = .ok (.iaload, 1) := by decide +kernel
theorem dX1_part_45 : decode cX1_part 45 = .ok (.istore 6, 2) := by decide +kernel
theorem dX1_part_47 : decode cX1_part 47 = .ok (.aload_n 0, 1) := by decide +kernel
theorem dX1_part_48 : decode cX1_part 48 = .ok (.getfield 36, 3) := by decide +kernel
theorem dX1_part_51 : decode cX1_part 51 = .ok (.iconst 4, 1) := by decide +kernel
theorem dX1_part_52 : decode cX1_part 52 = .ok (.iload_n 3, 1) := by decide +kernel
theorem dX1_part_53 : decode cX1_part 53 = .ok (.imul, 1) := by decide +kernel
theorem dX1_part_54 : decode cX1_part 54 = .ok (.iconst 3, 1) := by decide +kernel
theorem dX1_part_55 : decode cX1_part 55 = .ok (.iadd, 1) := by decide +kernel
theorem dX1_part_56 : decode cX1_part 56 = .ok (.iaload, 1) := by decide +kernel
theorem dX1_part_57 : decode cX1_part 57 = .ok (.istore 7, 2) := by decide +kernel
theorem dX1_part_59 : decode cX1_part 59 = .ok (.aload_n 0, 1) := by decide +kernel
theorem dX1_part_60 : decode cX1_part 60 = .ok (.getfield 20, 3) := by decide +kernel
theorem dX1_part_63 : decode cX1_part 63 = .ok (.iload_n 2, 1) := by decide +kernel
theorem dX1_part_64 : decode cX1_part 64 = .ok (.dup2, 1) := by decide +kernel
theorem dX1_part_65 : decode cX1_part 65 = .ok (.baload, 1) := by decide +kernel
theorem dX1_part_66 : decode cX1_part 66 = .ok (.iconst 1, 1) := by decide +kernel
theorem dX1_part_67 : decode cX1_part 67 = .ok (.isub, 1) := by decide +kernel
theorem dX1_part_68 : decode cX1_part 68 = .ok (.i2b, 1) := by decide +kernel
theorem dX1_part_69 : decode cX1_part 69 = .ok (.bastore, 1) := by decide +kernel
theorem dX1_part_70 : decode cX1_part 70 = .ok (.aload_n 0, 1) := by decide +kernel
theorem dX1_part_71 : decode cX1_part 71 = .ok (.invokevirtual 53, 3) := by decide +kernel
theorem dX1_part_74 : decode cX1_part 74 = .ok (.istore 8, 2) := by decide +kernel
theorem dX1_part_76 : decode cX1_part 76 = .ok (.aload_n 0, 1) := by decide +kernel
theorem dX1_part_77 : decode cX1_part 77 = .ok (.getfield 13, 3) := by decide +kernel
theorem dX1_part_80 : decode cX1_part 80 = .ok (.iload_n 1, 1) := by decide +kernel
theorem dX1_part_81 : decode cX1_part 81 = .ok (.iload 8, 2) := by decide +kernel
theorem dX1_part_83 : decode cX1_part 83 = .ok (.i2b, 1) := by decide +kernel
theorem dX1_part_84 : decode cX1_part 84 = .ok (.bastore, 1) := by decide +kernel
theorem dX1_part_85 : decode cX1_part 85 = .ok (.aload_n 0, 1) := by decide +kernel
theorem dX1_part_86 : decode cX1_part 86 = .ok (.iload 8, 2) := by decide +kernel
theorem dX1_part_88 : decode cX1_part 88 = .ok (.invokevirtual 64, 3) := by decide +kernel
theorem dX1_part_91 : decode cX1_part 91 = .ok (.istore_n 3, 1) := by decide +kernel
theorem dX1_part_92 : decode cX1_part 92 = .ok (.aload_n 0, 1) := by decide +kernel
theorem dX1_part_93 : decode cX1_part 93 = .ok (.getfield 36, 3) := by decide +kernel
theorem dX1_part_96 : decode cX1_part 96 = .ok (.iconst 4, 1) := by decide +kernel
theorem dX1_part_97 : decode cX1_part 97 = .ok (.iload_n 3, 1) := by decide +kernel
theorem dX1_part_98 : decode cX1_part 98 = .ok (.imul, 1) := by decide +kernel
theorem dX1_part_99 : decode cX1_part 99 = .ok (.iload 4, 2) := by decide +kernel
theorem dX1_part_101 : decode cX1_part 101 = .ok (.iastore, 1) := by decide +kernel
theorem dX1_part_102 : decode cX1_part 102 = .ok (.aload_n 0, 1) := by decide +kernel
theorem dX1_part_103 : decode cX1_part 103 = .ok (.getfield 36, 3) := by decide +kernel
theorem dX1_part_106 : decode cX1_part 106 = .ok (.iconst 4, 1) := by decide +kernel
theorem dX1_part_107 : decode cX1_part 107 = .ok (.iload_n 3, 1) := by decide +kernel
theorem dX1_part_108 : decode cX1_part 108 = .ok (.imul, 1) := by decide +kernel
theorem dX1_part_109 : decode cX1_part 109 = .ok (.iconst 1, 1) := by decide +kernel
theorem dX1_part_110 : decode cX1_part 110 = .ok (.iadd, 1) := by decide +kernel
theorem dX1_part_111 : decode cX1_part 111 = .ok (.iload 5, 2) := by decide +kernel
theorem dX1_part_113 : decode cX1_part 113 = .ok (.iastore, 1) := by decide +kernel
theorem dX1_part_114 : decode cX1_part 114 = .ok (.aload_n 0, 1) := by decide +kernel
theorem dX1_part_115 : decode cX1_part 115 = .ok (.getfield 36, 3) := by decide +kernel
theorem dX1_part_118 : decode cX1_part 118 = .ok (.iconst 4, 1) := by decide +kernel
theorem dX1_part_119 : decode cX1_part 119 = .ok (.iload_n 3, 1) := by decide +kernel
theorem dX1_part_120 : decode cX1_part 120 = .ok (.imul, 1) := by decide +kernel
theorem dX1_part_121 : decode cX1_part 121 = .ok (.iconst 2, 1) := by decide +kernel
theorem dX1_part_122 : decode cX1_part 122 = .ok (.iadd, 1) := by decide +kernel
theorem dX1_part_123 : decode cX1_part 123 = .ok (.iload 6, 2) := by decide +kernel
theorem dX1_part_125 : decode cX1_part 125 = .ok (.iastore, 1) := by decide +kernel
theorem dX1_part_126 : decode cX1_part 126 = .ok (.aload_n 0, 1) := by decide +kernel
theorem dX1_part_127 : decode cX1_part 127 = .ok (.getfield 36, 3) := by decide +kernel
theorem dX1_part_130 : decode cX1_part 130 = .ok (.iconst 4, 1) := by decide +kernel
theorem dX1_part_131 : decode cX1_part 131 = .ok (.iload_n 3, 1) := by decide +kernel
theorem dX1_part_132 : decode cX1_part 132 = .ok (.imul, 1) := by decide +kernel
theorem dX1_part_133 : decode cX1_part 133 = .ok (.iconst 3, 1) := by decide +kernel
theorem dX1_part_134 : decode cX1_part 134 = .ok (.iadd, 1) := by decide +kernel
theorem dX1_part_135 : decode cX1_part 135 = .ok (.iload 7, 2) := by decide +kernel
theorem dX1_part_137 : decode cX1_part 137 = .ok (.iastore, 1) := by decide +kernel
theorem dX1_part_138 : decode cX1_part 138 = .ok (.aload_n 0, 1) := by decide +kernel
theorem dX1_part_139 : decode cX1_part 139 = .ok (.getfield 42, 3) := by decide +kernel
theorem dX1_part_142 : decode cX1_part 142 = .ok (.iload_n 3, 1) := by decide +kernel
theorem dX1_part_143 : decode cX1_part 143 = .ok (.iconst 1, 1) := by decide +kernel
theorem dX1_part_144 : decode cX1_part 144 = .ok (.bastore, 1) := by decide +kernel
theorem dX1_part_145 : decode cX1_part 145 = .ok (.return_, 1) := by decide +kernel
theorem dX1_bringIn_0 : decode cX1_bringIn 0 = .ok (.aload_n 0, 1) := by decide +kernel
theorem dX1_bringIn_1 : decode cX1_bringIn 1 = .ok (.getfield 23, 3) := by decide +kernel
theorem dX1_bringIn_4 : decode cX1_bringIn 4 = .ok (.iload_n 1, 1) := by decide +kernel
theorem dX1_bringIn_5 : decode cX1_bringIn 5 = .ok (.baload, 1) := by decide +kernel
theorem dX1_bringIn_6 : decode cX1_bringIn 6 = .ok (.ifCond .lt 22, 3) := by decide +kernel
theorem dX1_bringIn_9 : decode cX1_bringIn 9 = .ok (.aload_n 0, 1) := by decide +kernel
theorem dX1_bringIn_10 : decode cX1_bringIn 10 = .ok (.getfield 39, 3) := by decide +kernel
theorem dX1_bringIn_13 : decode cX1_bringIn 13 = .ok (.aload_n 0, 1) := by decide +kernel
theorem dX1_bringIn_14 : decode cX1_bringIn 14 = .ok (.getfield 23, 3) := by decide +kernel
theorem dX1_bringIn_17 : decode cX1_bringIn 17 = .ok (.iload_n 1, 1) := by decide +kernel
theorem dX1_bringIn_18 : decode cX1_bringIn 18 = .ok (.baload, 1) := by decide +kernel
theorem dX1_bringIn_19 : decode cX1_bringIn 19 = .ok (.iconst 1, 1) := by decide +kernel
theorem dX1_bringIn_20 : decode cX1_bringIn 20 = .ok (.bastore, 1) := by decide +kernel
theorem dX1_bringIn_21 : decode cX1_bringIn 21 = .ok (.aload_n 0, 1) := by decide +kernel
theorem dX1_bringIn_22 : decode cX1_bringIn 22 = .ok (.getfield 23, 3) := by decide +kernel
theorem dX1_bringIn_25 : decode cX1_bringIn 25 = .ok (.iload_n 1, 1) := by decide +kernel
theorem dX1_bringIn_26 : decode cX1_bringIn 26 = .ok (.baload, 1) := by decide +kernel
theorem dX1_bringIn_27 : decode cX1_bringIn 27 = .ok (.ireturn, 1) := by decide +kernel
theorem dX1_bringIn_28 : decode cX1_bringIn 28 = .ok (.aload_n 0, 1) := by decide +kernel
theorem dX1_bringIn_29 : decode cX1_bringIn 29 = .ok (.invokevirtual 72, 3) := by decide +kernel
theorem dX1_bringIn_32 : decode cX1_bringIn 32 = .ok (.istore_n 2, 1) := by decide +kernel
theorem dX1_bringIn_33 : decode cX1_bringIn 33 = .ok (.aload_n 0, 1) := by decide +kernel
theorem dX1_bringIn_34 : decode cX1_bringIn 34 = .ok (.getfield 33, 3) := by decide +kernel
theorem dX1_bringIn_37 : decode cX1_bringIn 37 = .ok (.iload_n 2, 1) := by decide +kernel
theorem dX1_bringIn_38 : decode cX1_bringIn 38 = .ok (.iload_n 1, 1) := by decide +kernel
theorem dX1_bringIn_39 : decode cX1_bringIn 39 = .ok (.i2b, 1) := by decide +kernel
theorem dX1_bringIn_40 : decode cX1_bringIn 40 = .ok (.bastore, 1) := by decide +kernel
theorem dX1_bringIn_41 : decode cX1_bringIn 41 = .ok (.aload_n 0, 1) := by decide +kernel
theorem dX1_bringIn_42 : decode cX1_bringIn 42 = .ok (.getfield 23, 3) := by decide +kernel
theorem dX1_bringIn_45 : decode cX1_bringIn 45 = .ok (.iload_n 1, 1) := by decide +kernel
theorem dX1_bringIn_46 : decode cX1_bringIn 46 = .ok (.iload_n 2, 1) := by decide +kernel
theorem dX1_bringIn_47 : decode cX1_bringIn 47 = .ok (.i2b, 1) := by decide +kernel
theorem dX1_bringIn_48 : decode cX1_bringIn 48 = .ok (.bastore, 1) := by decide +kernel
theorem dX1_bringIn_49 : decode cX1_bringIn 49 = .ok (.aload_n 0, 1) := by decide +kernel
theorem dX1_bringIn_50 : decode cX1_bringIn 50 = .ok (.getfield 39, 3) := by decide +kernel
theorem dX1_bringIn_53 : decode cX1_bringIn 53 = .ok (.iload_n 2, 1) := by decide +kernel
theorem dX1_bringIn_54 : decode cX1_bringIn 54 = .ok (.iconst 1, 1) := by decide +kernel
theorem dX1_bringIn_55 : decode cX1_bringIn 55 = .ok (.bastore, 1) := by decide +kernel
theorem dX1_bringIn_56 : decode cX1_bringIn 56 = .ok (.aload_n 0, 1) := by decide +kernel
theorem dX1_bringIn_57 : decode cX1_bringIn 57 = .ok (.getfield 42, 3) := by decide +kernel
theorem dX1_bringIn_60 : decode cX1_bringIn 60 = .ok (.iload_n 2, 1) := by decide +kernel
theorem dX1_bringIn_61 : decode cX1_bringIn 61 = .ok (.iconst 0, 1) := by decide +kernel
theorem dX1_bringIn_62 : decode cX1_bringIn 62 = .ok (.bastore, 1) := by decide +kernel
theorem dX1_bringIn_63 : decode cX1_bringIn 63 = .ok (.iconst 0, 1) := by decide +kernel
theorem dX1_bringIn_64 : decode cX1_bringIn 64 = .ok (.istore_n 3, 1) := by decide +kernel
theorem dX1_bringIn_65 : decode cX1_bringIn 65 = .ok (.iload_n 3, 1) := by decide +kernel
theorem dX1_bringIn_66 : decode cX1_bringIn 66 = .ok (.iconst 4, 1) := by decide +kernel
theorem dX1_bringIn_67 : decode cX1_bringIn 67 = .ok (.if_icmp .ge 42, 3) := by decide +kernel
theorem dX1_bringIn_70 : decode cX1_bringIn 70 = .ok (.aload_n 0, 1) := by decide +kernel
theorem dX1_bringIn_71 : decode cX1_bringIn 71 = .ok (.getfield 36, 3) := by decide +kernel
theorem dX1_bringIn_74 : decode cX1_bringIn 74 = .ok (.iconst 4, 1) := by decide +kernel
theorem dX1_bringIn_75 : decode cX1_bringIn 75 = .ok (.iload_n 2, 1) := by decide +kernel
theorem dX1_bringIn_76 : decode cX1_bringIn 76 = .ok (.imul, 1) := by decide +kernel
theorem dX1_bringIn_77 : decode cX1_bringIn 77 = .ok (.iload_n 3, 1) := by decide +kernel
theorem dX1_bringIn_78 : decode cX1_bringIn 78 = .ok (.iadd, 1) := by decide +kernel
theorem dX1_bringIn_79 : decode cX1_bringIn 79 = .ok (.aload_n 0, 1) := by decide +kernel
theorem dX1_bringIn_80 : decode cX1_bringIn 80 = .ok (.getfield 26, 3) := by decide +kernel
theorem dX1_bringIn_83 : decode cX1_bringIn 83 = .ok (.iload_n 1, 1) := by decide +kernel
theorem dX1_bringIn_84 : decode cX1_bringIn 84 = .ok (.baload, 1) := by decide +kernel
theorem dX1_bringIn_85 : decode cX1_bringIn 85 = .ok (.ifCond .eq 16, 3) := by decide +kernel
theorem dX1_bringIn_88 : decode cX1_bringIn 88 = .ok (.aload_n 0, 1) := by decide +kernel
theorem dX1_bringIn_89 : decode cX1_bringIn 89 = .ok (.getfield 29, 3) := by decide +kernel
theorem dX1_bringIn_92 : decode cX1_bringIn 92 = .ok (.iconst 4, 1) := by decide +kernel
theorem dX1_bringIn_93 : decode cX1_bringIn 93 = .ok (.iload_n 1, 1) := by decide +kernel
theorem dX1_bringIn_94 : decode cX1_bringIn 94 = .ok (.imul, 1) := by decide +kernel
theorem dX1_bringIn_95 : decode cX1_bringIn 95 = .ok (.iload_n 3, 1) := by decide +kernel
theorem dX1_bringIn_96 : decode cX1_bringIn 96 = .ok (.iadd, 1) := by decide +kernel
theorem dX1_bringIn_97 : decode cX1_bringIn 97 = .ok (.iaload, 1) := by decide +kernel
theorem dX1_bringIn_98 : decode cX1_bringIn 98 = .ok (.goto 4, 3) := by decide +kernel
theorem dX1_bringIn_101 : decode cX1_bringIn 101 = .ok (.iconst 0, 1) := by decide +kernel
theorem dX1_bringIn_102 : decode cX1_bringIn 102 = .ok (.iastore, 1) := by decide +kernel
theorem dX1_bringIn_103 : decode cX1_bringIn 103 = .ok (.iinc 3 1, 3) := by decide +kernel
theorem dX1_bringIn_106 : decode cX1_bringIn 106 = .ok (.goto (-41), 3) := by decide +kernel
end
section
set_option maxRecDepth 100000
theorem dX1_bringIn_109 : decode cX1_bringIn 109 = .ok (.iload_n 2, 1) := by decide +kernel
theorem dX1_bringIn_110 : decode cX1_bringIn 110 = .ok (.ireturn, 1) := by decide +kernel
theorem dX1_freeFrame_0 : decode cX1_freeFrame 0 = .ok (.iconst 0, 1) := by decide +kernel
theorem dX1_freeFrame_1 : decode cX1_freeFrame 1 = .ok (.istore_n 1, 1) := by decide +kernel
theorem dX1_freeFrame_2 : decode cX1_freeFrame 2 = .ok (.iload_n 1, 1) := by decide +kernel
theorem dX1_freeFrame_3 : decode cX1_freeFrame 3 = .ok (.aload_n 0, 1) := by decide +kernel
theorem dX1_freeFrame_4 : decode cX1_freeFrame 4 = .ok (.getfield 45, 3) := by decide +kernel
theorem dX1_freeFrame_7 : decode cX1_freeFrame 7 = .ok (.if_icmp .ge 20, 3) := by decide +kernel
theorem dX1_freeFrame_10 : decode cX1_freeFrame 10 = .ok (.aload_n 0, 1) := by decide +kernel
theorem dX1_freeFrame_11 : decode cX1_freeFrame 11 = .ok (.getfield 33, 3) := by decide +kernel
theorem dX1_freeFrame_14 : decode cX1_freeFrame 14 = .ok (.iload_n 1, 1) := by decide +kernel
theorem dX1_freeFrame_15 : decode cX1_freeFrame 15 = .ok (.baload, 1) := by decide +kernel
theorem dX1_freeFrame_16 : decode cX1_freeFrame 16 = .ok (.ifCond .ge 5, 3) := by decide +kernel
theorem dX1_freeFrame_19 : decode cX1_freeFrame 19 = .ok (.iload_n 1, 1) := by decide +kernel
theorem dX1_freeFrame_20 : decode cX1_freeFrame 20 = .ok (.ireturn, 1) := by decide +kernel
theorem dX1_freeFrame_21 : decode cX1_freeFrame 21 = .ok (.iinc 1 1, 3) := by decide +kernel
theorem dX1_freeFrame_24 : decode cX1_freeFrame 24 = .ok (.goto (-22), 3) := by decide +kernel
theorem dX1_freeFrame_27 : decode cX1_freeFrame 27 = .ok (.iconst 0, 1) := by decide +kernel
theorem dX1_freeFrame_28 : decode cX1_freeFrame 28 = .ok (.istore_n 1, 1) := by decide +kernel
theorem dX1_freeFrame_29 : decode cX1_freeFrame 29 = .ok (.iload_n 1, 1) := by decide +kernel
theorem dX1_freeFrame_30 : decode cX1_freeFrame 30 = .ok (.aload_n 0, 1) := by decide +kernel
theorem dX1_freeFrame_31 : decode cX1_freeFrame 31 = .ok (.getfield 45, 3) := by decide +kernel
theorem dX1_freeFrame_34 : decode cX1_freeFrame 34 = .ok (.if_icmp .ge 58, 3) := by decide +kernel
theorem dX1_freeFrame_37 : decode cX1_freeFrame 37 = .ok (.aload_n 0, 1) := by decide +kernel
theorem dX1_freeFrame_38 : decode cX1_freeFrame 38 = .ok (.getfield 39, 3) := by decide +kernel
theorem dX1_freeFrame_41 : decode cX1_freeFrame 41 = .ok (.aload_n 0, 1) := by decide +kernel
theorem dX1_freeFrame_42 : decode cX1_freeFrame 42 = .ok (.getfield 75, 3) := by decide +kernel
theorem dX1_freeFrame_45 : decode cX1_freeFrame 45 = .ok (.baload, 1) := by decide +kernel
theorem dX1_freeFrame_46 : decode cX1_freeFrame 46 = .ok (.ifCond .eq 46, 3) := by decide +kernel
theorem dX1_freeFrame_49 : decode cX1_freeFrame 49 = .ok (.aload_n 0, 1) := by decide +kernel
theorem dX1_freeFrame_50 : decode cX1_freeFrame 50 = .ok (.getfield 39, 3) := by decide +kernel
theorem dX1_freeFrame_53 : decode cX1_freeFrame 53 = .ok (.aload_n 0, 1) := by decide +kernel
theorem dX1_freeFrame_54 : decode cX1_freeFrame 54 = .ok (.getfield 75, 3) := by decide +kernel
theorem dX1_freeFrame_57 : decode cX1_freeFrame 57 = .ok (.iconst 0, 1) := by decide +kernel
theorem dX1_freeFrame_58 : decode cX1_freeFrame 58 = .ok (.bastore, 1) := by decide +kernel
theorem dX1_freeFrame_59 : decode cX1_freeFrame 59 = .ok (.aload_n 0, 1) := by decide +kernel
theorem dX1_freeFrame_60 : decode cX1_freeFrame 60 = .ok (.aload_n 0, 1) := by decide +kernel
theorem dX1_freeFrame_61 : decode cX1_freeFrame 61 = .ok (.getfield 75, 3) := by decide +kernel
theorem dX1_freeFrame_64 : decode cX1_freeFrame 64 = .ok (.iconst 1, 1) := by decide +kernel
theorem dX1_freeFrame_65 : decode cX1_freeFrame 65 = .ok (.iadd, 1) := by decide +kernel
theorem dX1_freeFrame_66 : decode cX1_freeFrame 66 = .ok (.aload_n 0, 1) := by decide +kernel
theorem dX1_freeFrame_67 : decode cX1_freeFrame 67 = .ok (.getfield 45, 3) := by decide +kernel
theorem dX1_freeFrame_70 : decode cX1_freeFrame 70 = .ok (.if_icmp .ge 12, 3) := by decide +kernel
theorem dX1_freeFrame_73 : decode cX1_freeFrame 73 = .ok (.aload_n 0, 1) := by decide +kernel
theorem dX1_freeFrame_74 : decode cX1_freeFrame 74 = .ok (.getfield 75, 3) := by decide +kernel
theorem dX1_freeFrame_77 : decode cX1_freeFrame 77 = .ok (.iconst 1, 1) := by decide +kernel
theorem dX1_freeFrame_78 : decode cX1_freeFrame 78 = .ok (.iadd, 1) := by decide +kernel
theorem dX1_freeFrame_79 : decode cX1_freeFrame 79 = .ok (.goto 4, 3) := by decide +kernel
theorem dX1_freeFrame_82 : decode cX1_freeFrame 82 = .ok (.iconst 0, 1) := by decide +kernel
theorem dX1_freeFrame_83 : decode cX1_freeFrame 83 = .ok (.putfield 75, 3) := by decide +kernel
theorem dX1_freeFrame_86 : decode cX1_freeFrame 86 = .ok (.iinc 1 1, 3) := by decide +kernel
theorem dX1_freeFrame_89 : decode cX1_freeFrame 89 = .ok (.goto (-60), 3) := by decide +kernel
theorem dX1_freeFrame_92 : decode cX1_freeFrame 92 = .ok (.aload_n 0, 1) := by decide +kernel
theorem dX1_freeFrame_93 : decode cX1_freeFrame 93 = .ok (.getfield 75, 3) := by decide +kernel
theorem dX1_freeFrame_96 : decode cX1_freeFrame 96 = .ok (.istore_n 1, 1) := by decide +kernel
theorem dX1_freeFrame_97 : decode cX1_freeFrame 97 = .ok (.aload_n 0, 1) := by decide +kernel
theorem dX1_freeFrame_98 : decode cX1_freeFrame 98 = .ok (.aload_n 0, 1) := by decide +kernel
theorem dX1_freeFrame_99 : decode cX1_freeFrame 99 = .ok (.getfield 75, 3) := by decide +kernel
theorem dX1_freeFrame_102 : decode cX1_freeFrame 102 = .ok (.iconst 1, 1) := by decide +kernel
theorem dX1_freeFrame_103 : decode cX1_freeFrame 103 = .ok (.iadd, 1) := by decide +kernel
theorem dX1_freeFrame_104 : decode cX1_freeFrame 104 = .ok (.aload_n 0, 1) := by decide +kernel
theorem dX1_freeFrame_105 : decode cX1_freeFrame 105 = .ok (.getfield 45, 3) := by decide +kernel
theorem dX1_freeFrame_108 : decode cX1_freeFrame 108 = .ok (.if_icmp .ge 12, 3) := by decide +kernel
theorem dX1_freeFrame_111 : decode cX1_freeFrame 111 = .ok (.aload_n 0, 1) := by decide +kernel
theorem dX1_freeFrame_112 : decode cX1_freeFrame 112 = .ok (.getfield 75, 3) := by decide +kernel
theorem dX1_freeFrame_115 : decode cX1_freeFrame 115 = .ok (.iconst 1, 1) := by decide +kernel
theorem dX1_freeFrame_116 : decode cX1_freeFrame 116 = .ok (.iadd, 1) := by decide +kernel
theorem dX1_freeFrame_117 : decode cX1_freeFrame 117 = .ok (.goto 4, 3) := by decide +kernel
theorem dX1_freeFrame_120 : decode cX1_freeFrame 120 = .ok (.iconst 0, 1) := by decide +kernel
theorem dX1_freeFrame_121 : decode cX1_freeFrame 121 = .ok (.putfield 75, 3) := by decide +kernel
theorem dX1_freeFrame_124 : decode cX1_freeFrame 124 = .ok (.aload_n 0, 1) := by decide +kernel
theorem dX1_freeFrame_125 : decode cX1_freeFrame 125 = .ok (.iload_n 1, 1) := by decide +kernel
theorem dX1_freeFrame_126 : decode cX1_freeFrame 126 = .ok (.invokevirtual 78, 3) := by decide +kernel
theorem dX1_freeFrame_129 : decode cX1_freeFrame 129 = .ok (.iload_n 1, 1) := by decide +kernel
theorem dX1_freeFrame_130 : decode cX1_freeFrame 130 = .ok (.ireturn, 1) := by decide +kernel
theorem dX1_pageOut_0 : decode cX1_pageOut 0 = .ok (.aload_n 0, 1) := by decide +kernel
theorem dX1_pageOut_1 : decode cX1_pageOut 1 = .ok (.getfield 33, 3) := by decide +kernel
theorem dX1_pageOut_4 : decode cX1_pageOut 4 = .ok (.iload_n 1, 1) := by decide +kernel
theorem dX1_pageOut_5 : decode cX1_pageOut 5 = .ok (.baload, 1) := by decide +kernel
theorem dX1_pageOut_6 : decode cX1_pageOut 6 = .ok (.istore_n 2, 1) := by decide +kernel
theorem dX1_pageOut_7 : decode cX1_pageOut 7 = .ok (.aload_n 0, 1) := by decide +kernel
theorem dX1_pageOut_8 : decode cX1_pageOut 8 = .ok (.getfield 42, 3) := by decide +kernel
theorem dX1_pageOut_11 : decode cX1_pageOut 11 = .ok (.iload_n 1, 1) := by decide +kernel
theorem dX1_pageOut_12 : decode cX1_pageOut 12 = .ok (.baload, 1) := by decide +kernel
theorem dX1_pageOut_13 : decode cX1_pageOut 13 = .ok (.ifCond .eq 43, 3) := by decide +kernel
theorem dX1_pageOut_16 : decode cX1_pageOut 16 = .ok (.iconst 0, 1) := by decide +kernel
theorem dX1_pageOut_17 : decode cX1_pageOut 17 = .ok (.istore_n 3, 1) := by decide +kernel
theorem dX1_pageOut_18 : decode cX1_pageOut 18 = .ok (.iload_n 3, 1) := by decide +kernel
theorem dX1_pageOut_19 : decode cX1_pageOut 19 = .ok (.iconst 4, 1) := by decide +kernel
theorem dX1_pageOut_20 : decode cX1_pageOut 20 = .ok (.if_icmp .ge 29, 3) := by decide +kernel
theorem dX1_pageOut_23 : decode cX1_pageOut 23 = .ok (.aload_n 0, 1) := by decide +kernel
theorem dX1_pageOut_24 : decode cX1_pageOut 24 = .ok (.getfield 29, 3) := by decide +kernel
theorem dX1_pageOut_27 : decode cX1_pageOut 27 = .ok (.iconst 4, 1) := by decide +kernel
theorem dX1_pageOut_28 : decode cX1_pageOut 28 = .ok (.iload_n 2, 1) := by decide +kernel
theorem dX1_pageOut_29 : decode cX1_pageOut 29 = .ok (.imul, 1) := by decide +kernel
theorem dX1_pageOut_30 : decode cX1_pageOut 30 = .ok (.iload_n 3, 1) := by decide +kernel
theorem dX1_pageOut_31 : decode cX1_pageOut 31 = .ok (.iadd, 1) := by decide +kernel
theorem dX1_pageOut_32 : decode cX1_pageOut 32 = .ok (.aload_n 0, 1) := by decide +kernel
theorem dX1_pageOut_33 : decode cX1_pageOut 33 = .ok (.getfield 36, 3) := by decide +kernel
theorem dX1_pageOut_36 : decode cX1_pageOut 36 = .ok (.iconst 4, 1) := by decide +kernel
theorem dX1_pageOut_37 : decode cX1_pageOut 37 = .ok (.iload_n 1, 1) := by decide +kernel
theorem dX1_pageOut_38 : decode cX1_pageOut 38 = .ok (.imul, 1) := by decide +kernel
theorem dX1_pageOut_39 : decode cX1_pageOut 39 = .ok (.iload_n 3, 1) := by decide +kernel
theorem dX1_pageOut_40 : decode cX1_pageOut 40 = .ok (.iadd, 1) := by decide +kernel
theorem dX1_pageOut_41 : decode cX1_pageOut 41 = .ok (.iaload, 1) := by decide +kernel
theorem dX1_pageOut_42 : decode cX1_pageOut 42 = .ok (.iastore, 1) := by decide +kernel
theorem dX1_pageOut_43 : decode cX1_pageOut 43 = .ok (.iinc 3 1, 3) := by decide +kernel
theorem dX1_pageOut_46 : decode cX1_pageOut 46 = .ok (.goto (-28), 3) := by decide +kernel
theorem dX1_pageOut_49 : decode cX1_pageOut 49 = .ok (.aload_n 0, 1) := by decide +kernel
theorem dX1_pageOut_50 : decode cX1_pageOut 50 = .ok (.getfield 26, 3) := by decide +kernel
theorem dX1_pageOut_53 : decode cX1_pageOut 53 = .ok (.iload_n 2, 1) := by decide +kernel
theorem dX1_pageOut_54 : decode cX1_pageOut 54 = .ok (.iconst 1, 1) := by decide +kernel
theorem dX1_pageOut_55 : decode cX1_pageOut 55 = .ok (.bastore, 1) := by decide +kernel
theorem dX1_pageOut_56 : decode cX1_pageOut 56 = .ok (.aload_n 0, 1) := by decide +kernel
theorem dX1_pageOut_57 : decode cX1_pageOut 57 = .ok (.getfield 23, 3) := by decide +kernel
theorem dX1_pageOut_60 : decode cX1_pageOut 60 = .ok (.iload_n 2, 1) := by decide +kernel
theorem dX1_pageOut_61 : decode cX1_pageOut 61 = .ok (.iconst (-1), 1) := by decide +kernel
theorem dX1_pageOut_62 : decode cX1_pageOut 62 = .ok (.bastore, 1) := by decide +kernel
theorem dX1_pageOut_63 : decode cX1_pageOut 63 = .ok (.aload_n 0, 1) := by decide +kernel
theorem dX1_pageOut_64 : decode cX1_pageOut 64 = .ok (.getfield 33, 3) := by decide +kernel
theorem dX1_pageOut_67 : decode cX1_pageOut 67 = .ok (.iload_n 1, 1) := by decide +kernel
theorem dX1_pageOut_68 : decode cX1_pageOut 68 = .ok (.iconst (-1), 1) := by decide +kernel
theorem dX1_pageOut_69 : decode cX1_pageOut 69 = .ok (.bastore, 1) := by decide +kernel
theorem dX1_pageOut_70 : decode cX1_pageOut 70 = .ok (.return_, 1) := by decide +kernel
theorem dX1_read_0 : decode cX1_read 0 = .ok (.iload_n 1, 1) := by decide +kernel
theorem dX1_read_1 : decode cX1_read 1 = .ok (.ifCond .lt 27, 3) := by decide +kernel
theorem dX1_read_4 : decode cX1_read 4 = .ok (.iload_n 1, 1) := by decide +kernel
theorem dX1_read_5 : decode cX1_read 5 = .ok (.iconst 3, 1) := by decide +kernel
theorem dX1_read_6 : decode cX1_read 6 = .ok (.if_icmp .gt 22, 3) := by decide +kernel
theorem dX1_read_9 : decode cX1_read 9 = .ok (.iload_n 2, 1) := by decide +kernel
theorem dX1_read_10 : decode cX1_read 10 = .ok (.ifCond .lt 18, 3) := by decide +kernel
theorem dX1_read_13 : decode cX1_read 13 = .ok (.iload_n 2, 1) := by decide +kernel
theorem dX1_read_14 : decode cX1_read 14 = .ok (.bipush 19, 2) := by decide +kernel
theorem dX1_read_16 : decode cX1_read 16 = .ok (.if_icmp .gt 12, 3) := by decide +kernel
theorem dX1_read_19 : decode cX1_read 19 = .ok (.aload_n 0, 1) := by decide +kernel
theorem dX1_read_20 : decode cX1_read 20 = .ok (.getfield 7, 3) := by decide +kernel
theorem dX1_read_23 : decode cX1_read 23 = .ok (.iload_n 1, 1) := by decide +kernel
theorem dX1_read_24 : decode cX1_read 24 = .ok (.baload, 1) := by decide +kernel
theorem dX1_read_25 : decode cX1_read 25 = .ok (.ifCond .ne 5, 3) := by decide +kernel
theorem dX1_read_28 : decode cX1_read 28 = .ok (.iconst 0, 1) := by decide +kernel
theorem dX1_read_29 : decode cX1_read 29 = .ok (.ireturn, 1) := by decide +kernel
theorem dX1_read_30 : decode cX1_read 30 = .ok (.iconst 5, 1) := by decide +kernel
theorem dX1_read_31 : decode cX1_read 31 = .ok (.iload_n 1, 1) := by decide +kernel
theorem dX1_read_32 : decode cX1_read 32 = .ok (.imul, 1) := by decide +kernel
theorem dX1_read_33 : decode cX1_read 33 = .ok (.iload_n 2, 1) := by decide +kernel
theorem dX1_read_34 : decode cX1_read 34 = .ok (.iconst 2, 1) := by decide +kernel
theorem dX1_read_35 : decode cX1_read 35 = .ok (.ishr, 1) := by decide +kernel
theorem dX1_read_36 : decode cX1_read 36 = .ok (.iadd, 1) := by decide +kernel
theorem dX1_read_37 : decode cX1_read 37 = .ok (.istore_n 3, 1) := by decide +kernel
theorem dX1_read_38 : decode cX1_read 38 = .ok (.aload_n 0, 1) := by decide +kernel
theorem dX1_read_39 : decode cX1_read 39 = .ok (.getfield 13, 3) := by decide +kernel
theorem dX1_read_42 : decode cX1_read 42 = .ok (.iload_n 3, 1) := by decide +kernel
theorem dX1_read_43 : decode cX1_read 43 = .ok (.baload, 1) := by decide +kernel
theorem dX1_read_44 : decode cX1_read 44 = .ok (.ifCond .ge 5, 3) := by decide +kernel
theorem dX1_read_47 : decode cX1_read 47 = .ok (.iconst 0, 1) := by decide +kernel
theorem dX1_read_48 : decode cX1_read 48 = .ok (.ireturn, 1) := by decide +kernel
theorem dX1_read_49 : decode cX1_read 49 = .ok (.aload_n 0, 1) := by decide +kernel
theorem dX1_read_50 : decode cX1_read 50 = .ok (.aload_n 0, 1) := by decide +kernel
theorem dX1_read_51 : decode cX1_read 51 = .ok (.getfield 13, 3) := by decide +kernel
theorem dX1_read_54 : decode cX1_read 54 = .ok (.iload_n 3, 1) := by decide +kernel
theorem dX1_read_55 : decode cX1_read 55 = .ok (.baload, 1) := by decide +kernel
theorem dX1_read_56 : decode cX1_read 56 = .ok (.invokevirtual 64, 3) := by decide +kernel
theorem dX1_read_59 : decode cX1_read 59 = .ok (.istore 4, 2) := by decide +kernel
theorem dX1_read_61 : decode cX1_read 61 = .ok (.aload_n 0, 1) := by decide +kernel
theorem dX1_read_62 : decode cX1_read 62 = .ok (.getfield 36, 3) := by decide +kernel
theorem dX1_read_65 : decode cX1_read 65 = .ok (.iconst 4, 1) := by decide +kernel
theorem dX1_read_66 : decode cX1_read 66 = .ok (.iload 4, 2) := by decide +kernel
theorem dX1_read_68 : decode cX1_read 68 = .ok (.imul, 1) := by decide +kernel
theorem dX1_read_69 : decode cX1_read 69 = .ok (.iload_n 2, 1) := by decide +kernel
theorem dX1_read_70 : decode cX1_read 70 = .ok (.iconst 3, 1) := by decide +kernel
theorem dX1_read_71 : decode cX1_read 71 = .ok (.iand, 1) := by decide +kernel
theorem dX1_read_72 : decode cX1_read 72 = .ok (.iadd, 1) := by decide +kernel
theorem dX1_read_73 : decode cX1_read 73 = .ok (.iaload, 1) := by decide +kernel
theorem dX1_read_74 : decode cX1_read 74 = .ok (.ireturn, 1) := by decide +kernel
theorem dX1_isMapped_0 : decode cX1_isMapped 0 = .ok (.aload_n 0, 1) := by decide +kernel
theorem dX1_isMapped_1 : decode cX1_isMapped 1 = .ok (.iload_n 1, 1) := by decide +kernel
theorem dX1_isMapped_2 : decode cX1_isMapped 2 = .ok (.iload_n 2, 1) := by decide +kernel
theorem dX1_isMapped_3 : decode cX1_isMapped 3 = .ok (.invokevirtual 49, 3) := by decide +kernel
theorem dX1_isMapped_6 : decode cX1_isMapped 6 = .ok (.ifCond .ne 20, 3) := by decide +kernel
theorem dX1_isMapped_9 : decode cX1_isMapped 9 = .ok (.aload_n 0, 1) := by decide +kernel
theorem dX1_isMapped_10 : decode cX1_isMapped 10 = .ok (.getfield 13, 3) := by decide +kernel
theorem dX1_isMapped_13 : decode cX1_isMapped 13 = .ok (.iconst 5, 1) := by decide +kernel
theorem dX1_isMapped_14 : decode cX1_isMapped 14 = .ok (.iload_n 1, 1) := by decide +kernel
theorem dX1_isMapped_15 : decode cX1_isMapped 15 = .ok (.imul, 1) := by decide +kernel
theorem dX1_isMapped_16 : decode cX1_isMapped 16 = .ok (.iload_n 2, 1) := by decide +kernel
theorem dX1_isMapped_17 : decode cX1_isMapped 17 = .ok (.iadd, 1) := by decide +kernel
theorem dX1_isMapped_18 : decode cX1_isMapped 18 = .ok (.baload, 1) := by decide +kernel
theorem dX1_isMapped_19 : decode cX1_isMapped 19 = .ok (.ifCond .lt 7, 3) := by decide +kernel
theorem dX1_isMapped_22 : decode cX1_isMapped 22 = .ok (.iconst 1, 1) := by decide +kernel
theorem dX1_isMapped_23 : decode cX1_isMapped 23 = .ok (.goto 4, 3) := by decide +kernel
theorem dX1_isMapped_26 : decode cX1_isMapped 26 = .ok (.iconst 0, 1) := by decide +kernel
theorem dX1_isMapped_27 : decode cX1_isMapped 27 = .ok (.ireturn, 1) := by decide +kernel
theorem dX1_showing_0 : decode cX1_showing 0 = .ok (.aload_n 0, 1) := by decide +kernel
theorem dX1_showing_1 : decode cX1_showing 1 = .ok (.iload_n 1, 1) := by decide +kernel
theorem dX1_showing_2 : decode cX1_showing 2 = .ok (.iload_n 2, 1) := by decide +kernel
theorem dX1_showing_3 : decode cX1_showing 3 = .ok (.invokevirtual 49, 3) := by decide +kernel
theorem dX1_showing_6 : decode cX1_showing 6 = .ok (.istore_n 3, 1) := by decide +kernel
theorem dX1_showing_7 : decode cX1_showing 7 = .ok (.iload_n 3, 1) := by decide +kernel
theorem dX1_showing_8 : decode cX1_showing 8 = .ok (.ifCond .eq 5, 3) := by decide +kernel
theorem dX1_showing_11 : decode cX1_showing 11 = .ok (.iload_n 3, 1) := by decide +kernel
theorem dX1_showing_12 : decode cX1_showing 12 = .ok (.ireturn, 1) := by decide +kernel
theorem dX1_showing_13 : decode cX1_showing 13 = .ok (.iconst 5, 1) := by decide +kernel
theorem dX1_showing_14 : decode cX1_showing 14 = .ok (.iload_n 1, 1) := by decide +kernel
theorem dX1_showing_15 : decode cX1_showing 15 = .ok (.imul, 1) := by decide +kernel
theorem dX1_showing_16 : decode cX1_showing 16 = .ok (.iload_n 2, 1) := by decide +kernel
theorem dX1_showing_17 : decode cX1_showing 17 = .ok (.iadd, 1) := by decide +kernel
theorem dX1_showing_18 : decode cX1_showing 18 = .ok (.istore 4, 2) := by decide +kernel
theorem dX1_showing_20 : decode cX1_showing 20 = .ok (.aload_n 0, 1) := by decide +kernel
theorem dX1_showing_21 : decode cX1_showing 21 = .ok (.getfield 13, 3) := by decide +kernel
theorem dX1_showing_24 : decode cX1_showing 24 = .ok (.iload 4, 2) := by decide +kernel
theorem dX1_showing_26 : decode cX1_showing 26 = .ok (.baload, 1) := by decide +kernel
theorem dX1_showing_27 : decode cX1_showing 27 = .ok (.ifCond .ge 6, 3) := by decide +kernel
theorem dX1_showing_30 : decode cX1_showing 30 = .ok (.bipush (-3), 2) := by decide +kernel
theorem dX1_showing_32 : decode cX1_showing 32 = .ok (.ireturn, 1) := by decide +kernel
theorem dX1_showing_33 : decode cX1_showing 33 = .ok (.aload_n 0, 1) := by decide +kernel
theorem dX1_showing_34 : decode cX1_showing 34 = .ok (.getfield 17, 3) := by decide +kernel
theorem dX1_showing_37 : decode cX1_showing 37 = .ok (.iload 4, 2) := by decide +kernel
theorem dX1_showing_39 : decode cX1_showing 39 = .ok (.baload, 1) := by decide +kernel
theorem dX1_showing_40 : decode cX1_showing 40 = .ok (.ifCond .eq 18, 3) := by decide +kernel
theorem dX1_showing_43 : decode cX1_showing 43 = .ok (.aload_n 0, 1) := by decide +kernel
theorem dX1_showing_44 : decode cX1_showing 44 = .ok (.getfield 20, 3) := by decide +kernel
theorem dX1_showing_47 : decode cX1_showing 47 = .ok (.aload_n 0, 1) := by decide +kernel
theorem dX1_showing_48 : decode cX1_showing 48 = .ok (.getfield 13, 3) := by decide +kernel
theorem dX1_showing_51 : decode cX1_showing 51 = .ok (.iload 4, 2) := by decide +kernel
theorem dX1_showing_53 : decode cX1_showing 53 = .ok (.baload, 1) := by decide +kernel
theorem dX1_showing_54 : decode cX1_showing 54 = .ok (.baload, 1) := by decide +kernel
theorem dX1_showing_55 : decode cX1_showing 55 = .ok (.goto 4, 3) := by decide +kernel
theorem dX1_showing_58 : decode cX1_showing 58 = .ok (.iconst 1, 1) := by decide +kernel
theorem dX1_showing_59 : decode cX1_showing 59 = .ok (.ireturn, 1) := by decide +kernel
theorem dX1_total_0 : decode cX1_total 0 = .ok (.lconst 0, 1) := by decide +kernel
theorem dX1_total_1 : decode cX1_total 1 = .ok (.lstore_n 1, 1) := by decide +kernel
theorem dX1_total_2 : decode cX1_total 2 = .ok (.iconst 0, 1) := by decide +kernel
theorem dX1_total_3 : decode cX1_total 3 = .ok (.istore_n 3, 1) := by decide +kernel
theorem dX1_total_4 : decode cX1_total 4 = .ok (.iconst 0, 1) := by decide +kernel
theorem dX1_total_5 : decode cX1_total 5 = .ok (.istore 4, 2) := by decide +kernel
theorem dX1_total_7 : decode cX1_total 7 = .ok (.iload 4, 2) := by decide +kernel
theorem dX1_total_9 : decode cX1_total 9 = .ok (.bipush 20, 2) := by decide +kernel
theorem dX1_total_11 : decode cX1_total 11 = .ok (.if_icmp .ge 78, 3) := by decide +kernel
theorem dX1_total_14 : decode cX1_total 14 = .ok (.aload_n 0, 1) := by decide +kernel
theorem dX1_total_15 : decode cX1_total 15 = .ok (.getfield 13, 3) := by decide +kernel
theorem dX1_total_18 : decode cX1_total 18 = .ok (.iload 4, 2) := by decide +kernel
theorem dX1_total_20 : decode cX1_total 20 = .ok (.baload, 1) := by decide +kernel
theorem dX1_total_21 : decode cX1_total 21 = .ok (.ifCond .ge 6, 3) := by decide +kernel
theorem dX1_total_24 : decode cX1_total 24 = .ok (.goto 59, 3) := by decide +kernel
theorem dX1_total_27 : decode cX1_total 27 = .ok (.aload_n 0, 1) := by decide +kernel
theorem dX1_total_28 : decode cX1_total 28 = .ok (.getfield 13, 3) := by decide +kernel
theorem dX1_total_31 : decode cX1_total 31 = .ok (.iload 4, 2) := by decide +kernel
theorem dX1_total_33 : decode cX1_total 33 = .ok (.baload, 1) := by decide +kernel
theorem dX1_total_34 : decode cX1_total 34 = .ok (.istore 5, 2) := by decide +kernel
theorem dX1_total_36 : decode cX1_total 36 = .ok (.aload_n 0, 1) := by decide +kernel
theorem dX1_total_37 : decode cX1_total 37 = .ok (.getfield 17, 3) := by decide +kernel
theorem dX1_total_40 : decode cX1_total 40 = .ok (.iload 4, 2) := by decide +kernel
theorem dX1_total_42 : decode cX1_total 42 = .ok (.baload, 1) := by decide +kernel
theorem dX1_total_43 : decode cX1_total 43 = .ok (.ifCond .eq 16, 3) := by decide +kernel
theorem dX1_total_46 : decode cX1_total 46 = .ok (.iload_n 3, 1) := by decide +kernel
theorem dX1_total_47 : decode cX1_total 47 = .ok (.iload 5, 2) := by decide +kernel
theorem dX1_total_49 : decode cX1_total 49 = .ok (.ishr, 1) := by decide +kernel
theorem dX1_total_50 : decode cX1_total 50 = .ok (.iconst 1, 1) := by decide +kernel
theorem dX1_total_51 : decode cX1_total 51 = .ok (.iand, 1) := by decide +kernel
theorem dX1_total_52 : decode cX1_total 52 = .ok (.ifCond .eq 7, 3) := by decide +kernel
theorem dX1_total_55 : decode cX1_total 55 = .ok (.iconst 1, 1) := by decide +kernel
theorem dX1_total_56 : decode cX1_total 56 = .ok (.goto 4, 3) := by decide +kernel
theorem dX1_total_59 : decode cX1_total 59 = .ok (.iconst 0, 1) := by decide +kernel
theorem dX1_total_60 : decode cX1_total 60 = .ok (.istore 6, 2) := by decide +kernel
theorem dX1_total_62 : decode cX1_total 62 = .ok (.iload_n 3, 1) := by decide +kernel
theorem dX1_total_63 : decode cX1_total 63 = .ok (.iconst 1, 1) := by decide +kernel
theorem dX1_total_64 : decode cX1_total 64 = .ok (.iload 5, 2) := by decide +kernel
theorem dX1_total_66 : decode cX1_total 66 = .ok (.ishl, 1) := by decide +kernel
theorem dX1_total_67 : decode cX1_total 67 = .ok (.ior, 1) := by decide +kernel
theorem dX1_total_68 : decode cX1_total 68 = .ok (.istore_n 3, 1) := by decide +kernel
theorem dX1_total_69 : decode cX1_total 69 = .ok (.iload 6, 2) := by decide +kernel
theorem dX1_total_71 : decode cX1_total 71 = .ok (.ifCond .ne 12, 3) := by decide +kernel
theorem dX1_total_74 : decode cX1_total 74 = .ok (.lload_n 1, 1) := by decide +kernel
theorem dX1_total_75 : decode cX1_total 75 = .ok (.aload_n 0, 1) := by decide +kernel
theorem dX1_total_76 : decode cX1_total 76 = .ok (.iload 5, 2) := by decide +kernel
theorem dX1_total_78 : decode cX1_total 78 = .ok (.invokevirtual 68, 3) := by decide +kernel
theorem dX1_total_81 : decode cX1_total 81 = .ok (.ladd, 1) := by decide +kernel
theorem dX1_total_82 : decode cX1_total 82 = .ok (.lstore_n 1, 1) := by decide +kernel
theorem dX1_total_83 : decode cX1_total 83 = .ok (.iinc 4 1, 3) := by decide +kernel
theorem dX1_total_86 : decode cX1_total 86 = .ok (.goto (-79), 3) := by decide +kernel
theorem dX1_total_89 : decode cX1_total 89 = .ok (.lload_n 1, 1) := by decide +kernel
theorem dX1_total_90 : decode cX1_total 90 = .ok (.lreturn, 1) := by decide +kernel
theorem dX1_sumOf_0 : decode cX1_sumOf 0 = .ok (.lconst 0, 1) := by decide +kernel
theorem dX1_sumOf_1 : decode cX1_sumOf 1 = .ok (.lstore_n 2, 1) := by decide +kernel
theorem dX1_sumOf_2 : decode cX1_sumOf 2 = .ok (.iconst 0, 1) := by decide +kernel
theorem dX1_sumOf_3 : decode cX1_sumOf 3 = .ok (.istore 4, 2) := by decide +kernel
theorem dX1_sumOf_5 : decode cX1_sumOf 5 = .ok (.iload 4, 2) := by decide +kernel
theorem dX1_sumOf_7 : decode cX1_sumOf 7 = .ok (.iconst 4, 1) := by decide +kernel
theorem dX1_sumOf_8 : decode cX1_sumOf 8 = .ok (.if_icmp .ge 65, 3) := by decide +kernel
theorem dX1_sumOf_11 : decode cX1_sumOf 11 = .ok (.aload_n 0, 1) := by decide +kernel
theorem dX1_sumOf_12 : decode cX1_sumOf 12 = .ok (.getfield 23, 3) := by decide +kernel
theorem dX1_sumOf_15 : decode cX1_sumOf 15 = .ok (.iload_n 1, 1) := by decide +kernel
theorem dX1_sumOf_16 : decode cX1_sumOf 16 = .ok (.baload, 1) := by decide +kernel
theorem dX1_sumOf_17 : decode cX1_sumOf 17 = .ok (.ifCond .lt 26, 3) := by decide +kernel
theorem dX1_sumOf_20 : decode cX1_sumOf 20 = .ok (.lload_n 2, 1) := by decide +kernel
theorem dX1_sumOf_21 : decode cX1_sumOf 21 = .ok (.aload_n 0, 1) := by decide +kernel
theorem dX1_sumOf_22 : decode cX1_sumOf 22 = .ok (.getfield 36, 3) := by decide +kernel
theorem dX1_sumOf_25 : decode cX1_sumOf 25 = .ok (.iconst 4, 1) := by decide +kernel
theorem dX1_sumOf_26 : decode cX1_sumOf 26 = .ok (.aload_n 0, 1) := by decide +kernel
theorem dX1_sumOf_27 : decode cX1_sumOf 27 = .ok (.getfield 23, 3) := by decide +kernel
theorem dX1_sumOf_30 : decode cX1_sumOf 30 = .ok (.iload_n 1, 1) := by decide +kernel
theorem dX1_sumOf_31 : decode cX1_sumOf 31 = .ok (.baload, 1) := by decide +kernel
theorem dX1_sumOf_32 : decode cX1_sumOf 32 = .ok (.imul, 1) := by decide +kernel
theorem dX1_sumOf_33 : decode cX1_sumOf 33 = .ok (.iload 4, 2) := by decide +kernel
theorem dX1_sumOf_35 : decode cX1_sumOf 35 = .ok (.iadd, 1) := by decide +kernel
theorem dX1_sumOf_36 : decode cX1_sumOf 36 = .ok (.iaload, 1) := by decide +kernel
theorem dX1_sumOf_37 : decode cX1_sumOf 37 = .ok (.i2l, 1) := by decide +kernel
theorem dX1_sumOf_38 : decode cX1_sumOf 38 = .ok (.ladd, 1) := by decide +kernel
theorem dX1_sumOf_39 : decode cX1_sumOf 39 = .ok (.lstore_n 2, 1) := by decide +kernel
theorem dX1_sumOf_40 : decode cX1_sumOf 40 = .ok (.goto 27, 3) := by decide +kernel
theorem dX1_sumOf_43 : decode cX1_sumOf 43 = .ok (.aload_n 0, 1) := by decide +kernel
theorem dX1_sumOf_44 : decode cX1_sumOf 44 = .ok (.getfield 26, 3) := by decide +kernel
theorem dX1_sumOf_47 : decode cX1_sumOf 47 = .ok (.iload_n 1, 1) := by decide +kernel
theorem dX1_sumOf_48 : decode cX1_sumOf 48 = .ok (.baload, 1) := by decide +kernel
theorem dX1_sumOf_49 : decode cX1_sumOf 49 = .ok (.ifCond .eq 18, 3) := by decide +kernel
theorem dX1_sumOf_52 : decode cX1_sumOf 52 = .ok (.lload_n 2, 1) := by decide +kernel
theorem dX1_sumOf_53 : decode cX1_sumOf 53 = .ok (.aload_n 0, 1) := by decide +kernel
theorem dX1_sumOf_54 : decode cX1_sumOf 54 = .ok (.getfield 29, 3) := by decide +kernel
theorem dX1_sumOf_57 : decode cX1_sumOf 57 = .ok (.iconst 4, 1) := by decide +kernel
theorem dX1_sumOf_58 : decode cX1_sumOf 58 = .ok (.iload_n 1, 1) := by decide +kernel
theorem dX1_sumOf_59 : decode cX1_sumOf 59 = .ok (.imul, 1) := by decide +kernel
theorem dX1_sumOf_60 : decode cX1_sumOf 60 = .ok (.iload 4, 2) := by decide +kernel
theorem dX1_sumOf_62 : decode cX1_sumOf 62 = .ok (.iadd, 1) := by decide +kernel
theorem dX1_sumOf_63 : decode cX1_sumOf 63 = .ok (.iaload, 1) := by decide +kernel
theorem dX1_sumOf_64 : decode cX1_sumOf 64 = .ok (.i2l, 1) := by decide +kernel
theorem dX1_sumOf_65 : decode cX1_sumOf 65 = .ok (.ladd, 1) := by decide +kernel
theorem dX1_sumOf_66 : decode cX1_sumOf 66 = .ok (.lstore_n 2, 1) := by decide +kernel
theorem dX1_sumOf_67 : decode cX1_sumOf 67 = .ok (.iinc 4 1, 3) := by decide +kernel
theorem dX1_sumOf_70 : decode cX1_sumOf 70 = .ok (.goto (-65), 3) := by decide +kernel
theorem dX1_sumOf_73 : decode cX1_sumOf 73 = .ok (.lload_n 2, 1) := by decide +kernel
theorem dX1_sumOf_74 : decode cX1_sumOf 74 = .ok (.lreturn, 1) := by decide +kernel
theorem dX1_sheets_0 : decode cX1_sheets 0 = .ok (.iconst 0, 1) := by decide +kernel
theorem dX1_sheets_1 : decode cX1_sheets 1 = .ok (.istore_n 1, 1) := by decide +kernel
theorem dX1_sheets_2 : decode cX1_sheets 2 = .ok (.iconst 0, 1) := by decide +kernel
theorem dX1_sheets_3 : decode cX1_sheets 3 = .ok (.istore_n 2, 1) := by decide +kernel
theorem dX1_sheets_4 : decode cX1_sheets 4 = .ok (.iconst 0, 1) := by decide +kernel
theorem dX1_sheets_5 : decode cX1_sheets 5 = .ok (.istore_n 3, 1) := by decide +kernel
theorem dX1_sheets_6 : decode cX1_sheets 6 = .ok (.iload_n 3, 1) := by decide +kernel
theorem dX1_sheets_7 : decode cX1_sheets 7 = .ok (.bipush 20, 2) := by decide +kernel
theorem dX1_sheets_9 : decode cX1_sheets 9 = .ok (.if_icmp .ge 57, 3) := by decide +kernel
theorem dX1_sheets_12 : decode cX1_sheets 12 = .ok (.aload_n 0, 1) := by decide +kernel
theorem dX1_sheets_13 : decode cX1_sheets 13 = .ok (.getfield 13, 3) := by decide +kernel
theorem dX1_sheets_16 : decode cX1_sheets 16 = .ok (.iload_n 3, 1) := by decide +kernel
theorem dX1_sheets_17 : decode cX1_sheets 17 = .ok (.baload, 1) := by decide +kernel
theorem dX1_sheets_18 : decode cX1_sheets 18 = .ok (.ifCond .ge 6, 3) := by decide +kernel
theorem dX1_sheets_21 : decode cX1_sheets 21 = .ok (.goto 39, 3) := by decide +kernel
theorem dX1_sheets_24 : decode cX1_sheets 24 = .ok (.aload_n 0, 1) := by decide +kernel
theorem dX1_sheets_25 : decode cX1_sheets 25 = .ok (.getfield 17, 3) := by decide +kernel
theorem dX1_sheets_28 : decode cX1_sheets 28 = .ok (.iload_n 3, 1) := by decide +kernel
theorem dX1_sheets_29 : decode cX1_sheets 29 = .ok (.baload, 1) := by decide +kernel
theorem dX1_sheets_30 : decode cX1_sheets 30 = .ok (.ifCond .eq 16, 3) := by decide +kernel
theorem dX1_sheets_33 : decode cX1_sheets 33 = .ok (.iload_n 2, 1) := by decide +kernel
theorem dX1_sheets_34 : decode cX1_sheets 34 = .ok (.aload_n 0, 1) := by decide +kernel
theorem dX1_sheets_35 : decode cX1_sheets 35 = .ok (.getfield 13, 3) := by decide +kernel
theorem dX1_sheets_38 : decode cX1_sheets 38 = .ok (.iload_n 3, 1) := by decide +kernel
theorem dX1_sheets_39 : decode cX1_sheets 39 = .ok (.baload, 1) := by decide +kernel
theorem dX1_sheets_40 : decode cX1_sheets 40 = .ok (.ishr, 1) := by decide +kernel
theorem dX1_sheets_41 : decode cX1_sheets 41 = .ok (.iconst 1, 1) := by decide +kernel
theorem dX1_sheets_42 : decode cX1_sheets 42 = .ok (.iand, 1) := by decide +kernel
theorem dX1_sheets_43 : decode cX1_sheets 43 = .ok (.ifCond .ne 6, 3) := by decide +kernel
theorem dX1_sheets_46 : decode cX1_sheets 46 = .ok (.iinc 1 1, 3) := by decide +kernel
theorem dX1_sheets_49 : decode cX1_sheets 49 = .ok (.iload_n 2, 1) := by decide +kernel
theorem dX1_sheets_50 : decode cX1_sheets 50 = .ok (.iconst 1, 1) := by decide +kernel
theorem dX1_sheets_51 : decode cX1_sheets 51 = .ok (.aload_n 0, 1) := by decide +kernel
theorem dX1_sheets_52 : decode cX1_sheets 52 = .ok (.getfield 13, 3) := by decide +kernel
theorem dX1_sheets_55 : decode cX1_sheets 55 = .ok (.iload_n 3, 1) := by decide +kernel
theorem dX1_sheets_56 : decode cX1_sheets 56 = .ok (.baload, 1) := by decide +kernel
theorem dX1_sheets_57 : decode cX1_sheets 57 = .ok (.ishl, 1) := by decide +kernel
theorem dX1_sheets_58 : decode cX1_sheets 58 = .ok (.ior, 1) := by decide +kernel
theorem dX1_sheets_59 : decode cX1_sheets 59 = .ok (.istore_n 2, 1) := by decide +kernel
theorem dX1_sheets_60 : decode cX1_sheets 60 = .ok (.iinc 3 1, 3) := by decide +kernel
theorem dX1_sheets_63 : decode cX1_sheets 63 = .ok (.goto (-57), 3) := by decide +kernel
theorem dX1_sheets_66 : decode cX1_sheets 66 = .ok (.iload_n 1, 1) := by decide +kernel
theorem dX1_sheets_67 : decode cX1_sheets 67 = .ok (.ireturn, 1) := by decide +kernel
end
section
/-! CowMemoryLaw -/
set_option maxRecDepth 100000
def RX0 : String := "CowMemoryLaw"
abbrev cX0_cell : ByteArray := method_2_code
def yX0_cell : MethodName := ⟨RX0, "cell", "([II)I"⟩
theorem dX0_cell_0 : decode cX0_cell 0 = .ok (.iload_n 1, 1) := by decide +kernel
theorem dX0_cell_1 : decode cX0_cell 1 = .ok (.aload_n 0, 1) := by decide +kernel
theorem dX0_cell_2 : decode cX0_cell 2 = .ok (.arraylength, 1) := by decide +kernel
theorem dX0_cell_3 : decode cX0_cell 3 = .ok (.if_icmp .ge 9, 3) := by decide +kernel
theorem dX0_cell_6 : decode cX0_cell 6 = .ok (.aload_n 0, 1) := by decide +kernel
theorem dX0_cell_7 : decode cX0_cell 7 = .ok (.iload_n 1, 1) := by decide +kernel
theorem dX0_cell_8 : decode cX0_cell 8 = .ok (.iaload, 1) := by decide +kernel
theorem dX0_cell_9 : decode cX0_cell 9 = .ok (.goto 4, 3) := by decide +kernel
theorem dX0_cell_12 : decode cX0_cell 12 = .ok (.iconst 0, 1) := by decide +kernel
theorem dX0_cell_13 : decode cX0_cell 13 = .ok (.ireturn, 1) := by decide +kernel
theorem q13 : (Jvm.Cond.initialized "CowMemoryLaw") ∈ lw_all := lw_g (lw_at lw_m0 0 rfl) rfl
theorem q16 : (Jvm.Cond.classLink "CowMemoryLaw" (7 : Nat) "CowMemory") ∈ lw_all := lw_g (lw_at lw_m0 3 rfl) rfl
theorem q18 : (Jvm.Cond.methodLink "CowMemoryLaw" (15 : Nat) ({ cls := "CowMemory", name := "<init>", desc := "(I)V" } : Jvm.MethodName)) ∈ lw_all := lw_g (lw_at lw_m0 5 rfl) rfl
theorem q67 : (Jvm.Cond.methodLink "CowMemoryLaw" (21 : Nat) ({ cls := "CowMemory", name := "map", desc := "(IIZ)I" } : Jvm.MethodName)) ∈ lw_all := lw_g (lw_at lw_m0 54 rfl) rfl
theorem q79 : (Jvm.Cond.methodLink "CowMemoryLaw" (26 : Nat) ({ cls := "CowMemory", name := "unmap", desc := "(II)I" } : Jvm.MethodName)) ∈ lw_all := lw_g (lw_at lw_m0 66 rfl) rfl
theorem q87 : (Jvm.Cond.methodLink "CowMemoryLaw" (31 : Nat) ({ cls := "CowMemory", name := "attach", desc := "(II)I" } : Jvm.MethodName)) ∈ lw_all := lw_g (lw_at lw_m0 74 rfl) rfl
theorem q91 : (Jvm.Cond.methodLink "CowMemoryLaw" (35 : Nat) ({ cls := "CowMemory", name := "fork", desc := "(II)I" } : Jvm.MethodName)) ∈ lw_all := lw_g (lw_at lw_m0 78 rfl) rfl
theorem q95 : (Jvm.Cond.methodLink "CowMemoryLaw" (39 : Nat) ({ cls := "CowMemory", name := "exit", desc := "(I)I" } : Jvm.MethodName)) ∈ lw_all := lw_g (lw_at lw_m0 82 rfl) rfl
theorem q99 : (Jvm.Cond.methodLink "CowMemoryLaw" (44 : Nat) ({ cls := "CowMemory", name := "write", desc := "(III)I" } : Jvm.MethodName)) ∈ lw_all := lw_g (lw_at lw_m0 86 rfl) rfl
theorem q119 : (Jvm.Cond.methodLink "CowMemoryLaw" (49 : Nat) ({ cls := "CowMemory", name := "read", desc := "(II)I" } : Jvm.MethodName)) ∈ lw_all := lw_g (lw_at lw_m0 106 rfl) rfl
theorem q123 : (Jvm.Cond.methodLink "CowMemoryLaw" (53 : Nat) ({ cls := "CowMemory", name := "isMapped", desc := "(II)Z" } : Jvm.MethodName)) ∈ lw_all := lw_g (lw_at lw_m0 110 rfl) rfl
theorem q127 : (Jvm.Cond.methodLink "CowMemoryLaw" (58 : Nat) ({ cls := "CowMemory", name := "showing", desc := "(II)I" } : Jvm.MethodName)) ∈ lw_all := lw_g (lw_at lw_m0 114 rfl) rfl
theorem q131 : (Jvm.Cond.methodLink "CowMemoryLaw" (62 : Nat) ({ cls := "CowMemory", name := "total", desc := "()J" } : Jvm.MethodName)) ∈ lw_all := lw_g (lw_at lw_m0 118 rfl) rfl
theorem q139 : (Jvm.Cond.methodLink "CowMemoryLaw" (67 : Nat) ({ cls := "CowMemory", name := "sheets", desc := "()I" } : Jvm.MethodName)) ∈ lw_all := lw_g (lw_at lw_m0 126 rfl) rfl
theorem q143 : (Jvm.Cond.methodLink "CowMemoryLaw" (9 : Nat) ({ cls := "CowMemoryLaw", name := "cell", desc := "([II)I" } : Jvm.MethodName)) ∈ lw_all := lw_g (lw_at lw_m0 130 rfl) rfl
theorem q144 : (Jvm.Cond.static ({ cls := "CowMemoryLaw", name := "cell", desc := "([II)I" } : Jvm.MethodName)) ∈ lw_all := lw_g (lw_at lw_m0 131 rfl) rfl
theorem q145 : (Jvm.Cond.code ({ cls := "CowMemoryLaw", name := "cell", desc := "([II)I" } : Jvm.MethodName) method_2_code (2 : Nat) (Option.some Jvm.ClassFile.FieldType.int)) ∈ lw_all := lw_g (lw_at lw_m0 132 rfl) rfl
theorem q146 : (Jvm.Cond.classLink "CowMemoryLaw" (18 : Nat) "CowMemoryModel") ∈ lw_all := lw_g (lw_at lw_m0 133 rfl) rfl
theorem q148 : (Jvm.Cond.methodLink "CowMemoryLaw" (20 : Nat) ({ cls := "CowMemoryModel", name := "<init>", desc := "(I)V" } : Jvm.MethodName)) ∈ lw_all := lw_g (lw_at lw_m0 135 rfl) rfl
theorem q165 : (Jvm.Cond.methodLink "CowMemoryLaw" (25 : Nat) ({ cls := "CowMemoryModel", name := "map", desc := "(IIZ)I" } : Jvm.MethodName)) ∈ lw_all := lw_g (lw_at lw_m0 152 rfl) rfl
theorem q185 : (Jvm.Cond.methodLink "CowMemoryLaw" (30 : Nat) ({ cls := "CowMemoryModel", name := "unmap", desc := "(II)I" } : Jvm.MethodName)) ∈ lw_all := lw_g (lw_at lw_m0 172 rfl) rfl
theorem q189 : (Jvm.Cond.methodLink "CowMemoryLaw" (34 : Nat) ({ cls := "CowMemoryModel", name := "attach", desc := "(II)I" } : Jvm.MethodName)) ∈ lw_all := lw_g (lw_at lw_m0 176 rfl) rfl
theorem q193 : (Jvm.Cond.methodLink "CowMemoryLaw" (38 : Nat) ({ cls := "CowMemoryModel", name := "fork", desc := "(II)I" } : Jvm.MethodName)) ∈ lw_all := lw_g (lw_at lw_m0 180 rfl) rfl
theorem q201 : (Jvm.Cond.methodLink "CowMemoryLaw" (43 : Nat) ({ cls := "CowMemoryModel", name := "exit", desc := "(I)I" } : Jvm.MethodName)) ∈ lw_all := lw_g (lw_at lw_m0 188 rfl) rfl
theorem q205 : (Jvm.Cond.methodLink "CowMemoryLaw" (48 : Nat) ({ cls := "CowMemoryModel", name := "write", desc := "(III)I" } : Jvm.MethodName)) ∈ lw_all := lw_g (lw_at lw_m0 192 rfl) rfl
theorem q209 : (Jvm.Cond.methodLink "CowMemoryLaw" (52 : Nat) ({ cls := "CowMemoryModel", name := "read", desc := "(II)I" } : Jvm.MethodName)) ∈ lw_all := lw_g (lw_at lw_m0 196 rfl) rfl
theorem q213 : (Jvm.Cond.methodLink "CowMemoryLaw" (57 : Nat) ({ cls := "CowMemoryModel", name := "isMapped", desc := "(II)Z" } : Jvm.MethodName)) ∈ lw_all := lw_g (lw_at lw_m0 200 rfl) rfl
theorem q217 : (Jvm.Cond.methodLink "CowMemoryLaw" (61 : Nat) ({ cls := "CowMemoryModel", name := "showing", desc := "(II)I" } : Jvm.MethodName)) ∈ lw_all := lw_g (lw_at lw_m0 204 rfl) rfl
theorem q221 : (Jvm.Cond.methodLink "CowMemoryLaw" (66 : Nat) ({ cls := "CowMemoryModel", name := "total", desc := "()J" } : Jvm.MethodName)) ∈ lw_all := lw_g (lw_at lw_m0 208 rfl) rfl
theorem q225 : (Jvm.Cond.methodLink "CowMemoryLaw" (71 : Nat) ({ cls := "CowMemoryModel", name := "sheets", desc := "()I" } : Jvm.MethodName)) ∈ lw_all := lw_g (lw_at lw_m0 212 rfl) rfl
/-! the law's own entry -/
set_option maxRecDepth 100000
abbrev cL_law : ByteArray := code
theorem dL_law_0 : decode cL_law 0 = .ok (.new 7, 3) := by decide +kernel
theorem dL_law_3 : decode cL_law 3 = .ok (.dup, 1) := by decide +kernel
theorem dL_law_4 : decode cL_law 4 = .ok (.aload_n 0, 1) := by decide +kernel
theorem dL_law_5 : decode cL_law 5 = .ok (.iconst 0, 1) := by decide +kernel
theorem dL_law_6 : decode cL_law 6 = .ok (.invokestatic 9, 3) := by decide +kernel
theorem dL_law_9 : decode cL_law 9 = .ok (.invokespecial 15, 3) := by decide +kernel
theorem dL_law_12 : decode cL_law 12 = .ok (.astore_n 1, 1) := by decide +kernel
theorem dL_law_13 : decode cL_law 13 = .ok (.new 18, 3) := by decide +kernel
theorem dL_law_16 : decode cL_law 16 = .ok (.dup, 1) := by decide +kernel
theorem dL_law_17 : decode cL_law 17 = .ok (.aload_n 0, 1) := by decide +kernel
theorem dL_law_18 : decode cL_law 18 = .ok (.iconst 0, 1) := by decide +kernel
theorem dL_law_19 : decode cL_law 19 = .ok (.invokestatic 9, 3) := by decide +kernel
theorem dL_law_22 : decode cL_law 22 = .ok (.invokespecial 20, 3) := by decide +kernel
theorem dL_law_25 : decode cL_law 25 = .ok (.astore_n 2, 1) := by decide +kernel
theorem dL_law_26 : decode cL_law 26 = .ok (.iconst 1, 1) := by decide +kernel
theorem dL_law_27 : decode cL_law 27 = .ok (.istore_n 3, 1) := by decide +kernel
theorem dL_law_28 : decode cL_law 28 = .ok (.iload_n 3, 1) := by decide +kernel
theorem dL_law_29 : decode cL_law 29 = .ok (.aload_n 0, 1) := by decide +kernel
theorem dL_law_30 : decode cL_law 30 = .ok (.arraylength, 1) := by decide +kernel
theorem dL_law_31 : decode cL_law 31 = .ok (.iconst 4, 1) := by decide +kernel
theorem dL_law_32 : decode cL_law 32 = .ok (.isub, 1) := by decide +kernel
theorem dL_law_33 : decode cL_law 33 = .ok (.if_icmp .gt 423, 3) := by decide +kernel
theorem dL_law_36 : decode cL_law 36 = .ok (.aload_n 0, 1) := by decide +kernel
theorem dL_law_37 : decode cL_law 37 = .ok (.iload_n 3, 1) := by decide +kernel
theorem dL_law_38 : decode cL_law 38 = .ok (.iaload, 1) := by decide +kernel
theorem dL_law_39 : decode cL_law 39 = .ok (.bipush 15, 2) := by decide +kernel
theorem dL_law_41 : decode cL_law 41 = .ok (.iand, 1) := by decide +kernel
theorem dL_law_42 : decode cL_law 42 = .ok (.tableswitch 408 0 10 #[58, 117, 150, 183, 216, 239, 282, 315, 348, 381, 395], 58) := by decide +kernel
theorem dL_law_100 : decode cL_law 100 = .ok (.aload_n 1, 1) := by decide +kernel
theorem dL_law_101 : decode cL_law 101 = .ok (.aload_n 0, 1) := by decide +kernel
theorem dL_law_102 : decode cL_law 102 = .ok (.iload_n 3, 1) := by decide +kernel
theorem dL_law_103 : decode cL_law 103 = .ok (.iconst 1, 1) := by decide +kernel
theorem dL_law_104 : decode cL_law 104 = .ok (.iadd, 1) := by decide +kernel
theorem dL_law_105 : decode cL_law 105 = .ok (.iaload, 1) := by decide +kernel
theorem dL_law_106 : decode cL_law 106 = .ok (.aload_n 0, 1) := by decide +kernel
theorem dL_law_107 : decode cL_law 107 = .ok (.iload_n 3, 1) := by decide +kernel
theorem dL_law_108 : decode cL_law 108 = .ok (.iconst 2, 1) := by decide +kernel
theorem dL_law_109 : decode cL_law 109 = .ok (.iadd, 1) := by decide +kernel
theorem dL_law_110 : decode cL_law 110 = .ok (.iaload, 1) := by decide +kernel
theorem dL_law_111 : decode cL_law 111 = .ok (.aload_n 0, 1) := by decide +kernel
theorem dL_law_112 : decode cL_law 112 = .ok (.iload_n 3, 1) := by decide +kernel
theorem dL_law_113 : decode cL_law 113 = .ok (.iconst 3, 1) := by decide +kernel
theorem dL_law_114 : decode cL_law 114 = .ok (.iadd, 1) := by decide +kernel
theorem dL_law_115 : decode cL_law 115 = .ok (.iaload, 1) := by decide +kernel
theorem dL_law_116 : decode cL_law 116 = .ok (.ifCond .eq 7, 3) := by decide +kernel
theorem dL_law_119 : decode cL_law 119 = .ok (.iconst 1, 1) := by decide +kernel
theorem dL_law_120 : decode cL_law 120 = .ok (.goto 4, 3) := by decide +kernel
theorem dL_law_123 : decode cL_law 123 = .ok (.iconst 0, 1) := by decide +kernel
theorem dL_law_124 : decode cL_law 124 = .ok (.invokevirtual 21, 3) := by decide +kernel
theorem dL_law_127 : decode cL_law 127 = .ok (.aload_n 2, 1) := by decide +kernel
theorem dL_law_128 : decode cL_law 128 = .ok (.aload_n 0, 1) := by decide +kernel
theorem dL_law_129 : decode cL_law 129 = .ok (.iload_n 3, 1) := by decide +kernel
theorem dL_law_130 : decode cL_law 130 = .ok (.iconst 1, 1) := by decide +kernel
theorem dL_law_131 : decode cL_law 131 = .ok (.iadd, 1) := by decide +kernel
theorem dL_law_132 : decode cL_law 132 = .ok (.iaload, 1) := by decide +kernel
theorem dL_law_133 : decode cL_law 133 = .ok (.aload_n 0, 1) := by decide +kernel
theorem dL_law_134 : decode cL_law 134 = .ok (.iload_n 3, 1) := by decide +kernel
theorem dL_law_135 : decode cL_law 135 = .ok (.iconst 2, 1) := by decide +kernel
theorem dL_law_136 : decode cL_law 136 = .ok (.iadd, 1) := by decide +kernel
theorem dL_law_137 : decode cL_law 137 = .ok (.iaload, 1) := by decide +kernel
theorem dL_law_138 : decode cL_law 138 = .ok (.aload_n 0, 1) := by decide +kernel
theorem dL_law_139 : decode cL_law 139 = .ok (.iload_n 3, 1) := by decide +kernel
theorem dL_law_140 : decode cL_law 140 = .ok (.iconst 3, 1) := by decide +kernel
theorem dL_law_141 : decode cL_law 141 = .ok (.iadd, 1) := by decide +kernel
theorem dL_law_142 : decode cL_law 142 = .ok (.iaload, 1) := by decide +kernel
theorem dL_law_143 : decode cL_law 143 = .ok (.ifCond .eq 7, 3) := by decide +kernel
theorem dL_law_146 : decode cL_law 146 = .ok (.iconst 1, 1) := by decide +kernel
theorem dL_law_147 : decode cL_law 147 = .ok (.goto 4, 3) := by decide +kernel
theorem dL_law_150 : decode cL_law 150 = .ok (.iconst 0, 1) := by decide +kernel
theorem dL_law_151 : decode cL_law 151 = .ok (.invokevirtual 25, 3) := by decide +kernel
theorem dL_law_154 : decode cL_law 154 = .ok (.if_icmp .eq 296, 3) := by decide +kernel
theorem dL_law_157 : decode cL_law 157 = .ok (.iconst 0, 1) := by decide +kernel
theorem dL_law_158 : decode cL_law 158 = .ok (.ireturn, 1) := by decide +kernel
theorem dL_law_159 : decode cL_law 159 = .ok (.aload_n 1, 1) := by decide +kernel
theorem dL_law_160 : decode cL_law 160 = .ok (.aload_n 0, 1) := by decide +kernel
theorem dL_law_161 : decode cL_law 161 = .ok (.iload_n 3, 1) := by decide +kernel
theorem dL_law_162 : decode cL_law 162 = .ok (.iconst 1, 1) := by decide +kernel
theorem dL_law_163 : decode cL_law 163 = .ok (.iadd, 1) := by decide +kernel
theorem dL_law_164 : decode cL_law 164 = .ok (.iaload, 1) := by decide +kernel
theorem dL_law_165 : decode cL_law 165 = .ok (.aload_n 0, 1) := by decide +kernel
theorem dL_law_166 : decode cL_law 166 = .ok (.iload_n 3, 1) := by decide +kernel
theorem dL_law_167 : decode cL_law 167 = .ok (.iconst 2, 1) := by decide +kernel
theorem dL_law_168 : decode cL_law 168 = .ok (.iadd, 1) := by decide +kernel
theorem dL_law_169 : decode cL_law 169 = .ok (.iaload, 1) := by decide +kernel
theorem dL_law_170 : decode cL_law 170 = .ok (.invokevirtual 26, 3) := by decide +kernel
theorem dL_law_173 : decode cL_law 173 = .ok (.aload_n 2, 1) := by decide +kernel
theorem dL_law_174 : decode cL_law 174 = .ok (.aload_n 0, 1) := by decide +kernel
theorem dL_law_175 : decode cL_law 175 = .ok (.iload_n 3, 1) := by decide +kernel
theorem dL_law_176 : decode cL_law 176 = .ok (.iconst 1, 1) := by decide +kernel
theorem dL_law_177 : decode cL_law 177 = .ok (.iadd, 1) := by decide +kernel
theorem dL_law_178 : decode cL_law 178 = .ok (.iaload, 1) := by decide +kernel
theorem dL_law_179 : decode cL_law 179 = .ok (.aload_n 0, 1) := by decide +kernel
theorem dL_law_180 : decode cL_law 180 = .ok (.iload_n 3, 1) := by decide +kernel
theorem dL_law_181 : decode cL_law 181 = .ok (.iconst 2, 1) := by decide +kernel
theorem dL_law_182 : decode cL_law 182 = .ok (.iadd, 1) := by decide +kernel
theorem dL_law_183 : decode cL_law 183 = .ok (.iaload, 1) := by decide +kernel
theorem dL_law_184 : decode cL_law 184 = .ok (.invokevirtual 30, 3) := by decide +kernel
theorem dL_law_187 : decode cL_law 187 = .ok (.if_icmp .eq 263, 3) := by decide +kernel
theorem dL_law_190 : decode cL_law 190 = .ok (.iconst 0, 1) := by decide +kernel
theorem dL_law_191 : decode cL_law 191 = .ok (.ireturn, 1) := by decide +kernel
theorem dL_law_192 : decode cL_law 192 = .ok (.aload_n 1, 1) := by decide +kernel
theorem dL_law_193 : decode cL_law 193 = .ok (.aload_n 0, 1) := by decide +kernel
theorem dL_law_194 : decode cL_law 194 = .ok (.iload_n 3, 1) := by decide +kernel
theorem dL_law_195 : decode cL_law 195 = .ok (.iconst 1, 1) := by decide +kernel
theorem dL_law_196 : decode cL_law 196 = .ok (.iadd, 1) := by decide +kernel
theorem dL_law_197 : decode cL_law 197 = .ok (.iaload, 1) := by decide +kernel
theorem dL_law_198 : decode cL_law 198 = .ok (.aload_n 0, 1) := by decide +kernel
theorem dL_law_199 : decode cL_law 199 = .ok (.iload_n 3, 1) := by decide +kernel
theorem dL_law_200 : decode cL_law 200 = .ok (.iconst 2, 1) := by decide +kernel
theorem dL_law_201 : decode cL_law 201 = .ok (.iadd, 1) := by decide +kernel
theorem dL_law_202 : decode cL_law 202 = .ok (.iaload, 1) := by decide +kernel
theorem dL_law_203 : decode cL_law 203 = .ok (.invokevirtual 31, 3) := by decide +kernel
theorem dL_law_206 : decode cL_law 206 = .ok (.aload_n 2, 1) := by decide +kernel
theorem dL_law_207 : decode cL_law 207 = .ok (.aload_n 0, 1) := by decide +kernel
theorem dL_law_208 : decode cL_law 208 = .ok (.iload_n 3, 1) := by decide +kernel
theorem dL_law_209 : decode cL_law 209 = .ok (.iconst 1, 1) := by decide +kernel
theorem dL_law_210 : decode cL_law 210 = .ok (.iadd, 1) := by decide +kernel
theorem dL_law_211 : decode cL_law 211 = .ok (.iaload, 1) := by decide +kernel
theorem dL_law_212 : decode cL_law 212 = .ok (.aload_n 0, 1) := by decide +kernel
theorem dL_law_213 : decode cL_law 213 = .ok (.iload_n 3, 1) := by decide +kernel
theorem dL_law_214 : decode cL_law 214 = .ok (.iconst 2, 1) := by decide +kernel
theorem dL_law_215 : decode cL_law 215 = .ok (.iadd, 1) := by decide +kernel
theorem dL_law_216 : decode cL_law 216 = .ok (.iaload, 1) := by decide +kernel
theorem dL_law_217 : decode cL_law 217 = .ok (.invokevirtual 34, 3) := by decide +kernel
theorem dL_law_220 : decode cL_law 220 = .ok (.if_icmp .eq 230, 3) := by decide +kernel
theorem dL_law_223 : decode cL_law 223 = .ok (.iconst 0, 1) := by decide +kernel
theorem dL_law_224 : decode cL_law 224 = .ok (.ireturn, 1) := by decide +kernel
theorem dL_law_225 : decode cL_law 225 = .ok (.aload_n 1, 1) := by decide +kernel
theorem dL_law_226 : decode cL_law 226 = .ok (.aload_n 0, 1) := by decide +kernel
theorem dL_law_227 : decode cL_law 227 = .ok (.iload_n 3, 1) := by decide +kernel
theorem dL_law_228 : decode cL_law 228 = .ok (.iconst 1, 1) := by decide +kernel
theorem dL_law_229 : decode cL_law 229 = .ok (.iadd, 1) := by decide +kernel
theorem dL_law_230 : decode cL_law 230 = .ok (.iaload, 1) := by decide +kernel
theorem dL_law_231 : decode cL_law 231 = .ok (.aload_n 0, 1) := by decide +kernel
theorem dL_law_232 : decode cL_law 232 = .ok (.iload_n 3, 1) := by decide +kernel
theorem dL_law_233 : decode cL_law 233 = .ok (.iconst 2, 1) := by decide +kernel
theorem dL_law_234 : decode cL_law 234 = .ok (.iadd, 1) := by decide +kernel
theorem dL_law_235 : decode cL_law 235 = .ok (.iaload, 1) := by decide +kernel
theorem dL_law_236 : decode cL_law 236 = .ok (.invokevirtual 35, 3) := by decide +kernel
theorem dL_law_239 : decode cL_law 239 = .ok (.aload_n 2, 1) := by decide +kernel
theorem dL_law_240 : decode cL_law 240 = .ok (.aload_n 0, 1) := by decide +kernel
theorem dL_law_241 : decode cL_law 241 = .ok (.iload_n 3, 1) := by decide +kernel
theorem dL_law_242 : decode cL_law 242 = .ok (.iconst 1, 1) := by decide +kernel
theorem dL_law_243 : decode cL_law 243 = .ok (.iadd, 1) := by decide +kernel
theorem dL_law_244 : decode cL_law 244 = .ok (.iaload, 1) := by decide +kernel
theorem dL_law_245 : decode cL_law 245 = .ok (.aload_n 0, 1) := by decide +kernel
theorem dL_law_246 : decode cL_law 246 = .ok (.iload_n 3, 1) := by decide +kernel
theorem dL_law_247 : decode cL_law 247 = .ok (.iconst 2, 1) := by decide +kernel
theorem dL_law_248 : decode cL_law 248 = .ok (.iadd, 1) := by decide +kernel
theorem dL_law_249 : decode cL_law 249 = .ok (.iaload, 1) := by decide +kernel
theorem dL_law_250 : decode cL_law 250 = .ok (.invokevirtual 38, 3) := by decide +kernel
theorem dL_law_253 : decode cL_law 253 = .ok (.if_icmp .eq 197, 3) := by decide +kernel
theorem dL_law_256 : decode cL_law 256 = .ok (.iconst 0, 1) := by decide +kernel
theorem dL_law_257 : decode cL_law 257 = .ok (.ireturn, 1) := by decide +kernel
theorem dL_law_258 : decode cL_law 258 = .ok (.aload_n 1, 1) := by decide +kernel
theorem dL_law_259 : decode cL_law 259 = .ok (.aload_n 0, 1) := by decide +kernel
theorem dL_law_260 : decode cL_law 260 = .ok (.iload_n 3, 1) := by decide +kernel
theorem dL_law_261 : decode cL_law 261 = .ok (.iconst 1, 1) := by decide +kernel
theorem dL_law_262 : decode cL_law 262 = .ok (.iadd, 1) := by decide +kernel
theorem dL_law_263 : decode cL_law 263 = .ok (.iaload, 1) := by decide +kernel
theorem dL_law_264 : decode cL_law 264 = .ok (.invokevirtual 39, 3) := by decide +kernel
theorem dL_law_267 : decode cL_law 267 = .ok (.aload_n 2, 1) := by decide +kernel
theorem dL_law_268 : decode cL_law 268 = .ok (.aload_n 0, 1) := by decide +kernel
theorem dL_law_269 : decode cL_law 269 = .ok (.iload_n 3, 1) := by decide +kernel
theorem dL_law_270 : decode cL_law 270 = .ok (.iconst 1, 1) := by decide +kernel
theorem dL_law_271 : decode cL_law 271 = .ok (.iadd, 1) := by decide +kernel
theorem dL_law_272 : decode cL_law 272 = .ok (.iaload, 1) := by decide +kernel
theorem dL_law_273 : decode cL_law 273 = .ok (.invokevirtual 43, 3) := by decide +kernel
theorem dL_law_276 : decode cL_law 276 = .ok (.if_icmp .eq 174, 3) := by decide +kernel
theorem dL_law_279 : decode cL_law 279 = .ok (.iconst 0, 1) := by decide +kernel
theorem dL_law_280 : decode cL_law 280 = .ok (.ireturn, 1) := by decide +kernel
theorem dL_law_281 : decode cL_law 281 = .ok (.aload_n 1, 1) := by decide +kernel
theorem dL_law_282 : decode cL_law 282 = .ok (.aload_n 0, 1) := by decide +kernel
theorem dL_law_283 : decode cL_law 283 = .ok (.iload_n 3, 1) := by decide +kernel
theorem dL_law_284 : decode cL_law 284 = .ok (.iconst 1, 1) := by decide +kernel
theorem dL_law_285 : decode cL_law 285 = .ok (.iadd, 1) := by decide +kernel
theorem dL_law_286 : decode cL_law 286 = .ok (.iaload, 1) := by decide +kernel
theorem dL_law_287 : decode cL_law 287 = .ok (.aload_n 0, 1) := by decide +kernel
theorem dL_law_288 : decode cL_law 288 = .ok (.iload_n 3, 1) := by decide +kernel
theorem dL_law_289 : decode cL_law 289 = .ok (.iconst 2, 1) := by decide +kernel
theorem dL_law_290 : decode cL_law 290 = .ok (.iadd, 1) := by decide +kernel
theorem dL_law_291 : decode cL_law 291 = .ok (.iaload, 1) := by decide +kernel
theorem dL_law_292 : decode cL_law 292 = .ok (.aload_n 0, 1) := by decide +kernel
theorem dL_law_293 : decode cL_law 293 = .ok (.iload_n 3, 1) := by decide +kernel
theorem dL_law_294 : decode cL_law 294 = .ok (.iconst 3, 1) := by decide +kernel
theorem dL_law_295 : decode cL_law 295 = .ok (.iadd, 1) := by decide +kernel
theorem dL_law_296 : decode cL_law 296 = .ok (.iaload, 1) := by decide +kernel
theorem dL_law_297 : decode cL_law 297 = .ok (.invokevirtual 44, 3) := by decide +kernel
theorem dL_law_300 : decode cL_law 300 = .ok (.aload_n 2, 1) := by decide +kernel
theorem dL_law_301 : decode cL_law 301 = .ok (.aload_n 0, 1) := by decide +kernel
theorem dL_law_302 : decode cL_law 302 = .ok (.iload_n 3, 1) := by decide +kernel
theorem dL_law_303 : decode cL_law 303 = .ok (.iconst 1, 1) := by decide +kernel
theorem dL_law_304 : decode cL_law 304 = .ok (.iadd, 1) := by decide +kernel
theorem dL_law_305 : decode cL_law 305 = .ok (.iaload, 1) := by decide +kernel
theorem dL_law_306 : decode cL_law 306 = .ok (.aload_n 0, 1) := by decide +kernel
theorem dL_law_307 : decode cL_law 307 = .ok (.iload_n 3, 1) := by decide +kernel
theorem dL_law_308 : decode cL_law 308 = .ok (.iconst 2, 1) := by decide +kernel
theorem dL_law_309 : decode cL_law 309 = .ok (.iadd, 1) := by decide +kernel
theorem dL_law_310 : decode cL_law 310 = .ok (.iaload, 1) := by decide +kernel
theorem dL_law_311 : decode cL_law 311 = .ok (.aload_n 0, 1) := by decide +kernel
theorem dL_law_312 : decode cL_law 312 = .ok (.iload_n 3, 1) := by decide +kernel
theorem dL_law_313 : decode cL_law 313 = .ok (.iconst 3, 1) := by decide +kernel
theorem dL_law_314 : decode cL_law 314 = .ok (.iadd, 1) := by decide +kernel
theorem dL_law_315 : decode cL_law 315 = .ok (.iaload, 1) := by decide +kernel
theorem dL_law_316 : decode cL_law 316 = .ok (.invokevirtual 48, 3) := by decide +kernel
theorem dL_law_319 : decode cL_law 319 = .ok (.if_icmp .eq 131, 3) := by decide +kernel
theorem dL_law_322 : decode cL_law 322 = .ok (.iconst 0, 1) := by decide +kernel
theorem dL_law_323 : decode cL_law 323 = .ok (.ireturn, 1) := by decide +kernel
theorem dL_law_324 : decode cL_law 324 = .ok (.aload_n 1, 1) := by decide +kernel
theorem dL_law_325 : decode cL_law 325 = .ok (.aload_n 0, 1) := by decide +kernel
theorem dL_law_326 : decode cL_law 326 = .ok (.iload_n 3, 1) := by decide +kernel
theorem dL_law_327 : decode cL_law 327 = .ok (.iconst 1, 1) := by decide +kernel
theorem dL_law_328 : decode cL_law 328 = .ok (.iadd, 1) := by decide +kernel
theorem dL_law_329 : decode cL_law 329 = .ok (.iaload, 1) := by decide +kernel
theorem dL_law_330 : decode cL_law 330 = .ok (.aload_n 0, 1) := by decide +kernel
theorem dL_law_331 : decode cL_law 331 = .ok (.iload_n 3, 1) := by decide +kernel
theorem dL_law_332 : decode cL_law 332 = .ok (.iconst 2, 1) := by decide +kernel
theorem dL_law_333 : decode cL_law 333 = .ok (.iadd, 1) := by decide +kernel
theorem dL_law_334 : decode cL_law 334 = .ok (.iaload, 1) := by decide +kernel
theorem dL_law_335 : decode cL_law 335 = .ok (.invokevirtual 49, 3) := by decide +kernel
theorem dL_law_338 : decode cL_law 338 = .ok (.aload_n 2, 1) := by decide +kernel
theorem dL_law_339 : decode cL_law 339 = .ok (.aload_n 0, 1) := by decide +kernel
theorem dL_law_340 : decode cL_law 340 = .ok (.iload_n 3, 1) := by decide +kernel
theorem dL_law_341 : decode cL_law 341 = .ok (.iconst 1, 1) := by decide +kernel
theorem dL_law_342 : decode cL_law 342 = .ok (.iadd, 1) := by decide +kernel
theorem dL_law_343 : decode cL_law 343 = .ok (.iaload, 1) := by decide +kernel
theorem dL_law_344 : decode cL_law 344 = .ok (.aload_n 0, 1) := by decide +kernel
theorem dL_law_345 : decode cL_law 345 = .ok (.iload_n 3, 1) := by decide +kernel
theorem dL_law_346 : decode cL_law 346 = .ok (.iconst 2, 1) := by decide +kernel
theorem dL_law_347 : decode cL_law 347 = .ok (.iadd, 1) := by decide +kernel
theorem dL_law_348 : decode cL_law 348 = .ok (.iaload, 1) := by decide +kernel
theorem dL_law_349 : decode cL_law 349 = .ok (.invokevirtual 52, 3) := by decide +kernel
theorem dL_law_352 : decode cL_law 352 = .ok (.if_icmp .eq 98, 3) := by decide +kernel
theorem dL_law_355 : decode cL_law 355 = .ok (.iconst 0, 1) := by decide +kernel
theorem dL_law_356 : decode cL_law 356 = .ok (.ireturn, 1) := by decide +kernel
theorem dL_law_357 : decode cL_law 357 = .ok (.aload_n 1, 1) := by decide +kernel
theorem dL_law_358 : decode cL_law 358 = .ok (.aload_n 0, 1) := by decide +kernel
theorem dL_law_359 : decode cL_law 359 = .ok (.iload_n 3, 1) := by decide +kernel
theorem dL_law_360 : decode cL_law 360 = .ok (.iconst 1, 1) := by decide +kernel
theorem dL_law_361 : decode cL_law 361 = .ok (.iadd, 1) := by decide +kernel
theorem dL_law_362 : decode cL_law 362 = .ok (.iaload, 1) := by decide +kernel
theorem dL_law_363 : decode cL_law 363 = .ok (.aload_n 0, 1) := by decide +kernel
theorem dL_law_364 : decode cL_law 364 = .ok (.iload_n 3, 1) := by decide +kernel
theorem dL_law_365 : decode cL_law 365 = .ok (.iconst 2, 1) := by decide +kernel
theorem dL_law_366 : decode cL_law 366 = .ok (.iadd, 1) := by decide +kernel
theorem dL_law_367 : decode cL_law 367 = .ok (.iaload, 1) := by decide +kernel
theorem dL_law_368 : decode cL_law 368 = .ok (.invokevirtual 53, 3) := by decide +kernel
theorem dL_law_371 : decode cL_law 371 = .ok (.aload_n 2, 1) := by decide +kernel
theorem dL_law_372 : decode cL_law 372 = .ok (.aload_n 0, 1) := by decide +kernel
theorem dL_law_373 : decode cL_law 373 = .ok (.iload_n 3, 1) := by decide +kernel
theorem dL_law_374 : decode cL_law 374 = .ok (.iconst 1, 1) := by decide +kernel
theorem dL_law_375 : decode cL_law 375 = .ok (.iadd, 1) := by decide +kernel
theorem dL_law_376 : decode cL_law 376 = .ok (.iaload, 1) := by decide +kernel
theorem dL_law_377 : decode cL_law 377 = .ok (.aload_n 0, 1) := by decide +kernel
theorem dL_law_378 : decode cL_law 378 = .ok (.iload_n 3, 1) := by decide +kernel
theorem dL_law_379 : decode cL_law 379 = .ok (.iconst 2, 1) := by decide +kernel
theorem dL_law_380 : decode cL_law 380 = .ok (.iadd, 1) := by decide +kernel
theorem dL_law_381 : decode cL_law 381 = .ok (.iaload, 1) := by decide +kernel
theorem dL_law_382 : decode cL_law 382 = .ok (.invokevirtual 57, 3) := by decide +kernel
theorem dL_law_385 : decode cL_law 385 = .ok (.if_icmp .eq 65, 3) := by decide +kernel
theorem dL_law_388 : decode cL_law 388 = .ok (.iconst 0, 1) := by decide +kernel
theorem dL_law_389 : decode cL_law 389 = .ok (.ireturn, 1) := by decide +kernel
theorem dL_law_390 : decode cL_law 390 = .ok (.aload_n 1, 1) := by decide +kernel
theorem dL_law_391 : decode cL_law 391 = .ok (.aload_n 0, 1) := by decide +kernel
theorem dL_law_392 : decode cL_law 392 = .ok (.iload_n 3, 1) := by decide +kernel
theorem dL_law_393 : decode cL_law 393 = .ok (.iconst 1, 1) := by decide +kernel
theorem dL_law_394 : decode cL_law 394 = .ok (.iadd, 1) := by decide +kernel
theorem dL_law_395 : decode cL_law 395 = .ok (.iaload, 1) := by decide +kernel
theorem dL_law_396 : decode cL_law 396 = .ok (.aload_n 0, 1) := by decide +kernel
theorem dL_law_397 : decode cL_law 397 = .ok (.iload_n 3, 1) := by decide +kernel
theorem dL_law_398 : decode cL_law 398 = .ok (.iconst 2, 1) := by decide +kernel
theorem dL_law_399 : decode cL_law 399 = .ok (.iadd, 1) := by decide +kernel
theorem dL_law_400 : decode cL_law 400 = .ok (.iaload, 1) := by decide +kernel
theorem dL_law_401 : decode cL_law 401 = .ok (.invokevirtual 58, 3) := by decide +kernel
theorem dL_law_404 : decode cL_law 404 = .ok (.aload_n 2, 1) := by decide +kernel
theorem dL_law_405 : decode cL_law 405 = .ok (.aload_n 0, 1) := by decide +kernel
theorem dL_law_406 : decode cL_law 406 = .ok (.iload_n 3, 1) := by decide +kernel
theorem dL_law_407 : decode cL_law 407 = .ok (.iconst 1, 1) := by decide +kernel
theorem dL_law_408 : decode cL_law 408 = .ok (.iadd, 1) := by decide +kernel
theorem dL_law_409 : decode cL_law 409 = .ok (.iaload, 1) := by decide +kernel
theorem dL_law_410 : decode cL_law 410 = .ok (.aload_n 0, 1) := by decide +kernel
theorem dL_law_411 : decode cL_law 411 = .ok (.iload_n 3, 1) := by decide +kernel
theorem dL_law_412 : decode cL_law 412 = .ok (.iconst 2, 1) := by decide +kernel
theorem dL_law_413 : decode cL_law 413 = .ok (.iadd, 1) := by decide +kernel
theorem dL_law_414 : decode cL_law 414 = .ok (.iaload, 1) := by decide +kernel
theorem dL_law_415 : decode cL_law 415 = .ok (.invokevirtual 61, 3) := by decide +kernel
theorem dL_law_418 : decode cL_law 418 = .ok (.if_icmp .eq 32, 3) := by decide +kernel
theorem dL_law_421 : decode cL_law 421 = .ok (.iconst 0, 1) := by decide +kernel
theorem dL_law_422 : decode cL_law 422 = .ok (.ireturn, 1) := by decide +kernel
theorem dL_law_423 : decode cL_law 423 = .ok (.aload_n 1, 1) := by decide +kernel
theorem dL_law_424 : decode cL_law 424 = .ok (.invokevirtual 62, 3) := by decide +kernel
theorem dL_law_427 : decode cL_law 427 = .ok (.aload_n 2, 1) := by decide +kernel
theorem dL_law_428 : decode cL_law 428 = .ok (.invokevirtual 66, 3) := by decide +kernel
theorem dL_law_431 : decode cL_law 431 = .ok (.lcmp, 1) := by decide +kernel
theorem dL_law_432 : decode cL_law 432 = .ok (.ifCond .eq 18, 3) := by decide +kernel
theorem dL_law_435 : decode cL_law 435 = .ok (.iconst 0, 1) := by decide +kernel
theorem dL_law_436 : decode cL_law 436 = .ok (.ireturn, 1) := by decide +kernel
theorem dL_law_437 : decode cL_law 437 = .ok (.aload_n 1, 1) := by decide +kernel
theorem dL_law_438 : decode cL_law 438 = .ok (.invokevirtual 67, 3) := by decide +kernel
theorem dL_law_441 : decode cL_law 441 = .ok (.aload_n 2, 1) := by decide +kernel
theorem dL_law_442 : decode cL_law 442 = .ok (.invokevirtual 71, 3) := by decide +kernel
theorem dL_law_445 : decode cL_law 445 = .ok (.if_icmp .eq 5, 3) := by decide +kernel
theorem dL_law_448 : decode cL_law 448 = .ok (.iconst 0, 1) := by decide +kernel
theorem dL_law_449 : decode cL_law 449 = .ok (.ireturn, 1) := by decide +kernel
theorem dL_law_450 : decode cL_law 450 = .ok (.iinc 3 4, 3) := by decide +kernel
theorem dL_law_453 : decode cL_law 453 = .ok (.goto (-425), 3) := by decide +kernel
theorem dL_law_456 : decode cL_law 456 = .ok (.iconst 1, 1) := by decide +kernel
theorem dL_law_457 : decode cL_law 457 = .ok (.ireturn, 1) := by decide +kernel
end
section
/-! PURE ROWS 1: how the arrays are read as numbers; counting; the reference's operations as functions -/
def mw_oc (x : Option Nat) : Int32 := match x with
  | none => -1
  | some c => nI c
def mw_ob (b : Bool) : Int32 := match b with
  | false => 0
  | true => 1
def mw_O (f : Nat → Option Nat) : Nat → Int32 := fun k => mw_oc (f k)
def mw_B (f : Nat → Bool) : Nat → Int32 := fun k => mw_ob (f k)
def mw_N (f : Nat → Nat) : Nat → Int32 := fun k => nI (f k)
theorem mw_O_up (f : Nat → Option Nat) (k : Nat) (x : Option Nat) : upd (mw_O f) k (mw_oc x) = mw_O (va_up f k x) := by
  funext j
  by_cases h : j = k <;> simp [upd, mw_O, va_up, h]
theorem mw_B_up (f : Nat → Bool) (k : Nat) (x : Bool) : upd (mw_B f) k (mw_ob x) = mw_B (va_up f k x) := by
  funext j
  by_cases h : j = k <;> simp [upd, mw_B, va_up, h]
theorem mw_N_up (f : Nat → Nat) (k : Nat) (x : Nat) : upd (mw_N f) k (nI x) = mw_N (va_up f k x) := by
  funext j
  by_cases h : j = k <;> simp [upd, mw_N, va_up, h]
theorem mw_ob_0 {b : Bool} (h : mw_ob b = 0) : b = false := by
  cases b
  · rfl
  · exact absurd h (by decide)
theorem mw_ob_1 {b : Bool} (h : ¬ mw_ob b = 0) : b = true := by
  cases b
  · exact absurd rfl h
  · rfl
theorem mw_oc_lt {x : Option Nat} (hx : ∀ c, x = some c → c < 2 ^ 31) (h : mw_oc x < 0) : x = none := by
  cases x with
  | none => rfl
  | some c => exact absurd h (nI_pos (hx c rfl))
theorem mw_oc_ge {x : Option Nat} (h : ¬ mw_oc x < 0) : ∃ c, x = some c := by
  cases x with
  | none => exact absurd (show mw_oc none < 0 by decide) h
  | some c => exact ⟨c, rfl⟩
theorem mw_bt : ∀ n, n < 128 → vp_nar .byte (nI n) = nI n ∧ (nI n).toInt8.toInt32 = nI n := by decide +kernel
theorem mw_bt1 : vp_nar .byte (-1) = -1 := by decide +kernel
theorem mw_btO {x : Option Nat} (hx : ∀ c, x = some c → c < 128) : vp_nar .byte (mw_oc x) = mw_oc x := by
  cases x with
  | none => exact mw_bt1
  | some c => exact (mw_bt c (hx c rfl)).1
theorem mw_btB (b : Bool) : vp_nar .boolean (mw_ob b) = mw_ob b := by
  cases b <;> decide +kernel
/-- places b .. b + n - 1 hold g 0 .. g (n - 1) -/
def mw_fl (a : Nat → Int32) (b n : Nat) (g : Nat → Int32) : Nat → Int32 := fun j => if b ≤ j ∧ j < b + n then g (j - b) else a j
theorem mw_fl_0 (a : Nat → Int32) (b : Nat) (g : Nat → Int32) : mw_fl a b 0 g = a := by
  funext j
  unfold mw_fl
  rw [if_neg (by omega)]
theorem mw_fl_s (a : Nat → Int32) (b n : Nat) (g : Nat → Int32) : upd (mw_fl a b n g) (b + n) (g n) = mw_fl a b (n + 1) g := by
  funext j
  unfold upd mw_fl
  by_cases h : j = b + n
  · subst h
    rw [if_pos rfl, if_pos (by omega), show b + n - b = n by omega]
  · rw [if_neg h]
    by_cases h2 : b ≤ j ∧ j < b + n
    · rw [if_pos h2, if_pos (by omega)]
    · rw [if_neg h2, if_neg (by omega)]
theorem mw_fl_in {a : Nat → Int32} {b n : Nat} {g : Nat → Int32} {i : Nat} (h : i < n) : mw_fl a b n g (b + i) = g i := by
  unfold mw_fl
  rw [if_pos (by omega), show b + i - b = i by omega]
theorem mw_fl_out {a : Nat → Int32} {b n : Nat} {g : Nat → Int32} {j : Nat} (h : j < b ∨ b + n ≤ j) : mw_fl a b n g j = a j := by
  unfold mw_fl
  rw [if_neg (by omega)]
/-- how many of the first n -/
def mw_ct (P : Nat → Bool) : Nat → Nat
  | 0 => 0
  | n + 1 => mw_ct P n + (if P n then 1 else 0)
theorem mw_ct_le (P : Nat → Bool) : ∀ n, mw_ct P n ≤ n
  | 0 => Nat.le_refl 0
  | n + 1 => by
    have := mw_ct_le P n
    unfold mw_ct
    split <;> omega
theorem mw_ct_congr {P Q : Nat → Bool} : ∀ n, (∀ k, k < n → P k = Q k) → mw_ct P n = mw_ct Q n
  | 0, _ => rfl
  | n + 1, h => by
    unfold mw_ct
    rw [mw_ct_congr n (fun k hk => h k (by omega)), h n (by omega)]
theorem mw_ct_pos {P : Nat → Bool} : ∀ n, ∀ e, e < n → P e = true → 0 < mw_ct P n
  | 0, e, h, _ => absurd h (by omega)
  | n + 1, e, h, hp => by
    unfold mw_ct
    by_cases h1 : e = n
    · subst h1
      rw [hp]
      simp
    · have := mw_ct_pos (P := P) n e (by omega) hp
      omega
theorem mw_ct_none {P : Nat → Bool} : ∀ n, (∀ k, k < n → P k = false) → mw_ct P n = 0
  | 0, _ => rfl
  | n + 1, h => by
    unfold mw_ct
    rw [mw_ct_none n (fun k hk => h k (by omega)), h n (by omega)]
    rfl
theorem mw_ct_zero {P : Nat → Bool} {n : Nat} (h : mw_ct P n = 0) {e : Nat} (he : e < n) : P e = false := by
  cases hp : P e with
  | false => rfl
  | true => exact absurd (mw_ct_pos n e he hp) (by omega)
theorem mw_ct_lt {P : Nat → Bool} : ∀ n, ∀ e, e < n → P e = false → mw_ct P n < n
  | 0, e, h, _ => absurd h (by omega)
  | n + 1, e, h, hp => by
    unfold mw_ct
    by_cases h1 : e = n
    · subst h1
      rw [hp]
      have := mw_ct_le P e
      simp
      omega
    · have := mw_ct_lt (P := P) n e (by omega) hp
      split <;> omega
theorem mw_ct_two {P : Nat → Bool} : ∀ n, ∀ e e', e < e' → e' < n → P e = true → P e' = true → 2 ≤ mw_ct P n
  | 0, e, e', _, h, _, _ => absurd h (by omega)
  | n + 1, e, e', h, h1, hp, hp' => by
    unfold mw_ct
    by_cases h2 : e' = n
    · subst h2
      have := mw_ct_pos (P := P) e' e h hp
      rw [hp']
      simp
      omega
    · have := mw_ct_two (P := P) n e e' h (by omega) hp hp'
      omega
theorem mw_ct_one {P : Nat → Bool} : ∀ n, ∀ e, e < n → P e = true → (∀ k, k < n → k ≠ e → P k = false) → mw_ct P n = 1
  | 0, e, h, _, _ => absurd h (by omega)
  | n + 1, e, h, hp, hk => by
    unfold mw_ct
    by_cases h1 : e = n
    · subst h1
      rw [hp, mw_ct_none e (fun k h2 => hk k (by omega) (by omega))]
      rfl
    · rw [mw_ct_one n e (by omega) hp (fun k h2 h3 => hk k (by omega) h3), hk n (by omega) (by omega)]
      rfl
theorem mw_ct_up (sh : Nat → Option Nat) (e : Nat) (y : Option Nat) (c : Nat) : ∀ n, e < n → mw_ct (fun k => va_up sh e y k == some c) n + (if sh e = some c then 1 else 0) = mw_ct (fun k => sh k == some c) n + (if y = some c then 1 else 0)
  | 0, h => absurd h (by omega)
  | n + 1, h => by
    unfold mw_ct
    by_cases h1 : e = n
    · subst h1
      have hs : mw_ct (fun k => va_up sh e y k == some c) e = mw_ct (fun k => sh k == some c) e := mw_ct_congr e (fun k hk => by simp [va_up, show ¬ k = e by omega])
      rw [hs]
      simp only [va_up, if_true, beq_iff_eq]
      omega
    · have ih := mw_ct_up sh e y c n (by omega)
      have hs : (va_up sh e y n == some c) = (sh n == some c) := by simp [va_up, show ¬ n = e by omega]
      rw [hs]
      omega
/-- sums of naturals -/
def mw_sn (f : Nat → Nat) : Nat → Nat
  | 0 => 0
  | n + 1 => mw_sn f n + f n
theorem mw_sn_add (f g : Nat → Nat) : ∀ n, mw_sn (fun k => f k + g k) n = mw_sn f n + mw_sn g n
  | 0 => rfl
  | n + 1 => by
    unfold mw_sn
    rw [mw_sn_add f g n]
    omega
theorem mw_sn_0 : ∀ n, mw_sn (fun _ => 0) n = 0
  | 0 => rfl
  | n + 1 => by
    unfold mw_sn
    rw [mw_sn_0 n]
theorem mw_sn_ge (f : Nat → Nat) : ∀ n, (∀ k, k < n → 1 ≤ f k) → n ≤ mw_sn f n
  | 0, _ => Nat.le_refl 0
  | n + 1, h => by
    unfold mw_sn
    have := mw_sn_ge f n (fun k hk => h k (by omega))
    have := h n (by omega)
    omega
theorem mw_sn_one (x : Option Nat) : ∀ n, mw_sn (fun c => if x == some c then 1 else 0) n ≤ (if x.isSome then 1 else 0) ∧ (∀ c, x = some c → n ≤ c → mw_sn (fun c => if x == some c then 1 else 0) n = 0)
  | 0 => ⟨Nat.zero_le _, fun _ _ _ => rfl⟩
  | n + 1 => by
    obtain ⟨h1, h2⟩ := mw_sn_one x n
    unfold mw_sn
    cases x with
    | none => exact ⟨by simpa using h1, fun c h => by cases h⟩
    | some a =>
      constructor
      · by_cases ha : a = n
        · subst ha
          rw [h2 a rfl (Nat.le_refl _)]
          simp
        · simp only [Option.isSome_some, if_true] at h1 ⊢
          have : ((some a == some n) : Bool) = false := by simp [ha]
          rw [this]
          simpa using h1
      · intro c hc hn
        cases hc
        rw [h2 a rfl (by omega)]
        have : ((some a == some n) : Bool) = false := by simp; omega
        rw [this]
        rfl
theorem mw_sn_ct (sh : Nat → Option Nat) (m : Nat) : ∀ n, mw_sn (fun c => mw_ct (fun k => sh k == some c) n) m ≤ mw_ct (fun k => (sh k).isSome) n
  | 0 => by
    show mw_sn (fun _ => 0) m ≤ 0
    rw [mw_sn_0]
    exact Nat.le_refl 0
  | n + 1 => by
    have ih := mw_sn_ct sh m n
    have h1 := (mw_sn_one (sh n) m).1
    have h2 : mw_sn (fun c => mw_ct (fun k => sh k == some c) (n + 1)) m = mw_sn (fun c => mw_ct (fun k => sh k == some c) n) m + mw_sn (fun c => if sh n == some c then 1 else 0) m := mw_sn_add _ _ m
    rw [h2]
    show _ ≤ mw_ct (fun k => (sh k).isSome) n + (if (sh n).isSome then 1 else 0)
    omega
/-- one page shows nothing: one number of 20 is shown by no page -/
theorem mw_pig (sh : Nat → Option Nat) {e : Nat} (he : e < 20) (h : sh e = none) : ∃ c, c < 20 ∧ mw_ct (fun k => sh k == some c) 20 = 0 := by
  refine Classical.byContradiction fun hn => ?_
  have h1 : ∀ c, c < 20 → 1 ≤ mw_ct (fun k => sh k == some c) 20 := fun c hc => by
    rcases Nat.eq_zero_or_pos (mw_ct (fun k => sh k == some c) 20) with q | q
    · exact absurd ⟨c, hc, q⟩ hn
    · exact q
  have h2 := mw_sn_ge (fun c => mw_ct (fun k => sh k == some c) 20) 20 h1
  have h3 := mw_sn_ct sh 20 20
  have h4 := mw_ct_lt (P := fun k => (sh k).isSome) 20 e he (by simp [h])
  omega
/-- does one of the first n pages show s -/
def mw_in (m : Nat → Option Nat) : Nat → Nat → Bool
  | 0, _ => false
  | n + 1, s => mw_in m n s || (m n == some s)
theorem mw_in_iff (m : Nat → Option Nat) (s : Nat) : ∀ n, mw_in m n s = true ↔ ∃ k, k < n ∧ m k = some s
  | 0 => ⟨fun h => by simp [mw_in] at h, fun ⟨k, h, _⟩ => absurd h (by omega)⟩
  | n + 1 => by
    unfold mw_in
    rw [Bool.or_eq_true, mw_in_iff m s n, beq_iff_eq]
    constructor
    · rintro (⟨k, h1, h2⟩ | h)
      · exact ⟨k, by omega, h2⟩
      · exact ⟨n, by omega, h⟩
    · rintro ⟨k, h1, h2⟩
      by_cases hk : k = n
      · subst hk
        exact Or.inr h2
      · exact Or.inl ⟨k, by omega, h2⟩
theorem mw_in_no {m : Nat → Option Nat} {s n : Nat} (h : mw_in m n s = false) {k : Nat} (hk : k < n) : m k ≠ some s := by
  intro q
  have := (mw_in_iff m s n).mpr ⟨k, hk, q⟩
  rw [h] at this
  cases this
theorem mw_in_noI {m : Nat → Option Nat} {s n : Nat} (h : ∀ k, k < n → m k ≠ some s) : mw_in m n s = false := by
  cases q : mw_in m n s with
  | false => rfl
  | true =>
    obtain ⟨k, h1, h2⟩ := (mw_in_iff m s n).mp q
    exact absurd h2 (h k h1)
def mw_used (m : Nat → Option Nat) (s : Nat) : Bool := mw_in m 20 s
/-- the least number that no page has, or 0 -/
def mw_new (m : Nat → Option Nat) : Nat := ((List.range 20).find? (fun s => !mw_used m s)).getD 0
theorem mw_new_at {m : Nat → Option Nat} {i : Nat} (hi : i < 20) (h : ∀ t, t < i → mw_used m t = true) (h2 : mw_used m i = false) : mw_new m = i := by
  have : (List.range 20).find? (fun s => !mw_used m s) = some i := by
    rw [List.find?_range_eq_some]
    refine ⟨by simp [h2], List.mem_range.mpr hi, fun j hj => by simp [h j hj]⟩
  unfold mw_new
  rw [this]
  rfl
theorem mw_new_0 {m : Nat → Option Nat} (h : ∀ t, t < 20 → mw_used m t = true) : mw_new m = 0 := by
  have : (List.range 20).find? (fun s => !mw_used m s) = none := by
    rw [List.find?_range_eq_none]
    intro j hj
    simp [h j hj]
  unfold mw_new
  rw [this]
  rfl
theorem mw_new_lt (m : Nat → Option Nat) : mw_new m < 20 := by
  unfold mw_new
  cases h : (List.range 20).find? (fun s => !mw_used m s) with
  | none => decide
  | some i =>
    rw [List.find?_range_eq_some] at h
    exact List.mem_range.mp h.2.1
theorem mw_new_free {m : Nat → Option Nat} {e : Nat} (he : e < 20) (h : m e = none) {k : Nat} (hk : k < 20) : m k ≠ some (mw_new m) := by
  obtain ⟨c, hc, h0⟩ := mw_pig m he h
  have hu : mw_used m c = false := mw_in_noI (fun k hk q => by
    have := mw_ct_zero h0 hk
    simp [q] at this)
  have : mw_used m (mw_new m) = false := by
    unfold mw_new
    cases h : (List.range 20).find? (fun s => !mw_used m s) with
    | none =>
      rw [List.find?_range_eq_none] at h
      have := h c hc
      simp [hu] at this
    | some i =>
      rw [List.find?_range_eq_some] at h
      simpa using h.1
  exact mw_in_no this hk
/-- sums of longs -/
def mw_sl (f : Nat → Int64) : Nat → Int64
  | 0 => 0
  | n + 1 => mw_sl f n + f n
theorem mw_sl_congr {f g : Nat → Int64} : ∀ n, (∀ k, k < n → f k = g k) → mw_sl f n = mw_sl g n
  | 0, _ => rfl
  | n + 1, h => by
    unfold mw_sl
    rw [mw_sl_congr n (fun k hk => h k (by omega)), h n (by omega)]
theorem mw_sl_one {f g : Nat → Int64} {t : Nat} {x : Int64} (h0 : f t = 0) (h1 : g t = x) (h2 : ∀ k, k ≠ t → g k = f k) : ∀ n, t < n → mw_sl g n = mw_sl f n + x
  | 0, h => absurd h (by omega)
  | n + 1, h => by
    unfold mw_sl
    by_cases q : t = n
    · subst q
      rw [mw_sl_congr t (fun k hk => h2 k (by omega)), h0, h1, Int64.add_zero]
    · rw [mw_sl_one h0 h1 h2 n (by omega), h2 n (by omega), Int64.add_assoc, Int64.add_assoc, Int64.add_comm x]
theorem mw_sl_0 : ∀ n, mw_sl (fun _ => 0) n = 0
  | 0 => rfl
  | n + 1 => by
    unfold mw_sl
    rw [mw_sl_0 n]
    rfl
/-- each number that is shown, at the first page that shows it -/
def mw_fs (m : Nat → Option Nat) (g : Nat → Int64) : Nat → Int64
  | 0 => 0
  | n + 1 => mw_fs m g n + (match m n with
    | none => 0
    | some s => if mw_in m n s then 0 else g s)
theorem mw_fs_sl {m : Nat → Option Nat} {g : Nat → Int64} {N : Nat} : ∀ n, (∀ k s, k < n → m k = some s → s < N) → mw_fs m g n = mw_sl (fun s => if mw_in m n s then g s else 0) N
  | 0, _ => (mw_sl_0 N).symm
  | n + 1, h => by
    unfold mw_fs
    rw [mw_fs_sl n (fun k s hk hs => h k s (by omega) hs)]
    cases hm : m n with
    | none =>
      show _ + (0 : Int64) = _
      rw [Int64.add_zero]
      refine mw_sl_congr N (fun k hk => ?_)
      have : mw_in m (n + 1) k = mw_in m n k := by
        show (mw_in m n k || (m n == some k)) = mw_in m n k
        simp [hm]
      rw [this]
    | some t =>
      have ht := h n t (by omega) hm
      by_cases hi : mw_in m n t = true
      · show _ + (if mw_in m n t then (0 : Int64) else g t) = _
        rw [if_pos hi, Int64.add_zero]
        refine mw_sl_congr N (fun k hk => ?_)
        have : mw_in m (n + 1) k = mw_in m n k := by
          show (mw_in m n k || (m n == some k)) = mw_in m n k
          by_cases q : t = k
          · subst q
            rw [hi]
            rfl
          · simp [hm, q]
        rw [this]
      · show _ + (if mw_in m n t then (0 : Int64) else g t) = _
        rw [if_neg hi]
        refine (mw_sl_one (t := t) (by simp [hi]) ?_ ?_ N ht).symm
        · simp [mw_in, hm]
        · intro k hk
          have : mw_in m (n + 1) k = mw_in m n k := by
            show (mw_in m n k || (m n == some k)) = mw_in m n k
            simp [hm, Ne.symm hk]
          rw [this]
theorem mw_ct_add1 {f g : Nat → Bool} {t : Nat} (h0 : f t = false) (h1 : g t = true) (h2 : ∀ k, k ≠ t → g k = f k) : ∀ n, t < n → mw_ct g n = mw_ct f n + 1
  | 0, h => absurd h (by omega)
  | n + 1, h => by
    unfold mw_ct
    by_cases q : t = n
    · subst q
      rw [mw_ct_congr t (fun k hk => h2 k (by omega)), h0, h1]
      rfl
    · rw [mw_ct_add1 h0 h1 h2 n (by omega), h2 n (by omega)]
      omega
/-- how many first shows -/
def mw_fc (m : Nat → Option Nat) : Nat → Nat
  | 0 => 0
  | n + 1 => mw_fc m n + (match m n with
    | none => 0
    | some s => if mw_in m n s then 0 else 1)
theorem mw_fc_ct {m : Nat → Option Nat} {N : Nat} : ∀ n, (∀ k s, k < n → m k = some s → s < N) → mw_fc m n = mw_ct (fun s => mw_in m n s) N
  | 0, _ => (mw_ct_none N (fun _ _ => rfl)).symm
  | n + 1, h => by
    unfold mw_fc
    rw [mw_fc_ct n (fun k s hk hs => h k s (by omega) hs)]
    cases hm : m n with
    | none =>
      refine mw_ct_congr N (fun k hk => ?_)
      show _ = (mw_in m n k || (m n == some k))
      simp [hm]
    | some t =>
      have ht := h n t (by omega) hm
      by_cases hi : mw_in m n t = true
      · show _ + (if mw_in m n t then 0 else 1) = _
        rw [if_pos hi]
        refine mw_ct_congr N (fun k hk => ?_)
        show _ = (mw_in m n k || (m n == some k))
        by_cases q : t = k
        · subst q
          rw [hi]
          rfl
        · simp [hm, q]
      · show _ + (if mw_in m n t then 0 else 1) = _
        rw [if_neg hi]
        refine (mw_ct_add1 (t := t) (by simpa using hi) ?_ ?_ N ht).symm
        · simp [mw_in, hm]
        · intro k hk
          show (mw_in m n k || (m n == some k)) = mw_in m n k
          simp [hm, Ne.symm hk]
end
section
/-! PURE ROWS 2: the class's invariants, and what each step does to them -/
/-- what a content holds in its swap place -/
def mw_sv (sw : Nat → Bool) (sc : Nat → Int32) (c i : Nat) : Int32 := if sw c then sc (4 * c + i) else 0
/-- frames and swap places: content c holds vl c 0 .. vl c 3 -/
def mw_L (vl : Nat → Nat → Int32) (F : Nat) (fo : Nat → Option Nat) (sw : Nat → Bool) (sc : Nat → Int32) (ho : Nat → Option Nat) (fr : Nat → Int32) (di : Nat → Bool) (ha : Nat) : Prop :=
  (2 ≤ F ∧ F ≤ 6 ∧ ha < F) ∧
  (∀ c f, c < 20 → fo c = some f → f < F ∧ ho f = some c) ∧
  (∀ f c, f < F → ho f = some c → c < 20 ∧ fo c = some f) ∧
  (∀ c i, c < 20 → i < 4 → fo c = none → vl c i = mw_sv sw sc c i) ∧
  (∀ c f i, c < 20 → i < 4 → fo c = some f → vl c i = fr (4 * f + i)) ∧
  (∀ c f i, c < 20 → i < 4 → fo c = some f → di f = false → fr (4 * f + i) = mw_sv sw sc c i)
theorem mw_up_s {α : Type} {f : Nat → α} {k : Nat} {v : α} : va_up f k v k = v := by simp [va_up]
theorem mw_up_n {α : Type} {f : Nat → α} {k j : Nat} {v : α} (h : j ≠ k) : va_up f k v j = f j := by simp [va_up, h]
theorem mw_up_same {α : Type} {f : Nat → α} {k : Nat} {v : α} (h : f k = v) : va_up f k v = f := by
  funext j
  by_cases q : j = k
  · subst q
    rw [mw_up_s, h]
  · rw [mw_up_n q]
theorem mw_L_ha {vl : Nat → Nat → Int32} {F : Nat} {fo : Nat → Option Nat} {sw : Nat → Bool} {sc : Nat → Int32} {ho : Nat → Option Nat} {fr : Nat → Int32} {di : Nat → Bool} {ha ha' : Nat} (h : mw_L vl F fo sw sc ho fr di ha) (h' : ha' < F) : mw_L vl F fo sw sc ho fr di ha' := ⟨⟨h.1.1, h.1.2.1, h'⟩, h.2⟩
/-- a clean frame is emptied -/
theorem mw_L_outC {vl : Nat → Nat → Int32} {F : Nat} {fo : Nat → Option Nat} {sw : Nat → Bool} {sc : Nat → Int32} {ho : Nat → Option Nat} {fr : Nat → Int32} {di : Nat → Bool} {ha f c : Nat} (h : mw_L vl F fo sw sc ho fr di ha) (hf : f < F) (hc : ho f = some c) (hd : di f = false) : mw_L vl F (va_up fo c none) sw sc (va_up ho f none) fr di ha := by
  obtain ⟨h1, h2, h3, h4, h5, h6⟩ := h
  obtain ⟨hc20, hfo⟩ := h3 f c hf hc
  refine ⟨h1, ?_, ?_, ?_, ?_, ?_⟩
  · intro c' f' hc' q
    by_cases e : c' = c
    · subst e; rw [mw_up_s] at q; cases q
    · rw [mw_up_n e] at q
      obtain ⟨a, b⟩ := h2 c' f' hc' q
      refine ⟨a, ?_⟩
      rw [mw_up_n (fun z => e (by subst z; rw [hc] at b; exact (Option.some.inj b).symm))]
      exact b
  · intro f' c' hf' q
    by_cases e : f' = f
    · subst e; rw [mw_up_s] at q; cases q
    · rw [mw_up_n e] at q
      obtain ⟨a, b⟩ := h3 f' c' hf' q
      refine ⟨a, ?_⟩
      rw [mw_up_n (fun z => e (by subst z; rw [hfo] at b; exact (Option.some.inj b).symm))]
      exact b
  · intro c' i hc' hi q
    by_cases e : c' = c
    · subst e
      rw [h5 c' f i hc' hi hfo]
      exact h6 c' f i hc' hi hfo hd
    · rw [mw_up_n e] at q
      exact h4 c' i hc' hi q
  · intro c' f' i hc' hi q
    by_cases e : c' = c
    · subst e; rw [mw_up_s] at q; cases q
    · rw [mw_up_n e] at q
      exact h5 c' f' i hc' hi q
  · intro c' f' i hc' hi q
    by_cases e : c' = c
    · subst e; rw [mw_up_s] at q; cases q
    · rw [mw_up_n e] at q
      exact h6 c' f' i hc' hi q
/-- a frame that was written goes to its content's swap place -/
theorem mw_L_outD {vl : Nat → Nat → Int32} {F : Nat} {fo : Nat → Option Nat} {sw : Nat → Bool} {sc : Nat → Int32} {ho : Nat → Option Nat} {fr : Nat → Int32} {di : Nat → Bool} {ha f c : Nat} (h : mw_L vl F fo sw sc ho fr di ha) (hf : f < F) (hc : ho f = some c) : mw_L vl F (va_up fo c none) (va_up sw c true) (mw_fl sc (4 * c) 4 (fun i => fr (4 * f + i))) (va_up ho f none) fr di ha := by
  obtain ⟨h1, h2, h3, h4, h5, h6⟩ := h
  obtain ⟨hc20, hfo⟩ := h3 f c hf hc
  have hsv : ∀ c' i, c' ≠ c → i < 4 → mw_sv (va_up sw c true) (mw_fl sc (4 * c) 4 (fun i => fr (4 * f + i))) c' i = mw_sv sw sc c' i := by
    intro c' i e hi
    unfold mw_sv
    rw [mw_up_n e, mw_fl_out (by omega)]
  refine ⟨h1, ?_, ?_, ?_, ?_, ?_⟩
  · intro c' f' hc' q
    by_cases e : c' = c
    · subst e; rw [mw_up_s] at q; cases q
    · rw [mw_up_n e] at q
      obtain ⟨a, b⟩ := h2 c' f' hc' q
      refine ⟨a, ?_⟩
      rw [mw_up_n (fun z => e (by subst z; rw [hc] at b; exact (Option.some.inj b).symm))]
      exact b
  · intro f' c' hf' q
    by_cases e : f' = f
    · subst e; rw [mw_up_s] at q; cases q
    · rw [mw_up_n e] at q
      obtain ⟨a, b⟩ := h3 f' c' hf' q
      refine ⟨a, ?_⟩
      rw [mw_up_n (fun z => e (by subst z; rw [hfo] at b; exact (Option.some.inj b).symm))]
      exact b
  · intro c' i hc' hi q
    by_cases e : c' = c
    · subst e
      rw [h5 c' f i hc' hi hfo]
      unfold mw_sv
      rw [mw_up_s, mw_fl_in hi]
      rfl
    · rw [mw_up_n e] at q
      rw [hsv c' i e hi]
      exact h4 c' i hc' hi q
  · intro c' f' i hc' hi q
    by_cases e : c' = c
    · subst e; rw [mw_up_s] at q; cases q
    · rw [mw_up_n e] at q
      exact h5 c' f' i hc' hi q
  · intro c' f' i hc' hi q hd
    by_cases e : c' = c
    · subst e; rw [mw_up_s] at q; cases q
    · rw [mw_up_n e] at q
      rw [hsv c' i e hi]
      exact h6 c' f' i hc' hi q hd
/-- a content comes into an empty frame -/
theorem mw_L_in {vl : Nat → Nat → Int32} {F : Nat} {fo : Nat → Option Nat} {sw : Nat → Bool} {sc : Nat → Int32} {ho : Nat → Option Nat} {fr : Nat → Int32} {di : Nat → Bool} {ha f c : Nat} (h : mw_L vl F fo sw sc ho fr di ha) (hf : f < F) (hc : c < 20) (hfo : fo c = none) (hho : ho f = none) : mw_L vl F (va_up fo c (some f)) sw sc (va_up ho f (some c)) (mw_fl fr (4 * f) 4 (fun i => mw_sv sw sc c i)) (va_up di f false) ha := by
  obtain ⟨h1, h2, h3, h4, h5, h6⟩ := h
  have hne : ∀ c' f', c' < 20 → fo c' = some f' → f' ≠ f := by
    intro c' f' hc' q z
    subst z
    have := (h2 c' f' hc' q).2
    rw [hho] at this
    cases this
  refine ⟨h1, ?_, ?_, ?_, ?_, ?_⟩
  · intro c' f' hc' q
    by_cases e : c' = c
    · subst e
      rw [mw_up_s] at q
      cases q
      exact ⟨hf, mw_up_s⟩
    · rw [mw_up_n e] at q
      rw [mw_up_n (hne c' f' hc' q)]
      exact h2 c' f' hc' q
  · intro f' c' hf' q
    by_cases e : f' = f
    · subst e
      rw [mw_up_s] at q
      cases q
      exact ⟨hc, mw_up_s⟩
    · rw [mw_up_n e] at q
      obtain ⟨a, b⟩ := h3 f' c' hf' q
      refine ⟨a, ?_⟩
      rw [mw_up_n (fun z => by subst z; rw [hfo] at b; cases b)]
      exact b
  · intro c' i hc' hi q
    by_cases e : c' = c
    · subst e; rw [mw_up_s] at q; cases q
    · rw [mw_up_n e] at q
      exact h4 c' i hc' hi q
  · intro c' f' i hc' hi q
    by_cases e : c' = c
    · subst e
      rw [mw_up_s] at q
      cases q
      rw [mw_fl_in hi]
      exact h4 c' i hc' hi hfo
    · rw [mw_up_n e] at q
      have := hne c' f' hc' q
      rw [mw_fl_out (by omega)]
      exact h5 c' f' i hc' hi q
  · intro c' f' i hc' hi q hd
    by_cases e : c' = c
    · subst e
      rw [mw_up_s] at q
      cases q
      rw [mw_fl_in hi]
    · rw [mw_up_n e] at q
      have := hne c' f' hc' q
      rw [mw_up_n this] at hd
      rw [mw_fl_out (by omega)]
      exact h6 c' f' i hc' hi q hd
/-- a new content is all 0 -/
theorem mw_L_new {vl : Nat → Nat → Int32} {F : Nat} {fo : Nat → Option Nat} {sw : Nat → Bool} {sc : Nat → Int32} {ho : Nat → Option Nat} {fr : Nat → Int32} {di : Nat → Bool} {ha c : Nat} (h : mw_L vl F fo sw sc ho fr di ha) (hfo : fo c = none) : mw_L (va_up vl c (fun _ => 0)) F (va_up fo c none) (va_up sw c false) sc ho fr di ha := by
  rw [mw_up_same hfo]
  obtain ⟨h1, h2, h3, h4, h5, h6⟩ := h
  have hsv : ∀ c' i, c' ≠ c → mw_sv (va_up sw c false) sc c' i = mw_sv sw sc c' i := by
    intro c' i e
    unfold mw_sv
    rw [mw_up_n e]
  refine ⟨h1, h2, h3, ?_, ?_, ?_⟩
  · intro c' i hc' hi q
    by_cases e : c' = c
    · subst e
      unfold mw_sv
      rw [mw_up_s, mw_up_s]
      rfl
    · rw [mw_up_n e, hsv c' i e]
      exact h4 c' i hc' hi q
  · intro c' f' i hc' hi q
    rw [mw_up_n (fun z => by subst z; rw [hfo] at q; cases q)]
    exact h5 c' f' i hc' hi q
  · intro c' f' i hc' hi q hd
    rw [hsv c' i (fun z => by subst z; rw [hfo] at q; cases q)]
    exact h6 c' f' i hc' hi q hd
/-- a content that nobody shows leaves its frame -/
theorem mw_L_drop {vl : Nat → Nat → Int32} {F : Nat} {fo : Nat → Option Nat} {sw : Nat → Bool} {sc : Nat → Int32} {ho : Nat → Option Nat} {fr : Nat → Int32} {di : Nat → Bool} {ha f c : Nat} (h : mw_L vl F fo sw sc ho fr di ha) (hc : c < 20) (hfo : fo c = some f) : mw_L (va_up vl c (mw_sv sw sc c)) F (va_up fo c none) sw sc (va_up ho f none) fr di ha := by
  obtain ⟨h1, h2, h3, h4, h5, h6⟩ := h
  obtain ⟨hf, hho⟩ := h2 c f hc hfo
  refine ⟨h1, ?_, ?_, ?_, ?_, ?_⟩
  · intro c' f' hc' q
    by_cases e : c' = c
    · subst e; rw [mw_up_s] at q; cases q
    · rw [mw_up_n e] at q
      obtain ⟨a, b⟩ := h2 c' f' hc' q
      refine ⟨a, ?_⟩
      rw [mw_up_n (fun z => e (by subst z; rw [hho] at b; exact (Option.some.inj b).symm))]
      exact b
  · intro f' c' hf' q
    by_cases e : f' = f
    · subst e; rw [mw_up_s] at q; cases q
    · rw [mw_up_n e] at q
      obtain ⟨a, b⟩ := h3 f' c' hf' q
      refine ⟨a, ?_⟩
      rw [mw_up_n (fun z => e (by subst z; rw [hfo] at b; exact (Option.some.inj b).symm))]
      exact b
  · intro c' i hc' hi q
    by_cases e : c' = c
    · subst e
      rw [mw_up_s]
    · rw [mw_up_n e] at q ⊢
      exact h4 c' i hc' hi q
  · intro c' f' i hc' hi q
    by_cases e : c' = c
    · subst e; rw [mw_up_s] at q; cases q
    · rw [mw_up_n e] at q ⊢
      exact h5 c' f' i hc' hi q
  · intro c' f' i hc' hi q
    by_cases e : c' = c
    · subst e; rw [mw_up_s] at q; cases q
    · rw [mw_up_n e] at q
      exact h6 c' f' i hc' hi q
/-- a content's frame is written -/
theorem mw_L_wr {vl : Nat → Nat → Int32} {F : Nat} {fo : Nat → Option Nat} {sw : Nat → Bool} {sc : Nat → Int32} {ho : Nat → Option Nat} {fr fr' : Nat → Int32} {di : Nat → Bool} {ha f c : Nat} (g : Nat → Int32) (h : mw_L vl F fo sw sc ho fr di ha) (hc : c < 20) (hfo : fo c = some f) (hg : ∀ i, i < 4 → fr' (4 * f + i) = g i) (ho' : ∀ j, (j < 4 * f ∨ 4 * f + 4 ≤ j) → fr' j = fr j) : mw_L (va_up vl c g) F fo sw sc ho fr' (va_up di f true) ha := by
  obtain ⟨h1, h2, h3, h4, h5, h6⟩ := h
  have hne : ∀ c' f', c' < 20 → c' ≠ c → fo c' = some f' → f' ≠ f := by
    intro c' f' hc' e q z
    subst z
    have a := (h2 c' f' hc' q).2
    have b := (h2 c f' hc hfo).2
    rw [a] at b
    exact e (Option.some.inj b)
  refine ⟨h1, h2, h3, ?_, ?_, ?_⟩
  · intro c' i hc' hi q
    rw [mw_up_n (fun z => by subst z; rw [hfo] at q; cases q)]
    exact h4 c' i hc' hi q
  · intro c' f' i hc' hi q
    by_cases e : c' = c
    · subst e
      rw [hfo] at q
      cases q
      rw [mw_up_s, hg i hi]
    · have := hne c' f' hc' e q
      rw [mw_up_n e, ho' _ (by omega)]
      exact h5 c' f' i hc' hi q
  · intro c' f' i hc' hi q hd
    by_cases e : c' = c
    · subst e
      rw [hfo] at q
      cases q
      rw [mw_up_s] at hd
      cases hd
    · have := hne c' f' hc' e q
      rw [mw_up_n this] at hd
      rw [ho' _ (by omega)]
      exact h6 c' f' i hc' hi q hd
/-- pages and contents -/
def mw_U (sh : Nat → Option Nat) (is : Nat → Bool) (us : Nat → Nat) (fo : Nat → Option Nat) : Prop :=
  (∀ e c, e < 20 → sh e = some c → c < 20) ∧
  (∀ c, c < 20 → us c = mw_ct (fun e => sh e == some c) 20) ∧
  (∀ e e' c, e < 20 → e' < 20 → sh e = some c → sh e' = some c → is e = is e') ∧
  (∀ c, c < 20 → us c = 0 → fo c = none)
/-- a dead process shows nothing -/
def mw_Z (al : Nat → Bool) (sh : Nat → Option Nat) : Prop := ∀ p k, p < 4 → k < 5 → al p = false → sh (5 * p + k) = none
/-- the class's pages against the reference's -/
def mw_R (sh : Nat → Option Nat) (is : Nat → Bool) (vl : Nat → Nat → Int32) (ms : Nat → Option Nat) (mo : Nat → Bool) (mc : Nat → Int32) : Prop :=
  (∀ e, e < 20 → sh e = none → ms e = none) ∧
  (∀ e c, e < 20 → sh e = some c → ∃ s, s < 20 ∧ ms e = some s ∧ mo e = is e ∧ ∀ i, i < 4 → vl c i = mc (4 * s + i)) ∧
  (∀ e e' c c', e < 20 → e' < 20 → e ≠ e' → sh e = some c → sh e' = some c' → (ms e = ms e' ↔ (is e = true ∧ c = c')))
theorem mw_U_fo {sh : Nat → Option Nat} {is : Nat → Bool} {us : Nat → Nat} {fo fo' : Nat → Option Nat} (h : mw_U sh is us fo) (hf : ∀ c, c < 20 → us c = 0 → fo c = none → fo' c = none) : mw_U sh is us fo' := ⟨h.1, h.2.1, h.2.2.1, fun c hc h0 => hf c hc h0 (h.2.2.2 c hc h0)⟩
theorem mw_U_us {sh : Nat → Option Nat} {is : Nat → Bool} {us : Nat → Nat} {fo : Nat → Option Nat} (h : mw_U sh is us fo) {c : Nat} (hc : c < 20) : us c ≤ 20 := by
  rw [h.2.1 c hc]
  exact mw_ct_le _ 20
theorem mw_U_pos {sh : Nat → Option Nat} {is : Nat → Bool} {us : Nat → Nat} {fo : Nat → Option Nat} (h : mw_U sh is us fo) {e c : Nat} (he : e < 20) (hs : sh e = some c) : c < 20 ∧ 0 < us c := by
  have hc := h.1 e c he hs
  refine ⟨hc, ?_⟩
  rw [h.2.1 c hc]
  exact mw_ct_pos 20 e he (by simp [hs])
theorem mw_U_zero {sh : Nat → Option Nat} {is : Nat → Bool} {us : Nat → Nat} {fo : Nat → Option Nat} (h : mw_U sh is us fo) {c : Nat} (hc : c < 20) (h0 : us c = 0) {e : Nat} (he : e < 20) : sh e ≠ some c := by
  intro q
  have := (mw_U_pos h he q).2
  omega
theorem mw_U_free {sh : Nat → Option Nat} {is : Nat → Bool} {us : Nat → Nat} {fo : Nat → Option Nat} (h : mw_U sh is us fo) {e : Nat} (he : e < 20) (hs : sh e = none) : ∃ c, c < 20 ∧ us c = 0 := by
  obtain ⟨c, hc, h0⟩ := mw_pig sh he hs
  exact ⟨c, hc, by rw [h.2.1 c hc]; exact h0⟩
/-- an unmapped page gets a content that nobody shows -/
theorem mw_U_map {sh : Nat → Option Nat} {is : Nat → Bool} {us : Nat → Nat} {fo : Nat → Option Nat} (h : mw_U sh is us fo) {e c : Nat} (b : Bool) (he : e < 20) (hs : sh e = none) (hc : c < 20) (h0 : us c = 0) : mw_U (va_up sh e (some c)) (va_up is e b) (va_up us c 1) (va_up fo c none) := by
  refine ⟨?_, ?_, ?_, ?_⟩
  · intro e' c' he' q
    by_cases z : e' = e
    · subst z; rw [mw_up_s] at q; cases q; exact hc
    · rw [mw_up_n z] at q; exact h.1 e' c' he' q
  · intro c' hc'
    have h1 := mw_ct_up sh e (some c) c' 20 he
    rw [← h.2.1 c' hc'] at h1
    rw [hs] at h1
    by_cases z : c' = c
    · subst z
      rw [mw_up_s]
      simp at h1
      omega
    · rw [mw_up_n z]
      have : ¬ (some c = some c') := fun q => z (Option.some.inj q).symm
      simp only [this, if_false, reduceCtorEq] at h1
      omega
  · intro e1 e2 c' h1 h2 q1 q2
    by_cases z1 : e1 = e
    · by_cases z2 : e2 = e
      · rw [z1, z2]
      · subst z1
        rw [mw_up_s] at q1; cases q1
        rw [mw_up_n z2] at q2
        exact absurd q2 (mw_U_zero h hc h0 h2)
    · rw [mw_up_n z1] at q1
      by_cases z2 : e2 = e
      · subst z2
        rw [mw_up_s] at q2; cases q2
        exact absurd q1 (mw_U_zero h hc h0 h1)
      · rw [mw_up_n z2] at q2
        rw [mw_up_n z1, mw_up_n z2]
        exact h.2.2.1 e1 e2 c' h1 h2 q1 q2
  · intro c' hc' q
    by_cases z : c' = c
    · subst z; exact mw_up_s
    · rw [mw_up_n z] at q ⊢
      exact h.2.2.2 c' hc' q
theorem mw_R_map {sh : Nat → Option Nat} {is : Nat → Bool} {vl : Nat → Nat → Int32} {ms : Nat → Option Nat} {mo : Nat → Bool} {mc : Nat → Int32} (h : mw_R sh is vl ms mo mc) {e c s : Nat} (b : Bool) (hn : ∀ e', e' < 20 → sh e' ≠ some c) (hs : s < 20) (hm : ∀ e', e' < 20 → ms e' ≠ some s) : mw_R (va_up sh e (some c)) (va_up is e b) (va_up vl c (fun _ => 0)) (va_up ms e (some s)) (va_up mo e b) (mw_fl mc (4 * s) 4 (fun _ => 0)) := by
  obtain ⟨h1, h2, h3⟩ := h
  refine ⟨?_, ?_, ?_⟩
  · intro e' he' q
    by_cases z : e' = e
    · subst z; rw [mw_up_s] at q; cases q
    · rw [mw_up_n z] at q ⊢; exact h1 e' he' q
  · intro e' c' he' q
    by_cases z : e' = e
    · subst z
      rw [mw_up_s] at q; cases q
      refine ⟨s, hs, mw_up_s, by rw [mw_up_s, mw_up_s], fun i hi => ?_⟩
      rw [mw_up_s, mw_fl_in hi]
    · rw [mw_up_n z] at q
      obtain ⟨t, a1, a2, a3, a4⟩ := h2 e' c' he' q
      refine ⟨t, a1, by rw [mw_up_n z]; exact a2, by rw [mw_up_n z, mw_up_n z]; exact a3, fun i hi => ?_⟩
      have hts : t ≠ s := fun w => hm e' he' (by rw [a2, w])
      rw [mw_up_n (fun w => hn e' he' (by rw [q, w])), mw_fl_out (by omega)]
      exact a4 i hi
  · intro e1 e2 c1 c2 g1 g2 hne q1 q2
    by_cases z1 : e1 = e
    · subst z1
      have z2 : e2 ≠ e1 := Ne.symm hne
      rw [mw_up_s] at q1; cases q1
      rw [mw_up_n z2] at q2
      rw [mw_up_s, mw_up_n z2]
      constructor
      · intro w; exact absurd w.symm (hm e2 g2)
      · intro w; exact absurd (by rw [q2, ← w.2]) (hn e2 g2)
    · rw [mw_up_n z1] at q1
      by_cases z2 : e2 = e
      · subst z2
        rw [mw_up_s] at q2; cases q2
        rw [mw_up_s, mw_up_n z1]
        constructor
        · intro w; exact absurd w (hm e1 g1)
        · intro w; exact absurd (by rw [q1, w.2]) (hn e1 g1)
      · rw [mw_up_n z2] at q2
        rw [mw_up_n z1, mw_up_n z2, mw_up_n z1]
        exact h3 e1 e2 c1 c2 g1 g2 hne q1 q2
/-- a page is unmapped: fo may lose c when nobody shows it any more -/
theorem mw_U_rel {sh : Nat → Option Nat} {is : Nat → Bool} {us : Nat → Nat} {fo fo' : Nat → Option Nat} (h : mw_U sh is us fo) {e c : Nat} (he : e < 20) (hs : sh e = some c) (hf : ∀ c', c' < 20 → fo c' = none → fo' c' = none) (hf2 : us c - 1 = 0 → fo' c = none) : mw_U (va_up sh e none) is (va_up us c (us c - 1)) fo' := by
  have hc := h.1 e c he hs
  refine ⟨?_, ?_, ?_, ?_⟩
  · intro e' c' he' q
    by_cases z : e' = e
    · subst z; rw [mw_up_s] at q; cases q
    · rw [mw_up_n z] at q; exact h.1 e' c' he' q
  · intro c' hc'
    have h1 := mw_ct_up sh e none c' 20 he
    rw [← h.2.1 c' hc'] at h1
    rw [hs] at h1
    by_cases z : c' = c
    · subst z
      rw [mw_up_s]
      simp at h1
      omega
    · rw [mw_up_n z]
      have : ¬ (some c = some c') := fun q => z (Option.some.inj q).symm
      simp only [this, if_false, reduceCtorEq] at h1
      omega
  · intro e1 e2 c' h1 h2 q1 q2
    have z1 : e1 ≠ e := fun z => by subst z; rw [mw_up_s] at q1; cases q1
    have z2 : e2 ≠ e := fun z => by subst z; rw [mw_up_s] at q2; cases q2
    rw [mw_up_n z1] at q1
    rw [mw_up_n z2] at q2
    exact h.2.2.1 e1 e2 c' h1 h2 q1 q2
  · intro c' hc' q
    by_cases z : c' = c
    · subst z
      rw [mw_up_s] at q
      exact hf2 q
    · rw [mw_up_n z] at q
      exact hf c' hc' (h.2.2.2 c' hc' q)
theorem mw_R_rel {sh : Nat → Option Nat} {is : Nat → Bool} {vl vl' : Nat → Nat → Int32} {ms : Nat → Option Nat} {mo : Nat → Bool} {mc : Nat → Int32} (h : mw_R sh is vl ms mo mc) {e : Nat} (hv : ∀ e' c', e' < 20 → e' ≠ e → sh e' = some c' → vl' c' = vl c') : mw_R (va_up sh e none) is vl' (va_up ms e none) mo mc := by
  obtain ⟨h1, h2, h3⟩ := h
  refine ⟨?_, ?_, ?_⟩
  · intro e' he' q
    by_cases z : e' = e
    · subst z; exact mw_up_s
    · rw [mw_up_n z] at q ⊢; exact h1 e' he' q
  · intro e' c' he' q
    by_cases z : e' = e
    · subst z; rw [mw_up_s] at q; cases q
    · rw [mw_up_n z] at q
      rw [hv e' c' he' z q, mw_up_n z]
      exact h2 e' c' he' q
  · intro e1 e2 c1 c2 g1 g2 hne q1 q2
    have z1 : e1 ≠ e := fun z => by subst z; rw [mw_up_s] at q1; cases q1
    have z2 : e2 ≠ e := fun z => by subst z; rw [mw_up_s] at q2; cases q2
    rw [mw_up_n z1] at q1
    rw [mw_up_n z2] at q2
    rw [mw_up_n z1, mw_up_n z2]
    exact h3 e1 e2 c1 c2 g1 g2 hne q1 q2
/-- an unmapped page shows what another shows -/
theorem mw_U_dup {sh : Nat → Option Nat} {is : Nat → Bool} {us : Nat → Nat} {fo : Nat → Option Nat} (h : mw_U sh is us fo) {e o c : Nat} (he : e < 20) (hs : sh e = none) (ho : o < 20) (hso : sh o = some c) : mw_U (va_up sh e (some c)) (va_up is e (is o)) (va_up us c (us c + 1)) fo := by
  have hc := h.1 o c ho hso
  have hoe : o ≠ e := fun z => by subst z; rw [hs] at hso; cases hso
  refine ⟨?_, ?_, ?_, ?_⟩
  · intro e' c' he' q
    by_cases z : e' = e
    · subst z; rw [mw_up_s] at q; cases q; exact hc
    · rw [mw_up_n z] at q; exact h.1 e' c' he' q
  · intro c' hc'
    have h1 := mw_ct_up sh e (some c) c' 20 he
    rw [← h.2.1 c' hc'] at h1
    rw [hs] at h1
    by_cases z : c' = c
    · subst z
      rw [mw_up_s]
      simp at h1
      omega
    · rw [mw_up_n z]
      have : ¬ (some c = some c') := fun q => z (Option.some.inj q).symm
      simp only [this, if_false, reduceCtorEq] at h1
      omega
  · have key : ∀ e1 c', e1 < 20 → va_up sh e (some c) e1 = some c' → c' = c → va_up is e (is o) e1 = is o := by
      intro e1 c' g1 q1 w
      subst w
      by_cases z1 : e1 = e
      · subst z1; exact mw_up_s
      · rw [mw_up_n z1] at q1 ⊢
        exact h.2.2.1 e1 o c' g1 ho q1 hso
    intro e1 e2 c' g1 g2 q1 q2
    by_cases w : c' = c
    · rw [key e1 c' g1 q1 w, key e2 c' g2 q2 w]
    · have z1 : e1 ≠ e := fun z => by subst z; rw [mw_up_s] at q1; exact w (Option.some.inj q1).symm
      have z2 : e2 ≠ e := fun z => by subst z; rw [mw_up_s] at q2; exact w (Option.some.inj q2).symm
      rw [mw_up_n z1] at q1 ⊢
      rw [mw_up_n z2] at q2 ⊢
      exact h.2.2.1 e1 e2 c' g1 g2 q1 q2
  · intro c' hc' q
    by_cases z : c' = c
    · subst z
      rw [mw_up_s] at q
      omega
    · rw [mw_up_n z] at q
      exact h.2.2.2 c' hc' q
/-- a shared page is shown once more -/
theorem mw_R_dupS {sh : Nat → Option Nat} {is : Nat → Bool} {us : Nat → Nat} {fo : Nat → Option Nat} {vl : Nat → Nat → Int32} {ms : Nat → Option Nat} {mo : Nat → Bool} {mc : Nat → Int32} (hU : mw_U sh is us fo) (h : mw_R sh is vl ms mo mc) {e o c : Nat} (hs : sh e = none) (ho : o < 20) (hso : sh o = some c) (hi : is o = true) : mw_R (va_up sh e (some c)) (va_up is e true) vl (va_up ms e (ms o)) (va_up mo e true) mc := by
  obtain ⟨h1, h2, h3⟩ := h
  have hoe : o ≠ e := fun z => by subst z; rw [hs] at hso; cases hso
  obtain ⟨s, a1, a2, a3, a4⟩ := h2 o c ho hso
  have key : ∀ e2 c2, e2 < 20 → e2 ≠ e → sh e2 = some c2 → (ms o = ms e2 ↔ c = c2) := by
    intro e2 c2 g2 z2 q2
    by_cases w : o = e2
    · subst w
      rw [hso] at q2
      exact ⟨fun _ => Option.some.inj q2, fun _ => rfl⟩
    · rw [h3 o e2 c c2 ho g2 w hso q2]
      exact ⟨fun q => q.2, fun q => ⟨hi, q⟩⟩
  refine ⟨?_, ?_, ?_⟩
  · intro e' he' q
    by_cases z : e' = e
    · subst z; rw [mw_up_s] at q; cases q
    · rw [mw_up_n z] at q ⊢; exact h1 e' he' q
  · intro e' c' he' q
    by_cases z : e' = e
    · subst z
      rw [mw_up_s] at q; cases q
      exact ⟨s, a1, by rw [mw_up_s]; exact a2, by rw [mw_up_s, mw_up_s], a4⟩
    · rw [mw_up_n z] at q
      rw [mw_up_n z, mw_up_n z, mw_up_n z]
      exact h2 e' c' he' q
  · intro e1 e2 c1 c2 g1 g2 hne q1 q2
    by_cases z1 : e1 = e
    · subst z1
      have z2 : e2 ≠ e1 := Ne.symm hne
      rw [mw_up_s] at q1; cases q1
      rw [mw_up_n z2] at q2
      rw [mw_up_s, mw_up_n z2, mw_up_s, key e2 c2 g2 z2 q2]
      exact ⟨fun q => ⟨rfl, q⟩, fun q => q.2⟩
    · rw [mw_up_n z1] at q1
      by_cases z2 : e2 = e
      · subst z2
        rw [mw_up_s] at q2; cases q2
        rw [mw_up_s, mw_up_n z1, mw_up_n z1]
        have k := key e1 c1 g1 z1 q1
        constructor
        · intro w
          have w2 := k.mp w.symm
          refine ⟨?_, w2.symm⟩
          rw [← hi]
          exact hU.2.2.1 e1 o c1 g1 ho q1 (by rw [hso, w2])
        · intro w
          exact (k.mpr w.2.symm).symm
      · rw [mw_up_n z2] at q2
        rw [mw_up_n z1, mw_up_n z2, mw_up_n z1]
        exact h3 e1 e2 c1 c2 g1 g2 hne q1 q2
/-- a private page is shown once more: the reference makes a sheet of its own -/
theorem mw_R_dupP {sh : Nat → Option Nat} {is : Nat → Bool} {us : Nat → Nat} {fo : Nat → Option Nat} {vl : Nat → Nat → Int32} {ms : Nat → Option Nat} {mo : Nat → Bool} {mc : Nat → Int32} (hU : mw_U sh is us fo) (h : mw_R sh is vl ms mo mc) {e o c s t : Nat} (hs : sh e = none) (ho : o < 20) (hso : sh o = some c) (hi : is o = false) (ht : ms o = some t) (hs20 : s < 20) (hm : ∀ e', e' < 20 → ms e' ≠ some s) : mw_R (va_up sh e (some c)) (va_up is e false) vl (va_up ms e (some s)) (va_up mo e false) (mw_fl mc (4 * s) 4 (fun i => mc (4 * t + i))) := by
  obtain ⟨h1, h2, h3⟩ := h
  have hoe : o ≠ e := fun z => by subst z; rw [hs] at hso; cases hso
  obtain ⟨s0, a1, a2, a3, a4⟩ := h2 o c ho hso
  have hst : s0 = t := by rw [ht] at a2; exact (Option.some.inj a2).symm
  subst hst
  refine ⟨?_, ?_, ?_⟩
  · intro e' he' q
    by_cases z : e' = e
    · subst z; rw [mw_up_s] at q; cases q
    · rw [mw_up_n z] at q ⊢; exact h1 e' he' q
  · intro e' c' he' q
    by_cases z : e' = e
    · subst z
      rw [mw_up_s] at q; cases q
      refine ⟨s, hs20, mw_up_s, by rw [mw_up_s, mw_up_s], fun i hi => ?_⟩
      rw [mw_fl_in hi]
      exact a4 i hi
    · rw [mw_up_n z] at q
      obtain ⟨t, b1, b2, b3, b4⟩ := h2 e' c' he' q
      refine ⟨t, b1, by rw [mw_up_n z]; exact b2, by rw [mw_up_n z, mw_up_n z]; exact b3, fun i hi => ?_⟩
      have hts : t ≠ s := fun w => hm e' he' (by rw [b2, w])
      rw [mw_fl_out (by omega)]
      exact b4 i hi
  · intro e1 e2 c1 c2 g1 g2 hne q1 q2
    by_cases z1 : e1 = e
    · subst z1
      have z2 : e2 ≠ e1 := Ne.symm hne
      rw [mw_up_s, mw_up_n z2, mw_up_s]
      constructor
      · intro w; exact absurd w.symm (hm e2 g2)
      · intro w; exact absurd w.1 (by decide)
    · rw [mw_up_n z1] at q1
      by_cases z2 : e2 = e
      · subst z2
        rw [mw_up_s] at q2; cases q2
        rw [mw_up_s, mw_up_n z1, mw_up_n z1]
        constructor
        · intro w; exact absurd w (hm e1 g1)
        · intro w
          have := hU.2.2.1 e1 o c1 g1 ho q1 (by rw [hso, w.2])
          rw [w.1, hi] at this
          cases this
      · rw [mw_up_n z2] at q2
        rw [mw_up_n z1, mw_up_n z2, mw_up_n z1]
        exact h3 e1 e2 c1 c2 g1 g2 hne q1 q2
/-- an unmapped page's mark of sharing means nothing -/
theorem mw_U_is {sh : Nat → Option Nat} {is : Nat → Bool} {us : Nat → Nat} {fo : Nat → Option Nat} (h : mw_U sh is us fo) {e : Nat} (b : Bool) (hs : sh e = none) : mw_U sh (va_up is e b) us fo := by
  refine ⟨h.1, h.2.1, ?_, h.2.2.2⟩
  intro e1 e2 c' g1 g2 q1 q2
  have z1 : e1 ≠ e := fun z => by subst z; rw [hs] at q1; cases q1
  have z2 : e2 ≠ e := fun z => by subst z; rw [hs] at q2; cases q2
  rw [mw_up_n z1, mw_up_n z2]
  exact h.2.2.1 e1 e2 c' g1 g2 q1 q2
theorem mw_R_is {sh : Nat → Option Nat} {is : Nat → Bool} {vl : Nat → Nat → Int32} {ms : Nat → Option Nat} {mo : Nat → Bool} {mc : Nat → Int32} (h : mw_R sh is vl ms mo mc) {e : Nat} (b : Bool) (hs : sh e = none) : mw_R sh (va_up is e b) vl ms mo mc := by
  refine ⟨h.1, ?_, ?_⟩
  · intro e' c' he' q
    have z1 : e' ≠ e := fun z => by subst z; rw [hs] at q; cases q
    rw [mw_up_n z1]
    exact h.2.1 e' c' he' q
  · intro e1 e2 c1 c2 g1 g2 hne q1 q2
    have z1 : e1 ≠ e := fun z => by subst z; rw [hs] at q1; cases q1
    rw [mw_up_n z1]
    exact h.2.2 e1 e2 c1 c2 g1 g2 hne q1 q2
/-- a private page parts from those that show the same content -/
theorem mw_U_part {sh : Nat → Option Nat} {is : Nat → Bool} {us : Nat → Nat} {fo : Nat → Option Nat} (h : mw_U sh is us fo) {e c d : Nat} (he : e < 20) (hs : sh e = some c) (hu : 1 < us c) (hd : d < 20) (h0 : va_up us c (us c - 1) d = 0) : mw_U (va_up sh e (some d)) is (va_up (va_up us c (us c - 1)) d 1) (va_up fo d none) := by
  have h1 := mw_U_rel (fo' := fo) h he hs (fun _ _ q => q) (fun q => by omega)
  have h2 := mw_U_map h1 (e := e) (is e) he mw_up_s hd h0
  rw [bx_uu, mw_up_same (f := is) rfl] at h2
  exact h2
theorem mw_R_part {sh : Nat → Option Nat} {is : Nat → Bool} {vl vl' : Nat → Nat → Int32} {ms : Nat → Option Nat} {mo : Nat → Bool} {mc : Nat → Int32} (h : mw_R sh is vl ms mo mc) {e c d : Nat} (he : e < 20) (hs : sh e = some c) (hi : is e = false) (hd : ∀ e', e' < 20 → sh e' ≠ some d) (hv : ∀ i, i < 4 → vl' d i = vl c i) (hv2 : ∀ c' i, c' ≠ d → i < 4 → vl' c' i = vl c' i) : mw_R (va_up sh e (some d)) is vl' ms mo mc := by
  obtain ⟨h1, h2, h3⟩ := h
  refine ⟨?_, ?_, ?_⟩
  · intro e' he' q
    by_cases z : e' = e
    · subst z; rw [mw_up_s] at q; cases q
    · rw [mw_up_n z] at q; exact h1 e' he' q
  · intro e' c' he' q
    by_cases z : e' = e
    · subst z
      rw [mw_up_s] at q; cases q
      obtain ⟨t, b1, b2, b3, b4⟩ := h2 e' c he hs
      exact ⟨t, b1, b2, b3, fun i hi => by rw [hv i hi]; exact b4 i hi⟩
    · rw [mw_up_n z] at q
      obtain ⟨t, b1, b2, b3, b4⟩ := h2 e' c' he' q
      exact ⟨t, b1, b2, b3, fun i hi => by rw [hv2 c' i (fun w => hd e' he' (by rw [q, w])) hi]; exact b4 i hi⟩
  · intro e1 e2 c1 c2 g1 g2 hne q1 q2
    by_cases z1 : e1 = e
    · subst z1
      have z2 : e2 ≠ e1 := Ne.symm hne
      rw [mw_up_n z2] at q2
      rw [h3 e1 e2 c c2 g1 g2 hne hs q2, hi]
      exact ⟨fun w => absurd w.1 (by decide), fun w => absurd w.1 (by decide)⟩
    · rw [mw_up_n z1] at q1
      by_cases z2 : e2 = e
      · subst z2
        rw [mw_up_s] at q2; cases q2
        constructor
        · intro w
          have k := (h3 e2 e1 c c1 g2 g1 (Ne.symm hne) hs q1).mp w.symm
          rw [hi] at k
          exact absurd k.1 (by decide)
        · intro w
          exact absurd (by rw [q1, w.2]) (hd e1 g1)
      · rw [mw_up_n z2] at q2
        exact h3 e1 e2 c1 c2 g1 g2 hne q1 q2
/-- a page that is shared, or whose content nobody else shows, is written -/
theorem mw_R_write {sh : Nat → Option Nat} {is : Nat → Bool} {us : Nat → Nat} {fo : Nat → Option Nat} {vl : Nat → Nat → Int32} {ms : Nat → Option Nat} {mo : Nat → Bool} {mc : Nat → Int32} (hU : mw_U sh is us fo) (h : mw_R sh is vl ms mo mc) {e c s i : Nat} (v : Int32) (he : e < 20) (hs : sh e = some c) (hm : ms e = some s) (hi : i < 4) (hp : is e = true ∨ us c ≤ 1) : mw_R sh is (va_up vl c (upd (vl c) i v)) ms mo (upd mc (4 * s + i) v) := by
  obtain ⟨h1, h2, h3⟩ := h
  refine ⟨h1, ?_, h3⟩
  intro e' c' he' q
  obtain ⟨t, b1, b2, b3, b4⟩ := h2 e' c' he' q
  refine ⟨t, b1, b2, b3, fun j hj => ?_⟩
  by_cases z : e' = e
  · subst z
    rw [hs] at q; cases q
    rw [hm] at b2; cases b2
    rw [mw_up_s]
    unfold upd
    by_cases w : j = i
    · subst w; rw [if_pos rfl, if_pos rfl]
    · rw [if_neg w, if_neg (by omega)]; exact b4 j hj
  · have k := h3 e e' c c' he he' (Ne.symm z) hs q
    rw [hm, b2] at k
    by_cases w : c' = c
    · subst w
      have hie : is e = true := by
        rcases hp with hp | hp
        · exact hp
        · exfalso
          have hc := hU.1 e c' he hs
          rw [hU.2.1 c' hc] at hp
          have h2' : 2 ≤ mw_ct (fun e => sh e == some c') 20 := by
            rcases Nat.lt_or_ge e e' with l | l
            · exact mw_ct_two 20 e e' l he' (by simp [hs]) (by simp [q])
            · exact mw_ct_two 20 e' e (by omega) he (by simp [q]) (by simp [hs])
          omega
      have hts : s = t := Option.some.inj (k.mpr ⟨hie, rfl⟩)
      subst hts
      rw [mw_up_s]
      unfold upd
      by_cases w : j = i
      · subst w; rw [if_pos rfl, if_pos rfl]
      · rw [if_neg w, if_neg (by omega)]; exact b4 j hj
    · rw [mw_up_n w]
      have hts : t ≠ s := fun x => by
        subst x
        exact w (k.mp rfl).2.symm
      rw [show upd mc (4 * s + i) v (4 * t + j) = mc (4 * t + j) from pk_un (by omega)]
      exact b4 j hj
/-- how many pages show a sheet -/
theorem mw_show_S {sh : Nat → Option Nat} {is : Nat → Bool} {us : Nat → Nat} {fo : Nat → Option Nat} {vl : Nat → Nat → Int32} {ms : Nat → Option Nat} {mo : Nat → Bool} {mc : Nat → Int32} (hU : mw_U sh is us fo) (h : mw_R sh is vl ms mo mc) {e c : Nat} (he : e < 20) (hs : sh e = some c) (hi : is e = true) : us c = mw_ct (fun j => ms j == ms e) 20 := by
  obtain ⟨h1, h2, h3⟩ := h
  obtain ⟨s, a1, a2, a3, a4⟩ := h2 e c he hs
  rw [hU.2.1 c (hU.1 e c he hs)]
  refine mw_ct_congr 20 (fun k hk => ?_)
  by_cases z : k = e
  · subst z; simp [hs]
  · cases q : sh k with
    | none => rw [h1 k hk q, a2]; rfl
    | some c' =>
      have := h3 e k c c' he hk (Ne.symm z) hs q
      rw [Bool.eq_iff_iff, beq_iff_eq, beq_iff_eq]
      constructor
      · intro w; exact (this.mpr ⟨hi, (Option.some.inj w).symm⟩).symm
      · intro w; rw [(this.mp w.symm).2]
theorem mw_show_P {sh : Nat → Option Nat} {is : Nat → Bool} {vl : Nat → Nat → Int32} {ms : Nat → Option Nat} {mo : Nat → Bool} {mc : Nat → Int32} (h : mw_R sh is vl ms mo mc) {e c : Nat} (he : e < 20) (hs : sh e = some c) (hi : is e = false) : mw_ct (fun j => ms j == ms e) 20 = 1 := by
  obtain ⟨h1, h2, h3⟩ := h
  obtain ⟨s, a1, a2, a3, a4⟩ := h2 e c he hs
  refine mw_ct_one 20 e he (by simp) (fun k hk z => ?_)
  cases q : sh k with
  | none => rw [h1 k hk q, a2]; rfl
  | some c' =>
    have := h3 e k c c' he hk (Ne.symm z) hs q
    rw [hi] at this
    cases w : (ms k == ms e) with
    | false => rfl
    | true =>
      rw [beq_iff_eq] at w
      exact absurd (this.mp w.symm).1 (by decide)
/-- a page is the first of its sheet: as the class sees it, as the reference does -/
theorem mw_first {sh : Nat → Option Nat} {is : Nat → Bool} {vl : Nat → Nat → Int32} {ms : Nat → Option Nat} {mo : Nat → Bool} {mc : Nat → Int32} (h : mw_R sh is vl ms mo mc) {e c s : Nat} (he : e < 20) (hs : sh e = some c) (hm : ms e = some s) : mw_in ms e s = (is e && mw_in sh e c) := by
  obtain ⟨h1, h2, h3⟩ := h
  rw [Bool.eq_iff_iff, Bool.and_eq_true, mw_in_iff, mw_in_iff]
  constructor
  · rintro ⟨k, hk, q⟩
    cases w : sh k with
    | none => rw [h1 k (by omega) w] at q; cases q
    | some c' =>
      have := (h3 e k c c' he (by omega) (by omega) hs w).mp (by rw [hm, q])
      exact ⟨this.1, k, hk, by rw [w, this.2]⟩
  · rintro ⟨hi, k, hk, q⟩
    have := (h3 e k c c he (by omega) (by omega) hs q).mpr ⟨hi, rfl⟩
    exact ⟨k, hk, by rw [← this, hm]⟩
def mw_s4 (g : Nat → Int32) : Int64 := mw_sl (fun i => (g i).toInt64) 4
/-- the class's sums over pages 0 .. n - 1 -/
def mw_cs (sh : Nat → Option Nat) (is : Nat → Bool) (vl : Nat → Nat → Int32) : Nat → Int64
  | 0 => 0
  | n + 1 => mw_cs sh is vl n + (match sh n with
    | none => 0
    | some c => if is n && mw_in sh n c then 0 else mw_s4 (vl c))
def mw_cc (sh : Nat → Option Nat) (is : Nat → Bool) : Nat → Nat
  | 0 => 0
  | n + 1 => mw_cc sh is n + (match sh n with
    | none => 0
    | some c => if is n && mw_in sh n c then 0 else 1)
theorem mw_cs_fs {sh : Nat → Option Nat} {is : Nat → Bool} {vl : Nat → Nat → Int32} {ms : Nat → Option Nat} {mo : Nat → Bool} {mc : Nat → Int32} (h : mw_R sh is vl ms mo mc) : ∀ n, n ≤ 20 → mw_cs sh is vl n = mw_fs ms (fun s => mw_s4 (fun i => mc (4 * s + i))) n
  | 0, _ => rfl
  | n + 1, hn => by
    unfold mw_cs mw_fs
    rw [mw_cs_fs h n (by omega)]
    cases q : sh n with
    | none => rw [h.1 n (by omega) q]
    | some c =>
      obtain ⟨s, a1, a2, a3, a4⟩ := h.2.1 n c (by omega) q
      rw [a2]
      show _ + (if is n && mw_in sh n c then 0 else mw_s4 (vl c)) = _ + (if mw_in ms n s then 0 else mw_s4 (fun i => mc (4 * s + i)))
      rw [← mw_first h (by omega) q a2, show mw_s4 (vl c) = mw_s4 (fun i => mc (4 * s + i)) from mw_sl_congr 4 (fun k hk => by rw [a4 k hk])]
theorem mw_cc_fc {sh : Nat → Option Nat} {is : Nat → Bool} {vl : Nat → Nat → Int32} {ms : Nat → Option Nat} {mo : Nat → Bool} {mc : Nat → Int32} (h : mw_R sh is vl ms mo mc) : ∀ n, n ≤ 20 → mw_cc sh is n = mw_fc ms n
  | 0, _ => rfl
  | n + 1, hn => by
    unfold mw_cc mw_fc
    rw [mw_cc_fc h n (by omega)]
    cases q : sh n with
    | none => rw [h.1 n (by omega) q]
    | some c =>
      obtain ⟨s, a1, a2, a3, a4⟩ := h.2.1 n c (by omega) q
      rw [a2]
      show _ + (if is n && mw_in sh n c then 0 else 1) = _ + (if mw_in ms n s then 0 else 1)
      rw [← mw_first h (by omega) q a2]
theorem mw_R_ms {sh : Nat → Option Nat} {is : Nat → Bool} {vl : Nat → Nat → Int32} {ms : Nat → Option Nat} {mo : Nat → Bool} {mc : Nat → Int32} (h : mw_R sh is vl ms mo mc) : ∀ k s, k < 20 → ms k = some s → s < 20 := by
  intro k s hk q
  cases w : sh k with
  | none => rw [h.1 k hk w] at q; cases q
  | some c =>
    obtain ⟨s', a1, a2, a3, a4⟩ := h.2.1 k c hk w
    rw [a2] at q
    cases q
    exact a1
/-- the two totals, the two counts -/
theorem mw_total_eq {sh : Nat → Option Nat} {is : Nat → Bool} {vl : Nat → Nat → Int32} {ms : Nat → Option Nat} {mo : Nat → Bool} {mc : Nat → Int32} (h : mw_R sh is vl ms mo mc) : mw_cs sh is vl 20 = mw_sl (fun s => if mw_used ms s then mw_s4 (fun i => mc (4 * s + i)) else 0) 20 := by
  rw [mw_cs_fs h 20 (Nat.le_refl _)]
  exact mw_fs_sl 20 (mw_R_ms h)
theorem mw_sheets_eq {sh : Nat → Option Nat} {is : Nat → Bool} {vl : Nat → Nat → Int32} {ms : Nat → Option Nat} {mo : Nat → Bool} {mc : Nat → Int32} (h : mw_R sh is vl ms mo mc) : mw_cc sh is 20 = mw_ct (fun s => mw_used ms s) 20 := by
  rw [mw_cc_fc h 20 (Nat.le_refl _)]
  exact mw_fc_ct 20 (mw_R_ms h)
end
section
/-! THE REFERENCE'S OPERATIONS as functions of its state: alive, sheet, open, cells -/
abbrev mw_V : Type := (Nat → Bool) × (Nat → Option Nat) × (Nat → Bool) × (Nat → Int32)
/-- not in 0 .. n -/
abbrev mw_bad (p : Int32) (n : Nat) : Prop := p < 0 ∨ nI n < p
theorem mw_rng {p : Int32} {n : Nat} (hn : n < 2 ^ 31) (h : ¬ p < 0) (h2 : ¬ nI n < p) : ∃ P, P ≤ n ∧ p = nI P := by
  obtain ⟨j, hj, rfl⟩ := nI_of h
  refine ⟨j, ?_, rfl⟩
  rcases Nat.lt_or_ge n j with q | q
  · exact absurd (nI_lt q hj) h2
  · exact q
theorem mw_okn {P n : Nat} (h : P ≤ n) (hn : n < 2 ^ 31) : ¬ mw_bad (nI P) n := by
  rintro (q | q)
  · exact nI_pos (Nat.lt_of_le_of_lt h hn) q
  · exact nI_nlt h hn q
theorem mw_cl {n : Nat} (h : n < 2 ^ 31) : (nI n).toNatClampNeg = n := nI_clamp h
/-- the class's own test of process and page -/
def mw_chk (al : Nat → Bool) (p k : Int32) : Int32 := if mw_bad p 3 ∨ mw_bad k 4 then -1 else if al p.toNatClampNeg = false then -2 else 0
theorem mw_chk_bad {al : Nat → Bool} {p k : Int32} (h : mw_bad p 3 ∨ mw_bad k 4) : mw_chk al p k = -1 := if_pos h
theorem mw_chk_in {al : Nat → Bool} {P K : Nat} (hP : P ≤ 3) (hK : K ≤ 4) : mw_chk al (nI P) (nI K) = if al P = false then -2 else 0 := by
  unfold mw_chk
  rw [if_neg (fun q => by rcases q with q | q; exact mw_okn hP (by decide) q; exact mw_okn hK (by decide) q), mw_cl (by omega)]
theorem mw_chk_cases (al : Nat → Bool) (p k : Int32) : ((mw_bad p 3 ∨ mw_bad k 4) ∧ mw_chk al p k = -1) ∨ ∃ P K, P ≤ 3 ∧ K ≤ 4 ∧ p = nI P ∧ k = nI K ∧ ((al P = false ∧ mw_chk al p k = -2) ∨ (al P = true ∧ mw_chk al p k = 0)) := by
  by_cases h : mw_bad p 3 ∨ mw_bad k 4
  · exact Or.inl ⟨h, mw_chk_bad h⟩
  · obtain ⟨P, hP, rfl⟩ := mw_rng (p := p) (n := 3) (by decide) (fun q => h (Or.inl (Or.inl q))) (fun q => h (Or.inl (Or.inr q)))
    obtain ⟨K, hK, rfl⟩ := mw_rng (p := k) (n := 4) (by decide) (fun q => h (Or.inr (Or.inl q))) (fun q => h (Or.inr (Or.inr q)))
    refine Or.inr ⟨P, K, hP, hK, rfl, rfl, ?_⟩
    rw [mw_chk_in hP hK]
    cases q : al P with
    | false => exact Or.inl ⟨rfl, if_pos rfl⟩
    | true => exact Or.inr ⟨rfl, if_neg (by decide)⟩
def mw_map (V : mw_V) (p k : Int32) (b : Bool) : Int32 × mw_V :=
  if mw_bad p 3 ∨ mw_bad k 4 then (-1, V) else
  if V.1 p.toNatClampNeg = false then (-2, V) else
  if (V.2.1 (5 * p.toNatClampNeg + k.toNatClampNeg)).isSome = true then (-4, V) else
  (k, V.1, va_up V.2.1 (5 * p.toNatClampNeg + k.toNatClampNeg) (some (mw_new V.2.1)), va_up V.2.2.1 (5 * p.toNatClampNeg + k.toNatClampNeg) b, mw_fl V.2.2.2 (4 * mw_new V.2.1) 4 (fun _ => 0))
theorem mw_map_bad {V : mw_V} {p k : Int32} {b : Bool} (h : mw_bad p 3 ∨ mw_bad k 4) : mw_map V p k b = (-1, V) := if_pos h
theorem mw_map_in {V : mw_V} {P K : Nat} {b : Bool} (hP : P ≤ 3) (hK : K ≤ 4) : mw_map V (nI P) (nI K) b = if V.1 P = false then (-2, V) else if (V.2.1 (5 * P + K)).isSome = true then (-4, V) else (nI K, V.1, va_up V.2.1 (5 * P + K) (some (mw_new V.2.1)), va_up V.2.2.1 (5 * P + K) b, mw_fl V.2.2.2 (4 * mw_new V.2.1) 4 (fun _ => 0)) := by
  unfold mw_map
  rw [if_neg (fun q => by rcases q with q | q; exact mw_okn hP (by decide) q; exact mw_okn hK (by decide) q), mw_cl (by omega), mw_cl (by omega)]
def mw_unmap (V : mw_V) (p k : Int32) : Int32 × mw_V :=
  if mw_bad p 3 ∨ mw_bad k 4 then (-1, V) else
  if V.1 p.toNatClampNeg = false then (-2, V) else
  if V.2.1 (5 * p.toNatClampNeg + k.toNatClampNeg) = none then (-3, V) else
  (k, V.1, va_up V.2.1 (5 * p.toNatClampNeg + k.toNatClampNeg) none, V.2.2.1, V.2.2.2)
theorem mw_unmap_bad {V : mw_V} {p k : Int32} (h : mw_bad p 3 ∨ mw_bad k 4) : mw_unmap V p k = (-1, V) := if_pos h
theorem mw_unmap_in {V : mw_V} {P K : Nat} (hP : P ≤ 3) (hK : K ≤ 4) : mw_unmap V (nI P) (nI K) = if V.1 P = false then (-2, V) else if V.2.1 (5 * P + K) = none then (-3, V) else (nI K, V.1, va_up V.2.1 (5 * P + K) none, V.2.2.1, V.2.2.2) := by
  unfold mw_unmap
  rw [if_neg (fun q => by rcases q with q | q; exact mw_okn hP (by decide) q; exact mw_okn hK (by decide) q), mw_cl (by omega), mw_cl (by omega)]
/-- a page of a process in one int: 8 * process + page -/
abbrev mw_abad (x : Int32) : Prop := x < 0 ∨ nI 28 < x ∨ 4 < x.toNatClampNeg % 8
def mw_attach (V : mw_V) (x y : Int32) : Int32 × mw_V :=
  if mw_abad x ∨ mw_abad y then (-1, V) else
  if V.1 (x.toNatClampNeg / 8) = false ∨ V.1 (y.toNatClampNeg / 8) = false then (-2, V) else
  if (V.2.1 (5 * (x.toNatClampNeg / 8) + x.toNatClampNeg % 8)).isSome = true then (-4, V) else
  if V.2.1 (5 * (y.toNatClampNeg / 8) + y.toNatClampNeg % 8) = none ∨ V.2.2.1 (5 * (y.toNatClampNeg / 8) + y.toNatClampNeg % 8) = false then (-3, V) else
  (nI (x.toNatClampNeg % 8), V.1, va_up V.2.1 (5 * (x.toNatClampNeg / 8) + x.toNatClampNeg % 8) (V.2.1 (5 * (y.toNatClampNeg / 8) + y.toNatClampNeg % 8)), va_up V.2.2.1 (5 * (x.toNatClampNeg / 8) + x.toNatClampNeg % 8) true, V.2.2.2)
theorem mw_attach_bad {V : mw_V} {x y : Int32} (h : mw_abad x ∨ mw_abad y) : mw_attach V x y = (-1, V) := if_pos h
theorem mw_abad_ok {X : Nat} (hX : X ≤ 28) (h : X % 8 ≤ 4) : ¬ mw_abad (nI X) := by
  rintro (q | q | q)
  · exact nI_pos (by omega) q
  · exact nI_nlt hX (by decide) q
  · rw [mw_cl (by omega)] at q
    omega
theorem mw_attach_in {V : mw_V} {X Y : Nat} (hX : X ≤ 28) (hX8 : X % 8 ≤ 4) (hY : Y ≤ 28) (hY8 : Y % 8 ≤ 4) : mw_attach V (nI X) (nI Y) = if V.1 (X / 8) = false ∨ V.1 (Y / 8) = false then (-2, V) else if (V.2.1 (5 * (X / 8) + X % 8)).isSome = true then (-4, V) else if V.2.1 (5 * (Y / 8) + Y % 8) = none ∨ V.2.2.1 (5 * (Y / 8) + Y % 8) = false then (-3, V) else (nI (X % 8), V.1, va_up V.2.1 (5 * (X / 8) + X % 8) (V.2.1 (5 * (Y / 8) + Y % 8)), va_up V.2.2.1 (5 * (X / 8) + X % 8) true, V.2.2.2) := by
  unfold mw_attach
  rw [if_neg (fun q => by rcases q with q | q; exact mw_abad_ok hX hX8 q; exact mw_abad_ok hY hY8 q), mw_cl (show X < 2 ^ 31 by omega), mw_cl (show Y < 2 ^ 31 by omega)]
def mw_copy (V : mw_V) (o e : Nat) : mw_V :=
  if V.2.2.1 o = true then (V.1, va_up V.2.1 e (V.2.1 o), va_up V.2.2.1 e (V.2.2.1 o), V.2.2.2)
  else (V.1, va_up V.2.1 e (some (mw_new V.2.1)), va_up V.2.2.1 e (V.2.2.1 o), mw_fl V.2.2.2 (4 * mw_new V.2.1) 4 (fun i => V.2.2.2 (4 * (V.2.1 o).getD 0 + i)))
def mw_fk (V : mw_V) (P Q : Nat) : Nat → Nat × mw_V
  | 0 => (0, V)
  | k + 1 => if ((mw_fk V P Q k).2.2.1 (5 * P + k)).isSome = true then ((mw_fk V P Q k).1 + 1, mw_copy (mw_fk V P Q k).2 (5 * P + k) (5 * Q + k)) else mw_fk V P Q k
def mw_fork (V : mw_V) (p q : Int32) : Int32 × mw_V :=
  if mw_bad p 3 ∨ mw_bad q 3 then (-1, V) else
  if V.1 p.toNatClampNeg = false then (-2, V) else
  if V.1 q.toNatClampNeg = true then (-4, V) else
  (nI (mw_fk (va_up V.1 q.toNatClampNeg true, V.2) p.toNatClampNeg q.toNatClampNeg 5).1, (mw_fk (va_up V.1 q.toNatClampNeg true, V.2) p.toNatClampNeg q.toNatClampNeg 5).2)
theorem mw_fork_bad {V : mw_V} {p q : Int32} (h : mw_bad p 3 ∨ mw_bad q 3) : mw_fork V p q = (-1, V) := if_pos h
theorem mw_fork_in {V : mw_V} {P Q : Nat} (hP : P ≤ 3) (hQ : Q ≤ 3) : mw_fork V (nI P) (nI Q) = if V.1 P = false then (-2, V) else if V.1 Q = true then (-4, V) else (nI (mw_fk (va_up V.1 Q true, V.2) P Q 5).1, (mw_fk (va_up V.1 Q true, V.2) P Q 5).2) := by
  unfold mw_fork
  rw [if_neg (fun q => by rcases q with q | q; exact mw_okn hP (by decide) q; exact mw_okn hQ (by decide) q), mw_cl (by omega), mw_cl (by omega)]
def mw_ek (ms : Nat → Option Nat) (P : Nat) : Nat → Nat × (Nat → Option Nat)
  | 0 => (0, ms)
  | k + 1 => ((mw_ek ms P k).1 + (if ((mw_ek ms P k).2 (5 * P + k)).isSome = true then 1 else 0), va_up (mw_ek ms P k).2 (5 * P + k) none)
def mw_exit (V : mw_V) (p : Int32) : Int32 × mw_V :=
  if mw_bad p 3 then (-1, V) else
  if V.1 p.toNatClampNeg = false then (-2, V) else
  (nI (mw_ek V.2.1 p.toNatClampNeg 5).1, va_up V.1 p.toNatClampNeg false, (mw_ek V.2.1 p.toNatClampNeg 5).2, V.2.2.1, V.2.2.2)
theorem mw_exit_bad {V : mw_V} {p : Int32} (h : mw_bad p 3) : mw_exit V p = (-1, V) := if_pos h
theorem mw_exit_in {V : mw_V} {P : Nat} (hP : P ≤ 3) : mw_exit V (nI P) = if V.1 P = false then (-2, V) else (nI (mw_ek V.2.1 P 5).1, va_up V.1 P false, (mw_ek V.2.1 P 5).2, V.2.2.1, V.2.2.2) := by
  unfold mw_exit
  rw [if_neg (mw_okn hP (by decide)), mw_cl (by omega)]
def mw_write (V : mw_V) (p k v : Int32) : Int32 × mw_V :=
  if mw_bad p 3 ∨ mw_bad k 19 then (-1, V) else
  if V.1 p.toNatClampNeg = false then (-2, V) else
  match V.2.1 (5 * p.toNatClampNeg + k.toNatClampNeg / 4) with
  | none => (-3, V)
  | some s => (k, V.1, V.2.1, V.2.2.1, upd V.2.2.2 (4 * s + k.toNatClampNeg % 4) v)
theorem mw_write_bad {V : mw_V} {p k v : Int32} (h : mw_bad p 3 ∨ mw_bad k 19) : mw_write V p k v = (-1, V) := if_pos h
theorem mw_write_in {V : mw_V} {P K : Nat} {v : Int32} (hP : P ≤ 3) (hK : K ≤ 19) : mw_write V (nI P) (nI K) v = if V.1 P = false then (-2, V) else match V.2.1 (5 * P + K / 4) with
  | none => (-3, V)
  | some s => (nI K, V.1, V.2.1, V.2.2.1, upd V.2.2.2 (4 * s + K % 4) v) := by
  unfold mw_write
  rw [if_neg (fun q => by rcases q with q | q; exact mw_okn hP (by decide) q; exact mw_okn hK (by decide) q), mw_cl (show P < 2 ^ 31 by omega), mw_cl (show K < 2 ^ 31 by omega)]
def mw_read (V : mw_V) (p k : Int32) : Int32 :=
  if mw_bad p 3 ∨ mw_bad k 19 then 0 else
  match V.2.1 (5 * p.toNatClampNeg + k.toNatClampNeg / 4) with
  | none => 0
  | some s => V.2.2.2 (4 * s + k.toNatClampNeg % 4)
theorem mw_read_bad {V : mw_V} {p k : Int32} (h : mw_bad p 3 ∨ mw_bad k 19) : mw_read V p k = 0 := if_pos h
theorem mw_read_in {V : mw_V} {P K : Nat} (hP : P ≤ 3) (hK : K ≤ 19) : mw_read V (nI P) (nI K) = match V.2.1 (5 * P + K / 4) with
  | none => 0
  | some s => V.2.2.2 (4 * s + K % 4) := by
  unfold mw_read
  rw [if_neg (fun q => by rcases q with q | q; exact mw_okn hP (by decide) q; exact mw_okn hK (by decide) q), mw_cl (show P < 2 ^ 31 by omega), mw_cl (show K < 2 ^ 31 by omega)]
def mw_ism (V : mw_V) (p k : Int32) : Bool :=
  if mw_bad p 3 ∨ mw_bad k 4 then false else (V.2.1 (5 * p.toNatClampNeg + k.toNatClampNeg)).isSome
theorem mw_ism_bad {V : mw_V} {p k : Int32} (h : mw_bad p 3 ∨ mw_bad k 4) : mw_ism V p k = false := if_pos h
theorem mw_ism_in {V : mw_V} {P K : Nat} (hP : P ≤ 3) (hK : K ≤ 4) : mw_ism V (nI P) (nI K) = (V.2.1 (5 * P + K)).isSome := by
  unfold mw_ism
  rw [if_neg (fun q => by rcases q with q | q; exact mw_okn hP (by decide) q; exact mw_okn hK (by decide) q), mw_cl (by omega), mw_cl (by omega)]
def mw_show (V : mw_V) (p k : Int32) : Int32 :=
  if mw_bad p 3 ∨ mw_bad k 4 then -1 else
  if V.1 p.toNatClampNeg = false then -2 else
  if V.2.1 (5 * p.toNatClampNeg + k.toNatClampNeg) = none then -3 else
  nI (mw_ct (fun j => V.2.1 j == V.2.1 (5 * p.toNatClampNeg + k.toNatClampNeg)) 20)
theorem mw_show_bad {V : mw_V} {p k : Int32} (h : mw_bad p 3 ∨ mw_bad k 4) : mw_show V p k = -1 := if_pos h
theorem mw_show_in {V : mw_V} {P K : Nat} (hP : P ≤ 3) (hK : K ≤ 4) : mw_show V (nI P) (nI K) = if V.1 P = false then -2 else if V.2.1 (5 * P + K) = none then -3 else nI (mw_ct (fun j => V.2.1 j == V.2.1 (5 * P + K)) 20) := by
  unfold mw_show
  rw [if_neg (fun q => by rcases q with q | q; exact mw_okn hP (by decide) q; exact mw_okn hK (by decide) q), mw_cl (by omega), mw_cl (by omega)]
def mw_tot (V : mw_V) : Int64 := mw_sl (fun s => if mw_used V.2.1 s then mw_s4 (fun i => V.2.2.2 (4 * s + i)) else 0) 20
def mw_shs (V : mw_V) : Nat := mw_ct (fun s => mw_used V.2.1 s) 20
theorem mw_O_stN (g : Nat → Option Nat) (j : Nat) : upd (mw_O g) j (vp_nar .byte (-1)) = mw_O (va_up g j none) := by
  rw [mw_bt1]
  exact mw_O_up g j none
theorem mw_O_stS (g : Nat → Option Nat) (j : Nat) {c : Nat} (h : c < 128) : upd (mw_O g) j (vp_nar .byte (nI c)) = mw_O (va_up g j (some c)) := by
  rw [(mw_bt c h).1]
  exact mw_O_up g j (some c)
theorem mw_O_st (g : Nat → Option Nat) (j : Nat) {x : Option Nat} (h : ∀ c, x = some c → c < 128) : upd (mw_O g) j (vp_nar .byte (mw_oc x)) = mw_O (va_up g j x) := by
  rw [mw_btO h]
  exact mw_O_up g j x
theorem mw_N_st (g : Nat → Nat) (j : Nat) {c : Nat} (h : c < 128) : upd (mw_N g) j (vp_nar .byte (nI c)) = mw_N (va_up g j c) := by
  rw [(mw_bt c h).1]
  exact mw_N_up g j c
theorem mw_B_st (g : Nat → Bool) (j : Nat) (b : Bool) : upd (mw_B g) j (vp_nar .boolean (mw_ob b)) = mw_B (va_up g j b) := by
  rw [mw_btB]
  exact mw_B_up g j b
theorem mw_B_st1 (g : Nat → Bool) (j : Nat) : upd (mw_B g) j (vp_nar .boolean (nI 1)) = mw_B (va_up g j true) := mw_B_st g j true
theorem mw_B_st0 (g : Nat → Bool) (j : Nat) : upd (mw_B g) j (vp_nar .boolean (nI 0)) = mw_B (va_up g j false) := mw_B_st g j false
theorem mw_inc1 (x : Nat) : nI x + Int32.ofInt 1 = nI (x + 1) := nI_add x 1
theorem mw_inc4 (x : Nat) : nI x + Int32.ofInt 4 = nI (x + 4) := nI_add x 4
/-- the class's world: the object, its arrays -/
def mw_C (h0 : Nat) (a : Nat → Nat) (d : Nat → ClassId) (al : Nat → Bool) (sh : Nat → Option Nat) (is : Nat → Bool) (us : Nat → Nat) (fo : Nat → Option Nat) (sw : Nat → Bool) (sc : Nat → Int32) (F : Nat) (ho : Nat → Option Nat) (fr : Nat → Int32) (to di : Nat → Bool) (ha : Nat) : va_W :=
  [(h0, .inr (0, [.ref (a 0), .ref (a 1), .ref (a 2), .ref (a 3), .ref (a 4), .ref (a 5), .ref (a 6), .int (nI F), .ref (a 8), .ref (a 9), .ref (a 10), .ref (a 11), .int (nI ha)])),
   (a 0, .inl (d 0, 4, .inl (mw_B al))), (a 1, .inl (d 1, 20, .inl (mw_O sh))), (a 2, .inl (d 2, 20, .inl (mw_B is))), (a 3, .inl (d 3, 20, .inl (mw_N us))), (a 4, .inl (d 4, 20, .inl (mw_O fo))), (a 5, .inl (d 5, 20, .inl (mw_B sw))), (a 6, .inl (d 6, 80, .inl sc)), (a 8, .inl (d 8, 6, .inl (mw_O ho))), (a 9, .inl (d 9, 24, .inl fr)), (a 10, .inl (d 10, 6, .inl (mw_B to))), (a 11, .inl (d 11, 6, .inl (mw_B di)))]
def mw_CK (d : Nat → ClassId) : List (ClassId × FieldType) := [(d 0, .boolean), (d 1, .byte), (d 2, .boolean), (d 3, .byte), (d 4, .byte), (d 5, .boolean), (d 6, .int), (d 8, .byte), (d 9, .int), (d 10, .boolean), (d 11, .boolean)]
/-- the reference's world -/
def mw_M (h0 : Nat) (a : Nat → Nat) (d : Nat → ClassId) (ma : Nat → Bool) (ms : Nat → Option Nat) (mo : Nat → Bool) (mc : Nat → Int32) : va_W :=
  [(h0, .inr (1, [.ref (a 0), .ref (a 1), .ref (a 2), .ref (a 3)])), (a 0, .inl (d 0, 4, .inl (mw_B ma))), (a 1, .inl (d 1, 20, .inl (mw_O ms))), (a 2, .inl (d 2, 20, .inl (mw_B mo))), (a 3, .inl (d 3, 80, .inl mc))]
def mw_MK (d : Nat → ClassId) : List (ClassId × FieldType) := [(d 0, .boolean), (d 1, .int), (d 2, .boolean), (d 3, .int)]
abbrev vwCl : List vw_C := [(RX1, TX1, 13), (RX2, TX2, 4)]
def mw_BC (dC : Nat → ClassId) (dI : Nat → Nat → Nat) (A : Nat → Prop) (h0 : Nat) (a : Nat → Nat) (d : Nat → ClassId) (al : Nat → Bool) (sh : Nat → Option Nat) (is : Nat → Bool) (us : Nat → Nat) (fo : Nat → Option Nat) (sw : Nat → Bool) (sc : Nat → Int32) (F : Nat) (ho : Nat → Option Nat) (fr : Nat → Int32) (to di : Nat → Bool) (ha : Nat) (t : State) : Prop :=
  va_P (dC, dI) vwCl (mw_C h0 a d al sh is us fo sw sc F ho fr to di ha) t.heap ∧ va_K (dC, dI) vwCl (mw_CK d) t ∧ va_D A (mw_C h0 a d al sh is us fo sw sc F ho fr to di ha)
def mw_BM (dC : Nat → ClassId) (dI : Nat → Nat → Nat) (A : Nat → Prop) (h0 : Nat) (a : Nat → Nat) (d : Nat → ClassId) (ma : Nat → Bool) (ms : Nat → Option Nat) (mo : Nat → Bool) (mc : Nat → Int32) (t : State) : Prop :=
  va_P (dC, dI) vwCl (mw_M h0 a d ma ms mo mc) t.heap ∧ va_K (dC, dI) vwCl (mw_MK d) t ∧ va_D A (mw_M h0 a d ma ms mo mc)
end
section
/-! bits: rows of kit/laws/BITS.to-paste (starting text), then the masks of total and sheets -/
def bt (x : Int32) (i : Nat) : Bool := x.toBitVec.getLsbD i
theorem b_ext {x y : Int32} (h : ∀ i, i < 32 → bt x i = bt y i) : x = y := Int32.toBitVec_inj.mp (BitVec.eq_of_getLsbD_eq (fun i hi => h i hi))
theorem b_or (x y : Int32) (i : Nat) : bt (x ||| y) i = (bt x i || bt y i) := by unfold bt; rw [Int32.toBitVec_or, BitVec.getLsbD_or]
theorem b_and (x y : Int32) (i : Nat) : bt (x &&& y) i = (bt x i && bt y i) := by unfold bt; rw [Int32.toBitVec_and, BitVec.getLsbD_and]
theorem b_xor (x y : Int32) (i : Nat) : bt (x ^^^ y) i = (bt x i ^^ bt y i) := by unfold bt; rw [Int32.toBitVec_xor, BitVec.getLsbD_xor]
theorem b_big {x : Int32} {i : Nat} (h : 32 ≤ i) : bt x i = false := BitVec.getLsbD_of_ge _ _ h
theorem b_0 (i : Nat) : bt 0 i = false := BitVec.getLsbD_zero
theorem s_l : ∀ n, n < 32 → ((nI n &&& 31).toBitVec.smod 32).toNat = n := by decide +kernel
theorem b_shl (n : Nat) (hn : n < 32) (x : Int32) {i : Nat} (hi : i < 32) : bt (x <<< (nI n &&& 31)) i = (decide (n ≤ i) && bt x (i - n)) := by
  unfold bt
  rw [Int32.toBitVec_shiftLeft]
  show (x.toBitVec <<< ((nI n &&& 31).toBitVec.smod 32).toNat).getLsbD i = _
  rw [s_l n hn, BitVec.getLsbD_shiftLeft]
  rcases Nat.lt_or_ge i n with h | h
  · simp [h, Nat.not_le.mpr h]
  · simp [hi, h, Nat.not_lt.mpr h]
theorem b_sshr (n : Nat) (hn : n < 32) (x : Int32) {i : Nat} (hi : i < 32) : bt (x >>> (nI n &&& 31)) i = if n + i < 32 then bt x (n + i) else bt x 31 := by
  unfold bt
  rw [Int32.toBitVec_shiftRight]
  show (x.toBitVec.sshiftRight ((nI n &&& 31).toBitVec.smod 32).toNat).getLsbD i = _
  rw [s_l n hn, BitVec.getLsbD_sshiftRight, BitVec.msb_eq_getLsbD_last]
  simp [hi]
theorem mw_one : ∀ i, i < 32 → bt (nI 1) i = decide (i = 0) := by decide +kernel
theorem mw_bit0 (y : Int32) : y &&& nI 1 = 0 ↔ bt y 0 = false := by
  constructor
  · intro h
    have h1 : bt (y &&& nI 1) 0 = false := by rw [h]; exact b_0 0
    rw [b_and, mw_one 0 (by decide)] at h1
    simpa using h1
  · intro h
    refine b_ext (fun i hi => ?_)
    rw [b_and, mw_one i hi, b_0]
    by_cases q : i = 0
    · subst q
      rw [h]
      rfl
    · simp [q]
theorem mw_seen_at {x : Int32} {c : Nat} (hc : c < 20) : (x >>> (nI c &&& 31)) &&& nI 1 = 0 ↔ bt x c = false := by
  rw [mw_bit0, b_sshr c (by omega) x (by decide), if_pos (by omega), Nat.add_zero]
theorem mw_seen_or {x : Int32} {c d : Nat} (hc : c < 20) (hd : d < 20) : bt (x ||| (nI 1 <<< (nI d &&& 31))) c = (bt x c || decide (c = d)) := by
  rw [b_or, b_shl d (by omega) (nI 1) (by omega)]
  congr 1
  by_cases h : d ≤ c
  · rw [mw_one (c - d) (by omega), decide_eq_true h, Bool.true_and]
    congr 1
    exact propext ⟨fun q => by omega, fun q => by omega⟩
  · rw [decide_eq_false h, Bool.false_and, decide_eq_false (by omega)]
end
section
/-! THE CLASS AGAINST THE REFERENCE: the whole invariant, and what each public method does to it -/
theorem mw_only {sh : Nat → Option Nat} {is : Nat → Bool} {us : Nat → Nat} {fo : Nat → Option Nat} (hU : mw_U sh is us fo) {e e' c : Nat} (he : e < 20) (hs : sh e = some c) (h1 : us c ≤ 1) (he' : e' < 20) (hne : e' ≠ e) : sh e' ≠ some c := by
  intro q
  have hc := hU.1 e c he hs
  rw [hU.2.1 c hc] at h1
  have : 2 ≤ mw_ct (fun e => sh e == some c) 20 := by
    rcases Nat.lt_or_ge e e' with l | l
    · exact mw_ct_two 20 e e' l he' (by simp [hs]) (by simp [q])
    · exact mw_ct_two 20 e' e (by omega) he (by simp [q]) (by simp [hs])
  omega
def mw_I (al : Nat → Bool) (sh : Nat → Option Nat) (is : Nat → Bool) (us : Nat → Nat) (fo : Nat → Option Nat) (sw : Nat → Bool) (sc : Nat → Int32) (F : Nat) (ho : Nat → Option Nat) (fr : Nat → Int32) (di : Nat → Bool) (ha : Nat) (V : mw_V) : Prop :=
  mw_U sh is us fo ∧ mw_Z al sh ∧ (∀ p, p < 4 → al p = V.1 p) ∧ ∃ vl, mw_L vl F fo sw sc ho fr di ha ∧ mw_R sh is vl V.2.1 V.2.2.1 V.2.2.2
theorem mw_chk_0 {al : Nat → Bool} {p k : Int32} (h : mw_chk al p k = 0) : ∃ P K, P ≤ 3 ∧ K ≤ 4 ∧ p = nI P ∧ k = nI K ∧ al P = true := by
  rcases mw_chk_cases al p k with ⟨-, h2⟩ | ⟨P, K, h1, h2, h3, h4, ⟨-, h5⟩ | ⟨h5, -⟩⟩
  · rw [h2] at h
    exact absurd h (by decide)
  · rw [h5] at h
    exact absurd h (by decide)
  · exact ⟨P, K, h1, h2, h3, h4, h5⟩
theorem mw_map_chk {al : Nat → Bool} {V : mw_V} {p k : Int32} {b : Bool} (ha : ∀ p, p < 4 → al p = V.1 p) (h : ¬ mw_chk al p k = 0) : mw_map V p k b = (mw_chk al p k, V) := by
  rcases mw_chk_cases al p k with ⟨h1, h2⟩ | ⟨P, K, h1, h2, rfl, rfl, ⟨h5, h6⟩ | ⟨h5, h6⟩⟩
  · rw [mw_map_bad h1, h2]
  · rw [mw_map_in h1 h2, h6, ← ha P (by omega), if_pos h5]
  · exact absurd h6 h
theorem mw_unmap_chk {al : Nat → Bool} {V : mw_V} {p k : Int32} (ha : ∀ p, p < 4 → al p = V.1 p) (h : ¬ mw_chk al p k = 0) : mw_unmap V p k = (mw_chk al p k, V) := by
  rcases mw_chk_cases al p k with ⟨h1, h2⟩ | ⟨P, K, h1, h2, rfl, rfl, ⟨h5, h6⟩ | ⟨h5, h6⟩⟩
  · rw [mw_unmap_bad h1, h2]
  · rw [mw_unmap_in h1 h2, h6, ← ha P (by omega), if_pos h5]
  · exact absurd h6 h
theorem mw_show_chk {al : Nat → Bool} {V : mw_V} {p k : Int32} (ha : ∀ p, p < 4 → al p = V.1 p) (h : ¬ mw_chk al p k = 0) : mw_show V p k = mw_chk al p k := by
  rcases mw_chk_cases al p k with ⟨h1, h2⟩ | ⟨P, K, h1, h2, rfl, rfl, ⟨h5, h6⟩ | ⟨h5, h6⟩⟩
  · rw [mw_show_bad h1, h2]
  · rw [mw_show_in h1 h2, h6, ← ha P (by omega), if_pos h5]
  · exact absurd h6 h
theorem mw_ism_chk {al : Nat → Bool} {sh : Nat → Option Nat} {is : Nat → Bool} {vl : Nat → Nat → Int32} {V : mw_V} {p k : Int32} (hZ : mw_Z al sh) (hR : mw_R sh is vl V.2.1 V.2.2.1 V.2.2.2) (h : ¬ mw_chk al p k = 0) : mw_ism V p k = false := by
  rcases mw_chk_cases al p k with ⟨h1, h2⟩ | ⟨P, K, h1, h2, rfl, rfl, ⟨h5, h6⟩ | ⟨h5, h6⟩⟩
  · rw [mw_ism_bad h1]
  · rw [mw_ism_in h1 h2, hR.1 _ (by omega) (hZ P K (by omega) (by omega) h5)]
    rfl
  · exact absurd h6 h
theorem mw_Z_up {al : Nat → Bool} {sh : Nat → Option Nat} {P K : Nat} {x : Option Nat} (hZ : mw_Z al sh) (hK : K ≤ 4) (h : al P = true) : mw_Z al (va_up sh (5 * P + K) x) := by
  intro p k hp hk q
  rw [mw_up_n (fun z => by
    have : p = P := by omega
    subst this
    rw [h] at q
    cases q)]
  exact hZ p k hp hk q
theorem mw_R_isSome {sh : Nat → Option Nat} {is : Nat → Bool} {vl : Nat → Nat → Int32} {ms : Nat → Option Nat} {mo : Nat → Bool} {mc : Nat → Int32} (hR : mw_R sh is vl ms mo mc) {e : Nat} (he : e < 20) : (ms e).isSome = (sh e).isSome := by
  cases q : sh e with
  | none => rw [hR.1 e he q]
  | some c =>
    obtain ⟨s, -, h2, -⟩ := hR.2.1 e c he q
    rw [h2]
    rfl
theorem mw_R_none {sh : Nat → Option Nat} {is : Nat → Bool} {vl : Nat → Nat → Int32} {ms : Nat → Option Nat} {mo : Nat → Bool} {mc : Nat → Int32} (hR : mw_R sh is vl ms mo mc) {e c : Nat} (he : e < 20) (q : sh e = some c) : ms e ≠ none := by
  obtain ⟨s, -, h2, -⟩ := hR.2.1 e c he q
  rw [h2]
  exact fun z => by cases z
/-- map -/
theorem mw_I_map {al : Nat → Bool} {sh : Nat → Option Nat} {is : Nat → Bool} {us : Nat → Nat} {fo : Nat → Option Nat} {sw : Nat → Bool} {sc : Nat → Int32} {F : Nat} {ho : Nat → Option Nat} {fr : Nat → Int32} {di : Nat → Bool} {ha : Nat} {V : mw_V} {P K c : Nat} (b : Bool) (h : mw_I al sh is us fo sw sc F ho fr di ha V) (hP : P ≤ 3) (hK : K ≤ 4) (hal : al P = true) (hs : sh (5 * P + K) = none) (hc : c < 20) (h0 : us c = 0) : nI K = (mw_map V (nI P) (nI K) b).1 ∧ mw_I al (va_up sh (5 * P + K) (some c)) (va_up is (5 * P + K) b) (va_up us c 1) (va_up fo c none) (va_up sw c false) sc F ho fr di ha (mw_map V (nI P) (nI K) b).2 := by
  obtain ⟨hU, hZ, hA, vl, hL, hR⟩ := h
  have he : 5 * P + K < 20 := by omega
  have hm : V.2.1 (5 * P + K) = none := hR.1 _ he hs
  rw [mw_map_in hP hK, if_neg (by rw [← hA P (by omega), hal]; decide), if_neg (by rw [hm]; decide)]
  refine ⟨rfl, mw_U_map hU b he hs hc h0, mw_Z_up hZ hK hal, hA, va_up vl c (fun _ => 0), mw_L_new hL (hU.2.2.2 c hc h0), ?_⟩
  exact mw_R_map hR b (fun e' he' => mw_U_zero hU hc h0 he') (mw_new_lt _) (fun e' he' => mw_new_free he hm he')
theorem mw_map_busy {al : Nat → Bool} {sh : Nat → Option Nat} {is : Nat → Bool} {us : Nat → Nat} {fo : Nat → Option Nat} {sw : Nat → Bool} {sc : Nat → Int32} {F : Nat} {ho : Nat → Option Nat} {fr : Nat → Int32} {di : Nat → Bool} {ha : Nat} {V : mw_V} {P K c : Nat} (b : Bool) (h : mw_I al sh is us fo sw sc F ho fr di ha V) (hP : P ≤ 3) (hK : K ≤ 4) (hal : al P = true) (hs : sh (5 * P + K) = some c) : mw_map V (nI P) (nI K) b = (-4, V) := by
  obtain ⟨hU, hZ, hA, vl, hL, hR⟩ := h
  rw [mw_map_in hP hK, if_neg (by rw [← hA P (by omega), hal]; decide), if_pos (by rw [mw_R_isSome hR (by omega), hs]; rfl)]
/-- unmap -/
theorem mw_unmap_no {al : Nat → Bool} {sh : Nat → Option Nat} {is : Nat → Bool} {us : Nat → Nat} {fo : Nat → Option Nat} {sw : Nat → Bool} {sc : Nat → Int32} {F : Nat} {ho : Nat → Option Nat} {fr : Nat → Int32} {di : Nat → Bool} {ha : Nat} {V : mw_V} {P K : Nat} (h : mw_I al sh is us fo sw sc F ho fr di ha V) (hP : P ≤ 3) (hK : K ≤ 4) (hal : al P = true) (hs : sh (5 * P + K) = none) : mw_unmap V (nI P) (nI K) = (-3, V) := by
  obtain ⟨hU, hZ, hA, vl, hL, hR⟩ := h
  rw [mw_unmap_in hP hK, if_neg (by rw [← hA P (by omega), hal]; decide), if_pos (hR.1 _ (by omega) hs)]
theorem mw_I_unmap {al : Nat → Bool} {sh : Nat → Option Nat} {is : Nat → Bool} {us' : Nat → Nat} {fo' : Nat → Option Nat} {sw : Nat → Bool} {sc : Nat → Int32} {F : Nat} {ho' : Nat → Option Nat} {fr : Nat → Int32} {di : Nat → Bool} {ha : Nat} {V : mw_V} {P K c : Nat} {vl : Nat → Nat → Int32} (hZ : mw_Z al sh) (hA : ∀ p, p < 4 → al p = V.1 p) (hR : mw_R sh is vl V.2.1 V.2.2.1 V.2.2.2) (hP : P ≤ 3) (hK : K ≤ 4) (hal : al P = true) (hs : sh (5 * P + K) = some c) (hU : mw_U (va_up sh (5 * P + K) none) is us' fo') (hL : ∃ vl', mw_L vl' F fo' sw sc ho' fr di ha ∧ ∀ e' c', e' < 20 → e' ≠ 5 * P + K → sh e' = some c' → vl' c' = vl c') : nI K = (mw_unmap V (nI P) (nI K)).1 ∧ mw_I al (va_up sh (5 * P + K) none) is us' fo' sw sc F ho' fr di ha (mw_unmap V (nI P) (nI K)).2 := by
  obtain ⟨vl', hL', hv⟩ := hL
  rw [mw_unmap_in hP hK, if_neg (by rw [← hA P (by omega), hal]; decide), if_neg (mw_R_none hR (by omega) hs)]
  exact ⟨rfl, hU, mw_Z_up hZ hK hal, hA, vl', hL', mw_R_rel hR hv⟩
end
section
/-! DERIVED ROWS: instructions over numbers that are small naturals, over arrays that are read as mw_O, mw_B, mw_N -/
section CMR
variable {p : Program} {l : Launch} {e : Env} {R : Room} {s : State} {m : MethodId} {args : Array Value} {below : List Frame} {meth : Method} {c : Code} {H : Heap} {locs : List Loc} {cells slots : Nat} {Q : State → Prop}
variable {cc : ByteArray} {pc : Nat} {ls : Array Slot} {rest : List Value} {D : va_G} {cl : List vw_C} {A : Nat → Prop} {a : Nat} {tys : List (ClassId × FieldType)} {ws : va_W} {H0 : Heap}
theorem kw_bld (hexec : p.tables.exec = Jvm.exec) (hb : c.code = cc) (hK : va_K D cl tys s) (hP : va_P D cl ws H) (q0 t0 : Nat) {cA : ClassId} {n : Nat} {f : Nat → Int32} (ha : ws[q0]? = some (a, .inl (cA, n, .inl f))) (ht : tys[t0]? = some (cA, .byte)) {j : Nat} {v : Int32} (hj : j < n) (hn : n < 2 ^ 31) (hv : f j = v) (hdg : decode cc pc = .ok (.baload, 1))
    (kk : W p l e R s m args below meth c H locs cells slots Q (F0 m (pc + 1) ls (.int v :: rest))) : W p l e R s m args below meth c H locs cells slots Q (F0 m pc ls (.int (nI j) :: .ref a :: rest)) := by
  subst hv
  refine va_bald hexec hb hK hP q0 t0 ha ht (vp_in_nI hj hn) hdg ?_
  rw [nI_clamp (Nat.lt_trans hj hn)]
  exact kk
theorem kw_zld (hexec : p.tables.exec = Jvm.exec) (hb : c.code = cc) (hK : va_K D cl tys s) (hP : va_P D cl ws H) (q0 t0 : Nat) {cA : ClassId} {n : Nat} {f : Nat → Int32} (ha : ws[q0]? = some (a, .inl (cA, n, .inl f))) (ht : tys[t0]? = some (cA, .boolean)) {j : Nat} {v : Int32} (hj : j < n) (hn : n < 2 ^ 31) (hv : f j = v) (hdg : decode cc pc = .ok (.baload, 1))
    (kk : W p l e R s m args below meth c H locs cells slots Q (F0 m (pc + 1) ls (.int v :: rest))) : W p l e R s m args below meth c H locs cells slots Q (F0 m pc ls (.int (nI j) :: .ref a :: rest)) := by
  subst hv
  refine va_zald hexec hb hK hP q0 t0 ha ht (vp_in_nI hj hn) hdg ?_
  rw [nI_clamp (Nat.lt_trans hj hn)]
  exact kk
theorem kw_ild (hexec : p.tables.exec = Jvm.exec) (hb : c.code = cc) (hK : va_K D cl tys s) (hP : va_P D cl ws H) (q0 t0 : Nat) {cA : ClassId} {n : Nat} {f : Nat → Int32} (ha : ws[q0]? = some (a, .inl (cA, n, .inl f))) (ht : tys[t0]? = some (cA, .int)) {j : Nat} {v : Int32} (hj : j < n) (hn : n < 2 ^ 31) (hv : f j = v) (hdg : decode cc pc = .ok (.iaload, 1))
    (kk : W p l e R s m args below meth c H locs cells slots Q (F0 m (pc + 1) ls (.int v :: rest))) : W p l e R s m args below meth c H locs cells slots Q (F0 m pc ls (.int (nI j) :: .ref a :: rest)) := by
  subst hv
  refine va_iald hexec hb hK hP q0 t0 ha ht (vp_in_nI hj hn) hdg ?_
  rw [nI_clamp (Nat.lt_trans hj hn)]
  exact kk
theorem kw_bst (hexec : p.tables.exec = Jvm.exec) (hb : c.code = cc) (hK : va_K D cl tys s) (hP : va_P D cl ws H) (hD : va_D A ws) (hS : va_S A H0 H locs) (q0 t0 : Nat) {cA : ClassId} {n : Nat} {f f' : Nat → Int32} (ha : ws[q0]? = some (a, .inl (cA, n, .inl f))) (ht : tys[t0]? = some (cA, .byte)) {j : Nat} {x : Int32} (hj : j < n) (hn : n < 2 ^ 31) (hf : upd f j (vp_nar .byte x) = f') (hdg : decode cc pc = .ok (.bastore, 1))
    (kk : ∀ (H1 : Heap) (locs1 : List Loc), va_P D cl (ws.set q0 (a, .inl (cA, n, .inl f'))) H1 → va_D A (ws.set q0 (a, .inl (cA, n, .inl f'))) → va_S A H0 H1 locs1 → W p l e R s m args below meth c H1 locs1 cells slots Q (F0 m (pc + 1) ls rest)) : W p l e R s m args below meth c H locs cells slots Q (F0 m pc ls (.int x :: .int (nI j) :: .ref a :: rest)) := by
  subst hf
  refine va_bast hexec hb hK hP hD hS q0 t0 ha ht (vp_in_nI hj hn) hdg ?_
  rw [nI_clamp (Nat.lt_trans hj hn)]
  exact kk
theorem kw_zst (hexec : p.tables.exec = Jvm.exec) (hb : c.code = cc) (hK : va_K D cl tys s) (hP : va_P D cl ws H) (hD : va_D A ws) (hS : va_S A H0 H locs) (q0 t0 : Nat) {cA : ClassId} {n : Nat} {f f' : Nat → Int32} (ha : ws[q0]? = some (a, .inl (cA, n, .inl f))) (ht : tys[t0]? = some (cA, .boolean)) {j : Nat} {x : Int32} (hj : j < n) (hn : n < 2 ^ 31) (hf : upd f j (vp_nar .boolean x) = f') (hdg : decode cc pc = .ok (.bastore, 1))
    (kk : ∀ (H1 : Heap) (locs1 : List Loc), va_P D cl (ws.set q0 (a, .inl (cA, n, .inl f'))) H1 → va_D A (ws.set q0 (a, .inl (cA, n, .inl f'))) → va_S A H0 H1 locs1 → W p l e R s m args below meth c H1 locs1 cells slots Q (F0 m (pc + 1) ls rest)) : W p l e R s m args below meth c H locs cells slots Q (F0 m pc ls (.int x :: .int (nI j) :: .ref a :: rest)) := by
  subst hf
  refine va_zast hexec hb hK hP hD hS q0 t0 ha ht (vp_in_nI hj hn) hdg ?_
  rw [nI_clamp (Nat.lt_trans hj hn)]
  exact kk
theorem kw_ist (hexec : p.tables.exec = Jvm.exec) (hb : c.code = cc) (hK : va_K D cl tys s) (hP : va_P D cl ws H) (hD : va_D A ws) (hS : va_S A H0 H locs) (q0 t0 : Nat) {cA : ClassId} {n : Nat} {f f' : Nat → Int32} (ha : ws[q0]? = some (a, .inl (cA, n, .inl f))) (ht : tys[t0]? = some (cA, .int)) {j : Nat} {x : Int32} (hj : j < n) (hn : n < 2 ^ 31) (hf : upd f j x = f') (hdg : decode cc pc = .ok (.iastore, 1))
    (kk : ∀ (H1 : Heap) (locs1 : List Loc), va_P D cl (ws.set q0 (a, .inl (cA, n, .inl f'))) H1 → va_D A (ws.set q0 (a, .inl (cA, n, .inl f'))) → va_S A H0 H1 locs1 → W p l e R s m args below meth c H1 locs1 cells slots Q (F0 m (pc + 1) ls rest)) : W p l e R s m args below meth c H locs cells slots Q (F0 m pc ls (.int x :: .int (nI j) :: .ref a :: rest)) := by
  subst hf
  refine va_iast hexec hb hK hP hD hS q0 t0 ha ht (vp_in_nI hj hn) hdg ?_
  rw [nI_clamp (Nat.lt_trans hj hn)]
  exact kk
theorem kw_add (hexec : p.tables.exec = Jvm.exec) (hb : c.code = cc) {x y : Nat} (hdg : decode cc pc = .ok (.iadd, 1)) (k : W p l e R s m args below meth c H locs cells slots Q (F0 m (pc + 1) ls (.int (nI (x + y)) :: rest))) : W p l e R s m args below meth c H locs cells slots Q (F0 m pc ls (.int (nI y) :: .int (nI x) :: rest)) := by
  refine lv_iadd hexec hb hdg ?_
  rw [nI_add]
  exact k
theorem kw_sub (hexec : p.tables.exec = Jvm.exec) (hb : c.code = cc) {x y : Nat} (h : y ≤ x) (hdg : decode cc pc = .ok (.isub, 1)) (k : W p l e R s m args below meth c H locs cells slots Q (F0 m (pc + 1) ls (.int (nI (x - y)) :: rest))) : W p l e R s m args below meth c H locs cells slots Q (F0 m pc ls (.int (nI y) :: .int (nI x) :: rest)) := by
  refine lv_isub hexec hb hdg ?_
  rw [pk_sub h]
  exact k
theorem kw_mul (hexec : p.tables.exec = Jvm.exec) (hb : c.code = cc) {x y : Nat} (hdg : decode cc pc = .ok (.imul, 1)) (k : W p l e R s m args below meth c H locs cells slots Q (F0 m (pc + 1) ls (.int (nI (x * y)) :: rest))) : W p l e R s m args below meth c H locs cells slots Q (F0 m pc ls (.int (nI y) :: .int (nI x) :: rest)) := by
  refine lv_imul hexec hb hdg ?_
  rw [pk_mul]
  exact k
theorem kw_div (hexec : p.tables.exec = Jvm.exec) (hb : c.code = cc) {x y : Nat} (hx : x < 2 ^ 31) (h0 : 0 < y) (hy : y < 2 ^ 31) (hdg : decode cc pc = .ok (.idiv, 1)) (k : W p l e R s m args below meth c H locs cells slots Q (F0 m (pc + 1) ls (.int (nI (x / y)) :: rest))) : W p l e R s m args below meth c H locs cells slots Q (F0 m pc ls (.int (nI y) :: .int (nI x) :: rest)) := by
  refine lv_idiv hexec hb hdg (nI_ne0 h0 hy) ?_
  rw [pk_div hx h0 hy]
  exact k
theorem kw_rem (hexec : p.tables.exec = Jvm.exec) (hb : c.code = cc) {x y : Nat} (hx : x < 2 ^ 31) (h0 : 0 < y) (hy : y < 2 ^ 31) (hdg : decode cc pc = .ok (.irem, 1)) (k : W p l e R s m args below meth c H locs cells slots Q (F0 m (pc + 1) ls (.int (nI (x % y)) :: rest))) : W p l e R s m args below meth c H locs cells slots Q (F0 m pc ls (.int (nI y) :: .int (nI x) :: rest)) := by
  refine lv_irem hexec hb hdg (nI_ne0 h0 hy) ?_
  rw [pk_rem hx h0 hy]
  exact k
theorem mw_sh31 : ∀ n, n < 32 → ((nI n &&& 31).toBitVec.smod 32).toNat = n := by decide +kernel
theorem kw_shr (hexec : p.tables.exec = Jvm.exec) (hb : c.code = cc) {x y : Nat} (hx : x < 2 ^ 31) (hy : y < 32) (hdg : decode cc pc = .ok (.ishr, 1)) (k : W p l e R s m args below meth c H locs cells slots Q (F0 m (pc + 1) ls (.int (nI (x / 2 ^ y)) :: rest))) : W p l e R s m args below meth c H locs cells slots Q (F0 m pc ls (.int (nI y) :: .int (nI x) :: rest)) := by
  refine lv_ishr hexec hb hdg ?_
  rw [pk_shrN hx _ y (mw_sh31 y hy)]
  exact k
theorem kw_and (hexec : p.tables.exec = Jvm.exec) (hb : c.code = cc) {x y : Nat} (k0 : Nat) (hx : x < 2 ^ 32) (hy : (nI y).toBitVec.toNat = 2 ^ k0 - 1) (hdg : decode cc pc = .ok (.iand, 1)) (k : W p l e R s m args below meth c H locs cells slots Q (F0 m (pc + 1) ls (.int (nI (x % 2 ^ k0)) :: rest))) : W p l e R s m args below meth c H locs cells slots Q (F0 m pc ls (.int (nI y) :: .int (nI x) :: rest)) := by
  refine lv_iand hexec hb hdg ?_
  rw [pk_andN hx k0 hy]
  exact k
theorem kw_i2b (hexec : p.tables.exec = Jvm.exec) (hb : c.code = cc) {x : Nat} (hx : x < 128) (hdg : decode cc pc = .ok (.i2b, 1)) (k : W p l e R s m args below meth c H locs cells slots Q (F0 m (pc + 1) ls (.int (nI x) :: rest))) : W p l e R s m args below meth c H locs cells slots Q (F0 m pc ls (.int (nI x) :: rest)) := lv_i2b hexec hb hdg (mw_bt x hx).2 k
/-- branches over marks -/
theorem kw_ifeqB (hexec : p.tables.exec = Jvm.exec) (hb : c.code = cc) {x : Bool} {off : Int} {tgt : Nat} (hdg : decode cc pc = .ok (.ifCond .eq off, 3)) (ht : (pc : Int) + off = (tgt : Int))
    (kt : x = false → W p l e R s m args below meth c H locs cells slots Q (F0 m tgt ls rest)) (kf : x = true → W p l e R s m args below meth c H locs cells slots Q (F0 m (pc + 3) ls rest)) : W p l e R s m args below meth c H locs cells slots Q (F0 m pc ls (.int (mw_ob x) :: rest)) := lv_if_eq hexec hb hdg ht (fun h => kt (mw_ob_0 h)) (fun h => kf (mw_ob_1 h))
theorem kw_ifneB (hexec : p.tables.exec = Jvm.exec) (hb : c.code = cc) {x : Bool} {off : Int} {tgt : Nat} (hdg : decode cc pc = .ok (.ifCond .ne off, 3)) (ht : (pc : Int) + off = (tgt : Int))
    (kt : x = true → W p l e R s m args below meth c H locs cells slots Q (F0 m tgt ls rest)) (kf : x = false → W p l e R s m args below meth c H locs cells slots Q (F0 m (pc + 3) ls rest)) : W p l e R s m args below meth c H locs cells slots Q (F0 m pc ls (.int (mw_ob x) :: rest)) := lv_if_ne hexec hb hdg ht (fun h => kt (mw_ob_1 h)) (fun h => kf (mw_ob_0 h))
/-- branches over what may be -1 -/
theorem kw_ifltO (hexec : p.tables.exec = Jvm.exec) (hb : c.code = cc) {x : Option Nat} (hx : ∀ c, x = some c → c < 2 ^ 31) {off : Int} {tgt : Nat} (hdg : decode cc pc = .ok (.ifCond .lt off, 3)) (ht : (pc : Int) + off = (tgt : Int))
    (kt : x = none → W p l e R s m args below meth c H locs cells slots Q (F0 m tgt ls rest)) (kf : ∀ i, x = some i → W p l e R s m args below meth c H locs cells slots Q (F0 m (pc + 3) ls rest)) : W p l e R s m args below meth c H locs cells slots Q (F0 m pc ls (.int (mw_oc x) :: rest)) := by
  refine lv_if_lt hexec hb hdg ht (fun h => kt (mw_oc_lt hx h)) (fun h => ?_)
  obtain ⟨i, hi⟩ := mw_oc_ge h
  exact kf i hi
theorem kw_ifgeO (hexec : p.tables.exec = Jvm.exec) (hb : c.code = cc) {x : Option Nat} (hx : ∀ c, x = some c → c < 2 ^ 31) {off : Int} {tgt : Nat} (hdg : decode cc pc = .ok (.ifCond .ge off, 3)) (ht : (pc : Int) + off = (tgt : Int))
    (kt : ∀ i, x = some i → W p l e R s m args below meth c H locs cells slots Q (F0 m tgt ls rest)) (kf : x = none → W p l e R s m args below meth c H locs cells slots Q (F0 m (pc + 3) ls rest)) : W p l e R s m args below meth c H locs cells slots Q (F0 m pc ls (.int (mw_oc x) :: rest)) := by
  cases x with
  | none => exact lv_if_ge hexec hb hdg ht (fun h => absurd h (show ¬ (0 ≤ mw_oc none) by decide)) (fun _ => kf rfl)
  | some i => exact lv_if_ge hexec hb hdg ht (fun _ => kt i rfl) (fun h => absurd (nI_pos' (hx i rfl)) h)
/-- branches over naturals -/
theorem kw_ifeqN (hexec : p.tables.exec = Jvm.exec) (hb : c.code = cc) {x : Nat} (hx : x < 2 ^ 31) {off : Int} {tgt : Nat} (hdg : decode cc pc = .ok (.ifCond .eq off, 3)) (ht : (pc : Int) + off = (tgt : Int))
    (kt : x = 0 → W p l e R s m args below meth c H locs cells slots Q (F0 m tgt ls rest)) (kf : x ≠ 0 → W p l e R s m args below meth c H locs cells slots Q (F0 m (pc + 3) ls rest)) : W p l e R s m args below meth c H locs cells slots Q (F0 m pc ls (.int (nI x) :: rest)) := lv_if_eq hexec hb hdg ht (fun h => kt ((nI_eq hx (by decide)).mp h)) (fun h => kf (fun q => h (by rw [q]; rfl)))
theorem kw_ifgtN (hexec : p.tables.exec = Jvm.exec) (hb : c.code = cc) {x : Nat} (hx : x < 2 ^ 31) {off : Int} {tgt : Nat} (hdg : decode cc pc = .ok (.ifCond .gt off, 3)) (ht : (pc : Int) + off = (tgt : Int))
    (kt : 0 < x → W p l e R s m args below meth c H locs cells slots Q (F0 m tgt ls rest)) (kf : x = 0 → W p l e R s m args below meth c H locs cells slots Q (F0 m (pc + 3) ls rest)) : W p l e R s m args below meth c H locs cells slots Q (F0 m pc ls (.int (nI x) :: rest)) := by
  rcases Nat.eq_zero_or_pos x with h | h
  · exact lv_if_gt hexec hb hdg ht (fun q => absurd q (by rw [h]; decide)) (fun _ => kf h)
  · exact lv_if_gt hexec hb hdg ht (fun _ => kt h) (fun q => absurd (nI_lt h hx) q)
theorem kw_ge (hexec : p.tables.exec = Jvm.exec) (hb : c.code = cc) {x y : Nat} (hx : x < 2 ^ 31) (hy : y < 2 ^ 31) {off : Int} {tgt : Nat} (hdg : decode cc pc = .ok (.if_icmp .ge off, 3)) (ht : (pc : Int) + off = (tgt : Int))
    (kt : y ≤ x → W p l e R s m args below meth c H locs cells slots Q (F0 m tgt ls rest)) (kf : x < y → W p l e R s m args below meth c H locs cells slots Q (F0 m (pc + 3) ls rest)) : W p l e R s m args below meth c H locs cells slots Q (F0 m pc ls (.int (nI y) :: .int (nI x) :: rest)) := by
  rcases Nat.lt_or_ge x y with h | h
  · exact lv_icmp_ge hexec hb hdg ht (fun q => absurd q (nI_ge h hy)) (fun _ => kf h)
  · exact lv_icmp_ge hexec hb hdg ht (fun _ => kt h) (fun q => absurd (nI_le h hx) q)
theorem kw_gt (hexec : p.tables.exec = Jvm.exec) (hb : c.code = cc) {x y : Nat} (hx : x < 2 ^ 31) (hy : y < 2 ^ 31) {off : Int} {tgt : Nat} (hdg : decode cc pc = .ok (.if_icmp .gt off, 3)) (ht : (pc : Int) + off = (tgt : Int))
    (kt : y < x → W p l e R s m args below meth c H locs cells slots Q (F0 m tgt ls rest)) (kf : x ≤ y → W p l e R s m args below meth c H locs cells slots Q (F0 m (pc + 3) ls rest)) : W p l e R s m args below meth c H locs cells slots Q (F0 m pc ls (.int (nI y) :: .int (nI x) :: rest)) := by
  rcases Nat.lt_or_ge y x with h | h
  · exact lv_icmp_gt hexec hb hdg ht (fun _ => kt h) (fun q => absurd (nI_lt h hx) q)
  · exact lv_icmp_gt hexec hb hdg ht (fun q => absurd q (nI_nlt h hy)) (fun _ => kf h)
theorem kw_le (hexec : p.tables.exec = Jvm.exec) (hb : c.code = cc) {x y : Nat} (hx : x < 2 ^ 31) (hy : y < 2 ^ 31) {off : Int} {tgt : Nat} (hdg : decode cc pc = .ok (.if_icmp .le off, 3)) (ht : (pc : Int) + off = (tgt : Int))
    (kt : x ≤ y → W p l e R s m args below meth c H locs cells slots Q (F0 m tgt ls rest)) (kf : y < x → W p l e R s m args below meth c H locs cells slots Q (F0 m (pc + 3) ls rest)) : W p l e R s m args below meth c H locs cells slots Q (F0 m pc ls (.int (nI y) :: .int (nI x) :: rest)) := by
  rcases Nat.lt_or_ge y x with h | h
  · exact lv_icmp_le hexec hb hdg ht (fun q => absurd q (nI_ge h hx)) (fun _ => kf h)
  · exact lv_icmp_le hexec hb hdg ht (fun _ => kt h) (fun q => absurd (nI_le h hy) q)
/-- comparisons of any ints, said with < -/
theorem kw_leI (hexec : p.tables.exec = Jvm.exec) (hb : c.code = cc) {x y : Int32} {off : Int} {tgt : Nat} (hdg : decode cc pc = .ok (.if_icmp .le off, 3)) (ht : (pc : Int) + off = (tgt : Int))
    (kt : ¬ y < x → W p l e R s m args below meth c H locs cells slots Q (F0 m tgt ls rest)) (kf : y < x → W p l e R s m args below meth c H locs cells slots Q (F0 m (pc + 3) ls rest)) : W p l e R s m args below meth c H locs cells slots Q (F0 m pc ls (.int y :: .int x :: rest)) := lv_icmp_le hexec hb hdg ht (fun h => kt (Int32.not_lt.mpr h)) (fun h => kf (Int32.not_le.mp h))
theorem kw_ifgeI (hexec : p.tables.exec = Jvm.exec) (hb : c.code = cc) {x : Int32} {off : Int} {tgt : Nat} (hdg : decode cc pc = .ok (.ifCond .ge off, 3)) (ht : (pc : Int) + off = (tgt : Int))
    (kt : ¬ x < 0 → W p l e R s m args below meth c H locs cells slots Q (F0 m tgt ls rest)) (kf : x < 0 → W p l e R s m args below meth c H locs cells slots Q (F0 m (pc + 3) ls rest)) : W p l e R s m args below meth c H locs cells slots Q (F0 m pc ls (.int x :: rest)) := lv_if_ge hexec hb hdg ht (fun h => kt (Int32.not_lt.mpr h)) (fun h => kf (Int32.not_le.mp h))
end CMR
end
section
/-! CowMemoryModel: isProcess, isPage, used, newSheet -/
def mw_okb (p : Int32) (n : Nat) : Bool := decide (¬ mw_bad p n)
theorem mw_okb_bad {p : Int32} {n : Nat} (h : mw_bad p n) : mw_okb p n = false := by
  unfold mw_okb
  simp only [decide_eq_false_iff_not, Classical.not_not]
  exact h
theorem mw_okb_ok {p : Int32} {n : Nat} (h1 : ¬ p < 0) (h2 : ¬ nI n < p) : mw_okb p n = true := by
  unfold mw_okb
  rw [decide_eq_true_iff]
  exact fun q => q.elim h1 h2
theorem mw_okb_f {p : Int32} {n : Nat} (h : mw_okb p n = false) : mw_bad p n := by
  refine Classical.byContradiction fun q => ?_
  unfold mw_okb at h
  rw [decide_eq_true q] at h
  cases h
theorem mw_okb_t {p : Int32} {n : Nat} (h : mw_okb p n = true) : ¬ p < 0 ∧ ¬ nI n < p := by
  unfold mw_okb at h
  have := of_decide_eq_true h
  exact ⟨fun q => this (Or.inl q), fun q => this (Or.inr q)⟩
theorem mw_oc_eq {x : Option Nat} {t : Nat} (hx : ∀ c, x = some c → c < 2 ^ 31) (ht : t < 2 ^ 31) (h : mw_oc x = nI t) : x = some t := by
  cases x with
  | none => exact absurd (show nI t < 0 by rw [← h]; decide) (nI_pos ht)
  | some c => rw [(nI_eq (hx c rfl) ht).mp h]
set_option maxHeartbeats 4000000 in
set_option maxRecDepth 100000 in
/-- CowMemoryModel.isProcess: p is in 0 .. 3 -/
theorem mX2_isProcess (l : Launch) (dC : Nat → ClassId) (dI : Nat → Nat → Nat) (h0 : Nat) (a : Nat → Nat) (d : Nat → ClassId) (sz : Nat) (ma : Nat → Bool) (ms : Nat → Option Nat) (mo : Nat → Bool) (mc : Nat → Int32) (pp : Int32) : Met l yX2_isProcess (ws_ yX2_isProcess cX2_isProcess 2 (some .boolean)) ({ frames := 0, cells := 0, slots := 0, locals := 0 } : Room) (va_Pc [.ref h0, .int pp] (fun U => U.heap.size = sz ∧ va_P (dC, dI) vwCl (mw_M h0 a d ma ms mo mc) U.heap ∧ va_K (dC, dI) vwCl (mw_MK d) U ∧ va_D (fun _ => True) (mw_M h0 a d ma ms mo mc))) (va_Qi (fun (r : Int32) (_ : Unit) => r = mw_ob (mw_okb pp 3)) (fun (u : Unit) (t : State) => mw_BM dC dI (va_A (mw_M h0 a d ma ms mo mc) sz) h0 a d ma ms mo mc t) (va_A (mw_M h0 a d ma ms mo mc) sz)) 0 0 (va_A (mw_M h0 a d ma ms mo mc) sz) := by
  refine Met.ofW (cc := cX2_isProcess) (maxL := 2) (ret := (some .boolean)) (by decide) rfl ?_
  intro p e s m args below meth c s₁ B hml hv
  obtain ⟨rfl, hsz, hP, hK, hD0⟩ := hv
  have hx := B.exec
  have hb := B.bytes
  have hr := B.returns
  have hts := atoms_spec (ws := ws_ yX2_isProcess cX2_isProcess 2 (some .boolean)) B.pre
  have hts : ∀ w ∈ lw_all, w.before _ s = true := fun w h => hts w (List.mem_cons_of_mem _ h)
  have hown : s.vm.findClass RX2 = some m.cls := findClass_of_methodNamed B.named
  have hlocks := B.notSynchronized
  subst hsz
  have hD := hD0.self (sz := s.heap.size)
  generalize hAe : va_A (mw_M h0 a d ma ms mo mc) s.heap.size = A at hD ⊢
  have hA : ∀ q : Nat, s.heap.size ≤ q → A q := fun q h => by rw [← hAe]; exact Or.inr h
  have hS : va_S A s.heap s.heap [] := va_S.rf
  have hl := lv_entry ([.ref h0, .int pp]) (n := 2) (Nat.le_of_ble_eq_true rfl)
  rw [lg_entry_eq]
  generalize (lg_sl ([.ref h0, .int pp]) ++ List.replicate (2 - (lg_sl ([.ref h0, .int pp])).length) Slot.unset).toArray = ls at hl ⊢
  have hl : lv_has ls 2 [(0, .ref h0), (1, .int pp)] := hl
  obtain ⟨QQ, hQQ⟩ : ∃ QQ, QQ = MQ below (va_Qi (fun (r : Int32) (_ : Unit) => r = mw_ob (mw_okb pp 3)) (fun (u : Unit) (t : State) => mw_BM dC dI A h0 a d ma ms mo mc t) A) ([.ref h0, .int pp] : List Value).toArray s 0 0 A := ⟨_, rfl⟩
  rw [← hQQ]
  refine lv_iload_n hx hb dX2_isProcess_0 rfl (lv_at hl 1 rfl) ?_
  refine lv_if_lt (tgt := 13) hx hb dX2_isProcess_1 (by decide) (fun c1 => ?_) (fun c1 => ?_)
  · refine lv_iconst (v := (nI 0)) hx hb dX2_isProcess_13 (by decide) ?_
    rw [hQQ]
    exact W.zret (v := (nI 0)) hx hb hr (by decide +kernel) (fun t9 ht9 hW9 => ⟨⟨_, (), rfl, by rw [mw_okb_bad (Or.inl c1)]; rfl, by rw [ht9]; exact hP, va_K.moved hW9.alike hK, hD⟩, hS.F ht9⟩) hS.2.2 dX2_isProcess_14
  refine lv_iload_n hx hb dX2_isProcess_4 rfl (lv_at hl 1 rfl) ?_
  refine lv_iconst (v := (nI 3)) hx hb dX2_isProcess_5 (by decide) ?_
  refine lv_icmp_gt (tgt := 13) hx hb dX2_isProcess_6 (by decide) (fun c2 => ?_) (fun c2 => ?_)
  · refine lv_iconst (v := (nI 0)) hx hb dX2_isProcess_13 (by decide) ?_
    rw [hQQ]
    exact W.zret (v := (nI 0)) hx hb hr (by decide +kernel) (fun t9 ht9 hW9 => ⟨⟨_, (), rfl, by rw [mw_okb_bad (Or.inr c2)]; rfl, by rw [ht9]; exact hP, va_K.moved hW9.alike hK, hD⟩, hS.F ht9⟩) hS.2.2 dX2_isProcess_14
  refine lv_iconst (v := (nI 1)) hx hb dX2_isProcess_9 (by decide) ?_
  refine lv_goto (tgt := 14) hx hb dX2_isProcess_10 (by decide) ?_
  rw [hQQ]
  exact W.zret (v := (nI 1)) hx hb hr (by decide +kernel) (fun t9 ht9 hW9 => ⟨⟨_, (), rfl, by rw [mw_okb_ok c1 c2]; rfl, by rw [ht9]; exact hP, va_K.moved hW9.alike hK, hD⟩, hS.F ht9⟩) hS.2.2 dX2_isProcess_14
set_option maxHeartbeats 4000000 in
set_option maxRecDepth 100000 in
/-- CowMemoryModel.isPage: k is in 0 .. 4 -/
theorem mX2_isPage (l : Launch) (dC : Nat → ClassId) (dI : Nat → Nat → Nat) (h0 : Nat) (a : Nat → Nat) (d : Nat → ClassId) (sz : Nat) (ma : Nat → Bool) (ms : Nat → Option Nat) (mo : Nat → Bool) (mc : Nat → Int32) (kk : Int32) : Met l yX2_isPage (ws_ yX2_isPage cX2_isPage 2 (some .boolean)) ({ frames := 0, cells := 0, slots := 0, locals := 0 } : Room) (va_Pc [.ref h0, .int kk] (fun U => U.heap.size = sz ∧ va_P (dC, dI) vwCl (mw_M h0 a d ma ms mo mc) U.heap ∧ va_K (dC, dI) vwCl (mw_MK d) U ∧ va_D (fun _ => True) (mw_M h0 a d ma ms mo mc))) (va_Qi (fun (r : Int32) (_ : Unit) => r = mw_ob (mw_okb kk 4)) (fun (u : Unit) (t : State) => mw_BM dC dI (va_A (mw_M h0 a d ma ms mo mc) sz) h0 a d ma ms mo mc t) (va_A (mw_M h0 a d ma ms mo mc) sz)) 0 0 (va_A (mw_M h0 a d ma ms mo mc) sz) := by
  refine Met.ofW (cc := cX2_isPage) (maxL := 2) (ret := (some .boolean)) (by decide) rfl ?_
  intro p e s m args below meth c s₁ B hml hv
  obtain ⟨rfl, hsz, hP, hK, hD0⟩ := hv
  have hx := B.exec
  have hb := B.bytes
  have hr := B.returns
  have hts := atoms_spec (ws := ws_ yX2_isPage cX2_isPage 2 (some .boolean)) B.pre
  have hts : ∀ w ∈ lw_all, w.before _ s = true := fun w h => hts w (List.mem_cons_of_mem _ h)
  have hown : s.vm.findClass RX2 = some m.cls := findClass_of_methodNamed B.named
  have hlocks := B.notSynchronized
  subst hsz
  have hD := hD0.self (sz := s.heap.size)
  generalize hAe : va_A (mw_M h0 a d ma ms mo mc) s.heap.size = A at hD ⊢
  have hA : ∀ q : Nat, s.heap.size ≤ q → A q := fun q h => by rw [← hAe]; exact Or.inr h
  have hS : va_S A s.heap s.heap [] := va_S.rf
  have hl := lv_entry ([.ref h0, .int kk]) (n := 2) (Nat.le_of_ble_eq_true rfl)
  rw [lg_entry_eq]
  generalize (lg_sl ([.ref h0, .int kk]) ++ List.replicate (2 - (lg_sl ([.ref h0, .int kk])).length) Slot.unset).toArray = ls at hl ⊢
  have hl : lv_has ls 2 [(0, .ref h0), (1, .int kk)] := hl
  obtain ⟨QQ, hQQ⟩ : ∃ QQ, QQ = MQ below (va_Qi (fun (r : Int32) (_ : Unit) => r = mw_ob (mw_okb kk 4)) (fun (u : Unit) (t : State) => mw_BM dC dI A h0 a d ma ms mo mc t) A) ([.ref h0, .int kk] : List Value).toArray s 0 0 A := ⟨_, rfl⟩
  rw [← hQQ]
  refine lv_iload_n hx hb dX2_isPage_0 rfl (lv_at hl 1 rfl) ?_
  refine lv_if_lt (tgt := 13) hx hb dX2_isPage_1 (by decide) (fun c1 => ?_) (fun c1 => ?_)
  · refine lv_iconst (v := (nI 0)) hx hb dX2_isPage_13 (by decide) ?_
    rw [hQQ]
    exact W.zret (v := (nI 0)) hx hb hr (by decide +kernel) (fun t9 ht9 hW9 => ⟨⟨_, (), rfl, by rw [mw_okb_bad (Or.inl c1)]; rfl, by rw [ht9]; exact hP, va_K.moved hW9.alike hK, hD⟩, hS.F ht9⟩) hS.2.2 dX2_isPage_14
  refine lv_iload_n hx hb dX2_isPage_4 rfl (lv_at hl 1 rfl) ?_
  refine lv_iconst (v := (nI 4)) hx hb dX2_isPage_5 (by decide) ?_
  refine lv_icmp_gt (tgt := 13) hx hb dX2_isPage_6 (by decide) (fun c2 => ?_) (fun c2 => ?_)
  · refine lv_iconst (v := (nI 0)) hx hb dX2_isPage_13 (by decide) ?_
    rw [hQQ]
    exact W.zret (v := (nI 0)) hx hb hr (by decide +kernel) (fun t9 ht9 hW9 => ⟨⟨_, (), rfl, by rw [mw_okb_bad (Or.inr c2)]; rfl, by rw [ht9]; exact hP, va_K.moved hW9.alike hK, hD⟩, hS.F ht9⟩) hS.2.2 dX2_isPage_14
  refine lv_iconst (v := (nI 1)) hx hb dX2_isPage_9 (by decide) ?_
  refine lv_goto (tgt := 14) hx hb dX2_isPage_10 (by decide) ?_
  rw [hQQ]
  exact W.zret (v := (nI 1)) hx hb hr (by decide +kernel) (fun t9 ht9 hW9 => ⟨⟨_, (), rfl, by rw [mw_okb_ok c1 c2]; rfl, by rw [ht9]; exact hP, va_K.moved hW9.alike hK, hD⟩, hS.F ht9⟩) hS.2.2 dX2_isPage_14
set_option maxHeartbeats 4000000 in
set_option maxRecDepth 100000 in
/-- CowMemoryModel.used: does a page have the sheet t -/
theorem mX2_used (l : Launch) (dC : Nat → ClassId) (dI : Nat → Nat → Nat) (h0 : Nat) (a : Nat → Nat) (d : Nat → ClassId) (sz : Nat) (ma : Nat → Bool) (ms : Nat → Option Nat) (mo : Nat → Bool) (mc : Nat → Int32) (hM : ∀ k s, k < 20 → ms k = some s → s < 20) (t : Nat) (ht0 : t < 20) : Met l yX2_used (ws_ yX2_used cX2_used 3 (some .boolean)) ({ frames := 0, cells := 0, slots := 0, locals := 0 } : Room) (va_Pc [.ref h0, .int (nI t)] (fun U => U.heap.size = sz ∧ va_P (dC, dI) vwCl (mw_M h0 a d ma ms mo mc) U.heap ∧ va_K (dC, dI) vwCl (mw_MK d) U ∧ va_D (fun _ => True) (mw_M h0 a d ma ms mo mc))) (va_Qi (fun (r : Int32) (_ : Unit) => r = mw_ob (mw_used ms t)) (fun (u : Unit) (t : State) => mw_BM dC dI (va_A (mw_M h0 a d ma ms mo mc) sz) h0 a d ma ms mo mc t) (va_A (mw_M h0 a d ma ms mo mc) sz)) 0 0 (va_A (mw_M h0 a d ma ms mo mc) sz) := by
  refine Met.ofW (cc := cX2_used) (maxL := 3) (ret := (some .boolean)) (by decide) rfl ?_
  intro p e s m args below meth c s₁ B hml hv
  obtain ⟨rfl, hsz, hP, hK, hD0⟩ := hv
  have hx := B.exec
  have hb := B.bytes
  have hr := B.returns
  have hts := atoms_spec (ws := ws_ yX2_used cX2_used 3 (some .boolean)) B.pre
  have hts : ∀ w ∈ lw_all, w.before _ s = true := fun w h => hts w (List.mem_cons_of_mem _ h)
  have hown : s.vm.findClass RX2 = some m.cls := findClass_of_methodNamed B.named
  have hlocks := B.notSynchronized
  subst hsz
  have hD := hD0.self (sz := s.heap.size)
  generalize hAe : va_A (mw_M h0 a d ma ms mo mc) s.heap.size = A at hD ⊢
  have hA : ∀ q : Nat, s.heap.size ≤ q → A q := fun q h => by rw [← hAe]; exact Or.inr h
  have hS : va_S A s.heap s.heap [] := va_S.rf
  have hl := lv_entry ([.ref h0, .int (nI t)]) (n := 3) (Nat.le_of_ble_eq_true rfl)
  rw [lg_entry_eq]
  generalize (lg_sl ([.ref h0, .int (nI t)]) ++ List.replicate (3 - (lg_sl ([.ref h0, .int (nI t)])).length) Slot.unset).toArray = ls at hl ⊢
  have hl : lv_has ls 3 [(0, .ref h0), (1, .int (nI t))] := hl
  obtain ⟨QQ, hQQ⟩ : ∃ QQ, QQ = MQ below (va_Qi (fun (r : Int32) (_ : Unit) => r = mw_ob (mw_used ms t)) (fun (u : Unit) (t : State) => mw_BM dC dI A h0 a d ma ms mo mc t) A) ([.ref h0, .int (nI t)] : List Value).toArray s 0 0 A := ⟨_, rfl⟩
  rw [← hQQ]
  refine lv_iconst (v := (nI 0)) hx hb dX2_used_0 (by decide) ?_
  refine lv_istore_n (lv' := [(2, .int (nI 0)), (0, .ref h0), (1, .int (nI t))]) hx hb dX2_used_1 rfl hl (by decide) rfl (fun ls hl => ?_)
  have lp : ∀ (n : Nat) (i : Nat), (i ≤ 20) → (∀ j, j < i → ms j ≠ some t) → (20 - i) < n → ∀ (H : Heap) (locs : List Loc), va_P (dC, dI) vwCl (mw_M h0 a d ma ms mo mc) H → va_D A (mw_M h0 a d ma ms mo mc) → va_S A s.heap H locs → ∀ (ls : Array Slot), lv_has ls 3 [(2, .int (nI i)), (0, .ref h0), (1, .int (nI t))] → W p l e ({ frames := 0, cells := 0, slots := 0, locals := 0 } : Room) s m ([.ref h0, .int (nI t)] : List Value).toArray below meth c H locs 0 0 QQ (F0 m 2 ls []) := by
    intro n
    induction n with
    | zero =>
      intro i hi hn hfuel
      exact absurd hfuel (by omega)
    | succ n ih =>
      intro i hi hn hfuel H locs hP hD hS ls hl
      refine lv_iload_n hx hb dX2_used_2 rfl (lv_at hl 0 rfl) ?_
      refine lv_bipush (v := (nI 20)) hx hb dX2_used_3 (by decide) ?_
      refine kw_ge (tgt := 26) hx hb (by omega) (by omega) dX2_used_5 (by decide) (fun c1 => ?_) (fun c1 => ?_)
      · refine lv_iconst (v := (nI 0)) hx hb dX2_used_26 (by decide) ?_
        rw [hQQ]
        exact W.zret (v := (nI 0)) hx hb hr (by decide +kernel) (fun t9 ht9 hW9 => ⟨⟨_, (), rfl, by rw [show mw_used ms t = false from mw_in_noI (fun k hk => hn k (by omega))]; rfl, by rw [ht9]; exact hP, va_K.moved hW9.alike hK, hD⟩, hS.F ht9⟩) hS.2.2 dX2_used_27
      refine lv_aload_n hx hb dX2_used_8 rfl (lv_at hl 1 rfl) ?_
      refine va_get (D := (dC, dI)) (ci := 1) (v := .ref (a 1)) (C := RX2) (T := TX2) (N := 4) hx hb hts in_X2 hown hK hP 0 rfl rfl 1 (by decide) (hts _ q153) (fun _ h9 => h9) rfl dX2_used_9 ?_
      refine lv_iload_n hx hb dX2_used_12 rfl (lv_at hl 0 rfl) ?_
      refine kw_ild (v := (mw_oc (ms i))) hx hb hK hP 2 1 rfl rfl (by omega) (by decide) rfl dX2_used_13 ?_
      refine lv_iload_n hx hb dX2_used_14 rfl (lv_at hl 2 rfl) ?_
      refine lv_icmp_ne (tgt := 20) hx hb dX2_used_15 (by decide) (fun c2 => ?_) (fun c2 => ?_)
      · refine lv_iinc (v := (nI (i + 1))) (lv' := [(2, .int (nI (i + 1))), (0, .ref h0), (1, .int (nI t))]) hx hb dX2_used_20 hl (k := 0) rfl (mw_inc1 _) (by decide) rfl (fun ls hl => ?_)
        refine lv_goto (tgt := 2) hx hb dX2_used_23 (by decide) ?_
        exact ih (i + 1) (by omega) (fun j hj => by rcases Nat.lt_or_ge j i with q | q; exact hn j q; rw [show j = i by omega]; exact fun z => c2 (by rw [z]; rfl)) (by omega) _ _ hP hD hS ls (lv_sub hl [0, 1, 2] rfl)
      refine lv_iconst (v := (nI 1)) hx hb dX2_used_18 (by decide) ?_
      rw [hQQ]
      exact W.zret (v := (nI 1)) hx hb hr (by decide +kernel) (fun t9 ht9 hW9 => ⟨⟨_, (), rfl, by rw [show mw_used ms t = true from (mw_in_iff ms t 20).mpr ⟨i, c1, mw_oc_eq (fun c h => Nat.lt_trans (hM i c c1 h) (by decide)) (by omega) c2⟩]; rfl, by rw [ht9]; exact hP, va_K.moved hW9.alike hK, hD⟩, hS.F ht9⟩) hS.2.2 dX2_used_19
  exact lp 21 0 (by omega) (fun j hj => absurd hj (by omega)) (by omega) _ _ hP hD hS ls (lv_sub hl [0, 1, 2] rfl)
set_option maxHeartbeats 4000000 in
set_option maxRecDepth 100000 in
/-- CowMemoryModel.newSheet -/
theorem mX2_newSheet (l : Launch) (dC : Nat → ClassId) (dI : Nat → Nat → Nat) (h0 : Nat) (a : Nat → Nat) (d : Nat → ClassId) (sz : Nat) (ma : Nat → Bool) (ms : Nat → Option Nat) (mo : Nat → Bool) (mc : Nat → Int32) (hM : ∀ k s, k < 20 → ms k = some s → s < 20) : Met l yX2_newSheet (ws_ yX2_newSheet cX2_newSheet 2 (some .int)) ({ frames := 1, cells := 0, slots := 0, locals := 22 } : Room) (va_Pc [.ref h0] (fun U => U.heap.size = sz ∧ va_P (dC, dI) vwCl (mw_M h0 a d ma ms mo mc) U.heap ∧ va_K (dC, dI) vwCl (mw_MK d) U ∧ va_D (fun _ => True) (mw_M h0 a d ma ms mo mc))) (va_Qi (fun (r : Int32) (_ : Unit) => r = nI (mw_new ms)) (fun (u : Unit) (t : State) => mw_BM dC dI (va_A (mw_M h0 a d ma ms mo mc) sz) h0 a d ma ms mo mc t) (va_A (mw_M h0 a d ma ms mo mc) sz)) 0 0 (va_A (mw_M h0 a d ma ms mo mc) sz) := by
  refine Met.ofW (cc := cX2_newSheet) (maxL := 2) (ret := (some .int)) (by decide) rfl ?_
  intro p e s m args below meth c s₁ B hml hv
  obtain ⟨rfl, hsz, hP, hK, hD0⟩ := hv
  have hx := B.exec
  have hb := B.bytes
  have hr := B.returns
  have hts := atoms_spec (ws := ws_ yX2_newSheet cX2_newSheet 2 (some .int)) B.pre
  have hts : ∀ w ∈ lw_all, w.before _ s = true := fun w h => hts w (List.mem_cons_of_mem _ h)
  have hown : s.vm.findClass RX2 = some m.cls := findClass_of_methodNamed B.named
  have hlocks := B.notSynchronized
  subst hsz
  have hD := hD0.self (sz := s.heap.size)
  generalize hAe : va_A (mw_M h0 a d ma ms mo mc) s.heap.size = A at hD ⊢
  have hA : ∀ q : Nat, s.heap.size ≤ q → A q := fun q h => by rw [← hAe]; exact Or.inr h
  have hS : va_S A s.heap s.heap [] := va_S.rf
  have hl := lv_entry ([.ref h0]) (n := 2) (Nat.le_of_ble_eq_true rfl)
  rw [lg_entry_eq]
  generalize (lg_sl ([.ref h0]) ++ List.replicate (2 - (lg_sl ([.ref h0])).length) Slot.unset).toArray = ls at hl ⊢
  have hl : lv_has ls 2 [(0, .ref h0)] := hl
  obtain ⟨QQ, hQQ⟩ : ∃ QQ, QQ = MQ below (va_Qi (fun (r : Int32) (_ : Unit) => r = nI (mw_new ms)) (fun (u : Unit) (t : State) => mw_BM dC dI A h0 a d ma ms mo mc t) A) ([.ref h0] : List Value).toArray s 0 0 A := ⟨_, rfl⟩
  rw [← hQQ]
  refine lv_iconst (v := (nI 0)) hx hb dX2_newSheet_0 (by decide) ?_
  refine lv_istore_n (lv' := [(1, .int (nI 0)), (0, .ref h0)]) hx hb dX2_newSheet_1 rfl hl (by decide) rfl (fun ls hl => ?_)
  have lp : ∀ (n : Nat) (i : Nat), (i ≤ 20) → (∀ j, j < i → mw_used ms j = true) → (20 - i) < n → ∀ (H : Heap) (locs : List Loc), va_P (dC, dI) vwCl (mw_M h0 a d ma ms mo mc) H → va_D A (mw_M h0 a d ma ms mo mc) → va_S A s.heap H locs → ∀ (ls : Array Slot), lv_has ls 2 [(1, .int (nI i)), (0, .ref h0)] → W p l e ({ frames := 1, cells := 0, slots := 0, locals := 22 } : Room) s m ([.ref h0] : List Value).toArray below meth c H locs 0 0 QQ (F0 m 2 ls []) := by
    intro n
    induction n with
    | zero =>
      intro i hi hn hfuel
      exact absurd hfuel (by omega)
    | succ n ih =>
      intro i hi hn hfuel H locs hP hD hS ls hl
      refine lv_iload_n hx hb dX2_newSheet_2 rfl (lv_at hl 0 rfl) ?_
      refine lv_bipush (v := (nI 20)) hx hb dX2_newSheet_3 (by decide) ?_
      refine kw_ge (tgt := 24) hx hb (by omega) (by omega) dX2_newSheet_5 (by decide) (fun c1 => ?_) (fun c1 => ?_)
      · refine lv_iconst (v := (nI 0)) hx hb dX2_newSheet_24 (by decide) ?_
        rw [hQQ]
        exact W.iret (v := (nI 0)) hx hb hr (fun t9 ht9 hW9 => ⟨⟨_, (), rfl, by rw [mw_new_0 (fun k hk => hn k (by omega))], by rw [ht9]; exact hP, va_K.moved hW9.alike hK, hD⟩, hS.F ht9⟩) hS.2.2 dX2_newSheet_25
      refine lv_aload_n hx hb dX2_newSheet_8 rfl (lv_at hl 1 rfl) ?_
      refine lv_iload_n hx hb dX2_newSheet_9 rfl (lv_at hl 0 rfl) ?_
      have hFc := va_free (wc := (mw_M h0 a d ma ms mo mc)) hD hS hA [0, 1, 2, 3, 4] rfl
      refine va_calli (va_runV (As := [.int (nI i)]) (rest := []) ⟨hx, hb, hml, hown, hts⟩ (mX2_used l dC dI h0 a d H.size ma ms mo mc hM i c1) (cwV 1 hts (lw_V q181 q183 qs11 q15 q184) rfl rfl rfl (by decide +kernel) ⟨Nat.le_of_ble_eq_true rfl, Nat.le_of_ble_eq_true rfl⟩) ⟨fun a U g mk q => by obtain ⟨q0, q1, qP, qK, qD⟩ := q; exact ⟨q0, q1, qP, va_K.moved (u := U) (U := U.calling g mk a) (Vm.Alike.refl U.vm) qK, qD⟩, va_recv hK hP (ci := 1) (q0 := 0) rfl rfl, fun U hU hW => ⟨rfl, by rw [hU], by rw [hU]; exact hP, va_K.moved hW.alike hK, hD.weaken (fun _ _ _ _ => trivial)⟩⟩ rfl rfl hl.1 rfl (lv_room (Nat.le_of_ble_eq_true rfl)) dX2_newSheet_10 ⟨Nat.le_refl _, Nat.le_refl _⟩) hS (fun q _ h => hFc q h) hFc (fun r u t9 H1 locs ht9 hvm hw hB hz1 hk1 hS => ?_)
      have hw := hw
      obtain ⟨hP1, hK1, hD1⟩ : mw_BM dC dI _ h0 a d ma ms mo mc t9 := hB
      rw [ht9] at hP1
      obtain ⟨hP, hD⟩ := va_join (wr := []) (w1 := (mw_M h0 a d ma ms mo mc)) hP hD [0, 1, 2, 3, 4] [] rfl rfl (by decide) (by decide) hk1 hFc hP1 hD1
      generalize H1 = H at hP hS ⊢
      have hP : va_P (dC, dI) vwCl (mw_M h0 a d ma ms mo mc) H := hP
      have hD : va_D A (mw_M h0 a d ma ms mo mc) := hD
      refine W.widen (k := 0) (n := 0) (Nat.le_refl _) (Nat.le_refl _) ?_
      subst hw
      refine kw_ifneB (tgt := 18) hx hb dX2_newSheet_13 (by decide) (fun c2 => ?_) (fun c2 => ?_)
      · refine lv_iinc (v := (nI (i + 1))) (lv' := [(1, .int (nI (i + 1))), (0, .ref h0)]) hx hb dX2_newSheet_18 hl (k := 0) rfl (mw_inc1 _) (by decide) rfl (fun ls hl => ?_)
        refine lv_goto (tgt := 2) hx hb dX2_newSheet_21 (by decide) ?_
        exact ih (i + 1) (by omega) (fun j hj => by rcases Nat.lt_or_ge j i with q | q; exact hn j q; rw [show j = i by omega]; exact c2) (by omega) _ _ hP hD hS ls (lv_sub hl [0, 1] rfl)
      refine lv_iload_n hx hb dX2_newSheet_16 rfl (lv_at hl 0 rfl) ?_
      rw [hQQ]
      exact W.iret (v := (nI i)) hx hb hr (fun t9 ht9 hW9 => ⟨⟨_, (), rfl, by rw [mw_new_at c1 hn c2], by rw [ht9]; exact hP, va_K.moved hW9.alike hK, hD⟩, hS.F ht9⟩) hS.2.2 dX2_newSheet_17
  exact lp 21 0 (by omega) (fun j hj => absurd hj (by omega)) (by omega) _ _ hP hD hS ls (lv_sub hl [0, 1] rfl)
end
section
/-! CowMemoryModel: map, unmap, write, read, exit, isMapped, showing, sheets, total -/
theorem mw_oc_inj {x y : Option Nat} (hx : ∀ c, x = some c → c < 2 ^ 31) (hy : ∀ c, y = some c → c < 2 ^ 31) (h : mw_oc x = mw_oc y) : x = y := by
  cases y with
  | none =>
    cases x with
    | none => rfl
    | some c => exact absurd (show mw_oc (some c) < 0 by rw [h]; decide) (nI_pos (hx c rfl))
  | some t => exact mw_oc_eq hx (hy t rfl) h
theorem mw_ct_s1 {P : Nat → Bool} {n : Nat} (h : P n = true) : mw_ct P (n + 1) = mw_ct P n + 1 := by
  show mw_ct P n + _ = _
  rw [if_pos h]
theorem mw_ct_s0 {P : Nat → Bool} {n : Nat} (h : P n = false) : mw_ct P (n + 1) = mw_ct P n := by
  show mw_ct P n + _ = _
  rw [if_neg (by rw [h]; decide)]
  rfl
def mw_tf (ms : Nat → Option Nat) (mc : Nat → Int32) (s : Nat) : Int64 := if mw_used ms s then mw_s4 (fun i => mc (4 * s + i)) else 0
set_option maxHeartbeats 4000000 in
set_option maxRecDepth 100000 in
/-- CowMemoryModel.map -/
theorem mX2_map (l : Launch) (dC : Nat → ClassId) (dI : Nat → Nat → Nat) (h0 : Nat) (a : Nat → Nat) (d : Nat → ClassId) (sz : Nat) (ma : Nat → Bool) (ms : Nat → Option Nat) (mo : Nat → Bool) (mc : Nat → Int32) (hM : ∀ k s, k < 20 → ms k = some s → s < 20) (pp kk : Int32) (b : Bool) : Met l yX2_map (ws_ yX2_map cX2_map 6 (some .int)) ({ frames := 2, cells := 0, slots := 0, locals := 43 } : Room) (va_Pc [.ref h0, .int pp, .int kk, .int (mw_ob b)] (fun U => U.heap.size = sz ∧ va_P (dC, dI) vwCl (mw_M h0 a d ma ms mo mc) U.heap ∧ va_K (dC, dI) vwCl (mw_MK d) U ∧ va_D (fun _ => True) (mw_M h0 a d ma ms mo mc))) (va_Qi (fun (r : Int32) (u : mw_V) => (r, u) = mw_map (ma, ms, mo, mc) pp kk b) (fun (u : mw_V) (t : State) => mw_BM dC dI (va_A (mw_M h0 a d ma ms mo mc) sz) h0 a d u.1 u.2.1 u.2.2.1 u.2.2.2 t) (va_A (mw_M h0 a d ma ms mo mc) sz)) 0 0 (va_A (mw_M h0 a d ma ms mo mc) sz) := by
  refine Met.ofW (cc := cX2_map) (maxL := 6) (ret := (some .int)) (by decide) rfl ?_
  intro p e s m args below meth c s₁ B hml hv
  obtain ⟨rfl, hsz, hP, hK, hD0⟩ := hv
  have hx := B.exec
  have hb := B.bytes
  have hr := B.returns
  have hts := atoms_spec (ws := ws_ yX2_map cX2_map 6 (some .int)) B.pre
  have hts : ∀ w ∈ lw_all, w.before _ s = true := fun w h => hts w (List.mem_cons_of_mem _ h)
  have hown : s.vm.findClass RX2 = some m.cls := findClass_of_methodNamed B.named
  have hlocks := B.notSynchronized
  subst hsz
  have hD := hD0.self (sz := s.heap.size)
  generalize hAe : va_A (mw_M h0 a d ma ms mo mc) s.heap.size = A at hD ⊢
  have hA : ∀ q : Nat, s.heap.size ≤ q → A q := fun q h => by rw [← hAe]; exact Or.inr h
  have hS : va_S A s.heap s.heap [] := va_S.rf
  have hl := lv_entry ([.ref h0, .int pp, .int kk, .int (mw_ob b)]) (n := 6) (Nat.le_of_ble_eq_true rfl)
  rw [lg_entry_eq]
  generalize (lg_sl ([.ref h0, .int pp, .int kk, .int (mw_ob b)]) ++ List.replicate (6 - (lg_sl ([.ref h0, .int pp, .int kk, .int (mw_ob b)])).length) Slot.unset).toArray = ls at hl ⊢
  have hl : lv_has ls 6 [(0, .ref h0), (1, .int pp), (2, .int kk), (3, .int (mw_ob b))] := hl
  obtain ⟨QQ, hQQ⟩ : ∃ QQ, QQ = MQ below (va_Qi (fun (r : Int32) (u : mw_V) => (r, u) = mw_map (ma, ms, mo, mc) pp kk b) (fun (u : mw_V) (t : State) => mw_BM dC dI A h0 a d u.1 u.2.1 u.2.2.1 u.2.2.2 t) A) ([.ref h0, .int pp, .int kk, .int (mw_ob b)] : List Value).toArray s 0 0 A := ⟨_, rfl⟩
  rw [← hQQ]
  refine lv_aload_n hx hb dX2_map_0 rfl (lv_at hl 0 rfl) ?_
  refine lv_iload_n hx hb dX2_map_1 rfl (lv_at hl 1 rfl) ?_
  have hFc := va_free (wc := (mw_M h0 a d ma ms mo mc)) hD hS hA [0, 1, 2, 3, 4] rfl
  refine va_calli (va_runV (As := [.int pp]) (rest := []) ⟨hx, hb, hml, hown, hts⟩ (mX2_isProcess l dC dI h0 a d s.heap.size ma ms mo mc pp) (cwV 1 hts (lw_V q169 q171 qs8 q15 q172) rfl rfl rfl (by decide +kernel) ⟨Nat.le_of_ble_eq_true rfl, Nat.le_of_ble_eq_true rfl⟩) ⟨fun a U g mk q => by obtain ⟨q0, q1, qP, qK, qD⟩ := q; exact ⟨q0, q1, qP, va_K.moved (u := U) (U := U.calling g mk a) (Vm.Alike.refl U.vm) qK, qD⟩, va_recv hK hP (ci := 1) (q0 := 0) rfl rfl, fun U hU hW => ⟨rfl, by rw [hU], by rw [hU]; exact hP, va_K.moved hW.alike hK, hD.weaken (fun _ _ _ _ => trivial)⟩⟩ rfl rfl hl.1 rfl (lv_room (Nat.le_of_ble_eq_true rfl)) dX2_map_2 ⟨Nat.le_refl _, Nat.le_refl _⟩) hS (fun q _ h => hFc q h) hFc (fun r u t9 H1 locs ht9 hvm hw hB hz1 hk1 hS => ?_)
  have hw := hw
  obtain ⟨hP1, hK1, hD1⟩ : mw_BM dC dI _ h0 a d ma ms mo mc t9 := hB
  rw [ht9] at hP1
  obtain ⟨hP, hD⟩ := va_join (wr := []) (w1 := (mw_M h0 a d ma ms mo mc)) hP hD [0, 1, 2, 3, 4] [] rfl rfl (by decide) (by decide) hk1 hFc hP1 hD1
  generalize H1 = H at hP hS ⊢
  have hP : va_P (dC, dI) vwCl (mw_M h0 a d ma ms mo mc) H := hP
  have hD : va_D A (mw_M h0 a d ma ms mo mc) := hD
  refine W.widen (k := 0) (n := 0) (Nat.le_refl _) (Nat.le_refl _) ?_
  subst hw
  refine kw_ifeqB (tgt := 16) hx hb dX2_map_5 (by decide) (fun c1 => ?_) (fun c1 => ?_)
  · refine lv_iconst (v := (-1)) hx hb dX2_map_16 (by decide) ?_
    rw [hQQ]
    exact W.iret (v := (-1)) hx hb hr (fun t9 ht9 hW9 => ⟨⟨_, (ma, ms, mo, mc), rfl, (mw_map_bad (Or.inl (mw_okb_f c1))).symm, by rw [ht9]; exact hP, va_K.moved hW9.alike hK, hD⟩, hS.F ht9⟩) hS.2.2 dX2_map_17
  refine lv_aload_n hx hb dX2_map_8 rfl (lv_at hl 0 rfl) ?_
  refine lv_iload_n hx hb dX2_map_9 rfl (lv_at hl 2 rfl) ?_
  have hFc := va_free (wc := (mw_M h0 a d ma ms mo mc)) hD hS hA [0, 1, 2, 3, 4] rfl
  refine va_calli (va_runV (As := [.int kk]) (rest := []) ⟨hx, hb, hml, hown, hts⟩ (mX2_isPage l dC dI h0 a d H.size ma ms mo mc kk) (cwV 1 hts (lw_V q173 q175 qs9 q15 q176) rfl rfl rfl (by decide +kernel) ⟨Nat.le_of_ble_eq_true rfl, Nat.le_of_ble_eq_true rfl⟩) ⟨fun a U g mk q => by obtain ⟨q0, q1, qP, qK, qD⟩ := q; exact ⟨q0, q1, qP, va_K.moved (u := U) (U := U.calling g mk a) (Vm.Alike.refl U.vm) qK, qD⟩, va_recv hK hP (ci := 1) (q0 := 0) rfl rfl, fun U hU hW => ⟨rfl, by rw [hU], by rw [hU]; exact hP, va_K.moved hW.alike hK, hD.weaken (fun _ _ _ _ => trivial)⟩⟩ rfl rfl hl.1 rfl (lv_room (Nat.le_of_ble_eq_true rfl)) dX2_map_10 ⟨Nat.le_refl _, Nat.le_refl _⟩) hS (fun q _ h => hFc q h) hFc (fun r u t9 H1 locs ht9 hvm hw hB hz1 hk1 hS => ?_)
  have hw := hw
  obtain ⟨hP1, hK1, hD1⟩ : mw_BM dC dI _ h0 a d ma ms mo mc t9 := hB
  rw [ht9] at hP1
  obtain ⟨hP, hD⟩ := va_join (wr := []) (w1 := (mw_M h0 a d ma ms mo mc)) hP hD [0, 1, 2, 3, 4] [] rfl rfl (by decide) (by decide) hk1 hFc hP1 hD1
  generalize H1 = H at hP hS ⊢
  have hP : va_P (dC, dI) vwCl (mw_M h0 a d ma ms mo mc) H := hP
  have hD : va_D A (mw_M h0 a d ma ms mo mc) := hD
  refine W.widen (k := 0) (n := 0) (Nat.le_refl _) (Nat.le_refl _) ?_
  subst hw
  refine kw_ifneB (tgt := 18) hx hb dX2_map_13 (by decide) (fun c2 => ?_) (fun c2 => ?_)
  · obtain ⟨P, hP3, rfl⟩ := mw_rng (n := 3) (by decide) (mw_okb_t c1).1 (mw_okb_t c1).2
    obtain ⟨K, hK4, rfl⟩ := mw_rng (n := 4) (by decide) (mw_okb_t c2).1 (mw_okb_t c2).2
    refine lv_aload_n hx hb dX2_map_18 rfl (lv_at hl 0 rfl) ?_
    refine va_get (D := (dC, dI)) (ci := 1) (v := .ref (a 0)) (C := RX2) (T := TX2) (N := 4) hx hb hts in_X2 hown hK hP 0 rfl rfl 0 (by decide) (hts _ q152) (fun _ h9 => h9) rfl dX2_map_19 ?_
    refine lv_iload_n hx hb dX2_map_22 rfl (lv_at hl 1 rfl) ?_
    refine kw_zld (v := (mw_ob (ma P))) hx hb hK hP 1 0 rfl rfl (by omega) (by decide) rfl dX2_map_23 ?_
    refine kw_ifneB (tgt := 30) hx hb dX2_map_24 (by decide) (fun c3 => ?_) (fun c3 => ?_)
    · refine lv_aload_n hx hb dX2_map_30 rfl (lv_at hl 0 rfl) ?_
      refine va_get (D := (dC, dI)) (ci := 1) (v := .ref (a 1)) (C := RX2) (T := TX2) (N := 4) hx hb hts in_X2 hown hK hP 0 rfl rfl 1 (by decide) (hts _ q153) (fun _ h9 => h9) rfl dX2_map_31 ?_
      refine lv_iconst (v := (nI 5)) hx hb dX2_map_34 (by decide) ?_
      refine lv_iload_n hx hb dX2_map_35 rfl (lv_at hl 1 rfl) ?_
      refine kw_mul hx hb dX2_map_36 ?_
      refine lv_iload_n hx hb dX2_map_37 rfl (lv_at hl 2 rfl) ?_
      refine kw_add hx hb dX2_map_38 ?_
      refine kw_ild (v := (mw_oc (ms (5 * P + K)))) hx hb hK hP 2 1 rfl rfl (by omega) (by decide) rfl dX2_map_39 ?_
      refine kw_ifltO (tgt := 46) hx hb (fun c h => Nat.lt_trans (hM _ c (by omega) h) (by decide)) dX2_map_40 (by decide) (fun c4 => ?_) (fun i c4 => ?_)
      · refine lv_aload_n hx hb dX2_map_46 rfl (lv_at hl 0 rfl) ?_
        have hFc := va_free (wc := (mw_M h0 a d ma ms mo mc)) hD hS hA [0, 1, 2, 3, 4] rfl
        refine va_calli (va_runV (As := []) (rest := []) ⟨hx, hb, hml, hown, hts⟩ (mX2_newSheet l dC dI h0 a d H.size ma ms mo mc hM) (cwV 0 hts (lw_V q177 q179 qs10 q15 q180) rfl rfl rfl (by decide +kernel) ⟨Nat.le_of_ble_eq_true rfl, Nat.le_of_ble_eq_true rfl⟩) ⟨fun a U g mk q => by obtain ⟨q0, q1, qP, qK, qD⟩ := q; exact ⟨q0, q1, qP, va_K.moved (u := U) (U := U.calling g mk a) (Vm.Alike.refl U.vm) qK, qD⟩, va_recv hK hP (ci := 1) (q0 := 0) rfl rfl, fun U hU hW => ⟨rfl, by rw [hU], by rw [hU]; exact hP, va_K.moved hW.alike hK, hD.weaken (fun _ _ _ _ => trivial)⟩⟩ rfl rfl hl.1 rfl (lv_room (Nat.le_of_ble_eq_true rfl)) dX2_map_47 ⟨Nat.le_refl _, Nat.le_refl _⟩) hS (fun q _ h => hFc q h) hFc (fun r u t9 H1 locs ht9 hvm hw hB hz1 hk1 hS => ?_)
        have hw := hw
        obtain ⟨hP1, hK1, hD1⟩ : mw_BM dC dI _ h0 a d ma ms mo mc t9 := hB
        rw [ht9] at hP1
        obtain ⟨hP, hD⟩ := va_join (wr := []) (w1 := (mw_M h0 a d ma ms mo mc)) hP hD [0, 1, 2, 3, 4] [] rfl rfl (by decide) (by decide) hk1 hFc hP1 hD1
        generalize H1 = H at hP hS ⊢
        have hP : va_P (dC, dI) vwCl (mw_M h0 a d ma ms mo mc) H := hP
        have hD : va_D A (mw_M h0 a d ma ms mo mc) := hD
        refine W.widen (k := 0) (n := 0) (Nat.le_refl _) (Nat.le_refl _) ?_
        subst hw
        have hnl := mw_new_lt ms
        refine lv_istore (lv' := [(4, .int (nI (mw_new ms))), (0, .ref h0), (1, .int (nI P)), (2, .int (nI K)), (3, .int (mw_ob b))]) hx hb dX2_map_50 hl (by decide) rfl (fun ls hl => ?_)
        refine lv_iconst (v := (nI 0)) hx hb dX2_map_52 (by decide) ?_
        refine lv_istore (lv' := [(5, .int (nI 0)), (4, .int (nI (mw_new ms))), (0, .ref h0), (1, .int (nI P)), (2, .int (nI K)), (3, .int (mw_ob b))]) hx hb dX2_map_53 hl (by decide) rfl (fun ls hl => ?_)
        have lp : ∀ (n : Nat) (j : Nat), (j ≤ 4) → (4 - j) < n → ∀ (H : Heap) (locs : List Loc), va_P (dC, dI) vwCl (mw_M h0 a d ma ms mo (mw_fl mc (4 * mw_new ms) j (fun _ => 0))) H → va_D A (mw_M h0 a d ma ms mo (mw_fl mc (4 * mw_new ms) j (fun _ => 0))) → va_S A s.heap H locs → ∀ (ls : Array Slot), lv_has ls 6 [(5, .int (nI j)), (4, .int (nI (mw_new ms))), (0, .ref h0), (1, .int (nI P)), (2, .int (nI K)), (3, .int (mw_ob b))] → W p l e ({ frames := 2, cells := 0, slots := 0, locals := 43 } : Room) s m ([.ref h0, .int (nI P), .int (nI K), .int (mw_ob b)] : List Value).toArray below meth c H locs 0 0 QQ (F0 m 55 ls []) := by
          intro n
          induction n with
          | zero =>
            intro j hj hfuel
            exact absurd hfuel (by omega)
          | succ n ih =>
            intro j hj hfuel H locs hP hD hS ls hl
            refine lv_iload hx hb dX2_map_55 (lv_at hl 0 rfl) ?_
            refine lv_iconst (v := (nI 4)) hx hb dX2_map_57 (by decide) ?_
            refine kw_ge (tgt := 80) hx hb (by omega) (by omega) dX2_map_58 (by decide) (fun c5 => ?_) (fun c5 => ?_)
            · obtain rfl : j = 4 := by omega
              refine lv_aload_n hx hb dX2_map_80 rfl (lv_at hl 2 rfl) ?_
              refine va_get (D := (dC, dI)) (ci := 1) (v := .ref (a 1)) (C := RX2) (T := TX2) (N := 4) hx hb hts in_X2 hown hK hP 0 rfl rfl 1 (by decide) (hts _ q153) (fun _ h9 => h9) rfl dX2_map_81 ?_
              refine lv_iconst (v := (nI 5)) hx hb dX2_map_84 (by decide) ?_
              refine lv_iload_n hx hb dX2_map_85 rfl (lv_at hl 3 rfl) ?_
              refine kw_mul hx hb dX2_map_86 ?_
              refine lv_iload_n hx hb dX2_map_87 rfl (lv_at hl 4 rfl) ?_
              refine kw_add hx hb dX2_map_88 ?_
              refine lv_iload hx hb dX2_map_89 (lv_at hl 1 rfl) ?_
              refine kw_ist (f' := mw_O (va_up ms (5 * P + K) ((some (mw_new ms))))) hx hb hK hP hD hS 2 1 rfl rfl (by omega) (by decide) (mw_O_up _ _ (some (mw_new ms))) dX2_map_91 (fun H locs hP hD hS => ?_)
              have hP : va_P (dC, dI) vwCl (mw_M h0 a d ma (va_up ms (5 * P + K) ((some (mw_new ms)))) mo (mw_fl mc (4 * mw_new ms) 4 (fun _ => 0))) H := hP
              have hD : va_D A (mw_M h0 a d ma (va_up ms (5 * P + K) ((some (mw_new ms)))) mo (mw_fl mc (4 * mw_new ms) 4 (fun _ => 0))) := hD
              refine lv_aload_n hx hb dX2_map_92 rfl (lv_at hl 2 rfl) ?_
              refine va_get (D := (dC, dI)) (ci := 1) (v := .ref (a 2)) (C := RX2) (T := TX2) (N := 4) hx hb hts in_X2 hown hK hP 0 rfl rfl 2 (by decide) (hts _ q154) (fun _ h9 => h9) rfl dX2_map_93 ?_
              refine lv_iconst (v := (nI 5)) hx hb dX2_map_96 (by decide) ?_
              refine lv_iload_n hx hb dX2_map_97 rfl (lv_at hl 3 rfl) ?_
              refine kw_mul hx hb dX2_map_98 ?_
              refine lv_iload_n hx hb dX2_map_99 rfl (lv_at hl 4 rfl) ?_
              refine kw_add hx hb dX2_map_100 ?_
              refine lv_iload_n hx hb dX2_map_101 rfl (lv_at hl 5 rfl) ?_
              refine kw_zst (f' := mw_B (va_up mo (5 * P + K) b)) hx hb hK hP hD hS 3 2 rfl rfl (by omega) (by decide) (mw_B_st _ _ _) dX2_map_102 (fun H locs hP hD hS => ?_)
              have hP : va_P (dC, dI) vwCl (mw_M h0 a d ma (va_up ms (5 * P + K) ((some (mw_new ms)))) (va_up mo (5 * P + K) b) (mw_fl mc (4 * mw_new ms) 4 (fun _ => 0))) H := hP
              have hD : va_D A (mw_M h0 a d ma (va_up ms (5 * P + K) ((some (mw_new ms)))) (va_up mo (5 * P + K) b) (mw_fl mc (4 * mw_new ms) 4 (fun _ => 0))) := hD
              refine lv_iload_n hx hb dX2_map_103 rfl (lv_at hl 4 rfl) ?_
              rw [hQQ]
              exact W.iret (v := (nI K)) hx hb hr (fun t9 ht9 hW9 => ⟨⟨_, (ma, va_up ms (5 * P + K) ((some (mw_new ms))), va_up mo (5 * P + K) b, mw_fl mc (4 * mw_new ms) 4 (fun _ => 0)), rfl, by rw [mw_map_in hP3 hK4]; simp [c3, c4], by rw [ht9]; exact hP, va_K.moved hW9.alike hK, hD⟩, hS.F ht9⟩) hS.2.2 dX2_map_104
            refine lv_aload_n hx hb dX2_map_61 rfl (lv_at hl 2 rfl) ?_
            refine va_get (D := (dC, dI)) (ci := 1) (v := .ref (a 3)) (C := RX2) (T := TX2) (N := 4) hx hb hts in_X2 hown hK hP 0 rfl rfl 3 (by decide) (hts _ q155) (fun _ h9 => h9) rfl dX2_map_62 ?_
            refine lv_iconst (v := (nI 4)) hx hb dX2_map_65 (by decide) ?_
            refine lv_iload hx hb dX2_map_66 (lv_at hl 1 rfl) ?_
            refine kw_mul hx hb dX2_map_68 ?_
            refine lv_iload hx hb dX2_map_69 (lv_at hl 0 rfl) ?_
            refine kw_add hx hb dX2_map_71 ?_
            refine lv_iconst (v := (nI 0)) hx hb dX2_map_72 (by decide) ?_
            refine kw_ist (f' := (mw_fl mc (4 * mw_new ms) (j + 1) (fun _ => 0))) hx hb hK hP hD hS 4 3 rfl rfl (by omega) (by decide) (mw_fl_s _ _ _ _) dX2_map_73 (fun H locs hP hD hS => ?_)
            have hP : va_P (dC, dI) vwCl (mw_M h0 a d ma ms mo (mw_fl mc (4 * mw_new ms) (j + 1) (fun _ => 0))) H := hP
            have hD : va_D A (mw_M h0 a d ma ms mo (mw_fl mc (4 * mw_new ms) (j + 1) (fun _ => 0))) := hD
            refine lv_iinc (v := (nI (j + 1))) (lv' := [(5, .int (nI (j + 1))), (4, .int (nI (mw_new ms))), (0, .ref h0), (1, .int (nI P)), (2, .int (nI K)), (3, .int (mw_ob b))]) hx hb dX2_map_74 hl (k := 0) rfl (mw_inc1 _) (by decide) rfl (fun ls hl => ?_)
            refine lv_goto (tgt := 55) hx hb dX2_map_77 (by decide) ?_
            exact ih (j + 1) (by omega) (by omega) _ _ hP hD hS ls (lv_sub hl [0, 1, 2, 3, 4, 5] rfl)
        rw [show mc = mw_fl mc (4 * mw_new ms) 0 (fun _ => 0) from (mw_fl_0 _ _ _).symm] at hP hD
        exact lp 5 0 (by omega) (by omega) _ _ hP hD hS ls (lv_sub hl [0, 1, 2, 3, 4, 5] rfl)
      refine lv_bipush (v := (-4)) hx hb dX2_map_43 (by decide) ?_
      rw [hQQ]
      exact W.iret (v := (-4)) hx hb hr (fun t9 ht9 hW9 => ⟨⟨_, (ma, ms, mo, mc), rfl, by rw [mw_map_in hP3 hK4]; simp [c3, c4], by rw [ht9]; exact hP, va_K.moved hW9.alike hK, hD⟩, hS.F ht9⟩) hS.2.2 dX2_map_45
    refine lv_bipush (v := (-2)) hx hb dX2_map_27 (by decide) ?_
    rw [hQQ]
    exact W.iret (v := (-2)) hx hb hr (fun t9 ht9 hW9 => ⟨⟨_, (ma, ms, mo, mc), rfl, by rw [mw_map_in hP3 hK4]; simp [c3], by rw [ht9]; exact hP, va_K.moved hW9.alike hK, hD⟩, hS.F ht9⟩) hS.2.2 dX2_map_29
  refine lv_iconst (v := (-1)) hx hb dX2_map_16 (by decide) ?_
  rw [hQQ]
  exact W.iret (v := (-1)) hx hb hr (fun t9 ht9 hW9 => ⟨⟨_, (ma, ms, mo, mc), rfl, (mw_map_bad (Or.inr (mw_okb_f c2))).symm, by rw [ht9]; exact hP, va_K.moved hW9.alike hK, hD⟩, hS.F ht9⟩) hS.2.2 dX2_map_17
set_option maxHeartbeats 4000000 in
set_option maxRecDepth 100000 in
/-- CowMemoryModel.unmap -/
theorem mX2_unmap (l : Launch) (dC : Nat → ClassId) (dI : Nat → Nat → Nat) (h0 : Nat) (a : Nat → Nat) (d : Nat → ClassId) (sz : Nat) (ma : Nat → Bool) (ms : Nat → Option Nat) (mo : Nat → Bool) (mc : Nat → Int32) (hM : ∀ k s, k < 20 → ms k = some s → s < 20) (pp kk : Int32) : Met l yX2_unmap (ws_ yX2_unmap cX2_unmap 3 (some .int)) ({ frames := 1, cells := 0, slots := 0, locals := 21 } : Room) (va_Pc [.ref h0, .int pp, .int kk] (fun U => U.heap.size = sz ∧ va_P (dC, dI) vwCl (mw_M h0 a d ma ms mo mc) U.heap ∧ va_K (dC, dI) vwCl (mw_MK d) U ∧ va_D (fun _ => True) (mw_M h0 a d ma ms mo mc))) (va_Qi (fun (r : Int32) (u : mw_V) => (r, u) = mw_unmap (ma, ms, mo, mc) pp kk) (fun (u : mw_V) (t : State) => mw_BM dC dI (va_A (mw_M h0 a d ma ms mo mc) sz) h0 a d u.1 u.2.1 u.2.2.1 u.2.2.2 t) (va_A (mw_M h0 a d ma ms mo mc) sz)) 0 0 (va_A (mw_M h0 a d ma ms mo mc) sz) := by
  refine Met.ofW (cc := cX2_unmap) (maxL := 3) (ret := (some .int)) (by decide) rfl ?_
  intro p e s m args below meth c s₁ B hml hv
  obtain ⟨rfl, hsz, hP, hK, hD0⟩ := hv
  have hx := B.exec
  have hb := B.bytes
  have hr := B.returns
  have hts := atoms_spec (ws := ws_ yX2_unmap cX2_unmap 3 (some .int)) B.pre
  have hts : ∀ w ∈ lw_all, w.before _ s = true := fun w h => hts w (List.mem_cons_of_mem _ h)
  have hown : s.vm.findClass RX2 = some m.cls := findClass_of_methodNamed B.named
  have hlocks := B.notSynchronized
  subst hsz
  have hD := hD0.self (sz := s.heap.size)
  generalize hAe : va_A (mw_M h0 a d ma ms mo mc) s.heap.size = A at hD ⊢
  have hA : ∀ q : Nat, s.heap.size ≤ q → A q := fun q h => by rw [← hAe]; exact Or.inr h
  have hS : va_S A s.heap s.heap [] := va_S.rf
  have hl := lv_entry ([.ref h0, .int pp, .int kk]) (n := 3) (Nat.le_of_ble_eq_true rfl)
  rw [lg_entry_eq]
  generalize (lg_sl ([.ref h0, .int pp, .int kk]) ++ List.replicate (3 - (lg_sl ([.ref h0, .int pp, .int kk])).length) Slot.unset).toArray = ls at hl ⊢
  have hl : lv_has ls 3 [(0, .ref h0), (1, .int pp), (2, .int kk)] := hl
  obtain ⟨QQ, hQQ⟩ : ∃ QQ, QQ = MQ below (va_Qi (fun (r : Int32) (u : mw_V) => (r, u) = mw_unmap (ma, ms, mo, mc) pp kk) (fun (u : mw_V) (t : State) => mw_BM dC dI A h0 a d u.1 u.2.1 u.2.2.1 u.2.2.2 t) A) ([.ref h0, .int pp, .int kk] : List Value).toArray s 0 0 A := ⟨_, rfl⟩
  rw [← hQQ]
  refine lv_aload_n hx hb dX2_unmap_0 rfl (lv_at hl 0 rfl) ?_
  refine lv_iload_n hx hb dX2_unmap_1 rfl (lv_at hl 1 rfl) ?_
  have hFc := va_free (wc := (mw_M h0 a d ma ms mo mc)) hD hS hA [0, 1, 2, 3, 4] rfl
  refine va_calli (va_runV (As := [.int pp]) (rest := []) ⟨hx, hb, hml, hown, hts⟩ (mX2_isProcess l dC dI h0 a d s.heap.size ma ms mo mc pp) (cwV 1 hts (lw_V q169 q171 qs8 q15 q172) rfl rfl rfl (by decide +kernel) ⟨Nat.le_of_ble_eq_true rfl, Nat.le_of_ble_eq_true rfl⟩) ⟨fun a U g mk q => by obtain ⟨q0, q1, qP, qK, qD⟩ := q; exact ⟨q0, q1, qP, va_K.moved (u := U) (U := U.calling g mk a) (Vm.Alike.refl U.vm) qK, qD⟩, va_recv hK hP (ci := 1) (q0 := 0) rfl rfl, fun U hU hW => ⟨rfl, by rw [hU], by rw [hU]; exact hP, va_K.moved hW.alike hK, hD.weaken (fun _ _ _ _ => trivial)⟩⟩ rfl rfl hl.1 rfl (lv_room (Nat.le_of_ble_eq_true rfl)) dX2_unmap_2 ⟨Nat.le_refl _, Nat.le_refl _⟩) hS (fun q _ h => hFc q h) hFc (fun r u t9 H1 locs ht9 hvm hw hB hz1 hk1 hS => ?_)
  have hw := hw
  obtain ⟨hP1, hK1, hD1⟩ : mw_BM dC dI _ h0 a d ma ms mo mc t9 := hB
  rw [ht9] at hP1
  obtain ⟨hP, hD⟩ := va_join (wr := []) (w1 := (mw_M h0 a d ma ms mo mc)) hP hD [0, 1, 2, 3, 4] [] rfl rfl (by decide) (by decide) hk1 hFc hP1 hD1
  generalize H1 = H at hP hS ⊢
  have hP : va_P (dC, dI) vwCl (mw_M h0 a d ma ms mo mc) H := hP
  have hD : va_D A (mw_M h0 a d ma ms mo mc) := hD
  refine W.widen (k := 0) (n := 0) (Nat.le_refl _) (Nat.le_refl _) ?_
  subst hw
  refine kw_ifeqB (tgt := 16) hx hb dX2_unmap_5 (by decide) (fun c1 => ?_) (fun c1 => ?_)
  · refine lv_iconst (v := (-1)) hx hb dX2_unmap_16 (by decide) ?_
    rw [hQQ]
    exact W.iret (v := (-1)) hx hb hr (fun t9 ht9 hW9 => ⟨⟨_, (ma, ms, mo, mc), rfl, (mw_unmap_bad (Or.inl (mw_okb_f c1))).symm, by rw [ht9]; exact hP, va_K.moved hW9.alike hK, hD⟩, hS.F ht9⟩) hS.2.2 dX2_unmap_17
  refine lv_aload_n hx hb dX2_unmap_8 rfl (lv_at hl 0 rfl) ?_
  refine lv_iload_n hx hb dX2_unmap_9 rfl (lv_at hl 2 rfl) ?_
  have hFc := va_free (wc := (mw_M h0 a d ma ms mo mc)) hD hS hA [0, 1, 2, 3, 4] rfl
  refine va_calli (va_runV (As := [.int kk]) (rest := []) ⟨hx, hb, hml, hown, hts⟩ (mX2_isPage l dC dI h0 a d H.size ma ms mo mc kk) (cwV 1 hts (lw_V q173 q175 qs9 q15 q176) rfl rfl rfl (by decide +kernel) ⟨Nat.le_of_ble_eq_true rfl, Nat.le_of_ble_eq_true rfl⟩) ⟨fun a U g mk q => by obtain ⟨q0, q1, qP, qK, qD⟩ := q; exact ⟨q0, q1, qP, va_K.moved (u := U) (U := U.calling g mk a) (Vm.Alike.refl U.vm) qK, qD⟩, va_recv hK hP (ci := 1) (q0 := 0) rfl rfl, fun U hU hW => ⟨rfl, by rw [hU], by rw [hU]; exact hP, va_K.moved hW.alike hK, hD.weaken (fun _ _ _ _ => trivial)⟩⟩ rfl rfl hl.1 rfl (lv_room (Nat.le_of_ble_eq_true rfl)) dX2_unmap_10 ⟨Nat.le_refl _, Nat.le_refl _⟩) hS (fun q _ h => hFc q h) hFc (fun r u t9 H1 locs ht9 hvm hw hB hz1 hk1 hS => ?_)
  have hw := hw
  obtain ⟨hP1, hK1, hD1⟩ : mw_BM dC dI _ h0 a d ma ms mo mc t9 := hB
  rw [ht9] at hP1
  obtain ⟨hP, hD⟩ := va_join (wr := []) (w1 := (mw_M h0 a d ma ms mo mc)) hP hD [0, 1, 2, 3, 4] [] rfl rfl (by decide) (by decide) hk1 hFc hP1 hD1
  generalize H1 = H at hP hS ⊢
  have hP : va_P (dC, dI) vwCl (mw_M h0 a d ma ms mo mc) H := hP
  have hD : va_D A (mw_M h0 a d ma ms mo mc) := hD
  refine W.widen (k := 0) (n := 0) (Nat.le_refl _) (Nat.le_refl _) ?_
  subst hw
  refine kw_ifneB (tgt := 18) hx hb dX2_unmap_13 (by decide) (fun c2 => ?_) (fun c2 => ?_)
  · obtain ⟨P, hP3, rfl⟩ := mw_rng (n := 3) (by decide) (mw_okb_t c1).1 (mw_okb_t c1).2
    obtain ⟨K, hK4, rfl⟩ := mw_rng (n := 4) (by decide) (mw_okb_t c2).1 (mw_okb_t c2).2
    refine lv_aload_n hx hb dX2_unmap_18 rfl (lv_at hl 0 rfl) ?_
    refine va_get (D := (dC, dI)) (ci := 1) (v := .ref (a 0)) (C := RX2) (T := TX2) (N := 4) hx hb hts in_X2 hown hK hP 0 rfl rfl 0 (by decide) (hts _ q152) (fun _ h9 => h9) rfl dX2_unmap_19 ?_
    refine lv_iload_n hx hb dX2_unmap_22 rfl (lv_at hl 1 rfl) ?_
    refine kw_zld (v := (mw_ob (ma P))) hx hb hK hP 1 0 rfl rfl (by omega) (by decide) rfl dX2_unmap_23 ?_
    refine kw_ifneB (tgt := 30) hx hb dX2_unmap_24 (by decide) (fun c3 => ?_) (fun c3 => ?_)
    · refine lv_aload_n hx hb dX2_unmap_30 rfl (lv_at hl 0 rfl) ?_
      refine va_get (D := (dC, dI)) (ci := 1) (v := .ref (a 1)) (C := RX2) (T := TX2) (N := 4) hx hb hts in_X2 hown hK hP 0 rfl rfl 1 (by decide) (hts _ q153) (fun _ h9 => h9) rfl dX2_unmap_31 ?_
      refine lv_iconst (v := (nI 5)) hx hb dX2_unmap_34 (by decide) ?_
      refine lv_iload_n hx hb dX2_unmap_35 rfl (lv_at hl 1 rfl) ?_
      refine kw_mul hx hb dX2_unmap_36 ?_
      refine lv_iload_n hx hb dX2_unmap_37 rfl (lv_at hl 2 rfl) ?_
      refine kw_add hx hb dX2_unmap_38 ?_
      refine kw_ild (v := (mw_oc (ms (5 * P + K)))) hx hb hK hP 2 1 rfl rfl (by omega) (by decide) rfl dX2_unmap_39 ?_
      refine kw_ifgeO (tgt := 46) hx hb (fun c h => Nat.lt_trans (hM _ c (by omega) h) (by decide)) dX2_unmap_40 (by decide) (fun i c4 => ?_) (fun c4 => ?_)
      · refine lv_aload_n hx hb dX2_unmap_46 rfl (lv_at hl 0 rfl) ?_
        refine va_get (D := (dC, dI)) (ci := 1) (v := .ref (a 1)) (C := RX2) (T := TX2) (N := 4) hx hb hts in_X2 hown hK hP 0 rfl rfl 1 (by decide) (hts _ q153) (fun _ h9 => h9) rfl dX2_unmap_47 ?_
        refine lv_iconst (v := (nI 5)) hx hb dX2_unmap_50 (by decide) ?_
        refine lv_iload_n hx hb dX2_unmap_51 rfl (lv_at hl 1 rfl) ?_
        refine kw_mul hx hb dX2_unmap_52 ?_
        refine lv_iload_n hx hb dX2_unmap_53 rfl (lv_at hl 2 rfl) ?_
        refine kw_add hx hb dX2_unmap_54 ?_
        refine lv_iconst (v := (-1)) hx hb dX2_unmap_55 (by decide) ?_
        refine kw_ist (f' := mw_O (va_up ms (5 * P + K) none)) hx hb hK hP hD hS 2 1 rfl rfl (by omega) (by decide) (mw_O_up _ _ none) dX2_unmap_56 (fun H locs hP hD hS => ?_)
        have hP : va_P (dC, dI) vwCl (mw_M h0 a d ma (va_up ms (5 * P + K) none) mo mc) H := hP
        have hD : va_D A (mw_M h0 a d ma (va_up ms (5 * P + K) none) mo mc) := hD
        refine lv_iload_n hx hb dX2_unmap_57 rfl (lv_at hl 2 rfl) ?_
        rw [hQQ]
        exact W.iret (v := (nI K)) hx hb hr (fun t9 ht9 hW9 => ⟨⟨_, (ma, va_up ms (5 * P + K) none, mo, mc), rfl, by rw [mw_unmap_in hP3 hK4]; simp [c3, c4], by rw [ht9]; exact hP, va_K.moved hW9.alike hK, hD⟩, hS.F ht9⟩) hS.2.2 dX2_unmap_58
      refine lv_bipush (v := (-3)) hx hb dX2_unmap_43 (by decide) ?_
      rw [hQQ]
      exact W.iret (v := (-3)) hx hb hr (fun t9 ht9 hW9 => ⟨⟨_, (ma, ms, mo, mc), rfl, by rw [mw_unmap_in hP3 hK4]; simp [c3, c4], by rw [ht9]; exact hP, va_K.moved hW9.alike hK, hD⟩, hS.F ht9⟩) hS.2.2 dX2_unmap_45
    refine lv_bipush (v := (-2)) hx hb dX2_unmap_27 (by decide) ?_
    rw [hQQ]
    exact W.iret (v := (-2)) hx hb hr (fun t9 ht9 hW9 => ⟨⟨_, (ma, ms, mo, mc), rfl, by rw [mw_unmap_in hP3 hK4]; simp [c3], by rw [ht9]; exact hP, va_K.moved hW9.alike hK, hD⟩, hS.F ht9⟩) hS.2.2 dX2_unmap_29
  refine lv_iconst (v := (-1)) hx hb dX2_unmap_16 (by decide) ?_
  rw [hQQ]
  exact W.iret (v := (-1)) hx hb hr (fun t9 ht9 hW9 => ⟨⟨_, (ma, ms, mo, mc), rfl, (mw_unmap_bad (Or.inr (mw_okb_f c2))).symm, by rw [ht9]; exact hP, va_K.moved hW9.alike hK, hD⟩, hS.F ht9⟩) hS.2.2 dX2_unmap_17
set_option maxHeartbeats 4000000 in
set_option maxRecDepth 100000 in
/-- CowMemoryModel.isMapped -/
theorem mX2_isMapped (l : Launch) (dC : Nat → ClassId) (dI : Nat → Nat → Nat) (h0 : Nat) (a : Nat → Nat) (d : Nat → ClassId) (sz : Nat) (ma : Nat → Bool) (ms : Nat → Option Nat) (mo : Nat → Bool) (mc : Nat → Int32) (hM : ∀ k s, k < 20 → ms k = some s → s < 20) (pp kk : Int32) : Met l yX2_isMapped (ws_ yX2_isMapped cX2_isMapped 3 (some .boolean)) ({ frames := 1, cells := 0, slots := 0, locals := 21 } : Room) (va_Pc [.ref h0, .int pp, .int kk] (fun U => U.heap.size = sz ∧ va_P (dC, dI) vwCl (mw_M h0 a d ma ms mo mc) U.heap ∧ va_K (dC, dI) vwCl (mw_MK d) U ∧ va_D (fun _ => True) (mw_M h0 a d ma ms mo mc))) (va_Qi (fun (r : Int32) (_ : Unit) => r = mw_ob (mw_ism (ma, ms, mo, mc) pp kk)) (fun (u : Unit) (t : State) => mw_BM dC dI (va_A (mw_M h0 a d ma ms mo mc) sz) h0 a d ma ms mo mc t) (va_A (mw_M h0 a d ma ms mo mc) sz)) 0 0 (va_A (mw_M h0 a d ma ms mo mc) sz) := by
  refine Met.ofW (cc := cX2_isMapped) (maxL := 3) (ret := (some .boolean)) (by decide) rfl ?_
  intro p e s m args below meth c s₁ B hml hv
  obtain ⟨rfl, hsz, hP, hK, hD0⟩ := hv
  have hx := B.exec
  have hb := B.bytes
  have hr := B.returns
  have hts := atoms_spec (ws := ws_ yX2_isMapped cX2_isMapped 3 (some .boolean)) B.pre
  have hts : ∀ w ∈ lw_all, w.before _ s = true := fun w h => hts w (List.mem_cons_of_mem _ h)
  have hown : s.vm.findClass RX2 = some m.cls := findClass_of_methodNamed B.named
  have hlocks := B.notSynchronized
  subst hsz
  have hD := hD0.self (sz := s.heap.size)
  generalize hAe : va_A (mw_M h0 a d ma ms mo mc) s.heap.size = A at hD ⊢
  have hA : ∀ q : Nat, s.heap.size ≤ q → A q := fun q h => by rw [← hAe]; exact Or.inr h
  have hS : va_S A s.heap s.heap [] := va_S.rf
  have hl := lv_entry ([.ref h0, .int pp, .int kk]) (n := 3) (Nat.le_of_ble_eq_true rfl)
  rw [lg_entry_eq]
  generalize (lg_sl ([.ref h0, .int pp, .int kk]) ++ List.replicate (3 - (lg_sl ([.ref h0, .int pp, .int kk])).length) Slot.unset).toArray = ls at hl ⊢
  have hl : lv_has ls 3 [(0, .ref h0), (1, .int pp), (2, .int kk)] := hl
  obtain ⟨QQ, hQQ⟩ : ∃ QQ, QQ = MQ below (va_Qi (fun (r : Int32) (_ : Unit) => r = mw_ob (mw_ism (ma, ms, mo, mc) pp kk)) (fun (u : Unit) (t : State) => mw_BM dC dI A h0 a d ma ms mo mc t) A) ([.ref h0, .int pp, .int kk] : List Value).toArray s 0 0 A := ⟨_, rfl⟩
  rw [← hQQ]
  refine lv_aload_n hx hb dX2_isMapped_0 rfl (lv_at hl 0 rfl) ?_
  refine lv_iload_n hx hb dX2_isMapped_1 rfl (lv_at hl 1 rfl) ?_
  have hFc := va_free (wc := (mw_M h0 a d ma ms mo mc)) hD hS hA [0, 1, 2, 3, 4] rfl
  refine va_calli (va_runV (As := [.int pp]) (rest := []) ⟨hx, hb, hml, hown, hts⟩ (mX2_isProcess l dC dI h0 a d s.heap.size ma ms mo mc pp) (cwV 1 hts (lw_V q169 q171 qs8 q15 q172) rfl rfl rfl (by decide +kernel) ⟨Nat.le_of_ble_eq_true rfl, Nat.le_of_ble_eq_true rfl⟩) ⟨fun a U g mk q => by obtain ⟨q0, q1, qP, qK, qD⟩ := q; exact ⟨q0, q1, qP, va_K.moved (u := U) (U := U.calling g mk a) (Vm.Alike.refl U.vm) qK, qD⟩, va_recv hK hP (ci := 1) (q0 := 0) rfl rfl, fun U hU hW => ⟨rfl, by rw [hU], by rw [hU]; exact hP, va_K.moved hW.alike hK, hD.weaken (fun _ _ _ _ => trivial)⟩⟩ rfl rfl hl.1 rfl (lv_room (Nat.le_of_ble_eq_true rfl)) dX2_isMapped_2 ⟨Nat.le_refl _, Nat.le_refl _⟩) hS (fun q _ h => hFc q h) hFc (fun r u t9 H1 locs ht9 hvm hw hB hz1 hk1 hS => ?_)
  have hw := hw
  obtain ⟨hP1, hK1, hD1⟩ : mw_BM dC dI _ h0 a d ma ms mo mc t9 := hB
  rw [ht9] at hP1
  obtain ⟨hP, hD⟩ := va_join (wr := []) (w1 := (mw_M h0 a d ma ms mo mc)) hP hD [0, 1, 2, 3, 4] [] rfl rfl (by decide) (by decide) hk1 hFc hP1 hD1
  generalize H1 = H at hP hS ⊢
  have hP : va_P (dC, dI) vwCl (mw_M h0 a d ma ms mo mc) H := hP
  have hD : va_D A (mw_M h0 a d ma ms mo mc) := hD
  refine W.widen (k := 0) (n := 0) (Nat.le_refl _) (Nat.le_refl _) ?_
  subst hw
  refine kw_ifeqB (tgt := 33) hx hb dX2_isMapped_5 (by decide) (fun c1 => ?_) (fun c1 => ?_)
  · refine lv_iconst (v := (nI 0)) hx hb dX2_isMapped_33 (by decide) ?_
    rw [hQQ]
    exact W.zret (v := (nI 0)) hx hb hr (by decide +kernel) (fun t9 ht9 hW9 => ⟨⟨_, (), rfl, by rw [mw_ism_bad (Or.inl (mw_okb_f c1))]; rfl, by rw [ht9]; exact hP, va_K.moved hW9.alike hK, hD⟩, hS.F ht9⟩) hS.2.2 dX2_isMapped_34
  refine lv_aload_n hx hb dX2_isMapped_8 rfl (lv_at hl 0 rfl) ?_
  refine lv_iload_n hx hb dX2_isMapped_9 rfl (lv_at hl 2 rfl) ?_
  have hFc := va_free (wc := (mw_M h0 a d ma ms mo mc)) hD hS hA [0, 1, 2, 3, 4] rfl
  refine va_calli (va_runV (As := [.int kk]) (rest := []) ⟨hx, hb, hml, hown, hts⟩ (mX2_isPage l dC dI h0 a d H.size ma ms mo mc kk) (cwV 1 hts (lw_V q173 q175 qs9 q15 q176) rfl rfl rfl (by decide +kernel) ⟨Nat.le_of_ble_eq_true rfl, Nat.le_of_ble_eq_true rfl⟩) ⟨fun a U g mk q => by obtain ⟨q0, q1, qP, qK, qD⟩ := q; exact ⟨q0, q1, qP, va_K.moved (u := U) (U := U.calling g mk a) (Vm.Alike.refl U.vm) qK, qD⟩, va_recv hK hP (ci := 1) (q0 := 0) rfl rfl, fun U hU hW => ⟨rfl, by rw [hU], by rw [hU]; exact hP, va_K.moved hW.alike hK, hD.weaken (fun _ _ _ _ => trivial)⟩⟩ rfl rfl hl.1 rfl (lv_room (Nat.le_of_ble_eq_true rfl)) dX2_isMapped_10 ⟨Nat.le_refl _, Nat.le_refl _⟩) hS (fun q _ h => hFc q h) hFc (fun r u t9 H1 locs ht9 hvm hw hB hz1 hk1 hS => ?_)
  have hw := hw
  obtain ⟨hP1, hK1, hD1⟩ : mw_BM dC dI _ h0 a d ma ms mo mc t9 := hB
  rw [ht9] at hP1
  obtain ⟨hP, hD⟩ := va_join (wr := []) (w1 := (mw_M h0 a d ma ms mo mc)) hP hD [0, 1, 2, 3, 4] [] rfl rfl (by decide) (by decide) hk1 hFc hP1 hD1
  generalize H1 = H at hP hS ⊢
  have hP : va_P (dC, dI) vwCl (mw_M h0 a d ma ms mo mc) H := hP
  have hD : va_D A (mw_M h0 a d ma ms mo mc) := hD
  refine W.widen (k := 0) (n := 0) (Nat.le_refl _) (Nat.le_refl _) ?_
  subst hw
  refine kw_ifeqB (tgt := 33) hx hb dX2_isMapped_13 (by decide) (fun c2 => ?_) (fun c2 => ?_)
  · refine lv_iconst (v := (nI 0)) hx hb dX2_isMapped_33 (by decide) ?_
    rw [hQQ]
    exact W.zret (v := (nI 0)) hx hb hr (by decide +kernel) (fun t9 ht9 hW9 => ⟨⟨_, (), rfl, by rw [mw_ism_bad (Or.inr (mw_okb_f c2))]; rfl, by rw [ht9]; exact hP, va_K.moved hW9.alike hK, hD⟩, hS.F ht9⟩) hS.2.2 dX2_isMapped_34
  obtain ⟨P, hP3, rfl⟩ := mw_rng (n := 3) (by decide) (mw_okb_t c1).1 (mw_okb_t c1).2
  obtain ⟨K, hK4, rfl⟩ := mw_rng (n := 4) (by decide) (mw_okb_t c2).1 (mw_okb_t c2).2
  refine lv_aload_n hx hb dX2_isMapped_16 rfl (lv_at hl 0 rfl) ?_
  refine va_get (D := (dC, dI)) (ci := 1) (v := .ref (a 1)) (C := RX2) (T := TX2) (N := 4) hx hb hts in_X2 hown hK hP 0 rfl rfl 1 (by decide) (hts _ q153) (fun _ h9 => h9) rfl dX2_isMapped_17 ?_
  refine lv_iconst (v := (nI 5)) hx hb dX2_isMapped_20 (by decide) ?_
  refine lv_iload_n hx hb dX2_isMapped_21 rfl (lv_at hl 1 rfl) ?_
  refine kw_mul hx hb dX2_isMapped_22 ?_
  refine lv_iload_n hx hb dX2_isMapped_23 rfl (lv_at hl 2 rfl) ?_
  refine kw_add hx hb dX2_isMapped_24 ?_
  refine kw_ild (v := (mw_oc (ms (5 * P + K)))) hx hb hK hP 2 1 rfl rfl (by omega) (by decide) rfl dX2_isMapped_25 ?_
  refine kw_ifltO (tgt := 33) hx hb (fun c h => Nat.lt_trans (hM _ c (by omega) h) (by decide)) dX2_isMapped_26 (by decide) (fun c4 => ?_) (fun i c4 => ?_)
  · refine lv_iconst (v := (nI 0)) hx hb dX2_isMapped_33 (by decide) ?_
    rw [hQQ]
    exact W.zret (v := (nI 0)) hx hb hr (by decide +kernel) (fun t9 ht9 hW9 => ⟨⟨_, (), rfl, by rw [mw_ism_in hP3 hK4]; simp [c4]; rfl, by rw [ht9]; exact hP, va_K.moved hW9.alike hK, hD⟩, hS.F ht9⟩) hS.2.2 dX2_isMapped_34
  refine lv_iconst (v := (nI 1)) hx hb dX2_isMapped_29 (by decide) ?_
  refine lv_goto (tgt := 34) hx hb dX2_isMapped_30 (by decide) ?_
  rw [hQQ]
  exact W.zret (v := (nI 1)) hx hb hr (by decide +kernel) (fun t9 ht9 hW9 => ⟨⟨_, (), rfl, by rw [mw_ism_in hP3 hK4]; simp [c4]; rfl, by rw [ht9]; exact hP, va_K.moved hW9.alike hK, hD⟩, hS.F ht9⟩) hS.2.2 dX2_isMapped_34
set_option maxHeartbeats 4000000 in
set_option maxRecDepth 100000 in
/-- CowMemoryModel.showing -/
theorem mX2_showing (l : Launch) (dC : Nat → ClassId) (dI : Nat → Nat → Nat) (h0 : Nat) (a : Nat → Nat) (d : Nat → ClassId) (sz : Nat) (ma : Nat → Bool) (ms : Nat → Option Nat) (mo : Nat → Bool) (mc : Nat → Int32) (hM : ∀ k s, k < 20 → ms k = some s → s < 20) (pp kk : Int32) : Met l yX2_showing (ws_ yX2_showing cX2_showing 5 (some .int)) ({ frames := 1, cells := 0, slots := 0, locals := 21 } : Room) (va_Pc [.ref h0, .int pp, .int kk] (fun U => U.heap.size = sz ∧ va_P (dC, dI) vwCl (mw_M h0 a d ma ms mo mc) U.heap ∧ va_K (dC, dI) vwCl (mw_MK d) U ∧ va_D (fun _ => True) (mw_M h0 a d ma ms mo mc))) (va_Qi (fun (r : Int32) (_ : Unit) => r = mw_show (ma, ms, mo, mc) pp kk) (fun (u : Unit) (t : State) => mw_BM dC dI (va_A (mw_M h0 a d ma ms mo mc) sz) h0 a d ma ms mo mc t) (va_A (mw_M h0 a d ma ms mo mc) sz)) 0 0 (va_A (mw_M h0 a d ma ms mo mc) sz) := by
  refine Met.ofW (cc := cX2_showing) (maxL := 5) (ret := (some .int)) (by decide) rfl ?_
  intro p e s m args below meth c s₁ B hml hv
  obtain ⟨rfl, hsz, hP, hK, hD0⟩ := hv
  have hx := B.exec
  have hb := B.bytes
  have hr := B.returns
  have hts := atoms_spec (ws := ws_ yX2_showing cX2_showing 5 (some .int)) B.pre
  have hts : ∀ w ∈ lw_all, w.before _ s = true := fun w h => hts w (List.mem_cons_of_mem _ h)
  have hown : s.vm.findClass RX2 = some m.cls := findClass_of_methodNamed B.named
  have hlocks := B.notSynchronized
  subst hsz
  have hD := hD0.self (sz := s.heap.size)
  generalize hAe : va_A (mw_M h0 a d ma ms mo mc) s.heap.size = A at hD ⊢
  have hA : ∀ q : Nat, s.heap.size ≤ q → A q := fun q h => by rw [← hAe]; exact Or.inr h
  have hS : va_S A s.heap s.heap [] := va_S.rf
  have hl := lv_entry ([.ref h0, .int pp, .int kk]) (n := 5) (Nat.le_of_ble_eq_true rfl)
  rw [lg_entry_eq]
  generalize (lg_sl ([.ref h0, .int pp, .int kk]) ++ List.replicate (5 - (lg_sl ([.ref h0, .int pp, .int kk])).length) Slot.unset).toArray = ls at hl ⊢
  have hl : lv_has ls 5 [(0, .ref h0), (1, .int pp), (2, .int kk)] := hl
  obtain ⟨QQ, hQQ⟩ : ∃ QQ, QQ = MQ below (va_Qi (fun (r : Int32) (_ : Unit) => r = mw_show (ma, ms, mo, mc) pp kk) (fun (u : Unit) (t : State) => mw_BM dC dI A h0 a d ma ms mo mc t) A) ([.ref h0, .int pp, .int kk] : List Value).toArray s 0 0 A := ⟨_, rfl⟩
  rw [← hQQ]
  refine lv_aload_n hx hb dX2_showing_0 rfl (lv_at hl 0 rfl) ?_
  refine lv_iload_n hx hb dX2_showing_1 rfl (lv_at hl 1 rfl) ?_
  have hFc := va_free (wc := (mw_M h0 a d ma ms mo mc)) hD hS hA [0, 1, 2, 3, 4] rfl
  refine va_calli (va_runV (As := [.int pp]) (rest := []) ⟨hx, hb, hml, hown, hts⟩ (mX2_isProcess l dC dI h0 a d s.heap.size ma ms mo mc pp) (cwV 1 hts (lw_V q169 q171 qs8 q15 q172) rfl rfl rfl (by decide +kernel) ⟨Nat.le_of_ble_eq_true rfl, Nat.le_of_ble_eq_true rfl⟩) ⟨fun a U g mk q => by obtain ⟨q0, q1, qP, qK, qD⟩ := q; exact ⟨q0, q1, qP, va_K.moved (u := U) (U := U.calling g mk a) (Vm.Alike.refl U.vm) qK, qD⟩, va_recv hK hP (ci := 1) (q0 := 0) rfl rfl, fun U hU hW => ⟨rfl, by rw [hU], by rw [hU]; exact hP, va_K.moved hW.alike hK, hD.weaken (fun _ _ _ _ => trivial)⟩⟩ rfl rfl hl.1 rfl (lv_room (Nat.le_of_ble_eq_true rfl)) dX2_showing_2 ⟨Nat.le_refl _, Nat.le_refl _⟩) hS (fun q _ h => hFc q h) hFc (fun r u t9 H1 locs ht9 hvm hw hB hz1 hk1 hS => ?_)
  have hw := hw
  obtain ⟨hP1, hK1, hD1⟩ : mw_BM dC dI _ h0 a d ma ms mo mc t9 := hB
  rw [ht9] at hP1
  obtain ⟨hP, hD⟩ := va_join (wr := []) (w1 := (mw_M h0 a d ma ms mo mc)) hP hD [0, 1, 2, 3, 4] [] rfl rfl (by decide) (by decide) hk1 hFc hP1 hD1
  generalize H1 = H at hP hS ⊢
  have hP : va_P (dC, dI) vwCl (mw_M h0 a d ma ms mo mc) H := hP
  have hD : va_D A (mw_M h0 a d ma ms mo mc) := hD
  refine W.widen (k := 0) (n := 0) (Nat.le_refl _) (Nat.le_refl _) ?_
  subst hw
  refine kw_ifeqB (tgt := 16) hx hb dX2_showing_5 (by decide) (fun c1 => ?_) (fun c1 => ?_)
  · refine lv_iconst (v := (-1)) hx hb dX2_showing_16 (by decide) ?_
    rw [hQQ]
    exact W.iret (v := (-1)) hx hb hr (fun t9 ht9 hW9 => ⟨⟨_, (), rfl, (mw_show_bad (Or.inl (mw_okb_f c1))).symm, by rw [ht9]; exact hP, va_K.moved hW9.alike hK, hD⟩, hS.F ht9⟩) hS.2.2 dX2_showing_17
  refine lv_aload_n hx hb dX2_showing_8 rfl (lv_at hl 0 rfl) ?_
  refine lv_iload_n hx hb dX2_showing_9 rfl (lv_at hl 2 rfl) ?_
  have hFc := va_free (wc := (mw_M h0 a d ma ms mo mc)) hD hS hA [0, 1, 2, 3, 4] rfl
  refine va_calli (va_runV (As := [.int kk]) (rest := []) ⟨hx, hb, hml, hown, hts⟩ (mX2_isPage l dC dI h0 a d H.size ma ms mo mc kk) (cwV 1 hts (lw_V q173 q175 qs9 q15 q176) rfl rfl rfl (by decide +kernel) ⟨Nat.le_of_ble_eq_true rfl, Nat.le_of_ble_eq_true rfl⟩) ⟨fun a U g mk q => by obtain ⟨q0, q1, qP, qK, qD⟩ := q; exact ⟨q0, q1, qP, va_K.moved (u := U) (U := U.calling g mk a) (Vm.Alike.refl U.vm) qK, qD⟩, va_recv hK hP (ci := 1) (q0 := 0) rfl rfl, fun U hU hW => ⟨rfl, by rw [hU], by rw [hU]; exact hP, va_K.moved hW.alike hK, hD.weaken (fun _ _ _ _ => trivial)⟩⟩ rfl rfl hl.1 rfl (lv_room (Nat.le_of_ble_eq_true rfl)) dX2_showing_10 ⟨Nat.le_refl _, Nat.le_refl _⟩) hS (fun q _ h => hFc q h) hFc (fun r u t9 H1 locs ht9 hvm hw hB hz1 hk1 hS => ?_)
  have hw := hw
  obtain ⟨hP1, hK1, hD1⟩ : mw_BM dC dI _ h0 a d ma ms mo mc t9 := hB
  rw [ht9] at hP1
  obtain ⟨hP, hD⟩ := va_join (wr := []) (w1 := (mw_M h0 a d ma ms mo mc)) hP hD [0, 1, 2, 3, 4] [] rfl rfl (by decide) (by decide) hk1 hFc hP1 hD1
  generalize H1 = H at hP hS ⊢
  have hP : va_P (dC, dI) vwCl (mw_M h0 a d ma ms mo mc) H := hP
  have hD : va_D A (mw_M h0 a d ma ms mo mc) := hD
  refine W.widen (k := 0) (n := 0) (Nat.le_refl _) (Nat.le_refl _) ?_
  subst hw
  refine kw_ifneB (tgt := 18) hx hb dX2_showing_13 (by decide) (fun c2 => ?_) (fun c2 => ?_)
  · obtain ⟨P, hP3, rfl⟩ := mw_rng (n := 3) (by decide) (mw_okb_t c1).1 (mw_okb_t c1).2
    obtain ⟨K, hK4, rfl⟩ := mw_rng (n := 4) (by decide) (mw_okb_t c2).1 (mw_okb_t c2).2
    refine lv_aload_n hx hb dX2_showing_18 rfl (lv_at hl 0 rfl) ?_
    refine va_get (D := (dC, dI)) (ci := 1) (v := .ref (a 0)) (C := RX2) (T := TX2) (N := 4) hx hb hts in_X2 hown hK hP 0 rfl rfl 0 (by decide) (hts _ q152) (fun _ h9 => h9) rfl dX2_showing_19 ?_
    refine lv_iload_n hx hb dX2_showing_22 rfl (lv_at hl 1 rfl) ?_
    refine kw_zld (v := (mw_ob (ma P))) hx hb hK hP 1 0 rfl rfl (by omega) (by decide) rfl dX2_showing_23 ?_
    refine kw_ifneB (tgt := 30) hx hb dX2_showing_24 (by decide) (fun c3 => ?_) (fun c3 => ?_)
    · refine lv_aload_n hx hb dX2_showing_30 rfl (lv_at hl 0 rfl) ?_
      refine va_get (D := (dC, dI)) (ci := 1) (v := .ref (a 1)) (C := RX2) (T := TX2) (N := 4) hx hb hts in_X2 hown hK hP 0 rfl rfl 1 (by decide) (hts _ q153) (fun _ h9 => h9) rfl dX2_showing_31 ?_
      refine lv_iconst (v := (nI 5)) hx hb dX2_showing_34 (by decide) ?_
      refine lv_iload_n hx hb dX2_showing_35 rfl (lv_at hl 1 rfl) ?_
      refine kw_mul hx hb dX2_showing_36 ?_
      refine lv_iload_n hx hb dX2_showing_37 rfl (lv_at hl 2 rfl) ?_
      refine kw_add hx hb dX2_showing_38 ?_
      refine kw_ild (v := (mw_oc (ms (5 * P + K)))) hx hb hK hP 2 1 rfl rfl (by omega) (by decide) rfl dX2_showing_39 ?_
      refine kw_ifgeO (tgt := 46) hx hb (fun c h => Nat.lt_trans (hM _ c (by omega) h) (by decide)) dX2_showing_40 (by decide) (fun i c4 => ?_) (fun c4 => ?_)
      · refine lv_iconst (v := (nI 0)) hx hb dX2_showing_46 (by decide) ?_
        refine lv_istore_n (lv' := [(3, .int (nI 0)), (0, .ref h0), (1, .int (nI P)), (2, .int (nI K))]) hx hb dX2_showing_47 rfl hl (by decide) rfl (fun ls hl => ?_)
        refine lv_iconst (v := (nI 0)) hx hb dX2_showing_48 (by decide) ?_
        refine lv_istore (lv' := [(4, .int (nI 0)), (3, .int (nI 0)), (0, .ref h0), (1, .int (nI P)), (2, .int (nI K))]) hx hb dX2_showing_49 hl (by decide) rfl (fun ls hl => ?_)
        have lp : ∀ (n : Nat) (j : Nat) (cn : Nat), (j ≤ 20) → (cn = mw_ct (fun i => ms i == ms (5 * P + K)) j) → (20 - j) < n → ∀ (H : Heap) (locs : List Loc), va_P (dC, dI) vwCl (mw_M h0 a d ma ms mo mc) H → va_D A (mw_M h0 a d ma ms mo mc) → va_S A s.heap H locs → ∀ (ls : Array Slot), lv_has ls 5 [(4, .int (nI j)), (3, .int (nI cn)), (0, .ref h0), (1, .int (nI P)), (2, .int (nI K))] → W p l e ({ frames := 1, cells := 0, slots := 0, locals := 21 } : Room) s m ([.ref h0, .int (nI P), .int (nI K)] : List Value).toArray below meth c H locs 0 0 QQ (F0 m 51 ls []) := by
          intro n
          induction n with
          | zero =>
            intro j cn hj hc hfuel
            exact absurd hfuel (by omega)
          | succ n ih =>
            intro j cn hj hc hfuel H locs hP hD hS ls hl
            refine lv_iload hx hb dX2_showing_51 (lv_at hl 0 rfl) ?_
            refine lv_bipush (v := (nI 20)) hx hb dX2_showing_53 (by decide) ?_
            refine kw_ge (tgt := 87) hx hb (by omega) (by omega) dX2_showing_55 (by decide) (fun c5 => ?_) (fun c5 => ?_)
            · obtain rfl : j = 20 := by omega
              refine lv_iload_n hx hb dX2_showing_87 rfl (lv_at hl 1 rfl) ?_
              rw [hQQ]
              exact W.iret (v := (nI cn)) hx hb hr (fun t9 ht9 hW9 => ⟨⟨_, (), rfl, by rw [mw_show_in hP3 hK4]; simp [c3, c4, hc], by rw [ht9]; exact hP, va_K.moved hW9.alike hK, hD⟩, hS.F ht9⟩) hS.2.2 dX2_showing_88
            refine lv_aload_n hx hb dX2_showing_58 rfl (lv_at hl 2 rfl) ?_
            refine va_get (D := (dC, dI)) (ci := 1) (v := .ref (a 1)) (C := RX2) (T := TX2) (N := 4) hx hb hts in_X2 hown hK hP 0 rfl rfl 1 (by decide) (hts _ q153) (fun _ h9 => h9) rfl dX2_showing_59 ?_
            refine lv_iload hx hb dX2_showing_62 (lv_at hl 0 rfl) ?_
            refine kw_ild (v := (mw_oc (ms j))) hx hb hK hP 2 1 rfl rfl (by omega) (by decide) rfl dX2_showing_64 ?_
            refine lv_aload_n hx hb dX2_showing_65 rfl (lv_at hl 2 rfl) ?_
            refine va_get (D := (dC, dI)) (ci := 1) (v := .ref (a 1)) (C := RX2) (T := TX2) (N := 4) hx hb hts in_X2 hown hK hP 0 rfl rfl 1 (by decide) (hts _ q153) (fun _ h9 => h9) rfl dX2_showing_66 ?_
            refine lv_iconst (v := (nI 5)) hx hb dX2_showing_69 (by decide) ?_
            refine lv_iload_n hx hb dX2_showing_70 rfl (lv_at hl 3 rfl) ?_
            refine kw_mul hx hb dX2_showing_71 ?_
            refine lv_iload_n hx hb dX2_showing_72 rfl (lv_at hl 4 rfl) ?_
            refine kw_add hx hb dX2_showing_73 ?_
            refine kw_ild (v := (mw_oc (ms (5 * P + K)))) hx hb hK hP 2 1 rfl rfl (by omega) (by decide) rfl dX2_showing_74 ?_
            refine lv_icmp_ne (tgt := 81) hx hb dX2_showing_75 (by decide) (fun c6 => ?_) (fun c6 => ?_)
            · refine lv_iinc (v := (nI (j + 1))) (lv' := [(4, .int (nI (j + 1))), (3, .int (nI cn)), (0, .ref h0), (1, .int (nI P)), (2, .int (nI K))]) hx hb dX2_showing_81 hl (k := 0) rfl (mw_inc1 _) (by decide) rfl (fun ls hl => ?_)
              refine lv_goto (tgt := 51) hx hb dX2_showing_84 (by decide) ?_
              exact ih (j + 1) cn (by omega) (by rw [hc]; exact (mw_ct_s0 (by rw [beq_eq_false_iff_ne]; exact fun z => c6 (by rw [z]))).symm) (by omega) _ _ hP hD hS ls (lv_sub hl [0, 1, 2, 3, 4] rfl)
            refine lv_iinc (v := (nI (cn + 1))) (lv' := [(3, .int (nI (cn + 1))), (4, .int (nI j)), (0, .ref h0), (1, .int (nI P)), (2, .int (nI K))]) hx hb dX2_showing_78 hl (k := 1) rfl (mw_inc1 _) (by decide) rfl (fun ls hl => ?_)
            refine lv_iinc (v := (nI (j + 1))) (lv' := [(4, .int (nI (j + 1))), (3, .int (nI (cn + 1))), (0, .ref h0), (1, .int (nI P)), (2, .int (nI K))]) hx hb dX2_showing_81 hl (k := 1) rfl (mw_inc1 _) (by decide) rfl (fun ls hl => ?_)
            refine lv_goto (tgt := 51) hx hb dX2_showing_84 (by decide) ?_
            exact ih (j + 1) (cn + 1) (by omega) (by rw [hc]; exact (mw_ct_s1 (by rw [beq_iff_eq]; exact mw_oc_inj (fun c h => Nat.lt_trans (hM _ c (by omega) h) (by decide)) (fun c h => Nat.lt_trans (hM _ c (by omega) h) (by decide)) c6)).symm) (by omega) _ _ hP hD hS ls (lv_sub hl [0, 1, 2, 3, 4] rfl)
        exact lp 21 0 0 (by omega) rfl (by omega) _ _ hP hD hS ls (lv_sub hl [0, 1, 2, 3, 4] rfl)
      refine lv_bipush (v := (-3)) hx hb dX2_showing_43 (by decide) ?_
      rw [hQQ]
      exact W.iret (v := (-3)) hx hb hr (fun t9 ht9 hW9 => ⟨⟨_, (), rfl, by rw [mw_show_in hP3 hK4]; simp [c3, c4], by rw [ht9]; exact hP, va_K.moved hW9.alike hK, hD⟩, hS.F ht9⟩) hS.2.2 dX2_showing_45
    refine lv_bipush (v := (-2)) hx hb dX2_showing_27 (by decide) ?_
    rw [hQQ]
    exact W.iret (v := (-2)) hx hb hr (fun t9 ht9 hW9 => ⟨⟨_, (), rfl, by rw [mw_show_in hP3 hK4]; simp [c3], by rw [ht9]; exact hP, va_K.moved hW9.alike hK, hD⟩, hS.F ht9⟩) hS.2.2 dX2_showing_29
  refine lv_iconst (v := (-1)) hx hb dX2_showing_16 (by decide) ?_
  rw [hQQ]
  exact W.iret (v := (-1)) hx hb hr (fun t9 ht9 hW9 => ⟨⟨_, (), rfl, (mw_show_bad (Or.inr (mw_okb_f c2))).symm, by rw [ht9]; exact hP, va_K.moved hW9.alike hK, hD⟩, hS.F ht9⟩) hS.2.2 dX2_showing_17
set_option maxHeartbeats 4000000 in
set_option maxRecDepth 100000 in
/-- CowMemoryModel.write -/
theorem mX2_write (l : Launch) (dC : Nat → ClassId) (dI : Nat → Nat → Nat) (h0 : Nat) (a : Nat → Nat) (d : Nat → ClassId) (sz : Nat) (ma : Nat → Bool) (ms : Nat → Option Nat) (mo : Nat → Bool) (mc : Nat → Int32) (hM : ∀ k s, k < 20 → ms k = some s → s < 20) (pp kk vv : Int32) : Met l yX2_write (ws_ yX2_write cX2_write 5 (some .int)) ({ frames := 1, cells := 0, slots := 0, locals := 21 } : Room) (va_Pc [.ref h0, .int pp, .int kk, .int vv] (fun U => U.heap.size = sz ∧ va_P (dC, dI) vwCl (mw_M h0 a d ma ms mo mc) U.heap ∧ va_K (dC, dI) vwCl (mw_MK d) U ∧ va_D (fun _ => True) (mw_M h0 a d ma ms mo mc))) (va_Qi (fun (r : Int32) (u : mw_V) => (r, u) = mw_write (ma, ms, mo, mc) pp kk vv) (fun (u : mw_V) (t : State) => mw_BM dC dI (va_A (mw_M h0 a d ma ms mo mc) sz) h0 a d u.1 u.2.1 u.2.2.1 u.2.2.2 t) (va_A (mw_M h0 a d ma ms mo mc) sz)) 0 0 (va_A (mw_M h0 a d ma ms mo mc) sz) := by
  refine Met.ofW (cc := cX2_write) (maxL := 5) (ret := (some .int)) (by decide) rfl ?_
  intro p e s m args below meth c s₁ B hml hv
  obtain ⟨rfl, hsz, hP, hK, hD0⟩ := hv
  have hx := B.exec
  have hb := B.bytes
  have hr := B.returns
  have hts := atoms_spec (ws := ws_ yX2_write cX2_write 5 (some .int)) B.pre
  have hts : ∀ w ∈ lw_all, w.before _ s = true := fun w h => hts w (List.mem_cons_of_mem _ h)
  have hown : s.vm.findClass RX2 = some m.cls := findClass_of_methodNamed B.named
  have hlocks := B.notSynchronized
  subst hsz
  have hD := hD0.self (sz := s.heap.size)
  generalize hAe : va_A (mw_M h0 a d ma ms mo mc) s.heap.size = A at hD ⊢
  have hA : ∀ q : Nat, s.heap.size ≤ q → A q := fun q h => by rw [← hAe]; exact Or.inr h
  have hS : va_S A s.heap s.heap [] := va_S.rf
  have hl := lv_entry ([.ref h0, .int pp, .int kk, .int vv]) (n := 5) (Nat.le_of_ble_eq_true rfl)
  rw [lg_entry_eq]
  generalize (lg_sl ([.ref h0, .int pp, .int kk, .int vv]) ++ List.replicate (5 - (lg_sl ([.ref h0, .int pp, .int kk, .int vv])).length) Slot.unset).toArray = ls at hl ⊢
  have hl : lv_has ls 5 [(0, .ref h0), (1, .int pp), (2, .int kk), (3, .int vv)] := hl
  obtain ⟨QQ, hQQ⟩ : ∃ QQ, QQ = MQ below (va_Qi (fun (r : Int32) (u : mw_V) => (r, u) = mw_write (ma, ms, mo, mc) pp kk vv) (fun (u : mw_V) (t : State) => mw_BM dC dI A h0 a d u.1 u.2.1 u.2.2.1 u.2.2.2 t) A) ([.ref h0, .int pp, .int kk, .int vv] : List Value).toArray s 0 0 A := ⟨_, rfl⟩
  rw [← hQQ]
  refine lv_aload_n hx hb dX2_write_0 rfl (lv_at hl 0 rfl) ?_
  refine lv_iload_n hx hb dX2_write_1 rfl (lv_at hl 1 rfl) ?_
  have hFc := va_free (wc := (mw_M h0 a d ma ms mo mc)) hD hS hA [0, 1, 2, 3, 4] rfl
  refine va_calli (va_runV (As := [.int pp]) (rest := []) ⟨hx, hb, hml, hown, hts⟩ (mX2_isProcess l dC dI h0 a d s.heap.size ma ms mo mc pp) (cwV 1 hts (lw_V q169 q171 qs8 q15 q172) rfl rfl rfl (by decide +kernel) ⟨Nat.le_of_ble_eq_true rfl, Nat.le_of_ble_eq_true rfl⟩) ⟨fun a U g mk q => by obtain ⟨q0, q1, qP, qK, qD⟩ := q; exact ⟨q0, q1, qP, va_K.moved (u := U) (U := U.calling g mk a) (Vm.Alike.refl U.vm) qK, qD⟩, va_recv hK hP (ci := 1) (q0 := 0) rfl rfl, fun U hU hW => ⟨rfl, by rw [hU], by rw [hU]; exact hP, va_K.moved hW.alike hK, hD.weaken (fun _ _ _ _ => trivial)⟩⟩ rfl rfl hl.1 rfl (lv_room (Nat.le_of_ble_eq_true rfl)) dX2_write_2 ⟨Nat.le_refl _, Nat.le_refl _⟩) hS (fun q _ h => hFc q h) hFc (fun r u t9 H1 locs ht9 hvm hw hB hz1 hk1 hS => ?_)
  have hw := hw
  obtain ⟨hP1, hK1, hD1⟩ : mw_BM dC dI _ h0 a d ma ms mo mc t9 := hB
  rw [ht9] at hP1
  obtain ⟨hP, hD⟩ := va_join (wr := []) (w1 := (mw_M h0 a d ma ms mo mc)) hP hD [0, 1, 2, 3, 4] [] rfl rfl (by decide) (by decide) hk1 hFc hP1 hD1
  generalize H1 = H at hP hS ⊢
  have hP : va_P (dC, dI) vwCl (mw_M h0 a d ma ms mo mc) H := hP
  have hD : va_D A (mw_M h0 a d ma ms mo mc) := hD
  refine W.widen (k := 0) (n := 0) (Nat.le_refl _) (Nat.le_refl _) ?_
  subst hw
  refine kw_ifeqB (tgt := 18) hx hb dX2_write_5 (by decide) (fun c1 => ?_) (fun c1 => ?_)
  · refine lv_iconst (v := (-1)) hx hb dX2_write_18 (by decide) ?_
    rw [hQQ]
    exact W.iret (v := (-1)) hx hb hr (fun t9 ht9 hW9 => ⟨⟨_, (ma, ms, mo, mc), rfl, (mw_write_bad (Or.inl (mw_okb_f c1))).symm, by rw [ht9]; exact hP, va_K.moved hW9.alike hK, hD⟩, hS.F ht9⟩) hS.2.2 dX2_write_19
  refine lv_iload_n hx hb dX2_write_8 rfl (lv_at hl 2 rfl) ?_
  refine lv_if_lt (tgt := 18) hx hb dX2_write_9 (by decide) (fun c2 => ?_) (fun c2 => ?_)
  · refine lv_iconst (v := (-1)) hx hb dX2_write_18 (by decide) ?_
    rw [hQQ]
    exact W.iret (v := (-1)) hx hb hr (fun t9 ht9 hW9 => ⟨⟨_, (ma, ms, mo, mc), rfl, (mw_write_bad (Or.inr (Or.inl c2))).symm, by rw [ht9]; exact hP, va_K.moved hW9.alike hK, hD⟩, hS.F ht9⟩) hS.2.2 dX2_write_19
  refine lv_iload_n hx hb dX2_write_12 rfl (lv_at hl 2 rfl) ?_
  refine lv_bipush (v := (nI 19)) hx hb dX2_write_13 (by decide) ?_
  refine kw_leI (tgt := 20) hx hb dX2_write_15 (by decide) (fun c2b => ?_) (fun c2b => ?_)
  · obtain ⟨P, hP3, rfl⟩ := mw_rng (n := 3) (by decide) (mw_okb_t c1).1 (mw_okb_t c1).2
    obtain ⟨K, hK4, rfl⟩ := mw_rng (n := 19) (by decide) c2 c2b
    refine lv_aload_n hx hb dX2_write_20 rfl (lv_at hl 0 rfl) ?_
    refine va_get (D := (dC, dI)) (ci := 1) (v := .ref (a 0)) (C := RX2) (T := TX2) (N := 4) hx hb hts in_X2 hown hK hP 0 rfl rfl 0 (by decide) (hts _ q152) (fun _ h9 => h9) rfl dX2_write_21 ?_
    refine lv_iload_n hx hb dX2_write_24 rfl (lv_at hl 1 rfl) ?_
    refine kw_zld (v := (mw_ob (ma P))) hx hb hK hP 1 0 rfl rfl (by omega) (by decide) rfl dX2_write_25 ?_
    refine kw_ifneB (tgt := 32) hx hb dX2_write_26 (by decide) (fun c3 => ?_) (fun c3 => ?_)
    · refine lv_aload_n hx hb dX2_write_32 rfl (lv_at hl 0 rfl) ?_
      refine va_get (D := (dC, dI)) (ci := 1) (v := .ref (a 1)) (C := RX2) (T := TX2) (N := 4) hx hb hts in_X2 hown hK hP 0 rfl rfl 1 (by decide) (hts _ q153) (fun _ h9 => h9) rfl dX2_write_33 ?_
      refine lv_iconst (v := (nI 5)) hx hb dX2_write_36 (by decide) ?_
      refine lv_iload_n hx hb dX2_write_37 rfl (lv_at hl 1 rfl) ?_
      refine kw_mul hx hb dX2_write_38 ?_
      refine lv_iload_n hx hb dX2_write_39 rfl (lv_at hl 2 rfl) ?_
      refine lv_iconst (v := (nI 4)) hx hb dX2_write_40 (by decide) ?_
      refine kw_div hx hb (by omega) (by decide) (by decide) dX2_write_41 ?_
      refine kw_add hx hb dX2_write_42 ?_
      refine kw_ild (v := (mw_oc (ms (5 * P + K / 4)))) hx hb hK hP 2 1 rfl rfl (by omega) (by decide) rfl dX2_write_43 ?_
      refine lv_istore (lv' := [(4, .int (mw_oc (ms (5 * P + K / 4)))), (0, .ref h0), (1, .int (nI P)), (2, .int (nI K)), (3, .int vv)]) hx hb dX2_write_44 hl (by decide) rfl (fun ls hl => ?_)
      refine lv_iload hx hb dX2_write_46 (lv_at hl 0 rfl) ?_
      refine kw_ifgeO (tgt := 54) hx hb (fun c h => Nat.lt_trans (hM _ c (by omega) h) (by decide)) dX2_write_48 (by decide) (fun si c4 => ?_) (fun c4 => ?_)
      · have hl : lv_has ls 5 [(4, .int (nI si)), (0, .ref h0), (1, .int (nI P)), (2, .int (nI K)), (3, .int vv)] := by rw [c4] at hl; exact hl
        have hsi := hM _ si (by omega) c4
        refine lv_aload_n hx hb dX2_write_54 rfl (lv_at hl 1 rfl) ?_
        refine va_get (D := (dC, dI)) (ci := 1) (v := .ref (a 3)) (C := RX2) (T := TX2) (N := 4) hx hb hts in_X2 hown hK hP 0 rfl rfl 3 (by decide) (hts _ q155) (fun _ h9 => h9) rfl dX2_write_55 ?_
        refine lv_iconst (v := (nI 4)) hx hb dX2_write_58 (by decide) ?_
        refine lv_iload hx hb dX2_write_59 (lv_at hl 0 rfl) ?_
        refine kw_mul hx hb dX2_write_61 ?_
        refine lv_iload_n hx hb dX2_write_62 rfl (lv_at hl 3 rfl) ?_
        refine lv_iconst (v := (nI 4)) hx hb dX2_write_63 (by decide) ?_
        refine kw_rem hx hb (by omega) (by decide) (by decide) dX2_write_64 ?_
        refine kw_add hx hb dX2_write_65 ?_
        refine lv_iload_n hx hb dX2_write_66 rfl (lv_at hl 4 rfl) ?_
        refine kw_ist (f' := (upd mc (4 * si + K % 4) vv)) hx hb hK hP hD hS 4 3 rfl rfl (by omega) (by decide) rfl dX2_write_67 (fun H locs hP hD hS => ?_)
        have hP : va_P (dC, dI) vwCl (mw_M h0 a d ma ms mo (upd mc (4 * si + K % 4) vv)) H := hP
        have hD : va_D A (mw_M h0 a d ma ms mo (upd mc (4 * si + K % 4) vv)) := hD
        refine lv_iload_n hx hb dX2_write_68 rfl (lv_at hl 3 rfl) ?_
        rw [hQQ]
        exact W.iret (v := (nI K)) hx hb hr (fun t9 ht9 hW9 => ⟨⟨_, (ma, ms, mo, upd mc (4 * si + K % 4) vv), rfl, by rw [mw_write_in hP3 hK4]; simp [c3, c4], by rw [ht9]; exact hP, va_K.moved hW9.alike hK, hD⟩, hS.F ht9⟩) hS.2.2 dX2_write_69
      refine lv_bipush (v := (-3)) hx hb dX2_write_51 (by decide) ?_
      rw [hQQ]
      exact W.iret (v := (-3)) hx hb hr (fun t9 ht9 hW9 => ⟨⟨_, (ma, ms, mo, mc), rfl, by rw [mw_write_in hP3 hK4]; simp [c3, c4], by rw [ht9]; exact hP, va_K.moved hW9.alike hK, hD⟩, hS.F ht9⟩) hS.2.2 dX2_write_53
    refine lv_bipush (v := (-2)) hx hb dX2_write_29 (by decide) ?_
    rw [hQQ]
    exact W.iret (v := (-2)) hx hb hr (fun t9 ht9 hW9 => ⟨⟨_, (ma, ms, mo, mc), rfl, by rw [mw_write_in hP3 hK4]; simp [c3], by rw [ht9]; exact hP, va_K.moved hW9.alike hK, hD⟩, hS.F ht9⟩) hS.2.2 dX2_write_31
  refine lv_iconst (v := (-1)) hx hb dX2_write_18 (by decide) ?_
  rw [hQQ]
  exact W.iret (v := (-1)) hx hb hr (fun t9 ht9 hW9 => ⟨⟨_, (ma, ms, mo, mc), rfl, (mw_write_bad (Or.inr (Or.inr c2b))).symm, by rw [ht9]; exact hP, va_K.moved hW9.alike hK, hD⟩, hS.F ht9⟩) hS.2.2 dX2_write_19
set_option maxHeartbeats 4000000 in
set_option maxRecDepth 100000 in
/-- CowMemoryModel.read -/
theorem mX2_read (l : Launch) (dC : Nat → ClassId) (dI : Nat → Nat → Nat) (h0 : Nat) (a : Nat → Nat) (d : Nat → ClassId) (sz : Nat) (ma : Nat → Bool) (ms : Nat → Option Nat) (mo : Nat → Bool) (mc : Nat → Int32) (hM : ∀ k s, k < 20 → ms k = some s → s < 20) (pp kk : Int32) : Met l yX2_read (ws_ yX2_read cX2_read 3 (some .int)) ({ frames := 1, cells := 0, slots := 0, locals := 21 } : Room) (va_Pc [.ref h0, .int pp, .int kk] (fun U => U.heap.size = sz ∧ va_P (dC, dI) vwCl (mw_M h0 a d ma ms mo mc) U.heap ∧ va_K (dC, dI) vwCl (mw_MK d) U ∧ va_D (fun _ => True) (mw_M h0 a d ma ms mo mc))) (va_Qi (fun (r : Int32) (_ : Unit) => r = mw_read (ma, ms, mo, mc) pp kk) (fun (u : Unit) (t : State) => mw_BM dC dI (va_A (mw_M h0 a d ma ms mo mc) sz) h0 a d ma ms mo mc t) (va_A (mw_M h0 a d ma ms mo mc) sz)) 0 0 (va_A (mw_M h0 a d ma ms mo mc) sz) := by
  refine Met.ofW (cc := cX2_read) (maxL := 3) (ret := (some .int)) (by decide) rfl ?_
  intro p e s m args below meth c s₁ B hml hv
  obtain ⟨rfl, hsz, hP, hK, hD0⟩ := hv
  have hx := B.exec
  have hb := B.bytes
  have hr := B.returns
  have hts := atoms_spec (ws := ws_ yX2_read cX2_read 3 (some .int)) B.pre
  have hts : ∀ w ∈ lw_all, w.before _ s = true := fun w h => hts w (List.mem_cons_of_mem _ h)
  have hown : s.vm.findClass RX2 = some m.cls := findClass_of_methodNamed B.named
  have hlocks := B.notSynchronized
  subst hsz
  have hD := hD0.self (sz := s.heap.size)
  generalize hAe : va_A (mw_M h0 a d ma ms mo mc) s.heap.size = A at hD ⊢
  have hA : ∀ q : Nat, s.heap.size ≤ q → A q := fun q h => by rw [← hAe]; exact Or.inr h
  have hS : va_S A s.heap s.heap [] := va_S.rf
  have hl := lv_entry ([.ref h0, .int pp, .int kk]) (n := 3) (Nat.le_of_ble_eq_true rfl)
  rw [lg_entry_eq]
  generalize (lg_sl ([.ref h0, .int pp, .int kk]) ++ List.replicate (3 - (lg_sl ([.ref h0, .int pp, .int kk])).length) Slot.unset).toArray = ls at hl ⊢
  have hl : lv_has ls 3 [(0, .ref h0), (1, .int pp), (2, .int kk)] := hl
  obtain ⟨QQ, hQQ⟩ : ∃ QQ, QQ = MQ below (va_Qi (fun (r : Int32) (_ : Unit) => r = mw_read (ma, ms, mo, mc) pp kk) (fun (u : Unit) (t : State) => mw_BM dC dI A h0 a d ma ms mo mc t) A) ([.ref h0, .int pp, .int kk] : List Value).toArray s 0 0 A := ⟨_, rfl⟩
  rw [← hQQ]
  refine lv_aload_n hx hb dX2_read_0 rfl (lv_at hl 0 rfl) ?_
  refine lv_iload_n hx hb dX2_read_1 rfl (lv_at hl 1 rfl) ?_
  have hFc := va_free (wc := (mw_M h0 a d ma ms mo mc)) hD hS hA [0, 1, 2, 3, 4] rfl
  refine va_calli (va_runV (As := [.int pp]) (rest := []) ⟨hx, hb, hml, hown, hts⟩ (mX2_isProcess l dC dI h0 a d s.heap.size ma ms mo mc pp) (cwV 1 hts (lw_V q169 q171 qs8 q15 q172) rfl rfl rfl (by decide +kernel) ⟨Nat.le_of_ble_eq_true rfl, Nat.le_of_ble_eq_true rfl⟩) ⟨fun a U g mk q => by obtain ⟨q0, q1, qP, qK, qD⟩ := q; exact ⟨q0, q1, qP, va_K.moved (u := U) (U := U.calling g mk a) (Vm.Alike.refl U.vm) qK, qD⟩, va_recv hK hP (ci := 1) (q0 := 0) rfl rfl, fun U hU hW => ⟨rfl, by rw [hU], by rw [hU]; exact hP, va_K.moved hW.alike hK, hD.weaken (fun _ _ _ _ => trivial)⟩⟩ rfl rfl hl.1 rfl (lv_room (Nat.le_of_ble_eq_true rfl)) dX2_read_2 ⟨Nat.le_refl _, Nat.le_refl _⟩) hS (fun q _ h => hFc q h) hFc (fun r u t9 H1 locs ht9 hvm hw hB hz1 hk1 hS => ?_)
  have hw := hw
  obtain ⟨hP1, hK1, hD1⟩ : mw_BM dC dI _ h0 a d ma ms mo mc t9 := hB
  rw [ht9] at hP1
  obtain ⟨hP, hD⟩ := va_join (wr := []) (w1 := (mw_M h0 a d ma ms mo mc)) hP hD [0, 1, 2, 3, 4] [] rfl rfl (by decide) (by decide) hk1 hFc hP1 hD1
  generalize H1 = H at hP hS ⊢
  have hP : va_P (dC, dI) vwCl (mw_M h0 a d ma ms mo mc) H := hP
  have hD : va_D A (mw_M h0 a d ma ms mo mc) := hD
  refine W.widen (k := 0) (n := 0) (Nat.le_refl _) (Nat.le_refl _) ?_
  subst hw
  refine kw_ifeqB (tgt := 33) hx hb dX2_read_5 (by decide) (fun c1 => ?_) (fun c1 => ?_)
  · refine lv_iconst (v := (nI 0)) hx hb dX2_read_33 (by decide) ?_
    rw [hQQ]
    exact W.iret (v := (nI 0)) hx hb hr (fun t9 ht9 hW9 => ⟨⟨_, (), rfl, (mw_read_bad (Or.inl (mw_okb_f c1))).symm, by rw [ht9]; exact hP, va_K.moved hW9.alike hK, hD⟩, hS.F ht9⟩) hS.2.2 dX2_read_34
  refine lv_iload_n hx hb dX2_read_8 rfl (lv_at hl 2 rfl) ?_
  refine lv_if_lt (tgt := 33) hx hb dX2_read_9 (by decide) (fun c2 => ?_) (fun c2 => ?_)
  · refine lv_iconst (v := (nI 0)) hx hb dX2_read_33 (by decide) ?_
    rw [hQQ]
    exact W.iret (v := (nI 0)) hx hb hr (fun t9 ht9 hW9 => ⟨⟨_, (), rfl, (mw_read_bad (Or.inr (Or.inl c2))).symm, by rw [ht9]; exact hP, va_K.moved hW9.alike hK, hD⟩, hS.F ht9⟩) hS.2.2 dX2_read_34
  refine lv_iload_n hx hb dX2_read_12 rfl (lv_at hl 2 rfl) ?_
  refine lv_bipush (v := (nI 19)) hx hb dX2_read_13 (by decide) ?_
  refine lv_icmp_gt (tgt := 33) hx hb dX2_read_15 (by decide) (fun c2b => ?_) (fun c2b => ?_)
  · refine lv_iconst (v := (nI 0)) hx hb dX2_read_33 (by decide) ?_
    rw [hQQ]
    exact W.iret (v := (nI 0)) hx hb hr (fun t9 ht9 hW9 => ⟨⟨_, (), rfl, (mw_read_bad (Or.inr (Or.inr c2b))).symm, by rw [ht9]; exact hP, va_K.moved hW9.alike hK, hD⟩, hS.F ht9⟩) hS.2.2 dX2_read_34
  obtain ⟨P, hP3, rfl⟩ := mw_rng (n := 3) (by decide) (mw_okb_t c1).1 (mw_okb_t c1).2
  obtain ⟨K, hK4, rfl⟩ := mw_rng (n := 19) (by decide) c2 c2b
  refine lv_aload_n hx hb dX2_read_18 rfl (lv_at hl 0 rfl) ?_
  refine va_get (D := (dC, dI)) (ci := 1) (v := .ref (a 1)) (C := RX2) (T := TX2) (N := 4) hx hb hts in_X2 hown hK hP 0 rfl rfl 1 (by decide) (hts _ q153) (fun _ h9 => h9) rfl dX2_read_19 ?_
  refine lv_iconst (v := (nI 5)) hx hb dX2_read_22 (by decide) ?_
  refine lv_iload_n hx hb dX2_read_23 rfl (lv_at hl 1 rfl) ?_
  refine kw_mul hx hb dX2_read_24 ?_
  refine lv_iload_n hx hb dX2_read_25 rfl (lv_at hl 2 rfl) ?_
  refine lv_iconst (v := (nI 4)) hx hb dX2_read_26 (by decide) ?_
  refine kw_div hx hb (by omega) (by decide) (by decide) dX2_read_27 ?_
  refine kw_add hx hb dX2_read_28 ?_
  refine kw_ild (v := (mw_oc (ms (5 * P + K / 4)))) hx hb hK hP 2 1 rfl rfl (by omega) (by decide) rfl dX2_read_29 ?_
  refine kw_ifgeO (tgt := 35) hx hb (fun c h => Nat.lt_trans (hM _ c (by omega) h) (by decide)) dX2_read_30 (by decide) (fun si c4 => ?_) (fun c4 => ?_)
  · have hsi := hM _ si (by omega) c4
    refine lv_aload_n hx hb dX2_read_35 rfl (lv_at hl 0 rfl) ?_
    refine va_get (D := (dC, dI)) (ci := 1) (v := .ref (a 3)) (C := RX2) (T := TX2) (N := 4) hx hb hts in_X2 hown hK hP 0 rfl rfl 3 (by decide) (hts _ q155) (fun _ h9 => h9) rfl dX2_read_36 ?_
    refine lv_iconst (v := (nI 4)) hx hb dX2_read_39 (by decide) ?_
    refine lv_aload_n hx hb dX2_read_40 rfl (lv_at hl 0 rfl) ?_
    refine va_get (D := (dC, dI)) (ci := 1) (v := .ref (a 1)) (C := RX2) (T := TX2) (N := 4) hx hb hts in_X2 hown hK hP 0 rfl rfl 1 (by decide) (hts _ q153) (fun _ h9 => h9) rfl dX2_read_41 ?_
    refine lv_iconst (v := (nI 5)) hx hb dX2_read_44 (by decide) ?_
    refine lv_iload_n hx hb dX2_read_45 rfl (lv_at hl 1 rfl) ?_
    refine kw_mul hx hb dX2_read_46 ?_
    refine lv_iload_n hx hb dX2_read_47 rfl (lv_at hl 2 rfl) ?_
    refine lv_iconst (v := (nI 4)) hx hb dX2_read_48 (by decide) ?_
    refine kw_div hx hb (by omega) (by decide) (by decide) dX2_read_49 ?_
    refine kw_add hx hb dX2_read_50 ?_
    refine kw_ild (v := (nI si)) hx hb hK hP 2 1 rfl rfl (by omega) (by decide) (congrArg mw_oc c4) dX2_read_51 ?_
    refine kw_mul hx hb dX2_read_52 ?_
    refine lv_iload_n hx hb dX2_read_53 rfl (lv_at hl 2 rfl) ?_
    refine lv_iconst (v := (nI 4)) hx hb dX2_read_54 (by decide) ?_
    refine kw_rem hx hb (by omega) (by decide) (by decide) dX2_read_55 ?_
    refine kw_add hx hb dX2_read_56 ?_
    refine kw_ild (v := (mc (4 * si + K % 4))) hx hb hK hP 4 3 rfl rfl (by omega) (by decide) rfl dX2_read_57 ?_
    rw [hQQ]
    exact W.iret (v := (mc (4 * si + K % 4))) hx hb hr (fun t9 ht9 hW9 => ⟨⟨_, (), rfl, by rw [mw_read_in hP3 hK4]; simp [c4], by rw [ht9]; exact hP, va_K.moved hW9.alike hK, hD⟩, hS.F ht9⟩) hS.2.2 dX2_read_58
  refine lv_iconst (v := (nI 0)) hx hb dX2_read_33 (by decide) ?_
  rw [hQQ]
  exact W.iret (v := (nI 0)) hx hb hr (fun t9 ht9 hW9 => ⟨⟨_, (), rfl, by rw [mw_read_in hP3 hK4]; simp [c4]; rfl, by rw [ht9]; exact hP, va_K.moved hW9.alike hK, hD⟩, hS.F ht9⟩) hS.2.2 dX2_read_34
set_option maxHeartbeats 4000000 in
set_option maxRecDepth 100000 in
/-- CowMemoryModel.exit -/
theorem mX2_exit (l : Launch) (dC : Nat → ClassId) (dI : Nat → Nat → Nat) (h0 : Nat) (a : Nat → Nat) (d : Nat → ClassId) (sz : Nat) (ma : Nat → Bool) (ms : Nat → Option Nat) (mo : Nat → Bool) (mc : Nat → Int32) (hM : ∀ k s, k < 20 → ms k = some s → s < 20) (pp : Int32) : Met l yX2_exit (ws_ yX2_exit cX2_exit 4 (some .int)) ({ frames := 1, cells := 0, slots := 0, locals := 21 } : Room) (va_Pc [.ref h0, .int pp] (fun U => U.heap.size = sz ∧ va_P (dC, dI) vwCl (mw_M h0 a d ma ms mo mc) U.heap ∧ va_K (dC, dI) vwCl (mw_MK d) U ∧ va_D (fun _ => True) (mw_M h0 a d ma ms mo mc))) (va_Qi (fun (r : Int32) (u : mw_V) => (r, u) = mw_exit (ma, ms, mo, mc) pp) (fun (u : mw_V) (t : State) => mw_BM dC dI (va_A (mw_M h0 a d ma ms mo mc) sz) h0 a d u.1 u.2.1 u.2.2.1 u.2.2.2 t) (va_A (mw_M h0 a d ma ms mo mc) sz)) 0 0 (va_A (mw_M h0 a d ma ms mo mc) sz) := by
  refine Met.ofW (cc := cX2_exit) (maxL := 4) (ret := (some .int)) (by decide) rfl ?_
  intro p e s m args below meth c s₁ B hml hv
  obtain ⟨rfl, hsz, hP, hK, hD0⟩ := hv
  have hx := B.exec
  have hb := B.bytes
  have hr := B.returns
  have hts := atoms_spec (ws := ws_ yX2_exit cX2_exit 4 (some .int)) B.pre
  have hts : ∀ w ∈ lw_all, w.before _ s = true := fun w h => hts w (List.mem_cons_of_mem _ h)
  have hown : s.vm.findClass RX2 = some m.cls := findClass_of_methodNamed B.named
  have hlocks := B.notSynchronized
  subst hsz
  have hD := hD0.self (sz := s.heap.size)
  generalize hAe : va_A (mw_M h0 a d ma ms mo mc) s.heap.size = A at hD ⊢
  have hA : ∀ q : Nat, s.heap.size ≤ q → A q := fun q h => by rw [← hAe]; exact Or.inr h
  have hS : va_S A s.heap s.heap [] := va_S.rf
  have hl := lv_entry ([.ref h0, .int pp]) (n := 4) (Nat.le_of_ble_eq_true rfl)
  rw [lg_entry_eq]
  generalize (lg_sl ([.ref h0, .int pp]) ++ List.replicate (4 - (lg_sl ([.ref h0, .int pp])).length) Slot.unset).toArray = ls at hl ⊢
  have hl : lv_has ls 4 [(0, .ref h0), (1, .int pp)] := hl
  obtain ⟨QQ, hQQ⟩ : ∃ QQ, QQ = MQ below (va_Qi (fun (r : Int32) (u : mw_V) => (r, u) = mw_exit (ma, ms, mo, mc) pp) (fun (u : mw_V) (t : State) => mw_BM dC dI A h0 a d u.1 u.2.1 u.2.2.1 u.2.2.2 t) A) ([.ref h0, .int pp] : List Value).toArray s 0 0 A := ⟨_, rfl⟩
  rw [← hQQ]
  refine lv_aload_n hx hb dX2_exit_0 rfl (lv_at hl 0 rfl) ?_
  refine lv_iload_n hx hb dX2_exit_1 rfl (lv_at hl 1 rfl) ?_
  have hFc := va_free (wc := (mw_M h0 a d ma ms mo mc)) hD hS hA [0, 1, 2, 3, 4] rfl
  refine va_calli (va_runV (As := [.int pp]) (rest := []) ⟨hx, hb, hml, hown, hts⟩ (mX2_isProcess l dC dI h0 a d s.heap.size ma ms mo mc pp) (cwV 1 hts (lw_V q169 q171 qs8 q15 q172) rfl rfl rfl (by decide +kernel) ⟨Nat.le_of_ble_eq_true rfl, Nat.le_of_ble_eq_true rfl⟩) ⟨fun a U g mk q => by obtain ⟨q0, q1, qP, qK, qD⟩ := q; exact ⟨q0, q1, qP, va_K.moved (u := U) (U := U.calling g mk a) (Vm.Alike.refl U.vm) qK, qD⟩, va_recv hK hP (ci := 1) (q0 := 0) rfl rfl, fun U hU hW => ⟨rfl, by rw [hU], by rw [hU]; exact hP, va_K.moved hW.alike hK, hD.weaken (fun _ _ _ _ => trivial)⟩⟩ rfl rfl hl.1 rfl (lv_room (Nat.le_of_ble_eq_true rfl)) dX2_exit_2 ⟨Nat.le_refl _, Nat.le_refl _⟩) hS (fun q _ h => hFc q h) hFc (fun r u t9 H1 locs ht9 hvm hw hB hz1 hk1 hS => ?_)
  have hw := hw
  obtain ⟨hP1, hK1, hD1⟩ : mw_BM dC dI _ h0 a d ma ms mo mc t9 := hB
  rw [ht9] at hP1
  obtain ⟨hP, hD⟩ := va_join (wr := []) (w1 := (mw_M h0 a d ma ms mo mc)) hP hD [0, 1, 2, 3, 4] [] rfl rfl (by decide) (by decide) hk1 hFc hP1 hD1
  generalize H1 = H at hP hS ⊢
  have hP : va_P (dC, dI) vwCl (mw_M h0 a d ma ms mo mc) H := hP
  have hD : va_D A (mw_M h0 a d ma ms mo mc) := hD
  refine W.widen (k := 0) (n := 0) (Nat.le_refl _) (Nat.le_refl _) ?_
  subst hw
  refine kw_ifneB (tgt := 10) hx hb dX2_exit_5 (by decide) (fun c1 => ?_) (fun c1 => ?_)
  · obtain ⟨P, hP3, rfl⟩ := mw_rng (n := 3) (by decide) (mw_okb_t c1).1 (mw_okb_t c1).2
    refine lv_aload_n hx hb dX2_exit_10 rfl (lv_at hl 0 rfl) ?_
    refine va_get (D := (dC, dI)) (ci := 1) (v := .ref (a 0)) (C := RX2) (T := TX2) (N := 4) hx hb hts in_X2 hown hK hP 0 rfl rfl 0 (by decide) (hts _ q152) (fun _ h9 => h9) rfl dX2_exit_11 ?_
    refine lv_iload_n hx hb dX2_exit_14 rfl (lv_at hl 1 rfl) ?_
    refine kw_zld (v := (mw_ob (ma P))) hx hb hK hP 1 0 rfl rfl (by omega) (by decide) rfl dX2_exit_15 ?_
    refine kw_ifneB (tgt := 22) hx hb dX2_exit_16 (by decide) (fun c3 => ?_) (fun c3 => ?_)
    · refine lv_iconst (v := (nI 0)) hx hb dX2_exit_22 (by decide) ?_
      refine lv_istore_n (lv' := [(2, .int (nI 0)), (0, .ref h0), (1, .int (nI P))]) hx hb dX2_exit_23 rfl hl (by decide) rfl (fun ls hl => ?_)
      refine lv_iconst (v := (nI 0)) hx hb dX2_exit_24 (by decide) ?_
      refine lv_istore_n (lv' := [(3, .int (nI 0)), (2, .int (nI 0)), (0, .ref h0), (1, .int (nI P))]) hx hb dX2_exit_25 rfl hl (by decide) rfl (fun ls hl => ?_)
      have lp : ∀ (n : Nat) (j : Nat) (cn : Nat) (ms1 : Nat → Option Nat), (j ≤ 5) → (mw_ek ms P j = (cn, ms1)) → (∀ k s, k < 20 → ms1 k = some s → s < 20) → (5 - j) < n → ∀ (H : Heap) (locs : List Loc), va_P (dC, dI) vwCl (mw_M h0 a d ma ms1 mo mc) H → va_D A (mw_M h0 a d ma ms1 mo mc) → va_S A s.heap H locs → ∀ (ls : Array Slot), lv_has ls 4 [(3, .int (nI j)), (2, .int (nI cn)), (0, .ref h0), (1, .int (nI P))] → W p l e ({ frames := 1, cells := 0, slots := 0, locals := 21 } : Room) s m ([.ref h0, .int (nI P)] : List Value).toArray below meth c H locs 0 0 QQ (F0 m 26 ls []) := by
        intro n
        induction n with
        | zero =>
          intro j cn ms1 hj hE hM1 hfuel
          exact absurd hfuel (by omega)
        | succ n ih =>
          intro j cn ms1 hj hE hM1 hfuel H locs hP hD hS ls hl
          refine lv_iload_n hx hb dX2_exit_26 rfl (lv_at hl 0 rfl) ?_
          refine lv_iconst (v := (nI 5)) hx hb dX2_exit_27 (by decide) ?_
          refine kw_ge (tgt := 64) hx hb (by omega) (by omega) dX2_exit_28 (by decide) (fun c5 => ?_) (fun c5 => ?_)
          · obtain rfl : j = 5 := by omega
            refine lv_aload_n hx hb dX2_exit_64 rfl (lv_at hl 2 rfl) ?_
            refine va_get (D := (dC, dI)) (ci := 1) (v := .ref (a 0)) (C := RX2) (T := TX2) (N := 4) hx hb hts in_X2 hown hK hP 0 rfl rfl 0 (by decide) (hts _ q152) (fun _ h9 => h9) rfl dX2_exit_65 ?_
            refine lv_iload_n hx hb dX2_exit_68 rfl (lv_at hl 3 rfl) ?_
            refine lv_iconst (v := (nI 0)) hx hb dX2_exit_69 (by decide) ?_
            refine kw_zst (f' := mw_B (va_up ma P false)) hx hb hK hP hD hS 1 0 rfl rfl (by omega) (by decide) (mw_B_st0 _ _) dX2_exit_70 (fun H locs hP hD hS => ?_)
            have hP : va_P (dC, dI) vwCl (mw_M h0 a d (va_up ma P false) ms1 mo mc) H := hP
            have hD : va_D A (mw_M h0 a d (va_up ma P false) ms1 mo mc) := hD
            refine lv_iload_n hx hb dX2_exit_71 rfl (lv_at hl 1 rfl) ?_
            rw [hQQ]
            exact W.iret (v := (nI cn)) hx hb hr (fun t9 ht9 hW9 => ⟨⟨_, (va_up ma P false, ms1, mo, mc), rfl, by rw [mw_exit_in hP3]; simp [c3, hE], by rw [ht9]; exact hP, va_K.moved hW9.alike hK, hD⟩, hS.F ht9⟩) hS.2.2 dX2_exit_72
          refine lv_aload_n hx hb dX2_exit_31 rfl (lv_at hl 2 rfl) ?_
          refine va_get (D := (dC, dI)) (ci := 1) (v := .ref (a 1)) (C := RX2) (T := TX2) (N := 4) hx hb hts in_X2 hown hK hP 0 rfl rfl 1 (by decide) (hts _ q153) (fun _ h9 => h9) rfl dX2_exit_32 ?_
          refine lv_iconst (v := (nI 5)) hx hb dX2_exit_35 (by decide) ?_
          refine lv_iload_n hx hb dX2_exit_36 rfl (lv_at hl 3 rfl) ?_
          refine kw_mul hx hb dX2_exit_37 ?_
          refine lv_iload_n hx hb dX2_exit_38 rfl (lv_at hl 0 rfl) ?_
          refine kw_add hx hb dX2_exit_39 ?_
          refine kw_ild (v := (mw_oc (ms1 (5 * P + j)))) hx hb hK hP 2 1 rfl rfl (by omega) (by decide) rfl dX2_exit_40 ?_
          refine kw_ifltO (tgt := 47) hx hb (fun c h => Nat.lt_trans (hM1 _ c (by omega) h) (by decide)) dX2_exit_41 (by decide) (fun c6 => ?_) (fun si c6 => ?_)
          · refine lv_aload_n hx hb dX2_exit_47 rfl (lv_at hl 2 rfl) ?_
            refine va_get (D := (dC, dI)) (ci := 1) (v := .ref (a 1)) (C := RX2) (T := TX2) (N := 4) hx hb hts in_X2 hown hK hP 0 rfl rfl 1 (by decide) (hts _ q153) (fun _ h9 => h9) rfl dX2_exit_48 ?_
            refine lv_iconst (v := (nI 5)) hx hb dX2_exit_51 (by decide) ?_
            refine lv_iload_n hx hb dX2_exit_52 rfl (lv_at hl 3 rfl) ?_
            refine kw_mul hx hb dX2_exit_53 ?_
            refine lv_iload_n hx hb dX2_exit_54 rfl (lv_at hl 0 rfl) ?_
            refine kw_add hx hb dX2_exit_55 ?_
            refine lv_iconst (v := (-1)) hx hb dX2_exit_56 (by decide) ?_
            refine kw_ist (f' := mw_O (va_up ms1 (5 * P + j) none)) hx hb hK hP hD hS 2 1 rfl rfl (by omega) (by decide) (mw_O_up _ _ none) dX2_exit_57 (fun H locs hP hD hS => ?_)
            have hP : va_P (dC, dI) vwCl (mw_M h0 a d ma (va_up ms1 (5 * P + j) none) mo mc) H := hP
            have hD : va_D A (mw_M h0 a d ma (va_up ms1 (5 * P + j) none) mo mc) := hD
            refine lv_iinc (v := (nI (j + 1))) (lv' := [(3, .int (nI (j + 1))), (2, .int (nI cn)), (0, .ref h0), (1, .int (nI P))]) hx hb dX2_exit_58 hl (k := 0) rfl (mw_inc1 _) (by decide) rfl (fun ls hl => ?_)
            refine lv_goto (tgt := 26) hx hb dX2_exit_61 (by decide) ?_
            exact ih (j + 1) cn (va_up ms1 (5 * P + j) none) (by omega) (by show ((mw_ek ms P j).1 + _, _) = _; rw [hE]; simp [c6]) (fun k s hk q => hM1 k s hk (by by_cases z : k = 5 * P + j; rw [z, mw_up_s] at q; cases q; rw [mw_up_n z] at q; exact q)) (by omega) _ _ hP hD hS ls (lv_sub hl [0, 1, 2, 3] rfl)
          refine lv_iinc (v := (nI (cn + 1))) (lv' := [(2, .int (nI (cn + 1))), (3, .int (nI j)), (0, .ref h0), (1, .int (nI P))]) hx hb dX2_exit_44 hl (k := 1) rfl (mw_inc1 _) (by decide) rfl (fun ls hl => ?_)
          refine lv_aload_n hx hb dX2_exit_47 rfl (lv_at hl 2 rfl) ?_
          refine va_get (D := (dC, dI)) (ci := 1) (v := .ref (a 1)) (C := RX2) (T := TX2) (N := 4) hx hb hts in_X2 hown hK hP 0 rfl rfl 1 (by decide) (hts _ q153) (fun _ h9 => h9) rfl dX2_exit_48 ?_
          refine lv_iconst (v := (nI 5)) hx hb dX2_exit_51 (by decide) ?_
          refine lv_iload_n hx hb dX2_exit_52 rfl (lv_at hl 3 rfl) ?_
          refine kw_mul hx hb dX2_exit_53 ?_
          refine lv_iload_n hx hb dX2_exit_54 rfl (lv_at hl 1 rfl) ?_
          refine kw_add hx hb dX2_exit_55 ?_
          refine lv_iconst (v := (-1)) hx hb dX2_exit_56 (by decide) ?_
          refine kw_ist (f' := mw_O (va_up ms1 (5 * P + j) none)) hx hb hK hP hD hS 2 1 rfl rfl (by omega) (by decide) (mw_O_up _ _ none) dX2_exit_57 (fun H locs hP hD hS => ?_)
          have hP : va_P (dC, dI) vwCl (mw_M h0 a d ma (va_up ms1 (5 * P + j) none) mo mc) H := hP
          have hD : va_D A (mw_M h0 a d ma (va_up ms1 (5 * P + j) none) mo mc) := hD
          refine lv_iinc (v := (nI (j + 1))) (lv' := [(3, .int (nI (j + 1))), (2, .int (nI (cn + 1))), (0, .ref h0), (1, .int (nI P))]) hx hb dX2_exit_58 hl (k := 1) rfl (mw_inc1 _) (by decide) rfl (fun ls hl => ?_)
          refine lv_goto (tgt := 26) hx hb dX2_exit_61 (by decide) ?_
          exact ih (j + 1) (cn + 1) (va_up ms1 (5 * P + j) none) (by omega) (by show ((mw_ek ms P j).1 + _, _) = _; rw [hE]; simp [c6]) (fun k s hk q => hM1 k s hk (by by_cases z : k = 5 * P + j; rw [z, mw_up_s] at q; cases q; rw [mw_up_n z] at q; exact q)) (by omega) _ _ hP hD hS ls (lv_sub hl [0, 1, 2, 3] rfl)
      exact lp 6 0 0 ms (by omega) rfl hM (by omega) _ _ hP hD hS ls (lv_sub hl [0, 1, 2, 3] rfl)
    refine lv_bipush (v := (-2)) hx hb dX2_exit_19 (by decide) ?_
    rw [hQQ]
    exact W.iret (v := (-2)) hx hb hr (fun t9 ht9 hW9 => ⟨⟨_, (ma, ms, mo, mc), rfl, by rw [mw_exit_in hP3]; simp [c3], by rw [ht9]; exact hP, va_K.moved hW9.alike hK, hD⟩, hS.F ht9⟩) hS.2.2 dX2_exit_21
  refine lv_iconst (v := (-1)) hx hb dX2_exit_8 (by decide) ?_
  rw [hQQ]
  exact W.iret (v := (-1)) hx hb hr (fun t9 ht9 hW9 => ⟨⟨_, (ma, ms, mo, mc), rfl, (mw_exit_bad (mw_okb_f c1)).symm, by rw [ht9]; exact hP, va_K.moved hW9.alike hK, hD⟩, hS.F ht9⟩) hS.2.2 dX2_exit_9
set_option maxHeartbeats 4000000 in
set_option maxRecDepth 100000 in
/-- CowMemoryModel.sheets -/
theorem mX2_sheets (l : Launch) (dC : Nat → ClassId) (dI : Nat → Nat → Nat) (h0 : Nat) (a : Nat → Nat) (d : Nat → ClassId) (sz : Nat) (ma : Nat → Bool) (ms : Nat → Option Nat) (mo : Nat → Bool) (mc : Nat → Int32) (hM : ∀ k s, k < 20 → ms k = some s → s < 20) : Met l yX2_sheets (ws_ yX2_sheets cX2_sheets 3 (some .int)) ({ frames := 1, cells := 0, slots := 0, locals := 22 } : Room) (va_Pc [.ref h0] (fun U => U.heap.size = sz ∧ va_P (dC, dI) vwCl (mw_M h0 a d ma ms mo mc) U.heap ∧ va_K (dC, dI) vwCl (mw_MK d) U ∧ va_D (fun _ => True) (mw_M h0 a d ma ms mo mc))) (va_Qi (fun (r : Int32) (_ : Unit) => r = nI (mw_shs (ma, ms, mo, mc))) (fun (u : Unit) (t : State) => mw_BM dC dI (va_A (mw_M h0 a d ma ms mo mc) sz) h0 a d ma ms mo mc t) (va_A (mw_M h0 a d ma ms mo mc) sz)) 0 0 (va_A (mw_M h0 a d ma ms mo mc) sz) := by
  refine Met.ofW (cc := cX2_sheets) (maxL := 3) (ret := (some .int)) (by decide) rfl ?_
  intro p e s m args below meth c s₁ B hml hv
  obtain ⟨rfl, hsz, hP, hK, hD0⟩ := hv
  have hx := B.exec
  have hb := B.bytes
  have hr := B.returns
  have hts := atoms_spec (ws := ws_ yX2_sheets cX2_sheets 3 (some .int)) B.pre
  have hts : ∀ w ∈ lw_all, w.before _ s = true := fun w h => hts w (List.mem_cons_of_mem _ h)
  have hown : s.vm.findClass RX2 = some m.cls := findClass_of_methodNamed B.named
  have hlocks := B.notSynchronized
  subst hsz
  have hD := hD0.self (sz := s.heap.size)
  generalize hAe : va_A (mw_M h0 a d ma ms mo mc) s.heap.size = A at hD ⊢
  have hA : ∀ q : Nat, s.heap.size ≤ q → A q := fun q h => by rw [← hAe]; exact Or.inr h
  have hS : va_S A s.heap s.heap [] := va_S.rf
  have hl := lv_entry ([.ref h0]) (n := 3) (Nat.le_of_ble_eq_true rfl)
  rw [lg_entry_eq]
  generalize (lg_sl ([.ref h0]) ++ List.replicate (3 - (lg_sl ([.ref h0])).length) Slot.unset).toArray = ls at hl ⊢
  have hl : lv_has ls 3 [(0, .ref h0)] := hl
  obtain ⟨QQ, hQQ⟩ : ∃ QQ, QQ = MQ below (va_Qi (fun (r : Int32) (_ : Unit) => r = nI (mw_shs (ma, ms, mo, mc))) (fun (u : Unit) (t : State) => mw_BM dC dI A h0 a d ma ms mo mc t) A) ([.ref h0] : List Value).toArray s 0 0 A := ⟨_, rfl⟩
  rw [← hQQ]
  refine lv_iconst (v := (nI 0)) hx hb dX2_sheets_0 (by decide) ?_
  refine lv_istore_n (lv' := [(1, .int (nI 0)), (0, .ref h0)]) hx hb dX2_sheets_1 rfl hl (by decide) rfl (fun ls hl => ?_)
  refine lv_iconst (v := (nI 0)) hx hb dX2_sheets_2 (by decide) ?_
  refine lv_istore_n (lv' := [(2, .int (nI 0)), (1, .int (nI 0)), (0, .ref h0)]) hx hb dX2_sheets_3 rfl hl (by decide) rfl (fun ls hl => ?_)
  have lp : ∀ (n : Nat) (j : Nat) (cn : Nat), (j ≤ 20) → (cn = mw_ct (fun s => mw_used ms s) j) → (20 - j) < n → ∀ (H : Heap) (locs : List Loc), va_P (dC, dI) vwCl (mw_M h0 a d ma ms mo mc) H → va_D A (mw_M h0 a d ma ms mo mc) → va_S A s.heap H locs → ∀ (ls : Array Slot), lv_has ls 3 [(2, .int (nI j)), (1, .int (nI cn)), (0, .ref h0)] → W p l e ({ frames := 1, cells := 0, slots := 0, locals := 22 } : Room) s m ([.ref h0] : List Value).toArray below meth c H locs 0 0 QQ (F0 m 4 ls []) := by
    intro n
    induction n with
    | zero =>
      intro j cn hj hc hfuel
      exact absurd hfuel (by omega)
    | succ n ih =>
      intro j cn hj hc hfuel H locs hP hD hS ls hl
      refine lv_iload_n hx hb dX2_sheets_4 rfl (lv_at hl 0 rfl) ?_
      refine lv_bipush (v := (nI 20)) hx hb dX2_sheets_5 (by decide) ?_
      refine kw_ge (tgt := 27) hx hb (by omega) (by omega) dX2_sheets_7 (by decide) (fun c5 => ?_) (fun c5 => ?_)
      · obtain rfl : j = 20 := by omega
        refine lv_iload_n hx hb dX2_sheets_27 rfl (lv_at hl 1 rfl) ?_
        rw [hQQ]
        exact W.iret (v := (nI cn)) hx hb hr (fun t9 ht9 hW9 => ⟨⟨_, (), rfl, by rw [hc]; rfl, by rw [ht9]; exact hP, va_K.moved hW9.alike hK, hD⟩, hS.F ht9⟩) hS.2.2 dX2_sheets_28
      refine lv_aload_n hx hb dX2_sheets_10 rfl (lv_at hl 2 rfl) ?_
      refine lv_iload_n hx hb dX2_sheets_11 rfl (lv_at hl 0 rfl) ?_
      have hFc := va_free (wc := (mw_M h0 a d ma ms mo mc)) hD hS hA [0, 1, 2, 3, 4] rfl
      refine va_calli (va_runV (As := [.int (nI j)]) (rest := []) ⟨hx, hb, hml, hown, hts⟩ (mX2_used l dC dI h0 a d H.size ma ms mo mc hM j c5) (cwV 1 hts (lw_V q181 q183 qs11 q15 q184) rfl rfl rfl (by decide +kernel) ⟨Nat.le_of_ble_eq_true rfl, Nat.le_of_ble_eq_true rfl⟩) ⟨fun a U g mk q => by obtain ⟨q0, q1, qP, qK, qD⟩ := q; exact ⟨q0, q1, qP, va_K.moved (u := U) (U := U.calling g mk a) (Vm.Alike.refl U.vm) qK, qD⟩, va_recv hK hP (ci := 1) (q0 := 0) rfl rfl, fun U hU hW => ⟨rfl, by rw [hU], by rw [hU]; exact hP, va_K.moved hW.alike hK, hD.weaken (fun _ _ _ _ => trivial)⟩⟩ rfl rfl hl.1 rfl (lv_room (Nat.le_of_ble_eq_true rfl)) dX2_sheets_12 ⟨Nat.le_refl _, Nat.le_refl _⟩) hS (fun q _ h => hFc q h) hFc (fun r u t9 H1 locs ht9 hvm hw hB hz1 hk1 hS => ?_)
      have hw := hw
      obtain ⟨hP1, hK1, hD1⟩ : mw_BM dC dI _ h0 a d ma ms mo mc t9 := hB
      rw [ht9] at hP1
      obtain ⟨hP, hD⟩ := va_join (wr := []) (w1 := (mw_M h0 a d ma ms mo mc)) hP hD [0, 1, 2, 3, 4] [] rfl rfl (by decide) (by decide) hk1 hFc hP1 hD1
      generalize H1 = H at hP hS ⊢
      have hP : va_P (dC, dI) vwCl (mw_M h0 a d ma ms mo mc) H := hP
      have hD : va_D A (mw_M h0 a d ma ms mo mc) := hD
      refine W.widen (k := 0) (n := 0) (Nat.le_refl _) (Nat.le_refl _) ?_
      subst hw
      refine kw_ifeqB (tgt := 21) hx hb dX2_sheets_15 (by decide) (fun c6 => ?_) (fun c6 => ?_)
      · refine lv_iinc (v := (nI (j + 1))) (lv' := [(2, .int (nI (j + 1))), (1, .int (nI cn)), (0, .ref h0)]) hx hb dX2_sheets_21 hl (k := 0) rfl (mw_inc1 _) (by decide) rfl (fun ls hl => ?_)
        refine lv_goto (tgt := 4) hx hb dX2_sheets_24 (by decide) ?_
        exact ih (j + 1) cn (by omega) (by rw [hc]; exact (mw_ct_s0 c6).symm) (by omega) _ _ hP hD hS ls (lv_sub hl [0, 1, 2] rfl)
      refine lv_iinc (v := (nI (cn + 1))) (lv' := [(1, .int (nI (cn + 1))), (2, .int (nI j)), (0, .ref h0)]) hx hb dX2_sheets_18 hl (k := 1) rfl (mw_inc1 _) (by decide) rfl (fun ls hl => ?_)
      refine lv_iinc (v := (nI (j + 1))) (lv' := [(2, .int (nI (j + 1))), (1, .int (nI (cn + 1))), (0, .ref h0)]) hx hb dX2_sheets_21 hl (k := 1) rfl (mw_inc1 _) (by decide) rfl (fun ls hl => ?_)
      refine lv_goto (tgt := 4) hx hb dX2_sheets_24 (by decide) ?_
      exact ih (j + 1) (cn + 1) (by omega) (by rw [hc]; exact (mw_ct_s1 c6).symm) (by omega) _ _ hP hD hS ls (lv_sub hl [0, 1, 2] rfl)
  exact lp 21 0 0 (by omega) rfl (by omega) _ _ hP hD hS ls (lv_sub hl [0, 1, 2] rfl)
set_option maxHeartbeats 4000000 in
set_option maxRecDepth 100000 in
/-- CowMemoryModel.total -/
theorem mX2_total (l : Launch) (dC : Nat → ClassId) (dI : Nat → Nat → Nat) (h0 : Nat) (a : Nat → Nat) (d : Nat → ClassId) (sz : Nat) (ma : Nat → Bool) (ms : Nat → Option Nat) (mo : Nat → Bool) (mc : Nat → Int32) (hM : ∀ k s, k < 20 → ms k = some s → s < 20) : Met l yX2_total (ws_ yX2_total cX2_total 5 (some .long)) ({ frames := 1, cells := 0, slots := 0, locals := 22 } : Room) (va_Pc [.ref h0] (fun U => U.heap.size = sz ∧ va_P (dC, dI) vwCl (mw_M h0 a d ma ms mo mc) U.heap ∧ va_K (dC, dI) vwCl (mw_MK d) U ∧ va_D (fun _ => True) (mw_M h0 a d ma ms mo mc))) (va_Ql (fun (r : Int64) (_ : Unit) => r = mw_tot (ma, ms, mo, mc)) (fun (u : Unit) (t : State) => mw_BM dC dI (va_A (mw_M h0 a d ma ms mo mc) sz) h0 a d ma ms mo mc t) (va_A (mw_M h0 a d ma ms mo mc) sz)) 0 0 (va_A (mw_M h0 a d ma ms mo mc) sz) := by
  refine Met.ofW (cc := cX2_total) (maxL := 5) (ret := (some .long)) (by decide) rfl ?_
  intro p e s m args below meth c s₁ B hml hv
  obtain ⟨rfl, hsz, hP, hK, hD0⟩ := hv
  have hx := B.exec
  have hb := B.bytes
  have hr := B.returns
  have hts := atoms_spec (ws := ws_ yX2_total cX2_total 5 (some .long)) B.pre
  have hts : ∀ w ∈ lw_all, w.before _ s = true := fun w h => hts w (List.mem_cons_of_mem _ h)
  have hown : s.vm.findClass RX2 = some m.cls := findClass_of_methodNamed B.named
  have hlocks := B.notSynchronized
  subst hsz
  have hD := hD0.self (sz := s.heap.size)
  generalize hAe : va_A (mw_M h0 a d ma ms mo mc) s.heap.size = A at hD ⊢
  have hA : ∀ q : Nat, s.heap.size ≤ q → A q := fun q h => by rw [← hAe]; exact Or.inr h
  have hS : va_S A s.heap s.heap [] := va_S.rf
  have hl := lv_entry ([.ref h0]) (n := 5) (Nat.le_of_ble_eq_true rfl)
  rw [lg_entry_eq]
  generalize (lg_sl ([.ref h0]) ++ List.replicate (5 - (lg_sl ([.ref h0])).length) Slot.unset).toArray = ls at hl ⊢
  have hl : lv_has ls 5 [(0, .ref h0)] := hl
  obtain ⟨QQ, hQQ⟩ : ∃ QQ, QQ = MQ below (va_Ql (fun (r : Int64) (_ : Unit) => r = mw_tot (ma, ms, mo, mc)) (fun (u : Unit) (t : State) => mw_BM dC dI A h0 a d ma ms mo mc t) A) ([.ref h0] : List Value).toArray s 0 0 A := ⟨_, rfl⟩
  rw [← hQQ]
  refine lv_lconst (v := 0) hx hb dX2_total_0 (by decide) ?_
  refine lv_lstore_n (lv' := [(1, .long 0), (0, .ref h0)]) hx hb dX2_total_1 rfl hl (by decide) rfl (fun ls hl => ?_)
  refine lv_iconst (v := (nI 0)) hx hb dX2_total_2 (by decide) ?_
  refine lv_istore_n (lv' := [(3, .int (nI 0)), (1, .long 0), (0, .ref h0)]) hx hb dX2_total_3 rfl hl (by decide) rfl (fun ls hl => ?_)
  have lp : ∀ (n : Nat) (j : Nat) (sm : Int64), (j ≤ 20) → (sm = mw_sl (mw_tf ms mc) j) → (20 - j) < n → ∀ (H : Heap) (locs : List Loc), va_P (dC, dI) vwCl (mw_M h0 a d ma ms mo mc) H → va_D A (mw_M h0 a d ma ms mo mc) → va_S A s.heap H locs → ∀ (ls : Array Slot), lv_has ls 5 [(3, .int (nI j)), (1, .long sm), (0, .ref h0)] → W p l e ({ frames := 1, cells := 0, slots := 0, locals := 22 } : Room) s m ([.ref h0] : List Value).toArray below meth c H locs 0 0 QQ (F0 m 4 ls []) := by
    intro n
    induction n with
    | zero =>
      intro j sm hj hc hfuel
      exact absurd hfuel (by omega)
    | succ n ih =>
      intro j sm hj hc hfuel H locs hP hD hS ls hl
      refine lv_iload_n hx hb dX2_total_4 rfl (lv_at hl 0 rfl) ?_
      refine lv_bipush (v := (nI 20)) hx hb dX2_total_5 (by decide) ?_
      refine kw_ge (tgt := 54) hx hb (by omega) (by omega) dX2_total_7 (by decide) (fun c5 => ?_) (fun c5 => ?_)
      · obtain rfl : j = 20 := by omega
        refine lv_lload_n hx hb dX2_total_54 rfl (lv_at hl 1 rfl) ?_
        rw [hQQ]
        exact W.lret (v := sm) hx hb hr (fun t9 ht9 hW9 => ⟨⟨_, (), rfl, by rw [hc]; rfl, by rw [ht9]; exact hP, va_K.moved hW9.alike hK, hD⟩, hS.F ht9⟩) hS.2.2 dX2_total_55
      refine lv_iconst (v := (nI 0)) hx hb dX2_total_10 (by decide) ?_
      refine lv_istore (lv' := [(4, .int (nI 0)), (3, .int (nI j)), (1, .long sm), (0, .ref h0)]) hx hb dX2_total_11 hl (by decide) rfl (fun ls hl => ?_)
      have ih0 := ih
      have lq : ∀ (n : Nat) (i : Nat) (sn : Int64), (i ≤ 4) → (sn = mw_sl (mw_tf ms mc) j + (if mw_used ms j then mw_sl (fun i => (mc (4 * j + i)).toInt64) i else 0)) → (4 - i) < n → ∀ (H : Heap) (locs : List Loc), va_P (dC, dI) vwCl (mw_M h0 a d ma ms mo mc) H → va_D A (mw_M h0 a d ma ms mo mc) → va_S A s.heap H locs → ∀ (ls : Array Slot), lv_has ls 5 [(4, .int (nI i)), (3, .int (nI j)), (1, .long sn), (0, .ref h0)] → W p l e ({ frames := 1, cells := 0, slots := 0, locals := 22 } : Room) s m ([.ref h0] : List Value).toArray below meth c H locs 0 0 QQ (F0 m 13 ls []) := by
        intro n
        induction n with
        | zero =>
          intro i sn hi hd hfuel
          exact absurd hfuel (by omega)
        | succ n ih =>
          intro i sn hi hd hfuel H locs hP hD hS ls hl
          refine lv_iload hx hb dX2_total_13 (lv_at hl 0 rfl) ?_
          refine lv_iconst (v := (nI 4)) hx hb dX2_total_15 (by decide) ?_
          refine kw_ge (tgt := 48) hx hb (by omega) (by omega) dX2_total_16 (by decide) (fun c6 => ?_) (fun c6 => ?_)
          · obtain rfl : i = 4 := by omega
            refine lv_iinc (v := (nI (j + 1))) (lv' := [(3, .int (nI (j + 1))), (4, .int (nI 4)), (1, .long sn), (0, .ref h0)]) hx hb dX2_total_48 hl (k := 1) rfl (mw_inc1 _) (by decide) rfl (fun ls hl => ?_)
            refine lv_goto (tgt := 4) hx hb dX2_total_51 (by decide) ?_
            exact ih0 (j + 1) sn (by omega) hd (by omega) _ _ hP hD hS ls (lv_sub hl [0, 2, 3] rfl)
          refine lv_aload_n hx hb dX2_total_19 rfl (lv_at hl 3 rfl) ?_
          refine lv_iload_n hx hb dX2_total_20 rfl (lv_at hl 1 rfl) ?_
          have hFc := va_free (wc := (mw_M h0 a d ma ms mo mc)) hD hS hA [0, 1, 2, 3, 4] rfl
          refine va_calli (va_runV (As := [.int (nI j)]) (rest := []) ⟨hx, hb, hml, hown, hts⟩ (mX2_used l dC dI h0 a d H.size ma ms mo mc hM j c5) (cwV 1 hts (lw_V q181 q183 qs11 q15 q184) rfl rfl rfl (by decide +kernel) ⟨Nat.le_of_ble_eq_true rfl, Nat.le_of_ble_eq_true rfl⟩) ⟨fun a U g mk q => by obtain ⟨q0, q1, qP, qK, qD⟩ := q; exact ⟨q0, q1, qP, va_K.moved (u := U) (U := U.calling g mk a) (Vm.Alike.refl U.vm) qK, qD⟩, va_recv hK hP (ci := 1) (q0 := 0) rfl rfl, fun U hU hW => ⟨rfl, by rw [hU], by rw [hU]; exact hP, va_K.moved hW.alike hK, hD.weaken (fun _ _ _ _ => trivial)⟩⟩ rfl rfl hl.1 rfl (lv_room (Nat.le_of_ble_eq_true rfl)) dX2_total_21 ⟨Nat.le_refl _, Nat.le_refl _⟩) hS (fun q _ h => hFc q h) hFc (fun r u t9 H1 locs ht9 hvm hw hB hz1 hk1 hS => ?_)
          have hw := hw
          obtain ⟨hP1, hK1, hD1⟩ : mw_BM dC dI _ h0 a d ma ms mo mc t9 := hB
          rw [ht9] at hP1
          obtain ⟨hP, hD⟩ := va_join (wr := []) (w1 := (mw_M h0 a d ma ms mo mc)) hP hD [0, 1, 2, 3, 4] [] rfl rfl (by decide) (by decide) hk1 hFc hP1 hD1
          generalize H1 = H at hP hS ⊢
          have hP : va_P (dC, dI) vwCl (mw_M h0 a d ma ms mo mc) H := hP
          have hD : va_D A (mw_M h0 a d ma ms mo mc) := hD
          refine W.widen (k := 0) (n := 0) (Nat.le_refl _) (Nat.le_refl _) ?_
          subst hw
          refine kw_ifeqB (tgt := 42) hx hb dX2_total_24 (by decide) (fun c7 => ?_) (fun c7 => ?_)
          · refine lv_iinc (v := (nI (i + 1))) (lv' := [(4, .int (nI (i + 1))), (3, .int (nI j)), (1, .long sn), (0, .ref h0)]) hx hb dX2_total_42 hl (k := 0) rfl (mw_inc1 _) (by decide) rfl (fun ls hl => ?_)
            refine lv_goto (tgt := 13) hx hb dX2_total_45 (by decide) ?_
            exact ih (i + 1) sn (by omega) (by rw [hd, c7]; rfl) (by omega) _ _ hP hD hS ls (lv_sub hl [0, 1, 2, 3] rfl)
          refine lv_lload_n hx hb dX2_total_27 rfl (lv_at hl 2 rfl) ?_
          refine lv_aload_n hx hb dX2_total_28 rfl (lv_at hl 3 rfl) ?_
          refine va_get (D := (dC, dI)) (ci := 1) (v := .ref (a 3)) (C := RX2) (T := TX2) (N := 4) hx hb hts in_X2 hown hK hP 0 rfl rfl 3 (by decide) (hts _ q155) (fun _ h9 => h9) rfl dX2_total_29 ?_
          refine lv_iconst (v := (nI 4)) hx hb dX2_total_32 (by decide) ?_
          refine lv_iload_n hx hb dX2_total_33 rfl (lv_at hl 1 rfl) ?_
          refine kw_mul hx hb dX2_total_34 ?_
          refine lv_iload hx hb dX2_total_35 (lv_at hl 0 rfl) ?_
          refine kw_add hx hb dX2_total_37 ?_
          refine kw_ild (v := (mc (4 * j + i))) hx hb hK hP 4 3 rfl rfl (by omega) (by decide) rfl dX2_total_38 ?_
          refine lv_i2l (v := ((mc (4 * j + i))).toInt64) hx hb dX2_total_39 rfl ?_
          refine lv_ladd hx hb dX2_total_40 ?_
          refine lv_lstore_n (lv' := [(1, .long (sn + (((mc (4 * j + i))).toInt64))), (4, .int (nI i)), (3, .int (nI j)), (0, .ref h0)]) hx hb dX2_total_41 rfl hl (by decide) rfl (fun ls hl => ?_)
          refine lv_iinc (v := (nI (i + 1))) (lv' := [(4, .int (nI (i + 1))), (1, .long (sn + (((mc (4 * j + i))).toInt64))), (3, .int (nI j)), (0, .ref h0)]) hx hb dX2_total_42 hl (k := 1) rfl (mw_inc1 _) (by decide) rfl (fun ls hl => ?_)
          refine lv_goto (tgt := 13) hx hb dX2_total_45 (by decide) ?_
          exact ih (i + 1) (sn + (mc (4 * j + i)).toInt64) (by omega) (by rw [hd, c7]; exact Int64.add_assoc _ _ _) (by omega) _ _ hP hD hS ls (lv_sub hl [0, 2, 1, 3] rfl)
      exact lq 5 0 sm (by omega) (by rw [hc]; split; exact (Int64.add_zero _).symm; exact (Int64.add_zero _).symm) (by omega) _ _ hP hD hS ls (lv_sub hl [0, 1, 2, 3] rfl)
  exact lp 21 0 0 (by omega) rfl (by omega) _ _ hP hD hS ls (lv_sub hl [0, 1, 2] rfl)
end
section
/-! CowMemoryModel: attach, copyPage, fork -/
theorem mw_fk_s0 {V : mw_V} {P Q j cn : Nat} {ma : Nat → Bool} {ms : Nat → Option Nat} {mo : Nat → Bool} {mc : Nat → Int32} (h : mw_fk V P Q j = (cn, ma, ms, mo, mc)) (h2 : ms (5 * P + j) = none) : mw_fk V P Q (j + 1) = (cn, ma, ms, mo, mc) := by
  show (if ((mw_fk V P Q j).2.2.1 (5 * P + j)).isSome = true then _ else mw_fk V P Q j) = _
  rw [h]
  simp [h2]
theorem mw_fk_s1 {V : mw_V} {P Q j cn si : Nat} {ma : Nat → Bool} {ms : Nat → Option Nat} {mo : Nat → Bool} {mc : Nat → Int32} (h : mw_fk V P Q j = (cn, ma, ms, mo, mc)) (h2 : ms (5 * P + j) = some si) : mw_fk V P Q (j + 1) = (cn + 1, mw_copy (ma, ms, mo, mc) (5 * P + j) (5 * Q + j)) := by
  show (if ((mw_fk V P Q j).2.2.1 (5 * P + j)).isSome = true then ((mw_fk V P Q j).1 + 1, mw_copy (mw_fk V P Q j).2 (5 * P + j) (5 * Q + j)) else mw_fk V P Q j) = _
  rw [h]
  simp [h2]
theorem mw_copy_ms (V : mw_V) (o e : Nat) : ∃ x, (mw_copy V o e).2.1 = va_up V.2.1 e x ∧ (x = V.2.1 o ∨ x = some (mw_new V.2.1)) := by
  unfold mw_copy
  by_cases h : V.2.2.1 o = true
  · rw [if_pos h]
    exact ⟨_, rfl, Or.inl rfl⟩
  · rw [if_neg h]
    exact ⟨_, rfl, Or.inr rfl⟩
theorem mw_copy_M {ma ma1 : Nat → Bool} {ms ms2 : Nat → Option Nat} {mo mo2 : Nat → Bool} {mc mc2 : Nat → Int32} {P Q j : Nat} (hP3 : P ≤ 3) (c5 : j < 5) (hM : ∀ k s, k < 20 → ms k = some s → s < 20) (hw : (ma1, ms2, mo2, mc2) = mw_copy (ma, ms, mo, mc) (5 * P + j) (5 * Q + j)) : ∀ k s, k < 20 → ms2 k = some s → s < 20 := by
  obtain ⟨x, h1, h2⟩ := mw_copy_ms (ma, ms, mo, mc) (5 * P + j) (5 * Q + j)
  have h1 : ms2 = va_up ms (5 * Q + j) x := by rw [← hw] at h1; exact h1
  intro k s hk q
  rw [h1] at q
  by_cases z : k = 5 * Q + j
  · subst z
    rw [mw_up_s] at q
    rcases h2 with h2 | h2
    · exact hM (5 * P + j) s (by omega) (by rw [← q, h2])
    · rw [h2] at q
      cases q
      exact mw_new_lt _
  · rw [mw_up_n z] at q
    exact hM k s hk q
theorem mw_copy_z {ma ma1 : Nat → Bool} {ms ms2 : Nat → Option Nat} {mo mo2 : Nat → Bool} {mc mc2 : Nat → Int32} {P Q j : Nat} (hw : (ma1, ms2, mo2, mc2) = mw_copy (ma, ms, mo, mc) (5 * P + j) (5 * Q + j)) (hz : ∀ k, j ≤ k → k < 5 → ms (5 * Q + k) = none) : ∀ k, j + 1 ≤ k → k < 5 → ms2 (5 * Q + k) = none := by
  obtain ⟨x, h1, h2⟩ := mw_copy_ms (ma, ms, mo, mc) (5 * P + j) (5 * Q + j)
  have h1 : ms2 = va_up ms (5 * Q + j) x := by rw [← hw] at h1; exact h1
  intro k hk h5
  rw [h1, mw_up_n (by omega)]
  exact hz k (by omega) h5
set_option maxHeartbeats 4000000 in
set_option maxRecDepth 100000 in
/-- CowMemoryModel.attach -/
theorem mX2_attach (l : Launch) (dC : Nat → ClassId) (dI : Nat → Nat → Nat) (h0 : Nat) (a : Nat → Nat) (d : Nat → ClassId) (sz : Nat) (ma : Nat → Bool) (ms : Nat → Option Nat) (mo : Nat → Bool) (mc : Nat → Int32) (hM : ∀ k s, k < 20 → ms k = some s → s < 20) (xx yy : Int32) : Met l yX2_attach (ws_ yX2_attach cX2_attach 5 (some .int)) ({ frames := 0, cells := 0, slots := 0, locals := 0 } : Room) (va_Pc [.ref h0, .int xx, .int yy] (fun U => U.heap.size = sz ∧ va_P (dC, dI) vwCl (mw_M h0 a d ma ms mo mc) U.heap ∧ va_K (dC, dI) vwCl (mw_MK d) U ∧ va_D (fun _ => True) (mw_M h0 a d ma ms mo mc))) (va_Qi (fun (r : Int32) (u : mw_V) => (r, u) = mw_attach (ma, ms, mo, mc) xx yy) (fun (u : mw_V) (t : State) => mw_BM dC dI (va_A (mw_M h0 a d ma ms mo mc) sz) h0 a d u.1 u.2.1 u.2.2.1 u.2.2.2 t) (va_A (mw_M h0 a d ma ms mo mc) sz)) 0 0 (va_A (mw_M h0 a d ma ms mo mc) sz) := by
  refine Met.ofW (cc := cX2_attach) (maxL := 5) (ret := (some .int)) (by decide) rfl ?_
  intro p e s m args below meth c s₁ B hml hv
  obtain ⟨rfl, hsz, hP, hK, hD0⟩ := hv
  have hx := B.exec
  have hb := B.bytes
  have hr := B.returns
  have hts := atoms_spec (ws := ws_ yX2_attach cX2_attach 5 (some .int)) B.pre
  have hts : ∀ w ∈ lw_all, w.before _ s = true := fun w h => hts w (List.mem_cons_of_mem _ h)
  have hown : s.vm.findClass RX2 = some m.cls := findClass_of_methodNamed B.named
  have hlocks := B.notSynchronized
  subst hsz
  have hD := hD0.self (sz := s.heap.size)
  generalize hAe : va_A (mw_M h0 a d ma ms mo mc) s.heap.size = A at hD ⊢
  have hA : ∀ q : Nat, s.heap.size ≤ q → A q := fun q h => by rw [← hAe]; exact Or.inr h
  have hS : va_S A s.heap s.heap [] := va_S.rf
  have hl := lv_entry ([.ref h0, .int xx, .int yy]) (n := 5) (Nat.le_of_ble_eq_true rfl)
  rw [lg_entry_eq]
  generalize (lg_sl ([.ref h0, .int xx, .int yy]) ++ List.replicate (5 - (lg_sl ([.ref h0, .int xx, .int yy])).length) Slot.unset).toArray = ls at hl ⊢
  have hl : lv_has ls 5 [(0, .ref h0), (1, .int xx), (2, .int yy)] := hl
  obtain ⟨QQ, hQQ⟩ : ∃ QQ, QQ = MQ below (va_Qi (fun (r : Int32) (u : mw_V) => (r, u) = mw_attach (ma, ms, mo, mc) xx yy) (fun (u : mw_V) (t : State) => mw_BM dC dI A h0 a d u.1 u.2.1 u.2.2.1 u.2.2.2 t) A) ([.ref h0, .int xx, .int yy] : List Value).toArray s 0 0 A := ⟨_, rfl⟩
  rw [← hQQ]
  refine lv_iload_n hx hb dX2_attach_0 rfl (lv_at hl 1 rfl) ?_
  refine lv_if_lt (tgt := 36) hx hb dX2_attach_1 (by decide) (fun c1 => ?_) (fun c1 => ?_)
  · refine lv_iconst (v := (-1)) hx hb dX2_attach_36 (by decide) ?_
    rw [hQQ]
    exact W.iret (v := (-1)) hx hb hr (fun t9 ht9 hW9 => ⟨⟨_, (ma, ms, mo, mc), rfl, (mw_attach_bad (Or.inl (Or.inl c1))).symm, by rw [ht9]; exact hP, va_K.moved hW9.alike hK, hD⟩, hS.F ht9⟩) hS.2.2 dX2_attach_37
  refine lv_iload_n hx hb dX2_attach_4 rfl (lv_at hl 2 rfl) ?_
  refine lv_if_lt (tgt := 36) hx hb dX2_attach_5 (by decide) (fun c2 => ?_) (fun c2 => ?_)
  · refine lv_iconst (v := (-1)) hx hb dX2_attach_36 (by decide) ?_
    rw [hQQ]
    exact W.iret (v := (-1)) hx hb hr (fun t9 ht9 hW9 => ⟨⟨_, (ma, ms, mo, mc), rfl, (mw_attach_bad (Or.inr (Or.inl c2))).symm, by rw [ht9]; exact hP, va_K.moved hW9.alike hK, hD⟩, hS.F ht9⟩) hS.2.2 dX2_attach_37
  refine lv_iload_n hx hb dX2_attach_8 rfl (lv_at hl 1 rfl) ?_
  refine lv_bipush (v := (nI 28)) hx hb dX2_attach_9 (by decide) ?_
  refine lv_icmp_gt (tgt := 36) hx hb dX2_attach_11 (by decide) (fun c3 => ?_) (fun c3 => ?_)
  · refine lv_iconst (v := (-1)) hx hb dX2_attach_36 (by decide) ?_
    rw [hQQ]
    exact W.iret (v := (-1)) hx hb hr (fun t9 ht9 hW9 => ⟨⟨_, (ma, ms, mo, mc), rfl, (mw_attach_bad (Or.inl (Or.inr (Or.inl c3)))).symm, by rw [ht9]; exact hP, va_K.moved hW9.alike hK, hD⟩, hS.F ht9⟩) hS.2.2 dX2_attach_37
  refine lv_iload_n hx hb dX2_attach_14 rfl (lv_at hl 2 rfl) ?_
  refine lv_bipush (v := (nI 28)) hx hb dX2_attach_15 (by decide) ?_
  refine lv_icmp_gt (tgt := 36) hx hb dX2_attach_17 (by decide) (fun c4 => ?_) (fun c4 => ?_)
  · refine lv_iconst (v := (-1)) hx hb dX2_attach_36 (by decide) ?_
    rw [hQQ]
    exact W.iret (v := (-1)) hx hb hr (fun t9 ht9 hW9 => ⟨⟨_, (ma, ms, mo, mc), rfl, (mw_attach_bad (Or.inr (Or.inr (Or.inl c4)))).symm, by rw [ht9]; exact hP, va_K.moved hW9.alike hK, hD⟩, hS.F ht9⟩) hS.2.2 dX2_attach_37
  obtain ⟨X, hX, rfl⟩ := mw_rng (n := 28) (by decide) c1 c3
  obtain ⟨Y, hY, rfl⟩ := mw_rng (n := 28) (by decide) c2 c4
  refine lv_iload_n hx hb dX2_attach_20 rfl (lv_at hl 1 rfl) ?_
  refine lv_bipush (v := (nI 8)) hx hb dX2_attach_21 (by decide) ?_
  refine kw_rem hx hb (by omega) (by decide) (by decide) dX2_attach_23 ?_
  refine lv_iconst (v := (nI 4)) hx hb dX2_attach_24 (by decide) ?_
  refine kw_gt (tgt := 36) hx hb (by omega) (by omega) dX2_attach_25 (by decide) (fun c5 => ?_) (fun c5 => ?_)
  · refine lv_iconst (v := (-1)) hx hb dX2_attach_36 (by decide) ?_
    rw [hQQ]
    exact W.iret (v := (-1)) hx hb hr (fun t9 ht9 hW9 => ⟨⟨_, (ma, ms, mo, mc), rfl, (mw_attach_bad (Or.inl (Or.inr (Or.inr (by rw [mw_cl (by omega)]; exact c5))))).symm, by rw [ht9]; exact hP, va_K.moved hW9.alike hK, hD⟩, hS.F ht9⟩) hS.2.2 dX2_attach_37
  refine lv_iload_n hx hb dX2_attach_28 rfl (lv_at hl 2 rfl) ?_
  refine lv_bipush (v := (nI 8)) hx hb dX2_attach_29 (by decide) ?_
  refine kw_rem hx hb (by omega) (by decide) (by decide) dX2_attach_31 ?_
  refine lv_iconst (v := (nI 4)) hx hb dX2_attach_32 (by decide) ?_
  refine kw_le (tgt := 38) hx hb (by omega) (by omega) dX2_attach_33 (by decide) (fun c6 => ?_) (fun c6 => ?_)
  · refine lv_iconst (v := (nI 5)) hx hb dX2_attach_38 (by decide) ?_
    refine lv_iload_n hx hb dX2_attach_39 rfl (lv_at hl 1 rfl) ?_
    refine lv_bipush (v := (nI 8)) hx hb dX2_attach_40 (by decide) ?_
    refine kw_div hx hb (by omega) (by decide) (by decide) dX2_attach_42 ?_
    refine kw_mul hx hb dX2_attach_43 ?_
    refine lv_iload_n hx hb dX2_attach_44 rfl (lv_at hl 1 rfl) ?_
    refine lv_bipush (v := (nI 8)) hx hb dX2_attach_45 (by decide) ?_
    refine kw_rem hx hb (by omega) (by decide) (by decide) dX2_attach_47 ?_
    refine kw_add hx hb dX2_attach_48 ?_
    refine lv_istore_n (lv' := [(3, .int (nI (5 * (X / 8) + X % 8))), (0, .ref h0), (1, .int (nI X)), (2, .int (nI Y))]) hx hb dX2_attach_49 rfl hl (by decide) rfl (fun ls hl => ?_)
    refine lv_iconst (v := (nI 5)) hx hb dX2_attach_50 (by decide) ?_
    refine lv_iload_n hx hb dX2_attach_51 rfl (lv_at hl 3 rfl) ?_
    refine lv_bipush (v := (nI 8)) hx hb dX2_attach_52 (by decide) ?_
    refine kw_div hx hb (by omega) (by decide) (by decide) dX2_attach_54 ?_
    refine kw_mul hx hb dX2_attach_55 ?_
    refine lv_iload_n hx hb dX2_attach_56 rfl (lv_at hl 3 rfl) ?_
    refine lv_bipush (v := (nI 8)) hx hb dX2_attach_57 (by decide) ?_
    refine kw_rem hx hb (by omega) (by decide) (by decide) dX2_attach_59 ?_
    refine kw_add hx hb dX2_attach_60 ?_
    refine lv_istore (lv' := [(4, .int (nI (5 * (Y / 8) + Y % 8))), (3, .int (nI (5 * (X / 8) + X % 8))), (0, .ref h0), (1, .int (nI X)), (2, .int (nI Y))]) hx hb dX2_attach_61 hl (by decide) rfl (fun ls hl => ?_)
    refine lv_aload_n hx hb dX2_attach_63 rfl (lv_at hl 2 rfl) ?_
    refine va_get (D := (dC, dI)) (ci := 1) (v := .ref (a 0)) (C := RX2) (T := TX2) (N := 4) hx hb hts in_X2 hown hK hP 0 rfl rfl 0 (by decide) (hts _ q152) (fun _ h9 => h9) rfl dX2_attach_64 ?_
    refine lv_iload_n hx hb dX2_attach_67 rfl (lv_at hl 3 rfl) ?_
    refine lv_bipush (v := (nI 8)) hx hb dX2_attach_68 (by decide) ?_
    refine kw_div hx hb (by omega) (by decide) (by decide) dX2_attach_70 ?_
    refine kw_zld (v := (mw_ob (ma (X / 8)))) hx hb hK hP 1 0 rfl rfl (by omega) (by decide) rfl dX2_attach_71 ?_
    refine kw_ifeqB (tgt := 87) hx hb dX2_attach_72 (by decide) (fun c7 => ?_) (fun c7 => ?_)
    · refine lv_bipush (v := (-2)) hx hb dX2_attach_87 (by decide) ?_
      rw [hQQ]
      exact W.iret (v := (-2)) hx hb hr (fun t9 ht9 hW9 => ⟨⟨_, (ma, ms, mo, mc), rfl, by rw [mw_attach_in hX c5 hY c6]; simp [c7], by rw [ht9]; exact hP, va_K.moved hW9.alike hK, hD⟩, hS.F ht9⟩) hS.2.2 dX2_attach_89
    refine lv_aload_n hx hb dX2_attach_75 rfl (lv_at hl 2 rfl) ?_
    refine va_get (D := (dC, dI)) (ci := 1) (v := .ref (a 0)) (C := RX2) (T := TX2) (N := 4) hx hb hts in_X2 hown hK hP 0 rfl rfl 0 (by decide) (hts _ q152) (fun _ h9 => h9) rfl dX2_attach_76 ?_
    refine lv_iload_n hx hb dX2_attach_79 rfl (lv_at hl 4 rfl) ?_
    refine lv_bipush (v := (nI 8)) hx hb dX2_attach_80 (by decide) ?_
    refine kw_div hx hb (by omega) (by decide) (by decide) dX2_attach_82 ?_
    refine kw_zld (v := (mw_ob (ma (Y / 8)))) hx hb hK hP 1 0 rfl rfl (by omega) (by decide) rfl dX2_attach_83 ?_
    refine kw_ifneB (tgt := 90) hx hb dX2_attach_84 (by decide) (fun c8 => ?_) (fun c8 => ?_)
    · refine lv_aload_n hx hb dX2_attach_90 rfl (lv_at hl 2 rfl) ?_
      refine va_get (D := (dC, dI)) (ci := 1) (v := .ref (a 1)) (C := RX2) (T := TX2) (N := 4) hx hb hts in_X2 hown hK hP 0 rfl rfl 1 (by decide) (hts _ q153) (fun _ h9 => h9) rfl dX2_attach_91 ?_
      refine lv_iload_n hx hb dX2_attach_94 rfl (lv_at hl 1 rfl) ?_
      refine kw_ild (v := (mw_oc (ms (5 * (X / 8) + X % 8)))) hx hb hK hP 2 1 rfl rfl (by omega) (by decide) rfl dX2_attach_95 ?_
      refine kw_ifltO (tgt := 102) hx hb (fun c h => Nat.lt_trans (hM _ c (by omega) h) (by decide)) dX2_attach_96 (by decide) (fun c9 => ?_) (fun i c9 => ?_)
      · refine lv_aload_n hx hb dX2_attach_102 rfl (lv_at hl 2 rfl) ?_
        refine va_get (D := (dC, dI)) (ci := 1) (v := .ref (a 1)) (C := RX2) (T := TX2) (N := 4) hx hb hts in_X2 hown hK hP 0 rfl rfl 1 (by decide) (hts _ q153) (fun _ h9 => h9) rfl dX2_attach_103 ?_
        refine lv_iload hx hb dX2_attach_106 (lv_at hl 0 rfl) ?_
        refine kw_ild (v := (mw_oc (ms (5 * (Y / 8) + Y % 8)))) hx hb hK hP 2 1 rfl rfl (by omega) (by decide) rfl dX2_attach_108 ?_
        refine kw_ifltO (tgt := 122) hx hb (fun c h => Nat.lt_trans (hM _ c (by omega) h) (by decide)) dX2_attach_109 (by decide) (fun c10 => ?_) (fun si c10 => ?_)
        · refine lv_bipush (v := (-3)) hx hb dX2_attach_122 (by decide) ?_
          rw [hQQ]
          exact W.iret (v := (-3)) hx hb hr (fun t9 ht9 hW9 => ⟨⟨_, (ma, ms, mo, mc), rfl, by rw [mw_attach_in hX c5 hY c6]; simp [c7, c8, c9, c10], by rw [ht9]; exact hP, va_K.moved hW9.alike hK, hD⟩, hS.F ht9⟩) hS.2.2 dX2_attach_124
        refine lv_aload_n hx hb dX2_attach_112 rfl (lv_at hl 2 rfl) ?_
        refine va_get (D := (dC, dI)) (ci := 1) (v := .ref (a 2)) (C := RX2) (T := TX2) (N := 4) hx hb hts in_X2 hown hK hP 0 rfl rfl 2 (by decide) (hts _ q154) (fun _ h9 => h9) rfl dX2_attach_113 ?_
        refine lv_iload hx hb dX2_attach_116 (lv_at hl 0 rfl) ?_
        refine kw_zld (v := (mw_ob (mo (5 * (Y / 8) + Y % 8)))) hx hb hK hP 3 2 rfl rfl (by omega) (by decide) rfl dX2_attach_118 ?_
        refine kw_ifneB (tgt := 125) hx hb dX2_attach_119 (by decide) (fun c11 => ?_) (fun c11 => ?_)
        · refine lv_aload_n hx hb dX2_attach_125 rfl (lv_at hl 2 rfl) ?_
          refine va_get (D := (dC, dI)) (ci := 1) (v := .ref (a 1)) (C := RX2) (T := TX2) (N := 4) hx hb hts in_X2 hown hK hP 0 rfl rfl 1 (by decide) (hts _ q153) (fun _ h9 => h9) rfl dX2_attach_126 ?_
          refine lv_iload_n hx hb dX2_attach_129 rfl (lv_at hl 1 rfl) ?_
          refine lv_aload_n hx hb dX2_attach_130 rfl (lv_at hl 2 rfl) ?_
          refine va_get (D := (dC, dI)) (ci := 1) (v := .ref (a 1)) (C := RX2) (T := TX2) (N := 4) hx hb hts in_X2 hown hK hP 0 rfl rfl 1 (by decide) (hts _ q153) (fun _ h9 => h9) rfl dX2_attach_131 ?_
          refine lv_iload hx hb dX2_attach_134 (lv_at hl 0 rfl) ?_
          refine kw_ild (v := (nI si)) hx hb hK hP 2 1 rfl rfl (by omega) (by decide) (congrArg mw_oc c10) dX2_attach_136 ?_
          refine kw_ist (f' := mw_O (va_up ms (5 * (X / 8) + X % 8) ((some si)))) hx hb hK hP hD hS 2 1 rfl rfl (by omega) (by decide) (mw_O_up _ _ (some si)) dX2_attach_137 (fun H locs hP hD hS => ?_)
          have hP : va_P (dC, dI) vwCl (mw_M h0 a d ma (va_up ms (5 * (X / 8) + X % 8) ((some si))) mo mc) H := hP
          have hD : va_D A (mw_M h0 a d ma (va_up ms (5 * (X / 8) + X % 8) ((some si))) mo mc) := hD
          refine lv_aload_n hx hb dX2_attach_138 rfl (lv_at hl 2 rfl) ?_
          refine va_get (D := (dC, dI)) (ci := 1) (v := .ref (a 2)) (C := RX2) (T := TX2) (N := 4) hx hb hts in_X2 hown hK hP 0 rfl rfl 2 (by decide) (hts _ q154) (fun _ h9 => h9) rfl dX2_attach_139 ?_
          refine lv_iload_n hx hb dX2_attach_142 rfl (lv_at hl 1 rfl) ?_
          refine lv_iconst (v := (nI 1)) hx hb dX2_attach_143 (by decide) ?_
          refine kw_zst (f' := mw_B (va_up mo (5 * (X / 8) + X % 8) true)) hx hb hK hP hD hS 3 2 rfl rfl (by omega) (by decide) (mw_B_st1 _ _) dX2_attach_144 (fun H locs hP hD hS => ?_)
          have hP : va_P (dC, dI) vwCl (mw_M h0 a d ma (va_up ms (5 * (X / 8) + X % 8) ((some si))) (va_up mo (5 * (X / 8) + X % 8) true) mc) H := hP
          have hD : va_D A (mw_M h0 a d ma (va_up ms (5 * (X / 8) + X % 8) ((some si))) (va_up mo (5 * (X / 8) + X % 8) true) mc) := hD
          refine lv_iload_n hx hb dX2_attach_145 rfl (lv_at hl 3 rfl) ?_
          refine lv_bipush (v := (nI 8)) hx hb dX2_attach_146 (by decide) ?_
          refine kw_rem hx hb (by omega) (by decide) (by decide) dX2_attach_148 ?_
          rw [hQQ]
          exact W.iret (v := (nI (X % 8))) hx hb hr (fun t9 ht9 hW9 => ⟨⟨_, (ma, va_up ms (5 * (X / 8) + X % 8) ((some si)), va_up mo (5 * (X / 8) + X % 8) true, mc), rfl, by rw [mw_attach_in hX c5 hY c6]; simp [c7, c8, c9, c10, c11], by rw [ht9]; exact hP, va_K.moved hW9.alike hK, hD⟩, hS.F ht9⟩) hS.2.2 dX2_attach_149
        refine lv_bipush (v := (-3)) hx hb dX2_attach_122 (by decide) ?_
        rw [hQQ]
        exact W.iret (v := (-3)) hx hb hr (fun t9 ht9 hW9 => ⟨⟨_, (ma, ms, mo, mc), rfl, by rw [mw_attach_in hX c5 hY c6]; simp [c7, c8, c9, c10, c11], by rw [ht9]; exact hP, va_K.moved hW9.alike hK, hD⟩, hS.F ht9⟩) hS.2.2 dX2_attach_124
      refine lv_bipush (v := (-4)) hx hb dX2_attach_99 (by decide) ?_
      rw [hQQ]
      exact W.iret (v := (-4)) hx hb hr (fun t9 ht9 hW9 => ⟨⟨_, (ma, ms, mo, mc), rfl, by rw [mw_attach_in hX c5 hY c6]; simp [c7, c8, c9], by rw [ht9]; exact hP, va_K.moved hW9.alike hK, hD⟩, hS.F ht9⟩) hS.2.2 dX2_attach_101
    refine lv_bipush (v := (-2)) hx hb dX2_attach_87 (by decide) ?_
    rw [hQQ]
    exact W.iret (v := (-2)) hx hb hr (fun t9 ht9 hW9 => ⟨⟨_, (ma, ms, mo, mc), rfl, by rw [mw_attach_in hX c5 hY c6]; simp [c7, c8], by rw [ht9]; exact hP, va_K.moved hW9.alike hK, hD⟩, hS.F ht9⟩) hS.2.2 dX2_attach_89
  refine lv_iconst (v := (-1)) hx hb dX2_attach_36 (by decide) ?_
  rw [hQQ]
  exact W.iret (v := (-1)) hx hb hr (fun t9 ht9 hW9 => ⟨⟨_, (ma, ms, mo, mc), rfl, (mw_attach_bad (Or.inr (Or.inr (Or.inr (by rw [mw_cl (by omega)]; exact c6))))).symm, by rw [ht9]; exact hP, va_K.moved hW9.alike hK, hD⟩, hS.F ht9⟩) hS.2.2 dX2_attach_37
set_option maxHeartbeats 4000000 in
set_option maxRecDepth 100000 in
/-- CowMemoryModel.copyPage -/
theorem mX2_copyPage (l : Launch) (dC : Nat → ClassId) (dI : Nat → Nat → Nat) (h0 : Nat) (a : Nat → Nat) (d : Nat → ClassId) (sz : Nat) (ma : Nat → Bool) (ms : Nat → Option Nat) (mo : Nat → Bool) (mc : Nat → Int32) (hM : ∀ k s, k < 20 → ms k = some s → s < 20) (eo et ti : Nat) (heo : eo < 20) (het : et < 20) (hot : ms eo = some ti) (hen : ms et = none) : Met l yX2_copyPage (ws_ yX2_copyPage cX2_copyPage 5 none) ({ frames := 2, cells := 0, slots := 0, locals := 43 } : Room) (va_Pc [.ref h0, .int (nI eo), .int (nI et)] (fun U => U.heap.size = sz ∧ va_P (dC, dI) vwCl (mw_M h0 a d ma ms mo mc) U.heap ∧ va_K (dC, dI) vwCl (mw_MK d) U ∧ va_D (fun _ => True) (mw_M h0 a d ma ms mo mc))) (va_Qv (fun (u : (Nat → Option Nat) × (Nat → Bool) × (Nat → Int32)) => (ma, u.1, u.2.1, u.2.2) = mw_copy (ma, ms, mo, mc) eo et) (fun (u : ((Nat → Option Nat) × (Nat → Bool) × (Nat → Int32))) (t : State) => mw_BM dC dI (va_A (mw_M h0 a d ma ms mo mc) sz) h0 a d ma u.1 u.2.1 u.2.2 t) (va_A (mw_M h0 a d ma ms mo mc) sz)) 0 0 (va_A (mw_M h0 a d ma ms mo mc) sz) := by
  refine Met.ofW (cc := cX2_copyPage) (maxL := 5) (ret := none) (by decide) rfl ?_
  intro p e s m args below meth c s₁ B hml hv
  obtain ⟨rfl, hsz, hP, hK, hD0⟩ := hv
  have hx := B.exec
  have hb := B.bytes
  have hr := B.returns
  have hts := atoms_spec (ws := ws_ yX2_copyPage cX2_copyPage 5 none) B.pre
  have hts : ∀ w ∈ lw_all, w.before _ s = true := fun w h => hts w (List.mem_cons_of_mem _ h)
  have hown : s.vm.findClass RX2 = some m.cls := findClass_of_methodNamed B.named
  have hlocks := B.notSynchronized
  subst hsz
  have hD := hD0.self (sz := s.heap.size)
  generalize hAe : va_A (mw_M h0 a d ma ms mo mc) s.heap.size = A at hD ⊢
  have hA : ∀ q : Nat, s.heap.size ≤ q → A q := fun q h => by rw [← hAe]; exact Or.inr h
  have hS : va_S A s.heap s.heap [] := va_S.rf
  have hl := lv_entry ([.ref h0, .int (nI eo), .int (nI et)]) (n := 5) (Nat.le_of_ble_eq_true rfl)
  rw [lg_entry_eq]
  generalize (lg_sl ([.ref h0, .int (nI eo), .int (nI et)]) ++ List.replicate (5 - (lg_sl ([.ref h0, .int (nI eo), .int (nI et)])).length) Slot.unset).toArray = ls at hl ⊢
  have hl : lv_has ls 5 [(0, .ref h0), (1, .int (nI eo)), (2, .int (nI et))] := hl
  obtain ⟨QQ, hQQ⟩ : ∃ QQ, QQ = MQ below (va_Qv (fun (u : (Nat → Option Nat) × (Nat → Bool) × (Nat → Int32)) => (ma, u.1, u.2.1, u.2.2) = mw_copy (ma, ms, mo, mc) eo et) (fun (u : ((Nat → Option Nat) × (Nat → Bool) × (Nat → Int32))) (t : State) => mw_BM dC dI A h0 a d ma u.1 u.2.1 u.2.2 t) A) ([.ref h0, .int (nI eo), .int (nI et)] : List Value).toArray s 0 0 A := ⟨_, rfl⟩
  rw [← hQQ]
  have hti := hM eo ti heo hot
  refine lv_aload_n hx hb dX2_copyPage_0 rfl (lv_at hl 0 rfl) ?_
  refine va_get (D := (dC, dI)) (ci := 1) (v := .ref (a 1)) (C := RX2) (T := TX2) (N := 4) hx hb hts in_X2 hown hK hP 0 rfl rfl 1 (by decide) (hts _ q153) (fun _ h9 => h9) rfl dX2_copyPage_1 ?_
  refine lv_iload_n hx hb dX2_copyPage_4 rfl (lv_at hl 1 rfl) ?_
  refine kw_ild (v := (nI ti)) hx hb hK hP 2 1 rfl rfl (by omega) (by decide) (congrArg mw_oc hot) dX2_copyPage_5 ?_
  refine lv_istore_n (lv' := [(3, .int (nI ti)), (0, .ref h0), (1, .int (nI eo)), (2, .int (nI et))]) hx hb dX2_copyPage_6 rfl hl (by decide) rfl (fun ls hl => ?_)
  refine lv_aload_n hx hb dX2_copyPage_7 rfl (lv_at hl 1 rfl) ?_
  refine va_get (D := (dC, dI)) (ci := 1) (v := .ref (a 2)) (C := RX2) (T := TX2) (N := 4) hx hb hts in_X2 hown hK hP 0 rfl rfl 2 (by decide) (hts _ q154) (fun _ h9 => h9) rfl dX2_copyPage_8 ?_
  refine lv_iload_n hx hb dX2_copyPage_11 rfl (lv_at hl 2 rfl) ?_
  refine kw_zld (v := (mw_ob (mo eo))) hx hb hK hP 3 2 rfl rfl (by omega) (by decide) rfl dX2_copyPage_12 ?_
  refine kw_ifneB (tgt := 63) hx hb dX2_copyPage_13 (by decide) (fun c1 => ?_) (fun c1 => ?_)
  · refine lv_aload_n hx hb dX2_copyPage_63 rfl (lv_at hl 1 rfl) ?_
    refine va_get (D := (dC, dI)) (ci := 1) (v := .ref (a 1)) (C := RX2) (T := TX2) (N := 4) hx hb hts in_X2 hown hK hP 0 rfl rfl 1 (by decide) (hts _ q153) (fun _ h9 => h9) rfl dX2_copyPage_64 ?_
    refine lv_iload_n hx hb dX2_copyPage_67 rfl (lv_at hl 3 rfl) ?_
    refine lv_iload_n hx hb dX2_copyPage_68 rfl (lv_at hl 0 rfl) ?_
    refine kw_ist (f' := mw_O (va_up ms et ((some ti)))) hx hb hK hP hD hS 2 1 rfl rfl (by omega) (by decide) (mw_O_up _ _ (some ti)) dX2_copyPage_69 (fun H locs hP hD hS => ?_)
    have hP : va_P (dC, dI) vwCl (mw_M h0 a d ma (va_up ms et ((some ti))) mo mc) H := hP
    have hD : va_D A (mw_M h0 a d ma (va_up ms et ((some ti))) mo mc) := hD
    refine lv_aload_n hx hb dX2_copyPage_70 rfl (lv_at hl 1 rfl) ?_
    refine va_get (D := (dC, dI)) (ci := 1) (v := .ref (a 2)) (C := RX2) (T := TX2) (N := 4) hx hb hts in_X2 hown hK hP 0 rfl rfl 2 (by decide) (hts _ q154) (fun _ h9 => h9) rfl dX2_copyPage_71 ?_
    refine lv_iload_n hx hb dX2_copyPage_74 rfl (lv_at hl 3 rfl) ?_
    refine lv_aload_n hx hb dX2_copyPage_75 rfl (lv_at hl 1 rfl) ?_
    refine va_get (D := (dC, dI)) (ci := 1) (v := .ref (a 2)) (C := RX2) (T := TX2) (N := 4) hx hb hts in_X2 hown hK hP 0 rfl rfl 2 (by decide) (hts _ q154) (fun _ h9 => h9) rfl dX2_copyPage_76 ?_
    refine lv_iload_n hx hb dX2_copyPage_79 rfl (lv_at hl 2 rfl) ?_
    refine kw_zld (v := (mw_ob (mo eo))) hx hb hK hP 3 2 rfl rfl (by omega) (by decide) rfl dX2_copyPage_80 ?_
    refine kw_zst (f' := mw_B (va_up mo et (mo eo))) hx hb hK hP hD hS 3 2 rfl rfl (by omega) (by decide) (mw_B_st _ _ _) dX2_copyPage_81 (fun H locs hP hD hS => ?_)
    have hP : va_P (dC, dI) vwCl (mw_M h0 a d ma (va_up ms et ((some ti))) (va_up mo et (mo eo)) mc) H := hP
    have hD : va_D A (mw_M h0 a d ma (va_up ms et ((some ti))) (va_up mo et (mo eo)) mc) := hD
    rw [hQQ]
    exact W.vret hx hb hr (fun t9 ht9 hW9 => ⟨⟨(va_up ms et ((some ti)), va_up mo et (mo eo), mc), rfl, by unfold mw_copy; simp [c1, hot], by rw [ht9]; exact hP, va_K.moved hW9.alike hK, hD⟩, hS.F ht9⟩) hS.2.2 dX2_copyPage_82
  refine lv_aload_n hx hb dX2_copyPage_16 rfl (lv_at hl 1 rfl) ?_
  have hFc := va_free (wc := (mw_M h0 a d ma ms mo mc)) hD hS hA [0, 1, 2, 3, 4] rfl
  refine va_calli (va_runV (As := []) (rest := []) ⟨hx, hb, hml, hown, hts⟩ (mX2_newSheet l dC dI h0 a d s.heap.size ma ms mo mc hM) (cwV 0 hts (lw_V q177 q179 qs10 q15 q180) rfl rfl rfl (by decide +kernel) ⟨Nat.le_of_ble_eq_true rfl, Nat.le_of_ble_eq_true rfl⟩) ⟨fun a U g mk q => by obtain ⟨q0, q1, qP, qK, qD⟩ := q; exact ⟨q0, q1, qP, va_K.moved (u := U) (U := U.calling g mk a) (Vm.Alike.refl U.vm) qK, qD⟩, va_recv hK hP (ci := 1) (q0 := 0) rfl rfl, fun U hU hW => ⟨rfl, by rw [hU], by rw [hU]; exact hP, va_K.moved hW.alike hK, hD.weaken (fun _ _ _ _ => trivial)⟩⟩ rfl rfl hl.1 rfl (lv_room (Nat.le_of_ble_eq_true rfl)) dX2_copyPage_17 ⟨Nat.le_refl _, Nat.le_refl _⟩) hS (fun q _ h => hFc q h) hFc (fun r u t9 H1 locs ht9 hvm hw hB hz1 hk1 hS => ?_)
  have hw := hw
  obtain ⟨hP1, hK1, hD1⟩ : mw_BM dC dI _ h0 a d ma ms mo mc t9 := hB
  rw [ht9] at hP1
  obtain ⟨hP, hD⟩ := va_join (wr := []) (w1 := (mw_M h0 a d ma ms mo mc)) hP hD [0, 1, 2, 3, 4] [] rfl rfl (by decide) (by decide) hk1 hFc hP1 hD1
  generalize H1 = H at hP hS ⊢
  have hP : va_P (dC, dI) vwCl (mw_M h0 a d ma ms mo mc) H := hP
  have hD : va_D A (mw_M h0 a d ma ms mo mc) := hD
  refine W.widen (k := 0) (n := 0) (Nat.le_refl _) (Nat.le_refl _) ?_
  subst hw
  have hnl := mw_new_lt ms
  have hne : mw_new ms ≠ ti := fun z => mw_new_free het hen heo (by rw [hot, z])
  refine lv_istore_n (lv' := [(3, .int (nI (mw_new ms))), (0, .ref h0), (1, .int (nI eo)), (2, .int (nI et))]) hx hb dX2_copyPage_20 rfl hl (by decide) rfl (fun ls hl => ?_)
  refine lv_iconst (v := (nI 0)) hx hb dX2_copyPage_21 (by decide) ?_
  refine lv_istore (lv' := [(4, .int (nI 0)), (3, .int (nI (mw_new ms))), (0, .ref h0), (1, .int (nI eo)), (2, .int (nI et))]) hx hb dX2_copyPage_22 hl (by decide) rfl (fun ls hl => ?_)
  have lp : ∀ (n : Nat) (j : Nat), (j ≤ 4) → (4 - j) < n → ∀ (H : Heap) (locs : List Loc), va_P (dC, dI) vwCl (mw_M h0 a d ma ms mo (mw_fl mc (4 * mw_new ms) j (fun i => mc (4 * ti + i)))) H → va_D A (mw_M h0 a d ma ms mo (mw_fl mc (4 * mw_new ms) j (fun i => mc (4 * ti + i)))) → va_S A s.heap H locs → ∀ (ls : Array Slot), lv_has ls 5 [(4, .int (nI j)), (3, .int (nI (mw_new ms))), (0, .ref h0), (1, .int (nI eo)), (2, .int (nI et))] → W p l e ({ frames := 2, cells := 0, slots := 0, locals := 43 } : Room) s m ([.ref h0, .int (nI eo), .int (nI et)] : List Value).toArray below meth c H locs 0 0 QQ (F0 m 24 ls []) := by
    intro n
    induction n with
    | zero =>
      intro j hj hfuel
      exact absurd hfuel (by omega)
    | succ n ih =>
      intro j hj hfuel H locs hP hD hS ls hl
      refine lv_iload hx hb dX2_copyPage_24 (lv_at hl 0 rfl) ?_
      refine lv_iconst (v := (nI 4)) hx hb dX2_copyPage_26 (by decide) ?_
      refine kw_ge (tgt := 63) hx hb (by omega) (by omega) dX2_copyPage_27 (by decide) (fun c5 => ?_) (fun c5 => ?_)
      · obtain rfl : j = 4 := by omega
        refine lv_aload_n hx hb dX2_copyPage_63 rfl (lv_at hl 2 rfl) ?_
        refine va_get (D := (dC, dI)) (ci := 1) (v := .ref (a 1)) (C := RX2) (T := TX2) (N := 4) hx hb hts in_X2 hown hK hP 0 rfl rfl 1 (by decide) (hts _ q153) (fun _ h9 => h9) rfl dX2_copyPage_64 ?_
        refine lv_iload_n hx hb dX2_copyPage_67 rfl (lv_at hl 4 rfl) ?_
        refine lv_iload_n hx hb dX2_copyPage_68 rfl (lv_at hl 1 rfl) ?_
        refine kw_ist (f' := mw_O (va_up ms et ((some (mw_new ms))))) hx hb hK hP hD hS 2 1 rfl rfl (by omega) (by decide) (mw_O_up _ _ (some (mw_new ms))) dX2_copyPage_69 (fun H locs hP hD hS => ?_)
        have hP : va_P (dC, dI) vwCl (mw_M h0 a d ma (va_up ms et ((some (mw_new ms)))) mo (mw_fl mc (4 * mw_new ms) 4 (fun i => mc (4 * ti + i)))) H := hP
        have hD : va_D A (mw_M h0 a d ma (va_up ms et ((some (mw_new ms)))) mo (mw_fl mc (4 * mw_new ms) 4 (fun i => mc (4 * ti + i)))) := hD
        refine lv_aload_n hx hb dX2_copyPage_70 rfl (lv_at hl 2 rfl) ?_
        refine va_get (D := (dC, dI)) (ci := 1) (v := .ref (a 2)) (C := RX2) (T := TX2) (N := 4) hx hb hts in_X2 hown hK hP 0 rfl rfl 2 (by decide) (hts _ q154) (fun _ h9 => h9) rfl dX2_copyPage_71 ?_
        refine lv_iload_n hx hb dX2_copyPage_74 rfl (lv_at hl 4 rfl) ?_
        refine lv_aload_n hx hb dX2_copyPage_75 rfl (lv_at hl 2 rfl) ?_
        refine va_get (D := (dC, dI)) (ci := 1) (v := .ref (a 2)) (C := RX2) (T := TX2) (N := 4) hx hb hts in_X2 hown hK hP 0 rfl rfl 2 (by decide) (hts _ q154) (fun _ h9 => h9) rfl dX2_copyPage_76 ?_
        refine lv_iload_n hx hb dX2_copyPage_79 rfl (lv_at hl 3 rfl) ?_
        refine kw_zld (v := (mw_ob (mo eo))) hx hb hK hP 3 2 rfl rfl (by omega) (by decide) rfl dX2_copyPage_80 ?_
        refine kw_zst (f' := mw_B (va_up mo et (mo eo))) hx hb hK hP hD hS 3 2 rfl rfl (by omega) (by decide) (mw_B_st _ _ _) dX2_copyPage_81 (fun H locs hP hD hS => ?_)
        have hP : va_P (dC, dI) vwCl (mw_M h0 a d ma (va_up ms et ((some (mw_new ms)))) (va_up mo et (mo eo)) (mw_fl mc (4 * mw_new ms) 4 (fun i => mc (4 * ti + i)))) H := hP
        have hD : va_D A (mw_M h0 a d ma (va_up ms et ((some (mw_new ms)))) (va_up mo et (mo eo)) (mw_fl mc (4 * mw_new ms) 4 (fun i => mc (4 * ti + i)))) := hD
        rw [hQQ]
        exact W.vret hx hb hr (fun t9 ht9 hW9 => ⟨⟨(va_up ms et ((some (mw_new ms))), va_up mo et (mo eo), mw_fl mc (4 * mw_new ms) 4 (fun i => mc (4 * ti + i))), rfl, by unfold mw_copy; simp [c1, hot], by rw [ht9]; exact hP, va_K.moved hW9.alike hK, hD⟩, hS.F ht9⟩) hS.2.2 dX2_copyPage_82
      refine lv_aload_n hx hb dX2_copyPage_30 rfl (lv_at hl 2 rfl) ?_
      refine va_get (D := (dC, dI)) (ci := 1) (v := .ref (a 3)) (C := RX2) (T := TX2) (N := 4) hx hb hts in_X2 hown hK hP 0 rfl rfl 3 (by decide) (hts _ q155) (fun _ h9 => h9) rfl dX2_copyPage_31 ?_
      refine lv_iconst (v := (nI 4)) hx hb dX2_copyPage_34 (by decide) ?_
      refine lv_iload_n hx hb dX2_copyPage_35 rfl (lv_at hl 1 rfl) ?_
      refine kw_mul hx hb dX2_copyPage_36 ?_
      refine lv_iload hx hb dX2_copyPage_37 (lv_at hl 0 rfl) ?_
      refine kw_add hx hb dX2_copyPage_39 ?_
      refine lv_aload_n hx hb dX2_copyPage_40 rfl (lv_at hl 2 rfl) ?_
      refine va_get (D := (dC, dI)) (ci := 1) (v := .ref (a 3)) (C := RX2) (T := TX2) (N := 4) hx hb hts in_X2 hown hK hP 0 rfl rfl 3 (by decide) (hts _ q155) (fun _ h9 => h9) rfl dX2_copyPage_41 ?_
      refine lv_iconst (v := (nI 4)) hx hb dX2_copyPage_44 (by decide) ?_
      refine lv_aload_n hx hb dX2_copyPage_45 rfl (lv_at hl 2 rfl) ?_
      refine va_get (D := (dC, dI)) (ci := 1) (v := .ref (a 1)) (C := RX2) (T := TX2) (N := 4) hx hb hts in_X2 hown hK hP 0 rfl rfl 1 (by decide) (hts _ q153) (fun _ h9 => h9) rfl dX2_copyPage_46 ?_
      refine lv_iload_n hx hb dX2_copyPage_49 rfl (lv_at hl 3 rfl) ?_
      refine kw_ild (v := (nI ti)) hx hb hK hP 2 1 rfl rfl (by omega) (by decide) (congrArg mw_oc hot) dX2_copyPage_50 ?_
      refine kw_mul hx hb dX2_copyPage_51 ?_
      refine lv_iload hx hb dX2_copyPage_52 (lv_at hl 0 rfl) ?_
      refine kw_add hx hb dX2_copyPage_54 ?_
      refine kw_ild (v := (mc (4 * ti + j))) hx hb hK hP 4 3 rfl rfl (by omega) (by decide) (mw_fl_out (by omega)) dX2_copyPage_55 ?_
      refine kw_ist (f' := (mw_fl mc (4 * mw_new ms) (j + 1) (fun i => mc (4 * ti + i)))) hx hb hK hP hD hS 4 3 rfl rfl (by omega) (by decide) (mw_fl_s _ _ _ (fun i => mc (4 * ti + i))) dX2_copyPage_56 (fun H locs hP hD hS => ?_)
      have hP : va_P (dC, dI) vwCl (mw_M h0 a d ma ms mo (mw_fl mc (4 * mw_new ms) (j + 1) (fun i => mc (4 * ti + i)))) H := hP
      have hD : va_D A (mw_M h0 a d ma ms mo (mw_fl mc (4 * mw_new ms) (j + 1) (fun i => mc (4 * ti + i)))) := hD
      refine lv_iinc (v := (nI (j + 1))) (lv' := [(4, .int (nI (j + 1))), (3, .int (nI (mw_new ms))), (0, .ref h0), (1, .int (nI eo)), (2, .int (nI et))]) hx hb dX2_copyPage_57 hl (k := 0) rfl (mw_inc1 _) (by decide) rfl (fun ls hl => ?_)
      refine lv_goto (tgt := 24) hx hb dX2_copyPage_60 (by decide) ?_
      exact ih (j + 1) (by omega) (by omega) _ _ hP hD hS ls (lv_sub hl [0, 1, 2, 3, 4] rfl)
  rw [show mc = mw_fl mc (4 * mw_new ms) 0 (fun i => mc (4 * ti + i)) from (mw_fl_0 _ _ _).symm] at hP hD
  exact lp 5 0 (by omega) (by omega) _ _ hP hD hS ls (lv_sub hl [0, 1, 2, 3, 4] rfl)
set_option maxHeartbeats 4000000 in
set_option maxRecDepth 100000 in
/-- CowMemoryModel.fork -/
theorem mX2_fork (l : Launch) (dC : Nat → ClassId) (dI : Nat → Nat → Nat) (h0 : Nat) (a : Nat → Nat) (d : Nat → ClassId) (sz : Nat) (ma : Nat → Bool) (ms : Nat → Option Nat) (mo : Nat → Bool) (mc : Nat → Int32) (hM : ∀ k s, k < 20 → ms k = some s → s < 20) (hZ : ∀ p k, p < 4 → k < 5 → ma p = false → ms (5 * p + k) = none) (pp qq : Int32) : Met l yX2_fork (ws_ yX2_fork cX2_fork 5 (some .int)) ({ frames := 3, cells := 0, slots := 0, locals := 67 } : Room) (va_Pc [.ref h0, .int pp, .int qq] (fun U => U.heap.size = sz ∧ va_P (dC, dI) vwCl (mw_M h0 a d ma ms mo mc) U.heap ∧ va_K (dC, dI) vwCl (mw_MK d) U ∧ va_D (fun _ => True) (mw_M h0 a d ma ms mo mc))) (va_Qi (fun (r : Int32) (u : mw_V) => (r, u) = mw_fork (ma, ms, mo, mc) pp qq) (fun (u : mw_V) (t : State) => mw_BM dC dI (va_A (mw_M h0 a d ma ms mo mc) sz) h0 a d u.1 u.2.1 u.2.2.1 u.2.2.2 t) (va_A (mw_M h0 a d ma ms mo mc) sz)) 0 0 (va_A (mw_M h0 a d ma ms mo mc) sz) := by
  refine Met.ofW (cc := cX2_fork) (maxL := 5) (ret := (some .int)) (by decide) rfl ?_
  intro p e s m args below meth c s₁ B hml hv
  obtain ⟨rfl, hsz, hP, hK, hD0⟩ := hv
  have hx := B.exec
  have hb := B.bytes
  have hr := B.returns
  have hts := atoms_spec (ws := ws_ yX2_fork cX2_fork 5 (some .int)) B.pre
  have hts : ∀ w ∈ lw_all, w.before _ s = true := fun w h => hts w (List.mem_cons_of_mem _ h)
  have hown : s.vm.findClass RX2 = some m.cls := findClass_of_methodNamed B.named
  have hlocks := B.notSynchronized
  subst hsz
  have hD := hD0.self (sz := s.heap.size)
  generalize hAe : va_A (mw_M h0 a d ma ms mo mc) s.heap.size = A at hD ⊢
  have hA : ∀ q : Nat, s.heap.size ≤ q → A q := fun q h => by rw [← hAe]; exact Or.inr h
  have hS : va_S A s.heap s.heap [] := va_S.rf
  have hl := lv_entry ([.ref h0, .int pp, .int qq]) (n := 5) (Nat.le_of_ble_eq_true rfl)
  rw [lg_entry_eq]
  generalize (lg_sl ([.ref h0, .int pp, .int qq]) ++ List.replicate (5 - (lg_sl ([.ref h0, .int pp, .int qq])).length) Slot.unset).toArray = ls at hl ⊢
  have hl : lv_has ls 5 [(0, .ref h0), (1, .int pp), (2, .int qq)] := hl
  obtain ⟨QQ, hQQ⟩ : ∃ QQ, QQ = MQ below (va_Qi (fun (r : Int32) (u : mw_V) => (r, u) = mw_fork (ma, ms, mo, mc) pp qq) (fun (u : mw_V) (t : State) => mw_BM dC dI A h0 a d u.1 u.2.1 u.2.2.1 u.2.2.2 t) A) ([.ref h0, .int pp, .int qq] : List Value).toArray s 0 0 A := ⟨_, rfl⟩
  rw [← hQQ]
  refine lv_aload_n hx hb dX2_fork_0 rfl (lv_at hl 0 rfl) ?_
  refine lv_iload_n hx hb dX2_fork_1 rfl (lv_at hl 1 rfl) ?_
  have hFc := va_free (wc := (mw_M h0 a d ma ms mo mc)) hD hS hA [0, 1, 2, 3, 4] rfl
  refine va_calli (va_runV (As := [.int pp]) (rest := []) ⟨hx, hb, hml, hown, hts⟩ (mX2_isProcess l dC dI h0 a d s.heap.size ma ms mo mc pp) (cwV 1 hts (lw_V q169 q171 qs8 q15 q172) rfl rfl rfl (by decide +kernel) ⟨Nat.le_of_ble_eq_true rfl, Nat.le_of_ble_eq_true rfl⟩) ⟨fun a U g mk q => by obtain ⟨q0, q1, qP, qK, qD⟩ := q; exact ⟨q0, q1, qP, va_K.moved (u := U) (U := U.calling g mk a) (Vm.Alike.refl U.vm) qK, qD⟩, va_recv hK hP (ci := 1) (q0 := 0) rfl rfl, fun U hU hW => ⟨rfl, by rw [hU], by rw [hU]; exact hP, va_K.moved hW.alike hK, hD.weaken (fun _ _ _ _ => trivial)⟩⟩ rfl rfl hl.1 rfl (lv_room (Nat.le_of_ble_eq_true rfl)) dX2_fork_2 ⟨Nat.le_refl _, Nat.le_refl _⟩) hS (fun q _ h => hFc q h) hFc (fun r u t9 H1 locs ht9 hvm hw hB hz1 hk1 hS => ?_)
  have hw := hw
  obtain ⟨hP1, hK1, hD1⟩ : mw_BM dC dI _ h0 a d ma ms mo mc t9 := hB
  rw [ht9] at hP1
  obtain ⟨hP, hD⟩ := va_join (wr := []) (w1 := (mw_M h0 a d ma ms mo mc)) hP hD [0, 1, 2, 3, 4] [] rfl rfl (by decide) (by decide) hk1 hFc hP1 hD1
  generalize H1 = H at hP hS ⊢
  have hP : va_P (dC, dI) vwCl (mw_M h0 a d ma ms mo mc) H := hP
  have hD : va_D A (mw_M h0 a d ma ms mo mc) := hD
  refine W.widen (k := 0) (n := 0) (Nat.le_refl _) (Nat.le_refl _) ?_
  subst hw
  refine kw_ifeqB (tgt := 16) hx hb dX2_fork_5 (by decide) (fun c1 => ?_) (fun c1 => ?_)
  · refine lv_iconst (v := (-1)) hx hb dX2_fork_16 (by decide) ?_
    rw [hQQ]
    exact W.iret (v := (-1)) hx hb hr (fun t9 ht9 hW9 => ⟨⟨_, (ma, ms, mo, mc), rfl, (mw_fork_bad (Or.inl (mw_okb_f c1))).symm, by rw [ht9]; exact hP, va_K.moved hW9.alike hK, hD⟩, hS.F ht9⟩) hS.2.2 dX2_fork_17
  refine lv_aload_n hx hb dX2_fork_8 rfl (lv_at hl 0 rfl) ?_
  refine lv_iload_n hx hb dX2_fork_9 rfl (lv_at hl 2 rfl) ?_
  have hFc := va_free (wc := (mw_M h0 a d ma ms mo mc)) hD hS hA [0, 1, 2, 3, 4] rfl
  refine va_calli (va_runV (As := [.int qq]) (rest := []) ⟨hx, hb, hml, hown, hts⟩ (mX2_isProcess l dC dI h0 a d H.size ma ms mo mc qq) (cwV 1 hts (lw_V q169 q171 qs8 q15 q172) rfl rfl rfl (by decide +kernel) ⟨Nat.le_of_ble_eq_true rfl, Nat.le_of_ble_eq_true rfl⟩) ⟨fun a U g mk q => by obtain ⟨q0, q1, qP, qK, qD⟩ := q; exact ⟨q0, q1, qP, va_K.moved (u := U) (U := U.calling g mk a) (Vm.Alike.refl U.vm) qK, qD⟩, va_recv hK hP (ci := 1) (q0 := 0) rfl rfl, fun U hU hW => ⟨rfl, by rw [hU], by rw [hU]; exact hP, va_K.moved hW.alike hK, hD.weaken (fun _ _ _ _ => trivial)⟩⟩ rfl rfl hl.1 rfl (lv_room (Nat.le_of_ble_eq_true rfl)) dX2_fork_10 ⟨Nat.le_refl _, Nat.le_refl _⟩) hS (fun q _ h => hFc q h) hFc (fun r u t9 H1 locs ht9 hvm hw hB hz1 hk1 hS => ?_)
  have hw := hw
  obtain ⟨hP1, hK1, hD1⟩ : mw_BM dC dI _ h0 a d ma ms mo mc t9 := hB
  rw [ht9] at hP1
  obtain ⟨hP, hD⟩ := va_join (wr := []) (w1 := (mw_M h0 a d ma ms mo mc)) hP hD [0, 1, 2, 3, 4] [] rfl rfl (by decide) (by decide) hk1 hFc hP1 hD1
  generalize H1 = H at hP hS ⊢
  have hP : va_P (dC, dI) vwCl (mw_M h0 a d ma ms mo mc) H := hP
  have hD : va_D A (mw_M h0 a d ma ms mo mc) := hD
  refine W.widen (k := 0) (n := 0) (Nat.le_refl _) (Nat.le_refl _) ?_
  subst hw
  refine kw_ifneB (tgt := 18) hx hb dX2_fork_13 (by decide) (fun c2 => ?_) (fun c2 => ?_)
  · obtain ⟨P, hP3, rfl⟩ := mw_rng (n := 3) (by decide) (mw_okb_t c1).1 (mw_okb_t c1).2
    obtain ⟨Q, hQ3, rfl⟩ := mw_rng (n := 3) (by decide) (mw_okb_t c2).1 (mw_okb_t c2).2
    refine lv_aload_n hx hb dX2_fork_18 rfl (lv_at hl 0 rfl) ?_
    refine va_get (D := (dC, dI)) (ci := 1) (v := .ref (a 0)) (C := RX2) (T := TX2) (N := 4) hx hb hts in_X2 hown hK hP 0 rfl rfl 0 (by decide) (hts _ q152) (fun _ h9 => h9) rfl dX2_fork_19 ?_
    refine lv_iload_n hx hb dX2_fork_22 rfl (lv_at hl 1 rfl) ?_
    refine kw_zld (v := (mw_ob (ma P))) hx hb hK hP 1 0 rfl rfl (by omega) (by decide) rfl dX2_fork_23 ?_
    refine kw_ifneB (tgt := 30) hx hb dX2_fork_24 (by decide) (fun c3 => ?_) (fun c3 => ?_)
    · refine lv_aload_n hx hb dX2_fork_30 rfl (lv_at hl 0 rfl) ?_
      refine va_get (D := (dC, dI)) (ci := 1) (v := .ref (a 0)) (C := RX2) (T := TX2) (N := 4) hx hb hts in_X2 hown hK hP 0 rfl rfl 0 (by decide) (hts _ q152) (fun _ h9 => h9) rfl dX2_fork_31 ?_
      refine lv_iload_n hx hb dX2_fork_34 rfl (lv_at hl 2 rfl) ?_
      refine kw_zld (v := (mw_ob (ma Q))) hx hb hK hP 1 0 rfl rfl (by omega) (by decide) rfl dX2_fork_35 ?_
      refine kw_ifeqB (tgt := 42) hx hb dX2_fork_36 (by decide) (fun c4 => ?_) (fun c4 => ?_)
      · refine lv_aload_n hx hb dX2_fork_42 rfl (lv_at hl 0 rfl) ?_
        refine va_get (D := (dC, dI)) (ci := 1) (v := .ref (a 0)) (C := RX2) (T := TX2) (N := 4) hx hb hts in_X2 hown hK hP 0 rfl rfl 0 (by decide) (hts _ q152) (fun _ h9 => h9) rfl dX2_fork_43 ?_
        refine lv_iload_n hx hb dX2_fork_46 rfl (lv_at hl 2 rfl) ?_
        refine lv_iconst (v := (nI 1)) hx hb dX2_fork_47 (by decide) ?_
        refine kw_zst (f' := mw_B (va_up ma Q true)) hx hb hK hP hD hS 1 0 rfl rfl (by omega) (by decide) (mw_B_st1 _ _) dX2_fork_48 (fun H locs hP hD hS => ?_)
        have hP : va_P (dC, dI) vwCl (mw_M h0 a d (va_up ma Q true) ms mo mc) H := hP
        have hD : va_D A (mw_M h0 a d (va_up ma Q true) ms mo mc) := hD
        refine lv_iconst (v := (nI 0)) hx hb dX2_fork_49 (by decide) ?_
        refine lv_istore_n (lv' := [(3, .int (nI 0)), (0, .ref h0), (1, .int (nI P)), (2, .int (nI Q))]) hx hb dX2_fork_50 rfl hl (by decide) rfl (fun ls hl => ?_)
        refine lv_iconst (v := (nI 0)) hx hb dX2_fork_51 (by decide) ?_
        refine lv_istore (lv' := [(4, .int (nI 0)), (3, .int (nI 0)), (0, .ref h0), (1, .int (nI P)), (2, .int (nI Q))]) hx hb dX2_fork_52 hl (by decide) rfl (fun ls hl => ?_)
        have lp : ∀ (n : Nat) (j : Nat) (cn : Nat) (ms1 : Nat → Option Nat) (mo1 : Nat → Bool) (mc1 : Nat → Int32), (j ≤ 5) → (mw_fk (va_up ma Q true, ms, mo, mc) P Q j = (cn, va_up ma Q true, ms1, mo1, mc1)) → (∀ k s, k < 20 → ms1 k = some s → s < 20) → (∀ k, j ≤ k → k < 5 → ms1 (5 * Q + k) = none) → (5 - j) < n → ∀ (H : Heap) (locs : List Loc), va_P (dC, dI) vwCl (mw_M h0 a d (va_up ma Q true) ms1 mo1 mc1) H → va_D A (mw_M h0 a d (va_up ma Q true) ms1 mo1 mc1) → va_S A s.heap H locs → ∀ (ls : Array Slot), lv_has ls 5 [(4, .int (nI j)), (3, .int (nI cn)), (0, .ref h0), (1, .int (nI P)), (2, .int (nI Q))] → W p l e ({ frames := 3, cells := 0, slots := 0, locals := 67 } : Room) s m ([.ref h0, .int (nI P), .int (nI Q)] : List Value).toArray below meth c H locs 0 0 QQ (F0 m 54 ls []) := by
          intro n
          induction n with
          | zero =>
            intro j cn ms1 mo1 mc1 hj hE hM1 hz hfuel
            exact absurd hfuel (by omega)
          | succ n ih =>
            intro j cn ms1 mo1 mc1 hj hE hM1 hz hfuel H locs hP hD hS ls hl
            refine lv_iload hx hb dX2_fork_54 (lv_at hl 0 rfl) ?_
            refine lv_iconst (v := (nI 5)) hx hb dX2_fork_56 (by decide) ?_
            refine kw_ge (tgt := 99) hx hb (by omega) (by omega) dX2_fork_57 (by decide) (fun c5 => ?_) (fun c5 => ?_)
            · obtain rfl : j = 5 := by omega
              refine lv_iload_n hx hb dX2_fork_99 rfl (lv_at hl 1 rfl) ?_
              rw [hQQ]
              exact W.iret (v := (nI cn)) hx hb hr (fun t9 ht9 hW9 => ⟨⟨_, (va_up ma Q true, ms1, mo1, mc1), rfl, by rw [mw_fork_in hP3 hQ3]; simp [c3, c4, hE], by rw [ht9]; exact hP, va_K.moved hW9.alike hK, hD⟩, hS.F ht9⟩) hS.2.2 dX2_fork_100
            refine lv_aload_n hx hb dX2_fork_60 rfl (lv_at hl 2 rfl) ?_
            refine va_get (D := (dC, dI)) (ci := 1) (v := .ref (a 1)) (C := RX2) (T := TX2) (N := 4) hx hb hts in_X2 hown hK hP 0 rfl rfl 1 (by decide) (hts _ q153) (fun _ h9 => h9) rfl dX2_fork_61 ?_
            refine lv_iconst (v := (nI 5)) hx hb dX2_fork_64 (by decide) ?_
            refine lv_iload_n hx hb dX2_fork_65 rfl (lv_at hl 3 rfl) ?_
            refine kw_mul hx hb dX2_fork_66 ?_
            refine lv_iload hx hb dX2_fork_67 (lv_at hl 0 rfl) ?_
            refine kw_add hx hb dX2_fork_69 ?_
            refine kw_ild (v := (mw_oc (ms1 (5 * P + j)))) hx hb hK hP 2 1 rfl rfl (by omega) (by decide) rfl dX2_fork_70 ?_
            refine kw_ifltO (tgt := 93) hx hb (fun c h => Nat.lt_trans (hM1 _ c (by omega) h) (by decide)) dX2_fork_71 (by decide) (fun c6 => ?_) (fun si c6 => ?_)
            · refine lv_iinc (v := (nI (j + 1))) (lv' := [(4, .int (nI (j + 1))), (3, .int (nI cn)), (0, .ref h0), (1, .int (nI P)), (2, .int (nI Q))]) hx hb dX2_fork_93 hl (k := 0) rfl (mw_inc1 _) (by decide) rfl (fun ls hl => ?_)
              refine lv_goto (tgt := 54) hx hb dX2_fork_96 (by decide) ?_
              exact ih (j + 1) cn ms1 mo1 mc1 (by omega) (by rw [mw_fk_s0 hE c6]) hM1 (fun k h1 h2 => hz k (by omega) h2) (by omega) _ _ hP hD hS ls (lv_sub hl [0, 1, 2, 3, 4] rfl)
            refine lv_aload_n hx hb dX2_fork_74 rfl (lv_at hl 2 rfl) ?_
            refine lv_iconst (v := (nI 5)) hx hb dX2_fork_75 (by decide) ?_
            refine lv_iload_n hx hb dX2_fork_76 rfl (lv_at hl 3 rfl) ?_
            refine kw_mul hx hb dX2_fork_77 ?_
            refine lv_iload hx hb dX2_fork_78 (lv_at hl 0 rfl) ?_
            refine kw_add hx hb dX2_fork_80 ?_
            refine lv_iconst (v := (nI 5)) hx hb dX2_fork_81 (by decide) ?_
            refine lv_iload_n hx hb dX2_fork_82 rfl (lv_at hl 4 rfl) ?_
            refine kw_mul hx hb dX2_fork_83 ?_
            refine lv_iload hx hb dX2_fork_84 (lv_at hl 0 rfl) ?_
            refine kw_add hx hb dX2_fork_86 ?_
            have hFc := va_free (wc := (mw_M h0 a d (va_up ma Q true) ms1 mo1 mc1)) hD hS hA [0, 1, 2, 3, 4] rfl
            refine va_callv (va_runV (As := [.int (nI (5 * P + j)), .int (nI (5 * Q + j))]) (rest := []) ⟨hx, hb, hml, hown, hts⟩ (mX2_copyPage l dC dI h0 a d H.size (va_up ma Q true) ms1 mo1 mc1 hM1 (5 * P + j) (5 * Q + j) si (by omega) (by omega) c6 (hz j (Nat.le_refl _) (by omega))) (cwV 2 hts (lw_V q197 q199 qs12 q15 q200) rfl rfl rfl (by decide +kernel) ⟨Nat.le_of_ble_eq_true rfl, Nat.le_of_ble_eq_true rfl⟩) ⟨fun a U g mk q => by obtain ⟨q0, q1, qP, qK, qD⟩ := q; exact ⟨q0, q1, qP, va_K.moved (u := U) (U := U.calling g mk a) (Vm.Alike.refl U.vm) qK, qD⟩, va_recv hK hP (ci := 1) (q0 := 0) rfl rfl, fun U hU hW => ⟨rfl, by rw [hU], by rw [hU]; exact hP, va_K.moved hW.alike hK, hD.weaken (fun _ _ _ _ => trivial)⟩⟩ rfl rfl hl.1 rfl (lv_room (Nat.le_of_ble_eq_true rfl)) dX2_fork_87 ⟨Nat.le_refl _, Nat.le_refl _⟩) hS (fun q _ h => hFc q h) hFc (fun u t9 H1 locs ht9 hvm hw hB hz1 hk1 hS => ?_)
            obtain ⟨ms2, mo2, mc2⟩ := u
            dsimp only at hw
            obtain ⟨hP1, hK1, hD1⟩ : mw_BM dC dI _ h0 a d (va_up ma Q true) ms2 mo2 mc2 t9 := hB
            rw [ht9] at hP1
            obtain ⟨hP, hD⟩ := va_join (wr := []) (w1 := (mw_M h0 a d (va_up ma Q true) ms2 mo2 mc2)) hP hD [0, 1, 2, 3, 4] [] rfl rfl (by decide) (by decide) hk1 hFc hP1 hD1
            generalize H1 = H at hP hS ⊢
            have hP : va_P (dC, dI) vwCl (mw_M h0 a d (va_up ma Q true) ms2 mo2 mc2) H := hP
            have hD : va_D A (mw_M h0 a d (va_up ma Q true) ms2 mo2 mc2) := hD
            refine W.widen (k := 0) (n := 0) (Nat.le_refl _) (Nat.le_refl _) ?_
            refine lv_iinc (v := (nI (cn + 1))) (lv' := [(3, .int (nI (cn + 1))), (4, .int (nI j)), (0, .ref h0), (1, .int (nI P)), (2, .int (nI Q))]) hx hb dX2_fork_90 hl (k := 1) rfl (mw_inc1 _) (by decide) rfl (fun ls hl => ?_)
            refine lv_iinc (v := (nI (j + 1))) (lv' := [(4, .int (nI (j + 1))), (3, .int (nI (cn + 1))), (0, .ref h0), (1, .int (nI P)), (2, .int (nI Q))]) hx hb dX2_fork_93 hl (k := 1) rfl (mw_inc1 _) (by decide) rfl (fun ls hl => ?_)
            refine lv_goto (tgt := 54) hx hb dX2_fork_96 (by decide) ?_
            exact ih (j + 1) (cn + 1) ms2 mo2 mc2 (by omega) (by rw [mw_fk_s1 hE c6, ← hw]) (mw_copy_M hP3 c5 hM1 hw) (mw_copy_z hw hz) (by omega) _ _ hP hD hS ls (lv_sub hl [0, 1, 2, 3, 4] rfl)
        exact lp 6 0 0 ms mo mc (by omega) rfl hM (fun k _ h2 => hZ Q k (by omega) h2 c4) (by omega) _ _ hP hD hS ls (lv_sub hl [0, 1, 2, 3, 4] rfl)
      refine lv_bipush (v := (-4)) hx hb dX2_fork_39 (by decide) ?_
      rw [hQQ]
      exact W.iret (v := (-4)) hx hb hr (fun t9 ht9 hW9 => ⟨⟨_, (ma, ms, mo, mc), rfl, by rw [mw_fork_in hP3 hQ3]; simp [c3, c4], by rw [ht9]; exact hP, va_K.moved hW9.alike hK, hD⟩, hS.F ht9⟩) hS.2.2 dX2_fork_41
    refine lv_bipush (v := (-2)) hx hb dX2_fork_27 (by decide) ?_
    rw [hQQ]
    exact W.iret (v := (-2)) hx hb hr (fun t9 ht9 hW9 => ⟨⟨_, (ma, ms, mo, mc), rfl, by rw [mw_fork_in hP3 hQ3]; simp [c3], by rw [ht9]; exact hP, va_K.moved hW9.alike hK, hD⟩, hS.F ht9⟩) hS.2.2 dX2_fork_29
  refine lv_iconst (v := (-1)) hx hb dX2_fork_16 (by decide) ?_
  rw [hQQ]
  exact W.iret (v := (-1)) hx hb hr (fun t9 ht9 hW9 => ⟨⟨_, (ma, ms, mo, mc), rfl, (mw_fork_bad (Or.inr (mw_okb_f c2))).symm, by rw [ht9]; exact hP, va_K.moved hW9.alike hK, hD⟩, hS.F ht9⟩) hS.2.2 dX2_fork_17
end
section
/-! the constructors -/
def mw_iN (n : Nat) : Nat → Option Nat := fun k => if k < n then none else some 0
theorem mw_iN_0 : mw_iN 0 = fun _ => some 0 := by
  funext k
  unfold mw_iN
  rw [if_neg (by omega)]
theorem mw_iN_s (n : Nat) : va_up (mw_iN n) n none = mw_iN (n + 1) := by
  funext k
  unfold va_up mw_iN
  by_cases h : k = n
  · rw [if_pos h, if_pos (by omega)]
  · rw [if_neg h]
    by_cases h2 : k < n
    · rw [if_pos h2, if_pos (by omega)]
    · rw [if_neg h2, if_neg (by omega)]
set_option maxHeartbeats 4000000 in
set_option maxRecDepth 100000 in
/-- CowMemoryModel(frames) -/
theorem mX2_init (l : Launch) (dC : Nat → ClassId) (dI : Nat → Nat → Nat) (h0 : Nat) (sz : Nat) (xx : Int32) : Met l yX2_init (ws_ yX2_init cX2_init 3 none) ({ frames := 1, cells := 4, slots := 124, locals := 12 } : Room) (va_Pc [.ref h0, .int xx] (fun U => U.heap.size = sz ∧ va_P (dC, dI) vwCl [(h0, .inr (1, [.null, .null, .null, .null]))] U.heap ∧ va_K (dC, dI) vwCl [] U ∧ va_D (fun _ => True) [(h0, .inr (1, [.null, .null, .null, .null]))])) (va_Qv (fun (_ : Unit) => True) (fun (u : Unit) (t : State) => ∃ (a : Nat → Nat) (d : Nat → ClassId), mw_BM dC dI (va_A [(h0, .inr (1, [.null, .null, .null, .null]))] sz) h0 a d (va_up (fun _ => false) 0 true) (mw_iN 20) (fun _ => false) (fun _ => 0) t) (va_A [(h0, .inr (1, [.null, .null, .null, .null]))] sz)) 4 124 (va_A [(h0, .inr (1, [.null, .null, .null, .null]))] sz) := by
  refine Met.ofW (cc := cX2_init) (maxL := 3) (ret := none) (by decide) rfl ?_
  intro p e s m args below meth c s₁ B hml hv
  obtain ⟨rfl, hsz, hP, hK, hD0⟩ := hv
  have hx := B.exec
  have hb := B.bytes
  have hr := B.returns
  have hts := atoms_spec (ws := ws_ yX2_init cX2_init 3 none) B.pre
  have hts : ∀ w ∈ lw_all, w.before _ s = true := fun w h => hts w (List.mem_cons_of_mem _ h)
  have hown : s.vm.findClass RX2 = some m.cls := findClass_of_methodNamed B.named
  have hin : meth.name = "<init>" := (name_of_methodNamed B.named B.method).1
  have hlocks := B.notSynchronized
  subst hsz
  have hD := hD0.self (sz := s.heap.size)
  generalize hAe : va_A [(h0, .inr (1, [.null, .null, .null, .null]))] s.heap.size = A at hD ⊢
  have hA : ∀ q : Nat, s.heap.size ≤ q → A q := fun q h => by rw [← hAe]; exact Or.inr h
  have hS : va_S A s.heap s.heap [] := va_S.rf
  have hl := lv_entry ([.ref h0, .int xx]) (n := 3) (Nat.le_of_ble_eq_true rfl)
  rw [lg_entry_eq]
  generalize (lg_sl ([.ref h0, .int xx]) ++ List.replicate (3 - (lg_sl ([.ref h0, .int xx])).length) Slot.unset).toArray = ls at hl ⊢
  have hl : lv_has ls 3 [(0, .ref h0), (1, .int xx)] := hl
  obtain ⟨QQ, hQQ⟩ : ∃ QQ, QQ = MQ below (va_Qv (fun (_ : Unit) => True) (fun (u : Unit) (t : State) => ∃ (a : Nat → Nat) (d : Nat → ClassId), mw_BM dC dI A h0 a d (va_up (fun _ => false) 0 true) (mw_iN 20) (fun _ => false) (fun _ => 0) t) A) ([.ref h0, .int xx] : List Value).toArray s 4 124 A := ⟨_, rfl⟩
  rw [← hQQ]
  refine lv_aload_n hx hb dX2_init_0 rfl (lv_at hl 0 rfl) ?_
  refine W.objInit hx hb hown (hts _ q151) (hts _ q22) (hts _ q23) rfl (by rw [hml]; exact hl.1) rfl dX2_init_1 (Nat.le_of_ble_eq_true rfl) (Nat.le_of_ble_eq_true rfl) ?_
  refine W.eq (g2 := F0 m 4 ls []) rfl ?_
  refine lv_aload_n hx hb dX2_init_4 rfl (lv_at hl 0 rfl) ?_
  refine lv_iconst (v := (nI 4)) hx hb dX2_init_5 (by decide) ?_
  refine va_newa (a0 := (4, .inl (mw_B (fun _ => false)))) (N' := 4) (ty := .boolean) (atype := .boolean) hx hb (hts _ q64) rfl hK hP hD hS hA (fun cA => rfl) (by decide) (by decide) (by decide) (Nat.le_of_ble_eq_true rfl) (Nat.le_of_ble_eq_true rfl) dX2_init_6 (fun q0 g0 H hK hP hD hS => ?_)
  have hP : va_P (dC, dI) vwCl [(h0, .inr (1, [.null, .null, .null, .null])), (q0, .inl (g0, 4, .inl (mw_B (fun _ => false))))] H := hP
  have hD : va_D A [(h0, .inr (1, [.null, .null, .null, .null])), (q0, .inl (g0, 4, .inl (mw_B (fun _ => false))))] := hD
  have hK : va_K (dC, dI) vwCl [(g0, .boolean)] s := hK
  refine va_put (D := (dC, dI)) (ci := 1) (v := .ref q0) (ty := .array .boolean) (C := RX2) (T := TX2) (N := 4) hx hb hts in_X2 tyX2 tyX2_ok nmX2 hown hK hP hD hS 0 rfl rfl 0 (by decide) (hts _ q152) (fun _ h9 => h9) rfl (by decide +kernel) rfl rfl (Nat.le_of_ble_eq_true rfl) dX2_init_8 (fun H locs hP hD hS => ?_)
  have hP : va_P (dC, dI) vwCl [(h0, .inr (1, [.ref q0, .null, .null, .null])), (q0, .inl (g0, 4, .inl (mw_B (fun _ => false))))] H := hP
  have hD : va_D A [(h0, .inr (1, [.ref q0, .null, .null, .null])), (q0, .inl (g0, 4, .inl (mw_B (fun _ => false))))] := hD
  refine lv_aload_n hx hb dX2_init_11 rfl (lv_at hl 0 rfl) ?_
  refine lv_bipush (v := (nI 20)) hx hb dX2_init_12 (by decide) ?_
  refine va_newa (a0 := (20, .inl (mw_O (fun _ => some 0)))) (N' := 20) (ty := .int) (atype := .int) hx hb (hts _ q66) rfl hK hP hD hS hA (fun cA => rfl) (by decide) (by decide) (by decide) (Nat.le_of_ble_eq_true rfl) (Nat.le_of_ble_eq_true rfl) dX2_init_14 (fun q1 g1 H hK hP hD hS => ?_)
  have hP : va_P (dC, dI) vwCl [(h0, .inr (1, [.ref q0, .null, .null, .null])), (q0, .inl (g0, 4, .inl (mw_B (fun _ => false)))), (q1, .inl (g1, 20, .inl (mw_O (fun _ => some 0))))] H := hP
  have hD : va_D A [(h0, .inr (1, [.ref q0, .null, .null, .null])), (q0, .inl (g0, 4, .inl (mw_B (fun _ => false)))), (q1, .inl (g1, 20, .inl (mw_O (fun _ => some 0))))] := hD
  have hK : va_K (dC, dI) vwCl [(g0, .boolean), (g1, .int)] s := hK
  refine va_put (D := (dC, dI)) (ci := 1) (v := .ref q1) (ty := .array .int) (C := RX2) (T := TX2) (N := 4) hx hb hts in_X2 tyX2 tyX2_ok nmX2 hown hK hP hD hS 0 rfl rfl 1 (by decide) (hts _ q153) (fun _ h9 => h9) rfl (by decide +kernel) rfl rfl (Nat.le_of_ble_eq_true rfl) dX2_init_16 (fun H locs hP hD hS => ?_)
  have hP : va_P (dC, dI) vwCl [(h0, .inr (1, [.ref q0, .ref q1, .null, .null])), (q0, .inl (g0, 4, .inl (mw_B (fun _ => false)))), (q1, .inl (g1, 20, .inl (mw_O (fun _ => some 0))))] H := hP
  have hD : va_D A [(h0, .inr (1, [.ref q0, .ref q1, .null, .null])), (q0, .inl (g0, 4, .inl (mw_B (fun _ => false)))), (q1, .inl (g1, 20, .inl (mw_O (fun _ => some 0))))] := hD
  refine lv_aload_n hx hb dX2_init_19 rfl (lv_at hl 0 rfl) ?_
  refine lv_bipush (v := (nI 20)) hx hb dX2_init_20 (by decide) ?_
  refine va_newa (a0 := (20, .inl (mw_B (fun _ => false)))) (N' := 20) (ty := .boolean) (atype := .boolean) hx hb (hts _ q64) rfl hK hP hD hS hA (fun cA => rfl) (by decide) (by decide) (by decide) (Nat.le_of_ble_eq_true rfl) (Nat.le_of_ble_eq_true rfl) dX2_init_22 (fun q2 g2 H hK hP hD hS => ?_)
  have hP : va_P (dC, dI) vwCl [(h0, .inr (1, [.ref q0, .ref q1, .null, .null])), (q0, .inl (g0, 4, .inl (mw_B (fun _ => false)))), (q1, .inl (g1, 20, .inl (mw_O (fun _ => some 0)))), (q2, .inl (g2, 20, .inl (mw_B (fun _ => false))))] H := hP
  have hD : va_D A [(h0, .inr (1, [.ref q0, .ref q1, .null, .null])), (q0, .inl (g0, 4, .inl (mw_B (fun _ => false)))), (q1, .inl (g1, 20, .inl (mw_O (fun _ => some 0)))), (q2, .inl (g2, 20, .inl (mw_B (fun _ => false))))] := hD
  have hK : va_K (dC, dI) vwCl [(g0, .boolean), (g1, .int), (g2, .boolean)] s := hK
  refine va_put (D := (dC, dI)) (ci := 1) (v := .ref q2) (ty := .array .boolean) (C := RX2) (T := TX2) (N := 4) hx hb hts in_X2 tyX2 tyX2_ok nmX2 hown hK hP hD hS 0 rfl rfl 2 (by decide) (hts _ q154) (fun _ h9 => h9) rfl (by decide +kernel) rfl rfl (Nat.le_of_ble_eq_true rfl) dX2_init_24 (fun H locs hP hD hS => ?_)
  have hP : va_P (dC, dI) vwCl [(h0, .inr (1, [.ref q0, .ref q1, .ref q2, .null])), (q0, .inl (g0, 4, .inl (mw_B (fun _ => false)))), (q1, .inl (g1, 20, .inl (mw_O (fun _ => some 0)))), (q2, .inl (g2, 20, .inl (mw_B (fun _ => false))))] H := hP
  have hD : va_D A [(h0, .inr (1, [.ref q0, .ref q1, .ref q2, .null])), (q0, .inl (g0, 4, .inl (mw_B (fun _ => false)))), (q1, .inl (g1, 20, .inl (mw_O (fun _ => some 0)))), (q2, .inl (g2, 20, .inl (mw_B (fun _ => false))))] := hD
  refine lv_aload_n hx hb dX2_init_27 rfl (lv_at hl 0 rfl) ?_
  refine lv_bipush (v := (nI 80)) hx hb dX2_init_28 (by decide) ?_
  refine va_newa (a0 := (80, .inl (fun _ => 0))) (N' := 80) (ty := .int) (atype := .int) hx hb (hts _ q66) rfl hK hP hD hS hA (fun cA => rfl) (by decide) (by decide) (by decide) (Nat.le_of_ble_eq_true rfl) (Nat.le_of_ble_eq_true rfl) dX2_init_30 (fun q3 g3 H hK hP hD hS => ?_)
  have hP : va_P (dC, dI) vwCl [(h0, .inr (1, [.ref q0, .ref q1, .ref q2, .null])), (q0, .inl (g0, 4, .inl (mw_B (fun _ => false)))), (q1, .inl (g1, 20, .inl (mw_O (fun _ => some 0)))), (q2, .inl (g2, 20, .inl (mw_B (fun _ => false)))), (q3, .inl (g3, 80, .inl (fun _ => 0)))] H := hP
  have hD : va_D A [(h0, .inr (1, [.ref q0, .ref q1, .ref q2, .null])), (q0, .inl (g0, 4, .inl (mw_B (fun _ => false)))), (q1, .inl (g1, 20, .inl (mw_O (fun _ => some 0)))), (q2, .inl (g2, 20, .inl (mw_B (fun _ => false)))), (q3, .inl (g3, 80, .inl (fun _ => 0)))] := hD
  have hK : va_K (dC, dI) vwCl [(g0, .boolean), (g1, .int), (g2, .boolean), (g3, .int)] s := hK
  refine va_put (D := (dC, dI)) (ci := 1) (v := .ref q3) (ty := .array .int) (C := RX2) (T := TX2) (N := 4) hx hb hts in_X2 tyX2 tyX2_ok nmX2 hown hK hP hD hS 0 rfl rfl 3 (by decide) (hts _ q155) (fun _ h9 => h9) rfl (by decide +kernel) rfl rfl (Nat.le_of_ble_eq_true rfl) dX2_init_32 (fun H locs hP hD hS => ?_)
  have hP : va_P (dC, dI) vwCl [(h0, .inr (1, [.ref q0, .ref q1, .ref q2, .ref q3])), (q0, .inl (g0, 4, .inl (mw_B (fun _ => false)))), (q1, .inl (g1, 20, .inl (mw_O (fun _ => some 0)))), (q2, .inl (g2, 20, .inl (mw_B (fun _ => false)))), (q3, .inl (g3, 80, .inl (fun _ => 0)))] H := hP
  have hD : va_D A [(h0, .inr (1, [.ref q0, .ref q1, .ref q2, .ref q3])), (q0, .inl (g0, 4, .inl (mw_B (fun _ => false)))), (q1, .inl (g1, 20, .inl (mw_O (fun _ => some 0)))), (q2, .inl (g2, 20, .inl (mw_B (fun _ => false)))), (q3, .inl (g3, 80, .inl (fun _ => 0)))] := hD
  refine W.widen (k := 4) (n := 124) (Nat.le_of_ble_eq_true rfl) (Nat.le_of_ble_eq_true rfl) ?_
  suffices hmain : ∀ (a : Nat → Nat) (d : Nat → ClassId), va_K (dC, dI) vwCl (mw_MK d) s → va_P (dC, dI) vwCl (mw_M h0 a d (fun _ => false) (fun _ => some 0) (fun _ => false) (fun _ => 0)) H → va_D A (mw_M h0 a d (fun _ => false) (fun _ => some 0) (fun _ => false) (fun _ => 0)) → W p l e ({ frames := 1, cells := 4, slots := 124, locals := 12 } : Room) s m ([.ref h0, .int xx] : List Value).toArray below meth c H locs 4 124 QQ (F0 m 35 ls []) from hmain (fun k => match k with | 0 => q0 | 1 => q1 | 2 => q2 | _ => q3) (fun k => match k with | 0 => g0 | 1 => g1 | 2 => g2 | _ => g3) hK hP hD
  clear hK hP hD
  intro a d hK hP hD
  refine lv_aload_n hx hb dX2_init_35 rfl (lv_at hl 0 rfl) ?_
  refine va_get (D := (dC, dI)) (ci := 1) (v := .ref (a 0)) (C := RX2) (T := TX2) (N := 4) hx hb hts in_X2 hown hK hP 0 rfl rfl 0 (by decide) (hts _ q152) (fun _ h9 => h9) rfl dX2_init_36 ?_
  refine lv_iconst (v := (nI 0)) hx hb dX2_init_39 (by decide) ?_
  refine lv_iconst (v := (nI 1)) hx hb dX2_init_40 (by decide) ?_
  refine kw_zst (f' := mw_B (va_up (fun _ => false) 0 true)) hx hb hK hP hD hS 1 0 rfl rfl (by omega) (by decide) (mw_B_st1 _ _) dX2_init_41 (fun H locs hP hD hS => ?_)
  have hP : va_P (dC, dI) vwCl (mw_M h0 a d (va_up (fun _ => false) 0 true) (fun _ => some 0) (fun _ => false) (fun _ => 0)) H := hP
  have hD : va_D A (mw_M h0 a d (va_up (fun _ => false) 0 true) (fun _ => some 0) (fun _ => false) (fun _ => 0)) := hD
  refine lv_iconst (v := (nI 0)) hx hb dX2_init_42 (by decide) ?_
  refine lv_istore_n (lv' := [(2, .int (nI 0)), (0, .ref h0), (1, .int xx)]) hx hb dX2_init_43 rfl hl (by decide) rfl (fun ls hl => ?_)
  have lp : ∀ (n : Nat) (j : Nat), (j ≤ 20) → (20 - j) < n → ∀ (H : Heap) (locs : List Loc), va_P (dC, dI) vwCl (mw_M h0 a d (va_up (fun _ => false) 0 true) (mw_iN j) (fun _ => false) (fun _ => 0)) H → va_D A (mw_M h0 a d (va_up (fun _ => false) 0 true) (mw_iN j) (fun _ => false) (fun _ => 0)) → va_S A s.heap H locs → ∀ (ls : Array Slot), lv_has ls 3 [(2, .int (nI j)), (0, .ref h0), (1, .int xx)] → W p l e ({ frames := 1, cells := 4, slots := 124, locals := 12 } : Room) s m ([.ref h0, .int xx] : List Value).toArray below meth c H locs 4 124 QQ (F0 m 44 ls []) := by
    intro n
    induction n with
    | zero =>
      intro j hj hfuel
      exact absurd hfuel (by omega)
    | succ n ih =>
      intro j hj hfuel H locs hP hD hS ls hl
      refine lv_iload_n hx hb dX2_init_44 rfl (lv_at hl 0 rfl) ?_
      refine lv_bipush (v := (nI 20)) hx hb dX2_init_45 (by decide) ?_
      refine kw_ge (tgt := 63) hx hb (by omega) (by omega) dX2_init_47 (by decide) (fun c5 => ?_) (fun c5 => ?_)
      · obtain rfl : j = 20 := by omega
        rw [hQQ]
        exact W.vret hx hb hr (fun t9 ht9 hW9 => ⟨⟨(), rfl, trivial, a, d, by rw [ht9]; exact hP, va_K.moved hW9.alike hK, hD⟩, hS.F ht9⟩) hS.2.2 dX2_init_63
      refine lv_aload_n hx hb dX2_init_50 rfl (lv_at hl 1 rfl) ?_
      refine va_get (D := (dC, dI)) (ci := 1) (v := .ref (a 1)) (C := RX2) (T := TX2) (N := 4) hx hb hts in_X2 hown hK hP 0 rfl rfl 1 (by decide) (hts _ q153) (fun _ h9 => h9) rfl dX2_init_51 ?_
      refine lv_iload_n hx hb dX2_init_54 rfl (lv_at hl 0 rfl) ?_
      refine lv_iconst (v := (-1)) hx hb dX2_init_55 (by decide) ?_
      refine kw_ist (f' := mw_O (mw_iN (j + 1))) hx hb hK hP hD hS 2 1 rfl rfl (by omega) (by decide) ((mw_O_up _ _ none).trans (congrArg mw_O (mw_iN_s j))) dX2_init_56 (fun H locs hP hD hS => ?_)
      have hP : va_P (dC, dI) vwCl (mw_M h0 a d (va_up (fun _ => false) 0 true) (mw_iN (j + 1)) (fun _ => false) (fun _ => 0)) H := hP
      have hD : va_D A (mw_M h0 a d (va_up (fun _ => false) 0 true) (mw_iN (j + 1)) (fun _ => false) (fun _ => 0)) := hD
      refine lv_iinc (v := (nI (j + 1))) (lv' := [(2, .int (nI (j + 1))), (0, .ref h0), (1, .int xx)]) hx hb dX2_init_57 hl (k := 0) rfl (mw_inc1 _) (by decide) rfl (fun ls hl => ?_)
      refine lv_goto (tgt := 44) hx hb dX2_init_60 (by decide) ?_
      exact ih (j + 1) (by omega) (by omega) _ _ hP hD hS ls (lv_sub hl [0, 1, 2] rfl)
  rw [show (fun _ => some 0 : Nat → Option Nat) = mw_iN 0 from mw_iN_0.symm] at hP hD
  exact lp 21 0 (by omega) (by omega) _ _ hP hD hS ls (lv_sub hl [0, 1, 2] rfl)
end
section
/-! CowMemory: the private methods -/
theorem mw_upnone {f : Nat → Option Nat} {k c : Nat} (h : f c = none) : va_up f k none c = none := by
  by_cases z : c = k
  · rw [z]; exact mw_up_s
  · rw [mw_up_n z]; exact h
set_option maxHeartbeats 4000000 in
set_option maxRecDepth 100000 in
/-- CowMemory.check -/
theorem mX1_check (l : Launch) (dC : Nat → ClassId) (dI : Nat → Nat → Nat) (h0 : Nat) (a : Nat → Nat) (d : Nat → ClassId) (sz : Nat) (al : Nat → Bool) (sh : Nat → Option Nat) (is : Nat → Bool) (us : Nat → Nat) (fo : Nat → Option Nat) (sw : Nat → Bool) (sc : Nat → Int32) (F : Nat) (ho : Nat → Option Nat) (fr : Nat → Int32) (to : Nat → Bool) (di : Nat → Bool) (ha : Nat) (pp kk : Int32) : Met l yX1_check (ws_ yX1_check cX1_check 3 (some .int)) ({ frames := 0, cells := 0, slots := 0, locals := 0 } : Room) (va_Pc [.ref h0, .int pp, .int kk] (fun U => U.heap.size = sz ∧ va_P (dC, dI) vwCl (mw_C h0 a d al sh is us fo sw sc F ho fr to di ha) U.heap ∧ va_K (dC, dI) vwCl (mw_CK d) U ∧ va_D (fun _ => True) (mw_C h0 a d al sh is us fo sw sc F ho fr to di ha))) (va_Qi (fun (r : Int32) (_ : Unit) => r = mw_chk al pp kk) (fun (u : Unit) (t : State) => mw_BC dC dI (va_A (mw_C h0 a d al sh is us fo sw sc F ho fr to di ha) sz) h0 a d al sh is us fo sw sc F ho fr to di ha t) (va_A (mw_C h0 a d al sh is us fo sw sc F ho fr to di ha) sz)) 0 0 (va_A (mw_C h0 a d al sh is us fo sw sc F ho fr to di ha) sz) := by
  refine Met.ofW (cc := cX1_check) (maxL := 3) (ret := (some .int)) (by decide) rfl ?_
  intro p e s m args below meth c s₁ B hml hv
  obtain ⟨rfl, hsz, hP, hK, hD0⟩ := hv
  have hx := B.exec
  have hb := B.bytes
  have hr := B.returns
  have hts := atoms_spec (ws := ws_ yX1_check cX1_check 3 (some .int)) B.pre
  have hts : ∀ w ∈ lw_all, w.before _ s = true := fun w h => hts w (List.mem_cons_of_mem _ h)
  have hown : s.vm.findClass RX1 = some m.cls := findClass_of_methodNamed B.named
  have hlocks := B.notSynchronized
  subst hsz
  have hD := hD0.self (sz := s.heap.size)
  generalize hAe : va_A (mw_C h0 a d al sh is us fo sw sc F ho fr to di ha) s.heap.size = A at hD ⊢
  have hA : ∀ q : Nat, s.heap.size ≤ q → A q := fun q h => by rw [← hAe]; exact Or.inr h
  have hS : va_S A s.heap s.heap [] := va_S.rf
  have hl := lv_entry ([.ref h0, .int pp, .int kk]) (n := 3) (Nat.le_of_ble_eq_true rfl)
  rw [lg_entry_eq]
  generalize (lg_sl ([.ref h0, .int pp, .int kk]) ++ List.replicate (3 - (lg_sl ([.ref h0, .int pp, .int kk])).length) Slot.unset).toArray = ls at hl ⊢
  have hl : lv_has ls 3 [(0, .ref h0), (1, .int pp), (2, .int kk)] := hl
  obtain ⟨QQ, hQQ⟩ : ∃ QQ, QQ = MQ below (va_Qi (fun (r : Int32) (_ : Unit) => r = mw_chk al pp kk) (fun (u : Unit) (t : State) => mw_BC dC dI A h0 a d al sh is us fo sw sc F ho fr to di ha t) A) ([.ref h0, .int pp, .int kk] : List Value).toArray s 0 0 A := ⟨_, rfl⟩
  rw [← hQQ]
  refine lv_iload_n hx hb dX1_check_0 rfl (lv_at hl 1 rfl) ?_
  refine lv_if_lt (tgt := 18) hx hb dX1_check_1 (by decide) (fun c1 => ?_) (fun c1 => ?_)
  · refine lv_iconst (v := (-1)) hx hb dX1_check_18 (by decide) ?_
    rw [hQQ]
    exact W.iret (v := (-1)) hx hb hr (fun t9 ht9 hW9 => ⟨⟨_, (), rfl, (mw_chk_bad (Or.inl (Or.inl c1))).symm, by rw [ht9]; exact hP, va_K.moved hW9.alike hK, hD⟩, hS.F ht9⟩) hS.2.2 dX1_check_19
  refine lv_iload_n hx hb dX1_check_4 rfl (lv_at hl 1 rfl) ?_
  refine lv_iconst (v := (nI 3)) hx hb dX1_check_5 (by decide) ?_
  refine lv_icmp_gt (tgt := 18) hx hb dX1_check_6 (by decide) (fun c2 => ?_) (fun c2 => ?_)
  · refine lv_iconst (v := (-1)) hx hb dX1_check_18 (by decide) ?_
    rw [hQQ]
    exact W.iret (v := (-1)) hx hb hr (fun t9 ht9 hW9 => ⟨⟨_, (), rfl, (mw_chk_bad (Or.inl (Or.inr c2))).symm, by rw [ht9]; exact hP, va_K.moved hW9.alike hK, hD⟩, hS.F ht9⟩) hS.2.2 dX1_check_19
  refine lv_iload_n hx hb dX1_check_9 rfl (lv_at hl 2 rfl) ?_
  refine lv_if_lt (tgt := 18) hx hb dX1_check_10 (by decide) (fun c3 => ?_) (fun c3 => ?_)
  · refine lv_iconst (v := (-1)) hx hb dX1_check_18 (by decide) ?_
    rw [hQQ]
    exact W.iret (v := (-1)) hx hb hr (fun t9 ht9 hW9 => ⟨⟨_, (), rfl, (mw_chk_bad (Or.inr (Or.inl c3))).symm, by rw [ht9]; exact hP, va_K.moved hW9.alike hK, hD⟩, hS.F ht9⟩) hS.2.2 dX1_check_19
  refine lv_iload_n hx hb dX1_check_13 rfl (lv_at hl 2 rfl) ?_
  refine lv_iconst (v := (nI 4)) hx hb dX1_check_14 (by decide) ?_
  refine kw_leI (tgt := 20) hx hb dX1_check_15 (by decide) (fun c4 => ?_) (fun c4 => ?_)
  · obtain ⟨P, hP3, rfl⟩ := mw_rng (n := 3) (by decide) c1 c2
    obtain ⟨K, hK4, rfl⟩ := mw_rng (n := 4) (by decide) c3 c4
    refine lv_aload_n hx hb dX1_check_20 rfl (lv_at hl 0 rfl) ?_
    refine va_get (D := (dC, dI)) (ci := 0) (v := .ref (a 0)) (C := RX1) (T := TX1) (N := 13) hx hb hts in_X1 hown hK hP 0 rfl rfl 0 (by decide) (hts _ q24) (fun _ h9 => h9) rfl dX1_check_21 ?_
    refine lv_iload_n hx hb dX1_check_24 rfl (lv_at hl 1 rfl) ?_
    refine kw_zld (v := (mw_ob (al P))) hx hb hK hP 1 0 rfl rfl (by omega) (by decide) rfl dX1_check_25 ?_
    refine kw_ifeqB (tgt := 33) hx hb dX1_check_26 (by decide) (fun c5 => ?_) (fun c5 => ?_)
    · refine lv_bipush (v := (-2)) hx hb dX1_check_33 (by decide) ?_
      rw [hQQ]
      exact W.iret (v := (-2)) hx hb hr (fun t9 ht9 hW9 => ⟨⟨_, (), rfl, by rw [mw_chk_in hP3 hK4, if_pos c5], by rw [ht9]; exact hP, va_K.moved hW9.alike hK, hD⟩, hS.F ht9⟩) hS.2.2 dX1_check_35
    refine lv_iconst (v := (nI 0)) hx hb dX1_check_29 (by decide) ?_
    refine lv_goto (tgt := 35) hx hb dX1_check_30 (by decide) ?_
    rw [hQQ]
    exact W.iret (v := (nI 0)) hx hb hr (fun t9 ht9 hW9 => ⟨⟨_, (), rfl, by rw [mw_chk_in hP3 hK4, if_neg (by rw [c5]; decide)]; rfl, by rw [ht9]; exact hP, va_K.moved hW9.alike hK, hD⟩, hS.F ht9⟩) hS.2.2 dX1_check_35
  refine lv_iconst (v := (-1)) hx hb dX1_check_18 (by decide) ?_
  rw [hQQ]
  exact W.iret (v := (-1)) hx hb hr (fun t9 ht9 hW9 => ⟨⟨_, (), rfl, (mw_chk_bad (Or.inr (Or.inr c4))).symm, by rw [ht9]; exact hP, va_K.moved hW9.alike hK, hD⟩, hS.F ht9⟩) hS.2.2 dX1_check_19
set_option maxHeartbeats 4000000 in
set_option maxRecDepth 100000 in
/-- CowMemory.newContent -/
theorem mX1_newContent (l : Launch) (dC : Nat → ClassId) (dI : Nat → Nat → Nat) (h0 : Nat) (a : Nat → Nat) (d : Nat → ClassId) (sz : Nat) (al : Nat → Bool) (sh : Nat → Option Nat) (is : Nat → Bool) (us : Nat → Nat) (fo : Nat → Option Nat) (sw : Nat → Bool) (sc : Nat → Int32) (F : Nat) (ho : Nat → Option Nat) (fr : Nat → Int32) (to : Nat → Bool) (di : Nat → Bool) (ha : Nat) (hF : ∃ c, c < 20 ∧ us c = 0) (h20 : ∀ c, c < 20 → us c ≤ 20) : Met l yX1_newContent (ws_ yX1_newContent cX1_newContent 2 (some .int)) ({ frames := 0, cells := 0, slots := 0, locals := 0 } : Room) (va_Pc [.ref h0] (fun U => U.heap.size = sz ∧ va_P (dC, dI) vwCl (mw_C h0 a d al sh is us fo sw sc F ho fr to di ha) U.heap ∧ va_K (dC, dI) vwCl (mw_CK d) U ∧ va_D (fun _ => True) (mw_C h0 a d al sh is us fo sw sc F ho fr to di ha))) (va_Qi (fun (r : Int32) (u : Nat) => u < 20 ∧ r = nI u ∧ us u = 0) (fun (u : Nat) (t : State) => mw_BC dC dI (va_A (mw_C h0 a d al sh is us fo sw sc F ho fr to di ha) sz) h0 a d al sh is (va_up us u 1) (va_up fo u none) (va_up sw u false) sc F ho fr to di ha t) (va_A (mw_C h0 a d al sh is us fo sw sc F ho fr to di ha) sz)) 0 0 (va_A (mw_C h0 a d al sh is us fo sw sc F ho fr to di ha) sz) := by
  refine Met.ofW (cc := cX1_newContent) (maxL := 2) (ret := (some .int)) (by decide) rfl ?_
  intro p e s m args below meth c s₁ B hml hv
  obtain ⟨rfl, hsz, hP, hK, hD0⟩ := hv
  have hx := B.exec
  have hb := B.bytes
  have hr := B.returns
  have hts := atoms_spec (ws := ws_ yX1_newContent cX1_newContent 2 (some .int)) B.pre
  have hts : ∀ w ∈ lw_all, w.before _ s = true := fun w h => hts w (List.mem_cons_of_mem _ h)
  have hown : s.vm.findClass RX1 = some m.cls := findClass_of_methodNamed B.named
  have hlocks := B.notSynchronized
  subst hsz
  have hD := hD0.self (sz := s.heap.size)
  generalize hAe : va_A (mw_C h0 a d al sh is us fo sw sc F ho fr to di ha) s.heap.size = A at hD ⊢
  have hA : ∀ q : Nat, s.heap.size ≤ q → A q := fun q h => by rw [← hAe]; exact Or.inr h
  have hS : va_S A s.heap s.heap [] := va_S.rf
  have hl := lv_entry ([.ref h0]) (n := 2) (Nat.le_of_ble_eq_true rfl)
  rw [lg_entry_eq]
  generalize (lg_sl ([.ref h0]) ++ List.replicate (2 - (lg_sl ([.ref h0])).length) Slot.unset).toArray = ls at hl ⊢
  have hl : lv_has ls 2 [(0, .ref h0)] := hl
  obtain ⟨QQ, hQQ⟩ : ∃ QQ, QQ = MQ below (va_Qi (fun (r : Int32) (u : Nat) => u < 20 ∧ r = nI u ∧ us u = 0) (fun (u : Nat) (t : State) => mw_BC dC dI A h0 a d al sh is (va_up us u 1) (va_up fo u none) (va_up sw u false) sc F ho fr to di ha t) A) ([.ref h0] : List Value).toArray s 0 0 A := ⟨_, rfl⟩
  rw [← hQQ]
  refine lv_iconst (v := (nI 0)) hx hb dX1_newContent_0 (by decide) ?_
  refine lv_istore_n (lv' := [(1, .int (nI 0)), (0, .ref h0)]) hx hb dX1_newContent_1 rfl hl (by decide) rfl (fun ls hl => ?_)
  have lp : ∀ (n : Nat) (i : Nat), (i ≤ 19) → (∀ j, j < i → us j ≠ 0) → (19 - i) < n → ∀ (H : Heap) (locs : List Loc), va_P (dC, dI) vwCl (mw_C h0 a d al sh is us fo sw sc F ho fr to di ha) H → va_D A (mw_C h0 a d al sh is us fo sw sc F ho fr to di ha) → va_S A s.heap H locs → ∀ (ls : Array Slot), lv_has ls 2 [(1, .int (nI i)), (0, .ref h0)] → W p l e ({ frames := 0, cells := 0, slots := 0, locals := 0 } : Room) s m ([.ref h0] : List Value).toArray below meth c H locs 0 0 QQ (F0 m 2 ls []) := by
    intro n
    induction n with
    | zero =>
      intro i hi hn hfuel
      exact absurd hfuel (by omega)
    | succ n ih =>
      intro i hi hn hfuel H locs hP hD hS ls hl
      refine lv_iload_n hx hb dX1_newContent_2 rfl (lv_at hl 0 rfl) ?_
      refine lv_bipush (v := (nI 19)) hx hb dX1_newContent_3 (by decide) ?_
      refine kw_ge (tgt := 23) hx hb (by omega) (by omega) dX1_newContent_5 (by decide) (fun c1 => ?_) (fun c1 => ?_)
      · have h0i : us i = 0 := by
          obtain ⟨c0, hc0, hz⟩ := hF
          rcases Nat.lt_or_ge c0 i with q | q
          · exact absurd hz (hn c0 q)
          · rw [show i = c0 by omega]; exact hz
        refine lv_aload_n hx hb dX1_newContent_23 rfl (lv_at hl 1 rfl) ?_
        refine va_get (D := (dC, dI)) (ci := 0) (v := .ref (a 3)) (C := RX1) (T := TX1) (N := 13) hx hb hts in_X1 hown hK hP 0 rfl rfl 3 (by decide) (hts _ q27) (fun _ h9 => h9) rfl dX1_newContent_24 ?_
        refine lv_iload_n hx hb dX1_newContent_27 rfl (lv_at hl 0 rfl) ?_
        refine lv_iconst (v := (nI 1)) hx hb dX1_newContent_28 (by decide) ?_
        refine kw_bst (f' := mw_N (va_up us i 1)) hx hb hK hP hD hS 4 3 rfl rfl (by omega) (by decide) (mw_N_st _ _ (by omega)) dX1_newContent_29 (fun H locs hP hD hS => ?_)
        have hP : va_P (dC, dI) vwCl (mw_C h0 a d al sh is (va_up us i 1) fo sw sc F ho fr to di ha) H := hP
        have hD : va_D A (mw_C h0 a d al sh is (va_up us i 1) fo sw sc F ho fr to di ha) := hD
        refine lv_aload_n hx hb dX1_newContent_30 rfl (lv_at hl 1 rfl) ?_
        refine va_get (D := (dC, dI)) (ci := 0) (v := .ref (a 4)) (C := RX1) (T := TX1) (N := 13) hx hb hts in_X1 hown hK hP 0 rfl rfl 4 (by decide) (hts _ q28) (fun _ h9 => h9) rfl dX1_newContent_31 ?_
        refine lv_iload_n hx hb dX1_newContent_34 rfl (lv_at hl 0 rfl) ?_
        refine lv_iconst (v := (-1)) hx hb dX1_newContent_35 (by decide) ?_
        refine kw_bst (f' := mw_O (va_up fo i none)) hx hb hK hP hD hS 5 4 rfl rfl (by omega) (by decide) (mw_O_stN _ _) dX1_newContent_36 (fun H locs hP hD hS => ?_)
        have hP : va_P (dC, dI) vwCl (mw_C h0 a d al sh is (va_up us i 1) (va_up fo i none) sw sc F ho fr to di ha) H := hP
        have hD : va_D A (mw_C h0 a d al sh is (va_up us i 1) (va_up fo i none) sw sc F ho fr to di ha) := hD
        refine lv_aload_n hx hb dX1_newContent_37 rfl (lv_at hl 1 rfl) ?_
        refine va_get (D := (dC, dI)) (ci := 0) (v := .ref (a 5)) (C := RX1) (T := TX1) (N := 13) hx hb hts in_X1 hown hK hP 0 rfl rfl 5 (by decide) (hts _ q29) (fun _ h9 => h9) rfl dX1_newContent_38 ?_
        refine lv_iload_n hx hb dX1_newContent_41 rfl (lv_at hl 0 rfl) ?_
        refine lv_iconst (v := (nI 0)) hx hb dX1_newContent_42 (by decide) ?_
        refine kw_zst (f' := mw_B (va_up sw i false)) hx hb hK hP hD hS 6 5 rfl rfl (by omega) (by decide) (mw_B_st0 _ _) dX1_newContent_43 (fun H locs hP hD hS => ?_)
        have hP : va_P (dC, dI) vwCl (mw_C h0 a d al sh is (va_up us i 1) (va_up fo i none) (va_up sw i false) sc F ho fr to di ha) H := hP
        have hD : va_D A (mw_C h0 a d al sh is (va_up us i 1) (va_up fo i none) (va_up sw i false) sc F ho fr to di ha) := hD
        refine lv_iload_n hx hb dX1_newContent_44 rfl (lv_at hl 0 rfl) ?_
        rw [hQQ]
        exact W.iret (v := (nI i)) hx hb hr (fun t9 ht9 hW9 => ⟨⟨_, i, rfl, ⟨by omega, rfl, h0i⟩, by rw [ht9]; exact hP, va_K.moved hW9.alike hK, hD⟩, hS.F ht9⟩) hS.2.2 dX1_newContent_45
      have h20i := h20 i (by omega)
      refine lv_aload_n hx hb dX1_newContent_8 rfl (lv_at hl 1 rfl) ?_
      refine va_get (D := (dC, dI)) (ci := 0) (v := .ref (a 3)) (C := RX1) (T := TX1) (N := 13) hx hb hts in_X1 hown hK hP 0 rfl rfl 3 (by decide) (hts _ q27) (fun _ h9 => h9) rfl dX1_newContent_9 ?_
      refine lv_iload_n hx hb dX1_newContent_12 rfl (lv_at hl 0 rfl) ?_
      refine kw_bld (v := (nI (us i))) hx hb hK hP 4 3 rfl rfl (by omega) (by decide) rfl dX1_newContent_13 ?_
      refine kw_ifeqN (tgt := 23) hx hb (by omega) dX1_newContent_14 (by decide) (fun c2 => ?_) (fun c2 => ?_)
      · refine lv_aload_n hx hb dX1_newContent_23 rfl (lv_at hl 1 rfl) ?_
        refine va_get (D := (dC, dI)) (ci := 0) (v := .ref (a 3)) (C := RX1) (T := TX1) (N := 13) hx hb hts in_X1 hown hK hP 0 rfl rfl 3 (by decide) (hts _ q27) (fun _ h9 => h9) rfl dX1_newContent_24 ?_
        refine lv_iload_n hx hb dX1_newContent_27 rfl (lv_at hl 0 rfl) ?_
        refine lv_iconst (v := (nI 1)) hx hb dX1_newContent_28 (by decide) ?_
        refine kw_bst (f' := mw_N (va_up us i 1)) hx hb hK hP hD hS 4 3 rfl rfl (by omega) (by decide) (mw_N_st _ _ (by omega)) dX1_newContent_29 (fun H locs hP hD hS => ?_)
        have hP : va_P (dC, dI) vwCl (mw_C h0 a d al sh is (va_up us i 1) fo sw sc F ho fr to di ha) H := hP
        have hD : va_D A (mw_C h0 a d al sh is (va_up us i 1) fo sw sc F ho fr to di ha) := hD
        refine lv_aload_n hx hb dX1_newContent_30 rfl (lv_at hl 1 rfl) ?_
        refine va_get (D := (dC, dI)) (ci := 0) (v := .ref (a 4)) (C := RX1) (T := TX1) (N := 13) hx hb hts in_X1 hown hK hP 0 rfl rfl 4 (by decide) (hts _ q28) (fun _ h9 => h9) rfl dX1_newContent_31 ?_
        refine lv_iload_n hx hb dX1_newContent_34 rfl (lv_at hl 0 rfl) ?_
        refine lv_iconst (v := (-1)) hx hb dX1_newContent_35 (by decide) ?_
        refine kw_bst (f' := mw_O (va_up fo i none)) hx hb hK hP hD hS 5 4 rfl rfl (by omega) (by decide) (mw_O_stN _ _) dX1_newContent_36 (fun H locs hP hD hS => ?_)
        have hP : va_P (dC, dI) vwCl (mw_C h0 a d al sh is (va_up us i 1) (va_up fo i none) sw sc F ho fr to di ha) H := hP
        have hD : va_D A (mw_C h0 a d al sh is (va_up us i 1) (va_up fo i none) sw sc F ho fr to di ha) := hD
        refine lv_aload_n hx hb dX1_newContent_37 rfl (lv_at hl 1 rfl) ?_
        refine va_get (D := (dC, dI)) (ci := 0) (v := .ref (a 5)) (C := RX1) (T := TX1) (N := 13) hx hb hts in_X1 hown hK hP 0 rfl rfl 5 (by decide) (hts _ q29) (fun _ h9 => h9) rfl dX1_newContent_38 ?_
        refine lv_iload_n hx hb dX1_newContent_41 rfl (lv_at hl 0 rfl) ?_
        refine lv_iconst (v := (nI 0)) hx hb dX1_newContent_42 (by decide) ?_
        refine kw_zst (f' := mw_B (va_up sw i false)) hx hb hK hP hD hS 6 5 rfl rfl (by omega) (by decide) (mw_B_st0 _ _) dX1_newContent_43 (fun H locs hP hD hS => ?_)
        have hP : va_P (dC, dI) vwCl (mw_C h0 a d al sh is (va_up us i 1) (va_up fo i none) (va_up sw i false) sc F ho fr to di ha) H := hP
        have hD : va_D A (mw_C h0 a d al sh is (va_up us i 1) (va_up fo i none) (va_up sw i false) sc F ho fr to di ha) := hD
        refine lv_iload_n hx hb dX1_newContent_44 rfl (lv_at hl 0 rfl) ?_
        rw [hQQ]
        exact W.iret (v := (nI i)) hx hb hr (fun t9 ht9 hW9 => ⟨⟨_, i, rfl, ⟨by omega, rfl, c2⟩, by rw [ht9]; exact hP, va_K.moved hW9.alike hK, hD⟩, hS.F ht9⟩) hS.2.2 dX1_newContent_45
      refine lv_iinc (v := (nI (i + 1))) (lv' := [(1, .int (nI (i + 1))), (0, .ref h0)]) hx hb dX1_newContent_17 hl (k := 0) rfl (mw_inc1 _) (by decide) rfl (fun ls hl => ?_)
      refine lv_goto (tgt := 2) hx hb dX1_newContent_20 (by decide) ?_
      exact ih (i + 1) (by omega) (fun j hj => by rcases Nat.lt_or_ge j i with q | q; exact hn j q; rw [show j = i by omega]; exact c2) (by omega) _ _ hP hD hS ls (lv_sub hl [0, 1] rfl)
  exact lp 20 0 (by omega) (fun j hj => absurd hj (by omega)) (by omega) _ _ hP hD hS ls (lv_sub hl [0, 1] rfl)
set_option maxHeartbeats 4000000 in
set_option maxRecDepth 100000 in
/-- CowMemory.release -/
theorem mX1_release (l : Launch) (dC : Nat → ClassId) (dI : Nat → Nat → Nat) (h0 : Nat) (a : Nat → Nat) (d : Nat → ClassId) (sz : Nat) (al : Nat → Bool) (sh : Nat → Option Nat) (is : Nat → Bool) (us : Nat → Nat) (fo : Nat → Option Nat) (sw : Nat → Bool) (sc : Nat → Int32) (F : Nat) (ho : Nat → Option Nat) (fr : Nat → Int32) (to : Nat → Bool) (di : Nat → Bool) (ha : Nat) (vl : Nat → Nat → Int32) (hL : mw_L vl F fo sw sc ho fr di ha) (hU : mw_U sh is us fo) (ei ci : Nat) (hei : ei < 20) (hsi : sh ei = some ci) : Met l yX1_release (ws_ yX1_release cX1_release 3 none) ({ frames := 0, cells := 0, slots := 0, locals := 0 } : Room) (va_Pc [.ref h0, .int (nI ei)] (fun U => U.heap.size = sz ∧ va_P (dC, dI) vwCl (mw_C h0 a d al sh is us fo sw sc F ho fr to di ha) U.heap ∧ va_K (dC, dI) vwCl (mw_CK d) U ∧ va_D (fun _ => True) (mw_C h0 a d al sh is us fo sw sc F ho fr to di ha))) (va_Qv (fun (u : (Nat → Option Nat) × (Nat → Option Nat)) => mw_U (va_up sh ei none) is (va_up us ci (us ci - 1)) u.1 ∧ ∃ vl', mw_L vl' F u.1 sw sc u.2 fr di ha ∧ ∀ e' c', e' < 20 → e' ≠ ei → sh e' = some c' → vl' c' = vl c') (fun (u : (Nat → Option Nat) × (Nat → Option Nat)) (t : State) => mw_BC dC dI (va_A (mw_C h0 a d al sh is us fo sw sc F ho fr to di ha) sz) h0 a d al (va_up sh ei none) is (va_up us ci (us ci - 1)) u.1 sw sc F u.2 fr to di ha t) (va_A (mw_C h0 a d al sh is us fo sw sc F ho fr to di ha) sz)) 0 0 (va_A (mw_C h0 a d al sh is us fo sw sc F ho fr to di ha) sz) := by
  refine Met.ofW (cc := cX1_release) (maxL := 3) (ret := none) (by decide) rfl ?_
  intro p e s m args below meth c s₁ B hml hv
  obtain ⟨rfl, hsz, hP, hK, hD0⟩ := hv
  have hx := B.exec
  have hb := B.bytes
  have hr := B.returns
  have hts := atoms_spec (ws := ws_ yX1_release cX1_release 3 none) B.pre
  have hts : ∀ w ∈ lw_all, w.before _ s = true := fun w h => hts w (List.mem_cons_of_mem _ h)
  have hown : s.vm.findClass RX1 = some m.cls := findClass_of_methodNamed B.named
  have hlocks := B.notSynchronized
  subst hsz
  have hD := hD0.self (sz := s.heap.size)
  generalize hAe : va_A (mw_C h0 a d al sh is us fo sw sc F ho fr to di ha) s.heap.size = A at hD ⊢
  have hA : ∀ q : Nat, s.heap.size ≤ q → A q := fun q h => by rw [← hAe]; exact Or.inr h
  have hS : va_S A s.heap s.heap [] := va_S.rf
  have hl := lv_entry ([.ref h0, .int (nI ei)]) (n := 3) (Nat.le_of_ble_eq_true rfl)
  rw [lg_entry_eq]
  generalize (lg_sl ([.ref h0, .int (nI ei)]) ++ List.replicate (3 - (lg_sl ([.ref h0, .int (nI ei)])).length) Slot.unset).toArray = ls at hl ⊢
  have hl : lv_has ls 3 [(0, .ref h0), (1, .int (nI ei))] := hl
  obtain ⟨QQ, hQQ⟩ : ∃ QQ, QQ = MQ below (va_Qv (fun (u : (Nat → Option Nat) × (Nat → Option Nat)) => mw_U (va_up sh ei none) is (va_up us ci (us ci - 1)) u.1 ∧ ∃ vl', mw_L vl' F u.1 sw sc u.2 fr di ha ∧ ∀ e' c', e' < 20 → e' ≠ ei → sh e' = some c' → vl' c' = vl c') (fun (u : (Nat → Option Nat) × (Nat → Option Nat)) (t : State) => mw_BC dC dI A h0 a d al (va_up sh ei none) is (va_up us ci (us ci - 1)) u.1 sw sc F u.2 fr to di ha t) A) ([.ref h0, .int (nI ei)] : List Value).toArray s 0 0 A := ⟨_, rfl⟩
  rw [← hQQ]
  obtain ⟨hci, hpos⟩ := mw_U_pos hU hei hsi
  have h20 := mw_U_us hU hci
  refine lv_aload_n hx hb dX1_release_0 rfl (lv_at hl 0 rfl) ?_
  refine va_get (D := (dC, dI)) (ci := 0) (v := .ref (a 1)) (C := RX1) (T := TX1) (N := 13) hx hb hts in_X1 hown hK hP 0 rfl rfl 1 (by decide) (hts _ q25) (fun _ h9 => h9) rfl dX1_release_1 ?_
  refine lv_iload_n hx hb dX1_release_4 rfl (lv_at hl 1 rfl) ?_
  refine kw_bld (v := (nI ci)) hx hb hK hP 2 1 rfl rfl (by omega) (by decide) (congrArg mw_oc hsi) dX1_release_5 ?_
  refine lv_istore_n (lv' := [(2, .int (nI ci)), (0, .ref h0), (1, .int (nI ei))]) hx hb dX1_release_6 rfl hl (by decide) rfl (fun ls hl => ?_)
  refine lv_aload_n hx hb dX1_release_7 rfl (lv_at hl 1 rfl) ?_
  refine va_get (D := (dC, dI)) (ci := 0) (v := .ref (a 1)) (C := RX1) (T := TX1) (N := 13) hx hb hts in_X1 hown hK hP 0 rfl rfl 1 (by decide) (hts _ q25) (fun _ h9 => h9) rfl dX1_release_8 ?_
  refine lv_iload_n hx hb dX1_release_11 rfl (lv_at hl 2 rfl) ?_
  refine lv_iconst (v := (-1)) hx hb dX1_release_12 (by decide) ?_
  refine kw_bst (f' := mw_O (va_up sh ei none)) hx hb hK hP hD hS 2 1 rfl rfl (by omega) (by decide) (mw_O_stN _ _) dX1_release_13 (fun H locs hP hD hS => ?_)
  have hP : va_P (dC, dI) vwCl (mw_C h0 a d al (va_up sh ei none) is us fo sw sc F ho fr to di ha) H := hP
  have hD : va_D A (mw_C h0 a d al (va_up sh ei none) is us fo sw sc F ho fr to di ha) := hD
  refine lv_aload_n hx hb dX1_release_14 rfl (lv_at hl 1 rfl) ?_
  refine va_get (D := (dC, dI)) (ci := 0) (v := .ref (a 3)) (C := RX1) (T := TX1) (N := 13) hx hb hts in_X1 hown hK hP 0 rfl rfl 3 (by decide) (hts _ q27) (fun _ h9 => h9) rfl dX1_release_15 ?_
  refine lv_iload_n hx hb dX1_release_18 rfl (lv_at hl 0 rfl) ?_
  refine lv_dup2_11 hx hb dX1_release_19 rfl rfl ?_
  refine kw_bld (v := (nI (us ci))) hx hb hK hP 4 3 rfl rfl (by omega) (by decide) rfl dX1_release_20 ?_
  refine lv_iconst (v := (nI 1)) hx hb dX1_release_21 (by decide) ?_
  refine kw_sub hx hb (by omega) dX1_release_22 ?_
  refine kw_i2b hx hb (by omega) dX1_release_23 ?_
  refine kw_bst (f' := mw_N (va_up us ci (us ci - 1))) hx hb hK hP hD hS 4 3 rfl rfl (by omega) (by decide) (mw_N_st _ _ (by omega)) dX1_release_24 (fun H locs hP hD hS => ?_)
  have hP : va_P (dC, dI) vwCl (mw_C h0 a d al (va_up sh ei none) is (va_up us ci (us ci - 1)) fo sw sc F ho fr to di ha) H := hP
  have hD : va_D A (mw_C h0 a d al (va_up sh ei none) is (va_up us ci (us ci - 1)) fo sw sc F ho fr to di ha) := hD
  refine lv_aload_n hx hb dX1_release_25 rfl (lv_at hl 1 rfl) ?_
  refine va_get (D := (dC, dI)) (ci := 0) (v := .ref (a 3)) (C := RX1) (T := TX1) (N := 13) hx hb hts in_X1 hown hK hP 0 rfl rfl 3 (by decide) (hts _ q27) (fun _ h9 => h9) rfl dX1_release_26 ?_
  refine lv_iload_n hx hb dX1_release_29 rfl (lv_at hl 0 rfl) ?_
  refine kw_bld (v := (nI (us ci - 1))) hx hb hK hP 4 3 rfl rfl (by omega) (by decide) (congrArg nI mw_up_s) dX1_release_30 ?_
  refine kw_ifgtN (tgt := 43) hx hb (by omega) dX1_release_31 (by decide) (fun c1 => ?_) (fun c1 => ?_)
  · rw [hQQ]
    exact W.vret hx hb hr (fun t9 ht9 hW9 => ⟨⟨(fo, ho), rfl, ⟨mw_U_rel hU hei hsi (fun _ _ q => q) (fun z => absurd z (by omega)), vl, hL, fun _ _ _ _ _ => rfl⟩, by rw [ht9]; exact hP, va_K.moved hW9.alike hK, hD⟩, hS.F ht9⟩) hS.2.2 dX1_release_43
  refine lv_aload_n hx hb dX1_release_34 rfl (lv_at hl 1 rfl) ?_
  refine va_get (D := (dC, dI)) (ci := 0) (v := .ref (a 4)) (C := RX1) (T := TX1) (N := 13) hx hb hts in_X1 hown hK hP 0 rfl rfl 4 (by decide) (hts _ q28) (fun _ h9 => h9) rfl dX1_release_35 ?_
  refine lv_iload_n hx hb dX1_release_38 rfl (lv_at hl 0 rfl) ?_
  refine kw_bld (v := (mw_oc (fo ci))) hx hb hK hP 5 4 rfl rfl (by omega) (by decide) rfl dX1_release_39 ?_
  refine kw_ifgeO (tgt := 44) hx hb (fun f h => by have := (hL.2.1 _ f (by omega) h).1; have := hL.1.2.1; omega) dX1_release_40 (by decide) (fun fi c2 => ?_) (fun c2 => ?_)
  · have hfF := (hL.2.1 ci fi hci c2).1
    have hF6 := hL.1.2.1
    refine lv_aload_n hx hb dX1_release_44 rfl (lv_at hl 1 rfl) ?_
    refine va_get (D := (dC, dI)) (ci := 0) (v := .ref (a 8)) (C := RX1) (T := TX1) (N := 13) hx hb hts in_X1 hown hK hP 0 rfl rfl 8 (by decide) (hts _ q32) (fun _ h9 => h9) rfl dX1_release_45 ?_
    refine lv_aload_n hx hb dX1_release_48 rfl (lv_at hl 1 rfl) ?_
    refine va_get (D := (dC, dI)) (ci := 0) (v := .ref (a 4)) (C := RX1) (T := TX1) (N := 13) hx hb hts in_X1 hown hK hP 0 rfl rfl 4 (by decide) (hts _ q28) (fun _ h9 => h9) rfl dX1_release_49 ?_
    refine lv_iload_n hx hb dX1_release_52 rfl (lv_at hl 0 rfl) ?_
    refine kw_bld (v := (nI fi)) hx hb hK hP 5 4 rfl rfl (by omega) (by decide) (congrArg mw_oc c2) dX1_release_53 ?_
    refine lv_iconst (v := (-1)) hx hb dX1_release_54 (by decide) ?_
    refine kw_bst (f' := mw_O (va_up ho fi none)) hx hb hK hP hD hS 8 7 rfl rfl (by omega) (by decide) (mw_O_stN _ _) dX1_release_55 (fun H locs hP hD hS => ?_)
    have hP : va_P (dC, dI) vwCl (mw_C h0 a d al (va_up sh ei none) is (va_up us ci (us ci - 1)) fo sw sc F (va_up ho fi none) fr to di ha) H := hP
    have hD : va_D A (mw_C h0 a d al (va_up sh ei none) is (va_up us ci (us ci - 1)) fo sw sc F (va_up ho fi none) fr to di ha) := hD
    refine lv_aload_n hx hb dX1_release_56 rfl (lv_at hl 1 rfl) ?_
    refine va_get (D := (dC, dI)) (ci := 0) (v := .ref (a 4)) (C := RX1) (T := TX1) (N := 13) hx hb hts in_X1 hown hK hP 0 rfl rfl 4 (by decide) (hts _ q28) (fun _ h9 => h9) rfl dX1_release_57 ?_
    refine lv_iload_n hx hb dX1_release_60 rfl (lv_at hl 0 rfl) ?_
    refine lv_iconst (v := (-1)) hx hb dX1_release_61 (by decide) ?_
    refine kw_bst (f' := mw_O (va_up fo ci none)) hx hb hK hP hD hS 5 4 rfl rfl (by omega) (by decide) (mw_O_stN _ _) dX1_release_62 (fun H locs hP hD hS => ?_)
    have hP : va_P (dC, dI) vwCl (mw_C h0 a d al (va_up sh ei none) is (va_up us ci (us ci - 1)) (va_up fo ci none) sw sc F (va_up ho fi none) fr to di ha) H := hP
    have hD : va_D A (mw_C h0 a d al (va_up sh ei none) is (va_up us ci (us ci - 1)) (va_up fo ci none) sw sc F (va_up ho fi none) fr to di ha) := hD
    rw [hQQ]
    exact W.vret hx hb hr (fun t9 ht9 hW9 => ⟨⟨(va_up fo ci none, va_up ho fi none), rfl, ⟨mw_U_rel hU hei hsi (fun c' _ q => mw_upnone q) (fun _ => mw_up_s), va_up vl ci (mw_sv sw sc ci), mw_L_drop hL hci c2, fun e' c' he' hne q => mw_up_n (fun z => mw_only hU hei hsi (by omega) he' hne (by rw [q, z]))⟩, by rw [ht9]; exact hP, va_K.moved hW9.alike hK, hD⟩, hS.F ht9⟩) hS.2.2 dX1_release_63
  rw [hQQ]
  exact W.vret hx hb hr (fun t9 ht9 hW9 => ⟨⟨(fo, ho), rfl, ⟨mw_U_rel hU hei hsi (fun _ _ q => q) (fun _ => c2), vl, hL, fun _ _ _ _ _ => rfl⟩, by rw [ht9]; exact hP, va_K.moved hW9.alike hK, hD⟩, hS.F ht9⟩) hS.2.2 dX1_release_43
set_option maxHeartbeats 4000000 in
set_option maxRecDepth 100000 in
/-- CowMemory.pageOut -/
theorem mX1_pageOut (l : Launch) (dC : Nat → ClassId) (dI : Nat → Nat → Nat) (h0 : Nat) (a : Nat → Nat) (d : Nat → ClassId) (sz : Nat) (al : Nat → Bool) (sh : Nat → Option Nat) (is : Nat → Bool) (us : Nat → Nat) (fo : Nat → Option Nat) (sw : Nat → Bool) (sc : Nat → Int32) (F : Nat) (ho : Nat → Option Nat) (fr : Nat → Int32) (to : Nat → Bool) (di : Nat → Bool) (ha : Nat) (vl : Nat → Nat → Int32) (hL : mw_L vl F fo sw sc ho fr di ha) (fi ci : Nat) (hfi : fi < F) (hhi : ho fi = some ci) : Met l yX1_pageOut (ws_ yX1_pageOut cX1_pageOut 4 none) ({ frames := 0, cells := 0, slots := 0, locals := 0 } : Room) (va_Pc [.ref h0, .int (nI fi)] (fun U => U.heap.size = sz ∧ va_P (dC, dI) vwCl (mw_C h0 a d al sh is us fo sw sc F ho fr to di ha) U.heap ∧ va_K (dC, dI) vwCl (mw_CK d) U ∧ va_D (fun _ => True) (mw_C h0 a d al sh is us fo sw sc F ho fr to di ha))) (va_Qv (fun (u : (Nat → Bool) × (Nat → Int32)) => mw_L vl F (va_up fo ci none) u.1 u.2 (va_up ho fi none) fr di ha) (fun (u : (Nat → Bool) × (Nat → Int32)) (t : State) => mw_BC dC dI (va_A (mw_C h0 a d al sh is us fo sw sc F ho fr to di ha) sz) h0 a d al sh is us (va_up fo ci none) u.1 u.2 F (va_up ho fi none) fr to di ha t) (va_A (mw_C h0 a d al sh is us fo sw sc F ho fr to di ha) sz)) 0 0 (va_A (mw_C h0 a d al sh is us fo sw sc F ho fr to di ha) sz) := by
  refine Met.ofW (cc := cX1_pageOut) (maxL := 4) (ret := none) (by decide) rfl ?_
  intro p e s m args below meth c s₁ B hml hv
  obtain ⟨rfl, hsz, hP, hK, hD0⟩ := hv
  have hx := B.exec
  have hb := B.bytes
  have hr := B.returns
  have hts := atoms_spec (ws := ws_ yX1_pageOut cX1_pageOut 4 none) B.pre
  have hts : ∀ w ∈ lw_all, w.before _ s = true := fun w h => hts w (List.mem_cons_of_mem _ h)
  have hown : s.vm.findClass RX1 = some m.cls := findClass_of_methodNamed B.named
  have hlocks := B.notSynchronized
  subst hsz
  have hD := hD0.self (sz := s.heap.size)
  generalize hAe : va_A (mw_C h0 a d al sh is us fo sw sc F ho fr to di ha) s.heap.size = A at hD ⊢
  have hA : ∀ q : Nat, s.heap.size ≤ q → A q := fun q h => by rw [← hAe]; exact Or.inr h
  have hS : va_S A s.heap s.heap [] := va_S.rf
  have hl := lv_entry ([.ref h0, .int (nI fi)]) (n := 4) (Nat.le_of_ble_eq_true rfl)
  rw [lg_entry_eq]
  generalize (lg_sl ([.ref h0, .int (nI fi)]) ++ List.replicate (4 - (lg_sl ([.ref h0, .int (nI fi)])).length) Slot.unset).toArray = ls at hl ⊢
  have hl : lv_has ls 4 [(0, .ref h0), (1, .int (nI fi))] := hl
  obtain ⟨QQ, hQQ⟩ : ∃ QQ, QQ = MQ below (va_Qv (fun (u : (Nat → Bool) × (Nat → Int32)) => mw_L vl F (va_up fo ci none) u.1 u.2 (va_up ho fi none) fr di ha) (fun (u : (Nat → Bool) × (Nat → Int32)) (t : State) => mw_BC dC dI A h0 a d al sh is us (va_up fo ci none) u.1 u.2 F (va_up ho fi none) fr to di ha t) A) ([.ref h0, .int (nI fi)] : List Value).toArray s 0 0 A := ⟨_, rfl⟩
  rw [← hQQ]
  have hF6 := hL.1.2.1
  obtain ⟨hci, hfoi⟩ := hL.2.2.1 fi ci hfi hhi
  refine lv_aload_n hx hb dX1_pageOut_0 rfl (lv_at hl 0 rfl) ?_
  refine va_get (D := (dC, dI)) (ci := 0) (v := .ref (a 8)) (C := RX1) (T := TX1) (N := 13) hx hb hts in_X1 hown hK hP 0 rfl rfl 8 (by decide) (hts _ q32) (fun _ h9 => h9) rfl dX1_pageOut_1 ?_
  refine lv_iload_n hx hb dX1_pageOut_4 rfl (lv_at hl 1 rfl) ?_
  refine kw_bld (v := (nI ci)) hx hb hK hP 8 7 rfl rfl (by omega) (by decide) (congrArg mw_oc hhi) dX1_pageOut_5 ?_
  refine lv_istore_n (lv' := [(2, .int (nI ci)), (0, .ref h0), (1, .int (nI fi))]) hx hb dX1_pageOut_6 rfl hl (by decide) rfl (fun ls hl => ?_)
  refine lv_aload_n hx hb dX1_pageOut_7 rfl (lv_at hl 1 rfl) ?_
  refine va_get (D := (dC, dI)) (ci := 0) (v := .ref (a 11)) (C := RX1) (T := TX1) (N := 13) hx hb hts in_X1 hown hK hP 0 rfl rfl 11 (by decide) (hts _ q35) (fun _ h9 => h9) rfl dX1_pageOut_8 ?_
  refine lv_iload_n hx hb dX1_pageOut_11 rfl (lv_at hl 2 rfl) ?_
  refine kw_zld (v := (mw_ob (di fi))) hx hb hK hP 11 10 rfl rfl (by omega) (by decide) rfl dX1_pageOut_12 ?_
  refine kw_ifeqB (tgt := 56) hx hb dX1_pageOut_13 (by decide) (fun c1 => ?_) (fun c1 => ?_)
  · refine lv_aload_n hx hb dX1_pageOut_56 rfl (lv_at hl 1 rfl) ?_
    refine va_get (D := (dC, dI)) (ci := 0) (v := .ref (a 4)) (C := RX1) (T := TX1) (N := 13) hx hb hts in_X1 hown hK hP 0 rfl rfl 4 (by decide) (hts _ q28) (fun _ h9 => h9) rfl dX1_pageOut_57 ?_
    refine lv_iload_n hx hb dX1_pageOut_60 rfl (lv_at hl 0 rfl) ?_
    refine lv_iconst (v := (-1)) hx hb dX1_pageOut_61 (by decide) ?_
    refine kw_bst (f' := mw_O (va_up fo ci none)) hx hb hK hP hD hS 5 4 rfl rfl (by omega) (by decide) (mw_O_stN _ _) dX1_pageOut_62 (fun H locs hP hD hS => ?_)
    have hP : va_P (dC, dI) vwCl (mw_C h0 a d al sh is us (va_up fo ci none) sw sc F ho fr to di ha) H := hP
    have hD : va_D A (mw_C h0 a d al sh is us (va_up fo ci none) sw sc F ho fr to di ha) := hD
    refine lv_aload_n hx hb dX1_pageOut_63 rfl (lv_at hl 1 rfl) ?_
    refine va_get (D := (dC, dI)) (ci := 0) (v := .ref (a 8)) (C := RX1) (T := TX1) (N := 13) hx hb hts in_X1 hown hK hP 0 rfl rfl 8 (by decide) (hts _ q32) (fun _ h9 => h9) rfl dX1_pageOut_64 ?_
    refine lv_iload_n hx hb dX1_pageOut_67 rfl (lv_at hl 2 rfl) ?_
    refine lv_iconst (v := (-1)) hx hb dX1_pageOut_68 (by decide) ?_
    refine kw_bst (f' := mw_O (va_up ho fi none)) hx hb hK hP hD hS 8 7 rfl rfl (by omega) (by decide) (mw_O_stN _ _) dX1_pageOut_69 (fun H locs hP hD hS => ?_)
    have hP : va_P (dC, dI) vwCl (mw_C h0 a d al sh is us (va_up fo ci none) sw sc F (va_up ho fi none) fr to di ha) H := hP
    have hD : va_D A (mw_C h0 a d al sh is us (va_up fo ci none) sw sc F (va_up ho fi none) fr to di ha) := hD
    rw [hQQ]
    exact W.vret hx hb hr (fun t9 ht9 hW9 => ⟨⟨(sw, sc), rfl, mw_L_outC hL hfi hhi c1, by rw [ht9]; exact hP, va_K.moved hW9.alike hK, hD⟩, hS.F ht9⟩) hS.2.2 dX1_pageOut_70
  refine lv_iconst (v := (nI 0)) hx hb dX1_pageOut_16 (by decide) ?_
  refine lv_istore_n (lv' := [(3, .int (nI 0)), (2, .int (nI ci)), (0, .ref h0), (1, .int (nI fi))]) hx hb dX1_pageOut_17 rfl hl (by decide) rfl (fun ls hl => ?_)
  have lp : ∀ (n : Nat) (j : Nat), (j ≤ 4) → (4 - j) < n → ∀ (H : Heap) (locs : List Loc), va_P (dC, dI) vwCl (mw_C h0 a d al sh is us fo sw (mw_fl sc (4 * ci) j (fun i => fr (4 * fi + i))) F ho fr to di ha) H → va_D A (mw_C h0 a d al sh is us fo sw (mw_fl sc (4 * ci) j (fun i => fr (4 * fi + i))) F ho fr to di ha) → va_S A s.heap H locs → ∀ (ls : Array Slot), lv_has ls 4 [(3, .int (nI j)), (2, .int (nI ci)), (0, .ref h0), (1, .int (nI fi))] → W p l e ({ frames := 0, cells := 0, slots := 0, locals := 0 } : Room) s m ([.ref h0, .int (nI fi)] : List Value).toArray below meth c H locs 0 0 QQ (F0 m 18 ls []) := by
    intro n
    induction n with
    | zero =>
      intro j hj hfuel
      exact absurd hfuel (by omega)
    | succ n ih =>
      intro j hj hfuel H locs hP hD hS ls hl
      refine lv_iload_n hx hb dX1_pageOut_18 rfl (lv_at hl 0 rfl) ?_
      refine lv_iconst (v := (nI 4)) hx hb dX1_pageOut_19 (by decide) ?_
      refine kw_ge (tgt := 49) hx hb (by omega) (by omega) dX1_pageOut_20 (by decide) (fun c5 => ?_) (fun c5 => ?_)
      · obtain rfl : j = 4 := by omega
        refine lv_aload_n hx hb dX1_pageOut_49 rfl (lv_at hl 2 rfl) ?_
        refine va_get (D := (dC, dI)) (ci := 0) (v := .ref (a 5)) (C := RX1) (T := TX1) (N := 13) hx hb hts in_X1 hown hK hP 0 rfl rfl 5 (by decide) (hts _ q29) (fun _ h9 => h9) rfl dX1_pageOut_50 ?_
        refine lv_iload_n hx hb dX1_pageOut_53 rfl (lv_at hl 1 rfl) ?_
        refine lv_iconst (v := (nI 1)) hx hb dX1_pageOut_54 (by decide) ?_
        refine kw_zst (f' := mw_B (va_up sw ci true)) hx hb hK hP hD hS 6 5 rfl rfl (by omega) (by decide) (mw_B_st1 _ _) dX1_pageOut_55 (fun H locs hP hD hS => ?_)
        have hP : va_P (dC, dI) vwCl (mw_C h0 a d al sh is us fo (va_up sw ci true) (mw_fl sc (4 * ci) 4 (fun i => fr (4 * fi + i))) F ho fr to di ha) H := hP
        have hD : va_D A (mw_C h0 a d al sh is us fo (va_up sw ci true) (mw_fl sc (4 * ci) 4 (fun i => fr (4 * fi + i))) F ho fr to di ha) := hD
        refine lv_aload_n hx hb dX1_pageOut_56 rfl (lv_at hl 2 rfl) ?_
        refine va_get (D := (dC, dI)) (ci := 0) (v := .ref (a 4)) (C := RX1) (T := TX1) (N := 13) hx hb hts in_X1 hown hK hP 0 rfl rfl 4 (by decide) (hts _ q28) (fun _ h9 => h9) rfl dX1_pageOut_57 ?_
        refine lv_iload_n hx hb dX1_pageOut_60 rfl (lv_at hl 1 rfl) ?_
        refine lv_iconst (v := (-1)) hx hb dX1_pageOut_61 (by decide) ?_
        refine kw_bst (f' := mw_O (va_up fo ci none)) hx hb hK hP hD hS 5 4 rfl rfl (by omega) (by decide) (mw_O_stN _ _) dX1_pageOut_62 (fun H locs hP hD hS => ?_)
        have hP : va_P (dC, dI) vwCl (mw_C h0 a d al sh is us (va_up fo ci none) (va_up sw ci true) (mw_fl sc (4 * ci) 4 (fun i => fr (4 * fi + i))) F ho fr to di ha) H := hP
        have hD : va_D A (mw_C h0 a d al sh is us (va_up fo ci none) (va_up sw ci true) (mw_fl sc (4 * ci) 4 (fun i => fr (4 * fi + i))) F ho fr to di ha) := hD
        refine lv_aload_n hx hb dX1_pageOut_63 rfl (lv_at hl 2 rfl) ?_
        refine va_get (D := (dC, dI)) (ci := 0) (v := .ref (a 8)) (C := RX1) (T := TX1) (N := 13) hx hb hts in_X1 hown hK hP 0 rfl rfl 8 (by decide) (hts _ q32) (fun _ h9 => h9) rfl dX1_pageOut_64 ?_
        refine lv_iload_n hx hb dX1_pageOut_67 rfl (lv_at hl 3 rfl) ?_
        refine lv_iconst (v := (-1)) hx hb dX1_pageOut_68 (by decide) ?_
        refine kw_bst (f' := mw_O (va_up ho fi none)) hx hb hK hP hD hS 8 7 rfl rfl (by omega) (by decide) (mw_O_stN _ _) dX1_pageOut_69 (fun H locs hP hD hS => ?_)
        have hP : va_P (dC, dI) vwCl (mw_C h0 a d al sh is us (va_up fo ci none) (va_up sw ci true) (mw_fl sc (4 * ci) 4 (fun i => fr (4 * fi + i))) F (va_up ho fi none) fr to di ha) H := hP
        have hD : va_D A (mw_C h0 a d al sh is us (va_up fo ci none) (va_up sw ci true) (mw_fl sc (4 * ci) 4 (fun i => fr (4 * fi + i))) F (va_up ho fi none) fr to di ha) := hD
        rw [hQQ]
        exact W.vret hx hb hr (fun t9 ht9 hW9 => ⟨⟨(va_up sw ci true, mw_fl sc (4 * ci) 4 (fun i => fr (4 * fi + i))), rfl, mw_L_outD hL hfi hhi, by rw [ht9]; exact hP, va_K.moved hW9.alike hK, hD⟩, hS.F ht9⟩) hS.2.2 dX1_pageOut_70
      refine lv_aload_n hx hb dX1_pageOut_23 rfl (lv_at hl 2 rfl) ?_
      refine va_get (D := (dC, dI)) (ci := 0) (v := .ref (a 6)) (C := RX1) (T := TX1) (N := 13) hx hb hts in_X1 hown hK hP 0 rfl rfl 6 (by decide) (hts _ q30) (fun _ h9 => h9) rfl dX1_pageOut_24 ?_
      refine lv_iconst (v := (nI 4)) hx hb dX1_pageOut_27 (by decide) ?_
      refine lv_iload_n hx hb dX1_pageOut_28 rfl (lv_at hl 1 rfl) ?_
      refine kw_mul hx hb dX1_pageOut_29 ?_
      refine lv_iload_n hx hb dX1_pageOut_30 rfl (lv_at hl 0 rfl) ?_
      refine kw_add hx hb dX1_pageOut_31 ?_
      refine lv_aload_n hx hb dX1_pageOut_32 rfl (lv_at hl 2 rfl) ?_
      refine va_get (D := (dC, dI)) (ci := 0) (v := .ref (a 9)) (C := RX1) (T := TX1) (N := 13) hx hb hts in_X1 hown hK hP 0 rfl rfl 9 (by decide) (hts _ q33) (fun _ h9 => h9) rfl dX1_pageOut_33 ?_
      refine lv_iconst (v := (nI 4)) hx hb dX1_pageOut_36 (by decide) ?_
      refine lv_iload_n hx hb dX1_pageOut_37 rfl (lv_at hl 3 rfl) ?_
      refine kw_mul hx hb dX1_pageOut_38 ?_
      refine lv_iload_n hx hb dX1_pageOut_39 rfl (lv_at hl 0 rfl) ?_
      refine kw_add hx hb dX1_pageOut_40 ?_
      refine kw_ild (v := (fr (4 * fi + j))) hx hb hK hP 9 8 rfl rfl (by omega) (by decide) rfl dX1_pageOut_41 ?_
      refine kw_ist (f' := (mw_fl sc (4 * ci) (j + 1) (fun i => fr (4 * fi + i)))) hx hb hK hP hD hS 7 6 rfl rfl (by omega) (by decide) (mw_fl_s _ _ _ (fun i => fr (4 * fi + i))) dX1_pageOut_42 (fun H locs hP hD hS => ?_)
      have hP : va_P (dC, dI) vwCl (mw_C h0 a d al sh is us fo sw (mw_fl sc (4 * ci) (j + 1) (fun i => fr (4 * fi + i))) F ho fr to di ha) H := hP
      have hD : va_D A (mw_C h0 a d al sh is us fo sw (mw_fl sc (4 * ci) (j + 1) (fun i => fr (4 * fi + i))) F ho fr to di ha) := hD
      refine lv_iinc (v := (nI (j + 1))) (lv' := [(3, .int (nI (j + 1))), (2, .int (nI ci)), (0, .ref h0), (1, .int (nI fi))]) hx hb dX1_pageOut_43 hl (k := 0) rfl (mw_inc1 _) (by decide) rfl (fun ls hl => ?_)
      refine lv_goto (tgt := 18) hx hb dX1_pageOut_46 (by decide) ?_
      exact ih (j + 1) (by omega) (by omega) _ _ hP hD hS ls (lv_sub hl [0, 1, 2, 3] rfl)
  rw [show sc = mw_fl sc (4 * ci) 0 (fun i => fr (4 * fi + i)) from (mw_fl_0 _ _ _).symm] at hP hD
  exact lp 5 0 (by omega) (by omega) _ _ hP hD hS ls (lv_sub hl [0, 1, 2, 3] rfl)
set_option maxHeartbeats 4000000 in
set_option maxRecDepth 100000 in
/-- CowMemory.freeFrame -/
theorem mX1_freeFrame (l : Launch) (dC : Nat → ClassId) (dI : Nat → Nat → Nat) (h0 : Nat) (a : Nat → Nat) (d : Nat → ClassId) (sz : Nat) (al : Nat → Bool) (sh : Nat → Option Nat) (is : Nat → Bool) (us : Nat → Nat) (fo : Nat → Option Nat) (sw : Nat → Bool) (sc : Nat → Int32) (F : Nat) (ho : Nat → Option Nat) (fr : Nat → Int32) (to : Nat → Bool) (di : Nat → Bool) (ha : Nat) (vl : Nat → Nat → Int32) (hL : mw_L vl F fo sw sc ho fr di ha) : Met l yX1_freeFrame (ws_ yX1_freeFrame cX1_freeFrame 2 (some .int)) ({ frames := 1, cells := 0, slots := 0, locals := 23 } : Room) (va_Pc [.ref h0] (fun U => U.heap.size = sz ∧ va_P (dC, dI) vwCl (mw_C h0 a d al sh is us fo sw sc F ho fr to di ha) U.heap ∧ va_K (dC, dI) vwCl (mw_CK d) U ∧ va_D (fun _ => True) (mw_C h0 a d al sh is us fo sw sc F ho fr to di ha))) (va_Qi (fun (r : Int32) (u : (Nat → Option Nat) × (Nat → Bool) × (Nat → Int32) × (Nat → Option Nat) × (Nat → Bool) × (Nat)) => ∃ f, f < F ∧ r = nI f ∧ u.2.2.2.1 f = none ∧ mw_L vl F u.1 u.2.1 u.2.2.1 u.2.2.2.1 fr di u.2.2.2.2.2 ∧ ∀ c, c < 20 → fo c = none → u.1 c = none) (fun (u : (Nat → Option Nat) × (Nat → Bool) × (Nat → Int32) × (Nat → Option Nat) × (Nat → Bool) × (Nat)) (t : State) => mw_BC dC dI (va_A (mw_C h0 a d al sh is us fo sw sc F ho fr to di ha) sz) h0 a d al sh is us u.1 u.2.1 u.2.2.1 F u.2.2.2.1 fr u.2.2.2.2.1 di u.2.2.2.2.2 t) (va_A (mw_C h0 a d al sh is us fo sw sc F ho fr to di ha) sz)) 0 0 (va_A (mw_C h0 a d al sh is us fo sw sc F ho fr to di ha) sz) := by
  refine Met.ofW (cc := cX1_freeFrame) (maxL := 2) (ret := (some .int)) (by decide) rfl ?_
  intro p e s m args below meth c s₁ B hml hv
  obtain ⟨rfl, hsz, hP, hK, hD0⟩ := hv
  have hx := B.exec
  have hb := B.bytes
  have hr := B.returns
  have hts := atoms_spec (ws := ws_ yX1_freeFrame cX1_freeFrame 2 (some .int)) B.pre
  have hts : ∀ w ∈ lw_all, w.before _ s = true := fun w h => hts w (List.mem_cons_of_mem _ h)
  have hown : s.vm.findClass RX1 = some m.cls := findClass_of_methodNamed B.named
  have hlocks := B.notSynchronized
  subst hsz
  have hD := hD0.self (sz := s.heap.size)
  generalize hAe : va_A (mw_C h0 a d al sh is us fo sw sc F ho fr to di ha) s.heap.size = A at hD ⊢
  have hA : ∀ q : Nat, s.heap.size ≤ q → A q := fun q h => by rw [← hAe]; exact Or.inr h
  have hS : va_S A s.heap s.heap [] := va_S.rf
  have hl := lv_entry ([.ref h0]) (n := 2) (Nat.le_of_ble_eq_true rfl)
  rw [lg_entry_eq]
  generalize (lg_sl ([.ref h0]) ++ List.replicate (2 - (lg_sl ([.ref h0])).length) Slot.unset).toArray = ls at hl ⊢
  have hl : lv_has ls 2 [(0, .ref h0)] := hl
  obtain ⟨QQ, hQQ⟩ : ∃ QQ, QQ = MQ below (va_Qi (fun (r : Int32) (u : (Nat → Option Nat) × (Nat → Bool) × (Nat → Int32) × (Nat → Option Nat) × (Nat → Bool) × (Nat)) => ∃ f, f < F ∧ r = nI f ∧ u.2.2.2.1 f = none ∧ mw_L vl F u.1 u.2.1 u.2.2.1 u.2.2.2.1 fr di u.2.2.2.2.2 ∧ ∀ c, c < 20 → fo c = none → u.1 c = none) (fun (u : (Nat → Option Nat) × (Nat → Bool) × (Nat → Int32) × (Nat → Option Nat) × (Nat → Bool) × (Nat)) (t : State) => mw_BC dC dI A h0 a d al sh is us u.1 u.2.1 u.2.2.1 F u.2.2.2.1 fr u.2.2.2.2.1 di u.2.2.2.2.2 t) A) ([.ref h0] : List Value).toArray s 0 0 A := ⟨_, rfl⟩
  rw [← hQQ]
  have hF6 := hL.1.2.1
  have hF2 := hL.1.1
  have hha := hL.1.2.2
  refine lv_iconst (v := (nI 0)) hx hb dX1_freeFrame_0 (by decide) ?_
  refine lv_istore_n (lv' := [(1, .int (nI 0)), (0, .ref h0)]) hx hb dX1_freeFrame_1 rfl hl (by decide) rfl (fun ls hl => ?_)
  have lp : ∀ (n : Nat) (i : Nat), (i ≤ F) → (∀ j, j < i → ∃ c, ho j = some c) → (F - i) < n → ∀ (H : Heap) (locs : List Loc), va_P (dC, dI) vwCl (mw_C h0 a d al sh is us fo sw sc F ho fr to di ha) H → va_D A (mw_C h0 a d al sh is us fo sw sc F ho fr to di ha) → va_S A s.heap H locs → ∀ (ls : Array Slot), lv_has ls 2 [(1, .int (nI i)), (0, .ref h0)] → W p l e ({ frames := 1, cells := 0, slots := 0, locals := 23 } : Room) s m ([.ref h0] : List Value).toArray below meth c H locs 0 0 QQ (F0 m 2 ls []) := by
    intro n
    induction n with
    | zero =>
      intro i hi hn hfuel
      exact absurd hfuel (by omega)
    | succ n ih =>
      intro i hi hn hfuel H locs hP hD hS ls hl
      refine lv_iload_n hx hb dX1_freeFrame_2 rfl (lv_at hl 0 rfl) ?_
      refine lv_aload_n hx hb dX1_freeFrame_3 rfl (lv_at hl 1 rfl) ?_
      refine va_get (D := (dC, dI)) (ci := 0) (v := .int (nI F)) (C := RX1) (T := TX1) (N := 13) hx hb hts in_X1 hown hK hP 0 rfl rfl 7 (by decide) (hts _ q31) (fun _ h9 => h9) rfl dX1_freeFrame_4 ?_
      refine kw_ge (tgt := 27) hx hb (by omega) (by omega) dX1_freeFrame_7 (by decide) (fun c1 => ?_) (fun c1 => ?_)
      · refine lv_iconst (v := (nI 0)) hx hb dX1_freeFrame_27 (by decide) ?_
        refine lv_istore_n (lv' := [(1, .int (nI 0)), (0, .ref h0)]) hx hb dX1_freeFrame_28 rfl hl (by decide) rfl (fun ls hl => ?_)
        have hall : ∀ j, j < F → ∃ c, ho j = some c := fun j hj => hn j (by omega)
        have lq : ∀ (n : Nat) (k : Nat) (to1 : Nat → Bool) (ha1 : Nat), (k ≤ F) → (ha1 < F) → (F - k) < n → ∀ (H : Heap) (locs : List Loc), va_P (dC, dI) vwCl (mw_C h0 a d al sh is us fo sw sc F ho fr to1 di ha1) H → va_D A (mw_C h0 a d al sh is us fo sw sc F ho fr to1 di ha1) → va_S A s.heap H locs → ∀ (ls : Array Slot), lv_has ls 2 [(1, .int (nI k)), (0, .ref h0)] → W p l e ({ frames := 1, cells := 0, slots := 0, locals := 23 } : Room) s m ([.ref h0] : List Value).toArray below meth c H locs 0 0 QQ (F0 m 29 ls []) := by
          intro n
          induction n with
          | zero =>
            intro k to1 ha1 hk hh hfuel
            exact absurd hfuel (by omega)
          | succ n ih =>
            intro k to1 ha1 hk hh hfuel H locs hP hD hS ls hl
            refine lv_iload_n hx hb dX1_freeFrame_29 rfl (lv_at hl 0 rfl) ?_
            refine lv_aload_n hx hb dX1_freeFrame_30 rfl (lv_at hl 1 rfl) ?_
            refine va_get (D := (dC, dI)) (ci := 0) (v := .int (nI F)) (C := RX1) (T := TX1) (N := 13) hx hb hts in_X1 hown hK hP 0 rfl rfl 7 (by decide) (hts _ q31) (fun _ h9 => h9) rfl dX1_freeFrame_31 ?_
            refine kw_ge (tgt := 92) hx hb (by omega) (by omega) dX1_freeFrame_34 (by decide) (fun c5 => ?_) (fun c5 => ?_)
            · refine lv_aload_n hx hb dX1_freeFrame_92 rfl (lv_at hl 1 rfl) ?_
              refine va_get (D := (dC, dI)) (ci := 0) (v := .int (nI ha1)) (C := RX1) (T := TX1) (N := 13) hx hb hts in_X1 hown hK hP 0 rfl rfl 12 (by decide) (hts _ q36) (fun _ h9 => h9) rfl dX1_freeFrame_93 ?_
              refine lv_istore_n (lv' := [(1, .int (nI ha1)), (0, .ref h0)]) hx hb dX1_freeFrame_96 rfl hl (by decide) rfl (fun ls hl => ?_)
              refine lv_aload_n hx hb dX1_freeFrame_97 rfl (lv_at hl 1 rfl) ?_
              refine lv_aload_n hx hb dX1_freeFrame_98 rfl (lv_at hl 1 rfl) ?_
              refine va_get (D := (dC, dI)) (ci := 0) (v := .int (nI ha1)) (C := RX1) (T := TX1) (N := 13) hx hb hts in_X1 hown hK hP 0 rfl rfl 12 (by decide) (hts _ q36) (fun _ h9 => h9) rfl dX1_freeFrame_99 ?_
              refine lv_iconst (v := (nI 1)) hx hb dX1_freeFrame_102 (by decide) ?_
              refine kw_add hx hb dX1_freeFrame_103 ?_
              refine lv_aload_n hx hb dX1_freeFrame_104 rfl (lv_at hl 1 rfl) ?_
              refine va_get (D := (dC, dI)) (ci := 0) (v := .int (nI F)) (C := RX1) (T := TX1) (N := 13) hx hb hts in_X1 hown hK hP 0 rfl rfl 7 (by decide) (hts _ q31) (fun _ h9 => h9) rfl dX1_freeFrame_105 ?_
              refine kw_ge (tgt := 120) hx hb (by omega) (by omega) dX1_freeFrame_108 (by decide) (fun c9 => ?_) (fun c9 => ?_)
              · refine lv_iconst (v := (nI 0)) hx hb dX1_freeFrame_120 (by decide) ?_
                refine va_put (D := (dC, dI)) (ci := 0) (v := .int (nI 0)) (ty := .int) (C := RX1) (T := TX1) (N := 13) hx hb hts in_X1 tyX1 tyX1_ok nmX1 hown hK hP hD hS 0 rfl rfl 12 (by decide) (hts _ q36) (fun _ h9 => h9) rfl (by decide +kernel) rfl rfl (Nat.le_of_ble_eq_true rfl) dX1_freeFrame_121 (fun H locs hP hD hS => ?_)
                have hP : va_P (dC, dI) vwCl (mw_C h0 a d al sh is us fo sw sc F ho fr to1 di 0) H := hP
                have hD : va_D A (mw_C h0 a d al sh is us fo sw sc F ho fr to1 di 0) := hD
                refine lv_aload_n hx hb dX1_freeFrame_124 rfl (lv_at hl 1 rfl) ?_
                refine lv_iload_n hx hb dX1_freeFrame_125 rfl (lv_at hl 0 rfl) ?_
                obtain ⟨c0, hc0⟩ := hall ha1 hh
                have hFc := va_free (wc := (mw_C h0 a d al sh is us fo sw sc F ho fr to1 di 0)) hD hS hA [0, 1, 2, 3, 4, 5, 6, 7, 8, 9, 10, 11] rfl
                refine va_callv (va_runV (As := [.int (nI ha1)]) (rest := []) ⟨hx, hb, hml, hown, hts⟩ (mX1_pageOut l dC dI h0 a d H.size al sh is us fo sw sc F ho fr to1 di 0 vl (mw_L_ha hL (by omega)) ha1 c0 hh hc0) (cwV 1 hts (lw_V q115 q117 qs6 q14 q118) rfl rfl rfl (by decide +kernel) ⟨Nat.le_of_ble_eq_true rfl, Nat.le_of_ble_eq_true rfl⟩) ⟨fun a U g mk q => by obtain ⟨q0, q1, qP, qK, qD⟩ := q; exact ⟨q0, q1, qP, va_K.moved (u := U) (U := U.calling g mk a) (Vm.Alike.refl U.vm) qK, qD⟩, va_recv hK hP (ci := 0) (q0 := 0) rfl rfl, fun U hU hW => ⟨rfl, by rw [hU], by rw [hU]; exact hP, va_K.moved hW.alike hK, hD.weaken (fun _ _ _ _ => trivial)⟩⟩ rfl rfl hl.1 rfl (lv_room (Nat.le_of_ble_eq_true rfl)) dX1_freeFrame_126 ⟨Nat.le_refl _, Nat.le_refl _⟩) hS (fun q _ h => hFc q h) hFc (fun u t9 H1 locs ht9 hvm hw hB hz1 hk1 hS => ?_)
                obtain ⟨sw1, sc1⟩ := u
                dsimp only at hw
                obtain ⟨hP1, hK1, hD1⟩ : mw_BC dC dI _ h0 a d al sh is us (va_up fo c0 none) sw1 sc1 F (va_up ho ha1 none) fr to1 di 0 t9 := hB
                rw [ht9] at hP1
                obtain ⟨hP, hD⟩ := va_join (wr := []) (w1 := (mw_C h0 a d al sh is us (va_up fo c0 none) sw1 sc1 F (va_up ho ha1 none) fr to1 di 0)) hP hD [0, 1, 2, 3, 4, 5, 6, 7, 8, 9, 10, 11] [] rfl rfl (by decide) (by decide) hk1 hFc hP1 hD1
                generalize H1 = H at hP hS ⊢
                have hP : va_P (dC, dI) vwCl (mw_C h0 a d al sh is us (va_up fo c0 none) sw1 sc1 F (va_up ho ha1 none) fr to1 di 0) H := hP
                have hD : va_D A (mw_C h0 a d al sh is us (va_up fo c0 none) sw1 sc1 F (va_up ho ha1 none) fr to1 di 0) := hD
                refine W.widen (k := 0) (n := 0) (Nat.le_refl _) (Nat.le_refl _) ?_
                refine lv_iload_n hx hb dX1_freeFrame_129 rfl (lv_at hl 0 rfl) ?_
                rw [hQQ]
                exact W.iret (v := (nI ha1)) hx hb hr (fun t9 ht9 hW9 => ⟨⟨_, (va_up fo c0 none, sw1, sc1, va_up ho ha1 none, to1, 0), rfl, ⟨ha1, hh, rfl, mw_up_s, hw, fun c _ q => mw_upnone q⟩, by rw [ht9]; exact hP, va_K.moved hW9.alike hK, hD⟩, hS.F ht9⟩) hS.2.2 dX1_freeFrame_130
              refine lv_aload_n hx hb dX1_freeFrame_111 rfl (lv_at hl 1 rfl) ?_
              refine va_get (D := (dC, dI)) (ci := 0) (v := .int (nI ha1)) (C := RX1) (T := TX1) (N := 13) hx hb hts in_X1 hown hK hP 0 rfl rfl 12 (by decide) (hts _ q36) (fun _ h9 => h9) rfl dX1_freeFrame_112 ?_
              refine lv_iconst (v := (nI 1)) hx hb dX1_freeFrame_115 (by decide) ?_
              refine kw_add hx hb dX1_freeFrame_116 ?_
              refine lv_goto (tgt := 121) hx hb dX1_freeFrame_117 (by decide) ?_
              refine va_put (D := (dC, dI)) (ci := 0) (v := .int (nI (ha1 + 1))) (ty := .int) (C := RX1) (T := TX1) (N := 13) hx hb hts in_X1 tyX1 tyX1_ok nmX1 hown hK hP hD hS 0 rfl rfl 12 (by decide) (hts _ q36) (fun _ h9 => h9) rfl (by decide +kernel) rfl rfl (Nat.le_of_ble_eq_true rfl) dX1_freeFrame_121 (fun H locs hP hD hS => ?_)
              have hP : va_P (dC, dI) vwCl (mw_C h0 a d al sh is us fo sw sc F ho fr to1 di (ha1 + 1)) H := hP
              have hD : va_D A (mw_C h0 a d al sh is us fo sw sc F ho fr to1 di (ha1 + 1)) := hD
              refine lv_aload_n hx hb dX1_freeFrame_124 rfl (lv_at hl 1 rfl) ?_
              refine lv_iload_n hx hb dX1_freeFrame_125 rfl (lv_at hl 0 rfl) ?_
              obtain ⟨c0, hc0⟩ := hall ha1 hh
              have hFc := va_free (wc := (mw_C h0 a d al sh is us fo sw sc F ho fr to1 di (ha1 + 1))) hD hS hA [0, 1, 2, 3, 4, 5, 6, 7, 8, 9, 10, 11] rfl
              refine va_callv (va_runV (As := [.int (nI ha1)]) (rest := []) ⟨hx, hb, hml, hown, hts⟩ (mX1_pageOut l dC dI h0 a d H.size al sh is us fo sw sc F ho fr to1 di (ha1 + 1) vl (mw_L_ha hL c9) ha1 c0 hh hc0) (cwV 1 hts (lw_V q115 q117 qs6 q14 q118) rfl rfl rfl (by decide +kernel) ⟨Nat.le_of_ble_eq_true rfl, Nat.le_of_ble_eq_true rfl⟩) ⟨fun a U g mk q => by obtain ⟨q0, q1, qP, qK, qD⟩ := q; exact ⟨q0, q1, qP, va_K.moved (u := U) (U := U.calling g mk a) (Vm.Alike.refl U.vm) qK, qD⟩, va_recv hK hP (ci := 0) (q0 := 0) rfl rfl, fun U hU hW => ⟨rfl, by rw [hU], by rw [hU]; exact hP, va_K.moved hW.alike hK, hD.weaken (fun _ _ _ _ => trivial)⟩⟩ rfl rfl hl.1 rfl (lv_room (Nat.le_of_ble_eq_true rfl)) dX1_freeFrame_126 ⟨Nat.le_refl _, Nat.le_refl _⟩) hS (fun q _ h => hFc q h) hFc (fun u t9 H1 locs ht9 hvm hw hB hz1 hk1 hS => ?_)
              obtain ⟨sw1, sc1⟩ := u
              dsimp only at hw
              obtain ⟨hP1, hK1, hD1⟩ : mw_BC dC dI _ h0 a d al sh is us (va_up fo c0 none) sw1 sc1 F (va_up ho ha1 none) fr to1 di (ha1 + 1) t9 := hB
              rw [ht9] at hP1
              obtain ⟨hP, hD⟩ := va_join (wr := []) (w1 := (mw_C h0 a d al sh is us (va_up fo c0 none) sw1 sc1 F (va_up ho ha1 none) fr to1 di (ha1 + 1))) hP hD [0, 1, 2, 3, 4, 5, 6, 7, 8, 9, 10, 11] [] rfl rfl (by decide) (by decide) hk1 hFc hP1 hD1
              generalize H1 = H at hP hS ⊢
              have hP : va_P (dC, dI) vwCl (mw_C h0 a d al sh is us (va_up fo c0 none) sw1 sc1 F (va_up ho ha1 none) fr to1 di (ha1 + 1)) H := hP
              have hD : va_D A (mw_C h0 a d al sh is us (va_up fo c0 none) sw1 sc1 F (va_up ho ha1 none) fr to1 di (ha1 + 1)) := hD
              refine W.widen (k := 0) (n := 0) (Nat.le_refl _) (Nat.le_refl _) ?_
              refine lv_iload_n hx hb dX1_freeFrame_129 rfl (lv_at hl 0 rfl) ?_
              rw [hQQ]
              exact W.iret (v := (nI ha1)) hx hb hr (fun t9 ht9 hW9 => ⟨⟨_, (va_up fo c0 none, sw1, sc1, va_up ho ha1 none, to1, ha1 + 1), rfl, ⟨ha1, hh, rfl, mw_up_s, hw, fun c _ q => mw_upnone q⟩, by rw [ht9]; exact hP, va_K.moved hW9.alike hK, hD⟩, hS.F ht9⟩) hS.2.2 dX1_freeFrame_130
            refine lv_aload_n hx hb dX1_freeFrame_37 rfl (lv_at hl 1 rfl) ?_
            refine va_get (D := (dC, dI)) (ci := 0) (v := .ref (a 10)) (C := RX1) (T := TX1) (N := 13) hx hb hts in_X1 hown hK hP 0 rfl rfl 10 (by decide) (hts _ q34) (fun _ h9 => h9) rfl dX1_freeFrame_38 ?_
            refine lv_aload_n hx hb dX1_freeFrame_41 rfl (lv_at hl 1 rfl) ?_
            refine va_get (D := (dC, dI)) (ci := 0) (v := .int (nI ha1)) (C := RX1) (T := TX1) (N := 13) hx hb hts in_X1 hown hK hP 0 rfl rfl 12 (by decide) (hts _ q36) (fun _ h9 => h9) rfl dX1_freeFrame_42 ?_
            refine kw_zld (v := (mw_ob (to1 ha1))) hx hb hK hP 10 9 rfl rfl (by omega) (by decide) rfl dX1_freeFrame_45 ?_
            refine kw_ifeqB (tgt := 92) hx hb dX1_freeFrame_46 (by decide) (fun c6 => ?_) (fun c6 => ?_)
            · refine lv_aload_n hx hb dX1_freeFrame_92 rfl (lv_at hl 1 rfl) ?_
              refine va_get (D := (dC, dI)) (ci := 0) (v := .int (nI ha1)) (C := RX1) (T := TX1) (N := 13) hx hb hts in_X1 hown hK hP 0 rfl rfl 12 (by decide) (hts _ q36) (fun _ h9 => h9) rfl dX1_freeFrame_93 ?_
              refine lv_istore_n (lv' := [(1, .int (nI ha1)), (0, .ref h0)]) hx hb dX1_freeFrame_96 rfl hl (by decide) rfl (fun ls hl => ?_)
              refine lv_aload_n hx hb dX1_freeFrame_97 rfl (lv_at hl 1 rfl) ?_
              refine lv_aload_n hx hb dX1_freeFrame_98 rfl (lv_at hl 1 rfl) ?_
              refine va_get (D := (dC, dI)) (ci := 0) (v := .int (nI ha1)) (C := RX1) (T := TX1) (N := 13) hx hb hts in_X1 hown hK hP 0 rfl rfl 12 (by decide) (hts _ q36) (fun _ h9 => h9) rfl dX1_freeFrame_99 ?_
              refine lv_iconst (v := (nI 1)) hx hb dX1_freeFrame_102 (by decide) ?_
              refine kw_add hx hb dX1_freeFrame_103 ?_
              refine lv_aload_n hx hb dX1_freeFrame_104 rfl (lv_at hl 1 rfl) ?_
              refine va_get (D := (dC, dI)) (ci := 0) (v := .int (nI F)) (C := RX1) (T := TX1) (N := 13) hx hb hts in_X1 hown hK hP 0 rfl rfl 7 (by decide) (hts _ q31) (fun _ h9 => h9) rfl dX1_freeFrame_105 ?_
              refine kw_ge (tgt := 120) hx hb (by omega) (by omega) dX1_freeFrame_108 (by decide) (fun c9 => ?_) (fun c9 => ?_)
              · refine lv_iconst (v := (nI 0)) hx hb dX1_freeFrame_120 (by decide) ?_
                refine va_put (D := (dC, dI)) (ci := 0) (v := .int (nI 0)) (ty := .int) (C := RX1) (T := TX1) (N := 13) hx hb hts in_X1 tyX1 tyX1_ok nmX1 hown hK hP hD hS 0 rfl rfl 12 (by decide) (hts _ q36) (fun _ h9 => h9) rfl (by decide +kernel) rfl rfl (Nat.le_of_ble_eq_true rfl) dX1_freeFrame_121 (fun H locs hP hD hS => ?_)
                have hP : va_P (dC, dI) vwCl (mw_C h0 a d al sh is us fo sw sc F ho fr to1 di 0) H := hP
                have hD : va_D A (mw_C h0 a d al sh is us fo sw sc F ho fr to1 di 0) := hD
                refine lv_aload_n hx hb dX1_freeFrame_124 rfl (lv_at hl 1 rfl) ?_
                refine lv_iload_n hx hb dX1_freeFrame_125 rfl (lv_at hl 0 rfl) ?_
                obtain ⟨c0, hc0⟩ := hall ha1 hh
                have hFc := va_free (wc := (mw_C h0 a d al sh is us fo sw sc F ho fr to1 di 0)) hD hS hA [0, 1, 2, 3, 4, 5, 6, 7, 8, 9, 10, 11] rfl
                refine va_callv (va_runV (As := [.int (nI ha1)]) (rest := []) ⟨hx, hb, hml, hown, hts⟩ (mX1_pageOut l dC dI h0 a d H.size al sh is us fo sw sc F ho fr to1 di 0 vl (mw_L_ha hL (by omega)) ha1 c0 hh hc0) (cwV 1 hts (lw_V q115 q117 qs6 q14 q118) rfl rfl rfl (by decide +kernel) ⟨Nat.le_of_ble_eq_true rfl, Nat.le_of_ble_eq_true rfl⟩) ⟨fun a U g mk q => by obtain ⟨q0, q1, qP, qK, qD⟩ := q; exact ⟨q0, q1, qP, va_K.moved (u := U) (U := U.calling g mk a) (Vm.Alike.refl U.vm) qK, qD⟩, va_recv hK hP (ci := 0) (q0 := 0) rfl rfl, fun U hU hW => ⟨rfl, by rw [hU], by rw [hU]; exact hP, va_K.moved hW.alike hK, hD.weaken (fun _ _ _ _ => trivial)⟩⟩ rfl rfl hl.1 rfl (lv_room (Nat.le_of_ble_eq_true rfl)) dX1_freeFrame_126 ⟨Nat.le_refl _, Nat.le_refl _⟩) hS (fun q _ h => hFc q h) hFc (fun u t9 H1 locs ht9 hvm hw hB hz1 hk1 hS => ?_)
                obtain ⟨sw1, sc1⟩ := u
                dsimp only at hw
                obtain ⟨hP1, hK1, hD1⟩ : mw_BC dC dI _ h0 a d al sh is us (va_up fo c0 none) sw1 sc1 F (va_up ho ha1 none) fr to1 di 0 t9 := hB
                rw [ht9] at hP1
                obtain ⟨hP, hD⟩ := va_join (wr := []) (w1 := (mw_C h0 a d al sh is us (va_up fo c0 none) sw1 sc1 F (va_up ho ha1 none) fr to1 di 0)) hP hD [0, 1, 2, 3, 4, 5, 6, 7, 8, 9, 10, 11] [] rfl rfl (by decide) (by decide) hk1 hFc hP1 hD1
                generalize H1 = H at hP hS ⊢
                have hP : va_P (dC, dI) vwCl (mw_C h0 a d al sh is us (va_up fo c0 none) sw1 sc1 F (va_up ho ha1 none) fr to1 di 0) H := hP
                have hD : va_D A (mw_C h0 a d al sh is us (va_up fo c0 none) sw1 sc1 F (va_up ho ha1 none) fr to1 di 0) := hD
                refine W.widen (k := 0) (n := 0) (Nat.le_refl _) (Nat.le_refl _) ?_
                refine lv_iload_n hx hb dX1_freeFrame_129 rfl (lv_at hl 0 rfl) ?_
                rw [hQQ]
                exact W.iret (v := (nI ha1)) hx hb hr (fun t9 ht9 hW9 => ⟨⟨_, (va_up fo c0 none, sw1, sc1, va_up ho ha1 none, to1, 0), rfl, ⟨ha1, hh, rfl, mw_up_s, hw, fun c _ q => mw_upnone q⟩, by rw [ht9]; exact hP, va_K.moved hW9.alike hK, hD⟩, hS.F ht9⟩) hS.2.2 dX1_freeFrame_130
              refine lv_aload_n hx hb dX1_freeFrame_111 rfl (lv_at hl 1 rfl) ?_
              refine va_get (D := (dC, dI)) (ci := 0) (v := .int (nI ha1)) (C := RX1) (T := TX1) (N := 13) hx hb hts in_X1 hown hK hP 0 rfl rfl 12 (by decide) (hts _ q36) (fun _ h9 => h9) rfl dX1_freeFrame_112 ?_
              refine lv_iconst (v := (nI 1)) hx hb dX1_freeFrame_115 (by decide) ?_
              refine kw_add hx hb dX1_freeFrame_116 ?_
              refine lv_goto (tgt := 121) hx hb dX1_freeFrame_117 (by decide) ?_
              refine va_put (D := (dC, dI)) (ci := 0) (v := .int (nI (ha1 + 1))) (ty := .int) (C := RX1) (T := TX1) (N := 13) hx hb hts in_X1 tyX1 tyX1_ok nmX1 hown hK hP hD hS 0 rfl rfl 12 (by decide) (hts _ q36) (fun _ h9 => h9) rfl (by decide +kernel) rfl rfl (Nat.le_of_ble_eq_true rfl) dX1_freeFrame_121 (fun H locs hP hD hS => ?_)
              have hP : va_P (dC, dI) vwCl (mw_C h0 a d al sh is us fo sw sc F ho fr to1 di (ha1 + 1)) H := hP
              have hD : va_D A (mw_C h0 a d al sh is us fo sw sc F ho fr to1 di (ha1 + 1)) := hD
              refine lv_aload_n hx hb dX1_freeFrame_124 rfl (lv_at hl 1 rfl) ?_
              refine lv_iload_n hx hb dX1_freeFrame_125 rfl (lv_at hl 0 rfl) ?_
              obtain ⟨c0, hc0⟩ := hall ha1 hh
              have hFc := va_free (wc := (mw_C h0 a d al sh is us fo sw sc F ho fr to1 di (ha1 + 1))) hD hS hA [0, 1, 2, 3, 4, 5, 6, 7, 8, 9, 10, 11] rfl
              refine va_callv (va_runV (As := [.int (nI ha1)]) (rest := []) ⟨hx, hb, hml, hown, hts⟩ (mX1_pageOut l dC dI h0 a d H.size al sh is us fo sw sc F ho fr to1 di (ha1 + 1) vl (mw_L_ha hL c9) ha1 c0 hh hc0) (cwV 1 hts (lw_V q115 q117 qs6 q14 q118) rfl rfl rfl (by decide +kernel) ⟨Nat.le_of_ble_eq_true rfl, Nat.le_of_ble_eq_true rfl⟩) ⟨fun a U g mk q => by obtain ⟨q0, q1, qP, qK, qD⟩ := q; exact ⟨q0, q1, qP, va_K.moved (u := U) (U := U.calling g mk a) (Vm.Alike.refl U.vm) qK, qD⟩, va_recv hK hP (ci := 0) (q0 := 0) rfl rfl, fun U hU hW => ⟨rfl, by rw [hU], by rw [hU]; exact hP, va_K.moved hW.alike hK, hD.weaken (fun _ _ _ _ => trivial)⟩⟩ rfl rfl hl.1 rfl (lv_room (Nat.le_of_ble_eq_true rfl)) dX1_freeFrame_126 ⟨Nat.le_refl _, Nat.le_refl _⟩) hS (fun q _ h => hFc q h) hFc (fun u t9 H1 locs ht9 hvm hw hB hz1 hk1 hS => ?_)
              obtain ⟨sw1, sc1⟩ := u
              dsimp only at hw
              obtain ⟨hP1, hK1, hD1⟩ : mw_BC dC dI _ h0 a d al sh is us (va_up fo c0 none) sw1 sc1 F (va_up ho ha1 none) fr to1 di (ha1 + 1) t9 := hB
              rw [ht9] at hP1
              obtain ⟨hP, hD⟩ := va_join (wr := []) (w1 := (mw_C h0 a d al sh is us (va_up fo c0 none) sw1 sc1 F (va_up ho ha1 none) fr to1 di (ha1 + 1))) hP hD [0, 1, 2, 3, 4, 5, 6, 7, 8, 9, 10, 11] [] rfl rfl (by decide) (by decide) hk1 hFc hP1 hD1
              generalize H1 = H at hP hS ⊢
              have hP : va_P (dC, dI) vwCl (mw_C h0 a d al sh is us (va_up fo c0 none) sw1 sc1 F (va_up ho ha1 none) fr to1 di (ha1 + 1)) H := hP
              have hD : va_D A (mw_C h0 a d al sh is us (va_up fo c0 none) sw1 sc1 F (va_up ho ha1 none) fr to1 di (ha1 + 1)) := hD
              refine W.widen (k := 0) (n := 0) (Nat.le_refl _) (Nat.le_refl _) ?_
              refine lv_iload_n hx hb dX1_freeFrame_129 rfl (lv_at hl 0 rfl) ?_
              rw [hQQ]
              exact W.iret (v := (nI ha1)) hx hb hr (fun t9 ht9 hW9 => ⟨⟨_, (va_up fo c0 none, sw1, sc1, va_up ho ha1 none, to1, ha1 + 1), rfl, ⟨ha1, hh, rfl, mw_up_s, hw, fun c _ q => mw_upnone q⟩, by rw [ht9]; exact hP, va_K.moved hW9.alike hK, hD⟩, hS.F ht9⟩) hS.2.2 dX1_freeFrame_130
            refine lv_aload_n hx hb dX1_freeFrame_49 rfl (lv_at hl 1 rfl) ?_
            refine va_get (D := (dC, dI)) (ci := 0) (v := .ref (a 10)) (C := RX1) (T := TX1) (N := 13) hx hb hts in_X1 hown hK hP 0 rfl rfl 10 (by decide) (hts _ q34) (fun _ h9 => h9) rfl dX1_freeFrame_50 ?_
            refine lv_aload_n hx hb dX1_freeFrame_53 rfl (lv_at hl 1 rfl) ?_
            refine va_get (D := (dC, dI)) (ci := 0) (v := .int (nI ha1)) (C := RX1) (T := TX1) (N := 13) hx hb hts in_X1 hown hK hP 0 rfl rfl 12 (by decide) (hts _ q36) (fun _ h9 => h9) rfl dX1_freeFrame_54 ?_
            refine lv_iconst (v := (nI 0)) hx hb dX1_freeFrame_57 (by decide) ?_
            refine kw_zst (f' := mw_B (va_up to1 ha1 false)) hx hb hK hP hD hS 10 9 rfl rfl (by omega) (by decide) (mw_B_st0 _ _) dX1_freeFrame_58 (fun H locs hP hD hS => ?_)
            have hP : va_P (dC, dI) vwCl (mw_C h0 a d al sh is us fo sw sc F ho fr (va_up to1 ha1 false) di ha1) H := hP
            have hD : va_D A (mw_C h0 a d al sh is us fo sw sc F ho fr (va_up to1 ha1 false) di ha1) := hD
            refine lv_aload_n hx hb dX1_freeFrame_59 rfl (lv_at hl 1 rfl) ?_
            refine lv_aload_n hx hb dX1_freeFrame_60 rfl (lv_at hl 1 rfl) ?_
            refine va_get (D := (dC, dI)) (ci := 0) (v := .int (nI ha1)) (C := RX1) (T := TX1) (N := 13) hx hb hts in_X1 hown hK hP 0 rfl rfl 12 (by decide) (hts _ q36) (fun _ h9 => h9) rfl dX1_freeFrame_61 ?_
            refine lv_iconst (v := (nI 1)) hx hb dX1_freeFrame_64 (by decide) ?_
            refine kw_add hx hb dX1_freeFrame_65 ?_
            refine lv_aload_n hx hb dX1_freeFrame_66 rfl (lv_at hl 1 rfl) ?_
            refine va_get (D := (dC, dI)) (ci := 0) (v := .int (nI F)) (C := RX1) (T := TX1) (N := 13) hx hb hts in_X1 hown hK hP 0 rfl rfl 7 (by decide) (hts _ q31) (fun _ h9 => h9) rfl dX1_freeFrame_67 ?_
            refine kw_ge (tgt := 82) hx hb (by omega) (by omega) dX1_freeFrame_70 (by decide) (fun c7 => ?_) (fun c7 => ?_)
            · refine lv_iconst (v := (nI 0)) hx hb dX1_freeFrame_82 (by decide) ?_
              refine va_put (D := (dC, dI)) (ci := 0) (v := .int (nI 0)) (ty := .int) (C := RX1) (T := TX1) (N := 13) hx hb hts in_X1 tyX1 tyX1_ok nmX1 hown hK hP hD hS 0 rfl rfl 12 (by decide) (hts _ q36) (fun _ h9 => h9) rfl (by decide +kernel) rfl rfl (Nat.le_of_ble_eq_true rfl) dX1_freeFrame_83 (fun H locs hP hD hS => ?_)
              have hP : va_P (dC, dI) vwCl (mw_C h0 a d al sh is us fo sw sc F ho fr (va_up to1 ha1 false) di 0) H := hP
              have hD : va_D A (mw_C h0 a d al sh is us fo sw sc F ho fr (va_up to1 ha1 false) di 0) := hD
              refine lv_iinc (v := (nI (k + 1))) (lv' := [(1, .int (nI (k + 1))), (0, .ref h0)]) hx hb dX1_freeFrame_86 hl (k := 0) rfl (mw_inc1 _) (by decide) rfl (fun ls hl => ?_)
              refine lv_goto (tgt := 29) hx hb dX1_freeFrame_89 (by decide) ?_
              exact ih (k + 1) (va_up to1 ha1 false) 0 (by omega) (by omega) (by omega) _ _ hP hD hS ls (lv_sub hl [0, 1] rfl)
            refine lv_aload_n hx hb dX1_freeFrame_73 rfl (lv_at hl 1 rfl) ?_
            refine va_get (D := (dC, dI)) (ci := 0) (v := .int (nI ha1)) (C := RX1) (T := TX1) (N := 13) hx hb hts in_X1 hown hK hP 0 rfl rfl 12 (by decide) (hts _ q36) (fun _ h9 => h9) rfl dX1_freeFrame_74 ?_
            refine lv_iconst (v := (nI 1)) hx hb dX1_freeFrame_77 (by decide) ?_
            refine kw_add hx hb dX1_freeFrame_78 ?_
            refine lv_goto (tgt := 83) hx hb dX1_freeFrame_79 (by decide) ?_
            refine va_put (D := (dC, dI)) (ci := 0) (v := .int (nI (ha1 + 1))) (ty := .int) (C := RX1) (T := TX1) (N := 13) hx hb hts in_X1 tyX1 tyX1_ok nmX1 hown hK hP hD hS 0 rfl rfl 12 (by decide) (hts _ q36) (fun _ h9 => h9) rfl (by decide +kernel) rfl rfl (Nat.le_of_ble_eq_true rfl) dX1_freeFrame_83 (fun H locs hP hD hS => ?_)
            have hP : va_P (dC, dI) vwCl (mw_C h0 a d al sh is us fo sw sc F ho fr (va_up to1 ha1 false) di (ha1 + 1)) H := hP
            have hD : va_D A (mw_C h0 a d al sh is us fo sw sc F ho fr (va_up to1 ha1 false) di (ha1 + 1)) := hD
            refine lv_iinc (v := (nI (k + 1))) (lv' := [(1, .int (nI (k + 1))), (0, .ref h0)]) hx hb dX1_freeFrame_86 hl (k := 0) rfl (mw_inc1 _) (by decide) rfl (fun ls hl => ?_)
            refine lv_goto (tgt := 29) hx hb dX1_freeFrame_89 (by decide) ?_
            exact ih (k + 1) (va_up to1 ha1 false) (ha1 + 1) (by omega) c7 (by omega) _ _ hP hD hS ls (lv_sub hl [0, 1] rfl)
        exact lq (F + 1) 0 to ha (by omega) hha (by omega) _ _ hP hD hS ls (lv_sub hl [0, 1] rfl)
      refine lv_aload_n hx hb dX1_freeFrame_10 rfl (lv_at hl 1 rfl) ?_
      refine va_get (D := (dC, dI)) (ci := 0) (v := .ref (a 8)) (C := RX1) (T := TX1) (N := 13) hx hb hts in_X1 hown hK hP 0 rfl rfl 8 (by decide) (hts _ q32) (fun _ h9 => h9) rfl dX1_freeFrame_11 ?_
      refine lv_iload_n hx hb dX1_freeFrame_14 rfl (lv_at hl 0 rfl) ?_
      refine kw_bld (v := (mw_oc (ho i))) hx hb hK hP 8 7 rfl rfl (by omega) (by decide) rfl dX1_freeFrame_15 ?_
      refine kw_ifgeO (tgt := 21) hx hb (fun c h => Nat.lt_trans ((hL.2.2.1 _ c (by omega) h).1) (by decide)) dX1_freeFrame_16 (by decide) (fun ci c2 => ?_) (fun c2 => ?_)
      · refine lv_iinc (v := (nI (i + 1))) (lv' := [(1, .int (nI (i + 1))), (0, .ref h0)]) hx hb dX1_freeFrame_21 hl (k := 0) rfl (mw_inc1 _) (by decide) rfl (fun ls hl => ?_)
        refine lv_goto (tgt := 2) hx hb dX1_freeFrame_24 (by decide) ?_
        exact ih (i + 1) (by omega) (fun j hj => by rcases Nat.lt_or_ge j i with q | q; exact hn j q; rw [show j = i by omega]; exact ⟨ci, c2⟩) (by omega) _ _ hP hD hS ls (lv_sub hl [0, 1] rfl)
      refine lv_iload_n hx hb dX1_freeFrame_19 rfl (lv_at hl 0 rfl) ?_
      rw [hQQ]
      exact W.iret (v := (nI i)) hx hb hr (fun t9 ht9 hW9 => ⟨⟨_, (fo, sw, sc, ho, to, ha), rfl, ⟨i, c1, rfl, c2, hL, fun _ _ q => q⟩, by rw [ht9]; exact hP, va_K.moved hW9.alike hK, hD⟩, hS.F ht9⟩) hS.2.2 dX1_freeFrame_20
  exact lp (F + 1) 0 (by omega) (fun j hj => absurd hj (by omega)) (by omega) _ _ hP hD hS ls (lv_sub hl [0, 1] rfl)
set_option maxHeartbeats 4000000 in
set_option maxRecDepth 100000 in
/-- CowMemory.bringIn -/
theorem mX1_bringIn (l : Launch) (dC : Nat → ClassId) (dI : Nat → Nat → Nat) (h0 : Nat) (a : Nat → Nat) (d : Nat → ClassId) (sz : Nat) (al : Nat → Bool) (sh : Nat → Option Nat) (is : Nat → Bool) (us : Nat → Nat) (fo : Nat → Option Nat) (sw : Nat → Bool) (sc : Nat → Int32) (F : Nat) (ho : Nat → Option Nat) (fr : Nat → Int32) (to : Nat → Bool) (di : Nat → Bool) (ha : Nat) (vl : Nat → Nat → Int32) (hL : mw_L vl F fo sw sc ho fr di ha) (ci : Nat) (hci : ci < 20) : Met l yX1_bringIn (ws_ yX1_bringIn cX1_bringIn 4 (some .int)) ({ frames := 2, cells := 0, slots := 0, locals := 44 } : Room) (va_Pc [.ref h0, .int (nI ci)] (fun U => U.heap.size = sz ∧ va_P (dC, dI) vwCl (mw_C h0 a d al sh is us fo sw sc F ho fr to di ha) U.heap ∧ va_K (dC, dI) vwCl (mw_CK d) U ∧ va_D (fun _ => True) (mw_C h0 a d al sh is us fo sw sc F ho fr to di ha))) (va_Qi (fun (r : Int32) (u : (Nat → Option Nat) × (Nat → Bool) × (Nat → Int32) × (Nat → Option Nat) × (Nat → Int32) × (Nat → Bool) × (Nat → Bool) × (Nat)) => ∃ f, f < F ∧ r = nI f ∧ u.1 ci = some f ∧ mw_L vl F u.1 u.2.1 u.2.2.1 u.2.2.2.1 u.2.2.2.2.1 u.2.2.2.2.2.2.1 u.2.2.2.2.2.2.2 ∧ ∀ c, c < 20 → c ≠ ci → fo c = none → u.1 c = none) (fun (u : (Nat → Option Nat) × (Nat → Bool) × (Nat → Int32) × (Nat → Option Nat) × (Nat → Int32) × (Nat → Bool) × (Nat → Bool) × (Nat)) (t : State) => mw_BC dC dI (va_A (mw_C h0 a d al sh is us fo sw sc F ho fr to di ha) sz) h0 a d al sh is us u.1 u.2.1 u.2.2.1 F u.2.2.2.1 u.2.2.2.2.1 u.2.2.2.2.2.1 u.2.2.2.2.2.2.1 u.2.2.2.2.2.2.2 t) (va_A (mw_C h0 a d al sh is us fo sw sc F ho fr to di ha) sz)) 0 0 (va_A (mw_C h0 a d al sh is us fo sw sc F ho fr to di ha) sz) := by
  refine Met.ofW (cc := cX1_bringIn) (maxL := 4) (ret := (some .int)) (by decide) rfl ?_
  intro p e s m args below meth c s₁ B hml hv
  obtain ⟨rfl, hsz, hP, hK, hD0⟩ := hv
  have hx := B.exec
  have hb := B.bytes
  have hr := B.returns
  have hts := atoms_spec (ws := ws_ yX1_bringIn cX1_bringIn 4 (some .int)) B.pre
  have hts : ∀ w ∈ lw_all, w.before _ s = true := fun w h => hts w (List.mem_cons_of_mem _ h)
  have hown : s.vm.findClass RX1 = some m.cls := findClass_of_methodNamed B.named
  have hlocks := B.notSynchronized
  subst hsz
  have hD := hD0.self (sz := s.heap.size)
  generalize hAe : va_A (mw_C h0 a d al sh is us fo sw sc F ho fr to di ha) s.heap.size = A at hD ⊢
  have hA : ∀ q : Nat, s.heap.size ≤ q → A q := fun q h => by rw [← hAe]; exact Or.inr h
  have hS : va_S A s.heap s.heap [] := va_S.rf
  have hl := lv_entry ([.ref h0, .int (nI ci)]) (n := 4) (Nat.le_of_ble_eq_true rfl)
  rw [lg_entry_eq]
  generalize (lg_sl ([.ref h0, .int (nI ci)]) ++ List.replicate (4 - (lg_sl ([.ref h0, .int (nI ci)])).length) Slot.unset).toArray = ls at hl ⊢
  have hl : lv_has ls 4 [(0, .ref h0), (1, .int (nI ci))] := hl
  obtain ⟨QQ, hQQ⟩ : ∃ QQ, QQ = MQ below (va_Qi (fun (r : Int32) (u : (Nat → Option Nat) × (Nat → Bool) × (Nat → Int32) × (Nat → Option Nat) × (Nat → Int32) × (Nat → Bool) × (Nat → Bool) × (Nat)) => ∃ f, f < F ∧ r = nI f ∧ u.1 ci = some f ∧ mw_L vl F u.1 u.2.1 u.2.2.1 u.2.2.2.1 u.2.2.2.2.1 u.2.2.2.2.2.2.1 u.2.2.2.2.2.2.2 ∧ ∀ c, c < 20 → c ≠ ci → fo c = none → u.1 c = none) (fun (u : (Nat → Option Nat) × (Nat → Bool) × (Nat → Int32) × (Nat → Option Nat) × (Nat → Int32) × (Nat → Bool) × (Nat → Bool) × (Nat)) (t : State) => mw_BC dC dI A h0 a d al sh is us u.1 u.2.1 u.2.2.1 F u.2.2.2.1 u.2.2.2.2.1 u.2.2.2.2.2.1 u.2.2.2.2.2.2.1 u.2.2.2.2.2.2.2 t) A) ([.ref h0, .int (nI ci)] : List Value).toArray s 0 0 A := ⟨_, rfl⟩
  rw [← hQQ]
  have hF6 := hL.1.2.1
  refine lv_aload_n hx hb dX1_bringIn_0 rfl (lv_at hl 0 rfl) ?_
  refine va_get (D := (dC, dI)) (ci := 0) (v := .ref (a 4)) (C := RX1) (T := TX1) (N := 13) hx hb hts in_X1 hown hK hP 0 rfl rfl 4 (by decide) (hts _ q28) (fun _ h9 => h9) rfl dX1_bringIn_1 ?_
  refine lv_iload_n hx hb dX1_bringIn_4 rfl (lv_at hl 1 rfl) ?_
  refine kw_bld (v := (mw_oc (fo ci))) hx hb hK hP 5 4 rfl rfl (by omega) (by decide) rfl dX1_bringIn_5 ?_
  refine kw_ifltO (tgt := 28) hx hb (fun f h => by have := (hL.2.1 _ f (by omega) h).1; have := hL.1.2.1; omega) dX1_bringIn_6 (by decide) (fun c1 => ?_) (fun fi c1 => ?_)
  · refine lv_aload_n hx hb dX1_bringIn_28 rfl (lv_at hl 0 rfl) ?_
    have hFc := va_free (wc := (mw_C h0 a d al sh is us fo sw sc F ho fr to di ha)) hD hS hA [0, 1, 2, 3, 4, 5, 6, 7, 8, 9, 10, 11] rfl
    refine va_calli (va_runV (As := []) (rest := []) ⟨hx, hb, hml, hown, hts⟩ (mX1_freeFrame l dC dI h0 a d s.heap.size al sh is us fo sw sc F ho fr to di ha vl hL) (cwV 0 hts (lw_V q111 q113 qs5 q14 q114) rfl rfl rfl (by decide +kernel) ⟨Nat.le_of_ble_eq_true rfl, Nat.le_of_ble_eq_true rfl⟩) ⟨fun a U g mk q => by obtain ⟨q0, q1, qP, qK, qD⟩ := q; exact ⟨q0, q1, qP, va_K.moved (u := U) (U := U.calling g mk a) (Vm.Alike.refl U.vm) qK, qD⟩, va_recv hK hP (ci := 0) (q0 := 0) rfl rfl, fun U hU hW => ⟨rfl, by rw [hU], by rw [hU]; exact hP, va_K.moved hW.alike hK, hD.weaken (fun _ _ _ _ => trivial)⟩⟩ rfl rfl hl.1 rfl (lv_room (Nat.le_of_ble_eq_true rfl)) dX1_bringIn_29 ⟨Nat.le_refl _, Nat.le_refl _⟩) hS (fun q _ h => hFc q h) hFc (fun r u t9 H1 locs ht9 hvm hw hB hz1 hk1 hS => ?_)
    obtain ⟨fo1, sw1, sc1, ho1, to1, ha1⟩ := u
    dsimp only at hw
    obtain ⟨hP1, hK1, hD1⟩ : mw_BC dC dI _ h0 a d al sh is us fo1 sw1 sc1 F ho1 fr to1 di ha1 t9 := hB
    rw [ht9] at hP1
    obtain ⟨hP, hD⟩ := va_join (wr := []) (w1 := (mw_C h0 a d al sh is us fo1 sw1 sc1 F ho1 fr to1 di ha1)) hP hD [0, 1, 2, 3, 4, 5, 6, 7, 8, 9, 10, 11] [] rfl rfl (by decide) (by decide) hk1 hFc hP1 hD1
    generalize H1 = H at hP hS ⊢
    have hP : va_P (dC, dI) vwCl (mw_C h0 a d al sh is us fo1 sw1 sc1 F ho1 fr to1 di ha1) H := hP
    have hD : va_D A (mw_C h0 a d al sh is us fo1 sw1 sc1 F ho1 fr to1 di ha1) := hD
    refine W.widen (k := 0) (n := 0) (Nat.le_refl _) (Nat.le_refl _) ?_
    obtain ⟨fi, hfi, rfl, hho, hL1, hmono⟩ := hw
    refine lv_istore_n (lv' := [(2, .int (nI fi)), (0, .ref h0), (1, .int (nI ci))]) hx hb dX1_bringIn_32 rfl hl (by decide) rfl (fun ls hl => ?_)
    refine lv_aload_n hx hb dX1_bringIn_33 rfl (lv_at hl 1 rfl) ?_
    refine va_get (D := (dC, dI)) (ci := 0) (v := .ref (a 8)) (C := RX1) (T := TX1) (N := 13) hx hb hts in_X1 hown hK hP 0 rfl rfl 8 (by decide) (hts _ q32) (fun _ h9 => h9) rfl dX1_bringIn_34 ?_
    refine lv_iload_n hx hb dX1_bringIn_37 rfl (lv_at hl 0 rfl) ?_
    refine lv_iload_n hx hb dX1_bringIn_38 rfl (lv_at hl 2 rfl) ?_
    refine kw_i2b hx hb (by omega) dX1_bringIn_39 ?_
    refine kw_bst (f' := mw_O (va_up ho1 fi ((some ci)))) hx hb hK hP hD hS 8 7 rfl rfl (by omega) (by decide) (mw_O_stS _ _ (by omega)) dX1_bringIn_40 (fun H locs hP hD hS => ?_)
    have hP : va_P (dC, dI) vwCl (mw_C h0 a d al sh is us fo1 sw1 sc1 F (va_up ho1 fi ((some ci))) fr to1 di ha1) H := hP
    have hD : va_D A (mw_C h0 a d al sh is us fo1 sw1 sc1 F (va_up ho1 fi ((some ci))) fr to1 di ha1) := hD
    refine lv_aload_n hx hb dX1_bringIn_41 rfl (lv_at hl 1 rfl) ?_
    refine va_get (D := (dC, dI)) (ci := 0) (v := .ref (a 4)) (C := RX1) (T := TX1) (N := 13) hx hb hts in_X1 hown hK hP 0 rfl rfl 4 (by decide) (hts _ q28) (fun _ h9 => h9) rfl dX1_bringIn_42 ?_
    refine lv_iload_n hx hb dX1_bringIn_45 rfl (lv_at hl 2 rfl) ?_
    refine lv_iload_n hx hb dX1_bringIn_46 rfl (lv_at hl 0 rfl) ?_
    refine kw_i2b hx hb (by omega) dX1_bringIn_47 ?_
    refine kw_bst (f' := mw_O (va_up fo1 ci ((some fi)))) hx hb hK hP hD hS 5 4 rfl rfl (by omega) (by decide) (mw_O_stS _ _ (by omega)) dX1_bringIn_48 (fun H locs hP hD hS => ?_)
    have hP : va_P (dC, dI) vwCl (mw_C h0 a d al sh is us (va_up fo1 ci ((some fi))) sw1 sc1 F (va_up ho1 fi ((some ci))) fr to1 di ha1) H := hP
    have hD : va_D A (mw_C h0 a d al sh is us (va_up fo1 ci ((some fi))) sw1 sc1 F (va_up ho1 fi ((some ci))) fr to1 di ha1) := hD
    refine lv_aload_n hx hb dX1_bringIn_49 rfl (lv_at hl 1 rfl) ?_
    refine va_get (D := (dC, dI)) (ci := 0) (v := .ref (a 10)) (C := RX1) (T := TX1) (N := 13) hx hb hts in_X1 hown hK hP 0 rfl rfl 10 (by decide) (hts _ q34) (fun _ h9 => h9) rfl dX1_bringIn_50 ?_
    refine lv_iload_n hx hb dX1_bringIn_53 rfl (lv_at hl 0 rfl) ?_
    refine lv_iconst (v := (nI 1)) hx hb dX1_bringIn_54 (by decide) ?_
    refine kw_zst (f' := mw_B (va_up to1 fi true)) hx hb hK hP hD hS 10 9 rfl rfl (by omega) (by decide) (mw_B_st1 _ _) dX1_bringIn_55 (fun H locs hP hD hS => ?_)
    have hP : va_P (dC, dI) vwCl (mw_C h0 a d al sh is us (va_up fo1 ci ((some fi))) sw1 sc1 F (va_up ho1 fi ((some ci))) fr (va_up to1 fi true) di ha1) H := hP
    have hD : va_D A (mw_C h0 a d al sh is us (va_up fo1 ci ((some fi))) sw1 sc1 F (va_up ho1 fi ((some ci))) fr (va_up to1 fi true) di ha1) := hD
    refine lv_aload_n hx hb dX1_bringIn_56 rfl (lv_at hl 1 rfl) ?_
    refine va_get (D := (dC, dI)) (ci := 0) (v := .ref (a 11)) (C := RX1) (T := TX1) (N := 13) hx hb hts in_X1 hown hK hP 0 rfl rfl 11 (by decide) (hts _ q35) (fun _ h9 => h9) rfl dX1_bringIn_57 ?_
    refine lv_iload_n hx hb dX1_bringIn_60 rfl (lv_at hl 0 rfl) ?_
    refine lv_iconst (v := (nI 0)) hx hb dX1_bringIn_61 (by decide) ?_
    refine kw_zst (f' := mw_B (va_up di fi false)) hx hb hK hP hD hS 11 10 rfl rfl (by omega) (by decide) (mw_B_st0 _ _) dX1_bringIn_62 (fun H locs hP hD hS => ?_)
    have hP : va_P (dC, dI) vwCl (mw_C h0 a d al sh is us (va_up fo1 ci ((some fi))) sw1 sc1 F (va_up ho1 fi ((some ci))) fr (va_up to1 fi true) (va_up di fi false) ha1) H := hP
    have hD : va_D A (mw_C h0 a d al sh is us (va_up fo1 ci ((some fi))) sw1 sc1 F (va_up ho1 fi ((some ci))) fr (va_up to1 fi true) (va_up di fi false) ha1) := hD
    refine lv_iconst (v := (nI 0)) hx hb dX1_bringIn_63 (by decide) ?_
    refine lv_istore_n (lv' := [(3, .int (nI 0)), (2, .int (nI fi)), (0, .ref h0), (1, .int (nI ci))]) hx hb dX1_bringIn_64 rfl hl (by decide) rfl (fun ls hl => ?_)
    have lp : ∀ (n : Nat) (j : Nat), (j ≤ 4) → (4 - j) < n → ∀ (H : Heap) (locs : List Loc), va_P (dC, dI) vwCl (mw_C h0 a d al sh is us (va_up fo1 ci ((some fi))) sw1 sc1 F (va_up ho1 fi ((some ci))) (mw_fl fr (4 * fi) j (fun i => mw_sv sw1 sc1 ci i)) (va_up to1 fi true) (va_up di fi false) ha1) H → va_D A (mw_C h0 a d al sh is us (va_up fo1 ci ((some fi))) sw1 sc1 F (va_up ho1 fi ((some ci))) (mw_fl fr (4 * fi) j (fun i => mw_sv sw1 sc1 ci i)) (va_up to1 fi true) (va_up di fi false) ha1) → va_S A s.heap H locs → ∀ (ls : Array Slot), lv_has ls 4 [(3, .int (nI j)), (2, .int (nI fi)), (0, .ref h0), (1, .int (nI ci))] → W p l e ({ frames := 2, cells := 0, slots := 0, locals := 44 } : Room) s m ([.ref h0, .int (nI ci)] : List Value).toArray below meth c H locs 0 0 QQ (F0 m 65 ls []) := by
      intro n
      induction n with
      | zero =>
        intro j hj hfuel
        exact absurd hfuel (by omega)
      | succ n ih =>
        intro j hj hfuel H locs hP hD hS ls hl
        refine lv_iload_n hx hb dX1_bringIn_65 rfl (lv_at hl 0 rfl) ?_
        refine lv_iconst (v := (nI 4)) hx hb dX1_bringIn_66 (by decide) ?_
        refine kw_ge (tgt := 109) hx hb (by omega) (by omega) dX1_bringIn_67 (by decide) (fun c5 => ?_) (fun c5 => ?_)
        · obtain rfl : j = 4 := by omega
          refine lv_iload_n hx hb dX1_bringIn_109 rfl (lv_at hl 1 rfl) ?_
          rw [hQQ]
          exact W.iret (v := (nI fi)) hx hb hr (fun t9 ht9 hW9 => ⟨⟨_, (va_up fo1 ci ((some fi)), sw1, sc1, va_up ho1 fi ((some ci)), mw_fl fr (4 * fi) 4 (fun i => mw_sv sw1 sc1 ci i), va_up to1 fi true, va_up di fi false, ha1), rfl, ⟨fi, hfi, rfl, mw_up_s, mw_L_in hL1 hfi hci (hmono ci hci c1) hho, fun c hc z q => by show va_up fo1 ci (some fi) c = none; rw [mw_up_n z]; exact hmono c hc q⟩, by rw [ht9]; exact hP, va_K.moved hW9.alike hK, hD⟩, hS.F ht9⟩) hS.2.2 dX1_bringIn_110
        refine lv_aload_n hx hb dX1_bringIn_70 rfl (lv_at hl 2 rfl) ?_
        refine va_get (D := (dC, dI)) (ci := 0) (v := .ref (a 9)) (C := RX1) (T := TX1) (N := 13) hx hb hts in_X1 hown hK hP 0 rfl rfl 9 (by decide) (hts _ q33) (fun _ h9 => h9) rfl dX1_bringIn_71 ?_
        refine lv_iconst (v := (nI 4)) hx hb dX1_bringIn_74 (by decide) ?_
        refine lv_iload_n hx hb dX1_bringIn_75 rfl (lv_at hl 1 rfl) ?_
        refine kw_mul hx hb dX1_bringIn_76 ?_
        refine lv_iload_n hx hb dX1_bringIn_77 rfl (lv_at hl 0 rfl) ?_
        refine kw_add hx hb dX1_bringIn_78 ?_
        refine lv_aload_n hx hb dX1_bringIn_79 rfl (lv_at hl 2 rfl) ?_
        refine va_get (D := (dC, dI)) (ci := 0) (v := .ref (a 5)) (C := RX1) (T := TX1) (N := 13) hx hb hts in_X1 hown hK hP 0 rfl rfl 5 (by decide) (hts _ q29) (fun _ h9 => h9) rfl dX1_bringIn_80 ?_
        refine lv_iload_n hx hb dX1_bringIn_83 rfl (lv_at hl 3 rfl) ?_
        refine kw_zld (v := (mw_ob (sw1 ci))) hx hb hK hP 6 5 rfl rfl (by omega) (by decide) rfl dX1_bringIn_84 ?_
        refine kw_ifeqB (tgt := 101) hx hb dX1_bringIn_85 (by decide) (fun c6 => ?_) (fun c6 => ?_)
        · refine lv_iconst (v := (nI 0)) hx hb dX1_bringIn_101 (by decide) ?_
          refine kw_ist (f' := (mw_fl fr (4 * fi) (j + 1) (fun i => mw_sv sw1 sc1 ci i))) hx hb hK hP hD hS 9 8 rfl rfl (by omega) (by decide) (by rw [show (nI 0 : Int32) = mw_sv sw1 sc1 ci j from by unfold mw_sv; rw [c6]; rfl]; exact mw_fl_s _ _ _ (fun i => mw_sv sw1 sc1 ci i)) dX1_bringIn_102 (fun H locs hP hD hS => ?_)
          have hP : va_P (dC, dI) vwCl (mw_C h0 a d al sh is us (va_up fo1 ci ((some fi))) sw1 sc1 F (va_up ho1 fi ((some ci))) (mw_fl fr (4 * fi) (j + 1) (fun i => mw_sv sw1 sc1 ci i)) (va_up to1 fi true) (va_up di fi false) ha1) H := hP
          have hD : va_D A (mw_C h0 a d al sh is us (va_up fo1 ci ((some fi))) sw1 sc1 F (va_up ho1 fi ((some ci))) (mw_fl fr (4 * fi) (j + 1) (fun i => mw_sv sw1 sc1 ci i)) (va_up to1 fi true) (va_up di fi false) ha1) := hD
          refine lv_iinc (v := (nI (j + 1))) (lv' := [(3, .int (nI (j + 1))), (2, .int (nI fi)), (0, .ref h0), (1, .int (nI ci))]) hx hb dX1_bringIn_103 hl (k := 0) rfl (mw_inc1 _) (by decide) rfl (fun ls hl => ?_)
          refine lv_goto (tgt := 65) hx hb dX1_bringIn_106 (by decide) ?_
          exact ih (j + 1) (by omega) (by omega) _ _ hP hD hS ls (lv_sub hl [0, 1, 2, 3] rfl)
        refine lv_aload_n hx hb dX1_bringIn_88 rfl (lv_at hl 2 rfl) ?_
        refine va_get (D := (dC, dI)) (ci := 0) (v := .ref (a 6)) (C := RX1) (T := TX1) (N := 13) hx hb hts in_X1 hown hK hP 0 rfl rfl 6 (by decide) (hts _ q30) (fun _ h9 => h9) rfl dX1_bringIn_89 ?_
        refine lv_iconst (v := (nI 4)) hx hb dX1_bringIn_92 (by decide) ?_
        refine lv_iload_n hx hb dX1_bringIn_93 rfl (lv_at hl 3 rfl) ?_
        refine kw_mul hx hb dX1_bringIn_94 ?_
        refine lv_iload_n hx hb dX1_bringIn_95 rfl (lv_at hl 0 rfl) ?_
        refine kw_add hx hb dX1_bringIn_96 ?_
        refine kw_ild (v := (sc1 (4 * ci + j))) hx hb hK hP 7 6 rfl rfl (by omega) (by decide) rfl dX1_bringIn_97 ?_
        refine lv_goto (tgt := 102) hx hb dX1_bringIn_98 (by decide) ?_
        refine kw_ist (f' := (mw_fl fr (4 * fi) (j + 1) (fun i => mw_sv sw1 sc1 ci i))) hx hb hK hP hD hS 9 8 rfl rfl (by omega) (by decide) (by rw [show sc1 (4 * ci + j) = mw_sv sw1 sc1 ci j from by unfold mw_sv; rw [c6]; rfl]; exact mw_fl_s _ _ _ (fun i => mw_sv sw1 sc1 ci i)) dX1_bringIn_102 (fun H locs hP hD hS => ?_)
        have hP : va_P (dC, dI) vwCl (mw_C h0 a d al sh is us (va_up fo1 ci ((some fi))) sw1 sc1 F (va_up ho1 fi ((some ci))) (mw_fl fr (4 * fi) (j + 1) (fun i => mw_sv sw1 sc1 ci i)) (va_up to1 fi true) (va_up di fi false) ha1) H := hP
        have hD : va_D A (mw_C h0 a d al sh is us (va_up fo1 ci ((some fi))) sw1 sc1 F (va_up ho1 fi ((some ci))) (mw_fl fr (4 * fi) (j + 1) (fun i => mw_sv sw1 sc1 ci i)) (va_up to1 fi true) (va_up di fi false) ha1) := hD
        refine lv_iinc (v := (nI (j + 1))) (lv' := [(3, .int (nI (j + 1))), (2, .int (nI fi)), (0, .ref h0), (1, .int (nI ci))]) hx hb dX1_bringIn_103 hl (k := 0) rfl (mw_inc1 _) (by decide) rfl (fun ls hl => ?_)
        refine lv_goto (tgt := 65) hx hb dX1_bringIn_106 (by decide) ?_
        exact ih (j + 1) (by omega) (by omega) _ _ hP hD hS ls (lv_sub hl [0, 1, 2, 3] rfl)
    rw [show fr = mw_fl fr (4 * fi) 0 (fun i => mw_sv sw1 sc1 ci i) from (mw_fl_0 _ _ _).symm] at hP hD
    exact lp 5 0 (by omega) (by omega) _ _ hP hD hS ls (lv_sub hl [0, 1, 2, 3] rfl)
  have hfF := (hL.2.1 ci fi hci c1).1
  refine lv_aload_n hx hb dX1_bringIn_9 rfl (lv_at hl 0 rfl) ?_
  refine va_get (D := (dC, dI)) (ci := 0) (v := .ref (a 10)) (C := RX1) (T := TX1) (N := 13) hx hb hts in_X1 hown hK hP 0 rfl rfl 10 (by decide) (hts _ q34) (fun _ h9 => h9) rfl dX1_bringIn_10 ?_
  refine lv_aload_n hx hb dX1_bringIn_13 rfl (lv_at hl 0 rfl) ?_
  refine va_get (D := (dC, dI)) (ci := 0) (v := .ref (a 4)) (C := RX1) (T := TX1) (N := 13) hx hb hts in_X1 hown hK hP 0 rfl rfl 4 (by decide) (hts _ q28) (fun _ h9 => h9) rfl dX1_bringIn_14 ?_
  refine lv_iload_n hx hb dX1_bringIn_17 rfl (lv_at hl 1 rfl) ?_
  refine kw_bld (v := (nI fi)) hx hb hK hP 5 4 rfl rfl (by omega) (by decide) (congrArg mw_oc c1) dX1_bringIn_18 ?_
  refine lv_iconst (v := (nI 1)) hx hb dX1_bringIn_19 (by decide) ?_
  refine kw_zst (f' := mw_B (va_up to fi true)) hx hb hK hP hD hS 10 9 rfl rfl (by omega) (by decide) (mw_B_st1 _ _) dX1_bringIn_20 (fun H locs hP hD hS => ?_)
  have hP : va_P (dC, dI) vwCl (mw_C h0 a d al sh is us fo sw sc F ho fr (va_up to fi true) di ha) H := hP
  have hD : va_D A (mw_C h0 a d al sh is us fo sw sc F ho fr (va_up to fi true) di ha) := hD
  refine lv_aload_n hx hb dX1_bringIn_21 rfl (lv_at hl 0 rfl) ?_
  refine va_get (D := (dC, dI)) (ci := 0) (v := .ref (a 4)) (C := RX1) (T := TX1) (N := 13) hx hb hts in_X1 hown hK hP 0 rfl rfl 4 (by decide) (hts _ q28) (fun _ h9 => h9) rfl dX1_bringIn_22 ?_
  refine lv_iload_n hx hb dX1_bringIn_25 rfl (lv_at hl 1 rfl) ?_
  refine kw_bld (v := (nI fi)) hx hb hK hP 5 4 rfl rfl (by omega) (by decide) (congrArg mw_oc c1) dX1_bringIn_26 ?_
  rw [hQQ]
  exact W.iret (v := (nI fi)) hx hb hr (fun t9 ht9 hW9 => ⟨⟨_, (fo, sw, sc, ho, fr, va_up to fi true, di, ha), rfl, ⟨fi, hfF, rfl, c1, hL, fun _ _ _ q => q⟩, by rw [ht9]; exact hP, va_K.moved hW9.alike hK, hD⟩, hS.F ht9⟩) hS.2.2 dX1_bringIn_27
set_option maxHeartbeats 4000000 in
set_option maxRecDepth 100000 in
/-- CowMemory.sumOf -/
theorem mX1_sumOf (l : Launch) (dC : Nat → ClassId) (dI : Nat → Nat → Nat) (h0 : Nat) (a : Nat → Nat) (d : Nat → ClassId) (sz : Nat) (al : Nat → Bool) (sh : Nat → Option Nat) (is : Nat → Bool) (us : Nat → Nat) (fo : Nat → Option Nat) (sw : Nat → Bool) (sc : Nat → Int32) (F : Nat) (ho : Nat → Option Nat) (fr : Nat → Int32) (to : Nat → Bool) (di : Nat → Bool) (ha : Nat) (vl : Nat → Nat → Int32) (hL : mw_L vl F fo sw sc ho fr di ha) (ci : Nat) (hci : ci < 20) : Met l yX1_sumOf (ws_ yX1_sumOf cX1_sumOf 5 (some .long)) ({ frames := 0, cells := 0, slots := 0, locals := 0 } : Room) (va_Pc [.ref h0, .int (nI ci)] (fun U => U.heap.size = sz ∧ va_P (dC, dI) vwCl (mw_C h0 a d al sh is us fo sw sc F ho fr to di ha) U.heap ∧ va_K (dC, dI) vwCl (mw_CK d) U ∧ va_D (fun _ => True) (mw_C h0 a d al sh is us fo sw sc F ho fr to di ha))) (va_Ql (fun (r : Int64) (_ : Unit) => r = mw_s4 (vl ci)) (fun (u : Unit) (t : State) => mw_BC dC dI (va_A (mw_C h0 a d al sh is us fo sw sc F ho fr to di ha) sz) h0 a d al sh is us fo sw sc F ho fr to di ha t) (va_A (mw_C h0 a d al sh is us fo sw sc F ho fr to di ha) sz)) 0 0 (va_A (mw_C h0 a d al sh is us fo sw sc F ho fr to di ha) sz) := by
  refine Met.ofW (cc := cX1_sumOf) (maxL := 5) (ret := (some .long)) (by decide) rfl ?_
  intro p e s m args below meth c s₁ B hml hv
  obtain ⟨rfl, hsz, hP, hK, hD0⟩ := hv
  have hx := B.exec
  have hb := B.bytes
  have hr := B.returns
  have hts := atoms_spec (ws := ws_ yX1_sumOf cX1_sumOf 5 (some .long)) B.pre
  have hts : ∀ w ∈ lw_all, w.before _ s = true := fun w h => hts w (List.mem_cons_of_mem _ h)
  have hown : s.vm.findClass RX1 = some m.cls := findClass_of_methodNamed B.named
  have hlocks := B.notSynchronized
  subst hsz
  have hD := hD0.self (sz := s.heap.size)
  generalize hAe : va_A (mw_C h0 a d al sh is us fo sw sc F ho fr to di ha) s.heap.size = A at hD ⊢
  have hA : ∀ q : Nat, s.heap.size ≤ q → A q := fun q h => by rw [← hAe]; exact Or.inr h
  have hS : va_S A s.heap s.heap [] := va_S.rf
  have hl := lv_entry ([.ref h0, .int (nI ci)]) (n := 5) (Nat.le_of_ble_eq_true rfl)
  rw [lg_entry_eq]
  generalize (lg_sl ([.ref h0, .int (nI ci)]) ++ List.replicate (5 - (lg_sl ([.ref h0, .int (nI ci)])).length) Slot.unset).toArray = ls at hl ⊢
  have hl : lv_has ls 5 [(0, .ref h0), (1, .int (nI ci))] := hl
  obtain ⟨QQ, hQQ⟩ : ∃ QQ, QQ = MQ below (va_Ql (fun (r : Int64) (_ : Unit) => r = mw_s4 (vl ci)) (fun (u : Unit) (t : State) => mw_BC dC dI A h0 a d al sh is us fo sw sc F ho fr to di ha t) A) ([.ref h0, .int (nI ci)] : List Value).toArray s 0 0 A := ⟨_, rfl⟩
  rw [← hQQ]
  have hF6 := hL.1.2.1
  refine lv_lconst (v := 0) hx hb dX1_sumOf_0 (by decide) ?_
  refine lv_lstore_n (lv' := [(2, .long 0), (0, .ref h0), (1, .int (nI ci))]) hx hb dX1_sumOf_1 rfl hl (by decide) rfl (fun ls hl => ?_)
  refine lv_iconst (v := (nI 0)) hx hb dX1_sumOf_2 (by decide) ?_
  refine lv_istore (lv' := [(4, .int (nI 0)), (2, .long 0), (0, .ref h0), (1, .int (nI ci))]) hx hb dX1_sumOf_3 hl (by decide) rfl (fun ls hl => ?_)
  have lp : ∀ (n : Nat) (j : Nat) (sm : Int64), (j ≤ 4) → (sm = mw_sl (fun i => (vl ci i).toInt64) j) → (4 - j) < n → ∀ (H : Heap) (locs : List Loc), va_P (dC, dI) vwCl (mw_C h0 a d al sh is us fo sw sc F ho fr to di ha) H → va_D A (mw_C h0 a d al sh is us fo sw sc F ho fr to di ha) → va_S A s.heap H locs → ∀ (ls : Array Slot), lv_has ls 5 [(4, .int (nI j)), (2, .long sm), (0, .ref h0), (1, .int (nI ci))] → W p l e ({ frames := 0, cells := 0, slots := 0, locals := 0 } : Room) s m ([.ref h0, .int (nI ci)] : List Value).toArray below meth c H locs 0 0 QQ (F0 m 5 ls []) := by
    intro n
    induction n with
    | zero =>
      intro j sm hj hs hfuel
      exact absurd hfuel (by omega)
    | succ n ih =>
      intro j sm hj hs hfuel H locs hP hD hS ls hl
      refine lv_iload hx hb dX1_sumOf_5 (lv_at hl 0 rfl) ?_
      refine lv_iconst (v := (nI 4)) hx hb dX1_sumOf_7 (by decide) ?_
      refine kw_ge (tgt := 73) hx hb (by omega) (by omega) dX1_sumOf_8 (by decide) (fun c5 => ?_) (fun c5 => ?_)
      · obtain rfl : j = 4 := by omega
        refine lv_lload_n hx hb dX1_sumOf_73 rfl (lv_at hl 1 rfl) ?_
        rw [hQQ]
        exact W.lret (v := sm) hx hb hr (fun t9 ht9 hW9 => ⟨⟨_, (), rfl, by rw [hs]; rfl, by rw [ht9]; exact hP, va_K.moved hW9.alike hK, hD⟩, hS.F ht9⟩) hS.2.2 dX1_sumOf_74
      refine lv_aload_n hx hb dX1_sumOf_11 rfl (lv_at hl 2 rfl) ?_
      refine va_get (D := (dC, dI)) (ci := 0) (v := .ref (a 4)) (C := RX1) (T := TX1) (N := 13) hx hb hts in_X1 hown hK hP 0 rfl rfl 4 (by decide) (hts _ q28) (fun _ h9 => h9) rfl dX1_sumOf_12 ?_
      refine lv_iload_n hx hb dX1_sumOf_15 rfl (lv_at hl 3 rfl) ?_
      refine kw_bld (v := (mw_oc (fo ci))) hx hb hK hP 5 4 rfl rfl (by omega) (by decide) rfl dX1_sumOf_16 ?_
      refine kw_ifltO (tgt := 43) hx hb (fun f h => by have := (hL.2.1 _ f (by omega) h).1; have := hL.1.2.1; omega) dX1_sumOf_17 (by decide) (fun c6 => ?_) (fun fi c6 => ?_)
      · refine lv_aload_n hx hb dX1_sumOf_43 rfl (lv_at hl 2 rfl) ?_
        refine va_get (D := (dC, dI)) (ci := 0) (v := .ref (a 5)) (C := RX1) (T := TX1) (N := 13) hx hb hts in_X1 hown hK hP 0 rfl rfl 5 (by decide) (hts _ q29) (fun _ h9 => h9) rfl dX1_sumOf_44 ?_
        refine lv_iload_n hx hb dX1_sumOf_47 rfl (lv_at hl 3 rfl) ?_
        refine kw_zld (v := (mw_ob (sw ci))) hx hb hK hP 6 5 rfl rfl (by omega) (by decide) rfl dX1_sumOf_48 ?_
        refine kw_ifeqB (tgt := 67) hx hb dX1_sumOf_49 (by decide) (fun c7 => ?_) (fun c7 => ?_)
        · refine lv_iinc (v := (nI (j + 1))) (lv' := [(4, .int (nI (j + 1))), (2, .long sm), (0, .ref h0), (1, .int (nI ci))]) hx hb dX1_sumOf_67 hl (k := 0) rfl (mw_inc1 _) (by decide) rfl (fun ls hl => ?_)
          refine lv_goto (tgt := 5) hx hb dX1_sumOf_70 (by decide) ?_
          exact ih (j + 1) sm (by omega) (by rw [hs]; show _ = mw_sl _ j + (vl ci j).toInt64; rw [hL.2.2.2.1 ci j hci c5 c6]; unfold mw_sv; rw [c7]; exact (Int64.add_zero _).symm) (by omega) _ _ hP hD hS ls (lv_sub hl [0, 1, 2, 3] rfl)
        refine lv_lload_n hx hb dX1_sumOf_52 rfl (lv_at hl 1 rfl) ?_
        refine lv_aload_n hx hb dX1_sumOf_53 rfl (lv_at hl 2 rfl) ?_
        refine va_get (D := (dC, dI)) (ci := 0) (v := .ref (a 6)) (C := RX1) (T := TX1) (N := 13) hx hb hts in_X1 hown hK hP 0 rfl rfl 6 (by decide) (hts _ q30) (fun _ h9 => h9) rfl dX1_sumOf_54 ?_
        refine lv_iconst (v := (nI 4)) hx hb dX1_sumOf_57 (by decide) ?_
        refine lv_iload_n hx hb dX1_sumOf_58 rfl (lv_at hl 3 rfl) ?_
        refine kw_mul hx hb dX1_sumOf_59 ?_
        refine lv_iload hx hb dX1_sumOf_60 (lv_at hl 0 rfl) ?_
        refine kw_add hx hb dX1_sumOf_62 ?_
        refine kw_ild (v := (sc (4 * ci + j))) hx hb hK hP 7 6 rfl rfl (by omega) (by decide) rfl dX1_sumOf_63 ?_
        refine lv_i2l (v := ((sc (4 * ci + j))).toInt64) hx hb dX1_sumOf_64 rfl ?_
        refine lv_ladd hx hb dX1_sumOf_65 ?_
        refine lv_lstore_n (lv' := [(2, .long (sm + (((sc (4 * ci + j))).toInt64))), (4, .int (nI j)), (0, .ref h0), (1, .int (nI ci))]) hx hb dX1_sumOf_66 rfl hl (by decide) rfl (fun ls hl => ?_)
        refine lv_iinc (v := (nI (j + 1))) (lv' := [(4, .int (nI (j + 1))), (2, .long (sm + (((sc (4 * ci + j))).toInt64))), (0, .ref h0), (1, .int (nI ci))]) hx hb dX1_sumOf_67 hl (k := 1) rfl (mw_inc1 _) (by decide) rfl (fun ls hl => ?_)
        refine lv_goto (tgt := 5) hx hb dX1_sumOf_70 (by decide) ?_
        exact ih (j + 1) (sm + (sc (4 * ci + j)).toInt64) (by omega) (by rw [hs]; show _ = mw_sl _ j + (vl ci j).toInt64; rw [hL.2.2.2.1 ci j hci c5 c6]; unfold mw_sv; rw [c7]; rfl) (by omega) _ _ hP hD hS ls (lv_sub hl [0, 1, 2, 3] rfl)
      have hfF := (hL.2.1 ci fi hci c6).1
      refine lv_lload_n hx hb dX1_sumOf_20 rfl (lv_at hl 1 rfl) ?_
      refine lv_aload_n hx hb dX1_sumOf_21 rfl (lv_at hl 2 rfl) ?_
      refine va_get (D := (dC, dI)) (ci := 0) (v := .ref (a 9)) (C := RX1) (T := TX1) (N := 13) hx hb hts in_X1 hown hK hP 0 rfl rfl 9 (by decide) (hts _ q33) (fun _ h9 => h9) rfl dX1_sumOf_22 ?_
      refine lv_iconst (v := (nI 4)) hx hb dX1_sumOf_25 (by decide) ?_
      refine lv_aload_n hx hb dX1_sumOf_26 rfl (lv_at hl 2 rfl) ?_
      refine va_get (D := (dC, dI)) (ci := 0) (v := .ref (a 4)) (C := RX1) (T := TX1) (N := 13) hx hb hts in_X1 hown hK hP 0 rfl rfl 4 (by decide) (hts _ q28) (fun _ h9 => h9) rfl dX1_sumOf_27 ?_
      refine lv_iload_n hx hb dX1_sumOf_30 rfl (lv_at hl 3 rfl) ?_
      refine kw_bld (v := (nI fi)) hx hb hK hP 5 4 rfl rfl (by omega) (by decide) (congrArg mw_oc c6) dX1_sumOf_31 ?_
      refine kw_mul hx hb dX1_sumOf_32 ?_
      refine lv_iload hx hb dX1_sumOf_33 (lv_at hl 0 rfl) ?_
      refine kw_add hx hb dX1_sumOf_35 ?_
      refine kw_ild (v := (fr (4 * fi + j))) hx hb hK hP 9 8 rfl rfl (by omega) (by decide) rfl dX1_sumOf_36 ?_
      refine lv_i2l (v := ((fr (4 * fi + j))).toInt64) hx hb dX1_sumOf_37 rfl ?_
      refine lv_ladd hx hb dX1_sumOf_38 ?_
      refine lv_lstore_n (lv' := [(2, .long (sm + (((fr (4 * fi + j))).toInt64))), (4, .int (nI j)), (0, .ref h0), (1, .int (nI ci))]) hx hb dX1_sumOf_39 rfl hl (by decide) rfl (fun ls hl => ?_)
      refine lv_goto (tgt := 67) hx hb dX1_sumOf_40 (by decide) ?_
      refine lv_iinc (v := (nI (j + 1))) (lv' := [(4, .int (nI (j + 1))), (2, .long (sm + (((fr (4 * fi + j))).toInt64))), (0, .ref h0), (1, .int (nI ci))]) hx hb dX1_sumOf_67 hl (k := 1) rfl (mw_inc1 _) (by decide) rfl (fun ls hl => ?_)
      refine lv_goto (tgt := 5) hx hb dX1_sumOf_70 (by decide) ?_
      exact ih (j + 1) (sm + (fr (4 * fi + j)).toInt64) (by omega) (by rw [hs]; show _ = mw_sl _ j + (vl ci j).toInt64; rw [hL.2.2.2.2.1 ci fi j hci c5 c6]) (by omega) _ _ hP hD hS ls (lv_sub hl [0, 1, 2, 3] rfl)
  exact lp 5 0 0 (by omega) rfl (by omega) _ _ hP hD hS ls (lv_sub hl [0, 1, 2, 3] rfl)
set_option maxHeartbeats 4000000 in
set_option maxRecDepth 100000 in
/-- CowMemory.part -/
theorem mX1_part (l : Launch) (dC : Nat → ClassId) (dI : Nat → Nat → Nat) (h0 : Nat) (a : Nat → Nat) (d : Nat → ClassId) (sz : Nat) (al : Nat → Bool) (sh : Nat → Option Nat) (is : Nat → Bool) (us : Nat → Nat) (fo : Nat → Option Nat) (sw : Nat → Bool) (sc : Nat → Int32) (F : Nat) (ho : Nat → Option Nat) (fr : Nat → Int32) (to : Nat → Bool) (di : Nat → Bool) (ha : Nat) (vl : Nat → Nat → Int32) (hL : mw_L vl F fo sw sc ho fr di ha) (hU : mw_U sh is us fo) (ei ci : Nat) (hei : ei < 20) (hsi : sh ei = some ci) (hui : 1 < us ci) : Met l yX1_part (ws_ yX1_part cX1_part 9 none) ({ frames := 3, cells := 0, slots := 0, locals := 67 } : Room) (va_Pc [.ref h0, .int (nI ei)] (fun U => U.heap.size = sz ∧ va_P (dC, dI) vwCl (mw_C h0 a d al sh is us fo sw sc F ho fr to di ha) U.heap ∧ va_K (dC, dI) vwCl (mw_CK d) U ∧ va_D (fun _ => True) (mw_C h0 a d al sh is us fo sw sc F ho fr to di ha))) (va_Qv (fun (u : (Nat → Option Nat) × (Nat → Nat) × (Nat → Option Nat) × (Nat → Bool) × (Nat → Int32) × (Nat → Option Nat) × (Nat → Int32) × (Nat → Bool) × (Nat → Bool) × (Nat)) => ∃ n vl', n < 20 ∧ u.1 = va_up sh ei (some n) ∧ (∀ e', e' < 20 → sh e' ≠ some n) ∧ u.2.1 n = 1 ∧ mw_U u.1 is u.2.1 u.2.2.1 ∧ mw_L vl' F u.2.2.1 u.2.2.2.1 u.2.2.2.2.1 u.2.2.2.2.2.1 u.2.2.2.2.2.2.1 u.2.2.2.2.2.2.2.2.1 u.2.2.2.2.2.2.2.2.2 ∧ (∀ i, i < 4 → vl' n i = vl ci i) ∧ ∀ c i, c ≠ n → i < 4 → vl' c i = vl c i) (fun (u : (Nat → Option Nat) × (Nat → Nat) × (Nat → Option Nat) × (Nat → Bool) × (Nat → Int32) × (Nat → Option Nat) × (Nat → Int32) × (Nat → Bool) × (Nat → Bool) × (Nat)) (t : State) => mw_BC dC dI (va_A (mw_C h0 a d al sh is us fo sw sc F ho fr to di ha) sz) h0 a d al u.1 is u.2.1 u.2.2.1 u.2.2.2.1 u.2.2.2.2.1 F u.2.2.2.2.2.1 u.2.2.2.2.2.2.1 u.2.2.2.2.2.2.2.1 u.2.2.2.2.2.2.2.2.1 u.2.2.2.2.2.2.2.2.2 t) (va_A (mw_C h0 a d al sh is us fo sw sc F ho fr to di ha) sz)) 0 0 (va_A (mw_C h0 a d al sh is us fo sw sc F ho fr to di ha) sz) := by
  refine Met.ofW (cc := cX1_part) (maxL := 9) (ret := none) (by decide) rfl ?_
  intro p e s m args below meth c s₁ B hml hv
  obtain ⟨rfl, hsz, hP, hK, hD0⟩ := hv
  have hx := B.exec
  have hb := B.bytes
  have hr := B.returns
  have hts := atoms_spec (ws := ws_ yX1_part cX1_part 9 none) B.pre
  have hts : ∀ w ∈ lw_all, w.before _ s = true := fun w h => hts w (List.mem_cons_of_mem _ h)
  have hown : s.vm.findClass RX1 = some m.cls := findClass_of_methodNamed B.named
  have hlocks := B.notSynchronized
  subst hsz
  have hD := hD0.self (sz := s.heap.size)
  generalize hAe : va_A (mw_C h0 a d al sh is us fo sw sc F ho fr to di ha) s.heap.size = A at hD ⊢
  have hA : ∀ q : Nat, s.heap.size ≤ q → A q := fun q h => by rw [← hAe]; exact Or.inr h
  have hS : va_S A s.heap s.heap [] := va_S.rf
  have hl := lv_entry ([.ref h0, .int (nI ei)]) (n := 9) (Nat.le_of_ble_eq_true rfl)
  rw [lg_entry_eq]
  generalize (lg_sl ([.ref h0, .int (nI ei)]) ++ List.replicate (9 - (lg_sl ([.ref h0, .int (nI ei)])).length) Slot.unset).toArray = ls at hl ⊢
  have hl : lv_has ls 9 [(0, .ref h0), (1, .int (nI ei))] := hl
  obtain ⟨QQ, hQQ⟩ : ∃ QQ, QQ = MQ below (va_Qv (fun (u : (Nat → Option Nat) × (Nat → Nat) × (Nat → Option Nat) × (Nat → Bool) × (Nat → Int32) × (Nat → Option Nat) × (Nat → Int32) × (Nat → Bool) × (Nat → Bool) × (Nat)) => ∃ n vl', n < 20 ∧ u.1 = va_up sh ei (some n) ∧ (∀ e', e' < 20 → sh e' ≠ some n) ∧ u.2.1 n = 1 ∧ mw_U u.1 is u.2.1 u.2.2.1 ∧ mw_L vl' F u.2.2.1 u.2.2.2.1 u.2.2.2.2.1 u.2.2.2.2.2.1 u.2.2.2.2.2.2.1 u.2.2.2.2.2.2.2.2.1 u.2.2.2.2.2.2.2.2.2 ∧ (∀ i, i < 4 → vl' n i = vl ci i) ∧ ∀ c i, c ≠ n → i < 4 → vl' c i = vl c i) (fun (u : (Nat → Option Nat) × (Nat → Nat) × (Nat → Option Nat) × (Nat → Bool) × (Nat → Int32) × (Nat → Option Nat) × (Nat → Int32) × (Nat → Bool) × (Nat → Bool) × (Nat)) (t : State) => mw_BC dC dI A h0 a d al u.1 is u.2.1 u.2.2.1 u.2.2.2.1 u.2.2.2.2.1 F u.2.2.2.2.2.1 u.2.2.2.2.2.2.1 u.2.2.2.2.2.2.2.1 u.2.2.2.2.2.2.2.2.1 u.2.2.2.2.2.2.2.2.2 t) A) ([.ref h0, .int (nI ei)] : List Value).toArray s 0 0 A := ⟨_, rfl⟩
  rw [← hQQ]
  have hF6 := hL.1.2.1
  obtain ⟨hci, hpos⟩ := mw_U_pos hU hei hsi
  have h20 := mw_U_us hU hci
  refine lv_aload_n hx hb dX1_part_0 rfl (lv_at hl 0 rfl) ?_
  refine va_get (D := (dC, dI)) (ci := 0) (v := .ref (a 1)) (C := RX1) (T := TX1) (N := 13) hx hb hts in_X1 hown hK hP 0 rfl rfl 1 (by decide) (hts _ q25) (fun _ h9 => h9) rfl dX1_part_1 ?_
  refine lv_iload_n hx hb dX1_part_4 rfl (lv_at hl 1 rfl) ?_
  refine kw_bld (v := (nI ci)) hx hb hK hP 2 1 rfl rfl (by omega) (by decide) (congrArg mw_oc hsi) dX1_part_5 ?_
  refine lv_istore_n (lv' := [(2, .int (nI ci)), (0, .ref h0), (1, .int (nI ei))]) hx hb dX1_part_6 rfl hl (by decide) rfl (fun ls hl => ?_)
  refine lv_aload_n hx hb dX1_part_7 rfl (lv_at hl 1 rfl) ?_
  refine lv_iload_n hx hb dX1_part_8 rfl (lv_at hl 0 rfl) ?_
  have hFc := va_free (wc := (mw_C h0 a d al sh is us fo sw sc F ho fr to di ha)) hD hS hA [0, 1, 2, 3, 4, 5, 6, 7, 8, 9, 10, 11] rfl
  refine va_calli (va_runV (As := [.int (nI ci)]) (rest := []) ⟨hx, hb, hml, hown, hts⟩ (mX1_bringIn l dC dI h0 a d s.heap.size al sh is us fo sw sc F ho fr to di ha vl hL ci hci) (cwV 1 hts (lw_V q107 q109 qs4 q14 q110) rfl rfl rfl (by decide +kernel) ⟨Nat.le_of_ble_eq_true rfl, Nat.le_of_ble_eq_true rfl⟩) ⟨fun a U g mk q => by obtain ⟨q0, q1, qP, qK, qD⟩ := q; exact ⟨q0, q1, qP, va_K.moved (u := U) (U := U.calling g mk a) (Vm.Alike.refl U.vm) qK, qD⟩, va_recv hK hP (ci := 0) (q0 := 0) rfl rfl, fun U hU hW => ⟨rfl, by rw [hU], by rw [hU]; exact hP, va_K.moved hW.alike hK, hD.weaken (fun _ _ _ _ => trivial)⟩⟩ rfl rfl hl.1 rfl (lv_room (Nat.le_of_ble_eq_true rfl)) dX1_part_9 ⟨Nat.le_refl _, Nat.le_refl _⟩) hS (fun q _ h => hFc q h) hFc (fun r u t9 H1 locs ht9 hvm hw hB hz1 hk1 hS => ?_)
  obtain ⟨fo1, sw1, sc1, ho1, fr1, to1, di1, ha1⟩ := u
  dsimp only at hw
  obtain ⟨hP1, hK1, hD1⟩ : mw_BC dC dI _ h0 a d al sh is us fo1 sw1 sc1 F ho1 fr1 to1 di1 ha1 t9 := hB
  rw [ht9] at hP1
  obtain ⟨hP, hD⟩ := va_join (wr := []) (w1 := (mw_C h0 a d al sh is us fo1 sw1 sc1 F ho1 fr1 to1 di1 ha1)) hP hD [0, 1, 2, 3, 4, 5, 6, 7, 8, 9, 10, 11] [] rfl rfl (by decide) (by decide) hk1 hFc hP1 hD1
  generalize H1 = H at hP hS ⊢
  have hP : va_P (dC, dI) vwCl (mw_C h0 a d al sh is us fo1 sw1 sc1 F ho1 fr1 to1 di1 ha1) H := hP
  have hD : va_D A (mw_C h0 a d al sh is us fo1 sw1 sc1 F ho1 fr1 to1 di1 ha1) := hD
  refine W.widen (k := 0) (n := 0) (Nat.le_refl _) (Nat.le_refl _) ?_
  obtain ⟨fi, hfi, rfl, hfo1, hL1, hmono1⟩ := hw
  refine lv_istore_n (lv' := [(3, .int (nI fi)), (2, .int (nI ci)), (0, .ref h0), (1, .int (nI ei))]) hx hb dX1_part_12 rfl hl (by decide) rfl (fun ls hl => ?_)
  refine lv_aload_n hx hb dX1_part_13 rfl (lv_at hl 2 rfl) ?_
  refine va_get (D := (dC, dI)) (ci := 0) (v := .ref (a 9)) (C := RX1) (T := TX1) (N := 13) hx hb hts in_X1 hown hK hP 0 rfl rfl 9 (by decide) (hts _ q33) (fun _ h9 => h9) rfl dX1_part_14 ?_
  refine lv_iconst (v := (nI 4)) hx hb dX1_part_17 (by decide) ?_
  refine lv_iload_n hx hb dX1_part_18 rfl (lv_at hl 0 rfl) ?_
  refine kw_mul hx hb dX1_part_19 ?_
  refine kw_ild (v := (fr1 (4 * fi))) hx hb hK hP 9 8 rfl rfl (by omega) (by decide) rfl dX1_part_20 ?_
  refine lv_istore (lv' := [(4, .int (fr1 (4 * fi))), (3, .int (nI fi)), (2, .int (nI ci)), (0, .ref h0), (1, .int (nI ei))]) hx hb dX1_part_21 hl (by decide) rfl (fun ls hl => ?_)
  refine lv_aload_n hx hb dX1_part_23 rfl (lv_at hl 3 rfl) ?_
  refine va_get (D := (dC, dI)) (ci := 0) (v := .ref (a 9)) (C := RX1) (T := TX1) (N := 13) hx hb hts in_X1 hown hK hP 0 rfl rfl 9 (by decide) (hts _ q33) (fun _ h9 => h9) rfl dX1_part_24 ?_
  refine lv_iconst (v := (nI 4)) hx hb dX1_part_27 (by decide) ?_
  refine lv_iload_n hx hb dX1_part_28 rfl (lv_at hl 1 rfl) ?_
  refine kw_mul hx hb dX1_part_29 ?_
  refine lv_iconst (v := (nI 1)) hx hb dX1_part_30 (by decide) ?_
  refine kw_add hx hb dX1_part_31 ?_
  refine kw_ild (v := (fr1 (4 * fi + 1))) hx hb hK hP 9 8 rfl rfl (by omega) (by decide) rfl dX1_part_32 ?_
  refine lv_istore (lv' := [(5, .int (fr1 (4 * fi + 1))), (4, .int (fr1 (4 * fi))), (3, .int (nI fi)), (2, .int (nI ci)), (0, .ref h0), (1, .int (nI ei))]) hx hb dX1_part_33 hl (by decide) rfl (fun ls hl => ?_)
  refine lv_aload_n hx hb dX1_part_35 rfl (lv_at hl 4 rfl) ?_
  refine va_get (D := (dC, dI)) (ci := 0) (v := .ref (a 9)) (C := RX1) (T := TX1) (N := 13) hx hb hts in_X1 hown hK hP 0 rfl rfl 9 (by decide) (hts _ q33) (fun _ h9 => h9) rfl dX1_part_36 ?_
  refine lv_iconst (v := (nI 4)) hx hb dX1_part_39 (by decide) ?_
  refine lv_iload_n hx hb dX1_part_40 rfl (lv_at hl 2 rfl) ?_
  refine kw_mul hx hb dX1_part_41 ?_
  refine lv_iconst (v := (nI 2)) hx hb dX1_part_42 (by decide) ?_
  refine kw_add hx hb dX1_part_43 ?_
  refine kw_ild (v := (fr1 (4 * fi + 2))) hx hb hK hP 9 8 rfl rfl (by omega) (by decide) rfl dX1_part_44 ?_
  refine lv_istore (lv' := [(6, .int (fr1 (4 * fi + 2))), (5, .int (fr1 (4 * fi + 1))), (4, .int (fr1 (4 * fi))), (3, .int (nI fi)), (2, .int (nI ci)), (0, .ref h0), (1, .int (nI ei))]) hx hb dX1_part_45 hl (by decide) rfl (fun ls hl => ?_)
  refine lv_aload_n hx hb dX1_part_47 rfl (lv_at hl 5 rfl) ?_
  refine va_get (D := (dC, dI)) (ci := 0) (v := .ref (a 9)) (C := RX1) (T := TX1) (N := 13) hx hb hts in_X1 hown hK hP 0 rfl rfl 9 (by decide) (hts _ q33) (fun _ h9 => h9) rfl dX1_part_48 ?_
  refine lv_iconst (v := (nI 4)) hx hb dX1_part_51 (by decide) ?_
  refine lv_iload_n hx hb dX1_part_52 rfl (lv_at hl 3 rfl) ?_
  refine kw_mul hx hb dX1_part_53 ?_
  refine lv_iconst (v := (nI 3)) hx hb dX1_part_54 (by decide) ?_
  refine kw_add hx hb dX1_part_55 ?_
  refine kw_ild (v := (fr1 (4 * fi + 3))) hx hb hK hP 9 8 rfl rfl (by omega) (by decide) rfl dX1_part_56 ?_
  refine lv_istore (lv' := [(7, .int (fr1 (4 * fi + 3))), (6, .int (fr1 (4 * fi + 2))), (5, .int (fr1 (4 * fi + 1))), (4, .int (fr1 (4 * fi))), (3, .int (nI fi)), (2, .int (nI ci)), (0, .ref h0), (1, .int (nI ei))]) hx hb dX1_part_57 hl (by decide) rfl (fun ls hl => ?_)
  refine lv_aload_n hx hb dX1_part_59 rfl (lv_at hl 6 rfl) ?_
  refine va_get (D := (dC, dI)) (ci := 0) (v := .ref (a 3)) (C := RX1) (T := TX1) (N := 13) hx hb hts in_X1 hown hK hP 0 rfl rfl 3 (by decide) (hts _ q27) (fun _ h9 => h9) rfl dX1_part_60 ?_
  refine lv_iload_n hx hb dX1_part_63 rfl (lv_at hl 5 rfl) ?_
  refine lv_dup2_11 hx hb dX1_part_64 rfl rfl ?_
  refine kw_bld (v := (nI (us ci))) hx hb hK hP 4 3 rfl rfl (by omega) (by decide) rfl dX1_part_65 ?_
  refine lv_iconst (v := (nI 1)) hx hb dX1_part_66 (by decide) ?_
  refine kw_sub hx hb (by omega) dX1_part_67 ?_
  refine kw_i2b hx hb (by omega) dX1_part_68 ?_
  refine kw_bst (f' := mw_N (va_up us ci (us ci - 1))) hx hb hK hP hD hS 4 3 rfl rfl (by omega) (by decide) (mw_N_st _ _ (by omega)) dX1_part_69 (fun H locs hP hD hS => ?_)
  have hP : va_P (dC, dI) vwCl (mw_C h0 a d al sh is (va_up us ci (us ci - 1)) fo1 sw1 sc1 F ho1 fr1 to1 di1 ha1) H := hP
  have hD : va_D A (mw_C h0 a d al sh is (va_up us ci (us ci - 1)) fo1 sw1 sc1 F ho1 fr1 to1 di1 ha1) := hD
  refine lv_aload_n hx hb dX1_part_70 rfl (lv_at hl 6 rfl) ?_
  have hU1 := mw_U_rel (fo' := fo) hU hei hsi (fun _ _ q => q) (fun z => absurd z (by omega))
  have hFc := va_free (wc := (mw_C h0 a d al sh is (va_up us ci (us ci - 1)) fo1 sw1 sc1 F ho1 fr1 to1 di1 ha1)) hD hS hA [0, 1, 2, 3, 4, 5, 6, 7, 8, 9, 10, 11] rfl
  refine va_calli (va_runV (As := []) (rest := []) ⟨hx, hb, hml, hown, hts⟩ (mX1_newContent l dC dI h0 a d H.size al sh is (va_up us ci (us ci - 1)) fo1 sw1 sc1 F ho1 fr1 to1 di1 ha1 (mw_U_free hU1 hei mw_up_s) (fun c hc => mw_U_us hU1 hc)) (cwV 0 hts (lw_V q75 q77 qs1 q14 q78) rfl rfl rfl (by decide +kernel) ⟨Nat.le_of_ble_eq_true rfl, Nat.le_of_ble_eq_true rfl⟩) ⟨fun a U g mk q => by obtain ⟨q0, q1, qP, qK, qD⟩ := q; exact ⟨q0, q1, qP, va_K.moved (u := U) (U := U.calling g mk a) (Vm.Alike.refl U.vm) qK, qD⟩, va_recv hK hP (ci := 0) (q0 := 0) rfl rfl, fun U hU hW => ⟨rfl, by rw [hU], by rw [hU]; exact hP, va_K.moved hW.alike hK, hD.weaken (fun _ _ _ _ => trivial)⟩⟩ rfl rfl hl.1 rfl (lv_room (Nat.le_of_ble_eq_true rfl)) dX1_part_71 ⟨Nat.le_refl _, Nat.le_refl _⟩) hS (fun q _ h => hFc q h) hFc (fun r u t9 H1 locs ht9 hvm hw hB hz1 hk1 hS => ?_)
  obtain ⟨ni, rfl⟩ : ∃ z, z = u := ⟨_, rfl⟩
  have hw := hw
  obtain ⟨hP1, hK1, hD1⟩ : mw_BC dC dI _ h0 a d al sh is (va_up (va_up us ci (us ci - 1)) ni 1) (va_up fo1 ni none) (va_up sw1 ni false) sc1 F ho1 fr1 to1 di1 ha1 t9 := hB
  rw [ht9] at hP1
  obtain ⟨hP, hD⟩ := va_join (wr := []) (w1 := (mw_C h0 a d al sh is (va_up (va_up us ci (us ci - 1)) ni 1) (va_up fo1 ni none) (va_up sw1 ni false) sc1 F ho1 fr1 to1 di1 ha1)) hP hD [0, 1, 2, 3, 4, 5, 6, 7, 8, 9, 10, 11] [] rfl rfl (by decide) (by decide) hk1 hFc hP1 hD1
  generalize H1 = H at hP hS ⊢
  have hP : va_P (dC, dI) vwCl (mw_C h0 a d al sh is (va_up (va_up us ci (us ci - 1)) ni 1) (va_up fo1 ni none) (va_up sw1 ni false) sc1 F ho1 fr1 to1 di1 ha1) H := hP
  have hD : va_D A (mw_C h0 a d al sh is (va_up (va_up us ci (us ci - 1)) ni 1) (va_up fo1 ni none) (va_up sw1 ni false) sc1 F ho1 fr1 to1 di1 ha1) := hD
  refine W.widen (k := 0) (n := 0) (Nat.le_refl _) (Nat.le_refl _) ?_
  obtain ⟨hni, rfl, hz⟩ := hw
  have hnc : ni ≠ ci := fun z => by rw [z, mw_up_s] at hz; omega
  have hus : us ni = 0 := by rw [mw_up_n hnc] at hz; exact hz
  have hfn : fo1 ni = none := hmono1 ni hni hnc (hU.2.2.2 ni hni hus)
  have hL2 := mw_L_new hL1 hfn
  refine lv_istore (lv' := [(8, .int (nI ni)), (7, .int (fr1 (4 * fi + 3))), (6, .int (fr1 (4 * fi + 2))), (5, .int (fr1 (4 * fi + 1))), (4, .int (fr1 (4 * fi))), (3, .int (nI fi)), (2, .int (nI ci)), (0, .ref h0), (1, .int (nI ei))]) hx hb dX1_part_74 hl (by decide) rfl (fun ls hl => ?_)
  refine lv_aload_n hx hb dX1_part_76 rfl (lv_at hl 7 rfl) ?_
  refine va_get (D := (dC, dI)) (ci := 0) (v := .ref (a 1)) (C := RX1) (T := TX1) (N := 13) hx hb hts in_X1 hown hK hP 0 rfl rfl 1 (by decide) (hts _ q25) (fun _ h9 => h9) rfl dX1_part_77 ?_
  refine lv_iload_n hx hb dX1_part_80 rfl (lv_at hl 8 rfl) ?_
  refine lv_iload hx hb dX1_part_81 (lv_at hl 0 rfl) ?_
  refine kw_i2b hx hb (by omega) dX1_part_83 ?_
  refine kw_bst (f' := mw_O (va_up sh ei ((some ni)))) hx hb hK hP hD hS 2 1 rfl rfl (by omega) (by decide) (mw_O_stS _ _ (by omega)) dX1_part_84 (fun H locs hP hD hS => ?_)
  have hP : va_P (dC, dI) vwCl (mw_C h0 a d al (va_up sh ei ((some ni))) is (va_up (va_up us ci (us ci - 1)) ni 1) (va_up fo1 ni none) (va_up sw1 ni false) sc1 F ho1 fr1 to1 di1 ha1) H := hP
  have hD : va_D A (mw_C h0 a d al (va_up sh ei ((some ni))) is (va_up (va_up us ci (us ci - 1)) ni 1) (va_up fo1 ni none) (va_up sw1 ni false) sc1 F ho1 fr1 to1 di1 ha1) := hD
  refine lv_aload_n hx hb dX1_part_85 rfl (lv_at hl 7 rfl) ?_
  refine lv_iload hx hb dX1_part_86 (lv_at hl 0 rfl) ?_
  have hFc := va_free (wc := (mw_C h0 a d al (va_up sh ei ((some ni))) is (va_up (va_up us ci (us ci - 1)) ni 1) (va_up fo1 ni none) (va_up sw1 ni false) sc1 F ho1 fr1 to1 di1 ha1)) hD hS hA [0, 1, 2, 3, 4, 5, 6, 7, 8, 9, 10, 11] rfl
  refine va_calli (va_runV (As := [.int (nI ni)]) (rest := []) ⟨hx, hb, hml, hown, hts⟩ (mX1_bringIn l dC dI h0 a d H.size al (va_up sh ei ((some ni))) is (va_up (va_up us ci (us ci - 1)) ni 1) (va_up fo1 ni none) (va_up sw1 ni false) sc1 F ho1 fr1 to1 di1 ha1 _ hL2 ni hni) (cwV 1 hts (lw_V q107 q109 qs4 q14 q110) rfl rfl rfl (by decide +kernel) ⟨Nat.le_of_ble_eq_true rfl, Nat.le_of_ble_eq_true rfl⟩) ⟨fun a U g mk q => by obtain ⟨q0, q1, qP, qK, qD⟩ := q; exact ⟨q0, q1, qP, va_K.moved (u := U) (U := U.calling g mk a) (Vm.Alike.refl U.vm) qK, qD⟩, va_recv hK hP (ci := 0) (q0 := 0) rfl rfl, fun U hU hW => ⟨rfl, by rw [hU], by rw [hU]; exact hP, va_K.moved hW.alike hK, hD.weaken (fun _ _ _ _ => trivial)⟩⟩ rfl rfl hl.1 rfl (lv_room (Nat.le_of_ble_eq_true rfl)) dX1_part_88 ⟨Nat.le_refl _, Nat.le_refl _⟩) hS (fun q _ h => hFc q h) hFc (fun r u t9 H1 locs ht9 hvm hw hB hz1 hk1 hS => ?_)
  obtain ⟨fo3, sw3, sc3, ho3, fr3, to3, di3, ha3⟩ := u
  dsimp only at hw
  obtain ⟨hP1, hK1, hD1⟩ : mw_BC dC dI _ h0 a d al (va_up sh ei ((some ni))) is (va_up (va_up us ci (us ci - 1)) ni 1) fo3 sw3 sc3 F ho3 fr3 to3 di3 ha3 t9 := hB
  rw [ht9] at hP1
  obtain ⟨hP, hD⟩ := va_join (wr := []) (w1 := (mw_C h0 a d al (va_up sh ei ((some ni))) is (va_up (va_up us ci (us ci - 1)) ni 1) fo3 sw3 sc3 F ho3 fr3 to3 di3 ha3)) hP hD [0, 1, 2, 3, 4, 5, 6, 7, 8, 9, 10, 11] [] rfl rfl (by decide) (by decide) hk1 hFc hP1 hD1
  generalize H1 = H at hP hS ⊢
  have hP : va_P (dC, dI) vwCl (mw_C h0 a d al (va_up sh ei ((some ni))) is (va_up (va_up us ci (us ci - 1)) ni 1) fo3 sw3 sc3 F ho3 fr3 to3 di3 ha3) H := hP
  have hD : va_D A (mw_C h0 a d al (va_up sh ei ((some ni))) is (va_up (va_up us ci (us ci - 1)) ni 1) fo3 sw3 sc3 F ho3 fr3 to3 di3 ha3) := hD
  refine W.widen (k := 0) (n := 0) (Nat.le_refl _) (Nat.le_refl _) ?_
  obtain ⟨fj, hfj, rfl, hfo3, hL3, hmono3⟩ := hw
  refine lv_istore_n (lv' := [(3, .int (nI fj)), (8, .int (nI ni)), (7, .int (fr1 (4 * fi + 3))), (6, .int (fr1 (4 * fi + 2))), (5, .int (fr1 (4 * fi + 1))), (4, .int (fr1 (4 * fi))), (2, .int (nI ci)), (0, .ref h0), (1, .int (nI ei))]) hx hb dX1_part_91 rfl hl (by decide) rfl (fun ls hl => ?_)
  refine lv_aload_n hx hb dX1_part_92 rfl (lv_at hl 7 rfl) ?_
  refine va_get (D := (dC, dI)) (ci := 0) (v := .ref (a 9)) (C := RX1) (T := TX1) (N := 13) hx hb hts in_X1 hown hK hP 0 rfl rfl 9 (by decide) (hts _ q33) (fun _ h9 => h9) rfl dX1_part_93 ?_
  refine lv_iconst (v := (nI 4)) hx hb dX1_part_96 (by decide) ?_
  refine lv_iload_n hx hb dX1_part_97 rfl (lv_at hl 0 rfl) ?_
  refine kw_mul hx hb dX1_part_98 ?_
  refine lv_iload hx hb dX1_part_99 (lv_at hl 5 rfl) ?_
  refine kw_ist (f' := (upd fr3 (4 * fj) ((fr1 (4 * fi))))) hx hb hK hP hD hS 9 8 rfl rfl (by omega) (by decide) rfl dX1_part_101 (fun H locs hP hD hS => ?_)
  have hP : va_P (dC, dI) vwCl (mw_C h0 a d al (va_up sh ei ((some ni))) is (va_up (va_up us ci (us ci - 1)) ni 1) fo3 sw3 sc3 F ho3 (upd fr3 (4 * fj) ((fr1 (4 * fi)))) to3 di3 ha3) H := hP
  have hD : va_D A (mw_C h0 a d al (va_up sh ei ((some ni))) is (va_up (va_up us ci (us ci - 1)) ni 1) fo3 sw3 sc3 F ho3 (upd fr3 (4 * fj) ((fr1 (4 * fi)))) to3 di3 ha3) := hD
  refine lv_aload_n hx hb dX1_part_102 rfl (lv_at hl 7 rfl) ?_
  refine va_get (D := (dC, dI)) (ci := 0) (v := .ref (a 9)) (C := RX1) (T := TX1) (N := 13) hx hb hts in_X1 hown hK hP 0 rfl rfl 9 (by decide) (hts _ q33) (fun _ h9 => h9) rfl dX1_part_103 ?_
  refine lv_iconst (v := (nI 4)) hx hb dX1_part_106 (by decide) ?_
  refine lv_iload_n hx hb dX1_part_107 rfl (lv_at hl 0 rfl) ?_
  refine kw_mul hx hb dX1_part_108 ?_
  refine lv_iconst (v := (nI 1)) hx hb dX1_part_109 (by decide) ?_
  refine kw_add hx hb dX1_part_110 ?_
  refine lv_iload hx hb dX1_part_111 (lv_at hl 4 rfl) ?_
  refine kw_ist (f' := (upd (upd fr3 (4 * fj) ((fr1 (4 * fi)))) (4 * fj + 1) ((fr1 (4 * fi + 1))))) hx hb hK hP hD hS 9 8 rfl rfl (by omega) (by decide) rfl dX1_part_113 (fun H locs hP hD hS => ?_)
  have hP : va_P (dC, dI) vwCl (mw_C h0 a d al (va_up sh ei ((some ni))) is (va_up (va_up us ci (us ci - 1)) ni 1) fo3 sw3 sc3 F ho3 (upd (upd fr3 (4 * fj) ((fr1 (4 * fi)))) (4 * fj + 1) ((fr1 (4 * fi + 1)))) to3 di3 ha3) H := hP
  have hD : va_D A (mw_C h0 a d al (va_up sh ei ((some ni))) is (va_up (va_up us ci (us ci - 1)) ni 1) fo3 sw3 sc3 F ho3 (upd (upd fr3 (4 * fj) ((fr1 (4 * fi)))) (4 * fj + 1) ((fr1 (4 * fi + 1)))) to3 di3 ha3) := hD
  refine lv_aload_n hx hb dX1_part_114 rfl (lv_at hl 7 rfl) ?_
  refine va_get (D := (dC, dI)) (ci := 0) (v := .ref (a 9)) (C := RX1) (T := TX1) (N := 13) hx hb hts in_X1 hown hK hP 0 rfl rfl 9 (by decide) (hts _ q33) (fun _ h9 => h9) rfl dX1_part_115 ?_
  refine lv_iconst (v := (nI 4)) hx hb dX1_part_118 (by decide) ?_
  refine lv_iload_n hx hb dX1_part_119 rfl (lv_at hl 0 rfl) ?_
  refine kw_mul hx hb dX1_part_120 ?_
  refine lv_iconst (v := (nI 2)) hx hb dX1_part_121 (by decide) ?_
  refine kw_add hx hb dX1_part_122 ?_
  refine lv_iload hx hb dX1_part_123 (lv_at hl 3 rfl) ?_
  refine kw_ist (f' := (upd (upd (upd fr3 (4 * fj) ((fr1 (4 * fi)))) (4 * fj + 1) ((fr1 (4 * fi + 1)))) (4 * fj + 2) ((fr1 (4 * fi + 2))))) hx hb hK hP hD hS 9 8 rfl rfl (by omega) (by decide) rfl dX1_part_125 (fun H locs hP hD hS => ?_)
  have hP : va_P (dC, dI) vwCl (mw_C h0 a d al (va_up sh ei ((some ni))) is (va_up (va_up us ci (us ci - 1)) ni 1) fo3 sw3 sc3 F ho3 (upd (upd (upd fr3 (4 * fj) ((fr1 (4 * fi)))) (4 * fj + 1) ((fr1 (4 * fi + 1)))) (4 * fj + 2) ((fr1 (4 * fi + 2)))) to3 di3 ha3) H := hP
  have hD : va_D A (mw_C h0 a d al (va_up sh ei ((some ni))) is (va_up (va_up us ci (us ci - 1)) ni 1) fo3 sw3 sc3 F ho3 (upd (upd (upd fr3 (4 * fj) ((fr1 (4 * fi)))) (4 * fj + 1) ((fr1 (4 * fi + 1)))) (4 * fj + 2) ((fr1 (4 * fi + 2)))) to3 di3 ha3) := hD
  refine lv_aload_n hx hb dX1_part_126 rfl (lv_at hl 7 rfl) ?_
  refine va_get (D := (dC, dI)) (ci := 0) (v := .ref (a 9)) (C := RX1) (T := TX1) (N := 13) hx hb hts in_X1 hown hK hP 0 rfl rfl 9 (by decide) (hts _ q33) (fun _ h9 => h9) rfl dX1_part_127 ?_
  refine lv_iconst (v := (nI 4)) hx hb dX1_part_130 (by decide) ?_
  refine lv_iload_n hx hb dX1_part_131 rfl (lv_at hl 0 rfl) ?_
  refine kw_mul hx hb dX1_part_132 ?_
  refine lv_iconst (v := (nI 3)) hx hb dX1_part_133 (by decide) ?_
  refine kw_add hx hb dX1_part_134 ?_
  refine lv_iload hx hb dX1_part_135 (lv_at hl 2 rfl) ?_
  refine kw_ist (f' := (upd (upd (upd (upd fr3 (4 * fj) ((fr1 (4 * fi)))) (4 * fj + 1) ((fr1 (4 * fi + 1)))) (4 * fj + 2) ((fr1 (4 * fi + 2)))) (4 * fj + 3) ((fr1 (4 * fi + 3))))) hx hb hK hP hD hS 9 8 rfl rfl (by omega) (by decide) rfl dX1_part_137 (fun H locs hP hD hS => ?_)
  have hP : va_P (dC, dI) vwCl (mw_C h0 a d al (va_up sh ei ((some ni))) is (va_up (va_up us ci (us ci - 1)) ni 1) fo3 sw3 sc3 F ho3 (upd (upd (upd (upd fr3 (4 * fj) ((fr1 (4 * fi)))) (4 * fj + 1) ((fr1 (4 * fi + 1)))) (4 * fj + 2) ((fr1 (4 * fi + 2)))) (4 * fj + 3) ((fr1 (4 * fi + 3)))) to3 di3 ha3) H := hP
  have hD : va_D A (mw_C h0 a d al (va_up sh ei ((some ni))) is (va_up (va_up us ci (us ci - 1)) ni 1) fo3 sw3 sc3 F ho3 (upd (upd (upd (upd fr3 (4 * fj) ((fr1 (4 * fi)))) (4 * fj + 1) ((fr1 (4 * fi + 1)))) (4 * fj + 2) ((fr1 (4 * fi + 2)))) (4 * fj + 3) ((fr1 (4 * fi + 3)))) to3 di3 ha3) := hD
  refine lv_aload_n hx hb dX1_part_138 rfl (lv_at hl 7 rfl) ?_
  refine va_get (D := (dC, dI)) (ci := 0) (v := .ref (a 11)) (C := RX1) (T := TX1) (N := 13) hx hb hts in_X1 hown hK hP 0 rfl rfl 11 (by decide) (hts _ q35) (fun _ h9 => h9) rfl dX1_part_139 ?_
  refine lv_iload_n hx hb dX1_part_142 rfl (lv_at hl 0 rfl) ?_
  refine lv_iconst (v := (nI 1)) hx hb dX1_part_143 (by decide) ?_
  refine kw_zst (f' := mw_B (va_up di3 fj true)) hx hb hK hP hD hS 11 10 rfl rfl (by omega) (by decide) (mw_B_st1 _ _) dX1_part_144 (fun H locs hP hD hS => ?_)
  have hP : va_P (dC, dI) vwCl (mw_C h0 a d al (va_up sh ei ((some ni))) is (va_up (va_up us ci (us ci - 1)) ni 1) fo3 sw3 sc3 F ho3 (upd (upd (upd (upd fr3 (4 * fj) ((fr1 (4 * fi)))) (4 * fj + 1) ((fr1 (4 * fi + 1)))) (4 * fj + 2) ((fr1 (4 * fi + 2)))) (4 * fj + 3) ((fr1 (4 * fi + 3)))) to3 (va_up di3 fj true) ha3) H := hP
  have hD : va_D A (mw_C h0 a d al (va_up sh ei ((some ni))) is (va_up (va_up us ci (us ci - 1)) ni 1) fo3 sw3 sc3 F ho3 (upd (upd (upd (upd fr3 (4 * fj) ((fr1 (4 * fi)))) (4 * fj + 1) ((fr1 (4 * fi + 1)))) (4 * fj + 2) ((fr1 (4 * fi + 2)))) (4 * fj + 3) ((fr1 (4 * fi + 3)))) to3 (va_up di3 fj true) ha3) := hD
  have hg : ∀ i, i < 4 → upd (upd (upd (upd fr3 (4 * fj) (fr1 (4 * fi))) (4 * fj + 1) (fr1 (4 * fi + 1))) (4 * fj + 2) (fr1 (4 * fi + 2))) (4 * fj + 3) (fr1 (4 * fi + 3)) (4 * fj + i) = fr1 (4 * fi + i) := by
    intro i hi
    rcases (show i = 0 ∨ i = 1 ∨ i = 2 ∨ i = 3 by omega) with rfl | rfl | rfl | rfl <;> simp [upd]
  have hgo : ∀ j, (j < 4 * fj ∨ 4 * fj + 4 ≤ j) → upd (upd (upd (upd fr3 (4 * fj) (fr1 (4 * fi))) (4 * fj + 1) (fr1 (4 * fi + 1))) (4 * fj + 2) (fr1 (4 * fi + 2))) (4 * fj + 3) (fr1 (4 * fi + 3)) j = fr3 j := by
    intro j hj
    rw [pk_un (by omega), pk_un (by omega), pk_un (by omega), pk_un (by omega)]
  have hL4 := mw_L_wr (fun i => fr1 (4 * fi + i)) hL3 hni hfo3 hg hgo
  have hU2 := mw_U_fo (fo' := fo3) (mw_U_part hU hei hsi hui hni hz) (fun c hc h0 _ => by
    have zn : c ≠ ni := fun z => by rw [z, mw_up_s] at h0; cases h0
    rw [mw_up_n zn] at h0
    have zc : c ≠ ci := fun z => by rw [z, mw_up_s] at h0; omega
    rw [mw_up_n zc] at h0
    refine hmono3 c hc zn ?_
    rw [mw_up_n zn]
    exact hmono1 c hc zc (hU.2.2.2 c hc h0))
  rw [hQQ]
  exact W.vret hx hb hr (fun t9 ht9 hW9 => ⟨⟨(va_up sh ei ((some ni)), va_up (va_up us ci (us ci - 1)) ni 1, fo3, sw3, sc3, ho3, upd (upd (upd (upd fr3 (4 * fj) ((fr1 (4 * fi)))) (4 * fj + 1) ((fr1 (4 * fi + 1)))) (4 * fj + 2) ((fr1 (4 * fi + 2)))) (4 * fj + 3) ((fr1 (4 * fi + 3))), to3, va_up di3 fj true, ha3), rfl, ⟨ni, _, hni, rfl, fun e' he' q => by have := (mw_U_pos hU he' q).2; omega, mw_up_s, hU2, hL4, fun i hi => by rw [mw_up_s]; exact (hL1.2.2.2.2.1 ci fi i hci hi hfo1).symm, fun c i z _ => by rw [mw_up_n z, mw_up_n z]⟩, by rw [ht9]; exact hP, va_K.moved hW9.alike hK, hD⟩, hS.F ht9⟩) hS.2.2 dX1_part_145
end
section
/-! THE CLASS AGAINST THE REFERENCE, 2: attach, fork, exit, write, read, showing, the start -/
theorem mw_attach_dead {al : Nat → Bool} {V : mw_V} {X Y : Nat} (hA : ∀ p, p < 4 → al p = V.1 p) (hX : X ≤ 28) (hX8 : X % 8 ≤ 4) (hY : Y ≤ 28) (hY8 : Y % 8 ≤ 4) (h : al (X / 8) = false ∨ al (Y / 8) = false) : mw_attach V (nI X) (nI Y) = (-2, V) := by
  rw [mw_attach_in hX hX8 hY hY8, if_pos (by rw [← hA _ (by omega), ← hA _ (by omega)]; exact h)]
theorem mw_attach_live {al : Nat → Bool} {V : mw_V} {X Y : Nat} (hA : ∀ p, p < 4 → al p = V.1 p) (hX : X ≤ 28) (hX8 : X % 8 ≤ 4) (hY : Y ≤ 28) (hY8 : Y % 8 ≤ 4) (h : al (X / 8) = true) (h2 : al (Y / 8) = true) : mw_attach V (nI X) (nI Y) = if (V.2.1 (5 * (X / 8) + X % 8)).isSome = true then (-4, V) else if V.2.1 (5 * (Y / 8) + Y % 8) = none ∨ V.2.2.1 (5 * (Y / 8) + Y % 8) = false then (-3, V) else (nI (X % 8), V.1, va_up V.2.1 (5 * (X / 8) + X % 8) (V.2.1 (5 * (Y / 8) + Y % 8)), va_up V.2.2.1 (5 * (X / 8) + X % 8) true, V.2.2.2) := by
  rw [mw_attach_in hX hX8 hY hY8, if_neg (by rw [← hA _ (by omega), ← hA _ (by omega), h, h2]; rintro (q | q) <;> cases q)]
theorem mw_I_attach {al : Nat → Bool} {sh : Nat → Option Nat} {is : Nat → Bool} {us : Nat → Nat} {fo : Nat → Option Nat} {sw : Nat → Bool} {sc : Nat → Int32} {F : Nat} {ho : Nat → Option Nat} {fr : Nat → Int32} {di : Nat → Bool} {ha : Nat} {V : mw_V} {X Y c : Nat} (hI : mw_I al sh is us fo sw sc F ho fr di ha V) (hX : X ≤ 28) (hX8 : X % 8 ≤ 4) (hY : Y ≤ 28) (hY8 : Y % 8 ≤ 4) (h : al (X / 8) = true) (h2 : al (Y / 8) = true) (hs : sh (5 * (X / 8) + X % 8) = none) (ho' : sh (5 * (Y / 8) + Y % 8) = some c) (hi : is (5 * (Y / 8) + Y % 8) = true) : nI (X % 8) = (mw_attach V (nI X) (nI Y)).1 ∧ mw_I al (va_up sh (5 * (X / 8) + X % 8) (some c)) (va_up is (5 * (X / 8) + X % 8) true) (va_up us c (us c + 1)) fo sw sc F ho fr di ha (mw_attach V (nI X) (nI Y)).2 := by
  obtain ⟨hU, hZ, hA, vl, hL, hR⟩ := hI
  obtain ⟨t, a1, a2, a3, a4⟩ := hR.2.1 _ c (show 5 * (Y / 8) + Y % 8 < 20 by omega) ho'
  rw [mw_attach_live hA hX hX8 hY hY8 h h2, if_neg (by rw [hR.1 _ (by omega) hs]; decide), if_neg (by rw [a2, a3, hi]; rintro (q | q) <;> cases q)]
  refine ⟨rfl, ?_, mw_Z_up hZ hX8 h, hA, vl, hL, mw_R_dupS hU hR hs (by omega) ho' hi⟩
  have := mw_U_dup hU (show 5 * (X / 8) + X % 8 < 20 by omega) hs (show 5 * (Y / 8) + Y % 8 < 20 by omega) ho'
  rw [hi] at this
  exact this
theorem mw_attach_busy {al : Nat → Bool} {sh : Nat → Option Nat} {is : Nat → Bool} {vl : Nat → Nat → Int32} {V : mw_V} {X Y c : Nat} (hA : ∀ p, p < 4 → al p = V.1 p) (hR : mw_R sh is vl V.2.1 V.2.2.1 V.2.2.2) (hX : X ≤ 28) (hX8 : X % 8 ≤ 4) (hY : Y ≤ 28) (hY8 : Y % 8 ≤ 4) (h : al (X / 8) = true) (h2 : al (Y / 8) = true) (hs : sh (5 * (X / 8) + X % 8) = some c) : mw_attach V (nI X) (nI Y) = (-4, V) := by
  rw [mw_attach_live hA hX hX8 hY hY8 h h2, if_pos (by rw [mw_R_isSome hR (by omega), hs]; rfl)]
theorem mw_attach_no {al : Nat → Bool} {sh : Nat → Option Nat} {is : Nat → Bool} {vl : Nat → Nat → Int32} {V : mw_V} {X Y : Nat} (hA : ∀ p, p < 4 → al p = V.1 p) (hR : mw_R sh is vl V.2.1 V.2.2.1 V.2.2.2) (hX : X ≤ 28) (hX8 : X % 8 ≤ 4) (hY : Y ≤ 28) (hY8 : Y % 8 ≤ 4) (h : al (X / 8) = true) (h2 : al (Y / 8) = true) (hs : sh (5 * (X / 8) + X % 8) = none) (hn : sh (5 * (Y / 8) + Y % 8) = none ∨ is (5 * (Y / 8) + Y % 8) = false) : mw_attach V (nI X) (nI Y) = (-3, V) := by
  rw [mw_attach_live hA hX hX8 hY hY8 h h2, if_neg (by rw [hR.1 _ (by omega) hs]; decide), if_pos ?_]
  cases q : sh (5 * (Y / 8) + Y % 8) with
  | none => exact Or.inl (hR.1 _ (by omega) q)
  | some c =>
    obtain ⟨t, a1, a2, a3, a4⟩ := hR.2.1 _ c (show 5 * (Y / 8) + Y % 8 < 20 by omega) q
    rcases hn with z | z
    · rw [z] at q
      cases q
    · exact Or.inr (by rw [a3]; exact z)
/-- fork, one page -/
theorem mw_fork_n {al : Nat → Bool} {sh : Nat → Option Nat} {is : Nat → Bool} {us : Nat → Nat} {fo : Nat → Option Nat} {vl : Nat → Nat → Int32} {ms : Nat → Option Nat} {mo : Nat → Bool} {mc : Nat → Int32} {P Q j : Nat} (hU : mw_U sh is us fo) (hR : mw_R sh is vl ms mo mc) (hZ : mw_Z al sh) (hz : ∀ k, j ≤ k → k < 5 → sh (5 * Q + k) = none) (hj : j < 5) (hn : sh (5 * P + j) = none) : mw_U (va_up sh (5 * Q + j) (sh (5 * P + j))) (va_up is (5 * Q + j) (is (5 * P + j))) us fo ∧ mw_R (va_up sh (5 * Q + j) (sh (5 * P + j))) (va_up is (5 * Q + j) (is (5 * P + j))) vl ms mo mc ∧ mw_Z al (va_up sh (5 * Q + j) (sh (5 * P + j))) ∧ ∀ k, j + 1 ≤ k → k < 5 → va_up sh (5 * Q + j) (sh (5 * P + j)) (5 * Q + k) = none := by
  have h0 := hz j (Nat.le_refl _) hj
  rw [mw_up_same (v := sh (5 * P + j)) (by rw [h0, hn])]
  exact ⟨mw_U_is hU _ h0, mw_R_is hR _ h0, hZ, fun k h1 h2 => hz k (by omega) h2⟩
theorem mw_fork_c {al : Nat → Bool} {sh : Nat → Option Nat} {is : Nat → Bool} {us : Nat → Nat} {fo : Nat → Option Nat} {vl : Nat → Nat → Int32} {ma : Nat → Bool} {ms : Nat → Option Nat} {mo : Nat → Bool} {mc : Nat → Int32} {P Q j c : Nat} (hP : P ≤ 3) (hQ : Q ≤ 3) (hU : mw_U sh is us fo) (hR : mw_R sh is vl ms mo mc) (hZ : mw_Z al sh) (hal : al Q = true) (hz : ∀ k, j ≤ k → k < 5 → sh (5 * Q + k) = none) (hj : j < 5) (hn : sh (5 * P + j) = some c) : ∃ ms2 mo2 mc2, mw_copy (ma, ms, mo, mc) (5 * P + j) (5 * Q + j) = (ma, ms2, mo2, mc2) ∧ mw_U (va_up sh (5 * Q + j) (sh (5 * P + j))) (va_up is (5 * Q + j) (is (5 * P + j))) (va_up us c (us c + 1)) fo ∧ mw_R (va_up sh (5 * Q + j) (sh (5 * P + j))) (va_up is (5 * Q + j) (is (5 * P + j))) vl ms2 mo2 mc2 ∧ mw_Z al (va_up sh (5 * Q + j) (sh (5 * P + j))) ∧ ∀ k, j + 1 ≤ k → k < 5 → va_up sh (5 * Q + j) (sh (5 * P + j)) (5 * Q + k) = none := by
  have h0 := hz j (Nat.le_refl _) hj
  obtain ⟨t, a1, a2, a3, a4⟩ := hR.2.1 _ c (show 5 * P + j < 20 by omega) hn
  have hz2 : ∀ k, j + 1 ≤ k → k < 5 → va_up sh (5 * Q + j) (sh (5 * P + j)) (5 * Q + k) = none := fun k h1 h2 => by
    rw [mw_up_n (by omega)]
    exact hz k (by omega) h2
  have hZ2 : mw_Z al (va_up sh (5 * Q + j) (sh (5 * P + j))) := mw_Z_up hZ (by omega) hal
  have hU2 := mw_U_dup hU (show 5 * Q + j < 20 by omega) h0 (show 5 * P + j < 20 by omega) hn
  rw [hn] at hz2 hZ2 ⊢
  have hm0 : ms (5 * Q + j) = none := hR.1 _ (by omega) h0
  cases hi : is (5 * P + j) with
  | true =>
    rw [hi] at hU2 a3
    refine ⟨va_up ms (5 * Q + j) (ms (5 * P + j)), va_up mo (5 * Q + j) (mo (5 * P + j)), mc, ?_, hU2, ?_, hZ2, hz2⟩
    · unfold mw_copy
      rw [if_pos a3]
    · rw [a3]
      exact mw_R_dupS hU hR h0 (by omega) hn hi
  | false =>
    rw [hi] at hU2 a3
    refine ⟨va_up ms (5 * Q + j) (some (mw_new ms)), va_up mo (5 * Q + j) (mo (5 * P + j)), mw_fl mc (4 * mw_new ms) 4 (fun i => mc (4 * t + i)), ?_, hU2, ?_, hZ2, hz2⟩
    · unfold mw_copy
      simp [a3, a2]
    · rw [a3]
      exact mw_R_dupP hU hR h0 (by omega) hn hi a2 (mw_new_lt _) (fun e' he' => mw_new_free (show 5 * Q + j < 20 by omega) hm0 he')
theorem mw_fork_dead {al : Nat → Bool} {V : mw_V} {P Q : Nat} (hA : ∀ p, p < 4 → al p = V.1 p) (hP : P ≤ 3) (hQ : Q ≤ 3) (h : al P = false) : mw_fork V (nI P) (nI Q) = (-2, V) := by
  rw [mw_fork_in hP hQ, if_pos (by rw [← hA P (by omega)]; exact h)]
theorem mw_fork_busy {al : Nat → Bool} {V : mw_V} {P Q : Nat} (hA : ∀ p, p < 4 → al p = V.1 p) (hP : P ≤ 3) (hQ : Q ≤ 3) (h : al P = true) (h2 : al Q = true) : mw_fork V (nI P) (nI Q) = (-4, V) := by
  rw [mw_fork_in hP hQ, if_neg (by rw [← hA P (by omega), h]; decide), if_pos (by rw [← hA Q (by omega)]; exact h2)]
theorem mw_fork_go {al : Nat → Bool} {ma : Nat → Bool} {ms ms1 : Nat → Option Nat} {mo mo1 : Nat → Bool} {mc mc1 : Nat → Int32} {P Q cn : Nat} (hA : ∀ p, p < 4 → al p = ma p) (hP : P ≤ 3) (hQ : Q ≤ 3) (h : al P = true) (h2 : al Q = false) (hE : mw_fk (va_up ma Q true, ms, mo, mc) P Q 5 = (cn, va_up ma Q true, ms1, mo1, mc1)) : mw_fork (ma, ms, mo, mc) (nI P) (nI Q) = (nI cn, va_up ma Q true, ms1, mo1, mc1) := by
  rw [mw_fork_in hP hQ, if_neg (by show ¬ ma P = false; rw [← hA P (by omega), h]; decide), if_neg (by show ¬ ma Q = true; rw [← hA Q (by omega), h2]; decide)]
  show (nI (mw_fk (va_up ma Q true, ms, mo, mc) P Q 5).1, (mw_fk (va_up ma Q true, ms, mo, mc) P Q 5).2) = _
  rw [hE]
/-- write: the last step -/
theorem mw_I_write {al : Nat → Bool} {sh : Nat → Option Nat} {is : Nat → Bool} {us : Nat → Nat} {fo fo1 : Nat → Option Nat} {sw : Nat → Bool} {sc : Nat → Int32} {F : Nat} {ho : Nat → Option Nat} {fr : Nat → Int32} {di : Nat → Bool} {ha : Nat} {V : mw_V} {vl : Nat → Nat → Int32} {P K c f : Nat} (v : Int32) (hU : mw_U sh is us fo) (hZ : mw_Z al sh) (hA : ∀ p, p < 4 → al p = V.1 p) (hR : mw_R sh is vl V.2.1 V.2.2.1 V.2.2.2) (hP : P ≤ 3) (hK : K ≤ 19) (hal : al P = true) (hs : sh (5 * P + K / 4) = some c) (hp : is (5 * P + K / 4) = true ∨ us c ≤ 1) (hL : mw_L vl F fo1 sw sc ho fr di ha) (hf : fo1 c = some f) (hmono : ∀ c', c' < 20 → c' ≠ c → fo c' = none → fo1 c' = none) : nI K = (mw_write V (nI P) (nI K) v).1 ∧ mw_I al sh is us fo1 sw sc F ho (upd fr (4 * f + K % 4) v) (va_up di f true) ha (mw_write V (nI P) (nI K) v).2 := by
  have he : 5 * P + K / 4 < 20 := by omega
  obtain ⟨hc, hpos⟩ := mw_U_pos hU he hs
  obtain ⟨t, a1, a2, a3, a4⟩ := hR.2.1 _ c he hs
  rw [mw_write_in hP hK, if_neg (by rw [← hA P (by omega), hal]; decide), a2]
  refine ⟨rfl, mw_U_fo hU (fun c' hc' h0 q => hmono c' hc' (fun z => by subst z; omega) q), hZ, hA, va_up vl c (upd (vl c) (K % 4) v), ?_, mw_R_write hU hR v he hs a2 (by omega) hp⟩
  refine mw_L_wr _ hL hc hf (fun i hi => ?_) (fun j hj => pk_un (by omega))
  unfold upd
  by_cases z : i = K % 4
  · subst z
    rw [if_pos rfl, if_pos rfl]
  · rw [if_neg (by omega), if_neg z]
    exact (hL.2.2.2.2.1 c f i hc hi hf).symm
theorem mw_write_dead {al : Nat → Bool} {V : mw_V} {P K : Nat} {v : Int32} (hA : ∀ p, p < 4 → al p = V.1 p) (hP : P ≤ 3) (hK : K ≤ 19) (h : al P = false) : mw_write V (nI P) (nI K) v = (-2, V) := by
  rw [mw_write_in hP hK, if_pos (by rw [← hA P (by omega)]; exact h)]
theorem mw_write_no {al : Nat → Bool} {sh : Nat → Option Nat} {is : Nat → Bool} {vl : Nat → Nat → Int32} {V : mw_V} {P K : Nat} {v : Int32} (hA : ∀ p, p < 4 → al p = V.1 p) (hR : mw_R sh is vl V.2.1 V.2.2.1 V.2.2.2) (hP : P ≤ 3) (hK : K ≤ 19) (h : al P = true) (hs : sh (5 * P + K / 4) = none) : mw_write V (nI P) (nI K) v = (-3, V) := by
  rw [mw_write_in hP hK, if_neg (by rw [← hA P (by omega), h]; decide), hR.1 _ (by omega) hs]
theorem mw_read_no {sh : Nat → Option Nat} {is : Nat → Bool} {vl : Nat → Nat → Int32} {V : mw_V} {P K : Nat} (hR : mw_R sh is vl V.2.1 V.2.2.1 V.2.2.2) (hP : P ≤ 3) (hK : K ≤ 19) (hs : sh (5 * P + K / 4) = none) : mw_read V (nI P) (nI K) = 0 := by
  rw [mw_read_in hP hK, hR.1 _ (by omega) hs]
theorem mw_I_read {al : Nat → Bool} {sh : Nat → Option Nat} {is : Nat → Bool} {us : Nat → Nat} {fo fo1 : Nat → Option Nat} {sw : Nat → Bool} {sc : Nat → Int32} {F : Nat} {ho : Nat → Option Nat} {fr : Nat → Int32} {di : Nat → Bool} {ha : Nat} {V : mw_V} {vl : Nat → Nat → Int32} {P K c f : Nat} (hU : mw_U sh is us fo) (hZ : mw_Z al sh) (hA : ∀ p, p < 4 → al p = V.1 p) (hR : mw_R sh is vl V.2.1 V.2.2.1 V.2.2.2) (hP : P ≤ 3) (hK : K ≤ 19) (hs : sh (5 * P + K / 4) = some c) (hL : mw_L vl F fo1 sw sc ho fr di ha) (hf : fo1 c = some f) (hmono : ∀ c', c' < 20 → c' ≠ c → fo c' = none → fo1 c' = none) : fr (4 * f + K % 4) = mw_read V (nI P) (nI K) ∧ mw_I al sh is us fo1 sw sc F ho fr di ha V := by
  have he : 5 * P + K / 4 < 20 := by omega
  obtain ⟨hc, hpos⟩ := mw_U_pos hU he hs
  obtain ⟨t, a1, a2, a3, a4⟩ := hR.2.1 _ c he hs
  rw [mw_read_in hP hK, a2]
  refine ⟨?_, mw_U_fo hU (fun c' hc' h0 q => hmono c' hc' (fun z => by subst z; omega) q), hZ, hA, vl, hL, hR⟩
  rw [← hL.2.2.2.2.1 c f (K % 4) hc (by omega) hf]
  exact a4 _ (by omega)
theorem mw_show_no {al : Nat → Bool} {sh : Nat → Option Nat} {is : Nat → Bool} {vl : Nat → Nat → Int32} {V : mw_V} {P K : Nat} (hA : ∀ p, p < 4 → al p = V.1 p) (hR : mw_R sh is vl V.2.1 V.2.2.1 V.2.2.2) (hP : P ≤ 3) (hK : K ≤ 4) (h : al P = true) (hs : sh (5 * P + K) = none) : mw_show V (nI P) (nI K) = -3 := by
  rw [mw_show_in hP hK, if_neg (by rw [← hA P (by omega), h]; decide), if_pos (hR.1 _ (by omega) hs)]
theorem mw_show_yes {al : Nat → Bool} {sh : Nat → Option Nat} {is : Nat → Bool} {vl : Nat → Nat → Int32} {V : mw_V} {P K c : Nat} (hA : ∀ p, p < 4 → al p = V.1 p) (hR : mw_R sh is vl V.2.1 V.2.2.1 V.2.2.2) (hP : P ≤ 3) (hK : K ≤ 4) (h : al P = true) (hs : sh (5 * P + K) = some c) : mw_show V (nI P) (nI K) = nI (mw_ct (fun j => V.2.1 j == V.2.1 (5 * P + K)) 20) := by
  rw [mw_show_in hP hK, if_neg (by rw [← hA P (by omega), h]; decide), if_neg (mw_R_none hR (by omega) hs)]
theorem mw_Z_exit {al : Nat → Bool} {sh : Nat → Option Nat} {P : Nat} (hZ : mw_Z al sh) (hd : ∀ k, k < 5 → sh (5 * P + k) = none) : mw_Z (va_up al P false) sh := by
  intro p k hp hk q
  by_cases z : p = P
  · subst z
    exact hd k hk
  · rw [mw_up_n z] at q
    exact hZ p k hp hk q
theorem mw_A_up {al ma : Nat → Bool} {P : Nat} {b : Bool} (hA : ∀ p, p < 4 → al p = ma p) : ∀ p, p < 4 → va_up al P b p = va_up ma P b p := by
  intro p hp
  by_cases z : p = P
  · subst z
    rw [mw_up_s, mw_up_s]
  · rw [mw_up_n z, mw_up_n z]
    exact hA p hp
/-- the start -/
theorem mw_I_init {F : Nat} (h2 : 2 ≤ F) (h6 : F ≤ 6) : mw_I (va_up (fun _ => false) 0 true) (mw_iN 20) (fun _ => false) (fun _ => 0) (mw_iN 20) (fun _ => false) (fun _ => 0) F (mw_iN 6) (fun _ => 0) (fun _ => false) 0 (va_up (fun _ => false) 0 true, mw_iN 20, fun _ => false, fun _ => 0) := by
  have hn : ∀ {n k : Nat}, k < n → mw_iN n k = none := fun h => if_pos h
  refine ⟨⟨?_, ?_, ?_, ?_⟩, ?_, fun _ _ => rfl, fun _ _ => 0, ⟨⟨h2, h6, by omega⟩, ?_, ?_, ?_, ?_, ?_⟩, ⟨fun e he _ => hn he, ?_, ?_⟩⟩
  · intro e c he q
    rw [hn he] at q
    cases q
  · intro c hc
    refine (mw_ct_none 20 (fun k hk => ?_)).symm
    rw [hn hk]
    rfl
  · intro e e' c he _ q
    rw [hn he] at q
    cases q
  · intro c hc _
    exact hn hc
  · intro p k hp hk _
    exact hn (by omega)
  · intro c f hc q
    rw [hn hc] at q
    cases q
  · intro f c hf q
    rw [hn (by omega)] at q
    cases q
  · intro c i _ _ _
    rfl
  · intro c f i hc _ q
    rfl
  · intro c f i hc _ q
    rw [hn hc] at q
    cases q
  · intro e c he q
    rw [hn he] at q
    cases q
  · intro e e' c c' he _ _ q
    rw [hn he] at q
    cases q
section CMR2
variable {p : Program} {l : Launch} {e : Env} {R : Room} {s : State} {m : MethodId} {args : Array Value} {below : List Frame} {meth : Method} {c : Code} {H : Heap} {locs : List Loc} {cells slots : Nat} {Q : State → Prop}
variable {cc : ByteArray} {pc : Nat} {ls : Array Slot} {rest : List Value}
theorem kw_ifneN (hexec : p.tables.exec = Jvm.exec) (hb : c.code = cc) {x : Nat} (hx : x < 2 ^ 31) {off : Int} {tgt : Nat} (hdg : decode cc pc = .ok (.ifCond .ne off, 3)) (ht : (pc : Int) + off = (tgt : Int))
    (kt : x ≠ 0 → W p l e R s m args below meth c H locs cells slots Q (F0 m tgt ls rest)) (kf : x = 0 → W p l e R s m args below meth c H locs cells slots Q (F0 m (pc + 3) ls rest)) : W p l e R s m args below meth c H locs cells slots Q (F0 m pc ls (.int (nI x) :: rest)) := lv_if_ne hexec hb hdg ht (fun h => kt (fun q => h (by rw [q]; rfl))) (fun h => kf ((nI_eq hx (by decide)).mp h))
end CMR2
theorem mw_rng2 {x : Int32} (h : nI 2 ≤ x) (h2 : ¬ nI 6 < x) : ∃ F, 2 ≤ F ∧ F ≤ 6 ∧ x = nI F := by
  obtain ⟨F, hF, rfl⟩ := mw_rng (p := x) (n := 6) (by decide) (fun q => absurd (Int32.lt_of_le_of_lt h q) (by decide)) h2
  exact ⟨F, (nI_leI (by decide) (by omega)).mp h, hF, rfl⟩
end
section
/-! CowMemory: the public methods -/
theorem mw_nf {x : Bool} (h : ¬ x = false) : x = true := by
  cases x
  · exact absurd rfl h
  · rfl
theorem mw_in_s {m : Nat → Option Nat} {n d : Nat} (h : m n = some d) (c : Nat) : mw_in m (n + 1) c = (mw_in m n c || decide (c = d)) := by
  show (mw_in m n c || (m n == some c)) = _
  rw [h]
  congr 1
  by_cases z : c = d
  · subst z; simp
  · simp [z, Ne.symm z]
theorem mw_in_n {m : Nat → Option Nat} {n : Nat} (h : m n = none) (c : Nat) : mw_in m (n + 1) c = mw_in m n c := by
  show (mw_in m n c || (m n == some c)) = _
  rw [h]
  simp
set_option maxHeartbeats 4000000 in
set_option maxRecDepth 100000 in
/-- CowMemory.map -/
theorem mX1_map (l : Launch) (dC : Nat → ClassId) (dI : Nat → Nat → Nat) (h0 : Nat) (a : Nat → Nat) (d : Nat → ClassId) (sz : Nat) (al : Nat → Bool) (sh : Nat → Option Nat) (is : Nat → Bool) (us : Nat → Nat) (fo : Nat → Option Nat) (sw : Nat → Bool) (sc : Nat → Int32) (F : Nat) (ho : Nat → Option Nat) (fr : Nat → Int32) (to : Nat → Bool) (di : Nat → Bool) (ha : Nat) (ma : Nat → Bool) (ms : Nat → Option Nat) (mo : Nat → Bool) (mc : Nat → Int32) (hI : mw_I al sh is us fo sw sc F ho fr di ha (ma, ms, mo, mc)) (pp kk : Int32) (b : Bool) : Met l yX1_map (ws_ yX1_map cX1_map 6 (some .int)) ({ frames := 1, cells := 0, slots := 0, locals := 22 } : Room) (va_Pc [.ref h0, .int pp, .int kk, .int (mw_ob b)] (fun U => U.heap.size = sz ∧ va_P (dC, dI) vwCl (mw_C h0 a d al sh is us fo sw sc F ho fr to di ha) U.heap ∧ va_K (dC, dI) vwCl (mw_CK d) U ∧ va_D (fun _ => True) (mw_C h0 a d al sh is us fo sw sc F ho fr to di ha))) (va_Qi (fun (r : Int32) (u : (Nat → Bool) × (Nat → Option Nat) × (Nat → Bool) × (Nat → Nat) × (Nat → Option Nat) × (Nat → Bool) × (Nat → Int32) × (Nat → Option Nat) × (Nat → Int32) × (Nat → Bool) × (Nat → Bool) × (Nat)) => r = (mw_map (ma, ms, mo, mc) pp kk b).1 ∧ mw_I u.1 u.2.1 u.2.2.1 u.2.2.2.1 u.2.2.2.2.1 u.2.2.2.2.2.1 u.2.2.2.2.2.2.1 F u.2.2.2.2.2.2.2.1 u.2.2.2.2.2.2.2.2.1 u.2.2.2.2.2.2.2.2.2.2.1 u.2.2.2.2.2.2.2.2.2.2.2 (mw_map (ma, ms, mo, mc) pp kk b).2) (fun (u : (Nat → Bool) × (Nat → Option Nat) × (Nat → Bool) × (Nat → Nat) × (Nat → Option Nat) × (Nat → Bool) × (Nat → Int32) × (Nat → Option Nat) × (Nat → Int32) × (Nat → Bool) × (Nat → Bool) × (Nat)) (t : State) => mw_BC dC dI (va_A (mw_C h0 a d al sh is us fo sw sc F ho fr to di ha) sz) h0 a d u.1 u.2.1 u.2.2.1 u.2.2.2.1 u.2.2.2.2.1 u.2.2.2.2.2.1 u.2.2.2.2.2.2.1 F u.2.2.2.2.2.2.2.1 u.2.2.2.2.2.2.2.2.1 u.2.2.2.2.2.2.2.2.2.1 u.2.2.2.2.2.2.2.2.2.2.1 u.2.2.2.2.2.2.2.2.2.2.2 t) (va_A (mw_C h0 a d al sh is us fo sw sc F ho fr to di ha) sz)) 0 0 (va_A (mw_C h0 a d al sh is us fo sw sc F ho fr to di ha) sz) := by
  refine Met.ofW (cc := cX1_map) (maxL := 6) (ret := (some .int)) (by decide) rfl ?_
  intro p e s m args below meth c s₁ B hml hv
  obtain ⟨rfl, hsz, hP, hK, hD0⟩ := hv
  have hx := B.exec
  have hb := B.bytes
  have hr := B.returns
  have hts := atoms_spec (ws := ws_ yX1_map cX1_map 6 (some .int)) B.pre
  have hts : ∀ w ∈ lw_all, w.before _ s = true := fun w h => hts w (List.mem_cons_of_mem _ h)
  have hown : s.vm.findClass RX1 = some m.cls := findClass_of_methodNamed B.named
  have hlocks := B.notSynchronized
  subst hsz
  have hD := hD0.self (sz := s.heap.size)
  generalize hAe : va_A (mw_C h0 a d al sh is us fo sw sc F ho fr to di ha) s.heap.size = A at hD ⊢
  have hA : ∀ q : Nat, s.heap.size ≤ q → A q := fun q h => by rw [← hAe]; exact Or.inr h
  have hS : va_S A s.heap s.heap [] := va_S.rf
  have hl := lv_entry ([.ref h0, .int pp, .int kk, .int (mw_ob b)]) (n := 6) (Nat.le_of_ble_eq_true rfl)
  rw [lg_entry_eq]
  generalize (lg_sl ([.ref h0, .int pp, .int kk, .int (mw_ob b)]) ++ List.replicate (6 - (lg_sl ([.ref h0, .int pp, .int kk, .int (mw_ob b)])).length) Slot.unset).toArray = ls at hl ⊢
  have hl : lv_has ls 6 [(0, .ref h0), (1, .int pp), (2, .int kk), (3, .int (mw_ob b))] := hl
  obtain ⟨QQ, hQQ⟩ : ∃ QQ, QQ = MQ below (va_Qi (fun (r : Int32) (u : (Nat → Bool) × (Nat → Option Nat) × (Nat → Bool) × (Nat → Nat) × (Nat → Option Nat) × (Nat → Bool) × (Nat → Int32) × (Nat → Option Nat) × (Nat → Int32) × (Nat → Bool) × (Nat → Bool) × (Nat)) => r = (mw_map (ma, ms, mo, mc) pp kk b).1 ∧ mw_I u.1 u.2.1 u.2.2.1 u.2.2.2.1 u.2.2.2.2.1 u.2.2.2.2.2.1 u.2.2.2.2.2.2.1 F u.2.2.2.2.2.2.2.1 u.2.2.2.2.2.2.2.2.1 u.2.2.2.2.2.2.2.2.2.2.1 u.2.2.2.2.2.2.2.2.2.2.2 (mw_map (ma, ms, mo, mc) pp kk b).2) (fun (u : (Nat → Bool) × (Nat → Option Nat) × (Nat → Bool) × (Nat → Nat) × (Nat → Option Nat) × (Nat → Bool) × (Nat → Int32) × (Nat → Option Nat) × (Nat → Int32) × (Nat → Bool) × (Nat → Bool) × (Nat)) (t : State) => mw_BC dC dI A h0 a d u.1 u.2.1 u.2.2.1 u.2.2.2.1 u.2.2.2.2.1 u.2.2.2.2.2.1 u.2.2.2.2.2.2.1 F u.2.2.2.2.2.2.2.1 u.2.2.2.2.2.2.2.2.1 u.2.2.2.2.2.2.2.2.2.1 u.2.2.2.2.2.2.2.2.2.2.1 u.2.2.2.2.2.2.2.2.2.2.2 t) A) ([.ref h0, .int pp, .int kk, .int (mw_ob b)] : List Value).toArray s 0 0 A := ⟨_, rfl⟩
  rw [← hQQ]
  obtain ⟨hU, hZ, hA0, vl, hL, hR⟩ := id hI
  have hA0 : ∀ p, p < 4 → al p = ma p := hA0
  have hR : mw_R sh is vl ms mo mc := hR
  refine lv_aload_n hx hb dX1_map_0 rfl (lv_at hl 0 rfl) ?_
  refine lv_iload_n hx hb dX1_map_1 rfl (lv_at hl 1 rfl) ?_
  refine lv_iload_n hx hb dX1_map_2 rfl (lv_at hl 2 rfl) ?_
  have hFc := va_free (wc := (mw_C h0 a d al sh is us fo sw sc F ho fr to di ha)) hD hS hA [0, 1, 2, 3, 4, 5, 6, 7, 8, 9, 10, 11] rfl
  refine va_calli (va_runV (As := [.int pp, .int kk]) (rest := []) ⟨hx, hb, hml, hown, hts⟩ (mX1_check l dC dI h0 a d s.heap.size al sh is us fo sw sc F ho fr to di ha pp kk) (cwV 2 hts (lw_V q71 q73 qs0 q14 q74) rfl rfl rfl (by decide +kernel) ⟨Nat.le_of_ble_eq_true rfl, Nat.le_of_ble_eq_true rfl⟩) ⟨fun a U g mk q => by obtain ⟨q0, q1, qP, qK, qD⟩ := q; exact ⟨q0, q1, qP, va_K.moved (u := U) (U := U.calling g mk a) (Vm.Alike.refl U.vm) qK, qD⟩, va_recv hK hP (ci := 0) (q0 := 0) rfl rfl, fun U hU hW => ⟨rfl, by rw [hU], by rw [hU]; exact hP, va_K.moved hW.alike hK, hD.weaken (fun _ _ _ _ => trivial)⟩⟩ rfl rfl hl.1 rfl (lv_room (Nat.le_of_ble_eq_true rfl)) dX1_map_3 ⟨Nat.le_refl _, Nat.le_refl _⟩) hS (fun q _ h => hFc q h) hFc (fun r u t9 H1 locs ht9 hvm hw hB hz1 hk1 hS => ?_)
  have hw := hw
  obtain ⟨hP1, hK1, hD1⟩ : mw_BC dC dI _ h0 a d al sh is us fo sw sc F ho fr to di ha t9 := hB
  rw [ht9] at hP1
  obtain ⟨hP, hD⟩ := va_join (wr := []) (w1 := (mw_C h0 a d al sh is us fo sw sc F ho fr to di ha)) hP hD [0, 1, 2, 3, 4, 5, 6, 7, 8, 9, 10, 11] [] rfl rfl (by decide) (by decide) hk1 hFc hP1 hD1
  generalize H1 = H at hP hS ⊢
  have hP : va_P (dC, dI) vwCl (mw_C h0 a d al sh is us fo sw sc F ho fr to di ha) H := hP
  have hD : va_D A (mw_C h0 a d al sh is us fo sw sc F ho fr to di ha) := hD
  refine W.widen (k := 0) (n := 0) (Nat.le_refl _) (Nat.le_refl _) ?_
  subst hw
  refine lv_istore (lv' := [(4, .int (mw_chk al pp kk)), (0, .ref h0), (1, .int pp), (2, .int kk), (3, .int (mw_ob b))]) hx hb dX1_map_6 hl (by decide) rfl (fun ls hl => ?_)
  refine lv_iload hx hb dX1_map_8 (lv_at hl 0 rfl) ?_
  refine lv_if_eq (tgt := 16) hx hb dX1_map_10 (by decide) (fun c1 => ?_) (fun c1 => ?_)
  · obtain ⟨P, K, hP3, hK4, rfl, rfl, hal⟩ := mw_chk_0 c1
    have hl : lv_has ls 6 [(0, .ref h0), (1, .int (nI P)), (2, .int (nI K)), (3, .int (mw_ob b))] := lv_sub hl [1, 2, 3, 4] rfl
    refine lv_iconst (v := (nI 5)) hx hb dX1_map_16 (by decide) ?_
    refine lv_iload_n hx hb dX1_map_17 rfl (lv_at hl 1 rfl) ?_
    refine kw_mul hx hb dX1_map_18 ?_
    refine lv_iload_n hx hb dX1_map_19 rfl (lv_at hl 2 rfl) ?_
    refine kw_add hx hb dX1_map_20 ?_
    refine lv_istore (lv' := [(5, .int (nI (5 * P + K))), (0, .ref h0), (1, .int (nI P)), (2, .int (nI K)), (3, .int (mw_ob b))]) hx hb dX1_map_21 hl (by decide) rfl (fun ls hl => ?_)
    refine lv_aload_n hx hb dX1_map_23 rfl (lv_at hl 1 rfl) ?_
    refine va_get (D := (dC, dI)) (ci := 0) (v := .ref (a 1)) (C := RX1) (T := TX1) (N := 13) hx hb hts in_X1 hown hK hP 0 rfl rfl 1 (by decide) (hts _ q25) (fun _ h9 => h9) rfl dX1_map_24 ?_
    refine lv_iload hx hb dX1_map_27 (lv_at hl 0 rfl) ?_
    refine kw_bld (v := (mw_oc (sh (5 * P + K)))) hx hb hK hP 2 1 rfl rfl (by omega) (by decide) rfl dX1_map_29 ?_
    refine kw_ifltO (tgt := 36) hx hb (fun c h => Nat.lt_trans (hU.1 _ c (by omega) h) (by decide)) dX1_map_30 (by decide) (fun c2 => ?_) (fun ci c2 => ?_)
    · refine lv_aload_n hx hb dX1_map_36 rfl (lv_at hl 1 rfl) ?_
      refine va_get (D := (dC, dI)) (ci := 0) (v := .ref (a 1)) (C := RX1) (T := TX1) (N := 13) hx hb hts in_X1 hown hK hP 0 rfl rfl 1 (by decide) (hts _ q25) (fun _ h9 => h9) rfl dX1_map_37 ?_
      refine lv_iload hx hb dX1_map_40 (lv_at hl 0 rfl) ?_
      refine lv_aload_n hx hb dX1_map_42 rfl (lv_at hl 1 rfl) ?_
      have hFc := va_free (wc := (mw_C h0 a d al sh is us fo sw sc F ho fr to di ha)) hD hS hA [0, 1, 2, 3, 4, 5, 6, 7, 8, 9, 10, 11] rfl
      refine va_calli (va_runV (As := []) (rest := [.int (nI (5 * P + K)), .ref (a 1)]) ⟨hx, hb, hml, hown, hts⟩ (mX1_newContent l dC dI h0 a d H.size al sh is us fo sw sc F ho fr to di ha (mw_U_free hU (show 5 * P + K < 20 by omega) c2) (fun c hc => mw_U_us hU hc)) (cwV 0 hts (lw_V q75 q77 qs1 q14 q78) rfl rfl rfl (by decide +kernel) ⟨Nat.le_of_ble_eq_true rfl, Nat.le_of_ble_eq_true rfl⟩) ⟨fun a U g mk q => by obtain ⟨q0, q1, qP, qK, qD⟩ := q; exact ⟨q0, q1, qP, va_K.moved (u := U) (U := U.calling g mk a) (Vm.Alike.refl U.vm) qK, qD⟩, va_recv hK hP (ci := 0) (q0 := 0) rfl rfl, fun U hU hW => ⟨rfl, by rw [hU], by rw [hU]; exact hP, va_K.moved hW.alike hK, hD.weaken (fun _ _ _ _ => trivial)⟩⟩ rfl rfl hl.1 rfl (lv_room (Nat.le_of_ble_eq_true rfl)) dX1_map_43 ⟨Nat.le_refl _, Nat.le_refl _⟩) hS (fun q _ h => hFc q h) hFc (fun r u t9 H1 locs ht9 hvm hw hB hz1 hk1 hS => ?_)
      obtain ⟨ni, rfl⟩ : ∃ z, z = u := ⟨_, rfl⟩
      have hw := hw
      obtain ⟨hP1, hK1, hD1⟩ : mw_BC dC dI _ h0 a d al sh is (va_up us ni 1) (va_up fo ni none) (va_up sw ni false) sc F ho fr to di ha t9 := hB
      rw [ht9] at hP1
      obtain ⟨hP, hD⟩ := va_join (wr := []) (w1 := (mw_C h0 a d al sh is (va_up us ni 1) (va_up fo ni none) (va_up sw ni false) sc F ho fr to di ha)) hP hD [0, 1, 2, 3, 4, 5, 6, 7, 8, 9, 10, 11] [] rfl rfl (by decide) (by decide) hk1 hFc hP1 hD1
      generalize H1 = H at hP hS ⊢
      have hP : va_P (dC, dI) vwCl (mw_C h0 a d al sh is (va_up us ni 1) (va_up fo ni none) (va_up sw ni false) sc F ho fr to di ha) H := hP
      have hD : va_D A (mw_C h0 a d al sh is (va_up us ni 1) (va_up fo ni none) (va_up sw ni false) sc F ho fr to di ha) := hD
      refine W.widen (k := 0) (n := 0) (Nat.le_refl _) (Nat.le_refl _) ?_
      obtain ⟨hni, rfl, hz⟩ := hw
      refine kw_i2b hx hb (by omega) dX1_map_46 ?_
      refine kw_bst (f' := mw_O (va_up sh (5 * P + K) (some ni))) hx hb hK hP hD hS 2 1 rfl rfl (by omega) (by decide) (mw_O_stS _ _ (by omega)) dX1_map_47 (fun H locs hP hD hS => ?_)
      have hP : va_P (dC, dI) vwCl (mw_C h0 a d al (va_up sh (5 * P + K) (some ni)) is (va_up us ni 1) (va_up fo ni none) (va_up sw ni false) sc F ho fr to di ha) H := hP
      have hD : va_D A (mw_C h0 a d al (va_up sh (5 * P + K) (some ni)) is (va_up us ni 1) (va_up fo ni none) (va_up sw ni false) sc F ho fr to di ha) := hD
      refine lv_aload_n hx hb dX1_map_48 rfl (lv_at hl 1 rfl) ?_
      refine va_get (D := (dC, dI)) (ci := 0) (v := .ref (a 2)) (C := RX1) (T := TX1) (N := 13) hx hb hts in_X1 hown hK hP 0 rfl rfl 2 (by decide) (hts _ q26) (fun _ h9 => h9) rfl dX1_map_49 ?_
      refine lv_iload hx hb dX1_map_52 (lv_at hl 0 rfl) ?_
      refine lv_iload_n hx hb dX1_map_54 rfl (lv_at hl 4 rfl) ?_
      refine kw_zst (f' := mw_B (va_up is (5 * P + K) b)) hx hb hK hP hD hS 3 2 rfl rfl (by omega) (by decide) (mw_B_st _ _ _) dX1_map_55 (fun H locs hP hD hS => ?_)
      have hP : va_P (dC, dI) vwCl (mw_C h0 a d al (va_up sh (5 * P + K) (some ni)) (va_up is (5 * P + K) b) (va_up us ni 1) (va_up fo ni none) (va_up sw ni false) sc F ho fr to di ha) H := hP
      have hD : va_D A (mw_C h0 a d al (va_up sh (5 * P + K) (some ni)) (va_up is (5 * P + K) b) (va_up us ni 1) (va_up fo ni none) (va_up sw ni false) sc F ho fr to di ha) := hD
      refine lv_iload_n hx hb dX1_map_56 rfl (lv_at hl 3 rfl) ?_
      rw [hQQ]
      exact W.iret (v := (nI K)) hx hb hr (fun t9 ht9 hW9 => ⟨⟨_, (al, va_up sh (5 * P + K) (some ni), va_up is (5 * P + K) b, va_up us ni 1, va_up fo ni none, va_up sw ni false, sc, ho, fr, to, di, ha), rfl, mw_I_map b hI hP3 hK4 hal c2 hni hz, by rw [ht9]; exact hP, va_K.moved hW9.alike hK, hD⟩, hS.F ht9⟩) hS.2.2 dX1_map_57
    refine lv_bipush (v := (-4)) hx hb dX1_map_33 (by decide) ?_
    rw [hQQ]
    exact W.iret (v := (-4)) hx hb hr (fun t9 ht9 hW9 => ⟨⟨_, (al, sh, is, us, fo, sw, sc, ho, fr, to, di, ha), rfl, ⟨by rw [mw_map_busy b hI hP3 hK4 hal c2], by rw [mw_map_busy b hI hP3 hK4 hal c2]; exact hI⟩, by rw [ht9]; exact hP, va_K.moved hW9.alike hK, hD⟩, hS.F ht9⟩) hS.2.2 dX1_map_35
  refine lv_iload hx hb dX1_map_13 (lv_at hl 0 rfl) ?_
  rw [hQQ]
  exact W.iret (v := (mw_chk al pp kk)) hx hb hr (fun t9 ht9 hW9 => ⟨⟨_, (al, sh, is, us, fo, sw, sc, ho, fr, to, di, ha), rfl, ⟨by rw [mw_map_chk (V := (ma, ms, mo, mc)) hA0 c1], by rw [mw_map_chk (V := (ma, ms, mo, mc)) hA0 c1]; exact hI⟩, by rw [ht9]; exact hP, va_K.moved hW9.alike hK, hD⟩, hS.F ht9⟩) hS.2.2 dX1_map_15
set_option maxHeartbeats 4000000 in
set_option maxRecDepth 100000 in
/-- CowMemory.unmap -/
theorem mX1_unmap (l : Launch) (dC : Nat → ClassId) (dI : Nat → Nat → Nat) (h0 : Nat) (a : Nat → Nat) (d : Nat → ClassId) (sz : Nat) (al : Nat → Bool) (sh : Nat → Option Nat) (is : Nat → Bool) (us : Nat → Nat) (fo : Nat → Option Nat) (sw : Nat → Bool) (sc : Nat → Int32) (F : Nat) (ho : Nat → Option Nat) (fr : Nat → Int32) (to : Nat → Bool) (di : Nat → Bool) (ha : Nat) (ma : Nat → Bool) (ms : Nat → Option Nat) (mo : Nat → Bool) (mc : Nat → Int32) (hI : mw_I al sh is us fo sw sc F ho fr di ha (ma, ms, mo, mc)) (pp kk : Int32) : Met l yX1_unmap (ws_ yX1_unmap cX1_unmap 5 (some .int)) ({ frames := 1, cells := 0, slots := 0, locals := 22 } : Room) (va_Pc [.ref h0, .int pp, .int kk] (fun U => U.heap.size = sz ∧ va_P (dC, dI) vwCl (mw_C h0 a d al sh is us fo sw sc F ho fr to di ha) U.heap ∧ va_K (dC, dI) vwCl (mw_CK d) U ∧ va_D (fun _ => True) (mw_C h0 a d al sh is us fo sw sc F ho fr to di ha))) (va_Qi (fun (r : Int32) (u : (Nat → Bool) × (Nat → Option Nat) × (Nat → Bool) × (Nat → Nat) × (Nat → Option Nat) × (Nat → Bool) × (Nat → Int32) × (Nat → Option Nat) × (Nat → Int32) × (Nat → Bool) × (Nat → Bool) × (Nat)) => r = (mw_unmap (ma, ms, mo, mc) pp kk).1 ∧ mw_I u.1 u.2.1 u.2.2.1 u.2.2.2.1 u.2.2.2.2.1 u.2.2.2.2.2.1 u.2.2.2.2.2.2.1 F u.2.2.2.2.2.2.2.1 u.2.2.2.2.2.2.2.2.1 u.2.2.2.2.2.2.2.2.2.2.1 u.2.2.2.2.2.2.2.2.2.2.2 (mw_unmap (ma, ms, mo, mc) pp kk).2) (fun (u : (Nat → Bool) × (Nat → Option Nat) × (Nat → Bool) × (Nat → Nat) × (Nat → Option Nat) × (Nat → Bool) × (Nat → Int32) × (Nat → Option Nat) × (Nat → Int32) × (Nat → Bool) × (Nat → Bool) × (Nat)) (t : State) => mw_BC dC dI (va_A (mw_C h0 a d al sh is us fo sw sc F ho fr to di ha) sz) h0 a d u.1 u.2.1 u.2.2.1 u.2.2.2.1 u.2.2.2.2.1 u.2.2.2.2.2.1 u.2.2.2.2.2.2.1 F u.2.2.2.2.2.2.2.1 u.2.2.2.2.2.2.2.2.1 u.2.2.2.2.2.2.2.2.2.1 u.2.2.2.2.2.2.2.2.2.2.1 u.2.2.2.2.2.2.2.2.2.2.2 t) (va_A (mw_C h0 a d al sh is us fo sw sc F ho fr to di ha) sz)) 0 0 (va_A (mw_C h0 a d al sh is us fo sw sc F ho fr to di ha) sz) := by
  refine Met.ofW (cc := cX1_unmap) (maxL := 5) (ret := (some .int)) (by decide) rfl ?_
  intro p e s m args below meth c s₁ B hml hv
  obtain ⟨rfl, hsz, hP, hK, hD0⟩ := hv
  have hx := B.exec
  have hb := B.bytes
  have hr := B.returns
  have hts := atoms_spec (ws := ws_ yX1_unmap cX1_unmap 5 (some .int)) B.pre
  have hts : ∀ w ∈ lw_all, w.before _ s = true := fun w h => hts w (List.mem_cons_of_mem _ h)
  have hown : s.vm.findClass RX1 = some m.cls := findClass_of_methodNamed B.named
  have hlocks := B.notSynchronized
  subst hsz
  have hD := hD0.self (sz := s.heap.size)
  generalize hAe : va_A (mw_C h0 a d al sh is us fo sw sc F ho fr to di ha) s.heap.size = A at hD ⊢
  have hA : ∀ q : Nat, s.heap.size ≤ q → A q := fun q h => by rw [← hAe]; exact Or.inr h
  have hS : va_S A s.heap s.heap [] := va_S.rf
  have hl := lv_entry ([.ref h0, .int pp, .int kk]) (n := 5) (Nat.le_of_ble_eq_true rfl)
  rw [lg_entry_eq]
  generalize (lg_sl ([.ref h0, .int pp, .int kk]) ++ List.replicate (5 - (lg_sl ([.ref h0, .int pp, .int kk])).length) Slot.unset).toArray = ls at hl ⊢
  have hl : lv_has ls 5 [(0, .ref h0), (1, .int pp), (2, .int kk)] := hl
  obtain ⟨QQ, hQQ⟩ : ∃ QQ, QQ = MQ below (va_Qi (fun (r : Int32) (u : (Nat → Bool) × (Nat → Option Nat) × (Nat → Bool) × (Nat → Nat) × (Nat → Option Nat) × (Nat → Bool) × (Nat → Int32) × (Nat → Option Nat) × (Nat → Int32) × (Nat → Bool) × (Nat → Bool) × (Nat)) => r = (mw_unmap (ma, ms, mo, mc) pp kk).1 ∧ mw_I u.1 u.2.1 u.2.2.1 u.2.2.2.1 u.2.2.2.2.1 u.2.2.2.2.2.1 u.2.2.2.2.2.2.1 F u.2.2.2.2.2.2.2.1 u.2.2.2.2.2.2.2.2.1 u.2.2.2.2.2.2.2.2.2.2.1 u.2.2.2.2.2.2.2.2.2.2.2 (mw_unmap (ma, ms, mo, mc) pp kk).2) (fun (u : (Nat → Bool) × (Nat → Option Nat) × (Nat → Bool) × (Nat → Nat) × (Nat → Option Nat) × (Nat → Bool) × (Nat → Int32) × (Nat → Option Nat) × (Nat → Int32) × (Nat → Bool) × (Nat → Bool) × (Nat)) (t : State) => mw_BC dC dI A h0 a d u.1 u.2.1 u.2.2.1 u.2.2.2.1 u.2.2.2.2.1 u.2.2.2.2.2.1 u.2.2.2.2.2.2.1 F u.2.2.2.2.2.2.2.1 u.2.2.2.2.2.2.2.2.1 u.2.2.2.2.2.2.2.2.2.1 u.2.2.2.2.2.2.2.2.2.2.1 u.2.2.2.2.2.2.2.2.2.2.2 t) A) ([.ref h0, .int pp, .int kk] : List Value).toArray s 0 0 A := ⟨_, rfl⟩
  rw [← hQQ]
  obtain ⟨hU, hZ, hA0, vl, hL, hR⟩ := id hI
  have hA0 : ∀ p, p < 4 → al p = ma p := hA0
  have hR : mw_R sh is vl ms mo mc := hR
  refine lv_aload_n hx hb dX1_unmap_0 rfl (lv_at hl 0 rfl) ?_
  refine lv_iload_n hx hb dX1_unmap_1 rfl (lv_at hl 1 rfl) ?_
  refine lv_iload_n hx hb dX1_unmap_2 rfl (lv_at hl 2 rfl) ?_
  have hFc := va_free (wc := (mw_C h0 a d al sh is us fo sw sc F ho fr to di ha)) hD hS hA [0, 1, 2, 3, 4, 5, 6, 7, 8, 9, 10, 11] rfl
  refine va_calli (va_runV (As := [.int pp, .int kk]) (rest := []) ⟨hx, hb, hml, hown, hts⟩ (mX1_check l dC dI h0 a d s.heap.size al sh is us fo sw sc F ho fr to di ha pp kk) (cwV 2 hts (lw_V q71 q73 qs0 q14 q74) rfl rfl rfl (by decide +kernel) ⟨Nat.le_of_ble_eq_true rfl, Nat.le_of_ble_eq_true rfl⟩) ⟨fun a U g mk q => by obtain ⟨q0, q1, qP, qK, qD⟩ := q; exact ⟨q0, q1, qP, va_K.moved (u := U) (U := U.calling g mk a) (Vm.Alike.refl U.vm) qK, qD⟩, va_recv hK hP (ci := 0) (q0 := 0) rfl rfl, fun U hU hW => ⟨rfl, by rw [hU], by rw [hU]; exact hP, va_K.moved hW.alike hK, hD.weaken (fun _ _ _ _ => trivial)⟩⟩ rfl rfl hl.1 rfl (lv_room (Nat.le_of_ble_eq_true rfl)) dX1_unmap_3 ⟨Nat.le_refl _, Nat.le_refl _⟩) hS (fun q _ h => hFc q h) hFc (fun r u t9 H1 locs ht9 hvm hw hB hz1 hk1 hS => ?_)
  have hw := hw
  obtain ⟨hP1, hK1, hD1⟩ : mw_BC dC dI _ h0 a d al sh is us fo sw sc F ho fr to di ha t9 := hB
  rw [ht9] at hP1
  obtain ⟨hP, hD⟩ := va_join (wr := []) (w1 := (mw_C h0 a d al sh is us fo sw sc F ho fr to di ha)) hP hD [0, 1, 2, 3, 4, 5, 6, 7, 8, 9, 10, 11] [] rfl rfl (by decide) (by decide) hk1 hFc hP1 hD1
  generalize H1 = H at hP hS ⊢
  have hP : va_P (dC, dI) vwCl (mw_C h0 a d al sh is us fo sw sc F ho fr to di ha) H := hP
  have hD : va_D A (mw_C h0 a d al sh is us fo sw sc F ho fr to di ha) := hD
  refine W.widen (k := 0) (n := 0) (Nat.le_refl _) (Nat.le_refl _) ?_
  subst hw
  refine lv_istore_n (lv' := [(3, .int (mw_chk al pp kk)), (0, .ref h0), (1, .int pp), (2, .int kk)]) hx hb dX1_unmap_6 rfl hl (by decide) rfl (fun ls hl => ?_)
  refine lv_iload_n hx hb dX1_unmap_7 rfl (lv_at hl 0 rfl) ?_
  refine lv_if_eq (tgt := 13) hx hb dX1_unmap_8 (by decide) (fun c1 => ?_) (fun c1 => ?_)
  · obtain ⟨P, K, hP3, hK4, rfl, rfl, hal⟩ := mw_chk_0 c1
    have hl : lv_has ls 5 [(0, .ref h0), (1, .int (nI P)), (2, .int (nI K))] := lv_sub hl [1, 2, 3] rfl
    refine lv_iconst (v := (nI 5)) hx hb dX1_unmap_13 (by decide) ?_
    refine lv_iload_n hx hb dX1_unmap_14 rfl (lv_at hl 1 rfl) ?_
    refine kw_mul hx hb dX1_unmap_15 ?_
    refine lv_iload_n hx hb dX1_unmap_16 rfl (lv_at hl 2 rfl) ?_
    refine kw_add hx hb dX1_unmap_17 ?_
    refine lv_istore (lv' := [(4, .int (nI (5 * P + K))), (0, .ref h0), (1, .int (nI P)), (2, .int (nI K))]) hx hb dX1_unmap_18 hl (by decide) rfl (fun ls hl => ?_)
    refine lv_aload_n hx hb dX1_unmap_20 rfl (lv_at hl 1 rfl) ?_
    refine va_get (D := (dC, dI)) (ci := 0) (v := .ref (a 1)) (C := RX1) (T := TX1) (N := 13) hx hb hts in_X1 hown hK hP 0 rfl rfl 1 (by decide) (hts _ q25) (fun _ h9 => h9) rfl dX1_unmap_21 ?_
    refine lv_iload hx hb dX1_unmap_24 (lv_at hl 0 rfl) ?_
    refine kw_bld (v := (mw_oc (sh (5 * P + K)))) hx hb hK hP 2 1 rfl rfl (by omega) (by decide) rfl dX1_unmap_26 ?_
    refine kw_ifgeO (tgt := 33) hx hb (fun c h => Nat.lt_trans (hU.1 _ c (by omega) h) (by decide)) dX1_unmap_27 (by decide) (fun ci c2 => ?_) (fun c2 => ?_)
    · refine lv_aload_n hx hb dX1_unmap_33 rfl (lv_at hl 1 rfl) ?_
      refine lv_iload hx hb dX1_unmap_34 (lv_at hl 0 rfl) ?_
      have hFc := va_free (wc := (mw_C h0 a d al sh is us fo sw sc F ho fr to di ha)) hD hS hA [0, 1, 2, 3, 4, 5, 6, 7, 8, 9, 10, 11] rfl
      refine va_callv (va_runV (As := [.int (nI (5 * P + K))]) (rest := []) ⟨hx, hb, hml, hown, hts⟩ (mX1_release l dC dI h0 a d H.size al sh is us fo sw sc F ho fr to di ha vl hL hU (5 * P + K) ci (by omega) c2) (cwV 1 hts (lw_V q83 q85 qs2 q14 q86) rfl rfl rfl (by decide +kernel) ⟨Nat.le_of_ble_eq_true rfl, Nat.le_of_ble_eq_true rfl⟩) ⟨fun a U g mk q => by obtain ⟨q0, q1, qP, qK, qD⟩ := q; exact ⟨q0, q1, qP, va_K.moved (u := U) (U := U.calling g mk a) (Vm.Alike.refl U.vm) qK, qD⟩, va_recv hK hP (ci := 0) (q0 := 0) rfl rfl, fun U hU hW => ⟨rfl, by rw [hU], by rw [hU]; exact hP, va_K.moved hW.alike hK, hD.weaken (fun _ _ _ _ => trivial)⟩⟩ rfl rfl hl.1 rfl (lv_room (Nat.le_of_ble_eq_true rfl)) dX1_unmap_36 ⟨Nat.le_refl _, Nat.le_refl _⟩) hS (fun q _ h => hFc q h) hFc (fun u t9 H1 locs ht9 hvm hw hB hz1 hk1 hS => ?_)
      obtain ⟨fo1, ho1⟩ := u
      dsimp only at hw
      obtain ⟨hP1, hK1, hD1⟩ : mw_BC dC dI _ h0 a d al (va_up sh (5 * P + K) none) is (va_up us ci (us ci - 1)) fo1 sw sc F ho1 fr to di ha t9 := hB
      rw [ht9] at hP1
      obtain ⟨hP, hD⟩ := va_join (wr := []) (w1 := (mw_C h0 a d al (va_up sh (5 * P + K) none) is (va_up us ci (us ci - 1)) fo1 sw sc F ho1 fr to di ha)) hP hD [0, 1, 2, 3, 4, 5, 6, 7, 8, 9, 10, 11] [] rfl rfl (by decide) (by decide) hk1 hFc hP1 hD1
      generalize H1 = H at hP hS ⊢
      have hP : va_P (dC, dI) vwCl (mw_C h0 a d al (va_up sh (5 * P + K) none) is (va_up us ci (us ci - 1)) fo1 sw sc F ho1 fr to di ha) H := hP
      have hD : va_D A (mw_C h0 a d al (va_up sh (5 * P + K) none) is (va_up us ci (us ci - 1)) fo1 sw sc F ho1 fr to di ha) := hD
      refine W.widen (k := 0) (n := 0) (Nat.le_refl _) (Nat.le_refl _) ?_
      refine lv_iload_n hx hb dX1_unmap_39 rfl (lv_at hl 3 rfl) ?_
      rw [hQQ]
      exact W.iret (v := (nI K)) hx hb hr (fun t9 ht9 hW9 => ⟨⟨_, (al, va_up sh (5 * P + K) none, is, va_up us ci (us ci - 1), fo1, sw, sc, ho1, fr, to, di, ha), rfl, mw_I_unmap (V := (ma, ms, mo, mc)) hZ hA0 hR hP3 hK4 hal c2 hw.1 hw.2, by rw [ht9]; exact hP, va_K.moved hW9.alike hK, hD⟩, hS.F ht9⟩) hS.2.2 dX1_unmap_40
    refine lv_bipush (v := (-3)) hx hb dX1_unmap_30 (by decide) ?_
    rw [hQQ]
    exact W.iret (v := (-3)) hx hb hr (fun t9 ht9 hW9 => ⟨⟨_, (al, sh, is, us, fo, sw, sc, ho, fr, to, di, ha), rfl, ⟨by rw [mw_unmap_no hI hP3 hK4 hal c2], by rw [mw_unmap_no hI hP3 hK4 hal c2]; exact hI⟩, by rw [ht9]; exact hP, va_K.moved hW9.alike hK, hD⟩, hS.F ht9⟩) hS.2.2 dX1_unmap_32
  refine lv_iload_n hx hb dX1_unmap_11 rfl (lv_at hl 0 rfl) ?_
  rw [hQQ]
  exact W.iret (v := (mw_chk al pp kk)) hx hb hr (fun t9 ht9 hW9 => ⟨⟨_, (al, sh, is, us, fo, sw, sc, ho, fr, to, di, ha), rfl, ⟨by rw [mw_unmap_chk (V := (ma, ms, mo, mc)) hA0 c1], by rw [mw_unmap_chk (V := (ma, ms, mo, mc)) hA0 c1]; exact hI⟩, by rw [ht9]; exact hP, va_K.moved hW9.alike hK, hD⟩, hS.F ht9⟩) hS.2.2 dX1_unmap_12
set_option maxHeartbeats 4000000 in
set_option maxRecDepth 100000 in
/-- CowMemory.isMapped -/
theorem mX1_isMapped (l : Launch) (dC : Nat → ClassId) (dI : Nat → Nat → Nat) (h0 : Nat) (a : Nat → Nat) (d : Nat → ClassId) (sz : Nat) (al : Nat → Bool) (sh : Nat → Option Nat) (is : Nat → Bool) (us : Nat → Nat) (fo : Nat → Option Nat) (sw : Nat → Bool) (sc : Nat → Int32) (F : Nat) (ho : Nat → Option Nat) (fr : Nat → Int32) (to : Nat → Bool) (di : Nat → Bool) (ha : Nat) (ma : Nat → Bool) (ms : Nat → Option Nat) (mo : Nat → Bool) (mc : Nat → Int32) (hI : mw_I al sh is us fo sw sc F ho fr di ha (ma, ms, mo, mc)) (pp kk : Int32) : Met l yX1_isMapped (ws_ yX1_isMapped cX1_isMapped 3 (some .boolean)) ({ frames := 1, cells := 0, slots := 0, locals := 22 } : Room) (va_Pc [.ref h0, .int pp, .int kk] (fun U => U.heap.size = sz ∧ va_P (dC, dI) vwCl (mw_C h0 a d al sh is us fo sw sc F ho fr to di ha) U.heap ∧ va_K (dC, dI) vwCl (mw_CK d) U ∧ va_D (fun _ => True) (mw_C h0 a d al sh is us fo sw sc F ho fr to di ha))) (va_Qi (fun (r : Int32) (_ : Unit) => r = mw_ob (mw_ism (ma, ms, mo, mc) pp kk)) (fun (u : Unit) (t : State) => mw_BC dC dI (va_A (mw_C h0 a d al sh is us fo sw sc F ho fr to di ha) sz) h0 a d al sh is us fo sw sc F ho fr to di ha t) (va_A (mw_C h0 a d al sh is us fo sw sc F ho fr to di ha) sz)) 0 0 (va_A (mw_C h0 a d al sh is us fo sw sc F ho fr to di ha) sz) := by
  refine Met.ofW (cc := cX1_isMapped) (maxL := 3) (ret := (some .boolean)) (by decide) rfl ?_
  intro p e s m args below meth c s₁ B hml hv
  obtain ⟨rfl, hsz, hP, hK, hD0⟩ := hv
  have hx := B.exec
  have hb := B.bytes
  have hr := B.returns
  have hts := atoms_spec (ws := ws_ yX1_isMapped cX1_isMapped 3 (some .boolean)) B.pre
  have hts : ∀ w ∈ lw_all, w.before _ s = true := fun w h => hts w (List.mem_cons_of_mem _ h)
  have hown : s.vm.findClass RX1 = some m.cls := findClass_of_methodNamed B.named
  have hlocks := B.notSynchronized
  subst hsz
  have hD := hD0.self (sz := s.heap.size)
  generalize hAe : va_A (mw_C h0 a d al sh is us fo sw sc F ho fr to di ha) s.heap.size = A at hD ⊢
  have hA : ∀ q : Nat, s.heap.size ≤ q → A q := fun q h => by rw [← hAe]; exact Or.inr h
  have hS : va_S A s.heap s.heap [] := va_S.rf
  have hl := lv_entry ([.ref h0, .int pp, .int kk]) (n := 3) (Nat.le_of_ble_eq_true rfl)
  rw [lg_entry_eq]
  generalize (lg_sl ([.ref h0, .int pp, .int kk]) ++ List.replicate (3 - (lg_sl ([.ref h0, .int pp, .int kk])).length) Slot.unset).toArray = ls at hl ⊢
  have hl : lv_has ls 3 [(0, .ref h0), (1, .int pp), (2, .int kk)] := hl
  obtain ⟨QQ, hQQ⟩ : ∃ QQ, QQ = MQ below (va_Qi (fun (r : Int32) (_ : Unit) => r = mw_ob (mw_ism (ma, ms, mo, mc) pp kk)) (fun (u : Unit) (t : State) => mw_BC dC dI A h0 a d al sh is us fo sw sc F ho fr to di ha t) A) ([.ref h0, .int pp, .int kk] : List Value).toArray s 0 0 A := ⟨_, rfl⟩
  rw [← hQQ]
  obtain ⟨hU, hZ, hA0, vl, hL, hR⟩ := id hI
  have hA0 : ∀ p, p < 4 → al p = ma p := hA0
  have hR : mw_R sh is vl ms mo mc := hR
  refine lv_aload_n hx hb dX1_isMapped_0 rfl (lv_at hl 0 rfl) ?_
  refine lv_iload_n hx hb dX1_isMapped_1 rfl (lv_at hl 1 rfl) ?_
  refine lv_iload_n hx hb dX1_isMapped_2 rfl (lv_at hl 2 rfl) ?_
  have hFc := va_free (wc := (mw_C h0 a d al sh is us fo sw sc F ho fr to di ha)) hD hS hA [0, 1, 2, 3, 4, 5, 6, 7, 8, 9, 10, 11] rfl
  refine va_calli (va_runV (As := [.int pp, .int kk]) (rest := []) ⟨hx, hb, hml, hown, hts⟩ (mX1_check l dC dI h0 a d s.heap.size al sh is us fo sw sc F ho fr to di ha pp kk) (cwV 2 hts (lw_V q71 q73 qs0 q14 q74) rfl rfl rfl (by decide +kernel) ⟨Nat.le_of_ble_eq_true rfl, Nat.le_of_ble_eq_true rfl⟩) ⟨fun a U g mk q => by obtain ⟨q0, q1, qP, qK, qD⟩ := q; exact ⟨q0, q1, qP, va_K.moved (u := U) (U := U.calling g mk a) (Vm.Alike.refl U.vm) qK, qD⟩, va_recv hK hP (ci := 0) (q0 := 0) rfl rfl, fun U hU hW => ⟨rfl, by rw [hU], by rw [hU]; exact hP, va_K.moved hW.alike hK, hD.weaken (fun _ _ _ _ => trivial)⟩⟩ rfl rfl hl.1 rfl (lv_room (Nat.le_of_ble_eq_true rfl)) dX1_isMapped_3 ⟨Nat.le_refl _, Nat.le_refl _⟩) hS (fun q _ h => hFc q h) hFc (fun r u t9 H1 locs ht9 hvm hw hB hz1 hk1 hS => ?_)
  have hw := hw
  obtain ⟨hP1, hK1, hD1⟩ : mw_BC dC dI _ h0 a d al sh is us fo sw sc F ho fr to di ha t9 := hB
  rw [ht9] at hP1
  obtain ⟨hP, hD⟩ := va_join (wr := []) (w1 := (mw_C h0 a d al sh is us fo sw sc F ho fr to di ha)) hP hD [0, 1, 2, 3, 4, 5, 6, 7, 8, 9, 10, 11] [] rfl rfl (by decide) (by decide) hk1 hFc hP1 hD1
  generalize H1 = H at hP hS ⊢
  have hP : va_P (dC, dI) vwCl (mw_C h0 a d al sh is us fo sw sc F ho fr to di ha) H := hP
  have hD : va_D A (mw_C h0 a d al sh is us fo sw sc F ho fr to di ha) := hD
  refine W.widen (k := 0) (n := 0) (Nat.le_refl _) (Nat.le_refl _) ?_
  subst hw
  refine lv_if_ne (tgt := 26) hx hb dX1_isMapped_6 (by decide) (fun c1 => ?_) (fun c1 => ?_)
  · refine lv_iconst (v := (nI 0)) hx hb dX1_isMapped_26 (by decide) ?_
    rw [hQQ]
    exact W.zret (v := (nI 0)) hx hb hr (by decide +kernel) (fun t9 ht9 hW9 => ⟨⟨_, (), rfl, by rw [mw_ism_chk (V := (ma, ms, mo, mc)) hZ hR c1]; rfl, by rw [ht9]; exact hP, va_K.moved hW9.alike hK, hD⟩, hS.F ht9⟩) hS.2.2 dX1_isMapped_27
  obtain ⟨P, K, hP3, hK4, rfl, rfl, hal⟩ := mw_chk_0 c1
  refine lv_aload_n hx hb dX1_isMapped_9 rfl (lv_at hl 0 rfl) ?_
  refine va_get (D := (dC, dI)) (ci := 0) (v := .ref (a 1)) (C := RX1) (T := TX1) (N := 13) hx hb hts in_X1 hown hK hP 0 rfl rfl 1 (by decide) (hts _ q25) (fun _ h9 => h9) rfl dX1_isMapped_10 ?_
  refine lv_iconst (v := (nI 5)) hx hb dX1_isMapped_13 (by decide) ?_
  refine lv_iload_n hx hb dX1_isMapped_14 rfl (lv_at hl 1 rfl) ?_
  refine kw_mul hx hb dX1_isMapped_15 ?_
  refine lv_iload_n hx hb dX1_isMapped_16 rfl (lv_at hl 2 rfl) ?_
  refine kw_add hx hb dX1_isMapped_17 ?_
  refine kw_bld (v := (mw_oc (sh (5 * P + K)))) hx hb hK hP 2 1 rfl rfl (by omega) (by decide) rfl dX1_isMapped_18 ?_
  refine kw_ifltO (tgt := 26) hx hb (fun c h => Nat.lt_trans (hU.1 _ c (by omega) h) (by decide)) dX1_isMapped_19 (by decide) (fun c2 => ?_) (fun ci c2 => ?_)
  · refine lv_iconst (v := (nI 0)) hx hb dX1_isMapped_26 (by decide) ?_
    rw [hQQ]
    exact W.zret (v := (nI 0)) hx hb hr (by decide +kernel) (fun t9 ht9 hW9 => ⟨⟨_, (), rfl, by rw [mw_ism_in hP3 hK4, mw_R_isSome hR (by omega), c2]; rfl, by rw [ht9]; exact hP, va_K.moved hW9.alike hK, hD⟩, hS.F ht9⟩) hS.2.2 dX1_isMapped_27
  refine lv_iconst (v := (nI 1)) hx hb dX1_isMapped_22 (by decide) ?_
  refine lv_goto (tgt := 27) hx hb dX1_isMapped_23 (by decide) ?_
  rw [hQQ]
  exact W.zret (v := (nI 1)) hx hb hr (by decide +kernel) (fun t9 ht9 hW9 => ⟨⟨_, (), rfl, by rw [mw_ism_in hP3 hK4, mw_R_isSome hR (by omega), c2]; rfl, by rw [ht9]; exact hP, va_K.moved hW9.alike hK, hD⟩, hS.F ht9⟩) hS.2.2 dX1_isMapped_27
set_option maxHeartbeats 4000000 in
set_option maxRecDepth 100000 in
/-- CowMemory.showing -/
theorem mX1_showing (l : Launch) (dC : Nat → ClassId) (dI : Nat → Nat → Nat) (h0 : Nat) (a : Nat → Nat) (d : Nat → ClassId) (sz : Nat) (al : Nat → Bool) (sh : Nat → Option Nat) (is : Nat → Bool) (us : Nat → Nat) (fo : Nat → Option Nat) (sw : Nat → Bool) (sc : Nat → Int32) (F : Nat) (ho : Nat → Option Nat) (fr : Nat → Int32) (to : Nat → Bool) (di : Nat → Bool) (ha : Nat) (ma : Nat → Bool) (ms : Nat → Option Nat) (mo : Nat → Bool) (mc : Nat → Int32) (hI : mw_I al sh is us fo sw sc F ho fr di ha (ma, ms, mo, mc)) (pp kk : Int32) : Met l yX1_showing (ws_ yX1_showing cX1_showing 5 (some .int)) ({ frames := 1, cells := 0, slots := 0, locals := 22 } : Room) (va_Pc [.ref h0, .int pp, .int kk] (fun U => U.heap.size = sz ∧ va_P (dC, dI) vwCl (mw_C h0 a d al sh is us fo sw sc F ho fr to di ha) U.heap ∧ va_K (dC, dI) vwCl (mw_CK d) U ∧ va_D (fun _ => True) (mw_C h0 a d al sh is us fo sw sc F ho fr to di ha))) (va_Qi (fun (r : Int32) (_ : Unit) => r = mw_show (ma, ms, mo, mc) pp kk) (fun (u : Unit) (t : State) => mw_BC dC dI (va_A (mw_C h0 a d al sh is us fo sw sc F ho fr to di ha) sz) h0 a d al sh is us fo sw sc F ho fr to di ha t) (va_A (mw_C h0 a d al sh is us fo sw sc F ho fr to di ha) sz)) 0 0 (va_A (mw_C h0 a d al sh is us fo sw sc F ho fr to di ha) sz) := by
  refine Met.ofW (cc := cX1_showing) (maxL := 5) (ret := (some .int)) (by decide) rfl ?_
  intro p e s m args below meth c s₁ B hml hv
  obtain ⟨rfl, hsz, hP, hK, hD0⟩ := hv
  have hx := B.exec
  have hb := B.bytes
  have hr := B.returns
  have hts := atoms_spec (ws := ws_ yX1_showing cX1_showing 5 (some .int)) B.pre
  have hts : ∀ w ∈ lw_all, w.before _ s = true := fun w h => hts w (List.mem_cons_of_mem _ h)
  have hown : s.vm.findClass RX1 = some m.cls := findClass_of_methodNamed B.named
  have hlocks := B.notSynchronized
  subst hsz
  have hD := hD0.self (sz := s.heap.size)
  generalize hAe : va_A (mw_C h0 a d al sh is us fo sw sc F ho fr to di ha) s.heap.size = A at hD ⊢
  have hA : ∀ q : Nat, s.heap.size ≤ q → A q := fun q h => by rw [← hAe]; exact Or.inr h
  have hS : va_S A s.heap s.heap [] := va_S.rf
  have hl := lv_entry ([.ref h0, .int pp, .int kk]) (n := 5) (Nat.le_of_ble_eq_true rfl)
  rw [lg_entry_eq]
  generalize (lg_sl ([.ref h0, .int pp, .int kk]) ++ List.replicate (5 - (lg_sl ([.ref h0, .int pp, .int kk])).length) Slot.unset).toArray = ls at hl ⊢
  have hl : lv_has ls 5 [(0, .ref h0), (1, .int pp), (2, .int kk)] := hl
  obtain ⟨QQ, hQQ⟩ : ∃ QQ, QQ = MQ below (va_Qi (fun (r : Int32) (_ : Unit) => r = mw_show (ma, ms, mo, mc) pp kk) (fun (u : Unit) (t : State) => mw_BC dC dI A h0 a d al sh is us fo sw sc F ho fr to di ha t) A) ([.ref h0, .int pp, .int kk] : List Value).toArray s 0 0 A := ⟨_, rfl⟩
  rw [← hQQ]
  obtain ⟨hU, hZ, hA0, vl, hL, hR⟩ := id hI
  have hA0 : ∀ p, p < 4 → al p = ma p := hA0
  have hR : mw_R sh is vl ms mo mc := hR
  refine lv_aload_n hx hb dX1_showing_0 rfl (lv_at hl 0 rfl) ?_
  refine lv_iload_n hx hb dX1_showing_1 rfl (lv_at hl 1 rfl) ?_
  refine lv_iload_n hx hb dX1_showing_2 rfl (lv_at hl 2 rfl) ?_
  have hFc := va_free (wc := (mw_C h0 a d al sh is us fo sw sc F ho fr to di ha)) hD hS hA [0, 1, 2, 3, 4, 5, 6, 7, 8, 9, 10, 11] rfl
  refine va_calli (va_runV (As := [.int pp, .int kk]) (rest := []) ⟨hx, hb, hml, hown, hts⟩ (mX1_check l dC dI h0 a d s.heap.size al sh is us fo sw sc F ho fr to di ha pp kk) (cwV 2 hts (lw_V q71 q73 qs0 q14 q74) rfl rfl rfl (by decide +kernel) ⟨Nat.le_of_ble_eq_true rfl, Nat.le_of_ble_eq_true rfl⟩) ⟨fun a U g mk q => by obtain ⟨q0, q1, qP, qK, qD⟩ := q; exact ⟨q0, q1, qP, va_K.moved (u := U) (U := U.calling g mk a) (Vm.Alike.refl U.vm) qK, qD⟩, va_recv hK hP (ci := 0) (q0 := 0) rfl rfl, fun U hU hW => ⟨rfl, by rw [hU], by rw [hU]; exact hP, va_K.moved hW.alike hK, hD.weaken (fun _ _ _ _ => trivial)⟩⟩ rfl rfl hl.1 rfl (lv_room (Nat.le_of_ble_eq_true rfl)) dX1_showing_3 ⟨Nat.le_refl _, Nat.le_refl _⟩) hS (fun q _ h => hFc q h) hFc (fun r u t9 H1 locs ht9 hvm hw hB hz1 hk1 hS => ?_)
  have hw := hw
  obtain ⟨hP1, hK1, hD1⟩ : mw_BC dC dI _ h0 a d al sh is us fo sw sc F ho fr to di ha t9 := hB
  rw [ht9] at hP1
  obtain ⟨hP, hD⟩ := va_join (wr := []) (w1 := (mw_C h0 a d al sh is us fo sw sc F ho fr to di ha)) hP hD [0, 1, 2, 3, 4, 5, 6, 7, 8, 9, 10, 11] [] rfl rfl (by decide) (by decide) hk1 hFc hP1 hD1
  generalize H1 = H at hP hS ⊢
  have hP : va_P (dC, dI) vwCl (mw_C h0 a d al sh is us fo sw sc F ho fr to di ha) H := hP
  have hD : va_D A (mw_C h0 a d al sh is us fo sw sc F ho fr to di ha) := hD
  refine W.widen (k := 0) (n := 0) (Nat.le_refl _) (Nat.le_refl _) ?_
  subst hw
  refine lv_istore_n (lv' := [(3, .int (mw_chk al pp kk)), (0, .ref h0), (1, .int pp), (2, .int kk)]) hx hb dX1_showing_6 rfl hl (by decide) rfl (fun ls hl => ?_)
  refine lv_iload_n hx hb dX1_showing_7 rfl (lv_at hl 0 rfl) ?_
  refine lv_if_eq (tgt := 13) hx hb dX1_showing_8 (by decide) (fun c1 => ?_) (fun c1 => ?_)
  · obtain ⟨P, K, hP3, hK4, rfl, rfl, hal⟩ := mw_chk_0 c1
    have hl : lv_has ls 5 [(0, .ref h0), (1, .int (nI P)), (2, .int (nI K))] := lv_sub hl [1, 2, 3] rfl
    refine lv_iconst (v := (nI 5)) hx hb dX1_showing_13 (by decide) ?_
    refine lv_iload_n hx hb dX1_showing_14 rfl (lv_at hl 1 rfl) ?_
    refine kw_mul hx hb dX1_showing_15 ?_
    refine lv_iload_n hx hb dX1_showing_16 rfl (lv_at hl 2 rfl) ?_
    refine kw_add hx hb dX1_showing_17 ?_
    refine lv_istore (lv' := [(4, .int (nI (5 * P + K))), (0, .ref h0), (1, .int (nI P)), (2, .int (nI K))]) hx hb dX1_showing_18 hl (by decide) rfl (fun ls hl => ?_)
    refine lv_aload_n hx hb dX1_showing_20 rfl (lv_at hl 1 rfl) ?_
    refine va_get (D := (dC, dI)) (ci := 0) (v := .ref (a 1)) (C := RX1) (T := TX1) (N := 13) hx hb hts in_X1 hown hK hP 0 rfl rfl 1 (by decide) (hts _ q25) (fun _ h9 => h9) rfl dX1_showing_21 ?_
    refine lv_iload hx hb dX1_showing_24 (lv_at hl 0 rfl) ?_
    refine kw_bld (v := (mw_oc (sh (5 * P + K)))) hx hb hK hP 2 1 rfl rfl (by omega) (by decide) rfl dX1_showing_26 ?_
    refine kw_ifgeO (tgt := 33) hx hb (fun c h => Nat.lt_trans (hU.1 _ c (by omega) h) (by decide)) dX1_showing_27 (by decide) (fun ci c2 => ?_) (fun c2 => ?_)
    · have hci := hU.1 _ ci (by omega) c2
      refine lv_aload_n hx hb dX1_showing_33 rfl (lv_at hl 1 rfl) ?_
      refine va_get (D := (dC, dI)) (ci := 0) (v := .ref (a 2)) (C := RX1) (T := TX1) (N := 13) hx hb hts in_X1 hown hK hP 0 rfl rfl 2 (by decide) (hts _ q26) (fun _ h9 => h9) rfl dX1_showing_34 ?_
      refine lv_iload hx hb dX1_showing_37 (lv_at hl 0 rfl) ?_
      refine kw_zld (v := (mw_ob (is (5 * P + K)))) hx hb hK hP 3 2 rfl rfl (by omega) (by decide) rfl dX1_showing_39 ?_
      refine kw_ifeqB (tgt := 58) hx hb dX1_showing_40 (by decide) (fun c3 => ?_) (fun c3 => ?_)
      · refine lv_iconst (v := (nI 1)) hx hb dX1_showing_58 (by decide) ?_
        rw [hQQ]
        exact W.iret (v := (nI 1)) hx hb hr (fun t9 ht9 hW9 => ⟨⟨_, (), rfl, by rw [mw_show_yes (V := (ma, ms, mo, mc)) hA0 hR hP3 hK4 hal c2, mw_show_P hR (by omega) c2 c3], by rw [ht9]; exact hP, va_K.moved hW9.alike hK, hD⟩, hS.F ht9⟩) hS.2.2 dX1_showing_59
      refine lv_aload_n hx hb dX1_showing_43 rfl (lv_at hl 1 rfl) ?_
      refine va_get (D := (dC, dI)) (ci := 0) (v := .ref (a 3)) (C := RX1) (T := TX1) (N := 13) hx hb hts in_X1 hown hK hP 0 rfl rfl 3 (by decide) (hts _ q27) (fun _ h9 => h9) rfl dX1_showing_44 ?_
      refine lv_aload_n hx hb dX1_showing_47 rfl (lv_at hl 1 rfl) ?_
      refine va_get (D := (dC, dI)) (ci := 0) (v := .ref (a 1)) (C := RX1) (T := TX1) (N := 13) hx hb hts in_X1 hown hK hP 0 rfl rfl 1 (by decide) (hts _ q25) (fun _ h9 => h9) rfl dX1_showing_48 ?_
      refine lv_iload hx hb dX1_showing_51 (lv_at hl 0 rfl) ?_
      refine kw_bld (v := (nI ci)) hx hb hK hP 2 1 rfl rfl (by omega) (by decide) (congrArg mw_oc c2) dX1_showing_53 ?_
      refine kw_bld (v := (nI (us ci))) hx hb hK hP 4 3 rfl rfl (by omega) (by decide) rfl dX1_showing_54 ?_
      refine lv_goto (tgt := 59) hx hb dX1_showing_55 (by decide) ?_
      rw [hQQ]
      exact W.iret (v := (nI (us ci))) hx hb hr (fun t9 ht9 hW9 => ⟨⟨_, (), rfl, by rw [mw_show_yes (V := (ma, ms, mo, mc)) hA0 hR hP3 hK4 hal c2, ← mw_show_S hU hR (by omega) c2 c3], by rw [ht9]; exact hP, va_K.moved hW9.alike hK, hD⟩, hS.F ht9⟩) hS.2.2 dX1_showing_59
    refine lv_bipush (v := (-3)) hx hb dX1_showing_30 (by decide) ?_
    rw [hQQ]
    exact W.iret (v := (-3)) hx hb hr (fun t9 ht9 hW9 => ⟨⟨_, (), rfl, by rw [mw_show_no (V := (ma, ms, mo, mc)) hA0 hR hP3 hK4 hal c2], by rw [ht9]; exact hP, va_K.moved hW9.alike hK, hD⟩, hS.F ht9⟩) hS.2.2 dX1_showing_32
  refine lv_iload_n hx hb dX1_showing_11 rfl (lv_at hl 0 rfl) ?_
  rw [hQQ]
  exact W.iret (v := (mw_chk al pp kk)) hx hb hr (fun t9 ht9 hW9 => ⟨⟨_, (), rfl, (mw_show_chk (V := (ma, ms, mo, mc)) hA0 c1).symm, by rw [ht9]; exact hP, va_K.moved hW9.alike hK, hD⟩, hS.F ht9⟩) hS.2.2 dX1_showing_12
set_option maxHeartbeats 4000000 in
set_option maxRecDepth 100000 in
/-- CowMemory.attach -/
theorem mX1_attach (l : Launch) (dC : Nat → ClassId) (dI : Nat → Nat → Nat) (h0 : Nat) (a : Nat → Nat) (d : Nat → ClassId) (sz : Nat) (al : Nat → Bool) (sh : Nat → Option Nat) (is : Nat → Bool) (us : Nat → Nat) (fo : Nat → Option Nat) (sw : Nat → Bool) (sc : Nat → Int32) (F : Nat) (ho : Nat → Option Nat) (fr : Nat → Int32) (to : Nat → Bool) (di : Nat → Bool) (ha : Nat) (ma : Nat → Bool) (ms : Nat → Option Nat) (mo : Nat → Bool) (mc : Nat → Int32) (hI : mw_I al sh is us fo sw sc F ho fr di ha (ma, ms, mo, mc)) (xx yy : Int32) : Met l yX1_attach (ws_ yX1_attach cX1_attach 7 (some .int)) ({ frames := 0, cells := 0, slots := 0, locals := 0 } : Room) (va_Pc [.ref h0, .int xx, .int yy] (fun U => U.heap.size = sz ∧ va_P (dC, dI) vwCl (mw_C h0 a d al sh is us fo sw sc F ho fr to di ha) U.heap ∧ va_K (dC, dI) vwCl (mw_CK d) U ∧ va_D (fun _ => True) (mw_C h0 a d al sh is us fo sw sc F ho fr to di ha))) (va_Qi (fun (r : Int32) (u : (Nat → Bool) × (Nat → Option Nat) × (Nat → Bool) × (Nat → Nat) × (Nat → Option Nat) × (Nat → Bool) × (Nat → Int32) × (Nat → Option Nat) × (Nat → Int32) × (Nat → Bool) × (Nat → Bool) × (Nat)) => r = (mw_attach (ma, ms, mo, mc) xx yy).1 ∧ mw_I u.1 u.2.1 u.2.2.1 u.2.2.2.1 u.2.2.2.2.1 u.2.2.2.2.2.1 u.2.2.2.2.2.2.1 F u.2.2.2.2.2.2.2.1 u.2.2.2.2.2.2.2.2.1 u.2.2.2.2.2.2.2.2.2.2.1 u.2.2.2.2.2.2.2.2.2.2.2 (mw_attach (ma, ms, mo, mc) xx yy).2) (fun (u : (Nat → Bool) × (Nat → Option Nat) × (Nat → Bool) × (Nat → Nat) × (Nat → Option Nat) × (Nat → Bool) × (Nat → Int32) × (Nat → Option Nat) × (Nat → Int32) × (Nat → Bool) × (Nat → Bool) × (Nat)) (t : State) => mw_BC dC dI (va_A (mw_C h0 a d al sh is us fo sw sc F ho fr to di ha) sz) h0 a d u.1 u.2.1 u.2.2.1 u.2.2.2.1 u.2.2.2.2.1 u.2.2.2.2.2.1 u.2.2.2.2.2.2.1 F u.2.2.2.2.2.2.2.1 u.2.2.2.2.2.2.2.2.1 u.2.2.2.2.2.2.2.2.2.1 u.2.2.2.2.2.2.2.2.2.2.1 u.2.2.2.2.2.2.2.2.2.2.2 t) (va_A (mw_C h0 a d al sh is us fo sw sc F ho fr to di ha) sz)) 0 0 (va_A (mw_C h0 a d al sh is us fo sw sc F ho fr to di ha) sz) := by
  refine Met.ofW (cc := cX1_attach) (maxL := 7) (ret := (some .int)) (by decide) rfl ?_
  intro p e s m args below meth c s₁ B hml hv
  obtain ⟨rfl, hsz, hP, hK, hD0⟩ := hv
  have hx := B.exec
  have hb := B.bytes
  have hr := B.returns
  have hts := atoms_spec (ws := ws_ yX1_attach cX1_attach 7 (some .int)) B.pre
  have hts : ∀ w ∈ lw_all, w.before _ s = true := fun w h => hts w (List.mem_cons_of_mem _ h)
  have hown : s.vm.findClass RX1 = some m.cls := findClass_of_methodNamed B.named
  have hlocks := B.notSynchronized
  subst hsz
  have hD := hD0.self (sz := s.heap.size)
  generalize hAe : va_A (mw_C h0 a d al sh is us fo sw sc F ho fr to di ha) s.heap.size = A at hD ⊢
  have hA : ∀ q : Nat, s.heap.size ≤ q → A q := fun q h => by rw [← hAe]; exact Or.inr h
  have hS : va_S A s.heap s.heap [] := va_S.rf
  have hl := lv_entry ([.ref h0, .int xx, .int yy]) (n := 7) (Nat.le_of_ble_eq_true rfl)
  rw [lg_entry_eq]
  generalize (lg_sl ([.ref h0, .int xx, .int yy]) ++ List.replicate (7 - (lg_sl ([.ref h0, .int xx, .int yy])).length) Slot.unset).toArray = ls at hl ⊢
  have hl : lv_has ls 7 [(0, .ref h0), (1, .int xx), (2, .int yy)] := hl
  obtain ⟨QQ, hQQ⟩ : ∃ QQ, QQ = MQ below (va_Qi (fun (r : Int32) (u : (Nat → Bool) × (Nat → Option Nat) × (Nat → Bool) × (Nat → Nat) × (Nat → Option Nat) × (Nat → Bool) × (Nat → Int32) × (Nat → Option Nat) × (Nat → Int32) × (Nat → Bool) × (Nat → Bool) × (Nat)) => r = (mw_attach (ma, ms, mo, mc) xx yy).1 ∧ mw_I u.1 u.2.1 u.2.2.1 u.2.2.2.1 u.2.2.2.2.1 u.2.2.2.2.2.1 u.2.2.2.2.2.2.1 F u.2.2.2.2.2.2.2.1 u.2.2.2.2.2.2.2.2.1 u.2.2.2.2.2.2.2.2.2.2.1 u.2.2.2.2.2.2.2.2.2.2.2 (mw_attach (ma, ms, mo, mc) xx yy).2) (fun (u : (Nat → Bool) × (Nat → Option Nat) × (Nat → Bool) × (Nat → Nat) × (Nat → Option Nat) × (Nat → Bool) × (Nat → Int32) × (Nat → Option Nat) × (Nat → Int32) × (Nat → Bool) × (Nat → Bool) × (Nat)) (t : State) => mw_BC dC dI A h0 a d u.1 u.2.1 u.2.2.1 u.2.2.2.1 u.2.2.2.2.1 u.2.2.2.2.2.1 u.2.2.2.2.2.2.1 F u.2.2.2.2.2.2.2.1 u.2.2.2.2.2.2.2.2.1 u.2.2.2.2.2.2.2.2.2.1 u.2.2.2.2.2.2.2.2.2.2.1 u.2.2.2.2.2.2.2.2.2.2.2 t) A) ([.ref h0, .int xx, .int yy] : List Value).toArray s 0 0 A := ⟨_, rfl⟩
  rw [← hQQ]
  obtain ⟨hU, hZ, hA0, vl, hL, hR⟩ := id hI
  have hA0 : ∀ p, p < 4 → al p = ma p := hA0
  have hR : mw_R sh is vl ms mo mc := hR
  refine lv_iload_n hx hb dX1_attach_0 rfl (lv_at hl 1 rfl) ?_
  refine lv_if_lt (tgt := 8) hx hb dX1_attach_1 (by decide) (fun c1 => ?_) (fun c1 => ?_)
  · refine lv_iconst (v := (-1)) hx hb dX1_attach_8 (by decide) ?_
    rw [hQQ]
    exact W.iret (v := (-1)) hx hb hr (fun t9 ht9 hW9 => ⟨⟨_, (al, sh, is, us, fo, sw, sc, ho, fr, to, di, ha), rfl, ⟨by rw [mw_attach_bad (Or.inl (Or.inl c1))], by rw [mw_attach_bad (Or.inl (Or.inl c1))]; exact hI⟩, by rw [ht9]; exact hP, va_K.moved hW9.alike hK, hD⟩, hS.F ht9⟩) hS.2.2 dX1_attach_9
  refine lv_iload_n hx hb dX1_attach_4 rfl (lv_at hl 2 rfl) ?_
  refine kw_ifgeI (tgt := 10) hx hb dX1_attach_5 (by decide) (fun c2 => ?_) (fun c2 => ?_)
  · obtain ⟨X, hX31, rfl⟩ := nI_of c1
    obtain ⟨Y, hY31, rfl⟩ := nI_of c2
    refine lv_iload_n hx hb dX1_attach_10 rfl (lv_at hl 1 rfl) ?_
    refine lv_iconst (v := (nI 3)) hx hb dX1_attach_11 (by decide) ?_
    refine kw_shr hx hb (by omega) (by decide) dX1_attach_12 ?_
    refine W.eq (g2 := F0 m 13 ls [.int (nI (X / 8))]) rfl ?_
    refine lv_istore_n (lv' := [(3, .int (nI (X / 8))), (0, .ref h0), (1, .int (nI X)), (2, .int (nI Y))]) hx hb dX1_attach_13 rfl hl (by decide) rfl (fun ls hl => ?_)
    refine lv_iload_n hx hb dX1_attach_14 rfl (lv_at hl 3 rfl) ?_
    refine lv_iconst (v := (nI 3)) hx hb dX1_attach_15 (by decide) ?_
    refine kw_shr hx hb (by omega) (by decide) dX1_attach_16 ?_
    refine W.eq (g2 := F0 m 17 ls [.int (nI (Y / 8))]) rfl ?_
    refine lv_istore (lv' := [(4, .int (nI (Y / 8))), (3, .int (nI (X / 8))), (0, .ref h0), (1, .int (nI X)), (2, .int (nI Y))]) hx hb dX1_attach_17 hl (by decide) rfl (fun ls hl => ?_)
    refine lv_iload_n hx hb dX1_attach_19 rfl (lv_at hl 1 rfl) ?_
    refine lv_iconst (v := (nI 3)) hx hb dX1_attach_20 (by decide) ?_
    refine kw_gt (tgt := 46) hx hb (by omega) (by omega) dX1_attach_21 (by decide) (fun c3 => ?_) (fun c3 => ?_)
    · refine lv_iconst (v := (-1)) hx hb dX1_attach_46 (by decide) ?_
      rw [hQQ]
      exact W.iret (v := (-1)) hx hb hr (fun t9 ht9 hW9 => ⟨⟨_, (al, sh, is, us, fo, sw, sc, ho, fr, to, di, ha), rfl, ⟨by rw [mw_attach_bad (Or.inl (Or.inr (Or.inl (nI_lt (by omega) hX31))))], by rw [mw_attach_bad (Or.inl (Or.inr (Or.inl (nI_lt (by omega) hX31))))]; exact hI⟩, by rw [ht9]; exact hP, va_K.moved hW9.alike hK, hD⟩, hS.F ht9⟩) hS.2.2 dX1_attach_47
    refine lv_iload hx hb dX1_attach_24 (lv_at hl 0 rfl) ?_
    refine lv_iconst (v := (nI 3)) hx hb dX1_attach_26 (by decide) ?_
    refine kw_gt (tgt := 46) hx hb (by omega) (by omega) dX1_attach_27 (by decide) (fun c4 => ?_) (fun c4 => ?_)
    · refine lv_iconst (v := (-1)) hx hb dX1_attach_46 (by decide) ?_
      rw [hQQ]
      exact W.iret (v := (-1)) hx hb hr (fun t9 ht9 hW9 => ⟨⟨_, (al, sh, is, us, fo, sw, sc, ho, fr, to, di, ha), rfl, ⟨by rw [mw_attach_bad (Or.inr (Or.inr (Or.inl (nI_lt (by omega) hY31))))], by rw [mw_attach_bad (Or.inr (Or.inr (Or.inl (nI_lt (by omega) hY31))))]; exact hI⟩, by rw [ht9]; exact hP, va_K.moved hW9.alike hK, hD⟩, hS.F ht9⟩) hS.2.2 dX1_attach_47
    refine lv_iload_n hx hb dX1_attach_30 rfl (lv_at hl 3 rfl) ?_
    refine lv_bipush (v := (nI 7)) hx hb dX1_attach_31 (by decide) ?_
    refine kw_and hx hb 3 (by omega) (by decide) dX1_attach_33 ?_
    refine W.eq (g2 := F0 m 34 ls [.int (nI (X % 8))]) rfl ?_
    refine lv_iconst (v := (nI 4)) hx hb dX1_attach_34 (by decide) ?_
    refine kw_gt (tgt := 46) hx hb (by omega) (by omega) dX1_attach_35 (by decide) (fun c5 => ?_) (fun c5 => ?_)
    · refine lv_iconst (v := (-1)) hx hb dX1_attach_46 (by decide) ?_
      rw [hQQ]
      exact W.iret (v := (-1)) hx hb hr (fun t9 ht9 hW9 => ⟨⟨_, (al, sh, is, us, fo, sw, sc, ho, fr, to, di, ha), rfl, ⟨by rw [mw_attach_bad (Or.inl (Or.inr (Or.inr (by rw [mw_cl hX31]; exact c5))))], by rw [mw_attach_bad (Or.inl (Or.inr (Or.inr (by rw [mw_cl hX31]; exact c5))))]; exact hI⟩, by rw [ht9]; exact hP, va_K.moved hW9.alike hK, hD⟩, hS.F ht9⟩) hS.2.2 dX1_attach_47
    refine lv_iload_n hx hb dX1_attach_38 rfl (lv_at hl 4 rfl) ?_
    refine lv_bipush (v := (nI 7)) hx hb dX1_attach_39 (by decide) ?_
    refine kw_and hx hb 3 (by omega) (by decide) dX1_attach_41 ?_
    refine W.eq (g2 := F0 m 42 ls [.int (nI (Y % 8))]) rfl ?_
    refine lv_iconst (v := (nI 4)) hx hb dX1_attach_42 (by decide) ?_
    refine kw_le (tgt := 48) hx hb (by omega) (by omega) dX1_attach_43 (by decide) (fun c6 => ?_) (fun c6 => ?_)
    · have hX : X ≤ 28 := by omega
      have hY : Y ≤ 28 := by omega
      refine lv_aload_n hx hb dX1_attach_48 rfl (lv_at hl 2 rfl) ?_
      refine va_get (D := (dC, dI)) (ci := 0) (v := .ref (a 0)) (C := RX1) (T := TX1) (N := 13) hx hb hts in_X1 hown hK hP 0 rfl rfl 0 (by decide) (hts _ q24) (fun _ h9 => h9) rfl dX1_attach_49 ?_
      refine lv_iload_n hx hb dX1_attach_52 rfl (lv_at hl 1 rfl) ?_
      refine kw_zld (v := (mw_ob (al (X / 8)))) hx hb hK hP 1 0 rfl rfl (by omega) (by decide) rfl dX1_attach_53 ?_
      refine kw_ifeqB (tgt := 67) hx hb dX1_attach_54 (by decide) (fun c7 => ?_) (fun c7 => ?_)
      · refine lv_bipush (v := (-2)) hx hb dX1_attach_67 (by decide) ?_
        rw [hQQ]
        exact W.iret (v := (-2)) hx hb hr (fun t9 ht9 hW9 => ⟨⟨_, (al, sh, is, us, fo, sw, sc, ho, fr, to, di, ha), rfl, ⟨by rw [mw_attach_dead (V := (ma, ms, mo, mc)) hA0 hX c5 hY c6 (Or.inl c7)], by rw [mw_attach_dead (V := (ma, ms, mo, mc)) hA0 hX c5 hY c6 (Or.inl c7)]; exact hI⟩, by rw [ht9]; exact hP, va_K.moved hW9.alike hK, hD⟩, hS.F ht9⟩) hS.2.2 dX1_attach_69
      refine lv_aload_n hx hb dX1_attach_57 rfl (lv_at hl 2 rfl) ?_
      refine va_get (D := (dC, dI)) (ci := 0) (v := .ref (a 0)) (C := RX1) (T := TX1) (N := 13) hx hb hts in_X1 hown hK hP 0 rfl rfl 0 (by decide) (hts _ q24) (fun _ h9 => h9) rfl dX1_attach_58 ?_
      refine lv_iload hx hb dX1_attach_61 (lv_at hl 0 rfl) ?_
      refine kw_zld (v := (mw_ob (al (Y / 8)))) hx hb hK hP 1 0 rfl rfl (by omega) (by decide) rfl dX1_attach_63 ?_
      refine kw_ifneB (tgt := 70) hx hb dX1_attach_64 (by decide) (fun c8 => ?_) (fun c8 => ?_)
      · refine lv_iconst (v := (nI 5)) hx hb dX1_attach_70 (by decide) ?_
        refine lv_iload_n hx hb dX1_attach_71 rfl (lv_at hl 1 rfl) ?_
        refine kw_mul hx hb dX1_attach_72 ?_
        refine lv_iload_n hx hb dX1_attach_73 rfl (lv_at hl 3 rfl) ?_
        refine lv_bipush (v := (nI 7)) hx hb dX1_attach_74 (by decide) ?_
        refine kw_and hx hb 3 (by omega) (by decide) dX1_attach_76 ?_
        refine W.eq (g2 := F0 m 77 ls [.int (nI (X % 8)), .int (nI (5 * (X / 8)))]) rfl ?_
        refine kw_add hx hb dX1_attach_77 ?_
        refine lv_istore (lv' := [(5, .int (nI (5 * (X / 8) + X % 8))), (4, .int (nI (Y / 8))), (3, .int (nI (X / 8))), (0, .ref h0), (1, .int (nI X)), (2, .int (nI Y))]) hx hb dX1_attach_78 hl (by decide) rfl (fun ls hl => ?_)
        refine lv_iconst (v := (nI 5)) hx hb dX1_attach_80 (by decide) ?_
        refine lv_iload hx hb dX1_attach_81 (lv_at hl 1 rfl) ?_
        refine kw_mul hx hb dX1_attach_83 ?_
        refine lv_iload_n hx hb dX1_attach_84 rfl (lv_at hl 5 rfl) ?_
        refine lv_bipush (v := (nI 7)) hx hb dX1_attach_85 (by decide) ?_
        refine kw_and hx hb 3 (by omega) (by decide) dX1_attach_87 ?_
        refine W.eq (g2 := F0 m 88 ls [.int (nI (Y % 8)), .int (nI (5 * (Y / 8)))]) rfl ?_
        refine kw_add hx hb dX1_attach_88 ?_
        refine lv_istore (lv' := [(6, .int (nI (5 * (Y / 8) + Y % 8))), (5, .int (nI (5 * (X / 8) + X % 8))), (4, .int (nI (Y / 8))), (3, .int (nI (X / 8))), (0, .ref h0), (1, .int (nI X)), (2, .int (nI Y))]) hx hb dX1_attach_89 hl (by decide) rfl (fun ls hl => ?_)
        refine lv_aload_n hx hb dX1_attach_91 rfl (lv_at hl 4 rfl) ?_
        refine va_get (D := (dC, dI)) (ci := 0) (v := .ref (a 1)) (C := RX1) (T := TX1) (N := 13) hx hb hts in_X1 hown hK hP 0 rfl rfl 1 (by decide) (hts _ q25) (fun _ h9 => h9) rfl dX1_attach_92 ?_
        refine lv_iload hx hb dX1_attach_95 (lv_at hl 1 rfl) ?_
        refine kw_bld (v := (mw_oc (sh (5 * (X / 8) + X % 8)))) hx hb hK hP 2 1 rfl rfl (by omega) (by decide) rfl dX1_attach_97 ?_
        refine kw_ifltO (tgt := 104) hx hb (fun c h => Nat.lt_trans (hU.1 _ c (by omega) h) (by decide)) dX1_attach_98 (by decide) (fun c9 => ?_) (fun i c9 => ?_)
        · refine lv_aload_n hx hb dX1_attach_104 rfl (lv_at hl 4 rfl) ?_
          refine va_get (D := (dC, dI)) (ci := 0) (v := .ref (a 1)) (C := RX1) (T := TX1) (N := 13) hx hb hts in_X1 hown hK hP 0 rfl rfl 1 (by decide) (hts _ q25) (fun _ h9 => h9) rfl dX1_attach_105 ?_
          refine lv_iload hx hb dX1_attach_108 (lv_at hl 0 rfl) ?_
          refine kw_bld (v := (mw_oc (sh (5 * (Y / 8) + Y % 8)))) hx hb hK hP 2 1 rfl rfl (by omega) (by decide) rfl dX1_attach_110 ?_
          refine kw_ifltO (tgt := 124) hx hb (fun c h => Nat.lt_trans (hU.1 _ c (by omega) h) (by decide)) dX1_attach_111 (by decide) (fun c10 => ?_) (fun si c10 => ?_)
          · refine lv_bipush (v := (-3)) hx hb dX1_attach_124 (by decide) ?_
            rw [hQQ]
            exact W.iret (v := (-3)) hx hb hr (fun t9 ht9 hW9 => ⟨⟨_, (al, sh, is, us, fo, sw, sc, ho, fr, to, di, ha), rfl, ⟨by rw [mw_attach_no (V := (ma, ms, mo, mc)) hA0 hR hX c5 hY c6 c7 c8 c9 (Or.inl c10)], by rw [mw_attach_no (V := (ma, ms, mo, mc)) hA0 hR hX c5 hY c6 c7 c8 c9 (Or.inl c10)]; exact hI⟩, by rw [ht9]; exact hP, va_K.moved hW9.alike hK, hD⟩, hS.F ht9⟩) hS.2.2 dX1_attach_126
          refine lv_aload_n hx hb dX1_attach_114 rfl (lv_at hl 4 rfl) ?_
          refine va_get (D := (dC, dI)) (ci := 0) (v := .ref (a 2)) (C := RX1) (T := TX1) (N := 13) hx hb hts in_X1 hown hK hP 0 rfl rfl 2 (by decide) (hts _ q26) (fun _ h9 => h9) rfl dX1_attach_115 ?_
          refine lv_iload hx hb dX1_attach_118 (lv_at hl 0 rfl) ?_
          refine kw_zld (v := (mw_ob (is (5 * (Y / 8) + Y % 8)))) hx hb hK hP 3 2 rfl rfl (by omega) (by decide) rfl dX1_attach_120 ?_
          refine kw_ifneB (tgt := 127) hx hb dX1_attach_121 (by decide) (fun c11 => ?_) (fun c11 => ?_)
          · have hsi := hU.1 _ si (by omega) c10
            have h20 := mw_U_us hU hsi
            refine lv_aload_n hx hb dX1_attach_127 rfl (lv_at hl 4 rfl) ?_
            refine va_get (D := (dC, dI)) (ci := 0) (v := .ref (a 1)) (C := RX1) (T := TX1) (N := 13) hx hb hts in_X1 hown hK hP 0 rfl rfl 1 (by decide) (hts _ q25) (fun _ h9 => h9) rfl dX1_attach_128 ?_
            refine lv_iload hx hb dX1_attach_131 (lv_at hl 1 rfl) ?_
            refine lv_aload_n hx hb dX1_attach_133 rfl (lv_at hl 4 rfl) ?_
            refine va_get (D := (dC, dI)) (ci := 0) (v := .ref (a 1)) (C := RX1) (T := TX1) (N := 13) hx hb hts in_X1 hown hK hP 0 rfl rfl 1 (by decide) (hts _ q25) (fun _ h9 => h9) rfl dX1_attach_134 ?_
            refine lv_iload hx hb dX1_attach_137 (lv_at hl 0 rfl) ?_
            refine kw_bld (v := (nI si)) hx hb hK hP 2 1 rfl rfl (by omega) (by decide) (congrArg mw_oc c10) dX1_attach_139 ?_
            refine kw_bst (f' := mw_O (va_up sh (5 * (X / 8) + X % 8) (some si))) hx hb hK hP hD hS 2 1 rfl rfl (by omega) (by decide) (mw_O_stS _ _ (by omega)) dX1_attach_140 (fun H locs hP hD hS => ?_)
            have hP : va_P (dC, dI) vwCl (mw_C h0 a d al (va_up sh (5 * (X / 8) + X % 8) (some si)) is us fo sw sc F ho fr to di ha) H := hP
            have hD : va_D A (mw_C h0 a d al (va_up sh (5 * (X / 8) + X % 8) (some si)) is us fo sw sc F ho fr to di ha) := hD
            refine lv_aload_n hx hb dX1_attach_141 rfl (lv_at hl 4 rfl) ?_
            refine va_get (D := (dC, dI)) (ci := 0) (v := .ref (a 3)) (C := RX1) (T := TX1) (N := 13) hx hb hts in_X1 hown hK hP 0 rfl rfl 3 (by decide) (hts _ q27) (fun _ h9 => h9) rfl dX1_attach_142 ?_
            refine lv_aload_n hx hb dX1_attach_145 rfl (lv_at hl 4 rfl) ?_
            refine va_get (D := (dC, dI)) (ci := 0) (v := .ref (a 1)) (C := RX1) (T := TX1) (N := 13) hx hb hts in_X1 hown hK hP 0 rfl rfl 1 (by decide) (hts _ q25) (fun _ h9 => h9) rfl dX1_attach_146 ?_
            refine lv_iload hx hb dX1_attach_149 (lv_at hl 1 rfl) ?_
            refine kw_bld (v := (nI si)) hx hb hK hP 2 1 rfl rfl (by omega) (by decide) (congrArg mw_oc mw_up_s) dX1_attach_151 ?_
            refine lv_dup2_11 hx hb dX1_attach_152 rfl rfl ?_
            refine kw_bld (v := (nI (us si))) hx hb hK hP 4 3 rfl rfl (by omega) (by decide) rfl dX1_attach_153 ?_
            refine lv_iconst (v := (nI 1)) hx hb dX1_attach_154 (by decide) ?_
            refine kw_add hx hb dX1_attach_155 ?_
            refine kw_i2b hx hb (by omega) dX1_attach_156 ?_
            refine kw_bst (f' := mw_N (va_up us si (us si + 1))) hx hb hK hP hD hS 4 3 rfl rfl (by omega) (by decide) (mw_N_st _ _ (by omega)) dX1_attach_157 (fun H locs hP hD hS => ?_)
            have hP : va_P (dC, dI) vwCl (mw_C h0 a d al (va_up sh (5 * (X / 8) + X % 8) (some si)) is (va_up us si (us si + 1)) fo sw sc F ho fr to di ha) H := hP
            have hD : va_D A (mw_C h0 a d al (va_up sh (5 * (X / 8) + X % 8) (some si)) is (va_up us si (us si + 1)) fo sw sc F ho fr to di ha) := hD
            refine lv_aload_n hx hb dX1_attach_158 rfl (lv_at hl 4 rfl) ?_
            refine va_get (D := (dC, dI)) (ci := 0) (v := .ref (a 2)) (C := RX1) (T := TX1) (N := 13) hx hb hts in_X1 hown hK hP 0 rfl rfl 2 (by decide) (hts _ q26) (fun _ h9 => h9) rfl dX1_attach_159 ?_
            refine lv_iload hx hb dX1_attach_162 (lv_at hl 1 rfl) ?_
            refine lv_iconst (v := (nI 1)) hx hb dX1_attach_164 (by decide) ?_
            refine kw_zst (f' := mw_B (va_up is (5 * (X / 8) + X % 8) true)) hx hb hK hP hD hS 3 2 rfl rfl (by omega) (by decide) (mw_B_st1 _ _) dX1_attach_165 (fun H locs hP hD hS => ?_)
            have hP : va_P (dC, dI) vwCl (mw_C h0 a d al (va_up sh (5 * (X / 8) + X % 8) (some si)) (va_up is (5 * (X / 8) + X % 8) true) (va_up us si (us si + 1)) fo sw sc F ho fr to di ha) H := hP
            have hD : va_D A (mw_C h0 a d al (va_up sh (5 * (X / 8) + X % 8) (some si)) (va_up is (5 * (X / 8) + X % 8) true) (va_up us si (us si + 1)) fo sw sc F ho fr to di ha) := hD
            refine lv_iload_n hx hb dX1_attach_166 rfl (lv_at hl 5 rfl) ?_
            refine lv_bipush (v := (nI 7)) hx hb dX1_attach_167 (by decide) ?_
            refine kw_and hx hb 3 (by omega) (by decide) dX1_attach_169 ?_
            refine W.eq (g2 := F0 m 170 ls [.int (nI (X % 8))]) rfl ?_
            rw [hQQ]
            exact W.iret (v := (nI (X % 8))) hx hb hr (fun t9 ht9 hW9 => ⟨⟨_, (al, va_up sh (5 * (X / 8) + X % 8) (some si), va_up is (5 * (X / 8) + X % 8) true, va_up us si (us si + 1), fo, sw, sc, ho, fr, to, di, ha), rfl, mw_I_attach hI hX c5 hY c6 c7 c8 c9 c10 c11, by rw [ht9]; exact hP, va_K.moved hW9.alike hK, hD⟩, hS.F ht9⟩) hS.2.2 dX1_attach_170
          refine lv_bipush (v := (-3)) hx hb dX1_attach_124 (by decide) ?_
          rw [hQQ]
          exact W.iret (v := (-3)) hx hb hr (fun t9 ht9 hW9 => ⟨⟨_, (al, sh, is, us, fo, sw, sc, ho, fr, to, di, ha), rfl, ⟨by rw [mw_attach_no (V := (ma, ms, mo, mc)) hA0 hR hX c5 hY c6 c7 c8 c9 (Or.inr c11)], by rw [mw_attach_no (V := (ma, ms, mo, mc)) hA0 hR hX c5 hY c6 c7 c8 c9 (Or.inr c11)]; exact hI⟩, by rw [ht9]; exact hP, va_K.moved hW9.alike hK, hD⟩, hS.F ht9⟩) hS.2.2 dX1_attach_126
        refine lv_bipush (v := (-4)) hx hb dX1_attach_101 (by decide) ?_
        rw [hQQ]
        exact W.iret (v := (-4)) hx hb hr (fun t9 ht9 hW9 => ⟨⟨_, (al, sh, is, us, fo, sw, sc, ho, fr, to, di, ha), rfl, ⟨by rw [mw_attach_busy (V := (ma, ms, mo, mc)) hA0 hR hX c5 hY c6 c7 c8 c9], by rw [mw_attach_busy (V := (ma, ms, mo, mc)) hA0 hR hX c5 hY c6 c7 c8 c9]; exact hI⟩, by rw [ht9]; exact hP, va_K.moved hW9.alike hK, hD⟩, hS.F ht9⟩) hS.2.2 dX1_attach_103
      refine lv_bipush (v := (-2)) hx hb dX1_attach_67 (by decide) ?_
      rw [hQQ]
      exact W.iret (v := (-2)) hx hb hr (fun t9 ht9 hW9 => ⟨⟨_, (al, sh, is, us, fo, sw, sc, ho, fr, to, di, ha), rfl, ⟨by rw [mw_attach_dead (V := (ma, ms, mo, mc)) hA0 hX c5 hY c6 (Or.inr c8)], by rw [mw_attach_dead (V := (ma, ms, mo, mc)) hA0 hX c5 hY c6 (Or.inr c8)]; exact hI⟩, by rw [ht9]; exact hP, va_K.moved hW9.alike hK, hD⟩, hS.F ht9⟩) hS.2.2 dX1_attach_69
    refine lv_iconst (v := (-1)) hx hb dX1_attach_46 (by decide) ?_
    rw [hQQ]
    exact W.iret (v := (-1)) hx hb hr (fun t9 ht9 hW9 => ⟨⟨_, (al, sh, is, us, fo, sw, sc, ho, fr, to, di, ha), rfl, ⟨by rw [mw_attach_bad (Or.inr (Or.inr (Or.inr (by rw [mw_cl hY31]; exact c6))))], by rw [mw_attach_bad (Or.inr (Or.inr (Or.inr (by rw [mw_cl hY31]; exact c6))))]; exact hI⟩, by rw [ht9]; exact hP, va_K.moved hW9.alike hK, hD⟩, hS.F ht9⟩) hS.2.2 dX1_attach_47
  refine lv_iconst (v := (-1)) hx hb dX1_attach_8 (by decide) ?_
  rw [hQQ]
  exact W.iret (v := (-1)) hx hb hr (fun t9 ht9 hW9 => ⟨⟨_, (al, sh, is, us, fo, sw, sc, ho, fr, to, di, ha), rfl, ⟨by rw [mw_attach_bad (Or.inr (Or.inl c2))], by rw [mw_attach_bad (Or.inr (Or.inl c2))]; exact hI⟩, by rw [ht9]; exact hP, va_K.moved hW9.alike hK, hD⟩, hS.F ht9⟩) hS.2.2 dX1_attach_9
end
section
/-! CowMemory: fork, exit, write, read -/
set_option maxHeartbeats 4000000 in
set_option maxRecDepth 100000 in
/-- CowMemory.fork -/
theorem mX1_fork (l : Launch) (dC : Nat → ClassId) (dI : Nat → Nat → Nat) (h0 : Nat) (a : Nat → Nat) (d : Nat → ClassId) (sz : Nat) (al : Nat → Bool) (sh : Nat → Option Nat) (is : Nat → Bool) (us : Nat → Nat) (fo : Nat → Option Nat) (sw : Nat → Bool) (sc : Nat → Int32) (F : Nat) (ho : Nat → Option Nat) (fr : Nat → Int32) (to : Nat → Bool) (di : Nat → Bool) (ha : Nat) (ma : Nat → Bool) (ms : Nat → Option Nat) (mo : Nat → Bool) (mc : Nat → Int32) (hI : mw_I al sh is us fo sw sc F ho fr di ha (ma, ms, mo, mc)) (pp qq : Int32) : Met l yX1_fork (ws_ yX1_fork cX1_fork 7 (some .int)) ({ frames := 0, cells := 0, slots := 0, locals := 0 } : Room) (va_Pc [.ref h0, .int pp, .int qq] (fun U => U.heap.size = sz ∧ va_P (dC, dI) vwCl (mw_C h0 a d al sh is us fo sw sc F ho fr to di ha) U.heap ∧ va_K (dC, dI) vwCl (mw_CK d) U ∧ va_D (fun _ => True) (mw_C h0 a d al sh is us fo sw sc F ho fr to di ha))) (va_Qi (fun (r : Int32) (u : (Nat → Bool) × (Nat → Option Nat) × (Nat → Bool) × (Nat → Nat) × (Nat → Option Nat) × (Nat → Bool) × (Nat → Int32) × (Nat → Option Nat) × (Nat → Int32) × (Nat → Bool) × (Nat → Bool) × (Nat)) => r = (mw_fork (ma, ms, mo, mc) pp qq).1 ∧ mw_I u.1 u.2.1 u.2.2.1 u.2.2.2.1 u.2.2.2.2.1 u.2.2.2.2.2.1 u.2.2.2.2.2.2.1 F u.2.2.2.2.2.2.2.1 u.2.2.2.2.2.2.2.2.1 u.2.2.2.2.2.2.2.2.2.2.1 u.2.2.2.2.2.2.2.2.2.2.2 (mw_fork (ma, ms, mo, mc) pp qq).2) (fun (u : (Nat → Bool) × (Nat → Option Nat) × (Nat → Bool) × (Nat → Nat) × (Nat → Option Nat) × (Nat → Bool) × (Nat → Int32) × (Nat → Option Nat) × (Nat → Int32) × (Nat → Bool) × (Nat → Bool) × (Nat)) (t : State) => mw_BC dC dI (va_A (mw_C h0 a d al sh is us fo sw sc F ho fr to di ha) sz) h0 a d u.1 u.2.1 u.2.2.1 u.2.2.2.1 u.2.2.2.2.1 u.2.2.2.2.2.1 u.2.2.2.2.2.2.1 F u.2.2.2.2.2.2.2.1 u.2.2.2.2.2.2.2.2.1 u.2.2.2.2.2.2.2.2.2.1 u.2.2.2.2.2.2.2.2.2.2.1 u.2.2.2.2.2.2.2.2.2.2.2 t) (va_A (mw_C h0 a d al sh is us fo sw sc F ho fr to di ha) sz)) 0 0 (va_A (mw_C h0 a d al sh is us fo sw sc F ho fr to di ha) sz) := by
  refine Met.ofW (cc := cX1_fork) (maxL := 7) (ret := (some .int)) (by decide) rfl ?_
  intro p e s m args below meth c s₁ B hml hv
  obtain ⟨rfl, hsz, hP, hK, hD0⟩ := hv
  have hx := B.exec
  have hb := B.bytes
  have hr := B.returns
  have hts := atoms_spec (ws := ws_ yX1_fork cX1_fork 7 (some .int)) B.pre
  have hts : ∀ w ∈ lw_all, w.before _ s = true := fun w h => hts w (List.mem_cons_of_mem _ h)
  have hown : s.vm.findClass RX1 = some m.cls := findClass_of_methodNamed B.named
  have hlocks := B.notSynchronized
  subst hsz
  have hD := hD0.self (sz := s.heap.size)
  generalize hAe : va_A (mw_C h0 a d al sh is us fo sw sc F ho fr to di ha) s.heap.size = A at hD ⊢
  have hA : ∀ q : Nat, s.heap.size ≤ q → A q := fun q h => by rw [← hAe]; exact Or.inr h
  have hS : va_S A s.heap s.heap [] := va_S.rf
  have hl := lv_entry ([.ref h0, .int pp, .int qq]) (n := 7) (Nat.le_of_ble_eq_true rfl)
  rw [lg_entry_eq]
  generalize (lg_sl ([.ref h0, .int pp, .int qq]) ++ List.replicate (7 - (lg_sl ([.ref h0, .int pp, .int qq])).length) Slot.unset).toArray = ls at hl ⊢
  have hl : lv_has ls 7 [(0, .ref h0), (1, .int pp), (2, .int qq)] := hl
  obtain ⟨QQ, hQQ⟩ : ∃ QQ, QQ = MQ below (va_Qi (fun (r : Int32) (u : (Nat → Bool) × (Nat → Option Nat) × (Nat → Bool) × (Nat → Nat) × (Nat → Option Nat) × (Nat → Bool) × (Nat → Int32) × (Nat → Option Nat) × (Nat → Int32) × (Nat → Bool) × (Nat → Bool) × (Nat)) => r = (mw_fork (ma, ms, mo, mc) pp qq).1 ∧ mw_I u.1 u.2.1 u.2.2.1 u.2.2.2.1 u.2.2.2.2.1 u.2.2.2.2.2.1 u.2.2.2.2.2.2.1 F u.2.2.2.2.2.2.2.1 u.2.2.2.2.2.2.2.2.1 u.2.2.2.2.2.2.2.2.2.2.1 u.2.2.2.2.2.2.2.2.2.2.2 (mw_fork (ma, ms, mo, mc) pp qq).2) (fun (u : (Nat → Bool) × (Nat → Option Nat) × (Nat → Bool) × (Nat → Nat) × (Nat → Option Nat) × (Nat → Bool) × (Nat → Int32) × (Nat → Option Nat) × (Nat → Int32) × (Nat → Bool) × (Nat → Bool) × (Nat)) (t : State) => mw_BC dC dI A h0 a d u.1 u.2.1 u.2.2.1 u.2.2.2.1 u.2.2.2.2.1 u.2.2.2.2.2.1 u.2.2.2.2.2.2.1 F u.2.2.2.2.2.2.2.1 u.2.2.2.2.2.2.2.2.1 u.2.2.2.2.2.2.2.2.2.1 u.2.2.2.2.2.2.2.2.2.2.1 u.2.2.2.2.2.2.2.2.2.2.2 t) A) ([.ref h0, .int pp, .int qq] : List Value).toArray s 0 0 A := ⟨_, rfl⟩
  rw [← hQQ]
  obtain ⟨hU, hZ, hA0, vl, hL, hR⟩ := id hI
  have hA0 : ∀ p, p < 4 → al p = ma p := hA0
  have hR : mw_R sh is vl ms mo mc := hR
  refine lv_iload_n hx hb dX1_fork_0 rfl (lv_at hl 1 rfl) ?_
  refine lv_if_lt (tgt := 18) hx hb dX1_fork_1 (by decide) (fun c1 => ?_) (fun c1 => ?_)
  · refine lv_iconst (v := (-1)) hx hb dX1_fork_18 (by decide) ?_
    rw [hQQ]
    exact W.iret (v := (-1)) hx hb hr (fun t9 ht9 hW9 => ⟨⟨_, (al, sh, is, us, fo, sw, sc, ho, fr, to, di, ha), rfl, ⟨by rw [mw_fork_bad (Or.inl (Or.inl c1))], by rw [mw_fork_bad (Or.inl (Or.inl c1))]; exact hI⟩, by rw [ht9]; exact hP, va_K.moved hW9.alike hK, hD⟩, hS.F ht9⟩) hS.2.2 dX1_fork_19
  refine lv_iload_n hx hb dX1_fork_4 rfl (lv_at hl 1 rfl) ?_
  refine lv_iconst (v := (nI 3)) hx hb dX1_fork_5 (by decide) ?_
  refine lv_icmp_gt (tgt := 18) hx hb dX1_fork_6 (by decide) (fun c2 => ?_) (fun c2 => ?_)
  · refine lv_iconst (v := (-1)) hx hb dX1_fork_18 (by decide) ?_
    rw [hQQ]
    exact W.iret (v := (-1)) hx hb hr (fun t9 ht9 hW9 => ⟨⟨_, (al, sh, is, us, fo, sw, sc, ho, fr, to, di, ha), rfl, ⟨by rw [mw_fork_bad (Or.inl (Or.inr c2))], by rw [mw_fork_bad (Or.inl (Or.inr c2))]; exact hI⟩, by rw [ht9]; exact hP, va_K.moved hW9.alike hK, hD⟩, hS.F ht9⟩) hS.2.2 dX1_fork_19
  refine lv_iload_n hx hb dX1_fork_9 rfl (lv_at hl 2 rfl) ?_
  refine lv_if_lt (tgt := 18) hx hb dX1_fork_10 (by decide) (fun c3 => ?_) (fun c3 => ?_)
  · refine lv_iconst (v := (-1)) hx hb dX1_fork_18 (by decide) ?_
    rw [hQQ]
    exact W.iret (v := (-1)) hx hb hr (fun t9 ht9 hW9 => ⟨⟨_, (al, sh, is, us, fo, sw, sc, ho, fr, to, di, ha), rfl, ⟨by rw [mw_fork_bad (Or.inr (Or.inl c3))], by rw [mw_fork_bad (Or.inr (Or.inl c3))]; exact hI⟩, by rw [ht9]; exact hP, va_K.moved hW9.alike hK, hD⟩, hS.F ht9⟩) hS.2.2 dX1_fork_19
  refine lv_iload_n hx hb dX1_fork_13 rfl (lv_at hl 2 rfl) ?_
  refine lv_iconst (v := (nI 3)) hx hb dX1_fork_14 (by decide) ?_
  refine kw_leI (tgt := 20) hx hb dX1_fork_15 (by decide) (fun c4 => ?_) (fun c4 => ?_)
  · obtain ⟨P, hP3, rfl⟩ := mw_rng (n := 3) (by decide) c1 c2
    obtain ⟨Q, hQ3, rfl⟩ := mw_rng (n := 3) (by decide) c3 c4
    refine lv_aload_n hx hb dX1_fork_20 rfl (lv_at hl 0 rfl) ?_
    refine va_get (D := (dC, dI)) (ci := 0) (v := .ref (a 0)) (C := RX1) (T := TX1) (N := 13) hx hb hts in_X1 hown hK hP 0 rfl rfl 0 (by decide) (hts _ q24) (fun _ h9 => h9) rfl dX1_fork_21 ?_
    refine lv_iload_n hx hb dX1_fork_24 rfl (lv_at hl 1 rfl) ?_
    refine kw_zld (v := (mw_ob (al P))) hx hb hK hP 1 0 rfl rfl (by omega) (by decide) rfl dX1_fork_25 ?_
    refine kw_ifneB (tgt := 32) hx hb dX1_fork_26 (by decide) (fun c5 => ?_) (fun c5 => ?_)
    · refine lv_aload_n hx hb dX1_fork_32 rfl (lv_at hl 0 rfl) ?_
      refine va_get (D := (dC, dI)) (ci := 0) (v := .ref (a 0)) (C := RX1) (T := TX1) (N := 13) hx hb hts in_X1 hown hK hP 0 rfl rfl 0 (by decide) (hts _ q24) (fun _ h9 => h9) rfl dX1_fork_33 ?_
      refine lv_iload_n hx hb dX1_fork_36 rfl (lv_at hl 2 rfl) ?_
      refine kw_zld (v := (mw_ob (al Q))) hx hb hK hP 1 0 rfl rfl (by omega) (by decide) rfl dX1_fork_37 ?_
      refine kw_ifeqB (tgt := 44) hx hb dX1_fork_38 (by decide) (fun c6 => ?_) (fun c6 => ?_)
      · have hPQ : P ≠ Q := fun z => by rw [z, c6] at c5; cases c5
        refine lv_aload_n hx hb dX1_fork_44 rfl (lv_at hl 0 rfl) ?_
        refine va_get (D := (dC, dI)) (ci := 0) (v := .ref (a 0)) (C := RX1) (T := TX1) (N := 13) hx hb hts in_X1 hown hK hP 0 rfl rfl 0 (by decide) (hts _ q24) (fun _ h9 => h9) rfl dX1_fork_45 ?_
        refine lv_iload_n hx hb dX1_fork_48 rfl (lv_at hl 2 rfl) ?_
        refine lv_iconst (v := (nI 1)) hx hb dX1_fork_49 (by decide) ?_
        refine kw_zst (f' := mw_B (va_up al Q true)) hx hb hK hP hD hS 1 0 rfl rfl (by omega) (by decide) (mw_B_st1 _ _) dX1_fork_50 (fun H locs hP hD hS => ?_)
        have hP : va_P (dC, dI) vwCl (mw_C h0 a d (va_up al Q true) sh is us fo sw sc F ho fr to di ha) H := hP
        have hD : va_D A (mw_C h0 a d (va_up al Q true) sh is us fo sw sc F ho fr to di ha) := hD
        refine lv_iconst (v := (nI 0)) hx hb dX1_fork_51 (by decide) ?_
        refine lv_istore_n (lv' := [(3, .int (nI 0)), (0, .ref h0), (1, .int (nI P)), (2, .int (nI Q))]) hx hb dX1_fork_52 rfl hl (by decide) rfl (fun ls hl => ?_)
        refine lv_iconst (v := (nI 0)) hx hb dX1_fork_53 (by decide) ?_
        refine lv_istore (lv' := [(4, .int (nI 0)), (3, .int (nI 0)), (0, .ref h0), (1, .int (nI P)), (2, .int (nI Q))]) hx hb dX1_fork_54 hl (by decide) rfl (fun ls hl => ?_)
        have lp : ∀ (n : Nat) (j : Nat) (cn : Nat) (sh1 : Nat → Option Nat) (is1 : Nat → Bool) (us1 : Nat → Nat) (ms1 : Nat → Option Nat) (mo1 : Nat → Bool) (mc1 : Nat → Int32), (j ≤ 5) → (mw_fk (va_up ma Q true, ms, mo, mc) P Q j = (cn, va_up ma Q true, ms1, mo1, mc1)) → (mw_U sh1 is1 us1 fo) → (mw_R sh1 is1 vl ms1 mo1 mc1) → (mw_Z (va_up al Q true) sh1) → (∀ k, j ≤ k → k < 5 → sh1 (5 * Q + k) = none) → (5 - j) < n → ∀ (H : Heap) (locs : List Loc), va_P (dC, dI) vwCl (mw_C h0 a d (va_up al Q true) sh1 is1 us1 fo sw sc F ho fr to di ha) H → va_D A (mw_C h0 a d (va_up al Q true) sh1 is1 us1 fo sw sc F ho fr to di ha) → va_S A s.heap H locs → ∀ (ls : Array Slot), lv_has ls 7 [(4, .int (nI j)), (3, .int (nI cn)), (0, .ref h0), (1, .int (nI P)), (2, .int (nI Q))] → W p l e ({ frames := 0, cells := 0, slots := 0, locals := 0 } : Room) s m ([.ref h0, .int (nI P), .int (nI Q)] : List Value).toArray below meth c H locs 0 0 QQ (F0 m 56 ls []) := by
          intro n
          induction n with
          | zero =>
            intro j cn sh1 is1 us1 ms1 mo1 mc1 hj hE hU1 hR1 hZ1 hz hfuel
            exact absurd hfuel (by omega)
          | succ n ih =>
            intro j cn sh1 is1 us1 ms1 mo1 mc1 hj hE hU1 hR1 hZ1 hz hfuel H locs hP hD hS ls hl
            refine lv_iload hx hb dX1_fork_56 (lv_at hl 0 rfl) ?_
            refine lv_iconst (v := (nI 5)) hx hb dX1_fork_58 (by decide) ?_
            refine kw_ge (tgt := 145) hx hb (by omega) (by omega) dX1_fork_59 (by decide) (fun c7 => ?_) (fun c7 => ?_)
            · obtain rfl : j = 5 := by omega
              have hfk := mw_fork_go hA0 hP3 hQ3 c5 c6 hE
              refine lv_iload_n hx hb dX1_fork_145 rfl (lv_at hl 1 rfl) ?_
              rw [hQQ]
              exact W.iret (v := (nI cn)) hx hb hr (fun t9 ht9 hW9 => ⟨⟨_, (va_up al Q true, sh1, is1, us1, fo, sw, sc, ho, fr, to, di, ha), rfl, by rw [hfk]; exact ⟨rfl, hU1, hZ1, mw_A_up hA0, vl, hL, hR1⟩, by rw [ht9]; exact hP, va_K.moved hW9.alike hK, hD⟩, hS.F ht9⟩) hS.2.2 dX1_fork_146
            refine lv_iconst (v := (nI 5)) hx hb dX1_fork_62 (by decide) ?_
            refine lv_iload_n hx hb dX1_fork_63 rfl (lv_at hl 3 rfl) ?_
            refine kw_mul hx hb dX1_fork_64 ?_
            refine lv_iload hx hb dX1_fork_65 (lv_at hl 0 rfl) ?_
            refine kw_add hx hb dX1_fork_67 ?_
            refine lv_istore (lv' := [(5, .int (nI (5 * P + j))), (4, .int (nI j)), (3, .int (nI cn)), (0, .ref h0), (1, .int (nI P)), (2, .int (nI Q))]) hx hb dX1_fork_68 hl (by decide) rfl (fun ls hl => ?_)
            refine lv_iconst (v := (nI 5)) hx hb dX1_fork_70 (by decide) ?_
            refine lv_iload_n hx hb dX1_fork_71 rfl (lv_at hl 5 rfl) ?_
            refine kw_mul hx hb dX1_fork_72 ?_
            refine lv_iload hx hb dX1_fork_73 (lv_at hl 1 rfl) ?_
            refine kw_add hx hb dX1_fork_75 ?_
            refine lv_istore (lv' := [(6, .int (nI (5 * Q + j))), (5, .int (nI (5 * P + j))), (4, .int (nI j)), (3, .int (nI cn)), (0, .ref h0), (1, .int (nI P)), (2, .int (nI Q))]) hx hb dX1_fork_76 hl (by decide) rfl (fun ls hl => ?_)
            refine lv_aload_n hx hb dX1_fork_78 rfl (lv_at hl 4 rfl) ?_
            refine va_get (D := (dC, dI)) (ci := 0) (v := .ref (a 1)) (C := RX1) (T := TX1) (N := 13) hx hb hts in_X1 hown hK hP 0 rfl rfl 1 (by decide) (hts _ q25) (fun _ h9 => h9) rfl dX1_fork_79 ?_
            refine lv_iload hx hb dX1_fork_82 (lv_at hl 0 rfl) ?_
            refine lv_aload_n hx hb dX1_fork_84 rfl (lv_at hl 4 rfl) ?_
            refine va_get (D := (dC, dI)) (ci := 0) (v := .ref (a 1)) (C := RX1) (T := TX1) (N := 13) hx hb hts in_X1 hown hK hP 0 rfl rfl 1 (by decide) (hts _ q25) (fun _ h9 => h9) rfl dX1_fork_85 ?_
            refine lv_iload hx hb dX1_fork_88 (lv_at hl 1 rfl) ?_
            refine kw_bld (v := (mw_oc (sh1 (5 * P + j)))) hx hb hK hP 2 1 rfl rfl (by omega) (by decide) rfl dX1_fork_90 ?_
            refine kw_bst (f' := mw_O (va_up sh1 (5 * Q + j) (sh1 (5 * P + j)))) hx hb hK hP hD hS 2 1 rfl rfl (by omega) (by decide) (mw_O_st _ _ (fun c h => Nat.lt_trans (hU1.1 _ c (by omega) h) (by decide))) dX1_fork_91 (fun H locs hP hD hS => ?_)
            have hP : va_P (dC, dI) vwCl (mw_C h0 a d (va_up al Q true) (va_up sh1 (5 * Q + j) (sh1 (5 * P + j))) is1 us1 fo sw sc F ho fr to di ha) H := hP
            have hD : va_D A (mw_C h0 a d (va_up al Q true) (va_up sh1 (5 * Q + j) (sh1 (5 * P + j))) is1 us1 fo sw sc F ho fr to di ha) := hD
            refine lv_aload_n hx hb dX1_fork_92 rfl (lv_at hl 4 rfl) ?_
            refine va_get (D := (dC, dI)) (ci := 0) (v := .ref (a 2)) (C := RX1) (T := TX1) (N := 13) hx hb hts in_X1 hown hK hP 0 rfl rfl 2 (by decide) (hts _ q26) (fun _ h9 => h9) rfl dX1_fork_93 ?_
            refine lv_iload hx hb dX1_fork_96 (lv_at hl 0 rfl) ?_
            refine lv_aload_n hx hb dX1_fork_98 rfl (lv_at hl 4 rfl) ?_
            refine va_get (D := (dC, dI)) (ci := 0) (v := .ref (a 2)) (C := RX1) (T := TX1) (N := 13) hx hb hts in_X1 hown hK hP 0 rfl rfl 2 (by decide) (hts _ q26) (fun _ h9 => h9) rfl dX1_fork_99 ?_
            refine lv_iload hx hb dX1_fork_102 (lv_at hl 1 rfl) ?_
            refine kw_zld (v := (mw_ob (is1 (5 * P + j)))) hx hb hK hP 3 2 rfl rfl (by omega) (by decide) rfl dX1_fork_104 ?_
            refine kw_zst (f' := mw_B (va_up is1 (5 * Q + j) (is1 (5 * P + j)))) hx hb hK hP hD hS 3 2 rfl rfl (by omega) (by decide) (mw_B_st _ _ _) dX1_fork_105 (fun H locs hP hD hS => ?_)
            have hP : va_P (dC, dI) vwCl (mw_C h0 a d (va_up al Q true) (va_up sh1 (5 * Q + j) (sh1 (5 * P + j))) (va_up is1 (5 * Q + j) (is1 (5 * P + j))) us1 fo sw sc F ho fr to di ha) H := hP
            have hD : va_D A (mw_C h0 a d (va_up al Q true) (va_up sh1 (5 * Q + j) (sh1 (5 * P + j))) (va_up is1 (5 * Q + j) (is1 (5 * P + j))) us1 fo sw sc F ho fr to di ha) := hD
            refine lv_aload_n hx hb dX1_fork_106 rfl (lv_at hl 4 rfl) ?_
            refine va_get (D := (dC, dI)) (ci := 0) (v := .ref (a 1)) (C := RX1) (T := TX1) (N := 13) hx hb hts in_X1 hown hK hP 0 rfl rfl 1 (by decide) (hts _ q25) (fun _ h9 => h9) rfl dX1_fork_107 ?_
            refine lv_iload hx hb dX1_fork_110 (lv_at hl 1 rfl) ?_
            refine kw_bld (v := (mw_oc (sh1 (5 * P + j)))) hx hb hK hP 2 1 rfl rfl (by omega) (by decide) (congrArg mw_oc (mw_up_n (by omega))) dX1_fork_112 ?_
            refine kw_ifgeO (tgt := 119) hx hb (fun c h => Nat.lt_trans (hU1.1 _ c (by omega) h) (by decide)) dX1_fork_113 (by decide) (fun ci c8 => ?_) (fun c8 => ?_)
            · have hci := hU1.1 _ ci (by omega) c8
              have h20 := mw_U_us hU1 hci
              obtain ⟨t0, -, ht0, -⟩ := hR1.2.1 _ ci (show 5 * P + j < 20 by omega) c8
              obtain ⟨ms2, mo2, mc2, hcp, hU2, hR2, hZ2, hz2⟩ := mw_fork_c (ma := va_up ma Q true) hP3 hQ3 hU1 hR1 hZ1 mw_up_s hz c7 c8
              refine lv_aload_n hx hb dX1_fork_119 rfl (lv_at hl 4 rfl) ?_
              refine va_get (D := (dC, dI)) (ci := 0) (v := .ref (a 3)) (C := RX1) (T := TX1) (N := 13) hx hb hts in_X1 hown hK hP 0 rfl rfl 3 (by decide) (hts _ q27) (fun _ h9 => h9) rfl dX1_fork_120 ?_
              refine lv_aload_n hx hb dX1_fork_123 rfl (lv_at hl 4 rfl) ?_
              refine va_get (D := (dC, dI)) (ci := 0) (v := .ref (a 1)) (C := RX1) (T := TX1) (N := 13) hx hb hts in_X1 hown hK hP 0 rfl rfl 1 (by decide) (hts _ q25) (fun _ h9 => h9) rfl dX1_fork_124 ?_
              refine lv_iload hx hb dX1_fork_127 (lv_at hl 1 rfl) ?_
              refine kw_bld (v := (nI ci)) hx hb hK hP 2 1 rfl rfl (by omega) (by decide) (congrArg mw_oc ((mw_up_n (by omega)).trans c8)) dX1_fork_129 ?_
              refine lv_dup2_11 hx hb dX1_fork_130 rfl rfl ?_
              refine kw_bld (v := (nI (us1 ci))) hx hb hK hP 4 3 rfl rfl (by omega) (by decide) rfl dX1_fork_131 ?_
              refine lv_iconst (v := (nI 1)) hx hb dX1_fork_132 (by decide) ?_
              refine kw_add hx hb dX1_fork_133 ?_
              refine kw_i2b hx hb (by omega) dX1_fork_134 ?_
              refine kw_bst (f' := mw_N (va_up us1 ci (us1 ci + 1))) hx hb hK hP hD hS 4 3 rfl rfl (by omega) (by decide) (mw_N_st _ _ (by omega)) dX1_fork_135 (fun H locs hP hD hS => ?_)
              have hP : va_P (dC, dI) vwCl (mw_C h0 a d (va_up al Q true) (va_up sh1 (5 * Q + j) (sh1 (5 * P + j))) (va_up is1 (5 * Q + j) (is1 (5 * P + j))) (va_up us1 ci (us1 ci + 1)) fo sw sc F ho fr to di ha) H := hP
              have hD : va_D A (mw_C h0 a d (va_up al Q true) (va_up sh1 (5 * Q + j) (sh1 (5 * P + j))) (va_up is1 (5 * Q + j) (is1 (5 * P + j))) (va_up us1 ci (us1 ci + 1)) fo sw sc F ho fr to di ha) := hD
              refine lv_iinc (v := (nI (cn + 1))) (lv' := [(3, .int (nI (cn + 1))), (6, .int (nI (5 * Q + j))), (5, .int (nI (5 * P + j))), (4, .int (nI j)), (0, .ref h0), (1, .int (nI P)), (2, .int (nI Q))]) hx hb dX1_fork_136 hl (k := 3) rfl (mw_inc1 _) (by decide) rfl (fun ls hl => ?_)
              refine lv_iinc (v := (nI (j + 1))) (lv' := [(4, .int (nI (j + 1))), (3, .int (nI (cn + 1))), (6, .int (nI (5 * Q + j))), (5, .int (nI (5 * P + j))), (0, .ref h0), (1, .int (nI P)), (2, .int (nI Q))]) hx hb dX1_fork_139 hl (k := 3) rfl (mw_inc1 _) (by decide) rfl (fun ls hl => ?_)
              refine lv_goto (tgt := 56) hx hb dX1_fork_142 (by decide) ?_
              exact ih (j + 1) (cn + 1) (va_up sh1 (5 * Q + j) (sh1 (5 * P + j))) (va_up is1 (5 * Q + j) (is1 (5 * P + j))) (va_up us1 ci (us1 ci + 1)) ms2 mo2 mc2 (by omega) (by rw [mw_fk_s1 hE ht0, hcp]) hU2 hR2 hZ2 hz2 (by omega) _ _ hP hD hS ls (lv_sub hl [0, 1, 4, 5, 6] rfl)
            obtain ⟨hU2, hR2, hZ2, hz2⟩ := mw_fork_n hU1 hR1 hZ1 hz c7 c8
            refine lv_goto (tgt := 139) hx hb dX1_fork_116 (by decide) ?_
            refine lv_iinc (v := (nI (j + 1))) (lv' := [(4, .int (nI (j + 1))), (6, .int (nI (5 * Q + j))), (5, .int (nI (5 * P + j))), (3, .int (nI cn)), (0, .ref h0), (1, .int (nI P)), (2, .int (nI Q))]) hx hb dX1_fork_139 hl (k := 2) rfl (mw_inc1 _) (by decide) rfl (fun ls hl => ?_)
            refine lv_goto (tgt := 56) hx hb dX1_fork_142 (by decide) ?_
            exact ih (j + 1) cn (va_up sh1 (5 * Q + j) (sh1 (5 * P + j))) (va_up is1 (5 * Q + j) (is1 (5 * P + j))) us1 ms1 mo1 mc1 (by omega) (by rw [mw_fk_s0 hE (hR1.1 _ (by omega) c8)]) hU2 hR2 hZ2 hz2 (by omega) _ _ hP hD hS ls (lv_sub hl [0, 3, 4, 5, 6] rfl)
        exact lp 6 0 0 sh is us ms mo mc (by omega) rfl hU hR (fun p k hp hk q => by by_cases z : p = Q; rw [z, mw_up_s] at q; cases q; rw [mw_up_n z] at q; exact hZ p k hp hk q) (fun k _ h2 => hZ Q k (by omega) h2 c6) (by omega) _ _ hP hD hS ls (lv_sub hl [0, 1, 2, 3, 4] rfl)
      refine lv_bipush (v := (-4)) hx hb dX1_fork_41 (by decide) ?_
      rw [hQQ]
      exact W.iret (v := (-4)) hx hb hr (fun t9 ht9 hW9 => ⟨⟨_, (al, sh, is, us, fo, sw, sc, ho, fr, to, di, ha), rfl, ⟨by rw [mw_fork_busy (V := (ma, ms, mo, mc)) hA0 hP3 hQ3 c5 c6], by rw [mw_fork_busy (V := (ma, ms, mo, mc)) hA0 hP3 hQ3 c5 c6]; exact hI⟩, by rw [ht9]; exact hP, va_K.moved hW9.alike hK, hD⟩, hS.F ht9⟩) hS.2.2 dX1_fork_43
    refine lv_bipush (v := (-2)) hx hb dX1_fork_29 (by decide) ?_
    rw [hQQ]
    exact W.iret (v := (-2)) hx hb hr (fun t9 ht9 hW9 => ⟨⟨_, (al, sh, is, us, fo, sw, sc, ho, fr, to, di, ha), rfl, ⟨by rw [mw_fork_dead (V := (ma, ms, mo, mc)) hA0 hP3 hQ3 c5], by rw [mw_fork_dead (V := (ma, ms, mo, mc)) hA0 hP3 hQ3 c5]; exact hI⟩, by rw [ht9]; exact hP, va_K.moved hW9.alike hK, hD⟩, hS.F ht9⟩) hS.2.2 dX1_fork_31
  refine lv_iconst (v := (-1)) hx hb dX1_fork_18 (by decide) ?_
  rw [hQQ]
  exact W.iret (v := (-1)) hx hb hr (fun t9 ht9 hW9 => ⟨⟨_, (al, sh, is, us, fo, sw, sc, ho, fr, to, di, ha), rfl, ⟨by rw [mw_fork_bad (Or.inr (Or.inr c4))], by rw [mw_fork_bad (Or.inr (Or.inr c4))]; exact hI⟩, by rw [ht9]; exact hP, va_K.moved hW9.alike hK, hD⟩, hS.F ht9⟩) hS.2.2 dX1_fork_19
set_option maxHeartbeats 4000000 in
set_option maxRecDepth 100000 in
/-- CowMemory.exit -/
theorem mX1_exit (l : Launch) (dC : Nat → ClassId) (dI : Nat → Nat → Nat) (h0 : Nat) (a : Nat → Nat) (d : Nat → ClassId) (sz : Nat) (al : Nat → Bool) (sh : Nat → Option Nat) (is : Nat → Bool) (us : Nat → Nat) (fo : Nat → Option Nat) (sw : Nat → Bool) (sc : Nat → Int32) (F : Nat) (ho : Nat → Option Nat) (fr : Nat → Int32) (to : Nat → Bool) (di : Nat → Bool) (ha : Nat) (ma : Nat → Bool) (ms : Nat → Option Nat) (mo : Nat → Bool) (mc : Nat → Int32) (hI : mw_I al sh is us fo sw sc F ho fr di ha (ma, ms, mo, mc)) (pp : Int32) : Met l yX1_exit (ws_ yX1_exit cX1_exit 4 (some .int)) ({ frames := 1, cells := 0, slots := 0, locals := 22 } : Room) (va_Pc [.ref h0, .int pp] (fun U => U.heap.size = sz ∧ va_P (dC, dI) vwCl (mw_C h0 a d al sh is us fo sw sc F ho fr to di ha) U.heap ∧ va_K (dC, dI) vwCl (mw_CK d) U ∧ va_D (fun _ => True) (mw_C h0 a d al sh is us fo sw sc F ho fr to di ha))) (va_Qi (fun (r : Int32) (u : (Nat → Bool) × (Nat → Option Nat) × (Nat → Bool) × (Nat → Nat) × (Nat → Option Nat) × (Nat → Bool) × (Nat → Int32) × (Nat → Option Nat) × (Nat → Int32) × (Nat → Bool) × (Nat → Bool) × (Nat)) => r = (mw_exit (ma, ms, mo, mc) pp).1 ∧ mw_I u.1 u.2.1 u.2.2.1 u.2.2.2.1 u.2.2.2.2.1 u.2.2.2.2.2.1 u.2.2.2.2.2.2.1 F u.2.2.2.2.2.2.2.1 u.2.2.2.2.2.2.2.2.1 u.2.2.2.2.2.2.2.2.2.2.1 u.2.2.2.2.2.2.2.2.2.2.2 (mw_exit (ma, ms, mo, mc) pp).2) (fun (u : (Nat → Bool) × (Nat → Option Nat) × (Nat → Bool) × (Nat → Nat) × (Nat → Option Nat) × (Nat → Bool) × (Nat → Int32) × (Nat → Option Nat) × (Nat → Int32) × (Nat → Bool) × (Nat → Bool) × (Nat)) (t : State) => mw_BC dC dI (va_A (mw_C h0 a d al sh is us fo sw sc F ho fr to di ha) sz) h0 a d u.1 u.2.1 u.2.2.1 u.2.2.2.1 u.2.2.2.2.1 u.2.2.2.2.2.1 u.2.2.2.2.2.2.1 F u.2.2.2.2.2.2.2.1 u.2.2.2.2.2.2.2.2.1 u.2.2.2.2.2.2.2.2.2.1 u.2.2.2.2.2.2.2.2.2.2.1 u.2.2.2.2.2.2.2.2.2.2.2 t) (va_A (mw_C h0 a d al sh is us fo sw sc F ho fr to di ha) sz)) 0 0 (va_A (mw_C h0 a d al sh is us fo sw sc F ho fr to di ha) sz) := by
  refine Met.ofW (cc := cX1_exit) (maxL := 4) (ret := (some .int)) (by decide) rfl ?_
  intro p e s m args below meth c s₁ B hml hv
  obtain ⟨rfl, hsz, hP, hK, hD0⟩ := hv
  have hx := B.exec
  have hb := B.bytes
  have hr := B.returns
  have hts := atoms_spec (ws := ws_ yX1_exit cX1_exit 4 (some .int)) B.pre
  have hts : ∀ w ∈ lw_all, w.before _ s = true := fun w h => hts w (List.mem_cons_of_mem _ h)
  have hown : s.vm.findClass RX1 = some m.cls := findClass_of_methodNamed B.named
  have hlocks := B.notSynchronized
  subst hsz
  have hD := hD0.self (sz := s.heap.size)
  generalize hAe : va_A (mw_C h0 a d al sh is us fo sw sc F ho fr to di ha) s.heap.size = A at hD ⊢
  have hA : ∀ q : Nat, s.heap.size ≤ q → A q := fun q h => by rw [← hAe]; exact Or.inr h
  have hS : va_S A s.heap s.heap [] := va_S.rf
  have hl := lv_entry ([.ref h0, .int pp]) (n := 4) (Nat.le_of_ble_eq_true rfl)
  rw [lg_entry_eq]
  generalize (lg_sl ([.ref h0, .int pp]) ++ List.replicate (4 - (lg_sl ([.ref h0, .int pp])).length) Slot.unset).toArray = ls at hl ⊢
  have hl : lv_has ls 4 [(0, .ref h0), (1, .int pp)] := hl
  obtain ⟨QQ, hQQ⟩ : ∃ QQ, QQ = MQ below (va_Qi (fun (r : Int32) (u : (Nat → Bool) × (Nat → Option Nat) × (Nat → Bool) × (Nat → Nat) × (Nat → Option Nat) × (Nat → Bool) × (Nat → Int32) × (Nat → Option Nat) × (Nat → Int32) × (Nat → Bool) × (Nat → Bool) × (Nat)) => r = (mw_exit (ma, ms, mo, mc) pp).1 ∧ mw_I u.1 u.2.1 u.2.2.1 u.2.2.2.1 u.2.2.2.2.1 u.2.2.2.2.2.1 u.2.2.2.2.2.2.1 F u.2.2.2.2.2.2.2.1 u.2.2.2.2.2.2.2.2.1 u.2.2.2.2.2.2.2.2.2.2.1 u.2.2.2.2.2.2.2.2.2.2.2 (mw_exit (ma, ms, mo, mc) pp).2) (fun (u : (Nat → Bool) × (Nat → Option Nat) × (Nat → Bool) × (Nat → Nat) × (Nat → Option Nat) × (Nat → Bool) × (Nat → Int32) × (Nat → Option Nat) × (Nat → Int32) × (Nat → Bool) × (Nat → Bool) × (Nat)) (t : State) => mw_BC dC dI A h0 a d u.1 u.2.1 u.2.2.1 u.2.2.2.1 u.2.2.2.2.1 u.2.2.2.2.2.1 u.2.2.2.2.2.2.1 F u.2.2.2.2.2.2.2.1 u.2.2.2.2.2.2.2.2.1 u.2.2.2.2.2.2.2.2.2.1 u.2.2.2.2.2.2.2.2.2.2.1 u.2.2.2.2.2.2.2.2.2.2.2 t) A) ([.ref h0, .int pp] : List Value).toArray s 0 0 A := ⟨_, rfl⟩
  rw [← hQQ]
  obtain ⟨hU, hZ, hA0, vl, hL, hR⟩ := id hI
  have hA0 : ∀ p, p < 4 → al p = ma p := hA0
  have hR : mw_R sh is vl ms mo mc := hR
  refine lv_iload_n hx hb dX1_exit_0 rfl (lv_at hl 1 rfl) ?_
  refine lv_if_lt (tgt := 9) hx hb dX1_exit_1 (by decide) (fun c1 => ?_) (fun c1 => ?_)
  · refine lv_iconst (v := (-1)) hx hb dX1_exit_9 (by decide) ?_
    rw [hQQ]
    exact W.iret (v := (-1)) hx hb hr (fun t9 ht9 hW9 => ⟨⟨_, (al, sh, is, us, fo, sw, sc, ho, fr, to, di, ha), rfl, ⟨by rw [mw_exit_bad (Or.inl c1)], by rw [mw_exit_bad (Or.inl c1)]; exact hI⟩, by rw [ht9]; exact hP, va_K.moved hW9.alike hK, hD⟩, hS.F ht9⟩) hS.2.2 dX1_exit_10
  refine lv_iload_n hx hb dX1_exit_4 rfl (lv_at hl 1 rfl) ?_
  refine lv_iconst (v := (nI 3)) hx hb dX1_exit_5 (by decide) ?_
  refine kw_leI (tgt := 11) hx hb dX1_exit_6 (by decide) (fun c2 => ?_) (fun c2 => ?_)
  · obtain ⟨P, hP3, rfl⟩ := mw_rng (n := 3) (by decide) c1 c2
    refine lv_aload_n hx hb dX1_exit_11 rfl (lv_at hl 0 rfl) ?_
    refine va_get (D := (dC, dI)) (ci := 0) (v := .ref (a 0)) (C := RX1) (T := TX1) (N := 13) hx hb hts in_X1 hown hK hP 0 rfl rfl 0 (by decide) (hts _ q24) (fun _ h9 => h9) rfl dX1_exit_12 ?_
    refine lv_iload_n hx hb dX1_exit_15 rfl (lv_at hl 1 rfl) ?_
    refine kw_zld (v := (mw_ob (al P))) hx hb hK hP 1 0 rfl rfl (by omega) (by decide) rfl dX1_exit_16 ?_
    refine kw_ifneB (tgt := 23) hx hb dX1_exit_17 (by decide) (fun c3 => ?_) (fun c3 => ?_)
    · refine lv_aload_n hx hb dX1_exit_23 rfl (lv_at hl 0 rfl) ?_
      refine va_get (D := (dC, dI)) (ci := 0) (v := .ref (a 0)) (C := RX1) (T := TX1) (N := 13) hx hb hts in_X1 hown hK hP 0 rfl rfl 0 (by decide) (hts _ q24) (fun _ h9 => h9) rfl dX1_exit_24 ?_
      refine lv_iload_n hx hb dX1_exit_27 rfl (lv_at hl 1 rfl) ?_
      refine lv_iconst (v := (nI 0)) hx hb dX1_exit_28 (by decide) ?_
      refine kw_zst (f' := mw_B (va_up al P false)) hx hb hK hP hD hS 1 0 rfl rfl (by omega) (by decide) (mw_B_st0 _ _) dX1_exit_29 (fun H locs hP hD hS => ?_)
      have hP : va_P (dC, dI) vwCl (mw_C h0 a d (va_up al P false) sh is us fo sw sc F ho fr to di ha) H := hP
      have hD : va_D A (mw_C h0 a d (va_up al P false) sh is us fo sw sc F ho fr to di ha) := hD
      refine lv_iconst (v := (nI 0)) hx hb dX1_exit_30 (by decide) ?_
      refine lv_istore_n (lv' := [(2, .int (nI 0)), (0, .ref h0), (1, .int (nI P))]) hx hb dX1_exit_31 rfl hl (by decide) rfl (fun ls hl => ?_)
      refine lv_iconst (v := (nI 5)) hx hb dX1_exit_32 (by decide) ?_
      refine lv_iload_n hx hb dX1_exit_33 rfl (lv_at hl 2 rfl) ?_
      refine kw_mul hx hb dX1_exit_34 ?_
      refine lv_istore_n (lv' := [(3, .int (nI (5 * P))), (2, .int (nI 0)), (0, .ref h0), (1, .int (nI P))]) hx hb dX1_exit_35 rfl hl (by decide) rfl (fun ls hl => ?_)
      have lp : ∀ (n : Nat) (j : Nat) (ei : Nat) (cn : Nat) (sh1 : Nat → Option Nat) (us1 : Nat → Nat) (fo1 : Nat → Option Nat) (ho1 : Nat → Option Nat) (ms1 : Nat → Option Nat), (j ≤ 5) → (ei = 5 * P + j) → (mw_ek ms P j = (cn, ms1)) → (mw_U sh1 is us1 fo1) → (∃ vl1, mw_L vl1 F fo1 sw sc ho1 fr di ha ∧ mw_R sh1 is vl1 ms1 mo mc) → (mw_Z al sh1) → (∀ k, k < j → sh1 (5 * P + k) = none) → (5 - j) < n → ∀ (H : Heap) (locs : List Loc), va_P (dC, dI) vwCl (mw_C h0 a d (va_up al P false) sh1 is us1 fo1 sw sc F ho1 fr to di ha) H → va_D A (mw_C h0 a d (va_up al P false) sh1 is us1 fo1 sw sc F ho1 fr to di ha) → va_S A s.heap H locs → ∀ (ls : Array Slot), lv_has ls 4 [(3, .int (nI ei)), (2, .int (nI cn)), (0, .ref h0), (1, .int (nI P))] → W p l e ({ frames := 1, cells := 0, slots := 0, locals := 22 } : Room) s m ([.ref h0, .int (nI P)] : List Value).toArray below meth c H locs 0 0 QQ (F0 m 36 ls []) := by
        intro n
        induction n with
        | zero =>
          intro j ei cn sh1 us1 fo1 ho1 ms1 hj hei hE hU1 hLR hZ1 hd hfuel
          exact absurd hfuel (by omega)
        | succ n ih =>
          intro j ei cn sh1 us1 fo1 ho1 ms1 hj hei hE hU1 hLR hZ1 hd hfuel H locs hP hD hS ls hl
          obtain ⟨vl1, hL1, hR1⟩ := hLR
          refine lv_iload_n hx hb dX1_exit_36 rfl (lv_at hl 0 rfl) ?_
          refine lv_iconst (v := (nI 5)) hx hb dX1_exit_37 (by decide) ?_
          refine lv_iload_n hx hb dX1_exit_38 rfl (lv_at hl 3 rfl) ?_
          refine kw_mul hx hb dX1_exit_39 ?_
          refine lv_iconst (v := (nI 5)) hx hb dX1_exit_40 (by decide) ?_
          refine kw_add hx hb dX1_exit_41 ?_
          refine kw_ge (tgt := 71) hx hb (by omega) (by omega) dX1_exit_42 (by decide) (fun c5 => ?_) (fun c5 => ?_)
          · obtain rfl : j = 5 := by omega
            have hex : mw_exit (ma, ms, mo, mc) (nI P) = (nI cn, va_up ma P false, ms1, mo, mc) := by rw [mw_exit_in hP3, if_neg (by show ¬ ma P = false; rw [← hA0 P (by omega), c3]; decide)]; show (nI (mw_ek ms P 5).1, _, (mw_ek ms P 5).2, _, _) = _; rw [hE]
            refine lv_iload_n hx hb dX1_exit_71 rfl (lv_at hl 1 rfl) ?_
            rw [hQQ]
            exact W.iret (v := (nI cn)) hx hb hr (fun t9 ht9 hW9 => ⟨⟨_, (va_up al P false, sh1, is, us1, fo1, sw, sc, ho1, fr, to, di, ha), rfl, by rw [hex]; exact ⟨rfl, hU1, mw_Z_exit hZ1 hd, mw_A_up hA0, vl1, hL1, hR1⟩, by rw [ht9]; exact hP, va_K.moved hW9.alike hK, hD⟩, hS.F ht9⟩) hS.2.2 dX1_exit_72
          refine lv_aload_n hx hb dX1_exit_45 rfl (lv_at hl 2 rfl) ?_
          refine va_get (D := (dC, dI)) (ci := 0) (v := .ref (a 1)) (C := RX1) (T := TX1) (N := 13) hx hb hts in_X1 hown hK hP 0 rfl rfl 1 (by decide) (hts _ q25) (fun _ h9 => h9) rfl dX1_exit_46 ?_
          refine lv_iload_n hx hb dX1_exit_49 rfl (lv_at hl 0 rfl) ?_
          refine kw_bld (v := (mw_oc (sh1 ei))) hx hb hK hP 2 1 rfl rfl (by omega) (by decide) rfl dX1_exit_50 ?_
          refine kw_ifgeO (tgt := 57) hx hb (fun c h => Nat.lt_trans (hU1.1 _ c (by omega) h) (by decide)) dX1_exit_51 (by decide) (fun ci c6 => ?_) (fun c6 => ?_)
          · obtain ⟨t0, -, ht0, -⟩ := hR1.2.1 ei ci (by omega) c6
            refine lv_aload_n hx hb dX1_exit_57 rfl (lv_at hl 2 rfl) ?_
            refine lv_iload_n hx hb dX1_exit_58 rfl (lv_at hl 0 rfl) ?_
            have hFc := va_free (wc := (mw_C h0 a d (va_up al P false) sh1 is us1 fo1 sw sc F ho1 fr to di ha)) hD hS hA [0, 1, 2, 3, 4, 5, 6, 7, 8, 9, 10, 11] rfl
            refine va_callv (va_runV (As := [.int (nI ei)]) (rest := []) ⟨hx, hb, hml, hown, hts⟩ (mX1_release l dC dI h0 a d H.size (va_up al P false) sh1 is us1 fo1 sw sc F ho1 fr to di ha vl1 hL1 hU1 ei ci (by omega) c6) (cwV 1 hts (lw_V q83 q85 qs2 q14 q86) rfl rfl rfl (by decide +kernel) ⟨Nat.le_of_ble_eq_true rfl, Nat.le_of_ble_eq_true rfl⟩) ⟨fun a U g mk q => by obtain ⟨q0, q1, qP, qK, qD⟩ := q; exact ⟨q0, q1, qP, va_K.moved (u := U) (U := U.calling g mk a) (Vm.Alike.refl U.vm) qK, qD⟩, va_recv hK hP (ci := 0) (q0 := 0) rfl rfl, fun U hU hW => ⟨rfl, by rw [hU], by rw [hU]; exact hP, va_K.moved hW.alike hK, hD.weaken (fun _ _ _ _ => trivial)⟩⟩ rfl rfl hl.1 rfl (lv_room (Nat.le_of_ble_eq_true rfl)) dX1_exit_59 ⟨Nat.le_refl _, Nat.le_refl _⟩) hS (fun q _ h => hFc q h) hFc (fun u t9 H1 locs ht9 hvm hw hB hz1 hk1 hS => ?_)
            obtain ⟨fo2, ho2⟩ := u
            dsimp only at hw
            obtain ⟨hP1, hK1, hD1⟩ : mw_BC dC dI _ h0 a d (va_up al P false) (va_up sh1 ei none) is (va_up us1 ci (us1 ci - 1)) fo2 sw sc F ho2 fr to di ha t9 := hB
            rw [ht9] at hP1
            obtain ⟨hP, hD⟩ := va_join (wr := []) (w1 := (mw_C h0 a d (va_up al P false) (va_up sh1 ei none) is (va_up us1 ci (us1 ci - 1)) fo2 sw sc F ho2 fr to di ha)) hP hD [0, 1, 2, 3, 4, 5, 6, 7, 8, 9, 10, 11] [] rfl rfl (by decide) (by decide) hk1 hFc hP1 hD1
            generalize H1 = H at hP hS ⊢
            have hP : va_P (dC, dI) vwCl (mw_C h0 a d (va_up al P false) (va_up sh1 ei none) is (va_up us1 ci (us1 ci - 1)) fo2 sw sc F ho2 fr to di ha) H := hP
            have hD : va_D A (mw_C h0 a d (va_up al P false) (va_up sh1 ei none) is (va_up us1 ci (us1 ci - 1)) fo2 sw sc F ho2 fr to di ha) := hD
            refine W.widen (k := 0) (n := 0) (Nat.le_refl _) (Nat.le_refl _) ?_
            obtain ⟨hU2, vl2, hL2, hv2⟩ := hw
            refine lv_iinc (v := (nI (cn + 1))) (lv' := [(2, .int (nI (cn + 1))), (3, .int (nI ei)), (0, .ref h0), (1, .int (nI P))]) hx hb dX1_exit_62 hl (k := 1) rfl (mw_inc1 _) (by decide) rfl (fun ls hl => ?_)
            refine lv_iinc (v := (nI (ei + 1))) (lv' := [(3, .int (nI (ei + 1))), (2, .int (nI (cn + 1))), (0, .ref h0), (1, .int (nI P))]) hx hb dX1_exit_65 hl (k := 1) rfl (mw_inc1 _) (by decide) rfl (fun ls hl => ?_)
            refine lv_goto (tgt := 36) hx hb dX1_exit_68 (by decide) ?_
            exact ih (j + 1) (ei + 1) (cn + 1) (va_up sh1 ei none) (va_up us1 ci (us1 ci - 1)) fo2 ho2 (va_up ms1 ei none) (by omega) (by omega) (by show ((mw_ek ms P j).1 + _, va_up (mw_ek ms P j).2 _ _) = _; rw [hE, ← hei]; simp [ht0]) hU2 (⟨vl2, hL2, mw_R_rel hR1 hv2⟩) (by rw [hei]; exact mw_Z_up hZ1 (by omega) c3) (fun k hk => by by_cases z : k = j; rw [z, ← hei]; exact mw_up_s; rw [mw_up_n (by omega)]; exact hd k (by omega)) (by omega) _ _ hP hD hS ls (lv_sub hl [0, 1, 2, 3] rfl)
          refine lv_goto (tgt := 65) hx hb dX1_exit_54 (by decide) ?_
          refine lv_iinc (v := (nI (ei + 1))) (lv' := [(3, .int (nI (ei + 1))), (2, .int (nI cn)), (0, .ref h0), (1, .int (nI P))]) hx hb dX1_exit_65 hl (k := 0) rfl (mw_inc1 _) (by decide) rfl (fun ls hl => ?_)
          refine lv_goto (tgt := 36) hx hb dX1_exit_68 (by decide) ?_
          exact ih (j + 1) (ei + 1) cn sh1 us1 fo1 ho1 ms1 (by omega) (by omega) (by show ((mw_ek ms P j).1 + _, va_up (mw_ek ms P j).2 _ _) = _; rw [hE, ← hei, mw_up_same (hR1.1 ei (by omega) c6)]; simp [hR1.1 ei (by omega) c6]) hU1 (⟨vl1, hL1, hR1⟩) hZ1 (fun k hk => by by_cases z : k = j; rw [z, ← hei]; exact c6; exact hd k (by omega)) (by omega) _ _ hP hD hS ls (lv_sub hl [0, 1, 2, 3] rfl)
      exact lp 6 0 (5 * P) 0 sh us fo ho ms (by omega) rfl rfl hU (⟨vl, hL, hR⟩) hZ (fun k hk => absurd hk (by omega)) (by omega) _ _ hP hD hS ls (lv_sub hl [0, 1, 2, 3] rfl)
    refine lv_bipush (v := (-2)) hx hb dX1_exit_20 (by decide) ?_
    rw [hQQ]
    exact W.iret (v := (-2)) hx hb hr (fun t9 ht9 hW9 => ⟨⟨_, (al, sh, is, us, fo, sw, sc, ho, fr, to, di, ha), rfl, ⟨by rw [(mw_exit_in hP3).trans (if_pos (show ma P = false by rw [← hA0 P (by omega)]; exact c3))], by rw [(mw_exit_in hP3).trans (if_pos (show ma P = false by rw [← hA0 P (by omega)]; exact c3))]; exact hI⟩, by rw [ht9]; exact hP, va_K.moved hW9.alike hK, hD⟩, hS.F ht9⟩) hS.2.2 dX1_exit_22
  refine lv_iconst (v := (-1)) hx hb dX1_exit_9 (by decide) ?_
  rw [hQQ]
  exact W.iret (v := (-1)) hx hb hr (fun t9 ht9 hW9 => ⟨⟨_, (al, sh, is, us, fo, sw, sc, ho, fr, to, di, ha), rfl, ⟨by rw [mw_exit_bad (Or.inr c2)], by rw [mw_exit_bad (Or.inr c2)]; exact hI⟩, by rw [ht9]; exact hP, va_K.moved hW9.alike hK, hD⟩, hS.F ht9⟩) hS.2.2 dX1_exit_10
set_option maxHeartbeats 4000000 in
set_option maxRecDepth 100000 in
/-- CowMemory.write -/
theorem mX1_write (l : Launch) (dC : Nat → ClassId) (dI : Nat → Nat → Nat) (h0 : Nat) (a : Nat → Nat) (d : Nat → ClassId) (sz : Nat) (al : Nat → Bool) (sh : Nat → Option Nat) (is : Nat → Bool) (us : Nat → Nat) (fo : Nat → Option Nat) (sw : Nat → Bool) (sc : Nat → Int32) (F : Nat) (ho : Nat → Option Nat) (fr : Nat → Int32) (to : Nat → Bool) (di : Nat → Bool) (ha : Nat) (ma : Nat → Bool) (ms : Nat → Option Nat) (mo : Nat → Bool) (mc : Nat → Int32) (hI : mw_I al sh is us fo sw sc F ho fr di ha (ma, ms, mo, mc)) (pp kk vv : Int32) : Met l yX1_write (ws_ yX1_write cX1_write 6 (some .int)) ({ frames := 4, cells := 0, slots := 0, locals := 95 } : Room) (va_Pc [.ref h0, .int pp, .int kk, .int vv] (fun U => U.heap.size = sz ∧ va_P (dC, dI) vwCl (mw_C h0 a d al sh is us fo sw sc F ho fr to di ha) U.heap ∧ va_K (dC, dI) vwCl (mw_CK d) U ∧ va_D (fun _ => True) (mw_C h0 a d al sh is us fo sw sc F ho fr to di ha))) (va_Qi (fun (r : Int32) (u : (Nat → Bool) × (Nat → Option Nat) × (Nat → Bool) × (Nat → Nat) × (Nat → Option Nat) × (Nat → Bool) × (Nat → Int32) × (Nat → Option Nat) × (Nat → Int32) × (Nat → Bool) × (Nat → Bool) × (Nat)) => r = (mw_write (ma, ms, mo, mc) pp kk vv).1 ∧ mw_I u.1 u.2.1 u.2.2.1 u.2.2.2.1 u.2.2.2.2.1 u.2.2.2.2.2.1 u.2.2.2.2.2.2.1 F u.2.2.2.2.2.2.2.1 u.2.2.2.2.2.2.2.2.1 u.2.2.2.2.2.2.2.2.2.2.1 u.2.2.2.2.2.2.2.2.2.2.2 (mw_write (ma, ms, mo, mc) pp kk vv).2) (fun (u : (Nat → Bool) × (Nat → Option Nat) × (Nat → Bool) × (Nat → Nat) × (Nat → Option Nat) × (Nat → Bool) × (Nat → Int32) × (Nat → Option Nat) × (Nat → Int32) × (Nat → Bool) × (Nat → Bool) × (Nat)) (t : State) => mw_BC dC dI (va_A (mw_C h0 a d al sh is us fo sw sc F ho fr to di ha) sz) h0 a d u.1 u.2.1 u.2.2.1 u.2.2.2.1 u.2.2.2.2.1 u.2.2.2.2.2.1 u.2.2.2.2.2.2.1 F u.2.2.2.2.2.2.2.1 u.2.2.2.2.2.2.2.2.1 u.2.2.2.2.2.2.2.2.2.1 u.2.2.2.2.2.2.2.2.2.2.1 u.2.2.2.2.2.2.2.2.2.2.2 t) (va_A (mw_C h0 a d al sh is us fo sw sc F ho fr to di ha) sz)) 0 0 (va_A (mw_C h0 a d al sh is us fo sw sc F ho fr to di ha) sz) := by
  refine Met.ofW (cc := cX1_write) (maxL := 6) (ret := (some .int)) (by decide) rfl ?_
  intro p e s m args below meth c s₁ B hml hv
  obtain ⟨rfl, hsz, hP, hK, hD0⟩ := hv
  have hx := B.exec
  have hb := B.bytes
  have hr := B.returns
  have hts := atoms_spec (ws := ws_ yX1_write cX1_write 6 (some .int)) B.pre
  have hts : ∀ w ∈ lw_all, w.before _ s = true := fun w h => hts w (List.mem_cons_of_mem _ h)
  have hown : s.vm.findClass RX1 = some m.cls := findClass_of_methodNamed B.named
  have hlocks := B.notSynchronized
  subst hsz
  have hD := hD0.self (sz := s.heap.size)
  generalize hAe : va_A (mw_C h0 a d al sh is us fo sw sc F ho fr to di ha) s.heap.size = A at hD ⊢
  have hA : ∀ q : Nat, s.heap.size ≤ q → A q := fun q h => by rw [← hAe]; exact Or.inr h
  have hS : va_S A s.heap s.heap [] := va_S.rf
  have hl := lv_entry ([.ref h0, .int pp, .int kk, .int vv]) (n := 6) (Nat.le_of_ble_eq_true rfl)
  rw [lg_entry_eq]
  generalize (lg_sl ([.ref h0, .int pp, .int kk, .int vv]) ++ List.replicate (6 - (lg_sl ([.ref h0, .int pp, .int kk, .int vv])).length) Slot.unset).toArray = ls at hl ⊢
  have hl : lv_has ls 6 [(0, .ref h0), (1, .int pp), (2, .int kk), (3, .int vv)] := hl
  obtain ⟨QQ, hQQ⟩ : ∃ QQ, QQ = MQ below (va_Qi (fun (r : Int32) (u : (Nat → Bool) × (Nat → Option Nat) × (Nat → Bool) × (Nat → Nat) × (Nat → Option Nat) × (Nat → Bool) × (Nat → Int32) × (Nat → Option Nat) × (Nat → Int32) × (Nat → Bool) × (Nat → Bool) × (Nat)) => r = (mw_write (ma, ms, mo, mc) pp kk vv).1 ∧ mw_I u.1 u.2.1 u.2.2.1 u.2.2.2.1 u.2.2.2.2.1 u.2.2.2.2.2.1 u.2.2.2.2.2.2.1 F u.2.2.2.2.2.2.2.1 u.2.2.2.2.2.2.2.2.1 u.2.2.2.2.2.2.2.2.2.2.1 u.2.2.2.2.2.2.2.2.2.2.2 (mw_write (ma, ms, mo, mc) pp kk vv).2) (fun (u : (Nat → Bool) × (Nat → Option Nat) × (Nat → Bool) × (Nat → Nat) × (Nat → Option Nat) × (Nat → Bool) × (Nat → Int32) × (Nat → Option Nat) × (Nat → Int32) × (Nat → Bool) × (Nat → Bool) × (Nat)) (t : State) => mw_BC dC dI A h0 a d u.1 u.2.1 u.2.2.1 u.2.2.2.1 u.2.2.2.2.1 u.2.2.2.2.2.1 u.2.2.2.2.2.2.1 F u.2.2.2.2.2.2.2.1 u.2.2.2.2.2.2.2.2.1 u.2.2.2.2.2.2.2.2.2.1 u.2.2.2.2.2.2.2.2.2.2.1 u.2.2.2.2.2.2.2.2.2.2.2 t) A) ([.ref h0, .int pp, .int kk, .int vv] : List Value).toArray s 0 0 A := ⟨_, rfl⟩
  rw [← hQQ]
  obtain ⟨hU, hZ, hA0, vl, hL, hR⟩ := id hI
  have hA0 : ∀ p, p < 4 → al p = ma p := hA0
  have hR : mw_R sh is vl ms mo mc := hR
  refine lv_iload_n hx hb dX1_write_0 rfl (lv_at hl 1 rfl) ?_
  refine lv_if_lt (tgt := 19) hx hb dX1_write_1 (by decide) (fun c1 => ?_) (fun c1 => ?_)
  · refine lv_iconst (v := (-1)) hx hb dX1_write_19 (by decide) ?_
    rw [hQQ]
    exact W.iret (v := (-1)) hx hb hr (fun t9 ht9 hW9 => ⟨⟨_, (al, sh, is, us, fo, sw, sc, ho, fr, to, di, ha), rfl, ⟨by rw [mw_write_bad (Or.inl (Or.inl c1))], by rw [mw_write_bad (Or.inl (Or.inl c1))]; exact hI⟩, by rw [ht9]; exact hP, va_K.moved hW9.alike hK, hD⟩, hS.F ht9⟩) hS.2.2 dX1_write_20
  refine lv_iload_n hx hb dX1_write_4 rfl (lv_at hl 1 rfl) ?_
  refine lv_iconst (v := (nI 3)) hx hb dX1_write_5 (by decide) ?_
  refine lv_icmp_gt (tgt := 19) hx hb dX1_write_6 (by decide) (fun c2 => ?_) (fun c2 => ?_)
  · refine lv_iconst (v := (-1)) hx hb dX1_write_19 (by decide) ?_
    rw [hQQ]
    exact W.iret (v := (-1)) hx hb hr (fun t9 ht9 hW9 => ⟨⟨_, (al, sh, is, us, fo, sw, sc, ho, fr, to, di, ha), rfl, ⟨by rw [mw_write_bad (Or.inl (Or.inr c2))], by rw [mw_write_bad (Or.inl (Or.inr c2))]; exact hI⟩, by rw [ht9]; exact hP, va_K.moved hW9.alike hK, hD⟩, hS.F ht9⟩) hS.2.2 dX1_write_20
  refine lv_iload_n hx hb dX1_write_9 rfl (lv_at hl 2 rfl) ?_
  refine lv_if_lt (tgt := 19) hx hb dX1_write_10 (by decide) (fun c3 => ?_) (fun c3 => ?_)
  · refine lv_iconst (v := (-1)) hx hb dX1_write_19 (by decide) ?_
    rw [hQQ]
    exact W.iret (v := (-1)) hx hb hr (fun t9 ht9 hW9 => ⟨⟨_, (al, sh, is, us, fo, sw, sc, ho, fr, to, di, ha), rfl, ⟨by rw [mw_write_bad (Or.inr (Or.inl c3))], by rw [mw_write_bad (Or.inr (Or.inl c3))]; exact hI⟩, by rw [ht9]; exact hP, va_K.moved hW9.alike hK, hD⟩, hS.F ht9⟩) hS.2.2 dX1_write_20
  refine lv_iload_n hx hb dX1_write_13 rfl (lv_at hl 2 rfl) ?_
  refine lv_bipush (v := (nI 19)) hx hb dX1_write_14 (by decide) ?_
  refine kw_leI (tgt := 21) hx hb dX1_write_16 (by decide) (fun c4 => ?_) (fun c4 => ?_)
  · obtain ⟨P, hP3, rfl⟩ := mw_rng (n := 3) (by decide) c1 c2
    obtain ⟨K, hK4, rfl⟩ := mw_rng (n := 19) (by decide) c3 c4
    refine lv_aload_n hx hb dX1_write_21 rfl (lv_at hl 0 rfl) ?_
    refine va_get (D := (dC, dI)) (ci := 0) (v := .ref (a 0)) (C := RX1) (T := TX1) (N := 13) hx hb hts in_X1 hown hK hP 0 rfl rfl 0 (by decide) (hts _ q24) (fun _ h9 => h9) rfl dX1_write_22 ?_
    refine lv_iload_n hx hb dX1_write_25 rfl (lv_at hl 1 rfl) ?_
    refine kw_zld (v := (mw_ob (al P))) hx hb hK hP 1 0 rfl rfl (by omega) (by decide) rfl dX1_write_26 ?_
    refine kw_ifneB (tgt := 33) hx hb dX1_write_27 (by decide) (fun c5 => ?_) (fun c5 => ?_)
    · refine lv_iconst (v := (nI 5)) hx hb dX1_write_33 (by decide) ?_
      refine lv_iload_n hx hb dX1_write_34 rfl (lv_at hl 1 rfl) ?_
      refine kw_mul hx hb dX1_write_35 ?_
      refine lv_iload_n hx hb dX1_write_36 rfl (lv_at hl 2 rfl) ?_
      refine lv_iconst (v := (nI 2)) hx hb dX1_write_37 (by decide) ?_
      refine kw_shr hx hb (by omega) (by decide) dX1_write_38 ?_
      refine W.eq (g2 := F0 m 39 ls [.int (nI (K / 4)), .int (nI (5 * P))]) rfl ?_
      refine kw_add hx hb dX1_write_39 ?_
      refine lv_istore (lv' := [(4, .int (nI (5 * P + K / 4))), (0, .ref h0), (1, .int (nI P)), (2, .int (nI K)), (3, .int vv)]) hx hb dX1_write_40 hl (by decide) rfl (fun ls hl => ?_)
      refine lv_aload_n hx hb dX1_write_42 rfl (lv_at hl 1 rfl) ?_
      refine va_get (D := (dC, dI)) (ci := 0) (v := .ref (a 1)) (C := RX1) (T := TX1) (N := 13) hx hb hts in_X1 hown hK hP 0 rfl rfl 1 (by decide) (hts _ q25) (fun _ h9 => h9) rfl dX1_write_43 ?_
      refine lv_iload hx hb dX1_write_46 (lv_at hl 0 rfl) ?_
      refine kw_bld (v := (mw_oc (sh (5 * P + K / 4)))) hx hb hK hP 2 1 rfl rfl (by omega) (by decide) rfl dX1_write_48 ?_
      refine kw_ifgeO (tgt := 55) hx hb (fun c h => Nat.lt_trans (hU.1 _ c (by omega) h) (by decide)) dX1_write_49 (by decide) (fun ci c6 => ?_) (fun c6 => ?_)
      · have hci := hU.1 _ ci (by omega) c6
        have hF6 := hL.1.2.1
        have h20 := mw_U_us hU hci
        refine lv_aload_n hx hb dX1_write_55 rfl (lv_at hl 1 rfl) ?_
        refine va_get (D := (dC, dI)) (ci := 0) (v := .ref (a 2)) (C := RX1) (T := TX1) (N := 13) hx hb hts in_X1 hown hK hP 0 rfl rfl 2 (by decide) (hts _ q26) (fun _ h9 => h9) rfl dX1_write_56 ?_
        refine lv_iload hx hb dX1_write_59 (lv_at hl 0 rfl) ?_
        refine kw_zld (v := (mw_ob (is (5 * P + K / 4)))) hx hb hK hP 3 2 rfl rfl (by omega) (by decide) rfl dX1_write_61 ?_
        refine kw_ifneB (tgt := 87) hx hb dX1_write_62 (by decide) (fun c7 => ?_) (fun c7 => ?_)
        · refine lv_aload_n hx hb dX1_write_87 rfl (lv_at hl 1 rfl) ?_
          refine lv_aload_n hx hb dX1_write_88 rfl (lv_at hl 1 rfl) ?_
          refine va_get (D := (dC, dI)) (ci := 0) (v := .ref (a 1)) (C := RX1) (T := TX1) (N := 13) hx hb hts in_X1 hown hK hP 0 rfl rfl 1 (by decide) (hts _ q25) (fun _ h9 => h9) rfl dX1_write_89 ?_
          refine lv_iload hx hb dX1_write_92 (lv_at hl 0 rfl) ?_
          refine kw_bld (v := (nI ci)) hx hb hK hP 2 1 rfl rfl (by omega) (by decide) (congrArg mw_oc c6) dX1_write_94 ?_
          have hFc := va_free (wc := (mw_C h0 a d al sh is us fo sw sc F ho fr to di ha)) hD hS hA [0, 1, 2, 3, 4, 5, 6, 7, 8, 9, 10, 11] rfl
          refine va_calli (va_runV (As := [.int (nI ci)]) (rest := []) ⟨hx, hb, hml, hown, hts⟩ (mX1_bringIn l dC dI h0 a d s.heap.size al sh is us fo sw sc F ho fr to di ha vl hL ci hci) (cwV 1 hts (lw_V q107 q109 qs4 q14 q110) rfl rfl rfl (by decide +kernel) ⟨Nat.le_of_ble_eq_true rfl, Nat.le_of_ble_eq_true rfl⟩) ⟨fun a U g mk q => by obtain ⟨q0, q1, qP, qK, qD⟩ := q; exact ⟨q0, q1, qP, va_K.moved (u := U) (U := U.calling g mk a) (Vm.Alike.refl U.vm) qK, qD⟩, va_recv hK hP (ci := 0) (q0 := 0) rfl rfl, fun U hU hW => ⟨rfl, by rw [hU], by rw [hU]; exact hP, va_K.moved hW.alike hK, hD.weaken (fun _ _ _ _ => trivial)⟩⟩ rfl rfl hl.1 rfl (lv_room (Nat.le_of_ble_eq_true rfl)) dX1_write_95 ⟨Nat.le_refl _, Nat.le_refl _⟩) hS (fun q _ h => hFc q h) hFc (fun r u t9 H1 locs ht9 hvm hw hB hz1 hk1 hS => ?_)
          obtain ⟨fo2, sw2, sc2, ho2, fr2, to2, di2, ha2⟩ := u
          dsimp only at hw
          obtain ⟨hP1, hK1, hD1⟩ : mw_BC dC dI _ h0 a d al sh is us fo2 sw2 sc2 F ho2 fr2 to2 di2 ha2 t9 := hB
          rw [ht9] at hP1
          obtain ⟨hP, hD⟩ := va_join (wr := []) (w1 := (mw_C h0 a d al sh is us fo2 sw2 sc2 F ho2 fr2 to2 di2 ha2)) hP hD [0, 1, 2, 3, 4, 5, 6, 7, 8, 9, 10, 11] [] rfl rfl (by decide) (by decide) hk1 hFc hP1 hD1
          generalize H1 = H at hP hS ⊢
          have hP : va_P (dC, dI) vwCl (mw_C h0 a d al sh is us fo2 sw2 sc2 F ho2 fr2 to2 di2 ha2) H := hP
          have hD : va_D A (mw_C h0 a d al sh is us fo2 sw2 sc2 F ho2 fr2 to2 di2 ha2) := hD
          refine W.widen (k := 0) (n := 0) (Nat.le_refl _) (Nat.le_refl _) ?_
          obtain ⟨fi, hfi, rfl, hfo, hLb, hmono⟩ := hw
          refine lv_istore (lv' := [(5, .int (nI fi)), (4, .int (nI (5 * P + K / 4))), (0, .ref h0), (1, .int (nI P)), (2, .int (nI K)), (3, .int vv)]) hx hb dX1_write_98 hl (by decide) rfl (fun ls hl => ?_)
          refine lv_aload_n hx hb dX1_write_100 rfl (lv_at hl 2 rfl) ?_
          refine va_get (D := (dC, dI)) (ci := 0) (v := .ref (a 9)) (C := RX1) (T := TX1) (N := 13) hx hb hts in_X1 hown hK hP 0 rfl rfl 9 (by decide) (hts _ q33) (fun _ h9 => h9) rfl dX1_write_101 ?_
          refine lv_iconst (v := (nI 4)) hx hb dX1_write_104 (by decide) ?_
          refine lv_iload hx hb dX1_write_105 (lv_at hl 0 rfl) ?_
          refine kw_mul hx hb dX1_write_107 ?_
          refine lv_iload_n hx hb dX1_write_108 rfl (lv_at hl 4 rfl) ?_
          refine lv_iconst (v := (nI 3)) hx hb dX1_write_109 (by decide) ?_
          refine kw_and hx hb 2 (by omega) (by decide) dX1_write_110 ?_
          refine W.eq (g2 := F0 m 111 ls [.int (nI (K % 4)), .int (nI (4 * fi)), .ref (a 9)]) rfl ?_
          refine kw_add hx hb dX1_write_111 ?_
          refine lv_iload_n hx hb dX1_write_112 rfl (lv_at hl 5 rfl) ?_
          refine kw_ist (f' := (upd fr2 (4 * fi + K % 4) vv)) hx hb hK hP hD hS 9 8 rfl rfl (by omega) (by decide) rfl dX1_write_113 (fun H locs hP hD hS => ?_)
          have hP : va_P (dC, dI) vwCl (mw_C h0 a d al sh is us fo2 sw2 sc2 F ho2 (upd fr2 (4 * fi + K % 4) vv) to2 di2 ha2) H := hP
          have hD : va_D A (mw_C h0 a d al sh is us fo2 sw2 sc2 F ho2 (upd fr2 (4 * fi + K % 4) vv) to2 di2 ha2) := hD
          refine lv_aload_n hx hb dX1_write_114 rfl (lv_at hl 2 rfl) ?_
          refine va_get (D := (dC, dI)) (ci := 0) (v := .ref (a 11)) (C := RX1) (T := TX1) (N := 13) hx hb hts in_X1 hown hK hP 0 rfl rfl 11 (by decide) (hts _ q35) (fun _ h9 => h9) rfl dX1_write_115 ?_
          refine lv_iload hx hb dX1_write_118 (lv_at hl 0 rfl) ?_
          refine lv_iconst (v := (nI 1)) hx hb dX1_write_120 (by decide) ?_
          refine kw_zst (f' := mw_B (va_up di2 fi true)) hx hb hK hP hD hS 11 10 rfl rfl (by omega) (by decide) (mw_B_st1 _ _) dX1_write_121 (fun H locs hP hD hS => ?_)
          have hP : va_P (dC, dI) vwCl (mw_C h0 a d al sh is us fo2 sw2 sc2 F ho2 (upd fr2 (4 * fi + K % 4) vv) to2 (va_up di2 fi true) ha2) H := hP
          have hD : va_D A (mw_C h0 a d al sh is us fo2 sw2 sc2 F ho2 (upd fr2 (4 * fi + K % 4) vv) to2 (va_up di2 fi true) ha2) := hD
          refine lv_iload_n hx hb dX1_write_122 rfl (lv_at hl 4 rfl) ?_
          rw [hQQ]
          exact W.iret (v := (nI K)) hx hb hr (fun t9 ht9 hW9 => ⟨⟨_, (al, sh, is, us, fo2, sw2, sc2, ho2, upd fr2 (4 * fi + K % 4) vv, to2, va_up di2 fi true, ha2), rfl, mw_I_write (V := (ma, ms, mo, mc)) vv hU hZ hA0 hR hP3 hK4 c5 c6 (Or.inl c7) hLb hfo hmono, by rw [ht9]; exact hP, va_K.moved hW9.alike hK, hD⟩, hS.F ht9⟩) hS.2.2 dX1_write_123
        refine lv_aload_n hx hb dX1_write_65 rfl (lv_at hl 1 rfl) ?_
        refine va_get (D := (dC, dI)) (ci := 0) (v := .ref (a 3)) (C := RX1) (T := TX1) (N := 13) hx hb hts in_X1 hown hK hP 0 rfl rfl 3 (by decide) (hts _ q27) (fun _ h9 => h9) rfl dX1_write_66 ?_
        refine lv_aload_n hx hb dX1_write_69 rfl (lv_at hl 1 rfl) ?_
        refine va_get (D := (dC, dI)) (ci := 0) (v := .ref (a 1)) (C := RX1) (T := TX1) (N := 13) hx hb hts in_X1 hown hK hP 0 rfl rfl 1 (by decide) (hts _ q25) (fun _ h9 => h9) rfl dX1_write_70 ?_
        refine lv_iload hx hb dX1_write_73 (lv_at hl 0 rfl) ?_
        refine kw_bld (v := (nI ci)) hx hb hK hP 2 1 rfl rfl (by omega) (by decide) (congrArg mw_oc c6) dX1_write_75 ?_
        refine kw_bld (v := (nI (us ci))) hx hb hK hP 4 3 rfl rfl (by omega) (by decide) rfl dX1_write_76 ?_
        refine lv_iconst (v := (nI 1)) hx hb dX1_write_77 (by decide) ?_
        refine kw_le (tgt := 87) hx hb (by omega) (by omega) dX1_write_78 (by decide) (fun c8 => ?_) (fun c8 => ?_)
        · refine lv_aload_n hx hb dX1_write_87 rfl (lv_at hl 1 rfl) ?_
          refine lv_aload_n hx hb dX1_write_88 rfl (lv_at hl 1 rfl) ?_
          refine va_get (D := (dC, dI)) (ci := 0) (v := .ref (a 1)) (C := RX1) (T := TX1) (N := 13) hx hb hts in_X1 hown hK hP 0 rfl rfl 1 (by decide) (hts _ q25) (fun _ h9 => h9) rfl dX1_write_89 ?_
          refine lv_iload hx hb dX1_write_92 (lv_at hl 0 rfl) ?_
          refine kw_bld (v := (nI ci)) hx hb hK hP 2 1 rfl rfl (by omega) (by decide) (congrArg mw_oc c6) dX1_write_94 ?_
          have hFc := va_free (wc := (mw_C h0 a d al sh is us fo sw sc F ho fr to di ha)) hD hS hA [0, 1, 2, 3, 4, 5, 6, 7, 8, 9, 10, 11] rfl
          refine va_calli (va_runV (As := [.int (nI ci)]) (rest := []) ⟨hx, hb, hml, hown, hts⟩ (mX1_bringIn l dC dI h0 a d s.heap.size al sh is us fo sw sc F ho fr to di ha vl hL ci hci) (cwV 1 hts (lw_V q107 q109 qs4 q14 q110) rfl rfl rfl (by decide +kernel) ⟨Nat.le_of_ble_eq_true rfl, Nat.le_of_ble_eq_true rfl⟩) ⟨fun a U g mk q => by obtain ⟨q0, q1, qP, qK, qD⟩ := q; exact ⟨q0, q1, qP, va_K.moved (u := U) (U := U.calling g mk a) (Vm.Alike.refl U.vm) qK, qD⟩, va_recv hK hP (ci := 0) (q0 := 0) rfl rfl, fun U hU hW => ⟨rfl, by rw [hU], by rw [hU]; exact hP, va_K.moved hW.alike hK, hD.weaken (fun _ _ _ _ => trivial)⟩⟩ rfl rfl hl.1 rfl (lv_room (Nat.le_of_ble_eq_true rfl)) dX1_write_95 ⟨Nat.le_refl _, Nat.le_refl _⟩) hS (fun q _ h => hFc q h) hFc (fun r u t9 H1 locs ht9 hvm hw hB hz1 hk1 hS => ?_)
          obtain ⟨fo2, sw2, sc2, ho2, fr2, to2, di2, ha2⟩ := u
          dsimp only at hw
          obtain ⟨hP1, hK1, hD1⟩ : mw_BC dC dI _ h0 a d al sh is us fo2 sw2 sc2 F ho2 fr2 to2 di2 ha2 t9 := hB
          rw [ht9] at hP1
          obtain ⟨hP, hD⟩ := va_join (wr := []) (w1 := (mw_C h0 a d al sh is us fo2 sw2 sc2 F ho2 fr2 to2 di2 ha2)) hP hD [0, 1, 2, 3, 4, 5, 6, 7, 8, 9, 10, 11] [] rfl rfl (by decide) (by decide) hk1 hFc hP1 hD1
          generalize H1 = H at hP hS ⊢
          have hP : va_P (dC, dI) vwCl (mw_C h0 a d al sh is us fo2 sw2 sc2 F ho2 fr2 to2 di2 ha2) H := hP
          have hD : va_D A (mw_C h0 a d al sh is us fo2 sw2 sc2 F ho2 fr2 to2 di2 ha2) := hD
          refine W.widen (k := 0) (n := 0) (Nat.le_refl _) (Nat.le_refl _) ?_
          obtain ⟨fi, hfi, rfl, hfo, hLb, hmono⟩ := hw
          refine lv_istore (lv' := [(5, .int (nI fi)), (4, .int (nI (5 * P + K / 4))), (0, .ref h0), (1, .int (nI P)), (2, .int (nI K)), (3, .int vv)]) hx hb dX1_write_98 hl (by decide) rfl (fun ls hl => ?_)
          refine lv_aload_n hx hb dX1_write_100 rfl (lv_at hl 2 rfl) ?_
          refine va_get (D := (dC, dI)) (ci := 0) (v := .ref (a 9)) (C := RX1) (T := TX1) (N := 13) hx hb hts in_X1 hown hK hP 0 rfl rfl 9 (by decide) (hts _ q33) (fun _ h9 => h9) rfl dX1_write_101 ?_
          refine lv_iconst (v := (nI 4)) hx hb dX1_write_104 (by decide) ?_
          refine lv_iload hx hb dX1_write_105 (lv_at hl 0 rfl) ?_
          refine kw_mul hx hb dX1_write_107 ?_
          refine lv_iload_n hx hb dX1_write_108 rfl (lv_at hl 4 rfl) ?_
          refine lv_iconst (v := (nI 3)) hx hb dX1_write_109 (by decide) ?_
          refine kw_and hx hb 2 (by omega) (by decide) dX1_write_110 ?_
          refine W.eq (g2 := F0 m 111 ls [.int (nI (K % 4)), .int (nI (4 * fi)), .ref (a 9)]) rfl ?_
          refine kw_add hx hb dX1_write_111 ?_
          refine lv_iload_n hx hb dX1_write_112 rfl (lv_at hl 5 rfl) ?_
          refine kw_ist (f' := (upd fr2 (4 * fi + K % 4) vv)) hx hb hK hP hD hS 9 8 rfl rfl (by omega) (by decide) rfl dX1_write_113 (fun H locs hP hD hS => ?_)
          have hP : va_P (dC, dI) vwCl (mw_C h0 a d al sh is us fo2 sw2 sc2 F ho2 (upd fr2 (4 * fi + K % 4) vv) to2 di2 ha2) H := hP
          have hD : va_D A (mw_C h0 a d al sh is us fo2 sw2 sc2 F ho2 (upd fr2 (4 * fi + K % 4) vv) to2 di2 ha2) := hD
          refine lv_aload_n hx hb dX1_write_114 rfl (lv_at hl 2 rfl) ?_
          refine va_get (D := (dC, dI)) (ci := 0) (v := .ref (a 11)) (C := RX1) (T := TX1) (N := 13) hx hb hts in_X1 hown hK hP 0 rfl rfl 11 (by decide) (hts _ q35) (fun _ h9 => h9) rfl dX1_write_115 ?_
          refine lv_iload hx hb dX1_write_118 (lv_at hl 0 rfl) ?_
          refine lv_iconst (v := (nI 1)) hx hb dX1_write_120 (by decide) ?_
          refine kw_zst (f' := mw_B (va_up di2 fi true)) hx hb hK hP hD hS 11 10 rfl rfl (by omega) (by decide) (mw_B_st1 _ _) dX1_write_121 (fun H locs hP hD hS => ?_)
          have hP : va_P (dC, dI) vwCl (mw_C h0 a d al sh is us fo2 sw2 sc2 F ho2 (upd fr2 (4 * fi + K % 4) vv) to2 (va_up di2 fi true) ha2) H := hP
          have hD : va_D A (mw_C h0 a d al sh is us fo2 sw2 sc2 F ho2 (upd fr2 (4 * fi + K % 4) vv) to2 (va_up di2 fi true) ha2) := hD
          refine lv_iload_n hx hb dX1_write_122 rfl (lv_at hl 4 rfl) ?_
          rw [hQQ]
          exact W.iret (v := (nI K)) hx hb hr (fun t9 ht9 hW9 => ⟨⟨_, (al, sh, is, us, fo2, sw2, sc2, ho2, upd fr2 (4 * fi + K % 4) vv, to2, va_up di2 fi true, ha2), rfl, mw_I_write (V := (ma, ms, mo, mc)) vv hU hZ hA0 hR hP3 hK4 c5 c6 (Or.inr c8) hLb hfo hmono, by rw [ht9]; exact hP, va_K.moved hW9.alike hK, hD⟩, hS.F ht9⟩) hS.2.2 dX1_write_123
        refine lv_aload_n hx hb dX1_write_81 rfl (lv_at hl 1 rfl) ?_
        refine lv_iload hx hb dX1_write_82 (lv_at hl 0 rfl) ?_
        have hFc := va_free (wc := (mw_C h0 a d al sh is us fo sw sc F ho fr to di ha)) hD hS hA [0, 1, 2, 3, 4, 5, 6, 7, 8, 9, 10, 11] rfl
        refine va_callv (va_runV (As := [.int (nI (5 * P + K / 4))]) (rest := []) ⟨hx, hb, hml, hown, hts⟩ (mX1_part l dC dI h0 a d s.heap.size al sh is us fo sw sc F ho fr to di ha vl hL hU (5 * P + K / 4) ci (by omega) c6 c8) (cwV 1 hts (lw_V q103 q105 qs3 q14 q106) rfl rfl rfl (by decide +kernel) ⟨Nat.le_of_ble_eq_true rfl, Nat.le_of_ble_eq_true rfl⟩) ⟨fun a U g mk q => by obtain ⟨q0, q1, qP, qK, qD⟩ := q; exact ⟨q0, q1, qP, va_K.moved (u := U) (U := U.calling g mk a) (Vm.Alike.refl U.vm) qK, qD⟩, va_recv hK hP (ci := 0) (q0 := 0) rfl rfl, fun U hU hW => ⟨rfl, by rw [hU], by rw [hU]; exact hP, va_K.moved hW.alike hK, hD.weaken (fun _ _ _ _ => trivial)⟩⟩ rfl rfl hl.1 rfl (lv_room (Nat.le_of_ble_eq_true rfl)) dX1_write_84 ⟨Nat.le_refl _, Nat.le_refl _⟩) hS (fun q _ h => hFc q h) hFc (fun u t9 H1 locs ht9 hvm hw hB hz1 hk1 hS => ?_)
        obtain ⟨sh1, us1, fo1, sw1, sc1, ho1, fr1, to1, di1, ha1⟩ := u
        dsimp only at hw
        obtain ⟨hP1, hK1, hD1⟩ : mw_BC dC dI _ h0 a d al sh1 is us1 fo1 sw1 sc1 F ho1 fr1 to1 di1 ha1 t9 := hB
        rw [ht9] at hP1
        obtain ⟨hP, hD⟩ := va_join (wr := []) (w1 := (mw_C h0 a d al sh1 is us1 fo1 sw1 sc1 F ho1 fr1 to1 di1 ha1)) hP hD [0, 1, 2, 3, 4, 5, 6, 7, 8, 9, 10, 11] [] rfl rfl (by decide) (by decide) hk1 hFc hP1 hD1
        generalize H1 = H at hP hS ⊢
        have hP : va_P (dC, dI) vwCl (mw_C h0 a d al sh1 is us1 fo1 sw1 sc1 F ho1 fr1 to1 di1 ha1) H := hP
        have hD : va_D A (mw_C h0 a d al sh1 is us1 fo1 sw1 sc1 F ho1 fr1 to1 di1 ha1) := hD
        refine W.widen (k := 0) (n := 0) (Nat.le_refl _) (Nat.le_refl _) ?_
        obtain ⟨ni, vl1, hni, hs1, hnn, hu1, hU1, hL1, hv1, hv2⟩ := hw
        subst hs1
        have hR1 := mw_R_part (d := ni) hR (by omega) c6 c7 hnn hv1 hv2
        have hZ1 := mw_Z_up (P := P) (K := K / 4) (x := some ni) hZ (by omega) c5
        refine lv_aload_n hx hb dX1_write_87 rfl (lv_at hl 1 rfl) ?_
        refine lv_aload_n hx hb dX1_write_88 rfl (lv_at hl 1 rfl) ?_
        refine va_get (D := (dC, dI)) (ci := 0) (v := .ref (a 1)) (C := RX1) (T := TX1) (N := 13) hx hb hts in_X1 hown hK hP 0 rfl rfl 1 (by decide) (hts _ q25) (fun _ h9 => h9) rfl dX1_write_89 ?_
        refine lv_iload hx hb dX1_write_92 (lv_at hl 0 rfl) ?_
        refine kw_bld (v := (nI ni)) hx hb hK hP 2 1 rfl rfl (by omega) (by decide) (congrArg mw_oc mw_up_s) dX1_write_94 ?_
        have hFc := va_free (wc := (mw_C h0 a d al (va_up sh (5 * P + K / 4) (some ni)) is us1 fo1 sw1 sc1 F ho1 fr1 to1 di1 ha1)) hD hS hA [0, 1, 2, 3, 4, 5, 6, 7, 8, 9, 10, 11] rfl
        refine va_calli (va_runV (As := [.int (nI ni)]) (rest := []) ⟨hx, hb, hml, hown, hts⟩ (mX1_bringIn l dC dI h0 a d H.size al (va_up sh (5 * P + K / 4) (some ni)) is us1 fo1 sw1 sc1 F ho1 fr1 to1 di1 ha1 vl1 hL1 ni hni) (cwV 1 hts (lw_V q107 q109 qs4 q14 q110) rfl rfl rfl (by decide +kernel) ⟨Nat.le_of_ble_eq_true rfl, Nat.le_of_ble_eq_true rfl⟩) ⟨fun a U g mk q => by obtain ⟨q0, q1, qP, qK, qD⟩ := q; exact ⟨q0, q1, qP, va_K.moved (u := U) (U := U.calling g mk a) (Vm.Alike.refl U.vm) qK, qD⟩, va_recv hK hP (ci := 0) (q0 := 0) rfl rfl, fun U hU hW => ⟨rfl, by rw [hU], by rw [hU]; exact hP, va_K.moved hW.alike hK, hD.weaken (fun _ _ _ _ => trivial)⟩⟩ rfl rfl hl.1 rfl (lv_room (Nat.le_of_ble_eq_true rfl)) dX1_write_95 ⟨Nat.le_refl _, Nat.le_refl _⟩) hS (fun q _ h => hFc q h) hFc (fun r u t9 H1 locs ht9 hvm hw hB hz1 hk1 hS => ?_)
        obtain ⟨fo2, sw2, sc2, ho2, fr2, to2, di2, ha2⟩ := u
        dsimp only at hw
        obtain ⟨hP1, hK1, hD1⟩ : mw_BC dC dI _ h0 a d al (va_up sh (5 * P + K / 4) (some ni)) is us1 fo2 sw2 sc2 F ho2 fr2 to2 di2 ha2 t9 := hB
        rw [ht9] at hP1
        obtain ⟨hP, hD⟩ := va_join (wr := []) (w1 := (mw_C h0 a d al (va_up sh (5 * P + K / 4) (some ni)) is us1 fo2 sw2 sc2 F ho2 fr2 to2 di2 ha2)) hP hD [0, 1, 2, 3, 4, 5, 6, 7, 8, 9, 10, 11] [] rfl rfl (by decide) (by decide) hk1 hFc hP1 hD1
        generalize H1 = H at hP hS ⊢
        have hP : va_P (dC, dI) vwCl (mw_C h0 a d al (va_up sh (5 * P + K / 4) (some ni)) is us1 fo2 sw2 sc2 F ho2 fr2 to2 di2 ha2) H := hP
        have hD : va_D A (mw_C h0 a d al (va_up sh (5 * P + K / 4) (some ni)) is us1 fo2 sw2 sc2 F ho2 fr2 to2 di2 ha2) := hD
        refine W.widen (k := 0) (n := 0) (Nat.le_refl _) (Nat.le_refl _) ?_
        obtain ⟨fi, hfi, rfl, hfo, hLb, hmono⟩ := hw
        refine lv_istore (lv' := [(5, .int (nI fi)), (4, .int (nI (5 * P + K / 4))), (0, .ref h0), (1, .int (nI P)), (2, .int (nI K)), (3, .int vv)]) hx hb dX1_write_98 hl (by decide) rfl (fun ls hl => ?_)
        refine lv_aload_n hx hb dX1_write_100 rfl (lv_at hl 2 rfl) ?_
        refine va_get (D := (dC, dI)) (ci := 0) (v := .ref (a 9)) (C := RX1) (T := TX1) (N := 13) hx hb hts in_X1 hown hK hP 0 rfl rfl 9 (by decide) (hts _ q33) (fun _ h9 => h9) rfl dX1_write_101 ?_
        refine lv_iconst (v := (nI 4)) hx hb dX1_write_104 (by decide) ?_
        refine lv_iload hx hb dX1_write_105 (lv_at hl 0 rfl) ?_
        refine kw_mul hx hb dX1_write_107 ?_
        refine lv_iload_n hx hb dX1_write_108 rfl (lv_at hl 4 rfl) ?_
        refine lv_iconst (v := (nI 3)) hx hb dX1_write_109 (by decide) ?_
        refine kw_and hx hb 2 (by omega) (by decide) dX1_write_110 ?_
        refine W.eq (g2 := F0 m 111 ls [.int (nI (K % 4)), .int (nI (4 * fi)), .ref (a 9)]) rfl ?_
        refine kw_add hx hb dX1_write_111 ?_
        refine lv_iload_n hx hb dX1_write_112 rfl (lv_at hl 5 rfl) ?_
        refine kw_ist (f' := (upd fr2 (4 * fi + K % 4) vv)) hx hb hK hP hD hS 9 8 rfl rfl (by omega) (by decide) rfl dX1_write_113 (fun H locs hP hD hS => ?_)
        have hP : va_P (dC, dI) vwCl (mw_C h0 a d al (va_up sh (5 * P + K / 4) (some ni)) is us1 fo2 sw2 sc2 F ho2 (upd fr2 (4 * fi + K % 4) vv) to2 di2 ha2) H := hP
        have hD : va_D A (mw_C h0 a d al (va_up sh (5 * P + K / 4) (some ni)) is us1 fo2 sw2 sc2 F ho2 (upd fr2 (4 * fi + K % 4) vv) to2 di2 ha2) := hD
        refine lv_aload_n hx hb dX1_write_114 rfl (lv_at hl 2 rfl) ?_
        refine va_get (D := (dC, dI)) (ci := 0) (v := .ref (a 11)) (C := RX1) (T := TX1) (N := 13) hx hb hts in_X1 hown hK hP 0 rfl rfl 11 (by decide) (hts _ q35) (fun _ h9 => h9) rfl dX1_write_115 ?_
        refine lv_iload hx hb dX1_write_118 (lv_at hl 0 rfl) ?_
        refine lv_iconst (v := (nI 1)) hx hb dX1_write_120 (by decide) ?_
        refine kw_zst (f' := mw_B (va_up di2 fi true)) hx hb hK hP hD hS 11 10 rfl rfl (by omega) (by decide) (mw_B_st1 _ _) dX1_write_121 (fun H locs hP hD hS => ?_)
        have hP : va_P (dC, dI) vwCl (mw_C h0 a d al (va_up sh (5 * P + K / 4) (some ni)) is us1 fo2 sw2 sc2 F ho2 (upd fr2 (4 * fi + K % 4) vv) to2 (va_up di2 fi true) ha2) H := hP
        have hD : va_D A (mw_C h0 a d al (va_up sh (5 * P + K / 4) (some ni)) is us1 fo2 sw2 sc2 F ho2 (upd fr2 (4 * fi + K % 4) vv) to2 (va_up di2 fi true) ha2) := hD
        refine lv_iload_n hx hb dX1_write_122 rfl (lv_at hl 4 rfl) ?_
        rw [hQQ]
        exact W.iret (v := (nI K)) hx hb hr (fun t9 ht9 hW9 => ⟨⟨_, (al, va_up sh (5 * P + K / 4) (some ni), is, us1, fo2, sw2, sc2, ho2, upd fr2 (4 * fi + K % 4) vv, to2, va_up di2 fi true, ha2), rfl, mw_I_write (V := (ma, ms, mo, mc)) vv hU1 hZ1 hA0 hR1 hP3 hK4 c5 mw_up_s (Or.inr (Nat.le_of_eq hu1)) hLb hfo hmono, by rw [ht9]; exact hP, va_K.moved hW9.alike hK, hD⟩, hS.F ht9⟩) hS.2.2 dX1_write_123
      refine lv_bipush (v := (-3)) hx hb dX1_write_52 (by decide) ?_
      rw [hQQ]
      exact W.iret (v := (-3)) hx hb hr (fun t9 ht9 hW9 => ⟨⟨_, (al, sh, is, us, fo, sw, sc, ho, fr, to, di, ha), rfl, ⟨by rw [mw_write_no (V := (ma, ms, mo, mc)) hA0 hR hP3 hK4 c5 c6], by rw [mw_write_no (V := (ma, ms, mo, mc)) hA0 hR hP3 hK4 c5 c6]; exact hI⟩, by rw [ht9]; exact hP, va_K.moved hW9.alike hK, hD⟩, hS.F ht9⟩) hS.2.2 dX1_write_54
    refine lv_bipush (v := (-2)) hx hb dX1_write_30 (by decide) ?_
    rw [hQQ]
    exact W.iret (v := (-2)) hx hb hr (fun t9 ht9 hW9 => ⟨⟨_, (al, sh, is, us, fo, sw, sc, ho, fr, to, di, ha), rfl, ⟨by rw [mw_write_dead (V := (ma, ms, mo, mc)) hA0 hP3 hK4 c5], by rw [mw_write_dead (V := (ma, ms, mo, mc)) hA0 hP3 hK4 c5]; exact hI⟩, by rw [ht9]; exact hP, va_K.moved hW9.alike hK, hD⟩, hS.F ht9⟩) hS.2.2 dX1_write_32
  refine lv_iconst (v := (-1)) hx hb dX1_write_19 (by decide) ?_
  rw [hQQ]
  exact W.iret (v := (-1)) hx hb hr (fun t9 ht9 hW9 => ⟨⟨_, (al, sh, is, us, fo, sw, sc, ho, fr, to, di, ha), rfl, ⟨by rw [mw_write_bad (Or.inr (Or.inr c4))], by rw [mw_write_bad (Or.inr (Or.inr c4))]; exact hI⟩, by rw [ht9]; exact hP, va_K.moved hW9.alike hK, hD⟩, hS.F ht9⟩) hS.2.2 dX1_write_20
set_option maxHeartbeats 4000000 in
set_option maxRecDepth 100000 in
/-- CowMemory.read -/
theorem mX1_read (l : Launch) (dC : Nat → ClassId) (dI : Nat → Nat → Nat) (h0 : Nat) (a : Nat → Nat) (d : Nat → ClassId) (sz : Nat) (al : Nat → Bool) (sh : Nat → Option Nat) (is : Nat → Bool) (us : Nat → Nat) (fo : Nat → Option Nat) (sw : Nat → Bool) (sc : Nat → Int32) (F : Nat) (ho : Nat → Option Nat) (fr : Nat → Int32) (to : Nat → Bool) (di : Nat → Bool) (ha : Nat) (ma : Nat → Bool) (ms : Nat → Option Nat) (mo : Nat → Bool) (mc : Nat → Int32) (hI : mw_I al sh is us fo sw sc F ho fr di ha (ma, ms, mo, mc)) (pp kk : Int32) : Met l yX1_read (ws_ yX1_read cX1_read 5 (some .int)) ({ frames := 3, cells := 0, slots := 0, locals := 67 } : Room) (va_Pc [.ref h0, .int pp, .int kk] (fun U => U.heap.size = sz ∧ va_P (dC, dI) vwCl (mw_C h0 a d al sh is us fo sw sc F ho fr to di ha) U.heap ∧ va_K (dC, dI) vwCl (mw_CK d) U ∧ va_D (fun _ => True) (mw_C h0 a d al sh is us fo sw sc F ho fr to di ha))) (va_Qi (fun (r : Int32) (u : (Nat → Bool) × (Nat → Option Nat) × (Nat → Bool) × (Nat → Nat) × (Nat → Option Nat) × (Nat → Bool) × (Nat → Int32) × (Nat → Option Nat) × (Nat → Int32) × (Nat → Bool) × (Nat → Bool) × (Nat)) => r = mw_read (ma, ms, mo, mc) pp kk ∧ mw_I u.1 u.2.1 u.2.2.1 u.2.2.2.1 u.2.2.2.2.1 u.2.2.2.2.2.1 u.2.2.2.2.2.2.1 F u.2.2.2.2.2.2.2.1 u.2.2.2.2.2.2.2.2.1 u.2.2.2.2.2.2.2.2.2.2.1 u.2.2.2.2.2.2.2.2.2.2.2 (ma, ms, mo, mc)) (fun (u : (Nat → Bool) × (Nat → Option Nat) × (Nat → Bool) × (Nat → Nat) × (Nat → Option Nat) × (Nat → Bool) × (Nat → Int32) × (Nat → Option Nat) × (Nat → Int32) × (Nat → Bool) × (Nat → Bool) × (Nat)) (t : State) => mw_BC dC dI (va_A (mw_C h0 a d al sh is us fo sw sc F ho fr to di ha) sz) h0 a d u.1 u.2.1 u.2.2.1 u.2.2.2.1 u.2.2.2.2.1 u.2.2.2.2.2.1 u.2.2.2.2.2.2.1 F u.2.2.2.2.2.2.2.1 u.2.2.2.2.2.2.2.2.1 u.2.2.2.2.2.2.2.2.2.1 u.2.2.2.2.2.2.2.2.2.2.1 u.2.2.2.2.2.2.2.2.2.2.2 t) (va_A (mw_C h0 a d al sh is us fo sw sc F ho fr to di ha) sz)) 0 0 (va_A (mw_C h0 a d al sh is us fo sw sc F ho fr to di ha) sz) := by
  refine Met.ofW (cc := cX1_read) (maxL := 5) (ret := (some .int)) (by decide) rfl ?_
  intro p e s m args below meth c s₁ B hml hv
  obtain ⟨rfl, hsz, hP, hK, hD0⟩ := hv
  have hx := B.exec
  have hb := B.bytes
  have hr := B.returns
  have hts := atoms_spec (ws := ws_ yX1_read cX1_read 5 (some .int)) B.pre
  have hts : ∀ w ∈ lw_all, w.before _ s = true := fun w h => hts w (List.mem_cons_of_mem _ h)
  have hown : s.vm.findClass RX1 = some m.cls := findClass_of_methodNamed B.named
  have hlocks := B.notSynchronized
  subst hsz
  have hD := hD0.self (sz := s.heap.size)
  generalize hAe : va_A (mw_C h0 a d al sh is us fo sw sc F ho fr to di ha) s.heap.size = A at hD ⊢
  have hA : ∀ q : Nat, s.heap.size ≤ q → A q := fun q h => by rw [← hAe]; exact Or.inr h
  have hS : va_S A s.heap s.heap [] := va_S.rf
  have hl := lv_entry ([.ref h0, .int pp, .int kk]) (n := 5) (Nat.le_of_ble_eq_true rfl)
  rw [lg_entry_eq]
  generalize (lg_sl ([.ref h0, .int pp, .int kk]) ++ List.replicate (5 - (lg_sl ([.ref h0, .int pp, .int kk])).length) Slot.unset).toArray = ls at hl ⊢
  have hl : lv_has ls 5 [(0, .ref h0), (1, .int pp), (2, .int kk)] := hl
  obtain ⟨QQ, hQQ⟩ : ∃ QQ, QQ = MQ below (va_Qi (fun (r : Int32) (u : (Nat → Bool) × (Nat → Option Nat) × (Nat → Bool) × (Nat → Nat) × (Nat → Option Nat) × (Nat → Bool) × (Nat → Int32) × (Nat → Option Nat) × (Nat → Int32) × (Nat → Bool) × (Nat → Bool) × (Nat)) => r = mw_read (ma, ms, mo, mc) pp kk ∧ mw_I u.1 u.2.1 u.2.2.1 u.2.2.2.1 u.2.2.2.2.1 u.2.2.2.2.2.1 u.2.2.2.2.2.2.1 F u.2.2.2.2.2.2.2.1 u.2.2.2.2.2.2.2.2.1 u.2.2.2.2.2.2.2.2.2.2.1 u.2.2.2.2.2.2.2.2.2.2.2 (ma, ms, mo, mc)) (fun (u : (Nat → Bool) × (Nat → Option Nat) × (Nat → Bool) × (Nat → Nat) × (Nat → Option Nat) × (Nat → Bool) × (Nat → Int32) × (Nat → Option Nat) × (Nat → Int32) × (Nat → Bool) × (Nat → Bool) × (Nat)) (t : State) => mw_BC dC dI A h0 a d u.1 u.2.1 u.2.2.1 u.2.2.2.1 u.2.2.2.2.1 u.2.2.2.2.2.1 u.2.2.2.2.2.2.1 F u.2.2.2.2.2.2.2.1 u.2.2.2.2.2.2.2.2.1 u.2.2.2.2.2.2.2.2.2.1 u.2.2.2.2.2.2.2.2.2.2.1 u.2.2.2.2.2.2.2.2.2.2.2 t) A) ([.ref h0, .int pp, .int kk] : List Value).toArray s 0 0 A := ⟨_, rfl⟩
  rw [← hQQ]
  obtain ⟨hU, hZ, hA0, vl, hL, hR⟩ := id hI
  have hA0 : ∀ p, p < 4 → al p = ma p := hA0
  have hR : mw_R sh is vl ms mo mc := hR
  refine lv_iload_n hx hb dX1_read_0 rfl (lv_at hl 1 rfl) ?_
  refine lv_if_lt (tgt := 28) hx hb dX1_read_1 (by decide) (fun c1 => ?_) (fun c1 => ?_)
  · refine lv_iconst (v := (nI 0)) hx hb dX1_read_28 (by decide) ?_
    rw [hQQ]
    exact W.iret (v := (nI 0)) hx hb hr (fun t9 ht9 hW9 => ⟨⟨_, (al, sh, is, us, fo, sw, sc, ho, fr, to, di, ha), rfl, ⟨(mw_read_bad (Or.inl (Or.inl c1))).symm, hI⟩, by rw [ht9]; exact hP, va_K.moved hW9.alike hK, hD⟩, hS.F ht9⟩) hS.2.2 dX1_read_29
  refine lv_iload_n hx hb dX1_read_4 rfl (lv_at hl 1 rfl) ?_
  refine lv_iconst (v := (nI 3)) hx hb dX1_read_5 (by decide) ?_
  refine lv_icmp_gt (tgt := 28) hx hb dX1_read_6 (by decide) (fun c2 => ?_) (fun c2 => ?_)
  · refine lv_iconst (v := (nI 0)) hx hb dX1_read_28 (by decide) ?_
    rw [hQQ]
    exact W.iret (v := (nI 0)) hx hb hr (fun t9 ht9 hW9 => ⟨⟨_, (al, sh, is, us, fo, sw, sc, ho, fr, to, di, ha), rfl, ⟨(mw_read_bad (Or.inl (Or.inr c2))).symm, hI⟩, by rw [ht9]; exact hP, va_K.moved hW9.alike hK, hD⟩, hS.F ht9⟩) hS.2.2 dX1_read_29
  refine lv_iload_n hx hb dX1_read_9 rfl (lv_at hl 2 rfl) ?_
  refine lv_if_lt (tgt := 28) hx hb dX1_read_10 (by decide) (fun c3 => ?_) (fun c3 => ?_)
  · refine lv_iconst (v := (nI 0)) hx hb dX1_read_28 (by decide) ?_
    rw [hQQ]
    exact W.iret (v := (nI 0)) hx hb hr (fun t9 ht9 hW9 => ⟨⟨_, (al, sh, is, us, fo, sw, sc, ho, fr, to, di, ha), rfl, ⟨(mw_read_bad (Or.inr (Or.inl c3))).symm, hI⟩, by rw [ht9]; exact hP, va_K.moved hW9.alike hK, hD⟩, hS.F ht9⟩) hS.2.2 dX1_read_29
  refine lv_iload_n hx hb dX1_read_13 rfl (lv_at hl 2 rfl) ?_
  refine lv_bipush (v := (nI 19)) hx hb dX1_read_14 (by decide) ?_
  refine lv_icmp_gt (tgt := 28) hx hb dX1_read_16 (by decide) (fun c4 => ?_) (fun c4 => ?_)
  · refine lv_iconst (v := (nI 0)) hx hb dX1_read_28 (by decide) ?_
    rw [hQQ]
    exact W.iret (v := (nI 0)) hx hb hr (fun t9 ht9 hW9 => ⟨⟨_, (al, sh, is, us, fo, sw, sc, ho, fr, to, di, ha), rfl, ⟨(mw_read_bad (Or.inr (Or.inr c4))).symm, hI⟩, by rw [ht9]; exact hP, va_K.moved hW9.alike hK, hD⟩, hS.F ht9⟩) hS.2.2 dX1_read_29
  obtain ⟨P, hP3, rfl⟩ := mw_rng (n := 3) (by decide) c1 c2
  obtain ⟨K, hK4, rfl⟩ := mw_rng (n := 19) (by decide) c3 c4
  refine lv_aload_n hx hb dX1_read_19 rfl (lv_at hl 0 rfl) ?_
  refine va_get (D := (dC, dI)) (ci := 0) (v := .ref (a 0)) (C := RX1) (T := TX1) (N := 13) hx hb hts in_X1 hown hK hP 0 rfl rfl 0 (by decide) (hts _ q24) (fun _ h9 => h9) rfl dX1_read_20 ?_
  refine lv_iload_n hx hb dX1_read_23 rfl (lv_at hl 1 rfl) ?_
  refine kw_zld (v := (mw_ob (al P))) hx hb hK hP 1 0 rfl rfl (by omega) (by decide) rfl dX1_read_24 ?_
  refine kw_ifneB (tgt := 30) hx hb dX1_read_25 (by decide) (fun c5 => ?_) (fun c5 => ?_)
  · refine lv_iconst (v := (nI 5)) hx hb dX1_read_30 (by decide) ?_
    refine lv_iload_n hx hb dX1_read_31 rfl (lv_at hl 1 rfl) ?_
    refine kw_mul hx hb dX1_read_32 ?_
    refine lv_iload_n hx hb dX1_read_33 rfl (lv_at hl 2 rfl) ?_
    refine lv_iconst (v := (nI 2)) hx hb dX1_read_34 (by decide) ?_
    refine kw_shr hx hb (by omega) (by decide) dX1_read_35 ?_
    refine W.eq (g2 := F0 m 36 ls [.int (nI (K / 4)), .int (nI (5 * P))]) rfl ?_
    refine kw_add hx hb dX1_read_36 ?_
    refine lv_istore_n (lv' := [(3, .int (nI (5 * P + K / 4))), (0, .ref h0), (1, .int (nI P)), (2, .int (nI K))]) hx hb dX1_read_37 rfl hl (by decide) rfl (fun ls hl => ?_)
    refine lv_aload_n hx hb dX1_read_38 rfl (lv_at hl 1 rfl) ?_
    refine va_get (D := (dC, dI)) (ci := 0) (v := .ref (a 1)) (C := RX1) (T := TX1) (N := 13) hx hb hts in_X1 hown hK hP 0 rfl rfl 1 (by decide) (hts _ q25) (fun _ h9 => h9) rfl dX1_read_39 ?_
    refine lv_iload_n hx hb dX1_read_42 rfl (lv_at hl 0 rfl) ?_
    refine kw_bld (v := (mw_oc (sh (5 * P + K / 4)))) hx hb hK hP 2 1 rfl rfl (by omega) (by decide) rfl dX1_read_43 ?_
    refine kw_ifgeO (tgt := 49) hx hb (fun c h => Nat.lt_trans (hU.1 _ c (by omega) h) (by decide)) dX1_read_44 (by decide) (fun ci c6 => ?_) (fun c6 => ?_)
    · have hci := hU.1 _ ci (by omega) c6
      have hF6 := hL.1.2.1
      refine lv_aload_n hx hb dX1_read_49 rfl (lv_at hl 1 rfl) ?_
      refine lv_aload_n hx hb dX1_read_50 rfl (lv_at hl 1 rfl) ?_
      refine va_get (D := (dC, dI)) (ci := 0) (v := .ref (a 1)) (C := RX1) (T := TX1) (N := 13) hx hb hts in_X1 hown hK hP 0 rfl rfl 1 (by decide) (hts _ q25) (fun _ h9 => h9) rfl dX1_read_51 ?_
      refine lv_iload_n hx hb dX1_read_54 rfl (lv_at hl 0 rfl) ?_
      refine kw_bld (v := (nI ci)) hx hb hK hP 2 1 rfl rfl (by omega) (by decide) (congrArg mw_oc c6) dX1_read_55 ?_
      have hFc := va_free (wc := (mw_C h0 a d al sh is us fo sw sc F ho fr to di ha)) hD hS hA [0, 1, 2, 3, 4, 5, 6, 7, 8, 9, 10, 11] rfl
      refine va_calli (va_runV (As := [.int (nI ci)]) (rest := []) ⟨hx, hb, hml, hown, hts⟩ (mX1_bringIn l dC dI h0 a d s.heap.size al sh is us fo sw sc F ho fr to di ha vl hL ci hci) (cwV 1 hts (lw_V q107 q109 qs4 q14 q110) rfl rfl rfl (by decide +kernel) ⟨Nat.le_of_ble_eq_true rfl, Nat.le_of_ble_eq_true rfl⟩) ⟨fun a U g mk q => by obtain ⟨q0, q1, qP, qK, qD⟩ := q; exact ⟨q0, q1, qP, va_K.moved (u := U) (U := U.calling g mk a) (Vm.Alike.refl U.vm) qK, qD⟩, va_recv hK hP (ci := 0) (q0 := 0) rfl rfl, fun U hU hW => ⟨rfl, by rw [hU], by rw [hU]; exact hP, va_K.moved hW.alike hK, hD.weaken (fun _ _ _ _ => trivial)⟩⟩ rfl rfl hl.1 rfl (lv_room (Nat.le_of_ble_eq_true rfl)) dX1_read_56 ⟨Nat.le_refl _, Nat.le_refl _⟩) hS (fun q _ h => hFc q h) hFc (fun r u t9 H1 locs ht9 hvm hw hB hz1 hk1 hS => ?_)
      obtain ⟨fo1, sw1, sc1, ho1, fr1, to1, di1, ha1⟩ := u
      dsimp only at hw
      obtain ⟨hP1, hK1, hD1⟩ : mw_BC dC dI _ h0 a d al sh is us fo1 sw1 sc1 F ho1 fr1 to1 di1 ha1 t9 := hB
      rw [ht9] at hP1
      obtain ⟨hP, hD⟩ := va_join (wr := []) (w1 := (mw_C h0 a d al sh is us fo1 sw1 sc1 F ho1 fr1 to1 di1 ha1)) hP hD [0, 1, 2, 3, 4, 5, 6, 7, 8, 9, 10, 11] [] rfl rfl (by decide) (by decide) hk1 hFc hP1 hD1
      generalize H1 = H at hP hS ⊢
      have hP : va_P (dC, dI) vwCl (mw_C h0 a d al sh is us fo1 sw1 sc1 F ho1 fr1 to1 di1 ha1) H := hP
      have hD : va_D A (mw_C h0 a d al sh is us fo1 sw1 sc1 F ho1 fr1 to1 di1 ha1) := hD
      refine W.widen (k := 0) (n := 0) (Nat.le_refl _) (Nat.le_refl _) ?_
      obtain ⟨fi, hfi, rfl, hfo, hLb, hmono⟩ := hw
      refine lv_istore (lv' := [(4, .int (nI fi)), (3, .int (nI (5 * P + K / 4))), (0, .ref h0), (1, .int (nI P)), (2, .int (nI K))]) hx hb dX1_read_59 hl (by decide) rfl (fun ls hl => ?_)
      refine lv_aload_n hx hb dX1_read_61 rfl (lv_at hl 2 rfl) ?_
      refine va_get (D := (dC, dI)) (ci := 0) (v := .ref (a 9)) (C := RX1) (T := TX1) (N := 13) hx hb hts in_X1 hown hK hP 0 rfl rfl 9 (by decide) (hts _ q33) (fun _ h9 => h9) rfl dX1_read_62 ?_
      refine lv_iconst (v := (nI 4)) hx hb dX1_read_65 (by decide) ?_
      refine lv_iload hx hb dX1_read_66 (lv_at hl 0 rfl) ?_
      refine kw_mul hx hb dX1_read_68 ?_
      refine lv_iload_n hx hb dX1_read_69 rfl (lv_at hl 4 rfl) ?_
      refine lv_iconst (v := (nI 3)) hx hb dX1_read_70 (by decide) ?_
      refine kw_and hx hb 2 (by omega) (by decide) dX1_read_71 ?_
      refine W.eq (g2 := F0 m 72 ls [.int (nI (K % 4)), .int (nI (4 * fi)), .ref (a 9)]) rfl ?_
      refine kw_add hx hb dX1_read_72 ?_
      refine kw_ild (v := (fr1 (4 * fi + K % 4))) hx hb hK hP 9 8 rfl rfl (by omega) (by decide) rfl dX1_read_73 ?_
      rw [hQQ]
      exact W.iret (v := (fr1 (4 * fi + K % 4))) hx hb hr (fun t9 ht9 hW9 => ⟨⟨_, (al, sh, is, us, fo1, sw1, sc1, ho1, fr1, to1, di1, ha1), rfl, mw_I_read (V := (ma, ms, mo, mc)) hU hZ hA0 hR hP3 hK4 c6 hLb hfo hmono, by rw [ht9]; exact hP, va_K.moved hW9.alike hK, hD⟩, hS.F ht9⟩) hS.2.2 dX1_read_74
    refine lv_iconst (v := (nI 0)) hx hb dX1_read_47 (by decide) ?_
    rw [hQQ]
    exact W.iret (v := (nI 0)) hx hb hr (fun t9 ht9 hW9 => ⟨⟨_, (al, sh, is, us, fo, sw, sc, ho, fr, to, di, ha), rfl, ⟨(mw_read_no (V := (ma, ms, mo, mc)) hR hP3 hK4 c6).symm, hI⟩, by rw [ht9]; exact hP, va_K.moved hW9.alike hK, hD⟩, hS.F ht9⟩) hS.2.2 dX1_read_48
  refine lv_iconst (v := (nI 0)) hx hb dX1_read_28 (by decide) ?_
  rw [hQQ]
  exact W.iret (v := (nI 0)) hx hb hr (fun t9 ht9 hW9 => ⟨⟨_, (al, sh, is, us, fo, sw, sc, ho, fr, to, di, ha), rfl, ⟨(mw_read_no (V := (ma, ms, mo, mc)) hR hP3 hK4 (hZ P (K / 4) (by omega) (by omega) c5)).symm, hI⟩, by rw [ht9]; exact hP, va_K.moved hW9.alike hK, hD⟩, hS.F ht9⟩) hS.2.2 dX1_read_29
end
section
/-! CowMemory: total, sheets, constructor -/
set_option maxHeartbeats 4000000 in
set_option maxRecDepth 100000 in
/-- CowMemory.total -/
theorem mX1_total (l : Launch) (dC : Nat → ClassId) (dI : Nat → Nat → Nat) (h0 : Nat) (a : Nat → Nat) (d : Nat → ClassId) (sz : Nat) (al : Nat → Bool) (sh : Nat → Option Nat) (is : Nat → Bool) (us : Nat → Nat) (fo : Nat → Option Nat) (sw : Nat → Bool) (sc : Nat → Int32) (F : Nat) (ho : Nat → Option Nat) (fr : Nat → Int32) (to : Nat → Bool) (di : Nat → Bool) (ha : Nat) (ma : Nat → Bool) (ms : Nat → Option Nat) (mo : Nat → Bool) (mc : Nat → Int32) (hI : mw_I al sh is us fo sw sc F ho fr di ha (ma, ms, mo, mc))  : Met l yX1_total (ws_ yX1_total cX1_total 7 (some .long)) ({ frames := 1, cells := 0, slots := 0, locals := 24 } : Room) (va_Pc [.ref h0] (fun U => U.heap.size = sz ∧ va_P (dC, dI) vwCl (mw_C h0 a d al sh is us fo sw sc F ho fr to di ha) U.heap ∧ va_K (dC, dI) vwCl (mw_CK d) U ∧ va_D (fun _ => True) (mw_C h0 a d al sh is us fo sw sc F ho fr to di ha))) (va_Ql (fun (r : Int64) (_ : Unit) => r = mw_tot (ma, ms, mo, mc)) (fun (u : Unit) (t : State) => mw_BC dC dI (va_A (mw_C h0 a d al sh is us fo sw sc F ho fr to di ha) sz) h0 a d al sh is us fo sw sc F ho fr to di ha t) (va_A (mw_C h0 a d al sh is us fo sw sc F ho fr to di ha) sz)) 0 0 (va_A (mw_C h0 a d al sh is us fo sw sc F ho fr to di ha) sz) := by
  refine Met.ofW (cc := cX1_total) (maxL := 7) (ret := (some .long)) (by decide) rfl ?_
  intro p e s m args below meth c s₁ B hml hv
  obtain ⟨rfl, hsz, hP, hK, hD0⟩ := hv
  have hx := B.exec
  have hb := B.bytes
  have hr := B.returns
  have hts := atoms_spec (ws := ws_ yX1_total cX1_total 7 (some .long)) B.pre
  have hts : ∀ w ∈ lw_all, w.before _ s = true := fun w h => hts w (List.mem_cons_of_mem _ h)
  have hown : s.vm.findClass RX1 = some m.cls := findClass_of_methodNamed B.named
  have hlocks := B.notSynchronized
  subst hsz
  have hD := hD0.self (sz := s.heap.size)
  generalize hAe : va_A (mw_C h0 a d al sh is us fo sw sc F ho fr to di ha) s.heap.size = A at hD ⊢
  have hA : ∀ q : Nat, s.heap.size ≤ q → A q := fun q h => by rw [← hAe]; exact Or.inr h
  have hS : va_S A s.heap s.heap [] := va_S.rf
  have hl := lv_entry ([.ref h0]) (n := 7) (Nat.le_of_ble_eq_true rfl)
  rw [lg_entry_eq]
  generalize (lg_sl ([.ref h0]) ++ List.replicate (7 - (lg_sl ([.ref h0])).length) Slot.unset).toArray = ls at hl ⊢
  have hl : lv_has ls 7 [(0, .ref h0)] := hl
  obtain ⟨QQ, hQQ⟩ : ∃ QQ, QQ = MQ below (va_Ql (fun (r : Int64) (_ : Unit) => r = mw_tot (ma, ms, mo, mc)) (fun (u : Unit) (t : State) => mw_BC dC dI A h0 a d al sh is us fo sw sc F ho fr to di ha t) A) ([.ref h0] : List Value).toArray s 0 0 A := ⟨_, rfl⟩
  rw [← hQQ]
  obtain ⟨hU, hZ, hA0, vl, hL, hR⟩ := id hI
  have hA0 : ∀ p, p < 4 → al p = ma p := hA0
  have hR : mw_R sh is vl ms mo mc := hR
  refine lv_lconst (v := 0) hx hb dX1_total_0 (by decide) ?_
  refine lv_lstore_n (lv' := [(1, .long 0), (0, .ref h0)]) hx hb dX1_total_1 rfl hl (by decide) rfl (fun ls hl => ?_)
  refine lv_iconst (v := (nI 0)) hx hb dX1_total_2 (by decide) ?_
  refine lv_istore_n (lv' := [(3, .int (nI 0)), (1, .long 0), (0, .ref h0)]) hx hb dX1_total_3 rfl hl (by decide) rfl (fun ls hl => ?_)
  refine lv_iconst (v := (nI 0)) hx hb dX1_total_4 (by decide) ?_
  refine lv_istore (lv' := [(4, .int (nI 0)), (3, .int (nI 0)), (1, .long 0), (0, .ref h0)]) hx hb dX1_total_5 hl (by decide) rfl (fun ls hl => ?_)
  have lp : ∀ (n : Nat) (j : Nat) (sm : Int64) (sn : Int32), (j ≤ 20) → (sm = mw_cs sh is vl j) → (∀ c, c < 20 → bt sn c = mw_in sh j c) → (20 - j) < n → ∀ (H : Heap) (locs : List Loc), va_P (dC, dI) vwCl (mw_C h0 a d al sh is us fo sw sc F ho fr to di ha) H → va_D A (mw_C h0 a d al sh is us fo sw sc F ho fr to di ha) → va_S A s.heap H locs → ∀ (ls : Array Slot), lv_has ls 7 [(4, .int (nI j)), (3, .int sn), (1, .long sm), (0, .ref h0)] → W p l e ({ frames := 1, cells := 0, slots := 0, locals := 24 } : Room) s m ([.ref h0] : List Value).toArray below meth c H locs 0 0 QQ (F0 m 7 ls []) := by
    intro n
    induction n with
    | zero =>
      intro j sm sn hj hc hs hfuel
      exact absurd hfuel (by omega)
    | succ n ih =>
      intro j sm sn hj hc hs hfuel H locs hP hD hS ls hl
      refine lv_iload hx hb dX1_total_7 (lv_at hl 0 rfl) ?_
      refine lv_bipush (v := (nI 20)) hx hb dX1_total_9 (by decide) ?_
      refine kw_ge (tgt := 89) hx hb (by omega) (by omega) dX1_total_11 (by decide) (fun c5 => ?_) (fun c5 => ?_)
      · obtain rfl : j = 20 := by omega
        refine lv_lload_n hx hb dX1_total_89 rfl (lv_at hl 2 rfl) ?_
        rw [hQQ]
        exact W.lret (v := sm) hx hb hr (fun t9 ht9 hW9 => ⟨⟨_, (), rfl, by rw [hc, mw_total_eq hR]; rfl, by rw [ht9]; exact hP, va_K.moved hW9.alike hK, hD⟩, hS.F ht9⟩) hS.2.2 dX1_total_90
      refine lv_aload_n hx hb dX1_total_14 rfl (lv_at hl 3 rfl) ?_
      refine va_get (D := (dC, dI)) (ci := 0) (v := .ref (a 1)) (C := RX1) (T := TX1) (N := 13) hx hb hts in_X1 hown hK hP 0 rfl rfl 1 (by decide) (hts _ q25) (fun _ h9 => h9) rfl dX1_total_15 ?_
      refine lv_iload hx hb dX1_total_18 (lv_at hl 0 rfl) ?_
      refine kw_bld (v := (mw_oc (sh j))) hx hb hK hP 2 1 rfl rfl (by omega) (by decide) rfl dX1_total_20 ?_
      refine kw_ifgeO (tgt := 27) hx hb (fun c h => Nat.lt_trans (hU.1 _ c (by omega) h) (by decide)) dX1_total_21 (by decide) (fun ci c6 => ?_) (fun c6 => ?_)
      · have hci := hU.1 _ ci (by omega) c6
        refine lv_aload_n hx hb dX1_total_27 rfl (lv_at hl 3 rfl) ?_
        refine va_get (D := (dC, dI)) (ci := 0) (v := .ref (a 1)) (C := RX1) (T := TX1) (N := 13) hx hb hts in_X1 hown hK hP 0 rfl rfl 1 (by decide) (hts _ q25) (fun _ h9 => h9) rfl dX1_total_28 ?_
        refine lv_iload hx hb dX1_total_31 (lv_at hl 0 rfl) ?_
        refine kw_bld (v := (nI ci)) hx hb hK hP 2 1 rfl rfl (by omega) (by decide) (congrArg mw_oc c6) dX1_total_33 ?_
        refine lv_istore (lv' := [(5, .int (nI ci)), (4, .int (nI j)), (3, .int sn), (1, .long sm), (0, .ref h0)]) hx hb dX1_total_34 hl (by decide) rfl (fun ls hl => ?_)
        refine lv_aload_n hx hb dX1_total_36 rfl (lv_at hl 4 rfl) ?_
        refine va_get (D := (dC, dI)) (ci := 0) (v := .ref (a 2)) (C := RX1) (T := TX1) (N := 13) hx hb hts in_X1 hown hK hP 0 rfl rfl 2 (by decide) (hts _ q26) (fun _ h9 => h9) rfl dX1_total_37 ?_
        refine lv_iload hx hb dX1_total_40 (lv_at hl 1 rfl) ?_
        refine kw_zld (v := (mw_ob (is j))) hx hb hK hP 3 2 rfl rfl (by omega) (by decide) rfl dX1_total_42 ?_
        refine kw_ifeqB (tgt := 59) hx hb dX1_total_43 (by decide) (fun c7 => ?_) (fun c7 => ?_)
        · refine lv_iconst (v := (nI 0)) hx hb dX1_total_59 (by decide) ?_
          refine lv_istore (lv' := [(6, .int (nI 0)), (5, .int (nI ci)), (4, .int (nI j)), (3, .int sn), (1, .long sm), (0, .ref h0)]) hx hb dX1_total_60 hl (by decide) rfl (fun ls hl => ?_)
          refine lv_iload_n hx hb dX1_total_62 rfl (lv_at hl 3 rfl) ?_
          refine lv_iconst (v := (nI 1)) hx hb dX1_total_63 (by decide) ?_
          refine lv_iload hx hb dX1_total_64 (lv_at hl 1 rfl) ?_
          refine lv_ishl hx hb dX1_total_66 ?_
          refine lv_ior hx hb dX1_total_67 ?_
          refine lv_istore_n (lv' := [(3, .int (sn ||| ((nI 1) <<< ((nI ci) &&& 31)))), (6, .int (nI 0)), (5, .int (nI ci)), (4, .int (nI j)), (1, .long sm), (0, .ref h0)]) hx hb dX1_total_68 rfl hl (by decide) rfl (fun ls hl => ?_)
          refine lv_iload hx hb dX1_total_69 (lv_at hl 1 rfl) ?_
          refine kw_ifneN (tgt := 83) hx hb (by omega) dX1_total_71 (by decide) (fun c9 => ?_) (fun c9 => ?_)
          · exact absurd rfl c9
          refine lv_lload_n hx hb dX1_total_74 rfl (lv_at hl 4 rfl) ?_
          refine lv_aload_n hx hb dX1_total_75 rfl (lv_at hl 5 rfl) ?_
          refine lv_iload hx hb dX1_total_76 (lv_at hl 2 rfl) ?_
          have hFc := va_free (wc := (mw_C h0 a d al sh is us fo sw sc F ho fr to di ha)) hD hS hA [0, 1, 2, 3, 4, 5, 6, 7, 8, 9, 10, 11] rfl
          refine va_calll (va_runV (As := [.int (nI ci)]) (rest := [.long sm]) ⟨hx, hb, hml, hown, hts⟩ (mX1_sumOf l dC dI h0 a d H.size al sh is us fo sw sc F ho fr to di ha vl hL ci hci) (cwV 1 hts (lw_V q135 q137 qs7 q14 q138) rfl rfl rfl (by decide +kernel) ⟨Nat.le_of_ble_eq_true rfl, Nat.le_of_ble_eq_true rfl⟩) ⟨fun a U g mk q => by obtain ⟨q0, q1, qP, qK, qD⟩ := q; exact ⟨q0, q1, qP, va_K.moved (u := U) (U := U.calling g mk a) (Vm.Alike.refl U.vm) qK, qD⟩, va_recv hK hP (ci := 0) (q0 := 0) rfl rfl, fun U hU hW => ⟨rfl, by rw [hU], by rw [hU]; exact hP, va_K.moved hW.alike hK, hD.weaken (fun _ _ _ _ => trivial)⟩⟩ rfl rfl hl.1 rfl (lv_room (Nat.le_of_ble_eq_true rfl)) dX1_total_78 ⟨Nat.le_refl _, Nat.le_refl _⟩) hS (fun q _ h => hFc q h) hFc (fun r u t9 H1 locs ht9 hvm hw hB hz1 hk1 hS => ?_)
          have hw := hw
          obtain ⟨hP1, hK1, hD1⟩ : mw_BC dC dI _ h0 a d al sh is us fo sw sc F ho fr to di ha t9 := hB
          rw [ht9] at hP1
          obtain ⟨hP, hD⟩ := va_join (wr := []) (w1 := (mw_C h0 a d al sh is us fo sw sc F ho fr to di ha)) hP hD [0, 1, 2, 3, 4, 5, 6, 7, 8, 9, 10, 11] [] rfl rfl (by decide) (by decide) hk1 hFc hP1 hD1
          generalize H1 = H at hP hS ⊢
          have hP : va_P (dC, dI) vwCl (mw_C h0 a d al sh is us fo sw sc F ho fr to di ha) H := hP
          have hD : va_D A (mw_C h0 a d al sh is us fo sw sc F ho fr to di ha) := hD
          refine W.widen (k := 0) (n := 0) (Nat.le_refl _) (Nat.le_refl _) ?_
          subst hw
          refine lv_ladd hx hb dX1_total_81 ?_
          refine lv_lstore_n (lv' := [(1, .long (sm + (mw_s4 (vl ci)))), (3, .int (sn ||| ((nI 1) <<< ((nI ci) &&& 31)))), (6, .int (nI 0)), (5, .int (nI ci)), (4, .int (nI j)), (0, .ref h0)]) hx hb dX1_total_82 rfl hl (by decide) rfl (fun ls hl => ?_)
          refine lv_iinc (v := (nI (j + 1))) (lv' := [(4, .int (nI (j + 1))), (1, .long (sm + (mw_s4 (vl ci)))), (3, .int (sn ||| ((nI 1) <<< ((nI ci) &&& 31)))), (6, .int (nI 0)), (5, .int (nI ci)), (0, .ref h0)]) hx hb dX1_total_83 hl (k := 4) rfl (mw_inc1 _) (by decide) rfl (fun ls hl => ?_)
          refine lv_goto (tgt := 7) hx hb dX1_total_86 (by decide) ?_
          exact ih (j + 1) (sm + mw_s4 (vl ci)) (sn ||| ((nI 1) <<< ((nI ci) &&& 31))) (by omega) (by rw [hc]; show _ = mw_cs sh is vl j + _; rw [c6]; show _ = _ + (if is j && mw_in sh j ci then (0 : Int64) else _); rw [if_neg (by rw [c7]; simp)]) (fun c hc => by rw [mw_seen_or hc hci, hs c hc]; exact (mw_in_s c6 c).symm) (by omega) _ _ hP hD hS ls (lv_sub hl [0, 2, 1, 5] rfl)
        refine lv_iload_n hx hb dX1_total_46 rfl (lv_at hl 2 rfl) ?_
        refine lv_iload hx hb dX1_total_47 (lv_at hl 0 rfl) ?_
        refine lv_ishr hx hb dX1_total_49 ?_
        refine lv_iconst (v := (nI 1)) hx hb dX1_total_50 (by decide) ?_
        refine lv_iand hx hb dX1_total_51 ?_
        refine lv_if_eq (tgt := 59) hx hb dX1_total_52 (by decide) (fun c8 => ?_) (fun c8 => ?_)
        · refine lv_iconst (v := (nI 0)) hx hb dX1_total_59 (by decide) ?_
          refine lv_istore (lv' := [(6, .int (nI 0)), (5, .int (nI ci)), (4, .int (nI j)), (3, .int sn), (1, .long sm), (0, .ref h0)]) hx hb dX1_total_60 hl (by decide) rfl (fun ls hl => ?_)
          refine lv_iload_n hx hb dX1_total_62 rfl (lv_at hl 3 rfl) ?_
          refine lv_iconst (v := (nI 1)) hx hb dX1_total_63 (by decide) ?_
          refine lv_iload hx hb dX1_total_64 (lv_at hl 1 rfl) ?_
          refine lv_ishl hx hb dX1_total_66 ?_
          refine lv_ior hx hb dX1_total_67 ?_
          refine lv_istore_n (lv' := [(3, .int (sn ||| ((nI 1) <<< ((nI ci) &&& 31)))), (6, .int (nI 0)), (5, .int (nI ci)), (4, .int (nI j)), (1, .long sm), (0, .ref h0)]) hx hb dX1_total_68 rfl hl (by decide) rfl (fun ls hl => ?_)
          refine lv_iload hx hb dX1_total_69 (lv_at hl 1 rfl) ?_
          refine kw_ifneN (tgt := 83) hx hb (by omega) dX1_total_71 (by decide) (fun c9 => ?_) (fun c9 => ?_)
          · exact absurd rfl c9
          refine lv_lload_n hx hb dX1_total_74 rfl (lv_at hl 4 rfl) ?_
          refine lv_aload_n hx hb dX1_total_75 rfl (lv_at hl 5 rfl) ?_
          refine lv_iload hx hb dX1_total_76 (lv_at hl 2 rfl) ?_
          have hFc := va_free (wc := (mw_C h0 a d al sh is us fo sw sc F ho fr to di ha)) hD hS hA [0, 1, 2, 3, 4, 5, 6, 7, 8, 9, 10, 11] rfl
          refine va_calll (va_runV (As := [.int (nI ci)]) (rest := [.long sm]) ⟨hx, hb, hml, hown, hts⟩ (mX1_sumOf l dC dI h0 a d H.size al sh is us fo sw sc F ho fr to di ha vl hL ci hci) (cwV 1 hts (lw_V q135 q137 qs7 q14 q138) rfl rfl rfl (by decide +kernel) ⟨Nat.le_of_ble_eq_true rfl, Nat.le_of_ble_eq_true rfl⟩) ⟨fun a U g mk q => by obtain ⟨q0, q1, qP, qK, qD⟩ := q; exact ⟨q0, q1, qP, va_K.moved (u := U) (U := U.calling g mk a) (Vm.Alike.refl U.vm) qK, qD⟩, va_recv hK hP (ci := 0) (q0 := 0) rfl rfl, fun U hU hW => ⟨rfl, by rw [hU], by rw [hU]; exact hP, va_K.moved hW.alike hK, hD.weaken (fun _ _ _ _ => trivial)⟩⟩ rfl rfl hl.1 rfl (lv_room (Nat.le_of_ble_eq_true rfl)) dX1_total_78 ⟨Nat.le_refl _, Nat.le_refl _⟩) hS (fun q _ h => hFc q h) hFc (fun r u t9 H1 locs ht9 hvm hw hB hz1 hk1 hS => ?_)
          have hw := hw
          obtain ⟨hP1, hK1, hD1⟩ : mw_BC dC dI _ h0 a d al sh is us fo sw sc F ho fr to di ha t9 := hB
          rw [ht9] at hP1
          obtain ⟨hP, hD⟩ := va_join (wr := []) (w1 := (mw_C h0 a d al sh is us fo sw sc F ho fr to di ha)) hP hD [0, 1, 2, 3, 4, 5, 6, 7, 8, 9, 10, 11] [] rfl rfl (by decide) (by decide) hk1 hFc hP1 hD1
          generalize H1 = H at hP hS ⊢
          have hP : va_P (dC, dI) vwCl (mw_C h0 a d al sh is us fo sw sc F ho fr to di ha) H := hP
          have hD : va_D A (mw_C h0 a d al sh is us fo sw sc F ho fr to di ha) := hD
          refine W.widen (k := 0) (n := 0) (Nat.le_refl _) (Nat.le_refl _) ?_
          subst hw
          refine lv_ladd hx hb dX1_total_81 ?_
          refine lv_lstore_n (lv' := [(1, .long (sm + (mw_s4 (vl ci)))), (3, .int (sn ||| ((nI 1) <<< ((nI ci) &&& 31)))), (6, .int (nI 0)), (5, .int (nI ci)), (4, .int (nI j)), (0, .ref h0)]) hx hb dX1_total_82 rfl hl (by decide) rfl (fun ls hl => ?_)
          refine lv_iinc (v := (nI (j + 1))) (lv' := [(4, .int (nI (j + 1))), (1, .long (sm + (mw_s4 (vl ci)))), (3, .int (sn ||| ((nI 1) <<< ((nI ci) &&& 31)))), (6, .int (nI 0)), (5, .int (nI ci)), (0, .ref h0)]) hx hb dX1_total_83 hl (k := 4) rfl (mw_inc1 _) (by decide) rfl (fun ls hl => ?_)
          refine lv_goto (tgt := 7) hx hb dX1_total_86 (by decide) ?_
          exact ih (j + 1) (sm + mw_s4 (vl ci)) (sn ||| ((nI 1) <<< ((nI ci) &&& 31))) (by omega) (by rw [hc]; show _ = mw_cs sh is vl j + _; rw [c6]; show _ = _ + (if is j && mw_in sh j ci then (0 : Int64) else _); rw [if_neg (by rw [← hs ci hci, (mw_seen_at hci).mp c8]; simp)]) (fun c hc => by rw [mw_seen_or hc hci, hs c hc]; exact (mw_in_s c6 c).symm) (by omega) _ _ hP hD hS ls (lv_sub hl [0, 2, 1, 5] rfl)
        refine lv_iconst (v := (nI 1)) hx hb dX1_total_55 (by decide) ?_
        refine lv_goto (tgt := 60) hx hb dX1_total_56 (by decide) ?_
        refine lv_istore (lv' := [(6, .int (nI 1)), (5, .int (nI ci)), (4, .int (nI j)), (3, .int sn), (1, .long sm), (0, .ref h0)]) hx hb dX1_total_60 hl (by decide) rfl (fun ls hl => ?_)
        refine lv_iload_n hx hb dX1_total_62 rfl (lv_at hl 3 rfl) ?_
        refine lv_iconst (v := (nI 1)) hx hb dX1_total_63 (by decide) ?_
        refine lv_iload hx hb dX1_total_64 (lv_at hl 1 rfl) ?_
        refine lv_ishl hx hb dX1_total_66 ?_
        refine lv_ior hx hb dX1_total_67 ?_
        refine lv_istore_n (lv' := [(3, .int (sn ||| ((nI 1) <<< ((nI ci) &&& 31)))), (6, .int (nI 1)), (5, .int (nI ci)), (4, .int (nI j)), (1, .long sm), (0, .ref h0)]) hx hb dX1_total_68 rfl hl (by decide) rfl (fun ls hl => ?_)
        refine lv_iload hx hb dX1_total_69 (lv_at hl 1 rfl) ?_
        refine kw_ifneN (tgt := 83) hx hb (by omega) dX1_total_71 (by decide) (fun c9 => ?_) (fun c9 => ?_)
        · refine lv_iinc (v := (nI (j + 1))) (lv' := [(4, .int (nI (j + 1))), (3, .int (sn ||| ((nI 1) <<< ((nI ci) &&& 31)))), (6, .int (nI 1)), (5, .int (nI ci)), (1, .long sm), (0, .ref h0)]) hx hb dX1_total_83 hl (k := 3) rfl (mw_inc1 _) (by decide) rfl (fun ls hl => ?_)
          refine lv_goto (tgt := 7) hx hb dX1_total_86 (by decide) ?_
          exact ih (j + 1) sm (sn ||| ((nI 1) <<< ((nI ci) &&& 31))) (by omega) (by rw [hc]; show _ = mw_cs sh is vl j + _; rw [c6]; show _ = _ + (if is j && mw_in sh j ci then (0 : Int64) else _); rw [if_pos (by rw [c7, ← hs ci hci]; simp; exact mw_nf (fun q => c8 ((mw_seen_at hci).mpr q)))]; exact (Int64.add_zero _).symm) (fun c hc => by rw [mw_seen_or hc hci, hs c hc]; exact (mw_in_s c6 c).symm) (by omega) _ _ hP hD hS ls (lv_sub hl [0, 1, 4, 5] rfl)
        exact absurd c9 (by decide)
      refine lv_goto (tgt := 83) hx hb dX1_total_24 (by decide) ?_
      refine lv_iinc (v := (nI (j + 1))) (lv' := [(4, .int (nI (j + 1))), (3, .int sn), (1, .long sm), (0, .ref h0)]) hx hb dX1_total_83 hl (k := 0) rfl (mw_inc1 _) (by decide) rfl (fun ls hl => ?_)
      refine lv_goto (tgt := 7) hx hb dX1_total_86 (by decide) ?_
      exact ih (j + 1) sm sn (by omega) (by rw [hc]; show _ = mw_cs sh is vl j + _; rw [c6]; exact (Int64.add_zero _).symm) (fun c hc => by rw [hs c hc]; exact (mw_in_n c6 c).symm) (by omega) _ _ hP hD hS ls (lv_sub hl [0, 1, 2, 3] rfl)
  exact lp 21 0 0 (nI 0) (by omega) rfl (fun c hc => b_0 c) (by omega) _ _ hP hD hS ls (lv_sub hl [0, 1, 2, 3] rfl)
set_option maxHeartbeats 4000000 in
set_option maxRecDepth 100000 in
/-- CowMemory.sheets -/
theorem mX1_sheets (l : Launch) (dC : Nat → ClassId) (dI : Nat → Nat → Nat) (h0 : Nat) (a : Nat → Nat) (d : Nat → ClassId) (sz : Nat) (al : Nat → Bool) (sh : Nat → Option Nat) (is : Nat → Bool) (us : Nat → Nat) (fo : Nat → Option Nat) (sw : Nat → Bool) (sc : Nat → Int32) (F : Nat) (ho : Nat → Option Nat) (fr : Nat → Int32) (to : Nat → Bool) (di : Nat → Bool) (ha : Nat) (ma : Nat → Bool) (ms : Nat → Option Nat) (mo : Nat → Bool) (mc : Nat → Int32) (hI : mw_I al sh is us fo sw sc F ho fr di ha (ma, ms, mo, mc))  : Met l yX1_sheets (ws_ yX1_sheets cX1_sheets 4 (some .int)) ({ frames := 0, cells := 0, slots := 0, locals := 0 } : Room) (va_Pc [.ref h0] (fun U => U.heap.size = sz ∧ va_P (dC, dI) vwCl (mw_C h0 a d al sh is us fo sw sc F ho fr to di ha) U.heap ∧ va_K (dC, dI) vwCl (mw_CK d) U ∧ va_D (fun _ => True) (mw_C h0 a d al sh is us fo sw sc F ho fr to di ha))) (va_Qi (fun (r : Int32) (_ : Unit) => r = nI (mw_shs (ma, ms, mo, mc))) (fun (u : Unit) (t : State) => mw_BC dC dI (va_A (mw_C h0 a d al sh is us fo sw sc F ho fr to di ha) sz) h0 a d al sh is us fo sw sc F ho fr to di ha t) (va_A (mw_C h0 a d al sh is us fo sw sc F ho fr to di ha) sz)) 0 0 (va_A (mw_C h0 a d al sh is us fo sw sc F ho fr to di ha) sz) := by
  refine Met.ofW (cc := cX1_sheets) (maxL := 4) (ret := (some .int)) (by decide) rfl ?_
  intro p e s m args below meth c s₁ B hml hv
  obtain ⟨rfl, hsz, hP, hK, hD0⟩ := hv
  have hx := B.exec
  have hb := B.bytes
  have hr := B.returns
  have hts := atoms_spec (ws := ws_ yX1_sheets cX1_sheets 4 (some .int)) B.pre
  have hts : ∀ w ∈ lw_all, w.before _ s = true := fun w h => hts w (List.mem_cons_of_mem _ h)
  have hown : s.vm.findClass RX1 = some m.cls := findClass_of_methodNamed B.named
  have hlocks := B.notSynchronized
  subst hsz
  have hD := hD0.self (sz := s.heap.size)
  generalize hAe : va_A (mw_C h0 a d al sh is us fo sw sc F ho fr to di ha) s.heap.size = A at hD ⊢
  have hA : ∀ q : Nat, s.heap.size ≤ q → A q := fun q h => by rw [← hAe]; exact Or.inr h
  have hS : va_S A s.heap s.heap [] := va_S.rf
  have hl := lv_entry ([.ref h0]) (n := 4) (Nat.le_of_ble_eq_true rfl)
  rw [lg_entry_eq]
  generalize (lg_sl ([.ref h0]) ++ List.replicate (4 - (lg_sl ([.ref h0])).length) Slot.unset).toArray = ls at hl ⊢
  have hl : lv_has ls 4 [(0, .ref h0)] := hl
  obtain ⟨QQ, hQQ⟩ : ∃ QQ, QQ = MQ below (va_Qi (fun (r : Int32) (_ : Unit) => r = nI (mw_shs (ma, ms, mo, mc))) (fun (u : Unit) (t : State) => mw_BC dC dI A h0 a d al sh is us fo sw sc F ho fr to di ha t) A) ([.ref h0] : List Value).toArray s 0 0 A := ⟨_, rfl⟩
  rw [← hQQ]
  obtain ⟨hU, hZ, hA0, vl, hL, hR⟩ := id hI
  have hA0 : ∀ p, p < 4 → al p = ma p := hA0
  have hR : mw_R sh is vl ms mo mc := hR
  refine lv_iconst (v := (nI 0)) hx hb dX1_sheets_0 (by decide) ?_
  refine lv_istore_n (lv' := [(1, .int (nI 0)), (0, .ref h0)]) hx hb dX1_sheets_1 rfl hl (by decide) rfl (fun ls hl => ?_)
  refine lv_iconst (v := (nI 0)) hx hb dX1_sheets_2 (by decide) ?_
  refine lv_istore_n (lv' := [(2, .int (nI 0)), (1, .int (nI 0)), (0, .ref h0)]) hx hb dX1_sheets_3 rfl hl (by decide) rfl (fun ls hl => ?_)
  refine lv_iconst (v := (nI 0)) hx hb dX1_sheets_4 (by decide) ?_
  refine lv_istore_n (lv' := [(3, .int (nI 0)), (2, .int (nI 0)), (1, .int (nI 0)), (0, .ref h0)]) hx hb dX1_sheets_5 rfl hl (by decide) rfl (fun ls hl => ?_)
  have lp : ∀ (n : Nat) (j : Nat) (cn : Nat) (sn : Int32), (j ≤ 20) → (cn = mw_cc sh is j) → (∀ c, c < 20 → bt sn c = mw_in sh j c) → (20 - j) < n → ∀ (H : Heap) (locs : List Loc), va_P (dC, dI) vwCl (mw_C h0 a d al sh is us fo sw sc F ho fr to di ha) H → va_D A (mw_C h0 a d al sh is us fo sw sc F ho fr to di ha) → va_S A s.heap H locs → ∀ (ls : Array Slot), lv_has ls 4 [(3, .int (nI j)), (2, .int sn), (1, .int (nI cn)), (0, .ref h0)] → W p l e ({ frames := 0, cells := 0, slots := 0, locals := 0 } : Room) s m ([.ref h0] : List Value).toArray below meth c H locs 0 0 QQ (F0 m 6 ls []) := by
    intro n
    induction n with
    | zero =>
      intro j cn sn hj hc hs hfuel
      exact absurd hfuel (by omega)
    | succ n ih =>
      intro j cn sn hj hc hs hfuel H locs hP hD hS ls hl
      refine lv_iload_n hx hb dX1_sheets_6 rfl (lv_at hl 0 rfl) ?_
      refine lv_bipush (v := (nI 20)) hx hb dX1_sheets_7 (by decide) ?_
      refine kw_ge (tgt := 66) hx hb (by omega) (by omega) dX1_sheets_9 (by decide) (fun c5 => ?_) (fun c5 => ?_)
      · obtain rfl : j = 20 := by omega
        refine lv_iload_n hx hb dX1_sheets_66 rfl (lv_at hl 2 rfl) ?_
        rw [hQQ]
        exact W.iret (v := (nI cn)) hx hb hr (fun t9 ht9 hW9 => ⟨⟨_, (), rfl, by rw [hc, mw_sheets_eq hR]; rfl, by rw [ht9]; exact hP, va_K.moved hW9.alike hK, hD⟩, hS.F ht9⟩) hS.2.2 dX1_sheets_67
      refine lv_aload_n hx hb dX1_sheets_12 rfl (lv_at hl 3 rfl) ?_
      refine va_get (D := (dC, dI)) (ci := 0) (v := .ref (a 1)) (C := RX1) (T := TX1) (N := 13) hx hb hts in_X1 hown hK hP 0 rfl rfl 1 (by decide) (hts _ q25) (fun _ h9 => h9) rfl dX1_sheets_13 ?_
      refine lv_iload_n hx hb dX1_sheets_16 rfl (lv_at hl 0 rfl) ?_
      refine kw_bld (v := (mw_oc (sh j))) hx hb hK hP 2 1 rfl rfl (by omega) (by decide) rfl dX1_sheets_17 ?_
      refine kw_ifgeO (tgt := 24) hx hb (fun c h => Nat.lt_trans (hU.1 _ c (by omega) h) (by decide)) dX1_sheets_18 (by decide) (fun ci c6 => ?_) (fun c6 => ?_)
      · have hci := hU.1 _ ci (by omega) c6
        refine lv_aload_n hx hb dX1_sheets_24 rfl (lv_at hl 3 rfl) ?_
        refine va_get (D := (dC, dI)) (ci := 0) (v := .ref (a 2)) (C := RX1) (T := TX1) (N := 13) hx hb hts in_X1 hown hK hP 0 rfl rfl 2 (by decide) (hts _ q26) (fun _ h9 => h9) rfl dX1_sheets_25 ?_
        refine lv_iload_n hx hb dX1_sheets_28 rfl (lv_at hl 0 rfl) ?_
        refine kw_zld (v := (mw_ob (is j))) hx hb hK hP 3 2 rfl rfl (by omega) (by decide) rfl dX1_sheets_29 ?_
        refine kw_ifeqB (tgt := 46) hx hb dX1_sheets_30 (by decide) (fun c7 => ?_) (fun c7 => ?_)
        · refine lv_iinc (v := (nI (cn + 1))) (lv' := [(1, .int (nI (cn + 1))), (3, .int (nI j)), (2, .int sn), (0, .ref h0)]) hx hb dX1_sheets_46 hl (k := 2) rfl (mw_inc1 _) (by decide) rfl (fun ls hl => ?_)
          refine lv_iload_n hx hb dX1_sheets_49 rfl (lv_at hl 2 rfl) ?_
          refine lv_iconst (v := (nI 1)) hx hb dX1_sheets_50 (by decide) ?_
          refine lv_aload_n hx hb dX1_sheets_51 rfl (lv_at hl 3 rfl) ?_
          refine va_get (D := (dC, dI)) (ci := 0) (v := .ref (a 1)) (C := RX1) (T := TX1) (N := 13) hx hb hts in_X1 hown hK hP 0 rfl rfl 1 (by decide) (hts _ q25) (fun _ h9 => h9) rfl dX1_sheets_52 ?_
          refine lv_iload_n hx hb dX1_sheets_55 rfl (lv_at hl 1 rfl) ?_
          refine kw_bld (v := (nI ci)) hx hb hK hP 2 1 rfl rfl (by omega) (by decide) (congrArg mw_oc c6) dX1_sheets_56 ?_
          refine lv_ishl hx hb dX1_sheets_57 ?_
          refine lv_ior hx hb dX1_sheets_58 ?_
          refine lv_istore_n (lv' := [(2, .int (sn ||| ((nI 1) <<< ((nI ci) &&& 31)))), (1, .int (nI (cn + 1))), (3, .int (nI j)), (0, .ref h0)]) hx hb dX1_sheets_59 rfl hl (by decide) rfl (fun ls hl => ?_)
          refine lv_iinc (v := (nI (j + 1))) (lv' := [(3, .int (nI (j + 1))), (2, .int (sn ||| ((nI 1) <<< ((nI ci) &&& 31)))), (1, .int (nI (cn + 1))), (0, .ref h0)]) hx hb dX1_sheets_60 hl (k := 2) rfl (mw_inc1 _) (by decide) rfl (fun ls hl => ?_)
          refine lv_goto (tgt := 6) hx hb dX1_sheets_63 (by decide) ?_
          exact ih (j + 1) (cn + 1) (sn ||| ((nI 1) <<< ((nI ci) &&& 31))) (by omega) (by rw [hc]; show _ = mw_cc sh is j + _; rw [c6]; show _ = _ + (if is j && mw_in sh j ci then 0 else 1); rw [if_neg (by rw [c7]; simp)]) (fun c hc => by rw [mw_seen_or hc hci, hs c hc]; exact (mw_in_s c6 c).symm) (by omega) _ _ hP hD hS ls (lv_sub hl [0, 1, 2, 3] rfl)
        refine lv_iload_n hx hb dX1_sheets_33 rfl (lv_at hl 1 rfl) ?_
        refine lv_aload_n hx hb dX1_sheets_34 rfl (lv_at hl 3 rfl) ?_
        refine va_get (D := (dC, dI)) (ci := 0) (v := .ref (a 1)) (C := RX1) (T := TX1) (N := 13) hx hb hts in_X1 hown hK hP 0 rfl rfl 1 (by decide) (hts _ q25) (fun _ h9 => h9) rfl dX1_sheets_35 ?_
        refine lv_iload_n hx hb dX1_sheets_38 rfl (lv_at hl 0 rfl) ?_
        refine kw_bld (v := (nI ci)) hx hb hK hP 2 1 rfl rfl (by omega) (by decide) (congrArg mw_oc c6) dX1_sheets_39 ?_
        refine lv_ishr hx hb dX1_sheets_40 ?_
        refine lv_iconst (v := (nI 1)) hx hb dX1_sheets_41 (by decide) ?_
        refine lv_iand hx hb dX1_sheets_42 ?_
        refine lv_if_ne (tgt := 49) hx hb dX1_sheets_43 (by decide) (fun c8 => ?_) (fun c8 => ?_)
        · refine lv_iload_n hx hb dX1_sheets_49 rfl (lv_at hl 1 rfl) ?_
          refine lv_iconst (v := (nI 1)) hx hb dX1_sheets_50 (by decide) ?_
          refine lv_aload_n hx hb dX1_sheets_51 rfl (lv_at hl 3 rfl) ?_
          refine va_get (D := (dC, dI)) (ci := 0) (v := .ref (a 1)) (C := RX1) (T := TX1) (N := 13) hx hb hts in_X1 hown hK hP 0 rfl rfl 1 (by decide) (hts _ q25) (fun _ h9 => h9) rfl dX1_sheets_52 ?_
          refine lv_iload_n hx hb dX1_sheets_55 rfl (lv_at hl 0 rfl) ?_
          refine kw_bld (v := (nI ci)) hx hb hK hP 2 1 rfl rfl (by omega) (by decide) (congrArg mw_oc c6) dX1_sheets_56 ?_
          refine lv_ishl hx hb dX1_sheets_57 ?_
          refine lv_ior hx hb dX1_sheets_58 ?_
          refine lv_istore_n (lv' := [(2, .int (sn ||| ((nI 1) <<< ((nI ci) &&& 31)))), (3, .int (nI j)), (1, .int (nI cn)), (0, .ref h0)]) hx hb dX1_sheets_59 rfl hl (by decide) rfl (fun ls hl => ?_)
          refine lv_iinc (v := (nI (j + 1))) (lv' := [(3, .int (nI (j + 1))), (2, .int (sn ||| ((nI 1) <<< ((nI ci) &&& 31)))), (1, .int (nI cn)), (0, .ref h0)]) hx hb dX1_sheets_60 hl (k := 1) rfl (mw_inc1 _) (by decide) rfl (fun ls hl => ?_)
          refine lv_goto (tgt := 6) hx hb dX1_sheets_63 (by decide) ?_
          exact ih (j + 1) cn (sn ||| ((nI 1) <<< ((nI ci) &&& 31))) (by omega) (by rw [hc]; show _ = mw_cc sh is j + _; rw [c6]; show _ = _ + (if is j && mw_in sh j ci then 0 else 1); rw [if_pos (by rw [c7, ← hs ci hci]; simp; exact mw_nf (fun q => c8 ((mw_seen_at hci).mpr q)))]; rfl) (fun c hc => by rw [mw_seen_or hc hci, hs c hc]; exact (mw_in_s c6 c).symm) (by omega) _ _ hP hD hS ls (lv_sub hl [0, 1, 2, 3] rfl)
        refine lv_iinc (v := (nI (cn + 1))) (lv' := [(1, .int (nI (cn + 1))), (3, .int (nI j)), (2, .int sn), (0, .ref h0)]) hx hb dX1_sheets_46 hl (k := 2) rfl (mw_inc1 _) (by decide) rfl (fun ls hl => ?_)
        refine lv_iload_n hx hb dX1_sheets_49 rfl (lv_at hl 2 rfl) ?_
        refine lv_iconst (v := (nI 1)) hx hb dX1_sheets_50 (by decide) ?_
        refine lv_aload_n hx hb dX1_sheets_51 rfl (lv_at hl 3 rfl) ?_
        refine va_get (D := (dC, dI)) (ci := 0) (v := .ref (a 1)) (C := RX1) (T := TX1) (N := 13) hx hb hts in_X1 hown hK hP 0 rfl rfl 1 (by decide) (hts _ q25) (fun _ h9 => h9) rfl dX1_sheets_52 ?_
        refine lv_iload_n hx hb dX1_sheets_55 rfl (lv_at hl 1 rfl) ?_
        refine kw_bld (v := (nI ci)) hx hb hK hP 2 1 rfl rfl (by omega) (by decide) (congrArg mw_oc c6) dX1_sheets_56 ?_
        refine lv_ishl hx hb dX1_sheets_57 ?_
        refine lv_ior hx hb dX1_sheets_58 ?_
        refine lv_istore_n (lv' := [(2, .int (sn ||| ((nI 1) <<< ((nI ci) &&& 31)))), (1, .int (nI (cn + 1))), (3, .int (nI j)), (0, .ref h0)]) hx hb dX1_sheets_59 rfl hl (by decide) rfl (fun ls hl => ?_)
        refine lv_iinc (v := (nI (j + 1))) (lv' := [(3, .int (nI (j + 1))), (2, .int (sn ||| ((nI 1) <<< ((nI ci) &&& 31)))), (1, .int (nI (cn + 1))), (0, .ref h0)]) hx hb dX1_sheets_60 hl (k := 2) rfl (mw_inc1 _) (by decide) rfl (fun ls hl => ?_)
        refine lv_goto (tgt := 6) hx hb dX1_sheets_63 (by decide) ?_
        exact ih (j + 1) (cn + 1) (sn ||| ((nI 1) <<< ((nI ci) &&& 31))) (by omega) (by rw [hc]; show _ = mw_cc sh is j + _; rw [c6]; show _ = _ + (if is j && mw_in sh j ci then 0 else 1); rw [if_neg (by rw [← hs ci hci, (mw_seen_at hci).mp c8]; simp)]) (fun c hc => by rw [mw_seen_or hc hci, hs c hc]; exact (mw_in_s c6 c).symm) (by omega) _ _ hP hD hS ls (lv_sub hl [0, 1, 2, 3] rfl)
      refine lv_goto (tgt := 60) hx hb dX1_sheets_21 (by decide) ?_
      refine lv_iinc (v := (nI (j + 1))) (lv' := [(3, .int (nI (j + 1))), (2, .int sn), (1, .int (nI cn)), (0, .ref h0)]) hx hb dX1_sheets_60 hl (k := 0) rfl (mw_inc1 _) (by decide) rfl (fun ls hl => ?_)
      refine lv_goto (tgt := 6) hx hb dX1_sheets_63 (by decide) ?_
      exact ih (j + 1) cn sn (by omega) (by rw [hc]; show _ = mw_cc sh is j + _; rw [c6]; rfl) (fun c hc => by rw [hs c hc]; exact (mw_in_n c6 c).symm) (by omega) _ _ hP hD hS ls (lv_sub hl [0, 1, 2, 3] rfl)
  exact lp 21 0 0 (nI 0) (by omega) rfl (fun c hc => b_0 c) (by omega) _ _ hP hD hS ls (lv_sub hl [0, 1, 2, 3] rfl)
set_option maxHeartbeats 4000000 in
set_option maxRecDepth 100000 in
/-- CowMemory(frames) -/
theorem mX1_init (l : Launch) (dC : Nat → ClassId) (dI : Nat → Nat → Nat) (h0 : Nat) (sz : Nat) (xx : Int32) : Met l yX1_init (ws_ yX1_init cX1_init 3 none) ({ frames := 1, cells := 11, slots := 226, locals := 12 } : Room) (va_Pc [.ref h0, .int xx] (fun U => U.heap.size = sz ∧ va_P (dC, dI) vwCl [(h0, .inr (0, [.null, .null, .null, .null, .null, .null, .null, .int 0, .null, .null, .null, .null, .int 0]))] U.heap ∧ va_K (dC, dI) vwCl [] U ∧ va_D (fun _ => True) [(h0, .inr (0, [.null, .null, .null, .null, .null, .null, .null, .int 0, .null, .null, .null, .null, .int 0]))])) (va_Qv (fun (u : Nat) => 2 ≤ u ∧ u ≤ 6) (fun (u : Nat) (t : State) => ∃ (a : Nat → Nat) (d : Nat → ClassId), mw_BC dC dI (va_A [(h0, .inr (0, [.null, .null, .null, .null, .null, .null, .null, .int 0, .null, .null, .null, .null, .int 0]))] sz) h0 a d (va_up (fun _ => false) 0 true) (mw_iN 20) (fun _ => false) (fun _ => 0) (mw_iN 20) (fun _ => false) (fun _ => 0) u (mw_iN 6) (fun _ => 0) (fun _ => false) (fun _ => false) 0 t) (va_A [(h0, .inr (0, [.null, .null, .null, .null, .null, .null, .null, .int 0, .null, .null, .null, .null, .int 0]))] sz)) 11 226 (va_A [(h0, .inr (0, [.null, .null, .null, .null, .null, .null, .null, .int 0, .null, .null, .null, .null, .int 0]))] sz) := by
  refine Met.ofW (cc := cX1_init) (maxL := 3) (ret := none) (by decide) rfl ?_
  intro p e s m args below meth c s₁ B hml hv
  obtain ⟨rfl, hsz, hP, hK, hD0⟩ := hv
  have hx := B.exec
  have hb := B.bytes
  have hr := B.returns
  have hts := atoms_spec (ws := ws_ yX1_init cX1_init 3 none) B.pre
  have hts : ∀ w ∈ lw_all, w.before _ s = true := fun w h => hts w (List.mem_cons_of_mem _ h)
  have hown : s.vm.findClass RX1 = some m.cls := findClass_of_methodNamed B.named
  have hin : meth.name = "<init>" := (name_of_methodNamed B.named B.method).1
  have hlocks := B.notSynchronized
  subst hsz
  have hD := hD0.self (sz := s.heap.size)
  generalize hAe : va_A [(h0, .inr (0, [.null, .null, .null, .null, .null, .null, .null, .int 0, .null, .null, .null, .null, .int 0]))] s.heap.size = A at hD ⊢
  have hA : ∀ q : Nat, s.heap.size ≤ q → A q := fun q h => by rw [← hAe]; exact Or.inr h
  have hS : va_S A s.heap s.heap [] := va_S.rf
  have hl := lv_entry ([.ref h0, .int xx]) (n := 3) (Nat.le_of_ble_eq_true rfl)
  rw [lg_entry_eq]
  generalize (lg_sl ([.ref h0, .int xx]) ++ List.replicate (3 - (lg_sl ([.ref h0, .int xx])).length) Slot.unset).toArray = ls at hl ⊢
  have hl : lv_has ls 3 [(0, .ref h0), (1, .int xx)] := hl
  obtain ⟨QQ, hQQ⟩ : ∃ QQ, QQ = MQ below (va_Qv (fun (u : Nat) => 2 ≤ u ∧ u ≤ 6) (fun (u : Nat) (t : State) => ∃ (a : Nat → Nat) (d : Nat → ClassId), mw_BC dC dI A h0 a d (va_up (fun _ => false) 0 true) (mw_iN 20) (fun _ => false) (fun _ => 0) (mw_iN 20) (fun _ => false) (fun _ => 0) u (mw_iN 6) (fun _ => 0) (fun _ => false) (fun _ => false) 0 t) A) ([.ref h0, .int xx] : List Value).toArray s 11 226 A := ⟨_, rfl⟩
  rw [← hQQ]
  refine lv_aload_n hx hb dX1_init_0 rfl (lv_at hl 0 rfl) ?_
  refine W.objInit hx hb hown (hts _ q21) (hts _ q22) (hts _ q23) rfl (by rw [hml]; exact hl.1) rfl dX1_init_1 (Nat.le_of_ble_eq_true rfl) (Nat.le_of_ble_eq_true rfl) ?_
  refine W.eq (g2 := F0 m 4 ls []) rfl ?_
  refine lv_aload_n hx hb dX1_init_4 rfl (lv_at hl 0 rfl) ?_
  refine lv_iconst (v := (nI 4)) hx hb dX1_init_5 (by decide) ?_
  refine va_newa (a0 := (4, .inl (mw_B (fun _ => false)))) (N' := 4) (ty := .boolean) (atype := .boolean) hx hb (hts _ q64) rfl hK hP hD hS hA (fun cA => rfl) (by decide) (by decide) (by decide) (Nat.le_of_ble_eq_true rfl) (Nat.le_of_ble_eq_true rfl) dX1_init_6 (fun q0 g0 H hK hP hD hS => ?_)
  have hP : va_P (dC, dI) vwCl [(h0, .inr (0, [.null, .null, .null, .null, .null, .null, .null, .int 0, .null, .null, .null, .null, .int 0])), (q0, .inl (g0, 4, .inl (mw_B (fun _ => false))))] H := hP
  have hD : va_D A [(h0, .inr (0, [.null, .null, .null, .null, .null, .null, .null, .int 0, .null, .null, .null, .null, .int 0])), (q0, .inl (g0, 4, .inl (mw_B (fun _ => false))))] := hD
  have hK : va_K (dC, dI) vwCl [(g0, .boolean)] s := hK
  refine va_putF (D := (dC, dI)) (ci := 0) (v := .ref q0) (ty := .array .boolean) (C := RX1) (T := TX1) (N := 13) hx hb hts in_X1 tyX1 tyX1_ok nmX1 hown hK hP hD hS 0 rfl rfl 0 (by decide) (hts _ q24) (fun _ h9 => h9) rfl hin rfl (by decide +kernel) rfl rfl (Nat.le_of_ble_eq_true rfl) dX1_init_8 (fun H locs hP hD hS => ?_)
  have hP : va_P (dC, dI) vwCl [(h0, .inr (0, [.ref q0, .null, .null, .null, .null, .null, .null, .int 0, .null, .null, .null, .null, .int 0])), (q0, .inl (g0, 4, .inl (mw_B (fun _ => false))))] H := hP
  have hD : va_D A [(h0, .inr (0, [.ref q0, .null, .null, .null, .null, .null, .null, .int 0, .null, .null, .null, .null, .int 0])), (q0, .inl (g0, 4, .inl (mw_B (fun _ => false))))] := hD
  refine lv_aload_n hx hb dX1_init_11 rfl (lv_at hl 0 rfl) ?_
  refine lv_bipush (v := (nI 20)) hx hb dX1_init_12 (by decide) ?_
  refine va_newa (a0 := (20, .inl (mw_O (fun _ => some 0)))) (N' := 20) (ty := .byte) (atype := .byte) hx hb (hts _ q65) rfl hK hP hD hS hA (fun cA => rfl) (by decide) (by decide) (by decide) (Nat.le_of_ble_eq_true rfl) (Nat.le_of_ble_eq_true rfl) dX1_init_14 (fun q1 g1 H hK hP hD hS => ?_)
  have hP : va_P (dC, dI) vwCl [(h0, .inr (0, [.ref q0, .null, .null, .null, .null, .null, .null, .int 0, .null, .null, .null, .null, .int 0])), (q0, .inl (g0, 4, .inl (mw_B (fun _ => false)))), (q1, .inl (g1, 20, .inl (mw_O (fun _ => some 0))))] H := hP
  have hD : va_D A [(h0, .inr (0, [.ref q0, .null, .null, .null, .null, .null, .null, .int 0, .null, .null, .null, .null, .int 0])), (q0, .inl (g0, 4, .inl (mw_B (fun _ => false)))), (q1, .inl (g1, 20, .inl (mw_O (fun _ => some 0))))] := hD
  have hK : va_K (dC, dI) vwCl [(g0, .boolean), (g1, .byte)] s := hK
  refine va_putF (D := (dC, dI)) (ci := 0) (v := .ref q1) (ty := .array .byte) (C := RX1) (T := TX1) (N := 13) hx hb hts in_X1 tyX1 tyX1_ok nmX1 hown hK hP hD hS 0 rfl rfl 1 (by decide) (hts _ q25) (fun _ h9 => h9) rfl hin rfl (by decide +kernel) rfl rfl (Nat.le_of_ble_eq_true rfl) dX1_init_16 (fun H locs hP hD hS => ?_)
  have hP : va_P (dC, dI) vwCl [(h0, .inr (0, [.ref q0, .ref q1, .null, .null, .null, .null, .null, .int 0, .null, .null, .null, .null, .int 0])), (q0, .inl (g0, 4, .inl (mw_B (fun _ => false)))), (q1, .inl (g1, 20, .inl (mw_O (fun _ => some 0))))] H := hP
  have hD : va_D A [(h0, .inr (0, [.ref q0, .ref q1, .null, .null, .null, .null, .null, .int 0, .null, .null, .null, .null, .int 0])), (q0, .inl (g0, 4, .inl (mw_B (fun _ => false)))), (q1, .inl (g1, 20, .inl (mw_O (fun _ => some 0))))] := hD
  refine lv_aload_n hx hb dX1_init_19 rfl (lv_at hl 0 rfl) ?_
  refine lv_bipush (v := (nI 20)) hx hb dX1_init_20 (by decide) ?_
  refine va_newa (a0 := (20, .inl (mw_B (fun _ => false)))) (N' := 20) (ty := .boolean) (atype := .boolean) hx hb (hts _ q64) rfl hK hP hD hS hA (fun cA => rfl) (by decide) (by decide) (by decide) (Nat.le_of_ble_eq_true rfl) (Nat.le_of_ble_eq_true rfl) dX1_init_22 (fun q2 g2 H hK hP hD hS => ?_)
  have hP : va_P (dC, dI) vwCl [(h0, .inr (0, [.ref q0, .ref q1, .null, .null, .null, .null, .null, .int 0, .null, .null, .null, .null, .int 0])), (q0, .inl (g0, 4, .inl (mw_B (fun _ => false)))), (q1, .inl (g1, 20, .inl (mw_O (fun _ => some 0)))), (q2, .inl (g2, 20, .inl (mw_B (fun _ => false))))] H := hP
  have hD : va_D A [(h0, .inr (0, [.ref q0, .ref q1, .null, .null, .null, .null, .null, .int 0, .null, .null, .null, .null, .int 0])), (q0, .inl (g0, 4, .inl (mw_B (fun _ => false)))), (q1, .inl (g1, 20, .inl (mw_O (fun _ => some 0)))), (q2, .inl (g2, 20, .inl (mw_B (fun _ => false))))] := hD
  have hK : va_K (dC, dI) vwCl [(g0, .boolean), (g1, .byte), (g2, .boolean)] s := hK
  refine va_putF (D := (dC, dI)) (ci := 0) (v := .ref q2) (ty := .array .boolean) (C := RX1) (T := TX1) (N := 13) hx hb hts in_X1 tyX1 tyX1_ok nmX1 hown hK hP hD hS 0 rfl rfl 2 (by decide) (hts _ q26) (fun _ h9 => h9) rfl hin rfl (by decide +kernel) rfl rfl (Nat.le_of_ble_eq_true rfl) dX1_init_24 (fun H locs hP hD hS => ?_)
  have hP : va_P (dC, dI) vwCl [(h0, .inr (0, [.ref q0, .ref q1, .ref q2, .null, .null, .null, .null, .int 0, .null, .null, .null, .null, .int 0])), (q0, .inl (g0, 4, .inl (mw_B (fun _ => false)))), (q1, .inl (g1, 20, .inl (mw_O (fun _ => some 0)))), (q2, .inl (g2, 20, .inl (mw_B (fun _ => false))))] H := hP
  have hD : va_D A [(h0, .inr (0, [.ref q0, .ref q1, .ref q2, .null, .null, .null, .null, .int 0, .null, .null, .null, .null, .int 0])), (q0, .inl (g0, 4, .inl (mw_B (fun _ => false)))), (q1, .inl (g1, 20, .inl (mw_O (fun _ => some 0)))), (q2, .inl (g2, 20, .inl (mw_B (fun _ => false))))] := hD
  refine lv_aload_n hx hb dX1_init_27 rfl (lv_at hl 0 rfl) ?_
  refine lv_bipush (v := (nI 20)) hx hb dX1_init_28 (by decide) ?_
  refine va_newa (a0 := (20, .inl (mw_N (fun _ => 0)))) (N' := 20) (ty := .byte) (atype := .byte) hx hb (hts _ q65) rfl hK hP hD hS hA (fun cA => rfl) (by decide) (by decide) (by decide) (Nat.le_of_ble_eq_true rfl) (Nat.le_of_ble_eq_true rfl) dX1_init_30 (fun q3 g3 H hK hP hD hS => ?_)
  have hP : va_P (dC, dI) vwCl [(h0, .inr (0, [.ref q0, .ref q1, .ref q2, .null, .null, .null, .null, .int 0, .null, .null, .null, .null, .int 0])), (q0, .inl (g0, 4, .inl (mw_B (fun _ => false)))), (q1, .inl (g1, 20, .inl (mw_O (fun _ => some 0)))), (q2, .inl (g2, 20, .inl (mw_B (fun _ => false)))), (q3, .inl (g3, 20, .inl (mw_N (fun _ => 0))))] H := hP
  have hD : va_D A [(h0, .inr (0, [.ref q0, .ref q1, .ref q2, .null, .null, .null, .null, .int 0, .null, .null, .null, .null, .int 0])), (q0, .inl (g0, 4, .inl (mw_B (fun _ => false)))), (q1, .inl (g1, 20, .inl (mw_O (fun _ => some 0)))), (q2, .inl (g2, 20, .inl (mw_B (fun _ => false)))), (q3, .inl (g3, 20, .inl (mw_N (fun _ => 0))))] := hD
  have hK : va_K (dC, dI) vwCl [(g0, .boolean), (g1, .byte), (g2, .boolean), (g3, .byte)] s := hK
  refine va_putF (D := (dC, dI)) (ci := 0) (v := .ref q3) (ty := .array .byte) (C := RX1) (T := TX1) (N := 13) hx hb hts in_X1 tyX1 tyX1_ok nmX1 hown hK hP hD hS 0 rfl rfl 3 (by decide) (hts _ q27) (fun _ h9 => h9) rfl hin rfl (by decide +kernel) rfl rfl (Nat.le_of_ble_eq_true rfl) dX1_init_32 (fun H locs hP hD hS => ?_)
  have hP : va_P (dC, dI) vwCl [(h0, .inr (0, [.ref q0, .ref q1, .ref q2, .ref q3, .null, .null, .null, .int 0, .null, .null, .null, .null, .int 0])), (q0, .inl (g0, 4, .inl (mw_B (fun _ => false)))), (q1, .inl (g1, 20, .inl (mw_O (fun _ => some 0)))), (q2, .inl (g2, 20, .inl (mw_B (fun _ => false)))), (q3, .inl (g3, 20, .inl (mw_N (fun _ => 0))))] H := hP
  have hD : va_D A [(h0, .inr (0, [.ref q0, .ref q1, .ref q2, .ref q3, .null, .null, .null, .int 0, .null, .null, .null, .null, .int 0])), (q0, .inl (g0, 4, .inl (mw_B (fun _ => false)))), (q1, .inl (g1, 20, .inl (mw_O (fun _ => some 0)))), (q2, .inl (g2, 20, .inl (mw_B (fun _ => false)))), (q3, .inl (g3, 20, .inl (mw_N (fun _ => 0))))] := hD
  refine lv_aload_n hx hb dX1_init_35 rfl (lv_at hl 0 rfl) ?_
  refine lv_bipush (v := (nI 20)) hx hb dX1_init_36 (by decide) ?_
  refine va_newa (a0 := (20, .inl (mw_O (fun _ => some 0)))) (N' := 20) (ty := .byte) (atype := .byte) hx hb (hts _ q65) rfl hK hP hD hS hA (fun cA => rfl) (by decide) (by decide) (by decide) (Nat.le_of_ble_eq_true rfl) (Nat.le_of_ble_eq_true rfl) dX1_init_38 (fun q4 g4 H hK hP hD hS => ?_)
  have hP : va_P (dC, dI) vwCl [(h0, .inr (0, [.ref q0, .ref q1, .ref q2, .ref q3, .null, .null, .null, .int 0, .null, .null, .null, .null, .int 0])), (q0, .inl (g0, 4, .inl (mw_B (fun _ => false)))), (q1, .inl (g1, 20, .inl (mw_O (fun _ => some 0)))), (q2, .inl (g2, 20, .inl (mw_B (fun _ => false)))), (q3, .inl (g3, 20, .inl (mw_N (fun _ => 0)))), (q4, .inl (g4, 20, .inl (mw_O (fun _ => some 0))))] H := hP
  have hD : va_D A [(h0, .inr (0, [.ref q0, .ref q1, .ref q2, .ref q3, .null, .null, .null, .int 0, .null, .null, .null, .null, .int 0])), (q0, .inl (g0, 4, .inl (mw_B (fun _ => false)))), (q1, .inl (g1, 20, .inl (mw_O (fun _ => some 0)))), (q2, .inl (g2, 20, .inl (mw_B (fun _ => false)))), (q3, .inl (g3, 20, .inl (mw_N (fun _ => 0)))), (q4, .inl (g4, 20, .inl (mw_O (fun _ => some 0))))] := hD
  have hK : va_K (dC, dI) vwCl [(g0, .boolean), (g1, .byte), (g2, .boolean), (g3, .byte), (g4, .byte)] s := hK
  refine va_putF (D := (dC, dI)) (ci := 0) (v := .ref q4) (ty := .array .byte) (C := RX1) (T := TX1) (N := 13) hx hb hts in_X1 tyX1 tyX1_ok nmX1 hown hK hP hD hS 0 rfl rfl 4 (by decide) (hts _ q28) (fun _ h9 => h9) rfl hin rfl (by decide +kernel) rfl rfl (Nat.le_of_ble_eq_true rfl) dX1_init_40 (fun H locs hP hD hS => ?_)
  have hP : va_P (dC, dI) vwCl [(h0, .inr (0, [.ref q0, .ref q1, .ref q2, .ref q3, .ref q4, .null, .null, .int 0, .null, .null, .null, .null, .int 0])), (q0, .inl (g0, 4, .inl (mw_B (fun _ => false)))), (q1, .inl (g1, 20, .inl (mw_O (fun _ => some 0)))), (q2, .inl (g2, 20, .inl (mw_B (fun _ => false)))), (q3, .inl (g3, 20, .inl (mw_N (fun _ => 0)))), (q4, .inl (g4, 20, .inl (mw_O (fun _ => some 0))))] H := hP
  have hD : va_D A [(h0, .inr (0, [.ref q0, .ref q1, .ref q2, .ref q3, .ref q4, .null, .null, .int 0, .null, .null, .null, .null, .int 0])), (q0, .inl (g0, 4, .inl (mw_B (fun _ => false)))), (q1, .inl (g1, 20, .inl (mw_O (fun _ => some 0)))), (q2, .inl (g2, 20, .inl (mw_B (fun _ => false)))), (q3, .inl (g3, 20, .inl (mw_N (fun _ => 0)))), (q4, .inl (g4, 20, .inl (mw_O (fun _ => some 0))))] := hD
  refine lv_aload_n hx hb dX1_init_43 rfl (lv_at hl 0 rfl) ?_
  refine lv_bipush (v := (nI 20)) hx hb dX1_init_44 (by decide) ?_
  refine va_newa (a0 := (20, .inl (mw_B (fun _ => false)))) (N' := 20) (ty := .boolean) (atype := .boolean) hx hb (hts _ q64) rfl hK hP hD hS hA (fun cA => rfl) (by decide) (by decide) (by decide) (Nat.le_of_ble_eq_true rfl) (Nat.le_of_ble_eq_true rfl) dX1_init_46 (fun q5 g5 H hK hP hD hS => ?_)
  have hP : va_P (dC, dI) vwCl [(h0, .inr (0, [.ref q0, .ref q1, .ref q2, .ref q3, .ref q4, .null, .null, .int 0, .null, .null, .null, .null, .int 0])), (q0, .inl (g0, 4, .inl (mw_B (fun _ => false)))), (q1, .inl (g1, 20, .inl (mw_O (fun _ => some 0)))), (q2, .inl (g2, 20, .inl (mw_B (fun _ => false)))), (q3, .inl (g3, 20, .inl (mw_N (fun _ => 0)))), (q4, .inl (g4, 20, .inl (mw_O (fun _ => some 0)))), (q5, .inl (g5, 20, .inl (mw_B (fun _ => false))))] H := hP
  have hD : va_D A [(h0, .inr (0, [.ref q0, .ref q1, .ref q2, .ref q3, .ref q4, .null, .null, .int 0, .null, .null, .null, .null, .int 0])), (q0, .inl (g0, 4, .inl (mw_B (fun _ => false)))), (q1, .inl (g1, 20, .inl (mw_O (fun _ => some 0)))), (q2, .inl (g2, 20, .inl (mw_B (fun _ => false)))), (q3, .inl (g3, 20, .inl (mw_N (fun _ => 0)))), (q4, .inl (g4, 20, .inl (mw_O (fun _ => some 0)))), (q5, .inl (g5, 20, .inl (mw_B (fun _ => false))))] := hD
  have hK : va_K (dC, dI) vwCl [(g0, .boolean), (g1, .byte), (g2, .boolean), (g3, .byte), (g4, .byte), (g5, .boolean)] s := hK
  refine va_putF (D := (dC, dI)) (ci := 0) (v := .ref q5) (ty := .array .boolean) (C := RX1) (T := TX1) (N := 13) hx hb hts in_X1 tyX1 tyX1_ok nmX1 hown hK hP hD hS 0 rfl rfl 5 (by decide) (hts _ q29) (fun _ h9 => h9) rfl hin rfl (by decide +kernel) rfl rfl (Nat.le_of_ble_eq_true rfl) dX1_init_48 (fun H locs hP hD hS => ?_)
  have hP : va_P (dC, dI) vwCl [(h0, .inr (0, [.ref q0, .ref q1, .ref q2, .ref q3, .ref q4, .ref q5, .null, .int 0, .null, .null, .null, .null, .int 0])), (q0, .inl (g0, 4, .inl (mw_B (fun _ => false)))), (q1, .inl (g1, 20, .inl (mw_O (fun _ => some 0)))), (q2, .inl (g2, 20, .inl (mw_B (fun _ => false)))), (q3, .inl (g3, 20, .inl (mw_N (fun _ => 0)))), (q4, .inl (g4, 20, .inl (mw_O (fun _ => some 0)))), (q5, .inl (g5, 20, .inl (mw_B (fun _ => false))))] H := hP
  have hD : va_D A [(h0, .inr (0, [.ref q0, .ref q1, .ref q2, .ref q3, .ref q4, .ref q5, .null, .int 0, .null, .null, .null, .null, .int 0])), (q0, .inl (g0, 4, .inl (mw_B (fun _ => false)))), (q1, .inl (g1, 20, .inl (mw_O (fun _ => some 0)))), (q2, .inl (g2, 20, .inl (mw_B (fun _ => false)))), (q3, .inl (g3, 20, .inl (mw_N (fun _ => 0)))), (q4, .inl (g4, 20, .inl (mw_O (fun _ => some 0)))), (q5, .inl (g5, 20, .inl (mw_B (fun _ => false))))] := hD
  refine lv_aload_n hx hb dX1_init_51 rfl (lv_at hl 0 rfl) ?_
  refine lv_bipush (v := (nI 80)) hx hb dX1_init_52 (by decide) ?_
  refine va_newa (a0 := (80, .inl (fun _ => 0))) (N' := 80) (ty := .int) (atype := .int) hx hb (hts _ q66) rfl hK hP hD hS hA (fun cA => rfl) (by decide) (by decide) (by decide) (Nat.le_of_ble_eq_true rfl) (Nat.le_of_ble_eq_true rfl) dX1_init_54 (fun q6 g6 H hK hP hD hS => ?_)
  have hP : va_P (dC, dI) vwCl [(h0, .inr (0, [.ref q0, .ref q1, .ref q2, .ref q3, .ref q4, .ref q5, .null, .int 0, .null, .null, .null, .null, .int 0])), (q0, .inl (g0, 4, .inl (mw_B (fun _ => false)))), (q1, .inl (g1, 20, .inl (mw_O (fun _ => some 0)))), (q2, .inl (g2, 20, .inl (mw_B (fun _ => false)))), (q3, .inl (g3, 20, .inl (mw_N (fun _ => 0)))), (q4, .inl (g4, 20, .inl (mw_O (fun _ => some 0)))), (q5, .inl (g5, 20, .inl (mw_B (fun _ => false)))), (q6, .inl (g6, 80, .inl (fun _ => 0)))] H := hP
  have hD : va_D A [(h0, .inr (0, [.ref q0, .ref q1, .ref q2, .ref q3, .ref q4, .ref q5, .null, .int 0, .null, .null, .null, .null, .int 0])), (q0, .inl (g0, 4, .inl (mw_B (fun _ => false)))), (q1, .inl (g1, 20, .inl (mw_O (fun _ => some 0)))), (q2, .inl (g2, 20, .inl (mw_B (fun _ => false)))), (q3, .inl (g3, 20, .inl (mw_N (fun _ => 0)))), (q4, .inl (g4, 20, .inl (mw_O (fun _ => some 0)))), (q5, .inl (g5, 20, .inl (mw_B (fun _ => false)))), (q6, .inl (g6, 80, .inl (fun _ => 0)))] := hD
  have hK : va_K (dC, dI) vwCl [(g0, .boolean), (g1, .byte), (g2, .boolean), (g3, .byte), (g4, .byte), (g5, .boolean), (g6, .int)] s := hK
  refine va_putF (D := (dC, dI)) (ci := 0) (v := .ref q6) (ty := .array .int) (C := RX1) (T := TX1) (N := 13) hx hb hts in_X1 tyX1 tyX1_ok nmX1 hown hK hP hD hS 0 rfl rfl 6 (by decide) (hts _ q30) (fun _ h9 => h9) rfl hin rfl (by decide +kernel) rfl rfl (Nat.le_of_ble_eq_true rfl) dX1_init_56 (fun H locs hP hD hS => ?_)
  have hP : va_P (dC, dI) vwCl [(h0, .inr (0, [.ref q0, .ref q1, .ref q2, .ref q3, .ref q4, .ref q5, .ref q6, .int 0, .null, .null, .null, .null, .int 0])), (q0, .inl (g0, 4, .inl (mw_B (fun _ => false)))), (q1, .inl (g1, 20, .inl (mw_O (fun _ => some 0)))), (q2, .inl (g2, 20, .inl (mw_B (fun _ => false)))), (q3, .inl (g3, 20, .inl (mw_N (fun _ => 0)))), (q4, .inl (g4, 20, .inl (mw_O (fun _ => some 0)))), (q5, .inl (g5, 20, .inl (mw_B (fun _ => false)))), (q6, .inl (g6, 80, .inl (fun _ => 0)))] H := hP
  have hD : va_D A [(h0, .inr (0, [.ref q0, .ref q1, .ref q2, .ref q3, .ref q4, .ref q5, .ref q6, .int 0, .null, .null, .null, .null, .int 0])), (q0, .inl (g0, 4, .inl (mw_B (fun _ => false)))), (q1, .inl (g1, 20, .inl (mw_O (fun _ => some 0)))), (q2, .inl (g2, 20, .inl (mw_B (fun _ => false)))), (q3, .inl (g3, 20, .inl (mw_N (fun _ => 0)))), (q4, .inl (g4, 20, .inl (mw_O (fun _ => some 0)))), (q5, .inl (g5, 20, .inl (mw_B (fun _ => false)))), (q6, .inl (g6, 80, .inl (fun _ => 0)))] := hD
  refine lv_aload_n hx hb dX1_init_59 rfl (lv_at hl 0 rfl) ?_
  refine lv_bipush (v := (nI 6)) hx hb dX1_init_60 (by decide) ?_
  refine va_newa (a0 := (6, .inl (mw_O (fun _ => some 0)))) (N' := 6) (ty := .byte) (atype := .byte) hx hb (hts _ q65) rfl hK hP hD hS hA (fun cA => rfl) (by decide) (by decide) (by decide) (Nat.le_of_ble_eq_true rfl) (Nat.le_of_ble_eq_true rfl) dX1_init_62 (fun q8 g8 H hK hP hD hS => ?_)
  have hP : va_P (dC, dI) vwCl [(h0, .inr (0, [.ref q0, .ref q1, .ref q2, .ref q3, .ref q4, .ref q5, .ref q6, .int 0, .null, .null, .null, .null, .int 0])), (q0, .inl (g0, 4, .inl (mw_B (fun _ => false)))), (q1, .inl (g1, 20, .inl (mw_O (fun _ => some 0)))), (q2, .inl (g2, 20, .inl (mw_B (fun _ => false)))), (q3, .inl (g3, 20, .inl (mw_N (fun _ => 0)))), (q4, .inl (g4, 20, .inl (mw_O (fun _ => some 0)))), (q5, .inl (g5, 20, .inl (mw_B (fun _ => false)))), (q6, .inl (g6, 80, .inl (fun _ => 0))), (q8, .inl (g8, 6, .inl (mw_O (fun _ => some 0))))] H := hP
  have hD : va_D A [(h0, .inr (0, [.ref q0, .ref q1, .ref q2, .ref q3, .ref q4, .ref q5, .ref q6, .int 0, .null, .null, .null, .null, .int 0])), (q0, .inl (g0, 4, .inl (mw_B (fun _ => false)))), (q1, .inl (g1, 20, .inl (mw_O (fun _ => some 0)))), (q2, .inl (g2, 20, .inl (mw_B (fun _ => false)))), (q3, .inl (g3, 20, .inl (mw_N (fun _ => 0)))), (q4, .inl (g4, 20, .inl (mw_O (fun _ => some 0)))), (q5, .inl (g5, 20, .inl (mw_B (fun _ => false)))), (q6, .inl (g6, 80, .inl (fun _ => 0))), (q8, .inl (g8, 6, .inl (mw_O (fun _ => some 0))))] := hD
  have hK : va_K (dC, dI) vwCl [(g0, .boolean), (g1, .byte), (g2, .boolean), (g3, .byte), (g4, .byte), (g5, .boolean), (g6, .int), (g8, .byte)] s := hK
  refine va_putF (D := (dC, dI)) (ci := 0) (v := .ref q8) (ty := .array .byte) (C := RX1) (T := TX1) (N := 13) hx hb hts in_X1 tyX1 tyX1_ok nmX1 hown hK hP hD hS 0 rfl rfl 8 (by decide) (hts _ q32) (fun _ h9 => h9) rfl hin rfl (by decide +kernel) rfl rfl (Nat.le_of_ble_eq_true rfl) dX1_init_64 (fun H locs hP hD hS => ?_)
  have hP : va_P (dC, dI) vwCl [(h0, .inr (0, [.ref q0, .ref q1, .ref q2, .ref q3, .ref q4, .ref q5, .ref q6, .int 0, .ref q8, .null, .null, .null, .int 0])), (q0, .inl (g0, 4, .inl (mw_B (fun _ => false)))), (q1, .inl (g1, 20, .inl (mw_O (fun _ => some 0)))), (q2, .inl (g2, 20, .inl (mw_B (fun _ => false)))), (q3, .inl (g3, 20, .inl (mw_N (fun _ => 0)))), (q4, .inl (g4, 20, .inl (mw_O (fun _ => some 0)))), (q5, .inl (g5, 20, .inl (mw_B (fun _ => false)))), (q6, .inl (g6, 80, .inl (fun _ => 0))), (q8, .inl (g8, 6, .inl (mw_O (fun _ => some 0))))] H := hP
  have hD : va_D A [(h0, .inr (0, [.ref q0, .ref q1, .ref q2, .ref q3, .ref q4, .ref q5, .ref q6, .int 0, .ref q8, .null, .null, .null, .int 0])), (q0, .inl (g0, 4, .inl (mw_B (fun _ => false)))), (q1, .inl (g1, 20, .inl (mw_O (fun _ => some 0)))), (q2, .inl (g2, 20, .inl (mw_B (fun _ => false)))), (q3, .inl (g3, 20, .inl (mw_N (fun _ => 0)))), (q4, .inl (g4, 20, .inl (mw_O (fun _ => some 0)))), (q5, .inl (g5, 20, .inl (mw_B (fun _ => false)))), (q6, .inl (g6, 80, .inl (fun _ => 0))), (q8, .inl (g8, 6, .inl (mw_O (fun _ => some 0))))] := hD
  refine lv_aload_n hx hb dX1_init_67 rfl (lv_at hl 0 rfl) ?_
  refine lv_bipush (v := (nI 24)) hx hb dX1_init_68 (by decide) ?_
  refine va_newa (a0 := (24, .inl (fun _ => 0))) (N' := 24) (ty := .int) (atype := .int) hx hb (hts _ q66) rfl hK hP hD hS hA (fun cA => rfl) (by decide) (by decide) (by decide) (Nat.le_of_ble_eq_true rfl) (Nat.le_of_ble_eq_true rfl) dX1_init_70 (fun q9 g9 H hK hP hD hS => ?_)
  have hP : va_P (dC, dI) vwCl [(h0, .inr (0, [.ref q0, .ref q1, .ref q2, .ref q3, .ref q4, .ref q5, .ref q6, .int 0, .ref q8, .null, .null, .null, .int 0])), (q0, .inl (g0, 4, .inl (mw_B (fun _ => false)))), (q1, .inl (g1, 20, .inl (mw_O (fun _ => some 0)))), (q2, .inl (g2, 20, .inl (mw_B (fun _ => false)))), (q3, .inl (g3, 20, .inl (mw_N (fun _ => 0)))), (q4, .inl (g4, 20, .inl (mw_O (fun _ => some 0)))), (q5, .inl (g5, 20, .inl (mw_B (fun _ => false)))), (q6, .inl (g6, 80, .inl (fun _ => 0))), (q8, .inl (g8, 6, .inl (mw_O (fun _ => some 0)))), (q9, .inl (g9, 24, .inl (fun _ => 0)))] H := hP
  have hD : va_D A [(h0, .inr (0, [.ref q0, .ref q1, .ref q2, .ref q3, .ref q4, .ref q5, .ref q6, .int 0, .ref q8, .null, .null, .null, .int 0])), (q0, .inl (g0, 4, .inl (mw_B (fun _ => false)))), (q1, .inl (g1, 20, .inl (mw_O (fun _ => some 0)))), (q2, .inl (g2, 20, .inl (mw_B (fun _ => false)))), (q3, .inl (g3, 20, .inl (mw_N (fun _ => 0)))), (q4, .inl (g4, 20, .inl (mw_O (fun _ => some 0)))), (q5, .inl (g5, 20, .inl (mw_B (fun _ => false)))), (q6, .inl (g6, 80, .inl (fun _ => 0))), (q8, .inl (g8, 6, .inl (mw_O (fun _ => some 0)))), (q9, .inl (g9, 24, .inl (fun _ => 0)))] := hD
  have hK : va_K (dC, dI) vwCl [(g0, .boolean), (g1, .byte), (g2, .boolean), (g3, .byte), (g4, .byte), (g5, .boolean), (g6, .int), (g8, .byte), (g9, .int)] s := hK
  refine va_putF (D := (dC, dI)) (ci := 0) (v := .ref q9) (ty := .array .int) (C := RX1) (T := TX1) (N := 13) hx hb hts in_X1 tyX1 tyX1_ok nmX1 hown hK hP hD hS 0 rfl rfl 9 (by decide) (hts _ q33) (fun _ h9 => h9) rfl hin rfl (by decide +kernel) rfl rfl (Nat.le_of_ble_eq_true rfl) dX1_init_72 (fun H locs hP hD hS => ?_)
  have hP : va_P (dC, dI) vwCl [(h0, .inr (0, [.ref q0, .ref q1, .ref q2, .ref q3, .ref q4, .ref q5, .ref q6, .int 0, .ref q8, .ref q9, .null, .null, .int 0])), (q0, .inl (g0, 4, .inl (mw_B (fun _ => false)))), (q1, .inl (g1, 20, .inl (mw_O (fun _ => some 0)))), (q2, .inl (g2, 20, .inl (mw_B (fun _ => false)))), (q3, .inl (g3, 20, .inl (mw_N (fun _ => 0)))), (q4, .inl (g4, 20, .inl (mw_O (fun _ => some 0)))), (q5, .inl (g5, 20, .inl (mw_B (fun _ => false)))), (q6, .inl (g6, 80, .inl (fun _ => 0))), (q8, .inl (g8, 6, .inl (mw_O (fun _ => some 0)))), (q9, .inl (g9, 24, .inl (fun _ => 0)))] H := hP
  have hD : va_D A [(h0, .inr (0, [.ref q0, .ref q1, .ref q2, .ref q3, .ref q4, .ref q5, .ref q6, .int 0, .ref q8, .ref q9, .null, .null, .int 0])), (q0, .inl (g0, 4, .inl (mw_B (fun _ => false)))), (q1, .inl (g1, 20, .inl (mw_O (fun _ => some 0)))), (q2, .inl (g2, 20, .inl (mw_B (fun _ => false)))), (q3, .inl (g3, 20, .inl (mw_N (fun _ => 0)))), (q4, .inl (g4, 20, .inl (mw_O (fun _ => some 0)))), (q5, .inl (g5, 20, .inl (mw_B (fun _ => false)))), (q6, .inl (g6, 80, .inl (fun _ => 0))), (q8, .inl (g8, 6, .inl (mw_O (fun _ => some 0)))), (q9, .inl (g9, 24, .inl (fun _ => 0)))] := hD
  refine lv_aload_n hx hb dX1_init_75 rfl (lv_at hl 0 rfl) ?_
  refine lv_bipush (v := (nI 6)) hx hb dX1_init_76 (by decide) ?_
  refine va_newa (a0 := (6, .inl (mw_B (fun _ => false)))) (N' := 6) (ty := .boolean) (atype := .boolean) hx hb (hts _ q64) rfl hK hP hD hS hA (fun cA => rfl) (by decide) (by decide) (by decide) (Nat.le_of_ble_eq_true rfl) (Nat.le_of_ble_eq_true rfl) dX1_init_78 (fun q10 g10 H hK hP hD hS => ?_)
  have hP : va_P (dC, dI) vwCl [(h0, .inr (0, [.ref q0, .ref q1, .ref q2, .ref q3, .ref q4, .ref q5, .ref q6, .int 0, .ref q8, .ref q9, .null, .null, .int 0])), (q0, .inl (g0, 4, .inl (mw_B (fun _ => false)))), (q1, .inl (g1, 20, .inl (mw_O (fun _ => some 0)))), (q2, .inl (g2, 20, .inl (mw_B (fun _ => false)))), (q3, .inl (g3, 20, .inl (mw_N (fun _ => 0)))), (q4, .inl (g4, 20, .inl (mw_O (fun _ => some 0)))), (q5, .inl (g5, 20, .inl (mw_B (fun _ => false)))), (q6, .inl (g6, 80, .inl (fun _ => 0))), (q8, .inl (g8, 6, .inl (mw_O (fun _ => some 0)))), (q9, .inl (g9, 24, .inl (fun _ => 0))), (q10, .inl (g10, 6, .inl (mw_B (fun _ => false))))] H := hP
  have hD : va_D A [(h0, .inr (0, [.ref q0, .ref q1, .ref q2, .ref q3, .ref q4, .ref q5, .ref q6, .int 0, .ref q8, .ref q9, .null, .null, .int 0])), (q0, .inl (g0, 4, .inl (mw_B (fun _ => false)))), (q1, .inl (g1, 20, .inl (mw_O (fun _ => some 0)))), (q2, .inl (g2, 20, .inl (mw_B (fun _ => false)))), (q3, .inl (g3, 20, .inl (mw_N (fun _ => 0)))), (q4, .inl (g4, 20, .inl (mw_O (fun _ => some 0)))), (q5, .inl (g5, 20, .inl (mw_B (fun _ => false)))), (q6, .inl (g6, 80, .inl (fun _ => 0))), (q8, .inl (g8, 6, .inl (mw_O (fun _ => some 0)))), (q9, .inl (g9, 24, .inl (fun _ => 0))), (q10, .inl (g10, 6, .inl (mw_B (fun _ => false))))] := hD
  have hK : va_K (dC, dI) vwCl [(g0, .boolean), (g1, .byte), (g2, .boolean), (g3, .byte), (g4, .byte), (g5, .boolean), (g6, .int), (g8, .byte), (g9, .int), (g10, .boolean)] s := hK
  refine va_putF (D := (dC, dI)) (ci := 0) (v := .ref q10) (ty := .array .boolean) (C := RX1) (T := TX1) (N := 13) hx hb hts in_X1 tyX1 tyX1_ok nmX1 hown hK hP hD hS 0 rfl rfl 10 (by decide) (hts _ q34) (fun _ h9 => h9) rfl hin rfl (by decide +kernel) rfl rfl (Nat.le_of_ble_eq_true rfl) dX1_init_80 (fun H locs hP hD hS => ?_)
  have hP : va_P (dC, dI) vwCl [(h0, .inr (0, [.ref q0, .ref q1, .ref q2, .ref q3, .ref q4, .ref q5, .ref q6, .int 0, .ref q8, .ref q9, .ref q10, .null, .int 0])), (q0, .inl (g0, 4, .inl (mw_B (fun _ => false)))), (q1, .inl (g1, 20, .inl (mw_O (fun _ => some 0)))), (q2, .inl (g2, 20, .inl (mw_B (fun _ => false)))), (q3, .inl (g3, 20, .inl (mw_N (fun _ => 0)))), (q4, .inl (g4, 20, .inl (mw_O (fun _ => some 0)))), (q5, .inl (g5, 20, .inl (mw_B (fun _ => false)))), (q6, .inl (g6, 80, .inl (fun _ => 0))), (q8, .inl (g8, 6, .inl (mw_O (fun _ => some 0)))), (q9, .inl (g9, 24, .inl (fun _ => 0))), (q10, .inl (g10, 6, .inl (mw_B (fun _ => false))))] H := hP
  have hD : va_D A [(h0, .inr (0, [.ref q0, .ref q1, .ref q2, .ref q3, .ref q4, .ref q5, .ref q6, .int 0, .ref q8, .ref q9, .ref q10, .null, .int 0])), (q0, .inl (g0, 4, .inl (mw_B (fun _ => false)))), (q1, .inl (g1, 20, .inl (mw_O (fun _ => some 0)))), (q2, .inl (g2, 20, .inl (mw_B (fun _ => false)))), (q3, .inl (g3, 20, .inl (mw_N (fun _ => 0)))), (q4, .inl (g4, 20, .inl (mw_O (fun _ => some 0)))), (q5, .inl (g5, 20, .inl (mw_B (fun _ => false)))), (q6, .inl (g6, 80, .inl (fun _ => 0))), (q8, .inl (g8, 6, .inl (mw_O (fun _ => some 0)))), (q9, .inl (g9, 24, .inl (fun _ => 0))), (q10, .inl (g10, 6, .inl (mw_B (fun _ => false))))] := hD
  refine lv_aload_n hx hb dX1_init_83 rfl (lv_at hl 0 rfl) ?_
  refine lv_bipush (v := (nI 6)) hx hb dX1_init_84 (by decide) ?_
  refine va_newa (a0 := (6, .inl (mw_B (fun _ => false)))) (N' := 6) (ty := .boolean) (atype := .boolean) hx hb (hts _ q64) rfl hK hP hD hS hA (fun cA => rfl) (by decide) (by decide) (by decide) (Nat.le_of_ble_eq_true rfl) (Nat.le_of_ble_eq_true rfl) dX1_init_86 (fun q11 g11 H hK hP hD hS => ?_)
  have hP : va_P (dC, dI) vwCl [(h0, .inr (0, [.ref q0, .ref q1, .ref q2, .ref q3, .ref q4, .ref q5, .ref q6, .int 0, .ref q8, .ref q9, .ref q10, .null, .int 0])), (q0, .inl (g0, 4, .inl (mw_B (fun _ => false)))), (q1, .inl (g1, 20, .inl (mw_O (fun _ => some 0)))), (q2, .inl (g2, 20, .inl (mw_B (fun _ => false)))), (q3, .inl (g3, 20, .inl (mw_N (fun _ => 0)))), (q4, .inl (g4, 20, .inl (mw_O (fun _ => some 0)))), (q5, .inl (g5, 20, .inl (mw_B (fun _ => false)))), (q6, .inl (g6, 80, .inl (fun _ => 0))), (q8, .inl (g8, 6, .inl (mw_O (fun _ => some 0)))), (q9, .inl (g9, 24, .inl (fun _ => 0))), (q10, .inl (g10, 6, .inl (mw_B (fun _ => false)))), (q11, .inl (g11, 6, .inl (mw_B (fun _ => false))))] H := hP
  have hD : va_D A [(h0, .inr (0, [.ref q0, .ref q1, .ref q2, .ref q3, .ref q4, .ref q5, .ref q6, .int 0, .ref q8, .ref q9, .ref q10, .null, .int 0])), (q0, .inl (g0, 4, .inl (mw_B (fun _ => false)))), (q1, .inl (g1, 20, .inl (mw_O (fun _ => some 0)))), (q2, .inl (g2, 20, .inl (mw_B (fun _ => false)))), (q3, .inl (g3, 20, .inl (mw_N (fun _ => 0)))), (q4, .inl (g4, 20, .inl (mw_O (fun _ => some 0)))), (q5, .inl (g5, 20, .inl (mw_B (fun _ => false)))), (q6, .inl (g6, 80, .inl (fun _ => 0))), (q8, .inl (g8, 6, .inl (mw_O (fun _ => some 0)))), (q9, .inl (g9, 24, .inl (fun _ => 0))), (q10, .inl (g10, 6, .inl (mw_B (fun _ => false)))), (q11, .inl (g11, 6, .inl (mw_B (fun _ => false))))] := hD
  have hK : va_K (dC, dI) vwCl [(g0, .boolean), (g1, .byte), (g2, .boolean), (g3, .byte), (g4, .byte), (g5, .boolean), (g6, .int), (g8, .byte), (g9, .int), (g10, .boolean), (g11, .boolean)] s := hK
  refine va_putF (D := (dC, dI)) (ci := 0) (v := .ref q11) (ty := .array .boolean) (C := RX1) (T := TX1) (N := 13) hx hb hts in_X1 tyX1 tyX1_ok nmX1 hown hK hP hD hS 0 rfl rfl 11 (by decide) (hts _ q35) (fun _ h9 => h9) rfl hin rfl (by decide +kernel) rfl rfl (Nat.le_of_ble_eq_true rfl) dX1_init_88 (fun H locs hP hD hS => ?_)
  have hP : va_P (dC, dI) vwCl [(h0, .inr (0, [.ref q0, .ref q1, .ref q2, .ref q3, .ref q4, .ref q5, .ref q6, .int 0, .ref q8, .ref q9, .ref q10, .ref q11, .int 0])), (q0, .inl (g0, 4, .inl (mw_B (fun _ => false)))), (q1, .inl (g1, 20, .inl (mw_O (fun _ => some 0)))), (q2, .inl (g2, 20, .inl (mw_B (fun _ => false)))), (q3, .inl (g3, 20, .inl (mw_N (fun _ => 0)))), (q4, .inl (g4, 20, .inl (mw_O (fun _ => some 0)))), (q5, .inl (g5, 20, .inl (mw_B (fun _ => false)))), (q6, .inl (g6, 80, .inl (fun _ => 0))), (q8, .inl (g8, 6, .inl (mw_O (fun _ => some 0)))), (q9, .inl (g9, 24, .inl (fun _ => 0))), (q10, .inl (g10, 6, .inl (mw_B (fun _ => false)))), (q11, .inl (g11, 6, .inl (mw_B (fun _ => false))))] H := hP
  have hD : va_D A [(h0, .inr (0, [.ref q0, .ref q1, .ref q2, .ref q3, .ref q4, .ref q5, .ref q6, .int 0, .ref q8, .ref q9, .ref q10, .ref q11, .int 0])), (q0, .inl (g0, 4, .inl (mw_B (fun _ => false)))), (q1, .inl (g1, 20, .inl (mw_O (fun _ => some 0)))), (q2, .inl (g2, 20, .inl (mw_B (fun _ => false)))), (q3, .inl (g3, 20, .inl (mw_N (fun _ => 0)))), (q4, .inl (g4, 20, .inl (mw_O (fun _ => some 0)))), (q5, .inl (g5, 20, .inl (mw_B (fun _ => false)))), (q6, .inl (g6, 80, .inl (fun _ => 0))), (q8, .inl (g8, 6, .inl (mw_O (fun _ => some 0)))), (q9, .inl (g9, 24, .inl (fun _ => 0))), (q10, .inl (g10, 6, .inl (mw_B (fun _ => false)))), (q11, .inl (g11, 6, .inl (mw_B (fun _ => false))))] := hD
  refine W.widen (k := 11) (n := 226) (Nat.le_of_ble_eq_true rfl) (Nat.le_of_ble_eq_true rfl) ?_
  suffices hmain : ∀ (a : Nat → Nat) (d : Nat → ClassId), va_K (dC, dI) vwCl (mw_CK d) s → va_P (dC, dI) vwCl (mw_C h0 a d (fun _ => false) (fun _ => some 0) (fun _ => false) (fun _ => 0) (fun _ => some 0) (fun _ => false) (fun _ => 0) 0 (fun _ => some 0) (fun _ => 0) (fun _ => false) (fun _ => false) 0) H → va_D A (mw_C h0 a d (fun _ => false) (fun _ => some 0) (fun _ => false) (fun _ => 0) (fun _ => some 0) (fun _ => false) (fun _ => 0) 0 (fun _ => some 0) (fun _ => 0) (fun _ => false) (fun _ => false) 0) → W p l e ({ frames := 1, cells := 11, slots := 226, locals := 12 } : Room) s m ([.ref h0, .int xx] : List Value).toArray below meth c H locs 11 226 QQ (F0 m 91 ls []) from hmain (fun k => match k with | 0 => q0 | 1 => q1 | 2 => q2 | 3 => q3 | 4 => q4 | 5 => q5 | 6 => q6 | 8 => q8 | 9 => q9 | 10 => q10 | _ => q11) (fun k => match k with | 0 => g0 | 1 => g1 | 2 => g2 | 3 => g3 | 4 => g4 | 5 => g5 | 6 => g6 | 8 => g8 | 9 => g9 | 10 => g10 | _ => g11) hK hP hD
  clear hK hP hD
  intro a d hK hP hD
  refine lv_aload_n hx hb dX1_init_91 rfl (lv_at hl 0 rfl) ?_
  refine lv_iload_n hx hb dX1_init_92 rfl (lv_at hl 1 rfl) ?_
  refine lv_iconst (v := (nI 2)) hx hb dX1_init_93 (by decide) ?_
  have hjoin : ∀ Fv : Nat, 2 ≤ Fv → Fv ≤ 6 → W p l e ({ frames := 1, cells := 11, slots := 226, locals := 12 } : Room) s m ([.ref h0, .int xx] : List Value).toArray below meth c H locs 11 226 QQ (F0 m 113 ls [.int (nI Fv), .ref h0]) := by
    intro Fv hv2 hv6
    refine va_put (D := (dC, dI)) (ci := 0) (v := .int (nI Fv)) (ty := .int) (C := RX1) (T := TX1) (N := 13) hx hb hts in_X1 tyX1 tyX1_ok nmX1 hown hK hP hD hS 0 rfl rfl 7 (by decide) (hts _ q31) (fun _ h9 => h9) rfl (by decide +kernel) rfl rfl (Nat.le_of_ble_eq_true rfl) dX1_init_113 (fun H locs hP hD hS => ?_)
    have hP : va_P (dC, dI) vwCl (mw_C h0 a d (fun _ => false) (fun _ => some 0) (fun _ => false) (fun _ => 0) (fun _ => some 0) (fun _ => false) (fun _ => 0) Fv (fun _ => some 0) (fun _ => 0) (fun _ => false) (fun _ => false) 0) H := hP
    have hD : va_D A (mw_C h0 a d (fun _ => false) (fun _ => some 0) (fun _ => false) (fun _ => 0) (fun _ => some 0) (fun _ => false) (fun _ => 0) Fv (fun _ => some 0) (fun _ => 0) (fun _ => false) (fun _ => false) 0) := hD
    refine lv_aload_n hx hb dX1_init_116 rfl (lv_at hl 0 rfl) ?_
    refine va_get (D := (dC, dI)) (ci := 0) (v := .ref (a 0)) (C := RX1) (T := TX1) (N := 13) hx hb hts in_X1 hown hK hP 0 rfl rfl 0 (by decide) (hts _ q24) (fun _ h9 => h9) rfl dX1_init_117 ?_
    refine lv_iconst (v := (nI 0)) hx hb dX1_init_120 (by decide) ?_
    refine lv_iconst (v := (nI 1)) hx hb dX1_init_121 (by decide) ?_
    refine kw_zst (f' := mw_B (va_up (fun _ => false) 0 true)) hx hb hK hP hD hS 1 0 rfl rfl (by omega) (by decide) (mw_B_st1 _ _) dX1_init_122 (fun H locs hP hD hS => ?_)
    have hP : va_P (dC, dI) vwCl (mw_C h0 a d (va_up (fun _ => false) 0 true) (fun _ => some 0) (fun _ => false) (fun _ => 0) (fun _ => some 0) (fun _ => false) (fun _ => 0) Fv (fun _ => some 0) (fun _ => 0) (fun _ => false) (fun _ => false) 0) H := hP
    have hD : va_D A (mw_C h0 a d (va_up (fun _ => false) 0 true) (fun _ => some 0) (fun _ => false) (fun _ => 0) (fun _ => some 0) (fun _ => false) (fun _ => 0) Fv (fun _ => some 0) (fun _ => 0) (fun _ => false) (fun _ => false) 0) := hD
    refine lv_iconst (v := (nI 0)) hx hb dX1_init_123 (by decide) ?_
    refine lv_istore_n (lv' := [(2, .int (nI 0)), (0, .ref h0), (1, .int xx)]) hx hb dX1_init_124 rfl hl (by decide) rfl (fun ls hl => ?_)
    have lp : ∀ (n : Nat) (j : Nat), (j ≤ 20) → (20 - j) < n → ∀ (H : Heap) (locs : List Loc), va_P (dC, dI) vwCl (mw_C h0 a d (va_up (fun _ => false) 0 true) (mw_iN j) (fun _ => false) (fun _ => 0) (mw_iN j) (fun _ => false) (fun _ => 0) Fv (fun _ => some 0) (fun _ => 0) (fun _ => false) (fun _ => false) 0) H → va_D A (mw_C h0 a d (va_up (fun _ => false) 0 true) (mw_iN j) (fun _ => false) (fun _ => 0) (mw_iN j) (fun _ => false) (fun _ => 0) Fv (fun _ => some 0) (fun _ => 0) (fun _ => false) (fun _ => false) 0) → va_S A s.heap H locs → ∀ (ls : Array Slot), lv_has ls 3 [(2, .int (nI j)), (0, .ref h0), (1, .int xx)] → W p l e ({ frames := 1, cells := 11, slots := 226, locals := 12 } : Room) s m ([.ref h0, .int xx] : List Value).toArray below meth c H locs 11 226 QQ (F0 m 125 ls []) := by
      intro n
      induction n with
      | zero =>
        intro j hj hfuel
        exact absurd hfuel (by omega)
      | succ n ih =>
        intro j hj hfuel H locs hP hD hS ls hl
        refine lv_iload_n hx hb dX1_init_125 rfl (lv_at hl 0 rfl) ?_
        refine lv_bipush (v := (nI 20)) hx hb dX1_init_126 (by decide) ?_
        refine kw_ge (tgt := 151) hx hb (by omega) (by omega) dX1_init_128 (by decide) (fun c5 => ?_) (fun c5 => ?_)
        · obtain rfl : j = 20 := by omega
          refine lv_iconst (v := (nI 0)) hx hb dX1_init_151 (by decide) ?_
          refine lv_istore_n (lv' := [(2, .int (nI 0)), (0, .ref h0), (1, .int xx)]) hx hb dX1_init_152 rfl hl (by decide) rfl (fun ls hl => ?_)
          have lq : ∀ (n : Nat) (i : Nat), (i ≤ 6) → (6 - i) < n → ∀ (H : Heap) (locs : List Loc), va_P (dC, dI) vwCl (mw_C h0 a d (va_up (fun _ => false) 0 true) (mw_iN 20) (fun _ => false) (fun _ => 0) (mw_iN 20) (fun _ => false) (fun _ => 0) Fv (mw_iN i) (fun _ => 0) (fun _ => false) (fun _ => false) 0) H → va_D A (mw_C h0 a d (va_up (fun _ => false) 0 true) (mw_iN 20) (fun _ => false) (fun _ => 0) (mw_iN 20) (fun _ => false) (fun _ => 0) Fv (mw_iN i) (fun _ => 0) (fun _ => false) (fun _ => false) 0) → va_S A s.heap H locs → ∀ (ls : Array Slot), lv_has ls 3 [(2, .int (nI i)), (0, .ref h0), (1, .int xx)] → W p l e ({ frames := 1, cells := 11, slots := 226, locals := 12 } : Room) s m ([.ref h0, .int xx] : List Value).toArray below meth c H locs 11 226 QQ (F0 m 153 ls []) := by
            intro n
            induction n with
            | zero =>
              intro i hi hfuel
              exact absurd hfuel (by omega)
            | succ n ih =>
              intro i hi hfuel H locs hP hD hS ls hl
              refine lv_iload_n hx hb dX1_init_153 rfl (lv_at hl 0 rfl) ?_
              refine lv_bipush (v := (nI 6)) hx hb dX1_init_154 (by decide) ?_
              refine kw_ge (tgt := 172) hx hb (by omega) (by omega) dX1_init_156 (by decide) (fun c6 => ?_) (fun c6 => ?_)
              · obtain rfl : i = 6 := by omega
                rw [hQQ]
                exact W.vret hx hb hr (fun t9 ht9 hW9 => ⟨⟨Fv, rfl, ⟨hv2, hv6⟩, a, d, by rw [ht9]; exact hP, va_K.moved hW9.alike hK, hD⟩, hS.F ht9⟩) hS.2.2 dX1_init_172
              refine lv_aload_n hx hb dX1_init_159 rfl (lv_at hl 1 rfl) ?_
              refine va_get (D := (dC, dI)) (ci := 0) (v := .ref (a 8)) (C := RX1) (T := TX1) (N := 13) hx hb hts in_X1 hown hK hP 0 rfl rfl 8 (by decide) (hts _ q32) (fun _ h9 => h9) rfl dX1_init_160 ?_
              refine lv_iload_n hx hb dX1_init_163 rfl (lv_at hl 0 rfl) ?_
              refine lv_iconst (v := (-1)) hx hb dX1_init_164 (by decide) ?_
              refine kw_bst (f' := mw_O (mw_iN (i + 1))) hx hb hK hP hD hS 8 7 rfl rfl (by omega) (by decide) ((mw_O_stN _ _).trans (congrArg mw_O (mw_iN_s i))) dX1_init_165 (fun H locs hP hD hS => ?_)
              have hP : va_P (dC, dI) vwCl (mw_C h0 a d (va_up (fun _ => false) 0 true) (mw_iN 20) (fun _ => false) (fun _ => 0) (mw_iN 20) (fun _ => false) (fun _ => 0) Fv (mw_iN (i + 1)) (fun _ => 0) (fun _ => false) (fun _ => false) 0) H := hP
              have hD : va_D A (mw_C h0 a d (va_up (fun _ => false) 0 true) (mw_iN 20) (fun _ => false) (fun _ => 0) (mw_iN 20) (fun _ => false) (fun _ => 0) Fv (mw_iN (i + 1)) (fun _ => 0) (fun _ => false) (fun _ => false) 0) := hD
              refine lv_iinc (v := (nI (i + 1))) (lv' := [(2, .int (nI (i + 1))), (0, .ref h0), (1, .int xx)]) hx hb dX1_init_166 hl (k := 0) rfl (mw_inc1 _) (by decide) rfl (fun ls hl => ?_)
              refine lv_goto (tgt := 153) hx hb dX1_init_169 (by decide) ?_
              exact ih (i + 1) (by omega) (by omega) _ _ hP hD hS ls (lv_sub hl [0, 1, 2] rfl)
          have hP : va_P (dC, dI) vwCl (mw_C h0 a d (va_up (fun _ => false) 0 true) (mw_iN 20) (fun _ => false) (fun _ => 0) (mw_iN 20) (fun _ => false) (fun _ => 0) Fv (mw_iN 0) (fun _ => 0) (fun _ => false) (fun _ => false) 0) H := by rw [mw_iN_0]; exact hP
          have hD : va_D A (mw_C h0 a d (va_up (fun _ => false) 0 true) (mw_iN 20) (fun _ => false) (fun _ => 0) (mw_iN 20) (fun _ => false) (fun _ => 0) Fv (mw_iN 0) (fun _ => 0) (fun _ => false) (fun _ => false) 0) := by rw [mw_iN_0]; exact hD
          exact lq 7 0 (by omega) (by omega) _ _ hP hD hS ls (lv_sub hl [0, 1, 2] rfl)
        refine lv_aload_n hx hb dX1_init_131 rfl (lv_at hl 1 rfl) ?_
        refine va_get (D := (dC, dI)) (ci := 0) (v := .ref (a 1)) (C := RX1) (T := TX1) (N := 13) hx hb hts in_X1 hown hK hP 0 rfl rfl 1 (by decide) (hts _ q25) (fun _ h9 => h9) rfl dX1_init_132 ?_
        refine lv_iload_n hx hb dX1_init_135 rfl (lv_at hl 0 rfl) ?_
        refine lv_iconst (v := (-1)) hx hb dX1_init_136 (by decide) ?_
        refine kw_bst (f' := mw_O (mw_iN (j + 1))) hx hb hK hP hD hS 2 1 rfl rfl (by omega) (by decide) ((mw_O_stN _ _).trans (congrArg mw_O (mw_iN_s j))) dX1_init_137 (fun H locs hP hD hS => ?_)
        have hP : va_P (dC, dI) vwCl (mw_C h0 a d (va_up (fun _ => false) 0 true) (mw_iN (j + 1)) (fun _ => false) (fun _ => 0) (mw_iN j) (fun _ => false) (fun _ => 0) Fv (fun _ => some 0) (fun _ => 0) (fun _ => false) (fun _ => false) 0) H := hP
        have hD : va_D A (mw_C h0 a d (va_up (fun _ => false) 0 true) (mw_iN (j + 1)) (fun _ => false) (fun _ => 0) (mw_iN j) (fun _ => false) (fun _ => 0) Fv (fun _ => some 0) (fun _ => 0) (fun _ => false) (fun _ => false) 0) := hD
        refine lv_aload_n hx hb dX1_init_138 rfl (lv_at hl 1 rfl) ?_
        refine va_get (D := (dC, dI)) (ci := 0) (v := .ref (a 4)) (C := RX1) (T := TX1) (N := 13) hx hb hts in_X1 hown hK hP 0 rfl rfl 4 (by decide) (hts _ q28) (fun _ h9 => h9) rfl dX1_init_139 ?_
        refine lv_iload_n hx hb dX1_init_142 rfl (lv_at hl 0 rfl) ?_
        refine lv_iconst (v := (-1)) hx hb dX1_init_143 (by decide) ?_
        refine kw_bst (f' := mw_O (mw_iN (j + 1))) hx hb hK hP hD hS 5 4 rfl rfl (by omega) (by decide) ((mw_O_stN _ _).trans (congrArg mw_O (mw_iN_s j))) dX1_init_144 (fun H locs hP hD hS => ?_)
        have hP : va_P (dC, dI) vwCl (mw_C h0 a d (va_up (fun _ => false) 0 true) (mw_iN (j + 1)) (fun _ => false) (fun _ => 0) (mw_iN (j + 1)) (fun _ => false) (fun _ => 0) Fv (fun _ => some 0) (fun _ => 0) (fun _ => false) (fun _ => false) 0) H := hP
        have hD : va_D A (mw_C h0 a d (va_up (fun _ => false) 0 true) (mw_iN (j + 1)) (fun _ => false) (fun _ => 0) (mw_iN (j + 1)) (fun _ => false) (fun _ => 0) Fv (fun _ => some 0) (fun _ => 0) (fun _ => false) (fun _ => false) 0) := hD
        refine lv_iinc (v := (nI (j + 1))) (lv' := [(2, .int (nI (j + 1))), (0, .ref h0), (1, .int xx)]) hx hb dX1_init_145 hl (k := 0) rfl (mw_inc1 _) (by decide) rfl (fun ls hl => ?_)
        refine lv_goto (tgt := 125) hx hb dX1_init_148 (by decide) ?_
        exact ih (j + 1) (by omega) (by omega) _ _ hP hD hS ls (lv_sub hl [0, 1, 2] rfl)
    have hP : va_P (dC, dI) vwCl (mw_C h0 a d (va_up (fun _ => false) 0 true) (mw_iN 0) (fun _ => false) (fun _ => 0) (mw_iN 0) (fun _ => false) (fun _ => 0) Fv (fun _ => some 0) (fun _ => 0) (fun _ => false) (fun _ => false) 0) H := by rw [mw_iN_0]; exact hP
    have hD : va_D A (mw_C h0 a d (va_up (fun _ => false) 0 true) (mw_iN 0) (fun _ => false) (fun _ => 0) (mw_iN 0) (fun _ => false) (fun _ => 0) Fv (fun _ => some 0) (fun _ => 0) (fun _ => false) (fun _ => false) 0) := by rw [mw_iN_0]; exact hD
    exact lp 21 0 (by omega) (by omega) _ _ hP hD hS ls (lv_sub hl [0, 1, 2] rfl)
  refine lv_icmp_ge (tgt := 101) hx hb dX1_init_94 (by decide) (fun c1 => ?_) (fun c1 => ?_)
  · refine lv_iload_n hx hb dX1_init_101 rfl (lv_at hl 1 rfl) ?_
    refine lv_bipush (v := (nI 6)) hx hb dX1_init_102 (by decide) ?_
    refine kw_leI (tgt := 112) hx hb dX1_init_104 (by decide) (fun c2 => ?_) (fun c2 => ?_)
    · obtain ⟨F1, h2, h6, rfl⟩ := mw_rng2 c1 c2
      refine lv_iload_n hx hb dX1_init_112 rfl (lv_at hl 1 rfl) ?_
      exact hjoin F1 h2 h6
    refine lv_bipush (v := (nI 6)) hx hb dX1_init_107 (by decide) ?_
    refine lv_goto (tgt := 113) hx hb dX1_init_109 (by decide) ?_
    exact hjoin 6 (by decide) (by decide)
  refine lv_iconst (v := (nI 2)) hx hb dX1_init_97 (by decide) ?_
  refine lv_goto (tgt := 113) hx hb dX1_init_98 (by decide) ?_
  exact hjoin 2 (by decide) (by decide)
end
section
/-! THE CLAIM OUT OF ONE WALK OF THE LAW'S BODY. Your part is whole_start (and what it stands on); all else here is the same for every law, but numbers. -/
def R_law : String := "CowMemoryLaw"
def lw_P (b : Addr) (xs : List Int32) (args : Array Value) (s : State) : Prop := args = #[.ref b] ∧ s.IntsAt b xs ∧ xs.length ≤ 257 ∧ (Jvm.Cond.and given_1 narrow_1).before args s = true
def lw_Q (_ : Array Value) (s : State) (o : Outcome) (t : State) : Prop := o = .returned (some (.int 1)) ∧ Framed s o t [] 600000 7290000
def lw_Z (below : List Frame) (a : Array Value) (s : State) : State → Prop := fun t => ∃ o, t.status = .running ∧ Ended t below o ∧ lw_Q a s o t
/-- the law's own end, with 1 on the stack, nothing written that was there before, its room as the claim has it -/
theorem lw_ret {p : Program} {l : Launch} {e : Env} {s : State} {m : MethodId} {below : List Frame} {meth : Method} {c : Code} {b : Nat} (hx : p.tables.exec = Jvm.exec) (hb : c.code = code) (hr : meth.sig.returnType = ret) (hlocks : meth.locks = false) {pc : Nat} {H : Heap} {ls : Array Slot} (hdg : decode code pc = .ok (.ireturn, 1)) : W p l e room_1 s m #[Value.ref b] below meth c H [] 600000 7290000 (lw_Z below #[Value.ref b] s) (F0 m pc ls [.int 1]) := by
  intro T hT X
  obtain ⟨fs, hret, hrun, hended, hW, hframe⟩ := X.leave (v := some (.int 1)) (hlocks := hlocks) (fun h => by rw [hr] at h; cases h)
  have hmeth' : T.vm.method? m = some meth := X.method'
  refine ⟨T.setFrames fs, ?_, .returned (some (.int 1)), hrun, hended, rfl, ⟨_, rfl⟩, hW, hframe⟩
  jvm_step X.here [X.here.top, hx, hb, hdg, hmeth', hr, ret, narrow_b1]
  (try refine ⟨rfl, ?_⟩); (try refine ⟨rfl, ?_⟩)
  first | (intro acts; rw [hret _ acts rfl rfl rfl]) | rw [hret _ _ rfl rfl rfl]
  exact Steps.refl _
/-- what holds at the law's entry: the machine, the code, the tables' words (any of lw_tbl by 'hts w (by decide +kernel)'), the script of L ints xs at the cell b, what the Statement gives of the start (any of its parts by flat_of_before) -/
def lw_At (p : Program) (s : State) (m : MethodId) (meth : Method) (c : Code) (b L : Nat) (xs : Nat → Int32) : Prop :=
  p.tables.exec = Jvm.exec ∧ c.code = code ∧ meth.sig.returnType = ret ∧ c.maxLocals = 4 ∧ s.vm.findClass R_law = some m.cls ∧ (∀ w ∈ lw_tbl, w.before #[Value.ref b] s = true) ∧ va_X b L xs s s.heap ∧ b < s.heap.size ∧ meth.locks = false ∧ (Jvm.Cond.and given_1 narrow_1).before #[Value.ref b] s = true
/-! THE LAW -/
section LWS
variable {p : Program} {l : Launch} {e : Env} {R : Room} {s : State} {m : MethodId} {args : Array Value} {below : List Frame} {meth : Method} {c : Code} {H : Heap} {locs : List Loc} {cells slots : Nat} {Q : State → Prop}
variable {cc : ByteArray} {pc : Nat} {ls : Array Slot} {rest : List Value} {A : Nat → Prop} {H0 : Heap}
theorem kw_sld (hexec : p.tables.exec = Jvm.exec) (hb : c.code = cc) {b L : Nat} {xs : Nat → Int32} (hX : va_X b L xs s H0) (hbl : b < H0.size) (hbA : ¬ A b) (hS : va_S A H0 H locs) {j : Nat} (hj : j < L) (hL : L < 2 ^ 31) (hdg : decode cc pc = .ok (.iaload, 1))
    (kk : W p l e R s m args below meth c H locs cells slots Q (F0 m (pc + 1) ls (.int (xs j) :: rest))) : W p l e R s m args below meth c H locs cells slots Q (F0 m pc ls (.int (nI j) :: .ref b :: rest)) := by
  refine va_sld hexec hb hX hbl hbA hS (vp_in_nI hj hL) hdg ?_
  rw [nI_clamp (Nat.lt_trans hj hL)]
  exact kk
end LWS
theorem mw_lp {i L : Nat} (hi : i < 1000) (hL : L < 1000) (h : ¬ nI L - nI 4 < nI i) : i + 4 ≤ L := by
  rcases Nat.lt_or_ge L (i + 4) with q | q
  · refine absurd ?_ h
    rw [Int32.lt_iff_toInt_lt, pk_sub_toInt (by omega) (by decide), nI_toInt (by omega)]
    omega
  · exact q
set_option maxHeartbeats 4000000 in
set_option maxRecDepth 100000 in
/-- the law's own cell(script, 0): some int; nothing is changed -/
theorem mX0_cell (l : Launch) (b L : Nat) (xs : Nat → Int32) (sz : Nat) (hL : L ≤ 257) : Met l yX0_cell (ws_ yX0_cell cX0_cell 2 (some .int)) ({ frames := 0, cells := 0, slots := 0, locals := 0 } : Room) (va_Pc [.ref b, .int (nI 0)] (fun U => U.heap.size = sz ∧ va_X b L xs U U.heap ∧ b < U.heap.size)) (va_Qi (fun (_ : Int32) (_ : Unit) => True) (fun (_ : Unit) (_ : State) => True) (va_A [] sz)) 0 0 (va_A [] sz) := by
  refine Met.ofW (cc := cX0_cell) (maxL := 2) (ret := (some .int)) (by decide) rfl ?_
  intro p e s m args below meth c s₁ B hml hv
  obtain ⟨rfl, hsz, hX, hbl⟩ := hv
  have hx := B.exec
  have hb := B.bytes
  have hr := B.returns
  have hlocks := B.notSynchronized
  subst hsz
  have hbA : ¬ va_A [] s.heap.size b := by
    rintro (⟨k, e, h⟩ | h)
    · simp at h
    · omega
  have hS : va_S (va_A [] s.heap.size) s.heap s.heap [] := va_S.rf
  have hl := lv_entry ([.ref b, .int (nI 0)]) (n := 2) (Nat.le_of_ble_eq_true rfl)
  rw [lg_entry_eq]
  generalize (lg_sl ([.ref b, .int (nI 0)]) ++ List.replicate (2 - (lg_sl ([.ref b, .int (nI 0)])).length) Slot.unset).toArray = ls at hl ⊢
  have hl : lv_has ls 2 [(0, .ref b), (1, .int (nI 0))] := hl
  refine lv_iload_n hx hb dX0_cell_0 rfl (lv_at hl 1 rfl) ?_
  refine lv_aload_n hx hb dX0_cell_1 rfl (lv_at hl 0 rfl) ?_
  refine va_slen hx hb hX hbl hbA hS dX0_cell_2 ?_
  refine W.eq (g2 := F0 m 3 ls [.int (nI L), .int (nI 0)]) rfl ?_
  refine kw_ge (tgt := 12) hx hb (by decide) (by omega) dX0_cell_3 (by decide) (fun c1 => ?_) (fun c1 => ?_)
  · refine lv_iconst (v := nI 0) hx hb dX0_cell_12 (by decide) ?_
    exact W.iret (v := nI 0) hx hb hr (fun t ht hW => ⟨⟨_, (), rfl, trivial, trivial⟩, hS.F ht⟩) hS.2.2 dX0_cell_13
  · refine lv_aload_n hx hb dX0_cell_6 rfl (lv_at hl 0 rfl) ?_
    refine lv_iload_n hx hb dX0_cell_7 rfl (lv_at hl 1 rfl) ?_
    refine kw_sld (j := 0) hx hb hX hbl hbA hS c1 (by omega) dX0_cell_8 ?_
    refine lv_goto (tgt := 13) hx hb dX0_cell_9 (by decide) ?_
    exact W.iret (v := xs 0) hx hb hr (fun t ht hW => ⟨⟨_, (), rfl, trivial, trivial⟩, hS.F ht⟩) hS.2.2 dX0_cell_13
set_option maxHeartbeats 16000000 in
set_option maxRecDepth 100000 in
/-- THE LAW'S LOOP: the class and the reference in step -/
theorem law_loop {p : Program} {l : Launch} {e : Env} {s : State} {m : MethodId} {below : List Frame} {meth : Method} {c : Code} {dC : Nat → ClassId} {dI : Nat → Nat → Nat} {b L : Nat} {xs : Nat → Int32} (hL : L ≤ 257) (C0 : lw_At p s m meth c b L xs) (q0 q1 : Nat) (a a2 : Nat → Nat) (d d2 : Nat → ClassId) (F : Nat) (hK : va_K (dC, dI) vwCl (mw_CK d ++ mw_MK d2) s) :
    ∀ (n i : Nat) (al : Nat → Bool) (sh : Nat → Option Nat) (is : Nat → Bool) (us : Nat → Nat) (fo : Nat → Option Nat) (sw : Nat → Bool) (sc : Nat → Int32) (ho : Nat → Option Nat) (fr : Nat → Int32) (to : Nat → Bool) (di : Nat → Bool) (ha : Nat) (ma : Nat → Bool) (ms : Nat → Option Nat) (mo : Nat → Bool) (mc : Nat → Int32), i < 1000 → L - i < n → mw_I al sh is us fo sw sc F ho fr di ha (ma, ms, mo, mc) → ∀ (H : Heap) (locs : List Loc), va_P (dC, dI) vwCl (mw_C q0 a d al sh is us fo sw sc F ho fr to di ha ++ mw_M q1 a2 d2 ma ms mo mc) H → va_D (fun q : Nat => s.heap.size ≤ q) (mw_C q0 a d al sh is us fo sw sc F ho fr to di ha ++ mw_M q1 a2 d2 ma ms mo mc) → va_S (fun q : Nat => s.heap.size ≤ q) s.heap H locs → ∀ (ls : Array Slot), lv_has ls 4 [(3, .int (nI i)), (2, .ref q1), (1, .ref q0), (0, .ref b)] → W p l e room_1 s m #[Value.ref b] below meth c H locs 17 367 (lw_Z below #[Value.ref b] s) (F0 m 28 ls []) := by
  obtain ⟨hx, hb, hr, hml, hown, hts0, hX, hbl, hlocks, hgv⟩ := C0
  have hts : ∀ w ∈ lw_all, w.before #[Value.ref b] s = true := fun w h => hts0 w (lw_all_tbl h)
  have hA : ∀ q : Nat, s.heap.size ≤ q → (fun q : Nat => s.heap.size ≤ q) q := fun _ h => h
  have hbA : ¬ (fun q : Nat => s.heap.size ≤ q) b := Nat.not_le.mpr hbl
  intro n
  induction n with
  | zero =>
    intro i al sh is us fo sw sc ho fr to di ha ma ms mo mc h1 h2
    exact absurd h2 (by omega)
  | succ n ih =>
    intro i al sh is us fo sw sc ho fr to di ha ma ms mo mc hi hfuel hI H locs hP hD hS ls hl
    obtain ⟨hU, hZ, hA0, vl, hL0, hR⟩ := id hI
    have hM := mw_R_ms hR
    have hZM : ∀ p k, p < 4 → k < 5 → ma p = false → ms (5 * p + k) = none := fun p k hp hk q => hR.1 _ (by omega) (hZ p k hp hk (by rw [hA0 p hp]; exact q))
    refine lv_iload_n hx hb dL_law_28 rfl (lv_at hl 0 rfl) ?_
    refine lv_aload_n hx hb dL_law_29 rfl (lv_at hl 3 rfl) ?_
    refine va_slen hx hb hX hbl hbA hS dL_law_30 ?_
    refine W.eq (g2 := F0 m 31 ls [.int (nI L), .int (nI i)]) rfl ?_
    refine lv_iconst (v := (nI 4)) hx hb dL_law_31 (by decide) ?_
    refine lv_isub hx hb dL_law_32 ?_
    refine lv_icmp_gt (tgt := 456) hx hb dL_law_33 (by decide) (fun c1 => ?_) (fun c1 => ?_)
    · refine lv_iconst (v := (nI 1)) hx hb dL_law_456 (by decide) ?_
      refine va_forget (fun q hq => hS.2.2 q hq) ?_
      refine W.widen (k := 600000) (n := 7290000) (Nat.le_of_ble_eq_true rfl) (Nat.le_of_ble_eq_true rfl) ?_
      exact lw_ret hx hb hr hlocks dL_law_457
    have hiL : i + 4 ≤ L := mw_lp hi (by omega) c1
    have hnext : ∀ (al : Nat → Bool) (sh : Nat → Option Nat) (is : Nat → Bool) (us : Nat → Nat) (fo : Nat → Option Nat) (sw : Nat → Bool) (sc : Nat → Int32) (ho : Nat → Option Nat) (fr : Nat → Int32) (to : Nat → Bool) (di : Nat → Bool) (ha : Nat) (ma : Nat → Bool) (ms : Nat → Option Nat) (mo : Nat → Bool) (mc : Nat → Int32), mw_I al sh is us fo sw sc F ho fr di ha (ma, ms, mo, mc) → ∀ (H : Heap) (locs : List Loc), va_P (dC, dI) vwCl (mw_C q0 a d al sh is us fo sw sc F ho fr to di ha ++ mw_M q1 a2 d2 ma ms mo mc) H → va_D (fun q : Nat => s.heap.size ≤ q) (mw_C q0 a d al sh is us fo sw sc F ho fr to di ha ++ mw_M q1 a2 d2 ma ms mo mc) → va_S (fun q : Nat => s.heap.size ≤ q) s.heap H locs → W p l e room_1 s m #[Value.ref b] below meth c H locs 17 367 (lw_Z below #[Value.ref b] s) (F0 m 450 ls []) := by
      intro al sh is us fo sw sc ho fr to di ha ma ms mo mc hI H locs hP hD hS
      refine lv_iinc (v := (nI (i + 4))) (lv' := [(3, .int (nI (i + 4))), (2, .ref q1), (1, .ref q0), (0, .ref b)]) hx hb dL_law_450 hl (k := 0) rfl (mw_inc4 _) (by decide) rfl (fun ls hl => ?_)
      refine lv_goto (tgt := 28) hx hb dL_law_453 (by decide) ?_
      exact ih (i + 4) al sh is us fo sw sc ho fr to di ha ma ms mo mc (by omega) (by omega) hI H locs hP hD hS ls hl
    refine lv_aload_n hx hb dL_law_36 rfl (lv_at hl 3 rfl) ?_
    refine lv_iload_n hx hb dL_law_37 rfl (lv_at hl 0 rfl) ?_
    refine kw_sld (j := i) hx hb hX hbl hbA hS (by omega) (by omega) dL_law_38 ?_
    refine lv_bipush (v := (nI 15)) hx hb dL_law_39 (by decide) ?_
    refine lv_iand hx hb dL_law_41 ?_
    obtain ⟨sj, hsj, hse⟩ := pk_andE (xs i) (m := nI 15) 4 (by decide)
    rw [hse]
    rcases (show sj = 0 ∨ sj = 1 ∨ sj = 2 ∨ sj = 3 ∨ sj = 4 ∨ sj = 5 ∨ sj = 6 ∨ sj = 7 ∨ sj = 8 ∨ sj = 9 ∨ sj = 10 ∨ 11 ≤ sj by omega) with rfl | rfl | rfl | rfl | rfl | rfl | rfl | rfl | rfl | rfl | rfl | hge
    · refine lv_tableIn (off := 58) (tgt := 100) hx hb dL_law_42 (by decide) (by decide) (by decide) (by decide) ?_
      refine lv_aload_n hx hb dL_law_100 rfl (lv_at hl 2 rfl) ?_
      refine lv_aload_n hx hb dL_law_101 rfl (lv_at hl 3 rfl) ?_
      refine lv_iload_n hx hb dL_law_102 rfl (lv_at hl 0 rfl) ?_
      refine lv_iconst (v := (nI 1)) hx hb dL_law_103 (by decide) ?_
      refine kw_add hx hb dL_law_104 ?_
      refine kw_sld (j := i + 1) hx hb hX hbl hbA hS (by omega) (by omega) dL_law_105 ?_
      refine lv_aload_n hx hb dL_law_106 rfl (lv_at hl 3 rfl) ?_
      refine lv_iload_n hx hb dL_law_107 rfl (lv_at hl 0 rfl) ?_
      refine lv_iconst (v := (nI 2)) hx hb dL_law_108 (by decide) ?_
      refine kw_add hx hb dL_law_109 ?_
      refine kw_sld (j := i + 2) hx hb hX hbl hbA hS (by omega) (by omega) dL_law_110 ?_
      refine lv_aload_n hx hb dL_law_111 rfl (lv_at hl 3 rfl) ?_
      refine lv_iload_n hx hb dL_law_112 rfl (lv_at hl 0 rfl) ?_
      refine lv_iconst (v := (nI 3)) hx hb dL_law_113 (by decide) ?_
      refine kw_add hx hb dL_law_114 ?_
      refine kw_sld (j := i + 3) hx hb hX hbl hbA hS (by omega) (by omega) dL_law_115 ?_
      refine lv_if_eq (tgt := 123) hx hb dL_law_116 (by decide) (fun c5 => ?_) (fun c5 => ?_)
      · refine lv_iconst (v := (mw_ob false)) hx hb dL_law_123 (by decide) ?_
        have hPc := hP.sub (ws' := (mw_C q0 a d al sh is us fo sw sc F ho fr to di ha)) [0, 1, 2, 3, 4, 5, 6, 7, 8, 9, 10, 11] rfl
        have hDc := hD.sub (ws' := (mw_C q0 a d al sh is us fo sw sc F ho fr to di ha)) [0, 1, 2, 3, 4, 5, 6, 7, 8, 9, 10, 11] (by decide) rfl
        have hKc := hK.sub (tys' := (mw_CK d)) [0, 1, 2, 3, 4, 5, 6, 7, 8, 9, 10] rfl
        have hFc := va_free (wc := (mw_C q0 a d al sh is us fo sw sc F ho fr to di ha)) hD hS hA [0, 1, 2, 3, 4, 5, 6, 7, 8, 9, 10, 11] rfl
        refine va_calli (va_runV (As := [.int (xs (i + 1)), .int (xs (i + 2)), .int (mw_ob false)]) (rest := []) ⟨hx, hb, hml, hown, hts⟩ (mX1_map l dC dI q0 a d H.size al sh is us fo sw sc F ho fr to di ha ma ms mo mc hI (xs (i + 1)) (xs (i + 2)) false) (cwV 3 hts (lw_V q67 q68 q69 q14 q70) rfl rfl rfl (by decide +kernel) ⟨Nat.le_of_ble_eq_true rfl, Nat.le_of_ble_eq_true rfl⟩) ⟨fun a U g mk q => by obtain ⟨q0, q1, qP, qK, qD⟩ := q; exact ⟨q0, q1, qP, va_K.moved (u := U) (U := U.calling g mk a) (Vm.Alike.refl U.vm) qK, qD⟩, va_recv hKc hPc (ci := 0) (q0 := 0) rfl rfl, fun U hU hW => ⟨rfl, by rw [hU], by rw [hU]; exact hPc, va_K.moved hW.alike hKc, hDc.weaken (fun _ _ _ _ => trivial)⟩⟩ rfl rfl hl.1 rfl (lv_room (Nat.le_of_ble_eq_true rfl)) dL_law_124 ⟨Nat.le_of_ble_eq_true rfl, Nat.le_of_ble_eq_true rfl⟩) hS (fun q _ h => hFc q h) hFc (fun r1 u t9 H1 locs ht9 hvm hw1 hB hz1 hk1 hS => ?_)
        obtain ⟨al1, sh1, is1, us1, fo1, sw1, sc1, ho1, fr1, to1, di1, ha1⟩ := u
        try dsimp only at hw1
        obtain ⟨hP1, hK1, hD1⟩ : mw_BC dC dI _ q0 a d al1 sh1 is1 us1 fo1 sw1 sc1 F ho1 fr1 to1 di1 ha1 t9 := hB
        rw [ht9] at hP1
        obtain ⟨hP, hD⟩ := va_join (wr := (mw_M q1 a2 d2 ma ms mo mc)) (w1 := (mw_C q0 a d al1 sh1 is1 us1 fo1 sw1 sc1 F ho1 fr1 to1 di1 ha1)) hP hD [0, 1, 2, 3, 4, 5, 6, 7, 8, 9, 10, 11] [12, 13, 14, 15, 16] rfl rfl (by decide) (by decide) hk1 hFc hP1 hD1
        have hP := hP.sub (ws' := ((mw_C q0 a d al1 sh1 is1 us1 fo1 sw1 sc1 F ho1 fr1 to1 di1 ha1) ++ (mw_M q1 a2 d2 ma ms mo mc))) [5, 6, 7, 8, 9, 10, 11, 12, 13, 14, 15, 16, 0, 1, 2, 3, 4] rfl
        have hD := hD.sub (ws' := ((mw_C q0 a d al1 sh1 is1 us1 fo1 sw1 sc1 F ho1 fr1 to1 di1 ha1) ++ (mw_M q1 a2 d2 ma ms mo mc))) [5, 6, 7, 8, 9, 10, 11, 12, 13, 14, 15, 16, 0, 1, 2, 3, 4] (by decide) rfl
        generalize H1 = H at hP hS ⊢
        have hP : va_P (dC, dI) vwCl ((mw_C q0 a d al1 sh1 is1 us1 fo1 sw1 sc1 F ho1 fr1 to1 di1 ha1) ++ (mw_M q1 a2 d2 ma ms mo mc)) H := hP
        have hD : va_D (fun q : Nat => s.heap.size ≤ q) ((mw_C q0 a d al1 sh1 is1 us1 fo1 sw1 sc1 F ho1 fr1 to1 di1 ha1) ++ (mw_M q1 a2 d2 ma ms mo mc)) := hD
        refine W.widen (k := 17) (n := 367) (Nat.le_refl _) (Nat.le_refl _) ?_
        refine lv_aload_n hx hb dL_law_127 rfl (lv_at hl 1 rfl) ?_
        refine lv_aload_n hx hb dL_law_128 rfl (lv_at hl 3 rfl) ?_
        refine lv_iload_n hx hb dL_law_129 rfl (lv_at hl 0 rfl) ?_
        refine lv_iconst (v := (nI 1)) hx hb dL_law_130 (by decide) ?_
        refine kw_add hx hb dL_law_131 ?_
        refine kw_sld (j := i + 1) hx hb hX hbl hbA hS (by omega) (by omega) dL_law_132 ?_
        refine lv_aload_n hx hb dL_law_133 rfl (lv_at hl 3 rfl) ?_
        refine lv_iload_n hx hb dL_law_134 rfl (lv_at hl 0 rfl) ?_
        refine lv_iconst (v := (nI 2)) hx hb dL_law_135 (by decide) ?_
        refine kw_add hx hb dL_law_136 ?_
        refine kw_sld (j := i + 2) hx hb hX hbl hbA hS (by omega) (by omega) dL_law_137 ?_
        refine lv_aload_n hx hb dL_law_138 rfl (lv_at hl 3 rfl) ?_
        refine lv_iload_n hx hb dL_law_139 rfl (lv_at hl 0 rfl) ?_
        refine lv_iconst (v := (nI 3)) hx hb dL_law_140 (by decide) ?_
        refine kw_add hx hb dL_law_141 ?_
        refine kw_sld (j := i + 3) hx hb hX hbl hbA hS (by omega) (by omega) dL_law_142 ?_
        refine lv_if_eq (tgt := 150) hx hb dL_law_143 (by decide) (fun c6 => ?_) (fun c6 => ?_)
        · refine lv_iconst (v := (mw_ob false)) hx hb dL_law_150 (by decide) ?_
          have hPc := hP.sub (ws' := (mw_M q1 a2 d2 ma ms mo mc)) [12, 13, 14, 15, 16] rfl
          have hDc := hD.sub (ws' := (mw_M q1 a2 d2 ma ms mo mc)) [12, 13, 14, 15, 16] (by decide) rfl
          have hKc := hK.sub (tys' := (mw_MK d2)) [11, 12, 13, 14] rfl
          have hFc := va_free (wc := (mw_M q1 a2 d2 ma ms mo mc)) hD hS hA [12, 13, 14, 15, 16] rfl
          refine va_calli (va_runV (As := [.int (xs (i + 1)), .int (xs (i + 2)), .int (mw_ob false)]) (rest := [.int r1]) ⟨hx, hb, hml, hown, hts⟩ (mX2_map l dC dI q1 a2 d2 H.size ma ms mo mc hM (xs (i + 1)) (xs (i + 2)) false) (cwV 3 hts (lw_V q165 q166 q167 q15 q168) rfl rfl rfl (by decide +kernel) ⟨Nat.le_of_ble_eq_true rfl, Nat.le_of_ble_eq_true rfl⟩) ⟨fun a U g mk q => by obtain ⟨q0, q1, qP, qK, qD⟩ := q; exact ⟨q0, q1, qP, va_K.moved (u := U) (U := U.calling g mk a) (Vm.Alike.refl U.vm) qK, qD⟩, va_recv hKc hPc (ci := 1) (q0 := 0) rfl rfl, fun U hU hW => ⟨rfl, by rw [hU], by rw [hU]; exact hPc, va_K.moved hW.alike hKc, hDc.weaken (fun _ _ _ _ => trivial)⟩⟩ rfl rfl hl.1 rfl (lv_room (Nat.le_of_ble_eq_true rfl)) dL_law_151 ⟨Nat.le_of_ble_eq_true rfl, Nat.le_of_ble_eq_true rfl⟩) hS (fun q _ h => hFc q h) hFc (fun r2 u t9 H1 locs ht9 hvm hw2 hB hz1 hk1 hS => ?_)
          obtain ⟨ma1, ms1, mo1, mc1⟩ := u
          try dsimp only at hw2
          obtain ⟨hP1, hK1, hD1⟩ : mw_BM dC dI _ q1 a2 d2 ma1 ms1 mo1 mc1 t9 := hB
          rw [ht9] at hP1
          obtain ⟨hP, hD⟩ := va_join (wr := (mw_C q0 a d al1 sh1 is1 us1 fo1 sw1 sc1 F ho1 fr1 to1 di1 ha1)) (w1 := (mw_M q1 a2 d2 ma1 ms1 mo1 mc1)) hP hD [12, 13, 14, 15, 16] [0, 1, 2, 3, 4, 5, 6, 7, 8, 9, 10, 11] rfl rfl (by decide) (by decide) hk1 hFc hP1 hD1
          generalize H1 = H at hP hS ⊢
          have hP : va_P (dC, dI) vwCl ((mw_C q0 a d al1 sh1 is1 us1 fo1 sw1 sc1 F ho1 fr1 to1 di1 ha1) ++ (mw_M q1 a2 d2 ma1 ms1 mo1 mc1)) H := hP
          have hD : va_D (fun q : Nat => s.heap.size ≤ q) ((mw_C q0 a d al1 sh1 is1 us1 fo1 sw1 sc1 F ho1 fr1 to1 di1 ha1) ++ (mw_M q1 a2 d2 ma1 ms1 mo1 mc1)) := hD
          refine W.widen (k := 17) (n := 367) (Nat.le_refl _) (Nat.le_refl _) ?_
          rw [← hw2] at hw1
          refine lv_icmp_eq (tgt := 450) hx hb dL_law_154 (by decide) (fun c9 => ?_) (fun c9 => ?_)
          · exact hnext al1 sh1 is1 us1 fo1 sw1 sc1 ho1 fr1 to1 di1 ha1 ma1 ms1 mo1 mc1 hw1.2 H locs hP hD hS
          exact absurd hw1.1 c9
        exact absurd c5 c6
      refine lv_iconst (v := (mw_ob true)) hx hb dL_law_119 (by decide) ?_
      refine lv_goto (tgt := 124) hx hb dL_law_120 (by decide) ?_
      have hPc := hP.sub (ws' := (mw_C q0 a d al sh is us fo sw sc F ho fr to di ha)) [0, 1, 2, 3, 4, 5, 6, 7, 8, 9, 10, 11] rfl
      have hDc := hD.sub (ws' := (mw_C q0 a d al sh is us fo sw sc F ho fr to di ha)) [0, 1, 2, 3, 4, 5, 6, 7, 8, 9, 10, 11] (by decide) rfl
      have hKc := hK.sub (tys' := (mw_CK d)) [0, 1, 2, 3, 4, 5, 6, 7, 8, 9, 10] rfl
      have hFc := va_free (wc := (mw_C q0 a d al sh is us fo sw sc F ho fr to di ha)) hD hS hA [0, 1, 2, 3, 4, 5, 6, 7, 8, 9, 10, 11] rfl
      refine va_calli (va_runV (As := [.int (xs (i + 1)), .int (xs (i + 2)), .int (mw_ob true)]) (rest := []) ⟨hx, hb, hml, hown, hts⟩ (mX1_map l dC dI q0 a d H.size al sh is us fo sw sc F ho fr to di ha ma ms mo mc hI (xs (i + 1)) (xs (i + 2)) true) (cwV 3 hts (lw_V q67 q68 q69 q14 q70) rfl rfl rfl (by decide +kernel) ⟨Nat.le_of_ble_eq_true rfl, Nat.le_of_ble_eq_true rfl⟩) ⟨fun a U g mk q => by obtain ⟨q0, q1, qP, qK, qD⟩ := q; exact ⟨q0, q1, qP, va_K.moved (u := U) (U := U.calling g mk a) (Vm.Alike.refl U.vm) qK, qD⟩, va_recv hKc hPc (ci := 0) (q0 := 0) rfl rfl, fun U hU hW => ⟨rfl, by rw [hU], by rw [hU]; exact hPc, va_K.moved hW.alike hKc, hDc.weaken (fun _ _ _ _ => trivial)⟩⟩ rfl rfl hl.1 rfl (lv_room (Nat.le_of_ble_eq_true rfl)) dL_law_124 ⟨Nat.le_of_ble_eq_true rfl, Nat.le_of_ble_eq_true rfl⟩) hS (fun q _ h => hFc q h) hFc (fun r1 u t9 H1 locs ht9 hvm hw1 hB hz1 hk1 hS => ?_)
      obtain ⟨al1, sh1, is1, us1, fo1, sw1, sc1, ho1, fr1, to1, di1, ha1⟩ := u
      try dsimp only at hw1
      obtain ⟨hP1, hK1, hD1⟩ : mw_BC dC dI _ q0 a d al1 sh1 is1 us1 fo1 sw1 sc1 F ho1 fr1 to1 di1 ha1 t9 := hB
      rw [ht9] at hP1
      obtain ⟨hP, hD⟩ := va_join (wr := (mw_M q1 a2 d2 ma ms mo mc)) (w1 := (mw_C q0 a d al1 sh1 is1 us1 fo1 sw1 sc1 F ho1 fr1 to1 di1 ha1)) hP hD [0, 1, 2, 3, 4, 5, 6, 7, 8, 9, 10, 11] [12, 13, 14, 15, 16] rfl rfl (by decide) (by decide) hk1 hFc hP1 hD1
      have hP := hP.sub (ws' := ((mw_C q0 a d al1 sh1 is1 us1 fo1 sw1 sc1 F ho1 fr1 to1 di1 ha1) ++ (mw_M q1 a2 d2 ma ms mo mc))) [5, 6, 7, 8, 9, 10, 11, 12, 13, 14, 15, 16, 0, 1, 2, 3, 4] rfl
      have hD := hD.sub (ws' := ((mw_C q0 a d al1 sh1 is1 us1 fo1 sw1 sc1 F ho1 fr1 to1 di1 ha1) ++ (mw_M q1 a2 d2 ma ms mo mc))) [5, 6, 7, 8, 9, 10, 11, 12, 13, 14, 15, 16, 0, 1, 2, 3, 4] (by decide) rfl
      generalize H1 = H at hP hS ⊢
      have hP : va_P (dC, dI) vwCl ((mw_C q0 a d al1 sh1 is1 us1 fo1 sw1 sc1 F ho1 fr1 to1 di1 ha1) ++ (mw_M q1 a2 d2 ma ms mo mc)) H := hP
      have hD : va_D (fun q : Nat => s.heap.size ≤ q) ((mw_C q0 a d al1 sh1 is1 us1 fo1 sw1 sc1 F ho1 fr1 to1 di1 ha1) ++ (mw_M q1 a2 d2 ma ms mo mc)) := hD
      refine W.widen (k := 17) (n := 367) (Nat.le_refl _) (Nat.le_refl _) ?_
      refine lv_aload_n hx hb dL_law_127 rfl (lv_at hl 1 rfl) ?_
      refine lv_aload_n hx hb dL_law_128 rfl (lv_at hl 3 rfl) ?_
      refine lv_iload_n hx hb dL_law_129 rfl (lv_at hl 0 rfl) ?_
      refine lv_iconst (v := (nI 1)) hx hb dL_law_130 (by decide) ?_
      refine kw_add hx hb dL_law_131 ?_
      refine kw_sld (j := i + 1) hx hb hX hbl hbA hS (by omega) (by omega) dL_law_132 ?_
      refine lv_aload_n hx hb dL_law_133 rfl (lv_at hl 3 rfl) ?_
      refine lv_iload_n hx hb dL_law_134 rfl (lv_at hl 0 rfl) ?_
      refine lv_iconst (v := (nI 2)) hx hb dL_law_135 (by decide) ?_
      refine kw_add hx hb dL_law_136 ?_
      refine kw_sld (j := i + 2) hx hb hX hbl hbA hS (by omega) (by omega) dL_law_137 ?_
      refine lv_aload_n hx hb dL_law_138 rfl (lv_at hl 3 rfl) ?_
      refine lv_iload_n hx hb dL_law_139 rfl (lv_at hl 0 rfl) ?_
      refine lv_iconst (v := (nI 3)) hx hb dL_law_140 (by decide) ?_
      refine kw_add hx hb dL_law_141 ?_
      refine kw_sld (j := i + 3) hx hb hX hbl hbA hS (by omega) (by omega) dL_law_142 ?_
      refine lv_if_eq (tgt := 150) hx hb dL_law_143 (by decide) (fun c6 => ?_) (fun c6 => ?_)
      · exact absurd c6 c5
      refine lv_iconst (v := (mw_ob true)) hx hb dL_law_146 (by decide) ?_
      refine lv_goto (tgt := 151) hx hb dL_law_147 (by decide) ?_
      have hPc := hP.sub (ws' := (mw_M q1 a2 d2 ma ms mo mc)) [12, 13, 14, 15, 16] rfl
      have hDc := hD.sub (ws' := (mw_M q1 a2 d2 ma ms mo mc)) [12, 13, 14, 15, 16] (by decide) rfl
      have hKc := hK.sub (tys' := (mw_MK d2)) [11, 12, 13, 14] rfl
      have hFc := va_free (wc := (mw_M q1 a2 d2 ma ms mo mc)) hD hS hA [12, 13, 14, 15, 16] rfl
      refine va_calli (va_runV (As := [.int (xs (i + 1)), .int (xs (i + 2)), .int (mw_ob true)]) (rest := [.int r1]) ⟨hx, hb, hml, hown, hts⟩ (mX2_map l dC dI q1 a2 d2 H.size ma ms mo mc hM (xs (i + 1)) (xs (i + 2)) true) (cwV 3 hts (lw_V q165 q166 q167 q15 q168) rfl rfl rfl (by decide +kernel) ⟨Nat.le_of_ble_eq_true rfl, Nat.le_of_ble_eq_true rfl⟩) ⟨fun a U g mk q => by obtain ⟨q0, q1, qP, qK, qD⟩ := q; exact ⟨q0, q1, qP, va_K.moved (u := U) (U := U.calling g mk a) (Vm.Alike.refl U.vm) qK, qD⟩, va_recv hKc hPc (ci := 1) (q0 := 0) rfl rfl, fun U hU hW => ⟨rfl, by rw [hU], by rw [hU]; exact hPc, va_K.moved hW.alike hKc, hDc.weaken (fun _ _ _ _ => trivial)⟩⟩ rfl rfl hl.1 rfl (lv_room (Nat.le_of_ble_eq_true rfl)) dL_law_151 ⟨Nat.le_of_ble_eq_true rfl, Nat.le_of_ble_eq_true rfl⟩) hS (fun q _ h => hFc q h) hFc (fun r2 u t9 H1 locs ht9 hvm hw2 hB hz1 hk1 hS => ?_)
      obtain ⟨ma1, ms1, mo1, mc1⟩ := u
      try dsimp only at hw2
      obtain ⟨hP1, hK1, hD1⟩ : mw_BM dC dI _ q1 a2 d2 ma1 ms1 mo1 mc1 t9 := hB
      rw [ht9] at hP1
      obtain ⟨hP, hD⟩ := va_join (wr := (mw_C q0 a d al1 sh1 is1 us1 fo1 sw1 sc1 F ho1 fr1 to1 di1 ha1)) (w1 := (mw_M q1 a2 d2 ma1 ms1 mo1 mc1)) hP hD [12, 13, 14, 15, 16] [0, 1, 2, 3, 4, 5, 6, 7, 8, 9, 10, 11] rfl rfl (by decide) (by decide) hk1 hFc hP1 hD1
      generalize H1 = H at hP hS ⊢
      have hP : va_P (dC, dI) vwCl ((mw_C q0 a d al1 sh1 is1 us1 fo1 sw1 sc1 F ho1 fr1 to1 di1 ha1) ++ (mw_M q1 a2 d2 ma1 ms1 mo1 mc1)) H := hP
      have hD : va_D (fun q : Nat => s.heap.size ≤ q) ((mw_C q0 a d al1 sh1 is1 us1 fo1 sw1 sc1 F ho1 fr1 to1 di1 ha1) ++ (mw_M q1 a2 d2 ma1 ms1 mo1 mc1)) := hD
      refine W.widen (k := 17) (n := 367) (Nat.le_refl _) (Nat.le_refl _) ?_
      rw [← hw2] at hw1
      refine lv_icmp_eq (tgt := 450) hx hb dL_law_154 (by decide) (fun c9 => ?_) (fun c9 => ?_)
      · exact hnext al1 sh1 is1 us1 fo1 sw1 sc1 ho1 fr1 to1 di1 ha1 ma1 ms1 mo1 mc1 hw1.2 H locs hP hD hS
      exact absurd hw1.1 c9
    · refine lv_tableIn (off := 117) (tgt := 159) hx hb dL_law_42 (by decide) (by decide) (by decide) (by decide) ?_
      refine lv_aload_n hx hb dL_law_159 rfl (lv_at hl 2 rfl) ?_
      refine lv_aload_n hx hb dL_law_160 rfl (lv_at hl 3 rfl) ?_
      refine lv_iload_n hx hb dL_law_161 rfl (lv_at hl 0 rfl) ?_
      refine lv_iconst (v := (nI 1)) hx hb dL_law_162 (by decide) ?_
      refine kw_add hx hb dL_law_163 ?_
      refine kw_sld (j := i + 1) hx hb hX hbl hbA hS (by omega) (by omega) dL_law_164 ?_
      refine lv_aload_n hx hb dL_law_165 rfl (lv_at hl 3 rfl) ?_
      refine lv_iload_n hx hb dL_law_166 rfl (lv_at hl 0 rfl) ?_
      refine lv_iconst (v := (nI 2)) hx hb dL_law_167 (by decide) ?_
      refine kw_add hx hb dL_law_168 ?_
      refine kw_sld (j := i + 2) hx hb hX hbl hbA hS (by omega) (by omega) dL_law_169 ?_
      have hPc := hP.sub (ws' := (mw_C q0 a d al sh is us fo sw sc F ho fr to di ha)) [0, 1, 2, 3, 4, 5, 6, 7, 8, 9, 10, 11] rfl
      have hDc := hD.sub (ws' := (mw_C q0 a d al sh is us fo sw sc F ho fr to di ha)) [0, 1, 2, 3, 4, 5, 6, 7, 8, 9, 10, 11] (by decide) rfl
      have hKc := hK.sub (tys' := (mw_CK d)) [0, 1, 2, 3, 4, 5, 6, 7, 8, 9, 10] rfl
      have hFc := va_free (wc := (mw_C q0 a d al sh is us fo sw sc F ho fr to di ha)) hD hS hA [0, 1, 2, 3, 4, 5, 6, 7, 8, 9, 10, 11] rfl
      refine va_calli (va_runV (As := [.int (xs (i + 1)), .int (xs (i + 2))]) (rest := []) ⟨hx, hb, hml, hown, hts⟩ (mX1_unmap l dC dI q0 a d H.size al sh is us fo sw sc F ho fr to di ha ma ms mo mc hI (xs (i + 1)) (xs (i + 2))) (cwV 2 hts (lw_V q79 q80 q81 q14 q82) rfl rfl rfl (by decide +kernel) ⟨Nat.le_of_ble_eq_true rfl, Nat.le_of_ble_eq_true rfl⟩) ⟨fun a U g mk q => by obtain ⟨q0, q1, qP, qK, qD⟩ := q; exact ⟨q0, q1, qP, va_K.moved (u := U) (U := U.calling g mk a) (Vm.Alike.refl U.vm) qK, qD⟩, va_recv hKc hPc (ci := 0) (q0 := 0) rfl rfl, fun U hU hW => ⟨rfl, by rw [hU], by rw [hU]; exact hPc, va_K.moved hW.alike hKc, hDc.weaken (fun _ _ _ _ => trivial)⟩⟩ rfl rfl hl.1 rfl (lv_room (Nat.le_of_ble_eq_true rfl)) dL_law_170 ⟨Nat.le_of_ble_eq_true rfl, Nat.le_of_ble_eq_true rfl⟩) hS (fun q _ h => hFc q h) hFc (fun r1 u t9 H1 locs ht9 hvm hw1 hB hz1 hk1 hS => ?_)
      obtain ⟨al1, sh1, is1, us1, fo1, sw1, sc1, ho1, fr1, to1, di1, ha1⟩ := u
      try dsimp only at hw1
      obtain ⟨hP1, hK1, hD1⟩ : mw_BC dC dI _ q0 a d al1 sh1 is1 us1 fo1 sw1 sc1 F ho1 fr1 to1 di1 ha1 t9 := hB
      rw [ht9] at hP1
      obtain ⟨hP, hD⟩ := va_join (wr := (mw_M q1 a2 d2 ma ms mo mc)) (w1 := (mw_C q0 a d al1 sh1 is1 us1 fo1 sw1 sc1 F ho1 fr1 to1 di1 ha1)) hP hD [0, 1, 2, 3, 4, 5, 6, 7, 8, 9, 10, 11] [12, 13, 14, 15, 16] rfl rfl (by decide) (by decide) hk1 hFc hP1 hD1
      have hP := hP.sub (ws' := ((mw_C q0 a d al1 sh1 is1 us1 fo1 sw1 sc1 F ho1 fr1 to1 di1 ha1) ++ (mw_M q1 a2 d2 ma ms mo mc))) [5, 6, 7, 8, 9, 10, 11, 12, 13, 14, 15, 16, 0, 1, 2, 3, 4] rfl
      have hD := hD.sub (ws' := ((mw_C q0 a d al1 sh1 is1 us1 fo1 sw1 sc1 F ho1 fr1 to1 di1 ha1) ++ (mw_M q1 a2 d2 ma ms mo mc))) [5, 6, 7, 8, 9, 10, 11, 12, 13, 14, 15, 16, 0, 1, 2, 3, 4] (by decide) rfl
      generalize H1 = H at hP hS ⊢
      have hP : va_P (dC, dI) vwCl ((mw_C q0 a d al1 sh1 is1 us1 fo1 sw1 sc1 F ho1 fr1 to1 di1 ha1) ++ (mw_M q1 a2 d2 ma ms mo mc)) H := hP
      have hD : va_D (fun q : Nat => s.heap.size ≤ q) ((mw_C q0 a d al1 sh1 is1 us1 fo1 sw1 sc1 F ho1 fr1 to1 di1 ha1) ++ (mw_M q1 a2 d2 ma ms mo mc)) := hD
      refine W.widen (k := 17) (n := 367) (Nat.le_refl _) (Nat.le_refl _) ?_
      refine lv_aload_n hx hb dL_law_173 rfl (lv_at hl 1 rfl) ?_
      refine lv_aload_n hx hb dL_law_174 rfl (lv_at hl 3 rfl) ?_
      refine lv_iload_n hx hb dL_law_175 rfl (lv_at hl 0 rfl) ?_
      refine lv_iconst (v := (nI 1)) hx hb dL_law_176 (by decide) ?_
      refine kw_add hx hb dL_law_177 ?_
      refine kw_sld (j := i + 1) hx hb hX hbl hbA hS (by omega) (by omega) dL_law_178 ?_
      refine lv_aload_n hx hb dL_law_179 rfl (lv_at hl 3 rfl) ?_
      refine lv_iload_n hx hb dL_law_180 rfl (lv_at hl 0 rfl) ?_
      refine lv_iconst (v := (nI 2)) hx hb dL_law_181 (by decide) ?_
      refine kw_add hx hb dL_law_182 ?_
      refine kw_sld (j := i + 2) hx hb hX hbl hbA hS (by omega) (by omega) dL_law_183 ?_
      have hPc := hP.sub (ws' := (mw_M q1 a2 d2 ma ms mo mc)) [12, 13, 14, 15, 16] rfl
      have hDc := hD.sub (ws' := (mw_M q1 a2 d2 ma ms mo mc)) [12, 13, 14, 15, 16] (by decide) rfl
      have hKc := hK.sub (tys' := (mw_MK d2)) [11, 12, 13, 14] rfl
      have hFc := va_free (wc := (mw_M q1 a2 d2 ma ms mo mc)) hD hS hA [12, 13, 14, 15, 16] rfl
      refine va_calli (va_runV (As := [.int (xs (i + 1)), .int (xs (i + 2))]) (rest := [.int r1]) ⟨hx, hb, hml, hown, hts⟩ (mX2_unmap l dC dI q1 a2 d2 H.size ma ms mo mc hM (xs (i + 1)) (xs (i + 2))) (cwV 2 hts (lw_V q185 q186 q187 q15 q188) rfl rfl rfl (by decide +kernel) ⟨Nat.le_of_ble_eq_true rfl, Nat.le_of_ble_eq_true rfl⟩) ⟨fun a U g mk q => by obtain ⟨q0, q1, qP, qK, qD⟩ := q; exact ⟨q0, q1, qP, va_K.moved (u := U) (U := U.calling g mk a) (Vm.Alike.refl U.vm) qK, qD⟩, va_recv hKc hPc (ci := 1) (q0 := 0) rfl rfl, fun U hU hW => ⟨rfl, by rw [hU], by rw [hU]; exact hPc, va_K.moved hW.alike hKc, hDc.weaken (fun _ _ _ _ => trivial)⟩⟩ rfl rfl hl.1 rfl (lv_room (Nat.le_of_ble_eq_true rfl)) dL_law_184 ⟨Nat.le_of_ble_eq_true rfl, Nat.le_of_ble_eq_true rfl⟩) hS (fun q _ h => hFc q h) hFc (fun r2 u t9 H1 locs ht9 hvm hw2 hB hz1 hk1 hS => ?_)
      obtain ⟨ma1, ms1, mo1, mc1⟩ := u
      try dsimp only at hw2
      obtain ⟨hP1, hK1, hD1⟩ : mw_BM dC dI _ q1 a2 d2 ma1 ms1 mo1 mc1 t9 := hB
      rw [ht9] at hP1
      obtain ⟨hP, hD⟩ := va_join (wr := (mw_C q0 a d al1 sh1 is1 us1 fo1 sw1 sc1 F ho1 fr1 to1 di1 ha1)) (w1 := (mw_M q1 a2 d2 ma1 ms1 mo1 mc1)) hP hD [12, 13, 14, 15, 16] [0, 1, 2, 3, 4, 5, 6, 7, 8, 9, 10, 11] rfl rfl (by decide) (by decide) hk1 hFc hP1 hD1
      generalize H1 = H at hP hS ⊢
      have hP : va_P (dC, dI) vwCl ((mw_C q0 a d al1 sh1 is1 us1 fo1 sw1 sc1 F ho1 fr1 to1 di1 ha1) ++ (mw_M q1 a2 d2 ma1 ms1 mo1 mc1)) H := hP
      have hD : va_D (fun q : Nat => s.heap.size ≤ q) ((mw_C q0 a d al1 sh1 is1 us1 fo1 sw1 sc1 F ho1 fr1 to1 di1 ha1) ++ (mw_M q1 a2 d2 ma1 ms1 mo1 mc1)) := hD
      refine W.widen (k := 17) (n := 367) (Nat.le_refl _) (Nat.le_refl _) ?_
      rw [← hw2] at hw1
      refine lv_icmp_eq (tgt := 450) hx hb dL_law_187 (by decide) (fun c9 => ?_) (fun c9 => ?_)
      · exact hnext al1 sh1 is1 us1 fo1 sw1 sc1 ho1 fr1 to1 di1 ha1 ma1 ms1 mo1 mc1 hw1.2 H locs hP hD hS
      exact absurd hw1.1 c9
    · refine lv_tableIn (off := 150) (tgt := 192) hx hb dL_law_42 (by decide) (by decide) (by decide) (by decide) ?_
      refine lv_aload_n hx hb dL_law_192 rfl (lv_at hl 2 rfl) ?_
      refine lv_aload_n hx hb dL_law_193 rfl (lv_at hl 3 rfl) ?_
      refine lv_iload_n hx hb dL_law_194 rfl (lv_at hl 0 rfl) ?_
      refine lv_iconst (v := (nI 1)) hx hb dL_law_195 (by decide) ?_
      refine kw_add hx hb dL_law_196 ?_
      refine kw_sld (j := i + 1) hx hb hX hbl hbA hS (by omega) (by omega) dL_law_197 ?_
      refine lv_aload_n hx hb dL_law_198 rfl (lv_at hl 3 rfl) ?_
      refine lv_iload_n hx hb dL_law_199 rfl (lv_at hl 0 rfl) ?_
      refine lv_iconst (v := (nI 2)) hx hb dL_law_200 (by decide) ?_
      refine kw_add hx hb dL_law_201 ?_
      refine kw_sld (j := i + 2) hx hb hX hbl hbA hS (by omega) (by omega) dL_law_202 ?_
      have hPc := hP.sub (ws' := (mw_C q0 a d al sh is us fo sw sc F ho fr to di ha)) [0, 1, 2, 3, 4, 5, 6, 7, 8, 9, 10, 11] rfl
      have hDc := hD.sub (ws' := (mw_C q0 a d al sh is us fo sw sc F ho fr to di ha)) [0, 1, 2, 3, 4, 5, 6, 7, 8, 9, 10, 11] (by decide) rfl
      have hKc := hK.sub (tys' := (mw_CK d)) [0, 1, 2, 3, 4, 5, 6, 7, 8, 9, 10] rfl
      have hFc := va_free (wc := (mw_C q0 a d al sh is us fo sw sc F ho fr to di ha)) hD hS hA [0, 1, 2, 3, 4, 5, 6, 7, 8, 9, 10, 11] rfl
      refine va_calli (va_runV (As := [.int (xs (i + 1)), .int (xs (i + 2))]) (rest := []) ⟨hx, hb, hml, hown, hts⟩ (mX1_attach l dC dI q0 a d H.size al sh is us fo sw sc F ho fr to di ha ma ms mo mc hI (xs (i + 1)) (xs (i + 2))) (cwV 2 hts (lw_V q87 q88 q89 q14 q90) rfl rfl rfl (by decide +kernel) ⟨Nat.le_of_ble_eq_true rfl, Nat.le_of_ble_eq_true rfl⟩) ⟨fun a U g mk q => by obtain ⟨q0, q1, qP, qK, qD⟩ := q; exact ⟨q0, q1, qP, va_K.moved (u := U) (U := U.calling g mk a) (Vm.Alike.refl U.vm) qK, qD⟩, va_recv hKc hPc (ci := 0) (q0 := 0) rfl rfl, fun U hU hW => ⟨rfl, by rw [hU], by rw [hU]; exact hPc, va_K.moved hW.alike hKc, hDc.weaken (fun _ _ _ _ => trivial)⟩⟩ rfl rfl hl.1 rfl (lv_room (Nat.le_of_ble_eq_true rfl)) dL_law_203 ⟨Nat.le_of_ble_eq_true rfl, Nat.le_of_ble_eq_true rfl⟩) hS (fun q _ h => hFc q h) hFc (fun r1 u t9 H1 locs ht9 hvm hw1 hB hz1 hk1 hS => ?_)
      obtain ⟨al1, sh1, is1, us1, fo1, sw1, sc1, ho1, fr1, to1, di1, ha1⟩ := u
      try dsimp only at hw1
      obtain ⟨hP1, hK1, hD1⟩ : mw_BC dC dI _ q0 a d al1 sh1 is1 us1 fo1 sw1 sc1 F ho1 fr1 to1 di1 ha1 t9 := hB
      rw [ht9] at hP1
      obtain ⟨hP, hD⟩ := va_join (wr := (mw_M q1 a2 d2 ma ms mo mc)) (w1 := (mw_C q0 a d al1 sh1 is1 us1 fo1 sw1 sc1 F ho1 fr1 to1 di1 ha1)) hP hD [0, 1, 2, 3, 4, 5, 6, 7, 8, 9, 10, 11] [12, 13, 14, 15, 16] rfl rfl (by decide) (by decide) hk1 hFc hP1 hD1
      have hP := hP.sub (ws' := ((mw_C q0 a d al1 sh1 is1 us1 fo1 sw1 sc1 F ho1 fr1 to1 di1 ha1) ++ (mw_M q1 a2 d2 ma ms mo mc))) [5, 6, 7, 8, 9, 10, 11, 12, 13, 14, 15, 16, 0, 1, 2, 3, 4] rfl
      have hD := hD.sub (ws' := ((mw_C q0 a d al1 sh1 is1 us1 fo1 sw1 sc1 F ho1 fr1 to1 di1 ha1) ++ (mw_M q1 a2 d2 ma ms mo mc))) [5, 6, 7, 8, 9, 10, 11, 12, 13, 14, 15, 16, 0, 1, 2, 3, 4] (by decide) rfl
      generalize H1 = H at hP hS ⊢
      have hP : va_P (dC, dI) vwCl ((mw_C q0 a d al1 sh1 is1 us1 fo1 sw1 sc1 F ho1 fr1 to1 di1 ha1) ++ (mw_M q1 a2 d2 ma ms mo mc)) H := hP
      have hD : va_D (fun q : Nat => s.heap.size ≤ q) ((mw_C q0 a d al1 sh1 is1 us1 fo1 sw1 sc1 F ho1 fr1 to1 di1 ha1) ++ (mw_M q1 a2 d2 ma ms mo mc)) := hD
      refine W.widen (k := 17) (n := 367) (Nat.le_refl _) (Nat.le_refl _) ?_
      refine lv_aload_n hx hb dL_law_206 rfl (lv_at hl 1 rfl) ?_
      refine lv_aload_n hx hb dL_law_207 rfl (lv_at hl 3 rfl) ?_
      refine lv_iload_n hx hb dL_law_208 rfl (lv_at hl 0 rfl) ?_
      refine lv_iconst (v := (nI 1)) hx hb dL_law_209 (by decide) ?_
      refine kw_add hx hb dL_law_210 ?_
      refine kw_sld (j := i + 1) hx hb hX hbl hbA hS (by omega) (by omega) dL_law_211 ?_
      refine lv_aload_n hx hb dL_law_212 rfl (lv_at hl 3 rfl) ?_
      refine lv_iload_n hx hb dL_law_213 rfl (lv_at hl 0 rfl) ?_
      refine lv_iconst (v := (nI 2)) hx hb dL_law_214 (by decide) ?_
      refine kw_add hx hb dL_law_215 ?_
      refine kw_sld (j := i + 2) hx hb hX hbl hbA hS (by omega) (by omega) dL_law_216 ?_
      have hPc := hP.sub (ws' := (mw_M q1 a2 d2 ma ms mo mc)) [12, 13, 14, 15, 16] rfl
      have hDc := hD.sub (ws' := (mw_M q1 a2 d2 ma ms mo mc)) [12, 13, 14, 15, 16] (by decide) rfl
      have hKc := hK.sub (tys' := (mw_MK d2)) [11, 12, 13, 14] rfl
      have hFc := va_free (wc := (mw_M q1 a2 d2 ma ms mo mc)) hD hS hA [12, 13, 14, 15, 16] rfl
      refine va_calli (va_runV (As := [.int (xs (i + 1)), .int (xs (i + 2))]) (rest := [.int r1]) ⟨hx, hb, hml, hown, hts⟩ (mX2_attach l dC dI q1 a2 d2 H.size ma ms mo mc hM (xs (i + 1)) (xs (i + 2))) (cwV 2 hts (lw_V q189 q190 q191 q15 q192) rfl rfl rfl (by decide +kernel) ⟨Nat.le_of_ble_eq_true rfl, Nat.le_of_ble_eq_true rfl⟩) ⟨fun a U g mk q => by obtain ⟨q0, q1, qP, qK, qD⟩ := q; exact ⟨q0, q1, qP, va_K.moved (u := U) (U := U.calling g mk a) (Vm.Alike.refl U.vm) qK, qD⟩, va_recv hKc hPc (ci := 1) (q0 := 0) rfl rfl, fun U hU hW => ⟨rfl, by rw [hU], by rw [hU]; exact hPc, va_K.moved hW.alike hKc, hDc.weaken (fun _ _ _ _ => trivial)⟩⟩ rfl rfl hl.1 rfl (lv_room (Nat.le_of_ble_eq_true rfl)) dL_law_217 ⟨Nat.le_of_ble_eq_true rfl, Nat.le_of_ble_eq_true rfl⟩) hS (fun q _ h => hFc q h) hFc (fun r2 u t9 H1 locs ht9 hvm hw2 hB hz1 hk1 hS => ?_)
      obtain ⟨ma1, ms1, mo1, mc1⟩ := u
      try dsimp only at hw2
      obtain ⟨hP1, hK1, hD1⟩ : mw_BM dC dI _ q1 a2 d2 ma1 ms1 mo1 mc1 t9 := hB
      rw [ht9] at hP1
      obtain ⟨hP, hD⟩ := va_join (wr := (mw_C q0 a d al1 sh1 is1 us1 fo1 sw1 sc1 F ho1 fr1 to1 di1 ha1)) (w1 := (mw_M q1 a2 d2 ma1 ms1 mo1 mc1)) hP hD [12, 13, 14, 15, 16] [0, 1, 2, 3, 4, 5, 6, 7, 8, 9, 10, 11] rfl rfl (by decide) (by decide) hk1 hFc hP1 hD1
      generalize H1 = H at hP hS ⊢
      have hP : va_P (dC, dI) vwCl ((mw_C q0 a d al1 sh1 is1 us1 fo1 sw1 sc1 F ho1 fr1 to1 di1 ha1) ++ (mw_M q1 a2 d2 ma1 ms1 mo1 mc1)) H := hP
      have hD : va_D (fun q : Nat => s.heap.size ≤ q) ((mw_C q0 a d al1 sh1 is1 us1 fo1 sw1 sc1 F ho1 fr1 to1 di1 ha1) ++ (mw_M q1 a2 d2 ma1 ms1 mo1 mc1)) := hD
      refine W.widen (k := 17) (n := 367) (Nat.le_refl _) (Nat.le_refl _) ?_
      rw [← hw2] at hw1
      refine lv_icmp_eq (tgt := 450) hx hb dL_law_220 (by decide) (fun c9 => ?_) (fun c9 => ?_)
      · exact hnext al1 sh1 is1 us1 fo1 sw1 sc1 ho1 fr1 to1 di1 ha1 ma1 ms1 mo1 mc1 hw1.2 H locs hP hD hS
      exact absurd hw1.1 c9
    · refine lv_tableIn (off := 183) (tgt := 225) hx hb dL_law_42 (by decide) (by decide) (by decide) (by decide) ?_
      refine lv_aload_n hx hb dL_law_225 rfl (lv_at hl 2 rfl) ?_
      refine lv_aload_n hx hb dL_law_226 rfl (lv_at hl 3 rfl) ?_
      refine lv_iload_n hx hb dL_law_227 rfl (lv_at hl 0 rfl) ?_
      refine lv_iconst (v := (nI 1)) hx hb dL_law_228 (by decide) ?_
      refine kw_add hx hb dL_law_229 ?_
      refine kw_sld (j := i + 1) hx hb hX hbl hbA hS (by omega) (by omega) dL_law_230 ?_
      refine lv_aload_n hx hb dL_law_231 rfl (lv_at hl 3 rfl) ?_
      refine lv_iload_n hx hb dL_law_232 rfl (lv_at hl 0 rfl) ?_
      refine lv_iconst (v := (nI 2)) hx hb dL_law_233 (by decide) ?_
      refine kw_add hx hb dL_law_234 ?_
      refine kw_sld (j := i + 2) hx hb hX hbl hbA hS (by omega) (by omega) dL_law_235 ?_
      have hPc := hP.sub (ws' := (mw_C q0 a d al sh is us fo sw sc F ho fr to di ha)) [0, 1, 2, 3, 4, 5, 6, 7, 8, 9, 10, 11] rfl
      have hDc := hD.sub (ws' := (mw_C q0 a d al sh is us fo sw sc F ho fr to di ha)) [0, 1, 2, 3, 4, 5, 6, 7, 8, 9, 10, 11] (by decide) rfl
      have hKc := hK.sub (tys' := (mw_CK d)) [0, 1, 2, 3, 4, 5, 6, 7, 8, 9, 10] rfl
      have hFc := va_free (wc := (mw_C q0 a d al sh is us fo sw sc F ho fr to di ha)) hD hS hA [0, 1, 2, 3, 4, 5, 6, 7, 8, 9, 10, 11] rfl
      refine va_calli (va_runV (As := [.int (xs (i + 1)), .int (xs (i + 2))]) (rest := []) ⟨hx, hb, hml, hown, hts⟩ (mX1_fork l dC dI q0 a d H.size al sh is us fo sw sc F ho fr to di ha ma ms mo mc hI (xs (i + 1)) (xs (i + 2))) (cwV 2 hts (lw_V q91 q92 q93 q14 q94) rfl rfl rfl (by decide +kernel) ⟨Nat.le_of_ble_eq_true rfl, Nat.le_of_ble_eq_true rfl⟩) ⟨fun a U g mk q => by obtain ⟨q0, q1, qP, qK, qD⟩ := q; exact ⟨q0, q1, qP, va_K.moved (u := U) (U := U.calling g mk a) (Vm.Alike.refl U.vm) qK, qD⟩, va_recv hKc hPc (ci := 0) (q0 := 0) rfl rfl, fun U hU hW => ⟨rfl, by rw [hU], by rw [hU]; exact hPc, va_K.moved hW.alike hKc, hDc.weaken (fun _ _ _ _ => trivial)⟩⟩ rfl rfl hl.1 rfl (lv_room (Nat.le_of_ble_eq_true rfl)) dL_law_236 ⟨Nat.le_of_ble_eq_true rfl, Nat.le_of_ble_eq_true rfl⟩) hS (fun q _ h => hFc q h) hFc (fun r1 u t9 H1 locs ht9 hvm hw1 hB hz1 hk1 hS => ?_)
      obtain ⟨al1, sh1, is1, us1, fo1, sw1, sc1, ho1, fr1, to1, di1, ha1⟩ := u
      try dsimp only at hw1
      obtain ⟨hP1, hK1, hD1⟩ : mw_BC dC dI _ q0 a d al1 sh1 is1 us1 fo1 sw1 sc1 F ho1 fr1 to1 di1 ha1 t9 := hB
      rw [ht9] at hP1
      obtain ⟨hP, hD⟩ := va_join (wr := (mw_M q1 a2 d2 ma ms mo mc)) (w1 := (mw_C q0 a d al1 sh1 is1 us1 fo1 sw1 sc1 F ho1 fr1 to1 di1 ha1)) hP hD [0, 1, 2, 3, 4, 5, 6, 7, 8, 9, 10, 11] [12, 13, 14, 15, 16] rfl rfl (by decide) (by decide) hk1 hFc hP1 hD1
      have hP := hP.sub (ws' := ((mw_C q0 a d al1 sh1 is1 us1 fo1 sw1 sc1 F ho1 fr1 to1 di1 ha1) ++ (mw_M q1 a2 d2 ma ms mo mc))) [5, 6, 7, 8, 9, 10, 11, 12, 13, 14, 15, 16, 0, 1, 2, 3, 4] rfl
      have hD := hD.sub (ws' := ((mw_C q0 a d al1 sh1 is1 us1 fo1 sw1 sc1 F ho1 fr1 to1 di1 ha1) ++ (mw_M q1 a2 d2 ma ms mo mc))) [5, 6, 7, 8, 9, 10, 11, 12, 13, 14, 15, 16, 0, 1, 2, 3, 4] (by decide) rfl
      generalize H1 = H at hP hS ⊢
      have hP : va_P (dC, dI) vwCl ((mw_C q0 a d al1 sh1 is1 us1 fo1 sw1 sc1 F ho1 fr1 to1 di1 ha1) ++ (mw_M q1 a2 d2 ma ms mo mc)) H := hP
      have hD : va_D (fun q : Nat => s.heap.size ≤ q) ((mw_C q0 a d al1 sh1 is1 us1 fo1 sw1 sc1 F ho1 fr1 to1 di1 ha1) ++ (mw_M q1 a2 d2 ma ms mo mc)) := hD
      refine W.widen (k := 17) (n := 367) (Nat.le_refl _) (Nat.le_refl _) ?_
      refine lv_aload_n hx hb dL_law_239 rfl (lv_at hl 1 rfl) ?_
      refine lv_aload_n hx hb dL_law_240 rfl (lv_at hl 3 rfl) ?_
      refine lv_iload_n hx hb dL_law_241 rfl (lv_at hl 0 rfl) ?_
      refine lv_iconst (v := (nI 1)) hx hb dL_law_242 (by decide) ?_
      refine kw_add hx hb dL_law_243 ?_
      refine kw_sld (j := i + 1) hx hb hX hbl hbA hS (by omega) (by omega) dL_law_244 ?_
      refine lv_aload_n hx hb dL_law_245 rfl (lv_at hl 3 rfl) ?_
      refine lv_iload_n hx hb dL_law_246 rfl (lv_at hl 0 rfl) ?_
      refine lv_iconst (v := (nI 2)) hx hb dL_law_247 (by decide) ?_
      refine kw_add hx hb dL_law_248 ?_
      refine kw_sld (j := i + 2) hx hb hX hbl hbA hS (by omega) (by omega) dL_law_249 ?_
      have hPc := hP.sub (ws' := (mw_M q1 a2 d2 ma ms mo mc)) [12, 13, 14, 15, 16] rfl
      have hDc := hD.sub (ws' := (mw_M q1 a2 d2 ma ms mo mc)) [12, 13, 14, 15, 16] (by decide) rfl
      have hKc := hK.sub (tys' := (mw_MK d2)) [11, 12, 13, 14] rfl
      have hFc := va_free (wc := (mw_M q1 a2 d2 ma ms mo mc)) hD hS hA [12, 13, 14, 15, 16] rfl
      refine va_calli (va_runV (As := [.int (xs (i + 1)), .int (xs (i + 2))]) (rest := [.int r1]) ⟨hx, hb, hml, hown, hts⟩ (mX2_fork l dC dI q1 a2 d2 H.size ma ms mo mc hM hZM (xs (i + 1)) (xs (i + 2))) (cwV 2 hts (lw_V q193 q194 q195 q15 q196) rfl rfl rfl (by decide +kernel) ⟨Nat.le_of_ble_eq_true rfl, Nat.le_of_ble_eq_true rfl⟩) ⟨fun a U g mk q => by obtain ⟨q0, q1, qP, qK, qD⟩ := q; exact ⟨q0, q1, qP, va_K.moved (u := U) (U := U.calling g mk a) (Vm.Alike.refl U.vm) qK, qD⟩, va_recv hKc hPc (ci := 1) (q0 := 0) rfl rfl, fun U hU hW => ⟨rfl, by rw [hU], by rw [hU]; exact hPc, va_K.moved hW.alike hKc, hDc.weaken (fun _ _ _ _ => trivial)⟩⟩ rfl rfl hl.1 rfl (lv_room (Nat.le_of_ble_eq_true rfl)) dL_law_250 ⟨Nat.le_of_ble_eq_true rfl, Nat.le_of_ble_eq_true rfl⟩) hS (fun q _ h => hFc q h) hFc (fun r2 u t9 H1 locs ht9 hvm hw2 hB hz1 hk1 hS => ?_)
      obtain ⟨ma1, ms1, mo1, mc1⟩ := u
      try dsimp only at hw2
      obtain ⟨hP1, hK1, hD1⟩ : mw_BM dC dI _ q1 a2 d2 ma1 ms1 mo1 mc1 t9 := hB
      rw [ht9] at hP1
      obtain ⟨hP, hD⟩ := va_join (wr := (mw_C q0 a d al1 sh1 is1 us1 fo1 sw1 sc1 F ho1 fr1 to1 di1 ha1)) (w1 := (mw_M q1 a2 d2 ma1 ms1 mo1 mc1)) hP hD [12, 13, 14, 15, 16] [0, 1, 2, 3, 4, 5, 6, 7, 8, 9, 10, 11] rfl rfl (by decide) (by decide) hk1 hFc hP1 hD1
      generalize H1 = H at hP hS ⊢
      have hP : va_P (dC, dI) vwCl ((mw_C q0 a d al1 sh1 is1 us1 fo1 sw1 sc1 F ho1 fr1 to1 di1 ha1) ++ (mw_M q1 a2 d2 ma1 ms1 mo1 mc1)) H := hP
      have hD : va_D (fun q : Nat => s.heap.size ≤ q) ((mw_C q0 a d al1 sh1 is1 us1 fo1 sw1 sc1 F ho1 fr1 to1 di1 ha1) ++ (mw_M q1 a2 d2 ma1 ms1 mo1 mc1)) := hD
      refine W.widen (k := 17) (n := 367) (Nat.le_refl _) (Nat.le_refl _) ?_
      rw [← hw2] at hw1
      refine lv_icmp_eq (tgt := 450) hx hb dL_law_253 (by decide) (fun c9 => ?_) (fun c9 => ?_)
      · exact hnext al1 sh1 is1 us1 fo1 sw1 sc1 ho1 fr1 to1 di1 ha1 ma1 ms1 mo1 mc1 hw1.2 H locs hP hD hS
      exact absurd hw1.1 c9
    · refine lv_tableIn (off := 216) (tgt := 258) hx hb dL_law_42 (by decide) (by decide) (by decide) (by decide) ?_
      refine lv_aload_n hx hb dL_law_258 rfl (lv_at hl 2 rfl) ?_
      refine lv_aload_n hx hb dL_law_259 rfl (lv_at hl 3 rfl) ?_
      refine lv_iload_n hx hb dL_law_260 rfl (lv_at hl 0 rfl) ?_
      refine lv_iconst (v := (nI 1)) hx hb dL_law_261 (by decide) ?_
      refine kw_add hx hb dL_law_262 ?_
      refine kw_sld (j := i + 1) hx hb hX hbl hbA hS (by omega) (by omega) dL_law_263 ?_
      have hPc := hP.sub (ws' := (mw_C q0 a d al sh is us fo sw sc F ho fr to di ha)) [0, 1, 2, 3, 4, 5, 6, 7, 8, 9, 10, 11] rfl
      have hDc := hD.sub (ws' := (mw_C q0 a d al sh is us fo sw sc F ho fr to di ha)) [0, 1, 2, 3, 4, 5, 6, 7, 8, 9, 10, 11] (by decide) rfl
      have hKc := hK.sub (tys' := (mw_CK d)) [0, 1, 2, 3, 4, 5, 6, 7, 8, 9, 10] rfl
      have hFc := va_free (wc := (mw_C q0 a d al sh is us fo sw sc F ho fr to di ha)) hD hS hA [0, 1, 2, 3, 4, 5, 6, 7, 8, 9, 10, 11] rfl
      refine va_calli (va_runV (As := [.int (xs (i + 1))]) (rest := []) ⟨hx, hb, hml, hown, hts⟩ (mX1_exit l dC dI q0 a d H.size al sh is us fo sw sc F ho fr to di ha ma ms mo mc hI (xs (i + 1))) (cwV 1 hts (lw_V q95 q96 q97 q14 q98) rfl rfl rfl (by decide +kernel) ⟨Nat.le_of_ble_eq_true rfl, Nat.le_of_ble_eq_true rfl⟩) ⟨fun a U g mk q => by obtain ⟨q0, q1, qP, qK, qD⟩ := q; exact ⟨q0, q1, qP, va_K.moved (u := U) (U := U.calling g mk a) (Vm.Alike.refl U.vm) qK, qD⟩, va_recv hKc hPc (ci := 0) (q0 := 0) rfl rfl, fun U hU hW => ⟨rfl, by rw [hU], by rw [hU]; exact hPc, va_K.moved hW.alike hKc, hDc.weaken (fun _ _ _ _ => trivial)⟩⟩ rfl rfl hl.1 rfl (lv_room (Nat.le_of_ble_eq_true rfl)) dL_law_264 ⟨Nat.le_of_ble_eq_true rfl, Nat.le_of_ble_eq_true rfl⟩) hS (fun q _ h => hFc q h) hFc (fun r1 u t9 H1 locs ht9 hvm hw1 hB hz1 hk1 hS => ?_)
      obtain ⟨al1, sh1, is1, us1, fo1, sw1, sc1, ho1, fr1, to1, di1, ha1⟩ := u
      try dsimp only at hw1
      obtain ⟨hP1, hK1, hD1⟩ : mw_BC dC dI _ q0 a d al1 sh1 is1 us1 fo1 sw1 sc1 F ho1 fr1 to1 di1 ha1 t9 := hB
      rw [ht9] at hP1
      obtain ⟨hP, hD⟩ := va_join (wr := (mw_M q1 a2 d2 ma ms mo mc)) (w1 := (mw_C q0 a d al1 sh1 is1 us1 fo1 sw1 sc1 F ho1 fr1 to1 di1 ha1)) hP hD [0, 1, 2, 3, 4, 5, 6, 7, 8, 9, 10, 11] [12, 13, 14, 15, 16] rfl rfl (by decide) (by decide) hk1 hFc hP1 hD1
      have hP := hP.sub (ws' := ((mw_C q0 a d al1 sh1 is1 us1 fo1 sw1 sc1 F ho1 fr1 to1 di1 ha1) ++ (mw_M q1 a2 d2 ma ms mo mc))) [5, 6, 7, 8, 9, 10, 11, 12, 13, 14, 15, 16, 0, 1, 2, 3, 4] rfl
      have hD := hD.sub (ws' := ((mw_C q0 a d al1 sh1 is1 us1 fo1 sw1 sc1 F ho1 fr1 to1 di1 ha1) ++ (mw_M q1 a2 d2 ma ms mo mc))) [5, 6, 7, 8, 9, 10, 11, 12, 13, 14, 15, 16, 0, 1, 2, 3, 4] (by decide) rfl
      generalize H1 = H at hP hS ⊢
      have hP : va_P (dC, dI) vwCl ((mw_C q0 a d al1 sh1 is1 us1 fo1 sw1 sc1 F ho1 fr1 to1 di1 ha1) ++ (mw_M q1 a2 d2 ma ms mo mc)) H := hP
      have hD : va_D (fun q : Nat => s.heap.size ≤ q) ((mw_C q0 a d al1 sh1 is1 us1 fo1 sw1 sc1 F ho1 fr1 to1 di1 ha1) ++ (mw_M q1 a2 d2 ma ms mo mc)) := hD
      refine W.widen (k := 17) (n := 367) (Nat.le_refl _) (Nat.le_refl _) ?_
      refine lv_aload_n hx hb dL_law_267 rfl (lv_at hl 1 rfl) ?_
      refine lv_aload_n hx hb dL_law_268 rfl (lv_at hl 3 rfl) ?_
      refine lv_iload_n hx hb dL_law_269 rfl (lv_at hl 0 rfl) ?_
      refine lv_iconst (v := (nI 1)) hx hb dL_law_270 (by decide) ?_
      refine kw_add hx hb dL_law_271 ?_
      refine kw_sld (j := i + 1) hx hb hX hbl hbA hS (by omega) (by omega) dL_law_272 ?_
      have hPc := hP.sub (ws' := (mw_M q1 a2 d2 ma ms mo mc)) [12, 13, 14, 15, 16] rfl
      have hDc := hD.sub (ws' := (mw_M q1 a2 d2 ma ms mo mc)) [12, 13, 14, 15, 16] (by decide) rfl
      have hKc := hK.sub (tys' := (mw_MK d2)) [11, 12, 13, 14] rfl
      have hFc := va_free (wc := (mw_M q1 a2 d2 ma ms mo mc)) hD hS hA [12, 13, 14, 15, 16] rfl
      refine va_calli (va_runV (As := [.int (xs (i + 1))]) (rest := [.int r1]) ⟨hx, hb, hml, hown, hts⟩ (mX2_exit l dC dI q1 a2 d2 H.size ma ms mo mc hM (xs (i + 1))) (cwV 1 hts (lw_V q201 q202 q203 q15 q204) rfl rfl rfl (by decide +kernel) ⟨Nat.le_of_ble_eq_true rfl, Nat.le_of_ble_eq_true rfl⟩) ⟨fun a U g mk q => by obtain ⟨q0, q1, qP, qK, qD⟩ := q; exact ⟨q0, q1, qP, va_K.moved (u := U) (U := U.calling g mk a) (Vm.Alike.refl U.vm) qK, qD⟩, va_recv hKc hPc (ci := 1) (q0 := 0) rfl rfl, fun U hU hW => ⟨rfl, by rw [hU], by rw [hU]; exact hPc, va_K.moved hW.alike hKc, hDc.weaken (fun _ _ _ _ => trivial)⟩⟩ rfl rfl hl.1 rfl (lv_room (Nat.le_of_ble_eq_true rfl)) dL_law_273 ⟨Nat.le_of_ble_eq_true rfl, Nat.le_of_ble_eq_true rfl⟩) hS (fun q _ h => hFc q h) hFc (fun r2 u t9 H1 locs ht9 hvm hw2 hB hz1 hk1 hS => ?_)
      obtain ⟨ma1, ms1, mo1, mc1⟩ := u
      try dsimp only at hw2
      obtain ⟨hP1, hK1, hD1⟩ : mw_BM dC dI _ q1 a2 d2 ma1 ms1 mo1 mc1 t9 := hB
      rw [ht9] at hP1
      obtain ⟨hP, hD⟩ := va_join (wr := (mw_C q0 a d al1 sh1 is1 us1 fo1 sw1 sc1 F ho1 fr1 to1 di1 ha1)) (w1 := (mw_M q1 a2 d2 ma1 ms1 mo1 mc1)) hP hD [12, 13, 14, 15, 16] [0, 1, 2, 3, 4, 5, 6, 7, 8, 9, 10, 11] rfl rfl (by decide) (by decide) hk1 hFc hP1 hD1
      generalize H1 = H at hP hS ⊢
      have hP : va_P (dC, dI) vwCl ((mw_C q0 a d al1 sh1 is1 us1 fo1 sw1 sc1 F ho1 fr1 to1 di1 ha1) ++ (mw_M q1 a2 d2 ma1 ms1 mo1 mc1)) H := hP
      have hD : va_D (fun q : Nat => s.heap.size ≤ q) ((mw_C q0 a d al1 sh1 is1 us1 fo1 sw1 sc1 F ho1 fr1 to1 di1 ha1) ++ (mw_M q1 a2 d2 ma1 ms1 mo1 mc1)) := hD
      refine W.widen (k := 17) (n := 367) (Nat.le_refl _) (Nat.le_refl _) ?_
      rw [← hw2] at hw1
      refine lv_icmp_eq (tgt := 450) hx hb dL_law_276 (by decide) (fun c9 => ?_) (fun c9 => ?_)
      · exact hnext al1 sh1 is1 us1 fo1 sw1 sc1 ho1 fr1 to1 di1 ha1 ma1 ms1 mo1 mc1 hw1.2 H locs hP hD hS
      exact absurd hw1.1 c9
    · refine lv_tableIn (off := 239) (tgt := 281) hx hb dL_law_42 (by decide) (by decide) (by decide) (by decide) ?_
      refine lv_aload_n hx hb dL_law_281 rfl (lv_at hl 2 rfl) ?_
      refine lv_aload_n hx hb dL_law_282 rfl (lv_at hl 3 rfl) ?_
      refine lv_iload_n hx hb dL_law_283 rfl (lv_at hl 0 rfl) ?_
      refine lv_iconst (v := (nI 1)) hx hb dL_law_284 (by decide) ?_
      refine kw_add hx hb dL_law_285 ?_
      refine kw_sld (j := i + 1) hx hb hX hbl hbA hS (by omega) (by omega) dL_law_286 ?_
      refine lv_aload_n hx hb dL_law_287 rfl (lv_at hl 3 rfl) ?_
      refine lv_iload_n hx hb dL_law_288 rfl (lv_at hl 0 rfl) ?_
      refine lv_iconst (v := (nI 2)) hx hb dL_law_289 (by decide) ?_
      refine kw_add hx hb dL_law_290 ?_
      refine kw_sld (j := i + 2) hx hb hX hbl hbA hS (by omega) (by omega) dL_law_291 ?_
      refine lv_aload_n hx hb dL_law_292 rfl (lv_at hl 3 rfl) ?_
      refine lv_iload_n hx hb dL_law_293 rfl (lv_at hl 0 rfl) ?_
      refine lv_iconst (v := (nI 3)) hx hb dL_law_294 (by decide) ?_
      refine kw_add hx hb dL_law_295 ?_
      refine kw_sld (j := i + 3) hx hb hX hbl hbA hS (by omega) (by omega) dL_law_296 ?_
      have hPc := hP.sub (ws' := (mw_C q0 a d al sh is us fo sw sc F ho fr to di ha)) [0, 1, 2, 3, 4, 5, 6, 7, 8, 9, 10, 11] rfl
      have hDc := hD.sub (ws' := (mw_C q0 a d al sh is us fo sw sc F ho fr to di ha)) [0, 1, 2, 3, 4, 5, 6, 7, 8, 9, 10, 11] (by decide) rfl
      have hKc := hK.sub (tys' := (mw_CK d)) [0, 1, 2, 3, 4, 5, 6, 7, 8, 9, 10] rfl
      have hFc := va_free (wc := (mw_C q0 a d al sh is us fo sw sc F ho fr to di ha)) hD hS hA [0, 1, 2, 3, 4, 5, 6, 7, 8, 9, 10, 11] rfl
      refine va_calli (va_runV (As := [.int (xs (i + 1)), .int (xs (i + 2)), .int (xs (i + 3))]) (rest := []) ⟨hx, hb, hml, hown, hts⟩ (mX1_write l dC dI q0 a d H.size al sh is us fo sw sc F ho fr to di ha ma ms mo mc hI (xs (i + 1)) (xs (i + 2)) (xs (i + 3))) (cwV 3 hts (lw_V q99 q100 q101 q14 q102) rfl rfl rfl (by decide +kernel) ⟨Nat.le_of_ble_eq_true rfl, Nat.le_of_ble_eq_true rfl⟩) ⟨fun a U g mk q => by obtain ⟨q0, q1, qP, qK, qD⟩ := q; exact ⟨q0, q1, qP, va_K.moved (u := U) (U := U.calling g mk a) (Vm.Alike.refl U.vm) qK, qD⟩, va_recv hKc hPc (ci := 0) (q0 := 0) rfl rfl, fun U hU hW => ⟨rfl, by rw [hU], by rw [hU]; exact hPc, va_K.moved hW.alike hKc, hDc.weaken (fun _ _ _ _ => trivial)⟩⟩ rfl rfl hl.1 rfl (lv_room (Nat.le_of_ble_eq_true rfl)) dL_law_297 ⟨Nat.le_of_ble_eq_true rfl, Nat.le_of_ble_eq_true rfl⟩) hS (fun q _ h => hFc q h) hFc (fun r1 u t9 H1 locs ht9 hvm hw1 hB hz1 hk1 hS => ?_)
      obtain ⟨al1, sh1, is1, us1, fo1, sw1, sc1, ho1, fr1, to1, di1, ha1⟩ := u
      try dsimp only at hw1
      obtain ⟨hP1, hK1, hD1⟩ : mw_BC dC dI _ q0 a d al1 sh1 is1 us1 fo1 sw1 sc1 F ho1 fr1 to1 di1 ha1 t9 := hB
      rw [ht9] at hP1
      obtain ⟨hP, hD⟩ := va_join (wr := (mw_M q1 a2 d2 ma ms mo mc)) (w1 := (mw_C q0 a d al1 sh1 is1 us1 fo1 sw1 sc1 F ho1 fr1 to1 di1 ha1)) hP hD [0, 1, 2, 3, 4, 5, 6, 7, 8, 9, 10, 11] [12, 13, 14, 15, 16] rfl rfl (by decide) (by decide) hk1 hFc hP1 hD1
      have hP := hP.sub (ws' := ((mw_C q0 a d al1 sh1 is1 us1 fo1 sw1 sc1 F ho1 fr1 to1 di1 ha1) ++ (mw_M q1 a2 d2 ma ms mo mc))) [5, 6, 7, 8, 9, 10, 11, 12, 13, 14, 15, 16, 0, 1, 2, 3, 4] rfl
      have hD := hD.sub (ws' := ((mw_C q0 a d al1 sh1 is1 us1 fo1 sw1 sc1 F ho1 fr1 to1 di1 ha1) ++ (mw_M q1 a2 d2 ma ms mo mc))) [5, 6, 7, 8, 9, 10, 11, 12, 13, 14, 15, 16, 0, 1, 2, 3, 4] (by decide) rfl
      generalize H1 = H at hP hS ⊢
      have hP : va_P (dC, dI) vwCl ((mw_C q0 a d al1 sh1 is1 us1 fo1 sw1 sc1 F ho1 fr1 to1 di1 ha1) ++ (mw_M q1 a2 d2 ma ms mo mc)) H := hP
      have hD : va_D (fun q : Nat => s.heap.size ≤ q) ((mw_C q0 a d al1 sh1 is1 us1 fo1 sw1 sc1 F ho1 fr1 to1 di1 ha1) ++ (mw_M q1 a2 d2 ma ms mo mc)) := hD
      refine W.widen (k := 17) (n := 367) (Nat.le_refl _) (Nat.le_refl _) ?_
      refine lv_aload_n hx hb dL_law_300 rfl (lv_at hl 1 rfl) ?_
      refine lv_aload_n hx hb dL_law_301 rfl (lv_at hl 3 rfl) ?_
      refine lv_iload_n hx hb dL_law_302 rfl (lv_at hl 0 rfl) ?_
      refine lv_iconst (v := (nI 1)) hx hb dL_law_303 (by decide) ?_
      refine kw_add hx hb dL_law_304 ?_
      refine kw_sld (j := i + 1) hx hb hX hbl hbA hS (by omega) (by omega) dL_law_305 ?_
      refine lv_aload_n hx hb dL_law_306 rfl (lv_at hl 3 rfl) ?_
      refine lv_iload_n hx hb dL_law_307 rfl (lv_at hl 0 rfl) ?_
      refine lv_iconst (v := (nI 2)) hx hb dL_law_308 (by decide) ?_
      refine kw_add hx hb dL_law_309 ?_
      refine kw_sld (j := i + 2) hx hb hX hbl hbA hS (by omega) (by omega) dL_law_310 ?_
      refine lv_aload_n hx hb dL_law_311 rfl (lv_at hl 3 rfl) ?_
      refine lv_iload_n hx hb dL_law_312 rfl (lv_at hl 0 rfl) ?_
      refine lv_iconst (v := (nI 3)) hx hb dL_law_313 (by decide) ?_
      refine kw_add hx hb dL_law_314 ?_
      refine kw_sld (j := i + 3) hx hb hX hbl hbA hS (by omega) (by omega) dL_law_315 ?_
      have hPc := hP.sub (ws' := (mw_M q1 a2 d2 ma ms mo mc)) [12, 13, 14, 15, 16] rfl
      have hDc := hD.sub (ws' := (mw_M q1 a2 d2 ma ms mo mc)) [12, 13, 14, 15, 16] (by decide) rfl
      have hKc := hK.sub (tys' := (mw_MK d2)) [11, 12, 13, 14] rfl
      have hFc := va_free (wc := (mw_M q1 a2 d2 ma ms mo mc)) hD hS hA [12, 13, 14, 15, 16] rfl
      refine va_calli (va_runV (As := [.int (xs (i + 1)), .int (xs (i + 2)), .int (xs (i + 3))]) (rest := [.int r1]) ⟨hx, hb, hml, hown, hts⟩ (mX2_write l dC dI q1 a2 d2 H.size ma ms mo mc hM (xs (i + 1)) (xs (i + 2)) (xs (i + 3))) (cwV 3 hts (lw_V q205 q206 q207 q15 q208) rfl rfl rfl (by decide +kernel) ⟨Nat.le_of_ble_eq_true rfl, Nat.le_of_ble_eq_true rfl⟩) ⟨fun a U g mk q => by obtain ⟨q0, q1, qP, qK, qD⟩ := q; exact ⟨q0, q1, qP, va_K.moved (u := U) (U := U.calling g mk a) (Vm.Alike.refl U.vm) qK, qD⟩, va_recv hKc hPc (ci := 1) (q0 := 0) rfl rfl, fun U hU hW => ⟨rfl, by rw [hU], by rw [hU]; exact hPc, va_K.moved hW.alike hKc, hDc.weaken (fun _ _ _ _ => trivial)⟩⟩ rfl rfl hl.1 rfl (lv_room (Nat.le_of_ble_eq_true rfl)) dL_law_316 ⟨Nat.le_of_ble_eq_true rfl, Nat.le_of_ble_eq_true rfl⟩) hS (fun q _ h => hFc q h) hFc (fun r2 u t9 H1 locs ht9 hvm hw2 hB hz1 hk1 hS => ?_)
      obtain ⟨ma1, ms1, mo1, mc1⟩ := u
      try dsimp only at hw2
      obtain ⟨hP1, hK1, hD1⟩ : mw_BM dC dI _ q1 a2 d2 ma1 ms1 mo1 mc1 t9 := hB
      rw [ht9] at hP1
      obtain ⟨hP, hD⟩ := va_join (wr := (mw_C q0 a d al1 sh1 is1 us1 fo1 sw1 sc1 F ho1 fr1 to1 di1 ha1)) (w1 := (mw_M q1 a2 d2 ma1 ms1 mo1 mc1)) hP hD [12, 13, 14, 15, 16] [0, 1, 2, 3, 4, 5, 6, 7, 8, 9, 10, 11] rfl rfl (by decide) (by decide) hk1 hFc hP1 hD1
      generalize H1 = H at hP hS ⊢
      have hP : va_P (dC, dI) vwCl ((mw_C q0 a d al1 sh1 is1 us1 fo1 sw1 sc1 F ho1 fr1 to1 di1 ha1) ++ (mw_M q1 a2 d2 ma1 ms1 mo1 mc1)) H := hP
      have hD : va_D (fun q : Nat => s.heap.size ≤ q) ((mw_C q0 a d al1 sh1 is1 us1 fo1 sw1 sc1 F ho1 fr1 to1 di1 ha1) ++ (mw_M q1 a2 d2 ma1 ms1 mo1 mc1)) := hD
      refine W.widen (k := 17) (n := 367) (Nat.le_refl _) (Nat.le_refl _) ?_
      rw [← hw2] at hw1
      refine lv_icmp_eq (tgt := 450) hx hb dL_law_319 (by decide) (fun c9 => ?_) (fun c9 => ?_)
      · exact hnext al1 sh1 is1 us1 fo1 sw1 sc1 ho1 fr1 to1 di1 ha1 ma1 ms1 mo1 mc1 hw1.2 H locs hP hD hS
      exact absurd hw1.1 c9
    · refine lv_tableIn (off := 282) (tgt := 324) hx hb dL_law_42 (by decide) (by decide) (by decide) (by decide) ?_
      refine lv_aload_n hx hb dL_law_324 rfl (lv_at hl 2 rfl) ?_
      refine lv_aload_n hx hb dL_law_325 rfl (lv_at hl 3 rfl) ?_
      refine lv_iload_n hx hb dL_law_326 rfl (lv_at hl 0 rfl) ?_
      refine lv_iconst (v := (nI 1)) hx hb dL_law_327 (by decide) ?_
      refine kw_add hx hb dL_law_328 ?_
      refine kw_sld (j := i + 1) hx hb hX hbl hbA hS (by omega) (by omega) dL_law_329 ?_
      refine lv_aload_n hx hb dL_law_330 rfl (lv_at hl 3 rfl) ?_
      refine lv_iload_n hx hb dL_law_331 rfl (lv_at hl 0 rfl) ?_
      refine lv_iconst (v := (nI 2)) hx hb dL_law_332 (by decide) ?_
      refine kw_add hx hb dL_law_333 ?_
      refine kw_sld (j := i + 2) hx hb hX hbl hbA hS (by omega) (by omega) dL_law_334 ?_
      have hPc := hP.sub (ws' := (mw_C q0 a d al sh is us fo sw sc F ho fr to di ha)) [0, 1, 2, 3, 4, 5, 6, 7, 8, 9, 10, 11] rfl
      have hDc := hD.sub (ws' := (mw_C q0 a d al sh is us fo sw sc F ho fr to di ha)) [0, 1, 2, 3, 4, 5, 6, 7, 8, 9, 10, 11] (by decide) rfl
      have hKc := hK.sub (tys' := (mw_CK d)) [0, 1, 2, 3, 4, 5, 6, 7, 8, 9, 10] rfl
      have hFc := va_free (wc := (mw_C q0 a d al sh is us fo sw sc F ho fr to di ha)) hD hS hA [0, 1, 2, 3, 4, 5, 6, 7, 8, 9, 10, 11] rfl
      refine va_calli (va_runV (As := [.int (xs (i + 1)), .int (xs (i + 2))]) (rest := []) ⟨hx, hb, hml, hown, hts⟩ (mX1_read l dC dI q0 a d H.size al sh is us fo sw sc F ho fr to di ha ma ms mo mc hI (xs (i + 1)) (xs (i + 2))) (cwV 2 hts (lw_V q119 q120 q121 q14 q122) rfl rfl rfl (by decide +kernel) ⟨Nat.le_of_ble_eq_true rfl, Nat.le_of_ble_eq_true rfl⟩) ⟨fun a U g mk q => by obtain ⟨q0, q1, qP, qK, qD⟩ := q; exact ⟨q0, q1, qP, va_K.moved (u := U) (U := U.calling g mk a) (Vm.Alike.refl U.vm) qK, qD⟩, va_recv hKc hPc (ci := 0) (q0 := 0) rfl rfl, fun U hU hW => ⟨rfl, by rw [hU], by rw [hU]; exact hPc, va_K.moved hW.alike hKc, hDc.weaken (fun _ _ _ _ => trivial)⟩⟩ rfl rfl hl.1 rfl (lv_room (Nat.le_of_ble_eq_true rfl)) dL_law_335 ⟨Nat.le_of_ble_eq_true rfl, Nat.le_of_ble_eq_true rfl⟩) hS (fun q _ h => hFc q h) hFc (fun r1 u t9 H1 locs ht9 hvm hw1 hB hz1 hk1 hS => ?_)
      obtain ⟨al1, sh1, is1, us1, fo1, sw1, sc1, ho1, fr1, to1, di1, ha1⟩ := u
      try dsimp only at hw1
      obtain ⟨hP1, hK1, hD1⟩ : mw_BC dC dI _ q0 a d al1 sh1 is1 us1 fo1 sw1 sc1 F ho1 fr1 to1 di1 ha1 t9 := hB
      rw [ht9] at hP1
      obtain ⟨hP, hD⟩ := va_join (wr := (mw_M q1 a2 d2 ma ms mo mc)) (w1 := (mw_C q0 a d al1 sh1 is1 us1 fo1 sw1 sc1 F ho1 fr1 to1 di1 ha1)) hP hD [0, 1, 2, 3, 4, 5, 6, 7, 8, 9, 10, 11] [12, 13, 14, 15, 16] rfl rfl (by decide) (by decide) hk1 hFc hP1 hD1
      have hP := hP.sub (ws' := ((mw_C q0 a d al1 sh1 is1 us1 fo1 sw1 sc1 F ho1 fr1 to1 di1 ha1) ++ (mw_M q1 a2 d2 ma ms mo mc))) [5, 6, 7, 8, 9, 10, 11, 12, 13, 14, 15, 16, 0, 1, 2, 3, 4] rfl
      have hD := hD.sub (ws' := ((mw_C q0 a d al1 sh1 is1 us1 fo1 sw1 sc1 F ho1 fr1 to1 di1 ha1) ++ (mw_M q1 a2 d2 ma ms mo mc))) [5, 6, 7, 8, 9, 10, 11, 12, 13, 14, 15, 16, 0, 1, 2, 3, 4] (by decide) rfl
      generalize H1 = H at hP hS ⊢
      have hP : va_P (dC, dI) vwCl ((mw_C q0 a d al1 sh1 is1 us1 fo1 sw1 sc1 F ho1 fr1 to1 di1 ha1) ++ (mw_M q1 a2 d2 ma ms mo mc)) H := hP
      have hD : va_D (fun q : Nat => s.heap.size ≤ q) ((mw_C q0 a d al1 sh1 is1 us1 fo1 sw1 sc1 F ho1 fr1 to1 di1 ha1) ++ (mw_M q1 a2 d2 ma ms mo mc)) := hD
      refine W.widen (k := 17) (n := 367) (Nat.le_refl _) (Nat.le_refl _) ?_
      refine lv_aload_n hx hb dL_law_338 rfl (lv_at hl 1 rfl) ?_
      refine lv_aload_n hx hb dL_law_339 rfl (lv_at hl 3 rfl) ?_
      refine lv_iload_n hx hb dL_law_340 rfl (lv_at hl 0 rfl) ?_
      refine lv_iconst (v := (nI 1)) hx hb dL_law_341 (by decide) ?_
      refine kw_add hx hb dL_law_342 ?_
      refine kw_sld (j := i + 1) hx hb hX hbl hbA hS (by omega) (by omega) dL_law_343 ?_
      refine lv_aload_n hx hb dL_law_344 rfl (lv_at hl 3 rfl) ?_
      refine lv_iload_n hx hb dL_law_345 rfl (lv_at hl 0 rfl) ?_
      refine lv_iconst (v := (nI 2)) hx hb dL_law_346 (by decide) ?_
      refine kw_add hx hb dL_law_347 ?_
      refine kw_sld (j := i + 2) hx hb hX hbl hbA hS (by omega) (by omega) dL_law_348 ?_
      have hPc := hP.sub (ws' := (mw_M q1 a2 d2 ma ms mo mc)) [12, 13, 14, 15, 16] rfl
      have hDc := hD.sub (ws' := (mw_M q1 a2 d2 ma ms mo mc)) [12, 13, 14, 15, 16] (by decide) rfl
      have hKc := hK.sub (tys' := (mw_MK d2)) [11, 12, 13, 14] rfl
      have hFc := va_free (wc := (mw_M q1 a2 d2 ma ms mo mc)) hD hS hA [12, 13, 14, 15, 16] rfl
      refine va_calli (va_runV (As := [.int (xs (i + 1)), .int (xs (i + 2))]) (rest := [.int r1]) ⟨hx, hb, hml, hown, hts⟩ (mX2_read l dC dI q1 a2 d2 H.size ma ms mo mc hM (xs (i + 1)) (xs (i + 2))) (cwV 2 hts (lw_V q209 q210 q211 q15 q212) rfl rfl rfl (by decide +kernel) ⟨Nat.le_of_ble_eq_true rfl, Nat.le_of_ble_eq_true rfl⟩) ⟨fun a U g mk q => by obtain ⟨q0, q1, qP, qK, qD⟩ := q; exact ⟨q0, q1, qP, va_K.moved (u := U) (U := U.calling g mk a) (Vm.Alike.refl U.vm) qK, qD⟩, va_recv hKc hPc (ci := 1) (q0 := 0) rfl rfl, fun U hU hW => ⟨rfl, by rw [hU], by rw [hU]; exact hPc, va_K.moved hW.alike hKc, hDc.weaken (fun _ _ _ _ => trivial)⟩⟩ rfl rfl hl.1 rfl (lv_room (Nat.le_of_ble_eq_true rfl)) dL_law_349 ⟨Nat.le_of_ble_eq_true rfl, Nat.le_of_ble_eq_true rfl⟩) hS (fun q _ h => hFc q h) hFc (fun r2 u t9 H1 locs ht9 hvm hw2 hB hz1 hk1 hS => ?_)
      obtain ⟨hP1, hK1, hD1⟩ : mw_BM dC dI _ q1 a2 d2 ma ms mo mc t9 := hB
      rw [ht9] at hP1
      obtain ⟨hP, hD⟩ := va_join (wr := (mw_C q0 a d al1 sh1 is1 us1 fo1 sw1 sc1 F ho1 fr1 to1 di1 ha1)) (w1 := (mw_M q1 a2 d2 ma ms mo mc)) hP hD [12, 13, 14, 15, 16] [0, 1, 2, 3, 4, 5, 6, 7, 8, 9, 10, 11] rfl rfl (by decide) (by decide) hk1 hFc hP1 hD1
      generalize H1 = H at hP hS ⊢
      have hP : va_P (dC, dI) vwCl ((mw_C q0 a d al1 sh1 is1 us1 fo1 sw1 sc1 F ho1 fr1 to1 di1 ha1) ++ (mw_M q1 a2 d2 ma ms mo mc)) H := hP
      have hD : va_D (fun q : Nat => s.heap.size ≤ q) ((mw_C q0 a d al1 sh1 is1 us1 fo1 sw1 sc1 F ho1 fr1 to1 di1 ha1) ++ (mw_M q1 a2 d2 ma ms mo mc)) := hD
      refine W.widen (k := 17) (n := 367) (Nat.le_refl _) (Nat.le_refl _) ?_
      refine lv_icmp_eq (tgt := 450) hx hb dL_law_352 (by decide) (fun c9 => ?_) (fun c9 => ?_)
      · exact hnext al1 sh1 is1 us1 fo1 sw1 sc1 ho1 fr1 to1 di1 ha1 ma ms mo mc hw1.2 H locs hP hD hS
      exact absurd (hw1.1.trans hw2.symm) c9
    · refine lv_tableIn (off := 315) (tgt := 357) hx hb dL_law_42 (by decide) (by decide) (by decide) (by decide) ?_
      refine lv_aload_n hx hb dL_law_357 rfl (lv_at hl 2 rfl) ?_
      refine lv_aload_n hx hb dL_law_358 rfl (lv_at hl 3 rfl) ?_
      refine lv_iload_n hx hb dL_law_359 rfl (lv_at hl 0 rfl) ?_
      refine lv_iconst (v := (nI 1)) hx hb dL_law_360 (by decide) ?_
      refine kw_add hx hb dL_law_361 ?_
      refine kw_sld (j := i + 1) hx hb hX hbl hbA hS (by omega) (by omega) dL_law_362 ?_
      refine lv_aload_n hx hb dL_law_363 rfl (lv_at hl 3 rfl) ?_
      refine lv_iload_n hx hb dL_law_364 rfl (lv_at hl 0 rfl) ?_
      refine lv_iconst (v := (nI 2)) hx hb dL_law_365 (by decide) ?_
      refine kw_add hx hb dL_law_366 ?_
      refine kw_sld (j := i + 2) hx hb hX hbl hbA hS (by omega) (by omega) dL_law_367 ?_
      have hPc := hP.sub (ws' := (mw_C q0 a d al sh is us fo sw sc F ho fr to di ha)) [0, 1, 2, 3, 4, 5, 6, 7, 8, 9, 10, 11] rfl
      have hDc := hD.sub (ws' := (mw_C q0 a d al sh is us fo sw sc F ho fr to di ha)) [0, 1, 2, 3, 4, 5, 6, 7, 8, 9, 10, 11] (by decide) rfl
      have hKc := hK.sub (tys' := (mw_CK d)) [0, 1, 2, 3, 4, 5, 6, 7, 8, 9, 10] rfl
      have hFc := va_free (wc := (mw_C q0 a d al sh is us fo sw sc F ho fr to di ha)) hD hS hA [0, 1, 2, 3, 4, 5, 6, 7, 8, 9, 10, 11] rfl
      refine va_calli (va_runV (As := [.int (xs (i + 1)), .int (xs (i + 2))]) (rest := []) ⟨hx, hb, hml, hown, hts⟩ (mX1_isMapped l dC dI q0 a d H.size al sh is us fo sw sc F ho fr to di ha ma ms mo mc hI (xs (i + 1)) (xs (i + 2))) (cwV 2 hts (lw_V q123 q124 q125 q14 q126) rfl rfl rfl (by decide +kernel) ⟨Nat.le_of_ble_eq_true rfl, Nat.le_of_ble_eq_true rfl⟩) ⟨fun a U g mk q => by obtain ⟨q0, q1, qP, qK, qD⟩ := q; exact ⟨q0, q1, qP, va_K.moved (u := U) (U := U.calling g mk a) (Vm.Alike.refl U.vm) qK, qD⟩, va_recv hKc hPc (ci := 0) (q0 := 0) rfl rfl, fun U hU hW => ⟨rfl, by rw [hU], by rw [hU]; exact hPc, va_K.moved hW.alike hKc, hDc.weaken (fun _ _ _ _ => trivial)⟩⟩ rfl rfl hl.1 rfl (lv_room (Nat.le_of_ble_eq_true rfl)) dL_law_368 ⟨Nat.le_of_ble_eq_true rfl, Nat.le_of_ble_eq_true rfl⟩) hS (fun q _ h => hFc q h) hFc (fun r1 u t9 H1 locs ht9 hvm hw1 hB hz1 hk1 hS => ?_)
      obtain ⟨hP1, hK1, hD1⟩ : mw_BC dC dI _ q0 a d al sh is us fo sw sc F ho fr to di ha t9 := hB
      rw [ht9] at hP1
      obtain ⟨hP, hD⟩ := va_join (wr := (mw_M q1 a2 d2 ma ms mo mc)) (w1 := (mw_C q0 a d al sh is us fo sw sc F ho fr to di ha)) hP hD [0, 1, 2, 3, 4, 5, 6, 7, 8, 9, 10, 11] [12, 13, 14, 15, 16] rfl rfl (by decide) (by decide) hk1 hFc hP1 hD1
      have hP := hP.sub (ws' := ((mw_C q0 a d al sh is us fo sw sc F ho fr to di ha) ++ (mw_M q1 a2 d2 ma ms mo mc))) [5, 6, 7, 8, 9, 10, 11, 12, 13, 14, 15, 16, 0, 1, 2, 3, 4] rfl
      have hD := hD.sub (ws' := ((mw_C q0 a d al sh is us fo sw sc F ho fr to di ha) ++ (mw_M q1 a2 d2 ma ms mo mc))) [5, 6, 7, 8, 9, 10, 11, 12, 13, 14, 15, 16, 0, 1, 2, 3, 4] (by decide) rfl
      generalize H1 = H at hP hS ⊢
      have hP : va_P (dC, dI) vwCl ((mw_C q0 a d al sh is us fo sw sc F ho fr to di ha) ++ (mw_M q1 a2 d2 ma ms mo mc)) H := hP
      have hD : va_D (fun q : Nat => s.heap.size ≤ q) ((mw_C q0 a d al sh is us fo sw sc F ho fr to di ha) ++ (mw_M q1 a2 d2 ma ms mo mc)) := hD
      refine W.widen (k := 17) (n := 367) (Nat.le_refl _) (Nat.le_refl _) ?_
      refine lv_aload_n hx hb dL_law_371 rfl (lv_at hl 1 rfl) ?_
      refine lv_aload_n hx hb dL_law_372 rfl (lv_at hl 3 rfl) ?_
      refine lv_iload_n hx hb dL_law_373 rfl (lv_at hl 0 rfl) ?_
      refine lv_iconst (v := (nI 1)) hx hb dL_law_374 (by decide) ?_
      refine kw_add hx hb dL_law_375 ?_
      refine kw_sld (j := i + 1) hx hb hX hbl hbA hS (by omega) (by omega) dL_law_376 ?_
      refine lv_aload_n hx hb dL_law_377 rfl (lv_at hl 3 rfl) ?_
      refine lv_iload_n hx hb dL_law_378 rfl (lv_at hl 0 rfl) ?_
      refine lv_iconst (v := (nI 2)) hx hb dL_law_379 (by decide) ?_
      refine kw_add hx hb dL_law_380 ?_
      refine kw_sld (j := i + 2) hx hb hX hbl hbA hS (by omega) (by omega) dL_law_381 ?_
      have hPc := hP.sub (ws' := (mw_M q1 a2 d2 ma ms mo mc)) [12, 13, 14, 15, 16] rfl
      have hDc := hD.sub (ws' := (mw_M q1 a2 d2 ma ms mo mc)) [12, 13, 14, 15, 16] (by decide) rfl
      have hKc := hK.sub (tys' := (mw_MK d2)) [11, 12, 13, 14] rfl
      have hFc := va_free (wc := (mw_M q1 a2 d2 ma ms mo mc)) hD hS hA [12, 13, 14, 15, 16] rfl
      refine va_calli (va_runV (As := [.int (xs (i + 1)), .int (xs (i + 2))]) (rest := [.int r1]) ⟨hx, hb, hml, hown, hts⟩ (mX2_isMapped l dC dI q1 a2 d2 H.size ma ms mo mc hM (xs (i + 1)) (xs (i + 2))) (cwV 2 hts (lw_V q213 q214 q215 q15 q216) rfl rfl rfl (by decide +kernel) ⟨Nat.le_of_ble_eq_true rfl, Nat.le_of_ble_eq_true rfl⟩) ⟨fun a U g mk q => by obtain ⟨q0, q1, qP, qK, qD⟩ := q; exact ⟨q0, q1, qP, va_K.moved (u := U) (U := U.calling g mk a) (Vm.Alike.refl U.vm) qK, qD⟩, va_recv hKc hPc (ci := 1) (q0 := 0) rfl rfl, fun U hU hW => ⟨rfl, by rw [hU], by rw [hU]; exact hPc, va_K.moved hW.alike hKc, hDc.weaken (fun _ _ _ _ => trivial)⟩⟩ rfl rfl hl.1 rfl (lv_room (Nat.le_of_ble_eq_true rfl)) dL_law_382 ⟨Nat.le_of_ble_eq_true rfl, Nat.le_of_ble_eq_true rfl⟩) hS (fun q _ h => hFc q h) hFc (fun r2 u t9 H1 locs ht9 hvm hw2 hB hz1 hk1 hS => ?_)
      obtain ⟨hP1, hK1, hD1⟩ : mw_BM dC dI _ q1 a2 d2 ma ms mo mc t9 := hB
      rw [ht9] at hP1
      obtain ⟨hP, hD⟩ := va_join (wr := (mw_C q0 a d al sh is us fo sw sc F ho fr to di ha)) (w1 := (mw_M q1 a2 d2 ma ms mo mc)) hP hD [12, 13, 14, 15, 16] [0, 1, 2, 3, 4, 5, 6, 7, 8, 9, 10, 11] rfl rfl (by decide) (by decide) hk1 hFc hP1 hD1
      generalize H1 = H at hP hS ⊢
      have hP : va_P (dC, dI) vwCl ((mw_C q0 a d al sh is us fo sw sc F ho fr to di ha) ++ (mw_M q1 a2 d2 ma ms mo mc)) H := hP
      have hD : va_D (fun q : Nat => s.heap.size ≤ q) ((mw_C q0 a d al sh is us fo sw sc F ho fr to di ha) ++ (mw_M q1 a2 d2 ma ms mo mc)) := hD
      refine W.widen (k := 17) (n := 367) (Nat.le_refl _) (Nat.le_refl _) ?_
      refine lv_icmp_eq (tgt := 450) hx hb dL_law_385 (by decide) (fun c9 => ?_) (fun c9 => ?_)
      · exact hnext al sh is us fo sw sc ho fr to di ha ma ms mo mc hI H locs hP hD hS
      exact absurd (hw1.trans hw2.symm) c9
    · refine lv_tableIn (off := 348) (tgt := 390) hx hb dL_law_42 (by decide) (by decide) (by decide) (by decide) ?_
      refine lv_aload_n hx hb dL_law_390 rfl (lv_at hl 2 rfl) ?_
      refine lv_aload_n hx hb dL_law_391 rfl (lv_at hl 3 rfl) ?_
      refine lv_iload_n hx hb dL_law_392 rfl (lv_at hl 0 rfl) ?_
      refine lv_iconst (v := (nI 1)) hx hb dL_law_393 (by decide) ?_
      refine kw_add hx hb dL_law_394 ?_
      refine kw_sld (j := i + 1) hx hb hX hbl hbA hS (by omega) (by omega) dL_law_395 ?_
      refine lv_aload_n hx hb dL_law_396 rfl (lv_at hl 3 rfl) ?_
      refine lv_iload_n hx hb dL_law_397 rfl (lv_at hl 0 rfl) ?_
      refine lv_iconst (v := (nI 2)) hx hb dL_law_398 (by decide) ?_
      refine kw_add hx hb dL_law_399 ?_
      refine kw_sld (j := i + 2) hx hb hX hbl hbA hS (by omega) (by omega) dL_law_400 ?_
      have hPc := hP.sub (ws' := (mw_C q0 a d al sh is us fo sw sc F ho fr to di ha)) [0, 1, 2, 3, 4, 5, 6, 7, 8, 9, 10, 11] rfl
      have hDc := hD.sub (ws' := (mw_C q0 a d al sh is us fo sw sc F ho fr to di ha)) [0, 1, 2, 3, 4, 5, 6, 7, 8, 9, 10, 11] (by decide) rfl
      have hKc := hK.sub (tys' := (mw_CK d)) [0, 1, 2, 3, 4, 5, 6, 7, 8, 9, 10] rfl
      have hFc := va_free (wc := (mw_C q0 a d al sh is us fo sw sc F ho fr to di ha)) hD hS hA [0, 1, 2, 3, 4, 5, 6, 7, 8, 9, 10, 11] rfl
      refine va_calli (va_runV (As := [.int (xs (i + 1)), .int (xs (i + 2))]) (rest := []) ⟨hx, hb, hml, hown, hts⟩ (mX1_showing l dC dI q0 a d H.size al sh is us fo sw sc F ho fr to di ha ma ms mo mc hI (xs (i + 1)) (xs (i + 2))) (cwV 2 hts (lw_V q127 q128 q129 q14 q130) rfl rfl rfl (by decide +kernel) ⟨Nat.le_of_ble_eq_true rfl, Nat.le_of_ble_eq_true rfl⟩) ⟨fun a U g mk q => by obtain ⟨q0, q1, qP, qK, qD⟩ := q; exact ⟨q0, q1, qP, va_K.moved (u := U) (U := U.calling g mk a) (Vm.Alike.refl U.vm) qK, qD⟩, va_recv hKc hPc (ci := 0) (q0 := 0) rfl rfl, fun U hU hW => ⟨rfl, by rw [hU], by rw [hU]; exact hPc, va_K.moved hW.alike hKc, hDc.weaken (fun _ _ _ _ => trivial)⟩⟩ rfl rfl hl.1 rfl (lv_room (Nat.le_of_ble_eq_true rfl)) dL_law_401 ⟨Nat.le_of_ble_eq_true rfl, Nat.le_of_ble_eq_true rfl⟩) hS (fun q _ h => hFc q h) hFc (fun r1 u t9 H1 locs ht9 hvm hw1 hB hz1 hk1 hS => ?_)
      obtain ⟨hP1, hK1, hD1⟩ : mw_BC dC dI _ q0 a d al sh is us fo sw sc F ho fr to di ha t9 := hB
      rw [ht9] at hP1
      obtain ⟨hP, hD⟩ := va_join (wr := (mw_M q1 a2 d2 ma ms mo mc)) (w1 := (mw_C q0 a d al sh is us fo sw sc F ho fr to di ha)) hP hD [0, 1, 2, 3, 4, 5, 6, 7, 8, 9, 10, 11] [12, 13, 14, 15, 16] rfl rfl (by decide) (by decide) hk1 hFc hP1 hD1
      have hP := hP.sub (ws' := ((mw_C q0 a d al sh is us fo sw sc F ho fr to di ha) ++ (mw_M q1 a2 d2 ma ms mo mc))) [5, 6, 7, 8, 9, 10, 11, 12, 13, 14, 15, 16, 0, 1, 2, 3, 4] rfl
      have hD := hD.sub (ws' := ((mw_C q0 a d al sh is us fo sw sc F ho fr to di ha) ++ (mw_M q1 a2 d2 ma ms mo mc))) [5, 6, 7, 8, 9, 10, 11, 12, 13, 14, 15, 16, 0, 1, 2, 3, 4] (by decide) rfl
      generalize H1 = H at hP hS ⊢
      have hP : va_P (dC, dI) vwCl ((mw_C q0 a d al sh is us fo sw sc F ho fr to di ha) ++ (mw_M q1 a2 d2 ma ms mo mc)) H := hP
      have hD : va_D (fun q : Nat => s.heap.size ≤ q) ((mw_C q0 a d al sh is us fo sw sc F ho fr to di ha) ++ (mw_M q1 a2 d2 ma ms mo mc)) := hD
      refine W.widen (k := 17) (n := 367) (Nat.le_refl _) (Nat.le_refl _) ?_
      refine lv_aload_n hx hb dL_law_404 rfl (lv_at hl 1 rfl) ?_
      refine lv_aload_n hx hb dL_law_405 rfl (lv_at hl 3 rfl) ?_
      refine lv_iload_n hx hb dL_law_406 rfl (lv_at hl 0 rfl) ?_
      refine lv_iconst (v := (nI 1)) hx hb dL_law_407 (by decide) ?_
      refine kw_add hx hb dL_law_408 ?_
      refine kw_sld (j := i + 1) hx hb hX hbl hbA hS (by omega) (by omega) dL_law_409 ?_
      refine lv_aload_n hx hb dL_law_410 rfl (lv_at hl 3 rfl) ?_
      refine lv_iload_n hx hb dL_law_411 rfl (lv_at hl 0 rfl) ?_
      refine lv_iconst (v := (nI 2)) hx hb dL_law_412 (by decide) ?_
      refine kw_add hx hb dL_law_413 ?_
      refine kw_sld (j := i + 2) hx hb hX hbl hbA hS (by omega) (by omega) dL_law_414 ?_
      have hPc := hP.sub (ws' := (mw_M q1 a2 d2 ma ms mo mc)) [12, 13, 14, 15, 16] rfl
      have hDc := hD.sub (ws' := (mw_M q1 a2 d2 ma ms mo mc)) [12, 13, 14, 15, 16] (by decide) rfl
      have hKc := hK.sub (tys' := (mw_MK d2)) [11, 12, 13, 14] rfl
      have hFc := va_free (wc := (mw_M q1 a2 d2 ma ms mo mc)) hD hS hA [12, 13, 14, 15, 16] rfl
      refine va_calli (va_runV (As := [.int (xs (i + 1)), .int (xs (i + 2))]) (rest := [.int r1]) ⟨hx, hb, hml, hown, hts⟩ (mX2_showing l dC dI q1 a2 d2 H.size ma ms mo mc hM (xs (i + 1)) (xs (i + 2))) (cwV 2 hts (lw_V q217 q218 q219 q15 q220) rfl rfl rfl (by decide +kernel) ⟨Nat.le_of_ble_eq_true rfl, Nat.le_of_ble_eq_true rfl⟩) ⟨fun a U g mk q => by obtain ⟨q0, q1, qP, qK, qD⟩ := q; exact ⟨q0, q1, qP, va_K.moved (u := U) (U := U.calling g mk a) (Vm.Alike.refl U.vm) qK, qD⟩, va_recv hKc hPc (ci := 1) (q0 := 0) rfl rfl, fun U hU hW => ⟨rfl, by rw [hU], by rw [hU]; exact hPc, va_K.moved hW.alike hKc, hDc.weaken (fun _ _ _ _ => trivial)⟩⟩ rfl rfl hl.1 rfl (lv_room (Nat.le_of_ble_eq_true rfl)) dL_law_415 ⟨Nat.le_of_ble_eq_true rfl, Nat.le_of_ble_eq_true rfl⟩) hS (fun q _ h => hFc q h) hFc (fun r2 u t9 H1 locs ht9 hvm hw2 hB hz1 hk1 hS => ?_)
      obtain ⟨hP1, hK1, hD1⟩ : mw_BM dC dI _ q1 a2 d2 ma ms mo mc t9 := hB
      rw [ht9] at hP1
      obtain ⟨hP, hD⟩ := va_join (wr := (mw_C q0 a d al sh is us fo sw sc F ho fr to di ha)) (w1 := (mw_M q1 a2 d2 ma ms mo mc)) hP hD [12, 13, 14, 15, 16] [0, 1, 2, 3, 4, 5, 6, 7, 8, 9, 10, 11] rfl rfl (by decide) (by decide) hk1 hFc hP1 hD1
      generalize H1 = H at hP hS ⊢
      have hP : va_P (dC, dI) vwCl ((mw_C q0 a d al sh is us fo sw sc F ho fr to di ha) ++ (mw_M q1 a2 d2 ma ms mo mc)) H := hP
      have hD : va_D (fun q : Nat => s.heap.size ≤ q) ((mw_C q0 a d al sh is us fo sw sc F ho fr to di ha) ++ (mw_M q1 a2 d2 ma ms mo mc)) := hD
      refine W.widen (k := 17) (n := 367) (Nat.le_refl _) (Nat.le_refl _) ?_
      refine lv_icmp_eq (tgt := 450) hx hb dL_law_418 (by decide) (fun c9 => ?_) (fun c9 => ?_)
      · exact hnext al sh is us fo sw sc ho fr to di ha ma ms mo mc hI H locs hP hD hS
      exact absurd (hw1.trans hw2.symm) c9
    · refine lv_tableIn (off := 381) (tgt := 423) hx hb dL_law_42 (by decide) (by decide) (by decide) (by decide) ?_
      refine lv_aload_n hx hb dL_law_423 rfl (lv_at hl 2 rfl) ?_
      have hPc := hP.sub (ws' := (mw_C q0 a d al sh is us fo sw sc F ho fr to di ha)) [0, 1, 2, 3, 4, 5, 6, 7, 8, 9, 10, 11] rfl
      have hDc := hD.sub (ws' := (mw_C q0 a d al sh is us fo sw sc F ho fr to di ha)) [0, 1, 2, 3, 4, 5, 6, 7, 8, 9, 10, 11] (by decide) rfl
      have hKc := hK.sub (tys' := (mw_CK d)) [0, 1, 2, 3, 4, 5, 6, 7, 8, 9, 10] rfl
      have hFc := va_free (wc := (mw_C q0 a d al sh is us fo sw sc F ho fr to di ha)) hD hS hA [0, 1, 2, 3, 4, 5, 6, 7, 8, 9, 10, 11] rfl
      refine va_calll (va_runV (As := []) (rest := []) ⟨hx, hb, hml, hown, hts⟩ (mX1_total l dC dI q0 a d H.size al sh is us fo sw sc F ho fr to di ha ma ms mo mc hI ) (cwV 0 hts (lw_V q131 q132 q133 q14 q134) rfl rfl rfl (by decide +kernel) ⟨Nat.le_of_ble_eq_true rfl, Nat.le_of_ble_eq_true rfl⟩) ⟨fun a U g mk q => by obtain ⟨q0, q1, qP, qK, qD⟩ := q; exact ⟨q0, q1, qP, va_K.moved (u := U) (U := U.calling g mk a) (Vm.Alike.refl U.vm) qK, qD⟩, va_recv hKc hPc (ci := 0) (q0 := 0) rfl rfl, fun U hU hW => ⟨rfl, by rw [hU], by rw [hU]; exact hPc, va_K.moved hW.alike hKc, hDc.weaken (fun _ _ _ _ => trivial)⟩⟩ rfl rfl hl.1 rfl (lv_room (Nat.le_of_ble_eq_true rfl)) dL_law_424 ⟨Nat.le_of_ble_eq_true rfl, Nat.le_of_ble_eq_true rfl⟩) hS (fun q _ h => hFc q h) hFc (fun r1 u t9 H1 locs ht9 hvm hw1 hB hz1 hk1 hS => ?_)
      obtain ⟨hP1, hK1, hD1⟩ : mw_BC dC dI _ q0 a d al sh is us fo sw sc F ho fr to di ha t9 := hB
      rw [ht9] at hP1
      obtain ⟨hP, hD⟩ := va_join (wr := (mw_M q1 a2 d2 ma ms mo mc)) (w1 := (mw_C q0 a d al sh is us fo sw sc F ho fr to di ha)) hP hD [0, 1, 2, 3, 4, 5, 6, 7, 8, 9, 10, 11] [12, 13, 14, 15, 16] rfl rfl (by decide) (by decide) hk1 hFc hP1 hD1
      have hP := hP.sub (ws' := ((mw_C q0 a d al sh is us fo sw sc F ho fr to di ha) ++ (mw_M q1 a2 d2 ma ms mo mc))) [5, 6, 7, 8, 9, 10, 11, 12, 13, 14, 15, 16, 0, 1, 2, 3, 4] rfl
      have hD := hD.sub (ws' := ((mw_C q0 a d al sh is us fo sw sc F ho fr to di ha) ++ (mw_M q1 a2 d2 ma ms mo mc))) [5, 6, 7, 8, 9, 10, 11, 12, 13, 14, 15, 16, 0, 1, 2, 3, 4] (by decide) rfl
      generalize H1 = H at hP hS ⊢
      have hP : va_P (dC, dI) vwCl ((mw_C q0 a d al sh is us fo sw sc F ho fr to di ha) ++ (mw_M q1 a2 d2 ma ms mo mc)) H := hP
      have hD : va_D (fun q : Nat => s.heap.size ≤ q) ((mw_C q0 a d al sh is us fo sw sc F ho fr to di ha) ++ (mw_M q1 a2 d2 ma ms mo mc)) := hD
      refine W.widen (k := 17) (n := 367) (Nat.le_refl _) (Nat.le_refl _) ?_
      refine lv_aload_n hx hb dL_law_427 rfl (lv_at hl 1 rfl) ?_
      have hPc := hP.sub (ws' := (mw_M q1 a2 d2 ma ms mo mc)) [12, 13, 14, 15, 16] rfl
      have hDc := hD.sub (ws' := (mw_M q1 a2 d2 ma ms mo mc)) [12, 13, 14, 15, 16] (by decide) rfl
      have hKc := hK.sub (tys' := (mw_MK d2)) [11, 12, 13, 14] rfl
      have hFc := va_free (wc := (mw_M q1 a2 d2 ma ms mo mc)) hD hS hA [12, 13, 14, 15, 16] rfl
      refine va_calll (va_runV (As := []) (rest := [.long r1]) ⟨hx, hb, hml, hown, hts⟩ (mX2_total l dC dI q1 a2 d2 H.size ma ms mo mc hM ) (cwV 0 hts (lw_V q221 q222 q223 q15 q224) rfl rfl rfl (by decide +kernel) ⟨Nat.le_of_ble_eq_true rfl, Nat.le_of_ble_eq_true rfl⟩) ⟨fun a U g mk q => by obtain ⟨q0, q1, qP, qK, qD⟩ := q; exact ⟨q0, q1, qP, va_K.moved (u := U) (U := U.calling g mk a) (Vm.Alike.refl U.vm) qK, qD⟩, va_recv hKc hPc (ci := 1) (q0 := 0) rfl rfl, fun U hU hW => ⟨rfl, by rw [hU], by rw [hU]; exact hPc, va_K.moved hW.alike hKc, hDc.weaken (fun _ _ _ _ => trivial)⟩⟩ rfl rfl hl.1 rfl (lv_room (Nat.le_of_ble_eq_true rfl)) dL_law_428 ⟨Nat.le_of_ble_eq_true rfl, Nat.le_of_ble_eq_true rfl⟩) hS (fun q _ h => hFc q h) hFc (fun r2 u t9 H1 locs ht9 hvm hw2 hB hz1 hk1 hS => ?_)
      obtain ⟨hP1, hK1, hD1⟩ : mw_BM dC dI _ q1 a2 d2 ma ms mo mc t9 := hB
      rw [ht9] at hP1
      obtain ⟨hP, hD⟩ := va_join (wr := (mw_C q0 a d al sh is us fo sw sc F ho fr to di ha)) (w1 := (mw_M q1 a2 d2 ma ms mo mc)) hP hD [12, 13, 14, 15, 16] [0, 1, 2, 3, 4, 5, 6, 7, 8, 9, 10, 11] rfl rfl (by decide) (by decide) hk1 hFc hP1 hD1
      generalize H1 = H at hP hS ⊢
      have hP : va_P (dC, dI) vwCl ((mw_C q0 a d al sh is us fo sw sc F ho fr to di ha) ++ (mw_M q1 a2 d2 ma ms mo mc)) H := hP
      have hD : va_D (fun q : Nat => s.heap.size ≤ q) ((mw_C q0 a d al sh is us fo sw sc F ho fr to di ha) ++ (mw_M q1 a2 d2 ma ms mo mc)) := hD
      refine W.widen (k := 17) (n := 367) (Nat.le_refl _) (Nat.le_refl _) ?_
      refine W.lcmp hx hb dL_law_431 ?_
      refine lv_if_eq (tgt := 450) hx hb dL_law_432 (by decide) (fun c9 => ?_) (fun c9 => ?_)
      · exact hnext al sh is us fo sw sc ho fr to di ha ma ms mo mc hI H locs hP hD hS
      exact absurd (by rw [hw1, hw2]; simp [lg_cmp]) c9
    · refine lv_tableIn (off := 395) (tgt := 437) hx hb dL_law_42 (by decide) (by decide) (by decide) (by decide) ?_
      refine lv_aload_n hx hb dL_law_437 rfl (lv_at hl 2 rfl) ?_
      have hPc := hP.sub (ws' := (mw_C q0 a d al sh is us fo sw sc F ho fr to di ha)) [0, 1, 2, 3, 4, 5, 6, 7, 8, 9, 10, 11] rfl
      have hDc := hD.sub (ws' := (mw_C q0 a d al sh is us fo sw sc F ho fr to di ha)) [0, 1, 2, 3, 4, 5, 6, 7, 8, 9, 10, 11] (by decide) rfl
      have hKc := hK.sub (tys' := (mw_CK d)) [0, 1, 2, 3, 4, 5, 6, 7, 8, 9, 10] rfl
      have hFc := va_free (wc := (mw_C q0 a d al sh is us fo sw sc F ho fr to di ha)) hD hS hA [0, 1, 2, 3, 4, 5, 6, 7, 8, 9, 10, 11] rfl
      refine va_calli (va_runV (As := []) (rest := []) ⟨hx, hb, hml, hown, hts⟩ (mX1_sheets l dC dI q0 a d H.size al sh is us fo sw sc F ho fr to di ha ma ms mo mc hI ) (cwV 0 hts (lw_V q139 q140 q141 q14 q142) rfl rfl rfl (by decide +kernel) ⟨Nat.le_of_ble_eq_true rfl, Nat.le_of_ble_eq_true rfl⟩) ⟨fun a U g mk q => by obtain ⟨q0, q1, qP, qK, qD⟩ := q; exact ⟨q0, q1, qP, va_K.moved (u := U) (U := U.calling g mk a) (Vm.Alike.refl U.vm) qK, qD⟩, va_recv hKc hPc (ci := 0) (q0 := 0) rfl rfl, fun U hU hW => ⟨rfl, by rw [hU], by rw [hU]; exact hPc, va_K.moved hW.alike hKc, hDc.weaken (fun _ _ _ _ => trivial)⟩⟩ rfl rfl hl.1 rfl (lv_room (Nat.le_of_ble_eq_true rfl)) dL_law_438 ⟨Nat.le_of_ble_eq_true rfl, Nat.le_of_ble_eq_true rfl⟩) hS (fun q _ h => hFc q h) hFc (fun r1 u t9 H1 locs ht9 hvm hw1 hB hz1 hk1 hS => ?_)
      obtain ⟨hP1, hK1, hD1⟩ : mw_BC dC dI _ q0 a d al sh is us fo sw sc F ho fr to di ha t9 := hB
      rw [ht9] at hP1
      obtain ⟨hP, hD⟩ := va_join (wr := (mw_M q1 a2 d2 ma ms mo mc)) (w1 := (mw_C q0 a d al sh is us fo sw sc F ho fr to di ha)) hP hD [0, 1, 2, 3, 4, 5, 6, 7, 8, 9, 10, 11] [12, 13, 14, 15, 16] rfl rfl (by decide) (by decide) hk1 hFc hP1 hD1
      have hP := hP.sub (ws' := ((mw_C q0 a d al sh is us fo sw sc F ho fr to di ha) ++ (mw_M q1 a2 d2 ma ms mo mc))) [5, 6, 7, 8, 9, 10, 11, 12, 13, 14, 15, 16, 0, 1, 2, 3, 4] rfl
      have hD := hD.sub (ws' := ((mw_C q0 a d al sh is us fo sw sc F ho fr to di ha) ++ (mw_M q1 a2 d2 ma ms mo mc))) [5, 6, 7, 8, 9, 10, 11, 12, 13, 14, 15, 16, 0, 1, 2, 3, 4] (by decide) rfl
      generalize H1 = H at hP hS ⊢
      have hP : va_P (dC, dI) vwCl ((mw_C q0 a d al sh is us fo sw sc F ho fr to di ha) ++ (mw_M q1 a2 d2 ma ms mo mc)) H := hP
      have hD : va_D (fun q : Nat => s.heap.size ≤ q) ((mw_C q0 a d al sh is us fo sw sc F ho fr to di ha) ++ (mw_M q1 a2 d2 ma ms mo mc)) := hD
      refine W.widen (k := 17) (n := 367) (Nat.le_refl _) (Nat.le_refl _) ?_
      refine lv_aload_n hx hb dL_law_441 rfl (lv_at hl 1 rfl) ?_
      have hPc := hP.sub (ws' := (mw_M q1 a2 d2 ma ms mo mc)) [12, 13, 14, 15, 16] rfl
      have hDc := hD.sub (ws' := (mw_M q1 a2 d2 ma ms mo mc)) [12, 13, 14, 15, 16] (by decide) rfl
      have hKc := hK.sub (tys' := (mw_MK d2)) [11, 12, 13, 14] rfl
      have hFc := va_free (wc := (mw_M q1 a2 d2 ma ms mo mc)) hD hS hA [12, 13, 14, 15, 16] rfl
      refine va_calli (va_runV (As := []) (rest := [.int r1]) ⟨hx, hb, hml, hown, hts⟩ (mX2_sheets l dC dI q1 a2 d2 H.size ma ms mo mc hM ) (cwV 0 hts (lw_V q225 q226 q227 q15 q228) rfl rfl rfl (by decide +kernel) ⟨Nat.le_of_ble_eq_true rfl, Nat.le_of_ble_eq_true rfl⟩) ⟨fun a U g mk q => by obtain ⟨q0, q1, qP, qK, qD⟩ := q; exact ⟨q0, q1, qP, va_K.moved (u := U) (U := U.calling g mk a) (Vm.Alike.refl U.vm) qK, qD⟩, va_recv hKc hPc (ci := 1) (q0 := 0) rfl rfl, fun U hU hW => ⟨rfl, by rw [hU], by rw [hU]; exact hPc, va_K.moved hW.alike hKc, hDc.weaken (fun _ _ _ _ => trivial)⟩⟩ rfl rfl hl.1 rfl (lv_room (Nat.le_of_ble_eq_true rfl)) dL_law_442 ⟨Nat.le_of_ble_eq_true rfl, Nat.le_of_ble_eq_true rfl⟩) hS (fun q _ h => hFc q h) hFc (fun r2 u t9 H1 locs ht9 hvm hw2 hB hz1 hk1 hS => ?_)
      obtain ⟨hP1, hK1, hD1⟩ : mw_BM dC dI _ q1 a2 d2 ma ms mo mc t9 := hB
      rw [ht9] at hP1
      obtain ⟨hP, hD⟩ := va_join (wr := (mw_C q0 a d al sh is us fo sw sc F ho fr to di ha)) (w1 := (mw_M q1 a2 d2 ma ms mo mc)) hP hD [12, 13, 14, 15, 16] [0, 1, 2, 3, 4, 5, 6, 7, 8, 9, 10, 11] rfl rfl (by decide) (by decide) hk1 hFc hP1 hD1
      generalize H1 = H at hP hS ⊢
      have hP : va_P (dC, dI) vwCl ((mw_C q0 a d al sh is us fo sw sc F ho fr to di ha) ++ (mw_M q1 a2 d2 ma ms mo mc)) H := hP
      have hD : va_D (fun q : Nat => s.heap.size ≤ q) ((mw_C q0 a d al sh is us fo sw sc F ho fr to di ha) ++ (mw_M q1 a2 d2 ma ms mo mc)) := hD
      refine W.widen (k := 17) (n := 367) (Nat.le_refl _) (Nat.le_refl _) ?_
      refine lv_icmp_eq (tgt := 450) hx hb dL_law_445 (by decide) (fun c9 => ?_) (fun c9 => ?_)
      · exact hnext al sh is us fo sw sc ho fr to di ha ma ms mo mc hI H locs hP hD hS
      exact absurd (hw1.trans hw2.symm) c9
    refine lv_tableOut (tgt := 450) hx hb dL_law_42 (Or.inr (by rw [nI_toInt (by omega)]; omega)) (by decide) ?_
    exact hnext al sh is us fo sw sc ho fr to di ha ma ms mo mc hI H locs hP hD hS
end
section
set_option maxHeartbeats 16000000 in
set_option maxRecDepth 100000 in
/-- THE LAW, from its entry -/
theorem whole_start {p : Program} {e : Env} {s : State} {m : MethodId} {below : List Frame} {meth : Method} {c : Code} (l : Launch) {b L : Nat} {xs : Nat → Int32} (hL : L ≤ 257) (C0 : lw_At p s m meth c b L xs) : W p l e room_1 s m #[Value.ref b] below meth c s.heap [] 0 0 (lw_Z below #[Value.ref b] s) (entryFrame m ([Value.ref b] : List Value).toArray 4) := by
  obtain ⟨hx, hb, hr, hml, hown, hts0, hX, hbl, hlocks, hgv⟩ := id C0
  have hts : ∀ w ∈ lw_all, w.before #[Value.ref b] s = true := fun w h => hts0 w (lw_all_tbl h)
  have hA : ∀ q : Nat, s.heap.size ≤ q → (fun q : Nat => s.heap.size ≤ q) q := fun _ h => h
  have hbA : ¬ (fun q : Nat => s.heap.size ≤ q) b := Nat.not_le.mpr hbl
  obtain ⟨c0, iS0, hKn0⟩ := u_known (C := RX1) (T := TX1) (N := 13) (n := 13) hts in_X1 (hts _ q17)
  obtain ⟨c1, iS1, hKn1⟩ := u_known (C := RX2) (T := TX2) (N := 4) (n := 4) hts in_X2 (hts _ q147)
  obtain ⟨dC, dI, hKc⟩ : ∃ (dC : Nat → ClassId) (dI : Nat → Nat → Nat), ∀ (k : Nat) (q : vw_C), vwCl[k]? = some q → u_Kn s q.1 q.2.1 q.2.2 (dC k) (dI k) := by
    refine ⟨fun k => if k = 0 then c0 else c1, fun k => if k = 0 then iS0 else iS1, ?_⟩
    intro k q hq
    match k, hq with
    | 0, hq => cases hq; exact hKn0
    | 1, hq => cases hq; exact hKn1
    | k + 2, hq => simp [vwCl] at hq
  have hS : va_S (fun q : Nat => s.heap.size ≤ q) s.heap s.heap [] := va_S.rf
  have hK : va_K (dC, dI) vwCl [] s := ⟨hKc, fun k q h => by simp at h⟩
  have hP : va_P (dC, dI) vwCl [] s.heap := fun k q h => by simp at h
  have hD : va_D (fun q : Nat => s.heap.size ≤ q) [] := ⟨fun i j p q h => by simp at h, fun k q h => by simp at h⟩
  have hl := lv_entry ([.ref b]) (n := 4) (Nat.le_of_ble_eq_true rfl)
  rw [lg_entry_eq]
  generalize (lg_sl ([.ref b]) ++ List.replicate (4 - (lg_sl ([.ref b])).length) Slot.unset).toArray = ls at hl ⊢
  have hl : lv_has ls 4 [(0, .ref b)] := hl
  refine va_new (ci := 0) (fs := [.null, .null, .null, .null, .null, .null, .null, .int 0, .null, .null, .null, .null, .int 0]) (C := RX1) (T := TX1) (N := 13) hx hb hts in_X1 tyX1 tyX1_ok hown (hts _ q16) (hts _ q17) (hts _ q14) hK hP hD hS hA rfl (fun j hj => by rcases (show j = 0 ∨ j = 1 ∨ j = 2 ∨ j = 3 ∨ j = 4 ∨ j = 5 ∨ j = 6 ∨ j = 7 ∨ j = 8 ∨ j = 9 ∨ j = 10 ∨ j = 11 ∨ j = 12 by omega) with rfl | rfl | rfl | rfl | rfl | rfl | rfl | rfl | rfl | rfl | rfl | rfl | rfl <;> rfl) (Nat.le_of_ble_eq_true rfl) (Nat.le_of_ble_eq_true rfl) dL_law_0 (fun q0 H hP hD hS => ?_)
  have hP : va_P (dC, dI) vwCl [(q0, .inr (0, [.null, .null, .null, .null, .null, .null, .null, .int 0, .null, .null, .null, .null, .int 0]))] H := hP
  have hD : va_D (fun q : Nat => s.heap.size ≤ q) [(q0, .inr (0, [.null, .null, .null, .null, .null, .null, .null, .int 0, .null, .null, .null, .null, .int 0]))] := hD
  refine W.widen (k := 1) (n := 13) (Nat.le_of_ble_eq_true rfl) (Nat.le_of_ble_eq_true rfl) ?_
  refine lv_dup hx hb dL_law_3 rfl ?_
  refine lv_aload_n hx hb dL_law_4 rfl (lv_at hl 0 rfl) ?_
  refine lv_iconst (v := nI 0) hx hb dL_law_5 (by decide) ?_
  have hFc := va_free (wc := []) hD hS hA [] rfl
  have hXs : va_X b L xs s H := hX.kept (hS.2.1 b hbl hbA)
  have hbH : b < H.size := Nat.lt_of_lt_of_le hbl hS.1
  refine va_calli (va_runS (As := [.ref b, .int (nI 0)]) (rest := [.ref q0, .ref q0]) ⟨hx, hb, hml, hown, hts⟩ (mX0_cell l b L xs H.size hL) (va_cwS 2 hts (lw_S q143 q144 q13 q145) rfl rfl rfl (by decide +kernel) ⟨Nat.le_of_ble_eq_true rfl, Nat.le_of_ble_eq_true rfl⟩) ⟨fun a U g mk q => by obtain ⟨r0, r1, rX, rB⟩ := q; exact ⟨r0, r1, va_X.moved (u := U) (U := U.calling g mk a) (Vm.Alike.refl U.vm) rX, rB⟩, fun U hU hW => ⟨rfl, by rw [hU], by rw [hU]; exact va_X.moved hW.alike hXs, by rw [hU]; exact hbH⟩⟩ rfl rfl hl.1 rfl (lv_room (Nat.le_of_ble_eq_true rfl)) dL_law_6 ⟨Nat.le_of_ble_eq_true rfl, Nat.le_of_ble_eq_true rfl⟩) hS (fun q _ h => hFc q h) hFc (fun r0 u t9 H1 locs ht9 hvm hw hB hz1 hk1 hS => ?_)
  obtain ⟨hP, hD⟩ := va_join (wr := ([(q0, .inr (0, [.null, .null, .null, .null, .null, .null, .null, .int 0, .null, .null, .null, .null, .int 0]))])) (w1 := []) hP hD [] [0] rfl rfl (by decide) (by decide) hk1 hFc (fun k q h => by simp at h) ⟨fun i j p q h => by simp at h, fun k q h => by simp at h⟩
  generalize H1 = H at hP hS ⊢
  have hP : va_P (dC, dI) vwCl ([(q0, .inr (0, [.null, .null, .null, .null, .null, .null, .null, .int 0, .null, .null, .null, .null, .int 0]))]) H := hP
  have hD : va_D (fun q : Nat => s.heap.size ≤ q) ([(q0, .inr (0, [.null, .null, .null, .null, .null, .null, .null, .int 0, .null, .null, .null, .null, .int 0]))]) := hD
  refine W.widen (k := 1) (n := 13) (Nat.le_refl _) (Nat.le_refl _) ?_
  have hPc := hP.sub (ws' := [(q0, .inr (0, [.null, .null, .null, .null, .null, .null, .null, .int 0, .null, .null, .null, .null, .int 0]))]) [0] rfl
  have hDc := hD.sub (ws' := [(q0, .inr (0, [.null, .null, .null, .null, .null, .null, .null, .int 0, .null, .null, .null, .null, .int 0]))]) [0] (by decide) rfl
  have hKc := hK.sub (tys' := []) [] rfl
  have hFc := va_free (wc := [(q0, .inr (0, [.null, .null, .null, .null, .null, .null, .null, .int 0, .null, .null, .null, .null, .int 0]))]) hD hS hA [0] rfl
  refine va_callv (va_runI (As := [.int r0]) (rest := [.ref q0]) ⟨hx, hb, hml, hown, hts⟩ (mX1_init l dC dI q0 H.size r0) (cwI 1 hts (lw_meth q20) rfl rfl rfl (hts _ q14) (hts _ q18) (hts _ q19) rfl (by decide +kernel) ⟨Nat.le_of_ble_eq_true rfl, Nat.le_of_ble_eq_true rfl⟩) ⟨fun a U g mk q => by obtain ⟨q0, q1, qP, qK, qD⟩ := q; exact ⟨q0, q1, qP, va_K.moved (u := U) (U := U.calling g mk a) (Vm.Alike.refl U.vm) qK, qD⟩, fun U hU hW => ⟨rfl, by rw [hU], by rw [hU]; exact hPc, va_K.moved hW.alike hKc, hDc.weaken (fun _ _ _ _ => trivial)⟩⟩ rfl rfl hl.1 rfl (lv_room (Nat.le_of_ble_eq_true rfl)) dL_law_9 ⟨Nat.le_of_ble_eq_true rfl, Nat.le_of_ble_eq_true rfl⟩) hS (fun q _ h => hFc q h) hFc (fun u t9 H1 locs ht9 hvm hw hB hz1 hk1 hS => ?_)
  obtain ⟨F, rfl⟩ : ∃ z, z = u := ⟨_, rfl⟩
  obtain ⟨hF2, hF6⟩ := hw
  obtain ⟨a, d, hP1, hK1, hD1⟩ := hB
  rw [ht9] at hP1
  have hK1 := va_K.moved hvm.symm hK1
  obtain ⟨hP, hD⟩ := va_join (wr := []) (w1 := (mw_C q0 a d (va_up (fun _ => false) 0 true) (mw_iN 20) (fun _ => false) (fun _ => 0) (mw_iN 20) (fun _ => false) (fun _ => 0) F (mw_iN 6) (fun _ => 0) (fun _ => false) (fun _ => false) 0)) hP hD [0] [] rfl rfl (by decide) (by decide) hk1 hFc hP1 hD1
  generalize H1 = H at hP hS ⊢
  have hP : va_P (dC, dI) vwCl (mw_C q0 a d (va_up (fun _ => false) 0 true) (mw_iN 20) (fun _ => false) (fun _ => 0) (mw_iN 20) (fun _ => false) (fun _ => 0) F (mw_iN 6) (fun _ => 0) (fun _ => false) (fun _ => false) 0) H := hP
  have hD : va_D (fun q : Nat => s.heap.size ≤ q) (mw_C q0 a d (va_up (fun _ => false) 0 true) (mw_iN 20) (fun _ => false) (fun _ => 0) (mw_iN 20) (fun _ => false) (fun _ => 0) F (mw_iN 6) (fun _ => 0) (fun _ => false) (fun _ => false) 0) := hD
  have hK : va_K (dC, dI) vwCl (mw_CK d) s := hK1
  refine W.widen (k := 12) (n := 239) (Nat.le_of_ble_eq_true rfl) (Nat.le_of_ble_eq_true rfl) ?_
  refine lv_astore_n (lv' := [(1, .ref q0), (0, .ref b)]) hx hb dL_law_12 rfl hl (by decide) rfl (fun ls hl => ?_)
  refine va_new (ci := 1) (fs := [.null, .null, .null, .null]) (C := RX2) (T := TX2) (N := 4) hx hb hts in_X2 tyX2 tyX2_ok hown (hts _ q146) (hts _ q147) (hts _ q15) hK hP hD hS hA rfl (fun j hj => by rcases (show j = 0 ∨ j = 1 ∨ j = 2 ∨ j = 3 by omega) with rfl | rfl | rfl | rfl <;> rfl) (Nat.le_of_ble_eq_true rfl) (Nat.le_of_ble_eq_true rfl) dL_law_13 (fun q1 H hP hD hS => ?_)
  have hP : va_P (dC, dI) vwCl ((mw_C q0 a d (va_up (fun _ => false) 0 true) (mw_iN 20) (fun _ => false) (fun _ => 0) (mw_iN 20) (fun _ => false) (fun _ => 0) F (mw_iN 6) (fun _ => 0) (fun _ => false) (fun _ => false) 0) ++ [(q1, .inr (1, [.null, .null, .null, .null]))]) H := hP
  have hD : va_D (fun q : Nat => s.heap.size ≤ q) ((mw_C q0 a d (va_up (fun _ => false) 0 true) (mw_iN 20) (fun _ => false) (fun _ => 0) (mw_iN 20) (fun _ => false) (fun _ => 0) F (mw_iN 6) (fun _ => 0) (fun _ => false) (fun _ => false) 0) ++ [(q1, .inr (1, [.null, .null, .null, .null]))]) := hD
  refine W.widen (k := 13) (n := 243) (Nat.le_of_ble_eq_true rfl) (Nat.le_of_ble_eq_true rfl) ?_
  refine lv_dup hx hb dL_law_16 rfl ?_
  refine lv_aload_n hx hb dL_law_17 rfl (lv_at hl 1 rfl) ?_
  refine lv_iconst (v := nI 0) hx hb dL_law_18 (by decide) ?_
  have hFc := va_free (wc := []) hD hS hA [] rfl
  have hXs : va_X b L xs s H := hX.kept (hS.2.1 b hbl hbA)
  have hbH : b < H.size := Nat.lt_of_lt_of_le hbl hS.1
  refine va_calli (va_runS (As := [.ref b, .int (nI 0)]) (rest := [.ref q1, .ref q1]) ⟨hx, hb, hml, hown, hts⟩ (mX0_cell l b L xs H.size hL) (va_cwS 2 hts (lw_S q143 q144 q13 q145) rfl rfl rfl (by decide +kernel) ⟨Nat.le_of_ble_eq_true rfl, Nat.le_of_ble_eq_true rfl⟩) ⟨fun a U g mk q => by obtain ⟨r0, r1, rX, rB⟩ := q; exact ⟨r0, r1, va_X.moved (u := U) (U := U.calling g mk a) (Vm.Alike.refl U.vm) rX, rB⟩, fun U hU hW => ⟨rfl, by rw [hU], by rw [hU]; exact va_X.moved hW.alike hXs, by rw [hU]; exact hbH⟩⟩ rfl rfl hl.1 rfl (lv_room (Nat.le_of_ble_eq_true rfl)) dL_law_19 ⟨Nat.le_of_ble_eq_true rfl, Nat.le_of_ble_eq_true rfl⟩) hS (fun q _ h => hFc q h) hFc (fun r1 u t9 H1 locs ht9 hvm hw hB hz1 hk1 hS => ?_)
  obtain ⟨hP, hD⟩ := va_join (wr := ((mw_C q0 a d (va_up (fun _ => false) 0 true) (mw_iN 20) (fun _ => false) (fun _ => 0) (mw_iN 20) (fun _ => false) (fun _ => 0) F (mw_iN 6) (fun _ => 0) (fun _ => false) (fun _ => false) 0) ++ [(q1, .inr (1, [.null, .null, .null, .null]))])) (w1 := []) hP hD [] [0, 1, 2, 3, 4, 5, 6, 7, 8, 9, 10, 11, 12] rfl rfl (by decide) (by decide) hk1 hFc (fun k q h => by simp at h) ⟨fun i j p q h => by simp at h, fun k q h => by simp at h⟩
  generalize H1 = H at hP hS ⊢
  have hP : va_P (dC, dI) vwCl ((mw_C q0 a d (va_up (fun _ => false) 0 true) (mw_iN 20) (fun _ => false) (fun _ => 0) (mw_iN 20) (fun _ => false) (fun _ => 0) F (mw_iN 6) (fun _ => 0) (fun _ => false) (fun _ => false) 0) ++ [(q1, .inr (1, [.null, .null, .null, .null]))]) H := hP
  have hD : va_D (fun q : Nat => s.heap.size ≤ q) ((mw_C q0 a d (va_up (fun _ => false) 0 true) (mw_iN 20) (fun _ => false) (fun _ => 0) (mw_iN 20) (fun _ => false) (fun _ => 0) F (mw_iN 6) (fun _ => 0) (fun _ => false) (fun _ => false) 0) ++ [(q1, .inr (1, [.null, .null, .null, .null]))]) := hD
  refine W.widen (k := 13) (n := 243) (Nat.le_refl _) (Nat.le_refl _) ?_
  have hPc := hP.sub (ws' := [(q1, .inr (1, [.null, .null, .null, .null]))]) [12] rfl
  have hDc := hD.sub (ws' := [(q1, .inr (1, [.null, .null, .null, .null]))]) [12] (by decide) rfl
  have hKc := hK.sub (tys' := []) [] rfl
  have hFc := va_free (wc := [(q1, .inr (1, [.null, .null, .null, .null]))]) hD hS hA [12] rfl
  refine va_callv (va_runI (As := [.int r1]) (rest := [.ref q1]) ⟨hx, hb, hml, hown, hts⟩ (mX2_init l dC dI q1 H.size r1) (cwI 1 hts (lw_meth q150) rfl rfl rfl (hts _ q15) (hts _ q148) (hts _ q149) rfl (by decide +kernel) ⟨Nat.le_of_ble_eq_true rfl, Nat.le_of_ble_eq_true rfl⟩) ⟨fun a U g mk q => by obtain ⟨q0, q1, qP, qK, qD⟩ := q; exact ⟨q0, q1, qP, va_K.moved (u := U) (U := U.calling g mk a) (Vm.Alike.refl U.vm) qK, qD⟩, fun U hU hW => ⟨rfl, by rw [hU], by rw [hU]; exact hPc, va_K.moved hW.alike hKc, hDc.weaken (fun _ _ _ _ => trivial)⟩⟩ rfl rfl hl.1 rfl (lv_room (Nat.le_of_ble_eq_true rfl)) dL_law_22 ⟨Nat.le_of_ble_eq_true rfl, Nat.le_of_ble_eq_true rfl⟩) hS (fun q _ h => hFc q h) hFc (fun u t9 H1 locs ht9 hvm hw hB hz1 hk1 hS => ?_)
  obtain ⟨a2, d2, hP1, hK1, hD1⟩ := hB
  rw [ht9] at hP1
  have hK1 := va_K.moved hvm.symm hK1
  obtain ⟨hP, hD⟩ := va_join (wr := (mw_C q0 a d (va_up (fun _ => false) 0 true) (mw_iN 20) (fun _ => false) (fun _ => 0) (mw_iN 20) (fun _ => false) (fun _ => 0) F (mw_iN 6) (fun _ => 0) (fun _ => false) (fun _ => false) 0)) (w1 := (mw_M q1 a2 d2 (va_up (fun _ => false) 0 true) (mw_iN 20) (fun _ => false) (fun _ => 0))) hP hD [12] [0, 1, 2, 3, 4, 5, 6, 7, 8, 9, 10, 11] rfl rfl (by decide) (by decide) hk1 hFc hP1 hD1
  generalize H1 = H at hP hS ⊢
  have hP : va_P (dC, dI) vwCl ((mw_C q0 a d (va_up (fun _ => false) 0 true) (mw_iN 20) (fun _ => false) (fun _ => 0) (mw_iN 20) (fun _ => false) (fun _ => 0) F (mw_iN 6) (fun _ => 0) (fun _ => false) (fun _ => false) 0) ++ (mw_M q1 a2 d2 (va_up (fun _ => false) 0 true) (mw_iN 20) (fun _ => false) (fun _ => 0))) H := hP
  have hD : va_D (fun q : Nat => s.heap.size ≤ q) ((mw_C q0 a d (va_up (fun _ => false) 0 true) (mw_iN 20) (fun _ => false) (fun _ => 0) (mw_iN 20) (fun _ => false) (fun _ => 0) F (mw_iN 6) (fun _ => 0) (fun _ => false) (fun _ => false) 0) ++ (mw_M q1 a2 d2 (va_up (fun _ => false) 0 true) (mw_iN 20) (fun _ => false) (fun _ => 0))) := hD
  have hK : va_K (dC, dI) vwCl (mw_CK d ++ mw_MK d2) s := hK.app hK1
  refine W.widen (k := 17) (n := 367) (Nat.le_of_ble_eq_true rfl) (Nat.le_of_ble_eq_true rfl) ?_
  refine lv_astore_n (lv' := [(2, .ref q1), (1, .ref q0), (0, .ref b)]) hx hb dL_law_25 rfl hl (by decide) rfl (fun ls hl => ?_)
  refine lv_iconst (v := nI 1) hx hb dL_law_26 (by decide) ?_
  refine lv_istore_n (lv' := [(3, .int (nI 1)), (2, .ref q1), (1, .ref q0), (0, .ref b)]) hx hb dL_law_27 rfl hl (by decide) rfl (fun ls hl => ?_)
  exact law_loop hL C0 q0 q1 a a2 d d2 F hK (L + 1) 1 _ _ _ _ _ _ _ _ _ _ _ _ _ _ _ _ (by decide) (by omega) (mw_I_init hF2 hF6) H _ hP hD hS ls hl
set_option maxHeartbeats 4000000 in
theorem lw_walk (l : Launch) (b : Addr) (xs : List Int32) : MetFree l x (headSpec (Jvm.Cond.code x code maxLocals ret :: tables_1) room_1) (lw_P b xs) (fun _ _ _ _ _ => True) lw_Q := by
  refine MetFree.of_bodyS (code := code) (maxLocals := maxLocals) (ret := ret) (by decide) ?_ ?_
  · intro args s m h hn
    obtain ⟨meth, c, h1, h2, h3, h4, h5, h6, -, -⟩ := Cond.code_spec hn (atoms_spec (ws := Jvm.Cond.code x code maxLocals ret :: tables_1) h _ List.mem_cons_self)
    exact ⟨meth, c, h1, h2, h3, h4, h5, h6⟩
  · intro p e s m args below meth c s₁ B hml0 hP _
    obtain ⟨rfl, hx, hbd, hgv⟩ := hP
    obtain ⟨scr, harrAt, hlist, hof, hsmall⟩ := hx
    obtain ⟨hcb, hkn, -, -⟩ := State.arrayAt?_spec harrAt
    have hown : s.vm.findClass R_law = some m.cls := findClass_of_methodNamed B.named
    have hts0 : ∀ c ∈ (Jvm.Cond.code x code maxLocals ret :: tables_1), c.before #[Value.ref b] s = true := atoms_spec (ws := Jvm.Cond.code x code maxLocals ret :: tables_1) B.pre
    have hts : ∀ w ∈ lw_tbl, w.before #[Value.ref b] s = true := k2_hts_sels lw_privs (fun w hw => hts0 w (List.mem_cons_of_mem _ hw)) lw_privs_ok
    have hml : c.maxLocals = 4 := B.maxLocals_eq (hts0 _ List.mem_cons_self)
    have X₀ : Stand p l e room_1 s m #[Value.ref b] below meth c s₁ [] 0 0 := Stand.of_body B
    have hh0 : s₁.heap = s.heap := by rw [B.state]; rfl
    have hsz : scr.slots.size = xs.length := by rw [← Array.length_toList, hlist, List.length_map]
    have hval : ∀ j : Nat, j < xs.length → scr.slots[j]? = some (.int (xs.getD j 0)) := fun j hj => by
      rw [← Array.getElem?_toList, hlist]
      simp [hj]
    have hbl : b < s.heap.size := (Array.getElem?_eq_some_iff.mp hcb).1
    have hX : va_X b xs.length (fun j => xs.getD j 0) s s.heap := ⟨scr, hcb, hof, hkn, hsz, hval⟩
    have K : W p l e room_1 s m #[Value.ref b] below meth c s₁.heap [] 0 0 (lw_Z below #[Value.ref b] s) (entryFrame m ([Value.ref b] : List Value).toArray 4) := by
      rw [hh0]
      exact whole_start l hbd ⟨B.exec, B.bytes, B.returns, hml, hown, hts, hX, hbl, B.notSynchronized, hgv⟩
    obtain ⟨t, a1, o, b1, b2, b3⟩ := K s₁ rfl X₀
    exact ⟨t, o, a1, b1, b2, b3⟩
theorem lw_pre_spec {args : Array Value} {s : State} (h : (Jvm.Cond.and given_1 narrow_1).before args s = true) (hr : rest_1_c.before args s = true) : ∃ (b : Addr) (xs : List Int32), lw_P b xs args s := by
  have hs := flat_of_before _ h
  have hq := flat_of_before _ hr
  have hc : (Cond.count 1).before args s = true := hs _ (by decide +kernel)
  have harr : (Cond.arrayOf (.arg 0) .int).before args s = true := hs _ (by decide +kernel)
  have hle : (Cond.le (.length (.arg 0)) (.int 257)).before args s = true := hs _ (by decide +kernel)
  have hlen : (Cond.isInt (.length (.arg 0))).before args s = true := hq _ (by decide +kernel)
  have hall : (Cond.all (.arg 0) (.isInt (.elem (.arg 0) (.index 0)))).before args s = true := hq _ (by decide +kernel)
  obtain ⟨b, xs, hb, hx⟩ := State.ints_of_pre rfl harr hlen hall
  have hsm : xs.length < 2 ^ 31 := hx.choose_spec.2.2.2
  have hev : (Term.length (.arg 0)).eval args s none [] s = some (.int xs.length.toInt32) := hx.length_eval hb
  have hv := Cond.le_ints hev (show (Term.int 257).eval args s none [] s = some (.int 257) from rfl)
  have hd : xs.length.toInt32 ≤ 257 := by
    simpa [Cond.before, Cond.holds, hv] using hle
  have hN : xs.length ≤ 257 := (Int32.ofNat_le_ofNat hsm (by decide)).mp (show Int32.ofNat xs.length ≤ Int32.ofNat 257 from hd)
  exact ⟨b, xs, Cond.one_arg hc (show args[0]? = some (.ref b) from hb), hx, hN, h⟩
theorem lw_comes (l : Launch) : Comes l x (Jvm.Cond.code x code maxLocals ret :: tables_1) room_1 (fun tb e args s => Calls_1 tb e args s ∧ rest_1 tb e args s ∧ Pre_1 tb e args s)
    (fun _ _ args s o t => lw_Q args s o t) := by
  intro p e ha hc hk s m args below hf hfit hheap happ hpre
  obtain ⟨b, xs, hP⟩ := lw_pre_spec hpre.2.2 hpre.2.1
  obtain ⟨k, o, h1, h2, h3, hQ⟩ := lw_walk l b xs p e ha hc hk s m args below hf ((Spec.applies_iff_loose hf).mp happ).1 hP trivial
  exact ⟨k, o, h1, h2, h3, hQ⟩
theorem lw_frame {s t : State} {o : Outcome} {args : Array Value} (h : Framed s o t [] 600000 7290000) :
    Framed s o t (fieldLocs frame_1_writes args s ++ arrayLocs frame_1_arrays args s ++ staticLocs frame_1_statics s) 600000 7290000 := h
theorem lw_limb (L : Cond) (hL : ∀ (args : Array Value) (s t : State), L.after args s (.returned (some (.int 1))) t = true) :
    ArmFor flags0 classFile x code maxLocals ret World_1 tables_1 room_1 Calls_1 rest_1 Pre_1
      (fun tb e a s o t => postC L tb e a s o t ∧ Framed s o t (fieldLocs frame_1_writes a s ++ arrayLocs frame_1_arrays a s ++ staticLocs frame_1_statics s) 600000 7290000) := by
  intro l _ _ _ p e ha hc hk s m args below hf hfit hheap happ hpre
  obtain ⟨k, o, h1, h2, h3, rfl, hF⟩ := lw_comes l p e ha hc hk s m args below hf hfit hheap happ hpre
  exact ⟨k, _, h1, h2, h3, hL args s _, lw_frame hF⟩
theorem i_vc : Claimed_1_1 ∧ Claimed_1_2 := ⟨lw_limb limb_1_1 (fun args s t => by simp [limb_1_1, Cond.after, Cond.holds, Cond.value]), lw_limb limb_1_2 (fun args s t => Cond.after_iff.mpr (by
  first | (rw [show limb_1_2 = Cond.eq .result (.int 1) from rfl, Cond.eq_ints (x := 1) (y := 1) rfl rfl]; simp; done) | (simp [limb_1_2, Cond.value, Term.eval]; done)))⟩
end
