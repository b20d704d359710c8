section
-- ===== PART A: goes FIRST, ahead of the names: the tables' words, and 'selects' of the private methods out of them =====
/-- a private method of a class that the tables say can be made, by its rows of tables_1 -/
def lw_okq (q : MethodName × Nat) : Prop := (q.1.cls ≠ "java/lang/invoke/MethodHandle" ∧ q.1.cls ≠ "java/lang/invoke/VarHandle") ∧ Cond.instantiable q.1.cls q.2 ∈ tables_1 ∧ Cond.privateMethod q.1 ∈ tables_1 ∧ Cond.instanceMethod q.1 ∈ tables_1
set_option maxRecDepth 100000
theorem lw_t1 {w : Cond} (h : w ∈ tables_1_1) : w ∈ tables_1 := List.mem_append_left _ h
theorem lw_t2 {w : Cond} (h : w ∈ tables_1_2) : w ∈ tables_1 := List.mem_append_right _ h
theorem lw_p0 : lw_okq (⟨"ConferenceBridge", "loudest", "()LConferenceBridge$Party;"⟩, 3) := ⟨⟨by decide +kernel, by decide +kernel⟩, lw_t1 (List.mem_of_getElem? (i := 14) rfl), lw_t1 (List.mem_of_getElem? (i := 174) rfl), lw_t1 (List.mem_of_getElem? (i := 175) rfl)⟩
theorem lw_p1 : lw_okq (⟨"java/lang/Throwable", "fillInStackTrace", "(I)Ljava/lang/Throwable;"⟩, 6) := ⟨⟨by decide +kernel, by decide +kernel⟩, lw_t1 (List.mem_of_getElem? (i := 226) rfl), lw_t1 (List.mem_of_getElem? (i := 224) rfl), lw_t1 (List.mem_of_getElem? (i := 225) rfl)⟩
def lw_privs_1 : List (MethodName × Nat) := [(⟨"ConferenceBridge", "loudest", "()LConferenceBridge$Party;"⟩, 3), (⟨"java/lang/Throwable", "fillInStackTrace", "(I)Ljava/lang/Throwable;"⟩, 6)]
theorem lw_r1 : ∀ q ∈ lw_privs_1, lw_okq q := List.forall_mem_cons.mpr ⟨lw_p0, List.forall_mem_cons.mpr ⟨lw_p1, fun _ h => absurd h List.not_mem_nil⟩⟩
def lw_privs : List (MethodName × Nat) := lw_privs_1
def lw_tbl : List Cond := k2_sels lw_privs ++ tables_1
theorem lw_privs_ok : ∀ q ∈ lw_privs, lw_okq q := lw_r1
-- ===== ONE list of words for every method: the tables' words that hold all through a run =====
def lw_all : List Cond := lw_tbl.filter goodWord
/-- a word of the tables by its place: claim/WORDS.tsv -/
theorem lw_w {w : Cond} (i : Nat) (h : lw_tbl[i]? = some w) (g : goodWord w = true) : w ∈ lw_all := List.mem_filter.mpr ⟨List.mem_of_getElem? h, g⟩
theorem lw_all_tbl {w : Cond} (h : w ∈ lw_all) : w ∈ lw_tbl := (List.mem_filter.mp h).1
theorem lw_self : GoodIn lw_all lw_all := fun w h => ⟨h, good_of_word (List.mem_filter.mp h).2⟩
/-- a class's field words, by their places -/
theorem lw_in (ws : List Cond) (ps : List Nat) (hp : ws = ps.filterMap (fun i => lw_tbl[i]?)) (hg : ws.all goodWord = true) : ∀ w ∈ ws, w ∈ lw_all := by
  intro w h
  have h1 := List.all_eq_true.mp hg w h
  rw [hp] at h
  obtain ⟨i, -, hi⟩ := List.mem_filterMap.mp h
  exact lw_w i hi h1
/-- the words of a contract for the method y with code b, L locals, answer r -/
abbrev ws_ (y : MethodName) (b : ByteArray) (L : Nat) (r : Option FieldType) : List Cond := Cond.code y b L r :: lw_all
theorem lw_meth {y : MethodName} {b : ByteArray} {L : Nat} {r : Option FieldType} (h : Cond.code y b L r ∈ lw_all) : GoodIn lw_all (ws_ y b L r) := by
  intro w hw
  rcases List.mem_cons.mp hw with e | e
  · rw [e]
    exact lw_self _ h
  · exact lw_self _ e
theorem lw_app {a c : List Cond} (ha : ∀ w ∈ a, w ∈ lw_all) (hc : GoodIn lw_all c) : GoodIn lw_all (a ++ c) := by
  intro w hw
  rcases List.mem_append.mp hw with e | e
  · exact lw_self w (ha w e)
  · exact hc w e
/-- what a call through an object asks: cwV n hts (lw_V ..) -/
theorem lw_V {own : String} {idx : Nat} {C : String} {y : MethodName} {b : ByteArray} {L : Nat} {r : Option FieldType} (h1 : Cond.methodLink own idx y ∈ lw_all) (h2 : Cond.instanceMethod y ∈ lw_all) (h3 : Cond.selects C y y ∈ lw_all) (h4 : Cond.initialized C ∈ lw_all) (h5 : Cond.code y b L r ∈ lw_all) : GoodIn lw_all (wsV own idx C y (ws_ y b L r)) := by
  refine lw_app ?_ (lw_meth h5)
  intro w hw
  simp only [List.mem_cons, List.not_mem_nil, or_false] at hw
  rcases hw with e | e | e | e
  · rw [e]; exact h1
  · rw [e]; exact h2
  · rw [e]; exact h3
  · rw [e]; exact h4
/-- what a static call asks: va_cwS n hts (lw_S ..) -/
theorem lw_S {own : String} {idx : Nat} {y : MethodName} {b : ByteArray} {L : Nat} {r : Option FieldType} (h1 : Cond.methodLink own idx y ∈ lw_all) (h2 : Cond.static y ∈ lw_all) (h3 : Cond.initialized y.cls ∈ lw_all) (h4 : Cond.code y b L r ∈ lw_all) : GoodIn lw_all (va_wsS own idx y (ws_ y b L r)) := by
  refine lw_app ?_ (lw_meth h4)
  intro w hw
  simp only [List.mem_cons, List.not_mem_nil, or_false] at hw
  rcases hw with e | e | e
  · rw [e]; exact h1
  · rw [e]; exact h2
  · rw [e]; exact h3
/-- the words of a contract for a method WITH HANDLERS (hh: its table) -/
abbrev wsW_ (y : MethodName) (b : ByteArray) (L : Nat) (r : Option FieldType) (hh : List (Nat × Nat × Nat × Nat)) : List Cond := Cond.codeWith y b L r hh :: lw_all
theorem lw_methW {y : MethodName} {b : ByteArray} {L : Nat} {r : Option FieldType} {hh : List (Nat × Nat × Nat × Nat)} (h : Cond.codeWith y b L r hh ∈ lw_all) : GoodIn lw_all (wsW_ y b L r hh) := by
  intro w hw
  rcases List.mem_cons.mp hw with e | e
  · rw [e]
    exact lw_self _ h
  · exact lw_self _ e
/-- any list of words by their places (lw_in), good -/
theorem lw_good {ws : List Cond} (h : ∀ w ∈ ws, w ∈ lw_all) : GoodIn lw_all ws := fun w hw => lw_self w (h w hw)
/-- what a call of a method with handlers asks: vx_cwVW n hts (lw_VW ..), vx_cwSW n hts (lw_SW ..) -/
theorem lw_VW {own : String} {idx : Nat} {C : String} {y : MethodName} {b : ByteArray} {L : Nat} {r : Option FieldType} {hh : List (Nat × Nat × Nat × Nat)} (h1 : Cond.methodLink own idx y ∈ lw_all) (h2 : Cond.instanceMethod y ∈ lw_all) (h3 : Cond.selects C y y ∈ lw_all) (h4 : Cond.initialized C ∈ lw_all) (h5 : Cond.codeWith y b L r hh ∈ lw_all) : GoodIn lw_all (wsV own idx C y (wsW_ y b L r hh)) := by
  refine lw_app ?_ (lw_methW h5)
  intro w hw
  simp only [List.mem_cons, List.not_mem_nil, or_false] at hw
  rcases hw with e | e | e | e
  · rw [e]; exact h1
  · rw [e]; exact h2
  · rw [e]; exact h3
  · rw [e]; exact h4
theorem lw_SW {own : String} {idx : Nat} {y : MethodName} {b : ByteArray} {L : Nat} {r : Option FieldType} {hh : List (Nat × Nat × Nat × Nat)} (h1 : Cond.methodLink own idx y ∈ lw_all) (h2 : Cond.static y ∈ lw_all) (h3 : Cond.initialized y.cls ∈ lw_all) (h4 : Cond.codeWith y b L r hh ∈ lw_all) : GoodIn lw_all (va_wsS own idx y (wsW_ y b L r hh)) := by
  refine lw_app ?_ (lw_methW h4)
  intro w hw
  simp only [List.mem_cons, List.not_mem_nil, or_false] at hw
  rcases hw with e | e | e
  · rw [e]; exact h1
  · rw [e]; exact h2
  · rw [e]; exact h3
/-- a word by its place in its run of the tables -/
theorem lw_at {r : List Cond} (hr : ∀ w ∈ r, w ∈ lw_tbl) {w : Cond} (i : Nat) (h : r[i]? = some w) : w ∈ lw_tbl := hr w (List.mem_of_getElem? h)
theorem lw_g {w : Cond} (h : w ∈ lw_tbl) (g : goodWord w = true) : w ∈ lw_all := List.mem_filter.mpr ⟨h, g⟩
theorem lw_ms : ∀ w ∈ k2_sels lw_privs, w ∈ lw_tbl := fun w h => show w ∈ k2_sels lw_privs ++ tables_1 from List.mem_append_left _ h
theorem lw_m1 : ∀ w ∈ tables_1_1, w ∈ lw_tbl := fun w h => show w ∈ k2_sels lw_privs ++ tables_1 from List.mem_append_right (k2_sels lw_privs) (show w ∈ tables_1 from List.mem_append_left _ h)
theorem lw_m2 : ∀ w ∈ tables_1_2, w ∈ lw_tbl := fun w h => show w ∈ k2_sels lw_privs ++ tables_1 from List.mem_append_right (k2_sels lw_privs) (show w ∈ tables_1 from List.mem_append_right _ h)
theorem qs0 : (Cond.selects "ConferenceBridge" ⟨"ConferenceBridge", "loudest", "()LConferenceBridge$Party;"⟩ ⟨"ConferenceBridge", "loudest", "()LConferenceBridge$Party;"⟩) ∈ lw_all := lw_g (lw_at lw_ms 0 rfl) rfl
theorem qs1 : (Cond.selects "java/lang/Throwable" ⟨"java/lang/Throwable", "fillInStackTrace", "(I)Ljava/lang/Throwable;"⟩ ⟨"java/lang/Throwable", "fillInStackTrace", "(I)Ljava/lang/Throwable;"⟩) ∈ lw_all := lw_g (lw_at lw_ms 1 rfl) rfl
end
section
theorem q24 : (Jvm.Cond.arrayOver (Jvm.ClassFile.FieldType.object "ConferenceBridge$Law")) ∈ lw_tbl := lw_at lw_m1 22 rfl
set_option maxRecDepth 100000
theorem q43 : (Jvm.Cond.arrayOver (Jvm.ClassFile.FieldType.object "ConferenceBridge$Party")) ∈ lw_tbl := lw_at lw_m1 41 rfl
theorem q78 : (Jvm.Cond.arrayClass Jvm.ClassFile.FieldType.int) ∈ lw_all := lw_g (lw_at lw_m1 76 rfl) rfl
theorem q296 : (Jvm.Cond.arrayClass Jvm.ClassFile.FieldType.boolean) ∈ lw_all := lw_g (lw_at lw_m2 54 rfl) rfl
theorem q297 : (Jvm.Cond.arrayClass Jvm.ClassFile.FieldType.long) ∈ lw_all := lw_g (lw_at lw_m2 55 rfl) rfl
/-! ConferenceBridge$Law -/
set_option maxRecDepth 100000
def RX2 : String := "ConferenceBridge$Law"
abbrev cX2_init : ByteArray := prog_3_method_1_code
def yX2_init : MethodName := ⟨RX2, "<init>", "()V"⟩
theorem dX2_init_0 : decode cX2_init 0 = .ok (.aload_n 0, 1) := by decide +kernel
theorem dX2_init_1 : decode cX2_init 1 = .ok (.invokespecial 1, 3) := by decide +kernel
theorem dX2_init_4 : decode cX2_init 4 = .ok (.return_, 1) := by decide +kernel
abbrev cX2_top : ByteArray := prog_3_method_4_code
def yX2_top : MethodName := ⟨RX2, "top", "(I)I"⟩
theorem dX2_top_0 : decode cX2_top 0 = .ok (.bipush 31, 2) := by decide +kernel
theorem dX2_top_2 : decode cX2_top 2 = .ok (.iload_n 0, 1) := by decide +kernel
theorem dX2_top_3 : decode cX2_top 3 = .ok (.invokestatic 7, 3) := by decide +kernel
theorem dX2_top_6 : decode cX2_top 6 = .ok (.isub, 1) := by decide +kernel
theorem dX2_top_7 : decode cX2_top 7 = .ok (.ireturn, 1) := by decide +kernel
theorem q4 : (Jvm.Cond.initialized "ConferenceBridge$Law") ∈ lw_all := lw_g (lw_at lw_m1 2 rfl) rfl
theorem q31 : (Jvm.Cond.instanceMethod ({ cls := "ConferenceBridge$Law", name := "<init>", desc := "()V" } : Jvm.MethodName)) ∈ lw_all := lw_g (lw_at lw_m1 29 rfl) rfl
theorem q32 : (Jvm.Cond.code ({ cls := "ConferenceBridge$Law", name := "<init>", desc := "()V" } : Jvm.MethodName) prog_3_method_1_code (1 : Nat) (Option.none : Option Jvm.ClassFile.FieldType)) ∈ lw_all := lw_g (lw_at lw_m1 30 rfl) rfl
theorem q33 : (Jvm.Cond.methodLink "ConferenceBridge$Law" (1 : Nat) ({ cls := "java/lang/Object", name := "<init>", desc := "()V" } : Jvm.MethodName)) ∈ lw_all := lw_g (lw_at lw_m1 31 rfl) rfl
theorem q80 : (Jvm.Cond.declares ({ cls := "ConferenceBridge$Law", name := "encoded", desc := "(I)I" } : Jvm.MethodName)) ∈ lw_tbl := lw_at lw_m1 78 rfl
theorem q81 : (Jvm.Cond.sameMethod "ConferenceBridge$Law" "ConferenceBridge$Law" "encoded" "(I)I") ∈ lw_all := lw_g (lw_at lw_m1 79 rfl) rfl
theorem q87 : (Jvm.Cond.static ({ cls := "ConferenceBridge$Law", name := "top", desc := "(I)I" } : Jvm.MethodName)) ∈ lw_all := lw_g (lw_at lw_m1 85 rfl) rfl
theorem q88 : (Jvm.Cond.code ({ cls := "ConferenceBridge$Law", name := "top", desc := "(I)I" } : Jvm.MethodName) prog_3_method_4_code (1 : Nat) (Option.some Jvm.ClassFile.FieldType.int)) ∈ lw_all := lw_g (lw_at lw_m1 86 rfl) rfl
theorem q89 : (Jvm.Cond.methodLink "ConferenceBridge$Law" (7 : Nat) ({ cls := "java/lang/Integer", name := "numberOfLeadingZeros", desc := "(I)I" } : Jvm.MethodName)) ∈ lw_all := lw_g (lw_at lw_m1 87 rfl) rfl
theorem q164 : (Jvm.Cond.declares ({ cls := "ConferenceBridge$Law", name := "decoded", desc := "(I)I" } : Jvm.MethodName)) ∈ lw_tbl := lw_at lw_m1 162 rfl
theorem q165 : (Jvm.Cond.sameMethod "ConferenceBridge$Law" "ConferenceBridge$Law" "decoded" "(I)I") ∈ lw_all := lw_g (lw_at lw_m1 163 rfl) rfl
/-! ConferenceBridge$ALaw -/
set_option maxRecDepth 100000
def RX3 : String := "ConferenceBridge$ALaw"
abbrev cX3_init : ByteArray := prog_2_method_1_code
def yX3_init : MethodName := ⟨RX3, "<init>", "()V"⟩
theorem dX3_init_0 : decode cX3_init 0 = .ok (.aload_n 0, 1) := by decide +kernel
theorem dX3_init_1 : decode cX3_init 1 = .ok (.invokespecial 1, 3) := by decide +kernel
theorem dX3_init_4 : decode cX3_init 4 = .ok (.return_, 1) := by decide +kernel
abbrev cX3_encoded : ByteArray := prog_2_method_3_code
def yX3_encoded : MethodName := ⟨RX3, "encoded", "(I)I"⟩
theorem dX3_encoded_0 : decode cX3_encoded 0 = .ok (.iload_n 1, 1) := by decide +kernel
theorem dX3_encoded_1 : decode cX3_encoded 1 = .ok (.ifCond .ge 9, 3) := by decide +kernel
theorem dX3_encoded_4 : decode cX3_encoded 4 = .ok (.iconst (-1), 1) := by decide +kernel
theorem dX3_encoded_5 : decode cX3_encoded 5 = .ok (.iload_n 1, 1) := by decide +kernel
theorem dX3_encoded_6 : decode cX3_encoded 6 = .ok (.isub, 1) := by decide +kernel
theorem dX3_encoded_7 : decode cX3_encoded 7 = .ok (.goto 4, 3) := by decide +kernel
theorem dX3_encoded_10 : decode cX3_encoded 10 = .ok (.iload_n 1, 1) := by decide +kernel
theorem dX3_encoded_11 : decode cX3_encoded 11 = .ok (.iconst 4, 1) := by decide +kernel
theorem dX3_encoded_12 : decode cX3_encoded 12 = .ok (.ishr, 1) := by decide +kernel
theorem dX3_encoded_13 : decode cX3_encoded 13 = .ok (.istore_n 2, 1) := by decide +kernel
theorem dX3_encoded_14 : decode cX3_encoded 14 = .ok (.iload_n 2, 1) := by decide +kernel
theorem dX3_encoded_15 : decode cX3_encoded 15 = .ok (.bipush 16, 2) := by decide +kernel
theorem dX3_encoded_17 : decode cX3_encoded 17 = .ok (.if_icmp .ge 7, 3) := by decide +kernel
theorem dX3_encoded_20 : decode cX3_encoded 20 = .ok (.iconst 0, 1) := by decide +kernel
theorem dX3_encoded_21 : decode cX3_encoded 21 = .ok (.goto 9, 3) := by decide +kernel
theorem dX3_encoded_24 : decode cX3_encoded 24 = .ok (.iload_n 2, 1) := by decide +kernel
theorem dX3_encoded_25 : decode cX3_encoded 25 = .ok (.invokestatic 7, 3) := by decide +kernel
theorem dX3_encoded_28 : decode cX3_encoded 28 = .ok (.iconst 3, 1) := by decide +kernel
theorem dX3_encoded_29 : decode cX3_encoded 29 = .ok (.isub, 1) := by decide +kernel
theorem dX3_encoded_30 : decode cX3_encoded 30 = .ok (.istore_n 3, 1) := by decide +kernel
theorem dX3_encoded_31 : decode cX3_encoded 31 = .ok (.iload_n 3, 1) := by decide +kernel
theorem dX3_encoded_32 : decode cX3_encoded 32 = .ok (.ifCond .ne 7, 3) := by decide +kernel
theorem dX3_encoded_35 : decode cX3_encoded 35 = .ok (.iload_n 2, 1) := by decide +kernel
theorem dX3_encoded_36 : decode cX3_encoded 36 = .ok (.goto 8, 3) := by decide +kernel
theorem dX3_encoded_39 : decode cX3_encoded 39 = .ok (.iload_n 2, 1) := by decide +kernel
theorem dX3_encoded_40 : decode cX3_encoded 40 = .ok (.iload_n 3, 1) := by decide +kernel
theorem dX3_encoded_41 : decode cX3_encoded 41 = .ok (.iconst 1, 1) := by decide +kernel
theorem dX3_encoded_42 : decode cX3_encoded 42 = .ok (.isub, 1) := by decide +kernel
theorem dX3_encoded_43 : decode cX3_encoded 43 = .ok (.ishr, 1) := by decide +kernel
theorem dX3_encoded_44 : decode cX3_encoded 44 = .ok (.bipush 15, 2) := by decide +kernel
theorem dX3_encoded_46 : decode cX3_encoded 46 = .ok (.iand, 1) := by decide +kernel
theorem dX3_encoded_47 : decode cX3_encoded 47 = .ok (.istore 4, 2) := by decide +kernel
theorem dX3_encoded_49 : decode cX3_encoded 49 = .ok (.iload_n 1, 1) := by decide +kernel
theorem dX3_encoded_50 : decode cX3_encoded 50 = .ok (.ifCond .ge 7, 3) := by decide +kernel
theorem dX3_encoded_53 : decode cX3_encoded 53 = .ok (.iconst 0, 1) := by decide +kernel
theorem dX3_encoded_54 : decode cX3_encoded 54 = .ok (.goto 6, 3) := by decide +kernel
theorem dX3_encoded_57 : decode cX3_encoded 57 = .ok (.sipush 128, 3) := by decide +kernel
theorem dX3_encoded_60 : decode cX3_encoded 60 = .ok (.iload_n 3, 1) := by decide +kernel
theorem dX3_encoded_61 : decode cX3_encoded 61 = .ok (.iconst 4, 1) := by decide +kernel
theorem dX3_encoded_62 : decode cX3_encoded 62 = .ok (.ishl, 1) := by decide +kernel
theorem dX3_encoded_63 : decode cX3_encoded 63 = .ok (.ior, 1) := by decide +kernel
theorem dX3_encoded_64 : decode cX3_encoded 64 = .ok (.iload 4, 2) := by decide +kernel
theorem dX3_encoded_66 : decode cX3_encoded 66 = .ok (.ior, 1) := by decide +kernel
theorem dX3_encoded_67 : decode cX3_encoded 67 = .ok (.bipush 85, 2) := by decide +kernel
theorem dX3_encoded_69 : decode cX3_encoded 69 = .ok (.ixor, 1) := by decide +kernel
theorem dX3_encoded_70 : decode cX3_encoded 70 = .ok (.ireturn, 1) := by decide +kernel
abbrev cX3_decoded : ByteArray := prog_2_method_2_code
def yX3_decoded : MethodName := ⟨RX3, "decoded", "(I)I"⟩
theorem dX3_decoded_0 : decode cX3_decoded 0 = .ok (.iload_n 1, 1) := by decide +kernel
theorem dX3_decoded_1 : decode cX3_decoded 1 = .ok (.bipush 85, 2) := by decide +kernel
theorem dX3_decoded_3 : decode cX3_decoded 3 = .ok (.ixor, 1) := by decide +kernel
theorem dX3_decoded_4 : decode cX3_decoded 4 = .ok (.istore_n 2, 1) := by decide +kernel
theorem dX3_decoded_5 : decode cX3_decoded 5 = .ok (.iload_n 2, 1) := by decide +kernel
theorem dX3_decoded_6 : decode cX3_decoded 6 = .ok (.iconst 4, 1) := by decide +kernel
theorem dX3_decoded_7 : decode cX3_decoded 7 = .ok (.ishr, 1) := by decide +kernel
theorem dX3_decoded_8 : decode cX3_decoded 8 = .ok (.bipush 7, 2) := by decide +kernel
theorem dX3_decoded_10 : decode cX3_decoded 10 = .ok (.iand, 1) := by decide +kernel
theorem dX3_decoded_11 : decode cX3_decoded 11 = .ok (.istore_n 3, 1) := by decide +kernel
theorem dX3_decoded_12 : decode cX3_decoded 12 = .ok (.bipush 16, 2) := by decide +kernel
theorem dX3_decoded_14 : decode cX3_decoded 14 = .ok (.iload_n 2, 1) := by decide +kernel
theorem dX3_decoded_15 : decode cX3_decoded 15 = .ok (.bipush 15, 2) := by decide +kernel
theorem dX3_decoded_17 : decode cX3_decoded 17 = .ok (.iand, 1) := by decide +kernel
theorem dX3_decoded_18 : decode cX3_decoded 18 = .ok (.imul, 1) := by decide +kernel
theorem dX3_decoded_19 : decode cX3_decoded 19 = .ok (.iload_n 3, 1) := by decide +kernel
theorem dX3_decoded_20 : decode cX3_decoded 20 = .ok (.ifCond .ne 8, 3) := by decide +kernel
theorem dX3_decoded_23 : decode cX3_decoded 23 = .ok (.bipush 8, 2) := by decide +kernel
theorem dX3_decoded_25 : decode cX3_decoded 25 = .ok (.goto 6, 3) := by decide +kernel
theorem dX3_decoded_28 : decode cX3_decoded 28 = .ok (.sipush 264, 3) := by decide +kernel
theorem dX3_decoded_31 : decode cX3_decoded 31 = .ok (.iadd, 1) := by decide +kernel
theorem dX3_decoded_32 : decode cX3_decoded 32 = .ok (.istore 4, 2) := by decide +kernel
theorem dX3_decoded_34 : decode cX3_decoded 34 = .ok (.iload_n 3, 1) := by decide +kernel
theorem dX3_decoded_35 : decode cX3_decoded 35 = .ok (.iconst 1, 1) := by decide +kernel
theorem dX3_decoded_36 : decode cX3_decoded 36 = .ok (.if_icmp .le 11, 3) := by decide +kernel
theorem dX3_decoded_39 : decode cX3_decoded 39 = .ok (.iload 4, 2) := by decide +kernel
theorem dX3_decoded_41 : decode cX3_decoded 41 = .ok (.iload_n 3, 1) := by decide +kernel
theorem dX3_decoded_42 : decode cX3_decoded 42 = .ok (.iconst 1, 1) := by decide +kernel
theorem dX3_decoded_43 : decode cX3_decoded 43 = .ok (.isub, 1) := by decide +kernel
theorem dX3_decoded_44 : decode cX3_decoded 44 = .ok (.ishl, 1) := by decide +kernel
theorem dX3_decoded_45 : decode cX3_decoded 45 = .ok (.istore 4, 2) := by decide +kernel
theorem dX3_decoded_47 : decode cX3_decoded 47 = .ok (.iload_n 2, 1) := by decide +kernel
theorem dX3_decoded_48 : decode cX3_decoded 48 = .ok (.sipush 128, 3) := by decide +kernel
theorem dX3_decoded_51 : decode cX3_decoded 51 = .ok (.iand, 1) := by decide +kernel
theorem dX3_decoded_52 : decode cX3_decoded 52 = .ok (.ifCond .eq 8, 3) := by decide +kernel
theorem dX3_decoded_55 : decode cX3_decoded 55 = .ok (.iload 4, 2) := by decide +kernel
theorem dX3_decoded_57 : decode cX3_decoded 57 = .ok (.goto 6, 3) := by decide +kernel
theorem dX3_decoded_60 : decode cX3_decoded 60 = .ok (.iload 4, 2) := by decide +kernel
theorem dX3_decoded_62 : decode cX3_decoded 62 = .ok (.ineg, 1) := by decide +kernel
theorem dX3_decoded_63 : decode cX3_decoded 63 = .ok (.ireturn, 1) := by decide +kernel
theorem q5 : (Jvm.Cond.initialized "ConferenceBridge$ALaw") ∈ lw_all := lw_g (lw_at lw_m1 3 rfl) rfl
theorem q26 : (Jvm.Cond.instantiable "ConferenceBridge$ALaw" (0 : Nat)) ∈ lw_all := lw_g (lw_at lw_m1 24 rfl) rfl
theorem q28 : (Jvm.Cond.instanceMethod ({ cls := "ConferenceBridge$ALaw", name := "<init>", desc := "()V" } : Jvm.MethodName)) ∈ lw_all := lw_g (lw_at lw_m1 26 rfl) rfl
theorem q29 : (Jvm.Cond.code ({ cls := "ConferenceBridge$ALaw", name := "<init>", desc := "()V" } : Jvm.MethodName) prog_2_method_1_code (1 : Nat) (Option.none : Option Jvm.ClassFile.FieldType)) ∈ lw_all := lw_g (lw_at lw_m1 27 rfl) rfl
theorem q30 : (Jvm.Cond.methodLinkNest "ConferenceBridge$ALaw" (1 : Nat) ({ cls := "ConferenceBridge$Law", name := "<init>", desc := "()V" } : Jvm.MethodName) "ConferenceBridge") ∈ lw_tbl := lw_at lw_m1 28 rfl
theorem q34 : (Jvm.Cond.superclass "ConferenceBridge$ALaw" "ConferenceBridge$Law") ∈ lw_all := lw_g (lw_at lw_m1 32 rfl) rfl
theorem q82 : (Jvm.Cond.selects "ConferenceBridge$ALaw" ({ cls := "ConferenceBridge$Law", name := "encoded", desc := "(I)I" } : Jvm.MethodName) ({ cls := "ConferenceBridge$ALaw", name := "encoded", desc := "(I)I" } : Jvm.MethodName)) ∈ lw_all := lw_g (lw_at lw_m1 80 rfl) rfl
theorem q83 : (Jvm.Cond.instanceMethod ({ cls := "ConferenceBridge$ALaw", name := "encoded", desc := "(I)I" } : Jvm.MethodName)) ∈ lw_all := lw_g (lw_at lw_m1 81 rfl) rfl
theorem q84 : (Jvm.Cond.code ({ cls := "ConferenceBridge$ALaw", name := "encoded", desc := "(I)I" } : Jvm.MethodName) prog_2_method_3_code (5 : Nat) (Option.some Jvm.ClassFile.FieldType.int)) ∈ lw_all := lw_g (lw_at lw_m1 82 rfl) rfl
theorem q85 : (Jvm.Cond.methodLink "ConferenceBridge$ALaw" (7 : Nat) ({ cls := "ConferenceBridge$ALaw", name := "top", desc := "(I)I" } : Jvm.MethodName)) ∈ lw_all := lw_g (lw_at lw_m1 83 rfl) rfl
theorem q86 : (Jvm.Cond.sameMethod "ConferenceBridge$ALaw" "ConferenceBridge$Law" "top" "(I)I") ∈ lw_all := lw_g (lw_at lw_m1 84 rfl) rfl
theorem q166 : (Jvm.Cond.selects "ConferenceBridge$ALaw" ({ cls := "ConferenceBridge$Law", name := "decoded", desc := "(I)I" } : Jvm.MethodName) ({ cls := "ConferenceBridge$ALaw", name := "decoded", desc := "(I)I" } : Jvm.MethodName)) ∈ lw_all := lw_g (lw_at lw_m1 164 rfl) rfl
theorem q167 : (Jvm.Cond.instanceMethod ({ cls := "ConferenceBridge$ALaw", name := "decoded", desc := "(I)I" } : Jvm.MethodName)) ∈ lw_all := lw_g (lw_at lw_m1 165 rfl) rfl
theorem q168 : (Jvm.Cond.code ({ cls := "ConferenceBridge$ALaw", name := "decoded", desc := "(I)I" } : Jvm.MethodName) prog_2_method_2_code (5 : Nat) (Option.some Jvm.ClassFile.FieldType.int)) ∈ lw_all := lw_g (lw_at lw_m1 166 rfl) rfl
theorem q361 : (Jvm.Cond.castable "ConferenceBridge$ALaw" "ConferenceBridge$Law") ∈ lw_tbl := lw_at lw_m2 119 rfl
/-! ConferenceBridge$MuLaw -/
set_option maxRecDepth 100000
def RX4 : String := "ConferenceBridge$MuLaw"
abbrev cX4_init : ByteArray := prog_4_method_1_code
def yX4_init : MethodName := ⟨RX4, "<init>", "()V"⟩
theorem dX4_init_0 : decode cX4_init 0 = .ok (.aload_n 0, 1) := by decide +kernel
theorem dX4_init_1 : decode cX4_init 1 = .ok (.invokespecial 1, 3) := by decide +kernel
theorem dX4_init_4 : decode cX4_init 4 = .ok (.return_, 1) := by decide +kernel
abbrev cX4_encoded : ByteArray := prog_4_method_3_code
def yX4_encoded : MethodName := ⟨RX4, "encoded", "(I)I"⟩
theorem dX4_encoded_0 : decode cX4_encoded 0 = .ok (.iload_n 1, 1) := by decide +kernel
theorem dX4_encoded_1 : decode cX4_encoded 1 = .ok (.invokestatic 7, 3) := by decide +kernel
theorem dX4_encoded_4 : decode cX4_encoded 4 = .ok (.sipush 32635, 3) := by decide +kernel
theorem dX4_encoded_7 : decode cX4_encoded 7 = .ok (.invokestatic 13, 3) := by decide +kernel
theorem dX4_encoded_10 : decode cX4_encoded 10 = .ok (.sipush 132, 3) := by decide +kernel
theorem dX4_encoded_13 : decode cX4_encoded 13 = .ok (.iadd, 1) := by decide +kernel
theorem dX4_encoded_14 : decode cX4_encoded 14 = .ok (.istore_n 2, 1) := by decide +kernel
theorem dX4_encoded_15 : decode cX4_encoded 15 = .ok (.iload_n 2, 1) := by decide +kernel
theorem dX4_encoded_16 : decode cX4_encoded 16 = .ok (.invokestatic 17, 3) := by decide +kernel
theorem dX4_encoded_19 : decode cX4_encoded 19 = .ok (.bipush 7, 2) := by decide +kernel
theorem dX4_encoded_21 : decode cX4_encoded 21 = .ok (.isub, 1) := by decide +kernel
theorem dX4_encoded_22 : decode cX4_encoded 22 = .ok (.istore_n 3, 1) := by decide +kernel
theorem dX4_encoded_23 : decode cX4_encoded 23 = .ok (.iload_n 2, 1) := by decide +kernel
theorem dX4_encoded_24 : decode cX4_encoded 24 = .ok (.iload_n 3, 1) := by decide +kernel
theorem dX4_encoded_25 : decode cX4_encoded 25 = .ok (.iconst 3, 1) := by decide +kernel
theorem dX4_encoded_26 : decode cX4_encoded 26 = .ok (.iadd, 1) := by decide +kernel
theorem dX4_encoded_27 : decode cX4_encoded 27 = .ok (.ishr, 1) := by decide +kernel
theorem dX4_encoded_28 : decode cX4_encoded 28 = .ok (.bipush 15, 2) := by decide +kernel
theorem dX4_encoded_30 : decode cX4_encoded 30 = .ok (.iand, 1) := by decide +kernel
theorem dX4_encoded_31 : decode cX4_encoded 31 = .ok (.istore 4, 2) := by decide +kernel
theorem dX4_encoded_33 : decode cX4_encoded 33 = .ok (.iload_n 1, 1) := by decide +kernel
theorem dX4_encoded_34 : decode cX4_encoded 34 = .ok (.ifCond .ge 9, 3) := by decide +kernel
theorem dX4_encoded_37 : decode cX4_encoded 37 = .ok (.sipush 128, 3) := by decide +kernel
theorem dX4_encoded_40 : decode cX4_encoded 40 = .ok (.goto 4, 3) := by decide +kernel
theorem dX4_encoded_43 : decode cX4_encoded 43 = .ok (.iconst 0, 1) := by decide +kernel
theorem dX4_encoded_44 : decode cX4_encoded 44 = .ok (.iload_n 3, 1) := by decide +kernel
theorem dX4_encoded_45 : decode cX4_encoded 45 = .ok (.iconst 4, 1) := by decide +kernel
theorem dX4_encoded_46 : decode cX4_encoded 46 = .ok (.ishl, 1) := by decide +kernel
theorem dX4_encoded_47 : decode cX4_encoded 47 = .ok (.ior, 1) := by decide +kernel
theorem dX4_encoded_48 : decode cX4_encoded 48 = .ok (.iload 4, 2) := by decide +kernel
theorem dX4_encoded_50 : decode cX4_encoded 50 = .ok (.ior, 1) := by decide +kernel
theorem dX4_encoded_51 : decode cX4_encoded 51 = .ok (.iconst (-1), 1) := by decide +kernel
theorem dX4_encoded_52 : decode cX4_encoded 52 = .ok (.ixor, 1) := by decide +kernel
theorem dX4_encoded_53 : decode cX4_encoded 53 = .ok (.sipush 255, 3) := by decide +kernel
theorem dX4_encoded_56 : decode cX4_encoded 56 = .ok (.iand, 1) := by decide +kernel
theorem dX4_encoded_57 : decode cX4_encoded 57 = .ok (.ireturn, 1) := by decide +kernel
abbrev cX4_decoded : ByteArray := prog_4_method_2_code
def yX4_decoded : MethodName := ⟨RX4, "decoded", "(I)I"⟩
theorem dX4_decoded_0 : decode cX4_decoded 0 = .ok (.iload_n 1, 1) := by decide +kernel
theorem dX4_decoded_1 : decode cX4_decoded 1 = .ok (.iconst (-1), 1) := by decide +kernel
theorem dX4_decoded_2 : decode cX4_decoded 2 = .ok (.ixor, 1) := by decide +kernel
theorem dX4_decoded_3 : decode cX4_decoded 3 = .ok (.istore_n 2, 1) := by decide +kernel
theorem dX4_decoded_4 : decode cX4_decoded 4 = .ok (.bipush 8, 2) := by decide +kernel
theorem dX4_decoded_6 : decode cX4_decoded 6 = .ok (.iload_n 2, 1) := by decide +kernel
theorem dX4_decoded_7 : decode cX4_decoded 7 = .ok (.bipush 15, 2) := by decide +kernel
theorem dX4_decoded_9 : decode cX4_decoded 9 = .ok (.iand, 1) := by decide +kernel
theorem dX4_decoded_10 : decode cX4_decoded 10 = .ok (.imul, 1) := by decide +kernel
theorem dX4_decoded_11 : decode cX4_decoded 11 = .ok (.sipush 132, 3) := by decide +kernel
theorem dX4_decoded_14 : decode cX4_decoded 14 = .ok (.iadd, 1) := by decide +kernel
theorem dX4_decoded_15 : decode cX4_decoded 15 = .ok (.iload_n 2, 1) := by decide +kernel
theorem dX4_decoded_16 : decode cX4_decoded 16 = .ok (.iconst 4, 1) := by decide +kernel
theorem dX4_decoded_17 : decode cX4_decoded 17 = .ok (.ishr, 1) := by decide +kernel
theorem dX4_decoded_18 : decode cX4_decoded 18 = .ok (.bipush 7, 2) := by decide +kernel
theorem dX4_decoded_20 : decode cX4_decoded 20 = .ok (.iand, 1) := by decide +kernel
theorem dX4_decoded_21 : decode cX4_decoded 21 = .ok (.ishl, 1) := by decide +kernel
theorem dX4_decoded_22 : decode cX4_decoded 22 = .ok (.sipush 132, 3) := by decide +kernel
theorem dX4_decoded_25 : decode cX4_decoded 25 = .ok (.isub, 1) := by decide +kernel
theorem dX4_decoded_26 : decode cX4_decoded 26 = .ok (.istore_n 3, 1) := by decide +kernel
theorem dX4_decoded_27 : decode cX4_decoded 27 = .ok (.iload_n 2, 1) := by decide +kernel
theorem dX4_decoded_28 : decode cX4_decoded 28 = .ok (.sipush 128, 3) := by decide +kernel
theorem dX4_decoded_31 : decode cX4_decoded 31 = .ok (.iand, 1) := by decide +kernel
theorem dX4_decoded_32 : decode cX4_decoded 32 = .ok (.ifCond .eq 8, 3) := by decide +kernel
theorem dX4_decoded_35 : decode cX4_decoded 35 = .ok (.iload_n 3, 1) := by decide +kernel
theorem dX4_decoded_36 : decode cX4_decoded 36 = .ok (.ineg, 1) := by decide +kernel
theorem dX4_decoded_37 : decode cX4_decoded 37 = .ok (.goto 4, 3) := by decide +kernel
theorem dX4_decoded_40 : decode cX4_decoded 40 = .ok (.iload_n 3, 1) := by decide +kernel
theorem dX4_decoded_41 : decode cX4_decoded 41 = .ok (.ireturn, 1) := by decide +kernel
theorem q6 : (Jvm.Cond.initialized "ConferenceBridge$MuLaw") ∈ lw_all := lw_g (lw_at lw_m1 4 rfl) rfl
theorem q36 : (Jvm.Cond.instantiable "ConferenceBridge$MuLaw" (0 : Nat)) ∈ lw_all := lw_g (lw_at lw_m1 34 rfl) rfl
theorem q38 : (Jvm.Cond.instanceMethod ({ cls := "ConferenceBridge$MuLaw", name := "<init>", desc := "()V" } : Jvm.MethodName)) ∈ lw_all := lw_g (lw_at lw_m1 36 rfl) rfl
theorem q39 : (Jvm.Cond.code ({ cls := "ConferenceBridge$MuLaw", name := "<init>", desc := "()V" } : Jvm.MethodName) prog_4_method_1_code (1 : Nat) (Option.none : Option Jvm.ClassFile.FieldType)) ∈ lw_all := lw_g (lw_at lw_m1 37 rfl) rfl
theorem q40 : (Jvm.Cond.methodLinkNest "ConferenceBridge$MuLaw" (1 : Nat) ({ cls := "ConferenceBridge$Law", name := "<init>", desc := "()V" } : Jvm.MethodName) "ConferenceBridge") ∈ lw_tbl := lw_at lw_m1 38 rfl
theorem q41 : (Jvm.Cond.superclass "ConferenceBridge$MuLaw" "ConferenceBridge$Law") ∈ lw_all := lw_g (lw_at lw_m1 39 rfl) rfl
theorem q93 : (Jvm.Cond.selects "ConferenceBridge$MuLaw" ({ cls := "ConferenceBridge$Law", name := "encoded", desc := "(I)I" } : Jvm.MethodName) ({ cls := "ConferenceBridge$MuLaw", name := "encoded", desc := "(I)I" } : Jvm.MethodName)) ∈ lw_all := lw_g (lw_at lw_m1 91 rfl) rfl
theorem q94 : (Jvm.Cond.instanceMethod ({ cls := "ConferenceBridge$MuLaw", name := "encoded", desc := "(I)I" } : Jvm.MethodName)) ∈ lw_all := lw_g (lw_at lw_m1 92 rfl) rfl
theorem q95 : (Jvm.Cond.code ({ cls := "ConferenceBridge$MuLaw", name := "encoded", desc := "(I)I" } : Jvm.MethodName) prog_4_method_3_code (5 : Nat) (Option.some Jvm.ClassFile.FieldType.int)) ∈ lw_all := lw_g (lw_at lw_m1 93 rfl) rfl
theorem q96 : (Jvm.Cond.methodLink "ConferenceBridge$MuLaw" (7 : Nat) ({ cls := "java/lang/Math", name := "abs", desc := "(I)I" } : Jvm.MethodName)) ∈ lw_all := lw_g (lw_at lw_m1 94 rfl) rfl
theorem q99 : (Jvm.Cond.methodLink "ConferenceBridge$MuLaw" (13 : Nat) ({ cls := "java/lang/Math", name := "min", desc := "(II)I" } : Jvm.MethodName)) ∈ lw_all := lw_g (lw_at lw_m1 97 rfl) rfl
theorem q102 : (Jvm.Cond.methodLink "ConferenceBridge$MuLaw" (17 : Nat) ({ cls := "ConferenceBridge$MuLaw", name := "top", desc := "(I)I" } : Jvm.MethodName)) ∈ lw_all := lw_g (lw_at lw_m1 100 rfl) rfl
theorem q103 : (Jvm.Cond.sameMethod "ConferenceBridge$MuLaw" "ConferenceBridge$Law" "top" "(I)I") ∈ lw_all := lw_g (lw_at lw_m1 101 rfl) rfl
theorem q169 : (Jvm.Cond.selects "ConferenceBridge$MuLaw" ({ cls := "ConferenceBridge$Law", name := "decoded", desc := "(I)I" } : Jvm.MethodName) ({ cls := "ConferenceBridge$MuLaw", name := "decoded", desc := "(I)I" } : Jvm.MethodName)) ∈ lw_all := lw_g (lw_at lw_m1 167 rfl) rfl
theorem q170 : (Jvm.Cond.instanceMethod ({ cls := "ConferenceBridge$MuLaw", name := "decoded", desc := "(I)I" } : Jvm.MethodName)) ∈ lw_all := lw_g (lw_at lw_m1 168 rfl) rfl
theorem q171 : (Jvm.Cond.code ({ cls := "ConferenceBridge$MuLaw", name := "decoded", desc := "(I)I" } : Jvm.MethodName) prog_4_method_2_code (4 : Nat) (Option.some Jvm.ClassFile.FieldType.int)) ∈ lw_all := lw_g (lw_at lw_m1 169 rfl) rfl
theorem q362 : (Jvm.Cond.castable "ConferenceBridge$MuLaw" "ConferenceBridge$Law") ∈ lw_tbl := lw_at lw_m2 120 rfl
/-! ConferenceBridge$Party -/
set_option maxRecDepth 100000
def RX5 : String := "ConferenceBridge$Party"
def TX5 : u_T := fun k => match k with
  | 0 => ("ConferenceBridge$Party", "law", "LConferenceBridge$Law;", false)
  | 1 => ("ConferenceBridge$Party", "gain", "I", false)
  | 2 => ("ConferenceBridge$Party", "muted", "Z", false)
  | 3 => ("ConferenceBridge$Party", "speaks", "Z", false)
  | 4 => ("ConferenceBridge$Party", "in", "[I", true)
  | 5 => ("ConferenceBridge$Party", "samples", "[I", true)
  | 6 => ("ConferenceBridge$Party", "out", "[I", true)
  | _ => ("ConferenceBridge$Party", "energy", "J", false)
def tyX5 : Nat → FieldType := fun k => match k with
  | 0 => .object "ConferenceBridge$Law"
  | 1 => .int
  | 2 => .boolean
  | 3 => .boolean
  | 4 => .array .int
  | 5 => .array .int
  | 6 => .array .int
  | _ => .long
abbrev wsX50 : List Cond := u_ws RX5 TX5 8
theorem nmX5 : ∀ a, a < 8 → ∀ b, b < 8 → a ≠ b → (TX5 a).2.1 ≠ (TX5 b).2.1 := by decide +kernel
theorem tyX5_ok : ∀ k, k < 8 → parseFieldDescriptor (TX5 k).2.2.1 = some (tyX5 k) := by decide +kernel
abbrev cX5_init : ByteArray := prog_5_method_1_code
def yX5_init : MethodName := ⟨RX5, "<init>", "()V"⟩
theorem dX5_init_0 : decode cX5_init 0 = .ok (.aload_n 0, 1) := by decide +kernel
theorem dX5_init_1 : decode cX5_init 1 = .ok (.invokespecial 3, 3) := by decide +kernel
theorem dX5_init_4 : decode cX5_init 4 = .ok (.aload_n 0, 1) := by decide +kernel
theorem dX5_init_5 : decode cX5_init 5 = .ok (.sipush 256, 3) := by decide +kernel
theorem dX5_init_8 : decode cX5_init 8 = .ok (.putfield 9, 3) := by decide +kernel
theorem dX5_init_11 : decode cX5_init 11 = .ok (.aload_n 0, 1) := by decide +kernel
theorem dX5_init_12 : decode cX5_init 12 = .ok (.bipush 8, 2) := by decide +kernel
theorem dX5_init_14 : decode cX5_init 14 = .ok (.newarray .int, 2) := by decide +kernel
theorem dX5_init_16 : decode cX5_init 16 = .ok (.putfield 15, 3) := by decide +kernel
theorem dX5_init_19 : decode cX5_init 19 = .ok (.aload_n 0, 1) := by decide +kernel
theorem dX5_init_20 : decode cX5_init 20 = .ok (.bipush 8, 2) := by decide +kernel
theorem dX5_init_22 : decode cX5_init 22 = .ok (.newarray .int, 2) := by decide +kernel
theorem dX5_init_24 : decode cX5_init 24 = .ok (.putfield 19, 3) := by decide +kernel
theorem dX5_init_27 : decode cX5_init 27 = .ok (.aload_n 0, 1) := by decide +kernel
theorem dX5_init_28 : decode cX5_init 28 = .ok (.bipush 8, 2) := by decide +kernel
theorem dX5_init_30 : decode cX5_init 30 = .ok (.newarray .int, 2) := by decide +kernel
theorem dX5_init_32 : decode cX5_init 32 = .ok (.putfield 22, 3) := by decide +kernel
theorem dX5_init_35 : decode cX5_init 35 = .ok (.return_, 1) := by decide +kernel
theorem q7 : (Jvm.Cond.initialized "ConferenceBridge$Party") ∈ lw_all := lw_g (lw_at lw_m1 5 rfl) rfl
theorem q44 : (Jvm.Cond.instantiable "ConferenceBridge$Party" (8 : Nat)) ∈ lw_all := lw_g (lw_at lw_m1 42 rfl) rfl
theorem q46 : (Jvm.Cond.instanceMethod ({ cls := "ConferenceBridge$Party", name := "<init>", desc := "()V" } : Jvm.MethodName)) ∈ lw_all := lw_g (lw_at lw_m1 44 rfl) rfl
theorem q47 : (Jvm.Cond.code ({ cls := "ConferenceBridge$Party", name := "<init>", desc := "()V" } : Jvm.MethodName) prog_5_method_1_code (1 : Nat) (Option.none : Option Jvm.ClassFile.FieldType)) ∈ lw_all := lw_g (lw_at lw_m1 45 rfl) rfl
theorem q48 : (Jvm.Cond.methodLink "ConferenceBridge$Party" (3 : Nat) ({ cls := "java/lang/Object", name := "<init>", desc := "()V" } : Jvm.MethodName)) ∈ lw_all := lw_g (lw_at lw_m1 46 rfl) rfl
theorem q50 : (Jvm.Cond.fieldLink "ConferenceBridge$Party" (9 : Nat) "ConferenceBridge$Party" "gain" "I") ∈ lw_all := lw_g (lw_at lw_m1 48 rfl) rfl
theorem q54 : (Jvm.Cond.fieldLink "ConferenceBridge$Party" (15 : Nat) "ConferenceBridge$Party" "in" "[I") ∈ lw_all := lw_g (lw_at lw_m1 52 rfl) rfl
theorem q56 : (Jvm.Cond.fieldLink "ConferenceBridge$Party" (19 : Nat) "ConferenceBridge$Party" "samples" "[I") ∈ lw_all := lw_g (lw_at lw_m1 54 rfl) rfl
theorem q58 : (Jvm.Cond.fieldLink "ConferenceBridge$Party" (22 : Nat) "ConferenceBridge$Party" "out" "[I") ∈ lw_all := lw_g (lw_at lw_m1 56 rfl) rfl
theorem q61 : (Jvm.Cond.lays "ConferenceBridge$Party" "ConferenceBridge$Party" "law" "LConferenceBridge$Law;") ∈ lw_all := lw_g (lw_at lw_m1 59 rfl) rfl
theorem q62 : (Jvm.Cond.soleField "ConferenceBridge$Party" "law") ∈ lw_all := lw_g (lw_at lw_m1 60 rfl) rfl
theorem q63 : (Jvm.Cond.lays "ConferenceBridge$Party" "ConferenceBridge$Party" "gain" "I") ∈ lw_all := lw_g (lw_at lw_m1 61 rfl) rfl
theorem q64 : (Jvm.Cond.soleField "ConferenceBridge$Party" "gain") ∈ lw_all := lw_g (lw_at lw_m1 62 rfl) rfl
theorem q65 : (Jvm.Cond.lays "ConferenceBridge$Party" "ConferenceBridge$Party" "muted" "Z") ∈ lw_all := lw_g (lw_at lw_m1 63 rfl) rfl
theorem q66 : (Jvm.Cond.soleField "ConferenceBridge$Party" "muted") ∈ lw_all := lw_g (lw_at lw_m1 64 rfl) rfl
theorem q67 : (Jvm.Cond.lays "ConferenceBridge$Party" "ConferenceBridge$Party" "speaks" "Z") ∈ lw_all := lw_g (lw_at lw_m1 65 rfl) rfl
theorem q68 : (Jvm.Cond.soleField "ConferenceBridge$Party" "speaks") ∈ lw_all := lw_g (lw_at lw_m1 66 rfl) rfl
theorem q69 : (Jvm.Cond.laysFinal "ConferenceBridge$Party" "ConferenceBridge$Party" "in" "[I") ∈ lw_all := lw_g (lw_at lw_m1 67 rfl) rfl
theorem q70 : (Jvm.Cond.soleField "ConferenceBridge$Party" "in") ∈ lw_all := lw_g (lw_at lw_m1 68 rfl) rfl
theorem q71 : (Jvm.Cond.laysFinal "ConferenceBridge$Party" "ConferenceBridge$Party" "samples" "[I") ∈ lw_all := lw_g (lw_at lw_m1 69 rfl) rfl
theorem q72 : (Jvm.Cond.soleField "ConferenceBridge$Party" "samples") ∈ lw_all := lw_g (lw_at lw_m1 70 rfl) rfl
theorem q73 : (Jvm.Cond.laysFinal "ConferenceBridge$Party" "ConferenceBridge$Party" "out" "[I") ∈ lw_all := lw_g (lw_at lw_m1 71 rfl) rfl
theorem q74 : (Jvm.Cond.soleField "ConferenceBridge$Party" "out") ∈ lw_all := lw_g (lw_at lw_m1 72 rfl) rfl
theorem q75 : (Jvm.Cond.lays "ConferenceBridge$Party" "ConferenceBridge$Party" "energy" "J") ∈ lw_all := lw_g (lw_at lw_m1 73 rfl) rfl
theorem q76 : (Jvm.Cond.soleField "ConferenceBridge$Party" "energy") ∈ lw_all := lw_g (lw_at lw_m1 74 rfl) rfl
theorem q77 : (Jvm.Cond.superclass "ConferenceBridge$Party" "java/lang/Object") ∈ lw_all := lw_g (lw_at lw_m1 75 rfl) rfl
theorem in_X5 : ∀ w ∈ wsX50, w ∈ lw_all := lw_in wsX50 [61, 63, 65, 67, 69, 71, 73, 75] (by decide +kernel) (by decide +kernel)
/-! java/lang/Integer -/
set_option maxRecDepth 100000
def RJ0 : String := "java/lang/Integer"
abbrev cJ0_numberOfLeadingZeros : ByteArray := prog_9_method_47_code
def yJ0_numberOfLeadingZeros : MethodName := ⟨RJ0, "numberOfLeadingZeros", "(I)I"⟩
theorem dJ0_numberOfLeadingZeros_0 : decode cJ0_numberOfLeadingZeros 0 = .ok (.iload_n 0, 1) := by decide +kernel
theorem dJ0_numberOfLeadingZeros_1 : decode cJ0_numberOfLeadingZeros 1 = .ok (.ifCond .gt 14, 3) := by decide +kernel
theorem dJ0_numberOfLeadingZeros_4 : decode cJ0_numberOfLeadingZeros 4 = .ok (.iload_n 0, 1) := by decide +kernel
theorem dJ0_numberOfLeadingZeros_5 : decode cJ0_numberOfLeadingZeros 5 = .ok (.ifCond .ne 8, 3) := by decide +kernel
theorem dJ0_numberOfLeadingZeros_8 : decode cJ0_numberOfLeadingZeros 8 = .ok (.bipush 32, 2) := by decide +kernel
theorem dJ0_numberOfLeadingZeros_10 : decode cJ0_numberOfLeadingZeros 10 = .ok (.goto 4, 3) := by decide +kernel
theorem dJ0_numberOfLeadingZeros_13 : decode cJ0_numberOfLeadingZeros 13 = .ok (.iconst 0, 1) := by decide +kernel
theorem dJ0_numberOfLeadingZeros_14 : decode cJ0_numberOfLeadingZeros 14 = .ok (.ireturn, 1) := by decide +kernel
theorem dJ0_numberOfLeadingZeros_15 : decode cJ0_numberOfLeadingZeros 15 = .ok (.bipush 31, 2) := by decide +kernel
theorem dJ0_numberOfLeadingZeros_17 : decode cJ0_numberOfLeadingZeros 17 = .ok (.istore_n 1, 1) := by decide +kernel
theorem dJ0_numberOfLeadingZeros_18 : decode cJ0_numberOfLeadingZeros 18 = .ok (.iload_n 0, 1) := by decide +kernel
theorem dJ0_numberOfLeadingZeros_19 : decode cJ0_numberOfLeadingZeros 19 = .ok (.ldc_w 264, 3) := by decide +kernel
theorem dJ0_numberOfLeadingZeros_22 : decode cJ0_numberOfLeadingZeros 22 = .ok (.if_icmp .lt 11, 3) := by decide +kernel
theorem dJ0_numberOfLeadingZeros_25 : decode cJ0_numberOfLeadingZeros 25 = .ok (.iinc 1 (-16), 3) := by decide +kernel
theorem dJ0_numberOfLeadingZeros_28 : decode cJ0_numberOfLeadingZeros 28 = .ok (.iload_n 0, 1) := by decide +kernel
theorem dJ0_numberOfLeadingZeros_29 : decode cJ0_numberOfLeadingZeros 29 = .ok (.bipush 16, 2) := by decide +kernel
theorem dJ0_numberOfLeadingZeros_31 : decode cJ0_numberOfLeadingZeros 31 = .ok (.iushr, 1) := by decide +kernel
theorem dJ0_numberOfLeadingZeros_32 : decode cJ0_numberOfLeadingZeros 32 = .ok (.istore_n 0, 1) := by decide +kernel
theorem dJ0_numberOfLeadingZeros_33 : decode cJ0_numberOfLeadingZeros 33 = .ok (.iload_n 0, 1) := by decide +kernel
theorem dJ0_numberOfLeadingZeros_34 : decode cJ0_numberOfLeadingZeros 34 = .ok (.sipush 256, 3) := by decide +kernel
theorem dJ0_numberOfLeadingZeros_37 : decode cJ0_numberOfLeadingZeros 37 = .ok (.if_icmp .lt 11, 3) := by decide +kernel
theorem dJ0_numberOfLeadingZeros_40 : decode cJ0_numberOfLeadingZeros 40 = .ok (.iinc 1 (-8), 3) := by decide +kernel
theorem dJ0_numberOfLeadingZeros_43 : decode cJ0_numberOfLeadingZeros 43 = .ok (.iload_n 0, 1) := by decide +kernel
theorem dJ0_numberOfLeadingZeros_44 : decode cJ0_numberOfLeadingZeros 44 = .ok (.bipush 8, 2) := by decide +kernel
theorem dJ0_numberOfLeadingZeros_46 : decode cJ0_numberOfLeadingZeros 46 = .ok (.iushr, 1) := by decide +kernel
theorem dJ0_numberOfLeadingZeros_47 : decode cJ0_numberOfLeadingZeros 47 = .ok (.istore_n 0, 1) := by decide +kernel
theorem dJ0_numberOfLeadingZeros_48 : decode cJ0_numberOfLeadingZeros 48 = .ok (.iload_n 0, 1) := by decide +kernel
theorem dJ0_numberOfLeadingZeros_49 : decode cJ0_numberOfLeadingZeros 49 = .ok (.bipush 16, 2) := by decide +kernel
theorem dJ0_numberOfLeadingZeros_51 : decode cJ0_numberOfLeadingZeros 51 = .ok (.if_icmp .lt 10, 3) := by decide +kernel
theorem dJ0_numberOfLeadingZeros_54 : decode cJ0_numberOfLeadingZeros 54 = .ok (.iinc 1 (-4), 3) := by decide +kernel
theorem dJ0_numberOfLeadingZeros_57 : decode cJ0_numberOfLeadingZeros 57 = .ok (.iload_n 0, 1) := by decide +kernel
theorem dJ0_numberOfLeadingZeros_58 : decode cJ0_numberOfLeadingZeros 58 = .ok (.iconst 4, 1) := by decide +kernel
theorem dJ0_numberOfLeadingZeros_59 : decode cJ0_numberOfLeadingZeros 59 = .ok (.iushr, 1) := by decide +kernel
theorem dJ0_numberOfLeadingZeros_60 : decode cJ0_numberOfLeadingZeros 60 = .ok (.istore_n 0, 1) := by decide +kernel
theorem dJ0_numberOfLeadingZeros_61 : decode cJ0_numberOfLeadingZeros 61 = .ok (.iload_n 0, 1) := by decide +kernel
theorem dJ0_numberOfLeadingZeros_62 : decode cJ0_numberOfLeadingZeros 62 = .ok (.iconst 4, 1) := by decide +kernel
theorem dJ0_numberOfLeadingZeros_63 : decode cJ0_numberOfLeadingZeros 63 = .ok (.if_icmp .lt 10, 3) := by decide +kernel
theorem dJ0_numberOfLeadingZeros_66 : decode cJ0_numberOfLeadingZeros 66 = .ok (.iinc 1 (-2), 3) := by decide +kernel
theorem dJ0_numberOfLeadingZeros_69 : decode cJ0_numberOfLeadingZeros 69 = .ok (.iload_n 0, 1) := by decide +kernel
theorem dJ0_numberOfLeadingZeros_70 : decode cJ0_numberOfLeadingZeros 70 = .ok (.iconst 2, 1) := by decide +kernel
theorem dJ0_numberOfLeadingZeros_71 : decode cJ0_numberOfLeadingZeros 71 = .ok (.iushr, 1) := by decide +kernel
theorem dJ0_numberOfLeadingZeros_72 : decode cJ0_numberOfLeadingZeros 72 = .ok (.istore_n 0, 1) := by decide +kernel
theorem dJ0_numberOfLeadingZeros_73 : decode cJ0_numberOfLeadingZeros 73 = .ok (.iload_n 1, 1) := by decide +kernel
theorem dJ0_numberOfLeadingZeros_74 : decode cJ0_numberOfLeadingZeros 74 = .ok (.iload_n 0, 1) := by decide +kernel
theorem dJ0_numberOfLeadingZeros_75 : decode cJ0_numberOfLeadingZeros 75 = .ok (.iconst 1, 1) := by decide +kernel
theorem dJ0_numberOfLeadingZeros_76 : decode cJ0_numberOfLeadingZeros 76 = .ok (.iushr, 1) := by decide +kernel
theorem dJ0_numberOfLeadingZeros_77 : decode cJ0_numberOfLeadingZeros 77 = .ok (.isub, 1) := by decide +kernel
theorem dJ0_numberOfLeadingZeros_78 : decode cJ0_numberOfLeadingZeros 78 = .ok (.ireturn, 1) := by decide +kernel
theorem q8 : (Jvm.Cond.initialized "java/lang/Integer") ∈ lw_all := lw_g (lw_at lw_m1 6 rfl) rfl
theorem q90 : (Jvm.Cond.static ({ cls := "java/lang/Integer", name := "numberOfLeadingZeros", desc := "(I)I" } : Jvm.MethodName)) ∈ lw_all := lw_g (lw_at lw_m1 88 rfl) rfl
theorem q91 : (Jvm.Cond.code ({ cls := "java/lang/Integer", name := "numberOfLeadingZeros", desc := "(I)I" } : Jvm.MethodName) prog_9_method_47_code (2 : Nat) (Option.some Jvm.ClassFile.FieldType.int)) ∈ lw_all := lw_g (lw_at lw_m1 89 rfl) rfl
theorem q92 : (Jvm.Cond.constant "java/lang/Integer" (264 : Nat) (65536 : Int32)) ∈ lw_all := lw_g (lw_at lw_m1 90 rfl) rfl
/-! java/lang/Math -/
set_option maxRecDepth 100000
def RJ1 : String := "java/lang/Math"
abbrev cJ1_abs : ByteArray := prog_10_method_59_code
def yJ1_abs : MethodName := ⟨RJ1, "abs", "(I)I"⟩
theorem dJ1_abs_0 : decode cJ1_abs 0 = .ok (.iload_n 0, 1) := by decide +kernel
theorem dJ1_abs_1 : decode cJ1_abs 1 = .ok (.ifCond .ge 8, 3) := by decide +kernel
theorem dJ1_abs_4 : decode cJ1_abs 4 = .ok (.iload_n 0, 1) := by decide +kernel
theorem dJ1_abs_5 : decode cJ1_abs 5 = .ok (.ineg, 1) := by decide +kernel
theorem dJ1_abs_6 : decode cJ1_abs 6 = .ok (.goto 4, 3) := by decide +kernel
theorem dJ1_abs_9 : decode cJ1_abs 9 = .ok (.iload_n 0, 1) := by decide +kernel
theorem dJ1_abs_10 : decode cJ1_abs 10 = .ok (.ireturn, 1) := by decide +kernel
abbrev cJ1_min : ByteArray := prog_10_method_69_code
def yJ1_min : MethodName := ⟨RJ1, "min", "(II)I"⟩
theorem dJ1_min_0 : decode cJ1_min 0 = .ok (.iload_n 0, 1) := by decide +kernel
theorem dJ1_min_1 : decode cJ1_min 1 = .ok (.iload_n 1, 1) := by decide +kernel
theorem dJ1_min_2 : decode cJ1_min 2 = .ok (.if_icmp .gt 7, 3) := by decide +kernel
theorem dJ1_min_5 : decode cJ1_min 5 = .ok (.iload_n 0, 1) := by decide +kernel
theorem dJ1_min_6 : decode cJ1_min 6 = .ok (.goto 4, 3) := by decide +kernel
theorem dJ1_min_9 : decode cJ1_min 9 = .ok (.iload_n 1, 1) := by decide +kernel
theorem dJ1_min_10 : decode cJ1_min 10 = .ok (.ireturn, 1) := by decide +kernel
abbrev cJ1_min_2 : ByteArray := prog_10_method_70_code
def yJ1_min_2 : MethodName := ⟨RJ1, "min", "(JJ)J"⟩
theorem dJ1_min_2_0 : decode cJ1_min_2 0 = .ok (.lload_n 0, 1) := by decide +kernel
theorem dJ1_min_2_1 : decode cJ1_min_2 1 = .ok (.lload_n 2, 1) := by decide +kernel
theorem dJ1_min_2_2 : decode cJ1_min_2 2 = .ok (.lcmp, 1) := by decide +kernel
theorem dJ1_min_2_3 : decode cJ1_min_2 3 = .ok (.ifCond .gt 7, 3) := by decide +kernel
theorem dJ1_min_2_6 : decode cJ1_min_2 6 = .ok (.lload_n 0, 1) := by decide +kernel
theorem dJ1_min_2_7 : decode cJ1_min_2 7 = .ok (.goto 4, 3) := by decide +kernel
theorem dJ1_min_2_10 : decode cJ1_min_2 10 = .ok (.lload_n 2, 1) := by decide +kernel
theorem dJ1_min_2_11 : decode cJ1_min_2 11 = .ok (.lreturn, 1) := by decide +kernel
abbrev cJ1_max : ByteArray := prog_10_method_66_code
def yJ1_max : MethodName := ⟨RJ1, "max", "(JJ)J"⟩
theorem dJ1_max_0 : decode cJ1_max 0 = .ok (.lload_n 0, 1) := by decide +kernel
theorem dJ1_max_1 : decode cJ1_max 1 = .ok (.lload_n 2, 1) := by decide +kernel
theorem dJ1_max_2 : decode cJ1_max 2 = .ok (.lcmp, 1) := by decide +kernel
theorem dJ1_max_3 : decode cJ1_max 3 = .ok (.ifCond .lt 7, 3) := by decide +kernel
theorem dJ1_max_6 : decode cJ1_max 6 = .ok (.lload_n 0, 1) := by decide +kernel
theorem dJ1_max_7 : decode cJ1_max 7 = .ok (.goto 4, 3) := by decide +kernel
theorem dJ1_max_10 : decode cJ1_max 10 = .ok (.lload_n 2, 1) := by decide +kernel
theorem dJ1_max_11 : decode cJ1_max 11 = .ok (.lreturn, 1) := by decide +kernel
abbrev cJ1_floorDiv : ByteArray := prog_10_method_47_code
def yJ1_floorDiv : MethodName := ⟨RJ1, "floorDiv", "(II)I"⟩
theorem dJ1_floorDiv_0 : decode cJ1_floorDiv 0 = .ok (.iload_n 0, 1) := by decide +kernel
theorem dJ1_floorDiv_1 : decode cJ1_floorDiv 1 = .ok (.iload_n 1, 1) := by decide +kernel
theorem dJ1_floorDiv_2 : decode cJ1_floorDiv 2 = .ok (.idiv, 1) := by decide +kernel
theorem dJ1_floorDiv_3 : decode cJ1_floorDiv 3 = .ok (.istore_n 2, 1) := by decide +kernel
theorem dJ1_floorDiv_4 : decode cJ1_floorDiv 4 = .ok (.iload_n 0, 1) := by decide +kernel
theorem dJ1_floorDiv_5 : decode cJ1_floorDiv 5 = .ok (.iload_n 1, 1) := by decide +kernel
theorem dJ1_floorDiv_6 : decode cJ1_floorDiv 6 = .ok (.ixor, 1) := by decide +kernel
theorem dJ1_floorDiv_7 : decode cJ1_floorDiv 7 = .ok (.ifCond .ge 14, 3) := by decide +kernel
theorem dJ1_floorDiv_10 : decode cJ1_floorDiv 10 = .ok (.iload_n 2, 1) := by decide +kernel
theorem dJ1_floorDiv_11 : decode cJ1_floorDiv 11 = .ok (.iload_n 1, 1) := by decide +kernel
theorem dJ1_floorDiv_12 : decode cJ1_floorDiv 12 = .ok (.imul, 1) := by decide +kernel
theorem dJ1_floorDiv_13 : decode cJ1_floorDiv 13 = .ok (.iload_n 0, 1) := by decide +kernel
theorem dJ1_floorDiv_14 : decode cJ1_floorDiv 14 = .ok (.if_icmp .eq 7, 3) := by decide +kernel
theorem dJ1_floorDiv_17 : decode cJ1_floorDiv 17 = .ok (.iload_n 2, 1) := by decide +kernel
theorem dJ1_floorDiv_18 : decode cJ1_floorDiv 18 = .ok (.iconst 1, 1) := by decide +kernel
theorem dJ1_floorDiv_19 : decode cJ1_floorDiv 19 = .ok (.isub, 1) := by decide +kernel
theorem dJ1_floorDiv_20 : decode cJ1_floorDiv 20 = .ok (.ireturn, 1) := by decide +kernel
theorem dJ1_floorDiv_21 : decode cJ1_floorDiv 21 = .ok (.iload_n 2, 1) := by decide +kernel
theorem dJ1_floorDiv_22 : decode cJ1_floorDiv 22 = .ok (.ireturn, 1) := by decide +kernel
theorem q9 : (Jvm.Cond.initialized "java/lang/Math") ∈ lw_all := lw_g (lw_at lw_m1 7 rfl) rfl
theorem q97 : (Jvm.Cond.static ({ cls := "java/lang/Math", name := "abs", desc := "(I)I" } : Jvm.MethodName)) ∈ lw_all := lw_g (lw_at lw_m1 95 rfl) rfl
theorem q98 : (Jvm.Cond.code ({ cls := "java/lang/Math", name := "abs", desc := "(I)I" } : Jvm.MethodName) prog_10_method_59_code (1 : Nat) (Option.some Jvm.ClassFile.FieldType.int)) ∈ lw_all := lw_g (lw_at lw_m1 96 rfl) rfl
theorem q100 : (Jvm.Cond.static ({ cls := "java/lang/Math", name := "min", desc := "(II)I" } : Jvm.MethodName)) ∈ lw_all := lw_g (lw_at lw_m1 98 rfl) rfl
theorem q101 : (Jvm.Cond.code ({ cls := "java/lang/Math", name := "min", desc := "(II)I" } : Jvm.MethodName) prog_10_method_69_code (2 : Nat) (Option.some Jvm.ClassFile.FieldType.int)) ∈ lw_all := lw_g (lw_at lw_m1 99 rfl) rfl
theorem q127 : (Jvm.Cond.static ({ cls := "java/lang/Math", name := "min", desc := "(JJ)J" } : Jvm.MethodName)) ∈ lw_all := lw_g (lw_at lw_m1 125 rfl) rfl
theorem q128 : (Jvm.Cond.code ({ cls := "java/lang/Math", name := "min", desc := "(JJ)J" } : Jvm.MethodName) prog_10_method_70_code (4 : Nat) (Option.some Jvm.ClassFile.FieldType.long)) ∈ lw_all := lw_g (lw_at lw_m1 126 rfl) rfl
theorem q130 : (Jvm.Cond.static ({ cls := "java/lang/Math", name := "max", desc := "(JJ)J" } : Jvm.MethodName)) ∈ lw_all := lw_g (lw_at lw_m1 128 rfl) rfl
theorem q131 : (Jvm.Cond.code ({ cls := "java/lang/Math", name := "max", desc := "(JJ)J" } : Jvm.MethodName) prog_10_method_66_code (4 : Nat) (Option.some Jvm.ClassFile.FieldType.long)) ∈ lw_all := lw_g (lw_at lw_m1 129 rfl) rfl
theorem q173 : (Jvm.Cond.static ({ cls := "java/lang/Math", name := "floorDiv", desc := "(II)I" } : Jvm.MethodName)) ∈ lw_all := lw_g (lw_at lw_m1 171 rfl) rfl
theorem q174 : (Jvm.Cond.code ({ cls := "java/lang/Math", name := "floorDiv", desc := "(II)I" } : Jvm.MethodName) prog_10_method_47_code (3 : Nat) (Option.some Jvm.ClassFile.FieldType.int)) ∈ lw_all := lw_g (lw_at lw_m1 172 rfl) rfl
/-! java/lang/Object -/
set_option maxRecDepth 100000
def RJ6 : String := "java/lang/Object"
abbrev cJ6_init : ByteArray := object_method_1_code
def yJ6_init : MethodName := ⟨RJ6, "<init>", "()V"⟩
theorem dJ6_init_0 : decode cJ6_init 0 = .ok (.return_, 1) := by decide +kernel
theorem q21 : (Jvm.Cond.instanceMethod ({ cls := "java/lang/Object", name := "<init>", desc := "()V" } : Jvm.MethodName)) ∈ lw_all := lw_g (lw_at lw_m1 19 rfl) rfl
theorem q22 : (Jvm.Cond.code ({ cls := "java/lang/Object", name := "<init>", desc := "()V" } : Jvm.MethodName) object_method_1_code (1 : Nat) (Option.none : Option Jvm.ClassFile.FieldType)) ∈ lw_all := lw_g (lw_at lw_m1 20 rfl) rfl
end
section
/-! ConferenceBridge -/
set_option maxRecDepth 100000
def RX1 : String := "ConferenceBridge"
def TX1 : u_T := fun k => match k with
  | 0 => ("ConferenceBridge", "laws", "[LConferenceBridge$Law;", true)
  | 1 => ("ConferenceBridge", "parties", "[LConferenceBridge$Party;", true)
  | _ => ("ConferenceBridge", "most", "I", false)
def tyX1 : Nat → FieldType := fun k => match k with
  | 0 => .array (.object "ConferenceBridge$Law")
  | 1 => .array (.object "ConferenceBridge$Party")
  | _ => .int
abbrev wsX10 : List Cond := u_ws RX1 TX1 3
theorem nmX1 : ∀ a, a < 3 → ∀ b, b < 3 → a ≠ b → (TX1 a).2.1 ≠ (TX1 b).2.1 := by decide +kernel
theorem tyX1_ok : ∀ k, k < 3 → parseFieldDescriptor (TX1 k).2.2.1 = some (tyX1 k) := by decide +kernel
abbrev cX1_init : ByteArray := prog_1_method_1_code
def yX1_init : MethodName := ⟨RX1, "<init>", "()V"⟩
theorem dX1_init_0 : decode cX1_init 0 = .ok (.aload_n 0, 1) := by decide +kernel
theorem dX1_init_1 : decode cX1_init 1 = .ok (.invokespecial 1, 3) := by decide +kernel
theorem dX1_init_4 : decode cX1_init 4 = .ok (.aload_n 0, 1) := by decide +kernel
theorem dX1_init_5 : decode cX1_init 5 = .ok (.iconst 2, 1) := by decide +kernel
theorem dX1_init_6 : decode cX1_init 6 = .ok (.anewarray 7, 3) := by decide +kernel
theorem dX1_init_9 : decode cX1_init 9 = .ok (.dup, 1) := by decide +kernel
theorem dX1_init_10 : decode cX1_init 10 = .ok (.iconst 0, 1) := by decide +kernel
theorem dX1_init_11 : decode cX1_init 11 = .ok (.new 9, 3) := by decide +kernel
theorem dX1_init_14 : decode cX1_init 14 = .ok (.dup, 1) := by decide +kernel
theorem dX1_init_15 : decode cX1_init 15 = .ok (.invokespecial 11, 3) := by decide +kernel
theorem dX1_init_18 : decode cX1_init 18 = .ok (.aastore, 1) := by decide +kernel
theorem dX1_init_19 : decode cX1_init 19 = .ok (.dup, 1) := by decide +kernel
theorem dX1_init_20 : decode cX1_init 20 = .ok (.iconst 1, 1) := by decide +kernel
theorem dX1_init_21 : decode cX1_init 21 = .ok (.new 12, 3) := by decide +kernel
theorem dX1_init_24 : decode cX1_init 24 = .ok (.dup, 1) := by decide +kernel
theorem dX1_init_25 : decode cX1_init 25 = .ok (.invokespecial 14, 3) := by decide +kernel
theorem dX1_init_28 : decode cX1_init 28 = .ok (.aastore, 1) := by decide +kernel
theorem dX1_init_29 : decode cX1_init 29 = .ok (.putfield 15, 3) := by decide +kernel
theorem dX1_init_32 : decode cX1_init 32 = .ok (.aload_n 0, 1) := by decide +kernel
theorem dX1_init_33 : decode cX1_init 33 = .ok (.bipush 8, 2) := by decide +kernel
theorem dX1_init_35 : decode cX1_init 35 = .ok (.anewarray 21, 3) := by decide +kernel
theorem dX1_init_38 : decode cX1_init 38 = .ok (.putfield 23, 3) := by decide +kernel
theorem dX1_init_41 : decode cX1_init 41 = .ok (.aload_n 0, 1) := by decide +kernel
theorem dX1_init_42 : decode cX1_init 42 = .ok (.iconst 3, 1) := by decide +kernel
theorem dX1_init_43 : decode cX1_init 43 = .ok (.putfield 27, 3) := by decide +kernel
theorem dX1_init_46 : decode cX1_init 46 = .ok (.iconst 0, 1) := by decide +kernel
theorem dX1_init_47 : decode cX1_init 47 = .ok (.istore_n 1, 1) := by decide +kernel
theorem dX1_init_48 : decode cX1_init 48 = .ok (.iload_n 1, 1) := by decide +kernel
theorem dX1_init_49 : decode cX1_init 49 = .ok (.bipush 8, 2) := by decide +kernel
theorem dX1_init_51 : decode cX1_init 51 = .ok (.if_icmp .ge 99, 3) := by decide +kernel
theorem dX1_init_54 : decode cX1_init 54 = .ok (.aload_n 0, 1) := by decide +kernel
theorem dX1_init_55 : decode cX1_init 55 = .ok (.getfield 23, 3) := by decide +kernel
theorem dX1_init_58 : decode cX1_init 58 = .ok (.iload_n 1, 1) := by decide +kernel
theorem dX1_init_59 : decode cX1_init 59 = .ok (.new 21, 3) := by decide +kernel
theorem dX1_init_62 : decode cX1_init 62 = .ok (.dup, 1) := by decide +kernel
theorem dX1_init_63 : decode cX1_init 63 = .ok (.invokespecial 31, 3) := by decide +kernel
theorem dX1_init_66 : decode cX1_init 66 = .ok (.aastore, 1) := by decide +kernel
theorem dX1_init_67 : decode cX1_init 67 = .ok (.aload_n 0, 1) := by decide +kernel
theorem dX1_init_68 : decode cX1_init 68 = .ok (.getfield 23, 3) := by decide +kernel
theorem dX1_init_71 : decode cX1_init 71 = .ok (.iload_n 1, 1) := by decide +kernel
theorem dX1_init_72 : decode cX1_init 72 = .ok (.aaload, 1) := by decide +kernel
theorem dX1_init_73 : decode cX1_init 73 = .ok (.aload_n 0, 1) := by decide +kernel
theorem dX1_init_74 : decode cX1_init 74 = .ok (.getfield 15, 3) := by decide +kernel
theorem dX1_init_77 : decode cX1_init 77 = .ok (.iload_n 1, 1) := by decide +kernel
theorem dX1_init_78 : decode cX1_init 78 = .ok (.iconst 2, 1) := by decide +kernel
theorem dX1_init_79 : decode cX1_init 79 = .ok (.irem, 1) := by decide +kernel
theorem dX1_init_80 : decode cX1_init 80 = .ok (.aaload, 1) := by decide +kernel
theorem dX1_init_81 : decode cX1_init 81 = .ok (.putfield 32, 3) := by decide +kernel
theorem dX1_init_84 : decode cX1_init 84 = .ok (.iconst 0, 1) := by decide +kernel
theorem dX1_init_85 : decode cX1_init 85 = .ok (.istore_n 2, 1) := by decide +kernel
theorem dX1_init_86 : decode cX1_init 86 = .ok (.iload_n 2, 1) := by decide +kernel
theorem dX1_init_87 : decode cX1_init 87 = .ok (.bipush 8, 2) := by decide +kernel
theorem dX1_init_89 : decode cX1_init 89 = .ok (.if_icmp .ge 55, 3) := by decide +kernel
theorem dX1_init_92 : decode cX1_init 92 = .ok (.aload_n 0, 1) := by decide +kernel
theorem dX1_init_93 : decode cX1_init 93 = .ok (.getfield 23, 3) := by decide +kernel
theorem dX1_init_96 : decode cX1_init 96 = .ok (.iload_n 1, 1) := by decide +kernel
theorem dX1_init_97 : decode cX1_init 97 = .ok (.aaload, 1) := by decide +kernel
theorem dX1_init_98 : decode cX1_init 98 = .ok (.getfield 36, 3) := by decide +kernel
theorem dX1_init_101 : decode cX1_init 101 = .ok (.iload_n 2, 1) := by decide +kernel
theorem dX1_init_102 : decode cX1_init 102 = .ok (.aload_n 0, 1) := by decide +kernel
theorem dX1_init_103 : decode cX1_init 103 = .ok (.getfield 23, 3) := by decide +kernel
theorem dX1_init_106 : decode cX1_init 106 = .ok (.iload_n 1, 1) := by decide +kernel
theorem dX1_init_107 : decode cX1_init 107 = .ok (.aaload, 1) := by decide +kernel
theorem dX1_init_108 : decode cX1_init 108 = .ok (.getfield 32, 3) := by decide +kernel
theorem dX1_init_111 : decode cX1_init 111 = .ok (.iconst 0, 1) := by decide +kernel
theorem dX1_init_112 : decode cX1_init 112 = .ok (.invokevirtual 40, 3) := by decide +kernel
theorem dX1_init_115 : decode cX1_init 115 = .ok (.iastore, 1) := by decide +kernel
theorem dX1_init_116 : decode cX1_init 116 = .ok (.aload_n 0, 1) := by decide +kernel
theorem dX1_init_117 : decode cX1_init 117 = .ok (.getfield 23, 3) := by decide +kernel
theorem dX1_init_120 : decode cX1_init 120 = .ok (.iload_n 1, 1) := by decide +kernel
theorem dX1_init_121 : decode cX1_init 121 = .ok (.aaload, 1) := by decide +kernel
theorem dX1_init_122 : decode cX1_init 122 = .ok (.getfield 44, 3) := by decide +kernel
theorem dX1_init_125 : decode cX1_init 125 = .ok (.iload_n 2, 1) := by decide +kernel
theorem dX1_init_126 : decode cX1_init 126 = .ok (.aload_n 0, 1) := by decide +kernel
theorem dX1_init_127 : decode cX1_init 127 = .ok (.getfield 23, 3) := by decide +kernel
theorem dX1_init_130 : decode cX1_init 130 = .ok (.iload_n 1, 1) := by decide +kernel
theorem dX1_init_131 : decode cX1_init 131 = .ok (.aaload, 1) := by decide +kernel
theorem dX1_init_132 : decode cX1_init 132 = .ok (.getfield 36, 3) := by decide +kernel
theorem dX1_init_135 : decode cX1_init 135 = .ok (.iload_n 2, 1) := by decide +kernel
theorem dX1_init_136 : decode cX1_init 136 = .ok (.iaload, 1) := by decide +kernel
theorem dX1_init_137 : decode cX1_init 137 = .ok (.iastore, 1) := by decide +kernel
theorem dX1_init_138 : decode cX1_init 138 = .ok (.iinc 2 1, 3) := by decide +kernel
theorem dX1_init_141 : decode cX1_init 141 = .ok (.goto (-55), 3) := by decide +kernel
theorem dX1_init_144 : decode cX1_init 144 = .ok (.iinc 1 1, 3) := by decide +kernel
theorem dX1_init_147 : decode cX1_init 147 = .ok (.goto (-99), 3) := by decide +kernel
theorem dX1_init_150 : decode cX1_init 150 = .ok (.return_, 1) := by decide +kernel
abbrev cX1_encode : ByteArray := prog_1_method_5_code
def yX1_encode : MethodName := ⟨RX1, "encode", "(II)I"⟩
theorem dX1_encode_0 : decode cX1_encode 0 = .ok (.iload_n 1, 1) := by decide +kernel
theorem dX1_encode_1 : decode cX1_encode 1 = .ok (.iconst 0, 1) := by decide +kernel
theorem dX1_encode_2 : decode cX1_encode 2 = .ok (.iconst 1, 1) := by decide +kernel
theorem dX1_encode_3 : decode cX1_encode 3 = .ok (.invokestatic 60, 3) := by decide +kernel
theorem dX1_encode_6 : decode cX1_encode 6 = .ok (.ifCond .eq 20, 3) := by decide +kernel
theorem dX1_encode_9 : decode cX1_encode 9 = .ok (.aload_n 0, 1) := by decide +kernel
theorem dX1_encode_10 : decode cX1_encode 10 = .ok (.getfield 15, 3) := by decide +kernel
theorem dX1_encode_13 : decode cX1_encode 13 = .ok (.iload_n 1, 1) := by decide +kernel
theorem dX1_encode_14 : decode cX1_encode 14 = .ok (.aaload, 1) := by decide +kernel
theorem dX1_encode_15 : decode cX1_encode 15 = .ok (.iload_n 2, 1) := by decide +kernel
theorem dX1_encode_16 : decode cX1_encode 16 = .ok (.i2l, 1) := by decide +kernel
theorem dX1_encode_17 : decode cX1_encode 17 = .ok (.invokestatic 69, 3) := by decide +kernel
theorem dX1_encode_20 : decode cX1_encode 20 = .ok (.invokevirtual 40, 3) := by decide +kernel
theorem dX1_encode_23 : decode cX1_encode 23 = .ok (.goto 4, 3) := by decide +kernel
theorem dX1_encode_26 : decode cX1_encode 26 = .ok (.iconst (-1), 1) := by decide +kernel
theorem dX1_encode_27 : decode cX1_encode 27 = .ok (.ireturn, 1) := by decide +kernel
abbrev cX1_in : ByteArray := prog_1_method_2_code
def yX1_in : MethodName := ⟨RX1, "in", "(III)Z"⟩
theorem dX1_in_0 : decode cX1_in 0 = .ok (.iload_n 0, 1) := by decide +kernel
theorem dX1_in_1 : decode cX1_in 1 = .ok (.iload_n 1, 1) := by decide +kernel
theorem dX1_in_2 : decode cX1_in 2 = .ok (.if_icmp .lt 12, 3) := by decide +kernel
theorem dX1_in_5 : decode cX1_in 5 = .ok (.iload_n 0, 1) := by decide +kernel
theorem dX1_in_6 : decode cX1_in 6 = .ok (.iload_n 2, 1) := by decide +kernel
theorem dX1_in_7 : decode cX1_in 7 = .ok (.if_icmp .gt 7, 3) := by decide +kernel
theorem dX1_in_10 : decode cX1_in 10 = .ok (.iconst 1, 1) := by decide +kernel
theorem dX1_in_11 : decode cX1_in 11 = .ok (.goto 4, 3) := by decide +kernel
theorem dX1_in_14 : decode cX1_in 14 = .ok (.iconst 0, 1) := by decide +kernel
theorem dX1_in_15 : decode cX1_in 15 = .ok (.ireturn, 1) := by decide +kernel
abbrev cX1_saturated : ByteArray := prog_1_method_3_code
def yX1_saturated : MethodName := ⟨RX1, "saturated", "(J)I"⟩
theorem dX1_saturated_0 : decode cX1_saturated 0 = .ok (.ldc2_w 47, 3) := by decide +kernel
theorem dX1_saturated_3 : decode cX1_saturated 3 = .ok (.ldc2_w 49, 3) := by decide +kernel
theorem dX1_saturated_6 : decode cX1_saturated 6 = .ok (.lload_n 0, 1) := by decide +kernel
theorem dX1_saturated_7 : decode cX1_saturated 7 = .ok (.invokestatic 51, 3) := by decide +kernel
theorem dX1_saturated_10 : decode cX1_saturated 10 = .ok (.invokestatic 57, 3) := by decide +kernel
theorem dX1_saturated_13 : decode cX1_saturated 13 = .ok (.l2i, 1) := by decide +kernel
theorem dX1_saturated_14 : decode cX1_saturated 14 = .ok (.ireturn, 1) := by decide +kernel
abbrev cX1_law : ByteArray := prog_1_method_6_code
def yX1_law : MethodName := ⟨RX1, "law", "(II)Z"⟩
theorem dX1_law_0 : decode cX1_law 0 = .ok (.iload_n 1, 1) := by decide +kernel
theorem dX1_law_1 : decode cX1_law 1 = .ok (.iconst 0, 1) := by decide +kernel
theorem dX1_law_2 : decode cX1_law 2 = .ok (.bipush 7, 2) := by decide +kernel
theorem dX1_law_4 : decode cX1_law 4 = .ok (.invokestatic 60, 3) := by decide +kernel
theorem dX1_law_7 : decode cX1_law 7 = .ok (.ifCond .eq 12, 3) := by decide +kernel
theorem dX1_law_10 : decode cX1_law 10 = .ok (.iload_n 2, 1) := by decide +kernel
theorem dX1_law_11 : decode cX1_law 11 = .ok (.iconst 0, 1) := by decide +kernel
theorem dX1_law_12 : decode cX1_law 12 = .ok (.iconst 1, 1) := by decide +kernel
theorem dX1_law_13 : decode cX1_law 13 = .ok (.invokestatic 60, 3) := by decide +kernel
theorem dX1_law_16 : decode cX1_law 16 = .ok (.ifCond .ne 5, 3) := by decide +kernel
theorem dX1_law_19 : decode cX1_law 19 = .ok (.iconst 0, 1) := by decide +kernel
theorem dX1_law_20 : decode cX1_law 20 = .ok (.ireturn, 1) := by decide +kernel
theorem dX1_law_21 : decode cX1_law 21 = .ok (.aload_n 0, 1) := by decide +kernel
theorem dX1_law_22 : decode cX1_law 22 = .ok (.getfield 23, 3) := by decide +kernel
theorem dX1_law_25 : decode cX1_law 25 = .ok (.iload_n 1, 1) := by decide +kernel
theorem dX1_law_26 : decode cX1_law 26 = .ok (.aaload, 1) := by decide +kernel
theorem dX1_law_27 : decode cX1_law 27 = .ok (.aload_n 0, 1) := by decide +kernel
theorem dX1_law_28 : decode cX1_law 28 = .ok (.getfield 15, 3) := by decide +kernel
theorem dX1_law_31 : decode cX1_law 31 = .ok (.iload_n 2, 1) := by decide +kernel
theorem dX1_law_32 : decode cX1_law 32 = .ok (.aaload, 1) := by decide +kernel
theorem dX1_law_33 : decode cX1_law 33 = .ok (.putfield 32, 3) := by decide +kernel
theorem dX1_law_36 : decode cX1_law 36 = .ok (.iconst 1, 1) := by decide +kernel
theorem dX1_law_37 : decode cX1_law 37 = .ok (.ireturn, 1) := by decide +kernel
abbrev cX1_gain : ByteArray := prog_1_method_7_code
def yX1_gain : MethodName := ⟨RX1, "gain", "(II)Z"⟩
theorem dX1_gain_0 : decode cX1_gain 0 = .ok (.iload_n 1, 1) := by decide +kernel
theorem dX1_gain_1 : decode cX1_gain 1 = .ok (.iconst 0, 1) := by decide +kernel
theorem dX1_gain_2 : decode cX1_gain 2 = .ok (.bipush 7, 2) := by decide +kernel
theorem dX1_gain_4 : decode cX1_gain 4 = .ok (.invokestatic 60, 3) := by decide +kernel
theorem dX1_gain_7 : decode cX1_gain 7 = .ok (.ifCond .eq 14, 3) := by decide +kernel
theorem dX1_gain_10 : decode cX1_gain 10 = .ok (.iload_n 2, 1) := by decide +kernel
theorem dX1_gain_11 : decode cX1_gain 11 = .ok (.iconst 0, 1) := by decide +kernel
theorem dX1_gain_12 : decode cX1_gain 12 = .ok (.sipush 1024, 3) := by decide +kernel
theorem dX1_gain_15 : decode cX1_gain 15 = .ok (.invokestatic 60, 3) := by decide +kernel
theorem dX1_gain_18 : decode cX1_gain 18 = .ok (.ifCond .ne 5, 3) := by decide +kernel
theorem dX1_gain_21 : decode cX1_gain 21 = .ok (.iconst 0, 1) := by decide +kernel
theorem dX1_gain_22 : decode cX1_gain 22 = .ok (.ireturn, 1) := by decide +kernel
theorem dX1_gain_23 : decode cX1_gain 23 = .ok (.aload_n 0, 1) := by decide +kernel
theorem dX1_gain_24 : decode cX1_gain 24 = .ok (.getfield 23, 3) := by decide +kernel
theorem dX1_gain_27 : decode cX1_gain 27 = .ok (.iload_n 1, 1) := by decide +kernel
theorem dX1_gain_28 : decode cX1_gain 28 = .ok (.aaload, 1) := by decide +kernel
theorem dX1_gain_29 : decode cX1_gain 29 = .ok (.iload_n 2, 1) := by decide +kernel
theorem dX1_gain_30 : decode cX1_gain 30 = .ok (.putfield 73, 3) := by decide +kernel
theorem dX1_gain_33 : decode cX1_gain 33 = .ok (.iconst 1, 1) := by decide +kernel
theorem dX1_gain_34 : decode cX1_gain 34 = .ok (.ireturn, 1) := by decide +kernel
abbrev cX1_mute : ByteArray := prog_1_method_8_code
def yX1_mute : MethodName := ⟨RX1, "mute", "(IZ)Z"⟩
theorem dX1_mute_0 : decode cX1_mute 0 = .ok (.iload_n 1, 1) := by decide +kernel
theorem dX1_mute_1 : decode cX1_mute 1 = .ok (.iconst 0, 1) := by decide +kernel
theorem dX1_mute_2 : decode cX1_mute 2 = .ok (.bipush 7, 2) := by decide +kernel
theorem dX1_mute_4 : decode cX1_mute 4 = .ok (.invokestatic 60, 3) := by decide +kernel
theorem dX1_mute_7 : decode cX1_mute 7 = .ok (.ifCond .ne 5, 3) := by decide +kernel
theorem dX1_mute_10 : decode cX1_mute 10 = .ok (.iconst 0, 1) := by decide +kernel
theorem dX1_mute_11 : decode cX1_mute 11 = .ok (.ireturn, 1) := by decide +kernel
theorem dX1_mute_12 : decode cX1_mute 12 = .ok (.aload_n 0, 1) := by decide +kernel
theorem dX1_mute_13 : decode cX1_mute 13 = .ok (.getfield 23, 3) := by decide +kernel
theorem dX1_mute_16 : decode cX1_mute 16 = .ok (.iload_n 1, 1) := by decide +kernel
theorem dX1_mute_17 : decode cX1_mute 17 = .ok (.aaload, 1) := by decide +kernel
theorem dX1_mute_18 : decode cX1_mute 18 = .ok (.iload_n 2, 1) := by decide +kernel
theorem dX1_mute_19 : decode cX1_mute 19 = .ok (.putfield 76, 3) := by decide +kernel
theorem dX1_mute_22 : decode cX1_mute 22 = .ok (.iconst 1, 1) := by decide +kernel
theorem dX1_mute_23 : decode cX1_mute 23 = .ok (.ireturn, 1) := by decide +kernel
abbrev cX1_speakers : ByteArray := prog_1_method_9_code
def yX1_speakers : MethodName := ⟨RX1, "speakers", "(I)Z"⟩
theorem dX1_speakers_0 : decode cX1_speakers 0 = .ok (.iload_n 1, 1) := by decide +kernel
theorem dX1_speakers_1 : decode cX1_speakers 1 = .ok (.iconst 1, 1) := by decide +kernel
theorem dX1_speakers_2 : decode cX1_speakers 2 = .ok (.bipush 8, 2) := by decide +kernel
theorem dX1_speakers_4 : decode cX1_speakers 4 = .ok (.invokestatic 60, 3) := by decide +kernel
theorem dX1_speakers_7 : decode cX1_speakers 7 = .ok (.ifCond .ne 5, 3) := by decide +kernel
theorem dX1_speakers_10 : decode cX1_speakers 10 = .ok (.iconst 0, 1) := by decide +kernel
theorem dX1_speakers_11 : decode cX1_speakers 11 = .ok (.ireturn, 1) := by decide +kernel
theorem dX1_speakers_12 : decode cX1_speakers 12 = .ok (.aload_n 0, 1) := by decide +kernel
theorem dX1_speakers_13 : decode cX1_speakers 13 = .ok (.iload_n 1, 1) := by decide +kernel
theorem dX1_speakers_14 : decode cX1_speakers 14 = .ok (.putfield 27, 3) := by decide +kernel
theorem dX1_speakers_17 : decode cX1_speakers 17 = .ok (.iconst 1, 1) := by decide +kernel
theorem dX1_speakers_18 : decode cX1_speakers 18 = .ok (.ireturn, 1) := by decide +kernel
abbrev cX1_put : ByteArray := prog_1_method_10_code
def yX1_put : MethodName := ⟨RX1, "put", "(III)Z"⟩
theorem dX1_put_0 : decode cX1_put 0 = .ok (.iload_n 1, 1) := by decide +kernel
theorem dX1_put_1 : decode cX1_put 1 = .ok (.iconst 0, 1) := by decide +kernel
theorem dX1_put_2 : decode cX1_put 2 = .ok (.bipush 7, 2) := by decide +kernel
theorem dX1_put_4 : decode cX1_put 4 = .ok (.invokestatic 60, 3) := by decide +kernel
theorem dX1_put_7 : decode cX1_put 7 = .ok (.ifCond .eq 13, 3) := by decide +kernel
theorem dX1_put_10 : decode cX1_put 10 = .ok (.iload_n 2, 1) := by decide +kernel
theorem dX1_put_11 : decode cX1_put 11 = .ok (.iconst 0, 1) := by decide +kernel
theorem dX1_put_12 : decode cX1_put 12 = .ok (.bipush 7, 2) := by decide +kernel
theorem dX1_put_14 : decode cX1_put 14 = .ok (.invokestatic 60, 3) := by decide +kernel
theorem dX1_put_17 : decode cX1_put 17 = .ok (.ifCond .ne 5, 3) := by decide +kernel
theorem dX1_put_20 : decode cX1_put 20 = .ok (.iconst 0, 1) := by decide +kernel
theorem dX1_put_21 : decode cX1_put 21 = .ok (.ireturn, 1) := by decide +kernel
theorem dX1_put_22 : decode cX1_put 22 = .ok (.aload_n 0, 1) := by decide +kernel
theorem dX1_put_23 : decode cX1_put 23 = .ok (.getfield 23, 3) := by decide +kernel
theorem dX1_put_26 : decode cX1_put 26 = .ok (.iload_n 1, 1) := by decide +kernel
theorem dX1_put_27 : decode cX1_put 27 = .ok (.aaload, 1) := by decide +kernel
theorem dX1_put_28 : decode cX1_put 28 = .ok (.getfield 36, 3) := by decide +kernel
theorem dX1_put_31 : decode cX1_put 31 = .ok (.iload_n 2, 1) := by decide +kernel
theorem dX1_put_32 : decode cX1_put 32 = .ok (.iload_n 3, 1) := by decide +kernel
theorem dX1_put_33 : decode cX1_put 33 = .ok (.sipush 255, 3) := by decide +kernel
theorem dX1_put_36 : decode cX1_put 36 = .ok (.iand, 1) := by decide +kernel
theorem dX1_put_37 : decode cX1_put 37 = .ok (.iastore, 1) := by decide +kernel
theorem dX1_put_38 : decode cX1_put 38 = .ok (.iconst 1, 1) := by decide +kernel
theorem dX1_put_39 : decode cX1_put 39 = .ok (.ireturn, 1) := by decide +kernel
abbrev cX1_ramp : ByteArray := prog_1_method_11_code
def yX1_ramp : MethodName := ⟨RX1, "ramp", "(III)Z"⟩
theorem dX1_ramp_0 : decode cX1_ramp 0 = .ok (.iload_n 1, 1) := by decide +kernel
theorem dX1_ramp_1 : decode cX1_ramp 1 = .ok (.iconst 0, 1) := by decide +kernel
theorem dX1_ramp_2 : decode cX1_ramp 2 = .ok (.bipush 7, 2) := by decide +kernel
theorem dX1_ramp_4 : decode cX1_ramp 4 = .ok (.invokestatic 60, 3) := by decide +kernel
theorem dX1_ramp_7 : decode cX1_ramp 7 = .ok (.ifCond .ne 5, 3) := by decide +kernel
theorem dX1_ramp_10 : decode cX1_ramp 10 = .ok (.iconst 0, 1) := by decide +kernel
theorem dX1_ramp_11 : decode cX1_ramp 11 = .ok (.ireturn, 1) := by decide +kernel
theorem dX1_ramp_12 : decode cX1_ramp 12 = .ok (.aload_n 0, 1) := by decide +kernel
theorem dX1_ramp_13 : decode cX1_ramp 13 = .ok (.getfield 23, 3) := by decide +kernel
theorem dX1_ramp_16 : decode cX1_ramp 16 = .ok (.iload_n 1, 1) := by decide +kernel
theorem dX1_ramp_17 : decode cX1_ramp 17 = .ok (.aaload, 1) := by decide +kernel
theorem dX1_ramp_18 : decode cX1_ramp 18 = .ok (.astore 4, 2) := by decide +kernel
theorem dX1_ramp_20 : decode cX1_ramp 20 = .ok (.iconst 0, 1) := by decide +kernel
theorem dX1_ramp_21 : decode cX1_ramp 21 = .ok (.istore 5, 2) := by decide +kernel
theorem dX1_ramp_23 : decode cX1_ramp 23 = .ok (.iload 5, 2) := by decide +kernel
theorem dX1_ramp_25 : decode cX1_ramp 25 = .ok (.bipush 8, 2) := by decide +kernel
theorem dX1_ramp_27 : decode cX1_ramp 27 = .ok (.if_icmp .ge 37, 3) := by decide +kernel
theorem dX1_ramp_30 : decode cX1_ramp 30 = .ok (.aload 4, 2) := by decide +kernel
theorem dX1_ramp_32 : decode cX1_ramp 32 = .ok (.getfield 36, 3) := by decide +kernel
theorem dX1_ramp_35 : decode cX1_ramp 35 = .ok (.iload 5, 2) := by decide +kernel
theorem dX1_ramp_37 : decode cX1_ramp 37 = .ok (.aload 4, 2) := by decide +kernel
theorem dX1_ramp_39 : decode cX1_ramp 39 = .ok (.getfield 32, 3) := by decide +kernel
theorem dX1_ramp_42 : decode cX1_ramp 42 = .ok (.iload_n 2, 1) := by decide +kernel
theorem dX1_ramp_43 : decode cX1_ramp 43 = .ok (.i2l, 1) := by decide +kernel
theorem dX1_ramp_44 : decode cX1_ramp 44 = .ok (.iload_n 3, 1) := by decide +kernel
theorem dX1_ramp_45 : decode cX1_ramp 45 = .ok (.i2l, 1) := by decide +kernel
theorem dX1_ramp_46 : decode cX1_ramp 46 = .ok (.iload 5, 2) := by decide +kernel
theorem dX1_ramp_48 : decode cX1_ramp 48 = .ok (.i2l, 1) := by decide +kernel
theorem dX1_ramp_49 : decode cX1_ramp 49 = .ok (.lmul, 1) := by decide +kernel
theorem dX1_ramp_50 : decode cX1_ramp 50 = .ok (.ladd, 1) := by decide +kernel
theorem dX1_ramp_51 : decode cX1_ramp 51 = .ok (.invokestatic 69, 3) := by decide +kernel
theorem dX1_ramp_54 : decode cX1_ramp 54 = .ok (.invokevirtual 40, 3) := by decide +kernel
theorem dX1_ramp_57 : decode cX1_ramp 57 = .ok (.iastore, 1) := by decide +kernel
theorem dX1_ramp_58 : decode cX1_ramp 58 = .ok (.iinc 5 1, 3) := by decide +kernel
theorem dX1_ramp_61 : decode cX1_ramp 61 = .ok (.goto (-38), 3) := by decide +kernel
theorem dX1_ramp_64 : decode cX1_ramp 64 = .ok (.iconst 1, 1) := by decide +kernel
theorem dX1_ramp_65 : decode cX1_ramp 65 = .ok (.ireturn, 1) := by decide +kernel
abbrev cX1_mix : ByteArray := prog_1_method_14_code
def yX1_mix : MethodName := ⟨RX1, "mix", "()I"⟩
theorem dX1_mix_0 : decode cX1_mix 0 = .ok (.aload_n 0, 1) := by decide +kernel
theorem dX1_mix_1 : decode cX1_mix 1 = .ok (.getfield 23, 3) := by decide +kernel
theorem dX1_mix_4 : decode cX1_mix 4 = .ok (.astore_n 1, 1) := by decide +kernel
theorem dX1_mix_5 : decode cX1_mix 5 = .ok (.aload_n 1, 1) := by decide +kernel
theorem dX1_mix_6 : decode cX1_mix 6 = .ok (.arraylength, 1) := by decide +kernel
theorem dX1_mix_7 : decode cX1_mix 7 = .ok (.istore_n 2, 1) := by decide +kernel
theorem dX1_mix_8 : decode cX1_mix 8 = .ok (.iconst 0, 1) := by decide +kernel
theorem dX1_mix_9 : decode cX1_mix 9 = .ok (.istore_n 3, 1) := by decide +kernel
theorem dX1_mix_10 : decode cX1_mix 10 = .ok (.iload_n 3, 1) := by decide +kernel
theorem dX1_mix_11 : decode cX1_mix 11 = .ok (.iload_n 2, 1) := by decide +kernel
theorem dX1_mix_12 : decode cX1_mix 12 = .ok (.if_icmp .ge 19, 3) := by decide +kernel
theorem dX1_mix_15 : decode cX1_mix 15 = .ok (.aload_n 1, 1) := by decide +kernel
theorem dX1_mix_16 : decode cX1_mix 16 = .ok (.iload_n 3, 1) := by decide +kernel
theorem dX1_mix_17 : decode cX1_mix 17 = .ok (.aaload, 1) := by decide +kernel
theorem dX1_mix_18 : decode cX1_mix 18 = .ok (.astore 4, 2) := by decide +kernel
theorem dX1_mix_20 : decode cX1_mix 20 = .ok (.aload 4, 2) := by decide +kernel
theorem dX1_mix_22 : decode cX1_mix 22 = .ok (.invokestatic 94, 3) := by decide +kernel
theorem dX1_mix_25 : decode cX1_mix 25 = .ok (.iinc 3 1, 3) := by decide +kernel
theorem dX1_mix_28 : decode cX1_mix 28 = .ok (.goto (-18), 3) := by decide +kernel
theorem dX1_mix_31 : decode cX1_mix 31 = .ok (.iconst 0, 1) := by decide +kernel
theorem dX1_mix_32 : decode cX1_mix 32 = .ok (.istore_n 1, 1) := by decide +kernel
theorem dX1_mix_33 : decode cX1_mix 33 = .ok (.iload_n 1, 1) := by decide +kernel
theorem dX1_mix_34 : decode cX1_mix 34 = .ok (.aload_n 0, 1) := by decide +kernel
theorem dX1_mix_35 : decode cX1_mix 35 = .ok (.getfield 27, 3) := by decide +kernel
theorem dX1_mix_38 : decode cX1_mix 38 = .ok (.if_icmp .ge 23, 3) := by decide +kernel
theorem dX1_mix_41 : decode cX1_mix 41 = .ok (.aload_n 0, 1) := by decide +kernel
theorem dX1_mix_42 : decode cX1_mix 42 = .ok (.invokevirtual 98, 3) := by decide +kernel
theorem dX1_mix_45 : decode cX1_mix 45 = .ok (.astore_n 2, 1) := by decide +kernel
theorem dX1_mix_46 : decode cX1_mix 46 = .ok (.aload_n 2, 1) := by decide +kernel
theorem dX1_mix_47 : decode cX1_mix 47 = .ok (.ifnull 8, 3) := by decide +kernel
theorem dX1_mix_50 : decode cX1_mix 50 = .ok (.aload_n 2, 1) := by decide +kernel
theorem dX1_mix_51 : decode cX1_mix 51 = .ok (.iconst 1, 1) := by decide +kernel
theorem dX1_mix_52 : decode cX1_mix 52 = .ok (.putfield 84, 3) := by decide +kernel
theorem dX1_mix_55 : decode cX1_mix 55 = .ok (.iinc 1 1, 3) := by decide +kernel
theorem dX1_mix_58 : decode cX1_mix 58 = .ok (.goto (-25), 3) := by decide +kernel
theorem dX1_mix_61 : decode cX1_mix 61 = .ok (.iconst 0, 1) := by decide +kernel
theorem dX1_mix_62 : decode cX1_mix 62 = .ok (.istore_n 1, 1) := by decide +kernel
theorem dX1_mix_63 : decode cX1_mix 63 = .ok (.iload_n 1, 1) := by decide +kernel
theorem dX1_mix_64 : decode cX1_mix 64 = .ok (.bipush 8, 2) := by decide +kernel
theorem dX1_mix_66 : decode cX1_mix 66 = .ok (.if_icmp .ge 135, 3) := by decide +kernel
theorem dX1_mix_69 : decode cX1_mix 69 = .ok (.iconst 0, 1) := by decide +kernel
theorem dX1_mix_70 : decode cX1_mix 70 = .ok (.istore_n 2, 1) := by decide +kernel
theorem dX1_mix_71 : decode cX1_mix 71 = .ok (.aload_n 0, 1) := by decide +kernel
theorem dX1_mix_72 : decode cX1_mix 72 = .ok (.getfield 23, 3) := by decide +kernel
theorem dX1_mix_75 : decode cX1_mix 75 = .ok (.astore_n 3, 1) := by decide +kernel
theorem dX1_mix_76 : decode cX1_mix 76 = .ok (.aload_n 3, 1) := by decide +kernel
theorem dX1_mix_77 : decode cX1_mix 77 = .ok (.arraylength, 1) := by decide +kernel
theorem dX1_mix_78 : decode cX1_mix 78 = .ok (.istore 4, 2) := by decide +kernel
theorem dX1_mix_80 : decode cX1_mix 80 = .ok (.iconst 0, 1) := by decide +kernel
theorem dX1_mix_81 : decode cX1_mix 81 = .ok (.istore 5, 2) := by decide +kernel
theorem dX1_mix_83 : decode cX1_mix 83 = .ok (.iload 5, 2) := by decide +kernel
theorem dX1_mix_85 : decode cX1_mix 85 = .ok (.iload 4, 2) := by decide +kernel
theorem dX1_mix_87 : decode cX1_mix 87 = .ok (.if_icmp .ge 37, 3) := by decide +kernel
theorem dX1_mix_90 : decode cX1_mix 90 = .ok (.aload_n 3, 1) := by decide +kernel
theorem dX1_mix_91 : decode cX1_mix 91 = .ok (.iload 5, 2) := by decide +kernel
theorem dX1_mix_93 : decode cX1_mix 93 = .ok (.aaload, 1) := by decide +kernel
theorem dX1_mix_94 : decode cX1_mix 94 = .ok (.astore 6, 2) := by decide +kernel
theorem dX1_mix_96 : decode cX1_mix 96 = .ok (.iload_n 2, 1) := by decide +kernel
theorem dX1_mix_97 : decode cX1_mix 97 = .ok (.aload 6, 2) := by decide +kernel
theorem dX1_mix_99 : decode cX1_mix 99 = .ok (.getfield 84, 3) := by decide +kernel
theorem dX1_mix_102 : decode cX1_mix 102 = .ok (.ifCond .eq 13, 3) := by decide +kernel
theorem dX1_mix_105 : decode cX1_mix 105 = .ok (.aload 6, 2) := by decide +kernel
theorem dX1_mix_107 : decode cX1_mix 107 = .ok (.getfield 91, 3) := by decide +kernel
theorem dX1_mix_110 : decode cX1_mix 110 = .ok (.iload_n 1, 1) := by decide +kernel
theorem dX1_mix_111 : decode cX1_mix 111 = .ok (.iaload, 1) := by decide +kernel
theorem dX1_mix_112 : decode cX1_mix 112 = .ok (.goto 4, 3) := by decide +kernel
theorem dX1_mix_115 : decode cX1_mix 115 = .ok (.iconst 0, 1) := by decide +kernel
theorem dX1_mix_116 : decode cX1_mix 116 = .ok (.iadd, 1) := by decide +kernel
theorem dX1_mix_117 : decode cX1_mix 117 = .ok (.istore_n 2, 1) := by decide +kernel
theorem dX1_mix_118 : decode cX1_mix 118 = .ok (.iinc 5 1, 3) := by decide +kernel
theorem dX1_mix_121 : decode cX1_mix 121 = .ok (.goto (-38), 3) := by decide +kernel
theorem dX1_mix_124 : decode cX1_mix 124 = .ok (.aload_n 0, 1) := by decide +kernel
theorem dX1_mix_125 : decode cX1_mix 125 = .ok (.getfield 23, 3) := by decide +kernel
theorem dX1_mix_128 : decode cX1_mix 128 = .ok (.astore_n 3, 1) := by decide +kernel
theorem dX1_mix_129 : decode cX1_mix 129 = .ok (.aload_n 3, 1) := by decide +kernel
theorem dX1_mix_130 : decode cX1_mix 130 = .ok (.arraylength, 1) := by decide +kernel
theorem dX1_mix_131 : decode cX1_mix 131 = .ok (.istore 4, 2) := by decide +kernel
theorem dX1_mix_133 : decode cX1_mix 133 = .ok (.iconst 0, 1) := by decide +kernel
theorem dX1_mix_134 : decode cX1_mix 134 = .ok (.istore 5, 2) := by decide +kernel
theorem dX1_mix_136 : decode cX1_mix 136 = .ok (.iload 5, 2) := by decide +kernel
theorem dX1_mix_138 : decode cX1_mix 138 = .ok (.iload 4, 2) := by decide +kernel
theorem dX1_mix_140 : decode cX1_mix 140 = .ok (.if_icmp .ge 55, 3) := by decide +kernel
theorem dX1_mix_143 : decode cX1_mix 143 = .ok (.aload_n 3, 1) := by decide +kernel
theorem dX1_mix_144 : decode cX1_mix 144 = .ok (.iload 5, 2) := by decide +kernel
theorem dX1_mix_146 : decode cX1_mix 146 = .ok (.aaload, 1) := by decide +kernel
theorem dX1_mix_147 : decode cX1_mix 147 = .ok (.astore 6, 2) := by decide +kernel
theorem dX1_mix_149 : decode cX1_mix 149 = .ok (.aload 6, 2) := by decide +kernel
theorem dX1_mix_151 : decode cX1_mix 151 = .ok (.getfield 44, 3) := by decide +kernel
theorem dX1_mix_154 : decode cX1_mix 154 = .ok (.iload_n 1, 1) := by decide +kernel
theorem dX1_mix_155 : decode cX1_mix 155 = .ok (.aload 6, 2) := by decide +kernel
theorem dX1_mix_157 : decode cX1_mix 157 = .ok (.getfield 32, 3) := by decide +kernel
theorem dX1_mix_160 : decode cX1_mix 160 = .ok (.iload_n 2, 1) := by decide +kernel
theorem dX1_mix_161 : decode cX1_mix 161 = .ok (.aload 6, 2) := by decide +kernel
theorem dX1_mix_163 : decode cX1_mix 163 = .ok (.getfield 84, 3) := by decide +kernel
theorem dX1_mix_166 : decode cX1_mix 166 = .ok (.ifCond .eq 13, 3) := by decide +kernel
theorem dX1_mix_169 : decode cX1_mix 169 = .ok (.aload 6, 2) := by decide +kernel
theorem dX1_mix_171 : decode cX1_mix 171 = .ok (.getfield 91, 3) := by decide +kernel
theorem dX1_mix_174 : decode cX1_mix 174 = .ok (.iload_n 1, 1) := by decide +kernel
theorem dX1_mix_175 : decode cX1_mix 175 = .ok (.iaload, 1) := by decide +kernel
theorem dX1_mix_176 : decode cX1_mix 176 = .ok (.goto 4, 3) := by decide +kernel
theorem dX1_mix_179 : decode cX1_mix 179 = .ok (.iconst 0, 1) := by decide +kernel
theorem dX1_mix_180 : decode cX1_mix 180 = .ok (.isub, 1) := by decide +kernel
theorem dX1_mix_181 : decode cX1_mix 181 = .ok (.i2l, 1) := by decide +kernel
theorem dX1_mix_182 : decode cX1_mix 182 = .ok (.invokestatic 69, 3) := by decide +kernel
theorem dX1_mix_185 : decode cX1_mix 185 = .ok (.invokevirtual 40, 3) := by decide +kernel
theorem dX1_mix_188 : decode cX1_mix 188 = .ok (.iastore, 1) := by decide +kernel
theorem dX1_mix_189 : decode cX1_mix 189 = .ok (.iinc 5 1, 3) := by decide +kernel
theorem dX1_mix_192 : decode cX1_mix 192 = .ok (.goto (-56), 3) := by decide +kernel
theorem dX1_mix_195 : decode cX1_mix 195 = .ok (.iinc 1 1, 3) := by decide +kernel
theorem dX1_mix_198 : decode cX1_mix 198 = .ok (.goto (-135), 3) := by decide +kernel
theorem dX1_mix_201 : decode cX1_mix 201 = .ok (.iconst 0, 1) := by decide +kernel
theorem dX1_mix_202 : decode cX1_mix 202 = .ok (.istore_n 1, 1) := by decide +kernel
theorem dX1_mix_203 : decode cX1_mix 203 = .ok (.iconst 0, 1) := by decide +kernel
theorem dX1_mix_204 : decode cX1_mix 204 = .ok (.istore_n 2, 1) := by decide +kernel
theorem dX1_mix_205 : decode cX1_mix 205 = .ok (.iload_n 2, 1) := by decide +kernel
theorem dX1_mix_206 : decode cX1_mix 206 = .ok (.bipush 8, 2) := by decide +kernel
theorem dX1_mix_208 : decode cX1_mix 208 = .ok (.if_icmp .ge 31, 3) := by decide +kernel
theorem dX1_mix_211 : decode cX1_mix 211 = .ok (.iload_n 1, 1) := by decide +kernel
theorem dX1_mix_212 : decode cX1_mix 212 = .ok (.aload_n 0, 1) := by decide +kernel
theorem dX1_mix_213 : decode cX1_mix 213 = .ok (.getfield 23, 3) := by decide +kernel
theorem dX1_mix_216 : decode cX1_mix 216 = .ok (.iload_n 2, 1) := by decide +kernel
theorem dX1_mix_217 : decode cX1_mix 217 = .ok (.aaload, 1) := by decide +kernel
theorem dX1_mix_218 : decode cX1_mix 218 = .ok (.getfield 84, 3) := by decide +kernel
theorem dX1_mix_221 : decode cX1_mix 221 = .ok (.ifCond .eq 9, 3) := by decide +kernel
theorem dX1_mix_224 : decode cX1_mix 224 = .ok (.iconst 1, 1) := by decide +kernel
theorem dX1_mix_225 : decode cX1_mix 225 = .ok (.iload_n 2, 1) := by decide +kernel
theorem dX1_mix_226 : decode cX1_mix 226 = .ok (.ishl, 1) := by decide +kernel
theorem dX1_mix_227 : decode cX1_mix 227 = .ok (.goto 4, 3) := by decide +kernel
theorem dX1_mix_230 : decode cX1_mix 230 = .ok (.iconst 0, 1) := by decide +kernel
theorem dX1_mix_231 : decode cX1_mix 231 = .ok (.ior, 1) := by decide +kernel
theorem dX1_mix_232 : decode cX1_mix 232 = .ok (.istore_n 1, 1) := by decide +kernel
theorem dX1_mix_233 : decode cX1_mix 233 = .ok (.iinc 2 1, 3) := by decide +kernel
theorem dX1_mix_236 : decode cX1_mix 236 = .ok (.goto (-31), 3) := by decide +kernel
theorem dX1_mix_239 : decode cX1_mix 239 = .ok (.iload_n 1, 1) := by decide +kernel
theorem dX1_mix_240 : decode cX1_mix 240 = .ok (.ireturn, 1) := by decide +kernel
abbrev cX1_measure : ByteArray := prog_1_method_12_code
def yX1_measure : MethodName := ⟨RX1, "measure", "(LConferenceBridge$Party;)V"⟩
theorem dX1_measure_0 : decode cX1_measure 0 = .ok (.aload_n 0, 1) := by decide +kernel
theorem dX1_measure_1 : decode cX1_measure 1 = .ok (.lconst 0, 1) := by decide +kernel
theorem dX1_measure_2 : decode cX1_measure 2 = .ok (.putfield 80, 3) := by decide +kernel
theorem dX1_measure_5 : decode cX1_measure 5 = .ok (.aload_n 0, 1) := by decide +kernel
theorem dX1_measure_6 : decode cX1_measure 6 = .ok (.iconst 0, 1) := by decide +kernel
theorem dX1_measure_7 : decode cX1_measure 7 = .ok (.putfield 84, 3) := by decide +kernel
theorem dX1_measure_10 : decode cX1_measure 10 = .ok (.iconst 0, 1) := by decide +kernel
theorem dX1_measure_11 : decode cX1_measure 11 = .ok (.istore_n 1, 1) := by decide +kernel
theorem dX1_measure_12 : decode cX1_measure 12 = .ok (.iload_n 1, 1) := by decide +kernel
theorem dX1_measure_13 : decode cX1_measure 13 = .ok (.bipush 8, 2) := by decide +kernel
theorem dX1_measure_15 : decode cX1_measure 15 = .ok (.if_icmp .ge 59, 3) := by decide +kernel
theorem dX1_measure_18 : decode cX1_measure 18 = .ok (.aload_n 0, 1) := by decide +kernel
theorem dX1_measure_19 : decode cX1_measure 19 = .ok (.getfield 32, 3) := by decide +kernel
theorem dX1_measure_22 : decode cX1_measure 22 = .ok (.aload_n 0, 1) := by decide +kernel
theorem dX1_measure_23 : decode cX1_measure 23 = .ok (.getfield 36, 3) := by decide +kernel
theorem dX1_measure_26 : decode cX1_measure 26 = .ok (.iload_n 1, 1) := by decide +kernel
theorem dX1_measure_27 : decode cX1_measure 27 = .ok (.iaload, 1) := by decide +kernel
theorem dX1_measure_28 : decode cX1_measure 28 = .ok (.invokevirtual 66, 3) := by decide +kernel
theorem dX1_measure_31 : decode cX1_measure 31 = .ok (.aload_n 0, 1) := by decide +kernel
theorem dX1_measure_32 : decode cX1_measure 32 = .ok (.getfield 73, 3) := by decide +kernel
theorem dX1_measure_35 : decode cX1_measure 35 = .ok (.imul, 1) := by decide +kernel
theorem dX1_measure_36 : decode cX1_measure 36 = .ok (.sipush 256, 3) := by decide +kernel
theorem dX1_measure_39 : decode cX1_measure 39 = .ok (.invokestatic 87, 3) := by decide +kernel
theorem dX1_measure_42 : decode cX1_measure 42 = .ok (.i2l, 1) := by decide +kernel
theorem dX1_measure_43 : decode cX1_measure 43 = .ok (.invokestatic 69, 3) := by decide +kernel
theorem dX1_measure_46 : decode cX1_measure 46 = .ok (.istore_n 2, 1) := by decide +kernel
theorem dX1_measure_47 : decode cX1_measure 47 = .ok (.aload_n 0, 1) := by decide +kernel
theorem dX1_measure_48 : decode cX1_measure 48 = .ok (.getfield 91, 3) := by decide +kernel
theorem dX1_measure_51 : decode cX1_measure 51 = .ok (.iload_n 1, 1) := by decide +kernel
theorem dX1_measure_52 : decode cX1_measure 52 = .ok (.iload_n 2, 1) := by decide +kernel
theorem dX1_measure_53 : decode cX1_measure 53 = .ok (.iastore, 1) := by decide +kernel
theorem dX1_measure_54 : decode cX1_measure 54 = .ok (.aload_n 0, 1) := by decide +kernel
theorem dX1_measure_55 : decode cX1_measure 55 = .ok (.dup, 1) := by decide +kernel
theorem dX1_measure_56 : decode cX1_measure 56 = .ok (.getfield 80, 3) := by decide +kernel
theorem dX1_measure_59 : decode cX1_measure 59 = .ok (.iload_n 2, 1) := by decide +kernel
theorem dX1_measure_60 : decode cX1_measure 60 = .ok (.i2l, 1) := by decide +kernel
theorem dX1_measure_61 : decode cX1_measure 61 = .ok (.iload_n 2, 1) := by decide +kernel
theorem dX1_measure_62 : decode cX1_measure 62 = .ok (.i2l, 1) := by decide +kernel
theorem dX1_measure_63 : decode cX1_measure 63 = .ok (.lmul, 1) := by decide +kernel
theorem dX1_measure_64 : decode cX1_measure 64 = .ok (.ladd, 1) := by decide +kernel
theorem dX1_measure_65 : decode cX1_measure 65 = .ok (.putfield 80, 3) := by decide +kernel
theorem dX1_measure_68 : decode cX1_measure 68 = .ok (.iinc 1 1, 3) := by decide +kernel
theorem dX1_measure_71 : decode cX1_measure 71 = .ok (.goto (-59), 3) := by decide +kernel
theorem dX1_measure_74 : decode cX1_measure 74 = .ok (.return_, 1) := by decide +kernel
abbrev cX1_loudest : ByteArray := prog_1_method_13_code
def yX1_loudest : MethodName := ⟨RX1, "loudest", "()LConferenceBridge$Party;"⟩
theorem dX1_loudest_0 : decode cX1_loudest 0 = .ok (.aconst_null, 1) := by decide +kernel
theorem dX1_loudest_1 : decode cX1_loudest 1 = .ok (.astore_n 1, 1) := by decide +kernel
theorem dX1_loudest_2 : decode cX1_loudest 2 = .ok (.aload_n 0, 1) := by decide +kernel
theorem dX1_loudest_3 : decode cX1_loudest 3 = .ok (.getfield 23, 3) := by decide +kernel
theorem dX1_loudest_6 : decode cX1_loudest 6 = .ok (.astore_n 2, 1) := by decide +kernel
theorem dX1_loudest_7 : decode cX1_loudest 7 = .ok (.aload_n 2, 1) := by decide +kernel
theorem dX1_loudest_8 : decode cX1_loudest 8 = .ok (.arraylength, 1) := by decide +kernel
theorem dX1_loudest_9 : decode cX1_loudest 9 = .ok (.istore_n 3, 1) := by decide +kernel
theorem dX1_loudest_10 : decode cX1_loudest 10 = .ok (.iconst 0, 1) := by decide +kernel
theorem dX1_loudest_11 : decode cX1_loudest 11 = .ok (.istore 4, 2) := by decide +kernel
theorem dX1_loudest_13 : decode cX1_loudest 13 = .ok (.iload 4, 2) := by decide +kernel
theorem dX1_loudest_15 : decode cX1_loudest 15 = .ok (.iload_n 3, 1) := by decide +kernel
theorem dX1_loudest_16 : decode cX1_loudest 16 = .ok (.if_icmp .ge 73, 3) := by decide +kernel
theorem dX1_loudest_19 : decode cX1_loudest 19 = .ok (.aload_n 2, 1) := by decide +kernel
theorem dX1_loudest_20 : decode cX1_loudest 20 = .ok (.iload 4, 2) := by decide +kernel
theorem dX1_loudest_22 : decode cX1_loudest 22 = .ok (.aaload, 1) := by decide +kernel
theorem dX1_loudest_23 : decode cX1_loudest 23 = .ok (.astore 5, 2) := by decide +kernel
theorem dX1_loudest_25 : decode cX1_loudest 25 = .ok (.aload 5, 2) := by decide +kernel
theorem dX1_loudest_27 : decode cX1_loudest 27 = .ok (.getfield 76, 3) := by decide +kernel
theorem dX1_loudest_30 : decode cX1_loudest 30 = .ok (.ifCond .ne 25, 3) := by decide +kernel
theorem dX1_loudest_33 : decode cX1_loudest 33 = .ok (.aload 5, 2) := by decide +kernel
theorem dX1_loudest_35 : decode cX1_loudest 35 = .ok (.getfield 84, 3) := by decide +kernel
theorem dX1_loudest_38 : decode cX1_loudest 38 = .ok (.ifCond .ne 17, 3) := by decide +kernel
theorem dX1_loudest_41 : decode cX1_loudest 41 = .ok (.aload 5, 2) := by decide +kernel
theorem dX1_loudest_43 : decode cX1_loudest 43 = .ok (.getfield 80, 3) := by decide +kernel
theorem dX1_loudest_46 : decode cX1_loudest 46 = .ok (.lconst 0, 1) := by decide +kernel
theorem dX1_loudest_47 : decode cX1_loudest 47 = .ok (.lcmp, 1) := by decide +kernel
theorem dX1_loudest_48 : decode cX1_loudest 48 = .ok (.ifCond .le 7, 3) := by decide +kernel
theorem dX1_loudest_51 : decode cX1_loudest 51 = .ok (.iconst 1, 1) := by decide +kernel
theorem dX1_loudest_52 : decode cX1_loudest 52 = .ok (.goto 4, 3) := by decide +kernel
theorem dX1_loudest_55 : decode cX1_loudest 55 = .ok (.iconst 0, 1) := by decide +kernel
theorem dX1_loudest_56 : decode cX1_loudest 56 = .ok (.istore 6, 2) := by decide +kernel
theorem dX1_loudest_58 : decode cX1_loudest 58 = .ok (.iload 6, 2) := by decide +kernel
theorem dX1_loudest_60 : decode cX1_loudest 60 = .ok (.ifCond .eq 23, 3) := by decide +kernel
theorem dX1_loudest_63 : decode cX1_loudest 63 = .ok (.aload_n 1, 1) := by decide +kernel
theorem dX1_loudest_64 : decode cX1_loudest 64 = .ok (.ifnull 16, 3) := by decide +kernel
theorem dX1_loudest_67 : decode cX1_loudest 67 = .ok (.aload 5, 2) := by decide +kernel
theorem dX1_loudest_69 : decode cX1_loudest 69 = .ok (.getfield 80, 3) := by decide +kernel
theorem dX1_loudest_72 : decode cX1_loudest 72 = .ok (.aload_n 1, 1) := by decide +kernel
theorem dX1_loudest_73 : decode cX1_loudest 73 = .ok (.getfield 80, 3) := by decide +kernel
theorem dX1_loudest_76 : decode cX1_loudest 76 = .ok (.lcmp, 1) := by decide +kernel
theorem dX1_loudest_77 : decode cX1_loudest 77 = .ok (.ifCond .le 6, 3) := by decide +kernel
theorem dX1_loudest_80 : decode cX1_loudest 80 = .ok (.aload 5, 2) := by decide +kernel
theorem dX1_loudest_82 : decode cX1_loudest 82 = .ok (.astore_n 1, 1) := by decide +kernel
theorem dX1_loudest_83 : decode cX1_loudest 83 = .ok (.iinc 4 1, 3) := by decide +kernel
theorem dX1_loudest_86 : decode cX1_loudest 86 = .ok (.goto (-73), 3) := by decide +kernel
theorem dX1_loudest_89 : decode cX1_loudest 89 = .ok (.aload_n 1, 1) := by decide +kernel
theorem dX1_loudest_90 : decode cX1_loudest 90 = .ok (.areturn, 1) := by decide +kernel
abbrev cX1_out : ByteArray := prog_1_method_15_code
def yX1_out : MethodName := ⟨RX1, "out", "(II)I"⟩
theorem dX1_out_0 : decode cX1_out 0 = .ok (.iload_n 1, 1) := by decide +kernel
theorem dX1_out_1 : decode cX1_out 1 = .ok (.iconst 0, 1) := by decide +kernel
theorem dX1_out_2 : decode cX1_out 2 = .ok (.bipush 7, 2) := by decide +kernel
theorem dX1_out_4 : decode cX1_out 4 = .ok (.invokestatic 60, 3) := by decide +kernel
theorem dX1_out_7 : decode cX1_out 7 = .ok (.ifCond .eq 27, 3) := by decide +kernel
theorem dX1_out_10 : decode cX1_out 10 = .ok (.iload_n 2, 1) := by decide +kernel
theorem dX1_out_11 : decode cX1_out 11 = .ok (.iconst 0, 1) := by decide +kernel
theorem dX1_out_12 : decode cX1_out 12 = .ok (.bipush 7, 2) := by decide +kernel
theorem dX1_out_14 : decode cX1_out 14 = .ok (.invokestatic 60, 3) := by decide +kernel
theorem dX1_out_17 : decode cX1_out 17 = .ok (.ifCond .eq 17, 3) := by decide +kernel
theorem dX1_out_20 : decode cX1_out 20 = .ok (.aload_n 0, 1) := by decide +kernel
theorem dX1_out_21 : decode cX1_out 21 = .ok (.getfield 23, 3) := by decide +kernel
theorem dX1_out_24 : decode cX1_out 24 = .ok (.iload_n 1, 1) := by decide +kernel
theorem dX1_out_25 : decode cX1_out 25 = .ok (.aaload, 1) := by decide +kernel
theorem dX1_out_26 : decode cX1_out 26 = .ok (.getfield 44, 3) := by decide +kernel
theorem dX1_out_29 : decode cX1_out 29 = .ok (.iload_n 2, 1) := by decide +kernel
theorem dX1_out_30 : decode cX1_out 30 = .ok (.iaload, 1) := by decide +kernel
theorem dX1_out_31 : decode cX1_out 31 = .ok (.goto 4, 3) := by decide +kernel
theorem dX1_out_34 : decode cX1_out 34 = .ok (.iconst (-1), 1) := by decide +kernel
theorem dX1_out_35 : decode cX1_out 35 = .ok (.ireturn, 1) := by decide +kernel
abbrev cX1_decode : ByteArray := prog_1_method_4_code
def yX1_decode : MethodName := ⟨RX1, "decode", "(II)I"⟩
theorem dX1_decode_0 : decode cX1_decode 0 = .ok (.iload_n 1, 1) := by decide +kernel
theorem dX1_decode_1 : decode cX1_decode 1 = .ok (.iconst 0, 1) := by decide +kernel
theorem dX1_decode_2 : decode cX1_decode 2 = .ok (.iconst 1, 1) := by decide +kernel
theorem dX1_decode_3 : decode cX1_decode 3 = .ok (.invokestatic 60, 3) := by decide +kernel
theorem dX1_decode_6 : decode cX1_decode 6 = .ok (.ifCond .ne 11, 3) := by decide +kernel
theorem dX1_decode_9 : decode cX1_decode 9 = .ok (.new 63, 3) := by decide +kernel
theorem dX1_decode_12 : decode cX1_decode 12 = .ok (.dup, 1) := by decide +kernel
theorem dX1_decode_13 : decode cX1_decode 13 = .ok (.invokespecial 65, 3) := by decide +kernel
theorem dX1_decode_16 : decode cX1_decode 16 = .ok (.athrow, 1) := by decide +kernel
theorem dX1_decode_17 : decode cX1_decode 17 = .ok (.aload_n 0, 1) := by decide +kernel
theorem dX1_decode_18 : decode cX1_decode 18 = .ok (.getfield 15, 3) := by decide +kernel
theorem dX1_decode_21 : decode cX1_decode 21 = .ok (.iload_n 1, 1) := by decide +kernel
theorem dX1_decode_22 : decode cX1_decode 22 = .ok (.aaload, 1) := by decide +kernel
theorem dX1_decode_23 : decode cX1_decode 23 = .ok (.iload_n 2, 1) := by decide +kernel
theorem dX1_decode_24 : decode cX1_decode 24 = .ok (.sipush 255, 3) := by decide +kernel
theorem dX1_decode_27 : decode cX1_decode 27 = .ok (.iand, 1) := by decide +kernel
theorem dX1_decode_28 : decode cX1_decode 28 = .ok (.invokevirtual 66, 3) := by decide +kernel
theorem dX1_decode_31 : decode cX1_decode 31 = .ok (.ireturn, 1) := by decide +kernel
abbrev cX1_energy : ByteArray := prog_1_method_16_code
def yX1_energy : MethodName := ⟨RX1, "energy", "(I)J"⟩
theorem dX1_energy_0 : decode cX1_energy 0 = .ok (.iload_n 1, 1) := by decide +kernel
theorem dX1_energy_1 : decode cX1_energy 1 = .ok (.iconst 0, 1) := by decide +kernel
theorem dX1_energy_2 : decode cX1_energy 2 = .ok (.bipush 7, 2) := by decide +kernel
theorem dX1_energy_4 : decode cX1_energy 4 = .ok (.invokestatic 60, 3) := by decide +kernel
theorem dX1_energy_7 : decode cX1_energy 7 = .ok (.ifCond .ne 11, 3) := by decide +kernel
theorem dX1_energy_10 : decode cX1_energy 10 = .ok (.new 63, 3) := by decide +kernel
theorem dX1_energy_13 : decode cX1_energy 13 = .ok (.dup, 1) := by decide +kernel
theorem dX1_energy_14 : decode cX1_energy 14 = .ok (.invokespecial 65, 3) := by decide +kernel
theorem dX1_energy_17 : decode cX1_energy 17 = .ok (.athrow, 1) := by decide +kernel
theorem dX1_energy_18 : decode cX1_energy 18 = .ok (.aload_n 0, 1) := by decide +kernel
theorem dX1_energy_19 : decode cX1_energy 19 = .ok (.getfield 23, 3) := by decide +kernel
theorem dX1_energy_22 : decode cX1_energy 22 = .ok (.iload_n 1, 1) := by decide +kernel
theorem dX1_energy_23 : decode cX1_energy 23 = .ok (.aaload, 1) := by decide +kernel
theorem dX1_energy_24 : decode cX1_energy 24 = .ok (.getfield 80, 3) := by decide +kernel
theorem dX1_energy_27 : decode cX1_energy 27 = .ok (.lreturn, 1) := by decide +kernel
theorem q3 : (Jvm.Cond.initialized "ConferenceBridge") ∈ lw_all := lw_g (lw_at lw_m1 1 rfl) rfl
theorem q16 : (Jvm.Cond.instantiable "ConferenceBridge" (3 : Nat)) ∈ lw_all := lw_g (lw_at lw_m1 14 rfl) rfl
theorem q18 : (Jvm.Cond.instanceMethod ({ cls := "ConferenceBridge", name := "<init>", desc := "()V" } : Jvm.MethodName)) ∈ lw_all := lw_g (lw_at lw_m1 16 rfl) rfl
theorem q19 : (Jvm.Cond.code ({ cls := "ConferenceBridge", name := "<init>", desc := "()V" } : Jvm.MethodName) prog_1_method_1_code (3 : Nat) (Option.none : Option Jvm.ClassFile.FieldType)) ∈ lw_all := lw_g (lw_at lw_m1 17 rfl) rfl
theorem q20 : (Jvm.Cond.methodLink "ConferenceBridge" (1 : Nat) ({ cls := "java/lang/Object", name := "<init>", desc := "()V" } : Jvm.MethodName)) ∈ lw_all := lw_g (lw_at lw_m1 18 rfl) rfl
theorem q23 : (Jvm.Cond.classLink "ConferenceBridge" (7 : Nat) "ConferenceBridge$Law") ∈ lw_all := lw_g (lw_at lw_m1 21 rfl) rfl
theorem q25 : (Jvm.Cond.classLink "ConferenceBridge" (9 : Nat) "ConferenceBridge$ALaw") ∈ lw_all := lw_g (lw_at lw_m1 23 rfl) rfl
theorem q27 : (Jvm.Cond.methodLinkNest "ConferenceBridge" (11 : Nat) ({ cls := "ConferenceBridge$ALaw", name := "<init>", desc := "()V" } : Jvm.MethodName) "ConferenceBridge") ∈ lw_tbl := lw_at lw_m1 25 rfl
theorem q35 : (Jvm.Cond.classLink "ConferenceBridge" (12 : Nat) "ConferenceBridge$MuLaw") ∈ lw_all := lw_g (lw_at lw_m1 33 rfl) rfl
theorem q37 : (Jvm.Cond.methodLinkNest "ConferenceBridge" (14 : Nat) ({ cls := "ConferenceBridge$MuLaw", name := "<init>", desc := "()V" } : Jvm.MethodName) "ConferenceBridge") ∈ lw_tbl := lw_at lw_m1 35 rfl
theorem q42 : (Jvm.Cond.classLink "ConferenceBridge" (21 : Nat) "ConferenceBridge$Party") ∈ lw_all := lw_g (lw_at lw_m1 40 rfl) rfl
theorem q45 : (Jvm.Cond.methodLinkNest "ConferenceBridge" (31 : Nat) ({ cls := "ConferenceBridge$Party", name := "<init>", desc := "()V" } : Jvm.MethodName) "ConferenceBridge") ∈ lw_tbl := lw_at lw_m1 43 rfl
theorem q49 : (Jvm.Cond.fieldLink "ConferenceBridge" (32 : Nat) "ConferenceBridge$Party" "law" "LConferenceBridge$Law;") ∈ lw_all := lw_g (lw_at lw_m1 47 rfl) rfl
theorem q51 : (Jvm.Cond.fieldLink "ConferenceBridge" (73 : Nat) "ConferenceBridge$Party" "gain" "I") ∈ lw_all := lw_g (lw_at lw_m1 49 rfl) rfl
theorem q52 : (Jvm.Cond.fieldLink "ConferenceBridge" (76 : Nat) "ConferenceBridge$Party" "muted" "Z") ∈ lw_all := lw_g (lw_at lw_m1 50 rfl) rfl
theorem q53 : (Jvm.Cond.fieldLink "ConferenceBridge" (84 : Nat) "ConferenceBridge$Party" "speaks" "Z") ∈ lw_all := lw_g (lw_at lw_m1 51 rfl) rfl
theorem q55 : (Jvm.Cond.fieldLink "ConferenceBridge" (36 : Nat) "ConferenceBridge$Party" "in" "[I") ∈ lw_all := lw_g (lw_at lw_m1 53 rfl) rfl
theorem q57 : (Jvm.Cond.fieldLink "ConferenceBridge" (91 : Nat) "ConferenceBridge$Party" "samples" "[I") ∈ lw_all := lw_g (lw_at lw_m1 55 rfl) rfl
theorem q59 : (Jvm.Cond.fieldLink "ConferenceBridge" (44 : Nat) "ConferenceBridge$Party" "out" "[I") ∈ lw_all := lw_g (lw_at lw_m1 57 rfl) rfl
theorem q60 : (Jvm.Cond.fieldLink "ConferenceBridge" (80 : Nat) "ConferenceBridge$Party" "energy" "J") ∈ lw_all := lw_g (lw_at lw_m1 58 rfl) rfl
theorem q79 : (Jvm.Cond.methodLink "ConferenceBridge" (40 : Nat) ({ cls := "ConferenceBridge$Law", name := "encoded", desc := "(I)I" } : Jvm.MethodName)) ∈ lw_all := lw_g (lw_at lw_m1 77 rfl) rfl
theorem q104 : (Jvm.Cond.fieldLink "ConferenceBridge" (15 : Nat) "ConferenceBridge" "laws" "[LConferenceBridge$Law;") ∈ lw_all := lw_g (lw_at lw_m1 102 rfl) rfl
theorem q105 : (Jvm.Cond.fieldLink "ConferenceBridge" (23 : Nat) "ConferenceBridge" "parties" "[LConferenceBridge$Party;") ∈ lw_all := lw_g (lw_at lw_m1 103 rfl) rfl
theorem q106 : (Jvm.Cond.fieldLink "ConferenceBridge" (27 : Nat) "ConferenceBridge" "most" "I") ∈ lw_all := lw_g (lw_at lw_m1 104 rfl) rfl
theorem q107 : (Jvm.Cond.laysFinal "ConferenceBridge" "ConferenceBridge" "laws" "[LConferenceBridge$Law;") ∈ lw_all := lw_g (lw_at lw_m1 105 rfl) rfl
theorem q108 : (Jvm.Cond.soleField "ConferenceBridge" "laws") ∈ lw_all := lw_g (lw_at lw_m1 106 rfl) rfl
theorem q109 : (Jvm.Cond.laysFinal "ConferenceBridge" "ConferenceBridge" "parties" "[LConferenceBridge$Party;") ∈ lw_all := lw_g (lw_at lw_m1 107 rfl) rfl
theorem q110 : (Jvm.Cond.soleField "ConferenceBridge" "parties") ∈ lw_all := lw_g (lw_at lw_m1 108 rfl) rfl
theorem q111 : (Jvm.Cond.lays "ConferenceBridge" "ConferenceBridge" "most" "I") ∈ lw_all := lw_g (lw_at lw_m1 109 rfl) rfl
theorem q112 : (Jvm.Cond.soleField "ConferenceBridge" "most") ∈ lw_all := lw_g (lw_at lw_m1 110 rfl) rfl
theorem q113 : (Jvm.Cond.superclass "ConferenceBridge" "java/lang/Object") ∈ lw_all := lw_g (lw_at lw_m1 111 rfl) rfl
theorem q115 : (Jvm.Cond.instanceMethod ({ cls := "ConferenceBridge", name := "encode", desc := "(II)I" } : Jvm.MethodName)) ∈ lw_all := lw_g (lw_at lw_m1 113 rfl) rfl
theorem q116 : (Jvm.Cond.selects "ConferenceBridge" ({ cls := "ConferenceBridge", name := "encode", desc := "(II)I" } : Jvm.MethodName) ({ cls := "ConferenceBridge", name := "encode", desc := "(II)I" } : Jvm.MethodName)) ∈ lw_all := lw_g (lw_at lw_m1 114 rfl) rfl
theorem q117 : (Jvm.Cond.code ({ cls := "ConferenceBridge", name := "encode", desc := "(II)I" } : Jvm.MethodName) prog_1_method_5_code (3 : Nat) (Option.some Jvm.ClassFile.FieldType.int)) ∈ lw_all := lw_g (lw_at lw_m1 115 rfl) rfl
theorem q118 : (Jvm.Cond.methodLink "ConferenceBridge" (60 : Nat) ({ cls := "ConferenceBridge", name := "in", desc := "(III)Z" } : Jvm.MethodName)) ∈ lw_all := lw_g (lw_at lw_m1 116 rfl) rfl
theorem q119 : (Jvm.Cond.static ({ cls := "ConferenceBridge", name := "in", desc := "(III)Z" } : Jvm.MethodName)) ∈ lw_all := lw_g (lw_at lw_m1 117 rfl) rfl
theorem q120 : (Jvm.Cond.code ({ cls := "ConferenceBridge", name := "in", desc := "(III)Z" } : Jvm.MethodName) prog_1_method_2_code (3 : Nat) (Option.some Jvm.ClassFile.FieldType.boolean)) ∈ lw_all := lw_g (lw_at lw_m1 118 rfl) rfl
theorem q121 : (Jvm.Cond.methodLink "ConferenceBridge" (69 : Nat) ({ cls := "ConferenceBridge", name := "saturated", desc := "(J)I" } : Jvm.MethodName)) ∈ lw_all := lw_g (lw_at lw_m1 119 rfl) rfl
theorem q122 : (Jvm.Cond.static ({ cls := "ConferenceBridge", name := "saturated", desc := "(J)I" } : Jvm.MethodName)) ∈ lw_all := lw_g (lw_at lw_m1 120 rfl) rfl
theorem q123 : (Jvm.Cond.code ({ cls := "ConferenceBridge", name := "saturated", desc := "(J)I" } : Jvm.MethodName) prog_1_method_3_code (2 : Nat) (Option.some Jvm.ClassFile.FieldType.int)) ∈ lw_all := lw_g (lw_at lw_m1 121 rfl) rfl
theorem q124 : (Jvm.Cond.constantLong "ConferenceBridge" (47 : Nat) (-32768 : Int64)) ∈ lw_all := lw_g (lw_at lw_m1 122 rfl) rfl
theorem q125 : (Jvm.Cond.constantLong "ConferenceBridge" (49 : Nat) (32767 : Int64)) ∈ lw_all := lw_g (lw_at lw_m1 123 rfl) rfl
theorem q126 : (Jvm.Cond.methodLink "ConferenceBridge" (51 : Nat) ({ cls := "java/lang/Math", name := "min", desc := "(JJ)J" } : Jvm.MethodName)) ∈ lw_all := lw_g (lw_at lw_m1 124 rfl) rfl
theorem q129 : (Jvm.Cond.methodLink "ConferenceBridge" (57 : Nat) ({ cls := "java/lang/Math", name := "max", desc := "(JJ)J" } : Jvm.MethodName)) ∈ lw_all := lw_g (lw_at lw_m1 127 rfl) rfl
theorem q133 : (Jvm.Cond.instanceMethod ({ cls := "ConferenceBridge", name := "law", desc := "(II)Z" } : Jvm.MethodName)) ∈ lw_all := lw_g (lw_at lw_m1 131 rfl) rfl
theorem q134 : (Jvm.Cond.selects "ConferenceBridge" ({ cls := "ConferenceBridge", name := "law", desc := "(II)Z" } : Jvm.MethodName) ({ cls := "ConferenceBridge", name := "law", desc := "(II)Z" } : Jvm.MethodName)) ∈ lw_all := lw_g (lw_at lw_m1 132 rfl) rfl
theorem q135 : (Jvm.Cond.code ({ cls := "ConferenceBridge", name := "law", desc := "(II)Z" } : Jvm.MethodName) prog_1_method_6_code (3 : Nat) (Option.some Jvm.ClassFile.FieldType.boolean)) ∈ lw_all := lw_g (lw_at lw_m1 133 rfl) rfl
theorem q137 : (Jvm.Cond.instanceMethod ({ cls := "ConferenceBridge", name := "gain", desc := "(II)Z" } : Jvm.MethodName)) ∈ lw_all := lw_g (lw_at lw_m1 135 rfl) rfl
theorem q138 : (Jvm.Cond.selects "ConferenceBridge" ({ cls := "ConferenceBridge", name := "gain", desc := "(II)Z" } : Jvm.MethodName) ({ cls := "ConferenceBridge", name := "gain", desc := "(II)Z" } : Jvm.MethodName)) ∈ lw_all := lw_g (lw_at lw_m1 136 rfl) rfl
theorem q139 : (Jvm.Cond.code ({ cls := "ConferenceBridge", name := "gain", desc := "(II)Z" } : Jvm.MethodName) prog_1_method_7_code (3 : Nat) (Option.some Jvm.ClassFile.FieldType.boolean)) ∈ lw_all := lw_g (lw_at lw_m1 137 rfl) rfl
theorem q141 : (Jvm.Cond.instanceMethod ({ cls := "ConferenceBridge", name := "mute", desc := "(IZ)Z" } : Jvm.MethodName)) ∈ lw_all := lw_g (lw_at lw_m1 139 rfl) rfl
theorem q142 : (Jvm.Cond.selects "ConferenceBridge" ({ cls := "ConferenceBridge", name := "mute", desc := "(IZ)Z" } : Jvm.MethodName) ({ cls := "ConferenceBridge", name := "mute", desc := "(IZ)Z" } : Jvm.MethodName)) ∈ lw_all := lw_g (lw_at lw_m1 140 rfl) rfl
theorem q143 : (Jvm.Cond.code ({ cls := "ConferenceBridge", name := "mute", desc := "(IZ)Z" } : Jvm.MethodName) prog_1_method_8_code (3 : Nat) (Option.some Jvm.ClassFile.FieldType.boolean)) ∈ lw_all := lw_g (lw_at lw_m1 141 rfl) rfl
theorem q145 : (Jvm.Cond.instanceMethod ({ cls := "ConferenceBridge", name := "speakers", desc := "(I)Z" } : Jvm.MethodName)) ∈ lw_all := lw_g (lw_at lw_m1 143 rfl) rfl
theorem q146 : (Jvm.Cond.selects "ConferenceBridge" ({ cls := "ConferenceBridge", name := "speakers", desc := "(I)Z" } : Jvm.MethodName) ({ cls := "ConferenceBridge", name := "speakers", desc := "(I)Z" } : Jvm.MethodName)) ∈ lw_all := lw_g (lw_at lw_m1 144 rfl) rfl
theorem q147 : (Jvm.Cond.code ({ cls := "ConferenceBridge", name := "speakers", desc := "(I)Z" } : Jvm.MethodName) prog_1_method_9_code (2 : Nat) (Option.some Jvm.ClassFile.FieldType.boolean)) ∈ lw_all := lw_g (lw_at lw_m1 145 rfl) rfl
theorem q149 : (Jvm.Cond.instanceMethod ({ cls := "ConferenceBridge", name := "put", desc := "(III)Z" } : Jvm.MethodName)) ∈ lw_all := lw_g (lw_at lw_m1 147 rfl) rfl
theorem q150 : (Jvm.Cond.selects "ConferenceBridge" ({ cls := "ConferenceBridge", name := "put", desc := "(III)Z" } : Jvm.MethodName) ({ cls := "ConferenceBridge", name := "put", desc := "(III)Z" } : Jvm.MethodName)) ∈ lw_all := lw_g (lw_at lw_m1 148 rfl) rfl
theorem q151 : (Jvm.Cond.code ({ cls := "ConferenceBridge", name := "put", desc := "(III)Z" } : Jvm.MethodName) prog_1_method_10_code (4 : Nat) (Option.some Jvm.ClassFile.FieldType.boolean)) ∈ lw_all := lw_g (lw_at lw_m1 149 rfl) rfl
theorem q153 : (Jvm.Cond.instanceMethod ({ cls := "ConferenceBridge", name := "ramp", desc := "(III)Z" } : Jvm.MethodName)) ∈ lw_all := lw_g (lw_at lw_m1 151 rfl) rfl
theorem q154 : (Jvm.Cond.selects "ConferenceBridge" ({ cls := "ConferenceBridge", name := "ramp", desc := "(III)Z" } : Jvm.MethodName) ({ cls := "ConferenceBridge", name := "ramp", desc := "(III)Z" } : Jvm.MethodName)) ∈ lw_all := lw_g (lw_at lw_m1 152 rfl) rfl
theorem q155 : (Jvm.Cond.code ({ cls := "ConferenceBridge", name := "ramp", desc := "(III)Z" } : Jvm.MethodName) prog_1_method_11_code (6 : Nat) (Option.some Jvm.ClassFile.FieldType.boolean)) ∈ lw_all := lw_g (lw_at lw_m1 153 rfl) rfl
theorem q157 : (Jvm.Cond.instanceMethod ({ cls := "ConferenceBridge", name := "mix", desc := "()I" } : Jvm.MethodName)) ∈ lw_all := lw_g (lw_at lw_m1 155 rfl) rfl
theorem q158 : (Jvm.Cond.selects "ConferenceBridge" ({ cls := "ConferenceBridge", name := "mix", desc := "()I" } : Jvm.MethodName) ({ cls := "ConferenceBridge", name := "mix", desc := "()I" } : Jvm.MethodName)) ∈ lw_all := lw_g (lw_at lw_m1 156 rfl) rfl
theorem q159 : (Jvm.Cond.code ({ cls := "ConferenceBridge", name := "mix", desc := "()I" } : Jvm.MethodName) prog_1_method_14_code (7 : Nat) (Option.some Jvm.ClassFile.FieldType.int)) ∈ lw_all := lw_g (lw_at lw_m1 157 rfl) rfl
theorem q160 : (Jvm.Cond.methodLink "ConferenceBridge" (94 : Nat) ({ cls := "ConferenceBridge", name := "measure", desc := "(LConferenceBridge$Party;)V" } : Jvm.MethodName)) ∈ lw_all := lw_g (lw_at lw_m1 158 rfl) rfl
theorem q161 : (Jvm.Cond.static ({ cls := "ConferenceBridge", name := "measure", desc := "(LConferenceBridge$Party;)V" } : Jvm.MethodName)) ∈ lw_all := lw_g (lw_at lw_m1 159 rfl) rfl
theorem q162 : (Jvm.Cond.code ({ cls := "ConferenceBridge", name := "measure", desc := "(LConferenceBridge$Party;)V" } : Jvm.MethodName) prog_1_method_12_code (3 : Nat) (Option.none : Option Jvm.ClassFile.FieldType)) ∈ lw_all := lw_g (lw_at lw_m1 160 rfl) rfl
theorem q163 : (Jvm.Cond.methodLink "ConferenceBridge" (66 : Nat) ({ cls := "ConferenceBridge$Law", name := "decoded", desc := "(I)I" } : Jvm.MethodName)) ∈ lw_all := lw_g (lw_at lw_m1 161 rfl) rfl
theorem q172 : (Jvm.Cond.methodLink "ConferenceBridge" (87 : Nat) ({ cls := "java/lang/Math", name := "floorDiv", desc := "(II)I" } : Jvm.MethodName)) ∈ lw_all := lw_g (lw_at lw_m1 170 rfl) rfl
theorem q175 : (Jvm.Cond.methodLink "ConferenceBridge" (98 : Nat) ({ cls := "ConferenceBridge", name := "loudest", desc := "()LConferenceBridge$Party;" } : Jvm.MethodName)) ∈ lw_all := lw_g (lw_at lw_m1 173 rfl) rfl
theorem q176 : (Jvm.Cond.privateMethod ({ cls := "ConferenceBridge", name := "loudest", desc := "()LConferenceBridge$Party;" } : Jvm.MethodName)) ∈ lw_tbl := lw_at lw_m1 174 rfl
theorem q177 : (Jvm.Cond.instanceMethod ({ cls := "ConferenceBridge", name := "loudest", desc := "()LConferenceBridge$Party;" } : Jvm.MethodName)) ∈ lw_all := lw_g (lw_at lw_m1 175 rfl) rfl
theorem q178 : (Jvm.Cond.code ({ cls := "ConferenceBridge", name := "loudest", desc := "()LConferenceBridge$Party;" } : Jvm.MethodName) prog_1_method_13_code (7 : Nat) (Option.some (Jvm.ClassFile.FieldType.object "ConferenceBridge$Party"))) ∈ lw_all := lw_g (lw_at lw_m1 176 rfl) rfl
theorem q180 : (Jvm.Cond.instanceMethod ({ cls := "ConferenceBridge", name := "out", desc := "(II)I" } : Jvm.MethodName)) ∈ lw_all := lw_g (lw_at lw_m1 178 rfl) rfl
theorem q181 : (Jvm.Cond.selects "ConferenceBridge" ({ cls := "ConferenceBridge", name := "out", desc := "(II)I" } : Jvm.MethodName) ({ cls := "ConferenceBridge", name := "out", desc := "(II)I" } : Jvm.MethodName)) ∈ lw_all := lw_g (lw_at lw_m1 179 rfl) rfl
theorem q182 : (Jvm.Cond.code ({ cls := "ConferenceBridge", name := "out", desc := "(II)I" } : Jvm.MethodName) prog_1_method_15_code (3 : Nat) (Option.some Jvm.ClassFile.FieldType.int)) ∈ lw_all := lw_g (lw_at lw_m1 180 rfl) rfl
theorem q188 : (Jvm.Cond.instanceMethod ({ cls := "ConferenceBridge", name := "decode", desc := "(II)I" } : Jvm.MethodName)) ∈ lw_all := lw_g (lw_at lw_m1 186 rfl) rfl
theorem q189 : (Jvm.Cond.selects "ConferenceBridge" ({ cls := "ConferenceBridge", name := "decode", desc := "(II)I" } : Jvm.MethodName) ({ cls := "ConferenceBridge", name := "decode", desc := "(II)I" } : Jvm.MethodName)) ∈ lw_all := lw_g (lw_at lw_m1 187 rfl) rfl
theorem q190 : (Jvm.Cond.code ({ cls := "ConferenceBridge", name := "decode", desc := "(II)I" } : Jvm.MethodName) prog_1_method_4_code (3 : Nat) (Option.some Jvm.ClassFile.FieldType.int)) ∈ lw_all := lw_g (lw_at lw_m1 188 rfl) rfl
theorem q191 : (Jvm.Cond.classLink "ConferenceBridge" (63 : Nat) "java/util/NoSuchElementException") ∈ lw_all := lw_g (lw_at lw_m1 189 rfl) rfl
theorem q230 : (Jvm.Cond.methodLink "ConferenceBridge" (65 : Nat) ({ cls := "java/util/NoSuchElementException", name := "<init>", desc := "()V" } : Jvm.MethodName)) ∈ lw_all := lw_g (lw_at lw_m1 228 rfl) rfl
theorem q256 : (Jvm.Cond.instanceMethod ({ cls := "ConferenceBridge", name := "energy", desc := "(I)J" } : Jvm.MethodName)) ∈ lw_all := lw_g (lw_at lw_m2 14 rfl) rfl
theorem q257 : (Jvm.Cond.selects "ConferenceBridge" ({ cls := "ConferenceBridge", name := "energy", desc := "(I)J" } : Jvm.MethodName) ({ cls := "ConferenceBridge", name := "energy", desc := "(I)J" } : Jvm.MethodName)) ∈ lw_all := lw_g (lw_at lw_m2 15 rfl) rfl
theorem q258 : (Jvm.Cond.code ({ cls := "ConferenceBridge", name := "energy", desc := "(I)J" } : Jvm.MethodName) prog_1_method_16_code (2 : Nat) (Option.some Jvm.ClassFile.FieldType.long)) ∈ lw_all := lw_g (lw_at lw_m2 16 rfl) rfl
theorem in_X1 : ∀ w ∈ wsX10, w ∈ lw_all := lw_in wsX10 [107, 109, 111] (by decide +kernel) (by decide +kernel)
/-! java/util/NoSuchElementException -/
set_option maxRecDepth 100000
def RJ5 : String := "java/util/NoSuchElementException"
def TJ5 : u_T := fun k => match k with
  | 0 => ("java/lang/Throwable", "cause", "Ljava/lang/Throwable;", false)
  | 1 => ("java/lang/Throwable", "stackTrace", "[Ljava/lang/StackTraceElement;", false)
  | 2 => ("java/lang/Throwable", "suppressedExceptions", "Ljava/util/List;", false)
  | 3 => ("java/lang/Throwable", "detailMessage", "Ljava/lang/String;", false)
  | 4 => ("java/lang/Throwable", "backtrace", "Ljava/lang/Object;", false)
  | _ => ("java/lang/Throwable", "depth", "I", false)
def tyJ5 : Nat → FieldType := fun k => match k with
  | 0 => .object "java/lang/Throwable"
  | 1 => .array (.object "java/lang/StackTraceElement")
  | 2 => .object "java/util/List"
  | 3 => .object "java/lang/String"
  | 4 => .object "java/lang/Object"
  | _ => .int
abbrev wsJ50 : List Cond := u_ws RJ5 TJ5 6
theorem nmJ5 : ∀ a, a < 6 → ∀ b, b < 6 → a ≠ b → (TJ5 a).2.1 ≠ (TJ5 b).2.1 := by decide +kernel
theorem tyJ5_ok : ∀ k, k < 6 → parseFieldDescriptor (TJ5 k).2.2.1 = some (tyJ5 k) := by decide +kernel
abbrev cJ5_init : ByteArray := prog_13_method_1_code
def yJ5_init : MethodName := ⟨RJ5, "<init>", "()V"⟩
theorem dJ5_init_0 : decode cJ5_init 0 = .ok (.aload_n 0, 1) := by decide +kernel
theorem dJ5_init_1 : decode cJ5_init 1 = .ok (.invokespecial 1, 3) := by decide +kernel
theorem dJ5_init_4 : decode cJ5_init 4 = .ok (.return_, 1) := by decide +kernel
theorem q14 : (Jvm.Cond.initialized "java/util/NoSuchElementException") ∈ lw_all := lw_g (lw_at lw_m1 12 rfl) rfl
theorem q192 : (Jvm.Cond.instantiable "java/util/NoSuchElementException" (6 : Nat)) ∈ lw_all := lw_g (lw_at lw_m1 190 rfl) rfl
theorem q193 : (Jvm.Cond.castable "java/util/NoSuchElementException" "java/util/NoSuchElementException") ∈ lw_tbl := lw_at lw_m1 191 rfl
theorem q200 : (Jvm.Cond.selects "java/util/NoSuchElementException" ({ cls := "java/lang/Throwable", name := "fillInStackTrace", desc := "(I)Ljava/lang/Throwable;" } : Jvm.MethodName) ({ cls := "java/lang/Throwable", name := "fillInStackTrace", desc := "(I)Ljava/lang/Throwable;" } : Jvm.MethodName)) ∈ lw_all := lw_g (lw_at lw_m1 198 rfl) rfl
theorem q201 : (Jvm.Cond.selects "java/util/NoSuchElementException" ({ cls := "java/lang/Throwable", name := "fillInStackTrace", desc := "()Ljava/lang/Throwable;" } : Jvm.MethodName) ({ cls := "java/lang/Throwable", name := "fillInStackTrace", desc := "()Ljava/lang/Throwable;" } : Jvm.MethodName)) ∈ lw_all := lw_g (lw_at lw_m1 199 rfl) rfl
theorem q202 : (Jvm.Cond.lays "java/util/NoSuchElementException" "java/lang/Throwable" "cause" "Ljava/lang/Throwable;") ∈ lw_all := lw_g (lw_at lw_m1 200 rfl) rfl
theorem q204 : (Jvm.Cond.lays "java/util/NoSuchElementException" "java/lang/Throwable" "stackTrace" "[Ljava/lang/StackTraceElement;") ∈ lw_all := lw_g (lw_at lw_m1 202 rfl) rfl
theorem q206 : (Jvm.Cond.lays "java/util/NoSuchElementException" "java/lang/Throwable" "suppressedExceptions" "Ljava/util/List;") ∈ lw_all := lw_g (lw_at lw_m1 204 rfl) rfl
theorem q208 : (Jvm.Cond.lays "java/util/NoSuchElementException" "java/lang/Throwable" "detailMessage" "Ljava/lang/String;") ∈ lw_all := lw_g (lw_at lw_m1 206 rfl) rfl
theorem q210 : (Jvm.Cond.lays "java/util/NoSuchElementException" "java/lang/Throwable" "backtrace" "Ljava/lang/Object;") ∈ lw_all := lw_g (lw_at lw_m1 208 rfl) rfl
theorem q231 : (Jvm.Cond.instanceMethod ({ cls := "java/util/NoSuchElementException", name := "<init>", desc := "()V" } : Jvm.MethodName)) ∈ lw_all := lw_g (lw_at lw_m1 229 rfl) rfl
theorem q232 : (Jvm.Cond.code ({ cls := "java/util/NoSuchElementException", name := "<init>", desc := "()V" } : Jvm.MethodName) prog_13_method_1_code (1 : Nat) (Option.none : Option Jvm.ClassFile.FieldType)) ∈ lw_all := lw_g (lw_at lw_m1 230 rfl) rfl
theorem q233 : (Jvm.Cond.methodLink "java/util/NoSuchElementException" (1 : Nat) ({ cls := "java/lang/RuntimeException", name := "<init>", desc := "()V" } : Jvm.MethodName)) ∈ lw_all := lw_g (lw_at lw_m1 231 rfl) rfl
theorem q248 : (Jvm.Cond.lays "java/util/NoSuchElementException" "java/lang/Throwable" "depth" "I") ∈ lw_all := lw_g (lw_at lw_m2 6 rfl) rfl
theorem q251 : (Jvm.Cond.superclass "java/util/NoSuchElementException" "java/lang/RuntimeException") ∈ lw_all := lw_g (lw_at lw_m2 9 rfl) rfl
theorem in_J5 : ∀ w ∈ wsJ50, w ∈ lw_all := lw_in wsJ50 [202, 204, 206, 208, 210, 248] (by decide +kernel) (by decide +kernel)
/-! java/lang/RuntimeException -/
set_option maxRecDepth 100000
def RJ4 : String := "java/lang/RuntimeException"
abbrev cJ4_init : ByteArray := prog_11_method_1_code
def yJ4_init : MethodName := ⟨RJ4, "<init>", "()V"⟩
theorem dJ4_init_0 : decode cJ4_init 0 = .ok (.aload_n 0, 1) := by decide +kernel
theorem dJ4_init_1 : decode cJ4_init 1 = .ok (.invokespecial 1, 3) := by decide +kernel
theorem dJ4_init_4 : decode cJ4_init 4 = .ok (.return_, 1) := by decide +kernel
theorem q13 : (Jvm.Cond.initialized "java/lang/RuntimeException") ∈ lw_all := lw_g (lw_at lw_m1 11 rfl) rfl
theorem q194 : (Jvm.Cond.declares ({ cls := "java/lang/RuntimeException", name := "<init>", desc := "()V" } : Jvm.MethodName)) ∈ lw_tbl := lw_at lw_m1 192 rfl
theorem q195 : (Jvm.Cond.declares ({ cls := "java/lang/RuntimeException", name := "<init>", desc := "(Ljava/lang/String;)V" } : Jvm.MethodName)) ∈ lw_tbl := lw_at lw_m1 193 rfl
theorem q234 : (Jvm.Cond.instanceMethod ({ cls := "java/lang/RuntimeException", name := "<init>", desc := "()V" } : Jvm.MethodName)) ∈ lw_all := lw_g (lw_at lw_m1 232 rfl) rfl
theorem q235 : (Jvm.Cond.code ({ cls := "java/lang/RuntimeException", name := "<init>", desc := "()V" } : Jvm.MethodName) prog_11_method_1_code (1 : Nat) (Option.none : Option Jvm.ClassFile.FieldType)) ∈ lw_all := lw_g (lw_at lw_m1 233 rfl) rfl
theorem q236 : (Jvm.Cond.methodLink "java/lang/RuntimeException" (1 : Nat) ({ cls := "java/lang/Exception", name := "<init>", desc := "()V" } : Jvm.MethodName)) ∈ lw_all := lw_g (lw_at lw_m1 234 rfl) rfl
/-! java/lang/Exception -/
set_option maxRecDepth 100000
def RJ3 : String := "java/lang/Exception"
abbrev cJ3_init : ByteArray := prog_8_method_1_code
def yJ3_init : MethodName := ⟨RJ3, "<init>", "()V"⟩
theorem dJ3_init_0 : decode cJ3_init 0 = .ok (.aload_n 0, 1) := by decide +kernel
theorem dJ3_init_1 : decode cJ3_init 1 = .ok (.invokespecial 1, 3) := by decide +kernel
theorem dJ3_init_4 : decode cJ3_init 4 = .ok (.return_, 1) := by decide +kernel
theorem q12 : (Jvm.Cond.initialized "java/lang/Exception") ∈ lw_all := lw_g (lw_at lw_m1 10 rfl) rfl
theorem q196 : (Jvm.Cond.declares ({ cls := "java/lang/Exception", name := "<init>", desc := "()V" } : Jvm.MethodName)) ∈ lw_tbl := lw_at lw_m1 194 rfl
theorem q197 : (Jvm.Cond.declares ({ cls := "java/lang/Exception", name := "<init>", desc := "(Ljava/lang/String;)V" } : Jvm.MethodName)) ∈ lw_tbl := lw_at lw_m1 195 rfl
theorem q237 : (Jvm.Cond.instanceMethod ({ cls := "java/lang/Exception", name := "<init>", desc := "()V" } : Jvm.MethodName)) ∈ lw_all := lw_g (lw_at lw_m1 235 rfl) rfl
theorem q238 : (Jvm.Cond.code ({ cls := "java/lang/Exception", name := "<init>", desc := "()V" } : Jvm.MethodName) prog_8_method_1_code (1 : Nat) (Option.none : Option Jvm.ClassFile.FieldType)) ∈ lw_all := lw_g (lw_at lw_m1 236 rfl) rfl
theorem q239 : (Jvm.Cond.methodLink "java/lang/Exception" (1 : Nat) ({ cls := "java/lang/Throwable", name := "<init>", desc := "()V" } : Jvm.MethodName)) ∈ lw_all := lw_g (lw_at lw_m1 237 rfl) rfl
/-! java/lang/Throwable -/
set_option maxRecDepth 100000
def RJ2 : String := "java/lang/Throwable"
def TJ2 : u_T := fun k => match k with
  | 0 => ("java/lang/Throwable", "cause", "Ljava/lang/Throwable;", false)
  | 1 => ("java/lang/Throwable", "stackTrace", "[Ljava/lang/StackTraceElement;", false)
  | 2 => ("java/lang/Throwable", "suppressedExceptions", "Ljava/util/List;", false)
  | 3 => ("java/lang/Throwable", "detailMessage", "Ljava/lang/String;", false)
  | _ => ("java/lang/Throwable", "backtrace", "Ljava/lang/Object;", false)
def tyJ2 : Nat → FieldType := fun k => match k with
  | 0 => .object "java/lang/Throwable"
  | 1 => .array (.object "java/lang/StackTraceElement")
  | 2 => .object "java/util/List"
  | 3 => .object "java/lang/String"
  | _ => .object "java/lang/Object"
abbrev wsJ20 : List Cond := u_ws RJ2 TJ2 5
theorem nmJ2 : ∀ a, a < 5 → ∀ b, b < 5 → a ≠ b → (TJ2 a).2.1 ≠ (TJ2 b).2.1 := by decide +kernel
theorem tyJ2_ok : ∀ k, k < 5 → parseFieldDescriptor (TJ2 k).2.2.1 = some (tyJ2 k) := by decide +kernel
abbrev cJ2_init : ByteArray := prog_12_method_1_code
def yJ2_init : MethodName := ⟨RJ2, "<init>", "()V"⟩
theorem dJ2_init_0 : decode cJ2_init 0 = .ok (.aload_n 0, 1) := by decide +kernel
theorem dJ2_init_1 : decode cJ2_init 1 = .ok (.invokespecial 1, 3) := by decide +kernel
theorem dJ2_init_4 : decode cJ2_init 4 = .ok (.aload_n 0, 1) := by decide +kernel
theorem dJ2_init_5 : decode cJ2_init 5 = .ok (.aload_n 0, 1) := by decide +kernel
theorem dJ2_init_6 : decode cJ2_init 6 = .ok (.putfield 7, 3) := by decide +kernel
theorem dJ2_init_9 : decode cJ2_init 9 = .ok (.aload_n 0, 1) := by decide +kernel
theorem dJ2_init_10 : decode cJ2_init 10 = .ok (.getstatic 13, 3) := by decide +kernel
theorem dJ2_init_13 : decode cJ2_init 13 = .ok (.putfield 17, 3) := by decide +kernel
theorem dJ2_init_16 : decode cJ2_init 16 = .ok (.aload_n 0, 1) := by decide +kernel
theorem dJ2_init_17 : decode cJ2_init 17 = .ok (.getstatic 20, 3) := by decide +kernel
theorem dJ2_init_20 : decode cJ2_init 20 = .ok (.putfield 24, 3) := by decide +kernel
theorem dJ2_init_23 : decode cJ2_init 23 = .ok (.aload_n 0, 1) := by decide +kernel
theorem dJ2_init_24 : decode cJ2_init 24 = .ok (.invokevirtual 27, 3) := by decide +kernel
theorem dJ2_init_27 : decode cJ2_init 27 = .ok (.pop, 1) := by decide +kernel
theorem dJ2_init_28 : decode cJ2_init 28 = .ok (.return_, 1) := by decide +kernel
theorem q11 : (Jvm.Cond.initialized "java/lang/Throwable") ∈ lw_all := lw_g (lw_at lw_m1 9 rfl) rfl
theorem q198 : (Jvm.Cond.declares ({ cls := "java/lang/Throwable", name := "<init>", desc := "()V" } : Jvm.MethodName)) ∈ lw_tbl := lw_at lw_m1 196 rfl
theorem q199 : (Jvm.Cond.declares ({ cls := "java/lang/Throwable", name := "<init>", desc := "(Ljava/lang/String;)V" } : Jvm.MethodName)) ∈ lw_tbl := lw_at lw_m1 197 rfl
theorem q203 : (Jvm.Cond.lays "java/lang/Throwable" "java/lang/Throwable" "cause" "Ljava/lang/Throwable;") ∈ lw_all := lw_g (lw_at lw_m1 201 rfl) rfl
theorem q205 : (Jvm.Cond.lays "java/lang/Throwable" "java/lang/Throwable" "stackTrace" "[Ljava/lang/StackTraceElement;") ∈ lw_all := lw_g (lw_at lw_m1 203 rfl) rfl
theorem q207 : (Jvm.Cond.lays "java/lang/Throwable" "java/lang/Throwable" "suppressedExceptions" "Ljava/util/List;") ∈ lw_all := lw_g (lw_at lw_m1 205 rfl) rfl
theorem q209 : (Jvm.Cond.lays "java/lang/Throwable" "java/lang/Throwable" "detailMessage" "Ljava/lang/String;") ∈ lw_all := lw_g (lw_at lw_m1 207 rfl) rfl
theorem q211 : (Jvm.Cond.lays "java/lang/Throwable" "java/lang/Throwable" "backtrace" "Ljava/lang/Object;") ∈ lw_all := lw_g (lw_at lw_m1 209 rfl) rfl
theorem q212 : (Jvm.Cond.fieldLink "java/lang/Throwable" (198 : Nat) "java/lang/Throwable" "backtrace" "Ljava/lang/Object;") ∈ lw_all := lw_g (lw_at lw_m1 210 rfl) rfl
theorem q213 : (Jvm.Cond.superclass "java/lang/Throwable" "java/lang/Object") ∈ lw_all := lw_g (lw_at lw_m1 211 rfl) rfl
theorem q214 : (Jvm.Cond.instanceMethod ({ cls := "java/lang/Throwable", name := "<init>", desc := "()V" } : Jvm.MethodName)) ∈ lw_all := lw_g (lw_at lw_m1 212 rfl) rfl
theorem q215 : (Jvm.Cond.code ({ cls := "java/lang/Throwable", name := "<init>", desc := "()V" } : Jvm.MethodName) prog_12_method_1_code (1 : Nat) (Option.none : Option Jvm.ClassFile.FieldType)) ∈ lw_all := lw_g (lw_at lw_m1 213 rfl) rfl
theorem q216 : (Jvm.Cond.methodLink "java/lang/Throwable" (1 : Nat) ({ cls := "java/lang/Object", name := "<init>", desc := "()V" } : Jvm.MethodName)) ∈ lw_all := lw_g (lw_at lw_m1 214 rfl) rfl
theorem q217 : (Jvm.Cond.fieldLink "java/lang/Throwable" (13 : Nat) "java/lang/Throwable" "UNASSIGNED_STACK" "[Ljava/lang/StackTraceElement;") ∈ lw_all := lw_g (lw_at lw_m1 215 rfl) rfl
theorem q218 : (Jvm.Cond.laysStatic "java/lang/Throwable" "UNASSIGNED_STACK" "[Ljava/lang/StackTraceElement;") ∈ lw_tbl := lw_at lw_m1 216 rfl
theorem q219 : (Jvm.Cond.fieldLink "java/lang/Throwable" (20 : Nat) "java/lang/Throwable" "SUPPRESSED_SENTINEL" "Ljava/util/List;") ∈ lw_all := lw_g (lw_at lw_m1 217 rfl) rfl
theorem q220 : (Jvm.Cond.laysStatic "java/lang/Throwable" "SUPPRESSED_SENTINEL" "Ljava/util/List;") ∈ lw_tbl := lw_at lw_m1 218 rfl
theorem q221 : (Jvm.Cond.methodLink "java/lang/Throwable" (27 : Nat) ({ cls := "java/lang/Throwable", name := "fillInStackTrace", desc := "()Ljava/lang/Throwable;" } : Jvm.MethodName)) ∈ lw_all := lw_g (lw_at lw_m1 219 rfl) rfl
theorem q222 : (Jvm.Cond.instanceMethod ({ cls := "java/lang/Throwable", name := "fillInStackTrace", desc := "()Ljava/lang/Throwable;" } : Jvm.MethodName)) ∈ lw_all := lw_g (lw_at lw_m1 220 rfl) rfl
theorem q223 : (Jvm.Cond.sameMethod "java/lang/Throwable" "java/lang/Throwable" "fillInStackTrace" "()Ljava/lang/Throwable;") ∈ lw_all := lw_g (lw_at lw_m1 221 rfl) rfl
theorem q224 : (Jvm.Cond.codeSync ({ cls := "java/lang/Throwable", name := "fillInStackTrace", desc := "()Ljava/lang/Throwable;" } : Jvm.MethodName) prog_12_method_18_code (1 : Nat) (Option.some (Jvm.ClassFile.FieldType.object "java/lang/Throwable"))) ∈ lw_all := lw_g (lw_at lw_m1 222 rfl) rfl
theorem q225 : (Jvm.Cond.methodLink "java/lang/Throwable" (202 : Nat) ({ cls := "java/lang/Throwable", name := "fillInStackTrace", desc := "(I)Ljava/lang/Throwable;" } : Jvm.MethodName)) ∈ lw_all := lw_g (lw_at lw_m1 223 rfl) rfl
theorem q226 : (Jvm.Cond.privateMethod ({ cls := "java/lang/Throwable", name := "fillInStackTrace", desc := "(I)Ljava/lang/Throwable;" } : Jvm.MethodName)) ∈ lw_tbl := lw_at lw_m1 224 rfl
theorem q227 : (Jvm.Cond.instanceMethod ({ cls := "java/lang/Throwable", name := "fillInStackTrace", desc := "(I)Ljava/lang/Throwable;" } : Jvm.MethodName)) ∈ lw_all := lw_g (lw_at lw_m1 225 rfl) rfl
theorem q228 : (Jvm.Cond.instantiable "java/lang/Throwable" (6 : Nat)) ∈ lw_all := lw_g (lw_at lw_m1 226 rfl) rfl
theorem q229 : (Jvm.Cond.native ({ cls := "java/lang/Throwable", name := "fillInStackTrace", desc := "(I)Ljava/lang/Throwable;" } : Jvm.MethodName)) ∈ lw_all := lw_g (lw_at lw_m1 227 rfl) rfl
theorem q240 : (Jvm.Cond.fieldLink "java/lang/Throwable" (198 : Nat) "java/lang/Throwable" "backtrace" "Ljava/lang/Object;") ∈ lw_all := lw_g (lw_at lw_m1 238 rfl) rfl
theorem q241 : (Jvm.Cond.fieldLink "java/lang/Throwable" (7 : Nat) "java/lang/Throwable" "cause" "Ljava/lang/Throwable;") ∈ lw_all := lw_g (lw_at lw_m1 239 rfl) rfl
theorem q242 : (Jvm.Cond.fieldLink "java/lang/Throwable" (17 : Nat) "java/lang/Throwable" "stackTrace" "[Ljava/lang/StackTraceElement;") ∈ lw_all := lw_g (lw_at lw_m2 0 rfl) rfl
theorem q243 : (Jvm.Cond.fieldLink "java/lang/Throwable" (24 : Nat) "java/lang/Throwable" "suppressedExceptions" "Ljava/util/List;") ∈ lw_all := lw_g (lw_at lw_m2 1 rfl) rfl
theorem q244 : (Jvm.Cond.soleField "java/lang/Throwable" "backtrace") ∈ lw_all := lw_g (lw_at lw_m2 2 rfl) rfl
theorem q245 : (Jvm.Cond.soleField "java/lang/Throwable" "detailMessage") ∈ lw_all := lw_g (lw_at lw_m2 3 rfl) rfl
theorem q246 : (Jvm.Cond.soleField "java/lang/Throwable" "cause") ∈ lw_all := lw_g (lw_at lw_m2 4 rfl) rfl
theorem q247 : (Jvm.Cond.soleField "java/lang/Throwable" "stackTrace") ∈ lw_all := lw_g (lw_at lw_m2 5 rfl) rfl
theorem q249 : (Jvm.Cond.soleField "java/lang/Throwable" "depth") ∈ lw_all := lw_g (lw_at lw_m2 7 rfl) rfl
theorem q250 : (Jvm.Cond.soleField "java/lang/Throwable" "suppressedExceptions") ∈ lw_all := lw_g (lw_at lw_m2 8 rfl) rfl
theorem q360 : (Jvm.Cond.sameMethod "java/lang/Throwable" "java/lang/Throwable" "fillInStackTrace" "(I)Ljava/lang/Throwable;") ∈ lw_all := lw_g (lw_at lw_m2 118 rfl) rfl
theorem in_J2 : ∀ w ∈ wsJ20, w ∈ lw_all := lw_in wsJ20 [203, 205, 207, 209, 211] (by decide +kernel) (by decide +kernel)
end
section
/-! ConferenceBridgeModel -/
set_option maxRecDepth 100000
def RX6 : String := "ConferenceBridgeModel"
def TX6 : u_T := fun k => match k with
  | 0 => ("ConferenceBridgeModel", "thrownCode", "I", false)
  | 1 => ("ConferenceBridgeModel", "law", "[I", true)
  | 2 => ("ConferenceBridgeModel", "gain", "[I", true)
  | 3 => ("ConferenceBridgeModel", "muted", "[Z", true)
  | 4 => ("ConferenceBridgeModel", "in", "[I", true)
  | 5 => ("ConferenceBridgeModel", "out", "[I", true)
  | 6 => ("ConferenceBridgeModel", "sample", "[I", true)
  | 7 => ("ConferenceBridgeModel", "energy", "[J", true)
  | _ => ("ConferenceBridgeModel", "most", "I", false)
def tyX6 : Nat → FieldType := fun k => match k with
  | 0 => .int
  | 1 => .array .int
  | 2 => .array .int
  | 3 => .array .boolean
  | 4 => .array .int
  | 5 => .array .int
  | 6 => .array .int
  | 7 => .array .long
  | _ => .int
abbrev wsX60 : List Cond := u_ws RX6 TX6 9
theorem nmX6 : ∀ a, a < 9 → ∀ b, b < 9 → a ≠ b → (TX6 a).2.1 ≠ (TX6 b).2.1 := by decide +kernel
theorem tyX6_ok : ∀ k, k < 9 → parseFieldDescriptor (TX6 k).2.2.1 = some (tyX6 k) := by decide +kernel
abbrev cX6_init : ByteArray := prog_7_method_1_code
def yX6_init : MethodName := ⟨RX6, "<init>", "()V"⟩
theorem dX6_init_0 : decode cX6_init 0 = .ok (.aload_n 0, 1) := by decide +kernel
theorem dX6_init_1 : decode cX6_init 1 = .ok (.invokespecial 1, 3) := by decide +kernel
theorem dX6_init_4 : decode cX6_init 4 = .ok (.aload_n 0, 1) := by decide +kernel
theorem dX6_init_5 : decode cX6_init 5 = .ok (.iconst 0, 1) := by decide +kernel
theorem dX6_init_6 : decode cX6_init 6 = .ok (.putfield 7, 3) := by decide +kernel
theorem dX6_init_9 : decode cX6_init 9 = .ok (.aload_n 0, 1) := by decide +kernel
theorem dX6_init_10 : decode cX6_init 10 = .ok (.bipush 8, 2) := by decide +kernel
theorem dX6_init_12 : decode cX6_init 12 = .ok (.newarray .int, 2) := by decide +kernel
theorem dX6_init_14 : decode cX6_init 14 = .ok (.putfield 13, 3) := by decide +kernel
theorem dX6_init_17 : decode cX6_init 17 = .ok (.aload_n 0, 1) := by decide +kernel
theorem dX6_init_18 : decode cX6_init 18 = .ok (.bipush 8, 2) := by decide +kernel
theorem dX6_init_20 : decode cX6_init 20 = .ok (.newarray .int, 2) := by decide +kernel
theorem dX6_init_22 : decode cX6_init 22 = .ok (.putfield 17, 3) := by decide +kernel
theorem dX6_init_25 : decode cX6_init 25 = .ok (.aload_n 0, 1) := by decide +kernel
theorem dX6_init_26 : decode cX6_init 26 = .ok (.bipush 8, 2) := by decide +kernel
theorem dX6_init_28 : decode cX6_init 28 = .ok (.newarray .boolean, 2) := by decide +kernel
theorem dX6_init_30 : decode cX6_init 30 = .ok (.putfield 20, 3) := by decide +kernel
theorem dX6_init_33 : decode cX6_init 33 = .ok (.aload_n 0, 1) := by decide +kernel
theorem dX6_init_34 : decode cX6_init 34 = .ok (.bipush 64, 2) := by decide +kernel
theorem dX6_init_36 : decode cX6_init 36 = .ok (.newarray .int, 2) := by decide +kernel
theorem dX6_init_38 : decode cX6_init 38 = .ok (.putfield 24, 3) := by decide +kernel
theorem dX6_init_41 : decode cX6_init 41 = .ok (.aload_n 0, 1) := by decide +kernel
theorem dX6_init_42 : decode cX6_init 42 = .ok (.bipush 64, 2) := by decide +kernel
theorem dX6_init_44 : decode cX6_init 44 = .ok (.newarray .int, 2) := by decide +kernel
theorem dX6_init_46 : decode cX6_init 46 = .ok (.putfield 27, 3) := by decide +kernel
theorem dX6_init_49 : decode cX6_init 49 = .ok (.aload_n 0, 1) := by decide +kernel
theorem dX6_init_50 : decode cX6_init 50 = .ok (.bipush 64, 2) := by decide +kernel
theorem dX6_init_52 : decode cX6_init 52 = .ok (.newarray .int, 2) := by decide +kernel
theorem dX6_init_54 : decode cX6_init 54 = .ok (.putfield 30, 3) := by decide +kernel
theorem dX6_init_57 : decode cX6_init 57 = .ok (.aload_n 0, 1) := by decide +kernel
theorem dX6_init_58 : decode cX6_init 58 = .ok (.bipush 8, 2) := by decide +kernel
theorem dX6_init_60 : decode cX6_init 60 = .ok (.newarray .long, 2) := by decide +kernel
theorem dX6_init_62 : decode cX6_init 62 = .ok (.putfield 33, 3) := by decide +kernel
theorem dX6_init_65 : decode cX6_init 65 = .ok (.aload_n 0, 1) := by decide +kernel
theorem dX6_init_66 : decode cX6_init 66 = .ok (.iconst 3, 1) := by decide +kernel
theorem dX6_init_67 : decode cX6_init 67 = .ok (.putfield 37, 3) := by decide +kernel
theorem dX6_init_70 : decode cX6_init 70 = .ok (.iconst 0, 1) := by decide +kernel
theorem dX6_init_71 : decode cX6_init 71 = .ok (.istore_n 1, 1) := by decide +kernel
theorem dX6_init_72 : decode cX6_init 72 = .ok (.iload_n 1, 1) := by decide +kernel
theorem dX6_init_73 : decode cX6_init 73 = .ok (.bipush 8, 2) := by decide +kernel
theorem dX6_init_75 : decode cX6_init 75 = .ok (.if_icmp .ge 84, 3) := by decide +kernel
theorem dX6_init_78 : decode cX6_init 78 = .ok (.aload_n 0, 1) := by decide +kernel
theorem dX6_init_79 : decode cX6_init 79 = .ok (.getfield 13, 3) := by decide +kernel
theorem dX6_init_82 : decode cX6_init 82 = .ok (.iload_n 1, 1) := by decide +kernel
theorem dX6_init_83 : decode cX6_init 83 = .ok (.iload_n 1, 1) := by decide +kernel
theorem dX6_init_84 : decode cX6_init 84 = .ok (.iconst 2, 1) := by decide +kernel
theorem dX6_init_85 : decode cX6_init 85 = .ok (.irem, 1) := by decide +kernel
theorem dX6_init_86 : decode cX6_init 86 = .ok (.iastore, 1) := by decide +kernel
theorem dX6_init_87 : decode cX6_init 87 = .ok (.aload_n 0, 1) := by decide +kernel
theorem dX6_init_88 : decode cX6_init 88 = .ok (.getfield 17, 3) := by decide +kernel
theorem dX6_init_91 : decode cX6_init 91 = .ok (.iload_n 1, 1) := by decide +kernel
theorem dX6_init_92 : decode cX6_init 92 = .ok (.sipush 256, 3) := by decide +kernel
theorem dX6_init_95 : decode cX6_init 95 = .ok (.iastore, 1) := by decide +kernel
theorem dX6_init_96 : decode cX6_init 96 = .ok (.iconst 0, 1) := by decide +kernel
theorem dX6_init_97 : decode cX6_init 97 = .ok (.istore_n 2, 1) := by decide +kernel
theorem dX6_init_98 : decode cX6_init 98 = .ok (.iload_n 2, 1) := by decide +kernel
theorem dX6_init_99 : decode cX6_init 99 = .ok (.bipush 8, 2) := by decide +kernel
theorem dX6_init_101 : decode cX6_init 101 = .ok (.if_icmp .ge 52, 3) := by decide +kernel
theorem dX6_init_104 : decode cX6_init 104 = .ok (.aload_n 0, 1) := by decide +kernel
theorem dX6_init_105 : decode cX6_init 105 = .ok (.getfield 24, 3) := by decide +kernel
theorem dX6_init_108 : decode cX6_init 108 = .ok (.bipush 8, 2) := by decide +kernel
theorem dX6_init_110 : decode cX6_init 110 = .ok (.iload_n 1, 1) := by decide +kernel
theorem dX6_init_111 : decode cX6_init 111 = .ok (.imul, 1) := by decide +kernel
theorem dX6_init_112 : decode cX6_init 112 = .ok (.iload_n 2, 1) := by decide +kernel
theorem dX6_init_113 : decode cX6_init 113 = .ok (.iadd, 1) := by decide +kernel
theorem dX6_init_114 : decode cX6_init 114 = .ok (.aload_n 0, 1) := by decide +kernel
theorem dX6_init_115 : decode cX6_init 115 = .ok (.getfield 13, 3) := by decide +kernel
theorem dX6_init_118 : decode cX6_init 118 = .ok (.iload_n 1, 1) := by decide +kernel
theorem dX6_init_119 : decode cX6_init 119 = .ok (.iaload, 1) := by decide +kernel
theorem dX6_init_120 : decode cX6_init 120 = .ok (.iconst 0, 1) := by decide +kernel
theorem dX6_init_121 : decode cX6_init 121 = .ok (.invokestatic 40, 3) := by decide +kernel
theorem dX6_init_124 : decode cX6_init 124 = .ok (.iastore, 1) := by decide +kernel
theorem dX6_init_125 : decode cX6_init 125 = .ok (.aload_n 0, 1) := by decide +kernel
theorem dX6_init_126 : decode cX6_init 126 = .ok (.getfield 27, 3) := by decide +kernel
theorem dX6_init_129 : decode cX6_init 129 = .ok (.bipush 8, 2) := by decide +kernel
theorem dX6_init_131 : decode cX6_init 131 = .ok (.iload_n 1, 1) := by decide +kernel
theorem dX6_init_132 : decode cX6_init 132 = .ok (.imul, 1) := by decide +kernel
theorem dX6_init_133 : decode cX6_init 133 = .ok (.iload_n 2, 1) := by decide +kernel
theorem dX6_init_134 : decode cX6_init 134 = .ok (.iadd, 1) := by decide +kernel
theorem dX6_init_135 : decode cX6_init 135 = .ok (.aload_n 0, 1) := by decide +kernel
theorem dX6_init_136 : decode cX6_init 136 = .ok (.getfield 24, 3) := by decide +kernel
theorem dX6_init_139 : decode cX6_init 139 = .ok (.bipush 8, 2) := by decide +kernel
theorem dX6_init_141 : decode cX6_init 141 = .ok (.iload_n 1, 1) := by decide +kernel
theorem dX6_init_142 : decode cX6_init 142 = .ok (.imul, 1) := by decide +kernel
theorem dX6_init_143 : decode cX6_init 143 = .ok (.iload_n 2, 1) := by decide +kernel
theorem dX6_init_144 : decode cX6_init 144 = .ok (.iadd, 1) := by decide +kernel
theorem dX6_init_145 : decode cX6_init 145 = .ok (.iaload, 1) := by decide +kernel
theorem dX6_init_146 : decode cX6_init 146 = .ok (.iastore, 1) := by decide +kernel
theorem dX6_init_147 : decode cX6_init 147 = .ok (.iinc 2 1, 3) := by decide +kernel
theorem dX6_init_150 : decode cX6_init 150 = .ok (.goto (-52), 3) := by decide +kernel
theorem dX6_init_153 : decode cX6_init 153 = .ok (.iinc 1 1, 3) := by decide +kernel
theorem dX6_init_156 : decode cX6_init 156 = .ok (.goto (-84), 3) := by decide +kernel
theorem dX6_init_159 : decode cX6_init 159 = .ok (.return_, 1) := by decide +kernel
abbrev cX6_codeOf : ByteArray := prog_7_method_4_code
def yX6_codeOf : MethodName := ⟨RX6, "codeOf", "(II)I"⟩
theorem dX6_codeOf_0 : decode cX6_codeOf 0 = .ok (.iload_n 0, 1) := by decide +kernel
theorem dX6_codeOf_1 : decode cX6_codeOf 1 = .ok (.ifCond .ne 73, 3) := by decide +kernel
theorem dX6_codeOf_4 : decode cX6_codeOf 4 = .ok (.iload_n 1, 1) := by decide +kernel
theorem dX6_codeOf_5 : decode cX6_codeOf 5 = .ok (.ifCond .ge 12, 3) := by decide +kernel
theorem dX6_codeOf_8 : decode cX6_codeOf 8 = .ok (.iconst (-1), 1) := by decide +kernel
theorem dX6_codeOf_9 : decode cX6_codeOf 9 = .ok (.iload_n 1, 1) := by decide +kernel
theorem dX6_codeOf_10 : decode cX6_codeOf 10 = .ok (.isub, 1) := by decide +kernel
theorem dX6_codeOf_11 : decode cX6_codeOf 11 = .ok (.bipush 16, 2) := by decide +kernel
theorem dX6_codeOf_13 : decode cX6_codeOf 13 = .ok (.idiv, 1) := by decide +kernel
theorem dX6_codeOf_14 : decode cX6_codeOf 14 = .ok (.goto 7, 3) := by decide +kernel
theorem dX6_codeOf_17 : decode cX6_codeOf 17 = .ok (.iload_n 1, 1) := by decide +kernel
theorem dX6_codeOf_18 : decode cX6_codeOf 18 = .ok (.bipush 16, 2) := by decide +kernel
theorem dX6_codeOf_20 : decode cX6_codeOf 20 = .ok (.idiv, 1) := by decide +kernel
theorem dX6_codeOf_21 : decode cX6_codeOf 21 = .ok (.istore_n 2, 1) := by decide +kernel
theorem dX6_codeOf_22 : decode cX6_codeOf 22 = .ok (.iconst 0, 1) := by decide +kernel
theorem dX6_codeOf_23 : decode cX6_codeOf 23 = .ok (.istore_n 3, 1) := by decide +kernel
theorem dX6_codeOf_24 : decode cX6_codeOf 24 = .ok (.iload_n 2, 1) := by decide +kernel
theorem dX6_codeOf_25 : decode cX6_codeOf 25 = .ok (.bipush 32, 2) := by decide +kernel
theorem dX6_codeOf_27 : decode cX6_codeOf 27 = .ok (.if_icmp .lt 13, 3) := by decide +kernel
theorem dX6_codeOf_30 : decode cX6_codeOf 30 = .ok (.iload_n 2, 1) := by decide +kernel
theorem dX6_codeOf_31 : decode cX6_codeOf 31 = .ok (.iconst 2, 1) := by decide +kernel
theorem dX6_codeOf_32 : decode cX6_codeOf 32 = .ok (.idiv, 1) := by decide +kernel
theorem dX6_codeOf_33 : decode cX6_codeOf 33 = .ok (.istore_n 2, 1) := by decide +kernel
theorem dX6_codeOf_34 : decode cX6_codeOf 34 = .ok (.iinc 3 1, 3) := by decide +kernel
theorem dX6_codeOf_37 : decode cX6_codeOf 37 = .ok (.goto (-13), 3) := by decide +kernel
theorem dX6_codeOf_40 : decode cX6_codeOf 40 = .ok (.iload_n 2, 1) := by decide +kernel
theorem dX6_codeOf_41 : decode cX6_codeOf 41 = .ok (.bipush 16, 2) := by decide +kernel
theorem dX6_codeOf_43 : decode cX6_codeOf 43 = .ok (.if_icmp .lt 6, 3) := by decide +kernel
theorem dX6_codeOf_46 : decode cX6_codeOf 46 = .ok (.iinc 3 1, 3) := by decide +kernel
theorem dX6_codeOf_49 : decode cX6_codeOf 49 = .ok (.iload_n 1, 1) := by decide +kernel
theorem dX6_codeOf_50 : decode cX6_codeOf 50 = .ok (.ifCond .ge 7, 3) := by decide +kernel
theorem dX6_codeOf_53 : decode cX6_codeOf 53 = .ok (.iconst 0, 1) := by decide +kernel
theorem dX6_codeOf_54 : decode cX6_codeOf 54 = .ok (.goto 6, 3) := by decide +kernel
theorem dX6_codeOf_57 : decode cX6_codeOf 57 = .ok (.sipush 128, 3) := by decide +kernel
theorem dX6_codeOf_60 : decode cX6_codeOf 60 = .ok (.bipush 16, 2) := by decide +kernel
theorem dX6_codeOf_62 : decode cX6_codeOf 62 = .ok (.iload_n 3, 1) := by decide +kernel
theorem dX6_codeOf_63 : decode cX6_codeOf 63 = .ok (.imul, 1) := by decide +kernel
theorem dX6_codeOf_64 : decode cX6_codeOf 64 = .ok (.iadd, 1) := by decide +kernel
theorem dX6_codeOf_65 : decode cX6_codeOf 65 = .ok (.iload_n 2, 1) := by decide +kernel
theorem dX6_codeOf_66 : decode cX6_codeOf 66 = .ok (.bipush 16, 2) := by decide +kernel
theorem dX6_codeOf_68 : decode cX6_codeOf 68 = .ok (.irem, 1) := by decide +kernel
theorem dX6_codeOf_69 : decode cX6_codeOf 69 = .ok (.iadd, 1) := by decide +kernel
theorem dX6_codeOf_70 : decode cX6_codeOf 70 = .ok (.bipush 85, 2) := by decide +kernel
theorem dX6_codeOf_72 : decode cX6_codeOf 72 = .ok (.ixor, 1) := by decide +kernel
theorem dX6_codeOf_73 : decode cX6_codeOf 73 = .ok (.ireturn, 1) := by decide +kernel
theorem dX6_codeOf_74 : decode cX6_codeOf 74 = .ok (.iload_n 1, 1) := by decide +kernel
theorem dX6_codeOf_75 : decode cX6_codeOf 75 = .ok (.ifCond .ge 8, 3) := by decide +kernel
theorem dX6_codeOf_78 : decode cX6_codeOf 78 = .ok (.iload_n 1, 1) := by decide +kernel
theorem dX6_codeOf_79 : decode cX6_codeOf 79 = .ok (.ineg, 1) := by decide +kernel
theorem dX6_codeOf_80 : decode cX6_codeOf 80 = .ok (.goto 4, 3) := by decide +kernel
theorem dX6_codeOf_83 : decode cX6_codeOf 83 = .ok (.iload_n 1, 1) := by decide +kernel
theorem dX6_codeOf_84 : decode cX6_codeOf 84 = .ok (.istore_n 2, 1) := by decide +kernel
theorem dX6_codeOf_85 : decode cX6_codeOf 85 = .ok (.iload_n 2, 1) := by decide +kernel
theorem dX6_codeOf_86 : decode cX6_codeOf 86 = .ok (.sipush 32635, 3) := by decide +kernel
theorem dX6_codeOf_89 : decode cX6_codeOf 89 = .ok (.if_icmp .le 7, 3) := by decide +kernel
theorem dX6_codeOf_92 : decode cX6_codeOf 92 = .ok (.sipush 32635, 3) := by decide +kernel
theorem dX6_codeOf_95 : decode cX6_codeOf 95 = .ok (.istore_n 2, 1) := by decide +kernel
theorem dX6_codeOf_96 : decode cX6_codeOf 96 = .ok (.iinc 2 132, 6) := by decide +kernel
theorem dX6_codeOf_102 : decode cX6_codeOf 102 = .ok (.iconst 0, 1) := by decide +kernel
theorem dX6_codeOf_103 : decode cX6_codeOf 103 = .ok (.istore_n 3, 1) := by decide +kernel
theorem dX6_codeOf_104 : decode cX6_codeOf 104 = .ok (.iload_n 2, 1) := by decide +kernel
theorem dX6_codeOf_105 : decode cX6_codeOf 105 = .ok (.sipush 256, 3) := by decide +kernel
theorem dX6_codeOf_108 : decode cX6_codeOf 108 = .ok (.if_icmp .lt 13, 3) := by decide +kernel
theorem dX6_codeOf_111 : decode cX6_codeOf 111 = .ok (.iload_n 2, 1) := by decide +kernel
theorem dX6_codeOf_112 : decode cX6_codeOf 112 = .ok (.iconst 2, 1) := by decide +kernel
theorem dX6_codeOf_113 : decode cX6_codeOf 113 = .ok (.idiv, 1) := by decide +kernel
theorem dX6_codeOf_114 : decode cX6_codeOf 114 = .ok (.istore_n 2, 1) := by decide +kernel
theorem dX6_codeOf_115 : decode cX6_codeOf 115 = .ok (.iinc 3 1, 3) := by decide +kernel
theorem dX6_codeOf_118 : decode cX6_codeOf 118 = .ok (.goto (-14), 3) := by decide +kernel
theorem dX6_codeOf_121 : decode cX6_codeOf 121 = .ok (.sipush 255, 3) := by decide +kernel
theorem dX6_codeOf_124 : decode cX6_codeOf 124 = .ok (.iload_n 1, 1) := by decide +kernel
theorem dX6_codeOf_125 : decode cX6_codeOf 125 = .ok (.ifCond .ge 9, 3) := by decide +kernel
theorem dX6_codeOf_128 : decode cX6_codeOf 128 = .ok (.sipush 128, 3) := by decide +kernel
theorem dX6_codeOf_131 : decode cX6_codeOf 131 = .ok (.goto 4, 3) := by decide +kernel
theorem dX6_codeOf_134 : decode cX6_codeOf 134 = .ok (.iconst 0, 1) := by decide +kernel
theorem dX6_codeOf_135 : decode cX6_codeOf 135 = .ok (.bipush 16, 2) := by decide +kernel
theorem dX6_codeOf_137 : decode cX6_codeOf 137 = .ok (.iload_n 3, 1) := by decide +kernel
theorem dX6_codeOf_138 : decode cX6_codeOf 138 = .ok (.imul, 1) := by decide +kernel
theorem dX6_codeOf_139 : decode cX6_codeOf 139 = .ok (.iadd, 1) := by decide +kernel
theorem dX6_codeOf_140 : decode cX6_codeOf 140 = .ok (.iload_n 2, 1) := by decide +kernel
theorem dX6_codeOf_141 : decode cX6_codeOf 141 = .ok (.bipush 8, 2) := by decide +kernel
theorem dX6_codeOf_143 : decode cX6_codeOf 143 = .ok (.idiv, 1) := by decide +kernel
theorem dX6_codeOf_144 : decode cX6_codeOf 144 = .ok (.bipush 16, 2) := by decide +kernel
theorem dX6_codeOf_146 : decode cX6_codeOf 146 = .ok (.irem, 1) := by decide +kernel
theorem dX6_codeOf_147 : decode cX6_codeOf 147 = .ok (.iadd, 1) := by decide +kernel
theorem dX6_codeOf_148 : decode cX6_codeOf 148 = .ok (.isub, 1) := by decide +kernel
theorem dX6_codeOf_149 : decode cX6_codeOf 149 = .ok (.ireturn, 1) := by decide +kernel
abbrev cX6_thrown : ByteArray := prog_7_method_6_code
def yX6_thrown : MethodName := ⟨RX6, "thrown", "()I"⟩
theorem dX6_thrown_0 : decode cX6_thrown 0 = .ok (.aload_n 0, 1) := by decide +kernel
theorem dX6_thrown_1 : decode cX6_thrown 1 = .ok (.getfield 7, 3) := by decide +kernel
theorem dX6_thrown_4 : decode cX6_thrown 4 = .ok (.ireturn, 1) := by decide +kernel
abbrev cX6_decode : ByteArray := prog_7_method_8_code
def yX6_decode : MethodName := ⟨RX6, "decode", "(II)I"⟩
theorem dX6_decode_0 : decode cX6_decode 0 = .ok (.aload_n 0, 1) := by decide +kernel
theorem dX6_decode_1 : decode cX6_decode 1 = .ok (.iload_n 1, 1) := by decide +kernel
theorem dX6_decode_2 : decode cX6_decode 2 = .ok (.iconst 2, 1) := by decide +kernel
theorem dX6_decode_3 : decode cX6_decode 3 = .ok (.invokestatic 52, 3) := by decide +kernel
theorem dX6_decode_6 : decode cX6_decode 6 = .ok (.ifCond .eq 7, 3) := by decide +kernel
theorem dX6_decode_9 : decode cX6_decode 9 = .ok (.iconst 1, 1) := by decide +kernel
theorem dX6_decode_10 : decode cX6_decode 10 = .ok (.goto 4, 3) := by decide +kernel
theorem dX6_decode_13 : decode cX6_decode 13 = .ok (.iconst 0, 1) := by decide +kernel
theorem dX6_decode_14 : decode cX6_decode 14 = .ok (.putfield 7, 3) := by decide +kernel
theorem dX6_decode_17 : decode cX6_decode 17 = .ok (.aload_n 0, 1) := by decide +kernel
theorem dX6_decode_18 : decode cX6_decode 18 = .ok (.getfield 7, 3) := by decide +kernel
theorem dX6_decode_21 : decode cX6_decode 21 = .ok (.ifCond .eq 7, 3) := by decide +kernel
theorem dX6_decode_24 : decode cX6_decode 24 = .ok (.iconst 0, 1) := by decide +kernel
theorem dX6_decode_25 : decode cX6_decode 25 = .ok (.goto 12, 3) := by decide +kernel
theorem dX6_decode_28 : decode cX6_decode 28 = .ok (.iload_n 1, 1) := by decide +kernel
theorem dX6_decode_29 : decode cX6_decode 29 = .ok (.iload_n 2, 1) := by decide +kernel
theorem dX6_decode_30 : decode cX6_decode 30 = .ok (.sipush 255, 3) := by decide +kernel
theorem dX6_decode_33 : decode cX6_decode 33 = .ok (.iand, 1) := by decide +kernel
theorem dX6_decode_34 : decode cX6_decode 34 = .ok (.invokestatic 56, 3) := by decide +kernel
theorem dX6_decode_37 : decode cX6_decode 37 = .ok (.ireturn, 1) := by decide +kernel
abbrev cX6_not : ByteArray := prog_7_method_7_code
def yX6_not : MethodName := ⟨RX6, "not", "(II)Z"⟩
theorem dX6_not_0 : decode cX6_not 0 = .ok (.iload_n 0, 1) := by decide +kernel
theorem dX6_not_1 : decode cX6_not 1 = .ok (.ifCond .lt 8, 3) := by decide +kernel
theorem dX6_not_4 : decode cX6_not 4 = .ok (.iload_n 0, 1) := by decide +kernel
theorem dX6_not_5 : decode cX6_not 5 = .ok (.iload_n 1, 1) := by decide +kernel
theorem dX6_not_6 : decode cX6_not 6 = .ok (.if_icmp .lt 7, 3) := by decide +kernel
theorem dX6_not_9 : decode cX6_not 9 = .ok (.iconst 1, 1) := by decide +kernel
theorem dX6_not_10 : decode cX6_not 10 = .ok (.goto 4, 3) := by decide +kernel
theorem dX6_not_13 : decode cX6_not 13 = .ok (.iconst 0, 1) := by decide +kernel
theorem dX6_not_14 : decode cX6_not 14 = .ok (.ireturn, 1) := by decide +kernel
abbrev cX6_meaning : ByteArray := prog_7_method_2_code
def yX6_meaning : MethodName := ⟨RX6, "meaning", "(II)I"⟩
theorem dX6_meaning_0 : decode cX6_meaning 0 = .ok (.iload_n 0, 1) := by decide +kernel
theorem dX6_meaning_1 : decode cX6_meaning 1 = .ok (.ifCond .ne 10, 3) := by decide +kernel
theorem dX6_meaning_4 : decode cX6_meaning 4 = .ok (.iload_n 1, 1) := by decide +kernel
theorem dX6_meaning_5 : decode cX6_meaning 5 = .ok (.bipush 85, 2) := by decide +kernel
theorem dX6_meaning_7 : decode cX6_meaning 7 = .ok (.ixor, 1) := by decide +kernel
theorem dX6_meaning_8 : decode cX6_meaning 8 = .ok (.goto 8, 3) := by decide +kernel
theorem dX6_meaning_11 : decode cX6_meaning 11 = .ok (.sipush 255, 3) := by decide +kernel
theorem dX6_meaning_14 : decode cX6_meaning 14 = .ok (.iload_n 1, 1) := by decide +kernel
theorem dX6_meaning_15 : decode cX6_meaning 15 = .ok (.isub, 1) := by decide +kernel
theorem dX6_meaning_16 : decode cX6_meaning 16 = .ok (.istore_n 2, 1) := by decide +kernel
theorem dX6_meaning_17 : decode cX6_meaning 17 = .ok (.iload_n 2, 1) := by decide +kernel
theorem dX6_meaning_18 : decode cX6_meaning 18 = .ok (.bipush 16, 2) := by decide +kernel
theorem dX6_meaning_20 : decode cX6_meaning 20 = .ok (.idiv, 1) := by decide +kernel
theorem dX6_meaning_21 : decode cX6_meaning 21 = .ok (.bipush 8, 2) := by decide +kernel
theorem dX6_meaning_23 : decode cX6_meaning 23 = .ok (.irem, 1) := by decide +kernel
theorem dX6_meaning_24 : decode cX6_meaning 24 = .ok (.istore_n 3, 1) := by decide +kernel
theorem dX6_meaning_25 : decode cX6_meaning 25 = .ok (.iload_n 2, 1) := by decide +kernel
theorem dX6_meaning_26 : decode cX6_meaning 26 = .ok (.bipush 16, 2) := by decide +kernel
theorem dX6_meaning_28 : decode cX6_meaning 28 = .ok (.irem, 1) := by decide +kernel
theorem dX6_meaning_29 : decode cX6_meaning 29 = .ok (.istore 4, 2) := by decide +kernel
theorem dX6_meaning_31 : decode cX6_meaning 31 = .ok (.bipush 16, 2) := by decide +kernel
theorem dX6_meaning_33 : decode cX6_meaning 33 = .ok (.iload 4, 2) := by decide +kernel
theorem dX6_meaning_35 : decode cX6_meaning 35 = .ok (.imul, 1) := by decide +kernel
theorem dX6_meaning_36 : decode cX6_meaning 36 = .ok (.bipush 8, 2) := by decide +kernel
theorem dX6_meaning_38 : decode cX6_meaning 38 = .ok (.iadd, 1) := by decide +kernel
theorem dX6_meaning_39 : decode cX6_meaning 39 = .ok (.istore 5, 2) := by decide +kernel
theorem dX6_meaning_41 : decode cX6_meaning 41 = .ok (.iload_n 0, 1) := by decide +kernel
theorem dX6_meaning_42 : decode cX6_meaning 42 = .ok (.ifCond .ne 18, 3) := by decide +kernel
theorem dX6_meaning_45 : decode cX6_meaning 45 = .ok (.iload_n 3, 1) := by decide +kernel
theorem dX6_meaning_46 : decode cX6_meaning 46 = .ok (.ifCond .le 14, 3) := by decide +kernel
theorem dX6_meaning_49 : decode cX6_meaning 49 = .ok (.bipush 16, 2) := by decide +kernel
theorem dX6_meaning_51 : decode cX6_meaning 51 = .ok (.iload 4, 2) := by decide +kernel
theorem dX6_meaning_53 : decode cX6_meaning 53 = .ok (.imul, 1) := by decide +kernel
theorem dX6_meaning_54 : decode cX6_meaning 54 = .ok (.sipush 264, 3) := by decide +kernel
theorem dX6_meaning_57 : decode cX6_meaning 57 = .ok (.iadd, 1) := by decide +kernel
theorem dX6_meaning_58 : decode cX6_meaning 58 = .ok (.istore 5, 2) := by decide +kernel
theorem dX6_meaning_60 : decode cX6_meaning 60 = .ok (.iconst 1, 1) := by decide +kernel
theorem dX6_meaning_61 : decode cX6_meaning 61 = .ok (.istore 6, 2) := by decide +kernel
theorem dX6_meaning_63 : decode cX6_meaning 63 = .ok (.iload 6, 2) := by decide +kernel
theorem dX6_meaning_65 : decode cX6_meaning 65 = .ok (.iload_n 3, 1) := by decide +kernel
theorem dX6_meaning_66 : decode cX6_meaning 66 = .ok (.if_icmp .ge 19, 3) := by decide +kernel
theorem dX6_meaning_69 : decode cX6_meaning 69 = .ok (.iload_n 0, 1) := by decide +kernel
theorem dX6_meaning_70 : decode cX6_meaning 70 = .ok (.ifCond .ne 15, 3) := by decide +kernel
theorem dX6_meaning_73 : decode cX6_meaning 73 = .ok (.iconst 2, 1) := by decide +kernel
theorem dX6_meaning_74 : decode cX6_meaning 74 = .ok (.iload 5, 2) := by decide +kernel
theorem dX6_meaning_76 : decode cX6_meaning 76 = .ok (.imul, 1) := by decide +kernel
theorem dX6_meaning_77 : decode cX6_meaning 77 = .ok (.istore 5, 2) := by decide +kernel
theorem dX6_meaning_79 : decode cX6_meaning 79 = .ok (.iinc 6 1, 3) := by decide +kernel
theorem dX6_meaning_82 : decode cX6_meaning 82 = .ok (.goto (-19), 3) := by decide +kernel
theorem dX6_meaning_85 : decode cX6_meaning 85 = .ok (.iload_n 0, 1) := by decide +kernel
theorem dX6_meaning_86 : decode cX6_meaning 86 = .ok (.iconst 1, 1) := by decide +kernel
theorem dX6_meaning_87 : decode cX6_meaning 87 = .ok (.if_icmp .ne 41, 3) := by decide +kernel
theorem dX6_meaning_90 : decode cX6_meaning 90 = .ok (.bipush 8, 2) := by decide +kernel
theorem dX6_meaning_92 : decode cX6_meaning 92 = .ok (.iload 4, 2) := by decide +kernel
theorem dX6_meaning_94 : decode cX6_meaning 94 = .ok (.imul, 1) := by decide +kernel
theorem dX6_meaning_95 : decode cX6_meaning 95 = .ok (.sipush 132, 3) := by decide +kernel
theorem dX6_meaning_98 : decode cX6_meaning 98 = .ok (.iadd, 1) := by decide +kernel
theorem dX6_meaning_99 : decode cX6_meaning 99 = .ok (.istore 5, 2) := by decide +kernel
theorem dX6_meaning_101 : decode cX6_meaning 101 = .ok (.iconst 0, 1) := by decide +kernel
theorem dX6_meaning_102 : decode cX6_meaning 102 = .ok (.istore 6, 2) := by decide +kernel
theorem dX6_meaning_104 : decode cX6_meaning 104 = .ok (.iload 6, 2) := by decide +kernel
theorem dX6_meaning_106 : decode cX6_meaning 106 = .ok (.iload_n 3, 1) := by decide +kernel
theorem dX6_meaning_107 : decode cX6_meaning 107 = .ok (.if_icmp .ge 15, 3) := by decide +kernel
theorem dX6_meaning_110 : decode cX6_meaning 110 = .ok (.iconst 2, 1) := by decide +kernel
theorem dX6_meaning_111 : decode cX6_meaning 111 = .ok (.iload 5, 2) := by decide +kernel
theorem dX6_meaning_113 : decode cX6_meaning 113 = .ok (.imul, 1) := by decide +kernel
theorem dX6_meaning_114 : decode cX6_meaning 114 = .ok (.istore 5, 2) := by decide +kernel
theorem dX6_meaning_116 : decode cX6_meaning 116 = .ok (.iinc 6 1, 3) := by decide +kernel
theorem dX6_meaning_119 : decode cX6_meaning 119 = .ok (.goto (-15), 3) := by decide +kernel
theorem dX6_meaning_122 : decode cX6_meaning 122 = .ok (.iinc 5 (-132), 6) := by decide +kernel
theorem dX6_meaning_128 : decode cX6_meaning 128 = .ok (.iload_n 0, 1) := by decide +kernel
theorem dX6_meaning_129 : decode cX6_meaning 129 = .ok (.ifCond .ne 18, 3) := by decide +kernel
theorem dX6_meaning_132 : decode cX6_meaning 132 = .ok (.iload_n 2, 1) := by decide +kernel
theorem dX6_meaning_133 : decode cX6_meaning 133 = .ok (.sipush 128, 3) := by decide +kernel
theorem dX6_meaning_136 : decode cX6_meaning 136 = .ok (.if_icmp .ge 7, 3) := by decide +kernel
theorem dX6_meaning_139 : decode cX6_meaning 139 = .ok (.iconst 1, 1) := by decide +kernel
theorem dX6_meaning_140 : decode cX6_meaning 140 = .ok (.goto 18, 3) := by decide +kernel
theorem dX6_meaning_143 : decode cX6_meaning 143 = .ok (.iconst 0, 1) := by decide +kernel
theorem dX6_meaning_144 : decode cX6_meaning 144 = .ok (.goto 14, 3) := by decide +kernel
theorem dX6_meaning_147 : decode cX6_meaning 147 = .ok (.iload_n 2, 1) := by decide +kernel
theorem dX6_meaning_148 : decode cX6_meaning 148 = .ok (.bipush 127, 2) := by decide +kernel
theorem dX6_meaning_150 : decode cX6_meaning 150 = .ok (.if_icmp .le 7, 3) := by decide +kernel
theorem dX6_meaning_153 : decode cX6_meaning 153 = .ok (.iconst 1, 1) := by decide +kernel
theorem dX6_meaning_154 : decode cX6_meaning 154 = .ok (.goto 4, 3) := by decide +kernel
theorem dX6_meaning_157 : decode cX6_meaning 157 = .ok (.iconst 0, 1) := by decide +kernel
theorem dX6_meaning_158 : decode cX6_meaning 158 = .ok (.istore 6, 2) := by decide +kernel
theorem dX6_meaning_160 : decode cX6_meaning 160 = .ok (.iload 6, 2) := by decide +kernel
theorem dX6_meaning_162 : decode cX6_meaning 162 = .ok (.ifCond .eq 9, 3) := by decide +kernel
theorem dX6_meaning_165 : decode cX6_meaning 165 = .ok (.iload 5, 2) := by decide +kernel
theorem dX6_meaning_167 : decode cX6_meaning 167 = .ok (.ineg, 1) := by decide +kernel
theorem dX6_meaning_168 : decode cX6_meaning 168 = .ok (.goto 5, 3) := by decide +kernel
theorem dX6_meaning_171 : decode cX6_meaning 171 = .ok (.iload 5, 2) := by decide +kernel
theorem dX6_meaning_173 : decode cX6_meaning 173 = .ok (.ireturn, 1) := by decide +kernel
abbrev cX6_encode : ByteArray := prog_7_method_9_code
def yX6_encode : MethodName := ⟨RX6, "encode", "(II)I"⟩
theorem dX6_encode_0 : decode cX6_encode 0 = .ok (.aload_n 0, 1) := by decide +kernel
theorem dX6_encode_1 : decode cX6_encode 1 = .ok (.iconst 0, 1) := by decide +kernel
theorem dX6_encode_2 : decode cX6_encode 2 = .ok (.putfield 7, 3) := by decide +kernel
theorem dX6_encode_5 : decode cX6_encode 5 = .ok (.iload_n 1, 1) := by decide +kernel
theorem dX6_encode_6 : decode cX6_encode 6 = .ok (.iconst 2, 1) := by decide +kernel
theorem dX6_encode_7 : decode cX6_encode 7 = .ok (.invokestatic 52, 3) := by decide +kernel
theorem dX6_encode_10 : decode cX6_encode 10 = .ok (.ifCond .eq 7, 3) := by decide +kernel
theorem dX6_encode_13 : decode cX6_encode 13 = .ok (.iconst (-1), 1) := by decide +kernel
theorem dX6_encode_14 : decode cX6_encode 14 = .ok (.goto 12, 3) := by decide +kernel
theorem dX6_encode_17 : decode cX6_encode 17 = .ok (.iload_n 1, 1) := by decide +kernel
theorem dX6_encode_18 : decode cX6_encode 18 = .ok (.iload_n 2, 1) := by decide +kernel
theorem dX6_encode_19 : decode cX6_encode 19 = .ok (.i2l, 1) := by decide +kernel
theorem dX6_encode_20 : decode cX6_encode 20 = .ok (.invokestatic 48, 3) := by decide +kernel
theorem dX6_encode_23 : decode cX6_encode 23 = .ok (.invokestatic 40, 3) := by decide +kernel
theorem dX6_encode_26 : decode cX6_encode 26 = .ok (.ireturn, 1) := by decide +kernel
abbrev cX6_held : ByteArray := prog_7_method_3_code
def yX6_held : MethodName := ⟨RX6, "held", "(J)I"⟩
theorem dX6_held_0 : decode cX6_held 0 = .ok (.lload_n 0, 1) := by decide +kernel
theorem dX6_held_1 : decode cX6_held 1 = .ok (.ldc2_w 44, 3) := by decide +kernel
theorem dX6_held_4 : decode cX6_held 4 = .ok (.lcmp, 1) := by decide +kernel
theorem dX6_held_5 : decode cX6_held 5 = .ok (.ifCond .le 9, 3) := by decide +kernel
theorem dX6_held_8 : decode cX6_held 8 = .ok (.sipush 32767, 3) := by decide +kernel
theorem dX6_held_11 : decode cX6_held 11 = .ok (.goto 19, 3) := by decide +kernel
theorem dX6_held_14 : decode cX6_held 14 = .ok (.lload_n 0, 1) := by decide +kernel
theorem dX6_held_15 : decode cX6_held 15 = .ok (.ldc2_w 46, 3) := by decide +kernel
theorem dX6_held_18 : decode cX6_held 18 = .ok (.lcmp, 1) := by decide +kernel
theorem dX6_held_19 : decode cX6_held 19 = .ok (.ifCond .ge 9, 3) := by decide +kernel
theorem dX6_held_22 : decode cX6_held 22 = .ok (.sipush (-32768), 3) := by decide +kernel
theorem dX6_held_25 : decode cX6_held 25 = .ok (.goto 5, 3) := by decide +kernel
theorem dX6_held_28 : decode cX6_held 28 = .ok (.lload_n 0, 1) := by decide +kernel
theorem dX6_held_29 : decode cX6_held 29 = .ok (.l2i, 1) := by decide +kernel
theorem dX6_held_30 : decode cX6_held 30 = .ok (.ireturn, 1) := by decide +kernel
abbrev cX6_law : ByteArray := prog_7_method_10_code
def yX6_law : MethodName := ⟨RX6, "law", "(II)Z"⟩
theorem dX6_law_0 : decode cX6_law 0 = .ok (.aload_n 0, 1) := by decide +kernel
theorem dX6_law_1 : decode cX6_law 1 = .ok (.iconst 0, 1) := by decide +kernel
theorem dX6_law_2 : decode cX6_law 2 = .ok (.putfield 7, 3) := by decide +kernel
theorem dX6_law_5 : decode cX6_law 5 = .ok (.iload_n 1, 1) := by decide +kernel
theorem dX6_law_6 : decode cX6_law 6 = .ok (.bipush 8, 2) := by decide +kernel
theorem dX6_law_8 : decode cX6_law 8 = .ok (.invokestatic 52, 3) := by decide +kernel
theorem dX6_law_11 : decode cX6_law 11 = .ok (.ifCond .ne 11, 3) := by decide +kernel
theorem dX6_law_14 : decode cX6_law 14 = .ok (.iload_n 2, 1) := by decide +kernel
theorem dX6_law_15 : decode cX6_law 15 = .ok (.iconst 2, 1) := by decide +kernel
theorem dX6_law_16 : decode cX6_law 16 = .ok (.invokestatic 52, 3) := by decide +kernel
theorem dX6_law_19 : decode cX6_law 19 = .ok (.ifCond .eq 5, 3) := by decide +kernel
theorem dX6_law_22 : decode cX6_law 22 = .ok (.iconst 0, 1) := by decide +kernel
theorem dX6_law_23 : decode cX6_law 23 = .ok (.ireturn, 1) := by decide +kernel
theorem dX6_law_24 : decode cX6_law 24 = .ok (.aload_n 0, 1) := by decide +kernel
theorem dX6_law_25 : decode cX6_law 25 = .ok (.getfield 13, 3) := by decide +kernel
theorem dX6_law_28 : decode cX6_law 28 = .ok (.iload_n 1, 1) := by decide +kernel
theorem dX6_law_29 : decode cX6_law 29 = .ok (.iload_n 2, 1) := by decide +kernel
theorem dX6_law_30 : decode cX6_law 30 = .ok (.iastore, 1) := by decide +kernel
theorem dX6_law_31 : decode cX6_law 31 = .ok (.iconst 1, 1) := by decide +kernel
theorem dX6_law_32 : decode cX6_law 32 = .ok (.ireturn, 1) := by decide +kernel
abbrev cX6_gain : ByteArray := prog_7_method_11_code
def yX6_gain : MethodName := ⟨RX6, "gain", "(II)Z"⟩
theorem dX6_gain_0 : decode cX6_gain 0 = .ok (.aload_n 0, 1) := by decide +kernel
theorem dX6_gain_1 : decode cX6_gain 1 = .ok (.iconst 0, 1) := by decide +kernel
theorem dX6_gain_2 : decode cX6_gain 2 = .ok (.putfield 7, 3) := by decide +kernel
theorem dX6_gain_5 : decode cX6_gain 5 = .ok (.iload_n 1, 1) := by decide +kernel
theorem dX6_gain_6 : decode cX6_gain 6 = .ok (.bipush 8, 2) := by decide +kernel
theorem dX6_gain_8 : decode cX6_gain 8 = .ok (.invokestatic 52, 3) := by decide +kernel
theorem dX6_gain_11 : decode cX6_gain 11 = .ok (.ifCond .ne 13, 3) := by decide +kernel
theorem dX6_gain_14 : decode cX6_gain 14 = .ok (.iload_n 2, 1) := by decide +kernel
theorem dX6_gain_15 : decode cX6_gain 15 = .ok (.sipush 1025, 3) := by decide +kernel
theorem dX6_gain_18 : decode cX6_gain 18 = .ok (.invokestatic 52, 3) := by decide +kernel
theorem dX6_gain_21 : decode cX6_gain 21 = .ok (.ifCond .eq 5, 3) := by decide +kernel
theorem dX6_gain_24 : decode cX6_gain 24 = .ok (.iconst 0, 1) := by decide +kernel
theorem dX6_gain_25 : decode cX6_gain 25 = .ok (.ireturn, 1) := by decide +kernel
theorem dX6_gain_26 : decode cX6_gain 26 = .ok (.aload_n 0, 1) := by decide +kernel
theorem dX6_gain_27 : decode cX6_gain 27 = .ok (.getfield 17, 3) := by decide +kernel
theorem dX6_gain_30 : decode cX6_gain 30 = .ok (.iload_n 1, 1) := by decide +kernel
theorem dX6_gain_31 : decode cX6_gain 31 = .ok (.iload_n 2, 1) := by decide +kernel
theorem dX6_gain_32 : decode cX6_gain 32 = .ok (.iastore, 1) := by decide +kernel
theorem dX6_gain_33 : decode cX6_gain 33 = .ok (.iconst 1, 1) := by decide +kernel
theorem dX6_gain_34 : decode cX6_gain 34 = .ok (.ireturn, 1) := by decide +kernel
abbrev cX6_mute : ByteArray := prog_7_method_12_code
def yX6_mute : MethodName := ⟨RX6, "mute", "(IZ)Z"⟩
theorem dX6_mute_0 : decode cX6_mute 0 = .ok (.aload_n 0, 1) := by decide +kernel
theorem dX6_mute_1 : decode cX6_mute 1 = .ok (.iconst 0, 1) := by decide +kernel
theorem dX6_mute_2 : decode cX6_mute 2 = .ok (.putfield 7, 3) := by decide +kernel
theorem dX6_mute_5 : decode cX6_mute 5 = .ok (.iload_n 1, 1) := by decide +kernel
theorem dX6_mute_6 : decode cX6_mute 6 = .ok (.bipush 8, 2) := by decide +kernel
theorem dX6_mute_8 : decode cX6_mute 8 = .ok (.invokestatic 52, 3) := by decide +kernel
theorem dX6_mute_11 : decode cX6_mute 11 = .ok (.ifCond .eq 5, 3) := by decide +kernel
theorem dX6_mute_14 : decode cX6_mute 14 = .ok (.iconst 0, 1) := by decide +kernel
theorem dX6_mute_15 : decode cX6_mute 15 = .ok (.ireturn, 1) := by decide +kernel
theorem dX6_mute_16 : decode cX6_mute 16 = .ok (.aload_n 0, 1) := by decide +kernel
theorem dX6_mute_17 : decode cX6_mute 17 = .ok (.getfield 20, 3) := by decide +kernel
theorem dX6_mute_20 : decode cX6_mute 20 = .ok (.iload_n 1, 1) := by decide +kernel
theorem dX6_mute_21 : decode cX6_mute 21 = .ok (.iload_n 2, 1) := by decide +kernel
theorem dX6_mute_22 : decode cX6_mute 22 = .ok (.bastore, 1) := by decide +kernel
theorem dX6_mute_23 : decode cX6_mute 23 = .ok (.iconst 1, 1) := by decide +kernel
theorem dX6_mute_24 : decode cX6_mute 24 = .ok (.ireturn, 1) := by decide +kernel
abbrev cX6_speakers : ByteArray := prog_7_method_13_code
def yX6_speakers : MethodName := ⟨RX6, "speakers", "(I)Z"⟩
theorem dX6_speakers_0 : decode cX6_speakers 0 = .ok (.aload_n 0, 1) := by decide +kernel
theorem dX6_speakers_1 : decode cX6_speakers 1 = .ok (.iconst 0, 1) := by decide +kernel
theorem dX6_speakers_2 : decode cX6_speakers 2 = .ok (.putfield 7, 3) := by decide +kernel
theorem dX6_speakers_5 : decode cX6_speakers 5 = .ok (.iload_n 1, 1) := by decide +kernel
theorem dX6_speakers_6 : decode cX6_speakers 6 = .ok (.iconst 1, 1) := by decide +kernel
theorem dX6_speakers_7 : decode cX6_speakers 7 = .ok (.if_icmp .lt 9, 3) := by decide +kernel
theorem dX6_speakers_10 : decode cX6_speakers 10 = .ok (.iload_n 1, 1) := by decide +kernel
theorem dX6_speakers_11 : decode cX6_speakers 11 = .ok (.bipush 8, 2) := by decide +kernel
theorem dX6_speakers_13 : decode cX6_speakers 13 = .ok (.if_icmp .le 5, 3) := by decide +kernel
theorem dX6_speakers_16 : decode cX6_speakers 16 = .ok (.iconst 0, 1) := by decide +kernel
theorem dX6_speakers_17 : decode cX6_speakers 17 = .ok (.ireturn, 1) := by decide +kernel
theorem dX6_speakers_18 : decode cX6_speakers 18 = .ok (.aload_n 0, 1) := by decide +kernel
theorem dX6_speakers_19 : decode cX6_speakers 19 = .ok (.iload_n 1, 1) := by decide +kernel
theorem dX6_speakers_20 : decode cX6_speakers 20 = .ok (.putfield 37, 3) := by decide +kernel
theorem dX6_speakers_23 : decode cX6_speakers 23 = .ok (.iconst 1, 1) := by decide +kernel
theorem dX6_speakers_24 : decode cX6_speakers 24 = .ok (.ireturn, 1) := by decide +kernel
abbrev cX6_put : ByteArray := prog_7_method_14_code
def yX6_put : MethodName := ⟨RX6, "put", "(III)Z"⟩
theorem dX6_put_0 : decode cX6_put 0 = .ok (.aload_n 0, 1) := by decide +kernel
theorem dX6_put_1 : decode cX6_put 1 = .ok (.iconst 0, 1) := by decide +kernel
theorem dX6_put_2 : decode cX6_put 2 = .ok (.putfield 7, 3) := by decide +kernel
theorem dX6_put_5 : decode cX6_put 5 = .ok (.iload_n 1, 1) := by decide +kernel
theorem dX6_put_6 : decode cX6_put 6 = .ok (.bipush 8, 2) := by decide +kernel
theorem dX6_put_8 : decode cX6_put 8 = .ok (.invokestatic 52, 3) := by decide +kernel
theorem dX6_put_11 : decode cX6_put 11 = .ok (.ifCond .ne 12, 3) := by decide +kernel
theorem dX6_put_14 : decode cX6_put 14 = .ok (.iload_n 2, 1) := by decide +kernel
theorem dX6_put_15 : decode cX6_put 15 = .ok (.bipush 8, 2) := by decide +kernel
theorem dX6_put_17 : decode cX6_put 17 = .ok (.invokestatic 52, 3) := by decide +kernel
theorem dX6_put_20 : decode cX6_put 20 = .ok (.ifCond .eq 5, 3) := by decide +kernel
theorem dX6_put_23 : decode cX6_put 23 = .ok (.iconst 0, 1) := by decide +kernel
theorem dX6_put_24 : decode cX6_put 24 = .ok (.ireturn, 1) := by decide +kernel
theorem dX6_put_25 : decode cX6_put 25 = .ok (.aload_n 0, 1) := by decide +kernel
theorem dX6_put_26 : decode cX6_put 26 = .ok (.getfield 24, 3) := by decide +kernel
theorem dX6_put_29 : decode cX6_put 29 = .ok (.bipush 8, 2) := by decide +kernel
theorem dX6_put_31 : decode cX6_put 31 = .ok (.iload_n 1, 1) := by decide +kernel
theorem dX6_put_32 : decode cX6_put 32 = .ok (.imul, 1) := by decide +kernel
theorem dX6_put_33 : decode cX6_put 33 = .ok (.iload_n 2, 1) := by decide +kernel
theorem dX6_put_34 : decode cX6_put 34 = .ok (.iadd, 1) := by decide +kernel
theorem dX6_put_35 : decode cX6_put 35 = .ok (.iload_n 3, 1) := by decide +kernel
theorem dX6_put_36 : decode cX6_put 36 = .ok (.sipush 255, 3) := by decide +kernel
theorem dX6_put_39 : decode cX6_put 39 = .ok (.iand, 1) := by decide +kernel
theorem dX6_put_40 : decode cX6_put 40 = .ok (.iastore, 1) := by decide +kernel
theorem dX6_put_41 : decode cX6_put 41 = .ok (.iconst 1, 1) := by decide +kernel
theorem dX6_put_42 : decode cX6_put 42 = .ok (.ireturn, 1) := by decide +kernel
abbrev cX6_ramp : ByteArray := prog_7_method_15_code
def yX6_ramp : MethodName := ⟨RX6, "ramp", "(III)Z"⟩
theorem dX6_ramp_0 : decode cX6_ramp 0 = .ok (.aload_n 0, 1) := by decide +kernel
theorem dX6_ramp_1 : decode cX6_ramp 1 = .ok (.iconst 0, 1) := by decide +kernel
theorem dX6_ramp_2 : decode cX6_ramp 2 = .ok (.putfield 7, 3) := by decide +kernel
theorem dX6_ramp_5 : decode cX6_ramp 5 = .ok (.iload_n 1, 1) := by decide +kernel
theorem dX6_ramp_6 : decode cX6_ramp 6 = .ok (.bipush 8, 2) := by decide +kernel
theorem dX6_ramp_8 : decode cX6_ramp 8 = .ok (.invokestatic 52, 3) := by decide +kernel
theorem dX6_ramp_11 : decode cX6_ramp 11 = .ok (.ifCond .eq 5, 3) := by decide +kernel
theorem dX6_ramp_14 : decode cX6_ramp 14 = .ok (.iconst 0, 1) := by decide +kernel
theorem dX6_ramp_15 : decode cX6_ramp 15 = .ok (.ireturn, 1) := by decide +kernel
theorem dX6_ramp_16 : decode cX6_ramp 16 = .ok (.iconst 0, 1) := by decide +kernel
theorem dX6_ramp_17 : decode cX6_ramp 17 = .ok (.istore 4, 2) := by decide +kernel
theorem dX6_ramp_19 : decode cX6_ramp 19 = .ok (.iload 4, 2) := by decide +kernel
theorem dX6_ramp_21 : decode cX6_ramp 21 = .ok (.bipush 8, 2) := by decide +kernel
theorem dX6_ramp_23 : decode cX6_ramp 23 = .ok (.if_icmp .ge 42, 3) := by decide +kernel
theorem dX6_ramp_26 : decode cX6_ramp 26 = .ok (.aload_n 0, 1) := by decide +kernel
theorem dX6_ramp_27 : decode cX6_ramp 27 = .ok (.getfield 24, 3) := by decide +kernel
theorem dX6_ramp_30 : decode cX6_ramp 30 = .ok (.bipush 8, 2) := by decide +kernel
theorem dX6_ramp_32 : decode cX6_ramp 32 = .ok (.iload_n 1, 1) := by decide +kernel
theorem dX6_ramp_33 : decode cX6_ramp 33 = .ok (.imul, 1) := by decide +kernel
theorem dX6_ramp_34 : decode cX6_ramp 34 = .ok (.iload 4, 2) := by decide +kernel
theorem dX6_ramp_36 : decode cX6_ramp 36 = .ok (.iadd, 1) := by decide +kernel
theorem dX6_ramp_37 : decode cX6_ramp 37 = .ok (.aload_n 0, 1) := by decide +kernel
theorem dX6_ramp_38 : decode cX6_ramp 38 = .ok (.getfield 13, 3) := by decide +kernel
theorem dX6_ramp_41 : decode cX6_ramp 41 = .ok (.iload_n 1, 1) := by decide +kernel
theorem dX6_ramp_42 : decode cX6_ramp 42 = .ok (.iaload, 1) := by decide +kernel
theorem dX6_ramp_43 : decode cX6_ramp 43 = .ok (.iload_n 2, 1) := by decide +kernel
theorem dX6_ramp_44 : decode cX6_ramp 44 = .ok (.i2l, 1) := by decide +kernel
theorem dX6_ramp_45 : decode cX6_ramp 45 = .ok (.iload 4, 2) := by decide +kernel
theorem dX6_ramp_47 : decode cX6_ramp 47 = .ok (.i2l, 1) := by decide +kernel
theorem dX6_ramp_48 : decode cX6_ramp 48 = .ok (.iload_n 3, 1) := by decide +kernel
theorem dX6_ramp_49 : decode cX6_ramp 49 = .ok (.i2l, 1) := by decide +kernel
theorem dX6_ramp_50 : decode cX6_ramp 50 = .ok (.lmul, 1) := by decide +kernel
theorem dX6_ramp_51 : decode cX6_ramp 51 = .ok (.ladd, 1) := by decide +kernel
theorem dX6_ramp_52 : decode cX6_ramp 52 = .ok (.invokestatic 48, 3) := by decide +kernel
theorem dX6_ramp_55 : decode cX6_ramp 55 = .ok (.invokestatic 40, 3) := by decide +kernel
theorem dX6_ramp_58 : decode cX6_ramp 58 = .ok (.iastore, 1) := by decide +kernel
theorem dX6_ramp_59 : decode cX6_ramp 59 = .ok (.iinc 4 1, 3) := by decide +kernel
theorem dX6_ramp_62 : decode cX6_ramp 62 = .ok (.goto (-43), 3) := by decide +kernel
theorem dX6_ramp_65 : decode cX6_ramp 65 = .ok (.iconst 1, 1) := by decide +kernel
theorem dX6_ramp_66 : decode cX6_ramp 66 = .ok (.ireturn, 1) := by decide +kernel
abbrev cX6_mix : ByteArray := prog_7_method_16_code
def yX6_mix : MethodName := ⟨RX6, "mix", "()I"⟩
theorem dX6_mix_0 : decode cX6_mix 0 = .ok (.aload_n 0, 1) := by decide +kernel
theorem dX6_mix_1 : decode cX6_mix 1 = .ok (.iconst 0, 1) := by decide +kernel
theorem dX6_mix_2 : decode cX6_mix 2 = .ok (.putfield 7, 3) := by decide +kernel
theorem dX6_mix_5 : decode cX6_mix 5 = .ok (.iconst 0, 1) := by decide +kernel
theorem dX6_mix_6 : decode cX6_mix 6 = .ok (.istore_n 1, 1) := by decide +kernel
theorem dX6_mix_7 : decode cX6_mix 7 = .ok (.iload_n 1, 1) := by decide +kernel
theorem dX6_mix_8 : decode cX6_mix 8 = .ok (.bipush 8, 2) := by decide +kernel
theorem dX6_mix_10 : decode cX6_mix 10 = .ok (.if_icmp .ge 90, 3) := by decide +kernel
theorem dX6_mix_13 : decode cX6_mix 13 = .ok (.aload_n 0, 1) := by decide +kernel
theorem dX6_mix_14 : decode cX6_mix 14 = .ok (.getfield 33, 3) := by decide +kernel
theorem dX6_mix_17 : decode cX6_mix 17 = .ok (.iload_n 1, 1) := by decide +kernel
theorem dX6_mix_18 : decode cX6_mix 18 = .ok (.lconst 0, 1) := by decide +kernel
theorem dX6_mix_19 : decode cX6_mix 19 = .ok (.lastore, 1) := by decide +kernel
theorem dX6_mix_20 : decode cX6_mix 20 = .ok (.iconst 0, 1) := by decide +kernel
theorem dX6_mix_21 : decode cX6_mix 21 = .ok (.istore_n 2, 1) := by decide +kernel
theorem dX6_mix_22 : decode cX6_mix 22 = .ok (.iload_n 2, 1) := by decide +kernel
theorem dX6_mix_23 : decode cX6_mix 23 = .ok (.bipush 8, 2) := by decide +kernel
theorem dX6_mix_25 : decode cX6_mix 25 = .ok (.if_icmp .ge 69, 3) := by decide +kernel
theorem dX6_mix_28 : decode cX6_mix 28 = .ok (.aload_n 0, 1) := by decide +kernel
theorem dX6_mix_29 : decode cX6_mix 29 = .ok (.getfield 13, 3) := by decide +kernel
theorem dX6_mix_32 : decode cX6_mix 32 = .ok (.iload_n 1, 1) := by decide +kernel
theorem dX6_mix_33 : decode cX6_mix 33 = .ok (.iaload, 1) := by decide +kernel
theorem dX6_mix_34 : decode cX6_mix 34 = .ok (.aload_n 0, 1) := by decide +kernel
theorem dX6_mix_35 : decode cX6_mix 35 = .ok (.getfield 24, 3) := by decide +kernel
theorem dX6_mix_38 : decode cX6_mix 38 = .ok (.bipush 8, 2) := by decide +kernel
theorem dX6_mix_40 : decode cX6_mix 40 = .ok (.iload_n 1, 1) := by decide +kernel
theorem dX6_mix_41 : decode cX6_mix 41 = .ok (.imul, 1) := by decide +kernel
theorem dX6_mix_42 : decode cX6_mix 42 = .ok (.iload_n 2, 1) := by decide +kernel
theorem dX6_mix_43 : decode cX6_mix 43 = .ok (.iadd, 1) := by decide +kernel
theorem dX6_mix_44 : decode cX6_mix 44 = .ok (.iaload, 1) := by decide +kernel
theorem dX6_mix_45 : decode cX6_mix 45 = .ok (.invokestatic 56, 3) := by decide +kernel
theorem dX6_mix_48 : decode cX6_mix 48 = .ok (.aload_n 0, 1) := by decide +kernel
theorem dX6_mix_49 : decode cX6_mix 49 = .ok (.getfield 17, 3) := by decide +kernel
theorem dX6_mix_52 : decode cX6_mix 52 = .ok (.iload_n 1, 1) := by decide +kernel
theorem dX6_mix_53 : decode cX6_mix 53 = .ok (.iaload, 1) := by decide +kernel
theorem dX6_mix_54 : decode cX6_mix 54 = .ok (.invokestatic 59, 3) := by decide +kernel
theorem dX6_mix_57 : decode cX6_mix 57 = .ok (.istore_n 3, 1) := by decide +kernel
theorem dX6_mix_58 : decode cX6_mix 58 = .ok (.aload_n 0, 1) := by decide +kernel
theorem dX6_mix_59 : decode cX6_mix 59 = .ok (.getfield 30, 3) := by decide +kernel
theorem dX6_mix_62 : decode cX6_mix 62 = .ok (.bipush 8, 2) := by decide +kernel
theorem dX6_mix_64 : decode cX6_mix 64 = .ok (.iload_n 1, 1) := by decide +kernel
theorem dX6_mix_65 : decode cX6_mix 65 = .ok (.imul, 1) := by decide +kernel
theorem dX6_mix_66 : decode cX6_mix 66 = .ok (.iload_n 2, 1) := by decide +kernel
theorem dX6_mix_67 : decode cX6_mix 67 = .ok (.iadd, 1) := by decide +kernel
theorem dX6_mix_68 : decode cX6_mix 68 = .ok (.iload_n 3, 1) := by decide +kernel
theorem dX6_mix_69 : decode cX6_mix 69 = .ok (.iastore, 1) := by decide +kernel
theorem dX6_mix_70 : decode cX6_mix 70 = .ok (.aload_n 0, 1) := by decide +kernel
theorem dX6_mix_71 : decode cX6_mix 71 = .ok (.getfield 33, 3) := by decide +kernel
theorem dX6_mix_74 : decode cX6_mix 74 = .ok (.iload_n 1, 1) := by decide +kernel
theorem dX6_mix_75 : decode cX6_mix 75 = .ok (.aload_n 0, 1) := by decide +kernel
theorem dX6_mix_76 : decode cX6_mix 76 = .ok (.getfield 33, 3) := by decide +kernel
theorem dX6_mix_79 : decode cX6_mix 79 = .ok (.iload_n 1, 1) := by decide +kernel
theorem dX6_mix_80 : decode cX6_mix 80 = .ok (.laload, 1) := by decide +kernel
theorem dX6_mix_81 : decode cX6_mix 81 = .ok (.iload_n 3, 1) := by decide +kernel
theorem dX6_mix_82 : decode cX6_mix 82 = .ok (.i2l, 1) := by decide +kernel
theorem dX6_mix_83 : decode cX6_mix 83 = .ok (.iload_n 3, 1) := by decide +kernel
theorem dX6_mix_84 : decode cX6_mix 84 = .ok (.i2l, 1) := by decide +kernel
theorem dX6_mix_85 : decode cX6_mix 85 = .ok (.lmul, 1) := by decide +kernel
theorem dX6_mix_86 : decode cX6_mix 86 = .ok (.ladd, 1) := by decide +kernel
theorem dX6_mix_87 : decode cX6_mix 87 = .ok (.lastore, 1) := by decide +kernel
theorem dX6_mix_88 : decode cX6_mix 88 = .ok (.iinc 2 1, 3) := by decide +kernel
theorem dX6_mix_91 : decode cX6_mix 91 = .ok (.goto (-69), 3) := by decide +kernel
theorem dX6_mix_94 : decode cX6_mix 94 = .ok (.iinc 1 1, 3) := by decide +kernel
theorem dX6_mix_97 : decode cX6_mix 97 = .ok (.goto (-90), 3) := by decide +kernel
theorem dX6_mix_100 : decode cX6_mix 100 = .ok (.iconst 0, 1) := by decide +kernel
theorem dX6_mix_101 : decode cX6_mix 101 = .ok (.istore_n 1, 1) := by decide +kernel
theorem dX6_mix_102 : decode cX6_mix 102 = .ok (.iconst 0, 1) := by decide +kernel
theorem dX6_mix_103 : decode cX6_mix 103 = .ok (.istore_n 2, 1) := by decide +kernel
theorem dX6_mix_104 : decode cX6_mix 104 = .ok (.iload_n 2, 1) := by decide +kernel
theorem dX6_mix_105 : decode cX6_mix 105 = .ok (.aload_n 0, 1) := by decide +kernel
theorem dX6_mix_106 : decode cX6_mix 106 = .ok (.getfield 37, 3) := by decide +kernel
theorem dX6_mix_109 : decode cX6_mix 109 = .ok (.if_icmp .ge 104, 3) := by decide +kernel
theorem dX6_mix_112 : decode cX6_mix 112 = .ok (.iconst (-1), 1) := by decide +kernel
theorem dX6_mix_113 : decode cX6_mix 113 = .ok (.istore_n 3, 1) := by decide +kernel
theorem dX6_mix_114 : decode cX6_mix 114 = .ok (.iconst 0, 1) := by decide +kernel
theorem dX6_mix_115 : decode cX6_mix 115 = .ok (.istore 4, 2) := by decide +kernel
theorem dX6_mix_117 : decode cX6_mix 117 = .ok (.iload 4, 2) := by decide +kernel
theorem dX6_mix_119 : decode cX6_mix 119 = .ok (.bipush 8, 2) := by decide +kernel
theorem dX6_mix_121 : decode cX6_mix 121 = .ok (.if_icmp .ge 76, 3) := by decide +kernel
theorem dX6_mix_124 : decode cX6_mix 124 = .ok (.iload_n 1, 1) := by decide +kernel
theorem dX6_mix_125 : decode cX6_mix 125 = .ok (.iload 4, 2) := by decide +kernel
theorem dX6_mix_127 : decode cX6_mix 127 = .ok (.ishr, 1) := by decide +kernel
theorem dX6_mix_128 : decode cX6_mix 128 = .ok (.iconst 1, 1) := by decide +kernel
theorem dX6_mix_129 : decode cX6_mix 129 = .ok (.iand, 1) := by decide +kernel
theorem dX6_mix_130 : decode cX6_mix 130 = .ok (.ifCond .ne 29, 3) := by decide +kernel
theorem dX6_mix_133 : decode cX6_mix 133 = .ok (.aload_n 0, 1) := by decide +kernel
theorem dX6_mix_134 : decode cX6_mix 134 = .ok (.getfield 20, 3) := by decide +kernel
theorem dX6_mix_137 : decode cX6_mix 137 = .ok (.iload 4, 2) := by decide +kernel
theorem dX6_mix_139 : decode cX6_mix 139 = .ok (.baload, 1) := by decide +kernel
theorem dX6_mix_140 : decode cX6_mix 140 = .ok (.ifCond .ne 19, 3) := by decide +kernel
theorem dX6_mix_143 : decode cX6_mix 143 = .ok (.aload_n 0, 1) := by decide +kernel
theorem dX6_mix_144 : decode cX6_mix 144 = .ok (.getfield 33, 3) := by decide +kernel
theorem dX6_mix_147 : decode cX6_mix 147 = .ok (.iload 4, 2) := by decide +kernel
theorem dX6_mix_149 : decode cX6_mix 149 = .ok (.laload, 1) := by decide +kernel
theorem dX6_mix_150 : decode cX6_mix 150 = .ok (.lconst 0, 1) := by decide +kernel
theorem dX6_mix_151 : decode cX6_mix 151 = .ok (.lcmp, 1) := by decide +kernel
theorem dX6_mix_152 : decode cX6_mix 152 = .ok (.ifCond .le 7, 3) := by decide +kernel
theorem dX6_mix_155 : decode cX6_mix 155 = .ok (.iconst 1, 1) := by decide +kernel
theorem dX6_mix_156 : decode cX6_mix 156 = .ok (.goto 4, 3) := by decide +kernel
theorem dX6_mix_159 : decode cX6_mix 159 = .ok (.iconst 0, 1) := by decide +kernel
theorem dX6_mix_160 : decode cX6_mix 160 = .ok (.istore 5, 2) := by decide +kernel
theorem dX6_mix_162 : decode cX6_mix 162 = .ok (.iload 5, 2) := by decide +kernel
theorem dX6_mix_164 : decode cX6_mix 164 = .ok (.ifCond .eq 27, 3) := by decide +kernel
theorem dX6_mix_167 : decode cX6_mix 167 = .ok (.iload_n 3, 1) := by decide +kernel
theorem dX6_mix_168 : decode cX6_mix 168 = .ok (.ifCond .lt 20, 3) := by decide +kernel
theorem dX6_mix_171 : decode cX6_mix 171 = .ok (.aload_n 0, 1) := by decide +kernel
theorem dX6_mix_172 : decode cX6_mix 172 = .ok (.getfield 33, 3) := by decide +kernel
theorem dX6_mix_175 : decode cX6_mix 175 = .ok (.iload 4, 2) := by decide +kernel
theorem dX6_mix_177 : decode cX6_mix 177 = .ok (.laload, 1) := by decide +kernel
theorem dX6_mix_178 : decode cX6_mix 178 = .ok (.aload_n 0, 1) := by decide +kernel
theorem dX6_mix_179 : decode cX6_mix 179 = .ok (.getfield 33, 3) := by decide +kernel
theorem dX6_mix_182 : decode cX6_mix 182 = .ok (.iload_n 3, 1) := by decide +kernel
theorem dX6_mix_183 : decode cX6_mix 183 = .ok (.laload, 1) := by decide +kernel
theorem dX6_mix_184 : decode cX6_mix 184 = .ok (.lcmp, 1) := by decide +kernel
theorem dX6_mix_185 : decode cX6_mix 185 = .ok (.ifCond .le 6, 3) := by decide +kernel
theorem dX6_mix_188 : decode cX6_mix 188 = .ok (.iload 4, 2) := by decide +kernel
theorem dX6_mix_190 : decode cX6_mix 190 = .ok (.istore_n 3, 1) := by decide +kernel
theorem dX6_mix_191 : decode cX6_mix 191 = .ok (.iinc 4 1, 3) := by decide +kernel
theorem dX6_mix_194 : decode cX6_mix 194 = .ok (.goto (-77), 3) := by decide +kernel
theorem dX6_mix_197 : decode cX6_mix 197 = .ok (.iload_n 3, 1) := by decide +kernel
theorem dX6_mix_198 : decode cX6_mix 198 = .ok (.ifCond .lt 9, 3) := by decide +kernel
theorem dX6_mix_201 : decode cX6_mix 201 = .ok (.iload_n 1, 1) := by decide +kernel
theorem dX6_mix_202 : decode cX6_mix 202 = .ok (.iconst 1, 1) := by decide +kernel
theorem dX6_mix_203 : decode cX6_mix 203 = .ok (.iload_n 3, 1) := by decide +kernel
theorem dX6_mix_204 : decode cX6_mix 204 = .ok (.ishl, 1) := by decide +kernel
theorem dX6_mix_205 : decode cX6_mix 205 = .ok (.ior, 1) := by decide +kernel
theorem dX6_mix_206 : decode cX6_mix 206 = .ok (.istore_n 1, 1) := by decide +kernel
theorem dX6_mix_207 : decode cX6_mix 207 = .ok (.iinc 2 1, 3) := by decide +kernel
theorem dX6_mix_210 : decode cX6_mix 210 = .ok (.goto (-106), 3) := by decide +kernel
theorem dX6_mix_213 : decode cX6_mix 213 = .ok (.iconst 0, 1) := by decide +kernel
theorem dX6_mix_214 : decode cX6_mix 214 = .ok (.istore_n 2, 1) := by decide +kernel
theorem dX6_mix_215 : decode cX6_mix 215 = .ok (.iload_n 2, 1) := by decide +kernel
theorem dX6_mix_216 : decode cX6_mix 216 = .ok (.bipush 8, 2) := by decide +kernel
theorem dX6_mix_218 : decode cX6_mix 218 = .ok (.if_icmp .ge 105, 3) := by decide +kernel
theorem dX6_mix_221 : decode cX6_mix 221 = .ok (.iconst 0, 1) := by decide +kernel
theorem dX6_mix_222 : decode cX6_mix 222 = .ok (.istore_n 3, 1) := by decide +kernel
theorem dX6_mix_223 : decode cX6_mix 223 = .ok (.iload_n 3, 1) := by decide +kernel
theorem dX6_mix_224 : decode cX6_mix 224 = .ok (.bipush 8, 2) := by decide +kernel
theorem dX6_mix_226 : decode cX6_mix 226 = .ok (.if_icmp .ge 91, 3) := by decide +kernel
theorem dX6_mix_229 : decode cX6_mix 229 = .ok (.iconst 0, 1) := by decide +kernel
theorem dX6_mix_230 : decode cX6_mix 230 = .ok (.istore 4, 2) := by decide +kernel
theorem dX6_mix_232 : decode cX6_mix 232 = .ok (.iconst 0, 1) := by decide +kernel
theorem dX6_mix_233 : decode cX6_mix 233 = .ok (.istore 5, 2) := by decide +kernel
theorem dX6_mix_235 : decode cX6_mix 235 = .ok (.iload 5, 2) := by decide +kernel
theorem dX6_mix_237 : decode cX6_mix 237 = .ok (.bipush 8, 2) := by decide +kernel
theorem dX6_mix_239 : decode cX6_mix 239 = .ok (.if_icmp .ge 46, 3) := by decide +kernel
theorem dX6_mix_242 : decode cX6_mix 242 = .ok (.iload 4, 2) := by decide +kernel
theorem dX6_mix_244 : decode cX6_mix 244 = .ok (.iload 5, 2) := by decide +kernel
theorem dX6_mix_246 : decode cX6_mix 246 = .ok (.iload_n 2, 1) := by decide +kernel
theorem dX6_mix_247 : decode cX6_mix 247 = .ok (.if_icmp .eq 28, 3) := by decide +kernel
theorem dX6_mix_250 : decode cX6_mix 250 = .ok (.iload_n 1, 1) := by decide +kernel
theorem dX6_mix_251 : decode cX6_mix 251 = .ok (.iload 5, 2) := by decide +kernel
theorem dX6_mix_253 : decode cX6_mix 253 = .ok (.ishr, 1) := by decide +kernel
theorem dX6_mix_254 : decode cX6_mix 254 = .ok (.iconst 1, 1) := by decide +kernel
theorem dX6_mix_255 : decode cX6_mix 255 = .ok (.iand, 1) := by decide +kernel
theorem dX6_mix_256 : decode cX6_mix 256 = .ok (.iconst 1, 1) := by decide +kernel
theorem dX6_mix_257 : decode cX6_mix 257 = .ok (.if_icmp .ne 18, 3) := by decide +kernel
theorem dX6_mix_260 : decode cX6_mix 260 = .ok (.aload_n 0, 1) := by decide +kernel
theorem dX6_mix_261 : decode cX6_mix 261 = .ok (.getfield 30, 3) := by decide +kernel
theorem dX6_mix_264 : decode cX6_mix 264 = .ok (.bipush 8, 2) := by decide +kernel
theorem dX6_mix_266 : decode cX6_mix 266 = .ok (.iload 5, 2) := by decide +kernel
theorem dX6_mix_268 : decode cX6_mix 268 = .ok (.imul, 1) := by decide +kernel
theorem dX6_mix_269 : decode cX6_mix 269 = .ok (.iload_n 3, 1) := by decide +kernel
theorem dX6_mix_270 : decode cX6_mix 270 = .ok (.iadd, 1) := by decide +kernel
theorem dX6_mix_271 : decode cX6_mix 271 = .ok (.iaload, 1) := by decide +kernel
theorem dX6_mix_272 : decode cX6_mix 272 = .ok (.goto 4, 3) := by decide +kernel
theorem dX6_mix_275 : decode cX6_mix 275 = .ok (.iconst 0, 1) := by decide +kernel
theorem dX6_mix_276 : decode cX6_mix 276 = .ok (.iadd, 1) := by decide +kernel
theorem dX6_mix_277 : decode cX6_mix 277 = .ok (.istore 4, 2) := by decide +kernel
theorem dX6_mix_279 : decode cX6_mix 279 = .ok (.iinc 5 1, 3) := by decide +kernel
theorem dX6_mix_282 : decode cX6_mix 282 = .ok (.goto (-47), 3) := by decide +kernel
theorem dX6_mix_285 : decode cX6_mix 285 = .ok (.aload_n 0, 1) := by decide +kernel
theorem dX6_mix_286 : decode cX6_mix 286 = .ok (.getfield 27, 3) := by decide +kernel
theorem dX6_mix_289 : decode cX6_mix 289 = .ok (.bipush 8, 2) := by decide +kernel
theorem dX6_mix_291 : decode cX6_mix 291 = .ok (.iload_n 2, 1) := by decide +kernel
theorem dX6_mix_292 : decode cX6_mix 292 = .ok (.imul, 1) := by decide +kernel
theorem dX6_mix_293 : decode cX6_mix 293 = .ok (.iload_n 3, 1) := by decide +kernel
theorem dX6_mix_294 : decode cX6_mix 294 = .ok (.iadd, 1) := by decide +kernel
theorem dX6_mix_295 : decode cX6_mix 295 = .ok (.aload_n 0, 1) := by decide +kernel
theorem dX6_mix_296 : decode cX6_mix 296 = .ok (.getfield 13, 3) := by decide +kernel
theorem dX6_mix_299 : decode cX6_mix 299 = .ok (.iload_n 2, 1) := by decide +kernel
theorem dX6_mix_300 : decode cX6_mix 300 = .ok (.iaload, 1) := by decide +kernel
theorem dX6_mix_301 : decode cX6_mix 301 = .ok (.iload 4, 2) := by decide +kernel
theorem dX6_mix_303 : decode cX6_mix 303 = .ok (.i2l, 1) := by decide +kernel
theorem dX6_mix_304 : decode cX6_mix 304 = .ok (.invokestatic 48, 3) := by decide +kernel
theorem dX6_mix_307 : decode cX6_mix 307 = .ok (.invokestatic 40, 3) := by decide +kernel
theorem dX6_mix_310 : decode cX6_mix 310 = .ok (.iastore, 1) := by decide +kernel
theorem dX6_mix_311 : decode cX6_mix 311 = .ok (.iinc 3 1, 3) := by decide +kernel
theorem dX6_mix_314 : decode cX6_mix 314 = .ok (.goto (-91), 3) := by decide +kernel
theorem dX6_mix_317 : decode cX6_mix 317 = .ok (.iinc 2 1, 3) := by decide +kernel
theorem dX6_mix_320 : decode cX6_mix 320 = .ok (.goto (-105), 3) := by decide +kernel
theorem dX6_mix_323 : decode cX6_mix 323 = .ok (.iload_n 1, 1) := by decide +kernel
theorem dX6_mix_324 : decode cX6_mix 324 = .ok (.ireturn, 1) := by decide +kernel
abbrev cX6_scaled : ByteArray := prog_7_method_5_code
def yX6_scaled : MethodName := ⟨RX6, "scaled", "(II)I"⟩
theorem dX6_scaled_0 : decode cX6_scaled 0 = .ok (.iload_n 0, 1) := by decide +kernel
theorem dX6_scaled_1 : decode cX6_scaled 1 = .ok (.iload_n 1, 1) := by decide +kernel
theorem dX6_scaled_2 : decode cX6_scaled 2 = .ok (.imul, 1) := by decide +kernel
theorem dX6_scaled_3 : decode cX6_scaled 3 = .ok (.istore_n 2, 1) := by decide +kernel
theorem dX6_scaled_4 : decode cX6_scaled 4 = .ok (.iload_n 2, 1) := by decide +kernel
theorem dX6_scaled_5 : decode cX6_scaled 5 = .ok (.ifCond .ge 17, 3) := by decide +kernel
theorem dX6_scaled_8 : decode cX6_scaled 8 = .ok (.sipush 255, 3) := by decide +kernel
theorem dX6_scaled_11 : decode cX6_scaled 11 = .ok (.iload_n 2, 1) := by decide +kernel
theorem dX6_scaled_12 : decode cX6_scaled 12 = .ok (.isub, 1) := by decide +kernel
theorem dX6_scaled_13 : decode cX6_scaled 13 = .ok (.sipush 256, 3) := by decide +kernel
theorem dX6_scaled_16 : decode cX6_scaled 16 = .ok (.idiv, 1) := by decide +kernel
theorem dX6_scaled_17 : decode cX6_scaled 17 = .ok (.ineg, 1) := by decide +kernel
theorem dX6_scaled_18 : decode cX6_scaled 18 = .ok (.i2l, 1) := by decide +kernel
theorem dX6_scaled_19 : decode cX6_scaled 19 = .ok (.goto 9, 3) := by decide +kernel
theorem dX6_scaled_22 : decode cX6_scaled 22 = .ok (.iload_n 2, 1) := by decide +kernel
theorem dX6_scaled_23 : decode cX6_scaled 23 = .ok (.sipush 256, 3) := by decide +kernel
theorem dX6_scaled_26 : decode cX6_scaled 26 = .ok (.idiv, 1) := by decide +kernel
theorem dX6_scaled_27 : decode cX6_scaled 27 = .ok (.i2l, 1) := by decide +kernel
theorem dX6_scaled_28 : decode cX6_scaled 28 = .ok (.invokestatic 48, 3) := by decide +kernel
theorem dX6_scaled_31 : decode cX6_scaled 31 = .ok (.ireturn, 1) := by decide +kernel
abbrev cX6_out : ByteArray := prog_7_method_17_code
def yX6_out : MethodName := ⟨RX6, "out", "(II)I"⟩
theorem dX6_out_0 : decode cX6_out 0 = .ok (.aload_n 0, 1) := by decide +kernel
theorem dX6_out_1 : decode cX6_out 1 = .ok (.iconst 0, 1) := by decide +kernel
theorem dX6_out_2 : decode cX6_out 2 = .ok (.putfield 7, 3) := by decide +kernel
theorem dX6_out_5 : decode cX6_out 5 = .ok (.iload_n 1, 1) := by decide +kernel
theorem dX6_out_6 : decode cX6_out 6 = .ok (.bipush 8, 2) := by decide +kernel
theorem dX6_out_8 : decode cX6_out 8 = .ok (.invokestatic 52, 3) := by decide +kernel
theorem dX6_out_11 : decode cX6_out 11 = .ok (.ifCond .ne 12, 3) := by decide +kernel
theorem dX6_out_14 : decode cX6_out 14 = .ok (.iload_n 2, 1) := by decide +kernel
theorem dX6_out_15 : decode cX6_out 15 = .ok (.bipush 8, 2) := by decide +kernel
theorem dX6_out_17 : decode cX6_out 17 = .ok (.invokestatic 52, 3) := by decide +kernel
theorem dX6_out_20 : decode cX6_out 20 = .ok (.ifCond .eq 7, 3) := by decide +kernel
theorem dX6_out_23 : decode cX6_out 23 = .ok (.iconst (-1), 1) := by decide +kernel
theorem dX6_out_24 : decode cX6_out 24 = .ok (.goto 14, 3) := by decide +kernel
theorem dX6_out_27 : decode cX6_out 27 = .ok (.aload_n 0, 1) := by decide +kernel
theorem dX6_out_28 : decode cX6_out 28 = .ok (.getfield 27, 3) := by decide +kernel
theorem dX6_out_31 : decode cX6_out 31 = .ok (.bipush 8, 2) := by decide +kernel
theorem dX6_out_33 : decode cX6_out 33 = .ok (.iload_n 1, 1) := by decide +kernel
theorem dX6_out_34 : decode cX6_out 34 = .ok (.imul, 1) := by decide +kernel
theorem dX6_out_35 : decode cX6_out 35 = .ok (.iload_n 2, 1) := by decide +kernel
theorem dX6_out_36 : decode cX6_out 36 = .ok (.iadd, 1) := by decide +kernel
theorem dX6_out_37 : decode cX6_out 37 = .ok (.iaload, 1) := by decide +kernel
theorem dX6_out_38 : decode cX6_out 38 = .ok (.ireturn, 1) := by decide +kernel
abbrev cX6_energy : ByteArray := prog_7_method_18_code
def yX6_energy : MethodName := ⟨RX6, "energy", "(I)J"⟩
theorem dX6_energy_0 : decode cX6_energy 0 = .ok (.aload_n 0, 1) := by decide +kernel
theorem dX6_energy_1 : decode cX6_energy 1 = .ok (.iload_n 1, 1) := by decide +kernel
theorem dX6_energy_2 : decode cX6_energy 2 = .ok (.bipush 8, 2) := by decide +kernel
theorem dX6_energy_4 : decode cX6_energy 4 = .ok (.invokestatic 52, 3) := by decide +kernel
theorem dX6_energy_7 : decode cX6_energy 7 = .ok (.ifCond .eq 7, 3) := by decide +kernel
theorem dX6_energy_10 : decode cX6_energy 10 = .ok (.iconst 1, 1) := by decide +kernel
theorem dX6_energy_11 : decode cX6_energy 11 = .ok (.goto 4, 3) := by decide +kernel
theorem dX6_energy_14 : decode cX6_energy 14 = .ok (.iconst 0, 1) := by decide +kernel
theorem dX6_energy_15 : decode cX6_energy 15 = .ok (.putfield 7, 3) := by decide +kernel
theorem dX6_energy_18 : decode cX6_energy 18 = .ok (.aload_n 0, 1) := by decide +kernel
theorem dX6_energy_19 : decode cX6_energy 19 = .ok (.getfield 7, 3) := by decide +kernel
theorem dX6_energy_22 : decode cX6_energy 22 = .ok (.ifCond .eq 7, 3) := by decide +kernel
theorem dX6_energy_25 : decode cX6_energy 25 = .ok (.lconst 0, 1) := by decide +kernel
theorem dX6_energy_26 : decode cX6_energy 26 = .ok (.goto 9, 3) := by decide +kernel
theorem dX6_energy_29 : decode cX6_energy 29 = .ok (.aload_n 0, 1) := by decide +kernel
theorem dX6_energy_30 : decode cX6_energy 30 = .ok (.getfield 33, 3) := by decide +kernel
theorem dX6_energy_33 : decode cX6_energy 33 = .ok (.iload_n 1, 1) := by decide +kernel
theorem dX6_energy_34 : decode cX6_energy 34 = .ok (.laload, 1) := by decide +kernel
theorem dX6_energy_35 : decode cX6_energy 35 = .ok (.lreturn, 1) := by decide +kernel
theorem q10 : (Jvm.Cond.initialized "ConferenceBridgeModel") ∈ lw_all := lw_g (lw_at lw_m1 8 rfl) rfl
theorem q260 : (Jvm.Cond.instantiable "ConferenceBridgeModel" (9 : Nat)) ∈ lw_all := lw_g (lw_at lw_m2 18 rfl) rfl
theorem q262 : (Jvm.Cond.instanceMethod ({ cls := "ConferenceBridgeModel", name := "<init>", desc := "()V" } : Jvm.MethodName)) ∈ lw_all := lw_g (lw_at lw_m2 20 rfl) rfl
theorem q263 : (Jvm.Cond.code ({ cls := "ConferenceBridgeModel", name := "<init>", desc := "()V" } : Jvm.MethodName) prog_7_method_1_code (3 : Nat) (Option.none : Option Jvm.ClassFile.FieldType)) ∈ lw_all := lw_g (lw_at lw_m2 21 rfl) rfl
theorem q264 : (Jvm.Cond.methodLink "ConferenceBridgeModel" (1 : Nat) ({ cls := "java/lang/Object", name := "<init>", desc := "()V" } : Jvm.MethodName)) ∈ lw_all := lw_g (lw_at lw_m2 22 rfl) rfl
theorem q265 : (Jvm.Cond.methodLink "ConferenceBridgeModel" (40 : Nat) ({ cls := "ConferenceBridgeModel", name := "codeOf", desc := "(II)I" } : Jvm.MethodName)) ∈ lw_all := lw_g (lw_at lw_m2 23 rfl) rfl
theorem q266 : (Jvm.Cond.static ({ cls := "ConferenceBridgeModel", name := "codeOf", desc := "(II)I" } : Jvm.MethodName)) ∈ lw_all := lw_g (lw_at lw_m2 24 rfl) rfl
theorem q267 : (Jvm.Cond.code ({ cls := "ConferenceBridgeModel", name := "codeOf", desc := "(II)I" } : Jvm.MethodName) prog_7_method_4_code (4 : Nat) (Option.some Jvm.ClassFile.FieldType.int)) ∈ lw_all := lw_g (lw_at lw_m2 25 rfl) rfl
theorem q268 : (Jvm.Cond.fieldLink "ConferenceBridgeModel" (7 : Nat) "ConferenceBridgeModel" "thrownCode" "I") ∈ lw_all := lw_g (lw_at lw_m2 26 rfl) rfl
theorem q269 : (Jvm.Cond.fieldLink "ConferenceBridgeModel" (13 : Nat) "ConferenceBridgeModel" "law" "[I") ∈ lw_all := lw_g (lw_at lw_m2 27 rfl) rfl
theorem q270 : (Jvm.Cond.fieldLink "ConferenceBridgeModel" (17 : Nat) "ConferenceBridgeModel" "gain" "[I") ∈ lw_all := lw_g (lw_at lw_m2 28 rfl) rfl
theorem q271 : (Jvm.Cond.fieldLink "ConferenceBridgeModel" (20 : Nat) "ConferenceBridgeModel" "muted" "[Z") ∈ lw_all := lw_g (lw_at lw_m2 29 rfl) rfl
theorem q272 : (Jvm.Cond.fieldLink "ConferenceBridgeModel" (24 : Nat) "ConferenceBridgeModel" "in" "[I") ∈ lw_all := lw_g (lw_at lw_m2 30 rfl) rfl
theorem q273 : (Jvm.Cond.fieldLink "ConferenceBridgeModel" (27 : Nat) "ConferenceBridgeModel" "out" "[I") ∈ lw_all := lw_g (lw_at lw_m2 31 rfl) rfl
theorem q274 : (Jvm.Cond.fieldLink "ConferenceBridgeModel" (30 : Nat) "ConferenceBridgeModel" "sample" "[I") ∈ lw_all := lw_g (lw_at lw_m2 32 rfl) rfl
theorem q275 : (Jvm.Cond.fieldLink "ConferenceBridgeModel" (33 : Nat) "ConferenceBridgeModel" "energy" "[J") ∈ lw_all := lw_g (lw_at lw_m2 33 rfl) rfl
theorem q276 : (Jvm.Cond.fieldLink "ConferenceBridgeModel" (37 : Nat) "ConferenceBridgeModel" "most" "I") ∈ lw_all := lw_g (lw_at lw_m2 34 rfl) rfl
theorem q277 : (Jvm.Cond.lays "ConferenceBridgeModel" "ConferenceBridgeModel" "thrownCode" "I") ∈ lw_all := lw_g (lw_at lw_m2 35 rfl) rfl
theorem q278 : (Jvm.Cond.soleField "ConferenceBridgeModel" "thrownCode") ∈ lw_all := lw_g (lw_at lw_m2 36 rfl) rfl
theorem q279 : (Jvm.Cond.laysFinal "ConferenceBridgeModel" "ConferenceBridgeModel" "law" "[I") ∈ lw_all := lw_g (lw_at lw_m2 37 rfl) rfl
theorem q280 : (Jvm.Cond.soleField "ConferenceBridgeModel" "law") ∈ lw_all := lw_g (lw_at lw_m2 38 rfl) rfl
theorem q281 : (Jvm.Cond.laysFinal "ConferenceBridgeModel" "ConferenceBridgeModel" "gain" "[I") ∈ lw_all := lw_g (lw_at lw_m2 39 rfl) rfl
theorem q282 : (Jvm.Cond.soleField "ConferenceBridgeModel" "gain") ∈ lw_all := lw_g (lw_at lw_m2 40 rfl) rfl
theorem q283 : (Jvm.Cond.laysFinal "ConferenceBridgeModel" "ConferenceBridgeModel" "muted" "[Z") ∈ lw_all := lw_g (lw_at lw_m2 41 rfl) rfl
theorem q284 : (Jvm.Cond.soleField "ConferenceBridgeModel" "muted") ∈ lw_all := lw_g (lw_at lw_m2 42 rfl) rfl
theorem q285 : (Jvm.Cond.laysFinal "ConferenceBridgeModel" "ConferenceBridgeModel" "in" "[I") ∈ lw_all := lw_g (lw_at lw_m2 43 rfl) rfl
theorem q286 : (Jvm.Cond.soleField "ConferenceBridgeModel" "in") ∈ lw_all := lw_g (lw_at lw_m2 44 rfl) rfl
theorem q287 : (Jvm.Cond.laysFinal "ConferenceBridgeModel" "ConferenceBridgeModel" "out" "[I") ∈ lw_all := lw_g (lw_at lw_m2 45 rfl) rfl
theorem q288 : (Jvm.Cond.soleField "ConferenceBridgeModel" "out") ∈ lw_all := lw_g (lw_at lw_m2 46 rfl) rfl
theorem q289 : (Jvm.Cond.laysFinal "ConferenceBridgeModel" "ConferenceBridgeModel" "sample" "[I") ∈ lw_all := lw_g (lw_at lw_m2 47 rfl) rfl
theorem q290 : (Jvm.Cond.soleField "ConferenceBridgeModel" "sample") ∈ lw_all := lw_g (lw_at lw_m2 48 rfl) rfl
theorem q291 : (Jvm.Cond.laysFinal "ConferenceBridgeModel" "ConferenceBridgeModel" "energy" "[J") ∈ lw_all := lw_g (lw_at lw_m2 49 rfl) rfl
theorem q292 : (Jvm.Cond.soleField "ConferenceBridgeModel" "energy") ∈ lw_all := lw_g (lw_at lw_m2 50 rfl) rfl
theorem q293 : (Jvm.Cond.lays "ConferenceBridgeModel" "ConferenceBridgeModel" "most" "I") ∈ lw_all := lw_g (lw_at lw_m2 51 rfl) rfl
theorem q294 : (Jvm.Cond.soleField "ConferenceBridgeModel" "most") ∈ lw_all := lw_g (lw_at lw_m2 52 rfl) rfl
theorem q295 : (Jvm.Cond.superclass "ConferenceBridgeModel" "java/lang/Object") ∈ lw_all := lw_g (lw_at lw_m2 53 rfl) rfl
theorem q299 : (Jvm.Cond.instanceMethod ({ cls := "ConferenceBridgeModel", name := "thrown", desc := "()I" } : Jvm.MethodName)) ∈ lw_all := lw_g (lw_at lw_m2 57 rfl) rfl
theorem q300 : (Jvm.Cond.selects "ConferenceBridgeModel" ({ cls := "ConferenceBridgeModel", name := "thrown", desc := "()I" } : Jvm.MethodName) ({ cls := "ConferenceBridgeModel", name := "thrown", desc := "()I" } : Jvm.MethodName)) ∈ lw_all := lw_g (lw_at lw_m2 58 rfl) rfl
theorem q301 : (Jvm.Cond.code ({ cls := "ConferenceBridgeModel", name := "thrown", desc := "()I" } : Jvm.MethodName) prog_7_method_6_code (1 : Nat) (Option.some Jvm.ClassFile.FieldType.int)) ∈ lw_all := lw_g (lw_at lw_m2 59 rfl) rfl
theorem q303 : (Jvm.Cond.instanceMethod ({ cls := "ConferenceBridgeModel", name := "decode", desc := "(II)I" } : Jvm.MethodName)) ∈ lw_all := lw_g (lw_at lw_m2 61 rfl) rfl
theorem q304 : (Jvm.Cond.selects "ConferenceBridgeModel" ({ cls := "ConferenceBridgeModel", name := "decode", desc := "(II)I" } : Jvm.MethodName) ({ cls := "ConferenceBridgeModel", name := "decode", desc := "(II)I" } : Jvm.MethodName)) ∈ lw_all := lw_g (lw_at lw_m2 62 rfl) rfl
theorem q305 : (Jvm.Cond.code ({ cls := "ConferenceBridgeModel", name := "decode", desc := "(II)I" } : Jvm.MethodName) prog_7_method_8_code (3 : Nat) (Option.some Jvm.ClassFile.FieldType.int)) ∈ lw_all := lw_g (lw_at lw_m2 63 rfl) rfl
theorem q306 : (Jvm.Cond.methodLink "ConferenceBridgeModel" (52 : Nat) ({ cls := "ConferenceBridgeModel", name := "not", desc := "(II)Z" } : Jvm.MethodName)) ∈ lw_all := lw_g (lw_at lw_m2 64 rfl) rfl
theorem q307 : (Jvm.Cond.static ({ cls := "ConferenceBridgeModel", name := "not", desc := "(II)Z" } : Jvm.MethodName)) ∈ lw_all := lw_g (lw_at lw_m2 65 rfl) rfl
theorem q308 : (Jvm.Cond.code ({ cls := "ConferenceBridgeModel", name := "not", desc := "(II)Z" } : Jvm.MethodName) prog_7_method_7_code (2 : Nat) (Option.some Jvm.ClassFile.FieldType.boolean)) ∈ lw_all := lw_g (lw_at lw_m2 66 rfl) rfl
theorem q309 : (Jvm.Cond.methodLink "ConferenceBridgeModel" (56 : Nat) ({ cls := "ConferenceBridgeModel", name := "meaning", desc := "(II)I" } : Jvm.MethodName)) ∈ lw_all := lw_g (lw_at lw_m2 67 rfl) rfl
theorem q310 : (Jvm.Cond.static ({ cls := "ConferenceBridgeModel", name := "meaning", desc := "(II)I" } : Jvm.MethodName)) ∈ lw_all := lw_g (lw_at lw_m2 68 rfl) rfl
theorem q311 : (Jvm.Cond.code ({ cls := "ConferenceBridgeModel", name := "meaning", desc := "(II)I" } : Jvm.MethodName) prog_7_method_2_code (7 : Nat) (Option.some Jvm.ClassFile.FieldType.int)) ∈ lw_all := lw_g (lw_at lw_m2 69 rfl) rfl
theorem q313 : (Jvm.Cond.instanceMethod ({ cls := "ConferenceBridgeModel", name := "encode", desc := "(II)I" } : Jvm.MethodName)) ∈ lw_all := lw_g (lw_at lw_m2 71 rfl) rfl
theorem q314 : (Jvm.Cond.selects "ConferenceBridgeModel" ({ cls := "ConferenceBridgeModel", name := "encode", desc := "(II)I" } : Jvm.MethodName) ({ cls := "ConferenceBridgeModel", name := "encode", desc := "(II)I" } : Jvm.MethodName)) ∈ lw_all := lw_g (lw_at lw_m2 72 rfl) rfl
theorem q315 : (Jvm.Cond.code ({ cls := "ConferenceBridgeModel", name := "encode", desc := "(II)I" } : Jvm.MethodName) prog_7_method_9_code (3 : Nat) (Option.some Jvm.ClassFile.FieldType.int)) ∈ lw_all := lw_g (lw_at lw_m2 73 rfl) rfl
theorem q316 : (Jvm.Cond.methodLink "ConferenceBridgeModel" (48 : Nat) ({ cls := "ConferenceBridgeModel", name := "held", desc := "(J)I" } : Jvm.MethodName)) ∈ lw_all := lw_g (lw_at lw_m2 74 rfl) rfl
theorem q317 : (Jvm.Cond.static ({ cls := "ConferenceBridgeModel", name := "held", desc := "(J)I" } : Jvm.MethodName)) ∈ lw_all := lw_g (lw_at lw_m2 75 rfl) rfl
theorem q318 : (Jvm.Cond.code ({ cls := "ConferenceBridgeModel", name := "held", desc := "(J)I" } : Jvm.MethodName) prog_7_method_3_code (2 : Nat) (Option.some Jvm.ClassFile.FieldType.int)) ∈ lw_all := lw_g (lw_at lw_m2 76 rfl) rfl
theorem q319 : (Jvm.Cond.constantLong "ConferenceBridgeModel" (44 : Nat) (32767 : Int64)) ∈ lw_all := lw_g (lw_at lw_m2 77 rfl) rfl
theorem q320 : (Jvm.Cond.constantLong "ConferenceBridgeModel" (46 : Nat) (-32768 : Int64)) ∈ lw_all := lw_g (lw_at lw_m2 78 rfl) rfl
theorem q322 : (Jvm.Cond.instanceMethod ({ cls := "ConferenceBridgeModel", name := "law", desc := "(II)Z" } : Jvm.MethodName)) ∈ lw_all := lw_g (lw_at lw_m2 80 rfl) rfl
theorem q323 : (Jvm.Cond.selects "ConferenceBridgeModel" ({ cls := "ConferenceBridgeModel", name := "law", desc := "(II)Z" } : Jvm.MethodName) ({ cls := "ConferenceBridgeModel", name := "law", desc := "(II)Z" } : Jvm.MethodName)) ∈ lw_all := lw_g (lw_at lw_m2 81 rfl) rfl
theorem q324 : (Jvm.Cond.code ({ cls := "ConferenceBridgeModel", name := "law", desc := "(II)Z" } : Jvm.MethodName) prog_7_method_10_code (3 : Nat) (Option.some Jvm.ClassFile.FieldType.boolean)) ∈ lw_all := lw_g (lw_at lw_m2 82 rfl) rfl
theorem q326 : (Jvm.Cond.instanceMethod ({ cls := "ConferenceBridgeModel", name := "gain", desc := "(II)Z" } : Jvm.MethodName)) ∈ lw_all := lw_g (lw_at lw_m2 84 rfl) rfl
theorem q327 : (Jvm.Cond.selects "ConferenceBridgeModel" ({ cls := "ConferenceBridgeModel", name := "gain", desc := "(II)Z" } : Jvm.MethodName) ({ cls := "ConferenceBridgeModel", name := "gain", desc := "(II)Z" } : Jvm.MethodName)) ∈ lw_all := lw_g (lw_at lw_m2 85 rfl) rfl
theorem q328 : (Jvm.Cond.code ({ cls := "ConferenceBridgeModel", name := "gain", desc := "(II)Z" } : Jvm.MethodName) prog_7_method_11_code (3 : Nat) (Option.some Jvm.ClassFile.FieldType.boolean)) ∈ lw_all := lw_g (lw_at lw_m2 86 rfl) rfl
theorem q330 : (Jvm.Cond.instanceMethod ({ cls := "ConferenceBridgeModel", name := "mute", desc := "(IZ)Z" } : Jvm.MethodName)) ∈ lw_all := lw_g (lw_at lw_m2 88 rfl) rfl
theorem q331 : (Jvm.Cond.selects "ConferenceBridgeModel" ({ cls := "ConferenceBridgeModel", name := "mute", desc := "(IZ)Z" } : Jvm.MethodName) ({ cls := "ConferenceBridgeModel", name := "mute", desc := "(IZ)Z" } : Jvm.MethodName)) ∈ lw_all := lw_g (lw_at lw_m2 89 rfl) rfl
theorem q332 : (Jvm.Cond.code ({ cls := "ConferenceBridgeModel", name := "mute", desc := "(IZ)Z" } : Jvm.MethodName) prog_7_method_12_code (3 : Nat) (Option.some Jvm.ClassFile.FieldType.boolean)) ∈ lw_all := lw_g (lw_at lw_m2 90 rfl) rfl
theorem q334 : (Jvm.Cond.instanceMethod ({ cls := "ConferenceBridgeModel", name := "speakers", desc := "(I)Z" } : Jvm.MethodName)) ∈ lw_all := lw_g (lw_at lw_m2 92 rfl) rfl
theorem q335 : (Jvm.Cond.selects "ConferenceBridgeModel" ({ cls := "ConferenceBridgeModel", name := "speakers", desc := "(I)Z" } : Jvm.MethodName) ({ cls := "ConferenceBridgeModel", name := "speakers", desc := "(I)Z" } : Jvm.MethodName)) ∈ lw_all := lw_g (lw_at lw_m2 93 rfl) rfl
theorem q336 : (Jvm.Cond.code ({ cls := "ConferenceBridgeModel", name := "speakers", desc := "(I)Z" } : Jvm.MethodName) prog_7_method_13_code (2 : Nat) (Option.some Jvm.ClassFile.FieldType.boolean)) ∈ lw_all := lw_g (lw_at lw_m2 94 rfl) rfl
theorem q338 : (Jvm.Cond.instanceMethod ({ cls := "ConferenceBridgeModel", name := "put", desc := "(III)Z" } : Jvm.MethodName)) ∈ lw_all := lw_g (lw_at lw_m2 96 rfl) rfl
theorem q339 : (Jvm.Cond.selects "ConferenceBridgeModel" ({ cls := "ConferenceBridgeModel", name := "put", desc := "(III)Z" } : Jvm.MethodName) ({ cls := "ConferenceBridgeModel", name := "put", desc := "(III)Z" } : Jvm.MethodName)) ∈ lw_all := lw_g (lw_at lw_m2 97 rfl) rfl
theorem q340 : (Jvm.Cond.code ({ cls := "ConferenceBridgeModel", name := "put", desc := "(III)Z" } : Jvm.MethodName) prog_7_method_14_code (4 : Nat) (Option.some Jvm.ClassFile.FieldType.boolean)) ∈ lw_all := lw_g (lw_at lw_m2 98 rfl) rfl
theorem q342 : (Jvm.Cond.instanceMethod ({ cls := "ConferenceBridgeModel", name := "ramp", desc := "(III)Z" } : Jvm.MethodName)) ∈ lw_all := lw_g (lw_at lw_m2 100 rfl) rfl
theorem q343 : (Jvm.Cond.selects "ConferenceBridgeModel" ({ cls := "ConferenceBridgeModel", name := "ramp", desc := "(III)Z" } : Jvm.MethodName) ({ cls := "ConferenceBridgeModel", name := "ramp", desc := "(III)Z" } : Jvm.MethodName)) ∈ lw_all := lw_g (lw_at lw_m2 101 rfl) rfl
theorem q344 : (Jvm.Cond.code ({ cls := "ConferenceBridgeModel", name := "ramp", desc := "(III)Z" } : Jvm.MethodName) prog_7_method_15_code (5 : Nat) (Option.some Jvm.ClassFile.FieldType.boolean)) ∈ lw_all := lw_g (lw_at lw_m2 102 rfl) rfl
theorem q346 : (Jvm.Cond.instanceMethod ({ cls := "ConferenceBridgeModel", name := "mix", desc := "()I" } : Jvm.MethodName)) ∈ lw_all := lw_g (lw_at lw_m2 104 rfl) rfl
theorem q347 : (Jvm.Cond.selects "ConferenceBridgeModel" ({ cls := "ConferenceBridgeModel", name := "mix", desc := "()I" } : Jvm.MethodName) ({ cls := "ConferenceBridgeModel", name := "mix", desc := "()I" } : Jvm.MethodName)) ∈ lw_all := lw_g (lw_at lw_m2 105 rfl) rfl
theorem q348 : (Jvm.Cond.code ({ cls := "ConferenceBridgeModel", name := "mix", desc := "()I" } : Jvm.MethodName) prog_7_method_16_code (6 : Nat) (Option.some Jvm.ClassFile.FieldType.int)) ∈ lw_all := lw_g (lw_at lw_m2 106 rfl) rfl
theorem q349 : (Jvm.Cond.methodLink "ConferenceBridgeModel" (59 : Nat) ({ cls := "ConferenceBridgeModel", name := "scaled", desc := "(II)I" } : Jvm.MethodName)) ∈ lw_all := lw_g (lw_at lw_m2 107 rfl) rfl
theorem q350 : (Jvm.Cond.static ({ cls := "ConferenceBridgeModel", name := "scaled", desc := "(II)I" } : Jvm.MethodName)) ∈ lw_all := lw_g (lw_at lw_m2 108 rfl) rfl
theorem q351 : (Jvm.Cond.code ({ cls := "ConferenceBridgeModel", name := "scaled", desc := "(II)I" } : Jvm.MethodName) prog_7_method_5_code (3 : Nat) (Option.some Jvm.ClassFile.FieldType.int)) ∈ lw_all := lw_g (lw_at lw_m2 109 rfl) rfl
theorem q353 : (Jvm.Cond.instanceMethod ({ cls := "ConferenceBridgeModel", name := "out", desc := "(II)I" } : Jvm.MethodName)) ∈ lw_all := lw_g (lw_at lw_m2 111 rfl) rfl
theorem q354 : (Jvm.Cond.selects "ConferenceBridgeModel" ({ cls := "ConferenceBridgeModel", name := "out", desc := "(II)I" } : Jvm.MethodName) ({ cls := "ConferenceBridgeModel", name := "out", desc := "(II)I" } : Jvm.MethodName)) ∈ lw_all := lw_g (lw_at lw_m2 112 rfl) rfl
theorem q355 : (Jvm.Cond.code ({ cls := "ConferenceBridgeModel", name := "out", desc := "(II)I" } : Jvm.MethodName) prog_7_method_17_code (3 : Nat) (Option.some Jvm.ClassFile.FieldType.int)) ∈ lw_all := lw_g (lw_at lw_m2 113 rfl) rfl
theorem q357 : (Jvm.Cond.instanceMethod ({ cls := "ConferenceBridgeModel", name := "energy", desc := "(I)J" } : Jvm.MethodName)) ∈ lw_all := lw_g (lw_at lw_m2 115 rfl) rfl
theorem q358 : (Jvm.Cond.selects "ConferenceBridgeModel" ({ cls := "ConferenceBridgeModel", name := "energy", desc := "(I)J" } : Jvm.MethodName) ({ cls := "ConferenceBridgeModel", name := "energy", desc := "(I)J" } : Jvm.MethodName)) ∈ lw_all := lw_g (lw_at lw_m2 116 rfl) rfl
theorem q359 : (Jvm.Cond.code ({ cls := "ConferenceBridgeModel", name := "energy", desc := "(I)J" } : Jvm.MethodName) prog_7_method_18_code (2 : Nat) (Option.some Jvm.ClassFile.FieldType.long)) ∈ lw_all := lw_g (lw_at lw_m2 117 rfl) rfl
theorem in_X6 : ∀ w ∈ wsX60, w ∈ lw_all := lw_in wsX60 [277, 279, 281, 283, 285, 287, 289, 291, 293] (by decide +kernel) (by decide +kernel)
end
section
/-! ConferenceBridgeLaw -/
set_option maxRecDepth 100000
def RX0 : String := "ConferenceBridgeLaw"
abbrev cX0_decode : ByteArray := method_3_code
def yX0_decode : MethodName := ⟨RX0, "decode", "(LConferenceBridge;II[J)I"⟩
theorem dX0_decode_0 : decode cX0_decode 0 = .ok (.aload_n 3, 1) := by decide +kernel
theorem dX0_decode_1 : decode cX0_decode 1 = .ok (.iconst 0, 1) := by decide +kernel
theorem dX0_decode_2 : decode cX0_decode 2 = .ok (.aload_n 0, 1) := by decide +kernel
theorem dX0_decode_3 : decode cX0_decode 3 = .ok (.iload_n 1, 1) := by decide +kernel
theorem dX0_decode_4 : decode cX0_decode 4 = .ok (.iload_n 2, 1) := by decide +kernel
theorem dX0_decode_5 : decode cX0_decode 5 = .ok (.invokevirtual 7, 3) := by decide +kernel
theorem dX0_decode_8 : decode cX0_decode 8 = .ok (.i2l, 1) := by decide +kernel
theorem dX0_decode_9 : decode cX0_decode 9 = .ok (.lastore, 1) := by decide +kernel
theorem dX0_decode_10 : decode cX0_decode 10 = .ok (.goto 7, 3) := by decide +kernel
theorem dX0_decode_13 : decode cX0_decode 13 = .ok (.astore 4, 2) := by decide +kernel
theorem dX0_decode_15 : decode cX0_decode 15 = .ok (.iconst 1, 1) := by decide +kernel
theorem dX0_decode_16 : decode cX0_decode 16 = .ok (.ireturn, 1) := by decide +kernel
theorem dX0_decode_17 : decode cX0_decode 17 = .ok (.iconst 0, 1) := by decide +kernel
theorem dX0_decode_18 : decode cX0_decode 18 = .ok (.ireturn, 1) := by decide +kernel
abbrev cX0_energy : ByteArray := method_4_code
def yX0_energy : MethodName := ⟨RX0, "energy", "(LConferenceBridge;I[J)I"⟩
theorem dX0_energy_0 : decode cX0_energy 0 = .ok (.aload_n 2, 1) := by decide +kernel
theorem dX0_energy_1 : decode cX0_energy 1 = .ok (.iconst 0, 1) := by decide +kernel
theorem dX0_energy_2 : decode cX0_energy 2 = .ok (.aload_n 0, 1) := by decide +kernel
theorem dX0_energy_3 : decode cX0_energy 3 = .ok (.iload_n 1, 1) := by decide +kernel
theorem dX0_energy_4 : decode cX0_energy 4 = .ok (.invokevirtual 15, 3) := by decide +kernel
theorem dX0_energy_7 : decode cX0_energy 7 = .ok (.lastore, 1) := by decide +kernel
theorem dX0_energy_8 : decode cX0_energy 8 = .ok (.goto 6, 3) := by decide +kernel
theorem dX0_energy_11 : decode cX0_energy 11 = .ok (.astore_n 3, 1) := by decide +kernel
theorem dX0_energy_12 : decode cX0_energy 12 = .ok (.iconst 1, 1) := by decide +kernel
theorem dX0_energy_13 : decode cX0_energy 13 = .ok (.ireturn, 1) := by decide +kernel
theorem dX0_energy_14 : decode cX0_energy 14 = .ok (.iconst 0, 1) := by decide +kernel
theorem dX0_energy_15 : decode cX0_energy 15 = .ok (.ireturn, 1) := by decide +kernel
theorem q2 : (Jvm.Cond.initialized "ConferenceBridgeLaw") ∈ lw_all := lw_g (lw_at lw_m1 0 rfl) rfl
theorem q15 : (Jvm.Cond.classLink "ConferenceBridgeLaw" (8 : Nat) "ConferenceBridge") ∈ lw_all := lw_g (lw_at lw_m1 13 rfl) rfl
theorem q17 : (Jvm.Cond.methodLink "ConferenceBridgeLaw" (19 : Nat) ({ cls := "ConferenceBridge", name := "<init>", desc := "()V" } : Jvm.MethodName)) ∈ lw_all := lw_g (lw_at lw_m1 15 rfl) rfl
theorem q114 : (Jvm.Cond.methodLink "ConferenceBridgeLaw" (33 : Nat) ({ cls := "ConferenceBridge", name := "encode", desc := "(II)I" } : Jvm.MethodName)) ∈ lw_all := lw_g (lw_at lw_m1 112 rfl) rfl
theorem q132 : (Jvm.Cond.methodLink "ConferenceBridgeLaw" (37 : Nat) ({ cls := "ConferenceBridge", name := "law", desc := "(II)Z" } : Jvm.MethodName)) ∈ lw_all := lw_g (lw_at lw_m1 130 rfl) rfl
theorem q136 : (Jvm.Cond.methodLink "ConferenceBridgeLaw" (42 : Nat) ({ cls := "ConferenceBridge", name := "gain", desc := "(II)Z" } : Jvm.MethodName)) ∈ lw_all := lw_g (lw_at lw_m1 134 rfl) rfl
theorem q140 : (Jvm.Cond.methodLink "ConferenceBridgeLaw" (46 : Nat) ({ cls := "ConferenceBridge", name := "mute", desc := "(IZ)Z" } : Jvm.MethodName)) ∈ lw_all := lw_g (lw_at lw_m1 138 rfl) rfl
theorem q144 : (Jvm.Cond.methodLink "ConferenceBridgeLaw" (51 : Nat) ({ cls := "ConferenceBridge", name := "speakers", desc := "(I)Z" } : Jvm.MethodName)) ∈ lw_all := lw_g (lw_at lw_m1 142 rfl) rfl
theorem q148 : (Jvm.Cond.methodLink "ConferenceBridgeLaw" (56 : Nat) ({ cls := "ConferenceBridge", name := "put", desc := "(III)Z" } : Jvm.MethodName)) ∈ lw_all := lw_g (lw_at lw_m1 146 rfl) rfl
theorem q152 : (Jvm.Cond.methodLink "ConferenceBridgeLaw" (61 : Nat) ({ cls := "ConferenceBridge", name := "ramp", desc := "(III)Z" } : Jvm.MethodName)) ∈ lw_all := lw_g (lw_at lw_m1 150 rfl) rfl
theorem q156 : (Jvm.Cond.methodLink "ConferenceBridgeLaw" (65 : Nat) ({ cls := "ConferenceBridge", name := "mix", desc := "()I" } : Jvm.MethodName)) ∈ lw_all := lw_g (lw_at lw_m1 154 rfl) rfl
theorem q179 : (Jvm.Cond.methodLink "ConferenceBridgeLaw" (69 : Nat) ({ cls := "ConferenceBridge", name := "out", desc := "(II)I" } : Jvm.MethodName)) ∈ lw_all := lw_g (lw_at lw_m1 177 rfl) rfl
theorem q183 : (Jvm.Cond.methodLink "ConferenceBridgeLaw" (23 : Nat) ({ cls := "ConferenceBridgeLaw", name := "decode", desc := "(LConferenceBridge;II[J)I" } : Jvm.MethodName)) ∈ lw_all := lw_g (lw_at lw_m1 181 rfl) rfl
theorem q184 : (Jvm.Cond.static ({ cls := "ConferenceBridgeLaw", name := "decode", desc := "(LConferenceBridge;II[J)I" } : Jvm.MethodName)) ∈ lw_all := lw_g (lw_at lw_m1 182 rfl) rfl
theorem q185 : (Jvm.Cond.codeWith ({ cls := "ConferenceBridgeLaw", name := "decode", desc := "(LConferenceBridge;II[J)I" } : Jvm.MethodName) method_3_code (5 : Nat) (Option.some Jvm.ClassFile.FieldType.int) [((0 : Nat), (10 : Nat), (13 : Nat), (13 : Nat))]) ∈ lw_all := lw_g (lw_at lw_m1 183 rfl) rfl
theorem q186 : (Jvm.Cond.classLink "ConferenceBridgeLaw" (13 : Nat) "java/util/NoSuchElementException") ∈ lw_all := lw_g (lw_at lw_m1 184 rfl) rfl
theorem q187 : (Jvm.Cond.methodLink "ConferenceBridgeLaw" (7 : Nat) ({ cls := "ConferenceBridge", name := "decode", desc := "(II)I" } : Jvm.MethodName)) ∈ lw_all := lw_g (lw_at lw_m1 185 rfl) rfl
theorem q252 : (Jvm.Cond.methodLink "ConferenceBridgeLaw" (73 : Nat) ({ cls := "ConferenceBridgeLaw", name := "energy", desc := "(LConferenceBridge;I[J)I" } : Jvm.MethodName)) ∈ lw_all := lw_g (lw_at lw_m2 10 rfl) rfl
theorem q253 : (Jvm.Cond.static ({ cls := "ConferenceBridgeLaw", name := "energy", desc := "(LConferenceBridge;I[J)I" } : Jvm.MethodName)) ∈ lw_all := lw_g (lw_at lw_m2 11 rfl) rfl
theorem q254 : (Jvm.Cond.codeWith ({ cls := "ConferenceBridgeLaw", name := "energy", desc := "(LConferenceBridge;I[J)I" } : Jvm.MethodName) method_4_code (4 : Nat) (Option.some Jvm.ClassFile.FieldType.int) [((0 : Nat), (8 : Nat), (11 : Nat), (13 : Nat))]) ∈ lw_all := lw_g (lw_at lw_m2 12 rfl) rfl
theorem q255 : (Jvm.Cond.methodLink "ConferenceBridgeLaw" (15 : Nat) ({ cls := "ConferenceBridge", name := "energy", desc := "(I)J" } : Jvm.MethodName)) ∈ lw_all := lw_g (lw_at lw_m2 13 rfl) rfl
theorem q259 : (Jvm.Cond.classLink "ConferenceBridgeLaw" (20 : Nat) "ConferenceBridgeModel") ∈ lw_all := lw_g (lw_at lw_m2 17 rfl) rfl
theorem q261 : (Jvm.Cond.methodLink "ConferenceBridgeLaw" (22 : Nat) ({ cls := "ConferenceBridgeModel", name := "<init>", desc := "()V" } : Jvm.MethodName)) ∈ lw_all := lw_g (lw_at lw_m2 19 rfl) rfl
theorem q298 : (Jvm.Cond.methodLink "ConferenceBridgeLaw" (29 : Nat) ({ cls := "ConferenceBridgeModel", name := "thrown", desc := "()I" } : Jvm.MethodName)) ∈ lw_all := lw_g (lw_at lw_m2 56 rfl) rfl
theorem q302 : (Jvm.Cond.methodLink "ConferenceBridgeLaw" (28 : Nat) ({ cls := "ConferenceBridgeModel", name := "decode", desc := "(II)I" } : Jvm.MethodName)) ∈ lw_all := lw_g (lw_at lw_m2 60 rfl) rfl
theorem q312 : (Jvm.Cond.methodLink "ConferenceBridgeLaw" (36 : Nat) ({ cls := "ConferenceBridgeModel", name := "encode", desc := "(II)I" } : Jvm.MethodName)) ∈ lw_all := lw_g (lw_at lw_m2 70 rfl) rfl
theorem q321 : (Jvm.Cond.methodLink "ConferenceBridgeLaw" (41 : Nat) ({ cls := "ConferenceBridgeModel", name := "law", desc := "(II)Z" } : Jvm.MethodName)) ∈ lw_all := lw_g (lw_at lw_m2 79 rfl) rfl
theorem q325 : (Jvm.Cond.methodLink "ConferenceBridgeLaw" (45 : Nat) ({ cls := "ConferenceBridgeModel", name := "gain", desc := "(II)Z" } : Jvm.MethodName)) ∈ lw_all := lw_g (lw_at lw_m2 83 rfl) rfl
theorem q329 : (Jvm.Cond.methodLink "ConferenceBridgeLaw" (50 : Nat) ({ cls := "ConferenceBridgeModel", name := "mute", desc := "(IZ)Z" } : Jvm.MethodName)) ∈ lw_all := lw_g (lw_at lw_m2 87 rfl) rfl
theorem q333 : (Jvm.Cond.methodLink "ConferenceBridgeLaw" (55 : Nat) ({ cls := "ConferenceBridgeModel", name := "speakers", desc := "(I)Z" } : Jvm.MethodName)) ∈ lw_all := lw_g (lw_at lw_m2 91 rfl) rfl
theorem q337 : (Jvm.Cond.methodLink "ConferenceBridgeLaw" (60 : Nat) ({ cls := "ConferenceBridgeModel", name := "put", desc := "(III)Z" } : Jvm.MethodName)) ∈ lw_all := lw_g (lw_at lw_m2 95 rfl) rfl
theorem q341 : (Jvm.Cond.methodLink "ConferenceBridgeLaw" (64 : Nat) ({ cls := "ConferenceBridgeModel", name := "ramp", desc := "(III)Z" } : Jvm.MethodName)) ∈ lw_all := lw_g (lw_at lw_m2 99 rfl) rfl
theorem q345 : (Jvm.Cond.methodLink "ConferenceBridgeLaw" (68 : Nat) ({ cls := "ConferenceBridgeModel", name := "mix", desc := "()I" } : Jvm.MethodName)) ∈ lw_all := lw_g (lw_at lw_m2 103 rfl) rfl
theorem q352 : (Jvm.Cond.methodLink "ConferenceBridgeLaw" (72 : Nat) ({ cls := "ConferenceBridgeModel", name := "out", desc := "(II)I" } : Jvm.MethodName)) ∈ lw_all := lw_g (lw_at lw_m2 110 rfl) rfl
theorem q356 : (Jvm.Cond.methodLink "ConferenceBridgeLaw" (76 : Nat) ({ cls := "ConferenceBridgeModel", name := "energy", desc := "(I)J" } : Jvm.MethodName)) ∈ lw_all := lw_g (lw_at lw_m2 114 rfl) rfl
/-! the law's own entry -/
set_option maxRecDepth 100000
abbrev cL_law : ByteArray := code
theorem dL_law_0 : decode cL_law 0 = .ok (.new 8, 3) := by decide +kernel
theorem dL_law_3 : decode cL_law 3 = .ok (.dup, 1) := by decide +kernel
theorem dL_law_4 : decode cL_law 4 = .ok (.invokespecial 19, 3) := by decide +kernel
theorem dL_law_7 : decode cL_law 7 = .ok (.astore_n 1, 1) := by decide +kernel
theorem dL_law_8 : decode cL_law 8 = .ok (.new 20, 3) := by decide +kernel
theorem dL_law_11 : decode cL_law 11 = .ok (.dup, 1) := by decide +kernel
theorem dL_law_12 : decode cL_law 12 = .ok (.invokespecial 22, 3) := by decide +kernel
theorem dL_law_15 : decode cL_law 15 = .ok (.astore_n 2, 1) := by decide +kernel
theorem dL_law_16 : decode cL_law 16 = .ok (.iconst 1, 1) := by decide +kernel
theorem dL_law_17 : decode cL_law 17 = .ok (.newarray .long, 2) := by decide +kernel
theorem dL_law_19 : decode cL_law 19 = .ok (.astore_n 3, 1) := by decide +kernel
theorem dL_law_20 : decode cL_law 20 = .ok (.iconst 0, 1) := by decide +kernel
theorem dL_law_21 : decode cL_law 21 = .ok (.istore 4, 2) := by decide +kernel
theorem dL_law_23 : decode cL_law 23 = .ok (.iload 4, 2) := by decide +kernel
theorem dL_law_25 : decode cL_law 25 = .ok (.aload_n 0, 1) := by decide +kernel
theorem dL_law_26 : decode cL_law 26 = .ok (.arraylength, 1) := by decide +kernel
theorem dL_law_27 : decode cL_law 27 = .ok (.iconst 4, 1) := by decide +kernel
theorem dL_law_28 : decode cL_law 28 = .ok (.isub, 1) := by decide +kernel
theorem dL_law_29 : decode cL_law 29 = .ok (.if_icmp .gt 533, 3) := by decide +kernel
theorem dL_law_32 : decode cL_law 32 = .ok (.aload_n 0, 1) := by decide +kernel
theorem dL_law_33 : decode cL_law 33 = .ok (.iload 4, 2) := by decide +kernel
theorem dL_law_35 : decode cL_law 35 = .ok (.iaload, 1) := by decide +kernel
theorem dL_law_36 : decode cL_law 36 = .ok (.bipush 15, 2) := by decide +kernel
theorem dL_law_38 : decode cL_law 38 = .ok (.iand, 1) := by decide +kernel
theorem dL_law_39 : decode cL_law 39 = .ok (.tableswitch 517 0 10 #[57, 125, 162, 199, 236, 289, 314, 363, 412, 425, 462], 57) := by decide +kernel
theorem dL_law_96 : decode cL_law 96 = .ok (.aload_n 1, 1) := by decide +kernel
theorem dL_law_97 : decode cL_law 97 = .ok (.aload_n 0, 1) := by decide +kernel
theorem dL_law_98 : decode cL_law 98 = .ok (.iload 4, 2) := by decide +kernel
theorem dL_law_100 : decode cL_law 100 = .ok (.iconst 1, 1) := by decide +kernel
theorem dL_law_101 : decode cL_law 101 = .ok (.iadd, 1) := by decide +kernel
theorem dL_law_102 : decode cL_law 102 = .ok (.iaload, 1) := by decide +kernel
theorem dL_law_103 : decode cL_law 103 = .ok (.aload_n 0, 1) := by decide +kernel
theorem dL_law_104 : decode cL_law 104 = .ok (.iload 4, 2) := by decide +kernel
theorem dL_law_106 : decode cL_law 106 = .ok (.iconst 2, 1) := by decide +kernel
theorem dL_law_107 : decode cL_law 107 = .ok (.iadd, 1) := by decide +kernel
theorem dL_law_108 : decode cL_law 108 = .ok (.iaload, 1) := by decide +kernel
theorem dL_law_109 : decode cL_law 109 = .ok (.aload_n 3, 1) := by decide +kernel
theorem dL_law_110 : decode cL_law 110 = .ok (.invokestatic 23, 3) := by decide +kernel
theorem dL_law_113 : decode cL_law 113 = .ok (.istore 5, 2) := by decide +kernel
theorem dL_law_115 : decode cL_law 115 = .ok (.aload_n 2, 1) := by decide +kernel
theorem dL_law_116 : decode cL_law 116 = .ok (.aload_n 0, 1) := by decide +kernel
theorem dL_law_117 : decode cL_law 117 = .ok (.iload 4, 2) := by decide +kernel
theorem dL_law_119 : decode cL_law 119 = .ok (.iconst 1, 1) := by decide +kernel
theorem dL_law_120 : decode cL_law 120 = .ok (.iadd, 1) := by decide +kernel
theorem dL_law_121 : decode cL_law 121 = .ok (.iaload, 1) := by decide +kernel
theorem dL_law_122 : decode cL_law 122 = .ok (.aload_n 0, 1) := by decide +kernel
theorem dL_law_123 : decode cL_law 123 = .ok (.iload 4, 2) := by decide +kernel
theorem dL_law_125 : decode cL_law 125 = .ok (.iconst 2, 1) := by decide +kernel
theorem dL_law_126 : decode cL_law 126 = .ok (.iadd, 1) := by decide +kernel
theorem dL_law_127 : decode cL_law 127 = .ok (.iaload, 1) := by decide +kernel
theorem dL_law_128 : decode cL_law 128 = .ok (.invokevirtual 28, 3) := by decide +kernel
theorem dL_law_131 : decode cL_law 131 = .ok (.istore 6, 2) := by decide +kernel
theorem dL_law_133 : decode cL_law 133 = .ok (.aload_n 2, 1) := by decide +kernel
theorem dL_law_134 : decode cL_law 134 = .ok (.invokevirtual 29, 3) := by decide +kernel
theorem dL_law_137 : decode cL_law 137 = .ok (.iload 5, 2) := by decide +kernel
theorem dL_law_139 : decode cL_law 139 = .ok (.if_icmp .eq 5, 3) := by decide +kernel
theorem dL_law_142 : decode cL_law 142 = .ok (.iconst 0, 1) := by decide +kernel
theorem dL_law_143 : decode cL_law 143 = .ok (.ireturn, 1) := by decide +kernel
theorem dL_law_144 : decode cL_law 144 = .ok (.iload 5, 2) := by decide +kernel
theorem dL_law_146 : decode cL_law 146 = .ok (.ifCond .ne 15, 3) := by decide +kernel
theorem dL_law_149 : decode cL_law 149 = .ok (.aload_n 3, 1) := by decide +kernel
theorem dL_law_150 : decode cL_law 150 = .ok (.iconst 0, 1) := by decide +kernel
theorem dL_law_151 : decode cL_law 151 = .ok (.laload, 1) := by decide +kernel
theorem dL_law_152 : decode cL_law 152 = .ok (.iload 6, 2) := by decide +kernel
theorem dL_law_154 : decode cL_law 154 = .ok (.i2l, 1) := by decide +kernel
theorem dL_law_155 : decode cL_law 155 = .ok (.lcmp, 1) := by decide +kernel
theorem dL_law_156 : decode cL_law 156 = .ok (.ifCond .eq 5, 3) := by decide +kernel
theorem dL_law_159 : decode cL_law 159 = .ok (.iconst 0, 1) := by decide +kernel
theorem dL_law_160 : decode cL_law 160 = .ok (.ireturn, 1) := by decide +kernel
theorem dL_law_161 : decode cL_law 161 = .ok (.goto 395, 3) := by decide +kernel
theorem dL_law_164 : decode cL_law 164 = .ok (.aload_n 1, 1) := by decide +kernel
theorem dL_law_165 : decode cL_law 165 = .ok (.aload_n 0, 1) := by decide +kernel
theorem dL_law_166 : decode cL_law 166 = .ok (.iload 4, 2) := by decide +kernel
theorem dL_law_168 : decode cL_law 168 = .ok (.iconst 1, 1) := by decide +kernel
theorem dL_law_169 : decode cL_law 169 = .ok (.iadd, 1) := by decide +kernel
theorem dL_law_170 : decode cL_law 170 = .ok (.iaload, 1) := by decide +kernel
theorem dL_law_171 : decode cL_law 171 = .ok (.aload_n 0, 1) := by decide +kernel
theorem dL_law_172 : decode cL_law 172 = .ok (.iload 4, 2) := by decide +kernel
theorem dL_law_174 : decode cL_law 174 = .ok (.iconst 2, 1) := by decide +kernel
theorem dL_law_175 : decode cL_law 175 = .ok (.iadd, 1) := by decide +kernel
theorem dL_law_176 : decode cL_law 176 = .ok (.iaload, 1) := by decide +kernel
theorem dL_law_177 : decode cL_law 177 = .ok (.invokevirtual 33, 3) := by decide +kernel
theorem dL_law_180 : decode cL_law 180 = .ok (.aload_n 2, 1) := by decide +kernel
theorem dL_law_181 : decode cL_law 181 = .ok (.aload_n 0, 1) := by decide +kernel
theorem dL_law_182 : decode cL_law 182 = .ok (.iload 4, 2) := by decide +kernel
theorem dL_law_184 : decode cL_law 184 = .ok (.iconst 1, 1) := by decide +kernel
theorem dL_law_185 : decode cL_law 185 = .ok (.iadd, 1) := by decide +kernel
theorem dL_law_186 : decode cL_law 186 = .ok (.iaload, 1) := by decide +kernel
theorem dL_law_187 : decode cL_law 187 = .ok (.aload_n 0, 1) := by decide +kernel
theorem dL_law_188 : decode cL_law 188 = .ok (.iload 4, 2) := by decide +kernel
theorem dL_law_190 : decode cL_law 190 = .ok (.iconst 2, 1) := by decide +kernel
theorem dL_law_191 : decode cL_law 191 = .ok (.iadd, 1) := by decide +kernel
theorem dL_law_192 : decode cL_law 192 = .ok (.iaload, 1) := by decide +kernel
theorem dL_law_193 : decode cL_law 193 = .ok (.invokevirtual 36, 3) := by decide +kernel
theorem dL_law_196 : decode cL_law 196 = .ok (.if_icmp .eq 360, 3) := by decide +kernel
theorem dL_law_199 : decode cL_law 199 = .ok (.iconst 0, 1) := by decide +kernel
theorem dL_law_200 : decode cL_law 200 = .ok (.ireturn, 1) := by decide +kernel
theorem dL_law_201 : decode cL_law 201 = .ok (.aload_n 1, 1) := by decide +kernel
theorem dL_law_202 : decode cL_law 202 = .ok (.aload_n 0, 1) := by decide +kernel
theorem dL_law_203 : decode cL_law 203 = .ok (.iload 4, 2) := by decide +kernel
theorem dL_law_205 : decode cL_law 205 = .ok (.iconst 1, 1) := by decide +kernel
theorem dL_law_206 : decode cL_law 206 = .ok (.iadd, 1) := by decide +kernel
theorem dL_law_207 : decode cL_law 207 = .ok (.iaload, 1) := by decide +kernel
theorem dL_law_208 : decode cL_law 208 = .ok (.aload_n 0, 1) := by decide +kernel
theorem dL_law_209 : decode cL_law 209 = .ok (.iload 4, 2) := by decide +kernel
theorem dL_law_211 : decode cL_law 211 = .ok (.iconst 2, 1) := by decide +kernel
theorem dL_law_212 : decode cL_law 212 = .ok (.iadd, 1) := by decide +kernel
theorem dL_law_213 : decode cL_law 213 = .ok (.iaload, 1) := by decide +kernel
theorem dL_law_214 : decode cL_law 214 = .ok (.invokevirtual 37, 3) := by decide +kernel
theorem dL_law_217 : decode cL_law 217 = .ok (.aload_n 2, 1) := by decide +kernel
theorem dL_law_218 : decode cL_law 218 = .ok (.aload_n 0, 1) := by decide +kernel
theorem dL_law_219 : decode cL_law 219 = .ok (.iload 4, 2) := by decide +kernel
theorem dL_law_221 : decode cL_law 221 = .ok (.iconst 1, 1) := by decide +kernel
theorem dL_law_222 : decode cL_law 222 = .ok (.iadd, 1) := by decide +kernel
theorem dL_law_223 : decode cL_law 223 = .ok (.iaload, 1) := by decide +kernel
theorem dL_law_224 : decode cL_law 224 = .ok (.aload_n 0, 1) := by decide +kernel
theorem dL_law_225 : decode cL_law 225 = .ok (.iload 4, 2) := by decide +kernel
theorem dL_law_227 : decode cL_law 227 = .ok (.iconst 2, 1) := by decide +kernel
theorem dL_law_228 : decode cL_law 228 = .ok (.iadd, 1) := by decide +kernel
theorem dL_law_229 : decode cL_law 229 = .ok (.iaload, 1) := by decide +kernel
theorem dL_law_230 : decode cL_law 230 = .ok (.invokevirtual 41, 3) := by decide +kernel
theorem dL_law_233 : decode cL_law 233 = .ok (.if_icmp .eq 323, 3) := by decide +kernel
theorem dL_law_236 : decode cL_law 236 = .ok (.iconst 0, 1) := by decide +kernel
theorem dL_law_237 : decode cL_law 237 = .ok (.ireturn, 1) := by decide +kernel
theorem dL_law_238 : decode cL_law 238 = .ok (.aload_n 1, 1) := by decide +kernel
theorem dL_law_239 : decode cL_law 239 = .ok (.aload_n 0, 1) := by decide +kernel
theorem dL_law_240 : decode cL_law 240 = .ok (.iload 4, 2) := by decide +kernel
theorem dL_law_242 : decode cL_law 242 = .ok (.iconst 1, 1) := by decide +kernel
theorem dL_law_243 : decode cL_law 243 = .ok (.iadd, 1) := by decide +kernel
theorem dL_law_244 : decode cL_law 244 = .ok (.iaload, 1) := by decide +kernel
theorem dL_law_245 : decode cL_law 245 = .ok (.aload_n 0, 1) := by decide +kernel
theorem dL_law_246 : decode cL_law 246 = .ok (.iload 4, 2) := by decide +kernel
theorem dL_law_248 : decode cL_law 248 = .ok (.iconst 2, 1) := by decide +kernel
theorem dL_law_249 : decode cL_law 249 = .ok (.iadd, 1) := by decide +kernel
theorem dL_law_250 : decode cL_law 250 = .ok (.iaload, 1) := by decide +kernel
theorem dL_law_251 : decode cL_law 251 = .ok (.invokevirtual 42, 3) := by decide +kernel
theorem dL_law_254 : decode cL_law 254 = .ok (.aload_n 2, 1) := by decide +kernel
theorem dL_law_255 : decode cL_law 255 = .ok (.aload_n 0, 1) := by decide +kernel
theorem dL_law_256 : decode cL_law 256 = .ok (.iload 4, 2) := by decide +kernel
theorem dL_law_258 : decode cL_law 258 = .ok (.iconst 1, 1) := by decide +kernel
theorem dL_law_259 : decode cL_law 259 = .ok (.iadd, 1) := by decide +kernel
theorem dL_law_260 : decode cL_law 260 = .ok (.iaload, 1) := by decide +kernel
theorem dL_law_261 : decode cL_law 261 = .ok (.aload_n 0, 1) := by decide +kernel
theorem dL_law_262 : decode cL_law 262 = .ok (.iload 4, 2) := by decide +kernel
theorem dL_law_264 : decode cL_law 264 = .ok (.iconst 2, 1) := by decide +kernel
theorem dL_law_265 : decode cL_law 265 = .ok (.iadd, 1) := by decide +kernel
theorem dL_law_266 : decode cL_law 266 = .ok (.iaload, 1) := by decide +kernel
theorem dL_law_267 : decode cL_law 267 = .ok (.invokevirtual 45, 3) := by decide +kernel
theorem dL_law_270 : decode cL_law 270 = .ok (.if_icmp .eq 286, 3) := by decide +kernel
theorem dL_law_273 : decode cL_law 273 = .ok (.iconst 0, 1) := by decide +kernel
theorem dL_law_274 : decode cL_law 274 = .ok (.ireturn, 1) := by decide +kernel
theorem dL_law_275 : decode cL_law 275 = .ok (.aload_n 1, 1) := by decide +kernel
theorem dL_law_276 : decode cL_law 276 = .ok (.aload_n 0, 1) := by decide +kernel
theorem dL_law_277 : decode cL_law 277 = .ok (.iload 4, 2) := by decide +kernel
theorem dL_law_279 : decode cL_law 279 = .ok (.iconst 1, 1) := by decide +kernel
theorem dL_law_280 : decode cL_law 280 = .ok (.iadd, 1) := by decide +kernel
theorem dL_law_281 : decode cL_law 281 = .ok (.iaload, 1) := by decide +kernel
theorem dL_law_282 : decode cL_law 282 = .ok (.aload_n 0, 1) := by decide +kernel
theorem dL_law_283 : decode cL_law 283 = .ok (.iload 4, 2) := by decide +kernel
theorem dL_law_285 : decode cL_law 285 = .ok (.iconst 2, 1) := by decide +kernel
theorem dL_law_286 : decode cL_law 286 = .ok (.iadd, 1) := by decide +kernel
theorem dL_law_287 : decode cL_law 287 = .ok (.iaload, 1) := by decide +kernel
theorem dL_law_288 : decode cL_law 288 = .ok (.ifCond .eq 7, 3) := by decide +kernel
theorem dL_law_291 : decode cL_law 291 = .ok (.iconst 1, 1) := by decide +kernel
theorem dL_law_292 : decode cL_law 292 = .ok (.goto 4, 3) := by decide +kernel
theorem dL_law_295 : decode cL_law 295 = .ok (.iconst 0, 1) := by decide +kernel
theorem dL_law_296 : decode cL_law 296 = .ok (.invokevirtual 46, 3) := by decide +kernel
theorem dL_law_299 : decode cL_law 299 = .ok (.aload_n 2, 1) := by decide +kernel
theorem dL_law_300 : decode cL_law 300 = .ok (.aload_n 0, 1) := by decide +kernel
theorem dL_law_301 : decode cL_law 301 = .ok (.iload 4, 2) := by decide +kernel
theorem dL_law_303 : decode cL_law 303 = .ok (.iconst 1, 1) := by decide +kernel
theorem dL_law_304 : decode cL_law 304 = .ok (.iadd, 1) := by decide +kernel
theorem dL_law_305 : decode cL_law 305 = .ok (.iaload, 1) := by decide +kernel
theorem dL_law_306 : decode cL_law 306 = .ok (.aload_n 0, 1) := by decide +kernel
theorem dL_law_307 : decode cL_law 307 = .ok (.iload 4, 2) := by decide +kernel
theorem dL_law_309 : decode cL_law 309 = .ok (.iconst 2, 1) := by decide +kernel
theorem dL_law_310 : decode cL_law 310 = .ok (.iadd, 1) := by decide +kernel
theorem dL_law_311 : decode cL_law 311 = .ok (.iaload, 1) := by decide +kernel
theorem dL_law_312 : decode cL_law 312 = .ok (.ifCond .eq 7, 3) := by decide +kernel
theorem dL_law_315 : decode cL_law 315 = .ok (.iconst 1, 1) := by decide +kernel
theorem dL_law_316 : decode cL_law 316 = .ok (.goto 4, 3) := by decide +kernel
theorem dL_law_319 : decode cL_law 319 = .ok (.iconst 0, 1) := by decide +kernel
theorem dL_law_320 : decode cL_law 320 = .ok (.invokevirtual 50, 3) := by decide +kernel
theorem dL_law_323 : decode cL_law 323 = .ok (.if_icmp .eq 233, 3) := by decide +kernel
theorem dL_law_326 : decode cL_law 326 = .ok (.iconst 0, 1) := by decide +kernel
theorem dL_law_327 : decode cL_law 327 = .ok (.ireturn, 1) := by decide +kernel
theorem dL_law_328 : decode cL_law 328 = .ok (.aload_n 1, 1) := by decide +kernel
theorem dL_law_329 : decode cL_law 329 = .ok (.aload_n 0, 1) := by decide +kernel
theorem dL_law_330 : decode cL_law 330 = .ok (.iload 4, 2) := by decide +kernel
theorem dL_law_332 : decode cL_law 332 = .ok (.iconst 1, 1) := by decide +kernel
theorem dL_law_333 : decode cL_law 333 = .ok (.iadd, 1) := by decide +kernel
theorem dL_law_334 : decode cL_law 334 = .ok (.iaload, 1) := by decide +kernel
theorem dL_law_335 : decode cL_law 335 = .ok (.invokevirtual 51, 3) := by decide +kernel
theorem dL_law_338 : decode cL_law 338 = .ok (.aload_n 2, 1) := by decide +kernel
theorem dL_law_339 : decode cL_law 339 = .ok (.aload_n 0, 1) := by decide +kernel
theorem dL_law_340 : decode cL_law 340 = .ok (.iload 4, 2) := by decide +kernel
theorem dL_law_342 : decode cL_law 342 = .ok (.iconst 1, 1) := by decide +kernel
theorem dL_law_343 : decode cL_law 343 = .ok (.iadd, 1) := by decide +kernel
theorem dL_law_344 : decode cL_law 344 = .ok (.iaload, 1) := by decide +kernel
theorem dL_law_345 : decode cL_law 345 = .ok (.invokevirtual 55, 3) := by decide +kernel
theorem dL_law_348 : decode cL_law 348 = .ok (.if_icmp .eq 208, 3) := by decide +kernel
theorem dL_law_351 : decode cL_law 351 = .ok (.iconst 0, 1) := by decide +kernel
theorem dL_law_352 : decode cL_law 352 = .ok (.ireturn, 1) := by decide +kernel
theorem dL_law_353 : decode cL_law 353 = .ok (.aload_n 1, 1) := by decide +kernel
theorem dL_law_354 : decode cL_law 354 = .ok (.aload_n 0, 1) := by decide +kernel
theorem dL_law_355 : decode cL_law 355 = .ok (.iload 4, 2) := by decide +kernel
theorem dL_law_357 : decode cL_law 357 = .ok (.iconst 1, 1) := by decide +kernel
theorem dL_law_358 : decode cL_law 358 = .ok (.iadd, 1) := by decide +kernel
theorem dL_law_359 : decode cL_law 359 = .ok (.iaload, 1) := by decide +kernel
theorem dL_law_360 : decode cL_law 360 = .ok (.aload_n 0, 1) := by decide +kernel
theorem dL_law_361 : decode cL_law 361 = .ok (.iload 4, 2) := by decide +kernel
theorem dL_law_363 : decode cL_law 363 = .ok (.iconst 2, 1) := by decide +kernel
theorem dL_law_364 : decode cL_law 364 = .ok (.iadd, 1) := by decide +kernel
theorem dL_law_365 : decode cL_law 365 = .ok (.iaload, 1) := by decide +kernel
theorem dL_law_366 : decode cL_law 366 = .ok (.aload_n 0, 1) := by decide +kernel
theorem dL_law_367 : decode cL_law 367 = .ok (.iload 4, 2) := by decide +kernel
theorem dL_law_369 : decode cL_law 369 = .ok (.iconst 3, 1) := by decide +kernel
theorem dL_law_370 : decode cL_law 370 = .ok (.iadd, 1) := by decide +kernel
theorem dL_law_371 : decode cL_law 371 = .ok (.iaload, 1) := by decide +kernel
theorem dL_law_372 : decode cL_law 372 = .ok (.invokevirtual 56, 3) := by decide +kernel
theorem dL_law_375 : decode cL_law 375 = .ok (.aload_n 2, 1) := by decide +kernel
theorem dL_law_376 : decode cL_law 376 = .ok (.aload_n 0, 1) := by decide +kernel
theorem dL_law_377 : decode cL_law 377 = .ok (.iload 4, 2) := by decide +kernel
theorem dL_law_379 : decode cL_law 379 = .ok (.iconst 1, 1) := by decide +kernel
theorem dL_law_380 : decode cL_law 380 = .ok (.iadd, 1) := by decide +kernel
theorem dL_law_381 : decode cL_law 381 = .ok (.iaload, 1) := by decide +kernel
theorem dL_law_382 : decode cL_law 382 = .ok (.aload_n 0, 1) := by decide +kernel
theorem dL_law_383 : decode cL_law 383 = .ok (.iload 4, 2) := by decide +kernel
theorem dL_law_385 : decode cL_law 385 = .ok (.iconst 2, 1) := by decide +kernel
theorem dL_law_386 : decode cL_law 386 = .ok (.iadd, 1) := by decide +kernel
theorem dL_law_387 : decode cL_law 387 = .ok (.iaload, 1) := by decide +kernel
theorem dL_law_388 : decode cL_law 388 = .ok (.aload_n 0, 1) := by decide +kernel
theorem dL_law_389 : decode cL_law 389 = .ok (.iload 4, 2) := by decide +kernel
theorem dL_law_391 : decode cL_law 391 = .ok (.iconst 3, 1) := by decide +kernel
theorem dL_law_392 : decode cL_law 392 = .ok (.iadd, 1) := by decide +kernel
theorem dL_law_393 : decode cL_law 393 = .ok (.iaload, 1) := by decide +kernel
theorem dL_law_394 : decode cL_law 394 = .ok (.invokevirtual 60, 3) := by decide +kernel
theorem dL_law_397 : decode cL_law 397 = .ok (.if_icmp .eq 159, 3) := by decide +kernel
theorem dL_law_400 : decode cL_law 400 = .ok (.iconst 0, 1) := by decide +kernel
theorem dL_law_401 : decode cL_law 401 = .ok (.ireturn, 1) := by decide +kernel
theorem dL_law_402 : decode cL_law 402 = .ok (.aload_n 1, 1) := by decide +kernel
theorem dL_law_403 : decode cL_law 403 = .ok (.aload_n 0, 1) := by decide +kernel
theorem dL_law_404 : decode cL_law 404 = .ok (.iload 4, 2) := by decide +kernel
theorem dL_law_406 : decode cL_law 406 = .ok (.iconst 1, 1) := by decide +kernel
theorem dL_law_407 : decode cL_law 407 = .ok (.iadd, 1) := by decide +kernel
theorem dL_law_408 : decode cL_law 408 = .ok (.iaload, 1) := by decide +kernel
theorem dL_law_409 : decode cL_law 409 = .ok (.aload_n 0, 1) := by decide +kernel
theorem dL_law_410 : decode cL_law 410 = .ok (.iload 4, 2) := by decide +kernel
theorem dL_law_412 : decode cL_law 412 = .ok (.iconst 2, 1) := by decide +kernel
theorem dL_law_413 : decode cL_law 413 = .ok (.iadd, 1) := by decide +kernel
theorem dL_law_414 : decode cL_law 414 = .ok (.iaload, 1) := by decide +kernel
theorem dL_law_415 : decode cL_law 415 = .ok (.aload_n 0, 1) := by decide +kernel
theorem dL_law_416 : decode cL_law 416 = .ok (.iload 4, 2) := by decide +kernel
theorem dL_law_418 : decode cL_law 418 = .ok (.iconst 3, 1) := by decide +kernel
theorem dL_law_419 : decode cL_law 419 = .ok (.iadd, 1) := by decide +kernel
theorem dL_law_420 : decode cL_law 420 = .ok (.iaload, 1) := by decide +kernel
theorem dL_law_421 : decode cL_law 421 = .ok (.invokevirtual 61, 3) := by decide +kernel
theorem dL_law_424 : decode cL_law 424 = .ok (.aload_n 2, 1) := by decide +kernel
theorem dL_law_425 : decode cL_law 425 = .ok (.aload_n 0, 1) := by decide +kernel
theorem dL_law_426 : decode cL_law 426 = .ok (.iload 4, 2) := by decide +kernel
theorem dL_law_428 : decode cL_law 428 = .ok (.iconst 1, 1) := by decide +kernel
theorem dL_law_429 : decode cL_law 429 = .ok (.iadd, 1) := by decide +kernel
theorem dL_law_430 : decode cL_law 430 = .ok (.iaload, 1) := by decide +kernel
theorem dL_law_431 : decode cL_law 431 = .ok (.aload_n 0, 1) := by decide +kernel
theorem dL_law_432 : decode cL_law 432 = .ok (.iload 4, 2) := by decide +kernel
theorem dL_law_434 : decode cL_law 434 = .ok (.iconst 2, 1) := by decide +kernel
theorem dL_law_435 : decode cL_law 435 = .ok (.iadd, 1) := by decide +kernel
theorem dL_law_436 : decode cL_law 436 = .ok (.iaload, 1) := by decide +kernel
theorem dL_law_437 : decode cL_law 437 = .ok (.aload_n 0, 1) := by decide +kernel
theorem dL_law_438 : decode cL_law 438 = .ok (.iload 4, 2) := by decide +kernel
theorem dL_law_440 : decode cL_law 440 = .ok (.iconst 3, 1) := by decide +kernel
theorem dL_law_441 : decode cL_law 441 = .ok (.iadd, 1) := by decide +kernel
theorem dL_law_442 : decode cL_law 442 = .ok (.iaload, 1) := by decide +kernel
theorem dL_law_443 : decode cL_law 443 = .ok (.invokevirtual 64, 3) := by decide +kernel
theorem dL_law_446 : decode cL_law 446 = .ok (.if_icmp .eq 110, 3) := by decide +kernel
theorem dL_law_449 : decode cL_law 449 = .ok (.iconst 0, 1) := by decide +kernel
theorem dL_law_450 : decode cL_law 450 = .ok (.ireturn, 1) := by decide +kernel
theorem dL_law_451 : decode cL_law 451 = .ok (.aload_n 1, 1) := by decide +kernel
theorem dL_law_452 : decode cL_law 452 = .ok (.invokevirtual 65, 3) := by decide +kernel
theorem dL_law_455 : decode cL_law 455 = .ok (.aload_n 2, 1) := by decide +kernel
theorem dL_law_456 : decode cL_law 456 = .ok (.invokevirtual 68, 3) := by decide +kernel
theorem dL_law_459 : decode cL_law 459 = .ok (.if_icmp .eq 97, 3) := by decide +kernel
theorem dL_law_462 : decode cL_law 462 = .ok (.iconst 0, 1) := by decide +kernel
theorem dL_law_463 : decode cL_law 463 = .ok (.ireturn, 1) := by decide +kernel
theorem dL_law_464 : decode cL_law 464 = .ok (.aload_n 1, 1) := by decide +kernel
theorem dL_law_465 : decode cL_law 465 = .ok (.aload_n 0, 1) := by decide +kernel
theorem dL_law_466 : decode cL_law 466 = .ok (.iload 4, 2) := by decide +kernel
theorem dL_law_468 : decode cL_law 468 = .ok (.iconst 1, 1) := by decide +kernel
theorem dL_law_469 : decode cL_law 469 = .ok (.iadd, 1) := by decide +kernel
theorem dL_law_470 : decode cL_law 470 = .ok (.iaload, 1) := by decide +kernel
theorem dL_law_471 : decode cL_law 471 = .ok (.aload_n 0, 1) := by decide +kernel
theorem dL_law_472 : decode cL_law 472 = .ok (.iload 4, 2) := by decide +kernel
theorem dL_law_474 : decode cL_law 474 = .ok (.iconst 2, 1) := by decide +kernel
theorem dL_law_475 : decode cL_law 475 = .ok (.iadd, 1) := by decide +kernel
theorem dL_law_476 : decode cL_law 476 = .ok (.iaload, 1) := by decide +kernel
theorem dL_law_477 : decode cL_law 477 = .ok (.invokevirtual 69, 3) := by decide +kernel
theorem dL_law_480 : decode cL_law 480 = .ok (.aload_n 2, 1) := by decide +kernel
theorem dL_law_481 : decode cL_law 481 = .ok (.aload_n 0, 1) := by decide +kernel
theorem dL_law_482 : decode cL_law 482 = .ok (.iload 4, 2) := by decide +kernel
theorem dL_law_484 : decode cL_law 484 = .ok (.iconst 1, 1) := by decide +kernel
theorem dL_law_485 : decode cL_law 485 = .ok (.iadd, 1) := by decide +kernel
theorem dL_law_486 : decode cL_law 486 = .ok (.iaload, 1) := by decide +kernel
theorem dL_law_487 : decode cL_law 487 = .ok (.aload_n 0, 1) := by decide +kernel
theorem dL_law_488 : decode cL_law 488 = .ok (.iload 4, 2) := by decide +kernel
theorem dL_law_490 : decode cL_law 490 = .ok (.iconst 2, 1) := by decide +kernel
theorem dL_law_491 : decode cL_law 491 = .ok (.iadd, 1) := by decide +kernel
theorem dL_law_492 : decode cL_law 492 = .ok (.iaload, 1) := by decide +kernel
theorem dL_law_493 : decode cL_law 493 = .ok (.invokevirtual 72, 3) := by decide +kernel
theorem dL_law_496 : decode cL_law 496 = .ok (.if_icmp .eq 60, 3) := by decide +kernel
theorem dL_law_499 : decode cL_law 499 = .ok (.iconst 0, 1) := by decide +kernel
theorem dL_law_500 : decode cL_law 500 = .ok (.ireturn, 1) := by decide +kernel
theorem dL_law_501 : decode cL_law 501 = .ok (.aload_n 1, 1) := by decide +kernel
theorem dL_law_502 : decode cL_law 502 = .ok (.aload_n 0, 1) := by decide +kernel
theorem dL_law_503 : decode cL_law 503 = .ok (.iload 4, 2) := by decide +kernel
theorem dL_law_505 : decode cL_law 505 = .ok (.iconst 1, 1) := by decide +kernel
theorem dL_law_506 : decode cL_law 506 = .ok (.iadd, 1) := by decide +kernel
theorem dL_law_507 : decode cL_law 507 = .ok (.iaload, 1) := by decide +kernel
theorem dL_law_508 : decode cL_law 508 = .ok (.aload_n 3, 1) := by decide +kernel
theorem dL_law_509 : decode cL_law 509 = .ok (.invokestatic 73, 3) := by decide +kernel
theorem dL_law_512 : decode cL_law 512 = .ok (.istore 5, 2) := by decide +kernel
theorem dL_law_514 : decode cL_law 514 = .ok (.aload_n 2, 1) := by decide +kernel
theorem dL_law_515 : decode cL_law 515 = .ok (.aload_n 0, 1) := by decide +kernel
theorem dL_law_516 : decode cL_law 516 = .ok (.iload 4, 2) := by decide +kernel
theorem dL_law_518 : decode cL_law 518 = .ok (.iconst 1, 1) := by decide +kernel
theorem dL_law_519 : decode cL_law 519 = .ok (.iadd, 1) := by decide +kernel
theorem dL_law_520 : decode cL_law 520 = .ok (.iaload, 1) := by decide +kernel
theorem dL_law_521 : decode cL_law 521 = .ok (.invokevirtual 76, 3) := by decide +kernel
theorem dL_law_524 : decode cL_law 524 = .ok (.lstore 6, 2) := by decide +kernel
theorem dL_law_526 : decode cL_law 526 = .ok (.aload_n 2, 1) := by decide +kernel
theorem dL_law_527 : decode cL_law 527 = .ok (.invokevirtual 29, 3) := by decide +kernel
theorem dL_law_530 : decode cL_law 530 = .ok (.iload 5, 2) := by decide +kernel
theorem dL_law_532 : decode cL_law 532 = .ok (.if_icmp .eq 5, 3) := by decide +kernel
theorem dL_law_535 : decode cL_law 535 = .ok (.iconst 0, 1) := by decide +kernel
theorem dL_law_536 : decode cL_law 536 = .ok (.ireturn, 1) := by decide +kernel
theorem dL_law_537 : decode cL_law 537 = .ok (.iload 5, 2) := by decide +kernel
theorem dL_law_539 : decode cL_law 539 = .ok (.ifCond .ne 14, 3) := by decide +kernel
theorem dL_law_542 : decode cL_law 542 = .ok (.aload_n 3, 1) := by decide +kernel
theorem dL_law_543 : decode cL_law 543 = .ok (.iconst 0, 1) := by decide +kernel
theorem dL_law_544 : decode cL_law 544 = .ok (.laload, 1) := by decide +kernel
theorem dL_law_545 : decode cL_law 545 = .ok (.lload 6, 2) := by decide +kernel
theorem dL_law_547 : decode cL_law 547 = .ok (.lcmp, 1) := by decide +kernel
theorem dL_law_548 : decode cL_law 548 = .ok (.ifCond .eq 5, 3) := by decide +kernel
theorem dL_law_551 : decode cL_law 551 = .ok (.iconst 0, 1) := by decide +kernel
theorem dL_law_552 : decode cL_law 552 = .ok (.ireturn, 1) := by decide +kernel
theorem dL_law_553 : decode cL_law 553 = .ok (.goto 3, 3) := by decide +kernel
theorem dL_law_556 : decode cL_law 556 = .ok (.iinc 4 4, 3) := by decide +kernel
theorem dL_law_559 : decode cL_law 559 = .ok (.goto (-536), 3) := by decide +kernel
theorem dL_law_562 : decode cL_law 562 = .ok (.iconst 1, 1) := by decide +kernel
theorem dL_law_563 : decode cL_law 563 = .ok (.ireturn, 1) := by decide +kernel
end
section
/-! A STATIC METHOD CALLED THROUGH A SUBCLASS (the kit has this for instance methods alone), and the call's row -/
set_option maxRecDepth 100000
section CBU
variable {Q : Unit → Pre} {E : CtlPost} {e : Env} {d : Bool} {acts : List Action} {s s₀ : State} {f : JFrame}
/-- cold or warm, the entry of an inherited static method: the same as in the tables that note it -/
theorem cb_su_wp {i ci nt cn : Nat} {mk : MethodId} {kf kn : Class} {file : ClassFile} {nm ds : String} (hs : s.topJava?.isSome) (hp : e.platform.polymorphicOnlyByInvokevirtual = true)
    (hW : s₀.WarmedH s.vm) (hE : s₀.MethodEntryUp e s.vm f.method.cls i cn mk ci) (h1 : s₀.vm.classes[f.method.cls]? = some kf) (h2 : kf.cf = some file)
    (h3 : file.constantPool[i]? = some (.methodref ci nt)) (h4 : file.constantPool.nameAndType? nt = some (nm, ds))
    (hk : s₀.vm.classes[cn]? = some kn) (hno : (kn.methods.any fun x => x.name == nm && !x.isStatic && signaturePolymorphic kn x) = false) :
    wp (invokestatic.sem i) Q E e d acts (s.setTop f) ↔ wp (invokestatic.sem i) Q E e d acts ((s.setVm (s.vm.calledUp f.method.cls ci i cn mk)).setTop f) := by
  obtain ⟨gC, rC, wC, gM⟩ := hE.classFirst
  have tB : (s.setVm (s.vm.noted f.method.cls ci (.cls cn))).topJava?.isSome := hs
  have tC : (s.setVm (s.vm.calledUp f.method.cls ci i cn mk)).topJava?.isSome := hs
  have ref : file.constantPool[i]? = some (if false then .interfaceMethodref ci nt else .methodref ci nt) := h3
  obtain ⟨kA, hkA, eA⟩ := hW.alike.2.2 _ _ h1
  obtain ⟨kC, hkC, eC⟩ := hE.warmed.alike.2.2 _ _ h1
  obtain ⟨nB, hnB, eB⟩ := wC.alike.2.2 _ _ hk
  obtain ⟨nC, hnC, eN⟩ := hE.warmed.alike.2.2 _ _ hk
  have askA := memberRef_ask_via (e := e) hkA (by rw [eA]; exact h2) ref h4
  have askC := memberRef_ask_via (e := e) hkC (by rw [eC]; exact h2) ref h4
  have noB : (nB.methods.any fun x => x.name == nm && !x.isStatic && signaturePolymorphic nB x) = false := by rw [eB]; exact hno
  have noC : (nC.methods.any fun x => x.name == nm && !x.isStatic && signaturePolymorphic nC x) = false := by rw [eN]; exact hno
  have stepC : ∀ {Q' : ClassId → Pre} {d' : Bool} {a' : List Action}, wp (Jvm.resolveClassAt ci) Q' E e d' a' (s.setTop f) ↔ Q' cn d' a' ((s.setVm (s.vm.noted f.method.cls ci (.cls cn))).setTop f) := W.resolveClassAt_links (t := s.setTop f) (State.method?_setTop f hs) gC
  have stepM : ∀ {Q' : MethodId → Pre} {d' : Bool} {a' : List Action}, wp (Jvm.resolveMethodAt i) Q' E e d' a' ((s.setVm (s.vm.noted f.method.cls ci (.cls cn))).setTop f) ↔ Q' mk d' a' ((s.setVm (s.vm.calledUp f.method.cls ci i cn mk)).setTop f) := W.resolveMethodAt_links (t := (s.setVm (s.vm.noted f.method.cls ci (.cls cn))).setTop f) (State.method?_setTop f tB) gM
  have okC := fun {Q' : ClassId → Pre} {d' : Bool} {a' : List Action} => W.resolveClassAt_ready (Q := Q') (E := E) (e := e) (d := d') (acts := a') (s := (s.setVm (s.vm.calledUp f.method.cls ci i cn mk)).setTop f) (State.method?_setTop f tC) hE.classReady
  have okM := fun {Q' : MethodId → Pre} {d' : Bool} {a' : List Action} => W.resolveMethodAt_ready (Q := Q') (E := E) (e := e) (d := d') (acts := a') (s := (s.setVm (s.vm.calledUp f.method.cls ci i cn mk)).setTop f) (State.method?_setTop f tC) hE.ready
  simp [invokestatic.sem, hp, Seam.memberRefOf, State.method?_setTop f hs, State.method?_setTop f tC, askA, askC, stepC, stepM, okC, okM, hnB, hnC, noB, noC, -Array.any_eq_true]
end CBU
section CBV
variable {p : Program} {l : Launch} {e : Env} {R : Room} {s : State} {m : MethodId} {args : Array Value} {below : List Frame} {meth : Method} {c : Code} {T : State} {H : Heap} {locs : List Loc} {cells slots : Nat}
theorem cb_suStep (X : Stand p l e R s m args below meth c T locs cells slots) (hexec : p.tables.exec = Jvm.exec)
    {own owner : String} {i : Nat} {x : MethodName} (hown : s.vm.findClass own = some m.cls) (hlink : (Cond.methodLink own i x).before args s = true)
    (hsame : (Cond.sameMethod x.cls owner x.name x.desc).before args s = true) (how : owner ≠ "java/lang/invoke/MethodHandle" ∧ owner ≠ "java/lang/invoke/VarHandle")
    {mk : MethodId} {methY : Method} {kY : Class} (hn : s.methodNamed? ⟨owner, x.name, x.desc⟩ = some mk) (hm : s.vm.method? mk = some methY) (hst : methY.isStatic = true)
    (hk : s.vm.classes[mk.cls]? = some kY) (hini : kY.init = .initialized)
    {g : JFrame} (hg : g.method = m) {as rest : List Value} (hlen : as.length = methY.sig.parameters.length) (hstack : g.stack = as.reverse ++ rest) (hdg : decode c.code g.pc = .ok (.invokestatic i, 3)) :
    ∃ vm', Stand p l e R s m args below meth c (T.setVm vm') locs cells slots ∧
      ∀ tg, (∀ acts, Steps p.tables e below (doInvoke e ((T.setVm vm').setTop { g with stack := rest }) acts mk as.toArray).1 tg) → Steps p.tables e below (T.setTop g) tg := by
  have hpl : e.platform.magicAccessors = ({} : Platform).magicAccessors := by rw [X.admits.platform]
  have hpv : e.platform.polymorphicOnlyByInvokevirtual = true := by rw [X.admits.platform]
  obtain ⟨cn, kn, r1, hcn, hkn, hni, hf, hn1⟩ := Cond.sameMethod_found hsame
  cases hn.symm.trans hn1
  obtain ⟨ci, hl, hright⟩ := Cond.methodLink_specUp hown hcn hkn hni hf hlink e.platform hpl (by rw [X.admits.platform])
  have hE : s.MethodEntryUp e T.vm m.cls i cn mk ci := State.methodEntryUp X.warmed hl hright
  obtain ⟨kx, hkx, hnx⟩ := className_of_methodNamed hn
  cases hk.symm.trans hkx
  obtain ⟨kf, file, nt, nm, ds, kn', _, _, hkf, hfile, href, hnt, -, -, hkn', -, hnp, -⟩ := hl.here
  cases hkn.symm.trans hkn'
  have al := hE.warmed.alike
  obtain ⟨kf2, hkf2, ef2⟩ := al.2.2 _ _ hkf
  obtain ⟨kY2, hkY2, eY2⟩ := al.2.2 _ _ hk
  obtain ⟨kn2, hkn2, en2⟩ := al.2.2 _ _ hkn
  have no1 : (kn.methods.any fun y => y.name == nm && !y.isStatic && signaturePolymorphic kn y) = false := by simp [hnp]
  have no2 : (kn2.methods.any fun y => y.name == nm && !y.isStatic && signaturePolymorphic kn2 y) = false := by rw [en2]; exact no1
  have ref : file.constantPool[i]? = some (if false then .interfaceMethodref ci nt else .methodref ci nt) := href
  refine ⟨T.vm.calledUp m.cls ci i cn mk, X.noted hE.warmed, fun tg hrest => ?_⟩
  subst hg
  have ready : (T.vm.calledUp g.method.cls ci i cn mk).method? mk = some methY := by rw [al.method?]; exact hm
  have plain : signaturePolymorphic kY2 methY = false := by
    rw [eY2]
    show signaturePolymorphic kY methY = false
    simp [signaturePolymorphic, hnx, how.1, how.2]
  jvm_step X.here [hexec, hdg, cb_su_wp (e := e) (s := T) (s₀ := s) (f := g) X.here.top hpv X.warmed hE hkf hfile href hnt hkn no1,
    invokestatic.wp_ready (e := e) (s := T.setVm (T.vm.calledUp g.method.cls ci i cn mk)) (k := kY2) (meth := methY) (m := mk) (args := as) (rest := rest) (f := g)
      X.here.top ⟨ci, nm, ds, false, cn, kn2, memberRef_ask_via (e := e) hkf2 (by rw [ef2]; exact hfile) ref hnt, hE.classReady, hkn2, no2⟩ hE.ready hkY2 ready plain hst (by rw [eY2]; exact hini) hlen hstack]
  exact fun acts => hrest _
/-- the row of such a call, by the callee's contract -/
theorem cb_runSUp {x y : MethodName} {bytes cc : ByteArray} {maxL nL mc ms n index : Nat} {ret : Option FieldType} {ws ws' : List Cond} {rm : Room} {Pc : Array Value → State → Prop} {Qc : Array Value → State → Outcome → State → Prop} {free : Addr → Prop} {own owner : String} {As rest : List Value} {g : JFrame}
    (S : CallFix p m c cc nL s args lw_all own) (hM : Met l y ws rm Pc Qc mc ms free) (hy : y = ⟨owner, x.name, x.desc⟩) (hG : GoodIn lw_all ws) (hw : ws = Cond.code y bytes maxL ret :: ws') (hrc : rm.cells = mc) (hrs : rm.slots = ms)
    (hlink : (Cond.methodLink own index x).before args s = true) (hsame : (Cond.sameMethod x.cls owner x.name x.desc).before args s = true) (hstat : (Cond.static y).before args s = true) (hini : (Cond.initialized y.cls).before args s = true)
    (hd : owner ≠ "java/lang/invoke/MethodHandle" ∧ owner ≠ "java/lang/invoke/VarHandle" ∧ (parseMethodDescriptor x.desc).map (fun d => d.parameters.length) = some n) (hR : rm.frames + 1 ≤ R.frames ∧ 8 + (maxL + 11) + rm.locals ≤ R.locals) (hp : PreS s H Pc As)
    (hg : g.method = m) (hn : As.length = n) (hsize : g.locals.size = nL) (hstack : g.stack = As.reverse ++ rest) (hW : 2 * g.monitorRoom + (rest.map fun v => v.category).sum ≤ 8) (hdg : decode cc g.pc = .ok (.invokestatic index, 3)) (hf : cells + mc ≤ R.cells ∧ slots + ms ≤ R.slots) :
    va_Run p l e R s m args below meth c H locs cells slots mc ms g rest (Qc As.toArray) (free) := by
  obtain ⟨hx, hb, hml, ho, ht⟩ := S
  have hcw : Cond.code y bytes maxL ret ∈ ws := by rw [hw]; exact List.mem_cons_self
  have hcode : (Cond.code y bytes maxL ret).before args s = true := ht _ (hG _ hcw).1
  have hK : Back l R p e below s args y 3 8 (PreOf R mc ms Pc) (PostOf Qc mc ms free) := back_of (bytes := bytes) (maxL := maxL) (ret := ret) hM hp.1 hrc hrs hR.1 hR.2 (pay_in ht hG) hcw (fun a' U hW => word_at hW (Or.inl (by first | rfl | simp [Cond.onTables, Cond.keeps, Cond.steady])) hini)
  intro T hT X
  subst hy
  obtain ⟨mk, hnamed⟩ := Cond.code_named hcode
  obtain ⟨methY, cY, hmY, -, -, -, -, -, -, hsig⟩ := Cond.code_spec hnamed hcode
  have hst : methY.isStatic = true := Cond.static_spec hnamed hmY hstat
  obtain ⟨kY, hkY, -⟩ := className_of_methodNamed hnamed
  have hiniY : kY.init = .initialized := Cond.initialized_spec (findClass_of_methodNamed hnamed) hkY hini
  have hlen : As.length = methY.sig.parameters.length := by
    have h2 := hd.2.2
    rw [show parseMethodDescriptor x.desc = some methY.sig from hsig] at h2
    rw [hn]
    exact (Option.some.inj h2).symm
  obtain ⟨vm₁, X₁, st1⟩ := cb_suStep X hx ho hlink hsame ⟨hd.1, hd.2.1⟩ hnamed hmY hst hkY hiniY hg (as := As) (rest := rest) hlen hstack (by rw [hb]; exact hdg)
  obtain ⟨v, ⟨U', l2, c2, s2⟩, X', ⟨g', mk', t, L, e1, e2, hq, h1, hL, h2, h3⟩, st2⟩ := hK m meth c ⟨T.setVm vm₁, locs, cells, slots⟩ { g with stack := rest } (.invokestatic index) mk As.toArray X₁ hg (hsize.trans hml.symm) (by rw [hb]; exact hdg) hW (X₁.named hnamed) ⟨hf.1, hf.2, hp.2 (T.setVm vm₁) hT X₁.warmed⟩
  dsimp only [Pt.U, Pt.locs, Pt.cells, Pt.slots] at X' e1 e2 h1 h2 h3 st2
  subst h1; subst h2; subst h3
  exact ⟨v, (T.setVm vm₁).calling g' mk' As.toArray, t, U', L, hT, X', hL, e1, e2, hq, fun tg h => st1 _ fun acts => by rw [doInvoke_state]; exact st2.trans h⟩
end CBV
end
section
/-! BASE ROWS: methods that touch nothing (pure contracts), and their calls -/
set_option maxRecDepth 100000
/-- the end of a method that touches nothing: its answer, the heap as it was -/
def cb_Qp (r : Option Value) : Array Value → State → Outcome → State → Prop := fun _ st o t => o = .returned r ∧ t.heap = st.heap
def cb_no : Nat → Prop := fun _ => False
abbrev cb_Pp (av : List Value) : Array Value → State → Prop := va_Pc av (fun _ => True)
theorem cb_preS {s : State} {H : Heap} {av : List Value} : PreS s H (cb_Pp av) av := ⟨fun _ _ _ _ q => q, fun _ _ _ => ⟨rfl, trivial⟩⟩
theorem cb_preV {s : State} {H : Heap} {C : String} {b : Nat} {av : List Value} (h : ∃ cellB : Cell, H[b]? = some cellB ∧ cellB.vm.isStatics = false ∧ s.vm.findClass C = some cellB.cls) : PreV s H C b (cb_Pp (.ref b :: av)) av := ⟨fun _ _ _ _ q => q, h, fun _ _ _ => ⟨rfl, trivial⟩⟩
theorem cb_r {x y : Int32} (h : x = y) : Outcome.returned (some (Value.int x)) = Outcome.returned (some (Value.int y)) := by rw [h]
theorem cb_rl {x y : Int64} (h : x = y) : Outcome.returned (some (Value.long x)) = Outcome.returned (some (Value.long y)) := by rw [h]
theorem cb_nl {free : Nat → Prop} : ∀ q ∈ ([] : List Loc), free q.base := fun _ h => by cases h
section CBB
variable {p : Program} {l : Launch} {e : Env} {R : Room} {s : State} {m : MethodId} {args : Array Value} {below : List Frame} {meth : Method} {c : Code} {H : Heap} {locs : List Loc} {cells slots : Nat} {Q : State → Prop}
variable {pc : Nat} {ls : Array Slot} {rest st0 : List Value} {a : Array Value}
theorem cb_callP {r : Option Value} (hr : va_Run p l e R s m args below meth c H locs cells slots 0 0 (F0 m pc ls st0) rest (cb_Qp r a) cb_no)
    (kk : W p l e R s m args below meth c H locs cells slots Q (F0 m (pc + 3) ls (r.toList ++ rest))) : W p l e R s m args below meth c H locs cells slots Q (F0 m pc ls st0) := by
  intro T hT X
  obtain ⟨v, st₀, t, T', L, h0, X', hL, e1, e2, ⟨hv, hh⟩, go⟩ := hr T hT X
  have hLn : L = [] := by
    cases L with
    | nil => rfl
    | cons q L => exact (hL q List.mem_cons_self).elim
  subst hLn
  cases hv
  rw [List.append_nil] at X'
  obtain ⟨tt, a1, b1⟩ := kk T' (by rw [e1, hh, h0]) X'
  exact ⟨tt, go tt a1, b1⟩
theorem cb_callPi {v : Int32} (hr : va_Run p l e R s m args below meth c H locs cells slots 0 0 (F0 m pc ls st0) rest (cb_Qp (some (.int v)) a) cb_no)
    (kk : W p l e R s m args below meth c H locs cells slots Q (F0 m (pc + 3) ls (.int v :: rest))) : W p l e R s m args below meth c H locs cells slots Q (F0 m pc ls st0) := cb_callP hr kk
theorem cb_callPl {v : Int64} (hr : va_Run p l e R s m args below meth c H locs cells slots 0 0 (F0 m pc ls st0) rest (cb_Qp (some (.long v)) a) cb_no)
    (kk : W p l e R s m args below meth c H locs cells slots Q (F0 m (pc + 3) ls (.long v :: rest))) : W p l e R s m args below meth c H locs cells slots Q (F0 m pc ls st0) := cb_callP hr kk
/-- the top of the stack under another name -/
theorem cb_top {x y : Int32} (h : x = y) (k : W p l e R s m args below meth c H locs cells slots Q (F0 m pc ls (.int y :: rest))) : W p l e R s m args below meth c H locs cells slots Q (F0 m pc ls (.int x :: rest)) := by rw [h]; exact k
theorem cb_topl {x y : Int64} (h : x = y) (k : W p l e R s m args below meth c H locs cells slots Q (F0 m pc ls (.long y :: rest))) : W p l e R s m args below meth c H locs cells slots Q (F0 m pc ls (.long x :: rest)) := by rw [h]; exact k
end CBB
end
section
/-! PURE METHODS: each answers a printed tree of its own bytecode (pf_..), proved by walking every path -/
set_option maxRecDepth 100000
def pf_X1_in (v : Int32) (lo : Int32) (hi : Int32) : Int32 := (if v < lo then 0 else (if hi < v then 0 else 1))
set_option maxHeartbeats 4000000 in
set_option maxRecDepth 100000 in
theorem met_in (l : Launch) (v : Int32) (lo : Int32) (hi : Int32) : Met l yX1_in (ws_ yX1_in cX1_in 3 (some .boolean)) ({ frames := 0, cells := 0, slots := 0, locals := 0 } : Room) (cb_Pp [.int v, .int lo, .int hi]) (cb_Qp (some (.int (pf_X1_in v lo hi)))) 0 0 cb_no := by
  refine Met.ofW (cc := cX1_in) (maxL := 3) (ret := (some .boolean)) (by decide) rfl ?_
  intro p e s m args below meth c s₁ B hml hv
  obtain ⟨rfl, -⟩ := hv
  have hx := B.exec
  have hb := B.bytes
  have hr := B.returns
  have hts := atoms_spec (ws := (ws_ yX1_in cX1_in 3 (some .boolean))) B.pre
  have hts : ∀ w ∈ lw_all, w.before _ s = true := fun w h => hts w (List.mem_cons_of_mem _ h)
  have hown : s.vm.findClass RX1 = some m.cls := findClass_of_methodNamed B.named
  have hlocks := B.notSynchronized
  have hl := lv_entry ([.int v, .int lo, .int hi]) (n := 3) (Nat.le_of_ble_eq_true rfl)
  rw [lg_entry_eq]
  generalize (lg_sl ([.int v, .int lo, .int hi]) ++ List.replicate (3 - (lg_sl ([.int v, .int lo, .int hi])).length) Slot.unset).toArray = ls at hl ⊢
  have hl : lv_has ls 3 [(0, .int v), (1, .int lo), (2, .int hi)] := hl
  refine lv_iload_n hx hb dX1_in_0 rfl (lv_at hl 0 rfl) ?_
  refine lv_iload_n hx hb dX1_in_1 rfl (lv_at hl 1 rfl) ?_
  refine lv_icmp_lt (tgt := 14) hx hb dX1_in_2 (by decide) (fun c0 => ?_) (fun c0 => ?_)
  · refine lv_iconst (v := 0) hx hb dX1_in_14 (by decide) ?_
    exact W.zret (v := 0) hx hb hr rfl (fun t ht hW => ⟨cb_r (by rw [pf_X1_in, if_pos c0]), ht⟩) cb_nl dX1_in_15
  · refine lv_iload_n hx hb dX1_in_5 rfl (lv_at hl 0 rfl) ?_
    refine lv_iload_n hx hb dX1_in_6 rfl (lv_at hl 2 rfl) ?_
    refine lv_icmp_gt (tgt := 14) hx hb dX1_in_7 (by decide) (fun c1 => ?_) (fun c1 => ?_)
    · refine lv_iconst (v := 0) hx hb dX1_in_14 (by decide) ?_
      exact W.zret (v := 0) hx hb hr rfl (fun t ht hW => ⟨cb_r (by rw [pf_X1_in, if_neg c0, if_pos c1]), ht⟩) cb_nl dX1_in_15
    · refine lv_iconst (v := 1) hx hb dX1_in_10 (by decide) ?_
      refine lv_goto (tgt := 15) hx hb dX1_in_11 (by decide) ?_
      exact W.zret (v := 1) hx hb hr rfl (fun t ht hW => ⟨cb_r (by rw [pf_X1_in, if_neg c0, if_neg c1]), ht⟩) cb_nl dX1_in_15
def pf_X1_saturated (v : Int64) : Int32 := ((if (if v < 32767 then v else 32767) < (-32768) then (-32768) else (if v < 32767 then v else 32767)).toInt32)
set_option maxHeartbeats 4000000 in
set_option maxRecDepth 100000 in
theorem met_sat0 (l : Launch) (v : Int64) : Met l yX1_saturated (ws_ yX1_saturated cX1_saturated 2 (some .int)) ({ frames := 1, cells := 0, slots := 0, locals := 40 } : Room) (cb_Pp [.long v]) (cb_Qp (some (.int (pf_X1_saturated v)))) 0 0 cb_no := by
  refine Met.ofW (cc := cX1_saturated) (maxL := 2) (ret := (some .int)) (by decide) rfl ?_
  intro p e s m args below meth c s₁ B hml hv
  obtain ⟨rfl, -⟩ := hv
  have hx := B.exec
  have hb := B.bytes
  have hr := B.returns
  have hts := atoms_spec (ws := (ws_ yX1_saturated cX1_saturated 2 (some .int))) B.pre
  have hts : ∀ w ∈ lw_all, w.before _ s = true := fun w h => hts w (List.mem_cons_of_mem _ h)
  have hown : s.vm.findClass RX1 = some m.cls := findClass_of_methodNamed B.named
  have hlocks := B.notSynchronized
  have hl := lv_entry ([.long v]) (n := 2) (Nat.le_of_ble_eq_true rfl)
  rw [lg_entry_eq]
  generalize (lg_sl ([.long v]) ++ List.replicate (2 - (lg_sl ([.long v])).length) Slot.unset).toArray = ls at hl ⊢
  have hl : lv_has ls 2 [(0, .long v)] := hl
  refine lv_ldc2 (v := (-32768)) hx hb hown (hts _ q124) dX1_saturated_0 ?_
  refine lv_ldc2 (v := 32767) hx hb hown (hts _ q125) dX1_saturated_3 ?_
  refine lv_lload_n hx hb dX1_saturated_6 rfl (lv_at hl 0 rfl) ?_
  refine va_mmin_long hx hb (hml.trans hl.1.symm) hown (hts _ q126) (hts _ q127) (hts _ q9) (hts _ q128) (Nat.le_of_ble_eq_true rfl) (Nat.le_of_ble_eq_true rfl) (Nat.zero_le _) (Nat.zero_le _) dX1_saturated_7 ?_
  refine va_mmax_long hx hb (hml.trans hl.1.symm) hown (hts _ q129) (hts _ q130) (hts _ q9) (hts _ q131) (Nat.le_of_ble_eq_true rfl) (Nat.le_of_ble_eq_true rfl) (Nat.zero_le _) (Nat.zero_le _) dX1_saturated_10 ?_
  refine lv_l2i hx hb dX1_saturated_13 rfl ?_
  exact W.iret (v := ((if (if v < 32767 then v else 32767) < (-32768) then (-32768) else (if v < 32767 then v else 32767)).toInt32)) hx hb hr (fun t ht hW => ⟨cb_r (by rw [pf_X1_saturated]), ht⟩) cb_nl dX1_saturated_14
def pf_J1_floorDiv (v : Int32) : Int32 := (if 0 ≤ (v ^^^ 256) then (v / 256) else (if ((v / 256) * 256) = v then (v / 256) else ((v / 256) - 1)))
set_option maxHeartbeats 4000000 in
set_option maxRecDepth 100000 in
theorem met_fd0 (l : Launch) (v : Int32) : Met l yJ1_floorDiv (ws_ yJ1_floorDiv cJ1_floorDiv 3 (some .int)) ({ frames := 0, cells := 0, slots := 0, locals := 0 } : Room) (cb_Pp [.int v, .int 256]) (cb_Qp (some (.int (pf_J1_floorDiv v)))) 0 0 cb_no := by
  refine va_MetF (cc := cJ1_floorDiv) (maxL := 3) (ret := (some .int)) (by decide +kernel) rfl ?_
  intro p e s m args below meth c s₁ B hml hv
  obtain ⟨rfl, -⟩ := hv
  have hx := B.exec
  have hb := B.bytes
  have hr := B.returns
  have hts := atoms_spec (ws := (ws_ yJ1_floorDiv cJ1_floorDiv 3 (some .int))) B.pre
  have hts : ∀ w ∈ lw_all, w.before _ s = true := fun w h => hts w (List.mem_cons_of_mem _ h)
  have hown : s.vm.findClass RJ1 = some m.cls := findClass_of_methodNamed B.named
  have hlocks := B.notSynchronized
  have hl := lv_entry ([.int v, .int 256]) (n := 3) (Nat.le_of_ble_eq_true rfl)
  rw [lg_entry_eq]
  generalize (lg_sl ([.int v, .int 256]) ++ List.replicate (3 - (lg_sl ([.int v, .int 256])).length) Slot.unset).toArray = ls at hl ⊢
  have hl : lv_has ls 3 [(0, .int v), (1, .int 256)] := hl
  refine lv_iload_n hx hb dJ1_floorDiv_0 rfl (lv_at hl 0 rfl) ?_
  refine lv_iload_n hx hb dJ1_floorDiv_1 rfl (lv_at hl 1 rfl) ?_
  refine lv_idiv hx hb dJ1_floorDiv_2 (by decide) ?_
  refine lv_istore_n (lv' := [(2, .int (v / 256)), (0, .int v), (1, .int 256)]) hx hb dJ1_floorDiv_3 rfl hl (by decide) rfl (fun ls hl => ?_)
  refine lv_iload_n hx hb dJ1_floorDiv_4 rfl (lv_at hl 1 rfl) ?_
  refine lv_iload_n hx hb dJ1_floorDiv_5 rfl (lv_at hl 2 rfl) ?_
  refine lv_ixor hx hb dJ1_floorDiv_6 ?_
  refine lv_if_ge (tgt := 21) hx hb dJ1_floorDiv_7 (by decide) (fun c0 => ?_) (fun c0 => ?_)
  · refine lv_iload_n hx hb dJ1_floorDiv_21 rfl (lv_at hl 0 rfl) ?_
    exact W.iret (v := (v / 256)) hx hb hr (fun t ht hW => ⟨cb_r (by rw [pf_J1_floorDiv, if_pos c0]), ht⟩) cb_nl dJ1_floorDiv_22
  · refine lv_iload_n hx hb dJ1_floorDiv_10 rfl (lv_at hl 0 rfl) ?_
    refine lv_iload_n hx hb dJ1_floorDiv_11 rfl (lv_at hl 2 rfl) ?_
    refine lv_imul hx hb dJ1_floorDiv_12 ?_
    refine lv_iload_n hx hb dJ1_floorDiv_13 rfl (lv_at hl 1 rfl) ?_
    refine lv_icmp_eq (tgt := 21) hx hb dJ1_floorDiv_14 (by decide) (fun c1 => ?_) (fun c1 => ?_)
    · refine lv_iload_n hx hb dJ1_floorDiv_21 rfl (lv_at hl 0 rfl) ?_
      exact W.iret (v := (v / 256)) hx hb hr (fun t ht hW => ⟨cb_r (by rw [pf_J1_floorDiv, if_neg c0, if_pos c1]), ht⟩) cb_nl dJ1_floorDiv_22
    · refine lv_iload_n hx hb dJ1_floorDiv_17 rfl (lv_at hl 0 rfl) ?_
      refine lv_iconst (v := 1) hx hb dJ1_floorDiv_18 (by decide) ?_
      refine lv_isub hx hb dJ1_floorDiv_19 ?_
      exact W.iret (v := ((v / 256) - 1)) hx hb hr (fun t ht hW => ⟨cb_r (by rw [pf_J1_floorDiv, if_neg c0, if_neg c1]), ht⟩) cb_nl dJ1_floorDiv_20
def pf_X3_decoded (v : Int32) : Int32 := (if (((v ^^^ 85) >>> (4 &&& 31)) &&& 7) = 0 then (if (((v ^^^ 85) >>> (4 &&& 31)) &&& 7) ≤ 1 then (if ((v ^^^ 85) &&& 128) = 0 then (-((16 * ((v ^^^ 85) &&& 15)) + 8)) else ((16 * ((v ^^^ 85) &&& 15)) + 8)) else (if ((v ^^^ 85) &&& 128) = 0 then (-(((16 * ((v ^^^ 85) &&& 15)) + 8) <<< (((((v ^^^ 85) >>> (4 &&& 31)) &&& 7) - 1) &&& 31))) else (((16 * ((v ^^^ 85) &&& 15)) + 8) <<< (((((v ^^^ 85) >>> (4 &&& 31)) &&& 7) - 1) &&& 31)))) else (if (((v ^^^ 85) >>> (4 &&& 31)) &&& 7) ≤ 1 then (if ((v ^^^ 85) &&& 128) = 0 then (-((16 * ((v ^^^ 85) &&& 15)) + 264)) else ((16 * ((v ^^^ 85) &&& 15)) + 264)) else (if ((v ^^^ 85) &&& 128) = 0 then (-(((16 * ((v ^^^ 85) &&& 15)) + 264) <<< (((((v ^^^ 85) >>> (4 &&& 31)) &&& 7) - 1) &&& 31))) else (((16 * ((v ^^^ 85) &&& 15)) + 264) <<< (((((v ^^^ 85) >>> (4 &&& 31)) &&& 7) - 1) &&& 31)))))
set_option maxHeartbeats 4000000 in
set_option maxRecDepth 100000 in
theorem met_dA0 (l : Launch) (v : Int32) (a : Nat) : Met l yX3_decoded (ws_ yX3_decoded cX3_decoded 5 (some .int)) ({ frames := 0, cells := 0, slots := 0, locals := 0 } : Room) (cb_Pp [.ref a, .int v]) (cb_Qp (some (.int (pf_X3_decoded v)))) 0 0 cb_no := by
  refine Met.ofW (cc := cX3_decoded) (maxL := 5) (ret := (some .int)) (by decide) rfl ?_
  intro p e s m args below meth c s₁ B hml hv
  obtain ⟨rfl, -⟩ := hv
  have hx := B.exec
  have hb := B.bytes
  have hr := B.returns
  have hts := atoms_spec (ws := (ws_ yX3_decoded cX3_decoded 5 (some .int))) B.pre
  have hts : ∀ w ∈ lw_all, w.before _ s = true := fun w h => hts w (List.mem_cons_of_mem _ h)
  have hown : s.vm.findClass RX3 = some m.cls := findClass_of_methodNamed B.named
  have hlocks := B.notSynchronized
  have hl := lv_entry ([.ref a, .int v]) (n := 5) (Nat.le_of_ble_eq_true rfl)
  rw [lg_entry_eq]
  generalize (lg_sl ([.ref a, .int v]) ++ List.replicate (5 - (lg_sl ([.ref a, .int v])).length) Slot.unset).toArray = ls at hl ⊢
  have hl : lv_has ls 5 [(0, .ref a), (1, .int v)] := hl
  refine lv_iload_n hx hb dX3_decoded_0 rfl (lv_at hl 1 rfl) ?_
  refine lv_bipush (v := 85) hx hb dX3_decoded_1 (by decide) ?_
  refine lv_ixor hx hb dX3_decoded_3 ?_
  refine lv_istore_n (lv' := [(2, .int (v ^^^ 85)), (0, .ref a), (1, .int v)]) hx hb dX3_decoded_4 rfl hl (by decide) rfl (fun ls hl => ?_)
  refine lv_iload_n hx hb dX3_decoded_5 rfl (lv_at hl 0 rfl) ?_
  refine lv_iconst (v := 4) hx hb dX3_decoded_6 (by decide) ?_
  refine lv_ishr hx hb dX3_decoded_7 ?_
  refine lv_bipush (v := 7) hx hb dX3_decoded_8 (by decide) ?_
  refine lv_iand hx hb dX3_decoded_10 ?_
  refine lv_istore_n (lv' := [(3, .int (((v ^^^ 85) >>> (4 &&& 31)) &&& 7)), (2, .int (v ^^^ 85)), (0, .ref a), (1, .int v)]) hx hb dX3_decoded_11 rfl hl (by decide) rfl (fun ls hl => ?_)
  refine lv_bipush (v := 16) hx hb dX3_decoded_12 (by decide) ?_
  refine lv_iload_n hx hb dX3_decoded_14 rfl (lv_at hl 1 rfl) ?_
  refine lv_bipush (v := 15) hx hb dX3_decoded_15 (by decide) ?_
  refine lv_iand hx hb dX3_decoded_17 ?_
  refine lv_imul hx hb dX3_decoded_18 ?_
  refine lv_iload_n hx hb dX3_decoded_19 rfl (lv_at hl 0 rfl) ?_
  refine lv_if_ne (tgt := 28) hx hb dX3_decoded_20 (by decide) (fun c0 => ?_) (fun c0 => ?_)
  · refine lv_sipush (v := 264) hx hb dX3_decoded_28 (by decide) ?_
    refine lv_iadd hx hb dX3_decoded_31 ?_
    refine lv_istore (lv' := [(4, .int ((16 * ((v ^^^ 85) &&& 15)) + 264)), (3, .int (((v ^^^ 85) >>> (4 &&& 31)) &&& 7)), (2, .int (v ^^^ 85)), (0, .ref a), (1, .int v)]) hx hb dX3_decoded_32 hl (by decide) rfl (fun ls hl => ?_)
    refine lv_iload_n hx hb dX3_decoded_34 rfl (lv_at hl 1 rfl) ?_
    refine lv_iconst (v := 1) hx hb dX3_decoded_35 (by decide) ?_
    refine lv_icmp_le (tgt := 47) hx hb dX3_decoded_36 (by decide) (fun c1 => ?_) (fun c1 => ?_)
    · refine lv_iload_n hx hb dX3_decoded_47 rfl (lv_at hl 2 rfl) ?_
      refine lv_sipush (v := 128) hx hb dX3_decoded_48 (by decide) ?_
      refine lv_iand hx hb dX3_decoded_51 ?_
      refine lv_if_eq (tgt := 60) hx hb dX3_decoded_52 (by decide) (fun c2 => ?_) (fun c2 => ?_)
      · refine lv_iload hx hb dX3_decoded_60 (lv_at hl 0 rfl) ?_
        refine lv_ineg hx hb dX3_decoded_62 ?_
        exact W.iret (v := (-((16 * ((v ^^^ 85) &&& 15)) + 264))) hx hb hr (fun t ht hW => ⟨cb_r (by rw [pf_X3_decoded, if_neg c0, if_pos c1, if_pos c2]), ht⟩) cb_nl dX3_decoded_63
      · refine lv_iload hx hb dX3_decoded_55 (lv_at hl 0 rfl) ?_
        refine lv_goto (tgt := 63) hx hb dX3_decoded_57 (by decide) ?_
        exact W.iret (v := ((16 * ((v ^^^ 85) &&& 15)) + 264)) hx hb hr (fun t ht hW => ⟨cb_r (by rw [pf_X3_decoded, if_neg c0, if_pos c1, if_neg c2]), ht⟩) cb_nl dX3_decoded_63
    · refine lv_iload hx hb dX3_decoded_39 (lv_at hl 0 rfl) ?_
      refine lv_iload_n hx hb dX3_decoded_41 rfl (lv_at hl 1 rfl) ?_
      refine lv_iconst (v := 1) hx hb dX3_decoded_42 (by decide) ?_
      refine lv_isub hx hb dX3_decoded_43 ?_
      refine lv_ishl hx hb dX3_decoded_44 ?_
      refine lv_istore (lv' := [(4, .int (((16 * ((v ^^^ 85) &&& 15)) + 264) <<< (((((v ^^^ 85) >>> (4 &&& 31)) &&& 7) - 1) &&& 31))), (3, .int (((v ^^^ 85) >>> (4 &&& 31)) &&& 7)), (2, .int (v ^^^ 85)), (0, .ref a), (1, .int v)]) hx hb dX3_decoded_45 hl (by decide) rfl (fun ls hl => ?_)
      refine lv_iload_n hx hb dX3_decoded_47 rfl (lv_at hl 2 rfl) ?_
      refine lv_sipush (v := 128) hx hb dX3_decoded_48 (by decide) ?_
      refine lv_iand hx hb dX3_decoded_51 ?_
      refine lv_if_eq (tgt := 60) hx hb dX3_decoded_52 (by decide) (fun c2 => ?_) (fun c2 => ?_)
      · refine lv_iload hx hb dX3_decoded_60 (lv_at hl 0 rfl) ?_
        refine lv_ineg hx hb dX3_decoded_62 ?_
        exact W.iret (v := (-(((16 * ((v ^^^ 85) &&& 15)) + 264) <<< (((((v ^^^ 85) >>> (4 &&& 31)) &&& 7) - 1) &&& 31)))) hx hb hr (fun t ht hW => ⟨cb_r (by rw [pf_X3_decoded, if_neg c0, if_neg c1, if_pos c2]), ht⟩) cb_nl dX3_decoded_63
      · refine lv_iload hx hb dX3_decoded_55 (lv_at hl 0 rfl) ?_
        refine lv_goto (tgt := 63) hx hb dX3_decoded_57 (by decide) ?_
        exact W.iret (v := (((16 * ((v ^^^ 85) &&& 15)) + 264) <<< (((((v ^^^ 85) >>> (4 &&& 31)) &&& 7) - 1) &&& 31))) hx hb hr (fun t ht hW => ⟨cb_r (by rw [pf_X3_decoded, if_neg c0, if_neg c1, if_neg c2]), ht⟩) cb_nl dX3_decoded_63
  · refine lv_bipush (v := 8) hx hb dX3_decoded_23 (by decide) ?_
    refine lv_goto (tgt := 31) hx hb dX3_decoded_25 (by decide) ?_
    refine lv_iadd hx hb dX3_decoded_31 ?_
    refine lv_istore (lv' := [(4, .int ((16 * ((v ^^^ 85) &&& 15)) + 8)), (3, .int (((v ^^^ 85) >>> (4 &&& 31)) &&& 7)), (2, .int (v ^^^ 85)), (0, .ref a), (1, .int v)]) hx hb dX3_decoded_32 hl (by decide) rfl (fun ls hl => ?_)
    refine lv_iload_n hx hb dX3_decoded_34 rfl (lv_at hl 1 rfl) ?_
    refine lv_iconst (v := 1) hx hb dX3_decoded_35 (by decide) ?_
    refine lv_icmp_le (tgt := 47) hx hb dX3_decoded_36 (by decide) (fun c1 => ?_) (fun c1 => ?_)
    · refine lv_iload_n hx hb dX3_decoded_47 rfl (lv_at hl 2 rfl) ?_
      refine lv_sipush (v := 128) hx hb dX3_decoded_48 (by decide) ?_
      refine lv_iand hx hb dX3_decoded_51 ?_
      refine lv_if_eq (tgt := 60) hx hb dX3_decoded_52 (by decide) (fun c2 => ?_) (fun c2 => ?_)
      · refine lv_iload hx hb dX3_decoded_60 (lv_at hl 0 rfl) ?_
        refine lv_ineg hx hb dX3_decoded_62 ?_
        exact W.iret (v := (-((16 * ((v ^^^ 85) &&& 15)) + 8))) hx hb hr (fun t ht hW => ⟨cb_r (by rw [pf_X3_decoded, if_pos c0, if_pos c1, if_pos c2]), ht⟩) cb_nl dX3_decoded_63
      · refine lv_iload hx hb dX3_decoded_55 (lv_at hl 0 rfl) ?_
        refine lv_goto (tgt := 63) hx hb dX3_decoded_57 (by decide) ?_
        exact W.iret (v := ((16 * ((v ^^^ 85) &&& 15)) + 8)) hx hb hr (fun t ht hW => ⟨cb_r (by rw [pf_X3_decoded, if_pos c0, if_pos c1, if_neg c2]), ht⟩) cb_nl dX3_decoded_63
    · refine lv_iload hx hb dX3_decoded_39 (lv_at hl 0 rfl) ?_
      refine lv_iload_n hx hb dX3_decoded_41 rfl (lv_at hl 1 rfl) ?_
      refine lv_iconst (v := 1) hx hb dX3_decoded_42 (by decide) ?_
      refine lv_isub hx hb dX3_decoded_43 ?_
      refine lv_ishl hx hb dX3_decoded_44 ?_
      refine lv_istore (lv' := [(4, .int (((16 * ((v ^^^ 85) &&& 15)) + 8) <<< (((((v ^^^ 85) >>> (4 &&& 31)) &&& 7) - 1) &&& 31))), (3, .int (((v ^^^ 85) >>> (4 &&& 31)) &&& 7)), (2, .int (v ^^^ 85)), (0, .ref a), (1, .int v)]) hx hb dX3_decoded_45 hl (by decide) rfl (fun ls hl => ?_)
      refine lv_iload_n hx hb dX3_decoded_47 rfl (lv_at hl 2 rfl) ?_
      refine lv_sipush (v := 128) hx hb dX3_decoded_48 (by decide) ?_
      refine lv_iand hx hb dX3_decoded_51 ?_
      refine lv_if_eq (tgt := 60) hx hb dX3_decoded_52 (by decide) (fun c2 => ?_) (fun c2 => ?_)
      · refine lv_iload hx hb dX3_decoded_60 (lv_at hl 0 rfl) ?_
        refine lv_ineg hx hb dX3_decoded_62 ?_
        exact W.iret (v := (-(((16 * ((v ^^^ 85) &&& 15)) + 8) <<< (((((v ^^^ 85) >>> (4 &&& 31)) &&& 7) - 1) &&& 31)))) hx hb hr (fun t ht hW => ⟨cb_r (by rw [pf_X3_decoded, if_pos c0, if_neg c1, if_pos c2]), ht⟩) cb_nl dX3_decoded_63
      · refine lv_iload hx hb dX3_decoded_55 (lv_at hl 0 rfl) ?_
        refine lv_goto (tgt := 63) hx hb dX3_decoded_57 (by decide) ?_
        exact W.iret (v := (((16 * ((v ^^^ 85) &&& 15)) + 8) <<< (((((v ^^^ 85) >>> (4 &&& 31)) &&& 7) - 1) &&& 31))) hx hb hr (fun t ht hW => ⟨cb_r (by rw [pf_X3_decoded, if_pos c0, if_neg c1, if_neg c2]), ht⟩) cb_nl dX3_decoded_63
def pf_X4_decoded (v : Int32) : Int32 := (if ((v ^^^ (-1)) &&& 128) = 0 then ((((8 * ((v ^^^ (-1)) &&& 15)) + 132) <<< ((((v ^^^ (-1)) >>> (4 &&& 31)) &&& 7) &&& 31)) - 132) else (-((((8 * ((v ^^^ (-1)) &&& 15)) + 132) <<< ((((v ^^^ (-1)) >>> (4 &&& 31)) &&& 7) &&& 31)) - 132)))
set_option maxHeartbeats 4000000 in
set_option maxRecDepth 100000 in
theorem met_dM0 (l : Launch) (v : Int32) (a : Nat) : Met l yX4_decoded (ws_ yX4_decoded cX4_decoded 4 (some .int)) ({ frames := 0, cells := 0, slots := 0, locals := 0 } : Room) (cb_Pp [.ref a, .int v]) (cb_Qp (some (.int (pf_X4_decoded v)))) 0 0 cb_no := by
  refine Met.ofW (cc := cX4_decoded) (maxL := 4) (ret := (some .int)) (by decide) rfl ?_
  intro p e s m args below meth c s₁ B hml hv
  obtain ⟨rfl, -⟩ := hv
  have hx := B.exec
  have hb := B.bytes
  have hr := B.returns
  have hts := atoms_spec (ws := (ws_ yX4_decoded cX4_decoded 4 (some .int))) B.pre
  have hts : ∀ w ∈ lw_all, w.before _ s = true := fun w h => hts w (List.mem_cons_of_mem _ h)
  have hown : s.vm.findClass RX4 = some m.cls := findClass_of_methodNamed B.named
  have hlocks := B.notSynchronized
  have hl := lv_entry ([.ref a, .int v]) (n := 4) (Nat.le_of_ble_eq_true rfl)
  rw [lg_entry_eq]
  generalize (lg_sl ([.ref a, .int v]) ++ List.replicate (4 - (lg_sl ([.ref a, .int v])).length) Slot.unset).toArray = ls at hl ⊢
  have hl : lv_has ls 4 [(0, .ref a), (1, .int v)] := hl
  refine lv_iload_n hx hb dX4_decoded_0 rfl (lv_at hl 1 rfl) ?_
  refine lv_iconst (v := (-1)) hx hb dX4_decoded_1 (by decide) ?_
  refine lv_ixor hx hb dX4_decoded_2 ?_
  refine lv_istore_n (lv' := [(2, .int (v ^^^ (-1))), (0, .ref a), (1, .int v)]) hx hb dX4_decoded_3 rfl hl (by decide) rfl (fun ls hl => ?_)
  refine lv_bipush (v := 8) hx hb dX4_decoded_4 (by decide) ?_
  refine lv_iload_n hx hb dX4_decoded_6 rfl (lv_at hl 0 rfl) ?_
  refine lv_bipush (v := 15) hx hb dX4_decoded_7 (by decide) ?_
  refine lv_iand hx hb dX4_decoded_9 ?_
  refine lv_imul hx hb dX4_decoded_10 ?_
  refine lv_sipush (v := 132) hx hb dX4_decoded_11 (by decide) ?_
  refine lv_iadd hx hb dX4_decoded_14 ?_
  refine lv_iload_n hx hb dX4_decoded_15 rfl (lv_at hl 0 rfl) ?_
  refine lv_iconst (v := 4) hx hb dX4_decoded_16 (by decide) ?_
  refine lv_ishr hx hb dX4_decoded_17 ?_
  refine lv_bipush (v := 7) hx hb dX4_decoded_18 (by decide) ?_
  refine lv_iand hx hb dX4_decoded_20 ?_
  refine lv_ishl hx hb dX4_decoded_21 ?_
  refine lv_sipush (v := 132) hx hb dX4_decoded_22 (by decide) ?_
  refine lv_isub hx hb dX4_decoded_25 ?_
  refine lv_istore_n (lv' := [(3, .int ((((8 * ((v ^^^ (-1)) &&& 15)) + 132) <<< ((((v ^^^ (-1)) >>> (4 &&& 31)) &&& 7) &&& 31)) - 132)), (2, .int (v ^^^ (-1))), (0, .ref a), (1, .int v)]) hx hb dX4_decoded_26 rfl hl (by decide) rfl (fun ls hl => ?_)
  refine lv_iload_n hx hb dX4_decoded_27 rfl (lv_at hl 1 rfl) ?_
  refine lv_sipush (v := 128) hx hb dX4_decoded_28 (by decide) ?_
  refine lv_iand hx hb dX4_decoded_31 ?_
  refine lv_if_eq (tgt := 40) hx hb dX4_decoded_32 (by decide) (fun c0 => ?_) (fun c0 => ?_)
  · refine lv_iload_n hx hb dX4_decoded_40 rfl (lv_at hl 0 rfl) ?_
    exact W.iret (v := ((((8 * ((v ^^^ (-1)) &&& 15)) + 132) <<< ((((v ^^^ (-1)) >>> (4 &&& 31)) &&& 7) &&& 31)) - 132)) hx hb hr (fun t ht hW => ⟨cb_r (by rw [pf_X4_decoded, if_pos c0]), ht⟩) cb_nl dX4_decoded_41
  · refine lv_iload_n hx hb dX4_decoded_35 rfl (lv_at hl 0 rfl) ?_
    refine lv_ineg hx hb dX4_decoded_36 ?_
    refine lv_goto (tgt := 41) hx hb dX4_decoded_37 (by decide) ?_
    exact W.iret (v := (-((((8 * ((v ^^^ (-1)) &&& 15)) + 132) <<< ((((v ^^^ (-1)) >>> (4 &&& 31)) &&& 7) &&& 31)) - 132))) hx hb hr (fun t ht hW => ⟨cb_r (by rw [pf_X4_decoded, if_neg c0]), ht⟩) cb_nl dX4_decoded_41
def pf_X6_held (v : Int64) : Int32 := (if (lg_cmp v 32767) ≤ 0 then (if 0 ≤ (lg_cmp v (-32768)) then v.toInt32 else (-32768)) else 32767)
set_option maxHeartbeats 4000000 in
set_option maxRecDepth 100000 in
theorem met_held0 (l : Launch) (v : Int64) : Met l yX6_held (ws_ yX6_held cX6_held 2 (some .int)) ({ frames := 0, cells := 0, slots := 0, locals := 0 } : Room) (cb_Pp [.long v]) (cb_Qp (some (.int (pf_X6_held v)))) 0 0 cb_no := by
  refine Met.ofW (cc := cX6_held) (maxL := 2) (ret := (some .int)) (by decide) rfl ?_
  intro p e s m args below meth c s₁ B hml hv
  obtain ⟨rfl, -⟩ := hv
  have hx := B.exec
  have hb := B.bytes
  have hr := B.returns
  have hts := atoms_spec (ws := (ws_ yX6_held cX6_held 2 (some .int))) B.pre
  have hts : ∀ w ∈ lw_all, w.before _ s = true := fun w h => hts w (List.mem_cons_of_mem _ h)
  have hown : s.vm.findClass RX6 = some m.cls := findClass_of_methodNamed B.named
  have hlocks := B.notSynchronized
  have hl := lv_entry ([.long v]) (n := 2) (Nat.le_of_ble_eq_true rfl)
  rw [lg_entry_eq]
  generalize (lg_sl ([.long v]) ++ List.replicate (2 - (lg_sl ([.long v])).length) Slot.unset).toArray = ls at hl ⊢
  have hl : lv_has ls 2 [(0, .long v)] := hl
  refine lv_lload_n hx hb dX6_held_0 rfl (lv_at hl 0 rfl) ?_
  refine lv_ldc2 (v := 32767) hx hb hown (hts _ q319) dX6_held_1 ?_
  refine W.lcmp hx hb dX6_held_4 ?_
  refine lv_if_le (tgt := 14) hx hb dX6_held_5 (by decide) (fun c0 => ?_) (fun c0 => ?_)
  · refine lv_lload_n hx hb dX6_held_14 rfl (lv_at hl 0 rfl) ?_
    refine lv_ldc2 (v := (-32768)) hx hb hown (hts _ q320) dX6_held_15 ?_
    refine W.lcmp hx hb dX6_held_18 ?_
    refine lv_if_ge (tgt := 28) hx hb dX6_held_19 (by decide) (fun c1 => ?_) (fun c1 => ?_)
    · refine lv_lload_n hx hb dX6_held_28 rfl (lv_at hl 0 rfl) ?_
      refine lv_l2i hx hb dX6_held_29 rfl ?_
      exact W.iret (v := v.toInt32) hx hb hr (fun t ht hW => ⟨cb_r (by rw [pf_X6_held, if_pos c0, if_pos c1]), ht⟩) cb_nl dX6_held_30
    · refine lv_sipush (v := (-32768)) hx hb dX6_held_22 (by decide) ?_
      refine lv_goto (tgt := 30) hx hb dX6_held_25 (by decide) ?_
      exact W.iret (v := (-32768)) hx hb hr (fun t ht hW => ⟨cb_r (by rw [pf_X6_held, if_pos c0, if_neg c1]), ht⟩) cb_nl dX6_held_30
  · refine lv_sipush (v := 32767) hx hb dX6_held_8 (by decide) ?_
    refine lv_goto (tgt := 30) hx hb dX6_held_11 (by decide) ?_
    exact W.iret (v := 32767) hx hb hr (fun t ht hW => ⟨cb_r (by rw [pf_X6_held, if_neg c0]), ht⟩) cb_nl dX6_held_30
def pf_X6_not (k : Int32) (n : Int32) : Int32 := (if k < 0 then 1 else (if k < n then 0 else 1))
set_option maxHeartbeats 4000000 in
set_option maxRecDepth 100000 in
theorem met_not0 (l : Launch) (k : Int32) (n : Int32) : Met l yX6_not (ws_ yX6_not cX6_not 2 (some .boolean)) ({ frames := 0, cells := 0, slots := 0, locals := 0 } : Room) (cb_Pp [.int k, .int n]) (cb_Qp (some (.int (pf_X6_not k n)))) 0 0 cb_no := by
  refine Met.ofW (cc := cX6_not) (maxL := 2) (ret := (some .boolean)) (by decide) rfl ?_
  intro p e s m args below meth c s₁ B hml hv
  obtain ⟨rfl, -⟩ := hv
  have hx := B.exec
  have hb := B.bytes
  have hr := B.returns
  have hts := atoms_spec (ws := (ws_ yX6_not cX6_not 2 (some .boolean))) B.pre
  have hts : ∀ w ∈ lw_all, w.before _ s = true := fun w h => hts w (List.mem_cons_of_mem _ h)
  have hown : s.vm.findClass RX6 = some m.cls := findClass_of_methodNamed B.named
  have hlocks := B.notSynchronized
  have hl := lv_entry ([.int k, .int n]) (n := 2) (Nat.le_of_ble_eq_true rfl)
  rw [lg_entry_eq]
  generalize (lg_sl ([.int k, .int n]) ++ List.replicate (2 - (lg_sl ([.int k, .int n])).length) Slot.unset).toArray = ls at hl ⊢
  have hl : lv_has ls 2 [(0, .int k), (1, .int n)] := hl
  refine lv_iload_n hx hb dX6_not_0 rfl (lv_at hl 0 rfl) ?_
  refine lv_if_lt (tgt := 9) hx hb dX6_not_1 (by decide) (fun c0 => ?_) (fun c0 => ?_)
  · refine lv_iconst (v := 1) hx hb dX6_not_9 (by decide) ?_
    refine lv_goto (tgt := 14) hx hb dX6_not_10 (by decide) ?_
    exact W.zret (v := 1) hx hb hr rfl (fun t ht hW => ⟨cb_r (by rw [pf_X6_not, if_pos c0]), ht⟩) cb_nl dX6_not_14
  · refine lv_iload_n hx hb dX6_not_4 rfl (lv_at hl 0 rfl) ?_
    refine lv_iload_n hx hb dX6_not_5 rfl (lv_at hl 1 rfl) ?_
    refine lv_icmp_lt (tgt := 13) hx hb dX6_not_6 (by decide) (fun c1 => ?_) (fun c1 => ?_)
    · refine lv_iconst (v := 0) hx hb dX6_not_13 (by decide) ?_
      exact W.zret (v := 0) hx hb hr rfl (fun t ht hW => ⟨cb_r (by rw [pf_X6_not, if_neg c0, if_pos c1]), ht⟩) cb_nl dX6_not_14
    · refine lv_iconst (v := 1) hx hb dX6_not_9 (by decide) ?_
      refine lv_goto (tgt := 14) hx hb dX6_not_10 (by decide) ?_
      exact W.zret (v := 1) hx hb hr rfl (fun t ht hW => ⟨cb_r (by rw [pf_X6_not, if_neg c0, if_neg c1]), ht⟩) cb_nl dX6_not_14
end
section
/-! PLAIN LAWS: codes, saturation, floors (no machine in sight) -/
set_option maxRecDepth 100000
def cb_sat (v : Int64) : Int32 := if 32767 < v then 32767 else if v < -32768 then -32768 else v.toInt32
theorem cb_sat_bridge (v : Int64) : pf_X1_saturated v = cb_sat v := by
  unfold pf_X1_saturated cb_sat
  have e1 : (32767 : Int64).toInt = 32767 := by decide
  have e2 : (-32768 : Int64).toInt = -32768 := by decide
  by_cases h1 : 32767 < v
  · have h2 : ¬ v < 32767 := by
      rw [Int64.lt_iff_toInt_lt] at h1 ⊢
      omega
    rw [if_pos h1, if_neg h2]
    decide
  · rw [if_neg h1]
    by_cases h2 : v < 32767
    · rw [if_pos h2]
      by_cases h3 : v < -32768
      · rw [if_pos h3, if_pos h3]
        decide
      · rw [if_neg h3, if_neg h3]
    · have h3 : v = 32767 := by
        rw [← Int64.toInt_inj]
        rw [Int64.lt_iff_toInt_lt] at h1 h2
        omega
      subst h3
      decide
theorem cb_cmp_le (x y : Int64) : (lg_cmp x y ≤ 0) = (x ≤ y) := propext (lg_cmp_le x y)
theorem cb_cmp_ge (x y : Int64) : (0 ≤ lg_cmp x y) = (y ≤ x) := propext (lg_cmp_ge x y)
theorem cb_sat_model (v : Int64) : pf_X6_held v = cb_sat v := by
  unfold pf_X6_held cb_sat
  by_cases h1 : 32767 < v
  · have h2 : ¬ v ≤ 32767 := by
      rw [Int64.lt_iff_toInt_lt] at h1
      rw [Int64.le_iff_toInt_le]
      omega
    rw [if_pos h1, if_neg (by rw [cb_cmp_le]; exact h2)]
  · have h2 : v ≤ 32767 := by
      rw [Int64.lt_iff_toInt_lt] at h1
      rw [Int64.le_iff_toInt_le]
      omega
    rw [if_neg h1, if_pos (by rw [cb_cmp_le]; exact h2)]
    by_cases h3 : v < -32768
    · rw [if_pos h3, if_neg (by rw [cb_cmp_ge, Int64.le_iff_toInt_le]; rw [Int64.lt_iff_toInt_lt] at h3; omega)]
    · rw [if_neg h3, if_pos (by rw [cb_cmp_ge, Int64.le_iff_toInt_le]; rw [Int64.lt_iff_toInt_lt] at h3; omega)]
/-- what saturating leaves -/
def cb_rng (x : Int32) : Prop := -32768 ≤ x.toInt ∧ x.toInt ≤ 32767
theorem cb_sat_rng (v : Int64) : cb_rng (cb_sat v) := by
  unfold cb_rng cb_sat
  have e1 : (32767 : Int64).toInt = 32767 := by decide
  have e2 : (-32768 : Int64).toInt = -32768 := by decide
  by_cases h1 : 32767 < v
  · rw [if_pos h1]; decide
  · rw [if_neg h1]
    by_cases h3 : v < -32768
    · rw [if_pos h3]; decide
    · rw [if_neg h3]
      rw [Int64.lt_iff_toInt_lt] at h1 h3
      rw [Int64.toInt_toInt32]
      rw [Int.bmod_eq_of_le (by omega) (by omega)]
      omega
theorem pf_in_eq (v lo hi : Int32) : pf_X1_in v lo hi = if lo ≤ v ∧ v ≤ hi then 1 else 0 := by
  unfold pf_X1_in
  by_cases h1 : v < lo
  · rw [if_pos h1, if_neg]
    rintro ⟨a, -⟩
    rw [Int32.lt_iff_toInt_lt] at h1
    rw [Int32.le_iff_toInt_le] at a
    omega
  · rw [if_neg h1]
    by_cases h2 : hi < v
    · rw [if_pos h2, if_neg]
      rintro ⟨-, a⟩
      rw [Int32.lt_iff_toInt_lt] at h2
      rw [Int32.le_iff_toInt_le] at a
      omega
    · rw [if_neg h2, if_pos]
      rw [Int32.lt_iff_toInt_lt] at h1 h2
      rw [Int32.le_iff_toInt_le, Int32.le_iff_toInt_le]
      omega
/-- the index test of both sides -/
def cb_ix (v : Int32) (n : Nat) : Bool := decide (0 ≤ v.toInt) && decide (v.toInt < n)
theorem cb_ix_of {v : Int32} {n : Nat} (h : cb_ix v n = true) (hn : n < 2 ^ 31) : ∃ j : Nat, j < n ∧ v = nI j := by
  simp only [cb_ix, Bool.and_eq_true, decide_eq_true_eq] at h
  refine ⟨v.toInt.toNat, by omega, ?_⟩
  rw [← Int32.toInt_inj, nI_toInt (by omega)]
  omega
theorem cb_ix_nI {j n : Nat} (h : j < n) (hn : n < 2 ^ 31) : cb_ix (nI j) n = true := by
  simp only [cb_ix, Bool.and_eq_true, decide_eq_true_eq]
  rw [nI_toInt (by omega)]
  omega
theorem pf_in_ix (v hi : Int32) (n : Nat) (h : hi.toInt + 1 = n) : pf_X1_in v 0 hi = if cb_ix v n = true then 1 else 0 := by
  rw [pf_in_eq]
  by_cases c : cb_ix v n = true
  · rw [if_pos c, if_pos]
    simp only [cb_ix, Bool.and_eq_true, decide_eq_true_eq] at c
    rw [Int32.le_iff_toInt_le, Int32.le_iff_toInt_le, Int32.toInt_zero]
    omega
  · rw [if_neg c, if_neg]
    simp only [cb_ix, Bool.and_eq_true, decide_eq_true_eq] at c
    rw [Int32.le_iff_toInt_le, Int32.le_iff_toInt_le, Int32.toInt_zero]
    omega
theorem pf_not_ix (v k : Int32) (n : Nat) (h : k.toInt = n) : pf_X6_not v k = if cb_ix v n = true then 0 else 1 := by
  unfold pf_X6_not
  by_cases h1 : v < 0
  · rw [if_pos h1, if_neg]
    simp only [cb_ix, Bool.and_eq_true, decide_eq_true_eq]
    rw [Int32.lt_iff_toInt_lt, Int32.toInt_zero] at h1
    omega
  · rw [if_neg h1]
    rw [Int32.lt_iff_toInt_lt, Int32.toInt_zero] at h1
    by_cases h2 : v < k
    · rw [if_pos h2, if_pos]
      simp only [cb_ix, Bool.and_eq_true, decide_eq_true_eq]
      rw [Int32.lt_iff_toInt_lt] at h2
      omega
    · rw [if_neg h2, if_neg]
      simp only [cb_ix, Bool.and_eq_true, decide_eq_true_eq]
      rw [Int32.lt_iff_toInt_lt] at h2
      omega
/-- the codes' meanings -/
def cb_dec (w n : Nat) : Int32 :=
  if w = 0 then
    let c := n ^^^ 85
    let s := c / 16 % 8
    let z := if s = 0 then 16 * (c % 16) + 8 else (16 * (c % 16) + 264) * 2 ^ (s - 1)
    if c < 128 then -nI z else nI z
  else
    let c := 255 - n
    let z := (8 * (c % 16) + 132) * 2 ^ (c / 16 % 8) - 132
    if 127 < c then -nI z else nI z
theorem cb_decA_ok : ∀ n, n < 256 → pf_X3_decoded (nI n) = cb_dec 0 n := by decide +kernel
theorem cb_decM_ok : ∀ n, n < 256 → pf_X4_decoded (nI n) = cb_dec 1 n := by decide +kernel
theorem cb_dec_rng0 : ∀ n, n < 256 → -32256 ≤ (cb_dec 0 n).toInt ∧ (cb_dec 0 n).toInt ≤ 32256 := by decide +kernel
theorem cb_dec_rng1 : ∀ n, n < 256 → -32256 ≤ (cb_dec 1 n).toInt ∧ (cb_dec 1 n).toInt ≤ 32256 := by decide +kernel
/-- floors of 256 -/
def cb_fl (v : Int32) : Int32 := Int32.ofInt (v.toInt / 256)
theorem cb_div256 (v : Int32) : (v / 256).toInt = v.toInt.tdiv 256 := by
  rw [Int32.toInt_div]
  have h1 := v.le_toInt
  have h2 := v.toInt_lt
  have e : (256 : Int32).toInt = 256 := by decide
  rw [e]
  apply Int.bmod_eq_of_le
  all_goals
    rcases Int.le_total 0 v.toInt with h | h
    · rw [Int.tdiv_eq_ediv_of_nonneg h]; omega
    · have h3 : v.toInt.tdiv 256 = -((-v.toInt) / 256) := by
        rw [← Int.tdiv_eq_ediv_of_nonneg (by omega : 0 ≤ -v.toInt), Int.neg_tdiv, Int.neg_neg]
      rw [h3]; omega
theorem cb_fl_int (v : Int32) : (cb_fl v).toInt = v.toInt / 256 := by
  unfold cb_fl
  have h1 := v.le_toInt
  have h2 := v.toInt_lt
  rw [Int32.toInt_ofInt, show Int32.size = 4294967296 from rfl]
  apply Int.bmod_eq_of_le <;> omega
theorem cb_xor_sign (v : Int32) : 0 ≤ (v ^^^ 256) ↔ 0 ≤ v := by
  rw [Int32.le_iff_toInt_le, Int32.le_iff_toInt_le, Int32.toInt_zero]
  show 0 ≤ (v.toBitVec ^^^ (256 : Int32).toBitVec).toInt ↔ 0 ≤ v.toBitVec.toInt
  have k1 := BitVec.msb_eq_toInt (x := v.toBitVec ^^^ (256 : Int32).toBitVec)
  have k2 := BitVec.msb_eq_toInt (x := v.toBitVec)
  have k3 : (v.toBitVec ^^^ (256 : Int32).toBitVec).msb = v.toBitVec.msb := by
    rw [BitVec.msb_xor, show ((256 : Int32).toBitVec).msb = false from by decide, Bool.xor_false]
  rw [k1, k2] at k3
  have k4 : ((v.toBitVec ^^^ (256 : Int32).toBitVec).toInt < 0) ↔ v.toBitVec.toInt < 0 := by
    constructor
    · intro h; exact of_decide_eq_true (k3 ▸ decide_eq_true h)
    · intro h; exact of_decide_eq_true (k3.symm ▸ decide_eq_true h)
  omega
theorem cb_fl_bridge (v : Int32) : pf_J1_floorDiv v = cb_fl v := by
  unfold pf_J1_floorDiv
  have hd := cb_div256 v
  have h1 := v.le_toInt
  have h2 := v.toInt_lt
  have e : (256 : Int32).toInt = 256 := by decide
  by_cases c : 0 ≤ v ^^^ 256
  · rw [if_pos c, ← Int32.toInt_inj, cb_fl_int, hd]
    rw [cb_xor_sign, Int32.le_iff_toInt_le, Int32.toInt_zero] at c
    rw [Int.tdiv_eq_ediv_of_nonneg c]
  · rw [if_neg c]
    rw [cb_xor_sign, Int32.le_iff_toInt_le, Int32.toInt_zero] at c
    have h3 : v.toInt.tdiv 256 = -((-v.toInt) / 256) := by
      rw [← Int.tdiv_eq_ediv_of_nonneg (by omega : 0 ≤ -v.toInt), Int.neg_tdiv, Int.neg_neg]
    have hm : (v / 256 * 256).toInt = v.toInt.tdiv 256 * 256 := by
      rw [Int32.toInt_mul, hd, e]
      apply Int.bmod_eq_of_le <;> omega
    by_cases c2 : v / 256 * 256 = v
    · rw [if_pos c2, ← Int32.toInt_inj, cb_fl_int, hd]
      have := congrArg Int32.toInt c2
      rw [hm] at this
      omega
    · rw [if_neg c2, ← Int32.toInt_inj, cb_fl_int, Int32.toInt_sub, hd]
      have c3 : ¬ v.toInt.tdiv 256 * 256 = v.toInt := fun q => c2 (by rw [← Int32.toInt_inj, hm]; exact q)
      have e1 : (1 : Int32).toInt = 1 := by decide
      rw [e1, Int.bmod_eq_of_le (by omega) (by omega)]
      omega
end
section
/-! PLAIN LAWS: highest bits, the codes -/
set_option maxRecDepth 100000
theorem cb_sl : ∀ n, n < 32 → ((nI n &&& 31).toBitVec.smod 32).toNat = n := by decide +kernel
theorem cb_or (a b : Nat) : nI a ||| nI b = nI (a ||| b) := by
  apply Int32.toBitVec_inj.mp
  show BitVec.ofNat 32 a ||| BitVec.ofNat 32 b = BitVec.ofNat 32 (a ||| b)
  apply BitVec.eq_of_getLsbD_eq
  intro i hi
  simp [BitVec.getLsbD_or, BitVec.getLsbD_ofNat, hi]
theorem cb_xor (a b : Nat) : nI a ^^^ nI b = nI (a ^^^ b) := by
  apply Int32.toBitVec_inj.mp
  show BitVec.ofNat 32 a ^^^ BitVec.ofNat 32 b = BitVec.ofNat 32 (a ^^^ b)
  apply BitVec.eq_of_getLsbD_eq
  intro i hi
  simp [BitVec.getLsbD_xor, BitVec.getLsbD_ofNat, hi]
theorem cb_log {v k w : Nat} (h : v / 2 ^ k = w) (h1 : 1 ≤ w) (h4 : w < 4) : Nat.log2 v = k + w / 2 := by
  have hp : 0 < 2 ^ k := Nat.two_pow_pos k
  have hv : 2 ^ k * w ≤ v := by rw [← h]; exact Nat.mul_div_le v (2 ^ k)
  have hv2 : v < 2 ^ k * (w + 1) := by
    have := Nat.lt_mul_div_succ v hp
    rw [h] at this
    exact this
  have hne : v ≠ 0 := by
    intro z
    subst z
    simp at h
    omega
  have e1 : 2 ^ (k + 1) = 2 ^ k * 2 := Nat.pow_succ 2 k
  have e2 : 2 ^ (k + 2) = 2 ^ k * 4 := by rw [Nat.pow_add]
  have hw : w = 1 ∨ w = 2 ∨ w = 3 := by omega
  apply Nat.le_antisymm
  · apply Nat.lt_succ_iff.mp
    rw [Nat.log2_lt hne]
    rcases hw with rfl | rfl | rfl
    · show v < 2 ^ (k + 1); rw [e1]; omega
    · show v < 2 ^ (k + 2); rw [e2]; omega
    · show v < 2 ^ (k + 2); rw [e2]; omega
  · rw [Nat.le_log2 hne]
    rcases hw with rfl | rfl | rfl
    · show 2 ^ k ≤ v; omega
    · show 2 ^ (k + 1) ≤ v; rw [e1]; omega
    · show 2 ^ (k + 1) ≤ v; rw [e1]; omega
theorem cb_nlz_end {v k w : Nat} (n : Int32) (h : v / 2 ^ k = w) (h1 : 1 ≤ w) (h4 : w < 4) (hk : k ≤ 14) (hn : n = nI (31 - k)) : n - nI (w / 2 ^ 1) = nI (31 - Nat.log2 v) := by
  rw [hn, cb_log h h1 h4, pk_sub (by omega)]
  congr 1
  omega
def cb_seg (p : Nat) : Nat := if p < 16 then 0 else Nat.log2 p - 3
def cb_encA (g y : Nat) : Int32 := nI ((g + 16 * cb_seg (y / 2 ^ 4) + (if cb_seg (y / 2 ^ 4) = 0 then y / 2 ^ 4 else y / 2 ^ 4 / 2 ^ (cb_seg (y / 2 ^ 4) - 1)) % 16) ^^^ 85)
def cb_encM (g v : Nat) : Int32 := nI (255 - (g + 16 * (Nat.log2 v - 7) + v / 2 ^ (Nat.log2 v - 7 + 3) % 16))
/-- the code of a sample in range, under the law w (0: A, else mu) -/
def cb_enc (w : Nat) (x : Int32) : Int32 := if w = 0 then (if x.toInt < 0 then cb_encA 0 (-1 - x.toInt).toNat else cb_encA 128 x.toInt.toNat) else (if x.toInt < 0 then cb_encM 128 (min (-x.toInt).toNat 32635 + 132) else cb_encM 0 (min x.toInt.toNat 32635 + 132))
theorem cb_orA : ∀ s, s < 8 → ∀ m, m < 16 → ((128 ||| s * 2 ^ 4) ||| m) ^^^ 85 = (128 + 16 * s + m) ^^^ 85 ∧ ((0 ||| s * 2 ^ 4) ||| m) ^^^ 85 = (0 + 16 * s + m) ^^^ 85 := by decide +kernel
theorem cb_log_lt {p k : Nat} (h : p < 2 ^ k) (hk : 0 < k) : Nat.log2 p < k := by
  by_cases hz : p = 0
  · subst hz
    exact hk
  · exact (Nat.log2_lt hz).mpr h
theorem cb_le_log {p k : Nat} (h : 2 ^ k ≤ p) : k ≤ Nat.log2 p := by
  have hp : 0 < 2 ^ k := Nat.two_pow_pos k
  exact (Nat.le_log2 (by omega)).mpr h
theorem cb_notA (x : Int32) : x ^^^ (-1) = -1 - x := by
  apply Int32.toBitVec_inj.mp
  show x.toBitVec ^^^ (-1#32) = (-1#32) - x.toBitVec
  rw [show (-1#32 : BitVec 32) = BitVec.allOnes 32 from by decide, BitVec.xor_allOnes]
  rw [BitVec.not_eq_neg_add, show BitVec.allOnes 32 = -1#32 from by decide]
  rw [BitVec.sub_eq_add_neg, BitVec.sub_eq_add_neg, BitVec.add_comm]
theorem cb_and255 (n : Nat) : nI n &&& 255 = nI (n % 256) := by
  apply Int32.toBitVec_inj.mp
  show BitVec.ofNat 32 n &&& 255#32 = BitVec.ofNat 32 (n % 256)
  apply BitVec.eq_of_toNat_eq
  rw [BitVec.toNat_and, BitVec.toNat_ofNat, BitVec.toNat_ofNat, BitVec.toNat_ofNat, show 255 % 2 ^ 32 = 2 ^ 8 - 1 from by decide, Nat.and_two_pow_sub_one_eq_mod]
  omega
theorem cb_orM : ∀ s, s < 8 → ∀ m, m < 16 → (nI (((128 ||| s * 2 ^ 4) ||| m)) ^^^ (-1)) &&& 255 = nI (255 - (128 + 16 * s + m)) ∧ (nI (((0 ||| s * 2 ^ 4) ||| m)) ^^^ (-1)) &&& 255 = nI (255 - (0 + 16 * s + m)) := by decide +kernel
/-- both sides' codes lie in a byte -/
theorem cb_encA_byte {g y : Nat} (hg : g = 0 ∨ g = 128) (hy : y < 32768) : ∃ n, n < 256 ∧ cb_encA g y = nI n := by
  refine ⟨_, ?_, rfl⟩
  have hs : cb_seg (y / 2 ^ 4) < 8 := by
    unfold cb_seg
    split
    · omega
    · have := cb_log_lt (p := y / 2 ^ 4) (k := 11) (by omega) (by omega)
      omega
  have hm : (if cb_seg (y / 2 ^ 4) = 0 then y / 2 ^ 4 else y / 2 ^ 4 / 2 ^ (cb_seg (y / 2 ^ 4) - 1)) % 16 < 16 := Nat.mod_lt _ (by omega)
  refine Nat.xor_lt_two_pow (n := 8) ?_ (by omega)
  rcases hg with rfl | rfl <;> omega
theorem cb_encM_byte {g v : Nat} : ∃ n, n < 256 ∧ cb_encM g v = nI n := ⟨_, by omega, rfl⟩
theorem cb_enc_byte (w : Nat) {x : Int32} (h : cb_rng x) : ∃ n, n < 256 ∧ cb_enc w x = nI n := by
  unfold cb_enc
  obtain ⟨h1, h2⟩ := h
  split
  · split
    · exact cb_encA_byte (Or.inl rfl) (by omega)
    · exact cb_encA_byte (Or.inr rfl) (by omega)
  · split
    · exact cb_encM_byte
    · exact cb_encM_byte
end
section
/-! highest bit and the bridge's two encoders -/
set_option maxRecDepth 100000
set_option maxHeartbeats 4000000 in
set_option maxRecDepth 100000 in
theorem met_nlz (l : Launch) (v : Nat) (h1 : 1 ≤ v) (h2 : v < 65536) : Met l yJ0_numberOfLeadingZeros (ws_ yJ0_numberOfLeadingZeros cJ0_numberOfLeadingZeros 2 (some .int)) ({ frames := 0, cells := 0, slots := 0, locals := 0 } : Room) (cb_Pp [.int (nI v)]) (cb_Qp (some (.int (nI (31 - Nat.log2 v))))) 0 0 cb_no := by
  refine va_MetF (cc := cJ0_numberOfLeadingZeros) (maxL := 2) (ret := (some .int)) (by decide +kernel) rfl ?_
  intro p e s m args below meth c s₁ B hml hv
  obtain ⟨rfl, -⟩ := hv
  have hx := B.exec
  have hb := B.bytes
  have hr := B.returns
  have hts := atoms_spec (ws := (ws_ yJ0_numberOfLeadingZeros cJ0_numberOfLeadingZeros 2 (some .int))) B.pre
  have hts : ∀ w ∈ lw_all, w.before _ s = true := fun w h => hts w (List.mem_cons_of_mem _ h)
  have hown : s.vm.findClass RJ0 = some m.cls := findClass_of_methodNamed B.named
  have hlocks := B.notSynchronized
  have hl := lv_entry ([.int (nI v)]) (n := 2) (Nat.le_of_ble_eq_true rfl)
  rw [lg_entry_eq]
  generalize (lg_sl ([.int (nI v)]) ++ List.replicate (2 - (lg_sl ([.int (nI v)])).length) Slot.unset).toArray = ls at hl ⊢
  have hl : lv_has ls 2 [(0, .int (nI v))] := hl
  refine lv_iload_n hx hb dJ0_numberOfLeadingZeros_0 rfl (lv_at hl 0 rfl) ?_
  refine lv_if_gt (tgt := 15) hx hb dJ0_numberOfLeadingZeros_1 (by decide) (fun c0 => ?_) (fun c0 => ?_)
  · refine lv_bipush (v := 31) hx hb dJ0_numberOfLeadingZeros_15 (by decide) ?_
    refine lv_istore_n (lv' := [(1, .int 31), (0, .int (nI v))]) hx hb dJ0_numberOfLeadingZeros_17 rfl hl (by decide) rfl (fun ls hl => ?_)
    refine lv_iload_n hx hb dJ0_numberOfLeadingZeros_18 rfl (lv_at hl 1 rfl) ?_
    refine lv_ldcw (v := 65536) hx hb hown (hts _ q92) dJ0_numberOfLeadingZeros_19 ?_
    refine lv_icmp_lt (tgt := 33) hx hb dJ0_numberOfLeadingZeros_22 (by decide) (fun c1 => ?_) (fun c1 => ?_)
    · refine lv_iload_n hx hb dJ0_numberOfLeadingZeros_33 rfl (lv_at hl 1 rfl) ?_
      refine lv_sipush (v := 256) hx hb dJ0_numberOfLeadingZeros_34 (by decide) ?_
      refine lv_icmp_lt (tgt := 48) hx hb dJ0_numberOfLeadingZeros_37 (by decide) (fun d0 => ?_) (fun d0 => ?_)
      · have f0 : v < 256 := (nI_ltI (b := 256) (by omega) (by decide)).mp d0
        refine lv_iload_n hx hb dJ0_numberOfLeadingZeros_48 rfl (lv_at hl 1 rfl) ?_
        refine lv_bipush (v := 16) hx hb dJ0_numberOfLeadingZeros_49 (by decide) ?_
        refine lv_icmp_lt (tgt := 61) hx hb dJ0_numberOfLeadingZeros_51 (by decide) (fun d1 => ?_) (fun d1 => ?_)
        · have f1 : v < 16 := (nI_ltI (b := 16) (by omega) (by decide)).mp d1
          refine lv_iload_n hx hb dJ0_numberOfLeadingZeros_61 rfl (lv_at hl 1 rfl) ?_
          refine lv_iconst (v := 4) hx hb dJ0_numberOfLeadingZeros_62 (by decide) ?_
          refine lv_icmp_lt (tgt := 73) hx hb dJ0_numberOfLeadingZeros_63 (by decide) (fun d2 => ?_) (fun d2 => ?_)
          · have f2 : v < 4 := (nI_ltI (b := 4) (by omega) (by decide)).mp d2
            refine lv_iload_n hx hb dJ0_numberOfLeadingZeros_73 rfl (lv_at hl 0 rfl) ?_
            refine lv_iload_n hx hb dJ0_numberOfLeadingZeros_74 rfl (lv_at hl 1 rfl) ?_
            refine lv_iconst (v := 1) hx hb dJ0_numberOfLeadingZeros_75 (by decide) ?_
            refine lv_iushr (v := nI (v / 2 ^ 1)) hx hb dJ0_numberOfLeadingZeros_76 (pk_ushrN (by omega) 1 1 (by decide)) ?_
            refine lv_isub hx hb dJ0_numberOfLeadingZeros_77 ?_
            exact W.iret (v := (31 - (nI (v / 2 ^ 1)))) hx hb hr (fun t ht hW => ⟨cb_r (cb_nlz_end (k := 0) 31 (by omega) (by omega) (by omega) (by omega) rfl), ht⟩) cb_nl dJ0_numberOfLeadingZeros_78
          · have f2 : ¬ v < 4 := fun q => d2 ((nI_ltI (b := 4) (by omega) (by decide)).mpr q)
            refine lv_iinc (v := 29) (lv' := [(1, .int 29), (0, .int (nI v))]) hx hb dJ0_numberOfLeadingZeros_66 hl (k := 0) rfl (by decide) (by decide) rfl (fun ls hl => ?_)
            refine lv_iload_n hx hb dJ0_numberOfLeadingZeros_69 rfl (lv_at hl 1 rfl) ?_
            refine lv_iconst (v := 2) hx hb dJ0_numberOfLeadingZeros_70 (by decide) ?_
            refine lv_iushr (v := nI (v / 2 ^ 2)) hx hb dJ0_numberOfLeadingZeros_71 (pk_ushrN (by omega) 2 2 (by decide)) ?_
            refine lv_istore_n (lv' := [(0, .int (nI (v / 2 ^ 2))), (1, .int 29)]) hx hb dJ0_numberOfLeadingZeros_72 rfl hl (by decide) rfl (fun ls hl => ?_)
            refine lv_iload_n hx hb dJ0_numberOfLeadingZeros_73 rfl (lv_at hl 1 rfl) ?_
            refine lv_iload_n hx hb dJ0_numberOfLeadingZeros_74 rfl (lv_at hl 0 rfl) ?_
            refine lv_iconst (v := 1) hx hb dJ0_numberOfLeadingZeros_75 (by decide) ?_
            refine lv_iushr (v := nI ((v / 2 ^ 2) / 2 ^ 1)) hx hb dJ0_numberOfLeadingZeros_76 (pk_ushrN (by omega) 1 1 (by decide)) ?_
            refine lv_isub hx hb dJ0_numberOfLeadingZeros_77 ?_
            exact W.iret (v := (29 - (nI ((v / 2 ^ 2) / 2 ^ 1)))) hx hb hr (fun t ht hW => ⟨cb_r (cb_nlz_end (k := 2) 29 (by omega) (by omega) (by omega) (by omega) rfl), ht⟩) cb_nl dJ0_numberOfLeadingZeros_78
        · have f1 : ¬ v < 16 := fun q => d1 ((nI_ltI (b := 16) (by omega) (by decide)).mpr q)
          refine lv_iinc (v := 27) (lv' := [(1, .int 27), (0, .int (nI v))]) hx hb dJ0_numberOfLeadingZeros_54 hl (k := 0) rfl (by decide) (by decide) rfl (fun ls hl => ?_)
          refine lv_iload_n hx hb dJ0_numberOfLeadingZeros_57 rfl (lv_at hl 1 rfl) ?_
          refine lv_iconst (v := 4) hx hb dJ0_numberOfLeadingZeros_58 (by decide) ?_
          refine lv_iushr (v := nI (v / 2 ^ 4)) hx hb dJ0_numberOfLeadingZeros_59 (pk_ushrN (by omega) 4 4 (by decide)) ?_
          refine lv_istore_n (lv' := [(0, .int (nI (v / 2 ^ 4))), (1, .int 27)]) hx hb dJ0_numberOfLeadingZeros_60 rfl hl (by decide) rfl (fun ls hl => ?_)
          refine lv_iload_n hx hb dJ0_numberOfLeadingZeros_61 rfl (lv_at hl 0 rfl) ?_
          refine lv_iconst (v := 4) hx hb dJ0_numberOfLeadingZeros_62 (by decide) ?_
          refine lv_icmp_lt (tgt := 73) hx hb dJ0_numberOfLeadingZeros_63 (by decide) (fun d2 => ?_) (fun d2 => ?_)
          · have f2 : (v / 2 ^ 4) < 4 := (nI_ltI (b := 4) (by omega) (by decide)).mp d2
            refine lv_iload_n hx hb dJ0_numberOfLeadingZeros_73 rfl (lv_at hl 1 rfl) ?_
            refine lv_iload_n hx hb dJ0_numberOfLeadingZeros_74 rfl (lv_at hl 0 rfl) ?_
            refine lv_iconst (v := 1) hx hb dJ0_numberOfLeadingZeros_75 (by decide) ?_
            refine lv_iushr (v := nI ((v / 2 ^ 4) / 2 ^ 1)) hx hb dJ0_numberOfLeadingZeros_76 (pk_ushrN (by omega) 1 1 (by decide)) ?_
            refine lv_isub hx hb dJ0_numberOfLeadingZeros_77 ?_
            exact W.iret (v := (27 - (nI ((v / 2 ^ 4) / 2 ^ 1)))) hx hb hr (fun t ht hW => ⟨cb_r (cb_nlz_end (k := 4) 27 (by omega) (by omega) (by omega) (by omega) rfl), ht⟩) cb_nl dJ0_numberOfLeadingZeros_78
          · have f2 : ¬ (v / 2 ^ 4) < 4 := fun q => d2 ((nI_ltI (b := 4) (by omega) (by decide)).mpr q)
            refine lv_iinc (v := 25) (lv' := [(1, .int 25), (0, .int (nI (v / 2 ^ 4)))]) hx hb dJ0_numberOfLeadingZeros_66 hl (k := 1) rfl (by decide) (by decide) rfl (fun ls hl => ?_)
            refine lv_iload_n hx hb dJ0_numberOfLeadingZeros_69 rfl (lv_at hl 1 rfl) ?_
            refine lv_iconst (v := 2) hx hb dJ0_numberOfLeadingZeros_70 (by decide) ?_
            refine lv_iushr (v := nI ((v / 2 ^ 4) / 2 ^ 2)) hx hb dJ0_numberOfLeadingZeros_71 (pk_ushrN (by omega) 2 2 (by decide)) ?_
            refine lv_istore_n (lv' := [(0, .int (nI ((v / 2 ^ 4) / 2 ^ 2))), (1, .int 25)]) hx hb dJ0_numberOfLeadingZeros_72 rfl hl (by decide) rfl (fun ls hl => ?_)
            refine lv_iload_n hx hb dJ0_numberOfLeadingZeros_73 rfl (lv_at hl 1 rfl) ?_
            refine lv_iload_n hx hb dJ0_numberOfLeadingZeros_74 rfl (lv_at hl 0 rfl) ?_
            refine lv_iconst (v := 1) hx hb dJ0_numberOfLeadingZeros_75 (by decide) ?_
            refine lv_iushr (v := nI (((v / 2 ^ 4) / 2 ^ 2) / 2 ^ 1)) hx hb dJ0_numberOfLeadingZeros_76 (pk_ushrN (by omega) 1 1 (by decide)) ?_
            refine lv_isub hx hb dJ0_numberOfLeadingZeros_77 ?_
            exact W.iret (v := (25 - (nI (((v / 2 ^ 4) / 2 ^ 2) / 2 ^ 1)))) hx hb hr (fun t ht hW => ⟨cb_r (cb_nlz_end (k := 6) 25 (by omega) (by omega) (by omega) (by omega) rfl), ht⟩) cb_nl dJ0_numberOfLeadingZeros_78
      · have f0 : ¬ v < 256 := fun q => d0 ((nI_ltI (b := 256) (by omega) (by decide)).mpr q)
        refine lv_iinc (v := 23) (lv' := [(1, .int 23), (0, .int (nI v))]) hx hb dJ0_numberOfLeadingZeros_40 hl (k := 0) rfl (by decide) (by decide) rfl (fun ls hl => ?_)
        refine lv_iload_n hx hb dJ0_numberOfLeadingZeros_43 rfl (lv_at hl 1 rfl) ?_
        refine lv_bipush (v := 8) hx hb dJ0_numberOfLeadingZeros_44 (by decide) ?_
        refine lv_iushr (v := nI (v / 2 ^ 8)) hx hb dJ0_numberOfLeadingZeros_46 (pk_ushrN (by omega) 8 8 (by decide)) ?_
        refine lv_istore_n (lv' := [(0, .int (nI (v / 2 ^ 8))), (1, .int 23)]) hx hb dJ0_numberOfLeadingZeros_47 rfl hl (by decide) rfl (fun ls hl => ?_)
        refine lv_iload_n hx hb dJ0_numberOfLeadingZeros_48 rfl (lv_at hl 0 rfl) ?_
        refine lv_bipush (v := 16) hx hb dJ0_numberOfLeadingZeros_49 (by decide) ?_
        refine lv_icmp_lt (tgt := 61) hx hb dJ0_numberOfLeadingZeros_51 (by decide) (fun d1 => ?_) (fun d1 => ?_)
        · have f1 : (v / 2 ^ 8) < 16 := (nI_ltI (b := 16) (by omega) (by decide)).mp d1
          refine lv_iload_n hx hb dJ0_numberOfLeadingZeros_61 rfl (lv_at hl 0 rfl) ?_
          refine lv_iconst (v := 4) hx hb dJ0_numberOfLeadingZeros_62 (by decide) ?_
          refine lv_icmp_lt (tgt := 73) hx hb dJ0_numberOfLeadingZeros_63 (by decide) (fun d2 => ?_) (fun d2 => ?_)
          · have f2 : (v / 2 ^ 8) < 4 := (nI_ltI (b := 4) (by omega) (by decide)).mp d2
            refine lv_iload_n hx hb dJ0_numberOfLeadingZeros_73 rfl (lv_at hl 1 rfl) ?_
            refine lv_iload_n hx hb dJ0_numberOfLeadingZeros_74 rfl (lv_at hl 0 rfl) ?_
            refine lv_iconst (v := 1) hx hb dJ0_numberOfLeadingZeros_75 (by decide) ?_
            refine lv_iushr (v := nI ((v / 2 ^ 8) / 2 ^ 1)) hx hb dJ0_numberOfLeadingZeros_76 (pk_ushrN (by omega) 1 1 (by decide)) ?_
            refine lv_isub hx hb dJ0_numberOfLeadingZeros_77 ?_
            exact W.iret (v := (23 - (nI ((v / 2 ^ 8) / 2 ^ 1)))) hx hb hr (fun t ht hW => ⟨cb_r (cb_nlz_end (k := 8) 23 (by omega) (by omega) (by omega) (by omega) rfl), ht⟩) cb_nl dJ0_numberOfLeadingZeros_78
          · have f2 : ¬ (v / 2 ^ 8) < 4 := fun q => d2 ((nI_ltI (b := 4) (by omega) (by decide)).mpr q)
            refine lv_iinc (v := 21) (lv' := [(1, .int 21), (0, .int (nI (v / 2 ^ 8)))]) hx hb dJ0_numberOfLeadingZeros_66 hl (k := 1) rfl (by decide) (by decide) rfl (fun ls hl => ?_)
            refine lv_iload_n hx hb dJ0_numberOfLeadingZeros_69 rfl (lv_at hl 1 rfl) ?_
            refine lv_iconst (v := 2) hx hb dJ0_numberOfLeadingZeros_70 (by decide) ?_
            refine lv_iushr (v := nI ((v / 2 ^ 8) / 2 ^ 2)) hx hb dJ0_numberOfLeadingZeros_71 (pk_ushrN (by omega) 2 2 (by decide)) ?_
            refine lv_istore_n (lv' := [(0, .int (nI ((v / 2 ^ 8) / 2 ^ 2))), (1, .int 21)]) hx hb dJ0_numberOfLeadingZeros_72 rfl hl (by decide) rfl (fun ls hl => ?_)
            refine lv_iload_n hx hb dJ0_numberOfLeadingZeros_73 rfl (lv_at hl 1 rfl) ?_
            refine lv_iload_n hx hb dJ0_numberOfLeadingZeros_74 rfl (lv_at hl 0 rfl) ?_
            refine lv_iconst (v := 1) hx hb dJ0_numberOfLeadingZeros_75 (by decide) ?_
            refine lv_iushr (v := nI (((v / 2 ^ 8) / 2 ^ 2) / 2 ^ 1)) hx hb dJ0_numberOfLeadingZeros_76 (pk_ushrN (by omega) 1 1 (by decide)) ?_
            refine lv_isub hx hb dJ0_numberOfLeadingZeros_77 ?_
            exact W.iret (v := (21 - (nI (((v / 2 ^ 8) / 2 ^ 2) / 2 ^ 1)))) hx hb hr (fun t ht hW => ⟨cb_r (cb_nlz_end (k := 10) 21 (by omega) (by omega) (by omega) (by omega) rfl), ht⟩) cb_nl dJ0_numberOfLeadingZeros_78
        · have f1 : ¬ (v / 2 ^ 8) < 16 := fun q => d1 ((nI_ltI (b := 16) (by omega) (by decide)).mpr q)
          refine lv_iinc (v := 19) (lv' := [(1, .int 19), (0, .int (nI (v / 2 ^ 8)))]) hx hb dJ0_numberOfLeadingZeros_54 hl (k := 1) rfl (by decide) (by decide) rfl (fun ls hl => ?_)
          refine lv_iload_n hx hb dJ0_numberOfLeadingZeros_57 rfl (lv_at hl 1 rfl) ?_
          refine lv_iconst (v := 4) hx hb dJ0_numberOfLeadingZeros_58 (by decide) ?_
          refine lv_iushr (v := nI ((v / 2 ^ 8) / 2 ^ 4)) hx hb dJ0_numberOfLeadingZeros_59 (pk_ushrN (by omega) 4 4 (by decide)) ?_
          refine lv_istore_n (lv' := [(0, .int (nI ((v / 2 ^ 8) / 2 ^ 4))), (1, .int 19)]) hx hb dJ0_numberOfLeadingZeros_60 rfl hl (by decide) rfl (fun ls hl => ?_)
          refine lv_iload_n hx hb dJ0_numberOfLeadingZeros_61 rfl (lv_at hl 0 rfl) ?_
          refine lv_iconst (v := 4) hx hb dJ0_numberOfLeadingZeros_62 (by decide) ?_
          refine lv_icmp_lt (tgt := 73) hx hb dJ0_numberOfLeadingZeros_63 (by decide) (fun d2 => ?_) (fun d2 => ?_)
          · have f2 : ((v / 2 ^ 8) / 2 ^ 4) < 4 := (nI_ltI (b := 4) (by omega) (by decide)).mp d2
            refine lv_iload_n hx hb dJ0_numberOfLeadingZeros_73 rfl (lv_at hl 1 rfl) ?_
            refine lv_iload_n hx hb dJ0_numberOfLeadingZeros_74 rfl (lv_at hl 0 rfl) ?_
            refine lv_iconst (v := 1) hx hb dJ0_numberOfLeadingZeros_75 (by decide) ?_
            refine lv_iushr (v := nI (((v / 2 ^ 8) / 2 ^ 4) / 2 ^ 1)) hx hb dJ0_numberOfLeadingZeros_76 (pk_ushrN (by omega) 1 1 (by decide)) ?_
            refine lv_isub hx hb dJ0_numberOfLeadingZeros_77 ?_
            exact W.iret (v := (19 - (nI (((v / 2 ^ 8) / 2 ^ 4) / 2 ^ 1)))) hx hb hr (fun t ht hW => ⟨cb_r (cb_nlz_end (k := 12) 19 (by omega) (by omega) (by omega) (by omega) rfl), ht⟩) cb_nl dJ0_numberOfLeadingZeros_78
          · have f2 : ¬ ((v / 2 ^ 8) / 2 ^ 4) < 4 := fun q => d2 ((nI_ltI (b := 4) (by omega) (by decide)).mpr q)
            refine lv_iinc (v := 17) (lv' := [(1, .int 17), (0, .int (nI ((v / 2 ^ 8) / 2 ^ 4)))]) hx hb dJ0_numberOfLeadingZeros_66 hl (k := 1) rfl (by decide) (by decide) rfl (fun ls hl => ?_)
            refine lv_iload_n hx hb dJ0_numberOfLeadingZeros_69 rfl (lv_at hl 1 rfl) ?_
            refine lv_iconst (v := 2) hx hb dJ0_numberOfLeadingZeros_70 (by decide) ?_
            refine lv_iushr (v := nI (((v / 2 ^ 8) / 2 ^ 4) / 2 ^ 2)) hx hb dJ0_numberOfLeadingZeros_71 (pk_ushrN (by omega) 2 2 (by decide)) ?_
            refine lv_istore_n (lv' := [(0, .int (nI (((v / 2 ^ 8) / 2 ^ 4) / 2 ^ 2))), (1, .int 17)]) hx hb dJ0_numberOfLeadingZeros_72 rfl hl (by decide) rfl (fun ls hl => ?_)
            refine lv_iload_n hx hb dJ0_numberOfLeadingZeros_73 rfl (lv_at hl 1 rfl) ?_
            refine lv_iload_n hx hb dJ0_numberOfLeadingZeros_74 rfl (lv_at hl 0 rfl) ?_
            refine lv_iconst (v := 1) hx hb dJ0_numberOfLeadingZeros_75 (by decide) ?_
            refine lv_iushr (v := nI ((((v / 2 ^ 8) / 2 ^ 4) / 2 ^ 2) / 2 ^ 1)) hx hb dJ0_numberOfLeadingZeros_76 (pk_ushrN (by omega) 1 1 (by decide)) ?_
            refine lv_isub hx hb dJ0_numberOfLeadingZeros_77 ?_
            exact W.iret (v := (17 - (nI ((((v / 2 ^ 8) / 2 ^ 4) / 2 ^ 2) / 2 ^ 1)))) hx hb hr (fun t ht hW => ⟨cb_r (cb_nlz_end (k := 14) 17 (by omega) (by omega) (by omega) (by omega) rfl), ht⟩) cb_nl dJ0_numberOfLeadingZeros_78
    · exact absurd ((nI_ltI (b := 65536) (by omega) (by decide)).mpr h2) c1
  · exact absurd ((nI_ltI (a := 0) (b := v) (by decide) (by omega)).mpr (by omega)) c0
set_option maxHeartbeats 4000000 in
set_option maxRecDepth 100000 in
theorem met_top (l : Launch) (v : Nat) (h1 : 1 ≤ v) (h2 : v < 65536) : Met l yX2_top (ws_ yX2_top cX2_top 1 (some .int)) ({ frames := 1, cells := 0, slots := 0, locals := 21 } : Room) (cb_Pp [.int (nI v)]) (cb_Qp (some (.int (nI (Nat.log2 v))))) 0 0 cb_no := by
  refine Met.ofW (cc := cX2_top) (maxL := 1) (ret := (some .int)) (by decide) rfl ?_
  intro p e s m args below meth c s₁ B hml hv
  obtain ⟨rfl, -⟩ := hv
  have hx := B.exec
  have hb := B.bytes
  have hr := B.returns
  have hts := atoms_spec (ws := (ws_ yX2_top cX2_top 1 (some .int))) B.pre
  have hts : ∀ w ∈ lw_all, w.before _ s = true := fun w h => hts w (List.mem_cons_of_mem _ h)
  have hown : s.vm.findClass RX2 = some m.cls := findClass_of_methodNamed B.named
  have hlocks := B.notSynchronized
  have hl := lv_entry ([.int (nI v)]) (n := 1) (Nat.le_of_ble_eq_true rfl)
  rw [lg_entry_eq]
  generalize (lg_sl ([.int (nI v)]) ++ List.replicate (1 - (lg_sl ([.int (nI v)])).length) Slot.unset).toArray = ls at hl ⊢
  have hl : lv_has ls 1 [(0, .int (nI v))] := hl
  refine lv_bipush (v := 31) hx hb dX2_top_0 (by decide) ?_
  refine lv_iload_n hx hb dX2_top_2 rfl (lv_at hl 0 rfl) ?_
  refine cb_callPi (va_runS (As := [.int (nI v)]) (rest := [.int 31]) ⟨hx, hb, hml, hown, hts⟩ (met_nlz l v h1 h2) (va_cwS 1 hts (lw_S q89 q90 q8 q91) rfl rfl rfl (by decide +kernel) ⟨Nat.le_of_ble_eq_true rfl, Nat.le_of_ble_eq_true rfl⟩) cb_preS rfl rfl hl.1 rfl (lv_room (Nat.le_of_ble_eq_true rfl)) dX2_top_3 ⟨Nat.zero_le _, Nat.zero_le _⟩) ?_
  refine lv_isub hx hb dX2_top_6 ?_
  exact W.iret (v := (31 - (nI (31 - Nat.log2 v)))) hx hb hr (fun t ht hW => ⟨cb_r (by rw [show (31 : Int32) = nI 31 from rfl, pk_sub (by omega)]; congr 1; have := cb_log_lt (p := v) (k := 16) (by omega) (by omega); omega), ht⟩) cb_nl dX2_top_7
set_option maxHeartbeats 4000000 in
set_option maxRecDepth 100000 in
theorem met_eA (l : Launch) (a : Nat) (x : Int32) (hr0 : cb_rng x) : Met l yX3_encoded (ws_ yX3_encoded cX3_encoded 5 (some .int)) ({ frames := 2, cells := 0, slots := 0, locals := 41 } : Room) (cb_Pp [.ref a, .int x]) (cb_Qp (some (.int (cb_enc 0 x)))) 0 0 cb_no := by
  refine Met.ofW (cc := cX3_encoded) (maxL := 5) (ret := (some .int)) (by decide) rfl ?_
  intro p e s m args below meth c s₁ B hml hv
  obtain ⟨rfl, -⟩ := hv
  have hx := B.exec
  have hb := B.bytes
  have hr := B.returns
  have hts := atoms_spec (ws := (ws_ yX3_encoded cX3_encoded 5 (some .int))) B.pre
  have hts : ∀ w ∈ lw_all, w.before _ s = true := fun w h => hts w (List.mem_cons_of_mem _ h)
  have hown : s.vm.findClass RX3 = some m.cls := findClass_of_methodNamed B.named
  have hlocks := B.notSynchronized
  have hl := lv_entry ([.ref a, .int x]) (n := 5) (Nat.le_of_ble_eq_true rfl)
  rw [lg_entry_eq]
  generalize (lg_sl ([.ref a, .int x]) ++ List.replicate (5 - (lg_sl ([.ref a, .int x])).length) Slot.unset).toArray = ls at hl ⊢
  have hl : lv_has ls 5 [(0, .ref a), (1, .int x)] := hl
  obtain ⟨hr1, hr2⟩ := hr0
  refine lv_iload_n hx hb dX3_encoded_0 rfl (lv_at hl 1 rfl) ?_
  refine lv_if_ge (tgt := 10) hx hb dX3_encoded_1 (by decide) (fun c0 => ?_) (fun c0 => ?_)
  · have hx0 : ¬ x.toInt < 0 := by rw [Int32.le_iff_toInt_le, Int32.toInt_zero] at c0; omega
    obtain ⟨y, hy, ey, en⟩ : ∃ y : Nat, y < 32768 ∧ x = nI y ∧ x.toInt.toNat = y := ⟨x.toInt.toNat, by omega, by rw [← Int32.toInt_inj, nI_toInt (by omega)]; omega, rfl⟩
    have hsp : cb_enc 0 x = cb_encA 128 y := by unfold cb_enc; rw [if_pos rfl, if_neg hx0, en]
    refine lv_iload_n hx hb dX3_encoded_10 rfl (lv_at hl 1 rfl) ?_
    refine cb_top (y := nI y) (ey) ?_
    refine lv_iconst (v := 4) hx hb dX3_encoded_11 (by decide) ?_
    refine lv_ishr hx hb dX3_encoded_12 ?_
    refine cb_top (y := nI (y / 2 ^ 4)) (pk_shrN (by omega) _ 4 (by decide)) ?_
    refine lv_istore_n (lv' := [(2, .int (nI (y / 2 ^ 4))), (0, .ref a), (1, .int x)]) hx hb dX3_encoded_13 rfl hl (by decide) rfl (fun ls hl => ?_)
    refine lv_iload_n hx hb dX3_encoded_14 rfl (lv_at hl 0 rfl) ?_
    refine lv_bipush (v := 16) hx hb dX3_encoded_15 (by decide) ?_
    refine lv_icmp_ge (tgt := 24) hx hb dX3_encoded_17 (by decide) (fun c1 => ?_) (fun c1 => ?_)
    · have g1 : 16 ≤ y / 2 ^ 4 := (nI_leI (a := 16) (by decide) (by omega)).mp c1
      have k1 : 4 ≤ Nat.log2 (y / 2 ^ 4) := cb_le_log g1
      have k2 : Nat.log2 (y / 2 ^ 4) < 11 := cb_log_lt (by omega) (by omega)
      have ks : cb_seg (y / 2 ^ 4) = Nat.log2 (y / 2 ^ 4) - 3 := by unfold cb_seg; rw [if_neg (by omega)]
      refine lv_iload_n hx hb dX3_encoded_24 rfl (lv_at hl 0 rfl) ?_
      refine cb_callPi (cb_runSUp (x := ⟨RX3, "top", "(I)I"⟩) (owner := RX2) (As := [.int (nI (y / 2 ^ 4))]) (rest := []) (n := 1) ⟨hx, hb, hml, hown, hts⟩ (met_top l (y / 2 ^ 4) (by omega) (by omega)) rfl (lw_meth q88) rfl rfl rfl (hts _ q85) (hts _ q86) (hts _ q87) (hts _ q4) (by decide +kernel) ⟨Nat.le_of_ble_eq_true rfl, Nat.le_of_ble_eq_true rfl⟩ cb_preS rfl rfl hl.1 rfl (lv_room (Nat.le_of_ble_eq_true rfl)) dX3_encoded_25 ⟨Nat.zero_le _, Nat.zero_le _⟩) ?_
      refine lv_iconst (v := 3) hx hb dX3_encoded_28 (by decide) ?_
      refine lv_isub hx hb dX3_encoded_29 ?_
      refine cb_top (y := nI (cb_seg (y / 2 ^ 4))) (by rw [ks]; exact pk_sub (b := 3) (by omega)) ?_
      refine lv_istore_n (lv' := [(3, .int (nI (cb_seg (y / 2 ^ 4)))), (2, .int (nI (y / 2 ^ 4))), (0, .ref a), (1, .int x)]) hx hb dX3_encoded_30 rfl hl (by decide) rfl (fun ls hl => ?_)
      refine lv_iload_n hx hb dX3_encoded_31 rfl (lv_at hl 0 rfl) ?_
      refine lv_if_ne (tgt := 39) hx hb dX3_encoded_32 (by decide) (fun c2 => ?_) (fun c2 => ?_)
      · refine lv_iload_n hx hb dX3_encoded_39 rfl (lv_at hl 1 rfl) ?_
        refine lv_iload_n hx hb dX3_encoded_40 rfl (lv_at hl 0 rfl) ?_
        refine lv_iconst (v := 1) hx hb dX3_encoded_41 (by decide) ?_
        refine lv_isub hx hb dX3_encoded_42 ?_
        refine cb_top (y := nI (cb_seg (y / 2 ^ 4) - 1)) (pk_sub (b := 1) (by omega)) ?_
        refine lv_ishr hx hb dX3_encoded_43 ?_
        refine cb_top (y := nI (y / 2 ^ 4 / 2 ^ (cb_seg (y / 2 ^ 4) - 1))) (pk_shrN (by omega) _ _ (cb_sl _ (by omega))) ?_
        refine lv_bipush (v := 15) hx hb dX3_encoded_44 (by decide) ?_
        refine lv_iand hx hb dX3_encoded_46 ?_
        refine cb_top (y := nI (y / 2 ^ 4 / 2 ^ (cb_seg (y / 2 ^ 4) - 1) % 2 ^ 4)) (pk_andN (Nat.lt_of_le_of_lt (Nat.div_le_self _ _) (by omega)) 4 (by decide)) ?_
        refine lv_istore (lv' := [(4, .int (nI (y / 2 ^ 4 / 2 ^ (cb_seg (y / 2 ^ 4) - 1) % 2 ^ 4))), (3, .int (nI (cb_seg (y / 2 ^ 4)))), (2, .int (nI (y / 2 ^ 4))), (0, .ref a), (1, .int x)]) hx hb dX3_encoded_47 hl (by decide) rfl (fun ls hl => ?_)
        refine lv_iload_n hx hb dX3_encoded_49 rfl (lv_at hl 4 rfl) ?_
        refine lv_if_ge (tgt := 57) hx hb dX3_encoded_50 (by decide) (fun c3 => ?_) (fun c3 => ?_)
        · refine lv_sipush (v := 128) hx hb dX3_encoded_57 (by decide) ?_
          refine lv_iload_n hx hb dX3_encoded_60 rfl (lv_at hl 1 rfl) ?_
          refine lv_iconst (v := 4) hx hb dX3_encoded_61 (by decide) ?_
          refine lv_ishl hx hb dX3_encoded_62 ?_
          refine cb_top (y := nI (cb_seg (y / 2 ^ 4) * 2 ^ 4)) (pk_shlN _ 4 (by decide) (by omega)) ?_
          refine lv_ior hx hb dX3_encoded_63 ?_
          refine cb_top (y := nI (128 ||| cb_seg (y / 2 ^ 4) * 2 ^ 4)) (cb_or 128 _) ?_
          refine lv_iload hx hb dX3_encoded_64 (lv_at hl 0 rfl) ?_
          refine lv_ior hx hb dX3_encoded_66 ?_
          refine cb_top (y := nI ((128 ||| cb_seg (y / 2 ^ 4) * 2 ^ 4) ||| y / 2 ^ 4 / 2 ^ (cb_seg (y / 2 ^ 4) - 1) % 2 ^ 4)) (cb_or _ _) ?_
          refine lv_bipush (v := 85) hx hb dX3_encoded_67 (by decide) ?_
          refine lv_ixor hx hb dX3_encoded_69 ?_
          refine cb_top (y := nI (((128 ||| cb_seg (y / 2 ^ 4) * 2 ^ 4) ||| y / 2 ^ 4 / 2 ^ (cb_seg (y / 2 ^ 4) - 1) % 2 ^ 4) ^^^ 85)) (cb_xor _ 85) ?_
          exact W.iret (v := (nI (((128 ||| cb_seg (y / 2 ^ 4) * 2 ^ 4) ||| y / 2 ^ 4 / 2 ^ (cb_seg (y / 2 ^ 4) - 1) % 2 ^ 4) ^^^ 85))) hx hb hr (fun t ht hW => ⟨cb_r (by rw [hsp]; unfold cb_encA; rw [if_neg (show ¬ cb_seg (y / 2 ^ 4) = 0 by omega)]; exact congrArg nI (cb_orA (cb_seg (y / 2 ^ 4)) (by omega) (y / 2 ^ 4 / 2 ^ (cb_seg (y / 2 ^ 4) - 1) % 2 ^ 4) (Nat.mod_lt _ (by decide))).1), ht⟩) cb_nl dX3_encoded_70
        · exact absurd c0 c3
      · exact absurd c2 (nI_ne0 (n := cb_seg (y / 2 ^ 4)) (by omega) (by omega))
    · have g1 : y / 2 ^ 4 < 16 := by rcases Nat.lt_or_ge (y / 2 ^ 4) 16 with q | q; exact q; exact absurd ((nI_leI (a := 16) (by decide) (by omega)).mpr q) c1
      have ks : cb_seg (y / 2 ^ 4) = 0 := by unfold cb_seg; rw [if_pos g1]
      refine lv_iconst (v := 0) hx hb dX3_encoded_20 (by decide) ?_
      refine lv_goto (tgt := 30) hx hb dX3_encoded_21 (by decide) ?_
      refine cb_top (y := nI (cb_seg (y / 2 ^ 4))) (by rw [ks]; rfl) ?_
      refine lv_istore_n (lv' := [(3, .int (nI (cb_seg (y / 2 ^ 4)))), (2, .int (nI (y / 2 ^ 4))), (0, .ref a), (1, .int x)]) hx hb dX3_encoded_30 rfl hl (by decide) rfl (fun ls hl => ?_)
      refine lv_iload_n hx hb dX3_encoded_31 rfl (lv_at hl 0 rfl) ?_
      refine lv_if_ne (tgt := 39) hx hb dX3_encoded_32 (by decide) (fun c2 => ?_) (fun c2 => ?_)
      · exact absurd (by rw [ks]; rfl) c2
      · refine lv_iload_n hx hb dX3_encoded_35 rfl (lv_at hl 1 rfl) ?_
        refine lv_goto (tgt := 44) hx hb dX3_encoded_36 (by decide) ?_
        refine lv_bipush (v := 15) hx hb dX3_encoded_44 (by decide) ?_
        refine lv_iand hx hb dX3_encoded_46 ?_
        refine cb_top (y := nI (y / 2 ^ 4 % 2 ^ 4)) (pk_andN (by omega) 4 (by decide)) ?_
        refine lv_istore (lv' := [(4, .int (nI (y / 2 ^ 4 % 2 ^ 4))), (3, .int (nI (cb_seg (y / 2 ^ 4)))), (2, .int (nI (y / 2 ^ 4))), (0, .ref a), (1, .int x)]) hx hb dX3_encoded_47 hl (by decide) rfl (fun ls hl => ?_)
        refine lv_iload_n hx hb dX3_encoded_49 rfl (lv_at hl 4 rfl) ?_
        refine lv_if_ge (tgt := 57) hx hb dX3_encoded_50 (by decide) (fun c3 => ?_) (fun c3 => ?_)
        · refine lv_sipush (v := 128) hx hb dX3_encoded_57 (by decide) ?_
          refine lv_iload_n hx hb dX3_encoded_60 rfl (lv_at hl 1 rfl) ?_
          refine lv_iconst (v := 4) hx hb dX3_encoded_61 (by decide) ?_
          refine lv_ishl hx hb dX3_encoded_62 ?_
          refine cb_top (y := nI (cb_seg (y / 2 ^ 4) * 2 ^ 4)) (pk_shlN _ 4 (by decide) (by omega)) ?_
          refine lv_ior hx hb dX3_encoded_63 ?_
          refine cb_top (y := nI (128 ||| cb_seg (y / 2 ^ 4) * 2 ^ 4)) (cb_or 128 _) ?_
          refine lv_iload hx hb dX3_encoded_64 (lv_at hl 0 rfl) ?_
          refine lv_ior hx hb dX3_encoded_66 ?_
          refine cb_top (y := nI ((128 ||| cb_seg (y / 2 ^ 4) * 2 ^ 4) ||| y / 2 ^ 4 % 2 ^ 4)) (cb_or _ _) ?_
          refine lv_bipush (v := 85) hx hb dX3_encoded_67 (by decide) ?_
          refine lv_ixor hx hb dX3_encoded_69 ?_
          refine cb_top (y := nI (((128 ||| cb_seg (y / 2 ^ 4) * 2 ^ 4) ||| y / 2 ^ 4 % 2 ^ 4) ^^^ 85)) (cb_xor _ 85) ?_
          exact W.iret (v := (nI (((128 ||| cb_seg (y / 2 ^ 4) * 2 ^ 4) ||| y / 2 ^ 4 % 2 ^ 4) ^^^ 85))) hx hb hr (fun t ht hW => ⟨cb_r (by rw [hsp]; unfold cb_encA; rw [if_pos ks]; exact congrArg nI (cb_orA (cb_seg (y / 2 ^ 4)) (by omega) (y / 2 ^ 4 % 2 ^ 4) (Nat.mod_lt _ (by decide))).1), ht⟩) cb_nl dX3_encoded_70
        · exact absurd c0 c3
  · have hx0 : x.toInt < 0 := by rw [Int32.le_iff_toInt_le, Int32.toInt_zero] at c0; omega
    obtain ⟨y, hy, ey, en⟩ : ∃ y : Nat, y < 32768 ∧ -1 - x = nI y ∧ (-1 - x.toInt).toNat = y := ⟨(-1 - x.toInt).toNat, by omega, by rw [← Int32.toInt_inj, nI_toInt (by omega), Int32.toInt_sub, show (-1 : Int32).toInt = -1 from by decide, Int.bmod_eq_of_le (by omega) (by omega)]; omega, rfl⟩
    have hsp : cb_enc 0 x = cb_encA 0 y := by unfold cb_enc; rw [if_pos rfl, if_pos hx0, en]
    refine lv_iconst (v := (-1)) hx hb dX3_encoded_4 (by decide) ?_
    refine lv_iload_n hx hb dX3_encoded_5 rfl (lv_at hl 1 rfl) ?_
    refine lv_isub hx hb dX3_encoded_6 ?_
    refine cb_top (y := nI y) (ey) ?_
    refine lv_goto (tgt := 11) hx hb dX3_encoded_7 (by decide) ?_
    refine lv_iconst (v := 4) hx hb dX3_encoded_11 (by decide) ?_
    refine lv_ishr hx hb dX3_encoded_12 ?_
    refine cb_top (y := nI (y / 2 ^ 4)) (pk_shrN (by omega) _ 4 (by decide)) ?_
    refine lv_istore_n (lv' := [(2, .int (nI (y / 2 ^ 4))), (0, .ref a), (1, .int x)]) hx hb dX3_encoded_13 rfl hl (by decide) rfl (fun ls hl => ?_)
    refine lv_iload_n hx hb dX3_encoded_14 rfl (lv_at hl 0 rfl) ?_
    refine lv_bipush (v := 16) hx hb dX3_encoded_15 (by decide) ?_
    refine lv_icmp_ge (tgt := 24) hx hb dX3_encoded_17 (by decide) (fun c1 => ?_) (fun c1 => ?_)
    · have g1 : 16 ≤ y / 2 ^ 4 := (nI_leI (a := 16) (by decide) (by omega)).mp c1
      have k1 : 4 ≤ Nat.log2 (y / 2 ^ 4) := cb_le_log g1
      have k2 : Nat.log2 (y / 2 ^ 4) < 11 := cb_log_lt (by omega) (by omega)
      have ks : cb_seg (y / 2 ^ 4) = Nat.log2 (y / 2 ^ 4) - 3 := by unfold cb_seg; rw [if_neg (by omega)]
      refine lv_iload_n hx hb dX3_encoded_24 rfl (lv_at hl 0 rfl) ?_
      refine cb_callPi (cb_runSUp (x := ⟨RX3, "top", "(I)I"⟩) (owner := RX2) (As := [.int (nI (y / 2 ^ 4))]) (rest := []) (n := 1) ⟨hx, hb, hml, hown, hts⟩ (met_top l (y / 2 ^ 4) (by omega) (by omega)) rfl (lw_meth q88) rfl rfl rfl (hts _ q85) (hts _ q86) (hts _ q87) (hts _ q4) (by decide +kernel) ⟨Nat.le_of_ble_eq_true rfl, Nat.le_of_ble_eq_true rfl⟩ cb_preS rfl rfl hl.1 rfl (lv_room (Nat.le_of_ble_eq_true rfl)) dX3_encoded_25 ⟨Nat.zero_le _, Nat.zero_le _⟩) ?_
      refine lv_iconst (v := 3) hx hb dX3_encoded_28 (by decide) ?_
      refine lv_isub hx hb dX3_encoded_29 ?_
      refine cb_top (y := nI (cb_seg (y / 2 ^ 4))) (by rw [ks]; exact pk_sub (b := 3) (by omega)) ?_
      refine lv_istore_n (lv' := [(3, .int (nI (cb_seg (y / 2 ^ 4)))), (2, .int (nI (y / 2 ^ 4))), (0, .ref a), (1, .int x)]) hx hb dX3_encoded_30 rfl hl (by decide) rfl (fun ls hl => ?_)
      refine lv_iload_n hx hb dX3_encoded_31 rfl (lv_at hl 0 rfl) ?_
      refine lv_if_ne (tgt := 39) hx hb dX3_encoded_32 (by decide) (fun c2 => ?_) (fun c2 => ?_)
      · refine lv_iload_n hx hb dX3_encoded_39 rfl (lv_at hl 1 rfl) ?_
        refine lv_iload_n hx hb dX3_encoded_40 rfl (lv_at hl 0 rfl) ?_
        refine lv_iconst (v := 1) hx hb dX3_encoded_41 (by decide) ?_
        refine lv_isub hx hb dX3_encoded_42 ?_
        refine cb_top (y := nI (cb_seg (y / 2 ^ 4) - 1)) (pk_sub (b := 1) (by omega)) ?_
        refine lv_ishr hx hb dX3_encoded_43 ?_
        refine cb_top (y := nI (y / 2 ^ 4 / 2 ^ (cb_seg (y / 2 ^ 4) - 1))) (pk_shrN (by omega) _ _ (cb_sl _ (by omega))) ?_
        refine lv_bipush (v := 15) hx hb dX3_encoded_44 (by decide) ?_
        refine lv_iand hx hb dX3_encoded_46 ?_
        refine cb_top (y := nI (y / 2 ^ 4 / 2 ^ (cb_seg (y / 2 ^ 4) - 1) % 2 ^ 4)) (pk_andN (Nat.lt_of_le_of_lt (Nat.div_le_self _ _) (by omega)) 4 (by decide)) ?_
        refine lv_istore (lv' := [(4, .int (nI (y / 2 ^ 4 / 2 ^ (cb_seg (y / 2 ^ 4) - 1) % 2 ^ 4))), (3, .int (nI (cb_seg (y / 2 ^ 4)))), (2, .int (nI (y / 2 ^ 4))), (0, .ref a), (1, .int x)]) hx hb dX3_encoded_47 hl (by decide) rfl (fun ls hl => ?_)
        refine lv_iload_n hx hb dX3_encoded_49 rfl (lv_at hl 4 rfl) ?_
        refine lv_if_ge (tgt := 57) hx hb dX3_encoded_50 (by decide) (fun c3 => ?_) (fun c3 => ?_)
        · exact absurd c3 c0
        · refine lv_iconst (v := 0) hx hb dX3_encoded_53 (by decide) ?_
          refine lv_goto (tgt := 60) hx hb dX3_encoded_54 (by decide) ?_
          refine lv_iload_n hx hb dX3_encoded_60 rfl (lv_at hl 1 rfl) ?_
          refine lv_iconst (v := 4) hx hb dX3_encoded_61 (by decide) ?_
          refine lv_ishl hx hb dX3_encoded_62 ?_
          refine cb_top (y := nI (cb_seg (y / 2 ^ 4) * 2 ^ 4)) (pk_shlN _ 4 (by decide) (by omega)) ?_
          refine lv_ior hx hb dX3_encoded_63 ?_
          refine cb_top (y := nI (0 ||| cb_seg (y / 2 ^ 4) * 2 ^ 4)) (cb_or 0 _) ?_
          refine lv_iload hx hb dX3_encoded_64 (lv_at hl 0 rfl) ?_
          refine lv_ior hx hb dX3_encoded_66 ?_
          refine cb_top (y := nI ((0 ||| cb_seg (y / 2 ^ 4) * 2 ^ 4) ||| y / 2 ^ 4 / 2 ^ (cb_seg (y / 2 ^ 4) - 1) % 2 ^ 4)) (cb_or _ _) ?_
          refine lv_bipush (v := 85) hx hb dX3_encoded_67 (by decide) ?_
          refine lv_ixor hx hb dX3_encoded_69 ?_
          refine cb_top (y := nI (((0 ||| cb_seg (y / 2 ^ 4) * 2 ^ 4) ||| y / 2 ^ 4 / 2 ^ (cb_seg (y / 2 ^ 4) - 1) % 2 ^ 4) ^^^ 85)) (cb_xor _ 85) ?_
          exact W.iret (v := (nI (((0 ||| cb_seg (y / 2 ^ 4) * 2 ^ 4) ||| y / 2 ^ 4 / 2 ^ (cb_seg (y / 2 ^ 4) - 1) % 2 ^ 4) ^^^ 85))) hx hb hr (fun t ht hW => ⟨cb_r (by rw [hsp]; unfold cb_encA; rw [if_neg (show ¬ cb_seg (y / 2 ^ 4) = 0 by omega)]; exact congrArg nI (cb_orA (cb_seg (y / 2 ^ 4)) (by omega) (y / 2 ^ 4 / 2 ^ (cb_seg (y / 2 ^ 4) - 1) % 2 ^ 4) (Nat.mod_lt _ (by decide))).2), ht⟩) cb_nl dX3_encoded_70
      · exact absurd c2 (nI_ne0 (n := cb_seg (y / 2 ^ 4)) (by omega) (by omega))
    · have g1 : y / 2 ^ 4 < 16 := by rcases Nat.lt_or_ge (y / 2 ^ 4) 16 with q | q; exact q; exact absurd ((nI_leI (a := 16) (by decide) (by omega)).mpr q) c1
      have ks : cb_seg (y / 2 ^ 4) = 0 := by unfold cb_seg; rw [if_pos g1]
      refine lv_iconst (v := 0) hx hb dX3_encoded_20 (by decide) ?_
      refine lv_goto (tgt := 30) hx hb dX3_encoded_21 (by decide) ?_
      refine cb_top (y := nI (cb_seg (y / 2 ^ 4))) (by rw [ks]; rfl) ?_
      refine lv_istore_n (lv' := [(3, .int (nI (cb_seg (y / 2 ^ 4)))), (2, .int (nI (y / 2 ^ 4))), (0, .ref a), (1, .int x)]) hx hb dX3_encoded_30 rfl hl (by decide) rfl (fun ls hl => ?_)
      refine lv_iload_n hx hb dX3_encoded_31 rfl (lv_at hl 0 rfl) ?_
      refine lv_if_ne (tgt := 39) hx hb dX3_encoded_32 (by decide) (fun c2 => ?_) (fun c2 => ?_)
      · exact absurd (by rw [ks]; rfl) c2
      · refine lv_iload_n hx hb dX3_encoded_35 rfl (lv_at hl 1 rfl) ?_
        refine lv_goto (tgt := 44) hx hb dX3_encoded_36 (by decide) ?_
        refine lv_bipush (v := 15) hx hb dX3_encoded_44 (by decide) ?_
        refine lv_iand hx hb dX3_encoded_46 ?_
        refine cb_top (y := nI (y / 2 ^ 4 % 2 ^ 4)) (pk_andN (by omega) 4 (by decide)) ?_
        refine lv_istore (lv' := [(4, .int (nI (y / 2 ^ 4 % 2 ^ 4))), (3, .int (nI (cb_seg (y / 2 ^ 4)))), (2, .int (nI (y / 2 ^ 4))), (0, .ref a), (1, .int x)]) hx hb dX3_encoded_47 hl (by decide) rfl (fun ls hl => ?_)
        refine lv_iload_n hx hb dX3_encoded_49 rfl (lv_at hl 4 rfl) ?_
        refine lv_if_ge (tgt := 57) hx hb dX3_encoded_50 (by decide) (fun c3 => ?_) (fun c3 => ?_)
        · exact absurd c3 c0
        · refine lv_iconst (v := 0) hx hb dX3_encoded_53 (by decide) ?_
          refine lv_goto (tgt := 60) hx hb dX3_encoded_54 (by decide) ?_
          refine lv_iload_n hx hb dX3_encoded_60 rfl (lv_at hl 1 rfl) ?_
          refine lv_iconst (v := 4) hx hb dX3_encoded_61 (by decide) ?_
          refine lv_ishl hx hb dX3_encoded_62 ?_
          refine cb_top (y := nI (cb_seg (y / 2 ^ 4) * 2 ^ 4)) (pk_shlN _ 4 (by decide) (by omega)) ?_
          refine lv_ior hx hb dX3_encoded_63 ?_
          refine cb_top (y := nI (0 ||| cb_seg (y / 2 ^ 4) * 2 ^ 4)) (cb_or 0 _) ?_
          refine lv_iload hx hb dX3_encoded_64 (lv_at hl 0 rfl) ?_
          refine lv_ior hx hb dX3_encoded_66 ?_
          refine cb_top (y := nI ((0 ||| cb_seg (y / 2 ^ 4) * 2 ^ 4) ||| y / 2 ^ 4 % 2 ^ 4)) (cb_or _ _) ?_
          refine lv_bipush (v := 85) hx hb dX3_encoded_67 (by decide) ?_
          refine lv_ixor hx hb dX3_encoded_69 ?_
          refine cb_top (y := nI (((0 ||| cb_seg (y / 2 ^ 4) * 2 ^ 4) ||| y / 2 ^ 4 % 2 ^ 4) ^^^ 85)) (cb_xor _ 85) ?_
          exact W.iret (v := (nI (((0 ||| cb_seg (y / 2 ^ 4) * 2 ^ 4) ||| y / 2 ^ 4 % 2 ^ 4) ^^^ 85))) hx hb hr (fun t ht hW => ⟨cb_r (by rw [hsp]; unfold cb_encA; rw [if_pos ks]; exact congrArg nI (cb_orA (cb_seg (y / 2 ^ 4)) (by omega) (y / 2 ^ 4 % 2 ^ 4) (Nat.mod_lt _ (by decide))).2), ht⟩) cb_nl dX3_encoded_70
set_option maxHeartbeats 4000000 in
set_option maxRecDepth 100000 in
theorem met_eM (l : Launch) (a : Nat) (x : Int32) (hr0 : cb_rng x) : Met l yX4_encoded (ws_ yX4_encoded cX4_encoded 5 (some .int)) ({ frames := 2, cells := 0, slots := 0, locals := 41 } : Room) (cb_Pp [.ref a, .int x]) (cb_Qp (some (.int (cb_enc 1 x)))) 0 0 cb_no := by
  refine Met.ofW (cc := cX4_encoded) (maxL := 5) (ret := (some .int)) (by decide) rfl ?_
  intro p e s m args below meth c s₁ B hml hv
  obtain ⟨rfl, -⟩ := hv
  have hx := B.exec
  have hb := B.bytes
  have hr := B.returns
  have hts := atoms_spec (ws := (ws_ yX4_encoded cX4_encoded 5 (some .int))) B.pre
  have hts : ∀ w ∈ lw_all, w.before _ s = true := fun w h => hts w (List.mem_cons_of_mem _ h)
  have hown : s.vm.findClass RX4 = some m.cls := findClass_of_methodNamed B.named
  have hlocks := B.notSynchronized
  have hl := lv_entry ([.ref a, .int x]) (n := 5) (Nat.le_of_ble_eq_true rfl)
  rw [lg_entry_eq]
  generalize (lg_sl ([.ref a, .int x]) ++ List.replicate (5 - (lg_sl ([.ref a, .int x])).length) Slot.unset).toArray = ls at hl ⊢
  have hl : lv_has ls 5 [(0, .ref a), (1, .int x)] := hl
  obtain ⟨hr1, hr2⟩ := hr0
  obtain ⟨y, hy, ey, en⟩ : ∃ y : Nat, y ≤ 32768 ∧ (if 0 ≤ x then x else 0 - x) = nI y ∧ (if x.toInt < 0 then (-x.toInt).toNat else x.toInt.toNat) = y := by
    by_cases c : 0 ≤ x
    · have c2 : ¬ x.toInt < 0 := by rw [Int32.le_iff_toInt_le, Int32.toInt_zero] at c; omega
      exact ⟨x.toInt.toNat, by omega, by rw [if_pos c, ← Int32.toInt_inj, nI_toInt (by omega)]; omega, by rw [if_neg c2]⟩
    · have c2 : x.toInt < 0 := by rw [Int32.le_iff_toInt_le, Int32.toInt_zero] at c; omega
      exact ⟨(-x.toInt).toNat, by omega, by rw [if_neg c, ← Int32.toInt_inj, nI_toInt (by omega), Int32.toInt_sub, Int32.toInt_zero, Int.bmod_eq_of_le (by omega) (by omega)]; omega, by rw [if_pos c2]⟩
  obtain ⟨v, ev⟩ : ∃ v : Nat, v = min y 32635 + 132 := ⟨_, rfl⟩
  have hv1 : 132 ≤ v := by omega
  have hv2 : v ≤ 32767 := by omega
  have k1 : 7 ≤ Nat.log2 v := cb_le_log (by omega)
  have k2 : Nat.log2 v < 15 := cb_log_lt (by omega) (by omega)
  refine lv_iload_n hx hb dX4_encoded_0 rfl (lv_at hl 1 rfl) ?_
  refine va_mabs hx hb (hml.trans hl.1.symm) hown (hts _ q96) (hts _ q97) (hts _ q9) (hts _ q98) (Nat.le_of_ble_eq_true rfl) (Nat.le_of_ble_eq_true rfl) (Nat.zero_le _) (Nat.zero_le _) dX4_encoded_1 ?_
  refine cb_top (y := nI y) (ey) ?_
  refine lv_sipush (v := 32635) hx hb dX4_encoded_4 (by decide) ?_
  refine va_mmin hx hb (hml.trans hl.1.symm) hown (hts _ q99) (hts _ q100) (hts _ q9) (hts _ q101) (Nat.le_of_ble_eq_true rfl) (Nat.le_of_ble_eq_true rfl) (Nat.zero_le _) (Nat.zero_le _) dX4_encoded_7 ?_
  refine cb_top (y := nI (min y 32635)) (by
    by_cases c : (32635 : Int32) < nI y
    · rw [if_pos c, Nat.min_eq_right (Nat.le_of_lt ((nI_ltI (a := 32635) (by decide) (by omega)).mp c))]; rfl
    · rw [if_neg c, Nat.min_eq_left (by rcases Nat.lt_or_ge 32635 y with q | q; exact absurd ((nI_ltI (a := 32635) (by decide) (by omega)).mpr q) c; exact q)]) ?_
  refine lv_sipush (v := 132) hx hb dX4_encoded_10 (by decide) ?_
  refine lv_iadd hx hb dX4_encoded_13 ?_
  refine cb_top (y := nI v) (by rw [ev]; exact nI_add _ 132) ?_
  refine lv_istore_n (lv' := [(2, .int (nI v)), (0, .ref a), (1, .int x)]) hx hb dX4_encoded_14 rfl hl (by decide) rfl (fun ls hl => ?_)
  refine lv_iload_n hx hb dX4_encoded_15 rfl (lv_at hl 0 rfl) ?_
  refine cb_callPi (cb_runSUp (x := ⟨RX4, "top", "(I)I"⟩) (owner := RX2) (As := [.int (nI v)]) (rest := []) (n := 1) ⟨hx, hb, hml, hown, hts⟩ (met_top l v (by omega) (by omega)) rfl (lw_meth q88) rfl rfl rfl (hts _ q102) (hts _ q103) (hts _ q87) (hts _ q4) (by decide +kernel) ⟨Nat.le_of_ble_eq_true rfl, Nat.le_of_ble_eq_true rfl⟩ cb_preS rfl rfl hl.1 rfl (lv_room (Nat.le_of_ble_eq_true rfl)) dX4_encoded_16 ⟨Nat.zero_le _, Nat.zero_le _⟩) ?_
  refine lv_bipush (v := 7) hx hb dX4_encoded_19 (by decide) ?_
  refine lv_isub hx hb dX4_encoded_21 ?_
  refine cb_top (y := nI (Nat.log2 v - 7)) (pk_sub (b := 7) (by omega)) ?_
  refine lv_istore_n (lv' := [(3, .int (nI (Nat.log2 v - 7))), (2, .int (nI v)), (0, .ref a), (1, .int x)]) hx hb dX4_encoded_22 rfl hl (by decide) rfl (fun ls hl => ?_)
  refine lv_iload_n hx hb dX4_encoded_23 rfl (lv_at hl 1 rfl) ?_
  refine lv_iload_n hx hb dX4_encoded_24 rfl (lv_at hl 0 rfl) ?_
  refine lv_iconst (v := 3) hx hb dX4_encoded_25 (by decide) ?_
  refine lv_iadd hx hb dX4_encoded_26 ?_
  refine cb_top (y := nI (Nat.log2 v - 7 + 3)) (nI_add _ 3) ?_
  refine lv_ishr hx hb dX4_encoded_27 ?_
  refine cb_top (y := nI (v / 2 ^ (Nat.log2 v - 7 + 3))) (pk_shrN (by omega) _ _ (cb_sl _ (by omega))) ?_
  refine lv_bipush (v := 15) hx hb dX4_encoded_28 (by decide) ?_
  refine lv_iand hx hb dX4_encoded_30 ?_
  refine cb_top (y := nI (v / 2 ^ (Nat.log2 v - 7 + 3) % 2 ^ 4)) (pk_andN (Nat.lt_of_le_of_lt (Nat.div_le_self _ _) (by omega)) 4 (by decide)) ?_
  refine lv_istore (lv' := [(4, .int (nI (v / 2 ^ (Nat.log2 v - 7 + 3) % 2 ^ 4))), (3, .int (nI (Nat.log2 v - 7))), (2, .int (nI v)), (0, .ref a), (1, .int x)]) hx hb dX4_encoded_31 hl (by decide) rfl (fun ls hl => ?_)
  refine lv_iload_n hx hb dX4_encoded_33 rfl (lv_at hl 4 rfl) ?_
  refine lv_if_ge (tgt := 43) hx hb dX4_encoded_34 (by decide) (fun c0 => ?_) (fun c0 => ?_)
  · have hx0 : ¬ x.toInt < 0 := by rw [Int32.le_iff_toInt_le, Int32.toInt_zero] at c0; omega
    have hsp : cb_enc 1 x = cb_encM 0 v := by unfold cb_enc; rw [if_neg (by decide), if_neg hx0]; rw [if_neg hx0] at en; rw [en, ← ev]
    refine lv_iconst (v := 0) hx hb dX4_encoded_43 (by decide) ?_
    refine lv_iload_n hx hb dX4_encoded_44 rfl (lv_at hl 1 rfl) ?_
    refine lv_iconst (v := 4) hx hb dX4_encoded_45 (by decide) ?_
    refine lv_ishl hx hb dX4_encoded_46 ?_
    refine cb_top (y := nI ((Nat.log2 v - 7) * 2 ^ 4)) (pk_shlN _ 4 (by decide) (by omega)) ?_
    refine lv_ior hx hb dX4_encoded_47 ?_
    refine cb_top (y := nI (0 ||| (Nat.log2 v - 7) * 2 ^ 4)) (cb_or 0 _) ?_
    refine lv_iload hx hb dX4_encoded_48 (lv_at hl 0 rfl) ?_
    refine lv_ior hx hb dX4_encoded_50 ?_
    refine cb_top (y := nI ((0 ||| (Nat.log2 v - 7) * 2 ^ 4) ||| v / 2 ^ (Nat.log2 v - 7 + 3) % 2 ^ 4)) (cb_or _ _) ?_
    refine lv_iconst (v := (-1)) hx hb dX4_encoded_51 (by decide) ?_
    refine lv_ixor hx hb dX4_encoded_52 ?_
    refine lv_sipush (v := 255) hx hb dX4_encoded_53 (by decide) ?_
    refine lv_iand hx hb dX4_encoded_56 ?_
    exact W.iret (v := (((nI ((0 ||| (Nat.log2 v - 7) * 2 ^ 4) ||| v / 2 ^ (Nat.log2 v - 7 + 3) % 2 ^ 4)) ^^^ (-1)) &&& 255)) hx hb hr (fun t ht hW => ⟨cb_r (by rw [hsp]; unfold cb_encM; exact (cb_orM (Nat.log2 v - 7) (by omega) (v / 2 ^ (Nat.log2 v - 7 + 3) % 2 ^ 4) (Nat.mod_lt _ (by decide))).2), ht⟩) cb_nl dX4_encoded_57
  · have hx0 :  x.toInt < 0 := by rw [Int32.le_iff_toInt_le, Int32.toInt_zero] at c0; omega
    have hsp : cb_enc 1 x = cb_encM 128 v := by unfold cb_enc; rw [if_neg (by decide), if_pos hx0]; rw [if_pos hx0] at en; rw [en, ← ev]
    refine lv_sipush (v := 128) hx hb dX4_encoded_37 (by decide) ?_
    refine lv_goto (tgt := 44) hx hb dX4_encoded_40 (by decide) ?_
    refine lv_iload_n hx hb dX4_encoded_44 rfl (lv_at hl 1 rfl) ?_
    refine lv_iconst (v := 4) hx hb dX4_encoded_45 (by decide) ?_
    refine lv_ishl hx hb dX4_encoded_46 ?_
    refine cb_top (y := nI ((Nat.log2 v - 7) * 2 ^ 4)) (pk_shlN _ 4 (by decide) (by omega)) ?_
    refine lv_ior hx hb dX4_encoded_47 ?_
    refine cb_top (y := nI (128 ||| (Nat.log2 v - 7) * 2 ^ 4)) (cb_or 128 _) ?_
    refine lv_iload hx hb dX4_encoded_48 (lv_at hl 0 rfl) ?_
    refine lv_ior hx hb dX4_encoded_50 ?_
    refine cb_top (y := nI ((128 ||| (Nat.log2 v - 7) * 2 ^ 4) ||| v / 2 ^ (Nat.log2 v - 7 + 3) % 2 ^ 4)) (cb_or _ _) ?_
    refine lv_iconst (v := (-1)) hx hb dX4_encoded_51 (by decide) ?_
    refine lv_ixor hx hb dX4_encoded_52 ?_
    refine lv_sipush (v := 255) hx hb dX4_encoded_53 (by decide) ?_
    refine lv_iand hx hb dX4_encoded_56 ?_
    exact W.iret (v := (((nI ((128 ||| (Nat.log2 v - 7) * 2 ^ 4) ||| v / 2 ^ (Nat.log2 v - 7 + 3) % 2 ^ 4)) ^^^ (-1)) &&& 255)) hx hb hr (fun t ht hW => ⟨cb_r (by rw [hsp]; unfold cb_encM; exact (cb_orM (Nat.log2 v - 7) (by omega) (v / 2 ^ (Nat.log2 v - 7 + 3) % 2 ^ 4) (Nat.mod_lt _ (by decide))).1), ht⟩) cb_nl dX4_encoded_57
end
section
/-! PLAIN LAWS for the model's loops -/
set_option maxRecDepth 100000
theorem cb_logj {v j b : Nat} (h1 : 2 ^ b ≤ v / 2 ^ j) (h2 : v / 2 ^ j < 2 ^ (b + 1)) : Nat.log2 v = j + b := by
  have hp : 0 < 2 ^ j := Nat.two_pow_pos j
  have e1 : 2 ^ (j + b) ≤ v := by
    rw [Nat.pow_add, Nat.mul_comm]
    exact (Nat.le_div_iff_mul_le hp).mp h1
  have e2 : v < 2 ^ (j + b + 1) := by
    rw [show j + b + 1 = (b + 1) + j by omega, Nat.pow_add]
    exact (Nat.div_lt_iff_lt_mul hp).mp h2
  have hne : v ≠ 0 := by
    have : 0 < 2 ^ (j + b) := Nat.two_pow_pos _
    omega
  apply Nat.le_antisymm
  · exact Nat.lt_succ_iff.mp ((Nat.log2_lt hne).mpr e2)
  · exact (Nat.le_log2 hne).mpr e1
/-- A-law: what the model's halving ends with -/
theorem cb_segA_hi {p j : Nat} (h1 : 16 ≤ p / 2 ^ j) (h2 : p / 2 ^ j < 32) : cb_seg p = j + 1 := by
  have hl := cb_logj (v := p) (j := j) (b := 4) h1 h2
  have hp : 16 ≤ p := Nat.le_trans h1 (Nat.div_le_self _ _)
  unfold cb_seg
  rw [if_neg (by omega), hl]
  omega
theorem cb_modelA_hi {g y j : Nat} (h1 : 16 ≤ y / 2 ^ 4 / 2 ^ j) (h2 : y / 2 ^ 4 / 2 ^ j < 32) : nI ((g + 16 * (j + 1) + y / 2 ^ 4 / 2 ^ j % 16) ^^^ 85) = cb_encA g y := by
  unfold cb_encA
  rw [cb_segA_hi h1 h2, if_neg (by omega), Nat.add_sub_cancel]
theorem cb_modelA_lo {g y : Nat} (h1 : y / 2 ^ 4 / 2 ^ 0 < 16) : nI ((g + 16 * 0 + y / 2 ^ 4 / 2 ^ 0 % 16) ^^^ 85) = cb_encA g y := by
  have e : cb_seg (y / 2 ^ 4) = 0 := by
    unfold cb_seg
    rw [if_pos (by simpa using h1)]
  unfold cb_encA
  rw [e, if_pos rfl, Nat.pow_zero, Nat.div_one]
theorem cb_modelM {g v j : Nat} (h1 : 128 ≤ v / 2 ^ j) (h2 : v / 2 ^ j < 256) : nI (255 - (g + 16 * j + v / 2 ^ j / 8 % 16)) = cb_encM g v := by
  have hl := cb_logj (v := v) (j := j) (b := 7) h1 h2
  unfold cb_encM
  rw [hl, Nat.add_sub_cancel, Nat.pow_add, ← Nat.div_div_eq_div_mul]
theorem cb_half (p j : Nat) : p / 2 ^ j / 2 = p / 2 ^ (j + 1) := by rw [Nat.pow_succ, Nat.div_div_eq_div_mul]
theorem cb_m132 {a : Nat} (h : 132 ≤ a) : nI a + Int32.ofInt (-132) = nI (a - 132) := by
  rw [← pk_sub (b := 132) h, show Int32.ofInt (-132) = -nI 132 from by decide, Int32.sub_eq_add_neg]
end
section
/-! the model's codeOf, meaning, scaled -/
set_option maxRecDepth 100000
set_option maxHeartbeats 4000000 in
theorem cofA_loop {p : Program} {l : Launch} {e : Env} {R : Room} {s : State} {m : MethodId} {args : Array Value} {below : List Frame} {meth : Method} {c : Code} {Q : State → Prop} {H : Heap} {locs : List Loc} {cells slots : Nat} (hx : p.tables.exec = Jvm.exec) (hb : c.code = cX6_codeOf) {x : Int32} {p0 : Nat} (hp0 : p0 < 2048) (K : ∀ j : Nat, j ≤ 8 → p0 / 2 ^ j < 32 → (j = 0 ∨ 16 ≤ p0 / 2 ^ j) → ∀ ls : Array Slot, lv_has ls 4 [(3, .int (nI j)), (2, .int (nI (p0 / 2 ^ j))), (0, .int 0), (1, .int x)] → W p l e R s m args below meth c H locs cells slots Q (F0 m 40 ls [])) : ∀ (n j : Nat), j + n = 7 → (j = 0 ∨ 16 ≤ p0 / 2 ^ j) → ∀ ls : Array Slot, lv_has ls 4 [(3, .int (nI j)), (2, .int (nI (p0 / 2 ^ j))), (0, .int 0), (1, .int x)] → W p l e R s m args below meth c H locs cells slots Q (F0 m 24 ls []) := by
  intro n
  induction n with
  | zero =>
    intro j hj hi
    have ej : j = 7 := by omega
    subst ej
    omega
  | succ n ih =>
    intro j hj hi ls hl
    have hb0 : p0 / 2 ^ j ≤ p0 := Nat.div_le_self _ _
    refine lv_iload_n hx hb dX6_codeOf_24 rfl (lv_at hl 1 rfl) ?_
    refine lv_bipush (v := 32) hx hb dX6_codeOf_25 (by decide) ?_
    refine lv_icmp_lt (tgt := 40) hx hb dX6_codeOf_27 (by decide) (fun c0 => ?_) (fun c0 => ?_)
    · exact K j (by omega) ((nI_ltI (b := 32) (by omega) (by decide)).mp c0) hi ls hl
    · have g0 : 32 ≤ p0 / 2 ^ j := by rcases Nat.lt_or_ge (p0 / 2 ^ j) 32 with q | q; exact absurd ((nI_ltI (b := 32) (by omega) (by decide)).mpr q) c0; exact q
      refine lv_iload_n hx hb dX6_codeOf_30 rfl (lv_at hl 1 rfl) ?_
      refine lv_iconst (v := 2) hx hb dX6_codeOf_31 (by decide) ?_
      refine lv_idiv hx hb dX6_codeOf_32 (by decide) ?_
      refine cb_top (y := nI (p0 / 2 ^ (j + 1))) (by rw [← cb_half]; exact pk_div (d := 2) (by omega) (by decide) (by decide)) ?_
      refine lv_istore_n (lv' := [(2, .int (nI (p0 / 2 ^ (j + 1)))), (3, .int (nI j)), (0, .int 0), (1, .int x)]) hx hb dX6_codeOf_33 rfl hl (by decide) rfl (fun ls hl => ?_)
      refine lv_iinc (v := (nI (j + 1))) (lv' := [(3, .int (nI (j + 1))), (2, .int (nI (p0 / 2 ^ (j + 1)))), (0, .int 0), (1, .int x)]) hx hb dX6_codeOf_34 hl (k := 1) rfl (nI_1 j) (by decide) rfl (fun ls hl => ?_)
      refine lv_goto (tgt := 24) hx hb dX6_codeOf_37 (by decide) ?_
      exact ih (j + 1) (by omega) (by have := cb_half p0 j; omega) ls hl
set_option maxHeartbeats 4000000 in
theorem cofM_loop {p : Program} {l : Launch} {e : Env} {R : Room} {s : State} {m : MethodId} {args : Array Value} {below : List Frame} {meth : Method} {c : Code} {Q : State → Prop} {H : Heap} {locs : List Loc} {cells slots : Nat} (hx : p.tables.exec = Jvm.exec) (hb : c.code = cX6_codeOf) {x : Int32} {p0 : Nat} (hp0 : p0 < 32768) (K : ∀ j : Nat, j ≤ 8 → p0 / 2 ^ j < 256 → (128 ≤ p0 / 2 ^ j) → ∀ ls : Array Slot, lv_has ls 4 [(3, .int (nI j)), (2, .int (nI (p0 / 2 ^ j))), (0, .int 1), (1, .int x)] → W p l e R s m args below meth c H locs cells slots Q (F0 m 121 ls [])) : ∀ (n j : Nat), j + n = 8 → (128 ≤ p0 / 2 ^ j) → ∀ ls : Array Slot, lv_has ls 4 [(3, .int (nI j)), (2, .int (nI (p0 / 2 ^ j))), (0, .int 1), (1, .int x)] → W p l e R s m args below meth c H locs cells slots Q (F0 m 104 ls []) := by
  intro n
  induction n with
  | zero =>
    intro j hj hi
    have ej : j = 8 := by omega
    subst ej
    omega
  | succ n ih =>
    intro j hj hi ls hl
    have hb0 : p0 / 2 ^ j ≤ p0 := Nat.div_le_self _ _
    refine lv_iload_n hx hb dX6_codeOf_104 rfl (lv_at hl 1 rfl) ?_
    refine lv_sipush (v := 256) hx hb dX6_codeOf_105 (by decide) ?_
    refine lv_icmp_lt (tgt := 121) hx hb dX6_codeOf_108 (by decide) (fun c0 => ?_) (fun c0 => ?_)
    · exact K j (by omega) ((nI_ltI (b := 256) (by omega) (by decide)).mp c0) hi ls hl
    · have g0 : 256 ≤ p0 / 2 ^ j := by rcases Nat.lt_or_ge (p0 / 2 ^ j) 256 with q | q; exact absurd ((nI_ltI (b := 256) (by omega) (by decide)).mpr q) c0; exact q
      refine lv_iload_n hx hb dX6_codeOf_111 rfl (lv_at hl 1 rfl) ?_
      refine lv_iconst (v := 2) hx hb dX6_codeOf_112 (by decide) ?_
      refine lv_idiv hx hb dX6_codeOf_113 (by decide) ?_
      refine cb_top (y := nI (p0 / 2 ^ (j + 1))) (by rw [← cb_half]; exact pk_div (d := 2) (by omega) (by decide) (by decide)) ?_
      refine lv_istore_n (lv' := [(2, .int (nI (p0 / 2 ^ (j + 1)))), (3, .int (nI j)), (0, .int 1), (1, .int x)]) hx hb dX6_codeOf_114 rfl hl (by decide) rfl (fun ls hl => ?_)
      refine lv_iinc (v := (nI (j + 1))) (lv' := [(3, .int (nI (j + 1))), (2, .int (nI (p0 / 2 ^ (j + 1)))), (0, .int 1), (1, .int x)]) hx hb dX6_codeOf_115 hl (k := 1) rfl (nI_1 j) (by decide) rfl (fun ls hl => ?_)
      refine lv_goto (tgt := 104) hx hb dX6_codeOf_118 (by decide) ?_
      exact ih (j + 1) (by omega) (by have := cb_half p0 j; omega) ls hl
set_option maxHeartbeats 4000000 in
set_option maxRecDepth 100000 in
theorem met_cof0 (l : Launch) (x : Int32) (hr0 : cb_rng x) : Met l yX6_codeOf (ws_ yX6_codeOf cX6_codeOf 4 (some .int)) ({ frames := 0, cells := 0, slots := 0, locals := 0 } : Room) (cb_Pp [.int 0, .int x]) (cb_Qp (some (.int (cb_enc 0 x)))) 0 0 cb_no := by
  refine Met.ofW (cc := cX6_codeOf) (maxL := 4) (ret := (some .int)) (by decide) rfl ?_
  intro p e s m args below meth c s₁ B hml hv
  obtain ⟨rfl, -⟩ := hv
  have hx := B.exec
  have hb := B.bytes
  have hr := B.returns
  have hts := atoms_spec (ws := (ws_ yX6_codeOf cX6_codeOf 4 (some .int))) B.pre
  have hts : ∀ w ∈ lw_all, w.before _ s = true := fun w h => hts w (List.mem_cons_of_mem _ h)
  have hown : s.vm.findClass RX6 = some m.cls := findClass_of_methodNamed B.named
  have hlocks := B.notSynchronized
  have hl := lv_entry ([.int 0, .int x]) (n := 4) (Nat.le_of_ble_eq_true rfl)
  rw [lg_entry_eq]
  generalize (lg_sl ([.int 0, .int x]) ++ List.replicate (4 - (lg_sl ([.int 0, .int x])).length) Slot.unset).toArray = ls at hl ⊢
  have hl : lv_has ls 4 [(0, .int 0), (1, .int x)] := hl
  obtain ⟨hr1, hr2⟩ := hr0
  refine lv_iload_n hx hb dX6_codeOf_0 rfl (lv_at hl 0 rfl) ?_
  refine lv_if_ne (tgt := 74) hx hb dX6_codeOf_1 (by decide) (fun cz => (cz rfl : False).elim) (fun cz => ?_)
  refine lv_iload_n hx hb dX6_codeOf_4 rfl (lv_at hl 1 rfl) ?_
  refine lv_if_ge (tgt := 17) hx hb dX6_codeOf_5 (by decide) (fun c0 => ?_) (fun c0 => ?_)
  · have hx0 : ¬ x.toInt < 0 := by rw [Int32.le_iff_toInt_le, Int32.toInt_zero] at c0; omega
    obtain ⟨y, hy, ey, en⟩ : ∃ y : Nat, y < 32768 ∧ x = nI y ∧ x.toInt.toNat = y := ⟨x.toInt.toNat, by omega, by rw [← Int32.toInt_inj, nI_toInt (by omega)]; omega, rfl⟩
    refine lv_iload_n hx hb dX6_codeOf_17 rfl (lv_at hl 1 rfl) ?_
    refine cb_top (y := nI y) (ey) ?_
    have hsp : cb_enc 0 x = cb_encA 128 y := by unfold cb_enc; rw [if_pos rfl, if_neg hx0, en]
    refine lv_bipush (v := 16) hx hb dX6_codeOf_18 (by decide) ?_
    refine lv_idiv hx hb dX6_codeOf_20 (by decide) ?_
    refine cb_top (y := nI (y / 2 ^ 4)) (pk_div (d := 16) (by omega) (by decide) (by decide)) ?_
    refine lv_istore_n (lv' := [(2, .int (nI (y / 2 ^ 4))), (0, .int 0), (1, .int x)]) hx hb dX6_codeOf_21 rfl hl (by decide) rfl (fun ls hl => ?_)
    refine lv_iconst (v := 0) hx hb dX6_codeOf_22 (by decide) ?_
    refine lv_istore_n (lv' := [(3, .int 0), (2, .int (nI (y / 2 ^ 4))), (0, .int 0), (1, .int x)]) hx hb dX6_codeOf_23 rfl hl (by decide) rfl (fun ls hl => ?_)
    refine cofA_loop (p0 := y / 2 ^ 4) hx hb (by omega) (fun j hj g1 g2 ls hl => ?_) 7 0 rfl (Or.inl rfl) ls (by rw [Nat.pow_zero, Nat.div_one]; exact hl)
    refine lv_iload_n hx hb dX6_codeOf_40 rfl (lv_at hl 1 rfl) ?_
    refine lv_bipush (v := 16) hx hb dX6_codeOf_41 (by decide) ?_
    refine lv_icmp_lt (tgt := 49) hx hb dX6_codeOf_43 (by decide) (fun c1 => ?_) (fun c1 => ?_)
    · have g3 : y / 2 ^ 4 / 2 ^ j < 16 := (nI_ltI (b := 16) (by omega) (by decide)).mp c1
      have ej : j = 0 := by omega
      subst ej
      refine lv_iload_n hx hb dX6_codeOf_49 rfl (lv_at hl 3 rfl) ?_
      refine lv_if_ge (tgt := 57) hx hb dX6_codeOf_50 (by decide) (fun cz => ?_) (fun cz => (cz c0 : False).elim)
      refine lv_sipush (v := 128) hx hb dX6_codeOf_57 (by decide) ?_
      refine lv_bipush (v := 16) hx hb dX6_codeOf_60 (by decide) ?_
      refine lv_iload_n hx hb dX6_codeOf_62 rfl (lv_at hl 0 rfl) ?_
      refine lv_imul hx hb dX6_codeOf_63 ?_
      refine cb_top (y := nI (16 * 0)) (pk_mul 16 _) ?_
      refine lv_iadd hx hb dX6_codeOf_64 ?_
      refine cb_top (y := nI (128 + 16 * 0)) (nI_add 128 _) ?_
      refine lv_iload_n hx hb dX6_codeOf_65 rfl (lv_at hl 1 rfl) ?_
      refine lv_bipush (v := 16) hx hb dX6_codeOf_66 (by decide) ?_
      refine lv_irem hx hb dX6_codeOf_68 (by decide) ?_
      refine cb_top (y := nI (y / 2 ^ 4 / 2 ^ 0 % 16)) (pk_rem (d := 16) (Nat.lt_of_le_of_lt (Nat.div_le_self _ _) (by omega)) (by decide) (by decide)) ?_
      refine lv_iadd hx hb dX6_codeOf_69 ?_
      refine cb_top (y := nI (128 + 16 * 0 + y / 2 ^ 4 / 2 ^ 0 % 16)) (nI_add _ _) ?_
      refine lv_bipush (v := 85) hx hb dX6_codeOf_70 (by decide) ?_
      refine lv_ixor hx hb dX6_codeOf_72 ?_
      refine cb_top (y := nI ((128 + 16 * 0 + y / 2 ^ 4 / 2 ^ 0 % 16) ^^^ 85)) (cb_xor _ 85) ?_
      exact W.iret (v := (nI ((128 + 16 * 0 + y / 2 ^ 4 / 2 ^ 0 % 16) ^^^ 85))) hx hb hr (fun t ht hW => ⟨cb_r (by rw [hsp]; exact cb_modelA_lo g3), ht⟩) cb_nl dX6_codeOf_73
    · have g3 : 16 ≤ y / 2 ^ 4 / 2 ^ j := by rcases Nat.lt_or_ge (y / 2 ^ 4 / 2 ^ j) 16 with q | q; exact absurd ((nI_ltI (b := 16) (by omega) (by decide)).mpr q) c1; exact q
      refine lv_iinc (v := (nI (j + 1))) (lv' := [(3, .int (nI (j + 1))), (2, .int (nI (y / 2 ^ 4 / 2 ^ j))), (0, .int 0), (1, .int x)]) hx hb dX6_codeOf_46 hl (k := 0) rfl (nI_1 j) (by decide) rfl (fun ls hl => ?_)
      refine lv_iload_n hx hb dX6_codeOf_49 rfl (lv_at hl 3 rfl) ?_
      refine lv_if_ge (tgt := 57) hx hb dX6_codeOf_50 (by decide) (fun cz => ?_) (fun cz => (cz c0 : False).elim)
      refine lv_sipush (v := 128) hx hb dX6_codeOf_57 (by decide) ?_
      refine lv_bipush (v := 16) hx hb dX6_codeOf_60 (by decide) ?_
      refine lv_iload_n hx hb dX6_codeOf_62 rfl (lv_at hl 0 rfl) ?_
      refine lv_imul hx hb dX6_codeOf_63 ?_
      refine cb_top (y := nI (16 * (j + 1))) (pk_mul 16 _) ?_
      refine lv_iadd hx hb dX6_codeOf_64 ?_
      refine cb_top (y := nI (128 + 16 * (j + 1))) (nI_add 128 _) ?_
      refine lv_iload_n hx hb dX6_codeOf_65 rfl (lv_at hl 1 rfl) ?_
      refine lv_bipush (v := 16) hx hb dX6_codeOf_66 (by decide) ?_
      refine lv_irem hx hb dX6_codeOf_68 (by decide) ?_
      refine cb_top (y := nI (y / 2 ^ 4 / 2 ^ j % 16)) (pk_rem (d := 16) (Nat.lt_of_le_of_lt (Nat.div_le_self _ _) (by omega)) (by decide) (by decide)) ?_
      refine lv_iadd hx hb dX6_codeOf_69 ?_
      refine cb_top (y := nI (128 + 16 * (j + 1) + y / 2 ^ 4 / 2 ^ j % 16)) (nI_add _ _) ?_
      refine lv_bipush (v := 85) hx hb dX6_codeOf_70 (by decide) ?_
      refine lv_ixor hx hb dX6_codeOf_72 ?_
      refine cb_top (y := nI ((128 + 16 * (j + 1) + y / 2 ^ 4 / 2 ^ j % 16) ^^^ 85)) (cb_xor _ 85) ?_
      exact W.iret (v := (nI ((128 + 16 * (j + 1) + y / 2 ^ 4 / 2 ^ j % 16) ^^^ 85))) hx hb hr (fun t ht hW => ⟨cb_r (by rw [hsp]; exact cb_modelA_hi g3 g1), ht⟩) cb_nl dX6_codeOf_73
  · have hx0 : x.toInt < 0 := by rw [Int32.le_iff_toInt_le, Int32.toInt_zero] at c0; omega
    obtain ⟨y, hy, ey, en⟩ : ∃ y : Nat, y < 32768 ∧ -1 - x = nI y ∧ (-1 - x.toInt).toNat = y := ⟨(-1 - x.toInt).toNat, by omega, by rw [← Int32.toInt_inj, nI_toInt (by omega), Int32.toInt_sub, show (-1 : Int32).toInt = -1 from by decide, Int.bmod_eq_of_le (by omega) (by omega)]; omega, rfl⟩
    refine lv_iconst (v := (-1)) hx hb dX6_codeOf_8 (by decide) ?_
    refine lv_iload_n hx hb dX6_codeOf_9 rfl (lv_at hl 1 rfl) ?_
    refine lv_isub hx hb dX6_codeOf_10 ?_
    refine cb_top (y := nI y) (ey) ?_
    have hsp : cb_enc 0 x = cb_encA 0 y := by unfold cb_enc; rw [if_pos rfl, if_pos hx0, en]
    refine lv_bipush (v := 16) hx hb dX6_codeOf_11 (by decide) ?_
    refine lv_idiv hx hb dX6_codeOf_13 (by decide) ?_
    refine cb_top (y := nI (y / 2 ^ 4)) (pk_div (d := 16) (by omega) (by decide) (by decide)) ?_
    refine lv_goto (tgt := 21) hx hb dX6_codeOf_14 (by decide) ?_
    refine lv_istore_n (lv' := [(2, .int (nI (y / 2 ^ 4))), (0, .int 0), (1, .int x)]) hx hb dX6_codeOf_21 rfl hl (by decide) rfl (fun ls hl => ?_)
    refine lv_iconst (v := 0) hx hb dX6_codeOf_22 (by decide) ?_
    refine lv_istore_n (lv' := [(3, .int 0), (2, .int (nI (y / 2 ^ 4))), (0, .int 0), (1, .int x)]) hx hb dX6_codeOf_23 rfl hl (by decide) rfl (fun ls hl => ?_)
    refine cofA_loop (p0 := y / 2 ^ 4) hx hb (by omega) (fun j hj g1 g2 ls hl => ?_) 7 0 rfl (Or.inl rfl) ls (by rw [Nat.pow_zero, Nat.div_one]; exact hl)
    refine lv_iload_n hx hb dX6_codeOf_40 rfl (lv_at hl 1 rfl) ?_
    refine lv_bipush (v := 16) hx hb dX6_codeOf_41 (by decide) ?_
    refine lv_icmp_lt (tgt := 49) hx hb dX6_codeOf_43 (by decide) (fun c1 => ?_) (fun c1 => ?_)
    · have g3 : y / 2 ^ 4 / 2 ^ j < 16 := (nI_ltI (b := 16) (by omega) (by decide)).mp c1
      have ej : j = 0 := by omega
      subst ej
      refine lv_iload_n hx hb dX6_codeOf_49 rfl (lv_at hl 3 rfl) ?_
      refine lv_if_ge (tgt := 57) hx hb dX6_codeOf_50 (by decide) (fun cz => (c0 cz : False).elim) (fun cz => ?_)
      refine lv_iconst (v := 0) hx hb dX6_codeOf_53 (by decide) ?_
      refine lv_goto (tgt := 60) hx hb dX6_codeOf_54 (by decide) ?_
      refine lv_bipush (v := 16) hx hb dX6_codeOf_60 (by decide) ?_
      refine lv_iload_n hx hb dX6_codeOf_62 rfl (lv_at hl 0 rfl) ?_
      refine lv_imul hx hb dX6_codeOf_63 ?_
      refine cb_top (y := nI (16 * 0)) (pk_mul 16 _) ?_
      refine lv_iadd hx hb dX6_codeOf_64 ?_
      refine cb_top (y := nI (0 + 16 * 0)) (nI_add 0 _) ?_
      refine lv_iload_n hx hb dX6_codeOf_65 rfl (lv_at hl 1 rfl) ?_
      refine lv_bipush (v := 16) hx hb dX6_codeOf_66 (by decide) ?_
      refine lv_irem hx hb dX6_codeOf_68 (by decide) ?_
      refine cb_top (y := nI (y / 2 ^ 4 / 2 ^ 0 % 16)) (pk_rem (d := 16) (Nat.lt_of_le_of_lt (Nat.div_le_self _ _) (by omega)) (by decide) (by decide)) ?_
      refine lv_iadd hx hb dX6_codeOf_69 ?_
      refine cb_top (y := nI (0 + 16 * 0 + y / 2 ^ 4 / 2 ^ 0 % 16)) (nI_add _ _) ?_
      refine lv_bipush (v := 85) hx hb dX6_codeOf_70 (by decide) ?_
      refine lv_ixor hx hb dX6_codeOf_72 ?_
      refine cb_top (y := nI ((0 + 16 * 0 + y / 2 ^ 4 / 2 ^ 0 % 16) ^^^ 85)) (cb_xor _ 85) ?_
      exact W.iret (v := (nI ((0 + 16 * 0 + y / 2 ^ 4 / 2 ^ 0 % 16) ^^^ 85))) hx hb hr (fun t ht hW => ⟨cb_r (by rw [hsp]; exact cb_modelA_lo g3), ht⟩) cb_nl dX6_codeOf_73
    · have g3 : 16 ≤ y / 2 ^ 4 / 2 ^ j := by rcases Nat.lt_or_ge (y / 2 ^ 4 / 2 ^ j) 16 with q | q; exact absurd ((nI_ltI (b := 16) (by omega) (by decide)).mpr q) c1; exact q
      refine lv_iinc (v := (nI (j + 1))) (lv' := [(3, .int (nI (j + 1))), (2, .int (nI (y / 2 ^ 4 / 2 ^ j))), (0, .int 0), (1, .int x)]) hx hb dX6_codeOf_46 hl (k := 0) rfl (nI_1 j) (by decide) rfl (fun ls hl => ?_)
      refine lv_iload_n hx hb dX6_codeOf_49 rfl (lv_at hl 3 rfl) ?_
      refine lv_if_ge (tgt := 57) hx hb dX6_codeOf_50 (by decide) (fun cz => (c0 cz : False).elim) (fun cz => ?_)
      refine lv_iconst (v := 0) hx hb dX6_codeOf_53 (by decide) ?_
      refine lv_goto (tgt := 60) hx hb dX6_codeOf_54 (by decide) ?_
      refine lv_bipush (v := 16) hx hb dX6_codeOf_60 (by decide) ?_
      refine lv_iload_n hx hb dX6_codeOf_62 rfl (lv_at hl 0 rfl) ?_
      refine lv_imul hx hb dX6_codeOf_63 ?_
      refine cb_top (y := nI (16 * (j + 1))) (pk_mul 16 _) ?_
      refine lv_iadd hx hb dX6_codeOf_64 ?_
      refine cb_top (y := nI (0 + 16 * (j + 1))) (nI_add 0 _) ?_
      refine lv_iload_n hx hb dX6_codeOf_65 rfl (lv_at hl 1 rfl) ?_
      refine lv_bipush (v := 16) hx hb dX6_codeOf_66 (by decide) ?_
      refine lv_irem hx hb dX6_codeOf_68 (by decide) ?_
      refine cb_top (y := nI (y / 2 ^ 4 / 2 ^ j % 16)) (pk_rem (d := 16) (Nat.lt_of_le_of_lt (Nat.div_le_self _ _) (by omega)) (by decide) (by decide)) ?_
      refine lv_iadd hx hb dX6_codeOf_69 ?_
      refine cb_top (y := nI (0 + 16 * (j + 1) + y / 2 ^ 4 / 2 ^ j % 16)) (nI_add _ _) ?_
      refine lv_bipush (v := 85) hx hb dX6_codeOf_70 (by decide) ?_
      refine lv_ixor hx hb dX6_codeOf_72 ?_
      refine cb_top (y := nI ((0 + 16 * (j + 1) + y / 2 ^ 4 / 2 ^ j % 16) ^^^ 85)) (cb_xor _ 85) ?_
      exact W.iret (v := (nI ((0 + 16 * (j + 1) + y / 2 ^ 4 / 2 ^ j % 16) ^^^ 85))) hx hb hr (fun t ht hW => ⟨cb_r (by rw [hsp]; exact cb_modelA_hi g3 g1), ht⟩) cb_nl dX6_codeOf_73
set_option maxHeartbeats 4000000 in
set_option maxRecDepth 100000 in
theorem met_cof1 (l : Launch) (x : Int32) (hr0 : cb_rng x) : Met l yX6_codeOf (ws_ yX6_codeOf cX6_codeOf 4 (some .int)) ({ frames := 0, cells := 0, slots := 0, locals := 0 } : Room) (cb_Pp [.int 1, .int x]) (cb_Qp (some (.int (cb_enc 1 x)))) 0 0 cb_no := by
  refine Met.ofW (cc := cX6_codeOf) (maxL := 4) (ret := (some .int)) (by decide) rfl ?_
  intro p e s m args below meth c s₁ B hml hv
  obtain ⟨rfl, -⟩ := hv
  have hx := B.exec
  have hb := B.bytes
  have hr := B.returns
  have hts := atoms_spec (ws := (ws_ yX6_codeOf cX6_codeOf 4 (some .int))) B.pre
  have hts : ∀ w ∈ lw_all, w.before _ s = true := fun w h => hts w (List.mem_cons_of_mem _ h)
  have hown : s.vm.findClass RX6 = some m.cls := findClass_of_methodNamed B.named
  have hlocks := B.notSynchronized
  have hl := lv_entry ([.int 1, .int x]) (n := 4) (Nat.le_of_ble_eq_true rfl)
  rw [lg_entry_eq]
  generalize (lg_sl ([.int 1, .int x]) ++ List.replicate (4 - (lg_sl ([.int 1, .int x])).length) Slot.unset).toArray = ls at hl ⊢
  have hl : lv_has ls 4 [(0, .int 1), (1, .int x)] := hl
  obtain ⟨hr1, hr2⟩ := hr0
  refine lv_iload_n hx hb dX6_codeOf_0 rfl (lv_at hl 0 rfl) ?_
  refine lv_if_ne (tgt := 74) hx hb dX6_codeOf_1 (by decide) (fun cz => ?_) (fun cz => (absurd cz (by decide) : False).elim)
  refine lv_iload_n hx hb dX6_codeOf_74 rfl (lv_at hl 1 rfl) ?_
  refine lv_if_ge (tgt := 83) hx hb dX6_codeOf_75 (by decide) (fun c0 => ?_) (fun c0 => ?_)
  · have hx0 : ¬ x.toInt < 0 := by rw [Int32.le_iff_toInt_le, Int32.toInt_zero] at c0; omega
    obtain ⟨y, hy, ey, en⟩ : ∃ y : Nat, y ≤ 32768 ∧ x = nI y ∧ x.toInt.toNat = y := ⟨x.toInt.toNat, by omega, by rw [← Int32.toInt_inj, nI_toInt (by omega)]; omega, rfl⟩
    refine lv_iload_n hx hb dX6_codeOf_83 rfl (lv_at hl 1 rfl) ?_
    refine cb_top (y := nI y) (ey) ?_
    obtain ⟨v, ev⟩ : ∃ v : Nat, v = min y 32635 + 132 := ⟨_, rfl⟩
    have hsp : cb_enc 1 x = cb_encM 0 v := by unfold cb_enc; rw [if_neg (by decide), if_neg hx0, en, ← ev]
    refine lv_istore_n (lv' := [(2, .int (nI y)), (0, .int 1), (1, .int x)]) hx hb dX6_codeOf_84 rfl hl (by decide) rfl (fun ls hl => ?_)
    refine lv_iload_n hx hb dX6_codeOf_85 rfl (lv_at hl 0 rfl) ?_
    refine lv_sipush (v := 32635) hx hb dX6_codeOf_86 (by decide) ?_
    refine lv_icmp_le (tgt := 96) hx hb dX6_codeOf_89 (by decide) (fun c1 => ?_) (fun c1 => ?_)
    · have g9 : y ≤ 32635 := (nI_leI (b := 32635) (by omega) (by decide)).mp c1
      refine lv_iincW (v := (nI v)) (lv' := [(2, .int (nI v)), (0, .int 1), (1, .int x)]) hx hb dX6_codeOf_96 hl (k := 0) rfl (by rw [ev, Nat.min_eq_left g9]; exact nI_add y 132) (by decide) rfl (fun ls hl => ?_)
      refine lv_iconst (v := 0) hx hb dX6_codeOf_102 (by decide) ?_
      refine lv_istore_n (lv' := [(3, .int 0), (2, .int (nI v)), (0, .int 1), (1, .int x)]) hx hb dX6_codeOf_103 rfl hl (by decide) rfl (fun ls hl => ?_)
      refine cofM_loop (p0 := v) hx hb (by omega) (fun j hj g1 g2 ls hl => ?_) 8 0 rfl (by rw [Nat.pow_zero, Nat.div_one]; omega) ls (by rw [Nat.pow_zero, Nat.div_one]; exact hl)
      refine lv_sipush (v := 255) hx hb dX6_codeOf_121 (by decide) ?_
      refine lv_iload_n hx hb dX6_codeOf_124 rfl (lv_at hl 3 rfl) ?_
      refine lv_if_ge (tgt := 134) hx hb dX6_codeOf_125 (by decide) (fun cz => ?_) (fun cz => (cz c0 : False).elim)
      refine lv_iconst (v := 0) hx hb dX6_codeOf_134 (by decide) ?_
      refine lv_bipush (v := 16) hx hb dX6_codeOf_135 (by decide) ?_
      refine lv_iload_n hx hb dX6_codeOf_137 rfl (lv_at hl 0 rfl) ?_
      refine lv_imul hx hb dX6_codeOf_138 ?_
      refine cb_top (y := nI (16 * j)) (pk_mul 16 _) ?_
      refine lv_iadd hx hb dX6_codeOf_139 ?_
      refine cb_top (y := nI (0 + 16 * j)) (nI_add 0 _) ?_
      have g4 : v / 2 ^ j ≤ v := Nat.div_le_self _ _
      refine lv_iload_n hx hb dX6_codeOf_140 rfl (lv_at hl 1 rfl) ?_
      refine lv_bipush (v := 8) hx hb dX6_codeOf_141 (by decide) ?_
      refine lv_idiv hx hb dX6_codeOf_143 (by decide) ?_
      refine cb_top (y := nI (v / 2 ^ j / 8)) (pk_div (d := 8) (by omega) (by decide) (by decide)) ?_
      refine lv_bipush (v := 16) hx hb dX6_codeOf_144 (by decide) ?_
      refine lv_irem hx hb dX6_codeOf_146 (by decide) ?_
      refine cb_top (y := nI (v / 2 ^ j / 8 % 16)) (pk_rem (d := 16) (by omega) (by decide) (by decide)) ?_
      refine lv_iadd hx hb dX6_codeOf_147 ?_
      refine cb_top (y := nI (0 + 16 * j + v / 2 ^ j / 8 % 16)) (nI_add _ _) ?_
      refine lv_isub hx hb dX6_codeOf_148 ?_
      have g5 : j ≤ 7 := by rcases Nat.lt_or_ge j 8 with q | q; exact Nat.lt_succ_iff.mp q; have e8 : j = 8 := (by omega); subst e8; omega
      refine cb_top (y := nI (255 - (0 + 16 * j + v / 2 ^ j / 8 % 16))) (pk_sub (a := 255) (by omega)) ?_
      exact W.iret (v := (nI (255 - (0 + 16 * j + v / 2 ^ j / 8 % 16)))) hx hb hr (fun t ht hW => ⟨cb_r (by rw [hsp]; exact cb_modelM g2 g1), ht⟩) cb_nl dX6_codeOf_149
    · have g9 : 32635 < y := by rcases Nat.lt_or_ge 32635 y with q | q; exact q; exact absurd ((nI_leI (b := 32635) (by omega) (by decide)).mpr q) c1
      refine lv_sipush (v := 32635) hx hb dX6_codeOf_92 (by decide) ?_
      refine lv_istore_n (lv' := [(2, .int 32635), (0, .int 1), (1, .int x)]) hx hb dX6_codeOf_95 rfl hl (by decide) rfl (fun ls hl => ?_)
      refine lv_iincW (v := (nI v)) (lv' := [(2, .int (nI v)), (0, .int 1), (1, .int x)]) hx hb dX6_codeOf_96 hl (k := 0) rfl (by rw [ev, Nat.min_eq_right (by omega)]; rfl) (by decide) rfl (fun ls hl => ?_)
      refine lv_iconst (v := 0) hx hb dX6_codeOf_102 (by decide) ?_
      refine lv_istore_n (lv' := [(3, .int 0), (2, .int (nI v)), (0, .int 1), (1, .int x)]) hx hb dX6_codeOf_103 rfl hl (by decide) rfl (fun ls hl => ?_)
      refine cofM_loop (p0 := v) hx hb (by omega) (fun j hj g1 g2 ls hl => ?_) 8 0 rfl (by rw [Nat.pow_zero, Nat.div_one]; omega) ls (by rw [Nat.pow_zero, Nat.div_one]; exact hl)
      refine lv_sipush (v := 255) hx hb dX6_codeOf_121 (by decide) ?_
      refine lv_iload_n hx hb dX6_codeOf_124 rfl (lv_at hl 3 rfl) ?_
      refine lv_if_ge (tgt := 134) hx hb dX6_codeOf_125 (by decide) (fun cz => ?_) (fun cz => (cz c0 : False).elim)
      refine lv_iconst (v := 0) hx hb dX6_codeOf_134 (by decide) ?_
      refine lv_bipush (v := 16) hx hb dX6_codeOf_135 (by decide) ?_
      refine lv_iload_n hx hb dX6_codeOf_137 rfl (lv_at hl 0 rfl) ?_
      refine lv_imul hx hb dX6_codeOf_138 ?_
      refine cb_top (y := nI (16 * j)) (pk_mul 16 _) ?_
      refine lv_iadd hx hb dX6_codeOf_139 ?_
      refine cb_top (y := nI (0 + 16 * j)) (nI_add 0 _) ?_
      have g4 : v / 2 ^ j ≤ v := Nat.div_le_self _ _
      refine lv_iload_n hx hb dX6_codeOf_140 rfl (lv_at hl 1 rfl) ?_
      refine lv_bipush (v := 8) hx hb dX6_codeOf_141 (by decide) ?_
      refine lv_idiv hx hb dX6_codeOf_143 (by decide) ?_
      refine cb_top (y := nI (v / 2 ^ j / 8)) (pk_div (d := 8) (by omega) (by decide) (by decide)) ?_
      refine lv_bipush (v := 16) hx hb dX6_codeOf_144 (by decide) ?_
      refine lv_irem hx hb dX6_codeOf_146 (by decide) ?_
      refine cb_top (y := nI (v / 2 ^ j / 8 % 16)) (pk_rem (d := 16) (by omega) (by decide) (by decide)) ?_
      refine lv_iadd hx hb dX6_codeOf_147 ?_
      refine cb_top (y := nI (0 + 16 * j + v / 2 ^ j / 8 % 16)) (nI_add _ _) ?_
      refine lv_isub hx hb dX6_codeOf_148 ?_
      have g5 : j ≤ 7 := by rcases Nat.lt_or_ge j 8 with q | q; exact Nat.lt_succ_iff.mp q; have e8 : j = 8 := (by omega); subst e8; omega
      refine cb_top (y := nI (255 - (0 + 16 * j + v / 2 ^ j / 8 % 16))) (pk_sub (a := 255) (by omega)) ?_
      exact W.iret (v := (nI (255 - (0 + 16 * j + v / 2 ^ j / 8 % 16)))) hx hb hr (fun t ht hW => ⟨cb_r (by rw [hsp]; exact cb_modelM g2 g1), ht⟩) cb_nl dX6_codeOf_149
  · have hx0 : x.toInt < 0 := by rw [Int32.le_iff_toInt_le, Int32.toInt_zero] at c0; omega
    obtain ⟨y, hy, ey, en⟩ : ∃ y : Nat, y ≤ 32768 ∧ -x = nI y ∧ (-x.toInt).toNat = y := ⟨(-x.toInt).toNat, by omega, by rw [← Int32.toInt_inj, nI_toInt (by omega), Int32.toInt_neg, Int.bmod_eq_of_le (by omega) (by omega)]; omega, rfl⟩
    refine lv_iload_n hx hb dX6_codeOf_78 rfl (lv_at hl 1 rfl) ?_
    refine lv_ineg hx hb dX6_codeOf_79 ?_
    refine cb_top (y := nI y) (ey) ?_
    obtain ⟨v, ev⟩ : ∃ v : Nat, v = min y 32635 + 132 := ⟨_, rfl⟩
    have hsp : cb_enc 1 x = cb_encM 128 v := by unfold cb_enc; rw [if_neg (by decide), if_pos hx0, en, ← ev]
    refine lv_goto (tgt := 84) hx hb dX6_codeOf_80 (by decide) ?_
    refine lv_istore_n (lv' := [(2, .int (nI y)), (0, .int 1), (1, .int x)]) hx hb dX6_codeOf_84 rfl hl (by decide) rfl (fun ls hl => ?_)
    refine lv_iload_n hx hb dX6_codeOf_85 rfl (lv_at hl 0 rfl) ?_
    refine lv_sipush (v := 32635) hx hb dX6_codeOf_86 (by decide) ?_
    refine lv_icmp_le (tgt := 96) hx hb dX6_codeOf_89 (by decide) (fun c1 => ?_) (fun c1 => ?_)
    · have g9 : y ≤ 32635 := (nI_leI (b := 32635) (by omega) (by decide)).mp c1
      refine lv_iincW (v := (nI v)) (lv' := [(2, .int (nI v)), (0, .int 1), (1, .int x)]) hx hb dX6_codeOf_96 hl (k := 0) rfl (by rw [ev, Nat.min_eq_left g9]; exact nI_add y 132) (by decide) rfl (fun ls hl => ?_)
      refine lv_iconst (v := 0) hx hb dX6_codeOf_102 (by decide) ?_
      refine lv_istore_n (lv' := [(3, .int 0), (2, .int (nI v)), (0, .int 1), (1, .int x)]) hx hb dX6_codeOf_103 rfl hl (by decide) rfl (fun ls hl => ?_)
      refine cofM_loop (p0 := v) hx hb (by omega) (fun j hj g1 g2 ls hl => ?_) 8 0 rfl (by rw [Nat.pow_zero, Nat.div_one]; omega) ls (by rw [Nat.pow_zero, Nat.div_one]; exact hl)
      refine lv_sipush (v := 255) hx hb dX6_codeOf_121 (by decide) ?_
      refine lv_iload_n hx hb dX6_codeOf_124 rfl (lv_at hl 3 rfl) ?_
      refine lv_if_ge (tgt := 134) hx hb dX6_codeOf_125 (by decide) (fun cz => (c0 cz : False).elim) (fun cz => ?_)
      refine lv_sipush (v := 128) hx hb dX6_codeOf_128 (by decide) ?_
      refine lv_goto (tgt := 135) hx hb dX6_codeOf_131 (by decide) ?_
      refine lv_bipush (v := 16) hx hb dX6_codeOf_135 (by decide) ?_
      refine lv_iload_n hx hb dX6_codeOf_137 rfl (lv_at hl 0 rfl) ?_
      refine lv_imul hx hb dX6_codeOf_138 ?_
      refine cb_top (y := nI (16 * j)) (pk_mul 16 _) ?_
      refine lv_iadd hx hb dX6_codeOf_139 ?_
      refine cb_top (y := nI (128 + 16 * j)) (nI_add 128 _) ?_
      have g4 : v / 2 ^ j ≤ v := Nat.div_le_self _ _
      refine lv_iload_n hx hb dX6_codeOf_140 rfl (lv_at hl 1 rfl) ?_
      refine lv_bipush (v := 8) hx hb dX6_codeOf_141 (by decide) ?_
      refine lv_idiv hx hb dX6_codeOf_143 (by decide) ?_
      refine cb_top (y := nI (v / 2 ^ j / 8)) (pk_div (d := 8) (by omega) (by decide) (by decide)) ?_
      refine lv_bipush (v := 16) hx hb dX6_codeOf_144 (by decide) ?_
      refine lv_irem hx hb dX6_codeOf_146 (by decide) ?_
      refine cb_top (y := nI (v / 2 ^ j / 8 % 16)) (pk_rem (d := 16) (by omega) (by decide) (by decide)) ?_
      refine lv_iadd hx hb dX6_codeOf_147 ?_
      refine cb_top (y := nI (128 + 16 * j + v / 2 ^ j / 8 % 16)) (nI_add _ _) ?_
      refine lv_isub hx hb dX6_codeOf_148 ?_
      have g5 : j ≤ 7 := by rcases Nat.lt_or_ge j 8 with q | q; exact Nat.lt_succ_iff.mp q; have e8 : j = 8 := (by omega); subst e8; omega
      refine cb_top (y := nI (255 - (128 + 16 * j + v / 2 ^ j / 8 % 16))) (pk_sub (a := 255) (by omega)) ?_
      exact W.iret (v := (nI (255 - (128 + 16 * j + v / 2 ^ j / 8 % 16)))) hx hb hr (fun t ht hW => ⟨cb_r (by rw [hsp]; exact cb_modelM g2 g1), ht⟩) cb_nl dX6_codeOf_149
    · have g9 : 32635 < y := by rcases Nat.lt_or_ge 32635 y with q | q; exact q; exact absurd ((nI_leI (b := 32635) (by omega) (by decide)).mpr q) c1
      refine lv_sipush (v := 32635) hx hb dX6_codeOf_92 (by decide) ?_
      refine lv_istore_n (lv' := [(2, .int 32635), (0, .int 1), (1, .int x)]) hx hb dX6_codeOf_95 rfl hl (by decide) rfl (fun ls hl => ?_)
      refine lv_iincW (v := (nI v)) (lv' := [(2, .int (nI v)), (0, .int 1), (1, .int x)]) hx hb dX6_codeOf_96 hl (k := 0) rfl (by rw [ev, Nat.min_eq_right (by omega)]; rfl) (by decide) rfl (fun ls hl => ?_)
      refine lv_iconst (v := 0) hx hb dX6_codeOf_102 (by decide) ?_
      refine lv_istore_n (lv' := [(3, .int 0), (2, .int (nI v)), (0, .int 1), (1, .int x)]) hx hb dX6_codeOf_103 rfl hl (by decide) rfl (fun ls hl => ?_)
      refine cofM_loop (p0 := v) hx hb (by omega) (fun j hj g1 g2 ls hl => ?_) 8 0 rfl (by rw [Nat.pow_zero, Nat.div_one]; omega) ls (by rw [Nat.pow_zero, Nat.div_one]; exact hl)
      refine lv_sipush (v := 255) hx hb dX6_codeOf_121 (by decide) ?_
      refine lv_iload_n hx hb dX6_codeOf_124 rfl (lv_at hl 3 rfl) ?_
      refine lv_if_ge (tgt := 134) hx hb dX6_codeOf_125 (by decide) (fun cz => (c0 cz : False).elim) (fun cz => ?_)
      refine lv_sipush (v := 128) hx hb dX6_codeOf_128 (by decide) ?_
      refine lv_goto (tgt := 135) hx hb dX6_codeOf_131 (by decide) ?_
      refine lv_bipush (v := 16) hx hb dX6_codeOf_135 (by decide) ?_
      refine lv_iload_n hx hb dX6_codeOf_137 rfl (lv_at hl 0 rfl) ?_
      refine lv_imul hx hb dX6_codeOf_138 ?_
      refine cb_top (y := nI (16 * j)) (pk_mul 16 _) ?_
      refine lv_iadd hx hb dX6_codeOf_139 ?_
      refine cb_top (y := nI (128 + 16 * j)) (nI_add 128 _) ?_
      have g4 : v / 2 ^ j ≤ v := Nat.div_le_self _ _
      refine lv_iload_n hx hb dX6_codeOf_140 rfl (lv_at hl 1 rfl) ?_
      refine lv_bipush (v := 8) hx hb dX6_codeOf_141 (by decide) ?_
      refine lv_idiv hx hb dX6_codeOf_143 (by decide) ?_
      refine cb_top (y := nI (v / 2 ^ j / 8)) (pk_div (d := 8) (by omega) (by decide) (by decide)) ?_
      refine lv_bipush (v := 16) hx hb dX6_codeOf_144 (by decide) ?_
      refine lv_irem hx hb dX6_codeOf_146 (by decide) ?_
      refine cb_top (y := nI (v / 2 ^ j / 8 % 16)) (pk_rem (d := 16) (by omega) (by decide) (by decide)) ?_
      refine lv_iadd hx hb dX6_codeOf_147 ?_
      refine cb_top (y := nI (128 + 16 * j + v / 2 ^ j / 8 % 16)) (nI_add _ _) ?_
      refine lv_isub hx hb dX6_codeOf_148 ?_
      have g5 : j ≤ 7 := by rcases Nat.lt_or_ge j 8 with q | q; exact Nat.lt_succ_iff.mp q; have e8 : j = 8 := (by omega); subst e8; omega
      refine cb_top (y := nI (255 - (128 + 16 * j + v / 2 ^ j / 8 % 16))) (pk_sub (a := 255) (by omega)) ?_
      exact W.iret (v := (nI (255 - (128 + 16 * j + v / 2 ^ j / 8 % 16)))) hx hb hr (fun t ht hW => ⟨cb_r (by rw [hsp]; exact cb_modelM g2 g1), ht⟩) cb_nl dX6_codeOf_149
set_option maxHeartbeats 4000000 in
theorem men0_loop {p : Program} {l : Launch} {e : Env} {R : Room} {s : State} {m : MethodId} {args : Array Value} {below : List Frame} {meth : Method} {c : Code} {Q : State → Prop} {H : Heap} {locs : List Loc} {cells slots : Nat} (hx : p.tables.exec = Jvm.exec) (hb : c.code = cX6_meaning) {x1 x2 x4 : Int32} {z0 s0 : Nat} (hs0 : s0 < 8) (K : ∀ k : Nat, k = max s0 1 → ∀ ls : Array Slot, lv_has ls 7 [(6, .int (nI k)), (5, .int (nI (z0 * 2 ^ (k - 1)))), (4, .int x4), (3, .int (nI s0)), (2, .int x2), (0, .int 0), (1, .int x1)] → W p l e R s m args below meth c H locs cells slots Q (F0 m 85 ls [])) : ∀ (n k : Nat), 1 ≤ k → k ≤ max s0 1 → k + n = 9 → ∀ ls : Array Slot, lv_has ls 7 [(6, .int (nI k)), (5, .int (nI (z0 * 2 ^ (k - 1)))), (4, .int x4), (3, .int (nI s0)), (2, .int x2), (0, .int 0), (1, .int x1)] → W p l e R s m args below meth c H locs cells slots Q (F0 m 63 ls []) := by
  intro n
  induction n with
  | zero =>
    intro k h1 h2 h3
    omega
  | succ n ih =>
    intro k h1 h2 h3 ls hl
    refine lv_iload hx hb dX6_meaning_63 (lv_at hl 0 rfl) ?_
    refine lv_iload_n hx hb dX6_meaning_65 rfl (lv_at hl 3 rfl) ?_
    refine lv_icmp_ge (tgt := 85) hx hb dX6_meaning_66 (by decide) (fun c0 => ?_) (fun c0 => ?_)
    · exact K k (by have := (nI_leI (a := s0) (b := k) (by omega) (by omega)).mp c0; omega) ls hl
    · have g0 : k < s0 := by rcases Nat.lt_or_ge k s0 with q | q; exact q; exact absurd ((nI_leI (a := s0) (b := k) (by omega) (by omega)).mpr q) c0
      refine lv_iload_n hx hb dX6_meaning_69 rfl (lv_at hl 5 rfl) ?_
      refine lv_if_ne (tgt := 85) hx hb dX6_meaning_70 (by decide) (fun cz => (cz rfl : False).elim) (fun cz => ?_)
      refine lv_iconst (v := 2) hx hb dX6_meaning_73 (by decide) ?_
      refine lv_iload hx hb dX6_meaning_74 (lv_at hl 1 rfl) ?_
      refine lv_imul hx hb dX6_meaning_76 ?_
      refine cb_top (y := nI (z0 * 2 ^ (k + 1 - 1))) (by rw [show k + 1 - 1 = (k - 1) + 1 by omega, Nat.pow_succ, ← Nat.mul_assoc, Nat.mul_comm _ 2]; exact pk_mul 2 _) ?_
      refine lv_istore (lv' := [(5, .int (nI (z0 * 2 ^ (k + 1 - 1)))), (6, .int (nI k)), (4, .int x4), (3, .int (nI s0)), (2, .int x2), (0, .int 0), (1, .int x1)]) hx hb dX6_meaning_77 hl (by decide) rfl (fun ls hl => ?_)
      refine lv_iinc (v := (nI (k + 1))) (lv' := [(6, .int (nI (k + 1))), (5, .int (nI (z0 * 2 ^ (k + 1 - 1)))), (4, .int x4), (3, .int (nI s0)), (2, .int x2), (0, .int 0), (1, .int x1)]) hx hb dX6_meaning_79 hl (k := 1) rfl (nI_1 k) (by decide) rfl (fun ls hl => ?_)
      refine lv_goto (tgt := 63) hx hb dX6_meaning_82 (by decide) ?_
      exact ih (k + 1) (by omega) (by omega) (by omega) ls hl
set_option maxHeartbeats 4000000 in
theorem men1_loop {p : Program} {l : Launch} {e : Env} {R : Room} {s : State} {m : MethodId} {args : Array Value} {below : List Frame} {meth : Method} {c : Code} {Q : State → Prop} {H : Heap} {locs : List Loc} {cells slots : Nat} (hx : p.tables.exec = Jvm.exec) (hb : c.code = cX6_meaning) {x1 x2 x4 : Int32} {z0 s0 : Nat} (hs0 : s0 < 8) (K : ∀ ls : Array Slot, lv_has ls 7 [(6, .int (nI s0)), (5, .int (nI (z0 * 2 ^ s0))), (4, .int x4), (3, .int (nI s0)), (2, .int x2), (0, .int 1), (1, .int x1)] → W p l e R s m args below meth c H locs cells slots Q (F0 m 122 ls [])) : ∀ (n k : Nat), k + n = s0 → ∀ ls : Array Slot, lv_has ls 7 [(6, .int (nI k)), (5, .int (nI (z0 * 2 ^ k))), (4, .int x4), (3, .int (nI s0)), (2, .int x2), (0, .int 1), (1, .int x1)] → W p l e R s m args below meth c H locs cells slots Q (F0 m 104 ls []) := by
  intro n
  induction n with
  | zero =>
    intro k h3 ls hl
    have ek : k = s0 := by omega
    subst ek
    refine lv_iload hx hb dX6_meaning_104 (lv_at hl 0 rfl) ?_
    refine lv_iload_n hx hb dX6_meaning_106 rfl (lv_at hl 3 rfl) ?_
    refine lv_icmp_ge (tgt := 122) hx hb dX6_meaning_107 (by decide) (fun cz => ?_) (fun cz => (cz (nI_le (Nat.le_refl k) (by omega)) : False).elim)
    exact K ls hl
  | succ n ih =>
    intro k h3 ls hl
    refine lv_iload hx hb dX6_meaning_104 (lv_at hl 0 rfl) ?_
    refine lv_iload_n hx hb dX6_meaning_106 rfl (lv_at hl 3 rfl) ?_
    refine lv_icmp_ge (tgt := 122) hx hb dX6_meaning_107 (by decide) (fun cz => (nI_ge (a := k) (b := s0) (by omega) (by omega) cz : False).elim) (fun cz => ?_)
    refine lv_iconst (v := 2) hx hb dX6_meaning_110 (by decide) ?_
    refine lv_iload hx hb dX6_meaning_111 (lv_at hl 1 rfl) ?_
    refine lv_imul hx hb dX6_meaning_113 ?_
    refine cb_top (y := nI (z0 * 2 ^ (k + 1))) (by rw [Nat.pow_succ, ← Nat.mul_assoc, Nat.mul_comm _ 2]; exact pk_mul 2 _) ?_
    refine lv_istore (lv' := [(5, .int (nI (z0 * 2 ^ (k + 1)))), (6, .int (nI k)), (4, .int x4), (3, .int (nI s0)), (2, .int x2), (0, .int 1), (1, .int x1)]) hx hb dX6_meaning_114 hl (by decide) rfl (fun ls hl => ?_)
    refine lv_iinc (v := (nI (k + 1))) (lv' := [(6, .int (nI (k + 1))), (5, .int (nI (z0 * 2 ^ (k + 1)))), (4, .int x4), (3, .int (nI s0)), (2, .int x2), (0, .int 1), (1, .int x1)]) hx hb dX6_meaning_116 hl (k := 1) rfl (nI_1 k) (by decide) rfl (fun ls hl => ?_)
    refine lv_goto (tgt := 104) hx hb dX6_meaning_119 (by decide) ?_
    exact ih (k + 1) (by omega) ls hl
set_option maxHeartbeats 4000000 in
set_option maxRecDepth 100000 in
theorem met_mean0 (l : Launch) (n : Nat) (hn : n < 256) : Met l yX6_meaning (ws_ yX6_meaning cX6_meaning 7 (some .int)) ({ frames := 0, cells := 0, slots := 0, locals := 0 } : Room) (cb_Pp [.int 0, .int (nI n)]) (cb_Qp (some (.int (cb_dec 0 n)))) 0 0 cb_no := by
  refine Met.ofW (cc := cX6_meaning) (maxL := 7) (ret := (some .int)) (by decide) rfl ?_
  intro p e s m args below meth c s₁ B hml hv
  obtain ⟨rfl, -⟩ := hv
  have hx := B.exec
  have hb := B.bytes
  have hr := B.returns
  have hts := atoms_spec (ws := (ws_ yX6_meaning cX6_meaning 7 (some .int))) B.pre
  have hts : ∀ w ∈ lw_all, w.before _ s = true := fun w h => hts w (List.mem_cons_of_mem _ h)
  have hown : s.vm.findClass RX6 = some m.cls := findClass_of_methodNamed B.named
  have hlocks := B.notSynchronized
  have hl := lv_entry ([.int 0, .int (nI n)]) (n := 7) (Nat.le_of_ble_eq_true rfl)
  rw [lg_entry_eq]
  generalize (lg_sl ([.int 0, .int (nI n)]) ++ List.replicate (7 - (lg_sl ([.int 0, .int (nI n)])).length) Slot.unset).toArray = ls at hl ⊢
  have hl : lv_has ls 7 [(0, .int 0), (1, .int (nI n))] := hl
  obtain ⟨c1, ec⟩ : ∃ c1 : Nat, c1 = (n ^^^ 85) := ⟨_, rfl⟩
  have hc : c1 < 256 := by rw [ec]; exact Nat.xor_lt_two_pow (n := 8) hn (by decide)
  refine lv_iload_n hx hb dX6_meaning_0 rfl (lv_at hl 0 rfl) ?_
  refine lv_if_ne (tgt := 11) hx hb dX6_meaning_1 (by decide) (fun cz => (cz rfl : False).elim) (fun cz => ?_)
  refine lv_iload_n hx hb dX6_meaning_4 rfl (lv_at hl 1 rfl) ?_
  refine lv_bipush (v := 85) hx hb dX6_meaning_5 (by decide) ?_
  refine lv_ixor hx hb dX6_meaning_7 ?_
  refine cb_top (y := nI c1) (by rw [ec]; exact cb_xor _ 85) ?_
  refine lv_goto (tgt := 16) hx hb dX6_meaning_8 (by decide) ?_
  refine lv_istore_n (lv' := [(2, .int (nI c1)), (0, .int 0), (1, .int (nI n))]) hx hb dX6_meaning_16 rfl hl (by decide) rfl (fun ls hl => ?_)
  refine lv_iload_n hx hb dX6_meaning_17 rfl (lv_at hl 0 rfl) ?_
  refine lv_bipush (v := 16) hx hb dX6_meaning_18 (by decide) ?_
  refine lv_idiv hx hb dX6_meaning_20 (by decide) ?_
  refine cb_top (y := nI (c1 / 16)) (pk_div (d := 16) (by omega) (by decide) (by decide)) ?_
  refine lv_bipush (v := 8) hx hb dX6_meaning_21 (by decide) ?_
  refine lv_irem hx hb dX6_meaning_23 (by decide) ?_
  refine cb_top (y := nI (c1 / 16 % 8)) (pk_rem (d := 8) (by omega) (by decide) (by decide)) ?_
  obtain ⟨s0, es⟩ : ∃ s0 : Nat, s0 = c1 / 16 % 8 := ⟨_, rfl⟩
  rw [← es]
  refine lv_istore_n (lv' := [(3, .int (nI s0)), (2, .int (nI c1)), (0, .int 0), (1, .int (nI n))]) hx hb dX6_meaning_24 rfl hl (by decide) rfl (fun ls hl => ?_)
  refine lv_iload_n hx hb dX6_meaning_25 rfl (lv_at hl 1 rfl) ?_
  refine lv_bipush (v := 16) hx hb dX6_meaning_26 (by decide) ?_
  refine lv_irem hx hb dX6_meaning_28 (by decide) ?_
  refine cb_top (y := nI (c1 % 16)) (pk_rem (d := 16) (by omega) (by decide) (by decide)) ?_
  obtain ⟨m0, em⟩ : ∃ m0 : Nat, m0 = c1 % 16 := ⟨_, rfl⟩
  rw [← em]
  refine lv_istore (lv' := [(4, .int (nI m0)), (3, .int (nI s0)), (2, .int (nI c1)), (0, .int 0), (1, .int (nI n))]) hx hb dX6_meaning_29 hl (by decide) rfl (fun ls hl => ?_)
  refine lv_bipush (v := 16) hx hb dX6_meaning_31 (by decide) ?_
  refine lv_iload hx hb dX6_meaning_33 (lv_at hl 0 rfl) ?_
  refine lv_imul hx hb dX6_meaning_35 ?_
  refine cb_top (y := nI (16 * m0)) (pk_mul 16 _) ?_
  refine lv_bipush (v := 8) hx hb dX6_meaning_36 (by decide) ?_
  refine lv_iadd hx hb dX6_meaning_38 ?_
  refine cb_top (y := nI (16 * m0 + 8)) (nI_add _ 8) ?_
  refine lv_istore (lv' := [(5, .int (nI (16 * m0 + 8))), (4, .int (nI m0)), (3, .int (nI s0)), (2, .int (nI c1)), (0, .int 0), (1, .int (nI n))]) hx hb dX6_meaning_39 hl (by decide) rfl (fun ls hl => ?_)
  refine lv_iload_n hx hb dX6_meaning_41 rfl (lv_at hl 4 rfl) ?_
  refine lv_if_ne (tgt := 60) hx hb dX6_meaning_42 (by decide) (fun cz => (cz rfl : False).elim) (fun cz => ?_)
  refine lv_iload_n hx hb dX6_meaning_45 rfl (lv_at hl 2 rfl) ?_
  refine lv_if_le (tgt := 60) hx hb dX6_meaning_46 (by decide) (fun c0 => ?_) (fun c0 => ?_)
  · have gs : s0 = 0 := by rcases Nat.eq_zero_or_pos s0 with q | q; exact q; exact absurd c0 (nI_nle q (by omega))
    refine lv_iconst (v := 1) hx hb dX6_meaning_60 (by decide) ?_
    refine lv_istore (lv' := [(6, .int 1), (5, .int (nI (16 * m0 + 8))), (4, .int (nI m0)), (3, .int (nI s0)), (2, .int (nI c1)), (0, .int 0), (1, .int (nI n))]) hx hb dX6_meaning_61 hl (by decide) rfl (fun ls hl => ?_)
    refine men0_loop (z0 := (16 * m0 + 8)) (s0 := s0) hx hb (by omega) (fun k ek ls hl => ?_) 8 1 (by omega) (by omega) rfl ls (by rw [Nat.sub_self, Nat.pow_zero, Nat.mul_one]; exact lv_sub hl [0, 1, 2, 3, 4, 5, 6] rfl)
    refine lv_iload_n hx hb dX6_meaning_85 rfl (lv_at hl 5 rfl) ?_
    refine lv_iconst (v := 1) hx hb dX6_meaning_86 (by decide) ?_
    refine lv_icmp_ne (tgt := 128) hx hb dX6_meaning_87 (by decide) (fun cz => ?_) (fun cz => (absurd cz (by decide) : False).elim)
    refine lv_iload_n hx hb dX6_meaning_128 rfl (lv_at hl 5 rfl) ?_
    refine lv_if_ne (tgt := 147) hx hb dX6_meaning_129 (by decide) (fun cz => (cz rfl : False).elim) (fun cz => ?_)
    refine lv_iload_n hx hb dX6_meaning_132 rfl (lv_at hl 4 rfl) ?_
    refine lv_sipush (v := 128) hx hb dX6_meaning_133 (by decide) ?_
    refine lv_icmp_ge (tgt := 143) hx hb dX6_meaning_136 (by decide) (fun cb => ?_) (fun cb => ?_)
    · have gb : ¬ c1 < 128 := by have := (nI_leI (a := 128) (by decide) (by omega)).mp cb; omega
      refine lv_iconst (v := 0) hx hb dX6_meaning_143 (by decide) ?_
      refine lv_goto (tgt := 158) hx hb dX6_meaning_144 (by decide) ?_
      refine lv_istore (lv' := [(6, .int 0), (5, .int (nI ((16 * m0 + 8) * 2 ^ (k - 1)))), (4, .int (nI m0)), (3, .int (nI s0)), (2, .int (nI c1)), (0, .int 0), (1, .int (nI n))]) hx hb dX6_meaning_158 hl (by decide) rfl (fun ls hl => ?_)
      refine lv_iload hx hb dX6_meaning_160 (lv_at hl 0 rfl) ?_
      refine lv_if_eq (tgt := 171) hx hb dX6_meaning_162 (by decide) (fun cz => ?_) (fun cz => (cz rfl : False).elim)
      refine lv_iload hx hb dX6_meaning_171 (lv_at hl 1 rfl) ?_
      exact W.iret (v := (nI ((16 * m0 + 8) * 2 ^ (k - 1)))) hx hb hr (fun t ht hW => ⟨cb_r (by unfold cb_dec; rw [if_pos rfl]; dsimp only; rw [← ec, ← es, ← em, if_pos gs, if_neg gb, ek, gs, show max 0 1 - 1 = 0 from rfl, Nat.pow_zero, Nat.mul_one]), ht⟩) cb_nl dX6_meaning_173
    · have gb : c1 < 128 := by rcases Nat.lt_or_ge c1 128 with q | q; exact q; exact absurd ((nI_leI (a := 128) (by decide) (by omega)).mpr q) cb
      refine lv_iconst (v := 1) hx hb dX6_meaning_139 (by decide) ?_
      refine lv_goto (tgt := 158) hx hb dX6_meaning_140 (by decide) ?_
      refine lv_istore (lv' := [(6, .int 1), (5, .int (nI ((16 * m0 + 8) * 2 ^ (k - 1)))), (4, .int (nI m0)), (3, .int (nI s0)), (2, .int (nI c1)), (0, .int 0), (1, .int (nI n))]) hx hb dX6_meaning_158 hl (by decide) rfl (fun ls hl => ?_)
      refine lv_iload hx hb dX6_meaning_160 (lv_at hl 0 rfl) ?_
      refine lv_if_eq (tgt := 171) hx hb dX6_meaning_162 (by decide) (fun cz => (absurd cz (by decide) : False).elim) (fun cz => ?_)
      refine lv_iload hx hb dX6_meaning_165 (lv_at hl 1 rfl) ?_
      refine lv_ineg hx hb dX6_meaning_167 ?_
      refine lv_goto (tgt := 173) hx hb dX6_meaning_168 (by decide) ?_
      exact W.iret (v := (-(nI ((16 * m0 + 8) * 2 ^ (k - 1))))) hx hb hr (fun t ht hW => ⟨cb_r (by unfold cb_dec; rw [if_pos rfl]; dsimp only; rw [← ec, ← es, ← em, if_pos gs, if_pos gb, ek, gs, show max 0 1 - 1 = 0 from rfl, Nat.pow_zero, Nat.mul_one]), ht⟩) cb_nl dX6_meaning_173
  · have gs : 0 < s0 := by rcases Nat.eq_zero_or_pos s0 with q | q; subst q; exact absurd (by decide) c0; exact q
    refine lv_bipush (v := 16) hx hb dX6_meaning_49 (by decide) ?_
    refine lv_iload hx hb dX6_meaning_51 (lv_at hl 1 rfl) ?_
    refine lv_imul hx hb dX6_meaning_53 ?_
    refine cb_top (y := nI (16 * m0)) (pk_mul 16 _) ?_
    refine lv_sipush (v := 264) hx hb dX6_meaning_54 (by decide) ?_
    refine lv_iadd hx hb dX6_meaning_57 ?_
    refine cb_top (y := nI (16 * m0 + 264)) (nI_add _ 264) ?_
    refine lv_istore (lv' := [(5, .int (nI (16 * m0 + 264))), (4, .int (nI m0)), (3, .int (nI s0)), (2, .int (nI c1)), (0, .int 0), (1, .int (nI n))]) hx hb dX6_meaning_58 hl (by decide) rfl (fun ls hl => ?_)
    refine lv_iconst (v := 1) hx hb dX6_meaning_60 (by decide) ?_
    refine lv_istore (lv' := [(6, .int 1), (5, .int (nI (16 * m0 + 264))), (4, .int (nI m0)), (3, .int (nI s0)), (2, .int (nI c1)), (0, .int 0), (1, .int (nI n))]) hx hb dX6_meaning_61 hl (by decide) rfl (fun ls hl => ?_)
    refine men0_loop (z0 := (16 * m0 + 264)) (s0 := s0) hx hb (by omega) (fun k ek ls hl => ?_) 8 1 (by omega) (by omega) rfl ls (by rw [Nat.sub_self, Nat.pow_zero, Nat.mul_one]; exact lv_sub hl [0, 1, 2, 3, 4, 5, 6] rfl)
    refine lv_iload_n hx hb dX6_meaning_85 rfl (lv_at hl 5 rfl) ?_
    refine lv_iconst (v := 1) hx hb dX6_meaning_86 (by decide) ?_
    refine lv_icmp_ne (tgt := 128) hx hb dX6_meaning_87 (by decide) (fun cz => ?_) (fun cz => (absurd cz (by decide) : False).elim)
    refine lv_iload_n hx hb dX6_meaning_128 rfl (lv_at hl 5 rfl) ?_
    refine lv_if_ne (tgt := 147) hx hb dX6_meaning_129 (by decide) (fun cz => (cz rfl : False).elim) (fun cz => ?_)
    refine lv_iload_n hx hb dX6_meaning_132 rfl (lv_at hl 4 rfl) ?_
    refine lv_sipush (v := 128) hx hb dX6_meaning_133 (by decide) ?_
    refine lv_icmp_ge (tgt := 143) hx hb dX6_meaning_136 (by decide) (fun cb => ?_) (fun cb => ?_)
    · have gb : ¬ c1 < 128 := by have := (nI_leI (a := 128) (by decide) (by omega)).mp cb; omega
      refine lv_iconst (v := 0) hx hb dX6_meaning_143 (by decide) ?_
      refine lv_goto (tgt := 158) hx hb dX6_meaning_144 (by decide) ?_
      refine lv_istore (lv' := [(6, .int 0), (5, .int (nI ((16 * m0 + 264) * 2 ^ (k - 1)))), (4, .int (nI m0)), (3, .int (nI s0)), (2, .int (nI c1)), (0, .int 0), (1, .int (nI n))]) hx hb dX6_meaning_158 hl (by decide) rfl (fun ls hl => ?_)
      refine lv_iload hx hb dX6_meaning_160 (lv_at hl 0 rfl) ?_
      refine lv_if_eq (tgt := 171) hx hb dX6_meaning_162 (by decide) (fun cz => ?_) (fun cz => (cz rfl : False).elim)
      refine lv_iload hx hb dX6_meaning_171 (lv_at hl 1 rfl) ?_
      exact W.iret (v := (nI ((16 * m0 + 264) * 2 ^ (k - 1)))) hx hb hr (fun t ht hW => ⟨cb_r (by unfold cb_dec; rw [if_pos rfl]; dsimp only; rw [← ec, ← es, ← em, if_neg (show ¬ s0 = 0 by omega), if_neg gb, ek, Nat.max_eq_left gs]), ht⟩) cb_nl dX6_meaning_173
    · have gb : c1 < 128 := by rcases Nat.lt_or_ge c1 128 with q | q; exact q; exact absurd ((nI_leI (a := 128) (by decide) (by omega)).mpr q) cb
      refine lv_iconst (v := 1) hx hb dX6_meaning_139 (by decide) ?_
      refine lv_goto (tgt := 158) hx hb dX6_meaning_140 (by decide) ?_
      refine lv_istore (lv' := [(6, .int 1), (5, .int (nI ((16 * m0 + 264) * 2 ^ (k - 1)))), (4, .int (nI m0)), (3, .int (nI s0)), (2, .int (nI c1)), (0, .int 0), (1, .int (nI n))]) hx hb dX6_meaning_158 hl (by decide) rfl (fun ls hl => ?_)
      refine lv_iload hx hb dX6_meaning_160 (lv_at hl 0 rfl) ?_
      refine lv_if_eq (tgt := 171) hx hb dX6_meaning_162 (by decide) (fun cz => (absurd cz (by decide) : False).elim) (fun cz => ?_)
      refine lv_iload hx hb dX6_meaning_165 (lv_at hl 1 rfl) ?_
      refine lv_ineg hx hb dX6_meaning_167 ?_
      refine lv_goto (tgt := 173) hx hb dX6_meaning_168 (by decide) ?_
      exact W.iret (v := (-(nI ((16 * m0 + 264) * 2 ^ (k - 1))))) hx hb hr (fun t ht hW => ⟨cb_r (by unfold cb_dec; rw [if_pos rfl]; dsimp only; rw [← ec, ← es, ← em, if_neg (show ¬ s0 = 0 by omega), if_pos gb, ek, Nat.max_eq_left gs]), ht⟩) cb_nl dX6_meaning_173
set_option maxHeartbeats 4000000 in
set_option maxRecDepth 100000 in
theorem met_mean1 (l : Launch) (n : Nat) (hn : n < 256) : Met l yX6_meaning (ws_ yX6_meaning cX6_meaning 7 (some .int)) ({ frames := 0, cells := 0, slots := 0, locals := 0 } : Room) (cb_Pp [.int 1, .int (nI n)]) (cb_Qp (some (.int (cb_dec 1 n)))) 0 0 cb_no := by
  refine Met.ofW (cc := cX6_meaning) (maxL := 7) (ret := (some .int)) (by decide) rfl ?_
  intro p e s m args below meth c s₁ B hml hv
  obtain ⟨rfl, -⟩ := hv
  have hx := B.exec
  have hb := B.bytes
  have hr := B.returns
  have hts := atoms_spec (ws := (ws_ yX6_meaning cX6_meaning 7 (some .int))) B.pre
  have hts : ∀ w ∈ lw_all, w.before _ s = true := fun w h => hts w (List.mem_cons_of_mem _ h)
  have hown : s.vm.findClass RX6 = some m.cls := findClass_of_methodNamed B.named
  have hlocks := B.notSynchronized
  have hl := lv_entry ([.int 1, .int (nI n)]) (n := 7) (Nat.le_of_ble_eq_true rfl)
  rw [lg_entry_eq]
  generalize (lg_sl ([.int 1, .int (nI n)]) ++ List.replicate (7 - (lg_sl ([.int 1, .int (nI n)])).length) Slot.unset).toArray = ls at hl ⊢
  have hl : lv_has ls 7 [(0, .int 1), (1, .int (nI n))] := hl
  obtain ⟨c1, ec⟩ : ∃ c1 : Nat, c1 = (255 - n) := ⟨_, rfl⟩
  have hc : c1 < 256 := by rw [ec]; omega
  refine lv_iload_n hx hb dX6_meaning_0 rfl (lv_at hl 0 rfl) ?_
  refine lv_if_ne (tgt := 11) hx hb dX6_meaning_1 (by decide) (fun cz => ?_) (fun cz => (absurd cz (by decide) : False).elim)
  refine lv_sipush (v := 255) hx hb dX6_meaning_11 (by decide) ?_
  refine lv_iload_n hx hb dX6_meaning_14 rfl (lv_at hl 1 rfl) ?_
  refine lv_isub hx hb dX6_meaning_15 ?_
  refine cb_top (y := nI c1) (by rw [ec]; exact pk_sub (a := 255) (by omega)) ?_
  refine lv_istore_n (lv' := [(2, .int (nI c1)), (0, .int 1), (1, .int (nI n))]) hx hb dX6_meaning_16 rfl hl (by decide) rfl (fun ls hl => ?_)
  refine lv_iload_n hx hb dX6_meaning_17 rfl (lv_at hl 0 rfl) ?_
  refine lv_bipush (v := 16) hx hb dX6_meaning_18 (by decide) ?_
  refine lv_idiv hx hb dX6_meaning_20 (by decide) ?_
  refine cb_top (y := nI (c1 / 16)) (pk_div (d := 16) (by omega) (by decide) (by decide)) ?_
  refine lv_bipush (v := 8) hx hb dX6_meaning_21 (by decide) ?_
  refine lv_irem hx hb dX6_meaning_23 (by decide) ?_
  refine cb_top (y := nI (c1 / 16 % 8)) (pk_rem (d := 8) (by omega) (by decide) (by decide)) ?_
  obtain ⟨s0, es⟩ : ∃ s0 : Nat, s0 = c1 / 16 % 8 := ⟨_, rfl⟩
  rw [← es]
  refine lv_istore_n (lv' := [(3, .int (nI s0)), (2, .int (nI c1)), (0, .int 1), (1, .int (nI n))]) hx hb dX6_meaning_24 rfl hl (by decide) rfl (fun ls hl => ?_)
  refine lv_iload_n hx hb dX6_meaning_25 rfl (lv_at hl 1 rfl) ?_
  refine lv_bipush (v := 16) hx hb dX6_meaning_26 (by decide) ?_
  refine lv_irem hx hb dX6_meaning_28 (by decide) ?_
  refine cb_top (y := nI (c1 % 16)) (pk_rem (d := 16) (by omega) (by decide) (by decide)) ?_
  obtain ⟨m0, em⟩ : ∃ m0 : Nat, m0 = c1 % 16 := ⟨_, rfl⟩
  rw [← em]
  refine lv_istore (lv' := [(4, .int (nI m0)), (3, .int (nI s0)), (2, .int (nI c1)), (0, .int 1), (1, .int (nI n))]) hx hb dX6_meaning_29 hl (by decide) rfl (fun ls hl => ?_)
  refine lv_bipush (v := 16) hx hb dX6_meaning_31 (by decide) ?_
  refine lv_iload hx hb dX6_meaning_33 (lv_at hl 0 rfl) ?_
  refine lv_imul hx hb dX6_meaning_35 ?_
  refine cb_top (y := nI (16 * m0)) (pk_mul 16 _) ?_
  refine lv_bipush (v := 8) hx hb dX6_meaning_36 (by decide) ?_
  refine lv_iadd hx hb dX6_meaning_38 ?_
  refine cb_top (y := nI (16 * m0 + 8)) (nI_add _ 8) ?_
  refine lv_istore (lv' := [(5, .int (nI (16 * m0 + 8))), (4, .int (nI m0)), (3, .int (nI s0)), (2, .int (nI c1)), (0, .int 1), (1, .int (nI n))]) hx hb dX6_meaning_39 hl (by decide) rfl (fun ls hl => ?_)
  refine lv_iload_n hx hb dX6_meaning_41 rfl (lv_at hl 4 rfl) ?_
  refine lv_if_ne (tgt := 60) hx hb dX6_meaning_42 (by decide) (fun cz => ?_) (fun cz => (absurd cz (by decide) : False).elim)
  refine lv_iconst (v := 1) hx hb dX6_meaning_60 (by decide) ?_
  refine lv_istore (lv' := [(6, .int 1), (5, .int (nI (16 * m0 + 8))), (4, .int (nI m0)), (3, .int (nI s0)), (2, .int (nI c1)), (0, .int 1), (1, .int (nI n))]) hx hb dX6_meaning_61 hl (by decide) rfl (fun ls hl => ?_)
  refine lv_iload hx hb dX6_meaning_63 (lv_at hl 0 rfl) ?_
  refine lv_iload_n hx hb dX6_meaning_65 rfl (lv_at hl 3 rfl) ?_
  refine lv_icmp_ge (tgt := 85) hx hb dX6_meaning_66 (by decide) (fun c0 => ?_) (fun c0 => ?_)
  · refine lv_iload_n hx hb dX6_meaning_85 rfl (lv_at hl 5 rfl) ?_
    refine lv_iconst (v := 1) hx hb dX6_meaning_86 (by decide) ?_
    refine lv_icmp_ne (tgt := 128) hx hb dX6_meaning_87 (by decide) (fun cz => (cz rfl : False).elim) (fun cz => ?_)
    refine lv_bipush (v := 8) hx hb dX6_meaning_90 (by decide) ?_
    refine lv_iload hx hb dX6_meaning_92 (lv_at hl 2 rfl) ?_
    refine lv_imul hx hb dX6_meaning_94 ?_
    refine cb_top (y := nI (8 * m0)) (pk_mul 8 _) ?_
    refine lv_sipush (v := 132) hx hb dX6_meaning_95 (by decide) ?_
    refine lv_iadd hx hb dX6_meaning_98 ?_
    refine cb_top (y := nI (8 * m0 + 132)) (nI_add _ 132) ?_
    refine lv_istore (lv' := [(5, .int (nI (8 * m0 + 132))), (6, .int 1), (4, .int (nI m0)), (3, .int (nI s0)), (2, .int (nI c1)), (0, .int 1), (1, .int (nI n))]) hx hb dX6_meaning_99 hl (by decide) rfl (fun ls hl => ?_)
    refine lv_iconst (v := 0) hx hb dX6_meaning_101 (by decide) ?_
    refine lv_istore (lv' := [(6, .int 0), (5, .int (nI (8 * m0 + 132))), (4, .int (nI m0)), (3, .int (nI s0)), (2, .int (nI c1)), (0, .int 1), (1, .int (nI n))]) hx hb dX6_meaning_102 hl (by decide) rfl (fun ls hl => ?_)
    refine men1_loop (z0 := 8 * m0 + 132) (s0 := s0) hx hb (by omega) (fun ls hl => ?_) s0 0 (by omega) ls (by rw [Nat.pow_zero, Nat.mul_one]; exact lv_sub hl [0, 1, 2, 3, 4, 5, 6] rfl)
    have hpw : 132 ≤ (8 * m0 + 132) * 2 ^ s0 := Nat.le_trans (by omega) (Nat.le_mul_of_pos_right _ (Nat.two_pow_pos s0))
    refine lv_iincW (v := (nI ((8 * m0 + 132) * 2 ^ s0 - 132))) (lv' := [(5, .int (nI ((8 * m0 + 132) * 2 ^ s0 - 132))), (6, .int (nI s0)), (4, .int (nI m0)), (3, .int (nI s0)), (2, .int (nI c1)), (0, .int 1), (1, .int (nI n))]) hx hb dX6_meaning_122 hl (k := 1) rfl (cb_m132 hpw) (by decide) rfl (fun ls hl => ?_)
    refine lv_iload_n hx hb dX6_meaning_128 rfl (lv_at hl 5 rfl) ?_
    refine lv_if_ne (tgt := 147) hx hb dX6_meaning_129 (by decide) (fun cz => ?_) (fun cz => (absurd cz (by decide) : False).elim)
    refine lv_iload_n hx hb dX6_meaning_147 rfl (lv_at hl 4 rfl) ?_
    refine lv_bipush (v := 127) hx hb dX6_meaning_148 (by decide) ?_
    refine lv_icmp_le (tgt := 157) hx hb dX6_meaning_150 (by decide) (fun cb => ?_) (fun cb => ?_)
    · have gb : ¬ 127 < c1 := by have := (nI_leI (b := 127) (by omega) (by decide)).mp cb; omega
      refine lv_iconst (v := 0) hx hb dX6_meaning_157 (by decide) ?_
      refine lv_istore (lv' := [(6, .int 0), (5, .int (nI ((8 * m0 + 132) * 2 ^ s0 - 132))), (4, .int (nI m0)), (3, .int (nI s0)), (2, .int (nI c1)), (0, .int 1), (1, .int (nI n))]) hx hb dX6_meaning_158 hl (by decide) rfl (fun ls hl => ?_)
      refine lv_iload hx hb dX6_meaning_160 (lv_at hl 0 rfl) ?_
      refine lv_if_eq (tgt := 171) hx hb dX6_meaning_162 (by decide) (fun cz => ?_) (fun cz => (cz rfl : False).elim)
      refine lv_iload hx hb dX6_meaning_171 (lv_at hl 1 rfl) ?_
      exact W.iret (v := (nI ((8 * m0 + 132) * 2 ^ s0 - 132))) hx hb hr (fun t ht hW => ⟨cb_r (by unfold cb_dec; rw [if_neg (by decide)]; dsimp only; rw [← ec, ← es, ← em, if_neg gb]), ht⟩) cb_nl dX6_meaning_173
    · have gb : 127 < c1 := by rcases Nat.lt_or_ge 127 c1 with q | q; exact q; exact absurd ((nI_leI (b := 127) (by omega) (by decide)).mpr q) cb
      refine lv_iconst (v := 1) hx hb dX6_meaning_153 (by decide) ?_
      refine lv_goto (tgt := 158) hx hb dX6_meaning_154 (by decide) ?_
      refine lv_istore (lv' := [(6, .int 1), (5, .int (nI ((8 * m0 + 132) * 2 ^ s0 - 132))), (4, .int (nI m0)), (3, .int (nI s0)), (2, .int (nI c1)), (0, .int 1), (1, .int (nI n))]) hx hb dX6_meaning_158 hl (by decide) rfl (fun ls hl => ?_)
      refine lv_iload hx hb dX6_meaning_160 (lv_at hl 0 rfl) ?_
      refine lv_if_eq (tgt := 171) hx hb dX6_meaning_162 (by decide) (fun cz => (absurd cz (by decide) : False).elim) (fun cz => ?_)
      refine lv_iload hx hb dX6_meaning_165 (lv_at hl 1 rfl) ?_
      refine lv_ineg hx hb dX6_meaning_167 ?_
      refine lv_goto (tgt := 173) hx hb dX6_meaning_168 (by decide) ?_
      exact W.iret (v := (-(nI ((8 * m0 + 132) * 2 ^ s0 - 132)))) hx hb hr (fun t ht hW => ⟨cb_r (by unfold cb_dec; rw [if_neg (by decide)]; dsimp only; rw [← ec, ← es, ← em, if_pos gb]), ht⟩) cb_nl dX6_meaning_173
  · refine lv_iload_n hx hb dX6_meaning_69 rfl (lv_at hl 5 rfl) ?_
    refine lv_if_ne (tgt := 85) hx hb dX6_meaning_70 (by decide) (fun cz => ?_) (fun cz => (absurd cz (by decide) : False).elim)
    refine lv_iload_n hx hb dX6_meaning_85 rfl (lv_at hl 5 rfl) ?_
    refine lv_iconst (v := 1) hx hb dX6_meaning_86 (by decide) ?_
    refine lv_icmp_ne (tgt := 128) hx hb dX6_meaning_87 (by decide) (fun cz => (cz rfl : False).elim) (fun cz => ?_)
    refine lv_bipush (v := 8) hx hb dX6_meaning_90 (by decide) ?_
    refine lv_iload hx hb dX6_meaning_92 (lv_at hl 2 rfl) ?_
    refine lv_imul hx hb dX6_meaning_94 ?_
    refine cb_top (y := nI (8 * m0)) (pk_mul 8 _) ?_
    refine lv_sipush (v := 132) hx hb dX6_meaning_95 (by decide) ?_
    refine lv_iadd hx hb dX6_meaning_98 ?_
    refine cb_top (y := nI (8 * m0 + 132)) (nI_add _ 132) ?_
    refine lv_istore (lv' := [(5, .int (nI (8 * m0 + 132))), (6, .int 1), (4, .int (nI m0)), (3, .int (nI s0)), (2, .int (nI c1)), (0, .int 1), (1, .int (nI n))]) hx hb dX6_meaning_99 hl (by decide) rfl (fun ls hl => ?_)
    refine lv_iconst (v := 0) hx hb dX6_meaning_101 (by decide) ?_
    refine lv_istore (lv' := [(6, .int 0), (5, .int (nI (8 * m0 + 132))), (4, .int (nI m0)), (3, .int (nI s0)), (2, .int (nI c1)), (0, .int 1), (1, .int (nI n))]) hx hb dX6_meaning_102 hl (by decide) rfl (fun ls hl => ?_)
    refine men1_loop (z0 := 8 * m0 + 132) (s0 := s0) hx hb (by omega) (fun ls hl => ?_) s0 0 (by omega) ls (by rw [Nat.pow_zero, Nat.mul_one]; exact lv_sub hl [0, 1, 2, 3, 4, 5, 6] rfl)
    have hpw : 132 ≤ (8 * m0 + 132) * 2 ^ s0 := Nat.le_trans (by omega) (Nat.le_mul_of_pos_right _ (Nat.two_pow_pos s0))
    refine lv_iincW (v := (nI ((8 * m0 + 132) * 2 ^ s0 - 132))) (lv' := [(5, .int (nI ((8 * m0 + 132) * 2 ^ s0 - 132))), (6, .int (nI s0)), (4, .int (nI m0)), (3, .int (nI s0)), (2, .int (nI c1)), (0, .int 1), (1, .int (nI n))]) hx hb dX6_meaning_122 hl (k := 1) rfl (cb_m132 hpw) (by decide) rfl (fun ls hl => ?_)
    refine lv_iload_n hx hb dX6_meaning_128 rfl (lv_at hl 5 rfl) ?_
    refine lv_if_ne (tgt := 147) hx hb dX6_meaning_129 (by decide) (fun cz => ?_) (fun cz => (absurd cz (by decide) : False).elim)
    refine lv_iload_n hx hb dX6_meaning_147 rfl (lv_at hl 4 rfl) ?_
    refine lv_bipush (v := 127) hx hb dX6_meaning_148 (by decide) ?_
    refine lv_icmp_le (tgt := 157) hx hb dX6_meaning_150 (by decide) (fun cb => ?_) (fun cb => ?_)
    · have gb : ¬ 127 < c1 := by have := (nI_leI (b := 127) (by omega) (by decide)).mp cb; omega
      refine lv_iconst (v := 0) hx hb dX6_meaning_157 (by decide) ?_
      refine lv_istore (lv' := [(6, .int 0), (5, .int (nI ((8 * m0 + 132) * 2 ^ s0 - 132))), (4, .int (nI m0)), (3, .int (nI s0)), (2, .int (nI c1)), (0, .int 1), (1, .int (nI n))]) hx hb dX6_meaning_158 hl (by decide) rfl (fun ls hl => ?_)
      refine lv_iload hx hb dX6_meaning_160 (lv_at hl 0 rfl) ?_
      refine lv_if_eq (tgt := 171) hx hb dX6_meaning_162 (by decide) (fun cz => ?_) (fun cz => (cz rfl : False).elim)
      refine lv_iload hx hb dX6_meaning_171 (lv_at hl 1 rfl) ?_
      exact W.iret (v := (nI ((8 * m0 + 132) * 2 ^ s0 - 132))) hx hb hr (fun t ht hW => ⟨cb_r (by unfold cb_dec; rw [if_neg (by decide)]; dsimp only; rw [← ec, ← es, ← em, if_neg gb]), ht⟩) cb_nl dX6_meaning_173
    · have gb : 127 < c1 := by rcases Nat.lt_or_ge 127 c1 with q | q; exact q; exact absurd ((nI_leI (b := 127) (by omega) (by decide)).mpr q) cb
      refine lv_iconst (v := 1) hx hb dX6_meaning_153 (by decide) ?_
      refine lv_goto (tgt := 158) hx hb dX6_meaning_154 (by decide) ?_
      refine lv_istore (lv' := [(6, .int 1), (5, .int (nI ((8 * m0 + 132) * 2 ^ s0 - 132))), (4, .int (nI m0)), (3, .int (nI s0)), (2, .int (nI c1)), (0, .int 1), (1, .int (nI n))]) hx hb dX6_meaning_158 hl (by decide) rfl (fun ls hl => ?_)
      refine lv_iload hx hb dX6_meaning_160 (lv_at hl 0 rfl) ?_
      refine lv_if_eq (tgt := 171) hx hb dX6_meaning_162 (by decide) (fun cz => (absurd cz (by decide) : False).elim) (fun cz => ?_)
      refine lv_iload hx hb dX6_meaning_165 (lv_at hl 1 rfl) ?_
      refine lv_ineg hx hb dX6_meaning_167 ?_
      refine lv_goto (tgt := 173) hx hb dX6_meaning_168 (by decide) ?_
      exact W.iret (v := (-(nI ((8 * m0 + 132) * 2 ^ s0 - 132)))) hx hb hr (fun t ht hW => ⟨cb_r (by unfold cb_dec; rw [if_neg (by decide)]; dsimp only; rw [← ec, ← es, ← em, if_pos gb]), ht⟩) cb_nl dX6_meaning_173
end
section
/-! the pure contracts, said by the plain functions; scaled -/
set_option maxRecDepth 100000
theorem met_sat (l : Launch) (v : Int64) : Met l yX1_saturated (ws_ yX1_saturated cX1_saturated 2 (some .int)) ({ frames := 1, cells := 0, slots := 0, locals := 40 } : Room) (cb_Pp [.long v]) (cb_Qp (some (.int (cb_sat v)))) 0 0 cb_no := by
  have h := met_sat0 l v
  rw [cb_sat_bridge v] at h
  exact h
theorem met_held (l : Launch) (v : Int64) : Met l yX6_held (ws_ yX6_held cX6_held 2 (some .int)) ({ frames := 0, cells := 0, slots := 0, locals := 0 } : Room) (cb_Pp [.long v]) (cb_Qp (some (.int (cb_sat v)))) 0 0 cb_no := by
  have h := met_held0 l v
  rw [cb_sat_model v] at h
  exact h
theorem met_fd (l : Launch) (v : Int32) : Met l yJ1_floorDiv (ws_ yJ1_floorDiv cJ1_floorDiv 3 (some .int)) ({ frames := 0, cells := 0, slots := 0, locals := 0 } : Room) (cb_Pp [.int v, .int 256]) (cb_Qp (some (.int (cb_fl v)))) 0 0 cb_no := by
  have h := met_fd0 l v
  rw [cb_fl_bridge v] at h
  exact h
theorem met_dA (l : Launch) (a : Nat) (n : Nat) (hn : n < 256) : Met l yX3_decoded (ws_ yX3_decoded cX3_decoded 5 (some .int)) ({ frames := 0, cells := 0, slots := 0, locals := 0 } : Room) (cb_Pp [.ref a, .int (nI n)]) (cb_Qp (some (.int (cb_dec 0 n)))) 0 0 cb_no := by
  have h := met_dA0 l (nI n) a
  rw [cb_decA_ok n hn] at h
  exact h
theorem met_dM (l : Launch) (a : Nat) (n : Nat) (hn : n < 256) : Met l yX4_decoded (ws_ yX4_decoded cX4_decoded 4 (some .int)) ({ frames := 0, cells := 0, slots := 0, locals := 0 } : Room) (cb_Pp [.ref a, .int (nI n)]) (cb_Qp (some (.int (cb_dec 1 n)))) 0 0 cb_no := by
  have h := met_dM0 l (nI n) a
  rw [cb_decM_ok n hn] at h
  exact h
theorem met_ix (l : Launch) (v hi : Int32) (n : Nat) (hh : hi.toInt + 1 = n) : Met l yX1_in (ws_ yX1_in cX1_in 3 (some .boolean)) ({ frames := 0, cells := 0, slots := 0, locals := 0 } : Room) (cb_Pp [.int v, .int 0, .int hi]) (cb_Qp (some (.int (if cb_ix v n = true then 1 else 0)))) 0 0 cb_no := by
  have h := met_in l v 0 hi
  rw [pf_in_ix v hi n hh] at h
  exact h
theorem met_nix (l : Launch) (v k : Int32) (n : Nat) (hh : k.toInt = n) : Met l yX6_not (ws_ yX6_not cX6_not 2 (some .boolean)) ({ frames := 0, cells := 0, slots := 0, locals := 0 } : Room) (cb_Pp [.int v, .int k]) (cb_Qp (some (.int (if cb_ix v n = true then 0 else 1)))) 0 0 cb_no := by
  have h := met_not0 l v k
  rw [pf_not_ix v k n hh] at h
  exact h
theorem cb_fl_pos {v : Int32} (h : 0 ≤ v) : v / 256 = cb_fl v := by
  rw [Int32.le_iff_toInt_le, Int32.toInt_zero] at h
  rw [← Int32.toInt_inj, cb_div256, cb_fl_int, Int.tdiv_eq_ediv_of_nonneg h]
theorem cb_fl_neg {v : Int32} (h : ¬ 0 ≤ v) (hb : -1073741824 ≤ v.toInt) : -((255 - v) / 256) = cb_fl v := by
  rw [Int32.le_iff_toInt_le, Int32.toInt_zero] at h
  have e1 : (255 - v).toInt = 255 - v.toInt := by
    rw [Int32.toInt_sub, show (255 : Int32).toInt = 255 from by decide]
    apply Int.bmod_eq_of_le <;> omega
  have e2 : ((255 - v) / 256).toInt = (255 - v.toInt) / 256 := by
    rw [cb_div256, e1, Int.tdiv_eq_ediv_of_nonneg (by omega)]
  rw [← Int32.toInt_inj, Int32.toInt_neg, e2, cb_fl_int, Int.bmod_eq_of_le (by omega) (by omega)]
  omega
set_option maxHeartbeats 4000000 in
set_option maxRecDepth 100000 in
theorem met_scl (l : Launch) (x g : Int32) (hb0 : -1073741824 ≤ (x * g).toInt) : Met l yX6_scaled (ws_ yX6_scaled cX6_scaled 3 (some .int)) ({ frames := 1, cells := 0, slots := 0, locals := 21 } : Room) (cb_Pp [.int x, .int g]) (cb_Qp (some (.int (cb_sat (cb_fl (x * g)).toInt64)))) 0 0 cb_no := by
  refine Met.ofW (cc := cX6_scaled) (maxL := 3) (ret := (some .int)) (by decide) rfl ?_
  intro p e s m args below meth c s₁ B hml hv
  obtain ⟨rfl, -⟩ := hv
  have hx := B.exec
  have hb := B.bytes
  have hr := B.returns
  have hts := atoms_spec (ws := (ws_ yX6_scaled cX6_scaled 3 (some .int))) B.pre
  have hts : ∀ w ∈ lw_all, w.before _ s = true := fun w h => hts w (List.mem_cons_of_mem _ h)
  have hown : s.vm.findClass RX6 = some m.cls := findClass_of_methodNamed B.named
  have hlocks := B.notSynchronized
  have hl := lv_entry ([.int x, .int g]) (n := 3) (Nat.le_of_ble_eq_true rfl)
  rw [lg_entry_eq]
  generalize (lg_sl ([.int x, .int g]) ++ List.replicate (3 - (lg_sl ([.int x, .int g])).length) Slot.unset).toArray = ls at hl ⊢
  have hl : lv_has ls 3 [(0, .int x), (1, .int g)] := hl
  refine lv_iload_n hx hb dX6_scaled_0 rfl (lv_at hl 0 rfl) ?_
  refine lv_iload_n hx hb dX6_scaled_1 rfl (lv_at hl 1 rfl) ?_
  refine lv_imul hx hb dX6_scaled_2 ?_
  refine lv_istore_n (lv' := [(2, .int (x * g)), (0, .int x), (1, .int g)]) hx hb dX6_scaled_3 rfl hl (by decide) rfl (fun ls hl => ?_)
  refine lv_iload_n hx hb dX6_scaled_4 rfl (lv_at hl 0 rfl) ?_
  refine lv_if_ge (tgt := 22) hx hb dX6_scaled_5 (by decide) (fun c0 => ?_) (fun c0 => ?_)
  · refine lv_iload_n hx hb dX6_scaled_22 rfl (lv_at hl 0 rfl) ?_
    refine lv_sipush (v := 256) hx hb dX6_scaled_23 (by decide) ?_
    refine lv_idiv hx hb dX6_scaled_26 (by decide) ?_
    refine cb_top (y := cb_fl (x * g)) (cb_fl_pos c0) ?_
    refine lv_i2l hx hb dX6_scaled_27 rfl ?_
    refine cb_callPi (va_runS (As := [.long ((cb_fl (x * g)).toInt64)]) (rest := []) ⟨hx, hb, hml, hown, hts⟩ (met_held l (cb_fl (x * g)).toInt64) (va_cwS 1 hts (lw_S q316 q317 q10 q318) rfl rfl rfl (by decide +kernel) ⟨Nat.le_of_ble_eq_true rfl, Nat.le_of_ble_eq_true rfl⟩) cb_preS rfl rfl hl.1 rfl (lv_room (Nat.le_of_ble_eq_true rfl)) dX6_scaled_28 ⟨Nat.zero_le _, Nat.zero_le _⟩) ?_
    exact W.iret (v := (cb_sat (cb_fl (x * g)).toInt64)) hx hb hr (fun t ht hW => ⟨cb_r (rfl), ht⟩) cb_nl dX6_scaled_31
  · refine lv_sipush (v := 255) hx hb dX6_scaled_8 (by decide) ?_
    refine lv_iload_n hx hb dX6_scaled_11 rfl (lv_at hl 0 rfl) ?_
    refine lv_isub hx hb dX6_scaled_12 ?_
    refine lv_sipush (v := 256) hx hb dX6_scaled_13 (by decide) ?_
    refine lv_idiv hx hb dX6_scaled_16 (by decide) ?_
    refine lv_ineg hx hb dX6_scaled_17 ?_
    refine cb_top (y := cb_fl (x * g)) (cb_fl_neg c0 hb0) ?_
    refine lv_i2l hx hb dX6_scaled_18 rfl ?_
    refine lv_goto (tgt := 28) hx hb dX6_scaled_19 (by decide) ?_
    refine cb_callPi (va_runS (As := [.long ((cb_fl (x * g)).toInt64)]) (rest := []) ⟨hx, hb, hml, hown, hts⟩ (met_held l (cb_fl (x * g)).toInt64) (va_cwS 1 hts (lw_S q316 q317 q10 q318) rfl rfl rfl (by decide +kernel) ⟨Nat.le_of_ble_eq_true rfl, Nat.le_of_ble_eq_true rfl⟩) cb_preS rfl rfl hl.1 rfl (lv_room (Nat.le_of_ble_eq_true rfl)) dX6_scaled_28 ⟨Nat.zero_le _, Nat.zero_le _⟩) ?_
    exact W.iret (v := (cb_sat (cb_fl (x * g)).toInt64)) hx hb hr (fun t ht hW => ⟨cb_r (rfl), ht⟩) cb_nl dX6_scaled_31
end
section
/-! THE BRIDGE's WORLD: 5 + 4 n cells at the addresses g 0, g 1 ..: the bridge, its laws' array, the two laws, the parties' array, then for each party: the object, in, samples, out -/
set_option maxRecDepth 100000
def TX3 : u_T := fun _ => ("", "", "", false)
def tyX3 : Nat → FieldType := fun _ => .int
abbrev cbCl : List vw_C := [(RX1, TX1, 3), (RX3, TX3, 0), (RX4, TX3, 0), (RX5, TX5, 8), (RX6, TX6, 9)]
abbrev cb_tys (t : Nat → ClassId) : List (ClassId × FieldType) := [(t 0, .object RX2), (t 1, .object RX5), (t 2, .int), (t 3, .boolean), (t 4, .long)]
/-- the state of both sides: laws, gains, muted, speaking, in, samples, out, energies, most -/
abbrev cb_S : Type := (Nat → Nat) × (Nat → Int32) × (Nat → Int32) × (Nat → Int32) × (Nat → Nat → Int32) × (Nat → Nat → Int32) × (Nat → Nat → Int32) × (Nat → Int64) × Int32
abbrev cb_lw (S : cb_S) : Nat → Nat := S.1
abbrev cb_gn (S : cb_S) : Nat → Int32 := S.2.1
abbrev cb_mu (S : cb_S) : Nat → Int32 := S.2.2.1
abbrev cb_sp (S : cb_S) : Nat → Int32 := S.2.2.2.1
abbrev cb_ii (S : cb_S) : Nat → Nat → Int32 := S.2.2.2.2.1
abbrev cb_sm (S : cb_S) : Nat → Nat → Int32 := S.2.2.2.2.2.1
abbrev cb_ou (S : cb_S) : Nat → Nat → Int32 := S.2.2.2.2.2.2.1
abbrev cb_en (S : cb_S) : Nat → Int64 := S.2.2.2.2.2.2.2.1
abbrev cb_mo (S : cb_S) : Int32 := S.2.2.2.2.2.2.2.2
def cb_sLw (S : cb_S) (j w : Nat) : cb_S := (va_up (cb_lw S) j w, S.2)
def cb_sGn (S : cb_S) (j : Nat) (v : Int32) : cb_S := (cb_lw S, va_up (cb_gn S) j v, S.2.2)
def cb_sMu (S : cb_S) (j : Nat) (v : Int32) : cb_S := (cb_lw S, cb_gn S, va_up (cb_mu S) j v, S.2.2.2)
def cb_sSp (S : cb_S) (j : Nat) (v : Int32) : cb_S := (cb_lw S, cb_gn S, cb_mu S, va_up (cb_sp S) j v, S.2.2.2.2)
def cb_sIn (S : cb_S) (j k : Nat) (v : Int32) : cb_S := (cb_lw S, cb_gn S, cb_mu S, cb_sp S, va_up (cb_ii S) j (upd (cb_ii S j) k v), S.2.2.2.2.2)
def cb_sSm (S : cb_S) (j k : Nat) (v : Int32) : cb_S := (cb_lw S, cb_gn S, cb_mu S, cb_sp S, cb_ii S, va_up (cb_sm S) j (upd (cb_sm S j) k v), S.2.2.2.2.2.2)
def cb_sOu (S : cb_S) (j k : Nat) (v : Int32) : cb_S := (cb_lw S, cb_gn S, cb_mu S, cb_sp S, cb_ii S, cb_sm S, va_up (cb_ou S) j (upd (cb_ou S j) k v), S.2.2.2.2.2.2.2)
def cb_sEn (S : cb_S) (j : Nat) (v : Int64) : cb_S := (cb_lw S, cb_gn S, cb_mu S, cb_sp S, cb_ii S, cb_sm S, cb_ou S, va_up (cb_en S) j v, cb_mo S)
def cb_sMo (S : cb_S) (v : Int32) : cb_S := (cb_lw S, cb_gn S, cb_mu S, cb_sp S, cb_ii S, cb_sm S, cb_ou S, cb_en S, v)
/-- a party's fields -/
def cb_pf (g : Nat → Nat) (S : cb_S) (j : Nat) : List Value := [.ref (g (2 + cb_lw S j)), .int (cb_gn S j), .int (cb_mu S j), .int (cb_sp S j), .ref (g (6 + 4 * j)), .ref (g (7 + 4 * j)), .ref (g (8 + 4 * j)), .long (cb_en S j)]
def cb_e (t : Nat → ClassId) (g : Nat → Nat) (S : cb_S) (n k : Nat) : va_E :=
  if k = 0 then .inr (0, [.ref (g 1), .ref (g 4), .int (cb_mo S)])
  else if k = 1 then .inl (t 0, 2, .inr (.inr (.inr (.inr (fun j => if j < 2 then some (g (2 + j)) else none)))))
  else if k = 2 then .inr (1, [])
  else if k = 3 then .inr (2, [])
  else if k = 4 then .inl (t 1, 8, .inr (.inr (.inr (.inr (fun j => if j < n then some (g (5 + 4 * j)) else none)))))
  else if (k - 5) % 4 = 0 then .inr (3, cb_pf g S ((k - 5) / 4))
  else if (k - 5) % 4 = 1 then .inl (t 2, 8, .inl (cb_ii S ((k - 5) / 4)))
  else if (k - 5) % 4 = 2 then .inl (t 2, 8, .inl (cb_sm S ((k - 5) / 4)))
  else .inl (t 2, 8, .inl (cb_ou S ((k - 5) / 4)))
def cb_w (t : Nat → ClassId) (g : Nat → Nat) (S : cb_S) (n : Nat) : va_W := (List.range (5 + 4 * n)).map (fun k => (g k, cb_e t g S n k))
section CW
variable {t : Nat → ClassId} {g : Nat → Nat} {S : cb_S} {n : Nat}
theorem cb_w_at {k : Nat} {x : va_E} (h : k < 5 + 4 * n) (hx : cb_e t g S n k = x) : (cb_w t g S n)[k]? = some (g k, x) := by
  subst hx
  simp [cb_w, h]
theorem cb_w_len : (cb_w t g S n).length = 5 + 4 * n := by simp [cb_w]
theorem cb_e_p (j : Nat) : cb_e t g S n (5 + 4 * j) = .inr (3, cb_pf g S j) := by
  unfold cb_e
  rw [if_neg (by omega), if_neg (by omega), if_neg (by omega), if_neg (by omega), if_neg (by omega), if_pos (by omega), show (5 + 4 * j - 5) / 4 = j by omega]
theorem cb_e_i (j : Nat) : cb_e t g S n (6 + 4 * j) = .inl (t 2, 8, .inl (cb_ii S j)) := by
  unfold cb_e
  rw [if_neg (by omega), if_neg (by omega), if_neg (by omega), if_neg (by omega), if_neg (by omega), if_neg (by omega), if_pos (by omega), show (6 + 4 * j - 5) / 4 = j by omega]
theorem cb_e_s (j : Nat) : cb_e t g S n (7 + 4 * j) = .inl (t 2, 8, .inl (cb_sm S j)) := by
  unfold cb_e
  rw [if_neg (by omega), if_neg (by omega), if_neg (by omega), if_neg (by omega), if_neg (by omega), if_neg (by omega), if_neg (by omega), if_pos (by omega), show (7 + 4 * j - 5) / 4 = j by omega]
theorem cb_e_o (j : Nat) : cb_e t g S n (8 + 4 * j) = .inl (t 2, 8, .inl (cb_ou S j)) := by
  unfold cb_e
  rw [if_neg (by omega), if_neg (by omega), if_neg (by omega), if_neg (by omega), if_neg (by omega), if_neg (by omega), if_neg (by omega), if_neg (by omega), show (8 + 4 * j - 5) / 4 = j by omega]
/-- which cell a number is -/
theorem cb_kind (k : Nat) : k = 0 ∨ k = 1 ∨ k = 2 ∨ k = 3 ∨ k = 4 ∨ (∃ j, k = 5 + 4 * j) ∨ (∃ j, k = 6 + 4 * j) ∨ (∃ j, k = 7 + 4 * j) ∨ ∃ j, k = 8 + 4 * j := by
  by_cases h : k < 5
  · omega
  · have : (k - 5) % 4 = 0 ∨ (k - 5) % 4 = 1 ∨ (k - 5) % 4 = 2 ∨ (k - 5) % 4 = 3 := by omega
    rcases this with q | q | q | q
    · exact Or.inr (Or.inr (Or.inr (Or.inr (Or.inr (Or.inl ⟨(k - 5) / 4, by omega⟩)))))
    · exact Or.inr (Or.inr (Or.inr (Or.inr (Or.inr (Or.inr (Or.inl ⟨(k - 5) / 4, by omega⟩))))))
    · exact Or.inr (Or.inr (Or.inr (Or.inr (Or.inr (Or.inr (Or.inr (Or.inl ⟨(k - 5) / 4, by omega⟩)))))))
    · exact Or.inr (Or.inr (Or.inr (Or.inr (Or.inr (Or.inr (Or.inr (Or.inr ⟨(k - 5) / 4, by omega⟩)))))))
theorem cb_w_set {S' : cb_S} {k : Nat} {x : va_E} (hk : k < 5 + 4 * n) (he : cb_e t g S' n k = x) (ho : ∀ i, i ≠ k → cb_e t g S' n i = cb_e t g S n i) : (cb_w t g S n).set k (g k, x) = cb_w t g S' n := by
  subst he
  apply List.ext_getElem?
  intro i
  by_cases hi : i = k
  · subst hi
    rw [List.getElem?_set_self (by rw [cb_w_len]; exact hk), cb_w_at hk rfl]
  · rw [List.getElem?_set_ne (Ne.symm hi)]
    by_cases hl : i < 5 + 4 * n
    · rw [cb_w_at hl rfl, cb_w_at hl rfl, ho i hi]
    · rw [List.getElem?_eq_none (by rw [cb_w_len]; omega), List.getElem?_eq_none (by rw [cb_w_len]; omega)]
/-- the parts of a state that the cells other than a party's object hold -/
theorem cb_e_same {S' : cb_S} (hm : cb_mo S' = cb_mo S) (hp : ∀ j, cb_pf g S' j = cb_pf g S j) (h1 : ∀ j, cb_ii S' j = cb_ii S j) (h2 : ∀ j, cb_sm S' j = cb_sm S j) (h3 : ∀ j, cb_ou S' j = cb_ou S j) (k : Nat) : cb_e t g S' n k = cb_e t g S n k := by
  unfold cb_e
  rw [hm, hp, h1, h2, h3]
theorem cb_e_party {S' : cb_S} {j : Nat} (hm : cb_mo S' = cb_mo S) (hp : ∀ i, i ≠ j → cb_pf g S' i = cb_pf g S i) (h1 : cb_ii S' = cb_ii S) (h2 : cb_sm S' = cb_sm S) (h3 : cb_ou S' = cb_ou S) : ∀ i, i ≠ 5 + 4 * j → cb_e t g S' n i = cb_e t g S n i := by
  intro i hi
  by_cases hc : 5 ≤ i ∧ (i - 5) % 4 = 0
  · have h : (i - 5) / 4 ≠ j := by omega
    unfold cb_e
    rw [hm, hp _ h, h1, h2, h3]
  · unfold cb_e
    rw [hm, h1, h2, h3]
    by_cases h5 : 5 ≤ i
    · have q0 : ¬ (i - 5) % 4 = 0 := fun q => hc ⟨h5, q⟩
      rw [if_neg (show ¬ i = 0 by omega), if_neg (show ¬ i = 1 by omega), if_neg (show ¬ i = 2 by omega), if_neg (show ¬ i = 3 by omega), if_neg (show ¬ i = 4 by omega), if_neg (show ¬ i = 0 by omega), if_neg (show ¬ i = 1 by omega), if_neg (show ¬ i = 2 by omega), if_neg (show ¬ i = 3 by omega), if_neg (show ¬ i = 4 by omega), if_neg q0, if_neg q0]
    · by_cases k0 : i = 0
      · rw [if_pos k0, if_pos k0]
      · by_cases k1 : i = 1
        · rw [if_neg k0, if_neg k0, if_pos k1, if_pos k1]
        · by_cases k2 : i = 2
          · rw [if_neg k0, if_neg k0, if_neg k1, if_neg k1, if_pos k2, if_pos k2]
          · by_cases k3 : i = 3
            · rw [if_neg k0, if_neg k0, if_neg k1, if_neg k1, if_neg k2, if_neg k2, if_pos k3, if_pos k3]
            · rw [if_neg k0, if_neg k0, if_neg k1, if_neg k1, if_neg k2, if_neg k2, if_neg k3, if_neg k3, if_pos (by omega), if_pos (by omega)]
theorem cb_e_arr {S' : cb_S} {j r : Nat} (hr : r = 6 ∨ r = 7 ∨ r = 8) (hm : cb_mo S' = cb_mo S) (hp : ∀ i, cb_pf g S' i = cb_pf g S i) (h1 : ∀ i, (r ≠ 6 ∨ i ≠ j) → cb_ii S' i = cb_ii S i) (h2 : ∀ i, (r ≠ 7 ∨ i ≠ j) → cb_sm S' i = cb_sm S i) (h3 : ∀ i, (r ≠ 8 ∨ i ≠ j) → cb_ou S' i = cb_ou S i) : ∀ i, i ≠ r + 4 * j → cb_e t g S' n i = cb_e t g S n i := by
  intro i hi
  by_cases h5 : 5 ≤ i
  · unfold cb_e
    rw [hm, hp]
    rw [if_neg (show ¬ i = 0 by omega), if_neg (show ¬ i = 1 by omega), if_neg (show ¬ i = 2 by omega), if_neg (show ¬ i = 3 by omega), if_neg (show ¬ i = 4 by omega), if_neg (show ¬ i = 0 by omega), if_neg (show ¬ i = 1 by omega), if_neg (show ¬ i = 2 by omega), if_neg (show ¬ i = 3 by omega), if_neg (show ¬ i = 4 by omega)]
    by_cases q0 : (i - 5) % 4 = 0
    · rw [if_pos q0, if_pos q0]
    · rw [if_neg q0, if_neg q0]
      by_cases q1 : (i - 5) % 4 = 1
      · rw [if_pos q1, if_pos q1, h1 _ (by omega)]
      · rw [if_neg q1, if_neg q1]
        by_cases q2 : (i - 5) % 4 = 2
        · rw [if_pos q2, if_pos q2, h2 _ (by omega)]
        · rw [if_neg q2, if_neg q2, h3 _ (by omega)]
  · unfold cb_e
    rw [hm]
    by_cases k0 : i = 0
    · rw [if_pos k0, if_pos k0]
    · by_cases k1 : i = 1
      · rw [if_neg k0, if_neg k0, if_pos k1, if_pos k1]
      · by_cases k2 : i = 2
        · rw [if_neg k0, if_neg k0, if_neg k1, if_neg k1, if_pos k2, if_pos k2]
        · by_cases k3 : i = 3
          · rw [if_neg k0, if_neg k0, if_neg k1, if_neg k1, if_neg k2, if_neg k2, if_pos k3, if_pos k3]
          · rw [if_neg k0, if_neg k0, if_neg k1, if_neg k1, if_neg k2, if_neg k2, if_neg k3, if_neg k3, if_pos (by omega), if_pos (by omega)]
theorem cb_set_mo (v : Int32) : (cb_w t g S n).set 0 (g 0, .inr (0, [.ref (g 1), .ref (g 4), .int v])) = cb_w t g (cb_sMo S v) n := by
  refine cb_w_set (by omega) rfl (fun i hi => ?_)
  unfold cb_e
  rw [if_neg hi, if_neg hi]
  rfl
theorem cb_set_p {S' : cb_S} {j : Nat} (hj : j < n) (hm : cb_mo S' = cb_mo S) (hp : ∀ i, i ≠ j → cb_pf g S' i = cb_pf g S i) (h1 : cb_ii S' = cb_ii S) (h2 : cb_sm S' = cb_sm S) (h3 : cb_ou S' = cb_ou S) : (cb_w t g S n).set (5 + 4 * j) (g (5 + 4 * j), .inr (3, cb_pf g S' j)) = cb_w t g S' n :=
  cb_w_set (by omega) (cb_e_p j) (cb_e_party hm hp h1 h2 h3)
theorem cb_set_lw {j : Nat} (hj : j < n) (w : Nat) : (cb_w t g S n).set (5 + 4 * j) (g (5 + 4 * j), .inr (3, (cb_pf g S j).set 0 (.ref (g (2 + w))))) = cb_w t g (cb_sLw S j w) n := by
  have h := cb_set_p (t := t) (g := g) (S := S) (S' := cb_sLw S j w) hj rfl (fun i hi => by simp [cb_pf, cb_sLw, cb_lw, cb_gn, cb_mu, cb_sp, cb_ii, cb_sm, cb_ou, cb_en, cb_mo, va_up, hi]) rfl rfl rfl
  rw [← h]
  simp [cb_pf, cb_sLw, cb_lw, cb_gn, cb_mu, cb_sp, cb_ii, cb_sm, cb_ou, cb_en, cb_mo, va_up]
theorem cb_set_gn {j : Nat} (hj : j < n) (v : Int32) : (cb_w t g S n).set (5 + 4 * j) (g (5 + 4 * j), .inr (3, (cb_pf g S j).set 1 (.int v))) = cb_w t g (cb_sGn S j v) n := by
  have h := cb_set_p (t := t) (g := g) (S := S) (S' := cb_sGn S j v) hj rfl (fun i hi => by simp [cb_pf, cb_sGn, cb_lw, cb_gn, cb_mu, cb_sp, cb_ii, cb_sm, cb_ou, cb_en, cb_mo, va_up, hi]) rfl rfl rfl
  rw [← h]
  simp [cb_pf, cb_sGn, cb_lw, cb_gn, cb_mu, cb_sp, cb_ii, cb_sm, cb_ou, cb_en, cb_mo, va_up]
theorem cb_set_mu {j : Nat} (hj : j < n) (v : Int32) : (cb_w t g S n).set (5 + 4 * j) (g (5 + 4 * j), .inr (3, (cb_pf g S j).set 2 (.int v))) = cb_w t g (cb_sMu S j v) n := by
  have h := cb_set_p (t := t) (g := g) (S := S) (S' := cb_sMu S j v) hj rfl (fun i hi => by simp [cb_pf, cb_sMu, cb_lw, cb_gn, cb_mu, cb_sp, cb_ii, cb_sm, cb_ou, cb_en, cb_mo, va_up, hi]) rfl rfl rfl
  rw [← h]
  simp [cb_pf, cb_sMu, cb_lw, cb_gn, cb_mu, cb_sp, cb_ii, cb_sm, cb_ou, cb_en, cb_mo, va_up]
theorem cb_set_sp {j : Nat} (hj : j < n) (v : Int32) : (cb_w t g S n).set (5 + 4 * j) (g (5 + 4 * j), .inr (3, (cb_pf g S j).set 3 (.int v))) = cb_w t g (cb_sSp S j v) n := by
  have h := cb_set_p (t := t) (g := g) (S := S) (S' := cb_sSp S j v) hj rfl (fun i hi => by simp [cb_pf, cb_sSp, cb_lw, cb_gn, cb_mu, cb_sp, cb_ii, cb_sm, cb_ou, cb_en, cb_mo, va_up, hi]) rfl rfl rfl
  rw [← h]
  simp [cb_pf, cb_sSp, cb_lw, cb_gn, cb_mu, cb_sp, cb_ii, cb_sm, cb_ou, cb_en, cb_mo, va_up]
theorem cb_set_en {j : Nat} (hj : j < n) (v : Int64) : (cb_w t g S n).set (5 + 4 * j) (g (5 + 4 * j), .inr (3, (cb_pf g S j).set 7 (.long v))) = cb_w t g (cb_sEn S j v) n := by
  have h := cb_set_p (t := t) (g := g) (S := S) (S' := cb_sEn S j v) hj rfl (fun i hi => by simp [cb_pf, cb_sEn, cb_lw, cb_gn, cb_mu, cb_sp, cb_ii, cb_sm, cb_ou, cb_en, cb_mo, va_up, hi]) rfl rfl rfl
  rw [← h]
  simp [cb_pf, cb_sEn, cb_lw, cb_gn, cb_mu, cb_sp, cb_ii, cb_sm, cb_ou, cb_en, cb_mo, va_up]
theorem cb_set_in {j : Nat} (hj : j < n) (k : Nat) (v : Int32) : (cb_w t g S n).set (6 + 4 * j) (g (6 + 4 * j), .inl (t 2, 8, .inl (upd (cb_ii S j) k v))) = cb_w t g (cb_sIn S j k v) n := by
  refine cb_w_set (by omega) (by rw [cb_e_i]; simp [cb_sIn, cb_lw, cb_gn, cb_mu, cb_sp, cb_ii, cb_sm, cb_ou, cb_en, cb_mo, va_up]) (cb_e_arr (Or.inl rfl) rfl (fun _ => rfl) (fun i hi => ?_) (fun _ _ => rfl) (fun _ _ => rfl))
  have hi' : i ≠ j := by omega
  simp [cb_sIn, cb_lw, cb_gn, cb_mu, cb_sp, cb_ii, cb_sm, cb_ou, cb_en, cb_mo, va_up, hi']
theorem cb_set_sm {j : Nat} (hj : j < n) (k : Nat) (v : Int32) : (cb_w t g S n).set (7 + 4 * j) (g (7 + 4 * j), .inl (t 2, 8, .inl (upd (cb_sm S j) k v))) = cb_w t g (cb_sSm S j k v) n := by
  refine cb_w_set (by omega) (by rw [cb_e_s]; simp [cb_sSm, cb_lw, cb_gn, cb_mu, cb_sp, cb_ii, cb_sm, cb_ou, cb_en, cb_mo, va_up]) (cb_e_arr (Or.inr (Or.inl rfl)) rfl (fun _ => rfl) (fun _ _ => rfl) (fun i hi => ?_) (fun _ _ => rfl))
  have hi' : i ≠ j := by omega
  simp [cb_sSm, cb_lw, cb_gn, cb_mu, cb_sp, cb_ii, cb_sm, cb_ou, cb_en, cb_mo, va_up, hi']
theorem cb_set_ou {j : Nat} (hj : j < n) (k : Nat) (v : Int32) : (cb_w t g S n).set (8 + 4 * j) (g (8 + 4 * j), .inl (t 2, 8, .inl (upd (cb_ou S j) k v))) = cb_w t g (cb_sOu S j k v) n := by
  refine cb_w_set (by omega) (by rw [cb_e_o]; simp [cb_sOu, cb_lw, cb_gn, cb_mu, cb_sp, cb_ii, cb_sm, cb_ou, cb_en, cb_mo, va_up]) (cb_e_arr (Or.inr (Or.inr rfl)) rfl (fun _ => rfl) (fun _ _ => rfl) (fun _ _ => rfl) (fun i hi => ?_))
  have hi' : i ≠ j := by omega
  simp [cb_sOu, cb_lw, cb_gn, cb_mu, cb_sp, cb_ii, cb_sm, cb_ou, cb_en, cb_mo, va_up, hi']
end CW
end
section
/-! ROWS OVER THE BRIDGE's WORLD (own class: ConferenceBridge) -/
set_option maxRecDepth 100000
/-- the bridge's world at heap H, since H0; the tables' classes at s -/
def cb_B (D : va_G) (t : Nat → ClassId) (g : Nat → Nat) (A : Nat → Prop) (s : State) (H0 : Heap) (S : cb_S) (n : Nat) (H : Heap) (locs : List Loc) : Prop := va_P D cbCl (cb_w t g S n) H ∧ va_D A (cb_w t g S n) ∧ va_S A H0 H locs ∧ va_K D cbCl (cb_tys t) s
theorem lw_U {own : String} {idx : Nat} {C owner : String} {x y : MethodName} {b : ByteArray} {L : Nat} {r : Option FieldType} (h1 : Cond.methodLink own idx x ∈ lw_all) (h2 : Cond.sameMethod x.cls owner x.name x.desc ∈ lw_all) (h3 : Cond.selects C x y ∈ lw_all) (h4 : Cond.instanceMethod y ∈ lw_all) (h5 : Cond.initialized y.cls ∈ lw_all) (h6 : Cond.code y b L r ∈ lw_all) : GoodIn lw_all (va_wsU own idx C owner x y (ws_ y b L r)) := by
  refine lw_app ?_ (lw_meth h6)
  intro w hw
  simp only [List.mem_cons, List.not_mem_nil, or_false] at hw
  rcases hw with e | e | e | e | e
  · rw [e]; exact h1
  · rw [e]; exact h2
  · rw [e]; exact h3
  · rw [e]; exact h4
  · rw [e]; exact h5
section RB
variable {p : Program} {l : Launch} {e : Env} {R : Room} {s : State} {m : MethodId} {args : Array Value} {below : List Frame} {meth : Method} {c : Code} {H : Heap} {locs : List Loc} {cells slots : Nat} {Q : State → Prop}
variable {pc : Nat} {ls : Array Slot} {rest : List Value} {cc : ByteArray} {D : va_G} {t : Nat → ClassId} {g : Nat → Nat} {A : Nat → Prop} {H0 : Heap} {S : cb_S} {n : Nat}
theorem cb_getB (hx : p.tables.exec = Jvm.exec) (hb : c.code = cc) (hts : ∀ w ∈ lw_all, w.before args s = true) (hown : s.vm.findClass RX1 = some m.cls) (hB : cb_B D t g A s H0 S n H locs) (k : Nat) (hk : k < 3) {index : Nat} (hlink : Cond.fieldLink RX1 index RX1 (TX1 k).2.1 (TX1 k).2.2.1 ∈ lw_all) {v : Value} (hv : ([.ref (g 1), .ref (g 4), .int (cb_mo S)] : List Value)[k]? = some v) (hdg : decode cc pc = .ok (.getfield index, 3))
    (kk : W p l e R s m args below meth c H locs cells slots Q (F0 m (pc + 3) ls (v :: rest))) : W p l e R s m args below meth c H locs cells slots Q (F0 m pc ls (.ref (g 0) :: rest)) :=
  va_get (D := D) (ci := 0) (C := RX1) (T := TX1) (N := 3) hx hb hts in_X1 hown hB.2.2.2 hB.1 0 (cb_w_at (by omega) rfl) rfl k hk (hts _ hlink) (fun q h9 => by have e : (TX1 k).1 = RX1 := (by unfold TX1; split <;> rfl); rw [e] at h9; exact h9) hv hdg kk
theorem cb_putMo (hx : p.tables.exec = Jvm.exec) (hb : c.code = cc) (hts : ∀ w ∈ lw_all, w.before args s = true) (hown : s.vm.findClass RX1 = some m.cls) (hB : cb_B D t g A s H0 S n H locs) {v : Int32} (hdg : decode cc pc = .ok (.putfield 27, 3))
    (kk : ∀ (H : Heap) (locs : List Loc), cb_B D t g A s H0 (cb_sMo S v) n H locs → W p l e R s m args below meth c H locs cells slots Q (F0 m (pc + 3) ls rest)) : W p l e R s m args below meth c H locs cells slots Q (F0 m pc ls (.int v :: .ref (g 0) :: rest)) := by
  refine va_put (D := D) (ci := 0) (v := .int v) (ty := .int) (C := RX1) (T := TX1) (N := 3) hx hb hts in_X1 tyX1 tyX1_ok nmX1 hown hB.2.2.2 hB.1 hB.2.1 hB.2.2.1 0 (cb_w_at (by omega) rfl) rfl 2 (by decide) (hts _ q106) (fun _ h9 => h9) rfl (by decide +kernel) rfl rfl (Nat.le_of_ble_eq_true rfl) hdg (fun H1 locs1 hP hD hS => ?_)
  refine kk H1 locs1 ⟨?_, ?_, hS, hB.2.2.2⟩
  · rw [← cb_set_mo]; exact hP
  · rw [← cb_set_mo]; exact hD
theorem cb_getP (hx : p.tables.exec = Jvm.exec) (hb : c.code = cc) (hts : ∀ w ∈ lw_all, w.before args s = true) (hown : s.vm.findClass RX1 = some m.cls) (hB : cb_B D t g A s H0 S n H locs) (j : Nat) (hj : j < n) (k : Nat) (hk : k < 8) {index : Nat} (hlink : Cond.fieldLink RX1 index RX5 (TX5 k).2.1 (TX5 k).2.2.1 ∈ lw_all) {v : Value} (hv : (cb_pf g S j)[k]? = some v) (hdg : decode cc pc = .ok (.getfield index, 3))
    (kk : W p l e R s m args below meth c H locs cells slots Q (F0 m (pc + 3) ls (v :: rest))) : W p l e R s m args below meth c H locs cells slots Q (F0 m pc ls (.ref (g (5 + 4 * j)) :: rest)) :=
  va_get (D := D) (ci := 3) (C := RX5) (T := TX5) (N := 8) hx hb hts in_X5 hown hB.2.2.2 hB.1 (5 + 4 * j) (cb_w_at (by omega) (cb_e_p j)) rfl k hk (hts _ hlink) (fun q h9 => by have e : (TX5 k).1 = RX5 := (by unfold TX5; split <;> rfl); rw [e] at h9; exact h9) hv hdg kk
theorem cb_putLw (hx : p.tables.exec = Jvm.exec) (hb : c.code = cc) (hts : ∀ w ∈ lw_all, w.before args s = true) (hown : s.vm.findClass RX1 = some m.cls) (hB : cb_B D t g A s H0 S n H locs) (j : Nat) (hj : j < n) {w : Nat} (hdg : decode cc pc = .ok (.putfield 32, 3))
    (kk : ∀ (H : Heap) (locs : List Loc), cb_B D t g A s H0 (cb_sLw S j w) n H locs → W p l e R s m args below meth c H locs cells slots Q (F0 m (pc + 3) ls rest)) : W p l e R s m args below meth c H locs cells slots Q (F0 m pc ls (.ref (g (2 + w)) :: .ref (g (5 + 4 * j)) :: rest)) := by
  refine va_put (D := D) (ci := 3) (v := .ref (g (2 + w))) (ty := .object "ConferenceBridge$Law") (C := RX5) (T := TX5) (N := 8) hx hb hts in_X5 tyX5 tyX5_ok nmX5 hown hB.2.2.2 hB.1 hB.2.1 hB.2.2.1 (5 + 4 * j) (cb_w_at (by omega) (cb_e_p j)) rfl 0 (by decide) (hts _ q49) (fun _ h9 => h9) rfl (by decide +kernel) rfl rfl (Nat.le_of_ble_eq_true rfl) hdg (fun H1 locs1 hP hD hS => ?_)
  refine kk H1 locs1 ⟨?_, ?_, hS, hB.2.2.2⟩
  · rw [← cb_set_lw hj]; exact hP
  · rw [← cb_set_lw hj]; exact hD
theorem cb_putGn (hx : p.tables.exec = Jvm.exec) (hb : c.code = cc) (hts : ∀ w ∈ lw_all, w.before args s = true) (hown : s.vm.findClass RX1 = some m.cls) (hB : cb_B D t g A s H0 S n H locs) (j : Nat) (hj : j < n) {v : Int32} (hdg : decode cc pc = .ok (.putfield 73, 3))
    (kk : ∀ (H : Heap) (locs : List Loc), cb_B D t g A s H0 (cb_sGn S j v) n H locs → W p l e R s m args below meth c H locs cells slots Q (F0 m (pc + 3) ls rest)) : W p l e R s m args below meth c H locs cells slots Q (F0 m pc ls (.int v :: .ref (g (5 + 4 * j)) :: rest)) := by
  refine va_put (D := D) (ci := 3) (v := .int v) (ty := .int) (C := RX5) (T := TX5) (N := 8) hx hb hts in_X5 tyX5 tyX5_ok nmX5 hown hB.2.2.2 hB.1 hB.2.1 hB.2.2.1 (5 + 4 * j) (cb_w_at (by omega) (cb_e_p j)) rfl 1 (by decide) (hts _ q51) (fun _ h9 => h9) rfl (by decide +kernel) rfl rfl (Nat.le_of_ble_eq_true rfl) hdg (fun H1 locs1 hP hD hS => ?_)
  refine kk H1 locs1 ⟨?_, ?_, hS, hB.2.2.2⟩
  · rw [← cb_set_gn hj]; exact hP
  · rw [← cb_set_gn hj]; exact hD
theorem cb_putMu (hx : p.tables.exec = Jvm.exec) (hb : c.code = cc) (hts : ∀ w ∈ lw_all, w.before args s = true) (hown : s.vm.findClass RX1 = some m.cls) (hB : cb_B D t g A s H0 S n H locs) (j : Nat) (hj : j < n) {v : Int32} (hv : v = 0 ∨ v = 1) (hdg : decode cc pc = .ok (.putfield 76, 3))
    (kk : ∀ (H : Heap) (locs : List Loc), cb_B D t g A s H0 (cb_sMu S j v) n H locs → W p l e R s m args below meth c H locs cells slots Q (F0 m (pc + 3) ls rest)) : W p l e R s m args below meth c H locs cells slots Q (F0 m pc ls (.int v :: .ref (g (5 + 4 * j)) :: rest)) := by
  refine va_put (D := D) (ci := 3) (v := .int v) (ty := .boolean) (C := RX5) (T := TX5) (N := 8) hx hb hts in_X5 tyX5 tyX5_ok nmX5 hown hB.2.2.2 hB.1 hB.2.1 hB.2.2.1 (5 + 4 * j) (cb_w_at (by omega) (cb_e_p j)) rfl 2 (by decide) (hts _ q52) (fun _ h9 => h9) rfl (by decide +kernel) (by rcases hv with rfl | rfl <;> rfl) (by rcases hv with rfl | rfl <;> rfl) (Nat.le_of_ble_eq_true rfl) hdg (fun H1 locs1 hP hD hS => ?_)
  refine kk H1 locs1 ⟨?_, ?_, hS, hB.2.2.2⟩
  · rw [← cb_set_mu hj]; exact hP
  · rw [← cb_set_mu hj]; exact hD
theorem cb_putSp (hx : p.tables.exec = Jvm.exec) (hb : c.code = cc) (hts : ∀ w ∈ lw_all, w.before args s = true) (hown : s.vm.findClass RX1 = some m.cls) (hB : cb_B D t g A s H0 S n H locs) (j : Nat) (hj : j < n) {v : Int32} (hv : v = 0 ∨ v = 1) (hdg : decode cc pc = .ok (.putfield 84, 3))
    (kk : ∀ (H : Heap) (locs : List Loc), cb_B D t g A s H0 (cb_sSp S j v) n H locs → W p l e R s m args below meth c H locs cells slots Q (F0 m (pc + 3) ls rest)) : W p l e R s m args below meth c H locs cells slots Q (F0 m pc ls (.int v :: .ref (g (5 + 4 * j)) :: rest)) := by
  refine va_put (D := D) (ci := 3) (v := .int v) (ty := .boolean) (C := RX5) (T := TX5) (N := 8) hx hb hts in_X5 tyX5 tyX5_ok nmX5 hown hB.2.2.2 hB.1 hB.2.1 hB.2.2.1 (5 + 4 * j) (cb_w_at (by omega) (cb_e_p j)) rfl 3 (by decide) (hts _ q53) (fun _ h9 => h9) rfl (by decide +kernel) (by rcases hv with rfl | rfl <;> rfl) (by rcases hv with rfl | rfl <;> rfl) (Nat.le_of_ble_eq_true rfl) hdg (fun H1 locs1 hP hD hS => ?_)
  refine kk H1 locs1 ⟨?_, ?_, hS, hB.2.2.2⟩
  · rw [← cb_set_sp hj]; exact hP
  · rw [← cb_set_sp hj]; exact hD
theorem cb_putEn (hx : p.tables.exec = Jvm.exec) (hb : c.code = cc) (hts : ∀ w ∈ lw_all, w.before args s = true) (hown : s.vm.findClass RX1 = some m.cls) (hB : cb_B D t g A s H0 S n H locs) (j : Nat) (hj : j < n) {v : Int64} (hdg : decode cc pc = .ok (.putfield 80, 3))
    (kk : ∀ (H : Heap) (locs : List Loc), cb_B D t g A s H0 (cb_sEn S j v) n H locs → W p l e R s m args below meth c H locs cells slots Q (F0 m (pc + 3) ls rest)) : W p l e R s m args below meth c H locs cells slots Q (F0 m pc ls (.long v :: .ref (g (5 + 4 * j)) :: rest)) := by
  refine va_put (D := D) (ci := 3) (v := .long v) (ty := .long) (C := RX5) (T := TX5) (N := 8) hx hb hts in_X5 tyX5 tyX5_ok nmX5 hown hB.2.2.2 hB.1 hB.2.1 hB.2.2.1 (5 + 4 * j) (cb_w_at (by omega) (cb_e_p j)) rfl 7 (by decide) (hts _ q60) (fun _ h9 => h9) rfl (by decide +kernel) rfl rfl (Nat.le_of_ble_eq_true rfl) hdg (fun H1 locs1 hP hD hS => ?_)
  refine kk H1 locs1 ⟨?_, ?_, hS, hB.2.2.2⟩
  · rw [← cb_set_en hj]; exact hP
  · rw [← cb_set_en hj]; exact hD
theorem cb_aaP (hx : p.tables.exec = Jvm.exec) (hb : c.code = cc) (hB : cb_B D t g A s H0 S n H locs) (j : Nat) (hj : j < n) (hn : n ≤ 8) (hdg : decode cc pc = .ok (.aaload, 1))
    (kk : W p l e R s m args below meth c H locs cells slots Q (F0 m (pc + 1) ls (.ref (g (5 + 4 * j)) :: rest))) : W p l e R s m args below meth c H locs cells slots Q (F0 m pc ls (.int (nI j) :: .ref (g 4) :: rest)) := by
  refine va_aldq hx hb hB.2.2.2 hB.1 4 1 (cb_w_at (by omega) rfl) rfl (vp_in_nI (by omega) (by omega)) hdg ?_
  rw [nI_clamp (by omega), if_pos hj]
  exact kk
theorem cb_aaL (hx : p.tables.exec = Jvm.exec) (hb : c.code = cc) (hB : cb_B D t g A s H0 S n H locs) (w : Nat) (hw : w < 2) (hdg : decode cc pc = .ok (.aaload, 1))
    (kk : W p l e R s m args below meth c H locs cells slots Q (F0 m (pc + 1) ls (.ref (g (2 + w)) :: rest))) : W p l e R s m args below meth c H locs cells slots Q (F0 m pc ls (.int (nI w) :: .ref (g 1) :: rest)) := by
  refine va_aldq hx hb hB.2.2.2 hB.1 1 0 (cb_w_at (by omega) rfl) rfl (vp_in_nI (by omega) (by omega)) hdg ?_
  rw [nI_clamp (by omega), if_pos hw]
  exact kk
theorem cb_alP (hx : p.tables.exec = Jvm.exec) (hb : c.code = cc) (hB : cb_B D t g A s H0 S n H locs) (hdg : decode cc pc = .ok (.arraylength, 1))
    (kk : W p l e R s m args below meth c H locs cells slots Q (F0 m (pc + 1) ls (.int 8 :: rest))) : W p l e R s m args below meth c H locs cells slots Q (F0 m pc ls (.ref (g 4) :: rest)) :=
  va_alen (v := 8) hx hb hB.2.2.2 hB.1 4 1 (cb_w_at (by omega) rfl) rfl rfl hdg kk
theorem cb_ldI (hx : p.tables.exec = Jvm.exec) (hb : c.code = cc) (hB : cb_B D t g A s H0 S n H locs) (j : Nat) (hj : j < n) (k : Nat) (hk : k < 8) (hdg : decode cc pc = .ok (.iaload, 1))
    (kk : W p l e R s m args below meth c H locs cells slots Q (F0 m (pc + 1) ls (.int (cb_ii S j k) :: rest))) : W p l e R s m args below meth c H locs cells slots Q (F0 m pc ls (.int (nI k) :: .ref (g (6 + 4 * j)) :: rest)) := by
  refine va_iald hx hb hB.2.2.2 hB.1 (6 + 4 * j) 2 (cb_w_at (by omega) (cb_e_i j)) rfl (vp_in_nI hk (by omega)) hdg ?_
  rw [nI_clamp (by omega)]
  exact kk
theorem cb_stI (hx : p.tables.exec = Jvm.exec) (hb : c.code = cc) (hB : cb_B D t g A s H0 S n H locs) (j : Nat) (hj : j < n) (k : Nat) (hk : k < 8) {v : Int32} (hdg : decode cc pc = .ok (.iastore, 1))
    (kk : ∀ (H : Heap) (locs : List Loc), cb_B D t g A s H0 (cb_sIn S j k v) n H locs → W p l e R s m args below meth c H locs cells slots Q (F0 m (pc + 1) ls rest)) : W p l e R s m args below meth c H locs cells slots Q (F0 m pc ls (.int v :: .int (nI k) :: .ref (g (6 + 4 * j)) :: rest)) := by
  refine va_iast hx hb hB.2.2.2 hB.1 hB.2.1 hB.2.2.1 (6 + 4 * j) 2 (cb_w_at (by omega) (cb_e_i j)) rfl (vp_in_nI hk (by omega)) hdg (fun H1 locs1 hP hD hS => ?_)
  rw [nI_clamp (by omega)] at hP hD
  refine kk H1 locs1 ⟨?_, ?_, hS, hB.2.2.2⟩
  · rw [← cb_set_in hj]; exact hP
  · rw [← cb_set_in hj]; exact hD
theorem cb_ldS (hx : p.tables.exec = Jvm.exec) (hb : c.code = cc) (hB : cb_B D t g A s H0 S n H locs) (j : Nat) (hj : j < n) (k : Nat) (hk : k < 8) (hdg : decode cc pc = .ok (.iaload, 1))
    (kk : W p l e R s m args below meth c H locs cells slots Q (F0 m (pc + 1) ls (.int (cb_sm S j k) :: rest))) : W p l e R s m args below meth c H locs cells slots Q (F0 m pc ls (.int (nI k) :: .ref (g (7 + 4 * j)) :: rest)) := by
  refine va_iald hx hb hB.2.2.2 hB.1 (7 + 4 * j) 2 (cb_w_at (by omega) (cb_e_s j)) rfl (vp_in_nI hk (by omega)) hdg ?_
  rw [nI_clamp (by omega)]
  exact kk
theorem cb_stS (hx : p.tables.exec = Jvm.exec) (hb : c.code = cc) (hB : cb_B D t g A s H0 S n H locs) (j : Nat) (hj : j < n) (k : Nat) (hk : k < 8) {v : Int32} (hdg : decode cc pc = .ok (.iastore, 1))
    (kk : ∀ (H : Heap) (locs : List Loc), cb_B D t g A s H0 (cb_sSm S j k v) n H locs → W p l e R s m args below meth c H locs cells slots Q (F0 m (pc + 1) ls rest)) : W p l e R s m args below meth c H locs cells slots Q (F0 m pc ls (.int v :: .int (nI k) :: .ref (g (7 + 4 * j)) :: rest)) := by
  refine va_iast hx hb hB.2.2.2 hB.1 hB.2.1 hB.2.2.1 (7 + 4 * j) 2 (cb_w_at (by omega) (cb_e_s j)) rfl (vp_in_nI hk (by omega)) hdg (fun H1 locs1 hP hD hS => ?_)
  rw [nI_clamp (by omega)] at hP hD
  refine kk H1 locs1 ⟨?_, ?_, hS, hB.2.2.2⟩
  · rw [← cb_set_sm hj]; exact hP
  · rw [← cb_set_sm hj]; exact hD
theorem cb_ldO (hx : p.tables.exec = Jvm.exec) (hb : c.code = cc) (hB : cb_B D t g A s H0 S n H locs) (j : Nat) (hj : j < n) (k : Nat) (hk : k < 8) (hdg : decode cc pc = .ok (.iaload, 1))
    (kk : W p l e R s m args below meth c H locs cells slots Q (F0 m (pc + 1) ls (.int (cb_ou S j k) :: rest))) : W p l e R s m args below meth c H locs cells slots Q (F0 m pc ls (.int (nI k) :: .ref (g (8 + 4 * j)) :: rest)) := by
  refine va_iald hx hb hB.2.2.2 hB.1 (8 + 4 * j) 2 (cb_w_at (by omega) (cb_e_o j)) rfl (vp_in_nI hk (by omega)) hdg ?_
  rw [nI_clamp (by omega)]
  exact kk
theorem cb_stO (hx : p.tables.exec = Jvm.exec) (hb : c.code = cc) (hB : cb_B D t g A s H0 S n H locs) (j : Nat) (hj : j < n) (k : Nat) (hk : k < 8) {v : Int32} (hdg : decode cc pc = .ok (.iastore, 1))
    (kk : ∀ (H : Heap) (locs : List Loc), cb_B D t g A s H0 (cb_sOu S j k v) n H locs → W p l e R s m args below meth c H locs cells slots Q (F0 m (pc + 1) ls rest)) : W p l e R s m args below meth c H locs cells slots Q (F0 m pc ls (.int v :: .int (nI k) :: .ref (g (8 + 4 * j)) :: rest)) := by
  refine va_iast hx hb hB.2.2.2 hB.1 hB.2.1 hB.2.2.1 (8 + 4 * j) 2 (cb_w_at (by omega) (cb_e_o j)) rfl (vp_in_nI hk (by omega)) hdg (fun H1 locs1 hP hD hS => ?_)
  rw [nI_clamp (by omega)] at hP hD
  refine kk H1 locs1 ⟨?_, ?_, hS, hB.2.2.2⟩
  · rw [← cb_set_ou hj]; exact hP
  · rw [← cb_set_ou hj]; exact hD
/-- the law's encoded: whichever of the two it is -/
theorem cb_callE (hx : p.tables.exec = Jvm.exec) (hb : c.code = cc) {nL : Nat} (hml : c.maxLocals = nL) (hts : ∀ w ∈ lw_all, w.before args s = true) (hown : s.vm.findClass RX1 = some m.cls) (hB : cb_B D t g A s H0 S n H locs) (hz : va_Nw (.declares ⟨RX2, "encoded", "(I)I"⟩) s) (hRf : 3 ≤ R.frames) (hRl : 65 ≤ R.locals) (hRc : cells ≤ R.cells) (hRs : slots ≤ R.slots) (w : Nat) (hw : w < 2) {x : Int32} (hxr : cb_rng x) (hsz : ls.size = nL) (hr8 : (rest.map fun v => v.category).sum ≤ 8) (hdg : decode cc pc = .ok (.invokevirtual 40, 3))
    (kk : W p l e R s m args below meth c H locs cells slots Q (F0 m (pc + 3) ls (.int (cb_enc w x) :: rest))) : W p l e R s m args below meth c H locs cells slots Q (F0 m pc ls (.int x :: .ref (g (2 + w)) :: rest)) := by
  rcases (show w = 0 ∨ w = 1 by omega) with rfl | rfl
  · exact cb_callPi (va_runU (C := RX3) (owner := RX2) (x := ⟨RX2, "encoded", "(I)I"⟩) (As := [.int x]) (rest := rest) ⟨hx, hb, hml, hown, hts⟩ (met_eA l (g 2) x hxr) (va_cwA 1 hts (lw_U q79 q81 q82 q83 q5 q84) rfl rfl rfl hz (by decide +kernel) ⟨by show _ ≤ R.frames; exact Nat.le_trans (Nat.le_of_ble_eq_true rfl) hRf, by show _ ≤ R.locals; exact Nat.le_trans (Nat.le_of_ble_eq_true rfl) hRl⟩) (cb_preV (va_recv hB.2.2.2 hB.1 (ci := 1) (q0 := 2) rfl (cb_w_at (by omega) rfl))) rfl rfl hsz rfl (lv_room hr8) hdg ⟨hRc, hRs⟩) kk
  · exact cb_callPi (va_runU (C := RX4) (owner := RX2) (x := ⟨RX2, "encoded", "(I)I"⟩) (As := [.int x]) (rest := rest) ⟨hx, hb, hml, hown, hts⟩ (met_eM l (g 3) x hxr) (va_cwA 1 hts (lw_U q79 q81 q93 q94 q6 q95) rfl rfl rfl hz (by decide +kernel) ⟨by show _ ≤ R.frames; exact Nat.le_trans (Nat.le_of_ble_eq_true rfl) hRf, by show _ ≤ R.locals; exact Nat.le_trans (Nat.le_of_ble_eq_true rfl) hRl⟩) (cb_preV (va_recv hB.2.2.2 hB.1 (ci := 2) (q0 := 3) rfl (cb_w_at (by omega) rfl))) rfl rfl hsz rfl (lv_room hr8) hdg ⟨hRc, hRs⟩) kk
theorem cb_callD (hx : p.tables.exec = Jvm.exec) (hb : c.code = cc) {nL : Nat} (hml : c.maxLocals = nL) (hts : ∀ w ∈ lw_all, w.before args s = true) (hown : s.vm.findClass RX1 = some m.cls) (hB : cb_B D t g A s H0 S n H locs) (hz : va_Nw (.declares ⟨RX2, "decoded", "(I)I"⟩) s) (hRf : 1 ≤ R.frames) (hRl : 24 ≤ R.locals) (hRc : cells ≤ R.cells) (hRs : slots ≤ R.slots) (w : Nat) (hw : w < 2) {k : Nat} (hk : k < 256) (hsz : ls.size = nL) (hr8 : (rest.map fun v => v.category).sum ≤ 8) (hdg : decode cc pc = .ok (.invokevirtual 66, 3))
    (kk : W p l e R s m args below meth c H locs cells slots Q (F0 m (pc + 3) ls (.int (cb_dec w k) :: rest))) : W p l e R s m args below meth c H locs cells slots Q (F0 m pc ls (.int (nI k) :: .ref (g (2 + w)) :: rest)) := by
  rcases (show w = 0 ∨ w = 1 by omega) with rfl | rfl
  · exact cb_callPi (va_runU (C := RX3) (owner := RX2) (x := ⟨RX2, "decoded", "(I)I"⟩) (As := [.int (nI k)]) (rest := rest) ⟨hx, hb, hml, hown, hts⟩ (met_dA l (g 2) k hk) (va_cwA 1 hts (lw_U q163 q165 q166 q167 q5 q168) rfl rfl rfl hz (by decide +kernel) ⟨by show _ ≤ R.frames; exact Nat.le_trans (Nat.le_of_ble_eq_true rfl) hRf, by show _ ≤ R.locals; exact Nat.le_trans (Nat.le_of_ble_eq_true rfl) hRl⟩) (cb_preV (va_recv hB.2.2.2 hB.1 (ci := 1) (q0 := 2) rfl (cb_w_at (by omega) rfl))) rfl rfl hsz rfl (lv_room hr8) hdg ⟨hRc, hRs⟩) kk
  · exact cb_callPi (va_runU (C := RX4) (owner := RX2) (x := ⟨RX2, "decoded", "(I)I"⟩) (As := [.int (nI k)]) (rest := rest) ⟨hx, hb, hml, hown, hts⟩ (met_dM l (g 3) k hk) (va_cwA 1 hts (lw_U q163 q165 q169 q170 q6 q171) rfl rfl rfl hz (by decide +kernel) ⟨by show _ ≤ R.frames; exact Nat.le_trans (Nat.le_of_ble_eq_true rfl) hRf, by show _ ≤ R.locals; exact Nat.le_trans (Nat.le_of_ble_eq_true rfl) hRl⟩) (cb_preV (va_recv hB.2.2.2 hB.1 (ci := 2) (q0 := 3) rfl (cb_w_at (by omega) rfl))) rfl rfl hsz rfl (lv_room hr8) hdg ⟨hRc, hRs⟩) kk
end RB
end
section
/-! THE PURE STEPS of both sides, the invariant, and the form of the bridge's contracts -/
set_option maxRecDepth 100000
/-- the low byte -/
def cb_by (x : Int32) : Nat := x.toBitVec.toNat % 2 ^ 8
theorem cb_by_lt (x : Int32) : cb_by x < 256 := Nat.mod_lt _ (by decide)
theorem cb_by_and (x : Int32) : x &&& 255 = nI (cb_by x) := pk_and x 8 (by decide)
theorem cb_by_nI {n : Nat} (h : n < 256) : cb_by (nI n) = n := by
  unfold cb_by
  rw [pk_tn (by omega)]
  omega
def cb_isB (x : Int32) : Prop := x = nI (cb_by x)
theorem cb_isB_nI {n : Nat} (h : n < 256) : cb_isB (nI n) := by
  unfold cb_isB
  rw [cb_by_nI h]
theorem cb_isB_enc (w : Nat) {x : Int32} (h : cb_rng x) : cb_isB (cb_enc w x) := by
  obtain ⟨n, h1, h2⟩ := cb_enc_byte w h
  rw [h2]
  exact cb_isB_nI h1
/-- what every state holds -/
def cb_ok (S : cb_S) : Prop := (∀ j, j < 8 → cb_lw S j < 2 ∧ (0 ≤ (cb_gn S j).toInt ∧ (cb_gn S j).toInt ≤ 1024) ∧ (cb_mu S j = 0 ∨ cb_mu S j = 1) ∧ (cb_sp S j = 0 ∨ cb_sp S j = 1) ∧ ∀ k, k < 8 → cb_isB (cb_ii S j k)) ∧ 1 ≤ (cb_mo S).toInt ∧ (cb_mo S).toInt ≤ 8
def cb_fLaw (S : cb_S) (p w : Int32) : Int32 × cb_S := if cb_ix p 8 = true ∧ cb_ix w 2 = true then (1, cb_sLw S p.toNatClampNeg w.toNatClampNeg) else (0, S)
def cb_fGain (S : cb_S) (p v : Int32) : Int32 × cb_S := if cb_ix p 8 = true ∧ cb_ix v 1025 = true then (1, cb_sGn S p.toNatClampNeg v) else (0, S)
def cb_fMute (S : cb_S) (p v : Int32) : Int32 × cb_S := if cb_ix p 8 = true then (1, cb_sMu S p.toNatClampNeg v) else (0, S)
def cb_fSpk (S : cb_S) (n : Int32) : Int32 × cb_S := if 1 ≤ n ∧ n ≤ 8 then (1, cb_sMo S n) else (0, S)
def cb_fPut (S : cb_S) (p k v : Int32) : Int32 × cb_S := if cb_ix p 8 = true ∧ cb_ix k 8 = true then (1, cb_sIn S p.toNatClampNeg k.toNatClampNeg (nI (cb_by v))) else (0, S)
def cb_fOut (S : cb_S) (p k : Int32) : Int32 := if cb_ix p 8 = true ∧ cb_ix k 8 = true then cb_ou S p.toNatClampNeg k.toNatClampNeg else -1
def cb_fEnc (w x : Int32) : Int32 := if cb_ix w 2 = true then cb_enc w.toNatClampNeg (cb_sat x.toInt64) else -1
def cb_rampV (S : cb_S) (j : Nat) (a d : Int32) (k : Nat) : Int32 := cb_enc (cb_lw S j) (cb_sat (a.toInt64 + d.toInt64 * (nI k).toInt64))
def cb_rampS (S : cb_S) (j : Nat) (a d : Int32) : Nat → cb_S
  | 0 => S
  | k + 1 => cb_sIn (cb_rampS S j a d k) j k (cb_rampV S j a d k)
def cb_fRamp (S : cb_S) (p a d : Int32) : Int32 × cb_S := if cb_ix p 8 = true then (1, cb_rampS S p.toNatClampNeg a d 8) else (0, S)
theorem cb_rampS_lw (S : cb_S) (j : Nat) (a d : Int32) : ∀ k, cb_lw (cb_rampS S j a d k) = cb_lw S
  | 0 => rfl
  | k + 1 => cb_rampS_lw S j a d k
/-- one sample, scaled -/
def cb_v (S : cb_S) (j k : Nat) : Int32 := cb_sat (cb_fl (cb_dec (cb_lw S j) (cb_by (cb_ii S j k)) * cb_gn S j)).toInt64
def cb_measL (S : cb_S) (j : Nat) : Nat → cb_S
  | 0 => cb_sSp (cb_sEn S j 0) j 0
  | k + 1 => cb_sEn (cb_sSm (cb_measL S j k) j k (cb_v S j k)) j (cb_en (cb_measL S j k) j + (cb_v S j k).toInt64 * (cb_v S j k).toInt64)
theorem cb_measL_same (S : cb_S) (j : Nat) : ∀ k, cb_lw (cb_measL S j k) = cb_lw S ∧ cb_gn (cb_measL S j k) = cb_gn S ∧ cb_ii (cb_measL S j k) = cb_ii S ∧ cb_mu (cb_measL S j k) = cb_mu S ∧ cb_mo (cb_measL S j k) = cb_mo S ∧ cb_ou (cb_measL S j k) = cb_ou S
  | 0 => ⟨rfl, rfl, rfl, rfl, rfl, rfl⟩
  | k + 1 => cb_measL_same S j k
/-- the contracts' form: the addresses are apart, the world holds S; behind it it holds S', nothing else has changed -/
def cb_inj (g : Nat → Nat) : Prop := ∀ i j, i < 37 → j < 37 → g i = g j → i = j
def cb_A (g : Nat → Nat) : Nat → Prop := fun q => ∃ k, k < 37 ∧ q = g k
def cb_Pre (D : va_G) (t : Nat → ClassId) (g : Nat → Nat) (S : cb_S) (U : State) : Prop := va_P D cbCl (cb_w t g S 8) U.heap ∧ va_K D cbCl (cb_tys t) U ∧ cb_inj g ∧ va_Nw (.declares ⟨RX2, "encoded", "(I)I"⟩) U ∧ va_Nw (.declares ⟨RX2, "decoded", "(I)I"⟩) U
def cb_Qb (D : va_G) (t : Nat → ClassId) (g : Nat → Nat) (r : Option Value) (S' : cb_S) : Array Value → State → Outcome → State → Prop := fun _ st o t' => o = .returned r ∧ va_P D cbCl (cb_w t g S' 8) t'.heap ∧ va_F (cb_A g) st t'
theorem cb_D_of {t : Nat → ClassId} {g : Nat → Nat} {S : cb_S} {A : Nat → Prop} (hI : cb_inj g) (hA : ∀ k, k < 37 → A (g k)) : va_D A (cb_w t g S 8) := by
  have key : ∀ (k : Nat) (q : Nat × va_E), (cb_w t g S 8)[k]? = some q → k < 37 ∧ q.1 = g k := by
    intro k q hk
    have hl := (List.getElem?_eq_some_iff.mp hk).1
    rw [cb_w_len] at hl
    rw [cb_w_at hl rfl] at hk
    cases hk
    exact ⟨by omega, rfl⟩
  refine ⟨fun i j x y hx hy hxy => ?_, fun k q hk => ?_⟩
  · obtain ⟨h1, h2⟩ := key i x hx
    obtain ⟨h3, h4⟩ := key j y hy
    exact hI i j h1 h3 (by rw [← h2, ← h4]; exact hxy)
  · obtain ⟨h1, h2⟩ := key k q hk
    rw [h2]
    exact hA k h1
theorem cb_start {D : va_G} {t : Nat → ClassId} {g : Nat → Nat} {S : cb_S} {U : State} (h : cb_Pre D t g S U) : cb_B D t g (cb_A g) U U.heap S 8 U.heap [] := ⟨h.1, cb_D_of h.2.2.1 (fun k hk => ⟨k, hk, rfl⟩), va_S.rf, h.2.1⟩
theorem cb_blind {D : va_G} {t : Nat → ClassId} {g : Nat → Nat} {S : cb_S} {av : List Value} : FrameBlind (va_Pc av (cb_Pre D t g S)) := by
  intro a U f mk h
  obtain ⟨h1, h2, h3, h4, h5, h6⟩ := h
  exact ⟨h1, h2, va_K.moved (u := U) (U := U.calling f mk a) (Vm.Alike.refl U.vm) h3, h4, va_tabs (u := U) rfl rfl h5, va_tabs (u := U) rfl rfl h6⟩
section CBC
variable {p : Program} {l : Launch} {e : Env} {R : Room} {s : State} {m : MethodId} {args : Array Value} {below : List Frame} {meth : Method} {c : Code} {H : Heap} {locs : List Loc} {cells slots : Nat} {Q : State → Prop}
variable {pc : Nat} {ls : Array Slot} {rest st0 : List Value} {a : Array Value} {D : va_G} {t : Nat → ClassId} {g : Nat → Nat} {A : Nat → Prop} {H0 : Heap} {S S' : cb_S}
theorem cb_preB {av : List Value} (hB : cb_B D t g A s H0 S 8 H locs) (hI : cb_inj g) (h1 : va_Nw (.declares ⟨RX2, "encoded", "(I)I"⟩) s) (h2 : va_Nw (.declares ⟨RX2, "decoded", "(I)I"⟩) s) : PreS s H (va_Pc av (cb_Pre D t g S)) av :=
  ⟨cb_blind, fun U hU hW => ⟨rfl, by rw [hU]; exact hB.1, va_K.moved hW.alike hB.2.2.2, hI, va_Nw.warmD hW h1, va_Nw.warmD hW h2⟩⟩
theorem cb_preBV {av : List Value} (hB : cb_B D t g A s H0 S 8 H locs) (hI : cb_inj g) (h1 : va_Nw (.declares ⟨RX2, "encoded", "(I)I"⟩) s) (h2 : va_Nw (.declares ⟨RX2, "decoded", "(I)I"⟩) s) : PreV s H RX1 (g 0) (va_Pc (.ref (g 0) :: av) (cb_Pre D t g S)) av :=
  ⟨cb_blind, va_recv hB.2.2.2 hB.1 (ci := 0) (q0 := 0) rfl (cb_w_at (by omega) rfl), fun U hU hW => ⟨rfl, by rw [hU]; exact hB.1, va_K.moved hW.alike hB.2.2.2, hI, va_Nw.warmD hW h1, va_Nw.warmD hW h2⟩⟩
/-- a call of a method of the bridge out of one: the world goes from S to S' -/
theorem cb_callW {r : Option Value} (hr : va_Run p l e R s m args below meth c H locs cells slots 0 0 (F0 m pc ls st0) rest (cb_Qb D t g r S' a) (cb_A g)) (hB : cb_B D t g A s H0 S 8 H locs) (hI : cb_inj g) (hA : ∀ k, k < 37 → A (g k))
    (kk : ∀ (H : Heap) (locs : List Loc), cb_B D t g A s H0 S' 8 H locs → W p l e R s m args below meth c H locs cells slots Q (F0 m (pc + 3) ls (r.toList ++ rest))) : W p l e R s m args below meth c H locs cells slots Q (F0 m pc ls st0) := by
  intro T hT X
  obtain ⟨v, st₀, t', T', L, h0, X', hL, e1, e2, ⟨hv, hP, hF⟩, go⟩ := hr T hT X
  cases hv
  have hS : va_S A H0 T'.heap (locs ++ L) := by
    obtain ⟨s1, s2, s3⟩ := hB.2.2.1
    obtain ⟨f1, f2⟩ := hF
    rw [h0] at f1 f2
    rw [e1]
    refine ⟨Nat.le_trans s1 f1, fun q h1 h2 => ?_, fun q hq => ?_⟩
    · rw [f2 q (by omega) (fun ⟨k, hk, ek⟩ => h2 (by rw [ek]; exact hA k hk))]
      exact s2 q h1 h2
    · rcases List.mem_append.mp hq with h | h
      · exact s3 q h
      · obtain ⟨k, hk, ek⟩ := hL q h
        rw [ek]
        exact hA k hk
  obtain ⟨tt, a1, b1⟩ := kk T'.heap (locs ++ L) ⟨by rw [e1]; exact hP, cb_D_of hI hA, hS, hB.2.2.2⟩ T' rfl X'
  exact ⟨tt, go tt a1, b1⟩
end CBC
end
section
/-! the bridge's methods without loops -/
set_option maxRecDepth 100000
set_option maxHeartbeats 4000000 in
set_option maxRecDepth 100000 in
theorem met_bLaw (l : Launch) (D : va_G) (tc : Nat → ClassId) (g : Nat → Nat) (S : cb_S) (x1 x2 : Int32) : Met l yX1_law (ws_ yX1_law cX1_law 3 (some .boolean)) ({ frames := 1, cells := 0, slots := 0, locals := 22 } : Room) (va_Pc [.ref (g 0), .int x1, .int x2] (cb_Pre D tc g S)) (cb_Qb D tc g (some (.int (cb_fLaw S x1 x2).1)) (cb_fLaw S x1 x2).2) 0 0 (cb_A g) := by
  refine Met.ofW (cc := cX1_law) (maxL := 3) (ret := (some .boolean)) (by decide) rfl ?_
  intro p e s m args below meth c s₁ B hml hv
  obtain ⟨rfl, hv⟩ := hv
  have hB := cb_start hv
  obtain ⟨-, -, hI, hzE, hzD⟩ := hv
  have hx := B.exec
  have hb := B.bytes
  have hr := B.returns
  have hts := atoms_spec (ws := (ws_ yX1_law cX1_law 3 (some .boolean))) B.pre
  have hts : ∀ w ∈ lw_all, w.before _ s = true := fun w h => hts w (List.mem_cons_of_mem _ h)
  have hown : s.vm.findClass RX1 = some m.cls := findClass_of_methodNamed B.named
  have hlocks := B.notSynchronized
  have hl := lv_entry ([.ref (g 0), .int x1, .int x2]) (n := 3) (Nat.le_of_ble_eq_true rfl)
  rw [lg_entry_eq]
  generalize (lg_sl ([.ref (g 0), .int x1, .int x2]) ++ List.replicate (3 - (lg_sl ([.ref (g 0), .int x1, .int x2])).length) Slot.unset).toArray = ls at hl ⊢
  have hl : lv_has ls 3 [(0, .ref (g 0)), (1, .int x1), (2, .int x2)] := hl
  by_cases h1 : cb_ix x1 8 = true
  · by_cases h2 : cb_ix x2 2 = true
    · obtain ⟨j, hj, rfl⟩ := cb_ix_of h1 (by decide)
      obtain ⟨w, hw, rfl⟩ := cb_ix_of h2 (by decide)
      rw [show cb_fLaw S (nI j) (nI w) = (1, cb_sLw S j w) from by unfold cb_fLaw; rw [if_pos ⟨h1, h2⟩, nI_clamp (by omega), nI_clamp (by omega)]]
      refine lv_iload_n hx hb dX1_law_0 rfl (lv_at hl 1 rfl) ?_
      refine lv_iconst (v := 0) hx hb dX1_law_1 (by decide) ?_
      refine lv_bipush (v := 7) hx hb dX1_law_2 (by decide) ?_
      refine cb_callPi (va_runS (As := [.int (nI j), .int 0, .int 7]) (rest := []) ⟨hx, hb, hml, hown, hts⟩ (met_ix l (nI j) 7 8 (by decide)) (va_cwS 3 hts (lw_S q118 q119 q3 q120) rfl rfl rfl (by decide +kernel) ⟨Nat.le_of_ble_eq_true rfl, Nat.le_of_ble_eq_true rfl⟩) cb_preS rfl rfl hl.1 rfl (lv_room (Nat.le_of_ble_eq_true rfl)) dX1_law_4 ⟨Nat.zero_le _, Nat.zero_le _⟩) ?_
      refine cb_top (y := 1) (if_pos h1) ?_
      refine lv_if_eq (tgt := 19) hx hb dX1_law_7 (by decide) (fun cz => (absurd cz (by decide) : False).elim) (fun cz => ?_)
      refine lv_iload_n hx hb dX1_law_10 rfl (lv_at hl 2 rfl) ?_
      refine lv_iconst (v := 0) hx hb dX1_law_11 (by decide) ?_
      refine lv_iconst (v := 1) hx hb dX1_law_12 (by decide) ?_
      refine cb_callPi (va_runS (As := [.int (nI w), .int 0, .int 1]) (rest := []) ⟨hx, hb, hml, hown, hts⟩ (met_ix l (nI w) 1 2 (by decide)) (va_cwS 3 hts (lw_S q118 q119 q3 q120) rfl rfl rfl (by decide +kernel) ⟨Nat.le_of_ble_eq_true rfl, Nat.le_of_ble_eq_true rfl⟩) cb_preS rfl rfl hl.1 rfl (lv_room (Nat.le_of_ble_eq_true rfl)) dX1_law_13 ⟨Nat.zero_le _, Nat.zero_le _⟩) ?_
      refine cb_top (y := 1) (if_pos h2) ?_
      refine lv_if_ne (tgt := 21) hx hb dX1_law_16 (by decide) (fun cz => ?_) (fun cz => (absurd cz (by decide) : False).elim)
      refine lv_aload_n hx hb dX1_law_21 rfl (lv_at hl 0 rfl) ?_
      refine cb_getB hx hb hts hown hB 1 (by decide) q105 rfl dX1_law_22 ?_
      refine lv_iload_n hx hb dX1_law_25 rfl (lv_at hl 1 rfl) ?_
      refine cb_aaP hx hb hB j hj (by omega) dX1_law_26 ?_
      refine lv_aload_n hx hb dX1_law_27 rfl (lv_at hl 0 rfl) ?_
      refine cb_getB hx hb hts hown hB 0 (by decide) q104 rfl dX1_law_28 ?_
      refine lv_iload_n hx hb dX1_law_31 rfl (lv_at hl 2 rfl) ?_
      refine cb_aaL hx hb hB w hw dX1_law_32 ?_
      refine cb_putLw hx hb hts hown hB j hj dX1_law_33 (fun H locs hB => ?_)
      refine lv_iconst (v := 1) hx hb dX1_law_36 (by decide) ?_
      exact W.zret (v := 1) hx hb hr rfl (fun t9 ht hW => ⟨cb_r (rfl), by rw [ht]; exact hB.1, hB.2.2.1.F ht⟩) hB.2.2.1.2.2 dX1_law_37
    · rw [show cb_fLaw S x1 x2 = (0, S) from by unfold cb_fLaw; rw [if_neg (fun q => h2 q.2)]]
      refine lv_iload_n hx hb dX1_law_0 rfl (lv_at hl 1 rfl) ?_
      refine lv_iconst (v := 0) hx hb dX1_law_1 (by decide) ?_
      refine lv_bipush (v := 7) hx hb dX1_law_2 (by decide) ?_
      refine cb_callPi (va_runS (As := [.int x1, .int 0, .int 7]) (rest := []) ⟨hx, hb, hml, hown, hts⟩ (met_ix l x1 7 8 (by decide)) (va_cwS 3 hts (lw_S q118 q119 q3 q120) rfl rfl rfl (by decide +kernel) ⟨Nat.le_of_ble_eq_true rfl, Nat.le_of_ble_eq_true rfl⟩) cb_preS rfl rfl hl.1 rfl (lv_room (Nat.le_of_ble_eq_true rfl)) dX1_law_4 ⟨Nat.zero_le _, Nat.zero_le _⟩) ?_
      refine cb_top (y := 1) (if_pos h1) ?_
      refine lv_if_eq (tgt := 19) hx hb dX1_law_7 (by decide) (fun cz => (absurd cz (by decide) : False).elim) (fun cz => ?_)
      refine lv_iload_n hx hb dX1_law_10 rfl (lv_at hl 2 rfl) ?_
      refine lv_iconst (v := 0) hx hb dX1_law_11 (by decide) ?_
      refine lv_iconst (v := 1) hx hb dX1_law_12 (by decide) ?_
      refine cb_callPi (va_runS (As := [.int x2, .int 0, .int 1]) (rest := []) ⟨hx, hb, hml, hown, hts⟩ (met_ix l x2 1 2 (by decide)) (va_cwS 3 hts (lw_S q118 q119 q3 q120) rfl rfl rfl (by decide +kernel) ⟨Nat.le_of_ble_eq_true rfl, Nat.le_of_ble_eq_true rfl⟩) cb_preS rfl rfl hl.1 rfl (lv_room (Nat.le_of_ble_eq_true rfl)) dX1_law_13 ⟨Nat.zero_le _, Nat.zero_le _⟩) ?_
      refine cb_top (y := 0) (if_neg h2) ?_
      refine lv_if_ne (tgt := 21) hx hb dX1_law_16 (by decide) (fun cz => (cz rfl : False).elim) (fun cz => ?_)
      refine lv_iconst (v := 0) hx hb dX1_law_19 (by decide) ?_
      exact W.zret (v := 0) hx hb hr rfl (fun t9 ht hW => ⟨cb_r (rfl), by rw [ht]; exact hB.1, hB.2.2.1.F ht⟩) hB.2.2.1.2.2 dX1_law_20
  · rw [show cb_fLaw S x1 x2 = (0, S) from by unfold cb_fLaw; rw [if_neg (fun q => h1 q.1)]]
    refine lv_iload_n hx hb dX1_law_0 rfl (lv_at hl 1 rfl) ?_
    refine lv_iconst (v := 0) hx hb dX1_law_1 (by decide) ?_
    refine lv_bipush (v := 7) hx hb dX1_law_2 (by decide) ?_
    refine cb_callPi (va_runS (As := [.int x1, .int 0, .int 7]) (rest := []) ⟨hx, hb, hml, hown, hts⟩ (met_ix l x1 7 8 (by decide)) (va_cwS 3 hts (lw_S q118 q119 q3 q120) rfl rfl rfl (by decide +kernel) ⟨Nat.le_of_ble_eq_true rfl, Nat.le_of_ble_eq_true rfl⟩) cb_preS rfl rfl hl.1 rfl (lv_room (Nat.le_of_ble_eq_true rfl)) dX1_law_4 ⟨Nat.zero_le _, Nat.zero_le _⟩) ?_
    refine cb_top (y := 0) (if_neg h1) ?_
    refine lv_if_eq (tgt := 19) hx hb dX1_law_7 (by decide) (fun cz => ?_) (fun cz => (cz rfl : False).elim)
    refine lv_iconst (v := 0) hx hb dX1_law_19 (by decide) ?_
    exact W.zret (v := 0) hx hb hr rfl (fun t9 ht hW => ⟨cb_r (rfl), by rw [ht]; exact hB.1, hB.2.2.1.F ht⟩) hB.2.2.1.2.2 dX1_law_20
set_option maxHeartbeats 4000000 in
set_option maxRecDepth 100000 in
theorem met_bGain (l : Launch) (D : va_G) (tc : Nat → ClassId) (g : Nat → Nat) (S : cb_S) (x1 x2 : Int32) : Met l yX1_gain (ws_ yX1_gain cX1_gain 3 (some .boolean)) ({ frames := 1, cells := 0, slots := 0, locals := 22 } : Room) (va_Pc [.ref (g 0), .int x1, .int x2] (cb_Pre D tc g S)) (cb_Qb D tc g (some (.int (cb_fGain S x1 x2).1)) (cb_fGain S x1 x2).2) 0 0 (cb_A g) := by
  refine Met.ofW (cc := cX1_gain) (maxL := 3) (ret := (some .boolean)) (by decide) rfl ?_
  intro p e s m args below meth c s₁ B hml hv
  obtain ⟨rfl, hv⟩ := hv
  have hB := cb_start hv
  obtain ⟨-, -, hI, hzE, hzD⟩ := hv
  have hx := B.exec
  have hb := B.bytes
  have hr := B.returns
  have hts := atoms_spec (ws := (ws_ yX1_gain cX1_gain 3 (some .boolean))) B.pre
  have hts : ∀ w ∈ lw_all, w.before _ s = true := fun w h => hts w (List.mem_cons_of_mem _ h)
  have hown : s.vm.findClass RX1 = some m.cls := findClass_of_methodNamed B.named
  have hlocks := B.notSynchronized
  have hl := lv_entry ([.ref (g 0), .int x1, .int x2]) (n := 3) (Nat.le_of_ble_eq_true rfl)
  rw [lg_entry_eq]
  generalize (lg_sl ([.ref (g 0), .int x1, .int x2]) ++ List.replicate (3 - (lg_sl ([.ref (g 0), .int x1, .int x2])).length) Slot.unset).toArray = ls at hl ⊢
  have hl : lv_has ls 3 [(0, .ref (g 0)), (1, .int x1), (2, .int x2)] := hl
  by_cases h1 : cb_ix x1 8 = true
  · by_cases h2 : cb_ix x2 1025 = true
    · obtain ⟨j, hj, rfl⟩ := cb_ix_of h1 (by decide)
      rw [show cb_fGain S (nI j) x2 = (1, cb_sGn S j x2) from by unfold cb_fGain; rw [if_pos ⟨h1, h2⟩, nI_clamp (by omega)]]
      refine lv_iload_n hx hb dX1_gain_0 rfl (lv_at hl 1 rfl) ?_
      refine lv_iconst (v := 0) hx hb dX1_gain_1 (by decide) ?_
      refine lv_bipush (v := 7) hx hb dX1_gain_2 (by decide) ?_
      refine cb_callPi (va_runS (As := [.int (nI j), .int 0, .int 7]) (rest := []) ⟨hx, hb, hml, hown, hts⟩ (met_ix l (nI j) 7 8 (by decide)) (va_cwS 3 hts (lw_S q118 q119 q3 q120) rfl rfl rfl (by decide +kernel) ⟨Nat.le_of_ble_eq_true rfl, Nat.le_of_ble_eq_true rfl⟩) cb_preS rfl rfl hl.1 rfl (lv_room (Nat.le_of_ble_eq_true rfl)) dX1_gain_4 ⟨Nat.zero_le _, Nat.zero_le _⟩) ?_
      refine cb_top (y := 1) (if_pos h1) ?_
      refine lv_if_eq (tgt := 21) hx hb dX1_gain_7 (by decide) (fun cz => (absurd cz (by decide) : False).elim) (fun cz => ?_)
      refine lv_iload_n hx hb dX1_gain_10 rfl (lv_at hl 2 rfl) ?_
      refine lv_iconst (v := 0) hx hb dX1_gain_11 (by decide) ?_
      refine lv_sipush (v := 1024) hx hb dX1_gain_12 (by decide) ?_
      refine cb_callPi (va_runS (As := [.int x2, .int 0, .int 1024]) (rest := []) ⟨hx, hb, hml, hown, hts⟩ (met_ix l x2 1024 1025 (by decide)) (va_cwS 3 hts (lw_S q118 q119 q3 q120) rfl rfl rfl (by decide +kernel) ⟨Nat.le_of_ble_eq_true rfl, Nat.le_of_ble_eq_true rfl⟩) cb_preS rfl rfl hl.1 rfl (lv_room (Nat.le_of_ble_eq_true rfl)) dX1_gain_15 ⟨Nat.zero_le _, Nat.zero_le _⟩) ?_
      refine cb_top (y := 1) (if_pos h2) ?_
      refine lv_if_ne (tgt := 23) hx hb dX1_gain_18 (by decide) (fun cz => ?_) (fun cz => (absurd cz (by decide) : False).elim)
      refine lv_aload_n hx hb dX1_gain_23 rfl (lv_at hl 0 rfl) ?_
      refine cb_getB hx hb hts hown hB 1 (by decide) q105 rfl dX1_gain_24 ?_
      refine lv_iload_n hx hb dX1_gain_27 rfl (lv_at hl 1 rfl) ?_
      refine cb_aaP hx hb hB j hj (by omega) dX1_gain_28 ?_
      refine lv_iload_n hx hb dX1_gain_29 rfl (lv_at hl 2 rfl) ?_
      refine cb_putGn hx hb hts hown hB j hj dX1_gain_30 (fun H locs hB => ?_)
      refine lv_iconst (v := 1) hx hb dX1_gain_33 (by decide) ?_
      exact W.zret (v := 1) hx hb hr rfl (fun t9 ht hW => ⟨cb_r (rfl), by rw [ht]; exact hB.1, hB.2.2.1.F ht⟩) hB.2.2.1.2.2 dX1_gain_34
    · rw [show cb_fGain S x1 x2 = (0, S) from by unfold cb_fGain; rw [if_neg (fun q => h2 q.2)]]
      refine lv_iload_n hx hb dX1_gain_0 rfl (lv_at hl 1 rfl) ?_
      refine lv_iconst (v := 0) hx hb dX1_gain_1 (by decide) ?_
      refine lv_bipush (v := 7) hx hb dX1_gain_2 (by decide) ?_
      refine cb_callPi (va_runS (As := [.int x1, .int 0, .int 7]) (rest := []) ⟨hx, hb, hml, hown, hts⟩ (met_ix l x1 7 8 (by decide)) (va_cwS 3 hts (lw_S q118 q119 q3 q120) rfl rfl rfl (by decide +kernel) ⟨Nat.le_of_ble_eq_true rfl, Nat.le_of_ble_eq_true rfl⟩) cb_preS rfl rfl hl.1 rfl (lv_room (Nat.le_of_ble_eq_true rfl)) dX1_gain_4 ⟨Nat.zero_le _, Nat.zero_le _⟩) ?_
      refine cb_top (y := 1) (if_pos h1) ?_
      refine lv_if_eq (tgt := 21) hx hb dX1_gain_7 (by decide) (fun cz => (absurd cz (by decide) : False).elim) (fun cz => ?_)
      refine lv_iload_n hx hb dX1_gain_10 rfl (lv_at hl 2 rfl) ?_
      refine lv_iconst (v := 0) hx hb dX1_gain_11 (by decide) ?_
      refine lv_sipush (v := 1024) hx hb dX1_gain_12 (by decide) ?_
      refine cb_callPi (va_runS (As := [.int x2, .int 0, .int 1024]) (rest := []) ⟨hx, hb, hml, hown, hts⟩ (met_ix l x2 1024 1025 (by decide)) (va_cwS 3 hts (lw_S q118 q119 q3 q120) rfl rfl rfl (by decide +kernel) ⟨Nat.le_of_ble_eq_true rfl, Nat.le_of_ble_eq_true rfl⟩) cb_preS rfl rfl hl.1 rfl (lv_room (Nat.le_of_ble_eq_true rfl)) dX1_gain_15 ⟨Nat.zero_le _, Nat.zero_le _⟩) ?_
      refine cb_top (y := 0) (if_neg h2) ?_
      refine lv_if_ne (tgt := 23) hx hb dX1_gain_18 (by decide) (fun cz => (cz rfl : False).elim) (fun cz => ?_)
      refine lv_iconst (v := 0) hx hb dX1_gain_21 (by decide) ?_
      exact W.zret (v := 0) hx hb hr rfl (fun t9 ht hW => ⟨cb_r (rfl), by rw [ht]; exact hB.1, hB.2.2.1.F ht⟩) hB.2.2.1.2.2 dX1_gain_22
  · rw [show cb_fGain S x1 x2 = (0, S) from by unfold cb_fGain; rw [if_neg (fun q => h1 q.1)]]
    refine lv_iload_n hx hb dX1_gain_0 rfl (lv_at hl 1 rfl) ?_
    refine lv_iconst (v := 0) hx hb dX1_gain_1 (by decide) ?_
    refine lv_bipush (v := 7) hx hb dX1_gain_2 (by decide) ?_
    refine cb_callPi (va_runS (As := [.int x1, .int 0, .int 7]) (rest := []) ⟨hx, hb, hml, hown, hts⟩ (met_ix l x1 7 8 (by decide)) (va_cwS 3 hts (lw_S q118 q119 q3 q120) rfl rfl rfl (by decide +kernel) ⟨Nat.le_of_ble_eq_true rfl, Nat.le_of_ble_eq_true rfl⟩) cb_preS rfl rfl hl.1 rfl (lv_room (Nat.le_of_ble_eq_true rfl)) dX1_gain_4 ⟨Nat.zero_le _, Nat.zero_le _⟩) ?_
    refine cb_top (y := 0) (if_neg h1) ?_
    refine lv_if_eq (tgt := 21) hx hb dX1_gain_7 (by decide) (fun cz => ?_) (fun cz => (cz rfl : False).elim)
    refine lv_iconst (v := 0) hx hb dX1_gain_21 (by decide) ?_
    exact W.zret (v := 0) hx hb hr rfl (fun t9 ht hW => ⟨cb_r (rfl), by rw [ht]; exact hB.1, hB.2.2.1.F ht⟩) hB.2.2.1.2.2 dX1_gain_22
set_option maxHeartbeats 4000000 in
set_option maxRecDepth 100000 in
theorem met_bPut (l : Launch) (D : va_G) (tc : Nat → ClassId) (g : Nat → Nat) (S : cb_S) (x1 x2 x3 : Int32) : Met l yX1_put (ws_ yX1_put cX1_put 4 (some .boolean)) ({ frames := 1, cells := 0, slots := 0, locals := 22 } : Room) (va_Pc [.ref (g 0), .int x1, .int x2, .int x3] (cb_Pre D tc g S)) (cb_Qb D tc g (some (.int (cb_fPut S x1 x2 x3).1)) (cb_fPut S x1 x2 x3).2) 0 0 (cb_A g) := by
  refine Met.ofW (cc := cX1_put) (maxL := 4) (ret := (some .boolean)) (by decide) rfl ?_
  intro p e s m args below meth c s₁ B hml hv
  obtain ⟨rfl, hv⟩ := hv
  have hB := cb_start hv
  obtain ⟨-, -, hI, hzE, hzD⟩ := hv
  have hx := B.exec
  have hb := B.bytes
  have hr := B.returns
  have hts := atoms_spec (ws := (ws_ yX1_put cX1_put 4 (some .boolean))) B.pre
  have hts : ∀ w ∈ lw_all, w.before _ s = true := fun w h => hts w (List.mem_cons_of_mem _ h)
  have hown : s.vm.findClass RX1 = some m.cls := findClass_of_methodNamed B.named
  have hlocks := B.notSynchronized
  have hl := lv_entry ([.ref (g 0), .int x1, .int x2, .int x3]) (n := 4) (Nat.le_of_ble_eq_true rfl)
  rw [lg_entry_eq]
  generalize (lg_sl ([.ref (g 0), .int x1, .int x2, .int x3]) ++ List.replicate (4 - (lg_sl ([.ref (g 0), .int x1, .int x2, .int x3])).length) Slot.unset).toArray = ls at hl ⊢
  have hl : lv_has ls 4 [(0, .ref (g 0)), (1, .int x1), (2, .int x2), (3, .int x3)] := hl
  by_cases h1 : cb_ix x1 8 = true
  · by_cases h2 : cb_ix x2 8 = true
    · obtain ⟨j, hj, rfl⟩ := cb_ix_of h1 (by decide)
      obtain ⟨k, hk, rfl⟩ := cb_ix_of h2 (by decide)
      rw [show cb_fPut S (nI j) (nI k) x3 = (1, cb_sIn S j k (nI (cb_by x3))) from by unfold cb_fPut; rw [if_pos ⟨h1, h2⟩, nI_clamp (by omega), nI_clamp (by omega)]]
      refine lv_iload_n hx hb dX1_put_0 rfl (lv_at hl 1 rfl) ?_
      refine lv_iconst (v := 0) hx hb dX1_put_1 (by decide) ?_
      refine lv_bipush (v := 7) hx hb dX1_put_2 (by decide) ?_
      refine cb_callPi (va_runS (As := [.int (nI j), .int 0, .int 7]) (rest := []) ⟨hx, hb, hml, hown, hts⟩ (met_ix l (nI j) 7 8 (by decide)) (va_cwS 3 hts (lw_S q118 q119 q3 q120) rfl rfl rfl (by decide +kernel) ⟨Nat.le_of_ble_eq_true rfl, Nat.le_of_ble_eq_true rfl⟩) cb_preS rfl rfl hl.1 rfl (lv_room (Nat.le_of_ble_eq_true rfl)) dX1_put_4 ⟨Nat.zero_le _, Nat.zero_le _⟩) ?_
      refine cb_top (y := 1) (if_pos h1) ?_
      refine lv_if_eq (tgt := 20) hx hb dX1_put_7 (by decide) (fun cz => (absurd cz (by decide) : False).elim) (fun cz => ?_)
      refine lv_iload_n hx hb dX1_put_10 rfl (lv_at hl 2 rfl) ?_
      refine lv_iconst (v := 0) hx hb dX1_put_11 (by decide) ?_
      refine lv_bipush (v := 7) hx hb dX1_put_12 (by decide) ?_
      refine cb_callPi (va_runS (As := [.int (nI k), .int 0, .int 7]) (rest := []) ⟨hx, hb, hml, hown, hts⟩ (met_ix l (nI k) 7 8 (by decide)) (va_cwS 3 hts (lw_S q118 q119 q3 q120) rfl rfl rfl (by decide +kernel) ⟨Nat.le_of_ble_eq_true rfl, Nat.le_of_ble_eq_true rfl⟩) cb_preS rfl rfl hl.1 rfl (lv_room (Nat.le_of_ble_eq_true rfl)) dX1_put_14 ⟨Nat.zero_le _, Nat.zero_le _⟩) ?_
      refine cb_top (y := 1) (if_pos h2) ?_
      refine lv_if_ne (tgt := 22) hx hb dX1_put_17 (by decide) (fun cz => ?_) (fun cz => (absurd cz (by decide) : False).elim)
      refine lv_aload_n hx hb dX1_put_22 rfl (lv_at hl 0 rfl) ?_
      refine cb_getB hx hb hts hown hB 1 (by decide) q105 rfl dX1_put_23 ?_
      refine lv_iload_n hx hb dX1_put_26 rfl (lv_at hl 1 rfl) ?_
      refine cb_aaP hx hb hB j hj (by omega) dX1_put_27 ?_
      refine cb_getP hx hb hts hown hB j hj 4 (by decide) q55 rfl dX1_put_28 ?_
      refine lv_iload_n hx hb dX1_put_31 rfl (lv_at hl 2 rfl) ?_
      refine lv_iload_n hx hb dX1_put_32 rfl (lv_at hl 3 rfl) ?_
      refine lv_sipush (v := 255) hx hb dX1_put_33 (by decide) ?_
      refine lv_iand hx hb dX1_put_36 ?_
      refine cb_top (y := nI (cb_by x3)) (cb_by_and x3) ?_
      refine cb_stI hx hb hB j hj k hk dX1_put_37 (fun H locs hB => ?_)
      refine lv_iconst (v := 1) hx hb dX1_put_38 (by decide) ?_
      exact W.zret (v := 1) hx hb hr rfl (fun t9 ht hW => ⟨cb_r (rfl), by rw [ht]; exact hB.1, hB.2.2.1.F ht⟩) hB.2.2.1.2.2 dX1_put_39
    · rw [show cb_fPut S x1 x2 x3 = (0, S) from by unfold cb_fPut; rw [if_neg (fun q => h2 q.2)]]
      refine lv_iload_n hx hb dX1_put_0 rfl (lv_at hl 1 rfl) ?_
      refine lv_iconst (v := 0) hx hb dX1_put_1 (by decide) ?_
      refine lv_bipush (v := 7) hx hb dX1_put_2 (by decide) ?_
      refine cb_callPi (va_runS (As := [.int x1, .int 0, .int 7]) (rest := []) ⟨hx, hb, hml, hown, hts⟩ (met_ix l x1 7 8 (by decide)) (va_cwS 3 hts (lw_S q118 q119 q3 q120) rfl rfl rfl (by decide +kernel) ⟨Nat.le_of_ble_eq_true rfl, Nat.le_of_ble_eq_true rfl⟩) cb_preS rfl rfl hl.1 rfl (lv_room (Nat.le_of_ble_eq_true rfl)) dX1_put_4 ⟨Nat.zero_le _, Nat.zero_le _⟩) ?_
      refine cb_top (y := 1) (if_pos h1) ?_
      refine lv_if_eq (tgt := 20) hx hb dX1_put_7 (by decide) (fun cz => (absurd cz (by decide) : False).elim) (fun cz => ?_)
      refine lv_iload_n hx hb dX1_put_10 rfl (lv_at hl 2 rfl) ?_
      refine lv_iconst (v := 0) hx hb dX1_put_11 (by decide) ?_
      refine lv_bipush (v := 7) hx hb dX1_put_12 (by decide) ?_
      refine cb_callPi (va_runS (As := [.int x2, .int 0, .int 7]) (rest := []) ⟨hx, hb, hml, hown, hts⟩ (met_ix l x2 7 8 (by decide)) (va_cwS 3 hts (lw_S q118 q119 q3 q120) rfl rfl rfl (by decide +kernel) ⟨Nat.le_of_ble_eq_true rfl, Nat.le_of_ble_eq_true rfl⟩) cb_preS rfl rfl hl.1 rfl (lv_room (Nat.le_of_ble_eq_true rfl)) dX1_put_14 ⟨Nat.zero_le _, Nat.zero_le _⟩) ?_
      refine cb_top (y := 0) (if_neg h2) ?_
      refine lv_if_ne (tgt := 22) hx hb dX1_put_17 (by decide) (fun cz => (cz rfl : False).elim) (fun cz => ?_)
      refine lv_iconst (v := 0) hx hb dX1_put_20 (by decide) ?_
      exact W.zret (v := 0) hx hb hr rfl (fun t9 ht hW => ⟨cb_r (rfl), by rw [ht]; exact hB.1, hB.2.2.1.F ht⟩) hB.2.2.1.2.2 dX1_put_21
  · rw [show cb_fPut S x1 x2 x3 = (0, S) from by unfold cb_fPut; rw [if_neg (fun q => h1 q.1)]]
    refine lv_iload_n hx hb dX1_put_0 rfl (lv_at hl 1 rfl) ?_
    refine lv_iconst (v := 0) hx hb dX1_put_1 (by decide) ?_
    refine lv_bipush (v := 7) hx hb dX1_put_2 (by decide) ?_
    refine cb_callPi (va_runS (As := [.int x1, .int 0, .int 7]) (rest := []) ⟨hx, hb, hml, hown, hts⟩ (met_ix l x1 7 8 (by decide)) (va_cwS 3 hts (lw_S q118 q119 q3 q120) rfl rfl rfl (by decide +kernel) ⟨Nat.le_of_ble_eq_true rfl, Nat.le_of_ble_eq_true rfl⟩) cb_preS rfl rfl hl.1 rfl (lv_room (Nat.le_of_ble_eq_true rfl)) dX1_put_4 ⟨Nat.zero_le _, Nat.zero_le _⟩) ?_
    refine cb_top (y := 0) (if_neg h1) ?_
    refine lv_if_eq (tgt := 20) hx hb dX1_put_7 (by decide) (fun cz => ?_) (fun cz => (cz rfl : False).elim)
    refine lv_iconst (v := 0) hx hb dX1_put_20 (by decide) ?_
    exact W.zret (v := 0) hx hb hr rfl (fun t9 ht hW => ⟨cb_r (rfl), by rw [ht]; exact hB.1, hB.2.2.1.F ht⟩) hB.2.2.1.2.2 dX1_put_21
set_option maxHeartbeats 4000000 in
set_option maxRecDepth 100000 in
theorem met_bMute (l : Launch) (D : va_G) (tc : Nat → ClassId) (g : Nat → Nat) (S : cb_S) (x1 x2 : Int32) (hb2 : x2 = 0 ∨ x2 = 1) : Met l yX1_mute (ws_ yX1_mute cX1_mute 3 (some .boolean)) ({ frames := 1, cells := 0, slots := 0, locals := 22 } : Room) (va_Pc [.ref (g 0), .int x1, .int x2] (cb_Pre D tc g S)) (cb_Qb D tc g (some (.int (cb_fMute S x1 x2).1)) (cb_fMute S x1 x2).2) 0 0 (cb_A g) := by
  refine Met.ofW (cc := cX1_mute) (maxL := 3) (ret := (some .boolean)) (by decide) rfl ?_
  intro p e s m args below meth c s₁ B hml hv
  obtain ⟨rfl, hv⟩ := hv
  have hB := cb_start hv
  obtain ⟨-, -, hI, hzE, hzD⟩ := hv
  have hx := B.exec
  have hb := B.bytes
  have hr := B.returns
  have hts := atoms_spec (ws := (ws_ yX1_mute cX1_mute 3 (some .boolean))) B.pre
  have hts : ∀ w ∈ lw_all, w.before _ s = true := fun w h => hts w (List.mem_cons_of_mem _ h)
  have hown : s.vm.findClass RX1 = some m.cls := findClass_of_methodNamed B.named
  have hlocks := B.notSynchronized
  have hl := lv_entry ([.ref (g 0), .int x1, .int x2]) (n := 3) (Nat.le_of_ble_eq_true rfl)
  rw [lg_entry_eq]
  generalize (lg_sl ([.ref (g 0), .int x1, .int x2]) ++ List.replicate (3 - (lg_sl ([.ref (g 0), .int x1, .int x2])).length) Slot.unset).toArray = ls at hl ⊢
  have hl : lv_has ls 3 [(0, .ref (g 0)), (1, .int x1), (2, .int x2)] := hl
  by_cases h1 : cb_ix x1 8 = true
  · obtain ⟨j, hj, rfl⟩ := cb_ix_of h1 (by decide)
    rw [show cb_fMute S (nI j) x2 = (1, cb_sMu S j x2) from by unfold cb_fMute; rw [if_pos h1, nI_clamp (by omega)]]
    refine lv_iload_n hx hb dX1_mute_0 rfl (lv_at hl 1 rfl) ?_
    refine lv_iconst (v := 0) hx hb dX1_mute_1 (by decide) ?_
    refine lv_bipush (v := 7) hx hb dX1_mute_2 (by decide) ?_
    refine cb_callPi (va_runS (As := [.int (nI j), .int 0, .int 7]) (rest := []) ⟨hx, hb, hml, hown, hts⟩ (met_ix l (nI j) 7 8 (by decide)) (va_cwS 3 hts (lw_S q118 q119 q3 q120) rfl rfl rfl (by decide +kernel) ⟨Nat.le_of_ble_eq_true rfl, Nat.le_of_ble_eq_true rfl⟩) cb_preS rfl rfl hl.1 rfl (lv_room (Nat.le_of_ble_eq_true rfl)) dX1_mute_4 ⟨Nat.zero_le _, Nat.zero_le _⟩) ?_
    refine cb_top (y := 1) (if_pos h1) ?_
    refine lv_if_ne (tgt := 12) hx hb dX1_mute_7 (by decide) (fun cz => ?_) (fun cz => (absurd cz (by decide) : False).elim)
    refine lv_aload_n hx hb dX1_mute_12 rfl (lv_at hl 0 rfl) ?_
    refine cb_getB hx hb hts hown hB 1 (by decide) q105 rfl dX1_mute_13 ?_
    refine lv_iload_n hx hb dX1_mute_16 rfl (lv_at hl 1 rfl) ?_
    refine cb_aaP hx hb hB j hj (by omega) dX1_mute_17 ?_
    refine lv_iload_n hx hb dX1_mute_18 rfl (lv_at hl 2 rfl) ?_
    refine cb_putMu hx hb hts hown hB j hj hb2 dX1_mute_19 (fun H locs hB => ?_)
    refine lv_iconst (v := 1) hx hb dX1_mute_22 (by decide) ?_
    exact W.zret (v := 1) hx hb hr rfl (fun t9 ht hW => ⟨cb_r (rfl), by rw [ht]; exact hB.1, hB.2.2.1.F ht⟩) hB.2.2.1.2.2 dX1_mute_23
  · rw [show cb_fMute S x1 x2 = (0, S) from by unfold cb_fMute; rw [if_neg h1]]
    refine lv_iload_n hx hb dX1_mute_0 rfl (lv_at hl 1 rfl) ?_
    refine lv_iconst (v := 0) hx hb dX1_mute_1 (by decide) ?_
    refine lv_bipush (v := 7) hx hb dX1_mute_2 (by decide) ?_
    refine cb_callPi (va_runS (As := [.int x1, .int 0, .int 7]) (rest := []) ⟨hx, hb, hml, hown, hts⟩ (met_ix l x1 7 8 (by decide)) (va_cwS 3 hts (lw_S q118 q119 q3 q120) rfl rfl rfl (by decide +kernel) ⟨Nat.le_of_ble_eq_true rfl, Nat.le_of_ble_eq_true rfl⟩) cb_preS rfl rfl hl.1 rfl (lv_room (Nat.le_of_ble_eq_true rfl)) dX1_mute_4 ⟨Nat.zero_le _, Nat.zero_le _⟩) ?_
    refine cb_top (y := 0) (if_neg h1) ?_
    refine lv_if_ne (tgt := 12) hx hb dX1_mute_7 (by decide) (fun cz => (cz rfl : False).elim) (fun cz => ?_)
    refine lv_iconst (v := 0) hx hb dX1_mute_10 (by decide) ?_
    exact W.zret (v := 0) hx hb hr rfl (fun t9 ht hW => ⟨cb_r (rfl), by rw [ht]; exact hB.1, hB.2.2.1.F ht⟩) hB.2.2.1.2.2 dX1_mute_11
set_option maxHeartbeats 4000000 in
set_option maxRecDepth 100000 in
theorem met_bSpk (l : Launch) (D : va_G) (tc : Nat → ClassId) (g : Nat → Nat) (S : cb_S) (x1 : Int32) : Met l yX1_speakers (ws_ yX1_speakers cX1_speakers 2 (some .boolean)) ({ frames := 1, cells := 0, slots := 0, locals := 22 } : Room) (va_Pc [.ref (g 0), .int x1] (cb_Pre D tc g S)) (cb_Qb D tc g (some (.int (cb_fSpk S x1).1)) (cb_fSpk S x1).2) 0 0 (cb_A g) := by
  refine Met.ofW (cc := cX1_speakers) (maxL := 2) (ret := (some .boolean)) (by decide) rfl ?_
  intro p e s m args below meth c s₁ B hml hv
  obtain ⟨rfl, hv⟩ := hv
  have hB := cb_start hv
  obtain ⟨-, -, hI, hzE, hzD⟩ := hv
  have hx := B.exec
  have hb := B.bytes
  have hr := B.returns
  have hts := atoms_spec (ws := (ws_ yX1_speakers cX1_speakers 2 (some .boolean))) B.pre
  have hts : ∀ w ∈ lw_all, w.before _ s = true := fun w h => hts w (List.mem_cons_of_mem _ h)
  have hown : s.vm.findClass RX1 = some m.cls := findClass_of_methodNamed B.named
  have hlocks := B.notSynchronized
  have hl := lv_entry ([.ref (g 0), .int x1]) (n := 2) (Nat.le_of_ble_eq_true rfl)
  rw [lg_entry_eq]
  generalize (lg_sl ([.ref (g 0), .int x1]) ++ List.replicate (2 - (lg_sl ([.ref (g 0), .int x1])).length) Slot.unset).toArray = ls at hl ⊢
  have hl : lv_has ls 2 [(0, .ref (g 0)), (1, .int x1)] := hl
  by_cases h1 : 1 ≤ x1 ∧ x1 ≤ 8
  · rw [show cb_fSpk S x1 = (1, cb_sMo S x1) from if_pos h1]
    refine lv_iload_n hx hb dX1_speakers_0 rfl (lv_at hl 1 rfl) ?_
    refine lv_iconst (v := 1) hx hb dX1_speakers_1 (by decide) ?_
    refine lv_bipush (v := 8) hx hb dX1_speakers_2 (by decide) ?_
    refine cb_callPi (va_runS (As := [.int x1, .int 1, .int 8]) (rest := []) ⟨hx, hb, hml, hown, hts⟩ (met_in l x1 1 8) (va_cwS 3 hts (lw_S q118 q119 q3 q120) rfl rfl rfl (by decide +kernel) ⟨Nat.le_of_ble_eq_true rfl, Nat.le_of_ble_eq_true rfl⟩) cb_preS rfl rfl hl.1 rfl (lv_room (Nat.le_of_ble_eq_true rfl)) dX1_speakers_4 ⟨Nat.zero_le _, Nat.zero_le _⟩) ?_
    refine cb_top (y := 1) ((pf_in_eq x1 1 8).trans (if_pos h1)) ?_
    refine lv_if_ne (tgt := 12) hx hb dX1_speakers_7 (by decide) (fun cz => ?_) (fun cz => (absurd cz (by decide) : False).elim)
    refine lv_aload_n hx hb dX1_speakers_12 rfl (lv_at hl 0 rfl) ?_
    refine lv_iload_n hx hb dX1_speakers_13 rfl (lv_at hl 1 rfl) ?_
    refine cb_putMo hx hb hts hown hB dX1_speakers_14 (fun H locs hB => ?_)
    refine lv_iconst (v := 1) hx hb dX1_speakers_17 (by decide) ?_
    exact W.zret (v := 1) hx hb hr rfl (fun t9 ht hW => ⟨cb_r (rfl), by rw [ht]; exact hB.1, hB.2.2.1.F ht⟩) hB.2.2.1.2.2 dX1_speakers_18
  · rw [show cb_fSpk S x1 = (0, S) from if_neg h1]
    refine lv_iload_n hx hb dX1_speakers_0 rfl (lv_at hl 1 rfl) ?_
    refine lv_iconst (v := 1) hx hb dX1_speakers_1 (by decide) ?_
    refine lv_bipush (v := 8) hx hb dX1_speakers_2 (by decide) ?_
    refine cb_callPi (va_runS (As := [.int x1, .int 1, .int 8]) (rest := []) ⟨hx, hb, hml, hown, hts⟩ (met_in l x1 1 8) (va_cwS 3 hts (lw_S q118 q119 q3 q120) rfl rfl rfl (by decide +kernel) ⟨Nat.le_of_ble_eq_true rfl, Nat.le_of_ble_eq_true rfl⟩) cb_preS rfl rfl hl.1 rfl (lv_room (Nat.le_of_ble_eq_true rfl)) dX1_speakers_4 ⟨Nat.zero_le _, Nat.zero_le _⟩) ?_
    refine cb_top (y := 0) ((pf_in_eq x1 1 8).trans (if_neg h1)) ?_
    refine lv_if_ne (tgt := 12) hx hb dX1_speakers_7 (by decide) (fun cz => (cz rfl : False).elim) (fun cz => ?_)
    refine lv_iconst (v := 0) hx hb dX1_speakers_10 (by decide) ?_
    exact W.zret (v := 0) hx hb hr rfl (fun t9 ht hW => ⟨cb_r (rfl), by rw [ht]; exact hB.1, hB.2.2.1.F ht⟩) hB.2.2.1.2.2 dX1_speakers_11
set_option maxHeartbeats 4000000 in
set_option maxRecDepth 100000 in
theorem met_bEnc (l : Launch) (D : va_G) (tc : Nat → ClassId) (g : Nat → Nat) (S : cb_S) (x1 x2 : Int32) : Met l yX1_encode (ws_ yX1_encode cX1_encode 3 (some .int)) ({ frames := 3, cells := 0, slots := 0, locals := 65 } : Room) (va_Pc [.ref (g 0), .int x1, .int x2] (cb_Pre D tc g S)) (cb_Qb D tc g (some (.int (cb_fEnc x1 x2))) S) 0 0 (cb_A g) := by
  refine Met.ofW (cc := cX1_encode) (maxL := 3) (ret := (some .int)) (by decide) rfl ?_
  intro p e s m args below meth c s₁ B hml hv
  obtain ⟨rfl, hv⟩ := hv
  have hB := cb_start hv
  obtain ⟨-, -, hI, hzE, hzD⟩ := hv
  have hx := B.exec
  have hb := B.bytes
  have hr := B.returns
  have hts := atoms_spec (ws := (ws_ yX1_encode cX1_encode 3 (some .int))) B.pre
  have hts : ∀ w ∈ lw_all, w.before _ s = true := fun w h => hts w (List.mem_cons_of_mem _ h)
  have hown : s.vm.findClass RX1 = some m.cls := findClass_of_methodNamed B.named
  have hlocks := B.notSynchronized
  have hl := lv_entry ([.ref (g 0), .int x1, .int x2]) (n := 3) (Nat.le_of_ble_eq_true rfl)
  rw [lg_entry_eq]
  generalize (lg_sl ([.ref (g 0), .int x1, .int x2]) ++ List.replicate (3 - (lg_sl ([.ref (g 0), .int x1, .int x2])).length) Slot.unset).toArray = ls at hl ⊢
  have hl : lv_has ls 3 [(0, .ref (g 0)), (1, .int x1), (2, .int x2)] := hl
  by_cases h1 : cb_ix x1 2 = true
  · obtain ⟨w, hw, rfl⟩ := cb_ix_of h1 (by decide)
    rw [show cb_fEnc (nI w) x2 = cb_enc w (cb_sat x2.toInt64) from by unfold cb_fEnc; rw [if_pos h1, nI_clamp (by omega)]]
    refine lv_iload_n hx hb dX1_encode_0 rfl (lv_at hl 1 rfl) ?_
    refine lv_iconst (v := 0) hx hb dX1_encode_1 (by decide) ?_
    refine lv_iconst (v := 1) hx hb dX1_encode_2 (by decide) ?_
    refine cb_callPi (va_runS (As := [.int (nI w), .int 0, .int 1]) (rest := []) ⟨hx, hb, hml, hown, hts⟩ (met_ix l (nI w) 1 2 (by decide)) (va_cwS 3 hts (lw_S q118 q119 q3 q120) rfl rfl rfl (by decide +kernel) ⟨Nat.le_of_ble_eq_true rfl, Nat.le_of_ble_eq_true rfl⟩) cb_preS rfl rfl hl.1 rfl (lv_room (Nat.le_of_ble_eq_true rfl)) dX1_encode_3 ⟨Nat.zero_le _, Nat.zero_le _⟩) ?_
    refine cb_top (y := 1) (if_pos h1) ?_
    refine lv_if_eq (tgt := 26) hx hb dX1_encode_6 (by decide) (fun cz => (absurd cz (by decide) : False).elim) (fun cz => ?_)
    refine lv_aload_n hx hb dX1_encode_9 rfl (lv_at hl 0 rfl) ?_
    refine cb_getB hx hb hts hown hB 0 (by decide) q104 rfl dX1_encode_10 ?_
    refine lv_iload_n hx hb dX1_encode_13 rfl (lv_at hl 1 rfl) ?_
    refine cb_aaL hx hb hB w hw dX1_encode_14 ?_
    refine lv_iload_n hx hb dX1_encode_15 rfl (lv_at hl 2 rfl) ?_
    refine lv_i2l hx hb dX1_encode_16 rfl ?_
    refine cb_callPi (va_runS (As := [.long x2.toInt64]) (rest := [.ref (g (2 + w))]) ⟨hx, hb, hml, hown, hts⟩ (met_sat l x2.toInt64) (va_cwS 1 hts (lw_S q121 q122 q3 q123) rfl rfl rfl (by decide +kernel) ⟨Nat.le_of_ble_eq_true rfl, Nat.le_of_ble_eq_true rfl⟩) cb_preS rfl rfl hl.1 rfl (lv_room (Nat.le_of_ble_eq_true rfl)) dX1_encode_17 ⟨Nat.zero_le _, Nat.zero_le _⟩) ?_
    refine cb_callE hx hb hml hts hown hB hzE (Nat.le_of_ble_eq_true rfl) (Nat.le_of_ble_eq_true rfl) (Nat.zero_le _) (Nat.zero_le _) w hw (cb_sat_rng _) hl.1 (Nat.le_of_ble_eq_true rfl) dX1_encode_20 ?_
    refine lv_goto (tgt := 27) hx hb dX1_encode_23 (by decide) ?_
    exact W.iret (v := (cb_enc w (cb_sat x2.toInt64))) hx hb hr (fun t9 ht hW => ⟨cb_r (rfl), by rw [ht]; exact hB.1, hB.2.2.1.F ht⟩) hB.2.2.1.2.2 dX1_encode_27
  · rw [show cb_fEnc x1 x2 = -1 from by unfold cb_fEnc; rw [if_neg h1]]
    refine lv_iload_n hx hb dX1_encode_0 rfl (lv_at hl 1 rfl) ?_
    refine lv_iconst (v := 0) hx hb dX1_encode_1 (by decide) ?_
    refine lv_iconst (v := 1) hx hb dX1_encode_2 (by decide) ?_
    refine cb_callPi (va_runS (As := [.int x1, .int 0, .int 1]) (rest := []) ⟨hx, hb, hml, hown, hts⟩ (met_ix l x1 1 2 (by decide)) (va_cwS 3 hts (lw_S q118 q119 q3 q120) rfl rfl rfl (by decide +kernel) ⟨Nat.le_of_ble_eq_true rfl, Nat.le_of_ble_eq_true rfl⟩) cb_preS rfl rfl hl.1 rfl (lv_room (Nat.le_of_ble_eq_true rfl)) dX1_encode_3 ⟨Nat.zero_le _, Nat.zero_le _⟩) ?_
    refine cb_top (y := 0) (if_neg h1) ?_
    refine lv_if_eq (tgt := 26) hx hb dX1_encode_6 (by decide) (fun cz => ?_) (fun cz => (cz rfl : False).elim)
    refine lv_iconst (v := (-1)) hx hb dX1_encode_26 (by decide) ?_
    exact W.iret (v := (-1)) hx hb hr (fun t9 ht hW => ⟨cb_r (rfl), by rw [ht]; exact hB.1, hB.2.2.1.F ht⟩) hB.2.2.1.2.2 dX1_encode_27
set_option maxHeartbeats 4000000 in
set_option maxRecDepth 100000 in
theorem met_bDec (l : Launch) (D : va_G) (tc : Nat → ClassId) (g : Nat → Nat) (S : cb_S) (w : Nat) (hw : w < 2) (x2 : Int32) : Met l yX1_decode (ws_ yX1_decode cX1_decode 3 (some .int)) ({ frames := 6, cells := 0, slots := 0, locals := 120 } : Room) (va_Pc [.ref (g 0), .int (nI w), .int x2] (cb_Pre D tc g S)) (cb_Qb D tc g (some (.int (cb_dec w (cb_by x2)))) S) 0 0 (cb_A g) := by
  refine Met.ofW (cc := cX1_decode) (maxL := 3) (ret := (some .int)) (by decide) rfl ?_
  intro p e s m args below meth c s₁ B hml hv
  obtain ⟨rfl, hv⟩ := hv
  have hB := cb_start hv
  obtain ⟨-, -, hI, hzE, hzD⟩ := hv
  have hx := B.exec
  have hb := B.bytes
  have hr := B.returns
  have hts := atoms_spec (ws := (ws_ yX1_decode cX1_decode 3 (some .int))) B.pre
  have hts : ∀ w ∈ lw_all, w.before _ s = true := fun w h => hts w (List.mem_cons_of_mem _ h)
  have hown : s.vm.findClass RX1 = some m.cls := findClass_of_methodNamed B.named
  have hlocks := B.notSynchronized
  have hl := lv_entry ([.ref (g 0), .int (nI w), .int x2]) (n := 3) (Nat.le_of_ble_eq_true rfl)
  rw [lg_entry_eq]
  generalize (lg_sl ([.ref (g 0), .int (nI w), .int x2]) ++ List.replicate (3 - (lg_sl ([.ref (g 0), .int (nI w), .int x2])).length) Slot.unset).toArray = ls at hl ⊢
  have hl : lv_has ls 3 [(0, .ref (g 0)), (1, .int (nI w)), (2, .int x2)] := hl
  have h1 : cb_ix (nI w) 2 = true := cb_ix_nI hw (by decide)
  refine lv_iload_n hx hb dX1_decode_0 rfl (lv_at hl 1 rfl) ?_
  refine lv_iconst (v := 0) hx hb dX1_decode_1 (by decide) ?_
  refine lv_iconst (v := 1) hx hb dX1_decode_2 (by decide) ?_
  refine cb_callPi (va_runS (As := [.int (nI w), .int 0, .int 1]) (rest := []) ⟨hx, hb, hml, hown, hts⟩ (met_ix l (nI w) 1 2 (by decide)) (va_cwS 3 hts (lw_S q118 q119 q3 q120) rfl rfl rfl (by decide +kernel) ⟨Nat.le_of_ble_eq_true rfl, Nat.le_of_ble_eq_true rfl⟩) cb_preS rfl rfl hl.1 rfl (lv_room (Nat.le_of_ble_eq_true rfl)) dX1_decode_3 ⟨Nat.zero_le _, Nat.zero_le _⟩) ?_
  refine cb_top (y := 1) (if_pos h1) ?_
  refine lv_if_ne (tgt := 17) hx hb dX1_decode_6 (by decide) (fun cz => ?_) (fun cz => (absurd cz (by decide) : False).elim)
  refine lv_aload_n hx hb dX1_decode_17 rfl (lv_at hl 0 rfl) ?_
  refine cb_getB hx hb hts hown hB 0 (by decide) q104 rfl dX1_decode_18 ?_
  refine lv_iload_n hx hb dX1_decode_21 rfl (lv_at hl 1 rfl) ?_
  refine cb_aaL hx hb hB w hw dX1_decode_22 ?_
  refine lv_iload_n hx hb dX1_decode_23 rfl (lv_at hl 2 rfl) ?_
  refine lv_sipush (v := 255) hx hb dX1_decode_24 (by decide) ?_
  refine lv_iand hx hb dX1_decode_27 ?_
  refine cb_top (y := nI (cb_by x2)) (cb_by_and x2) ?_
  refine cb_callD hx hb hml hts hown hB hzD (Nat.le_of_ble_eq_true rfl) (Nat.le_of_ble_eq_true rfl) (Nat.zero_le _) (Nat.zero_le _) w hw (k := (cb_by x2)) (cb_by_lt _) hl.1 (Nat.le_of_ble_eq_true rfl) dX1_decode_28 ?_
  exact W.iret (v := (cb_dec w (cb_by x2))) hx hb hr (fun t9 ht hW => ⟨cb_r (rfl), by rw [ht]; exact hB.1, hB.2.2.1.F ht⟩) hB.2.2.1.2.2 dX1_decode_31
set_option maxHeartbeats 4000000 in
set_option maxRecDepth 100000 in
theorem met_bEn (l : Launch) (D : va_G) (tc : Nat → ClassId) (g : Nat → Nat) (S : cb_S) (j : Nat) (hj : j < 8) : Met l yX1_energy (ws_ yX1_energy cX1_energy 2 (some .long)) ({ frames := 6, cells := 0, slots := 0, locals := 120 } : Room) (va_Pc [.ref (g 0), .int (nI j)] (cb_Pre D tc g S)) (cb_Qb D tc g (some (.long (cb_en S j))) S) 0 0 (cb_A g) := by
  refine Met.ofW (cc := cX1_energy) (maxL := 2) (ret := (some .long)) (by decide) rfl ?_
  intro p e s m args below meth c s₁ B hml hv
  obtain ⟨rfl, hv⟩ := hv
  have hB := cb_start hv
  obtain ⟨-, -, hI, hzE, hzD⟩ := hv
  have hx := B.exec
  have hb := B.bytes
  have hr := B.returns
  have hts := atoms_spec (ws := (ws_ yX1_energy cX1_energy 2 (some .long))) B.pre
  have hts : ∀ w ∈ lw_all, w.before _ s = true := fun w h => hts w (List.mem_cons_of_mem _ h)
  have hown : s.vm.findClass RX1 = some m.cls := findClass_of_methodNamed B.named
  have hlocks := B.notSynchronized
  have hl := lv_entry ([.ref (g 0), .int (nI j)]) (n := 2) (Nat.le_of_ble_eq_true rfl)
  rw [lg_entry_eq]
  generalize (lg_sl ([.ref (g 0), .int (nI j)]) ++ List.replicate (2 - (lg_sl ([.ref (g 0), .int (nI j)])).length) Slot.unset).toArray = ls at hl ⊢
  have hl : lv_has ls 2 [(0, .ref (g 0)), (1, .int (nI j))] := hl
  have h1 : cb_ix (nI j) 8 = true := cb_ix_nI hj (by decide)
  refine lv_iload_n hx hb dX1_energy_0 rfl (lv_at hl 1 rfl) ?_
  refine lv_iconst (v := 0) hx hb dX1_energy_1 (by decide) ?_
  refine lv_bipush (v := 7) hx hb dX1_energy_2 (by decide) ?_
  refine cb_callPi (va_runS (As := [.int (nI j), .int 0, .int 7]) (rest := []) ⟨hx, hb, hml, hown, hts⟩ (met_ix l (nI j) 7 8 (by decide)) (va_cwS 3 hts (lw_S q118 q119 q3 q120) rfl rfl rfl (by decide +kernel) ⟨Nat.le_of_ble_eq_true rfl, Nat.le_of_ble_eq_true rfl⟩) cb_preS rfl rfl hl.1 rfl (lv_room (Nat.le_of_ble_eq_true rfl)) dX1_energy_4 ⟨Nat.zero_le _, Nat.zero_le _⟩) ?_
  refine cb_top (y := 1) (if_pos h1) ?_
  refine lv_if_ne (tgt := 18) hx hb dX1_energy_7 (by decide) (fun cz => ?_) (fun cz => (absurd cz (by decide) : False).elim)
  refine lv_aload_n hx hb dX1_energy_18 rfl (lv_at hl 0 rfl) ?_
  refine cb_getB hx hb hts hown hB 1 (by decide) q105 rfl dX1_energy_19 ?_
  refine lv_iload_n hx hb dX1_energy_22 rfl (lv_at hl 1 rfl) ?_
  refine cb_aaP hx hb hB j hj (by omega) dX1_energy_23 ?_
  refine cb_getP hx hb hts hown hB j hj 7 (by decide) q60 rfl dX1_energy_24 ?_
  exact W.lret (v := (cb_en S j)) hx hb hr (fun t9 ht hW => ⟨cb_rl (rfl), by rw [ht]; exact hB.1, hB.2.2.1.F ht⟩) hB.2.2.1.2.2 dX1_energy_27
set_option maxHeartbeats 4000000 in
set_option maxRecDepth 100000 in
theorem met_bOut (l : Launch) (D : va_G) (tc : Nat → ClassId) (g : Nat → Nat) (S : cb_S) (x1 x2 : Int32) : Met l yX1_out (ws_ yX1_out cX1_out 3 (some .int)) ({ frames := 1, cells := 0, slots := 0, locals := 22 } : Room) (va_Pc [.ref (g 0), .int x1, .int x2] (cb_Pre D tc g S)) (cb_Qb D tc g (some (.int (cb_fOut S x1 x2))) S) 0 0 (cb_A g) := by
  refine Met.ofW (cc := cX1_out) (maxL := 3) (ret := (some .int)) (by decide) rfl ?_
  intro p e s m args below meth c s₁ B hml hv
  obtain ⟨rfl, hv⟩ := hv
  have hB := cb_start hv
  obtain ⟨-, -, hI, hzE, hzD⟩ := hv
  have hx := B.exec
  have hb := B.bytes
  have hr := B.returns
  have hts := atoms_spec (ws := (ws_ yX1_out cX1_out 3 (some .int))) B.pre
  have hts : ∀ w ∈ lw_all, w.before _ s = true := fun w h => hts w (List.mem_cons_of_mem _ h)
  have hown : s.vm.findClass RX1 = some m.cls := findClass_of_methodNamed B.named
  have hlocks := B.notSynchronized
  have hl := lv_entry ([.ref (g 0), .int x1, .int x2]) (n := 3) (Nat.le_of_ble_eq_true rfl)
  rw [lg_entry_eq]
  generalize (lg_sl ([.ref (g 0), .int x1, .int x2]) ++ List.replicate (3 - (lg_sl ([.ref (g 0), .int x1, .int x2])).length) Slot.unset).toArray = ls at hl ⊢
  have hl : lv_has ls 3 [(0, .ref (g 0)), (1, .int x1), (2, .int x2)] := hl
  by_cases h1 : cb_ix x1 8 = true
  · by_cases h2 : cb_ix x2 8 = true
    · obtain ⟨j, hj, rfl⟩ := cb_ix_of h1 (by decide)
      obtain ⟨k, hk, rfl⟩ := cb_ix_of h2 (by decide)
      rw [show cb_fOut S (nI j) (nI k) = cb_ou S j k from by unfold cb_fOut; rw [if_pos ⟨h1, h2⟩, nI_clamp (by omega), nI_clamp (by omega)]]
      refine lv_iload_n hx hb dX1_out_0 rfl (lv_at hl 1 rfl) ?_
      refine lv_iconst (v := 0) hx hb dX1_out_1 (by decide) ?_
      refine lv_bipush (v := 7) hx hb dX1_out_2 (by decide) ?_
      refine cb_callPi (va_runS (As := [.int (nI j), .int 0, .int 7]) (rest := []) ⟨hx, hb, hml, hown, hts⟩ (met_ix l (nI j) 7 8 (by decide)) (va_cwS 3 hts (lw_S q118 q119 q3 q120) rfl rfl rfl (by decide +kernel) ⟨Nat.le_of_ble_eq_true rfl, Nat.le_of_ble_eq_true rfl⟩) cb_preS rfl rfl hl.1 rfl (lv_room (Nat.le_of_ble_eq_true rfl)) dX1_out_4 ⟨Nat.zero_le _, Nat.zero_le _⟩) ?_
      refine cb_top (y := 1) (if_pos h1) ?_
      refine lv_if_eq (tgt := 34) hx hb dX1_out_7 (by decide) (fun cz => (absurd cz (by decide) : False).elim) (fun cz => ?_)
      refine lv_iload_n hx hb dX1_out_10 rfl (lv_at hl 2 rfl) ?_
      refine lv_iconst (v := 0) hx hb dX1_out_11 (by decide) ?_
      refine lv_bipush (v := 7) hx hb dX1_out_12 (by decide) ?_
      refine cb_callPi (va_runS (As := [.int (nI k), .int 0, .int 7]) (rest := []) ⟨hx, hb, hml, hown, hts⟩ (met_ix l (nI k) 7 8 (by decide)) (va_cwS 3 hts (lw_S q118 q119 q3 q120) rfl rfl rfl (by decide +kernel) ⟨Nat.le_of_ble_eq_true rfl, Nat.le_of_ble_eq_true rfl⟩) cb_preS rfl rfl hl.1 rfl (lv_room (Nat.le_of_ble_eq_true rfl)) dX1_out_14 ⟨Nat.zero_le _, Nat.zero_le _⟩) ?_
      refine cb_top (y := 1) (if_pos h2) ?_
      refine lv_if_eq (tgt := 34) hx hb dX1_out_17 (by decide) (fun cz => (absurd cz (by decide) : False).elim) (fun cz => ?_)
      refine lv_aload_n hx hb dX1_out_20 rfl (lv_at hl 0 rfl) ?_
      refine cb_getB hx hb hts hown hB 1 (by decide) q105 rfl dX1_out_21 ?_
      refine lv_iload_n hx hb dX1_out_24 rfl (lv_at hl 1 rfl) ?_
      refine cb_aaP hx hb hB j hj (by omega) dX1_out_25 ?_
      refine cb_getP hx hb hts hown hB j hj 6 (by decide) q59 rfl dX1_out_26 ?_
      refine lv_iload_n hx hb dX1_out_29 rfl (lv_at hl 2 rfl) ?_
      refine cb_ldO hx hb hB j hj k hk dX1_out_30 ?_
      refine lv_goto (tgt := 35) hx hb dX1_out_31 (by decide) ?_
      exact W.iret (v := (cb_ou S j k)) hx hb hr (fun t9 ht hW => ⟨cb_r (rfl), by rw [ht]; exact hB.1, hB.2.2.1.F ht⟩) hB.2.2.1.2.2 dX1_out_35
    · rw [show cb_fOut S x1 x2 = -1 from by unfold cb_fOut; rw [if_neg (fun q => h2 q.2)]]
      refine lv_iload_n hx hb dX1_out_0 rfl (lv_at hl 1 rfl) ?_
      refine lv_iconst (v := 0) hx hb dX1_out_1 (by decide) ?_
      refine lv_bipush (v := 7) hx hb dX1_out_2 (by decide) ?_
      refine cb_callPi (va_runS (As := [.int x1, .int 0, .int 7]) (rest := []) ⟨hx, hb, hml, hown, hts⟩ (met_ix l x1 7 8 (by decide)) (va_cwS 3 hts (lw_S q118 q119 q3 q120) rfl rfl rfl (by decide +kernel) ⟨Nat.le_of_ble_eq_true rfl, Nat.le_of_ble_eq_true rfl⟩) cb_preS rfl rfl hl.1 rfl (lv_room (Nat.le_of_ble_eq_true rfl)) dX1_out_4 ⟨Nat.zero_le _, Nat.zero_le _⟩) ?_
      refine cb_top (y := 1) (if_pos h1) ?_
      refine lv_if_eq (tgt := 34) hx hb dX1_out_7 (by decide) (fun cz => (absurd cz (by decide) : False).elim) (fun cz => ?_)
      refine lv_iload_n hx hb dX1_out_10 rfl (lv_at hl 2 rfl) ?_
      refine lv_iconst (v := 0) hx hb dX1_out_11 (by decide) ?_
      refine lv_bipush (v := 7) hx hb dX1_out_12 (by decide) ?_
      refine cb_callPi (va_runS (As := [.int x2, .int 0, .int 7]) (rest := []) ⟨hx, hb, hml, hown, hts⟩ (met_ix l x2 7 8 (by decide)) (va_cwS 3 hts (lw_S q118 q119 q3 q120) rfl rfl rfl (by decide +kernel) ⟨Nat.le_of_ble_eq_true rfl, Nat.le_of_ble_eq_true rfl⟩) cb_preS rfl rfl hl.1 rfl (lv_room (Nat.le_of_ble_eq_true rfl)) dX1_out_14 ⟨Nat.zero_le _, Nat.zero_le _⟩) ?_
      refine cb_top (y := 0) (if_neg h2) ?_
      refine lv_if_eq (tgt := 34) hx hb dX1_out_17 (by decide) (fun cz => ?_) (fun cz => (cz rfl : False).elim)
      refine lv_iconst (v := (-1)) hx hb dX1_out_34 (by decide) ?_
      exact W.iret (v := (-1)) hx hb hr (fun t9 ht hW => ⟨cb_r (rfl), by rw [ht]; exact hB.1, hB.2.2.1.F ht⟩) hB.2.2.1.2.2 dX1_out_35
  · rw [show cb_fOut S x1 x2 = -1 from by unfold cb_fOut; rw [if_neg (fun q => h1 q.1)]]
    refine lv_iload_n hx hb dX1_out_0 rfl (lv_at hl 1 rfl) ?_
    refine lv_iconst (v := 0) hx hb dX1_out_1 (by decide) ?_
    refine lv_bipush (v := 7) hx hb dX1_out_2 (by decide) ?_
    refine cb_callPi (va_runS (As := [.int x1, .int 0, .int 7]) (rest := []) ⟨hx, hb, hml, hown, hts⟩ (met_ix l x1 7 8 (by decide)) (va_cwS 3 hts (lw_S q118 q119 q3 q120) rfl rfl rfl (by decide +kernel) ⟨Nat.le_of_ble_eq_true rfl, Nat.le_of_ble_eq_true rfl⟩) cb_preS rfl rfl hl.1 rfl (lv_room (Nat.le_of_ble_eq_true rfl)) dX1_out_4 ⟨Nat.zero_le _, Nat.zero_le _⟩) ?_
    refine cb_top (y := 0) (if_neg h1) ?_
    refine lv_if_eq (tgt := 34) hx hb dX1_out_7 (by decide) (fun cz => ?_) (fun cz => (cz rfl : False).elim)
    refine lv_iconst (v := (-1)) hx hb dX1_out_34 (by decide) ?_
    exact W.iret (v := (-1)) hx hb hr (fun t9 ht hW => ⟨cb_r (rfl), by rw [ht]; exact hB.1, hB.2.2.1.F ht⟩) hB.2.2.1.2.2 dX1_out_35
end
section
/-! MIXING, PURE: choosing speakers, sums, the set as bits -/
set_option maxRecDepth 100000
def cb_measA (S : cb_S) : Nat → cb_S
  | 0 => S
  | n + 1 => cb_measL (cb_measA S n) n 8
theorem cb_measA_same (S : cb_S) : ∀ n, cb_lw (cb_measA S n) = cb_lw S ∧ cb_gn (cb_measA S n) = cb_gn S ∧ cb_ii (cb_measA S n) = cb_ii S ∧ cb_mu (cb_measA S n) = cb_mu S ∧ cb_mo (cb_measA S n) = cb_mo S ∧ cb_ou (cb_measA S n) = cb_ou S
  | 0 => ⟨rfl, rfl, rfl, rfl, rfl, rfl⟩
  | n + 1 => by
    obtain ⟨h1, h2, h3, h4, h5, h6⟩ := cb_measA_same S n
    obtain ⟨g1, g2, g3, g4, g5, g6⟩ := cb_measL_same (cb_measA S n) n 8
    exact ⟨g1.trans h1, g2.trans h2, g3.trans h3, g4.trans h4, g5.trans h5, g6.trans h6⟩
theorem cb_measL_sp (S : cb_S) (j : Nat) : ∀ k, cb_sp (cb_measL S j k) = va_up (cb_sp S) j 0
  | 0 => rfl
  | k + 1 => cb_measL_sp S j k
theorem cb_measA_sp (S : cb_S) : ∀ n j, j < n → cb_sp (cb_measA S n) j = 0
  | 0, j, h => absurd h (Nat.not_lt_zero j)
  | n + 1, j, h => by
    show cb_sp (cb_measL (cb_measA S n) n 8) j = 0
    rw [cb_measL_sp]
    by_cases e : j = n
    · simp [va_up, e]
    · simp only [va_up, if_neg e]
      exact cb_measA_sp S n j (by omega)
/-- the louder of the best so far and the next that may speak -/
def cb_pick (S : cb_S) (b : Option Nat) (j : Nat) : Option Nat :=
  if cb_mu S j = 0 ∧ cb_sp S j = 0 ∧ 0 < cb_en S j then (match b with
    | none => some j
    | some q => if cb_en S q < cb_en S j then some j else some q) else b
def cb_best (S : cb_S) : Nat → Option Nat
  | 0 => none
  | n + 1 => cb_pick S (cb_best S n) n
theorem cb_best_lt (S : cb_S) : ∀ (n q : Nat), cb_best S n = some q → q < n
  | 0, q, h => by cases h
  | n + 1, q, h => by
    have h : cb_pick S (cb_best S n) n = some q := h
    unfold cb_pick at h
    split at h
    · split at h
      · cases h; omega
      · rename_i z hz
        split at h
        · cases h; omega
        · cases h
          have := cb_best_lt S n q hz
          omega
    · have := cb_best_lt S n q h
      omega
def cb_spk (S : cb_S) (b : Option Nat) : cb_S := match b with
  | none => S
  | some q => cb_sSp S q 1
def cb_selS (S : cb_S) : Nat → cb_S
  | 0 => S
  | n + 1 => cb_spk (cb_selS S n) (cb_best (cb_selS S n) 8)
theorem cb_spk_same (S : cb_S) (b : Option Nat) : cb_lw (cb_spk S b) = cb_lw S ∧ cb_gn (cb_spk S b) = cb_gn S ∧ cb_ii (cb_spk S b) = cb_ii S ∧ cb_mu (cb_spk S b) = cb_mu S ∧ cb_mo (cb_spk S b) = cb_mo S ∧ cb_ou (cb_spk S b) = cb_ou S ∧ cb_sm (cb_spk S b) = cb_sm S ∧ cb_en (cb_spk S b) = cb_en S := by
  cases b <;> exact ⟨rfl, rfl, rfl, rfl, rfl, rfl, rfl, rfl⟩
theorem cb_selS_same (S : cb_S) : ∀ n, cb_lw (cb_selS S n) = cb_lw S ∧ cb_gn (cb_selS S n) = cb_gn S ∧ cb_ii (cb_selS S n) = cb_ii S ∧ cb_mu (cb_selS S n) = cb_mu S ∧ cb_mo (cb_selS S n) = cb_mo S ∧ cb_ou (cb_selS S n) = cb_ou S ∧ cb_sm (cb_selS S n) = cb_sm S ∧ cb_en (cb_selS S n) = cb_en S
  | 0 => ⟨rfl, rfl, rfl, rfl, rfl, rfl, rfl, rfl⟩
  | n + 1 => by
    obtain ⟨h1, h2, h3, h4, h5, h6, h7, h8⟩ := cb_selS_same S n
    obtain ⟨g1, g2, g3, g4, g5, g6, g7, g8⟩ := cb_spk_same (cb_selS S n) (cb_best (cb_selS S n) 8)
    exact ⟨g1.trans h1, g2.trans h2, g3.trans h3, g4.trans h4, g5.trans h5, g6.trans h6, g7.trans h7, g8.trans h8⟩
def cb_sp01 (S : cb_S) : Prop := ∀ j, j < 8 → cb_sp S j = 0 ∨ cb_sp S j = 1
theorem cb_spk_01 {S : cb_S} (b : Option Nat) (h : cb_sp01 S) : cb_sp01 (cb_spk S b) := by
  cases b with
  | none => exact h
  | some q =>
    intro j hj
    show va_up (cb_sp S) q 1 j = 0 ∨ va_up (cb_sp S) q 1 j = 1
    unfold va_up
    split
    · exact Or.inr rfl
    · exact h j hj
theorem cb_selS_01 {S : cb_S} (h : cb_sp01 S) : ∀ n, cb_sp01 (cb_selS S n)
  | 0 => h
  | n + 1 => cb_spk_01 _ (cb_selS_01 h n)
/-- what a party adds to the sum -/
def cb_own (S : cb_S) (j k : Nat) : Int32 := if cb_sp S j = 0 then 0 else cb_sm S j k
def cb_sum (S : cb_S) (k : Nat) : Nat → Int32
  | 0 => 0
  | n + 1 => cb_sum S k n + cb_own S n k
/-- the others' sum, made anew -/
def cb_sumX (S : cb_S) (p k : Nat) : Nat → Int32
  | 0 => 0
  | n + 1 => cb_sumX S p k n + (if n = p then 0 else cb_own S n k)
theorem cb_sumX_eq (S : cb_S) (p k : Nat) : ∀ n, cb_sumX S p k n = cb_sum S k n - (if p < n then cb_own S p k else 0)
  | 0 => by rw [if_neg (by omega)]; show (0 : Int32) = 0 - 0; decide
  | n + 1 => by
    show cb_sumX S p k n + (if n = p then 0 else cb_own S n k) = cb_sum S k n + cb_own S n k - _
    rw [cb_sumX_eq S p k n]
    by_cases e : n = p
    · subst e
      rw [if_pos rfl, if_neg (by omega), if_pos (by omega)]
      grind
    · rw [if_neg e]
      by_cases h : p < n
      · rw [if_pos h, if_pos (by omega)]
        grind
      · rw [if_neg h, if_neg (by omega)]
        grind
def cb_oval (S : cb_S) (j k : Nat) : Int32 := cb_enc (cb_lw S j) (cb_sat (cb_sum S k 8 - cb_own S j k).toInt64)
theorem cb_oval_model (S : cb_S) {j : Nat} (k : Nat) (h : j < 8) : cb_enc (cb_lw S j) (cb_sat (cb_sumX S j k 8).toInt64) = cb_oval S j k := by
  unfold cb_oval
  rw [cb_sumX_eq, if_pos h]
/-- the outs put in place -/
def cb_sOA (S : cb_S) (f : Nat → Nat → Int32) : cb_S := (cb_lw S, cb_gn S, cb_mu S, cb_sp S, cb_ii S, cb_sm S, f, S.2.2.2.2.2.2.2)
theorem cb_sOA_put (S : cb_S) (f : Nat → Nat → Int32) (j k : Nat) (v : Int32) : cb_sOu (cb_sOA S f) j k v = cb_sOA S (va_up f j (upd (f j) k v)) := rfl
def cb_outL (S : cb_S) (k n : Nat) : cb_S := cb_sOA S (fun j i => if j < n ∧ i = k then cb_oval S j i else cb_ou S j i)
def cb_outA (S : cb_S) (k : Nat) : cb_S := cb_sOA S (fun j i => if j < 8 ∧ i < k then cb_oval S j i else cb_ou S j i)
def cb_outK (S : cb_S) (p k : Nat) : cb_S := cb_sOA S (fun j i => if j = p ∧ i < k then cb_oval S j i else cb_ou S j i)
def cb_outP (S : cb_S) (p : Nat) : cb_S := cb_sOA S (fun j i => if j < p ∧ i < 8 then cb_oval S j i else cb_ou S j i)
theorem cb_sOA_ext {S : cb_S} {f f' : Nat → Nat → Int32} (h : ∀ j i, f j i = f' j i) : cb_sOA S f = cb_sOA S f' := by
  rw [show f = f' from funext fun j => funext fun i => h j i]
theorem cb_sOA_self (S : cb_S) : cb_sOA S (cb_ou S) = S := rfl
theorem cb_outL_0 (S : cb_S) (k : Nat) : cb_outL S k 0 = S := by
  refine Eq.trans (cb_sOA_ext (f' := cb_ou S) (fun j i => ?_)) (cb_sOA_self S)
  rw [if_neg (by omega)]
theorem cb_outL_s (S : cb_S) (k n : Nat) : cb_sOu (cb_outL S k n) n k (cb_oval S n k) = cb_outL S k (n + 1) := by
  refine (cb_sOA_put S _ n k _).trans (cb_sOA_ext fun j i => ?_)
  show (if j = n then (fun x => if x = k then cb_oval S n k else if n < n ∧ x = k then cb_oval S n x else cb_ou S n x) else (fun x => if j < n ∧ x = k then cb_oval S j x else cb_ou S j x)) i = if j < n + 1 ∧ i = k then cb_oval S j i else cb_ou S j i
  by_cases e : j = n
  · subst e
    rw [if_pos rfl]
    by_cases e2 : i = k
    · subst e2
      rw [if_pos (show j < j + 1 ∧ i = i by omega)]
      exact if_pos rfl
    · rw [if_neg (show ¬ (j < j + 1 ∧ i = k) by omega)]
      exact (if_neg e2).trans (if_neg (by omega))
  · rw [if_neg e]
    by_cases e2 : j < n ∧ i = k
    · rw [if_pos (show j < n + 1 ∧ i = k by omega)]
      exact if_pos e2
    · rw [if_neg (show ¬ (j < n + 1 ∧ i = k) by omega)]
      exact if_neg e2
theorem cb_outA_0 (S : cb_S) : cb_outA S 0 = S := by
  refine Eq.trans (cb_sOA_ext (f' := cb_ou S) (fun j i => ?_)) (cb_sOA_self S)
  rw [if_neg (by omega)]
theorem cb_oval_sOA (S : cb_S) (f : Nat → Nat → Int32) (j k : Nat) : cb_oval (cb_sOA S f) j k = cb_oval S j k := by
  have h : ∀ n, cb_sum (cb_sOA S f) k n = cb_sum S k n := by
    intro n
    induction n with
    | zero => rfl
    | succ n ih => show cb_sum (cb_sOA S f) k n + cb_own S n k = cb_sum S k n + cb_own S n k; rw [ih]
  unfold cb_oval
  rw [h]
  rfl
theorem cb_outA_s (S : cb_S) (k : Nat) : cb_outL (cb_outA S k) k 8 = cb_outA S (k + 1) := by
  show cb_sOA S _ = cb_sOA S _
  refine cb_sOA_ext fun j i => ?_
  show (if j < 8 ∧ i = k then cb_oval (cb_outA S k) j i else if j < 8 ∧ i < k then cb_oval S j i else cb_ou S j i) = _
  unfold cb_outA
  rw [cb_oval_sOA]
  by_cases h1 : j < 8 ∧ i = k
  · rw [if_pos h1, if_pos (by omega)]
  · rw [if_neg h1]
    by_cases h2 : j < 8 ∧ i < k
    · rw [if_pos h2, if_pos (by omega)]
    · rw [if_neg h2, if_neg (by omega)]
theorem cb_outK_0 (S : cb_S) (p : Nat) : cb_outK S p 0 = S := by
  refine Eq.trans (cb_sOA_ext (f' := cb_ou S) (fun j i => ?_)) (cb_sOA_self S)
  rw [if_neg (by omega)]
theorem cb_outK_s (S : cb_S) (p k : Nat) : cb_sOu (cb_outK S p k) p k (cb_oval S p k) = cb_outK S p (k + 1) := by
  refine (cb_sOA_put S _ p k _).trans (cb_sOA_ext fun j i => ?_)
  show (if j = p then (fun x => if x = k then cb_oval S p k else if p = p ∧ x < k then cb_oval S p x else cb_ou S p x) else (fun x => if j = p ∧ x < k then cb_oval S j x else cb_ou S j x)) i = if j = p ∧ i < k + 1 then cb_oval S j i else cb_ou S j i
  by_cases e : j = p
  · subst e
    rw [if_pos rfl]
    by_cases e2 : i = k
    · subst e2
      rw [if_pos (show j = j ∧ i < i + 1 by omega)]
      exact if_pos rfl
    · by_cases h : i < k
      · rw [if_pos (show j = j ∧ i < k + 1 by omega)]
        exact (if_neg e2).trans (if_pos ⟨rfl, h⟩)
      · rw [if_neg (show ¬ (j = j ∧ i < k + 1) by omega)]
        exact (if_neg e2).trans (if_neg (by omega))
  · rw [if_neg e, if_neg (show ¬ (j = p ∧ i < k + 1) by omega)]
    exact if_neg (by omega)
theorem cb_outP_0 (S : cb_S) : cb_outP S 0 = S := by
  refine Eq.trans (cb_sOA_ext (f' := cb_ou S) (fun j i => ?_)) (cb_sOA_self S)
  rw [if_neg (by omega)]
theorem cb_outP_s (S : cb_S) (p : Nat) : cb_outK (cb_outP S p) p 8 = cb_outP S (p + 1) := by
  show cb_sOA S _ = cb_sOA S _
  refine cb_sOA_ext fun j i => ?_
  show (if j = p ∧ i < 8 then cb_oval (cb_outP S p) j i else if j < p ∧ i < 8 then cb_oval S j i else cb_ou S j i) = _
  unfold cb_outP
  rw [cb_oval_sOA]
  by_cases h1 : j = p ∧ i < 8
  · rw [if_pos h1, if_pos (by omega)]
  · rw [if_neg h1]
    by_cases h2 : j < p ∧ i < 8
    · rw [if_pos h2, if_pos (by omega)]
    · rw [if_neg h2, if_neg (by omega)]
theorem cb_outP_A (S : cb_S) : cb_outP S 8 = cb_outA S 8 := rfl
/-- the set of those that speak, as bits -/
def cb_msk (f : Nat → Int32) : Nat → Nat
  | 0 => 0
  | n + 1 => cb_msk f n ||| (if f n = 0 then 0 else 2 ^ n)
theorem cb_msk_bit (f : Nat → Int32) (i : Nat) : ∀ n, (cb_msk f n).testBit i = (decide (i < n) && !decide (f i = 0))
  | 0 => by simp [cb_msk]
  | n + 1 => by
    show (cb_msk f n ||| (if f n = 0 then 0 else 2 ^ n)).testBit i = _
    rw [Nat.testBit_or, cb_msk_bit f i n]
    by_cases e : i = n
    · subst e
      by_cases h : f i = 0
      · simp [h]
      · simp [h, Nat.testBit_two_pow_self]
    · have h2 : (if f n = 0 then 0 else 2 ^ n).testBit i = false := by
        split
        · exact Nat.zero_testBit i
        · exact Nat.testBit_two_pow_of_ne (Ne.symm e)
      rw [h2, Bool.or_false]
      by_cases h : i < n
      · rw [decide_eq_true h, decide_eq_true (show i < n + 1 by omega)]
      · rw [decide_eq_false h, decide_eq_false (show ¬ i < n + 1 by omega)]
theorem cb_msk_lt (f : Nat → Int32) : ∀ n, cb_msk f n < 2 ^ n
  | 0 => Nat.zero_lt_one
  | n + 1 => by
    have h := cb_msk_lt f n
    refine Nat.or_lt_two_pow (Nat.lt_of_lt_of_le h (Nat.pow_le_pow_right (by decide) (by omega))) ?_
    split
    · exact Nat.pow_pos (by decide)
    · exact Nat.pow_lt_pow_right (by decide) (by omega)
theorem cb_msk_lt8 (f : Nat → Int32) : cb_msk f 8 < 256 := cb_msk_lt f 8
theorem cb_one_shl : ∀ n, n < 8 → (1 : Int32) <<< (nI n &&& 31) = nI (2 ^ n) := by decide +kernel
theorem cb_msk_s (f : Nat → Int32) {n : Nat} (h : n < 8) (hf : ¬ f n = 0) : nI (cb_msk f n) ||| ((1 : Int32) <<< (nI n &&& 31)) = nI (cb_msk f (n + 1)) := by
  rw [cb_one_shl n h, cb_or]
  show _ = nI (cb_msk f n ||| (if f n = 0 then 0 else 2 ^ n))
  rw [if_neg hf]
theorem cb_msk_s0 (f : Nat → Int32) (n : Nat) (hf : f n = 0) : nI (cb_msk f n) ||| 0 = nI (cb_msk f (n + 1)) := by
  show nI (cb_msk f n) ||| nI 0 = nI (cb_msk f n ||| (if f n = 0 then 0 else 2 ^ n))
  rw [cb_or, if_pos hf]
theorem cb_msk_get (f : Nat → Int32) {i : Nat} (h : i < 8) : (nI (cb_msk f 8) >>> (nI i &&& 31)) &&& 1 = if f i = 0 then 0 else 1 := by
  have hl := cb_msk_lt8 f
  rw [pk_shrN (by omega) (nI i &&& 31) i (cb_sl i (by omega))]
  have hd : cb_msk f 8 / 2 ^ i ≤ cb_msk f 8 := Nat.div_le_self _ _
  rw [pk_andN (by omega) 1 (by decide)]
  have hb := cb_msk_bit f i 8
  rw [Nat.testBit_eq_decide_div_mod_eq, decide_eq_true h, Bool.true_and] at hb
  by_cases e : f i = 0
  · rw [if_pos e]
    have : ¬ cb_msk f 8 / 2 ^ i % 2 = 1 := by
      intro q
      rw [decide_eq_true q, decide_eq_true e] at hb
      cases hb
    have h0 : cb_msk f 8 / 2 ^ i % 2 ^ 1 = 0 := by omega
    rw [h0]
    rfl
  · rw [if_neg e]
    have : cb_msk f 8 / 2 ^ i % 2 = 1 := by
      rw [decide_eq_false e] at hb
      exact of_decide_eq_true hb
    have h1 : cb_msk f 8 / 2 ^ i % 2 ^ 1 = 1 := by omega
    rw [h1]
    rfl
theorem cb_msk_put (f : Nat → Int32) {q : Nat} (h : q < 8) : nI (cb_msk f 8) ||| ((1 : Int32) <<< (nI q &&& 31)) = nI (cb_msk (va_up f q 1) 8) := by
  rw [cb_one_shl q h, cb_or]
  congr 1
  apply Nat.eq_of_testBit_eq
  intro i
  rw [Nat.testBit_or, cb_msk_bit, cb_msk_bit]
  by_cases e : i = q
  · subst e
    simp [va_up, h, Nat.testBit_two_pow_self]
  · rw [Nat.testBit_two_pow_of_ne (Ne.symm e)]
    simp [va_up, e]
theorem cb_msk_none (f : Nat → Int32) (h : ∀ j, j < 8 → f j = 0) : cb_msk f 8 = 0 := by
  apply Nat.eq_of_testBit_eq
  intro i
  rw [cb_msk_bit, Nat.zero_testBit]
  by_cases e : i < 8
  · simp [h i e]
  · simp [e]
def cb_most (S : cb_S) : Nat := (cb_mo S).toNatClampNeg
def cb_mix2 (S : cb_S) : cb_S := cb_selS (cb_measA S 8) (cb_most S)
def cb_mixS (S : cb_S) : cb_S := cb_outA (cb_mix2 S) 8
def cb_mixR (S : cb_S) : Int32 := nI (cb_msk (cb_sp (cb_mix2 S)) 8)
theorem cb_measA_01 (S : cb_S) : cb_sp01 (cb_measA S 8) := fun j hj => Or.inl (cb_measA_sp S 8 j hj)
theorem cb_mix2_01 (S : cb_S) : cb_sp01 (cb_mix2 S) := cb_selS_01 (cb_measA_01 S) _
theorem cb_mix2_same (S : cb_S) : cb_lw (cb_mix2 S) = cb_lw S ∧ cb_gn (cb_mix2 S) = cb_gn S ∧ cb_ii (cb_mix2 S) = cb_ii S ∧ cb_mu (cb_mix2 S) = cb_mu S ∧ cb_mo (cb_mix2 S) = cb_mo S := by
  obtain ⟨h1, h2, h3, h4, h5, -⟩ := cb_selS_same (cb_measA S 8) (cb_most S)
  obtain ⟨g1, g2, g3, g4, g5, -⟩ := cb_measA_same S 8
  exact ⟨h1.trans g1, h2.trans g2, h3.trans g3, h4.trans g4, h5.trans g5⟩
end
section
/-! the bridge's methods with loops -/
set_option maxRecDepth 100000
set_option maxHeartbeats 4000000 in
set_option maxRecDepth 100000 in
theorem bramp_loop {p : Program} {l : Launch} {e : Env} {s : State} {m : MethodId} {args : Array Value} {below : List Frame} {meth : Method} {c : Code} {Q : State → Prop} {D : va_G} {tc : Nat → ClassId} {g : Nat → Nat} {A : Nat → Prop} {H0 : Heap} {S : cb_S} {j : Nat} {a d : Int32} (hx : p.tables.exec = Jvm.exec) (hb : c.code = cX1_ramp) (hml : c.maxLocals = 6) (hts : ∀ w ∈ lw_all, w.before args s = true) (hown : s.vm.findClass RX1 = some m.cls) (hI : cb_inj g) (hA : ∀ k, k < 37 → A (g k)) (hzE : va_Nw (.declares ⟨RX2, "encoded", "(I)I"⟩) s) (hzD : va_Nw (.declares ⟨RX2, "decoded", "(I)I"⟩) s) (hj : j < 8) (hlw : cb_lw S j < 2) (K : ∀ (H : Heap) (locs : List Loc), cb_B D tc g A s H0 (cb_rampS S j a d 8) 8 H locs → ∀ ls : Array Slot, lv_has ls 6 [(0, .ref (g 0))] → W p l e (headSpec (ws_ yX1_ramp cX1_ramp 6 (some .boolean)) ({ frames := 3, cells := 0, slots := 0, locals := 65 } : Room)).room s m args below meth c H locs 0 0 Q (F0 m 64 ls [])) : ∀ (n i : Nat), i + n = 8 → ∀ (H : Heap) (locs : List Loc), cb_B D tc g A s H0 (cb_rampS S j a d i) 8 H locs → ∀ ls : Array Slot, lv_has ls 6 [(5, .int (nI i)), (4, .ref (g (5 + 4 * j))), (0, .ref (g 0)), (1, .int (nI j)), (2, .int a), (3, .int d)] → W p l e (headSpec (ws_ yX1_ramp cX1_ramp 6 (some .boolean)) ({ frames := 3, cells := 0, slots := 0, locals := 65 } : Room)).room s m args below meth c H locs 0 0 Q (F0 m 23 ls []) := by
  intro n
  induction n with
  | zero =>
    intro i hi H locs hB ls hl
    obtain rfl : 8 = i := by omega
    refine lv_iload hx hb dX1_ramp_23 (lv_at hl 0 rfl) ?_
    refine lv_bipush (v := 8) hx hb dX1_ramp_25 (by decide) ?_
    refine lv_icmp_ge (tgt := 64) hx hb dX1_ramp_27 (by decide) (fun cz => ?_) (fun cz => (cz (Int32.le_refl _) : False).elim)
    exact K H locs hB ls (lv_sub hl [2] rfl)
  | succ n ih =>
    intro i hi H locs hB ls hl
    have hk : i < 8 := by omega
    refine lv_iload hx hb dX1_ramp_23 (lv_at hl 0 rfl) ?_
    refine lv_bipush (v := 8) hx hb dX1_ramp_25 (by decide) ?_
    refine lv_icmp_ge (tgt := 64) hx hb dX1_ramp_27 (by decide) (fun cz => (absurd cz (nI_ge (b := 8) hk (by decide)) : False).elim) (fun cz => ?_)
    refine lv_aload hx hb dX1_ramp_30 (lv_at hl 1 rfl) ?_
    refine cb_getP hx hb hts hown hB j hj 4 (by decide) q55 rfl dX1_ramp_32 ?_
    refine lv_iload hx hb dX1_ramp_35 (lv_at hl 0 rfl) ?_
    refine lv_aload hx hb dX1_ramp_37 (lv_at hl 1 rfl) ?_
    refine cb_getP hx hb hts hown hB j hj 0 (by decide) q49 rfl dX1_ramp_39 ?_
    refine lv_iload_n hx hb dX1_ramp_42 rfl (lv_at hl 4 rfl) ?_
    refine lv_i2l hx hb dX1_ramp_43 rfl ?_
    refine lv_iload_n hx hb dX1_ramp_44 rfl (lv_at hl 5 rfl) ?_
    refine lv_i2l hx hb dX1_ramp_45 rfl ?_
    refine lv_iload hx hb dX1_ramp_46 (lv_at hl 0 rfl) ?_
    refine lv_i2l hx hb dX1_ramp_48 rfl ?_
    refine lv_lmul hx hb dX1_ramp_49 ?_
    refine lv_ladd hx hb dX1_ramp_50 ?_
    refine cb_callPi (va_runS (As := [.long (a.toInt64 + (d.toInt64 * ((nI i).toInt64)))]) (rest := [.ref (g (2 + cb_lw (cb_rampS S j a d i) j)), .int (nI i), .ref (g (6 + 4 * j))]) ⟨hx, hb, hml, hown, hts⟩ (met_sat l (a.toInt64 + (d.toInt64 * (nI i).toInt64))) (va_cwS 1 hts (lw_S q121 q122 q3 q123) rfl rfl rfl (by decide +kernel) ⟨Nat.le_of_ble_eq_true rfl, Nat.le_of_ble_eq_true rfl⟩) cb_preS rfl rfl hl.1 rfl (lv_room (Nat.le_of_ble_eq_true rfl)) dX1_ramp_51 ⟨Nat.zero_le _, Nat.zero_le _⟩) ?_
    refine cb_callE hx hb hml hts hown hB hzE (Nat.le_of_ble_eq_true rfl) (Nat.le_of_ble_eq_true rfl) (Nat.zero_le _) (Nat.zero_le _) (cb_lw (cb_rampS S j a d i) j) (by rw [cb_rampS_lw]; exact hlw) (cb_sat_rng _) hl.1 (Nat.le_of_ble_eq_true rfl) dX1_ramp_54 ?_
    refine cb_top (y := cb_rampV S j a d i) (by unfold cb_rampV; rw [cb_rampS_lw]) ?_
    refine cb_stI hx hb hB j hj i hk dX1_ramp_57 (fun H locs hB => ?_)
    refine lv_iinc (v := (nI (i + 1))) (lv' := [(5, .int (nI (i + 1))), (4, .ref (g (5 + 4 * j))), (0, .ref (g 0)), (1, .int (nI j)), (2, .int a), (3, .int d)]) hx hb dX1_ramp_58 hl (k := 0) rfl (nI_1 i) (by decide) rfl (fun ls hl => ?_)
    refine lv_goto (tgt := 23) hx hb dX1_ramp_61 (by decide) ?_
    exact ih (i + 1) (by omega) H locs hB ls hl
set_option maxHeartbeats 4000000 in
set_option maxRecDepth 100000 in
theorem met_bRamp (l : Launch) (D : va_G) (tc : Nat → ClassId) (g : Nat → Nat) (S : cb_S) (x1 a d : Int32) (hok : ∀ j, j < 8 → cb_lw S j < 2) : Met l yX1_ramp (ws_ yX1_ramp cX1_ramp 6 (some .boolean)) ({ frames := 3, cells := 0, slots := 0, locals := 65 } : Room) (va_Pc [.ref (g 0), .int x1, .int a, .int d] (cb_Pre D tc g S)) (cb_Qb D tc g (some (.int (cb_fRamp S x1 a d).1)) (cb_fRamp S x1 a d).2) 0 0 (cb_A g) := by
  refine Met.ofW (cc := cX1_ramp) (maxL := 6) (ret := (some .boolean)) (by decide) rfl ?_
  intro p e s m args below meth c s₁ B hml hv
  obtain ⟨rfl, hv⟩ := hv
  have hB := cb_start hv
  obtain ⟨-, -, hI, hzE, hzD⟩ := hv
  have hx := B.exec
  have hb := B.bytes
  have hr := B.returns
  have hts := atoms_spec (ws := (ws_ yX1_ramp cX1_ramp 6 (some .boolean))) B.pre
  have hts : ∀ w ∈ lw_all, w.before _ s = true := fun w h => hts w (List.mem_cons_of_mem _ h)
  have hown : s.vm.findClass RX1 = some m.cls := findClass_of_methodNamed B.named
  have hlocks := B.notSynchronized
  have hl := lv_entry ([.ref (g 0), .int x1, .int a, .int d]) (n := 6) (Nat.le_of_ble_eq_true rfl)
  rw [lg_entry_eq]
  generalize (lg_sl ([.ref (g 0), .int x1, .int a, .int d]) ++ List.replicate (6 - (lg_sl ([.ref (g 0), .int x1, .int a, .int d])).length) Slot.unset).toArray = ls at hl ⊢
  have hl : lv_has ls 6 [(0, .ref (g 0)), (1, .int x1), (2, .int a), (3, .int d)] := hl
  by_cases h1 : cb_ix x1 8 = true
  · obtain ⟨j, hj, rfl⟩ := cb_ix_of h1 (by decide)
    rw [show cb_fRamp S (nI j) a d = (1, cb_rampS S j a d 8) from by unfold cb_fRamp; rw [if_pos h1, nI_clamp (by omega)]]
    refine lv_iload_n hx hb dX1_ramp_0 rfl (lv_at hl 1 rfl) ?_
    refine lv_iconst (v := 0) hx hb dX1_ramp_1 (by decide) ?_
    refine lv_bipush (v := 7) hx hb dX1_ramp_2 (by decide) ?_
    refine cb_callPi (va_runS (As := [.int (nI j), .int 0, .int 7]) (rest := []) ⟨hx, hb, hml, hown, hts⟩ (met_ix l (nI j) 7 8 (by decide)) (va_cwS 3 hts (lw_S q118 q119 q3 q120) rfl rfl rfl (by decide +kernel) ⟨Nat.le_of_ble_eq_true rfl, Nat.le_of_ble_eq_true rfl⟩) cb_preS rfl rfl hl.1 rfl (lv_room (Nat.le_of_ble_eq_true rfl)) dX1_ramp_4 ⟨Nat.zero_le _, Nat.zero_le _⟩) ?_
    refine cb_top (y := 1) (if_pos h1) ?_
    refine lv_if_ne (tgt := 12) hx hb dX1_ramp_7 (by decide) (fun cz => ?_) (fun cz => (absurd cz (by decide) : False).elim)
    refine lv_aload_n hx hb dX1_ramp_12 rfl (lv_at hl 0 rfl) ?_
    refine cb_getB hx hb hts hown hB 1 (by decide) q105 rfl dX1_ramp_13 ?_
    refine lv_iload_n hx hb dX1_ramp_16 rfl (lv_at hl 1 rfl) ?_
    refine cb_aaP hx hb hB j hj (by omega) dX1_ramp_17 ?_
    refine lv_astore (lv' := [(4, .ref (g (5 + 4 * j))), (0, .ref (g 0)), (1, .int (nI j)), (2, .int a), (3, .int d)]) hx hb dX1_ramp_18 hl (by decide) rfl (fun ls hl => ?_)
    refine lv_iconst (v := 0) hx hb dX1_ramp_20 (by decide) ?_
    refine lv_istore (lv' := [(5, .int 0), (4, .ref (g (5 + 4 * j))), (0, .ref (g 0)), (1, .int (nI j)), (2, .int a), (3, .int d)]) hx hb dX1_ramp_21 hl (by decide) rfl (fun ls hl => ?_)
    refine bramp_loop (S := S) hx hb hml hts hown hI (fun k hk => ⟨k, hk, rfl⟩) hzE hzD hj (hok j hj) (fun H locs hB ls hl => ?_) 8 0 rfl _ _ hB ls hl
    refine lv_iconst (v := 1) hx hb dX1_ramp_64 (by decide) ?_
    exact W.zret (v := 1) hx hb hr rfl (fun t9 ht hW => ⟨cb_r (rfl), by rw [ht]; exact hB.1, hB.2.2.1.F ht⟩) hB.2.2.1.2.2 dX1_ramp_65
  · rw [show cb_fRamp S x1 a d = (0, S) from by unfold cb_fRamp; rw [if_neg h1]]
    refine lv_iload_n hx hb dX1_ramp_0 rfl (lv_at hl 1 rfl) ?_
    refine lv_iconst (v := 0) hx hb dX1_ramp_1 (by decide) ?_
    refine lv_bipush (v := 7) hx hb dX1_ramp_2 (by decide) ?_
    refine cb_callPi (va_runS (As := [.int x1, .int 0, .int 7]) (rest := []) ⟨hx, hb, hml, hown, hts⟩ (met_ix l x1 7 8 (by decide)) (va_cwS 3 hts (lw_S q118 q119 q3 q120) rfl rfl rfl (by decide +kernel) ⟨Nat.le_of_ble_eq_true rfl, Nat.le_of_ble_eq_true rfl⟩) cb_preS rfl rfl hl.1 rfl (lv_room (Nat.le_of_ble_eq_true rfl)) dX1_ramp_4 ⟨Nat.zero_le _, Nat.zero_le _⟩) ?_
    refine cb_top (y := 0) (if_neg h1) ?_
    refine lv_if_ne (tgt := 12) hx hb dX1_ramp_7 (by decide) (fun cz => (cz rfl : False).elim) (fun cz => ?_)
    refine lv_iconst (v := 0) hx hb dX1_ramp_10 (by decide) ?_
    exact W.zret (v := 0) hx hb hr rfl (fun t9 ht hW => ⟨cb_r (rfl), by rw [ht]; exact hB.1, hB.2.2.1.F ht⟩) hB.2.2.1.2.2 dX1_ramp_11
set_option maxHeartbeats 4000000 in
set_option maxRecDepth 100000 in
theorem bmeas_loop {p : Program} {l : Launch} {e : Env} {s : State} {m : MethodId} {args : Array Value} {below : List Frame} {meth : Method} {c : Code} {Q : State → Prop} {D : va_G} {tc : Nat → ClassId} {g : Nat → Nat} {A : Nat → Prop} {H0 : Heap} {S : cb_S} {j : Nat} (hx : p.tables.exec = Jvm.exec) (hb : c.code = cX1_measure) (hml : c.maxLocals = 3) (hts : ∀ w ∈ lw_all, w.before args s = true) (hown : s.vm.findClass RX1 = some m.cls) (hI : cb_inj g) (hA : ∀ k, k < 37 → A (g k)) (hzE : va_Nw (.declares ⟨RX2, "encoded", "(I)I"⟩) s) (hzD : va_Nw (.declares ⟨RX2, "decoded", "(I)I"⟩) s) (hj : j < 8) (hlw : cb_lw S j < 2) (hby : ∀ k, k < 8 → cb_isB (cb_ii S j k)) (K : ∀ (H : Heap) (locs : List Loc), cb_B D tc g A s H0 (cb_measL S j 8) 8 H locs → ∀ ls : Array Slot, lv_has ls 3 [(0, .ref (g (5 + 4 * j)))] → W p l e (headSpec (ws_ yX1_measure cX1_measure 3 none) ({ frames := 2, cells := 0, slots := 0, locals := 61 } : Room)).room s m args below meth c H locs 0 0 Q (F0 m 74 ls [])) : ∀ (n i : Nat), i + n = 8 → ∀ (H : Heap) (locs : List Loc), cb_B D tc g A s H0 (cb_measL S j i) 8 H locs → ∀ ls : Array Slot, lv_has ls 3 [(1, .int (nI i)), (0, .ref (g (5 + 4 * j)))] → W p l e (headSpec (ws_ yX1_measure cX1_measure 3 none) ({ frames := 2, cells := 0, slots := 0, locals := 61 } : Room)).room s m args below meth c H locs 0 0 Q (F0 m 12 ls []) := by
  intro n
  induction n with
  | zero =>
    intro i hi H locs hB ls hl
    obtain rfl : 8 = i := by omega
    refine lv_iload_n hx hb dX1_measure_12 rfl (lv_at hl 0 rfl) ?_
    refine lv_bipush (v := 8) hx hb dX1_measure_13 (by decide) ?_
    refine lv_icmp_ge (tgt := 74) hx hb dX1_measure_15 (by decide) (fun cz => ?_) (fun cz => (cz (Int32.le_refl _) : False).elim)
    exact K H locs hB ls (lv_sub hl [1] rfl)
  | succ n ih =>
    intro i hi H locs hB ls hl
    have hk : i < 8 := by omega
    obtain ⟨s1, s2, s3, -, -, -⟩ := cb_measL_same S j i
    refine lv_iload_n hx hb dX1_measure_12 rfl (lv_at hl 0 rfl) ?_
    refine lv_bipush (v := 8) hx hb dX1_measure_13 (by decide) ?_
    refine lv_icmp_ge (tgt := 74) hx hb dX1_measure_15 (by decide) (fun cz => (absurd cz (nI_ge (b := 8) hk (by decide)) : False).elim) (fun cz => ?_)
    refine lv_aload_n hx hb dX1_measure_18 rfl (lv_at hl 1 rfl) ?_
    refine cb_getP hx hb hts hown hB j hj 0 (by decide) q49 rfl dX1_measure_19 ?_
    refine lv_aload_n hx hb dX1_measure_22 rfl (lv_at hl 1 rfl) ?_
    refine cb_getP hx hb hts hown hB j hj 4 (by decide) q55 rfl dX1_measure_23 ?_
    refine lv_iload_n hx hb dX1_measure_26 rfl (lv_at hl 0 rfl) ?_
    refine cb_ldI hx hb hB j hj i hk dX1_measure_27 ?_
    refine cb_top (y := nI (cb_by (cb_ii S j i))) (by rw [s3]; exact hby i hk) ?_
    refine cb_callD hx hb hml hts hown hB hzD (Nat.le_of_ble_eq_true rfl) (Nat.le_of_ble_eq_true rfl) (Nat.zero_le _) (Nat.zero_le _) (cb_lw (cb_measL S j i) j) (by rw [s1]; exact hlw) (k := (cb_by (cb_ii S j i))) (cb_by_lt _) hl.1 (Nat.le_of_ble_eq_true rfl) dX1_measure_28 ?_
    refine cb_top (y := cb_dec (cb_lw S j) (cb_by (cb_ii S j i))) (by rw [s1]) ?_
    refine lv_aload_n hx hb dX1_measure_31 rfl (lv_at hl 1 rfl) ?_
    refine cb_getP hx hb hts hown hB j hj 1 (by decide) q51 rfl dX1_measure_32 ?_
    refine cb_top (y := cb_gn S j) (by rw [s2]) ?_
    refine lv_imul hx hb dX1_measure_35 ?_
    refine lv_sipush (v := 256) hx hb dX1_measure_36 (by decide) ?_
    refine cb_callPi (va_runS (As := [.int ((cb_dec (cb_lw S j) (cb_by (cb_ii S j i))) * (cb_gn S j)), .int 256]) (rest := []) ⟨hx, hb, hml, hown, hts⟩ (met_fd l ((cb_dec (cb_lw S j) (cb_by (cb_ii S j i))) * (cb_gn S j))) (va_cwS 2 hts (lw_S q172 q173 q9 q174) rfl rfl rfl (by decide +kernel) ⟨Nat.le_of_ble_eq_true rfl, Nat.le_of_ble_eq_true rfl⟩) cb_preS rfl rfl hl.1 rfl (lv_room (Nat.le_of_ble_eq_true rfl)) dX1_measure_39 ⟨Nat.zero_le _, Nat.zero_le _⟩) ?_
    refine lv_i2l hx hb dX1_measure_42 rfl ?_
    refine cb_callPi (va_runS (As := [.long ((cb_fl ((cb_dec (cb_lw S j) (cb_by (cb_ii S j i))) * (cb_gn S j))).toInt64)]) (rest := []) ⟨hx, hb, hml, hown, hts⟩ (met_sat l (cb_fl ((cb_dec (cb_lw S j) (cb_by (cb_ii S j i))) * (cb_gn S j))).toInt64) (va_cwS 1 hts (lw_S q121 q122 q3 q123) rfl rfl rfl (by decide +kernel) ⟨Nat.le_of_ble_eq_true rfl, Nat.le_of_ble_eq_true rfl⟩) cb_preS rfl rfl hl.1 rfl (lv_room (Nat.le_of_ble_eq_true rfl)) dX1_measure_43 ⟨Nat.zero_le _, Nat.zero_le _⟩) ?_
    refine cb_top (y := cb_v S j i) (rfl) ?_
    refine lv_istore_n (lv' := [(2, .int (cb_v S j i)), (1, .int (nI i)), (0, .ref (g (5 + 4 * j)))]) hx hb dX1_measure_46 rfl hl (by decide) rfl (fun ls hl => ?_)
    refine lv_aload_n hx hb dX1_measure_47 rfl (lv_at hl 2 rfl) ?_
    refine cb_getP hx hb hts hown hB j hj 5 (by decide) q57 rfl dX1_measure_48 ?_
    refine lv_iload_n hx hb dX1_measure_51 rfl (lv_at hl 1 rfl) ?_
    refine lv_iload_n hx hb dX1_measure_52 rfl (lv_at hl 0 rfl) ?_
    refine cb_stS hx hb hB j hj i hk dX1_measure_53 (fun H locs hB => ?_)
    refine lv_aload_n hx hb dX1_measure_54 rfl (lv_at hl 2 rfl) ?_
    refine lv_dup hx hb dX1_measure_55 rfl ?_
    refine cb_getP hx hb hts hown hB j hj 7 (by decide) q60 rfl dX1_measure_56 ?_
    refine lv_iload_n hx hb dX1_measure_59 rfl (lv_at hl 0 rfl) ?_
    refine lv_i2l hx hb dX1_measure_60 rfl ?_
    refine lv_iload_n hx hb dX1_measure_61 rfl (lv_at hl 0 rfl) ?_
    refine lv_i2l hx hb dX1_measure_62 rfl ?_
    refine lv_lmul hx hb dX1_measure_63 ?_
    refine lv_ladd hx hb dX1_measure_64 ?_
    refine cb_putEn hx hb hts hown hB j hj dX1_measure_65 (fun H locs hB => ?_)
    refine lv_iinc (v := (nI (i + 1))) (lv' := [(1, .int (nI (i + 1))), (2, .int (cb_v S j i)), (0, .ref (g (5 + 4 * j)))]) hx hb dX1_measure_68 hl (k := 1) rfl (nI_1 i) (by decide) rfl (fun ls hl => ?_)
    refine lv_goto (tgt := 12) hx hb dX1_measure_71 (by decide) ?_
    exact ih (i + 1) (by omega) H locs hB ls (lv_sub hl [0, 2] rfl)
set_option maxHeartbeats 4000000 in
set_option maxRecDepth 100000 in
theorem met_bMeas (l : Launch) (D : va_G) (tc : Nat → ClassId) (g : Nat → Nat) (S : cb_S) (j : Nat) (hj : j < 8) (hlw : cb_lw S j < 2) (hby : ∀ k, k < 8 → cb_isB (cb_ii S j k)) : Met l yX1_measure (ws_ yX1_measure cX1_measure 3 none) ({ frames := 2, cells := 0, slots := 0, locals := 61 } : Room) (va_Pc [.ref (g (5 + 4 * j))] (cb_Pre D tc g S)) (cb_Qb D tc g none (cb_measL S j 8)) 0 0 (cb_A g) := by
  refine Met.ofW (cc := cX1_measure) (maxL := 3) (ret := none) (by decide) rfl ?_
  intro p e s m args below meth c s₁ B hml hv
  obtain ⟨rfl, hv⟩ := hv
  have hB := cb_start hv
  obtain ⟨-, -, hI, hzE, hzD⟩ := hv
  have hx := B.exec
  have hb := B.bytes
  have hr := B.returns
  have hts := atoms_spec (ws := (ws_ yX1_measure cX1_measure 3 none)) B.pre
  have hts : ∀ w ∈ lw_all, w.before _ s = true := fun w h => hts w (List.mem_cons_of_mem _ h)
  have hown : s.vm.findClass RX1 = some m.cls := findClass_of_methodNamed B.named
  have hlocks := B.notSynchronized
  have hl := lv_entry ([.ref (g (5 + 4 * j))]) (n := 3) (Nat.le_of_ble_eq_true rfl)
  rw [lg_entry_eq]
  generalize (lg_sl ([.ref (g (5 + 4 * j))]) ++ List.replicate (3 - (lg_sl ([.ref (g (5 + 4 * j))])).length) Slot.unset).toArray = ls at hl ⊢
  have hl : lv_has ls 3 [(0, .ref (g (5 + 4 * j)))] := hl
  refine lv_aload_n hx hb dX1_measure_0 rfl (lv_at hl 0 rfl) ?_
  refine lv_lconst (v := 0) hx hb dX1_measure_1 (by decide) ?_
  refine cb_putEn hx hb hts hown hB j hj dX1_measure_2 (fun H locs hB => ?_)
  refine lv_aload_n hx hb dX1_measure_5 rfl (lv_at hl 0 rfl) ?_
  refine lv_iconst (v := 0) hx hb dX1_measure_6 (by decide) ?_
  refine cb_putSp hx hb hts hown hB j hj (Or.inl rfl) dX1_measure_7 (fun H locs hB => ?_)
  refine lv_iconst (v := 0) hx hb dX1_measure_10 (by decide) ?_
  refine lv_istore_n (lv' := [(1, .int 0), (0, .ref (g (5 + 4 * j)))]) hx hb dX1_measure_11 rfl hl (by decide) rfl (fun ls hl => ?_)
  refine bmeas_loop (S := S) hx hb hml hts hown hI (fun k hk => ⟨k, hk, rfl⟩) hzE hzD hj hlw hby (fun H locs hB ls hl => ?_) 8 0 rfl _ _ hB ls hl
  exact W.vret hx hb hr (fun t9 ht hW => ⟨rfl, by rw [ht]; exact hB.1, hB.2.2.1.F ht⟩) hB.2.2.1.2.2 dX1_measure_74
set_option maxHeartbeats 4000000 in
set_option maxRecDepth 100000 in
theorem blou_loop {p : Program} {l : Launch} {e : Env} {s : State} {m : MethodId} {args : Array Value} {below : List Frame} {meth : Method} {c : Code} {Q : State → Prop} {D : va_G} {tc : Nat → ClassId} {g : Nat → Nat} {A : Nat → Prop} {H0 : Heap} {S : cb_S} (hx : p.tables.exec = Jvm.exec) (hb : c.code = cX1_loudest) (hml : c.maxLocals = 7) (hts : ∀ w ∈ lw_all, w.before args s = true) (hown : s.vm.findClass RX1 = some m.cls) (hI : cb_inj g) (hA : ∀ k, k < 37 → A (g k)) (hzE : va_Nw (.declares ⟨RX2, "encoded", "(I)I"⟩) s) (hzD : va_Nw (.declares ⟨RX2, "decoded", "(I)I"⟩) s) {H : Heap} {locs : List Loc} (hB : cb_B D tc g A s H0 S 8 H locs) (K : ∀ ls : Array Slot, lv_has ls 7 [(1, va_rf ((cb_best S 8).map fun q => g (5 + 4 * q)))] → W p l e (headSpec (ws_ yX1_loudest cX1_loudest 7 (some (.object "ConferenceBridge$Party"))) ({ frames := 0, cells := 0, slots := 0, locals := 0 } : Room)).room s m args below meth c H locs 0 0 Q (F0 m 89 ls [])) : ∀ (n i : Nat), i + n = 8 → ∀ ls : Array Slot, lv_has ls 7 [(4, .int (nI i)), (3, .int 8), (2, .ref (g 4)), (1, va_rf ((cb_best S i).map fun q => g (5 + 4 * q))), (0, .ref (g 0))] → W p l e (headSpec (ws_ yX1_loudest cX1_loudest 7 (some (.object "ConferenceBridge$Party"))) ({ frames := 0, cells := 0, slots := 0, locals := 0 } : Room)).room s m args below meth c H locs 0 0 Q (F0 m 13 ls []) := by
  intro n
  induction n with
  | zero =>
    intro i hi ls hl
    obtain rfl : i = 8 := by omega
    refine lv_iload hx hb dX1_loudest_13 (lv_at hl 0 rfl) ?_
    refine lv_iload_n hx hb dX1_loudest_15 rfl (lv_at hl 1 rfl) ?_
    refine lv_icmp_ge (tgt := 89) hx hb dX1_loudest_16 (by decide) (fun cz => ?_) (fun cz => (cz (Int32.le_refl _) : False).elim)
    exact K ls (lv_sub hl [3] rfl)
  | succ n ih =>
    intro i hi ls hl
    have hk : i < 8 := by omega
    cases hbs : cb_best S i with
    | none =>
      rw [hbs] at hl
      have hl : lv_has ls 7 [(4, .int (nI i)), (3, .int 8), (2, .ref (g 4)), (1, .null), (0, .ref (g 0))] := hl
      refine lv_iload hx hb dX1_loudest_13 (lv_at hl 0 rfl) ?_
      refine lv_iload_n hx hb dX1_loudest_15 rfl (lv_at hl 1 rfl) ?_
      refine lv_icmp_ge (tgt := 89) hx hb dX1_loudest_16 (by decide) (fun cz => (absurd cz (nI_ge (b := 8) hk (by decide)) : False).elim) (fun cz => ?_)
      refine lv_aload_n hx hb dX1_loudest_19 rfl (lv_at hl 2 rfl) ?_
      refine lv_iload hx hb dX1_loudest_20 (lv_at hl 0 rfl) ?_
      refine cb_aaP hx hb hB i hk (by omega) dX1_loudest_22 ?_
      refine lv_astore (lv' := [(5, .ref (g (5 + 4 * i))), (4, .int (nI i)), (3, .int 8), (2, .ref (g 4)), (1, .null), (0, .ref (g 0))]) hx hb dX1_loudest_23 hl (by decide) rfl (fun ls hl => ?_)
      refine lv_aload hx hb dX1_loudest_25 (lv_at hl 0 rfl) ?_
      refine cb_getP hx hb hts hown hB i hk 2 (by decide) q52 rfl dX1_loudest_27 ?_
      refine lv_if_ne (tgt := 55) hx hb dX1_loudest_30 (by decide) (fun c0 => ?_) (fun c0 => ?_)
      · refine lv_iconst (v := 0) hx hb dX1_loudest_55 (by decide) ?_
        refine lv_istore (lv' := [(6, .int 0), (5, .ref (g (5 + 4 * i))), (4, .int (nI i)), (3, .int 8), (2, .ref (g 4)), (1, .null), (0, .ref (g 0))]) hx hb dX1_loudest_56 hl (by decide) rfl (fun ls hl => ?_)
        refine lv_iload hx hb dX1_loudest_58 (lv_at hl 0 rfl) ?_
        refine lv_if_eq (tgt := 83) hx hb dX1_loudest_60 (by decide) (fun cz => ?_) (fun cz => (cz rfl : False).elim)
        have hnb : cb_best S (i + 1) = none := by show cb_pick S (cb_best S i) i = _; rw [hbs]; unfold cb_pick; rw [if_neg (fun h => c0 h.1)]
        refine lv_iinc (v := (nI (i + 1))) (lv' := [(4, .int (nI (i + 1))), (6, .int 0), (5, .ref (g (5 + 4 * i))), (3, .int 8), (2, .ref (g 4)), (1, .null), (0, .ref (g 0))]) hx hb dX1_loudest_83 hl (k := 2) rfl (nI_1 i) (by decide) rfl (fun ls hl => ?_)
        refine lv_goto (tgt := 13) hx hb dX1_loudest_86 (by decide) ?_
        exact ih (i + 1) (by omega) ls (by rw [hnb]; exact lv_sub hl [0, 3, 4, 5, 6] rfl)
      · refine lv_aload hx hb dX1_loudest_33 (lv_at hl 0 rfl) ?_
        refine cb_getP hx hb hts hown hB i hk 3 (by decide) q53 rfl dX1_loudest_35 ?_
        refine lv_if_ne (tgt := 55) hx hb dX1_loudest_38 (by decide) (fun c1 => ?_) (fun c1 => ?_)
        · refine lv_iconst (v := 0) hx hb dX1_loudest_55 (by decide) ?_
          refine lv_istore (lv' := [(6, .int 0), (5, .ref (g (5 + 4 * i))), (4, .int (nI i)), (3, .int 8), (2, .ref (g 4)), (1, .null), (0, .ref (g 0))]) hx hb dX1_loudest_56 hl (by decide) rfl (fun ls hl => ?_)
          refine lv_iload hx hb dX1_loudest_58 (lv_at hl 0 rfl) ?_
          refine lv_if_eq (tgt := 83) hx hb dX1_loudest_60 (by decide) (fun cz => ?_) (fun cz => (cz rfl : False).elim)
          have hnb : cb_best S (i + 1) = none := by show cb_pick S (cb_best S i) i = _; rw [hbs]; unfold cb_pick; rw [if_neg (fun h => c1 h.2.1)]
          refine lv_iinc (v := (nI (i + 1))) (lv' := [(4, .int (nI (i + 1))), (6, .int 0), (5, .ref (g (5 + 4 * i))), (3, .int 8), (2, .ref (g 4)), (1, .null), (0, .ref (g 0))]) hx hb dX1_loudest_83 hl (k := 2) rfl (nI_1 i) (by decide) rfl (fun ls hl => ?_)
          refine lv_goto (tgt := 13) hx hb dX1_loudest_86 (by decide) ?_
          exact ih (i + 1) (by omega) ls (by rw [hnb]; exact lv_sub hl [0, 3, 4, 5, 6] rfl)
        · refine lv_aload hx hb dX1_loudest_41 (lv_at hl 0 rfl) ?_
          refine cb_getP hx hb hts hown hB i hk 7 (by decide) q60 rfl dX1_loudest_43 ?_
          refine lv_lconst (v := 0) hx hb dX1_loudest_46 (by decide) ?_
          refine W.lcmp hx hb dX1_loudest_47 ?_
          refine lv_if_le (tgt := 55) hx hb dX1_loudest_48 (by decide) (fun c2 => ?_) (fun c2 => ?_)
          · refine lv_iconst (v := 0) hx hb dX1_loudest_55 (by decide) ?_
            refine lv_istore (lv' := [(6, .int 0), (5, .ref (g (5 + 4 * i))), (4, .int (nI i)), (3, .int 8), (2, .ref (g 4)), (1, .null), (0, .ref (g 0))]) hx hb dX1_loudest_56 hl (by decide) rfl (fun ls hl => ?_)
            refine lv_iload hx hb dX1_loudest_58 (lv_at hl 0 rfl) ?_
            refine lv_if_eq (tgt := 83) hx hb dX1_loudest_60 (by decide) (fun cz => ?_) (fun cz => (cz rfl : False).elim)
            have hnb : cb_best S (i + 1) = none := by show cb_pick S (cb_best S i) i = _; rw [hbs]; unfold cb_pick; rw [if_neg (fun h => absurd h.2.2 (Int64.not_lt.mpr ((lg_cmp_le _ _).mp c2)))]
            refine lv_iinc (v := (nI (i + 1))) (lv' := [(4, .int (nI (i + 1))), (6, .int 0), (5, .ref (g (5 + 4 * i))), (3, .int 8), (2, .ref (g 4)), (1, .null), (0, .ref (g 0))]) hx hb dX1_loudest_83 hl (k := 2) rfl (nI_1 i) (by decide) rfl (fun ls hl => ?_)
            refine lv_goto (tgt := 13) hx hb dX1_loudest_86 (by decide) ?_
            exact ih (i + 1) (by omega) ls (by rw [hnb]; exact lv_sub hl [0, 3, 4, 5, 6] rfl)
          · have hmay : cb_mu S i = 0 ∧ cb_sp S i = 0 ∧ 0 < cb_en S i := ⟨c0, c1, Int64.not_le.mp (fun h => c2 ((lg_cmp_le _ _).mpr h))⟩
            refine lv_iconst (v := 1) hx hb dX1_loudest_51 (by decide) ?_
            refine lv_goto (tgt := 56) hx hb dX1_loudest_52 (by decide) ?_
            refine lv_istore (lv' := [(6, .int 1), (5, .ref (g (5 + 4 * i))), (4, .int (nI i)), (3, .int 8), (2, .ref (g 4)), (1, .null), (0, .ref (g 0))]) hx hb dX1_loudest_56 hl (by decide) rfl (fun ls hl => ?_)
            refine lv_iload hx hb dX1_loudest_58 (lv_at hl 0 rfl) ?_
            refine lv_if_eq (tgt := 83) hx hb dX1_loudest_60 (by decide) (fun cz => (absurd cz (by decide) : False).elim) (fun cz => ?_)
            refine lv_aload_nN hx hb dX1_loudest_63 rfl (lv_at hl 5 rfl) ?_
            refine lv_ifnullN (tgt := 80) hx hb dX1_loudest_64 (by decide) ?_
            refine lv_aload hx hb dX1_loudest_80 (lv_at hl 1 rfl) ?_
            refine lv_astore_n (lv' := [(1, .ref (g (5 + 4 * i))), (6, .int 1), (5, .ref (g (5 + 4 * i))), (4, .int (nI i)), (3, .int 8), (2, .ref (g 4)), (0, .ref (g 0))]) hx hb dX1_loudest_82 rfl hl (by decide) rfl (fun ls hl => ?_)
            have hnb : cb_best S (i + 1) = some i := by show cb_pick S (cb_best S i) i = _; rw [hbs]; unfold cb_pick; rw [if_pos hmay]
            refine lv_iinc (v := (nI (i + 1))) (lv' := [(4, .int (nI (i + 1))), (1, .ref (g (5 + 4 * i))), (6, .int 1), (5, .ref (g (5 + 4 * i))), (3, .int 8), (2, .ref (g 4)), (0, .ref (g 0))]) hx hb dX1_loudest_83 hl (k := 3) rfl (nI_1 i) (by decide) rfl (fun ls hl => ?_)
            refine lv_goto (tgt := 13) hx hb dX1_loudest_86 (by decide) ?_
            exact ih (i + 1) (by omega) ls (by rw [hnb]; exact lv_sub hl [0, 4, 5, 1, 6] rfl)
    | some q =>
      rw [hbs] at hl
      have hl : lv_has ls 7 [(4, .int (nI i)), (3, .int 8), (2, .ref (g 4)), (1, .ref (g (5 + 4 * q))), (0, .ref (g 0))] := hl
      have hq : q < 8 := Nat.lt_trans (cb_best_lt S i q hbs) hk
      refine lv_iload hx hb dX1_loudest_13 (lv_at hl 0 rfl) ?_
      refine lv_iload_n hx hb dX1_loudest_15 rfl (lv_at hl 1 rfl) ?_
      refine lv_icmp_ge (tgt := 89) hx hb dX1_loudest_16 (by decide) (fun cz => (absurd cz (nI_ge (b := 8) hk (by decide)) : False).elim) (fun cz => ?_)
      refine lv_aload_n hx hb dX1_loudest_19 rfl (lv_at hl 2 rfl) ?_
      refine lv_iload hx hb dX1_loudest_20 (lv_at hl 0 rfl) ?_
      refine cb_aaP hx hb hB i hk (by omega) dX1_loudest_22 ?_
      refine lv_astore (lv' := [(5, .ref (g (5 + 4 * i))), (4, .int (nI i)), (3, .int 8), (2, .ref (g 4)), (1, .ref (g (5 + 4 * q))), (0, .ref (g 0))]) hx hb dX1_loudest_23 hl (by decide) rfl (fun ls hl => ?_)
      refine lv_aload hx hb dX1_loudest_25 (lv_at hl 0 rfl) ?_
      refine cb_getP hx hb hts hown hB i hk 2 (by decide) q52 rfl dX1_loudest_27 ?_
      refine lv_if_ne (tgt := 55) hx hb dX1_loudest_30 (by decide) (fun c0 => ?_) (fun c0 => ?_)
      · refine lv_iconst (v := 0) hx hb dX1_loudest_55 (by decide) ?_
        refine lv_istore (lv' := [(6, .int 0), (5, .ref (g (5 + 4 * i))), (4, .int (nI i)), (3, .int 8), (2, .ref (g 4)), (1, .ref (g (5 + 4 * q))), (0, .ref (g 0))]) hx hb dX1_loudest_56 hl (by decide) rfl (fun ls hl => ?_)
        refine lv_iload hx hb dX1_loudest_58 (lv_at hl 0 rfl) ?_
        refine lv_if_eq (tgt := 83) hx hb dX1_loudest_60 (by decide) (fun cz => ?_) (fun cz => (cz rfl : False).elim)
        have hnb : cb_best S (i + 1) = some q := by show cb_pick S (cb_best S i) i = _; rw [hbs]; unfold cb_pick; rw [if_neg (fun h => c0 h.1)]
        refine lv_iinc (v := (nI (i + 1))) (lv' := [(4, .int (nI (i + 1))), (6, .int 0), (5, .ref (g (5 + 4 * i))), (3, .int 8), (2, .ref (g 4)), (1, .ref (g (5 + 4 * q))), (0, .ref (g 0))]) hx hb dX1_loudest_83 hl (k := 2) rfl (nI_1 i) (by decide) rfl (fun ls hl => ?_)
        refine lv_goto (tgt := 13) hx hb dX1_loudest_86 (by decide) ?_
        exact ih (i + 1) (by omega) ls (by rw [hnb]; exact lv_sub hl [0, 3, 4, 5, 6] rfl)
      · refine lv_aload hx hb dX1_loudest_33 (lv_at hl 0 rfl) ?_
        refine cb_getP hx hb hts hown hB i hk 3 (by decide) q53 rfl dX1_loudest_35 ?_
        refine lv_if_ne (tgt := 55) hx hb dX1_loudest_38 (by decide) (fun c1 => ?_) (fun c1 => ?_)
        · refine lv_iconst (v := 0) hx hb dX1_loudest_55 (by decide) ?_
          refine lv_istore (lv' := [(6, .int 0), (5, .ref (g (5 + 4 * i))), (4, .int (nI i)), (3, .int 8), (2, .ref (g 4)), (1, .ref (g (5 + 4 * q))), (0, .ref (g 0))]) hx hb dX1_loudest_56 hl (by decide) rfl (fun ls hl => ?_)
          refine lv_iload hx hb dX1_loudest_58 (lv_at hl 0 rfl) ?_
          refine lv_if_eq (tgt := 83) hx hb dX1_loudest_60 (by decide) (fun cz => ?_) (fun cz => (cz rfl : False).elim)
          have hnb : cb_best S (i + 1) = some q := by show cb_pick S (cb_best S i) i = _; rw [hbs]; unfold cb_pick; rw [if_neg (fun h => c1 h.2.1)]
          refine lv_iinc (v := (nI (i + 1))) (lv' := [(4, .int (nI (i + 1))), (6, .int 0), (5, .ref (g (5 + 4 * i))), (3, .int 8), (2, .ref (g 4)), (1, .ref (g (5 + 4 * q))), (0, .ref (g 0))]) hx hb dX1_loudest_83 hl (k := 2) rfl (nI_1 i) (by decide) rfl (fun ls hl => ?_)
          refine lv_goto (tgt := 13) hx hb dX1_loudest_86 (by decide) ?_
          exact ih (i + 1) (by omega) ls (by rw [hnb]; exact lv_sub hl [0, 3, 4, 5, 6] rfl)
        · refine lv_aload hx hb dX1_loudest_41 (lv_at hl 0 rfl) ?_
          refine cb_getP hx hb hts hown hB i hk 7 (by decide) q60 rfl dX1_loudest_43 ?_
          refine lv_lconst (v := 0) hx hb dX1_loudest_46 (by decide) ?_
          refine W.lcmp hx hb dX1_loudest_47 ?_
          refine lv_if_le (tgt := 55) hx hb dX1_loudest_48 (by decide) (fun c2 => ?_) (fun c2 => ?_)
          · refine lv_iconst (v := 0) hx hb dX1_loudest_55 (by decide) ?_
            refine lv_istore (lv' := [(6, .int 0), (5, .ref (g (5 + 4 * i))), (4, .int (nI i)), (3, .int 8), (2, .ref (g 4)), (1, .ref (g (5 + 4 * q))), (0, .ref (g 0))]) hx hb dX1_loudest_56 hl (by decide) rfl (fun ls hl => ?_)
            refine lv_iload hx hb dX1_loudest_58 (lv_at hl 0 rfl) ?_
            refine lv_if_eq (tgt := 83) hx hb dX1_loudest_60 (by decide) (fun cz => ?_) (fun cz => (cz rfl : False).elim)
            have hnb : cb_best S (i + 1) = some q := by show cb_pick S (cb_best S i) i = _; rw [hbs]; unfold cb_pick; rw [if_neg (fun h => absurd h.2.2 (Int64.not_lt.mpr ((lg_cmp_le _ _).mp c2)))]
            refine lv_iinc (v := (nI (i + 1))) (lv' := [(4, .int (nI (i + 1))), (6, .int 0), (5, .ref (g (5 + 4 * i))), (3, .int 8), (2, .ref (g 4)), (1, .ref (g (5 + 4 * q))), (0, .ref (g 0))]) hx hb dX1_loudest_83 hl (k := 2) rfl (nI_1 i) (by decide) rfl (fun ls hl => ?_)
            refine lv_goto (tgt := 13) hx hb dX1_loudest_86 (by decide) ?_
            exact ih (i + 1) (by omega) ls (by rw [hnb]; exact lv_sub hl [0, 3, 4, 5, 6] rfl)
          · have hmay : cb_mu S i = 0 ∧ cb_sp S i = 0 ∧ 0 < cb_en S i := ⟨c0, c1, Int64.not_le.mp (fun h => c2 ((lg_cmp_le _ _).mpr h))⟩
            refine lv_iconst (v := 1) hx hb dX1_loudest_51 (by decide) ?_
            refine lv_goto (tgt := 56) hx hb dX1_loudest_52 (by decide) ?_
            refine lv_istore (lv' := [(6, .int 1), (5, .ref (g (5 + 4 * i))), (4, .int (nI i)), (3, .int 8), (2, .ref (g 4)), (1, .ref (g (5 + 4 * q))), (0, .ref (g 0))]) hx hb dX1_loudest_56 hl (by decide) rfl (fun ls hl => ?_)
            refine lv_iload hx hb dX1_loudest_58 (lv_at hl 0 rfl) ?_
            refine lv_if_eq (tgt := 83) hx hb dX1_loudest_60 (by decide) (fun cz => (absurd cz (by decide) : False).elim) (fun cz => ?_)
            refine lv_aload_n hx hb dX1_loudest_63 rfl (lv_at hl 5 rfl) ?_
            refine lv_ifnull hx hb dX1_loudest_64 ?_
            refine lv_aload hx hb dX1_loudest_67 (lv_at hl 1 rfl) ?_
            refine cb_getP hx hb hts hown hB i hk 7 (by decide) q60 rfl dX1_loudest_69 ?_
            refine lv_aload_n hx hb dX1_loudest_72 rfl (lv_at hl 5 rfl) ?_
            refine cb_getP hx hb hts hown hB q hq 7 (by decide) q60 rfl dX1_loudest_73 ?_
            refine W.lcmp hx hb dX1_loudest_76 ?_
            refine lv_if_le (tgt := 83) hx hb dX1_loudest_77 (by decide) (fun c3 => ?_) (fun c3 => ?_)
            · have hnb : cb_best S (i + 1) = some q := by show cb_pick S (cb_best S i) i = _; rw [hbs]; unfold cb_pick; rw [if_pos hmay]; exact if_neg (Int64.not_lt.mpr ((lg_cmp_le _ _).mp c3))
              refine lv_iinc (v := (nI (i + 1))) (lv' := [(4, .int (nI (i + 1))), (6, .int 1), (5, .ref (g (5 + 4 * i))), (3, .int 8), (2, .ref (g 4)), (1, .ref (g (5 + 4 * q))), (0, .ref (g 0))]) hx hb dX1_loudest_83 hl (k := 2) rfl (nI_1 i) (by decide) rfl (fun ls hl => ?_)
              refine lv_goto (tgt := 13) hx hb dX1_loudest_86 (by decide) ?_
              exact ih (i + 1) (by omega) ls (by rw [hnb]; exact lv_sub hl [0, 3, 4, 5, 6] rfl)
            · refine lv_aload hx hb dX1_loudest_80 (lv_at hl 1 rfl) ?_
              refine lv_astore_n (lv' := [(1, .ref (g (5 + 4 * i))), (6, .int 1), (5, .ref (g (5 + 4 * i))), (4, .int (nI i)), (3, .int 8), (2, .ref (g 4)), (0, .ref (g 0))]) hx hb dX1_loudest_82 rfl hl (by decide) rfl (fun ls hl => ?_)
              have hnb : cb_best S (i + 1) = some i := by show cb_pick S (cb_best S i) i = _; rw [hbs]; unfold cb_pick; rw [if_pos hmay]; exact if_pos (Int64.not_le.mp (fun h => c3 ((lg_cmp_le _ _).mpr h)))
              refine lv_iinc (v := (nI (i + 1))) (lv' := [(4, .int (nI (i + 1))), (1, .ref (g (5 + 4 * i))), (6, .int 1), (5, .ref (g (5 + 4 * i))), (3, .int 8), (2, .ref (g 4)), (0, .ref (g 0))]) hx hb dX1_loudest_83 hl (k := 3) rfl (nI_1 i) (by decide) rfl (fun ls hl => ?_)
              refine lv_goto (tgt := 13) hx hb dX1_loudest_86 (by decide) ?_
              exact ih (i + 1) (by omega) ls (by rw [hnb]; exact lv_sub hl [0, 4, 5, 1, 6] rfl)
set_option maxHeartbeats 4000000 in
set_option maxRecDepth 100000 in
theorem met_bLou (l : Launch) (D : va_G) (tc : Nat → ClassId) (g : Nat → Nat) (S : cb_S)  : Met l yX1_loudest (ws_ yX1_loudest cX1_loudest 7 (some (.object "ConferenceBridge$Party"))) ({ frames := 0, cells := 0, slots := 0, locals := 0 } : Room) (va_Pc [.ref (g 0)] (cb_Pre D tc g S)) (cb_Qb D tc g (some (va_rf ((cb_best S 8).map fun q => g (5 + 4 * q)))) S) 0 0 (cb_A g) := by
  refine Met.ofW (cc := cX1_loudest) (maxL := 7) (ret := (some (.object "ConferenceBridge$Party"))) (by decide) rfl ?_
  intro p e s m args below meth c s₁ B hml hv
  obtain ⟨rfl, hv⟩ := hv
  have hB := cb_start hv
  obtain ⟨-, -, hI, hzE, hzD⟩ := hv
  have hx := B.exec
  have hb := B.bytes
  have hr := B.returns
  have hts := atoms_spec (ws := (ws_ yX1_loudest cX1_loudest 7 (some (.object "ConferenceBridge$Party")))) B.pre
  have hts : ∀ w ∈ lw_all, w.before _ s = true := fun w h => hts w (List.mem_cons_of_mem _ h)
  have hown : s.vm.findClass RX1 = some m.cls := findClass_of_methodNamed B.named
  have hlocks := B.notSynchronized
  have hl := lv_entry ([.ref (g 0)]) (n := 7) (Nat.le_of_ble_eq_true rfl)
  rw [lg_entry_eq]
  generalize (lg_sl ([.ref (g 0)]) ++ List.replicate (7 - (lg_sl ([.ref (g 0)])).length) Slot.unset).toArray = ls at hl ⊢
  have hl : lv_has ls 7 [(0, .ref (g 0))] := hl
  refine lv_null hx hb dX1_loudest_0 ?_
  refine lv_astore_nN (lv' := [(1, .null), (0, .ref (g 0))]) hx hb dX1_loudest_1 rfl hl (by decide) rfl (fun ls hl => ?_)
  refine lv_aload_n hx hb dX1_loudest_2 rfl (lv_at hl 1 rfl) ?_
  refine cb_getB hx hb hts hown hB 1 (by decide) q105 rfl dX1_loudest_3 ?_
  refine lv_astore_n (lv' := [(2, .ref (g 4)), (1, .null), (0, .ref (g 0))]) hx hb dX1_loudest_6 rfl hl (by decide) rfl (fun ls hl => ?_)
  refine lv_aload_n hx hb dX1_loudest_7 rfl (lv_at hl 0 rfl) ?_
  refine cb_alP hx hb hB dX1_loudest_8 ?_
  refine lv_istore_n (lv' := [(3, .int 8), (2, .ref (g 4)), (1, .null), (0, .ref (g 0))]) hx hb dX1_loudest_9 rfl hl (by decide) rfl (fun ls hl => ?_)
  refine lv_iconst (v := 0) hx hb dX1_loudest_10 (by decide) ?_
  refine lv_istore (lv' := [(4, .int 0), (3, .int 8), (2, .ref (g 4)), (1, .null), (0, .ref (g 0))]) hx hb dX1_loudest_11 hl (by decide) rfl (fun ls hl => ?_)
  refine blou_loop (S := S) hx hb hml hts hown hI (fun k hk => ⟨k, hk, rfl⟩) hzE hzD hB (fun ls hl => ?_) 8 0 rfl ls (lv_sub hl [0, 1, 2, 3, 4] rfl)
  cases hbs : cb_best S 8 with
  | none =>
    rw [hbs] at hl
    have hl : lv_has ls 7 [(1, .null)] := hl
    refine lv_aload_nN hx hb dX1_loudest_89 rfl (lv_at hl 0 rfl) ?_
    exact W.aret (v := .null) hx hb hr (Or.inl ⟨_, rfl⟩) (Or.inl rfl) (fun t9 ht hW => ⟨rfl, by rw [ht]; exact hB.1, hB.2.2.1.F ht⟩) hB.2.2.1.2.2 dX1_loudest_90
  | some q =>
    rw [hbs] at hl
    have hl : lv_has ls 7 [(1, .ref (g (5 + 4 * q)))] := hl
    refine lv_aload_n hx hb dX1_loudest_89 rfl (lv_at hl 0 rfl) ?_
    exact W.aret (v := .ref (g (5 + 4 * q))) hx hb hr (Or.inl ⟨_, rfl⟩) (Or.inr ⟨_, rfl⟩) (fun t9 ht hW => ⟨rfl, by rw [ht]; exact hB.1, hB.2.2.1.F ht⟩) hB.2.2.1.2.2 dX1_loudest_90
set_option maxHeartbeats 4000000 in
set_option maxRecDepth 100000 in
theorem bmix1_loop {p : Program} {l : Launch} {e : Env} {s : State} {m : MethodId} {args : Array Value} {below : List Frame} {meth : Method} {c : Code} {Q : State → Prop} {D : va_G} {tc : Nat → ClassId} {g : Nat → Nat} {A : Nat → Prop} {H0 : Heap} {S : cb_S} (hx : p.tables.exec = Jvm.exec) (hb : c.code = cX1_mix) (hml : c.maxLocals = 7) (hts : ∀ w ∈ lw_all, w.before args s = true) (hown : s.vm.findClass RX1 = some m.cls) (hI : cb_inj g) (hA : ∀ k, k < 37 → A (g k)) (hzE : va_Nw (.declares ⟨RX2, "encoded", "(I)I"⟩) s) (hzD : va_Nw (.declares ⟨RX2, "decoded", "(I)I"⟩) s) (hok : cb_ok S) (K : ∀ (H : Heap) (locs : List Loc), cb_B D tc g A s H0 (cb_measA S 8) 8 H locs → ∀ ls : Array Slot, lv_has ls 7 [(0, .ref (g 0))] → W p l e (headSpec (ws_ yX1_mix cX1_mix 7 (some .int)) ({ frames := 3, cells := 0, slots := 0, locals := 83 } : Room)).room s m args below meth c H locs 0 0 Q (F0 m 31 ls [])) : ∀ (n i : Nat), i + n = 8 → ∀ (H : Heap) (locs : List Loc), cb_B D tc g A s H0 (cb_measA S i) 8 H locs → ∀ ls : Array Slot, lv_has ls 7 [(3, .int (nI i)), (2, .int 8), (1, .ref (g 4)), (0, .ref (g 0))] → W p l e (headSpec (ws_ yX1_mix cX1_mix 7 (some .int)) ({ frames := 3, cells := 0, slots := 0, locals := 83 } : Room)).room s m args below meth c H locs 0 0 Q (F0 m 10 ls []) := by
  intro n
  induction n with
  | zero =>
    intro i hi H locs hB ls hl
    obtain rfl : 8 = i := by omega
    refine lv_iload_n hx hb dX1_mix_10 rfl (lv_at hl 0 rfl) ?_
    refine lv_iload_n hx hb dX1_mix_11 rfl (lv_at hl 1 rfl) ?_
    refine lv_icmp_ge (tgt := 31) hx hb dX1_mix_12 (by decide) (fun cz => ?_) (fun cz => (cz (Int32.le_refl _) : False).elim)
    exact K H locs hB ls (lv_sub hl [3] rfl)
  | succ n ih =>
    intro i hi H locs hB ls hl
    have hk : i < 8 := by omega
    obtain ⟨s1, s2, s3, -, -, -⟩ := cb_measA_same S i
    refine lv_iload_n hx hb dX1_mix_10 rfl (lv_at hl 0 rfl) ?_
    refine lv_iload_n hx hb dX1_mix_11 rfl (lv_at hl 1 rfl) ?_
    refine lv_icmp_ge (tgt := 31) hx hb dX1_mix_12 (by decide) (fun cz => (absurd cz (nI_ge (b := 8) hk (by decide)) : False).elim) (fun cz => ?_)
    refine lv_aload_n hx hb dX1_mix_15 rfl (lv_at hl 2 rfl) ?_
    refine lv_iload_n hx hb dX1_mix_16 rfl (lv_at hl 0 rfl) ?_
    refine cb_aaP hx hb hB i hk (by omega) dX1_mix_17 ?_
    refine lv_astore (lv' := [(4, .ref (g (5 + 4 * i))), (3, .int (nI i)), (2, .int 8), (1, .ref (g 4)), (0, .ref (g 0))]) hx hb dX1_mix_18 hl (by decide) rfl (fun ls hl => ?_)
    refine lv_aload hx hb dX1_mix_20 (lv_at hl 0 rfl) ?_
    refine cb_callW (va_runS (As := [.ref (g (5 + 4 * i))]) (rest := []) ⟨hx, hb, hml, hown, hts⟩ (met_bMeas l D tc g (cb_measA S i) i hk (by rw [s1]; exact (hok.1 i hk).1) (fun k h => by rw [s3]; exact (hok.1 i hk).2.2.2.2 k h)) (va_cwS 1 hts (lw_S q160 q161 q3 q162) rfl rfl rfl (by decide +kernel) ⟨Nat.le_of_ble_eq_true rfl, Nat.le_of_ble_eq_true rfl⟩) (cb_preB hB hI hzE hzD) rfl rfl hl.1 rfl (lv_room (Nat.le_of_ble_eq_true rfl)) dX1_mix_22 ⟨Nat.zero_le _, Nat.zero_le _⟩) hB hI hA (fun H locs hB => ?_)
    refine lv_iinc (v := (nI (i + 1))) (lv' := [(3, .int (nI (i + 1))), (4, .ref (g (5 + 4 * i))), (2, .int 8), (1, .ref (g 4)), (0, .ref (g 0))]) hx hb dX1_mix_25 hl (k := 1) rfl (nI_1 i) (by decide) rfl (fun ls hl => ?_)
    refine lv_goto (tgt := 10) hx hb dX1_mix_28 (by decide) ?_
    exact ih (i + 1) (by omega) H locs hB ls (lv_sub hl [0, 2, 3, 4] rfl)
set_option maxHeartbeats 4000000 in
set_option maxRecDepth 100000 in
theorem bmix2_loop {p : Program} {l : Launch} {e : Env} {s : State} {m : MethodId} {args : Array Value} {below : List Frame} {meth : Method} {c : Code} {Q : State → Prop} {D : va_G} {tc : Nat → ClassId} {g : Nat → Nat} {A : Nat → Prop} {H0 : Heap} {S : cb_S} {N : Nat} (hx : p.tables.exec = Jvm.exec) (hb : c.code = cX1_mix) (hml : c.maxLocals = 7) (hts : ∀ w ∈ lw_all, w.before args s = true) (hown : s.vm.findClass RX1 = some m.cls) (hI : cb_inj g) (hA : ∀ k, k < 37 → A (g k)) (hzE : va_Nw (.declares ⟨RX2, "encoded", "(I)I"⟩) s) (hzD : va_Nw (.declares ⟨RX2, "decoded", "(I)I"⟩) s) (hN : N < 2 ^ 31) (hmo : cb_mo S = nI N) (K : ∀ (H : Heap) (locs : List Loc), cb_B D tc g A s H0 (cb_selS S N) 8 H locs → ∀ ls : Array Slot, lv_has ls 7 [(0, .ref (g 0))] → W p l e (headSpec (ws_ yX1_mix cX1_mix 7 (some .int)) ({ frames := 3, cells := 0, slots := 0, locals := 83 } : Room)).room s m args below meth c H locs 0 0 Q (F0 m 61 ls [])) : ∀ (n i : Nat), i + n = N → ∀ (H : Heap) (locs : List Loc), cb_B D tc g A s H0 (cb_selS S i) 8 H locs → ∀ ls : Array Slot, lv_has ls 7 [(1, .int (nI i)), (0, .ref (g 0))] → W p l e (headSpec (ws_ yX1_mix cX1_mix 7 (some .int)) ({ frames := 3, cells := 0, slots := 0, locals := 83 } : Room)).room s m args below meth c H locs 0 0 Q (F0 m 33 ls []) := by
  intro n
  induction n with
  | zero =>
    intro i hi H locs hB ls hl
    obtain rfl : N = i := by omega
    refine lv_iload_n hx hb dX1_mix_33 rfl (lv_at hl 0 rfl) ?_
    refine lv_aload_n hx hb dX1_mix_34 rfl (lv_at hl 1 rfl) ?_
    refine cb_getB hx hb hts hown hB 2 (by decide) q106 rfl dX1_mix_35 ?_
    refine cb_top (y := nI N) (by rw [(cb_selS_same S N).2.2.2.2.1]; exact hmo) ?_
    refine lv_icmp_ge (tgt := 61) hx hb dX1_mix_38 (by decide) (fun cz => ?_) (fun cz => (cz (Int32.le_refl _) : False).elim)
    exact K H locs hB ls (lv_sub hl [1] rfl)
  | succ n ih =>
    intro i hi H locs hB ls hl
    have hk : i < N := by omega
    refine lv_iload_n hx hb dX1_mix_33 rfl (lv_at hl 0 rfl) ?_
    refine lv_aload_n hx hb dX1_mix_34 rfl (lv_at hl 1 rfl) ?_
    refine cb_getB hx hb hts hown hB 2 (by decide) q106 rfl dX1_mix_35 ?_
    refine cb_top (y := nI N) (by rw [(cb_selS_same S i).2.2.2.2.1]; exact hmo) ?_
    refine lv_icmp_ge (tgt := 61) hx hb dX1_mix_38 (by decide) (fun cz => (absurd cz (nI_ge (b := N) hk hN) : False).elim) (fun cz => ?_)
    refine lv_aload_n hx hb dX1_mix_41 rfl (lv_at hl 1 rfl) ?_
    refine cb_callW (va_runV (As := []) (rest := []) ⟨hx, hb, hml, hown, hts⟩ (met_bLou l D tc g (cb_selS S i)) (cwV 0 hts (lw_V q175 q177 qs0 q3 q178) rfl rfl rfl (by decide +kernel) ⟨Nat.le_of_ble_eq_true rfl, Nat.le_of_ble_eq_true rfl⟩) (cb_preBV hB hI hzE hzD) rfl rfl hl.1 rfl (lv_room (Nat.le_of_ble_eq_true rfl)) dX1_mix_42 ⟨Nat.zero_le _, Nat.zero_le _⟩) hB hI hA (fun H locs hB => ?_)
    have hst : cb_selS S (i + 1) = cb_spk (cb_selS S i) (cb_best (cb_selS S i) 8) := rfl
    cases hbs : cb_best (cb_selS S i) 8 with
    | none =>
      rw [hbs] at hst
      show W p l e (headSpec (ws_ yX1_mix cX1_mix 7 (some .int)) ({ frames := 3, cells := 0, slots := 0, locals := 83 } : Room)).room s m args below meth c H locs 0 0 Q (F0 m 45 ls [.null])
      refine lv_astore_nN (lv' := [(2, .null), (1, .int (nI i)), (0, .ref (g 0))]) hx hb dX1_mix_45 rfl hl (by decide) rfl (fun ls hl => ?_)
      refine lv_aload_nN hx hb dX1_mix_46 rfl (lv_at hl 0 rfl) ?_
      refine lv_ifnullN (tgt := 55) hx hb dX1_mix_47 (by decide) ?_
      refine lv_iinc (v := (nI (i + 1))) (lv' := [(1, .int (nI (i + 1))), (2, .null), (0, .ref (g 0))]) hx hb dX1_mix_55 hl (k := 1) rfl (nI_1 i) (by decide) rfl (fun ls hl => ?_)
      refine lv_goto (tgt := 33) hx hb dX1_mix_58 (by decide) ?_
      exact ih (i + 1) (by omega) H locs (by rw [hst]; exact hB) ls (lv_sub hl [0, 2] rfl)
    | some q =>
      rw [hbs] at hst
      show W p l e (headSpec (ws_ yX1_mix cX1_mix 7 (some .int)) ({ frames := 3, cells := 0, slots := 0, locals := 83 } : Room)).room s m args below meth c H locs 0 0 Q (F0 m 45 ls [.ref (g (5 + 4 * q))])
      refine lv_astore_n (lv' := [(2, .ref (g (5 + 4 * q))), (1, .int (nI i)), (0, .ref (g 0))]) hx hb dX1_mix_45 rfl hl (by decide) rfl (fun ls hl => ?_)
      refine lv_aload_n hx hb dX1_mix_46 rfl (lv_at hl 0 rfl) ?_
      refine lv_ifnull hx hb dX1_mix_47 ?_
      have hq : q < 8 := cb_best_lt _ 8 q hbs
      refine lv_aload_n hx hb dX1_mix_50 rfl (lv_at hl 0 rfl) ?_
      refine lv_iconst (v := 1) hx hb dX1_mix_51 (by decide) ?_
      refine cb_putSp hx hb hts hown hB q hq (Or.inr rfl) dX1_mix_52 (fun H locs hB => ?_)
      refine lv_iinc (v := (nI (i + 1))) (lv' := [(1, .int (nI (i + 1))), (2, .ref (g (5 + 4 * q))), (0, .ref (g 0))]) hx hb dX1_mix_55 hl (k := 1) rfl (nI_1 i) (by decide) rfl (fun ls hl => ?_)
      refine lv_goto (tgt := 33) hx hb dX1_mix_58 (by decide) ?_
      exact ih (i + 1) (by omega) H locs (by rw [hst]; exact hB) ls (lv_sub hl [0, 2] rfl)
set_option maxHeartbeats 4000000 in
set_option maxRecDepth 100000 in
theorem bmix3_loop {p : Program} {l : Launch} {e : Env} {s : State} {m : MethodId} {args : Array Value} {below : List Frame} {meth : Method} {c : Code} {Q : State → Prop} {D : va_G} {tc : Nat → ClassId} {g : Nat → Nat} {A : Nat → Prop} {H0 : Heap} {S : cb_S} {k : Nat} (hx : p.tables.exec = Jvm.exec) (hb : c.code = cX1_mix) (hml : c.maxLocals = 7) (hts : ∀ w ∈ lw_all, w.before args s = true) (hown : s.vm.findClass RX1 = some m.cls) (hI : cb_inj g) (hA : ∀ k, k < 37 → A (g k)) (hzE : va_Nw (.declares ⟨RX2, "encoded", "(I)I"⟩) s) (hzD : va_Nw (.declares ⟨RX2, "decoded", "(I)I"⟩) s) {H : Heap} {locs : List Loc} (hB : cb_B D tc g A s H0 S 8 H locs) (hk8 : k < 8) (K : ∀ ls : Array Slot, lv_has ls 7 [(2, .int (cb_sum S k 8)), (1, .int (nI k)), (0, .ref (g 0))] → W p l e (headSpec (ws_ yX1_mix cX1_mix 7 (some .int)) ({ frames := 3, cells := 0, slots := 0, locals := 83 } : Room)).room s m args below meth c H locs 0 0 Q (F0 m 124 ls [])) : ∀ (n i : Nat), i + n = 8 → ∀ ls : Array Slot, lv_has ls 7 [(5, .int (nI i)), (4, .int 8), (3, .ref (g 4)), (2, .int (cb_sum S k i)), (1, .int (nI k)), (0, .ref (g 0))] → W p l e (headSpec (ws_ yX1_mix cX1_mix 7 (some .int)) ({ frames := 3, cells := 0, slots := 0, locals := 83 } : Room)).room s m args below meth c H locs 0 0 Q (F0 m 83 ls []) := by
  intro n
  induction n with
  | zero =>
    intro i hi ls hl
    obtain rfl : i = 8 := by omega
    refine lv_iload hx hb dX1_mix_83 (lv_at hl 0 rfl) ?_
    refine lv_iload hx hb dX1_mix_85 (lv_at hl 1 rfl) ?_
    refine lv_icmp_ge (tgt := 124) hx hb dX1_mix_87 (by decide) (fun cz => ?_) (fun cz => (cz (Int32.le_refl _) : False).elim)
    exact K ls (lv_sub hl [3, 4, 5] rfl)
  | succ n ih =>
    intro i hi ls hl
    have hk : i < 8 := by omega
    refine lv_iload hx hb dX1_mix_83 (lv_at hl 0 rfl) ?_
    refine lv_iload hx hb dX1_mix_85 (lv_at hl 1 rfl) ?_
    refine lv_icmp_ge (tgt := 124) hx hb dX1_mix_87 (by decide) (fun cz => (absurd cz (nI_ge (b := 8) hk (by decide)) : False).elim) (fun cz => ?_)
    refine lv_aload_n hx hb dX1_mix_90 rfl (lv_at hl 2 rfl) ?_
    refine lv_iload hx hb dX1_mix_91 (lv_at hl 0 rfl) ?_
    refine cb_aaP hx hb hB i hk (by omega) dX1_mix_93 ?_
    refine lv_astore (lv' := [(6, .ref (g (5 + 4 * i))), (5, .int (nI i)), (4, .int 8), (3, .ref (g 4)), (2, .int (cb_sum S k i)), (1, .int (nI k)), (0, .ref (g 0))]) hx hb dX1_mix_94 hl (by decide) rfl (fun ls hl => ?_)
    refine lv_iload_n hx hb dX1_mix_96 rfl (lv_at hl 4 rfl) ?_
    refine lv_aload hx hb dX1_mix_97 (lv_at hl 0 rfl) ?_
    refine cb_getP hx hb hts hown hB i hk 3 (by decide) q53 rfl dX1_mix_99 ?_
    refine lv_if_eq (tgt := 115) hx hb dX1_mix_102 (by decide) (fun c0 => ?_) (fun c0 => ?_)
    · refine lv_iconst (v := 0) hx hb dX1_mix_115 (by decide) ?_
      refine lv_iadd hx hb dX1_mix_116 ?_
      refine cb_top (y := cb_sum S k (i + 1)) (by show _ = cb_sum S k i + cb_own S i k; unfold cb_own; rw [if_pos c0]) ?_
      refine lv_istore_n (lv' := [(2, .int (cb_sum S k (i + 1))), (6, .ref (g (5 + 4 * i))), (5, .int (nI i)), (4, .int 8), (3, .ref (g 4)), (1, .int (nI k)), (0, .ref (g 0))]) hx hb dX1_mix_117 rfl hl (by decide) rfl (fun ls hl => ?_)
      refine lv_iinc (v := (nI (i + 1))) (lv' := [(5, .int (nI (i + 1))), (2, .int (cb_sum S k (i + 1))), (6, .ref (g (5 + 4 * i))), (4, .int 8), (3, .ref (g 4)), (1, .int (nI k)), (0, .ref (g 0))]) hx hb dX1_mix_118 hl (k := 2) rfl (nI_1 i) (by decide) rfl (fun ls hl => ?_)
      refine lv_goto (tgt := 83) hx hb dX1_mix_121 (by decide) ?_
      exact ih (i + 1) (by omega) ls (lv_sub hl [0, 3, 4, 1, 5, 6] rfl)
    · refine lv_aload hx hb dX1_mix_105 (lv_at hl 0 rfl) ?_
      refine cb_getP hx hb hts hown hB i hk 5 (by decide) q57 rfl dX1_mix_107 ?_
      refine lv_iload_n hx hb dX1_mix_110 rfl (lv_at hl 5 rfl) ?_
      refine cb_ldS hx hb hB i hk k hk8 dX1_mix_111 ?_
      refine lv_goto (tgt := 116) hx hb dX1_mix_112 (by decide) ?_
      refine lv_iadd hx hb dX1_mix_116 ?_
      refine cb_top (y := cb_sum S k (i + 1)) (by show _ = cb_sum S k i + cb_own S i k; unfold cb_own; rw [if_neg c0]) ?_
      refine lv_istore_n (lv' := [(2, .int (cb_sum S k (i + 1))), (6, .ref (g (5 + 4 * i))), (5, .int (nI i)), (4, .int 8), (3, .ref (g 4)), (1, .int (nI k)), (0, .ref (g 0))]) hx hb dX1_mix_117 rfl hl (by decide) rfl (fun ls hl => ?_)
      refine lv_iinc (v := (nI (i + 1))) (lv' := [(5, .int (nI (i + 1))), (2, .int (cb_sum S k (i + 1))), (6, .ref (g (5 + 4 * i))), (4, .int 8), (3, .ref (g 4)), (1, .int (nI k)), (0, .ref (g 0))]) hx hb dX1_mix_118 hl (k := 2) rfl (nI_1 i) (by decide) rfl (fun ls hl => ?_)
      refine lv_goto (tgt := 83) hx hb dX1_mix_121 (by decide) ?_
      exact ih (i + 1) (by omega) ls (lv_sub hl [0, 3, 4, 1, 5, 6] rfl)
set_option maxHeartbeats 4000000 in
set_option maxRecDepth 100000 in
theorem bmix4_loop {p : Program} {l : Launch} {e : Env} {s : State} {m : MethodId} {args : Array Value} {below : List Frame} {meth : Method} {c : Code} {Q : State → Prop} {D : va_G} {tc : Nat → ClassId} {g : Nat → Nat} {A : Nat → Prop} {H0 : Heap} {S : cb_S} {k : Nat} (hx : p.tables.exec = Jvm.exec) (hb : c.code = cX1_mix) (hml : c.maxLocals = 7) (hts : ∀ w ∈ lw_all, w.before args s = true) (hown : s.vm.findClass RX1 = some m.cls) (hI : cb_inj g) (hA : ∀ k, k < 37 → A (g k)) (hzE : va_Nw (.declares ⟨RX2, "encoded", "(I)I"⟩) s) (hzD : va_Nw (.declares ⟨RX2, "decoded", "(I)I"⟩) s) (hk8 : k < 8) (hlw : ∀ j, j < 8 → cb_lw S j < 2) (K : ∀ (H : Heap) (locs : List Loc), cb_B D tc g A s H0 (cb_outL S k 8) 8 H locs → ∀ ls : Array Slot, lv_has ls 7 [(1, .int (nI k)), (0, .ref (g 0))] → W p l e (headSpec (ws_ yX1_mix cX1_mix 7 (some .int)) ({ frames := 3, cells := 0, slots := 0, locals := 83 } : Room)).room s m args below meth c H locs 0 0 Q (F0 m 195 ls [])) : ∀ (n i : Nat), i + n = 8 → ∀ (H : Heap) (locs : List Loc), cb_B D tc g A s H0 (cb_outL S k i) 8 H locs → ∀ ls : Array Slot, lv_has ls 7 [(5, .int (nI i)), (4, .int 8), (3, .ref (g 4)), (2, .int (cb_sum S k 8)), (1, .int (nI k)), (0, .ref (g 0))] → W p l e (headSpec (ws_ yX1_mix cX1_mix 7 (some .int)) ({ frames := 3, cells := 0, slots := 0, locals := 83 } : Room)).room s m args below meth c H locs 0 0 Q (F0 m 136 ls []) := by
  intro n
  induction n with
  | zero =>
    intro i hi H locs hB ls hl
    obtain rfl : 8 = i := by omega
    refine lv_iload hx hb dX1_mix_136 (lv_at hl 0 rfl) ?_
    refine lv_iload hx hb dX1_mix_138 (lv_at hl 1 rfl) ?_
    refine lv_icmp_ge (tgt := 195) hx hb dX1_mix_140 (by decide) (fun cz => ?_) (fun cz => (cz (Int32.le_refl _) : False).elim)
    exact K H locs hB ls (lv_sub hl [4, 5] rfl)
  | succ n ih =>
    intro i hi H locs hB ls hl
    have hk : i < 8 := by omega
    refine lv_iload hx hb dX1_mix_136 (lv_at hl 0 rfl) ?_
    refine lv_iload hx hb dX1_mix_138 (lv_at hl 1 rfl) ?_
    refine lv_icmp_ge (tgt := 195) hx hb dX1_mix_140 (by decide) (fun cz => (absurd cz (nI_ge (b := 8) hk (by decide)) : False).elim) (fun cz => ?_)
    refine lv_aload_n hx hb dX1_mix_143 rfl (lv_at hl 2 rfl) ?_
    refine lv_iload hx hb dX1_mix_144 (lv_at hl 0 rfl) ?_
    refine cb_aaP hx hb hB i hk (by omega) dX1_mix_146 ?_
    refine lv_astore (lv' := [(6, .ref (g (5 + 4 * i))), (5, .int (nI i)), (4, .int 8), (3, .ref (g 4)), (2, .int (cb_sum S k 8)), (1, .int (nI k)), (0, .ref (g 0))]) hx hb dX1_mix_147 hl (by decide) rfl (fun ls hl => ?_)
    refine lv_aload hx hb dX1_mix_149 (lv_at hl 0 rfl) ?_
    refine cb_getP hx hb hts hown hB i hk 6 (by decide) q59 rfl dX1_mix_151 ?_
    refine lv_iload_n hx hb dX1_mix_154 rfl (lv_at hl 5 rfl) ?_
    refine lv_aload hx hb dX1_mix_155 (lv_at hl 0 rfl) ?_
    refine cb_getP hx hb hts hown hB i hk 0 (by decide) q49 rfl dX1_mix_157 ?_
    refine lv_iload_n hx hb dX1_mix_160 rfl (lv_at hl 4 rfl) ?_
    refine lv_aload hx hb dX1_mix_161 (lv_at hl 0 rfl) ?_
    refine cb_getP hx hb hts hown hB i hk 3 (by decide) q53 rfl dX1_mix_163 ?_
    refine lv_if_eq (tgt := 179) hx hb dX1_mix_166 (by decide) (fun c0 => ?_) (fun c0 => ?_)
    · refine lv_iconst (v := 0) hx hb dX1_mix_179 (by decide) ?_
      refine cb_top (y := cb_own S i k) (by unfold cb_own; exact (if_pos c0).symm) ?_
      refine lv_isub hx hb dX1_mix_180 ?_
      refine lv_i2l hx hb dX1_mix_181 rfl ?_
      refine cb_callPi (va_runS (As := [.long (((cb_sum S k 8) - (cb_own S i k)).toInt64)]) (rest := [.ref (g (2 + cb_lw (cb_outL S k i) i)), .int (nI k), .ref (g (8 + 4 * i))]) ⟨hx, hb, hml, hown, hts⟩ (met_sat l ((cb_sum S k 8) - (cb_own S i k)).toInt64) (va_cwS 1 hts (lw_S q121 q122 q3 q123) rfl rfl rfl (by decide +kernel) ⟨Nat.le_of_ble_eq_true rfl, Nat.le_of_ble_eq_true rfl⟩) cb_preS rfl rfl hl.1 rfl (lv_room (Nat.le_of_ble_eq_true rfl)) dX1_mix_182 ⟨Nat.zero_le _, Nat.zero_le _⟩) ?_
      refine cb_callE hx hb hml hts hown hB hzE (Nat.le_of_ble_eq_true rfl) (Nat.le_of_ble_eq_true rfl) (Nat.zero_le _) (Nat.zero_le _) (cb_lw (cb_outL S k i) i) (hlw i hk) (cb_sat_rng _) hl.1 (Nat.le_of_ble_eq_true rfl) dX1_mix_185 ?_
      refine cb_top (y := cb_oval S i k) (rfl) ?_
      refine cb_stO hx hb hB i hk k hk8 dX1_mix_188 (fun H locs hB => ?_)
      refine lv_iinc (v := (nI (i + 1))) (lv' := [(5, .int (nI (i + 1))), (6, .ref (g (5 + 4 * i))), (4, .int 8), (3, .ref (g 4)), (2, .int (cb_sum S k 8)), (1, .int (nI k)), (0, .ref (g 0))]) hx hb dX1_mix_189 hl (k := 1) rfl (nI_1 i) (by decide) rfl (fun ls hl => ?_)
      refine lv_goto (tgt := 136) hx hb dX1_mix_192 (by decide) ?_
      exact ih (i + 1) (by omega) H locs (by rw [← cb_outL_s]; exact hB) ls (lv_sub hl [0, 2, 3, 4, 5, 6] rfl)
    · refine lv_aload hx hb dX1_mix_169 (lv_at hl 0 rfl) ?_
      refine cb_getP hx hb hts hown hB i hk 5 (by decide) q57 rfl dX1_mix_171 ?_
      refine lv_iload_n hx hb dX1_mix_174 rfl (lv_at hl 5 rfl) ?_
      refine cb_ldS hx hb hB i hk k hk8 dX1_mix_175 ?_
      refine lv_goto (tgt := 180) hx hb dX1_mix_176 (by decide) ?_
      refine cb_top (y := cb_own S i k) (by unfold cb_own; exact (if_neg c0).symm) ?_
      refine lv_isub hx hb dX1_mix_180 ?_
      refine lv_i2l hx hb dX1_mix_181 rfl ?_
      refine cb_callPi (va_runS (As := [.long (((cb_sum S k 8) - (cb_own S i k)).toInt64)]) (rest := [.ref (g (2 + cb_lw (cb_outL S k i) i)), .int (nI k), .ref (g (8 + 4 * i))]) ⟨hx, hb, hml, hown, hts⟩ (met_sat l ((cb_sum S k 8) - (cb_own S i k)).toInt64) (va_cwS 1 hts (lw_S q121 q122 q3 q123) rfl rfl rfl (by decide +kernel) ⟨Nat.le_of_ble_eq_true rfl, Nat.le_of_ble_eq_true rfl⟩) cb_preS rfl rfl hl.1 rfl (lv_room (Nat.le_of_ble_eq_true rfl)) dX1_mix_182 ⟨Nat.zero_le _, Nat.zero_le _⟩) ?_
      refine cb_callE hx hb hml hts hown hB hzE (Nat.le_of_ble_eq_true rfl) (Nat.le_of_ble_eq_true rfl) (Nat.zero_le _) (Nat.zero_le _) (cb_lw (cb_outL S k i) i) (hlw i hk) (cb_sat_rng _) hl.1 (Nat.le_of_ble_eq_true rfl) dX1_mix_185 ?_
      refine cb_top (y := cb_oval S i k) (rfl) ?_
      refine cb_stO hx hb hB i hk k hk8 dX1_mix_188 (fun H locs hB => ?_)
      refine lv_iinc (v := (nI (i + 1))) (lv' := [(5, .int (nI (i + 1))), (6, .ref (g (5 + 4 * i))), (4, .int 8), (3, .ref (g 4)), (2, .int (cb_sum S k 8)), (1, .int (nI k)), (0, .ref (g 0))]) hx hb dX1_mix_189 hl (k := 1) rfl (nI_1 i) (by decide) rfl (fun ls hl => ?_)
      refine lv_goto (tgt := 136) hx hb dX1_mix_192 (by decide) ?_
      exact ih (i + 1) (by omega) H locs (by rw [← cb_outL_s]; exact hB) ls (lv_sub hl [0, 2, 3, 4, 5, 6] rfl)
set_option maxHeartbeats 4000000 in
set_option maxRecDepth 100000 in
theorem bmix5_loop {p : Program} {l : Launch} {e : Env} {s : State} {m : MethodId} {args : Array Value} {below : List Frame} {meth : Method} {c : Code} {Q : State → Prop} {D : va_G} {tc : Nat → ClassId} {g : Nat → Nat} {A : Nat → Prop} {H0 : Heap} {S : cb_S} (hx : p.tables.exec = Jvm.exec) (hb : c.code = cX1_mix) (hml : c.maxLocals = 7) (hts : ∀ w ∈ lw_all, w.before args s = true) (hown : s.vm.findClass RX1 = some m.cls) (hI : cb_inj g) (hA : ∀ k, k < 37 → A (g k)) (hzE : va_Nw (.declares ⟨RX2, "encoded", "(I)I"⟩) s) (hzD : va_Nw (.declares ⟨RX2, "decoded", "(I)I"⟩) s) (hlw : ∀ j, j < 8 → cb_lw S j < 2) (K : ∀ (H : Heap) (locs : List Loc), cb_B D tc g A s H0 (cb_outA S 8) 8 H locs → ∀ ls : Array Slot, lv_has ls 7 [(0, .ref (g 0))] → W p l e (headSpec (ws_ yX1_mix cX1_mix 7 (some .int)) ({ frames := 3, cells := 0, slots := 0, locals := 83 } : Room)).room s m args below meth c H locs 0 0 Q (F0 m 201 ls [])) : ∀ (n i : Nat), i + n = 8 → ∀ (H : Heap) (locs : List Loc), cb_B D tc g A s H0 (cb_outA S i) 8 H locs → ∀ ls : Array Slot, lv_has ls 7 [(1, .int (nI i)), (0, .ref (g 0))] → W p l e (headSpec (ws_ yX1_mix cX1_mix 7 (some .int)) ({ frames := 3, cells := 0, slots := 0, locals := 83 } : Room)).room s m args below meth c H locs 0 0 Q (F0 m 63 ls []) := by
  intro n
  induction n with
  | zero =>
    intro i hi H locs hB ls hl
    obtain rfl : 8 = i := by omega
    refine lv_iload_n hx hb dX1_mix_63 rfl (lv_at hl 0 rfl) ?_
    refine lv_bipush (v := 8) hx hb dX1_mix_64 (by decide) ?_
    refine lv_icmp_ge (tgt := 201) hx hb dX1_mix_66 (by decide) (fun cz => ?_) (fun cz => (cz (Int32.le_refl _) : False).elim)
    exact K H locs hB ls (lv_sub hl [1] rfl)
  | succ n ih =>
    intro i hi H locs hB ls hl
    have hk : i < 8 := by omega
    refine lv_iload_n hx hb dX1_mix_63 rfl (lv_at hl 0 rfl) ?_
    refine lv_bipush (v := 8) hx hb dX1_mix_64 (by decide) ?_
    refine lv_icmp_ge (tgt := 201) hx hb dX1_mix_66 (by decide) (fun cz => (absurd cz (nI_ge (b := 8) hk (by decide)) : False).elim) (fun cz => ?_)
    refine lv_iconst (v := 0) hx hb dX1_mix_69 (by decide) ?_
    refine lv_istore_n (lv' := [(2, .int 0), (1, .int (nI i)), (0, .ref (g 0))]) hx hb dX1_mix_70 rfl hl (by decide) rfl (fun ls hl => ?_)
    refine lv_aload_n hx hb dX1_mix_71 rfl (lv_at hl 2 rfl) ?_
    refine cb_getB hx hb hts hown hB 1 (by decide) q105 rfl dX1_mix_72 ?_
    refine lv_astore_n (lv' := [(3, .ref (g 4)), (2, .int 0), (1, .int (nI i)), (0, .ref (g 0))]) hx hb dX1_mix_75 rfl hl (by decide) rfl (fun ls hl => ?_)
    refine lv_aload_n hx hb dX1_mix_76 rfl (lv_at hl 0 rfl) ?_
    refine cb_alP hx hb hB dX1_mix_77 ?_
    refine lv_istore (lv' := [(4, .int 8), (3, .ref (g 4)), (2, .int 0), (1, .int (nI i)), (0, .ref (g 0))]) hx hb dX1_mix_78 hl (by decide) rfl (fun ls hl => ?_)
    refine lv_iconst (v := 0) hx hb dX1_mix_80 (by decide) ?_
    refine lv_istore (lv' := [(5, .int 0), (4, .int 8), (3, .ref (g 4)), (2, .int 0), (1, .int (nI i)), (0, .ref (g 0))]) hx hb dX1_mix_81 hl (by decide) rfl (fun ls hl => ?_)
    refine bmix3_loop (S := cb_outA S i) (k := i) hx hb hml hts hown hI hA hzE hzD hB hk (fun ls hl => ?_) 8 0 rfl ls (lv_sub hl [0, 1, 2, 3, 4, 5] rfl)
    refine lv_aload_n hx hb dX1_mix_124 rfl (lv_at hl 2 rfl) ?_
    refine cb_getB hx hb hts hown hB 1 (by decide) q105 rfl dX1_mix_125 ?_
    refine lv_astore_n (lv' := [(3, .ref (g 4)), (2, .int (cb_sum (cb_outA S i) i 8)), (1, .int (nI i)), (0, .ref (g 0))]) hx hb dX1_mix_128 rfl hl (by decide) rfl (fun ls hl => ?_)
    refine lv_aload_n hx hb dX1_mix_129 rfl (lv_at hl 0 rfl) ?_
    refine cb_alP hx hb hB dX1_mix_130 ?_
    refine lv_istore (lv' := [(4, .int 8), (3, .ref (g 4)), (2, .int (cb_sum (cb_outA S i) i 8)), (1, .int (nI i)), (0, .ref (g 0))]) hx hb dX1_mix_131 hl (by decide) rfl (fun ls hl => ?_)
    refine lv_iconst (v := 0) hx hb dX1_mix_133 (by decide) ?_
    refine lv_istore (lv' := [(5, .int 0), (4, .int 8), (3, .ref (g 4)), (2, .int (cb_sum (cb_outA S i) i 8)), (1, .int (nI i)), (0, .ref (g 0))]) hx hb dX1_mix_134 hl (by decide) rfl (fun ls hl => ?_)
    refine bmix4_loop (S := cb_outA S i) (k := i) hx hb hml hts hown hI hA hzE hzD hk hlw (fun H locs hB ls hl => ?_) 8 0 rfl H locs (by rw [cb_outL_0]; exact hB) ls (lv_sub hl [0, 1, 2, 3, 4, 5] rfl)
    refine lv_iinc (v := (nI (i + 1))) (lv' := [(1, .int (nI (i + 1))), (0, .ref (g 0))]) hx hb dX1_mix_195 hl (k := 0) rfl (nI_1 i) (by decide) rfl (fun ls hl => ?_)
    refine lv_goto (tgt := 63) hx hb dX1_mix_198 (by decide) ?_
    exact ih (i + 1) (by omega) H locs (by rw [← cb_outA_s]; exact hB) ls (lv_sub hl [0, 1] rfl)
set_option maxHeartbeats 4000000 in
set_option maxRecDepth 100000 in
theorem bmix6_loop {p : Program} {l : Launch} {e : Env} {s : State} {m : MethodId} {args : Array Value} {below : List Frame} {meth : Method} {c : Code} {Q : State → Prop} {D : va_G} {tc : Nat → ClassId} {g : Nat → Nat} {A : Nat → Prop} {H0 : Heap} {S : cb_S} (hx : p.tables.exec = Jvm.exec) (hb : c.code = cX1_mix) (hml : c.maxLocals = 7) (hts : ∀ w ∈ lw_all, w.before args s = true) (hown : s.vm.findClass RX1 = some m.cls) (hI : cb_inj g) (hA : ∀ k, k < 37 → A (g k)) (hzE : va_Nw (.declares ⟨RX2, "encoded", "(I)I"⟩) s) (hzD : va_Nw (.declares ⟨RX2, "decoded", "(I)I"⟩) s) {H : Heap} {locs : List Loc} (hB : cb_B D tc g A s H0 S 8 H locs) (K : ∀ ls : Array Slot, lv_has ls 7 [(1, .int (nI (cb_msk (cb_sp S) 8)))] → W p l e (headSpec (ws_ yX1_mix cX1_mix 7 (some .int)) ({ frames := 3, cells := 0, slots := 0, locals := 83 } : Room)).room s m args below meth c H locs 0 0 Q (F0 m 239 ls [])) : ∀ (n i : Nat), i + n = 8 → ∀ ls : Array Slot, lv_has ls 7 [(2, .int (nI i)), (1, .int (nI (cb_msk (cb_sp S) i))), (0, .ref (g 0))] → W p l e (headSpec (ws_ yX1_mix cX1_mix 7 (some .int)) ({ frames := 3, cells := 0, slots := 0, locals := 83 } : Room)).room s m args below meth c H locs 0 0 Q (F0 m 205 ls []) := by
  intro n
  induction n with
  | zero =>
    intro i hi ls hl
    obtain rfl : i = 8 := by omega
    refine lv_iload_n hx hb dX1_mix_205 rfl (lv_at hl 0 rfl) ?_
    refine lv_bipush (v := 8) hx hb dX1_mix_206 (by decide) ?_
    refine lv_icmp_ge (tgt := 239) hx hb dX1_mix_208 (by decide) (fun cz => ?_) (fun cz => (cz (Int32.le_refl _) : False).elim)
    exact K ls (lv_sub hl [1] rfl)
  | succ n ih =>
    intro i hi ls hl
    have hk : i < 8 := by omega
    refine lv_iload_n hx hb dX1_mix_205 rfl (lv_at hl 0 rfl) ?_
    refine lv_bipush (v := 8) hx hb dX1_mix_206 (by decide) ?_
    refine lv_icmp_ge (tgt := 239) hx hb dX1_mix_208 (by decide) (fun cz => (absurd cz (nI_ge (b := 8) hk (by decide)) : False).elim) (fun cz => ?_)
    refine lv_iload_n hx hb dX1_mix_211 rfl (lv_at hl 1 rfl) ?_
    refine lv_aload_n hx hb dX1_mix_212 rfl (lv_at hl 2 rfl) ?_
    refine cb_getB hx hb hts hown hB 1 (by decide) q105 rfl dX1_mix_213 ?_
    refine lv_iload_n hx hb dX1_mix_216 rfl (lv_at hl 0 rfl) ?_
    refine cb_aaP hx hb hB i hk (by omega) dX1_mix_217 ?_
    refine cb_getP hx hb hts hown hB i hk 3 (by decide) q53 rfl dX1_mix_218 ?_
    refine lv_if_eq (tgt := 230) hx hb dX1_mix_221 (by decide) (fun c0 => ?_) (fun c0 => ?_)
    · refine lv_iconst (v := 0) hx hb dX1_mix_230 (by decide) ?_
      refine lv_ior hx hb dX1_mix_231 ?_
      refine cb_top (y := nI (cb_msk (cb_sp S) (i + 1))) (cb_msk_s0 (cb_sp S) i c0) ?_
      refine lv_istore_n (lv' := [(1, .int (nI (cb_msk (cb_sp S) (i + 1)))), (2, .int (nI i)), (0, .ref (g 0))]) hx hb dX1_mix_232 rfl hl (by decide) rfl (fun ls hl => ?_)
      refine lv_iinc (v := (nI (i + 1))) (lv' := [(2, .int (nI (i + 1))), (1, .int (nI (cb_msk (cb_sp S) (i + 1)))), (0, .ref (g 0))]) hx hb dX1_mix_233 hl (k := 1) rfl (nI_1 i) (by decide) rfl (fun ls hl => ?_)
      refine lv_goto (tgt := 205) hx hb dX1_mix_236 (by decide) ?_
      exact ih (i + 1) (by omega) ls (lv_sub hl [0, 1, 2] rfl)
    · refine lv_iconst (v := 1) hx hb dX1_mix_224 (by decide) ?_
      refine lv_iload_n hx hb dX1_mix_225 rfl (lv_at hl 0 rfl) ?_
      refine lv_ishl hx hb dX1_mix_226 ?_
      refine lv_goto (tgt := 231) hx hb dX1_mix_227 (by decide) ?_
      refine lv_ior hx hb dX1_mix_231 ?_
      refine cb_top (y := nI (cb_msk (cb_sp S) (i + 1))) (cb_msk_s (cb_sp S) hk c0) ?_
      refine lv_istore_n (lv' := [(1, .int (nI (cb_msk (cb_sp S) (i + 1)))), (2, .int (nI i)), (0, .ref (g 0))]) hx hb dX1_mix_232 rfl hl (by decide) rfl (fun ls hl => ?_)
      refine lv_iinc (v := (nI (i + 1))) (lv' := [(2, .int (nI (i + 1))), (1, .int (nI (cb_msk (cb_sp S) (i + 1)))), (0, .ref (g 0))]) hx hb dX1_mix_233 hl (k := 1) rfl (nI_1 i) (by decide) rfl (fun ls hl => ?_)
      refine lv_goto (tgt := 205) hx hb dX1_mix_236 (by decide) ?_
      exact ih (i + 1) (by omega) ls (lv_sub hl [0, 1, 2] rfl)
set_option maxHeartbeats 4000000 in
set_option maxRecDepth 100000 in
theorem met_bMix (l : Launch) (D : va_G) (tc : Nat → ClassId) (g : Nat → Nat) (S : cb_S)  (hok : cb_ok S) : Met l yX1_mix (ws_ yX1_mix cX1_mix 7 (some .int)) ({ frames := 3, cells := 0, slots := 0, locals := 83 } : Room) (va_Pc [.ref (g 0)] (cb_Pre D tc g S)) (cb_Qb D tc g (some (.int (cb_mixR S))) (cb_mixS S)) 0 0 (cb_A g) := by
  refine Met.ofW (cc := cX1_mix) (maxL := 7) (ret := (some .int)) (by decide) rfl ?_
  intro p e s m args below meth c s₁ B hml hv
  obtain ⟨rfl, hv⟩ := hv
  have hB := cb_start hv
  obtain ⟨-, -, hI, hzE, hzD⟩ := hv
  have hx := B.exec
  have hb := B.bytes
  have hr := B.returns
  have hts := atoms_spec (ws := (ws_ yX1_mix cX1_mix 7 (some .int))) B.pre
  have hts : ∀ w ∈ lw_all, w.before _ s = true := fun w h => hts w (List.mem_cons_of_mem _ h)
  have hown : s.vm.findClass RX1 = some m.cls := findClass_of_methodNamed B.named
  have hlocks := B.notSynchronized
  have hl := lv_entry ([.ref (g 0)]) (n := 7) (Nat.le_of_ble_eq_true rfl)
  rw [lg_entry_eq]
  generalize (lg_sl ([.ref (g 0)]) ++ List.replicate (7 - (lg_sl ([.ref (g 0)])).length) Slot.unset).toArray = ls at hl ⊢
  have hl : lv_has ls 7 [(0, .ref (g 0))] := hl
  obtain ⟨N, hN1, hN⟩ : ∃ N : Nat, N < 2 ^ 31 ∧ cb_mo S = nI N := by
    obtain ⟨-, h1, h2⟩ := hok
    exact ⟨(cb_mo S).toInt.toNat, by omega, by rw [← Int32.toInt_inj, nI_toInt (by omega)]; omega⟩
  have hNm : cb_most S = N := by unfold cb_most; rw [hN, nI_clamp hN1]
  have hm2 : cb_mix2 S = cb_selS (cb_measA S 8) N := by unfold cb_mix2; rw [hNm]
  have hlw : ∀ j, j < 8 → cb_lw (cb_selS (cb_measA S 8) N) j < 2 := fun j hj => by rw [(cb_selS_same (cb_measA S 8) N).1, (cb_measA_same S 8).1]; exact (hok.1 j hj).1
  refine lv_aload_n hx hb dX1_mix_0 rfl (lv_at hl 0 rfl) ?_
  refine cb_getB hx hb hts hown hB 1 (by decide) q105 rfl dX1_mix_1 ?_
  refine lv_astore_n (lv' := [(1, .ref (g 4)), (0, .ref (g 0))]) hx hb dX1_mix_4 rfl hl (by decide) rfl (fun ls hl => ?_)
  refine lv_aload_n hx hb dX1_mix_5 rfl (lv_at hl 0 rfl) ?_
  refine cb_alP hx hb hB dX1_mix_6 ?_
  refine lv_istore_n (lv' := [(2, .int 8), (1, .ref (g 4)), (0, .ref (g 0))]) hx hb dX1_mix_7 rfl hl (by decide) rfl (fun ls hl => ?_)
  refine lv_iconst (v := 0) hx hb dX1_mix_8 (by decide) ?_
  refine lv_istore_n (lv' := [(3, .int 0), (2, .int 8), (1, .ref (g 4)), (0, .ref (g 0))]) hx hb dX1_mix_9 rfl hl (by decide) rfl (fun ls hl => ?_)
  refine bmix1_loop (S := S) hx hb hml hts hown hI (fun k hk => ⟨k, hk, rfl⟩) hzE hzD hok (fun H locs hB ls hl => ?_) 8 0 rfl _ _ hB ls (lv_sub hl [0, 1, 2, 3] rfl)
  refine lv_iconst (v := 0) hx hb dX1_mix_31 (by decide) ?_
  refine lv_istore_n (lv' := [(1, .int 0), (0, .ref (g 0))]) hx hb dX1_mix_32 rfl hl (by decide) rfl (fun ls hl => ?_)
  refine bmix2_loop (S := cb_measA S 8) (N := N) hx hb hml hts hown hI (fun k hk => ⟨k, hk, rfl⟩) hzE hzD hN1 (by rw [(cb_measA_same S 8).2.2.2.2.1]; exact hN) (fun H locs hB ls hl => ?_) N 0 (Nat.zero_add N) _ _ hB ls (lv_sub hl [0, 1] rfl)
  refine lv_iconst (v := 0) hx hb dX1_mix_61 (by decide) ?_
  refine lv_istore_n (lv' := [(1, .int 0), (0, .ref (g 0))]) hx hb dX1_mix_62 rfl hl (by decide) rfl (fun ls hl => ?_)
  refine bmix5_loop (A := cb_A g) (S := cb_selS (cb_measA S 8) N) hx hb hml hts hown hI (fun k hk => ⟨k, hk, rfl⟩) hzE hzD hlw (fun H locs hB ls hl => ?_) 8 0 rfl _ _ (by rw [cb_outA_0]; exact hB) ls (lv_sub hl [0, 1] rfl)
  refine lv_iconst (v := 0) hx hb dX1_mix_201 (by decide) ?_
  refine lv_istore_n (lv' := [(1, .int 0), (0, .ref (g 0))]) hx hb dX1_mix_202 rfl hl (by decide) rfl (fun ls hl => ?_)
  refine lv_iconst (v := 0) hx hb dX1_mix_203 (by decide) ?_
  refine lv_istore_n (lv' := [(2, .int 0), (1, .int 0), (0, .ref (g 0))]) hx hb dX1_mix_204 rfl hl (by decide) rfl (fun ls hl => ?_)
  refine bmix6_loop (S := cb_outA (cb_selS (cb_measA S 8) N) 8) hx hb hml hts hown hI (fun k hk => ⟨k, hk, rfl⟩) hzE hzD hB (fun ls hl => ?_) 8 0 rfl ls (lv_sub hl [0, 1, 2] rfl)
  have hB : cb_B D tc g (cb_A g) s s.heap (cb_mixS S) 8 H locs := by unfold cb_mixS; rw [hm2]; exact hB
  refine lv_iload_n hx hb dX1_mix_239 rfl (lv_at hl 0 rfl) ?_
  exact W.iret (v := (nI (cb_msk (cb_sp (cb_outA (cb_selS (cb_measA S 8) N) 8)) 8))) hx hb hr (fun t9 ht hW => ⟨cb_r (by unfold cb_mixR; rw [hm2]; rfl), by rw [ht]; exact hB.1, hB.2.2.1.F ht⟩) hB.2.2.1.2.2 dX1_mix_240
end
section
/-! THE MODEL's WORLD: the object and its seven arrays at a 0 .. a 7, as pictures of the same state; rows over it (own class: ConferenceBridgeModel) -/
set_option maxRecDepth 100000
def mm_f2 (f : Nat → Nat → Int32) (i : Nat) : Int32 := f (i / 8) (i % 8)
def mm_fl (f : Nat → Nat) (i : Nat) : Int32 := nI (f i)
abbrev mm_o (a : Nat → Nat) (th mo : Int32) : List Value := [.int th, .ref (a 1), .ref (a 2), .ref (a 3), .ref (a 4), .ref (a 5), .ref (a 6), .ref (a 7), .int mo]
abbrev mm_w (t : Nat → ClassId) (a : Nat → Nat) (S : cb_S) (th : Int32) : va_W := [(a 0, .inr (4, mm_o a th (cb_mo S))), (a 1, .inl (t 2, 8, .inl (mm_fl (cb_lw S)))), (a 2, .inl (t 2, 8, .inl (cb_gn S))), (a 3, .inl (t 3, 8, .inl (cb_mu S))), (a 4, .inl (t 2, 64, .inl (mm_f2 (cb_ii S)))), (a 5, .inl (t 2, 64, .inl (mm_f2 (cb_ou S)))), (a 6, .inl (t 2, 64, .inl (mm_f2 (cb_sm S)))), (a 7, .inl (t 4, 8, .inr (.inl (cb_en S))))]
theorem mm_up2 (f : Nat → Nat → Int32) (j : Nat) {k : Nat} (hk : k < 8) (v : Int32) : upd (mm_f2 f) (8 * j + k) v = mm_f2 (va_up f j (upd (f j) k v)) := by
  funext i
  unfold mm_f2 upd va_up
  by_cases e : i = 8 * j + k
  · rw [if_pos e, if_pos (by omega), if_pos (by omega)]
  · rw [if_neg e]
    by_cases e2 : i / 8 = j
    · rw [if_pos e2, if_neg (by omega)]
      show f (i / 8) (i % 8) = f j (i % 8)
      rw [e2]
    · rw [if_neg e2]
theorem mm_upl (f : Nat → Nat) (j w : Nat) : upd (mm_fl f) j (nI w) = mm_fl (va_up f j w) := by
  funext i
  unfold mm_fl upd va_up
  by_cases e : i = j
  · rw [if_pos e, if_pos e]
  · rw [if_neg e, if_neg e]
theorem mm_up1 (f : Nat → Int32) (j : Nat) (v : Int32) : upd f j v = va_up f j v := rfl
theorem mm_upL (f : Nat → Int64) (j : Nat) (v : Int64) : vp_updL f j v = va_up f j v := rfl
theorem mm_ix (j k : Nat) : (8 : Int32) * nI j + nI k = nI (8 * j + k) := by
  rw [show (8 : Int32) = nI 8 from rfl, pk_mul, nI_add]
theorem mm_at2 (f : Nat → Nat → Int32) (j : Nat) {k : Nat} (hk : k < 8) : mm_f2 f (8 * j + k) = f j k := by
  unfold mm_f2
  rw [show (8 * j + k) / 8 = j by omega, show (8 * j + k) % 8 = k by omega]
/-- the model's world at heap H, since H0 -/
def mm_B (D : va_G) (t : Nat → ClassId) (a : Nat → Nat) (A : Nat → Prop) (s : State) (H0 : Heap) (S : cb_S) (th : Int32) (H : Heap) (locs : List Loc) : Prop := va_P D cbCl (mm_w t a S th) H ∧ va_D A (mm_w t a S th) ∧ va_S A H0 H locs ∧ va_K D cbCl (cb_tys t) s
section RM
variable {p : Program} {l : Launch} {e : Env} {R : Room} {s : State} {m : MethodId} {args : Array Value} {below : List Frame} {meth : Method} {c : Code} {H : Heap} {locs : List Loc} {cells slots : Nat} {Q : State → Prop}
variable {pc : Nat} {ls : Array Slot} {rest : List Value} {cc : ByteArray} {D : va_G} {t : Nat → ClassId} {a : Nat → Nat} {A : Nat → Prop} {H0 : Heap} {S : cb_S} {th : Int32}
theorem mm_get (hx : p.tables.exec = Jvm.exec) (hb : c.code = cc) (hts : ∀ w ∈ lw_all, w.before args s = true) (hown : s.vm.findClass RX6 = some m.cls) (hB : mm_B D t a A s H0 S th H locs) (k : Nat) (hk : k < 9) {index : Nat} (hlink : Cond.fieldLink RX6 index RX6 (TX6 k).2.1 (TX6 k).2.2.1 ∈ lw_all) {v : Value} (hv : (mm_o a th (cb_mo S))[k]? = some v) (hdg : decode cc pc = .ok (.getfield index, 3))
    (kk : W p l e R s m args below meth c H locs cells slots Q (F0 m (pc + 3) ls (v :: rest))) : W p l e R s m args below meth c H locs cells slots Q (F0 m pc ls (.ref (a 0) :: rest)) :=
  va_get (D := D) (ci := 4) (C := RX6) (T := TX6) (N := 9) hx hb hts in_X6 hown hB.2.2.2 hB.1 0 rfl rfl k hk (hts _ hlink) (fun q h9 => by have e : (TX6 k).1 = RX6 := (by unfold TX6; split <;> rfl); rw [e] at h9; exact h9) hv hdg kk
theorem mm_putTh (hx : p.tables.exec = Jvm.exec) (hb : c.code = cc) (hts : ∀ w ∈ lw_all, w.before args s = true) (hown : s.vm.findClass RX6 = some m.cls) (hB : mm_B D t a A s H0 S th H locs) {v : Int32} (hdg : decode cc pc = .ok (.putfield 7, 3))
    (kk : ∀ (H : Heap) (locs : List Loc), mm_B D t a A s H0 S v H locs → W p l e R s m args below meth c H locs cells slots Q (F0 m (pc + 3) ls rest)) : W p l e R s m args below meth c H locs cells slots Q (F0 m pc ls (.int v :: .ref (a 0) :: rest)) := by
  refine va_put (D := D) (ci := 4) (v := .int v) (ty := .int) (C := RX6) (T := TX6) (N := 9) hx hb hts in_X6 tyX6 tyX6_ok nmX6 hown hB.2.2.2 hB.1 hB.2.1 hB.2.2.1 0 rfl rfl 0 (by decide) (hts _ q268) (fun _ h9 => h9) rfl (by decide +kernel) rfl rfl (Nat.le_of_ble_eq_true rfl) hdg (fun H1 locs1 hP hD hS => ?_)
  exact kk H1 locs1 ⟨hP, hD, hS, hB.2.2.2⟩
theorem mm_putMo (hx : p.tables.exec = Jvm.exec) (hb : c.code = cc) (hts : ∀ w ∈ lw_all, w.before args s = true) (hown : s.vm.findClass RX6 = some m.cls) (hB : mm_B D t a A s H0 S th H locs) {v : Int32} (hdg : decode cc pc = .ok (.putfield 37, 3))
    (kk : ∀ (H : Heap) (locs : List Loc), mm_B D t a A s H0 (cb_sMo S v) th H locs → W p l e R s m args below meth c H locs cells slots Q (F0 m (pc + 3) ls rest)) : W p l e R s m args below meth c H locs cells slots Q (F0 m pc ls (.int v :: .ref (a 0) :: rest)) := by
  refine va_put (D := D) (ci := 4) (v := .int v) (ty := .int) (C := RX6) (T := TX6) (N := 9) hx hb hts in_X6 tyX6 tyX6_ok nmX6 hown hB.2.2.2 hB.1 hB.2.1 hB.2.2.1 0 rfl rfl 8 (by decide) (hts _ q276) (fun _ h9 => h9) rfl (by decide +kernel) rfl rfl (Nat.le_of_ble_eq_true rfl) hdg (fun H1 locs1 hP hD hS => ?_)
  exact kk H1 locs1 ⟨hP, hD, hS, hB.2.2.2⟩
theorem mm_ldLw (hx : p.tables.exec = Jvm.exec) (hb : c.code = cc) (hB : mm_B D t a A s H0 S th H locs) (j : Nat) (hj : j < 8) (hdg : decode cc pc = .ok (.iaload, 1))
    (kk : W p l e R s m args below meth c H locs cells slots Q (F0 m (pc + 1) ls (.int (nI (cb_lw S j)) :: rest))) : W p l e R s m args below meth c H locs cells slots Q (F0 m pc ls (.int (nI j) :: .ref (a 1) :: rest)) := by
  refine va_iald hx hb hB.2.2.2 hB.1 1 2 rfl rfl (vp_in_nI hj (by omega)) hdg ?_
  rw [nI_clamp (by omega)]
  exact kk
theorem mm_stLw (hx : p.tables.exec = Jvm.exec) (hb : c.code = cc) (hB : mm_B D t a A s H0 S th H locs) (j : Nat) (hj : j < 8) {w : Nat} (hdg : decode cc pc = .ok (.iastore, 1))
    (kk : ∀ (H : Heap) (locs : List Loc), mm_B D t a A s H0 (cb_sLw S j w) th H locs → W p l e R s m args below meth c H locs cells slots Q (F0 m (pc + 1) ls rest)) : W p l e R s m args below meth c H locs cells slots Q (F0 m pc ls (.int (nI w) :: .int (nI j) :: .ref (a 1) :: rest)) := by
  refine va_iast hx hb hB.2.2.2 hB.1 hB.2.1 hB.2.2.1 1 2 rfl rfl (vp_in_nI hj (by omega)) hdg (fun H1 locs1 hP hD hS => ?_)
  rw [nI_clamp (by omega), mm_upl] at hP hD
  exact kk H1 locs1 ⟨hP, hD, hS, hB.2.2.2⟩
theorem mm_ldGn (hx : p.tables.exec = Jvm.exec) (hb : c.code = cc) (hB : mm_B D t a A s H0 S th H locs) (j : Nat) (hj : j < 8) (hdg : decode cc pc = .ok (.iaload, 1))
    (kk : W p l e R s m args below meth c H locs cells slots Q (F0 m (pc + 1) ls (.int (cb_gn S j) :: rest))) : W p l e R s m args below meth c H locs cells slots Q (F0 m pc ls (.int (nI j) :: .ref (a 2) :: rest)) := by
  refine va_iald hx hb hB.2.2.2 hB.1 2 2 rfl rfl (vp_in_nI hj (by omega)) hdg ?_
  rw [nI_clamp (by omega)]
  exact kk
theorem mm_stGn (hx : p.tables.exec = Jvm.exec) (hb : c.code = cc) (hB : mm_B D t a A s H0 S th H locs) (j : Nat) (hj : j < 8) {v : Int32} (hdg : decode cc pc = .ok (.iastore, 1))
    (kk : ∀ (H : Heap) (locs : List Loc), mm_B D t a A s H0 (cb_sGn S j v) th H locs → W p l e R s m args below meth c H locs cells slots Q (F0 m (pc + 1) ls rest)) : W p l e R s m args below meth c H locs cells slots Q (F0 m pc ls (.int (v) :: .int (nI j) :: .ref (a 2) :: rest)) := by
  refine va_iast hx hb hB.2.2.2 hB.1 hB.2.1 hB.2.2.1 2 2 rfl rfl (vp_in_nI hj (by omega)) hdg (fun H1 locs1 hP hD hS => ?_)
  rw [nI_clamp (by omega)] at hP hD
  exact kk H1 locs1 ⟨hP, hD, hS, hB.2.2.2⟩
theorem mm_ldMu (hx : p.tables.exec = Jvm.exec) (hb : c.code = cc) (hB : mm_B D t a A s H0 S th H locs) (j : Nat) (hj : j < 8) (hdg : decode cc pc = .ok (.baload, 1))
    (kk : W p l e R s m args below meth c H locs cells slots Q (F0 m (pc + 1) ls (.int (cb_mu S j) :: rest))) : W p l e R s m args below meth c H locs cells slots Q (F0 m pc ls (.int (nI j) :: .ref (a 3) :: rest)) := by
  refine va_zald hx hb hB.2.2.2 hB.1 3 3 rfl rfl (vp_in_nI hj (by omega)) hdg ?_
  rw [nI_clamp (by omega)]
  exact kk
theorem mm_stMu (hx : p.tables.exec = Jvm.exec) (hb : c.code = cc) (hB : mm_B D t a A s H0 S th H locs) (j : Nat) (hj : j < 8) {v : Int32} (hv : v = 0 ∨ v = 1) (hdg : decode cc pc = .ok (.bastore, 1))
    (kk : ∀ (H : Heap) (locs : List Loc), mm_B D t a A s H0 (cb_sMu S j v) th H locs → W p l e R s m args below meth c H locs cells slots Q (F0 m (pc + 1) ls rest)) : W p l e R s m args below meth c H locs cells slots Q (F0 m pc ls (.int (v) :: .int (nI j) :: .ref (a 3) :: rest)) := by
  refine va_zast hx hb hB.2.2.2 hB.1 hB.2.1 hB.2.2.1 3 3 rfl rfl (vp_in_nI hj (by omega)) hdg (fun H1 locs1 hP hD hS => ?_)
  rw [nI_clamp (by omega), show vp_nar .boolean v = v from by rcases hv with rfl | rfl <;> rfl] at hP hD
  exact kk H1 locs1 ⟨hP, hD, hS, hB.2.2.2⟩
theorem mm_ldEn (hx : p.tables.exec = Jvm.exec) (hb : c.code = cc) (hB : mm_B D t a A s H0 S th H locs) (j : Nat) (hj : j < 8) (hdg : decode cc pc = .ok (.laload, 1))
    (kk : W p l e R s m args below meth c H locs cells slots Q (F0 m (pc + 1) ls (.long (cb_en S j) :: rest))) : W p l e R s m args below meth c H locs cells slots Q (F0 m pc ls (.int (nI j) :: .ref (a 7) :: rest)) := by
  refine va_lald hx hb hB.2.2.2 hB.1 7 4 rfl rfl (vp_in_nI hj (by omega)) hdg ?_
  rw [nI_clamp (by omega)]
  exact kk
theorem mm_stEn (hx : p.tables.exec = Jvm.exec) (hb : c.code = cc) (hB : mm_B D t a A s H0 S th H locs) (j : Nat) (hj : j < 8) {v : Int64} (hdg : decode cc pc = .ok (.lastore, 1))
    (kk : ∀ (H : Heap) (locs : List Loc), mm_B D t a A s H0 (cb_sEn S j v) th H locs → W p l e R s m args below meth c H locs cells slots Q (F0 m (pc + 1) ls rest)) : W p l e R s m args below meth c H locs cells slots Q (F0 m pc ls (.long (v) :: .int (nI j) :: .ref (a 7) :: rest)) := by
  refine va_last hx hb hB.2.2.2 hB.1 hB.2.1 hB.2.2.1 7 4 rfl rfl (vp_in_nI hj (by omega)) hdg (fun H1 locs1 hP hD hS => ?_)
  rw [nI_clamp (by omega)] at hP hD
  exact kk H1 locs1 ⟨hP, hD, hS, hB.2.2.2⟩
theorem mm_ldI (hx : p.tables.exec = Jvm.exec) (hb : c.code = cc) (hB : mm_B D t a A s H0 S th H locs) (j : Nat) (hj : j < 8) (k : Nat) (hk : k < 8) (hdg : decode cc pc = .ok (.iaload, 1))
    (kk : W p l e R s m args below meth c H locs cells slots Q (F0 m (pc + 1) ls (.int (cb_ii S j k) :: rest))) : W p l e R s m args below meth c H locs cells slots Q (F0 m pc ls (.int (nI (8 * j + k)) :: .ref (a 4) :: rest)) := by
  refine va_iald hx hb hB.2.2.2 hB.1 4 2 rfl rfl (vp_in_nI (by omega) (by omega)) hdg ?_
  rw [nI_clamp (by omega), mm_at2 _ j hk]
  exact kk
theorem mm_stI (hx : p.tables.exec = Jvm.exec) (hb : c.code = cc) (hB : mm_B D t a A s H0 S th H locs) (j : Nat) (hj : j < 8) (k : Nat) (hk : k < 8) {v : Int32} (hdg : decode cc pc = .ok (.iastore, 1))
    (kk : ∀ (H : Heap) (locs : List Loc), mm_B D t a A s H0 (cb_sIn S j k v) th H locs → W p l e R s m args below meth c H locs cells slots Q (F0 m (pc + 1) ls rest)) : W p l e R s m args below meth c H locs cells slots Q (F0 m pc ls (.int v :: .int (nI (8 * j + k)) :: .ref (a 4) :: rest)) := by
  refine va_iast hx hb hB.2.2.2 hB.1 hB.2.1 hB.2.2.1 4 2 rfl rfl (vp_in_nI (by omega) (by omega)) hdg (fun H1 locs1 hP hD hS => ?_)
  rw [nI_clamp (by omega), mm_up2 _ j hk] at hP hD
  exact kk H1 locs1 ⟨hP, hD, hS, hB.2.2.2⟩
theorem mm_ldO (hx : p.tables.exec = Jvm.exec) (hb : c.code = cc) (hB : mm_B D t a A s H0 S th H locs) (j : Nat) (hj : j < 8) (k : Nat) (hk : k < 8) (hdg : decode cc pc = .ok (.iaload, 1))
    (kk : W p l e R s m args below meth c H locs cells slots Q (F0 m (pc + 1) ls (.int (cb_ou S j k) :: rest))) : W p l e R s m args below meth c H locs cells slots Q (F0 m pc ls (.int (nI (8 * j + k)) :: .ref (a 5) :: rest)) := by
  refine va_iald hx hb hB.2.2.2 hB.1 5 2 rfl rfl (vp_in_nI (by omega) (by omega)) hdg ?_
  rw [nI_clamp (by omega), mm_at2 _ j hk]
  exact kk
theorem mm_stO (hx : p.tables.exec = Jvm.exec) (hb : c.code = cc) (hB : mm_B D t a A s H0 S th H locs) (j : Nat) (hj : j < 8) (k : Nat) (hk : k < 8) {v : Int32} (hdg : decode cc pc = .ok (.iastore, 1))
    (kk : ∀ (H : Heap) (locs : List Loc), mm_B D t a A s H0 (cb_sOu S j k v) th H locs → W p l e R s m args below meth c H locs cells slots Q (F0 m (pc + 1) ls rest)) : W p l e R s m args below meth c H locs cells slots Q (F0 m pc ls (.int v :: .int (nI (8 * j + k)) :: .ref (a 5) :: rest)) := by
  refine va_iast hx hb hB.2.2.2 hB.1 hB.2.1 hB.2.2.1 5 2 rfl rfl (vp_in_nI (by omega) (by omega)) hdg (fun H1 locs1 hP hD hS => ?_)
  rw [nI_clamp (by omega), mm_up2 _ j hk] at hP hD
  exact kk H1 locs1 ⟨hP, hD, hS, hB.2.2.2⟩
theorem mm_ldS (hx : p.tables.exec = Jvm.exec) (hb : c.code = cc) (hB : mm_B D t a A s H0 S th H locs) (j : Nat) (hj : j < 8) (k : Nat) (hk : k < 8) (hdg : decode cc pc = .ok (.iaload, 1))
    (kk : W p l e R s m args below meth c H locs cells slots Q (F0 m (pc + 1) ls (.int (cb_sm S j k) :: rest))) : W p l e R s m args below meth c H locs cells slots Q (F0 m pc ls (.int (nI (8 * j + k)) :: .ref (a 6) :: rest)) := by
  refine va_iald hx hb hB.2.2.2 hB.1 6 2 rfl rfl (vp_in_nI (by omega) (by omega)) hdg ?_
  rw [nI_clamp (by omega), mm_at2 _ j hk]
  exact kk
theorem mm_stS (hx : p.tables.exec = Jvm.exec) (hb : c.code = cc) (hB : mm_B D t a A s H0 S th H locs) (j : Nat) (hj : j < 8) (k : Nat) (hk : k < 8) {v : Int32} (hdg : decode cc pc = .ok (.iastore, 1))
    (kk : ∀ (H : Heap) (locs : List Loc), mm_B D t a A s H0 (cb_sSm S j k v) th H locs → W p l e R s m args below meth c H locs cells slots Q (F0 m (pc + 1) ls rest)) : W p l e R s m args below meth c H locs cells slots Q (F0 m pc ls (.int v :: .int (nI (8 * j + k)) :: .ref (a 6) :: rest)) := by
  refine va_iast hx hb hB.2.2.2 hB.1 hB.2.1 hB.2.2.1 6 2 rfl rfl (vp_in_nI (by omega) (by omega)) hdg (fun H1 locs1 hP hD hS => ?_)
  rw [nI_clamp (by omega), mm_up2 _ j hk] at hP hD
  exact kk H1 locs1 ⟨hP, hD, hS, hB.2.2.2⟩
/-- the static codeOf, meaning, under the law's number -/
theorem mm_code (l : Launch) (w : Nat) (hw : w < 2) (x : Int32) (hr : cb_rng x) : Met l yX6_codeOf (ws_ yX6_codeOf cX6_codeOf 4 (some .int)) ({ frames := 0, cells := 0, slots := 0, locals := 0 } : Room) (cb_Pp [.int (nI w), .int x]) (cb_Qp (some (.int (cb_enc w x)))) 0 0 cb_no := by
  rcases (show w = 0 ∨ w = 1 by omega) with rfl | rfl
  · exact met_cof0 l x hr
  · exact met_cof1 l x hr
theorem mm_mean (l : Launch) (w : Nat) (hw : w < 2) (n : Nat) (hn : n < 256) : Met l yX6_meaning (ws_ yX6_meaning cX6_meaning 7 (some .int)) ({ frames := 0, cells := 0, slots := 0, locals := 0 } : Room) (cb_Pp [.int (nI w), .int (nI n)]) (cb_Qp (some (.int (cb_dec w n)))) 0 0 cb_no := by
  rcases (show w = 0 ∨ w = 1 by omega) with rfl | rfl
  · exact met_mean0 l n hn
  · exact met_mean1 l n hn
end RM
/-- the contracts' form -/
def mm_inj (a : Nat → Nat) : Prop := ∀ i j, i < 8 → j < 8 → a i = a j → i = j
def mm_A (a : Nat → Nat) : Nat → Prop := fun q => ∃ k, k < 8 ∧ q = a k
def mm_Pre (D : va_G) (t : Nat → ClassId) (a : Nat → Nat) (S : cb_S) (th : Int32) (U : State) : Prop := va_P D cbCl (mm_w t a S th) U.heap ∧ va_K D cbCl (cb_tys t) U ∧ mm_inj a
def mm_Q (D : va_G) (t : Nat → ClassId) (a : Nat → Nat) (r : Option Value) (S' : cb_S) (th' : Int32) : Array Value → State → Outcome → State → Prop := fun _ st o t' => o = .returned r ∧ va_P D cbCl (mm_w t a S' th') t'.heap ∧ va_F (mm_A a) st t'
theorem mm_D_of {t : Nat → ClassId} {a : Nat → Nat} {S : cb_S} {th : Int32} {A : Nat → Prop} (hI : mm_inj a) (hA : ∀ k, k < 8 → A (a k)) : va_D A (mm_w t a S th) := by
  have key : ∀ (k : Nat) (q : Nat × va_E), (mm_w t a S th)[k]? = some q → k < 8 ∧ q.1 = a k := by
    intro k q hk
    have hl : k < 8 := (List.getElem?_eq_some_iff.mp hk).1
    refine ⟨hl, ?_⟩
    rcases (show k = 0 ∨ k = 1 ∨ k = 2 ∨ k = 3 ∨ k = 4 ∨ k = 5 ∨ k = 6 ∨ k = 7 by omega) with rfl | rfl | rfl | rfl | rfl | rfl | rfl | rfl <;> (cases hk; rfl)
  refine ⟨fun i j x y hx hy hxy => ?_, fun k q hk => ?_⟩
  · obtain ⟨h1, h2⟩ := key i x hx
    obtain ⟨h3, h4⟩ := key j y hy
    exact hI i j h1 h3 (by rw [← h2, ← h4]; exact hxy)
  · obtain ⟨h1, h2⟩ := key k q hk
    rw [h2]
    exact hA k h1
theorem mm_start {D : va_G} {t : Nat → ClassId} {a : Nat → Nat} {S : cb_S} {th : Int32} {U : State} (h : mm_Pre D t a S th U) : mm_B D t a (mm_A a) U U.heap S th U.heap [] := ⟨h.1, mm_D_of h.2.2 (fun k hk => ⟨k, hk, rfl⟩), va_S.rf, h.2.1⟩
theorem mm_blind {D : va_G} {t : Nat → ClassId} {a : Nat → Nat} {S : cb_S} {th : Int32} {av : List Value} : FrameBlind (va_Pc av (mm_Pre D t a S th)) := by
  intro z U f mk h
  obtain ⟨h1, h2, h3, h4⟩ := h
  exact ⟨h1, h2, va_K.moved (u := U) (U := U.calling f mk z) (Vm.Alike.refl U.vm) h3, h4⟩
end
section
/-! the model's methods without loops -/
set_option maxRecDepth 100000
def cb_thr (v : Int32) (n : Nat) : Int32 := if cb_ix v n = true then 0 else 1
def cb_fDec (x1 x2 : Int32) : Int32 := if cb_ix x1 2 = true then cb_dec x1.toNatClampNeg (cb_by x2) else 0
def cb_fEn (S : cb_S) (x1 : Int32) : Int64 := if cb_ix x1 8 = true then cb_en S x1.toNatClampNeg else 0
set_option maxHeartbeats 4000000 in
set_option maxRecDepth 100000 in
theorem met_mThr (l : Launch) (D : va_G) (tc : Nat → ClassId) (a : Nat → Nat) (S : cb_S) (th : Int32)  : Met l yX6_thrown (ws_ yX6_thrown cX6_thrown 1 (some .int)) ({ frames := 0, cells := 0, slots := 0, locals := 0 } : Room) (va_Pc [.ref (a 0)] (mm_Pre D tc a S th)) (mm_Q D tc a (some (.int th)) S th) 0 0 (mm_A a) := by
  refine Met.ofW (cc := cX6_thrown) (maxL := 1) (ret := (some .int)) (by decide) rfl ?_
  intro p e s m args below meth c s₁ B hml hv
  obtain ⟨rfl, hv⟩ := hv
  have hB := mm_start hv
  have hx := B.exec
  have hb := B.bytes
  have hr := B.returns
  have hts := atoms_spec (ws := (ws_ yX6_thrown cX6_thrown 1 (some .int))) B.pre
  have hts : ∀ w ∈ lw_all, w.before _ s = true := fun w h => hts w (List.mem_cons_of_mem _ h)
  have hown : s.vm.findClass RX6 = some m.cls := findClass_of_methodNamed B.named
  have hlocks := B.notSynchronized
  have hl := lv_entry ([.ref (a 0)]) (n := 1) (Nat.le_of_ble_eq_true rfl)
  rw [lg_entry_eq]
  generalize (lg_sl ([.ref (a 0)]) ++ List.replicate (1 - (lg_sl ([.ref (a 0)])).length) Slot.unset).toArray = ls at hl ⊢
  have hl : lv_has ls 1 [(0, .ref (a 0))] := hl
  refine lv_aload_n hx hb dX6_thrown_0 rfl (lv_at hl 0 rfl) ?_
  refine mm_get hx hb hts hown hB 0 (by decide) q268 rfl dX6_thrown_1 ?_
  exact W.iret (v := th) hx hb hr (fun t9 ht hW => ⟨cb_r (rfl), by rw [ht]; exact hB.1, hB.2.2.1.F ht⟩) hB.2.2.1.2.2 dX6_thrown_4
set_option maxHeartbeats 4000000 in
set_option maxRecDepth 100000 in
theorem met_mDec (l : Launch) (D : va_G) (tc : Nat → ClassId) (a : Nat → Nat) (S : cb_S) (th : Int32) (x1 x2 : Int32) : Met l yX6_decode (ws_ yX6_decode cX6_decode 3 (some .int)) ({ frames := 1, cells := 0, slots := 0, locals := 26 } : Room) (va_Pc [.ref (a 0), .int x1, .int x2] (mm_Pre D tc a S th)) (mm_Q D tc a (some (.int (cb_fDec x1 x2))) S (cb_thr x1 2)) 0 0 (mm_A a) := by
  refine Met.ofW (cc := cX6_decode) (maxL := 3) (ret := (some .int)) (by decide) rfl ?_
  intro p e s m args below meth c s₁ B hml hv
  obtain ⟨rfl, hv⟩ := hv
  have hB := mm_start hv
  have hx := B.exec
  have hb := B.bytes
  have hr := B.returns
  have hts := atoms_spec (ws := (ws_ yX6_decode cX6_decode 3 (some .int))) B.pre
  have hts : ∀ w ∈ lw_all, w.before _ s = true := fun w h => hts w (List.mem_cons_of_mem _ h)
  have hown : s.vm.findClass RX6 = some m.cls := findClass_of_methodNamed B.named
  have hlocks := B.notSynchronized
  have hl := lv_entry ([.ref (a 0), .int x1, .int x2]) (n := 3) (Nat.le_of_ble_eq_true rfl)
  rw [lg_entry_eq]
  generalize (lg_sl ([.ref (a 0), .int x1, .int x2]) ++ List.replicate (3 - (lg_sl ([.ref (a 0), .int x1, .int x2])).length) Slot.unset).toArray = ls at hl ⊢
  have hl : lv_has ls 3 [(0, .ref (a 0)), (1, .int x1), (2, .int x2)] := hl
  by_cases h1 : cb_ix x1 2 = true
  · obtain ⟨w, hw, rfl⟩ := cb_ix_of h1 (by decide)
    rw [show cb_fDec (nI w) x2 = cb_dec w (cb_by x2) from by unfold cb_fDec; rw [if_pos h1, nI_clamp (by omega)], show cb_thr (nI w) 2 = 0 from if_pos h1]
    refine lv_aload_n hx hb dX6_decode_0 rfl (lv_at hl 0 rfl) ?_
    refine lv_iload_n hx hb dX6_decode_1 rfl (lv_at hl 1 rfl) ?_
    refine lv_iconst (v := 2) hx hb dX6_decode_2 (by decide) ?_
    refine cb_callPi (va_runS (As := [.int (nI w), .int 2]) (rest := [.ref (a 0)]) ⟨hx, hb, hml, hown, hts⟩ (met_nix l (nI w) 2 2 (by decide)) (va_cwS 2 hts (lw_S q306 q307 q10 q308) rfl rfl rfl (by decide +kernel) ⟨Nat.le_of_ble_eq_true rfl, Nat.le_of_ble_eq_true rfl⟩) cb_preS rfl rfl hl.1 rfl (lv_room (Nat.le_of_ble_eq_true rfl)) dX6_decode_3 ⟨Nat.zero_le _, Nat.zero_le _⟩) ?_
    refine cb_top (y := 0) (if_pos h1) ?_
    refine lv_if_eq (tgt := 13) hx hb dX6_decode_6 (by decide) (fun cz => ?_) (fun cz => (cz rfl : False).elim)
    refine lv_iconst (v := 0) hx hb dX6_decode_13 (by decide) ?_
    refine mm_putTh hx hb hts hown hB dX6_decode_14 (fun H locs hB => ?_)
    refine lv_aload_n hx hb dX6_decode_17 rfl (lv_at hl 0 rfl) ?_
    refine mm_get hx hb hts hown hB 0 (by decide) q268 rfl dX6_decode_18 ?_
    refine lv_if_eq (tgt := 28) hx hb dX6_decode_21 (by decide) (fun cz => ?_) (fun cz => (cz rfl : False).elim)
    refine lv_iload_n hx hb dX6_decode_28 rfl (lv_at hl 1 rfl) ?_
    refine lv_iload_n hx hb dX6_decode_29 rfl (lv_at hl 2 rfl) ?_
    refine lv_sipush (v := 255) hx hb dX6_decode_30 (by decide) ?_
    refine lv_iand hx hb dX6_decode_33 ?_
    refine cb_top (y := nI (cb_by x2)) (cb_by_and x2) ?_
    refine cb_callPi (va_runS (As := [.int (nI w), .int (nI (cb_by x2))]) (rest := []) ⟨hx, hb, hml, hown, hts⟩ (mm_mean l w hw (cb_by x2) (cb_by_lt _)) (va_cwS 2 hts (lw_S q309 q310 q10 q311) rfl rfl rfl (by decide +kernel) ⟨Nat.le_of_ble_eq_true rfl, Nat.le_of_ble_eq_true rfl⟩) cb_preS rfl rfl hl.1 rfl (lv_room (Nat.le_of_ble_eq_true rfl)) dX6_decode_34 ⟨Nat.zero_le _, Nat.zero_le _⟩) ?_
    exact W.iret (v := (cb_dec w (cb_by x2))) hx hb hr (fun t9 ht hW => ⟨cb_r (rfl), by rw [ht]; exact hB.1, hB.2.2.1.F ht⟩) hB.2.2.1.2.2 dX6_decode_37
  · rw [show cb_fDec x1 x2 = 0 from if_neg h1, show cb_thr x1 2 = 1 from if_neg h1]
    refine lv_aload_n hx hb dX6_decode_0 rfl (lv_at hl 0 rfl) ?_
    refine lv_iload_n hx hb dX6_decode_1 rfl (lv_at hl 1 rfl) ?_
    refine lv_iconst (v := 2) hx hb dX6_decode_2 (by decide) ?_
    refine cb_callPi (va_runS (As := [.int x1, .int 2]) (rest := [.ref (a 0)]) ⟨hx, hb, hml, hown, hts⟩ (met_nix l x1 2 2 (by decide)) (va_cwS 2 hts (lw_S q306 q307 q10 q308) rfl rfl rfl (by decide +kernel) ⟨Nat.le_of_ble_eq_true rfl, Nat.le_of_ble_eq_true rfl⟩) cb_preS rfl rfl hl.1 rfl (lv_room (Nat.le_of_ble_eq_true rfl)) dX6_decode_3 ⟨Nat.zero_le _, Nat.zero_le _⟩) ?_
    refine cb_top (y := 1) (if_neg h1) ?_
    refine lv_if_eq (tgt := 13) hx hb dX6_decode_6 (by decide) (fun cz => (absurd cz (by decide) : False).elim) (fun cz => ?_)
    refine lv_iconst (v := 1) hx hb dX6_decode_9 (by decide) ?_
    refine lv_goto (tgt := 14) hx hb dX6_decode_10 (by decide) ?_
    refine mm_putTh hx hb hts hown hB dX6_decode_14 (fun H locs hB => ?_)
    refine lv_aload_n hx hb dX6_decode_17 rfl (lv_at hl 0 rfl) ?_
    refine mm_get hx hb hts hown hB 0 (by decide) q268 rfl dX6_decode_18 ?_
    refine lv_if_eq (tgt := 28) hx hb dX6_decode_21 (by decide) (fun cz => (absurd cz (by decide) : False).elim) (fun cz => ?_)
    refine lv_iconst (v := 0) hx hb dX6_decode_24 (by decide) ?_
    refine lv_goto (tgt := 37) hx hb dX6_decode_25 (by decide) ?_
    exact W.iret (v := 0) hx hb hr (fun t9 ht hW => ⟨cb_r (rfl), by rw [ht]; exact hB.1, hB.2.2.1.F ht⟩) hB.2.2.1.2.2 dX6_decode_37
set_option maxHeartbeats 4000000 in
set_option maxRecDepth 100000 in
theorem met_mEn (l : Launch) (D : va_G) (tc : Nat → ClassId) (a : Nat → Nat) (S : cb_S) (th : Int32) (x1 : Int32) : Met l yX6_energy (ws_ yX6_energy cX6_energy 2 (some .long)) ({ frames := 1, cells := 0, slots := 0, locals := 21 } : Room) (va_Pc [.ref (a 0), .int x1] (mm_Pre D tc a S th)) (mm_Q D tc a (some (.long (cb_fEn S x1))) S (cb_thr x1 8)) 0 0 (mm_A a) := by
  refine Met.ofW (cc := cX6_energy) (maxL := 2) (ret := (some .long)) (by decide) rfl ?_
  intro p e s m args below meth c s₁ B hml hv
  obtain ⟨rfl, hv⟩ := hv
  have hB := mm_start hv
  have hx := B.exec
  have hb := B.bytes
  have hr := B.returns
  have hts := atoms_spec (ws := (ws_ yX6_energy cX6_energy 2 (some .long))) B.pre
  have hts : ∀ w ∈ lw_all, w.before _ s = true := fun w h => hts w (List.mem_cons_of_mem _ h)
  have hown : s.vm.findClass RX6 = some m.cls := findClass_of_methodNamed B.named
  have hlocks := B.notSynchronized
  have hl := lv_entry ([.ref (a 0), .int x1]) (n := 2) (Nat.le_of_ble_eq_true rfl)
  rw [lg_entry_eq]
  generalize (lg_sl ([.ref (a 0), .int x1]) ++ List.replicate (2 - (lg_sl ([.ref (a 0), .int x1])).length) Slot.unset).toArray = ls at hl ⊢
  have hl : lv_has ls 2 [(0, .ref (a 0)), (1, .int x1)] := hl
  by_cases h1 : cb_ix x1 8 = true
  · obtain ⟨j, hj, rfl⟩ := cb_ix_of h1 (by decide)
    rw [show cb_fEn S (nI j) = cb_en S j from by unfold cb_fEn; rw [if_pos h1, nI_clamp (by omega)], show cb_thr (nI j) 8 = 0 from if_pos h1]
    refine lv_aload_n hx hb dX6_energy_0 rfl (lv_at hl 0 rfl) ?_
    refine lv_iload_n hx hb dX6_energy_1 rfl (lv_at hl 1 rfl) ?_
    refine lv_bipush (v := 8) hx hb dX6_energy_2 (by decide) ?_
    refine cb_callPi (va_runS (As := [.int (nI j), .int 8]) (rest := [.ref (a 0)]) ⟨hx, hb, hml, hown, hts⟩ (met_nix l (nI j) 8 8 (by decide)) (va_cwS 2 hts (lw_S q306 q307 q10 q308) rfl rfl rfl (by decide +kernel) ⟨Nat.le_of_ble_eq_true rfl, Nat.le_of_ble_eq_true rfl⟩) cb_preS rfl rfl hl.1 rfl (lv_room (Nat.le_of_ble_eq_true rfl)) dX6_energy_4 ⟨Nat.zero_le _, Nat.zero_le _⟩) ?_
    refine cb_top (y := 0) (if_pos h1) ?_
    refine lv_if_eq (tgt := 14) hx hb dX6_energy_7 (by decide) (fun cz => ?_) (fun cz => (cz rfl : False).elim)
    refine lv_iconst (v := 0) hx hb dX6_energy_14 (by decide) ?_
    refine mm_putTh hx hb hts hown hB dX6_energy_15 (fun H locs hB => ?_)
    refine lv_aload_n hx hb dX6_energy_18 rfl (lv_at hl 0 rfl) ?_
    refine mm_get hx hb hts hown hB 0 (by decide) q268 rfl dX6_energy_19 ?_
    refine lv_if_eq (tgt := 29) hx hb dX6_energy_22 (by decide) (fun cz => ?_) (fun cz => (cz rfl : False).elim)
    refine lv_aload_n hx hb dX6_energy_29 rfl (lv_at hl 0 rfl) ?_
    refine mm_get hx hb hts hown hB 7 (by decide) q275 rfl dX6_energy_30 ?_
    refine lv_iload_n hx hb dX6_energy_33 rfl (lv_at hl 1 rfl) ?_
    refine mm_ldEn hx hb hB j hj dX6_energy_34 ?_
    exact W.lret (v := (cb_en S j)) hx hb hr (fun t9 ht hW => ⟨cb_rl (rfl), by rw [ht]; exact hB.1, hB.2.2.1.F ht⟩) hB.2.2.1.2.2 dX6_energy_35
  · rw [show cb_fEn S x1 = 0 from if_neg h1, show cb_thr x1 8 = 1 from if_neg h1]
    refine lv_aload_n hx hb dX6_energy_0 rfl (lv_at hl 0 rfl) ?_
    refine lv_iload_n hx hb dX6_energy_1 rfl (lv_at hl 1 rfl) ?_
    refine lv_bipush (v := 8) hx hb dX6_energy_2 (by decide) ?_
    refine cb_callPi (va_runS (As := [.int x1, .int 8]) (rest := [.ref (a 0)]) ⟨hx, hb, hml, hown, hts⟩ (met_nix l x1 8 8 (by decide)) (va_cwS 2 hts (lw_S q306 q307 q10 q308) rfl rfl rfl (by decide +kernel) ⟨Nat.le_of_ble_eq_true rfl, Nat.le_of_ble_eq_true rfl⟩) cb_preS rfl rfl hl.1 rfl (lv_room (Nat.le_of_ble_eq_true rfl)) dX6_energy_4 ⟨Nat.zero_le _, Nat.zero_le _⟩) ?_
    refine cb_top (y := 1) (if_neg h1) ?_
    refine lv_if_eq (tgt := 14) hx hb dX6_energy_7 (by decide) (fun cz => (absurd cz (by decide) : False).elim) (fun cz => ?_)
    refine lv_iconst (v := 1) hx hb dX6_energy_10 (by decide) ?_
    refine lv_goto (tgt := 15) hx hb dX6_energy_11 (by decide) ?_
    refine mm_putTh hx hb hts hown hB dX6_energy_15 (fun H locs hB => ?_)
    refine lv_aload_n hx hb dX6_energy_18 rfl (lv_at hl 0 rfl) ?_
    refine mm_get hx hb hts hown hB 0 (by decide) q268 rfl dX6_energy_19 ?_
    refine lv_if_eq (tgt := 29) hx hb dX6_energy_22 (by decide) (fun cz => (absurd cz (by decide) : False).elim) (fun cz => ?_)
    refine lv_lconst (v := 0) hx hb dX6_energy_25 (by decide) ?_
    refine lv_goto (tgt := 35) hx hb dX6_energy_26 (by decide) ?_
    exact W.lret (v := 0) hx hb hr (fun t9 ht hW => ⟨cb_rl (rfl), by rw [ht]; exact hB.1, hB.2.2.1.F ht⟩) hB.2.2.1.2.2 dX6_energy_35
set_option maxHeartbeats 4000000 in
set_option maxRecDepth 100000 in
theorem met_mEnc (l : Launch) (D : va_G) (tc : Nat → ClassId) (a : Nat → Nat) (S : cb_S) (th : Int32) (x1 x2 : Int32) : Met l yX6_encode (ws_ yX6_encode cX6_encode 3 (some .int)) ({ frames := 1, cells := 0, slots := 0, locals := 23 } : Room) (va_Pc [.ref (a 0), .int x1, .int x2] (mm_Pre D tc a S th)) (mm_Q D tc a (some (.int (cb_fEnc x1 x2))) S 0) 0 0 (mm_A a) := by
  refine Met.ofW (cc := cX6_encode) (maxL := 3) (ret := (some .int)) (by decide) rfl ?_
  intro p e s m args below meth c s₁ B hml hv
  obtain ⟨rfl, hv⟩ := hv
  have hB := mm_start hv
  have hx := B.exec
  have hb := B.bytes
  have hr := B.returns
  have hts := atoms_spec (ws := (ws_ yX6_encode cX6_encode 3 (some .int))) B.pre
  have hts : ∀ w ∈ lw_all, w.before _ s = true := fun w h => hts w (List.mem_cons_of_mem _ h)
  have hown : s.vm.findClass RX6 = some m.cls := findClass_of_methodNamed B.named
  have hlocks := B.notSynchronized
  have hl := lv_entry ([.ref (a 0), .int x1, .int x2]) (n := 3) (Nat.le_of_ble_eq_true rfl)
  rw [lg_entry_eq]
  generalize (lg_sl ([.ref (a 0), .int x1, .int x2]) ++ List.replicate (3 - (lg_sl ([.ref (a 0), .int x1, .int x2])).length) Slot.unset).toArray = ls at hl ⊢
  have hl : lv_has ls 3 [(0, .ref (a 0)), (1, .int x1), (2, .int x2)] := hl
  refine lv_aload_n hx hb dX6_encode_0 rfl (lv_at hl 0 rfl) ?_
  refine lv_iconst (v := 0) hx hb dX6_encode_1 (by decide) ?_
  refine mm_putTh hx hb hts hown hB dX6_encode_2 (fun H locs hB => ?_)
  refine lv_iload_n hx hb dX6_encode_5 rfl (lv_at hl 1 rfl) ?_
  refine lv_iconst (v := 2) hx hb dX6_encode_6 (by decide) ?_
  by_cases h1 : cb_ix x1 2 = true
  · obtain ⟨w, hw, rfl⟩ := cb_ix_of h1 (by decide)
    rw [show cb_fEnc (nI w) x2 = cb_enc w (cb_sat x2.toInt64) from by unfold cb_fEnc; rw [if_pos h1, nI_clamp (by omega)]]
    refine cb_callPi (va_runS (As := [.int (nI w), .int 2]) (rest := []) ⟨hx, hb, hml, hown, hts⟩ (met_nix l (nI w) 2 2 (by decide)) (va_cwS 2 hts (lw_S q306 q307 q10 q308) rfl rfl rfl (by decide +kernel) ⟨Nat.le_of_ble_eq_true rfl, Nat.le_of_ble_eq_true rfl⟩) cb_preS rfl rfl hl.1 rfl (lv_room (Nat.le_of_ble_eq_true rfl)) dX6_encode_7 ⟨Nat.zero_le _, Nat.zero_le _⟩) ?_
    refine cb_top (y := 0) (if_pos h1) ?_
    refine lv_if_eq (tgt := 17) hx hb dX6_encode_10 (by decide) (fun cz => ?_) (fun cz => (cz rfl : False).elim)
    refine lv_iload_n hx hb dX6_encode_17 rfl (lv_at hl 1 rfl) ?_
    refine lv_iload_n hx hb dX6_encode_18 rfl (lv_at hl 2 rfl) ?_
    refine lv_i2l hx hb dX6_encode_19 rfl ?_
    refine cb_callPi (va_runS (As := [.long x2.toInt64]) (rest := [.int (nI w)]) ⟨hx, hb, hml, hown, hts⟩ (met_held l x2.toInt64) (va_cwS 1 hts (lw_S q316 q317 q10 q318) rfl rfl rfl (by decide +kernel) ⟨Nat.le_of_ble_eq_true rfl, Nat.le_of_ble_eq_true rfl⟩) cb_preS rfl rfl hl.1 rfl (lv_room (Nat.le_of_ble_eq_true rfl)) dX6_encode_20 ⟨Nat.zero_le _, Nat.zero_le _⟩) ?_
    refine cb_callPi (va_runS (As := [.int (nI w), .int (cb_sat x2.toInt64)]) (rest := []) ⟨hx, hb, hml, hown, hts⟩ (mm_code l w hw (cb_sat x2.toInt64) (cb_sat_rng _)) (va_cwS 2 hts (lw_S q265 q266 q10 q267) rfl rfl rfl (by decide +kernel) ⟨Nat.le_of_ble_eq_true rfl, Nat.le_of_ble_eq_true rfl⟩) cb_preS rfl rfl hl.1 rfl (lv_room (Nat.le_of_ble_eq_true rfl)) dX6_encode_23 ⟨Nat.zero_le _, Nat.zero_le _⟩) ?_
    exact W.iret (v := (cb_enc w (cb_sat x2.toInt64))) hx hb hr (fun t9 ht hW => ⟨cb_r (rfl), by rw [ht]; exact hB.1, hB.2.2.1.F ht⟩) hB.2.2.1.2.2 dX6_encode_26
  · rw [show cb_fEnc x1 x2 = -1 from if_neg h1]
    refine cb_callPi (va_runS (As := [.int x1, .int 2]) (rest := []) ⟨hx, hb, hml, hown, hts⟩ (met_nix l x1 2 2 (by decide)) (va_cwS 2 hts (lw_S q306 q307 q10 q308) rfl rfl rfl (by decide +kernel) ⟨Nat.le_of_ble_eq_true rfl, Nat.le_of_ble_eq_true rfl⟩) cb_preS rfl rfl hl.1 rfl (lv_room (Nat.le_of_ble_eq_true rfl)) dX6_encode_7 ⟨Nat.zero_le _, Nat.zero_le _⟩) ?_
    refine cb_top (y := 1) (if_neg h1) ?_
    refine lv_if_eq (tgt := 17) hx hb dX6_encode_10 (by decide) (fun cz => (absurd cz (by decide) : False).elim) (fun cz => ?_)
    refine lv_iconst (v := (-1)) hx hb dX6_encode_13 (by decide) ?_
    refine lv_goto (tgt := 26) hx hb dX6_encode_14 (by decide) ?_
    exact W.iret (v := (-1)) hx hb hr (fun t9 ht hW => ⟨cb_r (rfl), by rw [ht]; exact hB.1, hB.2.2.1.F ht⟩) hB.2.2.1.2.2 dX6_encode_26
set_option maxHeartbeats 4000000 in
set_option maxRecDepth 100000 in
theorem met_mLaw (l : Launch) (D : va_G) (tc : Nat → ClassId) (a : Nat → Nat) (S : cb_S) (th : Int32) (x1 x2 : Int32) : Met l yX6_law (ws_ yX6_law cX6_law 3 (some .boolean)) ({ frames := 1, cells := 0, slots := 0, locals := 21 } : Room) (va_Pc [.ref (a 0), .int x1, .int x2] (mm_Pre D tc a S th)) (mm_Q D tc a (some (.int (cb_fLaw S x1 x2).1)) (cb_fLaw S x1 x2).2 0) 0 0 (mm_A a) := by
  refine Met.ofW (cc := cX6_law) (maxL := 3) (ret := (some .boolean)) (by decide) rfl ?_
  intro p e s m args below meth c s₁ B hml hv
  obtain ⟨rfl, hv⟩ := hv
  have hB := mm_start hv
  have hx := B.exec
  have hb := B.bytes
  have hr := B.returns
  have hts := atoms_spec (ws := (ws_ yX6_law cX6_law 3 (some .boolean))) B.pre
  have hts : ∀ w ∈ lw_all, w.before _ s = true := fun w h => hts w (List.mem_cons_of_mem _ h)
  have hown : s.vm.findClass RX6 = some m.cls := findClass_of_methodNamed B.named
  have hlocks := B.notSynchronized
  have hl := lv_entry ([.ref (a 0), .int x1, .int x2]) (n := 3) (Nat.le_of_ble_eq_true rfl)
  rw [lg_entry_eq]
  generalize (lg_sl ([.ref (a 0), .int x1, .int x2]) ++ List.replicate (3 - (lg_sl ([.ref (a 0), .int x1, .int x2])).length) Slot.unset).toArray = ls at hl ⊢
  have hl : lv_has ls 3 [(0, .ref (a 0)), (1, .int x1), (2, .int x2)] := hl
  refine lv_aload_n hx hb dX6_law_0 rfl (lv_at hl 0 rfl) ?_
  refine lv_iconst (v := 0) hx hb dX6_law_1 (by decide) ?_
  refine mm_putTh hx hb hts hown hB dX6_law_2 (fun H locs hB => ?_)
  refine lv_iload_n hx hb dX6_law_5 rfl (lv_at hl 1 rfl) ?_
  refine lv_bipush (v := 8) hx hb dX6_law_6 (by decide) ?_
  by_cases h1 : cb_ix x1 8 = true
  · by_cases h2 : cb_ix x2 2 = true
    · obtain ⟨j, hj, rfl⟩ := cb_ix_of h1 (by decide)
      obtain ⟨w, hw, rfl⟩ := cb_ix_of h2 (by decide)
      rw [show cb_fLaw S (nI j) (nI w) = (1, cb_sLw S j w) from by unfold cb_fLaw; rw [if_pos ⟨h1, h2⟩, nI_clamp (by omega), nI_clamp (by omega)]]
      refine cb_callPi (va_runS (As := [.int (nI j), .int 8]) (rest := []) ⟨hx, hb, hml, hown, hts⟩ (met_nix l (nI j) 8 8 (by decide)) (va_cwS 2 hts (lw_S q306 q307 q10 q308) rfl rfl rfl (by decide +kernel) ⟨Nat.le_of_ble_eq_true rfl, Nat.le_of_ble_eq_true rfl⟩) cb_preS rfl rfl hl.1 rfl (lv_room (Nat.le_of_ble_eq_true rfl)) dX6_law_8 ⟨Nat.zero_le _, Nat.zero_le _⟩) ?_
      refine cb_top (y := 0) (if_pos h1) ?_
      refine lv_if_ne (tgt := 22) hx hb dX6_law_11 (by decide) (fun cz => (cz rfl : False).elim) (fun cz => ?_)
      refine lv_iload_n hx hb dX6_law_14 rfl (lv_at hl 2 rfl) ?_
      refine lv_iconst (v := 2) hx hb dX6_law_15 (by decide) ?_
      refine cb_callPi (va_runS (As := [.int (nI w), .int 2]) (rest := []) ⟨hx, hb, hml, hown, hts⟩ (met_nix l (nI w) 2 2 (by decide)) (va_cwS 2 hts (lw_S q306 q307 q10 q308) rfl rfl rfl (by decide +kernel) ⟨Nat.le_of_ble_eq_true rfl, Nat.le_of_ble_eq_true rfl⟩) cb_preS rfl rfl hl.1 rfl (lv_room (Nat.le_of_ble_eq_true rfl)) dX6_law_16 ⟨Nat.zero_le _, Nat.zero_le _⟩) ?_
      refine cb_top (y := 0) (if_pos h2) ?_
      refine lv_if_eq (tgt := 24) hx hb dX6_law_19 (by decide) (fun cz => ?_) (fun cz => (cz rfl : False).elim)
      refine lv_aload_n hx hb dX6_law_24 rfl (lv_at hl 0 rfl) ?_
      refine mm_get hx hb hts hown hB 1 (by decide) q269 rfl dX6_law_25 ?_
      refine lv_iload_n hx hb dX6_law_28 rfl (lv_at hl 1 rfl) ?_
      refine lv_iload_n hx hb dX6_law_29 rfl (lv_at hl 2 rfl) ?_
      refine mm_stLw hx hb hB j hj dX6_law_30 (fun H locs hB => ?_)
      refine lv_iconst (v := 1) hx hb dX6_law_31 (by decide) ?_
      exact W.zret (v := 1) hx hb hr rfl (fun t9 ht hW => ⟨cb_r (rfl), by rw [ht]; exact hB.1, hB.2.2.1.F ht⟩) hB.2.2.1.2.2 dX6_law_32
    · rw [show cb_fLaw S x1 x2 = (0, S) from by unfold cb_fLaw; rw [if_neg (fun q => h2 q.2)]]
      refine cb_callPi (va_runS (As := [.int x1, .int 8]) (rest := []) ⟨hx, hb, hml, hown, hts⟩ (met_nix l x1 8 8 (by decide)) (va_cwS 2 hts (lw_S q306 q307 q10 q308) rfl rfl rfl (by decide +kernel) ⟨Nat.le_of_ble_eq_true rfl, Nat.le_of_ble_eq_true rfl⟩) cb_preS rfl rfl hl.1 rfl (lv_room (Nat.le_of_ble_eq_true rfl)) dX6_law_8 ⟨Nat.zero_le _, Nat.zero_le _⟩) ?_
      refine cb_top (y := 0) (if_pos h1) ?_
      refine lv_if_ne (tgt := 22) hx hb dX6_law_11 (by decide) (fun cz => (cz rfl : False).elim) (fun cz => ?_)
      refine lv_iload_n hx hb dX6_law_14 rfl (lv_at hl 2 rfl) ?_
      refine lv_iconst (v := 2) hx hb dX6_law_15 (by decide) ?_
      refine cb_callPi (va_runS (As := [.int x2, .int 2]) (rest := []) ⟨hx, hb, hml, hown, hts⟩ (met_nix l x2 2 2 (by decide)) (va_cwS 2 hts (lw_S q306 q307 q10 q308) rfl rfl rfl (by decide +kernel) ⟨Nat.le_of_ble_eq_true rfl, Nat.le_of_ble_eq_true rfl⟩) cb_preS rfl rfl hl.1 rfl (lv_room (Nat.le_of_ble_eq_true rfl)) dX6_law_16 ⟨Nat.zero_le _, Nat.zero_le _⟩) ?_
      refine cb_top (y := 1) (if_neg h2) ?_
      refine lv_if_eq (tgt := 24) hx hb dX6_law_19 (by decide) (fun cz => (absurd cz (by decide) : False).elim) (fun cz => ?_)
      refine lv_iconst (v := 0) hx hb dX6_law_22 (by decide) ?_
      exact W.zret (v := 0) hx hb hr rfl (fun t9 ht hW => ⟨cb_r (rfl), by rw [ht]; exact hB.1, hB.2.2.1.F ht⟩) hB.2.2.1.2.2 dX6_law_23
  · rw [show cb_fLaw S x1 x2 = (0, S) from by unfold cb_fLaw; rw [if_neg (fun q => h1 q.1)]]
    refine cb_callPi (va_runS (As := [.int x1, .int 8]) (rest := []) ⟨hx, hb, hml, hown, hts⟩ (met_nix l x1 8 8 (by decide)) (va_cwS 2 hts (lw_S q306 q307 q10 q308) rfl rfl rfl (by decide +kernel) ⟨Nat.le_of_ble_eq_true rfl, Nat.le_of_ble_eq_true rfl⟩) cb_preS rfl rfl hl.1 rfl (lv_room (Nat.le_of_ble_eq_true rfl)) dX6_law_8 ⟨Nat.zero_le _, Nat.zero_le _⟩) ?_
    refine cb_top (y := 1) (if_neg h1) ?_
    refine lv_if_ne (tgt := 22) hx hb dX6_law_11 (by decide) (fun cz => ?_) (fun cz => (absurd cz (by decide) : False).elim)
    refine lv_iconst (v := 0) hx hb dX6_law_22 (by decide) ?_
    exact W.zret (v := 0) hx hb hr rfl (fun t9 ht hW => ⟨cb_r (rfl), by rw [ht]; exact hB.1, hB.2.2.1.F ht⟩) hB.2.2.1.2.2 dX6_law_23
set_option maxHeartbeats 4000000 in
set_option maxRecDepth 100000 in
theorem met_mGain (l : Launch) (D : va_G) (tc : Nat → ClassId) (a : Nat → Nat) (S : cb_S) (th : Int32) (x1 x2 : Int32) : Met l yX6_gain (ws_ yX6_gain cX6_gain 3 (some .boolean)) ({ frames := 1, cells := 0, slots := 0, locals := 21 } : Room) (va_Pc [.ref (a 0), .int x1, .int x2] (mm_Pre D tc a S th)) (mm_Q D tc a (some (.int (cb_fGain S x1 x2).1)) (cb_fGain S x1 x2).2 0) 0 0 (mm_A a) := by
  refine Met.ofW (cc := cX6_gain) (maxL := 3) (ret := (some .boolean)) (by decide) rfl ?_
  intro p e s m args below meth c s₁ B hml hv
  obtain ⟨rfl, hv⟩ := hv
  have hB := mm_start hv
  have hx := B.exec
  have hb := B.bytes
  have hr := B.returns
  have hts := atoms_spec (ws := (ws_ yX6_gain cX6_gain 3 (some .boolean))) B.pre
  have hts : ∀ w ∈ lw_all, w.before _ s = true := fun w h => hts w (List.mem_cons_of_mem _ h)
  have hown : s.vm.findClass RX6 = some m.cls := findClass_of_methodNamed B.named
  have hlocks := B.notSynchronized
  have hl := lv_entry ([.ref (a 0), .int x1, .int x2]) (n := 3) (Nat.le_of_ble_eq_true rfl)
  rw [lg_entry_eq]
  generalize (lg_sl ([.ref (a 0), .int x1, .int x2]) ++ List.replicate (3 - (lg_sl ([.ref (a 0), .int x1, .int x2])).length) Slot.unset).toArray = ls at hl ⊢
  have hl : lv_has ls 3 [(0, .ref (a 0)), (1, .int x1), (2, .int x2)] := hl
  refine lv_aload_n hx hb dX6_gain_0 rfl (lv_at hl 0 rfl) ?_
  refine lv_iconst (v := 0) hx hb dX6_gain_1 (by decide) ?_
  refine mm_putTh hx hb hts hown hB dX6_gain_2 (fun H locs hB => ?_)
  refine lv_iload_n hx hb dX6_gain_5 rfl (lv_at hl 1 rfl) ?_
  refine lv_bipush (v := 8) hx hb dX6_gain_6 (by decide) ?_
  by_cases h1 : cb_ix x1 8 = true
  · by_cases h2 : cb_ix x2 1025 = true
    · obtain ⟨j, hj, rfl⟩ := cb_ix_of h1 (by decide)
      rw [show cb_fGain S (nI j) x2 = (1, cb_sGn S j x2) from by unfold cb_fGain; rw [if_pos ⟨h1, h2⟩, nI_clamp (by omega)]]
      refine cb_callPi (va_runS (As := [.int (nI j), .int 8]) (rest := []) ⟨hx, hb, hml, hown, hts⟩ (met_nix l (nI j) 8 8 (by decide)) (va_cwS 2 hts (lw_S q306 q307 q10 q308) rfl rfl rfl (by decide +kernel) ⟨Nat.le_of_ble_eq_true rfl, Nat.le_of_ble_eq_true rfl⟩) cb_preS rfl rfl hl.1 rfl (lv_room (Nat.le_of_ble_eq_true rfl)) dX6_gain_8 ⟨Nat.zero_le _, Nat.zero_le _⟩) ?_
      refine cb_top (y := 0) (if_pos h1) ?_
      refine lv_if_ne (tgt := 24) hx hb dX6_gain_11 (by decide) (fun cz => (cz rfl : False).elim) (fun cz => ?_)
      refine lv_iload_n hx hb dX6_gain_14 rfl (lv_at hl 2 rfl) ?_
      refine lv_sipush (v := 1025) hx hb dX6_gain_15 (by decide) ?_
      refine cb_callPi (va_runS (As := [.int x2, .int 1025]) (rest := []) ⟨hx, hb, hml, hown, hts⟩ (met_nix l x2 1025 1025 (by decide)) (va_cwS 2 hts (lw_S q306 q307 q10 q308) rfl rfl rfl (by decide +kernel) ⟨Nat.le_of_ble_eq_true rfl, Nat.le_of_ble_eq_true rfl⟩) cb_preS rfl rfl hl.1 rfl (lv_room (Nat.le_of_ble_eq_true rfl)) dX6_gain_18 ⟨Nat.zero_le _, Nat.zero_le _⟩) ?_
      refine cb_top (y := 0) (if_pos h2) ?_
      refine lv_if_eq (tgt := 26) hx hb dX6_gain_21 (by decide) (fun cz => ?_) (fun cz => (cz rfl : False).elim)
      refine lv_aload_n hx hb dX6_gain_26 rfl (lv_at hl 0 rfl) ?_
      refine mm_get hx hb hts hown hB 2 (by decide) q270 rfl dX6_gain_27 ?_
      refine lv_iload_n hx hb dX6_gain_30 rfl (lv_at hl 1 rfl) ?_
      refine lv_iload_n hx hb dX6_gain_31 rfl (lv_at hl 2 rfl) ?_
      refine mm_stGn hx hb hB j hj dX6_gain_32 (fun H locs hB => ?_)
      refine lv_iconst (v := 1) hx hb dX6_gain_33 (by decide) ?_
      exact W.zret (v := 1) hx hb hr rfl (fun t9 ht hW => ⟨cb_r (rfl), by rw [ht]; exact hB.1, hB.2.2.1.F ht⟩) hB.2.2.1.2.2 dX6_gain_34
    · rw [show cb_fGain S x1 x2 = (0, S) from by unfold cb_fGain; rw [if_neg (fun q => h2 q.2)]]
      refine cb_callPi (va_runS (As := [.int x1, .int 8]) (rest := []) ⟨hx, hb, hml, hown, hts⟩ (met_nix l x1 8 8 (by decide)) (va_cwS 2 hts (lw_S q306 q307 q10 q308) rfl rfl rfl (by decide +kernel) ⟨Nat.le_of_ble_eq_true rfl, Nat.le_of_ble_eq_true rfl⟩) cb_preS rfl rfl hl.1 rfl (lv_room (Nat.le_of_ble_eq_true rfl)) dX6_gain_8 ⟨Nat.zero_le _, Nat.zero_le _⟩) ?_
      refine cb_top (y := 0) (if_pos h1) ?_
      refine lv_if_ne (tgt := 24) hx hb dX6_gain_11 (by decide) (fun cz => (cz rfl : False).elim) (fun cz => ?_)
      refine lv_iload_n hx hb dX6_gain_14 rfl (lv_at hl 2 rfl) ?_
      refine lv_sipush (v := 1025) hx hb dX6_gain_15 (by decide) ?_
      refine cb_callPi (va_runS (As := [.int x2, .int 1025]) (rest := []) ⟨hx, hb, hml, hown, hts⟩ (met_nix l x2 1025 1025 (by decide)) (va_cwS 2 hts (lw_S q306 q307 q10 q308) rfl rfl rfl (by decide +kernel) ⟨Nat.le_of_ble_eq_true rfl, Nat.le_of_ble_eq_true rfl⟩) cb_preS rfl rfl hl.1 rfl (lv_room (Nat.le_of_ble_eq_true rfl)) dX6_gain_18 ⟨Nat.zero_le _, Nat.zero_le _⟩) ?_
      refine cb_top (y := 1) (if_neg h2) ?_
      refine lv_if_eq (tgt := 26) hx hb dX6_gain_21 (by decide) (fun cz => (absurd cz (by decide) : False).elim) (fun cz => ?_)
      refine lv_iconst (v := 0) hx hb dX6_gain_24 (by decide) ?_
      exact W.zret (v := 0) hx hb hr rfl (fun t9 ht hW => ⟨cb_r (rfl), by rw [ht]; exact hB.1, hB.2.2.1.F ht⟩) hB.2.2.1.2.2 dX6_gain_25
  · rw [show cb_fGain S x1 x2 = (0, S) from by unfold cb_fGain; rw [if_neg (fun q => h1 q.1)]]
    refine cb_callPi (va_runS (As := [.int x1, .int 8]) (rest := []) ⟨hx, hb, hml, hown, hts⟩ (met_nix l x1 8 8 (by decide)) (va_cwS 2 hts (lw_S q306 q307 q10 q308) rfl rfl rfl (by decide +kernel) ⟨Nat.le_of_ble_eq_true rfl, Nat.le_of_ble_eq_true rfl⟩) cb_preS rfl rfl hl.1 rfl (lv_room (Nat.le_of_ble_eq_true rfl)) dX6_gain_8 ⟨Nat.zero_le _, Nat.zero_le _⟩) ?_
    refine cb_top (y := 1) (if_neg h1) ?_
    refine lv_if_ne (tgt := 24) hx hb dX6_gain_11 (by decide) (fun cz => ?_) (fun cz => (absurd cz (by decide) : False).elim)
    refine lv_iconst (v := 0) hx hb dX6_gain_24 (by decide) ?_
    exact W.zret (v := 0) hx hb hr rfl (fun t9 ht hW => ⟨cb_r (rfl), by rw [ht]; exact hB.1, hB.2.2.1.F ht⟩) hB.2.2.1.2.2 dX6_gain_25
set_option maxHeartbeats 4000000 in
set_option maxRecDepth 100000 in
theorem met_mPut (l : Launch) (D : va_G) (tc : Nat → ClassId) (a : Nat → Nat) (S : cb_S) (th : Int32) (x1 x2 x3 : Int32) : Met l yX6_put (ws_ yX6_put cX6_put 4 (some .boolean)) ({ frames := 1, cells := 0, slots := 0, locals := 21 } : Room) (va_Pc [.ref (a 0), .int x1, .int x2, .int x3] (mm_Pre D tc a S th)) (mm_Q D tc a (some (.int (cb_fPut S x1 x2 x3).1)) (cb_fPut S x1 x2 x3).2 0) 0 0 (mm_A a) := by
  refine Met.ofW (cc := cX6_put) (maxL := 4) (ret := (some .boolean)) (by decide) rfl ?_
  intro p e s m args below meth c s₁ B hml hv
  obtain ⟨rfl, hv⟩ := hv
  have hB := mm_start hv
  have hx := B.exec
  have hb := B.bytes
  have hr := B.returns
  have hts := atoms_spec (ws := (ws_ yX6_put cX6_put 4 (some .boolean))) B.pre
  have hts : ∀ w ∈ lw_all, w.before _ s = true := fun w h => hts w (List.mem_cons_of_mem _ h)
  have hown : s.vm.findClass RX6 = some m.cls := findClass_of_methodNamed B.named
  have hlocks := B.notSynchronized
  have hl := lv_entry ([.ref (a 0), .int x1, .int x2, .int x3]) (n := 4) (Nat.le_of_ble_eq_true rfl)
  rw [lg_entry_eq]
  generalize (lg_sl ([.ref (a 0), .int x1, .int x2, .int x3]) ++ List.replicate (4 - (lg_sl ([.ref (a 0), .int x1, .int x2, .int x3])).length) Slot.unset).toArray = ls at hl ⊢
  have hl : lv_has ls 4 [(0, .ref (a 0)), (1, .int x1), (2, .int x2), (3, .int x3)] := hl
  refine lv_aload_n hx hb dX6_put_0 rfl (lv_at hl 0 rfl) ?_
  refine lv_iconst (v := 0) hx hb dX6_put_1 (by decide) ?_
  refine mm_putTh hx hb hts hown hB dX6_put_2 (fun H locs hB => ?_)
  refine lv_iload_n hx hb dX6_put_5 rfl (lv_at hl 1 rfl) ?_
  refine lv_bipush (v := 8) hx hb dX6_put_6 (by decide) ?_
  by_cases h1 : cb_ix x1 8 = true
  · by_cases h2 : cb_ix x2 8 = true
    · obtain ⟨j, hj, rfl⟩ := cb_ix_of h1 (by decide)
      obtain ⟨k, hk, rfl⟩ := cb_ix_of h2 (by decide)
      rw [show cb_fPut S (nI j) (nI k) x3 = (1, cb_sIn S j k (nI (cb_by x3))) from by unfold cb_fPut; rw [if_pos ⟨h1, h2⟩, nI_clamp (by omega), nI_clamp (by omega)]]
      refine cb_callPi (va_runS (As := [.int (nI j), .int 8]) (rest := []) ⟨hx, hb, hml, hown, hts⟩ (met_nix l (nI j) 8 8 (by decide)) (va_cwS 2 hts (lw_S q306 q307 q10 q308) rfl rfl rfl (by decide +kernel) ⟨Nat.le_of_ble_eq_true rfl, Nat.le_of_ble_eq_true rfl⟩) cb_preS rfl rfl hl.1 rfl (lv_room (Nat.le_of_ble_eq_true rfl)) dX6_put_8 ⟨Nat.zero_le _, Nat.zero_le _⟩) ?_
      refine cb_top (y := 0) (if_pos h1) ?_
      refine lv_if_ne (tgt := 23) hx hb dX6_put_11 (by decide) (fun cz => (cz rfl : False).elim) (fun cz => ?_)
      refine lv_iload_n hx hb dX6_put_14 rfl (lv_at hl 2 rfl) ?_
      refine lv_bipush (v := 8) hx hb dX6_put_15 (by decide) ?_
      refine cb_callPi (va_runS (As := [.int (nI k), .int 8]) (rest := []) ⟨hx, hb, hml, hown, hts⟩ (met_nix l (nI k) 8 8 (by decide)) (va_cwS 2 hts (lw_S q306 q307 q10 q308) rfl rfl rfl (by decide +kernel) ⟨Nat.le_of_ble_eq_true rfl, Nat.le_of_ble_eq_true rfl⟩) cb_preS rfl rfl hl.1 rfl (lv_room (Nat.le_of_ble_eq_true rfl)) dX6_put_17 ⟨Nat.zero_le _, Nat.zero_le _⟩) ?_
      refine cb_top (y := 0) (if_pos h2) ?_
      refine lv_if_eq (tgt := 25) hx hb dX6_put_20 (by decide) (fun cz => ?_) (fun cz => (cz rfl : False).elim)
      refine lv_aload_n hx hb dX6_put_25 rfl (lv_at hl 0 rfl) ?_
      refine mm_get hx hb hts hown hB 4 (by decide) q272 rfl dX6_put_26 ?_
      refine lv_bipush (v := 8) hx hb dX6_put_29 (by decide) ?_
      refine lv_iload_n hx hb dX6_put_31 rfl (lv_at hl 1 rfl) ?_
      refine lv_imul hx hb dX6_put_32 ?_
      refine lv_iload_n hx hb dX6_put_33 rfl (lv_at hl 2 rfl) ?_
      refine lv_iadd hx hb dX6_put_34 ?_
      refine cb_top (y := nI (8 * j + k)) (mm_ix j k) ?_
      refine lv_iload_n hx hb dX6_put_35 rfl (lv_at hl 3 rfl) ?_
      refine lv_sipush (v := 255) hx hb dX6_put_36 (by decide) ?_
      refine lv_iand hx hb dX6_put_39 ?_
      refine cb_top (y := nI (cb_by x3)) (cb_by_and x3) ?_
      refine mm_stI hx hb hB j hj k hk dX6_put_40 (fun H locs hB => ?_)
      refine lv_iconst (v := 1) hx hb dX6_put_41 (by decide) ?_
      exact W.zret (v := 1) hx hb hr rfl (fun t9 ht hW => ⟨cb_r (rfl), by rw [ht]; exact hB.1, hB.2.2.1.F ht⟩) hB.2.2.1.2.2 dX6_put_42
    · rw [show cb_fPut S x1 x2 x3 = (0, S) from by unfold cb_fPut; rw [if_neg (fun q => h2 q.2)]]
      refine cb_callPi (va_runS (As := [.int x1, .int 8]) (rest := []) ⟨hx, hb, hml, hown, hts⟩ (met_nix l x1 8 8 (by decide)) (va_cwS 2 hts (lw_S q306 q307 q10 q308) rfl rfl rfl (by decide +kernel) ⟨Nat.le_of_ble_eq_true rfl, Nat.le_of_ble_eq_true rfl⟩) cb_preS rfl rfl hl.1 rfl (lv_room (Nat.le_of_ble_eq_true rfl)) dX6_put_8 ⟨Nat.zero_le _, Nat.zero_le _⟩) ?_
      refine cb_top (y := 0) (if_pos h1) ?_
      refine lv_if_ne (tgt := 23) hx hb dX6_put_11 (by decide) (fun cz => (cz rfl : False).elim) (fun cz => ?_)
      refine lv_iload_n hx hb dX6_put_14 rfl (lv_at hl 2 rfl) ?_
      refine lv_bipush (v := 8) hx hb dX6_put_15 (by decide) ?_
      refine cb_callPi (va_runS (As := [.int x2, .int 8]) (rest := []) ⟨hx, hb, hml, hown, hts⟩ (met_nix l x2 8 8 (by decide)) (va_cwS 2 hts (lw_S q306 q307 q10 q308) rfl rfl rfl (by decide +kernel) ⟨Nat.le_of_ble_eq_true rfl, Nat.le_of_ble_eq_true rfl⟩) cb_preS rfl rfl hl.1 rfl (lv_room (Nat.le_of_ble_eq_true rfl)) dX6_put_17 ⟨Nat.zero_le _, Nat.zero_le _⟩) ?_
      refine cb_top (y := 1) (if_neg h2) ?_
      refine lv_if_eq (tgt := 25) hx hb dX6_put_20 (by decide) (fun cz => (absurd cz (by decide) : False).elim) (fun cz => ?_)
      refine lv_iconst (v := 0) hx hb dX6_put_23 (by decide) ?_
      exact W.zret (v := 0) hx hb hr rfl (fun t9 ht hW => ⟨cb_r (rfl), by rw [ht]; exact hB.1, hB.2.2.1.F ht⟩) hB.2.2.1.2.2 dX6_put_24
  · rw [show cb_fPut S x1 x2 x3 = (0, S) from by unfold cb_fPut; rw [if_neg (fun q => h1 q.1)]]
    refine cb_callPi (va_runS (As := [.int x1, .int 8]) (rest := []) ⟨hx, hb, hml, hown, hts⟩ (met_nix l x1 8 8 (by decide)) (va_cwS 2 hts (lw_S q306 q307 q10 q308) rfl rfl rfl (by decide +kernel) ⟨Nat.le_of_ble_eq_true rfl, Nat.le_of_ble_eq_true rfl⟩) cb_preS rfl rfl hl.1 rfl (lv_room (Nat.le_of_ble_eq_true rfl)) dX6_put_8 ⟨Nat.zero_le _, Nat.zero_le _⟩) ?_
    refine cb_top (y := 1) (if_neg h1) ?_
    refine lv_if_ne (tgt := 23) hx hb dX6_put_11 (by decide) (fun cz => ?_) (fun cz => (absurd cz (by decide) : False).elim)
    refine lv_iconst (v := 0) hx hb dX6_put_23 (by decide) ?_
    exact W.zret (v := 0) hx hb hr rfl (fun t9 ht hW => ⟨cb_r (rfl), by rw [ht]; exact hB.1, hB.2.2.1.F ht⟩) hB.2.2.1.2.2 dX6_put_24
set_option maxHeartbeats 4000000 in
set_option maxRecDepth 100000 in
theorem met_mOut (l : Launch) (D : va_G) (tc : Nat → ClassId) (a : Nat → Nat) (S : cb_S) (th : Int32) (x1 x2 : Int32) : Met l yX6_out (ws_ yX6_out cX6_out 3 (some .int)) ({ frames := 1, cells := 0, slots := 0, locals := 21 } : Room) (va_Pc [.ref (a 0), .int x1, .int x2] (mm_Pre D tc a S th)) (mm_Q D tc a (some (.int (cb_fOut S x1 x2))) S 0) 0 0 (mm_A a) := by
  refine Met.ofW (cc := cX6_out) (maxL := 3) (ret := (some .int)) (by decide) rfl ?_
  intro p e s m args below meth c s₁ B hml hv
  obtain ⟨rfl, hv⟩ := hv
  have hB := mm_start hv
  have hx := B.exec
  have hb := B.bytes
  have hr := B.returns
  have hts := atoms_spec (ws := (ws_ yX6_out cX6_out 3 (some .int))) B.pre
  have hts : ∀ w ∈ lw_all, w.before _ s = true := fun w h => hts w (List.mem_cons_of_mem _ h)
  have hown : s.vm.findClass RX6 = some m.cls := findClass_of_methodNamed B.named
  have hlocks := B.notSynchronized
  have hl := lv_entry ([.ref (a 0), .int x1, .int x2]) (n := 3) (Nat.le_of_ble_eq_true rfl)
  rw [lg_entry_eq]
  generalize (lg_sl ([.ref (a 0), .int x1, .int x2]) ++ List.replicate (3 - (lg_sl ([.ref (a 0), .int x1, .int x2])).length) Slot.unset).toArray = ls at hl ⊢
  have hl : lv_has ls 3 [(0, .ref (a 0)), (1, .int x1), (2, .int x2)] := hl
  refine lv_aload_n hx hb dX6_out_0 rfl (lv_at hl 0 rfl) ?_
  refine lv_iconst (v := 0) hx hb dX6_out_1 (by decide) ?_
  refine mm_putTh hx hb hts hown hB dX6_out_2 (fun H locs hB => ?_)
  refine lv_iload_n hx hb dX6_out_5 rfl (lv_at hl 1 rfl) ?_
  refine lv_bipush (v := 8) hx hb dX6_out_6 (by decide) ?_
  by_cases h1 : cb_ix x1 8 = true
  · by_cases h2 : cb_ix x2 8 = true
    · obtain ⟨j, hj, rfl⟩ := cb_ix_of h1 (by decide)
      obtain ⟨k, hk, rfl⟩ := cb_ix_of h2 (by decide)
      rw [show cb_fOut S (nI j) (nI k) = cb_ou S j k from by unfold cb_fOut; rw [if_pos ⟨h1, h2⟩, nI_clamp (by omega), nI_clamp (by omega)]]
      refine cb_callPi (va_runS (As := [.int (nI j), .int 8]) (rest := []) ⟨hx, hb, hml, hown, hts⟩ (met_nix l (nI j) 8 8 (by decide)) (va_cwS 2 hts (lw_S q306 q307 q10 q308) rfl rfl rfl (by decide +kernel) ⟨Nat.le_of_ble_eq_true rfl, Nat.le_of_ble_eq_true rfl⟩) cb_preS rfl rfl hl.1 rfl (lv_room (Nat.le_of_ble_eq_true rfl)) dX6_out_8 ⟨Nat.zero_le _, Nat.zero_le _⟩) ?_
      refine cb_top (y := 0) (if_pos h1) ?_
      refine lv_if_ne (tgt := 23) hx hb dX6_out_11 (by decide) (fun cz => (cz rfl : False).elim) (fun cz => ?_)
      refine lv_iload_n hx hb dX6_out_14 rfl (lv_at hl 2 rfl) ?_
      refine lv_bipush (v := 8) hx hb dX6_out_15 (by decide) ?_
      refine cb_callPi (va_runS (As := [.int (nI k), .int 8]) (rest := []) ⟨hx, hb, hml, hown, hts⟩ (met_nix l (nI k) 8 8 (by decide)) (va_cwS 2 hts (lw_S q306 q307 q10 q308) rfl rfl rfl (by decide +kernel) ⟨Nat.le_of_ble_eq_true rfl, Nat.le_of_ble_eq_true rfl⟩) cb_preS rfl rfl hl.1 rfl (lv_room (Nat.le_of_ble_eq_true rfl)) dX6_out_17 ⟨Nat.zero_le _, Nat.zero_le _⟩) ?_
      refine cb_top (y := 0) (if_pos h2) ?_
      refine lv_if_eq (tgt := 27) hx hb dX6_out_20 (by decide) (fun cz => ?_) (fun cz => (cz rfl : False).elim)
      refine lv_aload_n hx hb dX6_out_27 rfl (lv_at hl 0 rfl) ?_
      refine mm_get hx hb hts hown hB 5 (by decide) q273 rfl dX6_out_28 ?_
      refine lv_bipush (v := 8) hx hb dX6_out_31 (by decide) ?_
      refine lv_iload_n hx hb dX6_out_33 rfl (lv_at hl 1 rfl) ?_
      refine lv_imul hx hb dX6_out_34 ?_
      refine lv_iload_n hx hb dX6_out_35 rfl (lv_at hl 2 rfl) ?_
      refine lv_iadd hx hb dX6_out_36 ?_
      refine cb_top (y := nI (8 * j + k)) (mm_ix j k) ?_
      refine mm_ldO hx hb hB j hj k hk dX6_out_37 ?_
      exact W.iret (v := (cb_ou S j k)) hx hb hr (fun t9 ht hW => ⟨cb_r (rfl), by rw [ht]; exact hB.1, hB.2.2.1.F ht⟩) hB.2.2.1.2.2 dX6_out_38
    · rw [show cb_fOut S x1 x2 = -1 from by unfold cb_fOut; rw [if_neg (fun q => h2 q.2)]]
      refine cb_callPi (va_runS (As := [.int x1, .int 8]) (rest := []) ⟨hx, hb, hml, hown, hts⟩ (met_nix l x1 8 8 (by decide)) (va_cwS 2 hts (lw_S q306 q307 q10 q308) rfl rfl rfl (by decide +kernel) ⟨Nat.le_of_ble_eq_true rfl, Nat.le_of_ble_eq_true rfl⟩) cb_preS rfl rfl hl.1 rfl (lv_room (Nat.le_of_ble_eq_true rfl)) dX6_out_8 ⟨Nat.zero_le _, Nat.zero_le _⟩) ?_
      refine cb_top (y := 0) (if_pos h1) ?_
      refine lv_if_ne (tgt := 23) hx hb dX6_out_11 (by decide) (fun cz => (cz rfl : False).elim) (fun cz => ?_)
      refine lv_iload_n hx hb dX6_out_14 rfl (lv_at hl 2 rfl) ?_
      refine lv_bipush (v := 8) hx hb dX6_out_15 (by decide) ?_
      refine cb_callPi (va_runS (As := [.int x2, .int 8]) (rest := []) ⟨hx, hb, hml, hown, hts⟩ (met_nix l x2 8 8 (by decide)) (va_cwS 2 hts (lw_S q306 q307 q10 q308) rfl rfl rfl (by decide +kernel) ⟨Nat.le_of_ble_eq_true rfl, Nat.le_of_ble_eq_true rfl⟩) cb_preS rfl rfl hl.1 rfl (lv_room (Nat.le_of_ble_eq_true rfl)) dX6_out_17 ⟨Nat.zero_le _, Nat.zero_le _⟩) ?_
      refine cb_top (y := 1) (if_neg h2) ?_
      refine lv_if_eq (tgt := 27) hx hb dX6_out_20 (by decide) (fun cz => (absurd cz (by decide) : False).elim) (fun cz => ?_)
      refine lv_iconst (v := (-1)) hx hb dX6_out_23 (by decide) ?_
      refine lv_goto (tgt := 38) hx hb dX6_out_24 (by decide) ?_
      exact W.iret (v := (-1)) hx hb hr (fun t9 ht hW => ⟨cb_r (rfl), by rw [ht]; exact hB.1, hB.2.2.1.F ht⟩) hB.2.2.1.2.2 dX6_out_38
  · rw [show cb_fOut S x1 x2 = -1 from by unfold cb_fOut; rw [if_neg (fun q => h1 q.1)]]
    refine cb_callPi (va_runS (As := [.int x1, .int 8]) (rest := []) ⟨hx, hb, hml, hown, hts⟩ (met_nix l x1 8 8 (by decide)) (va_cwS 2 hts (lw_S q306 q307 q10 q308) rfl rfl rfl (by decide +kernel) ⟨Nat.le_of_ble_eq_true rfl, Nat.le_of_ble_eq_true rfl⟩) cb_preS rfl rfl hl.1 rfl (lv_room (Nat.le_of_ble_eq_true rfl)) dX6_out_8 ⟨Nat.zero_le _, Nat.zero_le _⟩) ?_
    refine cb_top (y := 1) (if_neg h1) ?_
    refine lv_if_ne (tgt := 23) hx hb dX6_out_11 (by decide) (fun cz => ?_) (fun cz => (absurd cz (by decide) : False).elim)
    refine lv_iconst (v := (-1)) hx hb dX6_out_23 (by decide) ?_
    refine lv_goto (tgt := 38) hx hb dX6_out_24 (by decide) ?_
    exact W.iret (v := (-1)) hx hb hr (fun t9 ht hW => ⟨cb_r (rfl), by rw [ht]; exact hB.1, hB.2.2.1.F ht⟩) hB.2.2.1.2.2 dX6_out_38
set_option maxHeartbeats 4000000 in
set_option maxRecDepth 100000 in
theorem met_mMute (l : Launch) (D : va_G) (tc : Nat → ClassId) (a : Nat → Nat) (S : cb_S) (th : Int32) (x1 x2 : Int32) (hb2 : x2 = 0 ∨ x2 = 1) : Met l yX6_mute (ws_ yX6_mute cX6_mute 3 (some .boolean)) ({ frames := 1, cells := 0, slots := 0, locals := 21 } : Room) (va_Pc [.ref (a 0), .int x1, .int x2] (mm_Pre D tc a S th)) (mm_Q D tc a (some (.int (cb_fMute S x1 x2).1)) (cb_fMute S x1 x2).2 0) 0 0 (mm_A a) := by
  refine Met.ofW (cc := cX6_mute) (maxL := 3) (ret := (some .boolean)) (by decide) rfl ?_
  intro p e s m args below meth c s₁ B hml hv
  obtain ⟨rfl, hv⟩ := hv
  have hB := mm_start hv
  have hx := B.exec
  have hb := B.bytes
  have hr := B.returns
  have hts := atoms_spec (ws := (ws_ yX6_mute cX6_mute 3 (some .boolean))) B.pre
  have hts : ∀ w ∈ lw_all, w.before _ s = true := fun w h => hts w (List.mem_cons_of_mem _ h)
  have hown : s.vm.findClass RX6 = some m.cls := findClass_of_methodNamed B.named
  have hlocks := B.notSynchronized
  have hl := lv_entry ([.ref (a 0), .int x1, .int x2]) (n := 3) (Nat.le_of_ble_eq_true rfl)
  rw [lg_entry_eq]
  generalize (lg_sl ([.ref (a 0), .int x1, .int x2]) ++ List.replicate (3 - (lg_sl ([.ref (a 0), .int x1, .int x2])).length) Slot.unset).toArray = ls at hl ⊢
  have hl : lv_has ls 3 [(0, .ref (a 0)), (1, .int x1), (2, .int x2)] := hl
  refine lv_aload_n hx hb dX6_mute_0 rfl (lv_at hl 0 rfl) ?_
  refine lv_iconst (v := 0) hx hb dX6_mute_1 (by decide) ?_
  refine mm_putTh hx hb hts hown hB dX6_mute_2 (fun H locs hB => ?_)
  refine lv_iload_n hx hb dX6_mute_5 rfl (lv_at hl 1 rfl) ?_
  refine lv_bipush (v := 8) hx hb dX6_mute_6 (by decide) ?_
  by_cases h1 : cb_ix x1 8 = true
  · obtain ⟨j, hj, rfl⟩ := cb_ix_of h1 (by decide)
    rw [show cb_fMute S (nI j) x2 = (1, cb_sMu S j x2) from by unfold cb_fMute; rw [if_pos h1, nI_clamp (by omega)]]
    refine cb_callPi (va_runS (As := [.int (nI j), .int 8]) (rest := []) ⟨hx, hb, hml, hown, hts⟩ (met_nix l (nI j) 8 8 (by decide)) (va_cwS 2 hts (lw_S q306 q307 q10 q308) rfl rfl rfl (by decide +kernel) ⟨Nat.le_of_ble_eq_true rfl, Nat.le_of_ble_eq_true rfl⟩) cb_preS rfl rfl hl.1 rfl (lv_room (Nat.le_of_ble_eq_true rfl)) dX6_mute_8 ⟨Nat.zero_le _, Nat.zero_le _⟩) ?_
    refine cb_top (y := 0) (if_pos h1) ?_
    refine lv_if_eq (tgt := 16) hx hb dX6_mute_11 (by decide) (fun cz => ?_) (fun cz => (cz rfl : False).elim)
    refine lv_aload_n hx hb dX6_mute_16 rfl (lv_at hl 0 rfl) ?_
    refine mm_get hx hb hts hown hB 3 (by decide) q271 rfl dX6_mute_17 ?_
    refine lv_iload_n hx hb dX6_mute_20 rfl (lv_at hl 1 rfl) ?_
    refine lv_iload_n hx hb dX6_mute_21 rfl (lv_at hl 2 rfl) ?_
    refine mm_stMu hx hb hB j hj hb2 dX6_mute_22 (fun H locs hB => ?_)
    refine lv_iconst (v := 1) hx hb dX6_mute_23 (by decide) ?_
    exact W.zret (v := 1) hx hb hr rfl (fun t9 ht hW => ⟨cb_r (rfl), by rw [ht]; exact hB.1, hB.2.2.1.F ht⟩) hB.2.2.1.2.2 dX6_mute_24
  · rw [show cb_fMute S x1 x2 = (0, S) from by unfold cb_fMute; rw [if_neg h1]]
    refine cb_callPi (va_runS (As := [.int x1, .int 8]) (rest := []) ⟨hx, hb, hml, hown, hts⟩ (met_nix l x1 8 8 (by decide)) (va_cwS 2 hts (lw_S q306 q307 q10 q308) rfl rfl rfl (by decide +kernel) ⟨Nat.le_of_ble_eq_true rfl, Nat.le_of_ble_eq_true rfl⟩) cb_preS rfl rfl hl.1 rfl (lv_room (Nat.le_of_ble_eq_true rfl)) dX6_mute_8 ⟨Nat.zero_le _, Nat.zero_le _⟩) ?_
    refine cb_top (y := 1) (if_neg h1) ?_
    refine lv_if_eq (tgt := 16) hx hb dX6_mute_11 (by decide) (fun cz => (absurd cz (by decide) : False).elim) (fun cz => ?_)
    refine lv_iconst (v := 0) hx hb dX6_mute_14 (by decide) ?_
    exact W.zret (v := 0) hx hb hr rfl (fun t9 ht hW => ⟨cb_r (rfl), by rw [ht]; exact hB.1, hB.2.2.1.F ht⟩) hB.2.2.1.2.2 dX6_mute_15
set_option maxHeartbeats 4000000 in
set_option maxRecDepth 100000 in
theorem met_mSpk (l : Launch) (D : va_G) (tc : Nat → ClassId) (a : Nat → Nat) (S : cb_S) (th : Int32) (x1 : Int32) : Met l yX6_speakers (ws_ yX6_speakers cX6_speakers 2 (some .boolean)) ({ frames := 0, cells := 0, slots := 0, locals := 0 } : Room) (va_Pc [.ref (a 0), .int x1] (mm_Pre D tc a S th)) (mm_Q D tc a (some (.int (cb_fSpk S x1).1)) (cb_fSpk S x1).2 0) 0 0 (mm_A a) := by
  refine Met.ofW (cc := cX6_speakers) (maxL := 2) (ret := (some .boolean)) (by decide) rfl ?_
  intro p e s m args below meth c s₁ B hml hv
  obtain ⟨rfl, hv⟩ := hv
  have hB := mm_start hv
  have hx := B.exec
  have hb := B.bytes
  have hr := B.returns
  have hts := atoms_spec (ws := (ws_ yX6_speakers cX6_speakers 2 (some .boolean))) B.pre
  have hts : ∀ w ∈ lw_all, w.before _ s = true := fun w h => hts w (List.mem_cons_of_mem _ h)
  have hown : s.vm.findClass RX6 = some m.cls := findClass_of_methodNamed B.named
  have hlocks := B.notSynchronized
  have hl := lv_entry ([.ref (a 0), .int x1]) (n := 2) (Nat.le_of_ble_eq_true rfl)
  rw [lg_entry_eq]
  generalize (lg_sl ([.ref (a 0), .int x1]) ++ List.replicate (2 - (lg_sl ([.ref (a 0), .int x1])).length) Slot.unset).toArray = ls at hl ⊢
  have hl : lv_has ls 2 [(0, .ref (a 0)), (1, .int x1)] := hl
  refine lv_aload_n hx hb dX6_speakers_0 rfl (lv_at hl 0 rfl) ?_
  refine lv_iconst (v := 0) hx hb dX6_speakers_1 (by decide) ?_
  refine mm_putTh hx hb hts hown hB dX6_speakers_2 (fun H locs hB => ?_)
  refine lv_iload_n hx hb dX6_speakers_5 rfl (lv_at hl 1 rfl) ?_
  refine lv_iconst (v := 1) hx hb dX6_speakers_6 (by decide) ?_
  refine lv_icmp_lt (tgt := 16) hx hb dX6_speakers_7 (by decide) (fun c0 => ?_) (fun c0 => ?_)
  · rw [show cb_fSpk S x1 = (0, S) from if_neg (fun h => absurd c0 (Int32.not_lt.mpr h.1))]
    refine lv_iconst (v := 0) hx hb dX6_speakers_16 (by decide) ?_
    exact W.zret (v := 0) hx hb hr rfl (fun t9 ht hW => ⟨cb_r (rfl), by rw [ht]; exact hB.1, hB.2.2.1.F ht⟩) hB.2.2.1.2.2 dX6_speakers_17
  · refine lv_iload_n hx hb dX6_speakers_10 rfl (lv_at hl 1 rfl) ?_
    refine lv_bipush (v := 8) hx hb dX6_speakers_11 (by decide) ?_
    refine lv_icmp_le (tgt := 18) hx hb dX6_speakers_13 (by decide) (fun c1 => ?_) (fun c1 => ?_)
    · rw [show cb_fSpk S x1 = (1, cb_sMo S x1) from if_pos ⟨Int32.not_lt.mp c0, c1⟩]
      refine lv_aload_n hx hb dX6_speakers_18 rfl (lv_at hl 0 rfl) ?_
      refine lv_iload_n hx hb dX6_speakers_19 rfl (lv_at hl 1 rfl) ?_
      refine mm_putMo hx hb hts hown hB dX6_speakers_20 (fun H locs hB => ?_)
      refine lv_iconst (v := 1) hx hb dX6_speakers_23 (by decide) ?_
      exact W.zret (v := 1) hx hb hr rfl (fun t9 ht hW => ⟨cb_r (rfl), by rw [ht]; exact hB.1, hB.2.2.1.F ht⟩) hB.2.2.1.2.2 dX6_speakers_24
    · rw [show cb_fSpk S x1 = (0, S) from if_neg (fun h => c1 h.2)]
      refine lv_iconst (v := 0) hx hb dX6_speakers_16 (by decide) ?_
      exact W.zret (v := 0) hx hb hr rfl (fun t9 ht hW => ⟨cb_r (rfl), by rw [ht]; exact hB.1, hB.2.2.1.F ht⟩) hB.2.2.1.2.2 dX6_speakers_17
end
section
/-! the model's methods with loops -/
set_option maxRecDepth 100000
theorem cb_prod_lo {w n : Nat} {g : Int32} (hw : w < 2) (hn : n < 256) (h0 : 0 ≤ g.toInt) (h1 : g.toInt ≤ 1024) : -1073741824 ≤ (cb_dec w n * g).toInt := by
  have hd : -32256 ≤ (cb_dec w n).toInt ∧ (cb_dec w n).toInt ≤ 32256 := by
    rcases (show w = 0 ∨ w = 1 by omega) with rfl | rfl
    · exact cb_dec_rng0 n hn
    · exact cb_dec_rng1 n hn
  obtain ⟨d1, d2⟩ := hd
  have p1 : (cb_dec w n).toInt * g.toInt ≤ 32256 * 1024 := Int.le_trans (Int.mul_le_mul_of_nonneg_right d2 h0) (Int.mul_le_mul_of_nonneg_left h1 (by decide))
  have p2 : -32256 * 1024 ≤ (cb_dec w n).toInt * g.toInt := by
    have q1 : -32256 * g.toInt ≤ (cb_dec w n).toInt * g.toInt := Int.mul_le_mul_of_nonneg_right d1 h0
    omega
  rw [Int32.toInt_mul, Int.bmod_eq_of_le (by omega) (by omega)]
  omega
set_option maxHeartbeats 4000000 in
set_option maxRecDepth 100000 in
theorem mramp_loop {p : Program} {l : Launch} {e : Env} {s : State} {m : MethodId} {args : Array Value} {below : List Frame} {meth : Method} {c : Code} {Q : State → Prop} {D : va_G} {tc : Nat → ClassId} {a : Nat → Nat} {A : Nat → Prop} {H0 : Heap} {S : cb_S} {j : Nat} {x2 x3 : Int32} (hx : p.tables.exec = Jvm.exec) (hb : c.code = cX6_ramp) (hml : c.maxLocals = 5) (hts : ∀ w ∈ lw_all, w.before args s = true) (hown : s.vm.findClass RX6 = some m.cls) (hj : j < 8) (hlw : cb_lw S j < 2) (K : ∀ (H : Heap) (locs : List Loc), mm_B D tc a A s H0 (cb_rampS S j x2 x3 8) 0 H locs → ∀ ls : Array Slot, lv_has ls 5 [(0, .ref (a 0))] → W p l e (headSpec (ws_ yX6_ramp cX6_ramp 5 (some .boolean)) ({ frames := 1, cells := 0, slots := 0, locals := 23 } : Room)).room s m args below meth c H locs 0 0 Q (F0 m 65 ls [])) : ∀ (n i : Nat), i + n = 8 → ∀ (H : Heap) (locs : List Loc), mm_B D tc a A s H0 (cb_rampS S j x2 x3 i) 0 H locs → ∀ ls : Array Slot, lv_has ls 5 [(4, .int (nI i)), (0, .ref (a 0)), (1, .int (nI j)), (2, .int x2), (3, .int x3)] → W p l e (headSpec (ws_ yX6_ramp cX6_ramp 5 (some .boolean)) ({ frames := 1, cells := 0, slots := 0, locals := 23 } : Room)).room s m args below meth c H locs 0 0 Q (F0 m 19 ls []) := by
  intro n
  induction n with
  | zero =>
    intro i hi H locs hB ls hl
    obtain rfl : 8 = i := by omega
    refine lv_iload hx hb dX6_ramp_19 (lv_at hl 0 rfl) ?_
    refine lv_bipush (v := 8) hx hb dX6_ramp_21 (by decide) ?_
    refine lv_icmp_ge (tgt := 65) hx hb dX6_ramp_23 (by decide) (fun cz => ?_) (fun cz => (cz (Int32.le_refl _) : False).elim)
    exact K H locs hB ls (lv_sub hl [1] rfl)
  | succ n ih =>
    intro i hi H locs hB ls hl
    have hk : i < 8 := by omega
    refine lv_iload hx hb dX6_ramp_19 (lv_at hl 0 rfl) ?_
    refine lv_bipush (v := 8) hx hb dX6_ramp_21 (by decide) ?_
    refine lv_icmp_ge (tgt := 65) hx hb dX6_ramp_23 (by decide) (fun cz => (absurd cz (nI_ge (b := 8) hk (by decide)) : False).elim) (fun cz => ?_)
    refine lv_aload_n hx hb dX6_ramp_26 rfl (lv_at hl 1 rfl) ?_
    refine mm_get hx hb hts hown hB 4 (by decide) q272 rfl dX6_ramp_27 ?_
    refine lv_bipush (v := 8) hx hb dX6_ramp_30 (by decide) ?_
    refine lv_iload_n hx hb dX6_ramp_32 rfl (lv_at hl 2 rfl) ?_
    refine lv_imul hx hb dX6_ramp_33 ?_
    refine lv_iload hx hb dX6_ramp_34 (lv_at hl 0 rfl) ?_
    refine lv_iadd hx hb dX6_ramp_36 ?_
    refine cb_top (y := nI (8 * j + i)) (mm_ix j i) ?_
    refine lv_aload_n hx hb dX6_ramp_37 rfl (lv_at hl 1 rfl) ?_
    refine mm_get hx hb hts hown hB 1 (by decide) q269 rfl dX6_ramp_38 ?_
    refine lv_iload_n hx hb dX6_ramp_41 rfl (lv_at hl 2 rfl) ?_
    refine mm_ldLw hx hb hB j hj dX6_ramp_42 ?_
    refine lv_iload_n hx hb dX6_ramp_43 rfl (lv_at hl 3 rfl) ?_
    refine lv_i2l hx hb dX6_ramp_44 rfl ?_
    refine lv_iload hx hb dX6_ramp_45 (lv_at hl 0 rfl) ?_
    refine lv_i2l hx hb dX6_ramp_47 rfl ?_
    refine lv_iload_n hx hb dX6_ramp_48 rfl (lv_at hl 4 rfl) ?_
    refine lv_i2l hx hb dX6_ramp_49 rfl ?_
    refine lv_lmul hx hb dX6_ramp_50 ?_
    refine lv_ladd hx hb dX6_ramp_51 ?_
    refine cb_topl (y := x2.toInt64 + (x3.toInt64 * (nI i).toInt64)) (by rw [Int64.mul_comm (nI i).toInt64]) ?_
    refine cb_callPi (va_runS (As := [.long (x2.toInt64 + (x3.toInt64 * (nI i).toInt64))]) (rest := [.int (nI (cb_lw (cb_rampS S j x2 x3 i) j)), .int (nI (8 * j + i)), .ref (a 4)]) ⟨hx, hb, hml, hown, hts⟩ (met_held l (x2.toInt64 + (x3.toInt64 * (nI i).toInt64))) (va_cwS 1 hts (lw_S q316 q317 q10 q318) rfl rfl rfl (by decide +kernel) ⟨Nat.le_of_ble_eq_true rfl, Nat.le_of_ble_eq_true rfl⟩) cb_preS rfl rfl hl.1 rfl (lv_room (Nat.le_of_ble_eq_true rfl)) dX6_ramp_52 ⟨Nat.zero_le _, Nat.zero_le _⟩) ?_
    refine cb_callPi (va_runS (As := [.int (nI (cb_lw (cb_rampS S j x2 x3 i) j)), .int (cb_sat (x2.toInt64 + (x3.toInt64 * (nI i).toInt64)))]) (rest := [.int (nI (8 * j + i)), .ref (a 4)]) ⟨hx, hb, hml, hown, hts⟩ (mm_code l (cb_lw (cb_rampS S j x2 x3 i) j) (by rw [cb_rampS_lw]; exact hlw) (cb_sat (x2.toInt64 + (x3.toInt64 * (nI i).toInt64))) (cb_sat_rng _)) (va_cwS 2 hts (lw_S q265 q266 q10 q267) rfl rfl rfl (by decide +kernel) ⟨Nat.le_of_ble_eq_true rfl, Nat.le_of_ble_eq_true rfl⟩) cb_preS rfl rfl hl.1 rfl (lv_room (Nat.le_of_ble_eq_true rfl)) dX6_ramp_55 ⟨Nat.zero_le _, Nat.zero_le _⟩) ?_
    refine cb_top (y := cb_rampV S j x2 x3 i) (by unfold cb_rampV; rw [cb_rampS_lw]) ?_
    refine mm_stI hx hb hB j hj i hk dX6_ramp_58 (fun H locs hB => ?_)
    refine lv_iinc (v := (nI (i + 1))) (lv' := [(4, .int (nI (i + 1))), (0, .ref (a 0)), (1, .int (nI j)), (2, .int x2), (3, .int x3)]) hx hb dX6_ramp_59 hl (k := 0) rfl (nI_1 i) (by decide) rfl (fun ls hl => ?_)
    refine lv_goto (tgt := 19) hx hb dX6_ramp_62 (by decide) ?_
    exact ih (i + 1) (by omega) H locs hB ls hl
set_option maxHeartbeats 4000000 in
set_option maxRecDepth 100000 in
theorem met_mRamp (l : Launch) (D : va_G) (tc : Nat → ClassId) (a : Nat → Nat) (S : cb_S) (th : Int32) (x1 x2 x3 : Int32) (hok : ∀ j, j < 8 → cb_lw S j < 2) : Met l yX6_ramp (ws_ yX6_ramp cX6_ramp 5 (some .boolean)) ({ frames := 1, cells := 0, slots := 0, locals := 23 } : Room) (va_Pc [.ref (a 0), .int x1, .int x2, .int x3] (mm_Pre D tc a S th)) (mm_Q D tc a (some (.int (cb_fRamp S x1 x2 x3).1)) (cb_fRamp S x1 x2 x3).2 0) 0 0 (mm_A a) := by
  refine Met.ofW (cc := cX6_ramp) (maxL := 5) (ret := (some .boolean)) (by decide) rfl ?_
  intro p e s m args below meth c s₁ B hml hv
  obtain ⟨rfl, hv⟩ := hv
  have hB := mm_start hv
  have hx := B.exec
  have hb := B.bytes
  have hr := B.returns
  have hts := atoms_spec (ws := (ws_ yX6_ramp cX6_ramp 5 (some .boolean))) B.pre
  have hts : ∀ w ∈ lw_all, w.before _ s = true := fun w h => hts w (List.mem_cons_of_mem _ h)
  have hown : s.vm.findClass RX6 = some m.cls := findClass_of_methodNamed B.named
  have hlocks := B.notSynchronized
  have hl := lv_entry ([.ref (a 0), .int x1, .int x2, .int x3]) (n := 5) (Nat.le_of_ble_eq_true rfl)
  rw [lg_entry_eq]
  generalize (lg_sl ([.ref (a 0), .int x1, .int x2, .int x3]) ++ List.replicate (5 - (lg_sl ([.ref (a 0), .int x1, .int x2, .int x3])).length) Slot.unset).toArray = ls at hl ⊢
  have hl : lv_has ls 5 [(0, .ref (a 0)), (1, .int x1), (2, .int x2), (3, .int x3)] := hl
  refine lv_aload_n hx hb dX6_ramp_0 rfl (lv_at hl 0 rfl) ?_
  refine lv_iconst (v := 0) hx hb dX6_ramp_1 (by decide) ?_
  refine mm_putTh hx hb hts hown hB dX6_ramp_2 (fun H locs hB => ?_)
  refine lv_iload_n hx hb dX6_ramp_5 rfl (lv_at hl 1 rfl) ?_
  refine lv_bipush (v := 8) hx hb dX6_ramp_6 (by decide) ?_
  by_cases h1 : cb_ix x1 8 = true
  · obtain ⟨j, hj, rfl⟩ := cb_ix_of h1 (by decide)
    rw [show cb_fRamp S (nI j) x2 x3 = (1, cb_rampS S j x2 x3 8) from by unfold cb_fRamp; rw [if_pos h1, nI_clamp (by omega)]]
    refine cb_callPi (va_runS (As := [.int (nI j), .int 8]) (rest := []) ⟨hx, hb, hml, hown, hts⟩ (met_nix l (nI j) 8 8 (by decide)) (va_cwS 2 hts (lw_S q306 q307 q10 q308) rfl rfl rfl (by decide +kernel) ⟨Nat.le_of_ble_eq_true rfl, Nat.le_of_ble_eq_true rfl⟩) cb_preS rfl rfl hl.1 rfl (lv_room (Nat.le_of_ble_eq_true rfl)) dX6_ramp_8 ⟨Nat.zero_le _, Nat.zero_le _⟩) ?_
    refine cb_top (y := 0) (if_pos h1) ?_
    refine lv_if_eq (tgt := 16) hx hb dX6_ramp_11 (by decide) (fun cz => ?_) (fun cz => (cz rfl : False).elim)
    refine lv_iconst (v := 0) hx hb dX6_ramp_16 (by decide) ?_
    refine lv_istore (lv' := [(4, .int 0), (0, .ref (a 0)), (1, .int (nI j)), (2, .int x2), (3, .int x3)]) hx hb dX6_ramp_17 hl (by decide) rfl (fun ls hl => ?_)
    refine mramp_loop (S := S) hx hb hml hts hown hj (hok j hj) (fun H locs hB ls hl => ?_) 8 0 rfl _ _ hB ls hl
    refine lv_iconst (v := 1) hx hb dX6_ramp_65 (by decide) ?_
    exact W.zret (v := 1) hx hb hr rfl (fun t9 ht hW => ⟨cb_r (rfl), by rw [ht]; exact hB.1, hB.2.2.1.F ht⟩) hB.2.2.1.2.2 dX6_ramp_66
  · rw [show cb_fRamp S x1 x2 x3 = (0, S) from by unfold cb_fRamp; rw [if_neg h1]]
    refine cb_callPi (va_runS (As := [.int x1, .int 8]) (rest := []) ⟨hx, hb, hml, hown, hts⟩ (met_nix l x1 8 8 (by decide)) (va_cwS 2 hts (lw_S q306 q307 q10 q308) rfl rfl rfl (by decide +kernel) ⟨Nat.le_of_ble_eq_true rfl, Nat.le_of_ble_eq_true rfl⟩) cb_preS rfl rfl hl.1 rfl (lv_room (Nat.le_of_ble_eq_true rfl)) dX6_ramp_8 ⟨Nat.zero_le _, Nat.zero_le _⟩) ?_
    refine cb_top (y := 1) (if_neg h1) ?_
    refine lv_if_eq (tgt := 16) hx hb dX6_ramp_11 (by decide) (fun cz => (absurd cz (by decide) : False).elim) (fun cz => ?_)
    refine lv_iconst (v := 0) hx hb dX6_ramp_14 (by decide) ?_
    exact W.zret (v := 0) hx hb hr rfl (fun t9 ht hW => ⟨cb_r (rfl), by rw [ht]; exact hB.1, hB.2.2.1.F ht⟩) hB.2.2.1.2.2 dX6_ramp_15
set_option maxHeartbeats 4000000 in
set_option maxRecDepth 100000 in
theorem mmix1_loop {p : Program} {l : Launch} {e : Env} {s : State} {m : MethodId} {args : Array Value} {below : List Frame} {meth : Method} {c : Code} {Q : State → Prop} {D : va_G} {tc : Nat → ClassId} {a : Nat → Nat} {A : Nat → Prop} {H0 : Heap} {S : cb_S} {j : Nat} (hx : p.tables.exec = Jvm.exec) (hb : c.code = cX6_mix) (hml : c.maxLocals = 6) (hts : ∀ w ∈ lw_all, w.before args s = true) (hown : s.vm.findClass RX6 = some m.cls) (hj : j < 8) (hlw : cb_lw S j < 2) (hg0 : 0 ≤ (cb_gn S j).toInt) (hg1 : (cb_gn S j).toInt ≤ 1024) (hby : ∀ k, k < 8 → cb_isB (cb_ii S j k)) (K : ∀ (H : Heap) (locs : List Loc), mm_B D tc a A s H0 (cb_measL S j 8) 0 H locs → ∀ ls : Array Slot, lv_has ls 6 [(1, .int (nI j)), (0, .ref (a 0))] → W p l e (headSpec (ws_ yX6_mix cX6_mix 6 (some .int)) ({ frames := 2, cells := 0, slots := 0, locals := 43 } : Room)).room s m args below meth c H locs 0 0 Q (F0 m 94 ls [])) : ∀ (n i : Nat), i + n = 8 → ∀ (H : Heap) (locs : List Loc), mm_B D tc a A s H0 (cb_measL S j i) 0 H locs → ∀ ls : Array Slot, lv_has ls 6 [(2, .int (nI i)), (1, .int (nI j)), (0, .ref (a 0))] → W p l e (headSpec (ws_ yX6_mix cX6_mix 6 (some .int)) ({ frames := 2, cells := 0, slots := 0, locals := 43 } : Room)).room s m args below meth c H locs 0 0 Q (F0 m 22 ls []) := by
  intro n
  induction n with
  | zero =>
    intro i hi H locs hB ls hl
    obtain rfl : 8 = i := by omega
    refine lv_iload_n hx hb dX6_mix_22 rfl (lv_at hl 0 rfl) ?_
    refine lv_bipush (v := 8) hx hb dX6_mix_23 (by decide) ?_
    refine lv_icmp_ge (tgt := 94) hx hb dX6_mix_25 (by decide) (fun cz => ?_) (fun cz => (cz (Int32.le_refl _) : False).elim)
    exact K H locs hB ls (lv_sub hl [1, 2] rfl)
  | succ n ih =>
    intro i hi H locs hB ls hl
    have hk : i < 8 := by omega
    obtain ⟨s1, s2, s3, -, -, -⟩ := cb_measL_same S j i
    refine lv_iload_n hx hb dX6_mix_22 rfl (lv_at hl 0 rfl) ?_
    refine lv_bipush (v := 8) hx hb dX6_mix_23 (by decide) ?_
    refine lv_icmp_ge (tgt := 94) hx hb dX6_mix_25 (by decide) (fun cz => (absurd cz (nI_ge (b := 8) hk (by decide)) : False).elim) (fun cz => ?_)
    refine lv_aload_n hx hb dX6_mix_28 rfl (lv_at hl 2 rfl) ?_
    refine mm_get hx hb hts hown hB 1 (by decide) q269 rfl dX6_mix_29 ?_
    refine lv_iload_n hx hb dX6_mix_32 rfl (lv_at hl 1 rfl) ?_
    refine mm_ldLw hx hb hB j hj dX6_mix_33 ?_
    refine cb_top (y := nI (cb_lw S j)) (by rw [s1]) ?_
    refine lv_aload_n hx hb dX6_mix_34 rfl (lv_at hl 2 rfl) ?_
    refine mm_get hx hb hts hown hB 4 (by decide) q272 rfl dX6_mix_35 ?_
    refine lv_bipush (v := 8) hx hb dX6_mix_38 (by decide) ?_
    refine lv_iload_n hx hb dX6_mix_40 rfl (lv_at hl 1 rfl) ?_
    refine lv_imul hx hb dX6_mix_41 ?_
    refine lv_iload_n hx hb dX6_mix_42 rfl (lv_at hl 0 rfl) ?_
    refine lv_iadd hx hb dX6_mix_43 ?_
    refine cb_top (y := nI (8 * j + i)) (mm_ix j i) ?_
    refine mm_ldI hx hb hB j hj i hk dX6_mix_44 ?_
    refine cb_top (y := nI (cb_by (cb_ii S j i))) (by rw [s3]; exact hby i hk) ?_
    refine cb_callPi (va_runS (As := [.int (nI (cb_lw S j)), .int (nI (cb_by (cb_ii S j i)))]) (rest := []) ⟨hx, hb, hml, hown, hts⟩ (mm_mean l (cb_lw S j) hlw (cb_by (cb_ii S j i)) (cb_by_lt _)) (va_cwS 2 hts (lw_S q309 q310 q10 q311) rfl rfl rfl (by decide +kernel) ⟨Nat.le_of_ble_eq_true rfl, Nat.le_of_ble_eq_true rfl⟩) cb_preS rfl rfl hl.1 rfl (lv_room (Nat.le_of_ble_eq_true rfl)) dX6_mix_45 ⟨Nat.zero_le _, Nat.zero_le _⟩) ?_
    refine lv_aload_n hx hb dX6_mix_48 rfl (lv_at hl 2 rfl) ?_
    refine mm_get hx hb hts hown hB 2 (by decide) q270 rfl dX6_mix_49 ?_
    refine lv_iload_n hx hb dX6_mix_52 rfl (lv_at hl 1 rfl) ?_
    refine mm_ldGn hx hb hB j hj dX6_mix_53 ?_
    refine cb_top (y := cb_gn S j) (by rw [s2]) ?_
    refine cb_callPi (va_runS (As := [.int (cb_dec (cb_lw S j) (cb_by (cb_ii S j i))), .int (cb_gn S j)]) (rest := []) ⟨hx, hb, hml, hown, hts⟩ (met_scl l (cb_dec (cb_lw S j) (cb_by (cb_ii S j i))) (cb_gn S j) (cb_prod_lo hlw (cb_by_lt _) hg0 hg1)) (va_cwS 2 hts (lw_S q349 q350 q10 q351) rfl rfl rfl (by decide +kernel) ⟨Nat.le_of_ble_eq_true rfl, Nat.le_of_ble_eq_true rfl⟩) cb_preS rfl rfl hl.1 rfl (lv_room (Nat.le_of_ble_eq_true rfl)) dX6_mix_54 ⟨Nat.zero_le _, Nat.zero_le _⟩) ?_
    refine cb_top (y := cb_v S j i) (rfl) ?_
    refine lv_istore_n (lv' := [(3, .int (cb_v S j i)), (2, .int (nI i)), (1, .int (nI j)), (0, .ref (a 0))]) hx hb dX6_mix_57 rfl hl (by decide) rfl (fun ls hl => ?_)
    refine lv_aload_n hx hb dX6_mix_58 rfl (lv_at hl 3 rfl) ?_
    refine mm_get hx hb hts hown hB 6 (by decide) q274 rfl dX6_mix_59 ?_
    refine lv_bipush (v := 8) hx hb dX6_mix_62 (by decide) ?_
    refine lv_iload_n hx hb dX6_mix_64 rfl (lv_at hl 2 rfl) ?_
    refine lv_imul hx hb dX6_mix_65 ?_
    refine lv_iload_n hx hb dX6_mix_66 rfl (lv_at hl 1 rfl) ?_
    refine lv_iadd hx hb dX6_mix_67 ?_
    refine cb_top (y := nI (8 * j + i)) (mm_ix j i) ?_
    refine lv_iload_n hx hb dX6_mix_68 rfl (lv_at hl 0 rfl) ?_
    refine mm_stS hx hb hB j hj i hk dX6_mix_69 (fun H locs hB => ?_)
    refine lv_aload_n hx hb dX6_mix_70 rfl (lv_at hl 3 rfl) ?_
    refine mm_get hx hb hts hown hB 7 (by decide) q275 rfl dX6_mix_71 ?_
    refine lv_iload_n hx hb dX6_mix_74 rfl (lv_at hl 2 rfl) ?_
    refine lv_aload_n hx hb dX6_mix_75 rfl (lv_at hl 3 rfl) ?_
    refine mm_get hx hb hts hown hB 7 (by decide) q275 rfl dX6_mix_76 ?_
    refine lv_iload_n hx hb dX6_mix_79 rfl (lv_at hl 2 rfl) ?_
    refine mm_ldEn hx hb hB j hj dX6_mix_80 ?_
    refine lv_iload_n hx hb dX6_mix_81 rfl (lv_at hl 0 rfl) ?_
    refine lv_i2l hx hb dX6_mix_82 rfl ?_
    refine lv_iload_n hx hb dX6_mix_83 rfl (lv_at hl 0 rfl) ?_
    refine lv_i2l hx hb dX6_mix_84 rfl ?_
    refine lv_lmul hx hb dX6_mix_85 ?_
    refine lv_ladd hx hb dX6_mix_86 ?_
    refine mm_stEn hx hb hB j hj dX6_mix_87 (fun H locs hB => ?_)
    refine lv_iinc (v := (nI (i + 1))) (lv' := [(2, .int (nI (i + 1))), (3, .int (cb_v S j i)), (1, .int (nI j)), (0, .ref (a 0))]) hx hb dX6_mix_88 hl (k := 1) rfl (nI_1 i) (by decide) rfl (fun ls hl => ?_)
    refine lv_goto (tgt := 22) hx hb dX6_mix_91 (by decide) ?_
    exact ih (i + 1) (by omega) H locs hB ls (lv_sub hl [0, 2, 3] rfl)
set_option maxHeartbeats 4000000 in
set_option maxRecDepth 100000 in
theorem mmix2_loop {p : Program} {l : Launch} {e : Env} {s : State} {m : MethodId} {args : Array Value} {below : List Frame} {meth : Method} {c : Code} {Q : State → Prop} {D : va_G} {tc : Nat → ClassId} {a : Nat → Nat} {A : Nat → Prop} {H0 : Heap} {S : cb_S} (hx : p.tables.exec = Jvm.exec) (hb : c.code = cX6_mix) (hml : c.maxLocals = 6) (hts : ∀ w ∈ lw_all, w.before args s = true) (hown : s.vm.findClass RX6 = some m.cls) (hok : cb_ok S) (K : ∀ (H : Heap) (locs : List Loc), mm_B D tc a A s H0 (cb_measA S 8) 0 H locs → ∀ ls : Array Slot, lv_has ls 6 [(0, .ref (a 0))] → W p l e (headSpec (ws_ yX6_mix cX6_mix 6 (some .int)) ({ frames := 2, cells := 0, slots := 0, locals := 43 } : Room)).room s m args below meth c H locs 0 0 Q (F0 m 100 ls [])) : ∀ (n i : Nat), i + n = 8 → ∀ (H : Heap) (locs : List Loc), mm_B D tc a A s H0 (cb_measA S i) 0 H locs → ∀ ls : Array Slot, lv_has ls 6 [(1, .int (nI i)), (0, .ref (a 0))] → W p l e (headSpec (ws_ yX6_mix cX6_mix 6 (some .int)) ({ frames := 2, cells := 0, slots := 0, locals := 43 } : Room)).room s m args below meth c H locs 0 0 Q (F0 m 7 ls []) := by
  intro n
  induction n with
  | zero =>
    intro i hi H locs hB ls hl
    obtain rfl : 8 = i := by omega
    refine lv_iload_n hx hb dX6_mix_7 rfl (lv_at hl 0 rfl) ?_
    refine lv_bipush (v := 8) hx hb dX6_mix_8 (by decide) ?_
    refine lv_icmp_ge (tgt := 100) hx hb dX6_mix_10 (by decide) (fun cz => ?_) (fun cz => (cz (Int32.le_refl _) : False).elim)
    exact K H locs hB ls (lv_sub hl [1] rfl)
  | succ n ih =>
    intro i hi H locs hB ls hl
    have hk : i < 8 := by omega
    obtain ⟨s1, s2, s3, -, -, -⟩ := cb_measA_same S i
    refine lv_iload_n hx hb dX6_mix_7 rfl (lv_at hl 0 rfl) ?_
    refine lv_bipush (v := 8) hx hb dX6_mix_8 (by decide) ?_
    refine lv_icmp_ge (tgt := 100) hx hb dX6_mix_10 (by decide) (fun cz => (absurd cz (nI_ge (b := 8) hk (by decide)) : False).elim) (fun cz => ?_)
    refine lv_aload_n hx hb dX6_mix_13 rfl (lv_at hl 1 rfl) ?_
    refine mm_get hx hb hts hown hB 7 (by decide) q275 rfl dX6_mix_14 ?_
    refine lv_iload_n hx hb dX6_mix_17 rfl (lv_at hl 0 rfl) ?_
    refine lv_lconst (v := 0) hx hb dX6_mix_18 (by decide) ?_
    refine mm_stEn hx hb hB i hk dX6_mix_19 (fun H locs hB => ?_)
    refine lv_iconst (v := 0) hx hb dX6_mix_20 (by decide) ?_
    refine lv_istore_n (lv' := [(2, .int 0), (1, .int (nI i)), (0, .ref (a 0))]) hx hb dX6_mix_21 rfl hl (by decide) rfl (fun ls hl => ?_)
    refine mmix1_loop (S := cb_measA S i) (j := i) hx hb hml hts hown hk (by rw [s1]; exact (hok.1 i hk).1) (by rw [s2]; exact (hok.1 i hk).2.1.1) (by rw [s2]; exact (hok.1 i hk).2.1.2) (fun k h => by rw [s3]; exact (hok.1 i hk).2.2.2.2 k h) (fun H locs hB ls hl => ?_) 8 0 rfl _ _ hB ls (lv_sub hl [0, 1, 2] rfl)
    refine lv_iinc (v := (nI (i + 1))) (lv' := [(1, .int (nI (i + 1))), (0, .ref (a 0))]) hx hb dX6_mix_94 hl (k := 0) rfl (nI_1 i) (by decide) rfl (fun ls hl => ?_)
    refine lv_goto (tgt := 7) hx hb dX6_mix_97 (by decide) ?_
    exact ih (i + 1) (by omega) H locs hB ls (lv_sub hl [0, 1] rfl)
def mm_bi (b : Option Nat) : Int32 := match b with
  | none => -1
  | some q => nI q
set_option maxHeartbeats 4000000 in
set_option maxRecDepth 100000 in
theorem mmix3_loop {p : Program} {l : Launch} {e : Env} {s : State} {m : MethodId} {args : Array Value} {below : List Frame} {meth : Method} {c : Code} {Q : State → Prop} {D : va_G} {tc : Nat → ClassId} {a : Nat → Nat} {A : Nat → Prop} {H0 : Heap} {S : cb_S} {x : Int32} (hx : p.tables.exec = Jvm.exec) (hb : c.code = cX6_mix) (hml : c.maxLocals = 6) (hts : ∀ w ∈ lw_all, w.before args s = true) (hown : s.vm.findClass RX6 = some m.cls) {H : Heap} {locs : List Loc} (hB : mm_B D tc a A s H0 S 0 H locs)  (K : ∀ ls : Array Slot, lv_has ls 6 [(3, .int (mm_bi (cb_best S 8))), (2, .int x), (1, .int (nI (cb_msk (cb_sp S) 8))), (0, .ref (a 0))] → W p l e (headSpec (ws_ yX6_mix cX6_mix 6 (some .int)) ({ frames := 2, cells := 0, slots := 0, locals := 43 } : Room)).room s m args below meth c H locs 0 0 Q (F0 m 197 ls [])) : ∀ (n i : Nat), i + n = 8 → ∀ ls : Array Slot, lv_has ls 6 [(4, .int (nI i)), (3, .int (mm_bi (cb_best S i))), (2, .int x), (1, .int (nI (cb_msk (cb_sp S) 8))), (0, .ref (a 0))] → W p l e (headSpec (ws_ yX6_mix cX6_mix 6 (some .int)) ({ frames := 2, cells := 0, slots := 0, locals := 43 } : Room)).room s m args below meth c H locs 0 0 Q (F0 m 117 ls []) := by
  intro n
  induction n with
  | zero =>
    intro i hi ls hl
    obtain rfl : 8 = i := by omega
    refine lv_iload hx hb dX6_mix_117 (lv_at hl 0 rfl) ?_
    refine lv_bipush (v := 8) hx hb dX6_mix_119 (by decide) ?_
    refine lv_icmp_ge (tgt := 197) hx hb dX6_mix_121 (by decide) (fun cz => ?_) (fun cz => (cz (Int32.le_refl _) : False).elim)
    exact K ls (lv_sub hl [1, 2, 3, 4] rfl)
  | succ n ih =>
    intro i hi ls hl
    have hk : i < 8 := by omega
    refine lv_iload hx hb dX6_mix_117 (lv_at hl 0 rfl) ?_
    refine lv_bipush (v := 8) hx hb dX6_mix_119 (by decide) ?_
    refine lv_icmp_ge (tgt := 197) hx hb dX6_mix_121 (by decide) (fun cz => (absurd cz (nI_ge (b := 8) hk (by decide)) : False).elim) (fun cz => ?_)
    refine lv_iload_n hx hb dX6_mix_124 rfl (lv_at hl 3 rfl) ?_
    refine lv_iload hx hb dX6_mix_125 (lv_at hl 0 rfl) ?_
    refine lv_ishr hx hb dX6_mix_127 ?_
    refine lv_iconst (v := 1) hx hb dX6_mix_128 (by decide) ?_
    refine lv_iand hx hb dX6_mix_129 ?_
    by_cases hsp : cb_sp S i = 0
    · refine cb_top (y := 0) ((cb_msk_get (cb_sp S) hk).trans (if_pos hsp)) ?_
      refine lv_if_ne (tgt := 159) hx hb dX6_mix_130 (by decide) (fun cz => (cz rfl : False).elim) (fun cz => ?_)
      refine lv_aload_n hx hb dX6_mix_133 rfl (lv_at hl 4 rfl) ?_
      refine mm_get hx hb hts hown hB 3 (by decide) q271 rfl dX6_mix_134 ?_
      refine lv_iload hx hb dX6_mix_137 (lv_at hl 0 rfl) ?_
      refine mm_ldMu hx hb hB i hk dX6_mix_139 ?_
      refine lv_if_ne (tgt := 159) hx hb dX6_mix_140 (by decide) (fun c0 => ?_) (fun c0 => ?_)
      · refine lv_iconst (v := 0) hx hb dX6_mix_159 (by decide) ?_
        refine lv_istore (lv' := [(5, .int 0), (4, .int (nI i)), (3, .int (mm_bi (cb_best S i))), (2, .int x), (1, .int (nI (cb_msk (cb_sp S) 8))), (0, .ref (a 0))]) hx hb dX6_mix_160 hl (by decide) rfl (fun ls hl => ?_)
        refine lv_iload hx hb dX6_mix_162 (lv_at hl 0 rfl) ?_
        refine lv_if_eq (tgt := 191) hx hb dX6_mix_164 (by decide) (fun cz => ?_) (fun cz => (cz rfl : False).elim)
        have hnb : cb_best S (i + 1) = cb_best S i := by show cb_pick S (cb_best S i) i = _; unfold cb_pick; rw [if_neg (fun h => c0 h.1)]
        refine lv_iinc (v := (nI (i + 1))) (lv' := [(4, .int (nI (i + 1))), (5, .int 0), (3, .int (mm_bi (cb_best S i))), (2, .int x), (1, .int (nI (cb_msk (cb_sp S) 8))), (0, .ref (a 0))]) hx hb dX6_mix_191 hl (k := 1) rfl (nI_1 i) (by decide) rfl (fun ls hl => ?_)
        refine lv_goto (tgt := 117) hx hb dX6_mix_194 (by decide) ?_
        exact ih (i + 1) (by omega) ls (by rw [hnb]; exact lv_sub hl [0, 2, 3, 4, 5] rfl)
      · refine lv_aload_n hx hb dX6_mix_143 rfl (lv_at hl 4 rfl) ?_
        refine mm_get hx hb hts hown hB 7 (by decide) q275 rfl dX6_mix_144 ?_
        refine lv_iload hx hb dX6_mix_147 (lv_at hl 0 rfl) ?_
        refine mm_ldEn hx hb hB i hk dX6_mix_149 ?_
        refine lv_lconst (v := 0) hx hb dX6_mix_150 (by decide) ?_
        refine W.lcmp hx hb dX6_mix_151 ?_
        refine lv_if_le (tgt := 159) hx hb dX6_mix_152 (by decide) (fun c2 => ?_) (fun c2 => ?_)
        · refine lv_iconst (v := 0) hx hb dX6_mix_159 (by decide) ?_
          refine lv_istore (lv' := [(5, .int 0), (4, .int (nI i)), (3, .int (mm_bi (cb_best S i))), (2, .int x), (1, .int (nI (cb_msk (cb_sp S) 8))), (0, .ref (a 0))]) hx hb dX6_mix_160 hl (by decide) rfl (fun ls hl => ?_)
          refine lv_iload hx hb dX6_mix_162 (lv_at hl 0 rfl) ?_
          refine lv_if_eq (tgt := 191) hx hb dX6_mix_164 (by decide) (fun cz => ?_) (fun cz => (cz rfl : False).elim)
          have hnb : cb_best S (i + 1) = cb_best S i := by show cb_pick S (cb_best S i) i = _; unfold cb_pick; rw [if_neg (fun h => absurd h.2.2 (Int64.not_lt.mpr ((lg_cmp_le _ _).mp c2)))]
          refine lv_iinc (v := (nI (i + 1))) (lv' := [(4, .int (nI (i + 1))), (5, .int 0), (3, .int (mm_bi (cb_best S i))), (2, .int x), (1, .int (nI (cb_msk (cb_sp S) 8))), (0, .ref (a 0))]) hx hb dX6_mix_191 hl (k := 1) rfl (nI_1 i) (by decide) rfl (fun ls hl => ?_)
          refine lv_goto (tgt := 117) hx hb dX6_mix_194 (by decide) ?_
          exact ih (i + 1) (by omega) ls (by rw [hnb]; exact lv_sub hl [0, 2, 3, 4, 5] rfl)
        · have hmay : cb_mu S i = 0 ∧ cb_sp S i = 0 ∧ 0 < cb_en S i := ⟨c0, hsp, Int64.not_le.mp (fun h => c2 ((lg_cmp_le _ _).mpr h))⟩
          refine lv_iconst (v := 1) hx hb dX6_mix_155 (by decide) ?_
          refine lv_goto (tgt := 160) hx hb dX6_mix_156 (by decide) ?_
          refine lv_istore (lv' := [(5, .int 1), (4, .int (nI i)), (3, .int (mm_bi (cb_best S i))), (2, .int x), (1, .int (nI (cb_msk (cb_sp S) 8))), (0, .ref (a 0))]) hx hb dX6_mix_160 hl (by decide) rfl (fun ls hl => ?_)
          refine lv_iload hx hb dX6_mix_162 (lv_at hl 0 rfl) ?_
          refine lv_if_eq (tgt := 191) hx hb dX6_mix_164 (by decide) (fun cz => (absurd cz (by decide) : False).elim) (fun cz => ?_)
          refine lv_iload_n hx hb dX6_mix_167 rfl (lv_at hl 2 rfl) ?_
          cases hbs : cb_best S i with
          | none =>
            rw [hbs] at hl
            have hl : lv_has ls 6 [(5, .int 1), (4, .int (nI i)), (3, .int (-1)), (2, .int x), (1, .int (nI (cb_msk (cb_sp S) 8))), (0, .ref (a 0))] := hl
            show W p l e (headSpec (ws_ yX6_mix cX6_mix 6 (some .int)) ({ frames := 2, cells := 0, slots := 0, locals := 43 } : Room)).room s m args below meth c H locs 0 0 Q (F0 m 168 ls [.int (-1)])
            refine lv_if_lt (tgt := 188) hx hb dX6_mix_168 (by decide) (fun cz => ?_) (fun cz => (cz (by decide) : False).elim)
            refine lv_iload hx hb dX6_mix_188 (lv_at hl 1 rfl) ?_
            refine lv_istore_n (lv' := [(3, .int (nI i)), (5, .int 1), (4, .int (nI i)), (2, .int x), (1, .int (nI (cb_msk (cb_sp S) 8))), (0, .ref (a 0))]) hx hb dX6_mix_190 rfl hl (by decide) rfl (fun ls hl => ?_)
            have hnb : cb_best S (i + 1) = some i := by show cb_pick S (cb_best S i) i = _; unfold cb_pick; rw [if_pos hmay, hbs]
            refine lv_iinc (v := (nI (i + 1))) (lv' := [(4, .int (nI (i + 1))), (3, .int (nI i)), (5, .int 1), (2, .int x), (1, .int (nI (cb_msk (cb_sp S) 8))), (0, .ref (a 0))]) hx hb dX6_mix_191 hl (k := 2) rfl (nI_1 i) (by decide) rfl (fun ls hl => ?_)
            refine lv_goto (tgt := 117) hx hb dX6_mix_194 (by decide) ?_
            exact ih (i + 1) (by omega) ls (by rw [hnb]; exact lv_sub hl [0, 1, 3, 4, 5] rfl)
          | some q =>
            rw [hbs] at hl
            have hl : lv_has ls 6 [(5, .int 1), (4, .int (nI i)), (3, .int (nI q)), (2, .int x), (1, .int (nI (cb_msk (cb_sp S) 8))), (0, .ref (a 0))] := hl
            show W p l e (headSpec (ws_ yX6_mix cX6_mix 6 (some .int)) ({ frames := 2, cells := 0, slots := 0, locals := 43 } : Room)).room s m args below meth c H locs 0 0 Q (F0 m 168 ls [.int (nI q)])
            have hq : q < 8 := Nat.lt_trans (cb_best_lt S i q hbs) hk
            refine lv_if_lt (tgt := 188) hx hb dX6_mix_168 (by decide) (fun cz => (absurd cz (nI_pos (by omega)) : False).elim) (fun cz => ?_)
            refine lv_aload_n hx hb dX6_mix_171 rfl (lv_at hl 5 rfl) ?_
            refine mm_get hx hb hts hown hB 7 (by decide) q275 rfl dX6_mix_172 ?_
            refine lv_iload hx hb dX6_mix_175 (lv_at hl 1 rfl) ?_
            refine mm_ldEn hx hb hB i hk dX6_mix_177 ?_
            refine lv_aload_n hx hb dX6_mix_178 rfl (lv_at hl 5 rfl) ?_
            refine mm_get hx hb hts hown hB 7 (by decide) q275 rfl dX6_mix_179 ?_
            refine lv_iload_n hx hb dX6_mix_182 rfl (lv_at hl 2 rfl) ?_
            refine mm_ldEn hx hb hB q hq dX6_mix_183 ?_
            refine W.lcmp hx hb dX6_mix_184 ?_
            refine lv_if_le (tgt := 191) hx hb dX6_mix_185 (by decide) (fun c3 => ?_) (fun c3 => ?_)
            · have hnb : cb_best S (i + 1) = some q := by show cb_pick S (cb_best S i) i = _; unfold cb_pick; rw [if_pos hmay, hbs]; exact if_neg (Int64.not_lt.mpr ((lg_cmp_le _ _).mp c3))
              refine lv_iinc (v := (nI (i + 1))) (lv' := [(4, .int (nI (i + 1))), (5, .int 1), (3, .int (nI q)), (2, .int x), (1, .int (nI (cb_msk (cb_sp S) 8))), (0, .ref (a 0))]) hx hb dX6_mix_191 hl (k := 1) rfl (nI_1 i) (by decide) rfl (fun ls hl => ?_)
              refine lv_goto (tgt := 117) hx hb dX6_mix_194 (by decide) ?_
              exact ih (i + 1) (by omega) ls (by rw [hnb]; exact lv_sub hl [0, 2, 3, 4, 5] rfl)
            · refine lv_iload hx hb dX6_mix_188 (lv_at hl 1 rfl) ?_
              refine lv_istore_n (lv' := [(3, .int (nI i)), (5, .int 1), (4, .int (nI i)), (2, .int x), (1, .int (nI (cb_msk (cb_sp S) 8))), (0, .ref (a 0))]) hx hb dX6_mix_190 rfl hl (by decide) rfl (fun ls hl => ?_)
              have hnb : cb_best S (i + 1) = some i := by show cb_pick S (cb_best S i) i = _; unfold cb_pick; rw [if_pos hmay, hbs]; exact if_pos (Int64.not_le.mp (fun h => c3 ((lg_cmp_le _ _).mpr h)))
              refine lv_iinc (v := (nI (i + 1))) (lv' := [(4, .int (nI (i + 1))), (3, .int (nI i)), (5, .int 1), (2, .int x), (1, .int (nI (cb_msk (cb_sp S) 8))), (0, .ref (a 0))]) hx hb dX6_mix_191 hl (k := 2) rfl (nI_1 i) (by decide) rfl (fun ls hl => ?_)
              refine lv_goto (tgt := 117) hx hb dX6_mix_194 (by decide) ?_
              exact ih (i + 1) (by omega) ls (by rw [hnb]; exact lv_sub hl [0, 1, 3, 4, 5] rfl)
    · refine cb_top (y := 1) ((cb_msk_get (cb_sp S) hk).trans (if_neg hsp)) ?_
      refine lv_if_ne (tgt := 159) hx hb dX6_mix_130 (by decide) (fun cz => ?_) (fun cz => (absurd cz (by decide) : False).elim)
      refine lv_iconst (v := 0) hx hb dX6_mix_159 (by decide) ?_
      refine lv_istore (lv' := [(5, .int 0), (4, .int (nI i)), (3, .int (mm_bi (cb_best S i))), (2, .int x), (1, .int (nI (cb_msk (cb_sp S) 8))), (0, .ref (a 0))]) hx hb dX6_mix_160 hl (by decide) rfl (fun ls hl => ?_)
      refine lv_iload hx hb dX6_mix_162 (lv_at hl 0 rfl) ?_
      refine lv_if_eq (tgt := 191) hx hb dX6_mix_164 (by decide) (fun cz => ?_) (fun cz => (cz rfl : False).elim)
      have hnb : cb_best S (i + 1) = cb_best S i := by show cb_pick S (cb_best S i) i = _; unfold cb_pick; rw [if_neg (fun h => hsp h.2.1)]
      refine lv_iinc (v := (nI (i + 1))) (lv' := [(4, .int (nI (i + 1))), (5, .int 0), (3, .int (mm_bi (cb_best S i))), (2, .int x), (1, .int (nI (cb_msk (cb_sp S) 8))), (0, .ref (a 0))]) hx hb dX6_mix_191 hl (k := 1) rfl (nI_1 i) (by decide) rfl (fun ls hl => ?_)
      refine lv_goto (tgt := 117) hx hb dX6_mix_194 (by decide) ?_
      exact ih (i + 1) (by omega) ls (by rw [hnb]; exact lv_sub hl [0, 2, 3, 4, 5] rfl)
set_option maxHeartbeats 4000000 in
set_option maxRecDepth 100000 in
theorem mmix4_loop {p : Program} {l : Launch} {e : Env} {s : State} {m : MethodId} {args : Array Value} {below : List Frame} {meth : Method} {c : Code} {Q : State → Prop} {D : va_G} {tc : Nat → ClassId} {a : Nat → Nat} {A : Nat → Prop} {H0 : Heap} {S : cb_S} {N : Nat} (hx : p.tables.exec = Jvm.exec) (hb : c.code = cX6_mix) (hml : c.maxLocals = 6) (hts : ∀ w ∈ lw_all, w.before args s = true) (hown : s.vm.findClass RX6 = some m.cls) (hN : N < 2 ^ 31) (hmo : cb_mo S = nI N) (K : ∀ (H : Heap) (locs : List Loc), mm_B D tc a A s H0 (cb_selS S N) 0 H locs → ∀ ls : Array Slot, lv_has ls 6 [(1, .int (nI (cb_msk (cb_sp (cb_selS S N)) 8))), (0, .ref (a 0))] → W p l e (headSpec (ws_ yX6_mix cX6_mix 6 (some .int)) ({ frames := 2, cells := 0, slots := 0, locals := 43 } : Room)).room s m args below meth c H locs 0 0 Q (F0 m 213 ls [])) : ∀ (n i : Nat), i + n = N → ∀ (H : Heap) (locs : List Loc), mm_B D tc a A s H0 (cb_selS S i) 0 H locs → ∀ ls : Array Slot, lv_has ls 6 [(2, .int (nI i)), (1, .int (nI (cb_msk (cb_sp (cb_selS S i)) 8))), (0, .ref (a 0))] → W p l e (headSpec (ws_ yX6_mix cX6_mix 6 (some .int)) ({ frames := 2, cells := 0, slots := 0, locals := 43 } : Room)).room s m args below meth c H locs 0 0 Q (F0 m 104 ls []) := by
  intro n
  induction n with
  | zero =>
    intro i hi H locs hB ls hl
    obtain rfl : N = i := by omega
    refine lv_iload_n hx hb dX6_mix_104 rfl (lv_at hl 0 rfl) ?_
    refine lv_aload_n hx hb dX6_mix_105 rfl (lv_at hl 2 rfl) ?_
    refine mm_get hx hb hts hown hB 8 (by decide) q276 rfl dX6_mix_106 ?_
    refine cb_top (y := nI N) (by rw [(cb_selS_same S N).2.2.2.2.1]; exact hmo) ?_
    refine lv_icmp_ge (tgt := 213) hx hb dX6_mix_109 (by decide) (fun cz => ?_) (fun cz => (cz (Int32.le_refl _) : False).elim)
    exact K H locs hB ls (lv_sub hl [1, 2] rfl)
  | succ n ih =>
    intro i hi H locs hB ls hl
    have hk : i < N := by omega
    refine lv_iload_n hx hb dX6_mix_104 rfl (lv_at hl 0 rfl) ?_
    refine lv_aload_n hx hb dX6_mix_105 rfl (lv_at hl 2 rfl) ?_
    refine mm_get hx hb hts hown hB 8 (by decide) q276 rfl dX6_mix_106 ?_
    refine cb_top (y := nI N) (by rw [(cb_selS_same S i).2.2.2.2.1]; exact hmo) ?_
    refine lv_icmp_ge (tgt := 213) hx hb dX6_mix_109 (by decide) (fun cz => (absurd cz (nI_ge (b := N) hk hN) : False).elim) (fun cz => ?_)
    refine lv_iconst (v := (-1)) hx hb dX6_mix_112 (by decide) ?_
    refine lv_istore_n (lv' := [(3, .int (-1)), (2, .int (nI i)), (1, .int (nI (cb_msk (cb_sp (cb_selS S i)) 8))), (0, .ref (a 0))]) hx hb dX6_mix_113 rfl hl (by decide) rfl (fun ls hl => ?_)
    refine lv_iconst (v := 0) hx hb dX6_mix_114 (by decide) ?_
    refine lv_istore (lv' := [(4, .int 0), (3, .int (-1)), (2, .int (nI i)), (1, .int (nI (cb_msk (cb_sp (cb_selS S i)) 8))), (0, .ref (a 0))]) hx hb dX6_mix_115 hl (by decide) rfl (fun ls hl => ?_)
    refine mmix3_loop (S := cb_selS S i) (x := nI i) hx hb hml hts hown hB (fun ls hl => ?_) 8 0 rfl ls (lv_sub hl [0, 1, 2, 3, 4] rfl)
    have hst : cb_selS S (i + 1) = cb_spk (cb_selS S i) (cb_best (cb_selS S i) 8) := rfl
    cases hbs : cb_best (cb_selS S i) 8 with
    | none =>
      rw [hbs] at hl hst
      have hl : lv_has ls 6 [(3, .int (-1)), (2, .int (nI i)), (1, .int (nI (cb_msk (cb_sp (cb_selS S i)) 8))), (0, .ref (a 0))] := hl
      refine lv_iload_n hx hb dX6_mix_197 rfl (lv_at hl 0 rfl) ?_
      refine lv_if_lt (tgt := 207) hx hb dX6_mix_198 (by decide) (fun cz => ?_) (fun cz => (cz (by decide) : False).elim)
      refine lv_iinc (v := (nI (i + 1))) (lv' := [(2, .int (nI (i + 1))), (3, .int (-1)), (1, .int (nI (cb_msk (cb_sp (cb_selS S i)) 8))), (0, .ref (a 0))]) hx hb dX6_mix_207 hl (k := 1) rfl (nI_1 i) (by decide) rfl (fun ls hl => ?_)
      refine lv_goto (tgt := 104) hx hb dX6_mix_210 (by decide) ?_
      exact ih (i + 1) (by omega) H locs (by rw [hst]; exact hB) ls (by rw [hst]; exact lv_sub hl [0, 2, 3] rfl)
    | some q =>
      rw [hbs] at hl hst
      have hl : lv_has ls 6 [(3, .int (nI q)), (2, .int (nI i)), (1, .int (nI (cb_msk (cb_sp (cb_selS S i)) 8))), (0, .ref (a 0))] := hl
      refine lv_iload_n hx hb dX6_mix_197 rfl (lv_at hl 0 rfl) ?_
      have hq : q < 8 := cb_best_lt _ 8 q hbs
      refine lv_if_lt (tgt := 207) hx hb dX6_mix_198 (by decide) (fun cz => (absurd cz (nI_pos (by omega)) : False).elim) (fun cz => ?_)
      refine lv_iload_n hx hb dX6_mix_201 rfl (lv_at hl 2 rfl) ?_
      refine lv_iconst (v := 1) hx hb dX6_mix_202 (by decide) ?_
      refine lv_iload_n hx hb dX6_mix_203 rfl (lv_at hl 0 rfl) ?_
      refine lv_ishl hx hb dX6_mix_204 ?_
      refine lv_ior hx hb dX6_mix_205 ?_
      refine cb_top (y := nI (cb_msk (cb_sp (cb_selS S (i + 1))) 8)) (by rw [hst]; exact cb_msk_put _ hq) ?_
      refine lv_istore_n (lv' := [(1, .int (nI (cb_msk (cb_sp (cb_selS S (i + 1))) 8))), (3, .int (nI q)), (2, .int (nI i)), (0, .ref (a 0))]) hx hb dX6_mix_206 rfl hl (by decide) rfl (fun ls hl => ?_)
      refine lv_iinc (v := (nI (i + 1))) (lv' := [(2, .int (nI (i + 1))), (1, .int (nI (cb_msk (cb_sp (cb_selS S (i + 1))) 8))), (3, .int (nI q)), (0, .ref (a 0))]) hx hb dX6_mix_207 hl (k := 2) rfl (nI_1 i) (by decide) rfl (fun ls hl => ?_)
      refine lv_goto (tgt := 104) hx hb dX6_mix_210 (by decide) ?_
      exact ih (i + 1) (by omega) H locs (by rw [hst]; exact hB) ls (lv_sub hl [0, 1, 3] rfl)
set_option maxHeartbeats 4000000 in
set_option maxRecDepth 100000 in
theorem mmix5_loop {p : Program} {l : Launch} {e : Env} {s : State} {m : MethodId} {args : Array Value} {below : List Frame} {meth : Method} {c : Code} {Q : State → Prop} {D : va_G} {tc : Nat → ClassId} {a : Nat → Nat} {A : Nat → Prop} {H0 : Heap} {S : cb_S} {j k : Nat} (hx : p.tables.exec = Jvm.exec) (hb : c.code = cX6_mix) (hml : c.maxLocals = 6) (hts : ∀ w ∈ lw_all, w.before args s = true) (hown : s.vm.findClass RX6 = some m.cls) {H : Heap} {locs : List Loc} (hB : mm_B D tc a A s H0 S 0 H locs) (hj : j < 8) (hk8 : k < 8) (K : ∀ ls : Array Slot, lv_has ls 6 [(4, .int (cb_sumX S j k 8)), (3, .int (nI k)), (2, .int (nI j)), (1, .int (nI (cb_msk (cb_sp S) 8))), (0, .ref (a 0))] → W p l e (headSpec (ws_ yX6_mix cX6_mix 6 (some .int)) ({ frames := 2, cells := 0, slots := 0, locals := 43 } : Room)).room s m args below meth c H locs 0 0 Q (F0 m 285 ls [])) : ∀ (n i : Nat), i + n = 8 → ∀ ls : Array Slot, lv_has ls 6 [(5, .int (nI i)), (4, .int (cb_sumX S j k i)), (3, .int (nI k)), (2, .int (nI j)), (1, .int (nI (cb_msk (cb_sp S) 8))), (0, .ref (a 0))] → W p l e (headSpec (ws_ yX6_mix cX6_mix 6 (some .int)) ({ frames := 2, cells := 0, slots := 0, locals := 43 } : Room)).room s m args below meth c H locs 0 0 Q (F0 m 235 ls []) := by
  intro n
  induction n with
  | zero =>
    intro i hi ls hl
    obtain rfl : 8 = i := by omega
    refine lv_iload hx hb dX6_mix_235 (lv_at hl 0 rfl) ?_
    refine lv_bipush (v := 8) hx hb dX6_mix_237 (by decide) ?_
    refine lv_icmp_ge (tgt := 285) hx hb dX6_mix_239 (by decide) (fun cz => ?_) (fun cz => (cz (Int32.le_refl _) : False).elim)
    exact K ls (lv_sub hl [1, 2, 3, 4, 5] rfl)
  | succ n ih =>
    intro i hi ls hl
    have hk : i < 8 := by omega
    refine lv_iload hx hb dX6_mix_235 (lv_at hl 0 rfl) ?_
    refine lv_bipush (v := 8) hx hb dX6_mix_237 (by decide) ?_
    refine lv_icmp_ge (tgt := 285) hx hb dX6_mix_239 (by decide) (fun cz => (absurd cz (nI_ge (b := 8) hk (by decide)) : False).elim) (fun cz => ?_)
    refine lv_iload hx hb dX6_mix_242 (lv_at hl 1 rfl) ?_
    refine lv_iload hx hb dX6_mix_244 (lv_at hl 0 rfl) ?_
    refine lv_iload_n hx hb dX6_mix_246 rfl (lv_at hl 3 rfl) ?_
    refine lv_icmp_eq (tgt := 275) hx hb dX6_mix_247 (by decide) (fun c0 => ?_) (fun c0 => ?_)
    · have ej : i = j := (nI_eq (by omega) (by omega)).mp c0
      refine lv_iconst (v := 0) hx hb dX6_mix_275 (by decide) ?_
      refine lv_iadd hx hb dX6_mix_276 ?_
      refine cb_top (y := cb_sumX S j k (i + 1)) (by show _ = cb_sumX S j k i + (if i = j then 0 else cb_own S i k); rw [if_pos ej]) ?_
      refine lv_istore (lv' := [(4, .int (cb_sumX S j k (i + 1))), (5, .int (nI i)), (3, .int (nI k)), (2, .int (nI j)), (1, .int (nI (cb_msk (cb_sp S) 8))), (0, .ref (a 0))]) hx hb dX6_mix_277 hl (by decide) rfl (fun ls hl => ?_)
      refine lv_iinc (v := (nI (i + 1))) (lv' := [(5, .int (nI (i + 1))), (4, .int (cb_sumX S j k (i + 1))), (3, .int (nI k)), (2, .int (nI j)), (1, .int (nI (cb_msk (cb_sp S) 8))), (0, .ref (a 0))]) hx hb dX6_mix_279 hl (k := 1) rfl (nI_1 i) (by decide) rfl (fun ls hl => ?_)
      refine lv_goto (tgt := 235) hx hb dX6_mix_282 (by decide) ?_
      exact ih (i + 1) (by omega) ls (lv_sub hl [0, 1, 2, 3, 4, 5] rfl)
    · have ej : ¬ i = j := fun h => c0 (by rw [h])
      refine lv_iload_n hx hb dX6_mix_250 rfl (lv_at hl 4 rfl) ?_
      refine lv_iload hx hb dX6_mix_251 (lv_at hl 0 rfl) ?_
      refine lv_ishr hx hb dX6_mix_253 ?_
      refine lv_iconst (v := 1) hx hb dX6_mix_254 (by decide) ?_
      refine lv_iand hx hb dX6_mix_255 ?_
      by_cases hsp : cb_sp S i = 0
      · refine cb_top (y := 0) ((cb_msk_get (cb_sp S) hk).trans (if_pos hsp)) ?_
        refine lv_iconst (v := 1) hx hb dX6_mix_256 (by decide) ?_
        refine lv_icmp_ne (tgt := 275) hx hb dX6_mix_257 (by decide) (fun cz => ?_) (fun cz => (absurd cz (by decide) : False).elim)
        refine lv_iconst (v := 0) hx hb dX6_mix_275 (by decide) ?_
        refine lv_iadd hx hb dX6_mix_276 ?_
        refine cb_top (y := cb_sumX S j k (i + 1)) (by show _ = cb_sumX S j k i + (if i = j then 0 else cb_own S i k); unfold cb_own; rw [if_neg ej, if_pos hsp]) ?_
        refine lv_istore (lv' := [(4, .int (cb_sumX S j k (i + 1))), (5, .int (nI i)), (3, .int (nI k)), (2, .int (nI j)), (1, .int (nI (cb_msk (cb_sp S) 8))), (0, .ref (a 0))]) hx hb dX6_mix_277 hl (by decide) rfl (fun ls hl => ?_)
        refine lv_iinc (v := (nI (i + 1))) (lv' := [(5, .int (nI (i + 1))), (4, .int (cb_sumX S j k (i + 1))), (3, .int (nI k)), (2, .int (nI j)), (1, .int (nI (cb_msk (cb_sp S) 8))), (0, .ref (a 0))]) hx hb dX6_mix_279 hl (k := 1) rfl (nI_1 i) (by decide) rfl (fun ls hl => ?_)
        refine lv_goto (tgt := 235) hx hb dX6_mix_282 (by decide) ?_
        exact ih (i + 1) (by omega) ls (lv_sub hl [0, 1, 2, 3, 4, 5] rfl)
      · refine cb_top (y := 1) ((cb_msk_get (cb_sp S) hk).trans (if_neg hsp)) ?_
        refine lv_iconst (v := 1) hx hb dX6_mix_256 (by decide) ?_
        refine lv_icmp_ne (tgt := 275) hx hb dX6_mix_257 (by decide) (fun cz => (cz rfl : False).elim) (fun cz => ?_)
        refine lv_aload_n hx hb dX6_mix_260 rfl (lv_at hl 5 rfl) ?_
        refine mm_get hx hb hts hown hB 6 (by decide) q274 rfl dX6_mix_261 ?_
        refine lv_bipush (v := 8) hx hb dX6_mix_264 (by decide) ?_
        refine lv_iload hx hb dX6_mix_266 (lv_at hl 0 rfl) ?_
        refine lv_imul hx hb dX6_mix_268 ?_
        refine lv_iload_n hx hb dX6_mix_269 rfl (lv_at hl 2 rfl) ?_
        refine lv_iadd hx hb dX6_mix_270 ?_
        refine cb_top (y := nI (8 * i + k)) (mm_ix i k) ?_
        refine mm_ldS hx hb hB i hk k hk8 dX6_mix_271 ?_
        refine lv_goto (tgt := 276) hx hb dX6_mix_272 (by decide) ?_
        refine lv_iadd hx hb dX6_mix_276 ?_
        refine cb_top (y := cb_sumX S j k (i + 1)) (by show _ = cb_sumX S j k i + (if i = j then 0 else cb_own S i k); unfold cb_own; rw [if_neg ej, if_neg hsp]) ?_
        refine lv_istore (lv' := [(4, .int (cb_sumX S j k (i + 1))), (5, .int (nI i)), (3, .int (nI k)), (2, .int (nI j)), (1, .int (nI (cb_msk (cb_sp S) 8))), (0, .ref (a 0))]) hx hb dX6_mix_277 hl (by decide) rfl (fun ls hl => ?_)
        refine lv_iinc (v := (nI (i + 1))) (lv' := [(5, .int (nI (i + 1))), (4, .int (cb_sumX S j k (i + 1))), (3, .int (nI k)), (2, .int (nI j)), (1, .int (nI (cb_msk (cb_sp S) 8))), (0, .ref (a 0))]) hx hb dX6_mix_279 hl (k := 1) rfl (nI_1 i) (by decide) rfl (fun ls hl => ?_)
        refine lv_goto (tgt := 235) hx hb dX6_mix_282 (by decide) ?_
        exact ih (i + 1) (by omega) ls (lv_sub hl [0, 1, 2, 3, 4, 5] rfl)
set_option maxHeartbeats 4000000 in
set_option maxRecDepth 100000 in
theorem mmix6_loop {p : Program} {l : Launch} {e : Env} {s : State} {m : MethodId} {args : Array Value} {below : List Frame} {meth : Method} {c : Code} {Q : State → Prop} {D : va_G} {tc : Nat → ClassId} {a : Nat → Nat} {A : Nat → Prop} {H0 : Heap} {S : cb_S} {j : Nat} (hx : p.tables.exec = Jvm.exec) (hb : c.code = cX6_mix) (hml : c.maxLocals = 6) (hts : ∀ w ∈ lw_all, w.before args s = true) (hown : s.vm.findClass RX6 = some m.cls) (hj : j < 8) (hlw : cb_lw S j < 2) (K : ∀ (H : Heap) (locs : List Loc), mm_B D tc a A s H0 (cb_outK S j 8) 0 H locs → ∀ ls : Array Slot, lv_has ls 6 [(2, .int (nI j)), (1, .int (nI (cb_msk (cb_sp S) 8))), (0, .ref (a 0))] → W p l e (headSpec (ws_ yX6_mix cX6_mix 6 (some .int)) ({ frames := 2, cells := 0, slots := 0, locals := 43 } : Room)).room s m args below meth c H locs 0 0 Q (F0 m 317 ls [])) : ∀ (n i : Nat), i + n = 8 → ∀ (H : Heap) (locs : List Loc), mm_B D tc a A s H0 (cb_outK S j i) 0 H locs → ∀ ls : Array Slot, lv_has ls 6 [(3, .int (nI i)), (2, .int (nI j)), (1, .int (nI (cb_msk (cb_sp S) 8))), (0, .ref (a 0))] → W p l e (headSpec (ws_ yX6_mix cX6_mix 6 (some .int)) ({ frames := 2, cells := 0, slots := 0, locals := 43 } : Room)).room s m args below meth c H locs 0 0 Q (F0 m 223 ls []) := by
  intro n
  induction n with
  | zero =>
    intro i hi H locs hB ls hl
    obtain rfl : 8 = i := by omega
    refine lv_iload_n hx hb dX6_mix_223 rfl (lv_at hl 0 rfl) ?_
    refine lv_bipush (v := 8) hx hb dX6_mix_224 (by decide) ?_
    refine lv_icmp_ge (tgt := 317) hx hb dX6_mix_226 (by decide) (fun cz => ?_) (fun cz => (cz (Int32.le_refl _) : False).elim)
    exact K H locs hB ls (lv_sub hl [1, 2, 3] rfl)
  | succ n ih =>
    intro i hi H locs hB ls hl
    have hk : i < 8 := by omega
    refine lv_iload_n hx hb dX6_mix_223 rfl (lv_at hl 0 rfl) ?_
    refine lv_bipush (v := 8) hx hb dX6_mix_224 (by decide) ?_
    refine lv_icmp_ge (tgt := 317) hx hb dX6_mix_226 (by decide) (fun cz => (absurd cz (nI_ge (b := 8) hk (by decide)) : False).elim) (fun cz => ?_)
    refine lv_iconst (v := 0) hx hb dX6_mix_229 (by decide) ?_
    refine lv_istore (lv' := [(4, .int 0), (3, .int (nI i)), (2, .int (nI j)), (1, .int (nI (cb_msk (cb_sp S) 8))), (0, .ref (a 0))]) hx hb dX6_mix_230 hl (by decide) rfl (fun ls hl => ?_)
    refine lv_iconst (v := 0) hx hb dX6_mix_232 (by decide) ?_
    refine lv_istore (lv' := [(5, .int 0), (4, .int 0), (3, .int (nI i)), (2, .int (nI j)), (1, .int (nI (cb_msk (cb_sp S) 8))), (0, .ref (a 0))]) hx hb dX6_mix_233 hl (by decide) rfl (fun ls hl => ?_)
    refine mmix5_loop (S := cb_outK S j i) (j := j) (k := i) hx hb hml hts hown hB hj hk (fun ls hl => ?_) 8 0 rfl ls (lv_sub hl [0, 1, 2, 3, 4, 5] rfl)
    refine lv_aload_n hx hb dX6_mix_285 rfl (lv_at hl 4 rfl) ?_
    refine mm_get hx hb hts hown hB 5 (by decide) q273 rfl dX6_mix_286 ?_
    refine lv_bipush (v := 8) hx hb dX6_mix_289 (by decide) ?_
    refine lv_iload_n hx hb dX6_mix_291 rfl (lv_at hl 2 rfl) ?_
    refine lv_imul hx hb dX6_mix_292 ?_
    refine lv_iload_n hx hb dX6_mix_293 rfl (lv_at hl 1 rfl) ?_
    refine lv_iadd hx hb dX6_mix_294 ?_
    refine cb_top (y := nI (8 * j + i)) (mm_ix j i) ?_
    refine lv_aload_n hx hb dX6_mix_295 rfl (lv_at hl 4 rfl) ?_
    refine mm_get hx hb hts hown hB 1 (by decide) q269 rfl dX6_mix_296 ?_
    refine lv_iload_n hx hb dX6_mix_299 rfl (lv_at hl 2 rfl) ?_
    refine mm_ldLw hx hb hB j hj dX6_mix_300 ?_
    refine lv_iload hx hb dX6_mix_301 (lv_at hl 0 rfl) ?_
    refine lv_i2l hx hb dX6_mix_303 rfl ?_
    refine cb_callPi (va_runS (As := [.long ((cb_sumX (cb_outK S j i) j i 8).toInt64)]) (rest := [.int (nI (cb_lw (cb_outK S j i) j)), .int (nI (8 * j + i)), .ref (a 5)]) ⟨hx, hb, hml, hown, hts⟩ (met_held l (cb_sumX (cb_outK S j i) j i 8).toInt64) (va_cwS 1 hts (lw_S q316 q317 q10 q318) rfl rfl rfl (by decide +kernel) ⟨Nat.le_of_ble_eq_true rfl, Nat.le_of_ble_eq_true rfl⟩) cb_preS rfl rfl hl.1 rfl (lv_room (Nat.le_of_ble_eq_true rfl)) dX6_mix_304 ⟨Nat.zero_le _, Nat.zero_le _⟩) ?_
    refine cb_callPi (va_runS (As := [.int (nI (cb_lw (cb_outK S j i) j)), .int (cb_sat (cb_sumX (cb_outK S j i) j i 8).toInt64)]) (rest := [.int (nI (8 * j + i)), .ref (a 5)]) ⟨hx, hb, hml, hown, hts⟩ (mm_code l (cb_lw (cb_outK S j i) j) hlw (cb_sat (cb_sumX (cb_outK S j i) j i 8).toInt64) (cb_sat_rng _)) (va_cwS 2 hts (lw_S q265 q266 q10 q267) rfl rfl rfl (by decide +kernel) ⟨Nat.le_of_ble_eq_true rfl, Nat.le_of_ble_eq_true rfl⟩) cb_preS rfl rfl hl.1 rfl (lv_room (Nat.le_of_ble_eq_true rfl)) dX6_mix_307 ⟨Nat.zero_le _, Nat.zero_le _⟩) ?_
    refine cb_top (y := cb_oval S j i) ((cb_oval_model (cb_outK S j i) i hj).trans (cb_oval_sOA S _ j i)) ?_
    refine mm_stO hx hb hB j hj i hk dX6_mix_310 (fun H locs hB => ?_)
    refine lv_iinc (v := (nI (i + 1))) (lv' := [(3, .int (nI (i + 1))), (4, .int (cb_sumX (cb_outK S j i) j i 8)), (2, .int (nI j)), (1, .int (nI (cb_msk (cb_sp S) 8))), (0, .ref (a 0))]) hx hb dX6_mix_311 hl (k := 1) rfl (nI_1 i) (by decide) rfl (fun ls hl => ?_)
    refine lv_goto (tgt := 223) hx hb dX6_mix_314 (by decide) ?_
    exact ih (i + 1) (by omega) H locs (by rw [← cb_outK_s]; exact hB) ls (lv_sub hl [0, 2, 3, 4] rfl)
set_option maxHeartbeats 4000000 in
set_option maxRecDepth 100000 in
theorem mmix7_loop {p : Program} {l : Launch} {e : Env} {s : State} {m : MethodId} {args : Array Value} {below : List Frame} {meth : Method} {c : Code} {Q : State → Prop} {D : va_G} {tc : Nat → ClassId} {a : Nat → Nat} {A : Nat → Prop} {H0 : Heap} {S : cb_S} (hx : p.tables.exec = Jvm.exec) (hb : c.code = cX6_mix) (hml : c.maxLocals = 6) (hts : ∀ w ∈ lw_all, w.before args s = true) (hown : s.vm.findClass RX6 = some m.cls) (hlw : ∀ j, j < 8 → cb_lw S j < 2) (K : ∀ (H : Heap) (locs : List Loc), mm_B D tc a A s H0 (cb_outP S 8) 0 H locs → ∀ ls : Array Slot, lv_has ls 6 [(1, .int (nI (cb_msk (cb_sp S) 8))), (0, .ref (a 0))] → W p l e (headSpec (ws_ yX6_mix cX6_mix 6 (some .int)) ({ frames := 2, cells := 0, slots := 0, locals := 43 } : Room)).room s m args below meth c H locs 0 0 Q (F0 m 323 ls [])) : ∀ (n i : Nat), i + n = 8 → ∀ (H : Heap) (locs : List Loc), mm_B D tc a A s H0 (cb_outP S i) 0 H locs → ∀ ls : Array Slot, lv_has ls 6 [(2, .int (nI i)), (1, .int (nI (cb_msk (cb_sp S) 8))), (0, .ref (a 0))] → W p l e (headSpec (ws_ yX6_mix cX6_mix 6 (some .int)) ({ frames := 2, cells := 0, slots := 0, locals := 43 } : Room)).room s m args below meth c H locs 0 0 Q (F0 m 215 ls []) := by
  intro n
  induction n with
  | zero =>
    intro i hi H locs hB ls hl
    obtain rfl : 8 = i := by omega
    refine lv_iload_n hx hb dX6_mix_215 rfl (lv_at hl 0 rfl) ?_
    refine lv_bipush (v := 8) hx hb dX6_mix_216 (by decide) ?_
    refine lv_icmp_ge (tgt := 323) hx hb dX6_mix_218 (by decide) (fun cz => ?_) (fun cz => (cz (Int32.le_refl _) : False).elim)
    exact K H locs hB ls (lv_sub hl [1, 2] rfl)
  | succ n ih =>
    intro i hi H locs hB ls hl
    have hk : i < 8 := by omega
    refine lv_iload_n hx hb dX6_mix_215 rfl (lv_at hl 0 rfl) ?_
    refine lv_bipush (v := 8) hx hb dX6_mix_216 (by decide) ?_
    refine lv_icmp_ge (tgt := 323) hx hb dX6_mix_218 (by decide) (fun cz => (absurd cz (nI_ge (b := 8) hk (by decide)) : False).elim) (fun cz => ?_)
    refine lv_iconst (v := 0) hx hb dX6_mix_221 (by decide) ?_
    refine lv_istore_n (lv' := [(3, .int 0), (2, .int (nI i)), (1, .int (nI (cb_msk (cb_sp S) 8))), (0, .ref (a 0))]) hx hb dX6_mix_222 rfl hl (by decide) rfl (fun ls hl => ?_)
    refine mmix6_loop (S := cb_outP S i) (j := i) hx hb hml hts hown hk (hlw i hk) (fun H locs hB ls hl => ?_) 8 0 rfl H locs (by rw [cb_outK_0]; exact hB) ls (lv_sub hl [0, 1, 2, 3] rfl)
    refine lv_iinc (v := (nI (i + 1))) (lv' := [(2, .int (nI (i + 1))), (1, .int (nI (cb_msk (cb_sp S) 8))), (0, .ref (a 0))]) hx hb dX6_mix_317 hl (k := 0) rfl (nI_1 i) (by decide) rfl (fun ls hl => ?_)
    refine lv_goto (tgt := 215) hx hb dX6_mix_320 (by decide) ?_
    exact ih (i + 1) (by omega) H locs (by rw [← cb_outP_s]; exact hB) ls (lv_sub hl [0, 1, 2] rfl)
set_option maxHeartbeats 4000000 in
set_option maxRecDepth 100000 in
theorem met_mMix (l : Launch) (D : va_G) (tc : Nat → ClassId) (a : Nat → Nat) (S : cb_S) (th : Int32)  (hok : cb_ok S) : Met l yX6_mix (ws_ yX6_mix cX6_mix 6 (some .int)) ({ frames := 2, cells := 0, slots := 0, locals := 43 } : Room) (va_Pc [.ref (a 0)] (mm_Pre D tc a S th)) (mm_Q D tc a (some (.int (cb_mixR S))) (cb_mixS S) 0) 0 0 (mm_A a) := by
  refine Met.ofW (cc := cX6_mix) (maxL := 6) (ret := (some .int)) (by decide) rfl ?_
  intro p e s m args below meth c s₁ B hml hv
  obtain ⟨rfl, hv⟩ := hv
  have hB := mm_start hv
  have hx := B.exec
  have hb := B.bytes
  have hr := B.returns
  have hts := atoms_spec (ws := (ws_ yX6_mix cX6_mix 6 (some .int))) B.pre
  have hts : ∀ w ∈ lw_all, w.before _ s = true := fun w h => hts w (List.mem_cons_of_mem _ h)
  have hown : s.vm.findClass RX6 = some m.cls := findClass_of_methodNamed B.named
  have hlocks := B.notSynchronized
  have hl := lv_entry ([.ref (a 0)]) (n := 6) (Nat.le_of_ble_eq_true rfl)
  rw [lg_entry_eq]
  generalize (lg_sl ([.ref (a 0)]) ++ List.replicate (6 - (lg_sl ([.ref (a 0)])).length) Slot.unset).toArray = ls at hl ⊢
  have hl : lv_has ls 6 [(0, .ref (a 0))] := hl
  obtain ⟨N, hN1, hN⟩ : ∃ N : Nat, N < 2 ^ 31 ∧ cb_mo S = nI N := by
    obtain ⟨-, h1, h2⟩ := hok
    exact ⟨(cb_mo S).toInt.toNat, by omega, by rw [← Int32.toInt_inj, nI_toInt (by omega)]; omega⟩
  have hNm : cb_most S = N := by unfold cb_most; rw [hN, nI_clamp hN1]
  have hm2 : cb_mix2 S = cb_selS (cb_measA S 8) N := by unfold cb_mix2; rw [hNm]
  have hlw : ∀ j, j < 8 → cb_lw (cb_selS (cb_measA S 8) N) j < 2 := fun j hj => by rw [(cb_selS_same (cb_measA S 8) N).1, (cb_measA_same S 8).1]; exact (hok.1 j hj).1
  refine lv_aload_n hx hb dX6_mix_0 rfl (lv_at hl 0 rfl) ?_
  refine lv_iconst (v := 0) hx hb dX6_mix_1 (by decide) ?_
  refine mm_putTh hx hb hts hown hB dX6_mix_2 (fun H locs hB => ?_)
  refine lv_iconst (v := 0) hx hb dX6_mix_5 (by decide) ?_
  refine lv_istore_n (lv' := [(1, .int 0), (0, .ref (a 0))]) hx hb dX6_mix_6 rfl hl (by decide) rfl (fun ls hl => ?_)
  refine mmix2_loop (S := S) hx hb hml hts hown hok (fun H locs hB ls hl => ?_) 8 0 rfl _ _ hB ls (lv_sub hl [0, 1] rfl)
  refine lv_iconst (v := 0) hx hb dX6_mix_100 (by decide) ?_
  refine cb_top (y := nI (cb_msk (cb_sp (cb_selS (cb_measA S 8) 0)) 8)) (by show (0 : Int32) = nI (cb_msk (cb_sp (cb_measA S 8)) 8); rw [cb_msk_none _ (cb_measA_sp S 8)]; rfl) ?_
  refine lv_istore_n (lv' := [(1, .int (nI (cb_msk (cb_sp (cb_selS (cb_measA S 8) 0)) 8))), (0, .ref (a 0))]) hx hb dX6_mix_101 rfl hl (by decide) rfl (fun ls hl => ?_)
  refine lv_iconst (v := 0) hx hb dX6_mix_102 (by decide) ?_
  refine lv_istore_n (lv' := [(2, .int 0), (1, .int (nI (cb_msk (cb_sp (cb_selS (cb_measA S 8) 0)) 8))), (0, .ref (a 0))]) hx hb dX6_mix_103 rfl hl (by decide) rfl (fun ls hl => ?_)
  refine mmix4_loop (S := cb_measA S 8) (N := N) hx hb hml hts hown hN1 (by rw [(cb_measA_same S 8).2.2.2.2.1]; exact hN) (fun H locs hB ls hl => ?_) N 0 (Nat.zero_add N) _ _ hB ls (lv_sub hl [0, 1, 2] rfl)
  refine lv_iconst (v := 0) hx hb dX6_mix_213 (by decide) ?_
  refine lv_istore_n (lv' := [(2, .int 0), (1, .int (nI (cb_msk (cb_sp (cb_selS (cb_measA S 8) N)) 8))), (0, .ref (a 0))]) hx hb dX6_mix_214 rfl hl (by decide) rfl (fun ls hl => ?_)
  refine mmix7_loop (S := cb_selS (cb_measA S 8) N) hx hb hml hts hown hlw (fun H locs hB ls hl => ?_) 8 0 rfl _ _ (by rw [cb_outP_0]; exact hB) ls (lv_sub hl [0, 1, 2] rfl)
  have hB : mm_B D tc a (mm_A a) s s.heap (cb_mixS S) 0 H locs := by unfold cb_mixS; rw [hm2, ← cb_outP_A]; exact hB
  refine lv_iload_n hx hb dX6_mix_323 rfl (lv_at hl 0 rfl) ?_
  exact W.iret (v := (nI (cb_msk (cb_sp (cb_selS (cb_measA S 8) N)) 8))) hx hb hr (fun t9 ht hW => ⟨cb_r (by unfold cb_mixR; rw [hm2]), by rw [ht]; exact hB.1, hB.2.2.1.F ht⟩) hB.2.2.1.2.2 dX6_mix_324
end
section
/-! CALLS IN GENERAL; worlds that agree where it counts; the words that the constructors and the law carry -/
set_option maxRecDepth 100000
section CG
variable {p : Program} {l : Launch} {e : Env} {R : Room} {s : State} {m : MethodId} {args : Array Value} {below : List Frame} {meth : Method} {c : Code} {H : Heap} {locs : List Loc} {cells slots : Nat} {Q : State → Prop}
variable {pc : Nat} {ls : Array Slot} {rest st0 : List Value}
theorem cb_callG {mc ms : Nat} {r : Option Value} {P : State → State → Prop} {free A : Nat → Prop} {H0 : Heap} {Qa : State → Outcome → State → Prop} (hQ : ∀ st o t, Qa st o t → o = .returned r ∧ P st t ∧ va_F free st t)
    (hr : va_Run p l e R s m args below meth c H locs cells slots mc ms (F0 m pc ls st0) rest Qa free) (hS : va_S A H0 H locs) (hF : ∀ q, free q → A q)
    (kk : ∀ (st t : State) (locs1 : List Loc), st.heap = H → P st t → va_F free st t → va_S A H0 t.heap locs1 → W p l e R s m args below meth c t.heap locs1 (cells + mc) (slots + ms) Q (F0 m (pc + 3) ls (r.toList ++ rest))) : W p l e R s m args below meth c H locs cells slots Q (F0 m pc ls st0) := by
  intro T hT X
  obtain ⟨v, st₀, t, T', L, h0, X', hL, e1, e2, hq, go⟩ := hr T hT X
  obtain ⟨hv, hP, hFr⟩ := hQ _ _ _ hq
  cases hv
  have hS' : va_S A H0 t.heap (locs ++ L) := by
    obtain ⟨s1, s2, s3⟩ := hS
    obtain ⟨f1, f2⟩ := hFr
    rw [h0] at f1 f2
    refine ⟨Nat.le_trans s1 f1, fun q h1 h2 => ?_, fun q hq => ?_⟩
    · rw [f2 q (by omega) (fun h => h2 (hF q h))]
      exact s2 q h1 h2
    · rcases List.mem_append.mp hq with h | h
      · exact s3 q h
      · exact hF _ (hL q h)
  obtain ⟨tt, a1, b1⟩ := kk st₀ t (locs ++ L) h0 hP hFr hS' T' e1 X'
  exact ⟨tt, go tt a1, b1⟩
end CG
theorem cb_arrV_ext {cI : ClassId} {N : Nat} {f f' : Nat → Value} (h : ∀ j, j < N → f j = f' j) : arrV cI N f = arrV cI N f' := by
  unfold arrV
  rw [show (fun j : Fin N => f j.val) = (fun j : Fin N => f' j.val) from funext fun j => h j.val j.isLt]
theorem cb_ai {D : va_G} {cl : List vw_C} {a n : Nat} {c : ClassId} {f f' : Nat → Int32} {H : Heap} (e : ∀ j, j < n → f j = f' j) (h : va_at D cl (a, .inl (c, n, .inl f)) H) : va_at D cl (a, .inl (c, n, .inl f')) H := by
  have h : H[a]? = some (arrV c n (fun j => .int (f j))) := h
  show H[a]? = some (arrV c n (fun j => .int (f' j)))
  rw [h, cb_arrV_ext (fun j hj => by rw [e j hj])]
theorem cb_aq {D : va_G} {cl : List vw_C} {a n : Nat} {c : ClassId} {f f' : Nat → Option Nat} {H : Heap} (e : ∀ j, j < n → f j = f' j) (h : va_at D cl (a, .inl (c, n, .inr (.inr (.inr (.inr f))))) H) : va_at D cl (a, .inl (c, n, .inr (.inr (.inr (.inr f'))))) H := by
  have h : H[a]? = some (arrV c n (fun j => va_rf (f j))) := h
  show H[a]? = some (arrV c n (fun j => va_rf (f' j)))
  rw [h, cb_arrV_ext (fun j hj => by rw [e j hj])]
theorem cb_ty_o {D : va_G} {cl : List vw_C} {tys tys' : List (ClassId × FieldType)} {s : State} {c c' : ClassId} {C : String} (h : va_K D cl tys s) (h' : va_K D cl tys' s) (i j : Nat) (hi : tys[i]? = some (c, .object C)) (hj : tys'[j]? = some (c', .object C)) : c = c' := by
  obtain ⟨kA, comp, -, -, -, h1⟩ := (h.2 i _ hi).2
  obtain ⟨kB, comp', -, -, -, h2⟩ := (h'.2 j _ hj).2
  exact Option.some.inj (h1.symm.trans h2)
theorem cb_ty_p {D : va_G} {cl : List vw_C} {tys tys' : List (ClassId × FieldType)} {s : State} {c c' : ClassId} {ty : FieldType} (hty : ty = .int ∨ ty = .boolean ∨ ty = .long) (h : va_K D cl tys s) (h' : va_K D cl tys' s) (i j : Nat) (hi : tys[i]? = some (c, ty)) (hj : tys'[j]? = some (c', ty)) : c = c' := by
  have h1 := (h.2 i _ hi).2
  have h2 := (h'.2 j _ hj).2
  rcases hty with rfl | rfl | rfl <;> exact Option.some.inj (Eq.trans (Eq.symm h1) h2)
/-- what the constructors and the calls carry beside the words of the one list -/
def cb_N (U : State) : Prop := (va_Nw (.declares ⟨RX2, "encoded", "(I)I"⟩) U ∧ va_Nw (.declares ⟨RX2, "decoded", "(I)I"⟩) U) ∧ (va_Nw (.methodLinkNest RX1 11 yX3_init RX1) U ∧ va_Nw (.methodLinkNest RX3 1 yX2_init RX1) U ∧ va_Nw (.methodLinkNest RX1 14 yX4_init RX1) U ∧ va_Nw (.methodLinkNest RX4 1 yX2_init RX1) U ∧ va_Nw (.methodLinkNest RX1 31 yX5_init RX1) U) ∧ (va_AO RX2 U ∧ va_AO RX5 U) ∧ va_Nw (.castable RX3 RX2) U ∧ va_Nw (.castable RX4 RX2) U
theorem cb_N.warm {s U : State} (hW : s.WarmedH U.vm) (h : cb_N s) : cb_N U := by
  obtain ⟨⟨a1, a2⟩, ⟨b1, b2, b3, b4, b5⟩, ⟨c1, c2⟩, d1, d2⟩ := h
  exact ⟨⟨va_Nw.warmD hW a1, va_Nw.warmD hW a2⟩, ⟨va_Nw.warmM hW b1, va_Nw.warmM hW b2, va_Nw.warmM hW b3, va_Nw.warmM hW b4, va_Nw.warmM hW b5⟩, ⟨va_AO.moved hW.alike c1, va_AO.moved hW.alike c2⟩, va_Nw.warmC hW d1, va_Nw.warmC hW d2⟩
theorem cb_N.same {U U' : State} (e : U.vm = U'.vm) (h : cb_N U) : cb_N U' := by
  obtain ⟨⟨a1, a2⟩, ⟨b1, b2, b3, b4, b5⟩, ⟨c1, c2⟩, d1, d2⟩ := h
  exact ⟨⟨va_tabs rfl e a1, va_tabs rfl e a2⟩, ⟨va_tabs rfl e b1, va_tabs rfl e b2, va_tabs rfl e b3, va_tabs rfl e b4, va_tabs rfl e b5⟩, ⟨va_AO.moved (by rw [e]; exact Vm.Alike.refl _) c1, va_AO.moved (by rw [e]; exact Vm.Alike.refl _) c2⟩, va_tabs rfl e d1, va_tabs rfl e d2⟩
end
section
/-! the bridge's constructors -/
set_option maxRecDepth 100000
set_option maxHeartbeats 4000000 in
set_option maxRecDepth 100000 in
theorem met_iLaw (l : Launch) (a : Nat) : Met l yX2_init (ws_ yX2_init cX2_init 1 none) ({ frames := 1, cells := 0, slots := 0, locals := 12 } : Room) (cb_Pp [.ref a]) (cb_Qp none) 0 0 cb_no := by
  refine Met.ofW (cc := cX2_init) (maxL := 1) (ret := none) (by decide) rfl ?_
  intro p e s m args below meth c s₁ B hml hv
  obtain ⟨rfl, hv⟩ := hv
  have hx := B.exec
  have hb := B.bytes
  have hr := B.returns
  have hts := atoms_spec (ws := (ws_ yX2_init cX2_init 1 none)) B.pre
  have hts : ∀ w ∈ lw_all, w.before _ s = true := fun w h => hts w (List.mem_cons_of_mem _ h)
  have hown : s.vm.findClass RX2 = some m.cls := findClass_of_methodNamed B.named
  have hlocks := B.notSynchronized
  have hl := lv_entry ([.ref a]) (n := 1) (Nat.le_of_ble_eq_true rfl)
  rw [lg_entry_eq]
  generalize (lg_sl ([.ref a]) ++ List.replicate (1 - (lg_sl ([.ref a])).length) Slot.unset).toArray = ls at hl ⊢
  have hl : lv_has ls 1 [(0, .ref a)] := hl
  have hin : meth.name = "<init>" := (name_of_methodNamed B.named B.method).1
  refine lv_aload_n hx hb dX2_init_0 rfl (lv_at hl 0 rfl) ?_
  refine W.objInit hx hb hown (hts _ q33) (hts _ q21) (hts _ q22) rfl (by rw [hml]; exact hl.1) rfl dX2_init_1 (Nat.le_of_ble_eq_true rfl) (Nat.le_of_ble_eq_true rfl) ?_
  refine W.eq (g2 := F0 m 4 ls []) rfl ?_
  exact W.vret hx hb hr (fun t ht hW => ⟨rfl, ht⟩) cb_nl dX2_init_4
set_option maxHeartbeats 4000000 in
set_option maxRecDepth 100000 in
theorem met_iAL (l : Launch) (a : Nat) : Met l yX3_init (ws_ yX3_init cX3_init 1 none) ({ frames := 2, cells := 0, slots := 0, locals := 32 } : Room) (va_Pc [.ref a] (fun U => va_Nw (.methodLinkNest RX3 1 yX2_init RX1) U)) (cb_Qp none) 0 0 cb_no := by
  refine Met.ofW (cc := cX3_init) (maxL := 1) (ret := none) (by decide) rfl ?_
  intro p e s m args below meth c s₁ B hml hv
  obtain ⟨rfl, hv⟩ := hv
  have hx := B.exec
  have hb := B.bytes
  have hr := B.returns
  have hts := atoms_spec (ws := (ws_ yX3_init cX3_init 1 none)) B.pre
  have hts : ∀ w ∈ lw_all, w.before _ s = true := fun w h => hts w (List.mem_cons_of_mem _ h)
  have hown : s.vm.findClass RX3 = some m.cls := findClass_of_methodNamed B.named
  have hlocks := B.notSynchronized
  have hl := lv_entry ([.ref a]) (n := 1) (Nat.le_of_ble_eq_true rfl)
  rw [lg_entry_eq]
  generalize (lg_sl ([.ref a]) ++ List.replicate (1 - (lg_sl ([.ref a])).length) Slot.unset).toArray = ls at hl ⊢
  have hl : lv_has ls 1 [(0, .ref a)] := hl
  have hin : meth.name = "<init>" := (name_of_methodNamed B.named B.method).1
  refine lv_aload_n hx hb dX3_init_0 rfl (lv_at hl 0 rfl) ?_
  refine cb_callP (va_runIN (As := []) (rest := []) ⟨hx, hb, hml, hown, hts⟩ (met_iLaw l a) ⟨va_cnB 0 hts (lw_meth q32) rfl rfl rfl hv (hts _ q4) (by decide +kernel) ⟨Nat.le_of_ble_eq_true rfl, Nat.le_of_ble_eq_true rfl⟩, rfl, hts _ q31⟩ cb_preS rfl rfl hl.1 rfl (lv_room (Nat.le_of_ble_eq_true rfl)) dX3_init_1 ⟨Nat.zero_le _, Nat.zero_le _⟩) ?_
  exact W.vret hx hb hr (fun t ht hW => ⟨rfl, ht⟩) cb_nl dX3_init_4
set_option maxHeartbeats 4000000 in
set_option maxRecDepth 100000 in
theorem met_iMU (l : Launch) (a : Nat) : Met l yX4_init (ws_ yX4_init cX4_init 1 none) ({ frames := 2, cells := 0, slots := 0, locals := 32 } : Room) (va_Pc [.ref a] (fun U => va_Nw (.methodLinkNest RX4 1 yX2_init RX1) U)) (cb_Qp none) 0 0 cb_no := by
  refine Met.ofW (cc := cX4_init) (maxL := 1) (ret := none) (by decide) rfl ?_
  intro p e s m args below meth c s₁ B hml hv
  obtain ⟨rfl, hv⟩ := hv
  have hx := B.exec
  have hb := B.bytes
  have hr := B.returns
  have hts := atoms_spec (ws := (ws_ yX4_init cX4_init 1 none)) B.pre
  have hts : ∀ w ∈ lw_all, w.before _ s = true := fun w h => hts w (List.mem_cons_of_mem _ h)
  have hown : s.vm.findClass RX4 = some m.cls := findClass_of_methodNamed B.named
  have hlocks := B.notSynchronized
  have hl := lv_entry ([.ref a]) (n := 1) (Nat.le_of_ble_eq_true rfl)
  rw [lg_entry_eq]
  generalize (lg_sl ([.ref a]) ++ List.replicate (1 - (lg_sl ([.ref a])).length) Slot.unset).toArray = ls at hl ⊢
  have hl : lv_has ls 1 [(0, .ref a)] := hl
  have hin : meth.name = "<init>" := (name_of_methodNamed B.named B.method).1
  refine lv_aload_n hx hb dX4_init_0 rfl (lv_at hl 0 rfl) ?_
  refine cb_callP (va_runIN (As := []) (rest := []) ⟨hx, hb, hml, hown, hts⟩ (met_iLaw l a) ⟨va_cnB 0 hts (lw_meth q32) rfl rfl rfl hv (hts _ q4) (by decide +kernel) ⟨Nat.le_of_ble_eq_true rfl, Nat.le_of_ble_eq_true rfl⟩, rfl, hts _ q31⟩ cb_preS rfl rfl hl.1 rfl (lv_room (Nat.le_of_ble_eq_true rfl)) dX4_init_1 ⟨Nat.zero_le _, Nat.zero_le _⟩) ?_
  exact W.vret hx hb hr (fun t ht hW => ⟨rfl, ht⟩) cb_nl dX4_init_4
def cb_new (q sz : Nat) : Nat → Prop := fun x => x = q ∨ sz ≤ x
def cb_PP (D : va_G) (tc : Nat → ClassId) (q sz : Nat) (U : State) : Prop := U.heap.size = sz ∧ va_P D cbCl [(q, .inr (3, [.null, .int 0, .int 0, .int 0, .null, .null, .null, .long 0]))] U.heap ∧ va_K D cbCl (cb_tys tc) U
def cb_QP0 (D : va_G) (tc : Nat → ClassId) (q sz : Nat) (t : State) : Prop := ∃ i s3 o3 : Nat, va_P D cbCl [(q, .inr (3, [.null, .int 256, .int 0, .int 0, .ref i, .ref s3, .ref o3, .long 0])), (i, .inl (tc 2, 8, .inl (fun _ => 0))), (s3, .inl (tc 2, 8, .inl (fun _ => 0))), (o3, .inl (tc 2, 8, .inl (fun _ => 0)))] t.heap ∧ va_D (cb_new q sz) [(q, .inr (3, [.null, .int 256, .int 0, .int 0, .ref i, .ref s3, .ref o3, .long 0])), (i, .inl (tc 2, 8, .inl (fun _ => 0))), (s3, .inl (tc 2, 8, .inl (fun _ => 0))), (o3, .inl (tc 2, 8, .inl (fun _ => 0)))]
def cb_QP (D : va_G) (tc : Nat → ClassId) (q sz : Nat) : Array Value → State → Outcome → State → Prop := fun _ st o t => o = .returned none ∧ cb_QP0 D tc q sz t ∧ va_F (cb_new q sz) st t
theorem cb_blindP {D : va_G} {tc : Nat → ClassId} {q sz : Nat} {av : List Value} : FrameBlind (va_Pc av (cb_PP D tc q sz)) := by
  intro z U f mk h
  obtain ⟨h1, h2, h3, h4⟩ := h
  exact ⟨h1, h2, h3, va_K.moved (u := U) (U := U.calling f mk z) (Vm.Alike.refl U.vm) h4⟩
set_option maxHeartbeats 4000000 in
set_option maxRecDepth 100000 in
theorem met_iParty (l : Launch) (D : va_G) (tc : Nat → ClassId) (q sz : Nat) : Met l yX5_init (ws_ yX5_init cX5_init 1 none) ({ frames := 1, cells := 3, slots := 24, locals := 12 } : Room) (va_Pc [.ref q] (cb_PP D tc q sz)) (cb_QP D tc q sz) 3 24 (cb_new q sz) := by
  refine Met.ofW (cc := cX5_init) (maxL := 1) (ret := none) (by decide) rfl ?_
  intro p e s m args below meth c s₁ B hml hv
  obtain ⟨rfl, hv⟩ := hv
  have hx := B.exec
  have hb := B.bytes
  have hr := B.returns
  have hts := atoms_spec (ws := (ws_ yX5_init cX5_init 1 none)) B.pre
  have hts : ∀ w ∈ lw_all, w.before _ s = true := fun w h => hts w (List.mem_cons_of_mem _ h)
  have hown : s.vm.findClass RX5 = some m.cls := findClass_of_methodNamed B.named
  have hlocks := B.notSynchronized
  have hl := lv_entry ([.ref q]) (n := 1) (Nat.le_of_ble_eq_true rfl)
  rw [lg_entry_eq]
  generalize (lg_sl ([.ref q]) ++ List.replicate (1 - (lg_sl ([.ref q])).length) Slot.unset).toArray = ls at hl ⊢
  have hl : lv_has ls 1 [(0, .ref q)] := hl
  have hin : meth.name = "<init>" := (name_of_methodNamed B.named B.method).1
  obtain ⟨rfl, hP, hK⟩ := hv
  have hD : va_D (cb_new q s.heap.size) [(q, .inr (3, [.null, .int 0, .int 0, .int 0, .null, .null, .null, .long 0]))] := ⟨fun i j x y hx hy _ => by have := (List.getElem?_eq_some_iff.mp hx).1; have := (List.getElem?_eq_some_iff.mp hy).1; simp only [List.length_cons, List.length_nil] at *; omega, fun k x hk => by have h0 := (List.getElem?_eq_some_iff.mp hk).1; rcases (show k = 0 by simp only [List.length_cons, List.length_nil] at h0; omega) with rfl; cases hk; exact Or.inl rfl⟩
  have hA : ∀ x : Nat, s.heap.size ≤ x → cb_new q s.heap.size x := fun x h => Or.inr h
  have hS : va_S (cb_new q s.heap.size) s.heap s.heap [] := va_S.rf
  refine lv_aload_n hx hb dX5_init_0 rfl (lv_at hl 0 rfl) ?_
  refine W.objInit hx hb hown (hts _ q48) (hts _ q21) (hts _ q22) rfl (by rw [hml]; exact hl.1) rfl dX5_init_1 (Nat.le_of_ble_eq_true rfl) (Nat.le_of_ble_eq_true rfl) ?_
  refine W.eq (g2 := F0 m 4 ls []) rfl ?_
  refine lv_aload_n hx hb dX5_init_4 rfl (lv_at hl 0 rfl) ?_
  refine lv_sipush (v := 256) hx hb dX5_init_5 (by decide) ?_
  refine va_put (D := D) (ci := 3) (v := .int 256) (ty := .int) (C := RX5) (T := TX5) (N := 8) hx hb hts in_X5 tyX5 tyX5_ok nmX5 hown hK hP hD hS 0 rfl rfl 1 (by decide) (hts _ q50) (fun _ h9 => h9) rfl (by decide +kernel) rfl rfl (Nat.le_of_ble_eq_true rfl) dX5_init_8 (fun H locs hP hD hS => ?_)
  have hP : va_P D cbCl [(q, .inr (3, [.null, .int 256, .int 0, .int 0, .null, .null, .null, .long 0]))] H := hP
  have hD : va_D (cb_new q s.heap.size) [(q, .inr (3, [.null, .int 256, .int 0, .int 0, .null, .null, .null, .long 0]))] := hD
  refine lv_aload_n hx hb dX5_init_11 rfl (lv_at hl 0 rfl) ?_
  refine lv_bipush (v := 8) hx hb dX5_init_12 (by decide) ?_
  refine va_newa (atype := .int) (ty := .int) (a0 := (8, .inl (fun _ => 0))) hx hb (hts _ q78) rfl hK hP hD hS hA (fun _ => rfl) (by decide) (by decide) (by decide) (Nat.le_of_ble_eq_true rfl) (Nat.le_of_ble_eq_true rfl) dX5_init_14 (fun i cA H hK9 hP hD hS => ?_)
  obtain rfl : tc 2 = cA := cb_ty_p (Or.inl rfl) hK hK9 2 5 rfl rfl
  have hP : va_P D cbCl [(q, .inr (3, [.null, .int 256, .int 0, .int 0, .null, .null, .null, .long 0])), (i, .inl (tc 2, 8, .inl (fun _ => 0)))] H := hP
  have hD : va_D (cb_new q s.heap.size) [(q, .inr (3, [.null, .int 256, .int 0, .int 0, .null, .null, .null, .long 0])), (i, .inl (tc 2, 8, .inl (fun _ => 0)))] := hD
  refine va_putF (D := D) (ci := 3) (v := .ref i) (ty := .array .int) (C := RX5) (T := TX5) (N := 8) hx hb hts in_X5 tyX5 tyX5_ok nmX5 hown hK hP hD hS 0 rfl rfl 4 (by decide) (hts _ q54) (fun _ h9 => h9) rfl hin rfl (by decide +kernel) rfl rfl (Nat.le_of_ble_eq_true rfl) dX5_init_16 (fun H locs hP hD hS => ?_)
  have hP : va_P D cbCl [(q, .inr (3, [.null, .int 256, .int 0, .int 0, .ref i, .null, .null, .long 0])), (i, .inl (tc 2, 8, .inl (fun _ => 0)))] H := hP
  have hD : va_D (cb_new q s.heap.size) [(q, .inr (3, [.null, .int 256, .int 0, .int 0, .ref i, .null, .null, .long 0])), (i, .inl (tc 2, 8, .inl (fun _ => 0)))] := hD
  refine lv_aload_n hx hb dX5_init_19 rfl (lv_at hl 0 rfl) ?_
  refine lv_bipush (v := 8) hx hb dX5_init_20 (by decide) ?_
  refine va_newa (atype := .int) (ty := .int) (a0 := (8, .inl (fun _ => 0))) hx hb (hts _ q78) rfl hK hP hD hS hA (fun _ => rfl) (by decide) (by decide) (by decide) (Nat.le_of_ble_eq_true rfl) (Nat.le_of_ble_eq_true rfl) dX5_init_22 (fun s3 cA H hK9 hP hD hS => ?_)
  obtain rfl : tc 2 = cA := cb_ty_p (Or.inl rfl) hK hK9 2 5 rfl rfl
  have hP : va_P D cbCl [(q, .inr (3, [.null, .int 256, .int 0, .int 0, .ref i, .null, .null, .long 0])), (i, .inl (tc 2, 8, .inl (fun _ => 0))), (s3, .inl (tc 2, 8, .inl (fun _ => 0)))] H := hP
  have hD : va_D (cb_new q s.heap.size) [(q, .inr (3, [.null, .int 256, .int 0, .int 0, .ref i, .null, .null, .long 0])), (i, .inl (tc 2, 8, .inl (fun _ => 0))), (s3, .inl (tc 2, 8, .inl (fun _ => 0)))] := hD
  refine va_putF (D := D) (ci := 3) (v := .ref s3) (ty := .array .int) (C := RX5) (T := TX5) (N := 8) hx hb hts in_X5 tyX5 tyX5_ok nmX5 hown hK hP hD hS 0 rfl rfl 5 (by decide) (hts _ q56) (fun _ h9 => h9) rfl hin rfl (by decide +kernel) rfl rfl (Nat.le_of_ble_eq_true rfl) dX5_init_24 (fun H locs hP hD hS => ?_)
  have hP : va_P D cbCl [(q, .inr (3, [.null, .int 256, .int 0, .int 0, .ref i, .ref s3, .null, .long 0])), (i, .inl (tc 2, 8, .inl (fun _ => 0))), (s3, .inl (tc 2, 8, .inl (fun _ => 0)))] H := hP
  have hD : va_D (cb_new q s.heap.size) [(q, .inr (3, [.null, .int 256, .int 0, .int 0, .ref i, .ref s3, .null, .long 0])), (i, .inl (tc 2, 8, .inl (fun _ => 0))), (s3, .inl (tc 2, 8, .inl (fun _ => 0)))] := hD
  refine lv_aload_n hx hb dX5_init_27 rfl (lv_at hl 0 rfl) ?_
  refine lv_bipush (v := 8) hx hb dX5_init_28 (by decide) ?_
  refine va_newa (atype := .int) (ty := .int) (a0 := (8, .inl (fun _ => 0))) hx hb (hts _ q78) rfl hK hP hD hS hA (fun _ => rfl) (by decide) (by decide) (by decide) (Nat.le_of_ble_eq_true rfl) (Nat.le_of_ble_eq_true rfl) dX5_init_30 (fun o3 cA H hK9 hP hD hS => ?_)
  obtain rfl : tc 2 = cA := cb_ty_p (Or.inl rfl) hK hK9 2 5 rfl rfl
  have hP : va_P D cbCl [(q, .inr (3, [.null, .int 256, .int 0, .int 0, .ref i, .ref s3, .null, .long 0])), (i, .inl (tc 2, 8, .inl (fun _ => 0))), (s3, .inl (tc 2, 8, .inl (fun _ => 0))), (o3, .inl (tc 2, 8, .inl (fun _ => 0)))] H := hP
  have hD : va_D (cb_new q s.heap.size) [(q, .inr (3, [.null, .int 256, .int 0, .int 0, .ref i, .ref s3, .null, .long 0])), (i, .inl (tc 2, 8, .inl (fun _ => 0))), (s3, .inl (tc 2, 8, .inl (fun _ => 0))), (o3, .inl (tc 2, 8, .inl (fun _ => 0)))] := hD
  refine va_putF (D := D) (ci := 3) (v := .ref o3) (ty := .array .int) (C := RX5) (T := TX5) (N := 8) hx hb hts in_X5 tyX5 tyX5_ok nmX5 hown hK hP hD hS 0 rfl rfl 6 (by decide) (hts _ q58) (fun _ h9 => h9) rfl hin rfl (by decide +kernel) rfl rfl (Nat.le_of_ble_eq_true rfl) dX5_init_32 (fun H locs hP hD hS => ?_)
  have hP : va_P D cbCl [(q, .inr (3, [.null, .int 256, .int 0, .int 0, .ref i, .ref s3, .ref o3, .long 0])), (i, .inl (tc 2, 8, .inl (fun _ => 0))), (s3, .inl (tc 2, 8, .inl (fun _ => 0))), (o3, .inl (tc 2, 8, .inl (fun _ => 0)))] H := hP
  have hD : va_D (cb_new q s.heap.size) [(q, .inr (3, [.null, .int 256, .int 0, .int 0, .ref i, .ref s3, .ref o3, .long 0])), (i, .inl (tc 2, 8, .inl (fun _ => 0))), (s3, .inl (tc 2, 8, .inl (fun _ => 0))), (o3, .inl (tc 2, 8, .inl (fun _ => 0)))] := hD
  exact W.vret hx hb hr (fun t ht hW => ⟨rfl, ⟨i, s3, o3, by rw [ht]; exact hP, hD⟩, hS.F ht⟩) hS.2.2 dX5_init_35
end
section
/-! the bridge's own constructor -/
set_option maxRecDepth 100000
def cb_iniF (n k : Nat) : Nat → Nat → Int32 := fun j i => if (j < n ∧ i < 8) ∨ (j = n ∧ i < k) then cb_enc (j % 2) 0 else 0
def cb_ini (n k : Nat) : cb_S := (fun p => p % 2, fun _ => 256, fun _ => 0, fun _ => 0, cb_iniF n k, fun _ _ => 0, cb_iniF n k, fun _ => 0, 3)
def cb_S0 : cb_S := cb_ini 8 0
theorem cb_iniF_s (n k : Nat) : va_up (cb_iniF n k) n (upd (cb_iniF n k n) k (cb_enc (n % 2) 0)) = cb_iniF n (k + 1) := by
  funext j i
  show (if j = n then (fun x => if x = k then cb_enc (n % 2) 0 else cb_iniF n k n x) else cb_iniF n k j) i = cb_iniF n (k + 1) j i
  unfold cb_iniF
  by_cases e : j = n
  · subst e
    rw [if_pos rfl]
    by_cases e2 : i = k
    · subst e2
      rw [if_pos (show (j < j ∧ i < 8) ∨ (j = j ∧ i < i + 1) by omega)]
      exact if_pos rfl
    · by_cases h : i < k
      · rw [if_pos (show (j < j ∧ i < 8) ∨ (j = j ∧ i < k + 1) by omega)]
        exact (if_neg e2).trans (if_pos (by omega))
      · rw [if_neg (show ¬ ((j < j ∧ i < 8) ∨ (j = j ∧ i < k + 1)) by omega)]
        exact (if_neg e2).trans (if_neg (by omega))
  · rw [if_neg e]
    by_cases h : j < n ∧ i < 8
    · rw [if_pos (show (j < n ∧ i < 8) ∨ (j = n ∧ i < k + 1) by omega)]
      exact if_pos (by omega)
    · rw [if_neg (show ¬ ((j < n ∧ i < 8) ∨ (j = n ∧ i < k + 1)) by omega)]
      exact if_neg (by omega)
theorem cb_iniF_8 (n : Nat) : cb_iniF n 8 = cb_iniF (n + 1) 0 := by
  funext j i
  unfold cb_iniF
  by_cases h : (j < n ∧ i < 8) ∨ (j = n ∧ i < 8)
  · rw [if_pos h, if_pos (by omega)]
  · rw [if_neg h, if_neg (by omega)]
theorem cb_ini_s (n k : Nat) : cb_sOu (cb_sIn (cb_ini n k) n k (cb_enc (n % 2) 0)) n k (cb_enc (n % 2) 0) = cb_ini n (k + 1) := by
  show ((fun p => p % 2, fun _ => 256, fun _ => 0, fun _ => 0, va_up (cb_iniF n k) n (upd (cb_iniF n k n) k (cb_enc (n % 2) 0)), fun _ _ => 0, va_up (cb_iniF n k) n (upd (cb_iniF n k n) k (cb_enc (n % 2) 0)), fun _ => 0, 3) : cb_S) = cb_ini n (k + 1)
  rw [cb_iniF_s]
  rfl
theorem cb_ini_8 (n : Nat) : cb_ini n 8 = cb_ini (n + 1) 0 := by
  unfold cb_ini
  rw [cb_iniF_8]
theorem cb_iniF_0 (n : Nat) : cb_iniF n 0 n = fun _ => 0 := by
  funext i
  unfold cb_iniF
  rw [if_neg (by omega)]
theorem cb_rng0 : cb_rng 0 := by unfold cb_rng; decide
/-- a cell put behind a world; a callee's cells in its place -/
theorem cb_lastP {D : va_G} {cl : List vw_C} {ws : va_W} {x : Nat × va_E} {H : Heap} (h : va_P D cl (ws ++ [x]) H) : va_P D cl [x] H := by
  intro k q hk
  have h0 : k < 1 := (List.getElem?_eq_some_iff.mp hk).1
  obtain rfl : k = 0 := by omega
  cases hk
  exact h ws.length x (by rw [List.getElem?_append_right (Nat.le_refl _), Nat.sub_self]; rfl)
theorem cb_joinL {D : va_G} {cl : List vw_C} {A : Nat → Prop} {ws w1 : va_W} {a : Nat} {x : va_E} {H H1 : Heap} (hP : va_P D cl (ws ++ [(a, x)]) H) (hD : va_D A (ws ++ [(a, x)])) (hk : ∀ q : Nat, q < H.size → ¬ cb_new a H.size q → H1[q]? = H[q]?) (hF : ∀ q, cb_new a H.size q → A q) (hP1 : va_P D cl w1 H1) (hD1 : va_D (cb_new a H.size) w1) : va_P D cl (ws ++ w1) H1 ∧ va_D A (ws ++ w1) := by
  have at1 : ∀ (k : Nat) (q : Nat × va_E), ws[k]? = some q → (ws ++ [(a, x)])[k]? = some q := fun k q h => by
    rw [List.getElem?_append_left (List.getElem?_eq_some_iff.mp h).1]; exact h
  have at2 : (ws ++ [(a, x)])[ws.length]? = some (a, x) := by rw [List.getElem?_append_right (Nat.le_refl _), Nat.sub_self]; rfl
  have ap : ∀ (k : Nat) (q : Nat × va_E), ws[k]? = some q → q.1 < H.size ∧ ¬ cb_new a H.size q.1 := by
    intro k q h
    have hl := (hP k q (at1 k q h)).lt
    refine ⟨hl, fun h2 => ?_⟩
    rcases h2 with h2 | h2
    · have e := hD.1 k ws.length q (a, x) (at1 k q h) at2 h2
      have := (List.getElem?_eq_some_iff.mp h).1
      omega
    · omega
  refine ⟨va_P.app (fun k q h => (hP k q (at1 k q h)).kept (hk q.1 (ap k q h).1 (ap k q h).2)) hP1, va_D.app ⟨fun i j p q hi hj e => hD.1 i j p q (at1 i p hi) (at1 j q hj) e, fun k q h => hD.2 k q (at1 k q h)⟩ (hD1.weaken (fun k q _ h => hF q.1 h)) (fun i j p q hi hj e => ?_)⟩
  exact (ap i p hi).2 (by rw [e]; exact hD1.2 j q hj)
abbrev cb_pl (t : Nat → ClassId) (qp qi qs qo : Nat) (P0 : List Value) : va_W := [(qp, .inr (3, P0)), (qi, .inl (t 2, 8, .inl (fun _ => 0))), (qs, .inl (t 2, 8, .inl (fun _ => 0))), (qo, .inl (t 2, 8, .inl (fun _ => 0)))]
theorem cb_gext (g : Nat → Nat) (i qp qi qs qo : Nat) : ∃ g' : Nat → Nat, (∀ k, k < 5 + 4 * i → g' k = g k) ∧ g' (5 + 4 * i) = qp ∧ g' (6 + 4 * i) = qi ∧ g' (7 + 4 * i) = qs ∧ g' (8 + 4 * i) = qo := by
  refine ⟨fun k => if k < 5 + 4 * i then g k else if k = 5 + 4 * i then qp else if k = 6 + 4 * i then qi else if k = 7 + 4 * i then qs else qo, fun k h => if_pos h, ?_, ?_, ?_, ?_⟩
  · dsimp only; rw [if_neg (by omega), if_pos rfl]
  · dsimp only; rw [if_neg (by omega), if_neg (by omega), if_pos rfl]
  · dsimp only; rw [if_neg (by omega), if_neg (by omega), if_neg (by omega), if_pos rfl]
  · dsimp only; rw [if_neg (by omega), if_neg (by omega), if_neg (by omega), if_neg (by omega)]
/-- one more party -/
theorem cb_grow {t : Nat → ClassId} {g g' : Nat → Nat} {S : cb_S} {n qp qi qs qo : Nat} {P0 : List Value} (hg : ∀ k, k < 5 + 4 * n → g' k = g k) (hp : g' (5 + 4 * n) = qp) (hi : g' (6 + 4 * n) = qi) (hs : g' (7 + 4 * n) = qs) (ho : g' (8 + 4 * n) = qo) (hlw : ∀ j, j ≤ n → cb_lw S j < 2) (hi0 : cb_ii S n = fun _ => 0) (hs0 : cb_sm S n = fun _ => 0) (ho0 : cb_ou S n = fun _ => 0) :
    ((cb_w t g S n ++ cb_pl t qp qi qs qo P0).set 4 (g 4, .inl (t 1, 8, .inr (.inr (.inr (.inr (va_up (fun j => if j < n then some (g (5 + 4 * j)) else none) n (some qp)))))))).set (5 + 4 * n) (qp, .inr (3, [.ref (g (2 + cb_lw S n)), .int (cb_gn S n), .int (cb_mu S n), .int (cb_sp S n), .ref qi, .ref qs, .ref qo, .long (cb_en S n)])) = cb_w t g' S (n + 1) := by
  have hlen : (cb_w t g S n ++ cb_pl t qp qi qs qo P0 : va_W).length = 9 + 4 * n := by
    rw [List.length_append, cb_w_len]; simp only [List.length_cons, List.length_nil]; omega
  have hpf : ∀ j, j < n → cb_pf g' S j = cb_pf g S j := by
    intro j hj
    unfold cb_pf
    rw [hg _ (show 2 + cb_lw S j < 5 + 4 * n by have := hlw j (by omega); omega), hg _ (show 6 + 4 * j < 5 + 4 * n by omega), hg _ (show 7 + 4 * j < 5 + 4 * n by omega), hg _ (show 8 + 4 * j < 5 + 4 * n by omega)]
  apply List.ext_getElem?
  intro k
  by_cases h9 : k < 9 + 4 * n
  · rw [cb_w_at (show k < 5 + 4 * (n + 1) by omega) rfl]
    by_cases h5 : k = 5 + 4 * n
    · subst h5
      rw [List.getElem?_set_self (by rw [List.length_set, hlen]; omega), cb_e_p, hp]
      unfold cb_pf
      rw [hg _ (show 2 + cb_lw S n < 5 + 4 * n by have := hlw n (Nat.le_refl n); omega), hi, hs, ho]
    · rw [List.getElem?_set_ne (Ne.symm h5)]
      by_cases h4 : k = 4
      · subst h4
        rw [List.getElem?_set_self (by rw [hlen]; omega), hg 4 (by omega)]
        congr 1
        congr 1
        unfold cb_e
        rw [if_neg (by decide), if_neg (by decide), if_neg (by decide), if_neg (by decide), if_pos rfl]
        congr 1
        congr 1
        congr 1
        congr 1
        congr 1
        congr 1
        congr 1
        funext j
        unfold va_up
        by_cases e : j = n
        · subst e
          rw [if_pos rfl, if_pos (by omega), hp]
        · rw [if_neg e]
          show (if j < n then some (g (5 + 4 * j)) else none) = _
          by_cases e2 : j < n
          · rw [if_pos e2, if_pos (by omega), hg _ (by omega)]
          · rw [if_neg e2, if_neg (by omega)]
      · rw [List.getElem?_set_ne (Ne.symm h4)]
        by_cases hk : k < 5 + 4 * n
        · rw [List.getElem?_append_left (by rw [cb_w_len]; exact hk), cb_w_at hk rfl, hg k hk]
          congr 1
          congr 1
          rcases cb_kind k with rfl | rfl | rfl | rfl | rfl | ⟨j, rfl⟩ | ⟨j, rfl⟩ | ⟨j, rfl⟩ | ⟨j, rfl⟩
          · show (.inr (0, [.ref (g 1), .ref (g 4), .int (cb_mo S)]) : va_E) = .inr (0, [.ref (g' 1), .ref (g' 4), .int (cb_mo S)])
            rw [hg 1 (by omega), hg 4 (by omega)]
          · show (.inl (t 0, 2, .inr (.inr (.inr (.inr (fun j => if j < 2 then some (g (2 + j)) else none))))) : va_E) = .inl (t 0, 2, .inr (.inr (.inr (.inr (fun j => if j < 2 then some (g' (2 + j)) else none)))))
            rw [show (fun j => if j < 2 then some (g (2 + j)) else none) = (fun j => if j < 2 then some (g' (2 + j)) else none) from funext fun j => by
              by_cases e : j < 2
              · rw [if_pos e, if_pos e, hg _ (by omega)]
              · rw [if_neg e, if_neg e]]
          · rfl
          · rfl
          · exact absurd rfl h4
          · rw [cb_e_p, cb_e_p, hpf j (by omega)]
          · rw [cb_e_i, cb_e_i]
          · rw [cb_e_s, cb_e_s]
          · rw [cb_e_o, cb_e_o]
        · rw [List.getElem?_append_right (by rw [cb_w_len]; omega), cb_w_len]
          rcases (show k = 6 + 4 * n ∨ k = 7 + 4 * n ∨ k = 8 + 4 * n by omega) with rfl | rfl | rfl
          · rw [show 6 + 4 * n - (5 + 4 * n) = 1 by omega, cb_e_i, hi0, hi]; rfl
          · rw [show 7 + 4 * n - (5 + 4 * n) = 2 by omega, cb_e_s, hs0, hs]; rfl
          · rw [show 8 + 4 * n - (5 + 4 * n) = 3 by omega, cb_e_o, ho0, ho]; rfl
  · rw [List.getElem?_eq_none (by rw [List.length_set, List.length_set, hlen]; omega), List.getElem?_eq_none (by rw [cb_w_len]; omega)]
set_option maxHeartbeats 4000000 in
set_option maxRecDepth 100000 in
theorem binik_loop {p : Program} {l : Launch} {e : Env} {s : State} {m : MethodId} {args : Array Value} {below : List Frame} {meth : Method} {c : Code} {Q : State → Prop} {D : va_G} {tc : Nat → ClassId} {A : Nat → Prop} {g : Nat → Nat} {j : Nat} (hx : p.tables.exec = Jvm.exec) (hb : c.code = cX1_init) (hml : c.maxLocals = 3) (hts : ∀ w ∈ lw_all, w.before args s = true) (hown : s.vm.findClass RX1 = some m.cls) (hN : cb_N s) (hA : ∀ x : Nat, s.heap.size ≤ x → A x) (hj : j < 8) (K : ∀ (H : Heap) (locs : List Loc), cb_B D tc g A s s.heap (cb_ini j 8) (j + 1) H locs → ∀ ls : Array Slot, lv_has ls 3 [(1, .int (nI j)), (0, .ref (g 0))] → W p l e (headSpec (ws_ yX1_init cX1_init 3 none) ({ frames := 3, cells := 36, slots := 266, locals := 65 } : Room)).room s m args below meth c H locs (4 + 4 * j + 4) (10 + 32 * j + 32) Q (F0 m 144 ls [])) : ∀ (n i : Nat), i + n = 8 → ∀ (H : Heap) (locs : List Loc), cb_B D tc g A s s.heap (cb_ini j i) (j + 1) H locs → ∀ ls : Array Slot, lv_has ls 3 [(2, .int (nI i)), (1, .int (nI j)), (0, .ref (g 0))] → W p l e (headSpec (ws_ yX1_init cX1_init 3 none) ({ frames := 3, cells := 36, slots := 266, locals := 65 } : Room)).room s m args below meth c H locs (4 + 4 * j + 4) (10 + 32 * j + 32) Q (F0 m 86 ls []) := by
  intro n
  induction n with
  | zero =>
    intro i hi H locs hB ls hl
    obtain rfl : 8 = i := by omega
    refine lv_iload_n hx hb dX1_init_86 rfl (lv_at hl 0 rfl) ?_
    refine lv_bipush (v := 8) hx hb dX1_init_87 (by decide) ?_
    refine lv_icmp_ge (tgt := 144) hx hb dX1_init_89 (by decide) (fun cz => ?_) (fun cz => (cz (Int32.le_refl _) : False).elim)
    exact K H locs hB ls (lv_sub hl [1, 2] rfl)
  | succ n ih =>
    intro i hi H locs hB ls hl
    have hk : i < 8 := by omega
    have hj1 : j < j + 1 := Nat.lt_succ_self j
    have hzE := hN.1.1
    refine lv_iload_n hx hb dX1_init_86 rfl (lv_at hl 0 rfl) ?_
    refine lv_bipush (v := 8) hx hb dX1_init_87 (by decide) ?_
    refine lv_icmp_ge (tgt := 144) hx hb dX1_init_89 (by decide) (fun cz => (absurd cz (nI_ge (b := 8) hk (by decide)) : False).elim) (fun cz => ?_)
    refine lv_aload_n hx hb dX1_init_92 rfl (lv_at hl 2 rfl) ?_
    refine cb_getB hx hb hts hown hB 1 (by decide) q105 rfl dX1_init_93 ?_
    refine lv_iload_n hx hb dX1_init_96 rfl (lv_at hl 1 rfl) ?_
    refine cb_aaP hx hb hB j hj1 (by omega) dX1_init_97 ?_
    refine cb_getP hx hb hts hown hB j hj1 4 (by decide) q55 rfl dX1_init_98 ?_
    refine lv_iload_n hx hb dX1_init_101 rfl (lv_at hl 0 rfl) ?_
    refine lv_aload_n hx hb dX1_init_102 rfl (lv_at hl 2 rfl) ?_
    refine cb_getB hx hb hts hown hB 1 (by decide) q105 rfl dX1_init_103 ?_
    refine lv_iload_n hx hb dX1_init_106 rfl (lv_at hl 1 rfl) ?_
    refine cb_aaP hx hb hB j hj1 (by omega) dX1_init_107 ?_
    refine cb_getP hx hb hts hown hB j hj1 0 (by decide) q49 rfl dX1_init_108 ?_
    refine lv_iconst (v := 0) hx hb dX1_init_111 (by decide) ?_
    refine cb_callE hx hb hml hts hown hB hzE (Nat.le_of_ble_eq_true rfl) (Nat.le_of_ble_eq_true rfl) (by show _ ≤ 36; omega) (by show _ ≤ 266; omega) (cb_lw (cb_ini j i) j) (Nat.mod_lt j (by decide)) cb_rng0 hl.1 (Nat.le_of_ble_eq_true rfl) dX1_init_112 ?_
    refine cb_top (y := cb_enc (j % 2) 0) (rfl) ?_
    refine cb_stI hx hb hB j hj1 i hk dX1_init_115 (fun H locs hB => ?_)
    refine lv_aload_n hx hb dX1_init_116 rfl (lv_at hl 2 rfl) ?_
    refine cb_getB hx hb hts hown hB 1 (by decide) q105 rfl dX1_init_117 ?_
    refine lv_iload_n hx hb dX1_init_120 rfl (lv_at hl 1 rfl) ?_
    refine cb_aaP hx hb hB j hj1 (by omega) dX1_init_121 ?_
    refine cb_getP hx hb hts hown hB j hj1 6 (by decide) q59 rfl dX1_init_122 ?_
    refine lv_iload_n hx hb dX1_init_125 rfl (lv_at hl 0 rfl) ?_
    refine lv_aload_n hx hb dX1_init_126 rfl (lv_at hl 2 rfl) ?_
    refine cb_getB hx hb hts hown hB 1 (by decide) q105 rfl dX1_init_127 ?_
    refine lv_iload_n hx hb dX1_init_130 rfl (lv_at hl 1 rfl) ?_
    refine cb_aaP hx hb hB j hj1 (by omega) dX1_init_131 ?_
    refine cb_getP hx hb hts hown hB j hj1 4 (by decide) q55 rfl dX1_init_132 ?_
    refine lv_iload_n hx hb dX1_init_135 rfl (lv_at hl 0 rfl) ?_
    refine cb_ldI hx hb hB j hj1 i hk dX1_init_136 ?_
    refine cb_top (y := cb_enc (j % 2) 0) (by show va_up (cb_iniF j i) j (upd (cb_iniF j i j) i (cb_enc (j % 2) 0)) j i = _; simp [va_up, upd]) ?_
    refine cb_stO hx hb hB j hj1 i hk dX1_init_137 (fun H locs hB => ?_)
    refine lv_iinc (v := (nI (i + 1))) (lv' := [(2, .int (nI (i + 1))), (1, .int (nI j)), (0, .ref (g 0))]) hx hb dX1_init_138 hl (k := 0) rfl (nI_1 i) (by decide) rfl (fun ls hl => ?_)
    refine lv_goto (tgt := 86) hx hb dX1_init_141 (by decide) ?_
    exact ih (i + 1) (by omega) H locs (by rw [← cb_ini_s]; exact hB) ls (lv_sub hl [0, 1, 2] rfl)
set_option maxHeartbeats 4000000 in
set_option maxRecDepth 100000 in
theorem bini_loop {p : Program} {l : Launch} {e : Env} {s : State} {m : MethodId} {args : Array Value} {below : List Frame} {meth : Method} {c : Code} {Q : State → Prop} {D : va_G} {tc : Nat → ClassId} {A : Nat → Prop} {q : Nat} (hx : p.tables.exec = Jvm.exec) (hb : c.code = cX1_init) (hml : c.maxLocals = 3) (hts : ∀ w ∈ lw_all, w.before args s = true) (hown : s.vm.findClass RX1 = some m.cls) (hN : cb_N s) (hA : ∀ x : Nat, s.heap.size ≤ x → A x) (K : ∀ (g : Nat → Nat) (H : Heap) (locs : List Loc), cb_B D tc g A s s.heap (cb_ini 8 0) 8 H locs → g 0 = q → ∀ ls : Array Slot, lv_has ls 3 [] → W p l e (headSpec (ws_ yX1_init cX1_init 3 none) ({ frames := 3, cells := 36, slots := 266, locals := 65 } : Room)).room s m args below meth c H locs 36 266 Q (F0 m 150 ls [])) : ∀ (n i : Nat), i + n = 8 → ∀ (g : Nat → Nat) (H : Heap) (locs : List Loc), cb_B D tc g A s s.heap (cb_ini i 0) i H locs → g 0 = q → ∀ ls : Array Slot, lv_has ls 3 [(1, .int (nI i)), (0, .ref (g 0))] → W p l e (headSpec (ws_ yX1_init cX1_init 3 none) ({ frames := 3, cells := 36, slots := 266, locals := 65 } : Room)).room s m args below meth c H locs (4 + 4 * i) (10 + 32 * i) Q (F0 m 48 ls []) := by
  intro n
  induction n with
  | zero =>
    intro i hi g H locs hB hg0 ls hl
    obtain rfl : 8 = i := by omega
    refine lv_iload_n hx hb dX1_init_48 rfl (lv_at hl 0 rfl) ?_
    refine lv_bipush (v := 8) hx hb dX1_init_49 (by decide) ?_
    refine lv_icmp_ge (tgt := 150) hx hb dX1_init_51 (by decide) (fun cz => ?_) (fun cz => (cz (Int32.le_refl _) : False).elim)
    exact K g H locs hB hg0 ls (lv_sub hl [] rfl)
  | succ n ih =>
    intro i hi g H locs hB hg0 ls hl
    have hk : i < 8 := by omega
    refine lv_iload_n hx hb dX1_init_48 rfl (lv_at hl 0 rfl) ?_
    refine lv_bipush (v := 8) hx hb dX1_init_49 (by decide) ?_
    refine lv_icmp_ge (tgt := 150) hx hb dX1_init_51 (by decide) (fun cz => (absurd cz (nI_ge (b := 8) hk (by decide)) : False).elim) (fun cz => ?_)
    refine lv_aload_n hx hb dX1_init_54 rfl (lv_at hl 1 rfl) ?_
    refine cb_getB hx hb hts hown hB 1 (by decide) q105 rfl dX1_init_55 ?_
    refine lv_iload_n hx hb dX1_init_58 rfl (lv_at hl 0 rfl) ?_
    have hK := hB.2.2.2
    refine va_new (ci := 3) (fs := [.null, .int 0, .int 0, .int 0, .null, .null, .null, .long 0]) (C := RX5) (T := TX5) (N := 8) hx hb hts in_X5 tyX5 tyX5_ok hown (hts _ q42) (hts _ q44) (hts _ q7) hK hB.1 hB.2.1 hB.2.2.1 hA rfl (fun j hj => by rcases (show j = 0 ∨ j = 1 ∨ j = 2 ∨ j = 3 ∨ j = 4 ∨ j = 5 ∨ j = 6 ∨ j = 7 by omega) with rfl | rfl | rfl | rfl | rfl | rfl | rfl | rfl <;> rfl) (by show _ ≤ 36; omega) (by show _ ≤ 266; omega) dX1_init_59 (fun qp H1 hP hD hS => ?_)
    refine lv_dup hx hb dX1_init_62 rfl ?_
    have hP9 := cb_lastP hP
    have hlw : (cb_w tc g (cb_ini i 0) i ++ [(qp, (.inr (3, [.null, .int 0, .int 0, .int 0, .null, .null, .null, .long 0]) : va_E))])[(cb_w tc g (cb_ini i 0) i).length]? = some (qp, .inr (3, [.null, .int 0, .int 0, .int 0, .null, .null, .null, .long 0])) := by rw [List.getElem?_append_right (Nat.le_refl _), Nat.sub_self]; rfl
    have hFr : ∀ x, cb_new qp H1.size x → A x := fun x h => by rcases h with rfl | h; exact hD.2 _ _ hlw; exact hA x (Nat.le_trans hS.1 h)
    refine cb_callG (P := fun _ t => cb_QP0 D tc qp H1.size t) (r := none) (A := A) (H0 := s.heap) (fun st o t h => ⟨h.1, h.2.1, h.2.2⟩) (va_runIN (As := []) (rest := [.ref qp, .int (nI i), .ref (g 4)]) ⟨hx, hb, hml, hown, hts⟩ (met_iParty l D tc qp H1.size) ⟨va_cnB 0 hts (lw_meth q47) rfl rfl rfl hN.2.1.2.2.2.2 (hts _ q7) (by decide +kernel) ⟨Nat.le_of_ble_eq_true rfl, Nat.le_of_ble_eq_true rfl⟩, rfl, hts _ q46⟩ ⟨cb_blindP, fun U hU hW => ⟨rfl, by rw [hU], by rw [hU]; exact hP9, va_K.moved hW.alike hK⟩⟩ rfl rfl hl.1 rfl (lv_room (Nat.le_of_ble_eq_true rfl)) dX1_init_63 ⟨by show _ ≤ 36; omega, by show _ ≤ 266; omega⟩) hS hFr (fun st t locs h0 hq hF hS => ?_)
    obtain ⟨qi, qs, qo, hP1, hD1⟩ := hq
    obtain ⟨hf1, hf2⟩ := hF
    rw [h0] at hf1 hf2
    obtain ⟨hP, hD⟩ := cb_joinL hP hD hf2 hFr hP1 hD1
    generalize t.heap = H at hP hS ⊢
    refine W.widen (k := 4 + 4 * i + 4) (n := 10 + 32 * i + 32) (by omega) (by omega) ?_
    have b0 : ∀ (k : Nat) (x : va_E), k < 5 + 4 * i → cb_e tc g (cb_ini i 0) i k = x → (cb_w tc g (cb_ini i 0) i ++ cb_pl tc qp qi qs qo [.null, .int 256, .int 0, .int 0, .ref qi, .ref qs, .ref qo, .long 0])[k]? = some (g k, x) := fun k x h1 h2 => by rw [List.getElem?_append_left (by rw [cb_w_len]; exact h1)]; exact cb_w_at h1 h2
    have b5 : (cb_w tc g (cb_ini i 0) i ++ cb_pl tc qp qi qs qo [.null, .int 256, .int 0, .int 0, .ref qi, .ref qs, .ref qo, .long 0])[5 + 4 * i]? = some (qp, .inr (3, [.null, .int 256, .int 0, .int 0, .ref qi, .ref qs, .ref qo, .long 0])) := by rw [List.getElem?_append_right (by rw [cb_w_len]; omega), cb_w_len, Nat.sub_self]; rfl
    refine va_astq hx hb hK hP hD hS 4 1 (5 + 4 * i) 3 (b0 4 _ (by omega) rfl) rfl b5 rfl (vp_in_nI hk (by omega)) dX1_init_66 (fun H locs hP hD hS => ?_)
    rw [nI_clamp (by omega)] at hP hD
    obtain ⟨L, hL⟩ : ∃ L : va_W, (cb_w tc g (cb_ini i 0) i ++ cb_pl tc qp qi qs qo [.null, .int 256, .int 0, .int 0, .ref qi, .ref qs, .ref qo, .long 0]).set 4 (g 4, .inl (tc 1, 8, .inr (.inr (.inr (.inr (va_up (fun j => if j < i then some (g (5 + 4 * j)) else none) i (some qp))))))) = L := ⟨_, rfl⟩
    have hP : va_P D cbCl L H := by rw [← hL]; exact hP
    have hD : va_D A L := by rw [← hL]; exact hD
    have hln : (cb_w tc g (cb_ini i 0) i ++ cb_pl tc qp qi qs qo [.null, .int 256, .int 0, .int 0, .ref qi, .ref qs, .ref qo, .long 0] : va_W).length = 9 + 4 * i := by rw [List.length_append, cb_w_len]; simp only [List.length_cons, List.length_nil]; omega
    have c0 : L[0]? = some (g 0, .inr (0, [.ref (g 1), .ref (g 4), .int 3])) := by rw [← hL, List.getElem?_set_ne (by decide)]; exact b0 0 _ (by omega) rfl
    have c1 : L[1]? = some (g 1, .inl (tc 0, 2, .inr (.inr (.inr (.inr (fun j => if j < 2 then some (g (2 + j)) else none)))))) := by rw [← hL, List.getElem?_set_ne (by decide)]; exact b0 1 _ (by omega) rfl
    have c4 : L[4]? = some (g 4, .inl (tc 1, 8, .inr (.inr (.inr (.inr (va_up (fun j => if j < i then some (g (5 + 4 * j)) else none) i (some qp))))))) := by rw [← hL, List.getElem?_set_self (by rw [hln]; omega)]
    have c5 : L[5 + 4 * i]? = some (qp, .inr (3, [.null, .int 256, .int 0, .int 0, .ref qi, .ref qs, .ref qo, .long 0])) := by rw [← hL, List.getElem?_set_ne (by omega)]; exact b5
    refine lv_aload_n hx hb dX1_init_67 rfl (lv_at hl 1 rfl) ?_
    refine va_get (D := D) (ci := 0) (C := RX1) (T := TX1) (N := 3) hx hb hts in_X1 hown hK hP 0 c0 rfl 1 (by decide) (hts _ q105) (fun _ h9 => h9) rfl dX1_init_68 ?_
    refine lv_iload_n hx hb dX1_init_71 rfl (lv_at hl 0 rfl) ?_
    refine va_aldq hx hb hK hP 4 1 c4 rfl (vp_in_nI hk (by omega)) dX1_init_72 ?_
    rw [nI_clamp (by omega), show va_up (fun j => if j < i then some (g (5 + 4 * j)) else none) i (some qp) i = some qp from if_pos rfl]
    show W p l e (headSpec (ws_ yX1_init cX1_init 3 none) ({ frames := 3, cells := 36, slots := 266, locals := 65 } : Room)).room s m args below meth c H locs (4 + 4 * i + 4) (10 + 32 * i + 32) Q (F0 m 73 ls [.ref qp])
    refine lv_aload_n hx hb dX1_init_73 rfl (lv_at hl 1 rfl) ?_
    refine va_get (D := D) (ci := 0) (C := RX1) (T := TX1) (N := 3) hx hb hts in_X1 hown hK hP 0 c0 rfl 0 (by decide) (hts _ q104) (fun _ h9 => h9) rfl dX1_init_74 ?_
    refine lv_iload_n hx hb dX1_init_77 rfl (lv_at hl 0 rfl) ?_
    refine lv_iconst (v := 2) hx hb dX1_init_78 (by decide) ?_
    refine lv_irem hx hb dX1_init_79 (by decide) ?_
    refine cb_top (y := nI (i % 2)) (pk_rem (a := i) (d := 2) (by omega) (by decide) (by decide)) ?_
    refine va_aldq hx hb hK hP 1 0 c1 rfl (vp_in_nI (by omega) (by omega)) dX1_init_80 ?_
    rw [nI_clamp (by omega), if_pos (show i % 2 < 2 by omega)]
    show W p l e (headSpec (ws_ yX1_init cX1_init 3 none) ({ frames := 3, cells := 36, slots := 266, locals := 65 } : Room)).room s m args below meth c H locs (4 + 4 * i + 4) (10 + 32 * i + 32) Q (F0 m 81 ls [.ref (g (2 + i % 2)), .ref qp])
    refine va_put (D := D) (ci := 3) (v := .ref (g (2 + i % 2))) (ty := .object "ConferenceBridge$Law") (C := RX5) (T := TX5) (N := 8) hx hb hts in_X5 tyX5 tyX5_ok nmX5 hown hK hP hD hS (5 + 4 * i) c5 rfl 0 (by decide) (hts _ q49) (fun _ h9 => h9) rfl (by decide +kernel) rfl rfl (Nat.le_of_ble_eq_true rfl) dX1_init_81 (fun H locs hP hD hS => ?_)
    obtain ⟨g', e1, e2, e3, e4, e5⟩ := cb_gext g i qp qi qs qo
    have hgr := cb_grow (t := tc) (S := cb_ini i 0) (P0 := [.null, .int 256, .int 0, .int 0, .ref qi, .ref qs, .ref qo, .long 0]) e1 e2 e3 e4 e5 (fun j _ => Nat.mod_lt j (by decide)) (cb_iniF_0 i) rfl (cb_iniF_0 i)
    rw [hL] at hgr
    have hB : cb_B D tc g' A s s.heap (cb_ini i 0) (i + 1) H locs := ⟨by rw [← hgr]; exact hP, by rw [← hgr]; exact hD, hS, hK⟩
    have e0 : g' 0 = g 0 := e1 0 (by omega)
    refine lv_iconst (v := 0) hx hb dX1_init_84 (by decide) ?_
    refine lv_istore_n (lv' := [(2, .int 0), (1, .int (nI i)), (0, .ref (g 0))]) hx hb dX1_init_85 rfl hl (by decide) rfl (fun ls hl => ?_)
    refine binik_loop (g := g') (j := i) hx hb hml hts hown hN hA hk (fun H locs hB ls hl => ?_) 8 0 rfl H locs hB ls (by rw [e0]; exact lv_sub hl [0, 1, 2] rfl)
    refine lv_iinc (v := (nI (i + 1))) (lv' := [(1, .int (nI (i + 1))), (0, .ref (g' 0))]) hx hb dX1_init_144 hl (k := 0) rfl (nI_1 i) (by decide) rfl (fun ls hl => ?_)
    refine lv_goto (tgt := 48) hx hb dX1_init_147 (by decide) ?_
    refine W.widen (k := 4 + 4 * (i + 1)) (n := 10 + 32 * (i + 1)) (by omega) (by omega) ?_
    exact ih (i + 1) (by omega) g' H locs (by rw [← cb_ini_8]; exact hB) (e0.trans hg0) ls hl
def cb_PB (D : va_G) (tc : Nat → ClassId) (q sz : Nat) (U : State) : Prop := U.heap.size = sz ∧ va_P D cbCl [(q, .inr (0, [.null, .null, .int 0]))] U.heap ∧ va_K D cbCl (cb_tys tc) U ∧ cb_N U
def cb_QB0 (D : va_G) (tc : Nat → ClassId) (q sz : Nat) (t : State) : Prop := ∃ g : Nat → Nat, g 0 = q ∧ va_P D cbCl (cb_w tc g cb_S0 8) t.heap ∧ va_D (cb_new q sz) (cb_w tc g cb_S0 8)
def cb_QB (D : va_G) (tc : Nat → ClassId) (q sz : Nat) : Array Value → State → Outcome → State → Prop := fun _ st o t => o = .returned none ∧ cb_QB0 D tc q sz t ∧ va_F (cb_new q sz) st t
theorem cb_blindB {D : va_G} {tc : Nat → ClassId} {q sz : Nat} {av : List Value} : FrameBlind (va_Pc av (cb_PB D tc q sz)) := by
  intro z U f mk h
  obtain ⟨h1, h2, h3, h4, h5⟩ := h
  exact ⟨h1, h2, h3, va_K.moved (u := U) (U := U.calling f mk z) (Vm.Alike.refl U.vm) h4, cb_N.same (U := U) rfl h5⟩
set_option maxHeartbeats 4000000 in
set_option maxRecDepth 100000 in
theorem met_iB (l : Launch) (D : va_G) (tc : Nat → ClassId) (q sz : Nat) : Met l yX1_init (ws_ yX1_init cX1_init 3 none) ({ frames := 3, cells := 36, slots := 266, locals := 65 } : Room) (va_Pc [.ref q] (cb_PB D tc q sz)) (cb_QB D tc q sz) 36 266 (cb_new q sz) := by
  refine Met.ofW (cc := cX1_init) (maxL := 3) (ret := none) (by decide) rfl ?_
  intro p e s m args below meth c s₁ B hml hv
  obtain ⟨rfl, hv⟩ := hv
  have hx := B.exec
  have hb := B.bytes
  have hr := B.returns
  have hts := atoms_spec (ws := (ws_ yX1_init cX1_init 3 none)) B.pre
  have hts : ∀ w ∈ lw_all, w.before _ s = true := fun w h => hts w (List.mem_cons_of_mem _ h)
  have hown : s.vm.findClass RX1 = some m.cls := findClass_of_methodNamed B.named
  have hlocks := B.notSynchronized
  have hl := lv_entry ([.ref q]) (n := 3) (Nat.le_of_ble_eq_true rfl)
  rw [lg_entry_eq]
  generalize (lg_sl ([.ref q]) ++ List.replicate (3 - (lg_sl ([.ref q])).length) Slot.unset).toArray = ls at hl ⊢
  have hl : lv_has ls 3 [(0, .ref q)] := hl
  have hin : meth.name = "<init>" := (name_of_methodNamed B.named B.method).1
  obtain ⟨rfl, hP, hK, hN⟩ := hv
  have hD : va_D (cb_new q s.heap.size) [(q, .inr (0, [.null, .null, .int 0]))] := ⟨fun i j x y hx hy _ => by have := (List.getElem?_eq_some_iff.mp hx).1; have := (List.getElem?_eq_some_iff.mp hy).1; simp only [List.length_cons, List.length_nil] at *; omega, fun k x hk => by have h0 := (List.getElem?_eq_some_iff.mp hk).1; rcases (show k = 0 by simp only [List.length_cons, List.length_nil] at h0; omega) with rfl; cases hk; exact Or.inl rfl⟩
  have hA : ∀ x : Nat, s.heap.size ≤ x → cb_new q s.heap.size x := fun x h => Or.inr h
  have hS : va_S (cb_new q s.heap.size) s.heap s.heap [] := va_S.rf
  refine lv_aload_n hx hb dX1_init_0 rfl (lv_at hl 0 rfl) ?_
  refine W.objInit hx hb hown (hts _ q20) (hts _ q21) (hts _ q22) rfl (by rw [hml]; exact hl.1) rfl dX1_init_1 (Nat.le_of_ble_eq_true rfl) (Nat.le_of_ble_eq_true rfl) ?_
  refine W.eq (g2 := F0 m 4 ls []) rfl ?_
  refine lv_aload_n hx hb dX1_init_4 rfl (lv_at hl 0 rfl) ?_
  refine lv_iconst (v := 2) hx hb dX1_init_5 (by decide) ?_
  refine va_newq (C := RX2) (N' := 2) hx hb hown (hts _ q23) hN.2.2.1.1 hK hP hD hS hA (by decide) (by decide) (by decide) (Nat.le_of_ble_eq_true rfl) (Nat.le_of_ble_eq_true rfl) dX1_init_6 (fun q1 cA H hK9 hP hD hS => ?_)
  obtain rfl : tc 0 = cA := cb_ty_o hK hK9 0 5 rfl rfl
  have hP : va_P D cbCl [(q, .inr (0, [.null, .null, .int 0])), (q1, .inl (tc 0, 2, .inr (.inr (.inr (.inr (fun _ => none))))))] H := hP
  have hD : va_D (cb_new q s.heap.size) [(q, .inr (0, [.null, .null, .int 0])), (q1, .inl (tc 0, 2, .inr (.inr (.inr (.inr (fun _ => none))))))] := hD
  refine lv_dup hx hb dX1_init_9 rfl ?_
  refine lv_iconst (v := 0) hx hb dX1_init_10 (by decide) ?_
  refine va_new (ci := 1) (fs := []) (C := RX3) (T := TX3) (N := 0) hx hb hts (fun w h => absurd h List.not_mem_nil) tyX3 (fun k h => absurd h (Nat.not_lt_zero k)) hown (hts _ q25) (hts _ q26) (hts _ q5) hK hP hD hS hA rfl (fun j h => absurd h (Nat.not_lt_zero j)) (Nat.le_of_ble_eq_true rfl) (Nat.le_of_ble_eq_true rfl) dX1_init_11 (fun q2 H hP hD hS => ?_)
  have hP : va_P D cbCl [(q, .inr (0, [.null, .null, .int 0])), (q1, .inl (tc 0, 2, .inr (.inr (.inr (.inr (fun _ => none)))))), (q2, .inr (1, []))] H := hP
  have hD : va_D (cb_new q s.heap.size) [(q, .inr (0, [.null, .null, .int 0])), (q1, .inl (tc 0, 2, .inr (.inr (.inr (.inr (fun _ => none)))))), (q2, .inr (1, []))] := hD
  refine lv_dup hx hb dX1_init_14 rfl ?_
  refine cb_callP (va_runIN (As := []) (rest := [.ref q2, .int 0, .ref q1, .ref q1, .ref q]) ⟨hx, hb, hml, hown, hts⟩ (met_iAL l q2) ⟨va_cnB 0 hts (lw_meth q29) rfl rfl rfl hN.2.1.1 (hts _ q5) (by decide +kernel) ⟨Nat.le_of_ble_eq_true rfl, Nat.le_of_ble_eq_true rfl⟩, rfl, hts _ q28⟩ ⟨fun z U f mk h => ⟨h.1, va_Nw.same rfl (u := U) rfl h.2⟩, fun U hU hW => ⟨rfl, va_Nw.warmM hW hN.2.1.2.1⟩⟩ rfl rfl hl.1 rfl (lv_room (Nat.le_of_ble_eq_true rfl)) dX1_init_15 ⟨Nat.le_of_ble_eq_true rfl, Nat.le_of_ble_eq_true rfl⟩) ?_
  refine va_astqO (r := (RX3, TX3, 0)) hx hb hK hP hD hS 1 0 2 1 rfl rfl hN.2.2.2.1 rfl rfl (pk_in 0 2 (by decide)) dX1_init_18 (fun H locs hP hD hS => ?_)
  have hP : va_P D cbCl [(q, .inr (0, [.null, .null, .int 0])), (q1, .inl (tc 0, 2, .inr (.inr (.inr (.inr (va_up (fun _ => none) 0 (some q2))))))), (q2, .inr (1, []))] H := hP
  have hD : va_D (cb_new q s.heap.size) [(q, .inr (0, [.null, .null, .int 0])), (q1, .inl (tc 0, 2, .inr (.inr (.inr (.inr (va_up (fun _ => none) 0 (some q2))))))), (q2, .inr (1, []))] := hD
  refine lv_dup hx hb dX1_init_19 rfl ?_
  refine lv_iconst (v := 1) hx hb dX1_init_20 (by decide) ?_
  refine va_new (ci := 2) (fs := []) (C := RX4) (T := TX3) (N := 0) hx hb hts (fun w h => absurd h List.not_mem_nil) tyX3 (fun k h => absurd h (Nat.not_lt_zero k)) hown (hts _ q35) (hts _ q36) (hts _ q6) hK hP hD hS hA rfl (fun j h => absurd h (Nat.not_lt_zero j)) (Nat.le_of_ble_eq_true rfl) (Nat.le_of_ble_eq_true rfl) dX1_init_21 (fun q3 H hP hD hS => ?_)
  have hP : va_P D cbCl [(q, .inr (0, [.null, .null, .int 0])), (q1, .inl (tc 0, 2, .inr (.inr (.inr (.inr (va_up (fun _ => none) 0 (some q2))))))), (q2, .inr (1, [])), (q3, .inr (2, []))] H := hP
  have hD : va_D (cb_new q s.heap.size) [(q, .inr (0, [.null, .null, .int 0])), (q1, .inl (tc 0, 2, .inr (.inr (.inr (.inr (va_up (fun _ => none) 0 (some q2))))))), (q2, .inr (1, [])), (q3, .inr (2, []))] := hD
  refine lv_dup hx hb dX1_init_24 rfl ?_
  refine cb_callP (va_runIN (As := []) (rest := [.ref q3, .int 1, .ref q1, .ref q1, .ref q]) ⟨hx, hb, hml, hown, hts⟩ (met_iMU l q3) ⟨va_cnB 0 hts (lw_meth q39) rfl rfl rfl hN.2.1.2.2.1 (hts _ q6) (by decide +kernel) ⟨Nat.le_of_ble_eq_true rfl, Nat.le_of_ble_eq_true rfl⟩, rfl, hts _ q38⟩ ⟨fun z U f mk h => ⟨h.1, va_Nw.same rfl (u := U) rfl h.2⟩, fun U hU hW => ⟨rfl, va_Nw.warmM hW hN.2.1.2.2.2.1⟩⟩ rfl rfl hl.1 rfl (lv_room (Nat.le_of_ble_eq_true rfl)) dX1_init_25 ⟨Nat.le_of_ble_eq_true rfl, Nat.le_of_ble_eq_true rfl⟩) ?_
  refine va_astqO (r := (RX4, TX3, 0)) hx hb hK hP hD hS 1 0 3 2 rfl rfl hN.2.2.2.2 rfl rfl (pk_in 1 2 (by decide)) dX1_init_28 (fun H locs hP hD hS => ?_)
  have hP : va_P D cbCl [(q, .inr (0, [.null, .null, .int 0])), (q1, .inl (tc 0, 2, .inr (.inr (.inr (.inr (va_up (va_up (fun _ => none) 0 (some q2)) 1 (some q3))))))), (q2, .inr (1, [])), (q3, .inr (2, []))] H := hP
  have hD : va_D (cb_new q s.heap.size) [(q, .inr (0, [.null, .null, .int 0])), (q1, .inl (tc 0, 2, .inr (.inr (.inr (.inr (va_up (va_up (fun _ => none) 0 (some q2)) 1 (some q3))))))), (q2, .inr (1, [])), (q3, .inr (2, []))] := hD
  refine va_putF (D := D) (ci := 0) (v := .ref q1) (ty := .array (.object "ConferenceBridge$Law")) (C := RX1) (T := TX1) (N := 3) hx hb hts in_X1 tyX1 tyX1_ok nmX1 hown hK hP hD hS 0 rfl rfl 0 (by decide) (hts _ q104) (fun _ h9 => h9) rfl hin rfl (by decide +kernel) rfl rfl (Nat.le_of_ble_eq_true rfl) dX1_init_29 (fun H locs hP hD hS => ?_)
  have hP : va_P D cbCl [(q, .inr (0, [.ref q1, .null, .int 0])), (q1, .inl (tc 0, 2, .inr (.inr (.inr (.inr (va_up (va_up (fun _ => none) 0 (some q2)) 1 (some q3))))))), (q2, .inr (1, [])), (q3, .inr (2, []))] H := hP
  have hD : va_D (cb_new q s.heap.size) [(q, .inr (0, [.ref q1, .null, .int 0])), (q1, .inl (tc 0, 2, .inr (.inr (.inr (.inr (va_up (va_up (fun _ => none) 0 (some q2)) 1 (some q3))))))), (q2, .inr (1, [])), (q3, .inr (2, []))] := hD
  refine lv_aload_n hx hb dX1_init_32 rfl (lv_at hl 0 rfl) ?_
  refine lv_bipush (v := 8) hx hb dX1_init_33 (by decide) ?_
  refine va_newq (C := RX5) (N' := 8) hx hb hown (hts _ q42) hN.2.2.1.2 hK hP hD hS hA (by decide) (by decide) (by decide) (Nat.le_of_ble_eq_true rfl) (Nat.le_of_ble_eq_true rfl) dX1_init_35 (fun q4 cA H hK9 hP hD hS => ?_)
  obtain rfl : tc 1 = cA := cb_ty_o hK hK9 1 5 rfl rfl
  have hP : va_P D cbCl [(q, .inr (0, [.ref q1, .null, .int 0])), (q1, .inl (tc 0, 2, .inr (.inr (.inr (.inr (va_up (va_up (fun _ => none) 0 (some q2)) 1 (some q3))))))), (q2, .inr (1, [])), (q3, .inr (2, [])), (q4, .inl (tc 1, 8, .inr (.inr (.inr (.inr (fun _ => none))))))] H := hP
  have hD : va_D (cb_new q s.heap.size) [(q, .inr (0, [.ref q1, .null, .int 0])), (q1, .inl (tc 0, 2, .inr (.inr (.inr (.inr (va_up (va_up (fun _ => none) 0 (some q2)) 1 (some q3))))))), (q2, .inr (1, [])), (q3, .inr (2, [])), (q4, .inl (tc 1, 8, .inr (.inr (.inr (.inr (fun _ => none))))))] := hD
  refine va_putF (D := D) (ci := 0) (v := .ref q4) (ty := .array (.object "ConferenceBridge$Party")) (C := RX1) (T := TX1) (N := 3) hx hb hts in_X1 tyX1 tyX1_ok nmX1 hown hK hP hD hS 0 rfl rfl 1 (by decide) (hts _ q105) (fun _ h9 => h9) rfl hin rfl (by decide +kernel) rfl rfl (Nat.le_of_ble_eq_true rfl) dX1_init_38 (fun H locs hP hD hS => ?_)
  have hP : va_P D cbCl [(q, .inr (0, [.ref q1, .ref q4, .int 0])), (q1, .inl (tc 0, 2, .inr (.inr (.inr (.inr (va_up (va_up (fun _ => none) 0 (some q2)) 1 (some q3))))))), (q2, .inr (1, [])), (q3, .inr (2, [])), (q4, .inl (tc 1, 8, .inr (.inr (.inr (.inr (fun _ => none))))))] H := hP
  have hD : va_D (cb_new q s.heap.size) [(q, .inr (0, [.ref q1, .ref q4, .int 0])), (q1, .inl (tc 0, 2, .inr (.inr (.inr (.inr (va_up (va_up (fun _ => none) 0 (some q2)) 1 (some q3))))))), (q2, .inr (1, [])), (q3, .inr (2, [])), (q4, .inl (tc 1, 8, .inr (.inr (.inr (.inr (fun _ => none))))))] := hD
  refine lv_aload_n hx hb dX1_init_41 rfl (lv_at hl 0 rfl) ?_
  refine lv_iconst (v := 3) hx hb dX1_init_42 (by decide) ?_
  refine va_put (D := D) (ci := 0) (v := .int 3) (ty := .int) (C := RX1) (T := TX1) (N := 3) hx hb hts in_X1 tyX1 tyX1_ok nmX1 hown hK hP hD hS 0 rfl rfl 2 (by decide) (hts _ q106) (fun _ h9 => h9) rfl (by decide +kernel) rfl rfl (Nat.le_of_ble_eq_true rfl) dX1_init_43 (fun H locs hP hD hS => ?_)
  have hP : va_P D cbCl [(q, .inr (0, [.ref q1, .ref q4, .int 3])), (q1, .inl (tc 0, 2, .inr (.inr (.inr (.inr (va_up (va_up (fun _ => none) 0 (some q2)) 1 (some q3))))))), (q2, .inr (1, [])), (q3, .inr (2, [])), (q4, .inl (tc 1, 8, .inr (.inr (.inr (.inr (fun _ => none))))))] H := hP
  have hD : va_D (cb_new q s.heap.size) [(q, .inr (0, [.ref q1, .ref q4, .int 3])), (q1, .inl (tc 0, 2, .inr (.inr (.inr (.inr (va_up (va_up (fun _ => none) 0 (some q2)) 1 (some q3))))))), (q2, .inr (1, [])), (q3, .inr (2, [])), (q4, .inl (tc 1, 8, .inr (.inr (.inr (.inr (fun _ => none))))))] := hD
  refine lv_iconst (v := 0) hx hb dX1_init_46 (by decide) ?_
  refine lv_istore_n (lv' := [(1, .int 0), (0, .ref q)]) hx hb dX1_init_47 rfl hl (by decide) rfl (fun ls hl => ?_)
  obtain ⟨g, e0, e1, e2, e3, e4⟩ : ∃ g : Nat → Nat, g 0 = q ∧ g 1 = q1 ∧ g 2 = q2 ∧ g 3 = q3 ∧ g 4 = q4 := ⟨fun k => if k = 0 then q else if k = 1 then q1 else if k = 2 then q2 else if k = 3 then q3 else q4, rfl, rfl, rfl, rfl, rfl⟩
  have hw : cb_w tc g (cb_ini 0 0) 0 = [(q, .inr (0, [.ref q1, .ref q4, .int 3])), (q1, .inl (tc 0, 2, .inr (.inr (.inr (.inr (va_up (va_up (fun _ => none) 0 (some q2)) 1 (some q3))))))), (q2, .inr (1, [])), (q3, .inr (2, [])), (q4, .inl (tc 1, 8, .inr (.inr (.inr (.inr (fun _ => none))))))] := by
    show [(g 0, (.inr (0, [.ref (g 1), .ref (g 4), .int 3]) : va_E)), (g 1, .inl (tc 0, 2, .inr (.inr (.inr (.inr (fun j => if j < 2 then some (g (2 + j)) else none)))))), (g 2, .inr (1, [])), (g 3, .inr (2, [])), (g 4, .inl (tc 1, 8, .inr (.inr (.inr (.inr (fun j => if j < 0 then some (g (5 + 4 * j)) else none))))))] = _
    rw [show (fun j => if j < 2 then some (g (2 + j)) else none) = va_up (va_up (fun _ => none) 0 (some q2)) 1 (some q3) from funext fun j => ?_, show (fun j => if j < 0 then some (g (5 + 4 * j)) else none) = (fun _ => none) from funext fun j => if_neg (Nat.not_lt_zero j), e0, e1, e2, e3, e4]
    unfold va_up
    by_cases h1 : j = 1
    · subst h1; rw [if_pos rfl, if_pos (by omega), ← e3]
    · by_cases h0 : j = 0
      · subst h0; rw [if_neg h1, if_pos rfl, if_pos (by omega), ← e2]
      · rw [if_neg h1, if_neg h0, if_neg (by omega)]
  have hB : cb_B D tc g (cb_new q s.heap.size) s s.heap (cb_ini 0 0) 0 H locs := ⟨by rw [hw]; exact hP, by rw [hw]; exact hD, hS, hK⟩
  refine bini_loop (q := q) hx hb hml hts hown hN hA (fun g H locs hB hg0 ls hl => ?_) 8 0 rfl g H locs hB e0 ls (by rw [e0]; exact lv_sub hl [0, 1] rfl)
  exact W.vret hx hb hr (fun t ht hW => ⟨rfl, ⟨g, hg0, by rw [ht]; exact hB.1, hB.2.1⟩, hB.2.2.1.F ht⟩) hB.2.2.1.2.2 dX1_init_150
end
section
/-! the model's constructor -/
set_option maxRecDepth 100000
def mm_ini (a n k : Nat) : cb_S := (fun p => if p < a then p % 2 else 0, fun p => if p < a then 256 else 0, fun _ => 0, fun _ => 0, cb_iniF n k, fun _ _ => 0, cb_iniF n k, fun _ => 0, 3)
theorem mm_ini_s (a n k : Nat) : cb_sOu (cb_sIn (mm_ini a n k) n k (cb_enc (n % 2) 0)) n k (cb_enc (n % 2) 0) = mm_ini a n (k + 1) := by
  show ((fun p => if p < a then p % 2 else 0, fun p => if p < a then 256 else 0, fun _ => 0, fun _ => 0, va_up (cb_iniF n k) n (upd (cb_iniF n k n) k (cb_enc (n % 2) 0)), fun _ _ => 0, va_up (cb_iniF n k) n (upd (cb_iniF n k n) k (cb_enc (n % 2) 0)), fun _ => 0, 3) : cb_S) = mm_ini a n (k + 1)
  rw [cb_iniF_s]
  rfl
theorem mm_ini_8 (a n : Nat) : mm_ini a n 8 = mm_ini a (n + 1) 0 := by
  unfold mm_ini
  rw [cb_iniF_8]
theorem mm_ini_p (n : Nat) : cb_sGn (cb_sLw (mm_ini n n 0) n (n % 2)) n 256 = mm_ini (n + 1) n 0 := by
  have h1 : va_up (fun p => if p < n then p % 2 else 0) n (n % 2) = fun p => if p < n + 1 then p % 2 else 0 := by
    funext p
    show (if p = n then n % 2 else if p < n then p % 2 else 0) = _
    by_cases e : p = n
    · subst e; rw [if_pos rfl, if_pos (by omega)]
    · rw [if_neg e]
      by_cases h : p < n
      · rw [if_pos h, if_pos (by omega)]
      · rw [if_neg h, if_neg (by omega)]
  have h2 : va_up (fun p => if p < n then (256 : Int32) else 0) n 256 = fun p => if p < n + 1 then 256 else 0 := by
    funext p
    show (if p = n then (256 : Int32) else if p < n then 256 else 0) = _
    by_cases e : p = n
    · subst e; rw [if_pos rfl, if_pos (by omega)]
    · rw [if_neg e]
      by_cases h : p < n
      · rw [if_pos h, if_pos (by omega)]
      · rw [if_neg h, if_neg (by omega)]
  show ((va_up (fun p => if p < n then p % 2 else 0) n (n % 2), va_up (fun p => if p < n then (256 : Int32) else 0) n 256, fun _ => 0, fun _ => 0, cb_iniF n 0, fun _ _ => 0, cb_iniF n 0, fun _ => 0, 3) : cb_S) = _
  rw [h1, h2]
  rfl
theorem cb_iniF_00 (j i : Nat) : cb_iniF 0 0 j i = 0 := by
  unfold cb_iniF
  rw [if_neg (by omega)]
theorem cb_newi {cA : ClassId} {n : Nat} {f : Nat → Int32} (h : ∀ j, f j = 0) : vp_cell cA (n, .inl f) = arrV cA n (fun _ => .int 0) := by
  rw [vp_cell_i]
  exact cb_arrV_ext (fun j _ => by rw [h j])
theorem cb_newl {cA : ClassId} {n : Nat} {f : Nat → Int64} (h : ∀ j, f j = 0) : vp_cell cA (n, .inr (.inl f)) = arrV cA n (fun _ => .long 0) := by
  rw [vp_cell_l]
  exact cb_arrV_ext (fun j _ => by rw [h j])
/-- the same world where the two states agree -/
theorem mm_Pext {D : va_G} {t : Nat → ClassId} {a : Nat → Nat} {th : Int32} {H : Heap} (h : va_P D cbCl (mm_w t a (mm_ini 8 8 0) th) H) : va_P D cbCl (mm_w t a cb_S0 th) H := by
  intro k x hk
  have hl : k < 8 := (List.getElem?_eq_some_iff.mp hk).1
  rcases (show k = 0 ∨ k = 1 ∨ k = 2 ∨ k = 3 ∨ k = 4 ∨ k = 5 ∨ k = 6 ∨ k = 7 by omega) with rfl | rfl | rfl | rfl | rfl | rfl | rfl | rfl <;> cases hk
  · exact h 0 _ rfl
  · exact cb_ai (fun j hj => by show nI (if j < 8 then j % 2 else 0) = nI (j % 2); rw [if_pos hj]) (h 1 _ rfl)
  · exact cb_ai (fun j hj => by show (if j < 8 then (256 : Int32) else 0) = 256; rw [if_pos hj]) (h 2 _ rfl)
  · exact h 3 _ rfl
  · exact h 4 _ rfl
  · exact h 5 _ rfl
  · exact h 6 _ rfl
  · exact h 7 _ rfl
theorem mm_D_to {A : Nat → Prop} {t : Nat → ClassId} {a : Nat → Nat} {S : cb_S} {th : Int32} (h : va_D A (mm_w t a S th)) : mm_inj a ∧ ∀ k, k < 8 → A (a k) := by
  have key : ∀ k, k < 8 → ∃ x : va_E, (mm_w t a S th)[k]? = some (a k, x) := by
    intro k hl
    rcases (show k = 0 ∨ k = 1 ∨ k = 2 ∨ k = 3 ∨ k = 4 ∨ k = 5 ∨ k = 6 ∨ k = 7 by omega) with rfl | rfl | rfl | rfl | rfl | rfl | rfl | rfl <;> exact ⟨_, rfl⟩
  refine ⟨fun i j hi hj e => ?_, fun k hk => ?_⟩
  · obtain ⟨x, hx⟩ := key i hi
    obtain ⟨y, hy⟩ := key j hj
    exact h.1 i j _ _ hx hy e
  · obtain ⟨x, hx⟩ := key k hk
    exact h.2 k _ hx
set_option maxHeartbeats 4000000 in
set_option maxRecDepth 100000 in
theorem minik_loop {p : Program} {l : Launch} {e : Env} {s : State} {m : MethodId} {args : Array Value} {below : List Frame} {meth : Method} {c : Code} {Q : State → Prop} {D : va_G} {tc : Nat → ClassId} {a : Nat → Nat} {A : Nat → Prop} {H0 : Heap} {j : Nat} (hx : p.tables.exec = Jvm.exec) (hb : c.code = cX6_init) (hml : c.maxLocals = 3) (hts : ∀ w ∈ lw_all, w.before args s = true) (hown : s.vm.findClass RX6 = some m.cls) (hj : j < 8) (K : ∀ (H : Heap) (locs : List Loc), mm_B D tc a A s H0 (mm_ini (j + 1) j 8) 0 H locs → ∀ ls : Array Slot, lv_has ls 3 [(1, .int (nI j)), (0, .ref (a 0))] → W p l e (headSpec (ws_ yX6_init cX6_init 3 none) ({ frames := 1, cells := 7, slots := 224, locals := 23 } : Room)).room s m args below meth c H locs 7 224 Q (F0 m 153 ls [])) : ∀ (n i : Nat), i + n = 8 → ∀ (H : Heap) (locs : List Loc), mm_B D tc a A s H0 (mm_ini (j + 1) j i) 0 H locs → ∀ ls : Array Slot, lv_has ls 3 [(2, .int (nI i)), (1, .int (nI j)), (0, .ref (a 0))] → W p l e (headSpec (ws_ yX6_init cX6_init 3 none) ({ frames := 1, cells := 7, slots := 224, locals := 23 } : Room)).room s m args below meth c H locs 7 224 Q (F0 m 98 ls []) := by
  intro n
  induction n with
  | zero =>
    intro i hi H locs hB ls hl
    obtain rfl : 8 = i := by omega
    refine lv_iload_n hx hb dX6_init_98 rfl (lv_at hl 0 rfl) ?_
    refine lv_bipush (v := 8) hx hb dX6_init_99 (by decide) ?_
    refine lv_icmp_ge (tgt := 153) hx hb dX6_init_101 (by decide) (fun cz => ?_) (fun cz => (cz (Int32.le_refl _) : False).elim)
    exact K H locs hB ls (lv_sub hl [1, 2] rfl)
  | succ n ih =>
    intro i hi H locs hB ls hl
    have hk : i < 8 := by omega
    refine lv_iload_n hx hb dX6_init_98 rfl (lv_at hl 0 rfl) ?_
    refine lv_bipush (v := 8) hx hb dX6_init_99 (by decide) ?_
    refine lv_icmp_ge (tgt := 153) hx hb dX6_init_101 (by decide) (fun cz => (absurd cz (nI_ge (b := 8) hk (by decide)) : False).elim) (fun cz => ?_)
    refine lv_aload_n hx hb dX6_init_104 rfl (lv_at hl 2 rfl) ?_
    refine mm_get hx hb hts hown hB 4 (by decide) q272 rfl dX6_init_105 ?_
    refine lv_bipush (v := 8) hx hb dX6_init_108 (by decide) ?_
    refine lv_iload_n hx hb dX6_init_110 rfl (lv_at hl 1 rfl) ?_
    refine lv_imul hx hb dX6_init_111 ?_
    refine lv_iload_n hx hb dX6_init_112 rfl (lv_at hl 0 rfl) ?_
    refine lv_iadd hx hb dX6_init_113 ?_
    refine cb_top (y := nI (8 * j + i)) (mm_ix j i) ?_
    refine lv_aload_n hx hb dX6_init_114 rfl (lv_at hl 2 rfl) ?_
    refine mm_get hx hb hts hown hB 1 (by decide) q269 rfl dX6_init_115 ?_
    refine lv_iload_n hx hb dX6_init_118 rfl (lv_at hl 1 rfl) ?_
    refine mm_ldLw hx hb hB j hj dX6_init_119 ?_
    refine cb_top (y := nI (j % 2)) (by show nI (if j < j + 1 then j % 2 else 0) = _; rw [if_pos (Nat.lt_succ_self j)]) ?_
    refine lv_iconst (v := 0) hx hb dX6_init_120 (by decide) ?_
    refine cb_callPi (va_runS (As := [.int (nI (j % 2)), .int 0]) (rest := [.int (nI (8 * j + i)), .ref (a 4)]) ⟨hx, hb, hml, hown, hts⟩ (mm_code l (j % 2) (Nat.mod_lt j (by decide)) 0 cb_rng0) (va_cwS 2 hts (lw_S q265 q266 q10 q267) rfl rfl rfl (by decide +kernel) ⟨Nat.le_of_ble_eq_true rfl, Nat.le_of_ble_eq_true rfl⟩) cb_preS rfl rfl hl.1 rfl (lv_room (Nat.le_of_ble_eq_true rfl)) dX6_init_121 ⟨Nat.le_of_ble_eq_true rfl, Nat.le_of_ble_eq_true rfl⟩) ?_
    refine mm_stI hx hb hB j hj i hk dX6_init_124 (fun H locs hB => ?_)
    refine lv_aload_n hx hb dX6_init_125 rfl (lv_at hl 2 rfl) ?_
    refine mm_get hx hb hts hown hB 5 (by decide) q273 rfl dX6_init_126 ?_
    refine lv_bipush (v := 8) hx hb dX6_init_129 (by decide) ?_
    refine lv_iload_n hx hb dX6_init_131 rfl (lv_at hl 1 rfl) ?_
    refine lv_imul hx hb dX6_init_132 ?_
    refine lv_iload_n hx hb dX6_init_133 rfl (lv_at hl 0 rfl) ?_
    refine lv_iadd hx hb dX6_init_134 ?_
    refine cb_top (y := nI (8 * j + i)) (mm_ix j i) ?_
    refine lv_aload_n hx hb dX6_init_135 rfl (lv_at hl 2 rfl) ?_
    refine mm_get hx hb hts hown hB 4 (by decide) q272 rfl dX6_init_136 ?_
    refine lv_bipush (v := 8) hx hb dX6_init_139 (by decide) ?_
    refine lv_iload_n hx hb dX6_init_141 rfl (lv_at hl 1 rfl) ?_
    refine lv_imul hx hb dX6_init_142 ?_
    refine lv_iload_n hx hb dX6_init_143 rfl (lv_at hl 0 rfl) ?_
    refine lv_iadd hx hb dX6_init_144 ?_
    refine cb_top (y := nI (8 * j + i)) (mm_ix j i) ?_
    refine mm_ldI hx hb hB j hj i hk dX6_init_145 ?_
    refine cb_top (y := cb_enc (j % 2) 0) (by show va_up (cb_iniF j i) j (upd (cb_iniF j i j) i (cb_enc (j % 2) 0)) j i = _; simp [va_up, upd]) ?_
    refine mm_stO hx hb hB j hj i hk dX6_init_146 (fun H locs hB => ?_)
    refine lv_iinc (v := (nI (i + 1))) (lv' := [(2, .int (nI (i + 1))), (1, .int (nI j)), (0, .ref (a 0))]) hx hb dX6_init_147 hl (k := 0) rfl (nI_1 i) (by decide) rfl (fun ls hl => ?_)
    refine lv_goto (tgt := 98) hx hb dX6_init_150 (by decide) ?_
    exact ih (i + 1) (by omega) H locs (by rw [← mm_ini_s]; exact hB) ls (lv_sub hl [0, 1, 2] rfl)
set_option maxHeartbeats 4000000 in
set_option maxRecDepth 100000 in
theorem mini_loop {p : Program} {l : Launch} {e : Env} {s : State} {m : MethodId} {args : Array Value} {below : List Frame} {meth : Method} {c : Code} {Q : State → Prop} {D : va_G} {tc : Nat → ClassId} {a : Nat → Nat} {A : Nat → Prop} {H0 : Heap} (hx : p.tables.exec = Jvm.exec) (hb : c.code = cX6_init) (hml : c.maxLocals = 3) (hts : ∀ w ∈ lw_all, w.before args s = true) (hown : s.vm.findClass RX6 = some m.cls) (K : ∀ (H : Heap) (locs : List Loc), mm_B D tc a A s H0 (mm_ini 8 8 0) 0 H locs → ∀ ls : Array Slot, lv_has ls 3 [] → W p l e (headSpec (ws_ yX6_init cX6_init 3 none) ({ frames := 1, cells := 7, slots := 224, locals := 23 } : Room)).room s m args below meth c H locs 7 224 Q (F0 m 159 ls [])) : ∀ (n i : Nat), i + n = 8 → ∀ (H : Heap) (locs : List Loc), mm_B D tc a A s H0 (mm_ini i i 0) 0 H locs → ∀ ls : Array Slot, lv_has ls 3 [(1, .int (nI i)), (0, .ref (a 0))] → W p l e (headSpec (ws_ yX6_init cX6_init 3 none) ({ frames := 1, cells := 7, slots := 224, locals := 23 } : Room)).room s m args below meth c H locs 7 224 Q (F0 m 72 ls []) := by
  intro n
  induction n with
  | zero =>
    intro i hi H locs hB ls hl
    obtain rfl : 8 = i := by omega
    refine lv_iload_n hx hb dX6_init_72 rfl (lv_at hl 0 rfl) ?_
    refine lv_bipush (v := 8) hx hb dX6_init_73 (by decide) ?_
    refine lv_icmp_ge (tgt := 159) hx hb dX6_init_75 (by decide) (fun cz => ?_) (fun cz => (cz (Int32.le_refl _) : False).elim)
    exact K H locs hB ls (lv_sub hl [] rfl)
  | succ n ih =>
    intro i hi H locs hB ls hl
    have hk : i < 8 := by omega
    refine lv_iload_n hx hb dX6_init_72 rfl (lv_at hl 0 rfl) ?_
    refine lv_bipush (v := 8) hx hb dX6_init_73 (by decide) ?_
    refine lv_icmp_ge (tgt := 159) hx hb dX6_init_75 (by decide) (fun cz => (absurd cz (nI_ge (b := 8) hk (by decide)) : False).elim) (fun cz => ?_)
    refine lv_aload_n hx hb dX6_init_78 rfl (lv_at hl 1 rfl) ?_
    refine mm_get hx hb hts hown hB 1 (by decide) q269 rfl dX6_init_79 ?_
    refine lv_iload_n hx hb dX6_init_82 rfl (lv_at hl 0 rfl) ?_
    refine lv_iload_n hx hb dX6_init_83 rfl (lv_at hl 0 rfl) ?_
    refine lv_iconst (v := 2) hx hb dX6_init_84 (by decide) ?_
    refine lv_irem hx hb dX6_init_85 (by decide) ?_
    refine cb_top (y := nI (i % 2)) (pk_rem (a := i) (d := 2) (by omega) (by decide) (by decide)) ?_
    refine mm_stLw hx hb hB i hk dX6_init_86 (fun H locs hB => ?_)
    refine lv_aload_n hx hb dX6_init_87 rfl (lv_at hl 1 rfl) ?_
    refine mm_get hx hb hts hown hB 2 (by decide) q270 rfl dX6_init_88 ?_
    refine lv_iload_n hx hb dX6_init_91 rfl (lv_at hl 0 rfl) ?_
    refine lv_sipush (v := 256) hx hb dX6_init_92 (by decide) ?_
    refine mm_stGn hx hb hB i hk dX6_init_95 (fun H locs hB => ?_)
    refine lv_iconst (v := 0) hx hb dX6_init_96 (by decide) ?_
    refine lv_istore_n (lv' := [(2, .int 0), (1, .int (nI i)), (0, .ref (a 0))]) hx hb dX6_init_97 rfl hl (by decide) rfl (fun ls hl => ?_)
    refine minik_loop (j := i) hx hb hml hts hown hk (fun H locs hB ls hl => ?_) 8 0 rfl H locs (by rw [← mm_ini_p]; exact hB) ls (lv_sub hl [0, 1, 2] rfl)
    refine lv_iinc (v := (nI (i + 1))) (lv' := [(1, .int (nI (i + 1))), (0, .ref (a 0))]) hx hb dX6_init_153 hl (k := 0) rfl (nI_1 i) (by decide) rfl (fun ls hl => ?_)
    refine lv_goto (tgt := 72) hx hb dX6_init_156 (by decide) ?_
    exact ih (i + 1) (by omega) H locs (by rw [← mm_ini_8]; exact hB) ls hl
def mm_PB (D : va_G) (tc : Nat → ClassId) (q sz : Nat) (U : State) : Prop := U.heap.size = sz ∧ va_P D cbCl [(q, .inr (4, [.int 0, .null, .null, .null, .null, .null, .null, .null, .int 0]))] U.heap ∧ va_K D cbCl (cb_tys tc) U
def mm_QB0 (D : va_G) (tc : Nat → ClassId) (q sz : Nat) (t : State) : Prop := ∃ a : Nat → Nat, a 0 = q ∧ va_P D cbCl (mm_w tc a cb_S0 0) t.heap ∧ mm_inj a ∧ ∀ k, k < 8 → cb_new q sz (a k)
def mm_QB (D : va_G) (tc : Nat → ClassId) (q sz : Nat) : Array Value → State → Outcome → State → Prop := fun _ st o t => o = .returned none ∧ mm_QB0 D tc q sz t ∧ va_F (cb_new q sz) st t
theorem mm_blindB {D : va_G} {tc : Nat → ClassId} {q sz : Nat} {av : List Value} : FrameBlind (va_Pc av (mm_PB D tc q sz)) := by
  intro z U f mk h
  obtain ⟨h1, h2, h3, h4⟩ := h
  exact ⟨h1, h2, h3, va_K.moved (u := U) (U := U.calling f mk z) (Vm.Alike.refl U.vm) h4⟩
set_option maxHeartbeats 4000000 in
set_option maxRecDepth 100000 in
theorem met_iM (l : Launch) (D : va_G) (tc : Nat → ClassId) (q sz : Nat) : Met l yX6_init (ws_ yX6_init cX6_init 3 none) ({ frames := 1, cells := 7, slots := 224, locals := 23 } : Room) (va_Pc [.ref q] (mm_PB D tc q sz)) (mm_QB D tc q sz) 7 224 (cb_new q sz) := by
  refine Met.ofW (cc := cX6_init) (maxL := 3) (ret := none) (by decide) rfl ?_
  intro p e s m args below meth c s₁ B hml hv
  obtain ⟨rfl, hv⟩ := hv
  have hx := B.exec
  have hb := B.bytes
  have hr := B.returns
  have hts := atoms_spec (ws := (ws_ yX6_init cX6_init 3 none)) B.pre
  have hts : ∀ w ∈ lw_all, w.before _ s = true := fun w h => hts w (List.mem_cons_of_mem _ h)
  have hown : s.vm.findClass RX6 = some m.cls := findClass_of_methodNamed B.named
  have hlocks := B.notSynchronized
  have hl := lv_entry ([.ref q]) (n := 3) (Nat.le_of_ble_eq_true rfl)
  rw [lg_entry_eq]
  generalize (lg_sl ([.ref q]) ++ List.replicate (3 - (lg_sl ([.ref q])).length) Slot.unset).toArray = ls at hl ⊢
  have hl : lv_has ls 3 [(0, .ref q)] := hl
  have hin : meth.name = "<init>" := (name_of_methodNamed B.named B.method).1
  obtain ⟨rfl, hP, hK⟩ := hv
  have hD : va_D (cb_new q s.heap.size) [(q, .inr (4, [.int 0, .null, .null, .null, .null, .null, .null, .null, .int 0]))] := ⟨fun i j x y hx hy _ => by have := (List.getElem?_eq_some_iff.mp hx).1; have := (List.getElem?_eq_some_iff.mp hy).1; simp only [List.length_cons, List.length_nil] at *; omega, fun k x hk => by have h0 := (List.getElem?_eq_some_iff.mp hk).1; rcases (show k = 0 by simp only [List.length_cons, List.length_nil] at h0; omega) with rfl; cases hk; exact Or.inl rfl⟩
  have hA : ∀ x : Nat, s.heap.size ≤ x → cb_new q s.heap.size x := fun x h => Or.inr h
  have hS : va_S (cb_new q s.heap.size) s.heap s.heap [] := va_S.rf
  refine lv_aload_n hx hb dX6_init_0 rfl (lv_at hl 0 rfl) ?_
  refine W.objInit hx hb hown (hts _ q264) (hts _ q21) (hts _ q22) rfl (by rw [hml]; exact hl.1) rfl dX6_init_1 (Nat.le_of_ble_eq_true rfl) (Nat.le_of_ble_eq_true rfl) ?_
  refine W.eq (g2 := F0 m 4 ls []) rfl ?_
  refine lv_aload_n hx hb dX6_init_4 rfl (lv_at hl 0 rfl) ?_
  refine lv_iconst (v := 0) hx hb dX6_init_5 (by decide) ?_
  refine va_put (D := D) (ci := 4) (v := .int 0) (ty := .int) (C := RX6) (T := TX6) (N := 9) hx hb hts in_X6 tyX6 tyX6_ok nmX6 hown hK hP hD hS 0 rfl rfl 0 (by decide) (hts _ q268) (fun _ h9 => h9) rfl (by decide +kernel) rfl rfl (Nat.le_of_ble_eq_true rfl) dX6_init_6 (fun H locs hP hD hS => ?_)
  have hP : va_P D cbCl [(q, .inr (4, [.int 0, .null, .null, .null, .null, .null, .null, .null, .int 0]))] H := hP
  have hD : va_D (cb_new q s.heap.size) [(q, .inr (4, [.int 0, .null, .null, .null, .null, .null, .null, .null, .int 0]))] := hD
  refine lv_aload_n hx hb dX6_init_9 rfl (lv_at hl 0 rfl) ?_
  refine lv_bipush (v := 8) hx hb dX6_init_10 (by decide) ?_
  refine va_newa (atype := .int) (ty := .int) (N' := 8) (a0 := (8, .inl (mm_fl (cb_lw (mm_ini 0 0 0))))) hx hb (hts _ q78) rfl hK hP hD hS hA (fun cA => cb_newi (fun j => by show nI (if j < 0 then j % 2 else 0) = 0; rw [if_neg (Nat.not_lt_zero j)]; rfl)) (by decide) (by decide) (by decide) (Nat.le_of_ble_eq_true rfl) (Nat.le_of_ble_eq_true rfl) dX6_init_12 (fun a1 cA H hK9 hP hD hS => ?_)
  obtain rfl : tc 2 = cA := cb_ty_p (Or.inl rfl) hK hK9 2 5 rfl rfl
  have hP : va_P D cbCl [(q, .inr (4, [.int 0, .null, .null, .null, .null, .null, .null, .null, .int 0])), (a1, .inl (tc 2, 8, .inl (mm_fl (cb_lw (mm_ini 0 0 0)))))] H := hP
  have hD : va_D (cb_new q s.heap.size) [(q, .inr (4, [.int 0, .null, .null, .null, .null, .null, .null, .null, .int 0])), (a1, .inl (tc 2, 8, .inl (mm_fl (cb_lw (mm_ini 0 0 0)))))] := hD
  refine va_putF (D := D) (ci := 4) (v := .ref a1) (ty := .array .int) (C := RX6) (T := TX6) (N := 9) hx hb hts in_X6 tyX6 tyX6_ok nmX6 hown hK hP hD hS 0 rfl rfl 1 (by decide) (hts _ q269) (fun _ h9 => h9) rfl hin rfl (by decide +kernel) rfl rfl (Nat.le_of_ble_eq_true rfl) dX6_init_14 (fun H locs hP hD hS => ?_)
  have hP : va_P D cbCl [(q, .inr (4, [.int 0, .ref a1, .null, .null, .null, .null, .null, .null, .int 0])), (a1, .inl (tc 2, 8, .inl (mm_fl (cb_lw (mm_ini 0 0 0)))))] H := hP
  have hD : va_D (cb_new q s.heap.size) [(q, .inr (4, [.int 0, .ref a1, .null, .null, .null, .null, .null, .null, .int 0])), (a1, .inl (tc 2, 8, .inl (mm_fl (cb_lw (mm_ini 0 0 0)))))] := hD
  refine lv_aload_n hx hb dX6_init_17 rfl (lv_at hl 0 rfl) ?_
  refine lv_bipush (v := 8) hx hb dX6_init_18 (by decide) ?_
  refine va_newa (atype := .int) (ty := .int) (N' := 8) (a0 := (8, .inl (cb_gn (mm_ini 0 0 0)))) hx hb (hts _ q78) rfl hK hP hD hS hA (fun cA => cb_newi (fun j => by show (if j < 0 then (256 : Int32) else 0) = 0; rw [if_neg (Nat.not_lt_zero j)])) (by decide) (by decide) (by decide) (Nat.le_of_ble_eq_true rfl) (Nat.le_of_ble_eq_true rfl) dX6_init_20 (fun a2 cA H hK9 hP hD hS => ?_)
  obtain rfl : tc 2 = cA := cb_ty_p (Or.inl rfl) hK hK9 2 5 rfl rfl
  have hP : va_P D cbCl [(q, .inr (4, [.int 0, .ref a1, .null, .null, .null, .null, .null, .null, .int 0])), (a1, .inl (tc 2, 8, .inl (mm_fl (cb_lw (mm_ini 0 0 0))))), (a2, .inl (tc 2, 8, .inl (cb_gn (mm_ini 0 0 0))))] H := hP
  have hD : va_D (cb_new q s.heap.size) [(q, .inr (4, [.int 0, .ref a1, .null, .null, .null, .null, .null, .null, .int 0])), (a1, .inl (tc 2, 8, .inl (mm_fl (cb_lw (mm_ini 0 0 0))))), (a2, .inl (tc 2, 8, .inl (cb_gn (mm_ini 0 0 0))))] := hD
  refine va_putF (D := D) (ci := 4) (v := .ref a2) (ty := .array .int) (C := RX6) (T := TX6) (N := 9) hx hb hts in_X6 tyX6 tyX6_ok nmX6 hown hK hP hD hS 0 rfl rfl 2 (by decide) (hts _ q270) (fun _ h9 => h9) rfl hin rfl (by decide +kernel) rfl rfl (Nat.le_of_ble_eq_true rfl) dX6_init_22 (fun H locs hP hD hS => ?_)
  have hP : va_P D cbCl [(q, .inr (4, [.int 0, .ref a1, .ref a2, .null, .null, .null, .null, .null, .int 0])), (a1, .inl (tc 2, 8, .inl (mm_fl (cb_lw (mm_ini 0 0 0))))), (a2, .inl (tc 2, 8, .inl (cb_gn (mm_ini 0 0 0))))] H := hP
  have hD : va_D (cb_new q s.heap.size) [(q, .inr (4, [.int 0, .ref a1, .ref a2, .null, .null, .null, .null, .null, .int 0])), (a1, .inl (tc 2, 8, .inl (mm_fl (cb_lw (mm_ini 0 0 0))))), (a2, .inl (tc 2, 8, .inl (cb_gn (mm_ini 0 0 0))))] := hD
  refine lv_aload_n hx hb dX6_init_25 rfl (lv_at hl 0 rfl) ?_
  refine lv_bipush (v := 8) hx hb dX6_init_26 (by decide) ?_
  refine va_newa (atype := .boolean) (ty := .boolean) (N' := 8) (a0 := (8, .inl (cb_mu (mm_ini 0 0 0)))) hx hb (hts _ q296) rfl hK hP hD hS hA (fun cA => cb_newi (fun j => by rfl)) (by decide) (by decide) (by decide) (Nat.le_of_ble_eq_true rfl) (Nat.le_of_ble_eq_true rfl) dX6_init_28 (fun a3 cA H hK9 hP hD hS => ?_)
  obtain rfl : tc 3 = cA := cb_ty_p (Or.inr (Or.inl rfl)) hK hK9 3 5 rfl rfl
  have hP : va_P D cbCl [(q, .inr (4, [.int 0, .ref a1, .ref a2, .null, .null, .null, .null, .null, .int 0])), (a1, .inl (tc 2, 8, .inl (mm_fl (cb_lw (mm_ini 0 0 0))))), (a2, .inl (tc 2, 8, .inl (cb_gn (mm_ini 0 0 0)))), (a3, .inl (tc 3, 8, .inl (cb_mu (mm_ini 0 0 0))))] H := hP
  have hD : va_D (cb_new q s.heap.size) [(q, .inr (4, [.int 0, .ref a1, .ref a2, .null, .null, .null, .null, .null, .int 0])), (a1, .inl (tc 2, 8, .inl (mm_fl (cb_lw (mm_ini 0 0 0))))), (a2, .inl (tc 2, 8, .inl (cb_gn (mm_ini 0 0 0)))), (a3, .inl (tc 3, 8, .inl (cb_mu (mm_ini 0 0 0))))] := hD
  refine va_putF (D := D) (ci := 4) (v := .ref a3) (ty := .array .boolean) (C := RX6) (T := TX6) (N := 9) hx hb hts in_X6 tyX6 tyX6_ok nmX6 hown hK hP hD hS 0 rfl rfl 3 (by decide) (hts _ q271) (fun _ h9 => h9) rfl hin rfl (by decide +kernel) rfl rfl (Nat.le_of_ble_eq_true rfl) dX6_init_30 (fun H locs hP hD hS => ?_)
  have hP : va_P D cbCl [(q, .inr (4, [.int 0, .ref a1, .ref a2, .ref a3, .null, .null, .null, .null, .int 0])), (a1, .inl (tc 2, 8, .inl (mm_fl (cb_lw (mm_ini 0 0 0))))), (a2, .inl (tc 2, 8, .inl (cb_gn (mm_ini 0 0 0)))), (a3, .inl (tc 3, 8, .inl (cb_mu (mm_ini 0 0 0))))] H := hP
  have hD : va_D (cb_new q s.heap.size) [(q, .inr (4, [.int 0, .ref a1, .ref a2, .ref a3, .null, .null, .null, .null, .int 0])), (a1, .inl (tc 2, 8, .inl (mm_fl (cb_lw (mm_ini 0 0 0))))), (a2, .inl (tc 2, 8, .inl (cb_gn (mm_ini 0 0 0)))), (a3, .inl (tc 3, 8, .inl (cb_mu (mm_ini 0 0 0))))] := hD
  refine lv_aload_n hx hb dX6_init_33 rfl (lv_at hl 0 rfl) ?_
  refine lv_bipush (v := 64) hx hb dX6_init_34 (by decide) ?_
  refine va_newa (atype := .int) (ty := .int) (N' := 64) (a0 := (64, .inl (mm_f2 (cb_ii (mm_ini 0 0 0))))) hx hb (hts _ q78) rfl hK hP hD hS hA (fun cA => cb_newi (fun j => by exact cb_iniF_00 _ _)) (by decide) (by decide) (by decide) (Nat.le_of_ble_eq_true rfl) (Nat.le_of_ble_eq_true rfl) dX6_init_36 (fun a4 cA H hK9 hP hD hS => ?_)
  obtain rfl : tc 2 = cA := cb_ty_p (Or.inl rfl) hK hK9 2 5 rfl rfl
  have hP : va_P D cbCl [(q, .inr (4, [.int 0, .ref a1, .ref a2, .ref a3, .null, .null, .null, .null, .int 0])), (a1, .inl (tc 2, 8, .inl (mm_fl (cb_lw (mm_ini 0 0 0))))), (a2, .inl (tc 2, 8, .inl (cb_gn (mm_ini 0 0 0)))), (a3, .inl (tc 3, 8, .inl (cb_mu (mm_ini 0 0 0)))), (a4, .inl (tc 2, 64, .inl (mm_f2 (cb_ii (mm_ini 0 0 0)))))] H := hP
  have hD : va_D (cb_new q s.heap.size) [(q, .inr (4, [.int 0, .ref a1, .ref a2, .ref a3, .null, .null, .null, .null, .int 0])), (a1, .inl (tc 2, 8, .inl (mm_fl (cb_lw (mm_ini 0 0 0))))), (a2, .inl (tc 2, 8, .inl (cb_gn (mm_ini 0 0 0)))), (a3, .inl (tc 3, 8, .inl (cb_mu (mm_ini 0 0 0)))), (a4, .inl (tc 2, 64, .inl (mm_f2 (cb_ii (mm_ini 0 0 0)))))] := hD
  refine va_putF (D := D) (ci := 4) (v := .ref a4) (ty := .array .int) (C := RX6) (T := TX6) (N := 9) hx hb hts in_X6 tyX6 tyX6_ok nmX6 hown hK hP hD hS 0 rfl rfl 4 (by decide) (hts _ q272) (fun _ h9 => h9) rfl hin rfl (by decide +kernel) rfl rfl (Nat.le_of_ble_eq_true rfl) dX6_init_38 (fun H locs hP hD hS => ?_)
  have hP : va_P D cbCl [(q, .inr (4, [.int 0, .ref a1, .ref a2, .ref a3, .ref a4, .null, .null, .null, .int 0])), (a1, .inl (tc 2, 8, .inl (mm_fl (cb_lw (mm_ini 0 0 0))))), (a2, .inl (tc 2, 8, .inl (cb_gn (mm_ini 0 0 0)))), (a3, .inl (tc 3, 8, .inl (cb_mu (mm_ini 0 0 0)))), (a4, .inl (tc 2, 64, .inl (mm_f2 (cb_ii (mm_ini 0 0 0)))))] H := hP
  have hD : va_D (cb_new q s.heap.size) [(q, .inr (4, [.int 0, .ref a1, .ref a2, .ref a3, .ref a4, .null, .null, .null, .int 0])), (a1, .inl (tc 2, 8, .inl (mm_fl (cb_lw (mm_ini 0 0 0))))), (a2, .inl (tc 2, 8, .inl (cb_gn (mm_ini 0 0 0)))), (a3, .inl (tc 3, 8, .inl (cb_mu (mm_ini 0 0 0)))), (a4, .inl (tc 2, 64, .inl (mm_f2 (cb_ii (mm_ini 0 0 0)))))] := hD
  refine lv_aload_n hx hb dX6_init_41 rfl (lv_at hl 0 rfl) ?_
  refine lv_bipush (v := 64) hx hb dX6_init_42 (by decide) ?_
  refine va_newa (atype := .int) (ty := .int) (N' := 64) (a0 := (64, .inl (mm_f2 (cb_ou (mm_ini 0 0 0))))) hx hb (hts _ q78) rfl hK hP hD hS hA (fun cA => cb_newi (fun j => by exact cb_iniF_00 _ _)) (by decide) (by decide) (by decide) (Nat.le_of_ble_eq_true rfl) (Nat.le_of_ble_eq_true rfl) dX6_init_44 (fun a5 cA H hK9 hP hD hS => ?_)
  obtain rfl : tc 2 = cA := cb_ty_p (Or.inl rfl) hK hK9 2 5 rfl rfl
  have hP : va_P D cbCl [(q, .inr (4, [.int 0, .ref a1, .ref a2, .ref a3, .ref a4, .null, .null, .null, .int 0])), (a1, .inl (tc 2, 8, .inl (mm_fl (cb_lw (mm_ini 0 0 0))))), (a2, .inl (tc 2, 8, .inl (cb_gn (mm_ini 0 0 0)))), (a3, .inl (tc 3, 8, .inl (cb_mu (mm_ini 0 0 0)))), (a4, .inl (tc 2, 64, .inl (mm_f2 (cb_ii (mm_ini 0 0 0))))), (a5, .inl (tc 2, 64, .inl (mm_f2 (cb_ou (mm_ini 0 0 0)))))] H := hP
  have hD : va_D (cb_new q s.heap.size) [(q, .inr (4, [.int 0, .ref a1, .ref a2, .ref a3, .ref a4, .null, .null, .null, .int 0])), (a1, .inl (tc 2, 8, .inl (mm_fl (cb_lw (mm_ini 0 0 0))))), (a2, .inl (tc 2, 8, .inl (cb_gn (mm_ini 0 0 0)))), (a3, .inl (tc 3, 8, .inl (cb_mu (mm_ini 0 0 0)))), (a4, .inl (tc 2, 64, .inl (mm_f2 (cb_ii (mm_ini 0 0 0))))), (a5, .inl (tc 2, 64, .inl (mm_f2 (cb_ou (mm_ini 0 0 0)))))] := hD
  refine va_putF (D := D) (ci := 4) (v := .ref a5) (ty := .array .int) (C := RX6) (T := TX6) (N := 9) hx hb hts in_X6 tyX6 tyX6_ok nmX6 hown hK hP hD hS 0 rfl rfl 5 (by decide) (hts _ q273) (fun _ h9 => h9) rfl hin rfl (by decide +kernel) rfl rfl (Nat.le_of_ble_eq_true rfl) dX6_init_46 (fun H locs hP hD hS => ?_)
  have hP : va_P D cbCl [(q, .inr (4, [.int 0, .ref a1, .ref a2, .ref a3, .ref a4, .ref a5, .null, .null, .int 0])), (a1, .inl (tc 2, 8, .inl (mm_fl (cb_lw (mm_ini 0 0 0))))), (a2, .inl (tc 2, 8, .inl (cb_gn (mm_ini 0 0 0)))), (a3, .inl (tc 3, 8, .inl (cb_mu (mm_ini 0 0 0)))), (a4, .inl (tc 2, 64, .inl (mm_f2 (cb_ii (mm_ini 0 0 0))))), (a5, .inl (tc 2, 64, .inl (mm_f2 (cb_ou (mm_ini 0 0 0)))))] H := hP
  have hD : va_D (cb_new q s.heap.size) [(q, .inr (4, [.int 0, .ref a1, .ref a2, .ref a3, .ref a4, .ref a5, .null, .null, .int 0])), (a1, .inl (tc 2, 8, .inl (mm_fl (cb_lw (mm_ini 0 0 0))))), (a2, .inl (tc 2, 8, .inl (cb_gn (mm_ini 0 0 0)))), (a3, .inl (tc 3, 8, .inl (cb_mu (mm_ini 0 0 0)))), (a4, .inl (tc 2, 64, .inl (mm_f2 (cb_ii (mm_ini 0 0 0))))), (a5, .inl (tc 2, 64, .inl (mm_f2 (cb_ou (mm_ini 0 0 0)))))] := hD
  refine lv_aload_n hx hb dX6_init_49 rfl (lv_at hl 0 rfl) ?_
  refine lv_bipush (v := 64) hx hb dX6_init_50 (by decide) ?_
  refine va_newa (atype := .int) (ty := .int) (N' := 64) (a0 := (64, .inl (mm_f2 (cb_sm (mm_ini 0 0 0))))) hx hb (hts _ q78) rfl hK hP hD hS hA (fun cA => cb_newi (fun j => by rfl)) (by decide) (by decide) (by decide) (Nat.le_of_ble_eq_true rfl) (Nat.le_of_ble_eq_true rfl) dX6_init_52 (fun a6 cA H hK9 hP hD hS => ?_)
  obtain rfl : tc 2 = cA := cb_ty_p (Or.inl rfl) hK hK9 2 5 rfl rfl
  have hP : va_P D cbCl [(q, .inr (4, [.int 0, .ref a1, .ref a2, .ref a3, .ref a4, .ref a5, .null, .null, .int 0])), (a1, .inl (tc 2, 8, .inl (mm_fl (cb_lw (mm_ini 0 0 0))))), (a2, .inl (tc 2, 8, .inl (cb_gn (mm_ini 0 0 0)))), (a3, .inl (tc 3, 8, .inl (cb_mu (mm_ini 0 0 0)))), (a4, .inl (tc 2, 64, .inl (mm_f2 (cb_ii (mm_ini 0 0 0))))), (a5, .inl (tc 2, 64, .inl (mm_f2 (cb_ou (mm_ini 0 0 0))))), (a6, .inl (tc 2, 64, .inl (mm_f2 (cb_sm (mm_ini 0 0 0)))))] H := hP
  have hD : va_D (cb_new q s.heap.size) [(q, .inr (4, [.int 0, .ref a1, .ref a2, .ref a3, .ref a4, .ref a5, .null, .null, .int 0])), (a1, .inl (tc 2, 8, .inl (mm_fl (cb_lw (mm_ini 0 0 0))))), (a2, .inl (tc 2, 8, .inl (cb_gn (mm_ini 0 0 0)))), (a3, .inl (tc 3, 8, .inl (cb_mu (mm_ini 0 0 0)))), (a4, .inl (tc 2, 64, .inl (mm_f2 (cb_ii (mm_ini 0 0 0))))), (a5, .inl (tc 2, 64, .inl (mm_f2 (cb_ou (mm_ini 0 0 0))))), (a6, .inl (tc 2, 64, .inl (mm_f2 (cb_sm (mm_ini 0 0 0)))))] := hD
  refine va_putF (D := D) (ci := 4) (v := .ref a6) (ty := .array .int) (C := RX6) (T := TX6) (N := 9) hx hb hts in_X6 tyX6 tyX6_ok nmX6 hown hK hP hD hS 0 rfl rfl 6 (by decide) (hts _ q274) (fun _ h9 => h9) rfl hin rfl (by decide +kernel) rfl rfl (Nat.le_of_ble_eq_true rfl) dX6_init_54 (fun H locs hP hD hS => ?_)
  have hP : va_P D cbCl [(q, .inr (4, [.int 0, .ref a1, .ref a2, .ref a3, .ref a4, .ref a5, .ref a6, .null, .int 0])), (a1, .inl (tc 2, 8, .inl (mm_fl (cb_lw (mm_ini 0 0 0))))), (a2, .inl (tc 2, 8, .inl (cb_gn (mm_ini 0 0 0)))), (a3, .inl (tc 3, 8, .inl (cb_mu (mm_ini 0 0 0)))), (a4, .inl (tc 2, 64, .inl (mm_f2 (cb_ii (mm_ini 0 0 0))))), (a5, .inl (tc 2, 64, .inl (mm_f2 (cb_ou (mm_ini 0 0 0))))), (a6, .inl (tc 2, 64, .inl (mm_f2 (cb_sm (mm_ini 0 0 0)))))] H := hP
  have hD : va_D (cb_new q s.heap.size) [(q, .inr (4, [.int 0, .ref a1, .ref a2, .ref a3, .ref a4, .ref a5, .ref a6, .null, .int 0])), (a1, .inl (tc 2, 8, .inl (mm_fl (cb_lw (mm_ini 0 0 0))))), (a2, .inl (tc 2, 8, .inl (cb_gn (mm_ini 0 0 0)))), (a3, .inl (tc 3, 8, .inl (cb_mu (mm_ini 0 0 0)))), (a4, .inl (tc 2, 64, .inl (mm_f2 (cb_ii (mm_ini 0 0 0))))), (a5, .inl (tc 2, 64, .inl (mm_f2 (cb_ou (mm_ini 0 0 0))))), (a6, .inl (tc 2, 64, .inl (mm_f2 (cb_sm (mm_ini 0 0 0)))))] := hD
  refine lv_aload_n hx hb dX6_init_57 rfl (lv_at hl 0 rfl) ?_
  refine lv_bipush (v := 8) hx hb dX6_init_58 (by decide) ?_
  refine va_newa (atype := .long) (ty := .long) (N' := 8) (a0 := (8, .inr (.inl (cb_en (mm_ini 0 0 0))))) hx hb (hts _ q297) rfl hK hP hD hS hA (fun cA => cb_newl (fun j => by rfl)) (by decide) (by decide) (by decide) (Nat.le_of_ble_eq_true rfl) (Nat.le_of_ble_eq_true rfl) dX6_init_60 (fun a7 cA H hK9 hP hD hS => ?_)
  obtain rfl : tc 4 = cA := cb_ty_p (Or.inr (Or.inr rfl)) hK hK9 4 5 rfl rfl
  have hP : va_P D cbCl [(q, .inr (4, [.int 0, .ref a1, .ref a2, .ref a3, .ref a4, .ref a5, .ref a6, .null, .int 0])), (a1, .inl (tc 2, 8, .inl (mm_fl (cb_lw (mm_ini 0 0 0))))), (a2, .inl (tc 2, 8, .inl (cb_gn (mm_ini 0 0 0)))), (a3, .inl (tc 3, 8, .inl (cb_mu (mm_ini 0 0 0)))), (a4, .inl (tc 2, 64, .inl (mm_f2 (cb_ii (mm_ini 0 0 0))))), (a5, .inl (tc 2, 64, .inl (mm_f2 (cb_ou (mm_ini 0 0 0))))), (a6, .inl (tc 2, 64, .inl (mm_f2 (cb_sm (mm_ini 0 0 0))))), (a7, .inl (tc 4, 8, .inr (.inl (cb_en (mm_ini 0 0 0)))))] H := hP
  have hD : va_D (cb_new q s.heap.size) [(q, .inr (4, [.int 0, .ref a1, .ref a2, .ref a3, .ref a4, .ref a5, .ref a6, .null, .int 0])), (a1, .inl (tc 2, 8, .inl (mm_fl (cb_lw (mm_ini 0 0 0))))), (a2, .inl (tc 2, 8, .inl (cb_gn (mm_ini 0 0 0)))), (a3, .inl (tc 3, 8, .inl (cb_mu (mm_ini 0 0 0)))), (a4, .inl (tc 2, 64, .inl (mm_f2 (cb_ii (mm_ini 0 0 0))))), (a5, .inl (tc 2, 64, .inl (mm_f2 (cb_ou (mm_ini 0 0 0))))), (a6, .inl (tc 2, 64, .inl (mm_f2 (cb_sm (mm_ini 0 0 0))))), (a7, .inl (tc 4, 8, .inr (.inl (cb_en (mm_ini 0 0 0)))))] := hD
  refine va_putF (D := D) (ci := 4) (v := .ref a7) (ty := .array .long) (C := RX6) (T := TX6) (N := 9) hx hb hts in_X6 tyX6 tyX6_ok nmX6 hown hK hP hD hS 0 rfl rfl 7 (by decide) (hts _ q275) (fun _ h9 => h9) rfl hin rfl (by decide +kernel) rfl rfl (Nat.le_of_ble_eq_true rfl) dX6_init_62 (fun H locs hP hD hS => ?_)
  have hP : va_P D cbCl [(q, .inr (4, [.int 0, .ref a1, .ref a2, .ref a3, .ref a4, .ref a5, .ref a6, .ref a7, .int 0])), (a1, .inl (tc 2, 8, .inl (mm_fl (cb_lw (mm_ini 0 0 0))))), (a2, .inl (tc 2, 8, .inl (cb_gn (mm_ini 0 0 0)))), (a3, .inl (tc 3, 8, .inl (cb_mu (mm_ini 0 0 0)))), (a4, .inl (tc 2, 64, .inl (mm_f2 (cb_ii (mm_ini 0 0 0))))), (a5, .inl (tc 2, 64, .inl (mm_f2 (cb_ou (mm_ini 0 0 0))))), (a6, .inl (tc 2, 64, .inl (mm_f2 (cb_sm (mm_ini 0 0 0))))), (a7, .inl (tc 4, 8, .inr (.inl (cb_en (mm_ini 0 0 0)))))] H := hP
  have hD : va_D (cb_new q s.heap.size) [(q, .inr (4, [.int 0, .ref a1, .ref a2, .ref a3, .ref a4, .ref a5, .ref a6, .ref a7, .int 0])), (a1, .inl (tc 2, 8, .inl (mm_fl (cb_lw (mm_ini 0 0 0))))), (a2, .inl (tc 2, 8, .inl (cb_gn (mm_ini 0 0 0)))), (a3, .inl (tc 3, 8, .inl (cb_mu (mm_ini 0 0 0)))), (a4, .inl (tc 2, 64, .inl (mm_f2 (cb_ii (mm_ini 0 0 0))))), (a5, .inl (tc 2, 64, .inl (mm_f2 (cb_ou (mm_ini 0 0 0))))), (a6, .inl (tc 2, 64, .inl (mm_f2 (cb_sm (mm_ini 0 0 0))))), (a7, .inl (tc 4, 8, .inr (.inl (cb_en (mm_ini 0 0 0)))))] := hD
  refine lv_aload_n hx hb dX6_init_65 rfl (lv_at hl 0 rfl) ?_
  refine lv_iconst (v := 3) hx hb dX6_init_66 (by decide) ?_
  refine va_put (D := D) (ci := 4) (v := .int 3) (ty := .int) (C := RX6) (T := TX6) (N := 9) hx hb hts in_X6 tyX6 tyX6_ok nmX6 hown hK hP hD hS 0 rfl rfl 8 (by decide) (hts _ q276) (fun _ h9 => h9) rfl (by decide +kernel) rfl rfl (Nat.le_of_ble_eq_true rfl) dX6_init_67 (fun H locs hP hD hS => ?_)
  have hP : va_P D cbCl [(q, .inr (4, [.int 0, .ref a1, .ref a2, .ref a3, .ref a4, .ref a5, .ref a6, .ref a7, .int 3])), (a1, .inl (tc 2, 8, .inl (mm_fl (cb_lw (mm_ini 0 0 0))))), (a2, .inl (tc 2, 8, .inl (cb_gn (mm_ini 0 0 0)))), (a3, .inl (tc 3, 8, .inl (cb_mu (mm_ini 0 0 0)))), (a4, .inl (tc 2, 64, .inl (mm_f2 (cb_ii (mm_ini 0 0 0))))), (a5, .inl (tc 2, 64, .inl (mm_f2 (cb_ou (mm_ini 0 0 0))))), (a6, .inl (tc 2, 64, .inl (mm_f2 (cb_sm (mm_ini 0 0 0))))), (a7, .inl (tc 4, 8, .inr (.inl (cb_en (mm_ini 0 0 0)))))] H := hP
  have hD : va_D (cb_new q s.heap.size) [(q, .inr (4, [.int 0, .ref a1, .ref a2, .ref a3, .ref a4, .ref a5, .ref a6, .ref a7, .int 3])), (a1, .inl (tc 2, 8, .inl (mm_fl (cb_lw (mm_ini 0 0 0))))), (a2, .inl (tc 2, 8, .inl (cb_gn (mm_ini 0 0 0)))), (a3, .inl (tc 3, 8, .inl (cb_mu (mm_ini 0 0 0)))), (a4, .inl (tc 2, 64, .inl (mm_f2 (cb_ii (mm_ini 0 0 0))))), (a5, .inl (tc 2, 64, .inl (mm_f2 (cb_ou (mm_ini 0 0 0))))), (a6, .inl (tc 2, 64, .inl (mm_f2 (cb_sm (mm_ini 0 0 0))))), (a7, .inl (tc 4, 8, .inr (.inl (cb_en (mm_ini 0 0 0)))))] := hD
  refine lv_iconst (v := 0) hx hb dX6_init_70 (by decide) ?_
  refine lv_istore_n (lv' := [(1, .int 0), (0, .ref q)]) hx hb dX6_init_71 rfl hl (by decide) rfl (fun ls hl => ?_)
  obtain ⟨a, e0, e1, e2, e3, e4, e5, e6, e7⟩ : ∃ a : Nat → Nat, a 0 = q ∧ a 1 = a1 ∧ a 2 = a2 ∧ a 3 = a3 ∧ a 4 = a4 ∧ a 5 = a5 ∧ a 6 = a6 ∧ a 7 = a7 := ⟨fun k => if k = 0 then q else if k = 1 then a1 else if k = 2 then a2 else if k = 3 then a3 else if k = 4 then a4 else if k = 5 then a5 else if k = 6 then a6 else a7, rfl, rfl, rfl, rfl, rfl, rfl, rfl, rfl⟩
  have hw : mm_w tc a (mm_ini 0 0 0) 0 = [(q, .inr (4, [.int 0, .ref a1, .ref a2, .ref a3, .ref a4, .ref a5, .ref a6, .ref a7, .int 3])), (a1, .inl (tc 2, 8, .inl (mm_fl (cb_lw (mm_ini 0 0 0))))), (a2, .inl (tc 2, 8, .inl (cb_gn (mm_ini 0 0 0)))), (a3, .inl (tc 3, 8, .inl (cb_mu (mm_ini 0 0 0)))), (a4, .inl (tc 2, 64, .inl (mm_f2 (cb_ii (mm_ini 0 0 0))))), (a5, .inl (tc 2, 64, .inl (mm_f2 (cb_ou (mm_ini 0 0 0))))), (a6, .inl (tc 2, 64, .inl (mm_f2 (cb_sm (mm_ini 0 0 0))))), (a7, .inl (tc 4, 8, .inr (.inl (cb_en (mm_ini 0 0 0)))))] := by
    show ([(a 0, .inr (4, [.int 0, .ref (a 1), .ref (a 2), .ref (a 3), .ref (a 4), .ref (a 5), .ref (a 6), .ref (a 7), .int 3])), ((a 1), .inl (tc 2, 8, .inl (mm_fl (cb_lw (mm_ini 0 0 0))))), ((a 2), .inl (tc 2, 8, .inl (cb_gn (mm_ini 0 0 0)))), ((a 3), .inl (tc 3, 8, .inl (cb_mu (mm_ini 0 0 0)))), ((a 4), .inl (tc 2, 64, .inl (mm_f2 (cb_ii (mm_ini 0 0 0))))), ((a 5), .inl (tc 2, 64, .inl (mm_f2 (cb_ou (mm_ini 0 0 0))))), ((a 6), .inl (tc 2, 64, .inl (mm_f2 (cb_sm (mm_ini 0 0 0))))), ((a 7), .inl (tc 4, 8, .inr (.inl (cb_en (mm_ini 0 0 0)))))] : va_W) = _
    rw [e0, e1, e2, e3, e4, e5, e6, e7]
  have hB : mm_B D tc a (cb_new q s.heap.size) s s.heap (mm_ini 0 0 0) 0 H locs := ⟨by rw [hw]; exact hP, by rw [hw]; exact hD, hS, hK⟩
  refine mini_loop hx hb hml hts hown (fun H locs hB ls hl => ?_) 8 0 rfl H locs hB ls (by rw [e0]; exact lv_sub hl [0, 1] rfl)
  exact W.vret hx hb hr (fun t ht hW => ⟨rfl, ⟨a, e0, by rw [ht]; exact mm_Pext hB.1, (mm_D_to hB.2.1).1, (mm_D_to hB.2.1).2⟩, hB.2.2.1.F ht⟩) hB.2.2.1.2.2 dX6_init_159
end
section
/-! A CALL THAT THROWS, CAUGHT IN THE CALLER by a class that may not be resolved yet -/
set_option maxRecDepth 100000
def cb_NS : String := "java/util/NoSuchElementException"
theorem cb_keepAll {s s' : State} {k n : Nat} (h : s.sameButNew s' [] k n) : ∀ q : Nat, q < s.heap.size → s'.heap[q]? = s.heap[q]? := by
  intro q hq
  obtain ⟨-, -, -, -, -, h6⟩ := h
  obtain ⟨c', e1, e2, e3, e4⟩ := h6 q s.heap[q] (Array.getElem?_eq_getElem hq)
  rw [e1, Array.getElem?_eq_getElem hq]
  have e5 : c'.slots = s.heap[q].slots := Array.ext_getElem? (fun i => e4 i (by simp))
  rw [e5] at e2
  rw [e2]
theorem cb_asg (vm : Vm) (c : ClassId) : vm.assignable c c = true := by
  show vm.assignableAux (255 + 1) c c = true
  rw [Vm.assignableAux, beq_self_eq_true, Bool.true_or]
theorem cb_findCold {e : Env} {s : State} {f : JFrame} {a : Addr} {meth : Method} {code : Code} {x : ExceptionTableEntry} {c : ClassId} {cell : Cell} {vm' : Vm}
    (hm : s.vm.method? f.method = some meth) (hc : meth.code = some code) (hT : code.exceptionTable.toList = [x]) (hx : covers x f.pc = true) (h0 : x.catchType ≠ 0)
    (hg : (Jvm.resolveClass f.method.cls x.catchType).Gives e.toSetting s.vm (.ok c) vm') (hsz : vm'.classes.size ≤ s.vm.classes.size)
    (hcell : s.heap[a]? = some cell) (hobj : ∀ k, cell.vm ≠ .statics k) (hk : ∃ k, vm'.classes[cell.cls]? = some k) (hcl : ∃ k, vm'.classes[c]? = some k) (hfit : vm'.assignable cell.cls c = true)
    (Q : Handler → Pre) (E : CtlPost) (d : Bool) (acts : List Action) : wp (findHandler f a) Q E e d acts s ↔ Q (.found x.handlerPc) d acts (s.setVm vm') := by
  rw [W.findHandler_eq hm hc, hT]
  simp only [covers] at hx
  obtain ⟨ha, ht⟩ := hg.op (op := VmOp.resolveClass f.method.cls x.catchType) rfl
  obtain ⟨k1, hk1⟩ := hk
  obtain ⟨k2, hk2⟩ := hcl
  simp [findHandler.go, hx, h0, ha, ht, hsz, hcell, hobj, hk1, hk2, hfit, VmOp.dirties, VmOp.acts]
theorem cb_stepCatch {e : Env} {s : State} {a : Addr} {f : JFrame} {r : List Frame} {pc : Nat} {vm' : Vm} (hfind : ∀ (Q : Handler → Pre) (E : CtlPost) (d : Bool) (acts : List Action), wp (findHandler f a) Q E e d acts s ↔ Q (.found pc) d acts (s.setVm vm')) :
    (stepThrowing e s a (.java f :: r)).Is ((s.setVm vm').setFrames (.java { f with pc := pc, stack := [.ref a] } :: r)) [] := by
  simp only [stepThrowing, searchFrame, vmDo]
  generalize hr : Sem.go _ e false [] s = res
  obtain ⟨as, rfl, ha⟩ := Sem.eq_ok_of hr (a := Handler.found pc) (s' := s.setVm vm') (acts' := []) (by simp [hfind])
  exact ⟨rfl, ha⟩
theorem cb_caught {tb : Tables} {e : Env} {s target : State} {g : JFrame} {c : Code} {below : List Frame} {a : Addr} {pc : Nat} {vm' : Vm} (h : At s g.method c below)
    (hfind : ∀ (Q : Handler → Pre) (E : CtlPost) (d : Bool) (acts : List Action), wp (findHandler g a) Q E e d acts ((s.setTop g).pushFrame (.throwing a)) ↔ Q (.found pc) d acts (((s.setTop g).pushFrame (.throwing a)).setVm vm'))
    (hrest : Steps tb e below ((s.setVm vm').setTop { g with pc := pc, stack := [.ref a] }) target) : Steps tb e below ((s.setTop g).pushFrame (.throwing a)) target := by
  obtain ⟨hgo, hw⟩ := h.throwing a
  refine Steps.head hgo hw ?_
  rw [stepThread_throwing (frames_entered h.top _), (cb_stepCatch (s := (s.setTop g).pushFrame (.throwing a)) hfind).1]
  obtain ⟨g₀, hg⟩ := Option.isSome_iff_exists.mp h.top
  obtain ⟨r, hr⟩ := State.topJava?_eq_some.mp hg
  have hr' : (s.setVm vm').frames = .java g₀ :: r := hr
  rw [State.setTop_of_frames _ hr'] at hrest
  have e1 : (((s.setTop g).pushFrame (.throwing a)).setVm vm').setFrames (.java { g with pc := pc, stack := [.ref a] } :: s.frames.tail) = (s.setVm vm').setFrames (.java { g with pc := pc, stack := [.ref a] } :: r) := by
    rw [hr, State.pushFrame, State.setTop_of_frames _ hr, State.setFrames_setFrames]
    show ((s.setVm vm').setFrames _).setFrames _ = _
    rw [State.setFrames_setFrames]
    rfl
  rw [e1]
  exact hrest
/-- what such a method ends with -/
def cb_TQ : Array Value → State → Outcome → State → Prop := fun _ st o t => ∃ (x : Addr) (ce : Cell), o = .threw x ∧ st.WarmedH t.vm ∧ st.sameButNew ({ t with vm := st.vm } : State) [] 1 6 ∧ t.heap[x]? = some ce ∧ st.vm.findClass cb_NS = some ce.cls ∧ ce.vm = .none
def cb_TZ (below : List Frame) (a : Array Value) (s : State) : State → Prop := fun t => ∃ o, t.status = .running ∧ Ended t below o ∧ cb_TQ a s o t
/-- a static of Throwable's that holds a reference or null -/
def cb_Zs (n d : String) (U : State) (H : Heap) : Prop := ∃ (c : ClassId) (k : Class) (i : Nat) (f : Field) (a : Nat) (cell : Cell) (v : Value), U.vm.findClass "java/lang/Throwable" = some c ∧ U.fieldFound? "java/lang/Throwable" n d = some (c, k, i, f) ∧ f.isStatic = true ∧ k.statics = some a ∧ H[a]? = some cell ∧ cell.vm.isStatics = true ∧ cell.cls = c ∧ f.slot < cell.slots.size ∧ k.staticTypes[f.slot]? = some f.type ∧ cell.slots[f.slot]? = some v ∧ (v = .null ∨ ∃ t, v = .ref t)
theorem cb_Zs.moved {n d : String} {u U : State} {H : Heap} (hvm : u.vm.Alike U.vm) (h : cb_Zs n d u H) : cb_Zs n d U H := by
  obtain ⟨c, k, i, f, a, cell, v, h1, h2, h3, h4, h5, h6, h7, h8, h9, h10⟩ := h
  obtain ⟨k', hi', he⟩ := State.fieldFound?_setVm hvm h2
  exact ⟨c, k', i, f, a, cell, v, by rw [hvm.findClass]; exact h1, hi', h3, by rw [he]; exact h4, h5, h6, h7, h8, by rw [he]; exact h9, h10⟩
theorem cb_Zs.kept {n d : String} {U : State} {H H1 : Heap} (h : cb_Zs n d U H) (hq : ∀ a : Nat, a < H.size → H1[a]? = H[a]?) : cb_Zs n d U H1 := by
  obtain ⟨c, k, i, f, a, cell, v, h1, h2, h3, h4, h5, h6⟩ := h
  exact ⟨c, k, i, f, a, cell, v, h1, h2, h3, h4, by rw [hq a (Array.getElem?_eq_some_iff.mp h5).1]; exact h5, h6⟩
theorem cb_Zs.of {args : Array Value} {s : State} {n d : String} (hl : (Cond.laysStatic "java/lang/Throwable" n d).before args s = true) (h : (Cond.isRef (.static "java/lang/Throwable" n d)).before args s = true) : cb_Zs n d s s.heap := by
  obtain ⟨c, k, i, f, a, cell, h1, h2, h3, h4, h5, h6, h7, h8, h9⟩ := Cond.laysStatic_spec hl
  obtain ⟨u, hu⟩ := Cond.staticRefV h2 h3 h4 h5 h6 h
  refine ⟨c, k, i, f, a, cell, u.v, h1, h2, h3, h4, h5, h6, h7, h8, h9, hu, ?_⟩
  obtain ⟨v, hv⟩ := u
  cases v with
  | null => exact Or.inl rfl
  | ref t => exact Or.inr ⟨t, rfl⟩
  | _ => simp [Value.isRef] at hv
theorem cb_Zs.lays {args : Array Value} {s : State} {n d : String} (h : cb_Zs n d s s.heap) : (Cond.laysStatic "java/lang/Throwable" n d).before args s = true := by
  obtain ⟨c, k, i, f, a, cell, v, h1, h2, h3, h4, h5, h6, h7, h8, h9, h10⟩ := h
  exact Cond.laysStatic_of h1 h2 h3 h4 h5 h6 h7 h8 h9
theorem cb_Zs.ref {args : Array Value} {s : State} {n d : String} (h : cb_Zs n d s s.heap) : (Cond.isRef (.static "java/lang/Throwable" n d)).before args s = true := by
  obtain ⟨c, k, i, f, a, cell, v, h1, h2, h3, h4, h5, h6, h7, h8, h9, h10, h11⟩ := h
  have he : (Term.static "java/lang/Throwable" n d).eval args s none [] s = some v := by
    simp [Term.eval, State.fieldNamed?, h2, h3, h4, h5, h6, h10]
  rcases h11 with rfl | ⟨t, rfl⟩ <;> simp [Cond.before, Cond.holds, Cond.value, he]
/-- what a throwing method carries beside the words of the one list -/
def cb_thN (U : State) : Prop := (va_Nw (.castable cb_NS cb_NS) U ∧ va_Nw (.declares ⟨"java/lang/RuntimeException", "<init>", "()V"⟩) U ∧ va_Nw (.declares ⟨"java/lang/Exception", "<init>", "()V"⟩) U ∧ va_Nw (.declares ⟨"java/lang/Throwable", "<init>", "()V"⟩) U) ∧ cb_Zs "UNASSIGNED_STACK" "[Ljava/lang/StackTraceElement;" U U.heap ∧ cb_Zs "SUPPRESSED_SENTINEL" "Ljava/util/List;" U U.heap
theorem cb_thN.moved {s U : State} (hW : s.WarmedH U.vm) (hq : ∀ a : Nat, a < s.heap.size → U.heap[a]? = s.heap[a]?) (h : cb_thN s) : cb_thN U := by
  obtain ⟨⟨h1, h2, h3, h4⟩, h5, h6⟩ := h
  exact ⟨⟨va_Nw.warmC hW h1, va_Nw.warmD hW h2, va_Nw.warmD hW h3, va_Nw.warmD hW h4⟩, (h5.moved hW.alike).kept hq, (h6.moved hW.alike).kept hq⟩
theorem cb_thN.same {U U' : State} (e : U.vm = U'.vm) (eh : U.heap = U'.heap) (h : cb_thN U) : cb_thN U' := by
  obtain ⟨⟨h1, h2, h3, h4⟩, h5, h6⟩ := h
  have al : U.vm.Alike U'.vm := by rw [e]; exact Vm.Alike.refl _
  exact ⟨⟨va_tabs rfl e h1, va_tabs rfl e h2, va_tabs rfl e h3, va_tabs rfl e h4⟩, by rw [← eh]; exact h5.moved al, by rw [← eh]; exact h6.moved al⟩
theorem cb_own_in : ∀ w ∈ Bundle.ownAtoms0 "ConferenceBridge" 65 "java/util/NoSuchElementException" ["java/lang/RuntimeException", "java/lang/Exception"], w ∈ lw_all ∨ w ∈ ([.castable "java/util/NoSuchElementException" "java/util/NoSuchElementException", .declares ⟨"java/lang/RuntimeException", "<init>", "()V"⟩, .declares ⟨"java/lang/Exception", "<init>", "()V"⟩, .declares ⟨"java/lang/Throwable", "<init>", "()V"⟩, .laysStatic "java/lang/Throwable" "UNASSIGNED_STACK" "[Ljava/lang/StackTraceElement;", .laysStatic "java/lang/Throwable" "SUPPRESSED_SENTINEL" "Ljava/util/List;", .isRef (.static "java/lang/Throwable" "UNASSIGNED_STACK" "[Ljava/lang/StackTraceElement;"), .isRef (.static "java/lang/Throwable" "SUPPRESSED_SENTINEL" "Ljava/util/List;")] : List Cond) := by decide +kernel
theorem cb_own_atoms {args : Array Value} {s : State} (hts : ∀ w ∈ lw_all, w.before args s = true) (h : cb_thN s) : ∀ w ∈ Bundle.ownAtoms0 "ConferenceBridge" 65 "java/util/NoSuchElementException" ["java/lang/RuntimeException", "java/lang/Exception"], w.before args s = true := by
  intro w hw
  obtain ⟨⟨h1, h2, h3, h4⟩, h5, h6⟩ := h
  rcases cb_own_in w hw with q | q
  · exact hts w q
  · simp only [List.mem_cons, List.not_mem_nil, or_false] at q
    rcases q with rfl | rfl | rfl | rfl | rfl | rfl | rfl | rfl
    · exact va_Nw.use rfl h1
    · exact va_Nw.use rfl h2
    · exact va_Nw.use rfl h3
    · exact va_Nw.use rfl h4
    · exact h5.lays
    · exact h6.lays
    · exact h5.ref
    · exact h6.ref
section THW
variable {p : Program} {l : Launch} {e : Env} {R : Room} {s : State} {m : MethodId} {args : Array Value} {below : List Frame} {meth : Method} {c : Code} {cc : ByteArray} {pc : Nat} {ls : Array Slot}
/-- new NoSuchElementException(), thrown, in a method of the bridge that has done nothing yet -/
theorem cb_throwW (hx : p.tables.exec = Jvm.exec) (hb : c.code = cc) (hfl : l.flags = flags0) (hown : s.vm.findClass RX1 = some m.cls) (hts : ∀ w ∈ lw_all, w.before args s = true) (hth : cb_thN s) (hno : c.exceptionTable.isEmpty = true) (hlocks : meth.locks = false) (hsz : ls.size = c.maxLocals)
    (d0 : decode cc pc = .ok (.new 63, 3)) (d1 : decode cc (pc + 3) = .ok (.dup, 1)) (d2 : decode cc (pc + 3 + 1) = .ok (.invokespecial 65, 3)) (d3 : decode cc (pc + 3 + 1 + 3) = .ok (.athrow, 1)) (hRf : 6 ≤ R.frames) (hRl : 81 ≤ R.locals) (hRc : 0 + 1 ≤ R.cells) (hRs : 0 + 6 ≤ R.slots) :
    W p l e R s m args below meth c s.heap [] 0 0 (cb_TZ below args s) (F0 m pc ls []) := by
  obtain ⟨cX, kX, hfc, hkX, -⟩ := Cond.instantiable_spec (hts _ q192)
  refine W.newcK hx hb hown (hts _ q191) (hts _ q192) (hts _ q14) rfl d0 hRc hRs hfc rfl (fun H' kC hkC e1 e2 e3 => ?_)
  refine W.eq (g2 := F0 m (pc + 3) ls [.ref s.heap.size]) rfl ?_
  refine lv_dup hx hb d1 rfl ?_
  intro T hT X
  have hout : ∀ x ∈ c.exceptionTable.toList, covers x (pc + 3 + 1 + 3) = false := by
    intro x hx
    rw [Array.isEmpty_iff.mp hno] at hx
    cases hx
  obtain ⟨U, st, hrun, hend, hW, hsame, ce, hce, hoc⟩ := X.ctorThrow0 hx (Launch.traces_off hfl X.admits) (own := RX1) (cls := "java/util/NoSuchElementException") (names := ["java/lang/RuntimeException", "java/lang/Exception"]) (ic := 65) hown (by decide +kernel) (by decide +kernel) (cb_own_atoms hts hth) (fun x hx => by cases hx) hfc hkC (a := s.heap.size) (by rw [hT]; exact e1) (Nat.le_refl _)
    (g := F0 m (pc + 3 + 1) ls [.ref s.heap.size, .ref s.heap.size]) rfl hsz rfl rfl (rest := []) rfl (by rw [hb]; exact d2) (by rw [hb]; exact d3) hout (show 2 + 3 < R.frames from hRf) (show 2 * 0 + 1 + (13 * (2 + 1) + 41) ≤ R.locals from hRl) hlocks
  exact ⟨U, st, .threw _, hrun, hend, _, ce, rfl, hW, hsame, hce, hoc.cls, hoc.vm⟩
end THW
section THC
variable {p : Program} {l : Launch} {e : Env} {R : Room} {s : State} {m : MethodId} {args : Array Value} {below : List Frame} {meth : Method} {c : Code} {H : Heap} {locs : List Loc} {cells slots : Nat} {Q : State → Prop}
variable {pc : Nat} {ls : Array Slot} {rest : List Value} {cc : ByteArray}
/-- the call of a method that throws, where the caller catches it -/
theorem cb_catchV {nL maxL index : Nat} {own C : String} {y : MethodName} {bytes : ByteArray} {ret : Option FieldType} {rm : Room} {Pc : Array Value → State → Prop} {b : Nat} {As : List Value} {x : ExceptionTableEntry}
    (hx : p.tables.exec = Jvm.exec) (hb : c.code = cc) (hml : c.maxLocals = nL) (hown : s.vm.findClass own = some m.cls) (hts : ∀ w ∈ lw_all, w.before args s = true)
    (hM : MetFree l y (headSpec (ws_ y bytes maxL ret) rm) Pc (fun _ _ _ _ _ => True) cb_TQ) (hbl : FrameBlind Pc) (hcode : Cond.code y bytes maxL ret ∈ lw_all)
    (hlink : Cond.methodLink own index y ∈ lw_all) (hinst : Cond.instanceMethod y ∈ lw_all) (hsel : Cond.selects C y y ∈ lw_all) (hini : Cond.initialized y.cls ∈ lw_all)
    (hy : y.cls ≠ "java/lang/invoke/MethodHandle" ∧ y.cls ≠ "java/lang/invoke/VarHandle" ∧ (parseMethodDescriptor y.desc).map (fun d => d.parameters.length) = some As.length)
    (hR : rm.frames + 1 ≤ R.frames ∧ 8 + (maxL + 11) + rm.locals ≤ R.locals) (hrc : rm.cells = 1) (hrs : rm.slots = 6) (hcl : cells + 1 ≤ R.cells) (hsl : slots + 6 ≤ R.slots)
    (hrecv : ∃ cellB : Cell, H[b]? = some cellB ∧ cellB.vm.isStatics = false ∧ s.vm.findClass C = some cellB.cls) (hPc : ∀ U : State, U.heap = H → s.WarmedH U.vm → Pc (Value.ref b :: As).toArray U)
    (hsz : ls.size = nL) (hr8 : (rest.map fun v => v.category).sum ≤ 8) (hdg : decode cc pc = .ok (.invokevirtual index, 3))
    (htab : c.exceptionTable.toList = [x]) (hcov : covers x pc = true) (h0 : x.catchType ≠ 0) (hclk : (Cond.classLink own x.catchType cb_NS).before args s = true)
    (kk : ∀ (q : Nat) (H1 : Heap), H.size ≤ H1.size → (∀ i : Nat, i < H.size → H1[i]? = H[i]?) → W p l e R s m args below meth c H1 locs (cells + 1) (slots + 6) Q (F0 m x.handlerPc ls [.ref q])) :
    W p l e R s m args below meth c H locs cells slots Q (F0 m pc ls (As.reverse ++ .ref b :: rest)) := by
  intro T hT X
  have hpl : e.platform.magicAccessors = ({} : Platform).magicAccessors := by rw [X.admits.platform]
  obtain ⟨mk, methM, hnamed, hmethM, hstM, habM⟩ := Cond.instanceMethod_spec (hts _ hinst)
  obtain ⟨methM', cM, hmethM', hcM, -, hlM, -, -, -, hsigM⟩ := Cond.code_spec hnamed (hts _ hcode)
  cases hmethM.symm.trans hmethM'
  obtain ⟨cellB, hcB, hoB, hclB⟩ := hrecv
  obtain ⟨c2, r2, m2, q1, q2, q3, q4, kP, hkP, hkPi⟩ := Cond.selects_spec (hts _ hsel)
  cases hclB.symm.trans q1
  cases (State.methodFound?_of_named hnamed ⟨hy.1, hy.2.1⟩).symm.trans q2
  cases hnamed.symm.trans q3
  have hselP : selectMethod e.platform s.vm cellB.cls mk = .method mk := by rw [Launch.admits_selectMethod X.admits]; exact q4
  have hlen : As.length = methM.sig.parameters.length := by
    have h2 := hy.2.2
    rw [show parseMethodDescriptor y.desc = some methM.sig from hsigM] at h2
    exact (Option.some.inj h2).symm
  obtain ⟨vm₁, X₁, hstep₁⟩ := X.invokevirtual hx hown (hts _ hlink) hnamed hmethM hstM hkP hkPi ⟨hy.1, hy.2.1⟩ (a := b) (cell := cellB) (by rw [hT]; exact hcB)
    (fun z h => by rw [h] at hoB; cases hoB) hselP hmethM habM hkP hkPi (g := F0 m pc ls (As.reverse ++ .ref b :: rest)) rfl (argsL := As) (rest := rest) hlen rfl (by rw [hb]; exact hdg)
  have hgood : ∀ w ∈ lw_all, ∀ (a' : Array Value), w.before a' (T.setVm vm₁) = true := fun w h a' => word_at X₁.warmed (good_of_word (List.mem_filter.mp h).2) (hts w h)
  have hn : (T.setVm vm₁).methodNamed? y = some mk := X₁.named hnamed
  obtain ⟨kY, hkY, -⟩ := className_of_methodNamed hn
  have hinitY : kY.init = .initialized := Cond.initialized_spec (findClass_of_methodNamed hn) hkY (hgood _ hini #[])
  have hmY : (T.setVm vm₁).vm.method? mk = some methM := by
    rw [X₁.warmed.alike.method?]
    exact hmethM
  have hat : At (T.setVm vm₁) (F0 m pc ls rest).method c below := X₁.here
  have hpre : (headSpec (ws_ y bytes maxL ret) rm).pre.before (Value.ref b :: As).toArray (T.setVm vm₁) = true := atoms_intro fun w hw => by
    rcases List.mem_cons.mp hw with rfl | hw
    · exact hgood _ hcode _
    · exact hgood _ hw _
  have happ : (headSpec (ws_ y bytes maxL ret) rm).appliesLoose y e.platform ((T.setVm vm₁).calling (F0 m pc ls rest) mk (Value.ref b :: As).toArray) = true :=
    Spec.appliesLoose_calling (g := F0 m pc ls rest) hat (by rw [hb]; exact hdg) hn hkY hinitY
      (X₁.room_calling (g := F0 m pc ls rest) (R' := rm) (by rw [hml]; exact hsz) hmY hcM hR.1 (by show 2 * 0 + (rest.map fun v => v.category).sum + (cM.maxLocals + 11) + rm.locals ≤ R.locals; rw [hlM]; omega) (by rw [hrc]; exact hcl) (by rw [hrs]; exact hsl)) hpre
  obtain ⟨mid, hmid⟩ := hat.above
  have hfr : ((T.setVm vm₁).setTop (F0 m pc ls rest)).frames = (.java (F0 m pc ls rest) :: mid) ++ below := by rw [State.frames_setTop' (F0 m pc ls rest) hat.top, hmid]; rfl
  obtain ⟨o, s₂, hsteps, -, hend, hq⟩ := Steps.callFree hM p X.admits X.cas X.clock (acts := []) hfr happ (hbl _ _ _ _ (hPc (T.setVm vm₁) hT X₁.warmed)) trivial
  obtain ⟨xa, ce, rfl, hW2, hsame, hce, hfce, hvce⟩ := (show cb_TQ _ ((T.setVm vm₁).calling (F0 m pc ls rest) mk (Value.ref b :: As).toArray) o s₂ from hq)
  rw [State.frames_setTop' (F0 m pc ls rest) hat.top, X₁.tail] at hend
  obtain ⟨T', X', hWT, hsame', ht⟩ := X₁.outOfThrown (g := F0 m pc ls rest) rfl hend hW2 hsame
  rw [List.append_nil] at X'
  have hh : T'.heap = s₂.heap := by rw [ht, Stand.throwing_heap]
  obtain ⟨cX, hcX, hCL⟩ := Cond.classLink_spec hown hclk e.platform hpl
  obtain ⟨dk, _, _, kt, hd, _, _, _, _, hkt, _, hopen⟩ := hCL.here
  have hCL' := X'.warmed.classLinks hCL
  have hW' : s.WarmedH (T'.vm.noted m.cls x.catchType (.cls cX)) := X'.warmed.noted hd hopen (State.rightAt_cls hCL)
  have hcc : ce.cls = cX := by
    have h1 : (T.setVm vm₁).vm.findClass cb_NS = some ce.cls := hfce
    rw [X₁.warmed.alike.findClass] at h1
    exact Option.some.inj (h1.symm.trans hcX)
  obtain ⟨kt', hkt', -⟩ := hW'.alike.2.2 _ _ hkt
  have hmT : ((T'.setTop (F0 m pc ls rest)).pushFrame (.throwing xa)).vm.method? m = some meth := by rw [Stand.throwing_vm]; exact X'.method'
  have hfind := fun (Q : Handler → Pre) (E : CtlPost) (d : Bool) (acts : List Action) => cb_findCold (e := e) (s := (T'.setTop (F0 m pc ls rest)).pushFrame (.throwing xa)) (f := F0 m pc ls rest) (a := xa) (meth := meth) (code := c) (x := x) (c := cX) (cell := ce) (vm' := T'.vm.noted m.cls x.catchType (.cls cX))
    hmT X'.code htab hcov h0 (by rw [Stand.throwing_vm]; exact resolveClass_links e.toSetting hCL') (by rw [Stand.throwing_vm, Vm.size_noted]; exact Nat.le_refl _) (by rw [Stand.throwing_heap, hh]; exact hce) (fun k => by rw [hvce]; exact fun h => by cases h) (by rw [hcc]; exact ⟨_, hkt'⟩) ⟨_, hkt'⟩ (by rw [hcc]; exact cb_asg _ _) Q E d acts
  have hold : ∀ i : Nat, i < H.size → T'.heap[i]? = H[i]? := by
    intro i hi
    rw [hh, ← hT]
    exact cb_keepAll hsame i (by rw [← hT] at hi; exact hi)
  have hle : H.size ≤ T'.heap.size := by
    have h2 := hsame.2.1
    rw [hh, ← hT]
    exact h2
  obtain ⟨t, a1, b1⟩ := kk xa T'.heap hle hold (T'.setVm (T'.vm.noted m.cls x.catchType (.cls cX))) rfl (X'.noted hW')
  refine ⟨t, hstep₁ _ (fun acts => ?_), b1⟩
  rw [doInvoke_state]
  refine hsteps.trans ?_
  rw [ht]
  exact cb_caught (g := F0 m pc ls rest) X'.here hfind a1
end THC
end
section
/-! the bridge's throwing roads, and the law's two helpers -/
set_option maxRecDepth 100000
theorem cb_blindT {av : List Value} : FrameBlind (va_Pc av cb_thN) := by
  intro z U f mk h
  exact ⟨h.1, cb_thN.same (U := U) rfl rfl h.2⟩
set_option maxHeartbeats 4000000 in
set_option maxRecDepth 100000 in
theorem thr_dec (l : Launch) (hfl : l.flags = flags0) (b : Nat) (x1 x2 : Int32) (h1 : ¬ cb_ix x1 2 = true) : MetFree l yX1_decode (headSpec (ws_ yX1_decode cX1_decode 3 (some .int)) ({ frames := 6, cells := 1, slots := 6, locals := 120 } : Room)) (va_Pc [.ref b, .int x1, .int x2] cb_thN) (fun _ _ _ _ _ => True) cb_TQ := by
  refine MetFree.of_bodyS (code := cX1_decode) (maxLocals := 3) (ret := (some .int)) (by decide) ?_ ?_
  · intro args s m h hn
    obtain ⟨meth, c, h1, h2, h3, h4, h5, h6, -, -⟩ := Cond.code_spec hn (atoms_spec (ws := (ws_ yX1_decode cX1_decode 3 (some .int))) h _ List.mem_cons_self)
    exact ⟨meth, c, h1, h2, h3, h4, h5, h6⟩
  · intro p e s m args below meth c s₁ B hml hv _
    obtain ⟨rfl, hv⟩ := hv
    have hh0 : s₁.heap = s.heap := by rw [B.state]; rfl
    have hts0 := atoms_spec (ws := (ws_ yX1_decode cX1_decode 3 (some .int))) B.pre
    have hno := B.noHandlers (hts0 _ List.mem_cons_self)
    have K : W p l e (headSpec (ws_ yX1_decode cX1_decode 3 (some .int)) ({ frames := 6, cells := 1, slots := 6, locals := 120 } : Room)).room s m ([.ref b, .int x1, .int x2] : List Value).toArray below meth c s.heap [] 0 0 (cb_TZ below ([.ref b, .int x1, .int x2] : List Value).toArray s) (entryFrame m ([.ref b, .int x1, .int x2] : List Value).toArray 3) := by
      have hx := B.exec
      have hb := B.bytes
      have hts := atoms_spec (ws := (ws_ yX1_decode cX1_decode 3 (some .int))) B.pre
      have hts : ∀ w ∈ lw_all, w.before _ s = true := fun w h => hts w (List.mem_cons_of_mem _ h)
      have hown : s.vm.findClass RX1 = some m.cls := findClass_of_methodNamed B.named
      have hlocks := B.notSynchronized
      have hl := lv_entry ([.ref b, .int x1, .int x2]) (n := 3) (Nat.le_of_ble_eq_true rfl)
      rw [lg_entry_eq]
      generalize (lg_sl ([.ref b, .int x1, .int x2]) ++ List.replicate (3 - (lg_sl ([.ref b, .int x1, .int x2])).length) Slot.unset).toArray = ls at hl ⊢
      have hl : lv_has ls 3 [(0, .ref b), (1, .int x1), (2, .int x2)] := hl
      refine lv_iload_n hx hb dX1_decode_0 rfl (lv_at hl 1 rfl) ?_
      refine lv_iconst (v := 0) hx hb dX1_decode_1 (by decide) ?_
      refine lv_iconst (v := 1) hx hb dX1_decode_2 (by decide) ?_
      refine cb_callPi (va_runS (As := [.int x1, .int 0, .int 1]) (rest := []) ⟨hx, hb, hml, hown, hts⟩ (met_ix l x1 1 2 (by decide)) (va_cwS 3 hts (lw_S q118 q119 q3 q120) rfl rfl rfl (by decide +kernel) ⟨Nat.le_of_ble_eq_true rfl, Nat.le_of_ble_eq_true rfl⟩) cb_preS rfl rfl hl.1 rfl (lv_room (Nat.le_of_ble_eq_true rfl)) dX1_decode_3 ⟨Nat.zero_le _, Nat.zero_le _⟩) ?_
      refine cb_top (y := 0) (if_neg h1) ?_
      refine lv_if_ne (tgt := 17) hx hb dX1_decode_6 (by decide) (fun cz => (cz rfl : False).elim) (fun cz => ?_)
      exact cb_throwW hx hb hfl hown hts hv hno hlocks (by rw [hml]; exact hl.1) dX1_decode_9 dX1_decode_12 dX1_decode_13 dX1_decode_16 (Nat.le_of_ble_eq_true rfl) (Nat.le_of_ble_eq_true rfl) (Nat.le_of_ble_eq_true rfl) (Nat.le_of_ble_eq_true rfl)
    obtain ⟨t, a1, o, b1, b2, b3⟩ := K s₁ hh0 (Stand.of_body B)
    exact ⟨t, o, a1, b1, b2, b3⟩
set_option maxHeartbeats 4000000 in
set_option maxRecDepth 100000 in
theorem thr_en (l : Launch) (hfl : l.flags = flags0) (b : Nat) (x1 : Int32) (h1 : ¬ cb_ix x1 8 = true) : MetFree l yX1_energy (headSpec (ws_ yX1_energy cX1_energy 2 (some .long)) ({ frames := 6, cells := 1, slots := 6, locals := 120 } : Room)) (va_Pc [.ref b, .int x1] cb_thN) (fun _ _ _ _ _ => True) cb_TQ := by
  refine MetFree.of_bodyS (code := cX1_energy) (maxLocals := 2) (ret := (some .long)) (by decide) ?_ ?_
  · intro args s m h hn
    obtain ⟨meth, c, h1, h2, h3, h4, h5, h6, -, -⟩ := Cond.code_spec hn (atoms_spec (ws := (ws_ yX1_energy cX1_energy 2 (some .long))) h _ List.mem_cons_self)
    exact ⟨meth, c, h1, h2, h3, h4, h5, h6⟩
  · intro p e s m args below meth c s₁ B hml hv _
    obtain ⟨rfl, hv⟩ := hv
    have hh0 : s₁.heap = s.heap := by rw [B.state]; rfl
    have hts0 := atoms_spec (ws := (ws_ yX1_energy cX1_energy 2 (some .long))) B.pre
    have hno := B.noHandlers (hts0 _ List.mem_cons_self)
    have K : W p l e (headSpec (ws_ yX1_energy cX1_energy 2 (some .long)) ({ frames := 6, cells := 1, slots := 6, locals := 120 } : Room)).room s m ([.ref b, .int x1] : List Value).toArray below meth c s.heap [] 0 0 (cb_TZ below ([.ref b, .int x1] : List Value).toArray s) (entryFrame m ([.ref b, .int x1] : List Value).toArray 2) := by
      have hx := B.exec
      have hb := B.bytes
      have hts := atoms_spec (ws := (ws_ yX1_energy cX1_energy 2 (some .long))) B.pre
      have hts : ∀ w ∈ lw_all, w.before _ s = true := fun w h => hts w (List.mem_cons_of_mem _ h)
      have hown : s.vm.findClass RX1 = some m.cls := findClass_of_methodNamed B.named
      have hlocks := B.notSynchronized
      have hl := lv_entry ([.ref b, .int x1]) (n := 2) (Nat.le_of_ble_eq_true rfl)
      rw [lg_entry_eq]
      generalize (lg_sl ([.ref b, .int x1]) ++ List.replicate (2 - (lg_sl ([.ref b, .int x1])).length) Slot.unset).toArray = ls at hl ⊢
      have hl : lv_has ls 2 [(0, .ref b), (1, .int x1)] := hl
      refine lv_iload_n hx hb dX1_energy_0 rfl (lv_at hl 1 rfl) ?_
      refine lv_iconst (v := 0) hx hb dX1_energy_1 (by decide) ?_
      refine lv_bipush (v := 7) hx hb dX1_energy_2 (by decide) ?_
      refine cb_callPi (va_runS (As := [.int x1, .int 0, .int 7]) (rest := []) ⟨hx, hb, hml, hown, hts⟩ (met_ix l x1 7 8 (by decide)) (va_cwS 3 hts (lw_S q118 q119 q3 q120) rfl rfl rfl (by decide +kernel) ⟨Nat.le_of_ble_eq_true rfl, Nat.le_of_ble_eq_true rfl⟩) cb_preS rfl rfl hl.1 rfl (lv_room (Nat.le_of_ble_eq_true rfl)) dX1_energy_4 ⟨Nat.zero_le _, Nat.zero_le _⟩) ?_
      refine cb_top (y := 0) (if_neg h1) ?_
      refine lv_if_ne (tgt := 18) hx hb dX1_energy_7 (by decide) (fun cz => (cz rfl : False).elim) (fun cz => ?_)
      exact cb_throwW hx hb hfl hown hts hv hno hlocks (by rw [hml]; exact hl.1) dX1_energy_10 dX1_energy_13 dX1_energy_14 dX1_energy_17 (Nat.le_of_ble_eq_true rfl) (Nat.le_of_ble_eq_true rfl) (Nat.le_of_ble_eq_true rfl) (Nat.le_of_ble_eq_true rfl)
    obtain ⟨t, a1, o, b1, b2, b3⟩ := K s₁ hh0 (Stand.of_body B)
    exact ⟨t, o, a1, b1, b2, b3⟩
section SW
variable {p : Program} {l : Launch} {e : Env} {R : Room} {s : State} {m : MethodId} {args : Array Value} {below : List Frame} {meth : Method} {c : Code} {H : Heap} {locs : List Loc} {cells slots : Nat} {Q : State → Prop}
/-- the call of a static method that has handlers, by its contract -/
theorem cb_runSW {y : MethodName} {bytes cc : ByteArray} {maxL nL mc ms n index : Nat} {ret : Option FieldType} {hh : List (Nat × Nat × Nat × Nat)} {rm : Room} {Pc : Array Value → State → Prop} {Qc : Array Value → State → Outcome → State → Prop} {free : Addr → Prop} {own : String} {As rest : List Value} {g : JFrame}
    (S : CallFix p m c cc nL s args lw_all own) (hM : Met l y (wsW_ y bytes maxL ret hh) rm Pc Qc mc ms free) (hrc : rm.cells = mc) (hrs : rm.slots = ms)
    (hlink : Cond.methodLink own index y ∈ lw_all) (hstat : Cond.static y ∈ lw_all) (hini : Cond.initialized y.cls ∈ lw_all) (hcode : Cond.codeWith y bytes maxL ret hh ∈ lw_all)
    (hd : y.cls ≠ "java/lang/invoke/MethodHandle" ∧ y.cls ≠ "java/lang/invoke/VarHandle" ∧ (parseMethodDescriptor y.desc).map (fun d => d.parameters.length) = some n) (hR : rm.frames + 1 ≤ R.frames ∧ 8 + (maxL + 11) + rm.locals ≤ R.locals) (hp : PreS s H Pc As)
    (hg : g.method = m) (hn : As.length = n) (hsize : g.locals.size = nL) (hstack : g.stack = As.reverse ++ rest) (hW : 2 * g.monitorRoom + (rest.map fun v => v.category).sum ≤ 8) (hdg : decode cc g.pc = .ok (.invokestatic index, 3)) (hf : cells + mc ≤ R.cells ∧ slots + ms ≤ R.slots) :
    va_Run p l e R s m args below meth c H locs cells slots mc ms g rest (Qc As.toArray) (free) := by
  obtain ⟨hx, hb, hml, ho, ht⟩ := S
  have hG : GoodIn lw_all (wsW_ y bytes maxL ret hh) := lw_methW hcode
  have hK : Back l R p e below s args y 3 8 (PreOf R mc ms Pc) (PostOf Qc mc ms free) := va_backW (hh := hh) (bytes := bytes) (maxL := maxL) (ret := ret) hM hp.1 hrc hrs hR.1 hR.2 (pay_in ht hG) List.mem_cons_self (fun a' U hW => word_at hW (Or.inl (by first | rfl | simp [Cond.onTables, Cond.keeps, Cond.steady])) (ht _ hini))
  intro T hT X
  obtain ⟨mk, methM, cM, hnamed, hmethM, -, -, -, -, -, -, hsigM⟩ := Cond.codeWith_spec (ht _ hcode)
  have hstatic : methM.isStatic = true := Cond.static_spec hnamed hmethM (ht _ hstat)
  obtain ⟨kP, hkP, -⟩ := className_of_methodNamed hnamed
  have hinitP : kP.init = .initialized := Cond.initialized_spec (findClass_of_methodNamed hnamed) hkP (ht _ hini)
  have hlen : As.length = methM.sig.parameters.length := by
    have h2 := hd.2.2
    rw [show parseMethodDescriptor y.desc = some methM.sig from hsigM] at h2
    rw [hn]
    exact (Option.some.inj h2).symm
  obtain ⟨vm₁, X₁, st1⟩ := X.invokestatic hx ho (ht _ hlink) hnamed hmethM hstatic hkP hinitP ⟨hd.1, hd.2.1⟩ (g := g) hg (argsL := As) (rest := rest) hlen hstack (by rw [hb]; exact hdg)
  obtain ⟨v, ⟨U', l2, c2, s2⟩, X', ⟨g', mk', t, L, e1, e2, hq, h1, hL, h2, h3⟩, st2⟩ := hK m meth c ⟨T.setVm vm₁, locs, cells, slots⟩ { g with stack := rest } (.invokestatic index) mk As.toArray X₁ hg (hsize.trans hml.symm) (by rw [hb]; exact hdg) hW (X₁.named hnamed) ⟨hf.1, hf.2, hp.2 (T.setVm vm₁) hT X₁.warmed⟩
  dsimp only [Pt.U, Pt.locs, Pt.cells, Pt.slots] at X' e1 e2 h1 h2 h3 st2
  subst h1; subst h2; subst h3
  exact ⟨v, (T.setVm vm₁).calling g' mk' As.toArray, t, U', L, hT, X', hL, e1, e2, hq, fun tg h => st1 _ fun acts => by rw [doInvoke_state]; exact st2.trans h⟩
variable {pc : Nat} {ls : Array Slot} {rest : List Value} {cc : ByteArray} {D : va_G} {tc : Nat → ClassId} {A : Nat → Prop} {H0 : Heap}
/-- a store into the law's own array of one long, beside any world -/
theorem lh_st {ws : va_W} {o : Nat} {ov : Nat → Int64} {v : Int64} (hx : p.tables.exec = Jvm.exec) (hb : c.code = cc) (hK : va_K D cbCl (cb_tys tc) s) (hP : va_P D cbCl ws H) (hPo : va_P D cbCl [(o, .inl (tc 4, 1, .inr (.inl ov)))] H) (hne : ∀ (k : Nat) (q : Nat × va_E), ws[k]? = some q → q.1 ≠ o) (hAo : A o) (hS : va_S A H0 H locs) (hdg : decode cc pc = .ok (.lastore, 1))
    (kk : ∀ (H1 : Heap) (locs1 : List Loc), va_P D cbCl ws H1 → va_P D cbCl [(o, .inl (tc 4, 1, .inr (.inl (vp_updL ov 0 v))))] H1 → va_S A H0 H1 locs1 → W p l e R s m args below meth c H1 locs1 cells slots Q (F0 m (pc + 1) ls rest)) : W p l e R s m args below meth c H locs cells slots Q (F0 m pc ls (.long v :: .int 0 :: .ref o :: rest)) := by
  have hin : vp_in (0 : Int32) 1 := pk_in 0 1 (by decide)
  refine W.last hx hb (hPo 0 _ rfl) ((hK.2 4 _ rfl).1 1 (fun j => .long (ov j))) (fun q => by cases q) (by show ¬ ((0 : Int32) < 0 ∨ (arrV _ _ _).slots.size ≤ _); rw [arrV_size]; exact hin) rfl rfl hdg fun H1 e z oq => ?_
  refine kk H1 _ (hP.kept (fun k q hk => oq q.1 (hne k q hk))) (fun k q hk => ?_) (hS.put z oq hAo)
  have h0 : k < 1 := (List.getElem?_eq_some_iff.mp hk).1
  obtain rfl : k = 0 := by omega
  cases hk
  show H1[o]? = some (vp_cell _ _)
  rw [e, vp_cell_l, vp_cell_l, arrV_store]
  congr 2
  funext q
  by_cases hq : q = 0
  · subst hq
    simp [updV, vp_updL]
  · simp [updV, vp_updL, hq]
end SW
/-- the helpers' form -/
def lh_A (g : Nat → Nat) (o : Nat) : Nat → Prop := fun q => cb_A g q ∨ q = o
def lh_Pre (D : va_G) (tc : Nat → ClassId) (g : Nat → Nat) (S : cb_S) (o : Nat) (ov : Nat → Int64) (U : State) : Prop := cb_Pre D tc g S U ∧ va_P D cbCl [(o, .inl (tc 4, 1, .inr (.inl ov)))] U.heap ∧ (∀ k, k < 37 → g k ≠ o) ∧ cb_thN U
def lh_Q (D : va_G) (tc : Nat → ClassId) (g : Nat → Nat) (o : Nat) (r : Int32) (S : cb_S) (ov : Nat → Int64) : Array Value → State → Outcome → State → Prop := fun _ st oc t => oc = .returned (some (.int r)) ∧ (va_P D cbCl (cb_w tc g S 8) t.heap ∧ va_P D cbCl [(o, .inl (tc 4, 1, .inr (.inl ov)))] t.heap) ∧ va_F (lh_A g o) st t
theorem lh_blind {D : va_G} {tc : Nat → ClassId} {g : Nat → Nat} {S : cb_S} {o : Nat} {ov : Nat → Int64} {av : List Value} : FrameBlind (va_Pc av (lh_Pre D tc g S o ov)) := by
  intro z U f mk h
  obtain ⟨h1, h2, h3, h4, h5⟩ := h
  exact ⟨h1, (cb_blind (av := av) z U f mk ⟨h1, h2⟩).2, h3, h4, cb_thN.same (U := U) rfl rfl h5⟩
def lh_dec (ov : Nat → Int64) (x1 x2 : Int32) : Nat → Int64 := if cb_ix x1 2 = true then vp_updL ov 0 (cb_fDec x1 x2).toInt64 else ov
def lh_en (ov : Nat → Int64) (S : cb_S) (x1 : Int32) : Nat → Int64 := if cb_ix x1 8 = true then vp_updL ov 0 (cb_fEn S x1) else ov
theorem cb_w_ne {t : Nat → ClassId} {g : Nat → Nat} {S : cb_S} {o : Nat} (h : ∀ k, k < 37 → g k ≠ o) : ∀ (k : Nat) (q : Nat × va_E), (cb_w t g S 8)[k]? = some q → q.1 ≠ o := by
  intro k q hk
  have hl := (List.getElem?_eq_some_iff.mp hk).1
  rw [cb_w_len] at hl
  rw [cb_w_at hl rfl] at hk
  cases hk
  exact h k (by omega)
theorem cb_w_kept {D : va_G} {t : Nat → ClassId} {g : Nat → Nat} {S : cb_S} {H H1 : Heap} (h : va_P D cbCl (cb_w t g S 8) H) (hq : ∀ k, k < 37 → g k < H.size → H1[g k]? = H[g k]?) : va_P D cbCl (cb_w t g S 8) H1 := by
  refine h.kept (fun k q hk => ?_)
  have hlt := (h k q hk).lt
  have hl := (List.getElem?_eq_some_iff.mp hk).1
  rw [cb_w_len] at hl
  rw [cb_w_at hl rfl] at hk
  cases hk
  exact hq k (by omega) hlt
theorem lh_kept {D : va_G} {tc : Nat → ClassId} {o : Nat} {ov : Nat → Int64} {H H1 : Heap} (h : va_P D cbCl [(o, .inl (tc 4, 1, .inr (.inl ov)))] H) (hq : o < H.size → H1[o]? = H[o]?) : va_P D cbCl [(o, .inl (tc 4, 1, .inr (.inl ov)))] H1 := by
  have hlt : o < H.size := (h 0 _ rfl).lt
  refine h.kept (fun k q hk => ?_)
  have h0 : k < 1 := (List.getElem?_eq_some_iff.mp hk).1
  obtain rfl : k = 0 := by omega
  cases hk
  exact hq hlt
set_option maxHeartbeats 4000000 in
set_option maxRecDepth 100000 in
theorem met_hDec (l : Launch) (hfl : l.flags = flags0) (D : va_G) (tc : Nat → ClassId) (g : Nat → Nat) (S : cb_S) (o : Nat) (ov : Nat → Int64) (x1 x2 : Int32) : Met l yX0_decode (wsW_ yX0_decode cX0_decode 5 (some .int) [(0, 10, 13, 13)]) ({ frames := 7, cells := 1, slots := 6, locals := 142 } : Room) (va_Pc [.ref (g 0), .int x1, .int x2, .ref o] (lh_Pre D tc g S o ov)) (lh_Q D tc g o (cb_thr x1 2) S (lh_dec ov x1 x2)) 1 6 (lh_A g o) := by
  refine va_MetW (cc := cX0_decode) (maxL := 5) (ret := some .int) (hh := [(0, 10, 13, 13)]) (by decide) rfl ?_
  intro p e s m args below meth c s₁ B hml hv
  obtain ⟨rfl, ⟨hP, hK, hI, hzE, hzD⟩, hPo, hne, hth⟩ := hv
  have hx := B.exec
  have hb := B.bytes
  have hr := B.returns
  have hts0 := atoms_spec (ws := (wsW_ yX0_decode cX0_decode 5 (some .int) [(0, 10, 13, 13)])) B.pre
  have hts : ∀ w ∈ lw_all, w.before _ s = true := fun w h => hts0 w (List.mem_cons_of_mem _ h)
  have hown : s.vm.findClass RX0 = some m.cls := findClass_of_methodNamed B.named
  have hlocks := B.notSynchronized
  obtain ⟨m9, meth9, c9, k1, k2, k3, -, -, k4, -⟩ := Cond.codeWith_spec (hts0 _ List.mem_cons_self)
  cases B.named.symm.trans k1
  cases B.method.symm.trans k2
  cases (Stand.of_body B).code.symm.trans k3
  obtain ⟨x, htab, hxe⟩ := List.map_eq_singleton_iff.mp k4
  obtain ⟨xs, xe, xh, xt⟩ := x
  obtain ⟨rfl, rfl, rfl, rfl⟩ : xs = 0 ∧ xe = 10 ∧ xh = 13 ∧ xt = 13 := by simpa using hxe
  have hAo : ¬ cb_A g o := fun ⟨k, hk, e⟩ => hne k hk e.symm
  have hl := lv_entry ([.ref (g 0), .int x1, .int x2, .ref o]) (n := 5) (Nat.le_of_ble_eq_true rfl)
  rw [lg_entry_eq]
  generalize (lg_sl ([.ref (g 0), .int x1, .int x2, .ref o]) ++ List.replicate (5 - (lg_sl ([.ref (g 0), .int x1, .int x2, .ref o])).length) Slot.unset).toArray = ls at hl ⊢
  have hl : lv_has ls 5 [(0, .ref (g 0)), (1, .int x1), (2, .int x2), (3, .ref o)] := hl
  refine lv_aload_n hx hb dX0_decode_0 rfl (lv_at hl 3 rfl) ?_
  refine lv_iconst (v := 0) hx hb dX0_decode_1 (by decide) ?_
  refine lv_aload_n hx hb dX0_decode_2 rfl (lv_at hl 0 rfl) ?_
  refine lv_iload_n hx hb dX0_decode_3 rfl (lv_at hl 1 rfl) ?_
  refine lv_iload_n hx hb dX0_decode_4 rfl (lv_at hl 2 rfl) ?_
  by_cases h1 : cb_ix x1 2 = true
  · obtain ⟨w, hw, rfl⟩ := cb_ix_of h1 (by decide)
    rw [show cb_thr (nI w) 2 = 0 from if_pos h1, show lh_dec ov (nI w) x2 = vp_updL ov 0 (cb_dec w (cb_by x2)).toInt64 from by unfold lh_dec cb_fDec; rw [if_pos h1, if_pos h1, nI_clamp (by omega)]]
    refine cb_callG (P := fun _ t => va_P D cbCl (cb_w tc g S 8) t.heap) (r := some (.int (cb_dec w (cb_by x2)))) (A := lh_A g o) (H0 := s.heap) (fun st oc t h => ⟨h.1, h.2.1, h.2.2⟩) (va_runV (As := [.int (nI w), .int x2]) (rest := [.int 0, .ref o]) ⟨hx, hb, hml, hown, hts⟩ (met_bDec l D tc g S w hw x2) (cwV 2 hts (lw_V q187 q188 q189 q3 q190) rfl rfl rfl (by decide +kernel) ⟨Nat.le_of_ble_eq_true rfl, Nat.le_of_ble_eq_true rfl⟩) ⟨cb_blind, va_recv hK hP (ci := 0) (q0 := 0) rfl (cb_w_at (by omega) rfl), fun U hU hW => ⟨rfl, by rw [hU]; exact hP, va_K.moved hW.alike hK, hI, va_Nw.warmD hW hzE, va_Nw.warmD hW hzD⟩⟩ rfl rfl hl.1 rfl (lv_room (Nat.le_of_ble_eq_true rfl)) dX0_decode_5 ⟨Nat.le_of_ble_eq_true rfl, Nat.le_of_ble_eq_true rfl⟩) va_S.rf (fun q h => Or.inl h) (fun st t locs h0 hP1 hF hS => ?_)
    obtain ⟨hf1, hf2⟩ := hF
    rw [h0] at hf1 hf2
    have hPo1 := lh_kept hPo (fun h => hf2 o h hAo)
    generalize t.heap = H at hP1 hPo1 hS ⊢
    show W p l e (headSpec (wsW_ yX0_decode cX0_decode 5 (some .int) [(0, 10, 13, 13)]) ({ frames := 7, cells := 1, slots := 6, locals := 142 } : Room)).room s m ([.ref (g 0), .int (nI w), .int x2, .ref o] : List Value).toArray below meth c H locs 0 0 _ (F0 m 8 ls [.int (cb_dec w (cb_by x2)), .int 0, .ref o])
    refine lv_i2l hx hb dX0_decode_8 rfl ?_
    refine lh_st hx hb hK hP1 hPo1 (cb_w_ne hne) (Or.inr rfl) hS dX0_decode_9 (fun H locs hP hPo hS => ?_)
    refine lv_goto (tgt := 17) hx hb dX0_decode_10 (by decide) ?_
    refine lv_iconst (v := 0) hx hb dX0_decode_17 (by decide) ?_
    refine W.widen (k := 1) (n := 6) (by omega) (by omega) ?_
    exact W.iret (v := 0) hx hb hr (fun t9 ht hW => ⟨rfl, ⟨by rw [ht]; exact hP, by rw [ht]; exact hPo⟩, hS.F ht⟩) hS.2.2 dX0_decode_18
  · rw [show cb_thr x1 2 = 1 from if_neg h1, show lh_dec ov x1 x2 = ov from if_neg h1]
    refine cb_catchV (As := [.int x1, .int x2]) (rest := [.int 0, .ref o]) (own := RX0) (C := RX1) (y := yX1_decode) hx hb hml hown hts (thr_dec l hfl (g 0) x1 x2 h1) cb_blindT q190 q187 q188 q189 q3 ⟨by decide +kernel, by decide +kernel, show (parseMethodDescriptor yX1_decode.desc).map (fun d => d.parameters.length) = some 2 by decide +kernel⟩ ⟨Nat.le_of_ble_eq_true rfl, Nat.le_of_ble_eq_true rfl⟩ rfl rfl (Nat.le_of_ble_eq_true rfl) (Nat.le_of_ble_eq_true rfl) (va_recv hK hP (ci := 0) (q0 := 0) rfl (cb_w_at (by omega) rfl)) (fun U hU hW => ⟨rfl, cb_thN.moved hW (fun a _ => by rw [hU]) hth⟩) hl.1 (Nat.le_of_ble_eq_true rfl) dX0_decode_5 htab rfl (by decide) (hts _ q186) (fun q H1 hle hold => ?_)
    have hP := cb_w_kept hP (fun k _ h => hold (g k) h)
    have hPo := lh_kept hPo (fun h => hold o h)
    have hS : va_S (lh_A g o) s.heap H1 [] := ⟨hle, fun q h _ => hold q h, fun q h => by cases h⟩
    refine lv_astore (lv' := [(4, .ref q), (0, .ref (g 0)), (1, .int x1), (2, .int x2), (3, .ref o)]) hx hb dX0_decode_13 hl (by decide) rfl (fun ls hl => ?_)
    refine lv_iconst (v := 1) hx hb dX0_decode_15 (by decide) ?_
    exact W.iret (v := 1) hx hb hr (fun t9 ht hW => ⟨rfl, ⟨by rw [ht]; exact hP, by rw [ht]; exact hPo⟩, hS.F ht⟩) hS.2.2 dX0_decode_16
set_option maxHeartbeats 4000000 in
set_option maxRecDepth 100000 in
theorem met_hEn (l : Launch) (hfl : l.flags = flags0) (D : va_G) (tc : Nat → ClassId) (g : Nat → Nat) (S : cb_S) (o : Nat) (ov : Nat → Int64) (x1 : Int32) : Met l yX0_energy (wsW_ yX0_energy cX0_energy 4 (some .int) [(0, 8, 11, 13)]) ({ frames := 7, cells := 1, slots := 6, locals := 141 } : Room) (va_Pc [.ref (g 0), .int x1, .ref o] (lh_Pre D tc g S o ov)) (lh_Q D tc g o (cb_thr x1 8) S (lh_en ov S x1)) 1 6 (lh_A g o) := by
  refine va_MetW (cc := cX0_energy) (maxL := 4) (ret := some .int) (hh := [(0, 8, 11, 13)]) (by decide) rfl ?_
  intro p e s m args below meth c s₁ B hml hv
  obtain ⟨rfl, ⟨hP, hK, hI, hzE, hzD⟩, hPo, hne, hth⟩ := hv
  have hx := B.exec
  have hb := B.bytes
  have hr := B.returns
  have hts0 := atoms_spec (ws := (wsW_ yX0_energy cX0_energy 4 (some .int) [(0, 8, 11, 13)])) B.pre
  have hts : ∀ w ∈ lw_all, w.before _ s = true := fun w h => hts0 w (List.mem_cons_of_mem _ h)
  have hown : s.vm.findClass RX0 = some m.cls := findClass_of_methodNamed B.named
  have hlocks := B.notSynchronized
  obtain ⟨m9, meth9, c9, k1, k2, k3, -, -, k4, -⟩ := Cond.codeWith_spec (hts0 _ List.mem_cons_self)
  cases B.named.symm.trans k1
  cases B.method.symm.trans k2
  cases (Stand.of_body B).code.symm.trans k3
  obtain ⟨x, htab, hxe⟩ := List.map_eq_singleton_iff.mp k4
  obtain ⟨xs, xe, xh, xt⟩ := x
  obtain ⟨rfl, rfl, rfl, rfl⟩ : xs = 0 ∧ xe = 8 ∧ xh = 11 ∧ xt = 13 := by simpa using hxe
  have hAo : ¬ cb_A g o := fun ⟨k, hk, e⟩ => hne k hk e.symm
  have hl := lv_entry ([.ref (g 0), .int x1, .ref o]) (n := 4) (Nat.le_of_ble_eq_true rfl)
  rw [lg_entry_eq]
  generalize (lg_sl ([.ref (g 0), .int x1, .ref o]) ++ List.replicate (4 - (lg_sl ([.ref (g 0), .int x1, .ref o])).length) Slot.unset).toArray = ls at hl ⊢
  have hl : lv_has ls 4 [(0, .ref (g 0)), (1, .int x1), (2, .ref o)] := hl
  refine lv_aload_n hx hb dX0_energy_0 rfl (lv_at hl 2 rfl) ?_
  refine lv_iconst (v := 0) hx hb dX0_energy_1 (by decide) ?_
  refine lv_aload_n hx hb dX0_energy_2 rfl (lv_at hl 0 rfl) ?_
  refine lv_iload_n hx hb dX0_energy_3 rfl (lv_at hl 1 rfl) ?_
  by_cases h1 : cb_ix x1 8 = true
  · obtain ⟨j, hw, rfl⟩ := cb_ix_of h1 (by decide)
    rw [show cb_thr (nI j) 8 = 0 from if_pos h1, show lh_en ov S (nI j) = vp_updL ov 0 (cb_en S j) from by unfold lh_en cb_fEn; rw [if_pos h1, if_pos h1, nI_clamp (by omega)]]
    refine cb_callG (P := fun _ t => va_P D cbCl (cb_w tc g S 8) t.heap) (r := some (.long (cb_en S j))) (A := lh_A g o) (H0 := s.heap) (fun st oc t h => ⟨h.1, h.2.1, h.2.2⟩) (va_runV (As := [.int (nI j)]) (rest := [.int 0, .ref o]) ⟨hx, hb, hml, hown, hts⟩ (met_bEn l D tc g S j hw) (cwV 1 hts (lw_V q255 q256 q257 q3 q258) rfl rfl rfl (by decide +kernel) ⟨Nat.le_of_ble_eq_true rfl, Nat.le_of_ble_eq_true rfl⟩) ⟨cb_blind, va_recv hK hP (ci := 0) (q0 := 0) rfl (cb_w_at (by omega) rfl), fun U hU hW => ⟨rfl, by rw [hU]; exact hP, va_K.moved hW.alike hK, hI, va_Nw.warmD hW hzE, va_Nw.warmD hW hzD⟩⟩ rfl rfl hl.1 rfl (lv_room (Nat.le_of_ble_eq_true rfl)) dX0_energy_4 ⟨Nat.le_of_ble_eq_true rfl, Nat.le_of_ble_eq_true rfl⟩) va_S.rf (fun q h => Or.inl h) (fun st t locs h0 hP1 hF hS => ?_)
    obtain ⟨hf1, hf2⟩ := hF
    rw [h0] at hf1 hf2
    have hPo1 := lh_kept hPo (fun h => hf2 o h hAo)
    generalize t.heap = H at hP1 hPo1 hS ⊢
    show W p l e (headSpec (wsW_ yX0_energy cX0_energy 4 (some .int) [(0, 8, 11, 13)]) ({ frames := 7, cells := 1, slots := 6, locals := 141 } : Room)).room s m ([.ref (g 0), .int (nI j), .ref o] : List Value).toArray below meth c H locs 0 0 _ (F0 m 7 ls [.long (cb_en S j), .int 0, .ref o])
    refine lh_st hx hb hK hP1 hPo1 (cb_w_ne hne) (Or.inr rfl) hS dX0_energy_7 (fun H locs hP hPo hS => ?_)
    refine lv_goto (tgt := 14) hx hb dX0_energy_8 (by decide) ?_
    refine lv_iconst (v := 0) hx hb dX0_energy_14 (by decide) ?_
    refine W.widen (k := 1) (n := 6) (by omega) (by omega) ?_
    exact W.iret (v := 0) hx hb hr (fun t9 ht hW => ⟨rfl, ⟨by rw [ht]; exact hP, by rw [ht]; exact hPo⟩, hS.F ht⟩) hS.2.2 dX0_energy_15
  · rw [show cb_thr x1 8 = 1 from if_neg h1, show lh_en ov S x1 = ov from if_neg h1]
    refine cb_catchV (As := [.int x1]) (rest := [.int 0, .ref o]) (own := RX0) (C := RX1) (y := yX1_energy) hx hb hml hown hts (thr_en l hfl (g 0) x1 h1) cb_blindT q258 q255 q256 q257 q3 ⟨by decide +kernel, by decide +kernel, show (parseMethodDescriptor yX1_energy.desc).map (fun d => d.parameters.length) = some 1 by decide +kernel⟩ ⟨Nat.le_of_ble_eq_true rfl, Nat.le_of_ble_eq_true rfl⟩ rfl rfl (Nat.le_of_ble_eq_true rfl) (Nat.le_of_ble_eq_true rfl) (va_recv hK hP (ci := 0) (q0 := 0) rfl (cb_w_at (by omega) rfl)) (fun U hU hW => ⟨rfl, cb_thN.moved hW (fun a _ => by rw [hU]) hth⟩) hl.1 (Nat.le_of_ble_eq_true rfl) dX0_energy_4 htab rfl (by decide) (hts _ q186) (fun q H1 hle hold => ?_)
    have hP := cb_w_kept hP (fun k _ h => hold (g k) h)
    have hPo := lh_kept hPo (fun h => hold o h)
    have hS : va_S (lh_A g o) s.heap H1 [] := ⟨hle, fun q h _ => hold q h, fun q h => by cases h⟩
    refine lv_astore_n (lv' := [(3, .ref q), (0, .ref (g 0)), (1, .int x1), (2, .ref o)]) hx hb dX0_energy_11 rfl hl (by decide) rfl (fun ls hl => ?_)
    refine lv_iconst (v := 1) hx hb dX0_energy_12 (by decide) ?_
    exact W.iret (v := 1) hx hb hr (fun t9 ht hW => ⟨rfl, ⟨by rw [ht]; exact hP, by rw [ht]; exact hPo⟩, hS.F ht⟩) hS.2.2 dX0_energy_13
end
section
/-! THE INVARIANT IS KEPT; the classes at the law's start; the law's rows -/
set_option maxRecDepth 100000
theorem cb_ok_law {S : cb_S} {p w : Int32} (h : cb_ok S) : cb_ok (cb_fLaw S p w).2 := by
  unfold cb_fLaw
  split
  · rename_i q
    obtain ⟨j0, hj0, e⟩ := cb_ix_of q.2 (by decide)
    refine ⟨fun j hj => ?_, h.2⟩
    obtain ⟨h1, h2⟩ := h.1 j hj
    refine ⟨?_, h2⟩
    show va_up (cb_lw S) p.toNatClampNeg w.toNatClampNeg j < 2
    unfold va_up
    split
    · rw [e, nI_clamp (by omega)]; exact hj0
    · exact h1
  · exact h
theorem cb_ok_gain {S : cb_S} {p v : Int32} (h : cb_ok S) : cb_ok (cb_fGain S p v).2 := by
  unfold cb_fGain
  split
  · rename_i q
    have hv := q.2
    unfold cb_ix at hv
    rw [Bool.and_eq_true, decide_eq_true_eq, decide_eq_true_eq] at hv
    refine ⟨fun j hj => ?_, h.2⟩
    obtain ⟨h1, h2, h3⟩ := h.1 j hj
    refine ⟨h1, ?_, h3⟩
    show 0 ≤ (va_up (cb_gn S) p.toNatClampNeg v j).toInt ∧ (va_up (cb_gn S) p.toNatClampNeg v j).toInt ≤ 1024
    unfold va_up
    split
    · omega
    · exact h2
  · exact h
theorem cb_ok_mute {S : cb_S} {p v : Int32} (h : cb_ok S) (hv : v = 0 ∨ v = 1) : cb_ok (cb_fMute S p v).2 := by
  unfold cb_fMute
  split
  · refine ⟨fun j hj => ?_, h.2⟩
    obtain ⟨h1, h2, h3, h4⟩ := h.1 j hj
    refine ⟨h1, h2, ?_, h4⟩
    show va_up (cb_mu S) p.toNatClampNeg v j = 0 ∨ va_up (cb_mu S) p.toNatClampNeg v j = 1
    unfold va_up
    split
    · exact hv
    · exact h3
  · exact h
theorem cb_ok_spk {S : cb_S} {n : Int32} (h : cb_ok S) : cb_ok (cb_fSpk S n).2 := by
  unfold cb_fSpk
  split
  · rename_i q
    have q1 := Int32.le_iff_toInt_le.mp q.1
    have q2 := Int32.le_iff_toInt_le.mp q.2
    rw [show (1 : Int32).toInt = 1 from by decide] at q1
    rw [show (8 : Int32).toInt = 8 from by decide] at q2
    exact ⟨h.1, q1, q2⟩
  · exact h
theorem cb_ok_in {S : cb_S} {j0 k0 : Nat} {v : Int32} (h : cb_ok S) (hv : cb_isB v) : cb_ok (cb_sIn S j0 k0 v) := by
  refine ⟨fun j hj => ?_, h.2⟩
  obtain ⟨h1, h2, h3, h4, h5⟩ := h.1 j hj
  refine ⟨h1, h2, h3, h4, fun k hk => ?_⟩
  show cb_isB (va_up (cb_ii S) j0 (upd (cb_ii S j0) k0 v) j k)
  unfold va_up
  by_cases e : j = j0
  · rw [if_pos e]
    unfold upd
    by_cases e2 : k = k0
    · rw [if_pos e2]; exact hv
    · rw [if_neg e2, ← e]; exact h5 k hk
  · rw [if_neg e]; exact h5 k hk
theorem cb_ok_put {S : cb_S} {p k v : Int32} (h : cb_ok S) : cb_ok (cb_fPut S p k v).2 := by
  unfold cb_fPut
  split
  · exact cb_ok_in h (cb_isB_nI (cb_by_lt v))
  · exact h
theorem cb_ok_rampS {S : cb_S} {j : Nat} {a d : Int32} (h : cb_ok S) : ∀ k, cb_ok (cb_rampS S j a d k)
  | 0 => h
  | k + 1 => cb_ok_in (cb_ok_rampS h k) (cb_isB_enc _ (cb_sat_rng _))
theorem cb_ok_ramp {S : cb_S} {p a d : Int32} (h : cb_ok S) : cb_ok (cb_fRamp S p a d).2 := by
  unfold cb_fRamp
  split
  · exact cb_ok_rampS h 8
  · exact h
theorem cb_ok_mix {S : cb_S} (h : cb_ok S) : cb_ok (cb_mixS S) := by
  obtain ⟨e1, e2, e3, e4, e5⟩ := cb_mix2_same S
  refine ⟨fun j hj => ?_, ?_⟩
  · obtain ⟨h1, h2, h3, h4, h5⟩ := h.1 j hj
    exact ⟨by show cb_lw (cb_mix2 S) j < 2; rw [e1]; exact h1, by show 0 ≤ (cb_gn (cb_mix2 S) j).toInt ∧ (cb_gn (cb_mix2 S) j).toInt ≤ 1024; rw [e2]; exact h2, by show cb_mu (cb_mix2 S) j = 0 ∨ cb_mu (cb_mix2 S) j = 1; rw [e4]; exact h3, cb_mix2_01 S j hj, fun k hk => by show cb_isB (cb_ii (cb_mix2 S) j k); rw [e3]; exact h5 k hk⟩
  · show 1 ≤ (cb_mo (cb_mix2 S)).toInt ∧ (cb_mo (cb_mix2 S)).toInt ≤ 8
    rw [e5]
    exact h.2
theorem cb_ok_S0 : cb_ok cb_S0 := by
  refine ⟨fun j hj => ⟨Nat.mod_lt j (by decide), ⟨show 0 ≤ (256 : Int32).toInt by decide, show (256 : Int32).toInt ≤ 1024 by decide⟩, Or.inl rfl, Or.inl rfl, fun k hk => ?_⟩, by decide, by decide⟩
  show cb_isB (cb_iniF 8 0 j k)
  unfold cb_iniF
  rw [if_pos (by omega)]
  exact cb_isB_enc _ cb_rng0
/-- the classes and the array classes, known at the law's start -/
theorem lw_classes {s : State} {b : Addr} (ht : ∀ w ∈ lw_tbl, w.before #[Value.ref b] s = true) : ∃ (D : va_G) (tc : Nat → ClassId), va_K D cbCl (cb_tys tc) s := by
  obtain ⟨c0, i0, k0⟩ := u_known (C := RX1) (T := TX1) (N := 3) (n := 3) ht (fun w h => lw_all_tbl (in_X1 w h)) (ht _ (lw_all_tbl q16))
  obtain ⟨c1, i1, k1⟩ := u_known (C := RX3) (T := TX3) (N := 0) (n := 0) ht (fun w h => absurd h List.not_mem_nil) (ht _ (lw_all_tbl q26))
  obtain ⟨c2, i2, k2⟩ := u_known (C := RX4) (T := TX3) (N := 0) (n := 0) ht (fun w h => absurd h List.not_mem_nil) (ht _ (lw_all_tbl q36))
  obtain ⟨c3, i3, k3⟩ := u_known (C := RX5) (T := TX5) (N := 8) (n := 8) ht (fun w h => lw_all_tbl (in_X5 w h)) (ht _ (lw_all_tbl q44))
  obtain ⟨c4, i4, k4⟩ := u_known (C := RX6) (T := TX6) (N := 9) (n := 9) ht (fun w h => lw_all_tbl (in_X6 w h)) (ht _ (lw_all_tbl q260))
  obtain ⟨p0, t0, f0, a1, -, a2, a3, a4⟩ := Cond.arrayOver_spec (ht _ q24)
  obtain ⟨p1, t1, f1, b1, -, b2, b3, b4⟩ := Cond.arrayOver_spec (ht _ q43)
  obtain ⟨t2, g2, m2, e1, e2, e3⟩ := Cond.arrayClass_spec (ht _ (lw_all_tbl q78))
  obtain ⟨t3, g3, m3, j1, j2, j3⟩ := Cond.arrayClass_spec (ht _ (lw_all_tbl q296))
  obtain ⟨t4, g4, m4, n1, n2, n3⟩ := Cond.arrayClass_spec (ht _ (lw_all_tbl q297))
  refine ⟨(fun k => if k = 0 then c0 else if k = 1 then c1 else if k = 2 then c2 else if k = 3 then c3 else c4, fun k => if k = 0 then i0 else if k = 1 then i1 else if k = 2 then i2 else if k = 3 then i3 else i4), (fun k => if k = 0 then t0 else if k = 1 then t1 else if k = 2 then t2 else if k = 3 then t3 else t4), fun k q hq => ?_, fun k q hq => ?_⟩
  · match k, hq with
    | 0, hq => cases hq; exact k0
    | 1, hq => cases hq; exact k1
    | 2, hq => cases hq; exact k2
    | 3, hq => cases hq; exact k3
    | 4, hq => cases hq; exact k4
    | k + 5, hq => simp [cbCl] at hq
  · match k, hq with
    | 0, hq => cases hq; exact ⟨fun n z => ⟨(fun k h => by cases h), f0, a2, p0, a3⟩, f0, p0, a2, a3, a1, a4⟩
    | 1, hq => cases hq; exact ⟨fun n z => ⟨(fun k h => by cases h), f1, b2, p1, b3⟩, f1, p1, b2, b3, b1, b4⟩
    | 2, hq => cases hq; exact ⟨fun n z => ⟨(fun k h => by cases h), g2, e2, m2, e3⟩, e1⟩
    | 3, hq => cases hq; exact ⟨fun n z => ⟨(fun k h => by cases h), g3, j2, m3, j3⟩, j1⟩
    | 4, hq => cases hq; exact ⟨fun n z => ⟨(fun k h => by cases h), g4, n2, m4, n3⟩, n1⟩
    | k + 5, hq => simp [cb_tys] at hq
theorem lw_words {s : State} {b : Addr} (ht : ∀ w ∈ lw_tbl, w.before #[Value.ref b] s = true) (hgv : (Jvm.Cond.and given_1 narrow_1).before #[Value.ref b] s = true) : cb_N s ∧ cb_thN s := by
  have hs := flat_of_before _ hgv
  have r1 : (Cond.isRef (.static "java/lang/Throwable" "UNASSIGNED_STACK" "[Ljava/lang/StackTraceElement;")).before #[Value.ref b] s = true := hs _ (by decide +kernel)
  have r2 : (Cond.isRef (.static "java/lang/Throwable" "SUPPRESSED_SENTINEL" "Ljava/util/List;")).before #[Value.ref b] s = true := hs _ (by decide +kernel)
  exact ⟨⟨⟨va_Nw.of rfl (ht _ q80), va_Nw.of rfl (ht _ q164)⟩, ⟨va_Nw.of rfl (ht _ q27), va_Nw.of rfl (ht _ q30), va_Nw.of rfl (ht _ q37), va_Nw.of rfl (ht _ q40), va_Nw.of rfl (ht _ q45)⟩, ⟨va_AO.of (ht _ q24), va_AO.of (ht _ q43)⟩, va_Nw.of rfl (ht _ q361), va_Nw.of rfl (ht _ q362)⟩,
    ⟨⟨va_Nw.of rfl (ht _ q193), va_Nw.of rfl (ht _ q194), va_Nw.of rfl (ht _ q196), va_Nw.of rfl (ht _ q198)⟩, cb_Zs.of (ht _ q218) r1, cb_Zs.of (ht _ q220) r2⟩⟩
/-- where the law's objects lie: all new, apart -/
def lw_F (D : va_G) (tc : Nat → ClassId) (g a : Nat → Nat) (o : Nat) (s : State) : Prop := (cb_inj g ∧ mm_inj a) ∧ ((∀ i, i < 37 → ∀ j, j < 8 → g i ≠ a j) ∧ (∀ i, i < 37 → g i ≠ o) ∧ ∀ j, j < 8 → a j ≠ o) ∧ ((∀ i, i < 37 → s.heap.size ≤ g i) ∧ (∀ j, j < 8 → s.heap.size ≤ a j) ∧ s.heap.size ≤ o) ∧ va_K D cbCl (cb_tys tc) s ∧ cb_N s ∧ cb_thN s
/-- what they hold: the bridge Sb, the model Sm, the array ov -/
def lw_I (D : va_G) (tc : Nat → ClassId) (g a : Nat → Nat) (o : Nat) (s : State) (Sb Sm : cb_S) (th : Int32) (ov : Nat → Int64) (H : Heap) (locs : List Loc) : Prop := va_P D cbCl (cb_w tc g Sb 8) H ∧ va_P D cbCl (mm_w tc a Sm th) H ∧ va_P D cbCl [(o, .inl (tc 4, 1, .inr (.inl ov)))] H ∧ va_S (fun q : Nat => s.heap.size ≤ q) s.heap H locs
theorem mm_w_kept {D : va_G} {t : Nat → ClassId} {a : Nat → Nat} {S : cb_S} {th : Int32} {H H1 : Heap} (h : va_P D cbCl (mm_w t a S th) H) (hq : ∀ k, k < 8 → a k < H.size → H1[a k]? = H[a k]?) : va_P D cbCl (mm_w t a S th) H1 := by
  refine h.kept (fun k q hk => ?_)
  have hlt := (h k q hk).lt
  have hl : k < 8 := (List.getElem?_eq_some_iff.mp hk).1
  rcases (show k = 0 ∨ k = 1 ∨ k = 2 ∨ k = 3 ∨ k = 4 ∨ k = 5 ∨ k = 6 ∨ k = 7 by omega) with rfl | rfl | rfl | rfl | rfl | rfl | rfl | rfl <;> (cases hk; exact hq _ hl hlt)
section LR
variable {p : Program} {l : Launch} {e : Env} {R : Room} {s : State} {m : MethodId} {args : Array Value} {below : List Frame} {meth : Method} {c : Code} {H : Heap} {locs : List Loc} {cells slots : Nat} {Q : State → Prop}
variable {pc : Nat} {ls : Array Slot} {rest st0 : List Value} {av : Array Value} {D : va_G} {tc : Nat → ClassId} {g a : Nat → Nat} {o : Nat} {Sb Sm S' : cb_S} {th th' : Int32} {ov ov' : Nat → Int64} {cc : ByteArray}
theorem lw_preB {al : List Value} (hF : lw_F D tc g a o s) (hI : lw_I D tc g a o s Sb Sm th ov H locs) : PreV s H RX1 (g 0) (va_Pc (.ref (g 0) :: al) (cb_Pre D tc g Sb)) al := by
  obtain ⟨⟨f1, f2⟩, -, -, hK, hN, -⟩ := hF
  exact ⟨cb_blind, va_recv hK hI.1 (ci := 0) (q0 := 0) rfl (cb_w_at (by omega) rfl), fun U hU hW => ⟨rfl, by rw [hU]; exact hI.1, va_K.moved hW.alike hK, f1, va_Nw.warmD hW hN.1.1, va_Nw.warmD hW hN.1.2⟩⟩
theorem lw_preM {al : List Value} (hF : lw_F D tc g a o s) (hI : lw_I D tc g a o s Sb Sm th ov H locs) : PreV s H RX6 (a 0) (va_Pc (.ref (a 0) :: al) (mm_Pre D tc a Sm th)) al := by
  obtain ⟨⟨f1, f2⟩, -, -, hK, hN, -⟩ := hF
  exact ⟨mm_blind, va_recv hK hI.2.1 (ci := 4) (q0 := 0) rfl rfl, fun U hU hW => ⟨rfl, by rw [hU]; exact hI.2.1, va_K.moved hW.alike hK, f2⟩⟩
theorem lw_preH {al : List Value} (hF : lw_F D tc g a o s) (hI : lw_I D tc g a o s Sb Sm th ov H locs) : PreS s H (va_Pc al (lh_Pre D tc g Sb o ov)) al := by
  obtain ⟨⟨f1, f2⟩, ⟨-, g2, -⟩, -, hK, hN, hT⟩ := hF
  exact ⟨lh_blind, fun U hU hW => ⟨rfl, ⟨by rw [hU]; exact hI.1, va_K.moved hW.alike hK, f1, va_Nw.warmD hW hN.1.1, va_Nw.warmD hW hN.1.2⟩, by rw [hU]; exact hI.2.2.1, g2, cb_thN.moved hW (fun q h => by rw [hU]; exact hI.2.2.2.2.1 q h (Nat.not_le.mpr h)) hT⟩⟩
theorem lw_callB {r : Option Value} (hF : lw_F D tc g a o s) (hI : lw_I D tc g a o s Sb Sm th ov H locs) (hr : va_Run p l e R s m args below meth c H locs cells slots 0 0 (F0 m pc ls st0) rest (cb_Qb D tc g r S' av) (cb_A g))
    (kk : ∀ (H : Heap) (locs : List Loc), lw_I D tc g a o s S' Sm th ov H locs → W p l e R s m args below meth c H locs cells slots Q (F0 m (pc + 3) ls (r.toList ++ rest))) : W p l e R s m args below meth c H locs cells slots Q (F0 m pc ls st0) := by
  obtain ⟨-, ⟨g1, g2, g3⟩, ⟨n1, n2, n3⟩, -⟩ := hF
  refine cb_callG (P := fun _ t => va_P D cbCl (cb_w tc g S' 8) t.heap) (r := r) (A := fun q : Nat => s.heap.size ≤ q) (H0 := s.heap) (fun st oc t h => ⟨h.1, h.2.1, h.2.2⟩) hr hI.2.2.2 (fun q ⟨k, hk, e⟩ => by rw [e]; exact n1 k hk) (fun st t locs h0 hP hFr hS => ?_)
  obtain ⟨f1, f2⟩ := hFr
  rw [h0] at f1 f2
  exact kk t.heap locs ⟨hP, mm_w_kept hI.2.1 (fun k hk h => f2 _ h (fun ⟨i, hi, e⟩ => g1 i hi k hk e.symm)), lh_kept hI.2.2.1 (fun h => f2 _ h (fun ⟨i, hi, e⟩ => g2 i hi e.symm)), hS⟩
theorem lw_callM {r : Option Value} (hF : lw_F D tc g a o s) (hI : lw_I D tc g a o s Sb Sm th ov H locs) (hr : va_Run p l e R s m args below meth c H locs cells slots 0 0 (F0 m pc ls st0) rest (mm_Q D tc a r S' th' av) (mm_A a))
    (kk : ∀ (H : Heap) (locs : List Loc), lw_I D tc g a o s Sb S' th' ov H locs → W p l e R s m args below meth c H locs cells slots Q (F0 m (pc + 3) ls (r.toList ++ rest))) : W p l e R s m args below meth c H locs cells slots Q (F0 m pc ls st0) := by
  obtain ⟨-, ⟨g1, g2, g3⟩, ⟨n1, n2, n3⟩, -⟩ := hF
  refine cb_callG (P := fun _ t => va_P D cbCl (mm_w tc a S' th') t.heap) (r := r) (A := fun q : Nat => s.heap.size ≤ q) (H0 := s.heap) (fun st oc t h => ⟨h.1, h.2.1, h.2.2⟩) hr hI.2.2.2 (fun q ⟨k, hk, e⟩ => by rw [e]; exact n2 k hk) (fun st t locs h0 hP hFr hS => ?_)
  obtain ⟨f1, f2⟩ := hFr
  rw [h0] at f1 f2
  exact kk t.heap locs ⟨cb_w_kept hI.1 (fun k hk h => f2 _ h (fun ⟨i, hi, e⟩ => g1 k hk i hi e)), hP, lh_kept hI.2.2.1 (fun h => f2 _ h (fun ⟨i, hi, e⟩ => g3 i hi e.symm)), hS⟩
theorem lw_callH {r : Int32} (hF : lw_F D tc g a o s) (hI : lw_I D tc g a o s Sb Sm th ov H locs) (hr : va_Run p l e R s m args below meth c H locs cells slots 1 6 (F0 m pc ls st0) rest (lh_Q D tc g o r Sb ov' av) (lh_A g o))
    (kk : ∀ (H : Heap) (locs : List Loc), lw_I D tc g a o s Sb Sm th ov' H locs → W p l e R s m args below meth c H locs (cells + 1) (slots + 6) Q (F0 m (pc + 3) ls (.int r :: rest))) : W p l e R s m args below meth c H locs cells slots Q (F0 m pc ls st0) := by
  obtain ⟨-, ⟨g1, g2, g3⟩, ⟨n1, n2, n3⟩, -⟩ := hF
  refine cb_callG (P := fun _ t => va_P D cbCl (cb_w tc g Sb 8) t.heap ∧ va_P D cbCl [(o, .inl (tc 4, 1, .inr (.inl ov')))] t.heap) (r := some (.int r)) (A := fun q : Nat => s.heap.size ≤ q) (H0 := s.heap) (fun st oc t h => ⟨h.1, h.2.1, h.2.2⟩) hr hI.2.2.2 (fun q h => by rcases h with ⟨k, hk, e⟩ | e; rw [e]; exact n1 k hk; rw [e]; exact n3) (fun st t locs h0 hP hFr hS => ?_)
  obtain ⟨f1, f2⟩ := hFr
  rw [h0] at f1 f2
  refine kk t.heap locs ⟨hP.1, mm_w_kept hI.2.1 (fun k hk h => f2 _ h (fun q => ?_)), hP.2, hS⟩
  rcases q with ⟨i, hi, e⟩ | e
  · exact g1 i hi k hk e.symm
  · exact g3 k hk e
/-- the script's ints -/
theorem lw_sld (hx : p.tables.exec = Jvm.exec) (hb : c.code = cc) {b L : Nat} {xs : Nat → Int32} (hX : va_X b L xs s s.heap) (hbl : b < s.heap.size) (hL : L ≤ 256) (hI : lw_I D tc g a o s Sb Sm th ov H locs) (j : Nat) (hj : j < L) (hdg : decode cc pc = .ok (.iaload, 1))
    (kk : W p l e R s m args below meth c H locs cells slots Q (F0 m (pc + 1) ls (.int (xs j) :: rest))) : W p l e R s m args below meth c H locs cells slots Q (F0 m pc ls (.int (nI j) :: .ref b :: rest)) := by
  refine va_sld hx hb hX hbl (A := fun q : Nat => s.heap.size ≤ q) (Nat.not_le.mpr hbl) hI.2.2.2 (vp_in_nI hj (by omega)) hdg ?_
  rw [nI_clamp (by omega)]
  exact kk
theorem lw_slen (hx : p.tables.exec = Jvm.exec) (hb : c.code = cc) {b L : Nat} {xs : Nat → Int32} (hX : va_X b L xs s s.heap) (hbl : b < s.heap.size) (hI : lw_I D tc g a o s Sb Sm th ov H locs) (hdg : decode cc pc = .ok (.arraylength, 1))
    (kk : W p l e R s m args below meth c H locs cells slots Q (F0 m (pc + 1) ls (.int (nI L) :: rest))) : W p l e R s m args below meth c H locs cells slots Q (F0 m pc ls (.ref b :: rest)) :=
  va_slen hx hb hX hbl (A := fun q : Nat => s.heap.size ≤ q) (Nat.not_le.mpr hbl) hI.2.2.2 hdg kk
/-- the array of one long, read -/
theorem lw_ld (hx : p.tables.exec = Jvm.exec) (hb : c.code = cc) (hF : lw_F D tc g a o s) (hI : lw_I D tc g a o s Sb Sm th ov H locs) (hdg : decode cc pc = .ok (.laload, 1))
    (kk : W p l e R s m args below meth c H locs cells slots Q (F0 m (pc + 1) ls (.long (ov 0) :: rest))) : W p l e R s m args below meth c H locs cells slots Q (F0 m pc ls (.int 0 :: .ref o :: rest)) :=
  va_lald hx hb hF.2.2.2.1 hI.2.2.1 0 4 rfl rfl (pk_in 0 1 (by decide)) hdg kk
end LR
end
section
/-! the law's cases -/
set_option maxRecDepth 100000
set_option maxHeartbeats 4000000 in
set_option maxRecDepth 100000 in
theorem case_enc {p : Program} {l : Launch} {e : Env} {s : State} {m : MethodId} {below : List Frame} {meth : Method} {c : Code} {Q : State → Prop} {D : va_G} {tc : Nat → ClassId} {g a : Nat → Nat} {o b L : Nat} {xs : Nat → Int32} {cells slots : Nat} (hfl : l.flags = flags0) (hx : p.tables.exec = Jvm.exec) (hb : c.code = code) (hml : c.maxLocals = 8) (hts : ∀ w ∈ lw_all, w.before #[Value.ref b] s = true) (hown : s.vm.findClass RX0 = some m.cls) (hX : va_X b L xs s s.heap) (hbl : b < s.heap.size) (hL : L ≤ 256) (hF : lw_F D tc g a o s) (hc : cells + 1 ≤ 872765) (hsl : slots + 6 ≤ 6434802) {k : Nat} (hk : 4 * k + 4 ≤ L) {S : cb_S} {th : Int32} {ov : Nat → Int64} (hok : cb_ok S) (K : ∀ (S : cb_S) (th : Int32) (ov : Nat → Int64) (H : Heap) (locs : List Loc), cb_ok S → lw_I D tc g a o s S S th ov H locs → ∀ ls : Array Slot, lv_has ls 8 [(4, .int (nI (4 * k))), (3, .ref o), (2, .ref (a 0)), (1, .ref (g 0)), (0, .ref b)] → W p l e room_1 s m #[Value.ref b] below meth c H locs (cells + 1) (slots + 6) Q (F0 m 556 ls [])) {H : Heap} {locs : List Loc} (hI : lw_I D tc g a o s S S th ov H locs) {ls : Array Slot} (hl : lv_has ls 8 [(4, .int (nI (4 * k))), (3, .ref o), (2, .ref (a 0)), (1, .ref (g 0)), (0, .ref b)]) : W p l e room_1 s m #[Value.ref b] below meth c H locs cells slots Q (F0 m 164 ls []) := by
  refine lv_aload_n hx hb dL_law_164 rfl (lv_at hl 3 rfl) ?_
  refine lv_aload_n hx hb dL_law_165 rfl (lv_at hl 4 rfl) ?_
  refine lv_iload hx hb dL_law_166 (lv_at hl 0 rfl) ?_
  refine lv_iconst (v := 1) hx hb dL_law_168 (by decide) ?_
  refine lv_iadd hx hb dL_law_169 ?_
  refine cb_top (y := nI (4 * k + 1)) (nI_add (4 * k) 1) ?_
  refine lw_sld hx hb hX hbl hL hI (4 * k + 1) (by omega) dL_law_170 ?_
  refine lv_aload_n hx hb dL_law_171 rfl (lv_at hl 4 rfl) ?_
  refine lv_iload hx hb dL_law_172 (lv_at hl 0 rfl) ?_
  refine lv_iconst (v := 2) hx hb dL_law_174 (by decide) ?_
  refine lv_iadd hx hb dL_law_175 ?_
  refine cb_top (y := nI (4 * k + 2)) (nI_add (4 * k) 2) ?_
  refine lw_sld hx hb hX hbl hL hI (4 * k + 2) (by omega) dL_law_176 ?_
  refine lw_callB hF hI (va_runV (As := [.int (xs (4 * k + 1)), .int (xs (4 * k + 2))]) (rest := []) ⟨hx, hb, hml, hown, hts⟩ (met_bEnc l D tc g S (xs (4 * k + 1)) (xs (4 * k + 2))) (cwV 2 hts (lw_V q114 q115 q116 q3 q117) rfl rfl rfl (by decide +kernel) ⟨Nat.le_of_ble_eq_true rfl, Nat.le_of_ble_eq_true rfl⟩) (lw_preB hF hI) rfl rfl hl.1 rfl (lv_room (Nat.le_of_ble_eq_true rfl)) dL_law_177 ⟨by show _ ≤ 872765; omega, by show _ ≤ 6434802; omega⟩) (fun H locs hI => ?_)
  show W p l e room_1 s m #[Value.ref b] below meth c H locs cells slots Q (F0 m 180 ls [.int (cb_fEnc (xs (4 * k + 1)) (xs (4 * k + 2)))])
  refine lv_aload_n hx hb dL_law_180 rfl (lv_at hl 2 rfl) ?_
  refine lv_aload_n hx hb dL_law_181 rfl (lv_at hl 4 rfl) ?_
  refine lv_iload hx hb dL_law_182 (lv_at hl 0 rfl) ?_
  refine lv_iconst (v := 1) hx hb dL_law_184 (by decide) ?_
  refine lv_iadd hx hb dL_law_185 ?_
  refine cb_top (y := nI (4 * k + 1)) (nI_add (4 * k) 1) ?_
  refine lw_sld hx hb hX hbl hL hI (4 * k + 1) (by omega) dL_law_186 ?_
  refine lv_aload_n hx hb dL_law_187 rfl (lv_at hl 4 rfl) ?_
  refine lv_iload hx hb dL_law_188 (lv_at hl 0 rfl) ?_
  refine lv_iconst (v := 2) hx hb dL_law_190 (by decide) ?_
  refine lv_iadd hx hb dL_law_191 ?_
  refine cb_top (y := nI (4 * k + 2)) (nI_add (4 * k) 2) ?_
  refine lw_sld hx hb hX hbl hL hI (4 * k + 2) (by omega) dL_law_192 ?_
  refine lw_callM hF hI (va_runV (As := [.int (xs (4 * k + 1)), .int (xs (4 * k + 2))]) (rest := [.int (cb_fEnc (xs (4 * k + 1)) (xs (4 * k + 2)))]) ⟨hx, hb, hml, hown, hts⟩ (met_mEnc l D tc a S th (xs (4 * k + 1)) (xs (4 * k + 2))) (cwV 2 hts (lw_V q312 q313 q314 q10 q315) rfl rfl rfl (by decide +kernel) ⟨Nat.le_of_ble_eq_true rfl, Nat.le_of_ble_eq_true rfl⟩) (lw_preM hF hI) rfl rfl hl.1 rfl (lv_room (Nat.le_of_ble_eq_true rfl)) dL_law_193 ⟨by show _ ≤ 872765; omega, by show _ ≤ 6434802; omega⟩) (fun H locs hI => ?_)
  show W p l e room_1 s m #[Value.ref b] below meth c H locs cells slots Q (F0 m 196 ls [.int (cb_fEnc (xs (4 * k + 1)) (xs (4 * k + 2))), .int (cb_fEnc (xs (4 * k + 1)) (xs (4 * k + 2)))])
  refine lv_icmp_eq (tgt := 556) hx hb dL_law_196 (by decide) (fun cz => ?_) (fun cz => (cz rfl : False).elim)
  refine W.widen (k := cells + 1) (n := slots + 6) (by omega) (by omega) ?_
  exact K S 0 ov H locs (hok) hI ls (lv_sub hl [0, 1, 2, 3, 4] rfl)
set_option maxHeartbeats 4000000 in
set_option maxRecDepth 100000 in
theorem case_law {p : Program} {l : Launch} {e : Env} {s : State} {m : MethodId} {below : List Frame} {meth : Method} {c : Code} {Q : State → Prop} {D : va_G} {tc : Nat → ClassId} {g a : Nat → Nat} {o b L : Nat} {xs : Nat → Int32} {cells slots : Nat} (hfl : l.flags = flags0) (hx : p.tables.exec = Jvm.exec) (hb : c.code = code) (hml : c.maxLocals = 8) (hts : ∀ w ∈ lw_all, w.before #[Value.ref b] s = true) (hown : s.vm.findClass RX0 = some m.cls) (hX : va_X b L xs s s.heap) (hbl : b < s.heap.size) (hL : L ≤ 256) (hF : lw_F D tc g a o s) (hc : cells + 1 ≤ 872765) (hsl : slots + 6 ≤ 6434802) {k : Nat} (hk : 4 * k + 4 ≤ L) {S : cb_S} {th : Int32} {ov : Nat → Int64} (hok : cb_ok S) (K : ∀ (S : cb_S) (th : Int32) (ov : Nat → Int64) (H : Heap) (locs : List Loc), cb_ok S → lw_I D tc g a o s S S th ov H locs → ∀ ls : Array Slot, lv_has ls 8 [(4, .int (nI (4 * k))), (3, .ref o), (2, .ref (a 0)), (1, .ref (g 0)), (0, .ref b)] → W p l e room_1 s m #[Value.ref b] below meth c H locs (cells + 1) (slots + 6) Q (F0 m 556 ls [])) {H : Heap} {locs : List Loc} (hI : lw_I D tc g a o s S S th ov H locs) {ls : Array Slot} (hl : lv_has ls 8 [(4, .int (nI (4 * k))), (3, .ref o), (2, .ref (a 0)), (1, .ref (g 0)), (0, .ref b)]) : W p l e room_1 s m #[Value.ref b] below meth c H locs cells slots Q (F0 m 201 ls []) := by
  refine lv_aload_n hx hb dL_law_201 rfl (lv_at hl 3 rfl) ?_
  refine lv_aload_n hx hb dL_law_202 rfl (lv_at hl 4 rfl) ?_
  refine lv_iload hx hb dL_law_203 (lv_at hl 0 rfl) ?_
  refine lv_iconst (v := 1) hx hb dL_law_205 (by decide) ?_
  refine lv_iadd hx hb dL_law_206 ?_
  refine cb_top (y := nI (4 * k + 1)) (nI_add (4 * k) 1) ?_
  refine lw_sld hx hb hX hbl hL hI (4 * k + 1) (by omega) dL_law_207 ?_
  refine lv_aload_n hx hb dL_law_208 rfl (lv_at hl 4 rfl) ?_
  refine lv_iload hx hb dL_law_209 (lv_at hl 0 rfl) ?_
  refine lv_iconst (v := 2) hx hb dL_law_211 (by decide) ?_
  refine lv_iadd hx hb dL_law_212 ?_
  refine cb_top (y := nI (4 * k + 2)) (nI_add (4 * k) 2) ?_
  refine lw_sld hx hb hX hbl hL hI (4 * k + 2) (by omega) dL_law_213 ?_
  refine lw_callB hF hI (va_runV (As := [.int (xs (4 * k + 1)), .int (xs (4 * k + 2))]) (rest := []) ⟨hx, hb, hml, hown, hts⟩ (met_bLaw l D tc g S (xs (4 * k + 1)) (xs (4 * k + 2))) (cwV 2 hts (lw_V q132 q133 q134 q3 q135) rfl rfl rfl (by decide +kernel) ⟨Nat.le_of_ble_eq_true rfl, Nat.le_of_ble_eq_true rfl⟩) (lw_preB hF hI) rfl rfl hl.1 rfl (lv_room (Nat.le_of_ble_eq_true rfl)) dL_law_214 ⟨by show _ ≤ 872765; omega, by show _ ≤ 6434802; omega⟩) (fun H locs hI => ?_)
  show W p l e room_1 s m #[Value.ref b] below meth c H locs cells slots Q (F0 m 217 ls [.int ((cb_fLaw S (xs (4 * k + 1)) (xs (4 * k + 2))).1)])
  refine lv_aload_n hx hb dL_law_217 rfl (lv_at hl 2 rfl) ?_
  refine lv_aload_n hx hb dL_law_218 rfl (lv_at hl 4 rfl) ?_
  refine lv_iload hx hb dL_law_219 (lv_at hl 0 rfl) ?_
  refine lv_iconst (v := 1) hx hb dL_law_221 (by decide) ?_
  refine lv_iadd hx hb dL_law_222 ?_
  refine cb_top (y := nI (4 * k + 1)) (nI_add (4 * k) 1) ?_
  refine lw_sld hx hb hX hbl hL hI (4 * k + 1) (by omega) dL_law_223 ?_
  refine lv_aload_n hx hb dL_law_224 rfl (lv_at hl 4 rfl) ?_
  refine lv_iload hx hb dL_law_225 (lv_at hl 0 rfl) ?_
  refine lv_iconst (v := 2) hx hb dL_law_227 (by decide) ?_
  refine lv_iadd hx hb dL_law_228 ?_
  refine cb_top (y := nI (4 * k + 2)) (nI_add (4 * k) 2) ?_
  refine lw_sld hx hb hX hbl hL hI (4 * k + 2) (by omega) dL_law_229 ?_
  refine lw_callM hF hI (va_runV (As := [.int (xs (4 * k + 1)), .int (xs (4 * k + 2))]) (rest := [.int ((cb_fLaw S (xs (4 * k + 1)) (xs (4 * k + 2))).1)]) ⟨hx, hb, hml, hown, hts⟩ (met_mLaw l D tc a S th (xs (4 * k + 1)) (xs (4 * k + 2))) (cwV 2 hts (lw_V q321 q322 q323 q10 q324) rfl rfl rfl (by decide +kernel) ⟨Nat.le_of_ble_eq_true rfl, Nat.le_of_ble_eq_true rfl⟩) (lw_preM hF hI) rfl rfl hl.1 rfl (lv_room (Nat.le_of_ble_eq_true rfl)) dL_law_230 ⟨by show _ ≤ 872765; omega, by show _ ≤ 6434802; omega⟩) (fun H locs hI => ?_)
  show W p l e room_1 s m #[Value.ref b] below meth c H locs cells slots Q (F0 m 233 ls [.int ((cb_fLaw S (xs (4 * k + 1)) (xs (4 * k + 2))).1), .int ((cb_fLaw S (xs (4 * k + 1)) (xs (4 * k + 2))).1)])
  refine lv_icmp_eq (tgt := 556) hx hb dL_law_233 (by decide) (fun cz => ?_) (fun cz => (cz rfl : False).elim)
  refine W.widen (k := cells + 1) (n := slots + 6) (by omega) (by omega) ?_
  exact K (cb_fLaw S (xs (4 * k + 1)) (xs (4 * k + 2))).2 0 ov H locs (cb_ok_law hok) hI ls (lv_sub hl [0, 1, 2, 3, 4] rfl)
set_option maxHeartbeats 4000000 in
set_option maxRecDepth 100000 in
theorem case_gain {p : Program} {l : Launch} {e : Env} {s : State} {m : MethodId} {below : List Frame} {meth : Method} {c : Code} {Q : State → Prop} {D : va_G} {tc : Nat → ClassId} {g a : Nat → Nat} {o b L : Nat} {xs : Nat → Int32} {cells slots : Nat} (hfl : l.flags = flags0) (hx : p.tables.exec = Jvm.exec) (hb : c.code = code) (hml : c.maxLocals = 8) (hts : ∀ w ∈ lw_all, w.before #[Value.ref b] s = true) (hown : s.vm.findClass RX0 = some m.cls) (hX : va_X b L xs s s.heap) (hbl : b < s.heap.size) (hL : L ≤ 256) (hF : lw_F D tc g a o s) (hc : cells + 1 ≤ 872765) (hsl : slots + 6 ≤ 6434802) {k : Nat} (hk : 4 * k + 4 ≤ L) {S : cb_S} {th : Int32} {ov : Nat → Int64} (hok : cb_ok S) (K : ∀ (S : cb_S) (th : Int32) (ov : Nat → Int64) (H : Heap) (locs : List Loc), cb_ok S → lw_I D tc g a o s S S th ov H locs → ∀ ls : Array Slot, lv_has ls 8 [(4, .int (nI (4 * k))), (3, .ref o), (2, .ref (a 0)), (1, .ref (g 0)), (0, .ref b)] → W p l e room_1 s m #[Value.ref b] below meth c H locs (cells + 1) (slots + 6) Q (F0 m 556 ls [])) {H : Heap} {locs : List Loc} (hI : lw_I D tc g a o s S S th ov H locs) {ls : Array Slot} (hl : lv_has ls 8 [(4, .int (nI (4 * k))), (3, .ref o), (2, .ref (a 0)), (1, .ref (g 0)), (0, .ref b)]) : W p l e room_1 s m #[Value.ref b] below meth c H locs cells slots Q (F0 m 238 ls []) := by
  refine lv_aload_n hx hb dL_law_238 rfl (lv_at hl 3 rfl) ?_
  refine lv_aload_n hx hb dL_law_239 rfl (lv_at hl 4 rfl) ?_
  refine lv_iload hx hb dL_law_240 (lv_at hl 0 rfl) ?_
  refine lv_iconst (v := 1) hx hb dL_law_242 (by decide) ?_
  refine lv_iadd hx hb dL_law_243 ?_
  refine cb_top (y := nI (4 * k + 1)) (nI_add (4 * k) 1) ?_
  refine lw_sld hx hb hX hbl hL hI (4 * k + 1) (by omega) dL_law_244 ?_
  refine lv_aload_n hx hb dL_law_245 rfl (lv_at hl 4 rfl) ?_
  refine lv_iload hx hb dL_law_246 (lv_at hl 0 rfl) ?_
  refine lv_iconst (v := 2) hx hb dL_law_248 (by decide) ?_
  refine lv_iadd hx hb dL_law_249 ?_
  refine cb_top (y := nI (4 * k + 2)) (nI_add (4 * k) 2) ?_
  refine lw_sld hx hb hX hbl hL hI (4 * k + 2) (by omega) dL_law_250 ?_
  refine lw_callB hF hI (va_runV (As := [.int (xs (4 * k + 1)), .int (xs (4 * k + 2))]) (rest := []) ⟨hx, hb, hml, hown, hts⟩ (met_bGain l D tc g S (xs (4 * k + 1)) (xs (4 * k + 2))) (cwV 2 hts (lw_V q136 q137 q138 q3 q139) rfl rfl rfl (by decide +kernel) ⟨Nat.le_of_ble_eq_true rfl, Nat.le_of_ble_eq_true rfl⟩) (lw_preB hF hI) rfl rfl hl.1 rfl (lv_room (Nat.le_of_ble_eq_true rfl)) dL_law_251 ⟨by show _ ≤ 872765; omega, by show _ ≤ 6434802; omega⟩) (fun H locs hI => ?_)
  show W p l e room_1 s m #[Value.ref b] below meth c H locs cells slots Q (F0 m 254 ls [.int ((cb_fGain S (xs (4 * k + 1)) (xs (4 * k + 2))).1)])
  refine lv_aload_n hx hb dL_law_254 rfl (lv_at hl 2 rfl) ?_
  refine lv_aload_n hx hb dL_law_255 rfl (lv_at hl 4 rfl) ?_
  refine lv_iload hx hb dL_law_256 (lv_at hl 0 rfl) ?_
  refine lv_iconst (v := 1) hx hb dL_law_258 (by decide) ?_
  refine lv_iadd hx hb dL_law_259 ?_
  refine cb_top (y := nI (4 * k + 1)) (nI_add (4 * k) 1) ?_
  refine lw_sld hx hb hX hbl hL hI (4 * k + 1) (by omega) dL_law_260 ?_
  refine lv_aload_n hx hb dL_law_261 rfl (lv_at hl 4 rfl) ?_
  refine lv_iload hx hb dL_law_262 (lv_at hl 0 rfl) ?_
  refine lv_iconst (v := 2) hx hb dL_law_264 (by decide) ?_
  refine lv_iadd hx hb dL_law_265 ?_
  refine cb_top (y := nI (4 * k + 2)) (nI_add (4 * k) 2) ?_
  refine lw_sld hx hb hX hbl hL hI (4 * k + 2) (by omega) dL_law_266 ?_
  refine lw_callM hF hI (va_runV (As := [.int (xs (4 * k + 1)), .int (xs (4 * k + 2))]) (rest := [.int ((cb_fGain S (xs (4 * k + 1)) (xs (4 * k + 2))).1)]) ⟨hx, hb, hml, hown, hts⟩ (met_mGain l D tc a S th (xs (4 * k + 1)) (xs (4 * k + 2))) (cwV 2 hts (lw_V q325 q326 q327 q10 q328) rfl rfl rfl (by decide +kernel) ⟨Nat.le_of_ble_eq_true rfl, Nat.le_of_ble_eq_true rfl⟩) (lw_preM hF hI) rfl rfl hl.1 rfl (lv_room (Nat.le_of_ble_eq_true rfl)) dL_law_267 ⟨by show _ ≤ 872765; omega, by show _ ≤ 6434802; omega⟩) (fun H locs hI => ?_)
  show W p l e room_1 s m #[Value.ref b] below meth c H locs cells slots Q (F0 m 270 ls [.int ((cb_fGain S (xs (4 * k + 1)) (xs (4 * k + 2))).1), .int ((cb_fGain S (xs (4 * k + 1)) (xs (4 * k + 2))).1)])
  refine lv_icmp_eq (tgt := 556) hx hb dL_law_270 (by decide) (fun cz => ?_) (fun cz => (cz rfl : False).elim)
  refine W.widen (k := cells + 1) (n := slots + 6) (by omega) (by omega) ?_
  exact K (cb_fGain S (xs (4 * k + 1)) (xs (4 * k + 2))).2 0 ov H locs (cb_ok_gain hok) hI ls (lv_sub hl [0, 1, 2, 3, 4] rfl)
set_option maxHeartbeats 4000000 in
set_option maxRecDepth 100000 in
theorem case_mute {p : Program} {l : Launch} {e : Env} {s : State} {m : MethodId} {below : List Frame} {meth : Method} {c : Code} {Q : State → Prop} {D : va_G} {tc : Nat → ClassId} {g a : Nat → Nat} {o b L : Nat} {xs : Nat → Int32} {cells slots : Nat} (hfl : l.flags = flags0) (hx : p.tables.exec = Jvm.exec) (hb : c.code = code) (hml : c.maxLocals = 8) (hts : ∀ w ∈ lw_all, w.before #[Value.ref b] s = true) (hown : s.vm.findClass RX0 = some m.cls) (hX : va_X b L xs s s.heap) (hbl : b < s.heap.size) (hL : L ≤ 256) (hF : lw_F D tc g a o s) (hc : cells + 1 ≤ 872765) (hsl : slots + 6 ≤ 6434802) {k : Nat} (hk : 4 * k + 4 ≤ L) {S : cb_S} {th : Int32} {ov : Nat → Int64} (hok : cb_ok S) (K : ∀ (S : cb_S) (th : Int32) (ov : Nat → Int64) (H : Heap) (locs : List Loc), cb_ok S → lw_I D tc g a o s S S th ov H locs → ∀ ls : Array Slot, lv_has ls 8 [(4, .int (nI (4 * k))), (3, .ref o), (2, .ref (a 0)), (1, .ref (g 0)), (0, .ref b)] → W p l e room_1 s m #[Value.ref b] below meth c H locs (cells + 1) (slots + 6) Q (F0 m 556 ls [])) {H : Heap} {locs : List Loc} (hI : lw_I D tc g a o s S S th ov H locs) {ls : Array Slot} (hl : lv_has ls 8 [(4, .int (nI (4 * k))), (3, .ref o), (2, .ref (a 0)), (1, .ref (g 0)), (0, .ref b)]) : W p l e room_1 s m #[Value.ref b] below meth c H locs cells slots Q (F0 m 275 ls []) := by
  by_cases h0 : (xs (4 * k + 2)) = 0
  · refine lv_aload_n hx hb dL_law_275 rfl (lv_at hl 3 rfl) ?_
    refine lv_aload_n hx hb dL_law_276 rfl (lv_at hl 4 rfl) ?_
    refine lv_iload hx hb dL_law_277 (lv_at hl 0 rfl) ?_
    refine lv_iconst (v := 1) hx hb dL_law_279 (by decide) ?_
    refine lv_iadd hx hb dL_law_280 ?_
    refine cb_top (y := nI (4 * k + 1)) (nI_add (4 * k) 1) ?_
    refine lw_sld hx hb hX hbl hL hI (4 * k + 1) (by omega) dL_law_281 ?_
    refine lv_aload_n hx hb dL_law_282 rfl (lv_at hl 4 rfl) ?_
    refine lv_iload hx hb dL_law_283 (lv_at hl 0 rfl) ?_
    refine lv_iconst (v := 2) hx hb dL_law_285 (by decide) ?_
    refine lv_iadd hx hb dL_law_286 ?_
    refine cb_top (y := nI (4 * k + 2)) (nI_add (4 * k) 2) ?_
    refine lw_sld hx hb hX hbl hL hI (4 * k + 2) (by omega) dL_law_287 ?_
    refine lv_if_eq (tgt := 295) hx hb dL_law_288 (by decide) (fun cz => ?_) (fun cz => (cz h0 : False).elim)
    refine lv_iconst (v := 0) hx hb dL_law_295 (by decide) ?_
    refine lw_callB hF hI (va_runV (As := [.int (xs (4 * k + 1)), .int 0]) (rest := []) ⟨hx, hb, hml, hown, hts⟩ (met_bMute l D tc g S (xs (4 * k + 1)) 0 (Or.inl rfl)) (cwV 2 hts (lw_V q140 q141 q142 q3 q143) rfl rfl rfl (by decide +kernel) ⟨Nat.le_of_ble_eq_true rfl, Nat.le_of_ble_eq_true rfl⟩) (lw_preB hF hI) rfl rfl hl.1 rfl (lv_room (Nat.le_of_ble_eq_true rfl)) dL_law_296 ⟨by show _ ≤ 872765; omega, by show _ ≤ 6434802; omega⟩) (fun H locs hI => ?_)
    show W p l e room_1 s m #[Value.ref b] below meth c H locs cells slots Q (F0 m 299 ls [.int ((cb_fMute S (xs (4 * k + 1)) 0).1)])
    refine lv_aload_n hx hb dL_law_299 rfl (lv_at hl 2 rfl) ?_
    refine lv_aload_n hx hb dL_law_300 rfl (lv_at hl 4 rfl) ?_
    refine lv_iload hx hb dL_law_301 (lv_at hl 0 rfl) ?_
    refine lv_iconst (v := 1) hx hb dL_law_303 (by decide) ?_
    refine lv_iadd hx hb dL_law_304 ?_
    refine cb_top (y := nI (4 * k + 1)) (nI_add (4 * k) 1) ?_
    refine lw_sld hx hb hX hbl hL hI (4 * k + 1) (by omega) dL_law_305 ?_
    refine lv_aload_n hx hb dL_law_306 rfl (lv_at hl 4 rfl) ?_
    refine lv_iload hx hb dL_law_307 (lv_at hl 0 rfl) ?_
    refine lv_iconst (v := 2) hx hb dL_law_309 (by decide) ?_
    refine lv_iadd hx hb dL_law_310 ?_
    refine cb_top (y := nI (4 * k + 2)) (nI_add (4 * k) 2) ?_
    refine lw_sld hx hb hX hbl hL hI (4 * k + 2) (by omega) dL_law_311 ?_
    refine lv_if_eq (tgt := 319) hx hb dL_law_312 (by decide) (fun cz => ?_) (fun cz => (cz h0 : False).elim)
    refine lv_iconst (v := 0) hx hb dL_law_319 (by decide) ?_
    refine lw_callM hF hI (va_runV (As := [.int (xs (4 * k + 1)), .int 0]) (rest := [.int ((cb_fMute S (xs (4 * k + 1)) 0).1)]) ⟨hx, hb, hml, hown, hts⟩ (met_mMute l D tc a S th (xs (4 * k + 1)) 0 (Or.inl rfl)) (cwV 2 hts (lw_V q329 q330 q331 q10 q332) rfl rfl rfl (by decide +kernel) ⟨Nat.le_of_ble_eq_true rfl, Nat.le_of_ble_eq_true rfl⟩) (lw_preM hF hI) rfl rfl hl.1 rfl (lv_room (Nat.le_of_ble_eq_true rfl)) dL_law_320 ⟨by show _ ≤ 872765; omega, by show _ ≤ 6434802; omega⟩) (fun H locs hI => ?_)
    show W p l e room_1 s m #[Value.ref b] below meth c H locs cells slots Q (F0 m 323 ls [.int ((cb_fMute S (xs (4 * k + 1)) 0).1), .int ((cb_fMute S (xs (4 * k + 1)) 0).1)])
    refine lv_icmp_eq (tgt := 556) hx hb dL_law_323 (by decide) (fun cz => ?_) (fun cz => (cz rfl : False).elim)
    refine W.widen (k := cells + 1) (n := slots + 6) (by omega) (by omega) ?_
    exact K (cb_fMute S (xs (4 * k + 1)) 0).2 0 ov H locs (cb_ok_mute hok (Or.inl rfl)) hI ls (lv_sub hl [0, 1, 2, 3, 4] rfl)
  · refine lv_aload_n hx hb dL_law_275 rfl (lv_at hl 3 rfl) ?_
    refine lv_aload_n hx hb dL_law_276 rfl (lv_at hl 4 rfl) ?_
    refine lv_iload hx hb dL_law_277 (lv_at hl 0 rfl) ?_
    refine lv_iconst (v := 1) hx hb dL_law_279 (by decide) ?_
    refine lv_iadd hx hb dL_law_280 ?_
    refine cb_top (y := nI (4 * k + 1)) (nI_add (4 * k) 1) ?_
    refine lw_sld hx hb hX hbl hL hI (4 * k + 1) (by omega) dL_law_281 ?_
    refine lv_aload_n hx hb dL_law_282 rfl (lv_at hl 4 rfl) ?_
    refine lv_iload hx hb dL_law_283 (lv_at hl 0 rfl) ?_
    refine lv_iconst (v := 2) hx hb dL_law_285 (by decide) ?_
    refine lv_iadd hx hb dL_law_286 ?_
    refine cb_top (y := nI (4 * k + 2)) (nI_add (4 * k) 2) ?_
    refine lw_sld hx hb hX hbl hL hI (4 * k + 2) (by omega) dL_law_287 ?_
    refine lv_if_eq (tgt := 295) hx hb dL_law_288 (by decide) (fun cz => (h0 cz : False).elim) (fun cz => ?_)
    refine lv_iconst (v := 1) hx hb dL_law_291 (by decide) ?_
    refine lv_goto (tgt := 296) hx hb dL_law_292 (by decide) ?_
    refine lw_callB hF hI (va_runV (As := [.int (xs (4 * k + 1)), .int 1]) (rest := []) ⟨hx, hb, hml, hown, hts⟩ (met_bMute l D tc g S (xs (4 * k + 1)) 1 (Or.inr rfl)) (cwV 2 hts (lw_V q140 q141 q142 q3 q143) rfl rfl rfl (by decide +kernel) ⟨Nat.le_of_ble_eq_true rfl, Nat.le_of_ble_eq_true rfl⟩) (lw_preB hF hI) rfl rfl hl.1 rfl (lv_room (Nat.le_of_ble_eq_true rfl)) dL_law_296 ⟨by show _ ≤ 872765; omega, by show _ ≤ 6434802; omega⟩) (fun H locs hI => ?_)
    show W p l e room_1 s m #[Value.ref b] below meth c H locs cells slots Q (F0 m 299 ls [.int ((cb_fMute S (xs (4 * k + 1)) 1).1)])
    refine lv_aload_n hx hb dL_law_299 rfl (lv_at hl 2 rfl) ?_
    refine lv_aload_n hx hb dL_law_300 rfl (lv_at hl 4 rfl) ?_
    refine lv_iload hx hb dL_law_301 (lv_at hl 0 rfl) ?_
    refine lv_iconst (v := 1) hx hb dL_law_303 (by decide) ?_
    refine lv_iadd hx hb dL_law_304 ?_
    refine cb_top (y := nI (4 * k + 1)) (nI_add (4 * k) 1) ?_
    refine lw_sld hx hb hX hbl hL hI (4 * k + 1) (by omega) dL_law_305 ?_
    refine lv_aload_n hx hb dL_law_306 rfl (lv_at hl 4 rfl) ?_
    refine lv_iload hx hb dL_law_307 (lv_at hl 0 rfl) ?_
    refine lv_iconst (v := 2) hx hb dL_law_309 (by decide) ?_
    refine lv_iadd hx hb dL_law_310 ?_
    refine cb_top (y := nI (4 * k + 2)) (nI_add (4 * k) 2) ?_
    refine lw_sld hx hb hX hbl hL hI (4 * k + 2) (by omega) dL_law_311 ?_
    refine lv_if_eq (tgt := 319) hx hb dL_law_312 (by decide) (fun cz => (h0 cz : False).elim) (fun cz => ?_)
    refine lv_iconst (v := 1) hx hb dL_law_315 (by decide) ?_
    refine lv_goto (tgt := 320) hx hb dL_law_316 (by decide) ?_
    refine lw_callM hF hI (va_runV (As := [.int (xs (4 * k + 1)), .int 1]) (rest := [.int ((cb_fMute S (xs (4 * k + 1)) 1).1)]) ⟨hx, hb, hml, hown, hts⟩ (met_mMute l D tc a S th (xs (4 * k + 1)) 1 (Or.inr rfl)) (cwV 2 hts (lw_V q329 q330 q331 q10 q332) rfl rfl rfl (by decide +kernel) ⟨Nat.le_of_ble_eq_true rfl, Nat.le_of_ble_eq_true rfl⟩) (lw_preM hF hI) rfl rfl hl.1 rfl (lv_room (Nat.le_of_ble_eq_true rfl)) dL_law_320 ⟨by show _ ≤ 872765; omega, by show _ ≤ 6434802; omega⟩) (fun H locs hI => ?_)
    show W p l e room_1 s m #[Value.ref b] below meth c H locs cells slots Q (F0 m 323 ls [.int ((cb_fMute S (xs (4 * k + 1)) 1).1), .int ((cb_fMute S (xs (4 * k + 1)) 1).1)])
    refine lv_icmp_eq (tgt := 556) hx hb dL_law_323 (by decide) (fun cz => ?_) (fun cz => (cz rfl : False).elim)
    refine W.widen (k := cells + 1) (n := slots + 6) (by omega) (by omega) ?_
    exact K (cb_fMute S (xs (4 * k + 1)) 1).2 0 ov H locs (cb_ok_mute hok (Or.inr rfl)) hI ls (lv_sub hl [0, 1, 2, 3, 4] rfl)
set_option maxHeartbeats 4000000 in
set_option maxRecDepth 100000 in
theorem case_spk {p : Program} {l : Launch} {e : Env} {s : State} {m : MethodId} {below : List Frame} {meth : Method} {c : Code} {Q : State → Prop} {D : va_G} {tc : Nat → ClassId} {g a : Nat → Nat} {o b L : Nat} {xs : Nat → Int32} {cells slots : Nat} (hfl : l.flags = flags0) (hx : p.tables.exec = Jvm.exec) (hb : c.code = code) (hml : c.maxLocals = 8) (hts : ∀ w ∈ lw_all, w.before #[Value.ref b] s = true) (hown : s.vm.findClass RX0 = some m.cls) (hX : va_X b L xs s s.heap) (hbl : b < s.heap.size) (hL : L ≤ 256) (hF : lw_F D tc g a o s) (hc : cells + 1 ≤ 872765) (hsl : slots + 6 ≤ 6434802) {k : Nat} (hk : 4 * k + 4 ≤ L) {S : cb_S} {th : Int32} {ov : Nat → Int64} (hok : cb_ok S) (K : ∀ (S : cb_S) (th : Int32) (ov : Nat → Int64) (H : Heap) (locs : List Loc), cb_ok S → lw_I D tc g a o s S S th ov H locs → ∀ ls : Array Slot, lv_has ls 8 [(4, .int (nI (4 * k))), (3, .ref o), (2, .ref (a 0)), (1, .ref (g 0)), (0, .ref b)] → W p l e room_1 s m #[Value.ref b] below meth c H locs (cells + 1) (slots + 6) Q (F0 m 556 ls [])) {H : Heap} {locs : List Loc} (hI : lw_I D tc g a o s S S th ov H locs) {ls : Array Slot} (hl : lv_has ls 8 [(4, .int (nI (4 * k))), (3, .ref o), (2, .ref (a 0)), (1, .ref (g 0)), (0, .ref b)]) : W p l e room_1 s m #[Value.ref b] below meth c H locs cells slots Q (F0 m 328 ls []) := by
  refine lv_aload_n hx hb dL_law_328 rfl (lv_at hl 3 rfl) ?_
  refine lv_aload_n hx hb dL_law_329 rfl (lv_at hl 4 rfl) ?_
  refine lv_iload hx hb dL_law_330 (lv_at hl 0 rfl) ?_
  refine lv_iconst (v := 1) hx hb dL_law_332 (by decide) ?_
  refine lv_iadd hx hb dL_law_333 ?_
  refine cb_top (y := nI (4 * k + 1)) (nI_add (4 * k) 1) ?_
  refine lw_sld hx hb hX hbl hL hI (4 * k + 1) (by omega) dL_law_334 ?_
  refine lw_callB hF hI (va_runV (As := [.int (xs (4 * k + 1))]) (rest := []) ⟨hx, hb, hml, hown, hts⟩ (met_bSpk l D tc g S (xs (4 * k + 1))) (cwV 1 hts (lw_V q144 q145 q146 q3 q147) rfl rfl rfl (by decide +kernel) ⟨Nat.le_of_ble_eq_true rfl, Nat.le_of_ble_eq_true rfl⟩) (lw_preB hF hI) rfl rfl hl.1 rfl (lv_room (Nat.le_of_ble_eq_true rfl)) dL_law_335 ⟨by show _ ≤ 872765; omega, by show _ ≤ 6434802; omega⟩) (fun H locs hI => ?_)
  show W p l e room_1 s m #[Value.ref b] below meth c H locs cells slots Q (F0 m 338 ls [.int ((cb_fSpk S (xs (4 * k + 1))).1)])
  refine lv_aload_n hx hb dL_law_338 rfl (lv_at hl 2 rfl) ?_
  refine lv_aload_n hx hb dL_law_339 rfl (lv_at hl 4 rfl) ?_
  refine lv_iload hx hb dL_law_340 (lv_at hl 0 rfl) ?_
  refine lv_iconst (v := 1) hx hb dL_law_342 (by decide) ?_
  refine lv_iadd hx hb dL_law_343 ?_
  refine cb_top (y := nI (4 * k + 1)) (nI_add (4 * k) 1) ?_
  refine lw_sld hx hb hX hbl hL hI (4 * k + 1) (by omega) dL_law_344 ?_
  refine lw_callM hF hI (va_runV (As := [.int (xs (4 * k + 1))]) (rest := [.int ((cb_fSpk S (xs (4 * k + 1))).1)]) ⟨hx, hb, hml, hown, hts⟩ (met_mSpk l D tc a S th (xs (4 * k + 1))) (cwV 1 hts (lw_V q333 q334 q335 q10 q336) rfl rfl rfl (by decide +kernel) ⟨Nat.le_of_ble_eq_true rfl, Nat.le_of_ble_eq_true rfl⟩) (lw_preM hF hI) rfl rfl hl.1 rfl (lv_room (Nat.le_of_ble_eq_true rfl)) dL_law_345 ⟨by show _ ≤ 872765; omega, by show _ ≤ 6434802; omega⟩) (fun H locs hI => ?_)
  show W p l e room_1 s m #[Value.ref b] below meth c H locs cells slots Q (F0 m 348 ls [.int ((cb_fSpk S (xs (4 * k + 1))).1), .int ((cb_fSpk S (xs (4 * k + 1))).1)])
  refine lv_icmp_eq (tgt := 556) hx hb dL_law_348 (by decide) (fun cz => ?_) (fun cz => (cz rfl : False).elim)
  refine W.widen (k := cells + 1) (n := slots + 6) (by omega) (by omega) ?_
  exact K (cb_fSpk S (xs (4 * k + 1))).2 0 ov H locs (cb_ok_spk hok) hI ls (lv_sub hl [0, 1, 2, 3, 4] rfl)
set_option maxHeartbeats 4000000 in
set_option maxRecDepth 100000 in
theorem case_put {p : Program} {l : Launch} {e : Env} {s : State} {m : MethodId} {below : List Frame} {meth : Method} {c : Code} {Q : State → Prop} {D : va_G} {tc : Nat → ClassId} {g a : Nat → Nat} {o b L : Nat} {xs : Nat → Int32} {cells slots : Nat} (hfl : l.flags = flags0) (hx : p.tables.exec = Jvm.exec) (hb : c.code = code) (hml : c.maxLocals = 8) (hts : ∀ w ∈ lw_all, w.before #[Value.ref b] s = true) (hown : s.vm.findClass RX0 = some m.cls) (hX : va_X b L xs s s.heap) (hbl : b < s.heap.size) (hL : L ≤ 256) (hF : lw_F D tc g a o s) (hc : cells + 1 ≤ 872765) (hsl : slots + 6 ≤ 6434802) {k : Nat} (hk : 4 * k + 4 ≤ L) {S : cb_S} {th : Int32} {ov : Nat → Int64} (hok : cb_ok S) (K : ∀ (S : cb_S) (th : Int32) (ov : Nat → Int64) (H : Heap) (locs : List Loc), cb_ok S → lw_I D tc g a o s S S th ov H locs → ∀ ls : Array Slot, lv_has ls 8 [(4, .int (nI (4 * k))), (3, .ref o), (2, .ref (a 0)), (1, .ref (g 0)), (0, .ref b)] → W p l e room_1 s m #[Value.ref b] below meth c H locs (cells + 1) (slots + 6) Q (F0 m 556 ls [])) {H : Heap} {locs : List Loc} (hI : lw_I D tc g a o s S S th ov H locs) {ls : Array Slot} (hl : lv_has ls 8 [(4, .int (nI (4 * k))), (3, .ref o), (2, .ref (a 0)), (1, .ref (g 0)), (0, .ref b)]) : W p l e room_1 s m #[Value.ref b] below meth c H locs cells slots Q (F0 m 353 ls []) := by
  refine lv_aload_n hx hb dL_law_353 rfl (lv_at hl 3 rfl) ?_
  refine lv_aload_n hx hb dL_law_354 rfl (lv_at hl 4 rfl) ?_
  refine lv_iload hx hb dL_law_355 (lv_at hl 0 rfl) ?_
  refine lv_iconst (v := 1) hx hb dL_law_357 (by decide) ?_
  refine lv_iadd hx hb dL_law_358 ?_
  refine cb_top (y := nI (4 * k + 1)) (nI_add (4 * k) 1) ?_
  refine lw_sld hx hb hX hbl hL hI (4 * k + 1) (by omega) dL_law_359 ?_
  refine lv_aload_n hx hb dL_law_360 rfl (lv_at hl 4 rfl) ?_
  refine lv_iload hx hb dL_law_361 (lv_at hl 0 rfl) ?_
  refine lv_iconst (v := 2) hx hb dL_law_363 (by decide) ?_
  refine lv_iadd hx hb dL_law_364 ?_
  refine cb_top (y := nI (4 * k + 2)) (nI_add (4 * k) 2) ?_
  refine lw_sld hx hb hX hbl hL hI (4 * k + 2) (by omega) dL_law_365 ?_
  refine lv_aload_n hx hb dL_law_366 rfl (lv_at hl 4 rfl) ?_
  refine lv_iload hx hb dL_law_367 (lv_at hl 0 rfl) ?_
  refine lv_iconst (v := 3) hx hb dL_law_369 (by decide) ?_
  refine lv_iadd hx hb dL_law_370 ?_
  refine cb_top (y := nI (4 * k + 3)) (nI_add (4 * k) 3) ?_
  refine lw_sld hx hb hX hbl hL hI (4 * k + 3) (by omega) dL_law_371 ?_
  refine lw_callB hF hI (va_runV (As := [.int (xs (4 * k + 1)), .int (xs (4 * k + 2)), .int (xs (4 * k + 3))]) (rest := []) ⟨hx, hb, hml, hown, hts⟩ (met_bPut l D tc g S (xs (4 * k + 1)) (xs (4 * k + 2)) (xs (4 * k + 3))) (cwV 3 hts (lw_V q148 q149 q150 q3 q151) rfl rfl rfl (by decide +kernel) ⟨Nat.le_of_ble_eq_true rfl, Nat.le_of_ble_eq_true rfl⟩) (lw_preB hF hI) rfl rfl hl.1 rfl (lv_room (Nat.le_of_ble_eq_true rfl)) dL_law_372 ⟨by show _ ≤ 872765; omega, by show _ ≤ 6434802; omega⟩) (fun H locs hI => ?_)
  show W p l e room_1 s m #[Value.ref b] below meth c H locs cells slots Q (F0 m 375 ls [.int ((cb_fPut S (xs (4 * k + 1)) (xs (4 * k + 2)) (xs (4 * k + 3))).1)])
  refine lv_aload_n hx hb dL_law_375 rfl (lv_at hl 2 rfl) ?_
  refine lv_aload_n hx hb dL_law_376 rfl (lv_at hl 4 rfl) ?_
  refine lv_iload hx hb dL_law_377 (lv_at hl 0 rfl) ?_
  refine lv_iconst (v := 1) hx hb dL_law_379 (by decide) ?_
  refine lv_iadd hx hb dL_law_380 ?_
  refine cb_top (y := nI (4 * k + 1)) (nI_add (4 * k) 1) ?_
  refine lw_sld hx hb hX hbl hL hI (4 * k + 1) (by omega) dL_law_381 ?_
  refine lv_aload_n hx hb dL_law_382 rfl (lv_at hl 4 rfl) ?_
  refine lv_iload hx hb dL_law_383 (lv_at hl 0 rfl) ?_
  refine lv_iconst (v := 2) hx hb dL_law_385 (by decide) ?_
  refine lv_iadd hx hb dL_law_386 ?_
  refine cb_top (y := nI (4 * k + 2)) (nI_add (4 * k) 2) ?_
  refine lw_sld hx hb hX hbl hL hI (4 * k + 2) (by omega) dL_law_387 ?_
  refine lv_aload_n hx hb dL_law_388 rfl (lv_at hl 4 rfl) ?_
  refine lv_iload hx hb dL_law_389 (lv_at hl 0 rfl) ?_
  refine lv_iconst (v := 3) hx hb dL_law_391 (by decide) ?_
  refine lv_iadd hx hb dL_law_392 ?_
  refine cb_top (y := nI (4 * k + 3)) (nI_add (4 * k) 3) ?_
  refine lw_sld hx hb hX hbl hL hI (4 * k + 3) (by omega) dL_law_393 ?_
  refine lw_callM hF hI (va_runV (As := [.int (xs (4 * k + 1)), .int (xs (4 * k + 2)), .int (xs (4 * k + 3))]) (rest := [.int ((cb_fPut S (xs (4 * k + 1)) (xs (4 * k + 2)) (xs (4 * k + 3))).1)]) ⟨hx, hb, hml, hown, hts⟩ (met_mPut l D tc a S th (xs (4 * k + 1)) (xs (4 * k + 2)) (xs (4 * k + 3))) (cwV 3 hts (lw_V q337 q338 q339 q10 q340) rfl rfl rfl (by decide +kernel) ⟨Nat.le_of_ble_eq_true rfl, Nat.le_of_ble_eq_true rfl⟩) (lw_preM hF hI) rfl rfl hl.1 rfl (lv_room (Nat.le_of_ble_eq_true rfl)) dL_law_394 ⟨by show _ ≤ 872765; omega, by show _ ≤ 6434802; omega⟩) (fun H locs hI => ?_)
  show W p l e room_1 s m #[Value.ref b] below meth c H locs cells slots Q (F0 m 397 ls [.int ((cb_fPut S (xs (4 * k + 1)) (xs (4 * k + 2)) (xs (4 * k + 3))).1), .int ((cb_fPut S (xs (4 * k + 1)) (xs (4 * k + 2)) (xs (4 * k + 3))).1)])
  refine lv_icmp_eq (tgt := 556) hx hb dL_law_397 (by decide) (fun cz => ?_) (fun cz => (cz rfl : False).elim)
  refine W.widen (k := cells + 1) (n := slots + 6) (by omega) (by omega) ?_
  exact K (cb_fPut S (xs (4 * k + 1)) (xs (4 * k + 2)) (xs (4 * k + 3))).2 0 ov H locs (cb_ok_put hok) hI ls (lv_sub hl [0, 1, 2, 3, 4] rfl)
set_option maxHeartbeats 4000000 in
set_option maxRecDepth 100000 in
theorem case_ramp {p : Program} {l : Launch} {e : Env} {s : State} {m : MethodId} {below : List Frame} {meth : Method} {c : Code} {Q : State → Prop} {D : va_G} {tc : Nat → ClassId} {g a : Nat → Nat} {o b L : Nat} {xs : Nat → Int32} {cells slots : Nat} (hfl : l.flags = flags0) (hx : p.tables.exec = Jvm.exec) (hb : c.code = code) (hml : c.maxLocals = 8) (hts : ∀ w ∈ lw_all, w.before #[Value.ref b] s = true) (hown : s.vm.findClass RX0 = some m.cls) (hX : va_X b L xs s s.heap) (hbl : b < s.heap.size) (hL : L ≤ 256) (hF : lw_F D tc g a o s) (hc : cells + 1 ≤ 872765) (hsl : slots + 6 ≤ 6434802) {k : Nat} (hk : 4 * k + 4 ≤ L) {S : cb_S} {th : Int32} {ov : Nat → Int64} (hok : cb_ok S) (K : ∀ (S : cb_S) (th : Int32) (ov : Nat → Int64) (H : Heap) (locs : List Loc), cb_ok S → lw_I D tc g a o s S S th ov H locs → ∀ ls : Array Slot, lv_has ls 8 [(4, .int (nI (4 * k))), (3, .ref o), (2, .ref (a 0)), (1, .ref (g 0)), (0, .ref b)] → W p l e room_1 s m #[Value.ref b] below meth c H locs (cells + 1) (slots + 6) Q (F0 m 556 ls [])) {H : Heap} {locs : List Loc} (hI : lw_I D tc g a o s S S th ov H locs) {ls : Array Slot} (hl : lv_has ls 8 [(4, .int (nI (4 * k))), (3, .ref o), (2, .ref (a 0)), (1, .ref (g 0)), (0, .ref b)]) : W p l e room_1 s m #[Value.ref b] below meth c H locs cells slots Q (F0 m 402 ls []) := by
  refine lv_aload_n hx hb dL_law_402 rfl (lv_at hl 3 rfl) ?_
  refine lv_aload_n hx hb dL_law_403 rfl (lv_at hl 4 rfl) ?_
  refine lv_iload hx hb dL_law_404 (lv_at hl 0 rfl) ?_
  refine lv_iconst (v := 1) hx hb dL_law_406 (by decide) ?_
  refine lv_iadd hx hb dL_law_407 ?_
  refine cb_top (y := nI (4 * k + 1)) (nI_add (4 * k) 1) ?_
  refine lw_sld hx hb hX hbl hL hI (4 * k + 1) (by omega) dL_law_408 ?_
  refine lv_aload_n hx hb dL_law_409 rfl (lv_at hl 4 rfl) ?_
  refine lv_iload hx hb dL_law_410 (lv_at hl 0 rfl) ?_
  refine lv_iconst (v := 2) hx hb dL_law_412 (by decide) ?_
  refine lv_iadd hx hb dL_law_413 ?_
  refine cb_top (y := nI (4 * k + 2)) (nI_add (4 * k) 2) ?_
  refine lw_sld hx hb hX hbl hL hI (4 * k + 2) (by omega) dL_law_414 ?_
  refine lv_aload_n hx hb dL_law_415 rfl (lv_at hl 4 rfl) ?_
  refine lv_iload hx hb dL_law_416 (lv_at hl 0 rfl) ?_
  refine lv_iconst (v := 3) hx hb dL_law_418 (by decide) ?_
  refine lv_iadd hx hb dL_law_419 ?_
  refine cb_top (y := nI (4 * k + 3)) (nI_add (4 * k) 3) ?_
  refine lw_sld hx hb hX hbl hL hI (4 * k + 3) (by omega) dL_law_420 ?_
  refine lw_callB hF hI (va_runV (As := [.int (xs (4 * k + 1)), .int (xs (4 * k + 2)), .int (xs (4 * k + 3))]) (rest := []) ⟨hx, hb, hml, hown, hts⟩ (met_bRamp l D tc g S (xs (4 * k + 1)) (xs (4 * k + 2)) (xs (4 * k + 3)) (fun j hj => (hok.1 j hj).1)) (cwV 3 hts (lw_V q152 q153 q154 q3 q155) rfl rfl rfl (by decide +kernel) ⟨Nat.le_of_ble_eq_true rfl, Nat.le_of_ble_eq_true rfl⟩) (lw_preB hF hI) rfl rfl hl.1 rfl (lv_room (Nat.le_of_ble_eq_true rfl)) dL_law_421 ⟨by show _ ≤ 872765; omega, by show _ ≤ 6434802; omega⟩) (fun H locs hI => ?_)
  show W p l e room_1 s m #[Value.ref b] below meth c H locs cells slots Q (F0 m 424 ls [.int ((cb_fRamp S (xs (4 * k + 1)) (xs (4 * k + 2)) (xs (4 * k + 3))).1)])
  refine lv_aload_n hx hb dL_law_424 rfl (lv_at hl 2 rfl) ?_
  refine lv_aload_n hx hb dL_law_425 rfl (lv_at hl 4 rfl) ?_
  refine lv_iload hx hb dL_law_426 (lv_at hl 0 rfl) ?_
  refine lv_iconst (v := 1) hx hb dL_law_428 (by decide) ?_
  refine lv_iadd hx hb dL_law_429 ?_
  refine cb_top (y := nI (4 * k + 1)) (nI_add (4 * k) 1) ?_
  refine lw_sld hx hb hX hbl hL hI (4 * k + 1) (by omega) dL_law_430 ?_
  refine lv_aload_n hx hb dL_law_431 rfl (lv_at hl 4 rfl) ?_
  refine lv_iload hx hb dL_law_432 (lv_at hl 0 rfl) ?_
  refine lv_iconst (v := 2) hx hb dL_law_434 (by decide) ?_
  refine lv_iadd hx hb dL_law_435 ?_
  refine cb_top (y := nI (4 * k + 2)) (nI_add (4 * k) 2) ?_
  refine lw_sld hx hb hX hbl hL hI (4 * k + 2) (by omega) dL_law_436 ?_
  refine lv_aload_n hx hb dL_law_437 rfl (lv_at hl 4 rfl) ?_
  refine lv_iload hx hb dL_law_438 (lv_at hl 0 rfl) ?_
  refine lv_iconst (v := 3) hx hb dL_law_440 (by decide) ?_
  refine lv_iadd hx hb dL_law_441 ?_
  refine cb_top (y := nI (4 * k + 3)) (nI_add (4 * k) 3) ?_
  refine lw_sld hx hb hX hbl hL hI (4 * k + 3) (by omega) dL_law_442 ?_
  refine lw_callM hF hI (va_runV (As := [.int (xs (4 * k + 1)), .int (xs (4 * k + 2)), .int (xs (4 * k + 3))]) (rest := [.int ((cb_fRamp S (xs (4 * k + 1)) (xs (4 * k + 2)) (xs (4 * k + 3))).1)]) ⟨hx, hb, hml, hown, hts⟩ (met_mRamp l D tc a S th (xs (4 * k + 1)) (xs (4 * k + 2)) (xs (4 * k + 3)) (fun j hj => (hok.1 j hj).1)) (cwV 3 hts (lw_V q341 q342 q343 q10 q344) rfl rfl rfl (by decide +kernel) ⟨Nat.le_of_ble_eq_true rfl, Nat.le_of_ble_eq_true rfl⟩) (lw_preM hF hI) rfl rfl hl.1 rfl (lv_room (Nat.le_of_ble_eq_true rfl)) dL_law_443 ⟨by show _ ≤ 872765; omega, by show _ ≤ 6434802; omega⟩) (fun H locs hI => ?_)
  show W p l e room_1 s m #[Value.ref b] below meth c H locs cells slots Q (F0 m 446 ls [.int ((cb_fRamp S (xs (4 * k + 1)) (xs (4 * k + 2)) (xs (4 * k + 3))).1), .int ((cb_fRamp S (xs (4 * k + 1)) (xs (4 * k + 2)) (xs (4 * k + 3))).1)])
  refine lv_icmp_eq (tgt := 556) hx hb dL_law_446 (by decide) (fun cz => ?_) (fun cz => (cz rfl : False).elim)
  refine W.widen (k := cells + 1) (n := slots + 6) (by omega) (by omega) ?_
  exact K (cb_fRamp S (xs (4 * k + 1)) (xs (4 * k + 2)) (xs (4 * k + 3))).2 0 ov H locs (cb_ok_ramp hok) hI ls (lv_sub hl [0, 1, 2, 3, 4] rfl)
set_option maxHeartbeats 4000000 in
set_option maxRecDepth 100000 in
theorem case_mix {p : Program} {l : Launch} {e : Env} {s : State} {m : MethodId} {below : List Frame} {meth : Method} {c : Code} {Q : State → Prop} {D : va_G} {tc : Nat → ClassId} {g a : Nat → Nat} {o b L : Nat} {xs : Nat → Int32} {cells slots : Nat} (hfl : l.flags = flags0) (hx : p.tables.exec = Jvm.exec) (hb : c.code = code) (hml : c.maxLocals = 8) (hts : ∀ w ∈ lw_all, w.before #[Value.ref b] s = true) (hown : s.vm.findClass RX0 = some m.cls) (hX : va_X b L xs s s.heap) (hbl : b < s.heap.size) (hL : L ≤ 256) (hF : lw_F D tc g a o s) (hc : cells + 1 ≤ 872765) (hsl : slots + 6 ≤ 6434802) {k : Nat} (hk : 4 * k + 4 ≤ L) {S : cb_S} {th : Int32} {ov : Nat → Int64} (hok : cb_ok S) (K : ∀ (S : cb_S) (th : Int32) (ov : Nat → Int64) (H : Heap) (locs : List Loc), cb_ok S → lw_I D tc g a o s S S th ov H locs → ∀ ls : Array Slot, lv_has ls 8 [(4, .int (nI (4 * k))), (3, .ref o), (2, .ref (a 0)), (1, .ref (g 0)), (0, .ref b)] → W p l e room_1 s m #[Value.ref b] below meth c H locs (cells + 1) (slots + 6) Q (F0 m 556 ls [])) {H : Heap} {locs : List Loc} (hI : lw_I D tc g a o s S S th ov H locs) {ls : Array Slot} (hl : lv_has ls 8 [(4, .int (nI (4 * k))), (3, .ref o), (2, .ref (a 0)), (1, .ref (g 0)), (0, .ref b)]) : W p l e room_1 s m #[Value.ref b] below meth c H locs cells slots Q (F0 m 451 ls []) := by
  refine lv_aload_n hx hb dL_law_451 rfl (lv_at hl 3 rfl) ?_
  refine lw_callB hF hI (va_runV (As := []) (rest := []) ⟨hx, hb, hml, hown, hts⟩ (met_bMix l D tc g S hok) (cwV 0 hts (lw_V q156 q157 q158 q3 q159) rfl rfl rfl (by decide +kernel) ⟨Nat.le_of_ble_eq_true rfl, Nat.le_of_ble_eq_true rfl⟩) (lw_preB hF hI) rfl rfl hl.1 rfl (lv_room (Nat.le_of_ble_eq_true rfl)) dL_law_452 ⟨by show _ ≤ 872765; omega, by show _ ≤ 6434802; omega⟩) (fun H locs hI => ?_)
  show W p l e room_1 s m #[Value.ref b] below meth c H locs cells slots Q (F0 m 455 ls [.int (cb_mixR S)])
  refine lv_aload_n hx hb dL_law_455 rfl (lv_at hl 2 rfl) ?_
  refine lw_callM hF hI (va_runV (As := []) (rest := [.int (cb_mixR S)]) ⟨hx, hb, hml, hown, hts⟩ (met_mMix l D tc a S th hok) (cwV 0 hts (lw_V q345 q346 q347 q10 q348) rfl rfl rfl (by decide +kernel) ⟨Nat.le_of_ble_eq_true rfl, Nat.le_of_ble_eq_true rfl⟩) (lw_preM hF hI) rfl rfl hl.1 rfl (lv_room (Nat.le_of_ble_eq_true rfl)) dL_law_456 ⟨by show _ ≤ 872765; omega, by show _ ≤ 6434802; omega⟩) (fun H locs hI => ?_)
  show W p l e room_1 s m #[Value.ref b] below meth c H locs cells slots Q (F0 m 459 ls [.int (cb_mixR S), .int (cb_mixR S)])
  refine lv_icmp_eq (tgt := 556) hx hb dL_law_459 (by decide) (fun cz => ?_) (fun cz => (cz rfl : False).elim)
  refine W.widen (k := cells + 1) (n := slots + 6) (by omega) (by omega) ?_
  exact K (cb_mixS S) 0 ov H locs (cb_ok_mix hok) hI ls (lv_sub hl [0, 1, 2, 3, 4] rfl)
set_option maxHeartbeats 4000000 in
set_option maxRecDepth 100000 in
theorem case_out {p : Program} {l : Launch} {e : Env} {s : State} {m : MethodId} {below : List Frame} {meth : Method} {c : Code} {Q : State → Prop} {D : va_G} {tc : Nat → ClassId} {g a : Nat → Nat} {o b L : Nat} {xs : Nat → Int32} {cells slots : Nat} (hfl : l.flags = flags0) (hx : p.tables.exec = Jvm.exec) (hb : c.code = code) (hml : c.maxLocals = 8) (hts : ∀ w ∈ lw_all, w.before #[Value.ref b] s = true) (hown : s.vm.findClass RX0 = some m.cls) (hX : va_X b L xs s s.heap) (hbl : b < s.heap.size) (hL : L ≤ 256) (hF : lw_F D tc g a o s) (hc : cells + 1 ≤ 872765) (hsl : slots + 6 ≤ 6434802) {k : Nat} (hk : 4 * k + 4 ≤ L) {S : cb_S} {th : Int32} {ov : Nat → Int64} (hok : cb_ok S) (K : ∀ (S : cb_S) (th : Int32) (ov : Nat → Int64) (H : Heap) (locs : List Loc), cb_ok S → lw_I D tc g a o s S S th ov H locs → ∀ ls : Array Slot, lv_has ls 8 [(4, .int (nI (4 * k))), (3, .ref o), (2, .ref (a 0)), (1, .ref (g 0)), (0, .ref b)] → W p l e room_1 s m #[Value.ref b] below meth c H locs (cells + 1) (slots + 6) Q (F0 m 556 ls [])) {H : Heap} {locs : List Loc} (hI : lw_I D tc g a o s S S th ov H locs) {ls : Array Slot} (hl : lv_has ls 8 [(4, .int (nI (4 * k))), (3, .ref o), (2, .ref (a 0)), (1, .ref (g 0)), (0, .ref b)]) : W p l e room_1 s m #[Value.ref b] below meth c H locs cells slots Q (F0 m 464 ls []) := by
  refine lv_aload_n hx hb dL_law_464 rfl (lv_at hl 3 rfl) ?_
  refine lv_aload_n hx hb dL_law_465 rfl (lv_at hl 4 rfl) ?_
  refine lv_iload hx hb dL_law_466 (lv_at hl 0 rfl) ?_
  refine lv_iconst (v := 1) hx hb dL_law_468 (by decide) ?_
  refine lv_iadd hx hb dL_law_469 ?_
  refine cb_top (y := nI (4 * k + 1)) (nI_add (4 * k) 1) ?_
  refine lw_sld hx hb hX hbl hL hI (4 * k + 1) (by omega) dL_law_470 ?_
  refine lv_aload_n hx hb dL_law_471 rfl (lv_at hl 4 rfl) ?_
  refine lv_iload hx hb dL_law_472 (lv_at hl 0 rfl) ?_
  refine lv_iconst (v := 2) hx hb dL_law_474 (by decide) ?_
  refine lv_iadd hx hb dL_law_475 ?_
  refine cb_top (y := nI (4 * k + 2)) (nI_add (4 * k) 2) ?_
  refine lw_sld hx hb hX hbl hL hI (4 * k + 2) (by omega) dL_law_476 ?_
  refine lw_callB hF hI (va_runV (As := [.int (xs (4 * k + 1)), .int (xs (4 * k + 2))]) (rest := []) ⟨hx, hb, hml, hown, hts⟩ (met_bOut l D tc g S (xs (4 * k + 1)) (xs (4 * k + 2))) (cwV 2 hts (lw_V q179 q180 q181 q3 q182) rfl rfl rfl (by decide +kernel) ⟨Nat.le_of_ble_eq_true rfl, Nat.le_of_ble_eq_true rfl⟩) (lw_preB hF hI) rfl rfl hl.1 rfl (lv_room (Nat.le_of_ble_eq_true rfl)) dL_law_477 ⟨by show _ ≤ 872765; omega, by show _ ≤ 6434802; omega⟩) (fun H locs hI => ?_)
  show W p l e room_1 s m #[Value.ref b] below meth c H locs cells slots Q (F0 m 480 ls [.int (cb_fOut S (xs (4 * k + 1)) (xs (4 * k + 2)))])
  refine lv_aload_n hx hb dL_law_480 rfl (lv_at hl 2 rfl) ?_
  refine lv_aload_n hx hb dL_law_481 rfl (lv_at hl 4 rfl) ?_
  refine lv_iload hx hb dL_law_482 (lv_at hl 0 rfl) ?_
  refine lv_iconst (v := 1) hx hb dL_law_484 (by decide) ?_
  refine lv_iadd hx hb dL_law_485 ?_
  refine cb_top (y := nI (4 * k + 1)) (nI_add (4 * k) 1) ?_
  refine lw_sld hx hb hX hbl hL hI (4 * k + 1) (by omega) dL_law_486 ?_
  refine lv_aload_n hx hb dL_law_487 rfl (lv_at hl 4 rfl) ?_
  refine lv_iload hx hb dL_law_488 (lv_at hl 0 rfl) ?_
  refine lv_iconst (v := 2) hx hb dL_law_490 (by decide) ?_
  refine lv_iadd hx hb dL_law_491 ?_
  refine cb_top (y := nI (4 * k + 2)) (nI_add (4 * k) 2) ?_
  refine lw_sld hx hb hX hbl hL hI (4 * k + 2) (by omega) dL_law_492 ?_
  refine lw_callM hF hI (va_runV (As := [.int (xs (4 * k + 1)), .int (xs (4 * k + 2))]) (rest := [.int (cb_fOut S (xs (4 * k + 1)) (xs (4 * k + 2)))]) ⟨hx, hb, hml, hown, hts⟩ (met_mOut l D tc a S th (xs (4 * k + 1)) (xs (4 * k + 2))) (cwV 2 hts (lw_V q352 q353 q354 q10 q355) rfl rfl rfl (by decide +kernel) ⟨Nat.le_of_ble_eq_true rfl, Nat.le_of_ble_eq_true rfl⟩) (lw_preM hF hI) rfl rfl hl.1 rfl (lv_room (Nat.le_of_ble_eq_true rfl)) dL_law_493 ⟨by show _ ≤ 872765; omega, by show _ ≤ 6434802; omega⟩) (fun H locs hI => ?_)
  show W p l e room_1 s m #[Value.ref b] below meth c H locs cells slots Q (F0 m 496 ls [.int (cb_fOut S (xs (4 * k + 1)) (xs (4 * k + 2))), .int (cb_fOut S (xs (4 * k + 1)) (xs (4 * k + 2)))])
  refine lv_icmp_eq (tgt := 556) hx hb dL_law_496 (by decide) (fun cz => ?_) (fun cz => (cz rfl : False).elim)
  refine W.widen (k := cells + 1) (n := slots + 6) (by omega) (by omega) ?_
  exact K S 0 ov H locs (hok) hI ls (lv_sub hl [0, 1, 2, 3, 4] rfl)
set_option maxHeartbeats 4000000 in
set_option maxRecDepth 100000 in
theorem case_dec {p : Program} {l : Launch} {e : Env} {s : State} {m : MethodId} {below : List Frame} {meth : Method} {c : Code} {Q : State → Prop} {D : va_G} {tc : Nat → ClassId} {g a : Nat → Nat} {o b L : Nat} {xs : Nat → Int32} {cells slots : Nat} (hfl : l.flags = flags0) (hx : p.tables.exec = Jvm.exec) (hb : c.code = code) (hml : c.maxLocals = 8) (hts : ∀ w ∈ lw_all, w.before #[Value.ref b] s = true) (hown : s.vm.findClass RX0 = some m.cls) (hX : va_X b L xs s s.heap) (hbl : b < s.heap.size) (hL : L ≤ 256) (hF : lw_F D tc g a o s) (hc : cells + 1 ≤ 872765) (hsl : slots + 6 ≤ 6434802) {k : Nat} (hk : 4 * k + 4 ≤ L) {S : cb_S} {th : Int32} {ov : Nat → Int64} (hok : cb_ok S) (K : ∀ (S : cb_S) (th : Int32) (ov : Nat → Int64) (H : Heap) (locs : List Loc), cb_ok S → lw_I D tc g a o s S S th ov H locs → ∀ ls : Array Slot, lv_has ls 8 [(4, .int (nI (4 * k))), (3, .ref o), (2, .ref (a 0)), (1, .ref (g 0)), (0, .ref b)] → W p l e room_1 s m #[Value.ref b] below meth c H locs (cells + 1) (slots + 6) Q (F0 m 556 ls [])) {H : Heap} {locs : List Loc} (hI : lw_I D tc g a o s S S th ov H locs) {ls : Array Slot} (hl : lv_has ls 8 [(4, .int (nI (4 * k))), (3, .ref o), (2, .ref (a 0)), (1, .ref (g 0)), (0, .ref b)]) : W p l e room_1 s m #[Value.ref b] below meth c H locs cells slots Q (F0 m 96 ls []) := by
  refine lv_aload_n hx hb dL_law_96 rfl (lv_at hl 3 rfl) ?_
  refine lv_aload_n hx hb dL_law_97 rfl (lv_at hl 4 rfl) ?_
  refine lv_iload hx hb dL_law_98 (lv_at hl 0 rfl) ?_
  refine lv_iconst (v := 1) hx hb dL_law_100 (by decide) ?_
  refine lv_iadd hx hb dL_law_101 ?_
  refine cb_top (y := nI (4 * k + 1)) (nI_add (4 * k) 1) ?_
  refine lw_sld hx hb hX hbl hL hI (4 * k + 1) (by omega) dL_law_102 ?_
  refine lv_aload_n hx hb dL_law_103 rfl (lv_at hl 4 rfl) ?_
  refine lv_iload hx hb dL_law_104 (lv_at hl 0 rfl) ?_
  refine lv_iconst (v := 2) hx hb dL_law_106 (by decide) ?_
  refine lv_iadd hx hb dL_law_107 ?_
  refine cb_top (y := nI (4 * k + 2)) (nI_add (4 * k) 2) ?_
  refine lw_sld hx hb hX hbl hL hI (4 * k + 2) (by omega) dL_law_108 ?_
  refine lv_aload_n hx hb dL_law_109 rfl (lv_at hl 1 rfl) ?_
  refine lw_callH hF hI (cb_runSW (As := [.ref (g 0), .int (xs (4 * k + 1)), .int (xs (4 * k + 2)), .ref o]) (rest := []) ⟨hx, hb, hml, hown, hts⟩ (met_hDec l hfl D tc g S o ov (xs (4 * k + 1)) (xs (4 * k + 2))) rfl rfl q183 q184 q2 q185 (n := 4) (by decide +kernel) ⟨Nat.le_of_ble_eq_true rfl, Nat.le_of_ble_eq_true rfl⟩ (lw_preH hF hI) rfl rfl hl.1 rfl (lv_room (Nat.le_of_ble_eq_true rfl)) dL_law_110 ⟨by show _ ≤ 872765; omega, by show _ ≤ 6434802; omega⟩) (fun H locs hI => ?_)
  show W p l e room_1 s m #[Value.ref b] below meth c H locs (cells + 1) (slots + 6) Q (F0 m 113 ls [.int (cb_thr (xs (4 * k + 1)) 2)])
  refine lv_istore (lv' := [(5, .int (cb_thr (xs (4 * k + 1)) 2)), (4, .int (nI (4 * k))), (3, .ref o), (2, .ref (a 0)), (1, .ref (g 0)), (0, .ref b)]) hx hb dL_law_113 hl (by decide) rfl (fun ls hl => ?_)
  refine lv_aload_n hx hb dL_law_115 rfl (lv_at hl 3 rfl) ?_
  refine lv_aload_n hx hb dL_law_116 rfl (lv_at hl 5 rfl) ?_
  refine lv_iload hx hb dL_law_117 (lv_at hl 1 rfl) ?_
  refine lv_iconst (v := 1) hx hb dL_law_119 (by decide) ?_
  refine lv_iadd hx hb dL_law_120 ?_
  refine cb_top (y := nI (4 * k + 1)) (nI_add (4 * k) 1) ?_
  refine lw_sld hx hb hX hbl hL hI (4 * k + 1) (by omega) dL_law_121 ?_
  refine lv_aload_n hx hb dL_law_122 rfl (lv_at hl 5 rfl) ?_
  refine lv_iload hx hb dL_law_123 (lv_at hl 1 rfl) ?_
  refine lv_iconst (v := 2) hx hb dL_law_125 (by decide) ?_
  refine lv_iadd hx hb dL_law_126 ?_
  refine cb_top (y := nI (4 * k + 2)) (nI_add (4 * k) 2) ?_
  refine lw_sld hx hb hX hbl hL hI (4 * k + 2) (by omega) dL_law_127 ?_
  refine lw_callM hF hI (va_runV (As := [.int (xs (4 * k + 1)), .int (xs (4 * k + 2))]) (rest := []) ⟨hx, hb, hml, hown, hts⟩ (met_mDec l D tc a S th (xs (4 * k + 1)) (xs (4 * k + 2))) (cwV 2 hts (lw_V q302 q303 q304 q10 q305) rfl rfl rfl (by decide +kernel) ⟨Nat.le_of_ble_eq_true rfl, Nat.le_of_ble_eq_true rfl⟩) (lw_preM hF hI) rfl rfl hl.1 rfl (lv_room (Nat.le_of_ble_eq_true rfl)) dL_law_128 ⟨by show _ ≤ 872765; omega, by show _ ≤ 6434802; omega⟩) (fun H locs hI => ?_)
  show W p l e room_1 s m #[Value.ref b] below meth c H locs (cells + 1) (slots + 6) Q (F0 m 131 ls [.int (cb_fDec (xs (4 * k + 1)) (xs (4 * k + 2)))])
  refine lv_istore (lv' := [(6, .int (cb_fDec (xs (4 * k + 1)) (xs (4 * k + 2)))), (5, .int (cb_thr (xs (4 * k + 1)) 2)), (4, .int (nI (4 * k))), (3, .ref o), (2, .ref (a 0)), (1, .ref (g 0)), (0, .ref b)]) hx hb dL_law_131 hl (by decide) rfl (fun ls hl => ?_)
  refine lv_aload_n hx hb dL_law_133 rfl (lv_at hl 4 rfl) ?_
  refine lw_callM hF hI (va_runV (As := []) (rest := []) ⟨hx, hb, hml, hown, hts⟩ (met_mThr l D tc a S (cb_thr (xs (4 * k + 1)) 2)) (cwV 0 hts (lw_V q298 q299 q300 q10 q301) rfl rfl rfl (by decide +kernel) ⟨Nat.le_of_ble_eq_true rfl, Nat.le_of_ble_eq_true rfl⟩) (lw_preM hF hI) rfl rfl hl.1 rfl (lv_room (Nat.le_of_ble_eq_true rfl)) dL_law_134 ⟨by show _ ≤ 872765; omega, by show _ ≤ 6434802; omega⟩) (fun H locs hI => ?_)
  show W p l e room_1 s m #[Value.ref b] below meth c H locs (cells + 1) (slots + 6) Q (F0 m 137 ls [.int (cb_thr (xs (4 * k + 1)) 2)])
  refine lv_iload hx hb dL_law_137 (lv_at hl 1 rfl) ?_
  refine lv_icmp_eq (tgt := 144) hx hb dL_law_139 (by decide) (fun cz => ?_) (fun cz => (cz rfl : False).elim)
  refine lv_iload hx hb dL_law_144 (lv_at hl 1 rfl) ?_
  by_cases h1 : cb_ix (xs (4 * k + 1)) 2 = true
  · refine cb_top (y := 0) (if_pos h1) ?_
    refine lv_if_ne (tgt := 161) hx hb dL_law_146 (by decide) (fun cz => (cz rfl : False).elim) (fun cz => ?_)
    refine lv_aload_n hx hb dL_law_149 rfl (lv_at hl 3 rfl) ?_
    refine lv_iconst (v := 0) hx hb dL_law_150 (by decide) ?_
    refine lw_ld hx hb hF hI dL_law_151 ?_
    refine cb_topl (y := (cb_fDec (xs (4 * k + 1)) (xs (4 * k + 2))).toInt64) (by rw [show (lh_dec ov (xs (4 * k + 1)) (xs (4 * k + 2))) = vp_updL ov 0 ((cb_fDec (xs (4 * k + 1)) (xs (4 * k + 2))).toInt64) from if_pos h1]; rfl) ?_
    refine lv_iload hx hb dL_law_152 (lv_at hl 0 rfl) ?_
    refine lv_i2l hx hb dL_law_154 rfl ?_
    refine W.lcmp hx hb dL_law_155 ?_
    refine lv_if_eq (tgt := 161) hx hb dL_law_156 (by decide) (fun cz => ?_) (fun cz => (cz ((lg_cmp_eq _ _).mpr rfl) : False).elim)
    refine lv_goto (tgt := 556) hx hb dL_law_161 (by decide) ?_
    exact K S (cb_thr (xs (4 * k + 1)) 2) (lh_dec ov (xs (4 * k + 1)) (xs (4 * k + 2))) H locs (hok) hI ls (lv_sub hl [2, 3, 4, 5, 6] rfl)
  · refine cb_top (y := 1) (if_neg h1) ?_
    refine lv_if_ne (tgt := 161) hx hb dL_law_146 (by decide) (fun cz => ?_) (fun cz => (absurd cz (by decide) : False).elim)
    refine lv_goto (tgt := 556) hx hb dL_law_161 (by decide) ?_
    exact K S (cb_thr (xs (4 * k + 1)) 2) (lh_dec ov (xs (4 * k + 1)) (xs (4 * k + 2))) H locs (hok) hI ls (lv_sub hl [2, 3, 4, 5, 6] rfl)
set_option maxHeartbeats 4000000 in
set_option maxRecDepth 100000 in
theorem case_en {p : Program} {l : Launch} {e : Env} {s : State} {m : MethodId} {below : List Frame} {meth : Method} {c : Code} {Q : State → Prop} {D : va_G} {tc : Nat → ClassId} {g a : Nat → Nat} {o b L : Nat} {xs : Nat → Int32} {cells slots : Nat} (hfl : l.flags = flags0) (hx : p.tables.exec = Jvm.exec) (hb : c.code = code) (hml : c.maxLocals = 8) (hts : ∀ w ∈ lw_all, w.before #[Value.ref b] s = true) (hown : s.vm.findClass RX0 = some m.cls) (hX : va_X b L xs s s.heap) (hbl : b < s.heap.size) (hL : L ≤ 256) (hF : lw_F D tc g a o s) (hc : cells + 1 ≤ 872765) (hsl : slots + 6 ≤ 6434802) {k : Nat} (hk : 4 * k + 4 ≤ L) {S : cb_S} {th : Int32} {ov : Nat → Int64} (hok : cb_ok S) (K : ∀ (S : cb_S) (th : Int32) (ov : Nat → Int64) (H : Heap) (locs : List Loc), cb_ok S → lw_I D tc g a o s S S th ov H locs → ∀ ls : Array Slot, lv_has ls 8 [(4, .int (nI (4 * k))), (3, .ref o), (2, .ref (a 0)), (1, .ref (g 0)), (0, .ref b)] → W p l e room_1 s m #[Value.ref b] below meth c H locs (cells + 1) (slots + 6) Q (F0 m 556 ls [])) {H : Heap} {locs : List Loc} (hI : lw_I D tc g a o s S S th ov H locs) {ls : Array Slot} (hl : lv_has ls 8 [(4, .int (nI (4 * k))), (3, .ref o), (2, .ref (a 0)), (1, .ref (g 0)), (0, .ref b)]) : W p l e room_1 s m #[Value.ref b] below meth c H locs cells slots Q (F0 m 501 ls []) := by
  refine lv_aload_n hx hb dL_law_501 rfl (lv_at hl 3 rfl) ?_
  refine lv_aload_n hx hb dL_law_502 rfl (lv_at hl 4 rfl) ?_
  refine lv_iload hx hb dL_law_503 (lv_at hl 0 rfl) ?_
  refine lv_iconst (v := 1) hx hb dL_law_505 (by decide) ?_
  refine lv_iadd hx hb dL_law_506 ?_
  refine cb_top (y := nI (4 * k + 1)) (nI_add (4 * k) 1) ?_
  refine lw_sld hx hb hX hbl hL hI (4 * k + 1) (by omega) dL_law_507 ?_
  refine lv_aload_n hx hb dL_law_508 rfl (lv_at hl 1 rfl) ?_
  refine lw_callH hF hI (cb_runSW (As := [.ref (g 0), .int (xs (4 * k + 1)), .ref o]) (rest := []) ⟨hx, hb, hml, hown, hts⟩ (met_hEn l hfl D tc g S o ov (xs (4 * k + 1))) rfl rfl q252 q253 q2 q254 (n := 3) (by decide +kernel) ⟨Nat.le_of_ble_eq_true rfl, Nat.le_of_ble_eq_true rfl⟩ (lw_preH hF hI) rfl rfl hl.1 rfl (lv_room (Nat.le_of_ble_eq_true rfl)) dL_law_509 ⟨by show _ ≤ 872765; omega, by show _ ≤ 6434802; omega⟩) (fun H locs hI => ?_)
  show W p l e room_1 s m #[Value.ref b] below meth c H locs (cells + 1) (slots + 6) Q (F0 m 512 ls [.int (cb_thr (xs (4 * k + 1)) 8)])
  refine lv_istore (lv' := [(5, .int (cb_thr (xs (4 * k + 1)) 8)), (4, .int (nI (4 * k))), (3, .ref o), (2, .ref (a 0)), (1, .ref (g 0)), (0, .ref b)]) hx hb dL_law_512 hl (by decide) rfl (fun ls hl => ?_)
  refine lv_aload_n hx hb dL_law_514 rfl (lv_at hl 3 rfl) ?_
  refine lv_aload_n hx hb dL_law_515 rfl (lv_at hl 5 rfl) ?_
  refine lv_iload hx hb dL_law_516 (lv_at hl 1 rfl) ?_
  refine lv_iconst (v := 1) hx hb dL_law_518 (by decide) ?_
  refine lv_iadd hx hb dL_law_519 ?_
  refine cb_top (y := nI (4 * k + 1)) (nI_add (4 * k) 1) ?_
  refine lw_sld hx hb hX hbl hL hI (4 * k + 1) (by omega) dL_law_520 ?_
  refine lw_callM hF hI (va_runV (As := [.int (xs (4 * k + 1))]) (rest := []) ⟨hx, hb, hml, hown, hts⟩ (met_mEn l D tc a S th (xs (4 * k + 1))) (cwV 1 hts (lw_V q356 q357 q358 q10 q359) rfl rfl rfl (by decide +kernel) ⟨Nat.le_of_ble_eq_true rfl, Nat.le_of_ble_eq_true rfl⟩) (lw_preM hF hI) rfl rfl hl.1 rfl (lv_room (Nat.le_of_ble_eq_true rfl)) dL_law_521 ⟨by show _ ≤ 872765; omega, by show _ ≤ 6434802; omega⟩) (fun H locs hI => ?_)
  show W p l e room_1 s m #[Value.ref b] below meth c H locs (cells + 1) (slots + 6) Q (F0 m 524 ls [.long (cb_fEn S (xs (4 * k + 1)))])
  refine lv_lstore (lv' := [(6, .long (cb_fEn S (xs (4 * k + 1)))), (5, .int (cb_thr (xs (4 * k + 1)) 8)), (4, .int (nI (4 * k))), (3, .ref o), (2, .ref (a 0)), (1, .ref (g 0)), (0, .ref b)]) hx hb dL_law_524 hl (by decide) rfl (fun ls hl => ?_)
  refine lv_aload_n hx hb dL_law_526 rfl (lv_at hl 4 rfl) ?_
  refine lw_callM hF hI (va_runV (As := []) (rest := []) ⟨hx, hb, hml, hown, hts⟩ (met_mThr l D tc a S (cb_thr (xs (4 * k + 1)) 8)) (cwV 0 hts (lw_V q298 q299 q300 q10 q301) rfl rfl rfl (by decide +kernel) ⟨Nat.le_of_ble_eq_true rfl, Nat.le_of_ble_eq_true rfl⟩) (lw_preM hF hI) rfl rfl hl.1 rfl (lv_room (Nat.le_of_ble_eq_true rfl)) dL_law_527 ⟨by show _ ≤ 872765; omega, by show _ ≤ 6434802; omega⟩) (fun H locs hI => ?_)
  show W p l e room_1 s m #[Value.ref b] below meth c H locs (cells + 1) (slots + 6) Q (F0 m 530 ls [.int (cb_thr (xs (4 * k + 1)) 8)])
  refine lv_iload hx hb dL_law_530 (lv_at hl 1 rfl) ?_
  refine lv_icmp_eq (tgt := 537) hx hb dL_law_532 (by decide) (fun cz => ?_) (fun cz => (cz rfl : False).elim)
  refine lv_iload hx hb dL_law_537 (lv_at hl 1 rfl) ?_
  by_cases h1 : cb_ix (xs (4 * k + 1)) 8 = true
  · refine cb_top (y := 0) (if_pos h1) ?_
    refine lv_if_ne (tgt := 553) hx hb dL_law_539 (by decide) (fun cz => (cz rfl : False).elim) (fun cz => ?_)
    refine lv_aload_n hx hb dL_law_542 rfl (lv_at hl 3 rfl) ?_
    refine lv_iconst (v := 0) hx hb dL_law_543 (by decide) ?_
    refine lw_ld hx hb hF hI dL_law_544 ?_
    refine cb_topl (y := cb_fEn S (xs (4 * k + 1))) (by rw [show (lh_en ov S (xs (4 * k + 1))) = vp_updL ov 0 (cb_fEn S (xs (4 * k + 1))) from if_pos h1]; rfl) ?_
    refine lv_lload hx hb dL_law_545 (lv_at hl 0 rfl) ?_
    refine W.lcmp hx hb dL_law_547 ?_
    refine lv_if_eq (tgt := 553) hx hb dL_law_548 (by decide) (fun cz => ?_) (fun cz => (cz ((lg_cmp_eq _ _).mpr rfl) : False).elim)
    refine lv_goto (tgt := 556) hx hb dL_law_553 (by decide) ?_
    exact K S (cb_thr (xs (4 * k + 1)) 8) (lh_en ov S (xs (4 * k + 1))) H locs (hok) hI ls (lv_sub hl [2, 3, 4, 5, 6] rfl)
  · refine cb_top (y := 1) (if_neg h1) ?_
    refine lv_if_ne (tgt := 553) hx hb dL_law_539 (by decide) (fun cz => ?_) (fun cz => (absurd cz (by decide) : False).elim)
    refine lv_goto (tgt := 556) hx hb dL_law_553 (by decide) ?_
    exact K S (cb_thr (xs (4 * k + 1)) 8) (lh_en ov S (xs (4 * k + 1))) H locs (hok) hI ls (lv_sub hl [2, 3, 4, 5, 6] rfl)
set_option maxHeartbeats 4000000 in
set_option maxRecDepth 100000 in
theorem law_loop {p : Program} {l : Launch} {e : Env} {s : State} {m : MethodId} {below : List Frame} {meth : Method} {c : Code} {Q : State → Prop} {D : va_G} {tc : Nat → ClassId} {g a : Nat → Nat} {o b L : Nat} {xs : Nat → Int32} (hfl : l.flags = flags0) (hx : p.tables.exec = Jvm.exec) (hb : c.code = code) (hml : c.maxLocals = 8) (hts : ∀ w ∈ lw_all, w.before #[Value.ref b] s = true) (hown : s.vm.findClass RX0 = some m.cls) (hX : va_X b L xs s s.heap) (hbl : b < s.heap.size) (hL : L ≤ 256) (hF : lw_F D tc g a o s) (K : ∀ (H : Heap) (locs : List Loc) (ls : Array Slot), va_S (fun q : Nat => s.heap.size ≤ q) s.heap H locs → W p l e room_1 s m #[Value.ref b] below meth c H locs 872765 6434802 Q (F0 m 562 ls [])) : ∀ (n k : Nat), 4 * k ≤ L → L ≤ 4 * k + 4 * n → ∀ (S : cb_S) (th : Int32) (ov : Nat → Int64) (H : Heap) (locs : List Loc), cb_ok S → lw_I D tc g a o s S S th ov H locs → ∀ ls : Array Slot, lv_has ls 8 [(4, .int (nI (4 * k))), (3, .ref o), (2, .ref (a 0)), (1, .ref (g 0)), (0, .ref b)] → W p l e room_1 s m #[Value.ref b] below meth c H locs (46 + k) (503 + 6 * k) Q (F0 m 23 ls []) := by
  intro n
  induction n with
  | zero =>
    intro k hk hn S th ov H locs hok hI ls hl
    refine lv_iload hx hb dL_law_23 (lv_at hl 0 rfl) ?_
    refine lv_aload_n hx hb dL_law_25 rfl (lv_at hl 4 rfl) ?_
    refine lw_slen hx hb hX hbl hI dL_law_26 ?_
    refine lv_iconst (v := 4) hx hb dL_law_27 (by decide) ?_
    refine lv_isub hx hb dL_law_28 ?_
    have hlt : nI L - 4 < nI (4 * k) := by
      rw [Int32.lt_iff_toInt_lt, show (4 : Int32) = nI 4 from rfl, pk_sub_toInt (by omega) (by decide), nI_toInt (by omega)]
      omega
    refine lv_icmp_gt (tgt := 562) hx hb dL_law_29 (by decide) (fun cz => ?_) (fun cz => (cz hlt : False).elim)
    refine W.widen (k := 872765) (n := 6434802) (by omega) (by omega) ?_
    exact K H locs ls hI.2.2.2
  | succ n ih =>
    intro k hk hn S th ov H locs hok hI ls hl
    refine lv_iload hx hb dL_law_23 (lv_at hl 0 rfl) ?_
    refine lv_aload_n hx hb dL_law_25 rfl (lv_at hl 4 rfl) ?_
    refine lw_slen hx hb hX hbl hI dL_law_26 ?_
    refine lv_iconst (v := 4) hx hb dL_law_27 (by decide) ?_
    refine lv_isub hx hb dL_law_28 ?_
    refine lv_icmp_gt (tgt := 562) hx hb dL_law_29 (by decide) (fun c0 => ?_) (fun c0 => ?_)
    · refine W.widen (k := 872765) (n := 6434802) (by omega) (by omega) ?_
      exact K H locs ls hI.2.2.2
    · have hk4 : 4 * k + 4 ≤ L := by
        rcases Nat.lt_or_ge L (4 * k + 4) with q | q
        · refine absurd ?_ c0
          rw [Int32.lt_iff_toInt_lt, show (4 : Int32) = nI 4 from rfl, pk_sub_toInt (by omega) (by decide), nI_toInt (by omega)]
          omega
        · exact q
      have next : ∀ (S : cb_S) (th : Int32) (ov : Nat → Int64) (H : Heap) (locs : List Loc), cb_ok S → lw_I D tc g a o s S S th ov H locs → ∀ ls : Array Slot, lv_has ls 8 [(4, .int (nI (4 * k))), (3, .ref o), (2, .ref (a 0)), (1, .ref (g 0)), (0, .ref b)] → W p l e room_1 s m #[Value.ref b] below meth c H locs (46 + k + 1) (503 + 6 * k + 6) Q (F0 m 556 ls []) := by
        intro S th ov H locs hok hI ls hl
        refine lv_iinc (v := (nI (4 * (k + 1)))) (lv' := [(4, .int (nI (4 * (k + 1)))), (3, .ref o), (2, .ref (a 0)), (1, .ref (g 0)), (0, .ref b)]) hx hb dL_law_556 hl (k := 0) rfl (nI_add (4 * k) 4) (by decide) rfl (fun ls hl => ?_)
        refine lv_goto (tgt := 23) hx hb dL_law_559 (by decide) ?_
        exact ih (k + 1) (by omega) (by omega) S th ov H locs hok hI ls hl
      refine lv_aload_n hx hb dL_law_32 rfl (lv_at hl 4 rfl) ?_
      refine lv_iload hx hb dL_law_33 (lv_at hl 0 rfl) ?_
      refine lw_sld hx hb hX hbl hL hI (4 * k) (by omega) dL_law_35 ?_
      refine lv_bipush (v := 15) hx hb dL_law_36 (by decide) ?_
      refine lv_iand hx hb dL_law_38 ?_
      obtain ⟨t, ht, et⟩ := pk_andE (xs (4 * k)) (m := 15) 4 (by decide)
      refine cb_top (y := nI t) (et) ?_
      have h16 : t < 16 := ht
      rcases (show t = 0 ∨ t = 1 ∨ t = 2 ∨ t = 3 ∨ t = 4 ∨ t = 5 ∨ t = 6 ∨ t = 7 ∨ t = 8 ∨ t = 9 ∨ t = 10 ∨ 11 ≤ t by omega) with rfl | rfl | rfl | rfl | rfl | rfl | rfl | rfl | rfl | rfl | rfl | h11
      · refine lv_tableIn (off := 57) (tgt := 96) hx hb dL_law_39 (by decide) (by decide) (by decide) (by decide) ?_
        exact case_dec hfl hx hb hml hts hown hX hbl hL hF (by omega) (by omega) hk4 hok next hI hl
      · refine lv_tableIn (off := 125) (tgt := 164) hx hb dL_law_39 (by decide) (by decide) (by decide) (by decide) ?_
        exact case_enc hfl hx hb hml hts hown hX hbl hL hF (by omega) (by omega) hk4 hok next hI hl
      · refine lv_tableIn (off := 162) (tgt := 201) hx hb dL_law_39 (by decide) (by decide) (by decide) (by decide) ?_
        exact case_law hfl hx hb hml hts hown hX hbl hL hF (by omega) (by omega) hk4 hok next hI hl
      · refine lv_tableIn (off := 199) (tgt := 238) hx hb dL_law_39 (by decide) (by decide) (by decide) (by decide) ?_
        exact case_gain hfl hx hb hml hts hown hX hbl hL hF (by omega) (by omega) hk4 hok next hI hl
      · refine lv_tableIn (off := 236) (tgt := 275) hx hb dL_law_39 (by decide) (by decide) (by decide) (by decide) ?_
        exact case_mute hfl hx hb hml hts hown hX hbl hL hF (by omega) (by omega) hk4 hok next hI hl
      · refine lv_tableIn (off := 289) (tgt := 328) hx hb dL_law_39 (by decide) (by decide) (by decide) (by decide) ?_
        exact case_spk hfl hx hb hml hts hown hX hbl hL hF (by omega) (by omega) hk4 hok next hI hl
      · refine lv_tableIn (off := 314) (tgt := 353) hx hb dL_law_39 (by decide) (by decide) (by decide) (by decide) ?_
        exact case_put hfl hx hb hml hts hown hX hbl hL hF (by omega) (by omega) hk4 hok next hI hl
      · refine lv_tableIn (off := 363) (tgt := 402) hx hb dL_law_39 (by decide) (by decide) (by decide) (by decide) ?_
        exact case_ramp hfl hx hb hml hts hown hX hbl hL hF (by omega) (by omega) hk4 hok next hI hl
      · refine lv_tableIn (off := 412) (tgt := 451) hx hb dL_law_39 (by decide) (by decide) (by decide) (by decide) ?_
        exact case_mix hfl hx hb hml hts hown hX hbl hL hF (by omega) (by omega) hk4 hok next hI hl
      · refine lv_tableIn (off := 425) (tgt := 464) hx hb dL_law_39 (by decide) (by decide) (by decide) (by decide) ?_
        exact case_out hfl hx hb hml hts hown hX hbl hL hF (by omega) (by omega) hk4 hok next hI hl
      · refine lv_tableIn (off := 462) (tgt := 501) hx hb dL_law_39 (by decide) (by decide) (by decide) (by decide) ?_
        exact case_en hfl hx hb hml hts hown hX hbl hL hF (by omega) (by omega) hk4 hok next hI hl
      · refine lv_tableOut (tgt := 556) hx hb dL_law_39 (Or.inr (by rw [nI_toInt (by omega)]; omega)) (by decide) ?_
        refine W.widen (k := 46 + k + 1) (n := 503 + 6 * k + 6) (by omega) (by omega) ?_
        exact next S th ov H locs hok hI ls hl
end
section
/-! the law's start, and the claim -/
set_option maxRecDepth 100000
def R_law : String := "ConferenceBridgeLaw"
def lw_P (b : Addr) (xs : List Int32) (args : Array Value) (s : State) : Prop := args = #[.ref b] ∧ s.IntsAt b xs ∧ xs.length ≤ 256 ∧ (Jvm.Cond.and given_1 narrow_1).before args s = true
def lw_Q (_ : Array Value) (s : State) (o : Outcome) (t : State) : Prop := o = .returned (some (.int 1)) ∧ Framed s o t [] 872765 6434802
def lw_Z (below : List Frame) (a : Array Value) (s : State) : State → Prop := fun t => ∃ o, t.status = .running ∧ Ended t below o ∧ lw_Q a s o t
/-- the law's own end, with 1 on the stack, nothing written that was there before, its room as the claim has it -/
theorem lw_ret {p : Program} {l : Launch} {e : Env} {s : State} {m : MethodId} {below : List Frame} {meth : Method} {c : Code} {b : Nat} (hx : p.tables.exec = Jvm.exec) (hb : c.code = code) (hr : meth.sig.returnType = ret) (hlocks : meth.locks = false) {pc : Nat} {H : Heap} {ls : Array Slot} (hdg : decode code pc = .ok (.ireturn, 1)) : W p l e room_1 s m #[Value.ref b] below meth c H [] 872765 6434802 (lw_Z below #[Value.ref b] s) (F0 m pc ls [.int 1]) := by
  intro T hT X
  obtain ⟨fs, hret, hrun, hended, hW, hframe⟩ := X.leave (v := some (.int 1)) (hlocks := hlocks) (fun h => by rw [hr] at h; cases h)
  have hmeth' : T.vm.method? m = some meth := X.method'
  refine ⟨T.setFrames fs, ?_, .returned (some (.int 1)), hrun, hended, rfl, ⟨_, rfl⟩, hW, hframe⟩
  jvm_step X.here [X.here.top, hx, hb, hdg, hmeth', hr, ret, narrow_b1]
  (try refine ⟨rfl, ?_⟩); (try refine ⟨rfl, ?_⟩)
  first | (intro acts; rw [hret _ acts rfl rfl rfl]) | rw [hret _ _ rfl rfl rfl]
  exact Steps.refl _
/-- what holds at the law's entry: the machine, the code, the tables' words (any of lw_tbl by 'hts w (by decide +kernel)'), the script of L ints xs at the cell b, what the Statement gives of the start (any of its parts by flat_of_before) -/
def lw_At (p : Program) (s : State) (m : MethodId) (meth : Method) (c : Code) (b L : Nat) (xs : Nat → Int32) : Prop :=
  p.tables.exec = Jvm.exec ∧ c.code = code ∧ meth.sig.returnType = ret ∧ c.maxLocals = 8 ∧ s.vm.findClass R_law = some m.cls ∧ (∀ w ∈ lw_tbl, w.before #[Value.ref b] s = true) ∧ va_X b L xs s s.heap ∧ b < s.heap.size ∧ meth.locks = false ∧ (Jvm.Cond.and given_1 narrow_1).before #[Value.ref b] s = true
theorem cb_appL {D : va_G} {cl : List vw_C} {w1 w2 : va_W} {H : Heap} (h : va_P D cl (w1 ++ w2) H) : va_P D cl w1 H ∧ va_P D cl w2 H := by
  refine ⟨fun k q hk => h k q (by rw [List.getElem?_append_left (List.getElem?_eq_some_iff.mp hk).1]; exact hk), fun k q hk => h (w1.length + k) q (by rw [List.getElem?_append_right (Nat.le_add_right _ _), Nat.add_sub_cancel_left]; exact hk)⟩
theorem cb_D_to {A : Nat → Prop} {t : Nat → ClassId} {g : Nat → Nat} {S : cb_S} (h : va_D A (cb_w t g S 8)) : cb_inj g ∧ ∀ k, k < 37 → A (g k) :=
  ⟨fun i j hi hj e => h.1 i j _ _ (cb_w_at (by omega) rfl) (cb_w_at (by omega) rfl) e, fun k hk => h.2 k _ (cb_w_at (by omega) rfl)⟩
theorem lw_F_of {D : va_G} {tc : Nat → ClassId} {g a : Nat → Nat} {o : Nat} {s : State} {Sb Sm : cb_S} {th : Int32} {x : va_E} (hD : va_D (fun q : Nat => s.heap.size ≤ q) ((cb_w tc g Sb 8 ++ mm_w tc a Sm th) ++ [(o, x)])) (hK : va_K D cbCl (cb_tys tc) s) (hN : cb_N s) (hT : cb_thN s) : lw_F D tc g a o s := by
  have l1 : (cb_w tc g Sb 8).length = 37 := cb_w_len
  have k1 : ∀ k, k < 37 → ∃ y : va_E, ((cb_w tc g Sb 8 ++ mm_w tc a Sm th) ++ [(o, x)])[k]? = some (g k, y) := fun k hk => ⟨_, by rw [List.append_assoc, List.getElem?_append_left (by rw [l1]; exact hk)]; exact cb_w_at (by omega) rfl⟩
  have k2 : ∀ j, j < 8 → ∃ y : va_E, ((cb_w tc g Sb 8 ++ mm_w tc a Sm th) ++ [(o, x)])[37 + j]? = some (a j, y) := by
    intro j hj
    rw [List.append_assoc, List.getElem?_append_right (by rw [l1]; omega), l1, Nat.add_sub_cancel_left]
    rcases (show j = 0 ∨ j = 1 ∨ j = 2 ∨ j = 3 ∨ j = 4 ∨ j = 5 ∨ j = 6 ∨ j = 7 by omega) with rfl | rfl | rfl | rfl | rfl | rfl | rfl | rfl <;> exact ⟨_, rfl⟩
  have k3 : ((cb_w tc g Sb 8 ++ mm_w tc a Sm th) ++ [(o, x)])[45]? = some (o, x) := by
    rw [List.append_assoc, List.getElem?_append_right (by rw [l1]; omega), l1]
    rfl
  refine ⟨⟨fun i j hi hj e => ?_, fun i j hi hj e => ?_⟩, ⟨fun i hi j hj e => ?_, fun i hi e => ?_, fun j hj e => ?_⟩, ⟨fun i hi => ?_, fun j hj => ?_, hD.2 45 _ k3⟩, hK, hN, hT⟩
  · obtain ⟨y, hy⟩ := k1 i hi
    obtain ⟨z, hz⟩ := k1 j hj
    exact hD.1 i j _ _ hy hz e
  · obtain ⟨y, hy⟩ := k2 i hi
    obtain ⟨z, hz⟩ := k2 j hj
    have := hD.1 _ _ _ _ hy hz e
    omega
  · obtain ⟨y, hy⟩ := k1 i hi
    obtain ⟨z, hz⟩ := k2 j hj
    have := hD.1 _ _ _ _ hy hz e
    omega
  · obtain ⟨y, hy⟩ := k1 i hi
    have := hD.1 _ _ _ _ hy k3 e
    omega
  · obtain ⟨y, hy⟩ := k2 j hj
    have := hD.1 _ _ _ _ hy k3 e
    omega
  · obtain ⟨y, hy⟩ := k1 i hi
    exact hD.2 _ _ hy
  · obtain ⟨y, hy⟩ := k2 j hj
    exact hD.2 _ _ hy
set_option maxHeartbeats 4000000 in
set_option maxRecDepth 100000 in
theorem whole_start {p : Program} {e : Env} {s : State} {m : MethodId} {below : List Frame} {meth : Method} {c : Code} (l : Launch) (hfl : l.flags = flags0) {b L : Nat} {xs : Nat → Int32} (hL : L ≤ 256) (C0 : lw_At p s m meth c b L xs) : W p l e room_1 s m #[Value.ref b] below meth c s.heap [] 0 0 (lw_Z below #[Value.ref b] s) (entryFrame m ([Value.ref b] : List Value).toArray 8) := by
  obtain ⟨hx, hb, hr, hml, hown, hts0, hX, hbl, hlocks, hgv⟩ := id C0
  have hts : ∀ w ∈ lw_all, w.before #[Value.ref b] s = true := fun w h => hts0 w (lw_all_tbl h)
  obtain ⟨D, tc, hK⟩ := lw_classes hts0
  obtain ⟨hN, hT⟩ := lw_words hts0 hgv
  have hA : ∀ q : Nat, s.heap.size ≤ q → (fun q : Nat => s.heap.size ≤ q) q := fun _ h => h
  have hS : va_S (fun q : Nat => s.heap.size ≤ q) s.heap s.heap [] := va_S.rf
  have hP : va_P D cbCl [] s.heap := fun k q h => by simp at h
  have hD : va_D (fun q : Nat => s.heap.size ≤ q) [] := ⟨fun i j p q h => by simp at h, fun k q h => by simp at h⟩
  have hl := lv_entry ([.ref b]) (n := 8) (Nat.le_of_ble_eq_true rfl)
  rw [lg_entry_eq]
  generalize (lg_sl ([.ref b]) ++ List.replicate (8 - (lg_sl ([.ref b])).length) Slot.unset).toArray = ls at hl ⊢
  have hl : lv_has ls 8 [(0, .ref b)] := hl
  refine va_new (ci := 0) (fs := [.null, .null, .int 0]) (C := RX1) (T := TX1) (N := 3) hx hb hts in_X1 tyX1 tyX1_ok hown (hts _ q15) (hts _ q16) (hts _ q3) hK hP hD hS hA rfl (fun j hj => by rcases (show j = 0 ∨ j = 1 ∨ j = 2 by omega) with rfl | rfl | rfl <;> rfl) (Nat.le_of_ble_eq_true rfl) (Nat.le_of_ble_eq_true rfl) dL_law_0 (fun q H hP hD hS => ?_)
  have hP : va_P D cbCl [(q, .inr (0, [.null, .null, .int 0]))] H := hP
  have hD : va_D (fun q : Nat => s.heap.size ≤ q) [(q, .inr (0, [.null, .null, .int 0]))] := hD
  refine lv_dup hx hb dL_law_3 rfl ?_
  have hFr : ∀ x, cb_new q H.size x → s.heap.size ≤ x := fun x h => by rcases h with rfl | h; exact hD.2 0 _ rfl; exact Nat.le_trans hS.1 h
  refine cb_callG (P := fun _ t => cb_QB0 D tc q H.size t) (r := none) (A := (fun q : Nat => s.heap.size ≤ q)) (H0 := s.heap) (fun st oc t h => ⟨h.1, h.2.1, h.2.2⟩) (va_runI (As := []) (rest := [.ref q]) ⟨hx, hb, hml, hown, hts⟩ (met_iB l D tc q H.size) (cwI 0 hts (lw_meth q19) rfl rfl rfl (hts _ q3) (hts _ q17) (hts _ q18) rfl (by decide +kernel) ⟨Nat.le_of_ble_eq_true rfl, Nat.le_of_ble_eq_true rfl⟩) ⟨cb_blindB, fun U hU hW => ⟨rfl, by rw [hU], by rw [hU]; exact hP, va_K.moved hW.alike hK, cb_N.warm hW hN⟩⟩ rfl rfl hl.1 rfl (lv_room (Nat.le_of_ble_eq_true rfl)) dL_law_4 ⟨(Nat.le_of_ble_eq_true rfl), (Nat.le_of_ble_eq_true rfl)⟩) hS hFr (fun st t locs h0 hq hF hS => ?_)
  obtain ⟨g, hg0, hPb, hDb⟩ := hq
  subst hg0
  have hDb : va_D (fun q : Nat => s.heap.size ≤ q) (cb_w tc g cb_S0 8) := hDb.weaken (fun k x _ h => hFr x.1 h)
  generalize t.heap = H at hPb hS ⊢
  show W p l e room_1 s m #[Value.ref b] below meth c H locs (0 + 1 + 36) (0 + 3 + 266) _ (F0 m 7 ls [.ref (g 0)])
  refine lv_astore_n (lv' := [(1, .ref (g 0)), (0, .ref b)]) hx hb dL_law_7 rfl hl (by decide) rfl (fun ls hl => ?_)
  refine va_new (ci := 4) (fs := [.int 0, .null, .null, .null, .null, .null, .null, .null, .int 0]) (C := RX6) (T := TX6) (N := 9) hx hb hts in_X6 tyX6 tyX6_ok hown (hts _ q259) (hts _ q260) (hts _ q10) hK hPb hDb hS hA rfl (fun j hj => by rcases (show j = 0 ∨ j = 1 ∨ j = 2 ∨ j = 3 ∨ j = 4 ∨ j = 5 ∨ j = 6 ∨ j = 7 ∨ j = 8 by omega) with rfl | rfl | rfl | rfl | rfl | rfl | rfl | rfl | rfl <;> rfl) (Nat.le_of_ble_eq_true rfl) (Nat.le_of_ble_eq_true rfl) dL_law_8 (fun q H hP hD hS => ?_)
  refine lv_dup hx hb dL_law_11 rfl ?_
  have hql : (cb_w tc g cb_S0 8 ++ [(q, (.inr (4, [.int 0, .null, .null, .null, .null, .null, .null, .null, .int 0]) : va_E))])[(cb_w tc g cb_S0 8).length]? = some (q, .inr (4, [.int 0, .null, .null, .null, .null, .null, .null, .null, .int 0])) := by rw [List.getElem?_append_right (Nat.le_refl _), Nat.sub_self]; rfl
  have hFr : ∀ x, cb_new q H.size x → s.heap.size ≤ x := fun x h => by rcases h with rfl | h; exact hD.2 _ _ hql; exact Nat.le_trans hS.1 h
  have hP9 := cb_lastP hP
  refine cb_callG (P := fun _ t => mm_QB0 D tc q H.size t) (r := none) (A := (fun q : Nat => s.heap.size ≤ q)) (H0 := s.heap) (fun st oc t h => ⟨h.1, h.2.1, h.2.2⟩) (va_runI (As := []) (rest := [.ref q]) ⟨hx, hb, hml, hown, hts⟩ (met_iM l D tc q H.size) (cwI 0 hts (lw_meth q263) rfl rfl rfl (hts _ q10) (hts _ q261) (hts _ q262) rfl (by decide +kernel) ⟨Nat.le_of_ble_eq_true rfl, Nat.le_of_ble_eq_true rfl⟩) ⟨mm_blindB, fun U hU hW => ⟨rfl, by rw [hU], by rw [hU]; exact hP9, va_K.moved hW.alike hK⟩⟩ rfl rfl hl.1 rfl (lv_room (Nat.le_of_ble_eq_true rfl)) dL_law_12 ⟨(Nat.le_of_ble_eq_true rfl), (Nat.le_of_ble_eq_true rfl)⟩) hS hFr (fun st t locs h0 hq hF hS => ?_)
  obtain ⟨a, ha0, hPm, hIm, hAm⟩ := hq
  obtain ⟨hf1, hf2⟩ := hF
  rw [h0] at hf1 hf2
  obtain ⟨hP2, hD2⟩ := cb_joinL hP hD hf2 hFr hPm (mm_D_of hIm hAm)
  subst ha0
  have hP := hP2
  have hD := hD2
  generalize t.heap = H at hP hS ⊢
  show W p l e room_1 s m #[Value.ref b] below meth c H locs (0 + 1 + 36 + 1 + 7) (0 + 3 + 266 + 9 + 224) _ (F0 m 15 ls [.ref (a 0)])
  refine lv_astore_n (lv' := [(2, .ref (a 0)), (1, .ref (g 0)), (0, .ref b)]) hx hb dL_law_15 rfl hl (by decide) rfl (fun ls hl => ?_)
  refine lv_iconst (v := 1) hx hb dL_law_16 (by decide) ?_
  refine va_newa (atype := .long) (ty := .long) (n := 1) (N' := 1) (R := room_1) (cells := 0 + 1 + 36 + 1 + 7) (slots := 0 + 3 + 266 + 9 + 224) (a0 := (1, .inr (.inl (fun _ => 0)))) hx hb (hts _ q297) rfl hK hP hD hS hA (fun cA => cb_newl (fun _ => rfl)) (by decide) (by decide) (by decide) (Nat.le_of_ble_eq_true rfl) (Nat.le_of_ble_eq_true rfl) dL_law_17 (fun o cA H hK9 hP hD hS => ?_)
  obtain rfl : tc 4 = cA := cb_ty_p (Or.inr (Or.inr rfl)) hK hK9 4 5 rfl rfl
  refine lv_astore_n (lv' := [(3, .ref o), (2, .ref (a 0)), (1, .ref (g 0)), (0, .ref b)]) hx hb dL_law_19 rfl hl (by decide) rfl (fun ls hl => ?_)
  refine lv_iconst (v := 0) hx hb dL_law_20 (by decide) ?_
  refine lv_istore (lv' := [(4, .int 0), (3, .ref o), (2, .ref (a 0)), (1, .ref (g 0)), (0, .ref b)]) hx hb dL_law_21 hl (by decide) rfl (fun ls hl => ?_)
  have hF := lw_F_of hD hK hN hT
  have hI : lw_I D tc g a o s cb_S0 cb_S0 0 (fun _ => 0) H locs := ⟨(cb_appL (cb_appL hP).1).1, (cb_appL (cb_appL hP).1).2, (cb_appL hP).2, hS⟩
  refine law_loop hfl hx hb hml hts hown hX hbl hL hF (fun H locs ls hS => ?_) 64 0 (Nat.zero_le _) (by omega) cb_S0 0 (fun _ => 0) H locs cb_ok_S0 hI ls (lv_sub hl [0, 1, 2, 3, 4] rfl)
  refine va_forget (fun q h => hS.2.2 q h) ?_
  refine lv_iconst (v := 1) hx hb dL_law_562 (by decide) ?_
  exact lw_ret hx hb hr hlocks dL_law_563
set_option maxHeartbeats 4000000 in
theorem lw_walk (l : Launch) (hfl : l.flags = flags0) (b : Addr) (xs : List Int32) : MetFree l x (headSpec (Jvm.Cond.code x code maxLocals ret :: tables_1) room_1) (lw_P b xs) (fun _ _ _ _ _ => True) lw_Q := by
  refine MetFree.of_bodyS (code := code) (maxLocals := maxLocals) (ret := ret) (by decide) ?_ ?_
  · intro args s m h hn
    obtain ⟨meth, c, h1, h2, h3, h4, h5, h6, -, -⟩ := Cond.code_spec hn (atoms_spec (ws := Jvm.Cond.code x code maxLocals ret :: tables_1) h _ List.mem_cons_self)
    exact ⟨meth, c, h1, h2, h3, h4, h5, h6⟩
  · intro p e s m args below meth c s₁ B hml0 hP _
    obtain ⟨rfl, hx, hbd, hgv⟩ := hP
    obtain ⟨scr, harrAt, hlist, hof, hsmall⟩ := hx
    obtain ⟨hcb, hkn, -, -⟩ := State.arrayAt?_spec harrAt
    have hown : s.vm.findClass R_law = some m.cls := findClass_of_methodNamed B.named
    have hts0 : ∀ c ∈ (Jvm.Cond.code x code maxLocals ret :: tables_1), c.before #[Value.ref b] s = true := atoms_spec (ws := Jvm.Cond.code x code maxLocals ret :: tables_1) B.pre
    have hts : ∀ w ∈ lw_tbl, w.before #[Value.ref b] s = true := k2_hts_sels lw_privs (fun w hw => hts0 w (List.mem_cons_of_mem _ hw)) lw_privs_ok
    have hml : c.maxLocals = 8 := B.maxLocals_eq (hts0 _ List.mem_cons_self)
    have X₀ : Stand p l e room_1 s m #[Value.ref b] below meth c s₁ [] 0 0 := Stand.of_body B
    have hh0 : s₁.heap = s.heap := by rw [B.state]; rfl
    have hsz : scr.slots.size = xs.length := by rw [← Array.length_toList, hlist, List.length_map]
    have hval : ∀ j : Nat, j < xs.length → scr.slots[j]? = some (.int (xs.getD j 0)) := fun j hj => by
      rw [← Array.getElem?_toList, hlist]
      simp [hj]
    have hbl : b < s.heap.size := (Array.getElem?_eq_some_iff.mp hcb).1
    have hX : va_X b xs.length (fun j => xs.getD j 0) s s.heap := ⟨scr, hcb, hof, hkn, hsz, hval⟩
    have K : W p l e room_1 s m #[Value.ref b] below meth c s₁.heap [] 0 0 (lw_Z below #[Value.ref b] s) (entryFrame m ([Value.ref b] : List Value).toArray 8) := by
      rw [hh0]
      exact whole_start l hfl hbd ⟨B.exec, B.bytes, B.returns, hml, hown, hts, hX, hbl, B.notSynchronized, hgv⟩
    obtain ⟨t, a1, o, b1, b2, b3⟩ := K s₁ rfl X₀
    exact ⟨t, o, a1, b1, b2, b3⟩
theorem lw_pre_spec {args : Array Value} {s : State} (h : (Jvm.Cond.and given_1 narrow_1).before args s = true) (hr : rest_1_c.before args s = true) : ∃ (b : Addr) (xs : List Int32), lw_P b xs args s := by
  have hs := flat_of_before _ h
  have hq := flat_of_before _ hr
  have hc : (Cond.count 1).before args s = true := hs _ (by decide +kernel)
  have harr : (Cond.arrayOf (.arg 0) .int).before args s = true := hs _ (by decide +kernel)
  have hle : (Cond.le (.length (.arg 0)) (.int 256)).before args s = true := hs _ (by decide +kernel)
  have hlen : (Cond.isInt (.length (.arg 0))).before args s = true := hq _ (by decide +kernel)
  have hall : (Cond.all (.arg 0) (.isInt (.elem (.arg 0) (.index 0)))).before args s = true := hq _ (by decide +kernel)
  obtain ⟨b, xs, hb, hx⟩ := State.ints_of_pre rfl harr hlen hall
  have hsm : xs.length < 2 ^ 31 := hx.choose_spec.2.2.2
  have hev : (Term.length (.arg 0)).eval args s none [] s = some (.int xs.length.toInt32) := hx.length_eval hb
  have hv := Cond.le_ints hev (show (Term.int 256).eval args s none [] s = some (.int 256) from rfl)
  have hd : xs.length.toInt32 ≤ 256 := by
    simpa [Cond.before, Cond.holds, hv] using hle
  have hN : xs.length ≤ 256 := (Int32.ofNat_le_ofNat hsm (by decide)).mp (show Int32.ofNat xs.length ≤ Int32.ofNat 256 from hd)
  exact ⟨b, xs, Cond.one_arg hc (show args[0]? = some (.ref b) from hb), hx, hN, h⟩
theorem lw_comes (l : Launch) (hfl : l.flags = flags0) : Comes l x (Jvm.Cond.code x code maxLocals ret :: tables_1) room_1 (fun tb e args s => Calls_1 tb e args s ∧ rest_1 tb e args s ∧ Pre_1 tb e args s)
    (fun _ _ args s o t => lw_Q args s o t) := by
  intro p e ha hc hk s m args below hf hfit hheap happ hpre
  obtain ⟨b, xs, hP⟩ := lw_pre_spec hpre.2.2 hpre.2.1
  obtain ⟨k, o, h1, h2, h3, hQ⟩ := lw_walk l hfl b xs p e ha hc hk s m args below hf ((Spec.applies_iff_loose hf).mp happ).1 hP trivial
  exact ⟨k, o, h1, h2, h3, hQ⟩
theorem lw_frame {s t : State} {o : Outcome} {args : Array Value} (h : Framed s o t [] 872765 6434802) :
    Framed s o t (fieldLocs frame_1_writes args s ++ arrayLocs frame_1_arrays args s ++ staticLocs frame_1_statics s) 872765 6434802 := h
theorem lw_limb (L : Cond) (hL : ∀ (args : Array Value) (s t : State), L.after args s (.returned (some (.int 1))) t = true) :
    ArmFor flags0 classFile x code maxLocals ret World_1 tables_1 room_1 Calls_1 rest_1 Pre_1
      (fun tb e a s o t => postC L tb e a s o t ∧ Framed s o t (fieldLocs frame_1_writes a s ++ arrayLocs frame_1_arrays a s ++ staticLocs frame_1_statics s) 872765 6434802) := by
  intro l hfl _ _ p e ha hc hk s m args below hf hfit hheap happ hpre
  obtain ⟨k, o, h1, h2, h3, rfl, hF⟩ := lw_comes l hfl p e ha hc hk s m args below hf hfit hheap happ hpre
  exact ⟨k, _, h1, h2, h3, hL args s _, lw_frame hF⟩
theorem i_vc : Claimed_1_1 ∧ Claimed_1_2 := ⟨lw_limb limb_1_1 (fun args s t => by simp [limb_1_1, Cond.after, Cond.holds, Cond.value]), lw_limb limb_1_2 (fun args s t => Cond.after_iff.mpr (by
  first | (rw [show limb_1_2 = Cond.eq .result (.int 1) from rfl, Cond.eq_ints (x := 1) (y := 1) rfl rfl]; simp; done) | (simp [limb_1_2, Cond.value, Term.eval]; done)))⟩
end
