section
-- ===== PART A: goes FIRST, ahead of the names: the tables' words, and 'selects' of the private methods out of them =====
/-- a private method of a class that the tables say can be made, by its rows of tables_1 -/
def lw_okq (q : MethodName × Nat) : Prop := (q.1.cls ≠ "java/lang/invoke/MethodHandle" ∧ q.1.cls ≠ "java/lang/invoke/VarHandle") ∧ Cond.instantiable q.1.cls q.2 ∈ tables_1 ∧ Cond.privateMethod q.1 ∈ tables_1 ∧ Cond.instanceMethod q.1 ∈ tables_1
set_option maxRecDepth 100000
theorem lw_t1 {w : Cond} (h : w ∈ tables_1_1) : w ∈ tables_1 := List.mem_append_left _ h
theorem lw_t2 {w : Cond} (h : w ∈ tables_1_2) : w ∈ tables_1 := List.mem_append_right _ h
theorem lw_p0 : lw_okq (⟨"RingDriver", "ringAt", "(I)LRingDriver$Ring;"⟩, 5) := ⟨⟨by decide +kernel, by decide +kernel⟩, lw_t1 (List.mem_of_getElem? (i := 7) rfl), lw_t1 (List.mem_of_getElem? (i := 88) rfl), lw_t1 (List.mem_of_getElem? (i := 89) rfl)⟩
theorem lw_p1 : lw_okq (⟨"RingDriver", "bufferAt", "(I)LRingDriver$Ring;"⟩, 5) := ⟨⟨by decide +kernel, by decide +kernel⟩, lw_t1 (List.mem_of_getElem? (i := 7) rfl), lw_t1 (List.mem_of_getElem? (i := 92) rfl), lw_t1 (List.mem_of_getElem? (i := 93) rfl)⟩
theorem lw_p2 : lw_okq (⟨"RingDriverModel", "describe", "(III)V"⟩, 10) := ⟨⟨by decide +kernel, by decide +kernel⟩, lw_t2 (List.mem_of_getElem? (i := 15) rfl), lw_t2 (List.mem_of_getElem? (i := 73) rfl), lw_t2 (List.mem_of_getElem? (i := 74) rfl)⟩
def lw_privs_1 : List (MethodName × Nat) := [(⟨"RingDriver", "ringAt", "(I)LRingDriver$Ring;"⟩, 5), (⟨"RingDriver", "bufferAt", "(I)LRingDriver$Ring;"⟩, 5), (⟨"RingDriverModel", "describe", "(III)V"⟩, 10)]
theorem lw_r1 : ∀ q ∈ lw_privs_1, lw_okq q := List.forall_mem_cons.mpr ⟨lw_p0, List.forall_mem_cons.mpr ⟨lw_p1, List.forall_mem_cons.mpr ⟨lw_p2, fun _ h => absurd h List.not_mem_nil⟩⟩⟩
def lw_privs : List (MethodName × Nat) := lw_privs_1
def lw_tbl : List Cond := k2_sels lw_privs ++ tables_1
theorem lw_privs_ok : ∀ q ∈ lw_privs, lw_okq q := lw_r1
-- ===== ONE list of words for every method: the tables' words that hold all through a run =====
def lw_all : List Cond := lw_tbl.filter goodWord
/-- a word of the tables by its place: claim/WORDS.tsv -/
theorem lw_w {w : Cond} (i : Nat) (h : lw_tbl[i]? = some w) (g : goodWord w = true) : w ∈ lw_all := List.mem_filter.mpr ⟨List.mem_of_getElem? h, g⟩
theorem lw_all_tbl {w : Cond} (h : w ∈ lw_all) : w ∈ lw_tbl := (List.mem_filter.mp h).1
theorem lw_self : GoodIn lw_all lw_all := fun w h => ⟨h, good_of_word (List.mem_filter.mp h).2⟩
/-- a class's field words, by their places -/
theorem lw_in (ws : List Cond) (ps : List Nat) (hp : ws = ps.filterMap (fun i => lw_tbl[i]?)) (hg : ws.all goodWord = true) : ∀ w ∈ ws, w ∈ lw_all := by
  intro w h
  have h1 := List.all_eq_true.mp hg w h
  rw [hp] at h
  obtain ⟨i, -, hi⟩ := List.mem_filterMap.mp h
  exact lw_w i hi h1
/-- the words of a contract for the method y with code b, L locals, answer r -/
abbrev ws_ (y : MethodName) (b : ByteArray) (L : Nat) (r : Option FieldType) : List Cond := Cond.code y b L r :: lw_all
theorem lw_meth {y : MethodName} {b : ByteArray} {L : Nat} {r : Option FieldType} (h : Cond.code y b L r ∈ lw_all) : GoodIn lw_all (ws_ y b L r) := by
  intro w hw
  rcases List.mem_cons.mp hw with e | e
  · rw [e]
    exact lw_self _ h
  · exact lw_self _ e
theorem lw_app {a c : List Cond} (ha : ∀ w ∈ a, w ∈ lw_all) (hc : GoodIn lw_all c) : GoodIn lw_all (a ++ c) := by
  intro w hw
  rcases List.mem_append.mp hw with e | e
  · exact lw_self w (ha w e)
  · exact hc w e
/-- what a call through an object asks: cwV n hts (lw_V ..) -/
theorem lw_V {own : String} {idx : Nat} {C : String} {y : MethodName} {b : ByteArray} {L : Nat} {r : Option FieldType} (h1 : Cond.methodLink own idx y ∈ lw_all) (h2 : Cond.instanceMethod y ∈ lw_all) (h3 : Cond.selects C y y ∈ lw_all) (h4 : Cond.initialized C ∈ lw_all) (h5 : Cond.code y b L r ∈ lw_all) : GoodIn lw_all (wsV own idx C y (ws_ y b L r)) := by
  refine lw_app ?_ (lw_meth h5)
  intro w hw
  simp only [List.mem_cons, List.not_mem_nil, or_false] at hw
  rcases hw with e | e | e | e
  · rw [e]; exact h1
  · rw [e]; exact h2
  · rw [e]; exact h3
  · rw [e]; exact h4
/-- what a static call asks: va_cwS n hts (lw_S ..) -/
theorem lw_S {own : String} {idx : Nat} {y : MethodName} {b : ByteArray} {L : Nat} {r : Option FieldType} (h1 : Cond.methodLink own idx y ∈ lw_all) (h2 : Cond.static y ∈ lw_all) (h3 : Cond.initialized y.cls ∈ lw_all) (h4 : Cond.code y b L r ∈ lw_all) : GoodIn lw_all (va_wsS own idx y (ws_ y b L r)) := by
  refine lw_app ?_ (lw_meth h4)
  intro w hw
  simp only [List.mem_cons, List.not_mem_nil, or_false] at hw
  rcases hw with e | e | e
  · rw [e]; exact h1
  · rw [e]; exact h2
  · rw [e]; exact h3
/-- the words of a contract for a method WITH HANDLERS (hh: its table) -/
abbrev wsW_ (y : MethodName) (b : ByteArray) (L : Nat) (r : Option FieldType) (hh : List (Nat × Nat × Nat × Nat)) : List Cond := Cond.codeWith y b L r hh :: lw_all
theorem lw_methW {y : MethodName} {b : ByteArray} {L : Nat} {r : Option FieldType} {hh : List (Nat × Nat × Nat × Nat)} (h : Cond.codeWith y b L r hh ∈ lw_all) : GoodIn lw_all (wsW_ y b L r hh) := by
  intro w hw
  rcases List.mem_cons.mp hw with e | e
  · rw [e]
    exact lw_self _ h
  · exact lw_self _ e
/-- any list of words by their places (lw_in), good -/
theorem lw_good {ws : List Cond} (h : ∀ w ∈ ws, w ∈ lw_all) : GoodIn lw_all ws := fun w hw => lw_self w (h w hw)
/-- what a call of a method with handlers asks: vx_cwVW n hts (lw_VW ..), vx_cwSW n hts (lw_SW ..) -/
theorem lw_VW {own : String} {idx : Nat} {C : String} {y : MethodName} {b : ByteArray} {L : Nat} {r : Option FieldType} {hh : List (Nat × Nat × Nat × Nat)} (h1 : Cond.methodLink own idx y ∈ lw_all) (h2 : Cond.instanceMethod y ∈ lw_all) (h3 : Cond.selects C y y ∈ lw_all) (h4 : Cond.initialized C ∈ lw_all) (h5 : Cond.codeWith y b L r hh ∈ lw_all) : GoodIn lw_all (wsV own idx C y (wsW_ y b L r hh)) := by
  refine lw_app ?_ (lw_methW h5)
  intro w hw
  simp only [List.mem_cons, List.not_mem_nil, or_false] at hw
  rcases hw with e | e | e | e
  · rw [e]; exact h1
  · rw [e]; exact h2
  · rw [e]; exact h3
  · rw [e]; exact h4
theorem lw_SW {own : String} {idx : Nat} {y : MethodName} {b : ByteArray} {L : Nat} {r : Option FieldType} {hh : List (Nat × Nat × Nat × Nat)} (h1 : Cond.methodLink own idx y ∈ lw_all) (h2 : Cond.static y ∈ lw_all) (h3 : Cond.initialized y.cls ∈ lw_all) (h4 : Cond.codeWith y b L r hh ∈ lw_all) : GoodIn lw_all (va_wsS own idx y (wsW_ y b L r hh)) := by
  refine lw_app ?_ (lw_methW h4)
  intro w hw
  simp only [List.mem_cons, List.not_mem_nil, or_false] at hw
  rcases hw with e | e | e
  · rw [e]; exact h1
  · rw [e]; exact h2
  · rw [e]; exact h3
/-- a word by its place in its run of the tables -/
theorem lw_at {r : List Cond} (hr : ∀ w ∈ r, w ∈ lw_tbl) {w : Cond} (i : Nat) (h : r[i]? = some w) : w ∈ lw_tbl := hr w (List.mem_of_getElem? h)
theorem lw_g {w : Cond} (h : w ∈ lw_tbl) (g : goodWord w = true) : w ∈ lw_all := List.mem_filter.mpr ⟨h, g⟩
theorem lw_ms : ∀ w ∈ k2_sels lw_privs, w ∈ lw_tbl := fun w h => show w ∈ k2_sels lw_privs ++ tables_1 from List.mem_append_left _ h
theorem lw_m1 : ∀ w ∈ tables_1_1, w ∈ lw_tbl := fun w h => show w ∈ k2_sels lw_privs ++ tables_1 from List.mem_append_right (k2_sels lw_privs) (show w ∈ tables_1 from List.mem_append_left _ h)
theorem lw_m2 : ∀ w ∈ tables_1_2, w ∈ lw_tbl := fun w h => show w ∈ k2_sels lw_privs ++ tables_1 from List.mem_append_right (k2_sels lw_privs) (show w ∈ tables_1 from List.mem_append_right _ h)
theorem qs0 : (Cond.selects "RingDriver" ⟨"RingDriver", "ringAt", "(I)LRingDriver$Ring;"⟩ ⟨"RingDriver", "ringAt", "(I)LRingDriver$Ring;"⟩) ∈ lw_all := lw_g (lw_at lw_ms 0 rfl) rfl
theorem qs1 : (Cond.selects "RingDriver" ⟨"RingDriver", "bufferAt", "(I)LRingDriver$Ring;"⟩ ⟨"RingDriver", "bufferAt", "(I)LRingDriver$Ring;"⟩) ∈ lw_all := lw_g (lw_at lw_ms 1 rfl) rfl
theorem qs2 : (Cond.selects "RingDriverModel" ⟨"RingDriverModel", "describe", "(III)V"⟩ ⟨"RingDriverModel", "describe", "(III)V"⟩) ∈ lw_all := lw_g (lw_at lw_ms 2 rfl) rfl
end
section
/-! java/lang/Object -/
set_option maxRecDepth 100000
def RJ0 : String := "java/lang/Object"
abbrev cJ0_init : ByteArray := object_method_1_code
def yJ0_init : MethodName := ⟨RJ0, "<init>", "()V"⟩
theorem dJ0_init_0 : decode cJ0_init 0 = .ok (.return_, 1) := by decide +kernel
theorem q15 : (Jvm.Cond.instanceMethod ({ cls := "java/lang/Object", name := "<init>", desc := "()V" } : Jvm.MethodName)) ∈ lw_all := lw_g (lw_at lw_m1 12 rfl) rfl
theorem q16 : (Jvm.Cond.code ({ cls := "java/lang/Object", name := "<init>", desc := "()V" } : Jvm.MethodName) object_method_1_code (1 : Nat) (Option.none : Option Jvm.ClassFile.FieldType)) ∈ lw_all := lw_g (lw_at lw_m1 13 rfl) rfl
theorem q52 : (Jvm.Cond.arrayClass Jvm.ClassFile.FieldType.int) ∈ lw_all := lw_g (lw_at lw_m1 49 rfl) rfl
set_option maxRecDepth 100000
theorem q53 : (Jvm.Cond.arrayClass Jvm.ClassFile.FieldType.boolean) ∈ lw_all := lw_g (lw_at lw_m1 50 rfl) rfl
theorem q294 : (Jvm.Cond.arrayClass Jvm.ClassFile.FieldType.byte) ∈ lw_all := lw_g (lw_at lw_m2 51 rfl) rfl
/-! RingDriver$Ring -/
set_option maxRecDepth 100000
def RX1 : String := "RingDriver$Ring"
abbrev cX1_init : ByteArray := prog_3_method_1_code
def yX1_init : MethodName := ⟨RX1, "<init>", "(I)V"⟩
theorem dX1_init_0 : decode cX1_init 0 = .ok (.aload_n 0, 1) := by decide +kernel
theorem dX1_init_1 : decode cX1_init 1 = .ok (.invokespecial 3, 3) := by decide +kernel
theorem dX1_init_4 : decode cX1_init 4 = .ok (.aload_n 0, 1) := by decide +kernel
theorem dX1_init_5 : decode cX1_init 5 = .ok (.bipush 64, 2) := by decide +kernel
theorem dX1_init_7 : decode cX1_init 7 = .ok (.newarray .int, 2) := by decide +kernel
theorem dX1_init_9 : decode cX1_init 9 = .ok (.putfield 9, 3) := by decide +kernel
theorem dX1_init_12 : decode cX1_init 12 = .ok (.aload_n 0, 1) := by decide +kernel
theorem dX1_init_13 : decode cX1_init 13 = .ok (.sipush 128, 3) := by decide +kernel
theorem dX1_init_16 : decode cX1_init 16 = .ok (.newarray .int, 2) := by decide +kernel
theorem dX1_init_18 : decode cX1_init 18 = .ok (.putfield 15, 3) := by decide +kernel
theorem dX1_init_21 : decode cX1_init 21 = .ok (.aload_n 0, 1) := by decide +kernel
theorem dX1_init_22 : decode cX1_init 22 = .ok (.bipush 8, 2) := by decide +kernel
theorem dX1_init_24 : decode cX1_init 24 = .ok (.newarray .boolean, 2) := by decide +kernel
theorem dX1_init_26 : decode cX1_init 26 = .ok (.putfield 18, 3) := by decide +kernel
theorem dX1_init_29 : decode cX1_init 29 = .ok (.aload_n 0, 1) := by decide +kernel
theorem dX1_init_30 : decode cX1_init 30 = .ok (.iload_n 1, 1) := by decide +kernel
theorem dX1_init_31 : decode cX1_init 31 = .ok (.putfield 22, 3) := by decide +kernel
theorem dX1_init_34 : decode cX1_init 34 = .ok (.return_, 1) := by decide +kernel
abbrev cX1_byteOf : ByteArray := prog_3_method_10_code
def yX1_byteOf : MethodName := ⟨RX1, "byteOf", "(II)I"⟩
theorem dX1_byteOf_0 : decode cX1_byteOf 0 = .ok (.aload_n 0, 1) := by decide +kernel
theorem dX1_byteOf_1 : decode cX1_byteOf 1 = .ok (.getfield 15, 3) := by decide +kernel
theorem dX1_byteOf_4 : decode cX1_byteOf 4 = .ok (.bipush 16, 2) := by decide +kernel
theorem dX1_byteOf_6 : decode cX1_byteOf 6 = .ok (.iload_n 1, 1) := by decide +kernel
theorem dX1_byteOf_7 : decode cX1_byteOf 7 = .ok (.imul, 1) := by decide +kernel
theorem dX1_byteOf_8 : decode cX1_byteOf 8 = .ok (.iload_n 2, 1) := by decide +kernel
theorem dX1_byteOf_9 : decode cX1_byteOf 9 = .ok (.iadd, 1) := by decide +kernel
theorem dX1_byteOf_10 : decode cX1_byteOf 10 = .ok (.iaload, 1) := by decide +kernel
theorem dX1_byteOf_11 : decode cX1_byteOf 11 = .ok (.ireturn, 1) := by decide +kernel
abbrev cX1_full : ByteArray := prog_3_method_4_code
def yX1_full : MethodName := ⟨RX1, "full", "()Z"⟩
theorem dX1_full_0 : decode cX1_full 0 = .ok (.aload_n 0, 1) := by decide +kernel
theorem dX1_full_1 : decode cX1_full 1 = .ok (.getfield 26, 3) := by decide +kernel
theorem dX1_full_4 : decode cX1_full 4 = .ok (.bipush 8, 2) := by decide +kernel
theorem dX1_full_6 : decode cX1_full 6 = .ok (.if_icmp .ne 7, 3) := by decide +kernel
theorem dX1_full_9 : decode cX1_full 9 = .ok (.iconst 1, 1) := by decide +kernel
theorem dX1_full_10 : decode cX1_full 10 = .ok (.goto 4, 3) := by decide +kernel
theorem dX1_full_13 : decode cX1_full 13 = .ok (.iconst 0, 1) := by decide +kernel
theorem dX1_full_14 : decode cX1_full 14 = .ok (.ireturn, 1) := by decide +kernel
abbrev cX1_enqueue : ByteArray := prog_3_method_11_code
def yX1_enqueue : MethodName := ⟨RX1, "enqueue", "([II)I"⟩
theorem dX1_enqueue_0 : decode cX1_enqueue 0 = .ok (.aload_n 0, 1) := by decide +kernel
theorem dX1_enqueue_1 : decode cX1_enqueue 1 = .ok (.aload_n 0, 1) := by decide +kernel
theorem dX1_enqueue_2 : decode cX1_enqueue 2 = .ok (.getfield 26, 3) := by decide +kernel
theorem dX1_enqueue_5 : decode cX1_enqueue 5 = .ok (.invokevirtual 32, 3) := by decide +kernel
theorem dX1_enqueue_8 : decode cX1_enqueue 8 = .ok (.istore_n 3, 1) := by decide +kernel
theorem dX1_enqueue_9 : decode cX1_enqueue 9 = .ok (.iconst 0, 1) := by decide +kernel
theorem dX1_enqueue_10 : decode cX1_enqueue 10 = .ok (.istore 4, 2) := by decide +kernel
theorem dX1_enqueue_12 : decode cX1_enqueue 12 = .ok (.iload 4, 2) := by decide +kernel
theorem dX1_enqueue_14 : decode cX1_enqueue 14 = .ok (.bipush 16, 2) := by decide +kernel
theorem dX1_enqueue_16 : decode cX1_enqueue 16 = .ok (.if_icmp .ge 35, 3) := by decide +kernel
theorem dX1_enqueue_19 : decode cX1_enqueue 19 = .ok (.aload_n 0, 1) := by decide +kernel
theorem dX1_enqueue_20 : decode cX1_enqueue 20 = .ok (.getfield 15, 3) := by decide +kernel
theorem dX1_enqueue_23 : decode cX1_enqueue 23 = .ok (.bipush 16, 2) := by decide +kernel
theorem dX1_enqueue_25 : decode cX1_enqueue 25 = .ok (.iload_n 3, 1) := by decide +kernel
theorem dX1_enqueue_26 : decode cX1_enqueue 26 = .ok (.imul, 1) := by decide +kernel
theorem dX1_enqueue_27 : decode cX1_enqueue 27 = .ok (.iload 4, 2) := by decide +kernel
theorem dX1_enqueue_29 : decode cX1_enqueue 29 = .ok (.iadd, 1) := by decide +kernel
theorem dX1_enqueue_30 : decode cX1_enqueue 30 = .ok (.iload 4, 2) := by decide +kernel
theorem dX1_enqueue_32 : decode cX1_enqueue 32 = .ok (.iload_n 2, 1) := by decide +kernel
theorem dX1_enqueue_33 : decode cX1_enqueue 33 = .ok (.if_icmp .ge 10, 3) := by decide +kernel
theorem dX1_enqueue_36 : decode cX1_enqueue 36 = .ok (.aload_n 1, 1) := by decide +kernel
theorem dX1_enqueue_37 : decode cX1_enqueue 37 = .ok (.iload 4, 2) := by decide +kernel
theorem dX1_enqueue_39 : decode cX1_enqueue 39 = .ok (.iaload, 1) := by decide +kernel
theorem dX1_enqueue_40 : decode cX1_enqueue 40 = .ok (.goto 4, 3) := by decide +kernel
theorem dX1_enqueue_43 : decode cX1_enqueue 43 = .ok (.iconst 0, 1) := by decide +kernel
theorem dX1_enqueue_44 : decode cX1_enqueue 44 = .ok (.iastore, 1) := by decide +kernel
theorem dX1_enqueue_45 : decode cX1_enqueue 45 = .ok (.iinc 4 1, 3) := by decide +kernel
theorem dX1_enqueue_48 : decode cX1_enqueue 48 = .ok (.goto (-36), 3) := by decide +kernel
theorem dX1_enqueue_51 : decode cX1_enqueue 51 = .ok (.iconst 0, 1) := by decide +kernel
theorem dX1_enqueue_52 : decode cX1_enqueue 52 = .ok (.istore 4, 2) := by decide +kernel
theorem dX1_enqueue_54 : decode cX1_enqueue 54 = .ok (.iload 4, 2) := by decide +kernel
theorem dX1_enqueue_56 : decode cX1_enqueue 56 = .ok (.bipush 8, 2) := by decide +kernel
theorem dX1_enqueue_58 : decode cX1_enqueue 58 = .ok (.if_icmp .ge 22, 3) := by decide +kernel
theorem dX1_enqueue_61 : decode cX1_enqueue 61 = .ok (.aload_n 0, 1) := by decide +kernel
theorem dX1_enqueue_62 : decode cX1_enqueue 62 = .ok (.getfield 9, 3) := by decide +kernel
theorem dX1_enqueue_65 : decode cX1_enqueue 65 = .ok (.bipush 8, 2) := by decide +kernel
theorem dX1_enqueue_67 : decode cX1_enqueue 67 = .ok (.iload_n 3, 1) := by decide +kernel
theorem dX1_enqueue_68 : decode cX1_enqueue 68 = .ok (.imul, 1) := by decide +kernel
theorem dX1_enqueue_69 : decode cX1_enqueue 69 = .ok (.iload 4, 2) := by decide +kernel
theorem dX1_enqueue_71 : decode cX1_enqueue 71 = .ok (.iadd, 1) := by decide +kernel
theorem dX1_enqueue_72 : decode cX1_enqueue 72 = .ok (.iconst 0, 1) := by decide +kernel
theorem dX1_enqueue_73 : decode cX1_enqueue 73 = .ok (.iastore, 1) := by decide +kernel
theorem dX1_enqueue_74 : decode cX1_enqueue 74 = .ok (.iinc 4 1, 3) := by decide +kernel
theorem dX1_enqueue_77 : decode cX1_enqueue 77 = .ok (.goto (-23), 3) := by decide +kernel
theorem dX1_enqueue_80 : decode cX1_enqueue 80 = .ok (.aload_n 0, 1) := by decide +kernel
theorem dX1_enqueue_81 : decode cX1_enqueue 81 = .ok (.getfield 9, 3) := by decide +kernel
theorem dX1_enqueue_84 : decode cX1_enqueue 84 = .ok (.bipush 8, 2) := by decide +kernel
theorem dX1_enqueue_86 : decode cX1_enqueue 86 = .ok (.iload_n 3, 1) := by decide +kernel
theorem dX1_enqueue_87 : decode cX1_enqueue 87 = .ok (.imul, 1) := by decide +kernel
theorem dX1_enqueue_88 : decode cX1_enqueue 88 = .ok (.aload_n 0, 1) := by decide +kernel
theorem dX1_enqueue_89 : decode cX1_enqueue 89 = .ok (.getfield 22, 3) := by decide +kernel
theorem dX1_enqueue_92 : decode cX1_enqueue 92 = .ok (.iload_n 3, 1) := by decide +kernel
theorem dX1_enqueue_93 : decode cX1_enqueue 93 = .ok (.iadd, 1) := by decide +kernel
theorem dX1_enqueue_94 : decode cX1_enqueue 94 = .ok (.iastore, 1) := by decide +kernel
theorem dX1_enqueue_95 : decode cX1_enqueue 95 = .ok (.aload_n 0, 1) := by decide +kernel
theorem dX1_enqueue_96 : decode cX1_enqueue 96 = .ok (.getfield 9, 3) := by decide +kernel
theorem dX1_enqueue_99 : decode cX1_enqueue 99 = .ok (.bipush 8, 2) := by decide +kernel
theorem dX1_enqueue_101 : decode cX1_enqueue 101 = .ok (.iload_n 3, 1) := by decide +kernel
theorem dX1_enqueue_102 : decode cX1_enqueue 102 = .ok (.imul, 1) := by decide +kernel
theorem dX1_enqueue_103 : decode cX1_enqueue 103 = .ok (.iconst 1, 1) := by decide +kernel
theorem dX1_enqueue_104 : decode cX1_enqueue 104 = .ok (.iadd, 1) := by decide +kernel
theorem dX1_enqueue_105 : decode cX1_enqueue 105 = .ok (.iload_n 2, 1) := by decide +kernel
theorem dX1_enqueue_106 : decode cX1_enqueue 106 = .ok (.iastore, 1) := by decide +kernel
theorem dX1_enqueue_107 : decode cX1_enqueue 107 = .ok (.aload_n 0, 1) := by decide +kernel
theorem dX1_enqueue_108 : decode cX1_enqueue 108 = .ok (.getfield 9, 3) := by decide +kernel
theorem dX1_enqueue_111 : decode cX1_enqueue 111 = .ok (.bipush 8, 2) := by decide +kernel
theorem dX1_enqueue_113 : decode cX1_enqueue 113 = .ok (.iload_n 3, 1) := by decide +kernel
theorem dX1_enqueue_114 : decode cX1_enqueue 114 = .ok (.imul, 1) := by decide +kernel
theorem dX1_enqueue_115 : decode cX1_enqueue 115 = .ok (.iconst 2, 1) := by decide +kernel
theorem dX1_enqueue_116 : decode cX1_enqueue 116 = .ok (.iadd, 1) := by decide +kernel
theorem dX1_enqueue_117 : decode cX1_enqueue 117 = .ok (.iconst 1, 1) := by decide +kernel
theorem dX1_enqueue_118 : decode cX1_enqueue 118 = .ok (.iastore, 1) := by decide +kernel
theorem dX1_enqueue_119 : decode cX1_enqueue 119 = .ok (.aload_n 0, 1) := by decide +kernel
theorem dX1_enqueue_120 : decode cX1_enqueue 120 = .ok (.getfield 18, 3) := by decide +kernel
theorem dX1_enqueue_123 : decode cX1_enqueue 123 = .ok (.iload_n 3, 1) := by decide +kernel
theorem dX1_enqueue_124 : decode cX1_enqueue 124 = .ok (.iconst 1, 1) := by decide +kernel
theorem dX1_enqueue_125 : decode cX1_enqueue 125 = .ok (.bastore, 1) := by decide +kernel
theorem dX1_enqueue_126 : decode cX1_enqueue 126 = .ok (.aload_n 0, 1) := by decide +kernel
theorem dX1_enqueue_127 : decode cX1_enqueue 127 = .ok (.dup, 1) := by decide +kernel
theorem dX1_enqueue_128 : decode cX1_enqueue 128 = .ok (.getfield 26, 3) := by decide +kernel
theorem dX1_enqueue_131 : decode cX1_enqueue 131 = .ok (.iconst 1, 1) := by decide +kernel
theorem dX1_enqueue_132 : decode cX1_enqueue 132 = .ok (.iadd, 1) := by decide +kernel
theorem dX1_enqueue_133 : decode cX1_enqueue 133 = .ok (.putfield 26, 3) := by decide +kernel
theorem dX1_enqueue_136 : decode cX1_enqueue 136 = .ok (.iload_n 3, 1) := by decide +kernel
theorem dX1_enqueue_137 : decode cX1_enqueue 137 = .ok (.ireturn, 1) := by decide +kernel
abbrev cX1_slot : ByteArray := prog_3_method_6_code
def yX1_slot : MethodName := ⟨RX1, "slot", "(I)I"⟩
theorem dX1_slot_0 : decode cX1_slot 0 = .ok (.aload_n 0, 1) := by decide +kernel
theorem dX1_slot_1 : decode cX1_slot 1 = .ok (.getfield 29, 3) := by decide +kernel
theorem dX1_slot_4 : decode cX1_slot 4 = .ok (.iload_n 1, 1) := by decide +kernel
theorem dX1_slot_5 : decode cX1_slot 5 = .ok (.iadd, 1) := by decide +kernel
theorem dX1_slot_6 : decode cX1_slot 6 = .ok (.bipush 8, 2) := by decide +kernel
theorem dX1_slot_8 : decode cX1_slot 8 = .ok (.irem, 1) := by decide +kernel
theorem dX1_slot_9 : decode cX1_slot 9 = .ok (.ireturn, 1) := by decide +kernel
abbrev cX1_empty : ByteArray := prog_3_method_5_code
def yX1_empty : MethodName := ⟨RX1, "empty", "()Z"⟩
theorem dX1_empty_0 : decode cX1_empty 0 = .ok (.aload_n 0, 1) := by decide +kernel
theorem dX1_empty_1 : decode cX1_empty 1 = .ok (.getfield 26, 3) := by decide +kernel
theorem dX1_empty_4 : decode cX1_empty 4 = .ok (.ifCond .ne 7, 3) := by decide +kernel
theorem dX1_empty_7 : decode cX1_empty 7 = .ok (.iconst 1, 1) := by decide +kernel
theorem dX1_empty_8 : decode cX1_empty 8 = .ok (.goto 4, 3) := by decide +kernel
theorem dX1_empty_11 : decode cX1_empty 11 = .ok (.iconst 0, 1) := by decide +kernel
theorem dX1_empty_12 : decode cX1_empty 12 = .ok (.ireturn, 1) := by decide +kernel
abbrev cX1_owner : ByteArray := prog_3_method_7_code
def yX1_owner : MethodName := ⟨RX1, "owner", "(I)I"⟩
theorem dX1_owner_0 : decode cX1_owner 0 = .ok (.aload_n 0, 1) := by decide +kernel
theorem dX1_owner_1 : decode cX1_owner 1 = .ok (.getfield 9, 3) := by decide +kernel
theorem dX1_owner_4 : decode cX1_owner 4 = .ok (.bipush 8, 2) := by decide +kernel
theorem dX1_owner_6 : decode cX1_owner 6 = .ok (.iload_n 1, 1) := by decide +kernel
theorem dX1_owner_7 : decode cX1_owner 7 = .ok (.imul, 1) := by decide +kernel
theorem dX1_owner_8 : decode cX1_owner 8 = .ok (.iconst 2, 1) := by decide +kernel
theorem dX1_owner_9 : decode cX1_owner 9 = .ok (.iadd, 1) := by decide +kernel
theorem dX1_owner_10 : decode cX1_owner 10 = .ok (.iaload, 1) := by decide +kernel
theorem dX1_owner_11 : decode cX1_owner 11 = .ok (.ireturn, 1) := by decide +kernel
abbrev cX1_take : ByteArray := prog_3_method_12_code
def yX1_take : MethodName := ⟨RX1, "take", "()I"⟩
theorem dX1_take_0 : decode cX1_take 0 = .ok (.aload_n 0, 1) := by decide +kernel
theorem dX1_take_1 : decode cX1_take 1 = .ok (.getfield 29, 3) := by decide +kernel
theorem dX1_take_4 : decode cX1_take 4 = .ok (.istore_n 1, 1) := by decide +kernel
theorem dX1_take_5 : decode cX1_take 5 = .ok (.aload_n 0, 1) := by decide +kernel
theorem dX1_take_6 : decode cX1_take 6 = .ok (.getfield 18, 3) := by decide +kernel
theorem dX1_take_9 : decode cX1_take 9 = .ok (.iload_n 1, 1) := by decide +kernel
theorem dX1_take_10 : decode cX1_take 10 = .ok (.iconst 0, 1) := by decide +kernel
theorem dX1_take_11 : decode cX1_take 11 = .ok (.bastore, 1) := by decide +kernel
theorem dX1_take_12 : decode cX1_take 12 = .ok (.aload_n 0, 1) := by decide +kernel
theorem dX1_take_13 : decode cX1_take 13 = .ok (.aload_n 0, 1) := by decide +kernel
theorem dX1_take_14 : decode cX1_take 14 = .ok (.getfield 29, 3) := by decide +kernel
theorem dX1_take_17 : decode cX1_take 17 = .ok (.iconst 1, 1) := by decide +kernel
theorem dX1_take_18 : decode cX1_take 18 = .ok (.iadd, 1) := by decide +kernel
theorem dX1_take_19 : decode cX1_take 19 = .ok (.bipush 8, 2) := by decide +kernel
theorem dX1_take_21 : decode cX1_take 21 = .ok (.irem, 1) := by decide +kernel
theorem dX1_take_22 : decode cX1_take 22 = .ok (.putfield 29, 3) := by decide +kernel
theorem dX1_take_25 : decode cX1_take 25 = .ok (.aload_n 0, 1) := by decide +kernel
theorem dX1_take_26 : decode cX1_take 26 = .ok (.dup, 1) := by decide +kernel
theorem dX1_take_27 : decode cX1_take 27 = .ok (.getfield 26, 3) := by decide +kernel
theorem dX1_take_30 : decode cX1_take 30 = .ok (.iconst 1, 1) := by decide +kernel
theorem dX1_take_31 : decode cX1_take 31 = .ok (.isub, 1) := by decide +kernel
theorem dX1_take_32 : decode cX1_take 32 = .ok (.putfield 26, 3) := by decide +kernel
theorem dX1_take_35 : decode cX1_take 35 = .ok (.iload_n 1, 1) := by decide +kernel
theorem dX1_take_36 : decode cX1_take 36 = .ok (.ireturn, 1) := by decide +kernel
abbrev cX1_cut : ByteArray := prog_3_method_13_code
def yX1_cut : MethodName := ⟨RX1, "cut", "(I)I"⟩
theorem dX1_cut_0 : decode cX1_cut 0 = .ok (.aload_n 0, 1) := by decide +kernel
theorem dX1_cut_1 : decode cX1_cut 1 = .ok (.getfield 26, 3) := by decide +kernel
theorem dX1_cut_4 : decode cX1_cut 4 = .ok (.iload_n 1, 1) := by decide +kernel
theorem dX1_cut_5 : decode cX1_cut 5 = .ok (.isub, 1) := by decide +kernel
theorem dX1_cut_6 : decode cX1_cut 6 = .ok (.istore_n 2, 1) := by decide +kernel
theorem dX1_cut_7 : decode cX1_cut 7 = .ok (.iload_n 1, 1) := by decide +kernel
theorem dX1_cut_8 : decode cX1_cut 8 = .ok (.istore_n 3, 1) := by decide +kernel
theorem dX1_cut_9 : decode cX1_cut 9 = .ok (.iload_n 3, 1) := by decide +kernel
theorem dX1_cut_10 : decode cX1_cut 10 = .ok (.aload_n 0, 1) := by decide +kernel
theorem dX1_cut_11 : decode cX1_cut 11 = .ok (.getfield 26, 3) := by decide +kernel
theorem dX1_cut_14 : decode cX1_cut 14 = .ok (.if_icmp .ge 30, 3) := by decide +kernel
theorem dX1_cut_17 : decode cX1_cut 17 = .ok (.aload_n 0, 1) := by decide +kernel
theorem dX1_cut_18 : decode cX1_cut 18 = .ok (.iload_n 3, 1) := by decide +kernel
theorem dX1_cut_19 : decode cX1_cut 19 = .ok (.invokevirtual 32, 3) := by decide +kernel
theorem dX1_cut_22 : decode cX1_cut 22 = .ok (.istore 4, 2) := by decide +kernel
theorem dX1_cut_24 : decode cX1_cut 24 = .ok (.aload_n 0, 1) := by decide +kernel
theorem dX1_cut_25 : decode cX1_cut 25 = .ok (.getfield 18, 3) := by decide +kernel
theorem dX1_cut_28 : decode cX1_cut 28 = .ok (.iload 4, 2) := by decide +kernel
theorem dX1_cut_30 : decode cX1_cut 30 = .ok (.iconst 0, 1) := by decide +kernel
theorem dX1_cut_31 : decode cX1_cut 31 = .ok (.bastore, 1) := by decide +kernel
theorem dX1_cut_32 : decode cX1_cut 32 = .ok (.aload_n 0, 1) := by decide +kernel
theorem dX1_cut_33 : decode cX1_cut 33 = .ok (.iload 4, 2) := by decide +kernel
theorem dX1_cut_35 : decode cX1_cut 35 = .ok (.invokevirtual 36, 3) := by decide +kernel
theorem dX1_cut_38 : decode cX1_cut 38 = .ok (.iinc 3 1, 3) := by decide +kernel
theorem dX1_cut_41 : decode cX1_cut 41 = .ok (.goto (-32), 3) := by decide +kernel
theorem dX1_cut_44 : decode cX1_cut 44 = .ok (.aload_n 0, 1) := by decide +kernel
theorem dX1_cut_45 : decode cX1_cut 45 = .ok (.iload_n 1, 1) := by decide +kernel
theorem dX1_cut_46 : decode cX1_cut 46 = .ok (.putfield 26, 3) := by decide +kernel
theorem dX1_cut_49 : decode cX1_cut 49 = .ok (.iload_n 2, 1) := by decide +kernel
theorem dX1_cut_50 : decode cX1_cut 50 = .ok (.ireturn, 1) := by decide +kernel
abbrev cX1_free : ByteArray := prog_3_method_8_code
def yX1_free : MethodName := ⟨RX1, "free", "(I)V"⟩
theorem dX1_free_0 : decode cX1_free 0 = .ok (.aload_n 0, 1) := by decide +kernel
theorem dX1_free_1 : decode cX1_free 1 = .ok (.getfield 9, 3) := by decide +kernel
theorem dX1_free_4 : decode cX1_free 4 = .ok (.bipush 8, 2) := by decide +kernel
theorem dX1_free_6 : decode cX1_free 6 = .ok (.iload_n 1, 1) := by decide +kernel
theorem dX1_free_7 : decode cX1_free 7 = .ok (.imul, 1) := by decide +kernel
theorem dX1_free_8 : decode cX1_free 8 = .ok (.iconst 2, 1) := by decide +kernel
theorem dX1_free_9 : decode cX1_free 9 = .ok (.iadd, 1) := by decide +kernel
theorem dX1_free_10 : decode cX1_free 10 = .ok (.iconst 0, 1) := by decide +kernel
theorem dX1_free_11 : decode cX1_free 11 = .ok (.iastore, 1) := by decide +kernel
theorem dX1_free_12 : decode cX1_free 12 = .ok (.return_, 1) := by decide +kernel
abbrev cX1_length : ByteArray := prog_3_method_9_code
def yX1_length : MethodName := ⟨RX1, "length", "(I)I"⟩
theorem dX1_length_0 : decode cX1_length 0 = .ok (.aload_n 0, 1) := by decide +kernel
theorem dX1_length_1 : decode cX1_length 1 = .ok (.getfield 9, 3) := by decide +kernel
theorem dX1_length_4 : decode cX1_length 4 = .ok (.bipush 8, 2) := by decide +kernel
theorem dX1_length_6 : decode cX1_length 6 = .ok (.iload_n 1, 1) := by decide +kernel
theorem dX1_length_7 : decode cX1_length 7 = .ok (.imul, 1) := by decide +kernel
theorem dX1_length_8 : decode cX1_length 8 = .ok (.iconst 1, 1) := by decide +kernel
theorem dX1_length_9 : decode cX1_length 9 = .ok (.iadd, 1) := by decide +kernel
theorem dX1_length_10 : decode cX1_length 10 = .ok (.iaload, 1) := by decide +kernel
theorem dX1_length_11 : decode cX1_length 11 = .ok (.ireturn, 1) := by decide +kernel
theorem q5 : (Jvm.Cond.initialized "RingDriver$Ring") ∈ lw_all := lw_g (lw_at lw_m1 2 rfl) rfl
theorem q23 : (Jvm.Cond.instanceMethod ({ cls := "RingDriver$Ring", name := "<init>", desc := "(I)V" } : Jvm.MethodName)) ∈ lw_all := lw_g (lw_at lw_m1 20 rfl) rfl
theorem q24 : (Jvm.Cond.code ({ cls := "RingDriver$Ring", name := "<init>", desc := "(I)V" } : Jvm.MethodName) prog_3_method_1_code (2 : Nat) (Option.none : Option Jvm.ClassFile.FieldType)) ∈ lw_all := lw_g (lw_at lw_m1 21 rfl) rfl
theorem q25 : (Jvm.Cond.methodLink "RingDriver$Ring" (3 : Nat) ({ cls := "java/lang/Object", name := "<init>", desc := "()V" } : Jvm.MethodName)) ∈ lw_all := lw_g (lw_at lw_m1 22 rfl) rfl
theorem q26 : (Jvm.Cond.fieldLink "RingDriver$Ring" (22 : Nat) "RingDriver$Ring" "firstPage" "I") ∈ lw_all := lw_g (lw_at lw_m1 23 rfl) rfl
theorem q27 : (Jvm.Cond.fieldLink "RingDriver$Ring" (9 : Nat) "RingDriver$Ring" "descriptors" "[I") ∈ lw_all := lw_g (lw_at lw_m1 24 rfl) rfl
theorem q29 : (Jvm.Cond.fieldLink "RingDriver$Ring" (15 : Nat) "RingDriver$Ring" "buffers" "[I") ∈ lw_all := lw_g (lw_at lw_m1 26 rfl) rfl
theorem q31 : (Jvm.Cond.fieldLink "RingDriver$Ring" (18 : Nat) "RingDriver$Ring" "open" "[Z") ∈ lw_all := lw_g (lw_at lw_m1 28 rfl) rfl
theorem q33 : (Jvm.Cond.fieldLink "RingDriver$Ring" (29 : Nat) "RingDriver$Ring" "oldest" "I") ∈ lw_all := lw_g (lw_at lw_m1 30 rfl) rfl
theorem q34 : (Jvm.Cond.fieldLink "RingDriver$Ring" (26 : Nat) "RingDriver$Ring" "count" "I") ∈ lw_all := lw_g (lw_at lw_m1 31 rfl) rfl
theorem q40 : (Jvm.Cond.soleField "RingDriver$Ring" "firstPage") ∈ lw_all := lw_g (lw_at lw_m1 37 rfl) rfl
theorem q42 : (Jvm.Cond.soleField "RingDriver$Ring" "descriptors") ∈ lw_all := lw_g (lw_at lw_m1 39 rfl) rfl
theorem q44 : (Jvm.Cond.soleField "RingDriver$Ring" "buffers") ∈ lw_all := lw_g (lw_at lw_m1 41 rfl) rfl
theorem q46 : (Jvm.Cond.soleField "RingDriver$Ring" "open") ∈ lw_all := lw_g (lw_at lw_m1 43 rfl) rfl
theorem q48 : (Jvm.Cond.soleField "RingDriver$Ring" "oldest") ∈ lw_all := lw_g (lw_at lw_m1 45 rfl) rfl
theorem q50 : (Jvm.Cond.soleField "RingDriver$Ring" "count") ∈ lw_all := lw_g (lw_at lw_m1 47 rfl) rfl
theorem q99 : (Jvm.Cond.declares ({ cls := "RingDriver$Ring", name := "mayRead", desc := "()Z" } : Jvm.MethodName)) ∈ lw_tbl := lw_at lw_m1 96 rfl
theorem q100 : (Jvm.Cond.sameMethod "RingDriver$Ring" "RingDriver$Ring" "mayRead" "()Z") ∈ lw_all := lw_g (lw_at lw_m1 97 rfl) rfl
theorem q111 : (Jvm.Cond.instanceMethod ({ cls := "RingDriver$Ring", name := "byteOf", desc := "(II)I" } : Jvm.MethodName)) ∈ lw_all := lw_g (lw_at lw_m1 108 rfl) rfl
theorem q112 : (Jvm.Cond.sameMethod "RingDriver$Ring" "RingDriver$Ring" "byteOf" "(II)I") ∈ lw_all := lw_g (lw_at lw_m1 109 rfl) rfl
theorem q115 : (Jvm.Cond.code ({ cls := "RingDriver$Ring", name := "byteOf", desc := "(II)I" } : Jvm.MethodName) prog_3_method_10_code (3 : Nat) (Option.some Jvm.ClassFile.FieldType.int)) ∈ lw_all := lw_g (lw_at lw_m1 112 rfl) rfl
theorem q121 : (Jvm.Cond.declares ({ cls := "RingDriver$Ring", name := "mayWrite", desc := "()Z" } : Jvm.MethodName)) ∈ lw_tbl := lw_at lw_m1 118 rfl
theorem q122 : (Jvm.Cond.sameMethod "RingDriver$Ring" "RingDriver$Ring" "mayWrite" "()Z") ∈ lw_all := lw_g (lw_at lw_m1 119 rfl) rfl
theorem q143 : (Jvm.Cond.declares ({ cls := "RingDriver$Ring", name := "full", desc := "()Z" } : Jvm.MethodName)) ∈ lw_tbl := lw_at lw_m1 140 rfl
theorem q145 : (Jvm.Cond.instanceMethod ({ cls := "RingDriver$Ring", name := "full", desc := "()Z" } : Jvm.MethodName)) ∈ lw_all := lw_g (lw_at lw_m1 142 rfl) rfl
theorem q146 : (Jvm.Cond.code ({ cls := "RingDriver$Ring", name := "full", desc := "()Z" } : Jvm.MethodName) prog_3_method_4_code (1 : Nat) (Option.some Jvm.ClassFile.FieldType.boolean)) ∈ lw_all := lw_g (lw_at lw_m1 143 rfl) rfl
theorem q149 : (Jvm.Cond.declares ({ cls := "RingDriver$Ring", name := "enqueue", desc := "([II)I" } : Jvm.MethodName)) ∈ lw_tbl := lw_at lw_m1 146 rfl
theorem q151 : (Jvm.Cond.instanceMethod ({ cls := "RingDriver$Ring", name := "enqueue", desc := "([II)I" } : Jvm.MethodName)) ∈ lw_all := lw_g (lw_at lw_m1 148 rfl) rfl
theorem q152 : (Jvm.Cond.code ({ cls := "RingDriver$Ring", name := "enqueue", desc := "([II)I" } : Jvm.MethodName) prog_3_method_11_code (5 : Nat) (Option.some Jvm.ClassFile.FieldType.int)) ∈ lw_all := lw_g (lw_at lw_m1 149 rfl) rfl
theorem q153 : (Jvm.Cond.methodLink "RingDriver$Ring" (32 : Nat) ({ cls := "RingDriver$Ring", name := "slot", desc := "(I)I" } : Jvm.MethodName)) ∈ lw_all := lw_g (lw_at lw_m1 150 rfl) rfl
theorem q154 : (Jvm.Cond.instanceMethod ({ cls := "RingDriver$Ring", name := "slot", desc := "(I)I" } : Jvm.MethodName)) ∈ lw_all := lw_g (lw_at lw_m1 151 rfl) rfl
theorem q155 : (Jvm.Cond.sameMethod "RingDriver$Ring" "RingDriver$Ring" "slot" "(I)I") ∈ lw_all := lw_g (lw_at lw_m1 152 rfl) rfl
theorem q158 : (Jvm.Cond.code ({ cls := "RingDriver$Ring", name := "slot", desc := "(I)I" } : Jvm.MethodName) prog_3_method_6_code (2 : Nat) (Option.some Jvm.ClassFile.FieldType.int)) ∈ lw_all := lw_g (lw_at lw_m1 155 rfl) rfl
theorem q165 : (Jvm.Cond.declares ({ cls := "RingDriver$Ring", name := "empty", desc := "()Z" } : Jvm.MethodName)) ∈ lw_tbl := lw_at lw_m1 162 rfl
theorem q167 : (Jvm.Cond.instanceMethod ({ cls := "RingDriver$Ring", name := "empty", desc := "()Z" } : Jvm.MethodName)) ∈ lw_all := lw_g (lw_at lw_m1 164 rfl) rfl
theorem q168 : (Jvm.Cond.code ({ cls := "RingDriver$Ring", name := "empty", desc := "()Z" } : Jvm.MethodName) prog_3_method_5_code (1 : Nat) (Option.some Jvm.ClassFile.FieldType.boolean)) ∈ lw_all := lw_g (lw_at lw_m1 165 rfl) rfl
theorem q171 : (Jvm.Cond.declares ({ cls := "RingDriver$Ring", name := "slot", desc := "(I)I" } : Jvm.MethodName)) ∈ lw_tbl := lw_at lw_m1 168 rfl
theorem q175 : (Jvm.Cond.declares ({ cls := "RingDriver$Ring", name := "owner", desc := "(I)I" } : Jvm.MethodName)) ∈ lw_tbl := lw_at lw_m1 172 rfl
theorem q177 : (Jvm.Cond.instanceMethod ({ cls := "RingDriver$Ring", name := "owner", desc := "(I)I" } : Jvm.MethodName)) ∈ lw_all := lw_g (lw_at lw_m1 174 rfl) rfl
theorem q178 : (Jvm.Cond.code ({ cls := "RingDriver$Ring", name := "owner", desc := "(I)I" } : Jvm.MethodName) prog_3_method_7_code (2 : Nat) (Option.some Jvm.ClassFile.FieldType.int)) ∈ lw_all := lw_g (lw_at lw_m1 175 rfl) rfl
theorem q181 : (Jvm.Cond.declares ({ cls := "RingDriver$Ring", name := "take", desc := "()I" } : Jvm.MethodName)) ∈ lw_tbl := lw_at lw_m1 178 rfl
theorem q183 : (Jvm.Cond.instanceMethod ({ cls := "RingDriver$Ring", name := "take", desc := "()I" } : Jvm.MethodName)) ∈ lw_all := lw_g (lw_at lw_m1 180 rfl) rfl
theorem q184 : (Jvm.Cond.code ({ cls := "RingDriver$Ring", name := "take", desc := "()I" } : Jvm.MethodName) prog_3_method_12_code (2 : Nat) (Option.some Jvm.ClassFile.FieldType.int)) ∈ lw_all := lw_g (lw_at lw_m1 181 rfl) rfl
theorem q192 : (Jvm.Cond.declares ({ cls := "RingDriver$Ring", name := "cut", desc := "(I)I" } : Jvm.MethodName)) ∈ lw_tbl := lw_at lw_m1 189 rfl
theorem q194 : (Jvm.Cond.instanceMethod ({ cls := "RingDriver$Ring", name := "cut", desc := "(I)I" } : Jvm.MethodName)) ∈ lw_all := lw_g (lw_at lw_m1 191 rfl) rfl
theorem q195 : (Jvm.Cond.code ({ cls := "RingDriver$Ring", name := "cut", desc := "(I)I" } : Jvm.MethodName) prog_3_method_13_code (5 : Nat) (Option.some Jvm.ClassFile.FieldType.int)) ∈ lw_all := lw_g (lw_at lw_m1 192 rfl) rfl
theorem q196 : (Jvm.Cond.methodLink "RingDriver$Ring" (36 : Nat) ({ cls := "RingDriver$Ring", name := "free", desc := "(I)V" } : Jvm.MethodName)) ∈ lw_all := lw_g (lw_at lw_m1 193 rfl) rfl
theorem q197 : (Jvm.Cond.instanceMethod ({ cls := "RingDriver$Ring", name := "free", desc := "(I)V" } : Jvm.MethodName)) ∈ lw_all := lw_g (lw_at lw_m1 194 rfl) rfl
theorem q198 : (Jvm.Cond.sameMethod "RingDriver$Ring" "RingDriver$Ring" "free" "(I)V") ∈ lw_all := lw_g (lw_at lw_m1 195 rfl) rfl
theorem q201 : (Jvm.Cond.code ({ cls := "RingDriver$Ring", name := "free", desc := "(I)V" } : Jvm.MethodName) prog_3_method_8_code (2 : Nat) (Option.none : Option Jvm.ClassFile.FieldType)) ∈ lw_all := lw_g (lw_at lw_m1 198 rfl) rfl
theorem q230 : (Jvm.Cond.declares ({ cls := "RingDriver$Ring", name := "length", desc := "(I)I" } : Jvm.MethodName)) ∈ lw_tbl := lw_at lw_m1 227 rfl
theorem q232 : (Jvm.Cond.instanceMethod ({ cls := "RingDriver$Ring", name := "length", desc := "(I)I" } : Jvm.MethodName)) ∈ lw_all := lw_g (lw_at lw_m1 229 rfl) rfl
theorem q233 : (Jvm.Cond.code ({ cls := "RingDriver$Ring", name := "length", desc := "(I)I" } : Jvm.MethodName) prog_3_method_9_code (2 : Nat) (Option.some Jvm.ClassFile.FieldType.int)) ∈ lw_all := lw_g (lw_at lw_m1 230 rfl) rfl
theorem q236 : (Jvm.Cond.declares ({ cls := "RingDriver$Ring", name := "byteOf", desc := "(II)I" } : Jvm.MethodName)) ∈ lw_tbl := lw_at lw_m1 233 rfl
/-! RingDriver$Transmit -/
set_option maxRecDepth 100000
def RX2 : String := "RingDriver$Transmit"
def TX2 : u_T := fun k => match k with
  | 0 => ("RingDriver$Ring", "firstPage", "I", true)
  | 1 => ("RingDriver$Ring", "descriptors", "[I", true)
  | 2 => ("RingDriver$Ring", "buffers", "[I", true)
  | 3 => ("RingDriver$Ring", "open", "[Z", true)
  | 4 => ("RingDriver$Ring", "oldest", "I", false)
  | _ => ("RingDriver$Ring", "count", "I", false)
def tyX2 : Nat → FieldType := fun k => match k with
  | 0 => .int
  | 1 => .array .int
  | 2 => .array .int
  | 3 => .array .boolean
  | 4 => .int
  | _ => .int
abbrev wsX20 : List Cond := u_ws RX2 TX2 6
theorem nmX2 : ∀ a, a < 6 → ∀ b, b < 6 → a ≠ b → (TX2 a).2.1 ≠ (TX2 b).2.1 := by decide +kernel
theorem tyX2_ok : ∀ k, k < 6 → parseFieldDescriptor (TX2 k).2.2.1 = some (tyX2 k) := by decide +kernel
abbrev cX2_init : ByteArray := prog_4_method_1_code
def yX2_init : MethodName := ⟨RX2, "<init>", "()V"⟩
theorem dX2_init_0 : decode cX2_init 0 = .ok (.aload_n 0, 1) := by decide +kernel
theorem dX2_init_1 : decode cX2_init 1 = .ok (.bipush 8, 2) := by decide +kernel
theorem dX2_init_3 : decode cX2_init 3 = .ok (.invokespecial 1, 3) := by decide +kernel
theorem dX2_init_6 : decode cX2_init 6 = .ok (.return_, 1) := by decide +kernel
abbrev cX2_mayRead : ByteArray := prog_4_method_2_code
def yX2_mayRead : MethodName := ⟨RX2, "mayRead", "()Z"⟩
theorem dX2_mayRead_0 : decode cX2_mayRead 0 = .ok (.iconst 1, 1) := by decide +kernel
theorem dX2_mayRead_1 : decode cX2_mayRead 1 = .ok (.ireturn, 1) := by decide +kernel
abbrev cX2_mayWrite : ByteArray := prog_4_method_3_code
def yX2_mayWrite : MethodName := ⟨RX2, "mayWrite", "()Z"⟩
theorem dX2_mayWrite_0 : decode cX2_mayWrite 0 = .ok (.iconst 0, 1) := by decide +kernel
theorem dX2_mayWrite_1 : decode cX2_mayWrite 1 = .ok (.ireturn, 1) := by decide +kernel
theorem q6 : (Jvm.Cond.initialized "RingDriver$Transmit") ∈ lw_all := lw_g (lw_at lw_m1 3 rfl) rfl
theorem q18 : (Jvm.Cond.instantiable "RingDriver$Transmit" (6 : Nat)) ∈ lw_all := lw_g (lw_at lw_m1 15 rfl) rfl
theorem q20 : (Jvm.Cond.instanceMethod ({ cls := "RingDriver$Transmit", name := "<init>", desc := "()V" } : Jvm.MethodName)) ∈ lw_all := lw_g (lw_at lw_m1 17 rfl) rfl
theorem q21 : (Jvm.Cond.code ({ cls := "RingDriver$Transmit", name := "<init>", desc := "()V" } : Jvm.MethodName) prog_4_method_1_code (1 : Nat) (Option.none : Option Jvm.ClassFile.FieldType)) ∈ lw_all := lw_g (lw_at lw_m1 18 rfl) rfl
theorem q22 : (Jvm.Cond.methodLink "RingDriver$Transmit" (1 : Nat) ({ cls := "RingDriver$Ring", name := "<init>", desc := "(I)V" } : Jvm.MethodName)) ∈ lw_all := lw_g (lw_at lw_m1 19 rfl) rfl
theorem q38 : (Jvm.Cond.sameField "RingDriver$Transmit" "RingDriver$Ring" "count" "I") ∈ lw_all := lw_g (lw_at lw_m1 35 rfl) rfl
theorem q39 : (Jvm.Cond.laysFinal "RingDriver$Transmit" "RingDriver$Ring" "firstPage" "I") ∈ lw_all := lw_g (lw_at lw_m1 36 rfl) rfl
theorem q41 : (Jvm.Cond.laysFinal "RingDriver$Transmit" "RingDriver$Ring" "descriptors" "[I") ∈ lw_all := lw_g (lw_at lw_m1 38 rfl) rfl
theorem q43 : (Jvm.Cond.laysFinal "RingDriver$Transmit" "RingDriver$Ring" "buffers" "[I") ∈ lw_all := lw_g (lw_at lw_m1 40 rfl) rfl
theorem q45 : (Jvm.Cond.laysFinal "RingDriver$Transmit" "RingDriver$Ring" "open" "[Z") ∈ lw_all := lw_g (lw_at lw_m1 42 rfl) rfl
theorem q47 : (Jvm.Cond.lays "RingDriver$Transmit" "RingDriver$Ring" "oldest" "I") ∈ lw_all := lw_g (lw_at lw_m1 44 rfl) rfl
theorem q49 : (Jvm.Cond.lays "RingDriver$Transmit" "RingDriver$Ring" "count" "I") ∈ lw_all := lw_g (lw_at lw_m1 46 rfl) rfl
theorem q51 : (Jvm.Cond.superclass "RingDriver$Transmit" "RingDriver$Ring") ∈ lw_all := lw_g (lw_at lw_m1 48 rfl) rfl
theorem q104 : (Jvm.Cond.selects "RingDriver$Transmit" ({ cls := "RingDriver$Ring", name := "mayRead", desc := "()Z" } : Jvm.MethodName) ({ cls := "RingDriver$Transmit", name := "mayRead", desc := "()Z" } : Jvm.MethodName)) ∈ lw_all := lw_g (lw_at lw_m1 101 rfl) rfl
theorem q105 : (Jvm.Cond.instanceMethod ({ cls := "RingDriver$Transmit", name := "mayRead", desc := "()Z" } : Jvm.MethodName)) ∈ lw_all := lw_g (lw_at lw_m1 102 rfl) rfl
theorem q106 : (Jvm.Cond.code ({ cls := "RingDriver$Transmit", name := "mayRead", desc := "()Z" } : Jvm.MethodName) prog_4_method_2_code (1 : Nat) (Option.some Jvm.ClassFile.FieldType.boolean)) ∈ lw_all := lw_g (lw_at lw_m1 103 rfl) rfl
theorem q114 : (Jvm.Cond.selects "RingDriver$Transmit" ({ cls := "RingDriver$Ring", name := "byteOf", desc := "(II)I" } : Jvm.MethodName) ({ cls := "RingDriver$Ring", name := "byteOf", desc := "(II)I" } : Jvm.MethodName)) ∈ lw_all := lw_g (lw_at lw_m1 111 rfl) rfl
theorem q126 : (Jvm.Cond.selects "RingDriver$Transmit" ({ cls := "RingDriver$Ring", name := "mayWrite", desc := "()Z" } : Jvm.MethodName) ({ cls := "RingDriver$Transmit", name := "mayWrite", desc := "()Z" } : Jvm.MethodName)) ∈ lw_all := lw_g (lw_at lw_m1 123 rfl) rfl
theorem q127 : (Jvm.Cond.instanceMethod ({ cls := "RingDriver$Transmit", name := "mayWrite", desc := "()Z" } : Jvm.MethodName)) ∈ lw_all := lw_g (lw_at lw_m1 124 rfl) rfl
theorem q128 : (Jvm.Cond.code ({ cls := "RingDriver$Transmit", name := "mayWrite", desc := "()Z" } : Jvm.MethodName) prog_4_method_3_code (1 : Nat) (Option.some Jvm.ClassFile.FieldType.boolean)) ∈ lw_all := lw_g (lw_at lw_m1 125 rfl) rfl
theorem q142 : (Jvm.Cond.sameMethod "RingDriver$Transmit" "RingDriver$Ring" "full" "()Z") ∈ lw_all := lw_g (lw_at lw_m1 139 rfl) rfl
theorem q144 : (Jvm.Cond.selects "RingDriver$Transmit" ({ cls := "RingDriver$Transmit", name := "full", desc := "()Z" } : Jvm.MethodName) ({ cls := "RingDriver$Ring", name := "full", desc := "()Z" } : Jvm.MethodName)) ∈ lw_all := lw_g (lw_at lw_m1 141 rfl) rfl
theorem q148 : (Jvm.Cond.sameMethod "RingDriver$Transmit" "RingDriver$Ring" "enqueue" "([II)I") ∈ lw_all := lw_g (lw_at lw_m1 145 rfl) rfl
theorem q150 : (Jvm.Cond.selects "RingDriver$Transmit" ({ cls := "RingDriver$Transmit", name := "enqueue", desc := "([II)I" } : Jvm.MethodName) ({ cls := "RingDriver$Ring", name := "enqueue", desc := "([II)I" } : Jvm.MethodName)) ∈ lw_all := lw_g (lw_at lw_m1 147 rfl) rfl
theorem q157 : (Jvm.Cond.selects "RingDriver$Transmit" ({ cls := "RingDriver$Ring", name := "slot", desc := "(I)I" } : Jvm.MethodName) ({ cls := "RingDriver$Ring", name := "slot", desc := "(I)I" } : Jvm.MethodName)) ∈ lw_all := lw_g (lw_at lw_m1 154 rfl) rfl
theorem q164 : (Jvm.Cond.sameMethod "RingDriver$Transmit" "RingDriver$Ring" "empty" "()Z") ∈ lw_all := lw_g (lw_at lw_m1 161 rfl) rfl
theorem q166 : (Jvm.Cond.selects "RingDriver$Transmit" ({ cls := "RingDriver$Transmit", name := "empty", desc := "()Z" } : Jvm.MethodName) ({ cls := "RingDriver$Ring", name := "empty", desc := "()Z" } : Jvm.MethodName)) ∈ lw_all := lw_g (lw_at lw_m1 163 rfl) rfl
theorem q170 : (Jvm.Cond.sameMethod "RingDriver$Transmit" "RingDriver$Ring" "slot" "(I)I") ∈ lw_all := lw_g (lw_at lw_m1 167 rfl) rfl
theorem q172 : (Jvm.Cond.selects "RingDriver$Transmit" ({ cls := "RingDriver$Transmit", name := "slot", desc := "(I)I" } : Jvm.MethodName) ({ cls := "RingDriver$Ring", name := "slot", desc := "(I)I" } : Jvm.MethodName)) ∈ lw_all := lw_g (lw_at lw_m1 169 rfl) rfl
theorem q174 : (Jvm.Cond.sameMethod "RingDriver$Transmit" "RingDriver$Ring" "owner" "(I)I") ∈ lw_all := lw_g (lw_at lw_m1 171 rfl) rfl
theorem q176 : (Jvm.Cond.selects "RingDriver$Transmit" ({ cls := "RingDriver$Transmit", name := "owner", desc := "(I)I" } : Jvm.MethodName) ({ cls := "RingDriver$Ring", name := "owner", desc := "(I)I" } : Jvm.MethodName)) ∈ lw_all := lw_g (lw_at lw_m1 173 rfl) rfl
theorem q180 : (Jvm.Cond.sameMethod "RingDriver$Transmit" "RingDriver$Ring" "take" "()I") ∈ lw_all := lw_g (lw_at lw_m1 177 rfl) rfl
theorem q182 : (Jvm.Cond.selects "RingDriver$Transmit" ({ cls := "RingDriver$Transmit", name := "take", desc := "()I" } : Jvm.MethodName) ({ cls := "RingDriver$Ring", name := "take", desc := "()I" } : Jvm.MethodName)) ∈ lw_all := lw_g (lw_at lw_m1 179 rfl) rfl
theorem q191 : (Jvm.Cond.sameMethod "RingDriver$Transmit" "RingDriver$Ring" "cut" "(I)I") ∈ lw_all := lw_g (lw_at lw_m1 188 rfl) rfl
theorem q193 : (Jvm.Cond.selects "RingDriver$Transmit" ({ cls := "RingDriver$Transmit", name := "cut", desc := "(I)I" } : Jvm.MethodName) ({ cls := "RingDriver$Ring", name := "cut", desc := "(I)I" } : Jvm.MethodName)) ∈ lw_all := lw_g (lw_at lw_m1 190 rfl) rfl
theorem q200 : (Jvm.Cond.selects "RingDriver$Transmit" ({ cls := "RingDriver$Ring", name := "free", desc := "(I)V" } : Jvm.MethodName) ({ cls := "RingDriver$Ring", name := "free", desc := "(I)V" } : Jvm.MethodName)) ∈ lw_all := lw_g (lw_at lw_m1 197 rfl) rfl
theorem in_X2 : ∀ w ∈ wsX20, w ∈ lw_all := lw_in wsX20 [39, 41, 43, 45, 47, 49] (by decide +kernel) (by decide +kernel)
/-! RingDriver$Receive -/
set_option maxRecDepth 100000
def RX3 : String := "RingDriver$Receive"
def TX3 : u_T := fun k => match k with
  | 0 => ("RingDriver$Ring", "firstPage", "I", true)
  | 1 => ("RingDriver$Ring", "descriptors", "[I", true)
  | 2 => ("RingDriver$Ring", "buffers", "[I", true)
  | 3 => ("RingDriver$Ring", "open", "[Z", true)
  | 4 => ("RingDriver$Ring", "oldest", "I", false)
  | _ => ("RingDriver$Ring", "count", "I", false)
def tyX3 : Nat → FieldType := fun k => match k with
  | 0 => .int
  | 1 => .array .int
  | 2 => .array .int
  | 3 => .array .boolean
  | 4 => .int
  | _ => .int
abbrev wsX30 : List Cond := u_ws RX3 TX3 6
theorem nmX3 : ∀ a, a < 6 → ∀ b, b < 6 → a ≠ b → (TX3 a).2.1 ≠ (TX3 b).2.1 := by decide +kernel
theorem tyX3_ok : ∀ k, k < 6 → parseFieldDescriptor (TX3 k).2.2.1 = some (tyX3 k) := by decide +kernel
abbrev cX3_init : ByteArray := prog_2_method_1_code
def yX3_init : MethodName := ⟨RX3, "<init>", "()V"⟩
theorem dX3_init_0 : decode cX3_init 0 = .ok (.aload_n 0, 1) := by decide +kernel
theorem dX3_init_1 : decode cX3_init 1 = .ok (.bipush 16, 2) := by decide +kernel
theorem dX3_init_3 : decode cX3_init 3 = .ok (.invokespecial 1, 3) := by decide +kernel
theorem dX3_init_6 : decode cX3_init 6 = .ok (.return_, 1) := by decide +kernel
abbrev cX3_mayRead : ByteArray := prog_2_method_2_code
def yX3_mayRead : MethodName := ⟨RX3, "mayRead", "()Z"⟩
theorem dX3_mayRead_0 : decode cX3_mayRead 0 = .ok (.iconst 0, 1) := by decide +kernel
theorem dX3_mayRead_1 : decode cX3_mayRead 1 = .ok (.ireturn, 1) := by decide +kernel
abbrev cX3_mayWrite : ByteArray := prog_2_method_3_code
def yX3_mayWrite : MethodName := ⟨RX3, "mayWrite", "()Z"⟩
theorem dX3_mayWrite_0 : decode cX3_mayWrite 0 = .ok (.iconst 1, 1) := by decide +kernel
theorem dX3_mayWrite_1 : decode cX3_mayWrite 1 = .ok (.ireturn, 1) := by decide +kernel
theorem q7 : (Jvm.Cond.initialized "RingDriver$Receive") ∈ lw_all := lw_g (lw_at lw_m1 4 rfl) rfl
theorem q36 : (Jvm.Cond.sameField "RingDriver$Receive" "RingDriver$Ring" "count" "I") ∈ lw_all := lw_g (lw_at lw_m1 33 rfl) rfl
theorem q55 : (Jvm.Cond.instantiable "RingDriver$Receive" (6 : Nat)) ∈ lw_all := lw_g (lw_at lw_m1 52 rfl) rfl
theorem q57 : (Jvm.Cond.instanceMethod ({ cls := "RingDriver$Receive", name := "<init>", desc := "()V" } : Jvm.MethodName)) ∈ lw_all := lw_g (lw_at lw_m1 54 rfl) rfl
theorem q58 : (Jvm.Cond.code ({ cls := "RingDriver$Receive", name := "<init>", desc := "()V" } : Jvm.MethodName) prog_2_method_1_code (1 : Nat) (Option.none : Option Jvm.ClassFile.FieldType)) ∈ lw_all := lw_g (lw_at lw_m1 55 rfl) rfl
theorem q59 : (Jvm.Cond.methodLink "RingDriver$Receive" (1 : Nat) ({ cls := "RingDriver$Ring", name := "<init>", desc := "(I)V" } : Jvm.MethodName)) ∈ lw_all := lw_g (lw_at lw_m1 56 rfl) rfl
theorem q60 : (Jvm.Cond.laysFinal "RingDriver$Receive" "RingDriver$Ring" "firstPage" "I") ∈ lw_all := lw_g (lw_at lw_m1 57 rfl) rfl
theorem q61 : (Jvm.Cond.laysFinal "RingDriver$Receive" "RingDriver$Ring" "descriptors" "[I") ∈ lw_all := lw_g (lw_at lw_m1 58 rfl) rfl
theorem q62 : (Jvm.Cond.laysFinal "RingDriver$Receive" "RingDriver$Ring" "buffers" "[I") ∈ lw_all := lw_g (lw_at lw_m1 59 rfl) rfl
theorem q63 : (Jvm.Cond.laysFinal "RingDriver$Receive" "RingDriver$Ring" "open" "[Z") ∈ lw_all := lw_g (lw_at lw_m1 60 rfl) rfl
theorem q64 : (Jvm.Cond.lays "RingDriver$Receive" "RingDriver$Ring" "oldest" "I") ∈ lw_all := lw_g (lw_at lw_m1 61 rfl) rfl
theorem q65 : (Jvm.Cond.lays "RingDriver$Receive" "RingDriver$Ring" "count" "I") ∈ lw_all := lw_g (lw_at lw_m1 62 rfl) rfl
theorem q66 : (Jvm.Cond.superclass "RingDriver$Receive" "RingDriver$Ring") ∈ lw_all := lw_g (lw_at lw_m1 63 rfl) rfl
theorem q101 : (Jvm.Cond.selects "RingDriver$Receive" ({ cls := "RingDriver$Ring", name := "mayRead", desc := "()Z" } : Jvm.MethodName) ({ cls := "RingDriver$Receive", name := "mayRead", desc := "()Z" } : Jvm.MethodName)) ∈ lw_all := lw_g (lw_at lw_m1 98 rfl) rfl
theorem q102 : (Jvm.Cond.instanceMethod ({ cls := "RingDriver$Receive", name := "mayRead", desc := "()Z" } : Jvm.MethodName)) ∈ lw_all := lw_g (lw_at lw_m1 99 rfl) rfl
theorem q103 : (Jvm.Cond.code ({ cls := "RingDriver$Receive", name := "mayRead", desc := "()Z" } : Jvm.MethodName) prog_2_method_2_code (1 : Nat) (Option.some Jvm.ClassFile.FieldType.boolean)) ∈ lw_all := lw_g (lw_at lw_m1 100 rfl) rfl
theorem q113 : (Jvm.Cond.selects "RingDriver$Receive" ({ cls := "RingDriver$Ring", name := "byteOf", desc := "(II)I" } : Jvm.MethodName) ({ cls := "RingDriver$Ring", name := "byteOf", desc := "(II)I" } : Jvm.MethodName)) ∈ lw_all := lw_g (lw_at lw_m1 110 rfl) rfl
theorem q123 : (Jvm.Cond.selects "RingDriver$Receive" ({ cls := "RingDriver$Ring", name := "mayWrite", desc := "()Z" } : Jvm.MethodName) ({ cls := "RingDriver$Receive", name := "mayWrite", desc := "()Z" } : Jvm.MethodName)) ∈ lw_all := lw_g (lw_at lw_m1 120 rfl) rfl
theorem q124 : (Jvm.Cond.instanceMethod ({ cls := "RingDriver$Receive", name := "mayWrite", desc := "()Z" } : Jvm.MethodName)) ∈ lw_all := lw_g (lw_at lw_m1 121 rfl) rfl
theorem q125 : (Jvm.Cond.code ({ cls := "RingDriver$Receive", name := "mayWrite", desc := "()Z" } : Jvm.MethodName) prog_2_method_3_code (1 : Nat) (Option.some Jvm.ClassFile.FieldType.boolean)) ∈ lw_all := lw_g (lw_at lw_m1 122 rfl) rfl
theorem q156 : (Jvm.Cond.selects "RingDriver$Receive" ({ cls := "RingDriver$Ring", name := "slot", desc := "(I)I" } : Jvm.MethodName) ({ cls := "RingDriver$Ring", name := "slot", desc := "(I)I" } : Jvm.MethodName)) ∈ lw_all := lw_g (lw_at lw_m1 153 rfl) rfl
theorem q199 : (Jvm.Cond.selects "RingDriver$Receive" ({ cls := "RingDriver$Ring", name := "free", desc := "(I)V" } : Jvm.MethodName) ({ cls := "RingDriver$Ring", name := "free", desc := "(I)V" } : Jvm.MethodName)) ∈ lw_all := lw_g (lw_at lw_m1 196 rfl) rfl
theorem q207 : (Jvm.Cond.sameMethod "RingDriver$Receive" "RingDriver$Ring" "full" "()Z") ∈ lw_all := lw_g (lw_at lw_m1 204 rfl) rfl
theorem q208 : (Jvm.Cond.selects "RingDriver$Receive" ({ cls := "RingDriver$Receive", name := "full", desc := "()Z" } : Jvm.MethodName) ({ cls := "RingDriver$Ring", name := "full", desc := "()Z" } : Jvm.MethodName)) ∈ lw_all := lw_g (lw_at lw_m1 205 rfl) rfl
theorem q210 : (Jvm.Cond.sameMethod "RingDriver$Receive" "RingDriver$Ring" "enqueue" "([II)I") ∈ lw_all := lw_g (lw_at lw_m1 207 rfl) rfl
theorem q211 : (Jvm.Cond.selects "RingDriver$Receive" ({ cls := "RingDriver$Receive", name := "enqueue", desc := "([II)I" } : Jvm.MethodName) ({ cls := "RingDriver$Ring", name := "enqueue", desc := "([II)I" } : Jvm.MethodName)) ∈ lw_all := lw_g (lw_at lw_m1 208 rfl) rfl
theorem q217 : (Jvm.Cond.sameMethod "RingDriver$Receive" "RingDriver$Ring" "empty" "()Z") ∈ lw_all := lw_g (lw_at lw_m1 214 rfl) rfl
theorem q218 : (Jvm.Cond.selects "RingDriver$Receive" ({ cls := "RingDriver$Receive", name := "empty", desc := "()Z" } : Jvm.MethodName) ({ cls := "RingDriver$Ring", name := "empty", desc := "()Z" } : Jvm.MethodName)) ∈ lw_all := lw_g (lw_at lw_m1 215 rfl) rfl
theorem q220 : (Jvm.Cond.sameMethod "RingDriver$Receive" "RingDriver$Ring" "slot" "(I)I") ∈ lw_all := lw_g (lw_at lw_m1 217 rfl) rfl
theorem q221 : (Jvm.Cond.selects "RingDriver$Receive" ({ cls := "RingDriver$Receive", name := "slot", desc := "(I)I" } : Jvm.MethodName) ({ cls := "RingDriver$Ring", name := "slot", desc := "(I)I" } : Jvm.MethodName)) ∈ lw_all := lw_g (lw_at lw_m1 218 rfl) rfl
theorem q223 : (Jvm.Cond.sameMethod "RingDriver$Receive" "RingDriver$Ring" "owner" "(I)I") ∈ lw_all := lw_g (lw_at lw_m1 220 rfl) rfl
theorem q224 : (Jvm.Cond.selects "RingDriver$Receive" ({ cls := "RingDriver$Receive", name := "owner", desc := "(I)I" } : Jvm.MethodName) ({ cls := "RingDriver$Ring", name := "owner", desc := "(I)I" } : Jvm.MethodName)) ∈ lw_all := lw_g (lw_at lw_m1 221 rfl) rfl
theorem q226 : (Jvm.Cond.sameMethod "RingDriver$Receive" "RingDriver$Ring" "take" "()I") ∈ lw_all := lw_g (lw_at lw_m1 223 rfl) rfl
theorem q227 : (Jvm.Cond.selects "RingDriver$Receive" ({ cls := "RingDriver$Receive", name := "take", desc := "()I" } : Jvm.MethodName) ({ cls := "RingDriver$Ring", name := "take", desc := "()I" } : Jvm.MethodName)) ∈ lw_all := lw_g (lw_at lw_m1 224 rfl) rfl
theorem q229 : (Jvm.Cond.sameMethod "RingDriver$Receive" "RingDriver$Ring" "length" "(I)I") ∈ lw_all := lw_g (lw_at lw_m1 226 rfl) rfl
theorem q231 : (Jvm.Cond.selects "RingDriver$Receive" ({ cls := "RingDriver$Receive", name := "length", desc := "(I)I" } : Jvm.MethodName) ({ cls := "RingDriver$Ring", name := "length", desc := "(I)I" } : Jvm.MethodName)) ∈ lw_all := lw_g (lw_at lw_m1 228 rfl) rfl
theorem q235 : (Jvm.Cond.sameMethod "RingDriver$Receive" "RingDriver$Ring" "byteOf" "(II)I") ∈ lw_all := lw_g (lw_at lw_m1 232 rfl) rfl
theorem q237 : (Jvm.Cond.selects "RingDriver$Receive" ({ cls := "RingDriver$Receive", name := "byteOf", desc := "(II)I" } : Jvm.MethodName) ({ cls := "RingDriver$Ring", name := "byteOf", desc := "(II)I" } : Jvm.MethodName)) ∈ lw_all := lw_g (lw_at lw_m1 234 rfl) rfl
theorem q247 : (Jvm.Cond.sameMethod "RingDriver$Receive" "RingDriver$Ring" "cut" "(I)I") ∈ lw_all := lw_g (lw_at lw_m2 4 rfl) rfl
theorem q248 : (Jvm.Cond.selects "RingDriver$Receive" ({ cls := "RingDriver$Receive", name := "cut", desc := "(I)I" } : Jvm.MethodName) ({ cls := "RingDriver$Ring", name := "cut", desc := "(I)I" } : Jvm.MethodName)) ∈ lw_all := lw_g (lw_at lw_m2 5 rfl) rfl
theorem in_X3 : ∀ w ∈ wsX30, w ∈ lw_all := lw_in wsX30 [60, 61, 62, 63, 64, 65] (by decide +kernel) (by decide +kernel)
end
section
/-! RingDriver -/
set_option maxRecDepth 100000
def RX0 : String := "RingDriver"
def TX0 : u_T := fun k => match k with
  | 0 => ("RingDriver", "transmit", "LRingDriver$Transmit;", true)
  | 1 => ("RingDriver", "receive", "LRingDriver$Receive;", true)
  | 2 => ("RingDriver", "outBox", "[I", true)
  | 3 => ("RingDriver", "inBox", "[I", true)
  | _ => ("RingDriver", "faults", "I", false)
def tyX0 : Nat → FieldType := fun k => match k with
  | 0 => .object "RingDriver$Transmit"
  | 1 => .object "RingDriver$Receive"
  | 2 => .array .int
  | 3 => .array .int
  | _ => .int
abbrev wsX00 : List Cond := u_ws RX0 TX0 5
theorem nmX0 : ∀ a, a < 5 → ∀ b, b < 5 → a ≠ b → (TX0 a).2.1 ≠ (TX0 b).2.1 := by decide +kernel
theorem tyX0_ok : ∀ k, k < 5 → parseFieldDescriptor (TX0 k).2.2.1 = some (tyX0 k) := by decide +kernel
abbrev cX0_init : ByteArray := prog_1_method_1_code
def yX0_init : MethodName := ⟨RX0, "<init>", "()V"⟩
theorem dX0_init_0 : decode cX0_init 0 = .ok (.aload_n 0, 1) := by decide +kernel
theorem dX0_init_1 : decode cX0_init 1 = .ok (.invokespecial 1, 3) := by decide +kernel
theorem dX0_init_4 : decode cX0_init 4 = .ok (.aload_n 0, 1) := by decide +kernel
theorem dX0_init_5 : decode cX0_init 5 = .ok (.new 7, 3) := by decide +kernel
theorem dX0_init_8 : decode cX0_init 8 = .ok (.dup, 1) := by decide +kernel
theorem dX0_init_9 : decode cX0_init 9 = .ok (.invokespecial 9, 3) := by decide +kernel
theorem dX0_init_12 : decode cX0_init 12 = .ok (.putfield 10, 3) := by decide +kernel
theorem dX0_init_15 : decode cX0_init 15 = .ok (.aload_n 0, 1) := by decide +kernel
theorem dX0_init_16 : decode cX0_init 16 = .ok (.new 16, 3) := by decide +kernel
theorem dX0_init_19 : decode cX0_init 19 = .ok (.dup, 1) := by decide +kernel
theorem dX0_init_20 : decode cX0_init 20 = .ok (.invokespecial 18, 3) := by decide +kernel
theorem dX0_init_23 : decode cX0_init 23 = .ok (.putfield 19, 3) := by decide +kernel
theorem dX0_init_26 : decode cX0_init 26 = .ok (.aload_n 0, 1) := by decide +kernel
theorem dX0_init_27 : decode cX0_init 27 = .ok (.bipush 16, 2) := by decide +kernel
theorem dX0_init_29 : decode cX0_init 29 = .ok (.newarray .int, 2) := by decide +kernel
theorem dX0_init_31 : decode cX0_init 31 = .ok (.putfield 23, 3) := by decide +kernel
theorem dX0_init_34 : decode cX0_init 34 = .ok (.aload_n 0, 1) := by decide +kernel
theorem dX0_init_35 : decode cX0_init 35 = .ok (.bipush 16, 2) := by decide +kernel
theorem dX0_init_37 : decode cX0_init 37 = .ok (.newarray .int, 2) := by decide +kernel
theorem dX0_init_39 : decode cX0_init 39 = .ok (.putfield 27, 3) := by decide +kernel
theorem dX0_init_42 : decode cX0_init 42 = .ok (.return_, 1) := by decide +kernel
abbrev cX0_deviceRead : ByteArray := prog_1_method_6_code
def yX0_deviceRead : MethodName := ⟨RX0, "deviceRead", "(I)I"⟩
theorem dX0_deviceRead_0 : decode cX0_deviceRead 0 = .ok (.iload_n 1, 1) := by decide +kernel
theorem dX0_deviceRead_1 : decode cX0_deviceRead 1 = .ok (.invokestatic 30, 3) := by decide +kernel
theorem dX0_deviceRead_4 : decode cX0_deviceRead 4 = .ok (.ifCond .eq 17, 3) := by decide +kernel
theorem dX0_deviceRead_7 : decode cX0_deviceRead 7 = .ok (.aload_n 0, 1) := by decide +kernel
theorem dX0_deviceRead_8 : decode cX0_deviceRead 8 = .ok (.iload_n 1, 1) := by decide +kernel
theorem dX0_deviceRead_9 : decode cX0_deviceRead 9 = .ok (.invokevirtual 34, 3) := by decide +kernel
theorem dX0_deviceRead_12 : decode cX0_deviceRead 12 = .ok (.getfield 38, 3) := by decide +kernel
theorem dX0_deviceRead_15 : decode cX0_deviceRead 15 = .ok (.iload_n 1, 1) := by decide +kernel
theorem dX0_deviceRead_16 : decode cX0_deviceRead 16 = .ok (.bipush 64, 2) := by decide +kernel
theorem dX0_deviceRead_18 : decode cX0_deviceRead 18 = .ok (.irem, 1) := by decide +kernel
theorem dX0_deviceRead_19 : decode cX0_deviceRead 19 = .ok (.iaload, 1) := by decide +kernel
theorem dX0_deviceRead_20 : decode cX0_deviceRead 20 = .ok (.ireturn, 1) := by decide +kernel
theorem dX0_deviceRead_21 : decode cX0_deviceRead 21 = .ok (.aload_n 0, 1) := by decide +kernel
theorem dX0_deviceRead_22 : decode cX0_deviceRead 22 = .ok (.iload_n 1, 1) := by decide +kernel
theorem dX0_deviceRead_23 : decode cX0_deviceRead 23 = .ok (.invokevirtual 43, 3) := by decide +kernel
theorem dX0_deviceRead_26 : decode cX0_deviceRead 26 = .ok (.astore_n 2, 1) := by decide +kernel
theorem dX0_deviceRead_27 : decode cX0_deviceRead 27 = .ok (.aload_n 2, 1) := by decide +kernel
theorem dX0_deviceRead_28 : decode cX0_deviceRead 28 = .ok (.ifnull 35, 3) := by decide +kernel
theorem dX0_deviceRead_31 : decode cX0_deviceRead 31 = .ok (.aload_n 2, 1) := by decide +kernel
theorem dX0_deviceRead_32 : decode cX0_deviceRead 32 = .ok (.invokevirtual 46, 3) := by decide +kernel
theorem dX0_deviceRead_35 : decode cX0_deviceRead 35 = .ok (.ifCond .eq 28, 3) := by decide +kernel
theorem dX0_deviceRead_38 : decode cX0_deviceRead 38 = .ok (.aload_n 2, 1) := by decide +kernel
theorem dX0_deviceRead_39 : decode cX0_deviceRead 39 = .ok (.getfield 50, 3) := by decide +kernel
theorem dX0_deviceRead_42 : decode cX0_deviceRead 42 = .ok (.iload_n 1, 1) := by decide +kernel
theorem dX0_deviceRead_43 : decode cX0_deviceRead 43 = .ok (.invokestatic 54, 3) := by decide +kernel
theorem dX0_deviceRead_46 : decode cX0_deviceRead 46 = .ok (.baload, 1) := by decide +kernel
theorem dX0_deviceRead_47 : decode cX0_deviceRead 47 = .ok (.ifCond .eq 16, 3) := by decide +kernel
theorem dX0_deviceRead_50 : decode cX0_deviceRead 50 = .ok (.aload_n 2, 1) := by decide +kernel
theorem dX0_deviceRead_51 : decode cX0_deviceRead 51 = .ok (.iload_n 1, 1) := by decide +kernel
theorem dX0_deviceRead_52 : decode cX0_deviceRead 52 = .ok (.invokestatic 54, 3) := by decide +kernel
theorem dX0_deviceRead_55 : decode cX0_deviceRead 55 = .ok (.iload_n 1, 1) := by decide +kernel
theorem dX0_deviceRead_56 : decode cX0_deviceRead 56 = .ok (.bipush 16, 2) := by decide +kernel
theorem dX0_deviceRead_58 : decode cX0_deviceRead 58 = .ok (.irem, 1) := by decide +kernel
theorem dX0_deviceRead_59 : decode cX0_deviceRead 59 = .ok (.invokevirtual 58, 3) := by decide +kernel
theorem dX0_deviceRead_62 : decode cX0_deviceRead 62 = .ok (.ireturn, 1) := by decide +kernel
theorem dX0_deviceRead_63 : decode cX0_deviceRead 63 = .ok (.aload_n 0, 1) := by decide +kernel
theorem dX0_deviceRead_64 : decode cX0_deviceRead 64 = .ok (.dup, 1) := by decide +kernel
theorem dX0_deviceRead_65 : decode cX0_deviceRead 65 = .ok (.getfield 62, 3) := by decide +kernel
theorem dX0_deviceRead_68 : decode cX0_deviceRead 68 = .ok (.iconst 1, 1) := by decide +kernel
theorem dX0_deviceRead_69 : decode cX0_deviceRead 69 = .ok (.iadd, 1) := by decide +kernel
theorem dX0_deviceRead_70 : decode cX0_deviceRead 70 = .ok (.putfield 62, 3) := by decide +kernel
theorem dX0_deviceRead_73 : decode cX0_deviceRead 73 = .ok (.iconst (-1), 1) := by decide +kernel
theorem dX0_deviceRead_74 : decode cX0_deviceRead 74 = .ok (.ireturn, 1) := by decide +kernel
abbrev cX0_isRing : ByteArray := prog_1_method_2_code
def yX0_isRing : MethodName := ⟨RX0, "isRing", "(I)Z"⟩
theorem dX0_isRing_0 : decode cX0_isRing 0 = .ok (.iload_n 0, 1) := by decide +kernel
theorem dX0_isRing_1 : decode cX0_isRing 1 = .ok (.ifCond .lt 14, 3) := by decide +kernel
theorem dX0_isRing_4 : decode cX0_isRing 4 = .ok (.iload_n 0, 1) := by decide +kernel
theorem dX0_isRing_5 : decode cX0_isRing 5 = .ok (.sipush 128, 3) := by decide +kernel
theorem dX0_isRing_8 : decode cX0_isRing 8 = .ok (.if_icmp .ge 7, 3) := by decide +kernel
theorem dX0_isRing_11 : decode cX0_isRing 11 = .ok (.iconst 1, 1) := by decide +kernel
theorem dX0_isRing_12 : decode cX0_isRing 12 = .ok (.goto 4, 3) := by decide +kernel
theorem dX0_isRing_15 : decode cX0_isRing 15 = .ok (.iconst 0, 1) := by decide +kernel
theorem dX0_isRing_16 : decode cX0_isRing 16 = .ok (.ireturn, 1) := by decide +kernel
abbrev cX0_ringAt : ByteArray := prog_1_method_3_code
def yX0_ringAt : MethodName := ⟨RX0, "ringAt", "(I)LRingDriver$Ring;"⟩
theorem dX0_ringAt_0 : decode cX0_ringAt 0 = .ok (.iload_n 1, 1) := by decide +kernel
theorem dX0_ringAt_1 : decode cX0_ringAt 1 = .ok (.bipush 64, 2) := by decide +kernel
theorem dX0_ringAt_3 : decode cX0_ringAt 3 = .ok (.if_icmp .ge 10, 3) := by decide +kernel
theorem dX0_ringAt_6 : decode cX0_ringAt 6 = .ok (.aload_n 0, 1) := by decide +kernel
theorem dX0_ringAt_7 : decode cX0_ringAt 7 = .ok (.getfield 10, 3) := by decide +kernel
theorem dX0_ringAt_10 : decode cX0_ringAt 10 = .ok (.goto 7, 3) := by decide +kernel
theorem dX0_ringAt_13 : decode cX0_ringAt 13 = .ok (.aload_n 0, 1) := by decide +kernel
theorem dX0_ringAt_14 : decode cX0_ringAt 14 = .ok (.getfield 19, 3) := by decide +kernel
theorem dX0_ringAt_17 : decode cX0_ringAt 17 = .ok (.areturn, 1) := by decide +kernel
abbrev cX0_bufferAt : ByteArray := prog_1_method_4_code
def yX0_bufferAt : MethodName := ⟨RX0, "bufferAt", "(I)LRingDriver$Ring;"⟩
theorem dX0_bufferAt_0 : decode cX0_bufferAt 0 = .ok (.iload_n 1, 1) := by decide +kernel
theorem dX0_bufferAt_1 : decode cX0_bufferAt 1 = .ok (.sipush 128, 3) := by decide +kernel
theorem dX0_bufferAt_4 : decode cX0_bufferAt 4 = .ok (.if_icmp .lt 10, 3) := by decide +kernel
theorem dX0_bufferAt_7 : decode cX0_bufferAt 7 = .ok (.iload_n 1, 1) := by decide +kernel
theorem dX0_bufferAt_8 : decode cX0_bufferAt 8 = .ok (.sipush 384, 3) := by decide +kernel
theorem dX0_bufferAt_11 : decode cX0_bufferAt 11 = .ok (.if_icmp .lt 5, 3) := by decide +kernel
theorem dX0_bufferAt_14 : decode cX0_bufferAt 14 = .ok (.aconst_null, 1) := by decide +kernel
theorem dX0_bufferAt_15 : decode cX0_bufferAt 15 = .ok (.areturn, 1) := by decide +kernel
theorem dX0_bufferAt_16 : decode cX0_bufferAt 16 = .ok (.iload_n 1, 1) := by decide +kernel
theorem dX0_bufferAt_17 : decode cX0_bufferAt 17 = .ok (.sipush 256, 3) := by decide +kernel
theorem dX0_bufferAt_20 : decode cX0_bufferAt 20 = .ok (.if_icmp .ge 10, 3) := by decide +kernel
theorem dX0_bufferAt_23 : decode cX0_bufferAt 23 = .ok (.aload_n 0, 1) := by decide +kernel
theorem dX0_bufferAt_24 : decode cX0_bufferAt 24 = .ok (.getfield 10, 3) := by decide +kernel
theorem dX0_bufferAt_27 : decode cX0_bufferAt 27 = .ok (.goto 7, 3) := by decide +kernel
theorem dX0_bufferAt_30 : decode cX0_bufferAt 30 = .ok (.aload_n 0, 1) := by decide +kernel
theorem dX0_bufferAt_31 : decode cX0_bufferAt 31 = .ok (.getfield 19, 3) := by decide +kernel
theorem dX0_bufferAt_34 : decode cX0_bufferAt 34 = .ok (.areturn, 1) := by decide +kernel
abbrev cX0_slotAt : ByteArray := prog_1_method_5_code
def yX0_slotAt : MethodName := ⟨RX0, "slotAt", "(I)I"⟩
theorem dX0_slotAt_0 : decode cX0_slotAt 0 = .ok (.iload_n 0, 1) := by decide +kernel
theorem dX0_slotAt_1 : decode cX0_slotAt 1 = .ok (.bipush 16, 2) := by decide +kernel
theorem dX0_slotAt_3 : decode cX0_slotAt 3 = .ok (.idiv, 1) := by decide +kernel
theorem dX0_slotAt_4 : decode cX0_slotAt 4 = .ok (.bipush 8, 2) := by decide +kernel
theorem dX0_slotAt_6 : decode cX0_slotAt 6 = .ok (.irem, 1) := by decide +kernel
theorem dX0_slotAt_7 : decode cX0_slotAt 7 = .ok (.ireturn, 1) := by decide +kernel
abbrev cX0_deviceWrite : ByteArray := prog_1_method_7_code
def yX0_deviceWrite : MethodName := ⟨RX0, "deviceWrite", "(II)I"⟩
theorem dX0_deviceWrite_0 : decode cX0_deviceWrite 0 = .ok (.iload_n 1, 1) := by decide +kernel
theorem dX0_deviceWrite_1 : decode cX0_deviceWrite 1 = .ok (.invokestatic 30, 3) := by decide +kernel
theorem dX0_deviceWrite_4 : decode cX0_deviceWrite 4 = .ok (.ifCond .eq 23, 3) := by decide +kernel
theorem dX0_deviceWrite_7 : decode cX0_deviceWrite 7 = .ok (.aload_n 0, 1) := by decide +kernel
theorem dX0_deviceWrite_8 : decode cX0_deviceWrite 8 = .ok (.iload_n 1, 1) := by decide +kernel
theorem dX0_deviceWrite_9 : decode cX0_deviceWrite 9 = .ok (.invokevirtual 34, 3) := by decide +kernel
theorem dX0_deviceWrite_12 : decode cX0_deviceWrite 12 = .ok (.getfield 38, 3) := by decide +kernel
theorem dX0_deviceWrite_15 : decode cX0_deviceWrite 15 = .ok (.iload_n 1, 1) := by decide +kernel
theorem dX0_deviceWrite_16 : decode cX0_deviceWrite 16 = .ok (.bipush 64, 2) := by decide +kernel
theorem dX0_deviceWrite_18 : decode cX0_deviceWrite 18 = .ok (.irem, 1) := by decide +kernel
theorem dX0_deviceWrite_19 : decode cX0_deviceWrite 19 = .ok (.iload_n 2, 1) := by decide +kernel
theorem dX0_deviceWrite_20 : decode cX0_deviceWrite 20 = .ok (.sipush 255, 3) := by decide +kernel
theorem dX0_deviceWrite_23 : decode cX0_deviceWrite 23 = .ok (.iand, 1) := by decide +kernel
theorem dX0_deviceWrite_24 : decode cX0_deviceWrite 24 = .ok (.iastore, 1) := by decide +kernel
theorem dX0_deviceWrite_25 : decode cX0_deviceWrite 25 = .ok (.iconst 0, 1) := by decide +kernel
theorem dX0_deviceWrite_26 : decode cX0_deviceWrite 26 = .ok (.ireturn, 1) := by decide +kernel
theorem dX0_deviceWrite_27 : decode cX0_deviceWrite 27 = .ok (.aload_n 0, 1) := by decide +kernel
theorem dX0_deviceWrite_28 : decode cX0_deviceWrite 28 = .ok (.iload_n 1, 1) := by decide +kernel
theorem dX0_deviceWrite_29 : decode cX0_deviceWrite 29 = .ok (.invokevirtual 43, 3) := by decide +kernel
theorem dX0_deviceWrite_32 : decode cX0_deviceWrite 32 = .ok (.astore_n 3, 1) := by decide +kernel
theorem dX0_deviceWrite_33 : decode cX0_deviceWrite 33 = .ok (.aload_n 3, 1) := by decide +kernel
theorem dX0_deviceWrite_34 : decode cX0_deviceWrite 34 = .ok (.ifnull 46, 3) := by decide +kernel
theorem dX0_deviceWrite_37 : decode cX0_deviceWrite 37 = .ok (.aload_n 3, 1) := by decide +kernel
theorem dX0_deviceWrite_38 : decode cX0_deviceWrite 38 = .ok (.invokevirtual 66, 3) := by decide +kernel
theorem dX0_deviceWrite_41 : decode cX0_deviceWrite 41 = .ok (.ifCond .eq 39, 3) := by decide +kernel
theorem dX0_deviceWrite_44 : decode cX0_deviceWrite 44 = .ok (.aload_n 3, 1) := by decide +kernel
theorem dX0_deviceWrite_45 : decode cX0_deviceWrite 45 = .ok (.getfield 50, 3) := by decide +kernel
theorem dX0_deviceWrite_48 : decode cX0_deviceWrite 48 = .ok (.iload_n 1, 1) := by decide +kernel
theorem dX0_deviceWrite_49 : decode cX0_deviceWrite 49 = .ok (.invokestatic 54, 3) := by decide +kernel
theorem dX0_deviceWrite_52 : decode cX0_deviceWrite 52 = .ok (.baload, 1) := by decide +kernel
theorem dX0_deviceWrite_53 : decode cX0_deviceWrite 53 = .ok (.ifCond .eq 27, 3) := by decide +kernel
theorem dX0_deviceWrite_56 : decode cX0_deviceWrite 56 = .ok (.aload_n 3, 1) := by decide +kernel
theorem dX0_deviceWrite_57 : decode cX0_deviceWrite 57 = .ok (.getfield 69, 3) := by decide +kernel
theorem dX0_deviceWrite_60 : decode cX0_deviceWrite 60 = .ok (.bipush 16, 2) := by decide +kernel
theorem dX0_deviceWrite_62 : decode cX0_deviceWrite 62 = .ok (.iload_n 1, 1) := by decide +kernel
theorem dX0_deviceWrite_63 : decode cX0_deviceWrite 63 = .ok (.invokestatic 54, 3) := by decide +kernel
theorem dX0_deviceWrite_66 : decode cX0_deviceWrite 66 = .ok (.imul, 1) := by decide +kernel
theorem dX0_deviceWrite_67 : decode cX0_deviceWrite 67 = .ok (.iload_n 1, 1) := by decide +kernel
theorem dX0_deviceWrite_68 : decode cX0_deviceWrite 68 = .ok (.bipush 16, 2) := by decide +kernel
theorem dX0_deviceWrite_70 : decode cX0_deviceWrite 70 = .ok (.irem, 1) := by decide +kernel
theorem dX0_deviceWrite_71 : decode cX0_deviceWrite 71 = .ok (.iadd, 1) := by decide +kernel
theorem dX0_deviceWrite_72 : decode cX0_deviceWrite 72 = .ok (.iload_n 2, 1) := by decide +kernel
theorem dX0_deviceWrite_73 : decode cX0_deviceWrite 73 = .ok (.sipush 255, 3) := by decide +kernel
theorem dX0_deviceWrite_76 : decode cX0_deviceWrite 76 = .ok (.iand, 1) := by decide +kernel
theorem dX0_deviceWrite_77 : decode cX0_deviceWrite 77 = .ok (.iastore, 1) := by decide +kernel
theorem dX0_deviceWrite_78 : decode cX0_deviceWrite 78 = .ok (.iconst 0, 1) := by decide +kernel
theorem dX0_deviceWrite_79 : decode cX0_deviceWrite 79 = .ok (.ireturn, 1) := by decide +kernel
theorem dX0_deviceWrite_80 : decode cX0_deviceWrite 80 = .ok (.aload_n 0, 1) := by decide +kernel
theorem dX0_deviceWrite_81 : decode cX0_deviceWrite 81 = .ok (.dup, 1) := by decide +kernel
theorem dX0_deviceWrite_82 : decode cX0_deviceWrite 82 = .ok (.getfield 62, 3) := by decide +kernel
theorem dX0_deviceWrite_85 : decode cX0_deviceWrite 85 = .ok (.iconst 1, 1) := by decide +kernel
theorem dX0_deviceWrite_86 : decode cX0_deviceWrite 86 = .ok (.iadd, 1) := by decide +kernel
theorem dX0_deviceWrite_87 : decode cX0_deviceWrite 87 = .ok (.putfield 62, 3) := by decide +kernel
theorem dX0_deviceWrite_90 : decode cX0_deviceWrite 90 = .ok (.iconst (-1), 1) := by decide +kernel
theorem dX0_deviceWrite_91 : decode cX0_deviceWrite 91 = .ok (.ireturn, 1) := by decide +kernel
abbrev cX0_faults : ByteArray := prog_1_method_8_code
def yX0_faults : MethodName := ⟨RX0, "faults", "()I"⟩
theorem dX0_faults_0 : decode cX0_faults 0 = .ok (.aload_n 0, 1) := by decide +kernel
theorem dX0_faults_1 : decode cX0_faults 1 = .ok (.getfield 62, 3) := by decide +kernel
theorem dX0_faults_4 : decode cX0_faults 4 = .ok (.ireturn, 1) := by decide +kernel
abbrev cX0_load : ByteArray := prog_1_method_9_code
def yX0_load : MethodName := ⟨RX0, "load", "(II)Z"⟩
theorem dX0_load_0 : decode cX0_load 0 = .ok (.iload_n 1, 1) := by decide +kernel
theorem dX0_load_1 : decode cX0_load 1 = .ok (.ifCond .lt 9, 3) := by decide +kernel
theorem dX0_load_4 : decode cX0_load 4 = .ok (.iload_n 1, 1) := by decide +kernel
theorem dX0_load_5 : decode cX0_load 5 = .ok (.bipush 16, 2) := by decide +kernel
theorem dX0_load_7 : decode cX0_load 7 = .ok (.if_icmp .lt 5, 3) := by decide +kernel
theorem dX0_load_10 : decode cX0_load 10 = .ok (.iconst 0, 1) := by decide +kernel
theorem dX0_load_11 : decode cX0_load 11 = .ok (.ireturn, 1) := by decide +kernel
theorem dX0_load_12 : decode cX0_load 12 = .ok (.aload_n 0, 1) := by decide +kernel
theorem dX0_load_13 : decode cX0_load 13 = .ok (.getfield 23, 3) := by decide +kernel
theorem dX0_load_16 : decode cX0_load 16 = .ok (.iload_n 1, 1) := by decide +kernel
theorem dX0_load_17 : decode cX0_load 17 = .ok (.iload_n 2, 1) := by decide +kernel
theorem dX0_load_18 : decode cX0_load 18 = .ok (.sipush 255, 3) := by decide +kernel
theorem dX0_load_21 : decode cX0_load 21 = .ok (.iand, 1) := by decide +kernel
theorem dX0_load_22 : decode cX0_load 22 = .ok (.iastore, 1) := by decide +kernel
theorem dX0_load_23 : decode cX0_load 23 = .ok (.iconst 1, 1) := by decide +kernel
theorem dX0_load_24 : decode cX0_load 24 = .ok (.ireturn, 1) := by decide +kernel
abbrev cX0_send : ByteArray := prog_1_method_10_code
def yX0_send : MethodName := ⟨RX0, "send", "(I)I"⟩
theorem dX0_send_0 : decode cX0_send 0 = .ok (.iload_n 1, 1) := by decide +kernel
theorem dX0_send_1 : decode cX0_send 1 = .ok (.iconst 1, 1) := by decide +kernel
theorem dX0_send_2 : decode cX0_send 2 = .ok (.if_icmp .lt 9, 3) := by decide +kernel
theorem dX0_send_5 : decode cX0_send 5 = .ok (.iload_n 1, 1) := by decide +kernel
theorem dX0_send_6 : decode cX0_send 6 = .ok (.bipush 16, 2) := by decide +kernel
theorem dX0_send_8 : decode cX0_send 8 = .ok (.if_icmp .le 6, 3) := by decide +kernel
theorem dX0_send_11 : decode cX0_send 11 = .ok (.bipush (-2), 2) := by decide +kernel
theorem dX0_send_13 : decode cX0_send 13 = .ok (.ireturn, 1) := by decide +kernel
theorem dX0_send_14 : decode cX0_send 14 = .ok (.aload_n 0, 1) := by decide +kernel
theorem dX0_send_15 : decode cX0_send 15 = .ok (.getfield 10, 3) := by decide +kernel
theorem dX0_send_18 : decode cX0_send 18 = .ok (.invokevirtual 72, 3) := by decide +kernel
theorem dX0_send_21 : decode cX0_send 21 = .ok (.ifCond .eq 7, 3) := by decide +kernel
theorem dX0_send_24 : decode cX0_send 24 = .ok (.iconst (-1), 1) := by decide +kernel
theorem dX0_send_25 : decode cX0_send 25 = .ok (.goto 15, 3) := by decide +kernel
theorem dX0_send_28 : decode cX0_send 28 = .ok (.aload_n 0, 1) := by decide +kernel
theorem dX0_send_29 : decode cX0_send 29 = .ok (.getfield 10, 3) := by decide +kernel
theorem dX0_send_32 : decode cX0_send 32 = .ok (.aload_n 0, 1) := by decide +kernel
theorem dX0_send_33 : decode cX0_send 33 = .ok (.getfield 23, 3) := by decide +kernel
theorem dX0_send_36 : decode cX0_send 36 = .ok (.iload_n 1, 1) := by decide +kernel
theorem dX0_send_37 : decode cX0_send 37 = .ok (.invokevirtual 75, 3) := by decide +kernel
theorem dX0_send_40 : decode cX0_send 40 = .ok (.ireturn, 1) := by decide +kernel
abbrev cX0_reclaim : ByteArray := prog_1_method_11_code
def yX0_reclaim : MethodName := ⟨RX0, "reclaim", "()I"⟩
theorem dX0_reclaim_0 : decode cX0_reclaim 0 = .ok (.iconst 0, 1) := by decide +kernel
theorem dX0_reclaim_1 : decode cX0_reclaim 1 = .ok (.istore_n 1, 1) := by decide +kernel
theorem dX0_reclaim_2 : decode cX0_reclaim 2 = .ok (.aload_n 0, 1) := by decide +kernel
theorem dX0_reclaim_3 : decode cX0_reclaim 3 = .ok (.getfield 10, 3) := by decide +kernel
theorem dX0_reclaim_6 : decode cX0_reclaim 6 = .ok (.invokevirtual 79, 3) := by decide +kernel
theorem dX0_reclaim_9 : decode cX0_reclaim 9 = .ok (.ifCond .ne 35, 3) := by decide +kernel
theorem dX0_reclaim_12 : decode cX0_reclaim 12 = .ok (.aload_n 0, 1) := by decide +kernel
theorem dX0_reclaim_13 : decode cX0_reclaim 13 = .ok (.getfield 10, 3) := by decide +kernel
theorem dX0_reclaim_16 : decode cX0_reclaim 16 = .ok (.aload_n 0, 1) := by decide +kernel
theorem dX0_reclaim_17 : decode cX0_reclaim 17 = .ok (.getfield 10, 3) := by decide +kernel
theorem dX0_reclaim_20 : decode cX0_reclaim 20 = .ok (.iconst 0, 1) := by decide +kernel
theorem dX0_reclaim_21 : decode cX0_reclaim 21 = .ok (.invokevirtual 82, 3) := by decide +kernel
theorem dX0_reclaim_24 : decode cX0_reclaim 24 = .ok (.invokevirtual 85, 3) := by decide +kernel
theorem dX0_reclaim_27 : decode cX0_reclaim 27 = .ok (.ifCond .ne 17, 3) := by decide +kernel
theorem dX0_reclaim_30 : decode cX0_reclaim 30 = .ok (.aload_n 0, 1) := by decide +kernel
theorem dX0_reclaim_31 : decode cX0_reclaim 31 = .ok (.getfield 10, 3) := by decide +kernel
theorem dX0_reclaim_34 : decode cX0_reclaim 34 = .ok (.invokevirtual 88, 3) := by decide +kernel
theorem dX0_reclaim_37 : decode cX0_reclaim 37 = .ok (.istore_n 2, 1) := by decide +kernel
theorem dX0_reclaim_38 : decode cX0_reclaim 38 = .ok (.iinc 1 1, 3) := by decide +kernel
theorem dX0_reclaim_41 : decode cX0_reclaim 41 = .ok (.goto (-39), 3) := by decide +kernel
theorem dX0_reclaim_44 : decode cX0_reclaim 44 = .ok (.iload_n 1, 1) := by decide +kernel
theorem dX0_reclaim_45 : decode cX0_reclaim 45 = .ok (.ireturn, 1) := by decide +kernel
abbrev cX0_revoke : ByteArray := prog_1_method_12_code
def yX0_revoke : MethodName := ⟨RX0, "revoke", "()I"⟩
theorem dX0_revoke_0 : decode cX0_revoke 0 = .ok (.aload_n 0, 1) := by decide +kernel
theorem dX0_revoke_1 : decode cX0_revoke 1 = .ok (.invokevirtual 92, 3) := by decide +kernel
theorem dX0_revoke_4 : decode cX0_revoke 4 = .ok (.istore_n 1, 1) := by decide +kernel
theorem dX0_revoke_5 : decode cX0_revoke 5 = .ok (.aload_n 0, 1) := by decide +kernel
theorem dX0_revoke_6 : decode cX0_revoke 6 = .ok (.getfield 10, 3) := by decide +kernel
theorem dX0_revoke_9 : decode cX0_revoke 9 = .ok (.iconst 0, 1) := by decide +kernel
theorem dX0_revoke_10 : decode cX0_revoke 10 = .ok (.invokevirtual 95, 3) := by decide +kernel
theorem dX0_revoke_13 : decode cX0_revoke 13 = .ok (.ireturn, 1) := by decide +kernel
abbrev cX0_post : ByteArray := prog_1_method_13_code
def yX0_post : MethodName := ⟨RX0, "post", "()I"⟩
theorem dX0_post_0 : decode cX0_post 0 = .ok (.aload_n 0, 1) := by decide +kernel
theorem dX0_post_1 : decode cX0_post 1 = .ok (.getfield 19, 3) := by decide +kernel
theorem dX0_post_4 : decode cX0_post 4 = .ok (.invokevirtual 98, 3) := by decide +kernel
theorem dX0_post_7 : decode cX0_post 7 = .ok (.ifCond .eq 7, 3) := by decide +kernel
theorem dX0_post_10 : decode cX0_post 10 = .ok (.iconst (-1), 1) := by decide +kernel
theorem dX0_post_11 : decode cX0_post 11 = .ok (.goto 15, 3) := by decide +kernel
theorem dX0_post_14 : decode cX0_post 14 = .ok (.aload_n 0, 1) := by decide +kernel
theorem dX0_post_15 : decode cX0_post 15 = .ok (.getfield 19, 3) := by decide +kernel
theorem dX0_post_18 : decode cX0_post 18 = .ok (.aload_n 0, 1) := by decide +kernel
theorem dX0_post_19 : decode cX0_post 19 = .ok (.getfield 23, 3) := by decide +kernel
theorem dX0_post_22 : decode cX0_post 22 = .ok (.iconst 0, 1) := by decide +kernel
theorem dX0_post_23 : decode cX0_post 23 = .ok (.invokevirtual 99, 3) := by decide +kernel
theorem dX0_post_26 : decode cX0_post 26 = .ok (.ireturn, 1) := by decide +kernel
abbrev cX0_receive : ByteArray := prog_1_method_14_code
def yX0_receive : MethodName := ⟨RX0, "receive", "()I"⟩
theorem dX0_receive_0 : decode cX0_receive 0 = .ok (.aload_n 0, 1) := by decide +kernel
theorem dX0_receive_1 : decode cX0_receive 1 = .ok (.getfield 19, 3) := by decide +kernel
theorem dX0_receive_4 : decode cX0_receive 4 = .ok (.invokevirtual 100, 3) := by decide +kernel
theorem dX0_receive_7 : decode cX0_receive 7 = .ok (.ifCond .ne 21, 3) := by decide +kernel
theorem dX0_receive_10 : decode cX0_receive 10 = .ok (.aload_n 0, 1) := by decide +kernel
theorem dX0_receive_11 : decode cX0_receive 11 = .ok (.getfield 19, 3) := by decide +kernel
theorem dX0_receive_14 : decode cX0_receive 14 = .ok (.aload_n 0, 1) := by decide +kernel
theorem dX0_receive_15 : decode cX0_receive 15 = .ok (.getfield 19, 3) := by decide +kernel
theorem dX0_receive_18 : decode cX0_receive 18 = .ok (.iconst 0, 1) := by decide +kernel
theorem dX0_receive_19 : decode cX0_receive 19 = .ok (.invokevirtual 101, 3) := by decide +kernel
theorem dX0_receive_22 : decode cX0_receive 22 = .ok (.invokevirtual 102, 3) := by decide +kernel
theorem dX0_receive_25 : decode cX0_receive 25 = .ok (.ifCond .eq 5, 3) := by decide +kernel
theorem dX0_receive_28 : decode cX0_receive 28 = .ok (.iconst (-1), 1) := by decide +kernel
theorem dX0_receive_29 : decode cX0_receive 29 = .ok (.ireturn, 1) := by decide +kernel
theorem dX0_receive_30 : decode cX0_receive 30 = .ok (.aload_n 0, 1) := by decide +kernel
theorem dX0_receive_31 : decode cX0_receive 31 = .ok (.getfield 19, 3) := by decide +kernel
theorem dX0_receive_34 : decode cX0_receive 34 = .ok (.invokevirtual 103, 3) := by decide +kernel
theorem dX0_receive_37 : decode cX0_receive 37 = .ok (.istore_n 1, 1) := by decide +kernel
theorem dX0_receive_38 : decode cX0_receive 38 = .ok (.aload_n 0, 1) := by decide +kernel
theorem dX0_receive_39 : decode cX0_receive 39 = .ok (.getfield 19, 3) := by decide +kernel
theorem dX0_receive_42 : decode cX0_receive 42 = .ok (.iload_n 1, 1) := by decide +kernel
theorem dX0_receive_43 : decode cX0_receive 43 = .ok (.invokevirtual 104, 3) := by decide +kernel
theorem dX0_receive_46 : decode cX0_receive 46 = .ok (.istore_n 2, 1) := by decide +kernel
theorem dX0_receive_47 : decode cX0_receive 47 = .ok (.iload_n 2, 1) := by decide +kernel
theorem dX0_receive_48 : decode cX0_receive 48 = .ok (.iconst 1, 1) := by decide +kernel
theorem dX0_receive_49 : decode cX0_receive 49 = .ok (.if_icmp .lt 9, 3) := by decide +kernel
theorem dX0_receive_52 : decode cX0_receive 52 = .ok (.iload_n 2, 1) := by decide +kernel
theorem dX0_receive_53 : decode cX0_receive 53 = .ok (.bipush 16, 2) := by decide +kernel
theorem dX0_receive_55 : decode cX0_receive 55 = .ok (.if_icmp .le 6, 3) := by decide +kernel
theorem dX0_receive_58 : decode cX0_receive 58 = .ok (.bipush (-3), 2) := by decide +kernel
theorem dX0_receive_60 : decode cX0_receive 60 = .ok (.ireturn, 1) := by decide +kernel
theorem dX0_receive_61 : decode cX0_receive 61 = .ok (.iconst 0, 1) := by decide +kernel
theorem dX0_receive_62 : decode cX0_receive 62 = .ok (.istore_n 3, 1) := by decide +kernel
theorem dX0_receive_63 : decode cX0_receive 63 = .ok (.iload_n 3, 1) := by decide +kernel
theorem dX0_receive_64 : decode cX0_receive 64 = .ok (.iload_n 2, 1) := by decide +kernel
theorem dX0_receive_65 : decode cX0_receive 65 = .ok (.if_icmp .ge 24, 3) := by decide +kernel
theorem dX0_receive_68 : decode cX0_receive 68 = .ok (.aload_n 0, 1) := by decide +kernel
theorem dX0_receive_69 : decode cX0_receive 69 = .ok (.getfield 27, 3) := by decide +kernel
theorem dX0_receive_72 : decode cX0_receive 72 = .ok (.iload_n 3, 1) := by decide +kernel
theorem dX0_receive_73 : decode cX0_receive 73 = .ok (.aload_n 0, 1) := by decide +kernel
theorem dX0_receive_74 : decode cX0_receive 74 = .ok (.getfield 19, 3) := by decide +kernel
theorem dX0_receive_77 : decode cX0_receive 77 = .ok (.iload_n 1, 1) := by decide +kernel
theorem dX0_receive_78 : decode cX0_receive 78 = .ok (.iload_n 3, 1) := by decide +kernel
theorem dX0_receive_79 : decode cX0_receive 79 = .ok (.invokevirtual 107, 3) := by decide +kernel
theorem dX0_receive_82 : decode cX0_receive 82 = .ok (.iastore, 1) := by decide +kernel
theorem dX0_receive_83 : decode cX0_receive 83 = .ok (.iinc 3 1, 3) := by decide +kernel
theorem dX0_receive_86 : decode cX0_receive 86 = .ok (.goto (-23), 3) := by decide +kernel
theorem dX0_receive_89 : decode cX0_receive 89 = .ok (.iload_n 2, 1) := by decide +kernel
theorem dX0_receive_90 : decode cX0_receive 90 = .ok (.ireturn, 1) := by decide +kernel
abbrev cX0_taken : ByteArray := prog_1_method_15_code
def yX0_taken : MethodName := ⟨RX0, "taken", "(I)I"⟩
theorem dX0_taken_0 : decode cX0_taken 0 = .ok (.iload_n 1, 1) := by decide +kernel
theorem dX0_taken_1 : decode cX0_taken 1 = .ok (.ifCond .lt 9, 3) := by decide +kernel
theorem dX0_taken_4 : decode cX0_taken 4 = .ok (.iload_n 1, 1) := by decide +kernel
theorem dX0_taken_5 : decode cX0_taken 5 = .ok (.bipush 16, 2) := by decide +kernel
theorem dX0_taken_7 : decode cX0_taken 7 = .ok (.if_icmp .lt 7, 3) := by decide +kernel
theorem dX0_taken_10 : decode cX0_taken 10 = .ok (.iconst (-1), 1) := by decide +kernel
theorem dX0_taken_11 : decode cX0_taken 11 = .ok (.goto 9, 3) := by decide +kernel
theorem dX0_taken_14 : decode cX0_taken 14 = .ok (.aload_n 0, 1) := by decide +kernel
theorem dX0_taken_15 : decode cX0_taken 15 = .ok (.getfield 27, 3) := by decide +kernel
theorem dX0_taken_18 : decode cX0_taken 18 = .ok (.iload_n 1, 1) := by decide +kernel
theorem dX0_taken_19 : decode cX0_taken 19 = .ok (.iaload, 1) := by decide +kernel
theorem dX0_taken_20 : decode cX0_taken 20 = .ok (.ireturn, 1) := by decide +kernel
abbrev cX0_withdraw : ByteArray := prog_1_method_16_code
def yX0_withdraw : MethodName := ⟨RX0, "withdraw", "()I"⟩
theorem dX0_withdraw_0 : decode cX0_withdraw 0 = .ok (.iconst 0, 1) := by decide +kernel
theorem dX0_withdraw_1 : decode cX0_withdraw 1 = .ok (.istore_n 1, 1) := by decide +kernel
theorem dX0_withdraw_2 : decode cX0_withdraw 2 = .ok (.iload_n 1, 1) := by decide +kernel
theorem dX0_withdraw_3 : decode cX0_withdraw 3 = .ok (.aload_n 0, 1) := by decide +kernel
theorem dX0_withdraw_4 : decode cX0_withdraw 4 = .ok (.getfield 19, 3) := by decide +kernel
theorem dX0_withdraw_7 : decode cX0_withdraw 7 = .ok (.getfield 108, 3) := by decide +kernel
theorem dX0_withdraw_10 : decode cX0_withdraw 10 = .ok (.if_icmp .ge 27, 3) := by decide +kernel
theorem dX0_withdraw_13 : decode cX0_withdraw 13 = .ok (.aload_n 0, 1) := by decide +kernel
theorem dX0_withdraw_14 : decode cX0_withdraw 14 = .ok (.getfield 19, 3) := by decide +kernel
theorem dX0_withdraw_17 : decode cX0_withdraw 17 = .ok (.aload_n 0, 1) := by decide +kernel
theorem dX0_withdraw_18 : decode cX0_withdraw 18 = .ok (.getfield 19, 3) := by decide +kernel
theorem dX0_withdraw_21 : decode cX0_withdraw 21 = .ok (.iload_n 1, 1) := by decide +kernel
theorem dX0_withdraw_22 : decode cX0_withdraw 22 = .ok (.invokevirtual 101, 3) := by decide +kernel
theorem dX0_withdraw_25 : decode cX0_withdraw 25 = .ok (.invokevirtual 102, 3) := by decide +kernel
theorem dX0_withdraw_28 : decode cX0_withdraw 28 = .ok (.ifCond .ne 9, 3) := by decide +kernel
theorem dX0_withdraw_31 : decode cX0_withdraw 31 = .ok (.iinc 1 1, 3) := by decide +kernel
theorem dX0_withdraw_34 : decode cX0_withdraw 34 = .ok (.goto (-32), 3) := by decide +kernel
theorem dX0_withdraw_37 : decode cX0_withdraw 37 = .ok (.aload_n 0, 1) := by decide +kernel
theorem dX0_withdraw_38 : decode cX0_withdraw 38 = .ok (.getfield 19, 3) := by decide +kernel
theorem dX0_withdraw_41 : decode cX0_withdraw 41 = .ok (.iload_n 1, 1) := by decide +kernel
theorem dX0_withdraw_42 : decode cX0_withdraw 42 = .ok (.invokevirtual 111, 3) := by decide +kernel
theorem dX0_withdraw_45 : decode cX0_withdraw 45 = .ok (.ireturn, 1) := by decide +kernel
abbrev cX0_sending : ByteArray := prog_1_method_17_code
def yX0_sending : MethodName := ⟨RX0, "sending", "()I"⟩
theorem dX0_sending_0 : decode cX0_sending 0 = .ok (.aload_n 0, 1) := by decide +kernel
theorem dX0_sending_1 : decode cX0_sending 1 = .ok (.getfield 10, 3) := by decide +kernel
theorem dX0_sending_4 : decode cX0_sending 4 = .ok (.getfield 112, 3) := by decide +kernel
theorem dX0_sending_7 : decode cX0_sending 7 = .ok (.ireturn, 1) := by decide +kernel
abbrev cX0_receiving : ByteArray := prog_1_method_18_code
def yX0_receiving : MethodName := ⟨RX0, "receiving", "()I"⟩
theorem dX0_receiving_0 : decode cX0_receiving 0 = .ok (.aload_n 0, 1) := by decide +kernel
theorem dX0_receiving_1 : decode cX0_receiving 1 = .ok (.getfield 19, 3) := by decide +kernel
theorem dX0_receiving_4 : decode cX0_receiving 4 = .ok (.getfield 108, 3) := by decide +kernel
theorem dX0_receiving_7 : decode cX0_receiving 7 = .ok (.ireturn, 1) := by decide +kernel
theorem q4 : (Jvm.Cond.initialized "RingDriver") ∈ lw_all := lw_g (lw_at lw_m1 1 rfl) rfl
theorem q10 : (Jvm.Cond.instantiable "RingDriver" (5 : Nat)) ∈ lw_all := lw_g (lw_at lw_m1 7 rfl) rfl
theorem q12 : (Jvm.Cond.instanceMethod ({ cls := "RingDriver", name := "<init>", desc := "()V" } : Jvm.MethodName)) ∈ lw_all := lw_g (lw_at lw_m1 9 rfl) rfl
theorem q13 : (Jvm.Cond.code ({ cls := "RingDriver", name := "<init>", desc := "()V" } : Jvm.MethodName) prog_1_method_1_code (1 : Nat) (Option.none : Option Jvm.ClassFile.FieldType)) ∈ lw_all := lw_g (lw_at lw_m1 10 rfl) rfl
theorem q14 : (Jvm.Cond.methodLink "RingDriver" (1 : Nat) ({ cls := "java/lang/Object", name := "<init>", desc := "()V" } : Jvm.MethodName)) ∈ lw_all := lw_g (lw_at lw_m1 11 rfl) rfl
theorem q17 : (Jvm.Cond.classLink "RingDriver" (7 : Nat) "RingDriver$Transmit") ∈ lw_all := lw_g (lw_at lw_m1 14 rfl) rfl
theorem q19 : (Jvm.Cond.methodLink "RingDriver" (9 : Nat) ({ cls := "RingDriver$Transmit", name := "<init>", desc := "()V" } : Jvm.MethodName)) ∈ lw_all := lw_g (lw_at lw_m1 16 rfl) rfl
theorem q28 : (Jvm.Cond.fieldLinkNest "RingDriver" (38 : Nat) "RingDriver$Ring" "descriptors" "[I" "RingDriver") ∈ lw_tbl := lw_at lw_m1 25 rfl
theorem q30 : (Jvm.Cond.fieldLinkNest "RingDriver" (69 : Nat) "RingDriver$Ring" "buffers" "[I" "RingDriver") ∈ lw_tbl := lw_at lw_m1 27 rfl
theorem q32 : (Jvm.Cond.fieldLinkNest "RingDriver" (50 : Nat) "RingDriver$Ring" "open" "[Z" "RingDriver") ∈ lw_tbl := lw_at lw_m1 29 rfl
theorem q35 : (Jvm.Cond.fieldLink "RingDriver" (108 : Nat) "RingDriver$Receive" "count" "I") ∈ lw_all := lw_g (lw_at lw_m1 32 rfl) rfl
theorem q37 : (Jvm.Cond.fieldLink "RingDriver" (112 : Nat) "RingDriver$Transmit" "count" "I") ∈ lw_all := lw_g (lw_at lw_m1 34 rfl) rfl
theorem q54 : (Jvm.Cond.classLink "RingDriver" (16 : Nat) "RingDriver$Receive") ∈ lw_all := lw_g (lw_at lw_m1 51 rfl) rfl
theorem q56 : (Jvm.Cond.methodLink "RingDriver" (18 : Nat) ({ cls := "RingDriver$Receive", name := "<init>", desc := "()V" } : Jvm.MethodName)) ∈ lw_all := lw_g (lw_at lw_m1 53 rfl) rfl
theorem q67 : (Jvm.Cond.fieldLink "RingDriver" (10 : Nat) "RingDriver" "transmit" "LRingDriver$Transmit;") ∈ lw_all := lw_g (lw_at lw_m1 64 rfl) rfl
theorem q68 : (Jvm.Cond.fieldLink "RingDriver" (19 : Nat) "RingDriver" "receive" "LRingDriver$Receive;") ∈ lw_all := lw_g (lw_at lw_m1 65 rfl) rfl
theorem q69 : (Jvm.Cond.fieldLink "RingDriver" (23 : Nat) "RingDriver" "outBox" "[I") ∈ lw_all := lw_g (lw_at lw_m1 66 rfl) rfl
theorem q70 : (Jvm.Cond.fieldLink "RingDriver" (27 : Nat) "RingDriver" "inBox" "[I") ∈ lw_all := lw_g (lw_at lw_m1 67 rfl) rfl
theorem q71 : (Jvm.Cond.fieldLink "RingDriver" (62 : Nat) "RingDriver" "faults" "I") ∈ lw_all := lw_g (lw_at lw_m1 68 rfl) rfl
theorem q72 : (Jvm.Cond.laysFinal "RingDriver" "RingDriver" "transmit" "LRingDriver$Transmit;") ∈ lw_all := lw_g (lw_at lw_m1 69 rfl) rfl
theorem q73 : (Jvm.Cond.soleField "RingDriver" "transmit") ∈ lw_all := lw_g (lw_at lw_m1 70 rfl) rfl
theorem q74 : (Jvm.Cond.laysFinal "RingDriver" "RingDriver" "receive" "LRingDriver$Receive;") ∈ lw_all := lw_g (lw_at lw_m1 71 rfl) rfl
theorem q75 : (Jvm.Cond.soleField "RingDriver" "receive") ∈ lw_all := lw_g (lw_at lw_m1 72 rfl) rfl
theorem q76 : (Jvm.Cond.laysFinal "RingDriver" "RingDriver" "outBox" "[I") ∈ lw_all := lw_g (lw_at lw_m1 73 rfl) rfl
theorem q77 : (Jvm.Cond.soleField "RingDriver" "outBox") ∈ lw_all := lw_g (lw_at lw_m1 74 rfl) rfl
theorem q78 : (Jvm.Cond.laysFinal "RingDriver" "RingDriver" "inBox" "[I") ∈ lw_all := lw_g (lw_at lw_m1 75 rfl) rfl
theorem q79 : (Jvm.Cond.soleField "RingDriver" "inBox") ∈ lw_all := lw_g (lw_at lw_m1 76 rfl) rfl
theorem q80 : (Jvm.Cond.lays "RingDriver" "RingDriver" "faults" "I") ∈ lw_all := lw_g (lw_at lw_m1 77 rfl) rfl
theorem q81 : (Jvm.Cond.soleField "RingDriver" "faults") ∈ lw_all := lw_g (lw_at lw_m1 78 rfl) rfl
theorem q82 : (Jvm.Cond.superclass "RingDriver" "java/lang/Object") ∈ lw_all := lw_g (lw_at lw_m1 79 rfl) rfl
theorem q84 : (Jvm.Cond.instanceMethod ({ cls := "RingDriver", name := "deviceRead", desc := "(I)I" } : Jvm.MethodName)) ∈ lw_all := lw_g (lw_at lw_m1 81 rfl) rfl
theorem q85 : (Jvm.Cond.selects "RingDriver" ({ cls := "RingDriver", name := "deviceRead", desc := "(I)I" } : Jvm.MethodName) ({ cls := "RingDriver", name := "deviceRead", desc := "(I)I" } : Jvm.MethodName)) ∈ lw_all := lw_g (lw_at lw_m1 82 rfl) rfl
theorem q86 : (Jvm.Cond.code ({ cls := "RingDriver", name := "deviceRead", desc := "(I)I" } : Jvm.MethodName) prog_1_method_6_code (3 : Nat) (Option.some Jvm.ClassFile.FieldType.int)) ∈ lw_all := lw_g (lw_at lw_m1 83 rfl) rfl
theorem q87 : (Jvm.Cond.methodLink "RingDriver" (30 : Nat) ({ cls := "RingDriver", name := "isRing", desc := "(I)Z" } : Jvm.MethodName)) ∈ lw_all := lw_g (lw_at lw_m1 84 rfl) rfl
theorem q88 : (Jvm.Cond.static ({ cls := "RingDriver", name := "isRing", desc := "(I)Z" } : Jvm.MethodName)) ∈ lw_all := lw_g (lw_at lw_m1 85 rfl) rfl
theorem q89 : (Jvm.Cond.code ({ cls := "RingDriver", name := "isRing", desc := "(I)Z" } : Jvm.MethodName) prog_1_method_2_code (1 : Nat) (Option.some Jvm.ClassFile.FieldType.boolean)) ∈ lw_all := lw_g (lw_at lw_m1 86 rfl) rfl
theorem q90 : (Jvm.Cond.methodLink "RingDriver" (34 : Nat) ({ cls := "RingDriver", name := "ringAt", desc := "(I)LRingDriver$Ring;" } : Jvm.MethodName)) ∈ lw_all := lw_g (lw_at lw_m1 87 rfl) rfl
theorem q91 : (Jvm.Cond.privateMethod ({ cls := "RingDriver", name := "ringAt", desc := "(I)LRingDriver$Ring;" } : Jvm.MethodName)) ∈ lw_tbl := lw_at lw_m1 88 rfl
theorem q92 : (Jvm.Cond.instanceMethod ({ cls := "RingDriver", name := "ringAt", desc := "(I)LRingDriver$Ring;" } : Jvm.MethodName)) ∈ lw_all := lw_g (lw_at lw_m1 89 rfl) rfl
theorem q93 : (Jvm.Cond.code ({ cls := "RingDriver", name := "ringAt", desc := "(I)LRingDriver$Ring;" } : Jvm.MethodName) prog_1_method_3_code (2 : Nat) (Option.some (Jvm.ClassFile.FieldType.object "RingDriver$Ring"))) ∈ lw_all := lw_g (lw_at lw_m1 90 rfl) rfl
theorem q94 : (Jvm.Cond.methodLink "RingDriver" (43 : Nat) ({ cls := "RingDriver", name := "bufferAt", desc := "(I)LRingDriver$Ring;" } : Jvm.MethodName)) ∈ lw_all := lw_g (lw_at lw_m1 91 rfl) rfl
theorem q95 : (Jvm.Cond.privateMethod ({ cls := "RingDriver", name := "bufferAt", desc := "(I)LRingDriver$Ring;" } : Jvm.MethodName)) ∈ lw_tbl := lw_at lw_m1 92 rfl
theorem q96 : (Jvm.Cond.instanceMethod ({ cls := "RingDriver", name := "bufferAt", desc := "(I)LRingDriver$Ring;" } : Jvm.MethodName)) ∈ lw_all := lw_g (lw_at lw_m1 93 rfl) rfl
theorem q97 : (Jvm.Cond.code ({ cls := "RingDriver", name := "bufferAt", desc := "(I)LRingDriver$Ring;" } : Jvm.MethodName) prog_1_method_4_code (2 : Nat) (Option.some (Jvm.ClassFile.FieldType.object "RingDriver$Ring"))) ∈ lw_all := lw_g (lw_at lw_m1 94 rfl) rfl
theorem q98 : (Jvm.Cond.methodLink "RingDriver" (46 : Nat) ({ cls := "RingDriver$Ring", name := "mayRead", desc := "()Z" } : Jvm.MethodName)) ∈ lw_all := lw_g (lw_at lw_m1 95 rfl) rfl
theorem q107 : (Jvm.Cond.methodLink "RingDriver" (54 : Nat) ({ cls := "RingDriver", name := "slotAt", desc := "(I)I" } : Jvm.MethodName)) ∈ lw_all := lw_g (lw_at lw_m1 104 rfl) rfl
theorem q108 : (Jvm.Cond.static ({ cls := "RingDriver", name := "slotAt", desc := "(I)I" } : Jvm.MethodName)) ∈ lw_all := lw_g (lw_at lw_m1 105 rfl) rfl
theorem q109 : (Jvm.Cond.code ({ cls := "RingDriver", name := "slotAt", desc := "(I)I" } : Jvm.MethodName) prog_1_method_5_code (1 : Nat) (Option.some Jvm.ClassFile.FieldType.int)) ∈ lw_all := lw_g (lw_at lw_m1 106 rfl) rfl
theorem q110 : (Jvm.Cond.methodLink "RingDriver" (58 : Nat) ({ cls := "RingDriver$Ring", name := "byteOf", desc := "(II)I" } : Jvm.MethodName)) ∈ lw_all := lw_g (lw_at lw_m1 107 rfl) rfl
theorem q117 : (Jvm.Cond.instanceMethod ({ cls := "RingDriver", name := "deviceWrite", desc := "(II)I" } : Jvm.MethodName)) ∈ lw_all := lw_g (lw_at lw_m1 114 rfl) rfl
theorem q118 : (Jvm.Cond.selects "RingDriver" ({ cls := "RingDriver", name := "deviceWrite", desc := "(II)I" } : Jvm.MethodName) ({ cls := "RingDriver", name := "deviceWrite", desc := "(II)I" } : Jvm.MethodName)) ∈ lw_all := lw_g (lw_at lw_m1 115 rfl) rfl
theorem q119 : (Jvm.Cond.code ({ cls := "RingDriver", name := "deviceWrite", desc := "(II)I" } : Jvm.MethodName) prog_1_method_7_code (4 : Nat) (Option.some Jvm.ClassFile.FieldType.int)) ∈ lw_all := lw_g (lw_at lw_m1 116 rfl) rfl
theorem q120 : (Jvm.Cond.methodLink "RingDriver" (66 : Nat) ({ cls := "RingDriver$Ring", name := "mayWrite", desc := "()Z" } : Jvm.MethodName)) ∈ lw_all := lw_g (lw_at lw_m1 117 rfl) rfl
theorem q130 : (Jvm.Cond.instanceMethod ({ cls := "RingDriver", name := "faults", desc := "()I" } : Jvm.MethodName)) ∈ lw_all := lw_g (lw_at lw_m1 127 rfl) rfl
theorem q131 : (Jvm.Cond.selects "RingDriver" ({ cls := "RingDriver", name := "faults", desc := "()I" } : Jvm.MethodName) ({ cls := "RingDriver", name := "faults", desc := "()I" } : Jvm.MethodName)) ∈ lw_all := lw_g (lw_at lw_m1 128 rfl) rfl
theorem q132 : (Jvm.Cond.code ({ cls := "RingDriver", name := "faults", desc := "()I" } : Jvm.MethodName) prog_1_method_8_code (1 : Nat) (Option.some Jvm.ClassFile.FieldType.int)) ∈ lw_all := lw_g (lw_at lw_m1 129 rfl) rfl
theorem q134 : (Jvm.Cond.instanceMethod ({ cls := "RingDriver", name := "load", desc := "(II)Z" } : Jvm.MethodName)) ∈ lw_all := lw_g (lw_at lw_m1 131 rfl) rfl
theorem q135 : (Jvm.Cond.selects "RingDriver" ({ cls := "RingDriver", name := "load", desc := "(II)Z" } : Jvm.MethodName) ({ cls := "RingDriver", name := "load", desc := "(II)Z" } : Jvm.MethodName)) ∈ lw_all := lw_g (lw_at lw_m1 132 rfl) rfl
theorem q136 : (Jvm.Cond.code ({ cls := "RingDriver", name := "load", desc := "(II)Z" } : Jvm.MethodName) prog_1_method_9_code (3 : Nat) (Option.some Jvm.ClassFile.FieldType.boolean)) ∈ lw_all := lw_g (lw_at lw_m1 133 rfl) rfl
theorem q138 : (Jvm.Cond.instanceMethod ({ cls := "RingDriver", name := "send", desc := "(I)I" } : Jvm.MethodName)) ∈ lw_all := lw_g (lw_at lw_m1 135 rfl) rfl
theorem q139 : (Jvm.Cond.selects "RingDriver" ({ cls := "RingDriver", name := "send", desc := "(I)I" } : Jvm.MethodName) ({ cls := "RingDriver", name := "send", desc := "(I)I" } : Jvm.MethodName)) ∈ lw_all := lw_g (lw_at lw_m1 136 rfl) rfl
theorem q140 : (Jvm.Cond.code ({ cls := "RingDriver", name := "send", desc := "(I)I" } : Jvm.MethodName) prog_1_method_10_code (2 : Nat) (Option.some Jvm.ClassFile.FieldType.int)) ∈ lw_all := lw_g (lw_at lw_m1 137 rfl) rfl
theorem q141 : (Jvm.Cond.methodLink "RingDriver" (72 : Nat) ({ cls := "RingDriver$Transmit", name := "full", desc := "()Z" } : Jvm.MethodName)) ∈ lw_all := lw_g (lw_at lw_m1 138 rfl) rfl
theorem q147 : (Jvm.Cond.methodLink "RingDriver" (75 : Nat) ({ cls := "RingDriver$Transmit", name := "enqueue", desc := "([II)I" } : Jvm.MethodName)) ∈ lw_all := lw_g (lw_at lw_m1 144 rfl) rfl
theorem q160 : (Jvm.Cond.instanceMethod ({ cls := "RingDriver", name := "reclaim", desc := "()I" } : Jvm.MethodName)) ∈ lw_all := lw_g (lw_at lw_m1 157 rfl) rfl
theorem q161 : (Jvm.Cond.selects "RingDriver" ({ cls := "RingDriver", name := "reclaim", desc := "()I" } : Jvm.MethodName) ({ cls := "RingDriver", name := "reclaim", desc := "()I" } : Jvm.MethodName)) ∈ lw_all := lw_g (lw_at lw_m1 158 rfl) rfl
theorem q162 : (Jvm.Cond.code ({ cls := "RingDriver", name := "reclaim", desc := "()I" } : Jvm.MethodName) prog_1_method_11_code (3 : Nat) (Option.some Jvm.ClassFile.FieldType.int)) ∈ lw_all := lw_g (lw_at lw_m1 159 rfl) rfl
theorem q163 : (Jvm.Cond.methodLink "RingDriver" (79 : Nat) ({ cls := "RingDriver$Transmit", name := "empty", desc := "()Z" } : Jvm.MethodName)) ∈ lw_all := lw_g (lw_at lw_m1 160 rfl) rfl
theorem q169 : (Jvm.Cond.methodLink "RingDriver" (82 : Nat) ({ cls := "RingDriver$Transmit", name := "slot", desc := "(I)I" } : Jvm.MethodName)) ∈ lw_all := lw_g (lw_at lw_m1 166 rfl) rfl
theorem q173 : (Jvm.Cond.methodLink "RingDriver" (85 : Nat) ({ cls := "RingDriver$Transmit", name := "owner", desc := "(I)I" } : Jvm.MethodName)) ∈ lw_all := lw_g (lw_at lw_m1 170 rfl) rfl
theorem q179 : (Jvm.Cond.methodLink "RingDriver" (88 : Nat) ({ cls := "RingDriver$Transmit", name := "take", desc := "()I" } : Jvm.MethodName)) ∈ lw_all := lw_g (lw_at lw_m1 176 rfl) rfl
theorem q186 : (Jvm.Cond.instanceMethod ({ cls := "RingDriver", name := "revoke", desc := "()I" } : Jvm.MethodName)) ∈ lw_all := lw_g (lw_at lw_m1 183 rfl) rfl
theorem q187 : (Jvm.Cond.selects "RingDriver" ({ cls := "RingDriver", name := "revoke", desc := "()I" } : Jvm.MethodName) ({ cls := "RingDriver", name := "revoke", desc := "()I" } : Jvm.MethodName)) ∈ lw_all := lw_g (lw_at lw_m1 184 rfl) rfl
theorem q188 : (Jvm.Cond.code ({ cls := "RingDriver", name := "revoke", desc := "()I" } : Jvm.MethodName) prog_1_method_12_code (2 : Nat) (Option.some Jvm.ClassFile.FieldType.int)) ∈ lw_all := lw_g (lw_at lw_m1 185 rfl) rfl
theorem q189 : (Jvm.Cond.methodLink "RingDriver" (92 : Nat) ({ cls := "RingDriver", name := "reclaim", desc := "()I" } : Jvm.MethodName)) ∈ lw_all := lw_g (lw_at lw_m1 186 rfl) rfl
theorem q190 : (Jvm.Cond.methodLink "RingDriver" (95 : Nat) ({ cls := "RingDriver$Transmit", name := "cut", desc := "(I)I" } : Jvm.MethodName)) ∈ lw_all := lw_g (lw_at lw_m1 187 rfl) rfl
theorem q203 : (Jvm.Cond.instanceMethod ({ cls := "RingDriver", name := "post", desc := "()I" } : Jvm.MethodName)) ∈ lw_all := lw_g (lw_at lw_m1 200 rfl) rfl
theorem q204 : (Jvm.Cond.selects "RingDriver" ({ cls := "RingDriver", name := "post", desc := "()I" } : Jvm.MethodName) ({ cls := "RingDriver", name := "post", desc := "()I" } : Jvm.MethodName)) ∈ lw_all := lw_g (lw_at lw_m1 201 rfl) rfl
theorem q205 : (Jvm.Cond.code ({ cls := "RingDriver", name := "post", desc := "()I" } : Jvm.MethodName) prog_1_method_13_code (1 : Nat) (Option.some Jvm.ClassFile.FieldType.int)) ∈ lw_all := lw_g (lw_at lw_m1 202 rfl) rfl
theorem q206 : (Jvm.Cond.methodLink "RingDriver" (98 : Nat) ({ cls := "RingDriver$Receive", name := "full", desc := "()Z" } : Jvm.MethodName)) ∈ lw_all := lw_g (lw_at lw_m1 203 rfl) rfl
theorem q209 : (Jvm.Cond.methodLink "RingDriver" (99 : Nat) ({ cls := "RingDriver$Receive", name := "enqueue", desc := "([II)I" } : Jvm.MethodName)) ∈ lw_all := lw_g (lw_at lw_m1 206 rfl) rfl
theorem q213 : (Jvm.Cond.instanceMethod ({ cls := "RingDriver", name := "receive", desc := "()I" } : Jvm.MethodName)) ∈ lw_all := lw_g (lw_at lw_m1 210 rfl) rfl
theorem q214 : (Jvm.Cond.selects "RingDriver" ({ cls := "RingDriver", name := "receive", desc := "()I" } : Jvm.MethodName) ({ cls := "RingDriver", name := "receive", desc := "()I" } : Jvm.MethodName)) ∈ lw_all := lw_g (lw_at lw_m1 211 rfl) rfl
theorem q215 : (Jvm.Cond.code ({ cls := "RingDriver", name := "receive", desc := "()I" } : Jvm.MethodName) prog_1_method_14_code (4 : Nat) (Option.some Jvm.ClassFile.FieldType.int)) ∈ lw_all := lw_g (lw_at lw_m1 212 rfl) rfl
theorem q216 : (Jvm.Cond.methodLink "RingDriver" (100 : Nat) ({ cls := "RingDriver$Receive", name := "empty", desc := "()Z" } : Jvm.MethodName)) ∈ lw_all := lw_g (lw_at lw_m1 213 rfl) rfl
theorem q219 : (Jvm.Cond.methodLink "RingDriver" (101 : Nat) ({ cls := "RingDriver$Receive", name := "slot", desc := "(I)I" } : Jvm.MethodName)) ∈ lw_all := lw_g (lw_at lw_m1 216 rfl) rfl
theorem q222 : (Jvm.Cond.methodLink "RingDriver" (102 : Nat) ({ cls := "RingDriver$Receive", name := "owner", desc := "(I)I" } : Jvm.MethodName)) ∈ lw_all := lw_g (lw_at lw_m1 219 rfl) rfl
theorem q225 : (Jvm.Cond.methodLink "RingDriver" (103 : Nat) ({ cls := "RingDriver$Receive", name := "take", desc := "()I" } : Jvm.MethodName)) ∈ lw_all := lw_g (lw_at lw_m1 222 rfl) rfl
theorem q228 : (Jvm.Cond.methodLink "RingDriver" (104 : Nat) ({ cls := "RingDriver$Receive", name := "length", desc := "(I)I" } : Jvm.MethodName)) ∈ lw_all := lw_g (lw_at lw_m1 225 rfl) rfl
theorem q234 : (Jvm.Cond.methodLink "RingDriver" (107 : Nat) ({ cls := "RingDriver$Receive", name := "byteOf", desc := "(II)I" } : Jvm.MethodName)) ∈ lw_all := lw_g (lw_at lw_m1 231 rfl) rfl
theorem q239 : (Jvm.Cond.instanceMethod ({ cls := "RingDriver", name := "taken", desc := "(I)I" } : Jvm.MethodName)) ∈ lw_all := lw_g (lw_at lw_m1 236 rfl) rfl
theorem q240 : (Jvm.Cond.selects "RingDriver" ({ cls := "RingDriver", name := "taken", desc := "(I)I" } : Jvm.MethodName) ({ cls := "RingDriver", name := "taken", desc := "(I)I" } : Jvm.MethodName)) ∈ lw_all := lw_g (lw_at lw_m1 237 rfl) rfl
theorem q241 : (Jvm.Cond.code ({ cls := "RingDriver", name := "taken", desc := "(I)I" } : Jvm.MethodName) prog_1_method_15_code (2 : Nat) (Option.some Jvm.ClassFile.FieldType.int)) ∈ lw_all := lw_g (lw_at lw_m1 238 rfl) rfl
theorem q243 : (Jvm.Cond.instanceMethod ({ cls := "RingDriver", name := "withdraw", desc := "()I" } : Jvm.MethodName)) ∈ lw_all := lw_g (lw_at lw_m2 0 rfl) rfl
theorem q244 : (Jvm.Cond.selects "RingDriver" ({ cls := "RingDriver", name := "withdraw", desc := "()I" } : Jvm.MethodName) ({ cls := "RingDriver", name := "withdraw", desc := "()I" } : Jvm.MethodName)) ∈ lw_all := lw_g (lw_at lw_m2 1 rfl) rfl
theorem q245 : (Jvm.Cond.code ({ cls := "RingDriver", name := "withdraw", desc := "()I" } : Jvm.MethodName) prog_1_method_16_code (2 : Nat) (Option.some Jvm.ClassFile.FieldType.int)) ∈ lw_all := lw_g (lw_at lw_m2 2 rfl) rfl
theorem q246 : (Jvm.Cond.methodLink "RingDriver" (111 : Nat) ({ cls := "RingDriver$Receive", name := "cut", desc := "(I)I" } : Jvm.MethodName)) ∈ lw_all := lw_g (lw_at lw_m2 3 rfl) rfl
theorem q250 : (Jvm.Cond.instanceMethod ({ cls := "RingDriver", name := "sending", desc := "()I" } : Jvm.MethodName)) ∈ lw_all := lw_g (lw_at lw_m2 7 rfl) rfl
theorem q251 : (Jvm.Cond.selects "RingDriver" ({ cls := "RingDriver", name := "sending", desc := "()I" } : Jvm.MethodName) ({ cls := "RingDriver", name := "sending", desc := "()I" } : Jvm.MethodName)) ∈ lw_all := lw_g (lw_at lw_m2 8 rfl) rfl
theorem q252 : (Jvm.Cond.code ({ cls := "RingDriver", name := "sending", desc := "()I" } : Jvm.MethodName) prog_1_method_17_code (1 : Nat) (Option.some Jvm.ClassFile.FieldType.int)) ∈ lw_all := lw_g (lw_at lw_m2 9 rfl) rfl
theorem q254 : (Jvm.Cond.instanceMethod ({ cls := "RingDriver", name := "receiving", desc := "()I" } : Jvm.MethodName)) ∈ lw_all := lw_g (lw_at lw_m2 11 rfl) rfl
theorem q255 : (Jvm.Cond.selects "RingDriver" ({ cls := "RingDriver", name := "receiving", desc := "()I" } : Jvm.MethodName) ({ cls := "RingDriver", name := "receiving", desc := "()I" } : Jvm.MethodName)) ∈ lw_all := lw_g (lw_at lw_m2 12 rfl) rfl
theorem q256 : (Jvm.Cond.code ({ cls := "RingDriver", name := "receiving", desc := "()I" } : Jvm.MethodName) prog_1_method_18_code (1 : Nat) (Option.some Jvm.ClassFile.FieldType.int)) ∈ lw_all := lw_g (lw_at lw_m2 13 rfl) rfl
theorem in_X0 : ∀ w ∈ wsX00, w ∈ lw_all := lw_in wsX00 [72, 74, 76, 78, 80] (by decide +kernel) (by decide +kernel)
end
section
/-! RingDriverModel -/
set_option maxRecDepth 100000
def RX4 : String := "RingDriverModel"
def TX4 : u_T := fun k => match k with
  | 0 => ("RingDriverModel", "memory", "[B", true)
  | 1 => ("RingDriverModel", "readable", "[Z", true)
  | 2 => ("RingDriverModel", "writable", "[Z", true)
  | 3 => ("RingDriverModel", "outBox", "[B", true)
  | 4 => ("RingDriverModel", "inBox", "[B", true)
  | 5 => ("RingDriverModel", "faults", "I", false)
  | 6 => ("RingDriverModel", "t", "I", false)
  | 7 => ("RingDriverModel", "n", "I", false)
  | 8 => ("RingDriverModel", "\x72", "I", false)
  | _ => ("RingDriverModel", "m", "I", false)
def tyX4 : Nat → FieldType := fun k => match k with
  | 0 => .array .byte
  | 1 => .array .boolean
  | 2 => .array .boolean
  | 3 => .array .byte
  | 4 => .array .byte
  | 5 => .int
  | 6 => .int
  | 7 => .int
  | 8 => .int
  | _ => .int
abbrev wsX40 : List Cond := u_ws RX4 TX4 10
theorem nmX4 : ∀ a, a < 10 → ∀ b, b < 10 → a ≠ b → (TX4 a).2.1 ≠ (TX4 b).2.1 := by decide +kernel
theorem tyX4_ok : ∀ k, k < 10 → parseFieldDescriptor (TX4 k).2.2.1 = some (tyX4 k) := by decide +kernel
abbrev cX4_init : ByteArray := prog_6_method_1_code
def yX4_init : MethodName := ⟨RX4, "<init>", "()V"⟩
theorem dX4_init_0 : decode cX4_init 0 = .ok (.aload_n 0, 1) := by decide +kernel
theorem dX4_init_1 : decode cX4_init 1 = .ok (.invokespecial 1, 3) := by decide +kernel
theorem dX4_init_4 : decode cX4_init 4 = .ok (.aload_n 0, 1) := by decide +kernel
theorem dX4_init_5 : decode cX4_init 5 = .ok (.sipush 384, 3) := by decide +kernel
theorem dX4_init_8 : decode cX4_init 8 = .ok (.newarray .byte, 2) := by decide +kernel
theorem dX4_init_10 : decode cX4_init 10 = .ok (.putfield 7, 3) := by decide +kernel
theorem dX4_init_13 : decode cX4_init 13 = .ok (.aload_n 0, 1) := by decide +kernel
theorem dX4_init_14 : decode cX4_init 14 = .ok (.bipush 24, 2) := by decide +kernel
theorem dX4_init_16 : decode cX4_init 16 = .ok (.newarray .boolean, 2) := by decide +kernel
theorem dX4_init_18 : decode cX4_init 18 = .ok (.putfield 13, 3) := by decide +kernel
theorem dX4_init_21 : decode cX4_init 21 = .ok (.aload_n 0, 1) := by decide +kernel
theorem dX4_init_22 : decode cX4_init 22 = .ok (.bipush 24, 2) := by decide +kernel
theorem dX4_init_24 : decode cX4_init 24 = .ok (.newarray .boolean, 2) := by decide +kernel
theorem dX4_init_26 : decode cX4_init 26 = .ok (.putfield 17, 3) := by decide +kernel
theorem dX4_init_29 : decode cX4_init 29 = .ok (.aload_n 0, 1) := by decide +kernel
theorem dX4_init_30 : decode cX4_init 30 = .ok (.bipush 16, 2) := by decide +kernel
theorem dX4_init_32 : decode cX4_init 32 = .ok (.newarray .byte, 2) := by decide +kernel
theorem dX4_init_34 : decode cX4_init 34 = .ok (.putfield 20, 3) := by decide +kernel
theorem dX4_init_37 : decode cX4_init 37 = .ok (.aload_n 0, 1) := by decide +kernel
theorem dX4_init_38 : decode cX4_init 38 = .ok (.bipush 16, 2) := by decide +kernel
theorem dX4_init_40 : decode cX4_init 40 = .ok (.newarray .byte, 2) := by decide +kernel
theorem dX4_init_42 : decode cX4_init 42 = .ok (.putfield 23, 3) := by decide +kernel
theorem dX4_init_45 : decode cX4_init 45 = .ok (.iconst 0, 1) := by decide +kernel
theorem dX4_init_46 : decode cX4_init 46 = .ok (.istore_n 1, 1) := by decide +kernel
theorem dX4_init_47 : decode cX4_init 47 = .ok (.iload_n 1, 1) := by decide +kernel
theorem dX4_init_48 : decode cX4_init 48 = .ok (.bipush 8, 2) := by decide +kernel
theorem dX4_init_50 : decode cX4_init 50 = .ok (.if_icmp .ge 23, 3) := by decide +kernel
theorem dX4_init_53 : decode cX4_init 53 = .ok (.aload_n 0, 1) := by decide +kernel
theorem dX4_init_54 : decode cX4_init 54 = .ok (.getfield 13, 3) := by decide +kernel
theorem dX4_init_57 : decode cX4_init 57 = .ok (.iload_n 1, 1) := by decide +kernel
theorem dX4_init_58 : decode cX4_init 58 = .ok (.iconst 1, 1) := by decide +kernel
theorem dX4_init_59 : decode cX4_init 59 = .ok (.bastore, 1) := by decide +kernel
theorem dX4_init_60 : decode cX4_init 60 = .ok (.aload_n 0, 1) := by decide +kernel
theorem dX4_init_61 : decode cX4_init 61 = .ok (.getfield 17, 3) := by decide +kernel
theorem dX4_init_64 : decode cX4_init 64 = .ok (.iload_n 1, 1) := by decide +kernel
theorem dX4_init_65 : decode cX4_init 65 = .ok (.iconst 1, 1) := by decide +kernel
theorem dX4_init_66 : decode cX4_init 66 = .ok (.bastore, 1) := by decide +kernel
theorem dX4_init_67 : decode cX4_init 67 = .ok (.iinc 1 1, 3) := by decide +kernel
theorem dX4_init_70 : decode cX4_init 70 = .ok (.goto (-23), 3) := by decide +kernel
theorem dX4_init_73 : decode cX4_init 73 = .ok (.return_, 1) := by decide +kernel
abbrev cX4_deviceRead : ByteArray := prog_6_method_2_code
def yX4_deviceRead : MethodName := ⟨RX4, "deviceRead", "(I)I"⟩
theorem dX4_deviceRead_0 : decode cX4_deviceRead 0 = .ok (.iload_n 1, 1) := by decide +kernel
theorem dX4_deviceRead_1 : decode cX4_deviceRead 1 = .ok (.ifCond .lt 22, 3) := by decide +kernel
theorem dX4_deviceRead_4 : decode cX4_deviceRead 4 = .ok (.iload_n 1, 1) := by decide +kernel
theorem dX4_deviceRead_5 : decode cX4_deviceRead 5 = .ok (.sipush 383, 3) := by decide +kernel
theorem dX4_deviceRead_8 : decode cX4_deviceRead 8 = .ok (.if_icmp .gt 15, 3) := by decide +kernel
theorem dX4_deviceRead_11 : decode cX4_deviceRead 11 = .ok (.aload_n 0, 1) := by decide +kernel
theorem dX4_deviceRead_12 : decode cX4_deviceRead 12 = .ok (.getfield 13, 3) := by decide +kernel
theorem dX4_deviceRead_15 : decode cX4_deviceRead 15 = .ok (.iload_n 1, 1) := by decide +kernel
theorem dX4_deviceRead_16 : decode cX4_deviceRead 16 = .ok (.bipush 16, 2) := by decide +kernel
theorem dX4_deviceRead_18 : decode cX4_deviceRead 18 = .ok (.idiv, 1) := by decide +kernel
theorem dX4_deviceRead_19 : decode cX4_deviceRead 19 = .ok (.baload, 1) := by decide +kernel
theorem dX4_deviceRead_20 : decode cX4_deviceRead 20 = .ok (.ifCond .ne 15, 3) := by decide +kernel
theorem dX4_deviceRead_23 : decode cX4_deviceRead 23 = .ok (.aload_n 0, 1) := by decide +kernel
theorem dX4_deviceRead_24 : decode cX4_deviceRead 24 = .ok (.aload_n 0, 1) := by decide +kernel
theorem dX4_deviceRead_25 : decode cX4_deviceRead 25 = .ok (.getfield 26, 3) := by decide +kernel
theorem dX4_deviceRead_28 : decode cX4_deviceRead 28 = .ok (.iconst 1, 1) := by decide +kernel
theorem dX4_deviceRead_29 : decode cX4_deviceRead 29 = .ok (.iadd, 1) := by decide +kernel
theorem dX4_deviceRead_30 : decode cX4_deviceRead 30 = .ok (.putfield 26, 3) := by decide +kernel
theorem dX4_deviceRead_33 : decode cX4_deviceRead 33 = .ok (.iconst (-1), 1) := by decide +kernel
theorem dX4_deviceRead_34 : decode cX4_deviceRead 34 = .ok (.ireturn, 1) := by decide +kernel
theorem dX4_deviceRead_35 : decode cX4_deviceRead 35 = .ok (.aload_n 0, 1) := by decide +kernel
theorem dX4_deviceRead_36 : decode cX4_deviceRead 36 = .ok (.getfield 7, 3) := by decide +kernel
theorem dX4_deviceRead_39 : decode cX4_deviceRead 39 = .ok (.iload_n 1, 1) := by decide +kernel
theorem dX4_deviceRead_40 : decode cX4_deviceRead 40 = .ok (.baload, 1) := by decide +kernel
theorem dX4_deviceRead_41 : decode cX4_deviceRead 41 = .ok (.sipush 255, 3) := by decide +kernel
theorem dX4_deviceRead_44 : decode cX4_deviceRead 44 = .ok (.iand, 1) := by decide +kernel
theorem dX4_deviceRead_45 : decode cX4_deviceRead 45 = .ok (.ireturn, 1) := by decide +kernel
abbrev cX4_deviceWrite : ByteArray := prog_6_method_3_code
def yX4_deviceWrite : MethodName := ⟨RX4, "deviceWrite", "(II)I"⟩
theorem dX4_deviceWrite_0 : decode cX4_deviceWrite 0 = .ok (.iload_n 1, 1) := by decide +kernel
theorem dX4_deviceWrite_1 : decode cX4_deviceWrite 1 = .ok (.ifCond .lt 22, 3) := by decide +kernel
theorem dX4_deviceWrite_4 : decode cX4_deviceWrite 4 = .ok (.iload_n 1, 1) := by decide +kernel
theorem dX4_deviceWrite_5 : decode cX4_deviceWrite 5 = .ok (.sipush 383, 3) := by decide +kernel
theorem dX4_deviceWrite_8 : decode cX4_deviceWrite 8 = .ok (.if_icmp .gt 15, 3) := by decide +kernel
theorem dX4_deviceWrite_11 : decode cX4_deviceWrite 11 = .ok (.aload_n 0, 1) := by decide +kernel
theorem dX4_deviceWrite_12 : decode cX4_deviceWrite 12 = .ok (.getfield 17, 3) := by decide +kernel
theorem dX4_deviceWrite_15 : decode cX4_deviceWrite 15 = .ok (.iload_n 1, 1) := by decide +kernel
theorem dX4_deviceWrite_16 : decode cX4_deviceWrite 16 = .ok (.bipush 16, 2) := by decide +kernel
theorem dX4_deviceWrite_18 : decode cX4_deviceWrite 18 = .ok (.idiv, 1) := by decide +kernel
theorem dX4_deviceWrite_19 : decode cX4_deviceWrite 19 = .ok (.baload, 1) := by decide +kernel
theorem dX4_deviceWrite_20 : decode cX4_deviceWrite 20 = .ok (.ifCond .ne 15, 3) := by decide +kernel
theorem dX4_deviceWrite_23 : decode cX4_deviceWrite 23 = .ok (.aload_n 0, 1) := by decide +kernel
theorem dX4_deviceWrite_24 : decode cX4_deviceWrite 24 = .ok (.aload_n 0, 1) := by decide +kernel
theorem dX4_deviceWrite_25 : decode cX4_deviceWrite 25 = .ok (.getfield 26, 3) := by decide +kernel
theorem dX4_deviceWrite_28 : decode cX4_deviceWrite 28 = .ok (.iconst 1, 1) := by decide +kernel
theorem dX4_deviceWrite_29 : decode cX4_deviceWrite 29 = .ok (.iadd, 1) := by decide +kernel
theorem dX4_deviceWrite_30 : decode cX4_deviceWrite 30 = .ok (.putfield 26, 3) := by decide +kernel
theorem dX4_deviceWrite_33 : decode cX4_deviceWrite 33 = .ok (.iconst (-1), 1) := by decide +kernel
theorem dX4_deviceWrite_34 : decode cX4_deviceWrite 34 = .ok (.ireturn, 1) := by decide +kernel
theorem dX4_deviceWrite_35 : decode cX4_deviceWrite 35 = .ok (.aload_n 0, 1) := by decide +kernel
theorem dX4_deviceWrite_36 : decode cX4_deviceWrite 36 = .ok (.getfield 7, 3) := by decide +kernel
theorem dX4_deviceWrite_39 : decode cX4_deviceWrite 39 = .ok (.iload_n 1, 1) := by decide +kernel
theorem dX4_deviceWrite_40 : decode cX4_deviceWrite 40 = .ok (.iload_n 2, 1) := by decide +kernel
theorem dX4_deviceWrite_41 : decode cX4_deviceWrite 41 = .ok (.i2b, 1) := by decide +kernel
theorem dX4_deviceWrite_42 : decode cX4_deviceWrite 42 = .ok (.bastore, 1) := by decide +kernel
theorem dX4_deviceWrite_43 : decode cX4_deviceWrite 43 = .ok (.iconst 0, 1) := by decide +kernel
theorem dX4_deviceWrite_44 : decode cX4_deviceWrite 44 = .ok (.ireturn, 1) := by decide +kernel
abbrev cX4_faults : ByteArray := prog_6_method_4_code
def yX4_faults : MethodName := ⟨RX4, "faults", "()I"⟩
theorem dX4_faults_0 : decode cX4_faults 0 = .ok (.aload_n 0, 1) := by decide +kernel
theorem dX4_faults_1 : decode cX4_faults 1 = .ok (.getfield 26, 3) := by decide +kernel
theorem dX4_faults_4 : decode cX4_faults 4 = .ok (.ireturn, 1) := by decide +kernel
abbrev cX4_load : ByteArray := prog_6_method_5_code
def yX4_load : MethodName := ⟨RX4, "load", "(II)Z"⟩
theorem dX4_load_0 : decode cX4_load 0 = .ok (.iload_n 1, 1) := by decide +kernel
theorem dX4_load_1 : decode cX4_load 1 = .ok (.ifCond .lt 9, 3) := by decide +kernel
theorem dX4_load_4 : decode cX4_load 4 = .ok (.iload_n 1, 1) := by decide +kernel
theorem dX4_load_5 : decode cX4_load 5 = .ok (.bipush 15, 2) := by decide +kernel
theorem dX4_load_7 : decode cX4_load 7 = .ok (.if_icmp .le 5, 3) := by decide +kernel
theorem dX4_load_10 : decode cX4_load 10 = .ok (.iconst 0, 1) := by decide +kernel
theorem dX4_load_11 : decode cX4_load 11 = .ok (.ireturn, 1) := by decide +kernel
theorem dX4_load_12 : decode cX4_load 12 = .ok (.aload_n 0, 1) := by decide +kernel
theorem dX4_load_13 : decode cX4_load 13 = .ok (.getfield 20, 3) := by decide +kernel
theorem dX4_load_16 : decode cX4_load 16 = .ok (.iload_n 1, 1) := by decide +kernel
theorem dX4_load_17 : decode cX4_load 17 = .ok (.iload_n 2, 1) := by decide +kernel
theorem dX4_load_18 : decode cX4_load 18 = .ok (.i2b, 1) := by decide +kernel
theorem dX4_load_19 : decode cX4_load 19 = .ok (.bastore, 1) := by decide +kernel
theorem dX4_load_20 : decode cX4_load 20 = .ok (.iconst 1, 1) := by decide +kernel
theorem dX4_load_21 : decode cX4_load 21 = .ok (.ireturn, 1) := by decide +kernel
abbrev cX4_send : ByteArray := prog_6_method_7_code
def yX4_send : MethodName := ⟨RX4, "send", "(I)I"⟩
theorem dX4_send_0 : decode cX4_send 0 = .ok (.iload_n 1, 1) := by decide +kernel
theorem dX4_send_1 : decode cX4_send 1 = .ok (.iconst 1, 1) := by decide +kernel
theorem dX4_send_2 : decode cX4_send 2 = .ok (.if_icmp .lt 9, 3) := by decide +kernel
theorem dX4_send_5 : decode cX4_send 5 = .ok (.iload_n 1, 1) := by decide +kernel
theorem dX4_send_6 : decode cX4_send 6 = .ok (.bipush 16, 2) := by decide +kernel
theorem dX4_send_8 : decode cX4_send 8 = .ok (.if_icmp .le 6, 3) := by decide +kernel
theorem dX4_send_11 : decode cX4_send 11 = .ok (.bipush (-2), 2) := by decide +kernel
theorem dX4_send_13 : decode cX4_send 13 = .ok (.ireturn, 1) := by decide +kernel
theorem dX4_send_14 : decode cX4_send 14 = .ok (.aload_n 0, 1) := by decide +kernel
theorem dX4_send_15 : decode cX4_send 15 = .ok (.getfield 30, 3) := by decide +kernel
theorem dX4_send_18 : decode cX4_send 18 = .ok (.bipush 8, 2) := by decide +kernel
theorem dX4_send_20 : decode cX4_send 20 = .ok (.if_icmp .ne 5, 3) := by decide +kernel
theorem dX4_send_23 : decode cX4_send 23 = .ok (.iconst (-1), 1) := by decide +kernel
theorem dX4_send_24 : decode cX4_send 24 = .ok (.ireturn, 1) := by decide +kernel
theorem dX4_send_25 : decode cX4_send 25 = .ok (.aload_n 0, 1) := by decide +kernel
theorem dX4_send_26 : decode cX4_send 26 = .ok (.getfield 33, 3) := by decide +kernel
theorem dX4_send_29 : decode cX4_send 29 = .ok (.aload_n 0, 1) := by decide +kernel
theorem dX4_send_30 : decode cX4_send 30 = .ok (.getfield 30, 3) := by decide +kernel
theorem dX4_send_33 : decode cX4_send 33 = .ok (.iadd, 1) := by decide +kernel
theorem dX4_send_34 : decode cX4_send 34 = .ok (.bipush 8, 2) := by decide +kernel
theorem dX4_send_36 : decode cX4_send 36 = .ok (.irem, 1) := by decide +kernel
theorem dX4_send_37 : decode cX4_send 37 = .ok (.istore_n 2, 1) := by decide +kernel
theorem dX4_send_38 : decode cX4_send 38 = .ok (.iconst 0, 1) := by decide +kernel
theorem dX4_send_39 : decode cX4_send 39 = .ok (.istore_n 3, 1) := by decide +kernel
theorem dX4_send_40 : decode cX4_send 40 = .ok (.iload_n 3, 1) := by decide +kernel
theorem dX4_send_41 : decode cX4_send 41 = .ok (.bipush 16, 2) := by decide +kernel
theorem dX4_send_43 : decode cX4_send 43 = .ok (.if_icmp .ge 38, 3) := by decide +kernel
theorem dX4_send_46 : decode cX4_send 46 = .ok (.aload_n 0, 1) := by decide +kernel
theorem dX4_send_47 : decode cX4_send 47 = .ok (.getfield 7, 3) := by decide +kernel
theorem dX4_send_50 : decode cX4_send 50 = .ok (.bipush 8, 2) := by decide +kernel
theorem dX4_send_52 : decode cX4_send 52 = .ok (.iload_n 2, 1) := by decide +kernel
theorem dX4_send_53 : decode cX4_send 53 = .ok (.iadd, 1) := by decide +kernel
theorem dX4_send_54 : decode cX4_send 54 = .ok (.bipush 16, 2) := by decide +kernel
theorem dX4_send_56 : decode cX4_send 56 = .ok (.imul, 1) := by decide +kernel
theorem dX4_send_57 : decode cX4_send 57 = .ok (.iload_n 3, 1) := by decide +kernel
theorem dX4_send_58 : decode cX4_send 58 = .ok (.iadd, 1) := by decide +kernel
theorem dX4_send_59 : decode cX4_send 59 = .ok (.iload_n 3, 1) := by decide +kernel
theorem dX4_send_60 : decode cX4_send 60 = .ok (.iload_n 1, 1) := by decide +kernel
theorem dX4_send_61 : decode cX4_send 61 = .ok (.if_icmp .ge 12, 3) := by decide +kernel
theorem dX4_send_64 : decode cX4_send 64 = .ok (.aload_n 0, 1) := by decide +kernel
theorem dX4_send_65 : decode cX4_send 65 = .ok (.getfield 20, 3) := by decide +kernel
theorem dX4_send_68 : decode cX4_send 68 = .ok (.iload_n 3, 1) := by decide +kernel
theorem dX4_send_69 : decode cX4_send 69 = .ok (.baload, 1) := by decide +kernel
theorem dX4_send_70 : decode cX4_send 70 = .ok (.goto 4, 3) := by decide +kernel
theorem dX4_send_73 : decode cX4_send 73 = .ok (.iconst 0, 1) := by decide +kernel
theorem dX4_send_74 : decode cX4_send 74 = .ok (.bastore, 1) := by decide +kernel
theorem dX4_send_75 : decode cX4_send 75 = .ok (.iinc 3 1, 3) := by decide +kernel
theorem dX4_send_78 : decode cX4_send 78 = .ok (.goto (-38), 3) := by decide +kernel
theorem dX4_send_81 : decode cX4_send 81 = .ok (.aload_n 0, 1) := by decide +kernel
theorem dX4_send_82 : decode cX4_send 82 = .ok (.getfield 13, 3) := by decide +kernel
theorem dX4_send_85 : decode cX4_send 85 = .ok (.bipush 8, 2) := by decide +kernel
theorem dX4_send_87 : decode cX4_send 87 = .ok (.iload_n 2, 1) := by decide +kernel
theorem dX4_send_88 : decode cX4_send 88 = .ok (.iadd, 1) := by decide +kernel
theorem dX4_send_89 : decode cX4_send 89 = .ok (.iconst 1, 1) := by decide +kernel
theorem dX4_send_90 : decode cX4_send 90 = .ok (.bastore, 1) := by decide +kernel
theorem dX4_send_91 : decode cX4_send 91 = .ok (.aload_n 0, 1) := by decide +kernel
theorem dX4_send_92 : decode cX4_send 92 = .ok (.bipush 8, 2) := by decide +kernel
theorem dX4_send_94 : decode cX4_send 94 = .ok (.iload_n 2, 1) := by decide +kernel
theorem dX4_send_95 : decode cX4_send 95 = .ok (.imul, 1) := by decide +kernel
theorem dX4_send_96 : decode cX4_send 96 = .ok (.bipush 8, 2) := by decide +kernel
theorem dX4_send_98 : decode cX4_send 98 = .ok (.iload_n 2, 1) := by decide +kernel
theorem dX4_send_99 : decode cX4_send 99 = .ok (.iadd, 1) := by decide +kernel
theorem dX4_send_100 : decode cX4_send 100 = .ok (.iload_n 1, 1) := by decide +kernel
theorem dX4_send_101 : decode cX4_send 101 = .ok (.invokevirtual 36, 3) := by decide +kernel
theorem dX4_send_104 : decode cX4_send 104 = .ok (.aload_n 0, 1) := by decide +kernel
theorem dX4_send_105 : decode cX4_send 105 = .ok (.aload_n 0, 1) := by decide +kernel
theorem dX4_send_106 : decode cX4_send 106 = .ok (.getfield 30, 3) := by decide +kernel
theorem dX4_send_109 : decode cX4_send 109 = .ok (.iconst 1, 1) := by decide +kernel
theorem dX4_send_110 : decode cX4_send 110 = .ok (.iadd, 1) := by decide +kernel
theorem dX4_send_111 : decode cX4_send 111 = .ok (.putfield 30, 3) := by decide +kernel
theorem dX4_send_114 : decode cX4_send 114 = .ok (.iload_n 2, 1) := by decide +kernel
theorem dX4_send_115 : decode cX4_send 115 = .ok (.ireturn, 1) := by decide +kernel
abbrev cX4_describe : ByteArray := prog_6_method_6_code
def yX4_describe : MethodName := ⟨RX4, "describe", "(III)V"⟩
theorem dX4_describe_0 : decode cX4_describe 0 = .ok (.iconst 0, 1) := by decide +kernel
theorem dX4_describe_1 : decode cX4_describe 1 = .ok (.istore 4, 2) := by decide +kernel
theorem dX4_describe_3 : decode cX4_describe 3 = .ok (.iload 4, 2) := by decide +kernel
theorem dX4_describe_5 : decode cX4_describe 5 = .ok (.bipush 8, 2) := by decide +kernel
theorem dX4_describe_7 : decode cX4_describe 7 = .ok (.if_icmp .ge 19, 3) := by decide +kernel
theorem dX4_describe_10 : decode cX4_describe 10 = .ok (.aload_n 0, 1) := by decide +kernel
theorem dX4_describe_11 : decode cX4_describe 11 = .ok (.getfield 7, 3) := by decide +kernel
theorem dX4_describe_14 : decode cX4_describe 14 = .ok (.iload_n 1, 1) := by decide +kernel
theorem dX4_describe_15 : decode cX4_describe 15 = .ok (.iload 4, 2) := by decide +kernel
theorem dX4_describe_17 : decode cX4_describe 17 = .ok (.iadd, 1) := by decide +kernel
theorem dX4_describe_18 : decode cX4_describe 18 = .ok (.iconst 0, 1) := by decide +kernel
theorem dX4_describe_19 : decode cX4_describe 19 = .ok (.bastore, 1) := by decide +kernel
theorem dX4_describe_20 : decode cX4_describe 20 = .ok (.iinc 4 1, 3) := by decide +kernel
theorem dX4_describe_23 : decode cX4_describe 23 = .ok (.goto (-20), 3) := by decide +kernel
theorem dX4_describe_26 : decode cX4_describe 26 = .ok (.aload_n 0, 1) := by decide +kernel
theorem dX4_describe_27 : decode cX4_describe 27 = .ok (.getfield 7, 3) := by decide +kernel
theorem dX4_describe_30 : decode cX4_describe 30 = .ok (.iload_n 1, 1) := by decide +kernel
theorem dX4_describe_31 : decode cX4_describe 31 = .ok (.iload_n 2, 1) := by decide +kernel
theorem dX4_describe_32 : decode cX4_describe 32 = .ok (.i2b, 1) := by decide +kernel
theorem dX4_describe_33 : decode cX4_describe 33 = .ok (.bastore, 1) := by decide +kernel
theorem dX4_describe_34 : decode cX4_describe 34 = .ok (.aload_n 0, 1) := by decide +kernel
theorem dX4_describe_35 : decode cX4_describe 35 = .ok (.getfield 7, 3) := by decide +kernel
theorem dX4_describe_38 : decode cX4_describe 38 = .ok (.iload_n 1, 1) := by decide +kernel
theorem dX4_describe_39 : decode cX4_describe 39 = .ok (.iconst 1, 1) := by decide +kernel
theorem dX4_describe_40 : decode cX4_describe 40 = .ok (.iadd, 1) := by decide +kernel
theorem dX4_describe_41 : decode cX4_describe 41 = .ok (.iload_n 3, 1) := by decide +kernel
theorem dX4_describe_42 : decode cX4_describe 42 = .ok (.i2b, 1) := by decide +kernel
theorem dX4_describe_43 : decode cX4_describe 43 = .ok (.bastore, 1) := by decide +kernel
theorem dX4_describe_44 : decode cX4_describe 44 = .ok (.aload_n 0, 1) := by decide +kernel
theorem dX4_describe_45 : decode cX4_describe 45 = .ok (.getfield 7, 3) := by decide +kernel
theorem dX4_describe_48 : decode cX4_describe 48 = .ok (.iload_n 1, 1) := by decide +kernel
theorem dX4_describe_49 : decode cX4_describe 49 = .ok (.iconst 2, 1) := by decide +kernel
theorem dX4_describe_50 : decode cX4_describe 50 = .ok (.iadd, 1) := by decide +kernel
theorem dX4_describe_51 : decode cX4_describe 51 = .ok (.iconst 1, 1) := by decide +kernel
theorem dX4_describe_52 : decode cX4_describe 52 = .ok (.bastore, 1) := by decide +kernel
theorem dX4_describe_53 : decode cX4_describe 53 = .ok (.return_, 1) := by decide +kernel
abbrev cX4_reclaim : ByteArray := prog_6_method_8_code
def yX4_reclaim : MethodName := ⟨RX4, "reclaim", "()I"⟩
theorem dX4_reclaim_0 : decode cX4_reclaim 0 = .ok (.iconst 0, 1) := by decide +kernel
theorem dX4_reclaim_1 : decode cX4_reclaim 1 = .ok (.istore_n 1, 1) := by decide +kernel
theorem dX4_reclaim_2 : decode cX4_reclaim 2 = .ok (.iconst 0, 1) := by decide +kernel
theorem dX4_reclaim_3 : decode cX4_reclaim 3 = .ok (.istore_n 2, 1) := by decide +kernel
theorem dX4_reclaim_4 : decode cX4_reclaim 4 = .ok (.iload_n 2, 1) := by decide +kernel
theorem dX4_reclaim_5 : decode cX4_reclaim 5 = .ok (.bipush 8, 2) := by decide +kernel
theorem dX4_reclaim_7 : decode cX4_reclaim 7 = .ok (.if_icmp .ge 73, 3) := by decide +kernel
theorem dX4_reclaim_10 : decode cX4_reclaim 10 = .ok (.aload_n 0, 1) := by decide +kernel
theorem dX4_reclaim_11 : decode cX4_reclaim 11 = .ok (.getfield 30, 3) := by decide +kernel
theorem dX4_reclaim_14 : decode cX4_reclaim 14 = .ok (.ifCond .le 60, 3) := by decide +kernel
theorem dX4_reclaim_17 : decode cX4_reclaim 17 = .ok (.aload_n 0, 1) := by decide +kernel
theorem dX4_reclaim_18 : decode cX4_reclaim 18 = .ok (.getfield 7, 3) := by decide +kernel
theorem dX4_reclaim_21 : decode cX4_reclaim 21 = .ok (.bipush 8, 2) := by decide +kernel
theorem dX4_reclaim_23 : decode cX4_reclaim 23 = .ok (.aload_n 0, 1) := by decide +kernel
theorem dX4_reclaim_24 : decode cX4_reclaim 24 = .ok (.getfield 33, 3) := by decide +kernel
theorem dX4_reclaim_27 : decode cX4_reclaim 27 = .ok (.imul, 1) := by decide +kernel
theorem dX4_reclaim_28 : decode cX4_reclaim 28 = .ok (.iconst 2, 1) := by decide +kernel
theorem dX4_reclaim_29 : decode cX4_reclaim 29 = .ok (.iadd, 1) := by decide +kernel
theorem dX4_reclaim_30 : decode cX4_reclaim 30 = .ok (.baload, 1) := by decide +kernel
theorem dX4_reclaim_31 : decode cX4_reclaim 31 = .ok (.ifCond .ne 43, 3) := by decide +kernel
theorem dX4_reclaim_34 : decode cX4_reclaim 34 = .ok (.aload_n 0, 1) := by decide +kernel
theorem dX4_reclaim_35 : decode cX4_reclaim 35 = .ok (.getfield 13, 3) := by decide +kernel
theorem dX4_reclaim_38 : decode cX4_reclaim 38 = .ok (.bipush 8, 2) := by decide +kernel
theorem dX4_reclaim_40 : decode cX4_reclaim 40 = .ok (.aload_n 0, 1) := by decide +kernel
theorem dX4_reclaim_41 : decode cX4_reclaim 41 = .ok (.getfield 33, 3) := by decide +kernel
theorem dX4_reclaim_44 : decode cX4_reclaim 44 = .ok (.iadd, 1) := by decide +kernel
theorem dX4_reclaim_45 : decode cX4_reclaim 45 = .ok (.iconst 0, 1) := by decide +kernel
theorem dX4_reclaim_46 : decode cX4_reclaim 46 = .ok (.bastore, 1) := by decide +kernel
theorem dX4_reclaim_47 : decode cX4_reclaim 47 = .ok (.aload_n 0, 1) := by decide +kernel
theorem dX4_reclaim_48 : decode cX4_reclaim 48 = .ok (.aload_n 0, 1) := by decide +kernel
theorem dX4_reclaim_49 : decode cX4_reclaim 49 = .ok (.getfield 33, 3) := by decide +kernel
theorem dX4_reclaim_52 : decode cX4_reclaim 52 = .ok (.iconst 1, 1) := by decide +kernel
theorem dX4_reclaim_53 : decode cX4_reclaim 53 = .ok (.iadd, 1) := by decide +kernel
theorem dX4_reclaim_54 : decode cX4_reclaim 54 = .ok (.bipush 8, 2) := by decide +kernel
theorem dX4_reclaim_56 : decode cX4_reclaim 56 = .ok (.irem, 1) := by decide +kernel
theorem dX4_reclaim_57 : decode cX4_reclaim 57 = .ok (.putfield 33, 3) := by decide +kernel
theorem dX4_reclaim_60 : decode cX4_reclaim 60 = .ok (.aload_n 0, 1) := by decide +kernel
theorem dX4_reclaim_61 : decode cX4_reclaim 61 = .ok (.aload_n 0, 1) := by decide +kernel
theorem dX4_reclaim_62 : decode cX4_reclaim 62 = .ok (.getfield 30, 3) := by decide +kernel
theorem dX4_reclaim_65 : decode cX4_reclaim 65 = .ok (.iconst 1, 1) := by decide +kernel
theorem dX4_reclaim_66 : decode cX4_reclaim 66 = .ok (.isub, 1) := by decide +kernel
theorem dX4_reclaim_67 : decode cX4_reclaim 67 = .ok (.putfield 30, 3) := by decide +kernel
theorem dX4_reclaim_70 : decode cX4_reclaim 70 = .ok (.iload_n 1, 1) := by decide +kernel
theorem dX4_reclaim_71 : decode cX4_reclaim 71 = .ok (.iconst 1, 1) := by decide +kernel
theorem dX4_reclaim_72 : decode cX4_reclaim 72 = .ok (.iadd, 1) := by decide +kernel
theorem dX4_reclaim_73 : decode cX4_reclaim 73 = .ok (.istore_n 1, 1) := by decide +kernel
theorem dX4_reclaim_74 : decode cX4_reclaim 74 = .ok (.iinc 2 1, 3) := by decide +kernel
theorem dX4_reclaim_77 : decode cX4_reclaim 77 = .ok (.goto (-73), 3) := by decide +kernel
theorem dX4_reclaim_80 : decode cX4_reclaim 80 = .ok (.iload_n 1, 1) := by decide +kernel
theorem dX4_reclaim_81 : decode cX4_reclaim 81 = .ok (.ireturn, 1) := by decide +kernel
abbrev cX4_revoke : ByteArray := prog_6_method_9_code
def yX4_revoke : MethodName := ⟨RX4, "revoke", "()I"⟩
theorem dX4_revoke_0 : decode cX4_revoke 0 = .ok (.aload_n 0, 1) := by decide +kernel
theorem dX4_revoke_1 : decode cX4_revoke 1 = .ok (.invokevirtual 40, 3) := by decide +kernel
theorem dX4_revoke_4 : decode cX4_revoke 4 = .ok (.istore_n 1, 1) := by decide +kernel
theorem dX4_revoke_5 : decode cX4_revoke 5 = .ok (.aload_n 0, 1) := by decide +kernel
theorem dX4_revoke_6 : decode cX4_revoke 6 = .ok (.getfield 30, 3) := by decide +kernel
theorem dX4_revoke_9 : decode cX4_revoke 9 = .ok (.istore_n 2, 1) := by decide +kernel
theorem dX4_revoke_10 : decode cX4_revoke 10 = .ok (.iconst 0, 1) := by decide +kernel
theorem dX4_revoke_11 : decode cX4_revoke 11 = .ok (.istore_n 3, 1) := by decide +kernel
theorem dX4_revoke_12 : decode cX4_revoke 12 = .ok (.iload_n 3, 1) := by decide +kernel
theorem dX4_revoke_13 : decode cX4_revoke 13 = .ok (.iload_n 2, 1) := by decide +kernel
theorem dX4_revoke_14 : decode cX4_revoke 14 = .ok (.if_icmp .ge 44, 3) := by decide +kernel
theorem dX4_revoke_17 : decode cX4_revoke 17 = .ok (.aload_n 0, 1) := by decide +kernel
theorem dX4_revoke_18 : decode cX4_revoke 18 = .ok (.getfield 33, 3) := by decide +kernel
theorem dX4_revoke_21 : decode cX4_revoke 21 = .ok (.iload_n 3, 1) := by decide +kernel
theorem dX4_revoke_22 : decode cX4_revoke 22 = .ok (.iadd, 1) := by decide +kernel
theorem dX4_revoke_23 : decode cX4_revoke 23 = .ok (.bipush 8, 2) := by decide +kernel
theorem dX4_revoke_25 : decode cX4_revoke 25 = .ok (.irem, 1) := by decide +kernel
theorem dX4_revoke_26 : decode cX4_revoke 26 = .ok (.istore 4, 2) := by decide +kernel
theorem dX4_revoke_28 : decode cX4_revoke 28 = .ok (.aload_n 0, 1) := by decide +kernel
theorem dX4_revoke_29 : decode cX4_revoke 29 = .ok (.getfield 13, 3) := by decide +kernel
theorem dX4_revoke_32 : decode cX4_revoke 32 = .ok (.bipush 8, 2) := by decide +kernel
theorem dX4_revoke_34 : decode cX4_revoke 34 = .ok (.iload 4, 2) := by decide +kernel
theorem dX4_revoke_36 : decode cX4_revoke 36 = .ok (.iadd, 1) := by decide +kernel
theorem dX4_revoke_37 : decode cX4_revoke 37 = .ok (.iconst 0, 1) := by decide +kernel
theorem dX4_revoke_38 : decode cX4_revoke 38 = .ok (.bastore, 1) := by decide +kernel
theorem dX4_revoke_39 : decode cX4_revoke 39 = .ok (.aload_n 0, 1) := by decide +kernel
theorem dX4_revoke_40 : decode cX4_revoke 40 = .ok (.getfield 7, 3) := by decide +kernel
theorem dX4_revoke_43 : decode cX4_revoke 43 = .ok (.bipush 8, 2) := by decide +kernel
theorem dX4_revoke_45 : decode cX4_revoke 45 = .ok (.iload 4, 2) := by decide +kernel
theorem dX4_revoke_47 : decode cX4_revoke 47 = .ok (.imul, 1) := by decide +kernel
theorem dX4_revoke_48 : decode cX4_revoke 48 = .ok (.iconst 2, 1) := by decide +kernel
theorem dX4_revoke_49 : decode cX4_revoke 49 = .ok (.iadd, 1) := by decide +kernel
theorem dX4_revoke_50 : decode cX4_revoke 50 = .ok (.iconst 0, 1) := by decide +kernel
theorem dX4_revoke_51 : decode cX4_revoke 51 = .ok (.bastore, 1) := by decide +kernel
theorem dX4_revoke_52 : decode cX4_revoke 52 = .ok (.iinc 3 1, 3) := by decide +kernel
theorem dX4_revoke_55 : decode cX4_revoke 55 = .ok (.goto (-43), 3) := by decide +kernel
theorem dX4_revoke_58 : decode cX4_revoke 58 = .ok (.aload_n 0, 1) := by decide +kernel
theorem dX4_revoke_59 : decode cX4_revoke 59 = .ok (.iconst 0, 1) := by decide +kernel
theorem dX4_revoke_60 : decode cX4_revoke 60 = .ok (.putfield 30, 3) := by decide +kernel
theorem dX4_revoke_63 : decode cX4_revoke 63 = .ok (.iload_n 2, 1) := by decide +kernel
theorem dX4_revoke_64 : decode cX4_revoke 64 = .ok (.ireturn, 1) := by decide +kernel
abbrev cX4_post : ByteArray := prog_6_method_10_code
def yX4_post : MethodName := ⟨RX4, "post", "()I"⟩
theorem dX4_post_0 : decode cX4_post 0 = .ok (.aload_n 0, 1) := by decide +kernel
theorem dX4_post_1 : decode cX4_post 1 = .ok (.getfield 44, 3) := by decide +kernel
theorem dX4_post_4 : decode cX4_post 4 = .ok (.bipush 8, 2) := by decide +kernel
theorem dX4_post_6 : decode cX4_post 6 = .ok (.if_icmp .ne 5, 3) := by decide +kernel
theorem dX4_post_9 : decode cX4_post 9 = .ok (.iconst (-1), 1) := by decide +kernel
theorem dX4_post_10 : decode cX4_post 10 = .ok (.ireturn, 1) := by decide +kernel
theorem dX4_post_11 : decode cX4_post 11 = .ok (.aload_n 0, 1) := by decide +kernel
theorem dX4_post_12 : decode cX4_post 12 = .ok (.getfield 47, 3) := by decide +kernel
theorem dX4_post_15 : decode cX4_post 15 = .ok (.aload_n 0, 1) := by decide +kernel
theorem dX4_post_16 : decode cX4_post 16 = .ok (.getfield 44, 3) := by decide +kernel
theorem dX4_post_19 : decode cX4_post 19 = .ok (.iadd, 1) := by decide +kernel
theorem dX4_post_20 : decode cX4_post 20 = .ok (.bipush 8, 2) := by decide +kernel
theorem dX4_post_22 : decode cX4_post 22 = .ok (.irem, 1) := by decide +kernel
theorem dX4_post_23 : decode cX4_post 23 = .ok (.istore_n 1, 1) := by decide +kernel
theorem dX4_post_24 : decode cX4_post 24 = .ok (.iconst 0, 1) := by decide +kernel
theorem dX4_post_25 : decode cX4_post 25 = .ok (.istore_n 2, 1) := by decide +kernel
theorem dX4_post_26 : decode cX4_post 26 = .ok (.iload_n 2, 1) := by decide +kernel
theorem dX4_post_27 : decode cX4_post 27 = .ok (.bipush 16, 2) := by decide +kernel
theorem dX4_post_29 : decode cX4_post 29 = .ok (.if_icmp .ge 24, 3) := by decide +kernel
theorem dX4_post_32 : decode cX4_post 32 = .ok (.aload_n 0, 1) := by decide +kernel
theorem dX4_post_33 : decode cX4_post 33 = .ok (.getfield 7, 3) := by decide +kernel
theorem dX4_post_36 : decode cX4_post 36 = .ok (.bipush 16, 2) := by decide +kernel
theorem dX4_post_38 : decode cX4_post 38 = .ok (.iload_n 1, 1) := by decide +kernel
theorem dX4_post_39 : decode cX4_post 39 = .ok (.iadd, 1) := by decide +kernel
theorem dX4_post_40 : decode cX4_post 40 = .ok (.bipush 16, 2) := by decide +kernel
theorem dX4_post_42 : decode cX4_post 42 = .ok (.imul, 1) := by decide +kernel
theorem dX4_post_43 : decode cX4_post 43 = .ok (.iload_n 2, 1) := by decide +kernel
theorem dX4_post_44 : decode cX4_post 44 = .ok (.iadd, 1) := by decide +kernel
theorem dX4_post_45 : decode cX4_post 45 = .ok (.iconst 0, 1) := by decide +kernel
theorem dX4_post_46 : decode cX4_post 46 = .ok (.bastore, 1) := by decide +kernel
theorem dX4_post_47 : decode cX4_post 47 = .ok (.iinc 2 1, 3) := by decide +kernel
theorem dX4_post_50 : decode cX4_post 50 = .ok (.goto (-24), 3) := by decide +kernel
theorem dX4_post_53 : decode cX4_post 53 = .ok (.aload_n 0, 1) := by decide +kernel
theorem dX4_post_54 : decode cX4_post 54 = .ok (.getfield 17, 3) := by decide +kernel
theorem dX4_post_57 : decode cX4_post 57 = .ok (.bipush 16, 2) := by decide +kernel
theorem dX4_post_59 : decode cX4_post 59 = .ok (.iload_n 1, 1) := by decide +kernel
theorem dX4_post_60 : decode cX4_post 60 = .ok (.iadd, 1) := by decide +kernel
theorem dX4_post_61 : decode cX4_post 61 = .ok (.iconst 1, 1) := by decide +kernel
theorem dX4_post_62 : decode cX4_post 62 = .ok (.bastore, 1) := by decide +kernel
theorem dX4_post_63 : decode cX4_post 63 = .ok (.aload_n 0, 1) := by decide +kernel
theorem dX4_post_64 : decode cX4_post 64 = .ok (.bipush 64, 2) := by decide +kernel
theorem dX4_post_66 : decode cX4_post 66 = .ok (.bipush 8, 2) := by decide +kernel
theorem dX4_post_68 : decode cX4_post 68 = .ok (.iload_n 1, 1) := by decide +kernel
theorem dX4_post_69 : decode cX4_post 69 = .ok (.imul, 1) := by decide +kernel
theorem dX4_post_70 : decode cX4_post 70 = .ok (.iadd, 1) := by decide +kernel
theorem dX4_post_71 : decode cX4_post 71 = .ok (.bipush 16, 2) := by decide +kernel
theorem dX4_post_73 : decode cX4_post 73 = .ok (.iload_n 1, 1) := by decide +kernel
theorem dX4_post_74 : decode cX4_post 74 = .ok (.iadd, 1) := by decide +kernel
theorem dX4_post_75 : decode cX4_post 75 = .ok (.iconst 0, 1) := by decide +kernel
theorem dX4_post_76 : decode cX4_post 76 = .ok (.invokevirtual 36, 3) := by decide +kernel
theorem dX4_post_79 : decode cX4_post 79 = .ok (.aload_n 0, 1) := by decide +kernel
theorem dX4_post_80 : decode cX4_post 80 = .ok (.aload_n 0, 1) := by decide +kernel
theorem dX4_post_81 : decode cX4_post 81 = .ok (.getfield 44, 3) := by decide +kernel
theorem dX4_post_84 : decode cX4_post 84 = .ok (.iconst 1, 1) := by decide +kernel
theorem dX4_post_85 : decode cX4_post 85 = .ok (.iadd, 1) := by decide +kernel
theorem dX4_post_86 : decode cX4_post 86 = .ok (.putfield 44, 3) := by decide +kernel
theorem dX4_post_89 : decode cX4_post 89 = .ok (.iload_n 1, 1) := by decide +kernel
theorem dX4_post_90 : decode cX4_post 90 = .ok (.ireturn, 1) := by decide +kernel
abbrev cX4_receive : ByteArray := prog_6_method_11_code
def yX4_receive : MethodName := ⟨RX4, "receive", "()I"⟩
theorem dX4_receive_0 : decode cX4_receive 0 = .ok (.aload_n 0, 1) := by decide +kernel
theorem dX4_receive_1 : decode cX4_receive 1 = .ok (.getfield 44, 3) := by decide +kernel
theorem dX4_receive_4 : decode cX4_receive 4 = .ok (.ifCond .eq 23, 3) := by decide +kernel
theorem dX4_receive_7 : decode cX4_receive 7 = .ok (.aload_n 0, 1) := by decide +kernel
theorem dX4_receive_8 : decode cX4_receive 8 = .ok (.getfield 7, 3) := by decide +kernel
theorem dX4_receive_11 : decode cX4_receive 11 = .ok (.bipush 64, 2) := by decide +kernel
theorem dX4_receive_13 : decode cX4_receive 13 = .ok (.bipush 8, 2) := by decide +kernel
theorem dX4_receive_15 : decode cX4_receive 15 = .ok (.aload_n 0, 1) := by decide +kernel
theorem dX4_receive_16 : decode cX4_receive 16 = .ok (.getfield 47, 3) := by decide +kernel
theorem dX4_receive_19 : decode cX4_receive 19 = .ok (.imul, 1) := by decide +kernel
theorem dX4_receive_20 : decode cX4_receive 20 = .ok (.iadd, 1) := by decide +kernel
theorem dX4_receive_21 : decode cX4_receive 21 = .ok (.iconst 2, 1) := by decide +kernel
theorem dX4_receive_22 : decode cX4_receive 22 = .ok (.iadd, 1) := by decide +kernel
theorem dX4_receive_23 : decode cX4_receive 23 = .ok (.baload, 1) := by decide +kernel
theorem dX4_receive_24 : decode cX4_receive 24 = .ok (.ifCond .eq 5, 3) := by decide +kernel
theorem dX4_receive_27 : decode cX4_receive 27 = .ok (.iconst (-1), 1) := by decide +kernel
theorem dX4_receive_28 : decode cX4_receive 28 = .ok (.ireturn, 1) := by decide +kernel
theorem dX4_receive_29 : decode cX4_receive 29 = .ok (.aload_n 0, 1) := by decide +kernel
theorem dX4_receive_30 : decode cX4_receive 30 = .ok (.getfield 47, 3) := by decide +kernel
theorem dX4_receive_33 : decode cX4_receive 33 = .ok (.istore_n 1, 1) := by decide +kernel
theorem dX4_receive_34 : decode cX4_receive 34 = .ok (.aload_n 0, 1) := by decide +kernel
theorem dX4_receive_35 : decode cX4_receive 35 = .ok (.getfield 17, 3) := by decide +kernel
theorem dX4_receive_38 : decode cX4_receive 38 = .ok (.bipush 16, 2) := by decide +kernel
theorem dX4_receive_40 : decode cX4_receive 40 = .ok (.iload_n 1, 1) := by decide +kernel
theorem dX4_receive_41 : decode cX4_receive 41 = .ok (.iadd, 1) := by decide +kernel
theorem dX4_receive_42 : decode cX4_receive 42 = .ok (.iconst 0, 1) := by decide +kernel
theorem dX4_receive_43 : decode cX4_receive 43 = .ok (.bastore, 1) := by decide +kernel
theorem dX4_receive_44 : decode cX4_receive 44 = .ok (.aload_n 0, 1) := by decide +kernel
theorem dX4_receive_45 : decode cX4_receive 45 = .ok (.aload_n 0, 1) := by decide +kernel
theorem dX4_receive_46 : decode cX4_receive 46 = .ok (.getfield 47, 3) := by decide +kernel
theorem dX4_receive_49 : decode cX4_receive 49 = .ok (.iconst 1, 1) := by decide +kernel
theorem dX4_receive_50 : decode cX4_receive 50 = .ok (.iadd, 1) := by decide +kernel
theorem dX4_receive_51 : decode cX4_receive 51 = .ok (.bipush 8, 2) := by decide +kernel
theorem dX4_receive_53 : decode cX4_receive 53 = .ok (.irem, 1) := by decide +kernel
theorem dX4_receive_54 : decode cX4_receive 54 = .ok (.putfield 47, 3) := by decide +kernel
theorem dX4_receive_57 : decode cX4_receive 57 = .ok (.aload_n 0, 1) := by decide +kernel
theorem dX4_receive_58 : decode cX4_receive 58 = .ok (.aload_n 0, 1) := by decide +kernel
theorem dX4_receive_59 : decode cX4_receive 59 = .ok (.getfield 44, 3) := by decide +kernel
theorem dX4_receive_62 : decode cX4_receive 62 = .ok (.iconst 1, 1) := by decide +kernel
theorem dX4_receive_63 : decode cX4_receive 63 = .ok (.isub, 1) := by decide +kernel
theorem dX4_receive_64 : decode cX4_receive 64 = .ok (.putfield 44, 3) := by decide +kernel
theorem dX4_receive_67 : decode cX4_receive 67 = .ok (.aload_n 0, 1) := by decide +kernel
theorem dX4_receive_68 : decode cX4_receive 68 = .ok (.getfield 7, 3) := by decide +kernel
theorem dX4_receive_71 : decode cX4_receive 71 = .ok (.bipush 64, 2) := by decide +kernel
theorem dX4_receive_73 : decode cX4_receive 73 = .ok (.bipush 8, 2) := by decide +kernel
theorem dX4_receive_75 : decode cX4_receive 75 = .ok (.iload_n 1, 1) := by decide +kernel
theorem dX4_receive_76 : decode cX4_receive 76 = .ok (.imul, 1) := by decide +kernel
theorem dX4_receive_77 : decode cX4_receive 77 = .ok (.iadd, 1) := by decide +kernel
theorem dX4_receive_78 : decode cX4_receive 78 = .ok (.iconst 1, 1) := by decide +kernel
theorem dX4_receive_79 : decode cX4_receive 79 = .ok (.iadd, 1) := by decide +kernel
theorem dX4_receive_80 : decode cX4_receive 80 = .ok (.baload, 1) := by decide +kernel
theorem dX4_receive_81 : decode cX4_receive 81 = .ok (.sipush 255, 3) := by decide +kernel
theorem dX4_receive_84 : decode cX4_receive 84 = .ok (.iand, 1) := by decide +kernel
theorem dX4_receive_85 : decode cX4_receive 85 = .ok (.istore_n 2, 1) := by decide +kernel
theorem dX4_receive_86 : decode cX4_receive 86 = .ok (.iload_n 2, 1) := by decide +kernel
theorem dX4_receive_87 : decode cX4_receive 87 = .ok (.ifCond .eq 9, 3) := by decide +kernel
theorem dX4_receive_90 : decode cX4_receive 90 = .ok (.iload_n 2, 1) := by decide +kernel
theorem dX4_receive_91 : decode cX4_receive 91 = .ok (.bipush 16, 2) := by decide +kernel
theorem dX4_receive_93 : decode cX4_receive 93 = .ok (.if_icmp .le 6, 3) := by decide +kernel
theorem dX4_receive_96 : decode cX4_receive 96 = .ok (.bipush (-3), 2) := by decide +kernel
theorem dX4_receive_98 : decode cX4_receive 98 = .ok (.ireturn, 1) := by decide +kernel
theorem dX4_receive_99 : decode cX4_receive 99 = .ok (.iconst 0, 1) := by decide +kernel
theorem dX4_receive_100 : decode cX4_receive 100 = .ok (.istore_n 3, 1) := by decide +kernel
theorem dX4_receive_101 : decode cX4_receive 101 = .ok (.iload_n 3, 1) := by decide +kernel
theorem dX4_receive_102 : decode cX4_receive 102 = .ok (.iload_n 2, 1) := by decide +kernel
theorem dX4_receive_103 : decode cX4_receive 103 = .ok (.if_icmp .ge 29, 3) := by decide +kernel
theorem dX4_receive_106 : decode cX4_receive 106 = .ok (.aload_n 0, 1) := by decide +kernel
theorem dX4_receive_107 : decode cX4_receive 107 = .ok (.getfield 23, 3) := by decide +kernel
theorem dX4_receive_110 : decode cX4_receive 110 = .ok (.iload_n 3, 1) := by decide +kernel
theorem dX4_receive_111 : decode cX4_receive 111 = .ok (.aload_n 0, 1) := by decide +kernel
theorem dX4_receive_112 : decode cX4_receive 112 = .ok (.getfield 7, 3) := by decide +kernel
theorem dX4_receive_115 : decode cX4_receive 115 = .ok (.bipush 16, 2) := by decide +kernel
theorem dX4_receive_117 : decode cX4_receive 117 = .ok (.iload_n 1, 1) := by decide +kernel
theorem dX4_receive_118 : decode cX4_receive 118 = .ok (.iadd, 1) := by decide +kernel
theorem dX4_receive_119 : decode cX4_receive 119 = .ok (.bipush 16, 2) := by decide +kernel
theorem dX4_receive_121 : decode cX4_receive 121 = .ok (.imul, 1) := by decide +kernel
theorem dX4_receive_122 : decode cX4_receive 122 = .ok (.iload_n 3, 1) := by decide +kernel
theorem dX4_receive_123 : decode cX4_receive 123 = .ok (.iadd, 1) := by decide +kernel
theorem dX4_receive_124 : decode cX4_receive 124 = .ok (.baload, 1) := by decide +kernel
theorem dX4_receive_125 : decode cX4_receive 125 = .ok (.bastore, 1) := by decide +kernel
theorem dX4_receive_126 : decode cX4_receive 126 = .ok (.iinc 3 1, 3) := by decide +kernel
theorem dX4_receive_129 : decode cX4_receive 129 = .ok (.goto (-28), 3) := by decide +kernel
theorem dX4_receive_132 : decode cX4_receive 132 = .ok (.iload_n 2, 1) := by decide +kernel
theorem dX4_receive_133 : decode cX4_receive 133 = .ok (.ireturn, 1) := by decide +kernel
abbrev cX4_taken : ByteArray := prog_6_method_12_code
def yX4_taken : MethodName := ⟨RX4, "taken", "(I)I"⟩
theorem dX4_taken_0 : decode cX4_taken 0 = .ok (.iload_n 1, 1) := by decide +kernel
theorem dX4_taken_1 : decode cX4_taken 1 = .ok (.ifCond .lt 9, 3) := by decide +kernel
theorem dX4_taken_4 : decode cX4_taken 4 = .ok (.iload_n 1, 1) := by decide +kernel
theorem dX4_taken_5 : decode cX4_taken 5 = .ok (.bipush 15, 2) := by decide +kernel
theorem dX4_taken_7 : decode cX4_taken 7 = .ok (.if_icmp .le 7, 3) := by decide +kernel
theorem dX4_taken_10 : decode cX4_taken 10 = .ok (.iconst (-1), 1) := by decide +kernel
theorem dX4_taken_11 : decode cX4_taken 11 = .ok (.goto 13, 3) := by decide +kernel
theorem dX4_taken_14 : decode cX4_taken 14 = .ok (.aload_n 0, 1) := by decide +kernel
theorem dX4_taken_15 : decode cX4_taken 15 = .ok (.getfield 23, 3) := by decide +kernel
theorem dX4_taken_18 : decode cX4_taken 18 = .ok (.iload_n 1, 1) := by decide +kernel
theorem dX4_taken_19 : decode cX4_taken 19 = .ok (.baload, 1) := by decide +kernel
theorem dX4_taken_20 : decode cX4_taken 20 = .ok (.sipush 255, 3) := by decide +kernel
theorem dX4_taken_23 : decode cX4_taken 23 = .ok (.iand, 1) := by decide +kernel
theorem dX4_taken_24 : decode cX4_taken 24 = .ok (.ireturn, 1) := by decide +kernel
abbrev cX4_withdraw : ByteArray := prog_6_method_13_code
def yX4_withdraw : MethodName := ⟨RX4, "withdraw", "()I"⟩
theorem dX4_withdraw_0 : decode cX4_withdraw 0 = .ok (.iconst 0, 1) := by decide +kernel
theorem dX4_withdraw_1 : decode cX4_withdraw 1 = .ok (.istore_n 1, 1) := by decide +kernel
theorem dX4_withdraw_2 : decode cX4_withdraw 2 = .ok (.iconst 0, 1) := by decide +kernel
theorem dX4_withdraw_3 : decode cX4_withdraw 3 = .ok (.istore_n 2, 1) := by decide +kernel
theorem dX4_withdraw_4 : decode cX4_withdraw 4 = .ok (.iload_n 2, 1) := by decide +kernel
theorem dX4_withdraw_5 : decode cX4_withdraw 5 = .ok (.bipush 8, 2) := by decide +kernel
theorem dX4_withdraw_7 : decode cX4_withdraw 7 = .ok (.if_icmp .ge 51, 3) := by decide +kernel
theorem dX4_withdraw_10 : decode cX4_withdraw 10 = .ok (.iload_n 1, 1) := by decide +kernel
theorem dX4_withdraw_11 : decode cX4_withdraw 11 = .ok (.iload_n 2, 1) := by decide +kernel
theorem dX4_withdraw_12 : decode cX4_withdraw 12 = .ok (.if_icmp .ne 40, 3) := by decide +kernel
theorem dX4_withdraw_15 : decode cX4_withdraw 15 = .ok (.iload_n 2, 1) := by decide +kernel
theorem dX4_withdraw_16 : decode cX4_withdraw 16 = .ok (.aload_n 0, 1) := by decide +kernel
theorem dX4_withdraw_17 : decode cX4_withdraw 17 = .ok (.getfield 44, 3) := by decide +kernel
theorem dX4_withdraw_20 : decode cX4_withdraw 20 = .ok (.if_icmp .ge 32, 3) := by decide +kernel
theorem dX4_withdraw_23 : decode cX4_withdraw 23 = .ok (.aload_n 0, 1) := by decide +kernel
theorem dX4_withdraw_24 : decode cX4_withdraw 24 = .ok (.getfield 7, 3) := by decide +kernel
theorem dX4_withdraw_27 : decode cX4_withdraw 27 = .ok (.bipush 64, 2) := by decide +kernel
theorem dX4_withdraw_29 : decode cX4_withdraw 29 = .ok (.bipush 8, 2) := by decide +kernel
theorem dX4_withdraw_31 : decode cX4_withdraw 31 = .ok (.aload_n 0, 1) := by decide +kernel
theorem dX4_withdraw_32 : decode cX4_withdraw 32 = .ok (.getfield 47, 3) := by decide +kernel
theorem dX4_withdraw_35 : decode cX4_withdraw 35 = .ok (.iload_n 2, 1) := by decide +kernel
theorem dX4_withdraw_36 : decode cX4_withdraw 36 = .ok (.iadd, 1) := by decide +kernel
theorem dX4_withdraw_37 : decode cX4_withdraw 37 = .ok (.bipush 8, 2) := by decide +kernel
theorem dX4_withdraw_39 : decode cX4_withdraw 39 = .ok (.irem, 1) := by decide +kernel
theorem dX4_withdraw_40 : decode cX4_withdraw 40 = .ok (.imul, 1) := by decide +kernel
theorem dX4_withdraw_41 : decode cX4_withdraw 41 = .ok (.iadd, 1) := by decide +kernel
theorem dX4_withdraw_42 : decode cX4_withdraw 42 = .ok (.iconst 2, 1) := by decide +kernel
theorem dX4_withdraw_43 : decode cX4_withdraw 43 = .ok (.iadd, 1) := by decide +kernel
theorem dX4_withdraw_44 : decode cX4_withdraw 44 = .ok (.baload, 1) := by decide +kernel
theorem dX4_withdraw_45 : decode cX4_withdraw 45 = .ok (.ifCond .ne 7, 3) := by decide +kernel
theorem dX4_withdraw_48 : decode cX4_withdraw 48 = .ok (.iload_n 1, 1) := by decide +kernel
theorem dX4_withdraw_49 : decode cX4_withdraw 49 = .ok (.iconst 1, 1) := by decide +kernel
theorem dX4_withdraw_50 : decode cX4_withdraw 50 = .ok (.iadd, 1) := by decide +kernel
theorem dX4_withdraw_51 : decode cX4_withdraw 51 = .ok (.istore_n 1, 1) := by decide +kernel
theorem dX4_withdraw_52 : decode cX4_withdraw 52 = .ok (.iinc 2 1, 3) := by decide +kernel
theorem dX4_withdraw_55 : decode cX4_withdraw 55 = .ok (.goto (-51), 3) := by decide +kernel
theorem dX4_withdraw_58 : decode cX4_withdraw 58 = .ok (.aload_n 0, 1) := by decide +kernel
theorem dX4_withdraw_59 : decode cX4_withdraw 59 = .ok (.getfield 44, 3) := by decide +kernel
theorem dX4_withdraw_62 : decode cX4_withdraw 62 = .ok (.iload_n 1, 1) := by decide +kernel
theorem dX4_withdraw_63 : decode cX4_withdraw 63 = .ok (.isub, 1) := by decide +kernel
theorem dX4_withdraw_64 : decode cX4_withdraw 64 = .ok (.istore_n 2, 1) := by decide +kernel
theorem dX4_withdraw_65 : decode cX4_withdraw 65 = .ok (.iload_n 1, 1) := by decide +kernel
theorem dX4_withdraw_66 : decode cX4_withdraw 66 = .ok (.istore_n 3, 1) := by decide +kernel
theorem dX4_withdraw_67 : decode cX4_withdraw 67 = .ok (.iload_n 3, 1) := by decide +kernel
theorem dX4_withdraw_68 : decode cX4_withdraw 68 = .ok (.aload_n 0, 1) := by decide +kernel
theorem dX4_withdraw_69 : decode cX4_withdraw 69 = .ok (.getfield 44, 3) := by decide +kernel
theorem dX4_withdraw_72 : decode cX4_withdraw 72 = .ok (.if_icmp .ge 47, 3) := by decide +kernel
theorem dX4_withdraw_75 : decode cX4_withdraw 75 = .ok (.aload_n 0, 1) := by decide +kernel
theorem dX4_withdraw_76 : decode cX4_withdraw 76 = .ok (.getfield 47, 3) := by decide +kernel
theorem dX4_withdraw_79 : decode cX4_withdraw 79 = .ok (.iload_n 3, 1) := by decide +kernel
theorem dX4_withdraw_80 : decode cX4_withdraw 80 = .ok (.iadd, 1) := by decide +kernel
theorem dX4_withdraw_81 : decode cX4_withdraw 81 = .ok (.bipush 8, 2) := by decide +kernel
theorem dX4_withdraw_83 : decode cX4_withdraw 83 = .ok (.irem, 1) := by decide +kernel
theorem dX4_withdraw_84 : decode cX4_withdraw 84 = .ok (.istore 4, 2) := by decide +kernel
theorem dX4_withdraw_86 : decode cX4_withdraw 86 = .ok (.aload_n 0, 1) := by decide +kernel
theorem dX4_withdraw_87 : decode cX4_withdraw 87 = .ok (.getfield 17, 3) := by decide +kernel
theorem dX4_withdraw_90 : decode cX4_withdraw 90 = .ok (.bipush 16, 2) := by decide +kernel
theorem dX4_withdraw_92 : decode cX4_withdraw 92 = .ok (.iload 4, 2) := by decide +kernel
theorem dX4_withdraw_94 : decode cX4_withdraw 94 = .ok (.iadd, 1) := by decide +kernel
theorem dX4_withdraw_95 : decode cX4_withdraw 95 = .ok (.iconst 0, 1) := by decide +kernel
theorem dX4_withdraw_96 : decode cX4_withdraw 96 = .ok (.bastore, 1) := by decide +kernel
theorem dX4_withdraw_97 : decode cX4_withdraw 97 = .ok (.aload_n 0, 1) := by decide +kernel
theorem dX4_withdraw_98 : decode cX4_withdraw 98 = .ok (.getfield 7, 3) := by decide +kernel
theorem dX4_withdraw_101 : decode cX4_withdraw 101 = .ok (.bipush 64, 2) := by decide +kernel
theorem dX4_withdraw_103 : decode cX4_withdraw 103 = .ok (.bipush 8, 2) := by decide +kernel
theorem dX4_withdraw_105 : decode cX4_withdraw 105 = .ok (.iload 4, 2) := by decide +kernel
theorem dX4_withdraw_107 : decode cX4_withdraw 107 = .ok (.imul, 1) := by decide +kernel
theorem dX4_withdraw_108 : decode cX4_withdraw 108 = .ok (.iadd, 1) := by decide +kernel
theorem dX4_withdraw_109 : decode cX4_withdraw 109 = .ok (.iconst 2, 1) := by decide +kernel
theorem dX4_withdraw_110 : decode cX4_withdraw 110 = .ok (.iadd, 1) := by decide +kernel
theorem dX4_withdraw_111 : decode cX4_withdraw 111 = .ok (.iconst 0, 1) := by decide +kernel
theorem dX4_withdraw_112 : decode cX4_withdraw 112 = .ok (.bastore, 1) := by decide +kernel
theorem dX4_withdraw_113 : decode cX4_withdraw 113 = .ok (.iinc 3 1, 3) := by decide +kernel
theorem dX4_withdraw_116 : decode cX4_withdraw 116 = .ok (.goto (-49), 3) := by decide +kernel
theorem dX4_withdraw_119 : decode cX4_withdraw 119 = .ok (.aload_n 0, 1) := by decide +kernel
theorem dX4_withdraw_120 : decode cX4_withdraw 120 = .ok (.iload_n 1, 1) := by decide +kernel
theorem dX4_withdraw_121 : decode cX4_withdraw 121 = .ok (.putfield 44, 3) := by decide +kernel
theorem dX4_withdraw_124 : decode cX4_withdraw 124 = .ok (.iload_n 2, 1) := by decide +kernel
theorem dX4_withdraw_125 : decode cX4_withdraw 125 = .ok (.ireturn, 1) := by decide +kernel
abbrev cX4_sending : ByteArray := prog_6_method_14_code
def yX4_sending : MethodName := ⟨RX4, "sending", "()I"⟩
theorem dX4_sending_0 : decode cX4_sending 0 = .ok (.aload_n 0, 1) := by decide +kernel
theorem dX4_sending_1 : decode cX4_sending 1 = .ok (.getfield 30, 3) := by decide +kernel
theorem dX4_sending_4 : decode cX4_sending 4 = .ok (.ireturn, 1) := by decide +kernel
abbrev cX4_receiving : ByteArray := prog_6_method_15_code
def yX4_receiving : MethodName := ⟨RX4, "receiving", "()I"⟩
theorem dX4_receiving_0 : decode cX4_receiving 0 = .ok (.aload_n 0, 1) := by decide +kernel
theorem dX4_receiving_1 : decode cX4_receiving 1 = .ok (.getfield 44, 3) := by decide +kernel
theorem dX4_receiving_4 : decode cX4_receiving 4 = .ok (.ireturn, 1) := by decide +kernel
theorem q8 : (Jvm.Cond.initialized "RingDriverModel") ∈ lw_all := lw_g (lw_at lw_m1 5 rfl) rfl
theorem q258 : (Jvm.Cond.instantiable "RingDriverModel" (10 : Nat)) ∈ lw_all := lw_g (lw_at lw_m2 15 rfl) rfl
theorem q260 : (Jvm.Cond.instanceMethod ({ cls := "RingDriverModel", name := "<init>", desc := "()V" } : Jvm.MethodName)) ∈ lw_all := lw_g (lw_at lw_m2 17 rfl) rfl
theorem q261 : (Jvm.Cond.code ({ cls := "RingDriverModel", name := "<init>", desc := "()V" } : Jvm.MethodName) prog_6_method_1_code (2 : Nat) (Option.none : Option Jvm.ClassFile.FieldType)) ∈ lw_all := lw_g (lw_at lw_m2 18 rfl) rfl
theorem q262 : (Jvm.Cond.methodLink "RingDriverModel" (1 : Nat) ({ cls := "java/lang/Object", name := "<init>", desc := "()V" } : Jvm.MethodName)) ∈ lw_all := lw_g (lw_at lw_m2 19 rfl) rfl
theorem q263 : (Jvm.Cond.fieldLink "RingDriverModel" (7 : Nat) "RingDriverModel" "memory" "[B") ∈ lw_all := lw_g (lw_at lw_m2 20 rfl) rfl
theorem q264 : (Jvm.Cond.fieldLink "RingDriverModel" (13 : Nat) "RingDriverModel" "readable" "[Z") ∈ lw_all := lw_g (lw_at lw_m2 21 rfl) rfl
theorem q265 : (Jvm.Cond.fieldLink "RingDriverModel" (17 : Nat) "RingDriverModel" "writable" "[Z") ∈ lw_all := lw_g (lw_at lw_m2 22 rfl) rfl
theorem q266 : (Jvm.Cond.fieldLink "RingDriverModel" (20 : Nat) "RingDriverModel" "outBox" "[B") ∈ lw_all := lw_g (lw_at lw_m2 23 rfl) rfl
theorem q267 : (Jvm.Cond.fieldLink "RingDriverModel" (23 : Nat) "RingDriverModel" "inBox" "[B") ∈ lw_all := lw_g (lw_at lw_m2 24 rfl) rfl
theorem q268 : (Jvm.Cond.fieldLink "RingDriverModel" (26 : Nat) "RingDriverModel" "faults" "I") ∈ lw_all := lw_g (lw_at lw_m2 25 rfl) rfl
theorem q269 : (Jvm.Cond.fieldLink "RingDriverModel" (33 : Nat) "RingDriverModel" "t" "I") ∈ lw_all := lw_g (lw_at lw_m2 26 rfl) rfl
theorem q270 : (Jvm.Cond.fieldLink "RingDriverModel" (30 : Nat) "RingDriverModel" "n" "I") ∈ lw_all := lw_g (lw_at lw_m2 27 rfl) rfl
theorem q271 : (Jvm.Cond.fieldLink "RingDriverModel" (47 : Nat) "RingDriverModel" "\x72" "I") ∈ lw_all := lw_g (lw_at lw_m2 28 rfl) rfl
theorem q272 : (Jvm.Cond.fieldLink "RingDriverModel" (44 : Nat) "RingDriverModel" "m" "I") ∈ lw_all := lw_g (lw_at lw_m2 29 rfl) rfl
theorem q273 : (Jvm.Cond.laysFinal "RingDriverModel" "RingDriverModel" "memory" "[B") ∈ lw_all := lw_g (lw_at lw_m2 30 rfl) rfl
theorem q274 : (Jvm.Cond.soleField "RingDriverModel" "memory") ∈ lw_all := lw_g (lw_at lw_m2 31 rfl) rfl
theorem q275 : (Jvm.Cond.laysFinal "RingDriverModel" "RingDriverModel" "readable" "[Z") ∈ lw_all := lw_g (lw_at lw_m2 32 rfl) rfl
theorem q276 : (Jvm.Cond.soleField "RingDriverModel" "readable") ∈ lw_all := lw_g (lw_at lw_m2 33 rfl) rfl
theorem q277 : (Jvm.Cond.laysFinal "RingDriverModel" "RingDriverModel" "writable" "[Z") ∈ lw_all := lw_g (lw_at lw_m2 34 rfl) rfl
theorem q278 : (Jvm.Cond.soleField "RingDriverModel" "writable") ∈ lw_all := lw_g (lw_at lw_m2 35 rfl) rfl
theorem q279 : (Jvm.Cond.laysFinal "RingDriverModel" "RingDriverModel" "outBox" "[B") ∈ lw_all := lw_g (lw_at lw_m2 36 rfl) rfl
theorem q280 : (Jvm.Cond.soleField "RingDriverModel" "outBox") ∈ lw_all := lw_g (lw_at lw_m2 37 rfl) rfl
theorem q281 : (Jvm.Cond.laysFinal "RingDriverModel" "RingDriverModel" "inBox" "[B") ∈ lw_all := lw_g (lw_at lw_m2 38 rfl) rfl
theorem q282 : (Jvm.Cond.soleField "RingDriverModel" "inBox") ∈ lw_all := lw_g (lw_at lw_m2 39 rfl) rfl
theorem q283 : (Jvm.Cond.lays "RingDriverModel" "RingDriverModel" "faults" "I") ∈ lw_all := lw_g (lw_at lw_m2 40 rfl) rfl
theorem q284 : (Jvm.Cond.soleField "RingDriverModel" "faults") ∈ lw_all := lw_g (lw_at lw_m2 41 rfl) rfl
theorem q285 : (Jvm.Cond.lays "RingDriverModel" "RingDriverModel" "t" "I") ∈ lw_all := lw_g (lw_at lw_m2 42 rfl) rfl
theorem q286 : (Jvm.Cond.soleField "RingDriverModel" "t") ∈ lw_all := lw_g (lw_at lw_m2 43 rfl) rfl
theorem q287 : (Jvm.Cond.lays "RingDriverModel" "RingDriverModel" "n" "I") ∈ lw_all := lw_g (lw_at lw_m2 44 rfl) rfl
theorem q288 : (Jvm.Cond.soleField "RingDriverModel" "n") ∈ lw_all := lw_g (lw_at lw_m2 45 rfl) rfl
theorem q289 : (Jvm.Cond.lays "RingDriverModel" "RingDriverModel" "\x72" "I") ∈ lw_all := lw_g (lw_at lw_m2 46 rfl) rfl
theorem q290 : (Jvm.Cond.soleField "RingDriverModel" "\x72") ∈ lw_all := lw_g (lw_at lw_m2 47 rfl) rfl
theorem q291 : (Jvm.Cond.lays "RingDriverModel" "RingDriverModel" "m" "I") ∈ lw_all := lw_g (lw_at lw_m2 48 rfl) rfl
theorem q292 : (Jvm.Cond.soleField "RingDriverModel" "m") ∈ lw_all := lw_g (lw_at lw_m2 49 rfl) rfl
theorem q293 : (Jvm.Cond.superclass "RingDriverModel" "java/lang/Object") ∈ lw_all := lw_g (lw_at lw_m2 50 rfl) rfl
theorem q296 : (Jvm.Cond.instanceMethod ({ cls := "RingDriverModel", name := "deviceRead", desc := "(I)I" } : Jvm.MethodName)) ∈ lw_all := lw_g (lw_at lw_m2 53 rfl) rfl
theorem q297 : (Jvm.Cond.selects "RingDriverModel" ({ cls := "RingDriverModel", name := "deviceRead", desc := "(I)I" } : Jvm.MethodName) ({ cls := "RingDriverModel", name := "deviceRead", desc := "(I)I" } : Jvm.MethodName)) ∈ lw_all := lw_g (lw_at lw_m2 54 rfl) rfl
theorem q298 : (Jvm.Cond.code ({ cls := "RingDriverModel", name := "deviceRead", desc := "(I)I" } : Jvm.MethodName) prog_6_method_2_code (2 : Nat) (Option.some Jvm.ClassFile.FieldType.int)) ∈ lw_all := lw_g (lw_at lw_m2 55 rfl) rfl
theorem q300 : (Jvm.Cond.instanceMethod ({ cls := "RingDriverModel", name := "deviceWrite", desc := "(II)I" } : Jvm.MethodName)) ∈ lw_all := lw_g (lw_at lw_m2 57 rfl) rfl
theorem q301 : (Jvm.Cond.selects "RingDriverModel" ({ cls := "RingDriverModel", name := "deviceWrite", desc := "(II)I" } : Jvm.MethodName) ({ cls := "RingDriverModel", name := "deviceWrite", desc := "(II)I" } : Jvm.MethodName)) ∈ lw_all := lw_g (lw_at lw_m2 58 rfl) rfl
theorem q302 : (Jvm.Cond.code ({ cls := "RingDriverModel", name := "deviceWrite", desc := "(II)I" } : Jvm.MethodName) prog_6_method_3_code (3 : Nat) (Option.some Jvm.ClassFile.FieldType.int)) ∈ lw_all := lw_g (lw_at lw_m2 59 rfl) rfl
theorem q304 : (Jvm.Cond.instanceMethod ({ cls := "RingDriverModel", name := "faults", desc := "()I" } : Jvm.MethodName)) ∈ lw_all := lw_g (lw_at lw_m2 61 rfl) rfl
theorem q305 : (Jvm.Cond.selects "RingDriverModel" ({ cls := "RingDriverModel", name := "faults", desc := "()I" } : Jvm.MethodName) ({ cls := "RingDriverModel", name := "faults", desc := "()I" } : Jvm.MethodName)) ∈ lw_all := lw_g (lw_at lw_m2 62 rfl) rfl
theorem q306 : (Jvm.Cond.code ({ cls := "RingDriverModel", name := "faults", desc := "()I" } : Jvm.MethodName) prog_6_method_4_code (1 : Nat) (Option.some Jvm.ClassFile.FieldType.int)) ∈ lw_all := lw_g (lw_at lw_m2 63 rfl) rfl
theorem q308 : (Jvm.Cond.instanceMethod ({ cls := "RingDriverModel", name := "load", desc := "(II)Z" } : Jvm.MethodName)) ∈ lw_all := lw_g (lw_at lw_m2 65 rfl) rfl
theorem q309 : (Jvm.Cond.selects "RingDriverModel" ({ cls := "RingDriverModel", name := "load", desc := "(II)Z" } : Jvm.MethodName) ({ cls := "RingDriverModel", name := "load", desc := "(II)Z" } : Jvm.MethodName)) ∈ lw_all := lw_g (lw_at lw_m2 66 rfl) rfl
theorem q310 : (Jvm.Cond.code ({ cls := "RingDriverModel", name := "load", desc := "(II)Z" } : Jvm.MethodName) prog_6_method_5_code (3 : Nat) (Option.some Jvm.ClassFile.FieldType.boolean)) ∈ lw_all := lw_g (lw_at lw_m2 67 rfl) rfl
theorem q312 : (Jvm.Cond.instanceMethod ({ cls := "RingDriverModel", name := "send", desc := "(I)I" } : Jvm.MethodName)) ∈ lw_all := lw_g (lw_at lw_m2 69 rfl) rfl
theorem q313 : (Jvm.Cond.selects "RingDriverModel" ({ cls := "RingDriverModel", name := "send", desc := "(I)I" } : Jvm.MethodName) ({ cls := "RingDriverModel", name := "send", desc := "(I)I" } : Jvm.MethodName)) ∈ lw_all := lw_g (lw_at lw_m2 70 rfl) rfl
theorem q314 : (Jvm.Cond.code ({ cls := "RingDriverModel", name := "send", desc := "(I)I" } : Jvm.MethodName) prog_6_method_7_code (4 : Nat) (Option.some Jvm.ClassFile.FieldType.int)) ∈ lw_all := lw_g (lw_at lw_m2 71 rfl) rfl
theorem q315 : (Jvm.Cond.methodLink "RingDriverModel" (36 : Nat) ({ cls := "RingDriverModel", name := "describe", desc := "(III)V" } : Jvm.MethodName)) ∈ lw_all := lw_g (lw_at lw_m2 72 rfl) rfl
theorem q316 : (Jvm.Cond.privateMethod ({ cls := "RingDriverModel", name := "describe", desc := "(III)V" } : Jvm.MethodName)) ∈ lw_tbl := lw_at lw_m2 73 rfl
theorem q317 : (Jvm.Cond.instanceMethod ({ cls := "RingDriverModel", name := "describe", desc := "(III)V" } : Jvm.MethodName)) ∈ lw_all := lw_g (lw_at lw_m2 74 rfl) rfl
theorem q318 : (Jvm.Cond.code ({ cls := "RingDriverModel", name := "describe", desc := "(III)V" } : Jvm.MethodName) prog_6_method_6_code (5 : Nat) (Option.none : Option Jvm.ClassFile.FieldType)) ∈ lw_all := lw_g (lw_at lw_m2 75 rfl) rfl
theorem q320 : (Jvm.Cond.instanceMethod ({ cls := "RingDriverModel", name := "reclaim", desc := "()I" } : Jvm.MethodName)) ∈ lw_all := lw_g (lw_at lw_m2 77 rfl) rfl
theorem q321 : (Jvm.Cond.selects "RingDriverModel" ({ cls := "RingDriverModel", name := "reclaim", desc := "()I" } : Jvm.MethodName) ({ cls := "RingDriverModel", name := "reclaim", desc := "()I" } : Jvm.MethodName)) ∈ lw_all := lw_g (lw_at lw_m2 78 rfl) rfl
theorem q322 : (Jvm.Cond.code ({ cls := "RingDriverModel", name := "reclaim", desc := "()I" } : Jvm.MethodName) prog_6_method_8_code (3 : Nat) (Option.some Jvm.ClassFile.FieldType.int)) ∈ lw_all := lw_g (lw_at lw_m2 79 rfl) rfl
theorem q324 : (Jvm.Cond.instanceMethod ({ cls := "RingDriverModel", name := "revoke", desc := "()I" } : Jvm.MethodName)) ∈ lw_all := lw_g (lw_at lw_m2 81 rfl) rfl
theorem q325 : (Jvm.Cond.selects "RingDriverModel" ({ cls := "RingDriverModel", name := "revoke", desc := "()I" } : Jvm.MethodName) ({ cls := "RingDriverModel", name := "revoke", desc := "()I" } : Jvm.MethodName)) ∈ lw_all := lw_g (lw_at lw_m2 82 rfl) rfl
theorem q326 : (Jvm.Cond.code ({ cls := "RingDriverModel", name := "revoke", desc := "()I" } : Jvm.MethodName) prog_6_method_9_code (5 : Nat) (Option.some Jvm.ClassFile.FieldType.int)) ∈ lw_all := lw_g (lw_at lw_m2 83 rfl) rfl
theorem q327 : (Jvm.Cond.methodLink "RingDriverModel" (40 : Nat) ({ cls := "RingDriverModel", name := "reclaim", desc := "()I" } : Jvm.MethodName)) ∈ lw_all := lw_g (lw_at lw_m2 84 rfl) rfl
theorem q329 : (Jvm.Cond.instanceMethod ({ cls := "RingDriverModel", name := "post", desc := "()I" } : Jvm.MethodName)) ∈ lw_all := lw_g (lw_at lw_m2 86 rfl) rfl
theorem q330 : (Jvm.Cond.selects "RingDriverModel" ({ cls := "RingDriverModel", name := "post", desc := "()I" } : Jvm.MethodName) ({ cls := "RingDriverModel", name := "post", desc := "()I" } : Jvm.MethodName)) ∈ lw_all := lw_g (lw_at lw_m2 87 rfl) rfl
theorem q331 : (Jvm.Cond.code ({ cls := "RingDriverModel", name := "post", desc := "()I" } : Jvm.MethodName) prog_6_method_10_code (3 : Nat) (Option.some Jvm.ClassFile.FieldType.int)) ∈ lw_all := lw_g (lw_at lw_m2 88 rfl) rfl
theorem q333 : (Jvm.Cond.instanceMethod ({ cls := "RingDriverModel", name := "receive", desc := "()I" } : Jvm.MethodName)) ∈ lw_all := lw_g (lw_at lw_m2 90 rfl) rfl
theorem q334 : (Jvm.Cond.selects "RingDriverModel" ({ cls := "RingDriverModel", name := "receive", desc := "()I" } : Jvm.MethodName) ({ cls := "RingDriverModel", name := "receive", desc := "()I" } : Jvm.MethodName)) ∈ lw_all := lw_g (lw_at lw_m2 91 rfl) rfl
theorem q335 : (Jvm.Cond.code ({ cls := "RingDriverModel", name := "receive", desc := "()I" } : Jvm.MethodName) prog_6_method_11_code (4 : Nat) (Option.some Jvm.ClassFile.FieldType.int)) ∈ lw_all := lw_g (lw_at lw_m2 92 rfl) rfl
theorem q337 : (Jvm.Cond.instanceMethod ({ cls := "RingDriverModel", name := "taken", desc := "(I)I" } : Jvm.MethodName)) ∈ lw_all := lw_g (lw_at lw_m2 94 rfl) rfl
theorem q338 : (Jvm.Cond.selects "RingDriverModel" ({ cls := "RingDriverModel", name := "taken", desc := "(I)I" } : Jvm.MethodName) ({ cls := "RingDriverModel", name := "taken", desc := "(I)I" } : Jvm.MethodName)) ∈ lw_all := lw_g (lw_at lw_m2 95 rfl) rfl
theorem q339 : (Jvm.Cond.code ({ cls := "RingDriverModel", name := "taken", desc := "(I)I" } : Jvm.MethodName) prog_6_method_12_code (2 : Nat) (Option.some Jvm.ClassFile.FieldType.int)) ∈ lw_all := lw_g (lw_at lw_m2 96 rfl) rfl
theorem q341 : (Jvm.Cond.instanceMethod ({ cls := "RingDriverModel", name := "withdraw", desc := "()I" } : Jvm.MethodName)) ∈ lw_all := lw_g (lw_at lw_m2 98 rfl) rfl
theorem q342 : (Jvm.Cond.selects "RingDriverModel" ({ cls := "RingDriverModel", name := "withdraw", desc := "()I" } : Jvm.MethodName) ({ cls := "RingDriverModel", name := "withdraw", desc := "()I" } : Jvm.MethodName)) ∈ lw_all := lw_g (lw_at lw_m2 99 rfl) rfl
theorem q343 : (Jvm.Cond.code ({ cls := "RingDriverModel", name := "withdraw", desc := "()I" } : Jvm.MethodName) prog_6_method_13_code (5 : Nat) (Option.some Jvm.ClassFile.FieldType.int)) ∈ lw_all := lw_g (lw_at lw_m2 100 rfl) rfl
theorem q345 : (Jvm.Cond.instanceMethod ({ cls := "RingDriverModel", name := "sending", desc := "()I" } : Jvm.MethodName)) ∈ lw_all := lw_g (lw_at lw_m2 102 rfl) rfl
theorem q346 : (Jvm.Cond.selects "RingDriverModel" ({ cls := "RingDriverModel", name := "sending", desc := "()I" } : Jvm.MethodName) ({ cls := "RingDriverModel", name := "sending", desc := "()I" } : Jvm.MethodName)) ∈ lw_all := lw_g (lw_at lw_m2 103 rfl) rfl
theorem q347 : (Jvm.Cond.code ({ cls := "RingDriverModel", name := "sending", desc := "()I" } : Jvm.MethodName) prog_6_method_14_code (1 : Nat) (Option.some Jvm.ClassFile.FieldType.int)) ∈ lw_all := lw_g (lw_at lw_m2 104 rfl) rfl
theorem q349 : (Jvm.Cond.instanceMethod ({ cls := "RingDriverModel", name := "receiving", desc := "()I" } : Jvm.MethodName)) ∈ lw_all := lw_g (lw_at lw_m2 106 rfl) rfl
theorem q350 : (Jvm.Cond.selects "RingDriverModel" ({ cls := "RingDriverModel", name := "receiving", desc := "()I" } : Jvm.MethodName) ({ cls := "RingDriverModel", name := "receiving", desc := "()I" } : Jvm.MethodName)) ∈ lw_all := lw_g (lw_at lw_m2 107 rfl) rfl
theorem q351 : (Jvm.Cond.code ({ cls := "RingDriverModel", name := "receiving", desc := "()I" } : Jvm.MethodName) prog_6_method_15_code (1 : Nat) (Option.some Jvm.ClassFile.FieldType.int)) ∈ lw_all := lw_g (lw_at lw_m2 108 rfl) rfl
theorem in_X4 : ∀ w ∈ wsX40, w ∈ lw_all := lw_in wsX40 [273, 275, 277, 279, 281, 283, 285, 287, 289, 291] (by decide +kernel) (by decide +kernel)
end
section
/-! the law's own entry -/
set_option maxRecDepth 100000
abbrev cL_law : ByteArray := code
theorem dL_law_0 : decode cL_law 0 = .ok (.new 7, 3) := by decide +kernel
theorem dL_law_3 : decode cL_law 3 = .ok (.dup, 1) := by decide +kernel
theorem dL_law_4 : decode cL_law 4 = .ok (.invokespecial 9, 3) := by decide +kernel
theorem dL_law_7 : decode cL_law 7 = .ok (.astore_n 1, 1) := by decide +kernel
theorem dL_law_8 : decode cL_law 8 = .ok (.new 10, 3) := by decide +kernel
theorem dL_law_11 : decode cL_law 11 = .ok (.dup, 1) := by decide +kernel
theorem dL_law_12 : decode cL_law 12 = .ok (.invokespecial 12, 3) := by decide +kernel
theorem dL_law_15 : decode cL_law 15 = .ok (.astore_n 2, 1) := by decide +kernel
theorem dL_law_16 : decode cL_law 16 = .ok (.iconst 0, 1) := by decide +kernel
theorem dL_law_17 : decode cL_law 17 = .ok (.istore_n 3, 1) := by decide +kernel
theorem dL_law_18 : decode cL_law 18 = .ok (.iload_n 3, 1) := by decide +kernel
theorem dL_law_19 : decode cL_law 19 = .ok (.aload_n 0, 1) := by decide +kernel
theorem dL_law_20 : decode cL_law 20 = .ok (.arraylength, 1) := by decide +kernel
theorem dL_law_21 : decode cL_law 21 = .ok (.iconst 3, 1) := by decide +kernel
theorem dL_law_22 : decode cL_law 22 = .ok (.isub, 1) := by decide +kernel
theorem dL_law_23 : decode cL_law 23 = .ok (.if_icmp .gt 322, 3) := by decide +kernel
theorem dL_law_26 : decode cL_law 26 = .ok (.aload_n 0, 1) := by decide +kernel
theorem dL_law_27 : decode cL_law 27 = .ok (.iload_n 3, 1) := by decide +kernel
theorem dL_law_28 : decode cL_law 28 = .ok (.iaload, 1) := by decide +kernel
theorem dL_law_29 : decode cL_law 29 = .ok (.bipush 15, 2) := by decide +kernel
theorem dL_law_31 : decode cL_law 31 = .ok (.iand, 1) := by decide +kernel
theorem dL_law_32 : decode cL_law 32 = .ok (.tableswitch 307 0 12 #[68, 91, 124, 137, 170, 193, 206, 219, 232, 245, 268, 281, 294], 68) := by decide +kernel
theorem dL_law_100 : decode cL_law 100 = .ok (.aload_n 1, 1) := by decide +kernel
theorem dL_law_101 : decode cL_law 101 = .ok (.aload_n 0, 1) := by decide +kernel
theorem dL_law_102 : decode cL_law 102 = .ok (.iload_n 3, 1) := by decide +kernel
theorem dL_law_103 : decode cL_law 103 = .ok (.iconst 1, 1) := by decide +kernel
theorem dL_law_104 : decode cL_law 104 = .ok (.iadd, 1) := by decide +kernel
theorem dL_law_105 : decode cL_law 105 = .ok (.iaload, 1) := by decide +kernel
theorem dL_law_106 : decode cL_law 106 = .ok (.invokevirtual 13, 3) := by decide +kernel
theorem dL_law_109 : decode cL_law 109 = .ok (.aload_n 2, 1) := by decide +kernel
theorem dL_law_110 : decode cL_law 110 = .ok (.aload_n 0, 1) := by decide +kernel
theorem dL_law_111 : decode cL_law 111 = .ok (.iload_n 3, 1) := by decide +kernel
theorem dL_law_112 : decode cL_law 112 = .ok (.iconst 1, 1) := by decide +kernel
theorem dL_law_113 : decode cL_law 113 = .ok (.iadd, 1) := by decide +kernel
theorem dL_law_114 : decode cL_law 114 = .ok (.iaload, 1) := by decide +kernel
theorem dL_law_115 : decode cL_law 115 = .ok (.invokevirtual 17, 3) := by decide +kernel
theorem dL_law_118 : decode cL_law 118 = .ok (.if_icmp .eq 221, 3) := by decide +kernel
theorem dL_law_121 : decode cL_law 121 = .ok (.iconst 0, 1) := by decide +kernel
theorem dL_law_122 : decode cL_law 122 = .ok (.ireturn, 1) := by decide +kernel
theorem dL_law_123 : decode cL_law 123 = .ok (.aload_n 1, 1) := by decide +kernel
theorem dL_law_124 : decode cL_law 124 = .ok (.aload_n 0, 1) := by decide +kernel
theorem dL_law_125 : decode cL_law 125 = .ok (.iload_n 3, 1) := by decide +kernel
theorem dL_law_126 : decode cL_law 126 = .ok (.iconst 1, 1) := by decide +kernel
theorem dL_law_127 : decode cL_law 127 = .ok (.iadd, 1) := by decide +kernel
theorem dL_law_128 : decode cL_law 128 = .ok (.iaload, 1) := by decide +kernel
theorem dL_law_129 : decode cL_law 129 = .ok (.aload_n 0, 1) := by decide +kernel
theorem dL_law_130 : decode cL_law 130 = .ok (.iload_n 3, 1) := by decide +kernel
theorem dL_law_131 : decode cL_law 131 = .ok (.iconst 2, 1) := by decide +kernel
theorem dL_law_132 : decode cL_law 132 = .ok (.iadd, 1) := by decide +kernel
theorem dL_law_133 : decode cL_law 133 = .ok (.iaload, 1) := by decide +kernel
theorem dL_law_134 : decode cL_law 134 = .ok (.invokevirtual 18, 3) := by decide +kernel
theorem dL_law_137 : decode cL_law 137 = .ok (.aload_n 2, 1) := by decide +kernel
theorem dL_law_138 : decode cL_law 138 = .ok (.aload_n 0, 1) := by decide +kernel
theorem dL_law_139 : decode cL_law 139 = .ok (.iload_n 3, 1) := by decide +kernel
theorem dL_law_140 : decode cL_law 140 = .ok (.iconst 1, 1) := by decide +kernel
theorem dL_law_141 : decode cL_law 141 = .ok (.iadd, 1) := by decide +kernel
theorem dL_law_142 : decode cL_law 142 = .ok (.iaload, 1) := by decide +kernel
theorem dL_law_143 : decode cL_law 143 = .ok (.aload_n 0, 1) := by decide +kernel
theorem dL_law_144 : decode cL_law 144 = .ok (.iload_n 3, 1) := by decide +kernel
theorem dL_law_145 : decode cL_law 145 = .ok (.iconst 2, 1) := by decide +kernel
theorem dL_law_146 : decode cL_law 146 = .ok (.iadd, 1) := by decide +kernel
theorem dL_law_147 : decode cL_law 147 = .ok (.iaload, 1) := by decide +kernel
theorem dL_law_148 : decode cL_law 148 = .ok (.invokevirtual 22, 3) := by decide +kernel
theorem dL_law_151 : decode cL_law 151 = .ok (.if_icmp .eq 188, 3) := by decide +kernel
theorem dL_law_154 : decode cL_law 154 = .ok (.iconst 0, 1) := by decide +kernel
theorem dL_law_155 : decode cL_law 155 = .ok (.ireturn, 1) := by decide +kernel
theorem dL_law_156 : decode cL_law 156 = .ok (.aload_n 1, 1) := by decide +kernel
theorem dL_law_157 : decode cL_law 157 = .ok (.invokevirtual 23, 3) := by decide +kernel
theorem dL_law_160 : decode cL_law 160 = .ok (.aload_n 2, 1) := by decide +kernel
theorem dL_law_161 : decode cL_law 161 = .ok (.invokevirtual 27, 3) := by decide +kernel
theorem dL_law_164 : decode cL_law 164 = .ok (.if_icmp .eq 175, 3) := by decide +kernel
theorem dL_law_167 : decode cL_law 167 = .ok (.iconst 0, 1) := by decide +kernel
theorem dL_law_168 : decode cL_law 168 = .ok (.ireturn, 1) := by decide +kernel
theorem dL_law_169 : decode cL_law 169 = .ok (.aload_n 1, 1) := by decide +kernel
theorem dL_law_170 : decode cL_law 170 = .ok (.aload_n 0, 1) := by decide +kernel
theorem dL_law_171 : decode cL_law 171 = .ok (.iload_n 3, 1) := by decide +kernel
theorem dL_law_172 : decode cL_law 172 = .ok (.iconst 1, 1) := by decide +kernel
theorem dL_law_173 : decode cL_law 173 = .ok (.iadd, 1) := by decide +kernel
theorem dL_law_174 : decode cL_law 174 = .ok (.iaload, 1) := by decide +kernel
theorem dL_law_175 : decode cL_law 175 = .ok (.aload_n 0, 1) := by decide +kernel
theorem dL_law_176 : decode cL_law 176 = .ok (.iload_n 3, 1) := by decide +kernel
theorem dL_law_177 : decode cL_law 177 = .ok (.iconst 2, 1) := by decide +kernel
theorem dL_law_178 : decode cL_law 178 = .ok (.iadd, 1) := by decide +kernel
theorem dL_law_179 : decode cL_law 179 = .ok (.iaload, 1) := by decide +kernel
theorem dL_law_180 : decode cL_law 180 = .ok (.invokevirtual 28, 3) := by decide +kernel
theorem dL_law_183 : decode cL_law 183 = .ok (.aload_n 2, 1) := by decide +kernel
theorem dL_law_184 : decode cL_law 184 = .ok (.aload_n 0, 1) := by decide +kernel
theorem dL_law_185 : decode cL_law 185 = .ok (.iload_n 3, 1) := by decide +kernel
theorem dL_law_186 : decode cL_law 186 = .ok (.iconst 1, 1) := by decide +kernel
theorem dL_law_187 : decode cL_law 187 = .ok (.iadd, 1) := by decide +kernel
theorem dL_law_188 : decode cL_law 188 = .ok (.iaload, 1) := by decide +kernel
theorem dL_law_189 : decode cL_law 189 = .ok (.aload_n 0, 1) := by decide +kernel
theorem dL_law_190 : decode cL_law 190 = .ok (.iload_n 3, 1) := by decide +kernel
theorem dL_law_191 : decode cL_law 191 = .ok (.iconst 2, 1) := by decide +kernel
theorem dL_law_192 : decode cL_law 192 = .ok (.iadd, 1) := by decide +kernel
theorem dL_law_193 : decode cL_law 193 = .ok (.iaload, 1) := by decide +kernel
theorem dL_law_194 : decode cL_law 194 = .ok (.invokevirtual 32, 3) := by decide +kernel
theorem dL_law_197 : decode cL_law 197 = .ok (.if_icmp .eq 142, 3) := by decide +kernel
theorem dL_law_200 : decode cL_law 200 = .ok (.iconst 0, 1) := by decide +kernel
theorem dL_law_201 : decode cL_law 201 = .ok (.ireturn, 1) := by decide +kernel
theorem dL_law_202 : decode cL_law 202 = .ok (.aload_n 1, 1) := by decide +kernel
theorem dL_law_203 : decode cL_law 203 = .ok (.aload_n 0, 1) := by decide +kernel
theorem dL_law_204 : decode cL_law 204 = .ok (.iload_n 3, 1) := by decide +kernel
theorem dL_law_205 : decode cL_law 205 = .ok (.iconst 1, 1) := by decide +kernel
theorem dL_law_206 : decode cL_law 206 = .ok (.iadd, 1) := by decide +kernel
theorem dL_law_207 : decode cL_law 207 = .ok (.iaload, 1) := by decide +kernel
theorem dL_law_208 : decode cL_law 208 = .ok (.invokevirtual 33, 3) := by decide +kernel
theorem dL_law_211 : decode cL_law 211 = .ok (.aload_n 2, 1) := by decide +kernel
theorem dL_law_212 : decode cL_law 212 = .ok (.aload_n 0, 1) := by decide +kernel
theorem dL_law_213 : decode cL_law 213 = .ok (.iload_n 3, 1) := by decide +kernel
theorem dL_law_214 : decode cL_law 214 = .ok (.iconst 1, 1) := by decide +kernel
theorem dL_law_215 : decode cL_law 215 = .ok (.iadd, 1) := by decide +kernel
theorem dL_law_216 : decode cL_law 216 = .ok (.iaload, 1) := by decide +kernel
theorem dL_law_217 : decode cL_law 217 = .ok (.invokevirtual 36, 3) := by decide +kernel
theorem dL_law_220 : decode cL_law 220 = .ok (.if_icmp .eq 119, 3) := by decide +kernel
theorem dL_law_223 : decode cL_law 223 = .ok (.iconst 0, 1) := by decide +kernel
theorem dL_law_224 : decode cL_law 224 = .ok (.ireturn, 1) := by decide +kernel
theorem dL_law_225 : decode cL_law 225 = .ok (.aload_n 1, 1) := by decide +kernel
theorem dL_law_226 : decode cL_law 226 = .ok (.invokevirtual 37, 3) := by decide +kernel
theorem dL_law_229 : decode cL_law 229 = .ok (.aload_n 2, 1) := by decide +kernel
theorem dL_law_230 : decode cL_law 230 = .ok (.invokevirtual 40, 3) := by decide +kernel
theorem dL_law_233 : decode cL_law 233 = .ok (.if_icmp .eq 106, 3) := by decide +kernel
theorem dL_law_236 : decode cL_law 236 = .ok (.iconst 0, 1) := by decide +kernel
theorem dL_law_237 : decode cL_law 237 = .ok (.ireturn, 1) := by decide +kernel
theorem dL_law_238 : decode cL_law 238 = .ok (.aload_n 1, 1) := by decide +kernel
theorem dL_law_239 : decode cL_law 239 = .ok (.invokevirtual 41, 3) := by decide +kernel
theorem dL_law_242 : decode cL_law 242 = .ok (.aload_n 2, 1) := by decide +kernel
theorem dL_law_243 : decode cL_law 243 = .ok (.invokevirtual 44, 3) := by decide +kernel
theorem dL_law_246 : decode cL_law 246 = .ok (.if_icmp .eq 93, 3) := by decide +kernel
theorem dL_law_249 : decode cL_law 249 = .ok (.iconst 0, 1) := by decide +kernel
theorem dL_law_250 : decode cL_law 250 = .ok (.ireturn, 1) := by decide +kernel
theorem dL_law_251 : decode cL_law 251 = .ok (.aload_n 1, 1) := by decide +kernel
theorem dL_law_252 : decode cL_law 252 = .ok (.invokevirtual 45, 3) := by decide +kernel
theorem dL_law_255 : decode cL_law 255 = .ok (.aload_n 2, 1) := by decide +kernel
theorem dL_law_256 : decode cL_law 256 = .ok (.invokevirtual 48, 3) := by decide +kernel
theorem dL_law_259 : decode cL_law 259 = .ok (.if_icmp .eq 80, 3) := by decide +kernel
theorem dL_law_262 : decode cL_law 262 = .ok (.iconst 0, 1) := by decide +kernel
theorem dL_law_263 : decode cL_law 263 = .ok (.ireturn, 1) := by decide +kernel
theorem dL_law_264 : decode cL_law 264 = .ok (.aload_n 1, 1) := by decide +kernel
theorem dL_law_265 : decode cL_law 265 = .ok (.invokevirtual 49, 3) := by decide +kernel
theorem dL_law_268 : decode cL_law 268 = .ok (.aload_n 2, 1) := by decide +kernel
theorem dL_law_269 : decode cL_law 269 = .ok (.invokevirtual 52, 3) := by decide +kernel
theorem dL_law_272 : decode cL_law 272 = .ok (.if_icmp .eq 67, 3) := by decide +kernel
theorem dL_law_275 : decode cL_law 275 = .ok (.iconst 0, 1) := by decide +kernel
theorem dL_law_276 : decode cL_law 276 = .ok (.ireturn, 1) := by decide +kernel
theorem dL_law_277 : decode cL_law 277 = .ok (.aload_n 1, 1) := by decide +kernel
theorem dL_law_278 : decode cL_law 278 = .ok (.aload_n 0, 1) := by decide +kernel
theorem dL_law_279 : decode cL_law 279 = .ok (.iload_n 3, 1) := by decide +kernel
theorem dL_law_280 : decode cL_law 280 = .ok (.iconst 1, 1) := by decide +kernel
theorem dL_law_281 : decode cL_law 281 = .ok (.iadd, 1) := by decide +kernel
theorem dL_law_282 : decode cL_law 282 = .ok (.iaload, 1) := by decide +kernel
theorem dL_law_283 : decode cL_law 283 = .ok (.invokevirtual 53, 3) := by decide +kernel
theorem dL_law_286 : decode cL_law 286 = .ok (.aload_n 2, 1) := by decide +kernel
theorem dL_law_287 : decode cL_law 287 = .ok (.aload_n 0, 1) := by decide +kernel
theorem dL_law_288 : decode cL_law 288 = .ok (.iload_n 3, 1) := by decide +kernel
theorem dL_law_289 : decode cL_law 289 = .ok (.iconst 1, 1) := by decide +kernel
theorem dL_law_290 : decode cL_law 290 = .ok (.iadd, 1) := by decide +kernel
theorem dL_law_291 : decode cL_law 291 = .ok (.iaload, 1) := by decide +kernel
theorem dL_law_292 : decode cL_law 292 = .ok (.invokevirtual 56, 3) := by decide +kernel
theorem dL_law_295 : decode cL_law 295 = .ok (.if_icmp .eq 44, 3) := by decide +kernel
theorem dL_law_298 : decode cL_law 298 = .ok (.iconst 0, 1) := by decide +kernel
theorem dL_law_299 : decode cL_law 299 = .ok (.ireturn, 1) := by decide +kernel
theorem dL_law_300 : decode cL_law 300 = .ok (.aload_n 1, 1) := by decide +kernel
theorem dL_law_301 : decode cL_law 301 = .ok (.invokevirtual 57, 3) := by decide +kernel
theorem dL_law_304 : decode cL_law 304 = .ok (.aload_n 2, 1) := by decide +kernel
theorem dL_law_305 : decode cL_law 305 = .ok (.invokevirtual 60, 3) := by decide +kernel
theorem dL_law_308 : decode cL_law 308 = .ok (.if_icmp .eq 31, 3) := by decide +kernel
theorem dL_law_311 : decode cL_law 311 = .ok (.iconst 0, 1) := by decide +kernel
theorem dL_law_312 : decode cL_law 312 = .ok (.ireturn, 1) := by decide +kernel
theorem dL_law_313 : decode cL_law 313 = .ok (.aload_n 1, 1) := by decide +kernel
theorem dL_law_314 : decode cL_law 314 = .ok (.invokevirtual 61, 3) := by decide +kernel
theorem dL_law_317 : decode cL_law 317 = .ok (.aload_n 2, 1) := by decide +kernel
theorem dL_law_318 : decode cL_law 318 = .ok (.invokevirtual 64, 3) := by decide +kernel
theorem dL_law_321 : decode cL_law 321 = .ok (.if_icmp .eq 18, 3) := by decide +kernel
theorem dL_law_324 : decode cL_law 324 = .ok (.iconst 0, 1) := by decide +kernel
theorem dL_law_325 : decode cL_law 325 = .ok (.ireturn, 1) := by decide +kernel
theorem dL_law_326 : decode cL_law 326 = .ok (.aload_n 1, 1) := by decide +kernel
theorem dL_law_327 : decode cL_law 327 = .ok (.invokevirtual 65, 3) := by decide +kernel
theorem dL_law_330 : decode cL_law 330 = .ok (.aload_n 2, 1) := by decide +kernel
theorem dL_law_331 : decode cL_law 331 = .ok (.invokevirtual 68, 3) := by decide +kernel
theorem dL_law_334 : decode cL_law 334 = .ok (.if_icmp .eq 5, 3) := by decide +kernel
theorem dL_law_337 : decode cL_law 337 = .ok (.iconst 0, 1) := by decide +kernel
theorem dL_law_338 : decode cL_law 338 = .ok (.ireturn, 1) := by decide +kernel
theorem dL_law_339 : decode cL_law 339 = .ok (.iinc 3 3, 3) := by decide +kernel
theorem dL_law_342 : decode cL_law 342 = .ok (.goto (-324), 3) := by decide +kernel
theorem dL_law_345 : decode cL_law 345 = .ok (.iconst 1, 1) := by decide +kernel
theorem dL_law_346 : decode cL_law 346 = .ok (.ireturn, 1) := by decide +kernel
theorem q3 : (Jvm.Cond.initialized "RingDriverLaw") ∈ lw_all := lw_g (lw_at lw_m1 0 rfl) rfl
set_option maxRecDepth 100000
theorem q9 : (Jvm.Cond.classLink "RingDriverLaw" (7 : Nat) "RingDriver") ∈ lw_all := lw_g (lw_at lw_m1 6 rfl) rfl
theorem q11 : (Jvm.Cond.methodLink "RingDriverLaw" (9 : Nat) ({ cls := "RingDriver", name := "<init>", desc := "()V" } : Jvm.MethodName)) ∈ lw_all := lw_g (lw_at lw_m1 8 rfl) rfl
theorem q83 : (Jvm.Cond.methodLink "RingDriverLaw" (13 : Nat) ({ cls := "RingDriver", name := "deviceRead", desc := "(I)I" } : Jvm.MethodName)) ∈ lw_all := lw_g (lw_at lw_m1 80 rfl) rfl
theorem q116 : (Jvm.Cond.methodLink "RingDriverLaw" (18 : Nat) ({ cls := "RingDriver", name := "deviceWrite", desc := "(II)I" } : Jvm.MethodName)) ∈ lw_all := lw_g (lw_at lw_m1 113 rfl) rfl
theorem q129 : (Jvm.Cond.methodLink "RingDriverLaw" (23 : Nat) ({ cls := "RingDriver", name := "faults", desc := "()I" } : Jvm.MethodName)) ∈ lw_all := lw_g (lw_at lw_m1 126 rfl) rfl
theorem q133 : (Jvm.Cond.methodLink "RingDriverLaw" (28 : Nat) ({ cls := "RingDriver", name := "load", desc := "(II)Z" } : Jvm.MethodName)) ∈ lw_all := lw_g (lw_at lw_m1 130 rfl) rfl
theorem q137 : (Jvm.Cond.methodLink "RingDriverLaw" (33 : Nat) ({ cls := "RingDriver", name := "send", desc := "(I)I" } : Jvm.MethodName)) ∈ lw_all := lw_g (lw_at lw_m1 134 rfl) rfl
theorem q159 : (Jvm.Cond.methodLink "RingDriverLaw" (37 : Nat) ({ cls := "RingDriver", name := "reclaim", desc := "()I" } : Jvm.MethodName)) ∈ lw_all := lw_g (lw_at lw_m1 156 rfl) rfl
theorem q185 : (Jvm.Cond.methodLink "RingDriverLaw" (41 : Nat) ({ cls := "RingDriver", name := "revoke", desc := "()I" } : Jvm.MethodName)) ∈ lw_all := lw_g (lw_at lw_m1 182 rfl) rfl
theorem q202 : (Jvm.Cond.methodLink "RingDriverLaw" (45 : Nat) ({ cls := "RingDriver", name := "post", desc := "()I" } : Jvm.MethodName)) ∈ lw_all := lw_g (lw_at lw_m1 199 rfl) rfl
theorem q212 : (Jvm.Cond.methodLink "RingDriverLaw" (49 : Nat) ({ cls := "RingDriver", name := "receive", desc := "()I" } : Jvm.MethodName)) ∈ lw_all := lw_g (lw_at lw_m1 209 rfl) rfl
theorem q238 : (Jvm.Cond.methodLink "RingDriverLaw" (53 : Nat) ({ cls := "RingDriver", name := "taken", desc := "(I)I" } : Jvm.MethodName)) ∈ lw_all := lw_g (lw_at lw_m1 235 rfl) rfl
theorem q242 : (Jvm.Cond.methodLink "RingDriverLaw" (57 : Nat) ({ cls := "RingDriver", name := "withdraw", desc := "()I" } : Jvm.MethodName)) ∈ lw_all := lw_g (lw_at lw_m1 239 rfl) rfl
theorem q249 : (Jvm.Cond.methodLink "RingDriverLaw" (61 : Nat) ({ cls := "RingDriver", name := "sending", desc := "()I" } : Jvm.MethodName)) ∈ lw_all := lw_g (lw_at lw_m2 6 rfl) rfl
theorem q253 : (Jvm.Cond.methodLink "RingDriverLaw" (65 : Nat) ({ cls := "RingDriver", name := "receiving", desc := "()I" } : Jvm.MethodName)) ∈ lw_all := lw_g (lw_at lw_m2 10 rfl) rfl
theorem q257 : (Jvm.Cond.classLink "RingDriverLaw" (10 : Nat) "RingDriverModel") ∈ lw_all := lw_g (lw_at lw_m2 14 rfl) rfl
theorem q259 : (Jvm.Cond.methodLink "RingDriverLaw" (12 : Nat) ({ cls := "RingDriverModel", name := "<init>", desc := "()V" } : Jvm.MethodName)) ∈ lw_all := lw_g (lw_at lw_m2 16 rfl) rfl
theorem q295 : (Jvm.Cond.methodLink "RingDriverLaw" (17 : Nat) ({ cls := "RingDriverModel", name := "deviceRead", desc := "(I)I" } : Jvm.MethodName)) ∈ lw_all := lw_g (lw_at lw_m2 52 rfl) rfl
theorem q299 : (Jvm.Cond.methodLink "RingDriverLaw" (22 : Nat) ({ cls := "RingDriverModel", name := "deviceWrite", desc := "(II)I" } : Jvm.MethodName)) ∈ lw_all := lw_g (lw_at lw_m2 56 rfl) rfl
theorem q303 : (Jvm.Cond.methodLink "RingDriverLaw" (27 : Nat) ({ cls := "RingDriverModel", name := "faults", desc := "()I" } : Jvm.MethodName)) ∈ lw_all := lw_g (lw_at lw_m2 60 rfl) rfl
theorem q307 : (Jvm.Cond.methodLink "RingDriverLaw" (32 : Nat) ({ cls := "RingDriverModel", name := "load", desc := "(II)Z" } : Jvm.MethodName)) ∈ lw_all := lw_g (lw_at lw_m2 64 rfl) rfl
theorem q311 : (Jvm.Cond.methodLink "RingDriverLaw" (36 : Nat) ({ cls := "RingDriverModel", name := "send", desc := "(I)I" } : Jvm.MethodName)) ∈ lw_all := lw_g (lw_at lw_m2 68 rfl) rfl
theorem q319 : (Jvm.Cond.methodLink "RingDriverLaw" (40 : Nat) ({ cls := "RingDriverModel", name := "reclaim", desc := "()I" } : Jvm.MethodName)) ∈ lw_all := lw_g (lw_at lw_m2 76 rfl) rfl
theorem q323 : (Jvm.Cond.methodLink "RingDriverLaw" (44 : Nat) ({ cls := "RingDriverModel", name := "revoke", desc := "()I" } : Jvm.MethodName)) ∈ lw_all := lw_g (lw_at lw_m2 80 rfl) rfl
theorem q328 : (Jvm.Cond.methodLink "RingDriverLaw" (48 : Nat) ({ cls := "RingDriverModel", name := "post", desc := "()I" } : Jvm.MethodName)) ∈ lw_all := lw_g (lw_at lw_m2 85 rfl) rfl
theorem q332 : (Jvm.Cond.methodLink "RingDriverLaw" (52 : Nat) ({ cls := "RingDriverModel", name := "receive", desc := "()I" } : Jvm.MethodName)) ∈ lw_all := lw_g (lw_at lw_m2 89 rfl) rfl
theorem q336 : (Jvm.Cond.methodLink "RingDriverLaw" (56 : Nat) ({ cls := "RingDriverModel", name := "taken", desc := "(I)I" } : Jvm.MethodName)) ∈ lw_all := lw_g (lw_at lw_m2 93 rfl) rfl
theorem q340 : (Jvm.Cond.methodLink "RingDriverLaw" (60 : Nat) ({ cls := "RingDriverModel", name := "withdraw", desc := "()I" } : Jvm.MethodName)) ∈ lw_all := lw_g (lw_at lw_m2 97 rfl) rfl
theorem q344 : (Jvm.Cond.methodLink "RingDriverLaw" (64 : Nat) ({ cls := "RingDriverModel", name := "sending", desc := "()I" } : Jvm.MethodName)) ∈ lw_all := lw_g (lw_at lw_m2 101 rfl) rfl
theorem q348 : (Jvm.Cond.methodLink "RingDriverLaw" (68 : Nat) ({ cls := "RingDriverModel", name := "receiving", desc := "()I" } : Jvm.MethodName)) ∈ lw_all := lw_g (lw_at lw_m2 105 rfl) rfl
end
section
/-! BASE: the classes, the world's constants, a contract's form, entry, calls, rows at natural numbers -/
abbrev vwCl : List vw_C := [(RX0, TX0, 5), (RX2, TX2, 6), (RX3, TX2, 6), (RX4, TX4, 10)]
theorem in_X3' : ∀ w ∈ u_ws RX3 TX2 6, w ∈ lw_all := lw_in (u_ws RX3 TX2 6) [60, 61, 62, 63, 64, 65] (by decide +kernel) (by decide +kernel)
abbrev TYS (ka : Nat → ClassId) : List (ClassId × FieldType) := [(ka 0, .int), (ka 1, .boolean), (ka 2, .byte)]
abbrev nwD : Cond := .fieldLinkNest "RingDriver" 38 "RingDriver$Ring" "descriptors" "[I" "RingDriver"
abbrev nwB : Cond := .fieldLinkNest "RingDriver" 69 "RingDriver$Ring" "buffers" "[I" "RingDriver"
abbrev nwZ : Cond := .fieldLinkNest "RingDriver" 50 "RingDriver$Ring" "open" "[Z" "RingDriver"
abbrev nwR : Cond := .declares ⟨"RingDriver$Ring", "mayRead", "()Z"⟩
abbrev nwW : Cond := .declares ⟨"RingDriver$Ring", "mayWrite", "()Z"⟩
/-- what the tables say, all through a run: classes, array classes, the nest mates' links, the abstract methods -/
def wK (D : va_G) (ka : Nat → ClassId) (U : State) : Prop := va_K D vwCl (TYS ka) U ∧ va_Nw nwD U ∧ va_Nw nwB U ∧ va_Nw nwZ U ∧ va_Nw nwR U ∧ va_Nw nwW U
theorem wK.warm {D : va_G} {ka : Nat → ClassId} {s U : State} (hW : s.WarmedH U.vm) (h : wK D ka s) : wK D ka U :=
  ⟨va_K.moved hW.alike h.1, va_Nw.warmF hW h.2.1, va_Nw.warmF hW h.2.2.1, va_Nw.warmF hW h.2.2.2.1, va_Nw.warmD hW h.2.2.2.2.1, va_Nw.warmD hW h.2.2.2.2.2⟩
theorem wK.calling {D : va_G} {ka : Nat → ClassId} {U : State} {g : JFrame} {mk : MethodId} {a : Array Value} (h : wK D ka U) : wK D ka (U.calling g mk a) :=
  ⟨va_K.moved (u := U) (U := U.calling g mk a) (Vm.Alike.refl U.vm) h.1, va_Nw.same rfl (u := U) (U := U.calling g mk a) rfl h.2.1, va_Nw.same rfl (u := U) (U := U.calling g mk a) rfl h.2.2.1, va_Nw.same rfl (u := U) (U := U.calling g mk a) rfl h.2.2.2.1, va_Nw.same rfl (u := U) (U := U.calling g mk a) rfl h.2.2.2.2.1, va_Nw.same rfl (u := U) (U := U.calling g mk a) rfl h.2.2.2.2.2⟩
/-- a contract's start -/
abbrev PW (D : va_G) (ka : Nat → ClassId) (av : List Value) (sz : Nat) (w : va_W) : Array Value → State → Prop := va_Pc av (fun U => U.heap.size = sz ∧ va_P D vwCl w U.heap ∧ wK D ka U ∧ va_D (fun _ => True) w)
theorem PW.blind {D : va_G} {ka : Nat → ClassId} {av : List Value} {sz : Nat} {w : va_W} : FrameBlind (PW D ka av sz w) := fun a U g mk q => ⟨q.1, q.2.1, q.2.2.1, q.2.2.2.1.calling, q.2.2.2.2⟩
/-- a contract's end: the answer v, the world w' -/
def QR (D : va_G) (v : Option Value) (w' : va_W) (A : Nat → Prop) : Array Value → State → Outcome → State → Prop := fun _ st oc t => (oc = .returned v ∧ va_P D vwCl w' t.heap ∧ va_D A w') ∧ va_F A st t
/-- a maker's end: nothing is answered, the world has cells at addresses u -/
def QN (D : va_G) (w' : (Nat → Nat) → va_W) (A : Nat → Prop) : Array Value → State → Outcome → State → Prop := fun _ st oc t => (∃ u : Nat → Nat, oc = .returned none ∧ va_P D vwCl (w' u) t.heap ∧ va_D A (w' u)) ∧ va_F A st t
/-- a method's contract: from the world w, with the arguments av, it answers v and leaves the world w' -/
abbrev CT (D : va_G) (ka : Nat → ClassId) (l : Launch) (y : MethodName) (cc : ByteArray) (nL : Nat) (ret : Option FieldType) (rm : Room) (av : List Value) (sz : Nat) (w : va_W) (v : Option Value) (w' : va_W) : Prop := Met l y (ws_ y cc nL ret) rm (PW D ka av sz w) (QR D v w' (va_A w sz)) 0 0 (va_A w sz)
/-- what is fixed all through a method's run -/
def Fx (D : va_G) (ka : Nat → ClassId) (p : Program) (s : State) (m : MethodId) (args : Array Value) (c : Code) (meth : Method) (cc : ByteArray) (nL : Nat) (ret : Option FieldType) (own nm : String) (A : Nat → Prop) : Prop :=
  p.tables.exec = Jvm.exec ∧ c.code = cc ∧ meth.sig.returnType = ret ∧ meth.locks = false ∧ c.maxLocals = nL ∧ s.vm.findClass own = some m.cls ∧ (∀ w ∈ lw_all, w.before args s = true) ∧ (∀ q : Nat, s.heap.size ≤ q → A q) ∧ wK D ka s ∧ meth.name = nm
theorem enter {D : va_G} {ka : Nat → ClassId} {l : Launch} {y : MethodName} {cc : ByteArray} {nL : Nat} {ret : Option FieldType} {rm : Room} {av : List Value} {sz : Nat} {w : va_W} {Qc : (Nat → Prop) → Array Value → State → Outcome → State → Prop} {mc ms : Nat} (hy : plainName y.cls = true) (hn : (lg_sl av).length ≤ nL)
    (body : ∀ (p : Program) (e : Env) (s : State) (m : MethodId) (below : List Frame) (meth : Method) (c : Code) (A : Nat → Prop) (ls : Array Slot), Fx D ka p s m av.toArray c meth cc nL ret y.cls y.name A → va_P D vwCl w s.heap → va_D A w → va_S A s.heap s.heap [] → lv_has ls nL (lv_args 0 av) →
      W p l e rm s m av.toArray below meth c s.heap [] 0 0 (MQ below (Qc A) av.toArray s mc ms A) (F0 m 0 ls [])) : Met l y (ws_ y cc nL ret) rm (PW D ka av sz w) (Qc (va_A w sz)) mc ms (va_A w sz) := by
  refine Met.ofW (cc := cc) (maxL := nL) (ret := ret) hy rfl ?_
  intro p e s m args below meth c s₁ B hml hv
  obtain ⟨rfl, hsz, hP, hK, hD0⟩ := hv
  have hts := atoms_spec (ws := ws_ y cc nL ret) B.pre
  have hts : ∀ w ∈ lw_all, w.before av.toArray s = true := fun w h => hts w (List.mem_cons_of_mem _ h)
  subst hsz
  have hD := hD0.self (sz := s.heap.size)
  have hl := lv_entry av (n := nL) hn
  rw [lg_entry_eq]
  exact body p e s m below meth c (va_A w s.heap.size) _ ⟨B.exec, B.bytes, B.returns, B.notSynchronized, hml, findClass_of_methodNamed B.named, hts, fun q h => Or.inr h, hK, (name_of_methodNamed B.named B.method).1⟩ hP hD va_S.rf hl
theorem fm_of_map {α : Type} (f : Nat → Option α) : ∀ (is : List Nat) (ws : List α), is.map f = ws.map some → is.filterMap f = ws
  | [], ws, h => by
    cases ws with
    | nil => rfl
    | cons a l => simp at h
  | i :: is, ws, h => by
    cases ws with
    | nil => simp at h
    | cons a l =>
      simp only [List.map_cons, List.cons.injEq] at h
      rw [List.filterMap_cons, h.1]
      simp only
      rw [fm_of_map f is l h.2]
section WC
variable {D : va_G} {ka : Nat → ClassId} {p : Program} {l : Launch} {e : Env} {R : Room} {s : State} {m : MethodId} {args : Array Value} {below : List Frame} {meth : Method} {c : Code} {H : Heap} {locs : List Loc} {cells slots : Nat} {Q : State → Prop}
variable {pc : Nat} {ls : Array Slot} {rest st0 : List Value} {a : Array Value} {A : Nat → Prop} {H0 : Heap} {mc ms : Nat}
/-- behind a call: the callee's cells and the others, in the order isN -/
theorem w_call {Wd wc wr w' wn : va_W} {v : Option Value} (hr : va_Run p l e R s m args below meth c H locs cells slots 0 0 (F0 m pc ls st0) rest (QR D v w' (va_A wc H.size) a) (va_A wc H.size)) (hP : va_P D vwCl Wd H) (hD : va_D A Wd) (hS : va_S A H0 H locs) (hA : ∀ q, H0.size ≤ q → A q) (isC isR isN : List Nat) (hC : isC.map (fun i => Wd[i]?) = wc.map some) (hR : isR.map (fun i => Wd[i]?) = wr.map some) (hn : va_nd isR = true) (hdis : ∀ i ∈ isR, i ∉ isC) (hnn : va_nd isN = true) (hN : isN.map (fun i => (wr ++ w')[i]?) = wn.map some)
    (kk : ∀ (H1 : Heap) (locs1 : List Loc), va_P D vwCl wn H1 → va_D A wn → va_S A H0 H1 locs1 → W p l e R s m args below meth c H1 locs1 cells slots Q (F0 m (pc + 3) ls (v.toList ++ rest))) : W p l e R s m args below meth c H locs cells slots Q (F0 m pc ls st0) := by
  have hFc := va_free (wc := wc) hD hS hA isC hC
  intro T hT X
  obtain ⟨v1, st₀, t, T', L, h0, X', hL, e1, e2, ⟨⟨hv, hp, hd⟩, hz, hk⟩, st⟩ := hr T hT X
  cases hv
  rw [h0] at hz hk
  rw [← e1] at hp
  have hk' : ∀ q : Nat, q < H.size → ¬ va_A wc H.size q → T'.heap[q]? = H[q]? := fun q h1 h2 => by rw [e1]; exact hk q h1 h2
  obtain ⟨hP1, hD1⟩ := va_join (wr := wr) (w1 := w') hP hD isC isR hC hR hn hdis hk' hFc hp hd
  obtain ⟨t2, a1, b1⟩ := kk T'.heap (locs ++ L) (hP1.sub isN (fm_of_map _ _ _ hN)) (hD1.sub isN hnn hN)
    ⟨Nat.le_trans hS.1 (by rw [e1]; exact hz), fun q h1 h2 => by rw [e1, hk q (Nat.lt_of_lt_of_le h1 hS.1) (fun z => h2 (hFc q z))]; exact hS.2.1 q h1 h2, fun q hq => by
      rcases List.mem_append.mp hq with h | h
      · exact hS.2.2 q h
      · exact hFc _ (hL q h)⟩ T' rfl X'
  exact ⟨t2, st t2 a1, b1⟩
/-- behind a maker -/
theorem w_make {Wd wc wr : va_W} {w' : (Nat → Nat) → va_W} (hr : va_Run p l e R s m args below meth c H locs cells slots mc ms (F0 m pc ls st0) rest (QN D w' (va_A wc H.size) a) (va_A wc H.size)) (hP : va_P D vwCl Wd H) (hD : va_D A Wd) (hS : va_S A H0 H locs) (hA : ∀ q, H0.size ≤ q → A q) (isC isR : List Nat) (hC : isC.map (fun i => Wd[i]?) = wc.map some) (hR : isR.map (fun i => Wd[i]?) = wr.map some) (hn : va_nd isR = true) (hdis : ∀ i ∈ isR, i ∉ isC)
    (kk : ∀ (u : Nat → Nat) (H1 : Heap) (locs1 : List Loc), va_P D vwCl (wr ++ w' u) H1 → va_D A (wr ++ w' u) → va_S A H0 H1 locs1 → W p l e R s m args below meth c H1 locs1 (cells + mc) (slots + ms) Q (F0 m (pc + 3) ls rest)) : W p l e R s m args below meth c H locs cells slots Q (F0 m pc ls st0) := by
  have hFc := va_free (wc := wc) hD hS hA isC hC
  intro T hT X
  obtain ⟨v1, st₀, t, T', L, h0, X', hL, e1, e2, ⟨⟨u, hv, hp, hd⟩, hz, hk⟩, st⟩ := hr T hT X
  cases hv
  rw [h0] at hz hk
  rw [← e1] at hp
  have hk' : ∀ q : Nat, q < H.size → ¬ va_A wc H.size q → T'.heap[q]? = H[q]? := fun q h1 h2 => by rw [e1]; exact hk q h1 h2
  obtain ⟨hP1, hD1⟩ := va_join (wr := wr) (w1 := w' u) hP hD isC isR hC hR hn hdis hk' hFc hp hd
  obtain ⟨t2, a1, b1⟩ := kk u T'.heap (locs ++ L) hP1 hD1
    ⟨Nat.le_trans hS.1 (by rw [e1]; exact hz), fun q h1 h2 => by rw [e1, hk q (Nat.lt_of_lt_of_le h1 hS.1) (fun z => h2 (hFc q z))]; exact hS.2.1 q h1 h2, fun q hq => by
      rcases List.mem_append.mp hq with h | h
      · exact hS.2.2 q h
      · exact hFc _ (hL q h)⟩ T' rfl X'
  exact ⟨t2, st t2 a1, b1⟩
/-- the callee's start, cut out of the caller's world -/
theorem w_preS {Wd wc : va_W} {As : List Value} (hK : wK D ka s) (hP : va_P D vwCl Wd H) (hD : va_D A Wd) (isC : List Nat) (hnC : va_nd isC = true) (hC : isC.map (fun i => Wd[i]?) = wc.map some) : PreS s H (PW D ka As H.size wc) As :=
  ⟨PW.blind, fun U hU hW => ⟨rfl, by rw [hU], by rw [hU]; exact hP.sub isC (fm_of_map _ _ _ hC), hK.warm hW, (hD.sub isC hnC hC).weaken (fun _ _ _ _ => trivial)⟩⟩
theorem w_preV {Wd wc : va_W} {As : List Value} {C : String} {T : u_T} {N ci q0 b : Nat} {fs : List Value} (hK : wK D ka s) (hP : va_P D vwCl Wd H) (hD : va_D A Wd) (isC : List Nat) (hnC : va_nd isC = true) (hC : isC.map (fun i => Wd[i]?) = wc.map some) (hc : vwCl[ci]? = some (C, T, N)) (he : Wd[q0]? = some (b, .inr (ci, fs))) : PreV s H C b (PW D ka (.ref b :: As) H.size wc) As :=
  ⟨PW.blind, va_recv hK.1 hP (q := (C, T, N)) hc he, fun U hU hW => ⟨rfl, by rw [hU], by rw [hU]; exact hP.sub isC (fm_of_map _ _ _ hC), hK.warm hW, (hD.sub isC hnC hC).weaken (fun _ _ _ _ => trivial)⟩⟩
theorem lw_U {own : String} {idx : Nat} {C owner : String} {x y : MethodName} {b : ByteArray} {L : Nat} {r : Option FieldType} (h1 : Cond.methodLink own idx x ∈ lw_all) (h2 : Cond.sameMethod x.cls owner x.name x.desc ∈ lw_all) (h3 : Cond.selects C x y ∈ lw_all) (h4 : Cond.instanceMethod y ∈ lw_all) (h5 : Cond.initialized y.cls ∈ lw_all) (h6 : Cond.code y b L r ∈ lw_all) : GoodIn lw_all (va_wsU own idx C owner x y (ws_ y b L r)) := by
  refine lw_app ?_ (lw_meth h6)
  intro w hw
  simp only [List.mem_cons, List.not_mem_nil, or_false] at hw
  rcases hw with e | e | e | e | e
  · rw [e]; exact h1
  · rw [e]; exact h2
  · rw [e]; exact h3
  · rw [e]; exact h4
  · rw [e]; exact h5
end WC
end
section
/-! ROWS at natural numbers, at bytes and at truth values -/
def ub (x : UInt8) : Int32 := nI x.toNat
def sb (x : UInt8) : Int32 := (nI x.toNat).toInt8.toInt32
def zb (x : Bool) : Int32 := if x then 1 else 0
def ubf (f : Nat → UInt8) : Nat → Int32 := fun j => ub (f j)
def sbf (f : Nat → UInt8) : Nat → Int32 := fun j => sb (f j)
def zbf (f : Nat → Bool) : Nat → Int32 := fun j => zb (f j)
/-- the byte of an int -/
def nb (v : Int32) : UInt8 := UInt8.ofNat (v.toBitVec.toNat % 256)
theorem u8_lt (x : UInt8) : x.toNat < 256 := x.toNat_lt
theorem u8_ofNat {n : Nat} (h : n < 256) : (UInt8.ofNat n).toNat = n := UInt8.toNat_ofNat_of_lt h
theorem ub_ofNat {n : Nat} (h : n < 256) : ub (UInt8.ofNat n) = nI n := by rw [ub, u8_ofNat h]
theorem ub_0 : ub 0 = nI 0 := rfl
theorem ub_1 : ub 1 = nI 1 := rfl
theorem and_255 (v : Int32) : v &&& nI 255 = ub (nb v) := by
  rw [pk_and v (m := nI 255) 8 (by decide), nb, ub_ofNat (Nat.mod_lt _ (by decide))]
theorem sb_and (x : UInt8) : sb x &&& nI 255 = ub x := sc_k8 x.toNat (u8_lt x)
theorem sb_z : ∀ n, n < 256 → ((nI n).toInt8.toInt32 = 0 ↔ n = 0) := by decide +kernel
theorem sb_eq0 (x : UInt8) : sb x = 0 ↔ x = 0 := by
  rw [sb, sb_z x.toNat (u8_lt x)]
  constructor
  · intro h; exact UInt8.toNat_inj.mp h
  · intro h; rw [h]; rfl
theorem ub_eq0 (x : UInt8) : x.toNat = 0 ↔ x = 0 := by
  constructor
  · intro h; exact UInt8.toNat_inj.mp h
  · intro h; rw [h]; rfl
theorem i2b_and : ∀ n, n < 256 → (nI n).toInt8.toInt32.toInt = (n : Int).bmod (2 ^ 8) := by
  intro n hn
  rw [lg_i2b_toInt, nI_toInt (by omega)]
theorem i2b_nb (v : Int32) : v.toInt8.toInt32 = sb (nb v) := by
  apply Int32.toInt_inj.mp
  rw [sb, i2b_and _ (u8_lt _), lg_i2b_toInt, nb, u8_ofNat (Nat.mod_lt _ (by decide))]
  have h : v.toInt = (v.toBitVec.toNat : Int).bmod (2 ^ 32) := BitVec.toInt_eq_toNat_bmod v.toBitVec
  rw [h]
  have h2 : (2 ^ 32 : Nat) = 2 ^ 8 * 2 ^ 24 := by decide
  simp only [Int.bmod_def]
  omega
theorem vb_sb (x : UInt8) : vp_nar .byte (sb x) = sb x := pk_vb _
theorem vb_0 : vp_nar .byte (nI 0) = sb 0 := by decide +kernel
theorem vb_1 : vp_nar .byte (nI 1) = sb 1 := by decide +kernel
theorem vz_0 : vp_nar .boolean (nI 0) = zb false := by decide +kernel
theorem vz_1 : vp_nar .boolean (nI 1) = zb true := by decide +kernel
theorem zb_eq0 (x : Bool) : zb x = 0 ↔ x = false := by cases x <;> decide
theorem up_ub (f : Nat → UInt8) (k : Nat) (v : UInt8) : upd (ubf f) k (ub v) = ubf (va_up f k v) := by
  funext j
  by_cases h : j = k
  · subst h; simp [upd, ubf, va_up]
  · simp [upd, ubf, va_up, h]
theorem up_sb (f : Nat → UInt8) (k : Nat) (v : UInt8) : upd (sbf f) k (sb v) = sbf (va_up f k v) := by
  funext j
  by_cases h : j = k
  · subst h; simp [upd, sbf, va_up]
  · simp [upd, sbf, va_up, h]
theorem up_zb (f : Nat → Bool) (k : Nat) (v : Bool) : upd (zbf f) k (zb v) = zbf (va_up f k v) := by
  funext j
  by_cases h : j = k
  · subst h; simp [upd, zbf, va_up]
  · simp [upd, zbf, va_up, h]
section NR
variable {D : va_G} {ka : Nat → ClassId} {p : Program} {l : Launch} {e : Env} {R : Room} {s : State} {m : MethodId} {args : Array Value} {below : List Frame} {meth : Method} {c : Code} {H : Heap} {locs : List Loc} {cells slots : Nat} {Q : State → Prop}
variable {cc : ByteArray} {pc : Nat} {ls : Array Slot} {rest : List Value} {A : Nat → Prop} {H0 : Heap} {ws wn : va_W} {a : Nat}
theorem n_iadd (hexec : p.tables.exec = Jvm.exec) (hb : c.code = cc) {x y : Nat} (hdg : decode cc pc = .ok (.iadd, 1)) (k : W p l e R s m args below meth c H locs cells slots Q (F0 m (pc + 1) ls (.int (nI (x + y)) :: rest))) : W p l e R s m args below meth c H locs cells slots Q (F0 m pc ls (.int (nI y) :: .int (nI x) :: rest)) :=
  lv_iadd hexec hb hdg (by rw [nI_add]; exact k)
theorem n_isub (hexec : p.tables.exec = Jvm.exec) (hb : c.code = cc) {x y : Nat} (h : y ≤ x) (hdg : decode cc pc = .ok (.isub, 1)) (k : W p l e R s m args below meth c H locs cells slots Q (F0 m (pc + 1) ls (.int (nI (x - y)) :: rest))) : W p l e R s m args below meth c H locs cells slots Q (F0 m pc ls (.int (nI y) :: .int (nI x) :: rest)) :=
  lv_isub hexec hb hdg (by rw [pk_sub h]; exact k)
theorem n_imul (hexec : p.tables.exec = Jvm.exec) (hb : c.code = cc) {x y : Nat} (hdg : decode cc pc = .ok (.imul, 1)) (k : W p l e R s m args below meth c H locs cells slots Q (F0 m (pc + 1) ls (.int (nI (x * y)) :: rest))) : W p l e R s m args below meth c H locs cells slots Q (F0 m pc ls (.int (nI y) :: .int (nI x) :: rest)) :=
  lv_imul hexec hb hdg (by rw [pk_mul]; exact k)
theorem n_irem (hexec : p.tables.exec = Jvm.exec) (hb : c.code = cc) {x y : Nat} (hx : x < 2 ^ 31) (h0 : 0 < y) (hy : y < 2 ^ 31) (hdg : decode cc pc = .ok (.irem, 1)) (k : W p l e R s m args below meth c H locs cells slots Q (F0 m (pc + 1) ls (.int (nI (x % y)) :: rest))) : W p l e R s m args below meth c H locs cells slots Q (F0 m pc ls (.int (nI y) :: .int (nI x) :: rest)) :=
  lv_irem hexec hb hdg (nI_ne0 h0 hy) (by rw [pk_rem hx h0 hy]; exact k)
theorem n_idiv (hexec : p.tables.exec = Jvm.exec) (hb : c.code = cc) {x y : Nat} (hx : x < 2 ^ 31) (h0 : 0 < y) (hy : y < 2 ^ 31) (hdg : decode cc pc = .ok (.idiv, 1)) (k : W p l e R s m args below meth c H locs cells slots Q (F0 m (pc + 1) ls (.int (nI (x / y)) :: rest))) : W p l e R s m args below meth c H locs cells slots Q (F0 m pc ls (.int (nI y) :: .int (nI x) :: rest)) :=
  lv_idiv hexec hb hdg (nI_ne0 h0 hy) (by rw [pk_div hx h0 hy]; exact k)
theorem n_and8 (hexec : p.tables.exec = Jvm.exec) (hb : c.code = cc) {v : Int32} (hdg : decode cc pc = .ok (.iand, 1)) (k : W p l e R s m args below meth c H locs cells slots Q (F0 m (pc + 1) ls (.int (ub (nb v)) :: rest))) : W p l e R s m args below meth c H locs cells slots Q (F0 m pc ls (.int (nI 255) :: .int v :: rest)) :=
  lv_iand hexec hb hdg (by rw [and_255]; exact k)
theorem n_andS (hexec : p.tables.exec = Jvm.exec) (hb : c.code = cc) {v : UInt8} (hdg : decode cc pc = .ok (.iand, 1)) (k : W p l e R s m args below meth c H locs cells slots Q (F0 m (pc + 1) ls (.int (ub v) :: rest))) : W p l e R s m args below meth c H locs cells slots Q (F0 m pc ls (.int (nI 255) :: .int (sb v) :: rest)) :=
  lv_iand hexec hb hdg (by rw [sb_and]; exact k)
theorem n_i2b (hexec : p.tables.exec = Jvm.exec) (hb : c.code = cc) {v : Int32} (hdg : decode cc pc = .ok (.i2b, 1)) (k : W p l e R s m args below meth c H locs cells slots Q (F0 m (pc + 1) ls (.int (sb (nb v)) :: rest))) : W p l e R s m args below meth c H locs cells slots Q (F0 m pc ls (.int v :: rest)) :=
  lv_i2b hexec hb hdg (i2b_nb v) k
theorem n_icmp_ge (hexec : p.tables.exec = Jvm.exec) (hb : c.code = cc) {x y : Nat} (hx : x < 2 ^ 31) (hy : y < 2 ^ 31) {off : Int} {tgt : Nat} (hdg : decode cc pc = .ok (.if_icmp .ge off, 3)) (ht : (pc : Int) + off = (tgt : Int))
    (kt : y ≤ x → W p l e R s m args below meth c H locs cells slots Q (F0 m tgt ls rest)) (kf : x < y → W p l e R s m args below meth c H locs cells slots Q (F0 m (pc + 3) ls rest)) : W p l e R s m args below meth c H locs cells slots Q (F0 m pc ls (.int (nI y) :: .int (nI x) :: rest)) :=
  lv_icmp_ge hexec hb hdg ht (fun h => kt ((nI_leI hy hx).mp h)) (fun h => kf (Nat.not_le.mp (fun q => h ((nI_leI hy hx).mpr q))))
theorem n_icmp_lt (hexec : p.tables.exec = Jvm.exec) (hb : c.code = cc) {x y : Nat} (hx : x < 2 ^ 31) (hy : y < 2 ^ 31) {off : Int} {tgt : Nat} (hdg : decode cc pc = .ok (.if_icmp .lt off, 3)) (ht : (pc : Int) + off = (tgt : Int))
    (kt : x < y → W p l e R s m args below meth c H locs cells slots Q (F0 m tgt ls rest)) (kf : y ≤ x → W p l e R s m args below meth c H locs cells slots Q (F0 m (pc + 3) ls rest)) : W p l e R s m args below meth c H locs cells slots Q (F0 m pc ls (.int (nI y) :: .int (nI x) :: rest)) :=
  lv_icmp_lt hexec hb hdg ht (fun h => kt ((nI_ltI hx hy).mp h)) (fun h => kf (Nat.not_lt.mp (fun q => h ((nI_ltI hx hy).mpr q))))
theorem n_icmp_gt (hexec : p.tables.exec = Jvm.exec) (hb : c.code = cc) {x y : Nat} (hx : x < 2 ^ 31) (hy : y < 2 ^ 31) {off : Int} {tgt : Nat} (hdg : decode cc pc = .ok (.if_icmp .gt off, 3)) (ht : (pc : Int) + off = (tgt : Int))
    (kt : y < x → W p l e R s m args below meth c H locs cells slots Q (F0 m tgt ls rest)) (kf : x ≤ y → W p l e R s m args below meth c H locs cells slots Q (F0 m (pc + 3) ls rest)) : W p l e R s m args below meth c H locs cells slots Q (F0 m pc ls (.int (nI y) :: .int (nI x) :: rest)) :=
  lv_icmp_gt hexec hb hdg ht (fun h => kt ((nI_ltI hy hx).mp h)) (fun h => kf (Nat.not_lt.mp (fun q => h ((nI_ltI hy hx).mpr q))))
theorem n_icmp_le (hexec : p.tables.exec = Jvm.exec) (hb : c.code = cc) {x y : Nat} (hx : x < 2 ^ 31) (hy : y < 2 ^ 31) {off : Int} {tgt : Nat} (hdg : decode cc pc = .ok (.if_icmp .le off, 3)) (ht : (pc : Int) + off = (tgt : Int))
    (kt : x ≤ y → W p l e R s m args below meth c H locs cells slots Q (F0 m tgt ls rest)) (kf : y < x → W p l e R s m args below meth c H locs cells slots Q (F0 m (pc + 3) ls rest)) : W p l e R s m args below meth c H locs cells slots Q (F0 m pc ls (.int (nI y) :: .int (nI x) :: rest)) :=
  lv_icmp_le hexec hb hdg ht (fun h => kt ((nI_leI hx hy).mp h)) (fun h => kf (Nat.not_le.mp (fun q => h ((nI_leI hx hy).mpr q))))
theorem n_icmp_ne (hexec : p.tables.exec = Jvm.exec) (hb : c.code = cc) {x y : Nat} (hx : x < 2 ^ 31) (hy : y < 2 ^ 31) {off : Int} {tgt : Nat} (hdg : decode cc pc = .ok (.if_icmp .ne off, 3)) (ht : (pc : Int) + off = (tgt : Int))
    (kt : x ≠ y → W p l e R s m args below meth c H locs cells slots Q (F0 m tgt ls rest)) (kf : x = y → W p l e R s m args below meth c H locs cells slots Q (F0 m (pc + 3) ls rest)) : W p l e R s m args below meth c H locs cells slots Q (F0 m pc ls (.int (nI y) :: .int (nI x) :: rest)) :=
  lv_icmp_ne hexec hb hdg ht (fun h => kt (fun q => h ((nI_eq hx hy).mpr q))) (fun h => kf ((nI_eq hx hy).mp h))
theorem n_if_eq (hexec : p.tables.exec = Jvm.exec) (hb : c.code = cc) {x : Nat} (hx : x < 2 ^ 31) {off : Int} {tgt : Nat} (hdg : decode cc pc = .ok (.ifCond .eq off, 3)) (ht : (pc : Int) + off = (tgt : Int))
    (kt : x = 0 → W p l e R s m args below meth c H locs cells slots Q (F0 m tgt ls rest)) (kf : x ≠ 0 → W p l e R s m args below meth c H locs cells slots Q (F0 m (pc + 3) ls rest)) : W p l e R s m args below meth c H locs cells slots Q (F0 m pc ls (.int (nI x) :: rest)) :=
  lv_if_eq hexec hb hdg ht (fun h => kt ((nI_eq hx (by decide)).mp (h.trans nI_0.symm))) (fun h => kf (fun q => h (by rw [q]; exact nI_0)))
theorem n_if_ne (hexec : p.tables.exec = Jvm.exec) (hb : c.code = cc) {x : Nat} (hx : x < 2 ^ 31) {off : Int} {tgt : Nat} (hdg : decode cc pc = .ok (.ifCond .ne off, 3)) (ht : (pc : Int) + off = (tgt : Int))
    (kt : x ≠ 0 → W p l e R s m args below meth c H locs cells slots Q (F0 m tgt ls rest)) (kf : x = 0 → W p l e R s m args below meth c H locs cells slots Q (F0 m (pc + 3) ls rest)) : W p l e R s m args below meth c H locs cells slots Q (F0 m pc ls (.int (nI x) :: rest)) :=
  lv_if_ne hexec hb hdg ht (fun h => kt (fun q => h (by rw [q]; exact nI_0))) (fun h => kf ((nI_eq hx (by decide)).mp (h.trans nI_0.symm)))
theorem n_if_le (hexec : p.tables.exec = Jvm.exec) (hb : c.code = cc) {x : Nat} (hx : x < 2 ^ 31) {off : Int} {tgt : Nat} (hdg : decode cc pc = .ok (.ifCond .le off, 3)) (ht : (pc : Int) + off = (tgt : Int))
    (kt : x = 0 → W p l e R s m args below meth c H locs cells slots Q (F0 m tgt ls rest)) (kf : x ≠ 0 → W p l e R s m args below meth c H locs cells slots Q (F0 m (pc + 3) ls rest)) : W p l e R s m args below meth c H locs cells slots Q (F0 m pc ls (.int (nI x) :: rest)) :=
  lv_if_le hexec hb hdg ht (fun h => kt (by have := (nI_leI hx (show (0 : Nat) < 2 ^ 31 by decide)).mp (by rw [nI_0]; exact h); omega)) (fun h => kf (fun q => h (by rw [q, nI_0]; exact Int32.le_refl 0)))
theorem n_if_lt (hexec : p.tables.exec = Jvm.exec) (hb : c.code = cc) {x : Nat} (hx : x < 2 ^ 31) {off : Int} (hdg : decode cc pc = .ok (.ifCond .lt off, 3)) (ht : ∃ tgt : Nat, (pc : Int) + off = (tgt : Int))
    (kf : W p l e R s m args below meth c H locs cells slots Q (F0 m (pc + 3) ls rest)) : W p l e R s m args below meth c H locs cells slots Q (F0 m pc ls (.int (nI x) :: rest)) :=
  lv_if_lt hexec hb hdg ht.choose_spec (fun h => absurd h (nI_pos hx)) (fun _ => kf)
/-- a truth value: ifeq, ifne -/
theorem z_if_eq (hexec : p.tables.exec = Jvm.exec) (hb : c.code = cc) {x : Bool} {off : Int} {tgt : Nat} (hdg : decode cc pc = .ok (.ifCond .eq off, 3)) (ht : (pc : Int) + off = (tgt : Int))
    (kt : x = false → W p l e R s m args below meth c H locs cells slots Q (F0 m tgt ls rest)) (kf : x = true → W p l e R s m args below meth c H locs cells slots Q (F0 m (pc + 3) ls rest)) : W p l e R s m args below meth c H locs cells slots Q (F0 m pc ls (.int (zb x) :: rest)) :=
  lv_if_eq hexec hb hdg ht (fun h => kt ((zb_eq0 x).mp h)) (fun h => kf (by cases x with | false => exact absurd rfl h | true => rfl))
theorem z_if_ne (hexec : p.tables.exec = Jvm.exec) (hb : c.code = cc) {x : Bool} {off : Int} {tgt : Nat} (hdg : decode cc pc = .ok (.ifCond .ne off, 3)) (ht : (pc : Int) + off = (tgt : Int))
    (kt : x = true → W p l e R s m args below meth c H locs cells slots Q (F0 m tgt ls rest)) (kf : x = false → W p l e R s m args below meth c H locs cells slots Q (F0 m (pc + 3) ls rest)) : W p l e R s m args below meth c H locs cells slots Q (F0 m pc ls (.int (zb x) :: rest)) :=
  lv_if_ne hexec hb hdg ht (fun h => kt (by cases x with | false => exact absurd rfl h | true => rfl)) (fun h => kf ((zb_eq0 x).mp h))
/-- a byte: ifeq, ifne -/
theorem s_if_eq (hexec : p.tables.exec = Jvm.exec) (hb : c.code = cc) {x : UInt8} {off : Int} {tgt : Nat} (hdg : decode cc pc = .ok (.ifCond .eq off, 3)) (ht : (pc : Int) + off = (tgt : Int))
    (kt : x = 0 → W p l e R s m args below meth c H locs cells slots Q (F0 m tgt ls rest)) (kf : x ≠ 0 → W p l e R s m args below meth c H locs cells slots Q (F0 m (pc + 3) ls rest)) : W p l e R s m args below meth c H locs cells slots Q (F0 m pc ls (.int (sb x) :: rest)) :=
  lv_if_eq hexec hb hdg ht (fun h => kt ((sb_eq0 x).mp h)) (fun h => kf (fun q => h ((sb_eq0 x).mpr q)))
theorem s_if_ne (hexec : p.tables.exec = Jvm.exec) (hb : c.code = cc) {x : UInt8} {off : Int} {tgt : Nat} (hdg : decode cc pc = .ok (.ifCond .ne off, 3)) (ht : (pc : Int) + off = (tgt : Int))
    (kt : x ≠ 0 → W p l e R s m args below meth c H locs cells slots Q (F0 m tgt ls rest)) (kf : x = 0 → W p l e R s m args below meth c H locs cells slots Q (F0 m (pc + 3) ls rest)) : W p l e R s m args below meth c H locs cells slots Q (F0 m pc ls (.int (sb x) :: rest)) :=
  lv_if_ne hexec hb hdg ht (fun h => kt (fun q => h ((sb_eq0 x).mpr q))) (fun h => kf ((sb_eq0 x).mp h))
theorem u_if_eq (hexec : p.tables.exec = Jvm.exec) (hb : c.code = cc) {x : UInt8} {off : Int} {tgt : Nat} (hdg : decode cc pc = .ok (.ifCond .eq off, 3)) (ht : (pc : Int) + off = (tgt : Int))
    (kt : x = 0 → W p l e R s m args below meth c H locs cells slots Q (F0 m tgt ls rest)) (kf : x ≠ 0 → W p l e R s m args below meth c H locs cells slots Q (F0 m (pc + 3) ls rest)) : W p l e R s m args below meth c H locs cells slots Q (F0 m pc ls (.int (ub x) :: rest)) :=
  n_if_eq hexec hb (x := x.toNat) (Nat.lt_trans (u8_lt x) (by decide)) hdg ht (fun h => kt ((ub_eq0 x).mp h)) (fun h => kf (fun q => h ((ub_eq0 x).mpr q)))
theorem u_if_ne (hexec : p.tables.exec = Jvm.exec) (hb : c.code = cc) {x : UInt8} {off : Int} {tgt : Nat} (hdg : decode cc pc = .ok (.ifCond .ne off, 3)) (ht : (pc : Int) + off = (tgt : Int))
    (kt : x ≠ 0 → W p l e R s m args below meth c H locs cells slots Q (F0 m tgt ls rest)) (kf : x = 0 → W p l e R s m args below meth c H locs cells slots Q (F0 m (pc + 3) ls rest)) : W p l e R s m args below meth c H locs cells slots Q (F0 m pc ls (.int (ub x) :: rest)) :=
  n_if_ne hexec hb (x := x.toNat) (Nat.lt_trans (u8_lt x) (by decide)) hdg ht (fun h => kt (fun q => h ((ub_eq0 x).mpr q))) (fun h => kf ((ub_eq0 x).mp h))
/-- array reads -/
theorem n_iald (hexec : p.tables.exec = Jvm.exec) (hb : c.code = cc) (hK : wK D ka s) (hP : va_P D vwCl ws H) (q0 : Nat) {n k : Nat} {f : Nat → UInt8} (ha : ws[q0]? = some (a, .inl (ka 0, n, .inl (ubf f)))) (hk : k < n) (hn : n < 2 ^ 31) (hdg : decode cc pc = .ok (.iaload, 1))
    (kk : W p l e R s m args below meth c H locs cells slots Q (F0 m (pc + 1) ls (.int (ub (f k)) :: rest))) : W p l e R s m args below meth c H locs cells slots Q (F0 m pc ls (.int (nI k) :: .ref a :: rest)) :=
  va_iald hexec hb hK.1 hP q0 0 ha rfl (vp_in_nI hk hn) hdg (by rw [nI_clamp (Nat.lt_trans hk hn)]; exact kk)
theorem n_bald (hexec : p.tables.exec = Jvm.exec) (hb : c.code = cc) (hK : wK D ka s) (hP : va_P D vwCl ws H) (q0 : Nat) {n k : Nat} {f : Nat → UInt8} (ha : ws[q0]? = some (a, .inl (ka 2, n, .inl (sbf f)))) (hk : k < n) (hn : n < 2 ^ 31) (hdg : decode cc pc = .ok (.baload, 1))
    (kk : W p l e R s m args below meth c H locs cells slots Q (F0 m (pc + 1) ls (.int (sb (f k)) :: rest))) : W p l e R s m args below meth c H locs cells slots Q (F0 m pc ls (.int (nI k) :: .ref a :: rest)) :=
  va_bald hexec hb hK.1 hP q0 2 ha rfl (vp_in_nI hk hn) hdg (by rw [nI_clamp (Nat.lt_trans hk hn)]; exact kk)
theorem n_zald (hexec : p.tables.exec = Jvm.exec) (hb : c.code = cc) (hK : wK D ka s) (hP : va_P D vwCl ws H) (q0 : Nat) {n k : Nat} {f : Nat → Bool} (ha : ws[q0]? = some (a, .inl (ka 1, n, .inl (zbf f)))) (hk : k < n) (hn : n < 2 ^ 31) (hdg : decode cc pc = .ok (.baload, 1))
    (kk : W p l e R s m args below meth c H locs cells slots Q (F0 m (pc + 1) ls (.int (zb (f k)) :: rest))) : W p l e R s m args below meth c H locs cells slots Q (F0 m pc ls (.int (nI k) :: .ref a :: rest)) :=
  va_zald hexec hb hK.1 hP q0 1 ha rfl (vp_in_nI hk hn) hdg (by rw [nI_clamp (Nat.lt_trans hk hn)]; exact kk)
/-- array writes: hw says which world it is then -/
theorem n_iast (hexec : p.tables.exec = Jvm.exec) (hb : c.code = cc) (hK : wK D ka s) (hP : va_P D vwCl ws H) (hD : va_D A ws) (hS : va_S A H0 H locs) (q0 : Nat) {n k : Nat} {f : Nat → UInt8} (v : UInt8) {x : Int32} (ha : ws[q0]? = some (a, .inl (ka 0, n, .inl (ubf f)))) (hk : k < n) (hn : n < 2 ^ 31) (hx : x = ub v) (hw : ws.set q0 (a, .inl (ka 0, n, .inl (ubf (va_up f k v)))) = wn) (hdg : decode cc pc = .ok (.iastore, 1))
    (kk : ∀ (H1 : Heap) (locs1 : List Loc), va_P D vwCl wn H1 → va_D A wn → va_S A H0 H1 locs1 → W p l e R s m args below meth c H1 locs1 cells slots Q (F0 m (pc + 1) ls rest)) : W p l e R s m args below meth c H locs cells slots Q (F0 m pc ls (.int x :: .int (nI k) :: .ref a :: rest)) := by
  refine va_iast hexec hb hK.1 hP hD hS q0 0 ha rfl (vp_in_nI hk hn) hdg (fun H1 locs1 h1 h2 h3 => ?_)
  rw [nI_clamp (Nat.lt_trans hk hn), hx, up_ub, hw] at h1 h2
  exact kk H1 locs1 h1 h2 h3
theorem n_bast (hexec : p.tables.exec = Jvm.exec) (hb : c.code = cc) (hK : wK D ka s) (hP : va_P D vwCl ws H) (hD : va_D A ws) (hS : va_S A H0 H locs) (q0 : Nat) {n k : Nat} {f : Nat → UInt8} (v : UInt8) {x : Int32} (ha : ws[q0]? = some (a, .inl (ka 2, n, .inl (sbf f)))) (hk : k < n) (hn : n < 2 ^ 31) (hx : vp_nar .byte x = sb v) (hw : ws.set q0 (a, .inl (ka 2, n, .inl (sbf (va_up f k v)))) = wn) (hdg : decode cc pc = .ok (.bastore, 1))
    (kk : ∀ (H1 : Heap) (locs1 : List Loc), va_P D vwCl wn H1 → va_D A wn → va_S A H0 H1 locs1 → W p l e R s m args below meth c H1 locs1 cells slots Q (F0 m (pc + 1) ls rest)) : W p l e R s m args below meth c H locs cells slots Q (F0 m pc ls (.int x :: .int (nI k) :: .ref a :: rest)) := by
  refine va_bast hexec hb hK.1 hP hD hS q0 2 ha rfl (vp_in_nI hk hn) hdg (fun H1 locs1 h1 h2 h3 => ?_)
  rw [nI_clamp (Nat.lt_trans hk hn), hx, up_sb, hw] at h1 h2
  exact kk H1 locs1 h1 h2 h3
theorem n_zast (hexec : p.tables.exec = Jvm.exec) (hb : c.code = cc) (hK : wK D ka s) (hP : va_P D vwCl ws H) (hD : va_D A ws) (hS : va_S A H0 H locs) (q0 : Nat) {n k : Nat} {f : Nat → Bool} (v : Bool) {x : Int32} (ha : ws[q0]? = some (a, .inl (ka 1, n, .inl (zbf f)))) (hk : k < n) (hn : n < 2 ^ 31) (hx : vp_nar .boolean x = zb v) (hw : ws.set q0 (a, .inl (ka 1, n, .inl (zbf (va_up f k v)))) = wn) (hdg : decode cc pc = .ok (.bastore, 1))
    (kk : ∀ (H1 : Heap) (locs1 : List Loc), va_P D vwCl wn H1 → va_D A wn → va_S A H0 H1 locs1 → W p l e R s m args below meth c H1 locs1 cells slots Q (F0 m (pc + 1) ls rest)) : W p l e R s m args below meth c H locs cells slots Q (F0 m pc ls (.int x :: .int (nI k) :: .ref a :: rest)) := by
  refine va_zast hexec hb hK.1 hP hD hS q0 1 ha rfl (vp_in_nI hk hn) hdg (fun H1 locs1 h1 h2 h3 => ?_)
  rw [nI_clamp (Nat.lt_trans hk hn), hx, up_zb, hw] at h1 h2
  exact kk H1 locs1 h1 h2 h3
/-- ends -/
theorem e_int {v v' : Int32} {w1 w' : va_W} (hexec : p.tables.exec = Jvm.exec) (hb : c.code = cc) (hr : meth.sig.returnType = some .int) (hlocks : meth.locks = false) (hP : va_P D vwCl w1 H) (hD : va_D A w1) (hS : va_S A s.heap H locs) (hv : v = v') (hw : w1 = w') (hdg : decode cc pc = .ok (.ireturn, 1)) : W p l e R s m args below meth c H locs cells slots (MQ below (QR D (some (.int v')) w' A) args s cells slots A) (F0 m pc ls [.int v]) := by
  subst hv; subst hw
  exact W.iret hexec hb hr (fun t ht hW => ⟨⟨rfl, by rw [ht]; exact hP, hD⟩, hS.F ht⟩) hS.2.2 hdg hlocks
theorem zb_nar (x : Bool) : narrow .boolean (.int (zb x)) = .int (zb x) := by cases x <;> decide +kernel
theorem e_bool {v : Int32} {x : Bool} {w1 w' : va_W} (hexec : p.tables.exec = Jvm.exec) (hb : c.code = cc) (hr : meth.sig.returnType = some .boolean) (hlocks : meth.locks = false) (hP : va_P D vwCl w1 H) (hD : va_D A w1) (hS : va_S A s.heap H locs) (hv : v = zb x) (hw : w1 = w') (hdg : decode cc pc = .ok (.ireturn, 1)) : W p l e R s m args below meth c H locs cells slots (MQ below (QR D (some (.int (zb x))) w' A) args s cells slots A) (F0 m pc ls [.int v]) := by
  subst hv; subst hw
  exact W.zret hexec hb hr (zb_nar x) (fun t ht hW => ⟨⟨rfl, by rw [ht]; exact hP, hD⟩, hS.F ht⟩) hS.2.2 hdg hlocks
theorem e_void {w1 w' : va_W} (hexec : p.tables.exec = Jvm.exec) (hb : c.code = cc) (hr : meth.sig.returnType = none) (hlocks : meth.locks = false) (hP : va_P D vwCl w1 H) (hD : va_D A w1) (hS : va_S A s.heap H locs) (hw : w1 = w') (hdg : decode cc pc = .ok (.return_, 1)) : W p l e R s m args below meth c H locs cells slots (MQ below (QR D none w' A) args s cells slots A) (F0 m pc ls []) := by
  subst hw
  exact W.vret hexec hb hr (fun t ht hW => ⟨⟨rfl, by rw [ht]; exact hP, hD⟩, hS.F ht⟩) hS.2.2 hdg hlocks
theorem e_make {w1 : va_W} {w' : (Nat → Nat) → va_W} (u : Nat → Nat) (hexec : p.tables.exec = Jvm.exec) (hb : c.code = cc) (hr : meth.sig.returnType = none) (hlocks : meth.locks = false) (hP : va_P D vwCl w1 H) (hD : va_D A w1) (hS : va_S A s.heap H locs) (hw : w1 = w' u) (hdg : decode cc pc = .ok (.return_, 1)) : W p l e R s m args below meth c H locs cells slots (MQ below (QN D w' A) args s cells slots A) (F0 m pc ls []) := by
  subst hw
  exact W.vret hexec hb hr (fun t ht hW => ⟨⟨u, rfl, by rw [ht]; exact hP, hD⟩, hS.F ht⟩) hS.2.2 hdg hlocks
theorem e_ref {v : Value} {n : String} {w1 w' : va_W} (hexec : p.tables.exec = Jvm.exec) (hb : c.code = cc) (hr : meth.sig.returnType = some (.object n)) (hlocks : meth.locks = false) (hv : v = .null ∨ ∃ a, v = .ref a) (hP : va_P D vwCl w1 H) (hD : va_D A w1) (hS : va_S A s.heap H locs) (hw : w1 = w') (hdg : decode cc pc = .ok (.areturn, 1)) : W p l e R s m args below meth c H locs cells slots (MQ below (QR D (some v) w' A) args s cells slots A) (F0 m pc ls [v]) := by
  subst hw
  exact W.aret hexec hb hr (Or.inl ⟨n, rfl⟩) hv (fun t ht hW => ⟨⟨rfl, by rw [ht]; exact hP, hD⟩, hS.F ht⟩) hS.2.2 hdg hlocks
end NR
end
section
/-! THE PLAIN LAW: one state for both sides, and what each call does to it -/
/-- a ring: oldest, count, descriptors, buffers, which slots are let -/
abbrev RG : Type := Nat × Nat × (Nat → UInt8) × (Nat → UInt8) × (Nat → Bool)
def g_o (t : RG) (x : Nat) : RG := (x, t.2.1, t.2.2.1, t.2.2.2.1, t.2.2.2.2)
def g_n (t : RG) (x : Nat) : RG := (t.1, x, t.2.2.1, t.2.2.2.1, t.2.2.2.2)
def g_d (t : RG) (f : Nat → UInt8) : RG := (t.1, t.2.1, f, t.2.2.2.1, t.2.2.2.2)
def g_b (t : RG) (f : Nat → UInt8) : RG := (t.1, t.2.1, t.2.2.1, f, t.2.2.2.2)
def g_z (t : RG) (f : Nat → Bool) : RG := (t.1, t.2.1, t.2.2.1, t.2.2.2.1, f)
def okR (t : RG) : Prop := t.1 < 8 ∧ t.2.1 ≤ 8
/-- all: the sending ring, the receiving ring, out box, in box, faults -/
abbrev ST : Type := RG × RG × (Nat → UInt8) × (Nat → UInt8) × Int32
def s_t (g : ST) (t : RG) : ST := (t, g.2.1, g.2.2.1, g.2.2.2.1, g.2.2.2.2)
def s_r (g : ST) (t : RG) : ST := (g.1, t, g.2.2.1, g.2.2.2.1, g.2.2.2.2)
def s_ob (g : ST) (f : Nat → UInt8) : ST := (g.1, g.2.1, f, g.2.2.2.1, g.2.2.2.2)
def s_ib (g : ST) (f : Nat → UInt8) : ST := (g.1, g.2.1, g.2.2.1, f, g.2.2.2.2)
def s_fl (g : ST) (x : Int32) : ST := (g.1, g.2.1, g.2.2.1, g.2.2.2.1, x)
def okS (g : ST) : Prop := okR g.1 ∧ okR g.2.1
def flt (g : ST) : ST := s_fl g (g.2.2.2.2 + nI 1)
/-- writes in a row -/
def fill (f : Nat → UInt8) (b0 : Nat) (src : Nat → UInt8) : Nat → Nat → UInt8
  | 0 => f
  | i + 1 => va_up (fill f b0 src i) (b0 + i) (src i)
/-- the next slot -/
def r_k (t : RG) : Nat := (t.1 + t.2.1) % 8
def r_src (src : Nat → UInt8) (len : Nat) : Nat → UInt8 := fun i => if i < len then src i else 0
def r_desc (d : Nat → UInt8) (at0 pg len : Nat) : Nat → UInt8 := va_up (va_up (va_up (fill d at0 (fun _ => 0) 8) at0 (UInt8.ofNat pg)) (at0 + 1) (UInt8.ofNat len)) (at0 + 2) 1
def r_enq (fp : Nat) (t : RG) (src : Nat → UInt8) (len : Nat) : RG := (t.1, t.2.1 + 1, r_desc t.2.2.1 (8 * r_k t) (fp + r_k t) len, fill t.2.2.2.1 (16 * r_k t) (r_src src len) 16, va_up t.2.2.2.2 (r_k t) true)
def r_take (t : RG) : RG := ((t.1 + 1) % 8, t.2.1 - 1, t.2.2.1, t.2.2.2.1, va_up t.2.2.2.2 t.1 false)
def r_shut (t : RG) (k : Nat) : RG := (t.1, t.2.1, va_up t.2.2.1 (8 * k + 2) 0, t.2.2.2.1, va_up t.2.2.2.2 k false)
def r_cutL (t : RG) (pl : Nat) : Nat → RG
  | 0 => t
  | i + 1 => r_shut (r_cutL t pl i) ((t.1 + (pl + i)) % 8)
def r_cut (t : RG) (pl : Nat) : RG := g_n (r_cutL t pl (t.2.1 - pl)) pl
theorem r_cutL_o (t : RG) (pl : Nat) : ∀ i, (r_cutL t pl i).1 = t.1
  | 0 => rfl
  | i + 1 => r_cutL_o t pl i
theorem r_cutL_n (t : RG) (pl : Nat) : ∀ i, (r_cutL t pl i).2.1 = t.2.1
  | 0 => rfl
  | i + 1 => r_cutL_n t pl i
/-- may the oldest be taken back? -/
def r_done (t : RG) : Prop := t.2.1 ≠ 0 ∧ t.2.2.1 (8 * t.1 + 2) = 0
def r_rcl (t : RG) : Nat → RG × Nat
  | 0 => (t, 0)
  | i + 1 => if (r_rcl t i).1.2.1 ≠ 0 ∧ (r_rcl t i).1.2.2.1 (8 * (r_rcl t i).1.1 + 2) = 0 then (r_take (r_rcl t i).1, (r_rcl t i).2 + 1) else r_rcl t i
def r_stay (t : RG) : Nat → Nat
  | 0 => 0
  | i + 1 => if r_stay t i = i ∧ i < t.2.1 ∧ t.2.2.1 (8 * ((t.1 + i) % 8) + 2) = 0 then r_stay t i + 1 else r_stay t i
theorem r_rcl_go (t : RG) (i : Nat) (h : (r_rcl t i).1.2.1 ≠ 0 ∧ (r_rcl t i).1.2.2.1 (8 * (r_rcl t i).1.1 + 2) = 0) : r_rcl t (i + 1) = (r_take (r_rcl t i).1, (r_rcl t i).2 + 1) := if_pos h
theorem r_rcl_no (t : RG) (i : Nat) (h : ¬ ((r_rcl t i).1.2.1 ≠ 0 ∧ (r_rcl t i).1.2.2.1 (8 * (r_rcl t i).1.1 + 2) = 0)) : r_rcl t (i + 1) = r_rcl t i := if_neg h
theorem r_rcl_stop (t : RG) (i : Nat) (h : ¬ ((r_rcl t i).1.2.1 ≠ 0 ∧ (r_rcl t i).1.2.2.1 (8 * (r_rcl t i).1.1 + 2) = 0)) : ∀ k, r_rcl t (i + k) = r_rcl t i
  | 0 => rfl
  | k + 1 => by
    have ih := r_rcl_stop t i h k
    rw [← Nat.add_assoc, r_rcl_no t (i + k) (by rw [ih]; exact h), ih]
/-- eight rounds, as a name that nothing unfolds -/
theorem r_all_ex : ∃ f : RG → RG × Nat, ∀ t, f t = r_rcl t 8 := ⟨fun t => r_rcl t 8, fun _ => rfl⟩
noncomputable def r_all : RG → RG × Nat := Classical.choose r_all_ex
theorem r_all_eq (t : RG) : r_all t = r_rcl t 8 := Classical.choose_spec r_all_ex t
theorem r_st_ex : ∃ f : RG → Nat, ∀ t, f t = r_stay t 8 := ⟨fun t => r_stay t 8, fun _ => rfl⟩
noncomputable def r_st : RG → Nat := Classical.choose r_st_ex
theorem r_st_eq (t : RG) : r_st t = r_stay t 8 := Classical.choose_spec r_st_ex t
theorem r_stay_s (t : RG) (i : Nat) : r_stay t (i + 1) = if r_stay t i = i ∧ i < t.2.1 ∧ t.2.2.1 (8 * ((t.1 + i) % 8) + 2) = 0 then r_stay t i + 1 else r_stay t i := rfl
theorem okR_take {t : RG} (h : okR t) : okR (r_take t) := ⟨Nat.mod_lt _ (by decide), Nat.le_trans (Nat.sub_le _ _) h.2⟩
theorem okR_rcl {t : RG} (h : okR t) : ∀ i, okR (r_rcl t i).1
  | 0 => h
  | i + 1 => by
    by_cases hc : (r_rcl t i).1.2.1 ≠ 0 ∧ (r_rcl t i).1.2.2.1 (8 * (r_rcl t i).1.1 + 2) = 0
    · rw [r_rcl_go t i hc]; exact okR_take (okR_rcl h i)
    · rw [r_rcl_no t i hc]; exact okR_rcl h i
theorem r_rcl_le {t : RG} : ∀ i, (r_rcl t i).2 ≤ i
  | 0 => Nat.le_refl 0
  | i + 1 => by
    have ih := r_rcl_le (t := t) i
    by_cases hc : (r_rcl t i).1.2.1 ≠ 0 ∧ (r_rcl t i).1.2.2.1 (8 * (r_rcl t i).1.1 + 2) = 0
    · rw [r_rcl_go t i hc]; exact Nat.succ_le_succ ih
    · rw [r_rcl_no t i hc]; exact Nat.le_succ_of_le ih
theorem r_stay_le (t : RG) : ∀ i, r_stay t i ≤ i
  | 0 => Nat.le_refl 0
  | i + 1 => by
    have ih := r_stay_le t i
    rw [r_stay_s]
    split
    · exact Nat.succ_le_succ ih
    · exact Nat.le_succ_of_le ih
theorem r_stay_n (t : RG) : ∀ i, r_stay t i ≤ t.2.1
  | 0 => Nat.zero_le _
  | i + 1 => by
    have ih := r_stay_n t i
    rw [r_stay_s]
    split
    · rename_i h
      have h1 := h.1
      have h2 := h.2.1
      rw [h1]
      exact h2
    · exact ih
theorem r_stay_go (t : RG) (i : Nat) (h0 : r_stay t i = i) (h1 : i < t.2.1) (h2 : t.2.2.1 (8 * ((t.1 + i) % 8) + 2) = 0) : r_stay t (i + 1) = i + 1 := by
  rw [r_stay_s, if_pos ⟨h0, h1, h2⟩, h0]
theorem r_stay_stop (t : RG) (i : Nat) (h0 : r_stay t i = i) (h1 : ¬ (i < t.2.1 ∧ t.2.2.1 (8 * ((t.1 + i) % 8) + 2) = 0)) : ∀ k, r_stay t (i + k) = i
  | 0 => h0
  | k + 1 => by
    have ih := r_stay_stop t i h0 h1 k
    rw [← Nat.add_assoc, r_stay_s, if_neg, ih]
    rw [ih]
    rintro ⟨a, b, c⟩
    have hk : k = 0 := by omega
    subst hk
    exact h1 ⟨b, c⟩
theorem r_st_n (t : RG) : r_st t ≤ t.2.1 := by rw [r_st_eq]; exact r_stay_n t 8
theorem okR_all {t : RG} (h : okR t) : okR (r_all t).1 := by rw [r_all_eq]; exact okR_rcl h 8
theorem r_all_le (t : RG) : (r_all t).2 ≤ 8 := by rw [r_all_eq]; exact r_rcl_le 8
theorem okR_cutL {t : RG} (h : okR t) (pl : Nat) : ∀ i, okR (r_cutL t pl i) := fun i => ⟨by rw [r_cutL_o]; exact h.1, by rw [r_cutL_n]; exact h.2⟩
theorem okR_cut {t : RG} (h : okR t) {pl : Nat} (hp : pl ≤ 8) : okR (r_cut t pl) := ⟨(okR_cutL h pl _).1, hp⟩
theorem okR_enq {fp : Nat} {t : RG} {src : Nat → UInt8} {len : Nat} (h : okR t) (hn : t.2.1 ≠ 8) : okR (r_enq fp t src len) := ⟨h.1, by have := h.2; show t.2.1 + 1 ≤ 8; omega⟩
/-! the calls -/
def mem (g : ST) : Nat → UInt8 := fun j => if j < 64 then g.1.2.2.1 j else if j < 128 then g.2.1.2.2.1 (j - 64) else if j < 256 then g.1.2.2.2.1 (j - 128) else g.2.1.2.2.2.1 (j - 256)
def rdb (g : ST) : Nat → Bool := fun j => if j < 8 then true else if j < 16 then g.1.2.2.2.2 (j - 8) else false
def wrb (g : ST) : Nat → Bool := fun j => if j < 8 then true else if j < 16 then false else g.2.1.2.2.2.2 (j - 16)
def wr (g : ST) (k : Nat) (v : UInt8) : ST := if k < 64 then s_t g (g_d g.1 (va_up g.1.2.2.1 k v)) else if k < 128 then s_r g (g_d g.2.1 (va_up g.2.1.2.2.1 (k - 64) v)) else if k < 256 then s_t g (g_b g.1 (va_up g.1.2.2.2.1 (k - 128) v)) else s_r g (g_b g.2.1 (va_up g.2.1.2.2.2.1 (k - 256) v))
def p_read (g : ST) (k : Nat) : Int32 × ST := if rdb g (k / 16) = true then (ub (mem g k), g) else (-1, flt g)
def p_write (g : ST) (k : Nat) (v : UInt8) : Int32 × ST := if wrb g (k / 16) = true then (nI 0, wr g k v) else (-1, flt g)
def p_send (g : ST) (len : Nat) : Int32 × ST := if g.1.2.1 = 8 then (-1, g) else (nI (r_k g.1), s_t g (r_enq 8 g.1 g.2.2.1 len))
noncomputable def p_rcl (g : ST) : Int32 × ST := (nI (r_all g.1).2, s_t g (r_all g.1).1)
noncomputable def p_rev (g : ST) : Int32 × ST := (nI (r_all g.1).1.2.1, s_t g (r_cut (r_all g.1).1 0))
def p_post (g : ST) : Int32 × ST := if g.2.1.2.1 = 8 then (-1, g) else (nI (r_k g.2.1), s_r g (r_enq 16 g.2.1 g.2.2.1 0))
def p_recv (g : ST) : Int32 × ST := if g.2.1.2.1 = 0 ∨ g.2.1.2.2.1 (8 * g.2.1.1 + 2) ≠ 0 then (-1, g) else if (g.2.1.2.2.1 (8 * g.2.1.1 + 1)).toNat = 0 ∨ 16 < (g.2.1.2.2.1 (8 * g.2.1.1 + 1)).toNat then (-3, s_r g (r_take g.2.1)) else (ub (g.2.1.2.2.1 (8 * g.2.1.1 + 1)), s_ib (s_r g (r_take g.2.1)) (fill g.2.2.2.1 0 (fun i => g.2.1.2.2.2.1 (16 * g.2.1.1 + i)) (g.2.1.2.2.1 (8 * g.2.1.1 + 1)).toNat))
noncomputable def p_wdr (g : ST) : Int32 × ST := (nI (g.2.1.2.1 - r_st g.2.1), s_r g (r_cut g.2.1 (r_st g.2.1)))
theorem ok_read {g : ST} (h : okS g) (k : Nat) : okS (p_read g k).2 := by
  unfold p_read; split <;> exact h
theorem ok_wr {g : ST} (h : okS g) (k : Nat) (v : UInt8) : okS (wr g k v) := by
  unfold wr; split
  · exact h
  · split
    · exact h
    · split <;> exact h
theorem ok_write {g : ST} (h : okS g) (k : Nat) (v : UInt8) : okS (p_write g k v).2 := by
  unfold p_write; split
  · exact ok_wr h k v
  · exact h
theorem ok_send {g : ST} (h : okS g) (len : Nat) : okS (p_send g len).2 := by
  unfold p_send; split
  · exact h
  · rename_i hn; exact ⟨okR_enq h.1 hn, h.2⟩
theorem ok_rcl {g : ST} (h : okS g) : okS (p_rcl g).2 := ⟨okR_all h.1, h.2⟩
theorem ok_rev {g : ST} (h : okS g) : okS (p_rev g).2 := ⟨okR_cut (okR_all h.1) (by decide), h.2⟩
theorem ok_post {g : ST} (h : okS g) : okS (p_post g).2 := by
  unfold p_post; split
  · exact h
  · rename_i hn; exact ⟨h.1, okR_enq h.2 hn⟩
theorem ok_recv {g : ST} (h : okS g) : okS (p_recv g).2 := by
  unfold p_recv; split
  · exact h
  · split
    · exact ⟨h.1, okR_take h.2⟩
    · exact ⟨h.1, okR_take h.2⟩
theorem ok_wdr {g : ST} (h : okS g) : okS (p_wdr g).2 := ⟨h.1, okR_cut h.2 (Nat.le_trans (r_st_n g.2.1) h.2.2)⟩
/-! the reference's memory, and its writes -/
theorem mem_td (g : ST) (k : Nat) (v : UInt8) (h : k < 64) : va_up (mem g) k v = mem (s_t g (g_d g.1 (va_up g.1.2.2.1 k v))) := by
  funext j
  simp only [va_up, mem, s_t, g_d]
  by_cases hj : j = k
  · subst hj; simp [h]
  · simp [hj]
theorem mem_rd (g : ST) (k : Nat) (v : UInt8) (h : k < 64) : va_up (mem g) (64 + k) v = mem (s_r g (g_d g.2.1 (va_up g.2.1.2.2.1 k v))) := by
  funext j
  simp only [va_up, mem, s_r, g_d]
  by_cases hj : j = 64 + k
  · subst hj
    rw [if_pos rfl, if_neg (by omega), if_pos (by omega), if_pos (by omega)]
  · rw [if_neg hj]
    by_cases h1 : j < 64
    · rw [if_pos h1, if_pos h1]
    · rw [if_neg h1, if_neg h1]
      by_cases h2 : j < 128
      · rw [if_pos h2, if_pos h2, if_neg (by omega)]
      · rw [if_neg h2, if_neg h2]
theorem mem_tb (g : ST) (k : Nat) (v : UInt8) (h : k < 128) : va_up (mem g) (128 + k) v = mem (s_t g (g_b g.1 (va_up g.1.2.2.2.1 k v))) := by
  funext j
  simp only [va_up, mem, s_t, g_b]
  by_cases hj : j = 128 + k
  · subst hj
    rw [if_pos rfl, if_neg (by omega), if_neg (by omega), if_pos (by omega), if_pos (by omega)]
  · rw [if_neg hj]
    by_cases h1 : j < 64
    · rw [if_pos h1, if_pos h1]
    · rw [if_neg h1, if_neg h1]
      by_cases h2 : j < 128
      · rw [if_pos h2, if_pos h2]
      · rw [if_neg h2, if_neg h2]
        by_cases h3 : j < 256
        · rw [if_pos h3, if_pos h3, if_neg (by omega)]
        · rw [if_neg h3, if_neg h3]
theorem mem_rb (g : ST) (k : Nat) (v : UInt8) : va_up (mem g) (256 + k) v = mem (s_r g (g_b g.2.1 (va_up g.2.1.2.2.2.1 k v))) := by
  funext j
  simp only [va_up, mem, s_r, g_b]
  by_cases hj : j = 256 + k
  · subst hj
    rw [if_pos rfl, if_neg (by omega), if_neg (by omega), if_neg (by omega), if_pos (by omega)]
  · rw [if_neg hj]
    by_cases h1 : j < 64
    · rw [if_pos h1, if_pos h1]
    · rw [if_neg h1, if_neg h1]
      by_cases h2 : j < 128
      · rw [if_pos h2, if_pos h2]
      · rw [if_neg h2, if_neg h2]
        by_cases h3 : j < 256
        · rw [if_pos h3, if_pos h3]
        · rw [if_neg h3, if_neg h3, if_neg (by omega)]
theorem mem_wr (g : ST) (k : Nat) (v : UInt8) : va_up (mem g) k v = mem (wr g k v) := by
  unfold wr
  by_cases h1 : k < 64
  · rw [if_pos h1]; exact mem_td g k v h1
  · rw [if_neg h1]
    by_cases h2 : k < 128
    · rw [if_pos h2]
      have := mem_rd g (k - 64) v (by omega)
      rwa [show 64 + (k - 64) = k by omega] at this
    · rw [if_neg h2]
      by_cases h3 : k < 256
      · rw [if_pos h3]
        have := mem_tb g (k - 128) v (by omega)
        rwa [show 128 + (k - 128) = k by omega] at this
      · rw [if_neg h3]
        have := mem_rb g (k - 256) v
        rwa [show 256 + (k - 256) = k by omega] at this
theorem rdb_up (g : ST) (k : Nat) (v : Bool) (h : k < 8) : va_up (rdb g) (8 + k) v = rdb (s_t g (g_z g.1 (va_up g.1.2.2.2.2 k v))) := by
  funext j
  simp only [va_up, rdb, s_t, g_z]
  by_cases hj : j = 8 + k
  · subst hj
    rw [if_pos rfl, if_neg (by omega), if_pos (by omega), if_pos (by omega)]
  · rw [if_neg hj]
    by_cases h1 : j < 8
    · rw [if_pos h1, if_pos h1]
    · rw [if_neg h1, if_neg h1]
      by_cases h2 : j < 16
      · rw [if_pos h2, if_pos h2, if_neg (by omega)]
      · rw [if_neg h2, if_neg h2]
theorem wrb_up (g : ST) (k : Nat) (v : Bool) : va_up (wrb g) (16 + k) v = wrb (s_r g (g_z g.2.1 (va_up g.2.1.2.2.2.2 k v))) := by
  funext j
  simp only [va_up, wrb, s_r, g_z]
  by_cases hj : j = 16 + k
  · subst hj
    rw [if_pos rfl, if_neg (by omega), if_neg (by omega), if_pos (by omega)]
  · rw [if_neg hj]
    by_cases h1 : j < 8
    · rw [if_pos h1, if_pos h1]
    · rw [if_neg h1, if_neg h1]
      by_cases h2 : j < 16
      · rw [if_pos h2, if_pos h2]
      · rw [if_neg h2, if_neg h2, if_neg (by omega)]
/-! the worlds -/
/-- a ring's cells: itself, descriptors, buffers, lets -/
def rgW (ci fp : Nat) (ka : Nat → ClassId) (a : Nat → Nat) (t : RG) : va_W := [(a 0, .inr (ci, [.int (nI fp), .ref (a 1), .ref (a 2), .ref (a 3), .int (nI t.1), .int (nI t.2.1)])), (a 1, .inl (ka 0, 64, .inl (ubf t.2.2.1))), (a 2, .inl (ka 0, 128, .inl (ubf t.2.2.2.1))), (a 3, .inl (ka 1, 8, .inl (zbf t.2.2.2.2)))]
/-- the driver's cells: itself, out box, in box, the sending ring's, the receiving ring's -/
def rdW (ka : Nat → ClassId) (a : Nat → Nat) (g : ST) : va_W := [(a 0, .inr (0, [.ref (a 3), .ref (a 7), .ref (a 1), .ref (a 2), .int g.2.2.2.2])), (a 1, .inl (ka 0, 16, .inl (ubf g.2.2.1))), (a 2, .inl (ka 0, 16, .inl (ubf g.2.2.2.1))), (a 3, .inr (1, [.int (nI 8), .ref (a 4), .ref (a 5), .ref (a 6), .int (nI g.1.1), .int (nI g.1.2.1)])), (a 4, .inl (ka 0, 64, .inl (ubf g.1.2.2.1))), (a 5, .inl (ka 0, 128, .inl (ubf g.1.2.2.2.1))), (a 6, .inl (ka 1, 8, .inl (zbf g.1.2.2.2.2))), (a 7, .inr (2, [.int (nI 16), .ref (a 8), .ref (a 9), .ref (a 10), .int (nI g.2.1.1), .int (nI g.2.1.2.1)])), (a 8, .inl (ka 0, 64, .inl (ubf g.2.1.2.2.1))), (a 9, .inl (ka 0, 128, .inl (ubf g.2.1.2.2.2.1))), (a 10, .inl (ka 1, 8, .inl (zbf g.2.1.2.2.2.2)))]
/-- the reference's cells: itself, memory, readable, writable, out box, in box -/
def mdW (ka : Nat → ClassId) (a : Nat → Nat) (g : ST) : va_W := [(a 0, .inr (3, [.ref (a 1), .ref (a 2), .ref (a 3), .ref (a 4), .ref (a 5), .int g.2.2.2.2, .int (nI g.1.1), .int (nI g.1.2.1), .int (nI g.2.1.1), .int (nI g.2.1.2.1)])), (a 1, .inl (ka 2, 384, .inl (sbf (mem g)))), (a 2, .inl (ka 1, 24, .inl (zbf (rdb g)))), (a 3, .inl (ka 1, 24, .inl (zbf (wrb g)))), (a 4, .inl (ka 2, 16, .inl (sbf g.2.2.1))), (a 5, .inl (ka 2, 16, .inl (sbf g.2.2.2.1)))]
end
section
/-! THE RINGS: contracts of Ring's methods, on a receiver of either class (rgC) -/
set_option maxRecDepth 100000
def rgC (C : String) (ci : Nat) : Prop := (∀ w ∈ u_ws C TX2 6, w ∈ lw_all) ∧ vwCl[ci]? = some (C, TX2, 6) ∧ Cond.selects C yX1_slot yX1_slot ∈ lw_all ∧ Cond.selects C yX1_free yX1_free ∈ lw_all
theorem rgT : rgC RX2 1 := ⟨in_X2, rfl, q157, q200⟩
theorem rgR : rgC RX3 2 := ⟨in_X3', rfl, q156, q199⟩
/-- a ring's cells and an array that is read -/
def rgWf (ci fp : Nat) (ka : Nat → ClassId) (a : Nat → Nat) (t : RG) (fa : Nat) (src : Nat → UInt8) : va_W := [(a 0, .inr (ci, [.int (nI fp), .ref (a 1), .ref (a 2), .ref (a 3), .int (nI t.1), .int (nI t.2.1)])), (a 1, .inl (ka 0, 64, .inl (ubf t.2.2.1))), (a 2, .inl (ka 0, 128, .inl (ubf t.2.2.2.1))), (a 3, .inl (ka 1, 8, .inl (zbf t.2.2.2.2))), (fa, .inl (ka 0, 16, .inl (ubf src)))]
set_option maxHeartbeats 4000000 in
/-- slot(pl) is r8 -/
theorem m_slot (D : va_G) (ka : Nat → ClassId) (l : Launch) {C : String} {ci : Nat} (hC : rgC C ci) (fp : Nat) (a : Nat → Nat) (t : RG) (pl r8 : Nat) (hpl : t.1 + pl < 2 ^ 31) (hr8 : (t.1 + pl) % 8 = r8) (sz : Nat) : CT D ka l yX1_slot cX1_slot 2 (some .int) ({ frames := 0, cells := 0, slots := 0, locals := 0 } : Room) [.ref (a 0), .int (nI pl)] sz (rgW ci fp ka a t) (some (.int (nI r8))) (rgW ci fp ka a t) := by
  refine enter (by decide) (Nat.le_of_ble_eq_true rfl) ?_
  intro p e s m below meth c A ls F hP hD hS hl
  obtain ⟨hx, hb, hr, hlocks, hml, hown, hts, hA, hK, hnm⟩ := F
  have hl : lv_has ls 2 [(0, .ref (a 0)), (1, .int (nI pl))] := hl
  refine lv_aload_n hx hb dX1_slot_0 rfl (lv_at hl 0 rfl) ?_
  refine va_get (D := D) (ci := ci) (v := .int (nI t.1)) (C := C) (T := TX2) (N := 6) hx hb hts hC.1 hown hK.1 hP 0 rfl hC.2.1 4 (by decide) (hts _ q33) (fun _ h9 => h9) rfl dX1_slot_1 ?_
  refine lv_iload_n hx hb dX1_slot_4 rfl (lv_at hl 1 rfl) ?_
  refine n_iadd hx hb dX1_slot_5 ?_
  refine lv_bipush (v := nI 8) hx hb dX1_slot_6 (by decide) ?_
  refine n_irem hx hb (by omega) (by decide) (by decide) dX1_slot_8 ?_
  exact e_int hx hb hr hlocks hP hD hS (by rw [hr8]) (rfl) dX1_slot_9
set_option maxHeartbeats 4000000 in
/-- owner(k) -/
theorem m_owner (D : va_G) (ka : Nat → ClassId) (l : Launch) {C : String} {ci : Nat} (hC : rgC C ci) (fp : Nat) (a : Nat → Nat) (t : RG) (k : Nat) (hk : k < 8) (sz : Nat) : CT D ka l yX1_owner cX1_owner 2 (some .int) ({ frames := 0, cells := 0, slots := 0, locals := 0 } : Room) [.ref (a 0), .int (nI k)] sz (rgW ci fp ka a t) (some (.int (ub (t.2.2.1 (8 * k + 2))))) (rgW ci fp ka a t) := by
  refine enter (by decide) (Nat.le_of_ble_eq_true rfl) ?_
  intro p e s m below meth c A ls F hP hD hS hl
  obtain ⟨hx, hb, hr, hlocks, hml, hown, hts, hA, hK, hnm⟩ := F
  have hl : lv_has ls 2 [(0, .ref (a 0)), (1, .int (nI k))] := hl
  refine lv_aload_n hx hb dX1_owner_0 rfl (lv_at hl 0 rfl) ?_
  refine va_get (D := D) (ci := ci) (v := .ref (a 1)) (C := C) (T := TX2) (N := 6) hx hb hts hC.1 hown hK.1 hP 0 rfl hC.2.1 1 (by decide) (hts _ q27) (fun _ h9 => h9) rfl dX1_owner_1 ?_
  refine lv_bipush (v := nI 8) hx hb dX1_owner_4 (by decide) ?_
  refine lv_iload_n hx hb dX1_owner_6 rfl (lv_at hl 1 rfl) ?_
  refine n_imul hx hb dX1_owner_7 ?_
  refine lv_iconst (v := nI 2) hx hb dX1_owner_8 (by decide) ?_
  refine n_iadd hx hb dX1_owner_9 ?_
  refine n_iald hx hb hK hP 1 rfl (by omega) (by decide) dX1_owner_10 ?_
  exact e_int hx hb hr hlocks hP hD hS (rfl) (rfl) dX1_owner_11
set_option maxHeartbeats 4000000 in
/-- length(k) -/
theorem m_length (D : va_G) (ka : Nat → ClassId) (l : Launch) {C : String} {ci : Nat} (hC : rgC C ci) (fp : Nat) (a : Nat → Nat) (t : RG) (k : Nat) (hk : k < 8) (sz : Nat) : CT D ka l yX1_length cX1_length 2 (some .int) ({ frames := 0, cells := 0, slots := 0, locals := 0 } : Room) [.ref (a 0), .int (nI k)] sz (rgW ci fp ka a t) (some (.int (ub (t.2.2.1 (8 * k + 1))))) (rgW ci fp ka a t) := by
  refine enter (by decide) (Nat.le_of_ble_eq_true rfl) ?_
  intro p e s m below meth c A ls F hP hD hS hl
  obtain ⟨hx, hb, hr, hlocks, hml, hown, hts, hA, hK, hnm⟩ := F
  have hl : lv_has ls 2 [(0, .ref (a 0)), (1, .int (nI k))] := hl
  refine lv_aload_n hx hb dX1_length_0 rfl (lv_at hl 0 rfl) ?_
  refine va_get (D := D) (ci := ci) (v := .ref (a 1)) (C := C) (T := TX2) (N := 6) hx hb hts hC.1 hown hK.1 hP 0 rfl hC.2.1 1 (by decide) (hts _ q27) (fun _ h9 => h9) rfl dX1_length_1 ?_
  refine lv_bipush (v := nI 8) hx hb dX1_length_4 (by decide) ?_
  refine lv_iload_n hx hb dX1_length_6 rfl (lv_at hl 1 rfl) ?_
  refine n_imul hx hb dX1_length_7 ?_
  refine lv_iconst (v := nI 1) hx hb dX1_length_8 (by decide) ?_
  refine n_iadd hx hb dX1_length_9 ?_
  refine n_iald hx hb hK hP 1 rfl (by omega) (by decide) dX1_length_10 ?_
  exact e_int hx hb hr hlocks hP hD hS (rfl) (rfl) dX1_length_11
set_option maxHeartbeats 4000000 in
/-- byteOf(k, i) -/
theorem m_byteOf (D : va_G) (ka : Nat → ClassId) (l : Launch) {C : String} {ci : Nat} (hC : rgC C ci) (fp : Nat) (a : Nat → Nat) (t : RG) (k i : Nat) (hk : 16 * k + i < 128) (sz : Nat) : CT D ka l yX1_byteOf cX1_byteOf 3 (some .int) ({ frames := 0, cells := 0, slots := 0, locals := 0 } : Room) [.ref (a 0), .int (nI k), .int (nI i)] sz (rgW ci fp ka a t) (some (.int (ub (t.2.2.2.1 (16 * k + i))))) (rgW ci fp ka a t) := by
  refine enter (by decide) (Nat.le_of_ble_eq_true rfl) ?_
  intro p e s m below meth c A ls F hP hD hS hl
  obtain ⟨hx, hb, hr, hlocks, hml, hown, hts, hA, hK, hnm⟩ := F
  have hl : lv_has ls 3 [(0, .ref (a 0)), (1, .int (nI k)), (2, .int (nI i))] := hl
  refine lv_aload_n hx hb dX1_byteOf_0 rfl (lv_at hl 0 rfl) ?_
  refine va_get (D := D) (ci := ci) (v := .ref (a 2)) (C := C) (T := TX2) (N := 6) hx hb hts hC.1 hown hK.1 hP 0 rfl hC.2.1 2 (by decide) (hts _ q29) (fun _ h9 => h9) rfl dX1_byteOf_1 ?_
  refine lv_bipush (v := nI 16) hx hb dX1_byteOf_4 (by decide) ?_
  refine lv_iload_n hx hb dX1_byteOf_6 rfl (lv_at hl 1 rfl) ?_
  refine n_imul hx hb dX1_byteOf_7 ?_
  refine lv_iload_n hx hb dX1_byteOf_8 rfl (lv_at hl 2 rfl) ?_
  refine n_iadd hx hb dX1_byteOf_9 ?_
  refine n_iald hx hb hK hP 2 rfl (by omega) (by decide) dX1_byteOf_10 ?_
  exact e_int hx hb hr hlocks hP hD hS (rfl) (rfl) dX1_byteOf_11
set_option maxHeartbeats 4000000 in
/-- free(k) -/
theorem m_free (D : va_G) (ka : Nat → ClassId) (l : Launch) {C : String} {ci : Nat} (hC : rgC C ci) (fp : Nat) (a : Nat → Nat) (t : RG) (k : Nat) (hk : k < 8) (sz : Nat) : CT D ka l yX1_free cX1_free 2 none ({ frames := 0, cells := 0, slots := 0, locals := 0 } : Room) [.ref (a 0), .int (nI k)] sz (rgW ci fp ka a t) (none) (rgW ci fp ka a (g_d t (va_up t.2.2.1 (8 * k + 2) 0))) := by
  refine enter (by decide) (Nat.le_of_ble_eq_true rfl) ?_
  intro p e s m below meth c A ls F hP hD hS hl
  obtain ⟨hx, hb, hr, hlocks, hml, hown, hts, hA, hK, hnm⟩ := F
  have hl : lv_has ls 2 [(0, .ref (a 0)), (1, .int (nI k))] := hl
  refine lv_aload_n hx hb dX1_free_0 rfl (lv_at hl 0 rfl) ?_
  refine va_get (D := D) (ci := ci) (v := .ref (a 1)) (C := C) (T := TX2) (N := 6) hx hb hts hC.1 hown hK.1 hP 0 rfl hC.2.1 1 (by decide) (hts _ q27) (fun _ h9 => h9) rfl dX1_free_1 ?_
  refine lv_bipush (v := nI 8) hx hb dX1_free_4 (by decide) ?_
  refine lv_iload_n hx hb dX1_free_6 rfl (lv_at hl 1 rfl) ?_
  refine n_imul hx hb dX1_free_7 ?_
  refine lv_iconst (v := nI 2) hx hb dX1_free_8 (by decide) ?_
  refine n_iadd hx hb dX1_free_9 ?_
  refine lv_iconst (v := nI 0) hx hb dX1_free_10 (by decide) ?_
  refine n_iast (wn := rgW ci fp ka a (g_d t (va_up t.2.2.1 (8 * k + 2) 0))) hx hb hK hP hD hS 1 0 rfl (by omega) (by decide) (rfl) (rfl) dX1_free_11 (fun H locs hP hD hS => ?_)
  exact e_void hx hb hr hlocks hP hD hS (rfl) dX1_free_12
set_option maxHeartbeats 4000000 in
/-- full() -/
theorem m_full (D : va_G) (ka : Nat → ClassId) (l : Launch) {C : String} {ci : Nat} (hC : rgC C ci) (fp : Nat) (a : Nat → Nat) (t : RG) (hok : okR t) (sz : Nat) : CT D ka l yX1_full cX1_full 1 (some .boolean) ({ frames := 0, cells := 0, slots := 0, locals := 0 } : Room) [.ref (a 0)] sz (rgW ci fp ka a t) (some (.int (zb (decide (t.2.1 = 8))))) (rgW ci fp ka a t) := by
  refine enter (by decide) (Nat.le_of_ble_eq_true rfl) ?_
  intro p e s m below meth c A ls F hP hD hS hl
  obtain ⟨hx, hb, hr, hlocks, hml, hown, hts, hA, hK, hnm⟩ := F
  have hl : lv_has ls 1 [(0, .ref (a 0))] := hl
  have h8 := hok.2
  refine lv_aload_n hx hb dX1_full_0 rfl (lv_at hl 0 rfl) ?_
  refine va_get (D := D) (ci := ci) (v := .int (nI t.2.1)) (C := C) (T := TX2) (N := 6) hx hb hts hC.1 hown hK.1 hP 0 rfl hC.2.1 5 (by decide) (hts _ q34) (fun _ h9 => h9) rfl dX1_full_1 ?_
  refine lv_bipush (v := nI 8) hx hb dX1_full_4 (by decide) ?_
  refine n_icmp_ne (tgt := 13) hx hb (by omega) (by omega) dX1_full_6 (by decide) (fun h1 => ?_) (fun h1 => ?_)
  · refine lv_iconst (v := nI 0) hx hb dX1_full_13 (by decide) ?_
    exact e_bool hx hb hr hlocks hP hD hS (by rw [decide_eq_false h1]; decide) (rfl) dX1_full_14
  · refine lv_iconst (v := nI 1) hx hb dX1_full_9 (by decide) ?_
    refine lv_goto (tgt := 14) hx hb dX1_full_10 (by decide) ?_
    exact e_bool hx hb hr hlocks hP hD hS (by rw [decide_eq_true h1]; decide) (rfl) dX1_full_14
set_option maxHeartbeats 4000000 in
/-- empty() -/
theorem m_empty (D : va_G) (ka : Nat → ClassId) (l : Launch) {C : String} {ci : Nat} (hC : rgC C ci) (fp : Nat) (a : Nat → Nat) (t : RG) (hok : okR t) (sz : Nat) : CT D ka l yX1_empty cX1_empty 1 (some .boolean) ({ frames := 0, cells := 0, slots := 0, locals := 0 } : Room) [.ref (a 0)] sz (rgW ci fp ka a t) (some (.int (zb (decide (t.2.1 = 0))))) (rgW ci fp ka a t) := by
  refine enter (by decide) (Nat.le_of_ble_eq_true rfl) ?_
  intro p e s m below meth c A ls F hP hD hS hl
  obtain ⟨hx, hb, hr, hlocks, hml, hown, hts, hA, hK, hnm⟩ := F
  have hl : lv_has ls 1 [(0, .ref (a 0))] := hl
  have h8 := hok.2
  refine lv_aload_n hx hb dX1_empty_0 rfl (lv_at hl 0 rfl) ?_
  refine va_get (D := D) (ci := ci) (v := .int (nI t.2.1)) (C := C) (T := TX2) (N := 6) hx hb hts hC.1 hown hK.1 hP 0 rfl hC.2.1 5 (by decide) (hts _ q34) (fun _ h9 => h9) rfl dX1_empty_1 ?_
  refine n_if_ne (tgt := 11) hx hb (by omega) dX1_empty_4 (by decide) (fun h1 => ?_) (fun h1 => ?_)
  · refine lv_iconst (v := nI 0) hx hb dX1_empty_11 (by decide) ?_
    exact e_bool hx hb hr hlocks hP hD hS (by rw [decide_eq_false h1]; decide) (rfl) dX1_empty_12
  · refine lv_iconst (v := nI 1) hx hb dX1_empty_7 (by decide) ?_
    refine lv_goto (tgt := 12) hx hb dX1_empty_8 (by decide) ?_
    exact e_bool hx hb hr hlocks hP hD hS (by rw [decide_eq_true h1]; decide) (rfl) dX1_empty_12
set_option maxHeartbeats 4000000 in
/-- take() -/
theorem m_take (D : va_G) (ka : Nat → ClassId) (l : Launch) {C : String} {ci : Nat} (hC : rgC C ci) (fp : Nat) (a : Nat → Nat) (t : RG) (hok : okR t) (hn : t.2.1 ≠ 0) (sz : Nat) : CT D ka l yX1_take cX1_take 2 (some .int) ({ frames := 0, cells := 0, slots := 0, locals := 0 } : Room) [.ref (a 0)] sz (rgW ci fp ka a t) (some (.int (nI t.1))) (rgW ci fp ka a (r_take t)) := by
  refine enter (by decide) (Nat.le_of_ble_eq_true rfl) ?_
  intro p e s m below meth c A ls F hP hD hS hl
  obtain ⟨hx, hb, hr, hlocks, hml, hown, hts, hA, hK, hnm⟩ := F
  have hl : lv_has ls 2 [(0, .ref (a 0))] := hl
  have h8 := hok.2
  have ho := hok.1
  refine lv_aload_n hx hb dX1_take_0 rfl (lv_at hl 0 rfl) ?_
  refine va_get (D := D) (ci := ci) (v := .int (nI t.1)) (C := C) (T := TX2) (N := 6) hx hb hts hC.1 hown hK.1 hP 0 rfl hC.2.1 4 (by decide) (hts _ q33) (fun _ h9 => h9) rfl dX1_take_1 ?_
  refine lv_istore_n (lv' := [(1, .int (nI t.1)), (0, .ref (a 0))]) hx hb dX1_take_4 rfl hl (by decide) rfl (fun ls hl => ?_)
  refine lv_aload_n hx hb dX1_take_5 rfl (lv_at hl 1 rfl) ?_
  refine va_get (D := D) (ci := ci) (v := .ref (a 3)) (C := C) (T := TX2) (N := 6) hx hb hts hC.1 hown hK.1 hP 0 rfl hC.2.1 3 (by decide) (hts _ q31) (fun _ h9 => h9) rfl dX1_take_6 ?_
  refine lv_iload_n hx hb dX1_take_9 rfl (lv_at hl 0 rfl) ?_
  refine lv_iconst (v := nI 0) hx hb dX1_take_10 (by decide) ?_
  refine n_zast (wn := rgW ci fp ka a (g_z t (va_up t.2.2.2.2 t.1 false))) hx hb hK hP hD hS 3 false rfl (by omega) (by decide) (vz_0) (rfl) dX1_take_11 (fun H locs hP hD hS => ?_)
  refine lv_aload_n hx hb dX1_take_12 rfl (lv_at hl 1 rfl) ?_
  refine lv_aload_n hx hb dX1_take_13 rfl (lv_at hl 1 rfl) ?_
  refine va_get (D := D) (ci := ci) (v := .int (nI t.1)) (C := C) (T := TX2) (N := 6) hx hb hts hC.1 hown hK.1 hP 0 rfl hC.2.1 4 (by decide) (hts _ q33) (fun _ h9 => h9) rfl dX1_take_14 ?_
  refine lv_iconst (v := nI 1) hx hb dX1_take_17 (by decide) ?_
  refine n_iadd hx hb dX1_take_18 ?_
  refine lv_bipush (v := nI 8) hx hb dX1_take_19 (by decide) ?_
  refine n_irem hx hb (by omega) (by decide) (by decide) dX1_take_21 ?_
  refine va_put (D := D) (ci := ci) (v := .int (nI ((t.1 + 1) % 8))) (ty := .int) (C := C) (T := TX2) (N := 6) hx hb hts hC.1 tyX2 tyX2_ok nmX2 hown hK.1 hP hD hS 0 rfl hC.2.1 4 (by decide) (hts _ q33) (fun _ h9 => h9) rfl (by decide +kernel) rfl rfl (Nat.le_of_ble_eq_true rfl) dX1_take_22 (fun H locs hP hD hS => ?_)
  have hP : va_P D vwCl (rgW ci fp ka a (g_o (g_z t (va_up t.2.2.2.2 t.1 false)) ((t.1 + 1) % 8))) H := hP
  have hD : va_D A (rgW ci fp ka a (g_o (g_z t (va_up t.2.2.2.2 t.1 false)) ((t.1 + 1) % 8))) := hD
  refine lv_aload_n hx hb dX1_take_25 rfl (lv_at hl 1 rfl) ?_
  refine lv_dup hx hb dX1_take_26 rfl ?_
  refine va_get (D := D) (ci := ci) (v := .int (nI t.2.1)) (C := C) (T := TX2) (N := 6) hx hb hts hC.1 hown hK.1 hP 0 rfl hC.2.1 5 (by decide) (hts _ q34) (fun _ h9 => h9) rfl dX1_take_27 ?_
  refine lv_iconst (v := nI 1) hx hb dX1_take_30 (by decide) ?_
  refine n_isub hx hb (by omega) dX1_take_31 ?_
  refine va_put (D := D) (ci := ci) (v := .int (nI (t.2.1 - 1))) (ty := .int) (C := C) (T := TX2) (N := 6) hx hb hts hC.1 tyX2 tyX2_ok nmX2 hown hK.1 hP hD hS 0 rfl hC.2.1 5 (by decide) (hts _ q34) (fun _ h9 => h9) rfl (by decide +kernel) rfl rfl (Nat.le_of_ble_eq_true rfl) dX1_take_32 (fun H locs hP hD hS => ?_)
  have hP : va_P D vwCl (rgW ci fp ka a (r_take t)) H := hP
  have hD : va_D A (rgW ci fp ka a (r_take t)) := hD
  refine lv_iload_n hx hb dX1_take_35 rfl (lv_at hl 0 rfl) ?_
  exact e_int hx hb hr hlocks hP hD hS (rfl) (rfl) dX1_take_36
set_option maxHeartbeats 4000000 in
/-- the buffer -/
theorem lp_enq1 {D : va_G} {ka : Nat → ClassId} {p : Program} {l : Launch} {e : Env} {s : State} {m : MethodId} {args : Array Value} {below : List Frame} {meth : Method} {c : Code} {A : Nat → Prop} {Q : State → Prop} {C : String} {ci : Nat} (hC : rgC C ci) (fp : Nat) (a : Nat → Nat) (t : RG) (fa : Nat) (src : Nat → UInt8) (k len : Nat) (hk : k < 8) (hlen : len ≤ 16) (F : Fx D ka p s m args c meth cX1_enqueue 5 (some .int) RX1 "enqueue" A)
    (kk : ∀ (H : Heap) (locs : List Loc) (ls : Array Slot), va_P D vwCl (rgWf ci fp ka a (g_b t (fill t.2.2.2.1 (16 * k) (r_src src len) 16)) fa src) H → va_D A (rgWf ci fp ka a (g_b t (fill t.2.2.2.1 (16 * k) (r_src src len) 16)) fa src) → va_S A s.heap H locs → lv_has ls 5 [(0, .ref (a 0)), (1, .ref fa), (2, .int (nI len)), (3, .int (nI k))] → W p l e ({ frames := 1, cells := 0, slots := 0, locals := 21 } : Room) s m args below meth c H locs 0 0 Q (F0 m 51 ls [])) :
    ∀ (n i : Nat), i + n = 16 → ∀ (H : Heap) (locs : List Loc) (ls : Array Slot), va_P D vwCl (rgWf ci fp ka a (g_b t (fill t.2.2.2.1 (16 * k) (r_src src len) i)) fa src) H → va_D A (rgWf ci fp ka a (g_b t (fill t.2.2.2.1 (16 * k) (r_src src len) i)) fa src) → va_S A s.heap H locs → lv_has ls 5 [(0, .ref (a 0)), (1, .ref fa), (2, .int (nI len)), (3, .int (nI k)), (4, .int (nI i))] → W p l e ({ frames := 1, cells := 0, slots := 0, locals := 21 } : Room) s m args below meth c H locs 0 0 Q (F0 m 12 ls []) := by
  obtain ⟨hx, hb, hr, hlocks, hml, hown, hts, hA, hK, hnm⟩ := F
  intro n
  induction n with
  | zero =>
    intro i hi H locs ls hP hD hS hl
    obtain rfl : i = 16 := by omega
    refine lv_iload hx hb dX1_enqueue_12 (lv_at hl 4 rfl) ?_
    refine lv_bipush (v := nI 16) hx hb dX1_enqueue_14 (by decide) ?_
    refine n_icmp_ge (tgt := 51) hx hb (by omega) (by omega) dX1_enqueue_16 (by decide) (fun h1 => ?_) (fun h1 => ?_)
    · exact kk H locs ls hP hD hS (lv_sub hl [0, 1, 2, 3] rfl)
    · exact absurd h1 (by omega)
  | succ n ih =>
    intro i hi H locs ls hP hD hS hl
    refine lv_iload hx hb dX1_enqueue_12 (lv_at hl 4 rfl) ?_
    refine lv_bipush (v := nI 16) hx hb dX1_enqueue_14 (by decide) ?_
    refine n_icmp_ge (tgt := 51) hx hb (by omega) (by omega) dX1_enqueue_16 (by decide) (fun h1 => ?_) (fun h1 => ?_)
    · exact absurd h1 (by omega)
    · refine lv_aload_n hx hb dX1_enqueue_19 rfl (lv_at hl 0 rfl) ?_
      refine va_get (D := D) (ci := ci) (v := .ref (a 2)) (C := C) (T := TX2) (N := 6) hx hb hts hC.1 hown hK.1 hP 0 rfl hC.2.1 2 (by decide) (hts _ q29) (fun _ h9 => h9) rfl dX1_enqueue_20 ?_
      refine lv_bipush (v := nI 16) hx hb dX1_enqueue_23 (by decide) ?_
      refine lv_iload_n hx hb dX1_enqueue_25 rfl (lv_at hl 3 rfl) ?_
      refine n_imul hx hb dX1_enqueue_26 ?_
      refine lv_iload hx hb dX1_enqueue_27 (lv_at hl 4 rfl) ?_
      refine n_iadd hx hb dX1_enqueue_29 ?_
      refine lv_iload hx hb dX1_enqueue_30 (lv_at hl 4 rfl) ?_
      refine lv_iload_n hx hb dX1_enqueue_32 rfl (lv_at hl 2 rfl) ?_
      refine n_icmp_ge (tgt := 43) hx hb (by omega) (by omega) dX1_enqueue_33 (by decide) (fun h2 => ?_) (fun h2 => ?_)
      · refine lv_iconst (v := nI 0) hx hb dX1_enqueue_43 (by decide) ?_
        refine n_iast (wn := rgWf ci fp ka a (g_b t (fill t.2.2.2.1 (16 * k) (r_src src len) (i + 1))) fa src) hx hb hK hP hD hS 2 (r_src src len i) rfl (by omega) (by decide) (by rw [r_src, if_neg (by omega)]; rfl) (rfl) dX1_enqueue_44 (fun H locs hP hD hS => ?_)
        refine lv_iinc (v := nI (i + 1)) (lv' := [(4, .int (nI (i + 1))), (0, .ref (a 0)), (1, .ref fa), (2, .int (nI len)), (3, .int (nI k))]) hx hb dX1_enqueue_45 hl (k := 4) rfl (nI_1 _) (by decide) rfl (fun ls hl => ?_)
        refine lv_goto (tgt := 12) hx hb dX1_enqueue_48 (by decide) ?_
        exact ih (i + 1) (by omega) H locs ls hP hD hS (lv_sub hl [1, 2, 3, 4, 0] rfl)
      · refine lv_aload_n hx hb dX1_enqueue_36 rfl (lv_at hl 1 rfl) ?_
        refine lv_iload hx hb dX1_enqueue_37 (lv_at hl 4 rfl) ?_
        refine n_iald hx hb hK hP 4 rfl (by omega) (by decide) dX1_enqueue_39 ?_
        refine lv_goto (tgt := 44) hx hb dX1_enqueue_40 (by decide) ?_
        refine n_iast (wn := rgWf ci fp ka a (g_b t (fill t.2.2.2.1 (16 * k) (r_src src len) (i + 1))) fa src) hx hb hK hP hD hS 2 (r_src src len i) rfl (by omega) (by decide) (by rw [r_src, if_pos h2]) (rfl) dX1_enqueue_44 (fun H locs hP hD hS => ?_)
        refine lv_iinc (v := nI (i + 1)) (lv' := [(4, .int (nI (i + 1))), (0, .ref (a 0)), (1, .ref fa), (2, .int (nI len)), (3, .int (nI k))]) hx hb dX1_enqueue_45 hl (k := 4) rfl (nI_1 _) (by decide) rfl (fun ls hl => ?_)
        refine lv_goto (tgt := 12) hx hb dX1_enqueue_48 (by decide) ?_
        exact ih (i + 1) (by omega) H locs ls hP hD hS (lv_sub hl [1, 2, 3, 4, 0] rfl)
set_option maxHeartbeats 4000000 in
/-- the entry -/
theorem lp_enq2 {D : va_G} {ka : Nat → ClassId} {p : Program} {l : Launch} {e : Env} {s : State} {m : MethodId} {args : Array Value} {below : List Frame} {meth : Method} {c : Code} {A : Nat → Prop} {Q : State → Prop} {C : String} {ci : Nat} (hC : rgC C ci) (fp : Nat) (a : Nat → Nat) (t : RG) (fa : Nat) (src : Nat → UInt8) (k len : Nat) (hk : k < 8) (hlen : len ≤ 16) (F : Fx D ka p s m args c meth cX1_enqueue 5 (some .int) RX1 "enqueue" A)
    (kk : ∀ (H : Heap) (locs : List Loc) (ls : Array Slot), va_P D vwCl (rgWf ci fp ka a (g_d t (fill t.2.2.1 (8 * k) (fun _ => 0) 8)) fa src) H → va_D A (rgWf ci fp ka a (g_d t (fill t.2.2.1 (8 * k) (fun _ => 0) 8)) fa src) → va_S A s.heap H locs → lv_has ls 5 [(0, .ref (a 0)), (1, .ref fa), (2, .int (nI len)), (3, .int (nI k))] → W p l e ({ frames := 1, cells := 0, slots := 0, locals := 21 } : Room) s m args below meth c H locs 0 0 Q (F0 m 80 ls [])) :
    ∀ (n i : Nat), i + n = 8 → ∀ (H : Heap) (locs : List Loc) (ls : Array Slot), va_P D vwCl (rgWf ci fp ka a (g_d t (fill t.2.2.1 (8 * k) (fun _ => 0) i)) fa src) H → va_D A (rgWf ci fp ka a (g_d t (fill t.2.2.1 (8 * k) (fun _ => 0) i)) fa src) → va_S A s.heap H locs → lv_has ls 5 [(0, .ref (a 0)), (1, .ref fa), (2, .int (nI len)), (3, .int (nI k)), (4, .int (nI i))] → W p l e ({ frames := 1, cells := 0, slots := 0, locals := 21 } : Room) s m args below meth c H locs 0 0 Q (F0 m 54 ls []) := by
  obtain ⟨hx, hb, hr, hlocks, hml, hown, hts, hA, hK, hnm⟩ := F
  intro n
  induction n with
  | zero =>
    intro i hi H locs ls hP hD hS hl
    obtain rfl : i = 8 := by omega
    refine lv_iload hx hb dX1_enqueue_54 (lv_at hl 4 rfl) ?_
    refine lv_bipush (v := nI 8) hx hb dX1_enqueue_56 (by decide) ?_
    refine n_icmp_ge (tgt := 80) hx hb (by omega) (by omega) dX1_enqueue_58 (by decide) (fun h1 => ?_) (fun h1 => ?_)
    · exact kk H locs ls hP hD hS (lv_sub hl [0, 1, 2, 3] rfl)
    · exact absurd h1 (by omega)
  | succ n ih =>
    intro i hi H locs ls hP hD hS hl
    refine lv_iload hx hb dX1_enqueue_54 (lv_at hl 4 rfl) ?_
    refine lv_bipush (v := nI 8) hx hb dX1_enqueue_56 (by decide) ?_
    refine n_icmp_ge (tgt := 80) hx hb (by omega) (by omega) dX1_enqueue_58 (by decide) (fun h1 => ?_) (fun h1 => ?_)
    · exact absurd h1 (by omega)
    · refine lv_aload_n hx hb dX1_enqueue_61 rfl (lv_at hl 0 rfl) ?_
      refine va_get (D := D) (ci := ci) (v := .ref (a 1)) (C := C) (T := TX2) (N := 6) hx hb hts hC.1 hown hK.1 hP 0 rfl hC.2.1 1 (by decide) (hts _ q27) (fun _ h9 => h9) rfl dX1_enqueue_62 ?_
      refine lv_bipush (v := nI 8) hx hb dX1_enqueue_65 (by decide) ?_
      refine lv_iload_n hx hb dX1_enqueue_67 rfl (lv_at hl 3 rfl) ?_
      refine n_imul hx hb dX1_enqueue_68 ?_
      refine lv_iload hx hb dX1_enqueue_69 (lv_at hl 4 rfl) ?_
      refine n_iadd hx hb dX1_enqueue_71 ?_
      refine lv_iconst (v := nI 0) hx hb dX1_enqueue_72 (by decide) ?_
      refine n_iast (wn := rgWf ci fp ka a (g_d t (fill t.2.2.1 (8 * k) (fun _ => 0) (i + 1))) fa src) hx hb hK hP hD hS 1 0 rfl (by omega) (by decide) (rfl) (rfl) dX1_enqueue_73 (fun H locs hP hD hS => ?_)
      refine lv_iinc (v := nI (i + 1)) (lv' := [(4, .int (nI (i + 1))), (0, .ref (a 0)), (1, .ref fa), (2, .int (nI len)), (3, .int (nI k))]) hx hb dX1_enqueue_74 hl (k := 4) rfl (nI_1 _) (by decide) rfl (fun ls hl => ?_)
      refine lv_goto (tgt := 54) hx hb dX1_enqueue_77 (by decide) ?_
      exact ih (i + 1) (by omega) H locs ls hP hD hS (lv_sub hl [1, 2, 3, 4, 0] rfl)
set_option maxHeartbeats 4000000 in
/-- enqueue(frame, len) -/
theorem m_enq (D : va_G) (ka : Nat → ClassId) (l : Launch) {C : String} {ci : Nat} (hC : rgC C ci) (fp : Nat) (a : Nat → Nat) (t : RG) (fa : Nat) (src : Nat → UInt8) (len : Nat) (hok : okR t) (hn : t.2.1 ≠ 8) (hlen : len ≤ 16) (hfp : fp ≤ 16) (sz : Nat) : CT D ka l yX1_enqueue cX1_enqueue 5 (some .int) ({ frames := 1, cells := 0, slots := 0, locals := 21 } : Room) [.ref (a 0), .ref fa, .int (nI len)] sz (rgWf ci fp ka a t fa src) (some (.int (nI (r_k t)))) (rgWf ci fp ka a (r_enq fp t src len) fa src) := by
  refine enter (by decide) (Nat.le_of_ble_eq_true rfl) ?_
  intro p e s m below meth c A ls F hP hD hS hl
  have FF := F
  obtain ⟨hx, hb, hr, hlocks, hml, hown, hts, hA, hK, hnm⟩ := F
  have hl : lv_has ls 5 [(0, .ref (a 0)), (1, .ref fa), (2, .int (nI len))] := hl
  have ho := hok.1
  have h8 := hok.2
  have hk : r_k t < 8 := Nat.mod_lt _ (by decide)
  refine lv_aload_n hx hb dX1_enqueue_0 rfl (lv_at hl 0 rfl) ?_
  refine lv_aload_n hx hb dX1_enqueue_1 rfl (lv_at hl 0 rfl) ?_
  refine va_get (D := D) (ci := ci) (v := .int (nI t.2.1)) (C := C) (T := TX2) (N := 6) hx hb hts hC.1 hown hK.1 hP 0 rfl hC.2.1 5 (by decide) (hts _ q34) (fun _ h9 => h9) rfl dX1_enqueue_2 ?_
  refine w_call (wr := [(fa, .inl (ka 0, 16, .inl (ubf src)))]) (wn := rgWf ci fp ka a t fa src) (va_runU (As := [.int (nI t.2.1)]) (rest := []) ⟨hx, hb, hml, hown, hts⟩ (m_slot D ka l hC fp a t t.2.1 (r_k t) (by omega) rfl _) (va_cwU 1 hts (lw_U q153 q155 hC.2.2.1 q154 q5 q158) rfl rfl rfl rfl (by decide +kernel) ⟨Nat.le_of_ble_eq_true rfl, Nat.le_of_ble_eq_true rfl⟩) (w_preV hK hP hD [0, 1, 2, 3] (by decide) rfl hC.2.1 (q0 := 0) rfl) rfl rfl hl.1 rfl (lv_room (Nat.le_of_ble_eq_true rfl)) dX1_enqueue_5 ⟨Nat.le_of_ble_eq_true rfl, Nat.le_of_ble_eq_true rfl⟩) hP hD hS hA [0, 1, 2, 3] [4] [1, 2, 3, 4, 0] rfl rfl (by decide) (by decide) (by decide) rfl (fun H locs hP hD hS => ?_)
  refine lv_istore_n (lv' := [(3, .int (nI (r_k t))), (0, .ref (a 0)), (1, .ref fa), (2, .int (nI len))]) hx hb dX1_enqueue_8 rfl hl (by decide) rfl (fun ls hl => ?_)
  refine lv_iconst (v := nI 0) hx hb dX1_enqueue_9 (by decide) ?_
  refine lv_istore (lv' := [(4, .int (nI 0)), (3, .int (nI (r_k t))), (0, .ref (a 0)), (1, .ref fa), (2, .int (nI len))]) hx hb dX1_enqueue_10 hl (by decide) rfl (fun ls hl => ?_)
  refine lp_enq1 hC fp a t fa src (r_k t) len hk hlen FF (fun H locs ls hP hD hS hl => ?_) 16 0 rfl H locs ls hP hD hS (lv_sub hl [2, 3, 4, 1, 0] rfl)
  refine lv_iconst (v := nI 0) hx hb dX1_enqueue_51 (by decide) ?_
  refine lv_istore (lv' := [(4, .int (nI 0)), (0, .ref (a 0)), (1, .ref fa), (2, .int (nI len)), (3, .int (nI (r_k t)))]) hx hb dX1_enqueue_52 hl (by decide) rfl (fun ls hl => ?_)
  refine lp_enq2 hC fp a (g_b t (fill t.2.2.2.1 (16 * r_k t) (r_src src len) 16)) fa src (r_k t) len hk hlen FF (fun H locs ls hP hD hS hl => ?_) 8 0 rfl H locs ls hP hD hS (lv_sub hl [1, 2, 3, 4, 0] rfl)
  have hP : va_P D vwCl (rgWf ci fp ka a (g_d (g_b t (fill t.2.2.2.1 (16 * r_k t) (r_src src len) 16)) (fill t.2.2.1 (8 * r_k t) (fun _ => 0) 8)) fa src) H := hP
  have hD : va_D A (rgWf ci fp ka a (g_d (g_b t (fill t.2.2.2.1 (16 * r_k t) (r_src src len) 16)) (fill t.2.2.1 (8 * r_k t) (fun _ => 0) 8)) fa src) := hD
  refine lv_aload_n hx hb dX1_enqueue_80 rfl (lv_at hl 0 rfl) ?_
  refine va_get (D := D) (ci := ci) (v := .ref (a 1)) (C := C) (T := TX2) (N := 6) hx hb hts hC.1 hown hK.1 hP 0 rfl hC.2.1 1 (by decide) (hts _ q27) (fun _ h9 => h9) rfl dX1_enqueue_81 ?_
  refine lv_bipush (v := nI 8) hx hb dX1_enqueue_84 (by decide) ?_
  refine lv_iload_n hx hb dX1_enqueue_86 rfl (lv_at hl 3 rfl) ?_
  refine n_imul hx hb dX1_enqueue_87 ?_
  refine lv_aload_n hx hb dX1_enqueue_88 rfl (lv_at hl 0 rfl) ?_
  refine va_get (D := D) (ci := ci) (v := .int (nI fp)) (C := C) (T := TX2) (N := 6) hx hb hts hC.1 hown hK.1 hP 0 rfl hC.2.1 0 (by decide) (hts _ q26) (fun _ h9 => h9) rfl dX1_enqueue_89 ?_
  refine lv_iload_n hx hb dX1_enqueue_92 rfl (lv_at hl 3 rfl) ?_
  refine n_iadd hx hb dX1_enqueue_93 ?_
  refine n_iast (wn := rgWf ci fp ka a (g_d (g_b t (fill t.2.2.2.1 (16 * r_k t) (r_src src len) 16)) (va_up (fill t.2.2.1 (8 * r_k t) (fun _ => 0) 8) (8 * r_k t) (UInt8.ofNat (fp + r_k t)))) fa src) hx hb hK hP hD hS 1 (UInt8.ofNat (fp + r_k t)) rfl (by omega) (by decide) ((ub_ofNat (by omega)).symm) (rfl) dX1_enqueue_94 (fun H locs hP hD hS => ?_)
  refine lv_aload_n hx hb dX1_enqueue_95 rfl (lv_at hl 0 rfl) ?_
  refine va_get (D := D) (ci := ci) (v := .ref (a 1)) (C := C) (T := TX2) (N := 6) hx hb hts hC.1 hown hK.1 hP 0 rfl hC.2.1 1 (by decide) (hts _ q27) (fun _ h9 => h9) rfl dX1_enqueue_96 ?_
  refine lv_bipush (v := nI 8) hx hb dX1_enqueue_99 (by decide) ?_
  refine lv_iload_n hx hb dX1_enqueue_101 rfl (lv_at hl 3 rfl) ?_
  refine n_imul hx hb dX1_enqueue_102 ?_
  refine lv_iconst (v := nI 1) hx hb dX1_enqueue_103 (by decide) ?_
  refine n_iadd hx hb dX1_enqueue_104 ?_
  refine lv_iload_n hx hb dX1_enqueue_105 rfl (lv_at hl 2 rfl) ?_
  refine n_iast (wn := rgWf ci fp ka a (g_d (g_b t (fill t.2.2.2.1 (16 * r_k t) (r_src src len) 16)) (va_up (va_up (fill t.2.2.1 (8 * r_k t) (fun _ => 0) 8) (8 * r_k t) (UInt8.ofNat (fp + r_k t))) (8 * r_k t + 1) (UInt8.ofNat len))) fa src) hx hb hK hP hD hS 1 (UInt8.ofNat len) rfl (by omega) (by decide) ((ub_ofNat (by omega)).symm) (rfl) dX1_enqueue_106 (fun H locs hP hD hS => ?_)
  refine lv_aload_n hx hb dX1_enqueue_107 rfl (lv_at hl 0 rfl) ?_
  refine va_get (D := D) (ci := ci) (v := .ref (a 1)) (C := C) (T := TX2) (N := 6) hx hb hts hC.1 hown hK.1 hP 0 rfl hC.2.1 1 (by decide) (hts _ q27) (fun _ h9 => h9) rfl dX1_enqueue_108 ?_
  refine lv_bipush (v := nI 8) hx hb dX1_enqueue_111 (by decide) ?_
  refine lv_iload_n hx hb dX1_enqueue_113 rfl (lv_at hl 3 rfl) ?_
  refine n_imul hx hb dX1_enqueue_114 ?_
  refine lv_iconst (v := nI 2) hx hb dX1_enqueue_115 (by decide) ?_
  refine n_iadd hx hb dX1_enqueue_116 ?_
  refine lv_iconst (v := nI 1) hx hb dX1_enqueue_117 (by decide) ?_
  refine n_iast (wn := rgWf ci fp ka a (g_d (g_b t (fill t.2.2.2.1 (16 * r_k t) (r_src src len) 16)) (va_up (va_up (va_up (fill t.2.2.1 (8 * r_k t) (fun _ => 0) 8) (8 * r_k t) (UInt8.ofNat (fp + r_k t))) (8 * r_k t + 1) (UInt8.ofNat len)) (8 * r_k t + 2) 1)) fa src) hx hb hK hP hD hS 1 1 rfl (by omega) (by decide) (rfl) (rfl) dX1_enqueue_118 (fun H locs hP hD hS => ?_)
  refine lv_aload_n hx hb dX1_enqueue_119 rfl (lv_at hl 0 rfl) ?_
  refine va_get (D := D) (ci := ci) (v := .ref (a 3)) (C := C) (T := TX2) (N := 6) hx hb hts hC.1 hown hK.1 hP 0 rfl hC.2.1 3 (by decide) (hts _ q31) (fun _ h9 => h9) rfl dX1_enqueue_120 ?_
  refine lv_iload_n hx hb dX1_enqueue_123 rfl (lv_at hl 3 rfl) ?_
  refine lv_iconst (v := nI 1) hx hb dX1_enqueue_124 (by decide) ?_
  refine n_zast (wn := rgWf ci fp ka a (g_z (g_d (g_b t (fill t.2.2.2.1 (16 * r_k t) (r_src src len) 16)) (va_up (va_up (va_up (fill t.2.2.1 (8 * r_k t) (fun _ => 0) 8) (8 * r_k t) (UInt8.ofNat (fp + r_k t))) (8 * r_k t + 1) (UInt8.ofNat len)) (8 * r_k t + 2) 1)) (va_up t.2.2.2.2 (r_k t) true)) fa src) hx hb hK hP hD hS 3 true rfl (by omega) (by decide) (vz_1) (rfl) dX1_enqueue_125 (fun H locs hP hD hS => ?_)
  refine lv_aload_n hx hb dX1_enqueue_126 rfl (lv_at hl 0 rfl) ?_
  refine lv_dup hx hb dX1_enqueue_127 rfl ?_
  refine va_get (D := D) (ci := ci) (v := .int (nI t.2.1)) (C := C) (T := TX2) (N := 6) hx hb hts hC.1 hown hK.1 hP 0 rfl hC.2.1 5 (by decide) (hts _ q34) (fun _ h9 => h9) rfl dX1_enqueue_128 ?_
  refine lv_iconst (v := nI 1) hx hb dX1_enqueue_131 (by decide) ?_
  refine n_iadd hx hb dX1_enqueue_132 ?_
  refine va_put (D := D) (ci := ci) (v := .int (nI (t.2.1 + 1))) (ty := .int) (C := C) (T := TX2) (N := 6) hx hb hts hC.1 tyX2 tyX2_ok nmX2 hown hK.1 hP hD hS 0 rfl hC.2.1 5 (by decide) (hts _ q34) (fun _ h9 => h9) rfl (by decide +kernel) rfl rfl (Nat.le_of_ble_eq_true rfl) dX1_enqueue_133 (fun H locs hP hD hS => ?_)
  have hP : va_P D vwCl (rgWf ci fp ka a (r_enq fp t src len) fa src) H := hP
  have hD : va_D A (rgWf ci fp ka a (r_enq fp t src len) fa src) := hD
  refine lv_iload_n hx hb dX1_enqueue_136 rfl (lv_at hl 3 rfl) ?_
  exact e_int hx hb hr hlocks hP hD hS (rfl) (rfl) dX1_enqueue_137
set_option maxHeartbeats 4000000 in
/-- cut: the slots from a place on -/
theorem lp_cut {D : va_G} {ka : Nat → ClassId} {p : Program} {l : Launch} {e : Env} {s : State} {m : MethodId} {args : Array Value} {below : List Frame} {meth : Method} {c : Code} {A : Nat → Prop} {Q : State → Prop} {C : String} {ci : Nat} (hC : rgC C ci) (fp : Nat) (a : Nat → Nat) (t : RG) (pl : Nat) (hok : okR t) (ho : t.1 < 8) (h8 : t.2.1 ≤ 8) (hpl : pl ≤ t.2.1) (F : Fx D ka p s m args c meth cX1_cut 5 (some .int) RX1 "cut" A)
    (kk : ∀ (H : Heap) (locs : List Loc) (ls : Array Slot), va_P D vwCl (rgW ci fp ka a (r_cutL t pl (t.2.1 - pl))) H → va_D A (rgW ci fp ka a (r_cutL t pl (t.2.1 - pl))) → va_S A s.heap H locs → lv_has ls 5 [(0, .ref (a 0)), (1, .int (nI pl)), (2, .int (nI (t.2.1 - pl)))] → W p l e ({ frames := 1, cells := 0, slots := 0, locals := 21 } : Room) s m args below meth c H locs 0 0 Q (F0 m 44 ls [])) :
    ∀ (n i : Nat), i + n = t.2.1 - pl → ∀ (H : Heap) (locs : List Loc) (ls : Array Slot), va_P D vwCl (rgW ci fp ka a (r_cutL t pl i)) H → va_D A (rgW ci fp ka a (r_cutL t pl i)) → va_S A s.heap H locs → lv_has ls 5 [(0, .ref (a 0)), (1, .int (nI pl)), (2, .int (nI (t.2.1 - pl))), (3, .int (nI (pl + i)))] → W p l e ({ frames := 1, cells := 0, slots := 0, locals := 21 } : Room) s m args below meth c H locs 0 0 Q (F0 m 9 ls []) := by
  obtain ⟨hx, hb, hr, hlocks, hml, hown, hts, hA, hK, hnm⟩ := F
  intro n
  induction n with
  | zero =>
    intro i hi H locs ls hP hD hS hl
    have hi : i = t.2.1 - pl := by omega
    subst hi
    have e1 := r_cutL_n t pl (t.2.1 - pl)
    have e2 := r_cutL_o t pl (t.2.1 - pl)
    refine lv_iload_n hx hb dX1_cut_9 rfl (lv_at hl 3 rfl) ?_
    refine lv_aload_n hx hb dX1_cut_10 rfl (lv_at hl 0 rfl) ?_
    refine va_get (D := D) (ci := ci) (v := .int (nI ((r_cutL t pl (t.2.1 - pl)).2.1))) (C := C) (T := TX2) (N := 6) hx hb hts hC.1 hown hK.1 hP 0 rfl hC.2.1 5 (by decide) (hts _ q34) (fun _ h9 => h9) rfl dX1_cut_11 ?_
    refine n_icmp_ge (tgt := 44) hx hb (by omega) (by omega) dX1_cut_14 (by decide) (fun h1 => ?_) (fun h1 => ?_)
    · exact kk H locs ls hP hD hS (lv_sub hl [0, 1, 2] rfl)
    · exact absurd h1 (by omega)
  | succ n ih =>
    intro i hi H locs ls hP hD hS hl
    have e1 := r_cutL_n t pl (i)
    have e2 := r_cutL_o t pl (i)
    refine lv_iload_n hx hb dX1_cut_9 rfl (lv_at hl 3 rfl) ?_
    refine lv_aload_n hx hb dX1_cut_10 rfl (lv_at hl 0 rfl) ?_
    refine va_get (D := D) (ci := ci) (v := .int (nI ((r_cutL t pl i).2.1))) (C := C) (T := TX2) (N := 6) hx hb hts hC.1 hown hK.1 hP 0 rfl hC.2.1 5 (by decide) (hts _ q34) (fun _ h9 => h9) rfl dX1_cut_11 ?_
    refine n_icmp_ge (tgt := 44) hx hb (by omega) (by omega) dX1_cut_14 (by decide) (fun h1 => ?_) (fun h1 => ?_)
    · exact absurd h1 (by omega)
    · refine lv_aload_n hx hb dX1_cut_17 rfl (lv_at hl 0 rfl) ?_
      refine lv_iload_n hx hb dX1_cut_18 rfl (lv_at hl 3 rfl) ?_
      refine w_call (wr := []) (wn := rgW ci fp ka a (r_cutL t pl i)) (va_runU (As := [.int (nI (pl + i))]) (rest := []) ⟨hx, hb, hml, hown, hts⟩ (m_slot D ka l hC fp a (r_cutL t pl i) (pl + i) ((t.1 + (pl + i)) % 8) (by omega) (by rw [e2]) _) (va_cwU 1 hts (lw_U q153 q155 hC.2.2.1 q154 q5 q158) rfl rfl rfl rfl (by decide +kernel) ⟨Nat.le_of_ble_eq_true rfl, Nat.le_of_ble_eq_true rfl⟩) (w_preV hK hP hD [0, 1, 2, 3] (by decide) rfl hC.2.1 (q0 := 0) rfl) rfl rfl hl.1 rfl (lv_room (Nat.le_of_ble_eq_true rfl)) dX1_cut_19 ⟨Nat.le_of_ble_eq_true rfl, Nat.le_of_ble_eq_true rfl⟩) hP hD hS hA [0, 1, 2, 3] [] [0, 1, 2, 3] rfl rfl (by decide) (by decide) (by decide) rfl (fun H locs hP hD hS => ?_)
      have hk : (t.1 + (pl + i)) % 8 < 8 := Nat.mod_lt _ (by decide)
      refine lv_istore (lv' := [(4, .int (nI ((t.1 + (pl + i)) % 8))), (0, .ref (a 0)), (1, .int (nI pl)), (2, .int (nI (t.2.1 - pl))), (3, .int (nI (pl + i)))]) hx hb dX1_cut_22 hl (by decide) rfl (fun ls hl => ?_)
      refine lv_aload_n hx hb dX1_cut_24 rfl (lv_at hl 1 rfl) ?_
      refine va_get (D := D) (ci := ci) (v := .ref (a 3)) (C := C) (T := TX2) (N := 6) hx hb hts hC.1 hown hK.1 hP 0 rfl hC.2.1 3 (by decide) (hts _ q31) (fun _ h9 => h9) rfl dX1_cut_25 ?_
      refine lv_iload hx hb dX1_cut_28 (lv_at hl 0 rfl) ?_
      refine lv_iconst (v := nI 0) hx hb dX1_cut_30 (by decide) ?_
      refine n_zast (wn := rgW ci fp ka a (g_z (r_cutL t pl i) (va_up (r_cutL t pl i).2.2.2.2 ((t.1 + (pl + i)) % 8) false))) hx hb hK hP hD hS 3 false rfl (by omega) (by decide) (vz_0) (rfl) dX1_cut_31 (fun H locs hP hD hS => ?_)
      refine lv_aload_n hx hb dX1_cut_32 rfl (lv_at hl 1 rfl) ?_
      refine lv_iload hx hb dX1_cut_33 (lv_at hl 0 rfl) ?_
      refine w_call (wr := []) (wn := rgW ci fp ka a (r_cutL t pl (i + 1))) (va_runU (As := [.int (nI ((t.1 + (pl + i)) % 8))]) (rest := []) ⟨hx, hb, hml, hown, hts⟩ (m_free D ka l hC fp a (g_z (r_cutL t pl i) (va_up (r_cutL t pl i).2.2.2.2 ((t.1 + (pl + i)) % 8) false)) ((t.1 + (pl + i)) % 8) hk _) (va_cwU 1 hts (lw_U q196 q198 hC.2.2.2 q197 q5 q201) rfl rfl rfl rfl (by decide +kernel) ⟨Nat.le_of_ble_eq_true rfl, Nat.le_of_ble_eq_true rfl⟩) (w_preV hK hP hD [0, 1, 2, 3] (by decide) rfl hC.2.1 (q0 := 0) rfl) rfl rfl hl.1 rfl (lv_room (Nat.le_of_ble_eq_true rfl)) dX1_cut_35 ⟨Nat.le_of_ble_eq_true rfl, Nat.le_of_ble_eq_true rfl⟩) hP hD hS hA [0, 1, 2, 3] [] [0, 1, 2, 3] rfl rfl (by decide) (by decide) (by decide) rfl (fun H locs hP hD hS => ?_)
      refine lv_iinc (v := nI (pl + i + 1)) (lv' := [(3, .int (nI (pl + i + 1))), (4, .int (nI ((t.1 + (pl + i)) % 8))), (0, .ref (a 0)), (1, .int (nI pl)), (2, .int (nI (t.2.1 - pl)))]) hx hb dX1_cut_38 hl (k := 4) rfl (nI_1 _) (by decide) rfl (fun ls hl => ?_)
      refine lv_goto (tgt := 9) hx hb dX1_cut_41 (by decide) ?_
      exact ih (i + 1) (by omega) H locs ls hP hD hS (lv_sub hl [2, 3, 4, 0] rfl)
set_option maxHeartbeats 4000000 in
/-- cut(pl) -/
theorem m_cut (D : va_G) (ka : Nat → ClassId) (l : Launch) {C : String} {ci : Nat} (hC : rgC C ci) (fp : Nat) (a : Nat → Nat) (t : RG) (pl : Nat) (hok : okR t) (hpl : pl ≤ t.2.1) (sz : Nat) : CT D ka l yX1_cut cX1_cut 5 (some .int) ({ frames := 1, cells := 0, slots := 0, locals := 21 } : Room) [.ref (a 0), .int (nI pl)] sz (rgW ci fp ka a t) (some (.int (nI (t.2.1 - pl)))) (rgW ci fp ka a (r_cut t pl)) := by
  refine enter (by decide) (Nat.le_of_ble_eq_true rfl) ?_
  intro p e s m below meth c A ls F hP hD hS hl
  have FF := F
  obtain ⟨hx, hb, hr, hlocks, hml, hown, hts, hA, hK, hnm⟩ := F
  have hl : lv_has ls 5 [(0, .ref (a 0)), (1, .int (nI pl))] := hl
  have ho := hok.1
  have h8 := hok.2
  refine lv_aload_n hx hb dX1_cut_0 rfl (lv_at hl 0 rfl) ?_
  refine va_get (D := D) (ci := ci) (v := .int (nI t.2.1)) (C := C) (T := TX2) (N := 6) hx hb hts hC.1 hown hK.1 hP 0 rfl hC.2.1 5 (by decide) (hts _ q34) (fun _ h9 => h9) rfl dX1_cut_1 ?_
  refine lv_iload_n hx hb dX1_cut_4 rfl (lv_at hl 1 rfl) ?_
  refine n_isub hx hb (by omega) dX1_cut_5 ?_
  refine lv_istore_n (lv' := [(2, .int (nI (t.2.1 - pl))), (0, .ref (a 0)), (1, .int (nI pl))]) hx hb dX1_cut_6 rfl hl (by decide) rfl (fun ls hl => ?_)
  refine lv_iload_n hx hb dX1_cut_7 rfl (lv_at hl 2 rfl) ?_
  refine lv_istore_n (lv' := [(3, .int (nI pl)), (2, .int (nI (t.2.1 - pl))), (0, .ref (a 0)), (1, .int (nI pl))]) hx hb dX1_cut_8 rfl hl (by decide) rfl (fun ls hl => ?_)
  refine lp_cut hC fp a t pl hok ho h8 hpl FF (fun H locs ls hP hD hS hl => ?_) (t.2.1 - pl) 0 (Nat.zero_add _) _ _ ls hP hD hS (lv_sub hl [2, 3, 1, 0] rfl)
  refine lv_aload_n hx hb dX1_cut_44 rfl (lv_at hl 0 rfl) ?_
  refine lv_iload_n hx hb dX1_cut_45 rfl (lv_at hl 1 rfl) ?_
  refine va_put (D := D) (ci := ci) (v := .int (nI pl)) (ty := .int) (C := C) (T := TX2) (N := 6) hx hb hts hC.1 tyX2 tyX2_ok nmX2 hown hK.1 hP hD hS 0 rfl hC.2.1 5 (by decide) (hts _ q34) (fun _ h9 => h9) rfl (by decide +kernel) rfl rfl (Nat.le_of_ble_eq_true rfl) dX1_cut_46 (fun H locs hP hD hS => ?_)
  have hP : va_P D vwCl (rgW ci fp ka a (r_cut t pl)) H := hP
  have hD : va_D A (rgW ci fp ka a (r_cut t pl)) := hD
  refine lv_iload_n hx hb dX1_cut_49 rfl (lv_at hl 2 rfl) ?_
  exact e_int hx hb hr hlocks hP hD hS (rfl) (rfl) dX1_cut_50
end
section
/-! THE MAKERS -/
set_option maxRecDepth 100000
def rg0 : RG := (0, 0, fun _ => 0, fun _ => 0, fun _ => false)
def g0 : ST := (rg0, rg0, fun _ => 0, fun _ => 0, 0)
def adC (h : Nat) (u : Nat → Nat) : Nat → Nat := fun i => match i with
  | 0 => h
  | i + 1 => u i
def ad3 (x y z : Nat) : Nat → Nat := fun i => match i with
  | 0 => x
  | 1 => y
  | _ => z
def ad5 (x y z v w : Nat) : Nat → Nat := fun i => match i with
  | 0 => x
  | 1 => y
  | 2 => z
  | 3 => v
  | _ => w
def ad10 (b c : Nat) (t0 : Nat) (t : Nat → Nat) (r0 : Nat) (r : Nat → Nat) : Nat → Nat := fun i => match i with
  | 0 => b
  | 1 => c
  | 2 => t0
  | 3 => t 0
  | 4 => t 1
  | 5 => t 2
  | 6 => r0
  | 7 => r 0
  | 8 => r 1
  | _ => r 2
section NA
variable {D : va_G} {ka : Nat → ClassId} {p : Program} {l : Launch} {e : Env} {R : Room} {s : State} {m : MethodId} {args : Array Value} {below : List Frame} {meth : Method} {c : Code} {H : Heap} {locs : List Loc} {cells slots : Nat} {Q : State → Prop}
variable {cc : ByteArray} {pc : Nat} {ls : Array Slot} {rest : List Value} {A : Nat → Prop} {H0 : Heap} {ws : va_W}
theorem w_newa {atype : ArrayType} {ty : FieldType} (j : Nat) {a0 : vp_A} (hexec : p.tables.exec = Jvm.exec) (hb : c.code = cc) (harr : (Cond.arrayClass (newarray.typeOf atype)).before args s = true) (hty : newarray.typeOf atype = ty) (hj : (TYS ka)[j]? = some (ka j, ty)) (hK : wK D ka s) (hP : va_P D vwCl ws H) (hD : va_D A ws) (hS : va_S A H0 H locs) (hA : ∀ q, H0.size ≤ q → A q) (hra : ∀ {cA : ClassId}, va_RA s cA ty → va_RA s (ka j) ty → cA = ka j)
    {n : Int32} {N' : Nat} (ha : ∀ cA : ClassId, vp_cell cA a0 = arrV cA N' (fun _ => defaultValue ty)) (hn : ¬ n < 0) (hN : n.toNatClampNeg = N') (hbytes : N' * componentBytes ty ≤ 536870912) (hcells : cells + 1 ≤ R.cells) (hslots : slots + N' ≤ R.slots) (hdg : decode cc pc = .ok (.newarray atype, 2))
    (kk : ∀ (q : Nat) (H1 : Heap), va_P D vwCl (ws ++ [(q, .inl (ka j, a0))]) H1 → va_D A (ws ++ [(q, .inl (ka j, a0))]) → va_S A H0 H1 locs → W p l e R s m args below meth c H1 locs (cells + 1) (slots + N') Q (F0 m (pc + 2) ls (.ref q :: rest))) : W p l e R s m args below meth c H locs cells slots Q (F0 m pc ls (.int n :: rest)) := by
  refine va_newa hexec hb harr hty hK.1 hP hD hS hA ha hn hN hbytes hcells hslots hdg (fun q cA H1 hK1 hP1 hD1 hS1 => ?_)
  have h1 := (hK1.2 3 (cA, ty) rfl).2
  have h2 := (hK.1.2 j _ hj).2
  have h3 : cA = ka j := hra h1 h2
  subst h3
  exact kk q H1 hP1 hD1 hS1
end NA
set_option maxHeartbeats 4000000 in
/-- Ring(fp) -/
theorem m_rinit (D : va_G) (ka : Nat → ClassId) (l : Launch) {C : String} {ci : Nat} (hC : rgC C ci) (fp h : Nat) (sz : Nat) : Met l yX1_init (ws_ yX1_init cX1_init 2 none) ({ frames := 1, cells := 3, slots := 200, locals := 12 } : Room) (PW D ka [.ref h, .int (nI fp)] sz [(h, .inr (ci, [.int (nI 0), .null, .null, .null, .int (nI 0), .int (nI 0)]))]) (QN D (fun u => rgW ci fp ka (adC h u) rg0) (va_A [(h, .inr (ci, [.int (nI 0), .null, .null, .null, .int (nI 0), .int (nI 0)]))] sz)) 3 200 (va_A [(h, .inr (ci, [.int (nI 0), .null, .null, .null, .int (nI 0), .int (nI 0)]))] sz) := by
  refine enter (by decide) (Nat.le_of_ble_eq_true rfl) ?_
  intro p e s m below meth c A ls F hP hD hS hl
  obtain ⟨hx, hb, hr, hlocks, hml, hown, hts, hA, hK, hnm⟩ := F
  have hl : lv_has ls 2 [(0, .ref h), (1, .int (nI fp))] := hl
  refine lv_aload_n hx hb dX1_init_0 rfl (lv_at hl 0 rfl) ?_
  refine W.objInit hx hb hown (hts _ q25) (hts _ q15) (hts _ q16) rfl (by rw [hml]; exact hl.1) rfl dX1_init_1 (Nat.le_of_ble_eq_true rfl) (Nat.le_of_ble_eq_true rfl) ?_
  refine W.eq (g2 := F0 m 4 ls []) rfl ?_
  refine lv_aload_n hx hb dX1_init_4 rfl (lv_at hl 0 rfl) ?_
  refine lv_bipush (v := nI 64) hx hb dX1_init_5 (by decide) ?_
  refine w_newa (atype := .int) (ty := .int) 0 (a0 := (64, .inl (ubf (fun _ => 0)))) hx hb (hts _ q52) rfl rfl hK hP hD hS hA (fun h1 h2 => Option.some.inj ((show _ = some _ from h1).symm.trans h2)) (fun _ => rfl) (by decide) (by decide) (by decide) (Nat.le_of_ble_eq_true rfl) (Nat.le_of_ble_eq_true rfl) dX1_init_7 (fun q1 H hP hD hS => ?_)
  have hP : va_P D vwCl ([(h, .inr (ci, [.int (nI 0), .null, .null, .null, .int (nI 0), .int (nI 0)])), (q1, .inl (ka 0, 64, .inl (ubf ((fun _ => 0)))))]) H := hP
  have hD : va_D A ([(h, .inr (ci, [.int (nI 0), .null, .null, .null, .int (nI 0), .int (nI 0)])), (q1, .inl (ka 0, 64, .inl (ubf ((fun _ => 0)))))]) := hD
  refine va_putF (D := D) (ci := ci) (v := .ref q1) (ty := .array .int) (C := C) (T := TX2) (N := 6) hx hb hts hC.1 tyX2 tyX2_ok nmX2 hown hK.1 hP hD hS 0 rfl hC.2.1 1 (by decide) (hts _ q27) (fun _ h9 => h9) rfl hnm rfl (by decide +kernel) rfl rfl (Nat.le_of_ble_eq_true rfl) dX1_init_9 (fun H locs hP hD hS => ?_)
  have hP : va_P D vwCl ([(h, .inr (ci, [.int (nI 0), .ref q1, .null, .null, .int (nI 0), .int (nI 0)])), (q1, .inl (ka 0, 64, .inl (ubf ((fun _ => 0)))))]) H := hP
  have hD : va_D A ([(h, .inr (ci, [.int (nI 0), .ref q1, .null, .null, .int (nI 0), .int (nI 0)])), (q1, .inl (ka 0, 64, .inl (ubf ((fun _ => 0)))))]) := hD
  refine lv_aload_n hx hb dX1_init_12 rfl (lv_at hl 0 rfl) ?_
  refine lv_sipush (v := nI 128) hx hb dX1_init_13 (by decide) ?_
  refine w_newa (atype := .int) (ty := .int) 0 (a0 := (128, .inl (ubf (fun _ => 0)))) hx hb (hts _ q52) rfl rfl hK hP hD hS hA (fun h1 h2 => Option.some.inj ((show _ = some _ from h1).symm.trans h2)) (fun _ => rfl) (by decide) (by decide) (by decide) (Nat.le_of_ble_eq_true rfl) (Nat.le_of_ble_eq_true rfl) dX1_init_16 (fun q2 H hP hD hS => ?_)
  have hP : va_P D vwCl ([(h, .inr (ci, [.int (nI 0), .ref q1, .null, .null, .int (nI 0), .int (nI 0)])), (q1, .inl (ka 0, 64, .inl (ubf ((fun _ => 0))))), (q2, .inl (ka 0, 128, .inl (ubf ((fun _ => 0)))))]) H := hP
  have hD : va_D A ([(h, .inr (ci, [.int (nI 0), .ref q1, .null, .null, .int (nI 0), .int (nI 0)])), (q1, .inl (ka 0, 64, .inl (ubf ((fun _ => 0))))), (q2, .inl (ka 0, 128, .inl (ubf ((fun _ => 0)))))]) := hD
  refine va_putF (D := D) (ci := ci) (v := .ref q2) (ty := .array .int) (C := C) (T := TX2) (N := 6) hx hb hts hC.1 tyX2 tyX2_ok nmX2 hown hK.1 hP hD hS 0 rfl hC.2.1 2 (by decide) (hts _ q29) (fun _ h9 => h9) rfl hnm rfl (by decide +kernel) rfl rfl (Nat.le_of_ble_eq_true rfl) dX1_init_18 (fun H locs hP hD hS => ?_)
  have hP : va_P D vwCl ([(h, .inr (ci, [.int (nI 0), .ref q1, .ref q2, .null, .int (nI 0), .int (nI 0)])), (q1, .inl (ka 0, 64, .inl (ubf ((fun _ => 0))))), (q2, .inl (ka 0, 128, .inl (ubf ((fun _ => 0)))))]) H := hP
  have hD : va_D A ([(h, .inr (ci, [.int (nI 0), .ref q1, .ref q2, .null, .int (nI 0), .int (nI 0)])), (q1, .inl (ka 0, 64, .inl (ubf ((fun _ => 0))))), (q2, .inl (ka 0, 128, .inl (ubf ((fun _ => 0)))))]) := hD
  refine lv_aload_n hx hb dX1_init_21 rfl (lv_at hl 0 rfl) ?_
  refine lv_bipush (v := nI 8) hx hb dX1_init_22 (by decide) ?_
  refine w_newa (atype := .boolean) (ty := .boolean) 1 (a0 := (8, .inl (zbf (fun _ => false)))) hx hb (hts _ q53) rfl rfl hK hP hD hS hA (fun h1 h2 => Option.some.inj ((show _ = some _ from h1).symm.trans h2)) (fun _ => rfl) (by decide) (by decide) (by decide) (Nat.le_of_ble_eq_true rfl) (Nat.le_of_ble_eq_true rfl) dX1_init_24 (fun q3 H hP hD hS => ?_)
  have hP : va_P D vwCl ([(h, .inr (ci, [.int (nI 0), .ref q1, .ref q2, .null, .int (nI 0), .int (nI 0)])), (q1, .inl (ka 0, 64, .inl (ubf ((fun _ => 0))))), (q2, .inl (ka 0, 128, .inl (ubf ((fun _ => 0))))), (q3, .inl (ka 1, 8, .inl (zbf ((fun _ => false)))))]) H := hP
  have hD : va_D A ([(h, .inr (ci, [.int (nI 0), .ref q1, .ref q2, .null, .int (nI 0), .int (nI 0)])), (q1, .inl (ka 0, 64, .inl (ubf ((fun _ => 0))))), (q2, .inl (ka 0, 128, .inl (ubf ((fun _ => 0))))), (q3, .inl (ka 1, 8, .inl (zbf ((fun _ => false)))))]) := hD
  refine va_putF (D := D) (ci := ci) (v := .ref q3) (ty := .array .boolean) (C := C) (T := TX2) (N := 6) hx hb hts hC.1 tyX2 tyX2_ok nmX2 hown hK.1 hP hD hS 0 rfl hC.2.1 3 (by decide) (hts _ q31) (fun _ h9 => h9) rfl hnm rfl (by decide +kernel) rfl rfl (Nat.le_of_ble_eq_true rfl) dX1_init_26 (fun H locs hP hD hS => ?_)
  have hP : va_P D vwCl ([(h, .inr (ci, [.int (nI 0), .ref q1, .ref q2, .ref q3, .int (nI 0), .int (nI 0)])), (q1, .inl (ka 0, 64, .inl (ubf ((fun _ => 0))))), (q2, .inl (ka 0, 128, .inl (ubf ((fun _ => 0))))), (q3, .inl (ka 1, 8, .inl (zbf ((fun _ => false)))))]) H := hP
  have hD : va_D A ([(h, .inr (ci, [.int (nI 0), .ref q1, .ref q2, .ref q3, .int (nI 0), .int (nI 0)])), (q1, .inl (ka 0, 64, .inl (ubf ((fun _ => 0))))), (q2, .inl (ka 0, 128, .inl (ubf ((fun _ => 0))))), (q3, .inl (ka 1, 8, .inl (zbf ((fun _ => false)))))]) := hD
  refine lv_aload_n hx hb dX1_init_29 rfl (lv_at hl 0 rfl) ?_
  refine lv_iload_n hx hb dX1_init_30 rfl (lv_at hl 1 rfl) ?_
  refine va_putF (D := D) (ci := ci) (v := .int (nI fp)) (ty := .int) (C := C) (T := TX2) (N := 6) hx hb hts hC.1 tyX2 tyX2_ok nmX2 hown hK.1 hP hD hS 0 rfl hC.2.1 0 (by decide) (hts _ q26) (fun _ h9 => h9) rfl hnm rfl (by decide +kernel) rfl rfl (Nat.le_of_ble_eq_true rfl) dX1_init_31 (fun H locs hP hD hS => ?_)
  have hP : va_P D vwCl ([(h, .inr (ci, [.int (nI fp), .ref q1, .ref q2, .ref q3, .int (nI 0), .int (nI 0)])), (q1, .inl (ka 0, 64, .inl (ubf ((fun _ => 0))))), (q2, .inl (ka 0, 128, .inl (ubf ((fun _ => 0))))), (q3, .inl (ka 1, 8, .inl (zbf ((fun _ => false)))))]) H := hP
  have hD : va_D A ([(h, .inr (ci, [.int (nI fp), .ref q1, .ref q2, .ref q3, .int (nI 0), .int (nI 0)])), (q1, .inl (ka 0, 64, .inl (ubf ((fun _ => 0))))), (q2, .inl (ka 0, 128, .inl (ubf ((fun _ => 0))))), (q3, .inl (ka 1, 8, .inl (zbf ((fun _ => false)))))]) := hD
  exact e_make (ad3 q1 q2 q3) hx hb hr hlocks hP hD hS rfl dX1_init_34
set_option maxHeartbeats 4000000 in
/-- Transmit() -/
theorem m_initX2 (D : va_G) (ka : Nat → ClassId) (l : Launch) (h : Nat) (sz : Nat) : Met l yX2_init (ws_ yX2_init cX2_init 1 none) ({ frames := 2, cells := 3, slots := 200, locals := 33 } : Room) (PW D ka [.ref h] sz [(h, .inr (1, [.int (nI 0), .null, .null, .null, .int (nI 0), .int (nI 0)]))]) (QN D (fun u => rgW 1 8 ka (adC h u) rg0) (va_A [(h, .inr (1, [.int (nI 0), .null, .null, .null, .int (nI 0), .int (nI 0)]))] sz)) 3 200 (va_A [(h, .inr (1, [.int (nI 0), .null, .null, .null, .int (nI 0), .int (nI 0)]))] sz) := by
  refine enter (by decide) (Nat.le_of_ble_eq_true rfl) ?_
  intro p e s m below meth c A ls F hP hD hS hl
  obtain ⟨hx, hb, hr, hlocks, hml, hown, hts, hA, hK, hnm⟩ := F
  have hl : lv_has ls 1 [(0, .ref h)] := hl
  refine lv_aload_n hx hb dX2_init_0 rfl (lv_at hl 0 rfl) ?_
  refine lv_bipush (v := nI 8) hx hb dX2_init_1 (by decide) ?_
  refine w_make (wr := []) (va_runI (As := [.int (nI 8)]) (rest := []) ⟨hx, hb, hml, hown, hts⟩ (m_rinit D ka l rgT 8 h _) (cwI 1 hts (lw_meth q24) rfl rfl rfl (hts _ q5) (hts _ q22) (hts _ q23) rfl (by decide +kernel) ⟨Nat.le_of_ble_eq_true rfl, Nat.le_of_ble_eq_true rfl⟩) (w_preS hK hP hD [0] (by decide) rfl) rfl rfl hl.1 rfl (lv_room (Nat.le_of_ble_eq_true rfl)) dX2_init_3 ⟨Nat.le_of_ble_eq_true rfl, Nat.le_of_ble_eq_true rfl⟩) hP hD hS hA [0] [] rfl rfl (by decide) (by decide) (fun u H locs hP hD hS => ?_)
  exact e_make u hx hb hr hlocks hP hD hS rfl dX2_init_6
/-- Transmit.mayRead() -/
theorem m_mayReadX2 (D : va_G) (ka : Nat → ClassId) (l : Launch) (b : Nat) (w : va_W) (sz : Nat) : CT D ka l yX2_mayRead cX2_mayRead 1 (some .boolean) ({ frames := 0, cells := 0, slots := 0, locals := 0 } : Room) [.ref b] sz w (some (.int (zb true))) w := by
  refine enter (by decide) (Nat.le_of_ble_eq_true rfl) ?_
  intro p e s m below meth c A ls F hP hD hS hl
  obtain ⟨hx, hb, hr, hlocks, hml, hown, hts, hA, hK, hnm⟩ := F
  refine lv_iconst (v := nI 1) hx hb dX2_mayRead_0 (by decide) ?_
  exact e_bool hx hb hr hlocks hP hD hS (by decide) (rfl) dX2_mayRead_1
/-- Transmit.mayWrite() -/
theorem m_mayWriteX2 (D : va_G) (ka : Nat → ClassId) (l : Launch) (b : Nat) (w : va_W) (sz : Nat) : CT D ka l yX2_mayWrite cX2_mayWrite 1 (some .boolean) ({ frames := 0, cells := 0, slots := 0, locals := 0 } : Room) [.ref b] sz w (some (.int (zb false))) w := by
  refine enter (by decide) (Nat.le_of_ble_eq_true rfl) ?_
  intro p e s m below meth c A ls F hP hD hS hl
  obtain ⟨hx, hb, hr, hlocks, hml, hown, hts, hA, hK, hnm⟩ := F
  refine lv_iconst (v := nI 0) hx hb dX2_mayWrite_0 (by decide) ?_
  exact e_bool hx hb hr hlocks hP hD hS (by decide) (rfl) dX2_mayWrite_1
set_option maxHeartbeats 4000000 in
/-- Receive() -/
theorem m_initX3 (D : va_G) (ka : Nat → ClassId) (l : Launch) (h : Nat) (sz : Nat) : Met l yX3_init (ws_ yX3_init cX3_init 1 none) ({ frames := 2, cells := 3, slots := 200, locals := 33 } : Room) (PW D ka [.ref h] sz [(h, .inr (2, [.int (nI 0), .null, .null, .null, .int (nI 0), .int (nI 0)]))]) (QN D (fun u => rgW 2 16 ka (adC h u) rg0) (va_A [(h, .inr (2, [.int (nI 0), .null, .null, .null, .int (nI 0), .int (nI 0)]))] sz)) 3 200 (va_A [(h, .inr (2, [.int (nI 0), .null, .null, .null, .int (nI 0), .int (nI 0)]))] sz) := by
  refine enter (by decide) (Nat.le_of_ble_eq_true rfl) ?_
  intro p e s m below meth c A ls F hP hD hS hl
  obtain ⟨hx, hb, hr, hlocks, hml, hown, hts, hA, hK, hnm⟩ := F
  have hl : lv_has ls 1 [(0, .ref h)] := hl
  refine lv_aload_n hx hb dX3_init_0 rfl (lv_at hl 0 rfl) ?_
  refine lv_bipush (v := nI 16) hx hb dX3_init_1 (by decide) ?_
  refine w_make (wr := []) (va_runI (As := [.int (nI 16)]) (rest := []) ⟨hx, hb, hml, hown, hts⟩ (m_rinit D ka l rgR 16 h _) (cwI 1 hts (lw_meth q24) rfl rfl rfl (hts _ q5) (hts _ q59) (hts _ q23) rfl (by decide +kernel) ⟨Nat.le_of_ble_eq_true rfl, Nat.le_of_ble_eq_true rfl⟩) (w_preS hK hP hD [0] (by decide) rfl) rfl rfl hl.1 rfl (lv_room (Nat.le_of_ble_eq_true rfl)) dX3_init_3 ⟨Nat.le_of_ble_eq_true rfl, Nat.le_of_ble_eq_true rfl⟩) hP hD hS hA [0] [] rfl rfl (by decide) (by decide) (fun u H locs hP hD hS => ?_)
  exact e_make u hx hb hr hlocks hP hD hS rfl dX3_init_6
/-- Receive.mayRead() -/
theorem m_mayReadX3 (D : va_G) (ka : Nat → ClassId) (l : Launch) (b : Nat) (w : va_W) (sz : Nat) : CT D ka l yX3_mayRead cX3_mayRead 1 (some .boolean) ({ frames := 0, cells := 0, slots := 0, locals := 0 } : Room) [.ref b] sz w (some (.int (zb false))) w := by
  refine enter (by decide) (Nat.le_of_ble_eq_true rfl) ?_
  intro p e s m below meth c A ls F hP hD hS hl
  obtain ⟨hx, hb, hr, hlocks, hml, hown, hts, hA, hK, hnm⟩ := F
  refine lv_iconst (v := nI 0) hx hb dX3_mayRead_0 (by decide) ?_
  exact e_bool hx hb hr hlocks hP hD hS (by decide) (rfl) dX3_mayRead_1
/-- Receive.mayWrite() -/
theorem m_mayWriteX3 (D : va_G) (ka : Nat → ClassId) (l : Launch) (b : Nat) (w : va_W) (sz : Nat) : CT D ka l yX3_mayWrite cX3_mayWrite 1 (some .boolean) ({ frames := 0, cells := 0, slots := 0, locals := 0 } : Room) [.ref b] sz w (some (.int (zb true))) w := by
  refine enter (by decide) (Nat.le_of_ble_eq_true rfl) ?_
  intro p e s m below meth c A ls F hP hD hS hl
  obtain ⟨hx, hb, hr, hlocks, hml, hown, hts, hA, hK, hnm⟩ := F
  refine lv_iconst (v := nI 1) hx hb dX3_mayWrite_0 (by decide) ?_
  exact e_bool hx hb hr hlocks hP hD hS (by decide) (rfl) dX3_mayWrite_1
set_option maxHeartbeats 4000000 in
/-- RingDriver() -/
theorem m_initX0 (D : va_G) (ka : Nat → ClassId) (l : Launch) (h : Nat) (sz : Nat) : Met l yX0_init (ws_ yX0_init cX0_init 1 none) ({ frames := 3, cells := 10, slots := 444, locals := 53 } : Room) (PW D ka [.ref h] sz [(h, .inr (0, [.null, .null, .null, .null, .int 0]))]) (QN D (fun u => rdW ka (adC h u) g0) (va_A [(h, .inr (0, [.null, .null, .null, .null, .int 0]))] sz)) 10 444 (va_A [(h, .inr (0, [.null, .null, .null, .null, .int 0]))] sz) := by
  refine enter (by decide) (Nat.le_of_ble_eq_true rfl) ?_
  intro p e s m below meth c A ls F hP hD hS hl
  obtain ⟨hx, hb, hr, hlocks, hml, hown, hts, hA, hK, hnm⟩ := F
  have hl : lv_has ls 1 [(0, .ref h)] := hl
  refine lv_aload_n hx hb dX0_init_0 rfl (lv_at hl 0 rfl) ?_
  refine W.objInit hx hb hown (hts _ q14) (hts _ q15) (hts _ q16) rfl (by rw [hml]; exact hl.1) rfl dX0_init_1 (Nat.le_of_ble_eq_true rfl) (Nat.le_of_ble_eq_true rfl) ?_
  refine W.eq (g2 := F0 m 4 ls []) rfl ?_
  refine lv_aload_n hx hb dX0_init_4 rfl (lv_at hl 0 rfl) ?_
  refine va_new (ci := 1) (fs := [.int (nI 0), .null, .null, .null, .int (nI 0), .int (nI 0)]) (C := RX2) (T := TX2) (N := 6) hx hb hts in_X2 tyX2 tyX2_ok hown (hts _ q17) (hts _ q18) (hts _ q6) hK.1 hP hD hS hA rfl (fun j hj => by rcases (show j = 0 ∨ j = 1 ∨ j = 2 ∨ j = 3 ∨ j = 4 ∨ j = 5 by omega) with rfl | rfl | rfl | rfl | rfl | rfl <;> rfl) (Nat.le_of_ble_eq_true rfl) (Nat.le_of_ble_eq_true rfl) dX0_init_5 (fun qt H hP hD hS => ?_)
  have hP : va_P D vwCl ([(h, .inr (0, [.null, .null, .null, .null, .int 0])), (qt, .inr (1, [.int (nI 0), .null, .null, .null, .int (nI 0), .int (nI 0)]))]) H := hP
  have hD : va_D A ([(h, .inr (0, [.null, .null, .null, .null, .int 0])), (qt, .inr (1, [.int (nI 0), .null, .null, .null, .int (nI 0), .int (nI 0)]))]) := hD
  refine lv_dup hx hb dX0_init_8 rfl ?_
  refine w_make (wr := [(h, .inr (0, [.null, .null, .null, .null, .int 0]))]) (va_runI (As := []) (rest := [.ref qt, .ref h]) ⟨hx, hb, hml, hown, hts⟩ (m_initX2 D ka l qt _) (cwI 0 hts (lw_meth q21) rfl rfl rfl (hts _ q6) (hts _ q19) (hts _ q20) rfl (by decide +kernel) ⟨Nat.le_of_ble_eq_true rfl, Nat.le_of_ble_eq_true rfl⟩) (w_preS hK hP hD [1] (by decide) rfl) rfl rfl hl.1 rfl (lv_room (Nat.le_of_ble_eq_true rfl)) dX0_init_9 ⟨Nat.le_of_ble_eq_true rfl, Nat.le_of_ble_eq_true rfl⟩) hP hD hS hA [1] [0] rfl rfl (by decide) (by decide) (fun ut H locs hP hD hS => ?_)
  have hP : va_P D vwCl ([(h, .inr (0, [.null, .null, .null, .null, .int 0])), (qt, .inr (1, [.int (nI 8), .ref (ut 0), .ref (ut 1), .ref (ut 2), .int (nI 0), .int (nI 0)])), (ut 0, .inl (ka 0, 64, .inl (ubf (fun _ => 0)))), (ut 1, .inl (ka 0, 128, .inl (ubf (fun _ => 0)))), (ut 2, .inl (ka 1, 8, .inl (zbf (fun _ => false))))]) H := hP
  have hD : va_D A ([(h, .inr (0, [.null, .null, .null, .null, .int 0])), (qt, .inr (1, [.int (nI 8), .ref (ut 0), .ref (ut 1), .ref (ut 2), .int (nI 0), .int (nI 0)])), (ut 0, .inl (ka 0, 64, .inl (ubf (fun _ => 0)))), (ut 1, .inl (ka 0, 128, .inl (ubf (fun _ => 0)))), (ut 2, .inl (ka 1, 8, .inl (zbf (fun _ => false))))]) := hD
  refine va_putF (D := D) (ci := 0) (v := .ref qt) (ty := .object "RingDriver$Transmit") (C := RX0) (T := TX0) (N := 5) hx hb hts in_X0 tyX0 tyX0_ok nmX0 hown hK.1 hP hD hS 0 rfl rfl 0 (by decide) (hts _ q67) (fun _ h9 => h9) rfl hnm rfl (by decide +kernel) rfl rfl (Nat.le_of_ble_eq_true rfl) dX0_init_12 (fun H locs hP hD hS => ?_)
  have hP : va_P D vwCl ([(h, .inr (0, [.ref qt, .null, .null, .null, .int 0])), (qt, .inr (1, [.int (nI 8), .ref (ut 0), .ref (ut 1), .ref (ut 2), .int (nI 0), .int (nI 0)])), (ut 0, .inl (ka 0, 64, .inl (ubf (fun _ => 0)))), (ut 1, .inl (ka 0, 128, .inl (ubf (fun _ => 0)))), (ut 2, .inl (ka 1, 8, .inl (zbf (fun _ => false))))]) H := hP
  have hD : va_D A ([(h, .inr (0, [.ref qt, .null, .null, .null, .int 0])), (qt, .inr (1, [.int (nI 8), .ref (ut 0), .ref (ut 1), .ref (ut 2), .int (nI 0), .int (nI 0)])), (ut 0, .inl (ka 0, 64, .inl (ubf (fun _ => 0)))), (ut 1, .inl (ka 0, 128, .inl (ubf (fun _ => 0)))), (ut 2, .inl (ka 1, 8, .inl (zbf (fun _ => false))))]) := hD
  refine lv_aload_n hx hb dX0_init_15 rfl (lv_at hl 0 rfl) ?_
  refine va_new (ci := 2) (fs := [.int (nI 0), .null, .null, .null, .int (nI 0), .int (nI 0)]) (C := RX3) (T := TX2) (N := 6) hx hb hts in_X3' tyX2 tyX2_ok hown (hts _ q54) (hts _ q55) (hts _ q7) hK.1 hP hD hS hA rfl (fun j hj => by rcases (show j = 0 ∨ j = 1 ∨ j = 2 ∨ j = 3 ∨ j = 4 ∨ j = 5 by omega) with rfl | rfl | rfl | rfl | rfl | rfl <;> rfl) (Nat.le_of_ble_eq_true rfl) (Nat.le_of_ble_eq_true rfl) dX0_init_16 (fun qr H hP hD hS => ?_)
  have hP : va_P D vwCl ([(h, .inr (0, [.ref qt, .null, .null, .null, .int 0])), (qt, .inr (1, [.int (nI 8), .ref (ut 0), .ref (ut 1), .ref (ut 2), .int (nI 0), .int (nI 0)])), (ut 0, .inl (ka 0, 64, .inl (ubf (fun _ => 0)))), (ut 1, .inl (ka 0, 128, .inl (ubf (fun _ => 0)))), (ut 2, .inl (ka 1, 8, .inl (zbf (fun _ => false)))), (qr, .inr (2, [.int (nI 0), .null, .null, .null, .int (nI 0), .int (nI 0)]))]) H := hP
  have hD : va_D A ([(h, .inr (0, [.ref qt, .null, .null, .null, .int 0])), (qt, .inr (1, [.int (nI 8), .ref (ut 0), .ref (ut 1), .ref (ut 2), .int (nI 0), .int (nI 0)])), (ut 0, .inl (ka 0, 64, .inl (ubf (fun _ => 0)))), (ut 1, .inl (ka 0, 128, .inl (ubf (fun _ => 0)))), (ut 2, .inl (ka 1, 8, .inl (zbf (fun _ => false)))), (qr, .inr (2, [.int (nI 0), .null, .null, .null, .int (nI 0), .int (nI 0)]))]) := hD
  refine lv_dup hx hb dX0_init_19 rfl ?_
  refine w_make (wr := [(h, .inr (0, [.ref qt, .null, .null, .null, .int 0])), (qt, .inr (1, [.int (nI 8), .ref (ut 0), .ref (ut 1), .ref (ut 2), .int (nI 0), .int (nI 0)])), (ut 0, .inl (ka 0, 64, .inl (ubf (fun _ => 0)))), (ut 1, .inl (ka 0, 128, .inl (ubf (fun _ => 0)))), (ut 2, .inl (ka 1, 8, .inl (zbf (fun _ => false))))]) (va_runI (As := []) (rest := [.ref qr, .ref h]) ⟨hx, hb, hml, hown, hts⟩ (m_initX3 D ka l qr _) (cwI 0 hts (lw_meth q58) rfl rfl rfl (hts _ q7) (hts _ q56) (hts _ q57) rfl (by decide +kernel) ⟨Nat.le_of_ble_eq_true rfl, Nat.le_of_ble_eq_true rfl⟩) (w_preS hK hP hD [5] (by decide) rfl) rfl rfl hl.1 rfl (lv_room (Nat.le_of_ble_eq_true rfl)) dX0_init_20 ⟨Nat.le_of_ble_eq_true rfl, Nat.le_of_ble_eq_true rfl⟩) hP hD hS hA [5] [0, 1, 2, 3, 4] rfl rfl (by decide) (by decide) (fun ur H locs hP hD hS => ?_)
  have hP : va_P D vwCl ([(h, .inr (0, [.ref qt, .null, .null, .null, .int 0])), (qt, .inr (1, [.int (nI 8), .ref (ut 0), .ref (ut 1), .ref (ut 2), .int (nI 0), .int (nI 0)])), (ut 0, .inl (ka 0, 64, .inl (ubf (fun _ => 0)))), (ut 1, .inl (ka 0, 128, .inl (ubf (fun _ => 0)))), (ut 2, .inl (ka 1, 8, .inl (zbf (fun _ => false)))), (qr, .inr (2, [.int (nI 16), .ref (ur 0), .ref (ur 1), .ref (ur 2), .int (nI 0), .int (nI 0)])), (ur 0, .inl (ka 0, 64, .inl (ubf (fun _ => 0)))), (ur 1, .inl (ka 0, 128, .inl (ubf (fun _ => 0)))), (ur 2, .inl (ka 1, 8, .inl (zbf (fun _ => false))))]) H := hP
  have hD : va_D A ([(h, .inr (0, [.ref qt, .null, .null, .null, .int 0])), (qt, .inr (1, [.int (nI 8), .ref (ut 0), .ref (ut 1), .ref (ut 2), .int (nI 0), .int (nI 0)])), (ut 0, .inl (ka 0, 64, .inl (ubf (fun _ => 0)))), (ut 1, .inl (ka 0, 128, .inl (ubf (fun _ => 0)))), (ut 2, .inl (ka 1, 8, .inl (zbf (fun _ => false)))), (qr, .inr (2, [.int (nI 16), .ref (ur 0), .ref (ur 1), .ref (ur 2), .int (nI 0), .int (nI 0)])), (ur 0, .inl (ka 0, 64, .inl (ubf (fun _ => 0)))), (ur 1, .inl (ka 0, 128, .inl (ubf (fun _ => 0)))), (ur 2, .inl (ka 1, 8, .inl (zbf (fun _ => false))))]) := hD
  refine va_putF (D := D) (ci := 0) (v := .ref qr) (ty := .object "RingDriver$Receive") (C := RX0) (T := TX0) (N := 5) hx hb hts in_X0 tyX0 tyX0_ok nmX0 hown hK.1 hP hD hS 0 rfl rfl 1 (by decide) (hts _ q68) (fun _ h9 => h9) rfl hnm rfl (by decide +kernel) rfl rfl (Nat.le_of_ble_eq_true rfl) dX0_init_23 (fun H locs hP hD hS => ?_)
  have hP : va_P D vwCl ([(h, .inr (0, [.ref qt, .ref qr, .null, .null, .int 0])), (qt, .inr (1, [.int (nI 8), .ref (ut 0), .ref (ut 1), .ref (ut 2), .int (nI 0), .int (nI 0)])), (ut 0, .inl (ka 0, 64, .inl (ubf (fun _ => 0)))), (ut 1, .inl (ka 0, 128, .inl (ubf (fun _ => 0)))), (ut 2, .inl (ka 1, 8, .inl (zbf (fun _ => false)))), (qr, .inr (2, [.int (nI 16), .ref (ur 0), .ref (ur 1), .ref (ur 2), .int (nI 0), .int (nI 0)])), (ur 0, .inl (ka 0, 64, .inl (ubf (fun _ => 0)))), (ur 1, .inl (ka 0, 128, .inl (ubf (fun _ => 0)))), (ur 2, .inl (ka 1, 8, .inl (zbf (fun _ => false))))]) H := hP
  have hD : va_D A ([(h, .inr (0, [.ref qt, .ref qr, .null, .null, .int 0])), (qt, .inr (1, [.int (nI 8), .ref (ut 0), .ref (ut 1), .ref (ut 2), .int (nI 0), .int (nI 0)])), (ut 0, .inl (ka 0, 64, .inl (ubf (fun _ => 0)))), (ut 1, .inl (ka 0, 128, .inl (ubf (fun _ => 0)))), (ut 2, .inl (ka 1, 8, .inl (zbf (fun _ => false)))), (qr, .inr (2, [.int (nI 16), .ref (ur 0), .ref (ur 1), .ref (ur 2), .int (nI 0), .int (nI 0)])), (ur 0, .inl (ka 0, 64, .inl (ubf (fun _ => 0)))), (ur 1, .inl (ka 0, 128, .inl (ubf (fun _ => 0)))), (ur 2, .inl (ka 1, 8, .inl (zbf (fun _ => false))))]) := hD
  refine lv_aload_n hx hb dX0_init_26 rfl (lv_at hl 0 rfl) ?_
  refine lv_bipush (v := nI 16) hx hb dX0_init_27 (by decide) ?_
  refine w_newa (atype := .int) (ty := .int) 0 (a0 := (16, .inl (ubf (fun _ => 0)))) hx hb (hts _ q52) rfl rfl hK hP hD hS hA (fun h1 h2 => Option.some.inj ((show _ = some _ from h1).symm.trans h2)) (fun _ => rfl) (by decide) (by decide) (by decide) (Nat.le_of_ble_eq_true rfl) (Nat.le_of_ble_eq_true rfl) dX0_init_29 (fun qo H hP hD hS => ?_)
  have hP : va_P D vwCl ([(h, .inr (0, [.ref qt, .ref qr, .null, .null, .int 0])), (qt, .inr (1, [.int (nI 8), .ref (ut 0), .ref (ut 1), .ref (ut 2), .int (nI 0), .int (nI 0)])), (ut 0, .inl (ka 0, 64, .inl (ubf (fun _ => 0)))), (ut 1, .inl (ka 0, 128, .inl (ubf (fun _ => 0)))), (ut 2, .inl (ka 1, 8, .inl (zbf (fun _ => false)))), (qr, .inr (2, [.int (nI 16), .ref (ur 0), .ref (ur 1), .ref (ur 2), .int (nI 0), .int (nI 0)])), (ur 0, .inl (ka 0, 64, .inl (ubf (fun _ => 0)))), (ur 1, .inl (ka 0, 128, .inl (ubf (fun _ => 0)))), (ur 2, .inl (ka 1, 8, .inl (zbf (fun _ => false)))), (qo, .inl (ka 0, 16, .inl (ubf ((fun _ => 0)))))]) H := hP
  have hD : va_D A ([(h, .inr (0, [.ref qt, .ref qr, .null, .null, .int 0])), (qt, .inr (1, [.int (nI 8), .ref (ut 0), .ref (ut 1), .ref (ut 2), .int (nI 0), .int (nI 0)])), (ut 0, .inl (ka 0, 64, .inl (ubf (fun _ => 0)))), (ut 1, .inl (ka 0, 128, .inl (ubf (fun _ => 0)))), (ut 2, .inl (ka 1, 8, .inl (zbf (fun _ => false)))), (qr, .inr (2, [.int (nI 16), .ref (ur 0), .ref (ur 1), .ref (ur 2), .int (nI 0), .int (nI 0)])), (ur 0, .inl (ka 0, 64, .inl (ubf (fun _ => 0)))), (ur 1, .inl (ka 0, 128, .inl (ubf (fun _ => 0)))), (ur 2, .inl (ka 1, 8, .inl (zbf (fun _ => false)))), (qo, .inl (ka 0, 16, .inl (ubf ((fun _ => 0)))))]) := hD
  refine va_putF (D := D) (ci := 0) (v := .ref qo) (ty := .array .int) (C := RX0) (T := TX0) (N := 5) hx hb hts in_X0 tyX0 tyX0_ok nmX0 hown hK.1 hP hD hS 0 rfl rfl 2 (by decide) (hts _ q69) (fun _ h9 => h9) rfl hnm rfl (by decide +kernel) rfl rfl (Nat.le_of_ble_eq_true rfl) dX0_init_31 (fun H locs hP hD hS => ?_)
  have hP : va_P D vwCl ([(h, .inr (0, [.ref qt, .ref qr, .ref qo, .null, .int 0])), (qt, .inr (1, [.int (nI 8), .ref (ut 0), .ref (ut 1), .ref (ut 2), .int (nI 0), .int (nI 0)])), (ut 0, .inl (ka 0, 64, .inl (ubf (fun _ => 0)))), (ut 1, .inl (ka 0, 128, .inl (ubf (fun _ => 0)))), (ut 2, .inl (ka 1, 8, .inl (zbf (fun _ => false)))), (qr, .inr (2, [.int (nI 16), .ref (ur 0), .ref (ur 1), .ref (ur 2), .int (nI 0), .int (nI 0)])), (ur 0, .inl (ka 0, 64, .inl (ubf (fun _ => 0)))), (ur 1, .inl (ka 0, 128, .inl (ubf (fun _ => 0)))), (ur 2, .inl (ka 1, 8, .inl (zbf (fun _ => false)))), (qo, .inl (ka 0, 16, .inl (ubf ((fun _ => 0)))))]) H := hP
  have hD : va_D A ([(h, .inr (0, [.ref qt, .ref qr, .ref qo, .null, .int 0])), (qt, .inr (1, [.int (nI 8), .ref (ut 0), .ref (ut 1), .ref (ut 2), .int (nI 0), .int (nI 0)])), (ut 0, .inl (ka 0, 64, .inl (ubf (fun _ => 0)))), (ut 1, .inl (ka 0, 128, .inl (ubf (fun _ => 0)))), (ut 2, .inl (ka 1, 8, .inl (zbf (fun _ => false)))), (qr, .inr (2, [.int (nI 16), .ref (ur 0), .ref (ur 1), .ref (ur 2), .int (nI 0), .int (nI 0)])), (ur 0, .inl (ka 0, 64, .inl (ubf (fun _ => 0)))), (ur 1, .inl (ka 0, 128, .inl (ubf (fun _ => 0)))), (ur 2, .inl (ka 1, 8, .inl (zbf (fun _ => false)))), (qo, .inl (ka 0, 16, .inl (ubf ((fun _ => 0)))))]) := hD
  refine lv_aload_n hx hb dX0_init_34 rfl (lv_at hl 0 rfl) ?_
  refine lv_bipush (v := nI 16) hx hb dX0_init_35 (by decide) ?_
  refine w_newa (atype := .int) (ty := .int) 0 (a0 := (16, .inl (ubf (fun _ => 0)))) hx hb (hts _ q52) rfl rfl hK hP hD hS hA (fun h1 h2 => Option.some.inj ((show _ = some _ from h1).symm.trans h2)) (fun _ => rfl) (by decide) (by decide) (by decide) (Nat.le_of_ble_eq_true rfl) (Nat.le_of_ble_eq_true rfl) dX0_init_37 (fun qi H hP hD hS => ?_)
  have hP : va_P D vwCl ([(h, .inr (0, [.ref qt, .ref qr, .ref qo, .null, .int 0])), (qt, .inr (1, [.int (nI 8), .ref (ut 0), .ref (ut 1), .ref (ut 2), .int (nI 0), .int (nI 0)])), (ut 0, .inl (ka 0, 64, .inl (ubf (fun _ => 0)))), (ut 1, .inl (ka 0, 128, .inl (ubf (fun _ => 0)))), (ut 2, .inl (ka 1, 8, .inl (zbf (fun _ => false)))), (qr, .inr (2, [.int (nI 16), .ref (ur 0), .ref (ur 1), .ref (ur 2), .int (nI 0), .int (nI 0)])), (ur 0, .inl (ka 0, 64, .inl (ubf (fun _ => 0)))), (ur 1, .inl (ka 0, 128, .inl (ubf (fun _ => 0)))), (ur 2, .inl (ka 1, 8, .inl (zbf (fun _ => false)))), (qo, .inl (ka 0, 16, .inl (ubf ((fun _ => 0))))), (qi, .inl (ka 0, 16, .inl (ubf ((fun _ => 0)))))]) H := hP
  have hD : va_D A ([(h, .inr (0, [.ref qt, .ref qr, .ref qo, .null, .int 0])), (qt, .inr (1, [.int (nI 8), .ref (ut 0), .ref (ut 1), .ref (ut 2), .int (nI 0), .int (nI 0)])), (ut 0, .inl (ka 0, 64, .inl (ubf (fun _ => 0)))), (ut 1, .inl (ka 0, 128, .inl (ubf (fun _ => 0)))), (ut 2, .inl (ka 1, 8, .inl (zbf (fun _ => false)))), (qr, .inr (2, [.int (nI 16), .ref (ur 0), .ref (ur 1), .ref (ur 2), .int (nI 0), .int (nI 0)])), (ur 0, .inl (ka 0, 64, .inl (ubf (fun _ => 0)))), (ur 1, .inl (ka 0, 128, .inl (ubf (fun _ => 0)))), (ur 2, .inl (ka 1, 8, .inl (zbf (fun _ => false)))), (qo, .inl (ka 0, 16, .inl (ubf ((fun _ => 0))))), (qi, .inl (ka 0, 16, .inl (ubf ((fun _ => 0)))))]) := hD
  refine va_putF (D := D) (ci := 0) (v := .ref qi) (ty := .array .int) (C := RX0) (T := TX0) (N := 5) hx hb hts in_X0 tyX0 tyX0_ok nmX0 hown hK.1 hP hD hS 0 rfl rfl 3 (by decide) (hts _ q70) (fun _ h9 => h9) rfl hnm rfl (by decide +kernel) rfl rfl (Nat.le_of_ble_eq_true rfl) dX0_init_39 (fun H locs hP hD hS => ?_)
  have hP : va_P D vwCl ([(h, .inr (0, [.ref qt, .ref qr, .ref qo, .ref qi, .int 0])), (qt, .inr (1, [.int (nI 8), .ref (ut 0), .ref (ut 1), .ref (ut 2), .int (nI 0), .int (nI 0)])), (ut 0, .inl (ka 0, 64, .inl (ubf (fun _ => 0)))), (ut 1, .inl (ka 0, 128, .inl (ubf (fun _ => 0)))), (ut 2, .inl (ka 1, 8, .inl (zbf (fun _ => false)))), (qr, .inr (2, [.int (nI 16), .ref (ur 0), .ref (ur 1), .ref (ur 2), .int (nI 0), .int (nI 0)])), (ur 0, .inl (ka 0, 64, .inl (ubf (fun _ => 0)))), (ur 1, .inl (ka 0, 128, .inl (ubf (fun _ => 0)))), (ur 2, .inl (ka 1, 8, .inl (zbf (fun _ => false)))), (qo, .inl (ka 0, 16, .inl (ubf ((fun _ => 0))))), (qi, .inl (ka 0, 16, .inl (ubf ((fun _ => 0)))))]) H := hP
  have hD : va_D A ([(h, .inr (0, [.ref qt, .ref qr, .ref qo, .ref qi, .int 0])), (qt, .inr (1, [.int (nI 8), .ref (ut 0), .ref (ut 1), .ref (ut 2), .int (nI 0), .int (nI 0)])), (ut 0, .inl (ka 0, 64, .inl (ubf (fun _ => 0)))), (ut 1, .inl (ka 0, 128, .inl (ubf (fun _ => 0)))), (ut 2, .inl (ka 1, 8, .inl (zbf (fun _ => false)))), (qr, .inr (2, [.int (nI 16), .ref (ur 0), .ref (ur 1), .ref (ur 2), .int (nI 0), .int (nI 0)])), (ur 0, .inl (ka 0, 64, .inl (ubf (fun _ => 0)))), (ur 1, .inl (ka 0, 128, .inl (ubf (fun _ => 0)))), (ur 2, .inl (ka 1, 8, .inl (zbf (fun _ => false)))), (qo, .inl (ka 0, 16, .inl (ubf ((fun _ => 0))))), (qi, .inl (ka 0, 16, .inl (ubf ((fun _ => 0)))))]) := hD
  have hP := hP.sub (ws' := rdW ka (adC h (ad10 qo qi qt ut qr ur)) g0) [0, 9, 10, 1, 2, 3, 4, 5, 6, 7, 8] rfl
  have hD := hD.sub (ws' := rdW ka (adC h (ad10 qo qi qt ut qr ur)) g0) [0, 9, 10, 1, 2, 3, 4, 5, 6, 7, 8] (by decide) rfl
  exact e_make (ad10 qo qi qt ut qr ur) hx hb hr hlocks hP hD hS rfl dX0_init_42
def upto (i : Nat) : Nat → Bool := fun j => decide (j < i)
theorem upto_s (i : Nat) : va_up (upto i) i true = upto (i + 1) := by
  funext j
  by_cases h : j = i
  · subst h; simp [va_up, upto]
  · simp only [va_up, upto, if_neg h]
    congr 1
    simp only [eq_iff_iff]
    omega
theorem mem_g0 : mem g0 = fun _ => 0 := by
  funext j; simp [mem, g0, rg0]
theorem rdb_g0 : rdb g0 = upto 8 := by
  funext j
  by_cases h : j < 8
  · simp [rdb, upto, h]
  · simp [rdb, upto, h, g0, rg0]
theorem wrb_g0 : wrb g0 = upto 8 := by
  funext j
  by_cases h : j < 8
  · simp [wrb, upto, h]
  · simp [wrb, upto, h, g0, rg0]
theorem upto_0 : upto 0 = fun _ => false := by
  funext j; simp [upto]
set_option maxHeartbeats 4000000 in
/-- the pages that are let from the start -/
theorem lp_minit {D : va_G} {ka : Nat → ClassId} {p : Program} {l : Launch} {e : Env} {s : State} {m : MethodId} {args : Array Value} {below : List Frame} {meth : Method} {c : Code} {A : Nat → Prop} {Q : State → Prop} (h q1 q2 q3 q4 q5 : Nat) (F : Fx D ka p s m args c meth cX4_init 2 none RX4 "<init>" A)
    (kk : ∀ (H : Heap) (locs : List Loc) (ls : Array Slot), va_P D vwCl [(h, .inr (3, [.ref q1, .ref q2, .ref q3, .ref q4, .ref q5, .int 0, .int (nI 0), .int (nI 0), .int (nI 0), .int (nI 0)])), (q1, .inl (ka 2, 384, .inl (sbf ((fun _ => 0))))), (q2, .inl (ka 1, 24, .inl (zbf (upto 8)))), (q3, .inl (ka 1, 24, .inl (zbf (upto 8)))), (q4, .inl (ka 2, 16, .inl (sbf ((fun _ => 0))))), (q5, .inl (ka 2, 16, .inl (sbf ((fun _ => 0)))))] H → va_D A [(h, .inr (3, [.ref q1, .ref q2, .ref q3, .ref q4, .ref q5, .int 0, .int (nI 0), .int (nI 0), .int (nI 0), .int (nI 0)])), (q1, .inl (ka 2, 384, .inl (sbf ((fun _ => 0))))), (q2, .inl (ka 1, 24, .inl (zbf (upto 8)))), (q3, .inl (ka 1, 24, .inl (zbf (upto 8)))), (q4, .inl (ka 2, 16, .inl (sbf ((fun _ => 0))))), (q5, .inl (ka 2, 16, .inl (sbf ((fun _ => 0)))))] → va_S A s.heap H locs → lv_has ls 2 [(0, .ref h)] → W p l e ({ frames := 1, cells := 5, slots := 464, locals := 12 } : Room) s m args below meth c H locs 5 464 Q (F0 m 73 ls [])) :
    ∀ (n i : Nat), i + n = 8 → ∀ (H : Heap) (locs : List Loc) (ls : Array Slot), va_P D vwCl [(h, .inr (3, [.ref q1, .ref q2, .ref q3, .ref q4, .ref q5, .int 0, .int (nI 0), .int (nI 0), .int (nI 0), .int (nI 0)])), (q1, .inl (ka 2, 384, .inl (sbf ((fun _ => 0))))), (q2, .inl (ka 1, 24, .inl (zbf (upto i)))), (q3, .inl (ka 1, 24, .inl (zbf (upto i)))), (q4, .inl (ka 2, 16, .inl (sbf ((fun _ => 0))))), (q5, .inl (ka 2, 16, .inl (sbf ((fun _ => 0)))))] H → va_D A [(h, .inr (3, [.ref q1, .ref q2, .ref q3, .ref q4, .ref q5, .int 0, .int (nI 0), .int (nI 0), .int (nI 0), .int (nI 0)])), (q1, .inl (ka 2, 384, .inl (sbf ((fun _ => 0))))), (q2, .inl (ka 1, 24, .inl (zbf (upto i)))), (q3, .inl (ka 1, 24, .inl (zbf (upto i)))), (q4, .inl (ka 2, 16, .inl (sbf ((fun _ => 0))))), (q5, .inl (ka 2, 16, .inl (sbf ((fun _ => 0)))))] → va_S A s.heap H locs → lv_has ls 2 [(0, .ref h), (1, .int (nI i))] → W p l e ({ frames := 1, cells := 5, slots := 464, locals := 12 } : Room) s m args below meth c H locs 5 464 Q (F0 m 47 ls []) := by
  obtain ⟨hx, hb, hr, hlocks, hml, hown, hts, hA, hK, hnm⟩ := F
  intro n
  induction n with
  | zero =>
    intro i hi H locs ls hP hD hS hl
    obtain rfl : i = 8 := by omega
    refine lv_iload_n hx hb dX4_init_47 rfl (lv_at hl 1 rfl) ?_
    refine lv_bipush (v := nI 8) hx hb dX4_init_48 (by decide) ?_
    refine n_icmp_ge (tgt := 73) hx hb (by omega) (by omega) dX4_init_50 (by decide) (fun h1 => ?_) (fun h1 => ?_)
    · exact kk H locs ls hP hD hS (lv_sub hl [0] rfl)
    · exact absurd h1 (by omega)
  | succ n ih =>
    intro i hi H locs ls hP hD hS hl
    refine lv_iload_n hx hb dX4_init_47 rfl (lv_at hl 1 rfl) ?_
    refine lv_bipush (v := nI 8) hx hb dX4_init_48 (by decide) ?_
    refine n_icmp_ge (tgt := 73) hx hb (by omega) (by omega) dX4_init_50 (by decide) (fun h1 => ?_) (fun h1 => ?_)
    · exact absurd h1 (by omega)
    · refine lv_aload_n hx hb dX4_init_53 rfl (lv_at hl 0 rfl) ?_
      refine va_get (D := D) (ci := 3) (v := .ref q2) (C := RX4) (T := TX4) (N := 10) hx hb hts in_X4 hown hK.1 hP 0 rfl rfl 1 (by decide) (hts _ q264) (fun _ h9 => h9) rfl dX4_init_54 ?_
      refine lv_iload_n hx hb dX4_init_57 rfl (lv_at hl 1 rfl) ?_
      refine lv_iconst (v := nI 1) hx hb dX4_init_58 (by decide) ?_
      refine n_zast (wn := [(h, .inr (3, [.ref q1, .ref q2, .ref q3, .ref q4, .ref q5, .int 0, .int (nI 0), .int (nI 0), .int (nI 0), .int (nI 0)])), (q1, .inl (ka 2, 384, .inl (sbf ((fun _ => 0))))), (q2, .inl (ka 1, 24, .inl (zbf (upto (i + 1))))), (q3, .inl (ka 1, 24, .inl (zbf (upto i)))), (q4, .inl (ka 2, 16, .inl (sbf ((fun _ => 0))))), (q5, .inl (ka 2, 16, .inl (sbf ((fun _ => 0)))))]) hx hb hK hP hD hS 2 true rfl (by omega) (by decide) vz_1 (by rw [upto_s]; rfl) dX4_init_59 (fun H locs hP hD hS => ?_)
      refine lv_aload_n hx hb dX4_init_60 rfl (lv_at hl 0 rfl) ?_
      refine va_get (D := D) (ci := 3) (v := .ref q3) (C := RX4) (T := TX4) (N := 10) hx hb hts in_X4 hown hK.1 hP 0 rfl rfl 2 (by decide) (hts _ q265) (fun _ h9 => h9) rfl dX4_init_61 ?_
      refine lv_iload_n hx hb dX4_init_64 rfl (lv_at hl 1 rfl) ?_
      refine lv_iconst (v := nI 1) hx hb dX4_init_65 (by decide) ?_
      refine n_zast (wn := [(h, .inr (3, [.ref q1, .ref q2, .ref q3, .ref q4, .ref q5, .int 0, .int (nI 0), .int (nI 0), .int (nI 0), .int (nI 0)])), (q1, .inl (ka 2, 384, .inl (sbf ((fun _ => 0))))), (q2, .inl (ka 1, 24, .inl (zbf (upto (i + 1))))), (q3, .inl (ka 1, 24, .inl (zbf (upto (i + 1))))), (q4, .inl (ka 2, 16, .inl (sbf ((fun _ => 0))))), (q5, .inl (ka 2, 16, .inl (sbf ((fun _ => 0)))))]) hx hb hK hP hD hS 3 true rfl (by omega) (by decide) vz_1 (by rw [upto_s]; rfl) dX4_init_66 (fun H locs hP hD hS => ?_)
      refine lv_iinc (v := nI (i + 1)) (lv' := [(1, .int (nI (i + 1))), (0, .ref h)]) hx hb dX4_init_67 hl (k := 1) rfl (nI_1 _) (by decide) rfl (fun ls hl => ?_)
      refine lv_goto (tgt := 47) hx hb dX4_init_70 (by decide) ?_
      exact ih (i + 1) (by omega) H locs ls hP hD hS (lv_sub hl [1, 0] rfl)
set_option maxHeartbeats 4000000 in
/-- RingDriverModel() -/
theorem m_initX4 (D : va_G) (ka : Nat → ClassId) (l : Launch) (h : Nat) (sz : Nat) : Met l yX4_init (ws_ yX4_init cX4_init 2 none) ({ frames := 1, cells := 5, slots := 464, locals := 12 } : Room) (PW D ka [.ref h] sz [(h, .inr (3, [.null, .null, .null, .null, .null, .int 0, .int (nI 0), .int (nI 0), .int (nI 0), .int (nI 0)]))]) (QN D (fun u => mdW ka (adC h u) g0) (va_A [(h, .inr (3, [.null, .null, .null, .null, .null, .int 0, .int (nI 0), .int (nI 0), .int (nI 0), .int (nI 0)]))] sz)) 5 464 (va_A [(h, .inr (3, [.null, .null, .null, .null, .null, .int 0, .int (nI 0), .int (nI 0), .int (nI 0), .int (nI 0)]))] sz) := by
  refine enter (by decide) (Nat.le_of_ble_eq_true rfl) ?_
  intro p e s m below meth c A ls F hP hD hS hl
  have FF := F
  obtain ⟨hx, hb, hr, hlocks, hml, hown, hts, hA, hK, hnm⟩ := F
  have hl : lv_has ls 2 [(0, .ref h)] := hl
  refine lv_aload_n hx hb dX4_init_0 rfl (lv_at hl 0 rfl) ?_
  refine W.objInit hx hb hown (hts _ q262) (hts _ q15) (hts _ q16) rfl (by rw [hml]; exact hl.1) rfl dX4_init_1 (Nat.le_of_ble_eq_true rfl) (Nat.le_of_ble_eq_true rfl) ?_
  refine W.eq (g2 := F0 m 4 ls []) rfl ?_
  refine lv_aload_n hx hb dX4_init_4 rfl (lv_at hl 0 rfl) ?_
  refine lv_sipush (v := nI 384) hx hb dX4_init_5 (by decide) ?_
  refine w_newa (atype := .byte) (ty := .byte) 2 (a0 := (384, .inl (sbf (fun _ => 0)))) hx hb (hts _ q294) rfl rfl hK hP hD hS hA (fun h1 h2 => Option.some.inj ((show _ = some _ from h1).symm.trans h2)) (fun _ => rfl) (by decide) (by decide) (by decide) (Nat.le_of_ble_eq_true rfl) (Nat.le_of_ble_eq_true rfl) dX4_init_8 (fun q1 H hP hD hS => ?_)
  have hP : va_P D vwCl ([(h, .inr (3, [.null, .null, .null, .null, .null, .int 0, .int (nI 0), .int (nI 0), .int (nI 0), .int (nI 0)])), (q1, .inl (ka 2, 384, .inl (sbf ((fun _ => 0)))))]) H := hP
  have hD : va_D A ([(h, .inr (3, [.null, .null, .null, .null, .null, .int 0, .int (nI 0), .int (nI 0), .int (nI 0), .int (nI 0)])), (q1, .inl (ka 2, 384, .inl (sbf ((fun _ => 0)))))]) := hD
  refine va_putF (D := D) (ci := 3) (v := .ref q1) (ty := .array .byte) (C := RX4) (T := TX4) (N := 10) hx hb hts in_X4 tyX4 tyX4_ok nmX4 hown hK.1 hP hD hS 0 rfl rfl 0 (by decide) (hts _ q263) (fun _ h9 => h9) rfl hnm rfl (by decide +kernel) rfl rfl (Nat.le_of_ble_eq_true rfl) dX4_init_10 (fun H locs hP hD hS => ?_)
  have hP : va_P D vwCl ([(h, .inr (3, [.ref q1, .null, .null, .null, .null, .int 0, .int (nI 0), .int (nI 0), .int (nI 0), .int (nI 0)])), (q1, .inl (ka 2, 384, .inl (sbf ((fun _ => 0)))))]) H := hP
  have hD : va_D A ([(h, .inr (3, [.ref q1, .null, .null, .null, .null, .int 0, .int (nI 0), .int (nI 0), .int (nI 0), .int (nI 0)])), (q1, .inl (ka 2, 384, .inl (sbf ((fun _ => 0)))))]) := hD
  refine lv_aload_n hx hb dX4_init_13 rfl (lv_at hl 0 rfl) ?_
  refine lv_bipush (v := nI 24) hx hb dX4_init_14 (by decide) ?_
  refine w_newa (atype := .boolean) (ty := .boolean) 1 (a0 := (24, .inl (zbf (fun _ => false)))) hx hb (hts _ q53) rfl rfl hK hP hD hS hA (fun h1 h2 => Option.some.inj ((show _ = some _ from h1).symm.trans h2)) (fun _ => rfl) (by decide) (by decide) (by decide) (Nat.le_of_ble_eq_true rfl) (Nat.le_of_ble_eq_true rfl) dX4_init_16 (fun q2 H hP hD hS => ?_)
  have hP : va_P D vwCl ([(h, .inr (3, [.ref q1, .null, .null, .null, .null, .int 0, .int (nI 0), .int (nI 0), .int (nI 0), .int (nI 0)])), (q1, .inl (ka 2, 384, .inl (sbf ((fun _ => 0))))), (q2, .inl (ka 1, 24, .inl (zbf ((fun _ => false)))))]) H := hP
  have hD : va_D A ([(h, .inr (3, [.ref q1, .null, .null, .null, .null, .int 0, .int (nI 0), .int (nI 0), .int (nI 0), .int (nI 0)])), (q1, .inl (ka 2, 384, .inl (sbf ((fun _ => 0))))), (q2, .inl (ka 1, 24, .inl (zbf ((fun _ => false)))))]) := hD
  refine va_putF (D := D) (ci := 3) (v := .ref q2) (ty := .array .boolean) (C := RX4) (T := TX4) (N := 10) hx hb hts in_X4 tyX4 tyX4_ok nmX4 hown hK.1 hP hD hS 0 rfl rfl 1 (by decide) (hts _ q264) (fun _ h9 => h9) rfl hnm rfl (by decide +kernel) rfl rfl (Nat.le_of_ble_eq_true rfl) dX4_init_18 (fun H locs hP hD hS => ?_)
  have hP : va_P D vwCl ([(h, .inr (3, [.ref q1, .ref q2, .null, .null, .null, .int 0, .int (nI 0), .int (nI 0), .int (nI 0), .int (nI 0)])), (q1, .inl (ka 2, 384, .inl (sbf ((fun _ => 0))))), (q2, .inl (ka 1, 24, .inl (zbf ((fun _ => false)))))]) H := hP
  have hD : va_D A ([(h, .inr (3, [.ref q1, .ref q2, .null, .null, .null, .int 0, .int (nI 0), .int (nI 0), .int (nI 0), .int (nI 0)])), (q1, .inl (ka 2, 384, .inl (sbf ((fun _ => 0))))), (q2, .inl (ka 1, 24, .inl (zbf ((fun _ => false)))))]) := hD
  refine lv_aload_n hx hb dX4_init_21 rfl (lv_at hl 0 rfl) ?_
  refine lv_bipush (v := nI 24) hx hb dX4_init_22 (by decide) ?_
  refine w_newa (atype := .boolean) (ty := .boolean) 1 (a0 := (24, .inl (zbf (fun _ => false)))) hx hb (hts _ q53) rfl rfl hK hP hD hS hA (fun h1 h2 => Option.some.inj ((show _ = some _ from h1).symm.trans h2)) (fun _ => rfl) (by decide) (by decide) (by decide) (Nat.le_of_ble_eq_true rfl) (Nat.le_of_ble_eq_true rfl) dX4_init_24 (fun q3 H hP hD hS => ?_)
  have hP : va_P D vwCl ([(h, .inr (3, [.ref q1, .ref q2, .null, .null, .null, .int 0, .int (nI 0), .int (nI 0), .int (nI 0), .int (nI 0)])), (q1, .inl (ka 2, 384, .inl (sbf ((fun _ => 0))))), (q2, .inl (ka 1, 24, .inl (zbf ((fun _ => false))))), (q3, .inl (ka 1, 24, .inl (zbf ((fun _ => false)))))]) H := hP
  have hD : va_D A ([(h, .inr (3, [.ref q1, .ref q2, .null, .null, .null, .int 0, .int (nI 0), .int (nI 0), .int (nI 0), .int (nI 0)])), (q1, .inl (ka 2, 384, .inl (sbf ((fun _ => 0))))), (q2, .inl (ka 1, 24, .inl (zbf ((fun _ => false))))), (q3, .inl (ka 1, 24, .inl (zbf ((fun _ => false)))))]) := hD
  refine va_putF (D := D) (ci := 3) (v := .ref q3) (ty := .array .boolean) (C := RX4) (T := TX4) (N := 10) hx hb hts in_X4 tyX4 tyX4_ok nmX4 hown hK.1 hP hD hS 0 rfl rfl 2 (by decide) (hts _ q265) (fun _ h9 => h9) rfl hnm rfl (by decide +kernel) rfl rfl (Nat.le_of_ble_eq_true rfl) dX4_init_26 (fun H locs hP hD hS => ?_)
  have hP : va_P D vwCl ([(h, .inr (3, [.ref q1, .ref q2, .ref q3, .null, .null, .int 0, .int (nI 0), .int (nI 0), .int (nI 0), .int (nI 0)])), (q1, .inl (ka 2, 384, .inl (sbf ((fun _ => 0))))), (q2, .inl (ka 1, 24, .inl (zbf ((fun _ => false))))), (q3, .inl (ka 1, 24, .inl (zbf ((fun _ => false)))))]) H := hP
  have hD : va_D A ([(h, .inr (3, [.ref q1, .ref q2, .ref q3, .null, .null, .int 0, .int (nI 0), .int (nI 0), .int (nI 0), .int (nI 0)])), (q1, .inl (ka 2, 384, .inl (sbf ((fun _ => 0))))), (q2, .inl (ka 1, 24, .inl (zbf ((fun _ => false))))), (q3, .inl (ka 1, 24, .inl (zbf ((fun _ => false)))))]) := hD
  refine lv_aload_n hx hb dX4_init_29 rfl (lv_at hl 0 rfl) ?_
  refine lv_bipush (v := nI 16) hx hb dX4_init_30 (by decide) ?_
  refine w_newa (atype := .byte) (ty := .byte) 2 (a0 := (16, .inl (sbf (fun _ => 0)))) hx hb (hts _ q294) rfl rfl hK hP hD hS hA (fun h1 h2 => Option.some.inj ((show _ = some _ from h1).symm.trans h2)) (fun _ => rfl) (by decide) (by decide) (by decide) (Nat.le_of_ble_eq_true rfl) (Nat.le_of_ble_eq_true rfl) dX4_init_32 (fun q4 H hP hD hS => ?_)
  have hP : va_P D vwCl ([(h, .inr (3, [.ref q1, .ref q2, .ref q3, .null, .null, .int 0, .int (nI 0), .int (nI 0), .int (nI 0), .int (nI 0)])), (q1, .inl (ka 2, 384, .inl (sbf ((fun _ => 0))))), (q2, .inl (ka 1, 24, .inl (zbf ((fun _ => false))))), (q3, .inl (ka 1, 24, .inl (zbf ((fun _ => false))))), (q4, .inl (ka 2, 16, .inl (sbf ((fun _ => 0)))))]) H := hP
  have hD : va_D A ([(h, .inr (3, [.ref q1, .ref q2, .ref q3, .null, .null, .int 0, .int (nI 0), .int (nI 0), .int (nI 0), .int (nI 0)])), (q1, .inl (ka 2, 384, .inl (sbf ((fun _ => 0))))), (q2, .inl (ka 1, 24, .inl (zbf ((fun _ => false))))), (q3, .inl (ka 1, 24, .inl (zbf ((fun _ => false))))), (q4, .inl (ka 2, 16, .inl (sbf ((fun _ => 0)))))]) := hD
  refine va_putF (D := D) (ci := 3) (v := .ref q4) (ty := .array .byte) (C := RX4) (T := TX4) (N := 10) hx hb hts in_X4 tyX4 tyX4_ok nmX4 hown hK.1 hP hD hS 0 rfl rfl 3 (by decide) (hts _ q266) (fun _ h9 => h9) rfl hnm rfl (by decide +kernel) rfl rfl (Nat.le_of_ble_eq_true rfl) dX4_init_34 (fun H locs hP hD hS => ?_)
  have hP : va_P D vwCl ([(h, .inr (3, [.ref q1, .ref q2, .ref q3, .ref q4, .null, .int 0, .int (nI 0), .int (nI 0), .int (nI 0), .int (nI 0)])), (q1, .inl (ka 2, 384, .inl (sbf ((fun _ => 0))))), (q2, .inl (ka 1, 24, .inl (zbf ((fun _ => false))))), (q3, .inl (ka 1, 24, .inl (zbf ((fun _ => false))))), (q4, .inl (ka 2, 16, .inl (sbf ((fun _ => 0)))))]) H := hP
  have hD : va_D A ([(h, .inr (3, [.ref q1, .ref q2, .ref q3, .ref q4, .null, .int 0, .int (nI 0), .int (nI 0), .int (nI 0), .int (nI 0)])), (q1, .inl (ka 2, 384, .inl (sbf ((fun _ => 0))))), (q2, .inl (ka 1, 24, .inl (zbf ((fun _ => false))))), (q3, .inl (ka 1, 24, .inl (zbf ((fun _ => false))))), (q4, .inl (ka 2, 16, .inl (sbf ((fun _ => 0)))))]) := hD
  refine lv_aload_n hx hb dX4_init_37 rfl (lv_at hl 0 rfl) ?_
  refine lv_bipush (v := nI 16) hx hb dX4_init_38 (by decide) ?_
  refine w_newa (atype := .byte) (ty := .byte) 2 (a0 := (16, .inl (sbf (fun _ => 0)))) hx hb (hts _ q294) rfl rfl hK hP hD hS hA (fun h1 h2 => Option.some.inj ((show _ = some _ from h1).symm.trans h2)) (fun _ => rfl) (by decide) (by decide) (by decide) (Nat.le_of_ble_eq_true rfl) (Nat.le_of_ble_eq_true rfl) dX4_init_40 (fun q5 H hP hD hS => ?_)
  have hP : va_P D vwCl ([(h, .inr (3, [.ref q1, .ref q2, .ref q3, .ref q4, .null, .int 0, .int (nI 0), .int (nI 0), .int (nI 0), .int (nI 0)])), (q1, .inl (ka 2, 384, .inl (sbf ((fun _ => 0))))), (q2, .inl (ka 1, 24, .inl (zbf ((fun _ => false))))), (q3, .inl (ka 1, 24, .inl (zbf ((fun _ => false))))), (q4, .inl (ka 2, 16, .inl (sbf ((fun _ => 0))))), (q5, .inl (ka 2, 16, .inl (sbf ((fun _ => 0)))))]) H := hP
  have hD : va_D A ([(h, .inr (3, [.ref q1, .ref q2, .ref q3, .ref q4, .null, .int 0, .int (nI 0), .int (nI 0), .int (nI 0), .int (nI 0)])), (q1, .inl (ka 2, 384, .inl (sbf ((fun _ => 0))))), (q2, .inl (ka 1, 24, .inl (zbf ((fun _ => false))))), (q3, .inl (ka 1, 24, .inl (zbf ((fun _ => false))))), (q4, .inl (ka 2, 16, .inl (sbf ((fun _ => 0))))), (q5, .inl (ka 2, 16, .inl (sbf ((fun _ => 0)))))]) := hD
  refine va_putF (D := D) (ci := 3) (v := .ref q5) (ty := .array .byte) (C := RX4) (T := TX4) (N := 10) hx hb hts in_X4 tyX4 tyX4_ok nmX4 hown hK.1 hP hD hS 0 rfl rfl 4 (by decide) (hts _ q267) (fun _ h9 => h9) rfl hnm rfl (by decide +kernel) rfl rfl (Nat.le_of_ble_eq_true rfl) dX4_init_42 (fun H locs hP hD hS => ?_)
  have hP : va_P D vwCl ([(h, .inr (3, [.ref q1, .ref q2, .ref q3, .ref q4, .ref q5, .int 0, .int (nI 0), .int (nI 0), .int (nI 0), .int (nI 0)])), (q1, .inl (ka 2, 384, .inl (sbf ((fun _ => 0))))), (q2, .inl (ka 1, 24, .inl (zbf ((fun _ => false))))), (q3, .inl (ka 1, 24, .inl (zbf ((fun _ => false))))), (q4, .inl (ka 2, 16, .inl (sbf ((fun _ => 0))))), (q5, .inl (ka 2, 16, .inl (sbf ((fun _ => 0)))))]) H := hP
  have hD : va_D A ([(h, .inr (3, [.ref q1, .ref q2, .ref q3, .ref q4, .ref q5, .int 0, .int (nI 0), .int (nI 0), .int (nI 0), .int (nI 0)])), (q1, .inl (ka 2, 384, .inl (sbf ((fun _ => 0))))), (q2, .inl (ka 1, 24, .inl (zbf ((fun _ => false))))), (q3, .inl (ka 1, 24, .inl (zbf ((fun _ => false))))), (q4, .inl (ka 2, 16, .inl (sbf ((fun _ => 0))))), (q5, .inl (ka 2, 16, .inl (sbf ((fun _ => 0)))))]) := hD
  rw [← upto_0] at hP hD
  refine lv_iconst (v := nI 0) hx hb dX4_init_45 (by decide) ?_
  refine lv_istore_n (lv' := [(1, .int (nI 0)), (0, .ref h)]) hx hb dX4_init_46 rfl hl (by decide) rfl (fun ls hl => ?_)
  refine lp_minit h q1 q2 q3 q4 q5 FF (fun H locs ls hP hD hS hl => ?_) 8 0 rfl H locs ls hP hD hS (lv_sub hl [1, 0] rfl)
  have e1 : mdW ka (adC h (ad5 q1 q2 q3 q4 q5)) g0 = [(h, .inr (3, [.ref q1, .ref q2, .ref q3, .ref q4, .ref q5, .int 0, .int (nI 0), .int (nI 0), .int (nI 0), .int (nI 0)])), (q1, .inl (ka 2, 384, .inl (sbf ((fun _ => 0))))), (q2, .inl (ka 1, 24, .inl (zbf (upto 8)))), (q3, .inl (ka 1, 24, .inl (zbf (upto 8)))), (q4, .inl (ka 2, 16, .inl (sbf ((fun _ => 0))))), (q5, .inl (ka 2, 16, .inl (sbf ((fun _ => 0)))))] := by
    unfold mdW
    rw [mem_g0, rdb_g0, wrb_g0]
    rfl
  exact e_make (ad5 q1 q2 q3 q4 q5) hx hb hr hlocks hP hD hS e1.symm dX4_init_73
end
section
/-! THE DRIVER: contracts of RingDriver's methods, on its eleven cells (rdW) -/
set_option maxRecDepth 100000
theorem i32_no {x : Int32} {a b : Nat} (ha : a < 2 ^ 31) (hb : b < 2 ^ 31) (hab : a ≤ b) (h1 : x < nI a) (h2 : nI b ≤ x) : False := by
  rw [Int32.lt_iff_toInt_lt, nI_toInt ha] at h1
  rw [Int32.le_iff_toInt_le, nI_toInt hb] at h2
  omega
theorem i32_neg {x : Int32} {b : Nat} (hb : b < 2 ^ 31) (h1 : x < 0) (h2 : nI b ≤ x) : False := i32_no (a := 0) (by decide) hb (Nat.zero_le _) (by rw [nI_0]; exact h1) h2
theorem i32_neglt {x : Int32} {b : Nat} (hb : b < 2 ^ 31) (h1 : x < 0) : x < nI b := by
  rw [Int32.lt_iff_toInt_lt, nI_toInt hb]
  rw [Int32.lt_iff_toInt_lt, Int32.toInt_zero] at h1
  omega
theorem i32_le {x : Int32} {a b : Nat} (hb : b < 2 ^ 31) (hab : a ≤ b) (h2 : nI b ≤ x) : nI a ≤ x := by
  rw [Int32.le_iff_toInt_le, nI_toInt (by omega)]
  rw [Int32.le_iff_toInt_le, nI_toInt hb] at h2
  omega
theorem i32_nlt {x y : Int32} (h : y ≤ x) : ¬ x < y := by
  rw [Int32.lt_iff_toInt_lt]
  rw [Int32.le_iff_toInt_le] at h
  omega
theorem i32_lt_of {x y : Int32} (h : ¬ y ≤ x) : x < y := by
  rw [Int32.lt_iff_toInt_lt]
  rw [Int32.le_iff_toInt_le] at h
  omega
theorem i32_le_of {x y : Int32} (h : ¬ x < y) : y ≤ x := by
  rw [Int32.lt_iff_toInt_lt] at h
  rw [Int32.le_iff_toInt_le]
  omega
theorem mem_a (g : ST) {k : Nat} (h : k < 64) : mem g k = g.1.2.2.1 k := if_pos h
theorem mem_b (g : ST) {k : Nat} (h1 : ¬ k < 64) (h : k < 128) : mem g k = g.2.1.2.2.1 (k - 64) := (if_neg h1).trans (if_pos h)
theorem mem_c (g : ST) {k : Nat} (h1 : ¬ k < 128) (h : k < 256) : mem g k = g.1.2.2.2.1 (k - 128) := (if_neg (by omega)).trans ((if_neg h1).trans (if_pos h))
theorem rdb_a (g : ST) {k : Nat} (h : k < 128) : rdb g (k / 16) = true := if_pos (by omega)
theorem rdb_b (g : ST) {k : Nat} (h1 : 128 ≤ k) (h : k < 256) : rdb g (k / 16) = g.1.2.2.2.2 (k / 16 % 8) := by
  rw [show k / 16 % 8 = k / 16 - 8 by omega]
  exact (if_neg (by omega)).trans (if_pos (by omega))
theorem rdb_c (g : ST) {k : Nat} (h1 : 256 ≤ k) : rdb g (k / 16) = false := (if_neg (by omega)).trans (if_neg (by omega))
theorem wrb_a (g : ST) {k : Nat} (h : k < 128) : wrb g (k / 16) = true := if_pos (by omega)
theorem wrb_b (g : ST) {k : Nat} (h1 : 128 ≤ k) (h : k < 256) : wrb g (k / 16) = false := (if_neg (by omega)).trans (if_pos (by omega))
theorem wrb_c (g : ST) {k : Nat} (h1 : 256 ≤ k) (h : k < 384) : wrb g (k / 16) = g.2.1.2.2.2.2 (k / 16 % 8) := by
  rw [show k / 16 % 8 = k / 16 - 16 by omega]
  exact (if_neg (by omega)).trans (if_neg (by omega))
theorem pr_y {g : ST} {k : Nat} (h : rdb g (k / 16) = true) : p_read g k = (ub (mem g k), g) := if_pos h
theorem pr_n {g : ST} {k : Nat} (h : rdb g (k / 16) = false) : p_read g k = (-1, flt g) := if_neg (by rw [h]; decide)
theorem pw_y {g : ST} {k : Nat} {v : UInt8} (h : wrb g (k / 16) = true) : p_write g k v = (nI 0, wr g k v) := if_pos h
theorem pw_n {g : ST} {k : Nat} {v : UInt8} (h : wrb g (k / 16) = false) : p_write g k v = (-1, flt g) := if_neg (by rw [h]; decide)
theorem fill0 (f : Nat → UInt8) (src : Nat → UInt8) (i : Nat) : fill f 0 src (i + 1) = va_up (fill f 0 src i) i (src i) := by
  show va_up (fill f 0 src i) (0 + i) (src i) = _
  rw [Nat.zero_add]
/-- all but the sending ring -/
def rdRt (ka : Nat → ClassId) (a : Nat → Nat) (g : ST) : va_W := [(a 0, .inr (0, [.ref (a 3), .ref (a 7), .ref (a 1), .ref (a 2), .int g.2.2.2.2])), (a 1, .inl (ka 0, 16, .inl (ubf g.2.2.1))), (a 2, .inl (ka 0, 16, .inl (ubf g.2.2.2.1))), (a 7, .inr (2, [.int (nI 16), .ref (a 8), .ref (a 9), .ref (a 10), .int (nI g.2.1.1), .int (nI g.2.1.2.1)])), (a 8, .inl (ka 0, 64, .inl (ubf g.2.1.2.2.1))), (a 9, .inl (ka 0, 128, .inl (ubf g.2.1.2.2.2.1))), (a 10, .inl (ka 1, 8, .inl (zbf g.2.1.2.2.2.2)))]
/-- all but the receiving ring -/
def rdRr (ka : Nat → ClassId) (a : Nat → Nat) (g : ST) : va_W := [(a 0, .inr (0, [.ref (a 3), .ref (a 7), .ref (a 1), .ref (a 2), .int g.2.2.2.2])), (a 1, .inl (ka 0, 16, .inl (ubf g.2.2.1))), (a 2, .inl (ka 0, 16, .inl (ubf g.2.2.2.1))), (a 3, .inr (1, [.int (nI 8), .ref (a 4), .ref (a 5), .ref (a 6), .int (nI g.1.1), .int (nI g.1.2.1)])), (a 4, .inl (ka 0, 64, .inl (ubf g.1.2.2.1))), (a 5, .inl (ka 0, 128, .inl (ubf g.1.2.2.2.1))), (a 6, .inl (ka 1, 8, .inl (zbf g.1.2.2.2.2)))]
/-- all but the sending ring and the out box -/
def rdRtf (ka : Nat → ClassId) (a : Nat → Nat) (g : ST) : va_W := [(a 0, .inr (0, [.ref (a 3), .ref (a 7), .ref (a 1), .ref (a 2), .int g.2.2.2.2])), (a 2, .inl (ka 0, 16, .inl (ubf g.2.2.2.1))), (a 7, .inr (2, [.int (nI 16), .ref (a 8), .ref (a 9), .ref (a 10), .int (nI g.2.1.1), .int (nI g.2.1.2.1)])), (a 8, .inl (ka 0, 64, .inl (ubf g.2.1.2.2.1))), (a 9, .inl (ka 0, 128, .inl (ubf g.2.1.2.2.2.1))), (a 10, .inl (ka 1, 8, .inl (zbf g.2.1.2.2.2.2)))]
/-- all but the receiving ring and the out box -/
def rdRrf (ka : Nat → ClassId) (a : Nat → Nat) (g : ST) : va_W := [(a 0, .inr (0, [.ref (a 3), .ref (a 7), .ref (a 1), .ref (a 2), .int g.2.2.2.2])), (a 2, .inl (ka 0, 16, .inl (ubf g.2.2.2.1))), (a 3, .inr (1, [.int (nI 8), .ref (a 4), .ref (a 5), .ref (a 6), .int (nI g.1.1), .int (nI g.1.2.1)])), (a 4, .inl (ka 0, 64, .inl (ubf g.1.2.2.1))), (a 5, .inl (ka 0, 128, .inl (ubf g.1.2.2.2.1))), (a 6, .inl (ka 1, 8, .inl (zbf g.1.2.2.2.2)))]
set_option maxHeartbeats 4000000 in
/-- isRing(k), k below 128 -/
theorem m_isRing_y (D : va_G) (ka : Nat → ClassId) (l : Launch) (w : va_W) (k : Nat) (hk : k < 128) (sz : Nat) : CT D ka l yX0_isRing cX0_isRing 1 (some .boolean) ({ frames := 0, cells := 0, slots := 0, locals := 0 } : Room) [.int (nI k)] sz (w) (some (.int (zb true))) (w) := by
  refine enter (by decide) (Nat.le_of_ble_eq_true rfl) ?_
  intro p e s m below meth c A ls F hP hD hS hl
  obtain ⟨hx, hb, hr, hlocks, hml, hown, hts, hA, hK, hnm⟩ := F
  have hl : lv_has ls 1 [(0, .int (nI k))] := hl
  refine lv_iload_n hx hb dX0_isRing_0 rfl (lv_at hl 0 rfl) ?_
  refine n_if_lt hx hb (by omega) dX0_isRing_1 ⟨15, by decide⟩ ?_
  refine lv_iload_n hx hb dX0_isRing_4 rfl (lv_at hl 0 rfl) ?_
  refine lv_sipush (v := nI 128) hx hb dX0_isRing_5 (by decide) ?_
  refine n_icmp_ge (tgt := 15) hx hb (by omega) (by omega) dX0_isRing_8 (by decide) (fun h1 => ?_) (fun h1 => ?_)
  · exact absurd h1 (by omega)
  · refine lv_iconst (v := nI 1) hx hb dX0_isRing_11 (by decide) ?_
    refine lv_goto (tgt := 16) hx hb dX0_isRing_12 (by decide) ?_
    exact e_bool hx hb hr hlocks hP hD hS (by decide) (rfl) dX0_isRing_16
set_option maxHeartbeats 4000000 in
/-- isRing(x), outside -/
theorem m_isRing_n (D : va_G) (ka : Nat → ClassId) (l : Launch) (w : va_W) (x : Int32) (h : x < 0 ∨ nI 128 ≤ x) (sz : Nat) : CT D ka l yX0_isRing cX0_isRing 1 (some .boolean) ({ frames := 0, cells := 0, slots := 0, locals := 0 } : Room) [.int x] sz (w) (some (.int (zb false))) (w) := by
  refine enter (by decide) (Nat.le_of_ble_eq_true rfl) ?_
  intro p e s m below meth c A ls F hP hD hS hl
  obtain ⟨hx, hb, hr, hlocks, hml, hown, hts, hA, hK, hnm⟩ := F
  have hl : lv_has ls 1 [(0, .int x)] := hl
  refine lv_iload_n hx hb dX0_isRing_0 rfl (lv_at hl 0 rfl) ?_
  refine lv_if_lt (tgt := 15) hx hb dX0_isRing_1 (by decide) (fun h1 => ?_) (fun h1 => ?_)
  · refine lv_iconst (v := nI 0) hx hb dX0_isRing_15 (by decide) ?_
    exact e_bool hx hb hr hlocks hP hD hS (by decide) (rfl) dX0_isRing_16
  · refine lv_iload_n hx hb dX0_isRing_4 rfl (lv_at hl 0 rfl) ?_
    refine lv_sipush (v := nI 128) hx hb dX0_isRing_5 (by decide) ?_
    refine lv_icmp_ge (tgt := 15) hx hb dX0_isRing_8 (by decide) (fun h2 => ?_) (fun h2 => ?_)
    · refine lv_iconst (v := nI 0) hx hb dX0_isRing_15 (by decide) ?_
      exact e_bool hx hb hr hlocks hP hD hS (by decide) (rfl) dX0_isRing_16
    · exact False.elim (h.elim (fun q => h1 q) (fun q => h2 q))
set_option maxHeartbeats 4000000 in
/-- slotAt(k) -/
theorem m_slotAt (D : va_G) (ka : Nat → ClassId) (l : Launch) (w : va_W) (k : Nat) (hk : k < 2 ^ 31) (sz : Nat) : CT D ka l yX0_slotAt cX0_slotAt 1 (some .int) ({ frames := 0, cells := 0, slots := 0, locals := 0 } : Room) [.int (nI k)] sz (w) (some (.int (nI (k / 16 % 8)))) (w) := by
  refine enter (by decide) (Nat.le_of_ble_eq_true rfl) ?_
  intro p e s m below meth c A ls F hP hD hS hl
  obtain ⟨hx, hb, hr, hlocks, hml, hown, hts, hA, hK, hnm⟩ := F
  have hl : lv_has ls 1 [(0, .int (nI k))] := hl
  refine lv_iload_n hx hb dX0_slotAt_0 rfl (lv_at hl 0 rfl) ?_
  refine lv_bipush (v := nI 16) hx hb dX0_slotAt_1 (by decide) ?_
  refine n_idiv hx hb (by omega) (by decide) (by decide) dX0_slotAt_3 ?_
  refine lv_bipush (v := nI 8) hx hb dX0_slotAt_4 (by decide) ?_
  refine n_irem hx hb (by omega) (by decide) (by decide) dX0_slotAt_6 ?_
  exact e_int hx hb hr hlocks hP hD hS (rfl) (rfl) dX0_slotAt_7
set_option maxHeartbeats 4000000 in
/-- ringAt(k), k below 64 -/
theorem m_ringAt_t (D : va_G) (ka : Nat → ClassId) (l : Launch) (a : Nat → Nat) (g : ST) (k : Nat) (hk : k < 64) (sz : Nat) : CT D ka l yX0_ringAt cX0_ringAt 2 (some (.object "RingDriver$Ring")) ({ frames := 0, cells := 0, slots := 0, locals := 0 } : Room) [.ref (a 0), .int (nI k)] sz (rdW ka a g) (some (.ref (a 3))) (rdW ka a g) := by
  refine enter (by decide) (Nat.le_of_ble_eq_true rfl) ?_
  intro p e s m below meth c A ls F hP hD hS hl
  obtain ⟨hx, hb, hr, hlocks, hml, hown, hts, hA, hK, hnm⟩ := F
  have hl : lv_has ls 2 [(0, .ref (a 0)), (1, .int (nI k))] := hl
  refine lv_iload_n hx hb dX0_ringAt_0 rfl (lv_at hl 1 rfl) ?_
  refine lv_bipush (v := nI 64) hx hb dX0_ringAt_1 (by decide) ?_
  refine n_icmp_ge (tgt := 13) hx hb (by omega) (by omega) dX0_ringAt_3 (by decide) (fun h1 => ?_) (fun h1 => ?_)
  · exact absurd h1 (by omega)
  · refine lv_aload_n hx hb dX0_ringAt_6 rfl (lv_at hl 0 rfl) ?_
    refine va_get (D := D) (ci := 0) (v := .ref (a 3)) (C := RX0) (T := TX0) (N := 5) hx hb hts in_X0 hown hK.1 hP 0 rfl rfl 0 (by decide) (hts _ q67) (fun _ h9 => h9) rfl dX0_ringAt_7 ?_
    refine lv_goto (tgt := 17) hx hb dX0_ringAt_10 (by decide) ?_
    exact e_ref hx hb hr hlocks (Or.inr ⟨_, rfl⟩) hP hD hS (rfl) dX0_ringAt_17
set_option maxHeartbeats 4000000 in
/-- ringAt(k), k from 64 on -/
theorem m_ringAt_r (D : va_G) (ka : Nat → ClassId) (l : Launch) (a : Nat → Nat) (g : ST) (k : Nat) (hk : 64 ≤ k) (hk2 : k < 2 ^ 31) (sz : Nat) : CT D ka l yX0_ringAt cX0_ringAt 2 (some (.object "RingDriver$Ring")) ({ frames := 0, cells := 0, slots := 0, locals := 0 } : Room) [.ref (a 0), .int (nI k)] sz (rdW ka a g) (some (.ref (a 7))) (rdW ka a g) := by
  refine enter (by decide) (Nat.le_of_ble_eq_true rfl) ?_
  intro p e s m below meth c A ls F hP hD hS hl
  obtain ⟨hx, hb, hr, hlocks, hml, hown, hts, hA, hK, hnm⟩ := F
  have hl : lv_has ls 2 [(0, .ref (a 0)), (1, .int (nI k))] := hl
  refine lv_iload_n hx hb dX0_ringAt_0 rfl (lv_at hl 1 rfl) ?_
  refine lv_bipush (v := nI 64) hx hb dX0_ringAt_1 (by decide) ?_
  refine n_icmp_ge (tgt := 13) hx hb (by omega) (by omega) dX0_ringAt_3 (by decide) (fun h1 => ?_) (fun h1 => ?_)
  · refine lv_aload_n hx hb dX0_ringAt_13 rfl (lv_at hl 0 rfl) ?_
    refine va_get (D := D) (ci := 0) (v := .ref (a 7)) (C := RX0) (T := TX0) (N := 5) hx hb hts in_X0 hown hK.1 hP 0 rfl rfl 1 (by decide) (hts _ q68) (fun _ h9 => h9) rfl dX0_ringAt_14 ?_
    exact e_ref hx hb hr hlocks (Or.inr ⟨_, rfl⟩) hP hD hS (rfl) dX0_ringAt_17
  · exact absurd h1 (by omega)
set_option maxHeartbeats 4000000 in
/-- bufferAt(k) in the sending ring -/
theorem m_bufferAt_t (D : va_G) (ka : Nat → ClassId) (l : Launch) (a : Nat → Nat) (g : ST) (k : Nat) (hk : 128 ≤ k) (hk2 : k < 256) (sz : Nat) : CT D ka l yX0_bufferAt cX0_bufferAt 2 (some (.object "RingDriver$Ring")) ({ frames := 0, cells := 0, slots := 0, locals := 0 } : Room) [.ref (a 0), .int (nI k)] sz (rdW ka a g) (some (.ref (a 3))) (rdW ka a g) := by
  refine enter (by decide) (Nat.le_of_ble_eq_true rfl) ?_
  intro p e s m below meth c A ls F hP hD hS hl
  obtain ⟨hx, hb, hr, hlocks, hml, hown, hts, hA, hK, hnm⟩ := F
  have hl : lv_has ls 2 [(0, .ref (a 0)), (1, .int (nI k))] := hl
  refine lv_iload_n hx hb dX0_bufferAt_0 rfl (lv_at hl 1 rfl) ?_
  refine lv_sipush (v := nI 128) hx hb dX0_bufferAt_1 (by decide) ?_
  refine n_icmp_lt (tgt := 14) hx hb (by omega) (by omega) dX0_bufferAt_4 (by decide) (fun h1 => ?_) (fun h1 => ?_)
  · exact absurd h1 (by omega)
  · refine lv_iload_n hx hb dX0_bufferAt_7 rfl (lv_at hl 1 rfl) ?_
    refine lv_sipush (v := nI 384) hx hb dX0_bufferAt_8 (by decide) ?_
    refine n_icmp_lt (tgt := 16) hx hb (by omega) (by omega) dX0_bufferAt_11 (by decide) (fun h2 => ?_) (fun h2 => ?_)
    · refine lv_iload_n hx hb dX0_bufferAt_16 rfl (lv_at hl 1 rfl) ?_
      refine lv_sipush (v := nI 256) hx hb dX0_bufferAt_17 (by decide) ?_
      refine n_icmp_ge (tgt := 30) hx hb (by omega) (by omega) dX0_bufferAt_20 (by decide) (fun h3 => ?_) (fun h3 => ?_)
      · exact absurd h3 (by omega)
      · refine lv_aload_n hx hb dX0_bufferAt_23 rfl (lv_at hl 0 rfl) ?_
        refine va_get (D := D) (ci := 0) (v := .ref (a 3)) (C := RX0) (T := TX0) (N := 5) hx hb hts in_X0 hown hK.1 hP 0 rfl rfl 0 (by decide) (hts _ q67) (fun _ h9 => h9) rfl dX0_bufferAt_24 ?_
        refine lv_goto (tgt := 34) hx hb dX0_bufferAt_27 (by decide) ?_
        exact e_ref hx hb hr hlocks (Or.inr ⟨_, rfl⟩) hP hD hS (rfl) dX0_bufferAt_34
    · exact absurd h2 (by omega)
set_option maxHeartbeats 4000000 in
/-- bufferAt(k) in the receiving ring -/
theorem m_bufferAt_r (D : va_G) (ka : Nat → ClassId) (l : Launch) (a : Nat → Nat) (g : ST) (k : Nat) (hk : 256 ≤ k) (hk2 : k < 384) (sz : Nat) : CT D ka l yX0_bufferAt cX0_bufferAt 2 (some (.object "RingDriver$Ring")) ({ frames := 0, cells := 0, slots := 0, locals := 0 } : Room) [.ref (a 0), .int (nI k)] sz (rdW ka a g) (some (.ref (a 7))) (rdW ka a g) := by
  refine enter (by decide) (Nat.le_of_ble_eq_true rfl) ?_
  intro p e s m below meth c A ls F hP hD hS hl
  obtain ⟨hx, hb, hr, hlocks, hml, hown, hts, hA, hK, hnm⟩ := F
  have hl : lv_has ls 2 [(0, .ref (a 0)), (1, .int (nI k))] := hl
  refine lv_iload_n hx hb dX0_bufferAt_0 rfl (lv_at hl 1 rfl) ?_
  refine lv_sipush (v := nI 128) hx hb dX0_bufferAt_1 (by decide) ?_
  refine n_icmp_lt (tgt := 14) hx hb (by omega) (by omega) dX0_bufferAt_4 (by decide) (fun h1 => ?_) (fun h1 => ?_)
  · exact absurd h1 (by omega)
  · refine lv_iload_n hx hb dX0_bufferAt_7 rfl (lv_at hl 1 rfl) ?_
    refine lv_sipush (v := nI 384) hx hb dX0_bufferAt_8 (by decide) ?_
    refine n_icmp_lt (tgt := 16) hx hb (by omega) (by omega) dX0_bufferAt_11 (by decide) (fun h2 => ?_) (fun h2 => ?_)
    · refine lv_iload_n hx hb dX0_bufferAt_16 rfl (lv_at hl 1 rfl) ?_
      refine lv_sipush (v := nI 256) hx hb dX0_bufferAt_17 (by decide) ?_
      refine n_icmp_ge (tgt := 30) hx hb (by omega) (by omega) dX0_bufferAt_20 (by decide) (fun h3 => ?_) (fun h3 => ?_)
      · refine lv_aload_n hx hb dX0_bufferAt_30 rfl (lv_at hl 0 rfl) ?_
        refine va_get (D := D) (ci := 0) (v := .ref (a 7)) (C := RX0) (T := TX0) (N := 5) hx hb hts in_X0 hown hK.1 hP 0 rfl rfl 1 (by decide) (hts _ q68) (fun _ h9 => h9) rfl dX0_bufferAt_31 ?_
        exact e_ref hx hb hr hlocks (Or.inr ⟨_, rfl⟩) hP hD hS (rfl) dX0_bufferAt_34
      · exact absurd h3 (by omega)
    · exact absurd h2 (by omega)
set_option maxHeartbeats 4000000 in
/-- bufferAt(x) nowhere -/
theorem m_bufferAt_n (D : va_G) (ka : Nat → ClassId) (l : Launch) (a : Nat → Nat) (g : ST) (x : Int32) (h : x < nI 128 ∨ nI 384 ≤ x) (sz : Nat) : CT D ka l yX0_bufferAt cX0_bufferAt 2 (some (.object "RingDriver$Ring")) ({ frames := 0, cells := 0, slots := 0, locals := 0 } : Room) [.ref (a 0), .int x] sz (rdW ka a g) (some .null) (rdW ka a g) := by
  refine enter (by decide) (Nat.le_of_ble_eq_true rfl) ?_
  intro p e s m below meth c A ls F hP hD hS hl
  obtain ⟨hx, hb, hr, hlocks, hml, hown, hts, hA, hK, hnm⟩ := F
  have hl : lv_has ls 2 [(0, .ref (a 0)), (1, .int x)] := hl
  refine lv_iload_n hx hb dX0_bufferAt_0 rfl (lv_at hl 1 rfl) ?_
  refine lv_sipush (v := nI 128) hx hb dX0_bufferAt_1 (by decide) ?_
  refine lv_icmp_lt (tgt := 14) hx hb dX0_bufferAt_4 (by decide) (fun h1 => ?_) (fun h1 => ?_)
  · refine lv_null hx hb dX0_bufferAt_14 ?_
    exact e_ref hx hb hr hlocks (Or.inl rfl) hP hD hS (rfl) dX0_bufferAt_15
  · refine lv_iload_n hx hb dX0_bufferAt_7 rfl (lv_at hl 1 rfl) ?_
    refine lv_sipush (v := nI 384) hx hb dX0_bufferAt_8 (by decide) ?_
    refine lv_icmp_lt (tgt := 16) hx hb dX0_bufferAt_11 (by decide) (fun h2 => ?_) (fun h2 => ?_)
    · exact (h.elim (fun q => h1 q) (fun q => i32_nlt q h2)).elim
    · refine lv_null hx hb dX0_bufferAt_14 ?_
      exact e_ref hx hb hr hlocks (Or.inl rfl) hP hD hS (rfl) dX0_bufferAt_15
set_option maxHeartbeats 4000000 in
/-- deviceRead: the sending ring's descriptors -/
theorem m_read_a (D : va_G) (ka : Nat → ClassId) (l : Launch) (a : Nat → Nat) (g : ST) (k : Nat) (hk : k < 64) (sz : Nat) : CT D ka l yX0_deviceRead cX0_deviceRead 3 (some .int) ({ frames := 1, cells := 0, slots := 0, locals := 22 } : Room) [.ref (a 0), .int (nI k)] sz (rdW ka a g) (some (.int (p_read g k).1)) (rdW ka a (p_read g k).2) := by
  refine enter (by decide) (Nat.le_of_ble_eq_true rfl) ?_
  intro p e s m below meth c A ls F hP hD hS hl
  obtain ⟨hx, hb, hr, hlocks, hml, hown, hts, hA, hK, hnm⟩ := F
  have hl : lv_has ls 3 [(0, .ref (a 0)), (1, .int (nI k))] := hl
  refine lv_iload_n hx hb dX0_deviceRead_0 rfl (lv_at hl 1 rfl) ?_
  refine w_call (wr := rdW ka a g) (wn := rdW ka a g) (va_runS (As := [.int (nI k)]) (rest := []) ⟨hx, hb, hml, hown, hts⟩ (m_isRing_y D ka l [] k (by omega) _) (va_cwS 1 hts (lw_S q87 q88 q4 q89) rfl rfl rfl (by decide +kernel) ⟨Nat.le_of_ble_eq_true rfl, Nat.le_of_ble_eq_true rfl⟩) (w_preS hK hP hD [] (by decide) rfl) rfl rfl hl.1 rfl (lv_room (Nat.le_of_ble_eq_true rfl)) dX0_deviceRead_1 ⟨Nat.le_of_ble_eq_true rfl, Nat.le_of_ble_eq_true rfl⟩) hP hD hS hA [] [0, 1, 2, 3, 4, 5, 6, 7, 8, 9, 10] [0, 1, 2, 3, 4, 5, 6, 7, 8, 9, 10] rfl rfl (by decide) (by decide) (by decide) rfl (fun H locs hP hD hS => ?_)
  refine z_if_eq (tgt := 21) hx hb dX0_deviceRead_4 (by decide) (fun h1 => ?_) (fun h1 => ?_)
  · exact absurd h1 (by decide)
  · refine lv_aload_n hx hb dX0_deviceRead_7 rfl (lv_at hl 0 rfl) ?_
    refine lv_iload_n hx hb dX0_deviceRead_8 rfl (lv_at hl 1 rfl) ?_
    refine w_call (wr := []) (wn := rdW ka a g) (va_runV (As := [.int (nI k)]) (rest := []) ⟨hx, hb, hml, hown, hts⟩ (m_ringAt_t D ka l a g k (by omega) _) (cwV 1 hts (lw_V q90 q92 qs0 q4 q93) rfl rfl rfl (by decide +kernel) ⟨Nat.le_of_ble_eq_true rfl, Nat.le_of_ble_eq_true rfl⟩) (w_preV hK hP hD [0, 1, 2, 3, 4, 5, 6, 7, 8, 9, 10] (by decide) rfl rfl (q0 := 0) rfl) rfl rfl hl.1 rfl (lv_room (Nat.le_of_ble_eq_true rfl)) dX0_deviceRead_9 ⟨Nat.le_of_ble_eq_true rfl, Nat.le_of_ble_eq_true rfl⟩) hP hD hS hA [0, 1, 2, 3, 4, 5, 6, 7, 8, 9, 10] [] [0, 1, 2, 3, 4, 5, 6, 7, 8, 9, 10] rfl rfl (by decide) (by decide) (by decide) rfl (fun H locs hP hD hS => ?_)
    refine va_getN (D := D) (ci := 1) (v := .ref (a 4)) (C := RX2) (T := TX2) (N := 6) hx hb hts in_X2 hown hK.1 hP 3 rfl rfl 1 (by decide) (va_Nw.use rfl hK.2.1) (fun _ h9 => h9) rfl dX0_deviceRead_12 ?_
    refine lv_iload_n hx hb dX0_deviceRead_15 rfl (lv_at hl 1 rfl) ?_
    refine lv_bipush (v := nI 64) hx hb dX0_deviceRead_16 (by decide) ?_
    refine n_irem hx hb (by omega) (by decide) (by decide) dX0_deviceRead_18 ?_
    refine n_iald hx hb hK hP 4 rfl (by omega) (by decide) dX0_deviceRead_19 ?_
    exact e_int hx hb hr hlocks hP hD hS (by rw [pr_y (rdb_a g (by omega)), mem_a g hk, Nat.mod_eq_of_lt hk]) (by rw [pr_y (rdb_a g (by omega))]) dX0_deviceRead_20
set_option maxHeartbeats 4000000 in
/-- deviceRead: the receiving ring's descriptors -/
theorem m_read_b (D : va_G) (ka : Nat → ClassId) (l : Launch) (a : Nat → Nat) (g : ST) (k : Nat) (hk : 64 ≤ k) (hk2 : k < 128) (sz : Nat) : CT D ka l yX0_deviceRead cX0_deviceRead 3 (some .int) ({ frames := 1, cells := 0, slots := 0, locals := 22 } : Room) [.ref (a 0), .int (nI k)] sz (rdW ka a g) (some (.int (p_read g k).1)) (rdW ka a (p_read g k).2) := by
  refine enter (by decide) (Nat.le_of_ble_eq_true rfl) ?_
  intro p e s m below meth c A ls F hP hD hS hl
  obtain ⟨hx, hb, hr, hlocks, hml, hown, hts, hA, hK, hnm⟩ := F
  have hl : lv_has ls 3 [(0, .ref (a 0)), (1, .int (nI k))] := hl
  refine lv_iload_n hx hb dX0_deviceRead_0 rfl (lv_at hl 1 rfl) ?_
  refine w_call (wr := rdW ka a g) (wn := rdW ka a g) (va_runS (As := [.int (nI k)]) (rest := []) ⟨hx, hb, hml, hown, hts⟩ (m_isRing_y D ka l [] k (by omega) _) (va_cwS 1 hts (lw_S q87 q88 q4 q89) rfl rfl rfl (by decide +kernel) ⟨Nat.le_of_ble_eq_true rfl, Nat.le_of_ble_eq_true rfl⟩) (w_preS hK hP hD [] (by decide) rfl) rfl rfl hl.1 rfl (lv_room (Nat.le_of_ble_eq_true rfl)) dX0_deviceRead_1 ⟨Nat.le_of_ble_eq_true rfl, Nat.le_of_ble_eq_true rfl⟩) hP hD hS hA [] [0, 1, 2, 3, 4, 5, 6, 7, 8, 9, 10] [0, 1, 2, 3, 4, 5, 6, 7, 8, 9, 10] rfl rfl (by decide) (by decide) (by decide) rfl (fun H locs hP hD hS => ?_)
  refine z_if_eq (tgt := 21) hx hb dX0_deviceRead_4 (by decide) (fun h1 => ?_) (fun h1 => ?_)
  · exact absurd h1 (by decide)
  · refine lv_aload_n hx hb dX0_deviceRead_7 rfl (lv_at hl 0 rfl) ?_
    refine lv_iload_n hx hb dX0_deviceRead_8 rfl (lv_at hl 1 rfl) ?_
    refine w_call (wr := []) (wn := rdW ka a g) (va_runV (As := [.int (nI k)]) (rest := []) ⟨hx, hb, hml, hown, hts⟩ (m_ringAt_r D ka l a g k (by omega) (by omega) _) (cwV 1 hts (lw_V q90 q92 qs0 q4 q93) rfl rfl rfl (by decide +kernel) ⟨Nat.le_of_ble_eq_true rfl, Nat.le_of_ble_eq_true rfl⟩) (w_preV hK hP hD [0, 1, 2, 3, 4, 5, 6, 7, 8, 9, 10] (by decide) rfl rfl (q0 := 0) rfl) rfl rfl hl.1 rfl (lv_room (Nat.le_of_ble_eq_true rfl)) dX0_deviceRead_9 ⟨Nat.le_of_ble_eq_true rfl, Nat.le_of_ble_eq_true rfl⟩) hP hD hS hA [0, 1, 2, 3, 4, 5, 6, 7, 8, 9, 10] [] [0, 1, 2, 3, 4, 5, 6, 7, 8, 9, 10] rfl rfl (by decide) (by decide) (by decide) rfl (fun H locs hP hD hS => ?_)
    refine va_getN (D := D) (ci := 2) (v := .ref (a 8)) (C := RX3) (T := TX2) (N := 6) hx hb hts in_X3' hown hK.1 hP 7 rfl rfl 1 (by decide) (va_Nw.use rfl hK.2.1) (fun _ h9 => h9) rfl dX0_deviceRead_12 ?_
    refine lv_iload_n hx hb dX0_deviceRead_15 rfl (lv_at hl 1 rfl) ?_
    refine lv_bipush (v := nI 64) hx hb dX0_deviceRead_16 (by decide) ?_
    refine n_irem hx hb (by omega) (by decide) (by decide) dX0_deviceRead_18 ?_
    refine n_iald hx hb hK hP 8 rfl (by omega) (by decide) dX0_deviceRead_19 ?_
    exact e_int hx hb hr hlocks hP hD hS (by rw [pr_y (rdb_a g (by omega)), mem_b g (by omega) hk2, show k % 64 = k - 64 by omega]) (by rw [pr_y (rdb_a g (by omega))]) dX0_deviceRead_20
set_option maxHeartbeats 4000000 in
/-- deviceRead: the sending ring's buffers -/
theorem m_read_c (D : va_G) (ka : Nat → ClassId) (l : Launch) (a : Nat → Nat) (g : ST) (k : Nat) (hk : 128 ≤ k) (hk2 : k < 256) (sz : Nat) : CT D ka l yX0_deviceRead cX0_deviceRead 3 (some .int) ({ frames := 1, cells := 0, slots := 0, locals := 22 } : Room) [.ref (a 0), .int (nI k)] sz (rdW ka a g) (some (.int (p_read g k).1)) (rdW ka a (p_read g k).2) := by
  refine enter (by decide) (Nat.le_of_ble_eq_true rfl) ?_
  intro p e s m below meth c A ls F hP hD hS hl
  obtain ⟨hx, hb, hr, hlocks, hml, hown, hts, hA, hK, hnm⟩ := F
  have hl : lv_has ls 3 [(0, .ref (a 0)), (1, .int (nI k))] := hl
  refine lv_iload_n hx hb dX0_deviceRead_0 rfl (lv_at hl 1 rfl) ?_
  refine w_call (wr := rdW ka a g) (wn := rdW ka a g) (va_runS (As := [.int (nI k)]) (rest := []) ⟨hx, hb, hml, hown, hts⟩ (m_isRing_n D ka l [] (nI k) (Or.inr (nI_le (by omega) (by omega))) _) (va_cwS 1 hts (lw_S q87 q88 q4 q89) rfl rfl rfl (by decide +kernel) ⟨Nat.le_of_ble_eq_true rfl, Nat.le_of_ble_eq_true rfl⟩) (w_preS hK hP hD [] (by decide) rfl) rfl rfl hl.1 rfl (lv_room (Nat.le_of_ble_eq_true rfl)) dX0_deviceRead_1 ⟨Nat.le_of_ble_eq_true rfl, Nat.le_of_ble_eq_true rfl⟩) hP hD hS hA [] [0, 1, 2, 3, 4, 5, 6, 7, 8, 9, 10] [0, 1, 2, 3, 4, 5, 6, 7, 8, 9, 10] rfl rfl (by decide) (by decide) (by decide) rfl (fun H locs hP hD hS => ?_)
  refine z_if_eq (tgt := 21) hx hb dX0_deviceRead_4 (by decide) (fun h1 => ?_) (fun h1 => ?_)
  · refine lv_aload_n hx hb dX0_deviceRead_21 rfl (lv_at hl 0 rfl) ?_
    refine lv_iload_n hx hb dX0_deviceRead_22 rfl (lv_at hl 1 rfl) ?_
    refine w_call (wr := []) (wn := rdW ka a g) (va_runV (As := [.int (nI k)]) (rest := []) ⟨hx, hb, hml, hown, hts⟩ (m_bufferAt_t D ka l a g k (by omega) (by omega) _) (cwV 1 hts (lw_V q94 q96 qs1 q4 q97) rfl rfl rfl (by decide +kernel) ⟨Nat.le_of_ble_eq_true rfl, Nat.le_of_ble_eq_true rfl⟩) (w_preV hK hP hD [0, 1, 2, 3, 4, 5, 6, 7, 8, 9, 10] (by decide) rfl rfl (q0 := 0) rfl) rfl rfl hl.1 rfl (lv_room (Nat.le_of_ble_eq_true rfl)) dX0_deviceRead_23 ⟨Nat.le_of_ble_eq_true rfl, Nat.le_of_ble_eq_true rfl⟩) hP hD hS hA [0, 1, 2, 3, 4, 5, 6, 7, 8, 9, 10] [] [0, 1, 2, 3, 4, 5, 6, 7, 8, 9, 10] rfl rfl (by decide) (by decide) (by decide) rfl (fun H locs hP hD hS => ?_)
    refine lv_astore_n (lv' := [(2, .ref (a 3)), (0, .ref (a 0)), (1, .int (nI k))]) hx hb dX0_deviceRead_26 rfl hl (by decide) rfl (fun ls hl => ?_)
    refine lv_aload_n hx hb dX0_deviceRead_27 rfl (lv_at hl 0 rfl) ?_
    refine lv_ifnull hx hb dX0_deviceRead_28 ?_
    refine lv_aload_n hx hb dX0_deviceRead_31 rfl (lv_at hl 0 rfl) ?_
    refine w_call (wr := rdW ka a g) (wn := rdW ka a g) (va_runU (As := []) (rest := []) ⟨hx, hb, hml, hown, hts⟩ (m_mayReadX2 D ka l (a 3) [] _) (va_cwA 0 hts (lw_U q98 q100 q104 q105 q6 q106) rfl rfl rfl hK.2.2.2.2.1 (by decide +kernel) ⟨Nat.le_of_ble_eq_true rfl, Nat.le_of_ble_eq_true rfl⟩) (w_preV hK hP hD [] (by decide) rfl rfl (q0 := 3) rfl) rfl rfl hl.1 rfl (lv_room (Nat.le_of_ble_eq_true rfl)) dX0_deviceRead_32 ⟨Nat.le_of_ble_eq_true rfl, Nat.le_of_ble_eq_true rfl⟩) hP hD hS hA [] [0, 1, 2, 3, 4, 5, 6, 7, 8, 9, 10] [0, 1, 2, 3, 4, 5, 6, 7, 8, 9, 10] rfl rfl (by decide) (by decide) (by decide) rfl (fun H locs hP hD hS => ?_)
    refine z_if_eq (tgt := 63) hx hb dX0_deviceRead_35 (by decide) (fun h3 => ?_) (fun h3 => ?_)
    · exact absurd h3 (by decide)
    · refine lv_aload_n hx hb dX0_deviceRead_38 rfl (lv_at hl 0 rfl) ?_
      refine va_getN (D := D) (ci := 1) (v := .ref (a 6)) (C := RX2) (T := TX2) (N := 6) hx hb hts in_X2 hown hK.1 hP 3 rfl rfl 3 (by decide) (va_Nw.use rfl hK.2.2.2.1) (fun _ h9 => h9) rfl dX0_deviceRead_39 ?_
      refine lv_iload_n hx hb dX0_deviceRead_42 rfl (lv_at hl 2 rfl) ?_
      refine w_call (wr := rdW ka a g) (wn := rdW ka a g) (va_runS (As := [.int (nI k)]) (rest := [.ref (a 6)]) ⟨hx, hb, hml, hown, hts⟩ (m_slotAt D ka l [] k (by omega) _) (va_cwS 1 hts (lw_S q107 q108 q4 q109) rfl rfl rfl (by decide +kernel) ⟨Nat.le_of_ble_eq_true rfl, Nat.le_of_ble_eq_true rfl⟩) (w_preS hK hP hD [] (by decide) rfl) rfl rfl hl.1 rfl (lv_room (Nat.le_of_ble_eq_true rfl)) dX0_deviceRead_43 ⟨Nat.le_of_ble_eq_true rfl, Nat.le_of_ble_eq_true rfl⟩) hP hD hS hA [] [0, 1, 2, 3, 4, 5, 6, 7, 8, 9, 10] [0, 1, 2, 3, 4, 5, 6, 7, 8, 9, 10] rfl rfl (by decide) (by decide) (by decide) rfl (fun H locs hP hD hS => ?_)
      refine n_zald hx hb hK hP 6 rfl (by omega) (by decide) dX0_deviceRead_46 ?_
      refine z_if_eq (tgt := 63) hx hb dX0_deviceRead_47 (by decide) (fun h2 => ?_) (fun h2 => ?_)
      · refine lv_aload_n hx hb dX0_deviceRead_63 rfl (lv_at hl 1 rfl) ?_
        refine lv_dup hx hb dX0_deviceRead_64 rfl ?_
        refine va_get (D := D) (ci := 0) (v := .int g.2.2.2.2) (C := RX0) (T := TX0) (N := 5) hx hb hts in_X0 hown hK.1 hP 0 rfl rfl 4 (by decide) (hts _ q71) (fun _ h9 => h9) rfl dX0_deviceRead_65 ?_
        refine lv_iconst (v := nI 1) hx hb dX0_deviceRead_68 (by decide) ?_
        refine lv_iadd hx hb dX0_deviceRead_69 ?_
        refine va_put (D := D) (ci := 0) (v := .int (g.2.2.2.2 + nI 1)) (ty := .int) (C := RX0) (T := TX0) (N := 5) hx hb hts in_X0 tyX0 tyX0_ok nmX0 hown hK.1 hP hD hS 0 rfl rfl 4 (by decide) (hts _ q71) (fun _ h9 => h9) rfl (by decide +kernel) rfl rfl (Nat.le_of_ble_eq_true rfl) dX0_deviceRead_70 (fun H locs hP hD hS => ?_)
        have hP : va_P D vwCl (rdW ka a (flt g)) H := hP
        have hD : va_D A (rdW ka a (flt g)) := hD
        refine lv_iconst (v := (-1)) hx hb dX0_deviceRead_73 (by decide) ?_
        exact e_int hx hb hr hlocks hP hD hS (by rw [pr_n ((rdb_b g hk hk2).trans h2)]) (by rw [pr_n ((rdb_b g hk hk2).trans h2)]) dX0_deviceRead_74
      · refine lv_aload_n hx hb dX0_deviceRead_50 rfl (lv_at hl 0 rfl) ?_
        refine lv_iload_n hx hb dX0_deviceRead_51 rfl (lv_at hl 2 rfl) ?_
        refine w_call (wr := rdW ka a g) (wn := rdW ka a g) (va_runS (As := [.int (nI k)]) (rest := [.ref (a 3)]) ⟨hx, hb, hml, hown, hts⟩ (m_slotAt D ka l [] k (by omega) _) (va_cwS 1 hts (lw_S q107 q108 q4 q109) rfl rfl rfl (by decide +kernel) ⟨Nat.le_of_ble_eq_true rfl, Nat.le_of_ble_eq_true rfl⟩) (w_preS hK hP hD [] (by decide) rfl) rfl rfl hl.1 rfl (lv_room (Nat.le_of_ble_eq_true rfl)) dX0_deviceRead_52 ⟨Nat.le_of_ble_eq_true rfl, Nat.le_of_ble_eq_true rfl⟩) hP hD hS hA [] [0, 1, 2, 3, 4, 5, 6, 7, 8, 9, 10] [0, 1, 2, 3, 4, 5, 6, 7, 8, 9, 10] rfl rfl (by decide) (by decide) (by decide) rfl (fun H locs hP hD hS => ?_)
        refine lv_iload_n hx hb dX0_deviceRead_55 rfl (lv_at hl 2 rfl) ?_
        refine lv_bipush (v := nI 16) hx hb dX0_deviceRead_56 (by decide) ?_
        refine n_irem hx hb (by omega) (by decide) (by decide) dX0_deviceRead_58 ?_
        refine w_call (wr := rdRt ka a g) (wn := rdW ka a g) (va_runU (As := [.int (nI (k / 16 % 8)), .int (nI (k % 16))]) (rest := []) ⟨hx, hb, hml, hown, hts⟩ (m_byteOf D ka l rgT 8 (fun i => a (3 + i)) g.1 (k / 16 % 8) (k % 16) (by omega) _) (va_cwU 2 hts (lw_U q110 q112 q114 q111 q5 q115) rfl rfl rfl rfl (by decide +kernel) ⟨Nat.le_of_ble_eq_true rfl, Nat.le_of_ble_eq_true rfl⟩) (w_preV hK hP hD [3, 4, 5, 6] (by decide) rfl rfl (q0 := 3) rfl) rfl rfl hl.1 rfl (lv_room (Nat.le_of_ble_eq_true rfl)) dX0_deviceRead_59 ⟨Nat.le_of_ble_eq_true rfl, Nat.le_of_ble_eq_true rfl⟩) hP hD hS hA [3, 4, 5, 6] [0, 1, 2, 7, 8, 9, 10] [0, 1, 2, 7, 8, 9, 10, 3, 4, 5, 6] rfl rfl (by decide) (by decide) (by decide) rfl (fun H locs hP hD hS => ?_)
        exact e_int hx hb hr hlocks hP hD hS (by rw [pr_y ((rdb_b g hk hk2).trans h2), mem_c g (by omega) hk2, show 16 * (k / 16 % 8) + k % 16 = k - 128 by omega]) (by rw [pr_y ((rdb_b g hk hk2).trans h2)]) dX0_deviceRead_62
  · exact absurd h1 (by decide)
set_option maxHeartbeats 4000000 in
/-- deviceRead: the receiving ring's buffers -/
theorem m_read_d (D : va_G) (ka : Nat → ClassId) (l : Launch) (a : Nat → Nat) (g : ST) (k : Nat) (hk : 256 ≤ k) (hk2 : k < 384) (sz : Nat) : CT D ka l yX0_deviceRead cX0_deviceRead 3 (some .int) ({ frames := 1, cells := 0, slots := 0, locals := 22 } : Room) [.ref (a 0), .int (nI k)] sz (rdW ka a g) (some (.int (p_read g k).1)) (rdW ka a (p_read g k).2) := by
  refine enter (by decide) (Nat.le_of_ble_eq_true rfl) ?_
  intro p e s m below meth c A ls F hP hD hS hl
  obtain ⟨hx, hb, hr, hlocks, hml, hown, hts, hA, hK, hnm⟩ := F
  have hl : lv_has ls 3 [(0, .ref (a 0)), (1, .int (nI k))] := hl
  refine lv_iload_n hx hb dX0_deviceRead_0 rfl (lv_at hl 1 rfl) ?_
  refine w_call (wr := rdW ka a g) (wn := rdW ka a g) (va_runS (As := [.int (nI k)]) (rest := []) ⟨hx, hb, hml, hown, hts⟩ (m_isRing_n D ka l [] (nI k) (Or.inr (nI_le (by omega) (by omega))) _) (va_cwS 1 hts (lw_S q87 q88 q4 q89) rfl rfl rfl (by decide +kernel) ⟨Nat.le_of_ble_eq_true rfl, Nat.le_of_ble_eq_true rfl⟩) (w_preS hK hP hD [] (by decide) rfl) rfl rfl hl.1 rfl (lv_room (Nat.le_of_ble_eq_true rfl)) dX0_deviceRead_1 ⟨Nat.le_of_ble_eq_true rfl, Nat.le_of_ble_eq_true rfl⟩) hP hD hS hA [] [0, 1, 2, 3, 4, 5, 6, 7, 8, 9, 10] [0, 1, 2, 3, 4, 5, 6, 7, 8, 9, 10] rfl rfl (by decide) (by decide) (by decide) rfl (fun H locs hP hD hS => ?_)
  refine z_if_eq (tgt := 21) hx hb dX0_deviceRead_4 (by decide) (fun h1 => ?_) (fun h1 => ?_)
  · refine lv_aload_n hx hb dX0_deviceRead_21 rfl (lv_at hl 0 rfl) ?_
    refine lv_iload_n hx hb dX0_deviceRead_22 rfl (lv_at hl 1 rfl) ?_
    refine w_call (wr := []) (wn := rdW ka a g) (va_runV (As := [.int (nI k)]) (rest := []) ⟨hx, hb, hml, hown, hts⟩ (m_bufferAt_r D ka l a g k (by omega) (by omega) _) (cwV 1 hts (lw_V q94 q96 qs1 q4 q97) rfl rfl rfl (by decide +kernel) ⟨Nat.le_of_ble_eq_true rfl, Nat.le_of_ble_eq_true rfl⟩) (w_preV hK hP hD [0, 1, 2, 3, 4, 5, 6, 7, 8, 9, 10] (by decide) rfl rfl (q0 := 0) rfl) rfl rfl hl.1 rfl (lv_room (Nat.le_of_ble_eq_true rfl)) dX0_deviceRead_23 ⟨Nat.le_of_ble_eq_true rfl, Nat.le_of_ble_eq_true rfl⟩) hP hD hS hA [0, 1, 2, 3, 4, 5, 6, 7, 8, 9, 10] [] [0, 1, 2, 3, 4, 5, 6, 7, 8, 9, 10] rfl rfl (by decide) (by decide) (by decide) rfl (fun H locs hP hD hS => ?_)
    refine lv_astore_n (lv' := [(2, .ref (a 7)), (0, .ref (a 0)), (1, .int (nI k))]) hx hb dX0_deviceRead_26 rfl hl (by decide) rfl (fun ls hl => ?_)
    refine lv_aload_n hx hb dX0_deviceRead_27 rfl (lv_at hl 0 rfl) ?_
    refine lv_ifnull hx hb dX0_deviceRead_28 ?_
    refine lv_aload_n hx hb dX0_deviceRead_31 rfl (lv_at hl 0 rfl) ?_
    refine w_call (wr := rdW ka a g) (wn := rdW ka a g) (va_runU (As := []) (rest := []) ⟨hx, hb, hml, hown, hts⟩ (m_mayReadX3 D ka l (a 7) [] _) (va_cwA 0 hts (lw_U q98 q100 q101 q102 q7 q103) rfl rfl rfl hK.2.2.2.2.1 (by decide +kernel) ⟨Nat.le_of_ble_eq_true rfl, Nat.le_of_ble_eq_true rfl⟩) (w_preV hK hP hD [] (by decide) rfl rfl (q0 := 7) rfl) rfl rfl hl.1 rfl (lv_room (Nat.le_of_ble_eq_true rfl)) dX0_deviceRead_32 ⟨Nat.le_of_ble_eq_true rfl, Nat.le_of_ble_eq_true rfl⟩) hP hD hS hA [] [0, 1, 2, 3, 4, 5, 6, 7, 8, 9, 10] [0, 1, 2, 3, 4, 5, 6, 7, 8, 9, 10] rfl rfl (by decide) (by decide) (by decide) rfl (fun H locs hP hD hS => ?_)
    refine z_if_eq (tgt := 63) hx hb dX0_deviceRead_35 (by decide) (fun h3 => ?_) (fun h3 => ?_)
    · refine lv_aload_n hx hb dX0_deviceRead_63 rfl (lv_at hl 1 rfl) ?_
      refine lv_dup hx hb dX0_deviceRead_64 rfl ?_
      refine va_get (D := D) (ci := 0) (v := .int g.2.2.2.2) (C := RX0) (T := TX0) (N := 5) hx hb hts in_X0 hown hK.1 hP 0 rfl rfl 4 (by decide) (hts _ q71) (fun _ h9 => h9) rfl dX0_deviceRead_65 ?_
      refine lv_iconst (v := nI 1) hx hb dX0_deviceRead_68 (by decide) ?_
      refine lv_iadd hx hb dX0_deviceRead_69 ?_
      refine va_put (D := D) (ci := 0) (v := .int (g.2.2.2.2 + nI 1)) (ty := .int) (C := RX0) (T := TX0) (N := 5) hx hb hts in_X0 tyX0 tyX0_ok nmX0 hown hK.1 hP hD hS 0 rfl rfl 4 (by decide) (hts _ q71) (fun _ h9 => h9) rfl (by decide +kernel) rfl rfl (Nat.le_of_ble_eq_true rfl) dX0_deviceRead_70 (fun H locs hP hD hS => ?_)
      have hP : va_P D vwCl (rdW ka a (flt g)) H := hP
      have hD : va_D A (rdW ka a (flt g)) := hD
      refine lv_iconst (v := (-1)) hx hb dX0_deviceRead_73 (by decide) ?_
      exact e_int hx hb hr hlocks hP hD hS (by rw [pr_n (rdb_c g hk)]) (by rw [pr_n (rdb_c g hk)]) dX0_deviceRead_74
    · exact absurd h3 (by decide)
  · exact absurd h1 (by decide)
set_option maxHeartbeats 4000000 in
/-- deviceRead: no such address -/
theorem m_read_o (D : va_G) (ka : Nat → ClassId) (l : Launch) (a : Nat → Nat) (g : ST) (x : Int32) (h : x < 0 ∨ nI 384 ≤ x) (sz : Nat) : CT D ka l yX0_deviceRead cX0_deviceRead 3 (some .int) ({ frames := 1, cells := 0, slots := 0, locals := 22 } : Room) [.ref (a 0), .int x] sz (rdW ka a g) (some (.int (-1))) (rdW ka a (flt g)) := by
  refine enter (by decide) (Nat.le_of_ble_eq_true rfl) ?_
  intro p e s m below meth c A ls F hP hD hS hl
  obtain ⟨hx, hb, hr, hlocks, hml, hown, hts, hA, hK, hnm⟩ := F
  have hl : lv_has ls 3 [(0, .ref (a 0)), (1, .int x)] := hl
  refine lv_iload_n hx hb dX0_deviceRead_0 rfl (lv_at hl 1 rfl) ?_
  refine w_call (wr := rdW ka a g) (wn := rdW ka a g) (va_runS (As := [.int x]) (rest := []) ⟨hx, hb, hml, hown, hts⟩ (m_isRing_n D ka l [] x (h.imp id (fun q => i32_le (by decide) (by decide) q)) _) (va_cwS 1 hts (lw_S q87 q88 q4 q89) rfl rfl rfl (by decide +kernel) ⟨Nat.le_of_ble_eq_true rfl, Nat.le_of_ble_eq_true rfl⟩) (w_preS hK hP hD [] (by decide) rfl) rfl rfl hl.1 rfl (lv_room (Nat.le_of_ble_eq_true rfl)) dX0_deviceRead_1 ⟨Nat.le_of_ble_eq_true rfl, Nat.le_of_ble_eq_true rfl⟩) hP hD hS hA [] [0, 1, 2, 3, 4, 5, 6, 7, 8, 9, 10] [0, 1, 2, 3, 4, 5, 6, 7, 8, 9, 10] rfl rfl (by decide) (by decide) (by decide) rfl (fun H locs hP hD hS => ?_)
  refine z_if_eq (tgt := 21) hx hb dX0_deviceRead_4 (by decide) (fun h1 => ?_) (fun h1 => ?_)
  · refine lv_aload_n hx hb dX0_deviceRead_21 rfl (lv_at hl 0 rfl) ?_
    refine lv_iload_n hx hb dX0_deviceRead_22 rfl (lv_at hl 1 rfl) ?_
    refine w_call (wr := []) (wn := rdW ka a g) (va_runV (As := [.int x]) (rest := []) ⟨hx, hb, hml, hown, hts⟩ (m_bufferAt_n D ka l a g x (h.imp (fun q => i32_neglt (by decide) q) id) _) (cwV 1 hts (lw_V q94 q96 qs1 q4 q97) rfl rfl rfl (by decide +kernel) ⟨Nat.le_of_ble_eq_true rfl, Nat.le_of_ble_eq_true rfl⟩) (w_preV hK hP hD [0, 1, 2, 3, 4, 5, 6, 7, 8, 9, 10] (by decide) rfl rfl (q0 := 0) rfl) rfl rfl hl.1 rfl (lv_room (Nat.le_of_ble_eq_true rfl)) dX0_deviceRead_23 ⟨Nat.le_of_ble_eq_true rfl, Nat.le_of_ble_eq_true rfl⟩) hP hD hS hA [0, 1, 2, 3, 4, 5, 6, 7, 8, 9, 10] [] [0, 1, 2, 3, 4, 5, 6, 7, 8, 9, 10] rfl rfl (by decide) (by decide) (by decide) rfl (fun H locs hP hD hS => ?_)
    refine lv_astore_nN (lv' := [(2, .null), (0, .ref (a 0)), (1, .int x)]) hx hb dX0_deviceRead_26 rfl hl (by decide) rfl (fun ls hl => ?_)
    refine lv_aload_nN hx hb dX0_deviceRead_27 rfl (lv_at hl 0 rfl) ?_
    refine lv_ifnullN (tgt := 63) hx hb dX0_deviceRead_28 (by decide) ?_
    refine lv_aload_n hx hb dX0_deviceRead_63 rfl (lv_at hl 1 rfl) ?_
    refine lv_dup hx hb dX0_deviceRead_64 rfl ?_
    refine va_get (D := D) (ci := 0) (v := .int g.2.2.2.2) (C := RX0) (T := TX0) (N := 5) hx hb hts in_X0 hown hK.1 hP 0 rfl rfl 4 (by decide) (hts _ q71) (fun _ h9 => h9) rfl dX0_deviceRead_65 ?_
    refine lv_iconst (v := nI 1) hx hb dX0_deviceRead_68 (by decide) ?_
    refine lv_iadd hx hb dX0_deviceRead_69 ?_
    refine va_put (D := D) (ci := 0) (v := .int (g.2.2.2.2 + nI 1)) (ty := .int) (C := RX0) (T := TX0) (N := 5) hx hb hts in_X0 tyX0 tyX0_ok nmX0 hown hK.1 hP hD hS 0 rfl rfl 4 (by decide) (hts _ q71) (fun _ h9 => h9) rfl (by decide +kernel) rfl rfl (Nat.le_of_ble_eq_true rfl) dX0_deviceRead_70 (fun H locs hP hD hS => ?_)
    have hP : va_P D vwCl (rdW ka a (flt g)) H := hP
    have hD : va_D A (rdW ka a (flt g)) := hD
    refine lv_iconst (v := (-1)) hx hb dX0_deviceRead_73 (by decide) ?_
    exact e_int hx hb hr hlocks hP hD hS (rfl) (rfl) dX0_deviceRead_74
  · exact absurd h1 (by decide)
/-- deviceRead(k), k below 384 -/
theorem m_read (D : va_G) (ka : Nat → ClassId) (l : Launch) (a : Nat → Nat) (g : ST) (k : Nat) (hk : k < 384) (sz : Nat) : CT D ka l yX0_deviceRead cX0_deviceRead 3 (some .int) ({ frames := 1, cells := 0, slots := 0, locals := 22 } : Room) [.ref (a 0), .int (nI k)] sz (rdW ka a g) (some (.int (p_read g k).1)) (rdW ka a (p_read g k).2) := by
  by_cases h1 : k < 64
  · exact m_read_a D ka l a g k h1 sz
  · by_cases h2 : k < 128
    · exact m_read_b D ka l a g k (by omega) h2 sz
    · by_cases h3 : k < 256
      · exact m_read_c D ka l a g k (by omega) h3 sz
      · exact m_read_d D ka l a g k (by omega) hk sz
set_option maxHeartbeats 4000000 in
/-- deviceWrite: the sending ring's descriptors -/
theorem m_write_a (D : va_G) (ka : Nat → ClassId) (l : Launch) (a : Nat → Nat) (g : ST) (k : Nat) (v : Int32) (hk : k < 64) (sz : Nat) : CT D ka l yX0_deviceWrite cX0_deviceWrite 4 (some .int) ({ frames := 1, cells := 0, slots := 0, locals := 22 } : Room) [.ref (a 0), .int (nI k), .int v] sz (rdW ka a g) (some (.int (p_write g k (nb v)).1)) (rdW ka a (p_write g k (nb v)).2) := by
  refine enter (by decide) (Nat.le_of_ble_eq_true rfl) ?_
  intro p e s m below meth c A ls F hP hD hS hl
  obtain ⟨hx, hb, hr, hlocks, hml, hown, hts, hA, hK, hnm⟩ := F
  have hl : lv_has ls 4 [(0, .ref (a 0)), (1, .int (nI k)), (2, .int v)] := hl
  refine lv_iload_n hx hb dX0_deviceWrite_0 rfl (lv_at hl 1 rfl) ?_
  refine w_call (wr := rdW ka a g) (wn := rdW ka a g) (va_runS (As := [.int (nI k)]) (rest := []) ⟨hx, hb, hml, hown, hts⟩ (m_isRing_y D ka l [] k (by omega) _) (va_cwS 1 hts (lw_S q87 q88 q4 q89) rfl rfl rfl (by decide +kernel) ⟨Nat.le_of_ble_eq_true rfl, Nat.le_of_ble_eq_true rfl⟩) (w_preS hK hP hD [] (by decide) rfl) rfl rfl hl.1 rfl (lv_room (Nat.le_of_ble_eq_true rfl)) dX0_deviceWrite_1 ⟨Nat.le_of_ble_eq_true rfl, Nat.le_of_ble_eq_true rfl⟩) hP hD hS hA [] [0, 1, 2, 3, 4, 5, 6, 7, 8, 9, 10] [0, 1, 2, 3, 4, 5, 6, 7, 8, 9, 10] rfl rfl (by decide) (by decide) (by decide) rfl (fun H locs hP hD hS => ?_)
  refine z_if_eq (tgt := 27) hx hb dX0_deviceWrite_4 (by decide) (fun h1 => ?_) (fun h1 => ?_)
  · exact absurd h1 (by decide)
  · refine lv_aload_n hx hb dX0_deviceWrite_7 rfl (lv_at hl 0 rfl) ?_
    refine lv_iload_n hx hb dX0_deviceWrite_8 rfl (lv_at hl 1 rfl) ?_
    refine w_call (wr := []) (wn := rdW ka a g) (va_runV (As := [.int (nI k)]) (rest := []) ⟨hx, hb, hml, hown, hts⟩ (m_ringAt_t D ka l a g k (by omega) _) (cwV 1 hts (lw_V q90 q92 qs0 q4 q93) rfl rfl rfl (by decide +kernel) ⟨Nat.le_of_ble_eq_true rfl, Nat.le_of_ble_eq_true rfl⟩) (w_preV hK hP hD [0, 1, 2, 3, 4, 5, 6, 7, 8, 9, 10] (by decide) rfl rfl (q0 := 0) rfl) rfl rfl hl.1 rfl (lv_room (Nat.le_of_ble_eq_true rfl)) dX0_deviceWrite_9 ⟨Nat.le_of_ble_eq_true rfl, Nat.le_of_ble_eq_true rfl⟩) hP hD hS hA [0, 1, 2, 3, 4, 5, 6, 7, 8, 9, 10] [] [0, 1, 2, 3, 4, 5, 6, 7, 8, 9, 10] rfl rfl (by decide) (by decide) (by decide) rfl (fun H locs hP hD hS => ?_)
    refine va_getN (D := D) (ci := 1) (v := .ref (a 4)) (C := RX2) (T := TX2) (N := 6) hx hb hts in_X2 hown hK.1 hP 3 rfl rfl 1 (by decide) (va_Nw.use rfl hK.2.1) (fun _ h9 => h9) rfl dX0_deviceWrite_12 ?_
    refine lv_iload_n hx hb dX0_deviceWrite_15 rfl (lv_at hl 1 rfl) ?_
    refine lv_bipush (v := nI 64) hx hb dX0_deviceWrite_16 (by decide) ?_
    refine n_irem hx hb (by omega) (by decide) (by decide) dX0_deviceWrite_18 ?_
    refine lv_iload_n hx hb dX0_deviceWrite_19 rfl (lv_at hl 2 rfl) ?_
    refine lv_sipush (v := nI 255) hx hb dX0_deviceWrite_20 (by decide) ?_
    refine n_and8 hx hb dX0_deviceWrite_23 ?_
    refine n_iast (wn := rdW ka a (s_t g (g_d g.1 (va_up g.1.2.2.1 (k % 64) (nb v))))) hx hb hK hP hD hS 4 (nb v) rfl (by omega) (by decide) (rfl) (rfl) dX0_deviceWrite_24 (fun H locs hP hD hS => ?_)
    refine lv_iconst (v := nI 0) hx hb dX0_deviceWrite_25 (by decide) ?_
    exact e_int hx hb hr hlocks hP hD hS (by rw [pw_y (wrb_a g (by omega))]) (by rw [pw_y (wrb_a g (by omega)), wr, if_pos hk, Nat.mod_eq_of_lt hk]) dX0_deviceWrite_26
set_option maxHeartbeats 4000000 in
/-- deviceWrite: the receiving ring's descriptors -/
theorem m_write_b (D : va_G) (ka : Nat → ClassId) (l : Launch) (a : Nat → Nat) (g : ST) (k : Nat) (v : Int32) (hk : 64 ≤ k) (hk2 : k < 128) (sz : Nat) : CT D ka l yX0_deviceWrite cX0_deviceWrite 4 (some .int) ({ frames := 1, cells := 0, slots := 0, locals := 22 } : Room) [.ref (a 0), .int (nI k), .int v] sz (rdW ka a g) (some (.int (p_write g k (nb v)).1)) (rdW ka a (p_write g k (nb v)).2) := by
  refine enter (by decide) (Nat.le_of_ble_eq_true rfl) ?_
  intro p e s m below meth c A ls F hP hD hS hl
  obtain ⟨hx, hb, hr, hlocks, hml, hown, hts, hA, hK, hnm⟩ := F
  have hl : lv_has ls 4 [(0, .ref (a 0)), (1, .int (nI k)), (2, .int v)] := hl
  refine lv_iload_n hx hb dX0_deviceWrite_0 rfl (lv_at hl 1 rfl) ?_
  refine w_call (wr := rdW ka a g) (wn := rdW ka a g) (va_runS (As := [.int (nI k)]) (rest := []) ⟨hx, hb, hml, hown, hts⟩ (m_isRing_y D ka l [] k (by omega) _) (va_cwS 1 hts (lw_S q87 q88 q4 q89) rfl rfl rfl (by decide +kernel) ⟨Nat.le_of_ble_eq_true rfl, Nat.le_of_ble_eq_true rfl⟩) (w_preS hK hP hD [] (by decide) rfl) rfl rfl hl.1 rfl (lv_room (Nat.le_of_ble_eq_true rfl)) dX0_deviceWrite_1 ⟨Nat.le_of_ble_eq_true rfl, Nat.le_of_ble_eq_true rfl⟩) hP hD hS hA [] [0, 1, 2, 3, 4, 5, 6, 7, 8, 9, 10] [0, 1, 2, 3, 4, 5, 6, 7, 8, 9, 10] rfl rfl (by decide) (by decide) (by decide) rfl (fun H locs hP hD hS => ?_)
  refine z_if_eq (tgt := 27) hx hb dX0_deviceWrite_4 (by decide) (fun h1 => ?_) (fun h1 => ?_)
  · exact absurd h1 (by decide)
  · refine lv_aload_n hx hb dX0_deviceWrite_7 rfl (lv_at hl 0 rfl) ?_
    refine lv_iload_n hx hb dX0_deviceWrite_8 rfl (lv_at hl 1 rfl) ?_
    refine w_call (wr := []) (wn := rdW ka a g) (va_runV (As := [.int (nI k)]) (rest := []) ⟨hx, hb, hml, hown, hts⟩ (m_ringAt_r D ka l a g k (by omega) (by omega) _) (cwV 1 hts (lw_V q90 q92 qs0 q4 q93) rfl rfl rfl (by decide +kernel) ⟨Nat.le_of_ble_eq_true rfl, Nat.le_of_ble_eq_true rfl⟩) (w_preV hK hP hD [0, 1, 2, 3, 4, 5, 6, 7, 8, 9, 10] (by decide) rfl rfl (q0 := 0) rfl) rfl rfl hl.1 rfl (lv_room (Nat.le_of_ble_eq_true rfl)) dX0_deviceWrite_9 ⟨Nat.le_of_ble_eq_true rfl, Nat.le_of_ble_eq_true rfl⟩) hP hD hS hA [0, 1, 2, 3, 4, 5, 6, 7, 8, 9, 10] [] [0, 1, 2, 3, 4, 5, 6, 7, 8, 9, 10] rfl rfl (by decide) (by decide) (by decide) rfl (fun H locs hP hD hS => ?_)
    refine va_getN (D := D) (ci := 2) (v := .ref (a 8)) (C := RX3) (T := TX2) (N := 6) hx hb hts in_X3' hown hK.1 hP 7 rfl rfl 1 (by decide) (va_Nw.use rfl hK.2.1) (fun _ h9 => h9) rfl dX0_deviceWrite_12 ?_
    refine lv_iload_n hx hb dX0_deviceWrite_15 rfl (lv_at hl 1 rfl) ?_
    refine lv_bipush (v := nI 64) hx hb dX0_deviceWrite_16 (by decide) ?_
    refine n_irem hx hb (by omega) (by decide) (by decide) dX0_deviceWrite_18 ?_
    refine lv_iload_n hx hb dX0_deviceWrite_19 rfl (lv_at hl 2 rfl) ?_
    refine lv_sipush (v := nI 255) hx hb dX0_deviceWrite_20 (by decide) ?_
    refine n_and8 hx hb dX0_deviceWrite_23 ?_
    refine n_iast (wn := rdW ka a (s_r g (g_d g.2.1 (va_up g.2.1.2.2.1 (k % 64) (nb v))))) hx hb hK hP hD hS 8 (nb v) rfl (by omega) (by decide) (rfl) (rfl) dX0_deviceWrite_24 (fun H locs hP hD hS => ?_)
    refine lv_iconst (v := nI 0) hx hb dX0_deviceWrite_25 (by decide) ?_
    exact e_int hx hb hr hlocks hP hD hS (by rw [pw_y (wrb_a g (by omega))]) (by rw [pw_y (wrb_a g (by omega)), wr, if_neg (by omega), if_pos hk2, show k % 64 = k - 64 by omega]) dX0_deviceWrite_26
set_option maxHeartbeats 4000000 in
/-- deviceWrite: the sending ring's buffers -/
theorem m_write_c (D : va_G) (ka : Nat → ClassId) (l : Launch) (a : Nat → Nat) (g : ST) (k : Nat) (v : Int32) (hk : 128 ≤ k) (hk2 : k < 256) (sz : Nat) : CT D ka l yX0_deviceWrite cX0_deviceWrite 4 (some .int) ({ frames := 1, cells := 0, slots := 0, locals := 22 } : Room) [.ref (a 0), .int (nI k), .int v] sz (rdW ka a g) (some (.int (p_write g k (nb v)).1)) (rdW ka a (p_write g k (nb v)).2) := by
  refine enter (by decide) (Nat.le_of_ble_eq_true rfl) ?_
  intro p e s m below meth c A ls F hP hD hS hl
  obtain ⟨hx, hb, hr, hlocks, hml, hown, hts, hA, hK, hnm⟩ := F
  have hl : lv_has ls 4 [(0, .ref (a 0)), (1, .int (nI k)), (2, .int v)] := hl
  refine lv_iload_n hx hb dX0_deviceWrite_0 rfl (lv_at hl 1 rfl) ?_
  refine w_call (wr := rdW ka a g) (wn := rdW ka a g) (va_runS (As := [.int (nI k)]) (rest := []) ⟨hx, hb, hml, hown, hts⟩ (m_isRing_n D ka l [] (nI k) (Or.inr (nI_le (by omega) (by omega))) _) (va_cwS 1 hts (lw_S q87 q88 q4 q89) rfl rfl rfl (by decide +kernel) ⟨Nat.le_of_ble_eq_true rfl, Nat.le_of_ble_eq_true rfl⟩) (w_preS hK hP hD [] (by decide) rfl) rfl rfl hl.1 rfl (lv_room (Nat.le_of_ble_eq_true rfl)) dX0_deviceWrite_1 ⟨Nat.le_of_ble_eq_true rfl, Nat.le_of_ble_eq_true rfl⟩) hP hD hS hA [] [0, 1, 2, 3, 4, 5, 6, 7, 8, 9, 10] [0, 1, 2, 3, 4, 5, 6, 7, 8, 9, 10] rfl rfl (by decide) (by decide) (by decide) rfl (fun H locs hP hD hS => ?_)
  refine z_if_eq (tgt := 27) hx hb dX0_deviceWrite_4 (by decide) (fun h1 => ?_) (fun h1 => ?_)
  · refine lv_aload_n hx hb dX0_deviceWrite_27 rfl (lv_at hl 0 rfl) ?_
    refine lv_iload_n hx hb dX0_deviceWrite_28 rfl (lv_at hl 1 rfl) ?_
    refine w_call (wr := []) (wn := rdW ka a g) (va_runV (As := [.int (nI k)]) (rest := []) ⟨hx, hb, hml, hown, hts⟩ (m_bufferAt_t D ka l a g k (by omega) (by omega) _) (cwV 1 hts (lw_V q94 q96 qs1 q4 q97) rfl rfl rfl (by decide +kernel) ⟨Nat.le_of_ble_eq_true rfl, Nat.le_of_ble_eq_true rfl⟩) (w_preV hK hP hD [0, 1, 2, 3, 4, 5, 6, 7, 8, 9, 10] (by decide) rfl rfl (q0 := 0) rfl) rfl rfl hl.1 rfl (lv_room (Nat.le_of_ble_eq_true rfl)) dX0_deviceWrite_29 ⟨Nat.le_of_ble_eq_true rfl, Nat.le_of_ble_eq_true rfl⟩) hP hD hS hA [0, 1, 2, 3, 4, 5, 6, 7, 8, 9, 10] [] [0, 1, 2, 3, 4, 5, 6, 7, 8, 9, 10] rfl rfl (by decide) (by decide) (by decide) rfl (fun H locs hP hD hS => ?_)
    refine lv_astore_n (lv' := [(3, .ref (a 3)), (0, .ref (a 0)), (1, .int (nI k)), (2, .int v)]) hx hb dX0_deviceWrite_32 rfl hl (by decide) rfl (fun ls hl => ?_)
    refine lv_aload_n hx hb dX0_deviceWrite_33 rfl (lv_at hl 0 rfl) ?_
    refine lv_ifnull hx hb dX0_deviceWrite_34 ?_
    refine lv_aload_n hx hb dX0_deviceWrite_37 rfl (lv_at hl 0 rfl) ?_
    refine w_call (wr := rdW ka a g) (wn := rdW ka a g) (va_runU (As := []) (rest := []) ⟨hx, hb, hml, hown, hts⟩ (m_mayWriteX2 D ka l (a 3) [] _) (va_cwA 0 hts (lw_U q120 q122 q126 q127 q6 q128) rfl rfl rfl hK.2.2.2.2.2 (by decide +kernel) ⟨Nat.le_of_ble_eq_true rfl, Nat.le_of_ble_eq_true rfl⟩) (w_preV hK hP hD [] (by decide) rfl rfl (q0 := 3) rfl) rfl rfl hl.1 rfl (lv_room (Nat.le_of_ble_eq_true rfl)) dX0_deviceWrite_38 ⟨Nat.le_of_ble_eq_true rfl, Nat.le_of_ble_eq_true rfl⟩) hP hD hS hA [] [0, 1, 2, 3, 4, 5, 6, 7, 8, 9, 10] [0, 1, 2, 3, 4, 5, 6, 7, 8, 9, 10] rfl rfl (by decide) (by decide) (by decide) rfl (fun H locs hP hD hS => ?_)
    refine z_if_eq (tgt := 80) hx hb dX0_deviceWrite_41 (by decide) (fun h3 => ?_) (fun h3 => ?_)
    · refine lv_aload_n hx hb dX0_deviceWrite_80 rfl (lv_at hl 1 rfl) ?_
      refine lv_dup hx hb dX0_deviceWrite_81 rfl ?_
      refine va_get (D := D) (ci := 0) (v := .int g.2.2.2.2) (C := RX0) (T := TX0) (N := 5) hx hb hts in_X0 hown hK.1 hP 0 rfl rfl 4 (by decide) (hts _ q71) (fun _ h9 => h9) rfl dX0_deviceWrite_82 ?_
      refine lv_iconst (v := nI 1) hx hb dX0_deviceWrite_85 (by decide) ?_
      refine lv_iadd hx hb dX0_deviceWrite_86 ?_
      refine va_put (D := D) (ci := 0) (v := .int (g.2.2.2.2 + nI 1)) (ty := .int) (C := RX0) (T := TX0) (N := 5) hx hb hts in_X0 tyX0 tyX0_ok nmX0 hown hK.1 hP hD hS 0 rfl rfl 4 (by decide) (hts _ q71) (fun _ h9 => h9) rfl (by decide +kernel) rfl rfl (Nat.le_of_ble_eq_true rfl) dX0_deviceWrite_87 (fun H locs hP hD hS => ?_)
      have hP : va_P D vwCl (rdW ka a (flt g)) H := hP
      have hD : va_D A (rdW ka a (flt g)) := hD
      refine lv_iconst (v := (-1)) hx hb dX0_deviceWrite_90 (by decide) ?_
      exact e_int hx hb hr hlocks hP hD hS (by rw [pw_n (wrb_b g hk hk2)]) (by rw [pw_n (wrb_b g hk hk2)]) dX0_deviceWrite_91
    · exact absurd h3 (by decide)
  · exact absurd h1 (by decide)
set_option maxHeartbeats 4000000 in
/-- deviceWrite: the receiving ring's buffers -/
theorem m_write_d (D : va_G) (ka : Nat → ClassId) (l : Launch) (a : Nat → Nat) (g : ST) (k : Nat) (v : Int32) (hk : 256 ≤ k) (hk2 : k < 384) (sz : Nat) : CT D ka l yX0_deviceWrite cX0_deviceWrite 4 (some .int) ({ frames := 1, cells := 0, slots := 0, locals := 22 } : Room) [.ref (a 0), .int (nI k), .int v] sz (rdW ka a g) (some (.int (p_write g k (nb v)).1)) (rdW ka a (p_write g k (nb v)).2) := by
  refine enter (by decide) (Nat.le_of_ble_eq_true rfl) ?_
  intro p e s m below meth c A ls F hP hD hS hl
  obtain ⟨hx, hb, hr, hlocks, hml, hown, hts, hA, hK, hnm⟩ := F
  have hl : lv_has ls 4 [(0, .ref (a 0)), (1, .int (nI k)), (2, .int v)] := hl
  refine lv_iload_n hx hb dX0_deviceWrite_0 rfl (lv_at hl 1 rfl) ?_
  refine w_call (wr := rdW ka a g) (wn := rdW ka a g) (va_runS (As := [.int (nI k)]) (rest := []) ⟨hx, hb, hml, hown, hts⟩ (m_isRing_n D ka l [] (nI k) (Or.inr (nI_le (by omega) (by omega))) _) (va_cwS 1 hts (lw_S q87 q88 q4 q89) rfl rfl rfl (by decide +kernel) ⟨Nat.le_of_ble_eq_true rfl, Nat.le_of_ble_eq_true rfl⟩) (w_preS hK hP hD [] (by decide) rfl) rfl rfl hl.1 rfl (lv_room (Nat.le_of_ble_eq_true rfl)) dX0_deviceWrite_1 ⟨Nat.le_of_ble_eq_true rfl, Nat.le_of_ble_eq_true rfl⟩) hP hD hS hA [] [0, 1, 2, 3, 4, 5, 6, 7, 8, 9, 10] [0, 1, 2, 3, 4, 5, 6, 7, 8, 9, 10] rfl rfl (by decide) (by decide) (by decide) rfl (fun H locs hP hD hS => ?_)
  refine z_if_eq (tgt := 27) hx hb dX0_deviceWrite_4 (by decide) (fun h1 => ?_) (fun h1 => ?_)
  · refine lv_aload_n hx hb dX0_deviceWrite_27 rfl (lv_at hl 0 rfl) ?_
    refine lv_iload_n hx hb dX0_deviceWrite_28 rfl (lv_at hl 1 rfl) ?_
    refine w_call (wr := []) (wn := rdW ka a g) (va_runV (As := [.int (nI k)]) (rest := []) ⟨hx, hb, hml, hown, hts⟩ (m_bufferAt_r D ka l a g k (by omega) (by omega) _) (cwV 1 hts (lw_V q94 q96 qs1 q4 q97) rfl rfl rfl (by decide +kernel) ⟨Nat.le_of_ble_eq_true rfl, Nat.le_of_ble_eq_true rfl⟩) (w_preV hK hP hD [0, 1, 2, 3, 4, 5, 6, 7, 8, 9, 10] (by decide) rfl rfl (q0 := 0) rfl) rfl rfl hl.1 rfl (lv_room (Nat.le_of_ble_eq_true rfl)) dX0_deviceWrite_29 ⟨Nat.le_of_ble_eq_true rfl, Nat.le_of_ble_eq_true rfl⟩) hP hD hS hA [0, 1, 2, 3, 4, 5, 6, 7, 8, 9, 10] [] [0, 1, 2, 3, 4, 5, 6, 7, 8, 9, 10] rfl rfl (by decide) (by decide) (by decide) rfl (fun H locs hP hD hS => ?_)
    refine lv_astore_n (lv' := [(3, .ref (a 7)), (0, .ref (a 0)), (1, .int (nI k)), (2, .int v)]) hx hb dX0_deviceWrite_32 rfl hl (by decide) rfl (fun ls hl => ?_)
    refine lv_aload_n hx hb dX0_deviceWrite_33 rfl (lv_at hl 0 rfl) ?_
    refine lv_ifnull hx hb dX0_deviceWrite_34 ?_
    refine lv_aload_n hx hb dX0_deviceWrite_37 rfl (lv_at hl 0 rfl) ?_
    refine w_call (wr := rdW ka a g) (wn := rdW ka a g) (va_runU (As := []) (rest := []) ⟨hx, hb, hml, hown, hts⟩ (m_mayWriteX3 D ka l (a 7) [] _) (va_cwA 0 hts (lw_U q120 q122 q123 q124 q7 q125) rfl rfl rfl hK.2.2.2.2.2 (by decide +kernel) ⟨Nat.le_of_ble_eq_true rfl, Nat.le_of_ble_eq_true rfl⟩) (w_preV hK hP hD [] (by decide) rfl rfl (q0 := 7) rfl) rfl rfl hl.1 rfl (lv_room (Nat.le_of_ble_eq_true rfl)) dX0_deviceWrite_38 ⟨Nat.le_of_ble_eq_true rfl, Nat.le_of_ble_eq_true rfl⟩) hP hD hS hA [] [0, 1, 2, 3, 4, 5, 6, 7, 8, 9, 10] [0, 1, 2, 3, 4, 5, 6, 7, 8, 9, 10] rfl rfl (by decide) (by decide) (by decide) rfl (fun H locs hP hD hS => ?_)
    refine z_if_eq (tgt := 80) hx hb dX0_deviceWrite_41 (by decide) (fun h3 => ?_) (fun h3 => ?_)
    · exact absurd h3 (by decide)
    · refine lv_aload_n hx hb dX0_deviceWrite_44 rfl (lv_at hl 0 rfl) ?_
      refine va_getN (D := D) (ci := 2) (v := .ref (a 10)) (C := RX3) (T := TX2) (N := 6) hx hb hts in_X3' hown hK.1 hP 7 rfl rfl 3 (by decide) (va_Nw.use rfl hK.2.2.2.1) (fun _ h9 => h9) rfl dX0_deviceWrite_45 ?_
      refine lv_iload_n hx hb dX0_deviceWrite_48 rfl (lv_at hl 2 rfl) ?_
      refine w_call (wr := rdW ka a g) (wn := rdW ka a g) (va_runS (As := [.int (nI k)]) (rest := [.ref (a 10)]) ⟨hx, hb, hml, hown, hts⟩ (m_slotAt D ka l [] k (by omega) _) (va_cwS 1 hts (lw_S q107 q108 q4 q109) rfl rfl rfl (by decide +kernel) ⟨Nat.le_of_ble_eq_true rfl, Nat.le_of_ble_eq_true rfl⟩) (w_preS hK hP hD [] (by decide) rfl) rfl rfl hl.1 rfl (lv_room (Nat.le_of_ble_eq_true rfl)) dX0_deviceWrite_49 ⟨Nat.le_of_ble_eq_true rfl, Nat.le_of_ble_eq_true rfl⟩) hP hD hS hA [] [0, 1, 2, 3, 4, 5, 6, 7, 8, 9, 10] [0, 1, 2, 3, 4, 5, 6, 7, 8, 9, 10] rfl rfl (by decide) (by decide) (by decide) rfl (fun H locs hP hD hS => ?_)
      refine n_zald hx hb hK hP 10 rfl (by omega) (by decide) dX0_deviceWrite_52 ?_
      refine z_if_eq (tgt := 80) hx hb dX0_deviceWrite_53 (by decide) (fun h2 => ?_) (fun h2 => ?_)
      · refine lv_aload_n hx hb dX0_deviceWrite_80 rfl (lv_at hl 1 rfl) ?_
        refine lv_dup hx hb dX0_deviceWrite_81 rfl ?_
        refine va_get (D := D) (ci := 0) (v := .int g.2.2.2.2) (C := RX0) (T := TX0) (N := 5) hx hb hts in_X0 hown hK.1 hP 0 rfl rfl 4 (by decide) (hts _ q71) (fun _ h9 => h9) rfl dX0_deviceWrite_82 ?_
        refine lv_iconst (v := nI 1) hx hb dX0_deviceWrite_85 (by decide) ?_
        refine lv_iadd hx hb dX0_deviceWrite_86 ?_
        refine va_put (D := D) (ci := 0) (v := .int (g.2.2.2.2 + nI 1)) (ty := .int) (C := RX0) (T := TX0) (N := 5) hx hb hts in_X0 tyX0 tyX0_ok nmX0 hown hK.1 hP hD hS 0 rfl rfl 4 (by decide) (hts _ q71) (fun _ h9 => h9) rfl (by decide +kernel) rfl rfl (Nat.le_of_ble_eq_true rfl) dX0_deviceWrite_87 (fun H locs hP hD hS => ?_)
        have hP : va_P D vwCl (rdW ka a (flt g)) H := hP
        have hD : va_D A (rdW ka a (flt g)) := hD
        refine lv_iconst (v := (-1)) hx hb dX0_deviceWrite_90 (by decide) ?_
        exact e_int hx hb hr hlocks hP hD hS (by rw [pw_n ((wrb_c g hk hk2).trans h2)]) (by rw [pw_n ((wrb_c g hk hk2).trans h2)]) dX0_deviceWrite_91
      · refine lv_aload_n hx hb dX0_deviceWrite_56 rfl (lv_at hl 0 rfl) ?_
        refine va_getN (D := D) (ci := 2) (v := .ref (a 9)) (C := RX3) (T := TX2) (N := 6) hx hb hts in_X3' hown hK.1 hP 7 rfl rfl 2 (by decide) (va_Nw.use rfl hK.2.2.1) (fun _ h9 => h9) rfl dX0_deviceWrite_57 ?_
        refine lv_bipush (v := nI 16) hx hb dX0_deviceWrite_60 (by decide) ?_
        refine lv_iload_n hx hb dX0_deviceWrite_62 rfl (lv_at hl 2 rfl) ?_
        refine w_call (wr := rdW ka a g) (wn := rdW ka a g) (va_runS (As := [.int (nI k)]) (rest := [.int (nI 16), .ref (a 9)]) ⟨hx, hb, hml, hown, hts⟩ (m_slotAt D ka l [] k (by omega) _) (va_cwS 1 hts (lw_S q107 q108 q4 q109) rfl rfl rfl (by decide +kernel) ⟨Nat.le_of_ble_eq_true rfl, Nat.le_of_ble_eq_true rfl⟩) (w_preS hK hP hD [] (by decide) rfl) rfl rfl hl.1 rfl (lv_room (Nat.le_of_ble_eq_true rfl)) dX0_deviceWrite_63 ⟨Nat.le_of_ble_eq_true rfl, Nat.le_of_ble_eq_true rfl⟩) hP hD hS hA [] [0, 1, 2, 3, 4, 5, 6, 7, 8, 9, 10] [0, 1, 2, 3, 4, 5, 6, 7, 8, 9, 10] rfl rfl (by decide) (by decide) (by decide) rfl (fun H locs hP hD hS => ?_)
        refine n_imul hx hb dX0_deviceWrite_66 ?_
        refine lv_iload_n hx hb dX0_deviceWrite_67 rfl (lv_at hl 2 rfl) ?_
        refine lv_bipush (v := nI 16) hx hb dX0_deviceWrite_68 (by decide) ?_
        refine n_irem hx hb (by omega) (by decide) (by decide) dX0_deviceWrite_70 ?_
        refine n_iadd hx hb dX0_deviceWrite_71 ?_
        refine lv_iload_n hx hb dX0_deviceWrite_72 rfl (lv_at hl 3 rfl) ?_
        refine lv_sipush (v := nI 255) hx hb dX0_deviceWrite_73 (by decide) ?_
        refine n_and8 hx hb dX0_deviceWrite_76 ?_
        refine n_iast (wn := rdW ka a (s_r g (g_b g.2.1 (va_up g.2.1.2.2.2.1 (16 * (k / 16 % 8) + k % 16) (nb v))))) hx hb hK hP hD hS 9 (nb v) rfl (by omega) (by decide) (rfl) (rfl) dX0_deviceWrite_77 (fun H locs hP hD hS => ?_)
        refine lv_iconst (v := nI 0) hx hb dX0_deviceWrite_78 (by decide) ?_
        exact e_int hx hb hr hlocks hP hD hS (by rw [pw_y ((wrb_c g hk hk2).trans h2)]) (by rw [pw_y ((wrb_c g hk hk2).trans h2), wr, if_neg (by omega), if_neg (by omega), if_neg (by omega), show 16 * (k / 16 % 8) + k % 16 = k - 256 by omega]) dX0_deviceWrite_79
  · exact absurd h1 (by decide)
set_option maxHeartbeats 4000000 in
/-- deviceWrite: no such address -/
theorem m_write_o (D : va_G) (ka : Nat → ClassId) (l : Launch) (a : Nat → Nat) (g : ST) (x v : Int32) (h : x < 0 ∨ nI 384 ≤ x) (sz : Nat) : CT D ka l yX0_deviceWrite cX0_deviceWrite 4 (some .int) ({ frames := 1, cells := 0, slots := 0, locals := 22 } : Room) [.ref (a 0), .int x, .int v] sz (rdW ka a g) (some (.int (-1))) (rdW ka a (flt g)) := by
  refine enter (by decide) (Nat.le_of_ble_eq_true rfl) ?_
  intro p e s m below meth c A ls F hP hD hS hl
  obtain ⟨hx, hb, hr, hlocks, hml, hown, hts, hA, hK, hnm⟩ := F
  have hl : lv_has ls 4 [(0, .ref (a 0)), (1, .int x), (2, .int v)] := hl
  refine lv_iload_n hx hb dX0_deviceWrite_0 rfl (lv_at hl 1 rfl) ?_
  refine w_call (wr := rdW ka a g) (wn := rdW ka a g) (va_runS (As := [.int x]) (rest := []) ⟨hx, hb, hml, hown, hts⟩ (m_isRing_n D ka l [] x (h.imp id (fun q => i32_le (by decide) (by decide) q)) _) (va_cwS 1 hts (lw_S q87 q88 q4 q89) rfl rfl rfl (by decide +kernel) ⟨Nat.le_of_ble_eq_true rfl, Nat.le_of_ble_eq_true rfl⟩) (w_preS hK hP hD [] (by decide) rfl) rfl rfl hl.1 rfl (lv_room (Nat.le_of_ble_eq_true rfl)) dX0_deviceWrite_1 ⟨Nat.le_of_ble_eq_true rfl, Nat.le_of_ble_eq_true rfl⟩) hP hD hS hA [] [0, 1, 2, 3, 4, 5, 6, 7, 8, 9, 10] [0, 1, 2, 3, 4, 5, 6, 7, 8, 9, 10] rfl rfl (by decide) (by decide) (by decide) rfl (fun H locs hP hD hS => ?_)
  refine z_if_eq (tgt := 27) hx hb dX0_deviceWrite_4 (by decide) (fun h1 => ?_) (fun h1 => ?_)
  · refine lv_aload_n hx hb dX0_deviceWrite_27 rfl (lv_at hl 0 rfl) ?_
    refine lv_iload_n hx hb dX0_deviceWrite_28 rfl (lv_at hl 1 rfl) ?_
    refine w_call (wr := []) (wn := rdW ka a g) (va_runV (As := [.int x]) (rest := []) ⟨hx, hb, hml, hown, hts⟩ (m_bufferAt_n D ka l a g x (h.imp (fun q => i32_neglt (by decide) q) id) _) (cwV 1 hts (lw_V q94 q96 qs1 q4 q97) rfl rfl rfl (by decide +kernel) ⟨Nat.le_of_ble_eq_true rfl, Nat.le_of_ble_eq_true rfl⟩) (w_preV hK hP hD [0, 1, 2, 3, 4, 5, 6, 7, 8, 9, 10] (by decide) rfl rfl (q0 := 0) rfl) rfl rfl hl.1 rfl (lv_room (Nat.le_of_ble_eq_true rfl)) dX0_deviceWrite_29 ⟨Nat.le_of_ble_eq_true rfl, Nat.le_of_ble_eq_true rfl⟩) hP hD hS hA [0, 1, 2, 3, 4, 5, 6, 7, 8, 9, 10] [] [0, 1, 2, 3, 4, 5, 6, 7, 8, 9, 10] rfl rfl (by decide) (by decide) (by decide) rfl (fun H locs hP hD hS => ?_)
    refine lv_astore_nN (lv' := [(3, .null), (0, .ref (a 0)), (1, .int x), (2, .int v)]) hx hb dX0_deviceWrite_32 rfl hl (by decide) rfl (fun ls hl => ?_)
    refine lv_aload_nN hx hb dX0_deviceWrite_33 rfl (lv_at hl 0 rfl) ?_
    refine lv_ifnullN (tgt := 80) hx hb dX0_deviceWrite_34 (by decide) ?_
    refine lv_aload_n hx hb dX0_deviceWrite_80 rfl (lv_at hl 1 rfl) ?_
    refine lv_dup hx hb dX0_deviceWrite_81 rfl ?_
    refine va_get (D := D) (ci := 0) (v := .int g.2.2.2.2) (C := RX0) (T := TX0) (N := 5) hx hb hts in_X0 hown hK.1 hP 0 rfl rfl 4 (by decide) (hts _ q71) (fun _ h9 => h9) rfl dX0_deviceWrite_82 ?_
    refine lv_iconst (v := nI 1) hx hb dX0_deviceWrite_85 (by decide) ?_
    refine lv_iadd hx hb dX0_deviceWrite_86 ?_
    refine va_put (D := D) (ci := 0) (v := .int (g.2.2.2.2 + nI 1)) (ty := .int) (C := RX0) (T := TX0) (N := 5) hx hb hts in_X0 tyX0 tyX0_ok nmX0 hown hK.1 hP hD hS 0 rfl rfl 4 (by decide) (hts _ q71) (fun _ h9 => h9) rfl (by decide +kernel) rfl rfl (Nat.le_of_ble_eq_true rfl) dX0_deviceWrite_87 (fun H locs hP hD hS => ?_)
    have hP : va_P D vwCl (rdW ka a (flt g)) H := hP
    have hD : va_D A (rdW ka a (flt g)) := hD
    refine lv_iconst (v := (-1)) hx hb dX0_deviceWrite_90 (by decide) ?_
    exact e_int hx hb hr hlocks hP hD hS (rfl) (rfl) dX0_deviceWrite_91
  · exact absurd h1 (by decide)
/-- deviceWrite(k, v), k below 384 -/
theorem m_write (D : va_G) (ka : Nat → ClassId) (l : Launch) (a : Nat → Nat) (g : ST) (k : Nat) (v : Int32) (hk : k < 384) (sz : Nat) : CT D ka l yX0_deviceWrite cX0_deviceWrite 4 (some .int) ({ frames := 1, cells := 0, slots := 0, locals := 22 } : Room) [.ref (a 0), .int (nI k), .int v] sz (rdW ka a g) (some (.int (p_write g k (nb v)).1)) (rdW ka a (p_write g k (nb v)).2) := by
  by_cases h1 : k < 64
  · exact m_write_a D ka l a g k v h1 sz
  · by_cases h2 : k < 128
    · exact m_write_b D ka l a g k v (by omega) h2 sz
    · by_cases h3 : k < 256
      · exact m_write_c D ka l a g k v (by omega) h3 sz
      · exact m_write_d D ka l a g k v (by omega) hk sz
set_option maxHeartbeats 4000000 in
/-- faults() -/
theorem m_faults (D : va_G) (ka : Nat → ClassId) (l : Launch) (a : Nat → Nat) (g : ST)  (sz : Nat) : CT D ka l yX0_faults cX0_faults 1 (some .int) ({ frames := 0, cells := 0, slots := 0, locals := 0 } : Room) [.ref (a 0)] sz (rdW ka a g) (some (.int g.2.2.2.2)) (rdW ka a g) := by
  refine enter (by decide) (Nat.le_of_ble_eq_true rfl) ?_
  intro p e s m below meth c A ls F hP hD hS hl
  obtain ⟨hx, hb, hr, hlocks, hml, hown, hts, hA, hK, hnm⟩ := F
  have hl : lv_has ls 1 [(0, .ref (a 0))] := hl
  refine lv_aload_n hx hb dX0_faults_0 rfl (lv_at hl 0 rfl) ?_
  refine va_get (D := D) (ci := 0) (v := .int g.2.2.2.2) (C := RX0) (T := TX0) (N := 5) hx hb hts in_X0 hown hK.1 hP 0 rfl rfl 4 (by decide) (hts _ q71) (fun _ h9 => h9) rfl dX0_faults_1 ?_
  exact e_int hx hb hr hlocks hP hD hS (rfl) (rfl) dX0_faults_4
set_option maxHeartbeats 4000000 in
/-- sending() -/
theorem m_sending (D : va_G) (ka : Nat → ClassId) (l : Launch) (a : Nat → Nat) (g : ST)  (sz : Nat) : CT D ka l yX0_sending cX0_sending 1 (some .int) ({ frames := 0, cells := 0, slots := 0, locals := 0 } : Room) [.ref (a 0)] sz (rdW ka a g) (some (.int (nI g.1.2.1))) (rdW ka a g) := by
  refine enter (by decide) (Nat.le_of_ble_eq_true rfl) ?_
  intro p e s m below meth c A ls F hP hD hS hl
  obtain ⟨hx, hb, hr, hlocks, hml, hown, hts, hA, hK, hnm⟩ := F
  have hl : lv_has ls 1 [(0, .ref (a 0))] := hl
  refine lv_aload_n hx hb dX0_sending_0 rfl (lv_at hl 0 rfl) ?_
  refine va_get (D := D) (ci := 0) (v := .ref (a 3)) (C := RX0) (T := TX0) (N := 5) hx hb hts in_X0 hown hK.1 hP 0 rfl rfl 0 (by decide) (hts _ q67) (fun _ h9 => h9) rfl dX0_sending_1 ?_
  refine va_get (D := D) (ci := 1) (v := .int (nI g.1.2.1)) (C := RX2) (T := TX2) (N := 6) hx hb hts in_X2 hown hK.1 hP 3 rfl rfl 5 (by decide) (hts _ q37) (u_same (hts _ q38)) rfl dX0_sending_4 ?_
  exact e_int hx hb hr hlocks hP hD hS (rfl) (rfl) dX0_sending_7
set_option maxHeartbeats 4000000 in
/-- receiving() -/
theorem m_receiving (D : va_G) (ka : Nat → ClassId) (l : Launch) (a : Nat → Nat) (g : ST)  (sz : Nat) : CT D ka l yX0_receiving cX0_receiving 1 (some .int) ({ frames := 0, cells := 0, slots := 0, locals := 0 } : Room) [.ref (a 0)] sz (rdW ka a g) (some (.int (nI g.2.1.2.1))) (rdW ka a g) := by
  refine enter (by decide) (Nat.le_of_ble_eq_true rfl) ?_
  intro p e s m below meth c A ls F hP hD hS hl
  obtain ⟨hx, hb, hr, hlocks, hml, hown, hts, hA, hK, hnm⟩ := F
  have hl : lv_has ls 1 [(0, .ref (a 0))] := hl
  refine lv_aload_n hx hb dX0_receiving_0 rfl (lv_at hl 0 rfl) ?_
  refine va_get (D := D) (ci := 0) (v := .ref (a 7)) (C := RX0) (T := TX0) (N := 5) hx hb hts in_X0 hown hK.1 hP 0 rfl rfl 1 (by decide) (hts _ q68) (fun _ h9 => h9) rfl dX0_receiving_1 ?_
  refine va_get (D := D) (ci := 2) (v := .int (nI g.2.1.2.1)) (C := RX3) (T := TX2) (N := 6) hx hb hts in_X3' hown hK.1 hP 7 rfl rfl 5 (by decide) (hts _ q35) (u_same (hts _ q36)) rfl dX0_receiving_4 ?_
  exact e_int hx hb hr hlocks hP hD hS (rfl) (rfl) dX0_receiving_7
set_option maxHeartbeats 4000000 in
/-- load(k, v), k below 16 -/
theorem m_load (D : va_G) (ka : Nat → ClassId) (l : Launch) (a : Nat → Nat) (g : ST) (k : Nat) (v : Int32) (hk : k < 16) (sz : Nat) : CT D ka l yX0_load cX0_load 3 (some .boolean) ({ frames := 0, cells := 0, slots := 0, locals := 0 } : Room) [.ref (a 0), .int (nI k), .int v] sz (rdW ka a g) (some (.int (zb true))) (rdW ka a (s_ob g (va_up g.2.2.1 k (nb v)))) := by
  refine enter (by decide) (Nat.le_of_ble_eq_true rfl) ?_
  intro p e s m below meth c A ls F hP hD hS hl
  obtain ⟨hx, hb, hr, hlocks, hml, hown, hts, hA, hK, hnm⟩ := F
  have hl : lv_has ls 3 [(0, .ref (a 0)), (1, .int (nI k)), (2, .int v)] := hl
  refine lv_iload_n hx hb dX0_load_0 rfl (lv_at hl 1 rfl) ?_
  refine n_if_lt hx hb (by omega) dX0_load_1 ⟨10, by decide⟩ ?_
  refine lv_iload_n hx hb dX0_load_4 rfl (lv_at hl 1 rfl) ?_
  refine lv_bipush (v := nI 16) hx hb dX0_load_5 (by decide) ?_
  refine n_icmp_lt (tgt := 12) hx hb (by omega) (by omega) dX0_load_7 (by decide) (fun h1 => ?_) (fun h1 => ?_)
  · refine lv_aload_n hx hb dX0_load_12 rfl (lv_at hl 0 rfl) ?_
    refine va_get (D := D) (ci := 0) (v := .ref (a 1)) (C := RX0) (T := TX0) (N := 5) hx hb hts in_X0 hown hK.1 hP 0 rfl rfl 2 (by decide) (hts _ q69) (fun _ h9 => h9) rfl dX0_load_13 ?_
    refine lv_iload_n hx hb dX0_load_16 rfl (lv_at hl 1 rfl) ?_
    refine lv_iload_n hx hb dX0_load_17 rfl (lv_at hl 2 rfl) ?_
    refine lv_sipush (v := nI 255) hx hb dX0_load_18 (by decide) ?_
    refine n_and8 hx hb dX0_load_21 ?_
    refine n_iast (wn := rdW ka a (s_ob g (va_up g.2.2.1 k (nb v)))) hx hb hK hP hD hS 1 (nb v) rfl (by omega) (by decide) (rfl) (rfl) dX0_load_22 (fun H locs hP hD hS => ?_)
    refine lv_iconst (v := nI 1) hx hb dX0_load_23 (by decide) ?_
    exact e_bool hx hb hr hlocks hP hD hS (by decide) (rfl) dX0_load_24
  · exact absurd h1 (by omega)
set_option maxHeartbeats 4000000 in
/-- load(x, v), outside -/
theorem m_load_o (D : va_G) (ka : Nat → ClassId) (l : Launch) (a : Nat → Nat) (g : ST) (x v : Int32) (h : x < 0 ∨ nI 16 ≤ x) (sz : Nat) : CT D ka l yX0_load cX0_load 3 (some .boolean) ({ frames := 0, cells := 0, slots := 0, locals := 0 } : Room) [.ref (a 0), .int x, .int v] sz (rdW ka a g) (some (.int (zb false))) (rdW ka a g) := by
  refine enter (by decide) (Nat.le_of_ble_eq_true rfl) ?_
  intro p e s m below meth c A ls F hP hD hS hl
  obtain ⟨hx, hb, hr, hlocks, hml, hown, hts, hA, hK, hnm⟩ := F
  have hl : lv_has ls 3 [(0, .ref (a 0)), (1, .int x), (2, .int v)] := hl
  refine lv_iload_n hx hb dX0_load_0 rfl (lv_at hl 1 rfl) ?_
  refine lv_if_lt (tgt := 10) hx hb dX0_load_1 (by decide) (fun h1 => ?_) (fun h1 => ?_)
  · refine lv_iconst (v := nI 0) hx hb dX0_load_10 (by decide) ?_
    exact e_bool hx hb hr hlocks hP hD hS (by decide) (rfl) dX0_load_11
  · refine lv_iload_n hx hb dX0_load_4 rfl (lv_at hl 1 rfl) ?_
    refine lv_bipush (v := nI 16) hx hb dX0_load_5 (by decide) ?_
    refine lv_icmp_lt (tgt := 12) hx hb dX0_load_7 (by decide) (fun h2 => ?_) (fun h2 => ?_)
    · exact False.elim (h.elim (fun q => h1 q) (fun q => i32_nlt q h2))
    · refine lv_iconst (v := nI 0) hx hb dX0_load_10 (by decide) ?_
      exact e_bool hx hb hr hlocks hP hD hS (by decide) (rfl) dX0_load_11
set_option maxHeartbeats 4000000 in
/-- taken(k), k below 16 -/
theorem m_taken (D : va_G) (ka : Nat → ClassId) (l : Launch) (a : Nat → Nat) (g : ST) (k : Nat) (hk : k < 16) (sz : Nat) : CT D ka l yX0_taken cX0_taken 2 (some .int) ({ frames := 0, cells := 0, slots := 0, locals := 0 } : Room) [.ref (a 0), .int (nI k)] sz (rdW ka a g) (some (.int (ub (g.2.2.2.1 k)))) (rdW ka a g) := by
  refine enter (by decide) (Nat.le_of_ble_eq_true rfl) ?_
  intro p e s m below meth c A ls F hP hD hS hl
  obtain ⟨hx, hb, hr, hlocks, hml, hown, hts, hA, hK, hnm⟩ := F
  have hl : lv_has ls 2 [(0, .ref (a 0)), (1, .int (nI k))] := hl
  refine lv_iload_n hx hb dX0_taken_0 rfl (lv_at hl 1 rfl) ?_
  refine n_if_lt hx hb (by omega) dX0_taken_1 ⟨10, by decide⟩ ?_
  refine lv_iload_n hx hb dX0_taken_4 rfl (lv_at hl 1 rfl) ?_
  refine lv_bipush (v := nI 16) hx hb dX0_taken_5 (by decide) ?_
  refine n_icmp_lt (tgt := 14) hx hb (by omega) (by omega) dX0_taken_7 (by decide) (fun h1 => ?_) (fun h1 => ?_)
  · refine lv_aload_n hx hb dX0_taken_14 rfl (lv_at hl 0 rfl) ?_
    refine va_get (D := D) (ci := 0) (v := .ref (a 2)) (C := RX0) (T := TX0) (N := 5) hx hb hts in_X0 hown hK.1 hP 0 rfl rfl 3 (by decide) (hts _ q70) (fun _ h9 => h9) rfl dX0_taken_15 ?_
    refine lv_iload_n hx hb dX0_taken_18 rfl (lv_at hl 1 rfl) ?_
    refine n_iald hx hb hK hP 2 rfl (by omega) (by decide) dX0_taken_19 ?_
    exact e_int hx hb hr hlocks hP hD hS (rfl) (rfl) dX0_taken_20
  · exact absurd h1 (by omega)
set_option maxHeartbeats 4000000 in
/-- taken(x), outside -/
theorem m_taken_o (D : va_G) (ka : Nat → ClassId) (l : Launch) (a : Nat → Nat) (g : ST) (x : Int32) (h : x < 0 ∨ nI 16 ≤ x) (sz : Nat) : CT D ka l yX0_taken cX0_taken 2 (some .int) ({ frames := 0, cells := 0, slots := 0, locals := 0 } : Room) [.ref (a 0), .int x] sz (rdW ka a g) (some (.int (-1))) (rdW ka a g) := by
  refine enter (by decide) (Nat.le_of_ble_eq_true rfl) ?_
  intro p e s m below meth c A ls F hP hD hS hl
  obtain ⟨hx, hb, hr, hlocks, hml, hown, hts, hA, hK, hnm⟩ := F
  have hl : lv_has ls 2 [(0, .ref (a 0)), (1, .int x)] := hl
  refine lv_iload_n hx hb dX0_taken_0 rfl (lv_at hl 1 rfl) ?_
  refine lv_if_lt (tgt := 10) hx hb dX0_taken_1 (by decide) (fun h1 => ?_) (fun h1 => ?_)
  · refine lv_iconst (v := (-1)) hx hb dX0_taken_10 (by decide) ?_
    refine lv_goto (tgt := 20) hx hb dX0_taken_11 (by decide) ?_
    exact e_int hx hb hr hlocks hP hD hS (rfl) (rfl) dX0_taken_20
  · refine lv_iload_n hx hb dX0_taken_4 rfl (lv_at hl 1 rfl) ?_
    refine lv_bipush (v := nI 16) hx hb dX0_taken_5 (by decide) ?_
    refine lv_icmp_lt (tgt := 14) hx hb dX0_taken_7 (by decide) (fun h2 => ?_) (fun h2 => ?_)
    · exact False.elim (h.elim (fun q => h1 q) (fun q => i32_nlt q h2))
    · refine lv_iconst (v := (-1)) hx hb dX0_taken_10 (by decide) ?_
      refine lv_goto (tgt := 20) hx hb dX0_taken_11 (by decide) ?_
      exact e_int hx hb hr hlocks hP hD hS (rfl) (rfl) dX0_taken_20
set_option maxHeartbeats 4000000 in
/-- send(len), 1 to 16 -/
theorem m_send (D : va_G) (ka : Nat → ClassId) (l : Launch) (a : Nat → Nat) (g : ST) (hok : okR g.1) (len : Nat) (h1 : 1 ≤ len) (h2 : len ≤ 16) (sz : Nat) : CT D ka l yX0_send cX0_send 2 (some .int) ({ frames := 2, cells := 0, slots := 0, locals := 45 } : Room) [.ref (a 0), .int (nI len)] sz (rdW ka a g) (some (.int (p_send g len).1)) (rdW ka a (p_send g len).2) := by
  refine enter (by decide) (Nat.le_of_ble_eq_true rfl) ?_
  intro p e s m below meth c A ls F hP hD hS hl
  obtain ⟨hx, hb, hr, hlocks, hml, hown, hts, hA, hK, hnm⟩ := F
  have hl : lv_has ls 2 [(0, .ref (a 0)), (1, .int (nI len))] := hl
  refine lv_iload_n hx hb dX0_send_0 rfl (lv_at hl 1 rfl) ?_
  refine lv_iconst (v := nI 1) hx hb dX0_send_1 (by decide) ?_
  refine n_icmp_lt (tgt := 11) hx hb (by omega) (by omega) dX0_send_2 (by decide) (fun h8 => ?_) (fun h8 => ?_)
  · exact absurd h8 (by omega)
  · refine lv_iload_n hx hb dX0_send_5 rfl (lv_at hl 1 rfl) ?_
    refine lv_bipush (v := nI 16) hx hb dX0_send_6 (by decide) ?_
    refine n_icmp_le (tgt := 14) hx hb (by omega) (by omega) dX0_send_8 (by decide) (fun h9 => ?_) (fun h9 => ?_)
    · refine lv_aload_n hx hb dX0_send_14 rfl (lv_at hl 0 rfl) ?_
      refine va_get (D := D) (ci := 0) (v := .ref (a 3)) (C := RX0) (T := TX0) (N := 5) hx hb hts in_X0 hown hK.1 hP 0 rfl rfl 0 (by decide) (hts _ q67) (fun _ h9 => h9) rfl dX0_send_15 ?_
      refine w_call (wr := rdRt ka a g) (wn := rdW ka a g) (va_runU (As := []) (rest := []) ⟨hx, hb, hml, hown, hts⟩ (m_full D ka l rgT 8 (fun i => a (3 + i)) g.1 hok _) (va_cwU 0 hts (lw_U q141 q142 q144 q145 q5 q146) rfl rfl rfl rfl (by decide +kernel) ⟨Nat.le_of_ble_eq_true rfl, Nat.le_of_ble_eq_true rfl⟩) (w_preV hK hP hD [3, 4, 5, 6] (by decide) rfl rfl (q0 := 3) rfl) rfl rfl hl.1 rfl (lv_room (Nat.le_of_ble_eq_true rfl)) dX0_send_18 ⟨Nat.le_of_ble_eq_true rfl, Nat.le_of_ble_eq_true rfl⟩) hP hD hS hA [3, 4, 5, 6] [0, 1, 2, 7, 8, 9, 10] [0, 1, 2, 7, 8, 9, 10, 3, 4, 5, 6] rfl rfl (by decide) (by decide) (by decide) rfl (fun H locs hP hD hS => ?_)
      refine z_if_eq (tgt := 28) hx hb dX0_send_21 (by decide) (fun h3 => ?_) (fun h3 => ?_)
      · refine lv_aload_n hx hb dX0_send_28 rfl (lv_at hl 0 rfl) ?_
        refine va_get (D := D) (ci := 0) (v := .ref (a 3)) (C := RX0) (T := TX0) (N := 5) hx hb hts in_X0 hown hK.1 hP 0 rfl rfl 0 (by decide) (hts _ q67) (fun _ h9 => h9) rfl dX0_send_29 ?_
        refine lv_aload_n hx hb dX0_send_32 rfl (lv_at hl 0 rfl) ?_
        refine va_get (D := D) (ci := 0) (v := .ref (a 1)) (C := RX0) (T := TX0) (N := 5) hx hb hts in_X0 hown hK.1 hP 0 rfl rfl 2 (by decide) (hts _ q69) (fun _ h9 => h9) rfl dX0_send_33 ?_
        refine lv_iload_n hx hb dX0_send_36 rfl (lv_at hl 1 rfl) ?_
        refine w_call (wr := rdRtf ka a g) (wn := rdW ka a (s_t g (r_enq 8 g.1 g.2.2.1 len))) (va_runU (As := [.ref (a 1), .int (nI len)]) (rest := []) ⟨hx, hb, hml, hown, hts⟩ (m_enq D ka l rgT 8 (fun i => a (3 + i)) g.1 (a 1) g.2.2.1 len hok (of_decide_eq_false h3) h2 (by decide) _) (va_cwU 2 hts (lw_U q147 q148 q150 q151 q5 q152) rfl rfl rfl rfl (by decide +kernel) ⟨Nat.le_of_ble_eq_true rfl, Nat.le_of_ble_eq_true rfl⟩) (w_preV hK hP hD [3, 4, 5, 6, 1] (by decide) rfl rfl (q0 := 3) rfl) rfl rfl hl.1 rfl (lv_room (Nat.le_of_ble_eq_true rfl)) dX0_send_37 ⟨Nat.le_of_ble_eq_true rfl, Nat.le_of_ble_eq_true rfl⟩) hP hD hS hA [3, 4, 5, 6, 1] [0, 2, 7, 8, 9, 10] [0, 10, 1, 6, 7, 8, 9, 2, 3, 4, 5] rfl rfl (by decide) (by decide) (by decide) rfl (fun H locs hP hD hS => ?_)
        exact e_int hx hb hr hlocks hP hD hS (by rw [p_send, if_neg (of_decide_eq_false h3)]) (by rw [p_send, if_neg (of_decide_eq_false h3)]) dX0_send_40
      · refine lv_iconst (v := (-1)) hx hb dX0_send_24 (by decide) ?_
        refine lv_goto (tgt := 40) hx hb dX0_send_25 (by decide) ?_
        exact e_int hx hb hr hlocks hP hD hS (by rw [p_send, if_pos (of_decide_eq_true h3)]) (by rw [p_send, if_pos (of_decide_eq_true h3)]) dX0_send_40
    · exact absurd h9 (by omega)
set_option maxHeartbeats 4000000 in
/-- send(x), outside -/
theorem m_send_o (D : va_G) (ka : Nat → ClassId) (l : Launch) (a : Nat → Nat) (g : ST) (x : Int32) (h : x < nI 1 ∨ nI 16 < x) (sz : Nat) : CT D ka l yX0_send cX0_send 2 (some .int) ({ frames := 2, cells := 0, slots := 0, locals := 45 } : Room) [.ref (a 0), .int x] sz (rdW ka a g) (some (.int (-2))) (rdW ka a g) := by
  refine enter (by decide) (Nat.le_of_ble_eq_true rfl) ?_
  intro p e s m below meth c A ls F hP hD hS hl
  obtain ⟨hx, hb, hr, hlocks, hml, hown, hts, hA, hK, hnm⟩ := F
  have hl : lv_has ls 2 [(0, .ref (a 0)), (1, .int x)] := hl
  refine lv_iload_n hx hb dX0_send_0 rfl (lv_at hl 1 rfl) ?_
  refine lv_iconst (v := nI 1) hx hb dX0_send_1 (by decide) ?_
  refine lv_icmp_lt (tgt := 11) hx hb dX0_send_2 (by decide) (fun h1 => ?_) (fun h1 => ?_)
  · refine lv_bipush (v := (-2)) hx hb dX0_send_11 (by decide) ?_
    exact e_int hx hb hr hlocks hP hD hS (rfl) (rfl) dX0_send_13
  · refine lv_iload_n hx hb dX0_send_5 rfl (lv_at hl 1 rfl) ?_
    refine lv_bipush (v := nI 16) hx hb dX0_send_6 (by decide) ?_
    refine lv_icmp_le (tgt := 14) hx hb dX0_send_8 (by decide) (fun h2 => ?_) (fun h2 => ?_)
    · exact False.elim (h.elim (fun q => h1 q) (fun q => (i32_nlt h2) q))
    · refine lv_bipush (v := (-2)) hx hb dX0_send_11 (by decide) ?_
      exact e_int hx hb hr hlocks hP hD hS (rfl) (rfl) dX0_send_13
set_option maxHeartbeats 4000000 in
/-- post() -/
theorem m_post (D : va_G) (ka : Nat → ClassId) (l : Launch) (a : Nat → Nat) (g : ST) (hok : okR g.2.1) (sz : Nat) : CT D ka l yX0_post cX0_post 1 (some .int) ({ frames := 2, cells := 0, slots := 0, locals := 45 } : Room) [.ref (a 0)] sz (rdW ka a g) (some (.int (p_post g).1)) (rdW ka a (p_post g).2) := by
  refine enter (by decide) (Nat.le_of_ble_eq_true rfl) ?_
  intro p e s m below meth c A ls F hP hD hS hl
  obtain ⟨hx, hb, hr, hlocks, hml, hown, hts, hA, hK, hnm⟩ := F
  have hl : lv_has ls 1 [(0, .ref (a 0))] := hl
  refine lv_aload_n hx hb dX0_post_0 rfl (lv_at hl 0 rfl) ?_
  refine va_get (D := D) (ci := 0) (v := .ref (a 7)) (C := RX0) (T := TX0) (N := 5) hx hb hts in_X0 hown hK.1 hP 0 rfl rfl 1 (by decide) (hts _ q68) (fun _ h9 => h9) rfl dX0_post_1 ?_
  refine w_call (wr := rdRr ka a g) (wn := rdW ka a g) (va_runU (As := []) (rest := []) ⟨hx, hb, hml, hown, hts⟩ (m_full D ka l rgR 16 (fun i => a (7 + i)) g.2.1 hok _) (va_cwU 0 hts (lw_U q206 q207 q208 q145 q5 q146) rfl rfl rfl rfl (by decide +kernel) ⟨Nat.le_of_ble_eq_true rfl, Nat.le_of_ble_eq_true rfl⟩) (w_preV hK hP hD [7, 8, 9, 10] (by decide) rfl rfl (q0 := 7) rfl) rfl rfl hl.1 rfl (lv_room (Nat.le_of_ble_eq_true rfl)) dX0_post_4 ⟨Nat.le_of_ble_eq_true rfl, Nat.le_of_ble_eq_true rfl⟩) hP hD hS hA [7, 8, 9, 10] [0, 1, 2, 3, 4, 5, 6] [0, 1, 2, 3, 4, 5, 6, 7, 8, 9, 10] rfl rfl (by decide) (by decide) (by decide) rfl (fun H locs hP hD hS => ?_)
  refine z_if_eq (tgt := 14) hx hb dX0_post_7 (by decide) (fun h3 => ?_) (fun h3 => ?_)
  · refine lv_aload_n hx hb dX0_post_14 rfl (lv_at hl 0 rfl) ?_
    refine va_get (D := D) (ci := 0) (v := .ref (a 7)) (C := RX0) (T := TX0) (N := 5) hx hb hts in_X0 hown hK.1 hP 0 rfl rfl 1 (by decide) (hts _ q68) (fun _ h9 => h9) rfl dX0_post_15 ?_
    refine lv_aload_n hx hb dX0_post_18 rfl (lv_at hl 0 rfl) ?_
    refine va_get (D := D) (ci := 0) (v := .ref (a 1)) (C := RX0) (T := TX0) (N := 5) hx hb hts in_X0 hown hK.1 hP 0 rfl rfl 2 (by decide) (hts _ q69) (fun _ h9 => h9) rfl dX0_post_19 ?_
    refine lv_iconst (v := nI 0) hx hb dX0_post_22 (by decide) ?_
    refine w_call (wr := rdRrf ka a g) (wn := rdW ka a (s_r g (r_enq 16 g.2.1 g.2.2.1 0))) (va_runU (As := [.ref (a 1), .int (nI 0)]) (rest := []) ⟨hx, hb, hml, hown, hts⟩ (m_enq D ka l rgR 16 (fun i => a (7 + i)) g.2.1 (a 1) g.2.2.1 0 hok (of_decide_eq_false h3) (by decide) (by decide) _) (va_cwU 2 hts (lw_U q209 q210 q211 q151 q5 q152) rfl rfl rfl rfl (by decide +kernel) ⟨Nat.le_of_ble_eq_true rfl, Nat.le_of_ble_eq_true rfl⟩) (w_preV hK hP hD [7, 8, 9, 10, 1] (by decide) rfl rfl (q0 := 7) rfl) rfl rfl hl.1 rfl (lv_room (Nat.le_of_ble_eq_true rfl)) dX0_post_23 ⟨Nat.le_of_ble_eq_true rfl, Nat.le_of_ble_eq_true rfl⟩) hP hD hS hA [7, 8, 9, 10, 1] [0, 2, 3, 4, 5, 6] [0, 10, 1, 2, 3, 4, 5, 6, 7, 8, 9] rfl rfl (by decide) (by decide) (by decide) rfl (fun H locs hP hD hS => ?_)
    exact e_int hx hb hr hlocks hP hD hS (by rw [p_post, if_neg (of_decide_eq_false h3)]) (by rw [p_post, if_neg (of_decide_eq_false h3)]) dX0_post_26
  · refine lv_iconst (v := (-1)) hx hb dX0_post_10 (by decide) ?_
    refine lv_goto (tgt := 26) hx hb dX0_post_11 (by decide) ?_
    exact e_int hx hb hr hlocks hP hD hS (by rw [p_post, if_pos (of_decide_eq_true h3)]) (by rw [p_post, if_pos (of_decide_eq_true h3)]) dX0_post_26
set_option maxHeartbeats 4000000 in
/-- reclaim: the loop -/
theorem lp_rcl {D : va_G} {ka : Nat → ClassId} {p : Program} {l : Launch} {e : Env} {s : State} {m : MethodId} {args : Array Value} {below : List Frame} {meth : Method} {c : Code} {A : Nat → Prop} {Q : State → Prop} (a : Nat → Nat) (g : ST) (hok : okR g.1) (F : Fx D ka p s m args c meth cX0_reclaim 3 (some .int) RX0 "reclaim" A)
    (kk : ∀ (H : Heap) (locs : List Loc) (ls : Array Slot), va_P D vwCl (rdW ka a (s_t g (r_all g.1).1)) H → va_D A (rdW ka a (s_t g (r_all g.1).1)) → va_S A s.heap H locs → lv_has ls 3 [(0, .ref (a 0)), (1, .int (nI (r_all g.1).2))] → W p l e ({ frames := 1, cells := 0, slots := 0, locals := 21 } : Room) s m args below meth c H locs 0 0 Q (F0 m 44 ls [])) :
    ∀ (n i : Nat), (r_rcl g.1 i).1.2.1 ≤ n → n + i = 8 → ∀ (H : Heap) (locs : List Loc) (ls : Array Slot), va_P D vwCl (rdW ka a (s_t g (r_rcl g.1 i).1)) H → va_D A (rdW ka a (s_t g (r_rcl g.1 i).1)) → va_S A s.heap H locs → lv_has ls 3 [(0, .ref (a 0)), (1, .int (nI (r_rcl g.1 i).2))] → W p l e ({ frames := 1, cells := 0, slots := 0, locals := 21 } : Room) s m args below meth c H locs 0 0 Q (F0 m 2 ls []) := by
  obtain ⟨hx, hb, hr, hlocks, hml, hown, hts, hA, hK, hnm⟩ := F
  have stop : ∀ i, i ≤ 8 → ¬ ((r_rcl g.1 i).1.2.1 ≠ 0 ∧ (r_rcl g.1 i).1.2.2.1 (8 * (r_rcl g.1 i).1.1 + 2) = 0) → r_rcl g.1 i = r_all g.1 := fun i hi h => by
    rw [r_all_eq, ← r_rcl_stop g.1 i h (8 - i), Nat.add_sub_cancel' hi]
  intro n
  induction n with
  | zero =>
    intro i hn hi H locs ls hP hD hS hl
    have hoki := okR_rcl hok i
    have ho := hoki.1
    have h8 := hoki.2
    refine lv_aload_n hx hb dX0_reclaim_2 rfl (lv_at hl 0 rfl) ?_
    refine va_get (D := D) (ci := 0) (v := .ref (a 3)) (C := RX0) (T := TX0) (N := 5) hx hb hts in_X0 hown hK.1 hP 0 rfl rfl 0 (by decide) (hts _ q67) (fun _ h9 => h9) rfl dX0_reclaim_3 ?_
    refine w_call (wr := rdRt ka a g) (wn := rdW ka a (s_t g (r_rcl g.1 i).1)) (va_runU (As := []) (rest := []) ⟨hx, hb, hml, hown, hts⟩ (m_empty D ka l rgT 8 (fun i => a (3 + i)) (r_rcl g.1 i).1 hoki _) (va_cwU 0 hts (lw_U q163 q164 q166 q167 q5 q168) rfl rfl rfl rfl (by decide +kernel) ⟨Nat.le_of_ble_eq_true rfl, Nat.le_of_ble_eq_true rfl⟩) (w_preV hK hP hD [3, 4, 5, 6] (by decide) rfl rfl (q0 := 3) rfl) rfl rfl hl.1 rfl (lv_room (Nat.le_of_ble_eq_true rfl)) dX0_reclaim_6 ⟨Nat.le_of_ble_eq_true rfl, Nat.le_of_ble_eq_true rfl⟩) hP hD hS hA [3, 4, 5, 6] [0, 1, 2, 7, 8, 9, 10] [0, 1, 2, 7, 8, 9, 10, 3, 4, 5, 6] rfl rfl (by decide) (by decide) (by decide) rfl (fun H locs hP hD hS => ?_)
    refine z_if_ne (tgt := 44) hx hb dX0_reclaim_9 (by decide) (fun h1 => ?_) (fun h1 => ?_)
    · have es := stop i (by omega) (fun q => q.1 (of_decide_eq_true h1))
      rw [es] at hP hD hl
      exact kk H locs ls hP hD hS (lv_sub hl [0, 1] rfl)
    · exact absurd (of_decide_eq_false h1) (by omega)
  | succ n ih =>
    intro i hn hi H locs ls hP hD hS hl
    have hoki := okR_rcl hok i
    have ho := hoki.1
    have h8 := hoki.2
    refine lv_aload_n hx hb dX0_reclaim_2 rfl (lv_at hl 0 rfl) ?_
    refine va_get (D := D) (ci := 0) (v := .ref (a 3)) (C := RX0) (T := TX0) (N := 5) hx hb hts in_X0 hown hK.1 hP 0 rfl rfl 0 (by decide) (hts _ q67) (fun _ h9 => h9) rfl dX0_reclaim_3 ?_
    refine w_call (wr := rdRt ka a g) (wn := rdW ka a (s_t g (r_rcl g.1 i).1)) (va_runU (As := []) (rest := []) ⟨hx, hb, hml, hown, hts⟩ (m_empty D ka l rgT 8 (fun i => a (3 + i)) (r_rcl g.1 i).1 hoki _) (va_cwU 0 hts (lw_U q163 q164 q166 q167 q5 q168) rfl rfl rfl rfl (by decide +kernel) ⟨Nat.le_of_ble_eq_true rfl, Nat.le_of_ble_eq_true rfl⟩) (w_preV hK hP hD [3, 4, 5, 6] (by decide) rfl rfl (q0 := 3) rfl) rfl rfl hl.1 rfl (lv_room (Nat.le_of_ble_eq_true rfl)) dX0_reclaim_6 ⟨Nat.le_of_ble_eq_true rfl, Nat.le_of_ble_eq_true rfl⟩) hP hD hS hA [3, 4, 5, 6] [0, 1, 2, 7, 8, 9, 10] [0, 1, 2, 7, 8, 9, 10, 3, 4, 5, 6] rfl rfl (by decide) (by decide) (by decide) rfl (fun H locs hP hD hS => ?_)
    refine z_if_ne (tgt := 44) hx hb dX0_reclaim_9 (by decide) (fun h1 => ?_) (fun h1 => ?_)
    · have es := stop i (by omega) (fun q => q.1 (of_decide_eq_true h1))
      rw [es] at hP hD hl
      exact kk H locs ls hP hD hS (lv_sub hl [0, 1] rfl)
    · have hne := of_decide_eq_false h1
      refine lv_aload_n hx hb dX0_reclaim_12 rfl (lv_at hl 0 rfl) ?_
      refine va_get (D := D) (ci := 0) (v := .ref (a 3)) (C := RX0) (T := TX0) (N := 5) hx hb hts in_X0 hown hK.1 hP 0 rfl rfl 0 (by decide) (hts _ q67) (fun _ h9 => h9) rfl dX0_reclaim_13 ?_
      refine lv_aload_n hx hb dX0_reclaim_16 rfl (lv_at hl 0 rfl) ?_
      refine va_get (D := D) (ci := 0) (v := .ref (a 3)) (C := RX0) (T := TX0) (N := 5) hx hb hts in_X0 hown hK.1 hP 0 rfl rfl 0 (by decide) (hts _ q67) (fun _ h9 => h9) rfl dX0_reclaim_17 ?_
      refine lv_iconst (v := nI 0) hx hb dX0_reclaim_20 (by decide) ?_
      refine w_call (wr := rdRt ka a g) (wn := rdW ka a (s_t g (r_rcl g.1 i).1)) (va_runU (As := [.int (nI 0)]) (rest := [.ref (a 3)]) ⟨hx, hb, hml, hown, hts⟩ (m_slot D ka l rgT 8 (fun i => a (3 + i)) (r_rcl g.1 i).1 0 (r_rcl g.1 i).1.1 (by omega) (by omega) _) (va_cwU 1 hts (lw_U q169 q170 q172 q154 q5 q158) rfl rfl rfl rfl (by decide +kernel) ⟨Nat.le_of_ble_eq_true rfl, Nat.le_of_ble_eq_true rfl⟩) (w_preV hK hP hD [3, 4, 5, 6] (by decide) rfl rfl (q0 := 3) rfl) rfl rfl hl.1 rfl (lv_room (Nat.le_of_ble_eq_true rfl)) dX0_reclaim_21 ⟨Nat.le_of_ble_eq_true rfl, Nat.le_of_ble_eq_true rfl⟩) hP hD hS hA [3, 4, 5, 6] [0, 1, 2, 7, 8, 9, 10] [0, 1, 2, 7, 8, 9, 10, 3, 4, 5, 6] rfl rfl (by decide) (by decide) (by decide) rfl (fun H locs hP hD hS => ?_)
      refine w_call (wr := rdRt ka a g) (wn := rdW ka a (s_t g (r_rcl g.1 i).1)) (va_runU (As := [.int (nI ((r_rcl g.1 i).1.1))]) (rest := []) ⟨hx, hb, hml, hown, hts⟩ (m_owner D ka l rgT 8 (fun i => a (3 + i)) (r_rcl g.1 i).1 (r_rcl g.1 i).1.1 ho _) (va_cwU 1 hts (lw_U q173 q174 q176 q177 q5 q178) rfl rfl rfl rfl (by decide +kernel) ⟨Nat.le_of_ble_eq_true rfl, Nat.le_of_ble_eq_true rfl⟩) (w_preV hK hP hD [3, 4, 5, 6] (by decide) rfl rfl (q0 := 3) rfl) rfl rfl hl.1 rfl (lv_room (Nat.le_of_ble_eq_true rfl)) dX0_reclaim_24 ⟨Nat.le_of_ble_eq_true rfl, Nat.le_of_ble_eq_true rfl⟩) hP hD hS hA [3, 4, 5, 6] [0, 1, 2, 7, 8, 9, 10] [0, 1, 2, 7, 8, 9, 10, 3, 4, 5, 6] rfl rfl (by decide) (by decide) (by decide) rfl (fun H locs hP hD hS => ?_)
      refine u_if_ne (tgt := 44) hx hb dX0_reclaim_27 (by decide) (fun h2 => ?_) (fun h2 => ?_)
      · have es := stop i (by omega) (fun q => h2 q.2)
        rw [es] at hP hD hl
        exact kk H locs ls hP hD hS (lv_sub hl [0, 1] rfl)
      · refine lv_aload_n hx hb dX0_reclaim_30 rfl (lv_at hl 0 rfl) ?_
        refine va_get (D := D) (ci := 0) (v := .ref (a 3)) (C := RX0) (T := TX0) (N := 5) hx hb hts in_X0 hown hK.1 hP 0 rfl rfl 0 (by decide) (hts _ q67) (fun _ h9 => h9) rfl dX0_reclaim_31 ?_
        refine w_call (wr := rdRt ka a g) (wn := rdW ka a (s_t g (r_take (r_rcl g.1 i).1))) (va_runU (As := []) (rest := []) ⟨hx, hb, hml, hown, hts⟩ (m_take D ka l rgT 8 (fun i => a (3 + i)) (r_rcl g.1 i).1 hoki hne _) (va_cwU 0 hts (lw_U q179 q180 q182 q183 q5 q184) rfl rfl rfl rfl (by decide +kernel) ⟨Nat.le_of_ble_eq_true rfl, Nat.le_of_ble_eq_true rfl⟩) (w_preV hK hP hD [3, 4, 5, 6] (by decide) rfl rfl (q0 := 3) rfl) rfl rfl hl.1 rfl (lv_room (Nat.le_of_ble_eq_true rfl)) dX0_reclaim_34 ⟨Nat.le_of_ble_eq_true rfl, Nat.le_of_ble_eq_true rfl⟩) hP hD hS hA [3, 4, 5, 6] [0, 1, 2, 7, 8, 9, 10] [0, 1, 2, 7, 8, 9, 10, 3, 4, 5, 6] rfl rfl (by decide) (by decide) (by decide) rfl (fun H locs hP hD hS => ?_)
        refine lv_istore_n (lv' := [(2, .int (nI ((r_rcl g.1 i).1.1))), (0, .ref (a 0)), (1, .int (nI ((r_rcl g.1 i).2)))]) hx hb dX0_reclaim_37 rfl hl (by decide) rfl (fun ls hl => ?_)
        refine lv_iinc (v := nI ((r_rcl g.1 i).2 + 1)) (lv' := [(1, .int (nI ((r_rcl g.1 i).2 + 1))), (2, .int (nI ((r_rcl g.1 i).1.1))), (0, .ref (a 0))]) hx hb dX0_reclaim_38 hl (k := 2) rfl (nI_1 _) (by decide) rfl (fun ls hl => ?_)
        refine lv_goto (tgt := 2) hx hb dX0_reclaim_41 (by decide) ?_
        have en := r_rcl_go g.1 i ⟨hne, h2⟩
        have hl : lv_has ls 3 [(0, .ref (a 0)), (1, .int (nI (r_rcl g.1 (i + 1)).2))] := by rw [en]; exact lv_sub hl [2, 0] rfl
        refine ih (i + 1) (by rw [en]; show (r_rcl g.1 i).1.2.1 - 1 ≤ n; omega) (by omega) H locs ls (by rw [en]; exact hP) (by rw [en]; exact hD) hS hl
set_option maxHeartbeats 4000000 in
/-- reclaim() -/
theorem m_rcl (D : va_G) (ka : Nat → ClassId) (l : Launch) (a : Nat → Nat) (g : ST) (hok : okR g.1) (sz : Nat) : CT D ka l yX0_reclaim cX0_reclaim 3 (some .int) ({ frames := 1, cells := 0, slots := 0, locals := 21 } : Room) [.ref (a 0)] sz (rdW ka a g) (some (.int (p_rcl g).1)) (rdW ka a (p_rcl g).2) := by
  refine enter (by decide) (Nat.le_of_ble_eq_true rfl) ?_
  intro p e s m below meth c A ls F hP hD hS hl
  have FF := F
  obtain ⟨hx, hb, hr, hlocks, hml, hown, hts, hA, hK, hnm⟩ := F
  have hl : lv_has ls 3 [(0, .ref (a 0))] := hl
  refine lv_iconst (v := nI 0) hx hb dX0_reclaim_0 (by decide) ?_
  refine lv_istore_n (lv' := [(1, .int (nI 0)), (0, .ref (a 0))]) hx hb dX0_reclaim_1 rfl hl (by decide) rfl (fun ls hl => ?_)
  refine lp_rcl a g hok FF (fun H locs ls hP hD hS hl => ?_) 8 0 hok.2 rfl _ _ ls hP hD hS (lv_sub hl [1, 0] rfl)
  refine lv_iload_n hx hb dX0_reclaim_44 rfl (lv_at hl 1 rfl) ?_
  exact e_int hx hb hr hlocks hP hD hS (rfl) (rfl) dX0_reclaim_45
set_option maxHeartbeats 4000000 in
/-- revoke() -/
theorem m_rev (D : va_G) (ka : Nat → ClassId) (l : Launch) (a : Nat → Nat) (g : ST) (hok : okR g.1) (sz : Nat) : CT D ka l yX0_revoke cX0_revoke 2 (some .int) ({ frames := 2, cells := 0, slots := 0, locals := 45 } : Room) [.ref (a 0)] sz (rdW ka a g) (some (.int (p_rev g).1)) (rdW ka a (p_rev g).2) := by
  refine enter (by decide) (Nat.le_of_ble_eq_true rfl) ?_
  intro p e s m below meth c A ls F hP hD hS hl
  obtain ⟨hx, hb, hr, hlocks, hml, hown, hts, hA, hK, hnm⟩ := F
  have hl : lv_has ls 2 [(0, .ref (a 0))] := hl
  refine lv_aload_n hx hb dX0_revoke_0 rfl (lv_at hl 0 rfl) ?_
  refine w_call (wr := []) (wn := rdW ka a (s_t g (r_all g.1).1)) (va_runV (As := []) (rest := []) ⟨hx, hb, hml, hown, hts⟩ (m_rcl D ka l a g hok _) (cwV 0 hts (lw_V q189 q160 q161 q4 q162) rfl rfl rfl (by decide +kernel) ⟨Nat.le_of_ble_eq_true rfl, Nat.le_of_ble_eq_true rfl⟩) (w_preV hK hP hD [0, 1, 2, 3, 4, 5, 6, 7, 8, 9, 10] (by decide) rfl rfl (q0 := 0) rfl) rfl rfl hl.1 rfl (lv_room (Nat.le_of_ble_eq_true rfl)) dX0_revoke_1 ⟨Nat.le_of_ble_eq_true rfl, Nat.le_of_ble_eq_true rfl⟩) hP hD hS hA [0, 1, 2, 3, 4, 5, 6, 7, 8, 9, 10] [] [0, 1, 2, 3, 4, 5, 6, 7, 8, 9, 10] rfl rfl (by decide) (by decide) (by decide) rfl (fun H locs hP hD hS => ?_)
  refine lv_istore_n (lv' := [(1, .int ((p_rcl g).1)), (0, .ref (a 0))]) hx hb dX0_revoke_4 rfl hl (by decide) rfl (fun ls hl => ?_)
  refine lv_aload_n hx hb dX0_revoke_5 rfl (lv_at hl 1 rfl) ?_
  refine va_get (D := D) (ci := 0) (v := .ref (a 3)) (C := RX0) (T := TX0) (N := 5) hx hb hts in_X0 hown hK.1 hP 0 rfl rfl 0 (by decide) (hts _ q67) (fun _ h9 => h9) rfl dX0_revoke_6 ?_
  refine lv_iconst (v := nI 0) hx hb dX0_revoke_9 (by decide) ?_
  refine w_call (wr := rdRt ka a g) (wn := rdW ka a (s_t g (r_cut (r_all g.1).1 0))) (va_runU (As := [.int (nI 0)]) (rest := []) ⟨hx, hb, hml, hown, hts⟩ (m_cut D ka l rgT 8 (fun i => a (3 + i)) (r_all g.1).1 0 (okR_all hok) (Nat.zero_le _) _) (va_cwU 1 hts (lw_U q190 q191 q193 q194 q5 q195) rfl rfl rfl rfl (by decide +kernel) ⟨Nat.le_of_ble_eq_true rfl, Nat.le_of_ble_eq_true rfl⟩) (w_preV hK hP hD [3, 4, 5, 6] (by decide) rfl rfl (q0 := 3) rfl) rfl rfl hl.1 rfl (lv_room (Nat.le_of_ble_eq_true rfl)) dX0_revoke_10 ⟨Nat.le_of_ble_eq_true rfl, Nat.le_of_ble_eq_true rfl⟩) hP hD hS hA [3, 4, 5, 6] [0, 1, 2, 7, 8, 9, 10] [0, 1, 2, 7, 8, 9, 10, 3, 4, 5, 6] rfl rfl (by decide) (by decide) (by decide) rfl (fun H locs hP hD hS => ?_)
  exact e_int hx hb hr hlocks hP hD hS (rfl) (rfl) dX0_revoke_13
set_option maxHeartbeats 4000000 in
/-- receive: the loop -/
theorem lp_recv {D : va_G} {ka : Nat → ClassId} {p : Program} {l : Launch} {e : Env} {s : State} {m : MethodId} {args : Array Value} {below : List Frame} {meth : Method} {c : Code} {A : Nat → Prop} {Q : State → Prop} (a : Nat → Nat) (G : ST) (k len : Nat) (hk : k < 8) (hlen : len ≤ 16) (F : Fx D ka p s m args c meth cX0_receive 4 (some .int) RX0 "receive" A)
    (kk : ∀ (H : Heap) (locs : List Loc) (ls : Array Slot), va_P D vwCl (rdW ka a (s_ib G (fill G.2.2.2.1 0 (fun i => G.2.1.2.2.2.1 (16 * k + i)) len))) H → va_D A (rdW ka a (s_ib G (fill G.2.2.2.1 0 (fun i => G.2.1.2.2.2.1 (16 * k + i)) len))) → va_S A s.heap H locs → lv_has ls 4 [(0, .ref (a 0)), (1, .int (nI k)), (2, .int (nI len))] → W p l e ({ frames := 1, cells := 0, slots := 0, locals := 22 } : Room) s m args below meth c H locs 0 0 Q (F0 m 89 ls [])) :
    ∀ (n i : Nat), i + n = len → ∀ (H : Heap) (locs : List Loc) (ls : Array Slot), va_P D vwCl (rdW ka a (s_ib G (fill G.2.2.2.1 0 (fun i => G.2.1.2.2.2.1 (16 * k + i)) i))) H → va_D A (rdW ka a (s_ib G (fill G.2.2.2.1 0 (fun i => G.2.1.2.2.2.1 (16 * k + i)) i))) → va_S A s.heap H locs → lv_has ls 4 [(0, .ref (a 0)), (1, .int (nI k)), (2, .int (nI len)), (3, .int (nI i))] → W p l e ({ frames := 1, cells := 0, slots := 0, locals := 22 } : Room) s m args below meth c H locs 0 0 Q (F0 m 63 ls []) := by
  obtain ⟨hx, hb, hr, hlocks, hml, hown, hts, hA, hK, hnm⟩ := F
  intro n
  induction n with
  | zero =>
    intro i hi H locs ls hP hD hS hl
    obtain rfl : i = len := by omega
    refine lv_iload_n hx hb dX0_receive_63 rfl (lv_at hl 3 rfl) ?_
    refine lv_iload_n hx hb dX0_receive_64 rfl (lv_at hl 2 rfl) ?_
    refine n_icmp_ge (tgt := 89) hx hb (by omega) (by omega) dX0_receive_65 (by decide) (fun h1 => ?_) (fun h1 => ?_)
    · exact kk H locs ls hP hD hS (lv_sub hl [0, 1, 2] rfl)
    · exact absurd h1 (by omega)
  | succ n ih =>
    intro i hi H locs ls hP hD hS hl
    refine lv_iload_n hx hb dX0_receive_63 rfl (lv_at hl 3 rfl) ?_
    refine lv_iload_n hx hb dX0_receive_64 rfl (lv_at hl 2 rfl) ?_
    refine n_icmp_ge (tgt := 89) hx hb (by omega) (by omega) dX0_receive_65 (by decide) (fun h1 => ?_) (fun h1 => ?_)
    · exact absurd h1 (by omega)
    · refine lv_aload_n hx hb dX0_receive_68 rfl (lv_at hl 0 rfl) ?_
      refine va_get (D := D) (ci := 0) (v := .ref (a 2)) (C := RX0) (T := TX0) (N := 5) hx hb hts in_X0 hown hK.1 hP 0 rfl rfl 3 (by decide) (hts _ q70) (fun _ h9 => h9) rfl dX0_receive_69 ?_
      refine lv_iload_n hx hb dX0_receive_72 rfl (lv_at hl 3 rfl) ?_
      refine lv_aload_n hx hb dX0_receive_73 rfl (lv_at hl 0 rfl) ?_
      refine va_get (D := D) (ci := 0) (v := .ref (a 7)) (C := RX0) (T := TX0) (N := 5) hx hb hts in_X0 hown hK.1 hP 0 rfl rfl 1 (by decide) (hts _ q68) (fun _ h9 => h9) rfl dX0_receive_74 ?_
      refine lv_iload_n hx hb dX0_receive_77 rfl (lv_at hl 1 rfl) ?_
      refine lv_iload_n hx hb dX0_receive_78 rfl (lv_at hl 3 rfl) ?_
      refine w_call (wr := rdRr ka a (s_ib G (fill G.2.2.2.1 0 (fun i => G.2.1.2.2.2.1 (16 * k + i)) i))) (wn := rdW ka a (s_ib G (fill G.2.2.2.1 0 (fun i => G.2.1.2.2.2.1 (16 * k + i)) i))) (va_runU (As := [.int (nI k), .int (nI i)]) (rest := [.int (nI i), .ref (a 2)]) ⟨hx, hb, hml, hown, hts⟩ (m_byteOf D ka l rgR 16 (fun i => a (7 + i)) G.2.1 k i (by omega) _) (va_cwU 2 hts (lw_U q234 q235 q237 q111 q5 q115) rfl rfl rfl rfl (by decide +kernel) ⟨Nat.le_of_ble_eq_true rfl, Nat.le_of_ble_eq_true rfl⟩) (w_preV hK hP hD [7, 8, 9, 10] (by decide) rfl rfl (q0 := 7) rfl) rfl rfl hl.1 rfl (lv_room (Nat.le_of_ble_eq_true rfl)) dX0_receive_79 ⟨Nat.le_of_ble_eq_true rfl, Nat.le_of_ble_eq_true rfl⟩) hP hD hS hA [7, 8, 9, 10] [0, 1, 2, 3, 4, 5, 6] [0, 1, 2, 3, 4, 5, 6, 7, 8, 9, 10] rfl rfl (by decide) (by decide) (by decide) rfl (fun H locs hP hD hS => ?_)
      refine n_iast (wn := rdW ka a (s_ib G (fill G.2.2.2.1 0 (fun i => G.2.1.2.2.2.1 (16 * k + i)) (i + 1)))) hx hb hK hP hD hS 2 (G.2.1.2.2.2.1 (16 * k + i)) rfl (by omega) (by decide) (rfl) (by rw [fill0]; rfl) dX0_receive_82 (fun H locs hP hD hS => ?_)
      refine lv_iinc (v := nI (i + 1)) (lv' := [(3, .int (nI (i + 1))), (0, .ref (a 0)), (1, .int (nI k)), (2, .int (nI len))]) hx hb dX0_receive_83 hl (k := 3) rfl (nI_1 _) (by decide) rfl (fun ls hl => ?_)
      refine lv_goto (tgt := 63) hx hb dX0_receive_86 (by decide) ?_
      exact ih (i + 1) (by omega) H locs ls hP hD hS (lv_sub hl [1, 2, 3, 0] rfl)
set_option maxHeartbeats 4000000 in
/-- receive() -/
theorem m_recv (D : va_G) (ka : Nat → ClassId) (l : Launch) (a : Nat → Nat) (g : ST) (hok : okR g.2.1) (sz : Nat) : CT D ka l yX0_receive cX0_receive 4 (some .int) ({ frames := 1, cells := 0, slots := 0, locals := 22 } : Room) [.ref (a 0)] sz (rdW ka a g) (some (.int (p_recv g).1)) (rdW ka a (p_recv g).2) := by
  refine enter (by decide) (Nat.le_of_ble_eq_true rfl) ?_
  intro p e s m below meth c A ls F hP hD hS hl
  have FF := F
  obtain ⟨hx, hb, hr, hlocks, hml, hown, hts, hA, hK, hnm⟩ := F
  have hl : lv_has ls 4 [(0, .ref (a 0))] := hl
  have ho := hok.1
  have h8 := hok.2
  refine lv_aload_n hx hb dX0_receive_0 rfl (lv_at hl 0 rfl) ?_
  refine va_get (D := D) (ci := 0) (v := .ref (a 7)) (C := RX0) (T := TX0) (N := 5) hx hb hts in_X0 hown hK.1 hP 0 rfl rfl 1 (by decide) (hts _ q68) (fun _ h9 => h9) rfl dX0_receive_1 ?_
  refine w_call (wr := rdRr ka a g) (wn := rdW ka a g) (va_runU (As := []) (rest := []) ⟨hx, hb, hml, hown, hts⟩ (m_empty D ka l rgR 16 (fun i => a (7 + i)) g.2.1 hok _) (va_cwU 0 hts (lw_U q216 q217 q218 q167 q5 q168) rfl rfl rfl rfl (by decide +kernel) ⟨Nat.le_of_ble_eq_true rfl, Nat.le_of_ble_eq_true rfl⟩) (w_preV hK hP hD [7, 8, 9, 10] (by decide) rfl rfl (q0 := 7) rfl) rfl rfl hl.1 rfl (lv_room (Nat.le_of_ble_eq_true rfl)) dX0_receive_4 ⟨Nat.le_of_ble_eq_true rfl, Nat.le_of_ble_eq_true rfl⟩) hP hD hS hA [7, 8, 9, 10] [0, 1, 2, 3, 4, 5, 6] [0, 1, 2, 3, 4, 5, 6, 7, 8, 9, 10] rfl rfl (by decide) (by decide) (by decide) rfl (fun H locs hP hD hS => ?_)
  refine z_if_ne (tgt := 28) hx hb dX0_receive_7 (by decide) (fun h1 => ?_) (fun h1 => ?_)
  · refine lv_iconst (v := (-1)) hx hb dX0_receive_28 (by decide) ?_
    exact e_int hx hb hr hlocks hP hD hS (by rw [p_recv, if_pos (Or.inl (of_decide_eq_true h1))]) (by rw [p_recv, if_pos (Or.inl (of_decide_eq_true h1))]) dX0_receive_29
  · have hne := of_decide_eq_false h1
    refine lv_aload_n hx hb dX0_receive_10 rfl (lv_at hl 0 rfl) ?_
    refine va_get (D := D) (ci := 0) (v := .ref (a 7)) (C := RX0) (T := TX0) (N := 5) hx hb hts in_X0 hown hK.1 hP 0 rfl rfl 1 (by decide) (hts _ q68) (fun _ h9 => h9) rfl dX0_receive_11 ?_
    refine lv_aload_n hx hb dX0_receive_14 rfl (lv_at hl 0 rfl) ?_
    refine va_get (D := D) (ci := 0) (v := .ref (a 7)) (C := RX0) (T := TX0) (N := 5) hx hb hts in_X0 hown hK.1 hP 0 rfl rfl 1 (by decide) (hts _ q68) (fun _ h9 => h9) rfl dX0_receive_15 ?_
    refine lv_iconst (v := nI 0) hx hb dX0_receive_18 (by decide) ?_
    refine w_call (wr := rdRr ka a g) (wn := rdW ka a g) (va_runU (As := [.int (nI 0)]) (rest := [.ref (a 7)]) ⟨hx, hb, hml, hown, hts⟩ (m_slot D ka l rgR 16 (fun i => a (7 + i)) g.2.1 0 g.2.1.1 (by omega) (by omega) _) (va_cwU 1 hts (lw_U q219 q220 q221 q154 q5 q158) rfl rfl rfl rfl (by decide +kernel) ⟨Nat.le_of_ble_eq_true rfl, Nat.le_of_ble_eq_true rfl⟩) (w_preV hK hP hD [7, 8, 9, 10] (by decide) rfl rfl (q0 := 7) rfl) rfl rfl hl.1 rfl (lv_room (Nat.le_of_ble_eq_true rfl)) dX0_receive_19 ⟨Nat.le_of_ble_eq_true rfl, Nat.le_of_ble_eq_true rfl⟩) hP hD hS hA [7, 8, 9, 10] [0, 1, 2, 3, 4, 5, 6] [0, 1, 2, 3, 4, 5, 6, 7, 8, 9, 10] rfl rfl (by decide) (by decide) (by decide) rfl (fun H locs hP hD hS => ?_)
    refine w_call (wr := rdRr ka a g) (wn := rdW ka a g) (va_runU (As := [.int (nI g.2.1.1)]) (rest := []) ⟨hx, hb, hml, hown, hts⟩ (m_owner D ka l rgR 16 (fun i => a (7 + i)) g.2.1 g.2.1.1 ho _) (va_cwU 1 hts (lw_U q222 q223 q224 q177 q5 q178) rfl rfl rfl rfl (by decide +kernel) ⟨Nat.le_of_ble_eq_true rfl, Nat.le_of_ble_eq_true rfl⟩) (w_preV hK hP hD [7, 8, 9, 10] (by decide) rfl rfl (q0 := 7) rfl) rfl rfl hl.1 rfl (lv_room (Nat.le_of_ble_eq_true rfl)) dX0_receive_22 ⟨Nat.le_of_ble_eq_true rfl, Nat.le_of_ble_eq_true rfl⟩) hP hD hS hA [7, 8, 9, 10] [0, 1, 2, 3, 4, 5, 6] [0, 1, 2, 3, 4, 5, 6, 7, 8, 9, 10] rfl rfl (by decide) (by decide) (by decide) rfl (fun H locs hP hD hS => ?_)
    refine u_if_eq (tgt := 30) hx hb dX0_receive_25 (by decide) (fun h2 => ?_) (fun h2 => ?_)
    · have hc : ¬ (g.2.1.2.1 = 0 ∨ g.2.1.2.2.1 (8 * g.2.1.1 + 2) ≠ 0) := fun q => q.elim hne (fun q => q h2)
      refine lv_aload_n hx hb dX0_receive_30 rfl (lv_at hl 0 rfl) ?_
      refine va_get (D := D) (ci := 0) (v := .ref (a 7)) (C := RX0) (T := TX0) (N := 5) hx hb hts in_X0 hown hK.1 hP 0 rfl rfl 1 (by decide) (hts _ q68) (fun _ h9 => h9) rfl dX0_receive_31 ?_
      refine w_call (wr := rdRr ka a g) (wn := rdW ka a (s_r g (r_take g.2.1))) (va_runU (As := []) (rest := []) ⟨hx, hb, hml, hown, hts⟩ (m_take D ka l rgR 16 (fun i => a (7 + i)) g.2.1 hok hne _) (va_cwU 0 hts (lw_U q225 q226 q227 q183 q5 q184) rfl rfl rfl rfl (by decide +kernel) ⟨Nat.le_of_ble_eq_true rfl, Nat.le_of_ble_eq_true rfl⟩) (w_preV hK hP hD [7, 8, 9, 10] (by decide) rfl rfl (q0 := 7) rfl) rfl rfl hl.1 rfl (lv_room (Nat.le_of_ble_eq_true rfl)) dX0_receive_34 ⟨Nat.le_of_ble_eq_true rfl, Nat.le_of_ble_eq_true rfl⟩) hP hD hS hA [7, 8, 9, 10] [0, 1, 2, 3, 4, 5, 6] [0, 1, 2, 3, 4, 5, 6, 7, 8, 9, 10] rfl rfl (by decide) (by decide) (by decide) rfl (fun H locs hP hD hS => ?_)
      refine lv_istore_n (lv' := [(1, .int (nI g.2.1.1)), (0, .ref (a 0))]) hx hb dX0_receive_37 rfl hl (by decide) rfl (fun ls hl => ?_)
      refine lv_aload_n hx hb dX0_receive_38 rfl (lv_at hl 1 rfl) ?_
      refine va_get (D := D) (ci := 0) (v := .ref (a 7)) (C := RX0) (T := TX0) (N := 5) hx hb hts in_X0 hown hK.1 hP 0 rfl rfl 1 (by decide) (hts _ q68) (fun _ h9 => h9) rfl dX0_receive_39 ?_
      refine lv_iload_n hx hb dX0_receive_42 rfl (lv_at hl 0 rfl) ?_
      refine w_call (wr := rdRr ka a g) (wn := rdW ka a (s_r g (r_take g.2.1))) (va_runU (As := [.int (nI g.2.1.1)]) (rest := []) ⟨hx, hb, hml, hown, hts⟩ (m_length D ka l rgR 16 (fun i => a (7 + i)) (r_take g.2.1) g.2.1.1 ho _) (va_cwU 1 hts (lw_U q228 q229 q231 q232 q5 q233) rfl rfl rfl rfl (by decide +kernel) ⟨Nat.le_of_ble_eq_true rfl, Nat.le_of_ble_eq_true rfl⟩) (w_preV hK hP hD [7, 8, 9, 10] (by decide) rfl rfl (q0 := 7) rfl) rfl rfl hl.1 rfl (lv_room (Nat.le_of_ble_eq_true rfl)) dX0_receive_43 ⟨Nat.le_of_ble_eq_true rfl, Nat.le_of_ble_eq_true rfl⟩) hP hD hS hA [7, 8, 9, 10] [0, 1, 2, 3, 4, 5, 6] [0, 1, 2, 3, 4, 5, 6, 7, 8, 9, 10] rfl rfl (by decide) (by decide) (by decide) rfl (fun H locs hP hD hS => ?_)
      refine lv_istore_n (lv' := [(2, .int (ub (g.2.1.2.2.1 (8 * g.2.1.1 + 1)))), (1, .int (nI g.2.1.1)), (0, .ref (a 0))]) hx hb dX0_receive_46 rfl hl (by decide) rfl (fun ls hl => ?_)
      refine lv_iload_n hx hb dX0_receive_47 rfl (lv_at hl 0 rfl) ?_
      refine lv_iconst (v := nI 1) hx hb dX0_receive_48 (by decide) ?_
      refine n_icmp_lt (tgt := 58) hx hb (by exact Nat.lt_trans (u8_lt _) (by decide)) (by omega) dX0_receive_49 (by decide) (fun h3 => ?_) (fun h3 => ?_)
      · refine lv_bipush (v := (-3)) hx hb dX0_receive_58 (by decide) ?_
        exact e_int hx hb hr hlocks hP hD hS (by rw [p_recv, if_neg hc, if_pos (Or.inl (by omega))]) (by rw [p_recv, if_neg hc, if_pos (Or.inl (by omega))]) dX0_receive_60
      · refine lv_iload_n hx hb dX0_receive_52 rfl (lv_at hl 0 rfl) ?_
        refine lv_bipush (v := nI 16) hx hb dX0_receive_53 (by decide) ?_
        refine n_icmp_le (tgt := 61) hx hb (by exact Nat.lt_trans (u8_lt _) (by decide)) (by omega) dX0_receive_55 (by decide) (fun h4 => ?_) (fun h4 => ?_)
        · have hd : ¬ ((g.2.1.2.2.1 (8 * g.2.1.1 + 1)).toNat = 0 ∨ 16 < (g.2.1.2.2.1 (8 * g.2.1.1 + 1)).toNat) := by omega
          refine lv_iconst (v := nI 0) hx hb dX0_receive_61 (by decide) ?_
          refine lv_istore_n (lv' := [(3, .int (nI 0)), (2, .int (ub (g.2.1.2.2.1 (8 * g.2.1.1 + 1)))), (1, .int (nI g.2.1.1)), (0, .ref (a 0))]) hx hb dX0_receive_62 rfl hl (by decide) rfl (fun ls hl => ?_)
          refine lp_recv a (s_r g (r_take g.2.1)) g.2.1.1 (g.2.1.2.2.1 (8 * g.2.1.1 + 1)).toNat ho h4 FF (fun H locs ls hP hD hS hl => ?_) (g.2.1.2.2.1 (8 * g.2.1.1 + 1)).toNat 0 (Nat.zero_add _) H locs ls hP hD hS (lv_sub hl [3, 2, 1, 0] rfl)
          refine lv_iload_n hx hb dX0_receive_89 rfl (lv_at hl 2 rfl) ?_
          exact e_int hx hb hr hlocks hP hD hS (by rw [p_recv, if_neg hc, if_neg hd]; rfl) (by rw [p_recv, if_neg hc, if_neg hd]; rfl) dX0_receive_90
        · refine lv_bipush (v := (-3)) hx hb dX0_receive_58 (by decide) ?_
          exact e_int hx hb hr hlocks hP hD hS (by rw [p_recv, if_neg hc, if_pos (Or.inr h4)]) (by rw [p_recv, if_neg hc, if_pos (Or.inr h4)]) dX0_receive_60
    · refine lv_iconst (v := (-1)) hx hb dX0_receive_28 (by decide) ?_
      exact e_int hx hb hr hlocks hP hD hS (by rw [p_recv, if_pos (Or.inr h2)]) (by rw [p_recv, if_pos (Or.inr h2)]) dX0_receive_29
set_option maxHeartbeats 4000000 in
/-- withdraw: the loop -/
theorem lp_wdr {D : va_G} {ka : Nat → ClassId} {p : Program} {l : Launch} {e : Env} {s : State} {m : MethodId} {args : Array Value} {below : List Frame} {meth : Method} {c : Code} {A : Nat → Prop} {Q : State → Prop} (a : Nat → Nat) (g : ST) (hok : okR g.2.1) (F : Fx D ka p s m args c meth cX0_withdraw 2 (some .int) RX0 "withdraw" A)
    (kk : ∀ (H : Heap) (locs : List Loc) (ls : Array Slot), va_P D vwCl (rdW ka a g) H → va_D A (rdW ka a g) → va_S A s.heap H locs → lv_has ls 2 [(0, .ref (a 0)), (1, .int (nI (r_st g.2.1)))] → W p l e ({ frames := 2, cells := 0, slots := 0, locals := 45 } : Room) s m args below meth c H locs 0 0 Q (F0 m 37 ls [])) :
    ∀ (n i : Nat), i + n = 8 → r_stay g.2.1 i = i → ∀ (H : Heap) (locs : List Loc) (ls : Array Slot), va_P D vwCl (rdW ka a g) H → va_D A (rdW ka a g) → va_S A s.heap H locs → lv_has ls 2 [(0, .ref (a 0)), (1, .int (nI i))] → W p l e ({ frames := 2, cells := 0, slots := 0, locals := 45 } : Room) s m args below meth c H locs 0 0 Q (F0 m 2 ls []) := by
  obtain ⟨hx, hb, hr, hlocks, hml, hown, hts, hA, hK, hnm⟩ := F
  have ho := hok.1
  have h8 := hok.2
  have stop : ∀ i, i ≤ 8 → r_stay g.2.1 i = i → ¬ (i < g.2.1.2.1 ∧ g.2.1.2.2.1 (8 * ((g.2.1.1 + i) % 8) + 2) = 0) → r_st g.2.1 = i := fun i hi h0 h => by
    rw [r_st_eq, ← r_stay_stop g.2.1 i h0 h (8 - i), Nat.add_sub_cancel' hi]
  intro n
  induction n with
  | zero =>
    intro i hi h0 H locs ls hP hD hS hl
    refine lv_iload_n hx hb dX0_withdraw_2 rfl (lv_at hl 1 rfl) ?_
    refine lv_aload_n hx hb dX0_withdraw_3 rfl (lv_at hl 0 rfl) ?_
    refine va_get (D := D) (ci := 0) (v := .ref (a 7)) (C := RX0) (T := TX0) (N := 5) hx hb hts in_X0 hown hK.1 hP 0 rfl rfl 1 (by decide) (hts _ q68) (fun _ h9 => h9) rfl dX0_withdraw_4 ?_
    refine va_get (D := D) (ci := 2) (v := .int (nI g.2.1.2.1)) (C := RX3) (T := TX2) (N := 6) hx hb hts in_X3' hown hK.1 hP 7 rfl rfl 5 (by decide) (hts _ q35) (u_same (hts _ q36)) rfl dX0_withdraw_7 ?_
    refine n_icmp_ge (tgt := 37) hx hb (by omega) (by omega) dX0_withdraw_10 (by decide) (fun h1 => ?_) (fun h1 => ?_)
    · have es := stop i (by omega) h0 (fun q => absurd q.1 (by omega))
      rw [← es] at hl
      exact kk H locs ls hP hD hS hl
    · exact absurd h1 (by omega)
  | succ n ih =>
    intro i hi h0 H locs ls hP hD hS hl
    refine lv_iload_n hx hb dX0_withdraw_2 rfl (lv_at hl 1 rfl) ?_
    refine lv_aload_n hx hb dX0_withdraw_3 rfl (lv_at hl 0 rfl) ?_
    refine va_get (D := D) (ci := 0) (v := .ref (a 7)) (C := RX0) (T := TX0) (N := 5) hx hb hts in_X0 hown hK.1 hP 0 rfl rfl 1 (by decide) (hts _ q68) (fun _ h9 => h9) rfl dX0_withdraw_4 ?_
    refine va_get (D := D) (ci := 2) (v := .int (nI g.2.1.2.1)) (C := RX3) (T := TX2) (N := 6) hx hb hts in_X3' hown hK.1 hP 7 rfl rfl 5 (by decide) (hts _ q35) (u_same (hts _ q36)) rfl dX0_withdraw_7 ?_
    refine n_icmp_ge (tgt := 37) hx hb (by omega) (by omega) dX0_withdraw_10 (by decide) (fun h1 => ?_) (fun h1 => ?_)
    · have es := stop i (by omega) h0 (fun q => absurd q.1 (by omega))
      rw [← es] at hl
      exact kk H locs ls hP hD hS hl
    · refine lv_aload_n hx hb dX0_withdraw_13 rfl (lv_at hl 0 rfl) ?_
      refine va_get (D := D) (ci := 0) (v := .ref (a 7)) (C := RX0) (T := TX0) (N := 5) hx hb hts in_X0 hown hK.1 hP 0 rfl rfl 1 (by decide) (hts _ q68) (fun _ h9 => h9) rfl dX0_withdraw_14 ?_
      refine lv_aload_n hx hb dX0_withdraw_17 rfl (lv_at hl 0 rfl) ?_
      refine va_get (D := D) (ci := 0) (v := .ref (a 7)) (C := RX0) (T := TX0) (N := 5) hx hb hts in_X0 hown hK.1 hP 0 rfl rfl 1 (by decide) (hts _ q68) (fun _ h9 => h9) rfl dX0_withdraw_18 ?_
      refine lv_iload_n hx hb dX0_withdraw_21 rfl (lv_at hl 1 rfl) ?_
      refine w_call (wr := rdRr ka a g) (wn := rdW ka a g) (va_runU (As := [.int (nI i)]) (rest := [.ref (a 7)]) ⟨hx, hb, hml, hown, hts⟩ (m_slot D ka l rgR 16 (fun i => a (7 + i)) g.2.1 i ((g.2.1.1 + i) % 8) (by omega) rfl _) (va_cwU 1 hts (lw_U q219 q220 q221 q154 q5 q158) rfl rfl rfl rfl (by decide +kernel) ⟨Nat.le_of_ble_eq_true rfl, Nat.le_of_ble_eq_true rfl⟩) (w_preV hK hP hD [7, 8, 9, 10] (by decide) rfl rfl (q0 := 7) rfl) rfl rfl hl.1 rfl (lv_room (Nat.le_of_ble_eq_true rfl)) dX0_withdraw_22 ⟨Nat.le_of_ble_eq_true rfl, Nat.le_of_ble_eq_true rfl⟩) hP hD hS hA [7, 8, 9, 10] [0, 1, 2, 3, 4, 5, 6] [0, 1, 2, 3, 4, 5, 6, 7, 8, 9, 10] rfl rfl (by decide) (by decide) (by decide) rfl (fun H locs hP hD hS => ?_)
      refine w_call (wr := rdRr ka a g) (wn := rdW ka a g) (va_runU (As := [.int (nI ((g.2.1.1 + i) % 8))]) (rest := []) ⟨hx, hb, hml, hown, hts⟩ (m_owner D ka l rgR 16 (fun i => a (7 + i)) g.2.1 ((g.2.1.1 + i) % 8) (Nat.mod_lt _ (by decide)) _) (va_cwU 1 hts (lw_U q222 q223 q224 q177 q5 q178) rfl rfl rfl rfl (by decide +kernel) ⟨Nat.le_of_ble_eq_true rfl, Nat.le_of_ble_eq_true rfl⟩) (w_preV hK hP hD [7, 8, 9, 10] (by decide) rfl rfl (q0 := 7) rfl) rfl rfl hl.1 rfl (lv_room (Nat.le_of_ble_eq_true rfl)) dX0_withdraw_25 ⟨Nat.le_of_ble_eq_true rfl, Nat.le_of_ble_eq_true rfl⟩) hP hD hS hA [7, 8, 9, 10] [0, 1, 2, 3, 4, 5, 6] [0, 1, 2, 3, 4, 5, 6, 7, 8, 9, 10] rfl rfl (by decide) (by decide) (by decide) rfl (fun H locs hP hD hS => ?_)
      refine u_if_ne (tgt := 37) hx hb dX0_withdraw_28 (by decide) (fun h2 => ?_) (fun h2 => ?_)
      · have es := stop i (by omega) h0 (fun q => h2 q.2)
        rw [← es] at hl
        exact kk H locs ls hP hD hS hl
      · refine lv_iinc (v := nI (i + 1)) (lv' := [(1, .int (nI (i + 1))), (0, .ref (a 0))]) hx hb dX0_withdraw_31 hl (k := 1) rfl (nI_1 _) (by decide) rfl (fun ls hl => ?_)
        refine lv_goto (tgt := 2) hx hb dX0_withdraw_34 (by decide) ?_
        exact ih (i + 1) (by omega) (r_stay_go g.2.1 i h0 h1 h2) H locs ls hP hD hS (lv_sub hl [1, 0] rfl)
set_option maxHeartbeats 4000000 in
/-- withdraw() -/
theorem m_wdr (D : va_G) (ka : Nat → ClassId) (l : Launch) (a : Nat → Nat) (g : ST) (hok : okR g.2.1) (sz : Nat) : CT D ka l yX0_withdraw cX0_withdraw 2 (some .int) ({ frames := 2, cells := 0, slots := 0, locals := 45 } : Room) [.ref (a 0)] sz (rdW ka a g) (some (.int (p_wdr g).1)) (rdW ka a (p_wdr g).2) := by
  refine enter (by decide) (Nat.le_of_ble_eq_true rfl) ?_
  intro p e s m below meth c A ls F hP hD hS hl
  have FF := F
  obtain ⟨hx, hb, hr, hlocks, hml, hown, hts, hA, hK, hnm⟩ := F
  have hl : lv_has ls 2 [(0, .ref (a 0))] := hl
  refine lv_iconst (v := nI 0) hx hb dX0_withdraw_0 (by decide) ?_
  refine lv_istore_n (lv' := [(1, .int (nI 0)), (0, .ref (a 0))]) hx hb dX0_withdraw_1 rfl hl (by decide) rfl (fun ls hl => ?_)
  refine lp_wdr a g hok FF (fun H locs ls hP hD hS hl => ?_) 8 0 rfl rfl _ _ ls hP hD hS (lv_sub hl [1, 0] rfl)
  refine lv_aload_n hx hb dX0_withdraw_37 rfl (lv_at hl 0 rfl) ?_
  refine va_get (D := D) (ci := 0) (v := .ref (a 7)) (C := RX0) (T := TX0) (N := 5) hx hb hts in_X0 hown hK.1 hP 0 rfl rfl 1 (by decide) (hts _ q68) (fun _ h9 => h9) rfl dX0_withdraw_38 ?_
  refine lv_iload_n hx hb dX0_withdraw_41 rfl (lv_at hl 1 rfl) ?_
  refine w_call (wr := rdRr ka a g) (wn := rdW ka a (s_r g (r_cut g.2.1 (r_st g.2.1)))) (va_runU (As := [.int (nI (r_st g.2.1))]) (rest := []) ⟨hx, hb, hml, hown, hts⟩ (m_cut D ka l rgR 16 (fun i => a (7 + i)) g.2.1 (r_st g.2.1) hok (r_st_n _) _) (va_cwU 1 hts (lw_U q246 q247 q248 q194 q5 q195) rfl rfl rfl rfl (by decide +kernel) ⟨Nat.le_of_ble_eq_true rfl, Nat.le_of_ble_eq_true rfl⟩) (w_preV hK hP hD [7, 8, 9, 10] (by decide) rfl rfl (q0 := 7) rfl) rfl rfl hl.1 rfl (lv_room (Nat.le_of_ble_eq_true rfl)) dX0_withdraw_42 ⟨Nat.le_of_ble_eq_true rfl, Nat.le_of_ble_eq_true rfl⟩) hP hD hS hA [7, 8, 9, 10] [0, 1, 2, 3, 4, 5, 6] [0, 1, 2, 3, 4, 5, 6, 7, 8, 9, 10] rfl rfl (by decide) (by decide) (by decide) rfl (fun H locs hP hD hS => ?_)
  exact e_int hx hb hr hlocks hP hD hS (rfl) (rfl) dX0_withdraw_45
end
section
/-! THE REFERENCE: contracts of RingDriverModel's methods, on its six cells (mdW) -/
set_option maxRecDepth 100000
theorem i32_lt_le {x : Int32} {a b : Nat} (hb : b < 2 ^ 31) (hab : a < b) (h2 : nI b ≤ x) : nI a < x := by
  rw [Int32.lt_iff_toInt_lt, nI_toInt (by omega)]
  rw [Int32.le_iff_toInt_le, nI_toInt hb] at h2
  omega
theorem mem_rdx (g : ST) {j idx : Nat} (h : idx = 64 + j) (hj : j < 64) : mem g idx = g.2.1.2.2.1 j := by
  subst h
  rw [mem_b g (by omega) (by omega), Nat.add_sub_cancel_left]
theorem mem_rbx (g : ST) {j idx : Nat} (h : idx = 256 + j) : mem g idx = g.2.1.2.2.2.1 j := by
  subst h
  show (if _ then _ else _) = _
  rw [if_neg (by omega), if_neg (by omega), if_neg (by omega), Nat.add_sub_cancel_left]
theorem mdW_wr (ka : Nat → ClassId) (a : Nat → Nat) (g : ST) (k : Nat) (v : UInt8) : (mdW ka a g).set 1 (a 1, .inl (ka 2, 384, .inl (sbf (va_up (mem g) k v)))) = mdW ka a (wr g k v) := by
  rw [mem_wr]
  unfold wr
  split
  · rfl
  · split
    · rfl
    · split <;> rfl
theorem mdW_td (ka : Nat → ClassId) (a : Nat → Nat) (g : ST) (j : Nat) (v : UInt8) (hj : j < 64) : (mdW ka a g).set 1 (a 1, .inl (ka 2, 384, .inl (sbf (va_up (mem g) j v)))) = mdW ka a (s_t g (g_d g.1 (va_up g.1.2.2.1 j v))) := by
  rw [mem_td g j v hj]; rfl
theorem mdW_rd (ka : Nat → ClassId) (a : Nat → Nat) (g : ST) (j idx : Nat) (v : UInt8) (h : idx = 64 + j) (hj : j < 64) : (mdW ka a g).set 1 (a 1, .inl (ka 2, 384, .inl (sbf (va_up (mem g) idx v)))) = mdW ka a (s_r g (g_d g.2.1 (va_up g.2.1.2.2.1 j v))) := by
  subst h; rw [mem_rd g j v hj]; rfl
theorem mdW_tb (ka : Nat → ClassId) (a : Nat → Nat) (g : ST) (j idx : Nat) (v : UInt8) (h : idx = 128 + j) (hj : j < 128) : (mdW ka a g).set 1 (a 1, .inl (ka 2, 384, .inl (sbf (va_up (mem g) idx v)))) = mdW ka a (s_t g (g_b g.1 (va_up g.1.2.2.2.1 j v))) := by
  subst h; rw [mem_tb g j v hj]; rfl
theorem mdW_rb (ka : Nat → ClassId) (a : Nat → Nat) (g : ST) (j idx : Nat) (v : UInt8) (h : idx = 256 + j) : (mdW ka a g).set 1 (a 1, .inl (ka 2, 384, .inl (sbf (va_up (mem g) idx v)))) = mdW ka a (s_r g (g_b g.2.1 (va_up g.2.1.2.2.2.1 j v))) := by
  subst h; rw [mem_rb g j v]; rfl
theorem mdW_tz (ka : Nat → ClassId) (a : Nat → Nat) (g : ST) (j : Nat) (v : Bool) (hj : j < 8) : (mdW ka a g).set 2 (a 2, .inl (ka 1, 24, .inl (zbf (va_up (rdb g) (8 + j) v)))) = mdW ka a (s_t g (g_z g.1 (va_up g.1.2.2.2.2 j v))) := by
  rw [rdb_up g j v hj]; rfl
theorem mdW_rz (ka : Nat → ClassId) (a : Nat → Nat) (g : ST) (j : Nat) (v : Bool) : (mdW ka a g).set 3 (a 3, .inl (ka 1, 24, .inl (zbf (va_up (wrb g) (16 + j) v)))) = mdW ka a (s_r g (g_z g.2.1 (va_up g.2.1.2.2.2.2 j v))) := by
  rw [wrb_up g j v]; rfl
theorem mem_fill_t (g : ST) (at0 : Nat) (src : Nat → UInt8) : ∀ n, at0 + n ≤ 64 → fill (mem g) at0 src n = mem (s_t g (g_d g.1 (fill g.1.2.2.1 at0 src n)))
  | 0, _ => rfl
  | n + 1, h => by
    show va_up (fill (mem g) at0 src n) (at0 + n) (src n) = _
    rw [mem_fill_t g at0 src n (by omega), mem_td _ _ _ (by omega)]
    rfl
theorem mem_fill_r (g : ST) (at0 : Nat) (src : Nat → UInt8) : ∀ n, at0 + n ≤ 64 → fill (mem g) (64 + at0) src n = mem (s_r g (g_d g.2.1 (fill g.2.1.2.2.1 at0 src n)))
  | 0, _ => rfl
  | n + 1, h => by
    show va_up (fill (mem g) (64 + at0) src n) (64 + at0 + n) (src n) = _
    rw [mem_fill_r g at0 src n (by omega), Nat.add_assoc, mem_rd _ _ _ (by omega)]
    rfl
theorem mem_desc_t (g : ST) (at0 pg len : Nat) (h : at0 + 8 ≤ 64) : r_desc (mem g) at0 pg len = mem (s_t g (g_d g.1 (r_desc g.1.2.2.1 at0 pg len))) := by
  unfold r_desc
  rw [mem_fill_t g at0 _ 8 h, mem_td _ _ _ (by omega), mem_td _ _ _ (by omega), mem_td _ _ _ (by omega)]
  rfl
theorem mem_desc_r (g : ST) (at0 pg len : Nat) (h : at0 + 8 ≤ 64) : r_desc (mem g) (64 + at0) pg len = mem (s_r g (g_d g.2.1 (r_desc g.2.1.2.2.1 at0 pg len))) := by
  unfold r_desc
  rw [mem_fill_r g at0 _ 8 h, mem_rd _ _ _ (by omega), Nat.add_assoc, mem_rd _ _ _ (by omega), Nat.add_assoc, mem_rd _ _ _ (by omega)]
  rfl
set_option maxHeartbeats 4000000 in
/-- reference: faults() -/
theorem c_faults (D : va_G) (ka : Nat → ClassId) (l : Launch) (a : Nat → Nat) (g : ST)  (sz : Nat) : CT D ka l yX4_faults cX4_faults 1 (some .int) ({ frames := 0, cells := 0, slots := 0, locals := 0 } : Room) [.ref (a 0)] sz (mdW ka a g) (some (.int g.2.2.2.2)) (mdW ka a g) := by
  refine enter (by decide) (Nat.le_of_ble_eq_true rfl) ?_
  intro p e s m below meth c A ls F hP hD hS hl
  obtain ⟨hx, hb, hr, hlocks, hml, hown, hts, hA, hK, hnm⟩ := F
  have hl : lv_has ls 1 [(0, .ref (a 0))] := hl
  refine lv_aload_n hx hb dX4_faults_0 rfl (lv_at hl 0 rfl) ?_
  refine va_get (D := D) (ci := 3) (v := .int g.2.2.2.2) (C := RX4) (T := TX4) (N := 10) hx hb hts in_X4 hown hK.1 hP 0 rfl rfl 5 (by decide) (hts _ q268) (fun _ h9 => h9) rfl dX4_faults_1 ?_
  exact e_int hx hb hr hlocks hP hD hS (rfl) (rfl) dX4_faults_4
set_option maxHeartbeats 4000000 in
/-- reference: sending() -/
theorem c_sending (D : va_G) (ka : Nat → ClassId) (l : Launch) (a : Nat → Nat) (g : ST)  (sz : Nat) : CT D ka l yX4_sending cX4_sending 1 (some .int) ({ frames := 0, cells := 0, slots := 0, locals := 0 } : Room) [.ref (a 0)] sz (mdW ka a g) (some (.int (nI g.1.2.1))) (mdW ka a g) := by
  refine enter (by decide) (Nat.le_of_ble_eq_true rfl) ?_
  intro p e s m below meth c A ls F hP hD hS hl
  obtain ⟨hx, hb, hr, hlocks, hml, hown, hts, hA, hK, hnm⟩ := F
  have hl : lv_has ls 1 [(0, .ref (a 0))] := hl
  refine lv_aload_n hx hb dX4_sending_0 rfl (lv_at hl 0 rfl) ?_
  refine va_get (D := D) (ci := 3) (v := .int (nI g.1.2.1)) (C := RX4) (T := TX4) (N := 10) hx hb hts in_X4 hown hK.1 hP 0 rfl rfl 7 (by decide) (hts _ q270) (fun _ h9 => h9) rfl dX4_sending_1 ?_
  exact e_int hx hb hr hlocks hP hD hS (rfl) (rfl) dX4_sending_4
set_option maxHeartbeats 4000000 in
/-- reference: receiving() -/
theorem c_receiving (D : va_G) (ka : Nat → ClassId) (l : Launch) (a : Nat → Nat) (g : ST)  (sz : Nat) : CT D ka l yX4_receiving cX4_receiving 1 (some .int) ({ frames := 0, cells := 0, slots := 0, locals := 0 } : Room) [.ref (a 0)] sz (mdW ka a g) (some (.int (nI g.2.1.2.1))) (mdW ka a g) := by
  refine enter (by decide) (Nat.le_of_ble_eq_true rfl) ?_
  intro p e s m below meth c A ls F hP hD hS hl
  obtain ⟨hx, hb, hr, hlocks, hml, hown, hts, hA, hK, hnm⟩ := F
  have hl : lv_has ls 1 [(0, .ref (a 0))] := hl
  refine lv_aload_n hx hb dX4_receiving_0 rfl (lv_at hl 0 rfl) ?_
  refine va_get (D := D) (ci := 3) (v := .int (nI g.2.1.2.1)) (C := RX4) (T := TX4) (N := 10) hx hb hts in_X4 hown hK.1 hP 0 rfl rfl 9 (by decide) (hts _ q272) (fun _ h9 => h9) rfl dX4_receiving_1 ?_
  exact e_int hx hb hr hlocks hP hD hS (rfl) (rfl) dX4_receiving_4
set_option maxHeartbeats 4000000 in
/-- reference: deviceRead(k), k below 384 -/
theorem c_read (D : va_G) (ka : Nat → ClassId) (l : Launch) (a : Nat → Nat) (g : ST) (k : Nat) (hk : k < 384) (sz : Nat) : CT D ka l yX4_deviceRead cX4_deviceRead 2 (some .int) ({ frames := 0, cells := 0, slots := 0, locals := 0 } : Room) [.ref (a 0), .int (nI k)] sz (mdW ka a g) (some (.int (p_read g k).1)) (mdW ka a (p_read g k).2) := by
  refine enter (by decide) (Nat.le_of_ble_eq_true rfl) ?_
  intro p e s m below meth c A ls F hP hD hS hl
  obtain ⟨hx, hb, hr, hlocks, hml, hown, hts, hA, hK, hnm⟩ := F
  have hl : lv_has ls 2 [(0, .ref (a 0)), (1, .int (nI k))] := hl
  refine lv_iload_n hx hb dX4_deviceRead_0 rfl (lv_at hl 1 rfl) ?_
  refine n_if_lt hx hb (by omega) dX4_deviceRead_1 ⟨23, by decide⟩ ?_
  refine lv_iload_n hx hb dX4_deviceRead_4 rfl (lv_at hl 1 rfl) ?_
  refine lv_sipush (v := nI 383) hx hb dX4_deviceRead_5 (by decide) ?_
  refine n_icmp_gt (tgt := 23) hx hb (by omega) (by omega) dX4_deviceRead_8 (by decide) (fun h1 => ?_) (fun h1 => ?_)
  · exact absurd h1 (by omega)
  · refine lv_aload_n hx hb dX4_deviceRead_11 rfl (lv_at hl 0 rfl) ?_
    refine va_get (D := D) (ci := 3) (v := .ref (a 2)) (C := RX4) (T := TX4) (N := 10) hx hb hts in_X4 hown hK.1 hP 0 rfl rfl 1 (by decide) (hts _ q264) (fun _ h9 => h9) rfl dX4_deviceRead_12 ?_
    refine lv_iload_n hx hb dX4_deviceRead_15 rfl (lv_at hl 1 rfl) ?_
    refine lv_bipush (v := nI 16) hx hb dX4_deviceRead_16 (by decide) ?_
    refine n_idiv hx hb (by omega) (by decide) (by decide) dX4_deviceRead_18 ?_
    refine n_zald hx hb hK hP 2 rfl (by omega) (by decide) dX4_deviceRead_19 ?_
    refine z_if_ne (tgt := 35) hx hb dX4_deviceRead_20 (by decide) (fun h2 => ?_) (fun h2 => ?_)
    · refine lv_aload_n hx hb dX4_deviceRead_35 rfl (lv_at hl 0 rfl) ?_
      refine va_get (D := D) (ci := 3) (v := .ref (a 1)) (C := RX4) (T := TX4) (N := 10) hx hb hts in_X4 hown hK.1 hP 0 rfl rfl 0 (by decide) (hts _ q263) (fun _ h9 => h9) rfl dX4_deviceRead_36 ?_
      refine lv_iload_n hx hb dX4_deviceRead_39 rfl (lv_at hl 1 rfl) ?_
      refine n_bald hx hb hK hP 1 rfl (by omega) (by decide) dX4_deviceRead_40 ?_
      refine lv_sipush (v := nI 255) hx hb dX4_deviceRead_41 (by decide) ?_
      refine n_andS hx hb dX4_deviceRead_44 ?_
      exact e_int hx hb hr hlocks hP hD hS (by rw [pr_y h2]) (by rw [pr_y h2]) dX4_deviceRead_45
    · refine lv_aload_n hx hb dX4_deviceRead_23 rfl (lv_at hl 0 rfl) ?_
      refine lv_aload_n hx hb dX4_deviceRead_24 rfl (lv_at hl 0 rfl) ?_
      refine va_get (D := D) (ci := 3) (v := .int g.2.2.2.2) (C := RX4) (T := TX4) (N := 10) hx hb hts in_X4 hown hK.1 hP 0 rfl rfl 5 (by decide) (hts _ q268) (fun _ h9 => h9) rfl dX4_deviceRead_25 ?_
      refine lv_iconst (v := nI 1) hx hb dX4_deviceRead_28 (by decide) ?_
      refine lv_iadd hx hb dX4_deviceRead_29 ?_
      refine va_put (D := D) (ci := 3) (v := .int (g.2.2.2.2 + nI 1)) (ty := .int) (C := RX4) (T := TX4) (N := 10) hx hb hts in_X4 tyX4 tyX4_ok nmX4 hown hK.1 hP hD hS 0 rfl rfl 5 (by decide) (hts _ q268) (fun _ h9 => h9) rfl (by decide +kernel) rfl rfl (Nat.le_of_ble_eq_true rfl) dX4_deviceRead_30 (fun H locs hP hD hS => ?_)
      have hP : va_P D vwCl (mdW ka a (flt g)) H := hP
      have hD : va_D A (mdW ka a (flt g)) := hD
      refine lv_iconst (v := (-1)) hx hb dX4_deviceRead_33 (by decide) ?_
      exact e_int hx hb hr hlocks hP hD hS (by rw [pr_n h2]) (by rw [pr_n h2]) dX4_deviceRead_34
set_option maxHeartbeats 4000000 in
/-- reference: deviceRead: no such address -/
theorem c_read_o (D : va_G) (ka : Nat → ClassId) (l : Launch) (a : Nat → Nat) (g : ST) (x : Int32) (h : x < 0 ∨ nI 384 ≤ x) (sz : Nat) : CT D ka l yX4_deviceRead cX4_deviceRead 2 (some .int) ({ frames := 0, cells := 0, slots := 0, locals := 0 } : Room) [.ref (a 0), .int x] sz (mdW ka a g) (some (.int (-1))) (mdW ka a (flt g)) := by
  refine enter (by decide) (Nat.le_of_ble_eq_true rfl) ?_
  intro p e s m below meth c A ls F hP hD hS hl
  obtain ⟨hx, hb, hr, hlocks, hml, hown, hts, hA, hK, hnm⟩ := F
  have hl : lv_has ls 2 [(0, .ref (a 0)), (1, .int x)] := hl
  refine lv_iload_n hx hb dX4_deviceRead_0 rfl (lv_at hl 1 rfl) ?_
  refine lv_if_lt (tgt := 23) hx hb dX4_deviceRead_1 (by decide) (fun h1 => ?_) (fun h1 => ?_)
  · refine lv_aload_n hx hb dX4_deviceRead_23 rfl (lv_at hl 0 rfl) ?_
    refine lv_aload_n hx hb dX4_deviceRead_24 rfl (lv_at hl 0 rfl) ?_
    refine va_get (D := D) (ci := 3) (v := .int g.2.2.2.2) (C := RX4) (T := TX4) (N := 10) hx hb hts in_X4 hown hK.1 hP 0 rfl rfl 5 (by decide) (hts _ q268) (fun _ h9 => h9) rfl dX4_deviceRead_25 ?_
    refine lv_iconst (v := nI 1) hx hb dX4_deviceRead_28 (by decide) ?_
    refine lv_iadd hx hb dX4_deviceRead_29 ?_
    refine va_put (D := D) (ci := 3) (v := .int (g.2.2.2.2 + nI 1)) (ty := .int) (C := RX4) (T := TX4) (N := 10) hx hb hts in_X4 tyX4 tyX4_ok nmX4 hown hK.1 hP hD hS 0 rfl rfl 5 (by decide) (hts _ q268) (fun _ h9 => h9) rfl (by decide +kernel) rfl rfl (Nat.le_of_ble_eq_true rfl) dX4_deviceRead_30 (fun H locs hP hD hS => ?_)
    have hP : va_P D vwCl (mdW ka a (flt g)) H := hP
    have hD : va_D A (mdW ka a (flt g)) := hD
    refine lv_iconst (v := (-1)) hx hb dX4_deviceRead_33 (by decide) ?_
    exact e_int hx hb hr hlocks hP hD hS (rfl) (rfl) dX4_deviceRead_34
  · refine lv_iload_n hx hb dX4_deviceRead_4 rfl (lv_at hl 1 rfl) ?_
    refine lv_sipush (v := nI 383) hx hb dX4_deviceRead_5 (by decide) ?_
    refine lv_icmp_gt (tgt := 23) hx hb dX4_deviceRead_8 (by decide) (fun h2 => ?_) (fun h2 => ?_)
    · refine lv_aload_n hx hb dX4_deviceRead_23 rfl (lv_at hl 0 rfl) ?_
      refine lv_aload_n hx hb dX4_deviceRead_24 rfl (lv_at hl 0 rfl) ?_
      refine va_get (D := D) (ci := 3) (v := .int g.2.2.2.2) (C := RX4) (T := TX4) (N := 10) hx hb hts in_X4 hown hK.1 hP 0 rfl rfl 5 (by decide) (hts _ q268) (fun _ h9 => h9) rfl dX4_deviceRead_25 ?_
      refine lv_iconst (v := nI 1) hx hb dX4_deviceRead_28 (by decide) ?_
      refine lv_iadd hx hb dX4_deviceRead_29 ?_
      refine va_put (D := D) (ci := 3) (v := .int (g.2.2.2.2 + nI 1)) (ty := .int) (C := RX4) (T := TX4) (N := 10) hx hb hts in_X4 tyX4 tyX4_ok nmX4 hown hK.1 hP hD hS 0 rfl rfl 5 (by decide) (hts _ q268) (fun _ h9 => h9) rfl (by decide +kernel) rfl rfl (Nat.le_of_ble_eq_true rfl) dX4_deviceRead_30 (fun H locs hP hD hS => ?_)
      have hP : va_P D vwCl (mdW ka a (flt g)) H := hP
      have hD : va_D A (mdW ka a (flt g)) := hD
      refine lv_iconst (v := (-1)) hx hb dX4_deviceRead_33 (by decide) ?_
      exact e_int hx hb hr hlocks hP hD hS (rfl) (rfl) dX4_deviceRead_34
    · exact False.elim (h.elim (fun q => h1 q) (fun q => h2 (i32_lt_le (by decide) (by decide) q)))
set_option maxHeartbeats 4000000 in
/-- reference: deviceWrite(k, v), k below 384 -/
theorem c_write (D : va_G) (ka : Nat → ClassId) (l : Launch) (a : Nat → Nat) (g : ST) (k : Nat) (v : Int32) (hk : k < 384) (sz : Nat) : CT D ka l yX4_deviceWrite cX4_deviceWrite 3 (some .int) ({ frames := 0, cells := 0, slots := 0, locals := 0 } : Room) [.ref (a 0), .int (nI k), .int v] sz (mdW ka a g) (some (.int (p_write g k (nb v)).1)) (mdW ka a (p_write g k (nb v)).2) := by
  refine enter (by decide) (Nat.le_of_ble_eq_true rfl) ?_
  intro p e s m below meth c A ls F hP hD hS hl
  obtain ⟨hx, hb, hr, hlocks, hml, hown, hts, hA, hK, hnm⟩ := F
  have hl : lv_has ls 3 [(0, .ref (a 0)), (1, .int (nI k)), (2, .int v)] := hl
  refine lv_iload_n hx hb dX4_deviceWrite_0 rfl (lv_at hl 1 rfl) ?_
  refine n_if_lt hx hb (by omega) dX4_deviceWrite_1 ⟨23, by decide⟩ ?_
  refine lv_iload_n hx hb dX4_deviceWrite_4 rfl (lv_at hl 1 rfl) ?_
  refine lv_sipush (v := nI 383) hx hb dX4_deviceWrite_5 (by decide) ?_
  refine n_icmp_gt (tgt := 23) hx hb (by omega) (by omega) dX4_deviceWrite_8 (by decide) (fun h1 => ?_) (fun h1 => ?_)
  · exact absurd h1 (by omega)
  · refine lv_aload_n hx hb dX4_deviceWrite_11 rfl (lv_at hl 0 rfl) ?_
    refine va_get (D := D) (ci := 3) (v := .ref (a 3)) (C := RX4) (T := TX4) (N := 10) hx hb hts in_X4 hown hK.1 hP 0 rfl rfl 2 (by decide) (hts _ q265) (fun _ h9 => h9) rfl dX4_deviceWrite_12 ?_
    refine lv_iload_n hx hb dX4_deviceWrite_15 rfl (lv_at hl 1 rfl) ?_
    refine lv_bipush (v := nI 16) hx hb dX4_deviceWrite_16 (by decide) ?_
    refine n_idiv hx hb (by omega) (by decide) (by decide) dX4_deviceWrite_18 ?_
    refine n_zald hx hb hK hP 3 rfl (by omega) (by decide) dX4_deviceWrite_19 ?_
    refine z_if_ne (tgt := 35) hx hb dX4_deviceWrite_20 (by decide) (fun h2 => ?_) (fun h2 => ?_)
    · refine lv_aload_n hx hb dX4_deviceWrite_35 rfl (lv_at hl 0 rfl) ?_
      refine va_get (D := D) (ci := 3) (v := .ref (a 1)) (C := RX4) (T := TX4) (N := 10) hx hb hts in_X4 hown hK.1 hP 0 rfl rfl 0 (by decide) (hts _ q263) (fun _ h9 => h9) rfl dX4_deviceWrite_36 ?_
      refine lv_iload_n hx hb dX4_deviceWrite_39 rfl (lv_at hl 1 rfl) ?_
      refine lv_iload_n hx hb dX4_deviceWrite_40 rfl (lv_at hl 2 rfl) ?_
      refine n_i2b hx hb dX4_deviceWrite_41 ?_
      refine n_bast (wn := mdW ka a (wr g k (nb v))) hx hb hK hP hD hS 1 (nb v) rfl (by omega) (by decide) (vb_sb _) (mdW_wr ka a g k (nb v)) dX4_deviceWrite_42 (fun H locs hP hD hS => ?_)
      refine lv_iconst (v := nI 0) hx hb dX4_deviceWrite_43 (by decide) ?_
      exact e_int hx hb hr hlocks hP hD hS (by rw [pw_y h2]) (by rw [pw_y h2]) dX4_deviceWrite_44
    · refine lv_aload_n hx hb dX4_deviceWrite_23 rfl (lv_at hl 0 rfl) ?_
      refine lv_aload_n hx hb dX4_deviceWrite_24 rfl (lv_at hl 0 rfl) ?_
      refine va_get (D := D) (ci := 3) (v := .int g.2.2.2.2) (C := RX4) (T := TX4) (N := 10) hx hb hts in_X4 hown hK.1 hP 0 rfl rfl 5 (by decide) (hts _ q268) (fun _ h9 => h9) rfl dX4_deviceWrite_25 ?_
      refine lv_iconst (v := nI 1) hx hb dX4_deviceWrite_28 (by decide) ?_
      refine lv_iadd hx hb dX4_deviceWrite_29 ?_
      refine va_put (D := D) (ci := 3) (v := .int (g.2.2.2.2 + nI 1)) (ty := .int) (C := RX4) (T := TX4) (N := 10) hx hb hts in_X4 tyX4 tyX4_ok nmX4 hown hK.1 hP hD hS 0 rfl rfl 5 (by decide) (hts _ q268) (fun _ h9 => h9) rfl (by decide +kernel) rfl rfl (Nat.le_of_ble_eq_true rfl) dX4_deviceWrite_30 (fun H locs hP hD hS => ?_)
      have hP : va_P D vwCl (mdW ka a (flt g)) H := hP
      have hD : va_D A (mdW ka a (flt g)) := hD
      refine lv_iconst (v := (-1)) hx hb dX4_deviceWrite_33 (by decide) ?_
      exact e_int hx hb hr hlocks hP hD hS (by rw [pw_n h2]) (by rw [pw_n h2]) dX4_deviceWrite_34
set_option maxHeartbeats 4000000 in
/-- reference: deviceWrite: no such address -/
theorem c_write_o (D : va_G) (ka : Nat → ClassId) (l : Launch) (a : Nat → Nat) (g : ST) (x v : Int32) (h : x < 0 ∨ nI 384 ≤ x) (sz : Nat) : CT D ka l yX4_deviceWrite cX4_deviceWrite 3 (some .int) ({ frames := 0, cells := 0, slots := 0, locals := 0 } : Room) [.ref (a 0), .int x, .int v] sz (mdW ka a g) (some (.int (-1))) (mdW ka a (flt g)) := by
  refine enter (by decide) (Nat.le_of_ble_eq_true rfl) ?_
  intro p e s m below meth c A ls F hP hD hS hl
  obtain ⟨hx, hb, hr, hlocks, hml, hown, hts, hA, hK, hnm⟩ := F
  have hl : lv_has ls 3 [(0, .ref (a 0)), (1, .int x), (2, .int v)] := hl
  refine lv_iload_n hx hb dX4_deviceWrite_0 rfl (lv_at hl 1 rfl) ?_
  refine lv_if_lt (tgt := 23) hx hb dX4_deviceWrite_1 (by decide) (fun h1 => ?_) (fun h1 => ?_)
  · refine lv_aload_n hx hb dX4_deviceWrite_23 rfl (lv_at hl 0 rfl) ?_
    refine lv_aload_n hx hb dX4_deviceWrite_24 rfl (lv_at hl 0 rfl) ?_
    refine va_get (D := D) (ci := 3) (v := .int g.2.2.2.2) (C := RX4) (T := TX4) (N := 10) hx hb hts in_X4 hown hK.1 hP 0 rfl rfl 5 (by decide) (hts _ q268) (fun _ h9 => h9) rfl dX4_deviceWrite_25 ?_
    refine lv_iconst (v := nI 1) hx hb dX4_deviceWrite_28 (by decide) ?_
    refine lv_iadd hx hb dX4_deviceWrite_29 ?_
    refine va_put (D := D) (ci := 3) (v := .int (g.2.2.2.2 + nI 1)) (ty := .int) (C := RX4) (T := TX4) (N := 10) hx hb hts in_X4 tyX4 tyX4_ok nmX4 hown hK.1 hP hD hS 0 rfl rfl 5 (by decide) (hts _ q268) (fun _ h9 => h9) rfl (by decide +kernel) rfl rfl (Nat.le_of_ble_eq_true rfl) dX4_deviceWrite_30 (fun H locs hP hD hS => ?_)
    have hP : va_P D vwCl (mdW ka a (flt g)) H := hP
    have hD : va_D A (mdW ka a (flt g)) := hD
    refine lv_iconst (v := (-1)) hx hb dX4_deviceWrite_33 (by decide) ?_
    exact e_int hx hb hr hlocks hP hD hS (rfl) (rfl) dX4_deviceWrite_34
  · refine lv_iload_n hx hb dX4_deviceWrite_4 rfl (lv_at hl 1 rfl) ?_
    refine lv_sipush (v := nI 383) hx hb dX4_deviceWrite_5 (by decide) ?_
    refine lv_icmp_gt (tgt := 23) hx hb dX4_deviceWrite_8 (by decide) (fun h2 => ?_) (fun h2 => ?_)
    · refine lv_aload_n hx hb dX4_deviceWrite_23 rfl (lv_at hl 0 rfl) ?_
      refine lv_aload_n hx hb dX4_deviceWrite_24 rfl (lv_at hl 0 rfl) ?_
      refine va_get (D := D) (ci := 3) (v := .int g.2.2.2.2) (C := RX4) (T := TX4) (N := 10) hx hb hts in_X4 hown hK.1 hP 0 rfl rfl 5 (by decide) (hts _ q268) (fun _ h9 => h9) rfl dX4_deviceWrite_25 ?_
      refine lv_iconst (v := nI 1) hx hb dX4_deviceWrite_28 (by decide) ?_
      refine lv_iadd hx hb dX4_deviceWrite_29 ?_
      refine va_put (D := D) (ci := 3) (v := .int (g.2.2.2.2 + nI 1)) (ty := .int) (C := RX4) (T := TX4) (N := 10) hx hb hts in_X4 tyX4 tyX4_ok nmX4 hown hK.1 hP hD hS 0 rfl rfl 5 (by decide) (hts _ q268) (fun _ h9 => h9) rfl (by decide +kernel) rfl rfl (Nat.le_of_ble_eq_true rfl) dX4_deviceWrite_30 (fun H locs hP hD hS => ?_)
      have hP : va_P D vwCl (mdW ka a (flt g)) H := hP
      have hD : va_D A (mdW ka a (flt g)) := hD
      refine lv_iconst (v := (-1)) hx hb dX4_deviceWrite_33 (by decide) ?_
      exact e_int hx hb hr hlocks hP hD hS (rfl) (rfl) dX4_deviceWrite_34
    · exact False.elim (h.elim (fun q => h1 q) (fun q => h2 (i32_lt_le (by decide) (by decide) q)))
set_option maxHeartbeats 4000000 in
/-- reference: load(k, v), k below 16 -/
theorem c_load (D : va_G) (ka : Nat → ClassId) (l : Launch) (a : Nat → Nat) (g : ST) (k : Nat) (v : Int32) (hk : k < 16) (sz : Nat) : CT D ka l yX4_load cX4_load 3 (some .boolean) ({ frames := 0, cells := 0, slots := 0, locals := 0 } : Room) [.ref (a 0), .int (nI k), .int v] sz (mdW ka a g) (some (.int (zb true))) (mdW ka a (s_ob g (va_up g.2.2.1 k (nb v)))) := by
  refine enter (by decide) (Nat.le_of_ble_eq_true rfl) ?_
  intro p e s m below meth c A ls F hP hD hS hl
  obtain ⟨hx, hb, hr, hlocks, hml, hown, hts, hA, hK, hnm⟩ := F
  have hl : lv_has ls 3 [(0, .ref (a 0)), (1, .int (nI k)), (2, .int v)] := hl
  refine lv_iload_n hx hb dX4_load_0 rfl (lv_at hl 1 rfl) ?_
  refine n_if_lt hx hb (by omega) dX4_load_1 ⟨10, by decide⟩ ?_
  refine lv_iload_n hx hb dX4_load_4 rfl (lv_at hl 1 rfl) ?_
  refine lv_bipush (v := nI 15) hx hb dX4_load_5 (by decide) ?_
  refine n_icmp_le (tgt := 12) hx hb (by omega) (by omega) dX4_load_7 (by decide) (fun h1 => ?_) (fun h1 => ?_)
  · refine lv_aload_n hx hb dX4_load_12 rfl (lv_at hl 0 rfl) ?_
    refine va_get (D := D) (ci := 3) (v := .ref (a 4)) (C := RX4) (T := TX4) (N := 10) hx hb hts in_X4 hown hK.1 hP 0 rfl rfl 3 (by decide) (hts _ q266) (fun _ h9 => h9) rfl dX4_load_13 ?_
    refine lv_iload_n hx hb dX4_load_16 rfl (lv_at hl 1 rfl) ?_
    refine lv_iload_n hx hb dX4_load_17 rfl (lv_at hl 2 rfl) ?_
    refine n_i2b hx hb dX4_load_18 ?_
    refine n_bast (wn := mdW ka a (s_ob g (va_up g.2.2.1 k (nb v)))) hx hb hK hP hD hS 4 (nb v) rfl (by omega) (by decide) (vb_sb _) (rfl) dX4_load_19 (fun H locs hP hD hS => ?_)
    refine lv_iconst (v := nI 1) hx hb dX4_load_20 (by decide) ?_
    exact e_bool hx hb hr hlocks hP hD hS (by decide) (rfl) dX4_load_21
  · exact absurd h1 (by omega)
set_option maxHeartbeats 4000000 in
/-- reference: load(x, v), outside -/
theorem c_load_o (D : va_G) (ka : Nat → ClassId) (l : Launch) (a : Nat → Nat) (g : ST) (x v : Int32) (h : x < 0 ∨ nI 16 ≤ x) (sz : Nat) : CT D ka l yX4_load cX4_load 3 (some .boolean) ({ frames := 0, cells := 0, slots := 0, locals := 0 } : Room) [.ref (a 0), .int x, .int v] sz (mdW ka a g) (some (.int (zb false))) (mdW ka a g) := by
  refine enter (by decide) (Nat.le_of_ble_eq_true rfl) ?_
  intro p e s m below meth c A ls F hP hD hS hl
  obtain ⟨hx, hb, hr, hlocks, hml, hown, hts, hA, hK, hnm⟩ := F
  have hl : lv_has ls 3 [(0, .ref (a 0)), (1, .int x), (2, .int v)] := hl
  refine lv_iload_n hx hb dX4_load_0 rfl (lv_at hl 1 rfl) ?_
  refine lv_if_lt (tgt := 10) hx hb dX4_load_1 (by decide) (fun h1 => ?_) (fun h1 => ?_)
  · refine lv_iconst (v := nI 0) hx hb dX4_load_10 (by decide) ?_
    exact e_bool hx hb hr hlocks hP hD hS (by decide) (rfl) dX4_load_11
  · refine lv_iload_n hx hb dX4_load_4 rfl (lv_at hl 1 rfl) ?_
    refine lv_bipush (v := nI 15) hx hb dX4_load_5 (by decide) ?_
    refine lv_icmp_le (tgt := 12) hx hb dX4_load_7 (by decide) (fun h2 => ?_) (fun h2 => ?_)
    · exact False.elim (h.elim (fun q => h1 q) (fun q => i32_nlt h2 (i32_lt_le (by decide) (by decide) q)))
    · refine lv_iconst (v := nI 0) hx hb dX4_load_10 (by decide) ?_
      exact e_bool hx hb hr hlocks hP hD hS (by decide) (rfl) dX4_load_11
set_option maxHeartbeats 4000000 in
/-- reference: taken(k), k below 16 -/
theorem c_taken (D : va_G) (ka : Nat → ClassId) (l : Launch) (a : Nat → Nat) (g : ST) (k : Nat) (hk : k < 16) (sz : Nat) : CT D ka l yX4_taken cX4_taken 2 (some .int) ({ frames := 0, cells := 0, slots := 0, locals := 0 } : Room) [.ref (a 0), .int (nI k)] sz (mdW ka a g) (some (.int (ub (g.2.2.2.1 k)))) (mdW ka a g) := by
  refine enter (by decide) (Nat.le_of_ble_eq_true rfl) ?_
  intro p e s m below meth c A ls F hP hD hS hl
  obtain ⟨hx, hb, hr, hlocks, hml, hown, hts, hA, hK, hnm⟩ := F
  have hl : lv_has ls 2 [(0, .ref (a 0)), (1, .int (nI k))] := hl
  refine lv_iload_n hx hb dX4_taken_0 rfl (lv_at hl 1 rfl) ?_
  refine n_if_lt hx hb (by omega) dX4_taken_1 ⟨10, by decide⟩ ?_
  refine lv_iload_n hx hb dX4_taken_4 rfl (lv_at hl 1 rfl) ?_
  refine lv_bipush (v := nI 15) hx hb dX4_taken_5 (by decide) ?_
  refine n_icmp_le (tgt := 14) hx hb (by omega) (by omega) dX4_taken_7 (by decide) (fun h1 => ?_) (fun h1 => ?_)
  · refine lv_aload_n hx hb dX4_taken_14 rfl (lv_at hl 0 rfl) ?_
    refine va_get (D := D) (ci := 3) (v := .ref (a 5)) (C := RX4) (T := TX4) (N := 10) hx hb hts in_X4 hown hK.1 hP 0 rfl rfl 4 (by decide) (hts _ q267) (fun _ h9 => h9) rfl dX4_taken_15 ?_
    refine lv_iload_n hx hb dX4_taken_18 rfl (lv_at hl 1 rfl) ?_
    refine n_bald hx hb hK hP 5 rfl (by omega) (by decide) dX4_taken_19 ?_
    refine lv_sipush (v := nI 255) hx hb dX4_taken_20 (by decide) ?_
    refine n_andS hx hb dX4_taken_23 ?_
    exact e_int hx hb hr hlocks hP hD hS (rfl) (rfl) dX4_taken_24
  · exact absurd h1 (by omega)
set_option maxHeartbeats 4000000 in
/-- reference: taken(x), outside -/
theorem c_taken_o (D : va_G) (ka : Nat → ClassId) (l : Launch) (a : Nat → Nat) (g : ST) (x : Int32) (h : x < 0 ∨ nI 16 ≤ x) (sz : Nat) : CT D ka l yX4_taken cX4_taken 2 (some .int) ({ frames := 0, cells := 0, slots := 0, locals := 0 } : Room) [.ref (a 0), .int x] sz (mdW ka a g) (some (.int (-1))) (mdW ka a g) := by
  refine enter (by decide) (Nat.le_of_ble_eq_true rfl) ?_
  intro p e s m below meth c A ls F hP hD hS hl
  obtain ⟨hx, hb, hr, hlocks, hml, hown, hts, hA, hK, hnm⟩ := F
  have hl : lv_has ls 2 [(0, .ref (a 0)), (1, .int x)] := hl
  refine lv_iload_n hx hb dX4_taken_0 rfl (lv_at hl 1 rfl) ?_
  refine lv_if_lt (tgt := 10) hx hb dX4_taken_1 (by decide) (fun h1 => ?_) (fun h1 => ?_)
  · refine lv_iconst (v := (-1)) hx hb dX4_taken_10 (by decide) ?_
    refine lv_goto (tgt := 24) hx hb dX4_taken_11 (by decide) ?_
    exact e_int hx hb hr hlocks hP hD hS (rfl) (rfl) dX4_taken_24
  · refine lv_iload_n hx hb dX4_taken_4 rfl (lv_at hl 1 rfl) ?_
    refine lv_bipush (v := nI 15) hx hb dX4_taken_5 (by decide) ?_
    refine lv_icmp_le (tgt := 14) hx hb dX4_taken_7 (by decide) (fun h2 => ?_) (fun h2 => ?_)
    · exact False.elim (h.elim (fun q => h1 q) (fun q => i32_nlt h2 (i32_lt_le (by decide) (by decide) q)))
    · refine lv_iconst (v := (-1)) hx hb dX4_taken_10 (by decide) ?_
      refine lv_goto (tgt := 24) hx hb dX4_taken_11 (by decide) ?_
      exact e_int hx hb hr hlocks hP hD hS (rfl) (rfl) dX4_taken_24
/-- the reference itself and its memory, which holds M -/
def dsW (ka : Nat → ClassId) (a : Nat → Nat) (g : ST) (M : Nat → UInt8) : va_W := [(a 0, .inr (3, [.ref (a 1), .ref (a 2), .ref (a 3), .ref (a 4), .ref (a 5), .int g.2.2.2.2, .int (nI g.1.1), .int (nI g.1.2.1), .int (nI g.2.1.1), .int (nI g.2.1.2.1)])), (a 1, .inl (ka 2, 384, .inl (sbf M)))]
/-- the others -/
def dsR (ka : Nat → ClassId) (a : Nat → Nat) (g : ST) : va_W := [(a 2, .inl (ka 1, 24, .inl (zbf (rdb g)))), (a 3, .inl (ka 1, 24, .inl (zbf (wrb g)))), (a 4, .inl (ka 2, 16, .inl (sbf g.2.2.1))), (a 5, .inl (ka 2, 16, .inl (sbf g.2.2.2.1)))]
set_option maxHeartbeats 4000000 in
/-- reference: describe: the loop -/
theorem lp_desc {D : va_G} {ka : Nat → ClassId} {p : Program} {l : Launch} {e : Env} {s : State} {m : MethodId} {args : Array Value} {below : List Frame} {meth : Method} {c : Code} {A : Nat → Prop} {Q : State → Prop} (a : Nat → Nat) (g : ST) (M : Nat → UInt8) (at0 pg len : Nat) (hat : at0 + 8 ≤ 384) (F : Fx D ka p s m args c meth cX4_describe 5 none RX4 "describe" A)
    (kk : ∀ (H : Heap) (locs : List Loc) (ls : Array Slot), va_P D vwCl (dsW ka a g (fill M at0 (fun _ => 0) 8)) H → va_D A (dsW ka a g (fill M at0 (fun _ => 0) 8)) → va_S A s.heap H locs → lv_has ls 5 [(0, .ref (a 0)), (1, .int (nI at0)), (2, .int (nI pg)), (3, .int (nI len))] → W p l e ({ frames := 0, cells := 0, slots := 0, locals := 0 } : Room) s m args below meth c H locs 0 0 Q (F0 m 26 ls [])) :
    ∀ (n i : Nat), i + n = 8 → ∀ (H : Heap) (locs : List Loc) (ls : Array Slot), va_P D vwCl (dsW ka a g (fill M at0 (fun _ => 0) i)) H → va_D A (dsW ka a g (fill M at0 (fun _ => 0) i)) → va_S A s.heap H locs → lv_has ls 5 [(0, .ref (a 0)), (1, .int (nI at0)), (2, .int (nI pg)), (3, .int (nI len)), (4, .int (nI i))] → W p l e ({ frames := 0, cells := 0, slots := 0, locals := 0 } : Room) s m args below meth c H locs 0 0 Q (F0 m 3 ls []) := by
  obtain ⟨hx, hb, hr, hlocks, hml, hown, hts, hA, hK, hnm⟩ := F
  intro n
  induction n with
  | zero =>
    intro i hi H locs ls hP hD hS hl
    have hi : i = 8 := by omega
    subst hi
    refine lv_iload hx hb dX4_describe_3 (lv_at hl 4 rfl) ?_
    refine lv_bipush (v := nI 8) hx hb dX4_describe_5 (by decide) ?_
    refine n_icmp_ge (tgt := 26) hx hb (by omega) (by omega) dX4_describe_7 (by decide) (fun h1 => ?_) (fun h1 => ?_)
    · exact kk H locs ls hP hD hS (lv_sub hl [0, 1, 2, 3] rfl)
    · exact absurd h1 (by omega)
  | succ n ih =>
    intro i hi H locs ls hP hD hS hl
    refine lv_iload hx hb dX4_describe_3 (lv_at hl 4 rfl) ?_
    refine lv_bipush (v := nI 8) hx hb dX4_describe_5 (by decide) ?_
    refine n_icmp_ge (tgt := 26) hx hb (by omega) (by omega) dX4_describe_7 (by decide) (fun h1 => ?_) (fun h1 => ?_)
    · exact absurd h1 (by omega)
    · refine lv_aload_n hx hb dX4_describe_10 rfl (lv_at hl 0 rfl) ?_
      refine va_get (D := D) (ci := 3) (v := .ref (a 1)) (C := RX4) (T := TX4) (N := 10) hx hb hts in_X4 hown hK.1 hP 0 rfl rfl 0 (by decide) (hts _ q263) (fun _ h9 => h9) rfl dX4_describe_11 ?_
      refine lv_iload_n hx hb dX4_describe_14 rfl (lv_at hl 1 rfl) ?_
      refine lv_iload hx hb dX4_describe_15 (lv_at hl 4 rfl) ?_
      refine n_iadd hx hb dX4_describe_17 ?_
      refine lv_iconst (v := nI 0) hx hb dX4_describe_18 (by decide) ?_
      refine n_bast (wn := dsW ka a g (fill M at0 (fun _ => 0) (i + 1))) hx hb hK hP hD hS 1 0 rfl (by omega) (by decide) (vb_0) (rfl) dX4_describe_19 (fun H locs hP hD hS => ?_)
      refine lv_iinc (v := nI (i + 1)) (lv' := [(4, .int (nI (i + 1))), (0, .ref (a 0)), (1, .int (nI at0)), (2, .int (nI pg)), (3, .int (nI len))]) hx hb dX4_describe_20 hl (k := 4) rfl (nI_1 _) (by decide) rfl (fun ls hl => ?_)
      refine lv_goto (tgt := 3) hx hb dX4_describe_23 (by decide) ?_
      exact ih (i + 1) (by omega) H locs ls hP hD hS (lv_sub hl [1, 2, 3, 4, 0] rfl)
theorem nb_ofNat {n : Nat} (h : n < 256) : nb (nI n) = UInt8.ofNat n := by
  rw [nb, pk_tn (by omega), Nat.mod_eq_of_lt h]
set_option maxHeartbeats 4000000 in
/-- reference: describe(at0, pg, len) -/
theorem c_desc (D : va_G) (ka : Nat → ClassId) (l : Launch) (a : Nat → Nat) (g : ST) (M : Nat → UInt8) (at0 pg len : Nat) (hat : at0 + 8 ≤ 384) (hpg : pg < 256) (hlen : len < 256) (sz : Nat) : CT D ka l yX4_describe cX4_describe 5 none ({ frames := 0, cells := 0, slots := 0, locals := 0 } : Room) [.ref (a 0), .int (nI at0), .int (nI pg), .int (nI len)] sz (dsW ka a g M) (none) (dsW ka a g (r_desc M at0 pg len)) := by
  refine enter (by decide) (Nat.le_of_ble_eq_true rfl) ?_
  intro p e s m below meth c A ls F hP hD hS hl
  have FF := F
  obtain ⟨hx, hb, hr, hlocks, hml, hown, hts, hA, hK, hnm⟩ := F
  have hl : lv_has ls 5 [(0, .ref (a 0)), (1, .int (nI at0)), (2, .int (nI pg)), (3, .int (nI len))] := hl
  refine lv_iconst (v := nI 0) hx hb dX4_describe_0 (by decide) ?_
  refine lv_istore (lv' := [(4, .int (nI 0)), (0, .ref (a 0)), (1, .int (nI at0)), (2, .int (nI pg)), (3, .int (nI len))]) hx hb dX4_describe_1 hl (by decide) rfl (fun ls hl => ?_)
  refine lp_desc a g M at0 pg len hat FF (fun H locs ls hP hD hS hl => ?_) 8 0 rfl _ _ ls hP hD hS (lv_sub hl [1, 2, 3, 4, 0] rfl)
  refine lv_aload_n hx hb dX4_describe_26 rfl (lv_at hl 0 rfl) ?_
  refine va_get (D := D) (ci := 3) (v := .ref (a 1)) (C := RX4) (T := TX4) (N := 10) hx hb hts in_X4 hown hK.1 hP 0 rfl rfl 0 (by decide) (hts _ q263) (fun _ h9 => h9) rfl dX4_describe_27 ?_
  refine lv_iload_n hx hb dX4_describe_30 rfl (lv_at hl 1 rfl) ?_
  refine lv_iload_n hx hb dX4_describe_31 rfl (lv_at hl 2 rfl) ?_
  refine n_i2b hx hb dX4_describe_32 ?_
  refine n_bast (wn := dsW ka a g (va_up (fill M at0 (fun _ => 0) 8) at0 (UInt8.ofNat pg))) hx hb hK hP hD hS 1 (UInt8.ofNat pg) rfl (by omega) (by decide) (by rw [vb_sb, nb_ofNat (by omega)]) (rfl) dX4_describe_33 (fun H locs hP hD hS => ?_)
  refine lv_aload_n hx hb dX4_describe_34 rfl (lv_at hl 0 rfl) ?_
  refine va_get (D := D) (ci := 3) (v := .ref (a 1)) (C := RX4) (T := TX4) (N := 10) hx hb hts in_X4 hown hK.1 hP 0 rfl rfl 0 (by decide) (hts _ q263) (fun _ h9 => h9) rfl dX4_describe_35 ?_
  refine lv_iload_n hx hb dX4_describe_38 rfl (lv_at hl 1 rfl) ?_
  refine lv_iconst (v := nI 1) hx hb dX4_describe_39 (by decide) ?_
  refine n_iadd hx hb dX4_describe_40 ?_
  refine lv_iload_n hx hb dX4_describe_41 rfl (lv_at hl 3 rfl) ?_
  refine n_i2b hx hb dX4_describe_42 ?_
  refine n_bast (wn := dsW ka a g (va_up (va_up (fill M at0 (fun _ => 0) 8) at0 (UInt8.ofNat pg)) (at0 + 1) (UInt8.ofNat len))) hx hb hK hP hD hS 1 (UInt8.ofNat len) rfl (by omega) (by decide) (by rw [vb_sb, nb_ofNat (by omega)]) (rfl) dX4_describe_43 (fun H locs hP hD hS => ?_)
  refine lv_aload_n hx hb dX4_describe_44 rfl (lv_at hl 0 rfl) ?_
  refine va_get (D := D) (ci := 3) (v := .ref (a 1)) (C := RX4) (T := TX4) (N := 10) hx hb hts in_X4 hown hK.1 hP 0 rfl rfl 0 (by decide) (hts _ q263) (fun _ h9 => h9) rfl dX4_describe_45 ?_
  refine lv_iload_n hx hb dX4_describe_48 rfl (lv_at hl 1 rfl) ?_
  refine lv_iconst (v := nI 2) hx hb dX4_describe_49 (by decide) ?_
  refine n_iadd hx hb dX4_describe_50 ?_
  refine lv_iconst (v := nI 1) hx hb dX4_describe_51 (by decide) ?_
  refine n_bast (wn := dsW ka a g (r_desc M at0 pg len)) hx hb hK hP hD hS 1 1 rfl (by omega) (by decide) (vb_1) (rfl) dX4_describe_52 (fun H locs hP hD hS => ?_)
  exact e_void hx hb hr hlocks hP hD hS (rfl) dX4_describe_53
theorem c_desc_t (D : va_G) (ka : Nat → ClassId) (l : Launch) (a : Nat → Nat) (g : ST) (at0 pg len : Nat) (hat : at0 + 8 ≤ 64) (hpg : pg < 256) (hlen : len < 256) (sz : Nat) : CT D ka l yX4_describe cX4_describe 5 none ({ frames := 0, cells := 0, slots := 0, locals := 0 } : Room) [.ref (a 0), .int (nI at0), .int (nI pg), .int (nI len)] sz (dsW ka a g (mem g)) none (dsW ka a g (mem (s_t g (g_d g.1 (r_desc g.1.2.2.1 at0 pg len))))) := by
  rw [← mem_desc_t g at0 pg len hat]
  exact c_desc D ka l a g (mem g) at0 pg len (by omega) hpg hlen sz
theorem c_desc_r (D : va_G) (ka : Nat → ClassId) (l : Launch) (a : Nat → Nat) (g : ST) (at0 pg len : Nat) (hat : at0 + 8 ≤ 64) (hpg : pg < 256) (hlen : len < 256) (sz : Nat) : CT D ka l yX4_describe cX4_describe 5 none ({ frames := 0, cells := 0, slots := 0, locals := 0 } : Room) [.ref (a 0), .int (nI (64 + at0)), .int (nI pg), .int (nI len)] sz (dsW ka a g (mem g)) none (dsW ka a g (mem (s_r g (g_d g.2.1 (r_desc g.2.1.2.2.1 at0 pg len))))) := by
  rw [← mem_desc_r g at0 pg len hat]
  exact c_desc D ka l a g (mem g) (64 + at0) pg len (by omega) hpg hlen sz
set_option maxHeartbeats 4000000 in
/-- reference: send: the loop -/
theorem lp_csend {D : va_G} {ka : Nat → ClassId} {p : Program} {l : Launch} {e : Env} {s : State} {m : MethodId} {args : Array Value} {below : List Frame} {meth : Method} {c : Code} {A : Nat → Prop} {Q : State → Prop} (a : Nat → Nat) (g : ST) (k len : Nat) (hk : k < 8) (hlen : len ≤ 16) (F : Fx D ka p s m args c meth cX4_send 4 (some .int) RX4 "send" A)
    (kk : ∀ (H : Heap) (locs : List Loc) (ls : Array Slot), va_P D vwCl (mdW ka a (s_t g (g_b g.1 (fill g.1.2.2.2.1 (16 * k) (r_src g.2.2.1 len) 16)))) H → va_D A (mdW ka a (s_t g (g_b g.1 (fill g.1.2.2.2.1 (16 * k) (r_src g.2.2.1 len) 16)))) → va_S A s.heap H locs → lv_has ls 4 [(0, .ref (a 0)), (1, .int (nI len)), (2, .int (nI k))] → W p l e ({ frames := 1, cells := 0, slots := 0, locals := 24 } : Room) s m args below meth c H locs 0 0 Q (F0 m 81 ls [])) :
    ∀ (n i : Nat), i + n = 16 → ∀ (H : Heap) (locs : List Loc) (ls : Array Slot), va_P D vwCl (mdW ka a (s_t g (g_b g.1 (fill g.1.2.2.2.1 (16 * k) (r_src g.2.2.1 len) i)))) H → va_D A (mdW ka a (s_t g (g_b g.1 (fill g.1.2.2.2.1 (16 * k) (r_src g.2.2.1 len) i)))) → va_S A s.heap H locs → lv_has ls 4 [(0, .ref (a 0)), (1, .int (nI len)), (2, .int (nI k)), (3, .int (nI i))] → W p l e ({ frames := 1, cells := 0, slots := 0, locals := 24 } : Room) s m args below meth c H locs 0 0 Q (F0 m 40 ls []) := by
  obtain ⟨hx, hb, hr, hlocks, hml, hown, hts, hA, hK, hnm⟩ := F
  intro n
  induction n with
  | zero =>
    intro i hi H locs ls hP hD hS hl
    have hi : i = 16 := by omega
    subst hi
    refine lv_iload_n hx hb dX4_send_40 rfl (lv_at hl 3 rfl) ?_
    refine lv_bipush (v := nI 16) hx hb dX4_send_41 (by decide) ?_
    refine n_icmp_ge (tgt := 81) hx hb (by omega) (by omega) dX4_send_43 (by decide) (fun h1 => ?_) (fun h1 => ?_)
    · exact kk H locs ls hP hD hS (lv_sub hl [0, 1, 2] rfl)
    · exact absurd h1 (by omega)
  | succ n ih =>
    intro i hi H locs ls hP hD hS hl
    refine lv_iload_n hx hb dX4_send_40 rfl (lv_at hl 3 rfl) ?_
    refine lv_bipush (v := nI 16) hx hb dX4_send_41 (by decide) ?_
    refine n_icmp_ge (tgt := 81) hx hb (by omega) (by omega) dX4_send_43 (by decide) (fun h1 => ?_) (fun h1 => ?_)
    · exact absurd h1 (by omega)
    · refine lv_aload_n hx hb dX4_send_46 rfl (lv_at hl 0 rfl) ?_
      refine va_get (D := D) (ci := 3) (v := .ref (a 1)) (C := RX4) (T := TX4) (N := 10) hx hb hts in_X4 hown hK.1 hP 0 rfl rfl 0 (by decide) (hts _ q263) (fun _ h9 => h9) rfl dX4_send_47 ?_
      refine lv_bipush (v := nI 8) hx hb dX4_send_50 (by decide) ?_
      refine lv_iload_n hx hb dX4_send_52 rfl (lv_at hl 2 rfl) ?_
      refine n_iadd hx hb dX4_send_53 ?_
      refine lv_bipush (v := nI 16) hx hb dX4_send_54 (by decide) ?_
      refine n_imul hx hb dX4_send_56 ?_
      refine lv_iload_n hx hb dX4_send_57 rfl (lv_at hl 3 rfl) ?_
      refine n_iadd hx hb dX4_send_58 ?_
      refine lv_iload_n hx hb dX4_send_59 rfl (lv_at hl 3 rfl) ?_
      refine lv_iload_n hx hb dX4_send_60 rfl (lv_at hl 1 rfl) ?_
      refine n_icmp_ge (tgt := 73) hx hb (by omega) (by omega) dX4_send_61 (by decide) (fun h2 => ?_) (fun h2 => ?_)
      · refine lv_iconst (v := nI 0) hx hb dX4_send_73 (by decide) ?_
        refine n_bast (wn := mdW ka a (s_t g (g_b g.1 (fill g.1.2.2.2.1 (16 * k) (r_src g.2.2.1 len) (i + 1))))) hx hb hK hP hD hS 1 (r_src g.2.2.1 len i) rfl (by omega) (by decide) (by rw [r_src, if_neg (by omega)]; exact vb_0) (mdW_tb ka a (s_t g (g_b g.1 (fill g.1.2.2.2.1 (16 * k) (r_src g.2.2.1 len) i))) (16 * k + i) _ _ (by omega) (by omega)) dX4_send_74 (fun H locs hP hD hS => ?_)
        refine lv_iinc (v := nI (i + 1)) (lv' := [(3, .int (nI (i + 1))), (0, .ref (a 0)), (1, .int (nI len)), (2, .int (nI k))]) hx hb dX4_send_75 hl (k := 3) rfl (nI_1 _) (by decide) rfl (fun ls hl => ?_)
        refine lv_goto (tgt := 40) hx hb dX4_send_78 (by decide) ?_
        exact ih (i + 1) (by omega) H locs ls hP hD hS (lv_sub hl [1, 2, 3, 0] rfl)
      · refine lv_aload_n hx hb dX4_send_64 rfl (lv_at hl 0 rfl) ?_
        refine va_get (D := D) (ci := 3) (v := .ref (a 4)) (C := RX4) (T := TX4) (N := 10) hx hb hts in_X4 hown hK.1 hP 0 rfl rfl 3 (by decide) (hts _ q266) (fun _ h9 => h9) rfl dX4_send_65 ?_
        refine lv_iload_n hx hb dX4_send_68 rfl (lv_at hl 3 rfl) ?_
        refine n_bald hx hb hK hP 4 rfl (by omega) (by decide) dX4_send_69 ?_
        refine lv_goto (tgt := 74) hx hb dX4_send_70 (by decide) ?_
        refine n_bast (wn := mdW ka a (s_t g (g_b g.1 (fill g.1.2.2.2.1 (16 * k) (r_src g.2.2.1 len) (i + 1))))) hx hb hK hP hD hS 1 (r_src g.2.2.1 len i) rfl (by omega) (by decide) (by rw [r_src, if_pos h2]; exact vb_sb _) (mdW_tb ka a (s_t g (g_b g.1 (fill g.1.2.2.2.1 (16 * k) (r_src g.2.2.1 len) i))) (16 * k + i) _ _ (by omega) (by omega)) dX4_send_74 (fun H locs hP hD hS => ?_)
        refine lv_iinc (v := nI (i + 1)) (lv' := [(3, .int (nI (i + 1))), (0, .ref (a 0)), (1, .int (nI len)), (2, .int (nI k))]) hx hb dX4_send_75 hl (k := 3) rfl (nI_1 _) (by decide) rfl (fun ls hl => ?_)
        refine lv_goto (tgt := 40) hx hb dX4_send_78 (by decide) ?_
        exact ih (i + 1) (by omega) H locs ls hP hD hS (lv_sub hl [1, 2, 3, 0] rfl)
set_option maxHeartbeats 4000000 in
/-- reference: send(len), 1 to 16 -/
theorem c_send (D : va_G) (ka : Nat → ClassId) (l : Launch) (a : Nat → Nat) (g : ST) (hok : okR g.1) (len : Nat) (h1 : 1 ≤ len) (h2 : len ≤ 16) (sz : Nat) : CT D ka l yX4_send cX4_send 4 (some .int) ({ frames := 1, cells := 0, slots := 0, locals := 24 } : Room) [.ref (a 0), .int (nI len)] sz (mdW ka a g) (some (.int (p_send g len).1)) (mdW ka a (p_send g len).2) := by
  refine enter (by decide) (Nat.le_of_ble_eq_true rfl) ?_
  intro p e s m below meth c A ls F hP hD hS hl
  have FF := F
  obtain ⟨hx, hb, hr, hlocks, hml, hown, hts, hA, hK, hnm⟩ := F
  have hl : lv_has ls 4 [(0, .ref (a 0)), (1, .int (nI len))] := hl
  have ho := hok.1
  have h7 := hok.2
  refine lv_iload_n hx hb dX4_send_0 rfl (lv_at hl 1 rfl) ?_
  refine lv_iconst (v := nI 1) hx hb dX4_send_1 (by decide) ?_
  refine n_icmp_lt (tgt := 11) hx hb (by omega) (by omega) dX4_send_2 (by decide) (fun h8 => ?_) (fun h8 => ?_)
  · exact absurd h8 (by omega)
  · refine lv_iload_n hx hb dX4_send_5 rfl (lv_at hl 1 rfl) ?_
    refine lv_bipush (v := nI 16) hx hb dX4_send_6 (by decide) ?_
    refine n_icmp_le (tgt := 14) hx hb (by omega) (by omega) dX4_send_8 (by decide) (fun h9 => ?_) (fun h9 => ?_)
    · refine lv_aload_n hx hb dX4_send_14 rfl (lv_at hl 0 rfl) ?_
      refine va_get (D := D) (ci := 3) (v := .int (nI g.1.2.1)) (C := RX4) (T := TX4) (N := 10) hx hb hts in_X4 hown hK.1 hP 0 rfl rfl 7 (by decide) (hts _ q270) (fun _ h9 => h9) rfl dX4_send_15 ?_
      refine lv_bipush (v := nI 8) hx hb dX4_send_18 (by decide) ?_
      refine n_icmp_ne (tgt := 25) hx hb (by omega) (by omega) dX4_send_20 (by decide) (fun h3 => ?_) (fun h3 => ?_)
      · have hk : r_k g.1 < 8 := Nat.mod_lt _ (by decide)
        refine lv_aload_n hx hb dX4_send_25 rfl (lv_at hl 0 rfl) ?_
        refine va_get (D := D) (ci := 3) (v := .int (nI g.1.1)) (C := RX4) (T := TX4) (N := 10) hx hb hts in_X4 hown hK.1 hP 0 rfl rfl 6 (by decide) (hts _ q269) (fun _ h9 => h9) rfl dX4_send_26 ?_
        refine lv_aload_n hx hb dX4_send_29 rfl (lv_at hl 0 rfl) ?_
        refine va_get (D := D) (ci := 3) (v := .int (nI g.1.2.1)) (C := RX4) (T := TX4) (N := 10) hx hb hts in_X4 hown hK.1 hP 0 rfl rfl 7 (by decide) (hts _ q270) (fun _ h9 => h9) rfl dX4_send_30 ?_
        refine n_iadd hx hb dX4_send_33 ?_
        refine lv_bipush (v := nI 8) hx hb dX4_send_34 (by decide) ?_
        refine n_irem hx hb (by omega) (by decide) (by decide) dX4_send_36 ?_
        refine lv_istore_n (lv' := [(2, .int (nI (r_k g.1))), (0, .ref (a 0)), (1, .int (nI len))]) hx hb dX4_send_37 rfl hl (by decide) rfl (fun ls hl => ?_)
        refine lv_iconst (v := nI 0) hx hb dX4_send_38 (by decide) ?_
        refine lv_istore_n (lv' := [(3, .int (nI 0)), (2, .int (nI (r_k g.1))), (0, .ref (a 0)), (1, .int (nI len))]) hx hb dX4_send_39 rfl hl (by decide) rfl (fun ls hl => ?_)
        refine lp_csend a g (r_k g.1) len hk h2 FF (fun H locs ls hP hD hS hl => ?_) 16 0 rfl _ _ ls hP hD hS (lv_sub hl [2, 3, 1, 0] rfl)
        refine lv_aload_n hx hb dX4_send_81 rfl (lv_at hl 0 rfl) ?_
        refine va_get (D := D) (ci := 3) (v := .ref (a 2)) (C := RX4) (T := TX4) (N := 10) hx hb hts in_X4 hown hK.1 hP 0 rfl rfl 1 (by decide) (hts _ q264) (fun _ h9 => h9) rfl dX4_send_82 ?_
        refine lv_bipush (v := nI 8) hx hb dX4_send_85 (by decide) ?_
        refine lv_iload_n hx hb dX4_send_87 rfl (lv_at hl 2 rfl) ?_
        refine n_iadd hx hb dX4_send_88 ?_
        refine lv_iconst (v := nI 1) hx hb dX4_send_89 (by decide) ?_
        refine n_zast (wn := mdW ka a (s_t g (g_z (g_b g.1 (fill g.1.2.2.2.1 (16 * r_k g.1) (r_src g.2.2.1 len) 16)) (va_up g.1.2.2.2.2 (r_k g.1) true)))) hx hb hK hP hD hS 2 true rfl (by omega) (by decide) (vz_1) (mdW_tz ka a (s_t g (g_b g.1 (fill g.1.2.2.2.1 (16 * r_k g.1) (r_src g.2.2.1 len) 16))) (r_k g.1) true hk) dX4_send_90 (fun H locs hP hD hS => ?_)
        refine lv_aload_n hx hb dX4_send_91 rfl (lv_at hl 0 rfl) ?_
        refine lv_bipush (v := nI 8) hx hb dX4_send_92 (by decide) ?_
        refine lv_iload_n hx hb dX4_send_94 rfl (lv_at hl 2 rfl) ?_
        refine n_imul hx hb dX4_send_95 ?_
        refine lv_bipush (v := nI 8) hx hb dX4_send_96 (by decide) ?_
        refine lv_iload_n hx hb dX4_send_98 rfl (lv_at hl 2 rfl) ?_
        refine n_iadd hx hb dX4_send_99 ?_
        refine lv_iload_n hx hb dX4_send_100 rfl (lv_at hl 1 rfl) ?_
        refine w_call (wr := dsR ka a (s_t g (g_z (g_b g.1 (fill g.1.2.2.2.1 (16 * r_k g.1) (r_src g.2.2.1 len) 16)) (va_up g.1.2.2.2.2 (r_k g.1) true)))) (wn := mdW ka a (s_t g (g_d (g_z (g_b g.1 (fill g.1.2.2.2.1 (16 * r_k g.1) (r_src g.2.2.1 len) 16)) (va_up g.1.2.2.2.2 (r_k g.1) true)) (r_desc g.1.2.2.1 (8 * r_k g.1) (8 + r_k g.1) len)))) (va_runV (As := [.int (nI (8 * (r_k g.1))), .int (nI (8 + (r_k g.1))), .int (nI len)]) (rest := []) ⟨hx, hb, hml, hown, hts⟩ (c_desc_t D ka l a (s_t g (g_z (g_b g.1 (fill g.1.2.2.2.1 (16 * r_k g.1) (r_src g.2.2.1 len) 16)) (va_up g.1.2.2.2.2 (r_k g.1) true))) (8 * r_k g.1) (8 + r_k g.1) len (by omega) (by omega) (by omega) _) (cwV 3 hts (lw_V q315 q317 qs2 q8 q318) rfl rfl rfl (by decide +kernel) ⟨Nat.le_of_ble_eq_true rfl, Nat.le_of_ble_eq_true rfl⟩) (w_preV hK hP hD [0, 1] (by decide) rfl rfl (q0 := 0) rfl) rfl rfl hl.1 rfl (lv_room (Nat.le_of_ble_eq_true rfl)) dX4_send_101 ⟨Nat.le_of_ble_eq_true rfl, Nat.le_of_ble_eq_true rfl⟩) hP hD hS hA [0, 1] [2, 3, 4, 5] [4, 5, 0, 1, 2, 3] rfl rfl (by decide) (by decide) (by decide) rfl (fun H locs hP hD hS => ?_)
        refine lv_aload_n hx hb dX4_send_104 rfl (lv_at hl 0 rfl) ?_
        refine lv_aload_n hx hb dX4_send_105 rfl (lv_at hl 0 rfl) ?_
        refine va_get (D := D) (ci := 3) (v := .int (nI ((s_t g (g_d (g_z (g_b g.1 (fill g.1.2.2.2.1 (16 * r_k g.1) (r_src g.2.2.1 len) 16)) (va_up g.1.2.2.2.2 (r_k g.1) true)) (r_desc g.1.2.2.1 (8 * r_k g.1) (8 + r_k g.1) len))).1.2.1))) (C := RX4) (T := TX4) (N := 10) hx hb hts in_X4 hown hK.1 hP 0 rfl rfl 7 (by decide) (hts _ q270) (fun _ h9 => h9) rfl dX4_send_106 ?_
        refine lv_iconst (v := nI 1) hx hb dX4_send_109 (by decide) ?_
        refine n_iadd hx hb dX4_send_110 ?_
        refine va_put (D := D) (ci := 3) (v := .int (nI (((s_t g (g_d (g_z (g_b g.1 (fill g.1.2.2.2.1 (16 * r_k g.1) (r_src g.2.2.1 len) 16)) (va_up g.1.2.2.2.2 (r_k g.1) true)) (r_desc g.1.2.2.1 (8 * r_k g.1) (8 + r_k g.1) len))).1.2.1) + 1))) (ty := .int) (C := RX4) (T := TX4) (N := 10) hx hb hts in_X4 tyX4 tyX4_ok nmX4 hown hK.1 hP hD hS 0 rfl rfl 7 (by decide) (hts _ q270) (fun _ h9 => h9) rfl (by decide +kernel) rfl rfl (Nat.le_of_ble_eq_true rfl) dX4_send_111 (fun H locs hP hD hS => ?_)
        have hP : va_P D vwCl (mdW ka a (s_t g (r_enq 8 g.1 g.2.2.1 len))) H := hP
        have hD : va_D A (mdW ka a (s_t g (r_enq 8 g.1 g.2.2.1 len))) := hD
        refine lv_iload_n hx hb dX4_send_114 rfl (lv_at hl 2 rfl) ?_
        exact e_int hx hb hr hlocks hP hD hS (by rw [p_send, if_neg h3]) (by rw [p_send, if_neg h3]) dX4_send_115
      · refine lv_iconst (v := (-1)) hx hb dX4_send_23 (by decide) ?_
        exact e_int hx hb hr hlocks hP hD hS (by rw [p_send, if_pos h3]) (by rw [p_send, if_pos h3]) dX4_send_24
    · exact absurd h9 (by omega)
set_option maxHeartbeats 4000000 in
/-- reference: send(x), outside -/
theorem c_send_o (D : va_G) (ka : Nat → ClassId) (l : Launch) (a : Nat → Nat) (g : ST) (x : Int32) (h : x < nI 1 ∨ nI 16 < x) (sz : Nat) : CT D ka l yX4_send cX4_send 4 (some .int) ({ frames := 1, cells := 0, slots := 0, locals := 24 } : Room) [.ref (a 0), .int x] sz (mdW ka a g) (some (.int (-2))) (mdW ka a g) := by
  refine enter (by decide) (Nat.le_of_ble_eq_true rfl) ?_
  intro p e s m below meth c A ls F hP hD hS hl
  obtain ⟨hx, hb, hr, hlocks, hml, hown, hts, hA, hK, hnm⟩ := F
  have hl : lv_has ls 4 [(0, .ref (a 0)), (1, .int x)] := hl
  refine lv_iload_n hx hb dX4_send_0 rfl (lv_at hl 1 rfl) ?_
  refine lv_iconst (v := nI 1) hx hb dX4_send_1 (by decide) ?_
  refine lv_icmp_lt (tgt := 11) hx hb dX4_send_2 (by decide) (fun h1 => ?_) (fun h1 => ?_)
  · refine lv_bipush (v := (-2)) hx hb dX4_send_11 (by decide) ?_
    exact e_int hx hb hr hlocks hP hD hS (rfl) (rfl) dX4_send_13
  · refine lv_iload_n hx hb dX4_send_5 rfl (lv_at hl 1 rfl) ?_
    refine lv_bipush (v := nI 16) hx hb dX4_send_6 (by decide) ?_
    refine lv_icmp_le (tgt := 14) hx hb dX4_send_8 (by decide) (fun h2 => ?_) (fun h2 => ?_)
    · exact False.elim (h.elim (fun q => h1 q) (fun q => (i32_nlt h2) q))
    · refine lv_bipush (v := (-2)) hx hb dX4_send_11 (by decide) ?_
      exact e_int hx hb hr hlocks hP hD hS (rfl) (rfl) dX4_send_13
set_option maxHeartbeats 4000000 in
/-- reference: post: the loop -/
theorem lp_cpost {D : va_G} {ka : Nat → ClassId} {p : Program} {l : Launch} {e : Env} {s : State} {m : MethodId} {args : Array Value} {below : List Frame} {meth : Method} {c : Code} {A : Nat → Prop} {Q : State → Prop} (a : Nat → Nat) (g : ST) (k : Nat) (hk : k < 8) (F : Fx D ka p s m args c meth cX4_post 3 (some .int) RX4 "post" A)
    (kk : ∀ (H : Heap) (locs : List Loc) (ls : Array Slot), va_P D vwCl (mdW ka a (s_r g (g_b g.2.1 (fill g.2.1.2.2.2.1 (16 * k) (r_src g.2.2.1 0) 16)))) H → va_D A (mdW ka a (s_r g (g_b g.2.1 (fill g.2.1.2.2.2.1 (16 * k) (r_src g.2.2.1 0) 16)))) → va_S A s.heap H locs → lv_has ls 3 [(0, .ref (a 0)), (1, .int (nI k))] → W p l e ({ frames := 1, cells := 0, slots := 0, locals := 24 } : Room) s m args below meth c H locs 0 0 Q (F0 m 53 ls [])) :
    ∀ (n i : Nat), i + n = 16 → ∀ (H : Heap) (locs : List Loc) (ls : Array Slot), va_P D vwCl (mdW ka a (s_r g (g_b g.2.1 (fill g.2.1.2.2.2.1 (16 * k) (r_src g.2.2.1 0) i)))) H → va_D A (mdW ka a (s_r g (g_b g.2.1 (fill g.2.1.2.2.2.1 (16 * k) (r_src g.2.2.1 0) i)))) → va_S A s.heap H locs → lv_has ls 3 [(0, .ref (a 0)), (1, .int (nI k)), (2, .int (nI i))] → W p l e ({ frames := 1, cells := 0, slots := 0, locals := 24 } : Room) s m args below meth c H locs 0 0 Q (F0 m 26 ls []) := by
  obtain ⟨hx, hb, hr, hlocks, hml, hown, hts, hA, hK, hnm⟩ := F
  intro n
  induction n with
  | zero =>
    intro i hi H locs ls hP hD hS hl
    have hi : i = 16 := by omega
    subst hi
    refine lv_iload_n hx hb dX4_post_26 rfl (lv_at hl 2 rfl) ?_
    refine lv_bipush (v := nI 16) hx hb dX4_post_27 (by decide) ?_
    refine n_icmp_ge (tgt := 53) hx hb (by omega) (by omega) dX4_post_29 (by decide) (fun h1 => ?_) (fun h1 => ?_)
    · exact kk H locs ls hP hD hS (lv_sub hl [0, 1] rfl)
    · exact absurd h1 (by omega)
  | succ n ih =>
    intro i hi H locs ls hP hD hS hl
    refine lv_iload_n hx hb dX4_post_26 rfl (lv_at hl 2 rfl) ?_
    refine lv_bipush (v := nI 16) hx hb dX4_post_27 (by decide) ?_
    refine n_icmp_ge (tgt := 53) hx hb (by omega) (by omega) dX4_post_29 (by decide) (fun h1 => ?_) (fun h1 => ?_)
    · exact absurd h1 (by omega)
    · refine lv_aload_n hx hb dX4_post_32 rfl (lv_at hl 0 rfl) ?_
      refine va_get (D := D) (ci := 3) (v := .ref (a 1)) (C := RX4) (T := TX4) (N := 10) hx hb hts in_X4 hown hK.1 hP 0 rfl rfl 0 (by decide) (hts _ q263) (fun _ h9 => h9) rfl dX4_post_33 ?_
      refine lv_bipush (v := nI 16) hx hb dX4_post_36 (by decide) ?_
      refine lv_iload_n hx hb dX4_post_38 rfl (lv_at hl 1 rfl) ?_
      refine n_iadd hx hb dX4_post_39 ?_
      refine lv_bipush (v := nI 16) hx hb dX4_post_40 (by decide) ?_
      refine n_imul hx hb dX4_post_42 ?_
      refine lv_iload_n hx hb dX4_post_43 rfl (lv_at hl 2 rfl) ?_
      refine n_iadd hx hb dX4_post_44 ?_
      refine lv_iconst (v := nI 0) hx hb dX4_post_45 (by decide) ?_
      refine n_bast (wn := mdW ka a (s_r g (g_b g.2.1 (fill g.2.1.2.2.2.1 (16 * k) (r_src g.2.2.1 0) (i + 1))))) hx hb hK hP hD hS 1 (r_src g.2.2.1 0 i) rfl (by omega) (by decide) (by rw [r_src, if_neg (Nat.not_lt_zero _)]; exact vb_0) (mdW_rb ka a (s_r g (g_b g.2.1 (fill g.2.1.2.2.2.1 (16 * k) (r_src g.2.2.1 0) i))) (16 * k + i) _ _ (by omega)) dX4_post_46 (fun H locs hP hD hS => ?_)
      refine lv_iinc (v := nI (i + 1)) (lv' := [(2, .int (nI (i + 1))), (0, .ref (a 0)), (1, .int (nI k))]) hx hb dX4_post_47 hl (k := 2) rfl (nI_1 _) (by decide) rfl (fun ls hl => ?_)
      refine lv_goto (tgt := 26) hx hb dX4_post_50 (by decide) ?_
      exact ih (i + 1) (by omega) H locs ls hP hD hS (lv_sub hl [1, 2, 0] rfl)
set_option maxHeartbeats 4000000 in
/-- reference: post() -/
theorem c_post (D : va_G) (ka : Nat → ClassId) (l : Launch) (a : Nat → Nat) (g : ST) (hok : okR g.2.1) (sz : Nat) : CT D ka l yX4_post cX4_post 3 (some .int) ({ frames := 1, cells := 0, slots := 0, locals := 24 } : Room) [.ref (a 0)] sz (mdW ka a g) (some (.int (p_post g).1)) (mdW ka a (p_post g).2) := by
  refine enter (by decide) (Nat.le_of_ble_eq_true rfl) ?_
  intro p e s m below meth c A ls F hP hD hS hl
  have FF := F
  obtain ⟨hx, hb, hr, hlocks, hml, hown, hts, hA, hK, hnm⟩ := F
  have hl : lv_has ls 3 [(0, .ref (a 0))] := hl
  have ho := hok.1
  have h7 := hok.2
  refine lv_aload_n hx hb dX4_post_0 rfl (lv_at hl 0 rfl) ?_
  refine va_get (D := D) (ci := 3) (v := .int (nI g.2.1.2.1)) (C := RX4) (T := TX4) (N := 10) hx hb hts in_X4 hown hK.1 hP 0 rfl rfl 9 (by decide) (hts _ q272) (fun _ h9 => h9) rfl dX4_post_1 ?_
  refine lv_bipush (v := nI 8) hx hb dX4_post_4 (by decide) ?_
  refine n_icmp_ne (tgt := 11) hx hb (by omega) (by omega) dX4_post_6 (by decide) (fun h3 => ?_) (fun h3 => ?_)
  · have hk : r_k g.2.1 < 8 := Nat.mod_lt _ (by decide)
    refine lv_aload_n hx hb dX4_post_11 rfl (lv_at hl 0 rfl) ?_
    refine va_get (D := D) (ci := 3) (v := .int (nI g.2.1.1)) (C := RX4) (T := TX4) (N := 10) hx hb hts in_X4 hown hK.1 hP 0 rfl rfl 8 (by decide) (hts _ q271) (fun _ h9 => h9) rfl dX4_post_12 ?_
    refine lv_aload_n hx hb dX4_post_15 rfl (lv_at hl 0 rfl) ?_
    refine va_get (D := D) (ci := 3) (v := .int (nI g.2.1.2.1)) (C := RX4) (T := TX4) (N := 10) hx hb hts in_X4 hown hK.1 hP 0 rfl rfl 9 (by decide) (hts _ q272) (fun _ h9 => h9) rfl dX4_post_16 ?_
    refine n_iadd hx hb dX4_post_19 ?_
    refine lv_bipush (v := nI 8) hx hb dX4_post_20 (by decide) ?_
    refine n_irem hx hb (by omega) (by decide) (by decide) dX4_post_22 ?_
    refine lv_istore_n (lv' := [(1, .int (nI (r_k g.2.1))), (0, .ref (a 0))]) hx hb dX4_post_23 rfl hl (by decide) rfl (fun ls hl => ?_)
    refine lv_iconst (v := nI 0) hx hb dX4_post_24 (by decide) ?_
    refine lv_istore_n (lv' := [(2, .int (nI 0)), (1, .int (nI (r_k g.2.1))), (0, .ref (a 0))]) hx hb dX4_post_25 rfl hl (by decide) rfl (fun ls hl => ?_)
    refine lp_cpost a g (r_k g.2.1) hk FF (fun H locs ls hP hD hS hl => ?_) 16 0 rfl _ _ ls hP hD hS (lv_sub hl [2, 1, 0] rfl)
    refine lv_aload_n hx hb dX4_post_53 rfl (lv_at hl 0 rfl) ?_
    refine va_get (D := D) (ci := 3) (v := .ref (a 3)) (C := RX4) (T := TX4) (N := 10) hx hb hts in_X4 hown hK.1 hP 0 rfl rfl 2 (by decide) (hts _ q265) (fun _ h9 => h9) rfl dX4_post_54 ?_
    refine lv_bipush (v := nI 16) hx hb dX4_post_57 (by decide) ?_
    refine lv_iload_n hx hb dX4_post_59 rfl (lv_at hl 1 rfl) ?_
    refine n_iadd hx hb dX4_post_60 ?_
    refine lv_iconst (v := nI 1) hx hb dX4_post_61 (by decide) ?_
    refine n_zast (wn := mdW ka a (s_r g (g_z (g_b g.2.1 (fill g.2.1.2.2.2.1 (16 * r_k g.2.1) (r_src g.2.2.1 0) 16)) (va_up g.2.1.2.2.2.2 (r_k g.2.1) true)))) hx hb hK hP hD hS 3 true rfl (by omega) (by decide) (vz_1) (mdW_rz ka a (s_r g (g_b g.2.1 (fill g.2.1.2.2.2.1 (16 * r_k g.2.1) (r_src g.2.2.1 0) 16))) (r_k g.2.1) true) dX4_post_62 (fun H locs hP hD hS => ?_)
    refine lv_aload_n hx hb dX4_post_63 rfl (lv_at hl 0 rfl) ?_
    refine lv_bipush (v := nI 64) hx hb dX4_post_64 (by decide) ?_
    refine lv_bipush (v := nI 8) hx hb dX4_post_66 (by decide) ?_
    refine lv_iload_n hx hb dX4_post_68 rfl (lv_at hl 1 rfl) ?_
    refine n_imul hx hb dX4_post_69 ?_
    refine n_iadd hx hb dX4_post_70 ?_
    refine lv_bipush (v := nI 16) hx hb dX4_post_71 (by decide) ?_
    refine lv_iload_n hx hb dX4_post_73 rfl (lv_at hl 1 rfl) ?_
    refine n_iadd hx hb dX4_post_74 ?_
    refine lv_iconst (v := nI 0) hx hb dX4_post_75 (by decide) ?_
    refine w_call (wr := dsR ka a (s_r g (g_z (g_b g.2.1 (fill g.2.1.2.2.2.1 (16 * r_k g.2.1) (r_src g.2.2.1 0) 16)) (va_up g.2.1.2.2.2.2 (r_k g.2.1) true)))) (wn := mdW ka a (s_r g (g_d (g_z (g_b g.2.1 (fill g.2.1.2.2.2.1 (16 * r_k g.2.1) (r_src g.2.2.1 0) 16)) (va_up g.2.1.2.2.2.2 (r_k g.2.1) true)) (r_desc g.2.1.2.2.1 (8 * r_k g.2.1) (16 + r_k g.2.1) 0)))) (va_runV (As := [.int (nI (64 + (8 * (r_k g.2.1)))), .int (nI (16 + (r_k g.2.1))), .int (nI 0)]) (rest := []) ⟨hx, hb, hml, hown, hts⟩ (c_desc_r D ka l a (s_r g (g_z (g_b g.2.1 (fill g.2.1.2.2.2.1 (16 * r_k g.2.1) (r_src g.2.2.1 0) 16)) (va_up g.2.1.2.2.2.2 (r_k g.2.1) true))) (8 * r_k g.2.1) (16 + r_k g.2.1) 0 (by omega) (by omega) (by omega) _) (cwV 3 hts (lw_V q315 q317 qs2 q8 q318) rfl rfl rfl (by decide +kernel) ⟨Nat.le_of_ble_eq_true rfl, Nat.le_of_ble_eq_true rfl⟩) (w_preV hK hP hD [0, 1] (by decide) rfl rfl (q0 := 0) rfl) rfl rfl hl.1 rfl (lv_room (Nat.le_of_ble_eq_true rfl)) dX4_post_76 ⟨Nat.le_of_ble_eq_true rfl, Nat.le_of_ble_eq_true rfl⟩) hP hD hS hA [0, 1] [2, 3, 4, 5] [4, 5, 0, 1, 2, 3] rfl rfl (by decide) (by decide) (by decide) rfl (fun H locs hP hD hS => ?_)
    refine lv_aload_n hx hb dX4_post_79 rfl (lv_at hl 0 rfl) ?_
    refine lv_aload_n hx hb dX4_post_80 rfl (lv_at hl 0 rfl) ?_
    refine va_get (D := D) (ci := 3) (v := .int (nI ((s_r g (g_d (g_z (g_b g.2.1 (fill g.2.1.2.2.2.1 (16 * r_k g.2.1) (r_src g.2.2.1 0) 16)) (va_up g.2.1.2.2.2.2 (r_k g.2.1) true)) (r_desc g.2.1.2.2.1 (8 * r_k g.2.1) (16 + r_k g.2.1) 0))).2.1.2.1))) (C := RX4) (T := TX4) (N := 10) hx hb hts in_X4 hown hK.1 hP 0 rfl rfl 9 (by decide) (hts _ q272) (fun _ h9 => h9) rfl dX4_post_81 ?_
    refine lv_iconst (v := nI 1) hx hb dX4_post_84 (by decide) ?_
    refine n_iadd hx hb dX4_post_85 ?_
    refine va_put (D := D) (ci := 3) (v := .int (nI (((s_r g (g_d (g_z (g_b g.2.1 (fill g.2.1.2.2.2.1 (16 * r_k g.2.1) (r_src g.2.2.1 0) 16)) (va_up g.2.1.2.2.2.2 (r_k g.2.1) true)) (r_desc g.2.1.2.2.1 (8 * r_k g.2.1) (16 + r_k g.2.1) 0))).2.1.2.1) + 1))) (ty := .int) (C := RX4) (T := TX4) (N := 10) hx hb hts in_X4 tyX4 tyX4_ok nmX4 hown hK.1 hP hD hS 0 rfl rfl 9 (by decide) (hts _ q272) (fun _ h9 => h9) rfl (by decide +kernel) rfl rfl (Nat.le_of_ble_eq_true rfl) dX4_post_86 (fun H locs hP hD hS => ?_)
    have hP : va_P D vwCl (mdW ka a (s_r g (r_enq 16 g.2.1 g.2.2.1 0))) H := hP
    have hD : va_D A (mdW ka a (s_r g (r_enq 16 g.2.1 g.2.2.1 0))) := hD
    refine lv_iload_n hx hb dX4_post_89 rfl (lv_at hl 1 rfl) ?_
    exact e_int hx hb hr hlocks hP hD hS (by rw [p_post, if_neg h3]) (by rw [p_post, if_neg h3]) dX4_post_90
  · refine lv_iconst (v := (-1)) hx hb dX4_post_9 (by decide) ?_
    exact e_int hx hb hr hlocks hP hD hS (by rw [p_post, if_pos h3]) (by rw [p_post, if_pos h3]) dX4_post_10
set_option maxHeartbeats 4000000 in
/-- reference: reclaim: the loop -/
theorem lp_crcl {D : va_G} {ka : Nat → ClassId} {p : Program} {l : Launch} {e : Env} {s : State} {m : MethodId} {args : Array Value} {below : List Frame} {meth : Method} {c : Code} {A : Nat → Prop} {Q : State → Prop} (a : Nat → Nat) (g : ST) (hok : okR g.1) (F : Fx D ka p s m args c meth cX4_reclaim 3 (some .int) RX4 "reclaim" A)
    (kk : ∀ (H : Heap) (locs : List Loc) (ls : Array Slot), va_P D vwCl (mdW ka a (s_t g (r_rcl g.1 8).1)) H → va_D A (mdW ka a (s_t g (r_rcl g.1 8).1)) → va_S A s.heap H locs → lv_has ls 3 [(0, .ref (a 0)), (1, .int (nI ((r_rcl g.1 8).2)))] → W p l e ({ frames := 0, cells := 0, slots := 0, locals := 0 } : Room) s m args below meth c H locs 0 0 Q (F0 m 80 ls [])) :
    ∀ (n i : Nat), i + n = 8 → ∀ (H : Heap) (locs : List Loc) (ls : Array Slot), va_P D vwCl (mdW ka a (s_t g (r_rcl g.1 i).1)) H → va_D A (mdW ka a (s_t g (r_rcl g.1 i).1)) → va_S A s.heap H locs → lv_has ls 3 [(0, .ref (a 0)), (1, .int (nI ((r_rcl g.1 i).2))), (2, .int (nI i))] → W p l e ({ frames := 0, cells := 0, slots := 0, locals := 0 } : Room) s m args below meth c H locs 0 0 Q (F0 m 4 ls []) := by
  obtain ⟨hx, hb, hr, hlocks, hml, hown, hts, hA, hK, hnm⟩ := F
  intro n
  induction n with
  | zero =>
    intro i hi H locs ls hP hD hS hl
    have hi : i = 8 := by omega
    subst hi
    refine lv_iload_n hx hb dX4_reclaim_4 rfl (lv_at hl 2 rfl) ?_
    refine lv_bipush (v := nI 8) hx hb dX4_reclaim_5 (by decide) ?_
    refine n_icmp_ge (tgt := 80) hx hb (by omega) (by omega) dX4_reclaim_7 (by decide) (fun h1 => ?_) (fun h1 => ?_)
    · exact kk H locs ls hP hD hS (lv_sub hl [0, 1] rfl)
    · exact absurd h1 (by omega)
  | succ n ih =>
    intro i hi H locs ls hP hD hS hl
    refine lv_iload_n hx hb dX4_reclaim_4 rfl (lv_at hl 2 rfl) ?_
    refine lv_bipush (v := nI 8) hx hb dX4_reclaim_5 (by decide) ?_
    refine n_icmp_ge (tgt := 80) hx hb (by omega) (by omega) dX4_reclaim_7 (by decide) (fun h1 => ?_) (fun h1 => ?_)
    · exact absurd h1 (by omega)
    · have hoki := okR_rcl hok i
      have ho := hoki.1
      have h8 := hoki.2
      refine lv_aload_n hx hb dX4_reclaim_10 rfl (lv_at hl 0 rfl) ?_
      refine va_get (D := D) (ci := 3) (v := .int (nI ((s_t g (r_rcl g.1 i).1).1.2.1))) (C := RX4) (T := TX4) (N := 10) hx hb hts in_X4 hown hK.1 hP 0 rfl rfl 7 (by decide) (hts _ q270) (fun _ h9 => h9) rfl dX4_reclaim_11 ?_
      refine n_if_le (tgt := 74) hx hb (show (r_rcl g.1 i).1.2.1 < 2 ^ 31 by omega) dX4_reclaim_14 (by decide) (fun h2 => ?_) (fun h2 => ?_)
      · have en := r_rcl_no g.1 i (fun q => q.1 h2)
        refine lv_iinc (v := nI (i + 1)) (lv' := [(2, .int (nI (i + 1))), (0, .ref (a 0)), (1, .int (nI ((r_rcl g.1 i).2)))]) hx hb dX4_reclaim_74 hl (k := 2) rfl (nI_1 _) (by decide) rfl (fun ls hl => ?_)
        refine lv_goto (tgt := 4) hx hb dX4_reclaim_77 (by decide) ?_
        have hl : lv_has ls 3 [(0, .ref (a 0)), (1, .int (nI (r_rcl g.1 (i + 1)).2)), (2, .int (nI (i + 1)))] := by rw [en]; exact lv_sub hl [1, 2, 0] rfl
        exact ih (i + 1) (by omega) _ _ ls (by rw [en]; exact hP) (by rw [en]; exact hD) hS hl
      · have h2 : (r_rcl g.1 i).1.2.1 ≠ 0 := h2
        refine lv_aload_n hx hb dX4_reclaim_17 rfl (lv_at hl 0 rfl) ?_
        refine va_get (D := D) (ci := 3) (v := .ref (a 1)) (C := RX4) (T := TX4) (N := 10) hx hb hts in_X4 hown hK.1 hP 0 rfl rfl 0 (by decide) (hts _ q263) (fun _ h9 => h9) rfl dX4_reclaim_18 ?_
        refine lv_bipush (v := nI 8) hx hb dX4_reclaim_21 (by decide) ?_
        refine lv_aload_n hx hb dX4_reclaim_23 rfl (lv_at hl 0 rfl) ?_
        refine va_get (D := D) (ci := 3) (v := .int (nI ((s_t g (r_rcl g.1 i).1).1.1))) (C := RX4) (T := TX4) (N := 10) hx hb hts in_X4 hown hK.1 hP 0 rfl rfl 6 (by decide) (hts _ q269) (fun _ h9 => h9) rfl dX4_reclaim_24 ?_
        refine n_imul hx hb dX4_reclaim_27 ?_
        refine lv_iconst (v := nI 2) hx hb dX4_reclaim_28 (by decide) ?_
        refine n_iadd hx hb dX4_reclaim_29 ?_
        refine n_bald hx hb hK hP 1 rfl (show 8 * (r_rcl g.1 i).1.1 + 2 < 384 by omega) (by decide) dX4_reclaim_30 ?_
        have em : mem (s_t g (r_rcl g.1 i).1) (8 * (r_rcl g.1 i).1.1 + 2) = (r_rcl g.1 i).1.2.2.1 (8 * (r_rcl g.1 i).1.1 + 2) := mem_a _ (show 8 * (r_rcl g.1 i).1.1 + 2 < 64 by omega)
        refine s_if_ne (tgt := 74) hx hb dX4_reclaim_31 (by decide) (fun h3 => ?_) (fun h3 => ?_)
        · have en := r_rcl_no g.1 i (fun q => h3 (em.trans q.2))
          refine lv_iinc (v := nI (i + 1)) (lv' := [(2, .int (nI (i + 1))), (0, .ref (a 0)), (1, .int (nI ((r_rcl g.1 i).2)))]) hx hb dX4_reclaim_74 hl (k := 2) rfl (nI_1 _) (by decide) rfl (fun ls hl => ?_)
          refine lv_goto (tgt := 4) hx hb dX4_reclaim_77 (by decide) ?_
          have hl : lv_has ls 3 [(0, .ref (a 0)), (1, .int (nI (r_rcl g.1 (i + 1)).2)), (2, .int (nI (i + 1)))] := by rw [en]; exact lv_sub hl [1, 2, 0] rfl
          exact ih (i + 1) (by omega) _ _ ls (by rw [en]; exact hP) (by rw [en]; exact hD) hS hl
        · have hd := em.symm.trans h3
          have en := r_rcl_go g.1 i ⟨h2, hd⟩
          refine lv_aload_n hx hb dX4_reclaim_34 rfl (lv_at hl 0 rfl) ?_
          refine va_get (D := D) (ci := 3) (v := .ref (a 2)) (C := RX4) (T := TX4) (N := 10) hx hb hts in_X4 hown hK.1 hP 0 rfl rfl 1 (by decide) (hts _ q264) (fun _ h9 => h9) rfl dX4_reclaim_35 ?_
          refine lv_bipush (v := nI 8) hx hb dX4_reclaim_38 (by decide) ?_
          refine lv_aload_n hx hb dX4_reclaim_40 rfl (lv_at hl 0 rfl) ?_
          refine va_get (D := D) (ci := 3) (v := .int (nI ((s_t g (r_rcl g.1 i).1).1.1))) (C := RX4) (T := TX4) (N := 10) hx hb hts in_X4 hown hK.1 hP 0 rfl rfl 6 (by decide) (hts _ q269) (fun _ h9 => h9) rfl dX4_reclaim_41 ?_
          refine n_iadd hx hb dX4_reclaim_44 ?_
          refine lv_iconst (v := nI 0) hx hb dX4_reclaim_45 (by decide) ?_
          refine n_zast (wn := mdW ka a (s_t g (g_z (r_rcl g.1 i).1 (va_up (r_rcl g.1 i).1.2.2.2.2 (r_rcl g.1 i).1.1 false)))) hx hb hK hP hD hS 2 false rfl (show 8 + (r_rcl g.1 i).1.1 < 24 by omega) (by decide) (vz_0) (mdW_tz ka a (s_t g (r_rcl g.1 i).1) (r_rcl g.1 i).1.1 false ho) dX4_reclaim_46 (fun H locs hP hD hS => ?_)
          refine lv_aload_n hx hb dX4_reclaim_47 rfl (lv_at hl 0 rfl) ?_
          refine lv_aload_n hx hb dX4_reclaim_48 rfl (lv_at hl 0 rfl) ?_
          refine va_get (D := D) (ci := 3) (v := .int (nI ((s_t g (g_z (r_rcl g.1 i).1 (va_up (r_rcl g.1 i).1.2.2.2.2 (r_rcl g.1 i).1.1 false))).1.1))) (C := RX4) (T := TX4) (N := 10) hx hb hts in_X4 hown hK.1 hP 0 rfl rfl 6 (by decide) (hts _ q269) (fun _ h9 => h9) rfl dX4_reclaim_49 ?_
          refine lv_iconst (v := nI 1) hx hb dX4_reclaim_52 (by decide) ?_
          refine n_iadd hx hb dX4_reclaim_53 ?_
          refine lv_bipush (v := nI 8) hx hb dX4_reclaim_54 (by decide) ?_
          refine n_irem hx hb (show (r_rcl g.1 i).1.1 + 1 < 2 ^ 31 by omega) (by decide) (by decide) dX4_reclaim_56 ?_
          refine va_put (D := D) (ci := 3) (v := .int (nI ((((s_t g (g_z (r_rcl g.1 i).1 (va_up (r_rcl g.1 i).1.2.2.2.2 (r_rcl g.1 i).1.1 false))).1.1) + 1) % 8))) (ty := .int) (C := RX4) (T := TX4) (N := 10) hx hb hts in_X4 tyX4 tyX4_ok nmX4 hown hK.1 hP hD hS 0 rfl rfl 6 (by decide) (hts _ q269) (fun _ h9 => h9) rfl (by decide +kernel) rfl rfl (Nat.le_of_ble_eq_true rfl) dX4_reclaim_57 (fun H locs hP hD hS => ?_)
          have hP : va_P D vwCl (mdW ka a (s_t g (g_o (g_z (r_rcl g.1 i).1 (va_up (r_rcl g.1 i).1.2.2.2.2 (r_rcl g.1 i).1.1 false)) (((r_rcl g.1 i).1.1 + 1) % 8)))) H := hP
          have hD : va_D A (mdW ka a (s_t g (g_o (g_z (r_rcl g.1 i).1 (va_up (r_rcl g.1 i).1.2.2.2.2 (r_rcl g.1 i).1.1 false)) (((r_rcl g.1 i).1.1 + 1) % 8)))) := hD
          refine lv_aload_n hx hb dX4_reclaim_60 rfl (lv_at hl 0 rfl) ?_
          refine lv_aload_n hx hb dX4_reclaim_61 rfl (lv_at hl 0 rfl) ?_
          refine va_get (D := D) (ci := 3) (v := .int (nI ((s_t g (g_o (g_z (r_rcl g.1 i).1 (va_up (r_rcl g.1 i).1.2.2.2.2 (r_rcl g.1 i).1.1 false)) (((r_rcl g.1 i).1.1 + 1) % 8))).1.2.1))) (C := RX4) (T := TX4) (N := 10) hx hb hts in_X4 hown hK.1 hP 0 rfl rfl 7 (by decide) (hts _ q270) (fun _ h9 => h9) rfl dX4_reclaim_62 ?_
          refine lv_iconst (v := nI 1) hx hb dX4_reclaim_65 (by decide) ?_
          refine n_isub hx hb (show 1 ≤ (r_rcl g.1 i).1.2.1 by omega) dX4_reclaim_66 ?_
          refine va_put (D := D) (ci := 3) (v := .int (nI (((s_t g (g_o (g_z (r_rcl g.1 i).1 (va_up (r_rcl g.1 i).1.2.2.2.2 (r_rcl g.1 i).1.1 false)) (((r_rcl g.1 i).1.1 + 1) % 8))).1.2.1) - 1))) (ty := .int) (C := RX4) (T := TX4) (N := 10) hx hb hts in_X4 tyX4 tyX4_ok nmX4 hown hK.1 hP hD hS 0 rfl rfl 7 (by decide) (hts _ q270) (fun _ h9 => h9) rfl (by decide +kernel) rfl rfl (Nat.le_of_ble_eq_true rfl) dX4_reclaim_67 (fun H locs hP hD hS => ?_)
          have hP : va_P D vwCl (mdW ka a (s_t g (r_take (r_rcl g.1 i).1))) H := hP
          have hD : va_D A (mdW ka a (s_t g (r_take (r_rcl g.1 i).1))) := hD
          refine lv_iload_n hx hb dX4_reclaim_70 rfl (lv_at hl 1 rfl) ?_
          refine lv_iconst (v := nI 1) hx hb dX4_reclaim_71 (by decide) ?_
          refine n_iadd hx hb dX4_reclaim_72 ?_
          refine lv_istore_n (lv' := [(1, .int (nI (((r_rcl g.1 i).2) + 1))), (0, .ref (a 0)), (2, .int (nI i))]) hx hb dX4_reclaim_73 rfl hl (by decide) rfl (fun ls hl => ?_)
          refine lv_iinc (v := nI (i + 1)) (lv' := [(2, .int (nI (i + 1))), (1, .int (nI (((r_rcl g.1 i).2) + 1))), (0, .ref (a 0))]) hx hb dX4_reclaim_74 hl (k := 2) rfl (nI_1 _) (by decide) rfl (fun ls hl => ?_)
          refine lv_goto (tgt := 4) hx hb dX4_reclaim_77 (by decide) ?_
          have hl : lv_has ls 3 [(0, .ref (a 0)), (1, .int (nI (r_rcl g.1 (i + 1)).2)), (2, .int (nI (i + 1)))] := by rw [en]; exact lv_sub hl [2, 1, 0] rfl
          exact ih (i + 1) (by omega) _ _ ls (by rw [en]; exact hP) (by rw [en]; exact hD) hS hl
set_option maxHeartbeats 4000000 in
/-- reference: reclaim() -/
theorem c_rcl (D : va_G) (ka : Nat → ClassId) (l : Launch) (a : Nat → Nat) (g : ST) (hok : okR g.1) (sz : Nat) : CT D ka l yX4_reclaim cX4_reclaim 3 (some .int) ({ frames := 0, cells := 0, slots := 0, locals := 0 } : Room) [.ref (a 0)] sz (mdW ka a g) (some (.int (p_rcl g).1)) (mdW ka a (p_rcl g).2) := by
  refine enter (by decide) (Nat.le_of_ble_eq_true rfl) ?_
  intro p e s m below meth c A ls F hP hD hS hl
  have FF := F
  obtain ⟨hx, hb, hr, hlocks, hml, hown, hts, hA, hK, hnm⟩ := F
  have hl : lv_has ls 3 [(0, .ref (a 0))] := hl
  refine lv_iconst (v := nI 0) hx hb dX4_reclaim_0 (by decide) ?_
  refine lv_istore_n (lv' := [(1, .int (nI 0)), (0, .ref (a 0))]) hx hb dX4_reclaim_1 rfl hl (by decide) rfl (fun ls hl => ?_)
  refine lv_iconst (v := nI 0) hx hb dX4_reclaim_2 (by decide) ?_
  refine lv_istore_n (lv' := [(2, .int (nI 0)), (1, .int (nI 0)), (0, .ref (a 0))]) hx hb dX4_reclaim_3 rfl hl (by decide) rfl (fun ls hl => ?_)
  refine lp_crcl a g hok FF (fun H locs ls hP hD hS hl => ?_) 8 0 rfl _ _ ls hP hD hS (lv_sub hl [2, 1, 0] rfl)
  refine lv_iload_n hx hb dX4_reclaim_80 rfl (lv_at hl 1 rfl) ?_
  exact e_int hx hb hr hlocks hP hD hS (by rw [p_rcl, r_all_eq]) (by rw [p_rcl, r_all_eq]) dX4_reclaim_81
set_option maxHeartbeats 4000000 in
/-- reference: revoke: the loop -/
theorem lp_crev {D : va_G} {ka : Nat → ClassId} {p : Program} {l : Launch} {e : Env} {s : State} {m : MethodId} {args : Array Value} {below : List Frame} {meth : Method} {c : Code} {A : Nat → Prop} {Q : State → Prop} (a : Nat → Nat) (g : ST) (hok : okR (r_all g.1).1) (F : Fx D ka p s m args c meth cX4_revoke 5 (some .int) RX4 "revoke" A)
    (kk : ∀ (H : Heap) (locs : List Loc) (ls : Array Slot), va_P D vwCl (mdW ka a (s_t g (r_cutL (r_all g.1).1 0 ((r_all g.1).1.2.1)))) H → va_D A (mdW ka a (s_t g (r_cutL (r_all g.1).1 0 ((r_all g.1).1.2.1)))) → va_S A s.heap H locs → lv_has ls 5 [(0, .ref (a 0)), (2, .int (nI ((r_all g.1).1.2.1)))] → W p l e ({ frames := 1, cells := 0, slots := 0, locals := 22 } : Room) s m args below meth c H locs 0 0 Q (F0 m 58 ls [])) :
    ∀ (n i : Nat), i + n = (r_all g.1).1.2.1 → ∀ (H : Heap) (locs : List Loc) (ls : Array Slot), va_P D vwCl (mdW ka a (s_t g (r_cutL (r_all g.1).1 0 i))) H → va_D A (mdW ka a (s_t g (r_cutL (r_all g.1).1 0 i))) → va_S A s.heap H locs → lv_has ls 5 [(0, .ref (a 0)), (2, .int (nI ((r_all g.1).1.2.1))), (3, .int (nI i))] → W p l e ({ frames := 1, cells := 0, slots := 0, locals := 22 } : Room) s m args below meth c H locs 0 0 Q (F0 m 12 ls []) := by
  obtain ⟨hx, hb, hr, hlocks, hml, hown, hts, hA, hK, hnm⟩ := F
  intro n
  induction n with
  | zero =>
    intro i hi H locs ls hP hD hS hl
    have hi : i = (r_all g.1).1.2.1 := by omega
    subst hi
    refine lv_iload_n hx hb dX4_revoke_12 rfl (lv_at hl 2 rfl) ?_
    refine lv_iload_n hx hb dX4_revoke_13 rfl (lv_at hl 1 rfl) ?_
    refine n_icmp_ge (tgt := 58) hx hb (by have := hok.2; omega) (by have := hok.2; omega) dX4_revoke_14 (by decide) (fun h1 => ?_) (fun h1 => ?_)
    · exact kk H locs ls hP hD hS (lv_sub hl [0, 1] rfl)
    · exact absurd h1 (Nat.lt_irrefl _)
  | succ n ih =>
    intro i hi H locs ls hP hD hS hl
    refine lv_iload_n hx hb dX4_revoke_12 rfl (lv_at hl 2 rfl) ?_
    refine lv_iload_n hx hb dX4_revoke_13 rfl (lv_at hl 1 rfl) ?_
    refine n_icmp_ge (tgt := 58) hx hb (by have := hok.2; omega) (by have := hok.2; omega) dX4_revoke_14 (by decide) (fun h1 => ?_) (fun h1 => ?_)
    · exact absurd h1 (by omega)
    · have e2 : (r_cutL (r_all g.1).1 0 i).1 = (r_all g.1).1.1 := r_cutL_o _ _ _
      have ho := hok.1
      have h8 := hok.2
      refine lv_aload_n hx hb dX4_revoke_17 rfl (lv_at hl 0 rfl) ?_
      refine va_get (D := D) (ci := 3) (v := .int (nI ((s_t g (r_cutL (r_all g.1).1 0 i)).1.1))) (C := RX4) (T := TX4) (N := 10) hx hb hts in_X4 hown hK.1 hP 0 rfl rfl 6 (by decide) (hts _ q269) (fun _ h9 => h9) rfl dX4_revoke_18 ?_
      refine lv_iload_n hx hb dX4_revoke_21 rfl (lv_at hl 2 rfl) ?_
      refine n_iadd hx hb dX4_revoke_22 ?_
      refine lv_bipush (v := nI 8) hx hb dX4_revoke_23 (by decide) ?_
      refine n_irem hx hb (show (r_cutL (r_all g.1).1 0 i).1 + i < 2 ^ 31 by omega) (by decide) (by decide) dX4_revoke_25 ?_
      refine lv_topi (fun y ey => ?_)
      obtain rfl : y = nI (((r_all g.1).1.1 + (0 + i)) % 8) := ey.trans (show nI (((r_cutL (r_all g.1).1 0 i).1 + i) % 8) = nI (((r_all g.1).1.1 + (0 + i)) % 8) by rw [e2, Nat.zero_add])
      have hk : ((r_all g.1).1.1 + (0 + i)) % 8 < 8 := Nat.mod_lt _ (by decide)
      refine lv_istore (lv' := [(4, .int (nI (((r_all g.1).1.1 + (0 + i)) % 8))), (0, .ref (a 0)), (2, .int (nI ((r_all g.1).1.2.1))), (3, .int (nI i))]) hx hb dX4_revoke_26 hl (by decide) rfl (fun ls hl => ?_)
      refine lv_aload_n hx hb dX4_revoke_28 rfl (lv_at hl 1 rfl) ?_
      refine va_get (D := D) (ci := 3) (v := .ref (a 2)) (C := RX4) (T := TX4) (N := 10) hx hb hts in_X4 hown hK.1 hP 0 rfl rfl 1 (by decide) (hts _ q264) (fun _ h9 => h9) rfl dX4_revoke_29 ?_
      refine lv_bipush (v := nI 8) hx hb dX4_revoke_32 (by decide) ?_
      refine lv_iload hx hb dX4_revoke_34 (lv_at hl 0 rfl) ?_
      refine n_iadd hx hb dX4_revoke_36 ?_
      refine lv_iconst (v := nI 0) hx hb dX4_revoke_37 (by decide) ?_
      refine n_zast (wn := mdW ka a (s_t g (g_z (r_cutL (r_all g.1).1 0 i) (va_up (r_cutL (r_all g.1).1 0 i).2.2.2.2 (((r_all g.1).1.1 + (0 + i)) % 8) false)))) hx hb hK hP hD hS 2 false rfl (by omega) (by decide) (vz_0) (mdW_tz ka a (s_t g (r_cutL (r_all g.1).1 0 i)) (((r_all g.1).1.1 + (0 + i)) % 8) false hk) dX4_revoke_38 (fun H locs hP hD hS => ?_)
      refine lv_aload_n hx hb dX4_revoke_39 rfl (lv_at hl 1 rfl) ?_
      refine va_get (D := D) (ci := 3) (v := .ref (a 1)) (C := RX4) (T := TX4) (N := 10) hx hb hts in_X4 hown hK.1 hP 0 rfl rfl 0 (by decide) (hts _ q263) (fun _ h9 => h9) rfl dX4_revoke_40 ?_
      refine lv_bipush (v := nI 8) hx hb dX4_revoke_43 (by decide) ?_
      refine lv_iload hx hb dX4_revoke_45 (lv_at hl 0 rfl) ?_
      refine n_imul hx hb dX4_revoke_47 ?_
      refine lv_iconst (v := nI 2) hx hb dX4_revoke_48 (by decide) ?_
      refine n_iadd hx hb dX4_revoke_49 ?_
      refine lv_iconst (v := nI 0) hx hb dX4_revoke_50 (by decide) ?_
      refine n_bast (wn := mdW ka a (s_t g (r_cutL (r_all g.1).1 0 (i + 1)))) hx hb hK hP hD hS 1 0 rfl (by omega) (by decide) (vb_0) (mdW_td ka a (s_t g (g_z (r_cutL (r_all g.1).1 0 i) (va_up (r_cutL (r_all g.1).1 0 i).2.2.2.2 (((r_all g.1).1.1 + (0 + i)) % 8) false))) (8 * (((r_all g.1).1.1 + (0 + i)) % 8) + 2) 0 (by omega)) dX4_revoke_51 (fun H locs hP hD hS => ?_)
      refine lv_iinc (v := nI (i + 1)) (lv' := [(3, .int (nI (i + 1))), (4, .int (nI (((r_all g.1).1.1 + (0 + i)) % 8))), (0, .ref (a 0)), (2, .int (nI ((r_all g.1).1.2.1)))]) hx hb dX4_revoke_52 hl (k := 3) rfl (nI_1 _) (by decide) rfl (fun ls hl => ?_)
      refine lv_goto (tgt := 12) hx hb dX4_revoke_55 (by decide) ?_
      exact ih (i + 1) (by omega) H locs ls hP hD hS (lv_sub hl [2, 3, 0] rfl)
set_option maxHeartbeats 4000000 in
/-- reference: revoke() -/
theorem c_rev (D : va_G) (ka : Nat → ClassId) (l : Launch) (a : Nat → Nat) (g : ST) (hok : okR g.1) (sz : Nat) : CT D ka l yX4_revoke cX4_revoke 5 (some .int) ({ frames := 1, cells := 0, slots := 0, locals := 22 } : Room) [.ref (a 0)] sz (mdW ka a g) (some (.int (p_rev g).1)) (mdW ka a (p_rev g).2) := by
  refine enter (by decide) (Nat.le_of_ble_eq_true rfl) ?_
  intro p e s m below meth c A ls F hP hD hS hl
  have FF := F
  obtain ⟨hx, hb, hr, hlocks, hml, hown, hts, hA, hK, hnm⟩ := F
  have hl : lv_has ls 5 [(0, .ref (a 0))] := hl
  refine lv_aload_n hx hb dX4_revoke_0 rfl (lv_at hl 0 rfl) ?_
  refine w_call (wr := []) (wn := mdW ka a (s_t g (r_all g.1).1)) (va_runV (As := []) (rest := []) ⟨hx, hb, hml, hown, hts⟩ (c_rcl D ka l a g hok _) (cwV 0 hts (lw_V q327 q320 q321 q8 q322) rfl rfl rfl (by decide +kernel) ⟨Nat.le_of_ble_eq_true rfl, Nat.le_of_ble_eq_true rfl⟩) (w_preV hK hP hD [0, 1, 2, 3, 4, 5] (by decide) rfl rfl (q0 := 0) rfl) rfl rfl hl.1 rfl (lv_room (Nat.le_of_ble_eq_true rfl)) dX4_revoke_1 ⟨Nat.le_of_ble_eq_true rfl, Nat.le_of_ble_eq_true rfl⟩) hP hD hS hA [0, 1, 2, 3, 4, 5] [] [0, 1, 2, 3, 4, 5] rfl rfl (by decide) (by decide) (by decide) rfl (fun H locs hP hD hS => ?_)
  refine lv_istore_n (lv' := [(1, .int ((p_rcl g).1)), (0, .ref (a 0))]) hx hb dX4_revoke_4 rfl hl (by decide) rfl (fun ls hl => ?_)
  refine lv_aload_n hx hb dX4_revoke_5 rfl (lv_at hl 1 rfl) ?_
  refine va_get (D := D) (ci := 3) (v := .int (nI ((s_t g (r_all g.1).1).1.2.1))) (C := RX4) (T := TX4) (N := 10) hx hb hts in_X4 hown hK.1 hP 0 rfl rfl 7 (by decide) (hts _ q270) (fun _ h9 => h9) rfl dX4_revoke_6 ?_
  refine lv_istore_n (lv' := [(2, .int (nI ((s_t g (r_all g.1).1).1.2.1))), (1, .int ((p_rcl g).1)), (0, .ref (a 0))]) hx hb dX4_revoke_9 rfl hl (by decide) rfl (fun ls hl => ?_)
  refine lv_iconst (v := nI 0) hx hb dX4_revoke_10 (by decide) ?_
  refine lv_istore_n (lv' := [(3, .int (nI 0)), (2, .int (nI ((s_t g (r_all g.1).1).1.2.1))), (1, .int ((p_rcl g).1)), (0, .ref (a 0))]) hx hb dX4_revoke_11 rfl hl (by decide) rfl (fun ls hl => ?_)
  refine lp_crev a g (okR_all hok) FF (fun H locs ls hP hD hS hl => ?_) (r_all g.1).1.2.1 0 (Nat.zero_add _) H locs ls hP hD hS (lv_sub hl [3, 1, 0] rfl)
  refine lv_aload_n hx hb dX4_revoke_58 rfl (lv_at hl 0 rfl) ?_
  refine lv_iconst (v := nI 0) hx hb dX4_revoke_59 (by decide) ?_
  refine va_put (D := D) (ci := 3) (v := .int (nI 0)) (ty := .int) (C := RX4) (T := TX4) (N := 10) hx hb hts in_X4 tyX4 tyX4_ok nmX4 hown hK.1 hP hD hS 0 rfl rfl 7 (by decide) (hts _ q270) (fun _ h9 => h9) rfl (by decide +kernel) rfl rfl (Nat.le_of_ble_eq_true rfl) dX4_revoke_60 (fun H locs hP hD hS => ?_)
  have hP : va_P D vwCl (mdW ka a (s_t g (r_cut (r_all g.1).1 0))) H := hP
  have hD : va_D A (mdW ka a (s_t g (r_cut (r_all g.1).1 0))) := hD
  refine lv_iload_n hx hb dX4_revoke_63 rfl (lv_at hl 1 rfl) ?_
  exact e_int hx hb hr hlocks hP hD hS (rfl) (rfl) dX4_revoke_64
set_option maxHeartbeats 4000000 in
/-- reference: receive: the loop -/
theorem lp_crecv {D : va_G} {ka : Nat → ClassId} {p : Program} {l : Launch} {e : Env} {s : State} {m : MethodId} {args : Array Value} {below : List Frame} {meth : Method} {c : Code} {A : Nat → Prop} {Q : State → Prop} (a : Nat → Nat) (G : ST) (k len : Nat) (hk : k < 8) (hlen : len ≤ 16) (F : Fx D ka p s m args c meth cX4_receive 4 (some .int) RX4 "receive" A)
    (kk : ∀ (H : Heap) (locs : List Loc) (ls : Array Slot), va_P D vwCl (mdW ka a (s_ib G (fill G.2.2.2.1 0 (fun i => G.2.1.2.2.2.1 (16 * k + i)) len))) H → va_D A (mdW ka a (s_ib G (fill G.2.2.2.1 0 (fun i => G.2.1.2.2.2.1 (16 * k + i)) len))) → va_S A s.heap H locs → lv_has ls 4 [(0, .ref (a 0)), (1, .int (nI k)), (2, .int (nI len))] → W p l e ({ frames := 0, cells := 0, slots := 0, locals := 0 } : Room) s m args below meth c H locs 0 0 Q (F0 m 132 ls [])) :
    ∀ (n i : Nat), i + n = len → ∀ (H : Heap) (locs : List Loc) (ls : Array Slot), va_P D vwCl (mdW ka a (s_ib G (fill G.2.2.2.1 0 (fun i => G.2.1.2.2.2.1 (16 * k + i)) i))) H → va_D A (mdW ka a (s_ib G (fill G.2.2.2.1 0 (fun i => G.2.1.2.2.2.1 (16 * k + i)) i))) → va_S A s.heap H locs → lv_has ls 4 [(0, .ref (a 0)), (1, .int (nI k)), (2, .int (nI len)), (3, .int (nI i))] → W p l e ({ frames := 0, cells := 0, slots := 0, locals := 0 } : Room) s m args below meth c H locs 0 0 Q (F0 m 101 ls []) := by
  obtain ⟨hx, hb, hr, hlocks, hml, hown, hts, hA, hK, hnm⟩ := F
  intro n
  induction n with
  | zero =>
    intro i hi H locs ls hP hD hS hl
    have hi : i = len := by omega
    subst hi
    refine lv_iload_n hx hb dX4_receive_101 rfl (lv_at hl 3 rfl) ?_
    refine lv_iload_n hx hb dX4_receive_102 rfl (lv_at hl 2 rfl) ?_
    refine n_icmp_ge (tgt := 132) hx hb (by omega) (by omega) dX4_receive_103 (by decide) (fun h1 => ?_) (fun h1 => ?_)
    · exact kk H locs ls hP hD hS (lv_sub hl [0, 1, 2] rfl)
    · exact absurd h1 (by omega)
  | succ n ih =>
    intro i hi H locs ls hP hD hS hl
    refine lv_iload_n hx hb dX4_receive_101 rfl (lv_at hl 3 rfl) ?_
    refine lv_iload_n hx hb dX4_receive_102 rfl (lv_at hl 2 rfl) ?_
    refine n_icmp_ge (tgt := 132) hx hb (by omega) (by omega) dX4_receive_103 (by decide) (fun h1 => ?_) (fun h1 => ?_)
    · exact absurd h1 (by omega)
    · refine lv_aload_n hx hb dX4_receive_106 rfl (lv_at hl 0 rfl) ?_
      refine va_get (D := D) (ci := 3) (v := .ref (a 5)) (C := RX4) (T := TX4) (N := 10) hx hb hts in_X4 hown hK.1 hP 0 rfl rfl 4 (by decide) (hts _ q267) (fun _ h9 => h9) rfl dX4_receive_107 ?_
      refine lv_iload_n hx hb dX4_receive_110 rfl (lv_at hl 3 rfl) ?_
      refine lv_aload_n hx hb dX4_receive_111 rfl (lv_at hl 0 rfl) ?_
      refine va_get (D := D) (ci := 3) (v := .ref (a 1)) (C := RX4) (T := TX4) (N := 10) hx hb hts in_X4 hown hK.1 hP 0 rfl rfl 0 (by decide) (hts _ q263) (fun _ h9 => h9) rfl dX4_receive_112 ?_
      refine lv_bipush (v := nI 16) hx hb dX4_receive_115 (by decide) ?_
      refine lv_iload_n hx hb dX4_receive_117 rfl (lv_at hl 1 rfl) ?_
      refine n_iadd hx hb dX4_receive_118 ?_
      refine lv_bipush (v := nI 16) hx hb dX4_receive_119 (by decide) ?_
      refine n_imul hx hb dX4_receive_121 ?_
      refine lv_iload_n hx hb dX4_receive_122 rfl (lv_at hl 3 rfl) ?_
      refine n_iadd hx hb dX4_receive_123 ?_
      refine n_bald hx hb hK hP 1 rfl (by omega) (by decide) dX4_receive_124 ?_
      have em : mem (s_ib G (fill G.2.2.2.1 0 (fun i => G.2.1.2.2.2.1 (16 * k + i)) i)) ((16 + k) * 16 + i) = G.2.1.2.2.2.1 (16 * k + i) := mem_rbx _ (by omega)
      refine n_bast (wn := mdW ka a (s_ib G (fill G.2.2.2.1 0 (fun i => G.2.1.2.2.2.1 (16 * k + i)) (i + 1)))) hx hb hK hP hD hS 5 (G.2.1.2.2.2.1 (16 * k + i)) rfl (by omega) (by decide) (by rw [em]; exact vb_sb _) (by rw [fill0]; rfl) dX4_receive_125 (fun H locs hP hD hS => ?_)
      refine lv_iinc (v := nI (i + 1)) (lv' := [(3, .int (nI (i + 1))), (0, .ref (a 0)), (1, .int (nI k)), (2, .int (nI len))]) hx hb dX4_receive_126 hl (k := 3) rfl (nI_1 _) (by decide) rfl (fun ls hl => ?_)
      refine lv_goto (tgt := 101) hx hb dX4_receive_129 (by decide) ?_
      exact ih (i + 1) (by omega) H locs ls hP hD hS (lv_sub hl [1, 2, 3, 0] rfl)
set_option maxHeartbeats 4000000 in
/-- reference: receive() -/
theorem c_recv (D : va_G) (ka : Nat → ClassId) (l : Launch) (a : Nat → Nat) (g : ST) (hok : okR g.2.1) (sz : Nat) : CT D ka l yX4_receive cX4_receive 4 (some .int) ({ frames := 0, cells := 0, slots := 0, locals := 0 } : Room) [.ref (a 0)] sz (mdW ka a g) (some (.int (p_recv g).1)) (mdW ka a (p_recv g).2) := by
  refine enter (by decide) (Nat.le_of_ble_eq_true rfl) ?_
  intro p e s m below meth c A ls F hP hD hS hl
  have FF := F
  obtain ⟨hx, hb, hr, hlocks, hml, hown, hts, hA, hK, hnm⟩ := F
  have hl : lv_has ls 4 [(0, .ref (a 0))] := hl
  have ho := hok.1
  have h8 := hok.2
  refine lv_aload_n hx hb dX4_receive_0 rfl (lv_at hl 0 rfl) ?_
  refine va_get (D := D) (ci := 3) (v := .int (nI g.2.1.2.1)) (C := RX4) (T := TX4) (N := 10) hx hb hts in_X4 hown hK.1 hP 0 rfl rfl 9 (by decide) (hts _ q272) (fun _ h9 => h9) rfl dX4_receive_1 ?_
  refine n_if_eq (tgt := 27) hx hb (by omega) dX4_receive_4 (by decide) (fun h1 => ?_) (fun h1 => ?_)
  · refine lv_iconst (v := (-1)) hx hb dX4_receive_27 (by decide) ?_
    exact e_int hx hb hr hlocks hP hD hS (by rw [p_recv, if_pos (Or.inl h1)]) (by rw [p_recv, if_pos (Or.inl h1)]) dX4_receive_28
  · refine lv_aload_n hx hb dX4_receive_7 rfl (lv_at hl 0 rfl) ?_
    refine va_get (D := D) (ci := 3) (v := .ref (a 1)) (C := RX4) (T := TX4) (N := 10) hx hb hts in_X4 hown hK.1 hP 0 rfl rfl 0 (by decide) (hts _ q263) (fun _ h9 => h9) rfl dX4_receive_8 ?_
    refine lv_bipush (v := nI 64) hx hb dX4_receive_11 (by decide) ?_
    refine lv_bipush (v := nI 8) hx hb dX4_receive_13 (by decide) ?_
    refine lv_aload_n hx hb dX4_receive_15 rfl (lv_at hl 0 rfl) ?_
    refine va_get (D := D) (ci := 3) (v := .int (nI g.2.1.1)) (C := RX4) (T := TX4) (N := 10) hx hb hts in_X4 hown hK.1 hP 0 rfl rfl 8 (by decide) (hts _ q271) (fun _ h9 => h9) rfl dX4_receive_16 ?_
    refine n_imul hx hb dX4_receive_19 ?_
    refine n_iadd hx hb dX4_receive_20 ?_
    refine lv_iconst (v := nI 2) hx hb dX4_receive_21 (by decide) ?_
    refine n_iadd hx hb dX4_receive_22 ?_
    refine n_bald hx hb hK hP 1 rfl (by omega) (by decide) dX4_receive_23 ?_
    have em : mem g (64 + 8 * g.2.1.1 + 2) = g.2.1.2.2.1 (8 * g.2.1.1 + 2) := mem_rdx g (by omega) (by omega)
    refine s_if_eq (tgt := 29) hx hb dX4_receive_24 (by decide) (fun h2 => ?_) (fun h2 => ?_)
    · have hc : ¬ (g.2.1.2.1 = 0 ∨ g.2.1.2.2.1 (8 * g.2.1.1 + 2) ≠ 0) := fun q => q.elim h1 (fun q => q (em.symm.trans h2))
      refine lv_aload_n hx hb dX4_receive_29 rfl (lv_at hl 0 rfl) ?_
      refine va_get (D := D) (ci := 3) (v := .int (nI g.2.1.1)) (C := RX4) (T := TX4) (N := 10) hx hb hts in_X4 hown hK.1 hP 0 rfl rfl 8 (by decide) (hts _ q271) (fun _ h9 => h9) rfl dX4_receive_30 ?_
      refine lv_istore_n (lv' := [(1, .int (nI g.2.1.1)), (0, .ref (a 0))]) hx hb dX4_receive_33 rfl hl (by decide) rfl (fun ls hl => ?_)
      refine lv_aload_n hx hb dX4_receive_34 rfl (lv_at hl 1 rfl) ?_
      refine va_get (D := D) (ci := 3) (v := .ref (a 3)) (C := RX4) (T := TX4) (N := 10) hx hb hts in_X4 hown hK.1 hP 0 rfl rfl 2 (by decide) (hts _ q265) (fun _ h9 => h9) rfl dX4_receive_35 ?_
      refine lv_bipush (v := nI 16) hx hb dX4_receive_38 (by decide) ?_
      refine lv_iload_n hx hb dX4_receive_40 rfl (lv_at hl 0 rfl) ?_
      refine n_iadd hx hb dX4_receive_41 ?_
      refine lv_iconst (v := nI 0) hx hb dX4_receive_42 (by decide) ?_
      refine n_zast (wn := mdW ka a (s_r g (g_z g.2.1 (va_up g.2.1.2.2.2.2 g.2.1.1 false)))) hx hb hK hP hD hS 3 false rfl (by omega) (by decide) (vz_0) (mdW_rz ka a g g.2.1.1 false) dX4_receive_43 (fun H locs hP hD hS => ?_)
      refine lv_aload_n hx hb dX4_receive_44 rfl (lv_at hl 1 rfl) ?_
      refine lv_aload_n hx hb dX4_receive_45 rfl (lv_at hl 1 rfl) ?_
      refine va_get (D := D) (ci := 3) (v := .int (nI ((s_r g (g_z g.2.1 (va_up g.2.1.2.2.2.2 g.2.1.1 false))).2.1.1))) (C := RX4) (T := TX4) (N := 10) hx hb hts in_X4 hown hK.1 hP 0 rfl rfl 8 (by decide) (hts _ q271) (fun _ h9 => h9) rfl dX4_receive_46 ?_
      refine lv_iconst (v := nI 1) hx hb dX4_receive_49 (by decide) ?_
      refine n_iadd hx hb dX4_receive_50 ?_
      refine lv_bipush (v := nI 8) hx hb dX4_receive_51 (by decide) ?_
      refine n_irem hx hb (show g.2.1.1 + 1 < 2 ^ 31 by omega) (by decide) (by decide) dX4_receive_53 ?_
      refine va_put (D := D) (ci := 3) (v := .int (nI ((((s_r g (g_z g.2.1 (va_up g.2.1.2.2.2.2 g.2.1.1 false))).2.1.1) + 1) % 8))) (ty := .int) (C := RX4) (T := TX4) (N := 10) hx hb hts in_X4 tyX4 tyX4_ok nmX4 hown hK.1 hP hD hS 0 rfl rfl 8 (by decide) (hts _ q271) (fun _ h9 => h9) rfl (by decide +kernel) rfl rfl (Nat.le_of_ble_eq_true rfl) dX4_receive_54 (fun H locs hP hD hS => ?_)
      have hP : va_P D vwCl (mdW ka a (s_r g (g_o (g_z g.2.1 (va_up g.2.1.2.2.2.2 g.2.1.1 false)) ((g.2.1.1 + 1) % 8)))) H := hP
      have hD : va_D A (mdW ka a (s_r g (g_o (g_z g.2.1 (va_up g.2.1.2.2.2.2 g.2.1.1 false)) ((g.2.1.1 + 1) % 8)))) := hD
      refine lv_aload_n hx hb dX4_receive_57 rfl (lv_at hl 1 rfl) ?_
      refine lv_aload_n hx hb dX4_receive_58 rfl (lv_at hl 1 rfl) ?_
      refine va_get (D := D) (ci := 3) (v := .int (nI ((s_r g (g_o (g_z g.2.1 (va_up g.2.1.2.2.2.2 g.2.1.1 false)) ((g.2.1.1 + 1) % 8))).2.1.2.1))) (C := RX4) (T := TX4) (N := 10) hx hb hts in_X4 hown hK.1 hP 0 rfl rfl 9 (by decide) (hts _ q272) (fun _ h9 => h9) rfl dX4_receive_59 ?_
      refine lv_iconst (v := nI 1) hx hb dX4_receive_62 (by decide) ?_
      refine n_isub hx hb (show 1 ≤ g.2.1.2.1 by omega) dX4_receive_63 ?_
      refine va_put (D := D) (ci := 3) (v := .int (nI (((s_r g (g_o (g_z g.2.1 (va_up g.2.1.2.2.2.2 g.2.1.1 false)) ((g.2.1.1 + 1) % 8))).2.1.2.1) - 1))) (ty := .int) (C := RX4) (T := TX4) (N := 10) hx hb hts in_X4 tyX4 tyX4_ok nmX4 hown hK.1 hP hD hS 0 rfl rfl 9 (by decide) (hts _ q272) (fun _ h9 => h9) rfl (by decide +kernel) rfl rfl (Nat.le_of_ble_eq_true rfl) dX4_receive_64 (fun H locs hP hD hS => ?_)
      have hP : va_P D vwCl (mdW ka a (s_r g (r_take g.2.1))) H := hP
      have hD : va_D A (mdW ka a (s_r g (r_take g.2.1))) := hD
      refine lv_aload_n hx hb dX4_receive_67 rfl (lv_at hl 1 rfl) ?_
      refine va_get (D := D) (ci := 3) (v := .ref (a 1)) (C := RX4) (T := TX4) (N := 10) hx hb hts in_X4 hown hK.1 hP 0 rfl rfl 0 (by decide) (hts _ q263) (fun _ h9 => h9) rfl dX4_receive_68 ?_
      refine lv_bipush (v := nI 64) hx hb dX4_receive_71 (by decide) ?_
      refine lv_bipush (v := nI 8) hx hb dX4_receive_73 (by decide) ?_
      refine lv_iload_n hx hb dX4_receive_75 rfl (lv_at hl 0 rfl) ?_
      refine n_imul hx hb dX4_receive_76 ?_
      refine n_iadd hx hb dX4_receive_77 ?_
      refine lv_iconst (v := nI 1) hx hb dX4_receive_78 (by decide) ?_
      refine n_iadd hx hb dX4_receive_79 ?_
      refine n_bald hx hb hK hP 1 rfl (by omega) (by decide) dX4_receive_80 ?_
      refine lv_sipush (v := nI 255) hx hb dX4_receive_81 (by decide) ?_
      refine n_andS hx hb dX4_receive_84 ?_
      have el : mem (s_r g (r_take g.2.1)) (64 + 8 * g.2.1.1 + 1) = g.2.1.2.2.1 (8 * g.2.1.1 + 1) := mem_rdx (s_r g (r_take g.2.1)) (j := 8 * g.2.1.1 + 1) (by omega) (by omega)
      rw [el]
      refine lv_istore_n (lv' := [(2, .int (ub (g.2.1.2.2.1 (8 * g.2.1.1 + 1)))), (1, .int (nI g.2.1.1)), (0, .ref (a 0))]) hx hb dX4_receive_85 rfl hl (by decide) rfl (fun ls hl => ?_)
      refine lv_iload_n hx hb dX4_receive_86 rfl (lv_at hl 0 rfl) ?_
      refine u_if_eq (tgt := 96) hx hb dX4_receive_87 (by decide) (fun h3 => ?_) (fun h3 => ?_)
      · refine lv_bipush (v := (-3)) hx hb dX4_receive_96 (by decide) ?_
        exact e_int hx hb hr hlocks hP hD hS (by rw [p_recv, if_neg hc, if_pos (Or.inl ((ub_eq0 _).mpr h3))]) (by rw [p_recv, if_neg hc, if_pos (Or.inl ((ub_eq0 _).mpr h3))]) dX4_receive_98
      · refine lv_iload_n hx hb dX4_receive_90 rfl (lv_at hl 0 rfl) ?_
        refine lv_bipush (v := nI 16) hx hb dX4_receive_91 (by decide) ?_
        refine n_icmp_le (tgt := 99) hx hb (by exact Nat.lt_trans (u8_lt _) (by decide)) (by omega) dX4_receive_93 (by decide) (fun h4 => ?_) (fun h4 => ?_)
        · have hz : (g.2.1.2.2.1 (8 * g.2.1.1 + 1)).toNat ≠ 0 := fun q => h3 ((ub_eq0 _).mp q)
          have hd : ¬ ((g.2.1.2.2.1 (8 * g.2.1.1 + 1)).toNat = 0 ∨ 16 < (g.2.1.2.2.1 (8 * g.2.1.1 + 1)).toNat) := by omega
          refine lv_iconst (v := nI 0) hx hb dX4_receive_99 (by decide) ?_
          refine lv_istore_n (lv' := [(3, .int (nI 0)), (2, .int (ub (g.2.1.2.2.1 (8 * g.2.1.1 + 1)))), (1, .int (nI g.2.1.1)), (0, .ref (a 0))]) hx hb dX4_receive_100 rfl hl (by decide) rfl (fun ls hl => ?_)
          refine lp_crecv a (s_r g (r_take g.2.1)) g.2.1.1 (g.2.1.2.2.1 (8 * g.2.1.1 + 1)).toNat ho h4 FF (fun H locs ls hP hD hS hl => ?_) (g.2.1.2.2.1 (8 * g.2.1.1 + 1)).toNat 0 (Nat.zero_add _) H locs ls hP hD hS (lv_sub hl [3, 2, 1, 0] rfl)
          refine lv_iload_n hx hb dX4_receive_132 rfl (lv_at hl 2 rfl) ?_
          exact e_int hx hb hr hlocks hP hD hS (by rw [p_recv, if_neg hc, if_neg hd]; rfl) (by rw [p_recv, if_neg hc, if_neg hd]; rfl) dX4_receive_133
        · refine lv_bipush (v := (-3)) hx hb dX4_receive_96 (by decide) ?_
          exact e_int hx hb hr hlocks hP hD hS (by rw [p_recv, if_neg hc, if_pos (Or.inr h4)]) (by rw [p_recv, if_neg hc, if_pos (Or.inr h4)]) dX4_receive_98
    · refine lv_iconst (v := (-1)) hx hb dX4_receive_27 (by decide) ?_
      exact e_int hx hb hr hlocks hP hD hS (by rw [p_recv, if_pos (Or.inr (fun q => h2 (em.trans q)))]) (by rw [p_recv, if_pos (Or.inr (fun q => h2 (em.trans q)))]) dX4_receive_28
set_option maxHeartbeats 4000000 in
/-- reference: withdraw: who stays -/
theorem lp_cwdr1 {D : va_G} {ka : Nat → ClassId} {p : Program} {l : Launch} {e : Env} {s : State} {m : MethodId} {args : Array Value} {below : List Frame} {meth : Method} {c : Code} {A : Nat → Prop} {Q : State → Prop} (a : Nat → Nat) (g : ST) (ho : g.2.1.1 < 8) (h8 : g.2.1.2.1 ≤ 8) (F : Fx D ka p s m args c meth cX4_withdraw 5 (some .int) RX4 "withdraw" A)
    (kk : ∀ (H : Heap) (locs : List Loc) (ls : Array Slot), va_P D vwCl (mdW ka a g) H → va_D A (mdW ka a g) → va_S A s.heap H locs → lv_has ls 5 [(0, .ref (a 0)), (1, .int (nI (r_stay g.2.1 8)))] → W p l e ({ frames := 0, cells := 0, slots := 0, locals := 0 } : Room) s m args below meth c H locs 0 0 Q (F0 m 58 ls [])) :
    ∀ (n i : Nat), i + n = 8 → ∀ (H : Heap) (locs : List Loc) (ls : Array Slot), va_P D vwCl (mdW ka a g) H → va_D A (mdW ka a g) → va_S A s.heap H locs → lv_has ls 5 [(0, .ref (a 0)), (1, .int (nI (r_stay g.2.1 i))), (2, .int (nI i))] → W p l e ({ frames := 0, cells := 0, slots := 0, locals := 0 } : Room) s m args below meth c H locs 0 0 Q (F0 m 4 ls []) := by
  obtain ⟨hx, hb, hr, hlocks, hml, hown, hts, hA, hK, hnm⟩ := F
  intro n
  induction n with
  | zero =>
    intro i hi H locs ls hP hD hS hl
    have hi : i = 8 := by omega
    subst hi
    refine lv_iload_n hx hb dX4_withdraw_4 rfl (lv_at hl 2 rfl) ?_
    refine lv_bipush (v := nI 8) hx hb dX4_withdraw_5 (by decide) ?_
    refine n_icmp_ge (tgt := 58) hx hb (by omega) (by omega) dX4_withdraw_7 (by decide) (fun h1 => ?_) (fun h1 => ?_)
    · exact kk H locs ls hP hD hS (lv_sub hl [0, 1] rfl)
    · exact absurd h1 (by omega)
  | succ n ih =>
    intro i hi H locs ls hP hD hS hl
    refine lv_iload_n hx hb dX4_withdraw_4 rfl (lv_at hl 2 rfl) ?_
    refine lv_bipush (v := nI 8) hx hb dX4_withdraw_5 (by decide) ?_
    refine n_icmp_ge (tgt := 58) hx hb (by omega) (by omega) dX4_withdraw_7 (by decide) (fun h1 => ?_) (fun h1 => ?_)
    · exact absurd h1 (by omega)
    · have hs := r_stay_le g.2.1 i
      refine lv_iload_n hx hb dX4_withdraw_10 rfl (lv_at hl 1 rfl) ?_
      refine lv_iload_n hx hb dX4_withdraw_11 rfl (lv_at hl 2 rfl) ?_
      refine n_icmp_ne (tgt := 52) hx hb (by omega) (by omega) dX4_withdraw_12 (by decide) (fun h2 => ?_) (fun h2 => ?_)
      · have en : r_stay g.2.1 (i + 1) = r_stay g.2.1 i := by rw [r_stay_s, if_neg (fun q => h2 q.1)]
        refine lv_iinc (v := nI (i + 1)) (lv' := [(2, .int (nI (i + 1))), (0, .ref (a 0)), (1, .int (nI (r_stay g.2.1 i)))]) hx hb dX4_withdraw_52 hl (k := 2) rfl (nI_1 _) (by decide) rfl (fun ls hl => ?_)
        refine lv_goto (tgt := 4) hx hb dX4_withdraw_55 (by decide) ?_
        have hl : lv_has ls 5 [(0, .ref (a 0)), (1, .int (nI (r_stay g.2.1 (i + 1)))), (2, .int (nI (i + 1)))] := by rw [en]; exact lv_sub hl [1, 2, 0] rfl
        exact ih (i + 1) (by omega) _ _ ls hP hD hS hl
      · refine lv_iload_n hx hb dX4_withdraw_15 rfl (lv_at hl 2 rfl) ?_
        refine lv_aload_n hx hb dX4_withdraw_16 rfl (lv_at hl 0 rfl) ?_
        refine va_get (D := D) (ci := 3) (v := .int (nI g.2.1.2.1)) (C := RX4) (T := TX4) (N := 10) hx hb hts in_X4 hown hK.1 hP 0 rfl rfl 9 (by decide) (hts _ q272) (fun _ h9 => h9) rfl dX4_withdraw_17 ?_
        refine n_icmp_ge (tgt := 52) hx hb (by omega) (by omega) dX4_withdraw_20 (by decide) (fun h3 => ?_) (fun h3 => ?_)
        · have en : r_stay g.2.1 (i + 1) = r_stay g.2.1 i := by rw [r_stay_s, if_neg (fun q => absurd q.2.1 (by omega))]
          refine lv_iinc (v := nI (i + 1)) (lv' := [(2, .int (nI (i + 1))), (0, .ref (a 0)), (1, .int (nI (r_stay g.2.1 i)))]) hx hb dX4_withdraw_52 hl (k := 2) rfl (nI_1 _) (by decide) rfl (fun ls hl => ?_)
          refine lv_goto (tgt := 4) hx hb dX4_withdraw_55 (by decide) ?_
          have hl : lv_has ls 5 [(0, .ref (a 0)), (1, .int (nI (r_stay g.2.1 (i + 1)))), (2, .int (nI (i + 1)))] := by rw [en]; exact lv_sub hl [1, 2, 0] rfl
          exact ih (i + 1) (by omega) _ _ ls hP hD hS hl
        · refine lv_aload_n hx hb dX4_withdraw_23 rfl (lv_at hl 0 rfl) ?_
          refine va_get (D := D) (ci := 3) (v := .ref (a 1)) (C := RX4) (T := TX4) (N := 10) hx hb hts in_X4 hown hK.1 hP 0 rfl rfl 0 (by decide) (hts _ q263) (fun _ h9 => h9) rfl dX4_withdraw_24 ?_
          refine lv_bipush (v := nI 64) hx hb dX4_withdraw_27 (by decide) ?_
          refine lv_bipush (v := nI 8) hx hb dX4_withdraw_29 (by decide) ?_
          refine lv_aload_n hx hb dX4_withdraw_31 rfl (lv_at hl 0 rfl) ?_
          refine va_get (D := D) (ci := 3) (v := .int (nI g.2.1.1)) (C := RX4) (T := TX4) (N := 10) hx hb hts in_X4 hown hK.1 hP 0 rfl rfl 8 (by decide) (hts _ q271) (fun _ h9 => h9) rfl dX4_withdraw_32 ?_
          refine lv_iload_n hx hb dX4_withdraw_35 rfl (lv_at hl 2 rfl) ?_
          refine n_iadd hx hb dX4_withdraw_36 ?_
          refine lv_bipush (v := nI 8) hx hb dX4_withdraw_37 (by decide) ?_
          refine n_irem hx hb (by omega) (by decide) (by decide) dX4_withdraw_39 ?_
          refine n_imul hx hb dX4_withdraw_40 ?_
          refine n_iadd hx hb dX4_withdraw_41 ?_
          refine lv_iconst (v := nI 2) hx hb dX4_withdraw_42 (by decide) ?_
          refine n_iadd hx hb dX4_withdraw_43 ?_
          refine n_bald hx hb hK hP 1 rfl (by omega) (by decide) dX4_withdraw_44 ?_
          have em : mem g (64 + 8 * ((g.2.1.1 + i) % 8) + 2) = g.2.1.2.2.1 (8 * ((g.2.1.1 + i) % 8) + 2) := mem_rdx g (by omega) (by omega)
          refine s_if_ne (tgt := 52) hx hb dX4_withdraw_45 (by decide) (fun h4 => ?_) (fun h4 => ?_)
          · have en : r_stay g.2.1 (i + 1) = r_stay g.2.1 i := by rw [r_stay_s, if_neg (fun q => h4 (em.trans q.2.2))]
            refine lv_iinc (v := nI (i + 1)) (lv' := [(2, .int (nI (i + 1))), (0, .ref (a 0)), (1, .int (nI (r_stay g.2.1 i)))]) hx hb dX4_withdraw_52 hl (k := 2) rfl (nI_1 _) (by decide) rfl (fun ls hl => ?_)
            refine lv_goto (tgt := 4) hx hb dX4_withdraw_55 (by decide) ?_
            have hl : lv_has ls 5 [(0, .ref (a 0)), (1, .int (nI (r_stay g.2.1 (i + 1)))), (2, .int (nI (i + 1)))] := by rw [en]; exact lv_sub hl [1, 2, 0] rfl
            exact ih (i + 1) (by omega) _ _ ls hP hD hS hl
          · have en := r_stay_go g.2.1 i h2 h3 (em.symm.trans h4)
            refine lv_iload_n hx hb dX4_withdraw_48 rfl (lv_at hl 1 rfl) ?_
            refine lv_iconst (v := nI 1) hx hb dX4_withdraw_49 (by decide) ?_
            refine n_iadd hx hb dX4_withdraw_50 ?_
            refine lv_istore_n (lv' := [(1, .int (nI ((r_stay g.2.1 i) + 1))), (0, .ref (a 0)), (2, .int (nI i))]) hx hb dX4_withdraw_51 rfl hl (by decide) rfl (fun ls hl => ?_)
            refine lv_iinc (v := nI (i + 1)) (lv' := [(2, .int (nI (i + 1))), (1, .int (nI ((r_stay g.2.1 i) + 1))), (0, .ref (a 0))]) hx hb dX4_withdraw_52 hl (k := 2) rfl (nI_1 _) (by decide) rfl (fun ls hl => ?_)
            refine lv_goto (tgt := 4) hx hb dX4_withdraw_55 (by decide) ?_
            have hl : lv_has ls 5 [(0, .ref (a 0)), (1, .int (nI (r_stay g.2.1 (i + 1)))), (2, .int (nI (i + 1)))] := by rw [en, ← h2]; rw [h2]; exact (by rw [h2] at hl; exact lv_sub hl [2, 1, 0] rfl)
            exact ih (i + 1) (by omega) _ _ ls hP hD hS hl
set_option maxHeartbeats 4000000 in
/-- reference: withdraw: who goes -/
theorem lp_cwdr2 {D : va_G} {ka : Nat → ClassId} {p : Program} {l : Launch} {e : Env} {s : State} {m : MethodId} {args : Array Value} {below : List Frame} {meth : Method} {c : Code} {A : Nat → Prop} {Q : State → Prop} (a : Nat → Nat) (g : ST) (pl : Nat) (ho : g.2.1.1 < 8) (h8 : g.2.1.2.1 ≤ 8) (hpl : pl ≤ g.2.1.2.1) (F : Fx D ka p s m args c meth cX4_withdraw 5 (some .int) RX4 "withdraw" A)
    (kk : ∀ (H : Heap) (locs : List Loc) (ls : Array Slot), va_P D vwCl (mdW ka a (s_r g (r_cutL g.2.1 pl (g.2.1.2.1 - pl)))) H → va_D A (mdW ka a (s_r g (r_cutL g.2.1 pl (g.2.1.2.1 - pl)))) → va_S A s.heap H locs → lv_has ls 5 [(0, .ref (a 0)), (1, .int (nI pl)), (2, .int (nI (g.2.1.2.1 - pl)))] → W p l e ({ frames := 0, cells := 0, slots := 0, locals := 0 } : Room) s m args below meth c H locs 0 0 Q (F0 m 119 ls [])) :
    ∀ (n i : Nat), i + n = g.2.1.2.1 - pl → ∀ (H : Heap) (locs : List Loc) (ls : Array Slot), va_P D vwCl (mdW ka a (s_r g (r_cutL g.2.1 pl i))) H → va_D A (mdW ka a (s_r g (r_cutL g.2.1 pl i))) → va_S A s.heap H locs → lv_has ls 5 [(0, .ref (a 0)), (1, .int (nI pl)), (2, .int (nI (g.2.1.2.1 - pl))), (3, .int (nI (pl + i)))] → W p l e ({ frames := 0, cells := 0, slots := 0, locals := 0 } : Room) s m args below meth c H locs 0 0 Q (F0 m 67 ls []) := by
  obtain ⟨hx, hb, hr, hlocks, hml, hown, hts, hA, hK, hnm⟩ := F
  intro n
  induction n with
  | zero =>
    intro i hi H locs ls hP hD hS hl
    have hi : i = g.2.1.2.1 - pl := by omega
    subst hi
    have e1 : (s_r g (r_cutL g.2.1 pl (g.2.1.2.1 - pl))).2.1.2.1 = g.2.1.2.1 := r_cutL_n g.2.1 pl (g.2.1.2.1 - pl)
    refine lv_iload_n hx hb dX4_withdraw_67 rfl (lv_at hl 3 rfl) ?_
    refine lv_aload_n hx hb dX4_withdraw_68 rfl (lv_at hl 0 rfl) ?_
    refine va_get (D := D) (ci := 3) (v := .int (nI ((s_r g (r_cutL g.2.1 pl (g.2.1.2.1 - pl))).2.1.2.1))) (C := RX4) (T := TX4) (N := 10) hx hb hts in_X4 hown hK.1 hP 0 rfl rfl 9 (by decide) (hts _ q272) (fun _ h9 => h9) rfl dX4_withdraw_69 ?_
    refine n_icmp_ge (tgt := 119) hx hb (by omega) (by omega) dX4_withdraw_72 (by decide) (fun h1 => ?_) (fun h1 => ?_)
    · exact kk H locs ls hP hD hS (lv_sub hl [0, 1, 2] rfl)
    · exact absurd h1 (by omega)
  | succ n ih =>
    intro i hi H locs ls hP hD hS hl
    have e1 : (s_r g (r_cutL g.2.1 pl i)).2.1.2.1 = g.2.1.2.1 := r_cutL_n g.2.1 pl (i)
    refine lv_iload_n hx hb dX4_withdraw_67 rfl (lv_at hl 3 rfl) ?_
    refine lv_aload_n hx hb dX4_withdraw_68 rfl (lv_at hl 0 rfl) ?_
    refine va_get (D := D) (ci := 3) (v := .int (nI ((s_r g (r_cutL g.2.1 pl i)).2.1.2.1))) (C := RX4) (T := TX4) (N := 10) hx hb hts in_X4 hown hK.1 hP 0 rfl rfl 9 (by decide) (hts _ q272) (fun _ h9 => h9) rfl dX4_withdraw_69 ?_
    refine n_icmp_ge (tgt := 119) hx hb (by omega) (by omega) dX4_withdraw_72 (by decide) (fun h1 => ?_) (fun h1 => ?_)
    · exact absurd h1 (by omega)
    · have e2 : (r_cutL g.2.1 pl i).1 = g.2.1.1 := r_cutL_o _ _ _
      refine lv_aload_n hx hb dX4_withdraw_75 rfl (lv_at hl 0 rfl) ?_
      refine va_get (D := D) (ci := 3) (v := .int (nI ((s_r g (r_cutL g.2.1 pl i)).2.1.1))) (C := RX4) (T := TX4) (N := 10) hx hb hts in_X4 hown hK.1 hP 0 rfl rfl 8 (by decide) (hts _ q271) (fun _ h9 => h9) rfl dX4_withdraw_76 ?_
      refine lv_iload_n hx hb dX4_withdraw_79 rfl (lv_at hl 3 rfl) ?_
      refine n_iadd hx hb dX4_withdraw_80 ?_
      refine lv_bipush (v := nI 8) hx hb dX4_withdraw_81 (by decide) ?_
      refine n_irem hx hb (show (r_cutL g.2.1 pl i).1 + (pl + i) < 2 ^ 31 by omega) (by decide) (by decide) dX4_withdraw_83 ?_
      refine lv_topi (fun y ey => ?_)
      obtain rfl : y = nI ((g.2.1.1 + (pl + i)) % 8) := ey.trans (show nI (((r_cutL g.2.1 pl i).1 + (pl + i)) % 8) = nI ((g.2.1.1 + (pl + i)) % 8) by rw [e2])
      have hk : (g.2.1.1 + (pl + i)) % 8 < 8 := Nat.mod_lt _ (by decide)
      refine lv_istore (lv' := [(4, .int (nI ((g.2.1.1 + (pl + i)) % 8))), (0, .ref (a 0)), (1, .int (nI pl)), (2, .int (nI (g.2.1.2.1 - pl))), (3, .int (nI (pl + i)))]) hx hb dX4_withdraw_84 hl (by decide) rfl (fun ls hl => ?_)
      refine lv_aload_n hx hb dX4_withdraw_86 rfl (lv_at hl 1 rfl) ?_
      refine va_get (D := D) (ci := 3) (v := .ref (a 3)) (C := RX4) (T := TX4) (N := 10) hx hb hts in_X4 hown hK.1 hP 0 rfl rfl 2 (by decide) (hts _ q265) (fun _ h9 => h9) rfl dX4_withdraw_87 ?_
      refine lv_bipush (v := nI 16) hx hb dX4_withdraw_90 (by decide) ?_
      refine lv_iload hx hb dX4_withdraw_92 (lv_at hl 0 rfl) ?_
      refine n_iadd hx hb dX4_withdraw_94 ?_
      refine lv_iconst (v := nI 0) hx hb dX4_withdraw_95 (by decide) ?_
      refine n_zast (wn := mdW ka a (s_r g (g_z (r_cutL g.2.1 pl i) (va_up (r_cutL g.2.1 pl i).2.2.2.2 ((g.2.1.1 + (pl + i)) % 8) false)))) hx hb hK hP hD hS 3 false rfl (by omega) (by decide) (vz_0) (mdW_rz ka a (s_r g (r_cutL g.2.1 pl i)) ((g.2.1.1 + (pl + i)) % 8) false) dX4_withdraw_96 (fun H locs hP hD hS => ?_)
      refine lv_aload_n hx hb dX4_withdraw_97 rfl (lv_at hl 1 rfl) ?_
      refine va_get (D := D) (ci := 3) (v := .ref (a 1)) (C := RX4) (T := TX4) (N := 10) hx hb hts in_X4 hown hK.1 hP 0 rfl rfl 0 (by decide) (hts _ q263) (fun _ h9 => h9) rfl dX4_withdraw_98 ?_
      refine lv_bipush (v := nI 64) hx hb dX4_withdraw_101 (by decide) ?_
      refine lv_bipush (v := nI 8) hx hb dX4_withdraw_103 (by decide) ?_
      refine lv_iload hx hb dX4_withdraw_105 (lv_at hl 0 rfl) ?_
      refine n_imul hx hb dX4_withdraw_107 ?_
      refine n_iadd hx hb dX4_withdraw_108 ?_
      refine lv_iconst (v := nI 2) hx hb dX4_withdraw_109 (by decide) ?_
      refine n_iadd hx hb dX4_withdraw_110 ?_
      refine lv_iconst (v := nI 0) hx hb dX4_withdraw_111 (by decide) ?_
      refine n_bast (wn := mdW ka a (s_r g (r_cutL g.2.1 pl (i + 1)))) hx hb hK hP hD hS 1 0 rfl (by omega) (by decide) (vb_0) (mdW_rd ka a (s_r g (g_z (r_cutL g.2.1 pl i) (va_up (r_cutL g.2.1 pl i).2.2.2.2 ((g.2.1.1 + (pl + i)) % 8) false))) (8 * ((g.2.1.1 + (pl + i)) % 8) + 2) _ 0 (by omega) (by omega)) dX4_withdraw_112 (fun H locs hP hD hS => ?_)
      refine lv_iinc (v := nI (pl + i + 1)) (lv' := [(3, .int (nI (pl + i + 1))), (4, .int (nI ((g.2.1.1 + (pl + i)) % 8))), (0, .ref (a 0)), (1, .int (nI pl)), (2, .int (nI (g.2.1.2.1 - pl)))]) hx hb dX4_withdraw_113 hl (k := 4) rfl (nI_1 _) (by decide) rfl (fun ls hl => ?_)
      refine lv_goto (tgt := 67) hx hb dX4_withdraw_116 (by decide) ?_
      exact ih (i + 1) (by omega) H locs ls hP hD hS (lv_sub hl [2, 3, 4, 0] rfl)
set_option maxHeartbeats 4000000 in
/-- reference: withdraw() -/
theorem c_wdr (D : va_G) (ka : Nat → ClassId) (l : Launch) (a : Nat → Nat) (g : ST) (hok : okR g.2.1) (sz : Nat) : CT D ka l yX4_withdraw cX4_withdraw 5 (some .int) ({ frames := 0, cells := 0, slots := 0, locals := 0 } : Room) [.ref (a 0)] sz (mdW ka a g) (some (.int (p_wdr g).1)) (mdW ka a (p_wdr g).2) := by
  refine enter (by decide) (Nat.le_of_ble_eq_true rfl) ?_
  intro p e s m below meth c A ls F hP hD hS hl
  have FF := F
  obtain ⟨hx, hb, hr, hlocks, hml, hown, hts, hA, hK, hnm⟩ := F
  have hl : lv_has ls 5 [(0, .ref (a 0))] := hl
  have ho := hok.1
  have h8 := hok.2
  refine lv_iconst (v := nI 0) hx hb dX4_withdraw_0 (by decide) ?_
  refine lv_istore_n (lv' := [(1, .int (nI 0)), (0, .ref (a 0))]) hx hb dX4_withdraw_1 rfl hl (by decide) rfl (fun ls hl => ?_)
  refine lv_iconst (v := nI 0) hx hb dX4_withdraw_2 (by decide) ?_
  refine lv_istore_n (lv' := [(2, .int (nI 0)), (1, .int (nI 0)), (0, .ref (a 0))]) hx hb dX4_withdraw_3 rfl hl (by decide) rfl (fun ls hl => ?_)
  refine lp_cwdr1 a g ho h8 FF (fun H locs ls hP hD hS hl => ?_) 8 0 rfl _ _ ls hP hD hS (lv_sub hl [2, 1, 0] rfl)
  have hpl := r_st_n g.2.1
  rw [← r_st_eq] at hl
  refine lv_aload_n hx hb dX4_withdraw_58 rfl (lv_at hl 0 rfl) ?_
  refine va_get (D := D) (ci := 3) (v := .int (nI g.2.1.2.1)) (C := RX4) (T := TX4) (N := 10) hx hb hts in_X4 hown hK.1 hP 0 rfl rfl 9 (by decide) (hts _ q272) (fun _ h9 => h9) rfl dX4_withdraw_59 ?_
  refine lv_iload_n hx hb dX4_withdraw_62 rfl (lv_at hl 1 rfl) ?_
  refine n_isub hx hb (by omega) dX4_withdraw_63 ?_
  refine lv_istore_n (lv' := [(2, .int (nI (g.2.1.2.1 - (r_st g.2.1)))), (0, .ref (a 0)), (1, .int (nI (r_st g.2.1)))]) hx hb dX4_withdraw_64 rfl hl (by decide) rfl (fun ls hl => ?_)
  refine lv_iload_n hx hb dX4_withdraw_65 rfl (lv_at hl 2 rfl) ?_
  refine lv_istore_n (lv' := [(3, .int (nI (r_st g.2.1))), (2, .int (nI (g.2.1.2.1 - (r_st g.2.1)))), (0, .ref (a 0)), (1, .int (nI (r_st g.2.1)))]) hx hb dX4_withdraw_66 rfl hl (by decide) rfl (fun ls hl => ?_)
  refine lp_cwdr2 a g (r_st g.2.1) ho h8 hpl FF (fun H locs ls hP hD hS hl => ?_) (g.2.1.2.1 - r_st g.2.1) 0 (Nat.zero_add _) H locs ls hP hD hS (lv_sub hl [2, 3, 1, 0] rfl)
  refine lv_aload_n hx hb dX4_withdraw_119 rfl (lv_at hl 0 rfl) ?_
  refine lv_iload_n hx hb dX4_withdraw_120 rfl (lv_at hl 1 rfl) ?_
  refine va_put (D := D) (ci := 3) (v := .int (nI (r_st g.2.1))) (ty := .int) (C := RX4) (T := TX4) (N := 10) hx hb hts in_X4 tyX4 tyX4_ok nmX4 hown hK.1 hP hD hS 0 rfl rfl 9 (by decide) (hts _ q272) (fun _ h9 => h9) rfl (by decide +kernel) rfl rfl (Nat.le_of_ble_eq_true rfl) dX4_withdraw_121 (fun H locs hP hD hS => ?_)
  have hP : va_P D vwCl (mdW ka a (s_r g (r_cut g.2.1 (r_st g.2.1)))) H := hP
  have hD : va_D A (mdW ka a (s_r g (r_cut g.2.1 (r_st g.2.1)))) := hD
  refine lv_iload_n hx hb dX4_withdraw_124 rfl (lv_at hl 2 rfl) ?_
  exact e_int hx hb hr hlocks hP hD hS (rfl) (rfl) dX4_withdraw_125
end
section
/-! EACH CALL OF THE LAW, at any ints: what it answers and does (q_), and both sides' contracts of it (M_: the driver, C_: the reference) -/
set_option maxRecDepth 100000
def q_read (g : ST) (x : Int32) : Int32 × ST := if x < 0 ∨ nI 384 ≤ x then (-1, flt g) else p_read g x.toNatClampNeg
def q_write (g : ST) (x v : Int32) : Int32 × ST := if x < 0 ∨ nI 384 ≤ x then (-1, flt g) else p_write g x.toNatClampNeg (nb v)
def q_load (g : ST) (x v : Int32) : Bool × ST := if x < 0 ∨ nI 16 ≤ x then (false, g) else (true, s_ob g (va_up g.2.2.1 x.toNatClampNeg (nb v)))
def q_send (g : ST) (x : Int32) : Int32 × ST := if x < nI 1 ∨ nI 16 < x then (-2, g) else p_send g x.toNatClampNeg
def q_taken (g : ST) (x : Int32) : Int32 := if x < 0 ∨ nI 16 ≤ x then -1 else ub (g.2.2.2.1 x.toNatClampNeg)
theorem in_rng {x : Int32} {n : Nat} (hn : n < 2 ^ 31) (h : ¬ (x < 0 ∨ nI n ≤ x)) : ∃ k, k < n ∧ x = nI k := by
  rcases pk_ix x hn with q | q | q
  · exact absurd (Or.inl q) h
  · exact absurd (Or.inr q) h
  · exact q
theorem in_rng1 {x : Int32} (h : ¬ (x < nI 1 ∨ nI 16 < x)) : ∃ k, 1 ≤ k ∧ k ≤ 16 ∧ x = nI k := by
  have h1 : ¬ x < nI 1 := fun q => h (Or.inl q)
  have h2 : ¬ nI 16 < x := fun q => h (Or.inr q)
  rw [Int32.lt_iff_toInt_lt, nI_toInt (by decide)] at h1 h2
  obtain ⟨j, hj, rfl⟩ := nI_of (x := x) (by rw [Int32.lt_iff_toInt_lt, Int32.toInt_zero]; omega)
  rw [nI_toInt hj] at h1 h2
  exact ⟨j, by omega, by omega, rfl⟩
theorem ok_flt {g : ST} (h : okS g) : okS (flt g) := h
theorem ok_qread {g : ST} (h : okS g) (x : Int32) : okS (q_read g x).2 := by
  unfold q_read; split
  · exact ok_flt h
  · exact ok_read h _
theorem ok_qwrite {g : ST} (h : okS g) (x v : Int32) : okS (q_write g x v).2 := by
  unfold q_write; split
  · exact ok_flt h
  · exact ok_write h _ _
theorem ok_qload {g : ST} (h : okS g) (x v : Int32) : okS (q_load g x v).2 := by
  unfold q_load; split
  · exact h
  · exact h
theorem ok_qsend {g : ST} (h : okS g) (x : Int32) : okS (q_send g x).2 := by
  unfold q_send; split
  · exact h
  · exact ok_send h _
theorem M_read (D : va_G) (ka : Nat → ClassId) (l : Launch) (a : Nat → Nat) (g : ST) (x : Int32) (sz : Nat) : CT D ka l yX0_deviceRead cX0_deviceRead 3 (some .int) ({ frames := 1, cells := 0, slots := 0, locals := 22 } : Room) [.ref (a 0), .int x] sz (rdW ka a g) (some (.int (q_read g x).1)) (rdW ka a (q_read g x).2) := by
  by_cases h : x < 0 ∨ nI 384 ≤ x
  · rw [q_read, if_pos h]; exact m_read_o D ka l a g x h sz
  · obtain ⟨k, hk, rfl⟩ := in_rng (by decide) h
    rw [q_read, if_neg h, nI_clamp (by omega)]; exact m_read D ka l a g k hk sz
theorem M_write (D : va_G) (ka : Nat → ClassId) (l : Launch) (a : Nat → Nat) (g : ST) (x v : Int32) (sz : Nat) : CT D ka l yX0_deviceWrite cX0_deviceWrite 4 (some .int) ({ frames := 1, cells := 0, slots := 0, locals := 22 } : Room) [.ref (a 0), .int x, .int v] sz (rdW ka a g) (some (.int (q_write g x v).1)) (rdW ka a (q_write g x v).2) := by
  by_cases h : x < 0 ∨ nI 384 ≤ x
  · rw [q_write, if_pos h]; exact m_write_o D ka l a g x v h sz
  · obtain ⟨k, hk, rfl⟩ := in_rng (by decide) h
    rw [q_write, if_neg h, nI_clamp (by omega)]; exact m_write D ka l a g k v hk sz
theorem M_load (D : va_G) (ka : Nat → ClassId) (l : Launch) (a : Nat → Nat) (g : ST) (x v : Int32) (sz : Nat) : CT D ka l yX0_load cX0_load 3 (some .boolean) ({ frames := 0, cells := 0, slots := 0, locals := 0 } : Room) [.ref (a 0), .int x, .int v] sz (rdW ka a g) (some (.int (zb (q_load g x v).1))) (rdW ka a (q_load g x v).2) := by
  by_cases h : x < 0 ∨ nI 16 ≤ x
  · rw [q_load, if_pos h]; exact m_load_o D ka l a g x v h sz
  · obtain ⟨k, hk, rfl⟩ := in_rng (by decide) h
    rw [q_load, if_neg h, nI_clamp (by omega)]; exact m_load D ka l a g k v hk sz
theorem M_send (D : va_G) (ka : Nat → ClassId) (l : Launch) (a : Nat → Nat) (g : ST) (hok : okR g.1) (x : Int32) (sz : Nat) : CT D ka l yX0_send cX0_send 2 (some .int) ({ frames := 2, cells := 0, slots := 0, locals := 45 } : Room) [.ref (a 0), .int x] sz (rdW ka a g) (some (.int (q_send g x).1)) (rdW ka a (q_send g x).2) := by
  by_cases h : x < nI 1 ∨ nI 16 < x
  · rw [q_send, if_pos h]; exact m_send_o D ka l a g x h sz
  · obtain ⟨k, hk, hk2, rfl⟩ := in_rng1 h
    rw [q_send, if_neg h, nI_clamp (by omega)]; exact m_send D ka l a g hok k hk hk2 sz
theorem M_taken (D : va_G) (ka : Nat → ClassId) (l : Launch) (a : Nat → Nat) (g : ST) (x : Int32) (sz : Nat) : CT D ka l yX0_taken cX0_taken 2 (some .int) ({ frames := 0, cells := 0, slots := 0, locals := 0 } : Room) [.ref (a 0), .int x] sz (rdW ka a g) (some (.int (q_taken g x))) (rdW ka a g) := by
  by_cases h : x < 0 ∨ nI 16 ≤ x
  · rw [q_taken, if_pos h]; exact m_taken_o D ka l a g x h sz
  · obtain ⟨k, hk, rfl⟩ := in_rng (by decide) h
    rw [q_taken, if_neg h, nI_clamp (by omega)]; exact m_taken D ka l a g k hk sz
theorem C_read (D : va_G) (ka : Nat → ClassId) (l : Launch) (a : Nat → Nat) (g : ST) (x : Int32) (sz : Nat) : CT D ka l yX4_deviceRead cX4_deviceRead 2 (some .int) ({ frames := 0, cells := 0, slots := 0, locals := 0 } : Room) [.ref (a 0), .int x] sz (mdW ka a g) (some (.int (q_read g x).1)) (mdW ka a (q_read g x).2) := by
  by_cases h : x < 0 ∨ nI 384 ≤ x
  · rw [q_read, if_pos h]; exact c_read_o D ka l a g x h sz
  · obtain ⟨k, hk, rfl⟩ := in_rng (by decide) h
    rw [q_read, if_neg h, nI_clamp (by omega)]; exact c_read D ka l a g k hk sz
theorem C_write (D : va_G) (ka : Nat → ClassId) (l : Launch) (a : Nat → Nat) (g : ST) (x v : Int32) (sz : Nat) : CT D ka l yX4_deviceWrite cX4_deviceWrite 3 (some .int) ({ frames := 0, cells := 0, slots := 0, locals := 0 } : Room) [.ref (a 0), .int x, .int v] sz (mdW ka a g) (some (.int (q_write g x v).1)) (mdW ka a (q_write g x v).2) := by
  by_cases h : x < 0 ∨ nI 384 ≤ x
  · rw [q_write, if_pos h]; exact c_write_o D ka l a g x v h sz
  · obtain ⟨k, hk, rfl⟩ := in_rng (by decide) h
    rw [q_write, if_neg h, nI_clamp (by omega)]; exact c_write D ka l a g k v hk sz
theorem C_load (D : va_G) (ka : Nat → ClassId) (l : Launch) (a : Nat → Nat) (g : ST) (x v : Int32) (sz : Nat) : CT D ka l yX4_load cX4_load 3 (some .boolean) ({ frames := 0, cells := 0, slots := 0, locals := 0 } : Room) [.ref (a 0), .int x, .int v] sz (mdW ka a g) (some (.int (zb (q_load g x v).1))) (mdW ka a (q_load g x v).2) := by
  by_cases h : x < 0 ∨ nI 16 ≤ x
  · rw [q_load, if_pos h]; exact c_load_o D ka l a g x v h sz
  · obtain ⟨k, hk, rfl⟩ := in_rng (by decide) h
    rw [q_load, if_neg h, nI_clamp (by omega)]; exact c_load D ka l a g k v hk sz
theorem C_send (D : va_G) (ka : Nat → ClassId) (l : Launch) (a : Nat → Nat) (g : ST) (hok : okR g.1) (x : Int32) (sz : Nat) : CT D ka l yX4_send cX4_send 4 (some .int) ({ frames := 1, cells := 0, slots := 0, locals := 24 } : Room) [.ref (a 0), .int x] sz (mdW ka a g) (some (.int (q_send g x).1)) (mdW ka a (q_send g x).2) := by
  by_cases h : x < nI 1 ∨ nI 16 < x
  · rw [q_send, if_pos h]; exact c_send_o D ka l a g x h sz
  · obtain ⟨k, hk, hk2, rfl⟩ := in_rng1 h
    rw [q_send, if_neg h, nI_clamp (by omega)]; exact c_send D ka l a g hok k hk hk2 sz
theorem C_taken (D : va_G) (ka : Nat → ClassId) (l : Launch) (a : Nat → Nat) (g : ST) (x : Int32) (sz : Nat) : CT D ka l yX4_taken cX4_taken 2 (some .int) ({ frames := 0, cells := 0, slots := 0, locals := 0 } : Room) [.ref (a 0), .int x] sz (mdW ka a g) (some (.int (q_taken g x))) (mdW ka a g) := by
  by_cases h : x < 0 ∨ nI 16 ≤ x
  · rw [q_taken, if_pos h]; exact c_taken_o D ka l a g x h sz
  · obtain ⟨k, hk, rfl⟩ := in_rng (by decide) h
    rw [q_taken, if_neg h, nI_clamp (by omega)]; exact c_taken D ka l a g k hk sz
end
section
/-! THE CLAIM OUT OF ONE WALK OF THE LAW'S BODY. Your part is whole_start (and what it stands on); all else here is the same for every law, but numbers. -/
def R_law : String := "RingDriverLaw"
def lw_P (b : Addr) (xs : List Int32) (args : Array Value) (s : State) : Prop := args = #[.ref b] ∧ s.IntsAt b xs ∧ xs.length ≤ 192 ∧ (Jvm.Cond.and given_1 narrow_1).before args s = true
def lw_Q (_ : Array Value) (s : State) (o : Outcome) (t : State) : Prop := o = .returned (some (.int 1)) ∧ Framed s o t [] 600000 7290000
def lw_Z (below : List Frame) (a : Array Value) (s : State) : State → Prop := fun t => ∃ o, t.status = .running ∧ Ended t below o ∧ lw_Q a s o t
/-- the law's own end, with 1 on the stack, nothing written that was there before, its room as the claim has it -/
theorem lw_ret {p : Program} {l : Launch} {e : Env} {s : State} {m : MethodId} {below : List Frame} {meth : Method} {c : Code} {b : Nat} (hx : p.tables.exec = Jvm.exec) (hb : c.code = code) (hr : meth.sig.returnType = ret) (hlocks : meth.locks = false) {pc : Nat} {H : Heap} {ls : Array Slot} (hdg : decode code pc = .ok (.ireturn, 1)) : W p l e room_1 s m #[Value.ref b] below meth c H [] 600000 7290000 (lw_Z below #[Value.ref b] s) (F0 m pc ls [.int 1]) := by
  intro T hT X
  obtain ⟨fs, hret, hrun, hended, hW, hframe⟩ := X.leave (v := some (.int 1)) (hlocks := hlocks) (fun h => by rw [hr] at h; cases h)
  have hmeth' : T.vm.method? m = some meth := X.method'
  refine ⟨T.setFrames fs, ?_, .returned (some (.int 1)), hrun, hended, rfl, ⟨_, rfl⟩, hW, hframe⟩
  jvm_step X.here [X.here.top, hx, hb, hdg, hmeth', hr, ret, narrow_b1]
  (try refine ⟨rfl, ?_⟩); (try refine ⟨rfl, ?_⟩)
  first | (intro acts; rw [hret _ acts rfl rfl rfl]) | rw [hret _ _ rfl rfl rfl]
  exact Steps.refl _
/-- what holds at the law's entry: the machine, the code, the tables' words (any of lw_tbl by 'hts w (by decide +kernel)'), the script of L ints xs at the cell b, what the Statement gives of the start (any of its parts by flat_of_before) -/
def lw_At (p : Program) (s : State) (m : MethodId) (meth : Method) (c : Code) (b L : Nat) (xs : Nat → Int32) : Prop :=
  p.tables.exec = Jvm.exec ∧ c.code = code ∧ meth.sig.returnType = ret ∧ c.maxLocals = 4 ∧ s.vm.findClass R_law = some m.cls ∧ (∀ w ∈ lw_tbl, w.before #[Value.ref b] s = true) ∧ va_X b L xs s s.heap ∧ b < s.heap.size ∧ meth.locks = false ∧ (Jvm.Cond.and given_1 narrow_1).before #[Value.ref b] s = true
end
section
/-! THE LAW: its loop, and its walk from the entry -/
set_option maxRecDepth 100000
/-- the driver's cells and the reference's -/
def lwW (ka : Nat → ClassId) (a b : Nat → Nat) (g h : ST) : va_W := rdW ka a g ++ mdW ka b h
theorem gt3 {i L : Nat} (hi : i < 2 ^ 30) (hL : L < 2 ^ 30) : nI L - nI 3 < nI i ↔ L < i + 3 := by
  rw [Int32.lt_iff_toInt_lt, pk_sub_toInt hL (by decide), nI_toInt (by omega)]
  omega
section SL
variable {p : Program} {l : Launch} {e : Env} {R : Room} {s : State} {m : MethodId} {args : Array Value} {below : List Frame} {meth : Method} {c : Code} {H : Heap} {locs : List Loc} {cells slots : Nat} {Q : State → Prop}
variable {cc : ByteArray} {pc : Nat} {ls : Array Slot} {rest : List Value} {A : Nat → Prop} {H0 : Heap}
theorem n_sld (hexec : p.tables.exec = Jvm.exec) (hb : c.code = cc) {b L k : Nat} {xs : Nat → Int32} (hX : va_X b L xs s H0) (hbl : b < H0.size) (hbA : ¬ A b) (hS : va_S A H0 H locs) (hk : k < L) (hL : L < 2 ^ 31) (hdg : decode cc pc = .ok (.iaload, 1))
    (kk : W p l e R s m args below meth c H locs cells slots Q (F0 m (pc + 1) ls (.int (xs k) :: rest))) : W p l e R s m args below meth c H locs cells slots Q (F0 m pc ls (.int (nI k) :: .ref b :: rest)) :=
  va_sld hexec hb hX hbl hbA hS (vp_in_nI hk hL) hdg (by rw [nI_clamp (Nat.lt_trans hk hL)]; exact kk)
end SL
set_option maxHeartbeats 4000000 in
/-- the law's loop: i ints read, both sides hold g -/
theorem law_loop {p : Program} {e : Env} {s : State} {m : MethodId} {below : List Frame} {meth : Method} {c : Code} (l : Launch) {D : va_G} {ka : Nat → ClassId} {A : Nat → Prop} {sb0 L : Nat} {xs : Nat → Int32} (hL : L ≤ 192) (C0 : lw_At p s m meth c sb0 L xs) (hK : wK D ka s) (hA : ∀ q : Nat, s.heap.size ≤ q → A q) (hAl : ∀ q : Nat, A q → s.heap.size ≤ q) (a b : Nat → Nat) :
    ∀ (n i : Nat) (g : ST), L + 1 ≤ i + n → i ≤ L → okS g → ∀ (H : Heap) (locs : List Loc) (ls : Array Slot), va_P D vwCl (lwW ka a b g g) H → va_D A (lwW ka a b g g) → va_S A s.heap H locs → lv_has ls 4 [(0, .ref sb0), (1, .ref (a 0)), (2, .ref (b 0)), (3, .int (nI i))] → W p l e room_1 s m #[Value.ref sb0] below meth c H locs 600000 7290000 (lw_Z below #[Value.ref sb0] s) (F0 m 18 ls []) := by
  obtain ⟨hx, hb, hr, hml, hown, hts0, hX, hbl, hlocks, hgv⟩ := id C0
  have hts : ∀ w ∈ lw_all, w.before #[Value.ref sb0] s = true := fun w h => hts0 w (lw_all_tbl h)
  have hbA : ¬ A sb0 := fun q => absurd (hAl sb0 q) (Nat.not_le.mpr hbl)
  intro n
  induction n with
  | zero =>
    intro i g h1 h2
    exact absurd h1 (by omega)
  | succ n ih =>
    intro i g h1 h2 hok H locs ls hP hD hS hl
    refine lv_iload_n hx hb dL_law_18 rfl (lv_at hl 3 rfl) ?_
    refine lv_aload_n hx hb dL_law_19 rfl (lv_at hl 0 rfl) ?_
    refine va_slen hx hb hX hbl hbA hS dL_law_20 ?_
    refine lv_iconst (v := nI 3) hx hb dL_law_21 (by decide) ?_
    refine lv_isub hx hb dL_law_22 ?_
    refine lv_icmp_gt (tgt := 345) hx hb dL_law_23 (by decide) (fun h3 => ?_) (fun h3 => ?_)
    · refine lv_iconst (v := 1) hx hb dL_law_345 (by decide) ?_
      refine va_forget (fun q h => hAl _ (hS.2.2 q h)) ?_
      exact lw_ret hx hb hr hlocks dL_law_346
    · have h4 : i + 3 ≤ L := by
        rcases Nat.lt_or_ge L (i + 3) with q | q
        · exact absurd ((gt3 (by omega) (by omega)).mpr q) h3
        · exact q
      have tail : ∀ (g : ST), okS g → ∀ (H : Heap) (locs : List Loc) (ls : Array Slot), va_P D vwCl (lwW ka a b g g) H → va_D A (lwW ka a b g g) → va_S A s.heap H locs → lv_has ls 4 [(0, .ref sb0), (1, .ref (a 0)), (2, .ref (b 0)), (3, .int (nI i))] → W p l e room_1 s m #[Value.ref sb0] below meth c H locs 600000 7290000 (lw_Z below #[Value.ref sb0] s) (F0 m 339 ls []) := by
        intro g hok H locs ls hP hD hS hl
        refine lv_iinc (v := nI (i + 3)) (lv' := [(3, .int (nI (i + 3))), (0, .ref sb0), (1, .ref (a 0)), (2, .ref (b 0))]) hx hb dL_law_339 hl (k := 3) rfl (nI_add i 3) (by decide) rfl (fun ls hl => ?_)
        refine lv_goto (tgt := 18) hx hb dL_law_342 (by decide) ?_
        exact ih (i + 3) g (by omega) (by omega) hok H locs ls hP hD hS (lv_sub hl [1, 2, 3, 0] rfl)
      refine lv_aload_n hx hb dL_law_26 rfl (lv_at hl 0 rfl) ?_
      refine lv_iload_n hx hb dL_law_27 rfl (lv_at hl 3 rfl) ?_
      refine n_sld hx hb hX hbl hbA hS (by omega) (by omega) dL_law_28 ?_
      refine lv_bipush (v := nI 15) hx hb dL_law_29 (by decide) ?_
      refine lv_iand hx hb dL_law_31 ?_
      refine lv_topi (fun y ey => ?_)
      obtain ⟨j, hj, ej⟩ := pk_andE (xs i) (m := nI 15) 4 (by decide)
      obtain rfl : y = nI j := ey.trans ej
      clear ey ej
      have hj : j < 16 := hj
      rcases (show j = 0 ∨ j = 1 ∨ j = 2 ∨ j = 3 ∨ j = 4 ∨ j = 5 ∨ j = 6 ∨ j = 7 ∨ j = 8 ∨ j = 9 ∨ j = 10 ∨ j = 11 ∨ j = 12 ∨ j = 13 ∨ j = 14 ∨ j = 15 by omega) with rfl | rfl | rfl | rfl | rfl | rfl | rfl | rfl | rfl | rfl | rfl | rfl | rfl | rfl | rfl | rfl
      · refine lv_tableIn (off := 68) (tgt := 100) hx hb dL_law_32 (by decide +kernel) (by decide +kernel) (by decide +kernel) (by decide) ?_
        refine lv_aload_n hx hb dL_law_100 rfl (lv_at hl 1 rfl) ?_
        refine lv_aload_n hx hb dL_law_101 rfl (lv_at hl 0 rfl) ?_
        refine lv_iload_n hx hb dL_law_102 rfl (lv_at hl 3 rfl) ?_
        refine lv_iconst (v := nI 1) hx hb dL_law_103 (by decide) ?_
        refine n_iadd hx hb dL_law_104 ?_
        refine n_sld hx hb hX hbl hbA hS (by omega) (by omega) dL_law_105 ?_
        refine w_call (wr := mdW ka b g) (wn := lwW ka a b ((q_read g (xs (i + 1))).2) g) (va_runV (As := [.int (xs (i + 1))]) (rest := []) ⟨hx, hb, hml, hown, hts⟩ (M_read D ka l a g (xs (i + 1)) _) (cwV 1 hts (lw_V q83 q84 q85 q4 q86) rfl rfl rfl (by decide +kernel) ⟨Nat.le_of_ble_eq_true rfl, Nat.le_of_ble_eq_true rfl⟩) (w_preV hK hP hD [0, 1, 2, 3, 4, 5, 6, 7, 8, 9, 10] (by decide) rfl rfl (q0 := 0) rfl) rfl rfl hl.1 rfl (lv_room (Nat.le_of_ble_eq_true rfl)) dL_law_106 ⟨Nat.le_of_ble_eq_true rfl, Nat.le_of_ble_eq_true rfl⟩) hP hD hS hA [0, 1, 2, 3, 4, 5, 6, 7, 8, 9, 10] [11, 12, 13, 14, 15, 16] [6, 7, 8, 9, 10, 11, 12, 13, 14, 15, 16, 0, 1, 2, 3, 4, 5] rfl rfl (by decide) (by decide) (by decide) rfl (fun H locs hP hD hS => ?_)
        refine lv_aload_n hx hb dL_law_109 rfl (lv_at hl 2 rfl) ?_
        refine lv_aload_n hx hb dL_law_110 rfl (lv_at hl 0 rfl) ?_
        refine lv_iload_n hx hb dL_law_111 rfl (lv_at hl 3 rfl) ?_
        refine lv_iconst (v := nI 1) hx hb dL_law_112 (by decide) ?_
        refine n_iadd hx hb dL_law_113 ?_
        refine n_sld hx hb hX hbl hbA hS (by omega) (by omega) dL_law_114 ?_
        refine w_call (wr := rdW ka a ((q_read g (xs (i + 1))).2)) (wn := lwW ka a b ((q_read g (xs (i + 1))).2) ((q_read g (xs (i + 1))).2)) (va_runV (As := [.int (xs (i + 1))]) (rest := [.int ((q_read g (xs (i + 1))).1)]) ⟨hx, hb, hml, hown, hts⟩ (C_read D ka l b g (xs (i + 1)) _) (cwV 1 hts (lw_V q295 q296 q297 q8 q298) rfl rfl rfl (by decide +kernel) ⟨Nat.le_of_ble_eq_true rfl, Nat.le_of_ble_eq_true rfl⟩) (w_preV hK hP hD [11, 12, 13, 14, 15, 16] (by decide) rfl rfl (q0 := 11) rfl) rfl rfl hl.1 rfl (lv_room (Nat.le_of_ble_eq_true rfl)) dL_law_115 ⟨Nat.le_of_ble_eq_true rfl, Nat.le_of_ble_eq_true rfl⟩) hP hD hS hA [11, 12, 13, 14, 15, 16] [0, 1, 2, 3, 4, 5, 6, 7, 8, 9, 10] [0, 1, 2, 3, 4, 5, 6, 7, 8, 9, 10, 11, 12, 13, 14, 15, 16] rfl rfl (by decide) (by decide) (by decide) rfl (fun H locs hP hD hS => ?_)
        refine lv_icmp_eq (tgt := 339) hx hb dL_law_118 (by decide) (fun _ => ?_) (fun h9 => absurd rfl h9)
        exact tail ((q_read g (xs (i + 1))).2) (ok_qread hok _) H locs ls hP hD hS hl
      · refine lv_tableIn (off := 91) (tgt := 123) hx hb dL_law_32 (by decide +kernel) (by decide +kernel) (by decide +kernel) (by decide) ?_
        refine lv_aload_n hx hb dL_law_123 rfl (lv_at hl 1 rfl) ?_
        refine lv_aload_n hx hb dL_law_124 rfl (lv_at hl 0 rfl) ?_
        refine lv_iload_n hx hb dL_law_125 rfl (lv_at hl 3 rfl) ?_
        refine lv_iconst (v := nI 1) hx hb dL_law_126 (by decide) ?_
        refine n_iadd hx hb dL_law_127 ?_
        refine n_sld hx hb hX hbl hbA hS (by omega) (by omega) dL_law_128 ?_
        refine lv_aload_n hx hb dL_law_129 rfl (lv_at hl 0 rfl) ?_
        refine lv_iload_n hx hb dL_law_130 rfl (lv_at hl 3 rfl) ?_
        refine lv_iconst (v := nI 2) hx hb dL_law_131 (by decide) ?_
        refine n_iadd hx hb dL_law_132 ?_
        refine n_sld hx hb hX hbl hbA hS (by omega) (by omega) dL_law_133 ?_
        refine w_call (wr := mdW ka b g) (wn := lwW ka a b ((q_write g (xs (i + 1)) (xs (i + 2))).2) g) (va_runV (As := [.int (xs (i + 1)), .int (xs (i + 2))]) (rest := []) ⟨hx, hb, hml, hown, hts⟩ (M_write D ka l a g (xs (i + 1)) (xs (i + 2)) _) (cwV 2 hts (lw_V q116 q117 q118 q4 q119) rfl rfl rfl (by decide +kernel) ⟨Nat.le_of_ble_eq_true rfl, Nat.le_of_ble_eq_true rfl⟩) (w_preV hK hP hD [0, 1, 2, 3, 4, 5, 6, 7, 8, 9, 10] (by decide) rfl rfl (q0 := 0) rfl) rfl rfl hl.1 rfl (lv_room (Nat.le_of_ble_eq_true rfl)) dL_law_134 ⟨Nat.le_of_ble_eq_true rfl, Nat.le_of_ble_eq_true rfl⟩) hP hD hS hA [0, 1, 2, 3, 4, 5, 6, 7, 8, 9, 10] [11, 12, 13, 14, 15, 16] [6, 7, 8, 9, 10, 11, 12, 13, 14, 15, 16, 0, 1, 2, 3, 4, 5] rfl rfl (by decide) (by decide) (by decide) rfl (fun H locs hP hD hS => ?_)
        refine lv_aload_n hx hb dL_law_137 rfl (lv_at hl 2 rfl) ?_
        refine lv_aload_n hx hb dL_law_138 rfl (lv_at hl 0 rfl) ?_
        refine lv_iload_n hx hb dL_law_139 rfl (lv_at hl 3 rfl) ?_
        refine lv_iconst (v := nI 1) hx hb dL_law_140 (by decide) ?_
        refine n_iadd hx hb dL_law_141 ?_
        refine n_sld hx hb hX hbl hbA hS (by omega) (by omega) dL_law_142 ?_
        refine lv_aload_n hx hb dL_law_143 rfl (lv_at hl 0 rfl) ?_
        refine lv_iload_n hx hb dL_law_144 rfl (lv_at hl 3 rfl) ?_
        refine lv_iconst (v := nI 2) hx hb dL_law_145 (by decide) ?_
        refine n_iadd hx hb dL_law_146 ?_
        refine n_sld hx hb hX hbl hbA hS (by omega) (by omega) dL_law_147 ?_
        refine w_call (wr := rdW ka a ((q_write g (xs (i + 1)) (xs (i + 2))).2)) (wn := lwW ka a b ((q_write g (xs (i + 1)) (xs (i + 2))).2) ((q_write g (xs (i + 1)) (xs (i + 2))).2)) (va_runV (As := [.int (xs (i + 1)), .int (xs (i + 2))]) (rest := [.int ((q_write g (xs (i + 1)) (xs (i + 2))).1)]) ⟨hx, hb, hml, hown, hts⟩ (C_write D ka l b g (xs (i + 1)) (xs (i + 2)) _) (cwV 2 hts (lw_V q299 q300 q301 q8 q302) rfl rfl rfl (by decide +kernel) ⟨Nat.le_of_ble_eq_true rfl, Nat.le_of_ble_eq_true rfl⟩) (w_preV hK hP hD [11, 12, 13, 14, 15, 16] (by decide) rfl rfl (q0 := 11) rfl) rfl rfl hl.1 rfl (lv_room (Nat.le_of_ble_eq_true rfl)) dL_law_148 ⟨Nat.le_of_ble_eq_true rfl, Nat.le_of_ble_eq_true rfl⟩) hP hD hS hA [11, 12, 13, 14, 15, 16] [0, 1, 2, 3, 4, 5, 6, 7, 8, 9, 10] [0, 1, 2, 3, 4, 5, 6, 7, 8, 9, 10, 11, 12, 13, 14, 15, 16] rfl rfl (by decide) (by decide) (by decide) rfl (fun H locs hP hD hS => ?_)
        refine lv_icmp_eq (tgt := 339) hx hb dL_law_151 (by decide) (fun _ => ?_) (fun h9 => absurd rfl h9)
        exact tail ((q_write g (xs (i + 1)) (xs (i + 2))).2) (ok_qwrite hok _ _) H locs ls hP hD hS hl
      · refine lv_tableIn (off := 124) (tgt := 156) hx hb dL_law_32 (by decide +kernel) (by decide +kernel) (by decide +kernel) (by decide) ?_
        refine lv_aload_n hx hb dL_law_156 rfl (lv_at hl 1 rfl) ?_
        refine w_call (wr := mdW ka b g) (wn := lwW ka a b g g) (va_runV (As := []) (rest := []) ⟨hx, hb, hml, hown, hts⟩ (m_faults D ka l a g _) (cwV 0 hts (lw_V q129 q130 q131 q4 q132) rfl rfl rfl (by decide +kernel) ⟨Nat.le_of_ble_eq_true rfl, Nat.le_of_ble_eq_true rfl⟩) (w_preV hK hP hD [0, 1, 2, 3, 4, 5, 6, 7, 8, 9, 10] (by decide) rfl rfl (q0 := 0) rfl) rfl rfl hl.1 rfl (lv_room (Nat.le_of_ble_eq_true rfl)) dL_law_157 ⟨Nat.le_of_ble_eq_true rfl, Nat.le_of_ble_eq_true rfl⟩) hP hD hS hA [0, 1, 2, 3, 4, 5, 6, 7, 8, 9, 10] [11, 12, 13, 14, 15, 16] [6, 7, 8, 9, 10, 11, 12, 13, 14, 15, 16, 0, 1, 2, 3, 4, 5] rfl rfl (by decide) (by decide) (by decide) rfl (fun H locs hP hD hS => ?_)
        refine lv_aload_n hx hb dL_law_160 rfl (lv_at hl 2 rfl) ?_
        refine w_call (wr := rdW ka a g) (wn := lwW ka a b g g) (va_runV (As := []) (rest := [.int g.2.2.2.2]) ⟨hx, hb, hml, hown, hts⟩ (c_faults D ka l b g _) (cwV 0 hts (lw_V q303 q304 q305 q8 q306) rfl rfl rfl (by decide +kernel) ⟨Nat.le_of_ble_eq_true rfl, Nat.le_of_ble_eq_true rfl⟩) (w_preV hK hP hD [11, 12, 13, 14, 15, 16] (by decide) rfl rfl (q0 := 11) rfl) rfl rfl hl.1 rfl (lv_room (Nat.le_of_ble_eq_true rfl)) dL_law_161 ⟨Nat.le_of_ble_eq_true rfl, Nat.le_of_ble_eq_true rfl⟩) hP hD hS hA [11, 12, 13, 14, 15, 16] [0, 1, 2, 3, 4, 5, 6, 7, 8, 9, 10] [0, 1, 2, 3, 4, 5, 6, 7, 8, 9, 10, 11, 12, 13, 14, 15, 16] rfl rfl (by decide) (by decide) (by decide) rfl (fun H locs hP hD hS => ?_)
        refine lv_icmp_eq (tgt := 339) hx hb dL_law_164 (by decide) (fun _ => ?_) (fun h9 => absurd rfl h9)
        exact tail g (hok) H locs ls hP hD hS hl
      · refine lv_tableIn (off := 137) (tgt := 169) hx hb dL_law_32 (by decide +kernel) (by decide +kernel) (by decide +kernel) (by decide) ?_
        refine lv_aload_n hx hb dL_law_169 rfl (lv_at hl 1 rfl) ?_
        refine lv_aload_n hx hb dL_law_170 rfl (lv_at hl 0 rfl) ?_
        refine lv_iload_n hx hb dL_law_171 rfl (lv_at hl 3 rfl) ?_
        refine lv_iconst (v := nI 1) hx hb dL_law_172 (by decide) ?_
        refine n_iadd hx hb dL_law_173 ?_
        refine n_sld hx hb hX hbl hbA hS (by omega) (by omega) dL_law_174 ?_
        refine lv_aload_n hx hb dL_law_175 rfl (lv_at hl 0 rfl) ?_
        refine lv_iload_n hx hb dL_law_176 rfl (lv_at hl 3 rfl) ?_
        refine lv_iconst (v := nI 2) hx hb dL_law_177 (by decide) ?_
        refine n_iadd hx hb dL_law_178 ?_
        refine n_sld hx hb hX hbl hbA hS (by omega) (by omega) dL_law_179 ?_
        refine w_call (wr := mdW ka b g) (wn := lwW ka a b ((q_load g (xs (i + 1)) (xs (i + 2))).2) g) (va_runV (As := [.int (xs (i + 1)), .int (xs (i + 2))]) (rest := []) ⟨hx, hb, hml, hown, hts⟩ (M_load D ka l a g (xs (i + 1)) (xs (i + 2)) _) (cwV 2 hts (lw_V q133 q134 q135 q4 q136) rfl rfl rfl (by decide +kernel) ⟨Nat.le_of_ble_eq_true rfl, Nat.le_of_ble_eq_true rfl⟩) (w_preV hK hP hD [0, 1, 2, 3, 4, 5, 6, 7, 8, 9, 10] (by decide) rfl rfl (q0 := 0) rfl) rfl rfl hl.1 rfl (lv_room (Nat.le_of_ble_eq_true rfl)) dL_law_180 ⟨Nat.le_of_ble_eq_true rfl, Nat.le_of_ble_eq_true rfl⟩) hP hD hS hA [0, 1, 2, 3, 4, 5, 6, 7, 8, 9, 10] [11, 12, 13, 14, 15, 16] [6, 7, 8, 9, 10, 11, 12, 13, 14, 15, 16, 0, 1, 2, 3, 4, 5] rfl rfl (by decide) (by decide) (by decide) rfl (fun H locs hP hD hS => ?_)
        refine lv_aload_n hx hb dL_law_183 rfl (lv_at hl 2 rfl) ?_
        refine lv_aload_n hx hb dL_law_184 rfl (lv_at hl 0 rfl) ?_
        refine lv_iload_n hx hb dL_law_185 rfl (lv_at hl 3 rfl) ?_
        refine lv_iconst (v := nI 1) hx hb dL_law_186 (by decide) ?_
        refine n_iadd hx hb dL_law_187 ?_
        refine n_sld hx hb hX hbl hbA hS (by omega) (by omega) dL_law_188 ?_
        refine lv_aload_n hx hb dL_law_189 rfl (lv_at hl 0 rfl) ?_
        refine lv_iload_n hx hb dL_law_190 rfl (lv_at hl 3 rfl) ?_
        refine lv_iconst (v := nI 2) hx hb dL_law_191 (by decide) ?_
        refine n_iadd hx hb dL_law_192 ?_
        refine n_sld hx hb hX hbl hbA hS (by omega) (by omega) dL_law_193 ?_
        refine w_call (wr := rdW ka a ((q_load g (xs (i + 1)) (xs (i + 2))).2)) (wn := lwW ka a b ((q_load g (xs (i + 1)) (xs (i + 2))).2) ((q_load g (xs (i + 1)) (xs (i + 2))).2)) (va_runV (As := [.int (xs (i + 1)), .int (xs (i + 2))]) (rest := [.int (zb ((q_load g (xs (i + 1)) (xs (i + 2))).1))]) ⟨hx, hb, hml, hown, hts⟩ (C_load D ka l b g (xs (i + 1)) (xs (i + 2)) _) (cwV 2 hts (lw_V q307 q308 q309 q8 q310) rfl rfl rfl (by decide +kernel) ⟨Nat.le_of_ble_eq_true rfl, Nat.le_of_ble_eq_true rfl⟩) (w_preV hK hP hD [11, 12, 13, 14, 15, 16] (by decide) rfl rfl (q0 := 11) rfl) rfl rfl hl.1 rfl (lv_room (Nat.le_of_ble_eq_true rfl)) dL_law_194 ⟨Nat.le_of_ble_eq_true rfl, Nat.le_of_ble_eq_true rfl⟩) hP hD hS hA [11, 12, 13, 14, 15, 16] [0, 1, 2, 3, 4, 5, 6, 7, 8, 9, 10] [0, 1, 2, 3, 4, 5, 6, 7, 8, 9, 10, 11, 12, 13, 14, 15, 16] rfl rfl (by decide) (by decide) (by decide) rfl (fun H locs hP hD hS => ?_)
        refine lv_icmp_eq (tgt := 339) hx hb dL_law_197 (by decide) (fun _ => ?_) (fun h9 => absurd rfl h9)
        exact tail ((q_load g (xs (i + 1)) (xs (i + 2))).2) (ok_qload hok _ _) H locs ls hP hD hS hl
      · refine lv_tableIn (off := 170) (tgt := 202) hx hb dL_law_32 (by decide +kernel) (by decide +kernel) (by decide +kernel) (by decide) ?_
        refine lv_aload_n hx hb dL_law_202 rfl (lv_at hl 1 rfl) ?_
        refine lv_aload_n hx hb dL_law_203 rfl (lv_at hl 0 rfl) ?_
        refine lv_iload_n hx hb dL_law_204 rfl (lv_at hl 3 rfl) ?_
        refine lv_iconst (v := nI 1) hx hb dL_law_205 (by decide) ?_
        refine n_iadd hx hb dL_law_206 ?_
        refine n_sld hx hb hX hbl hbA hS (by omega) (by omega) dL_law_207 ?_
        refine w_call (wr := mdW ka b g) (wn := lwW ka a b ((q_send g (xs (i + 1))).2) g) (va_runV (As := [.int (xs (i + 1))]) (rest := []) ⟨hx, hb, hml, hown, hts⟩ (M_send D ka l a g hok.1 (xs (i + 1)) _) (cwV 1 hts (lw_V q137 q138 q139 q4 q140) rfl rfl rfl (by decide +kernel) ⟨Nat.le_of_ble_eq_true rfl, Nat.le_of_ble_eq_true rfl⟩) (w_preV hK hP hD [0, 1, 2, 3, 4, 5, 6, 7, 8, 9, 10] (by decide) rfl rfl (q0 := 0) rfl) rfl rfl hl.1 rfl (lv_room (Nat.le_of_ble_eq_true rfl)) dL_law_208 ⟨Nat.le_of_ble_eq_true rfl, Nat.le_of_ble_eq_true rfl⟩) hP hD hS hA [0, 1, 2, 3, 4, 5, 6, 7, 8, 9, 10] [11, 12, 13, 14, 15, 16] [6, 7, 8, 9, 10, 11, 12, 13, 14, 15, 16, 0, 1, 2, 3, 4, 5] rfl rfl (by decide) (by decide) (by decide) rfl (fun H locs hP hD hS => ?_)
        refine lv_aload_n hx hb dL_law_211 rfl (lv_at hl 2 rfl) ?_
        refine lv_aload_n hx hb dL_law_212 rfl (lv_at hl 0 rfl) ?_
        refine lv_iload_n hx hb dL_law_213 rfl (lv_at hl 3 rfl) ?_
        refine lv_iconst (v := nI 1) hx hb dL_law_214 (by decide) ?_
        refine n_iadd hx hb dL_law_215 ?_
        refine n_sld hx hb hX hbl hbA hS (by omega) (by omega) dL_law_216 ?_
        refine w_call (wr := rdW ka a ((q_send g (xs (i + 1))).2)) (wn := lwW ka a b ((q_send g (xs (i + 1))).2) ((q_send g (xs (i + 1))).2)) (va_runV (As := [.int (xs (i + 1))]) (rest := [.int ((q_send g (xs (i + 1))).1)]) ⟨hx, hb, hml, hown, hts⟩ (C_send D ka l b g hok.1 (xs (i + 1)) _) (cwV 1 hts (lw_V q311 q312 q313 q8 q314) rfl rfl rfl (by decide +kernel) ⟨Nat.le_of_ble_eq_true rfl, Nat.le_of_ble_eq_true rfl⟩) (w_preV hK hP hD [11, 12, 13, 14, 15, 16] (by decide) rfl rfl (q0 := 11) rfl) rfl rfl hl.1 rfl (lv_room (Nat.le_of_ble_eq_true rfl)) dL_law_217 ⟨Nat.le_of_ble_eq_true rfl, Nat.le_of_ble_eq_true rfl⟩) hP hD hS hA [11, 12, 13, 14, 15, 16] [0, 1, 2, 3, 4, 5, 6, 7, 8, 9, 10] [0, 1, 2, 3, 4, 5, 6, 7, 8, 9, 10, 11, 12, 13, 14, 15, 16] rfl rfl (by decide) (by decide) (by decide) rfl (fun H locs hP hD hS => ?_)
        refine lv_icmp_eq (tgt := 339) hx hb dL_law_220 (by decide) (fun _ => ?_) (fun h9 => absurd rfl h9)
        exact tail ((q_send g (xs (i + 1))).2) (ok_qsend hok _) H locs ls hP hD hS hl
      · refine lv_tableIn (off := 193) (tgt := 225) hx hb dL_law_32 (by decide +kernel) (by decide +kernel) (by decide +kernel) (by decide) ?_
        refine lv_aload_n hx hb dL_law_225 rfl (lv_at hl 1 rfl) ?_
        refine w_call (wr := mdW ka b g) (wn := lwW ka a b ((p_rcl g).2) g) (va_runV (As := []) (rest := []) ⟨hx, hb, hml, hown, hts⟩ (m_rcl D ka l a g hok.1 _) (cwV 0 hts (lw_V q159 q160 q161 q4 q162) rfl rfl rfl (by decide +kernel) ⟨Nat.le_of_ble_eq_true rfl, Nat.le_of_ble_eq_true rfl⟩) (w_preV hK hP hD [0, 1, 2, 3, 4, 5, 6, 7, 8, 9, 10] (by decide) rfl rfl (q0 := 0) rfl) rfl rfl hl.1 rfl (lv_room (Nat.le_of_ble_eq_true rfl)) dL_law_226 ⟨Nat.le_of_ble_eq_true rfl, Nat.le_of_ble_eq_true rfl⟩) hP hD hS hA [0, 1, 2, 3, 4, 5, 6, 7, 8, 9, 10] [11, 12, 13, 14, 15, 16] [6, 7, 8, 9, 10, 11, 12, 13, 14, 15, 16, 0, 1, 2, 3, 4, 5] rfl rfl (by decide) (by decide) (by decide) rfl (fun H locs hP hD hS => ?_)
        refine lv_aload_n hx hb dL_law_229 rfl (lv_at hl 2 rfl) ?_
        refine w_call (wr := rdW ka a ((p_rcl g).2)) (wn := lwW ka a b ((p_rcl g).2) ((p_rcl g).2)) (va_runV (As := []) (rest := [.int ((p_rcl g).1)]) ⟨hx, hb, hml, hown, hts⟩ (c_rcl D ka l b g hok.1 _) (cwV 0 hts (lw_V q319 q320 q321 q8 q322) rfl rfl rfl (by decide +kernel) ⟨Nat.le_of_ble_eq_true rfl, Nat.le_of_ble_eq_true rfl⟩) (w_preV hK hP hD [11, 12, 13, 14, 15, 16] (by decide) rfl rfl (q0 := 11) rfl) rfl rfl hl.1 rfl (lv_room (Nat.le_of_ble_eq_true rfl)) dL_law_230 ⟨Nat.le_of_ble_eq_true rfl, Nat.le_of_ble_eq_true rfl⟩) hP hD hS hA [11, 12, 13, 14, 15, 16] [0, 1, 2, 3, 4, 5, 6, 7, 8, 9, 10] [0, 1, 2, 3, 4, 5, 6, 7, 8, 9, 10, 11, 12, 13, 14, 15, 16] rfl rfl (by decide) (by decide) (by decide) rfl (fun H locs hP hD hS => ?_)
        refine lv_icmp_eq (tgt := 339) hx hb dL_law_233 (by decide) (fun _ => ?_) (fun h9 => absurd rfl h9)
        exact tail ((p_rcl g).2) (ok_rcl hok) H locs ls hP hD hS hl
      · refine lv_tableIn (off := 206) (tgt := 238) hx hb dL_law_32 (by decide +kernel) (by decide +kernel) (by decide +kernel) (by decide) ?_
        refine lv_aload_n hx hb dL_law_238 rfl (lv_at hl 1 rfl) ?_
        refine w_call (wr := mdW ka b g) (wn := lwW ka a b ((p_rev g).2) g) (va_runV (As := []) (rest := []) ⟨hx, hb, hml, hown, hts⟩ (m_rev D ka l a g hok.1 _) (cwV 0 hts (lw_V q185 q186 q187 q4 q188) rfl rfl rfl (by decide +kernel) ⟨Nat.le_of_ble_eq_true rfl, Nat.le_of_ble_eq_true rfl⟩) (w_preV hK hP hD [0, 1, 2, 3, 4, 5, 6, 7, 8, 9, 10] (by decide) rfl rfl (q0 := 0) rfl) rfl rfl hl.1 rfl (lv_room (Nat.le_of_ble_eq_true rfl)) dL_law_239 ⟨Nat.le_of_ble_eq_true rfl, Nat.le_of_ble_eq_true rfl⟩) hP hD hS hA [0, 1, 2, 3, 4, 5, 6, 7, 8, 9, 10] [11, 12, 13, 14, 15, 16] [6, 7, 8, 9, 10, 11, 12, 13, 14, 15, 16, 0, 1, 2, 3, 4, 5] rfl rfl (by decide) (by decide) (by decide) rfl (fun H locs hP hD hS => ?_)
        refine lv_aload_n hx hb dL_law_242 rfl (lv_at hl 2 rfl) ?_
        refine w_call (wr := rdW ka a ((p_rev g).2)) (wn := lwW ka a b ((p_rev g).2) ((p_rev g).2)) (va_runV (As := []) (rest := [.int ((p_rev g).1)]) ⟨hx, hb, hml, hown, hts⟩ (c_rev D ka l b g hok.1 _) (cwV 0 hts (lw_V q323 q324 q325 q8 q326) rfl rfl rfl (by decide +kernel) ⟨Nat.le_of_ble_eq_true rfl, Nat.le_of_ble_eq_true rfl⟩) (w_preV hK hP hD [11, 12, 13, 14, 15, 16] (by decide) rfl rfl (q0 := 11) rfl) rfl rfl hl.1 rfl (lv_room (Nat.le_of_ble_eq_true rfl)) dL_law_243 ⟨Nat.le_of_ble_eq_true rfl, Nat.le_of_ble_eq_true rfl⟩) hP hD hS hA [11, 12, 13, 14, 15, 16] [0, 1, 2, 3, 4, 5, 6, 7, 8, 9, 10] [0, 1, 2, 3, 4, 5, 6, 7, 8, 9, 10, 11, 12, 13, 14, 15, 16] rfl rfl (by decide) (by decide) (by decide) rfl (fun H locs hP hD hS => ?_)
        refine lv_icmp_eq (tgt := 339) hx hb dL_law_246 (by decide) (fun _ => ?_) (fun h9 => absurd rfl h9)
        exact tail ((p_rev g).2) (ok_rev hok) H locs ls hP hD hS hl
      · refine lv_tableIn (off := 219) (tgt := 251) hx hb dL_law_32 (by decide +kernel) (by decide +kernel) (by decide +kernel) (by decide) ?_
        refine lv_aload_n hx hb dL_law_251 rfl (lv_at hl 1 rfl) ?_
        refine w_call (wr := mdW ka b g) (wn := lwW ka a b ((p_post g).2) g) (va_runV (As := []) (rest := []) ⟨hx, hb, hml, hown, hts⟩ (m_post D ka l a g hok.2 _) (cwV 0 hts (lw_V q202 q203 q204 q4 q205) rfl rfl rfl (by decide +kernel) ⟨Nat.le_of_ble_eq_true rfl, Nat.le_of_ble_eq_true rfl⟩) (w_preV hK hP hD [0, 1, 2, 3, 4, 5, 6, 7, 8, 9, 10] (by decide) rfl rfl (q0 := 0) rfl) rfl rfl hl.1 rfl (lv_room (Nat.le_of_ble_eq_true rfl)) dL_law_252 ⟨Nat.le_of_ble_eq_true rfl, Nat.le_of_ble_eq_true rfl⟩) hP hD hS hA [0, 1, 2, 3, 4, 5, 6, 7, 8, 9, 10] [11, 12, 13, 14, 15, 16] [6, 7, 8, 9, 10, 11, 12, 13, 14, 15, 16, 0, 1, 2, 3, 4, 5] rfl rfl (by decide) (by decide) (by decide) rfl (fun H locs hP hD hS => ?_)
        refine lv_aload_n hx hb dL_law_255 rfl (lv_at hl 2 rfl) ?_
        refine w_call (wr := rdW ka a ((p_post g).2)) (wn := lwW ka a b ((p_post g).2) ((p_post g).2)) (va_runV (As := []) (rest := [.int ((p_post g).1)]) ⟨hx, hb, hml, hown, hts⟩ (c_post D ka l b g hok.2 _) (cwV 0 hts (lw_V q328 q329 q330 q8 q331) rfl rfl rfl (by decide +kernel) ⟨Nat.le_of_ble_eq_true rfl, Nat.le_of_ble_eq_true rfl⟩) (w_preV hK hP hD [11, 12, 13, 14, 15, 16] (by decide) rfl rfl (q0 := 11) rfl) rfl rfl hl.1 rfl (lv_room (Nat.le_of_ble_eq_true rfl)) dL_law_256 ⟨Nat.le_of_ble_eq_true rfl, Nat.le_of_ble_eq_true rfl⟩) hP hD hS hA [11, 12, 13, 14, 15, 16] [0, 1, 2, 3, 4, 5, 6, 7, 8, 9, 10] [0, 1, 2, 3, 4, 5, 6, 7, 8, 9, 10, 11, 12, 13, 14, 15, 16] rfl rfl (by decide) (by decide) (by decide) rfl (fun H locs hP hD hS => ?_)
        refine lv_icmp_eq (tgt := 339) hx hb dL_law_259 (by decide) (fun _ => ?_) (fun h9 => absurd rfl h9)
        exact tail ((p_post g).2) (ok_post hok) H locs ls hP hD hS hl
      · refine lv_tableIn (off := 232) (tgt := 264) hx hb dL_law_32 (by decide +kernel) (by decide +kernel) (by decide +kernel) (by decide) ?_
        refine lv_aload_n hx hb dL_law_264 rfl (lv_at hl 1 rfl) ?_
        refine w_call (wr := mdW ka b g) (wn := lwW ka a b ((p_recv g).2) g) (va_runV (As := []) (rest := []) ⟨hx, hb, hml, hown, hts⟩ (m_recv D ka l a g hok.2 _) (cwV 0 hts (lw_V q212 q213 q214 q4 q215) rfl rfl rfl (by decide +kernel) ⟨Nat.le_of_ble_eq_true rfl, Nat.le_of_ble_eq_true rfl⟩) (w_preV hK hP hD [0, 1, 2, 3, 4, 5, 6, 7, 8, 9, 10] (by decide) rfl rfl (q0 := 0) rfl) rfl rfl hl.1 rfl (lv_room (Nat.le_of_ble_eq_true rfl)) dL_law_265 ⟨Nat.le_of_ble_eq_true rfl, Nat.le_of_ble_eq_true rfl⟩) hP hD hS hA [0, 1, 2, 3, 4, 5, 6, 7, 8, 9, 10] [11, 12, 13, 14, 15, 16] [6, 7, 8, 9, 10, 11, 12, 13, 14, 15, 16, 0, 1, 2, 3, 4, 5] rfl rfl (by decide) (by decide) (by decide) rfl (fun H locs hP hD hS => ?_)
        refine lv_aload_n hx hb dL_law_268 rfl (lv_at hl 2 rfl) ?_
        refine w_call (wr := rdW ka a ((p_recv g).2)) (wn := lwW ka a b ((p_recv g).2) ((p_recv g).2)) (va_runV (As := []) (rest := [.int ((p_recv g).1)]) ⟨hx, hb, hml, hown, hts⟩ (c_recv D ka l b g hok.2 _) (cwV 0 hts (lw_V q332 q333 q334 q8 q335) rfl rfl rfl (by decide +kernel) ⟨Nat.le_of_ble_eq_true rfl, Nat.le_of_ble_eq_true rfl⟩) (w_preV hK hP hD [11, 12, 13, 14, 15, 16] (by decide) rfl rfl (q0 := 11) rfl) rfl rfl hl.1 rfl (lv_room (Nat.le_of_ble_eq_true rfl)) dL_law_269 ⟨Nat.le_of_ble_eq_true rfl, Nat.le_of_ble_eq_true rfl⟩) hP hD hS hA [11, 12, 13, 14, 15, 16] [0, 1, 2, 3, 4, 5, 6, 7, 8, 9, 10] [0, 1, 2, 3, 4, 5, 6, 7, 8, 9, 10, 11, 12, 13, 14, 15, 16] rfl rfl (by decide) (by decide) (by decide) rfl (fun H locs hP hD hS => ?_)
        refine lv_icmp_eq (tgt := 339) hx hb dL_law_272 (by decide) (fun _ => ?_) (fun h9 => absurd rfl h9)
        exact tail ((p_recv g).2) (ok_recv hok) H locs ls hP hD hS hl
      · refine lv_tableIn (off := 245) (tgt := 277) hx hb dL_law_32 (by decide +kernel) (by decide +kernel) (by decide +kernel) (by decide) ?_
        refine lv_aload_n hx hb dL_law_277 rfl (lv_at hl 1 rfl) ?_
        refine lv_aload_n hx hb dL_law_278 rfl (lv_at hl 0 rfl) ?_
        refine lv_iload_n hx hb dL_law_279 rfl (lv_at hl 3 rfl) ?_
        refine lv_iconst (v := nI 1) hx hb dL_law_280 (by decide) ?_
        refine n_iadd hx hb dL_law_281 ?_
        refine n_sld hx hb hX hbl hbA hS (by omega) (by omega) dL_law_282 ?_
        refine w_call (wr := mdW ka b g) (wn := lwW ka a b g g) (va_runV (As := [.int (xs (i + 1))]) (rest := []) ⟨hx, hb, hml, hown, hts⟩ (M_taken D ka l a g (xs (i + 1)) _) (cwV 1 hts (lw_V q238 q239 q240 q4 q241) rfl rfl rfl (by decide +kernel) ⟨Nat.le_of_ble_eq_true rfl, Nat.le_of_ble_eq_true rfl⟩) (w_preV hK hP hD [0, 1, 2, 3, 4, 5, 6, 7, 8, 9, 10] (by decide) rfl rfl (q0 := 0) rfl) rfl rfl hl.1 rfl (lv_room (Nat.le_of_ble_eq_true rfl)) dL_law_283 ⟨Nat.le_of_ble_eq_true rfl, Nat.le_of_ble_eq_true rfl⟩) hP hD hS hA [0, 1, 2, 3, 4, 5, 6, 7, 8, 9, 10] [11, 12, 13, 14, 15, 16] [6, 7, 8, 9, 10, 11, 12, 13, 14, 15, 16, 0, 1, 2, 3, 4, 5] rfl rfl (by decide) (by decide) (by decide) rfl (fun H locs hP hD hS => ?_)
        refine lv_aload_n hx hb dL_law_286 rfl (lv_at hl 2 rfl) ?_
        refine lv_aload_n hx hb dL_law_287 rfl (lv_at hl 0 rfl) ?_
        refine lv_iload_n hx hb dL_law_288 rfl (lv_at hl 3 rfl) ?_
        refine lv_iconst (v := nI 1) hx hb dL_law_289 (by decide) ?_
        refine n_iadd hx hb dL_law_290 ?_
        refine n_sld hx hb hX hbl hbA hS (by omega) (by omega) dL_law_291 ?_
        refine w_call (wr := rdW ka a g) (wn := lwW ka a b g g) (va_runV (As := [.int (xs (i + 1))]) (rest := [.int (q_taken g (xs (i + 1)))]) ⟨hx, hb, hml, hown, hts⟩ (C_taken D ka l b g (xs (i + 1)) _) (cwV 1 hts (lw_V q336 q337 q338 q8 q339) rfl rfl rfl (by decide +kernel) ⟨Nat.le_of_ble_eq_true rfl, Nat.le_of_ble_eq_true rfl⟩) (w_preV hK hP hD [11, 12, 13, 14, 15, 16] (by decide) rfl rfl (q0 := 11) rfl) rfl rfl hl.1 rfl (lv_room (Nat.le_of_ble_eq_true rfl)) dL_law_292 ⟨Nat.le_of_ble_eq_true rfl, Nat.le_of_ble_eq_true rfl⟩) hP hD hS hA [11, 12, 13, 14, 15, 16] [0, 1, 2, 3, 4, 5, 6, 7, 8, 9, 10] [0, 1, 2, 3, 4, 5, 6, 7, 8, 9, 10, 11, 12, 13, 14, 15, 16] rfl rfl (by decide) (by decide) (by decide) rfl (fun H locs hP hD hS => ?_)
        refine lv_icmp_eq (tgt := 339) hx hb dL_law_295 (by decide) (fun _ => ?_) (fun h9 => absurd rfl h9)
        exact tail g (hok) H locs ls hP hD hS hl
      · refine lv_tableIn (off := 268) (tgt := 300) hx hb dL_law_32 (by decide +kernel) (by decide +kernel) (by decide +kernel) (by decide) ?_
        refine lv_aload_n hx hb dL_law_300 rfl (lv_at hl 1 rfl) ?_
        refine w_call (wr := mdW ka b g) (wn := lwW ka a b ((p_wdr g).2) g) (va_runV (As := []) (rest := []) ⟨hx, hb, hml, hown, hts⟩ (m_wdr D ka l a g hok.2 _) (cwV 0 hts (lw_V q242 q243 q244 q4 q245) rfl rfl rfl (by decide +kernel) ⟨Nat.le_of_ble_eq_true rfl, Nat.le_of_ble_eq_true rfl⟩) (w_preV hK hP hD [0, 1, 2, 3, 4, 5, 6, 7, 8, 9, 10] (by decide) rfl rfl (q0 := 0) rfl) rfl rfl hl.1 rfl (lv_room (Nat.le_of_ble_eq_true rfl)) dL_law_301 ⟨Nat.le_of_ble_eq_true rfl, Nat.le_of_ble_eq_true rfl⟩) hP hD hS hA [0, 1, 2, 3, 4, 5, 6, 7, 8, 9, 10] [11, 12, 13, 14, 15, 16] [6, 7, 8, 9, 10, 11, 12, 13, 14, 15, 16, 0, 1, 2, 3, 4, 5] rfl rfl (by decide) (by decide) (by decide) rfl (fun H locs hP hD hS => ?_)
        refine lv_aload_n hx hb dL_law_304 rfl (lv_at hl 2 rfl) ?_
        refine w_call (wr := rdW ka a ((p_wdr g).2)) (wn := lwW ka a b ((p_wdr g).2) ((p_wdr g).2)) (va_runV (As := []) (rest := [.int ((p_wdr g).1)]) ⟨hx, hb, hml, hown, hts⟩ (c_wdr D ka l b g hok.2 _) (cwV 0 hts (lw_V q340 q341 q342 q8 q343) rfl rfl rfl (by decide +kernel) ⟨Nat.le_of_ble_eq_true rfl, Nat.le_of_ble_eq_true rfl⟩) (w_preV hK hP hD [11, 12, 13, 14, 15, 16] (by decide) rfl rfl (q0 := 11) rfl) rfl rfl hl.1 rfl (lv_room (Nat.le_of_ble_eq_true rfl)) dL_law_305 ⟨Nat.le_of_ble_eq_true rfl, Nat.le_of_ble_eq_true rfl⟩) hP hD hS hA [11, 12, 13, 14, 15, 16] [0, 1, 2, 3, 4, 5, 6, 7, 8, 9, 10] [0, 1, 2, 3, 4, 5, 6, 7, 8, 9, 10, 11, 12, 13, 14, 15, 16] rfl rfl (by decide) (by decide) (by decide) rfl (fun H locs hP hD hS => ?_)
        refine lv_icmp_eq (tgt := 339) hx hb dL_law_308 (by decide) (fun _ => ?_) (fun h9 => absurd rfl h9)
        exact tail ((p_wdr g).2) (ok_wdr hok) H locs ls hP hD hS hl
      · refine lv_tableIn (off := 281) (tgt := 313) hx hb dL_law_32 (by decide +kernel) (by decide +kernel) (by decide +kernel) (by decide) ?_
        refine lv_aload_n hx hb dL_law_313 rfl (lv_at hl 1 rfl) ?_
        refine w_call (wr := mdW ka b g) (wn := lwW ka a b g g) (va_runV (As := []) (rest := []) ⟨hx, hb, hml, hown, hts⟩ (m_sending D ka l a g _) (cwV 0 hts (lw_V q249 q250 q251 q4 q252) rfl rfl rfl (by decide +kernel) ⟨Nat.le_of_ble_eq_true rfl, Nat.le_of_ble_eq_true rfl⟩) (w_preV hK hP hD [0, 1, 2, 3, 4, 5, 6, 7, 8, 9, 10] (by decide) rfl rfl (q0 := 0) rfl) rfl rfl hl.1 rfl (lv_room (Nat.le_of_ble_eq_true rfl)) dL_law_314 ⟨Nat.le_of_ble_eq_true rfl, Nat.le_of_ble_eq_true rfl⟩) hP hD hS hA [0, 1, 2, 3, 4, 5, 6, 7, 8, 9, 10] [11, 12, 13, 14, 15, 16] [6, 7, 8, 9, 10, 11, 12, 13, 14, 15, 16, 0, 1, 2, 3, 4, 5] rfl rfl (by decide) (by decide) (by decide) rfl (fun H locs hP hD hS => ?_)
        refine lv_aload_n hx hb dL_law_317 rfl (lv_at hl 2 rfl) ?_
        refine w_call (wr := rdW ka a g) (wn := lwW ka a b g g) (va_runV (As := []) (rest := [.int (nI g.1.2.1)]) ⟨hx, hb, hml, hown, hts⟩ (c_sending D ka l b g _) (cwV 0 hts (lw_V q344 q345 q346 q8 q347) rfl rfl rfl (by decide +kernel) ⟨Nat.le_of_ble_eq_true rfl, Nat.le_of_ble_eq_true rfl⟩) (w_preV hK hP hD [11, 12, 13, 14, 15, 16] (by decide) rfl rfl (q0 := 11) rfl) rfl rfl hl.1 rfl (lv_room (Nat.le_of_ble_eq_true rfl)) dL_law_318 ⟨Nat.le_of_ble_eq_true rfl, Nat.le_of_ble_eq_true rfl⟩) hP hD hS hA [11, 12, 13, 14, 15, 16] [0, 1, 2, 3, 4, 5, 6, 7, 8, 9, 10] [0, 1, 2, 3, 4, 5, 6, 7, 8, 9, 10, 11, 12, 13, 14, 15, 16] rfl rfl (by decide) (by decide) (by decide) rfl (fun H locs hP hD hS => ?_)
        refine lv_icmp_eq (tgt := 339) hx hb dL_law_321 (by decide) (fun _ => ?_) (fun h9 => absurd rfl h9)
        exact tail g (hok) H locs ls hP hD hS hl
      · refine lv_tableIn (off := 294) (tgt := 326) hx hb dL_law_32 (by decide +kernel) (by decide +kernel) (by decide +kernel) (by decide) ?_
        refine lv_aload_n hx hb dL_law_326 rfl (lv_at hl 1 rfl) ?_
        refine w_call (wr := mdW ka b g) (wn := lwW ka a b g g) (va_runV (As := []) (rest := []) ⟨hx, hb, hml, hown, hts⟩ (m_receiving D ka l a g _) (cwV 0 hts (lw_V q253 q254 q255 q4 q256) rfl rfl rfl (by decide +kernel) ⟨Nat.le_of_ble_eq_true rfl, Nat.le_of_ble_eq_true rfl⟩) (w_preV hK hP hD [0, 1, 2, 3, 4, 5, 6, 7, 8, 9, 10] (by decide) rfl rfl (q0 := 0) rfl) rfl rfl hl.1 rfl (lv_room (Nat.le_of_ble_eq_true rfl)) dL_law_327 ⟨Nat.le_of_ble_eq_true rfl, Nat.le_of_ble_eq_true rfl⟩) hP hD hS hA [0, 1, 2, 3, 4, 5, 6, 7, 8, 9, 10] [11, 12, 13, 14, 15, 16] [6, 7, 8, 9, 10, 11, 12, 13, 14, 15, 16, 0, 1, 2, 3, 4, 5] rfl rfl (by decide) (by decide) (by decide) rfl (fun H locs hP hD hS => ?_)
        refine lv_aload_n hx hb dL_law_330 rfl (lv_at hl 2 rfl) ?_
        refine w_call (wr := rdW ka a g) (wn := lwW ka a b g g) (va_runV (As := []) (rest := [.int (nI g.2.1.2.1)]) ⟨hx, hb, hml, hown, hts⟩ (c_receiving D ka l b g _) (cwV 0 hts (lw_V q348 q349 q350 q8 q351) rfl rfl rfl (by decide +kernel) ⟨Nat.le_of_ble_eq_true rfl, Nat.le_of_ble_eq_true rfl⟩) (w_preV hK hP hD [11, 12, 13, 14, 15, 16] (by decide) rfl rfl (q0 := 11) rfl) rfl rfl hl.1 rfl (lv_room (Nat.le_of_ble_eq_true rfl)) dL_law_331 ⟨Nat.le_of_ble_eq_true rfl, Nat.le_of_ble_eq_true rfl⟩) hP hD hS hA [11, 12, 13, 14, 15, 16] [0, 1, 2, 3, 4, 5, 6, 7, 8, 9, 10] [0, 1, 2, 3, 4, 5, 6, 7, 8, 9, 10, 11, 12, 13, 14, 15, 16] rfl rfl (by decide) (by decide) (by decide) rfl (fun H locs hP hD hS => ?_)
        refine lv_icmp_eq (tgt := 339) hx hb dL_law_334 (by decide) (fun _ => ?_) (fun h9 => absurd rfl h9)
        exact tail g (hok) H locs ls hP hD hS hl
      · refine lv_tableOut (tgt := 339) hx hb dL_law_32 (Or.inr (by decide +kernel)) (by decide) ?_
        exact tail g hok H locs ls hP hD hS hl
      · refine lv_tableOut (tgt := 339) hx hb dL_law_32 (Or.inr (by decide +kernel)) (by decide) ?_
        exact tail g hok H locs ls hP hD hS hl
      · refine lv_tableOut (tgt := 339) hx hb dL_law_32 (Or.inr (by decide +kernel)) (by decide) ?_
        exact tail g hok H locs ls hP hD hS hl
theorem arr_K {s : State} {args : Array Value} {ty : FieldType} (hty : ty = .int ∨ ty = .boolean ∨ ty = .byte) (h : (Cond.arrayClass ty).before args s = true) : ∃ cA : ClassId, ArrOfT s cA ty ∧ va_RA s cA ty := by
  obtain ⟨cA, kA, comp, h1, h2, h3⟩ := Cond.arrayClass_spec h
  refine ⟨cA, fun n z => ⟨fun k h => (by cases h), kA, h2, comp, h3⟩, ?_⟩
  rcases hty with rfl | rfl | rfl <;> exact h1
set_option maxHeartbeats 4000000 in
theorem whole_start {p : Program} {e : Env} {s : State} {m : MethodId} {below : List Frame} {meth : Method} {c : Code} (l : Launch) {b L : Nat} {xs : Nat → Int32} (hL : L ≤ 192) (C0 : lw_At p s m meth c b L xs) : W p l e room_1 s m #[Value.ref b] below meth c s.heap [] 0 0 (lw_Z below #[Value.ref b] s) (entryFrame m ([Value.ref b] : List Value).toArray 4) := by
  obtain ⟨hx, hb, hr, hml, hown, hts0, hX, hbl, hlocks, hgv⟩ := id C0
  have hts : ∀ w ∈ lw_all, w.before #[Value.ref b] s = true := fun w h => hts0 w (lw_all_tbl h)
  obtain ⟨A, hAe⟩ : ∃ A : Nat → Prop, A = fun q : Nat => s.heap.size ≤ q := ⟨_, rfl⟩
  have hA : ∀ q : Nat, s.heap.size ≤ q → A q := fun q h => by rw [hAe]; exact h
  have hAl : ∀ q : Nat, A q → s.heap.size ≤ q := fun q h => by rw [hAe] at h; exact h
  obtain ⟨c0, iS0, hKn0⟩ := u_known (C := RX0) (T := TX0) (N := 5) (n := 5) hts in_X0 (hts _ q10)
  obtain ⟨c1, iS1, hKn1⟩ := u_known (C := RX2) (T := TX2) (N := 6) (n := 6) hts in_X2 (hts _ q18)
  obtain ⟨c2, iS2, hKn2⟩ := u_known (C := RX3) (T := TX2) (N := 6) (n := 6) hts in_X3' (hts _ q55)
  obtain ⟨c3, iS3, hKn3⟩ := u_known (C := RX4) (T := TX4) (N := 10) (n := 10) hts in_X4 (hts _ q258)
  obtain ⟨cI, hI⟩ := arr_K (Or.inl rfl) (hts _ q52)
  obtain ⟨cZ, hZ⟩ := arr_K (Or.inr (Or.inl rfl)) (hts _ q53)
  obtain ⟨cB, hB⟩ := arr_K (Or.inr (Or.inr rfl)) (hts _ q294)
  obtain ⟨D, hKc⟩ : ∃ D : va_G, ∀ (k : Nat) (q : vw_C), vwCl[k]? = some q → u_Kn s q.1 q.2.1 q.2.2 (D.1 k) (D.2 k) := by
    refine ⟨(fun k => match k with | 0 => c0 | 1 => c1 | 2 => c2 | _ => c3, fun k => match k with | 0 => iS0 | 1 => iS1 | 2 => iS2 | _ => iS3), ?_⟩
    intro k q hq
    match k, hq with
    | 0, hq => cases hq; exact hKn0
    | 1, hq => cases hq; exact hKn1
    | 2, hq => cases hq; exact hKn2
    | 3, hq => cases hq; exact hKn3
    | k + 4, hq => simp [vwCl] at hq
  obtain ⟨ka, hKa⟩ : ∃ ka : Nat → ClassId, ∀ (k : Nat) (q : ClassId × FieldType), (TYS ka)[k]? = some q → ArrOfT s q.1 q.2 ∧ va_RA s q.1 q.2 := by
    refine ⟨fun k => match k with | 0 => cI | 1 => cZ | _ => cB, ?_⟩
    intro k q hq
    match k, hq with
    | 0, hq => cases hq; exact hI
    | 1, hq => cases hq; exact hZ
    | 2, hq => cases hq; exact hB
    | k + 3, hq => simp [TYS] at hq
  have hK : wK D ka s := ⟨⟨hKc, hKa⟩, va_Nw.of rfl (hts0 _ q28), va_Nw.of rfl (hts0 _ q30), va_Nw.of rfl (hts0 _ q32), va_Nw.of rfl (hts0 _ q99), va_Nw.of rfl (hts0 _ q121)⟩
  have hS : va_S A s.heap s.heap [] := va_S.rf
  have hP : va_P D vwCl [] s.heap := fun k q h => by simp at h
  have hD : va_D A [] := ⟨fun i j p q h => by simp at h, fun k q h => by simp at h⟩
  have hl := lv_entry ([.ref b]) (n := 4) (Nat.le_of_ble_eq_true rfl)
  rw [lg_entry_eq]
  generalize (lg_sl ([.ref b]) ++ List.replicate (4 - (lg_sl ([.ref b])).length) Slot.unset).toArray = ls at hl ⊢
  have hl : lv_has ls 4 [(0, .ref b)] := hl
  refine va_new (ci := 0) (fs := [.null, .null, .null, .null, .int 0]) (C := RX0) (T := TX0) (N := 5) hx hb hts in_X0 tyX0 tyX0_ok hown (hts _ q9) (hts _ q10) (hts _ q4) hK.1 hP hD hS hA rfl (fun j hj => by rcases (show j = 0 ∨ j = 1 ∨ j = 2 ∨ j = 3 ∨ j = 4 by omega) with rfl | rfl | rfl | rfl | rfl <;> rfl) (Nat.le_of_ble_eq_true rfl) (Nat.le_of_ble_eq_true rfl) dL_law_0 (fun qx H hP hD hS => ?_)
  have hP : va_P D vwCl ([(qx, .inr (0, [.null, .null, .null, .null, .int 0]))]) H := hP
  have hD : va_D A ([(qx, .inr (0, [.null, .null, .null, .null, .int 0]))]) := hD
  refine lv_dup hx hb dL_law_3 rfl ?_
  refine w_make (wr := []) (va_runI (As := []) (rest := [.ref qx]) ⟨hx, hb, hml, hown, hts⟩ (m_initX0 D ka l qx _) (cwI 0 hts (lw_meth q13) rfl rfl rfl (hts _ q4) (hts _ q11) (hts _ q12) rfl (by decide +kernel) ⟨Nat.le_of_ble_eq_true rfl, Nat.le_of_ble_eq_true rfl⟩) (w_preS hK hP hD [0] (by decide) rfl) rfl rfl hl.1 rfl (lv_room (Nat.le_of_ble_eq_true rfl)) dL_law_4 ⟨Nat.le_of_ble_eq_true rfl, Nat.le_of_ble_eq_true rfl⟩) hP hD hS hA [0] [] rfl rfl (by decide) (by decide) (fun ux H locs hP hD hS => ?_)
  have hP : va_P D vwCl (rdW ka (adC qx ux) g0) H := hP
  have hD : va_D A (rdW ka (adC qx ux) g0) := hD
  refine lv_astore_n (lv' := [(1, .ref qx), (0, .ref b)]) hx hb dL_law_7 rfl hl (by decide) rfl (fun ls hl => ?_)
  refine va_new (ci := 3) (fs := [.null, .null, .null, .null, .null, .int 0, .int (nI 0), .int (nI 0), .int (nI 0), .int (nI 0)]) (C := RX4) (T := TX4) (N := 10) hx hb hts in_X4 tyX4 tyX4_ok hown (hts _ q257) (hts _ q258) (hts _ q8) hK.1 hP hD hS hA rfl (fun j hj => by rcases (show j = 0 ∨ j = 1 ∨ j = 2 ∨ j = 3 ∨ j = 4 ∨ j = 5 ∨ j = 6 ∨ j = 7 ∨ j = 8 ∨ j = 9 by omega) with rfl | rfl | rfl | rfl | rfl | rfl | rfl | rfl | rfl | rfl <;> rfl) (Nat.le_of_ble_eq_true rfl) (Nat.le_of_ble_eq_true rfl) dL_law_8 (fun qm H hP hD hS => ?_)
  have hP : va_P D vwCl (rdW ka (adC qx ux) g0 ++ [(qm, .inr (3, [.null, .null, .null, .null, .null, .int 0, .int (nI 0), .int (nI 0), .int (nI 0), .int (nI 0)]))]) H := hP
  have hD : va_D A (rdW ka (adC qx ux) g0 ++ [(qm, .inr (3, [.null, .null, .null, .null, .null, .int 0, .int (nI 0), .int (nI 0), .int (nI 0), .int (nI 0)]))]) := hD
  refine lv_dup hx hb dL_law_11 rfl ?_
  refine w_make (wr := rdW ka (adC qx ux) g0) (va_runI (As := []) (rest := [.ref qm]) ⟨hx, hb, hml, hown, hts⟩ (m_initX4 D ka l qm _) (cwI 0 hts (lw_meth q261) rfl rfl rfl (hts _ q8) (hts _ q259) (hts _ q260) rfl (by decide +kernel) ⟨Nat.le_of_ble_eq_true rfl, Nat.le_of_ble_eq_true rfl⟩) (w_preS hK hP hD [11] (by decide) rfl) rfl rfl hl.1 rfl (lv_room (Nat.le_of_ble_eq_true rfl)) dL_law_12 ⟨Nat.le_of_ble_eq_true rfl, Nat.le_of_ble_eq_true rfl⟩) hP hD hS hA [11] [0, 1, 2, 3, 4, 5, 6, 7, 8, 9, 10] rfl rfl (by decide) (by decide) (fun um H locs hP hD hS => ?_)
  refine lv_astore_n (lv' := [(2, .ref qm), (1, .ref qx), (0, .ref b)]) hx hb dL_law_15 rfl hl (by decide) rfl (fun ls hl => ?_)
  refine lv_iconst (v := nI 0) hx hb dL_law_16 (by decide) ?_
  refine lv_istore_n (lv' := [(3, .int (nI 0)), (2, .ref qm), (1, .ref qx), (0, .ref b)]) hx hb dL_law_17 rfl hl (by decide) rfl (fun ls hl => ?_)
  refine W.widen (k := 600000) (n := 7290000) (Nat.le_of_ble_eq_true rfl) (Nat.le_of_ble_eq_true rfl) ?_
  exact law_loop l hL C0 hK hA hAl (adC qx ux) (adC qm um) (L + 1) 0 g0 (by omega) (Nat.zero_le _) ⟨⟨by decide, by decide⟩, ⟨by decide, by decide⟩⟩ H locs ls hP hD hS (lv_sub hl [3, 2, 1, 0] rfl)
end
section
set_option maxHeartbeats 4000000 in
theorem lw_walk (l : Launch) (b : Addr) (xs : List Int32) : MetFree l x (headSpec (Jvm.Cond.code x code maxLocals ret :: tables_1) room_1) (lw_P b xs) (fun _ _ _ _ _ => True) lw_Q := by
  refine MetFree.of_bodyS (code := code) (maxLocals := maxLocals) (ret := ret) (by decide) ?_ ?_
  · intro args s m h hn
    obtain ⟨meth, c, h1, h2, h3, h4, h5, h6, -, -⟩ := Cond.code_spec hn (atoms_spec (ws := Jvm.Cond.code x code maxLocals ret :: tables_1) h _ List.mem_cons_self)
    exact ⟨meth, c, h1, h2, h3, h4, h5, h6⟩
  · intro p e s m args below meth c s₁ B hml0 hP _
    obtain ⟨rfl, hx, hbd, hgv⟩ := hP
    obtain ⟨scr, harrAt, hlist, hof, hsmall⟩ := hx
    obtain ⟨hcb, hkn, -, -⟩ := State.arrayAt?_spec harrAt
    have hown : s.vm.findClass R_law = some m.cls := findClass_of_methodNamed B.named
    have hts0 : ∀ c ∈ (Jvm.Cond.code x code maxLocals ret :: tables_1), c.before #[Value.ref b] s = true := atoms_spec (ws := Jvm.Cond.code x code maxLocals ret :: tables_1) B.pre
    have hts : ∀ w ∈ lw_tbl, w.before #[Value.ref b] s = true := k2_hts_sels lw_privs (fun w hw => hts0 w (List.mem_cons_of_mem _ hw)) lw_privs_ok
    have hml : c.maxLocals = 4 := B.maxLocals_eq (hts0 _ List.mem_cons_self)
    have X₀ : Stand p l e room_1 s m #[Value.ref b] below meth c s₁ [] 0 0 := Stand.of_body B
    have hh0 : s₁.heap = s.heap := by rw [B.state]; rfl
    have hsz : scr.slots.size = xs.length := by rw [← Array.length_toList, hlist, List.length_map]
    have hval : ∀ j : Nat, j < xs.length → scr.slots[j]? = some (.int (xs.getD j 0)) := fun j hj => by
      rw [← Array.getElem?_toList, hlist]
      simp [hj]
    have hbl : b < s.heap.size := (Array.getElem?_eq_some_iff.mp hcb).1
    have hX : va_X b xs.length (fun j => xs.getD j 0) s s.heap := ⟨scr, hcb, hof, hkn, hsz, hval⟩
    have K : W p l e room_1 s m #[Value.ref b] below meth c s₁.heap [] 0 0 (lw_Z below #[Value.ref b] s) (entryFrame m ([Value.ref b] : List Value).toArray 4) := by
      rw [hh0]
      exact whole_start l hbd ⟨B.exec, B.bytes, B.returns, hml, hown, hts, hX, hbl, B.notSynchronized, hgv⟩
    obtain ⟨t, a1, o, b1, b2, b3⟩ := K s₁ rfl X₀
    exact ⟨t, o, a1, b1, b2, b3⟩
theorem lw_pre_spec {args : Array Value} {s : State} (h : (Jvm.Cond.and given_1 narrow_1).before args s = true) (hr : rest_1_c.before args s = true) : ∃ (b : Addr) (xs : List Int32), lw_P b xs args s := by
  have hs := flat_of_before _ h
  have hq := flat_of_before _ hr
  have hc : (Cond.count 1).before args s = true := hs _ (by decide +kernel)
  have harr : (Cond.arrayOf (.arg 0) .int).before args s = true := hs _ (by decide +kernel)
  have hle : (Cond.le (.length (.arg 0)) (.int 192)).before args s = true := hs _ (by decide +kernel)
  have hlen : (Cond.isInt (.length (.arg 0))).before args s = true := hq _ (by decide +kernel)
  have hall : (Cond.all (.arg 0) (.isInt (.elem (.arg 0) (.index 0)))).before args s = true := hq _ (by decide +kernel)
  obtain ⟨b, xs, hb, hx⟩ := State.ints_of_pre rfl harr hlen hall
  have hsm : xs.length < 2 ^ 31 := hx.choose_spec.2.2.2
  have hev : (Term.length (.arg 0)).eval args s none [] s = some (.int xs.length.toInt32) := hx.length_eval hb
  have hv := Cond.le_ints hev (show (Term.int 192).eval args s none [] s = some (.int 192) from rfl)
  have hd : xs.length.toInt32 ≤ 192 := by
    simpa [Cond.before, Cond.holds, hv] using hle
  have hN : xs.length ≤ 192 := (Int32.ofNat_le_ofNat hsm (by decide)).mp (show Int32.ofNat xs.length ≤ Int32.ofNat 192 from hd)
  exact ⟨b, xs, Cond.one_arg hc (show args[0]? = some (.ref b) from hb), hx, hN, h⟩
theorem lw_comes (l : Launch) : Comes l x (Jvm.Cond.code x code maxLocals ret :: tables_1) room_1 (fun tb e args s => Calls_1 tb e args s ∧ rest_1 tb e args s ∧ Pre_1 tb e args s)
    (fun _ _ args s o t => lw_Q args s o t) := by
  intro p e ha hc hk s m args below hf hfit hheap happ hpre
  obtain ⟨b, xs, hP⟩ := lw_pre_spec hpre.2.2 hpre.2.1
  obtain ⟨k, o, h1, h2, h3, hQ⟩ := lw_walk l b xs p e ha hc hk s m args below hf ((Spec.applies_iff_loose hf).mp happ).1 hP trivial
  exact ⟨k, o, h1, h2, h3, hQ⟩
theorem lw_frame {s t : State} {o : Outcome} {args : Array Value} (h : Framed s o t [] 600000 7290000) :
    Framed s o t (fieldLocs frame_1_writes args s ++ arrayLocs frame_1_arrays args s ++ staticLocs frame_1_statics s) 600000 7290000 := h
theorem lw_limb (L : Cond) (hL : ∀ (args : Array Value) (s t : State), L.after args s (.returned (some (.int 1))) t = true) :
    ArmFor flags0 classFile x code maxLocals ret World_1 tables_1 room_1 Calls_1 rest_1 Pre_1
      (fun tb e a s o t => postC L tb e a s o t ∧ Framed s o t (fieldLocs frame_1_writes a s ++ arrayLocs frame_1_arrays a s ++ staticLocs frame_1_statics s) 600000 7290000) := by
  intro l _ _ _ p e ha hc hk s m args below hf hfit hheap happ hpre
  obtain ⟨k, o, h1, h2, h3, rfl, hF⟩ := lw_comes l p e ha hc hk s m args below hf hfit hheap happ hpre
  exact ⟨k, _, h1, h2, h3, hL args s _, lw_frame hF⟩
theorem i_vc : Claimed_1_1 ∧ Claimed_1_2 := ⟨lw_limb limb_1_1 (fun args s t => by simp [limb_1_1, Cond.after, Cond.holds, Cond.value]), lw_limb limb_1_2 (fun args s t => Cond.after_iff.mpr (by
  first | (rw [show limb_1_2 = Cond.eq .result (.int 1) from rfl, Cond.eq_ints (x := 1) (y := 1) rfl rfl]; simp; done) | (simp [limb_1_2, Cond.value, Term.eval]; done)))⟩
end
