section
-- ===== PART A: goes FIRST, ahead of the names: the tables' words, and 'selects' of the private methods out of them =====
/-- a private method of a class that the tables say can be made, by its rows of tables_1 -/
def lw_okq (q : MethodName × Nat) : Prop := (q.1.cls ≠ "java/lang/invoke/MethodHandle" ∧ q.1.cls ≠ "java/lang/invoke/VarHandle") ∧ Cond.instantiable q.1.cls q.2 ∈ tables_1 ∧ Cond.privateMethod q.1 ∈ tables_1 ∧ Cond.instanceMethod q.1 ∈ tables_1
set_option maxRecDepth 100000
theorem lw_p0 : lw_okq (⟨"HalfFloat", "findWriting", "(I)V"⟩, 9) := ⟨⟨by decide +kernel, by decide +kernel⟩, List.mem_of_getElem? (i := 4) rfl, List.mem_of_getElem? (i := 98) rfl, List.mem_of_getElem? (i := 99) rfl⟩
theorem lw_p1 : lw_okq (⟨"HalfFloat", "tryPower", "(II)V"⟩, 9) := ⟨⟨by decide +kernel, by decide +kernel⟩, List.mem_of_getElem? (i := 4) rfl, List.mem_of_getElem? (i := 103) rfl, List.mem_of_getElem? (i := 104) rfl⟩
theorem lw_p2 : lw_okq (⟨"HalfFloat", "offer", "(JIJJ)V"⟩, 9) := ⟨⟨by decide +kernel, by decide +kernel⟩, List.mem_of_getElem? (i := 4) rfl, List.mem_of_getElem? (i := 108) rfl, List.mem_of_getElem? (i := 109) rfl⟩
theorem lw_p3 : lw_okq (⟨"HalfFloat", "nearer", "(JJJI)Z"⟩, 9) := ⟨⟨by decide +kernel, by decide +kernel⟩, List.mem_of_getElem? (i := 4) rfl, List.mem_of_getElem? (i := 112) rfl, List.mem_of_getElem? (i := 113) rfl⟩
theorem lw_p4 : lw_okq (⟨"HalfFloatModel", "write", "(I)V"⟩, 2) := ⟨⟨by decide +kernel, by decide +kernel⟩, List.mem_of_getElem? (i := 132) rfl, List.mem_of_getElem? (i := 207) rfl, List.mem_of_getElem? (i := 208) rfl⟩
theorem lw_p5 : lw_okq (⟨"HalfFloatModel", "take", "(JIJ)V"⟩, 2) := ⟨⟨by decide +kernel, by decide +kernel⟩, List.mem_of_getElem? (i := 132) rfl, List.mem_of_getElem? (i := 214) rfl, List.mem_of_getElem? (i := 215) rfl⟩
def lw_privs_1 : List (MethodName × Nat) := [(⟨"HalfFloat", "findWriting", "(I)V"⟩, 9), (⟨"HalfFloat", "tryPower", "(II)V"⟩, 9), (⟨"HalfFloat", "offer", "(JIJJ)V"⟩, 9), (⟨"HalfFloat", "nearer", "(JJJI)Z"⟩, 9), (⟨"HalfFloatModel", "write", "(I)V"⟩, 2), (⟨"HalfFloatModel", "take", "(JIJ)V"⟩, 2)]
theorem lw_r1 : ∀ q ∈ lw_privs_1, lw_okq q := List.forall_mem_cons.mpr ⟨lw_p0, List.forall_mem_cons.mpr ⟨lw_p1, List.forall_mem_cons.mpr ⟨lw_p2, List.forall_mem_cons.mpr ⟨lw_p3, List.forall_mem_cons.mpr ⟨lw_p4, List.forall_mem_cons.mpr ⟨lw_p5, fun _ h => absurd h List.not_mem_nil⟩⟩⟩⟩⟩⟩
def lw_privs : List (MethodName × Nat) := lw_privs_1
def lw_tbl : List Cond := k2_sels lw_privs ++ tables_1
theorem lw_privs_ok : ∀ q ∈ lw_privs, lw_okq q := lw_r1
-- ===== ONE list of words for every method: the tables' words that hold all through a run =====
def lw_all : List Cond := lw_tbl.filter goodWord
/-- a word of the tables by its place: claim/WORDS.tsv -/
theorem lw_w {w : Cond} (i : Nat) (h : lw_tbl[i]? = some w) (g : goodWord w = true) : w ∈ lw_all := List.mem_filter.mpr ⟨List.mem_of_getElem? h, g⟩
theorem lw_all_tbl {w : Cond} (h : w ∈ lw_all) : w ∈ lw_tbl := (List.mem_filter.mp h).1
theorem lw_self : GoodIn lw_all lw_all := fun w h => ⟨h, good_of_word (List.mem_filter.mp h).2⟩
/-- a class's field words, by their places -/
theorem lw_in (ws : List Cond) (ps : List Nat) (hp : ws = ps.filterMap (fun i => lw_tbl[i]?)) (hg : ws.all goodWord = true) : ∀ w ∈ ws, w ∈ lw_all := by
  intro w h
  have h1 := List.all_eq_true.mp hg w h
  rw [hp] at h
  obtain ⟨i, -, hi⟩ := List.mem_filterMap.mp h
  exact lw_w i hi h1
/-- the words of a contract for the method y with code b, L locals, answer r -/
abbrev ws_ (y : MethodName) (b : ByteArray) (L : Nat) (r : Option FieldType) : List Cond := Cond.code y b L r :: lw_all
theorem lw_meth {y : MethodName} {b : ByteArray} {L : Nat} {r : Option FieldType} (h : Cond.code y b L r ∈ lw_all) : GoodIn lw_all (ws_ y b L r) := by
  intro w hw
  rcases List.mem_cons.mp hw with e | e
  · rw [e]
    exact lw_self _ h
  · exact lw_self _ e
theorem lw_app {a c : List Cond} (ha : ∀ w ∈ a, w ∈ lw_all) (hc : GoodIn lw_all c) : GoodIn lw_all (a ++ c) := by
  intro w hw
  rcases List.mem_append.mp hw with e | e
  · exact lw_self w (ha w e)
  · exact hc w e
/-- what a call through an object asks: cwV n hts (lw_V ..) -/
theorem lw_V {own : String} {idx : Nat} {C : String} {y : MethodName} {b : ByteArray} {L : Nat} {r : Option FieldType} (h1 : Cond.methodLink own idx y ∈ lw_all) (h2 : Cond.instanceMethod y ∈ lw_all) (h3 : Cond.selects C y y ∈ lw_all) (h4 : Cond.initialized C ∈ lw_all) (h5 : Cond.code y b L r ∈ lw_all) : GoodIn lw_all (wsV own idx C y (ws_ y b L r)) := by
  refine lw_app ?_ (lw_meth h5)
  intro w hw
  simp only [List.mem_cons, List.not_mem_nil, or_false] at hw
  rcases hw with e | e | e | e
  · rw [e]; exact h1
  · rw [e]; exact h2
  · rw [e]; exact h3
  · rw [e]; exact h4
/-- what a static call asks: va_cwS n hts (lw_S ..) -/
theorem lw_S {own : String} {idx : Nat} {y : MethodName} {b : ByteArray} {L : Nat} {r : Option FieldType} (h1 : Cond.methodLink own idx y ∈ lw_all) (h2 : Cond.static y ∈ lw_all) (h3 : Cond.initialized y.cls ∈ lw_all) (h4 : Cond.code y b L r ∈ lw_all) : GoodIn lw_all (va_wsS own idx y (ws_ y b L r)) := by
  refine lw_app ?_ (lw_meth h4)
  intro w hw
  simp only [List.mem_cons, List.not_mem_nil, or_false] at hw
  rcases hw with e | e | e
  · rw [e]; exact h1
  · rw [e]; exact h2
  · rw [e]; exact h3
/-- the words of a contract for a method WITH HANDLERS (hh: its table) -/
abbrev wsW_ (y : MethodName) (b : ByteArray) (L : Nat) (r : Option FieldType) (hh : List (Nat × Nat × Nat × Nat)) : List Cond := Cond.codeWith y b L r hh :: lw_all
theorem lw_methW {y : MethodName} {b : ByteArray} {L : Nat} {r : Option FieldType} {hh : List (Nat × Nat × Nat × Nat)} (h : Cond.codeWith y b L r hh ∈ lw_all) : GoodIn lw_all (wsW_ y b L r hh) := by
  intro w hw
  rcases List.mem_cons.mp hw with e | e
  · rw [e]
    exact lw_self _ h
  · exact lw_self _ e
/-- any list of words by their places (lw_in), good -/
theorem lw_good {ws : List Cond} (h : ∀ w ∈ ws, w ∈ lw_all) : GoodIn lw_all ws := fun w hw => lw_self w (h w hw)
/-- what a call of a method with handlers asks: vx_cwVW n hts (lw_VW ..), vx_cwSW n hts (lw_SW ..) -/
theorem lw_VW {own : String} {idx : Nat} {C : String} {y : MethodName} {b : ByteArray} {L : Nat} {r : Option FieldType} {hh : List (Nat × Nat × Nat × Nat)} (h1 : Cond.methodLink own idx y ∈ lw_all) (h2 : Cond.instanceMethod y ∈ lw_all) (h3 : Cond.selects C y y ∈ lw_all) (h4 : Cond.initialized C ∈ lw_all) (h5 : Cond.codeWith y b L r hh ∈ lw_all) : GoodIn lw_all (wsV own idx C y (wsW_ y b L r hh)) := by
  refine lw_app ?_ (lw_methW h5)
  intro w hw
  simp only [List.mem_cons, List.not_mem_nil, or_false] at hw
  rcases hw with e | e | e | e
  · rw [e]; exact h1
  · rw [e]; exact h2
  · rw [e]; exact h3
  · rw [e]; exact h4
theorem lw_SW {own : String} {idx : Nat} {y : MethodName} {b : ByteArray} {L : Nat} {r : Option FieldType} {hh : List (Nat × Nat × Nat × Nat)} (h1 : Cond.methodLink own idx y ∈ lw_all) (h2 : Cond.static y ∈ lw_all) (h3 : Cond.initialized y.cls ∈ lw_all) (h4 : Cond.codeWith y b L r hh ∈ lw_all) : GoodIn lw_all (va_wsS own idx y (wsW_ y b L r hh)) := by
  refine lw_app ?_ (lw_methW h4)
  intro w hw
  simp only [List.mem_cons, List.not_mem_nil, or_false] at hw
  rcases hw with e | e | e
  · rw [e]; exact h1
  · rw [e]; exact h2
  · rw [e]; exact h3
/-- a word by its place in its run of the tables -/
theorem lw_at {r : List Cond} (hr : ∀ w ∈ r, w ∈ lw_tbl) {w : Cond} (i : Nat) (h : r[i]? = some w) : w ∈ lw_tbl := hr w (List.mem_of_getElem? h)
theorem lw_g {w : Cond} (h : w ∈ lw_tbl) (g : goodWord w = true) : w ∈ lw_all := List.mem_filter.mpr ⟨h, g⟩
theorem lw_ms : ∀ w ∈ k2_sels lw_privs, w ∈ lw_tbl := fun w h => show w ∈ k2_sels lw_privs ++ tables_1 from List.mem_append_left _ h
theorem lw_m0 : ∀ w ∈ tables_1, w ∈ lw_tbl := fun w h => show w ∈ k2_sels lw_privs ++ tables_1 from List.mem_append_right (k2_sels lw_privs) h
theorem qs0 : (Cond.selects "HalfFloat" ⟨"HalfFloat", "findWriting", "(I)V"⟩ ⟨"HalfFloat", "findWriting", "(I)V"⟩) ∈ lw_all := lw_g (lw_at lw_ms 0 rfl) rfl
theorem qs1 : (Cond.selects "HalfFloat" ⟨"HalfFloat", "tryPower", "(II)V"⟩ ⟨"HalfFloat", "tryPower", "(II)V"⟩) ∈ lw_all := lw_g (lw_at lw_ms 1 rfl) rfl
theorem qs2 : (Cond.selects "HalfFloat" ⟨"HalfFloat", "offer", "(JIJJ)V"⟩ ⟨"HalfFloat", "offer", "(JIJJ)V"⟩) ∈ lw_all := lw_g (lw_at lw_ms 2 rfl) rfl
theorem qs3 : (Cond.selects "HalfFloat" ⟨"HalfFloat", "nearer", "(JJJI)Z"⟩ ⟨"HalfFloat", "nearer", "(JJJI)Z"⟩) ∈ lw_all := lw_g (lw_at lw_ms 3 rfl) rfl
theorem qs4 : (Cond.selects "HalfFloatModel" ⟨"HalfFloatModel", "write", "(I)V"⟩ ⟨"HalfFloatModel", "write", "(I)V"⟩) ∈ lw_all := lw_g (lw_at lw_ms 4 rfl) rfl
theorem qs5 : (Cond.selects "HalfFloatModel" ⟨"HalfFloatModel", "take", "(JIJ)V"⟩ ⟨"HalfFloatModel", "take", "(JIJ)V"⟩) ∈ lw_all := lw_g (lw_at lw_ms 5 rfl) rfl
end
section
/-! java/lang/Object -/
set_option maxRecDepth 100000
def RJ0 : String := "java/lang/Object"
abbrev cJ0_init : ByteArray := object_method_1_code
def yJ0_init : MethodName := ⟨RJ0, "<init>", "()V"⟩
theorem dJ0_init_0 : decode cJ0_init 0 = .ok (.return_, 1) := by decide +kernel
theorem q15 : (Jvm.Cond.instanceMethod ({ cls := "java/lang/Object", name := "<init>", desc := "()V" } : Jvm.MethodName)) ∈ lw_all := lw_g (lw_at lw_m0 9 rfl) rfl
theorem q16 : (Jvm.Cond.code ({ cls := "java/lang/Object", name := "<init>", desc := "()V" } : Jvm.MethodName) object_method_1_code (1 : Nat) (Option.none : Option Jvm.ClassFile.FieldType)) ∈ lw_all := lw_g (lw_at lw_m0 10 rfl) rfl
end
section
/-! HalfFloat -/
set_option maxRecDepth 100000
def RX0 : String := "HalfFloat"
def TX0 : u_T := fun k => match k with
  | 0 => ("HalfFloat", "own", "J", false)
  | 1 => ("HalfFloat", "low", "J", false)
  | 2 => ("HalfFloat", "high", "J", false)
  | 3 => ("HalfFloat", "closed", "Z", false)
  | 4 => ("HalfFloat", "some", "Z", false)
  | 5 => ("HalfFloat", "bestDigits", "I", false)
  | 6 => ("HalfFloat", "bestExponent", "I", false)
  | 7 => ("HalfFloat", "bestGap", "J", false)
  | _ => ("HalfFloat", "bestScale", "J", false)
def tyX0 : Nat → FieldType := fun k => match k with
  | 0 => .long
  | 1 => .long
  | 2 => .long
  | 3 => .boolean
  | 4 => .boolean
  | 5 => .int
  | 6 => .int
  | 7 => .long
  | _ => .long
abbrev wsX00 : List Cond := u_ws RX0 TX0 9
theorem nmX0 : ∀ a, a < 9 → ∀ b, b < 9 → a ≠ b → (TX0 a).2.1 ≠ (TX0 b).2.1 := by decide +kernel
theorem tyX0_ok : ∀ k, k < 9 → parseFieldDescriptor (TX0 k).2.2.1 = some (tyX0 k) := by decide +kernel
abbrev cX0_init : ByteArray := prog_1_method_1_code
def yX0_init : MethodName := ⟨RX0, "<init>", "()V"⟩
theorem dX0_init_0 : decode cX0_init 0 = .ok (.aload_n 0, 1) := by decide +kernel
theorem dX0_init_1 : decode cX0_init 1 = .ok (.invokespecial 1, 3) := by decide +kernel
theorem dX0_init_4 : decode cX0_init 4 = .ok (.return_, 1) := by decide +kernel
abbrev cX0_add : ByteArray := prog_1_method_2_code
def yX0_add : MethodName := ⟨RX0, "add", "(II)I"⟩
theorem dX0_add_0 : decode cX0_add 0 = .ok (.iload_n 1, 1) := by decide +kernel
theorem dX0_add_1 : decode cX0_add 1 = .ok (.invokestatic 7, 3) := by decide +kernel
theorem dX0_add_4 : decode cX0_add 4 = .ok (.ifCond .eq 10, 3) := by decide +kernel
theorem dX0_add_7 : decode cX0_add 7 = .ok (.iload_n 2, 1) := by decide +kernel
theorem dX0_add_8 : decode cX0_add 8 = .ok (.invokestatic 7, 3) := by decide +kernel
theorem dX0_add_11 : decode cX0_add 11 = .ok (.ifCond .ne 5, 3) := by decide +kernel
theorem dX0_add_14 : decode cX0_add 14 = .ok (.iconst (-1), 1) := by decide +kernel
theorem dX0_add_15 : decode cX0_add 15 = .ok (.ireturn, 1) := by decide +kernel
theorem dX0_add_16 : decode cX0_add 16 = .ok (.iload_n 1, 1) := by decide +kernel
theorem dX0_add_17 : decode cX0_add 17 = .ok (.invokestatic 13, 3) := by decide +kernel
theorem dX0_add_20 : decode cX0_add 20 = .ok (.iload_n 2, 1) := by decide +kernel
theorem dX0_add_21 : decode cX0_add 21 = .ok (.invokestatic 13, 3) := by decide +kernel
theorem dX0_add_24 : decode cX0_add 24 = .ok (.ladd, 1) := by decide +kernel
theorem dX0_add_25 : decode cX0_add 25 = .ok (.lstore_n 3, 1) := by decide +kernel
theorem dX0_add_26 : decode cX0_add 26 = .ok (.lload_n 3, 1) := by decide +kernel
theorem dX0_add_27 : decode cX0_add 27 = .ok (.lconst 0, 1) := by decide +kernel
theorem dX0_add_28 : decode cX0_add 28 = .ok (.lcmp, 1) := by decide +kernel
theorem dX0_add_29 : decode cX0_add 29 = .ok (.ifCond .ge 8, 3) := by decide +kernel
theorem dX0_add_32 : decode cX0_add 32 = .ok (.lload_n 3, 1) := by decide +kernel
theorem dX0_add_33 : decode cX0_add 33 = .ok (.lneg, 1) := by decide +kernel
theorem dX0_add_34 : decode cX0_add 34 = .ok (.goto 4, 3) := by decide +kernel
theorem dX0_add_37 : decode cX0_add 37 = .ok (.lload_n 3, 1) := by decide +kernel
theorem dX0_add_38 : decode cX0_add 38 = .ok (.iconst 0, 1) := by decide +kernel
theorem dX0_add_39 : decode cX0_add 39 = .ok (.invokestatic 17, 3) := by decide +kernel
theorem dX0_add_42 : decode cX0_add 42 = .ok (.istore 5, 2) := by decide +kernel
theorem dX0_add_44 : decode cX0_add 44 = .ok (.lload_n 3, 1) := by decide +kernel
theorem dX0_add_45 : decode cX0_add 45 = .ok (.lconst 0, 1) := by decide +kernel
theorem dX0_add_46 : decode cX0_add 46 = .ok (.lcmp, 1) := by decide +kernel
theorem dX0_add_47 : decode cX0_add 47 = .ok (.ifCond .ge 11, 3) := by decide +kernel
theorem dX0_add_50 : decode cX0_add 50 = .ok (.iload 5, 2) := by decide +kernel
theorem dX0_add_52 : decode cX0_add 52 = .ok (.invokestatic 21, 3) := by decide +kernel
theorem dX0_add_55 : decode cX0_add 55 = .ok (.goto 5, 3) := by decide +kernel
theorem dX0_add_58 : decode cX0_add 58 = .ok (.iload 5, 2) := by decide +kernel
theorem dX0_add_60 : decode cX0_add 60 = .ok (.ireturn, 1) := by decide +kernel
abbrev cX0_isNumber : ByteArray := prog_1_method_11_code
def yX0_isNumber : MethodName := ⟨RX0, "isNumber", "(I)Z"⟩
theorem dX0_isNumber_0 : decode cX0_isNumber 0 = .ok (.iload_n 0, 1) := by decide +kernel
theorem dX0_isNumber_1 : decode cX0_isNumber 1 = .ok (.ifCond .lt 24, 3) := by decide +kernel
theorem dX0_isNumber_4 : decode cX0_isNumber 4 = .ok (.iload_n 0, 1) := by decide +kernel
theorem dX0_isNumber_5 : decode cX0_isNumber 5 = .ok (.ldc 58, 2) := by decide +kernel
theorem dX0_isNumber_7 : decode cX0_isNumber 7 = .ok (.if_icmp .gt 18, 3) := by decide +kernel
theorem dX0_isNumber_10 : decode cX0_isNumber 10 = .ok (.iload_n 0, 1) := by decide +kernel
theorem dX0_isNumber_11 : decode cX0_isNumber 11 = .ok (.sipush 31744, 3) := by decide +kernel
theorem dX0_isNumber_14 : decode cX0_isNumber 14 = .ok (.iand, 1) := by decide +kernel
theorem dX0_isNumber_15 : decode cX0_isNumber 15 = .ok (.sipush 31744, 3) := by decide +kernel
theorem dX0_isNumber_18 : decode cX0_isNumber 18 = .ok (.if_icmp .eq 7, 3) := by decide +kernel
theorem dX0_isNumber_21 : decode cX0_isNumber 21 = .ok (.iconst 1, 1) := by decide +kernel
theorem dX0_isNumber_22 : decode cX0_isNumber 22 = .ok (.goto 4, 3) := by decide +kernel
theorem dX0_isNumber_25 : decode cX0_isNumber 25 = .ok (.iconst 0, 1) := by decide +kernel
theorem dX0_isNumber_26 : decode cX0_isNumber 26 = .ok (.ireturn, 1) := by decide +kernel
abbrev cX0_signed : ByteArray := prog_1_method_14_code
def yX0_signed : MethodName := ⟨RX0, "signed", "(I)J"⟩
theorem dX0_signed_0 : decode cX0_signed 0 = .ok (.iload_n 0, 1) := by decide +kernel
theorem dX0_signed_1 : decode cX0_signed 1 = .ok (.invokestatic 25, 3) := by decide +kernel
theorem dX0_signed_4 : decode cX0_signed 4 = .ok (.i2l, 1) := by decide +kernel
theorem dX0_signed_5 : decode cX0_signed 5 = .ok (.iload_n 0, 1) := by decide +kernel
theorem dX0_signed_6 : decode cX0_signed 6 = .ok (.invokestatic 28, 3) := by decide +kernel
theorem dX0_signed_9 : decode cX0_signed 9 = .ok (.iconst 4, 1) := by decide +kernel
theorem dX0_signed_10 : decode cX0_signed 10 = .ok (.iadd, 1) := by decide +kernel
theorem dX0_signed_11 : decode cX0_signed 11 = .ok (.lshl, 1) := by decide +kernel
theorem dX0_signed_12 : decode cX0_signed 12 = .ok (.lstore_n 1, 1) := by decide +kernel
theorem dX0_signed_13 : decode cX0_signed 13 = .ok (.iload_n 0, 1) := by decide +kernel
theorem dX0_signed_14 : decode cX0_signed 14 = .ok (.ldc 35, 2) := by decide +kernel
theorem dX0_signed_16 : decode cX0_signed 16 = .ok (.if_icmp .lt 8, 3) := by decide +kernel
theorem dX0_signed_19 : decode cX0_signed 19 = .ok (.lload_n 1, 1) := by decide +kernel
theorem dX0_signed_20 : decode cX0_signed 20 = .ok (.lneg, 1) := by decide +kernel
theorem dX0_signed_21 : decode cX0_signed 21 = .ok (.goto 4, 3) := by decide +kernel
theorem dX0_signed_24 : decode cX0_signed 24 = .ok (.lload_n 1, 1) := by decide +kernel
theorem dX0_signed_25 : decode cX0_signed 25 = .ok (.lreturn, 1) := by decide +kernel
abbrev cX0_digitsOf : ByteArray := prog_1_method_12_code
def yX0_digitsOf : MethodName := ⟨RX0, "digitsOf", "(I)I"⟩
theorem dX0_digitsOf_0 : decode cX0_digitsOf 0 = .ok (.iload_n 0, 1) := by decide +kernel
theorem dX0_digitsOf_1 : decode cX0_digitsOf 1 = .ok (.sipush 1023, 3) := by decide +kernel
theorem dX0_digitsOf_4 : decode cX0_digitsOf 4 = .ok (.iand, 1) := by decide +kernel
theorem dX0_digitsOf_5 : decode cX0_digitsOf 5 = .ok (.istore_n 1, 1) := by decide +kernel
theorem dX0_digitsOf_6 : decode cX0_digitsOf 6 = .ok (.iload_n 0, 1) := by decide +kernel
theorem dX0_digitsOf_7 : decode cX0_digitsOf 7 = .ok (.bipush 10, 2) := by decide +kernel
theorem dX0_digitsOf_9 : decode cX0_digitsOf 9 = .ok (.iushr, 1) := by decide +kernel
theorem dX0_digitsOf_10 : decode cX0_digitsOf 10 = .ok (.bipush 31, 2) := by decide +kernel
theorem dX0_digitsOf_12 : decode cX0_digitsOf 12 = .ok (.iand, 1) := by decide +kernel
theorem dX0_digitsOf_13 : decode cX0_digitsOf 13 = .ok (.ifCond .ne 7, 3) := by decide +kernel
theorem dX0_digitsOf_16 : decode cX0_digitsOf 16 = .ok (.iload_n 1, 1) := by decide +kernel
theorem dX0_digitsOf_17 : decode cX0_digitsOf 17 = .ok (.goto 8, 3) := by decide +kernel
theorem dX0_digitsOf_20 : decode cX0_digitsOf 20 = .ok (.sipush 1024, 3) := by decide +kernel
theorem dX0_digitsOf_23 : decode cX0_digitsOf 23 = .ok (.iload_n 1, 1) := by decide +kernel
theorem dX0_digitsOf_24 : decode cX0_digitsOf 24 = .ok (.iadd, 1) := by decide +kernel
theorem dX0_digitsOf_25 : decode cX0_digitsOf 25 = .ok (.ireturn, 1) := by decide +kernel
abbrev cX0_placeOf : ByteArray := prog_1_method_13_code
def yX0_placeOf : MethodName := ⟨RX0, "placeOf", "(I)I"⟩
theorem dX0_placeOf_0 : decode cX0_placeOf 0 = .ok (.iload_n 0, 1) := by decide +kernel
theorem dX0_placeOf_1 : decode cX0_placeOf 1 = .ok (.bipush 10, 2) := by decide +kernel
theorem dX0_placeOf_3 : decode cX0_placeOf 3 = .ok (.iushr, 1) := by decide +kernel
theorem dX0_placeOf_4 : decode cX0_placeOf 4 = .ok (.bipush 31, 2) := by decide +kernel
theorem dX0_placeOf_6 : decode cX0_placeOf 6 = .ok (.iand, 1) := by decide +kernel
theorem dX0_placeOf_7 : decode cX0_placeOf 7 = .ok (.istore_n 1, 1) := by decide +kernel
theorem dX0_placeOf_8 : decode cX0_placeOf 8 = .ok (.iload_n 1, 1) := by decide +kernel
theorem dX0_placeOf_9 : decode cX0_placeOf 9 = .ok (.ifCond .ne 7, 3) := by decide +kernel
theorem dX0_placeOf_12 : decode cX0_placeOf 12 = .ok (.iconst 0, 1) := by decide +kernel
theorem dX0_placeOf_13 : decode cX0_placeOf 13 = .ok (.goto 6, 3) := by decide +kernel
theorem dX0_placeOf_16 : decode cX0_placeOf 16 = .ok (.iload_n 1, 1) := by decide +kernel
theorem dX0_placeOf_17 : decode cX0_placeOf 17 = .ok (.iconst 1, 1) := by decide +kernel
theorem dX0_placeOf_18 : decode cX0_placeOf 18 = .ok (.isub, 1) := by decide +kernel
theorem dX0_placeOf_19 : decode cX0_placeOf 19 = .ok (.ireturn, 1) := by decide +kernel
abbrev cX0_round : ByteArray := prog_1_method_19_code
def yX0_round : MethodName := ⟨RX0, "round", "(JZ)I"⟩
theorem dX0_round_0 : decode cX0_round 0 = .ok (.iconst 4, 1) := by decide +kernel
theorem dX0_round_1 : decode cX0_round 1 = .ok (.istore_n 3, 1) := by decide +kernel
theorem dX0_round_2 : decode cX0_round 2 = .ok (.iconst 0, 1) := by decide +kernel
theorem dX0_round_3 : decode cX0_round 3 = .ok (.istore 4, 2) := by decide +kernel
theorem dX0_round_5 : decode cX0_round 5 = .ok (.iload 4, 2) := by decide +kernel
theorem dX0_round_7 : decode cX0_round 7 = .ok (.bipush 50, 2) := by decide +kernel
theorem dX0_round_9 : decode cX0_round 9 = .ok (.if_icmp .ge 22, 3) := by decide +kernel
theorem dX0_round_12 : decode cX0_round 12 = .ok (.lload_n 0, 1) := by decide +kernel
theorem dX0_round_13 : decode cX0_round 13 = .ok (.iload_n 3, 1) := by decide +kernel
theorem dX0_round_14 : decode cX0_round 14 = .ok (.lshr, 1) := by decide +kernel
theorem dX0_round_15 : decode cX0_round 15 = .ok (.ldc2_w 61, 3) := by decide +kernel
theorem dX0_round_18 : decode cX0_round 18 = .ok (.lcmp, 1) := by decide +kernel
theorem dX0_round_19 : decode cX0_round 19 = .ok (.ifCond .le 12, 3) := by decide +kernel
theorem dX0_round_22 : decode cX0_round 22 = .ok (.iinc 3 1, 3) := by decide +kernel
theorem dX0_round_25 : decode cX0_round 25 = .ok (.iinc 4 1, 3) := by decide +kernel
theorem dX0_round_28 : decode cX0_round 28 = .ok (.goto (-23), 3) := by decide +kernel
theorem dX0_round_31 : decode cX0_round 31 = .ok (.lload_n 0, 1) := by decide +kernel
theorem dX0_round_32 : decode cX0_round 32 = .ok (.iload_n 3, 1) := by decide +kernel
theorem dX0_round_33 : decode cX0_round 33 = .ok (.lshr, 1) := by decide +kernel
theorem dX0_round_34 : decode cX0_round 34 = .ok (.lstore 4, 2) := by decide +kernel
theorem dX0_round_36 : decode cX0_round 36 = .ok (.lload_n 0, 1) := by decide +kernel
theorem dX0_round_37 : decode cX0_round 37 = .ok (.lload 4, 2) := by decide +kernel
theorem dX0_round_39 : decode cX0_round 39 = .ok (.iload_n 3, 1) := by decide +kernel
theorem dX0_round_40 : decode cX0_round 40 = .ok (.lshl, 1) := by decide +kernel
theorem dX0_round_41 : decode cX0_round 41 = .ok (.lsub, 1) := by decide +kernel
theorem dX0_round_42 : decode cX0_round 42 = .ok (.lstore 6, 2) := by decide +kernel
theorem dX0_round_44 : decode cX0_round 44 = .ok (.lconst 1, 1) := by decide +kernel
theorem dX0_round_45 : decode cX0_round 45 = .ok (.iload_n 3, 1) := by decide +kernel
theorem dX0_round_46 : decode cX0_round 46 = .ok (.iconst 1, 1) := by decide +kernel
theorem dX0_round_47 : decode cX0_round 47 = .ok (.isub, 1) := by decide +kernel
theorem dX0_round_48 : decode cX0_round 48 = .ok (.lshl, 1) := by decide +kernel
theorem dX0_round_49 : decode cX0_round 49 = .ok (.lstore 8, 2) := by decide +kernel
theorem dX0_round_51 : decode cX0_round 51 = .ok (.lload 6, 2) := by decide +kernel
theorem dX0_round_53 : decode cX0_round 53 = .ok (.lload 8, 2) := by decide +kernel
theorem dX0_round_55 : decode cX0_round 55 = .ok (.lcmp, 1) := by decide +kernel
theorem dX0_round_56 : decode cX0_round 56 = .ok (.ifCond .gt 24, 3) := by decide +kernel
theorem dX0_round_59 : decode cX0_round 59 = .ok (.lload 6, 2) := by decide +kernel
theorem dX0_round_61 : decode cX0_round 61 = .ok (.lload 8, 2) := by decide +kernel
theorem dX0_round_63 : decode cX0_round 63 = .ok (.lcmp, 1) := by decide +kernel
theorem dX0_round_64 : decode cX0_round 64 = .ok (.ifCond .ne 20, 3) := by decide +kernel
theorem dX0_round_67 : decode cX0_round 67 = .ok (.iload_n 2, 1) := by decide +kernel
theorem dX0_round_68 : decode cX0_round 68 = .ok (.ifCond .ne 12, 3) := by decide +kernel
theorem dX0_round_71 : decode cX0_round 71 = .ok (.lload 4, 2) := by decide +kernel
theorem dX0_round_73 : decode cX0_round 73 = .ok (.lconst 1, 1) := by decide +kernel
theorem dX0_round_74 : decode cX0_round 74 = .ok (.land, 1) := by decide +kernel
theorem dX0_round_75 : decode cX0_round 75 = .ok (.lconst 0, 1) := by decide +kernel
theorem dX0_round_76 : decode cX0_round 76 = .ok (.lcmp, 1) := by decide +kernel
theorem dX0_round_77 : decode cX0_round 77 = .ok (.ifCond .eq 7, 3) := by decide +kernel
theorem dX0_round_80 : decode cX0_round 80 = .ok (.iconst 1, 1) := by decide +kernel
theorem dX0_round_81 : decode cX0_round 81 = .ok (.goto 4, 3) := by decide +kernel
theorem dX0_round_84 : decode cX0_round 84 = .ok (.iconst 0, 1) := by decide +kernel
theorem dX0_round_85 : decode cX0_round 85 = .ok (.istore 10, 2) := by decide +kernel
theorem dX0_round_87 : decode cX0_round 87 = .ok (.iload_n 3, 1) := by decide +kernel
theorem dX0_round_88 : decode cX0_round 88 = .ok (.iconst 4, 1) := by decide +kernel
theorem dX0_round_89 : decode cX0_round 89 = .ok (.isub, 1) := by decide +kernel
theorem dX0_round_90 : decode cX0_round 90 = .ok (.bipush 10, 2) := by decide +kernel
theorem dX0_round_92 : decode cX0_round 92 = .ok (.ishl, 1) := by decide +kernel
theorem dX0_round_93 : decode cX0_round 93 = .ok (.i2l, 1) := by decide +kernel
theorem dX0_round_94 : decode cX0_round 94 = .ok (.lload 4, 2) := by decide +kernel
theorem dX0_round_96 : decode cX0_round 96 = .ok (.ladd, 1) := by decide +kernel
theorem dX0_round_97 : decode cX0_round 97 = .ok (.iload 10, 2) := by decide +kernel
theorem dX0_round_99 : decode cX0_round 99 = .ok (.ifCond .eq 7, 3) := by decide +kernel
theorem dX0_round_102 : decode cX0_round 102 = .ok (.iconst 1, 1) := by decide +kernel
theorem dX0_round_103 : decode cX0_round 103 = .ok (.goto 4, 3) := by decide +kernel
theorem dX0_round_106 : decode cX0_round 106 = .ok (.iconst 0, 1) := by decide +kernel
theorem dX0_round_107 : decode cX0_round 107 = .ok (.i2l, 1) := by decide +kernel
theorem dX0_round_108 : decode cX0_round 108 = .ok (.ladd, 1) := by decide +kernel
theorem dX0_round_109 : decode cX0_round 109 = .ok (.lstore 11, 2) := by decide +kernel
theorem dX0_round_111 : decode cX0_round 111 = .ok (.lload 11, 2) := by decide +kernel
theorem dX0_round_113 : decode cX0_round 113 = .ok (.ldc2_w 63, 3) := by decide +kernel
theorem dX0_round_116 : decode cX0_round 116 = .ok (.lcmp, 1) := by decide +kernel
theorem dX0_round_117 : decode cX0_round 117 = .ok (.ifCond .le 9, 3) := by decide +kernel
theorem dX0_round_120 : decode cX0_round 120 = .ok (.sipush 31744, 3) := by decide +kernel
theorem dX0_round_123 : decode cX0_round 123 = .ok (.goto 6, 3) := by decide +kernel
theorem dX0_round_126 : decode cX0_round 126 = .ok (.lload 11, 2) := by decide +kernel
theorem dX0_round_128 : decode cX0_round 128 = .ok (.l2i, 1) := by decide +kernel
theorem dX0_round_129 : decode cX0_round 129 = .ok (.ireturn, 1) := by decide +kernel
abbrev cX0_negative : ByteArray := prog_1_method_15_code
def yX0_negative : MethodName := ⟨RX0, "negative", "(I)I"⟩
theorem dX0_negative_0 : decode cX0_negative 0 = .ok (.iload_n 0, 1) := by decide +kernel
theorem dX0_negative_1 : decode cX0_negative 1 = .ok (.ifCond .ne 7, 3) := by decide +kernel
theorem dX0_negative_4 : decode cX0_negative 4 = .ok (.iconst 0, 1) := by decide +kernel
theorem dX0_negative_5 : decode cX0_negative 5 = .ok (.goto 7, 3) := by decide +kernel
theorem dX0_negative_8 : decode cX0_negative 8 = .ok (.iload_n 0, 1) := by decide +kernel
theorem dX0_negative_9 : decode cX0_negative 9 = .ok (.ldc 35, 2) := by decide +kernel
theorem dX0_negative_11 : decode cX0_negative 11 = .ok (.iadd, 1) := by decide +kernel
theorem dX0_negative_12 : decode cX0_negative 12 = .ok (.ireturn, 1) := by decide +kernel
abbrev cX0_multiply : ByteArray := prog_1_method_3_code
def yX0_multiply : MethodName := ⟨RX0, "multiply", "(II)I"⟩
theorem dX0_multiply_0 : decode cX0_multiply 0 = .ok (.iload_n 1, 1) := by decide +kernel
theorem dX0_multiply_1 : decode cX0_multiply 1 = .ok (.invokestatic 7, 3) := by decide +kernel
theorem dX0_multiply_4 : decode cX0_multiply 4 = .ok (.ifCond .eq 10, 3) := by decide +kernel
theorem dX0_multiply_7 : decode cX0_multiply 7 = .ok (.iload_n 2, 1) := by decide +kernel
theorem dX0_multiply_8 : decode cX0_multiply 8 = .ok (.invokestatic 7, 3) := by decide +kernel
theorem dX0_multiply_11 : decode cX0_multiply 11 = .ok (.ifCond .ne 5, 3) := by decide +kernel
theorem dX0_multiply_14 : decode cX0_multiply 14 = .ok (.iconst (-1), 1) := by decide +kernel
theorem dX0_multiply_15 : decode cX0_multiply 15 = .ok (.ireturn, 1) := by decide +kernel
theorem dX0_multiply_16 : decode cX0_multiply 16 = .ok (.iload_n 1, 1) := by decide +kernel
theorem dX0_multiply_17 : decode cX0_multiply 17 = .ok (.invokestatic 25, 3) := by decide +kernel
theorem dX0_multiply_20 : decode cX0_multiply 20 = .ok (.i2l, 1) := by decide +kernel
theorem dX0_multiply_21 : decode cX0_multiply 21 = .ok (.iload_n 2, 1) := by decide +kernel
theorem dX0_multiply_22 : decode cX0_multiply 22 = .ok (.invokestatic 25, 3) := by decide +kernel
theorem dX0_multiply_25 : decode cX0_multiply 25 = .ok (.i2l, 1) := by decide +kernel
theorem dX0_multiply_26 : decode cX0_multiply 26 = .ok (.lmul, 1) := by decide +kernel
theorem dX0_multiply_27 : decode cX0_multiply 27 = .ok (.lstore_n 3, 1) := by decide +kernel
theorem dX0_multiply_28 : decode cX0_multiply 28 = .ok (.iload_n 1, 1) := by decide +kernel
theorem dX0_multiply_29 : decode cX0_multiply 29 = .ok (.invokestatic 28, 3) := by decide +kernel
theorem dX0_multiply_32 : decode cX0_multiply 32 = .ok (.iload_n 2, 1) := by decide +kernel
theorem dX0_multiply_33 : decode cX0_multiply 33 = .ok (.invokestatic 28, 3) := by decide +kernel
theorem dX0_multiply_36 : decode cX0_multiply 36 = .ok (.iadd, 1) := by decide +kernel
theorem dX0_multiply_37 : decode cX0_multiply 37 = .ok (.bipush 20, 2) := by decide +kernel
theorem dX0_multiply_39 : decode cX0_multiply 39 = .ok (.isub, 1) := by decide +kernel
theorem dX0_multiply_40 : decode cX0_multiply 40 = .ok (.istore 5, 2) := by decide +kernel
theorem dX0_multiply_42 : decode cX0_multiply 42 = .ok (.iload_n 1, 1) := by decide +kernel
theorem dX0_multiply_43 : decode cX0_multiply 43 = .ok (.iload_n 2, 1) := by decide +kernel
theorem dX0_multiply_44 : decode cX0_multiply 44 = .ok (.lload_n 3, 1) := by decide +kernel
theorem dX0_multiply_45 : decode cX0_multiply 45 = .ok (.iload 5, 2) := by decide +kernel
theorem dX0_multiply_47 : decode cX0_multiply 47 = .ok (.iconst 0, 1) := by decide +kernel
theorem dX0_multiply_48 : decode cX0_multiply 48 = .ok (.invokestatic 31, 3) := by decide +kernel
theorem dX0_multiply_51 : decode cX0_multiply 51 = .ok (.ireturn, 1) := by decide +kernel
abbrev cX0_withSign : ByteArray := prog_1_method_18_code
def yX0_withSign : MethodName := ⟨RX0, "withSign", "(IIJIZ)I"⟩
theorem dX0_withSign_0 : decode cX0_withSign 0 = .ok (.iload 4, 2) := by decide +kernel
theorem dX0_withSign_2 : decode cX0_withSign 2 = .ok (.ifCond .lt 53, 3) := by decide +kernel
theorem dX0_withSign_5 : decode cX0_withSign 5 = .ok (.lload_n 2, 1) := by decide +kernel
theorem dX0_withSign_6 : decode cX0_withSign 6 = .ok (.lconst 0, 1) := by decide +kernel
theorem dX0_withSign_7 : decode cX0_withSign 7 = .ok (.lcmp, 1) := by decide +kernel
theorem dX0_withSign_8 : decode cX0_withSign 8 = .ok (.ifCond .eq 19, 3) := by decide +kernel
theorem dX0_withSign_11 : decode cX0_withSign 11 = .ok (.lload_n 2, 1) := by decide +kernel
theorem dX0_withSign_12 : decode cX0_withSign 12 = .ok (.bipush 60, 2) := by decide +kernel
theorem dX0_withSign_14 : decode cX0_withSign 14 = .ok (.iload 4, 2) := by decide +kernel
theorem dX0_withSign_16 : decode cX0_withSign 16 = .ok (.isub, 1) := by decide +kernel
theorem dX0_withSign_17 : decode cX0_withSign 17 = .ok (.lshr, 1) := by decide +kernel
theorem dX0_withSign_18 : decode cX0_withSign 18 = .ok (.lconst 0, 1) := by decide +kernel
theorem dX0_withSign_19 : decode cX0_withSign 19 = .ok (.lcmp, 1) := by decide +kernel
theorem dX0_withSign_20 : decode cX0_withSign 20 = .ok (.ifCond .eq 7, 3) := by decide +kernel
theorem dX0_withSign_23 : decode cX0_withSign 23 = .ok (.iconst 1, 1) := by decide +kernel
theorem dX0_withSign_24 : decode cX0_withSign 24 = .ok (.goto 4, 3) := by decide +kernel
theorem dX0_withSign_27 : decode cX0_withSign 27 = .ok (.iconst 0, 1) := by decide +kernel
theorem dX0_withSign_28 : decode cX0_withSign 28 = .ok (.istore 7, 2) := by decide +kernel
theorem dX0_withSign_30 : decode cX0_withSign 30 = .ok (.iload 7, 2) := by decide +kernel
theorem dX0_withSign_32 : decode cX0_withSign 32 = .ok (.ifCond .eq 9, 3) := by decide +kernel
theorem dX0_withSign_35 : decode cX0_withSign 35 = .ok (.sipush 31744, 3) := by decide +kernel
theorem dX0_withSign_38 : decode cX0_withSign 38 = .ok (.goto 12, 3) := by decide +kernel
theorem dX0_withSign_41 : decode cX0_withSign 41 = .ok (.lload_n 2, 1) := by decide +kernel
theorem dX0_withSign_42 : decode cX0_withSign 42 = .ok (.iload 4, 2) := by decide +kernel
theorem dX0_withSign_44 : decode cX0_withSign 44 = .ok (.lshl, 1) := by decide +kernel
theorem dX0_withSign_45 : decode cX0_withSign 45 = .ok (.iload 5, 2) := by decide +kernel
theorem dX0_withSign_47 : decode cX0_withSign 47 = .ok (.invokestatic 17, 3) := by decide +kernel
theorem dX0_withSign_50 : decode cX0_withSign 50 = .ok (.istore 6, 2) := by decide +kernel
theorem dX0_withSign_52 : decode cX0_withSign 52 = .ok (.goto 41, 3) := by decide +kernel
theorem dX0_withSign_55 : decode cX0_withSign 55 = .ok (.lload_n 2, 1) := by decide +kernel
theorem dX0_withSign_56 : decode cX0_withSign 56 = .ok (.lconst 1, 1) := by decide +kernel
theorem dX0_withSign_57 : decode cX0_withSign 57 = .ok (.iload 4, 2) := by decide +kernel
theorem dX0_withSign_59 : decode cX0_withSign 59 = .ok (.ineg, 1) := by decide +kernel
theorem dX0_withSign_60 : decode cX0_withSign 60 = .ok (.lshl, 1) := by decide +kernel
theorem dX0_withSign_61 : decode cX0_withSign 61 = .ok (.lconst 1, 1) := by decide +kernel
theorem dX0_withSign_62 : decode cX0_withSign 62 = .ok (.lsub, 1) := by decide +kernel
theorem dX0_withSign_63 : decode cX0_withSign 63 = .ok (.land, 1) := by decide +kernel
theorem dX0_withSign_64 : decode cX0_withSign 64 = .ok (.lstore 7, 2) := by decide +kernel
theorem dX0_withSign_66 : decode cX0_withSign 66 = .ok (.lload_n 2, 1) := by decide +kernel
theorem dX0_withSign_67 : decode cX0_withSign 67 = .ok (.iload 4, 2) := by decide +kernel
theorem dX0_withSign_69 : decode cX0_withSign 69 = .ok (.ineg, 1) := by decide +kernel
theorem dX0_withSign_70 : decode cX0_withSign 70 = .ok (.lshr, 1) := by decide +kernel
theorem dX0_withSign_71 : decode cX0_withSign 71 = .ok (.iload 5, 2) := by decide +kernel
theorem dX0_withSign_73 : decode cX0_withSign 73 = .ok (.ifCond .ne 10, 3) := by decide +kernel
theorem dX0_withSign_76 : decode cX0_withSign 76 = .ok (.lload 7, 2) := by decide +kernel
theorem dX0_withSign_78 : decode cX0_withSign 78 = .ok (.lconst 0, 1) := by decide +kernel
theorem dX0_withSign_79 : decode cX0_withSign 79 = .ok (.lcmp, 1) := by decide +kernel
theorem dX0_withSign_80 : decode cX0_withSign 80 = .ok (.ifCond .eq 7, 3) := by decide +kernel
theorem dX0_withSign_83 : decode cX0_withSign 83 = .ok (.iconst 1, 1) := by decide +kernel
theorem dX0_withSign_84 : decode cX0_withSign 84 = .ok (.goto 4, 3) := by decide +kernel
theorem dX0_withSign_87 : decode cX0_withSign 87 = .ok (.iconst 0, 1) := by decide +kernel
theorem dX0_withSign_88 : decode cX0_withSign 88 = .ok (.invokestatic 17, 3) := by decide +kernel
theorem dX0_withSign_91 : decode cX0_withSign 91 = .ok (.istore 6, 2) := by decide +kernel
theorem dX0_withSign_93 : decode cX0_withSign 93 = .ok (.iload_n 0, 1) := by decide +kernel
theorem dX0_withSign_94 : decode cX0_withSign 94 = .ok (.ldc 35, 2) := by decide +kernel
theorem dX0_withSign_96 : decode cX0_withSign 96 = .ok (.if_icmp .lt 7, 3) := by decide +kernel
theorem dX0_withSign_99 : decode cX0_withSign 99 = .ok (.iconst 1, 1) := by decide +kernel
theorem dX0_withSign_100 : decode cX0_withSign 100 = .ok (.goto 4, 3) := by decide +kernel
theorem dX0_withSign_103 : decode cX0_withSign 103 = .ok (.iconst 0, 1) := by decide +kernel
theorem dX0_withSign_104 : decode cX0_withSign 104 = .ok (.iload_n 1, 1) := by decide +kernel
theorem dX0_withSign_105 : decode cX0_withSign 105 = .ok (.ldc 35, 2) := by decide +kernel
theorem dX0_withSign_107 : decode cX0_withSign 107 = .ok (.if_icmp .lt 7, 3) := by decide +kernel
theorem dX0_withSign_110 : decode cX0_withSign 110 = .ok (.iconst 1, 1) := by decide +kernel
theorem dX0_withSign_111 : decode cX0_withSign 111 = .ok (.goto 4, 3) := by decide +kernel
theorem dX0_withSign_114 : decode cX0_withSign 114 = .ok (.iconst 0, 1) := by decide +kernel
theorem dX0_withSign_115 : decode cX0_withSign 115 = .ok (.if_icmp .eq 11, 3) := by decide +kernel
theorem dX0_withSign_118 : decode cX0_withSign 118 = .ok (.iload 6, 2) := by decide +kernel
theorem dX0_withSign_120 : decode cX0_withSign 120 = .ok (.invokestatic 21, 3) := by decide +kernel
theorem dX0_withSign_123 : decode cX0_withSign 123 = .ok (.goto 5, 3) := by decide +kernel
theorem dX0_withSign_126 : decode cX0_withSign 126 = .ok (.iload 6, 2) := by decide +kernel
theorem dX0_withSign_128 : decode cX0_withSign 128 = .ok (.ireturn, 1) := by decide +kernel
end
section
set_option maxRecDepth 100000
abbrev cX0_divide : ByteArray := prog_1_method_4_code
def yX0_divide : MethodName := ⟨RX0, "divide", "(II)I"⟩
theorem dX0_divide_0 : decode cX0_divide 0 = .ok (.iload_n 1, 1) := by decide +kernel
theorem dX0_divide_1 : decode cX0_divide 1 = .ok (.invokestatic 7, 3) := by decide +kernel
theorem dX0_divide_4 : decode cX0_divide 4 = .ok (.ifCond .eq 17, 3) := by decide +kernel
theorem dX0_divide_7 : decode cX0_divide 7 = .ok (.iload_n 2, 1) := by decide +kernel
theorem dX0_divide_8 : decode cX0_divide 8 = .ok (.invokestatic 7, 3) := by decide +kernel
theorem dX0_divide_11 : decode cX0_divide 11 = .ok (.ifCond .eq 10, 3) := by decide +kernel
theorem dX0_divide_14 : decode cX0_divide 14 = .ok (.iload_n 2, 1) := by decide +kernel
theorem dX0_divide_15 : decode cX0_divide 15 = .ok (.invokestatic 25, 3) := by decide +kernel
theorem dX0_divide_18 : decode cX0_divide 18 = .ok (.ifCond .ne 5, 3) := by decide +kernel
theorem dX0_divide_21 : decode cX0_divide 21 = .ok (.iconst (-1), 1) := by decide +kernel
theorem dX0_divide_22 : decode cX0_divide 22 = .ok (.ireturn, 1) := by decide +kernel
theorem dX0_divide_23 : decode cX0_divide 23 = .ok (.iload_n 1, 1) := by decide +kernel
theorem dX0_divide_24 : decode cX0_divide 24 = .ok (.invokestatic 25, 3) := by decide +kernel
theorem dX0_divide_27 : decode cX0_divide 27 = .ok (.i2l, 1) := by decide +kernel
theorem dX0_divide_28 : decode cX0_divide 28 = .ok (.bipush 26, 2) := by decide +kernel
theorem dX0_divide_30 : decode cX0_divide 30 = .ok (.lshl, 1) := by decide +kernel
theorem dX0_divide_31 : decode cX0_divide 31 = .ok (.lstore_n 3, 1) := by decide +kernel
theorem dX0_divide_32 : decode cX0_divide 32 = .ok (.lload_n 3, 1) := by decide +kernel
theorem dX0_divide_33 : decode cX0_divide 33 = .ok (.iload_n 2, 1) := by decide +kernel
theorem dX0_divide_34 : decode cX0_divide 34 = .ok (.invokestatic 25, 3) := by decide +kernel
theorem dX0_divide_37 : decode cX0_divide 37 = .ok (.i2l, 1) := by decide +kernel
theorem dX0_divide_38 : decode cX0_divide 38 = .ok (.ldiv, 1) := by decide +kernel
theorem dX0_divide_39 : decode cX0_divide 39 = .ok (.lstore 5, 2) := by decide +kernel
theorem dX0_divide_41 : decode cX0_divide 41 = .ok (.lload_n 3, 1) := by decide +kernel
theorem dX0_divide_42 : decode cX0_divide 42 = .ok (.iload_n 2, 1) := by decide +kernel
theorem dX0_divide_43 : decode cX0_divide 43 = .ok (.invokestatic 25, 3) := by decide +kernel
theorem dX0_divide_46 : decode cX0_divide 46 = .ok (.i2l, 1) := by decide +kernel
theorem dX0_divide_47 : decode cX0_divide 47 = .ok (.lrem, 1) := by decide +kernel
theorem dX0_divide_48 : decode cX0_divide 48 = .ok (.lconst 0, 1) := by decide +kernel
theorem dX0_divide_49 : decode cX0_divide 49 = .ok (.lcmp, 1) := by decide +kernel
theorem dX0_divide_50 : decode cX0_divide 50 = .ok (.ifCond .eq 7, 3) := by decide +kernel
theorem dX0_divide_53 : decode cX0_divide 53 = .ok (.iconst 1, 1) := by decide +kernel
theorem dX0_divide_54 : decode cX0_divide 54 = .ok (.goto 4, 3) := by decide +kernel
theorem dX0_divide_57 : decode cX0_divide 57 = .ok (.iconst 0, 1) := by decide +kernel
theorem dX0_divide_58 : decode cX0_divide 58 = .ok (.istore 7, 2) := by decide +kernel
theorem dX0_divide_60 : decode cX0_divide 60 = .ok (.iload_n 1, 1) := by decide +kernel
theorem dX0_divide_61 : decode cX0_divide 61 = .ok (.invokestatic 28, 3) := by decide +kernel
theorem dX0_divide_64 : decode cX0_divide 64 = .ok (.iload_n 2, 1) := by decide +kernel
theorem dX0_divide_65 : decode cX0_divide 65 = .ok (.invokestatic 28, 3) := by decide +kernel
theorem dX0_divide_68 : decode cX0_divide 68 = .ok (.isub, 1) := by decide +kernel
theorem dX0_divide_69 : decode cX0_divide 69 = .ok (.iconst 2, 1) := by decide +kernel
theorem dX0_divide_70 : decode cX0_divide 70 = .ok (.iadd, 1) := by decide +kernel
theorem dX0_divide_71 : decode cX0_divide 71 = .ok (.istore 8, 2) := by decide +kernel
theorem dX0_divide_73 : decode cX0_divide 73 = .ok (.iload_n 1, 1) := by decide +kernel
theorem dX0_divide_74 : decode cX0_divide 74 = .ok (.iload_n 2, 1) := by decide +kernel
theorem dX0_divide_75 : decode cX0_divide 75 = .ok (.lload 5, 2) := by decide +kernel
theorem dX0_divide_77 : decode cX0_divide 77 = .ok (.iload 8, 2) := by decide +kernel
theorem dX0_divide_79 : decode cX0_divide 79 = .ok (.iload 7, 2) := by decide +kernel
theorem dX0_divide_81 : decode cX0_divide 81 = .ok (.invokestatic 31, 3) := by decide +kernel
theorem dX0_divide_84 : decode cX0_divide 84 = .ok (.ireturn, 1) := by decide +kernel
abbrev cX0_root : ByteArray := prog_1_method_5_code
def yX0_root : MethodName := ⟨RX0, "root", "(I)I"⟩
theorem dX0_root_0 : decode cX0_root 0 = .ok (.iload_n 1, 1) := by decide +kernel
theorem dX0_root_1 : decode cX0_root 1 = .ok (.invokestatic 7, 3) := by decide +kernel
theorem dX0_root_4 : decode cX0_root 4 = .ok (.ifCond .eq 16, 3) := by decide +kernel
theorem dX0_root_7 : decode cX0_root 7 = .ok (.iload_n 1, 1) := by decide +kernel
theorem dX0_root_8 : decode cX0_root 8 = .ok (.ldc 35, 2) := by decide +kernel
theorem dX0_root_10 : decode cX0_root 10 = .ok (.if_icmp .lt 12, 3) := by decide +kernel
theorem dX0_root_13 : decode cX0_root 13 = .ok (.iload_n 1, 1) := by decide +kernel
theorem dX0_root_14 : decode cX0_root 14 = .ok (.invokestatic 25, 3) := by decide +kernel
theorem dX0_root_17 : decode cX0_root 17 = .ok (.ifCond .eq 5, 3) := by decide +kernel
theorem dX0_root_20 : decode cX0_root 20 = .ok (.iconst (-1), 1) := by decide +kernel
theorem dX0_root_21 : decode cX0_root 21 = .ok (.ireturn, 1) := by decide +kernel
theorem dX0_root_22 : decode cX0_root 22 = .ok (.iload_n 1, 1) := by decide +kernel
theorem dX0_root_23 : decode cX0_root 23 = .ok (.invokestatic 28, 3) := by decide +kernel
theorem dX0_root_26 : decode cX0_root 26 = .ok (.iconst 1, 1) := by decide +kernel
theorem dX0_root_27 : decode cX0_root 27 = .ok (.iand, 1) := by decide +kernel
theorem dX0_root_28 : decode cX0_root 28 = .ok (.ifCond .ne 8, 3) := by decide +kernel
theorem dX0_root_31 : decode cX0_root 31 = .ok (.bipush 30, 2) := by decide +kernel
theorem dX0_root_33 : decode cX0_root 33 = .ok (.goto 5, 3) := by decide +kernel
theorem dX0_root_36 : decode cX0_root 36 = .ok (.bipush 31, 2) := by decide +kernel
theorem dX0_root_38 : decode cX0_root 38 = .ok (.istore_n 2, 1) := by decide +kernel
theorem dX0_root_39 : decode cX0_root 39 = .ok (.iload_n 1, 1) := by decide +kernel
theorem dX0_root_40 : decode cX0_root 40 = .ok (.invokestatic 25, 3) := by decide +kernel
theorem dX0_root_43 : decode cX0_root 43 = .ok (.i2l, 1) := by decide +kernel
theorem dX0_root_44 : decode cX0_root 44 = .ok (.iload_n 2, 1) := by decide +kernel
theorem dX0_root_45 : decode cX0_root 45 = .ok (.lshl, 1) := by decide +kernel
theorem dX0_root_46 : decode cX0_root 46 = .ok (.lstore_n 3, 1) := by decide +kernel
theorem dX0_root_47 : decode cX0_root 47 = .ok (.lload_n 3, 1) := by decide +kernel
theorem dX0_root_48 : decode cX0_root 48 = .ok (.invokestatic 36, 3) := by decide +kernel
theorem dX0_root_51 : decode cX0_root 51 = .ok (.lstore 5, 2) := by decide +kernel
theorem dX0_root_53 : decode cX0_root 53 = .ok (.iload_n 1, 1) := by decide +kernel
theorem dX0_root_54 : decode cX0_root 54 = .ok (.invokestatic 28, 3) := by decide +kernel
theorem dX0_root_57 : decode cX0_root 57 = .ok (.bipush 32, 2) := by decide +kernel
theorem dX0_root_59 : decode cX0_root 59 = .ok (.iadd, 1) := by decide +kernel
theorem dX0_root_60 : decode cX0_root 60 = .ok (.iload_n 2, 1) := by decide +kernel
theorem dX0_root_61 : decode cX0_root 61 = .ok (.isub, 1) := by decide +kernel
theorem dX0_root_62 : decode cX0_root 62 = .ok (.iconst 2, 1) := by decide +kernel
theorem dX0_root_63 : decode cX0_root 63 = .ok (.idiv, 1) := by decide +kernel
theorem dX0_root_64 : decode cX0_root 64 = .ok (.istore 7, 2) := by decide +kernel
theorem dX0_root_66 : decode cX0_root 66 = .ok (.lload 5, 2) := by decide +kernel
theorem dX0_root_68 : decode cX0_root 68 = .ok (.iload 7, 2) := by decide +kernel
theorem dX0_root_70 : decode cX0_root 70 = .ok (.lshl, 1) := by decide +kernel
theorem dX0_root_71 : decode cX0_root 71 = .ok (.lload 5, 2) := by decide +kernel
theorem dX0_root_73 : decode cX0_root 73 = .ok (.lload 5, 2) := by decide +kernel
theorem dX0_root_75 : decode cX0_root 75 = .ok (.lmul, 1) := by decide +kernel
theorem dX0_root_76 : decode cX0_root 76 = .ok (.lload_n 3, 1) := by decide +kernel
theorem dX0_root_77 : decode cX0_root 77 = .ok (.lcmp, 1) := by decide +kernel
theorem dX0_root_78 : decode cX0_root 78 = .ok (.ifCond .eq 7, 3) := by decide +kernel
theorem dX0_root_81 : decode cX0_root 81 = .ok (.iconst 1, 1) := by decide +kernel
theorem dX0_root_82 : decode cX0_root 82 = .ok (.goto 4, 3) := by decide +kernel
theorem dX0_root_85 : decode cX0_root 85 = .ok (.iconst 0, 1) := by decide +kernel
theorem dX0_root_86 : decode cX0_root 86 = .ok (.invokestatic 17, 3) := by decide +kernel
theorem dX0_root_89 : decode cX0_root 89 = .ok (.ireturn, 1) := by decide +kernel
abbrev cX0_rootOf : ByteArray := prog_1_method_17_code
def yX0_rootOf : MethodName := ⟨RX0, "rootOf", "(J)J"⟩
theorem dX0_rootOf_0 : decode cX0_rootOf 0 = .ok (.lconst 0, 1) := by decide +kernel
theorem dX0_rootOf_1 : decode cX0_rootOf 1 = .ok (.lstore_n 2, 1) := by decide +kernel
theorem dX0_rootOf_2 : decode cX0_rootOf 2 = .ok (.bipush 21, 2) := by decide +kernel
theorem dX0_rootOf_4 : decode cX0_rootOf 4 = .ok (.istore 4, 2) := by decide +kernel
theorem dX0_rootOf_6 : decode cX0_rootOf 6 = .ok (.iload 4, 2) := by decide +kernel
theorem dX0_rootOf_8 : decode cX0_rootOf 8 = .ok (.ifCond .lt 34, 3) := by decide +kernel
theorem dX0_rootOf_11 : decode cX0_rootOf 11 = .ok (.lload_n 2, 1) := by decide +kernel
theorem dX0_rootOf_12 : decode cX0_rootOf 12 = .ok (.lconst 1, 1) := by decide +kernel
theorem dX0_rootOf_13 : decode cX0_rootOf 13 = .ok (.iload 4, 2) := by decide +kernel
theorem dX0_rootOf_15 : decode cX0_rootOf 15 = .ok (.lshl, 1) := by decide +kernel
theorem dX0_rootOf_16 : decode cX0_rootOf 16 = .ok (.ladd, 1) := by decide +kernel
theorem dX0_rootOf_17 : decode cX0_rootOf 17 = .ok (.lstore 5, 2) := by decide +kernel
theorem dX0_rootOf_19 : decode cX0_rootOf 19 = .ok (.lload 5, 2) := by decide +kernel
theorem dX0_rootOf_21 : decode cX0_rootOf 21 = .ok (.lload 5, 2) := by decide +kernel
theorem dX0_rootOf_23 : decode cX0_rootOf 23 = .ok (.lmul, 1) := by decide +kernel
theorem dX0_rootOf_24 : decode cX0_rootOf 24 = .ok (.lload_n 0, 1) := by decide +kernel
theorem dX0_rootOf_25 : decode cX0_rootOf 25 = .ok (.lcmp, 1) := by decide +kernel
theorem dX0_rootOf_26 : decode cX0_rootOf 26 = .ok (.ifCond .gt 8, 3) := by decide +kernel
theorem dX0_rootOf_29 : decode cX0_rootOf 29 = .ok (.lload 5, 2) := by decide +kernel
theorem dX0_rootOf_31 : decode cX0_rootOf 31 = .ok (.goto 4, 3) := by decide +kernel
theorem dX0_rootOf_34 : decode cX0_rootOf 34 = .ok (.lload_n 2, 1) := by decide +kernel
theorem dX0_rootOf_35 : decode cX0_rootOf 35 = .ok (.lstore_n 2, 1) := by decide +kernel
theorem dX0_rootOf_36 : decode cX0_rootOf 36 = .ok (.iinc 4 (-1), 3) := by decide +kernel
theorem dX0_rootOf_39 : decode cX0_rootOf 39 = .ok (.goto (-33), 3) := by decide +kernel
theorem dX0_rootOf_42 : decode cX0_rootOf 42 = .ok (.lload_n 2, 1) := by decide +kernel
theorem dX0_rootOf_43 : decode cX0_rootOf 43 = .ok (.lreturn, 1) := by decide +kernel
abbrev cX0_parse : ByteArray := prog_1_method_6_code
def yX0_parse : MethodName := ⟨RX0, "parse", "(II)I"⟩
theorem dX0_parse_0 : decode cX0_parse 0 = .ok (.iload_n 1, 1) := by decide +kernel
theorem dX0_parse_1 : decode cX0_parse 1 = .ok (.ifCond .lt 21, 3) := by decide +kernel
theorem dX0_parse_4 : decode cX0_parse 4 = .ok (.iload_n 1, 1) := by decide +kernel
theorem dX0_parse_5 : decode cX0_parse 5 = .ok (.ldc 40, 2) := by decide +kernel
theorem dX0_parse_7 : decode cX0_parse 7 = .ok (.if_icmp .gt 15, 3) := by decide +kernel
theorem dX0_parse_10 : decode cX0_parse 10 = .ok (.iload_n 2, 1) := by decide +kernel
theorem dX0_parse_11 : decode cX0_parse 11 = .ok (.bipush (-12), 2) := by decide +kernel
theorem dX0_parse_13 : decode cX0_parse 13 = .ok (.if_icmp .lt 9, 3) := by decide +kernel
theorem dX0_parse_16 : decode cX0_parse 16 = .ok (.iload_n 2, 1) := by decide +kernel
theorem dX0_parse_17 : decode cX0_parse 17 = .ok (.bipush 12, 2) := by decide +kernel
theorem dX0_parse_19 : decode cX0_parse 19 = .ok (.if_icmp .le 5, 3) := by decide +kernel
theorem dX0_parse_22 : decode cX0_parse 22 = .ok (.iconst (-1), 1) := by decide +kernel
theorem dX0_parse_23 : decode cX0_parse 23 = .ok (.ireturn, 1) := by decide +kernel
theorem dX0_parse_24 : decode cX0_parse 24 = .ok (.iload_n 2, 1) := by decide +kernel
theorem dX0_parse_25 : decode cX0_parse 25 = .ok (.ifCond .ge 38, 3) := by decide +kernel
theorem dX0_parse_28 : decode cX0_parse 28 = .ok (.iload_n 2, 1) := by decide +kernel
theorem dX0_parse_29 : decode cX0_parse 29 = .ok (.ineg, 1) := by decide +kernel
theorem dX0_parse_30 : decode cX0_parse 30 = .ok (.invokestatic 41, 3) := by decide +kernel
theorem dX0_parse_33 : decode cX0_parse 33 = .ok (.lstore_n 3, 1) := by decide +kernel
theorem dX0_parse_34 : decode cX0_parse 34 = .ok (.iload_n 1, 1) := by decide +kernel
theorem dX0_parse_35 : decode cX0_parse 35 = .ok (.i2l, 1) := by decide +kernel
theorem dX0_parse_36 : decode cX0_parse 36 = .ok (.bipush 28, 2) := by decide +kernel
theorem dX0_parse_38 : decode cX0_parse 38 = .ok (.lshl, 1) := by decide +kernel
theorem dX0_parse_39 : decode cX0_parse 39 = .ok (.lstore 5, 2) := by decide +kernel
theorem dX0_parse_41 : decode cX0_parse 41 = .ok (.lload 5, 2) := by decide +kernel
theorem dX0_parse_43 : decode cX0_parse 43 = .ok (.lload_n 3, 1) := by decide +kernel
theorem dX0_parse_44 : decode cX0_parse 44 = .ok (.ldiv, 1) := by decide +kernel
theorem dX0_parse_45 : decode cX0_parse 45 = .ok (.lload 5, 2) := by decide +kernel
theorem dX0_parse_47 : decode cX0_parse 47 = .ok (.lload_n 3, 1) := by decide +kernel
theorem dX0_parse_48 : decode cX0_parse 48 = .ok (.lrem, 1) := by decide +kernel
theorem dX0_parse_49 : decode cX0_parse 49 = .ok (.lconst 0, 1) := by decide +kernel
theorem dX0_parse_50 : decode cX0_parse 50 = .ok (.lcmp, 1) := by decide +kernel
theorem dX0_parse_51 : decode cX0_parse 51 = .ok (.ifCond .eq 7, 3) := by decide +kernel
theorem dX0_parse_54 : decode cX0_parse 54 = .ok (.iconst 1, 1) := by decide +kernel
theorem dX0_parse_55 : decode cX0_parse 55 = .ok (.goto 4, 3) := by decide +kernel
theorem dX0_parse_58 : decode cX0_parse 58 = .ok (.iconst 0, 1) := by decide +kernel
theorem dX0_parse_59 : decode cX0_parse 59 = .ok (.invokestatic 17, 3) := by decide +kernel
theorem dX0_parse_62 : decode cX0_parse 62 = .ok (.ireturn, 1) := by decide +kernel
theorem dX0_parse_63 : decode cX0_parse 63 = .ok (.iload_n 1, 1) := by decide +kernel
theorem dX0_parse_64 : decode cX0_parse 64 = .ok (.i2l, 1) := by decide +kernel
theorem dX0_parse_65 : decode cX0_parse 65 = .ok (.iload_n 2, 1) := by decide +kernel
theorem dX0_parse_66 : decode cX0_parse 66 = .ok (.invokestatic 41, 3) := by decide +kernel
theorem dX0_parse_69 : decode cX0_parse 69 = .ok (.lmul, 1) := by decide +kernel
theorem dX0_parse_70 : decode cX0_parse 70 = .ok (.lstore_n 3, 1) := by decide +kernel
theorem dX0_parse_71 : decode cX0_parse 71 = .ok (.lload_n 3, 1) := by decide +kernel
theorem dX0_parse_72 : decode cX0_parse 72 = .ok (.ldc2_w 44, 3) := by decide +kernel
theorem dX0_parse_75 : decode cX0_parse 75 = .ok (.lcmp, 1) := by decide +kernel
theorem dX0_parse_76 : decode cX0_parse 76 = .ok (.ifCond .lt 9, 3) := by decide +kernel
theorem dX0_parse_79 : decode cX0_parse 79 = .ok (.sipush 31744, 3) := by decide +kernel
theorem dX0_parse_82 : decode cX0_parse 82 = .ok (.goto 11, 3) := by decide +kernel
theorem dX0_parse_85 : decode cX0_parse 85 = .ok (.lload_n 3, 1) := by decide +kernel
theorem dX0_parse_86 : decode cX0_parse 86 = .ok (.bipush 28, 2) := by decide +kernel
theorem dX0_parse_88 : decode cX0_parse 88 = .ok (.lshl, 1) := by decide +kernel
theorem dX0_parse_89 : decode cX0_parse 89 = .ok (.iconst 0, 1) := by decide +kernel
theorem dX0_parse_90 : decode cX0_parse 90 = .ok (.invokestatic 17, 3) := by decide +kernel
theorem dX0_parse_93 : decode cX0_parse 93 = .ok (.ireturn, 1) := by decide +kernel
abbrev cX0_power : ByteArray := prog_1_method_16_code
def yX0_power : MethodName := ⟨RX0, "power", "(I)J"⟩
theorem dX0_power_0 : decode cX0_power 0 = .ok (.lconst 1, 1) := by decide +kernel
theorem dX0_power_1 : decode cX0_power 1 = .ok (.lstore_n 1, 1) := by decide +kernel
theorem dX0_power_2 : decode cX0_power 2 = .ok (.iconst 0, 1) := by decide +kernel
theorem dX0_power_3 : decode cX0_power 3 = .ok (.istore_n 3, 1) := by decide +kernel
theorem dX0_power_4 : decode cX0_power 4 = .ok (.iload_n 3, 1) := by decide +kernel
theorem dX0_power_5 : decode cX0_power 5 = .ok (.iload_n 0, 1) := by decide +kernel
theorem dX0_power_6 : decode cX0_power 6 = .ok (.if_icmp .ge 21, 3) := by decide +kernel
theorem dX0_power_9 : decode cX0_power 9 = .ok (.iload_n 3, 1) := by decide +kernel
theorem dX0_power_10 : decode cX0_power 10 = .ok (.bipush 12, 2) := by decide +kernel
theorem dX0_power_12 : decode cX0_power 12 = .ok (.if_icmp .ge 15, 3) := by decide +kernel
theorem dX0_power_15 : decode cX0_power 15 = .ok (.lload_n 1, 1) := by decide +kernel
theorem dX0_power_16 : decode cX0_power 16 = .ok (.ldc2_w 59, 3) := by decide +kernel
theorem dX0_power_19 : decode cX0_power 19 = .ok (.lmul, 1) := by decide +kernel
theorem dX0_power_20 : decode cX0_power 20 = .ok (.lstore_n 1, 1) := by decide +kernel
theorem dX0_power_21 : decode cX0_power 21 = .ok (.iinc 3 1, 3) := by decide +kernel
theorem dX0_power_24 : decode cX0_power 24 = .ok (.goto (-20), 3) := by decide +kernel
theorem dX0_power_27 : decode cX0_power 27 = .ok (.lload_n 1, 1) := by decide +kernel
theorem dX0_power_28 : decode cX0_power 28 = .ok (.lreturn, 1) := by decide +kernel
abbrev cX0_digits : ByteArray := prog_1_method_7_code
def yX0_digits : MethodName := ⟨RX0, "digits", "(I)I"⟩
theorem dX0_digits_0 : decode cX0_digits 0 = .ok (.iload_n 1, 1) := by decide +kernel
theorem dX0_digits_1 : decode cX0_digits 1 = .ok (.invokestatic 7, 3) := by decide +kernel
theorem dX0_digits_4 : decode cX0_digits 4 = .ok (.ifCond .ne 5, 3) := by decide +kernel
theorem dX0_digits_7 : decode cX0_digits 7 = .ok (.iconst (-1), 1) := by decide +kernel
theorem dX0_digits_8 : decode cX0_digits 8 = .ok (.ireturn, 1) := by decide +kernel
theorem dX0_digits_9 : decode cX0_digits 9 = .ok (.iload_n 1, 1) := by decide +kernel
theorem dX0_digits_10 : decode cX0_digits 10 = .ok (.invokestatic 25, 3) := by decide +kernel
theorem dX0_digits_13 : decode cX0_digits 13 = .ok (.ifCond .ne 5, 3) := by decide +kernel
theorem dX0_digits_16 : decode cX0_digits 16 = .ok (.iconst 0, 1) := by decide +kernel
theorem dX0_digits_17 : decode cX0_digits 17 = .ok (.ireturn, 1) := by decide +kernel
theorem dX0_digits_18 : decode cX0_digits 18 = .ok (.aload_n 0, 1) := by decide +kernel
theorem dX0_digits_19 : decode cX0_digits 19 = .ok (.iload_n 1, 1) := by decide +kernel
theorem dX0_digits_20 : decode cX0_digits 20 = .ok (.invokevirtual 46, 3) := by decide +kernel
theorem dX0_digits_23 : decode cX0_digits 23 = .ok (.aload_n 0, 1) := by decide +kernel
theorem dX0_digits_24 : decode cX0_digits 24 = .ok (.getfield 50, 3) := by decide +kernel
theorem dX0_digits_27 : decode cX0_digits 27 = .ok (.ireturn, 1) := by decide +kernel
abbrev cX0_findWriting : ByteArray := prog_1_method_20_code
def yX0_findWriting : MethodName := ⟨RX0, "findWriting", "(I)V"⟩
theorem dX0_findWriting_0 : decode cX0_findWriting 0 = .ok (.iload_n 1, 1) := by decide +kernel
theorem dX0_findWriting_1 : decode cX0_findWriting 1 = .ok (.sipush 32767, 3) := by decide +kernel
theorem dX0_findWriting_4 : decode cX0_findWriting 4 = .ok (.iand, 1) := by decide +kernel
theorem dX0_findWriting_5 : decode cX0_findWriting 5 = .ok (.istore_n 2, 1) := by decide +kernel
theorem dX0_findWriting_6 : decode cX0_findWriting 6 = .ok (.aload_n 0, 1) := by decide +kernel
theorem dX0_findWriting_7 : decode cX0_findWriting 7 = .ok (.iload_n 2, 1) := by decide +kernel
theorem dX0_findWriting_8 : decode cX0_findWriting 8 = .ok (.invokestatic 25, 3) := by decide +kernel
theorem dX0_findWriting_11 : decode cX0_findWriting 11 = .ok (.i2l, 1) := by decide +kernel
theorem dX0_findWriting_12 : decode cX0_findWriting 12 = .ok (.iload_n 2, 1) := by decide +kernel
theorem dX0_findWriting_13 : decode cX0_findWriting 13 = .ok (.invokestatic 28, 3) := by decide +kernel
theorem dX0_findWriting_16 : decode cX0_findWriting 16 = .ok (.iconst 2, 1) := by decide +kernel
theorem dX0_findWriting_17 : decode cX0_findWriting 17 = .ok (.iadd, 1) := by decide +kernel
theorem dX0_findWriting_18 : decode cX0_findWriting 18 = .ok (.lshl, 1) := by decide +kernel
theorem dX0_findWriting_19 : decode cX0_findWriting 19 = .ok (.putfield 65, 3) := by decide +kernel
theorem dX0_findWriting_22 : decode cX0_findWriting 22 = .ok (.ldc2_w 69, 3) := by decide +kernel
theorem dX0_findWriting_25 : decode cX0_findWriting 25 = .ok (.iload_n 2, 1) := by decide +kernel
theorem dX0_findWriting_26 : decode cX0_findWriting 26 = .ok (.invokestatic 28, 3) := by decide +kernel
theorem dX0_findWriting_29 : decode cX0_findWriting 29 = .ok (.lshl, 1) := by decide +kernel
theorem dX0_findWriting_30 : decode cX0_findWriting 30 = .ok (.lstore_n 3, 1) := by decide +kernel
theorem dX0_findWriting_31 : decode cX0_findWriting 31 = .ok (.iload_n 2, 1) := by decide +kernel
theorem dX0_findWriting_32 : decode cX0_findWriting 32 = .ok (.sipush 1023, 3) := by decide +kernel
theorem dX0_findWriting_35 : decode cX0_findWriting 35 = .ok (.iand, 1) := by decide +kernel
theorem dX0_findWriting_36 : decode cX0_findWriting 36 = .ok (.ifCond .ne 14, 3) := by decide +kernel
theorem dX0_findWriting_39 : decode cX0_findWriting 39 = .ok (.iload_n 2, 1) := by decide +kernel
theorem dX0_findWriting_40 : decode cX0_findWriting 40 = .ok (.sipush 1024, 3) := by decide +kernel
theorem dX0_findWriting_43 : decode cX0_findWriting 43 = .ok (.if_icmp .le 7, 3) := by decide +kernel
theorem dX0_findWriting_46 : decode cX0_findWriting 46 = .ok (.iconst 1, 1) := by decide +kernel
theorem dX0_findWriting_47 : decode cX0_findWriting 47 = .ok (.goto 4, 3) := by decide +kernel
theorem dX0_findWriting_50 : decode cX0_findWriting 50 = .ok (.iconst 0, 1) := by decide +kernel
theorem dX0_findWriting_51 : decode cX0_findWriting 51 = .ok (.istore 5, 2) := by decide +kernel
theorem dX0_findWriting_53 : decode cX0_findWriting 53 = .ok (.aload_n 0, 1) := by decide +kernel
theorem dX0_findWriting_54 : decode cX0_findWriting 54 = .ok (.aload_n 0, 1) := by decide +kernel
theorem dX0_findWriting_55 : decode cX0_findWriting 55 = .ok (.getfield 65, 3) := by decide +kernel
theorem dX0_findWriting_58 : decode cX0_findWriting 58 = .ok (.iload 5, 2) := by decide +kernel
theorem dX0_findWriting_60 : decode cX0_findWriting 60 = .ok (.ifCond .eq 11, 3) := by decide +kernel
theorem dX0_findWriting_63 : decode cX0_findWriting 63 = .ok (.lload_n 3, 1) := by decide +kernel
theorem dX0_findWriting_64 : decode cX0_findWriting 64 = .ok (.ldc2_w 69, 3) := by decide +kernel
theorem dX0_findWriting_67 : decode cX0_findWriting 67 = .ok (.ldiv, 1) := by decide +kernel
theorem dX0_findWriting_68 : decode cX0_findWriting 68 = .ok (.goto 4, 3) := by decide +kernel
theorem dX0_findWriting_71 : decode cX0_findWriting 71 = .ok (.lload_n 3, 1) := by decide +kernel
theorem dX0_findWriting_72 : decode cX0_findWriting 72 = .ok (.lsub, 1) := by decide +kernel
theorem dX0_findWriting_73 : decode cX0_findWriting 73 = .ok (.putfield 71, 3) := by decide +kernel
theorem dX0_findWriting_76 : decode cX0_findWriting 76 = .ok (.aload_n 0, 1) := by decide +kernel
theorem dX0_findWriting_77 : decode cX0_findWriting 77 = .ok (.aload_n 0, 1) := by decide +kernel
theorem dX0_findWriting_78 : decode cX0_findWriting 78 = .ok (.getfield 65, 3) := by decide +kernel
theorem dX0_findWriting_81 : decode cX0_findWriting 81 = .ok (.lload_n 3, 1) := by decide +kernel
theorem dX0_findWriting_82 : decode cX0_findWriting 82 = .ok (.ladd, 1) := by decide +kernel
theorem dX0_findWriting_83 : decode cX0_findWriting 83 = .ok (.putfield 74, 3) := by decide +kernel
theorem dX0_findWriting_86 : decode cX0_findWriting 86 = .ok (.aload_n 0, 1) := by decide +kernel
theorem dX0_findWriting_87 : decode cX0_findWriting 87 = .ok (.iload_n 2, 1) := by decide +kernel
theorem dX0_findWriting_88 : decode cX0_findWriting 88 = .ok (.iconst 1, 1) := by decide +kernel
theorem dX0_findWriting_89 : decode cX0_findWriting 89 = .ok (.iand, 1) := by decide +kernel
theorem dX0_findWriting_90 : decode cX0_findWriting 90 = .ok (.ifCond .ne 7, 3) := by decide +kernel
theorem dX0_findWriting_93 : decode cX0_findWriting 93 = .ok (.iconst 1, 1) := by decide +kernel
theorem dX0_findWriting_94 : decode cX0_findWriting 94 = .ok (.goto 4, 3) := by decide +kernel
theorem dX0_findWriting_97 : decode cX0_findWriting 97 = .ok (.iconst 0, 1) := by decide +kernel
theorem dX0_findWriting_98 : decode cX0_findWriting 98 = .ok (.putfield 77, 3) := by decide +kernel
theorem dX0_findWriting_101 : decode cX0_findWriting 101 = .ok (.aload_n 0, 1) := by decide +kernel
theorem dX0_findWriting_102 : decode cX0_findWriting 102 = .ok (.iconst 0, 1) := by decide +kernel
theorem dX0_findWriting_103 : decode cX0_findWriting 103 = .ok (.putfield 81, 3) := by decide +kernel
theorem dX0_findWriting_106 : decode cX0_findWriting 106 = .ok (.iconst 1, 1) := by decide +kernel
theorem dX0_findWriting_107 : decode cX0_findWriting 107 = .ok (.istore 6, 2) := by decide +kernel
theorem dX0_findWriting_109 : decode cX0_findWriting 109 = .ok (.iload 6, 2) := by decide +kernel
theorem dX0_findWriting_111 : decode cX0_findWriting 111 = .ok (.bipush 6, 2) := by decide +kernel
theorem dX0_findWriting_113 : decode cX0_findWriting 113 = .ok (.if_icmp .gt 40, 3) := by decide +kernel
theorem dX0_findWriting_116 : decode cX0_findWriting 116 = .ok (.aload_n 0, 1) := by decide +kernel
theorem dX0_findWriting_117 : decode cX0_findWriting 117 = .ok (.getfield 81, 3) := by decide +kernel
theorem dX0_findWriting_120 : decode cX0_findWriting 120 = .ok (.ifCond .ne 33, 3) := by decide +kernel
theorem dX0_findWriting_123 : decode cX0_findWriting 123 = .ok (.iconst 4, 1) := by decide +kernel
theorem dX0_findWriting_124 : decode cX0_findWriting 124 = .ok (.istore 7, 2) := by decide +kernel
theorem dX0_findWriting_126 : decode cX0_findWriting 126 = .ok (.iload 7, 2) := by decide +kernel
theorem dX0_findWriting_128 : decode cX0_findWriting 128 = .ok (.bipush (-12), 2) := by decide +kernel
theorem dX0_findWriting_130 : decode cX0_findWriting 130 = .ok (.if_icmp .lt 17, 3) := by decide +kernel
theorem dX0_findWriting_133 : decode cX0_findWriting 133 = .ok (.aload_n 0, 1) := by decide +kernel
theorem dX0_findWriting_134 : decode cX0_findWriting 134 = .ok (.iload 6, 2) := by decide +kernel
theorem dX0_findWriting_136 : decode cX0_findWriting 136 = .ok (.iload 7, 2) := by decide +kernel
theorem dX0_findWriting_138 : decode cX0_findWriting 138 = .ok (.invokevirtual 84, 3) := by decide +kernel
theorem dX0_findWriting_141 : decode cX0_findWriting 141 = .ok (.iinc 7 (-1), 3) := by decide +kernel
theorem dX0_findWriting_144 : decode cX0_findWriting 144 = .ok (.goto (-18), 3) := by decide +kernel
theorem dX0_findWriting_147 : decode cX0_findWriting 147 = .ok (.iinc 6 1, 3) := by decide +kernel
theorem dX0_findWriting_150 : decode cX0_findWriting 150 = .ok (.goto (-41), 3) := by decide +kernel
theorem dX0_findWriting_153 : decode cX0_findWriting 153 = .ok (.return_, 1) := by decide +kernel
abbrev cX0_tryPower : ByteArray := prog_1_method_21_code
def yX0_tryPower : MethodName := ⟨RX0, "tryPower", "(II)V"⟩
theorem dX0_tryPower_0 : decode cX0_tryPower 0 = .ok (.iload_n 2, 1) := by decide +kernel
theorem dX0_tryPower_1 : decode cX0_tryPower 1 = .ok (.ifCond .le 10, 3) := by decide +kernel
theorem dX0_tryPower_4 : decode cX0_tryPower 4 = .ok (.iload_n 2, 1) := by decide +kernel
theorem dX0_tryPower_5 : decode cX0_tryPower 5 = .ok (.invokestatic 41, 3) := by decide +kernel
theorem dX0_tryPower_8 : decode cX0_tryPower 8 = .ok (.goto 4, 3) := by decide +kernel
theorem dX0_tryPower_11 : decode cX0_tryPower 11 = .ok (.lconst 1, 1) := by decide +kernel
theorem dX0_tryPower_12 : decode cX0_tryPower 12 = .ok (.lstore_n 3, 1) := by decide +kernel
theorem dX0_tryPower_13 : decode cX0_tryPower 13 = .ok (.iload_n 2, 1) := by decide +kernel
theorem dX0_tryPower_14 : decode cX0_tryPower 14 = .ok (.ifCond .ge 11, 3) := by decide +kernel
theorem dX0_tryPower_17 : decode cX0_tryPower 17 = .ok (.iload_n 2, 1) := by decide +kernel
theorem dX0_tryPower_18 : decode cX0_tryPower 18 = .ok (.ineg, 1) := by decide +kernel
theorem dX0_tryPower_19 : decode cX0_tryPower 19 = .ok (.invokestatic 41, 3) := by decide +kernel
theorem dX0_tryPower_22 : decode cX0_tryPower 22 = .ok (.goto 4, 3) := by decide +kernel
theorem dX0_tryPower_25 : decode cX0_tryPower 25 = .ok (.lconst 1, 1) := by decide +kernel
theorem dX0_tryPower_26 : decode cX0_tryPower 26 = .ok (.lstore 5, 2) := by decide +kernel
theorem dX0_tryPower_28 : decode cX0_tryPower 28 = .ok (.aload_n 0, 1) := by decide +kernel
theorem dX0_tryPower_29 : decode cX0_tryPower 29 = .ok (.getfield 65, 3) := by decide +kernel
theorem dX0_tryPower_32 : decode cX0_tryPower 32 = .ok (.lload_n 3, 1) := by decide +kernel
theorem dX0_tryPower_33 : decode cX0_tryPower 33 = .ok (.ldiv, 1) := by decide +kernel
theorem dX0_tryPower_34 : decode cX0_tryPower 34 = .ok (.ldc2_w 88, 3) := by decide +kernel
theorem dX0_tryPower_37 : decode cX0_tryPower 37 = .ok (.lload 5, 2) := by decide +kernel
theorem dX0_tryPower_39 : decode cX0_tryPower 39 = .ok (.ldiv, 1) := by decide +kernel
theorem dX0_tryPower_40 : decode cX0_tryPower 40 = .ok (.lcmp, 1) := by decide +kernel
theorem dX0_tryPower_41 : decode cX0_tryPower 41 = .ok (.ifCond .le 4, 3) := by decide +kernel
theorem dX0_tryPower_44 : decode cX0_tryPower 44 = .ok (.return_, 1) := by decide +kernel
theorem dX0_tryPower_45 : decode cX0_tryPower 45 = .ok (.aload_n 0, 1) := by decide +kernel
theorem dX0_tryPower_46 : decode cX0_tryPower 46 = .ok (.getfield 65, 3) := by decide +kernel
theorem dX0_tryPower_49 : decode cX0_tryPower 49 = .ok (.lload 5, 2) := by decide +kernel
theorem dX0_tryPower_51 : decode cX0_tryPower 51 = .ok (.lmul, 1) := by decide +kernel
theorem dX0_tryPower_52 : decode cX0_tryPower 52 = .ok (.lload_n 3, 1) := by decide +kernel
theorem dX0_tryPower_53 : decode cX0_tryPower 53 = .ok (.bipush 26, 2) := by decide +kernel
theorem dX0_tryPower_55 : decode cX0_tryPower 55 = .ok (.lshl, 1) := by decide +kernel
theorem dX0_tryPower_56 : decode cX0_tryPower 56 = .ok (.ldiv, 1) := by decide +kernel
theorem dX0_tryPower_57 : decode cX0_tryPower 57 = .ok (.lstore 7, 2) := by decide +kernel
theorem dX0_tryPower_59 : decode cX0_tryPower 59 = .ok (.iload_n 1, 1) := by decide +kernel
theorem dX0_tryPower_60 : decode cX0_tryPower 60 = .ok (.iconst 1, 1) := by decide +kernel
theorem dX0_tryPower_61 : decode cX0_tryPower 61 = .ok (.isub, 1) := by decide +kernel
theorem dX0_tryPower_62 : decode cX0_tryPower 62 = .ok (.invokestatic 41, 3) := by decide +kernel
theorem dX0_tryPower_65 : decode cX0_tryPower 65 = .ok (.lstore 9, 2) := by decide +kernel
theorem dX0_tryPower_67 : decode cX0_tryPower 67 = .ok (.iload_n 1, 1) := by decide +kernel
theorem dX0_tryPower_68 : decode cX0_tryPower 68 = .ok (.invokestatic 41, 3) := by decide +kernel
theorem dX0_tryPower_71 : decode cX0_tryPower 71 = .ok (.lconst 1, 1) := by decide +kernel
theorem dX0_tryPower_72 : decode cX0_tryPower 72 = .ok (.lsub, 1) := by decide +kernel
theorem dX0_tryPower_73 : decode cX0_tryPower 73 = .ok (.lstore 11, 2) := by decide +kernel
theorem dX0_tryPower_75 : decode cX0_tryPower 75 = .ok (.lload 7, 2) := by decide +kernel
theorem dX0_tryPower_77 : decode cX0_tryPower 77 = .ok (.lstore 13, 2) := by decide +kernel
theorem dX0_tryPower_79 : decode cX0_tryPower 79 = .ok (.lload 13, 2) := by decide +kernel
theorem dX0_tryPower_81 : decode cX0_tryPower 81 = .ok (.lload 7, 2) := by decide +kernel
theorem dX0_tryPower_83 : decode cX0_tryPower 83 = .ok (.lconst 1, 1) := by decide +kernel
theorem dX0_tryPower_84 : decode cX0_tryPower 84 = .ok (.ladd, 1) := by decide +kernel
theorem dX0_tryPower_85 : decode cX0_tryPower 85 = .ok (.lcmp, 1) := by decide +kernel
theorem dX0_tryPower_86 : decode cX0_tryPower 86 = .ok (.ifCond .gt 52, 3) := by decide +kernel
theorem dX0_tryPower_89 : decode cX0_tryPower 89 = .ok (.lload 13, 2) := by decide +kernel
theorem dX0_tryPower_91 : decode cX0_tryPower 91 = .ok (.lload 9, 2) := by decide +kernel
theorem dX0_tryPower_93 : decode cX0_tryPower 93 = .ok (.lcmp, 1) := by decide +kernel
theorem dX0_tryPower_94 : decode cX0_tryPower 94 = .ok (.ifCond .ge 8, 3) := by decide +kernel
theorem dX0_tryPower_97 : decode cX0_tryPower 97 = .ok (.lload 9, 2) := by decide +kernel
theorem dX0_tryPower_99 : decode cX0_tryPower 99 = .ok (.goto 18, 3) := by decide +kernel
theorem dX0_tryPower_102 : decode cX0_tryPower 102 = .ok (.lload 13, 2) := by decide +kernel
theorem dX0_tryPower_104 : decode cX0_tryPower 104 = .ok (.lload 11, 2) := by decide +kernel
theorem dX0_tryPower_106 : decode cX0_tryPower 106 = .ok (.lcmp, 1) := by decide +kernel
theorem dX0_tryPower_107 : decode cX0_tryPower 107 = .ok (.ifCond .le 8, 3) := by decide +kernel
theorem dX0_tryPower_110 : decode cX0_tryPower 110 = .ok (.lload 11, 2) := by decide +kernel
theorem dX0_tryPower_112 : decode cX0_tryPower 112 = .ok (.goto 5, 3) := by decide +kernel
theorem dX0_tryPower_115 : decode cX0_tryPower 115 = .ok (.lload 13, 2) := by decide +kernel
theorem dX0_tryPower_117 : decode cX0_tryPower 117 = .ok (.lstore 15, 2) := by decide +kernel
theorem dX0_tryPower_119 : decode cX0_tryPower 119 = .ok (.aload_n 0, 1) := by decide +kernel
theorem dX0_tryPower_120 : decode cX0_tryPower 120 = .ok (.lload 15, 2) := by decide +kernel
theorem dX0_tryPower_122 : decode cX0_tryPower 122 = .ok (.iload_n 2, 1) := by decide +kernel
theorem dX0_tryPower_123 : decode cX0_tryPower 123 = .ok (.lload_n 3, 1) := by decide +kernel
theorem dX0_tryPower_124 : decode cX0_tryPower 124 = .ok (.lload 5, 2) := by decide +kernel
theorem dX0_tryPower_126 : decode cX0_tryPower 126 = .ok (.invokevirtual 90, 3) := by decide +kernel
theorem dX0_tryPower_129 : decode cX0_tryPower 129 = .ok (.lload 13, 2) := by decide +kernel
theorem dX0_tryPower_131 : decode cX0_tryPower 131 = .ok (.lconst 1, 1) := by decide +kernel
theorem dX0_tryPower_132 : decode cX0_tryPower 132 = .ok (.ladd, 1) := by decide +kernel
theorem dX0_tryPower_133 : decode cX0_tryPower 133 = .ok (.lstore 13, 2) := by decide +kernel
theorem dX0_tryPower_135 : decode cX0_tryPower 135 = .ok (.goto (-56), 3) := by decide +kernel
theorem dX0_tryPower_138 : decode cX0_tryPower 138 = .ok (.return_, 1) := by decide +kernel
end
section
set_option maxRecDepth 100000
abbrev cX0_offer : ByteArray := prog_1_method_22_code
def yX0_offer : MethodName := ⟨RX0, "offer", "(JIJJ)V"⟩
theorem dX0_offer_0 : decode cX0_offer 0 = .ok (.lload_n 1, 1) := by decide +kernel
theorem dX0_offer_1 : decode cX0_offer 1 = .ok (.ldc2_w 59, 3) := by decide +kernel
theorem dX0_offer_4 : decode cX0_offer 4 = .ok (.lrem, 1) := by decide +kernel
theorem dX0_offer_5 : decode cX0_offer 5 = .ok (.lconst 0, 1) := by decide +kernel
theorem dX0_offer_6 : decode cX0_offer 6 = .ok (.lcmp, 1) := by decide +kernel
theorem dX0_offer_7 : decode cX0_offer 7 = .ok (.ifCond .ne 4, 3) := by decide +kernel
theorem dX0_offer_10 : decode cX0_offer 10 = .ok (.return_, 1) := by decide +kernel
theorem dX0_offer_11 : decode cX0_offer 11 = .ok (.lload_n 1, 1) := by decide +kernel
theorem dX0_offer_12 : decode cX0_offer 12 = .ok (.lload 4, 2) := by decide +kernel
theorem dX0_offer_14 : decode cX0_offer 14 = .ok (.lmul, 1) := by decide +kernel
theorem dX0_offer_15 : decode cX0_offer 15 = .ok (.bipush 26, 2) := by decide +kernel
theorem dX0_offer_17 : decode cX0_offer 17 = .ok (.lshl, 1) := by decide +kernel
theorem dX0_offer_18 : decode cX0_offer 18 = .ok (.lstore 8, 2) := by decide +kernel
theorem dX0_offer_20 : decode cX0_offer 20 = .ok (.aload_n 0, 1) := by decide +kernel
theorem dX0_offer_21 : decode cX0_offer 21 = .ok (.getfield 71, 3) := by decide +kernel
theorem dX0_offer_24 : decode cX0_offer 24 = .ok (.lload 6, 2) := by decide +kernel
theorem dX0_offer_26 : decode cX0_offer 26 = .ok (.lmul, 1) := by decide +kernel
theorem dX0_offer_27 : decode cX0_offer 27 = .ok (.lstore 10, 2) := by decide +kernel
theorem dX0_offer_29 : decode cX0_offer 29 = .ok (.aload_n 0, 1) := by decide +kernel
theorem dX0_offer_30 : decode cX0_offer 30 = .ok (.getfield 74, 3) := by decide +kernel
theorem dX0_offer_33 : decode cX0_offer 33 = .ok (.lload 6, 2) := by decide +kernel
theorem dX0_offer_35 : decode cX0_offer 35 = .ok (.lmul, 1) := by decide +kernel
theorem dX0_offer_36 : decode cX0_offer 36 = .ok (.lstore 12, 2) := by decide +kernel
theorem dX0_offer_38 : decode cX0_offer 38 = .ok (.lload 8, 2) := by decide +kernel
theorem dX0_offer_40 : decode cX0_offer 40 = .ok (.lload 10, 2) := by decide +kernel
theorem dX0_offer_42 : decode cX0_offer 42 = .ok (.lcmp, 1) := by decide +kernel
theorem dX0_offer_43 : decode cX0_offer 43 = .ok (.ifCond .le 11, 3) := by decide +kernel
theorem dX0_offer_46 : decode cX0_offer 46 = .ok (.lload 8, 2) := by decide +kernel
theorem dX0_offer_48 : decode cX0_offer 48 = .ok (.lload 12, 2) := by decide +kernel
theorem dX0_offer_50 : decode cX0_offer 50 = .ok (.lcmp, 1) := by decide +kernel
theorem dX0_offer_51 : decode cX0_offer 51 = .ok (.ifCond .lt 26, 3) := by decide +kernel
theorem dX0_offer_54 : decode cX0_offer 54 = .ok (.aload_n 0, 1) := by decide +kernel
theorem dX0_offer_55 : decode cX0_offer 55 = .ok (.getfield 77, 3) := by decide +kernel
theorem dX0_offer_58 : decode cX0_offer 58 = .ok (.ifCond .eq 23, 3) := by decide +kernel
theorem dX0_offer_61 : decode cX0_offer 61 = .ok (.lload 8, 2) := by decide +kernel
theorem dX0_offer_63 : decode cX0_offer 63 = .ok (.lload 10, 2) := by decide +kernel
theorem dX0_offer_65 : decode cX0_offer 65 = .ok (.lcmp, 1) := by decide +kernel
theorem dX0_offer_66 : decode cX0_offer 66 = .ok (.ifCond .eq 11, 3) := by decide +kernel
theorem dX0_offer_69 : decode cX0_offer 69 = .ok (.lload 8, 2) := by decide +kernel
theorem dX0_offer_71 : decode cX0_offer 71 = .ok (.lload 12, 2) := by decide +kernel
theorem dX0_offer_73 : decode cX0_offer 73 = .ok (.lcmp, 1) := by decide +kernel
theorem dX0_offer_74 : decode cX0_offer 74 = .ok (.ifCond .ne 7, 3) := by decide +kernel
theorem dX0_offer_77 : decode cX0_offer 77 = .ok (.iconst 1, 1) := by decide +kernel
theorem dX0_offer_78 : decode cX0_offer 78 = .ok (.goto 4, 3) := by decide +kernel
theorem dX0_offer_81 : decode cX0_offer 81 = .ok (.iconst 0, 1) := by decide +kernel
theorem dX0_offer_82 : decode cX0_offer 82 = .ok (.istore 14, 2) := by decide +kernel
theorem dX0_offer_84 : decode cX0_offer 84 = .ok (.iload 14, 2) := by decide +kernel
theorem dX0_offer_86 : decode cX0_offer 86 = .ok (.ifCond .ne 4, 3) := by decide +kernel
theorem dX0_offer_89 : decode cX0_offer 89 = .ok (.return_, 1) := by decide +kernel
theorem dX0_offer_90 : decode cX0_offer 90 = .ok (.lload 8, 2) := by decide +kernel
theorem dX0_offer_92 : decode cX0_offer 92 = .ok (.aload_n 0, 1) := by decide +kernel
theorem dX0_offer_93 : decode cX0_offer 93 = .ok (.getfield 65, 3) := by decide +kernel
theorem dX0_offer_96 : decode cX0_offer 96 = .ok (.lload 6, 2) := by decide +kernel
theorem dX0_offer_98 : decode cX0_offer 98 = .ok (.lmul, 1) := by decide +kernel
theorem dX0_offer_99 : decode cX0_offer 99 = .ok (.lcmp, 1) := by decide +kernel
theorem dX0_offer_100 : decode cX0_offer 100 = .ok (.ifCond .le 16, 3) := by decide +kernel
theorem dX0_offer_103 : decode cX0_offer 103 = .ok (.lload 8, 2) := by decide +kernel
theorem dX0_offer_105 : decode cX0_offer 105 = .ok (.aload_n 0, 1) := by decide +kernel
theorem dX0_offer_106 : decode cX0_offer 106 = .ok (.getfield 65, 3) := by decide +kernel
theorem dX0_offer_109 : decode cX0_offer 109 = .ok (.lload 6, 2) := by decide +kernel
theorem dX0_offer_111 : decode cX0_offer 111 = .ok (.lmul, 1) := by decide +kernel
theorem dX0_offer_112 : decode cX0_offer 112 = .ok (.lsub, 1) := by decide +kernel
theorem dX0_offer_113 : decode cX0_offer 113 = .ok (.goto 13, 3) := by decide +kernel
theorem dX0_offer_116 : decode cX0_offer 116 = .ok (.aload_n 0, 1) := by decide +kernel
theorem dX0_offer_117 : decode cX0_offer 117 = .ok (.getfield 65, 3) := by decide +kernel
theorem dX0_offer_120 : decode cX0_offer 120 = .ok (.lload 6, 2) := by decide +kernel
theorem dX0_offer_122 : decode cX0_offer 122 = .ok (.lmul, 1) := by decide +kernel
theorem dX0_offer_123 : decode cX0_offer 123 = .ok (.lload 8, 2) := by decide +kernel
theorem dX0_offer_125 : decode cX0_offer 125 = .ok (.lsub, 1) := by decide +kernel
theorem dX0_offer_126 : decode cX0_offer 126 = .ok (.lstore 15, 2) := by decide +kernel
theorem dX0_offer_128 : decode cX0_offer 128 = .ok (.aload_n 0, 1) := by decide +kernel
theorem dX0_offer_129 : decode cX0_offer 129 = .ok (.getfield 81, 3) := by decide +kernel
theorem dX0_offer_132 : decode cX0_offer 132 = .ok (.ifCond .eq 16, 3) := by decide +kernel
theorem dX0_offer_135 : decode cX0_offer 135 = .ok (.aload_n 0, 1) := by decide +kernel
theorem dX0_offer_136 : decode cX0_offer 136 = .ok (.lload 15, 2) := by decide +kernel
theorem dX0_offer_138 : decode cX0_offer 138 = .ok (.lload 6, 2) := by decide +kernel
theorem dX0_offer_140 : decode cX0_offer 140 = .ok (.lload_n 1, 1) := by decide +kernel
theorem dX0_offer_141 : decode cX0_offer 141 = .ok (.iload_n 3, 1) := by decide +kernel
theorem dX0_offer_142 : decode cX0_offer 142 = .ok (.invokevirtual 94, 3) := by decide +kernel
theorem dX0_offer_145 : decode cX0_offer 145 = .ok (.ifCond .eq 31, 3) := by decide +kernel
theorem dX0_offer_148 : decode cX0_offer 148 = .ok (.aload_n 0, 1) := by decide +kernel
theorem dX0_offer_149 : decode cX0_offer 149 = .ok (.iconst 1, 1) := by decide +kernel
theorem dX0_offer_150 : decode cX0_offer 150 = .ok (.putfield 81, 3) := by decide +kernel
theorem dX0_offer_153 : decode cX0_offer 153 = .ok (.aload_n 0, 1) := by decide +kernel
theorem dX0_offer_154 : decode cX0_offer 154 = .ok (.lload_n 1, 1) := by decide +kernel
theorem dX0_offer_155 : decode cX0_offer 155 = .ok (.l2i, 1) := by decide +kernel
theorem dX0_offer_156 : decode cX0_offer 156 = .ok (.putfield 50, 3) := by decide +kernel
theorem dX0_offer_159 : decode cX0_offer 159 = .ok (.aload_n 0, 1) := by decide +kernel
theorem dX0_offer_160 : decode cX0_offer 160 = .ok (.iload_n 3, 1) := by decide +kernel
theorem dX0_offer_161 : decode cX0_offer 161 = .ok (.putfield 54, 3) := by decide +kernel
theorem dX0_offer_164 : decode cX0_offer 164 = .ok (.aload_n 0, 1) := by decide +kernel
theorem dX0_offer_165 : decode cX0_offer 165 = .ok (.lload 15, 2) := by decide +kernel
theorem dX0_offer_167 : decode cX0_offer 167 = .ok (.putfield 98, 3) := by decide +kernel
theorem dX0_offer_170 : decode cX0_offer 170 = .ok (.aload_n 0, 1) := by decide +kernel
theorem dX0_offer_171 : decode cX0_offer 171 = .ok (.lload 6, 2) := by decide +kernel
theorem dX0_offer_173 : decode cX0_offer 173 = .ok (.putfield 101, 3) := by decide +kernel
theorem dX0_offer_176 : decode cX0_offer 176 = .ok (.return_, 1) := by decide +kernel
abbrev cX0_nearer : ByteArray := prog_1_method_23_code
def yX0_nearer : MethodName := ⟨RX0, "nearer", "(JJJI)Z"⟩
theorem dX0_nearer_0 : decode cX0_nearer 0 = .ok (.lload_n 3, 1) := by decide +kernel
theorem dX0_nearer_1 : decode cX0_nearer 1 = .ok (.aload_n 0, 1) := by decide +kernel
theorem dX0_nearer_2 : decode cX0_nearer 2 = .ok (.getfield 101, 3) := by decide +kernel
theorem dX0_nearer_5 : decode cX0_nearer 5 = .ok (.lcmp, 1) := by decide +kernel
theorem dX0_nearer_6 : decode cX0_nearer 6 = .ok (.ifCond .ge 14, 3) := by decide +kernel
theorem dX0_nearer_9 : decode cX0_nearer 9 = .ok (.lload_n 1, 1) := by decide +kernel
theorem dX0_nearer_10 : decode cX0_nearer 10 = .ok (.aload_n 0, 1) := by decide +kernel
theorem dX0_nearer_11 : decode cX0_nearer 11 = .ok (.getfield 101, 3) := by decide +kernel
theorem dX0_nearer_14 : decode cX0_nearer 14 = .ok (.lload_n 3, 1) := by decide +kernel
theorem dX0_nearer_15 : decode cX0_nearer 15 = .ok (.ldiv, 1) := by decide +kernel
theorem dX0_nearer_16 : decode cX0_nearer 16 = .ok (.lmul, 1) := by decide +kernel
theorem dX0_nearer_17 : decode cX0_nearer 17 = .ok (.goto 4, 3) := by decide +kernel
theorem dX0_nearer_20 : decode cX0_nearer 20 = .ok (.lload_n 1, 1) := by decide +kernel
theorem dX0_nearer_21 : decode cX0_nearer 21 = .ok (.lstore 8, 2) := by decide +kernel
theorem dX0_nearer_23 : decode cX0_nearer 23 = .ok (.aload_n 0, 1) := by decide +kernel
theorem dX0_nearer_24 : decode cX0_nearer 24 = .ok (.getfield 101, 3) := by decide +kernel
theorem dX0_nearer_27 : decode cX0_nearer 27 = .ok (.lload_n 3, 1) := by decide +kernel
theorem dX0_nearer_28 : decode cX0_nearer 28 = .ok (.lcmp, 1) := by decide +kernel
theorem dX0_nearer_29 : decode cX0_nearer 29 = .ok (.ifCond .ge 17, 3) := by decide +kernel
theorem dX0_nearer_32 : decode cX0_nearer 32 = .ok (.aload_n 0, 1) := by decide +kernel
theorem dX0_nearer_33 : decode cX0_nearer 33 = .ok (.getfield 98, 3) := by decide +kernel
theorem dX0_nearer_36 : decode cX0_nearer 36 = .ok (.lload_n 3, 1) := by decide +kernel
theorem dX0_nearer_37 : decode cX0_nearer 37 = .ok (.aload_n 0, 1) := by decide +kernel
theorem dX0_nearer_38 : decode cX0_nearer 38 = .ok (.getfield 101, 3) := by decide +kernel
theorem dX0_nearer_41 : decode cX0_nearer 41 = .ok (.ldiv, 1) := by decide +kernel
theorem dX0_nearer_42 : decode cX0_nearer 42 = .ok (.lmul, 1) := by decide +kernel
theorem dX0_nearer_43 : decode cX0_nearer 43 = .ok (.goto 7, 3) := by decide +kernel
theorem dX0_nearer_46 : decode cX0_nearer 46 = .ok (.aload_n 0, 1) := by decide +kernel
theorem dX0_nearer_47 : decode cX0_nearer 47 = .ok (.getfield 98, 3) := by decide +kernel
theorem dX0_nearer_50 : decode cX0_nearer 50 = .ok (.lstore 10, 2) := by decide +kernel
theorem dX0_nearer_52 : decode cX0_nearer 52 = .ok (.lload 8, 2) := by decide +kernel
theorem dX0_nearer_54 : decode cX0_nearer 54 = .ok (.lload 10, 2) := by decide +kernel
theorem dX0_nearer_56 : decode cX0_nearer 56 = .ok (.lcmp, 1) := by decide +kernel
theorem dX0_nearer_57 : decode cX0_nearer 57 = .ok (.ifCond .eq 17, 3) := by decide +kernel
theorem dX0_nearer_60 : decode cX0_nearer 60 = .ok (.lload 8, 2) := by decide +kernel
theorem dX0_nearer_62 : decode cX0_nearer 62 = .ok (.lload 10, 2) := by decide +kernel
theorem dX0_nearer_64 : decode cX0_nearer 64 = .ok (.lcmp, 1) := by decide +kernel
theorem dX0_nearer_65 : decode cX0_nearer 65 = .ok (.ifCond .ge 7, 3) := by decide +kernel
theorem dX0_nearer_68 : decode cX0_nearer 68 = .ok (.iconst 1, 1) := by decide +kernel
theorem dX0_nearer_69 : decode cX0_nearer 69 = .ok (.goto 4, 3) := by decide +kernel
theorem dX0_nearer_72 : decode cX0_nearer 72 = .ok (.iconst 0, 1) := by decide +kernel
theorem dX0_nearer_73 : decode cX0_nearer 73 = .ok (.ireturn, 1) := by decide +kernel
theorem dX0_nearer_74 : decode cX0_nearer 74 = .ok (.lload 5, 2) := by decide +kernel
theorem dX0_nearer_76 : decode cX0_nearer 76 = .ok (.iload 7, 2) := by decide +kernel
theorem dX0_nearer_78 : decode cX0_nearer 78 = .ok (.aload_n 0, 1) := by decide +kernel
theorem dX0_nearer_79 : decode cX0_nearer 79 = .ok (.getfield 50, 3) := by decide +kernel
theorem dX0_nearer_82 : decode cX0_nearer 82 = .ok (.i2l, 1) := by decide +kernel
theorem dX0_nearer_83 : decode cX0_nearer 83 = .ok (.aload_n 0, 1) := by decide +kernel
theorem dX0_nearer_84 : decode cX0_nearer 84 = .ok (.getfield 54, 3) := by decide +kernel
theorem dX0_nearer_87 : decode cX0_nearer 87 = .ok (.invokestatic 104, 3) := by decide +kernel
theorem dX0_nearer_90 : decode cX0_nearer 90 = .ok (.ireturn, 1) := by decide +kernel
abbrev cX0_isLess : ByteArray := prog_1_method_24_code
def yX0_isLess : MethodName := ⟨RX0, "isLess", "(JIJI)Z"⟩
theorem dX0_isLess_0 : decode cX0_isLess 0 = .ok (.iload_n 2, 1) := by decide +kernel
theorem dX0_isLess_1 : decode cX0_isLess 1 = .ok (.iload 5, 2) := by decide +kernel
theorem dX0_isLess_3 : decode cX0_isLess 3 = .ok (.if_icmp .lt 25, 3) := by decide +kernel
theorem dX0_isLess_6 : decode cX0_isLess 6 = .ok (.lload_n 0, 1) := by decide +kernel
theorem dX0_isLess_7 : decode cX0_isLess 7 = .ok (.iload_n 2, 1) := by decide +kernel
theorem dX0_isLess_8 : decode cX0_isLess 8 = .ok (.iload 5, 2) := by decide +kernel
theorem dX0_isLess_10 : decode cX0_isLess 10 = .ok (.isub, 1) := by decide +kernel
theorem dX0_isLess_11 : decode cX0_isLess 11 = .ok (.invokestatic 41, 3) := by decide +kernel
theorem dX0_isLess_14 : decode cX0_isLess 14 = .ok (.lmul, 1) := by decide +kernel
theorem dX0_isLess_15 : decode cX0_isLess 15 = .ok (.lload_n 3, 1) := by decide +kernel
theorem dX0_isLess_16 : decode cX0_isLess 16 = .ok (.lcmp, 1) := by decide +kernel
theorem dX0_isLess_17 : decode cX0_isLess 17 = .ok (.ifCond .ge 7, 3) := by decide +kernel
theorem dX0_isLess_20 : decode cX0_isLess 20 = .ok (.iconst 1, 1) := by decide +kernel
theorem dX0_isLess_21 : decode cX0_isLess 21 = .ok (.goto 26, 3) := by decide +kernel
theorem dX0_isLess_24 : decode cX0_isLess 24 = .ok (.iconst 0, 1) := by decide +kernel
theorem dX0_isLess_25 : decode cX0_isLess 25 = .ok (.goto 22, 3) := by decide +kernel
theorem dX0_isLess_28 : decode cX0_isLess 28 = .ok (.lload_n 0, 1) := by decide +kernel
theorem dX0_isLess_29 : decode cX0_isLess 29 = .ok (.lload_n 3, 1) := by decide +kernel
theorem dX0_isLess_30 : decode cX0_isLess 30 = .ok (.iload 5, 2) := by decide +kernel
theorem dX0_isLess_32 : decode cX0_isLess 32 = .ok (.iload_n 2, 1) := by decide +kernel
theorem dX0_isLess_33 : decode cX0_isLess 33 = .ok (.isub, 1) := by decide +kernel
theorem dX0_isLess_34 : decode cX0_isLess 34 = .ok (.invokestatic 41, 3) := by decide +kernel
theorem dX0_isLess_37 : decode cX0_isLess 37 = .ok (.lmul, 1) := by decide +kernel
theorem dX0_isLess_38 : decode cX0_isLess 38 = .ok (.lcmp, 1) := by decide +kernel
theorem dX0_isLess_39 : decode cX0_isLess 39 = .ok (.ifCond .ge 7, 3) := by decide +kernel
theorem dX0_isLess_42 : decode cX0_isLess 42 = .ok (.iconst 1, 1) := by decide +kernel
theorem dX0_isLess_43 : decode cX0_isLess 43 = .ok (.goto 4, 3) := by decide +kernel
theorem dX0_isLess_46 : decode cX0_isLess 46 = .ok (.iconst 0, 1) := by decide +kernel
theorem dX0_isLess_47 : decode cX0_isLess 47 = .ok (.ireturn, 1) := by decide +kernel
abbrev cX0_exponent : ByteArray := prog_1_method_8_code
def yX0_exponent : MethodName := ⟨RX0, "exponent", "(I)I"⟩
theorem dX0_exponent_0 : decode cX0_exponent 0 = .ok (.iload_n 1, 1) := by decide +kernel
theorem dX0_exponent_1 : decode cX0_exponent 1 = .ok (.invokestatic 7, 3) := by decide +kernel
theorem dX0_exponent_4 : decode cX0_exponent 4 = .ok (.ifCond .ne 6, 3) := by decide +kernel
theorem dX0_exponent_7 : decode cX0_exponent 7 = .ok (.bipush 100, 2) := by decide +kernel
theorem dX0_exponent_9 : decode cX0_exponent 9 = .ok (.ireturn, 1) := by decide +kernel
theorem dX0_exponent_10 : decode cX0_exponent 10 = .ok (.iload_n 1, 1) := by decide +kernel
theorem dX0_exponent_11 : decode cX0_exponent 11 = .ok (.invokestatic 25, 3) := by decide +kernel
theorem dX0_exponent_14 : decode cX0_exponent 14 = .ok (.ifCond .ne 5, 3) := by decide +kernel
theorem dX0_exponent_17 : decode cX0_exponent 17 = .ok (.iconst 0, 1) := by decide +kernel
theorem dX0_exponent_18 : decode cX0_exponent 18 = .ok (.ireturn, 1) := by decide +kernel
theorem dX0_exponent_19 : decode cX0_exponent 19 = .ok (.aload_n 0, 1) := by decide +kernel
theorem dX0_exponent_20 : decode cX0_exponent 20 = .ok (.iload_n 1, 1) := by decide +kernel
theorem dX0_exponent_21 : decode cX0_exponent 21 = .ok (.invokevirtual 46, 3) := by decide +kernel
theorem dX0_exponent_24 : decode cX0_exponent 24 = .ok (.aload_n 0, 1) := by decide +kernel
theorem dX0_exponent_25 : decode cX0_exponent 25 = .ok (.getfield 54, 3) := by decide +kernel
theorem dX0_exponent_28 : decode cX0_exponent 28 = .ok (.ireturn, 1) := by decide +kernel
abbrev cX0_compare : ByteArray := prog_1_method_9_code
def yX0_compare : MethodName := ⟨RX0, "compare", "(II)I"⟩
theorem dX0_compare_0 : decode cX0_compare 0 = .ok (.iload_n 1, 1) := by decide +kernel
theorem dX0_compare_1 : decode cX0_compare 1 = .ok (.invokestatic 7, 3) := by decide +kernel
theorem dX0_compare_4 : decode cX0_compare 4 = .ok (.ifCond .eq 10, 3) := by decide +kernel
theorem dX0_compare_7 : decode cX0_compare 7 = .ok (.iload_n 2, 1) := by decide +kernel
theorem dX0_compare_8 : decode cX0_compare 8 = .ok (.invokestatic 7, 3) := by decide +kernel
theorem dX0_compare_11 : decode cX0_compare 11 = .ok (.ifCond .ne 5, 3) := by decide +kernel
theorem dX0_compare_14 : decode cX0_compare 14 = .ok (.iconst (-1), 1) := by decide +kernel
theorem dX0_compare_15 : decode cX0_compare 15 = .ok (.ireturn, 1) := by decide +kernel
theorem dX0_compare_16 : decode cX0_compare 16 = .ok (.iload_n 1, 1) := by decide +kernel
theorem dX0_compare_17 : decode cX0_compare 17 = .ok (.invokestatic 13, 3) := by decide +kernel
theorem dX0_compare_20 : decode cX0_compare 20 = .ok (.iload_n 2, 1) := by decide +kernel
theorem dX0_compare_21 : decode cX0_compare 21 = .ok (.invokestatic 13, 3) := by decide +kernel
theorem dX0_compare_24 : decode cX0_compare 24 = .ok (.lsub, 1) := by decide +kernel
theorem dX0_compare_25 : decode cX0_compare 25 = .ok (.lstore_n 3, 1) := by decide +kernel
theorem dX0_compare_26 : decode cX0_compare 26 = .ok (.lload_n 3, 1) := by decide +kernel
theorem dX0_compare_27 : decode cX0_compare 27 = .ok (.lconst 0, 1) := by decide +kernel
theorem dX0_compare_28 : decode cX0_compare 28 = .ok (.lcmp, 1) := by decide +kernel
theorem dX0_compare_29 : decode cX0_compare 29 = .ok (.ifCond .ge 7, 3) := by decide +kernel
theorem dX0_compare_32 : decode cX0_compare 32 = .ok (.iconst 1, 1) := by decide +kernel
theorem dX0_compare_33 : decode cX0_compare 33 = .ok (.goto 14, 3) := by decide +kernel
theorem dX0_compare_36 : decode cX0_compare 36 = .ok (.lload_n 3, 1) := by decide +kernel
theorem dX0_compare_37 : decode cX0_compare 37 = .ok (.lconst 0, 1) := by decide +kernel
theorem dX0_compare_38 : decode cX0_compare 38 = .ok (.lcmp, 1) := by decide +kernel
theorem dX0_compare_39 : decode cX0_compare 39 = .ok (.ifCond .ne 7, 3) := by decide +kernel
theorem dX0_compare_42 : decode cX0_compare 42 = .ok (.iconst 2, 1) := by decide +kernel
theorem dX0_compare_43 : decode cX0_compare 43 = .ok (.goto 4, 3) := by decide +kernel
theorem dX0_compare_46 : decode cX0_compare 46 = .ok (.iconst 3, 1) := by decide +kernel
theorem dX0_compare_47 : decode cX0_compare 47 = .ok (.ireturn, 1) := by decide +kernel
abbrev cX0_floor : ByteArray := prog_1_method_10_code
def yX0_floor : MethodName := ⟨RX0, "floor", "(I)I"⟩
theorem dX0_floor_0 : decode cX0_floor 0 = .ok (.iload_n 1, 1) := by decide +kernel
theorem dX0_floor_1 : decode cX0_floor 1 = .ok (.invokestatic 7, 3) := by decide +kernel
theorem dX0_floor_4 : decode cX0_floor 4 = .ok (.ifCond .eq 14, 3) := by decide +kernel
theorem dX0_floor_7 : decode cX0_floor 7 = .ok (.iload_n 1, 1) := by decide +kernel
theorem dX0_floor_8 : decode cX0_floor 8 = .ok (.invokestatic 13, 3) := by decide +kernel
theorem dX0_floor_11 : decode cX0_floor 11 = .ok (.bipush 28, 2) := by decide +kernel
theorem dX0_floor_13 : decode cX0_floor 13 = .ok (.lshr, 1) := by decide +kernel
theorem dX0_floor_14 : decode cX0_floor 14 = .ok (.l2i, 1) := by decide +kernel
theorem dX0_floor_15 : decode cX0_floor 15 = .ok (.goto 5, 3) := by decide +kernel
theorem dX0_floor_18 : decode cX0_floor 18 = .ok (.ldc 57, 2) := by decide +kernel
theorem dX0_floor_20 : decode cX0_floor 20 = .ok (.ireturn, 1) := by decide +kernel
theorem q7 : (Jvm.Cond.initialized "HalfFloat") ∈ lw_all := lw_g (lw_at lw_m0 1 rfl) rfl
theorem q10 : (Jvm.Cond.instantiable "HalfFloat" (9 : Nat)) ∈ lw_all := lw_g (lw_at lw_m0 4 rfl) rfl
theorem q12 : (Jvm.Cond.instanceMethod ({ cls := "HalfFloat", name := "<init>", desc := "()V" } : Jvm.MethodName)) ∈ lw_all := lw_g (lw_at lw_m0 6 rfl) rfl
theorem q13 : (Jvm.Cond.code ({ cls := "HalfFloat", name := "<init>", desc := "()V" } : Jvm.MethodName) prog_1_method_1_code (1 : Nat) (Option.none : Option Jvm.ClassFile.FieldType)) ∈ lw_all := lw_g (lw_at lw_m0 7 rfl) rfl
theorem q14 : (Jvm.Cond.methodLink "HalfFloat" (1 : Nat) ({ cls := "java/lang/Object", name := "<init>", desc := "()V" } : Jvm.MethodName)) ∈ lw_all := lw_g (lw_at lw_m0 8 rfl) rfl
theorem q17 : (Jvm.Cond.fieldLink "HalfFloat" (65 : Nat) "HalfFloat" "own" "J") ∈ lw_all := lw_g (lw_at lw_m0 11 rfl) rfl
theorem q18 : (Jvm.Cond.fieldLink "HalfFloat" (71 : Nat) "HalfFloat" "low" "J") ∈ lw_all := lw_g (lw_at lw_m0 12 rfl) rfl
theorem q19 : (Jvm.Cond.fieldLink "HalfFloat" (74 : Nat) "HalfFloat" "high" "J") ∈ lw_all := lw_g (lw_at lw_m0 13 rfl) rfl
theorem q20 : (Jvm.Cond.fieldLink "HalfFloat" (77 : Nat) "HalfFloat" "closed" "Z") ∈ lw_all := lw_g (lw_at lw_m0 14 rfl) rfl
theorem q21 : (Jvm.Cond.fieldLink "HalfFloat" (81 : Nat) "HalfFloat" "some" "Z") ∈ lw_all := lw_g (lw_at lw_m0 15 rfl) rfl
theorem q22 : (Jvm.Cond.fieldLink "HalfFloat" (50 : Nat) "HalfFloat" "bestDigits" "I") ∈ lw_all := lw_g (lw_at lw_m0 16 rfl) rfl
theorem q23 : (Jvm.Cond.fieldLink "HalfFloat" (54 : Nat) "HalfFloat" "bestExponent" "I") ∈ lw_all := lw_g (lw_at lw_m0 17 rfl) rfl
theorem q24 : (Jvm.Cond.fieldLink "HalfFloat" (98 : Nat) "HalfFloat" "bestGap" "J") ∈ lw_all := lw_g (lw_at lw_m0 18 rfl) rfl
theorem q25 : (Jvm.Cond.fieldLink "HalfFloat" (101 : Nat) "HalfFloat" "bestScale" "J") ∈ lw_all := lw_g (lw_at lw_m0 19 rfl) rfl
theorem q26 : (Jvm.Cond.lays "HalfFloat" "HalfFloat" "own" "J") ∈ lw_all := lw_g (lw_at lw_m0 20 rfl) rfl
theorem q27 : (Jvm.Cond.soleField "HalfFloat" "own") ∈ lw_all := lw_g (lw_at lw_m0 21 rfl) rfl
theorem q28 : (Jvm.Cond.lays "HalfFloat" "HalfFloat" "low" "J") ∈ lw_all := lw_g (lw_at lw_m0 22 rfl) rfl
theorem q29 : (Jvm.Cond.soleField "HalfFloat" "low") ∈ lw_all := lw_g (lw_at lw_m0 23 rfl) rfl
theorem q30 : (Jvm.Cond.lays "HalfFloat" "HalfFloat" "high" "J") ∈ lw_all := lw_g (lw_at lw_m0 24 rfl) rfl
theorem q31 : (Jvm.Cond.soleField "HalfFloat" "high") ∈ lw_all := lw_g (lw_at lw_m0 25 rfl) rfl
theorem q32 : (Jvm.Cond.lays "HalfFloat" "HalfFloat" "closed" "Z") ∈ lw_all := lw_g (lw_at lw_m0 26 rfl) rfl
theorem q33 : (Jvm.Cond.soleField "HalfFloat" "closed") ∈ lw_all := lw_g (lw_at lw_m0 27 rfl) rfl
theorem q34 : (Jvm.Cond.lays "HalfFloat" "HalfFloat" "some" "Z") ∈ lw_all := lw_g (lw_at lw_m0 28 rfl) rfl
theorem q35 : (Jvm.Cond.soleField "HalfFloat" "some") ∈ lw_all := lw_g (lw_at lw_m0 29 rfl) rfl
theorem q36 : (Jvm.Cond.lays "HalfFloat" "HalfFloat" "bestDigits" "I") ∈ lw_all := lw_g (lw_at lw_m0 30 rfl) rfl
theorem q37 : (Jvm.Cond.soleField "HalfFloat" "bestDigits") ∈ lw_all := lw_g (lw_at lw_m0 31 rfl) rfl
theorem q38 : (Jvm.Cond.lays "HalfFloat" "HalfFloat" "bestExponent" "I") ∈ lw_all := lw_g (lw_at lw_m0 32 rfl) rfl
theorem q39 : (Jvm.Cond.soleField "HalfFloat" "bestExponent") ∈ lw_all := lw_g (lw_at lw_m0 33 rfl) rfl
theorem q40 : (Jvm.Cond.lays "HalfFloat" "HalfFloat" "bestGap" "J") ∈ lw_all := lw_g (lw_at lw_m0 34 rfl) rfl
theorem q41 : (Jvm.Cond.soleField "HalfFloat" "bestGap") ∈ lw_all := lw_g (lw_at lw_m0 35 rfl) rfl
theorem q42 : (Jvm.Cond.lays "HalfFloat" "HalfFloat" "bestScale" "J") ∈ lw_all := lw_g (lw_at lw_m0 36 rfl) rfl
theorem q43 : (Jvm.Cond.soleField "HalfFloat" "bestScale") ∈ lw_all := lw_g (lw_at lw_m0 37 rfl) rfl
theorem q44 : (Jvm.Cond.superclass "HalfFloat" "java/lang/Object") ∈ lw_all := lw_g (lw_at lw_m0 38 rfl) rfl
theorem q46 : (Jvm.Cond.instanceMethod ({ cls := "HalfFloat", name := "add", desc := "(II)I" } : Jvm.MethodName)) ∈ lw_all := lw_g (lw_at lw_m0 40 rfl) rfl
theorem q47 : (Jvm.Cond.selects "HalfFloat" ({ cls := "HalfFloat", name := "add", desc := "(II)I" } : Jvm.MethodName) ({ cls := "HalfFloat", name := "add", desc := "(II)I" } : Jvm.MethodName)) ∈ lw_all := lw_g (lw_at lw_m0 41 rfl) rfl
theorem q48 : (Jvm.Cond.code ({ cls := "HalfFloat", name := "add", desc := "(II)I" } : Jvm.MethodName) prog_1_method_2_code (6 : Nat) (Option.some Jvm.ClassFile.FieldType.int)) ∈ lw_all := lw_g (lw_at lw_m0 42 rfl) rfl
theorem q49 : (Jvm.Cond.methodLink "HalfFloat" (7 : Nat) ({ cls := "HalfFloat", name := "isNumber", desc := "(I)Z" } : Jvm.MethodName)) ∈ lw_all := lw_g (lw_at lw_m0 43 rfl) rfl
theorem q50 : (Jvm.Cond.static ({ cls := "HalfFloat", name := "isNumber", desc := "(I)Z" } : Jvm.MethodName)) ∈ lw_all := lw_g (lw_at lw_m0 44 rfl) rfl
theorem q51 : (Jvm.Cond.code ({ cls := "HalfFloat", name := "isNumber", desc := "(I)Z" } : Jvm.MethodName) prog_1_method_11_code (1 : Nat) (Option.some Jvm.ClassFile.FieldType.boolean)) ∈ lw_all := lw_g (lw_at lw_m0 45 rfl) rfl
theorem q52 : (Jvm.Cond.constant "HalfFloat" (58 : Nat) (65535 : Int32)) ∈ lw_all := lw_g (lw_at lw_m0 46 rfl) rfl
theorem q53 : (Jvm.Cond.methodLink "HalfFloat" (13 : Nat) ({ cls := "HalfFloat", name := "signed", desc := "(I)J" } : Jvm.MethodName)) ∈ lw_all := lw_g (lw_at lw_m0 47 rfl) rfl
theorem q54 : (Jvm.Cond.static ({ cls := "HalfFloat", name := "signed", desc := "(I)J" } : Jvm.MethodName)) ∈ lw_all := lw_g (lw_at lw_m0 48 rfl) rfl
theorem q55 : (Jvm.Cond.code ({ cls := "HalfFloat", name := "signed", desc := "(I)J" } : Jvm.MethodName) prog_1_method_14_code (3 : Nat) (Option.some Jvm.ClassFile.FieldType.long)) ∈ lw_all := lw_g (lw_at lw_m0 49 rfl) rfl
theorem q56 : (Jvm.Cond.methodLink "HalfFloat" (25 : Nat) ({ cls := "HalfFloat", name := "digitsOf", desc := "(I)I" } : Jvm.MethodName)) ∈ lw_all := lw_g (lw_at lw_m0 50 rfl) rfl
theorem q57 : (Jvm.Cond.static ({ cls := "HalfFloat", name := "digitsOf", desc := "(I)I" } : Jvm.MethodName)) ∈ lw_all := lw_g (lw_at lw_m0 51 rfl) rfl
theorem q58 : (Jvm.Cond.code ({ cls := "HalfFloat", name := "digitsOf", desc := "(I)I" } : Jvm.MethodName) prog_1_method_12_code (2 : Nat) (Option.some Jvm.ClassFile.FieldType.int)) ∈ lw_all := lw_g (lw_at lw_m0 52 rfl) rfl
theorem q59 : (Jvm.Cond.methodLink "HalfFloat" (28 : Nat) ({ cls := "HalfFloat", name := "placeOf", desc := "(I)I" } : Jvm.MethodName)) ∈ lw_all := lw_g (lw_at lw_m0 53 rfl) rfl
theorem q60 : (Jvm.Cond.static ({ cls := "HalfFloat", name := "placeOf", desc := "(I)I" } : Jvm.MethodName)) ∈ lw_all := lw_g (lw_at lw_m0 54 rfl) rfl
theorem q61 : (Jvm.Cond.code ({ cls := "HalfFloat", name := "placeOf", desc := "(I)I" } : Jvm.MethodName) prog_1_method_13_code (2 : Nat) (Option.some Jvm.ClassFile.FieldType.int)) ∈ lw_all := lw_g (lw_at lw_m0 55 rfl) rfl
theorem q62 : (Jvm.Cond.constant "HalfFloat" (35 : Nat) (32768 : Int32)) ∈ lw_all := lw_g (lw_at lw_m0 56 rfl) rfl
theorem q63 : (Jvm.Cond.methodLink "HalfFloat" (17 : Nat) ({ cls := "HalfFloat", name := "round", desc := "(JZ)I" } : Jvm.MethodName)) ∈ lw_all := lw_g (lw_at lw_m0 57 rfl) rfl
theorem q64 : (Jvm.Cond.static ({ cls := "HalfFloat", name := "round", desc := "(JZ)I" } : Jvm.MethodName)) ∈ lw_all := lw_g (lw_at lw_m0 58 rfl) rfl
theorem q65 : (Jvm.Cond.code ({ cls := "HalfFloat", name := "round", desc := "(JZ)I" } : Jvm.MethodName) prog_1_method_19_code (13 : Nat) (Option.some Jvm.ClassFile.FieldType.int)) ∈ lw_all := lw_g (lw_at lw_m0 59 rfl) rfl
theorem q66 : (Jvm.Cond.constantLong "HalfFloat" (61 : Nat) (2047 : Int64)) ∈ lw_all := lw_g (lw_at lw_m0 60 rfl) rfl
theorem q67 : (Jvm.Cond.constantLong "HalfFloat" (63 : Nat) (31744 : Int64)) ∈ lw_all := lw_g (lw_at lw_m0 61 rfl) rfl
theorem q68 : (Jvm.Cond.methodLink "HalfFloat" (21 : Nat) ({ cls := "HalfFloat", name := "negative", desc := "(I)I" } : Jvm.MethodName)) ∈ lw_all := lw_g (lw_at lw_m0 62 rfl) rfl
theorem q69 : (Jvm.Cond.static ({ cls := "HalfFloat", name := "negative", desc := "(I)I" } : Jvm.MethodName)) ∈ lw_all := lw_g (lw_at lw_m0 63 rfl) rfl
theorem q70 : (Jvm.Cond.code ({ cls := "HalfFloat", name := "negative", desc := "(I)I" } : Jvm.MethodName) prog_1_method_15_code (1 : Nat) (Option.some Jvm.ClassFile.FieldType.int)) ∈ lw_all := lw_g (lw_at lw_m0 64 rfl) rfl
theorem q72 : (Jvm.Cond.instanceMethod ({ cls := "HalfFloat", name := "multiply", desc := "(II)I" } : Jvm.MethodName)) ∈ lw_all := lw_g (lw_at lw_m0 66 rfl) rfl
theorem q73 : (Jvm.Cond.selects "HalfFloat" ({ cls := "HalfFloat", name := "multiply", desc := "(II)I" } : Jvm.MethodName) ({ cls := "HalfFloat", name := "multiply", desc := "(II)I" } : Jvm.MethodName)) ∈ lw_all := lw_g (lw_at lw_m0 67 rfl) rfl
theorem q74 : (Jvm.Cond.code ({ cls := "HalfFloat", name := "multiply", desc := "(II)I" } : Jvm.MethodName) prog_1_method_3_code (6 : Nat) (Option.some Jvm.ClassFile.FieldType.int)) ∈ lw_all := lw_g (lw_at lw_m0 68 rfl) rfl
theorem q75 : (Jvm.Cond.methodLink "HalfFloat" (31 : Nat) ({ cls := "HalfFloat", name := "withSign", desc := "(IIJIZ)I" } : Jvm.MethodName)) ∈ lw_all := lw_g (lw_at lw_m0 69 rfl) rfl
theorem q76 : (Jvm.Cond.static ({ cls := "HalfFloat", name := "withSign", desc := "(IIJIZ)I" } : Jvm.MethodName)) ∈ lw_all := lw_g (lw_at lw_m0 70 rfl) rfl
theorem q77 : (Jvm.Cond.code ({ cls := "HalfFloat", name := "withSign", desc := "(IIJIZ)I" } : Jvm.MethodName) prog_1_method_18_code (9 : Nat) (Option.some Jvm.ClassFile.FieldType.int)) ∈ lw_all := lw_g (lw_at lw_m0 71 rfl) rfl
theorem q79 : (Jvm.Cond.instanceMethod ({ cls := "HalfFloat", name := "divide", desc := "(II)I" } : Jvm.MethodName)) ∈ lw_all := lw_g (lw_at lw_m0 73 rfl) rfl
theorem q80 : (Jvm.Cond.selects "HalfFloat" ({ cls := "HalfFloat", name := "divide", desc := "(II)I" } : Jvm.MethodName) ({ cls := "HalfFloat", name := "divide", desc := "(II)I" } : Jvm.MethodName)) ∈ lw_all := lw_g (lw_at lw_m0 74 rfl) rfl
theorem q81 : (Jvm.Cond.code ({ cls := "HalfFloat", name := "divide", desc := "(II)I" } : Jvm.MethodName) prog_1_method_4_code (9 : Nat) (Option.some Jvm.ClassFile.FieldType.int)) ∈ lw_all := lw_g (lw_at lw_m0 75 rfl) rfl
theorem q83 : (Jvm.Cond.instanceMethod ({ cls := "HalfFloat", name := "root", desc := "(I)I" } : Jvm.MethodName)) ∈ lw_all := lw_g (lw_at lw_m0 77 rfl) rfl
theorem q84 : (Jvm.Cond.selects "HalfFloat" ({ cls := "HalfFloat", name := "root", desc := "(I)I" } : Jvm.MethodName) ({ cls := "HalfFloat", name := "root", desc := "(I)I" } : Jvm.MethodName)) ∈ lw_all := lw_g (lw_at lw_m0 78 rfl) rfl
theorem q85 : (Jvm.Cond.code ({ cls := "HalfFloat", name := "root", desc := "(I)I" } : Jvm.MethodName) prog_1_method_5_code (8 : Nat) (Option.some Jvm.ClassFile.FieldType.int)) ∈ lw_all := lw_g (lw_at lw_m0 79 rfl) rfl
theorem q86 : (Jvm.Cond.methodLink "HalfFloat" (36 : Nat) ({ cls := "HalfFloat", name := "rootOf", desc := "(J)J" } : Jvm.MethodName)) ∈ lw_all := lw_g (lw_at lw_m0 80 rfl) rfl
theorem q87 : (Jvm.Cond.static ({ cls := "HalfFloat", name := "rootOf", desc := "(J)J" } : Jvm.MethodName)) ∈ lw_all := lw_g (lw_at lw_m0 81 rfl) rfl
theorem q88 : (Jvm.Cond.code ({ cls := "HalfFloat", name := "rootOf", desc := "(J)J" } : Jvm.MethodName) prog_1_method_17_code (7 : Nat) (Option.some Jvm.ClassFile.FieldType.long)) ∈ lw_all := lw_g (lw_at lw_m0 82 rfl) rfl
theorem q90 : (Jvm.Cond.instanceMethod ({ cls := "HalfFloat", name := "parse", desc := "(II)I" } : Jvm.MethodName)) ∈ lw_all := lw_g (lw_at lw_m0 84 rfl) rfl
theorem q91 : (Jvm.Cond.selects "HalfFloat" ({ cls := "HalfFloat", name := "parse", desc := "(II)I" } : Jvm.MethodName) ({ cls := "HalfFloat", name := "parse", desc := "(II)I" } : Jvm.MethodName)) ∈ lw_all := lw_g (lw_at lw_m0 85 rfl) rfl
theorem q92 : (Jvm.Cond.code ({ cls := "HalfFloat", name := "parse", desc := "(II)I" } : Jvm.MethodName) prog_1_method_6_code (7 : Nat) (Option.some Jvm.ClassFile.FieldType.int)) ∈ lw_all := lw_g (lw_at lw_m0 86 rfl) rfl
theorem q93 : (Jvm.Cond.constant "HalfFloat" (40 : Nat) (999999 : Int32)) ∈ lw_all := lw_g (lw_at lw_m0 87 rfl) rfl
theorem q94 : (Jvm.Cond.methodLink "HalfFloat" (41 : Nat) ({ cls := "HalfFloat", name := "power", desc := "(I)J" } : Jvm.MethodName)) ∈ lw_all := lw_g (lw_at lw_m0 88 rfl) rfl
theorem q95 : (Jvm.Cond.static ({ cls := "HalfFloat", name := "power", desc := "(I)J" } : Jvm.MethodName)) ∈ lw_all := lw_g (lw_at lw_m0 89 rfl) rfl
theorem q96 : (Jvm.Cond.code ({ cls := "HalfFloat", name := "power", desc := "(I)J" } : Jvm.MethodName) prog_1_method_16_code (4 : Nat) (Option.some Jvm.ClassFile.FieldType.long)) ∈ lw_all := lw_g (lw_at lw_m0 90 rfl) rfl
theorem q97 : (Jvm.Cond.constantLong "HalfFloat" (59 : Nat) (10 : Int64)) ∈ lw_all := lw_g (lw_at lw_m0 91 rfl) rfl
theorem q98 : (Jvm.Cond.constantLong "HalfFloat" (44 : Nat) (65520 : Int64)) ∈ lw_all := lw_g (lw_at lw_m0 92 rfl) rfl
theorem q100 : (Jvm.Cond.instanceMethod ({ cls := "HalfFloat", name := "digits", desc := "(I)I" } : Jvm.MethodName)) ∈ lw_all := lw_g (lw_at lw_m0 94 rfl) rfl
theorem q101 : (Jvm.Cond.selects "HalfFloat" ({ cls := "HalfFloat", name := "digits", desc := "(I)I" } : Jvm.MethodName) ({ cls := "HalfFloat", name := "digits", desc := "(I)I" } : Jvm.MethodName)) ∈ lw_all := lw_g (lw_at lw_m0 95 rfl) rfl
theorem q102 : (Jvm.Cond.code ({ cls := "HalfFloat", name := "digits", desc := "(I)I" } : Jvm.MethodName) prog_1_method_7_code (2 : Nat) (Option.some Jvm.ClassFile.FieldType.int)) ∈ lw_all := lw_g (lw_at lw_m0 96 rfl) rfl
theorem q103 : (Jvm.Cond.methodLink "HalfFloat" (46 : Nat) ({ cls := "HalfFloat", name := "findWriting", desc := "(I)V" } : Jvm.MethodName)) ∈ lw_all := lw_g (lw_at lw_m0 97 rfl) rfl
theorem q104 : (Jvm.Cond.privateMethod ({ cls := "HalfFloat", name := "findWriting", desc := "(I)V" } : Jvm.MethodName)) ∈ lw_tbl := lw_at lw_m0 98 rfl
theorem q105 : (Jvm.Cond.instanceMethod ({ cls := "HalfFloat", name := "findWriting", desc := "(I)V" } : Jvm.MethodName)) ∈ lw_all := lw_g (lw_at lw_m0 99 rfl) rfl
theorem q106 : (Jvm.Cond.code ({ cls := "HalfFloat", name := "findWriting", desc := "(I)V" } : Jvm.MethodName) prog_1_method_20_code (8 : Nat) (Option.none : Option Jvm.ClassFile.FieldType)) ∈ lw_all := lw_g (lw_at lw_m0 100 rfl) rfl
theorem q107 : (Jvm.Cond.constantLong "HalfFloat" (69 : Nat) (2 : Int64)) ∈ lw_all := lw_g (lw_at lw_m0 101 rfl) rfl
theorem q108 : (Jvm.Cond.methodLink "HalfFloat" (84 : Nat) ({ cls := "HalfFloat", name := "tryPower", desc := "(II)V" } : Jvm.MethodName)) ∈ lw_all := lw_g (lw_at lw_m0 102 rfl) rfl
theorem q109 : (Jvm.Cond.privateMethod ({ cls := "HalfFloat", name := "tryPower", desc := "(II)V" } : Jvm.MethodName)) ∈ lw_tbl := lw_at lw_m0 103 rfl
theorem q110 : (Jvm.Cond.instanceMethod ({ cls := "HalfFloat", name := "tryPower", desc := "(II)V" } : Jvm.MethodName)) ∈ lw_all := lw_g (lw_at lw_m0 104 rfl) rfl
theorem q111 : (Jvm.Cond.code ({ cls := "HalfFloat", name := "tryPower", desc := "(II)V" } : Jvm.MethodName) prog_1_method_21_code (17 : Nat) (Option.none : Option Jvm.ClassFile.FieldType)) ∈ lw_all := lw_g (lw_at lw_m0 105 rfl) rfl
theorem q112 : (Jvm.Cond.constantLong "HalfFloat" (88 : Nat) (67108864000000 : Int64)) ∈ lw_all := lw_g (lw_at lw_m0 106 rfl) rfl
theorem q113 : (Jvm.Cond.methodLink "HalfFloat" (90 : Nat) ({ cls := "HalfFloat", name := "offer", desc := "(JIJJ)V" } : Jvm.MethodName)) ∈ lw_all := lw_g (lw_at lw_m0 107 rfl) rfl
theorem q114 : (Jvm.Cond.privateMethod ({ cls := "HalfFloat", name := "offer", desc := "(JIJJ)V" } : Jvm.MethodName)) ∈ lw_tbl := lw_at lw_m0 108 rfl
theorem q115 : (Jvm.Cond.instanceMethod ({ cls := "HalfFloat", name := "offer", desc := "(JIJJ)V" } : Jvm.MethodName)) ∈ lw_all := lw_g (lw_at lw_m0 109 rfl) rfl
theorem q116 : (Jvm.Cond.code ({ cls := "HalfFloat", name := "offer", desc := "(JIJJ)V" } : Jvm.MethodName) prog_1_method_22_code (17 : Nat) (Option.none : Option Jvm.ClassFile.FieldType)) ∈ lw_all := lw_g (lw_at lw_m0 110 rfl) rfl
theorem q117 : (Jvm.Cond.methodLink "HalfFloat" (94 : Nat) ({ cls := "HalfFloat", name := "nearer", desc := "(JJJI)Z" } : Jvm.MethodName)) ∈ lw_all := lw_g (lw_at lw_m0 111 rfl) rfl
theorem q118 : (Jvm.Cond.privateMethod ({ cls := "HalfFloat", name := "nearer", desc := "(JJJI)Z" } : Jvm.MethodName)) ∈ lw_tbl := lw_at lw_m0 112 rfl
theorem q119 : (Jvm.Cond.instanceMethod ({ cls := "HalfFloat", name := "nearer", desc := "(JJJI)Z" } : Jvm.MethodName)) ∈ lw_all := lw_g (lw_at lw_m0 113 rfl) rfl
theorem q120 : (Jvm.Cond.code ({ cls := "HalfFloat", name := "nearer", desc := "(JJJI)Z" } : Jvm.MethodName) prog_1_method_23_code (12 : Nat) (Option.some Jvm.ClassFile.FieldType.boolean)) ∈ lw_all := lw_g (lw_at lw_m0 114 rfl) rfl
theorem q121 : (Jvm.Cond.methodLink "HalfFloat" (104 : Nat) ({ cls := "HalfFloat", name := "isLess", desc := "(JIJI)Z" } : Jvm.MethodName)) ∈ lw_all := lw_g (lw_at lw_m0 115 rfl) rfl
theorem q122 : (Jvm.Cond.static ({ cls := "HalfFloat", name := "isLess", desc := "(JIJI)Z" } : Jvm.MethodName)) ∈ lw_all := lw_g (lw_at lw_m0 116 rfl) rfl
theorem q123 : (Jvm.Cond.code ({ cls := "HalfFloat", name := "isLess", desc := "(JIJI)Z" } : Jvm.MethodName) prog_1_method_24_code (6 : Nat) (Option.some Jvm.ClassFile.FieldType.boolean)) ∈ lw_all := lw_g (lw_at lw_m0 117 rfl) rfl
theorem q125 : (Jvm.Cond.instanceMethod ({ cls := "HalfFloat", name := "exponent", desc := "(I)I" } : Jvm.MethodName)) ∈ lw_all := lw_g (lw_at lw_m0 119 rfl) rfl
theorem q126 : (Jvm.Cond.selects "HalfFloat" ({ cls := "HalfFloat", name := "exponent", desc := "(I)I" } : Jvm.MethodName) ({ cls := "HalfFloat", name := "exponent", desc := "(I)I" } : Jvm.MethodName)) ∈ lw_all := lw_g (lw_at lw_m0 120 rfl) rfl
theorem q127 : (Jvm.Cond.code ({ cls := "HalfFloat", name := "exponent", desc := "(I)I" } : Jvm.MethodName) prog_1_method_8_code (2 : Nat) (Option.some Jvm.ClassFile.FieldType.int)) ∈ lw_all := lw_g (lw_at lw_m0 121 rfl) rfl
theorem q129 : (Jvm.Cond.instanceMethod ({ cls := "HalfFloat", name := "compare", desc := "(II)I" } : Jvm.MethodName)) ∈ lw_all := lw_g (lw_at lw_m0 123 rfl) rfl
theorem q130 : (Jvm.Cond.selects "HalfFloat" ({ cls := "HalfFloat", name := "compare", desc := "(II)I" } : Jvm.MethodName) ({ cls := "HalfFloat", name := "compare", desc := "(II)I" } : Jvm.MethodName)) ∈ lw_all := lw_g (lw_at lw_m0 124 rfl) rfl
theorem q131 : (Jvm.Cond.code ({ cls := "HalfFloat", name := "compare", desc := "(II)I" } : Jvm.MethodName) prog_1_method_9_code (5 : Nat) (Option.some Jvm.ClassFile.FieldType.int)) ∈ lw_all := lw_g (lw_at lw_m0 125 rfl) rfl
theorem q133 : (Jvm.Cond.instanceMethod ({ cls := "HalfFloat", name := "floor", desc := "(I)I" } : Jvm.MethodName)) ∈ lw_all := lw_g (lw_at lw_m0 127 rfl) rfl
theorem q134 : (Jvm.Cond.selects "HalfFloat" ({ cls := "HalfFloat", name := "floor", desc := "(I)I" } : Jvm.MethodName) ({ cls := "HalfFloat", name := "floor", desc := "(I)I" } : Jvm.MethodName)) ∈ lw_all := lw_g (lw_at lw_m0 128 rfl) rfl
theorem q135 : (Jvm.Cond.code ({ cls := "HalfFloat", name := "floor", desc := "(I)I" } : Jvm.MethodName) prog_1_method_10_code (2 : Nat) (Option.some Jvm.ClassFile.FieldType.int)) ∈ lw_all := lw_g (lw_at lw_m0 129 rfl) rfl
theorem q136 : (Jvm.Cond.constant "HalfFloat" (57 : Nat) (100000 : Int32)) ∈ lw_all := lw_g (lw_at lw_m0 130 rfl) rfl
theorem in_X0 : ∀ w ∈ wsX00, w ∈ lw_all := lw_in wsX00 [26, 28, 30, 32, 34, 36, 38, 40, 42] (by decide +kernel) (by decide +kernel)
end
section
/-! HalfFloatModel -/
set_option maxRecDepth 100000
def RX1 : String := "HalfFloatModel"
def TX1 : u_T := fun k => match k with
  | 0 => ("HalfFloatModel", "bestDigits", "I", false)
  | _ => ("HalfFloatModel", "bestExponent", "I", false)
def tyX1 : Nat → FieldType := fun k => match k with
  | 0 => .int
  | _ => .int
abbrev wsX10 : List Cond := u_ws RX1 TX1 2
theorem nmX1 : ∀ a, a < 2 → ∀ b, b < 2 → a ≠ b → (TX1 a).2.1 ≠ (TX1 b).2.1 := by decide +kernel
theorem tyX1_ok : ∀ k, k < 2 → parseFieldDescriptor (TX1 k).2.2.1 = some (tyX1 k) := by decide +kernel
abbrev cX1_init : ByteArray := prog_3_method_1_code
def yX1_init : MethodName := ⟨RX1, "<init>", "()V"⟩
theorem dX1_init_0 : decode cX1_init 0 = .ok (.aload_n 0, 1) := by decide +kernel
theorem dX1_init_1 : decode cX1_init 1 = .ok (.invokespecial 1, 3) := by decide +kernel
theorem dX1_init_4 : decode cX1_init 4 = .ok (.return_, 1) := by decide +kernel
abbrev cX1_add : ByteArray := prog_3_method_9_code
def yX1_add : MethodName := ⟨RX1, "add", "(II)I"⟩
theorem dX1_add_0 : decode cX1_add 0 = .ok (.iload_n 1, 1) := by decide +kernel
theorem dX1_add_1 : decode cX1_add 1 = .ok (.invokestatic 26, 3) := by decide +kernel
theorem dX1_add_4 : decode cX1_add 4 = .ok (.ifCond .ne 10, 3) := by decide +kernel
theorem dX1_add_7 : decode cX1_add 7 = .ok (.iload_n 2, 1) := by decide +kernel
theorem dX1_add_8 : decode cX1_add 8 = .ok (.invokestatic 26, 3) := by decide +kernel
theorem dX1_add_11 : decode cX1_add 11 = .ok (.ifCond .eq 5, 3) := by decide +kernel
theorem dX1_add_14 : decode cX1_add 14 = .ok (.iconst (-1), 1) := by decide +kernel
theorem dX1_add_15 : decode cX1_add 15 = .ok (.ireturn, 1) := by decide +kernel
theorem dX1_add_16 : decode cX1_add 16 = .ok (.iload_n 1, 1) := by decide +kernel
theorem dX1_add_17 : decode cX1_add 17 = .ok (.invokestatic 30, 3) := by decide +kernel
theorem dX1_add_20 : decode cX1_add 20 = .ok (.iload_n 2, 1) := by decide +kernel
theorem dX1_add_21 : decode cX1_add 21 = .ok (.invokestatic 30, 3) := by decide +kernel
theorem dX1_add_24 : decode cX1_add 24 = .ok (.ladd, 1) := by decide +kernel
theorem dX1_add_25 : decode cX1_add 25 = .ok (.lstore_n 3, 1) := by decide +kernel
theorem dX1_add_26 : decode cX1_add 26 = .ok (.lload_n 3, 1) := by decide +kernel
theorem dX1_add_27 : decode cX1_add 27 = .ok (.lconst 0, 1) := by decide +kernel
theorem dX1_add_28 : decode cX1_add 28 = .ok (.lcmp, 1) := by decide +kernel
theorem dX1_add_29 : decode cX1_add 29 = .ok (.ifCond .ge 8, 3) := by decide +kernel
theorem dX1_add_32 : decode cX1_add 32 = .ok (.lload_n 3, 1) := by decide +kernel
theorem dX1_add_33 : decode cX1_add 33 = .ok (.lneg, 1) := by decide +kernel
theorem dX1_add_34 : decode cX1_add 34 = .ok (.goto 4, 3) := by decide +kernel
theorem dX1_add_37 : decode cX1_add 37 = .ok (.lload_n 3, 1) := by decide +kernel
theorem dX1_add_38 : decode cX1_add 38 = .ok (.lconst 1, 1) := by decide +kernel
theorem dX1_add_39 : decode cX1_add 39 = .ok (.invokestatic 33, 3) := by decide +kernel
theorem dX1_add_42 : decode cX1_add 42 = .ok (.istore 5, 2) := by decide +kernel
theorem dX1_add_44 : decode cX1_add 44 = .ok (.iload 5, 2) := by decide +kernel
theorem dX1_add_46 : decode cX1_add 46 = .ok (.lload_n 3, 1) := by decide +kernel
theorem dX1_add_47 : decode cX1_add 47 = .ok (.lconst 0, 1) := by decide +kernel
theorem dX1_add_48 : decode cX1_add 48 = .ok (.lcmp, 1) := by decide +kernel
theorem dX1_add_49 : decode cX1_add 49 = .ok (.ifCond .ge 7, 3) := by decide +kernel
theorem dX1_add_52 : decode cX1_add 52 = .ok (.iconst 1, 1) := by decide +kernel
theorem dX1_add_53 : decode cX1_add 53 = .ok (.goto 4, 3) := by decide +kernel
theorem dX1_add_56 : decode cX1_add 56 = .ok (.iconst 0, 1) := by decide +kernel
theorem dX1_add_57 : decode cX1_add 57 = .ok (.invokestatic 37, 3) := by decide +kernel
theorem dX1_add_60 : decode cX1_add 60 = .ok (.ireturn, 1) := by decide +kernel
abbrev cX1_bad : ByteArray := prog_3_method_2_code
def yX1_bad : MethodName := ⟨RX1, "bad", "(I)Z"⟩
theorem dX1_bad_0 : decode cX1_bad 0 = .ok (.iload_n 0, 1) := by decide +kernel
theorem dX1_bad_1 : decode cX1_bad 1 = .ok (.ifCond .lt 22, 3) := by decide +kernel
theorem dX1_bad_4 : decode cX1_bad 4 = .ok (.iload_n 0, 1) := by decide +kernel
theorem dX1_bad_5 : decode cX1_bad 5 = .ok (.ldc 7, 2) := by decide +kernel
theorem dX1_bad_7 : decode cX1_bad 7 = .ok (.if_icmp .gt 16, 3) := by decide +kernel
theorem dX1_bad_10 : decode cX1_bad 10 = .ok (.iload_n 0, 1) := by decide +kernel
theorem dX1_bad_11 : decode cX1_bad 11 = .ok (.sipush 1024, 3) := by decide +kernel
theorem dX1_bad_14 : decode cX1_bad 14 = .ok (.idiv, 1) := by decide +kernel
theorem dX1_bad_15 : decode cX1_bad 15 = .ok (.bipush 32, 2) := by decide +kernel
theorem dX1_bad_17 : decode cX1_bad 17 = .ok (.irem, 1) := by decide +kernel
theorem dX1_bad_18 : decode cX1_bad 18 = .ok (.bipush 31, 2) := by decide +kernel
theorem dX1_bad_20 : decode cX1_bad 20 = .ok (.if_icmp .ne 7, 3) := by decide +kernel
theorem dX1_bad_23 : decode cX1_bad 23 = .ok (.iconst 1, 1) := by decide +kernel
theorem dX1_bad_24 : decode cX1_bad 24 = .ok (.goto 4, 3) := by decide +kernel
theorem dX1_bad_27 : decode cX1_bad 27 = .ok (.iconst 0, 1) := by decide +kernel
theorem dX1_bad_28 : decode cX1_bad 28 = .ok (.ireturn, 1) := by decide +kernel
abbrev cX1_signed : ByteArray := prog_3_method_6_code
def yX1_signed : MethodName := ⟨RX1, "signed", "(I)J"⟩
theorem dX1_signed_0 : decode cX1_signed 0 = .ok (.iload_n 0, 1) := by decide +kernel
theorem dX1_signed_1 : decode cX1_signed 1 = .ok (.ldc 20, 2) := by decide +kernel
theorem dX1_signed_3 : decode cX1_signed 3 = .ok (.if_icmp .lt 11, 3) := by decide +kernel
theorem dX1_signed_6 : decode cX1_signed 6 = .ok (.iload_n 0, 1) := by decide +kernel
theorem dX1_signed_7 : decode cX1_signed 7 = .ok (.invokestatic 21, 3) := by decide +kernel
theorem dX1_signed_10 : decode cX1_signed 10 = .ok (.lneg, 1) := by decide +kernel
theorem dX1_signed_11 : decode cX1_signed 11 = .ok (.goto 7, 3) := by decide +kernel
theorem dX1_signed_14 : decode cX1_signed 14 = .ok (.iload_n 0, 1) := by decide +kernel
theorem dX1_signed_15 : decode cX1_signed 15 = .ok (.invokestatic 21, 3) := by decide +kernel
theorem dX1_signed_18 : decode cX1_signed 18 = .ok (.lreturn, 1) := by decide +kernel
abbrev cX1_amount : ByteArray := prog_3_method_5_code
def yX1_amount : MethodName := ⟨RX1, "amount", "(I)J"⟩
theorem dX1_amount_0 : decode cX1_amount 0 = .ok (.iload_n 0, 1) := by decide +kernel
theorem dX1_amount_1 : decode cX1_amount 1 = .ok (.sipush 32767, 3) := by decide +kernel
theorem dX1_amount_4 : decode cX1_amount 4 = .ok (.iand, 1) := by decide +kernel
theorem dX1_amount_5 : decode cX1_amount 5 = .ok (.istore_n 1, 1) := by decide +kernel
theorem dX1_amount_6 : decode cX1_amount 6 = .ok (.iload_n 1, 1) := by decide +kernel
theorem dX1_amount_7 : decode cX1_amount 7 = .ok (.sipush 31744, 3) := by decide +kernel
theorem dX1_amount_10 : decode cX1_amount 10 = .ok (.if_icmp .ne 9, 3) := by decide +kernel
theorem dX1_amount_13 : decode cX1_amount 13 = .ok (.ldc2_w 8, 3) := by decide +kernel
theorem dX1_amount_16 : decode cX1_amount 16 = .ok (.goto 12, 3) := by decide +kernel
theorem dX1_amount_19 : decode cX1_amount 19 = .ok (.iload_n 1, 1) := by decide +kernel
theorem dX1_amount_20 : decode cX1_amount 20 = .ok (.invokestatic 10, 3) := by decide +kernel
theorem dX1_amount_23 : decode cX1_amount 23 = .ok (.iload_n 1, 1) := by decide +kernel
theorem dX1_amount_24 : decode cX1_amount 24 = .ok (.invokestatic 16, 3) := by decide +kernel
theorem dX1_amount_27 : decode cX1_amount 27 = .ok (.lshl, 1) := by decide +kernel
theorem dX1_amount_28 : decode cX1_amount 28 = .ok (.lreturn, 1) := by decide +kernel
abbrev cX1_digitsOf : ByteArray := prog_3_method_3_code
def yX1_digitsOf : MethodName := ⟨RX1, "digitsOf", "(I)J"⟩
theorem dX1_digitsOf_0 : decode cX1_digitsOf 0 = .ok (.iload_n 0, 1) := by decide +kernel
theorem dX1_digitsOf_1 : decode cX1_digitsOf 1 = .ok (.sipush 1024, 3) := by decide +kernel
theorem dX1_digitsOf_4 : decode cX1_digitsOf 4 = .ok (.idiv, 1) := by decide +kernel
theorem dX1_digitsOf_5 : decode cX1_digitsOf 5 = .ok (.bipush 32, 2) := by decide +kernel
theorem dX1_digitsOf_7 : decode cX1_digitsOf 7 = .ok (.irem, 1) := by decide +kernel
theorem dX1_digitsOf_8 : decode cX1_digitsOf 8 = .ok (.ifCond .ne 12, 3) := by decide +kernel
theorem dX1_digitsOf_11 : decode cX1_digitsOf 11 = .ok (.iload_n 0, 1) := by decide +kernel
theorem dX1_digitsOf_12 : decode cX1_digitsOf 12 = .ok (.sipush 1024, 3) := by decide +kernel
theorem dX1_digitsOf_15 : decode cX1_digitsOf 15 = .ok (.irem, 1) := by decide +kernel
theorem dX1_digitsOf_16 : decode cX1_digitsOf 16 = .ok (.i2l, 1) := by decide +kernel
theorem dX1_digitsOf_17 : decode cX1_digitsOf 17 = .ok (.goto 13, 3) := by decide +kernel
theorem dX1_digitsOf_20 : decode cX1_digitsOf 20 = .ok (.sipush 1024, 3) := by decide +kernel
theorem dX1_digitsOf_23 : decode cX1_digitsOf 23 = .ok (.iload_n 0, 1) := by decide +kernel
theorem dX1_digitsOf_24 : decode cX1_digitsOf 24 = .ok (.sipush 1024, 3) := by decide +kernel
theorem dX1_digitsOf_27 : decode cX1_digitsOf 27 = .ok (.irem, 1) := by decide +kernel
theorem dX1_digitsOf_28 : decode cX1_digitsOf 28 = .ok (.iadd, 1) := by decide +kernel
theorem dX1_digitsOf_29 : decode cX1_digitsOf 29 = .ok (.i2l, 1) := by decide +kernel
theorem dX1_digitsOf_30 : decode cX1_digitsOf 30 = .ok (.lreturn, 1) := by decide +kernel
abbrev cX1_shiftOf : ByteArray := prog_3_method_4_code
def yX1_shiftOf : MethodName := ⟨RX1, "shiftOf", "(I)I"⟩
theorem dX1_shiftOf_0 : decode cX1_shiftOf 0 = .ok (.iload_n 0, 1) := by decide +kernel
theorem dX1_shiftOf_1 : decode cX1_shiftOf 1 = .ok (.sipush 1024, 3) := by decide +kernel
theorem dX1_shiftOf_4 : decode cX1_shiftOf 4 = .ok (.idiv, 1) := by decide +kernel
theorem dX1_shiftOf_5 : decode cX1_shiftOf 5 = .ok (.bipush 32, 2) := by decide +kernel
theorem dX1_shiftOf_7 : decode cX1_shiftOf 7 = .ok (.irem, 1) := by decide +kernel
theorem dX1_shiftOf_8 : decode cX1_shiftOf 8 = .ok (.istore_n 1, 1) := by decide +kernel
theorem dX1_shiftOf_9 : decode cX1_shiftOf 9 = .ok (.iload_n 1, 1) := by decide +kernel
theorem dX1_shiftOf_10 : decode cX1_shiftOf 10 = .ok (.ifCond .ne 7, 3) := by decide +kernel
theorem dX1_shiftOf_13 : decode cX1_shiftOf 13 = .ok (.iconst 0, 1) := by decide +kernel
theorem dX1_shiftOf_14 : decode cX1_shiftOf 14 = .ok (.goto 6, 3) := by decide +kernel
theorem dX1_shiftOf_17 : decode cX1_shiftOf 17 = .ok (.iload_n 1, 1) := by decide +kernel
theorem dX1_shiftOf_18 : decode cX1_shiftOf 18 = .ok (.iconst 1, 1) := by decide +kernel
theorem dX1_shiftOf_19 : decode cX1_shiftOf 19 = .ok (.isub, 1) := by decide +kernel
theorem dX1_shiftOf_20 : decode cX1_shiftOf 20 = .ok (.ireturn, 1) := by decide +kernel
abbrev cX1_nearest : ByteArray := prog_3_method_7_code
def yX1_nearest : MethodName := ⟨RX1, "nearest", "(JJ)I"⟩
theorem dX1_nearest_0 : decode cX1_nearest 0 = .ok (.lload_n 2, 1) := by decide +kernel
theorem dX1_nearest_1 : decode cX1_nearest 1 = .ok (.lconst 0, 1) := by decide +kernel
theorem dX1_nearest_2 : decode cX1_nearest 2 = .ok (.lcmp, 1) := by decide +kernel
theorem dX1_nearest_3 : decode cX1_nearest 3 = .ok (.ifCond .le 9, 3) := by decide +kernel
theorem dX1_nearest_6 : decode cX1_nearest 6 = .ok (.lload_n 0, 1) := by decide +kernel
theorem dX1_nearest_7 : decode cX1_nearest 7 = .ok (.lload_n 2, 1) := by decide +kernel
theorem dX1_nearest_8 : decode cX1_nearest 8 = .ok (.ldiv, 1) := by decide +kernel
theorem dX1_nearest_9 : decode cX1_nearest 9 = .ok (.goto 4, 3) := by decide +kernel
theorem dX1_nearest_12 : decode cX1_nearest 12 = .ok (.lconst 0, 1) := by decide +kernel
theorem dX1_nearest_13 : decode cX1_nearest 13 = .ok (.lstore 4, 2) := by decide +kernel
theorem dX1_nearest_15 : decode cX1_nearest 15 = .ok (.lload_n 2, 1) := by decide +kernel
theorem dX1_nearest_16 : decode cX1_nearest 16 = .ok (.lconst 0, 1) := by decide +kernel
theorem dX1_nearest_17 : decode cX1_nearest 17 = .ok (.lcmp, 1) := by decide +kernel
theorem dX1_nearest_18 : decode cX1_nearest 18 = .ok (.ifCond .le 9, 3) := by decide +kernel
theorem dX1_nearest_21 : decode cX1_nearest 21 = .ok (.lload_n 0, 1) := by decide +kernel
theorem dX1_nearest_22 : decode cX1_nearest 22 = .ok (.lload_n 2, 1) := by decide +kernel
theorem dX1_nearest_23 : decode cX1_nearest 23 = .ok (.lrem, 1) := by decide +kernel
theorem dX1_nearest_24 : decode cX1_nearest 24 = .ok (.goto 4, 3) := by decide +kernel
theorem dX1_nearest_27 : decode cX1_nearest 27 = .ok (.lconst 0, 1) := by decide +kernel
theorem dX1_nearest_28 : decode cX1_nearest 28 = .ok (.lstore 6, 2) := by decide +kernel
theorem dX1_nearest_30 : decode cX1_nearest 30 = .ok (.lload 4, 2) := by decide +kernel
theorem dX1_nearest_32 : decode cX1_nearest 32 = .ok (.sipush 31744, 3) := by decide +kernel
theorem dX1_nearest_35 : decode cX1_nearest 35 = .ok (.invokestatic 21, 3) := by decide +kernel
theorem dX1_nearest_38 : decode cX1_nearest 38 = .ok (.lcmp, 1) := by decide +kernel
theorem dX1_nearest_39 : decode cX1_nearest 39 = .ok (.ifCond .lt 7, 3) := by decide +kernel
theorem dX1_nearest_42 : decode cX1_nearest 42 = .ok (.sipush 31744, 3) := by decide +kernel
theorem dX1_nearest_45 : decode cX1_nearest 45 = .ok (.ireturn, 1) := by decide +kernel
theorem dX1_nearest_46 : decode cX1_nearest 46 = .ok (.iconst 0, 1) := by decide +kernel
theorem dX1_nearest_47 : decode cX1_nearest 47 = .ok (.istore 8, 2) := by decide +kernel
theorem dX1_nearest_49 : decode cX1_nearest 49 = .ok (.sipush 31743, 3) := by decide +kernel
theorem dX1_nearest_52 : decode cX1_nearest 52 = .ok (.istore 9, 2) := by decide +kernel
theorem dX1_nearest_54 : decode cX1_nearest 54 = .ok (.iload 8, 2) := by decide +kernel
theorem dX1_nearest_56 : decode cX1_nearest 56 = .ok (.iload 9, 2) := by decide +kernel
theorem dX1_nearest_58 : decode cX1_nearest 58 = .ok (.if_icmp .ge 41, 3) := by decide +kernel
theorem dX1_nearest_61 : decode cX1_nearest 61 = .ok (.iload 8, 2) := by decide +kernel
theorem dX1_nearest_63 : decode cX1_nearest 63 = .ok (.iload 9, 2) := by decide +kernel
theorem dX1_nearest_65 : decode cX1_nearest 65 = .ok (.iadd, 1) := by decide +kernel
theorem dX1_nearest_66 : decode cX1_nearest 66 = .ok (.iconst 1, 1) := by decide +kernel
theorem dX1_nearest_67 : decode cX1_nearest 67 = .ok (.iadd, 1) := by decide +kernel
theorem dX1_nearest_68 : decode cX1_nearest 68 = .ok (.iconst 2, 1) := by decide +kernel
theorem dX1_nearest_69 : decode cX1_nearest 69 = .ok (.idiv, 1) := by decide +kernel
theorem dX1_nearest_70 : decode cX1_nearest 70 = .ok (.istore 10, 2) := by decide +kernel
theorem dX1_nearest_72 : decode cX1_nearest 72 = .ok (.iload 10, 2) := by decide +kernel
theorem dX1_nearest_74 : decode cX1_nearest 74 = .ok (.invokestatic 21, 3) := by decide +kernel
theorem dX1_nearest_77 : decode cX1_nearest 77 = .ok (.lload 4, 2) := by decide +kernel
theorem dX1_nearest_79 : decode cX1_nearest 79 = .ok (.lcmp, 1) := by decide +kernel
theorem dX1_nearest_80 : decode cX1_nearest 80 = .ok (.ifCond .gt 10, 3) := by decide +kernel
theorem dX1_nearest_83 : decode cX1_nearest 83 = .ok (.iload 10, 2) := by decide +kernel
theorem dX1_nearest_85 : decode cX1_nearest 85 = .ok (.istore 8, 2) := by decide +kernel
theorem dX1_nearest_87 : decode cX1_nearest 87 = .ok (.goto 9, 3) := by decide +kernel
theorem dX1_nearest_90 : decode cX1_nearest 90 = .ok (.iload 10, 2) := by decide +kernel
theorem dX1_nearest_92 : decode cX1_nearest 92 = .ok (.iconst 1, 1) := by decide +kernel
theorem dX1_nearest_93 : decode cX1_nearest 93 = .ok (.isub, 1) := by decide +kernel
theorem dX1_nearest_94 : decode cX1_nearest 94 = .ok (.istore 9, 2) := by decide +kernel
theorem dX1_nearest_96 : decode cX1_nearest 96 = .ok (.goto (-42), 3) := by decide +kernel
theorem dX1_nearest_99 : decode cX1_nearest 99 = .ok (.iload 8, 2) := by decide +kernel
theorem dX1_nearest_101 : decode cX1_nearest 101 = .ok (.iconst 1, 1) := by decide +kernel
theorem dX1_nearest_102 : decode cX1_nearest 102 = .ok (.iadd, 1) := by decide +kernel
theorem dX1_nearest_103 : decode cX1_nearest 103 = .ok (.invokestatic 21, 3) := by decide +kernel
theorem dX1_nearest_106 : decode cX1_nearest 106 = .ok (.iload 8, 2) := by decide +kernel
theorem dX1_nearest_108 : decode cX1_nearest 108 = .ok (.invokestatic 21, 3) := by decide +kernel
theorem dX1_nearest_111 : decode cX1_nearest 111 = .ok (.lsub, 1) := by decide +kernel
theorem dX1_nearest_112 : decode cX1_nearest 112 = .ok (.lstore 10, 2) := by decide +kernel
theorem dX1_nearest_114 : decode cX1_nearest 114 = .ok (.ldc2_w 24, 3) := by decide +kernel
theorem dX1_nearest_117 : decode cX1_nearest 117 = .ok (.lload 4, 2) := by decide +kernel
theorem dX1_nearest_119 : decode cX1_nearest 119 = .ok (.iload 8, 2) := by decide +kernel
theorem dX1_nearest_121 : decode cX1_nearest 121 = .ok (.invokestatic 21, 3) := by decide +kernel
theorem dX1_nearest_124 : decode cX1_nearest 124 = .ok (.lsub, 1) := by decide +kernel
theorem dX1_nearest_125 : decode cX1_nearest 125 = .ok (.lmul, 1) := by decide +kernel
theorem dX1_nearest_126 : decode cX1_nearest 126 = .ok (.lload_n 2, 1) := by decide +kernel
theorem dX1_nearest_127 : decode cX1_nearest 127 = .ok (.lmul, 1) := by decide +kernel
theorem dX1_nearest_128 : decode cX1_nearest 128 = .ok (.ldc2_w 24, 3) := by decide +kernel
theorem dX1_nearest_131 : decode cX1_nearest 131 = .ok (.lload 6, 2) := by decide +kernel
theorem dX1_nearest_133 : decode cX1_nearest 133 = .ok (.lmul, 1) := by decide +kernel
theorem dX1_nearest_134 : decode cX1_nearest 134 = .ok (.ladd, 1) := by decide +kernel
theorem dX1_nearest_135 : decode cX1_nearest 135 = .ok (.lstore 12, 2) := by decide +kernel
theorem dX1_nearest_137 : decode cX1_nearest 137 = .ok (.lload 12, 2) := by decide +kernel
theorem dX1_nearest_139 : decode cX1_nearest 139 = .ok (.lload 10, 2) := by decide +kernel
theorem dX1_nearest_141 : decode cX1_nearest 141 = .ok (.lload_n 2, 1) := by decide +kernel
theorem dX1_nearest_142 : decode cX1_nearest 142 = .ok (.lmul, 1) := by decide +kernel
theorem dX1_nearest_143 : decode cX1_nearest 143 = .ok (.lcmp, 1) := by decide +kernel
theorem dX1_nearest_144 : decode cX1_nearest 144 = .ok (.ifCond .ne 20, 3) := by decide +kernel
theorem dX1_nearest_147 : decode cX1_nearest 147 = .ok (.iload 8, 2) := by decide +kernel
theorem dX1_nearest_149 : decode cX1_nearest 149 = .ok (.iconst 2, 1) := by decide +kernel
theorem dX1_nearest_150 : decode cX1_nearest 150 = .ok (.irem, 1) := by decide +kernel
theorem dX1_nearest_151 : decode cX1_nearest 151 = .ok (.ifCond .ne 8, 3) := by decide +kernel
theorem dX1_nearest_154 : decode cX1_nearest 154 = .ok (.iload 8, 2) := by decide +kernel
theorem dX1_nearest_156 : decode cX1_nearest 156 = .ok (.goto 7, 3) := by decide +kernel
theorem dX1_nearest_159 : decode cX1_nearest 159 = .ok (.iload 8, 2) := by decide +kernel
theorem dX1_nearest_161 : decode cX1_nearest 161 = .ok (.iconst 1, 1) := by decide +kernel
theorem dX1_nearest_162 : decode cX1_nearest 162 = .ok (.iadd, 1) := by decide +kernel
theorem dX1_nearest_163 : decode cX1_nearest 163 = .ok (.ireturn, 1) := by decide +kernel
theorem dX1_nearest_164 : decode cX1_nearest 164 = .ok (.lload 12, 2) := by decide +kernel
theorem dX1_nearest_166 : decode cX1_nearest 166 = .ok (.lload 10, 2) := by decide +kernel
theorem dX1_nearest_168 : decode cX1_nearest 168 = .ok (.lload_n 2, 1) := by decide +kernel
theorem dX1_nearest_169 : decode cX1_nearest 169 = .ok (.lmul, 1) := by decide +kernel
theorem dX1_nearest_170 : decode cX1_nearest 170 = .ok (.lcmp, 1) := by decide +kernel
theorem dX1_nearest_171 : decode cX1_nearest 171 = .ok (.ifCond .le 10, 3) := by decide +kernel
theorem dX1_nearest_174 : decode cX1_nearest 174 = .ok (.iload 8, 2) := by decide +kernel
theorem dX1_nearest_176 : decode cX1_nearest 176 = .ok (.iconst 1, 1) := by decide +kernel
theorem dX1_nearest_177 : decode cX1_nearest 177 = .ok (.iadd, 1) := by decide +kernel
theorem dX1_nearest_178 : decode cX1_nearest 178 = .ok (.goto 5, 3) := by decide +kernel
theorem dX1_nearest_181 : decode cX1_nearest 181 = .ok (.iload 8, 2) := by decide +kernel
theorem dX1_nearest_183 : decode cX1_nearest 183 = .ok (.ireturn, 1) := by decide +kernel
abbrev cX1_withSign : ByteArray := prog_3_method_8_code
def yX1_withSign : MethodName := ⟨RX1, "withSign", "(IZ)I"⟩
theorem dX1_withSign_0 : decode cX1_withSign 0 = .ok (.iload_n 1, 1) := by decide +kernel
theorem dX1_withSign_1 : decode cX1_withSign 1 = .ok (.ifCond .eq 14, 3) := by decide +kernel
theorem dX1_withSign_4 : decode cX1_withSign 4 = .ok (.iload_n 0, 1) := by decide +kernel
theorem dX1_withSign_5 : decode cX1_withSign 5 = .ok (.ifCond .le 10, 3) := by decide +kernel
theorem dX1_withSign_8 : decode cX1_withSign 8 = .ok (.iload_n 0, 1) := by decide +kernel
theorem dX1_withSign_9 : decode cX1_withSign 9 = .ok (.ldc 20, 2) := by decide +kernel
theorem dX1_withSign_11 : decode cX1_withSign 11 = .ok (.iadd, 1) := by decide +kernel
theorem dX1_withSign_12 : decode cX1_withSign 12 = .ok (.goto 4, 3) := by decide +kernel
theorem dX1_withSign_15 : decode cX1_withSign 15 = .ok (.iload_n 0, 1) := by decide +kernel
theorem dX1_withSign_16 : decode cX1_withSign 16 = .ok (.ireturn, 1) := by decide +kernel
abbrev cX1_multiply : ByteArray := prog_3_method_10_code
def yX1_multiply : MethodName := ⟨RX1, "multiply", "(II)I"⟩
theorem dX1_multiply_0 : decode cX1_multiply 0 = .ok (.iload_n 1, 1) := by decide +kernel
theorem dX1_multiply_1 : decode cX1_multiply 1 = .ok (.invokestatic 26, 3) := by decide +kernel
theorem dX1_multiply_4 : decode cX1_multiply 4 = .ok (.ifCond .ne 10, 3) := by decide +kernel
theorem dX1_multiply_7 : decode cX1_multiply 7 = .ok (.iload_n 2, 1) := by decide +kernel
theorem dX1_multiply_8 : decode cX1_multiply 8 = .ok (.invokestatic 26, 3) := by decide +kernel
theorem dX1_multiply_11 : decode cX1_multiply 11 = .ok (.ifCond .eq 5, 3) := by decide +kernel
theorem dX1_multiply_14 : decode cX1_multiply 14 = .ok (.iconst (-1), 1) := by decide +kernel
theorem dX1_multiply_15 : decode cX1_multiply 15 = .ok (.ireturn, 1) := by decide +kernel
theorem dX1_multiply_16 : decode cX1_multiply 16 = .ok (.iload_n 1, 1) := by decide +kernel
theorem dX1_multiply_17 : decode cX1_multiply 17 = .ok (.invokestatic 10, 3) := by decide +kernel
theorem dX1_multiply_20 : decode cX1_multiply 20 = .ok (.iload_n 2, 1) := by decide +kernel
theorem dX1_multiply_21 : decode cX1_multiply 21 = .ok (.invokestatic 10, 3) := by decide +kernel
theorem dX1_multiply_24 : decode cX1_multiply 24 = .ok (.lmul, 1) := by decide +kernel
theorem dX1_multiply_25 : decode cX1_multiply 25 = .ok (.lstore_n 3, 1) := by decide +kernel
theorem dX1_multiply_26 : decode cX1_multiply 26 = .ok (.iload_n 1, 1) := by decide +kernel
theorem dX1_multiply_27 : decode cX1_multiply 27 = .ok (.invokestatic 16, 3) := by decide +kernel
theorem dX1_multiply_30 : decode cX1_multiply 30 = .ok (.iload_n 2, 1) := by decide +kernel
theorem dX1_multiply_31 : decode cX1_multiply 31 = .ok (.invokestatic 16, 3) := by decide +kernel
theorem dX1_multiply_34 : decode cX1_multiply 34 = .ok (.iadd, 1) := by decide +kernel
theorem dX1_multiply_35 : decode cX1_multiply 35 = .ok (.bipush 24, 2) := by decide +kernel
theorem dX1_multiply_37 : decode cX1_multiply 37 = .ok (.isub, 1) := by decide +kernel
theorem dX1_multiply_38 : decode cX1_multiply 38 = .ok (.istore 5, 2) := by decide +kernel
theorem dX1_multiply_40 : decode cX1_multiply 40 = .ok (.iload 5, 2) := by decide +kernel
theorem dX1_multiply_42 : decode cX1_multiply 42 = .ok (.ifCond .lt 14, 3) := by decide +kernel
theorem dX1_multiply_45 : decode cX1_multiply 45 = .ok (.lload_n 3, 1) := by decide +kernel
theorem dX1_multiply_46 : decode cX1_multiply 46 = .ok (.iload 5, 2) := by decide +kernel
theorem dX1_multiply_48 : decode cX1_multiply 48 = .ok (.lshl, 1) := by decide +kernel
theorem dX1_multiply_49 : decode cX1_multiply 49 = .ok (.lconst 1, 1) := by decide +kernel
theorem dX1_multiply_50 : decode cX1_multiply 50 = .ok (.invokestatic 33, 3) := by decide +kernel
theorem dX1_multiply_53 : decode cX1_multiply 53 = .ok (.goto 12, 3) := by decide +kernel
theorem dX1_multiply_56 : decode cX1_multiply 56 = .ok (.lload_n 3, 1) := by decide +kernel
theorem dX1_multiply_57 : decode cX1_multiply 57 = .ok (.lconst 1, 1) := by decide +kernel
theorem dX1_multiply_58 : decode cX1_multiply 58 = .ok (.iload 5, 2) := by decide +kernel
theorem dX1_multiply_60 : decode cX1_multiply 60 = .ok (.ineg, 1) := by decide +kernel
theorem dX1_multiply_61 : decode cX1_multiply 61 = .ok (.lshl, 1) := by decide +kernel
theorem dX1_multiply_62 : decode cX1_multiply 62 = .ok (.invokestatic 33, 3) := by decide +kernel
theorem dX1_multiply_65 : decode cX1_multiply 65 = .ok (.istore 6, 2) := by decide +kernel
theorem dX1_multiply_67 : decode cX1_multiply 67 = .ok (.iload 6, 2) := by decide +kernel
theorem dX1_multiply_69 : decode cX1_multiply 69 = .ok (.iload_n 1, 1) := by decide +kernel
theorem dX1_multiply_70 : decode cX1_multiply 70 = .ok (.ldc 20, 2) := by decide +kernel
theorem dX1_multiply_72 : decode cX1_multiply 72 = .ok (.if_icmp .lt 7, 3) := by decide +kernel
theorem dX1_multiply_75 : decode cX1_multiply 75 = .ok (.iconst 1, 1) := by decide +kernel
theorem dX1_multiply_76 : decode cX1_multiply 76 = .ok (.goto 4, 3) := by decide +kernel
theorem dX1_multiply_79 : decode cX1_multiply 79 = .ok (.iconst 0, 1) := by decide +kernel
theorem dX1_multiply_80 : decode cX1_multiply 80 = .ok (.iload_n 2, 1) := by decide +kernel
theorem dX1_multiply_81 : decode cX1_multiply 81 = .ok (.ldc 20, 2) := by decide +kernel
theorem dX1_multiply_83 : decode cX1_multiply 83 = .ok (.if_icmp .lt 7, 3) := by decide +kernel
theorem dX1_multiply_86 : decode cX1_multiply 86 = .ok (.iconst 1, 1) := by decide +kernel
theorem dX1_multiply_87 : decode cX1_multiply 87 = .ok (.goto 4, 3) := by decide +kernel
theorem dX1_multiply_90 : decode cX1_multiply 90 = .ok (.iconst 0, 1) := by decide +kernel
theorem dX1_multiply_91 : decode cX1_multiply 91 = .ok (.if_icmp .eq 7, 3) := by decide +kernel
theorem dX1_multiply_94 : decode cX1_multiply 94 = .ok (.iconst 1, 1) := by decide +kernel
theorem dX1_multiply_95 : decode cX1_multiply 95 = .ok (.goto 4, 3) := by decide +kernel
theorem dX1_multiply_98 : decode cX1_multiply 98 = .ok (.iconst 0, 1) := by decide +kernel
theorem dX1_multiply_99 : decode cX1_multiply 99 = .ok (.invokestatic 37, 3) := by decide +kernel
theorem dX1_multiply_102 : decode cX1_multiply 102 = .ok (.ireturn, 1) := by decide +kernel
abbrev cX1_divide : ByteArray := prog_3_method_11_code
def yX1_divide : MethodName := ⟨RX1, "divide", "(II)I"⟩
theorem dX1_divide_0 : decode cX1_divide 0 = .ok (.iload_n 1, 1) := by decide +kernel
theorem dX1_divide_1 : decode cX1_divide 1 = .ok (.invokestatic 26, 3) := by decide +kernel
theorem dX1_divide_4 : decode cX1_divide 4 = .ok (.ifCond .ne 19, 3) := by decide +kernel
theorem dX1_divide_7 : decode cX1_divide 7 = .ok (.iload_n 2, 1) := by decide +kernel
theorem dX1_divide_8 : decode cX1_divide 8 = .ok (.invokestatic 26, 3) := by decide +kernel
theorem dX1_divide_11 : decode cX1_divide 11 = .ok (.ifCond .ne 12, 3) := by decide +kernel
theorem dX1_divide_14 : decode cX1_divide 14 = .ok (.iload_n 2, 1) := by decide +kernel
theorem dX1_divide_15 : decode cX1_divide 15 = .ok (.invokestatic 10, 3) := by decide +kernel
theorem dX1_divide_18 : decode cX1_divide 18 = .ok (.lconst 0, 1) := by decide +kernel
theorem dX1_divide_19 : decode cX1_divide 19 = .ok (.lcmp, 1) := by decide +kernel
theorem dX1_divide_20 : decode cX1_divide 20 = .ok (.ifCond .ne 5, 3) := by decide +kernel
theorem dX1_divide_23 : decode cX1_divide 23 = .ok (.iconst (-1), 1) := by decide +kernel
theorem dX1_divide_24 : decode cX1_divide 24 = .ok (.ireturn, 1) := by decide +kernel
theorem dX1_divide_25 : decode cX1_divide 25 = .ok (.iload_n 1, 1) := by decide +kernel
theorem dX1_divide_26 : decode cX1_divide 26 = .ok (.invokestatic 16, 3) := by decide +kernel
theorem dX1_divide_29 : decode cX1_divide 29 = .ok (.iload_n 2, 1) := by decide +kernel
theorem dX1_divide_30 : decode cX1_divide 30 = .ok (.invokestatic 16, 3) := by decide +kernel
theorem dX1_divide_33 : decode cX1_divide 33 = .ok (.isub, 1) := by decide +kernel
theorem dX1_divide_34 : decode cX1_divide 34 = .ok (.bipush 24, 2) := by decide +kernel
theorem dX1_divide_36 : decode cX1_divide 36 = .ok (.iadd, 1) := by decide +kernel
theorem dX1_divide_37 : decode cX1_divide 37 = .ok (.istore_n 3, 1) := by decide +kernel
theorem dX1_divide_38 : decode cX1_divide 38 = .ok (.iload_n 1, 1) := by decide +kernel
theorem dX1_divide_39 : decode cX1_divide 39 = .ok (.ldc 20, 2) := by decide +kernel
theorem dX1_divide_41 : decode cX1_divide 41 = .ok (.if_icmp .lt 7, 3) := by decide +kernel
theorem dX1_divide_44 : decode cX1_divide 44 = .ok (.iconst 1, 1) := by decide +kernel
theorem dX1_divide_45 : decode cX1_divide 45 = .ok (.goto 4, 3) := by decide +kernel
theorem dX1_divide_48 : decode cX1_divide 48 = .ok (.iconst 0, 1) := by decide +kernel
theorem dX1_divide_49 : decode cX1_divide 49 = .ok (.iload_n 2, 1) := by decide +kernel
theorem dX1_divide_50 : decode cX1_divide 50 = .ok (.ldc 20, 2) := by decide +kernel
theorem dX1_divide_52 : decode cX1_divide 52 = .ok (.if_icmp .lt 7, 3) := by decide +kernel
theorem dX1_divide_55 : decode cX1_divide 55 = .ok (.iconst 1, 1) := by decide +kernel
theorem dX1_divide_56 : decode cX1_divide 56 = .ok (.goto 4, 3) := by decide +kernel
theorem dX1_divide_59 : decode cX1_divide 59 = .ok (.iconst 0, 1) := by decide +kernel
theorem dX1_divide_60 : decode cX1_divide 60 = .ok (.if_icmp .eq 7, 3) := by decide +kernel
theorem dX1_divide_63 : decode cX1_divide 63 = .ok (.iconst 1, 1) := by decide +kernel
theorem dX1_divide_64 : decode cX1_divide 64 = .ok (.goto 4, 3) := by decide +kernel
theorem dX1_divide_67 : decode cX1_divide 67 = .ok (.iconst 0, 1) := by decide +kernel
theorem dX1_divide_68 : decode cX1_divide 68 = .ok (.istore 4, 2) := by decide +kernel
theorem dX1_divide_70 : decode cX1_divide 70 = .ok (.iload_n 1, 1) := by decide +kernel
theorem dX1_divide_71 : decode cX1_divide 71 = .ok (.invokestatic 10, 3) := by decide +kernel
theorem dX1_divide_74 : decode cX1_divide 74 = .ok (.lstore 5, 2) := by decide +kernel
theorem dX1_divide_76 : decode cX1_divide 76 = .ok (.iload_n 2, 1) := by decide +kernel
theorem dX1_divide_77 : decode cX1_divide 77 = .ok (.invokestatic 10, 3) := by decide +kernel
theorem dX1_divide_80 : decode cX1_divide 80 = .ok (.lstore 7, 2) := by decide +kernel
theorem dX1_divide_82 : decode cX1_divide 82 = .ok (.sipush 31744, 3) := by decide +kernel
theorem dX1_divide_85 : decode cX1_divide 85 = .ok (.istore 9, 2) := by decide +kernel
theorem dX1_divide_87 : decode cX1_divide 87 = .ok (.lload 5, 2) := by decide +kernel
theorem dX1_divide_89 : decode cX1_divide 89 = .ok (.lconst 0, 1) := by decide +kernel
theorem dX1_divide_90 : decode cX1_divide 90 = .ok (.lcmp, 1) := by decide +kernel
theorem dX1_divide_91 : decode cX1_divide 91 = .ok (.ifCond .ne 9, 3) := by decide +kernel
theorem dX1_divide_94 : decode cX1_divide 94 = .ok (.iconst 0, 1) := by decide +kernel
theorem dX1_divide_95 : decode cX1_divide 95 = .ok (.istore 9, 2) := by decide +kernel
theorem dX1_divide_97 : decode cX1_divide 97 = .ok (.goto 37, 3) := by decide +kernel
theorem dX1_divide_100 : decode cX1_divide 100 = .ok (.iload_n 3, 1) := by decide +kernel
theorem dX1_divide_101 : decode cX1_divide 101 = .ok (.bipush 45, 2) := by decide +kernel
theorem dX1_divide_103 : decode cX1_divide 103 = .ok (.if_icmp .gt 31, 3) := by decide +kernel
theorem dX1_divide_106 : decode cX1_divide 106 = .ok (.iload_n 3, 1) := by decide +kernel
theorem dX1_divide_107 : decode cX1_divide 107 = .ok (.ifCond .lt 15, 3) := by decide +kernel
theorem dX1_divide_110 : decode cX1_divide 110 = .ok (.lload 5, 2) := by decide +kernel
theorem dX1_divide_112 : decode cX1_divide 112 = .ok (.iload_n 3, 1) := by decide +kernel
theorem dX1_divide_113 : decode cX1_divide 113 = .ok (.lshl, 1) := by decide +kernel
theorem dX1_divide_114 : decode cX1_divide 114 = .ok (.lload 7, 2) := by decide +kernel
theorem dX1_divide_116 : decode cX1_divide 116 = .ok (.invokestatic 33, 3) := by decide +kernel
theorem dX1_divide_119 : decode cX1_divide 119 = .ok (.goto 13, 3) := by decide +kernel
theorem dX1_divide_122 : decode cX1_divide 122 = .ok (.lload 5, 2) := by decide +kernel
theorem dX1_divide_124 : decode cX1_divide 124 = .ok (.lload 7, 2) := by decide +kernel
theorem dX1_divide_126 : decode cX1_divide 126 = .ok (.iload_n 3, 1) := by decide +kernel
theorem dX1_divide_127 : decode cX1_divide 127 = .ok (.ineg, 1) := by decide +kernel
theorem dX1_divide_128 : decode cX1_divide 128 = .ok (.lshl, 1) := by decide +kernel
theorem dX1_divide_129 : decode cX1_divide 129 = .ok (.invokestatic 33, 3) := by decide +kernel
theorem dX1_divide_132 : decode cX1_divide 132 = .ok (.istore 9, 2) := by decide +kernel
theorem dX1_divide_134 : decode cX1_divide 134 = .ok (.iload 9, 2) := by decide +kernel
theorem dX1_divide_136 : decode cX1_divide 136 = .ok (.iload 4, 2) := by decide +kernel
theorem dX1_divide_138 : decode cX1_divide 138 = .ok (.invokestatic 37, 3) := by decide +kernel
theorem dX1_divide_141 : decode cX1_divide 141 = .ok (.ireturn, 1) := by decide +kernel
end
section
set_option maxRecDepth 100000
abbrev cX1_root : ByteArray := prog_3_method_13_code
def yX1_root : MethodName := ⟨RX1, "root", "(I)I"⟩
theorem dX1_root_0 : decode cX1_root 0 = .ok (.iload_n 1, 1) := by decide +kernel
theorem dX1_root_1 : decode cX1_root 1 = .ok (.invokestatic 26, 3) := by decide +kernel
theorem dX1_root_4 : decode cX1_root 4 = .ok (.ifCond .ne 9, 3) := by decide +kernel
theorem dX1_root_7 : decode cX1_root 7 = .ok (.iload_n 1, 1) := by decide +kernel
theorem dX1_root_8 : decode cX1_root 8 = .ok (.ldc 20, 2) := by decide +kernel
theorem dX1_root_10 : decode cX1_root 10 = .ok (.if_icmp .le 5, 3) := by decide +kernel
theorem dX1_root_13 : decode cX1_root 13 = .ok (.iconst (-1), 1) := by decide +kernel
theorem dX1_root_14 : decode cX1_root 14 = .ok (.ireturn, 1) := by decide +kernel
theorem dX1_root_15 : decode cX1_root 15 = .ok (.iload_n 1, 1) := by decide +kernel
theorem dX1_root_16 : decode cX1_root 16 = .ok (.invokestatic 16, 3) := by decide +kernel
theorem dX1_root_19 : decode cX1_root 19 = .ok (.bipush 24, 2) := by decide +kernel
theorem dX1_root_21 : decode cX1_root 21 = .ok (.iadd, 1) := by decide +kernel
theorem dX1_root_22 : decode cX1_root 22 = .ok (.istore_n 2, 1) := by decide +kernel
theorem dX1_root_23 : decode cX1_root 23 = .ok (.iload_n 2, 1) := by decide +kernel
theorem dX1_root_24 : decode cX1_root 24 = .ok (.iconst 2, 1) := by decide +kernel
theorem dX1_root_25 : decode cX1_root 25 = .ok (.irem, 1) := by decide +kernel
theorem dX1_root_26 : decode cX1_root 26 = .ok (.ifCond .ne 10, 3) := by decide +kernel
theorem dX1_root_29 : decode cX1_root 29 = .ok (.iload_n 1, 1) := by decide +kernel
theorem dX1_root_30 : decode cX1_root 30 = .ok (.invokestatic 10, 3) := by decide +kernel
theorem dX1_root_33 : decode cX1_root 33 = .ok (.goto 11, 3) := by decide +kernel
theorem dX1_root_36 : decode cX1_root 36 = .ok (.ldc2_w 24, 3) := by decide +kernel
theorem dX1_root_39 : decode cX1_root 39 = .ok (.iload_n 1, 1) := by decide +kernel
theorem dX1_root_40 : decode cX1_root 40 = .ok (.invokestatic 10, 3) := by decide +kernel
theorem dX1_root_43 : decode cX1_root 43 = .ok (.lmul, 1) := by decide +kernel
theorem dX1_root_44 : decode cX1_root 44 = .ok (.lstore_n 3, 1) := by decide +kernel
theorem dX1_root_45 : decode cX1_root 45 = .ok (.lload_n 3, 1) := by decide +kernel
theorem dX1_root_46 : decode cX1_root 46 = .ok (.bipush 28, 2) := by decide +kernel
theorem dX1_root_48 : decode cX1_root 48 = .ok (.lshl, 1) := by decide +kernel
theorem dX1_root_49 : decode cX1_root 49 = .ok (.lstore 5, 2) := by decide +kernel
theorem dX1_root_51 : decode cX1_root 51 = .ok (.lload 5, 2) := by decide +kernel
theorem dX1_root_53 : decode cX1_root 53 = .ok (.invokestatic 43, 3) := by decide +kernel
theorem dX1_root_56 : decode cX1_root 56 = .ok (.lstore 7, 2) := by decide +kernel
theorem dX1_root_58 : decode cX1_root 58 = .ok (.ldc2_w 24, 3) := by decide +kernel
theorem dX1_root_61 : decode cX1_root 61 = .ok (.lload 7, 2) := by decide +kernel
theorem dX1_root_63 : decode cX1_root 63 = .ok (.lmul, 1) := by decide +kernel
theorem dX1_root_64 : decode cX1_root 64 = .ok (.lload 7, 2) := by decide +kernel
theorem dX1_root_66 : decode cX1_root 66 = .ok (.lload 7, 2) := by decide +kernel
theorem dX1_root_68 : decode cX1_root 68 = .ok (.lmul, 1) := by decide +kernel
theorem dX1_root_69 : decode cX1_root 69 = .ok (.lload 5, 2) := by decide +kernel
theorem dX1_root_71 : decode cX1_root 71 = .ok (.lcmp, 1) := by decide +kernel
theorem dX1_root_72 : decode cX1_root 72 = .ok (.ifCond .ne 7, 3) := by decide +kernel
theorem dX1_root_75 : decode cX1_root 75 = .ok (.iconst 0, 1) := by decide +kernel
theorem dX1_root_76 : decode cX1_root 76 = .ok (.goto 4, 3) := by decide +kernel
theorem dX1_root_79 : decode cX1_root 79 = .ok (.iconst 1, 1) := by decide +kernel
theorem dX1_root_80 : decode cX1_root 80 = .ok (.i2l, 1) := by decide +kernel
theorem dX1_root_81 : decode cX1_root 81 = .ok (.ladd, 1) := by decide +kernel
theorem dX1_root_82 : decode cX1_root 82 = .ok (.lstore 9, 2) := by decide +kernel
theorem dX1_root_84 : decode cX1_root 84 = .ok (.iload_n 2, 1) := by decide +kernel
theorem dX1_root_85 : decode cX1_root 85 = .ok (.iconst 2, 1) := by decide +kernel
theorem dX1_root_86 : decode cX1_root 86 = .ok (.idiv, 1) := by decide +kernel
theorem dX1_root_87 : decode cX1_root 87 = .ok (.bipush 15, 2) := by decide +kernel
theorem dX1_root_89 : decode cX1_root 89 = .ok (.isub, 1) := by decide +kernel
theorem dX1_root_90 : decode cX1_root 90 = .ok (.istore 11, 2) := by decide +kernel
theorem dX1_root_92 : decode cX1_root 92 = .ok (.iload 11, 2) := by decide +kernel
theorem dX1_root_94 : decode cX1_root 94 = .ok (.ifCond .lt 15, 3) := by decide +kernel
theorem dX1_root_97 : decode cX1_root 97 = .ok (.lload 9, 2) := by decide +kernel
theorem dX1_root_99 : decode cX1_root 99 = .ok (.iload 11, 2) := by decide +kernel
theorem dX1_root_101 : decode cX1_root 101 = .ok (.lshl, 1) := by decide +kernel
theorem dX1_root_102 : decode cX1_root 102 = .ok (.lconst 1, 1) := by decide +kernel
theorem dX1_root_103 : decode cX1_root 103 = .ok (.invokestatic 33, 3) := by decide +kernel
theorem dX1_root_106 : decode cX1_root 106 = .ok (.goto 13, 3) := by decide +kernel
theorem dX1_root_109 : decode cX1_root 109 = .ok (.lload 9, 2) := by decide +kernel
theorem dX1_root_111 : decode cX1_root 111 = .ok (.lconst 1, 1) := by decide +kernel
theorem dX1_root_112 : decode cX1_root 112 = .ok (.iload 11, 2) := by decide +kernel
theorem dX1_root_114 : decode cX1_root 114 = .ok (.ineg, 1) := by decide +kernel
theorem dX1_root_115 : decode cX1_root 115 = .ok (.lshl, 1) := by decide +kernel
theorem dX1_root_116 : decode cX1_root 116 = .ok (.invokestatic 33, 3) := by decide +kernel
theorem dX1_root_119 : decode cX1_root 119 = .ok (.ireturn, 1) := by decide +kernel
abbrev cX1_rootOf : ByteArray := prog_3_method_12_code
def yX1_rootOf : MethodName := ⟨RX1, "rootOf", "(J)J"⟩
theorem dX1_rootOf_0 : decode cX1_rootOf 0 = .ok (.lconst 0, 1) := by decide +kernel
theorem dX1_rootOf_1 : decode cX1_rootOf 1 = .ok (.lstore_n 2, 1) := by decide +kernel
theorem dX1_rootOf_2 : decode cX1_rootOf 2 = .ok (.ldc2_w 41, 3) := by decide +kernel
theorem dX1_rootOf_5 : decode cX1_rootOf 5 = .ok (.lstore 4, 2) := by decide +kernel
theorem dX1_rootOf_7 : decode cX1_rootOf 7 = .ok (.lload_n 2, 1) := by decide +kernel
theorem dX1_rootOf_8 : decode cX1_rootOf 8 = .ok (.lload 4, 2) := by decide +kernel
theorem dX1_rootOf_10 : decode cX1_rootOf 10 = .ok (.lcmp, 1) := by decide +kernel
theorem dX1_rootOf_11 : decode cX1_rootOf 11 = .ok (.ifCond .ge 40, 3) := by decide +kernel
theorem dX1_rootOf_14 : decode cX1_rootOf 14 = .ok (.lload_n 2, 1) := by decide +kernel
theorem dX1_rootOf_15 : decode cX1_rootOf 15 = .ok (.lload 4, 2) := by decide +kernel
theorem dX1_rootOf_17 : decode cX1_rootOf 17 = .ok (.ladd, 1) := by decide +kernel
theorem dX1_rootOf_18 : decode cX1_rootOf 18 = .ok (.lconst 1, 1) := by decide +kernel
theorem dX1_rootOf_19 : decode cX1_rootOf 19 = .ok (.ladd, 1) := by decide +kernel
theorem dX1_rootOf_20 : decode cX1_rootOf 20 = .ok (.ldc2_w 24, 3) := by decide +kernel
theorem dX1_rootOf_23 : decode cX1_rootOf 23 = .ok (.ldiv, 1) := by decide +kernel
theorem dX1_rootOf_24 : decode cX1_rootOf 24 = .ok (.lstore 6, 2) := by decide +kernel
theorem dX1_rootOf_26 : decode cX1_rootOf 26 = .ok (.lload 6, 2) := by decide +kernel
theorem dX1_rootOf_28 : decode cX1_rootOf 28 = .ok (.lload 6, 2) := by decide +kernel
theorem dX1_rootOf_30 : decode cX1_rootOf 30 = .ok (.lmul, 1) := by decide +kernel
theorem dX1_rootOf_31 : decode cX1_rootOf 31 = .ok (.lload_n 0, 1) := by decide +kernel
theorem dX1_rootOf_32 : decode cX1_rootOf 32 = .ok (.lcmp, 1) := by decide +kernel
theorem dX1_rootOf_33 : decode cX1_rootOf 33 = .ok (.ifCond .gt 9, 3) := by decide +kernel
theorem dX1_rootOf_36 : decode cX1_rootOf 36 = .ok (.lload 6, 2) := by decide +kernel
theorem dX1_rootOf_38 : decode cX1_rootOf 38 = .ok (.lstore_n 2, 1) := by decide +kernel
theorem dX1_rootOf_39 : decode cX1_rootOf 39 = .ok (.goto 9, 3) := by decide +kernel
theorem dX1_rootOf_42 : decode cX1_rootOf 42 = .ok (.lload 6, 2) := by decide +kernel
theorem dX1_rootOf_44 : decode cX1_rootOf 44 = .ok (.lconst 1, 1) := by decide +kernel
theorem dX1_rootOf_45 : decode cX1_rootOf 45 = .ok (.lsub, 1) := by decide +kernel
theorem dX1_rootOf_46 : decode cX1_rootOf 46 = .ok (.lstore 4, 2) := by decide +kernel
theorem dX1_rootOf_48 : decode cX1_rootOf 48 = .ok (.goto (-41), 3) := by decide +kernel
theorem dX1_rootOf_51 : decode cX1_rootOf 51 = .ok (.lload_n 2, 1) := by decide +kernel
theorem dX1_rootOf_52 : decode cX1_rootOf 52 = .ok (.lreturn, 1) := by decide +kernel
abbrev cX1_parse : ByteArray := prog_3_method_16_code
def yX1_parse : MethodName := ⟨RX1, "parse", "(II)I"⟩
theorem dX1_parse_0 : decode cX1_parse 0 = .ok (.iload_n 1, 1) := by decide +kernel
theorem dX1_parse_1 : decode cX1_parse 1 = .ok (.ifCond .lt 21, 3) := by decide +kernel
theorem dX1_parse_4 : decode cX1_parse 4 = .ok (.iload_n 1, 1) := by decide +kernel
theorem dX1_parse_5 : decode cX1_parse 5 = .ok (.ldc 54, 2) := by decide +kernel
theorem dX1_parse_7 : decode cX1_parse 7 = .ok (.if_icmp .gt 15, 3) := by decide +kernel
theorem dX1_parse_10 : decode cX1_parse 10 = .ok (.iload_n 2, 1) := by decide +kernel
theorem dX1_parse_11 : decode cX1_parse 11 = .ok (.bipush (-12), 2) := by decide +kernel
theorem dX1_parse_13 : decode cX1_parse 13 = .ok (.if_icmp .lt 9, 3) := by decide +kernel
theorem dX1_parse_16 : decode cX1_parse 16 = .ok (.iload_n 2, 1) := by decide +kernel
theorem dX1_parse_17 : decode cX1_parse 17 = .ok (.bipush 12, 2) := by decide +kernel
theorem dX1_parse_19 : decode cX1_parse 19 = .ok (.if_icmp .le 7, 3) := by decide +kernel
theorem dX1_parse_22 : decode cX1_parse 22 = .ok (.iconst (-1), 1) := by decide +kernel
theorem dX1_parse_23 : decode cX1_parse 23 = .ok (.goto 9, 3) := by decide +kernel
theorem dX1_parse_26 : decode cX1_parse 26 = .ok (.iload_n 1, 1) := by decide +kernel
theorem dX1_parse_27 : decode cX1_parse 27 = .ok (.i2l, 1) := by decide +kernel
theorem dX1_parse_28 : decode cX1_parse 28 = .ok (.iload_n 2, 1) := by decide +kernel
theorem dX1_parse_29 : decode cX1_parse 29 = .ok (.invokestatic 55, 3) := by decide +kernel
theorem dX1_parse_32 : decode cX1_parse 32 = .ok (.ireturn, 1) := by decide +kernel
abbrev cX1_parsed : ByteArray := prog_3_method_15_code
def yX1_parsed : MethodName := ⟨RX1, "parsed", "(JI)I"⟩
theorem dX1_parsed_0 : decode cX1_parsed 0 = .ok (.iload_n 2, 1) := by decide +kernel
theorem dX1_parsed_1 : decode cX1_parsed 1 = .ok (.ifCond .ge 18, 3) := by decide +kernel
theorem dX1_parsed_4 : decode cX1_parsed 4 = .ok (.iload_n 2, 1) := by decide +kernel
theorem dX1_parsed_5 : decode cX1_parsed 5 = .ok (.ineg, 1) := by decide +kernel
theorem dX1_parsed_6 : decode cX1_parsed 6 = .ok (.invokestatic 49, 3) := by decide +kernel
theorem dX1_parsed_9 : decode cX1_parsed 9 = .ok (.lstore_n 3, 1) := by decide +kernel
theorem dX1_parsed_10 : decode cX1_parsed 10 = .ok (.lload_n 0, 1) := by decide +kernel
theorem dX1_parsed_11 : decode cX1_parsed 11 = .ok (.bipush 24, 2) := by decide +kernel
theorem dX1_parsed_13 : decode cX1_parsed 13 = .ok (.lshl, 1) := by decide +kernel
theorem dX1_parsed_14 : decode cX1_parsed 14 = .ok (.lload_n 3, 1) := by decide +kernel
theorem dX1_parsed_15 : decode cX1_parsed 15 = .ok (.invokestatic 33, 3) := by decide +kernel
theorem dX1_parsed_18 : decode cX1_parsed 18 = .ok (.ireturn, 1) := by decide +kernel
theorem dX1_parsed_19 : decode cX1_parsed 19 = .ok (.lload_n 0, 1) := by decide +kernel
theorem dX1_parsed_20 : decode cX1_parsed 20 = .ok (.lstore_n 3, 1) := by decide +kernel
theorem dX1_parsed_21 : decode cX1_parsed 21 = .ok (.iconst 0, 1) := by decide +kernel
theorem dX1_parsed_22 : decode cX1_parsed 22 = .ok (.istore 5, 2) := by decide +kernel
theorem dX1_parsed_24 : decode cX1_parsed 24 = .ok (.iload 5, 2) := by decide +kernel
theorem dX1_parsed_26 : decode cX1_parsed 26 = .ok (.iload_n 2, 1) := by decide +kernel
theorem dX1_parsed_27 : decode cX1_parsed 27 = .ok (.if_icmp .ge 23, 3) := by decide +kernel
theorem dX1_parsed_30 : decode cX1_parsed 30 = .ok (.lload_n 3, 1) := by decide +kernel
theorem dX1_parsed_31 : decode cX1_parsed 31 = .ok (.ldc2_w 52, 3) := by decide +kernel
theorem dX1_parsed_34 : decode cX1_parsed 34 = .ok (.lcmp, 1) := by decide +kernel
theorem dX1_parsed_35 : decode cX1_parsed 35 = .ok (.ifCond .ge 15, 3) := by decide +kernel
theorem dX1_parsed_38 : decode cX1_parsed 38 = .ok (.ldc2_w 47, 3) := by decide +kernel
theorem dX1_parsed_41 : decode cX1_parsed 41 = .ok (.lload_n 3, 1) := by decide +kernel
theorem dX1_parsed_42 : decode cX1_parsed 42 = .ok (.lmul, 1) := by decide +kernel
theorem dX1_parsed_43 : decode cX1_parsed 43 = .ok (.lstore_n 3, 1) := by decide +kernel
theorem dX1_parsed_44 : decode cX1_parsed 44 = .ok (.iinc 5 1, 3) := by decide +kernel
theorem dX1_parsed_47 : decode cX1_parsed 47 = .ok (.goto (-23), 3) := by decide +kernel
theorem dX1_parsed_50 : decode cX1_parsed 50 = .ok (.lload_n 3, 1) := by decide +kernel
theorem dX1_parsed_51 : decode cX1_parsed 51 = .ok (.ldc2_w 52, 3) := by decide +kernel
theorem dX1_parsed_54 : decode cX1_parsed 54 = .ok (.lcmp, 1) := by decide +kernel
theorem dX1_parsed_55 : decode cX1_parsed 55 = .ok (.ifCond .ge 10, 3) := by decide +kernel
theorem dX1_parsed_58 : decode cX1_parsed 58 = .ok (.lload_n 3, 1) := by decide +kernel
theorem dX1_parsed_59 : decode cX1_parsed 59 = .ok (.bipush 24, 2) := by decide +kernel
theorem dX1_parsed_61 : decode cX1_parsed 61 = .ok (.lshl, 1) := by decide +kernel
theorem dX1_parsed_62 : decode cX1_parsed 62 = .ok (.goto 6, 3) := by decide +kernel
theorem dX1_parsed_65 : decode cX1_parsed 65 = .ok (.ldc2_w 8, 3) := by decide +kernel
theorem dX1_parsed_68 : decode cX1_parsed 68 = .ok (.lconst 1, 1) := by decide +kernel
theorem dX1_parsed_69 : decode cX1_parsed 69 = .ok (.invokestatic 33, 3) := by decide +kernel
theorem dX1_parsed_72 : decode cX1_parsed 72 = .ok (.ireturn, 1) := by decide +kernel
abbrev cX1_power : ByteArray := prog_3_method_14_code
def yX1_power : MethodName := ⟨RX1, "power", "(I)J"⟩
theorem dX1_power_0 : decode cX1_power 0 = .ok (.lconst 1, 1) := by decide +kernel
theorem dX1_power_1 : decode cX1_power 1 = .ok (.lstore_n 1, 1) := by decide +kernel
theorem dX1_power_2 : decode cX1_power 2 = .ok (.iconst 0, 1) := by decide +kernel
theorem dX1_power_3 : decode cX1_power 3 = .ok (.istore_n 3, 1) := by decide +kernel
theorem dX1_power_4 : decode cX1_power 4 = .ok (.iload_n 3, 1) := by decide +kernel
theorem dX1_power_5 : decode cX1_power 5 = .ok (.iload_n 0, 1) := by decide +kernel
theorem dX1_power_6 : decode cX1_power 6 = .ok (.if_icmp .ge 15, 3) := by decide +kernel
theorem dX1_power_9 : decode cX1_power 9 = .ok (.ldc2_w 47, 3) := by decide +kernel
theorem dX1_power_12 : decode cX1_power 12 = .ok (.lload_n 1, 1) := by decide +kernel
theorem dX1_power_13 : decode cX1_power 13 = .ok (.lmul, 1) := by decide +kernel
theorem dX1_power_14 : decode cX1_power 14 = .ok (.lstore_n 1, 1) := by decide +kernel
theorem dX1_power_15 : decode cX1_power 15 = .ok (.iinc 3 1, 3) := by decide +kernel
theorem dX1_power_18 : decode cX1_power 18 = .ok (.goto (-14), 3) := by decide +kernel
theorem dX1_power_21 : decode cX1_power 21 = .ok (.lload_n 1, 1) := by decide +kernel
theorem dX1_power_22 : decode cX1_power 22 = .ok (.lreturn, 1) := by decide +kernel
abbrev cX1_digits : ByteArray := prog_3_method_22_code
def yX1_digits : MethodName := ⟨RX1, "digits", "(I)I"⟩
theorem dX1_digits_0 : decode cX1_digits 0 = .ok (.iload_n 1, 1) := by decide +kernel
theorem dX1_digits_1 : decode cX1_digits 1 = .ok (.invokestatic 26, 3) := by decide +kernel
theorem dX1_digits_4 : decode cX1_digits 4 = .ok (.ifCond .eq 5, 3) := by decide +kernel
theorem dX1_digits_7 : decode cX1_digits 7 = .ok (.iconst (-1), 1) := by decide +kernel
theorem dX1_digits_8 : decode cX1_digits 8 = .ok (.ireturn, 1) := by decide +kernel
theorem dX1_digits_9 : decode cX1_digits 9 = .ok (.iload_n 1, 1) := by decide +kernel
theorem dX1_digits_10 : decode cX1_digits 10 = .ok (.invokestatic 10, 3) := by decide +kernel
theorem dX1_digits_13 : decode cX1_digits 13 = .ok (.lconst 0, 1) := by decide +kernel
theorem dX1_digits_14 : decode cX1_digits 14 = .ok (.lcmp, 1) := by decide +kernel
theorem dX1_digits_15 : decode cX1_digits 15 = .ok (.ifCond .ne 5, 3) := by decide +kernel
theorem dX1_digits_18 : decode cX1_digits 18 = .ok (.iconst 0, 1) := by decide +kernel
theorem dX1_digits_19 : decode cX1_digits 19 = .ok (.ireturn, 1) := by decide +kernel
theorem dX1_digits_20 : decode cX1_digits 20 = .ok (.aload_n 0, 1) := by decide +kernel
theorem dX1_digits_21 : decode cX1_digits 21 = .ok (.iload_n 1, 1) := by decide +kernel
theorem dX1_digits_22 : decode cX1_digits 22 = .ok (.invokevirtual 88, 3) := by decide +kernel
theorem dX1_digits_25 : decode cX1_digits 25 = .ok (.aload_n 0, 1) := by decide +kernel
theorem dX1_digits_26 : decode cX1_digits 26 = .ok (.getfield 63, 3) := by decide +kernel
theorem dX1_digits_29 : decode cX1_digits 29 = .ok (.ireturn, 1) := by decide +kernel
abbrev cX1_write : ByteArray := prog_3_method_20_code
def yX1_write : MethodName := ⟨RX1, "write", "(I)V"⟩
theorem dX1_write_0 : decode cX1_write 0 = .ok (.iload_n 1, 1) := by decide +kernel
theorem dX1_write_1 : decode cX1_write 1 = .ok (.invokestatic 21, 3) := by decide +kernel
theorem dX1_write_4 : decode cX1_write 4 = .ok (.lstore_n 2, 1) := by decide +kernel
theorem dX1_write_5 : decode cX1_write 5 = .ok (.aload_n 0, 1) := by decide +kernel
theorem dX1_write_6 : decode cX1_write 6 = .ok (.iconst 0, 1) := by decide +kernel
theorem dX1_write_7 : decode cX1_write 7 = .ok (.putfield 63, 3) := by decide +kernel
theorem dX1_write_10 : decode cX1_write 10 = .ok (.iconst 4, 1) := by decide +kernel
theorem dX1_write_11 : decode cX1_write 11 = .ok (.istore 4, 2) := by decide +kernel
theorem dX1_write_13 : decode cX1_write 13 = .ok (.iload 4, 2) := by decide +kernel
theorem dX1_write_15 : decode cX1_write 15 = .ok (.bipush (-12), 2) := by decide +kernel
theorem dX1_write_17 : decode cX1_write 17 = .ok (.if_icmp .lt 159, 3) := by decide +kernel
theorem dX1_write_20 : decode cX1_write 20 = .ok (.iload 4, 2) := by decide +kernel
theorem dX1_write_22 : decode cX1_write 22 = .ok (.ifCond .ge 9, 3) := by decide +kernel
theorem dX1_write_25 : decode cX1_write 25 = .ok (.iload 4, 2) := by decide +kernel
theorem dX1_write_27 : decode cX1_write 27 = .ok (.ineg, 1) := by decide +kernel
theorem dX1_write_28 : decode cX1_write 28 = .ok (.goto 5, 3) := by decide +kernel
theorem dX1_write_31 : decode cX1_write 31 = .ok (.iload 4, 2) := by decide +kernel
theorem dX1_write_33 : decode cX1_write 33 = .ok (.invokestatic 49, 3) := by decide +kernel
theorem dX1_write_36 : decode cX1_write 36 = .ok (.lstore 5, 2) := by decide +kernel
theorem dX1_write_38 : decode cX1_write 38 = .ok (.iload 4, 2) := by decide +kernel
theorem dX1_write_40 : decode cX1_write 40 = .ok (.ifCond .ge 14, 3) := by decide +kernel
theorem dX1_write_43 : decode cX1_write 43 = .ok (.lload_n 2, 1) := by decide +kernel
theorem dX1_write_44 : decode cX1_write 44 = .ok (.ldc2_w 67, 3) := by decide +kernel
theorem dX1_write_47 : decode cX1_write 47 = .ok (.lload 5, 2) := by decide +kernel
theorem dX1_write_49 : decode cX1_write 49 = .ok (.ldiv, 1) := by decide +kernel
theorem dX1_write_50 : decode cX1_write 50 = .ok (.lcmp, 1) := by decide +kernel
theorem dX1_write_51 : decode cX1_write 51 = .ok (.ifCond .ge 7, 3) := by decide +kernel
theorem dX1_write_54 : decode cX1_write 54 = .ok (.iconst 1, 1) := by decide +kernel
theorem dX1_write_55 : decode cX1_write 55 = .ok (.goto 4, 3) := by decide +kernel
theorem dX1_write_58 : decode cX1_write 58 = .ok (.iconst 0, 1) := by decide +kernel
theorem dX1_write_59 : decode cX1_write 59 = .ok (.istore 7, 2) := by decide +kernel
theorem dX1_write_61 : decode cX1_write 61 = .ok (.iload 7, 2) := by decide +kernel
theorem dX1_write_63 : decode cX1_write 63 = .ok (.ifCond .ne 9, 3) := by decide +kernel
theorem dX1_write_66 : decode cX1_write 66 = .ok (.ldc2_w 69, 3) := by decide +kernel
theorem dX1_write_69 : decode cX1_write 69 = .ok (.goto 25, 3) := by decide +kernel
theorem dX1_write_72 : decode cX1_write 72 = .ok (.iload 4, 2) := by decide +kernel
theorem dX1_write_74 : decode cX1_write 74 = .ok (.ifCond .lt 13, 3) := by decide +kernel
theorem dX1_write_77 : decode cX1_write 77 = .ok (.lload_n 2, 1) := by decide +kernel
theorem dX1_write_78 : decode cX1_write 78 = .ok (.bipush 24, 2) := by decide +kernel
theorem dX1_write_80 : decode cX1_write 80 = .ok (.lshr, 1) := by decide +kernel
theorem dX1_write_81 : decode cX1_write 81 = .ok (.lload 5, 2) := by decide +kernel
theorem dX1_write_83 : decode cX1_write 83 = .ok (.ldiv, 1) := by decide +kernel
theorem dX1_write_84 : decode cX1_write 84 = .ok (.goto 10, 3) := by decide +kernel
theorem dX1_write_87 : decode cX1_write 87 = .ok (.lload_n 2, 1) := by decide +kernel
theorem dX1_write_88 : decode cX1_write 88 = .ok (.lload 5, 2) := by decide +kernel
theorem dX1_write_90 : decode cX1_write 90 = .ok (.lmul, 1) := by decide +kernel
theorem dX1_write_91 : decode cX1_write 91 = .ok (.bipush 24, 2) := by decide +kernel
theorem dX1_write_93 : decode cX1_write 93 = .ok (.lshr, 1) := by decide +kernel
theorem dX1_write_94 : decode cX1_write 94 = .ok (.lstore 8, 2) := by decide +kernel
theorem dX1_write_96 : decode cX1_write 96 = .ok (.lload 8, 2) := by decide +kernel
theorem dX1_write_98 : decode cX1_write 98 = .ok (.lstore 10, 2) := by decide +kernel
theorem dX1_write_100 : decode cX1_write 100 = .ok (.lload 10, 2) := by decide +kernel
theorem dX1_write_102 : decode cX1_write 102 = .ok (.lload 8, 2) := by decide +kernel
theorem dX1_write_104 : decode cX1_write 104 = .ok (.lconst 1, 1) := by decide +kernel
theorem dX1_write_105 : decode cX1_write 105 = .ok (.ladd, 1) := by decide +kernel
theorem dX1_write_106 : decode cX1_write 106 = .ok (.lcmp, 1) := by decide +kernel
theorem dX1_write_107 : decode cX1_write 107 = .ok (.ifCond .gt 63, 3) := by decide +kernel
theorem dX1_write_110 : decode cX1_write 110 = .ok (.lload 8, 2) := by decide +kernel
theorem dX1_write_112 : decode cX1_write 112 = .ok (.ldc2_w 71, 3) := by decide +kernel
theorem dX1_write_115 : decode cX1_write 115 = .ok (.lcmp, 1) := by decide +kernel
theorem dX1_write_116 : decode cX1_write 116 = .ok (.ifCond .ge 54, 3) := by decide +kernel
theorem dX1_write_119 : decode cX1_write 119 = .ok (.lload 10, 2) := by decide +kernel
theorem dX1_write_121 : decode cX1_write 121 = .ok (.lconst 1, 1) := by decide +kernel
theorem dX1_write_122 : decode cX1_write 122 = .ok (.lcmp, 1) := by decide +kernel
theorem dX1_write_123 : decode cX1_write 123 = .ok (.ifCond .lt 38, 3) := by decide +kernel
theorem dX1_write_126 : decode cX1_write 126 = .ok (.lload 10, 2) := by decide +kernel
theorem dX1_write_128 : decode cX1_write 128 = .ok (.ldc2_w 47, 3) := by decide +kernel
theorem dX1_write_131 : decode cX1_write 131 = .ok (.lrem, 1) := by decide +kernel
theorem dX1_write_132 : decode cX1_write 132 = .ok (.lconst 0, 1) := by decide +kernel
theorem dX1_write_133 : decode cX1_write 133 = .ok (.lcmp, 1) := by decide +kernel
theorem dX1_write_134 : decode cX1_write 134 = .ok (.ifCond .eq 27, 3) := by decide +kernel
theorem dX1_write_137 : decode cX1_write 137 = .ok (.lload 10, 2) := by decide +kernel
theorem dX1_write_139 : decode cX1_write 139 = .ok (.iload 4, 2) := by decide +kernel
theorem dX1_write_141 : decode cX1_write 141 = .ok (.invokestatic 55, 3) := by decide +kernel
theorem dX1_write_144 : decode cX1_write 144 = .ok (.iload_n 1, 1) := by decide +kernel
theorem dX1_write_145 : decode cX1_write 145 = .ok (.sipush 32767, 3) := by decide +kernel
theorem dX1_write_148 : decode cX1_write 148 = .ok (.iand, 1) := by decide +kernel
theorem dX1_write_149 : decode cX1_write 149 = .ok (.if_icmp .ne 12, 3) := by decide +kernel
theorem dX1_write_152 : decode cX1_write 152 = .ok (.aload_n 0, 1) := by decide +kernel
theorem dX1_write_153 : decode cX1_write 153 = .ok (.lload 10, 2) := by decide +kernel
theorem dX1_write_155 : decode cX1_write 155 = .ok (.iload 4, 2) := by decide +kernel
theorem dX1_write_157 : decode cX1_write 157 = .ok (.lload_n 2, 1) := by decide +kernel
theorem dX1_write_158 : decode cX1_write 158 = .ok (.invokevirtual 73, 3) := by decide +kernel
theorem dX1_write_161 : decode cX1_write 161 = .ok (.lload 10, 2) := by decide +kernel
theorem dX1_write_163 : decode cX1_write 163 = .ok (.lconst 1, 1) := by decide +kernel
theorem dX1_write_164 : decode cX1_write 164 = .ok (.ladd, 1) := by decide +kernel
theorem dX1_write_165 : decode cX1_write 165 = .ok (.lstore 10, 2) := by decide +kernel
theorem dX1_write_167 : decode cX1_write 167 = .ok (.goto (-67), 3) := by decide +kernel
theorem dX1_write_170 : decode cX1_write 170 = .ok (.iinc 4 (-1), 3) := by decide +kernel
theorem dX1_write_173 : decode cX1_write 173 = .ok (.goto (-160), 3) := by decide +kernel
theorem dX1_write_176 : decode cX1_write 176 = .ok (.return_, 1) := by decide +kernel
abbrev cX1_take : ByteArray := prog_3_method_21_code
def yX1_take : MethodName := ⟨RX1, "take", "(JIJ)V"⟩
theorem dX1_take_0 : decode cX1_take 0 = .ok (.lload_n 1, 1) := by decide +kernel
theorem dX1_take_1 : decode cX1_take 1 = .ok (.invokestatic 77, 3) := by decide +kernel
theorem dX1_take_4 : decode cX1_take 4 = .ok (.istore 6, 2) := by decide +kernel
theorem dX1_take_6 : decode cX1_take 6 = .ok (.aload_n 0, 1) := by decide +kernel
theorem dX1_take_7 : decode cX1_take 7 = .ok (.getfield 63, 3) := by decide +kernel
theorem dX1_take_10 : decode cX1_take 10 = .ok (.ifCond .ne 8, 3) := by decide +kernel
theorem dX1_take_13 : decode cX1_take 13 = .ok (.bipush 100, 2) := by decide +kernel
theorem dX1_take_15 : decode cX1_take 15 = .ok (.goto 11, 3) := by decide +kernel
theorem dX1_take_18 : decode cX1_take 18 = .ok (.aload_n 0, 1) := by decide +kernel
theorem dX1_take_19 : decode cX1_take 19 = .ok (.getfield 63, 3) := by decide +kernel
theorem dX1_take_22 : decode cX1_take 22 = .ok (.i2l, 1) := by decide +kernel
theorem dX1_take_23 : decode cX1_take 23 = .ok (.invokestatic 77, 3) := by decide +kernel
theorem dX1_take_26 : decode cX1_take 26 = .ok (.istore 7, 2) := by decide +kernel
theorem dX1_take_28 : decode cX1_take 28 = .ok (.iload 6, 2) := by decide +kernel
theorem dX1_take_30 : decode cX1_take 30 = .ok (.iload 7, 2) := by decide +kernel
theorem dX1_take_32 : decode cX1_take 32 = .ok (.if_icmp .lt 29, 3) := by decide +kernel
theorem dX1_take_35 : decode cX1_take 35 = .ok (.iload 6, 2) := by decide +kernel
theorem dX1_take_37 : decode cX1_take 37 = .ok (.iload 7, 2) := by decide +kernel
theorem dX1_take_39 : decode cX1_take 39 = .ok (.if_icmp .ne 33, 3) := by decide +kernel
theorem dX1_take_42 : decode cX1_take 42 = .ok (.lload_n 1, 1) := by decide +kernel
theorem dX1_take_43 : decode cX1_take 43 = .ok (.iload_n 3, 1) := by decide +kernel
theorem dX1_take_44 : decode cX1_take 44 = .ok (.aload_n 0, 1) := by decide +kernel
theorem dX1_take_45 : decode cX1_take 45 = .ok (.getfield 63, 3) := by decide +kernel
theorem dX1_take_48 : decode cX1_take 48 = .ok (.i2l, 1) := by decide +kernel
theorem dX1_take_49 : decode cX1_take 49 = .ok (.aload_n 0, 1) := by decide +kernel
theorem dX1_take_50 : decode cX1_take 50 = .ok (.getfield 81, 3) := by decide +kernel
theorem dX1_take_53 : decode cX1_take 53 = .ok (.lload 4, 2) := by decide +kernel
theorem dX1_take_55 : decode cX1_take 55 = .ok (.invokestatic 84, 3) := by decide +kernel
theorem dX1_take_58 : decode cX1_take 58 = .ok (.ifCond .eq 14, 3) := by decide +kernel
theorem dX1_take_61 : decode cX1_take 61 = .ok (.aload_n 0, 1) := by decide +kernel
theorem dX1_take_62 : decode cX1_take 62 = .ok (.lload_n 1, 1) := by decide +kernel
theorem dX1_take_63 : decode cX1_take 63 = .ok (.l2i, 1) := by decide +kernel
theorem dX1_take_64 : decode cX1_take 64 = .ok (.putfield 63, 3) := by decide +kernel
theorem dX1_take_67 : decode cX1_take 67 = .ok (.aload_n 0, 1) := by decide +kernel
theorem dX1_take_68 : decode cX1_take 68 = .ok (.iload_n 3, 1) := by decide +kernel
theorem dX1_take_69 : decode cX1_take 69 = .ok (.putfield 81, 3) := by decide +kernel
theorem dX1_take_72 : decode cX1_take 72 = .ok (.return_, 1) := by decide +kernel
end
section
set_option maxRecDepth 100000
abbrev cX1_length : ByteArray := prog_3_method_17_code
def yX1_length : MethodName := ⟨RX1, "length", "(J)I"⟩
theorem dX1_length_0 : decode cX1_length 0 = .ok (.iconst 1, 1) := by decide +kernel
theorem dX1_length_1 : decode cX1_length 1 = .ok (.istore_n 2, 1) := by decide +kernel
theorem dX1_length_2 : decode cX1_length 2 = .ok (.iload_n 2, 1) := by decide +kernel
theorem dX1_length_3 : decode cX1_length 3 = .ok (.bipush 18, 2) := by decide +kernel
theorem dX1_length_5 : decode cX1_length 5 = .ok (.if_icmp .ge 18, 3) := by decide +kernel
theorem dX1_length_8 : decode cX1_length 8 = .ok (.lload_n 0, 1) := by decide +kernel
theorem dX1_length_9 : decode cX1_length 9 = .ok (.iload_n 2, 1) := by decide +kernel
theorem dX1_length_10 : decode cX1_length 10 = .ok (.invokestatic 49, 3) := by decide +kernel
theorem dX1_length_13 : decode cX1_length 13 = .ok (.lcmp, 1) := by decide +kernel
theorem dX1_length_14 : decode cX1_length 14 = .ok (.ifCond .lt 9, 3) := by decide +kernel
theorem dX1_length_17 : decode cX1_length 17 = .ok (.iinc 2 1, 3) := by decide +kernel
theorem dX1_length_20 : decode cX1_length 20 = .ok (.goto (-18), 3) := by decide +kernel
theorem dX1_length_23 : decode cX1_length 23 = .ok (.iload_n 2, 1) := by decide +kernel
theorem dX1_length_24 : decode cX1_length 24 = .ok (.ireturn, 1) := by decide +kernel
abbrev cX1_nearer : ByteArray := prog_3_method_18_code
def yX1_nearer : MethodName := ⟨RX1, "nearer", "(JIJIJ)Z"⟩
theorem dX1_nearer_0 : decode cX1_nearer 0 = .ok (.iload_n 2, 1) := by decide +kernel
theorem dX1_nearer_1 : decode cX1_nearer 1 = .ok (.iload 5, 2) := by decide +kernel
theorem dX1_nearer_3 : decode cX1_nearer 3 = .ok (.if_icmp .ge 7, 3) := by decide +kernel
theorem dX1_nearer_6 : decode cX1_nearer 6 = .ok (.iload_n 2, 1) := by decide +kernel
theorem dX1_nearer_7 : decode cX1_nearer 7 = .ok (.goto 5, 3) := by decide +kernel
theorem dX1_nearer_10 : decode cX1_nearer 10 = .ok (.iload 5, 2) := by decide +kernel
theorem dX1_nearer_12 : decode cX1_nearer 12 = .ok (.istore 8, 2) := by decide +kernel
theorem dX1_nearer_14 : decode cX1_nearer 14 = .ok (.iload 8, 2) := by decide +kernel
theorem dX1_nearer_16 : decode cX1_nearer 16 = .ok (.ifCond .ge 9, 3) := by decide +kernel
theorem dX1_nearer_19 : decode cX1_nearer 19 = .ok (.iload 8, 2) := by decide +kernel
theorem dX1_nearer_21 : decode cX1_nearer 21 = .ok (.ineg, 1) := by decide +kernel
theorem dX1_nearer_22 : decode cX1_nearer 22 = .ok (.goto 4, 3) := by decide +kernel
theorem dX1_nearer_25 : decode cX1_nearer 25 = .ok (.iconst 0, 1) := by decide +kernel
theorem dX1_nearer_26 : decode cX1_nearer 26 = .ok (.istore 9, 2) := by decide +kernel
theorem dX1_nearer_28 : decode cX1_nearer 28 = .ok (.lload_n 0, 1) := by decide +kernel
theorem dX1_nearer_29 : decode cX1_nearer 29 = .ok (.iload_n 2, 1) := by decide +kernel
theorem dX1_nearer_30 : decode cX1_nearer 30 = .ok (.iload 9, 2) := by decide +kernel
theorem dX1_nearer_32 : decode cX1_nearer 32 = .ok (.lload 6, 2) := by decide +kernel
theorem dX1_nearer_34 : decode cX1_nearer 34 = .ok (.invokestatic 59, 3) := by decide +kernel
theorem dX1_nearer_37 : decode cX1_nearer 37 = .ok (.lstore 10, 2) := by decide +kernel
theorem dX1_nearer_39 : decode cX1_nearer 39 = .ok (.lload_n 3, 1) := by decide +kernel
theorem dX1_nearer_40 : decode cX1_nearer 40 = .ok (.iload 5, 2) := by decide +kernel
theorem dX1_nearer_42 : decode cX1_nearer 42 = .ok (.iload 9, 2) := by decide +kernel
theorem dX1_nearer_44 : decode cX1_nearer 44 = .ok (.lload 6, 2) := by decide +kernel
theorem dX1_nearer_46 : decode cX1_nearer 46 = .ok (.invokestatic 59, 3) := by decide +kernel
theorem dX1_nearer_49 : decode cX1_nearer 49 = .ok (.lstore 12, 2) := by decide +kernel
theorem dX1_nearer_51 : decode cX1_nearer 51 = .ok (.lload 10, 2) := by decide +kernel
theorem dX1_nearer_53 : decode cX1_nearer 53 = .ok (.lload 12, 2) := by decide +kernel
theorem dX1_nearer_55 : decode cX1_nearer 55 = .ok (.lcmp, 1) := by decide +kernel
theorem dX1_nearer_56 : decode cX1_nearer 56 = .ok (.ifCond .eq 17, 3) := by decide +kernel
theorem dX1_nearer_59 : decode cX1_nearer 59 = .ok (.lload 10, 2) := by decide +kernel
theorem dX1_nearer_61 : decode cX1_nearer 61 = .ok (.lload 12, 2) := by decide +kernel
theorem dX1_nearer_63 : decode cX1_nearer 63 = .ok (.lcmp, 1) := by decide +kernel
theorem dX1_nearer_64 : decode cX1_nearer 64 = .ok (.ifCond .ge 7, 3) := by decide +kernel
theorem dX1_nearer_67 : decode cX1_nearer 67 = .ok (.iconst 1, 1) := by decide +kernel
theorem dX1_nearer_68 : decode cX1_nearer 68 = .ok (.goto 4, 3) := by decide +kernel
theorem dX1_nearer_71 : decode cX1_nearer 71 = .ok (.iconst 0, 1) := by decide +kernel
theorem dX1_nearer_72 : decode cX1_nearer 72 = .ok (.ireturn, 1) := by decide +kernel
theorem dX1_nearer_73 : decode cX1_nearer 73 = .ok (.lload_n 0, 1) := by decide +kernel
theorem dX1_nearer_74 : decode cX1_nearer 74 = .ok (.iload_n 2, 1) := by decide +kernel
theorem dX1_nearer_75 : decode cX1_nearer 75 = .ok (.iload 9, 2) := by decide +kernel
theorem dX1_nearer_77 : decode cX1_nearer 77 = .ok (.iadd, 1) := by decide +kernel
theorem dX1_nearer_78 : decode cX1_nearer 78 = .ok (.invokestatic 49, 3) := by decide +kernel
theorem dX1_nearer_81 : decode cX1_nearer 81 = .ok (.lmul, 1) := by decide +kernel
theorem dX1_nearer_82 : decode cX1_nearer 82 = .ok (.lload_n 3, 1) := by decide +kernel
theorem dX1_nearer_83 : decode cX1_nearer 83 = .ok (.iload 5, 2) := by decide +kernel
theorem dX1_nearer_85 : decode cX1_nearer 85 = .ok (.iload 9, 2) := by decide +kernel
theorem dX1_nearer_87 : decode cX1_nearer 87 = .ok (.iadd, 1) := by decide +kernel
theorem dX1_nearer_88 : decode cX1_nearer 88 = .ok (.invokestatic 49, 3) := by decide +kernel
theorem dX1_nearer_91 : decode cX1_nearer 91 = .ok (.lmul, 1) := by decide +kernel
theorem dX1_nearer_92 : decode cX1_nearer 92 = .ok (.lcmp, 1) := by decide +kernel
theorem dX1_nearer_93 : decode cX1_nearer 93 = .ok (.ifCond .ge 7, 3) := by decide +kernel
theorem dX1_nearer_96 : decode cX1_nearer 96 = .ok (.iconst 1, 1) := by decide +kernel
theorem dX1_nearer_97 : decode cX1_nearer 97 = .ok (.goto 4, 3) := by decide +kernel
theorem dX1_nearer_100 : decode cX1_nearer 100 = .ok (.iconst 0, 1) := by decide +kernel
theorem dX1_nearer_101 : decode cX1_nearer 101 = .ok (.ireturn, 1) := by decide +kernel
abbrev cX1_far : ByteArray := prog_3_method_19_code
def yX1_far : MethodName := ⟨RX1, "far", "(JIIJ)J"⟩
theorem dX1_far_0 : decode cX1_far 0 = .ok (.lload_n 0, 1) := by decide +kernel
theorem dX1_far_1 : decode cX1_far 1 = .ok (.iload_n 2, 1) := by decide +kernel
theorem dX1_far_2 : decode cX1_far 2 = .ok (.iload_n 3, 1) := by decide +kernel
theorem dX1_far_3 : decode cX1_far 3 = .ok (.iadd, 1) := by decide +kernel
theorem dX1_far_4 : decode cX1_far 4 = .ok (.invokestatic 49, 3) := by decide +kernel
theorem dX1_far_7 : decode cX1_far 7 = .ok (.lmul, 1) := by decide +kernel
theorem dX1_far_8 : decode cX1_far 8 = .ok (.bipush 24, 2) := by decide +kernel
theorem dX1_far_10 : decode cX1_far 10 = .ok (.lshl, 1) := by decide +kernel
theorem dX1_far_11 : decode cX1_far 11 = .ok (.lload 4, 2) := by decide +kernel
theorem dX1_far_13 : decode cX1_far 13 = .ok (.iload_n 3, 1) := by decide +kernel
theorem dX1_far_14 : decode cX1_far 14 = .ok (.invokestatic 49, 3) := by decide +kernel
theorem dX1_far_17 : decode cX1_far 17 = .ok (.lmul, 1) := by decide +kernel
theorem dX1_far_18 : decode cX1_far 18 = .ok (.lsub, 1) := by decide +kernel
theorem dX1_far_19 : decode cX1_far 19 = .ok (.lstore 6, 2) := by decide +kernel
theorem dX1_far_21 : decode cX1_far 21 = .ok (.lload 6, 2) := by decide +kernel
theorem dX1_far_23 : decode cX1_far 23 = .ok (.lconst 0, 1) := by decide +kernel
theorem dX1_far_24 : decode cX1_far 24 = .ok (.lcmp, 1) := by decide +kernel
theorem dX1_far_25 : decode cX1_far 25 = .ok (.ifCond .ge 9, 3) := by decide +kernel
theorem dX1_far_28 : decode cX1_far 28 = .ok (.lload 6, 2) := by decide +kernel
theorem dX1_far_30 : decode cX1_far 30 = .ok (.lneg, 1) := by decide +kernel
theorem dX1_far_31 : decode cX1_far 31 = .ok (.goto 5, 3) := by decide +kernel
theorem dX1_far_34 : decode cX1_far 34 = .ok (.lload 6, 2) := by decide +kernel
theorem dX1_far_36 : decode cX1_far 36 = .ok (.lreturn, 1) := by decide +kernel
abbrev cX1_exponent : ByteArray := prog_3_method_23_code
def yX1_exponent : MethodName := ⟨RX1, "exponent", "(I)I"⟩
theorem dX1_exponent_0 : decode cX1_exponent 0 = .ok (.iload_n 1, 1) := by decide +kernel
theorem dX1_exponent_1 : decode cX1_exponent 1 = .ok (.invokestatic 26, 3) := by decide +kernel
theorem dX1_exponent_4 : decode cX1_exponent 4 = .ok (.ifCond .eq 6, 3) := by decide +kernel
theorem dX1_exponent_7 : decode cX1_exponent 7 = .ok (.bipush 100, 2) := by decide +kernel
theorem dX1_exponent_9 : decode cX1_exponent 9 = .ok (.ireturn, 1) := by decide +kernel
theorem dX1_exponent_10 : decode cX1_exponent 10 = .ok (.iload_n 1, 1) := by decide +kernel
theorem dX1_exponent_11 : decode cX1_exponent 11 = .ok (.invokestatic 10, 3) := by decide +kernel
theorem dX1_exponent_14 : decode cX1_exponent 14 = .ok (.lconst 0, 1) := by decide +kernel
theorem dX1_exponent_15 : decode cX1_exponent 15 = .ok (.lcmp, 1) := by decide +kernel
theorem dX1_exponent_16 : decode cX1_exponent 16 = .ok (.ifCond .ne 5, 3) := by decide +kernel
theorem dX1_exponent_19 : decode cX1_exponent 19 = .ok (.iconst 0, 1) := by decide +kernel
theorem dX1_exponent_20 : decode cX1_exponent 20 = .ok (.ireturn, 1) := by decide +kernel
theorem dX1_exponent_21 : decode cX1_exponent 21 = .ok (.aload_n 0, 1) := by decide +kernel
theorem dX1_exponent_22 : decode cX1_exponent 22 = .ok (.iload_n 1, 1) := by decide +kernel
theorem dX1_exponent_23 : decode cX1_exponent 23 = .ok (.invokevirtual 88, 3) := by decide +kernel
theorem dX1_exponent_26 : decode cX1_exponent 26 = .ok (.aload_n 0, 1) := by decide +kernel
theorem dX1_exponent_27 : decode cX1_exponent 27 = .ok (.getfield 81, 3) := by decide +kernel
theorem dX1_exponent_30 : decode cX1_exponent 30 = .ok (.ireturn, 1) := by decide +kernel
abbrev cX1_compare : ByteArray := prog_3_method_24_code
def yX1_compare : MethodName := ⟨RX1, "compare", "(II)I"⟩
theorem dX1_compare_0 : decode cX1_compare 0 = .ok (.iload_n 1, 1) := by decide +kernel
theorem dX1_compare_1 : decode cX1_compare 1 = .ok (.invokestatic 26, 3) := by decide +kernel
theorem dX1_compare_4 : decode cX1_compare 4 = .ok (.ifCond .ne 10, 3) := by decide +kernel
theorem dX1_compare_7 : decode cX1_compare 7 = .ok (.iload_n 2, 1) := by decide +kernel
theorem dX1_compare_8 : decode cX1_compare 8 = .ok (.invokestatic 26, 3) := by decide +kernel
theorem dX1_compare_11 : decode cX1_compare 11 = .ok (.ifCond .eq 5, 3) := by decide +kernel
theorem dX1_compare_14 : decode cX1_compare 14 = .ok (.iconst (-1), 1) := by decide +kernel
theorem dX1_compare_15 : decode cX1_compare 15 = .ok (.ireturn, 1) := by decide +kernel
theorem dX1_compare_16 : decode cX1_compare 16 = .ok (.iload_n 1, 1) := by decide +kernel
theorem dX1_compare_17 : decode cX1_compare 17 = .ok (.invokestatic 30, 3) := by decide +kernel
theorem dX1_compare_20 : decode cX1_compare 20 = .ok (.lstore_n 3, 1) := by decide +kernel
theorem dX1_compare_21 : decode cX1_compare 21 = .ok (.iload_n 2, 1) := by decide +kernel
theorem dX1_compare_22 : decode cX1_compare 22 = .ok (.invokestatic 30, 3) := by decide +kernel
theorem dX1_compare_25 : decode cX1_compare 25 = .ok (.lstore 5, 2) := by decide +kernel
theorem dX1_compare_27 : decode cX1_compare 27 = .ok (.lload_n 3, 1) := by decide +kernel
theorem dX1_compare_28 : decode cX1_compare 28 = .ok (.lload 5, 2) := by decide +kernel
theorem dX1_compare_30 : decode cX1_compare 30 = .ok (.lcmp, 1) := by decide +kernel
theorem dX1_compare_31 : decode cX1_compare 31 = .ok (.ifCond .ge 7, 3) := by decide +kernel
theorem dX1_compare_34 : decode cX1_compare 34 = .ok (.iconst 1, 1) := by decide +kernel
theorem dX1_compare_35 : decode cX1_compare 35 = .ok (.goto 15, 3) := by decide +kernel
theorem dX1_compare_38 : decode cX1_compare 38 = .ok (.lload_n 3, 1) := by decide +kernel
theorem dX1_compare_39 : decode cX1_compare 39 = .ok (.lload 5, 2) := by decide +kernel
theorem dX1_compare_41 : decode cX1_compare 41 = .ok (.lcmp, 1) := by decide +kernel
theorem dX1_compare_42 : decode cX1_compare 42 = .ok (.ifCond .ne 7, 3) := by decide +kernel
theorem dX1_compare_45 : decode cX1_compare 45 = .ok (.iconst 2, 1) := by decide +kernel
theorem dX1_compare_46 : decode cX1_compare 46 = .ok (.goto 4, 3) := by decide +kernel
theorem dX1_compare_49 : decode cX1_compare 49 = .ok (.iconst 3, 1) := by decide +kernel
theorem dX1_compare_50 : decode cX1_compare 50 = .ok (.ireturn, 1) := by decide +kernel
abbrev cX1_floor : ByteArray := prog_3_method_25_code
def yX1_floor : MethodName := ⟨RX1, "floor", "(I)I"⟩
theorem dX1_floor_0 : decode cX1_floor 0 = .ok (.iload_n 1, 1) := by decide +kernel
theorem dX1_floor_1 : decode cX1_floor 1 = .ok (.invokestatic 26, 3) := by decide +kernel
theorem dX1_floor_4 : decode cX1_floor 4 = .ok (.ifCond .eq 8, 3) := by decide +kernel
theorem dX1_floor_7 : decode cX1_floor 7 = .ok (.ldc 92, 2) := by decide +kernel
theorem dX1_floor_9 : decode cX1_floor 9 = .ok (.goto 11, 3) := by decide +kernel
theorem dX1_floor_12 : decode cX1_floor 12 = .ok (.iload_n 1, 1) := by decide +kernel
theorem dX1_floor_13 : decode cX1_floor 13 = .ok (.invokestatic 30, 3) := by decide +kernel
theorem dX1_floor_16 : decode cX1_floor 16 = .ok (.bipush 24, 2) := by decide +kernel
theorem dX1_floor_18 : decode cX1_floor 18 = .ok (.lshr, 1) := by decide +kernel
theorem dX1_floor_19 : decode cX1_floor 19 = .ok (.l2i, 1) := by decide +kernel
theorem dX1_floor_20 : decode cX1_floor 20 = .ok (.ireturn, 1) := by decide +kernel
theorem q8 : (Jvm.Cond.initialized "HalfFloatModel") ∈ lw_all := lw_g (lw_at lw_m0 2 rfl) rfl
theorem q138 : (Jvm.Cond.instantiable "HalfFloatModel" (2 : Nat)) ∈ lw_all := lw_g (lw_at lw_m0 132 rfl) rfl
theorem q140 : (Jvm.Cond.instanceMethod ({ cls := "HalfFloatModel", name := "<init>", desc := "()V" } : Jvm.MethodName)) ∈ lw_all := lw_g (lw_at lw_m0 134 rfl) rfl
theorem q141 : (Jvm.Cond.code ({ cls := "HalfFloatModel", name := "<init>", desc := "()V" } : Jvm.MethodName) prog_3_method_1_code (1 : Nat) (Option.none : Option Jvm.ClassFile.FieldType)) ∈ lw_all := lw_g (lw_at lw_m0 135 rfl) rfl
theorem q142 : (Jvm.Cond.methodLink "HalfFloatModel" (1 : Nat) ({ cls := "java/lang/Object", name := "<init>", desc := "()V" } : Jvm.MethodName)) ∈ lw_all := lw_g (lw_at lw_m0 136 rfl) rfl
theorem q143 : (Jvm.Cond.fieldLink "HalfFloatModel" (63 : Nat) "HalfFloatModel" "bestDigits" "I") ∈ lw_all := lw_g (lw_at lw_m0 137 rfl) rfl
theorem q144 : (Jvm.Cond.fieldLink "HalfFloatModel" (81 : Nat) "HalfFloatModel" "bestExponent" "I") ∈ lw_all := lw_g (lw_at lw_m0 138 rfl) rfl
theorem q145 : (Jvm.Cond.lays "HalfFloatModel" "HalfFloatModel" "bestDigits" "I") ∈ lw_all := lw_g (lw_at lw_m0 139 rfl) rfl
theorem q146 : (Jvm.Cond.soleField "HalfFloatModel" "bestDigits") ∈ lw_all := lw_g (lw_at lw_m0 140 rfl) rfl
theorem q147 : (Jvm.Cond.lays "HalfFloatModel" "HalfFloatModel" "bestExponent" "I") ∈ lw_all := lw_g (lw_at lw_m0 141 rfl) rfl
theorem q148 : (Jvm.Cond.soleField "HalfFloatModel" "bestExponent") ∈ lw_all := lw_g (lw_at lw_m0 142 rfl) rfl
theorem q149 : (Jvm.Cond.superclass "HalfFloatModel" "java/lang/Object") ∈ lw_all := lw_g (lw_at lw_m0 143 rfl) rfl
theorem q151 : (Jvm.Cond.instanceMethod ({ cls := "HalfFloatModel", name := "add", desc := "(II)I" } : Jvm.MethodName)) ∈ lw_all := lw_g (lw_at lw_m0 145 rfl) rfl
theorem q152 : (Jvm.Cond.selects "HalfFloatModel" ({ cls := "HalfFloatModel", name := "add", desc := "(II)I" } : Jvm.MethodName) ({ cls := "HalfFloatModel", name := "add", desc := "(II)I" } : Jvm.MethodName)) ∈ lw_all := lw_g (lw_at lw_m0 146 rfl) rfl
theorem q153 : (Jvm.Cond.code ({ cls := "HalfFloatModel", name := "add", desc := "(II)I" } : Jvm.MethodName) prog_3_method_9_code (6 : Nat) (Option.some Jvm.ClassFile.FieldType.int)) ∈ lw_all := lw_g (lw_at lw_m0 147 rfl) rfl
theorem q154 : (Jvm.Cond.methodLink "HalfFloatModel" (26 : Nat) ({ cls := "HalfFloatModel", name := "bad", desc := "(I)Z" } : Jvm.MethodName)) ∈ lw_all := lw_g (lw_at lw_m0 148 rfl) rfl
theorem q155 : (Jvm.Cond.static ({ cls := "HalfFloatModel", name := "bad", desc := "(I)Z" } : Jvm.MethodName)) ∈ lw_all := lw_g (lw_at lw_m0 149 rfl) rfl
theorem q156 : (Jvm.Cond.code ({ cls := "HalfFloatModel", name := "bad", desc := "(I)Z" } : Jvm.MethodName) prog_3_method_2_code (1 : Nat) (Option.some Jvm.ClassFile.FieldType.boolean)) ∈ lw_all := lw_g (lw_at lw_m0 150 rfl) rfl
theorem q157 : (Jvm.Cond.constant "HalfFloatModel" (7 : Nat) (65535 : Int32)) ∈ lw_all := lw_g (lw_at lw_m0 151 rfl) rfl
theorem q158 : (Jvm.Cond.methodLink "HalfFloatModel" (30 : Nat) ({ cls := "HalfFloatModel", name := "signed", desc := "(I)J" } : Jvm.MethodName)) ∈ lw_all := lw_g (lw_at lw_m0 152 rfl) rfl
theorem q159 : (Jvm.Cond.static ({ cls := "HalfFloatModel", name := "signed", desc := "(I)J" } : Jvm.MethodName)) ∈ lw_all := lw_g (lw_at lw_m0 153 rfl) rfl
theorem q160 : (Jvm.Cond.code ({ cls := "HalfFloatModel", name := "signed", desc := "(I)J" } : Jvm.MethodName) prog_3_method_6_code (1 : Nat) (Option.some Jvm.ClassFile.FieldType.long)) ∈ lw_all := lw_g (lw_at lw_m0 154 rfl) rfl
theorem q161 : (Jvm.Cond.constant "HalfFloatModel" (20 : Nat) (32768 : Int32)) ∈ lw_all := lw_g (lw_at lw_m0 155 rfl) rfl
theorem q162 : (Jvm.Cond.methodLink "HalfFloatModel" (21 : Nat) ({ cls := "HalfFloatModel", name := "amount", desc := "(I)J" } : Jvm.MethodName)) ∈ lw_all := lw_g (lw_at lw_m0 156 rfl) rfl
theorem q163 : (Jvm.Cond.static ({ cls := "HalfFloatModel", name := "amount", desc := "(I)J" } : Jvm.MethodName)) ∈ lw_all := lw_g (lw_at lw_m0 157 rfl) rfl
theorem q164 : (Jvm.Cond.code ({ cls := "HalfFloatModel", name := "amount", desc := "(I)J" } : Jvm.MethodName) prog_3_method_5_code (2 : Nat) (Option.some Jvm.ClassFile.FieldType.long)) ∈ lw_all := lw_g (lw_at lw_m0 158 rfl) rfl
theorem q165 : (Jvm.Cond.constantLong "HalfFloatModel" (8 : Nat) (1099511627776 : Int64)) ∈ lw_all := lw_g (lw_at lw_m0 159 rfl) rfl
theorem q166 : (Jvm.Cond.methodLink "HalfFloatModel" (10 : Nat) ({ cls := "HalfFloatModel", name := "digitsOf", desc := "(I)J" } : Jvm.MethodName)) ∈ lw_all := lw_g (lw_at lw_m0 160 rfl) rfl
theorem q167 : (Jvm.Cond.static ({ cls := "HalfFloatModel", name := "digitsOf", desc := "(I)J" } : Jvm.MethodName)) ∈ lw_all := lw_g (lw_at lw_m0 161 rfl) rfl
theorem q168 : (Jvm.Cond.code ({ cls := "HalfFloatModel", name := "digitsOf", desc := "(I)J" } : Jvm.MethodName) prog_3_method_3_code (1 : Nat) (Option.some Jvm.ClassFile.FieldType.long)) ∈ lw_all := lw_g (lw_at lw_m0 162 rfl) rfl
theorem q169 : (Jvm.Cond.methodLink "HalfFloatModel" (16 : Nat) ({ cls := "HalfFloatModel", name := "shiftOf", desc := "(I)I" } : Jvm.MethodName)) ∈ lw_all := lw_g (lw_at lw_m0 163 rfl) rfl
theorem q170 : (Jvm.Cond.static ({ cls := "HalfFloatModel", name := "shiftOf", desc := "(I)I" } : Jvm.MethodName)) ∈ lw_all := lw_g (lw_at lw_m0 164 rfl) rfl
theorem q171 : (Jvm.Cond.code ({ cls := "HalfFloatModel", name := "shiftOf", desc := "(I)I" } : Jvm.MethodName) prog_3_method_4_code (2 : Nat) (Option.some Jvm.ClassFile.FieldType.int)) ∈ lw_all := lw_g (lw_at lw_m0 165 rfl) rfl
theorem q172 : (Jvm.Cond.methodLink "HalfFloatModel" (33 : Nat) ({ cls := "HalfFloatModel", name := "nearest", desc := "(JJ)I" } : Jvm.MethodName)) ∈ lw_all := lw_g (lw_at lw_m0 166 rfl) rfl
theorem q173 : (Jvm.Cond.static ({ cls := "HalfFloatModel", name := "nearest", desc := "(JJ)I" } : Jvm.MethodName)) ∈ lw_all := lw_g (lw_at lw_m0 167 rfl) rfl
theorem q174 : (Jvm.Cond.code ({ cls := "HalfFloatModel", name := "nearest", desc := "(JJ)I" } : Jvm.MethodName) prog_3_method_7_code (14 : Nat) (Option.some Jvm.ClassFile.FieldType.int)) ∈ lw_all := lw_g (lw_at lw_m0 168 rfl) rfl
theorem q175 : (Jvm.Cond.constantLong "HalfFloatModel" (24 : Nat) (2 : Int64)) ∈ lw_all := lw_g (lw_at lw_m0 169 rfl) rfl
theorem q176 : (Jvm.Cond.methodLink "HalfFloatModel" (37 : Nat) ({ cls := "HalfFloatModel", name := "withSign", desc := "(IZ)I" } : Jvm.MethodName)) ∈ lw_all := lw_g (lw_at lw_m0 170 rfl) rfl
theorem q177 : (Jvm.Cond.static ({ cls := "HalfFloatModel", name := "withSign", desc := "(IZ)I" } : Jvm.MethodName)) ∈ lw_all := lw_g (lw_at lw_m0 171 rfl) rfl
theorem q178 : (Jvm.Cond.code ({ cls := "HalfFloatModel", name := "withSign", desc := "(IZ)I" } : Jvm.MethodName) prog_3_method_8_code (2 : Nat) (Option.some Jvm.ClassFile.FieldType.int)) ∈ lw_all := lw_g (lw_at lw_m0 172 rfl) rfl
theorem q180 : (Jvm.Cond.instanceMethod ({ cls := "HalfFloatModel", name := "multiply", desc := "(II)I" } : Jvm.MethodName)) ∈ lw_all := lw_g (lw_at lw_m0 174 rfl) rfl
theorem q181 : (Jvm.Cond.selects "HalfFloatModel" ({ cls := "HalfFloatModel", name := "multiply", desc := "(II)I" } : Jvm.MethodName) ({ cls := "HalfFloatModel", name := "multiply", desc := "(II)I" } : Jvm.MethodName)) ∈ lw_all := lw_g (lw_at lw_m0 175 rfl) rfl
theorem q182 : (Jvm.Cond.code ({ cls := "HalfFloatModel", name := "multiply", desc := "(II)I" } : Jvm.MethodName) prog_3_method_10_code (7 : Nat) (Option.some Jvm.ClassFile.FieldType.int)) ∈ lw_all := lw_g (lw_at lw_m0 176 rfl) rfl
theorem q184 : (Jvm.Cond.instanceMethod ({ cls := "HalfFloatModel", name := "divide", desc := "(II)I" } : Jvm.MethodName)) ∈ lw_all := lw_g (lw_at lw_m0 178 rfl) rfl
theorem q185 : (Jvm.Cond.selects "HalfFloatModel" ({ cls := "HalfFloatModel", name := "divide", desc := "(II)I" } : Jvm.MethodName) ({ cls := "HalfFloatModel", name := "divide", desc := "(II)I" } : Jvm.MethodName)) ∈ lw_all := lw_g (lw_at lw_m0 179 rfl) rfl
theorem q186 : (Jvm.Cond.code ({ cls := "HalfFloatModel", name := "divide", desc := "(II)I" } : Jvm.MethodName) prog_3_method_11_code (10 : Nat) (Option.some Jvm.ClassFile.FieldType.int)) ∈ lw_all := lw_g (lw_at lw_m0 180 rfl) rfl
theorem q188 : (Jvm.Cond.instanceMethod ({ cls := "HalfFloatModel", name := "root", desc := "(I)I" } : Jvm.MethodName)) ∈ lw_all := lw_g (lw_at lw_m0 182 rfl) rfl
theorem q189 : (Jvm.Cond.selects "HalfFloatModel" ({ cls := "HalfFloatModel", name := "root", desc := "(I)I" } : Jvm.MethodName) ({ cls := "HalfFloatModel", name := "root", desc := "(I)I" } : Jvm.MethodName)) ∈ lw_all := lw_g (lw_at lw_m0 183 rfl) rfl
theorem q190 : (Jvm.Cond.code ({ cls := "HalfFloatModel", name := "root", desc := "(I)I" } : Jvm.MethodName) prog_3_method_13_code (12 : Nat) (Option.some Jvm.ClassFile.FieldType.int)) ∈ lw_all := lw_g (lw_at lw_m0 184 rfl) rfl
theorem q191 : (Jvm.Cond.methodLink "HalfFloatModel" (43 : Nat) ({ cls := "HalfFloatModel", name := "rootOf", desc := "(J)J" } : Jvm.MethodName)) ∈ lw_all := lw_g (lw_at lw_m0 185 rfl) rfl
theorem q192 : (Jvm.Cond.static ({ cls := "HalfFloatModel", name := "rootOf", desc := "(J)J" } : Jvm.MethodName)) ∈ lw_all := lw_g (lw_at lw_m0 186 rfl) rfl
theorem q193 : (Jvm.Cond.code ({ cls := "HalfFloatModel", name := "rootOf", desc := "(J)J" } : Jvm.MethodName) prog_3_method_12_code (8 : Nat) (Option.some Jvm.ClassFile.FieldType.long)) ∈ lw_all := lw_g (lw_at lw_m0 187 rfl) rfl
theorem q194 : (Jvm.Cond.constantLong "HalfFloatModel" (41 : Nat) (2147483648 : Int64)) ∈ lw_all := lw_g (lw_at lw_m0 188 rfl) rfl
theorem q196 : (Jvm.Cond.instanceMethod ({ cls := "HalfFloatModel", name := "parse", desc := "(II)I" } : Jvm.MethodName)) ∈ lw_all := lw_g (lw_at lw_m0 190 rfl) rfl
theorem q197 : (Jvm.Cond.selects "HalfFloatModel" ({ cls := "HalfFloatModel", name := "parse", desc := "(II)I" } : Jvm.MethodName) ({ cls := "HalfFloatModel", name := "parse", desc := "(II)I" } : Jvm.MethodName)) ∈ lw_all := lw_g (lw_at lw_m0 191 rfl) rfl
theorem q198 : (Jvm.Cond.code ({ cls := "HalfFloatModel", name := "parse", desc := "(II)I" } : Jvm.MethodName) prog_3_method_16_code (3 : Nat) (Option.some Jvm.ClassFile.FieldType.int)) ∈ lw_all := lw_g (lw_at lw_m0 192 rfl) rfl
theorem q199 : (Jvm.Cond.constant "HalfFloatModel" (54 : Nat) (999999 : Int32)) ∈ lw_all := lw_g (lw_at lw_m0 193 rfl) rfl
theorem q200 : (Jvm.Cond.methodLink "HalfFloatModel" (55 : Nat) ({ cls := "HalfFloatModel", name := "parsed", desc := "(JI)I" } : Jvm.MethodName)) ∈ lw_all := lw_g (lw_at lw_m0 194 rfl) rfl
theorem q201 : (Jvm.Cond.static ({ cls := "HalfFloatModel", name := "parsed", desc := "(JI)I" } : Jvm.MethodName)) ∈ lw_all := lw_g (lw_at lw_m0 195 rfl) rfl
theorem q202 : (Jvm.Cond.code ({ cls := "HalfFloatModel", name := "parsed", desc := "(JI)I" } : Jvm.MethodName) prog_3_method_15_code (6 : Nat) (Option.some Jvm.ClassFile.FieldType.int)) ∈ lw_all := lw_g (lw_at lw_m0 196 rfl) rfl
theorem q203 : (Jvm.Cond.methodLink "HalfFloatModel" (49 : Nat) ({ cls := "HalfFloatModel", name := "power", desc := "(I)J" } : Jvm.MethodName)) ∈ lw_all := lw_g (lw_at lw_m0 197 rfl) rfl
theorem q204 : (Jvm.Cond.static ({ cls := "HalfFloatModel", name := "power", desc := "(I)J" } : Jvm.MethodName)) ∈ lw_all := lw_g (lw_at lw_m0 198 rfl) rfl
theorem q205 : (Jvm.Cond.code ({ cls := "HalfFloatModel", name := "power", desc := "(I)J" } : Jvm.MethodName) prog_3_method_14_code (4 : Nat) (Option.some Jvm.ClassFile.FieldType.long)) ∈ lw_all := lw_g (lw_at lw_m0 199 rfl) rfl
theorem q206 : (Jvm.Cond.constantLong "HalfFloatModel" (47 : Nat) (10 : Int64)) ∈ lw_all := lw_g (lw_at lw_m0 200 rfl) rfl
theorem q207 : (Jvm.Cond.constantLong "HalfFloatModel" (52 : Nat) (100000 : Int64)) ∈ lw_all := lw_g (lw_at lw_m0 201 rfl) rfl
theorem q209 : (Jvm.Cond.instanceMethod ({ cls := "HalfFloatModel", name := "digits", desc := "(I)I" } : Jvm.MethodName)) ∈ lw_all := lw_g (lw_at lw_m0 203 rfl) rfl
theorem q210 : (Jvm.Cond.selects "HalfFloatModel" ({ cls := "HalfFloatModel", name := "digits", desc := "(I)I" } : Jvm.MethodName) ({ cls := "HalfFloatModel", name := "digits", desc := "(I)I" } : Jvm.MethodName)) ∈ lw_all := lw_g (lw_at lw_m0 204 rfl) rfl
theorem q211 : (Jvm.Cond.code ({ cls := "HalfFloatModel", name := "digits", desc := "(I)I" } : Jvm.MethodName) prog_3_method_22_code (2 : Nat) (Option.some Jvm.ClassFile.FieldType.int)) ∈ lw_all := lw_g (lw_at lw_m0 205 rfl) rfl
theorem q212 : (Jvm.Cond.methodLink "HalfFloatModel" (88 : Nat) ({ cls := "HalfFloatModel", name := "write", desc := "(I)V" } : Jvm.MethodName)) ∈ lw_all := lw_g (lw_at lw_m0 206 rfl) rfl
theorem q213 : (Jvm.Cond.privateMethod ({ cls := "HalfFloatModel", name := "write", desc := "(I)V" } : Jvm.MethodName)) ∈ lw_tbl := lw_at lw_m0 207 rfl
theorem q214 : (Jvm.Cond.instanceMethod ({ cls := "HalfFloatModel", name := "write", desc := "(I)V" } : Jvm.MethodName)) ∈ lw_all := lw_g (lw_at lw_m0 208 rfl) rfl
theorem q215 : (Jvm.Cond.code ({ cls := "HalfFloatModel", name := "write", desc := "(I)V" } : Jvm.MethodName) prog_3_method_20_code (12 : Nat) (Option.none : Option Jvm.ClassFile.FieldType)) ∈ lw_all := lw_g (lw_at lw_m0 209 rfl) rfl
theorem q216 : (Jvm.Cond.constantLong "HalfFloatModel" (67 : Nat) (9000000000000000000 : Int64)) ∈ lw_all := lw_g (lw_at lw_m0 210 rfl) rfl
theorem q217 : (Jvm.Cond.constantLong "HalfFloatModel" (69 : Nat) (1000000 : Int64)) ∈ lw_all := lw_g (lw_at lw_m0 211 rfl) rfl
theorem q218 : (Jvm.Cond.constantLong "HalfFloatModel" (71 : Nat) (999999 : Int64)) ∈ lw_all := lw_g (lw_at lw_m0 212 rfl) rfl
theorem q219 : (Jvm.Cond.methodLink "HalfFloatModel" (73 : Nat) ({ cls := "HalfFloatModel", name := "take", desc := "(JIJ)V" } : Jvm.MethodName)) ∈ lw_all := lw_g (lw_at lw_m0 213 rfl) rfl
theorem q220 : (Jvm.Cond.privateMethod ({ cls := "HalfFloatModel", name := "take", desc := "(JIJ)V" } : Jvm.MethodName)) ∈ lw_tbl := lw_at lw_m0 214 rfl
theorem q221 : (Jvm.Cond.instanceMethod ({ cls := "HalfFloatModel", name := "take", desc := "(JIJ)V" } : Jvm.MethodName)) ∈ lw_all := lw_g (lw_at lw_m0 215 rfl) rfl
theorem q222 : (Jvm.Cond.code ({ cls := "HalfFloatModel", name := "take", desc := "(JIJ)V" } : Jvm.MethodName) prog_3_method_21_code (8 : Nat) (Option.none : Option Jvm.ClassFile.FieldType)) ∈ lw_all := lw_g (lw_at lw_m0 216 rfl) rfl
theorem q223 : (Jvm.Cond.methodLink "HalfFloatModel" (77 : Nat) ({ cls := "HalfFloatModel", name := "length", desc := "(J)I" } : Jvm.MethodName)) ∈ lw_all := lw_g (lw_at lw_m0 217 rfl) rfl
theorem q224 : (Jvm.Cond.static ({ cls := "HalfFloatModel", name := "length", desc := "(J)I" } : Jvm.MethodName)) ∈ lw_all := lw_g (lw_at lw_m0 218 rfl) rfl
theorem q225 : (Jvm.Cond.code ({ cls := "HalfFloatModel", name := "length", desc := "(J)I" } : Jvm.MethodName) prog_3_method_17_code (3 : Nat) (Option.some Jvm.ClassFile.FieldType.int)) ∈ lw_all := lw_g (lw_at lw_m0 219 rfl) rfl
theorem q226 : (Jvm.Cond.methodLink "HalfFloatModel" (84 : Nat) ({ cls := "HalfFloatModel", name := "nearer", desc := "(JIJIJ)Z" } : Jvm.MethodName)) ∈ lw_all := lw_g (lw_at lw_m0 220 rfl) rfl
theorem q227 : (Jvm.Cond.static ({ cls := "HalfFloatModel", name := "nearer", desc := "(JIJIJ)Z" } : Jvm.MethodName)) ∈ lw_all := lw_g (lw_at lw_m0 221 rfl) rfl
theorem q228 : (Jvm.Cond.code ({ cls := "HalfFloatModel", name := "nearer", desc := "(JIJIJ)Z" } : Jvm.MethodName) prog_3_method_18_code (14 : Nat) (Option.some Jvm.ClassFile.FieldType.boolean)) ∈ lw_all := lw_g (lw_at lw_m0 222 rfl) rfl
theorem q229 : (Jvm.Cond.methodLink "HalfFloatModel" (59 : Nat) ({ cls := "HalfFloatModel", name := "far", desc := "(JIIJ)J" } : Jvm.MethodName)) ∈ lw_all := lw_g (lw_at lw_m0 223 rfl) rfl
theorem q230 : (Jvm.Cond.static ({ cls := "HalfFloatModel", name := "far", desc := "(JIIJ)J" } : Jvm.MethodName)) ∈ lw_all := lw_g (lw_at lw_m0 224 rfl) rfl
theorem q231 : (Jvm.Cond.code ({ cls := "HalfFloatModel", name := "far", desc := "(JIIJ)J" } : Jvm.MethodName) prog_3_method_19_code (8 : Nat) (Option.some Jvm.ClassFile.FieldType.long)) ∈ lw_all := lw_g (lw_at lw_m0 225 rfl) rfl
theorem q233 : (Jvm.Cond.instanceMethod ({ cls := "HalfFloatModel", name := "exponent", desc := "(I)I" } : Jvm.MethodName)) ∈ lw_all := lw_g (lw_at lw_m0 227 rfl) rfl
theorem q234 : (Jvm.Cond.selects "HalfFloatModel" ({ cls := "HalfFloatModel", name := "exponent", desc := "(I)I" } : Jvm.MethodName) ({ cls := "HalfFloatModel", name := "exponent", desc := "(I)I" } : Jvm.MethodName)) ∈ lw_all := lw_g (lw_at lw_m0 228 rfl) rfl
theorem q235 : (Jvm.Cond.code ({ cls := "HalfFloatModel", name := "exponent", desc := "(I)I" } : Jvm.MethodName) prog_3_method_23_code (2 : Nat) (Option.some Jvm.ClassFile.FieldType.int)) ∈ lw_all := lw_g (lw_at lw_m0 229 rfl) rfl
theorem q237 : (Jvm.Cond.instanceMethod ({ cls := "HalfFloatModel", name := "compare", desc := "(II)I" } : Jvm.MethodName)) ∈ lw_all := lw_g (lw_at lw_m0 231 rfl) rfl
theorem q238 : (Jvm.Cond.selects "HalfFloatModel" ({ cls := "HalfFloatModel", name := "compare", desc := "(II)I" } : Jvm.MethodName) ({ cls := "HalfFloatModel", name := "compare", desc := "(II)I" } : Jvm.MethodName)) ∈ lw_all := lw_g (lw_at lw_m0 232 rfl) rfl
theorem q239 : (Jvm.Cond.code ({ cls := "HalfFloatModel", name := "compare", desc := "(II)I" } : Jvm.MethodName) prog_3_method_24_code (7 : Nat) (Option.some Jvm.ClassFile.FieldType.int)) ∈ lw_all := lw_g (lw_at lw_m0 233 rfl) rfl
theorem q241 : (Jvm.Cond.instanceMethod ({ cls := "HalfFloatModel", name := "floor", desc := "(I)I" } : Jvm.MethodName)) ∈ lw_all := lw_g (lw_at lw_m0 235 rfl) rfl
theorem q242 : (Jvm.Cond.selects "HalfFloatModel" ({ cls := "HalfFloatModel", name := "floor", desc := "(I)I" } : Jvm.MethodName) ({ cls := "HalfFloatModel", name := "floor", desc := "(I)I" } : Jvm.MethodName)) ∈ lw_all := lw_g (lw_at lw_m0 236 rfl) rfl
theorem q243 : (Jvm.Cond.code ({ cls := "HalfFloatModel", name := "floor", desc := "(I)I" } : Jvm.MethodName) prog_3_method_25_code (2 : Nat) (Option.some Jvm.ClassFile.FieldType.int)) ∈ lw_all := lw_g (lw_at lw_m0 237 rfl) rfl
theorem q244 : (Jvm.Cond.constant "HalfFloatModel" (92 : Nat) (100000 : Int32)) ∈ lw_all := lw_g (lw_at lw_m0 238 rfl) rfl
theorem in_X1 : ∀ w ∈ wsX10, w ∈ lw_all := lw_in wsX10 [145, 147] (by decide +kernel) (by decide +kernel)
end
section
/-! the law's own entry -/
set_option maxRecDepth 100000
abbrev cL_law : ByteArray := code
theorem dL_law_0 : decode cL_law 0 = .ok (.new 7, 3) := by decide +kernel
theorem dL_law_3 : decode cL_law 3 = .ok (.dup, 1) := by decide +kernel
theorem dL_law_4 : decode cL_law 4 = .ok (.invokespecial 9, 3) := by decide +kernel
theorem dL_law_7 : decode cL_law 7 = .ok (.astore_n 1, 1) := by decide +kernel
theorem dL_law_8 : decode cL_law 8 = .ok (.new 10, 3) := by decide +kernel
theorem dL_law_11 : decode cL_law 11 = .ok (.dup, 1) := by decide +kernel
theorem dL_law_12 : decode cL_law 12 = .ok (.invokespecial 12, 3) := by decide +kernel
theorem dL_law_15 : decode cL_law 15 = .ok (.astore_n 2, 1) := by decide +kernel
theorem dL_law_16 : decode cL_law 16 = .ok (.iconst 0, 1) := by decide +kernel
theorem dL_law_17 : decode cL_law 17 = .ok (.istore_n 3, 1) := by decide +kernel
theorem dL_law_18 : decode cL_law 18 = .ok (.iload_n 3, 1) := by decide +kernel
theorem dL_law_19 : decode cL_law 19 = .ok (.aload_n 0, 1) := by decide +kernel
theorem dL_law_20 : decode cL_law 20 = .ok (.arraylength, 1) := by decide +kernel
theorem dL_law_21 : decode cL_law 21 = .ok (.iconst 3, 1) := by decide +kernel
theorem dL_law_22 : decode cL_law 22 = .ok (.isub, 1) := by decide +kernel
theorem dL_law_23 : decode cL_law 23 = .ok (.if_icmp .gt 324, 3) := by decide +kernel
theorem dL_law_26 : decode cL_law 26 = .ok (.aload_n 0, 1) := by decide +kernel
theorem dL_law_27 : decode cL_law 27 = .ok (.iload_n 3, 1) := by decide +kernel
theorem dL_law_28 : decode cL_law 28 = .ok (.iaload, 1) := by decide +kernel
theorem dL_law_29 : decode cL_law 29 = .ok (.bipush 15, 2) := by decide +kernel
theorem dL_law_31 : decode cL_law 31 = .ok (.iand, 1) := by decide +kernel
theorem dL_law_32 : decode cL_law 32 = .ok (.tableswitch 309 0 8 #[52, 85, 118, 151, 174, 207, 230, 253, 286], 52) := by decide +kernel
theorem dL_law_84 : decode cL_law 84 = .ok (.aload_n 1, 1) := by decide +kernel
theorem dL_law_85 : decode cL_law 85 = .ok (.aload_n 0, 1) := by decide +kernel
theorem dL_law_86 : decode cL_law 86 = .ok (.iload_n 3, 1) := by decide +kernel
theorem dL_law_87 : decode cL_law 87 = .ok (.iconst 1, 1) := by decide +kernel
theorem dL_law_88 : decode cL_law 88 = .ok (.iadd, 1) := by decide +kernel
theorem dL_law_89 : decode cL_law 89 = .ok (.iaload, 1) := by decide +kernel
theorem dL_law_90 : decode cL_law 90 = .ok (.aload_n 0, 1) := by decide +kernel
theorem dL_law_91 : decode cL_law 91 = .ok (.iload_n 3, 1) := by decide +kernel
theorem dL_law_92 : decode cL_law 92 = .ok (.iconst 2, 1) := by decide +kernel
theorem dL_law_93 : decode cL_law 93 = .ok (.iadd, 1) := by decide +kernel
theorem dL_law_94 : decode cL_law 94 = .ok (.iaload, 1) := by decide +kernel
theorem dL_law_95 : decode cL_law 95 = .ok (.invokevirtual 13, 3) := by decide +kernel
theorem dL_law_98 : decode cL_law 98 = .ok (.aload_n 2, 1) := by decide +kernel
theorem dL_law_99 : decode cL_law 99 = .ok (.aload_n 0, 1) := by decide +kernel
theorem dL_law_100 : decode cL_law 100 = .ok (.iload_n 3, 1) := by decide +kernel
theorem dL_law_101 : decode cL_law 101 = .ok (.iconst 1, 1) := by decide +kernel
theorem dL_law_102 : decode cL_law 102 = .ok (.iadd, 1) := by decide +kernel
theorem dL_law_103 : decode cL_law 103 = .ok (.iaload, 1) := by decide +kernel
theorem dL_law_104 : decode cL_law 104 = .ok (.aload_n 0, 1) := by decide +kernel
theorem dL_law_105 : decode cL_law 105 = .ok (.iload_n 3, 1) := by decide +kernel
theorem dL_law_106 : decode cL_law 106 = .ok (.iconst 2, 1) := by decide +kernel
theorem dL_law_107 : decode cL_law 107 = .ok (.iadd, 1) := by decide +kernel
theorem dL_law_108 : decode cL_law 108 = .ok (.iaload, 1) := by decide +kernel
theorem dL_law_109 : decode cL_law 109 = .ok (.invokevirtual 17, 3) := by decide +kernel
theorem dL_law_112 : decode cL_law 112 = .ok (.if_icmp .eq 229, 3) := by decide +kernel
theorem dL_law_115 : decode cL_law 115 = .ok (.iconst 0, 1) := by decide +kernel
theorem dL_law_116 : decode cL_law 116 = .ok (.ireturn, 1) := by decide +kernel
theorem dL_law_117 : decode cL_law 117 = .ok (.aload_n 1, 1) := by decide +kernel
theorem dL_law_118 : decode cL_law 118 = .ok (.aload_n 0, 1) := by decide +kernel
theorem dL_law_119 : decode cL_law 119 = .ok (.iload_n 3, 1) := by decide +kernel
theorem dL_law_120 : decode cL_law 120 = .ok (.iconst 1, 1) := by decide +kernel
theorem dL_law_121 : decode cL_law 121 = .ok (.iadd, 1) := by decide +kernel
theorem dL_law_122 : decode cL_law 122 = .ok (.iaload, 1) := by decide +kernel
theorem dL_law_123 : decode cL_law 123 = .ok (.aload_n 0, 1) := by decide +kernel
theorem dL_law_124 : decode cL_law 124 = .ok (.iload_n 3, 1) := by decide +kernel
theorem dL_law_125 : decode cL_law 125 = .ok (.iconst 2, 1) := by decide +kernel
theorem dL_law_126 : decode cL_law 126 = .ok (.iadd, 1) := by decide +kernel
theorem dL_law_127 : decode cL_law 127 = .ok (.iaload, 1) := by decide +kernel
theorem dL_law_128 : decode cL_law 128 = .ok (.invokevirtual 18, 3) := by decide +kernel
theorem dL_law_131 : decode cL_law 131 = .ok (.aload_n 2, 1) := by decide +kernel
theorem dL_law_132 : decode cL_law 132 = .ok (.aload_n 0, 1) := by decide +kernel
theorem dL_law_133 : decode cL_law 133 = .ok (.iload_n 3, 1) := by decide +kernel
theorem dL_law_134 : decode cL_law 134 = .ok (.iconst 1, 1) := by decide +kernel
theorem dL_law_135 : decode cL_law 135 = .ok (.iadd, 1) := by decide +kernel
theorem dL_law_136 : decode cL_law 136 = .ok (.iaload, 1) := by decide +kernel
theorem dL_law_137 : decode cL_law 137 = .ok (.aload_n 0, 1) := by decide +kernel
theorem dL_law_138 : decode cL_law 138 = .ok (.iload_n 3, 1) := by decide +kernel
theorem dL_law_139 : decode cL_law 139 = .ok (.iconst 2, 1) := by decide +kernel
theorem dL_law_140 : decode cL_law 140 = .ok (.iadd, 1) := by decide +kernel
theorem dL_law_141 : decode cL_law 141 = .ok (.iaload, 1) := by decide +kernel
theorem dL_law_142 : decode cL_law 142 = .ok (.invokevirtual 21, 3) := by decide +kernel
theorem dL_law_145 : decode cL_law 145 = .ok (.if_icmp .eq 196, 3) := by decide +kernel
theorem dL_law_148 : decode cL_law 148 = .ok (.iconst 0, 1) := by decide +kernel
theorem dL_law_149 : decode cL_law 149 = .ok (.ireturn, 1) := by decide +kernel
theorem dL_law_150 : decode cL_law 150 = .ok (.aload_n 1, 1) := by decide +kernel
theorem dL_law_151 : decode cL_law 151 = .ok (.aload_n 0, 1) := by decide +kernel
theorem dL_law_152 : decode cL_law 152 = .ok (.iload_n 3, 1) := by decide +kernel
theorem dL_law_153 : decode cL_law 153 = .ok (.iconst 1, 1) := by decide +kernel
theorem dL_law_154 : decode cL_law 154 = .ok (.iadd, 1) := by decide +kernel
theorem dL_law_155 : decode cL_law 155 = .ok (.iaload, 1) := by decide +kernel
theorem dL_law_156 : decode cL_law 156 = .ok (.aload_n 0, 1) := by decide +kernel
theorem dL_law_157 : decode cL_law 157 = .ok (.iload_n 3, 1) := by decide +kernel
theorem dL_law_158 : decode cL_law 158 = .ok (.iconst 2, 1) := by decide +kernel
theorem dL_law_159 : decode cL_law 159 = .ok (.iadd, 1) := by decide +kernel
theorem dL_law_160 : decode cL_law 160 = .ok (.iaload, 1) := by decide +kernel
theorem dL_law_161 : decode cL_law 161 = .ok (.invokevirtual 22, 3) := by decide +kernel
theorem dL_law_164 : decode cL_law 164 = .ok (.aload_n 2, 1) := by decide +kernel
theorem dL_law_165 : decode cL_law 165 = .ok (.aload_n 0, 1) := by decide +kernel
theorem dL_law_166 : decode cL_law 166 = .ok (.iload_n 3, 1) := by decide +kernel
theorem dL_law_167 : decode cL_law 167 = .ok (.iconst 1, 1) := by decide +kernel
theorem dL_law_168 : decode cL_law 168 = .ok (.iadd, 1) := by decide +kernel
theorem dL_law_169 : decode cL_law 169 = .ok (.iaload, 1) := by decide +kernel
theorem dL_law_170 : decode cL_law 170 = .ok (.aload_n 0, 1) := by decide +kernel
theorem dL_law_171 : decode cL_law 171 = .ok (.iload_n 3, 1) := by decide +kernel
theorem dL_law_172 : decode cL_law 172 = .ok (.iconst 2, 1) := by decide +kernel
theorem dL_law_173 : decode cL_law 173 = .ok (.iadd, 1) := by decide +kernel
theorem dL_law_174 : decode cL_law 174 = .ok (.iaload, 1) := by decide +kernel
theorem dL_law_175 : decode cL_law 175 = .ok (.invokevirtual 25, 3) := by decide +kernel
theorem dL_law_178 : decode cL_law 178 = .ok (.if_icmp .eq 163, 3) := by decide +kernel
theorem dL_law_181 : decode cL_law 181 = .ok (.iconst 0, 1) := by decide +kernel
theorem dL_law_182 : decode cL_law 182 = .ok (.ireturn, 1) := by decide +kernel
theorem dL_law_183 : decode cL_law 183 = .ok (.aload_n 1, 1) := by decide +kernel
theorem dL_law_184 : decode cL_law 184 = .ok (.aload_n 0, 1) := by decide +kernel
theorem dL_law_185 : decode cL_law 185 = .ok (.iload_n 3, 1) := by decide +kernel
theorem dL_law_186 : decode cL_law 186 = .ok (.iconst 1, 1) := by decide +kernel
theorem dL_law_187 : decode cL_law 187 = .ok (.iadd, 1) := by decide +kernel
theorem dL_law_188 : decode cL_law 188 = .ok (.iaload, 1) := by decide +kernel
theorem dL_law_189 : decode cL_law 189 = .ok (.invokevirtual 26, 3) := by decide +kernel
theorem dL_law_192 : decode cL_law 192 = .ok (.aload_n 2, 1) := by decide +kernel
theorem dL_law_193 : decode cL_law 193 = .ok (.aload_n 0, 1) := by decide +kernel
theorem dL_law_194 : decode cL_law 194 = .ok (.iload_n 3, 1) := by decide +kernel
theorem dL_law_195 : decode cL_law 195 = .ok (.iconst 1, 1) := by decide +kernel
theorem dL_law_196 : decode cL_law 196 = .ok (.iadd, 1) := by decide +kernel
theorem dL_law_197 : decode cL_law 197 = .ok (.iaload, 1) := by decide +kernel
theorem dL_law_198 : decode cL_law 198 = .ok (.invokevirtual 30, 3) := by decide +kernel
theorem dL_law_201 : decode cL_law 201 = .ok (.if_icmp .eq 140, 3) := by decide +kernel
theorem dL_law_204 : decode cL_law 204 = .ok (.iconst 0, 1) := by decide +kernel
theorem dL_law_205 : decode cL_law 205 = .ok (.ireturn, 1) := by decide +kernel
theorem dL_law_206 : decode cL_law 206 = .ok (.aload_n 1, 1) := by decide +kernel
theorem dL_law_207 : decode cL_law 207 = .ok (.aload_n 0, 1) := by decide +kernel
theorem dL_law_208 : decode cL_law 208 = .ok (.iload_n 3, 1) := by decide +kernel
theorem dL_law_209 : decode cL_law 209 = .ok (.iconst 1, 1) := by decide +kernel
theorem dL_law_210 : decode cL_law 210 = .ok (.iadd, 1) := by decide +kernel
theorem dL_law_211 : decode cL_law 211 = .ok (.iaload, 1) := by decide +kernel
theorem dL_law_212 : decode cL_law 212 = .ok (.aload_n 0, 1) := by decide +kernel
theorem dL_law_213 : decode cL_law 213 = .ok (.iload_n 3, 1) := by decide +kernel
theorem dL_law_214 : decode cL_law 214 = .ok (.iconst 2, 1) := by decide +kernel
theorem dL_law_215 : decode cL_law 215 = .ok (.iadd, 1) := by decide +kernel
theorem dL_law_216 : decode cL_law 216 = .ok (.iaload, 1) := by decide +kernel
theorem dL_law_217 : decode cL_law 217 = .ok (.invokevirtual 31, 3) := by decide +kernel
theorem dL_law_220 : decode cL_law 220 = .ok (.aload_n 2, 1) := by decide +kernel
theorem dL_law_221 : decode cL_law 221 = .ok (.aload_n 0, 1) := by decide +kernel
theorem dL_law_222 : decode cL_law 222 = .ok (.iload_n 3, 1) := by decide +kernel
theorem dL_law_223 : decode cL_law 223 = .ok (.iconst 1, 1) := by decide +kernel
theorem dL_law_224 : decode cL_law 224 = .ok (.iadd, 1) := by decide +kernel
theorem dL_law_225 : decode cL_law 225 = .ok (.iaload, 1) := by decide +kernel
theorem dL_law_226 : decode cL_law 226 = .ok (.aload_n 0, 1) := by decide +kernel
theorem dL_law_227 : decode cL_law 227 = .ok (.iload_n 3, 1) := by decide +kernel
theorem dL_law_228 : decode cL_law 228 = .ok (.iconst 2, 1) := by decide +kernel
theorem dL_law_229 : decode cL_law 229 = .ok (.iadd, 1) := by decide +kernel
theorem dL_law_230 : decode cL_law 230 = .ok (.iaload, 1) := by decide +kernel
theorem dL_law_231 : decode cL_law 231 = .ok (.invokevirtual 34, 3) := by decide +kernel
theorem dL_law_234 : decode cL_law 234 = .ok (.if_icmp .eq 107, 3) := by decide +kernel
theorem dL_law_237 : decode cL_law 237 = .ok (.iconst 0, 1) := by decide +kernel
theorem dL_law_238 : decode cL_law 238 = .ok (.ireturn, 1) := by decide +kernel
theorem dL_law_239 : decode cL_law 239 = .ok (.aload_n 1, 1) := by decide +kernel
theorem dL_law_240 : decode cL_law 240 = .ok (.aload_n 0, 1) := by decide +kernel
theorem dL_law_241 : decode cL_law 241 = .ok (.iload_n 3, 1) := by decide +kernel
theorem dL_law_242 : decode cL_law 242 = .ok (.iconst 1, 1) := by decide +kernel
theorem dL_law_243 : decode cL_law 243 = .ok (.iadd, 1) := by decide +kernel
theorem dL_law_244 : decode cL_law 244 = .ok (.iaload, 1) := by decide +kernel
theorem dL_law_245 : decode cL_law 245 = .ok (.invokevirtual 35, 3) := by decide +kernel
theorem dL_law_248 : decode cL_law 248 = .ok (.aload_n 2, 1) := by decide +kernel
theorem dL_law_249 : decode cL_law 249 = .ok (.aload_n 0, 1) := by decide +kernel
theorem dL_law_250 : decode cL_law 250 = .ok (.iload_n 3, 1) := by decide +kernel
theorem dL_law_251 : decode cL_law 251 = .ok (.iconst 1, 1) := by decide +kernel
theorem dL_law_252 : decode cL_law 252 = .ok (.iadd, 1) := by decide +kernel
theorem dL_law_253 : decode cL_law 253 = .ok (.iaload, 1) := by decide +kernel
theorem dL_law_254 : decode cL_law 254 = .ok (.invokevirtual 38, 3) := by decide +kernel
theorem dL_law_257 : decode cL_law 257 = .ok (.if_icmp .eq 84, 3) := by decide +kernel
theorem dL_law_260 : decode cL_law 260 = .ok (.iconst 0, 1) := by decide +kernel
theorem dL_law_261 : decode cL_law 261 = .ok (.ireturn, 1) := by decide +kernel
theorem dL_law_262 : decode cL_law 262 = .ok (.aload_n 1, 1) := by decide +kernel
theorem dL_law_263 : decode cL_law 263 = .ok (.aload_n 0, 1) := by decide +kernel
theorem dL_law_264 : decode cL_law 264 = .ok (.iload_n 3, 1) := by decide +kernel
theorem dL_law_265 : decode cL_law 265 = .ok (.iconst 1, 1) := by decide +kernel
theorem dL_law_266 : decode cL_law 266 = .ok (.iadd, 1) := by decide +kernel
theorem dL_law_267 : decode cL_law 267 = .ok (.iaload, 1) := by decide +kernel
theorem dL_law_268 : decode cL_law 268 = .ok (.invokevirtual 39, 3) := by decide +kernel
theorem dL_law_271 : decode cL_law 271 = .ok (.aload_n 2, 1) := by decide +kernel
theorem dL_law_272 : decode cL_law 272 = .ok (.aload_n 0, 1) := by decide +kernel
theorem dL_law_273 : decode cL_law 273 = .ok (.iload_n 3, 1) := by decide +kernel
theorem dL_law_274 : decode cL_law 274 = .ok (.iconst 1, 1) := by decide +kernel
theorem dL_law_275 : decode cL_law 275 = .ok (.iadd, 1) := by decide +kernel
theorem dL_law_276 : decode cL_law 276 = .ok (.iaload, 1) := by decide +kernel
theorem dL_law_277 : decode cL_law 277 = .ok (.invokevirtual 42, 3) := by decide +kernel
theorem dL_law_280 : decode cL_law 280 = .ok (.if_icmp .eq 61, 3) := by decide +kernel
theorem dL_law_283 : decode cL_law 283 = .ok (.iconst 0, 1) := by decide +kernel
theorem dL_law_284 : decode cL_law 284 = .ok (.ireturn, 1) := by decide +kernel
theorem dL_law_285 : decode cL_law 285 = .ok (.aload_n 1, 1) := by decide +kernel
theorem dL_law_286 : decode cL_law 286 = .ok (.aload_n 0, 1) := by decide +kernel
theorem dL_law_287 : decode cL_law 287 = .ok (.iload_n 3, 1) := by decide +kernel
theorem dL_law_288 : decode cL_law 288 = .ok (.iconst 1, 1) := by decide +kernel
theorem dL_law_289 : decode cL_law 289 = .ok (.iadd, 1) := by decide +kernel
theorem dL_law_290 : decode cL_law 290 = .ok (.iaload, 1) := by decide +kernel
theorem dL_law_291 : decode cL_law 291 = .ok (.aload_n 0, 1) := by decide +kernel
theorem dL_law_292 : decode cL_law 292 = .ok (.iload_n 3, 1) := by decide +kernel
theorem dL_law_293 : decode cL_law 293 = .ok (.iconst 2, 1) := by decide +kernel
theorem dL_law_294 : decode cL_law 294 = .ok (.iadd, 1) := by decide +kernel
theorem dL_law_295 : decode cL_law 295 = .ok (.iaload, 1) := by decide +kernel
theorem dL_law_296 : decode cL_law 296 = .ok (.invokevirtual 43, 3) := by decide +kernel
theorem dL_law_299 : decode cL_law 299 = .ok (.aload_n 2, 1) := by decide +kernel
theorem dL_law_300 : decode cL_law 300 = .ok (.aload_n 0, 1) := by decide +kernel
theorem dL_law_301 : decode cL_law 301 = .ok (.iload_n 3, 1) := by decide +kernel
theorem dL_law_302 : decode cL_law 302 = .ok (.iconst 1, 1) := by decide +kernel
theorem dL_law_303 : decode cL_law 303 = .ok (.iadd, 1) := by decide +kernel
theorem dL_law_304 : decode cL_law 304 = .ok (.iaload, 1) := by decide +kernel
theorem dL_law_305 : decode cL_law 305 = .ok (.aload_n 0, 1) := by decide +kernel
theorem dL_law_306 : decode cL_law 306 = .ok (.iload_n 3, 1) := by decide +kernel
theorem dL_law_307 : decode cL_law 307 = .ok (.iconst 2, 1) := by decide +kernel
theorem dL_law_308 : decode cL_law 308 = .ok (.iadd, 1) := by decide +kernel
theorem dL_law_309 : decode cL_law 309 = .ok (.iaload, 1) := by decide +kernel
theorem dL_law_310 : decode cL_law 310 = .ok (.invokevirtual 46, 3) := by decide +kernel
theorem dL_law_313 : decode cL_law 313 = .ok (.if_icmp .eq 28, 3) := by decide +kernel
theorem dL_law_316 : decode cL_law 316 = .ok (.iconst 0, 1) := by decide +kernel
theorem dL_law_317 : decode cL_law 317 = .ok (.ireturn, 1) := by decide +kernel
theorem dL_law_318 : decode cL_law 318 = .ok (.aload_n 1, 1) := by decide +kernel
theorem dL_law_319 : decode cL_law 319 = .ok (.aload_n 0, 1) := by decide +kernel
theorem dL_law_320 : decode cL_law 320 = .ok (.iload_n 3, 1) := by decide +kernel
theorem dL_law_321 : decode cL_law 321 = .ok (.iconst 1, 1) := by decide +kernel
theorem dL_law_322 : decode cL_law 322 = .ok (.iadd, 1) := by decide +kernel
theorem dL_law_323 : decode cL_law 323 = .ok (.iaload, 1) := by decide +kernel
theorem dL_law_324 : decode cL_law 324 = .ok (.invokevirtual 47, 3) := by decide +kernel
theorem dL_law_327 : decode cL_law 327 = .ok (.aload_n 2, 1) := by decide +kernel
theorem dL_law_328 : decode cL_law 328 = .ok (.aload_n 0, 1) := by decide +kernel
theorem dL_law_329 : decode cL_law 329 = .ok (.iload_n 3, 1) := by decide +kernel
theorem dL_law_330 : decode cL_law 330 = .ok (.iconst 1, 1) := by decide +kernel
theorem dL_law_331 : decode cL_law 331 = .ok (.iadd, 1) := by decide +kernel
theorem dL_law_332 : decode cL_law 332 = .ok (.iaload, 1) := by decide +kernel
theorem dL_law_333 : decode cL_law 333 = .ok (.invokevirtual 50, 3) := by decide +kernel
theorem dL_law_336 : decode cL_law 336 = .ok (.if_icmp .eq 5, 3) := by decide +kernel
theorem dL_law_339 : decode cL_law 339 = .ok (.iconst 0, 1) := by decide +kernel
theorem dL_law_340 : decode cL_law 340 = .ok (.ireturn, 1) := by decide +kernel
theorem dL_law_341 : decode cL_law 341 = .ok (.iinc 3 3, 3) := by decide +kernel
theorem dL_law_344 : decode cL_law 344 = .ok (.goto (-326), 3) := by decide +kernel
theorem dL_law_347 : decode cL_law 347 = .ok (.iconst 1, 1) := by decide +kernel
theorem dL_law_348 : decode cL_law 348 = .ok (.ireturn, 1) := by decide +kernel
end
section
theorem q6 : (Jvm.Cond.initialized "HalfFloatLaw") ∈ lw_all := lw_g (lw_at lw_m0 0 rfl) rfl
set_option maxRecDepth 100000
theorem q9 : (Jvm.Cond.classLink "HalfFloatLaw" (7 : Nat) "HalfFloat") ∈ lw_all := lw_g (lw_at lw_m0 3 rfl) rfl
theorem q11 : (Jvm.Cond.methodLink "HalfFloatLaw" (9 : Nat) ({ cls := "HalfFloat", name := "<init>", desc := "()V" } : Jvm.MethodName)) ∈ lw_all := lw_g (lw_at lw_m0 5 rfl) rfl
theorem q45 : (Jvm.Cond.methodLink "HalfFloatLaw" (13 : Nat) ({ cls := "HalfFloat", name := "add", desc := "(II)I" } : Jvm.MethodName)) ∈ lw_all := lw_g (lw_at lw_m0 39 rfl) rfl
theorem q71 : (Jvm.Cond.methodLink "HalfFloatLaw" (18 : Nat) ({ cls := "HalfFloat", name := "multiply", desc := "(II)I" } : Jvm.MethodName)) ∈ lw_all := lw_g (lw_at lw_m0 65 rfl) rfl
theorem q78 : (Jvm.Cond.methodLink "HalfFloatLaw" (22 : Nat) ({ cls := "HalfFloat", name := "divide", desc := "(II)I" } : Jvm.MethodName)) ∈ lw_all := lw_g (lw_at lw_m0 72 rfl) rfl
theorem q82 : (Jvm.Cond.methodLink "HalfFloatLaw" (26 : Nat) ({ cls := "HalfFloat", name := "root", desc := "(I)I" } : Jvm.MethodName)) ∈ lw_all := lw_g (lw_at lw_m0 76 rfl) rfl
theorem q89 : (Jvm.Cond.methodLink "HalfFloatLaw" (31 : Nat) ({ cls := "HalfFloat", name := "parse", desc := "(II)I" } : Jvm.MethodName)) ∈ lw_all := lw_g (lw_at lw_m0 83 rfl) rfl
theorem q99 : (Jvm.Cond.methodLink "HalfFloatLaw" (35 : Nat) ({ cls := "HalfFloat", name := "digits", desc := "(I)I" } : Jvm.MethodName)) ∈ lw_all := lw_g (lw_at lw_m0 93 rfl) rfl
theorem q124 : (Jvm.Cond.methodLink "HalfFloatLaw" (39 : Nat) ({ cls := "HalfFloat", name := "exponent", desc := "(I)I" } : Jvm.MethodName)) ∈ lw_all := lw_g (lw_at lw_m0 118 rfl) rfl
theorem q128 : (Jvm.Cond.methodLink "HalfFloatLaw" (43 : Nat) ({ cls := "HalfFloat", name := "compare", desc := "(II)I" } : Jvm.MethodName)) ∈ lw_all := lw_g (lw_at lw_m0 122 rfl) rfl
theorem q132 : (Jvm.Cond.methodLink "HalfFloatLaw" (47 : Nat) ({ cls := "HalfFloat", name := "floor", desc := "(I)I" } : Jvm.MethodName)) ∈ lw_all := lw_g (lw_at lw_m0 126 rfl) rfl
theorem q137 : (Jvm.Cond.classLink "HalfFloatLaw" (10 : Nat) "HalfFloatModel") ∈ lw_all := lw_g (lw_at lw_m0 131 rfl) rfl
theorem q139 : (Jvm.Cond.methodLink "HalfFloatLaw" (12 : Nat) ({ cls := "HalfFloatModel", name := "<init>", desc := "()V" } : Jvm.MethodName)) ∈ lw_all := lw_g (lw_at lw_m0 133 rfl) rfl
theorem q150 : (Jvm.Cond.methodLink "HalfFloatLaw" (17 : Nat) ({ cls := "HalfFloatModel", name := "add", desc := "(II)I" } : Jvm.MethodName)) ∈ lw_all := lw_g (lw_at lw_m0 144 rfl) rfl
theorem q179 : (Jvm.Cond.methodLink "HalfFloatLaw" (21 : Nat) ({ cls := "HalfFloatModel", name := "multiply", desc := "(II)I" } : Jvm.MethodName)) ∈ lw_all := lw_g (lw_at lw_m0 173 rfl) rfl
theorem q183 : (Jvm.Cond.methodLink "HalfFloatLaw" (25 : Nat) ({ cls := "HalfFloatModel", name := "divide", desc := "(II)I" } : Jvm.MethodName)) ∈ lw_all := lw_g (lw_at lw_m0 177 rfl) rfl
theorem q187 : (Jvm.Cond.methodLink "HalfFloatLaw" (30 : Nat) ({ cls := "HalfFloatModel", name := "root", desc := "(I)I" } : Jvm.MethodName)) ∈ lw_all := lw_g (lw_at lw_m0 181 rfl) rfl
theorem q195 : (Jvm.Cond.methodLink "HalfFloatLaw" (34 : Nat) ({ cls := "HalfFloatModel", name := "parse", desc := "(II)I" } : Jvm.MethodName)) ∈ lw_all := lw_g (lw_at lw_m0 189 rfl) rfl
theorem q208 : (Jvm.Cond.methodLink "HalfFloatLaw" (38 : Nat) ({ cls := "HalfFloatModel", name := "digits", desc := "(I)I" } : Jvm.MethodName)) ∈ lw_all := lw_g (lw_at lw_m0 202 rfl) rfl
theorem q232 : (Jvm.Cond.methodLink "HalfFloatLaw" (42 : Nat) ({ cls := "HalfFloatModel", name := "exponent", desc := "(I)I" } : Jvm.MethodName)) ∈ lw_all := lw_g (lw_at lw_m0 226 rfl) rfl
theorem q236 : (Jvm.Cond.methodLink "HalfFloatLaw" (46 : Nat) ({ cls := "HalfFloatModel", name := "compare", desc := "(II)I" } : Jvm.MethodName)) ∈ lw_all := lw_g (lw_at lw_m0 230 rfl) rfl
theorem q240 : (Jvm.Cond.methodLink "HalfFloatLaw" (50 : Nat) ({ cls := "HalfFloatModel", name := "floor", desc := "(I)I" } : Jvm.MethodName)) ∈ lw_all := lw_g (lw_at lw_m0 234 rfl) rfl
end
section
/-! number rows: the wb_, pf_ and fa_ families are the kit's rows to paste (BITS.to-paste, NUMBERS.to-paste) -/
theorem wb_tb (n : Nat) : (lN n).toBitVec = BitVec.ofNat 64 n := rfl
theorem wb_inj {a b : Int64} (h : a.toBitVec = b.toBitVec) : a = b := Int64.toBitVec_inj.mp h
theorem wb_tn {n : Nat} (h : n < 2 ^ 64) : (lN n).toBitVec.toNat = n := by rw [wb_tb, BitVec.toNat_ofNat, Nat.mod_eq_of_lt h]
theorem wb_of (x : Int64) : ∃ n, n < 2 ^ 64 ∧ x = lN n := ⟨x.toBitVec.toNat, x.toBitVec.isLt, wb_inj (by rw [wb_tb]; simp)⟩
theorem wb_of32 (x : Int32) : ∃ n, n < 2 ^ 32 ∧ x = nI n := ⟨x.toBitVec.toNat, x.toBitVec.isLt, Int32.toBitVec_inj.mp (by show _ = BitVec.ofNat 32 _; simp)⟩
theorem wb_c : ∀ k, k < 64 → ((nI k).toInt64 &&& 63) = lN k := by decide +kernel
theorem wb_cu : ∀ k, k < 64 → ((nI k).toInt64.toUInt64 &&& Int64.toUInt64 63) = UInt64.ofNat k := by decide +kernel
theorem wb_sm : ∀ k, k < 64 → (BitVec.ofNat 64 k).smod 64 = BitVec.ofNat 64 k := by decide +kernel
theorem wb_pw {a b : Nat} (h : a ≤ b) : 2 ^ b = 2 ^ a * 2 ^ (b - a) := by rw [← Nat.pow_add]; congr 1; omega
theorem wb_lt2 {a b : Nat} (h : a < b) : 2 ^ a < 2 ^ b := Nat.pow_lt_pow_right (by decide) h
theorem wb_mod (n : Nat) : lN n = lN (n % 2 ^ 64) := wb_inj (by rw [wb_tb, wb_tb]; apply BitVec.eq_of_toNat_eq; rw [BitVec.toNat_ofNat, BitVec.toNat_ofNat, Nat.mod_mod])
theorem wb_shr {n k : Nat} (hn : n < 2 ^ 64) (hk : k < 64) : ((lN n).toUInt64 >>> ((nI k).toInt64.toUInt64 &&& Int64.toUInt64 63)).toInt64 = lN (n / 2 ^ k) := by
  rw [wb_cu k hk]
  apply wb_inj
  apply BitVec.eq_of_toNat_eq
  show ((lN n).toUInt64 >>> UInt64.ofNat k).toNat = (BitVec.ofNat 64 _).toNat
  have h1 : (UInt64.ofNat k).toNat = k := by
    show (BitVec.ofNat 64 k).toNat = k
    rw [BitVec.toNat_ofNat, Nat.mod_eq_of_lt (by omega)]
  have h2 : (lN n).toUInt64.toNat = n := wb_tn hn
  rw [UInt64.toNat_shiftRight, h1, h2, Nat.mod_eq_of_lt hk, Nat.shiftRight_eq_div_pow, BitVec.toNat_ofNat, Nat.mod_eq_of_lt (Nat.lt_of_le_of_lt (Nat.div_le_self _ _) hn)]
theorem wb_shl (n : Nat) {k : Nat} (hk : k < 64) : lN n <<< ((nI k).toInt64 &&& 63) = lN (n * 2 ^ k) := by
  rw [wb_c k hk]
  apply wb_inj
  rw [Int64.toBitVec_shiftLeft, wb_tb, wb_tb, wb_tb, wb_sm k hk]
  apply BitVec.eq_of_toNat_eq
  rw [BitVec.shiftLeft_eq', BitVec.toNat_shiftLeft, BitVec.toNat_ofNat, BitVec.toNat_ofNat, BitVec.toNat_ofNat, Nat.mod_eq_of_lt (show k < 2 ^ 64 by omega), Nat.shiftLeft_eq, Nat.mul_mod, Nat.mod_mod, ← Nat.mul_mod]
theorem wb_and {a b : Nat} (ha : a < 2 ^ 64) (hb : b < 2 ^ 64) : lN a &&& lN b = lN (a &&& b) := by
  apply wb_inj
  rw [Int64.toBitVec_and, wb_tb, wb_tb, wb_tb]
  apply BitVec.eq_of_toNat_eq
  rw [BitVec.toNat_and, BitVec.toNat_ofNat, BitVec.toNat_ofNat, BitVec.toNat_ofNat, Nat.mod_eq_of_lt ha, Nat.mod_eq_of_lt hb, Nat.mod_eq_of_lt (Nat.and_lt_two_pow _ hb)]
theorem wb_or {a b : Nat} (ha : a < 2 ^ 64) (hb : b < 2 ^ 64) : lN a ||| lN b = lN (a ||| b) := by
  apply wb_inj
  rw [Int64.toBitVec_or, wb_tb, wb_tb, wb_tb]
  apply BitVec.eq_of_toNat_eq
  rw [BitVec.toNat_or, BitVec.toNat_ofNat, BitVec.toNat_ofNat, BitVec.toNat_ofNat, Nat.mod_eq_of_lt ha, Nat.mod_eq_of_lt hb, Nat.mod_eq_of_lt (Nat.or_lt_two_pow ha hb)]
theorem wb_mask {n k : Nat} (hn : n < 2 ^ 64) (hk : k < 64) : lN n &&& lN (2 ^ k - 1) = lN (n % 2 ^ k) := by
  rw [wb_and hn (by have := wb_lt2 hk; omega), Nat.and_two_pow_sub_one_eq_mod]
theorem wb_a1 {n : Nat} (hn : n < 2 ^ 64) : lN n &&& 1 = lN (n % 2) := wb_mask (k := 1) hn (by decide)
theorem wb_bit {n k : Nat} (hn : n < 2 ^ 64) (hk : k < 64) : ((lN n).toUInt64 >>> ((nI k).toInt64.toUInt64 &&& Int64.toUInt64 63)).toInt64 &&& 1 = lN (n / 2 ^ k % 2) := by
  rw [wb_shr hn hk, wb_a1 (Nat.lt_of_le_of_lt (Nat.div_le_self _ _) hn)]
theorem pf_lI {a : Nat} (h : a < 2 ^ 63) : (lN a).toInt = (a : Int) := lg_ofNat_toInt h
theorem pf_shr {a d : Nat} {D : Int64} (hD : (D.toBitVec.smod 64).toNat = d) (h : a < 2 ^ 62) : lN a >>> D = lN (a / 2 ^ d) := by
  have hd : a / 2 ^ d ≤ a := Nat.div_le_self _ _
  apply Int64.toInt_inj.mp
  have e : (lN a >>> D).toInt = (lN a).toInt >>> d := by
    rw [← hD]
    exact BitVec.toInt_sshiftRight ..
  rw [e, Int.shiftRight_eq_div_pow, pf_lI (by omega), pf_lI (by omega)]
  rfl
theorem fa_lit (n : Nat) : (OfNat.ofNat n : Int32) = nI n := rfl
theorem fa_litL (n : Nat) : (OfNat.ofNat n : Int64) = lN n := rfl
/-! ===== bits of a number: 'or', masks, one bit ===== -/
theorem fa_and (a b : Nat) : nI a &&& nI b = nI (a &&& b) := by
  apply Int32.toBitVec_inj.1
  show BitVec.ofNat 32 a &&& BitVec.ofNat 32 b = BitVec.ofNat 32 (a &&& b)
  apply BitVec.eq_of_getLsbD_eq
  intro i hi
  simp [hi]
theorem fa_mask (n k : Nat) : nI n &&& nI (2 ^ k - 1) = nI (n % 2 ^ k) := by rw [fa_and, Nat.and_two_pow_sub_one_eq_mod]
/-! own rows -/
theorem hn_shr {a k : Nat} (hk : k < 64) (h : a < 2 ^ 62) : lN a >>> ((nI k).toInt64 &&& 63) = lN (a / 2 ^ k) := by
  rw [wb_c k hk]
  refine pf_shr (d := k) ?_ h
  rw [wb_tb, wb_sm k hk, BitVec.toNat_ofNat]
  exact Nat.mod_eq_of_lt (by omega)
theorem hn_pow10 {j : Nat} (h : j ≤ 18) : 10 ^ j < 2 ^ 63 := Nat.lt_of_le_of_lt (Nat.pow_le_pow_right (by decide) h) (by decide)
end
section
/-! own rows: a compare of two longs with the branch behind it; a loop by fuel; the end of a method that leaves the heap alone -/
section HFR
variable {p : Program} {l : Launch} {e : Env} {R : Room} {s : State} {m : MethodId} {args : Array Value} {below : List Frame} {meth : Method} {c : Code} {H : Heap} {locs : List Loc} {cells slots : Nat} {Q : State → Prop}
variable {cc : ByteArray} {pc : Nat} {ls : Array Slot} {rest : List Value}
theorem hf_cmp_lt (x y : Int64) : lg_cmp x y < 0 ↔ x < y := by
  unfold lg_cmp
  by_cases h1 : y < x
  · have h2 : ¬ x < y := by rw [Int64.lt_iff_toInt_lt] at *; omega
    simp [h1, h2]
  · by_cases h2 : x = y
    · subst h2
      simp [h1]
    · have h3 : x < y := by
        rw [Int64.lt_iff_toInt_lt] at *
        have h4 : x.toInt ≠ y.toInt := fun h => h2 (Int64.toInt_inj.mp h)
        omega
      simp [h1, h2, h3]
theorem hf_cmp_gt (x y : Int64) : 0 < lg_cmp x y ↔ y < x := by
  unfold lg_cmp
  by_cases h1 : y < x
  · simp [h1]
  · by_cases h2 : x = y
    · subst h2
      simp
    · simp [h1, h2]
theorem hf_cmp_eq (x y : Int64) : lg_cmp x y = 0 ↔ x = y := by
  unfold lg_cmp
  by_cases h1 : y < x
  · have h2 : ¬ x = y := by
      intro h
      subst h
      rw [Int64.lt_iff_toInt_lt] at h1
      omega
    simp [h1, h2]
  · by_cases h2 : x = y
    · subst h2
      simp
    · simp [h1, h2]
theorem hf_cmp_ge (x y : Int64) : 0 ≤ lg_cmp x y ↔ y ≤ x := by
  have h := hf_cmp_lt x y
  rw [Int32.lt_iff_toInt_lt, Int64.lt_iff_toInt_lt] at h
  rw [Int32.le_iff_toInt_le, Int64.le_iff_toInt_le]
  omega
theorem hf_cmp_le (x y : Int64) : lg_cmp x y ≤ 0 ↔ x ≤ y := by
  have h := hf_cmp_gt x y
  rw [Int32.lt_iff_toInt_lt, Int64.lt_iff_toInt_lt] at h
  rw [Int32.le_iff_toInt_le, Int64.le_iff_toInt_le]
  omega
theorem hf_lcmp_lt (hexec : p.tables.exec = Jvm.exec) (hb : c.code = cc) {x y : Int64} {off : Int} {tgt : Nat} (hd1 : decode cc pc = .ok (.lcmp, 1)) (hd2 : decode cc (pc + 1) = .ok (.ifCond .lt off, 3)) (ht : ((pc + 1 : Nat) : Int) + off = (tgt : Int)) (kt : x < y → W p l e R s m args below meth c H locs cells slots Q (F0 m tgt ls rest)) (kf : ¬ x < y → W p l e R s m args below meth c H locs cells slots Q (F0 m (pc + 1 + 3) ls rest)) : W p l e R s m args below meth c H locs cells slots Q (F0 m pc ls (.long y :: .long x :: rest)) :=
  W.lcmp hexec hb hd1 (lv_if_lt hexec hb hd2 ht (fun h => kt ((hf_cmp_lt x y).mp h)) (fun h => kf (fun g => h ((hf_cmp_lt x y).mpr g))))
theorem hf_lcmp_gt (hexec : p.tables.exec = Jvm.exec) (hb : c.code = cc) {x y : Int64} {off : Int} {tgt : Nat} (hd1 : decode cc pc = .ok (.lcmp, 1)) (hd2 : decode cc (pc + 1) = .ok (.ifCond .gt off, 3)) (ht : ((pc + 1 : Nat) : Int) + off = (tgt : Int)) (kt : y < x → W p l e R s m args below meth c H locs cells slots Q (F0 m tgt ls rest)) (kf : ¬ y < x → W p l e R s m args below meth c H locs cells slots Q (F0 m (pc + 1 + 3) ls rest)) : W p l e R s m args below meth c H locs cells slots Q (F0 m pc ls (.long y :: .long x :: rest)) :=
  W.lcmp hexec hb hd1 (lv_if_gt hexec hb hd2 ht (fun h => kt ((hf_cmp_gt x y).mp h)) (fun h => kf (fun g => h ((hf_cmp_gt x y).mpr g))))
theorem hf_lcmp_ge (hexec : p.tables.exec = Jvm.exec) (hb : c.code = cc) {x y : Int64} {off : Int} {tgt : Nat} (hd1 : decode cc pc = .ok (.lcmp, 1)) (hd2 : decode cc (pc + 1) = .ok (.ifCond .ge off, 3)) (ht : ((pc + 1 : Nat) : Int) + off = (tgt : Int)) (kt : y ≤ x → W p l e R s m args below meth c H locs cells slots Q (F0 m tgt ls rest)) (kf : ¬ y ≤ x → W p l e R s m args below meth c H locs cells slots Q (F0 m (pc + 1 + 3) ls rest)) : W p l e R s m args below meth c H locs cells slots Q (F0 m pc ls (.long y :: .long x :: rest)) :=
  W.lcmp hexec hb hd1 (lv_if_ge hexec hb hd2 ht (fun h => kt ((hf_cmp_ge x y).mp h)) (fun h => kf (fun g => h ((hf_cmp_ge x y).mpr g))))
theorem hf_lcmp_le (hexec : p.tables.exec = Jvm.exec) (hb : c.code = cc) {x y : Int64} {off : Int} {tgt : Nat} (hd1 : decode cc pc = .ok (.lcmp, 1)) (hd2 : decode cc (pc + 1) = .ok (.ifCond .le off, 3)) (ht : ((pc + 1 : Nat) : Int) + off = (tgt : Int)) (kt : x ≤ y → W p l e R s m args below meth c H locs cells slots Q (F0 m tgt ls rest)) (kf : ¬ x ≤ y → W p l e R s m args below meth c H locs cells slots Q (F0 m (pc + 1 + 3) ls rest)) : W p l e R s m args below meth c H locs cells slots Q (F0 m pc ls (.long y :: .long x :: rest)) :=
  W.lcmp hexec hb hd1 (lv_if_le hexec hb hd2 ht (fun h => kt ((hf_cmp_le x y).mp h)) (fun h => kf (fun g => h ((hf_cmp_le x y).mpr g))))
theorem hf_lcmp_eq (hexec : p.tables.exec = Jvm.exec) (hb : c.code = cc) {x y : Int64} {off : Int} {tgt : Nat} (hd1 : decode cc pc = .ok (.lcmp, 1)) (hd2 : decode cc (pc + 1) = .ok (.ifCond .eq off, 3)) (ht : ((pc + 1 : Nat) : Int) + off = (tgt : Int)) (kt : x = y → W p l e R s m args below meth c H locs cells slots Q (F0 m tgt ls rest)) (kf : ¬ x = y → W p l e R s m args below meth c H locs cells slots Q (F0 m (pc + 1 + 3) ls rest)) : W p l e R s m args below meth c H locs cells slots Q (F0 m pc ls (.long y :: .long x :: rest)) :=
  W.lcmp hexec hb hd1 (lv_if_eq hexec hb hd2 ht (fun h => kt ((hf_cmp_eq x y).mp h)) (fun h => kf (fun g => h ((hf_cmp_eq x y).mpr g))))
theorem hf_lcmp_ne (hexec : p.tables.exec = Jvm.exec) (hb : c.code = cc) {x y : Int64} {off : Int} {tgt : Nat} (hd1 : decode cc pc = .ok (.lcmp, 1)) (hd2 : decode cc (pc + 1) = .ok (.ifCond .ne off, 3)) (ht : ((pc + 1 : Nat) : Int) + off = (tgt : Int)) (kt : ¬ x = y → W p l e R s m args below meth c H locs cells slots Q (F0 m tgt ls rest)) (kf : x = y → W p l e R s m args below meth c H locs cells slots Q (F0 m (pc + 1 + 3) ls rest)) : W p l e R s m args below meth c H locs cells slots Q (F0 m pc ls (.long y :: .long x :: rest)) :=
  W.lcmp hexec hb hd1 (lv_if_ne hexec hb hd2 ht (fun h => kt (fun g => h ((hf_cmp_eq x y).mpr g))) (fun h => kf ((hf_cmp_eq x y).mp h)))
end HFR
/-- a loop by fuel: 'none' is the exit (by a measure, so that it isn't unfolded unasked) -/
def hf_run {σ : Type} (stp : σ → Option σ) (n : Nat) (s : σ) : σ :=
  match n with
  | 0 => s
  | n + 1 => match stp s with
    | none => s
    | some t => hf_run stp n t
termination_by n
theorem hf_run_0 {σ : Type} (stp : σ → Option σ) (s : σ) : hf_run stp 0 s = s := by
  rw [hf_run]
theorem hf_run_none {σ : Type} {stp : σ → Option σ} {s : σ} (h : stp s = none) : ∀ n, hf_run stp n s = s
  | 0 => hf_run_0 stp s
  | n + 1 => by rw [hf_run, h]
theorem hf_run_some {σ : Type} {stp : σ → Option σ} {s t : σ} (h : stp s = some t) (n : Nat) : hf_run stp (n + 1) s = hf_run stp n t := by
  rw [hf_run, h]
theorem hf_loop {σ : Type} (stp : σ → Option σ) (Wh Wx : σ → Prop) (hbody : ∀ s, (stp s = none → Wx s) → (∀ t, stp s = some t → Wh t) → Wh s) :
    ∀ (n : Nat) (s : σ), stp (hf_run stp n s) = none → Wx (hf_run stp n s) → Wh s := by
  intro n
  induction n with
  | zero =>
    intro s h hx
    rw [hf_run_0] at h hx
    have h0 : stp s = none := h
    exact hbody s (fun _ => hx) (fun t ht => by rw [h0] at ht; cases ht)
  | succ n ih =>
    intro s h hx
    refine hbody s (fun h0 => ?_) (fun t ht => ?_)
    · rw [hf_run_none h0] at hx
      exact hx
    · rw [hf_run_some ht] at h hx
      exact ih t h hx
/-- a loop with a measure ends -/
theorem hf_end {σ : Type} (stp : σ → Option σ) (I : Nat → σ → Prop) (h0 : ∀ s, I 0 s → stp s = none) (hs : ∀ n s t, I (n + 1) s → stp s = some t → I n t) :
    ∀ (n : Nat) (s : σ), I n s → stp (hf_run stp n s) = none := by
  intro n
  induction n with
  | zero =>
    intro s h
    rw [hf_run_0]
    exact h0 s h
  | succ n ih =>
    intro s h
    cases e : stp s with
    | none => rw [hf_run_none e]; exact e
    | some t => rw [hf_run_some e]; exact ih t (hs n s t h e)
/-- an invariant of a loop -/
theorem hf_inv {σ : Type} (stp : σ → Option σ) (I : σ → Prop) (hs : ∀ s t, I s → stp s = some t → I t) : ∀ (n : Nat) (s : σ), I s → I (hf_run stp n s) := by
  intro n
  induction n with
  | zero =>
    intro s h
    rw [hf_run_0]
    exact h
  | succ n ih =>
    intro s h
    cases e : stp s with
    | none => rw [hf_run_none e]; exact h
    | some t => rw [hf_run_some e]; exact ih t (hs s t h e)
theorem hf_okI {v w : Int32} {a : Array Value} {s t : State} (h : v = w) (ht : t.heap = s.heap) : k2_QcV (.int w) a s (.returned (some (.int v))) t := ⟨by rw [h], ht⟩
theorem hf_okL {v w : Int64} {a : Array Value} {s t : State} (h : v = w) (ht : t.heap = s.heap) : k2_QcV (.long w) a s (.returned (some (.long v))) t := ⟨by rw [h], ht⟩
theorem hf_ne_i2l {x : Int32} (h : ¬ x = 0) : ¬ x.toInt64 = 0 := by
  intro g
  apply h
  rw [← Int32.toInt_inj]
  have := congrArg Int64.toInt g
  rw [Int32.toInt_toInt64] at this
  exact this
theorem hf_ne_pos {x : Int64} (h : ¬ x ≤ 0) : ¬ x = 0 := by
  intro g
  subst g
  exact h (by decide)
end
section
/-! what the pure methods compute, printed by gen/driver.py -/
/-- HalfFloat.isNumber, as its bytecode computes it -/
def hx_isNumber (a0 : Int32) : Int32 :=
  if (a0 : Int32) < (0 : Int32) then (0)
    else (if (65535 : Int32) < (a0 : Int32) then (0)
      else (if (a0 &&& 31744 : Int32) = (31744 : Int32) then (0)
        else (1)))
/-- HalfFloat.digitsOf, as its bytecode computes it -/
def hx_digitsOf (a0 : Int32) : Int32 :=
  let v1 : Int32 := a0 &&& 1023;
    if (((a0.toUInt32 >>> ((10 : Int32).toUInt32 &&& Int32.toUInt32 31)).toInt32) &&& 31 : Int32) = (0 : Int32) then (v1)
    else (1024 + v1)
/-- HalfFloat.placeOf, as its bytecode computes it -/
def hx_placeOf (a0 : Int32) : Int32 :=
  let v1 : Int32 := ((a0.toUInt32 >>> ((10 : Int32).toUInt32 &&& Int32.toUInt32 31)).toInt32) &&& 31;
    if (v1 : Int32) = (0 : Int32) then (0)
    else (v1 - 1)
/-- HalfFloat.negative, as its bytecode computes it -/
def hx_negative (a0 : Int32) : Int32 :=
  if (a0 : Int32) = (0 : Int32) then (0)
    else (a0 + 32768)
/-- HalfFloat.power, as its bytecode computes it -/
def hx_power_s4 (a0 : Int32) : (Int64 × Int32) → Option (Int64 × Int32) := fun ⟨x4_1, x4_3⟩ =>
  if (a0 : Int32) ≤ (x4_3 : Int32) then (none)
    else (if (12 : Int32) ≤ (x4_3 : Int32) then (none)
      else (let v3 : Int64 := x4_1 * 10;
        let v4 : Int32 := x4_3 + 1;
        some (v3, v4)))
def hx_power (a0 : Int32) : Int64 :=
  let q4 : Int64 × Int32 := hf_run (hx_power_s4 a0) 12 (1, 0);
    let x4_1 : Int64 := q4.1;
    let x4_3 : Int32 := q4.2;
    x4_1
/-- HalfFloat.rootOf, as its bytecode computes it -/
def hx_rootOf_s6 (a0 : Int64) : (Int64 × Int32) → Option (Int64 × Int32) := fun ⟨x6_2, x6_4⟩ =>
  if (x6_4 : Int32) < (0 : Int32) then (none)
    else (let v2 : Int64 := x6_2 + ((1 : Int64) <<< ((x6_4 : Int32).toInt64 &&& 63));
      let v3 : Int64 := (if (a0 : Int64) < (v2 * v2 : Int64) then (x6_2)
        else (v2));
      let v5 : Int32 := x6_4 + (-1);
      some (v3, v5))
def hx_rootOf (a0 : Int64) : Int64 :=
  let q6 : Int64 × Int32 := hf_run (hx_rootOf_s6 a0) 22 (0, 21);
    let x6_2 : Int64 := q6.1;
    let x6_4 : Int32 := q6.2;
    x6_2
/-- HalfFloat.signed, as its bytecode computes it -/
def hx_signed (a0 : Int32) : Int64 :=
  let v1 : Int64 := ((hx_digitsOf a0 : Int32).toInt64 : Int64) <<< (((hx_placeOf a0) + 4 : Int32).toInt64 &&& 63);
    if (a0 : Int32) < (32768 : Int32) then (v1)
    else (-v1)
/-- HalfFloat.round, as its bytecode computes it -/
def hx_round_s5 (a0 : Int64) : (Int32 × Int32) → Option (Int32 × Int32) := fun ⟨x5_3, x5_4⟩ =>
  if (50 : Int32) ≤ (x5_4 : Int32) then (none)
    else (if ((a0 : Int64) >>> ((x5_3 : Int32).toInt64 &&& 63) : Int64) ≤ (2047 : Int64) then (none)
      else (let v3 : Int32 := x5_3 + 1;
        let v4 : Int32 := x5_4 + 1;
        some (v3, v4)))
def hx_round (a0 : Int64) (a1 : Int32) : Int32 :=
  let q5 : Int32 × Int32 := hf_run (hx_round_s5 a0) 50 (4, 0);
    let x5_3 : Int32 := q5.1;
    let x5_4 : Int32 := q5.2;
    let v1 : Int64 := (a0 : Int64) >>> ((x5_3 : Int32).toInt64 &&& 63);
    let v2 : Int64 := a0 - ((v1 : Int64) <<< ((x5_3 : Int32).toInt64 &&& 63));
    let v3 : Int64 := (1 : Int64) <<< ((x5_3 - 1 : Int32).toInt64 &&& 63);
    let v4 : Int32 := (if (v3 : Int64) < (v2 : Int64) then (1)
      else (if (v2 : Int64) = (v3 : Int64) then (if (a1 : Int32) = (0 : Int32) then (if (v1 &&& 1 : Int64) = (0 : Int64) then (0)
            else (1))
          else (1))
        else (0)));
    let v9 : Int32 := (if (v4 : Int32) = (0 : Int32) then (0)
      else (1));
    let v11 : Int64 := ((((x5_3 - 4) <<< (10 &&& 31) : Int32).toInt64) + v1) + ((v9 : Int32).toInt64);
    if (v11 : Int64) ≤ (31744 : Int64) then ((v11 : Int64).toInt32)
    else (31744)
/-- HalfFloat.withSign, as its bytecode computes it -/
def hx_withSign (a0 : Int32) (a1 : Int32) (a2 : Int64) (a3 : Int32) (a4 : Int32) : Int32 :=
  let v1 : Int32 := (if (a3 : Int32) < (0 : Int32) then (let v3 : Int64 := a2 &&& (((1 : Int64) <<< ((-a3 : Int32).toInt64 &&& 63)) - 1);
        let v4 : Int32 := (if (a4 : Int32) = (0 : Int32) then (if (v3 : Int64) = (0 : Int64) then (0)
            else (1))
          else (1));
        let v7 : Int32 := hx_round ((a2 : Int64) >>> ((-a3 : Int32).toInt64 &&& 63)) v4;
        v7)
      else (let v8 : Int32 := (if (a2 : Int64) = (0 : Int64) then (0)
          else (if ((a2 : Int64) >>> ((60 - a3 : Int32).toInt64 &&& 63) : Int64) = (0 : Int64) then (0)
            else (1)));
        let v11 : Int32 := (if (v8 : Int32) = (0 : Int32) then (hx_round ((a2 : Int64) <<< ((a3 : Int32).toInt64 &&& 63)) a4)
          else (31744));
        v11));
    let v13 : Int32 := (if (a0 : Int32) < (32768 : Int32) then (0)
      else (1));
    let v15 : Int32 := (if (a1 : Int32) < (32768 : Int32) then (0)
      else (1));
    if (v13 : Int32) = (v15 : Int32) then (v1)
    else (hx_negative v1)
/-- HalfFloat.isLess, as its bytecode computes it -/
def hx_isLess (a0 : Int64) (a1 : Int32) (a2 : Int64) (a3 : Int32) : Int32 :=
  if (a1 : Int32) < (a3 : Int32) then (if (a2 * (hx_power (a3 - a1)) : Int64) ≤ (a0 : Int64) then (0)
      else (1))
    else (if (a2 : Int64) ≤ (a0 * (hx_power (a1 - a3)) : Int64) then (0)
      else (1))
/-- HalfFloat.add, as its bytecode computes it -/
def hx_add (a0 : Int32) (a1 : Int32) : Int32 :=
  if (hx_isNumber a0 : Int32) = (0 : Int32) then ((-1))
    else (if (hx_isNumber a1 : Int32) = (0 : Int32) then ((-1))
      else (let v3 : Int64 := (hx_signed a0) + (hx_signed a1);
        let v4 : Int64 := (if (0 : Int64) ≤ (v3 : Int64) then (v3)
          else (-v3));
        let v6 : Int32 := hx_round v4 0;
        if (0 : Int64) ≤ (v3 : Int64) then (v6)
        else (hx_negative v6)))
/-- HalfFloat.multiply, as its bytecode computes it -/
def hx_multiply (a0 : Int32) (a1 : Int32) : Int32 :=
  if (hx_isNumber a0 : Int32) = (0 : Int32) then ((-1))
    else (if (hx_isNumber a1 : Int32) = (0 : Int32) then ((-1))
      else (let v3 : Int64 := ((hx_digitsOf a0 : Int32).toInt64) * ((hx_digitsOf a1 : Int32).toInt64);
        let v4 : Int32 := ((hx_placeOf a0) + (hx_placeOf a1)) - 20;
        hx_withSign a0 a1 v3 v4 0))
/-- HalfFloat.divide, as its bytecode computes it -/
def hx_divide (a0 : Int32) (a1 : Int32) : Int32 :=
  if (hx_isNumber a0 : Int32) = (0 : Int32) then ((-1))
    else (if (hx_isNumber a1 : Int32) = (0 : Int32) then ((-1))
      else (if (hx_digitsOf a1 : Int32) = (0 : Int32) then ((-1))
        else (let v4 : Int64 := ((hx_digitsOf a0 : Int32).toInt64 : Int64) <<< ((26 : Int32).toInt64 &&& 63);
          let v5 : Int64 := v4 / ((hx_digitsOf a1 : Int32).toInt64);
          let v6 : Int32 := (if (v4 - v4 / ((hx_digitsOf a1 : Int32).toInt64) * ((hx_digitsOf a1 : Int32).toInt64) : Int64) = (0 : Int64) then (0)
            else (1));
          let v8 : Int32 := ((hx_placeOf a0) - (hx_placeOf a1)) + 2;
          hx_withSign a0 a1 v5 v8 v6)))
/-- HalfFloat.root, as its bytecode computes it -/
def hx_root (a0 : Int32) : Int32 :=
  if (hx_isNumber a0 : Int32) = (0 : Int32) then ((-1))
    else (if (a0 : Int32) < (32768 : Int32) then (let v3 : Int32 := (if ((hx_placeOf a0) &&& 1 : Int32) = (0 : Int32) then (30)
          else (31));
        let v5 : Int64 := ((hx_digitsOf a0 : Int32).toInt64 : Int64) <<< ((v3 : Int32).toInt64 &&& 63);
        let v6 : Int64 := hx_rootOf v5;
        let v7 : Int32 := (((hx_placeOf a0) + 32) - v3) / 2;
        let v8 : Int32 := (if (v6 * v6 : Int64) = (v5 : Int64) then (0)
          else (1));
        hx_round ((v6 : Int64) <<< ((v7 : Int32).toInt64 &&& 63)) v8)
      else (if (hx_digitsOf a0 : Int32) = (0 : Int32) then (let v11 : Int32 := (if ((hx_placeOf a0) &&& 1 : Int32) = (0 : Int32) then (30)
            else (31));
          let v13 : Int64 := ((hx_digitsOf a0 : Int32).toInt64 : Int64) <<< ((v11 : Int32).toInt64 &&& 63);
          let v14 : Int64 := hx_rootOf v13;
          let v15 : Int32 := (((hx_placeOf a0) + 32) - v11) / 2;
          let v16 : Int32 := (if (v14 * v14 : Int64) = (v13 : Int64) then (0)
            else (1));
          hx_round ((v14 : Int64) <<< ((v15 : Int32).toInt64 &&& 63)) v16)
        else ((-1))))
/-- HalfFloat.parse, as its bytecode computes it -/
def hx_parse (a0 : Int32) (a1 : Int32) : Int32 :=
  if (a0 : Int32) < (0 : Int32) then ((-1))
    else (if (999999 : Int32) < (a0 : Int32) then ((-1))
      else (if (a1 : Int32) < ((-12) : Int32) then ((-1))
        else (if (a1 : Int32) ≤ (12 : Int32) then (if (0 : Int32) ≤ (a1 : Int32) then (let v6 : Int64 := ((a0 : Int32).toInt64) * (hx_power a1);
              if (v6 : Int64) < (65520 : Int64) then (hx_round ((v6 : Int64) <<< ((28 : Int32).toInt64 &&& 63)) 0)
              else (31744))
            else (let v8 : Int64 := hx_power (-a1);
              let v9 : Int64 := ((a0 : Int32).toInt64 : Int64) <<< ((28 : Int32).toInt64 &&& 63);
              let v10 : Int32 := (if (v9 - v9 / v8 * v8 : Int64) = (0 : Int64) then (0)
                else (1));
              hx_round (v9 / v8) v10))
          else ((-1)))))
/-- HalfFloat.compare, as its bytecode computes it -/
def hx_compare (a0 : Int32) (a1 : Int32) : Int32 :=
  if (hx_isNumber a0 : Int32) = (0 : Int32) then ((-1))
    else (if (hx_isNumber a1 : Int32) = (0 : Int32) then ((-1))
      else (let v3 : Int64 := (hx_signed a0) - (hx_signed a1);
        if (0 : Int64) ≤ (v3 : Int64) then (if (v3 : Int64) = (0 : Int64) then (2)
          else (3))
        else (1)))
/-- HalfFloat.floor, as its bytecode computes it -/
def hx_floor (a0 : Int32) : Int32 :=
  if (hx_isNumber a0 : Int32) = (0 : Int32) then (100000)
    else (((hx_signed a0 : Int64) >>> ((28 : Int32).toInt64 &&& 63) : Int64).toInt32)
/-- HalfFloatModel.bad, as its bytecode computes it -/
def hm_bad (a0 : Int32) : Int32 :=
  if (a0 : Int32) < (0 : Int32) then (1)
    else (if (65535 : Int32) < (a0 : Int32) then (1)
      else (if ((a0 / 1024) - (a0 / 1024) / 32 * 32 : Int32) = (31 : Int32) then (1)
        else (0)))
/-- HalfFloatModel.digitsOf, as its bytecode computes it -/
def hm_digitsOf (a0 : Int32) : Int64 :=
  if ((a0 / 1024) - (a0 / 1024) / 32 * 32 : Int32) = (0 : Int32) then ((a0 - a0 / 1024 * 1024 : Int32).toInt64)
    else ((1024 + (a0 - a0 / 1024 * 1024) : Int32).toInt64)
/-- HalfFloatModel.shiftOf, as its bytecode computes it -/
def hm_shiftOf (a0 : Int32) : Int32 :=
  let v1 : Int32 := (a0 / 1024) - (a0 / 1024) / 32 * 32;
    if (v1 : Int32) = (0 : Int32) then (0)
    else (v1 - 1)
/-- HalfFloatModel.amount, as its bytecode computes it -/
def hm_amount (a0 : Int32) : Int64 :=
  let v1 : Int32 := a0 &&& 32767;
    if (v1 : Int32) = (31744 : Int32) then (1099511627776)
    else ((hm_digitsOf v1 : Int64) <<< ((hm_shiftOf v1 : Int32).toInt64 &&& 63))
/-- HalfFloatModel.signed, as its bytecode computes it -/
def hm_signed (a0 : Int32) : Int64 :=
  if (a0 : Int32) < (32768 : Int32) then (hm_amount a0)
    else (-(hm_amount a0))
/-- HalfFloatModel.nearest, as its bytecode computes it -/
def hm_nearest_s54 (v1 : Int64) : (Int32 × Int32) → Option (Int32 × Int32) := fun ⟨x54_8, x54_9⟩ =>
  if (x54_9 : Int32) ≤ (x54_8 : Int32) then (none)
    else (let v7 : Int32 := ((x54_8 + x54_9) + 1) / 2;
      if (v1 : Int64) < (hm_amount v7 : Int64) then (let v9 : Int32 := v7 - 1;
        some (x54_8, v9))
      else (some (v7, x54_9)))
def hm_nearest (a0 : Int64) (a1 : Int64) : Int32 :=
  let v1 : Int64 := (if (a1 : Int64) ≤ (0 : Int64) then (0)
      else (a0 / a1));
    let v3 : Int64 := (if (a1 : Int64) ≤ (0 : Int64) then (0)
      else (a0 - a0 / a1 * a1));
    if (v1 : Int64) < (hm_amount 31744 : Int64) then (let q54 : Int32 × Int32 := hf_run (hm_nearest_s54 v1) 16 (0, 31743);
      let x54_8 : Int32 := q54.1;
      let x54_9 : Int32 := q54.2;
      let v6 : Int64 := (hm_amount (x54_8 + 1)) - (hm_amount x54_8);
      let v7 : Int64 := ((2 * (v1 - (hm_amount x54_8))) * a1) + (2 * v3);
      if (v7 : Int64) = (v6 * a1 : Int64) then (if (x54_8 - x54_8 / 2 * 2 : Int32) = (0 : Int32) then (x54_8)
        else (x54_8 + 1))
      else (if (v7 : Int64) ≤ (v6 * a1 : Int64) then (x54_8)
        else (x54_8 + 1)))
    else (31744)
/-- HalfFloatModel.withSign, as its bytecode computes it -/
def hm_withSign (a0 : Int32) (a1 : Int32) : Int32 :=
  if (a1 : Int32) = (0 : Int32) then (a0)
    else (if (a0 : Int32) ≤ (0 : Int32) then (a0)
      else (a0 + 32768))
/-- HalfFloatModel.add, as its bytecode computes it -/
def hm_add (a0 : Int32) (a1 : Int32) : Int32 :=
  if (hm_bad a0 : Int32) = (0 : Int32) then (if (hm_bad a1 : Int32) = (0 : Int32) then (let v3 : Int64 := (hm_signed a0) + (hm_signed a1);
        let v4 : Int64 := (if (0 : Int64) ≤ (v3 : Int64) then (v3)
          else (-v3));
        let v6 : Int32 := hm_nearest v4 1;
        let v7 : Int32 := (if (0 : Int64) ≤ (v3 : Int64) then (0)
          else (1));
        hm_withSign v6 v7)
      else ((-1)))
    else ((-1))
/-- HalfFloatModel.multiply, as its bytecode computes it -/
def hm_multiply (a0 : Int32) (a1 : Int32) : Int32 :=
  if (hm_bad a0 : Int32) = (0 : Int32) then (if (hm_bad a1 : Int32) = (0 : Int32) then (let v3 : Int64 := (hm_digitsOf a0) * (hm_digitsOf a1);
        let v4 : Int32 := ((hm_shiftOf a0) + (hm_shiftOf a1)) - 24;
        let v5 : Int32 := (if (v4 : Int32) < (0 : Int32) then (hm_nearest v3 ((1 : Int64) <<< ((-v4 : Int32).toInt64 &&& 63)))
          else (hm_nearest ((v3 : Int64) <<< ((v4 : Int32).toInt64 &&& 63)) 1));
        let v7 : Int32 := (if (a0 : Int32) < (32768 : Int32) then (0)
          else (1));
        let v9 : Int32 := (if (a1 : Int32) < (32768 : Int32) then (0)
          else (1));
        let v11 : Int32 := (if (v7 : Int32) = (v9 : Int32) then (0)
          else (1));
        hm_withSign v5 v11)
      else ((-1)))
    else ((-1))
/-- HalfFloatModel.divide, as its bytecode computes it -/
def hm_divide (a0 : Int32) (a1 : Int32) : Int32 :=
  if (hm_bad a0 : Int32) = (0 : Int32) then (if (hm_bad a1 : Int32) = (0 : Int32) then (if (hm_digitsOf a1 : Int64) = (0 : Int64) then ((-1))
        else (let v4 : Int32 := ((hm_shiftOf a0) - (hm_shiftOf a1)) + 24;
          let v5 : Int32 := (if (a0 : Int32) < (32768 : Int32) then (0)
            else (1));
          let v7 : Int32 := (if (a1 : Int32) < (32768 : Int32) then (0)
            else (1));
          let v9 : Int32 := (if (v5 : Int32) = (v7 : Int32) then (0)
            else (1));
          let v11 : Int64 := hm_digitsOf a0;
          let v12 : Int64 := hm_digitsOf a1;
          let v13 : Int32 := (if (v11 : Int64) = (0 : Int64) then (0)
            else (if (45 : Int32) < (v4 : Int32) then (31744)
              else (let v16 : Int32 := (if (v4 : Int32) < (0 : Int32) then (hm_nearest v11 ((v12 : Int64) <<< ((-v4 : Int32).toInt64 &&& 63)))
                  else (hm_nearest ((v11 : Int64) <<< ((v4 : Int32).toInt64 &&& 63)) v12));
                v16)));
          hm_withSign v13 v9))
      else ((-1)))
    else ((-1))
/-- HalfFloatModel.rootOf, as its bytecode computes it -/
def hm_rootOf_s7 (a0 : Int64) : (Int64 × Int64) → Option (Int64 × Int64) := fun ⟨x7_2, x7_4⟩ =>
  if (x7_4 : Int64) ≤ (x7_2 : Int64) then (none)
    else (let v2 : Int64 := ((x7_2 + x7_4) + 1) / 2;
      if (a0 : Int64) < (v2 * v2 : Int64) then (let v4 : Int64 := v2 - 1;
        some (x7_2, v4))
      else (some (v2, x7_4)))
def hm_rootOf (a0 : Int64) : Int64 :=
  let q7 : Int64 × Int64 := hf_run (hm_rootOf_s7 a0) 32 (0, 2147483648);
    let x7_2 : Int64 := q7.1;
    let x7_4 : Int64 := q7.2;
    x7_2
/-- HalfFloatModel.root, as its bytecode computes it -/
def hm_root (a0 : Int32) : Int32 :=
  if (hm_bad a0 : Int32) = (0 : Int32) then (if (a0 : Int32) ≤ (32768 : Int32) then (let v3 : Int32 := (hm_shiftOf a0) + 24;
        let v4 : Int64 := (if (v3 - v3 / 2 * 2 : Int32) = (0 : Int32) then (hm_digitsOf a0)
          else (2 * (hm_digitsOf a0)));
        let v6 : Int64 := (v4 : Int64) <<< ((28 : Int32).toInt64 &&& 63);
        let v7 : Int64 := hm_rootOf v6;
        let v8 : Int32 := (if (v7 * v7 : Int64) = (v6 : Int64) then (0)
          else (1));
        let v10 : Int64 := (2 * v7) + ((v8 : Int32).toInt64);
        let v11 : Int32 := (v3 / 2) - 15;
        if (v11 : Int32) < (0 : Int32) then (hm_nearest v10 ((1 : Int64) <<< ((-v11 : Int32).toInt64 &&& 63)))
        else (hm_nearest ((v10 : Int64) <<< ((v11 : Int32).toInt64 &&& 63)) 1))
      else ((-1)))
    else ((-1))
/-- HalfFloatModel.power, as its bytecode computes it -/
def hm_power_s4 (a0 : Int32) : (Int64 × Int32) → Option (Int64 × Int32) := fun ⟨x4_1, x4_3⟩ =>
  if (a0 : Int32) ≤ (x4_3 : Int32) then (none)
    else (let v2 : Int64 := 10 * x4_1;
      let v3 : Int32 := x4_3 + 1;
      some (v2, v3))
def hm_power (a0 : Int32) : Int64 :=
  let q4 : Int64 × Int32 := hf_run (hm_power_s4 a0) a0.toNatClampNeg (1, 0);
    let x4_1 : Int64 := q4.1;
    let x4_3 : Int32 := q4.2;
    x4_1
/-- HalfFloatModel.parsed, as its bytecode computes it -/
def hm_parsed_s24 (a1 : Int32) : (Int64 × Int32) → Option (Int64 × Int32) := fun ⟨x24_3, x24_5⟩ =>
  if (a1 : Int32) ≤ (x24_5 : Int32) then (none)
    else (if (100000 : Int64) ≤ (x24_3 : Int64) then (none)
      else (let v4 : Int64 := 10 * x24_3;
        let v5 : Int32 := x24_5 + 1;
        some (v4, v5)))
def hm_parsed (a0 : Int64) (a1 : Int32) : Int32 :=
  if (0 : Int32) ≤ (a1 : Int32) then (let q24 : Int64 × Int32 := hf_run (hm_parsed_s24 a1) a1.toNatClampNeg (a0, 0);
      let x24_3 : Int64 := q24.1;
      let x24_5 : Int32 := q24.2;
      let v2 : Int64 := (if (100000 : Int64) ≤ (x24_3 : Int64) then (1099511627776)
        else ((x24_3 : Int64) <<< ((24 : Int32).toInt64 &&& 63)));
      hm_nearest v2 1)
    else (let v8 : Int64 := hm_power (-a1);
      hm_nearest ((a0 : Int64) <<< ((24 : Int32).toInt64 &&& 63)) v8)
/-- HalfFloatModel.parse, as its bytecode computes it -/
def hm_parse (a0 : Int32) (a1 : Int32) : Int32 :=
  if (a0 : Int32) < (0 : Int32) then ((-1))
    else (if (999999 : Int32) < (a0 : Int32) then ((-1))
      else (if (a1 : Int32) < ((-12) : Int32) then ((-1))
        else (if (a1 : Int32) ≤ (12 : Int32) then (hm_parsed ((a0 : Int32).toInt64) a1)
          else ((-1)))))
/-- HalfFloatModel.length, as its bytecode computes it -/
def hm_length_s2 (a0 : Int64) : Int32 → Option (Int32) := fun x2_2 =>
  if (18 : Int32) ≤ (x2_2 : Int32) then (none)
    else (if (a0 : Int64) < (hm_power x2_2 : Int64) then (none)
      else (let v3 : Int32 := x2_2 + 1;
        some v3))
def hm_length (a0 : Int64) : Int32 :=
  let q2 : Int32 := hf_run (hm_length_s2 a0) 18 1;
    let x2_2 : Int32 := q2;
    x2_2
/-- HalfFloatModel.far, as its bytecode computes it -/
def hm_far (a0 : Int64) (a1 : Int32) (a2 : Int32) (a3 : Int64) : Int64 :=
  let v1 : Int64 := ((a0 * (hm_power (a1 + a2)) : Int64) <<< ((24 : Int32).toInt64 &&& 63)) - (a3 * (hm_power a2));
    if (0 : Int64) ≤ (v1 : Int64) then (v1)
    else (-v1)
/-- HalfFloatModel.nearer, as its bytecode computes it -/
def hm_nearer (a0 : Int64) (a1 : Int32) (a2 : Int64) (a3 : Int32) (a4 : Int64) : Int32 :=
  let v1 : Int32 := (if (a3 : Int32) ≤ (a1 : Int32) then (a3)
      else (a1));
    let v3 : Int32 := (if (0 : Int32) ≤ (v1 : Int32) then (0)
      else (-v1));
    let v5 : Int64 := hm_far a0 a1 v3 a4;
    let v6 : Int64 := hm_far a2 a3 v3 a4;
    if (v5 : Int64) = (v6 : Int64) then (if (a2 * (hm_power (a3 + v3)) : Int64) ≤ (a0 * (hm_power (a1 + v3)) : Int64) then (0)
      else (1))
    else (if (v6 : Int64) ≤ (v5 : Int64) then (0)
      else (1))
/-- HalfFloatModel.compare, as its bytecode computes it -/
def hm_compare (a0 : Int32) (a1 : Int32) : Int32 :=
  if (hm_bad a0 : Int32) = (0 : Int32) then (if (hm_bad a1 : Int32) = (0 : Int32) then (let v3 : Int64 := hm_signed a0;
        let v4 : Int64 := hm_signed a1;
        if (v4 : Int64) ≤ (v3 : Int64) then (if (v3 : Int64) = (v4 : Int64) then (2)
          else (3))
        else (1))
      else ((-1)))
    else ((-1))
/-- HalfFloatModel.floor, as its bytecode computes it -/
def hm_floor (a0 : Int32) : Int32 :=
  if (hm_bad a0 : Int32) = (0 : Int32) then (((hm_signed a0 : Int64) >>> ((24 : Int32).toInt64 &&& 63) : Int64).toInt32)
    else (100000)
end
section
/-! the loops end within their fuel -/
theorem hf_add1 {k : Int32} (h : k.toInt < 2147483647) : (k + 1).toInt = k.toInt + 1 := by
  rw [Int32.toInt_add, show (1 : Int32).toInt = 1 from rfl]
  have := k.le_toInt
  exact Int.bmod_eq_of_le_mul_two (by omega) (by omega)
theorem hf_subm1 {k : Int32} (h : -2147483648 < k.toInt) : (k + (-1)).toInt = k.toInt - 1 := by
  rw [Int32.toInt_add, show (-1 : Int32).toInt = -1 from rfl]
  have := k.toInt_lt
  exact Int.bmod_eq_of_le_mul_two (by omega) (by omega)
theorem hx_power_end (a0 : Int32) : hx_power_s4 a0 (hf_run (hx_power_s4 a0) 12 (1, 0)) = none := by
  refine hf_end (hx_power_s4 a0) (fun n q => 0 ≤ q.2.toInt ∧ q.2.toInt ≤ 12 ∧ 12 ≤ q.2.toInt + n) ?_ ?_ 12 (1, 0) (by decide)
  · rintro ⟨x, k⟩ ⟨h1, h2, h3⟩
    have h : (12 : Int32) ≤ k := by
      rw [Int32.le_iff_toInt_le, show (12 : Int32).toInt = 12 from rfl]
      simpa using h3
    simp [hx_power_s4, h]
  · rintro n ⟨x, k⟩ ⟨y, j⟩ ⟨h1, h2, h3⟩ h
    unfold hx_power_s4 at h
    by_cases c1 : a0 ≤ k
    · simp [c1] at h
    · by_cases c2 : (12 : Int32) ≤ k
      · simp [c1, c2] at h
      · simp only [c1, c2, if_false] at h
        cases h
        rw [Int32.le_iff_toInt_le, show (12 : Int32).toInt = 12 from rfl] at c2
        have e1 := hf_add1 (k := k) (by omega)
        simp only [e1] at *
        omega
theorem hx_rootOf_end (a0 : Int64) : hx_rootOf_s6 a0 (hf_run (hx_rootOf_s6 a0) 22 (0, 21)) = none := by
  refine hf_end (hx_rootOf_s6 a0) (fun n q => -1 ≤ q.2.toInt ∧ q.2.toInt + 1 ≤ n ∧ n ≤ 22) ?_ ?_ 22 (0, 21) (by decide)
  · rintro ⟨x, k⟩ ⟨h1, h2, h3⟩
    have h : k < (0 : Int32) := by
      rw [Int32.lt_iff_toInt_lt, show (0 : Int32).toInt = 0 from rfl]
      simp only at h2
      omega
    simp [hx_rootOf_s6, h]
  · rintro n ⟨x, k⟩ ⟨y, j⟩ ⟨h1, h2, h3⟩ h
    unfold hx_rootOf_s6 at h
    by_cases c1 : k < (0 : Int32)
    · simp [c1] at h
    · simp only [c1, if_false] at h
      cases h
      rw [Int32.lt_iff_toInt_lt, show (0 : Int32).toInt = 0 from rfl] at c1
      have e1 := hf_subm1 (k := k) (by omega)
      simp only [e1] at *
      omega
theorem hx_round_end (a0 : Int64) : hx_round_s5 a0 (hf_run (hx_round_s5 a0) 50 (4, 0)) = none := by
  refine hf_end (hx_round_s5 a0) (fun n q => 0 ≤ q.2.toInt ∧ q.2.toInt ≤ 50 ∧ 50 ≤ q.2.toInt + n) ?_ ?_ 50 (4, 0) (by decide)
  · rintro ⟨x, k⟩ ⟨h1, h2, h3⟩
    have h : (50 : Int32) ≤ k := by
      rw [Int32.le_iff_toInt_le, show (50 : Int32).toInt = 50 from rfl]
      simpa using h3
    simp [hx_round_s5, h]
  · rintro n ⟨x, k⟩ ⟨y, j⟩ ⟨h1, h2, h3⟩ h
    unfold hx_round_s5 at h
    by_cases c1 : (50 : Int32) ≤ k
    · simp [c1] at h
    · by_cases c2 : (a0 : Int64) >>> ((x : Int32).toInt64 &&& 63) ≤ (2047 : Int64)
      · simp [c1, c2] at h
      · simp only [c1, c2, if_false] at h
        cases h
        rw [Int32.le_iff_toInt_le, show (50 : Int32).toInt = 50 from rfl] at c1
        have e1 := hf_add1 (k := k) (by omega)
        simp only [e1] at *
        omega
theorem hx_power_form (a0 : Int32) : ∃ j : Nat, j ≤ 12 ∧ hx_power a0 = lN (10 ^ j) := by
  have h := hf_inv (hx_power_s4 a0) (fun q => ∃ j : Nat, j ≤ 12 ∧ q = (lN (10 ^ j), nI j)) (by
    rintro q t ⟨j, hj, rfl⟩ h
    simp only [hx_power_s4] at h
    by_cases c1 : a0 ≤ nI j
    · simp [c1] at h
    · by_cases c2 : (12 : Int32) ≤ nI j
      · simp [c1, c2] at h
      · simp only [c1, c2, if_false] at h
        rw [show (12 : Int32) = nI 12 from rfl, nI_leI (by omega) (by omega)] at c2
        refine ⟨j + 1, by omega, ?_⟩
        rw [← Option.some.inj h, nI_1, show (10 : Int64) = lN 10 from rfl, lN_mul, Nat.pow_succ]) 12 (1, 0) ⟨0, by decide, rfl⟩
  obtain ⟨j, hj, e⟩ := h
  refine ⟨j, hj, ?_⟩
  simp only [hx_power]
  rw [e]
theorem hx_power_ne (a0 : Int32) : ¬ hx_power a0 = 0 := by
  obtain ⟨j, hj, e⟩ := hx_power_form a0
  rw [e, show (0 : Int64) = lN 0 from rfl, pk_lEQ (Nat.lt_of_le_of_lt (Nat.pow_le_pow_right (by decide) hj) (by decide)) (by decide)]
  exact Nat.ne_of_gt (Nat.pow_pos (by decide))
theorem hm_nearest_end (a0 : Int64) : hm_nearest_s54 a0 (hf_run (hm_nearest_s54 a0) 16 (0, 31743)) = none := by
  refine hf_end (hm_nearest_s54 a0) (fun n q => ∃ a b : Nat, a ≤ b ∧ b ≤ 31743 ∧ b - a < 2 ^ n ∧ q = (nI a, nI b)) ?_ ?_ 16 (0, 31743) ⟨0, 31743, by decide, by decide, by decide, rfl⟩
  · rintro q ⟨a, b, h1, h2, h3, rfl⟩
    have h : nI b ≤ nI a := nI_le (by simp at h3; omega) (by omega)
    simp [hm_nearest_s54, h]
  · rintro n q t ⟨a, b, h1, h2, h3, rfl⟩ h
    have hm : (nI a + nI b + 1) / 2 = nI ((a + b + 1) / 2) := by rw [nI_add, nI_1, show (2 : Int32) = nI 2 from rfl, pk_div (by omega) (by decide) (by decide)]
    have hp : 2 ^ (n + 1) = 2 * 2 ^ n := by rw [Nat.pow_succ]; omega
    simp only [hm_nearest_s54, hm] at h
    by_cases c1 : nI b ≤ nI a
    · simp [c1] at h
    · have c1' : a < b := by
        rw [nI_leI (by omega) (by omega)] at c1
        omega
      simp only [c1, if_false] at h
      by_cases c2 : a0 < hm_amount (nI ((a + b + 1) / 2))
      · simp only [c2, if_true] at h
        refine ⟨a, (a + b + 1) / 2 - 1, by omega, by omega, by omega, ?_⟩
        rw [← Option.some.inj h, show (1 : Int32) = nI 1 from rfl, pk_sub (by omega)]
      · simp only [c2, if_false] at h
        exact ⟨(a + b + 1) / 2, b, by omega, by omega, by omega, (Option.some.inj h).symm⟩
theorem hm_rootOf_end (a0 : Int64) : hm_rootOf_s7 a0 (hf_run (hm_rootOf_s7 a0) 32 (0, 2147483648)) = none := by
  refine hf_end (hm_rootOf_s7 a0) (fun n q => ∃ a b : Nat, a ≤ b ∧ b ≤ 2147483648 ∧ b - a < 2 ^ n ∧ q = (lN a, lN b)) ?_ ?_ 32 (0, 2147483648) ⟨0, 2147483648, by decide, by decide, by decide, rfl⟩
  · rintro q ⟨a, b, h1, h2, h3, rfl⟩
    have h : lN b ≤ lN a := (pk_lLE (by omega) (by omega)).mpr (by simp at h3; omega)
    simp [hm_rootOf_s7, h]
  · rintro n q t ⟨a, b, h1, h2, h3, rfl⟩ h
    have hm : (lN a + lN b + 1) / 2 = lN ((a + b + 1) / 2) := by rw [lN_add, lN_1, show (2 : Int64) = lN 2 from rfl, pk_lDiv (by omega) (by decide) (by decide)]
    have hp : 2 ^ (n + 1) = 2 * 2 ^ n := by rw [Nat.pow_succ]; omega
    simp only [hm_rootOf_s7, hm] at h
    by_cases c1 : lN b ≤ lN a
    · simp [c1] at h
    · have c1' : a < b := by
        rw [pk_lLE (by omega) (by omega)] at c1
        omega
      simp only [c1, if_false] at h
      by_cases c2 : a0 < lN ((a + b + 1) / 2) * lN ((a + b + 1) / 2)
      · simp only [c2, if_true] at h
        refine ⟨a, (a + b + 1) / 2 - 1, by omega, by omega, by omega, ?_⟩
        rw [← Option.some.inj h, show (1 : Int64) = lN 1 from rfl, lN_sub (by omega)]
      · simp only [c2, if_false] at h
        exact ⟨(a + b + 1) / 2, b, by omega, by omega, by omega, (Option.some.inj h).symm⟩
theorem hm_power_end (a0 : Int32) : hm_power_s4 a0 (hf_run (hm_power_s4 a0) a0.toNatClampNeg (1, 0)) = none := by
  by_cases c0 : a0 < 0
  · have h : hm_power_s4 a0 (1, 0) = none := by
      have h1 : a0 ≤ 0 := by
        rw [Int32.lt_iff_toInt_lt] at c0
        rw [Int32.le_iff_toInt_le]
        omega
      simp [hm_power_s4, h1]
    rw [hf_run_none h]
    exact h
  · obtain ⟨N, hN, rfl⟩ := nI_of c0
    rw [nI_clamp hN]
    refine hf_end (hm_power_s4 (nI N)) (fun n q => ∃ k : Nat, k + n = N ∧ q.2 = nI k) ?_ ?_ N (1, 0) ⟨0, by omega, rfl⟩
    · rintro ⟨x, j⟩ ⟨k, h1, h2⟩
      have h3 : j = nI N := by rw [show k = N by omega] at h2; exact h2
      have h4 : nI N ≤ j := by rw [h3]; exact nI_le (Nat.le_refl _) hN
      simp [hm_power_s4, h4]
    · rintro n ⟨x, j⟩ t ⟨k, h1, h2⟩ h
      simp only at h2
      simp only [hm_power_s4] at h
      by_cases c1 : nI N ≤ j
      · simp [c1] at h
      · simp only [c1, if_false] at h
        refine ⟨k + 1, by omega, ?_⟩
        rw [← Option.some.inj h, h2, nI_1]
theorem hm_parsed_end (a1 : Int32) (a0 : Int64) : hm_parsed_s24 a1 (hf_run (hm_parsed_s24 a1) a1.toNatClampNeg (a0, 0)) = none := by
  by_cases c0 : a1 < 0
  · have h : hm_parsed_s24 a1 (a0, 0) = none := by
      have h1 : a1 ≤ 0 := by
        rw [Int32.lt_iff_toInt_lt] at c0
        rw [Int32.le_iff_toInt_le]
        omega
      simp [hm_parsed_s24, h1]
    rw [hf_run_none h]
    exact h
  · obtain ⟨N, hN, rfl⟩ := nI_of c0
    rw [nI_clamp hN]
    refine hf_end (hm_parsed_s24 (nI N)) (fun n q => ∃ k : Nat, k + n = N ∧ q.2 = nI k) ?_ ?_ N (a0, 0) ⟨0, by omega, rfl⟩
    · rintro ⟨x, j⟩ ⟨k, h1, h2⟩
      have h3 : j = nI N := by rw [show k = N by omega] at h2; exact h2
      have h4 : nI N ≤ j := by rw [h3]; exact nI_le (Nat.le_refl _) hN
      simp [hm_parsed_s24, h4]
    · rintro n ⟨x, j⟩ t ⟨k, h1, h2⟩ h
      simp only at h2
      simp only [hm_parsed_s24] at h
      by_cases c1 : nI N ≤ j
      · simp [c1] at h
      · by_cases c2 : (100000 : Int64) ≤ x
        · simp [c1, c2] at h
        · simp only [c1, c2, if_false] at h
          refine ⟨k + 1, by omega, ?_⟩
          rw [← Option.some.inj h, h2, nI_1]
theorem hm_length_end (a0 : Int64) : hm_length_s2 a0 (hf_run (hm_length_s2 a0) 18 1) = none := by
  refine hf_end (hm_length_s2 a0) (fun n q => ∃ k : Nat, k ≤ 18 ∧ 18 ≤ k + n ∧ q = nI k) ?_ ?_ 18 1 ⟨1, by decide, by decide, rfl⟩
  · rintro q ⟨k, h1, h2, rfl⟩
    have h : (18 : Int32) ≤ nI k := nI_le (a := 18) (by omega) (by omega)
    simp [hm_length_s2, h]
  · rintro n q t ⟨k, h1, h2, rfl⟩ h
    simp only [hm_length_s2] at h
    by_cases c1 : (18 : Int32) ≤ nI k
    · simp [c1] at h
    · by_cases c2 : a0 < hm_power (nI k)
      · simp [c1, c2] at h
      · simp only [c1, c2, if_false] at h
        rw [show (18 : Int32) = nI 18 from rfl, nI_leI (by omega) (by omega)] at c1
        refine ⟨k + 1, by omega, by omega, ?_⟩
        rw [← Option.some.inj h, nI_1]
end
section
set_option maxHeartbeats 400000 in
set_option maxRecDepth 100000 in
theorem met_X0_isNumber (l : Launch) (a0 : Int32) : Met l yX0_isNumber (ws_ yX0_isNumber cX0_isNumber 1 (some .boolean)) ({ frames := 0, cells := 0, slots := 0, locals := 0 } : Room) (fun v _ => v = ([.int a0] : List Value).toArray) (k2_QcV (.int (hx_isNumber a0))) 0 0 (fun _ => False) := by
  refine Met.ofW (cc := cX0_isNumber) (maxL := 1) (ret := some .boolean) (by decide) rfl ?_
  intro p e s m args below meth c s₁ B hml hv
  subst hv
  have hx := B.exec
  have hb := B.bytes
  have hr := B.returns
  have hts := atoms_spec (ws := (ws_ yX0_isNumber cX0_isNumber 1 (some .boolean))) B.pre
  have hts : ∀ w ∈ lw_all, w.before _ s = true := fun w h => hts w (List.mem_cons_of_mem _ h)
  have hown : s.vm.findClass RX0 = some m.cls := findClass_of_methodNamed B.named
  have hlocks := B.notSynchronized
  have hl := lv_entry ([.int a0]) (n := 1) (Nat.le_of_ble_eq_true rfl)
  rw [lg_entry_eq]
  generalize (lg_sl ([.int a0]) ++ List.replicate (1 - (lg_sl ([.int a0])).length) Slot.unset).toArray = ls at hl ⊢
  have hl : lv_has ls 1 [(0, .int a0)] := hl
  refine lv_iload_n hx hb dX0_isNumber_0 rfl (lv_at hl 0 rfl) ?_
  refine lv_if_lt (tgt := 25) hx hb dX0_isNumber_1 (by decide) (fun c1 => ?_) (fun c1 => ?_)
  · skip
    refine lv_iconst (v := 0) hx hb dX0_isNumber_25 (by decide) ?_
    exact W.zret hx hb hr (rfl) (fun t ht hW => hf_okI (by simp only [hx_isNumber, if_pos c1]) ht) (fun q h => by cases h) dX0_isNumber_26
  · skip
    refine lv_iload_n hx hb dX0_isNumber_4 rfl (lv_at hl 0 rfl) ?_
    refine lv_ldc (v := 65535) hx hb hown (hts _ q52) dX0_isNumber_5 ?_
    refine lv_icmp_gt (tgt := 25) hx hb dX0_isNumber_7 (by decide) (fun c2 => ?_) (fun c2 => ?_)
    · skip
      refine lv_iconst (v := 0) hx hb dX0_isNumber_25 (by decide) ?_
      exact W.zret hx hb hr (rfl) (fun t ht hW => hf_okI (by simp only [hx_isNumber, if_neg c1, if_pos c2]) ht) (fun q h => by cases h) dX0_isNumber_26
    · skip
      refine lv_iload_n hx hb dX0_isNumber_10 rfl (lv_at hl 0 rfl) ?_
      refine lv_sipush (v := 31744) hx hb dX0_isNumber_11 (by decide) ?_
      refine lv_iand hx hb dX0_isNumber_14 ?_
      refine lv_sipush (v := 31744) hx hb dX0_isNumber_15 (by decide) ?_
      refine lv_icmp_eq (tgt := 25) hx hb dX0_isNumber_18 (by decide) (fun c3 => ?_) (fun c3 => ?_)
      · skip
        refine lv_iconst (v := 0) hx hb dX0_isNumber_25 (by decide) ?_
        exact W.zret hx hb hr (rfl) (fun t ht hW => hf_okI (by simp only [hx_isNumber, if_neg c1, if_neg c2, if_pos c3]) ht) (fun q h => by cases h) dX0_isNumber_26
      · skip
        refine lv_iconst (v := 1) hx hb dX0_isNumber_21 (by decide) ?_
        refine lv_goto (tgt := 26) hx hb dX0_isNumber_22 (by decide) ?_
        exact W.zret hx hb hr (rfl) (fun t ht hW => hf_okI (by simp only [hx_isNumber, if_neg c1, if_neg c2, if_neg c3]) ht) (fun q h => by cases h) dX0_isNumber_26
set_option maxHeartbeats 400000 in
set_option maxRecDepth 100000 in
theorem met_X0_digitsOf (l : Launch) (a0 : Int32) : Met l yX0_digitsOf (ws_ yX0_digitsOf cX0_digitsOf 2 (some .int)) ({ frames := 0, cells := 0, slots := 0, locals := 0 } : Room) (fun v _ => v = ([.int a0] : List Value).toArray) (k2_QcV (.int (hx_digitsOf a0))) 0 0 (fun _ => False) := by
  refine Met.ofW (cc := cX0_digitsOf) (maxL := 2) (ret := some .int) (by decide) rfl ?_
  intro p e s m args below meth c s₁ B hml hv
  subst hv
  have hx := B.exec
  have hb := B.bytes
  have hr := B.returns
  have hts := atoms_spec (ws := (ws_ yX0_digitsOf cX0_digitsOf 2 (some .int))) B.pre
  have hts : ∀ w ∈ lw_all, w.before _ s = true := fun w h => hts w (List.mem_cons_of_mem _ h)
  have hown : s.vm.findClass RX0 = some m.cls := findClass_of_methodNamed B.named
  have hlocks := B.notSynchronized
  have hl := lv_entry ([.int a0]) (n := 2) (Nat.le_of_ble_eq_true rfl)
  rw [lg_entry_eq]
  generalize (lg_sl ([.int a0]) ++ List.replicate (2 - (lg_sl ([.int a0])).length) Slot.unset).toArray = ls at hl ⊢
  have hl : lv_has ls 2 [(0, .int a0)] := hl
  refine lv_iload_n hx hb dX0_digitsOf_0 rfl (lv_at hl 0 rfl) ?_
  refine lv_sipush (v := 1023) hx hb dX0_digitsOf_1 (by decide) ?_
  refine lv_iand hx hb dX0_digitsOf_4 ?_
  refine lv_topi (fun v1 ev1 => ?_)
  refine lv_istore_n (lv' := [(1, .int v1), (0, .int a0)]) hx hb dX0_digitsOf_5 rfl hl (by decide) rfl (fun ls hl => ?_)
  refine lv_iload_n hx hb dX0_digitsOf_6 rfl (lv_at hl 1 rfl) ?_
  refine lv_bipush (v := 10) hx hb dX0_digitsOf_7 (by decide) ?_
  refine lv_iushr hx hb dX0_digitsOf_9 rfl ?_
  refine lv_bipush (v := 31) hx hb dX0_digitsOf_10 (by decide) ?_
  refine lv_iand hx hb dX0_digitsOf_12 ?_
  refine lv_if_ne (tgt := 20) hx hb dX0_digitsOf_13 (by decide) (fun c2 => ?_) (fun c2 => ?_)
  · skip
    refine lv_sipush (v := 1024) hx hb dX0_digitsOf_20 (by decide) ?_
    refine lv_iload_n hx hb dX0_digitsOf_23 rfl (lv_at hl 0 rfl) ?_
    refine lv_iadd hx hb dX0_digitsOf_24 ?_
    exact W.iret hx hb hr (fun t ht hW => hf_okI (by have hh := ev1.symm; subst hh; simp only [hx_digitsOf, if_neg c2]) ht) (fun q h => by cases h) dX0_digitsOf_25
  · skip
    refine lv_iload_n hx hb dX0_digitsOf_16 rfl (lv_at hl 0 rfl) ?_
    refine lv_goto (tgt := 25) hx hb dX0_digitsOf_17 (by decide) ?_
    exact W.iret hx hb hr (fun t ht hW => hf_okI (by have hh := ev1.symm; subst hh; simp only [hx_digitsOf, if_pos c2]) ht) (fun q h => by cases h) dX0_digitsOf_25
set_option maxHeartbeats 400000 in
set_option maxRecDepth 100000 in
theorem met_X0_placeOf (l : Launch) (a0 : Int32) : Met l yX0_placeOf (ws_ yX0_placeOf cX0_placeOf 2 (some .int)) ({ frames := 0, cells := 0, slots := 0, locals := 0 } : Room) (fun v _ => v = ([.int a0] : List Value).toArray) (k2_QcV (.int (hx_placeOf a0))) 0 0 (fun _ => False) := by
  refine Met.ofW (cc := cX0_placeOf) (maxL := 2) (ret := some .int) (by decide) rfl ?_
  intro p e s m args below meth c s₁ B hml hv
  subst hv
  have hx := B.exec
  have hb := B.bytes
  have hr := B.returns
  have hts := atoms_spec (ws := (ws_ yX0_placeOf cX0_placeOf 2 (some .int))) B.pre
  have hts : ∀ w ∈ lw_all, w.before _ s = true := fun w h => hts w (List.mem_cons_of_mem _ h)
  have hown : s.vm.findClass RX0 = some m.cls := findClass_of_methodNamed B.named
  have hlocks := B.notSynchronized
  have hl := lv_entry ([.int a0]) (n := 2) (Nat.le_of_ble_eq_true rfl)
  rw [lg_entry_eq]
  generalize (lg_sl ([.int a0]) ++ List.replicate (2 - (lg_sl ([.int a0])).length) Slot.unset).toArray = ls at hl ⊢
  have hl : lv_has ls 2 [(0, .int a0)] := hl
  refine lv_iload_n hx hb dX0_placeOf_0 rfl (lv_at hl 0 rfl) ?_
  refine lv_bipush (v := 10) hx hb dX0_placeOf_1 (by decide) ?_
  refine lv_iushr hx hb dX0_placeOf_3 rfl ?_
  refine lv_bipush (v := 31) hx hb dX0_placeOf_4 (by decide) ?_
  refine lv_iand hx hb dX0_placeOf_6 ?_
  refine lv_topi (fun v1 ev1 => ?_)
  refine lv_istore_n (lv' := [(1, .int v1), (0, .int a0)]) hx hb dX0_placeOf_7 rfl hl (by decide) rfl (fun ls hl => ?_)
  refine lv_iload_n hx hb dX0_placeOf_8 rfl (lv_at hl 0 rfl) ?_
  refine lv_if_ne (tgt := 16) hx hb dX0_placeOf_9 (by decide) (fun c2 => ?_) (fun c2 => ?_)
  · skip
    refine lv_iload_n hx hb dX0_placeOf_16 rfl (lv_at hl 0 rfl) ?_
    refine lv_iconst (v := 1) hx hb dX0_placeOf_17 (by decide) ?_
    refine lv_isub hx hb dX0_placeOf_18 ?_
    exact W.iret hx hb hr (fun t ht hW => hf_okI (by have hh := ev1.symm; subst hh; simp only [hx_placeOf, if_neg c2]) ht) (fun q h => by cases h) dX0_placeOf_19
  · skip
    refine lv_iconst (v := 0) hx hb dX0_placeOf_12 (by decide) ?_
    refine lv_goto (tgt := 19) hx hb dX0_placeOf_13 (by decide) ?_
    exact W.iret hx hb hr (fun t ht hW => hf_okI (by have hh := ev1.symm; subst hh; simp only [hx_placeOf, if_pos c2]) ht) (fun q h => by cases h) dX0_placeOf_19
set_option maxHeartbeats 400000 in
set_option maxRecDepth 100000 in
theorem met_X0_negative (l : Launch) (a0 : Int32) : Met l yX0_negative (ws_ yX0_negative cX0_negative 1 (some .int)) ({ frames := 0, cells := 0, slots := 0, locals := 0 } : Room) (fun v _ => v = ([.int a0] : List Value).toArray) (k2_QcV (.int (hx_negative a0))) 0 0 (fun _ => False) := by
  refine Met.ofW (cc := cX0_negative) (maxL := 1) (ret := some .int) (by decide) rfl ?_
  intro p e s m args below meth c s₁ B hml hv
  subst hv
  have hx := B.exec
  have hb := B.bytes
  have hr := B.returns
  have hts := atoms_spec (ws := (ws_ yX0_negative cX0_negative 1 (some .int))) B.pre
  have hts : ∀ w ∈ lw_all, w.before _ s = true := fun w h => hts w (List.mem_cons_of_mem _ h)
  have hown : s.vm.findClass RX0 = some m.cls := findClass_of_methodNamed B.named
  have hlocks := B.notSynchronized
  have hl := lv_entry ([.int a0]) (n := 1) (Nat.le_of_ble_eq_true rfl)
  rw [lg_entry_eq]
  generalize (lg_sl ([.int a0]) ++ List.replicate (1 - (lg_sl ([.int a0])).length) Slot.unset).toArray = ls at hl ⊢
  have hl : lv_has ls 1 [(0, .int a0)] := hl
  refine lv_iload_n hx hb dX0_negative_0 rfl (lv_at hl 0 rfl) ?_
  refine lv_if_ne (tgt := 8) hx hb dX0_negative_1 (by decide) (fun c1 => ?_) (fun c1 => ?_)
  · skip
    refine lv_iload_n hx hb dX0_negative_8 rfl (lv_at hl 0 rfl) ?_
    refine lv_ldc (v := 32768) hx hb hown (hts _ q62) dX0_negative_9 ?_
    refine lv_iadd hx hb dX0_negative_11 ?_
    exact W.iret hx hb hr (fun t ht hW => hf_okI (by simp only [hx_negative, if_neg c1]) ht) (fun q h => by cases h) dX0_negative_12
  · skip
    refine lv_iconst (v := 0) hx hb dX0_negative_4 (by decide) ?_
    refine lv_goto (tgt := 12) hx hb dX0_negative_5 (by decide) ?_
    exact W.iret hx hb hr (fun t ht hW => hf_okI (by simp only [hx_negative, if_pos c1]) ht) (fun q h => by cases h) dX0_negative_12
set_option maxHeartbeats 400000 in
set_option maxRecDepth 100000 in
theorem met_X0_power (l : Launch) (a0 : Int32) : Met l yX0_power (ws_ yX0_power cX0_power 4 (some .long)) ({ frames := 0, cells := 0, slots := 0, locals := 0 } : Room) (fun v _ => v = ([.int a0] : List Value).toArray) (k2_QcV (.long (hx_power a0))) 0 0 (fun _ => False) := by
  refine Met.ofW (cc := cX0_power) (maxL := 4) (ret := some .long) (by decide) rfl ?_
  intro p e s m args below meth c s₁ B hml hv
  subst hv
  have hx := B.exec
  have hb := B.bytes
  have hr := B.returns
  have hts := atoms_spec (ws := (ws_ yX0_power cX0_power 4 (some .long))) B.pre
  have hts : ∀ w ∈ lw_all, w.before _ s = true := fun w h => hts w (List.mem_cons_of_mem _ h)
  have hown : s.vm.findClass RX0 = some m.cls := findClass_of_methodNamed B.named
  have hlocks := B.notSynchronized
  have hl := lv_entry ([.int a0]) (n := 4) (Nat.le_of_ble_eq_true rfl)
  rw [lg_entry_eq]
  generalize (lg_sl ([.int a0]) ++ List.replicate (4 - (lg_sl ([.int a0])).length) Slot.unset).toArray = ls at hl ⊢
  have hl : lv_has ls 4 [(0, .int a0)] := hl
  refine lv_lconst (v := 1) hx hb dX0_power_0 (by decide) ?_
  refine lv_lstore_n (lv' := [(1, .long 1), (0, .int a0)]) hx hb dX0_power_1 rfl hl (by decide) rfl (fun ls hl => ?_)
  refine lv_iconst (v := 0) hx hb dX0_power_2 (by decide) ?_
  refine lv_istore_n (lv' := [(3, .int 0), (1, .long 1), (0, .int a0)]) hx hb dX0_power_3 rfl hl (by decide) rfl (fun ls hl => ?_)
  have X4 : ∀ q4 : Int64 × Int32, q4 = hf_run (hx_power_s4 a0) 12 (1, 0) → ∀ ls : Array Slot, lv_has ls 4 [(1, .long q4.1), (3, .int q4.2), (0, .int a0)] → (W p l e (headSpec (ws_ yX0_power cX0_power 4 (some .long)) ({ frames := 0, cells := 0, slots := 0, locals := 0 } : Room)).room s m ([.int a0] : List Value).toArray below meth c s.heap [] 0 0 (MQ below (k2_QcV (.long (hx_power a0))) ([.int a0] : List Value).toArray s 0 0 (fun _ => False))) (F0 m 27 ls []) := by
    intro q4 eq4 ls hl
    obtain ⟨x4_1, ex4_1⟩ : ∃ y : Int64, y = q4.1 := ⟨_, rfl⟩
    obtain ⟨x4_3, ex4_3⟩ : ∃ y : Int32, y = q4.2 := ⟨_, rfl⟩
    rw [← ex4_1, ← ex4_3] at hl
    refine lv_lload_n hx hb dX0_power_27 rfl (lv_at hl 0 rfl) ?_
    exact W.lret hx hb hr (fun t ht hW => hf_okL (by have hh := eq4.symm; subst hh; have hh := ex4_1.symm; subst hh; have hh := ex4_3.symm; subst hh; simp only [hx_power]) ht) (fun q h => by cases h) dX0_power_28
  refine hf_loop (hx_power_s4 a0) (fun q => ∀ ls : Array Slot, lv_has ls 4 [(1, .long q.1), (3, .int q.2), (0, .int a0)] → (W p l e (headSpec (ws_ yX0_power cX0_power 4 (some .long)) ({ frames := 0, cells := 0, slots := 0, locals := 0 } : Room)).room s m ([.int a0] : List Value).toArray below meth c s.heap [] 0 0 (MQ below (k2_QcV (.long (hx_power a0))) ([.int a0] : List Value).toArray s 0 0 (fun _ => False))) (F0 m 4 ls [])) (fun q => ∀ ls : Array Slot, lv_has ls 4 [(1, .long q.1), (3, .int q.2), (0, .int a0)] → (W p l e (headSpec (ws_ yX0_power cX0_power 4 (some .long)) ({ frames := 0, cells := 0, slots := 0, locals := 0 } : Room)).room s m ([.int a0] : List Value).toArray below meth c s.heap [] 0 0 (MQ below (k2_QcV (.long (hx_power a0))) ([.int a0] : List Value).toArray s 0 0 (fun _ => False))) (F0 m 27 ls [])) ?_ 12 (1, 0) (hx_power_end _) (X4 _ rfl) ls (lv_sub hl [1, 0, 2] rfl)
  rintro ⟨x4_1, x4_3⟩ hno hgo ls hl
  have hl : lv_has ls 4 [(1, .long x4_1), (3, .int x4_3), (0, .int a0)] := hl
  refine lv_iload_n hx hb dX0_power_4 rfl (lv_at hl 1 rfl) ?_
  refine lv_iload_n hx hb dX0_power_5 rfl (lv_at hl 2 rfl) ?_
  refine lv_icmp_ge (tgt := 27) hx hb dX0_power_6 (by decide) (fun c1 => ?_) (fun c1 => ?_)
  · skip
    exact hno (by simp only [hx_power_s4, if_pos c1]) ls (lv_sub hl [0, 1, 2] rfl)
  · skip
    refine lv_iload_n hx hb dX0_power_9 rfl (lv_at hl 1 rfl) ?_
    refine lv_bipush (v := 12) hx hb dX0_power_10 (by decide) ?_
    refine lv_icmp_ge (tgt := 27) hx hb dX0_power_12 (by decide) (fun c2 => ?_) (fun c2 => ?_)
    · skip
      exact hno (by simp only [hx_power_s4, if_neg c1, if_pos c2]) ls (lv_sub hl [0, 1, 2] rfl)
    · skip
      refine lv_lload_n hx hb dX0_power_15 rfl (lv_at hl 0 rfl) ?_
      refine lv_ldc2 (v := 10) hx hb hown (hts _ q97) dX0_power_16 ?_
      refine lv_lmul hx hb dX0_power_19 ?_
      refine lv_topl (fun v3 ev3 => ?_)
      refine lv_lstore_n (lv' := [(1, .long v3), (3, .int x4_3), (0, .int a0)]) hx hb dX0_power_20 rfl hl (by decide) rfl (fun ls hl => ?_)
      obtain ⟨v4, ev4⟩ : ∃ y : Int32, y = x4_3 + 1 := ⟨_, rfl⟩
      refine lv_iinc (v := v4) (lv' := [(3, .int v4), (1, .long v3), (0, .int a0)]) hx hb dX0_power_21 hl (k := 1) rfl (by rw [ev4]; rfl) (by decide) rfl (fun ls hl => ?_)
      refine lv_goto (tgt := 4) hx hb dX0_power_24 (by decide) ?_
      exact hgo (v3, v4) (by have hh := ev3.symm; subst hh; have hh := ev4.symm; subst hh; simp only [hx_power_s4, if_neg c1, if_neg c2]) ls (lv_sub hl [1, 0, 2] rfl)
set_option maxHeartbeats 400000 in
set_option maxRecDepth 100000 in
theorem met_X0_rootOf (l : Launch) (a0 : Int64) : Met l yX0_rootOf (ws_ yX0_rootOf cX0_rootOf 7 (some .long)) ({ frames := 0, cells := 0, slots := 0, locals := 0 } : Room) (fun v _ => v = ([.long a0] : List Value).toArray) (k2_QcV (.long (hx_rootOf a0))) 0 0 (fun _ => False) := by
  refine Met.ofW (cc := cX0_rootOf) (maxL := 7) (ret := some .long) (by decide) rfl ?_
  intro p e s m args below meth c s₁ B hml hv
  subst hv
  have hx := B.exec
  have hb := B.bytes
  have hr := B.returns
  have hts := atoms_spec (ws := (ws_ yX0_rootOf cX0_rootOf 7 (some .long))) B.pre
  have hts : ∀ w ∈ lw_all, w.before _ s = true := fun w h => hts w (List.mem_cons_of_mem _ h)
  have hown : s.vm.findClass RX0 = some m.cls := findClass_of_methodNamed B.named
  have hlocks := B.notSynchronized
  have hl := lv_entry ([.long a0]) (n := 7) (Nat.le_of_ble_eq_true rfl)
  rw [lg_entry_eq]
  generalize (lg_sl ([.long a0]) ++ List.replicate (7 - (lg_sl ([.long a0])).length) Slot.unset).toArray = ls at hl ⊢
  have hl : lv_has ls 7 [(0, .long a0)] := hl
  refine lv_lconst (v := 0) hx hb dX0_rootOf_0 (by decide) ?_
  refine lv_lstore_n (lv' := [(2, .long 0), (0, .long a0)]) hx hb dX0_rootOf_1 rfl hl (by decide) rfl (fun ls hl => ?_)
  refine lv_bipush (v := 21) hx hb dX0_rootOf_2 (by decide) ?_
  refine lv_istore (lv' := [(4, .int 21), (2, .long 0), (0, .long a0)]) hx hb dX0_rootOf_4 hl (by decide) rfl (fun ls hl => ?_)
  have X6 : ∀ q6 : Int64 × Int32, q6 = hf_run (hx_rootOf_s6 a0) 22 (0, 21) → ∀ ls : Array Slot, lv_has ls 7 [(2, .long q6.1), (4, .int q6.2), (0, .long a0)] → (W p l e (headSpec (ws_ yX0_rootOf cX0_rootOf 7 (some .long)) ({ frames := 0, cells := 0, slots := 0, locals := 0 } : Room)).room s m ([.long a0] : List Value).toArray below meth c s.heap [] 0 0 (MQ below (k2_QcV (.long (hx_rootOf a0))) ([.long a0] : List Value).toArray s 0 0 (fun _ => False))) (F0 m 42 ls []) := by
    intro q6 eq6 ls hl
    obtain ⟨x6_2, ex6_2⟩ : ∃ y : Int64, y = q6.1 := ⟨_, rfl⟩
    obtain ⟨x6_4, ex6_4⟩ : ∃ y : Int32, y = q6.2 := ⟨_, rfl⟩
    rw [← ex6_2, ← ex6_4] at hl
    refine lv_lload_n hx hb dX0_rootOf_42 rfl (lv_at hl 0 rfl) ?_
    exact W.lret hx hb hr (fun t ht hW => hf_okL (by have hh := eq6.symm; subst hh; have hh := ex6_2.symm; subst hh; have hh := ex6_4.symm; subst hh; simp only [hx_rootOf]) ht) (fun q h => by cases h) dX0_rootOf_43
  refine hf_loop (hx_rootOf_s6 a0) (fun q => ∀ ls : Array Slot, lv_has ls 7 [(2, .long q.1), (4, .int q.2), (0, .long a0)] → (W p l e (headSpec (ws_ yX0_rootOf cX0_rootOf 7 (some .long)) ({ frames := 0, cells := 0, slots := 0, locals := 0 } : Room)).room s m ([.long a0] : List Value).toArray below meth c s.heap [] 0 0 (MQ below (k2_QcV (.long (hx_rootOf a0))) ([.long a0] : List Value).toArray s 0 0 (fun _ => False))) (F0 m 6 ls [])) (fun q => ∀ ls : Array Slot, lv_has ls 7 [(2, .long q.1), (4, .int q.2), (0, .long a0)] → (W p l e (headSpec (ws_ yX0_rootOf cX0_rootOf 7 (some .long)) ({ frames := 0, cells := 0, slots := 0, locals := 0 } : Room)).room s m ([.long a0] : List Value).toArray below meth c s.heap [] 0 0 (MQ below (k2_QcV (.long (hx_rootOf a0))) ([.long a0] : List Value).toArray s 0 0 (fun _ => False))) (F0 m 42 ls [])) ?_ 22 (0, 21) (hx_rootOf_end _) (X6 _ rfl) ls (lv_sub hl [1, 0, 2] rfl)
  rintro ⟨x6_2, x6_4⟩ hno hgo ls hl
  have hl : lv_has ls 7 [(2, .long x6_2), (4, .int x6_4), (0, .long a0)] := hl
  refine lv_iload hx hb dX0_rootOf_6 (lv_at hl 1 rfl) ?_
  refine lv_if_lt (tgt := 42) hx hb dX0_rootOf_8 (by decide) (fun c1 => ?_) (fun c1 => ?_)
  · skip
    exact hno (by simp only [hx_rootOf_s6, if_pos c1]) ls (lv_sub hl [0, 1, 2] rfl)
  · skip
    refine lv_lload_n hx hb dX0_rootOf_11 rfl (lv_at hl 0 rfl) ?_
    refine lv_lconst (v := 1) hx hb dX0_rootOf_12 (by decide) ?_
    refine lv_iload hx hb dX0_rootOf_13 (lv_at hl 1 rfl) ?_
    refine lv_lshl hx hb dX0_rootOf_15 rfl ?_
    refine lv_ladd hx hb dX0_rootOf_16 ?_
    refine lv_topl (fun v2 ev2 => ?_)
    refine lv_lstore (lv' := [(5, .long v2), (2, .long x6_2), (4, .int x6_4), (0, .long a0)]) hx hb dX0_rootOf_17 hl (by decide) rfl (fun ls hl => ?_)
    refine lv_lload hx hb dX0_rootOf_19 (lv_at hl 0 rfl) ?_
    refine lv_lload hx hb dX0_rootOf_21 (lv_at hl 0 rfl) ?_
    refine lv_lmul hx hb dX0_rootOf_23 ?_
    refine lv_lload_n hx hb dX0_rootOf_24 rfl (lv_at hl 3 rfl) ?_
    have J35 : ∀ (v3 : Int64), v3 = (if (a0 : Int64) < (v2 * v2 : Int64) then (x6_2)
  else (v2)) → ∀ ls : Array Slot, lv_has ls 7 [(5, .long v2), (2, .long x6_2), (4, .int x6_4), (0, .long a0)] → (W p l e (headSpec (ws_ yX0_rootOf cX0_rootOf 7 (some .long)) ({ frames := 0, cells := 0, slots := 0, locals := 0 } : Room)).room s m ([.long a0] : List Value).toArray below meth c s.heap [] 0 0 (MQ below (k2_QcV (.long (hx_rootOf a0))) ([.long a0] : List Value).toArray s 0 0 (fun _ => False))) (F0 m 35 ls [.long v3]) := by
      intro v3 ev3 ls hl
      refine lv_lstore_n (lv' := [(2, .long v3), (5, .long v2), (4, .int x6_4), (0, .long a0)]) hx hb dX0_rootOf_35 rfl hl (by decide) rfl (fun ls hl => ?_)
      obtain ⟨v5, ev5⟩ : ∃ y : Int32, y = x6_4 + (-1) := ⟨_, rfl⟩
      refine lv_iinc (v := v5) (lv' := [(4, .int v5), (2, .long v3), (5, .long v2), (0, .long a0)]) hx hb dX0_rootOf_36 hl (k := 2) rfl (by rw [ev5]; rfl) (by decide) rfl (fun ls hl => ?_)
      refine lv_goto (tgt := 6) hx hb dX0_rootOf_39 (by decide) ?_
      exact hgo (v3, v5) (by have hh := ev2.symm; subst hh; have hh := ev3.symm; subst hh; have hh := ev5.symm; subst hh; simp only [hx_rootOf_s6, if_neg c1]) ls (lv_sub hl [1, 0, 3] rfl)
    refine hf_lcmp_gt (tgt := 34) hx hb dX0_rootOf_25 dX0_rootOf_26 (by decide) (fun c4 => ?_) (fun c4 => ?_)
    · skip
      refine lv_lload_n hx hb dX0_rootOf_34 rfl (lv_at hl 1 rfl) ?_
      exact J35 _ (by simp only [if_pos c4]) ls hl
    · skip
      refine lv_lload hx hb dX0_rootOf_29 (lv_at hl 0 rfl) ?_
      refine lv_goto (tgt := 35) hx hb dX0_rootOf_31 (by decide) ?_
      exact J35 _ (by simp only [if_neg c4]) ls hl
set_option maxHeartbeats 400000 in
set_option maxRecDepth 100000 in
theorem met_X0_signed (l : Launch) (a0 : Int32) : Met l yX0_signed (ws_ yX0_signed cX0_signed 3 (some .long)) ({ frames := 1, cells := 0, slots := 0, locals := 21 } : Room) (fun v _ => v = ([.int a0] : List Value).toArray) (k2_QcV (.long (hx_signed a0))) 0 0 (fun _ => False) := by
  refine Met.ofW (cc := cX0_signed) (maxL := 3) (ret := some .long) (by decide) rfl ?_
  intro p e s m args below meth c s₁ B hml hv
  subst hv
  have hx := B.exec
  have hb := B.bytes
  have hr := B.returns
  have hts := atoms_spec (ws := (ws_ yX0_signed cX0_signed 3 (some .long))) B.pre
  have hts : ∀ w ∈ lw_all, w.before _ s = true := fun w h => hts w (List.mem_cons_of_mem _ h)
  have hown : s.vm.findClass RX0 = some m.cls := findClass_of_methodNamed B.named
  have hlocks := B.notSynchronized
  have hl := lv_entry ([.int a0]) (n := 3) (Nat.le_of_ble_eq_true rfl)
  rw [lg_entry_eq]
  generalize (lg_sl ([.int a0]) ++ List.replicate (3 - (lg_sl ([.int a0])).length) Slot.unset).toArray = ls at hl ⊢
  have hl : lv_has ls 3 [(0, .int a0)] := hl
  refine lv_iload_n hx hb dX0_signed_0 rfl (lv_at hl 0 rfl) ?_
  refine W.callV (r := .int (hx_digitsOf a0)) (W.runS (As := [.int a0]) (rest := []) ⟨hx, hb, hml, hown, hts⟩ (met_X0_digitsOf l a0) (va_cwS 1 hts (lw_S q56 q57 q7 q58) rfl rfl rfl (by decide +kernel) ⟨Nat.le_of_ble_eq_true rfl, Nat.le_of_ble_eq_true rfl⟩) preEq rfl rfl hl.1 rfl (lv_room (Nat.le_of_ble_eq_true rfl)) dX0_signed_1 ⟨Nat.le_of_ble_eq_true rfl, Nat.le_of_ble_eq_true rfl⟩) ?_
  refine W.eq (g2 := F0 m 4 ls [.int (hx_digitsOf a0)]) rfl ?_
  refine lv_i2l hx hb dX0_signed_4 rfl ?_
  refine lv_iload_n hx hb dX0_signed_5 rfl (lv_at hl 0 rfl) ?_
  refine W.callV (r := .int (hx_placeOf a0)) (W.runS (As := [.int a0]) (rest := [.long ((hx_digitsOf a0 : Int32).toInt64)]) ⟨hx, hb, hml, hown, hts⟩ (met_X0_placeOf l a0) (va_cwS 1 hts (lw_S q59 q60 q7 q61) rfl rfl rfl (by decide +kernel) ⟨Nat.le_of_ble_eq_true rfl, Nat.le_of_ble_eq_true rfl⟩) preEq rfl rfl hl.1 rfl (lv_room (Nat.le_of_ble_eq_true rfl)) dX0_signed_6 ⟨Nat.le_of_ble_eq_true rfl, Nat.le_of_ble_eq_true rfl⟩) ?_
  refine W.eq (g2 := F0 m 9 ls [.int (hx_placeOf a0), .long ((hx_digitsOf a0 : Int32).toInt64)]) rfl ?_
  refine lv_iconst (v := 4) hx hb dX0_signed_9 (by decide) ?_
  refine lv_iadd hx hb dX0_signed_10 ?_
  refine lv_lshl hx hb dX0_signed_11 rfl ?_
  refine lv_topl (fun v1 ev1 => ?_)
  refine lv_lstore_n (lv' := [(1, .long v1), (0, .int a0)]) hx hb dX0_signed_12 rfl hl (by decide) rfl (fun ls hl => ?_)
  refine lv_iload_n hx hb dX0_signed_13 rfl (lv_at hl 1 rfl) ?_
  refine lv_ldc (v := 32768) hx hb hown (hts _ q62) dX0_signed_14 ?_
  refine lv_icmp_lt (tgt := 24) hx hb dX0_signed_16 (by decide) (fun c2 => ?_) (fun c2 => ?_)
  · skip
    refine lv_lload_n hx hb dX0_signed_24 rfl (lv_at hl 0 rfl) ?_
    exact W.lret hx hb hr (fun t ht hW => hf_okL (by have hh := ev1.symm; subst hh; simp only [hx_signed, if_pos c2]) ht) (fun q h => by cases h) dX0_signed_25
  · skip
    refine lv_lload_n hx hb dX0_signed_19 rfl (lv_at hl 0 rfl) ?_
    refine lv_lneg hx hb dX0_signed_20 ?_
    refine lv_goto (tgt := 25) hx hb dX0_signed_21 (by decide) ?_
    exact W.lret hx hb hr (fun t ht hW => hf_okL (by have hh := ev1.symm; subst hh; simp only [hx_signed, if_neg c2]) ht) (fun q h => by cases h) dX0_signed_25
set_option maxHeartbeats 400000 in
set_option maxRecDepth 100000 in
theorem met_X0_round (l : Launch) (a0 : Int64) (a1 : Int32) : Met l yX0_round (ws_ yX0_round cX0_round 13 (some .int)) ({ frames := 0, cells := 0, slots := 0, locals := 0 } : Room) (fun v _ => v = ([.long a0, .int a1] : List Value).toArray) (k2_QcV (.int (hx_round a0 a1))) 0 0 (fun _ => False) := by
  refine Met.ofW (cc := cX0_round) (maxL := 13) (ret := some .int) (by decide) rfl ?_
  intro p e s m args below meth c s₁ B hml hv
  subst hv
  have hx := B.exec
  have hb := B.bytes
  have hr := B.returns
  have hts := atoms_spec (ws := (ws_ yX0_round cX0_round 13 (some .int))) B.pre
  have hts : ∀ w ∈ lw_all, w.before _ s = true := fun w h => hts w (List.mem_cons_of_mem _ h)
  have hown : s.vm.findClass RX0 = some m.cls := findClass_of_methodNamed B.named
  have hlocks := B.notSynchronized
  have hl := lv_entry ([.long a0, .int a1]) (n := 13) (Nat.le_of_ble_eq_true rfl)
  rw [lg_entry_eq]
  generalize (lg_sl ([.long a0, .int a1]) ++ List.replicate (13 - (lg_sl ([.long a0, .int a1])).length) Slot.unset).toArray = ls at hl ⊢
  have hl : lv_has ls 13 [(0, .long a0), (2, .int a1)] := hl
  refine lv_iconst (v := 4) hx hb dX0_round_0 (by decide) ?_
  refine lv_istore_n (lv' := [(3, .int 4), (0, .long a0), (2, .int a1)]) hx hb dX0_round_1 rfl hl (by decide) rfl (fun ls hl => ?_)
  refine lv_iconst (v := 0) hx hb dX0_round_2 (by decide) ?_
  refine lv_istore (lv' := [(4, .int 0), (3, .int 4), (0, .long a0), (2, .int a1)]) hx hb dX0_round_3 hl (by decide) rfl (fun ls hl => ?_)
  have X5 : ∀ q5 : Int32 × Int32, q5 = hf_run (hx_round_s5 a0) 50 (4, 0) → ∀ ls : Array Slot, lv_has ls 13 [(3, .int q5.1), (4, .int q5.2), (0, .long a0), (2, .int a1)] → (W p l e (headSpec (ws_ yX0_round cX0_round 13 (some .int)) ({ frames := 0, cells := 0, slots := 0, locals := 0 } : Room)).room s m ([.long a0, .int a1] : List Value).toArray below meth c s.heap [] 0 0 (MQ below (k2_QcV (.int (hx_round a0 a1))) ([.long a0, .int a1] : List Value).toArray s 0 0 (fun _ => False))) (F0 m 31 ls []) := by
    intro q5 eq5 ls hl
    obtain ⟨x5_3, ex5_3⟩ : ∃ y : Int32, y = q5.1 := ⟨_, rfl⟩
    obtain ⟨x5_4, ex5_4⟩ : ∃ y : Int32, y = q5.2 := ⟨_, rfl⟩
    rw [← ex5_3, ← ex5_4] at hl
    refine lv_lload_n hx hb dX0_round_31 rfl (lv_at hl 2 rfl) ?_
    refine lv_iload_n hx hb dX0_round_32 rfl (lv_at hl 0 rfl) ?_
    refine lv_lshr hx hb dX0_round_33 rfl ?_
    refine lv_topl (fun v1 ev1 => ?_)
    refine lv_lstore (lv' := [(4, .long v1), (3, .int x5_3), (0, .long a0), (2, .int a1)]) hx hb dX0_round_34 hl (by decide) rfl (fun ls hl => ?_)
    refine lv_lload_n hx hb dX0_round_36 rfl (lv_at hl 2 rfl) ?_
    refine lv_lload hx hb dX0_round_37 (lv_at hl 0 rfl) ?_
    refine lv_iload_n hx hb dX0_round_39 rfl (lv_at hl 1 rfl) ?_
    refine lv_lshl hx hb dX0_round_40 rfl ?_
    refine lv_lsub hx hb dX0_round_41 ?_
    refine lv_topl (fun v2 ev2 => ?_)
    refine lv_lstore (lv' := [(6, .long v2), (4, .long v1), (3, .int x5_3), (0, .long a0), (2, .int a1)]) hx hb dX0_round_42 hl (by decide) rfl (fun ls hl => ?_)
    refine lv_lconst (v := 1) hx hb dX0_round_44 (by decide) ?_
    refine lv_iload_n hx hb dX0_round_45 rfl (lv_at hl 2 rfl) ?_
    refine lv_iconst (v := 1) hx hb dX0_round_46 (by decide) ?_
    refine lv_isub hx hb dX0_round_47 ?_
    refine lv_lshl hx hb dX0_round_48 rfl ?_
    refine lv_topl (fun v3 ev3 => ?_)
    refine lv_lstore (lv' := [(8, .long v3), (6, .long v2), (4, .long v1), (3, .int x5_3), (0, .long a0), (2, .int a1)]) hx hb dX0_round_49 hl (by decide) rfl (fun ls hl => ?_)
    refine lv_lload hx hb dX0_round_51 (lv_at hl 1 rfl) ?_
    refine lv_lload hx hb dX0_round_53 (lv_at hl 0 rfl) ?_
    have J85 : ∀ (v4 : Int32), v4 = (if (v3 : Int64) < (v2 : Int64) then (1)
  else (if (v2 : Int64) = (v3 : Int64) then (if (a1 : Int32) = (0 : Int32) then (if (v1 &&& 1 : Int64) = (0 : Int64) then (0)
        else (1))
      else (1))
    else (0))) → ∀ ls : Array Slot, lv_has ls 13 [(8, .long v3), (6, .long v2), (4, .long v1), (3, .int x5_3), (0, .long a0), (2, .int a1)] → (W p l e (headSpec (ws_ yX0_round cX0_round 13 (some .int)) ({ frames := 0, cells := 0, slots := 0, locals := 0 } : Room)).room s m ([.long a0, .int a1] : List Value).toArray below meth c s.heap [] 0 0 (MQ below (k2_QcV (.int (hx_round a0 a1))) ([.long a0, .int a1] : List Value).toArray s 0 0 (fun _ => False))) (F0 m 85 ls [.int v4]) := by
      intro v4 ev4 ls hl
      refine lv_istore (lv' := [(10, .int v4), (8, .long v3), (6, .long v2), (4, .long v1), (3, .int x5_3), (0, .long a0), (2, .int a1)]) hx hb dX0_round_85 hl (by decide) rfl (fun ls hl => ?_)
      refine lv_iload_n hx hb dX0_round_87 rfl (lv_at hl 4 rfl) ?_
      refine lv_iconst (v := 4) hx hb dX0_round_88 (by decide) ?_
      refine lv_isub hx hb dX0_round_89 ?_
      refine lv_bipush (v := 10) hx hb dX0_round_90 (by decide) ?_
      refine lv_ishl hx hb dX0_round_92 ?_
      refine lv_i2l hx hb dX0_round_93 rfl ?_
      refine lv_lload hx hb dX0_round_94 (lv_at hl 3 rfl) ?_
      refine lv_ladd hx hb dX0_round_96 ?_
      refine lv_iload hx hb dX0_round_97 (lv_at hl 0 rfl) ?_
      have J107 : ∀ (v9 : Int32), v9 = (if (v4 : Int32) = (0 : Int32) then (0)
  else (1)) → ∀ ls : Array Slot, lv_has ls 13 [(10, .int v4), (8, .long v3), (6, .long v2), (4, .long v1), (3, .int x5_3), (0, .long a0), (2, .int a1)] → (W p l e (headSpec (ws_ yX0_round cX0_round 13 (some .int)) ({ frames := 0, cells := 0, slots := 0, locals := 0 } : Room)).room s m ([.long a0, .int a1] : List Value).toArray below meth c s.heap [] 0 0 (MQ below (k2_QcV (.int (hx_round a0 a1))) ([.long a0, .int a1] : List Value).toArray s 0 0 (fun _ => False))) (F0 m 107 ls [.int v9, .long ((((x5_3 - 4) <<< (10 &&& 31) : Int32).toInt64) + v1)]) := by
        intro v9 ev9 ls hl
        refine lv_i2l hx hb dX0_round_107 rfl ?_
        refine lv_ladd hx hb dX0_round_108 ?_
        refine lv_topl (fun v11 ev11 => ?_)
        refine lv_lstore (lv' := [(11, .long v11), (10, .int v4), (8, .long v3), (6, .long v2), (4, .long v1), (3, .int x5_3), (0, .long a0), (2, .int a1)]) hx hb dX0_round_109 hl (by decide) rfl (fun ls hl => ?_)
        refine lv_lload hx hb dX0_round_111 (lv_at hl 0 rfl) ?_
        refine lv_ldc2 (v := 31744) hx hb hown (hts _ q67) dX0_round_113 ?_
        refine hf_lcmp_le (tgt := 126) hx hb dX0_round_116 dX0_round_117 (by decide) (fun c12 => ?_) (fun c12 => ?_)
        · skip
          refine lv_lload hx hb dX0_round_126 (lv_at hl 0 rfl) ?_
          refine lv_l2i hx hb dX0_round_128 rfl ?_
          exact W.iret hx hb hr (fun t ht hW => hf_okI (by have hh := eq5.symm; subst hh; have hh := ex5_3.symm; subst hh; have hh := ex5_4.symm; subst hh; have hh := ev1.symm; subst hh; have hh := ev2.symm; subst hh; have hh := ev3.symm; subst hh; have hh := ev4.symm; subst hh; have hh := ev9.symm; subst hh; have hh := ev11.symm; subst hh; simp only [hx_round, if_pos c12]) ht) (fun q h => by cases h) dX0_round_129
        · skip
          refine lv_sipush (v := 31744) hx hb dX0_round_120 (by decide) ?_
          refine lv_goto (tgt := 129) hx hb dX0_round_123 (by decide) ?_
          exact W.iret hx hb hr (fun t ht hW => hf_okI (by have hh := eq5.symm; subst hh; have hh := ex5_3.symm; subst hh; have hh := ex5_4.symm; subst hh; have hh := ev1.symm; subst hh; have hh := ev2.symm; subst hh; have hh := ev3.symm; subst hh; have hh := ev4.symm; subst hh; have hh := ev9.symm; subst hh; have hh := ev11.symm; subst hh; simp only [hx_round, if_neg c12]) ht) (fun q h => by cases h) dX0_round_129
      refine lv_if_eq (tgt := 106) hx hb dX0_round_99 (by decide) (fun c10 => ?_) (fun c10 => ?_)
      · skip
        refine lv_iconst (v := 0) hx hb dX0_round_106 (by decide) ?_
        exact J107 _ (by simp only [if_pos c10]) ls hl
      · skip
        refine lv_iconst (v := 1) hx hb dX0_round_102 (by decide) ?_
        refine lv_goto (tgt := 107) hx hb dX0_round_103 (by decide) ?_
        exact J107 _ (by simp only [if_neg c10]) ls hl
    refine hf_lcmp_gt (tgt := 80) hx hb dX0_round_55 dX0_round_56 (by decide) (fun c5 => ?_) (fun c5 => ?_)
    · skip
      refine lv_iconst (v := 1) hx hb dX0_round_80 (by decide) ?_
      refine lv_goto (tgt := 85) hx hb dX0_round_81 (by decide) ?_
      exact J85 _ (by simp only [if_pos c5]) ls hl
    · skip
      refine lv_lload hx hb dX0_round_59 (lv_at hl 1 rfl) ?_
      refine lv_lload hx hb dX0_round_61 (lv_at hl 0 rfl) ?_
      refine hf_lcmp_ne (tgt := 84) hx hb dX0_round_63 dX0_round_64 (by decide) (fun c6 => ?_) (fun c6 => ?_)
      · skip
        refine lv_iconst (v := 0) hx hb dX0_round_84 (by decide) ?_
        exact J85 _ (by simp only [if_neg c5, if_neg c6]) ls hl
      · skip
        refine lv_iload_n hx hb dX0_round_67 rfl (lv_at hl 5 rfl) ?_
        refine lv_if_ne (tgt := 80) hx hb dX0_round_68 (by decide) (fun c7 => ?_) (fun c7 => ?_)
        · skip
          refine lv_iconst (v := 1) hx hb dX0_round_80 (by decide) ?_
          refine lv_goto (tgt := 85) hx hb dX0_round_81 (by decide) ?_
          exact J85 _ (by simp only [if_neg c5, if_pos c6, if_neg c7]) ls hl
        · skip
          refine lv_lload hx hb dX0_round_71 (lv_at hl 2 rfl) ?_
          refine lv_lconst (v := 1) hx hb dX0_round_73 (by decide) ?_
          refine lv_land hx hb dX0_round_74 ?_
          refine lv_lconst (v := 0) hx hb dX0_round_75 (by decide) ?_
          refine hf_lcmp_eq (tgt := 84) hx hb dX0_round_76 dX0_round_77 (by decide) (fun c8 => ?_) (fun c8 => ?_)
          · skip
            refine lv_iconst (v := 0) hx hb dX0_round_84 (by decide) ?_
            exact J85 _ (by simp only [if_neg c5, if_pos c6, if_pos c7, if_pos c8]) ls hl
          · skip
            refine lv_iconst (v := 1) hx hb dX0_round_80 (by decide) ?_
            refine lv_goto (tgt := 85) hx hb dX0_round_81 (by decide) ?_
            exact J85 _ (by simp only [if_neg c5, if_pos c6, if_pos c7, if_neg c8]) ls hl
  refine hf_loop (hx_round_s5 a0) (fun q => ∀ ls : Array Slot, lv_has ls 13 [(3, .int q.1), (4, .int q.2), (0, .long a0), (2, .int a1)] → (W p l e (headSpec (ws_ yX0_round cX0_round 13 (some .int)) ({ frames := 0, cells := 0, slots := 0, locals := 0 } : Room)).room s m ([.long a0, .int a1] : List Value).toArray below meth c s.heap [] 0 0 (MQ below (k2_QcV (.int (hx_round a0 a1))) ([.long a0, .int a1] : List Value).toArray s 0 0 (fun _ => False))) (F0 m 5 ls [])) (fun q => ∀ ls : Array Slot, lv_has ls 13 [(3, .int q.1), (4, .int q.2), (0, .long a0), (2, .int a1)] → (W p l e (headSpec (ws_ yX0_round cX0_round 13 (some .int)) ({ frames := 0, cells := 0, slots := 0, locals := 0 } : Room)).room s m ([.long a0, .int a1] : List Value).toArray below meth c s.heap [] 0 0 (MQ below (k2_QcV (.int (hx_round a0 a1))) ([.long a0, .int a1] : List Value).toArray s 0 0 (fun _ => False))) (F0 m 31 ls [])) ?_ 50 (4, 0) (hx_round_end _) (X5 _ rfl) ls (lv_sub hl [1, 0, 2, 3] rfl)
  rintro ⟨x5_3, x5_4⟩ hno hgo ls hl
  have hl : lv_has ls 13 [(3, .int x5_3), (4, .int x5_4), (0, .long a0), (2, .int a1)] := hl
  refine lv_iload hx hb dX0_round_5 (lv_at hl 1 rfl) ?_
  refine lv_bipush (v := 50) hx hb dX0_round_7 (by decide) ?_
  refine lv_icmp_ge (tgt := 31) hx hb dX0_round_9 (by decide) (fun c13 => ?_) (fun c13 => ?_)
  · skip
    exact hno (by simp only [hx_round_s5, if_pos c13]) ls (lv_sub hl [0, 1, 2, 3] rfl)
  · skip
    refine lv_lload_n hx hb dX0_round_12 rfl (lv_at hl 2 rfl) ?_
    refine lv_iload_n hx hb dX0_round_13 rfl (lv_at hl 0 rfl) ?_
    refine lv_lshr hx hb dX0_round_14 rfl ?_
    refine lv_ldc2 (v := 2047) hx hb hown (hts _ q66) dX0_round_15 ?_
    refine hf_lcmp_le (tgt := 31) hx hb dX0_round_18 dX0_round_19 (by decide) (fun c14 => ?_) (fun c14 => ?_)
    · skip
      exact hno (by simp only [hx_round_s5, if_neg c13, if_pos c14]) ls (lv_sub hl [0, 1, 2, 3] rfl)
    · skip
      obtain ⟨v15, ev15⟩ : ∃ y : Int32, y = x5_3 + 1 := ⟨_, rfl⟩
      refine lv_iinc (v := v15) (lv' := [(3, .int v15), (4, .int x5_4), (0, .long a0), (2, .int a1)]) hx hb dX0_round_22 hl (k := 0) rfl (by rw [ev15]; rfl) (by decide) rfl (fun ls hl => ?_)
      obtain ⟨v16, ev16⟩ : ∃ y : Int32, y = x5_4 + 1 := ⟨_, rfl⟩
      refine lv_iinc (v := v16) (lv' := [(4, .int v16), (3, .int v15), (0, .long a0), (2, .int a1)]) hx hb dX0_round_25 hl (k := 1) rfl (by rw [ev16]; rfl) (by decide) rfl (fun ls hl => ?_)
      refine lv_goto (tgt := 5) hx hb dX0_round_28 (by decide) ?_
      exact hgo (v15, v16) (by have hh := ev15.symm; subst hh; have hh := ev16.symm; subst hh; simp only [hx_round_s5, if_neg c13, if_neg c14]) ls (lv_sub hl [1, 0, 2, 3] rfl)
set_option maxHeartbeats 400000 in
set_option maxRecDepth 100000 in
theorem met_X0_withSign (l : Launch) (a0 : Int32) (a1 : Int32) (a2 : Int64) (a3 : Int32) (a4 : Int32) : Met l yX0_withSign (ws_ yX0_withSign cX0_withSign 9 (some .int)) ({ frames := 1, cells := 0, slots := 0, locals := 32 } : Room) (fun v _ => v = ([.int a0, .int a1, .long a2, .int a3, .int a4] : List Value).toArray) (k2_QcV (.int (hx_withSign a0 a1 a2 a3 a4))) 0 0 (fun _ => False) := by
  refine Met.ofW (cc := cX0_withSign) (maxL := 9) (ret := some .int) (by decide) rfl ?_
  intro p e s m args below meth c s₁ B hml hv
  subst hv
  have hx := B.exec
  have hb := B.bytes
  have hr := B.returns
  have hts := atoms_spec (ws := (ws_ yX0_withSign cX0_withSign 9 (some .int))) B.pre
  have hts : ∀ w ∈ lw_all, w.before _ s = true := fun w h => hts w (List.mem_cons_of_mem _ h)
  have hown : s.vm.findClass RX0 = some m.cls := findClass_of_methodNamed B.named
  have hlocks := B.notSynchronized
  have hl := lv_entry ([.int a0, .int a1, .long a2, .int a3, .int a4]) (n := 9) (Nat.le_of_ble_eq_true rfl)
  rw [lg_entry_eq]
  generalize (lg_sl ([.int a0, .int a1, .long a2, .int a3, .int a4]) ++ List.replicate (9 - (lg_sl ([.int a0, .int a1, .long a2, .int a3, .int a4])).length) Slot.unset).toArray = ls at hl ⊢
  have hl : lv_has ls 9 [(0, .int a0), (1, .int a1), (2, .long a2), (4, .int a3), (5, .int a4)] := hl
  refine lv_iload hx hb dX0_withSign_0 (lv_at hl 3 rfl) ?_
  have J93 : ∀ (v1 : Int32), v1 = (if (a3 : Int32) < (0 : Int32) then (let v3 : Int64 := a2 &&& (((1 : Int64) <<< ((-a3 : Int32).toInt64 &&& 63)) - 1);
    let v4 : Int32 := (if (a4 : Int32) = (0 : Int32) then (if (v3 : Int64) = (0 : Int64) then (0)
        else (1))
      else (1));
    let v7 : Int32 := hx_round ((a2 : Int64) >>> ((-a3 : Int32).toInt64 &&& 63)) v4;
    v7)
  else (let v8 : Int32 := (if (a2 : Int64) = (0 : Int64) then (0)
      else (if ((a2 : Int64) >>> ((60 - a3 : Int32).toInt64 &&& 63) : Int64) = (0 : Int64) then (0)
        else (1)));
    let v11 : Int32 := (if (v8 : Int32) = (0 : Int32) then (hx_round ((a2 : Int64) <<< ((a3 : Int32).toInt64 &&& 63)) a4)
      else (31744));
    v11)) → ∀ ls : Array Slot, lv_has ls 9 [(6, .int v1), (0, .int a0), (1, .int a1), (2, .long a2), (4, .int a3), (5, .int a4)] → (W p l e (headSpec (ws_ yX0_withSign cX0_withSign 9 (some .int)) ({ frames := 1, cells := 0, slots := 0, locals := 32 } : Room)).room s m ([.int a0, .int a1, .long a2, .int a3, .int a4] : List Value).toArray below meth c s.heap [] 0 0 (MQ below (k2_QcV (.int (hx_withSign a0 a1 a2 a3 a4))) ([.int a0, .int a1, .long a2, .int a3, .int a4] : List Value).toArray s 0 0 (fun _ => False))) (F0 m 93 ls []) := by
    intro v1 ev1 ls hl
    refine lv_iload_n hx hb dX0_withSign_93 rfl (lv_at hl 1 rfl) ?_
    refine lv_ldc (v := 32768) hx hb hown (hts _ q62) dX0_withSign_94 ?_
    have J104 : ∀ (v13 : Int32), v13 = (if (a0 : Int32) < (32768 : Int32) then (0)
  else (1)) → ∀ ls : Array Slot, lv_has ls 9 [(6, .int v1), (0, .int a0), (1, .int a1), (2, .long a2), (4, .int a3), (5, .int a4)] → (W p l e (headSpec (ws_ yX0_withSign cX0_withSign 9 (some .int)) ({ frames := 1, cells := 0, slots := 0, locals := 32 } : Room)).room s m ([.int a0, .int a1, .long a2, .int a3, .int a4] : List Value).toArray below meth c s.heap [] 0 0 (MQ below (k2_QcV (.int (hx_withSign a0 a1 a2 a3 a4))) ([.int a0, .int a1, .long a2, .int a3, .int a4] : List Value).toArray s 0 0 (fun _ => False))) (F0 m 104 ls [.int v13]) := by
      intro v13 ev13 ls hl
      refine lv_iload_n hx hb dX0_withSign_104 rfl (lv_at hl 2 rfl) ?_
      refine lv_ldc (v := 32768) hx hb hown (hts _ q62) dX0_withSign_105 ?_
      have J115 : ∀ (v15 : Int32), v15 = (if (a1 : Int32) < (32768 : Int32) then (0)
  else (1)) → ∀ ls : Array Slot, lv_has ls 9 [(6, .int v1), (0, .int a0), (1, .int a1), (2, .long a2), (4, .int a3), (5, .int a4)] → (W p l e (headSpec (ws_ yX0_withSign cX0_withSign 9 (some .int)) ({ frames := 1, cells := 0, slots := 0, locals := 32 } : Room)).room s m ([.int a0, .int a1, .long a2, .int a3, .int a4] : List Value).toArray below meth c s.heap [] 0 0 (MQ below (k2_QcV (.int (hx_withSign a0 a1 a2 a3 a4))) ([.int a0, .int a1, .long a2, .int a3, .int a4] : List Value).toArray s 0 0 (fun _ => False))) (F0 m 115 ls [.int v15, .int v13]) := by
        intro v15 ev15 ls hl
        refine lv_icmp_eq (tgt := 126) hx hb dX0_withSign_115 (by decide) (fun c17 => ?_) (fun c17 => ?_)
        · skip
          refine lv_iload hx hb dX0_withSign_126 (lv_at hl 0 rfl) ?_
          exact W.iret hx hb hr (fun t ht hW => hf_okI (by have hh := ev1.symm; subst hh; have hh := ev13.symm; subst hh; have hh := ev15.symm; subst hh; simp only [hx_withSign, if_pos c17]) ht) (fun q h => by cases h) dX0_withSign_128
        · skip
          refine lv_iload hx hb dX0_withSign_118 (lv_at hl 0 rfl) ?_
          refine W.callV (r := .int (hx_negative v1)) (W.runS (As := [.int v1]) (rest := []) ⟨hx, hb, hml, hown, hts⟩ (met_X0_negative l v1) (va_cwS 1 hts (lw_S q68 q69 q7 q70) rfl rfl rfl (by decide +kernel) ⟨Nat.le_of_ble_eq_true rfl, Nat.le_of_ble_eq_true rfl⟩) preEq rfl rfl hl.1 rfl (lv_room (Nat.le_of_ble_eq_true rfl)) dX0_withSign_120 ⟨Nat.le_of_ble_eq_true rfl, Nat.le_of_ble_eq_true rfl⟩) ?_
          refine W.eq (g2 := F0 m 123 ls [.int (hx_negative v1)]) rfl ?_
          refine lv_goto (tgt := 128) hx hb dX0_withSign_123 (by decide) ?_
          exact W.iret hx hb hr (fun t ht hW => hf_okI (by have hh := ev1.symm; subst hh; have hh := ev13.symm; subst hh; have hh := ev15.symm; subst hh; simp only [hx_withSign, if_neg c17]) ht) (fun q h => by cases h) dX0_withSign_128
      refine lv_icmp_lt (tgt := 114) hx hb dX0_withSign_107 (by decide) (fun c16 => ?_) (fun c16 => ?_)
      · skip
        refine lv_iconst (v := 0) hx hb dX0_withSign_114 (by decide) ?_
        exact J115 _ (by simp only [if_pos c16]) ls hl
      · skip
        refine lv_iconst (v := 1) hx hb dX0_withSign_110 (by decide) ?_
        refine lv_goto (tgt := 115) hx hb dX0_withSign_111 (by decide) ?_
        exact J115 _ (by simp only [if_neg c16]) ls hl
    refine lv_icmp_lt (tgt := 103) hx hb dX0_withSign_96 (by decide) (fun c14 => ?_) (fun c14 => ?_)
    · skip
      refine lv_iconst (v := 0) hx hb dX0_withSign_103 (by decide) ?_
      exact J104 _ (by simp only [if_pos c14]) ls hl
    · skip
      refine lv_iconst (v := 1) hx hb dX0_withSign_99 (by decide) ?_
      refine lv_goto (tgt := 104) hx hb dX0_withSign_100 (by decide) ?_
      exact J104 _ (by simp only [if_neg c14]) ls hl
  refine lv_if_lt (tgt := 55) hx hb dX0_withSign_2 (by decide) (fun c2 => ?_) (fun c2 => ?_)
  · skip
    refine lv_lload_n hx hb dX0_withSign_55 rfl (lv_at hl 2 rfl) ?_
    refine lv_lconst (v := 1) hx hb dX0_withSign_56 (by decide) ?_
    refine lv_iload hx hb dX0_withSign_57 (lv_at hl 3 rfl) ?_
    refine lv_ineg hx hb dX0_withSign_59 ?_
    refine lv_lshl hx hb dX0_withSign_60 rfl ?_
    refine lv_lconst (v := 1) hx hb dX0_withSign_61 (by decide) ?_
    refine lv_lsub hx hb dX0_withSign_62 ?_
    refine lv_land hx hb dX0_withSign_63 ?_
    refine lv_topl (fun v3 ev3 => ?_)
    refine lv_lstore (lv' := [(7, .long v3), (0, .int a0), (1, .int a1), (2, .long a2), (4, .int a3), (5, .int a4)]) hx hb dX0_withSign_64 hl (by decide) rfl (fun ls hl => ?_)
    refine lv_lload_n hx hb dX0_withSign_66 rfl (lv_at hl 3 rfl) ?_
    refine lv_iload hx hb dX0_withSign_67 (lv_at hl 4 rfl) ?_
    refine lv_ineg hx hb dX0_withSign_69 ?_
    refine lv_lshr hx hb dX0_withSign_70 rfl ?_
    refine lv_iload hx hb dX0_withSign_71 (lv_at hl 5 rfl) ?_
    have J88 : ∀ (v4 : Int32), v4 = (if (a4 : Int32) = (0 : Int32) then (if (v3 : Int64) = (0 : Int64) then (0)
    else (1))
  else (1)) → ∀ ls : Array Slot, lv_has ls 9 [(7, .long v3), (0, .int a0), (1, .int a1), (2, .long a2), (4, .int a3), (5, .int a4)] → (W p l e (headSpec (ws_ yX0_withSign cX0_withSign 9 (some .int)) ({ frames := 1, cells := 0, slots := 0, locals := 32 } : Room)).room s m ([.int a0, .int a1, .long a2, .int a3, .int a4] : List Value).toArray below meth c s.heap [] 0 0 (MQ below (k2_QcV (.int (hx_withSign a0 a1 a2 a3 a4))) ([.int a0, .int a1, .long a2, .int a3, .int a4] : List Value).toArray s 0 0 (fun _ => False))) (F0 m 88 ls [.int v4, .long ((a2 : Int64) >>> ((-a3 : Int32).toInt64 &&& 63))]) := by
      intro v4 ev4 ls hl
      refine W.callV (r := .int (hx_round ((a2 : Int64) >>> ((-a3 : Int32).toInt64 &&& 63)) v4)) (W.runS (As := [.long ((a2 : Int64) >>> ((-a3 : Int32).toInt64 &&& 63)), .int v4]) (rest := []) ⟨hx, hb, hml, hown, hts⟩ (met_X0_round l ((a2 : Int64) >>> ((-a3 : Int32).toInt64 &&& 63)) v4) (va_cwS 2 hts (lw_S q63 q64 q7 q65) rfl rfl rfl (by decide +kernel) ⟨Nat.le_of_ble_eq_true rfl, Nat.le_of_ble_eq_true rfl⟩) preEq rfl rfl hl.1 rfl (lv_room (Nat.le_of_ble_eq_true rfl)) dX0_withSign_88 ⟨Nat.le_of_ble_eq_true rfl, Nat.le_of_ble_eq_true rfl⟩) ?_
      refine W.eq (g2 := F0 m 91 ls [.int (hx_round ((a2 : Int64) >>> ((-a3 : Int32).toInt64 &&& 63)) v4)]) rfl ?_
      refine lv_topi (fun v7 ev7 => ?_)
      refine lv_istore (lv' := [(6, .int v7), (7, .long v3), (0, .int a0), (1, .int a1), (2, .long a2), (4, .int a3), (5, .int a4)]) hx hb dX0_withSign_91 hl (by decide) rfl (fun ls hl => ?_)
      exact J93 _ (by have hh := ev3.symm; subst hh; have hh := ev4.symm; subst hh; have hh := ev7.symm; subst hh; simp only [if_pos c2]) ls (lv_sub hl [0, 2, 3, 4, 5, 6] rfl)
    refine lv_if_ne (tgt := 83) hx hb dX0_withSign_73 (by decide) (fun c5 => ?_) (fun c5 => ?_)
    · skip
      refine lv_iconst (v := 1) hx hb dX0_withSign_83 (by decide) ?_
      refine lv_goto (tgt := 88) hx hb dX0_withSign_84 (by decide) ?_
      exact J88 _ (by simp only [if_neg c5]) ls hl
    · skip
      refine lv_lload hx hb dX0_withSign_76 (lv_at hl 0 rfl) ?_
      refine lv_lconst (v := 0) hx hb dX0_withSign_78 (by decide) ?_
      refine hf_lcmp_eq (tgt := 87) hx hb dX0_withSign_79 dX0_withSign_80 (by decide) (fun c6 => ?_) (fun c6 => ?_)
      · skip
        refine lv_iconst (v := 0) hx hb dX0_withSign_87 (by decide) ?_
        exact J88 _ (by simp only [if_pos c5, if_pos c6]) ls hl
      · skip
        refine lv_iconst (v := 1) hx hb dX0_withSign_83 (by decide) ?_
        refine lv_goto (tgt := 88) hx hb dX0_withSign_84 (by decide) ?_
        exact J88 _ (by simp only [if_pos c5, if_neg c6]) ls hl
  · skip
    refine lv_lload_n hx hb dX0_withSign_5 rfl (lv_at hl 2 rfl) ?_
    refine lv_lconst (v := 0) hx hb dX0_withSign_6 (by decide) ?_
    have J28 : ∀ (v8 : Int32), v8 = (if (a2 : Int64) = (0 : Int64) then (0)
  else (if ((a2 : Int64) >>> ((60 - a3 : Int32).toInt64 &&& 63) : Int64) = (0 : Int64) then (0)
    else (1))) → ∀ ls : Array Slot, lv_has ls 9 [(0, .int a0), (1, .int a1), (2, .long a2), (4, .int a3), (5, .int a4)] → (W p l e (headSpec (ws_ yX0_withSign cX0_withSign 9 (some .int)) ({ frames := 1, cells := 0, slots := 0, locals := 32 } : Room)).room s m ([.int a0, .int a1, .long a2, .int a3, .int a4] : List Value).toArray below meth c s.heap [] 0 0 (MQ below (k2_QcV (.int (hx_withSign a0 a1 a2 a3 a4))) ([.int a0, .int a1, .long a2, .int a3, .int a4] : List Value).toArray s 0 0 (fun _ => False))) (F0 m 28 ls [.int v8]) := by
      intro v8 ev8 ls hl
      refine lv_istore (lv' := [(7, .int v8), (0, .int a0), (1, .int a1), (2, .long a2), (4, .int a3), (5, .int a4)]) hx hb dX0_withSign_28 hl (by decide) rfl (fun ls hl => ?_)
      refine lv_iload hx hb dX0_withSign_30 (lv_at hl 0 rfl) ?_
      have J50 : ∀ (v11 : Int32), v11 = (if (v8 : Int32) = (0 : Int32) then (hx_round ((a2 : Int64) <<< ((a3 : Int32).toInt64 &&& 63)) a4)
  else (31744)) → ∀ ls : Array Slot, lv_has ls 9 [(7, .int v8), (0, .int a0), (1, .int a1), (2, .long a2), (4, .int a3), (5, .int a4)] → (W p l e (headSpec (ws_ yX0_withSign cX0_withSign 9 (some .int)) ({ frames := 1, cells := 0, slots := 0, locals := 32 } : Room)).room s m ([.int a0, .int a1, .long a2, .int a3, .int a4] : List Value).toArray below meth c s.heap [] 0 0 (MQ below (k2_QcV (.int (hx_withSign a0 a1 a2 a3 a4))) ([.int a0, .int a1, .long a2, .int a3, .int a4] : List Value).toArray s 0 0 (fun _ => False))) (F0 m 50 ls [.int v11]) := by
        intro v11 ev11 ls hl
        refine lv_istore (lv' := [(6, .int v11), (7, .int v8), (0, .int a0), (1, .int a1), (2, .long a2), (4, .int a3), (5, .int a4)]) hx hb dX0_withSign_50 hl (by decide) rfl (fun ls hl => ?_)
        refine lv_goto (tgt := 93) hx hb dX0_withSign_52 (by decide) ?_
        exact J93 _ (by have hh := ev8.symm; subst hh; have hh := ev11.symm; subst hh; simp only [if_neg c2]) ls (lv_sub hl [0, 2, 3, 4, 5, 6] rfl)
      refine lv_if_eq (tgt := 41) hx hb dX0_withSign_32 (by decide) (fun c12 => ?_) (fun c12 => ?_)
      · skip
        refine lv_lload_n hx hb dX0_withSign_41 rfl (lv_at hl 3 rfl) ?_
        refine lv_iload hx hb dX0_withSign_42 (lv_at hl 4 rfl) ?_
        refine lv_lshl hx hb dX0_withSign_44 rfl ?_
        refine lv_iload hx hb dX0_withSign_45 (lv_at hl 5 rfl) ?_
        refine W.callV (r := .int (hx_round ((a2 : Int64) <<< ((a3 : Int32).toInt64 &&& 63)) a4)) (W.runS (As := [.long ((a2 : Int64) <<< ((a3 : Int32).toInt64 &&& 63)), .int a4]) (rest := []) ⟨hx, hb, hml, hown, hts⟩ (met_X0_round l ((a2 : Int64) <<< ((a3 : Int32).toInt64 &&& 63)) a4) (va_cwS 2 hts (lw_S q63 q64 q7 q65) rfl rfl rfl (by decide +kernel) ⟨Nat.le_of_ble_eq_true rfl, Nat.le_of_ble_eq_true rfl⟩) preEq rfl rfl hl.1 rfl (lv_room (Nat.le_of_ble_eq_true rfl)) dX0_withSign_47 ⟨Nat.le_of_ble_eq_true rfl, Nat.le_of_ble_eq_true rfl⟩) ?_
        refine W.eq (g2 := F0 m 50 ls [.int (hx_round ((a2 : Int64) <<< ((a3 : Int32).toInt64 &&& 63)) a4)]) rfl ?_
        exact J50 _ (by simp only [if_pos c12]) ls hl
      · skip
        refine lv_sipush (v := 31744) hx hb dX0_withSign_35 (by decide) ?_
        refine lv_goto (tgt := 50) hx hb dX0_withSign_38 (by decide) ?_
        exact J50 _ (by simp only [if_neg c12]) ls hl
    refine hf_lcmp_eq (tgt := 27) hx hb dX0_withSign_7 dX0_withSign_8 (by decide) (fun c9 => ?_) (fun c9 => ?_)
    · skip
      refine lv_iconst (v := 0) hx hb dX0_withSign_27 (by decide) ?_
      exact J28 _ (by simp only [if_pos c9]) ls hl
    · skip
      refine lv_lload_n hx hb dX0_withSign_11 rfl (lv_at hl 2 rfl) ?_
      refine lv_bipush (v := 60) hx hb dX0_withSign_12 (by decide) ?_
      refine lv_iload hx hb dX0_withSign_14 (lv_at hl 3 rfl) ?_
      refine lv_isub hx hb dX0_withSign_16 ?_
      refine lv_lshr hx hb dX0_withSign_17 rfl ?_
      refine lv_lconst (v := 0) hx hb dX0_withSign_18 (by decide) ?_
      refine hf_lcmp_eq (tgt := 27) hx hb dX0_withSign_19 dX0_withSign_20 (by decide) (fun c10 => ?_) (fun c10 => ?_)
      · skip
        refine lv_iconst (v := 0) hx hb dX0_withSign_27 (by decide) ?_
        exact J28 _ (by simp only [if_neg c9, if_pos c10]) ls hl
      · skip
        refine lv_iconst (v := 1) hx hb dX0_withSign_23 (by decide) ?_
        refine lv_goto (tgt := 28) hx hb dX0_withSign_24 (by decide) ?_
        exact J28 _ (by simp only [if_neg c9, if_neg c10]) ls hl
set_option maxHeartbeats 400000 in
set_option maxRecDepth 100000 in
theorem met_X0_isLess (l : Launch) (a0 : Int64) (a1 : Int32) (a2 : Int64) (a3 : Int32) : Met l yX0_isLess (ws_ yX0_isLess cX0_isLess 6 (some .boolean)) ({ frames := 1, cells := 0, slots := 0, locals := 23 } : Room) (fun v _ => v = ([.long a0, .int a1, .long a2, .int a3] : List Value).toArray) (k2_QcV (.int (hx_isLess a0 a1 a2 a3))) 0 0 (fun _ => False) := by
  refine Met.ofW (cc := cX0_isLess) (maxL := 6) (ret := some .boolean) (by decide) rfl ?_
  intro p e s m args below meth c s₁ B hml hv
  subst hv
  have hx := B.exec
  have hb := B.bytes
  have hr := B.returns
  have hts := atoms_spec (ws := (ws_ yX0_isLess cX0_isLess 6 (some .boolean))) B.pre
  have hts : ∀ w ∈ lw_all, w.before _ s = true := fun w h => hts w (List.mem_cons_of_mem _ h)
  have hown : s.vm.findClass RX0 = some m.cls := findClass_of_methodNamed B.named
  have hlocks := B.notSynchronized
  have hl := lv_entry ([.long a0, .int a1, .long a2, .int a3]) (n := 6) (Nat.le_of_ble_eq_true rfl)
  rw [lg_entry_eq]
  generalize (lg_sl ([.long a0, .int a1, .long a2, .int a3]) ++ List.replicate (6 - (lg_sl ([.long a0, .int a1, .long a2, .int a3])).length) Slot.unset).toArray = ls at hl ⊢
  have hl : lv_has ls 6 [(0, .long a0), (2, .int a1), (3, .long a2), (5, .int a3)] := hl
  refine lv_iload_n hx hb dX0_isLess_0 rfl (lv_at hl 1 rfl) ?_
  refine lv_iload hx hb dX0_isLess_1 (lv_at hl 3 rfl) ?_
  refine lv_icmp_lt (tgt := 28) hx hb dX0_isLess_3 (by decide) (fun c1 => ?_) (fun c1 => ?_)
  · skip
    refine lv_lload_n hx hb dX0_isLess_28 rfl (lv_at hl 0 rfl) ?_
    refine lv_lload_n hx hb dX0_isLess_29 rfl (lv_at hl 2 rfl) ?_
    refine lv_iload hx hb dX0_isLess_30 (lv_at hl 3 rfl) ?_
    refine lv_iload_n hx hb dX0_isLess_32 rfl (lv_at hl 1 rfl) ?_
    refine lv_isub hx hb dX0_isLess_33 ?_
    refine W.callV (r := .long (hx_power (a3 - a1))) (W.runS (As := [.int (a3 - a1)]) (rest := [.long a2, .long a0]) ⟨hx, hb, hml, hown, hts⟩ (met_X0_power l (a3 - a1)) (va_cwS 1 hts (lw_S q94 q95 q7 q96) rfl rfl rfl (by decide +kernel) ⟨Nat.le_of_ble_eq_true rfl, Nat.le_of_ble_eq_true rfl⟩) preEq rfl rfl hl.1 rfl (lv_room (Nat.le_of_ble_eq_true rfl)) dX0_isLess_34 ⟨Nat.le_of_ble_eq_true rfl, Nat.le_of_ble_eq_true rfl⟩) ?_
    refine W.eq (g2 := F0 m 37 ls [.long (hx_power (a3 - a1)), .long a2, .long a0]) rfl ?_
    refine lv_lmul hx hb dX0_isLess_37 ?_
    refine hf_lcmp_ge (tgt := 46) hx hb dX0_isLess_38 dX0_isLess_39 (by decide) (fun c2 => ?_) (fun c2 => ?_)
    · skip
      refine lv_iconst (v := 0) hx hb dX0_isLess_46 (by decide) ?_
      exact W.zret hx hb hr (rfl) (fun t ht hW => hf_okI (by simp only [hx_isLess, if_pos c1, if_pos c2]) ht) (fun q h => by cases h) dX0_isLess_47
    · skip
      refine lv_iconst (v := 1) hx hb dX0_isLess_42 (by decide) ?_
      refine lv_goto (tgt := 47) hx hb dX0_isLess_43 (by decide) ?_
      exact W.zret hx hb hr (rfl) (fun t ht hW => hf_okI (by simp only [hx_isLess, if_pos c1, if_neg c2]) ht) (fun q h => by cases h) dX0_isLess_47
  · skip
    refine lv_lload_n hx hb dX0_isLess_6 rfl (lv_at hl 0 rfl) ?_
    refine lv_iload_n hx hb dX0_isLess_7 rfl (lv_at hl 1 rfl) ?_
    refine lv_iload hx hb dX0_isLess_8 (lv_at hl 3 rfl) ?_
    refine lv_isub hx hb dX0_isLess_10 ?_
    refine W.callV (r := .long (hx_power (a1 - a3))) (W.runS (As := [.int (a1 - a3)]) (rest := [.long a0]) ⟨hx, hb, hml, hown, hts⟩ (met_X0_power l (a1 - a3)) (va_cwS 1 hts (lw_S q94 q95 q7 q96) rfl rfl rfl (by decide +kernel) ⟨Nat.le_of_ble_eq_true rfl, Nat.le_of_ble_eq_true rfl⟩) preEq rfl rfl hl.1 rfl (lv_room (Nat.le_of_ble_eq_true rfl)) dX0_isLess_11 ⟨Nat.le_of_ble_eq_true rfl, Nat.le_of_ble_eq_true rfl⟩) ?_
    refine W.eq (g2 := F0 m 14 ls [.long (hx_power (a1 - a3)), .long a0]) rfl ?_
    refine lv_lmul hx hb dX0_isLess_14 ?_
    refine lv_lload_n hx hb dX0_isLess_15 rfl (lv_at hl 2 rfl) ?_
    refine hf_lcmp_ge (tgt := 24) hx hb dX0_isLess_16 dX0_isLess_17 (by decide) (fun c3 => ?_) (fun c3 => ?_)
    · skip
      refine lv_iconst (v := 0) hx hb dX0_isLess_24 (by decide) ?_
      refine lv_goto (tgt := 47) hx hb dX0_isLess_25 (by decide) ?_
      exact W.zret hx hb hr (rfl) (fun t ht hW => hf_okI (by simp only [hx_isLess, if_neg c1, if_pos c3]) ht) (fun q h => by cases h) dX0_isLess_47
    · skip
      refine lv_iconst (v := 1) hx hb dX0_isLess_20 (by decide) ?_
      refine lv_goto (tgt := 47) hx hb dX0_isLess_21 (by decide) ?_
      exact W.zret hx hb hr (rfl) (fun t ht hW => hf_okI (by simp only [hx_isLess, if_neg c1, if_neg c3]) ht) (fun q h => by cases h) dX0_isLess_47
end
section
set_option maxHeartbeats 400000 in
set_option maxRecDepth 100000 in
theorem met_X0_add (l : Launch) (h0 : Nat) (a0 : Int32) (a1 : Int32) : Met l yX0_add (ws_ yX0_add cX0_add 6 (some .int)) ({ frames := 2, cells := 0, slots := 0, locals := 43 } : Room) (fun v _ => v = ([.ref h0, .int a0, .int a1] : List Value).toArray) (k2_QcV (.int (hx_add a0 a1))) 0 0 (fun _ => False) := by
  refine Met.ofW (cc := cX0_add) (maxL := 6) (ret := some .int) (by decide) rfl ?_
  intro p e s m args below meth c s₁ B hml hv
  subst hv
  have hx := B.exec
  have hb := B.bytes
  have hr := B.returns
  have hts := atoms_spec (ws := (ws_ yX0_add cX0_add 6 (some .int))) B.pre
  have hts : ∀ w ∈ lw_all, w.before _ s = true := fun w h => hts w (List.mem_cons_of_mem _ h)
  have hown : s.vm.findClass RX0 = some m.cls := findClass_of_methodNamed B.named
  have hlocks := B.notSynchronized
  have hl := lv_entry ([.ref h0, .int a0, .int a1]) (n := 6) (Nat.le_of_ble_eq_true rfl)
  rw [lg_entry_eq]
  generalize (lg_sl ([.ref h0, .int a0, .int a1]) ++ List.replicate (6 - (lg_sl ([.ref h0, .int a0, .int a1])).length) Slot.unset).toArray = ls at hl ⊢
  have hl : lv_has ls 6 [(0, .ref h0), (1, .int a0), (2, .int a1)] := hl
  refine lv_iload_n hx hb dX0_add_0 rfl (lv_at hl 1 rfl) ?_
  refine W.callV (r := .int (hx_isNumber a0)) (W.runS (As := [.int a0]) (rest := []) ⟨hx, hb, hml, hown, hts⟩ (met_X0_isNumber l a0) (va_cwS 1 hts (lw_S q49 q50 q7 q51) rfl rfl rfl (by decide +kernel) ⟨Nat.le_of_ble_eq_true rfl, Nat.le_of_ble_eq_true rfl⟩) preEq rfl rfl hl.1 rfl (lv_room (Nat.le_of_ble_eq_true rfl)) dX0_add_1 ⟨Nat.le_of_ble_eq_true rfl, Nat.le_of_ble_eq_true rfl⟩) ?_
  refine W.eq (g2 := F0 m 4 ls [.int (hx_isNumber a0)]) rfl ?_
  refine lv_if_eq (tgt := 14) hx hb dX0_add_4 (by decide) (fun c1 => ?_) (fun c1 => ?_)
  · skip
    refine lv_iconst (v := (-1)) hx hb dX0_add_14 (by decide) ?_
    exact W.iret hx hb hr (fun t ht hW => hf_okI (by simp only [hx_add, if_pos c1]) ht) (fun q h => by cases h) dX0_add_15
  · skip
    refine lv_iload_n hx hb dX0_add_7 rfl (lv_at hl 2 rfl) ?_
    refine W.callV (r := .int (hx_isNumber a1)) (W.runS (As := [.int a1]) (rest := []) ⟨hx, hb, hml, hown, hts⟩ (met_X0_isNumber l a1) (va_cwS 1 hts (lw_S q49 q50 q7 q51) rfl rfl rfl (by decide +kernel) ⟨Nat.le_of_ble_eq_true rfl, Nat.le_of_ble_eq_true rfl⟩) preEq rfl rfl hl.1 rfl (lv_room (Nat.le_of_ble_eq_true rfl)) dX0_add_8 ⟨Nat.le_of_ble_eq_true rfl, Nat.le_of_ble_eq_true rfl⟩) ?_
    refine W.eq (g2 := F0 m 11 ls [.int (hx_isNumber a1)]) rfl ?_
    refine lv_if_ne (tgt := 16) hx hb dX0_add_11 (by decide) (fun c2 => ?_) (fun c2 => ?_)
    · skip
      refine lv_iload_n hx hb dX0_add_16 rfl (lv_at hl 1 rfl) ?_
      refine W.callV (r := .long (hx_signed a0)) (W.runS (As := [.int a0]) (rest := []) ⟨hx, hb, hml, hown, hts⟩ (met_X0_signed l a0) (va_cwS 1 hts (lw_S q53 q54 q7 q55) rfl rfl rfl (by decide +kernel) ⟨Nat.le_of_ble_eq_true rfl, Nat.le_of_ble_eq_true rfl⟩) preEq rfl rfl hl.1 rfl (lv_room (Nat.le_of_ble_eq_true rfl)) dX0_add_17 ⟨Nat.le_of_ble_eq_true rfl, Nat.le_of_ble_eq_true rfl⟩) ?_
      refine W.eq (g2 := F0 m 20 ls [.long (hx_signed a0)]) rfl ?_
      refine lv_iload_n hx hb dX0_add_20 rfl (lv_at hl 2 rfl) ?_
      refine W.callV (r := .long (hx_signed a1)) (W.runS (As := [.int a1]) (rest := [.long (hx_signed a0)]) ⟨hx, hb, hml, hown, hts⟩ (met_X0_signed l a1) (va_cwS 1 hts (lw_S q53 q54 q7 q55) rfl rfl rfl (by decide +kernel) ⟨Nat.le_of_ble_eq_true rfl, Nat.le_of_ble_eq_true rfl⟩) preEq rfl rfl hl.1 rfl (lv_room (Nat.le_of_ble_eq_true rfl)) dX0_add_21 ⟨Nat.le_of_ble_eq_true rfl, Nat.le_of_ble_eq_true rfl⟩) ?_
      refine W.eq (g2 := F0 m 24 ls [.long (hx_signed a1), .long (hx_signed a0)]) rfl ?_
      refine lv_ladd hx hb dX0_add_24 ?_
      refine lv_topl (fun v3 ev3 => ?_)
      refine lv_lstore_n (lv' := [(3, .long v3), (0, .ref h0), (1, .int a0), (2, .int a1)]) hx hb dX0_add_25 rfl hl (by decide) rfl (fun ls hl => ?_)
      refine lv_lload_n hx hb dX0_add_26 rfl (lv_at hl 0 rfl) ?_
      refine lv_lconst (v := 0) hx hb dX0_add_27 (by decide) ?_
      have J38 : ∀ (v4 : Int64), v4 = (if (0 : Int64) ≤ (v3 : Int64) then (v3)
  else (-v3)) → ∀ ls : Array Slot, lv_has ls 6 [(3, .long v3), (0, .ref h0), (1, .int a0), (2, .int a1)] → (W p l e (headSpec (ws_ yX0_add cX0_add 6 (some .int)) ({ frames := 2, cells := 0, slots := 0, locals := 43 } : Room)).room s m ([.ref h0, .int a0, .int a1] : List Value).toArray below meth c s.heap [] 0 0 (MQ below (k2_QcV (.int (hx_add a0 a1))) ([.ref h0, .int a0, .int a1] : List Value).toArray s 0 0 (fun _ => False))) (F0 m 38 ls [.long v4]) := by
        intro v4 ev4 ls hl
        refine lv_iconst (v := 0) hx hb dX0_add_38 (by decide) ?_
        refine W.callV (r := .int (hx_round v4 0)) (W.runS (As := [.long v4, .int 0]) (rest := []) ⟨hx, hb, hml, hown, hts⟩ (met_X0_round l v4 0) (va_cwS 2 hts (lw_S q63 q64 q7 q65) rfl rfl rfl (by decide +kernel) ⟨Nat.le_of_ble_eq_true rfl, Nat.le_of_ble_eq_true rfl⟩) preEq rfl rfl hl.1 rfl (lv_room (Nat.le_of_ble_eq_true rfl)) dX0_add_39 ⟨Nat.le_of_ble_eq_true rfl, Nat.le_of_ble_eq_true rfl⟩) ?_
        refine W.eq (g2 := F0 m 42 ls [.int (hx_round v4 0)]) rfl ?_
        refine lv_topi (fun v6 ev6 => ?_)
        refine lv_istore (lv' := [(5, .int v6), (3, .long v3), (0, .ref h0), (1, .int a0), (2, .int a1)]) hx hb dX0_add_42 hl (by decide) rfl (fun ls hl => ?_)
        refine lv_lload_n hx hb dX0_add_44 rfl (lv_at hl 1 rfl) ?_
        refine lv_lconst (v := 0) hx hb dX0_add_45 (by decide) ?_
        refine hf_lcmp_ge (tgt := 58) hx hb dX0_add_46 dX0_add_47 (by decide) (fun c7 => ?_) (fun c7 => ?_)
        · skip
          refine lv_iload hx hb dX0_add_58 (lv_at hl 0 rfl) ?_
          exact W.iret hx hb hr (fun t ht hW => hf_okI (by have hh := ev3.symm; subst hh; have hh := ev4.symm; subst hh; have hh := ev6.symm; subst hh; simp only [hx_add, if_neg c1, if_neg c2, if_pos c7]) ht) (fun q h => by cases h) dX0_add_60
        · skip
          refine lv_iload hx hb dX0_add_50 (lv_at hl 0 rfl) ?_
          refine W.callV (r := .int (hx_negative v6)) (W.runS (As := [.int v6]) (rest := []) ⟨hx, hb, hml, hown, hts⟩ (met_X0_negative l v6) (va_cwS 1 hts (lw_S q68 q69 q7 q70) rfl rfl rfl (by decide +kernel) ⟨Nat.le_of_ble_eq_true rfl, Nat.le_of_ble_eq_true rfl⟩) preEq rfl rfl hl.1 rfl (lv_room (Nat.le_of_ble_eq_true rfl)) dX0_add_52 ⟨Nat.le_of_ble_eq_true rfl, Nat.le_of_ble_eq_true rfl⟩) ?_
          refine W.eq (g2 := F0 m 55 ls [.int (hx_negative v6)]) rfl ?_
          refine lv_goto (tgt := 60) hx hb dX0_add_55 (by decide) ?_
          exact W.iret hx hb hr (fun t ht hW => hf_okI (by have hh := ev3.symm; subst hh; have hh := ev4.symm; subst hh; have hh := ev6.symm; subst hh; simp only [hx_add, if_neg c1, if_neg c2, if_neg c7]) ht) (fun q h => by cases h) dX0_add_60
      refine hf_lcmp_ge (tgt := 37) hx hb dX0_add_28 dX0_add_29 (by decide) (fun c5 => ?_) (fun c5 => ?_)
      · skip
        refine lv_lload_n hx hb dX0_add_37 rfl (lv_at hl 0 rfl) ?_
        exact J38 _ (by simp only [if_pos c5]) ls hl
      · skip
        refine lv_lload_n hx hb dX0_add_32 rfl (lv_at hl 0 rfl) ?_
        refine lv_lneg hx hb dX0_add_33 ?_
        refine lv_goto (tgt := 38) hx hb dX0_add_34 (by decide) ?_
        exact J38 _ (by simp only [if_neg c5]) ls hl
    · skip
      refine lv_iconst (v := (-1)) hx hb dX0_add_14 (by decide) ?_
      exact W.iret hx hb hr (fun t ht hW => hf_okI (by simp only [hx_add, if_neg c1, if_pos c2]) ht) (fun q h => by cases h) dX0_add_15
set_option maxHeartbeats 400000 in
set_option maxRecDepth 100000 in
theorem met_X0_multiply (l : Launch) (h0 : Nat) (a0 : Int32) (a1 : Int32) : Met l yX0_multiply (ws_ yX0_multiply cX0_multiply 6 (some .int)) ({ frames := 2, cells := 0, slots := 0, locals := 60 } : Room) (fun v _ => v = ([.ref h0, .int a0, .int a1] : List Value).toArray) (k2_QcV (.int (hx_multiply a0 a1))) 0 0 (fun _ => False) := by
  refine Met.ofW (cc := cX0_multiply) (maxL := 6) (ret := some .int) (by decide) rfl ?_
  intro p e s m args below meth c s₁ B hml hv
  subst hv
  have hx := B.exec
  have hb := B.bytes
  have hr := B.returns
  have hts := atoms_spec (ws := (ws_ yX0_multiply cX0_multiply 6 (some .int))) B.pre
  have hts : ∀ w ∈ lw_all, w.before _ s = true := fun w h => hts w (List.mem_cons_of_mem _ h)
  have hown : s.vm.findClass RX0 = some m.cls := findClass_of_methodNamed B.named
  have hlocks := B.notSynchronized
  have hl := lv_entry ([.ref h0, .int a0, .int a1]) (n := 6) (Nat.le_of_ble_eq_true rfl)
  rw [lg_entry_eq]
  generalize (lg_sl ([.ref h0, .int a0, .int a1]) ++ List.replicate (6 - (lg_sl ([.ref h0, .int a0, .int a1])).length) Slot.unset).toArray = ls at hl ⊢
  have hl : lv_has ls 6 [(0, .ref h0), (1, .int a0), (2, .int a1)] := hl
  refine lv_iload_n hx hb dX0_multiply_0 rfl (lv_at hl 1 rfl) ?_
  refine W.callV (r := .int (hx_isNumber a0)) (W.runS (As := [.int a0]) (rest := []) ⟨hx, hb, hml, hown, hts⟩ (met_X0_isNumber l a0) (va_cwS 1 hts (lw_S q49 q50 q7 q51) rfl rfl rfl (by decide +kernel) ⟨Nat.le_of_ble_eq_true rfl, Nat.le_of_ble_eq_true rfl⟩) preEq rfl rfl hl.1 rfl (lv_room (Nat.le_of_ble_eq_true rfl)) dX0_multiply_1 ⟨Nat.le_of_ble_eq_true rfl, Nat.le_of_ble_eq_true rfl⟩) ?_
  refine W.eq (g2 := F0 m 4 ls [.int (hx_isNumber a0)]) rfl ?_
  refine lv_if_eq (tgt := 14) hx hb dX0_multiply_4 (by decide) (fun c1 => ?_) (fun c1 => ?_)
  · skip
    refine lv_iconst (v := (-1)) hx hb dX0_multiply_14 (by decide) ?_
    exact W.iret hx hb hr (fun t ht hW => hf_okI (by simp only [hx_multiply, if_pos c1]) ht) (fun q h => by cases h) dX0_multiply_15
  · skip
    refine lv_iload_n hx hb dX0_multiply_7 rfl (lv_at hl 2 rfl) ?_
    refine W.callV (r := .int (hx_isNumber a1)) (W.runS (As := [.int a1]) (rest := []) ⟨hx, hb, hml, hown, hts⟩ (met_X0_isNumber l a1) (va_cwS 1 hts (lw_S q49 q50 q7 q51) rfl rfl rfl (by decide +kernel) ⟨Nat.le_of_ble_eq_true rfl, Nat.le_of_ble_eq_true rfl⟩) preEq rfl rfl hl.1 rfl (lv_room (Nat.le_of_ble_eq_true rfl)) dX0_multiply_8 ⟨Nat.le_of_ble_eq_true rfl, Nat.le_of_ble_eq_true rfl⟩) ?_
    refine W.eq (g2 := F0 m 11 ls [.int (hx_isNumber a1)]) rfl ?_
    refine lv_if_ne (tgt := 16) hx hb dX0_multiply_11 (by decide) (fun c2 => ?_) (fun c2 => ?_)
    · skip
      refine lv_iload_n hx hb dX0_multiply_16 rfl (lv_at hl 1 rfl) ?_
      refine W.callV (r := .int (hx_digitsOf a0)) (W.runS (As := [.int a0]) (rest := []) ⟨hx, hb, hml, hown, hts⟩ (met_X0_digitsOf l a0) (va_cwS 1 hts (lw_S q56 q57 q7 q58) rfl rfl rfl (by decide +kernel) ⟨Nat.le_of_ble_eq_true rfl, Nat.le_of_ble_eq_true rfl⟩) preEq rfl rfl hl.1 rfl (lv_room (Nat.le_of_ble_eq_true rfl)) dX0_multiply_17 ⟨Nat.le_of_ble_eq_true rfl, Nat.le_of_ble_eq_true rfl⟩) ?_
      refine W.eq (g2 := F0 m 20 ls [.int (hx_digitsOf a0)]) rfl ?_
      refine lv_i2l hx hb dX0_multiply_20 rfl ?_
      refine lv_iload_n hx hb dX0_multiply_21 rfl (lv_at hl 2 rfl) ?_
      refine W.callV (r := .int (hx_digitsOf a1)) (W.runS (As := [.int a1]) (rest := [.long ((hx_digitsOf a0 : Int32).toInt64)]) ⟨hx, hb, hml, hown, hts⟩ (met_X0_digitsOf l a1) (va_cwS 1 hts (lw_S q56 q57 q7 q58) rfl rfl rfl (by decide +kernel) ⟨Nat.le_of_ble_eq_true rfl, Nat.le_of_ble_eq_true rfl⟩) preEq rfl rfl hl.1 rfl (lv_room (Nat.le_of_ble_eq_true rfl)) dX0_multiply_22 ⟨Nat.le_of_ble_eq_true rfl, Nat.le_of_ble_eq_true rfl⟩) ?_
      refine W.eq (g2 := F0 m 25 ls [.int (hx_digitsOf a1), .long ((hx_digitsOf a0 : Int32).toInt64)]) rfl ?_
      refine lv_i2l hx hb dX0_multiply_25 rfl ?_
      refine lv_lmul hx hb dX0_multiply_26 ?_
      refine lv_topl (fun v3 ev3 => ?_)
      refine lv_lstore_n (lv' := [(3, .long v3), (0, .ref h0), (1, .int a0), (2, .int a1)]) hx hb dX0_multiply_27 rfl hl (by decide) rfl (fun ls hl => ?_)
      refine lv_iload_n hx hb dX0_multiply_28 rfl (lv_at hl 2 rfl) ?_
      refine W.callV (r := .int (hx_placeOf a0)) (W.runS (As := [.int a0]) (rest := []) ⟨hx, hb, hml, hown, hts⟩ (met_X0_placeOf l a0) (va_cwS 1 hts (lw_S q59 q60 q7 q61) rfl rfl rfl (by decide +kernel) ⟨Nat.le_of_ble_eq_true rfl, Nat.le_of_ble_eq_true rfl⟩) preEq rfl rfl hl.1 rfl (lv_room (Nat.le_of_ble_eq_true rfl)) dX0_multiply_29 ⟨Nat.le_of_ble_eq_true rfl, Nat.le_of_ble_eq_true rfl⟩) ?_
      refine W.eq (g2 := F0 m 32 ls [.int (hx_placeOf a0)]) rfl ?_
      refine lv_iload_n hx hb dX0_multiply_32 rfl (lv_at hl 3 rfl) ?_
      refine W.callV (r := .int (hx_placeOf a1)) (W.runS (As := [.int a1]) (rest := [.int (hx_placeOf a0)]) ⟨hx, hb, hml, hown, hts⟩ (met_X0_placeOf l a1) (va_cwS 1 hts (lw_S q59 q60 q7 q61) rfl rfl rfl (by decide +kernel) ⟨Nat.le_of_ble_eq_true rfl, Nat.le_of_ble_eq_true rfl⟩) preEq rfl rfl hl.1 rfl (lv_room (Nat.le_of_ble_eq_true rfl)) dX0_multiply_33 ⟨Nat.le_of_ble_eq_true rfl, Nat.le_of_ble_eq_true rfl⟩) ?_
      refine W.eq (g2 := F0 m 36 ls [.int (hx_placeOf a1), .int (hx_placeOf a0)]) rfl ?_
      refine lv_iadd hx hb dX0_multiply_36 ?_
      refine lv_bipush (v := 20) hx hb dX0_multiply_37 (by decide) ?_
      refine lv_isub hx hb dX0_multiply_39 ?_
      refine lv_topi (fun v4 ev4 => ?_)
      refine lv_istore (lv' := [(5, .int v4), (3, .long v3), (0, .ref h0), (1, .int a0), (2, .int a1)]) hx hb dX0_multiply_40 hl (by decide) rfl (fun ls hl => ?_)
      refine lv_iload_n hx hb dX0_multiply_42 rfl (lv_at hl 3 rfl) ?_
      refine lv_iload_n hx hb dX0_multiply_43 rfl (lv_at hl 4 rfl) ?_
      refine lv_lload_n hx hb dX0_multiply_44 rfl (lv_at hl 1 rfl) ?_
      refine lv_iload hx hb dX0_multiply_45 (lv_at hl 0 rfl) ?_
      refine lv_iconst (v := 0) hx hb dX0_multiply_47 (by decide) ?_
      refine W.callV (r := .int (hx_withSign a0 a1 v3 v4 0)) (W.runS (As := [.int a0, .int a1, .long v3, .int v4, .int 0]) (rest := []) ⟨hx, hb, hml, hown, hts⟩ (met_X0_withSign l a0 a1 v3 v4 0) (va_cwS 5 hts (lw_S q75 q76 q7 q77) rfl rfl rfl (by decide +kernel) ⟨Nat.le_of_ble_eq_true rfl, Nat.le_of_ble_eq_true rfl⟩) preEq rfl rfl hl.1 rfl (lv_room (Nat.le_of_ble_eq_true rfl)) dX0_multiply_48 ⟨Nat.le_of_ble_eq_true rfl, Nat.le_of_ble_eq_true rfl⟩) ?_
      refine W.eq (g2 := F0 m 51 ls [.int (hx_withSign a0 a1 v3 v4 0)]) rfl ?_
      exact W.iret hx hb hr (fun t ht hW => hf_okI (by have hh := ev3.symm; subst hh; have hh := ev4.symm; subst hh; simp only [hx_multiply, if_neg c1, if_neg c2]) ht) (fun q h => by cases h) dX0_multiply_51
    · skip
      refine lv_iconst (v := (-1)) hx hb dX0_multiply_14 (by decide) ?_
      exact W.iret hx hb hr (fun t ht hW => hf_okI (by simp only [hx_multiply, if_neg c1, if_pos c2]) ht) (fun q h => by cases h) dX0_multiply_15
set_option maxHeartbeats 400000 in
set_option maxRecDepth 100000 in
theorem met_X0_divide (l : Launch) (h0 : Nat) (a0 : Int32) (a1 : Int32) : Met l yX0_divide (ws_ yX0_divide cX0_divide 9 (some .int)) ({ frames := 2, cells := 0, slots := 0, locals := 60 } : Room) (fun v _ => v = ([.ref h0, .int a0, .int a1] : List Value).toArray) (k2_QcV (.int (hx_divide a0 a1))) 0 0 (fun _ => False) := by
  refine Met.ofW (cc := cX0_divide) (maxL := 9) (ret := some .int) (by decide) rfl ?_
  intro p e s m args below meth c s₁ B hml hv
  subst hv
  have hx := B.exec
  have hb := B.bytes
  have hr := B.returns
  have hts := atoms_spec (ws := (ws_ yX0_divide cX0_divide 9 (some .int))) B.pre
  have hts : ∀ w ∈ lw_all, w.before _ s = true := fun w h => hts w (List.mem_cons_of_mem _ h)
  have hown : s.vm.findClass RX0 = some m.cls := findClass_of_methodNamed B.named
  have hlocks := B.notSynchronized
  have hl := lv_entry ([.ref h0, .int a0, .int a1]) (n := 9) (Nat.le_of_ble_eq_true rfl)
  rw [lg_entry_eq]
  generalize (lg_sl ([.ref h0, .int a0, .int a1]) ++ List.replicate (9 - (lg_sl ([.ref h0, .int a0, .int a1])).length) Slot.unset).toArray = ls at hl ⊢
  have hl : lv_has ls 9 [(0, .ref h0), (1, .int a0), (2, .int a1)] := hl
  refine lv_iload_n hx hb dX0_divide_0 rfl (lv_at hl 1 rfl) ?_
  refine W.callV (r := .int (hx_isNumber a0)) (W.runS (As := [.int a0]) (rest := []) ⟨hx, hb, hml, hown, hts⟩ (met_X0_isNumber l a0) (va_cwS 1 hts (lw_S q49 q50 q7 q51) rfl rfl rfl (by decide +kernel) ⟨Nat.le_of_ble_eq_true rfl, Nat.le_of_ble_eq_true rfl⟩) preEq rfl rfl hl.1 rfl (lv_room (Nat.le_of_ble_eq_true rfl)) dX0_divide_1 ⟨Nat.le_of_ble_eq_true rfl, Nat.le_of_ble_eq_true rfl⟩) ?_
  refine W.eq (g2 := F0 m 4 ls [.int (hx_isNumber a0)]) rfl ?_
  refine lv_if_eq (tgt := 21) hx hb dX0_divide_4 (by decide) (fun c1 => ?_) (fun c1 => ?_)
  · skip
    refine lv_iconst (v := (-1)) hx hb dX0_divide_21 (by decide) ?_
    exact W.iret hx hb hr (fun t ht hW => hf_okI (by simp only [hx_divide, if_pos c1]) ht) (fun q h => by cases h) dX0_divide_22
  · skip
    refine lv_iload_n hx hb dX0_divide_7 rfl (lv_at hl 2 rfl) ?_
    refine W.callV (r := .int (hx_isNumber a1)) (W.runS (As := [.int a1]) (rest := []) ⟨hx, hb, hml, hown, hts⟩ (met_X0_isNumber l a1) (va_cwS 1 hts (lw_S q49 q50 q7 q51) rfl rfl rfl (by decide +kernel) ⟨Nat.le_of_ble_eq_true rfl, Nat.le_of_ble_eq_true rfl⟩) preEq rfl rfl hl.1 rfl (lv_room (Nat.le_of_ble_eq_true rfl)) dX0_divide_8 ⟨Nat.le_of_ble_eq_true rfl, Nat.le_of_ble_eq_true rfl⟩) ?_
    refine W.eq (g2 := F0 m 11 ls [.int (hx_isNumber a1)]) rfl ?_
    refine lv_if_eq (tgt := 21) hx hb dX0_divide_11 (by decide) (fun c2 => ?_) (fun c2 => ?_)
    · skip
      refine lv_iconst (v := (-1)) hx hb dX0_divide_21 (by decide) ?_
      exact W.iret hx hb hr (fun t ht hW => hf_okI (by simp only [hx_divide, if_neg c1, if_pos c2]) ht) (fun q h => by cases h) dX0_divide_22
    · skip
      refine lv_iload_n hx hb dX0_divide_14 rfl (lv_at hl 2 rfl) ?_
      refine W.callV (r := .int (hx_digitsOf a1)) (W.runS (As := [.int a1]) (rest := []) ⟨hx, hb, hml, hown, hts⟩ (met_X0_digitsOf l a1) (va_cwS 1 hts (lw_S q56 q57 q7 q58) rfl rfl rfl (by decide +kernel) ⟨Nat.le_of_ble_eq_true rfl, Nat.le_of_ble_eq_true rfl⟩) preEq rfl rfl hl.1 rfl (lv_room (Nat.le_of_ble_eq_true rfl)) dX0_divide_15 ⟨Nat.le_of_ble_eq_true rfl, Nat.le_of_ble_eq_true rfl⟩) ?_
      refine W.eq (g2 := F0 m 18 ls [.int (hx_digitsOf a1)]) rfl ?_
      refine lv_if_ne (tgt := 23) hx hb dX0_divide_18 (by decide) (fun c3 => ?_) (fun c3 => ?_)
      · skip
        refine lv_iload_n hx hb dX0_divide_23 rfl (lv_at hl 1 rfl) ?_
        refine W.callV (r := .int (hx_digitsOf a0)) (W.runS (As := [.int a0]) (rest := []) ⟨hx, hb, hml, hown, hts⟩ (met_X0_digitsOf l a0) (va_cwS 1 hts (lw_S q56 q57 q7 q58) rfl rfl rfl (by decide +kernel) ⟨Nat.le_of_ble_eq_true rfl, Nat.le_of_ble_eq_true rfl⟩) preEq rfl rfl hl.1 rfl (lv_room (Nat.le_of_ble_eq_true rfl)) dX0_divide_24 ⟨Nat.le_of_ble_eq_true rfl, Nat.le_of_ble_eq_true rfl⟩) ?_
        refine W.eq (g2 := F0 m 27 ls [.int (hx_digitsOf a0)]) rfl ?_
        refine lv_i2l hx hb dX0_divide_27 rfl ?_
        refine lv_bipush (v := 26) hx hb dX0_divide_28 (by decide) ?_
        refine lv_lshl hx hb dX0_divide_30 rfl ?_
        refine lv_topl (fun v4 ev4 => ?_)
        refine lv_lstore_n (lv' := [(3, .long v4), (0, .ref h0), (1, .int a0), (2, .int a1)]) hx hb dX0_divide_31 rfl hl (by decide) rfl (fun ls hl => ?_)
        refine lv_lload_n hx hb dX0_divide_32 rfl (lv_at hl 0 rfl) ?_
        refine lv_iload_n hx hb dX0_divide_33 rfl (lv_at hl 3 rfl) ?_
        refine W.callV (r := .int (hx_digitsOf a1)) (W.runS (As := [.int a1]) (rest := [.long v4]) ⟨hx, hb, hml, hown, hts⟩ (met_X0_digitsOf l a1) (va_cwS 1 hts (lw_S q56 q57 q7 q58) rfl rfl rfl (by decide +kernel) ⟨Nat.le_of_ble_eq_true rfl, Nat.le_of_ble_eq_true rfl⟩) preEq rfl rfl hl.1 rfl (lv_room (Nat.le_of_ble_eq_true rfl)) dX0_divide_34 ⟨Nat.le_of_ble_eq_true rfl, Nat.le_of_ble_eq_true rfl⟩) ?_
        refine W.eq (g2 := F0 m 37 ls [.int (hx_digitsOf a1), .long v4]) rfl ?_
        refine lv_i2l hx hb dX0_divide_37 rfl ?_
        refine lv_ldiv hx hb dX0_divide_38 (hf_ne_i2l (by assumption)) ?_
        refine lv_topl (fun v5 ev5 => ?_)
        refine lv_lstore (lv' := [(5, .long v5), (3, .long v4), (0, .ref h0), (1, .int a0), (2, .int a1)]) hx hb dX0_divide_39 hl (by decide) rfl (fun ls hl => ?_)
        refine lv_lload_n hx hb dX0_divide_41 rfl (lv_at hl 1 rfl) ?_
        refine lv_iload_n hx hb dX0_divide_42 rfl (lv_at hl 4 rfl) ?_
        refine W.callV (r := .int (hx_digitsOf a1)) (W.runS (As := [.int a1]) (rest := [.long v4]) ⟨hx, hb, hml, hown, hts⟩ (met_X0_digitsOf l a1) (va_cwS 1 hts (lw_S q56 q57 q7 q58) rfl rfl rfl (by decide +kernel) ⟨Nat.le_of_ble_eq_true rfl, Nat.le_of_ble_eq_true rfl⟩) preEq rfl rfl hl.1 rfl (lv_room (Nat.le_of_ble_eq_true rfl)) dX0_divide_43 ⟨Nat.le_of_ble_eq_true rfl, Nat.le_of_ble_eq_true rfl⟩) ?_
        refine W.eq (g2 := F0 m 46 ls [.int (hx_digitsOf a1), .long v4]) rfl ?_
        refine lv_i2l hx hb dX0_divide_46 rfl ?_
        refine lv_lrem hx hb dX0_divide_47 (hf_ne_i2l (by assumption)) ?_
        refine lv_lconst (v := 0) hx hb dX0_divide_48 (by decide) ?_
        have J58 : ∀ (v6 : Int32), v6 = (if (v4 - v4 / ((hx_digitsOf a1 : Int32).toInt64) * ((hx_digitsOf a1 : Int32).toInt64) : Int64) = (0 : Int64) then (0)
  else (1)) → ∀ ls : Array Slot, lv_has ls 9 [(5, .long v5), (3, .long v4), (0, .ref h0), (1, .int a0), (2, .int a1)] → (W p l e (headSpec (ws_ yX0_divide cX0_divide 9 (some .int)) ({ frames := 2, cells := 0, slots := 0, locals := 60 } : Room)).room s m ([.ref h0, .int a0, .int a1] : List Value).toArray below meth c s.heap [] 0 0 (MQ below (k2_QcV (.int (hx_divide a0 a1))) ([.ref h0, .int a0, .int a1] : List Value).toArray s 0 0 (fun _ => False))) (F0 m 58 ls [.int v6]) := by
          intro v6 ev6 ls hl
          refine lv_istore (lv' := [(7, .int v6), (5, .long v5), (3, .long v4), (0, .ref h0), (1, .int a0), (2, .int a1)]) hx hb dX0_divide_58 hl (by decide) rfl (fun ls hl => ?_)
          refine lv_iload_n hx hb dX0_divide_60 rfl (lv_at hl 4 rfl) ?_
          refine W.callV (r := .int (hx_placeOf a0)) (W.runS (As := [.int a0]) (rest := []) ⟨hx, hb, hml, hown, hts⟩ (met_X0_placeOf l a0) (va_cwS 1 hts (lw_S q59 q60 q7 q61) rfl rfl rfl (by decide +kernel) ⟨Nat.le_of_ble_eq_true rfl, Nat.le_of_ble_eq_true rfl⟩) preEq rfl rfl hl.1 rfl (lv_room (Nat.le_of_ble_eq_true rfl)) dX0_divide_61 ⟨Nat.le_of_ble_eq_true rfl, Nat.le_of_ble_eq_true rfl⟩) ?_
          refine W.eq (g2 := F0 m 64 ls [.int (hx_placeOf a0)]) rfl ?_
          refine lv_iload_n hx hb dX0_divide_64 rfl (lv_at hl 5 rfl) ?_
          refine W.callV (r := .int (hx_placeOf a1)) (W.runS (As := [.int a1]) (rest := [.int (hx_placeOf a0)]) ⟨hx, hb, hml, hown, hts⟩ (met_X0_placeOf l a1) (va_cwS 1 hts (lw_S q59 q60 q7 q61) rfl rfl rfl (by decide +kernel) ⟨Nat.le_of_ble_eq_true rfl, Nat.le_of_ble_eq_true rfl⟩) preEq rfl rfl hl.1 rfl (lv_room (Nat.le_of_ble_eq_true rfl)) dX0_divide_65 ⟨Nat.le_of_ble_eq_true rfl, Nat.le_of_ble_eq_true rfl⟩) ?_
          refine W.eq (g2 := F0 m 68 ls [.int (hx_placeOf a1), .int (hx_placeOf a0)]) rfl ?_
          refine lv_isub hx hb dX0_divide_68 ?_
          refine lv_iconst (v := 2) hx hb dX0_divide_69 (by decide) ?_
          refine lv_iadd hx hb dX0_divide_70 ?_
          refine lv_topi (fun v8 ev8 => ?_)
          refine lv_istore (lv' := [(8, .int v8), (7, .int v6), (5, .long v5), (3, .long v4), (0, .ref h0), (1, .int a0), (2, .int a1)]) hx hb dX0_divide_71 hl (by decide) rfl (fun ls hl => ?_)
          refine lv_iload_n hx hb dX0_divide_73 rfl (lv_at hl 5 rfl) ?_
          refine lv_iload_n hx hb dX0_divide_74 rfl (lv_at hl 6 rfl) ?_
          refine lv_lload hx hb dX0_divide_75 (lv_at hl 2 rfl) ?_
          refine lv_iload hx hb dX0_divide_77 (lv_at hl 0 rfl) ?_
          refine lv_iload hx hb dX0_divide_79 (lv_at hl 1 rfl) ?_
          refine W.callV (r := .int (hx_withSign a0 a1 v5 v8 v6)) (W.runS (As := [.int a0, .int a1, .long v5, .int v8, .int v6]) (rest := []) ⟨hx, hb, hml, hown, hts⟩ (met_X0_withSign l a0 a1 v5 v8 v6) (va_cwS 5 hts (lw_S q75 q76 q7 q77) rfl rfl rfl (by decide +kernel) ⟨Nat.le_of_ble_eq_true rfl, Nat.le_of_ble_eq_true rfl⟩) preEq rfl rfl hl.1 rfl (lv_room (Nat.le_of_ble_eq_true rfl)) dX0_divide_81 ⟨Nat.le_of_ble_eq_true rfl, Nat.le_of_ble_eq_true rfl⟩) ?_
          refine W.eq (g2 := F0 m 84 ls [.int (hx_withSign a0 a1 v5 v8 v6)]) rfl ?_
          exact W.iret hx hb hr (fun t ht hW => hf_okI (by have hh := ev4.symm; subst hh; have hh := ev5.symm; subst hh; have hh := ev6.symm; subst hh; have hh := ev8.symm; subst hh; simp only [hx_divide, if_neg c1, if_neg c2, if_neg c3]) ht) (fun q h => by cases h) dX0_divide_84
        refine hf_lcmp_eq (tgt := 57) hx hb dX0_divide_49 dX0_divide_50 (by decide) (fun c7 => ?_) (fun c7 => ?_)
        · skip
          refine lv_iconst (v := 0) hx hb dX0_divide_57 (by decide) ?_
          exact J58 _ (by simp only [if_pos c7]) ls hl
        · skip
          refine lv_iconst (v := 1) hx hb dX0_divide_53 (by decide) ?_
          refine lv_goto (tgt := 58) hx hb dX0_divide_54 (by decide) ?_
          exact J58 _ (by simp only [if_neg c7]) ls hl
      · skip
        refine lv_iconst (v := (-1)) hx hb dX0_divide_21 (by decide) ?_
        exact W.iret hx hb hr (fun t ht hW => hf_okI (by simp only [hx_divide, if_neg c1, if_neg c2, if_pos c3]) ht) (fun q h => by cases h) dX0_divide_22
set_option maxHeartbeats 400000 in
set_option maxRecDepth 100000 in
theorem met_X0_root (l : Launch) (h0 : Nat) (a0 : Int32) : Met l yX0_root (ws_ yX0_root cX0_root 8 (some .int)) ({ frames := 1, cells := 0, slots := 0, locals := 32 } : Room) (fun v _ => v = ([.ref h0, .int a0] : List Value).toArray) (k2_QcV (.int (hx_root a0))) 0 0 (fun _ => False) := by
  refine Met.ofW (cc := cX0_root) (maxL := 8) (ret := some .int) (by decide) rfl ?_
  intro p e s m args below meth c s₁ B hml hv
  subst hv
  have hx := B.exec
  have hb := B.bytes
  have hr := B.returns
  have hts := atoms_spec (ws := (ws_ yX0_root cX0_root 8 (some .int))) B.pre
  have hts : ∀ w ∈ lw_all, w.before _ s = true := fun w h => hts w (List.mem_cons_of_mem _ h)
  have hown : s.vm.findClass RX0 = some m.cls := findClass_of_methodNamed B.named
  have hlocks := B.notSynchronized
  have hl := lv_entry ([.ref h0, .int a0]) (n := 8) (Nat.le_of_ble_eq_true rfl)
  rw [lg_entry_eq]
  generalize (lg_sl ([.ref h0, .int a0]) ++ List.replicate (8 - (lg_sl ([.ref h0, .int a0])).length) Slot.unset).toArray = ls at hl ⊢
  have hl : lv_has ls 8 [(0, .ref h0), (1, .int a0)] := hl
  refine lv_iload_n hx hb dX0_root_0 rfl (lv_at hl 1 rfl) ?_
  refine W.callV (r := .int (hx_isNumber a0)) (W.runS (As := [.int a0]) (rest := []) ⟨hx, hb, hml, hown, hts⟩ (met_X0_isNumber l a0) (va_cwS 1 hts (lw_S q49 q50 q7 q51) rfl rfl rfl (by decide +kernel) ⟨Nat.le_of_ble_eq_true rfl, Nat.le_of_ble_eq_true rfl⟩) preEq rfl rfl hl.1 rfl (lv_room (Nat.le_of_ble_eq_true rfl)) dX0_root_1 ⟨Nat.le_of_ble_eq_true rfl, Nat.le_of_ble_eq_true rfl⟩) ?_
  refine W.eq (g2 := F0 m 4 ls [.int (hx_isNumber a0)]) rfl ?_
  refine lv_if_eq (tgt := 20) hx hb dX0_root_4 (by decide) (fun c1 => ?_) (fun c1 => ?_)
  · skip
    refine lv_iconst (v := (-1)) hx hb dX0_root_20 (by decide) ?_
    exact W.iret hx hb hr (fun t ht hW => hf_okI (by simp only [hx_root, if_pos c1]) ht) (fun q h => by cases h) dX0_root_21
  · skip
    refine lv_iload_n hx hb dX0_root_7 rfl (lv_at hl 1 rfl) ?_
    refine lv_ldc (v := 32768) hx hb hown (hts _ q62) dX0_root_8 ?_
    refine lv_icmp_lt (tgt := 22) hx hb dX0_root_10 (by decide) (fun c2 => ?_) (fun c2 => ?_)
    · skip
      refine lv_iload_n hx hb dX0_root_22 rfl (lv_at hl 1 rfl) ?_
      refine W.callV (r := .int (hx_placeOf a0)) (W.runS (As := [.int a0]) (rest := []) ⟨hx, hb, hml, hown, hts⟩ (met_X0_placeOf l a0) (va_cwS 1 hts (lw_S q59 q60 q7 q61) rfl rfl rfl (by decide +kernel) ⟨Nat.le_of_ble_eq_true rfl, Nat.le_of_ble_eq_true rfl⟩) preEq rfl rfl hl.1 rfl (lv_room (Nat.le_of_ble_eq_true rfl)) dX0_root_23 ⟨Nat.le_of_ble_eq_true rfl, Nat.le_of_ble_eq_true rfl⟩) ?_
      refine W.eq (g2 := F0 m 26 ls [.int (hx_placeOf a0)]) rfl ?_
      refine lv_iconst (v := 1) hx hb dX0_root_26 (by decide) ?_
      refine lv_iand hx hb dX0_root_27 ?_
      have J38 : ∀ (v3 : Int32), v3 = (if ((hx_placeOf a0) &&& 1 : Int32) = (0 : Int32) then (30)
  else (31)) → ∀ ls : Array Slot, lv_has ls 8 [(0, .ref h0), (1, .int a0)] → (W p l e (headSpec (ws_ yX0_root cX0_root 8 (some .int)) ({ frames := 1, cells := 0, slots := 0, locals := 32 } : Room)).room s m ([.ref h0, .int a0] : List Value).toArray below meth c s.heap [] 0 0 (MQ below (k2_QcV (.int (hx_root a0))) ([.ref h0, .int a0] : List Value).toArray s 0 0 (fun _ => False))) (F0 m 38 ls [.int v3]) := by
        intro v3 ev3 ls hl
        refine lv_istore_n (lv' := [(2, .int v3), (0, .ref h0), (1, .int a0)]) hx hb dX0_root_38 rfl hl (by decide) rfl (fun ls hl => ?_)
        refine lv_iload_n hx hb dX0_root_39 rfl (lv_at hl 2 rfl) ?_
        refine W.callV (r := .int (hx_digitsOf a0)) (W.runS (As := [.int a0]) (rest := []) ⟨hx, hb, hml, hown, hts⟩ (met_X0_digitsOf l a0) (va_cwS 1 hts (lw_S q56 q57 q7 q58) rfl rfl rfl (by decide +kernel) ⟨Nat.le_of_ble_eq_true rfl, Nat.le_of_ble_eq_true rfl⟩) preEq rfl rfl hl.1 rfl (lv_room (Nat.le_of_ble_eq_true rfl)) dX0_root_40 ⟨Nat.le_of_ble_eq_true rfl, Nat.le_of_ble_eq_true rfl⟩) ?_
        refine W.eq (g2 := F0 m 43 ls [.int (hx_digitsOf a0)]) rfl ?_
        refine lv_i2l hx hb dX0_root_43 rfl ?_
        refine lv_iload_n hx hb dX0_root_44 rfl (lv_at hl 0 rfl) ?_
        refine lv_lshl hx hb dX0_root_45 rfl ?_
        refine lv_topl (fun v5 ev5 => ?_)
        refine lv_lstore_n (lv' := [(3, .long v5), (2, .int v3), (0, .ref h0), (1, .int a0)]) hx hb dX0_root_46 rfl hl (by decide) rfl (fun ls hl => ?_)
        refine lv_lload_n hx hb dX0_root_47 rfl (lv_at hl 0 rfl) ?_
        refine W.callV (r := .long (hx_rootOf v5)) (W.runS (As := [.long v5]) (rest := []) ⟨hx, hb, hml, hown, hts⟩ (met_X0_rootOf l v5) (va_cwS 1 hts (lw_S q86 q87 q7 q88) rfl rfl rfl (by decide +kernel) ⟨Nat.le_of_ble_eq_true rfl, Nat.le_of_ble_eq_true rfl⟩) preEq rfl rfl hl.1 rfl (lv_room (Nat.le_of_ble_eq_true rfl)) dX0_root_48 ⟨Nat.le_of_ble_eq_true rfl, Nat.le_of_ble_eq_true rfl⟩) ?_
        refine W.eq (g2 := F0 m 51 ls [.long (hx_rootOf v5)]) rfl ?_
        refine lv_topl (fun v6 ev6 => ?_)
        refine lv_lstore (lv' := [(5, .long v6), (3, .long v5), (2, .int v3), (0, .ref h0), (1, .int a0)]) hx hb dX0_root_51 hl (by decide) rfl (fun ls hl => ?_)
        refine lv_iload_n hx hb dX0_root_53 rfl (lv_at hl 4 rfl) ?_
        refine W.callV (r := .int (hx_placeOf a0)) (W.runS (As := [.int a0]) (rest := []) ⟨hx, hb, hml, hown, hts⟩ (met_X0_placeOf l a0) (va_cwS 1 hts (lw_S q59 q60 q7 q61) rfl rfl rfl (by decide +kernel) ⟨Nat.le_of_ble_eq_true rfl, Nat.le_of_ble_eq_true rfl⟩) preEq rfl rfl hl.1 rfl (lv_room (Nat.le_of_ble_eq_true rfl)) dX0_root_54 ⟨Nat.le_of_ble_eq_true rfl, Nat.le_of_ble_eq_true rfl⟩) ?_
        refine W.eq (g2 := F0 m 57 ls [.int (hx_placeOf a0)]) rfl ?_
        refine lv_bipush (v := 32) hx hb dX0_root_57 (by decide) ?_
        refine lv_iadd hx hb dX0_root_59 ?_
        refine lv_iload_n hx hb dX0_root_60 rfl (lv_at hl 2 rfl) ?_
        refine lv_isub hx hb dX0_root_61 ?_
        refine lv_iconst (v := 2) hx hb dX0_root_62 (by decide) ?_
        refine lv_idiv hx hb dX0_root_63 (by decide) ?_
        refine lv_topi (fun v7 ev7 => ?_)
        refine lv_istore (lv' := [(7, .int v7), (5, .long v6), (3, .long v5), (2, .int v3), (0, .ref h0), (1, .int a0)]) hx hb dX0_root_64 hl (by decide) rfl (fun ls hl => ?_)
        refine lv_lload hx hb dX0_root_66 (lv_at hl 1 rfl) ?_
        refine lv_iload hx hb dX0_root_68 (lv_at hl 0 rfl) ?_
        refine lv_lshl hx hb dX0_root_70 rfl ?_
        refine lv_lload hx hb dX0_root_71 (lv_at hl 1 rfl) ?_
        refine lv_lload hx hb dX0_root_73 (lv_at hl 1 rfl) ?_
        refine lv_lmul hx hb dX0_root_75 ?_
        refine lv_lload_n hx hb dX0_root_76 rfl (lv_at hl 2 rfl) ?_
        have J86 : ∀ (v8 : Int32), v8 = (if (v6 * v6 : Int64) = (v5 : Int64) then (0)
  else (1)) → ∀ ls : Array Slot, lv_has ls 8 [(7, .int v7), (5, .long v6), (3, .long v5), (2, .int v3), (0, .ref h0), (1, .int a0)] → (W p l e (headSpec (ws_ yX0_root cX0_root 8 (some .int)) ({ frames := 1, cells := 0, slots := 0, locals := 32 } : Room)).room s m ([.ref h0, .int a0] : List Value).toArray below meth c s.heap [] 0 0 (MQ below (k2_QcV (.int (hx_root a0))) ([.ref h0, .int a0] : List Value).toArray s 0 0 (fun _ => False))) (F0 m 86 ls [.int v8, .long ((v6 : Int64) <<< ((v7 : Int32).toInt64 &&& 63))]) := by
          intro v8 ev8 ls hl
          refine W.callV (r := .int (hx_round ((v6 : Int64) <<< ((v7 : Int32).toInt64 &&& 63)) v8)) (W.runS (As := [.long ((v6 : Int64) <<< ((v7 : Int32).toInt64 &&& 63)), .int v8]) (rest := []) ⟨hx, hb, hml, hown, hts⟩ (met_X0_round l ((v6 : Int64) <<< ((v7 : Int32).toInt64 &&& 63)) v8) (va_cwS 2 hts (lw_S q63 q64 q7 q65) rfl rfl rfl (by decide +kernel) ⟨Nat.le_of_ble_eq_true rfl, Nat.le_of_ble_eq_true rfl⟩) preEq rfl rfl hl.1 rfl (lv_room (Nat.le_of_ble_eq_true rfl)) dX0_root_86 ⟨Nat.le_of_ble_eq_true rfl, Nat.le_of_ble_eq_true rfl⟩) ?_
          refine W.eq (g2 := F0 m 89 ls [.int (hx_round ((v6 : Int64) <<< ((v7 : Int32).toInt64 &&& 63)) v8)]) rfl ?_
          exact W.iret hx hb hr (fun t ht hW => hf_okI (by have hh := ev3.symm; subst hh; have hh := ev5.symm; subst hh; have hh := ev6.symm; subst hh; have hh := ev7.symm; subst hh; have hh := ev8.symm; subst hh; simp only [hx_root, if_neg c1, if_pos c2]) ht) (fun q h => by cases h) dX0_root_89
        refine hf_lcmp_eq (tgt := 85) hx hb dX0_root_77 dX0_root_78 (by decide) (fun c9 => ?_) (fun c9 => ?_)
        · skip
          refine lv_iconst (v := 0) hx hb dX0_root_85 (by decide) ?_
          exact J86 _ (by simp only [if_pos c9]) ls hl
        · skip
          refine lv_iconst (v := 1) hx hb dX0_root_81 (by decide) ?_
          refine lv_goto (tgt := 86) hx hb dX0_root_82 (by decide) ?_
          exact J86 _ (by simp only [if_neg c9]) ls hl
      refine lv_if_ne (tgt := 36) hx hb dX0_root_28 (by decide) (fun c4 => ?_) (fun c4 => ?_)
      · skip
        refine lv_bipush (v := 31) hx hb dX0_root_36 (by decide) ?_
        exact J38 _ (by simp only [if_neg c4]) ls hl
      · skip
        refine lv_bipush (v := 30) hx hb dX0_root_31 (by decide) ?_
        refine lv_goto (tgt := 38) hx hb dX0_root_33 (by decide) ?_
        exact J38 _ (by simp only [if_pos c4]) ls hl
    · skip
      refine lv_iload_n hx hb dX0_root_13 rfl (lv_at hl 1 rfl) ?_
      refine W.callV (r := .int (hx_digitsOf a0)) (W.runS (As := [.int a0]) (rest := []) ⟨hx, hb, hml, hown, hts⟩ (met_X0_digitsOf l a0) (va_cwS 1 hts (lw_S q56 q57 q7 q58) rfl rfl rfl (by decide +kernel) ⟨Nat.le_of_ble_eq_true rfl, Nat.le_of_ble_eq_true rfl⟩) preEq rfl rfl hl.1 rfl (lv_room (Nat.le_of_ble_eq_true rfl)) dX0_root_14 ⟨Nat.le_of_ble_eq_true rfl, Nat.le_of_ble_eq_true rfl⟩) ?_
      refine W.eq (g2 := F0 m 17 ls [.int (hx_digitsOf a0)]) rfl ?_
      refine lv_if_eq (tgt := 22) hx hb dX0_root_17 (by decide) (fun c10 => ?_) (fun c10 => ?_)
      · skip
        refine lv_iload_n hx hb dX0_root_22 rfl (lv_at hl 1 rfl) ?_
        refine W.callV (r := .int (hx_placeOf a0)) (W.runS (As := [.int a0]) (rest := []) ⟨hx, hb, hml, hown, hts⟩ (met_X0_placeOf l a0) (va_cwS 1 hts (lw_S q59 q60 q7 q61) rfl rfl rfl (by decide +kernel) ⟨Nat.le_of_ble_eq_true rfl, Nat.le_of_ble_eq_true rfl⟩) preEq rfl rfl hl.1 rfl (lv_room (Nat.le_of_ble_eq_true rfl)) dX0_root_23 ⟨Nat.le_of_ble_eq_true rfl, Nat.le_of_ble_eq_true rfl⟩) ?_
        refine W.eq (g2 := F0 m 26 ls [.int (hx_placeOf a0)]) rfl ?_
        refine lv_iconst (v := 1) hx hb dX0_root_26 (by decide) ?_
        refine lv_iand hx hb dX0_root_27 ?_
        have J38 : ∀ (v11 : Int32), v11 = (if ((hx_placeOf a0) &&& 1 : Int32) = (0 : Int32) then (30)
  else (31)) → ∀ ls : Array Slot, lv_has ls 8 [(0, .ref h0), (1, .int a0)] → (W p l e (headSpec (ws_ yX0_root cX0_root 8 (some .int)) ({ frames := 1, cells := 0, slots := 0, locals := 32 } : Room)).room s m ([.ref h0, .int a0] : List Value).toArray below meth c s.heap [] 0 0 (MQ below (k2_QcV (.int (hx_root a0))) ([.ref h0, .int a0] : List Value).toArray s 0 0 (fun _ => False))) (F0 m 38 ls [.int v11]) := by
          intro v11 ev11 ls hl
          refine lv_istore_n (lv' := [(2, .int v11), (0, .ref h0), (1, .int a0)]) hx hb dX0_root_38 rfl hl (by decide) rfl (fun ls hl => ?_)
          refine lv_iload_n hx hb dX0_root_39 rfl (lv_at hl 2 rfl) ?_
          refine W.callV (r := .int (hx_digitsOf a0)) (W.runS (As := [.int a0]) (rest := []) ⟨hx, hb, hml, hown, hts⟩ (met_X0_digitsOf l a0) (va_cwS 1 hts (lw_S q56 q57 q7 q58) rfl rfl rfl (by decide +kernel) ⟨Nat.le_of_ble_eq_true rfl, Nat.le_of_ble_eq_true rfl⟩) preEq rfl rfl hl.1 rfl (lv_room (Nat.le_of_ble_eq_true rfl)) dX0_root_40 ⟨Nat.le_of_ble_eq_true rfl, Nat.le_of_ble_eq_true rfl⟩) ?_
          refine W.eq (g2 := F0 m 43 ls [.int (hx_digitsOf a0)]) rfl ?_
          refine lv_i2l hx hb dX0_root_43 rfl ?_
          refine lv_iload_n hx hb dX0_root_44 rfl (lv_at hl 0 rfl) ?_
          refine lv_lshl hx hb dX0_root_45 rfl ?_
          refine lv_topl (fun v13 ev13 => ?_)
          refine lv_lstore_n (lv' := [(3, .long v13), (2, .int v11), (0, .ref h0), (1, .int a0)]) hx hb dX0_root_46 rfl hl (by decide) rfl (fun ls hl => ?_)
          refine lv_lload_n hx hb dX0_root_47 rfl (lv_at hl 0 rfl) ?_
          refine W.callV (r := .long (hx_rootOf v13)) (W.runS (As := [.long v13]) (rest := []) ⟨hx, hb, hml, hown, hts⟩ (met_X0_rootOf l v13) (va_cwS 1 hts (lw_S q86 q87 q7 q88) rfl rfl rfl (by decide +kernel) ⟨Nat.le_of_ble_eq_true rfl, Nat.le_of_ble_eq_true rfl⟩) preEq rfl rfl hl.1 rfl (lv_room (Nat.le_of_ble_eq_true rfl)) dX0_root_48 ⟨Nat.le_of_ble_eq_true rfl, Nat.le_of_ble_eq_true rfl⟩) ?_
          refine W.eq (g2 := F0 m 51 ls [.long (hx_rootOf v13)]) rfl ?_
          refine lv_topl (fun v14 ev14 => ?_)
          refine lv_lstore (lv' := [(5, .long v14), (3, .long v13), (2, .int v11), (0, .ref h0), (1, .int a0)]) hx hb dX0_root_51 hl (by decide) rfl (fun ls hl => ?_)
          refine lv_iload_n hx hb dX0_root_53 rfl (lv_at hl 4 rfl) ?_
          refine W.callV (r := .int (hx_placeOf a0)) (W.runS (As := [.int a0]) (rest := []) ⟨hx, hb, hml, hown, hts⟩ (met_X0_placeOf l a0) (va_cwS 1 hts (lw_S q59 q60 q7 q61) rfl rfl rfl (by decide +kernel) ⟨Nat.le_of_ble_eq_true rfl, Nat.le_of_ble_eq_true rfl⟩) preEq rfl rfl hl.1 rfl (lv_room (Nat.le_of_ble_eq_true rfl)) dX0_root_54 ⟨Nat.le_of_ble_eq_true rfl, Nat.le_of_ble_eq_true rfl⟩) ?_
          refine W.eq (g2 := F0 m 57 ls [.int (hx_placeOf a0)]) rfl ?_
          refine lv_bipush (v := 32) hx hb dX0_root_57 (by decide) ?_
          refine lv_iadd hx hb dX0_root_59 ?_
          refine lv_iload_n hx hb dX0_root_60 rfl (lv_at hl 2 rfl) ?_
          refine lv_isub hx hb dX0_root_61 ?_
          refine lv_iconst (v := 2) hx hb dX0_root_62 (by decide) ?_
          refine lv_idiv hx hb dX0_root_63 (by decide) ?_
          refine lv_topi (fun v15 ev15 => ?_)
          refine lv_istore (lv' := [(7, .int v15), (5, .long v14), (3, .long v13), (2, .int v11), (0, .ref h0), (1, .int a0)]) hx hb dX0_root_64 hl (by decide) rfl (fun ls hl => ?_)
          refine lv_lload hx hb dX0_root_66 (lv_at hl 1 rfl) ?_
          refine lv_iload hx hb dX0_root_68 (lv_at hl 0 rfl) ?_
          refine lv_lshl hx hb dX0_root_70 rfl ?_
          refine lv_lload hx hb dX0_root_71 (lv_at hl 1 rfl) ?_
          refine lv_lload hx hb dX0_root_73 (lv_at hl 1 rfl) ?_
          refine lv_lmul hx hb dX0_root_75 ?_
          refine lv_lload_n hx hb dX0_root_76 rfl (lv_at hl 2 rfl) ?_
          have J86 : ∀ (v16 : Int32), v16 = (if (v14 * v14 : Int64) = (v13 : Int64) then (0)
  else (1)) → ∀ ls : Array Slot, lv_has ls 8 [(7, .int v15), (5, .long v14), (3, .long v13), (2, .int v11), (0, .ref h0), (1, .int a0)] → (W p l e (headSpec (ws_ yX0_root cX0_root 8 (some .int)) ({ frames := 1, cells := 0, slots := 0, locals := 32 } : Room)).room s m ([.ref h0, .int a0] : List Value).toArray below meth c s.heap [] 0 0 (MQ below (k2_QcV (.int (hx_root a0))) ([.ref h0, .int a0] : List Value).toArray s 0 0 (fun _ => False))) (F0 m 86 ls [.int v16, .long ((v14 : Int64) <<< ((v15 : Int32).toInt64 &&& 63))]) := by
            intro v16 ev16 ls hl
            refine W.callV (r := .int (hx_round ((v14 : Int64) <<< ((v15 : Int32).toInt64 &&& 63)) v16)) (W.runS (As := [.long ((v14 : Int64) <<< ((v15 : Int32).toInt64 &&& 63)), .int v16]) (rest := []) ⟨hx, hb, hml, hown, hts⟩ (met_X0_round l ((v14 : Int64) <<< ((v15 : Int32).toInt64 &&& 63)) v16) (va_cwS 2 hts (lw_S q63 q64 q7 q65) rfl rfl rfl (by decide +kernel) ⟨Nat.le_of_ble_eq_true rfl, Nat.le_of_ble_eq_true rfl⟩) preEq rfl rfl hl.1 rfl (lv_room (Nat.le_of_ble_eq_true rfl)) dX0_root_86 ⟨Nat.le_of_ble_eq_true rfl, Nat.le_of_ble_eq_true rfl⟩) ?_
            refine W.eq (g2 := F0 m 89 ls [.int (hx_round ((v14 : Int64) <<< ((v15 : Int32).toInt64 &&& 63)) v16)]) rfl ?_
            exact W.iret hx hb hr (fun t ht hW => hf_okI (by have hh := ev11.symm; subst hh; have hh := ev13.symm; subst hh; have hh := ev14.symm; subst hh; have hh := ev15.symm; subst hh; have hh := ev16.symm; subst hh; simp only [hx_root, if_neg c1, if_neg c2, if_pos c10]) ht) (fun q h => by cases h) dX0_root_89
          refine hf_lcmp_eq (tgt := 85) hx hb dX0_root_77 dX0_root_78 (by decide) (fun c17 => ?_) (fun c17 => ?_)
          · skip
            refine lv_iconst (v := 0) hx hb dX0_root_85 (by decide) ?_
            exact J86 _ (by simp only [if_pos c17]) ls hl
          · skip
            refine lv_iconst (v := 1) hx hb dX0_root_81 (by decide) ?_
            refine lv_goto (tgt := 86) hx hb dX0_root_82 (by decide) ?_
            exact J86 _ (by simp only [if_neg c17]) ls hl
        refine lv_if_ne (tgt := 36) hx hb dX0_root_28 (by decide) (fun c12 => ?_) (fun c12 => ?_)
        · skip
          refine lv_bipush (v := 31) hx hb dX0_root_36 (by decide) ?_
          exact J38 _ (by simp only [if_neg c12]) ls hl
        · skip
          refine lv_bipush (v := 30) hx hb dX0_root_31 (by decide) ?_
          refine lv_goto (tgt := 38) hx hb dX0_root_33 (by decide) ?_
          exact J38 _ (by simp only [if_pos c12]) ls hl
      · skip
        refine lv_iconst (v := (-1)) hx hb dX0_root_20 (by decide) ?_
        exact W.iret hx hb hr (fun t ht hW => hf_okI (by simp only [hx_root, if_neg c1, if_neg c2, if_neg c10]) ht) (fun q h => by cases h) dX0_root_21
set_option maxHeartbeats 400000 in
set_option maxRecDepth 100000 in
theorem met_X0_parse (l : Launch) (h0 : Nat) (a0 : Int32) (a1 : Int32) : Met l yX0_parse (ws_ yX0_parse cX0_parse 7 (some .int)) ({ frames := 1, cells := 0, slots := 0, locals := 32 } : Room) (fun v _ => v = ([.ref h0, .int a0, .int a1] : List Value).toArray) (k2_QcV (.int (hx_parse a0 a1))) 0 0 (fun _ => False) := by
  refine Met.ofW (cc := cX0_parse) (maxL := 7) (ret := some .int) (by decide) rfl ?_
  intro p e s m args below meth c s₁ B hml hv
  subst hv
  have hx := B.exec
  have hb := B.bytes
  have hr := B.returns
  have hts := atoms_spec (ws := (ws_ yX0_parse cX0_parse 7 (some .int))) B.pre
  have hts : ∀ w ∈ lw_all, w.before _ s = true := fun w h => hts w (List.mem_cons_of_mem _ h)
  have hown : s.vm.findClass RX0 = some m.cls := findClass_of_methodNamed B.named
  have hlocks := B.notSynchronized
  have hl := lv_entry ([.ref h0, .int a0, .int a1]) (n := 7) (Nat.le_of_ble_eq_true rfl)
  rw [lg_entry_eq]
  generalize (lg_sl ([.ref h0, .int a0, .int a1]) ++ List.replicate (7 - (lg_sl ([.ref h0, .int a0, .int a1])).length) Slot.unset).toArray = ls at hl ⊢
  have hl : lv_has ls 7 [(0, .ref h0), (1, .int a0), (2, .int a1)] := hl
  refine lv_iload_n hx hb dX0_parse_0 rfl (lv_at hl 1 rfl) ?_
  refine lv_if_lt (tgt := 22) hx hb dX0_parse_1 (by decide) (fun c1 => ?_) (fun c1 => ?_)
  · skip
    refine lv_iconst (v := (-1)) hx hb dX0_parse_22 (by decide) ?_
    exact W.iret hx hb hr (fun t ht hW => hf_okI (by simp only [hx_parse, if_pos c1]) ht) (fun q h => by cases h) dX0_parse_23
  · skip
    refine lv_iload_n hx hb dX0_parse_4 rfl (lv_at hl 1 rfl) ?_
    refine lv_ldc (v := 999999) hx hb hown (hts _ q93) dX0_parse_5 ?_
    refine lv_icmp_gt (tgt := 22) hx hb dX0_parse_7 (by decide) (fun c2 => ?_) (fun c2 => ?_)
    · skip
      refine lv_iconst (v := (-1)) hx hb dX0_parse_22 (by decide) ?_
      exact W.iret hx hb hr (fun t ht hW => hf_okI (by simp only [hx_parse, if_neg c1, if_pos c2]) ht) (fun q h => by cases h) dX0_parse_23
    · skip
      refine lv_iload_n hx hb dX0_parse_10 rfl (lv_at hl 2 rfl) ?_
      refine lv_bipush (v := (-12)) hx hb dX0_parse_11 (by decide) ?_
      refine lv_icmp_lt (tgt := 22) hx hb dX0_parse_13 (by decide) (fun c3 => ?_) (fun c3 => ?_)
      · skip
        refine lv_iconst (v := (-1)) hx hb dX0_parse_22 (by decide) ?_
        exact W.iret hx hb hr (fun t ht hW => hf_okI (by simp only [hx_parse, if_neg c1, if_neg c2, if_pos c3]) ht) (fun q h => by cases h) dX0_parse_23
      · skip
        refine lv_iload_n hx hb dX0_parse_16 rfl (lv_at hl 2 rfl) ?_
        refine lv_bipush (v := 12) hx hb dX0_parse_17 (by decide) ?_
        refine lv_icmp_le (tgt := 24) hx hb dX0_parse_19 (by decide) (fun c4 => ?_) (fun c4 => ?_)
        · skip
          refine lv_iload_n hx hb dX0_parse_24 rfl (lv_at hl 2 rfl) ?_
          refine lv_if_ge (tgt := 63) hx hb dX0_parse_25 (by decide) (fun c5 => ?_) (fun c5 => ?_)
          · skip
            refine lv_iload_n hx hb dX0_parse_63 rfl (lv_at hl 1 rfl) ?_
            refine lv_i2l hx hb dX0_parse_64 rfl ?_
            refine lv_iload_n hx hb dX0_parse_65 rfl (lv_at hl 2 rfl) ?_
            refine W.callV (r := .long (hx_power a1)) (W.runS (As := [.int a1]) (rest := [.long ((a0 : Int32).toInt64)]) ⟨hx, hb, hml, hown, hts⟩ (met_X0_power l a1) (va_cwS 1 hts (lw_S q94 q95 q7 q96) rfl rfl rfl (by decide +kernel) ⟨Nat.le_of_ble_eq_true rfl, Nat.le_of_ble_eq_true rfl⟩) preEq rfl rfl hl.1 rfl (lv_room (Nat.le_of_ble_eq_true rfl)) dX0_parse_66 ⟨Nat.le_of_ble_eq_true rfl, Nat.le_of_ble_eq_true rfl⟩) ?_
            refine W.eq (g2 := F0 m 69 ls [.long (hx_power a1), .long ((a0 : Int32).toInt64)]) rfl ?_
            refine lv_lmul hx hb dX0_parse_69 ?_
            refine lv_topl (fun v6 ev6 => ?_)
            refine lv_lstore_n (lv' := [(3, .long v6), (0, .ref h0), (1, .int a0), (2, .int a1)]) hx hb dX0_parse_70 rfl hl (by decide) rfl (fun ls hl => ?_)
            refine lv_lload_n hx hb dX0_parse_71 rfl (lv_at hl 0 rfl) ?_
            refine lv_ldc2 (v := 65520) hx hb hown (hts _ q98) dX0_parse_72 ?_
            refine hf_lcmp_lt (tgt := 85) hx hb dX0_parse_75 dX0_parse_76 (by decide) (fun c7 => ?_) (fun c7 => ?_)
            · skip
              refine lv_lload_n hx hb dX0_parse_85 rfl (lv_at hl 0 rfl) ?_
              refine lv_bipush (v := 28) hx hb dX0_parse_86 (by decide) ?_
              refine lv_lshl hx hb dX0_parse_88 rfl ?_
              refine lv_iconst (v := 0) hx hb dX0_parse_89 (by decide) ?_
              refine W.callV (r := .int (hx_round ((v6 : Int64) <<< ((28 : Int32).toInt64 &&& 63)) 0)) (W.runS (As := [.long ((v6 : Int64) <<< ((28 : Int32).toInt64 &&& 63)), .int 0]) (rest := []) ⟨hx, hb, hml, hown, hts⟩ (met_X0_round l ((v6 : Int64) <<< ((28 : Int32).toInt64 &&& 63)) 0) (va_cwS 2 hts (lw_S q63 q64 q7 q65) rfl rfl rfl (by decide +kernel) ⟨Nat.le_of_ble_eq_true rfl, Nat.le_of_ble_eq_true rfl⟩) preEq rfl rfl hl.1 rfl (lv_room (Nat.le_of_ble_eq_true rfl)) dX0_parse_90 ⟨Nat.le_of_ble_eq_true rfl, Nat.le_of_ble_eq_true rfl⟩) ?_
              refine W.eq (g2 := F0 m 93 ls [.int (hx_round ((v6 : Int64) <<< ((28 : Int32).toInt64 &&& 63)) 0)]) rfl ?_
              exact W.iret hx hb hr (fun t ht hW => hf_okI (by have hh := ev6.symm; subst hh; simp only [hx_parse, if_neg c1, if_neg c2, if_neg c3, if_pos c4, if_pos c5, if_pos c7]) ht) (fun q h => by cases h) dX0_parse_93
            · skip
              refine lv_sipush (v := 31744) hx hb dX0_parse_79 (by decide) ?_
              refine lv_goto (tgt := 93) hx hb dX0_parse_82 (by decide) ?_
              exact W.iret hx hb hr (fun t ht hW => hf_okI (by have hh := ev6.symm; subst hh; simp only [hx_parse, if_neg c1, if_neg c2, if_neg c3, if_pos c4, if_pos c5, if_neg c7]) ht) (fun q h => by cases h) dX0_parse_93
          · skip
            refine lv_iload_n hx hb dX0_parse_28 rfl (lv_at hl 2 rfl) ?_
            refine lv_ineg hx hb dX0_parse_29 ?_
            refine W.callV (r := .long (hx_power (-a1))) (W.runS (As := [.int (-a1)]) (rest := []) ⟨hx, hb, hml, hown, hts⟩ (met_X0_power l (-a1)) (va_cwS 1 hts (lw_S q94 q95 q7 q96) rfl rfl rfl (by decide +kernel) ⟨Nat.le_of_ble_eq_true rfl, Nat.le_of_ble_eq_true rfl⟩) preEq rfl rfl hl.1 rfl (lv_room (Nat.le_of_ble_eq_true rfl)) dX0_parse_30 ⟨Nat.le_of_ble_eq_true rfl, Nat.le_of_ble_eq_true rfl⟩) ?_
            refine W.eq (g2 := F0 m 33 ls [.long (hx_power (-a1))]) rfl ?_
            refine lv_topl (fun v8 ev8 => ?_)
            refine lv_lstore_n (lv' := [(3, .long v8), (0, .ref h0), (1, .int a0), (2, .int a1)]) hx hb dX0_parse_33 rfl hl (by decide) rfl (fun ls hl => ?_)
            refine lv_iload_n hx hb dX0_parse_34 rfl (lv_at hl 2 rfl) ?_
            refine lv_i2l hx hb dX0_parse_35 rfl ?_
            refine lv_bipush (v := 28) hx hb dX0_parse_36 (by decide) ?_
            refine lv_lshl hx hb dX0_parse_38 rfl ?_
            refine lv_topl (fun v9 ev9 => ?_)
            refine lv_lstore (lv' := [(5, .long v9), (3, .long v8), (0, .ref h0), (1, .int a0), (2, .int a1)]) hx hb dX0_parse_39 hl (by decide) rfl (fun ls hl => ?_)
            refine lv_lload hx hb dX0_parse_41 (lv_at hl 0 rfl) ?_
            refine lv_lload_n hx hb dX0_parse_43 rfl (lv_at hl 1 rfl) ?_
            refine lv_ldiv hx hb dX0_parse_44 (by rw [ev8]; exact hx_power_ne _) ?_
            refine lv_lload hx hb dX0_parse_45 (lv_at hl 0 rfl) ?_
            refine lv_lload_n hx hb dX0_parse_47 rfl (lv_at hl 1 rfl) ?_
            refine lv_lrem hx hb dX0_parse_48 (by rw [ev8]; exact hx_power_ne _) ?_
            refine lv_lconst (v := 0) hx hb dX0_parse_49 (by decide) ?_
            have J59 : ∀ (v10 : Int32), v10 = (if (v9 - v9 / v8 * v8 : Int64) = (0 : Int64) then (0)
  else (1)) → ∀ ls : Array Slot, lv_has ls 7 [(5, .long v9), (3, .long v8), (0, .ref h0), (1, .int a0), (2, .int a1)] → (W p l e (headSpec (ws_ yX0_parse cX0_parse 7 (some .int)) ({ frames := 1, cells := 0, slots := 0, locals := 32 } : Room)).room s m ([.ref h0, .int a0, .int a1] : List Value).toArray below meth c s.heap [] 0 0 (MQ below (k2_QcV (.int (hx_parse a0 a1))) ([.ref h0, .int a0, .int a1] : List Value).toArray s 0 0 (fun _ => False))) (F0 m 59 ls [.int v10, .long (v9 / v8)]) := by
              intro v10 ev10 ls hl
              refine W.callV (r := .int (hx_round (v9 / v8) v10)) (W.runS (As := [.long (v9 / v8), .int v10]) (rest := []) ⟨hx, hb, hml, hown, hts⟩ (met_X0_round l (v9 / v8) v10) (va_cwS 2 hts (lw_S q63 q64 q7 q65) rfl rfl rfl (by decide +kernel) ⟨Nat.le_of_ble_eq_true rfl, Nat.le_of_ble_eq_true rfl⟩) preEq rfl rfl hl.1 rfl (lv_room (Nat.le_of_ble_eq_true rfl)) dX0_parse_59 ⟨Nat.le_of_ble_eq_true rfl, Nat.le_of_ble_eq_true rfl⟩) ?_
              refine W.eq (g2 := F0 m 62 ls [.int (hx_round (v9 / v8) v10)]) rfl ?_
              exact W.iret hx hb hr (fun t ht hW => hf_okI (by have hh := ev8.symm; subst hh; have hh := ev9.symm; subst hh; have hh := ev10.symm; subst hh; simp only [hx_parse, if_neg c1, if_neg c2, if_neg c3, if_pos c4, if_neg c5]) ht) (fun q h => by cases h) dX0_parse_62
            refine hf_lcmp_eq (tgt := 58) hx hb dX0_parse_50 dX0_parse_51 (by decide) (fun c11 => ?_) (fun c11 => ?_)
            · skip
              refine lv_iconst (v := 0) hx hb dX0_parse_58 (by decide) ?_
              exact J59 _ (by simp only [if_pos c11]) ls hl
            · skip
              refine lv_iconst (v := 1) hx hb dX0_parse_54 (by decide) ?_
              refine lv_goto (tgt := 59) hx hb dX0_parse_55 (by decide) ?_
              exact J59 _ (by simp only [if_neg c11]) ls hl
        · skip
          refine lv_iconst (v := (-1)) hx hb dX0_parse_22 (by decide) ?_
          exact W.iret hx hb hr (fun t ht hW => hf_okI (by simp only [hx_parse, if_neg c1, if_neg c2, if_neg c3, if_neg c4]) ht) (fun q h => by cases h) dX0_parse_23
set_option maxHeartbeats 400000 in
set_option maxRecDepth 100000 in
theorem met_X0_compare (l : Launch) (h0 : Nat) (a0 : Int32) (a1 : Int32) : Met l yX0_compare (ws_ yX0_compare cX0_compare 5 (some .int)) ({ frames := 2, cells := 0, slots := 0, locals := 43 } : Room) (fun v _ => v = ([.ref h0, .int a0, .int a1] : List Value).toArray) (k2_QcV (.int (hx_compare a0 a1))) 0 0 (fun _ => False) := by
  refine Met.ofW (cc := cX0_compare) (maxL := 5) (ret := some .int) (by decide) rfl ?_
  intro p e s m args below meth c s₁ B hml hv
  subst hv
  have hx := B.exec
  have hb := B.bytes
  have hr := B.returns
  have hts := atoms_spec (ws := (ws_ yX0_compare cX0_compare 5 (some .int))) B.pre
  have hts : ∀ w ∈ lw_all, w.before _ s = true := fun w h => hts w (List.mem_cons_of_mem _ h)
  have hown : s.vm.findClass RX0 = some m.cls := findClass_of_methodNamed B.named
  have hlocks := B.notSynchronized
  have hl := lv_entry ([.ref h0, .int a0, .int a1]) (n := 5) (Nat.le_of_ble_eq_true rfl)
  rw [lg_entry_eq]
  generalize (lg_sl ([.ref h0, .int a0, .int a1]) ++ List.replicate (5 - (lg_sl ([.ref h0, .int a0, .int a1])).length) Slot.unset).toArray = ls at hl ⊢
  have hl : lv_has ls 5 [(0, .ref h0), (1, .int a0), (2, .int a1)] := hl
  refine lv_iload_n hx hb dX0_compare_0 rfl (lv_at hl 1 rfl) ?_
  refine W.callV (r := .int (hx_isNumber a0)) (W.runS (As := [.int a0]) (rest := []) ⟨hx, hb, hml, hown, hts⟩ (met_X0_isNumber l a0) (va_cwS 1 hts (lw_S q49 q50 q7 q51) rfl rfl rfl (by decide +kernel) ⟨Nat.le_of_ble_eq_true rfl, Nat.le_of_ble_eq_true rfl⟩) preEq rfl rfl hl.1 rfl (lv_room (Nat.le_of_ble_eq_true rfl)) dX0_compare_1 ⟨Nat.le_of_ble_eq_true rfl, Nat.le_of_ble_eq_true rfl⟩) ?_
  refine W.eq (g2 := F0 m 4 ls [.int (hx_isNumber a0)]) rfl ?_
  refine lv_if_eq (tgt := 14) hx hb dX0_compare_4 (by decide) (fun c1 => ?_) (fun c1 => ?_)
  · skip
    refine lv_iconst (v := (-1)) hx hb dX0_compare_14 (by decide) ?_
    exact W.iret hx hb hr (fun t ht hW => hf_okI (by simp only [hx_compare, if_pos c1]) ht) (fun q h => by cases h) dX0_compare_15
  · skip
    refine lv_iload_n hx hb dX0_compare_7 rfl (lv_at hl 2 rfl) ?_
    refine W.callV (r := .int (hx_isNumber a1)) (W.runS (As := [.int a1]) (rest := []) ⟨hx, hb, hml, hown, hts⟩ (met_X0_isNumber l a1) (va_cwS 1 hts (lw_S q49 q50 q7 q51) rfl rfl rfl (by decide +kernel) ⟨Nat.le_of_ble_eq_true rfl, Nat.le_of_ble_eq_true rfl⟩) preEq rfl rfl hl.1 rfl (lv_room (Nat.le_of_ble_eq_true rfl)) dX0_compare_8 ⟨Nat.le_of_ble_eq_true rfl, Nat.le_of_ble_eq_true rfl⟩) ?_
    refine W.eq (g2 := F0 m 11 ls [.int (hx_isNumber a1)]) rfl ?_
    refine lv_if_ne (tgt := 16) hx hb dX0_compare_11 (by decide) (fun c2 => ?_) (fun c2 => ?_)
    · skip
      refine lv_iload_n hx hb dX0_compare_16 rfl (lv_at hl 1 rfl) ?_
      refine W.callV (r := .long (hx_signed a0)) (W.runS (As := [.int a0]) (rest := []) ⟨hx, hb, hml, hown, hts⟩ (met_X0_signed l a0) (va_cwS 1 hts (lw_S q53 q54 q7 q55) rfl rfl rfl (by decide +kernel) ⟨Nat.le_of_ble_eq_true rfl, Nat.le_of_ble_eq_true rfl⟩) preEq rfl rfl hl.1 rfl (lv_room (Nat.le_of_ble_eq_true rfl)) dX0_compare_17 ⟨Nat.le_of_ble_eq_true rfl, Nat.le_of_ble_eq_true rfl⟩) ?_
      refine W.eq (g2 := F0 m 20 ls [.long (hx_signed a0)]) rfl ?_
      refine lv_iload_n hx hb dX0_compare_20 rfl (lv_at hl 2 rfl) ?_
      refine W.callV (r := .long (hx_signed a1)) (W.runS (As := [.int a1]) (rest := [.long (hx_signed a0)]) ⟨hx, hb, hml, hown, hts⟩ (met_X0_signed l a1) (va_cwS 1 hts (lw_S q53 q54 q7 q55) rfl rfl rfl (by decide +kernel) ⟨Nat.le_of_ble_eq_true rfl, Nat.le_of_ble_eq_true rfl⟩) preEq rfl rfl hl.1 rfl (lv_room (Nat.le_of_ble_eq_true rfl)) dX0_compare_21 ⟨Nat.le_of_ble_eq_true rfl, Nat.le_of_ble_eq_true rfl⟩) ?_
      refine W.eq (g2 := F0 m 24 ls [.long (hx_signed a1), .long (hx_signed a0)]) rfl ?_
      refine lv_lsub hx hb dX0_compare_24 ?_
      refine lv_topl (fun v3 ev3 => ?_)
      refine lv_lstore_n (lv' := [(3, .long v3), (0, .ref h0), (1, .int a0), (2, .int a1)]) hx hb dX0_compare_25 rfl hl (by decide) rfl (fun ls hl => ?_)
      refine lv_lload_n hx hb dX0_compare_26 rfl (lv_at hl 0 rfl) ?_
      refine lv_lconst (v := 0) hx hb dX0_compare_27 (by decide) ?_
      refine hf_lcmp_ge (tgt := 36) hx hb dX0_compare_28 dX0_compare_29 (by decide) (fun c4 => ?_) (fun c4 => ?_)
      · skip
        refine lv_lload_n hx hb dX0_compare_36 rfl (lv_at hl 0 rfl) ?_
        refine lv_lconst (v := 0) hx hb dX0_compare_37 (by decide) ?_
        refine hf_lcmp_ne (tgt := 46) hx hb dX0_compare_38 dX0_compare_39 (by decide) (fun c5 => ?_) (fun c5 => ?_)
        · skip
          refine lv_iconst (v := 3) hx hb dX0_compare_46 (by decide) ?_
          exact W.iret hx hb hr (fun t ht hW => hf_okI (by have hh := ev3.symm; subst hh; simp only [hx_compare, if_neg c1, if_neg c2, if_pos c4, if_neg c5]) ht) (fun q h => by cases h) dX0_compare_47
        · skip
          refine lv_iconst (v := 2) hx hb dX0_compare_42 (by decide) ?_
          refine lv_goto (tgt := 47) hx hb dX0_compare_43 (by decide) ?_
          exact W.iret hx hb hr (fun t ht hW => hf_okI (by have hh := ev3.symm; subst hh; simp only [hx_compare, if_neg c1, if_neg c2, if_pos c4, if_pos c5]) ht) (fun q h => by cases h) dX0_compare_47
      · skip
        refine lv_iconst (v := 1) hx hb dX0_compare_32 (by decide) ?_
        refine lv_goto (tgt := 47) hx hb dX0_compare_33 (by decide) ?_
        exact W.iret hx hb hr (fun t ht hW => hf_okI (by have hh := ev3.symm; subst hh; simp only [hx_compare, if_neg c1, if_neg c2, if_neg c4]) ht) (fun q h => by cases h) dX0_compare_47
    · skip
      refine lv_iconst (v := (-1)) hx hb dX0_compare_14 (by decide) ?_
      exact W.iret hx hb hr (fun t ht hW => hf_okI (by simp only [hx_compare, if_neg c1, if_pos c2]) ht) (fun q h => by cases h) dX0_compare_15
set_option maxHeartbeats 400000 in
set_option maxRecDepth 100000 in
theorem met_X0_floor (l : Launch) (h0 : Nat) (a0 : Int32) : Met l yX0_floor (ws_ yX0_floor cX0_floor 2 (some .int)) ({ frames := 2, cells := 0, slots := 0, locals := 43 } : Room) (fun v _ => v = ([.ref h0, .int a0] : List Value).toArray) (k2_QcV (.int (hx_floor a0))) 0 0 (fun _ => False) := by
  refine Met.ofW (cc := cX0_floor) (maxL := 2) (ret := some .int) (by decide) rfl ?_
  intro p e s m args below meth c s₁ B hml hv
  subst hv
  have hx := B.exec
  have hb := B.bytes
  have hr := B.returns
  have hts := atoms_spec (ws := (ws_ yX0_floor cX0_floor 2 (some .int))) B.pre
  have hts : ∀ w ∈ lw_all, w.before _ s = true := fun w h => hts w (List.mem_cons_of_mem _ h)
  have hown : s.vm.findClass RX0 = some m.cls := findClass_of_methodNamed B.named
  have hlocks := B.notSynchronized
  have hl := lv_entry ([.ref h0, .int a0]) (n := 2) (Nat.le_of_ble_eq_true rfl)
  rw [lg_entry_eq]
  generalize (lg_sl ([.ref h0, .int a0]) ++ List.replicate (2 - (lg_sl ([.ref h0, .int a0])).length) Slot.unset).toArray = ls at hl ⊢
  have hl : lv_has ls 2 [(0, .ref h0), (1, .int a0)] := hl
  refine lv_iload_n hx hb dX0_floor_0 rfl (lv_at hl 1 rfl) ?_
  refine W.callV (r := .int (hx_isNumber a0)) (W.runS (As := [.int a0]) (rest := []) ⟨hx, hb, hml, hown, hts⟩ (met_X0_isNumber l a0) (va_cwS 1 hts (lw_S q49 q50 q7 q51) rfl rfl rfl (by decide +kernel) ⟨Nat.le_of_ble_eq_true rfl, Nat.le_of_ble_eq_true rfl⟩) preEq rfl rfl hl.1 rfl (lv_room (Nat.le_of_ble_eq_true rfl)) dX0_floor_1 ⟨Nat.le_of_ble_eq_true rfl, Nat.le_of_ble_eq_true rfl⟩) ?_
  refine W.eq (g2 := F0 m 4 ls [.int (hx_isNumber a0)]) rfl ?_
  refine lv_if_eq (tgt := 18) hx hb dX0_floor_4 (by decide) (fun c1 => ?_) (fun c1 => ?_)
  · skip
    refine lv_ldc (v := 100000) hx hb hown (hts _ q136) dX0_floor_18 ?_
    exact W.iret hx hb hr (fun t ht hW => hf_okI (by simp only [hx_floor, if_pos c1]) ht) (fun q h => by cases h) dX0_floor_20
  · skip
    refine lv_iload_n hx hb dX0_floor_7 rfl (lv_at hl 1 rfl) ?_
    refine W.callV (r := .long (hx_signed a0)) (W.runS (As := [.int a0]) (rest := []) ⟨hx, hb, hml, hown, hts⟩ (met_X0_signed l a0) (va_cwS 1 hts (lw_S q53 q54 q7 q55) rfl rfl rfl (by decide +kernel) ⟨Nat.le_of_ble_eq_true rfl, Nat.le_of_ble_eq_true rfl⟩) preEq rfl rfl hl.1 rfl (lv_room (Nat.le_of_ble_eq_true rfl)) dX0_floor_8 ⟨Nat.le_of_ble_eq_true rfl, Nat.le_of_ble_eq_true rfl⟩) ?_
    refine W.eq (g2 := F0 m 11 ls [.long (hx_signed a0)]) rfl ?_
    refine lv_bipush (v := 28) hx hb dX0_floor_11 (by decide) ?_
    refine lv_lshr hx hb dX0_floor_13 rfl ?_
    refine lv_l2i hx hb dX0_floor_14 rfl ?_
    refine lv_goto (tgt := 20) hx hb dX0_floor_15 (by decide) ?_
    exact W.iret hx hb hr (fun t ht hW => hf_okI (by simp only [hx_floor, if_neg c1]) ht) (fun q h => by cases h) dX0_floor_20
end
section
set_option maxHeartbeats 4000000 in
set_option maxRecDepth 100000 in
theorem met_X1_bad (l : Launch) (a0 : Int32) : Met l yX1_bad (ws_ yX1_bad cX1_bad 1 (some .boolean)) ({ frames := 0, cells := 0, slots := 0, locals := 0 } : Room) (fun v _ => v = ([.int a0] : List Value).toArray) (k2_QcV (.int (hm_bad a0))) 0 0 (fun _ => False) := by
  refine Met.ofW (cc := cX1_bad) (maxL := 1) (ret := some .boolean) (by decide) rfl ?_
  intro p e s m args below meth c s₁ B hml hv
  subst hv
  have hx := B.exec
  have hb := B.bytes
  have hr := B.returns
  have hts := atoms_spec (ws := (ws_ yX1_bad cX1_bad 1 (some .boolean))) B.pre
  have hts : ∀ w ∈ lw_all, w.before _ s = true := fun w h => hts w (List.mem_cons_of_mem _ h)
  have hown : s.vm.findClass RX1 = some m.cls := findClass_of_methodNamed B.named
  have hlocks := B.notSynchronized
  have hl := lv_entry ([.int a0]) (n := 1) (Nat.le_of_ble_eq_true rfl)
  rw [lg_entry_eq]
  generalize (lg_sl ([.int a0]) ++ List.replicate (1 - (lg_sl ([.int a0])).length) Slot.unset).toArray = ls at hl ⊢
  have hl : lv_has ls 1 [(0, .int a0)] := hl
  refine lv_iload_n hx hb dX1_bad_0 rfl (lv_at hl 0 rfl) ?_
  refine lv_if_lt (tgt := 23) hx hb dX1_bad_1 (by decide) (fun c1 => ?_) (fun c1 => ?_)
  · skip
    refine lv_iconst (v := 1) hx hb dX1_bad_23 (by decide) ?_
    refine lv_goto (tgt := 28) hx hb dX1_bad_24 (by decide) ?_
    exact W.zret hx hb hr (rfl) (fun t ht hW => hf_okI (by simp only [hm_bad, if_pos c1]) ht) (fun q h => by cases h) dX1_bad_28
  · skip
    refine lv_iload_n hx hb dX1_bad_4 rfl (lv_at hl 0 rfl) ?_
    refine lv_ldc (v := 65535) hx hb hown (hts _ q157) dX1_bad_5 ?_
    refine lv_icmp_gt (tgt := 23) hx hb dX1_bad_7 (by decide) (fun c2 => ?_) (fun c2 => ?_)
    · skip
      refine lv_iconst (v := 1) hx hb dX1_bad_23 (by decide) ?_
      refine lv_goto (tgt := 28) hx hb dX1_bad_24 (by decide) ?_
      exact W.zret hx hb hr (rfl) (fun t ht hW => hf_okI (by simp only [hm_bad, if_neg c1, if_pos c2]) ht) (fun q h => by cases h) dX1_bad_28
    · skip
      refine lv_iload_n hx hb dX1_bad_10 rfl (lv_at hl 0 rfl) ?_
      refine lv_sipush (v := 1024) hx hb dX1_bad_11 (by decide) ?_
      refine lv_idiv hx hb dX1_bad_14 (by decide) ?_
      refine lv_bipush (v := 32) hx hb dX1_bad_15 (by decide) ?_
      refine lv_irem hx hb dX1_bad_17 (by decide) ?_
      refine lv_bipush (v := 31) hx hb dX1_bad_18 (by decide) ?_
      refine lv_icmp_ne (tgt := 27) hx hb dX1_bad_20 (by decide) (fun c3 => ?_) (fun c3 => ?_)
      · skip
        refine lv_iconst (v := 0) hx hb dX1_bad_27 (by decide) ?_
        exact W.zret hx hb hr (rfl) (fun t ht hW => hf_okI (by simp only [hm_bad, if_neg c1, if_neg c2, if_neg c3]) ht) (fun q h => by cases h) dX1_bad_28
      · skip
        refine lv_iconst (v := 1) hx hb dX1_bad_23 (by decide) ?_
        refine lv_goto (tgt := 28) hx hb dX1_bad_24 (by decide) ?_
        exact W.zret hx hb hr (rfl) (fun t ht hW => hf_okI (by simp only [hm_bad, if_neg c1, if_neg c2, if_pos c3]) ht) (fun q h => by cases h) dX1_bad_28
set_option maxHeartbeats 4000000 in
set_option maxRecDepth 100000 in
theorem met_X1_digitsOf (l : Launch) (a0 : Int32) : Met l yX1_digitsOf (ws_ yX1_digitsOf cX1_digitsOf 1 (some .long)) ({ frames := 0, cells := 0, slots := 0, locals := 0 } : Room) (fun v _ => v = ([.int a0] : List Value).toArray) (k2_QcV (.long (hm_digitsOf a0))) 0 0 (fun _ => False) := by
  refine Met.ofW (cc := cX1_digitsOf) (maxL := 1) (ret := some .long) (by decide) rfl ?_
  intro p e s m args below meth c s₁ B hml hv
  subst hv
  have hx := B.exec
  have hb := B.bytes
  have hr := B.returns
  have hts := atoms_spec (ws := (ws_ yX1_digitsOf cX1_digitsOf 1 (some .long))) B.pre
  have hts : ∀ w ∈ lw_all, w.before _ s = true := fun w h => hts w (List.mem_cons_of_mem _ h)
  have hown : s.vm.findClass RX1 = some m.cls := findClass_of_methodNamed B.named
  have hlocks := B.notSynchronized
  have hl := lv_entry ([.int a0]) (n := 1) (Nat.le_of_ble_eq_true rfl)
  rw [lg_entry_eq]
  generalize (lg_sl ([.int a0]) ++ List.replicate (1 - (lg_sl ([.int a0])).length) Slot.unset).toArray = ls at hl ⊢
  have hl : lv_has ls 1 [(0, .int a0)] := hl
  refine lv_iload_n hx hb dX1_digitsOf_0 rfl (lv_at hl 0 rfl) ?_
  refine lv_sipush (v := 1024) hx hb dX1_digitsOf_1 (by decide) ?_
  refine lv_idiv hx hb dX1_digitsOf_4 (by decide) ?_
  refine lv_bipush (v := 32) hx hb dX1_digitsOf_5 (by decide) ?_
  refine lv_irem hx hb dX1_digitsOf_7 (by decide) ?_
  refine lv_if_ne (tgt := 20) hx hb dX1_digitsOf_8 (by decide) (fun c1 => ?_) (fun c1 => ?_)
  · skip
    refine lv_sipush (v := 1024) hx hb dX1_digitsOf_20 (by decide) ?_
    refine lv_iload_n hx hb dX1_digitsOf_23 rfl (lv_at hl 0 rfl) ?_
    refine lv_sipush (v := 1024) hx hb dX1_digitsOf_24 (by decide) ?_
    refine lv_irem hx hb dX1_digitsOf_27 (by decide) ?_
    refine lv_iadd hx hb dX1_digitsOf_28 ?_
    refine lv_i2l hx hb dX1_digitsOf_29 rfl ?_
    exact W.lret hx hb hr (fun t ht hW => hf_okL (by simp only [hm_digitsOf, if_neg c1]) ht) (fun q h => by cases h) dX1_digitsOf_30
  · skip
    refine lv_iload_n hx hb dX1_digitsOf_11 rfl (lv_at hl 0 rfl) ?_
    refine lv_sipush (v := 1024) hx hb dX1_digitsOf_12 (by decide) ?_
    refine lv_irem hx hb dX1_digitsOf_15 (by decide) ?_
    refine lv_i2l hx hb dX1_digitsOf_16 rfl ?_
    refine lv_goto (tgt := 30) hx hb dX1_digitsOf_17 (by decide) ?_
    exact W.lret hx hb hr (fun t ht hW => hf_okL (by simp only [hm_digitsOf, if_pos c1]) ht) (fun q h => by cases h) dX1_digitsOf_30
set_option maxHeartbeats 4000000 in
set_option maxRecDepth 100000 in
theorem met_X1_shiftOf (l : Launch) (a0 : Int32) : Met l yX1_shiftOf (ws_ yX1_shiftOf cX1_shiftOf 2 (some .int)) ({ frames := 0, cells := 0, slots := 0, locals := 0 } : Room) (fun v _ => v = ([.int a0] : List Value).toArray) (k2_QcV (.int (hm_shiftOf a0))) 0 0 (fun _ => False) := by
  refine Met.ofW (cc := cX1_shiftOf) (maxL := 2) (ret := some .int) (by decide) rfl ?_
  intro p e s m args below meth c s₁ B hml hv
  subst hv
  have hx := B.exec
  have hb := B.bytes
  have hr := B.returns
  have hts := atoms_spec (ws := (ws_ yX1_shiftOf cX1_shiftOf 2 (some .int))) B.pre
  have hts : ∀ w ∈ lw_all, w.before _ s = true := fun w h => hts w (List.mem_cons_of_mem _ h)
  have hown : s.vm.findClass RX1 = some m.cls := findClass_of_methodNamed B.named
  have hlocks := B.notSynchronized
  have hl := lv_entry ([.int a0]) (n := 2) (Nat.le_of_ble_eq_true rfl)
  rw [lg_entry_eq]
  generalize (lg_sl ([.int a0]) ++ List.replicate (2 - (lg_sl ([.int a0])).length) Slot.unset).toArray = ls at hl ⊢
  have hl : lv_has ls 2 [(0, .int a0)] := hl
  refine lv_iload_n hx hb dX1_shiftOf_0 rfl (lv_at hl 0 rfl) ?_
  refine lv_sipush (v := 1024) hx hb dX1_shiftOf_1 (by decide) ?_
  refine lv_idiv hx hb dX1_shiftOf_4 (by decide) ?_
  refine lv_bipush (v := 32) hx hb dX1_shiftOf_5 (by decide) ?_
  refine lv_irem hx hb dX1_shiftOf_7 (by decide) ?_
  refine lv_topi (fun v1 ev1 => ?_)
  refine lv_istore_n (lv' := [(1, .int v1), (0, .int a0)]) hx hb dX1_shiftOf_8 rfl hl (by decide) rfl (fun ls hl => ?_)
  refine lv_iload_n hx hb dX1_shiftOf_9 rfl (lv_at hl 0 rfl) ?_
  refine lv_if_ne (tgt := 17) hx hb dX1_shiftOf_10 (by decide) (fun c2 => ?_) (fun c2 => ?_)
  · skip
    refine lv_iload_n hx hb dX1_shiftOf_17 rfl (lv_at hl 0 rfl) ?_
    refine lv_iconst (v := 1) hx hb dX1_shiftOf_18 (by decide) ?_
    refine lv_isub hx hb dX1_shiftOf_19 ?_
    exact W.iret hx hb hr (fun t ht hW => hf_okI (by have hh := ev1.symm; subst hh; simp only [hm_shiftOf, if_neg c2]) ht) (fun q h => by cases h) dX1_shiftOf_20
  · skip
    refine lv_iconst (v := 0) hx hb dX1_shiftOf_13 (by decide) ?_
    refine lv_goto (tgt := 20) hx hb dX1_shiftOf_14 (by decide) ?_
    exact W.iret hx hb hr (fun t ht hW => hf_okI (by have hh := ev1.symm; subst hh; simp only [hm_shiftOf, if_pos c2]) ht) (fun q h => by cases h) dX1_shiftOf_20
set_option maxHeartbeats 4000000 in
set_option maxRecDepth 100000 in
theorem met_X1_amount (l : Launch) (a0 : Int32) : Met l yX1_amount (ws_ yX1_amount cX1_amount 2 (some .long)) ({ frames := 1, cells := 0, slots := 0, locals := 21 } : Room) (fun v _ => v = ([.int a0] : List Value).toArray) (k2_QcV (.long (hm_amount a0))) 0 0 (fun _ => False) := by
  refine Met.ofW (cc := cX1_amount) (maxL := 2) (ret := some .long) (by decide) rfl ?_
  intro p e s m args below meth c s₁ B hml hv
  subst hv
  have hx := B.exec
  have hb := B.bytes
  have hr := B.returns
  have hts := atoms_spec (ws := (ws_ yX1_amount cX1_amount 2 (some .long))) B.pre
  have hts : ∀ w ∈ lw_all, w.before _ s = true := fun w h => hts w (List.mem_cons_of_mem _ h)
  have hown : s.vm.findClass RX1 = some m.cls := findClass_of_methodNamed B.named
  have hlocks := B.notSynchronized
  have hl := lv_entry ([.int a0]) (n := 2) (Nat.le_of_ble_eq_true rfl)
  rw [lg_entry_eq]
  generalize (lg_sl ([.int a0]) ++ List.replicate (2 - (lg_sl ([.int a0])).length) Slot.unset).toArray = ls at hl ⊢
  have hl : lv_has ls 2 [(0, .int a0)] := hl
  refine lv_iload_n hx hb dX1_amount_0 rfl (lv_at hl 0 rfl) ?_
  refine lv_sipush (v := 32767) hx hb dX1_amount_1 (by decide) ?_
  refine lv_iand hx hb dX1_amount_4 ?_
  refine lv_topi (fun v1 ev1 => ?_)
  refine lv_istore_n (lv' := [(1, .int v1), (0, .int a0)]) hx hb dX1_amount_5 rfl hl (by decide) rfl (fun ls hl => ?_)
  refine lv_iload_n hx hb dX1_amount_6 rfl (lv_at hl 0 rfl) ?_
  refine lv_sipush (v := 31744) hx hb dX1_amount_7 (by decide) ?_
  refine lv_icmp_ne (tgt := 19) hx hb dX1_amount_10 (by decide) (fun c2 => ?_) (fun c2 => ?_)
  · skip
    refine lv_iload_n hx hb dX1_amount_19 rfl (lv_at hl 0 rfl) ?_
    refine W.callV (r := .long (hm_digitsOf v1)) (W.runS (As := [.int v1]) (rest := []) ⟨hx, hb, hml, hown, hts⟩ (met_X1_digitsOf l v1) (va_cwS 1 hts (lw_S q166 q167 q8 q168) rfl rfl rfl (by decide +kernel) ⟨Nat.le_of_ble_eq_true rfl, Nat.le_of_ble_eq_true rfl⟩) preEq rfl rfl hl.1 rfl (lv_room (Nat.le_of_ble_eq_true rfl)) dX1_amount_20 ⟨Nat.le_of_ble_eq_true rfl, Nat.le_of_ble_eq_true rfl⟩) ?_
    refine W.eq (g2 := F0 m 23 ls [.long (hm_digitsOf v1)]) rfl ?_
    refine lv_iload_n hx hb dX1_amount_23 rfl (lv_at hl 0 rfl) ?_
    refine W.callV (r := .int (hm_shiftOf v1)) (W.runS (As := [.int v1]) (rest := [.long (hm_digitsOf v1)]) ⟨hx, hb, hml, hown, hts⟩ (met_X1_shiftOf l v1) (va_cwS 1 hts (lw_S q169 q170 q8 q171) rfl rfl rfl (by decide +kernel) ⟨Nat.le_of_ble_eq_true rfl, Nat.le_of_ble_eq_true rfl⟩) preEq rfl rfl hl.1 rfl (lv_room (Nat.le_of_ble_eq_true rfl)) dX1_amount_24 ⟨Nat.le_of_ble_eq_true rfl, Nat.le_of_ble_eq_true rfl⟩) ?_
    refine W.eq (g2 := F0 m 27 ls [.int (hm_shiftOf v1), .long (hm_digitsOf v1)]) rfl ?_
    refine lv_lshl hx hb dX1_amount_27 rfl ?_
    exact W.lret hx hb hr (fun t ht hW => hf_okL (by have hh := ev1.symm; subst hh; simp only [hm_amount, if_neg c2]) ht) (fun q h => by cases h) dX1_amount_28
  · skip
    refine lv_ldc2 (v := 1099511627776) hx hb hown (hts _ q165) dX1_amount_13 ?_
    refine lv_goto (tgt := 28) hx hb dX1_amount_16 (by decide) ?_
    exact W.lret hx hb hr (fun t ht hW => hf_okL (by have hh := ev1.symm; subst hh; simp only [hm_amount, if_pos c2]) ht) (fun q h => by cases h) dX1_amount_28
set_option maxHeartbeats 4000000 in
set_option maxRecDepth 100000 in
theorem met_X1_signed (l : Launch) (a0 : Int32) : Met l yX1_signed (ws_ yX1_signed cX1_signed 1 (some .long)) ({ frames := 2, cells := 0, slots := 0, locals := 42 } : Room) (fun v _ => v = ([.int a0] : List Value).toArray) (k2_QcV (.long (hm_signed a0))) 0 0 (fun _ => False) := by
  refine Met.ofW (cc := cX1_signed) (maxL := 1) (ret := some .long) (by decide) rfl ?_
  intro p e s m args below meth c s₁ B hml hv
  subst hv
  have hx := B.exec
  have hb := B.bytes
  have hr := B.returns
  have hts := atoms_spec (ws := (ws_ yX1_signed cX1_signed 1 (some .long))) B.pre
  have hts : ∀ w ∈ lw_all, w.before _ s = true := fun w h => hts w (List.mem_cons_of_mem _ h)
  have hown : s.vm.findClass RX1 = some m.cls := findClass_of_methodNamed B.named
  have hlocks := B.notSynchronized
  have hl := lv_entry ([.int a0]) (n := 1) (Nat.le_of_ble_eq_true rfl)
  rw [lg_entry_eq]
  generalize (lg_sl ([.int a0]) ++ List.replicate (1 - (lg_sl ([.int a0])).length) Slot.unset).toArray = ls at hl ⊢
  have hl : lv_has ls 1 [(0, .int a0)] := hl
  refine lv_iload_n hx hb dX1_signed_0 rfl (lv_at hl 0 rfl) ?_
  refine lv_ldc (v := 32768) hx hb hown (hts _ q161) dX1_signed_1 ?_
  refine lv_icmp_lt (tgt := 14) hx hb dX1_signed_3 (by decide) (fun c1 => ?_) (fun c1 => ?_)
  · skip
    refine lv_iload_n hx hb dX1_signed_14 rfl (lv_at hl 0 rfl) ?_
    refine W.callV (r := .long (hm_amount a0)) (W.runS (As := [.int a0]) (rest := []) ⟨hx, hb, hml, hown, hts⟩ (met_X1_amount l a0) (va_cwS 1 hts (lw_S q162 q163 q8 q164) rfl rfl rfl (by decide +kernel) ⟨Nat.le_of_ble_eq_true rfl, Nat.le_of_ble_eq_true rfl⟩) preEq rfl rfl hl.1 rfl (lv_room (Nat.le_of_ble_eq_true rfl)) dX1_signed_15 ⟨Nat.le_of_ble_eq_true rfl, Nat.le_of_ble_eq_true rfl⟩) ?_
    refine W.eq (g2 := F0 m 18 ls [.long (hm_amount a0)]) rfl ?_
    exact W.lret hx hb hr (fun t ht hW => hf_okL (by simp only [hm_signed, if_pos c1]) ht) (fun q h => by cases h) dX1_signed_18
  · skip
    refine lv_iload_n hx hb dX1_signed_6 rfl (lv_at hl 0 rfl) ?_
    refine W.callV (r := .long (hm_amount a0)) (W.runS (As := [.int a0]) (rest := []) ⟨hx, hb, hml, hown, hts⟩ (met_X1_amount l a0) (va_cwS 1 hts (lw_S q162 q163 q8 q164) rfl rfl rfl (by decide +kernel) ⟨Nat.le_of_ble_eq_true rfl, Nat.le_of_ble_eq_true rfl⟩) preEq rfl rfl hl.1 rfl (lv_room (Nat.le_of_ble_eq_true rfl)) dX1_signed_7 ⟨Nat.le_of_ble_eq_true rfl, Nat.le_of_ble_eq_true rfl⟩) ?_
    refine W.eq (g2 := F0 m 10 ls [.long (hm_amount a0)]) rfl ?_
    refine lv_lneg hx hb dX1_signed_10 ?_
    refine lv_goto (tgt := 18) hx hb dX1_signed_11 (by decide) ?_
    exact W.lret hx hb hr (fun t ht hW => hf_okL (by simp only [hm_signed, if_neg c1]) ht) (fun q h => by cases h) dX1_signed_18
set_option maxHeartbeats 4000000 in
set_option maxRecDepth 100000 in
theorem met_X1_nearest (l : Launch) (a0 : Int64) (a1 : Int64) : Met l yX1_nearest (ws_ yX1_nearest cX1_nearest 14 (some .int)) ({ frames := 2, cells := 0, slots := 0, locals := 42 } : Room) (fun v _ => v = ([.long a0, .long a1] : List Value).toArray) (k2_QcV (.int (hm_nearest a0 a1))) 0 0 (fun _ => False) := by
  refine Met.ofW (cc := cX1_nearest) (maxL := 14) (ret := some .int) (by decide) rfl ?_
  intro p e s m args below meth c s₁ B hml hv
  subst hv
  have hx := B.exec
  have hb := B.bytes
  have hr := B.returns
  have hts := atoms_spec (ws := (ws_ yX1_nearest cX1_nearest 14 (some .int))) B.pre
  have hts : ∀ w ∈ lw_all, w.before _ s = true := fun w h => hts w (List.mem_cons_of_mem _ h)
  have hown : s.vm.findClass RX1 = some m.cls := findClass_of_methodNamed B.named
  have hlocks := B.notSynchronized
  have hl := lv_entry ([.long a0, .long a1]) (n := 14) (Nat.le_of_ble_eq_true rfl)
  rw [lg_entry_eq]
  generalize (lg_sl ([.long a0, .long a1]) ++ List.replicate (14 - (lg_sl ([.long a0, .long a1])).length) Slot.unset).toArray = ls at hl ⊢
  have hl : lv_has ls 14 [(0, .long a0), (2, .long a1)] := hl
  refine lv_lload_n hx hb dX1_nearest_0 rfl (lv_at hl 1 rfl) ?_
  refine lv_lconst (v := 0) hx hb dX1_nearest_1 (by decide) ?_
  have J13 : ∀ (v1 : Int64), v1 = (if (a1 : Int64) ≤ (0 : Int64) then (0)
  else (a0 / a1)) → ∀ ls : Array Slot, lv_has ls 14 [(0, .long a0), (2, .long a1)] → (W p l e (headSpec (ws_ yX1_nearest cX1_nearest 14 (some .int)) ({ frames := 2, cells := 0, slots := 0, locals := 42 } : Room)).room s m ([.long a0, .long a1] : List Value).toArray below meth c s.heap [] 0 0 (MQ below (k2_QcV (.int (hm_nearest a0 a1))) ([.long a0, .long a1] : List Value).toArray s 0 0 (fun _ => False))) (F0 m 13 ls [.long v1]) := by
    intro v1 ev1 ls hl
    refine lv_lstore (lv' := [(4, .long v1), (0, .long a0), (2, .long a1)]) hx hb dX1_nearest_13 hl (by decide) rfl (fun ls hl => ?_)
    refine lv_lload_n hx hb dX1_nearest_15 rfl (lv_at hl 2 rfl) ?_
    refine lv_lconst (v := 0) hx hb dX1_nearest_16 (by decide) ?_
    have J28 : ∀ (v3 : Int64), v3 = (if (a1 : Int64) ≤ (0 : Int64) then (0)
  else (a0 - a0 / a1 * a1)) → ∀ ls : Array Slot, lv_has ls 14 [(4, .long v1), (0, .long a0), (2, .long a1)] → (W p l e (headSpec (ws_ yX1_nearest cX1_nearest 14 (some .int)) ({ frames := 2, cells := 0, slots := 0, locals := 42 } : Room)).room s m ([.long a0, .long a1] : List Value).toArray below meth c s.heap [] 0 0 (MQ below (k2_QcV (.int (hm_nearest a0 a1))) ([.long a0, .long a1] : List Value).toArray s 0 0 (fun _ => False))) (F0 m 28 ls [.long v3]) := by
      intro v3 ev3 ls hl
      refine lv_lstore (lv' := [(6, .long v3), (4, .long v1), (0, .long a0), (2, .long a1)]) hx hb dX1_nearest_28 hl (by decide) rfl (fun ls hl => ?_)
      refine lv_lload hx hb dX1_nearest_30 (lv_at hl 1 rfl) ?_
      refine lv_sipush (v := 31744) hx hb dX1_nearest_32 (by decide) ?_
      refine W.callV (r := .long (hm_amount 31744)) (W.runS (As := [.int 31744]) (rest := [.long v1]) ⟨hx, hb, hml, hown, hts⟩ (met_X1_amount l 31744) (va_cwS 1 hts (lw_S q162 q163 q8 q164) rfl rfl rfl (by decide +kernel) ⟨Nat.le_of_ble_eq_true rfl, Nat.le_of_ble_eq_true rfl⟩) preEq rfl rfl hl.1 rfl (lv_room (Nat.le_of_ble_eq_true rfl)) dX1_nearest_35 ⟨Nat.le_of_ble_eq_true rfl, Nat.le_of_ble_eq_true rfl⟩) ?_
      refine W.eq (g2 := F0 m 38 ls [.long (hm_amount 31744), .long v1]) rfl ?_
      refine hf_lcmp_lt (tgt := 46) hx hb dX1_nearest_38 dX1_nearest_39 (by decide) (fun c5 => ?_) (fun c5 => ?_)
      · skip
        refine lv_iconst (v := 0) hx hb dX1_nearest_46 (by decide) ?_
        refine lv_istore (lv' := [(8, .int 0), (6, .long v3), (4, .long v1), (0, .long a0), (2, .long a1)]) hx hb dX1_nearest_47 hl (by decide) rfl (fun ls hl => ?_)
        refine lv_sipush (v := 31743) hx hb dX1_nearest_49 (by decide) ?_
        refine lv_istore (lv' := [(9, .int 31743), (8, .int 0), (6, .long v3), (4, .long v1), (0, .long a0), (2, .long a1)]) hx hb dX1_nearest_52 hl (by decide) rfl (fun ls hl => ?_)
        have X54 : ∀ q54 : Int32 × Int32, q54 = hf_run (hm_nearest_s54 v1) 16 (0, 31743) → ∀ ls : Array Slot, lv_has ls 14 [(8, .int q54.1), (9, .int q54.2), (6, .long v3), (4, .long v1), (0, .long a0), (2, .long a1)] → (W p l e (headSpec (ws_ yX1_nearest cX1_nearest 14 (some .int)) ({ frames := 2, cells := 0, slots := 0, locals := 42 } : Room)).room s m ([.long a0, .long a1] : List Value).toArray below meth c s.heap [] 0 0 (MQ below (k2_QcV (.int (hm_nearest a0 a1))) ([.long a0, .long a1] : List Value).toArray s 0 0 (fun _ => False))) (F0 m 99 ls []) := by
          intro q54 eq54 ls hl
          obtain ⟨x54_8, ex54_8⟩ : ∃ y : Int32, y = q54.1 := ⟨_, rfl⟩
          obtain ⟨x54_9, ex54_9⟩ : ∃ y : Int32, y = q54.2 := ⟨_, rfl⟩
          rw [← ex54_8, ← ex54_9] at hl
          refine lv_iload hx hb dX1_nearest_99 (lv_at hl 0 rfl) ?_
          refine lv_iconst (v := 1) hx hb dX1_nearest_101 (by decide) ?_
          refine lv_iadd hx hb dX1_nearest_102 ?_
          refine W.callV (r := .long (hm_amount (x54_8 + 1))) (W.runS (As := [.int (x54_8 + 1)]) (rest := []) ⟨hx, hb, hml, hown, hts⟩ (met_X1_amount l (x54_8 + 1)) (va_cwS 1 hts (lw_S q162 q163 q8 q164) rfl rfl rfl (by decide +kernel) ⟨Nat.le_of_ble_eq_true rfl, Nat.le_of_ble_eq_true rfl⟩) preEq rfl rfl hl.1 rfl (lv_room (Nat.le_of_ble_eq_true rfl)) dX1_nearest_103 ⟨Nat.le_of_ble_eq_true rfl, Nat.le_of_ble_eq_true rfl⟩) ?_
          refine W.eq (g2 := F0 m 106 ls [.long (hm_amount (x54_8 + 1))]) rfl ?_
          refine lv_iload hx hb dX1_nearest_106 (lv_at hl 0 rfl) ?_
          refine W.callV (r := .long (hm_amount x54_8)) (W.runS (As := [.int x54_8]) (rest := [.long (hm_amount (x54_8 + 1))]) ⟨hx, hb, hml, hown, hts⟩ (met_X1_amount l x54_8) (va_cwS 1 hts (lw_S q162 q163 q8 q164) rfl rfl rfl (by decide +kernel) ⟨Nat.le_of_ble_eq_true rfl, Nat.le_of_ble_eq_true rfl⟩) preEq rfl rfl hl.1 rfl (lv_room (Nat.le_of_ble_eq_true rfl)) dX1_nearest_108 ⟨Nat.le_of_ble_eq_true rfl, Nat.le_of_ble_eq_true rfl⟩) ?_
          refine W.eq (g2 := F0 m 111 ls [.long (hm_amount x54_8), .long (hm_amount (x54_8 + 1))]) rfl ?_
          refine lv_lsub hx hb dX1_nearest_111 ?_
          refine lv_topl (fun v6 ev6 => ?_)
          refine lv_lstore (lv' := [(10, .long v6), (8, .int x54_8), (9, .int x54_9), (6, .long v3), (4, .long v1), (0, .long a0), (2, .long a1)]) hx hb dX1_nearest_112 hl (by decide) rfl (fun ls hl => ?_)
          refine lv_ldc2 (v := 2) hx hb hown (hts _ q175) dX1_nearest_114 ?_
          refine lv_lload hx hb dX1_nearest_117 (lv_at hl 4 rfl) ?_
          refine lv_iload hx hb dX1_nearest_119 (lv_at hl 1 rfl) ?_
          refine W.callV (r := .long (hm_amount x54_8)) (W.runS (As := [.int x54_8]) (rest := [.long v1, .long 2]) ⟨hx, hb, hml, hown, hts⟩ (met_X1_amount l x54_8) (va_cwS 1 hts (lw_S q162 q163 q8 q164) rfl rfl rfl (by decide +kernel) ⟨Nat.le_of_ble_eq_true rfl, Nat.le_of_ble_eq_true rfl⟩) preEq rfl rfl hl.1 rfl (lv_room (Nat.le_of_ble_eq_true rfl)) dX1_nearest_121 ⟨Nat.le_of_ble_eq_true rfl, Nat.le_of_ble_eq_true rfl⟩) ?_
          refine W.eq (g2 := F0 m 124 ls [.long (hm_amount x54_8), .long v1, .long 2]) rfl ?_
          refine lv_lsub hx hb dX1_nearest_124 ?_
          refine lv_lmul hx hb dX1_nearest_125 ?_
          refine lv_lload_n hx hb dX1_nearest_126 rfl (lv_at hl 6 rfl) ?_
          refine lv_lmul hx hb dX1_nearest_127 ?_
          refine lv_ldc2 (v := 2) hx hb hown (hts _ q175) dX1_nearest_128 ?_
          refine lv_lload hx hb dX1_nearest_131 (lv_at hl 3 rfl) ?_
          refine lv_lmul hx hb dX1_nearest_133 ?_
          refine lv_ladd hx hb dX1_nearest_134 ?_
          refine lv_topl (fun v7 ev7 => ?_)
          refine lv_lstore (lv' := [(12, .long v7), (10, .long v6), (8, .int x54_8), (9, .int x54_9), (6, .long v3), (4, .long v1), (0, .long a0), (2, .long a1)]) hx hb dX1_nearest_135 hl (by decide) rfl (fun ls hl => ?_)
          refine lv_lload hx hb dX1_nearest_137 (lv_at hl 0 rfl) ?_
          refine lv_lload hx hb dX1_nearest_139 (lv_at hl 1 rfl) ?_
          refine lv_lload_n hx hb dX1_nearest_141 rfl (lv_at hl 7 rfl) ?_
          refine lv_lmul hx hb dX1_nearest_142 ?_
          refine hf_lcmp_ne (tgt := 164) hx hb dX1_nearest_143 dX1_nearest_144 (by decide) (fun c8 => ?_) (fun c8 => ?_)
          · skip
            refine lv_lload hx hb dX1_nearest_164 (lv_at hl 0 rfl) ?_
            refine lv_lload hx hb dX1_nearest_166 (lv_at hl 1 rfl) ?_
            refine lv_lload_n hx hb dX1_nearest_168 rfl (lv_at hl 7 rfl) ?_
            refine lv_lmul hx hb dX1_nearest_169 ?_
            refine hf_lcmp_le (tgt := 181) hx hb dX1_nearest_170 dX1_nearest_171 (by decide) (fun c9 => ?_) (fun c9 => ?_)
            · skip
              refine lv_iload hx hb dX1_nearest_181 (lv_at hl 2 rfl) ?_
              exact W.iret hx hb hr (fun t ht hW => hf_okI (by have hh := ev1.symm; subst hh; have hh := ev3.symm; subst hh; have hh := eq54.symm; subst hh; have hh := ex54_8.symm; subst hh; have hh := ex54_9.symm; subst hh; have hh := ev6.symm; subst hh; have hh := ev7.symm; subst hh; simp only [hm_nearest, if_pos c5, if_neg c8, if_pos c9]) ht) (fun q h => by cases h) dX1_nearest_183
            · skip
              refine lv_iload hx hb dX1_nearest_174 (lv_at hl 2 rfl) ?_
              refine lv_iconst (v := 1) hx hb dX1_nearest_176 (by decide) ?_
              refine lv_iadd hx hb dX1_nearest_177 ?_
              refine lv_goto (tgt := 183) hx hb dX1_nearest_178 (by decide) ?_
              exact W.iret hx hb hr (fun t ht hW => hf_okI (by have hh := ev1.symm; subst hh; have hh := ev3.symm; subst hh; have hh := eq54.symm; subst hh; have hh := ex54_8.symm; subst hh; have hh := ex54_9.symm; subst hh; have hh := ev6.symm; subst hh; have hh := ev7.symm; subst hh; simp only [hm_nearest, if_pos c5, if_neg c8, if_neg c9]) ht) (fun q h => by cases h) dX1_nearest_183
          · skip
            refine lv_iload hx hb dX1_nearest_147 (lv_at hl 2 rfl) ?_
            refine lv_iconst (v := 2) hx hb dX1_nearest_149 (by decide) ?_
            refine lv_irem hx hb dX1_nearest_150 (by decide) ?_
            refine lv_if_ne (tgt := 159) hx hb dX1_nearest_151 (by decide) (fun c10 => ?_) (fun c10 => ?_)
            · skip
              refine lv_iload hx hb dX1_nearest_159 (lv_at hl 2 rfl) ?_
              refine lv_iconst (v := 1) hx hb dX1_nearest_161 (by decide) ?_
              refine lv_iadd hx hb dX1_nearest_162 ?_
              exact W.iret hx hb hr (fun t ht hW => hf_okI (by have hh := ev1.symm; subst hh; have hh := ev3.symm; subst hh; have hh := eq54.symm; subst hh; have hh := ex54_8.symm; subst hh; have hh := ex54_9.symm; subst hh; have hh := ev6.symm; subst hh; have hh := ev7.symm; subst hh; simp only [hm_nearest, if_pos c5, if_pos c8, if_neg c10]) ht) (fun q h => by cases h) dX1_nearest_163
            · skip
              refine lv_iload hx hb dX1_nearest_154 (lv_at hl 2 rfl) ?_
              refine lv_goto (tgt := 163) hx hb dX1_nearest_156 (by decide) ?_
              exact W.iret hx hb hr (fun t ht hW => hf_okI (by have hh := ev1.symm; subst hh; have hh := ev3.symm; subst hh; have hh := eq54.symm; subst hh; have hh := ex54_8.symm; subst hh; have hh := ex54_9.symm; subst hh; have hh := ev6.symm; subst hh; have hh := ev7.symm; subst hh; simp only [hm_nearest, if_pos c5, if_pos c8, if_pos c10]) ht) (fun q h => by cases h) dX1_nearest_163
        refine hf_loop (hm_nearest_s54 v1) (fun q => ∀ ls : Array Slot, lv_has ls 14 [(8, .int q.1), (9, .int q.2), (6, .long v3), (4, .long v1), (0, .long a0), (2, .long a1)] → (W p l e (headSpec (ws_ yX1_nearest cX1_nearest 14 (some .int)) ({ frames := 2, cells := 0, slots := 0, locals := 42 } : Room)).room s m ([.long a0, .long a1] : List Value).toArray below meth c s.heap [] 0 0 (MQ below (k2_QcV (.int (hm_nearest a0 a1))) ([.long a0, .long a1] : List Value).toArray s 0 0 (fun _ => False))) (F0 m 54 ls [])) (fun q => ∀ ls : Array Slot, lv_has ls 14 [(8, .int q.1), (9, .int q.2), (6, .long v3), (4, .long v1), (0, .long a0), (2, .long a1)] → (W p l e (headSpec (ws_ yX1_nearest cX1_nearest 14 (some .int)) ({ frames := 2, cells := 0, slots := 0, locals := 42 } : Room)).room s m ([.long a0, .long a1] : List Value).toArray below meth c s.heap [] 0 0 (MQ below (k2_QcV (.int (hm_nearest a0 a1))) ([.long a0, .long a1] : List Value).toArray s 0 0 (fun _ => False))) (F0 m 99 ls [])) ?_ 16 (0, 31743) (hm_nearest_end _) (X54 _ rfl) ls (lv_sub hl [1, 0, 2, 3, 4, 5] rfl)
        rintro ⟨x54_8, x54_9⟩ hno hgo ls hl
        have hl : lv_has ls 14 [(8, .int x54_8), (9, .int x54_9), (6, .long v3), (4, .long v1), (0, .long a0), (2, .long a1)] := hl
        refine lv_iload hx hb dX1_nearest_54 (lv_at hl 0 rfl) ?_
        refine lv_iload hx hb dX1_nearest_56 (lv_at hl 1 rfl) ?_
        refine lv_icmp_ge (tgt := 99) hx hb dX1_nearest_58 (by decide) (fun c11 => ?_) (fun c11 => ?_)
        · skip
          exact hno (by simp only [hm_nearest_s54, if_pos c11]) ls (lv_sub hl [0, 1, 2, 3, 4, 5] rfl)
        · skip
          refine lv_iload hx hb dX1_nearest_61 (lv_at hl 0 rfl) ?_
          refine lv_iload hx hb dX1_nearest_63 (lv_at hl 1 rfl) ?_
          refine lv_iadd hx hb dX1_nearest_65 ?_
          refine lv_iconst (v := 1) hx hb dX1_nearest_66 (by decide) ?_
          refine lv_iadd hx hb dX1_nearest_67 ?_
          refine lv_iconst (v := 2) hx hb dX1_nearest_68 (by decide) ?_
          refine lv_idiv hx hb dX1_nearest_69 (by decide) ?_
          refine lv_topi (fun v12 ev12 => ?_)
          refine lv_istore (lv' := [(10, .int v12), (8, .int x54_8), (9, .int x54_9), (6, .long v3), (4, .long v1), (0, .long a0), (2, .long a1)]) hx hb dX1_nearest_70 hl (by decide) rfl (fun ls hl => ?_)
          refine lv_iload hx hb dX1_nearest_72 (lv_at hl 0 rfl) ?_
          refine W.callV (r := .long (hm_amount v12)) (W.runS (As := [.int v12]) (rest := []) ⟨hx, hb, hml, hown, hts⟩ (met_X1_amount l v12) (va_cwS 1 hts (lw_S q162 q163 q8 q164) rfl rfl rfl (by decide +kernel) ⟨Nat.le_of_ble_eq_true rfl, Nat.le_of_ble_eq_true rfl⟩) preEq rfl rfl hl.1 rfl (lv_room (Nat.le_of_ble_eq_true rfl)) dX1_nearest_74 ⟨Nat.le_of_ble_eq_true rfl, Nat.le_of_ble_eq_true rfl⟩) ?_
          refine W.eq (g2 := F0 m 77 ls [.long (hm_amount v12)]) rfl ?_
          refine lv_lload hx hb dX1_nearest_77 (lv_at hl 4 rfl) ?_
          refine hf_lcmp_gt (tgt := 90) hx hb dX1_nearest_79 dX1_nearest_80 (by decide) (fun c13 => ?_) (fun c13 => ?_)
          · skip
            refine lv_iload hx hb dX1_nearest_90 (lv_at hl 0 rfl) ?_
            refine lv_iconst (v := 1) hx hb dX1_nearest_92 (by decide) ?_
            refine lv_isub hx hb dX1_nearest_93 ?_
            refine lv_topi (fun v14 ev14 => ?_)
            refine lv_istore (lv' := [(9, .int v14), (10, .int v12), (8, .int x54_8), (6, .long v3), (4, .long v1), (0, .long a0), (2, .long a1)]) hx hb dX1_nearest_94 hl (by decide) rfl (fun ls hl => ?_)
            refine lv_goto (tgt := 54) hx hb dX1_nearest_96 (by decide) ?_
            exact hgo (x54_8, v14) (by have hh := ev12.symm; subst hh; have hh := ev14.symm; subst hh; simp only [hm_nearest_s54, if_neg c11, if_pos c13]) ls (lv_sub hl [2, 0, 3, 4, 5, 6] rfl)
          · skip
            refine lv_iload hx hb dX1_nearest_83 (lv_at hl 0 rfl) ?_
            refine lv_istore (lv' := [(8, .int v12), (10, .int v12), (9, .int x54_9), (6, .long v3), (4, .long v1), (0, .long a0), (2, .long a1)]) hx hb dX1_nearest_85 hl (by decide) rfl (fun ls hl => ?_)
            refine lv_goto (tgt := 96) hx hb dX1_nearest_87 (by decide) ?_
            refine lv_goto (tgt := 54) hx hb dX1_nearest_96 (by decide) ?_
            exact hgo (v12, x54_9) (by have hh := ev12.symm; subst hh; simp only [hm_nearest_s54, if_neg c11, if_neg c13]) ls (lv_sub hl [0, 2, 3, 4, 5, 6] rfl)
      · skip
        refine lv_sipush (v := 31744) hx hb dX1_nearest_42 (by decide) ?_
        exact W.iret hx hb hr (fun t ht hW => hf_okI (by have hh := ev1.symm; subst hh; have hh := ev3.symm; subst hh; simp only [hm_nearest, if_neg c5]) ht) (fun q h => by cases h) dX1_nearest_45
    refine hf_lcmp_le (tgt := 27) hx hb dX1_nearest_17 dX1_nearest_18 (by decide) (fun c4 => ?_) (fun c4 => ?_)
    · skip
      refine lv_lconst (v := 0) hx hb dX1_nearest_27 (by decide) ?_
      exact J28 _ (by simp only [if_pos c4]) ls hl
    · skip
      refine lv_lload_n hx hb dX1_nearest_21 rfl (lv_at hl 1 rfl) ?_
      refine lv_lload_n hx hb dX1_nearest_22 rfl (lv_at hl 2 rfl) ?_
      refine lv_lrem hx hb dX1_nearest_23 (hf_ne_pos (by assumption)) ?_
      refine lv_goto (tgt := 28) hx hb dX1_nearest_24 (by decide) ?_
      exact J28 _ (by simp only [if_neg c4]) ls hl
  refine hf_lcmp_le (tgt := 12) hx hb dX1_nearest_2 dX1_nearest_3 (by decide) (fun c2 => ?_) (fun c2 => ?_)
  · skip
    refine lv_lconst (v := 0) hx hb dX1_nearest_12 (by decide) ?_
    exact J13 _ (by simp only [if_pos c2]) ls hl
  · skip
    refine lv_lload_n hx hb dX1_nearest_6 rfl (lv_at hl 0 rfl) ?_
    refine lv_lload_n hx hb dX1_nearest_7 rfl (lv_at hl 1 rfl) ?_
    refine lv_ldiv hx hb dX1_nearest_8 (hf_ne_pos (by assumption)) ?_
    refine lv_goto (tgt := 13) hx hb dX1_nearest_9 (by decide) ?_
    exact J13 _ (by simp only [if_neg c2]) ls hl
set_option maxHeartbeats 4000000 in
set_option maxRecDepth 100000 in
theorem met_X1_withSign (l : Launch) (a0 : Int32) (a1 : Int32) : Met l yX1_withSign (ws_ yX1_withSign cX1_withSign 2 (some .int)) ({ frames := 0, cells := 0, slots := 0, locals := 0 } : Room) (fun v _ => v = ([.int a0, .int a1] : List Value).toArray) (k2_QcV (.int (hm_withSign a0 a1))) 0 0 (fun _ => False) := by
  refine Met.ofW (cc := cX1_withSign) (maxL := 2) (ret := some .int) (by decide) rfl ?_
  intro p e s m args below meth c s₁ B hml hv
  subst hv
  have hx := B.exec
  have hb := B.bytes
  have hr := B.returns
  have hts := atoms_spec (ws := (ws_ yX1_withSign cX1_withSign 2 (some .int))) B.pre
  have hts : ∀ w ∈ lw_all, w.before _ s = true := fun w h => hts w (List.mem_cons_of_mem _ h)
  have hown : s.vm.findClass RX1 = some m.cls := findClass_of_methodNamed B.named
  have hlocks := B.notSynchronized
  have hl := lv_entry ([.int a0, .int a1]) (n := 2) (Nat.le_of_ble_eq_true rfl)
  rw [lg_entry_eq]
  generalize (lg_sl ([.int a0, .int a1]) ++ List.replicate (2 - (lg_sl ([.int a0, .int a1])).length) Slot.unset).toArray = ls at hl ⊢
  have hl : lv_has ls 2 [(0, .int a0), (1, .int a1)] := hl
  refine lv_iload_n hx hb dX1_withSign_0 rfl (lv_at hl 1 rfl) ?_
  refine lv_if_eq (tgt := 15) hx hb dX1_withSign_1 (by decide) (fun c1 => ?_) (fun c1 => ?_)
  · skip
    refine lv_iload_n hx hb dX1_withSign_15 rfl (lv_at hl 0 rfl) ?_
    exact W.iret hx hb hr (fun t ht hW => hf_okI (by simp only [hm_withSign, if_pos c1]) ht) (fun q h => by cases h) dX1_withSign_16
  · skip
    refine lv_iload_n hx hb dX1_withSign_4 rfl (lv_at hl 0 rfl) ?_
    refine lv_if_le (tgt := 15) hx hb dX1_withSign_5 (by decide) (fun c2 => ?_) (fun c2 => ?_)
    · skip
      refine lv_iload_n hx hb dX1_withSign_15 rfl (lv_at hl 0 rfl) ?_
      exact W.iret hx hb hr (fun t ht hW => hf_okI (by simp only [hm_withSign, if_neg c1, if_pos c2]) ht) (fun q h => by cases h) dX1_withSign_16
    · skip
      refine lv_iload_n hx hb dX1_withSign_8 rfl (lv_at hl 0 rfl) ?_
      refine lv_ldc (v := 32768) hx hb hown (hts _ q161) dX1_withSign_9 ?_
      refine lv_iadd hx hb dX1_withSign_11 ?_
      refine lv_goto (tgt := 16) hx hb dX1_withSign_12 (by decide) ?_
      exact W.iret hx hb hr (fun t ht hW => hf_okI (by simp only [hm_withSign, if_neg c1, if_neg c2]) ht) (fun q h => by cases h) dX1_withSign_16
set_option maxHeartbeats 4000000 in
set_option maxRecDepth 100000 in
theorem met_X1_add (l : Launch) (h0 : Nat) (a0 : Int32) (a1 : Int32) : Met l yX1_add (ws_ yX1_add cX1_add 6 (some .int)) ({ frames := 3, cells := 0, slots := 0, locals := 75 } : Room) (fun v _ => v = ([.ref h0, .int a0, .int a1] : List Value).toArray) (k2_QcV (.int (hm_add a0 a1))) 0 0 (fun _ => False) := by
  refine Met.ofW (cc := cX1_add) (maxL := 6) (ret := some .int) (by decide) rfl ?_
  intro p e s m args below meth c s₁ B hml hv
  subst hv
  have hx := B.exec
  have hb := B.bytes
  have hr := B.returns
  have hts := atoms_spec (ws := (ws_ yX1_add cX1_add 6 (some .int))) B.pre
  have hts : ∀ w ∈ lw_all, w.before _ s = true := fun w h => hts w (List.mem_cons_of_mem _ h)
  have hown : s.vm.findClass RX1 = some m.cls := findClass_of_methodNamed B.named
  have hlocks := B.notSynchronized
  have hl := lv_entry ([.ref h0, .int a0, .int a1]) (n := 6) (Nat.le_of_ble_eq_true rfl)
  rw [lg_entry_eq]
  generalize (lg_sl ([.ref h0, .int a0, .int a1]) ++ List.replicate (6 - (lg_sl ([.ref h0, .int a0, .int a1])).length) Slot.unset).toArray = ls at hl ⊢
  have hl : lv_has ls 6 [(0, .ref h0), (1, .int a0), (2, .int a1)] := hl
  refine lv_iload_n hx hb dX1_add_0 rfl (lv_at hl 1 rfl) ?_
  refine W.callV (r := .int (hm_bad a0)) (W.runS (As := [.int a0]) (rest := []) ⟨hx, hb, hml, hown, hts⟩ (met_X1_bad l a0) (va_cwS 1 hts (lw_S q154 q155 q8 q156) rfl rfl rfl (by decide +kernel) ⟨Nat.le_of_ble_eq_true rfl, Nat.le_of_ble_eq_true rfl⟩) preEq rfl rfl hl.1 rfl (lv_room (Nat.le_of_ble_eq_true rfl)) dX1_add_1 ⟨Nat.le_of_ble_eq_true rfl, Nat.le_of_ble_eq_true rfl⟩) ?_
  refine W.eq (g2 := F0 m 4 ls [.int (hm_bad a0)]) rfl ?_
  refine lv_if_ne (tgt := 14) hx hb dX1_add_4 (by decide) (fun c1 => ?_) (fun c1 => ?_)
  · skip
    refine lv_iconst (v := (-1)) hx hb dX1_add_14 (by decide) ?_
    exact W.iret hx hb hr (fun t ht hW => hf_okI (by simp only [hm_add, if_neg c1]) ht) (fun q h => by cases h) dX1_add_15
  · skip
    refine lv_iload_n hx hb dX1_add_7 rfl (lv_at hl 2 rfl) ?_
    refine W.callV (r := .int (hm_bad a1)) (W.runS (As := [.int a1]) (rest := []) ⟨hx, hb, hml, hown, hts⟩ (met_X1_bad l a1) (va_cwS 1 hts (lw_S q154 q155 q8 q156) rfl rfl rfl (by decide +kernel) ⟨Nat.le_of_ble_eq_true rfl, Nat.le_of_ble_eq_true rfl⟩) preEq rfl rfl hl.1 rfl (lv_room (Nat.le_of_ble_eq_true rfl)) dX1_add_8 ⟨Nat.le_of_ble_eq_true rfl, Nat.le_of_ble_eq_true rfl⟩) ?_
    refine W.eq (g2 := F0 m 11 ls [.int (hm_bad a1)]) rfl ?_
    refine lv_if_eq (tgt := 16) hx hb dX1_add_11 (by decide) (fun c2 => ?_) (fun c2 => ?_)
    · skip
      refine lv_iload_n hx hb dX1_add_16 rfl (lv_at hl 1 rfl) ?_
      refine W.callV (r := .long (hm_signed a0)) (W.runS (As := [.int a0]) (rest := []) ⟨hx, hb, hml, hown, hts⟩ (met_X1_signed l a0) (va_cwS 1 hts (lw_S q158 q159 q8 q160) rfl rfl rfl (by decide +kernel) ⟨Nat.le_of_ble_eq_true rfl, Nat.le_of_ble_eq_true rfl⟩) preEq rfl rfl hl.1 rfl (lv_room (Nat.le_of_ble_eq_true rfl)) dX1_add_17 ⟨Nat.le_of_ble_eq_true rfl, Nat.le_of_ble_eq_true rfl⟩) ?_
      refine W.eq (g2 := F0 m 20 ls [.long (hm_signed a0)]) rfl ?_
      refine lv_iload_n hx hb dX1_add_20 rfl (lv_at hl 2 rfl) ?_
      refine W.callV (r := .long (hm_signed a1)) (W.runS (As := [.int a1]) (rest := [.long (hm_signed a0)]) ⟨hx, hb, hml, hown, hts⟩ (met_X1_signed l a1) (va_cwS 1 hts (lw_S q158 q159 q8 q160) rfl rfl rfl (by decide +kernel) ⟨Nat.le_of_ble_eq_true rfl, Nat.le_of_ble_eq_true rfl⟩) preEq rfl rfl hl.1 rfl (lv_room (Nat.le_of_ble_eq_true rfl)) dX1_add_21 ⟨Nat.le_of_ble_eq_true rfl, Nat.le_of_ble_eq_true rfl⟩) ?_
      refine W.eq (g2 := F0 m 24 ls [.long (hm_signed a1), .long (hm_signed a0)]) rfl ?_
      refine lv_ladd hx hb dX1_add_24 ?_
      refine lv_topl (fun v3 ev3 => ?_)
      refine lv_lstore_n (lv' := [(3, .long v3), (0, .ref h0), (1, .int a0), (2, .int a1)]) hx hb dX1_add_25 rfl hl (by decide) rfl (fun ls hl => ?_)
      refine lv_lload_n hx hb dX1_add_26 rfl (lv_at hl 0 rfl) ?_
      refine lv_lconst (v := 0) hx hb dX1_add_27 (by decide) ?_
      have J38 : ∀ (v4 : Int64), v4 = (if (0 : Int64) ≤ (v3 : Int64) then (v3)
  else (-v3)) → ∀ ls : Array Slot, lv_has ls 6 [(3, .long v3), (0, .ref h0), (1, .int a0), (2, .int a1)] → (W p l e (headSpec (ws_ yX1_add cX1_add 6 (some .int)) ({ frames := 3, cells := 0, slots := 0, locals := 75 } : Room)).room s m ([.ref h0, .int a0, .int a1] : List Value).toArray below meth c s.heap [] 0 0 (MQ below (k2_QcV (.int (hm_add a0 a1))) ([.ref h0, .int a0, .int a1] : List Value).toArray s 0 0 (fun _ => False))) (F0 m 38 ls [.long v4]) := by
        intro v4 ev4 ls hl
        refine lv_lconst (v := 1) hx hb dX1_add_38 (by decide) ?_
        refine W.callV (r := .int (hm_nearest v4 1)) (W.runS (As := [.long v4, .long 1]) (rest := []) ⟨hx, hb, hml, hown, hts⟩ (met_X1_nearest l v4 1) (va_cwS 2 hts (lw_S q172 q173 q8 q174) rfl rfl rfl (by decide +kernel) ⟨Nat.le_of_ble_eq_true rfl, Nat.le_of_ble_eq_true rfl⟩) preEq rfl rfl hl.1 rfl (lv_room (Nat.le_of_ble_eq_true rfl)) dX1_add_39 ⟨Nat.le_of_ble_eq_true rfl, Nat.le_of_ble_eq_true rfl⟩) ?_
        refine W.eq (g2 := F0 m 42 ls [.int (hm_nearest v4 1)]) rfl ?_
        refine lv_topi (fun v6 ev6 => ?_)
        refine lv_istore (lv' := [(5, .int v6), (3, .long v3), (0, .ref h0), (1, .int a0), (2, .int a1)]) hx hb dX1_add_42 hl (by decide) rfl (fun ls hl => ?_)
        refine lv_iload hx hb dX1_add_44 (lv_at hl 0 rfl) ?_
        refine lv_lload_n hx hb dX1_add_46 rfl (lv_at hl 1 rfl) ?_
        refine lv_lconst (v := 0) hx hb dX1_add_47 (by decide) ?_
        have J57 : ∀ (v7 : Int32), v7 = (if (0 : Int64) ≤ (v3 : Int64) then (0)
  else (1)) → ∀ ls : Array Slot, lv_has ls 6 [(5, .int v6), (3, .long v3), (0, .ref h0), (1, .int a0), (2, .int a1)] → (W p l e (headSpec (ws_ yX1_add cX1_add 6 (some .int)) ({ frames := 3, cells := 0, slots := 0, locals := 75 } : Room)).room s m ([.ref h0, .int a0, .int a1] : List Value).toArray below meth c s.heap [] 0 0 (MQ below (k2_QcV (.int (hm_add a0 a1))) ([.ref h0, .int a0, .int a1] : List Value).toArray s 0 0 (fun _ => False))) (F0 m 57 ls [.int v7, .int v6]) := by
          intro v7 ev7 ls hl
          refine W.callV (r := .int (hm_withSign v6 v7)) (W.runS (As := [.int v6, .int v7]) (rest := []) ⟨hx, hb, hml, hown, hts⟩ (met_X1_withSign l v6 v7) (va_cwS 2 hts (lw_S q176 q177 q8 q178) rfl rfl rfl (by decide +kernel) ⟨Nat.le_of_ble_eq_true rfl, Nat.le_of_ble_eq_true rfl⟩) preEq rfl rfl hl.1 rfl (lv_room (Nat.le_of_ble_eq_true rfl)) dX1_add_57 ⟨Nat.le_of_ble_eq_true rfl, Nat.le_of_ble_eq_true rfl⟩) ?_
          refine W.eq (g2 := F0 m 60 ls [.int (hm_withSign v6 v7)]) rfl ?_
          exact W.iret hx hb hr (fun t ht hW => hf_okI (by have hh := ev3.symm; subst hh; have hh := ev4.symm; subst hh; have hh := ev6.symm; subst hh; have hh := ev7.symm; subst hh; simp only [hm_add, if_pos c1, if_pos c2]) ht) (fun q h => by cases h) dX1_add_60
        refine hf_lcmp_ge (tgt := 56) hx hb dX1_add_48 dX1_add_49 (by decide) (fun c8 => ?_) (fun c8 => ?_)
        · skip
          refine lv_iconst (v := 0) hx hb dX1_add_56 (by decide) ?_
          exact J57 _ (by simp only [if_pos c8]) ls hl
        · skip
          refine lv_iconst (v := 1) hx hb dX1_add_52 (by decide) ?_
          refine lv_goto (tgt := 57) hx hb dX1_add_53 (by decide) ?_
          exact J57 _ (by simp only [if_neg c8]) ls hl
      refine hf_lcmp_ge (tgt := 37) hx hb dX1_add_28 dX1_add_29 (by decide) (fun c5 => ?_) (fun c5 => ?_)
      · skip
        refine lv_lload_n hx hb dX1_add_37 rfl (lv_at hl 0 rfl) ?_
        exact J38 _ (by simp only [if_pos c5]) ls hl
      · skip
        refine lv_lload_n hx hb dX1_add_32 rfl (lv_at hl 0 rfl) ?_
        refine lv_lneg hx hb dX1_add_33 ?_
        refine lv_goto (tgt := 38) hx hb dX1_add_34 (by decide) ?_
        exact J38 _ (by simp only [if_neg c5]) ls hl
    · skip
      refine lv_iconst (v := (-1)) hx hb dX1_add_14 (by decide) ?_
      exact W.iret hx hb hr (fun t ht hW => hf_okI (by simp only [hm_add, if_pos c1, if_neg c2]) ht) (fun q h => by cases h) dX1_add_15
set_option maxHeartbeats 4000000 in
set_option maxRecDepth 100000 in
theorem met_X1_multiply (l : Launch) (h0 : Nat) (a0 : Int32) (a1 : Int32) : Met l yX1_multiply (ws_ yX1_multiply cX1_multiply 7 (some .int)) ({ frames := 3, cells := 0, slots := 0, locals := 75 } : Room) (fun v _ => v = ([.ref h0, .int a0, .int a1] : List Value).toArray) (k2_QcV (.int (hm_multiply a0 a1))) 0 0 (fun _ => False) := by
  refine Met.ofW (cc := cX1_multiply) (maxL := 7) (ret := some .int) (by decide) rfl ?_
  intro p e s m args below meth c s₁ B hml hv
  subst hv
  have hx := B.exec
  have hb := B.bytes
  have hr := B.returns
  have hts := atoms_spec (ws := (ws_ yX1_multiply cX1_multiply 7 (some .int))) B.pre
  have hts : ∀ w ∈ lw_all, w.before _ s = true := fun w h => hts w (List.mem_cons_of_mem _ h)
  have hown : s.vm.findClass RX1 = some m.cls := findClass_of_methodNamed B.named
  have hlocks := B.notSynchronized
  have hl := lv_entry ([.ref h0, .int a0, .int a1]) (n := 7) (Nat.le_of_ble_eq_true rfl)
  rw [lg_entry_eq]
  generalize (lg_sl ([.ref h0, .int a0, .int a1]) ++ List.replicate (7 - (lg_sl ([.ref h0, .int a0, .int a1])).length) Slot.unset).toArray = ls at hl ⊢
  have hl : lv_has ls 7 [(0, .ref h0), (1, .int a0), (2, .int a1)] := hl
  refine lv_iload_n hx hb dX1_multiply_0 rfl (lv_at hl 1 rfl) ?_
  refine W.callV (r := .int (hm_bad a0)) (W.runS (As := [.int a0]) (rest := []) ⟨hx, hb, hml, hown, hts⟩ (met_X1_bad l a0) (va_cwS 1 hts (lw_S q154 q155 q8 q156) rfl rfl rfl (by decide +kernel) ⟨Nat.le_of_ble_eq_true rfl, Nat.le_of_ble_eq_true rfl⟩) preEq rfl rfl hl.1 rfl (lv_room (Nat.le_of_ble_eq_true rfl)) dX1_multiply_1 ⟨Nat.le_of_ble_eq_true rfl, Nat.le_of_ble_eq_true rfl⟩) ?_
  refine W.eq (g2 := F0 m 4 ls [.int (hm_bad a0)]) rfl ?_
  refine lv_if_ne (tgt := 14) hx hb dX1_multiply_4 (by decide) (fun c1 => ?_) (fun c1 => ?_)
  · skip
    refine lv_iconst (v := (-1)) hx hb dX1_multiply_14 (by decide) ?_
    exact W.iret hx hb hr (fun t ht hW => hf_okI (by simp only [hm_multiply, if_neg c1]) ht) (fun q h => by cases h) dX1_multiply_15
  · skip
    refine lv_iload_n hx hb dX1_multiply_7 rfl (lv_at hl 2 rfl) ?_
    refine W.callV (r := .int (hm_bad a1)) (W.runS (As := [.int a1]) (rest := []) ⟨hx, hb, hml, hown, hts⟩ (met_X1_bad l a1) (va_cwS 1 hts (lw_S q154 q155 q8 q156) rfl rfl rfl (by decide +kernel) ⟨Nat.le_of_ble_eq_true rfl, Nat.le_of_ble_eq_true rfl⟩) preEq rfl rfl hl.1 rfl (lv_room (Nat.le_of_ble_eq_true rfl)) dX1_multiply_8 ⟨Nat.le_of_ble_eq_true rfl, Nat.le_of_ble_eq_true rfl⟩) ?_
    refine W.eq (g2 := F0 m 11 ls [.int (hm_bad a1)]) rfl ?_
    refine lv_if_eq (tgt := 16) hx hb dX1_multiply_11 (by decide) (fun c2 => ?_) (fun c2 => ?_)
    · skip
      refine lv_iload_n hx hb dX1_multiply_16 rfl (lv_at hl 1 rfl) ?_
      refine W.callV (r := .long (hm_digitsOf a0)) (W.runS (As := [.int a0]) (rest := []) ⟨hx, hb, hml, hown, hts⟩ (met_X1_digitsOf l a0) (va_cwS 1 hts (lw_S q166 q167 q8 q168) rfl rfl rfl (by decide +kernel) ⟨Nat.le_of_ble_eq_true rfl, Nat.le_of_ble_eq_true rfl⟩) preEq rfl rfl hl.1 rfl (lv_room (Nat.le_of_ble_eq_true rfl)) dX1_multiply_17 ⟨Nat.le_of_ble_eq_true rfl, Nat.le_of_ble_eq_true rfl⟩) ?_
      refine W.eq (g2 := F0 m 20 ls [.long (hm_digitsOf a0)]) rfl ?_
      refine lv_iload_n hx hb dX1_multiply_20 rfl (lv_at hl 2 rfl) ?_
      refine W.callV (r := .long (hm_digitsOf a1)) (W.runS (As := [.int a1]) (rest := [.long (hm_digitsOf a0)]) ⟨hx, hb, hml, hown, hts⟩ (met_X1_digitsOf l a1) (va_cwS 1 hts (lw_S q166 q167 q8 q168) rfl rfl rfl (by decide +kernel) ⟨Nat.le_of_ble_eq_true rfl, Nat.le_of_ble_eq_true rfl⟩) preEq rfl rfl hl.1 rfl (lv_room (Nat.le_of_ble_eq_true rfl)) dX1_multiply_21 ⟨Nat.le_of_ble_eq_true rfl, Nat.le_of_ble_eq_true rfl⟩) ?_
      refine W.eq (g2 := F0 m 24 ls [.long (hm_digitsOf a1), .long (hm_digitsOf a0)]) rfl ?_
      refine lv_lmul hx hb dX1_multiply_24 ?_
      refine lv_topl (fun v3 ev3 => ?_)
      refine lv_lstore_n (lv' := [(3, .long v3), (0, .ref h0), (1, .int a0), (2, .int a1)]) hx hb dX1_multiply_25 rfl hl (by decide) rfl (fun ls hl => ?_)
      refine lv_iload_n hx hb dX1_multiply_26 rfl (lv_at hl 2 rfl) ?_
      refine W.callV (r := .int (hm_shiftOf a0)) (W.runS (As := [.int a0]) (rest := []) ⟨hx, hb, hml, hown, hts⟩ (met_X1_shiftOf l a0) (va_cwS 1 hts (lw_S q169 q170 q8 q171) rfl rfl rfl (by decide +kernel) ⟨Nat.le_of_ble_eq_true rfl, Nat.le_of_ble_eq_true rfl⟩) preEq rfl rfl hl.1 rfl (lv_room (Nat.le_of_ble_eq_true rfl)) dX1_multiply_27 ⟨Nat.le_of_ble_eq_true rfl, Nat.le_of_ble_eq_true rfl⟩) ?_
      refine W.eq (g2 := F0 m 30 ls [.int (hm_shiftOf a0)]) rfl ?_
      refine lv_iload_n hx hb dX1_multiply_30 rfl (lv_at hl 3 rfl) ?_
      refine W.callV (r := .int (hm_shiftOf a1)) (W.runS (As := [.int a1]) (rest := [.int (hm_shiftOf a0)]) ⟨hx, hb, hml, hown, hts⟩ (met_X1_shiftOf l a1) (va_cwS 1 hts (lw_S q169 q170 q8 q171) rfl rfl rfl (by decide +kernel) ⟨Nat.le_of_ble_eq_true rfl, Nat.le_of_ble_eq_true rfl⟩) preEq rfl rfl hl.1 rfl (lv_room (Nat.le_of_ble_eq_true rfl)) dX1_multiply_31 ⟨Nat.le_of_ble_eq_true rfl, Nat.le_of_ble_eq_true rfl⟩) ?_
      refine W.eq (g2 := F0 m 34 ls [.int (hm_shiftOf a1), .int (hm_shiftOf a0)]) rfl ?_
      refine lv_iadd hx hb dX1_multiply_34 ?_
      refine lv_bipush (v := 24) hx hb dX1_multiply_35 (by decide) ?_
      refine lv_isub hx hb dX1_multiply_37 ?_
      refine lv_topi (fun v4 ev4 => ?_)
      refine lv_istore (lv' := [(5, .int v4), (3, .long v3), (0, .ref h0), (1, .int a0), (2, .int a1)]) hx hb dX1_multiply_38 hl (by decide) rfl (fun ls hl => ?_)
      refine lv_iload hx hb dX1_multiply_40 (lv_at hl 0 rfl) ?_
      have J65 : ∀ (v5 : Int32), v5 = (if (v4 : Int32) < (0 : Int32) then (hm_nearest v3 ((1 : Int64) <<< ((-v4 : Int32).toInt64 &&& 63)))
  else (hm_nearest ((v3 : Int64) <<< ((v4 : Int32).toInt64 &&& 63)) 1)) → ∀ ls : Array Slot, lv_has ls 7 [(5, .int v4), (3, .long v3), (0, .ref h0), (1, .int a0), (2, .int a1)] → (W p l e (headSpec (ws_ yX1_multiply cX1_multiply 7 (some .int)) ({ frames := 3, cells := 0, slots := 0, locals := 75 } : Room)).room s m ([.ref h0, .int a0, .int a1] : List Value).toArray below meth c s.heap [] 0 0 (MQ below (k2_QcV (.int (hm_multiply a0 a1))) ([.ref h0, .int a0, .int a1] : List Value).toArray s 0 0 (fun _ => False))) (F0 m 65 ls [.int v5]) := by
        intro v5 ev5 ls hl
        refine lv_istore (lv' := [(6, .int v5), (5, .int v4), (3, .long v3), (0, .ref h0), (1, .int a0), (2, .int a1)]) hx hb dX1_multiply_65 hl (by decide) rfl (fun ls hl => ?_)
        refine lv_iload hx hb dX1_multiply_67 (lv_at hl 0 rfl) ?_
        refine lv_iload_n hx hb dX1_multiply_69 rfl (lv_at hl 4 rfl) ?_
        refine lv_ldc (v := 32768) hx hb hown (hts _ q161) dX1_multiply_70 ?_
        have J80 : ∀ (v7 : Int32), v7 = (if (a0 : Int32) < (32768 : Int32) then (0)
  else (1)) → ∀ ls : Array Slot, lv_has ls 7 [(6, .int v5), (5, .int v4), (3, .long v3), (0, .ref h0), (1, .int a0), (2, .int a1)] → (W p l e (headSpec (ws_ yX1_multiply cX1_multiply 7 (some .int)) ({ frames := 3, cells := 0, slots := 0, locals := 75 } : Room)).room s m ([.ref h0, .int a0, .int a1] : List Value).toArray below meth c s.heap [] 0 0 (MQ below (k2_QcV (.int (hm_multiply a0 a1))) ([.ref h0, .int a0, .int a1] : List Value).toArray s 0 0 (fun _ => False))) (F0 m 80 ls [.int v7, .int v5]) := by
          intro v7 ev7 ls hl
          refine lv_iload_n hx hb dX1_multiply_80 rfl (lv_at hl 5 rfl) ?_
          refine lv_ldc (v := 32768) hx hb hown (hts _ q161) dX1_multiply_81 ?_
          have J91 : ∀ (v9 : Int32), v9 = (if (a1 : Int32) < (32768 : Int32) then (0)
  else (1)) → ∀ ls : Array Slot, lv_has ls 7 [(6, .int v5), (5, .int v4), (3, .long v3), (0, .ref h0), (1, .int a0), (2, .int a1)] → (W p l e (headSpec (ws_ yX1_multiply cX1_multiply 7 (some .int)) ({ frames := 3, cells := 0, slots := 0, locals := 75 } : Room)).room s m ([.ref h0, .int a0, .int a1] : List Value).toArray below meth c s.heap [] 0 0 (MQ below (k2_QcV (.int (hm_multiply a0 a1))) ([.ref h0, .int a0, .int a1] : List Value).toArray s 0 0 (fun _ => False))) (F0 m 91 ls [.int v9, .int v7, .int v5]) := by
            intro v9 ev9 ls hl
            have J99 : ∀ (v11 : Int32), v11 = (if (v7 : Int32) = (v9 : Int32) then (0)
  else (1)) → ∀ ls : Array Slot, lv_has ls 7 [(6, .int v5), (5, .int v4), (3, .long v3), (0, .ref h0), (1, .int a0), (2, .int a1)] → (W p l e (headSpec (ws_ yX1_multiply cX1_multiply 7 (some .int)) ({ frames := 3, cells := 0, slots := 0, locals := 75 } : Room)).room s m ([.ref h0, .int a0, .int a1] : List Value).toArray below meth c s.heap [] 0 0 (MQ below (k2_QcV (.int (hm_multiply a0 a1))) ([.ref h0, .int a0, .int a1] : List Value).toArray s 0 0 (fun _ => False))) (F0 m 99 ls [.int v11, .int v5]) := by
              intro v11 ev11 ls hl
              refine W.callV (r := .int (hm_withSign v5 v11)) (W.runS (As := [.int v5, .int v11]) (rest := []) ⟨hx, hb, hml, hown, hts⟩ (met_X1_withSign l v5 v11) (va_cwS 2 hts (lw_S q176 q177 q8 q178) rfl rfl rfl (by decide +kernel) ⟨Nat.le_of_ble_eq_true rfl, Nat.le_of_ble_eq_true rfl⟩) preEq rfl rfl hl.1 rfl (lv_room (Nat.le_of_ble_eq_true rfl)) dX1_multiply_99 ⟨Nat.le_of_ble_eq_true rfl, Nat.le_of_ble_eq_true rfl⟩) ?_
              refine W.eq (g2 := F0 m 102 ls [.int (hm_withSign v5 v11)]) rfl ?_
              exact W.iret hx hb hr (fun t ht hW => hf_okI (by have hh := ev3.symm; subst hh; have hh := ev4.symm; subst hh; have hh := ev5.symm; subst hh; have hh := ev7.symm; subst hh; have hh := ev9.symm; subst hh; have hh := ev11.symm; subst hh; simp only [hm_multiply, if_pos c1, if_pos c2]) ht) (fun q h => by cases h) dX1_multiply_102
            refine lv_icmp_eq (tgt := 98) hx hb dX1_multiply_91 (by decide) (fun c12 => ?_) (fun c12 => ?_)
            · skip
              refine lv_iconst (v := 0) hx hb dX1_multiply_98 (by decide) ?_
              exact J99 _ (by simp only [if_pos c12]) ls hl
            · skip
              refine lv_iconst (v := 1) hx hb dX1_multiply_94 (by decide) ?_
              refine lv_goto (tgt := 99) hx hb dX1_multiply_95 (by decide) ?_
              exact J99 _ (by simp only [if_neg c12]) ls hl
          refine lv_icmp_lt (tgt := 90) hx hb dX1_multiply_83 (by decide) (fun c10 => ?_) (fun c10 => ?_)
          · skip
            refine lv_iconst (v := 0) hx hb dX1_multiply_90 (by decide) ?_
            exact J91 _ (by simp only [if_pos c10]) ls hl
          · skip
            refine lv_iconst (v := 1) hx hb dX1_multiply_86 (by decide) ?_
            refine lv_goto (tgt := 91) hx hb dX1_multiply_87 (by decide) ?_
            exact J91 _ (by simp only [if_neg c10]) ls hl
        refine lv_icmp_lt (tgt := 79) hx hb dX1_multiply_72 (by decide) (fun c8 => ?_) (fun c8 => ?_)
        · skip
          refine lv_iconst (v := 0) hx hb dX1_multiply_79 (by decide) ?_
          exact J80 _ (by simp only [if_pos c8]) ls hl
        · skip
          refine lv_iconst (v := 1) hx hb dX1_multiply_75 (by decide) ?_
          refine lv_goto (tgt := 80) hx hb dX1_multiply_76 (by decide) ?_
          exact J80 _ (by simp only [if_neg c8]) ls hl
      refine lv_if_lt (tgt := 56) hx hb dX1_multiply_42 (by decide) (fun c6 => ?_) (fun c6 => ?_)
      · skip
        refine lv_lload_n hx hb dX1_multiply_56 rfl (lv_at hl 1 rfl) ?_
        refine lv_lconst (v := 1) hx hb dX1_multiply_57 (by decide) ?_
        refine lv_iload hx hb dX1_multiply_58 (lv_at hl 0 rfl) ?_
        refine lv_ineg hx hb dX1_multiply_60 ?_
        refine lv_lshl hx hb dX1_multiply_61 rfl ?_
        refine W.callV (r := .int (hm_nearest v3 ((1 : Int64) <<< ((-v4 : Int32).toInt64 &&& 63)))) (W.runS (As := [.long v3, .long ((1 : Int64) <<< ((-v4 : Int32).toInt64 &&& 63))]) (rest := []) ⟨hx, hb, hml, hown, hts⟩ (met_X1_nearest l v3 ((1 : Int64) <<< ((-v4 : Int32).toInt64 &&& 63))) (va_cwS 2 hts (lw_S q172 q173 q8 q174) rfl rfl rfl (by decide +kernel) ⟨Nat.le_of_ble_eq_true rfl, Nat.le_of_ble_eq_true rfl⟩) preEq rfl rfl hl.1 rfl (lv_room (Nat.le_of_ble_eq_true rfl)) dX1_multiply_62 ⟨Nat.le_of_ble_eq_true rfl, Nat.le_of_ble_eq_true rfl⟩) ?_
        refine W.eq (g2 := F0 m 65 ls [.int (hm_nearest v3 ((1 : Int64) <<< ((-v4 : Int32).toInt64 &&& 63)))]) rfl ?_
        exact J65 _ (by simp only [if_pos c6]) ls hl
      · skip
        refine lv_lload_n hx hb dX1_multiply_45 rfl (lv_at hl 1 rfl) ?_
        refine lv_iload hx hb dX1_multiply_46 (lv_at hl 0 rfl) ?_
        refine lv_lshl hx hb dX1_multiply_48 rfl ?_
        refine lv_lconst (v := 1) hx hb dX1_multiply_49 (by decide) ?_
        refine W.callV (r := .int (hm_nearest ((v3 : Int64) <<< ((v4 : Int32).toInt64 &&& 63)) 1)) (W.runS (As := [.long ((v3 : Int64) <<< ((v4 : Int32).toInt64 &&& 63)), .long 1]) (rest := []) ⟨hx, hb, hml, hown, hts⟩ (met_X1_nearest l ((v3 : Int64) <<< ((v4 : Int32).toInt64 &&& 63)) 1) (va_cwS 2 hts (lw_S q172 q173 q8 q174) rfl rfl rfl (by decide +kernel) ⟨Nat.le_of_ble_eq_true rfl, Nat.le_of_ble_eq_true rfl⟩) preEq rfl rfl hl.1 rfl (lv_room (Nat.le_of_ble_eq_true rfl)) dX1_multiply_50 ⟨Nat.le_of_ble_eq_true rfl, Nat.le_of_ble_eq_true rfl⟩) ?_
        refine W.eq (g2 := F0 m 53 ls [.int (hm_nearest ((v3 : Int64) <<< ((v4 : Int32).toInt64 &&& 63)) 1)]) rfl ?_
        refine lv_goto (tgt := 65) hx hb dX1_multiply_53 (by decide) ?_
        exact J65 _ (by simp only [if_neg c6]) ls hl
    · skip
      refine lv_iconst (v := (-1)) hx hb dX1_multiply_14 (by decide) ?_
      exact W.iret hx hb hr (fun t ht hW => hf_okI (by simp only [hm_multiply, if_pos c1, if_neg c2]) ht) (fun q h => by cases h) dX1_multiply_15
end
section
set_option maxHeartbeats 4000000 in
set_option maxRecDepth 100000 in
theorem met_X1_divide (l : Launch) (h0 : Nat) (a0 : Int32) (a1 : Int32) : Met l yX1_divide (ws_ yX1_divide cX1_divide 10 (some .int)) ({ frames := 3, cells := 0, slots := 0, locals := 75 } : Room) (fun v _ => v = ([.ref h0, .int a0, .int a1] : List Value).toArray) (k2_QcV (.int (hm_divide a0 a1))) 0 0 (fun _ => False) := by
  refine Met.ofW (cc := cX1_divide) (maxL := 10) (ret := some .int) (by decide) rfl ?_
  intro p e s m args below meth c s₁ B hml hv
  subst hv
  have hx := B.exec
  have hb := B.bytes
  have hr := B.returns
  have hts := atoms_spec (ws := (ws_ yX1_divide cX1_divide 10 (some .int))) B.pre
  have hts : ∀ w ∈ lw_all, w.before _ s = true := fun w h => hts w (List.mem_cons_of_mem _ h)
  have hown : s.vm.findClass RX1 = some m.cls := findClass_of_methodNamed B.named
  have hlocks := B.notSynchronized
  have hl := lv_entry ([.ref h0, .int a0, .int a1]) (n := 10) (Nat.le_of_ble_eq_true rfl)
  rw [lg_entry_eq]
  generalize (lg_sl ([.ref h0, .int a0, .int a1]) ++ List.replicate (10 - (lg_sl ([.ref h0, .int a0, .int a1])).length) Slot.unset).toArray = ls at hl ⊢
  have hl : lv_has ls 10 [(0, .ref h0), (1, .int a0), (2, .int a1)] := hl
  refine lv_iload_n hx hb dX1_divide_0 rfl (lv_at hl 1 rfl) ?_
  refine W.callV (r := .int (hm_bad a0)) (W.runS (As := [.int a0]) (rest := []) ⟨hx, hb, hml, hown, hts⟩ (met_X1_bad l a0) (va_cwS 1 hts (lw_S q154 q155 q8 q156) rfl rfl rfl (by decide +kernel) ⟨Nat.le_of_ble_eq_true rfl, Nat.le_of_ble_eq_true rfl⟩) preEq rfl rfl hl.1 rfl (lv_room (Nat.le_of_ble_eq_true rfl)) dX1_divide_1 ⟨Nat.le_of_ble_eq_true rfl, Nat.le_of_ble_eq_true rfl⟩) ?_
  refine W.eq (g2 := F0 m 4 ls [.int (hm_bad a0)]) rfl ?_
  refine lv_if_ne (tgt := 23) hx hb dX1_divide_4 (by decide) (fun c1 => ?_) (fun c1 => ?_)
  · skip
    refine lv_iconst (v := (-1)) hx hb dX1_divide_23 (by decide) ?_
    exact W.iret hx hb hr (fun t ht hW => hf_okI (by simp only [hm_divide, if_neg c1]) ht) (fun q h => by cases h) dX1_divide_24
  · skip
    refine lv_iload_n hx hb dX1_divide_7 rfl (lv_at hl 2 rfl) ?_
    refine W.callV (r := .int (hm_bad a1)) (W.runS (As := [.int a1]) (rest := []) ⟨hx, hb, hml, hown, hts⟩ (met_X1_bad l a1) (va_cwS 1 hts (lw_S q154 q155 q8 q156) rfl rfl rfl (by decide +kernel) ⟨Nat.le_of_ble_eq_true rfl, Nat.le_of_ble_eq_true rfl⟩) preEq rfl rfl hl.1 rfl (lv_room (Nat.le_of_ble_eq_true rfl)) dX1_divide_8 ⟨Nat.le_of_ble_eq_true rfl, Nat.le_of_ble_eq_true rfl⟩) ?_
    refine W.eq (g2 := F0 m 11 ls [.int (hm_bad a1)]) rfl ?_
    refine lv_if_ne (tgt := 23) hx hb dX1_divide_11 (by decide) (fun c2 => ?_) (fun c2 => ?_)
    · skip
      refine lv_iconst (v := (-1)) hx hb dX1_divide_23 (by decide) ?_
      exact W.iret hx hb hr (fun t ht hW => hf_okI (by simp only [hm_divide, if_pos c1, if_neg c2]) ht) (fun q h => by cases h) dX1_divide_24
    · skip
      refine lv_iload_n hx hb dX1_divide_14 rfl (lv_at hl 2 rfl) ?_
      refine W.callV (r := .long (hm_digitsOf a1)) (W.runS (As := [.int a1]) (rest := []) ⟨hx, hb, hml, hown, hts⟩ (met_X1_digitsOf l a1) (va_cwS 1 hts (lw_S q166 q167 q8 q168) rfl rfl rfl (by decide +kernel) ⟨Nat.le_of_ble_eq_true rfl, Nat.le_of_ble_eq_true rfl⟩) preEq rfl rfl hl.1 rfl (lv_room (Nat.le_of_ble_eq_true rfl)) dX1_divide_15 ⟨Nat.le_of_ble_eq_true rfl, Nat.le_of_ble_eq_true rfl⟩) ?_
      refine W.eq (g2 := F0 m 18 ls [.long (hm_digitsOf a1)]) rfl ?_
      refine lv_lconst (v := 0) hx hb dX1_divide_18 (by decide) ?_
      refine hf_lcmp_ne (tgt := 25) hx hb dX1_divide_19 dX1_divide_20 (by decide) (fun c3 => ?_) (fun c3 => ?_)
      · skip
        refine lv_iload_n hx hb dX1_divide_25 rfl (lv_at hl 1 rfl) ?_
        refine W.callV (r := .int (hm_shiftOf a0)) (W.runS (As := [.int a0]) (rest := []) ⟨hx, hb, hml, hown, hts⟩ (met_X1_shiftOf l a0) (va_cwS 1 hts (lw_S q169 q170 q8 q171) rfl rfl rfl (by decide +kernel) ⟨Nat.le_of_ble_eq_true rfl, Nat.le_of_ble_eq_true rfl⟩) preEq rfl rfl hl.1 rfl (lv_room (Nat.le_of_ble_eq_true rfl)) dX1_divide_26 ⟨Nat.le_of_ble_eq_true rfl, Nat.le_of_ble_eq_true rfl⟩) ?_
        refine W.eq (g2 := F0 m 29 ls [.int (hm_shiftOf a0)]) rfl ?_
        refine lv_iload_n hx hb dX1_divide_29 rfl (lv_at hl 2 rfl) ?_
        refine W.callV (r := .int (hm_shiftOf a1)) (W.runS (As := [.int a1]) (rest := [.int (hm_shiftOf a0)]) ⟨hx, hb, hml, hown, hts⟩ (met_X1_shiftOf l a1) (va_cwS 1 hts (lw_S q169 q170 q8 q171) rfl rfl rfl (by decide +kernel) ⟨Nat.le_of_ble_eq_true rfl, Nat.le_of_ble_eq_true rfl⟩) preEq rfl rfl hl.1 rfl (lv_room (Nat.le_of_ble_eq_true rfl)) dX1_divide_30 ⟨Nat.le_of_ble_eq_true rfl, Nat.le_of_ble_eq_true rfl⟩) ?_
        refine W.eq (g2 := F0 m 33 ls [.int (hm_shiftOf a1), .int (hm_shiftOf a0)]) rfl ?_
        refine lv_isub hx hb dX1_divide_33 ?_
        refine lv_bipush (v := 24) hx hb dX1_divide_34 (by decide) ?_
        refine lv_iadd hx hb dX1_divide_36 ?_
        refine lv_topi (fun v4 ev4 => ?_)
        refine lv_istore_n (lv' := [(3, .int v4), (0, .ref h0), (1, .int a0), (2, .int a1)]) hx hb dX1_divide_37 rfl hl (by decide) rfl (fun ls hl => ?_)
        refine lv_iload_n hx hb dX1_divide_38 rfl (lv_at hl 2 rfl) ?_
        refine lv_ldc (v := 32768) hx hb hown (hts _ q161) dX1_divide_39 ?_
        have J49 : ∀ (v5 : Int32), v5 = (if (a0 : Int32) < (32768 : Int32) then (0)
  else (1)) → ∀ ls : Array Slot, lv_has ls 10 [(3, .int v4), (0, .ref h0), (1, .int a0), (2, .int a1)] → (W p l e (headSpec (ws_ yX1_divide cX1_divide 10 (some .int)) ({ frames := 3, cells := 0, slots := 0, locals := 75 } : Room)).room s m ([.ref h0, .int a0, .int a1] : List Value).toArray below meth c s.heap [] 0 0 (MQ below (k2_QcV (.int (hm_divide a0 a1))) ([.ref h0, .int a0, .int a1] : List Value).toArray s 0 0 (fun _ => False))) (F0 m 49 ls [.int v5]) := by
          intro v5 ev5 ls hl
          refine lv_iload_n hx hb dX1_divide_49 rfl (lv_at hl 3 rfl) ?_
          refine lv_ldc (v := 32768) hx hb hown (hts _ q161) dX1_divide_50 ?_
          have J60 : ∀ (v7 : Int32), v7 = (if (a1 : Int32) < (32768 : Int32) then (0)
  else (1)) → ∀ ls : Array Slot, lv_has ls 10 [(3, .int v4), (0, .ref h0), (1, .int a0), (2, .int a1)] → (W p l e (headSpec (ws_ yX1_divide cX1_divide 10 (some .int)) ({ frames := 3, cells := 0, slots := 0, locals := 75 } : Room)).room s m ([.ref h0, .int a0, .int a1] : List Value).toArray below meth c s.heap [] 0 0 (MQ below (k2_QcV (.int (hm_divide a0 a1))) ([.ref h0, .int a0, .int a1] : List Value).toArray s 0 0 (fun _ => False))) (F0 m 60 ls [.int v7, .int v5]) := by
            intro v7 ev7 ls hl
            have J68 : ∀ (v9 : Int32), v9 = (if (v5 : Int32) = (v7 : Int32) then (0)
  else (1)) → ∀ ls : Array Slot, lv_has ls 10 [(3, .int v4), (0, .ref h0), (1, .int a0), (2, .int a1)] → (W p l e (headSpec (ws_ yX1_divide cX1_divide 10 (some .int)) ({ frames := 3, cells := 0, slots := 0, locals := 75 } : Room)).room s m ([.ref h0, .int a0, .int a1] : List Value).toArray below meth c s.heap [] 0 0 (MQ below (k2_QcV (.int (hm_divide a0 a1))) ([.ref h0, .int a0, .int a1] : List Value).toArray s 0 0 (fun _ => False))) (F0 m 68 ls [.int v9]) := by
              intro v9 ev9 ls hl
              refine lv_istore (lv' := [(4, .int v9), (3, .int v4), (0, .ref h0), (1, .int a0), (2, .int a1)]) hx hb dX1_divide_68 hl (by decide) rfl (fun ls hl => ?_)
              refine lv_iload_n hx hb dX1_divide_70 rfl (lv_at hl 3 rfl) ?_
              refine W.callV (r := .long (hm_digitsOf a0)) (W.runS (As := [.int a0]) (rest := []) ⟨hx, hb, hml, hown, hts⟩ (met_X1_digitsOf l a0) (va_cwS 1 hts (lw_S q166 q167 q8 q168) rfl rfl rfl (by decide +kernel) ⟨Nat.le_of_ble_eq_true rfl, Nat.le_of_ble_eq_true rfl⟩) preEq rfl rfl hl.1 rfl (lv_room (Nat.le_of_ble_eq_true rfl)) dX1_divide_71 ⟨Nat.le_of_ble_eq_true rfl, Nat.le_of_ble_eq_true rfl⟩) ?_
              refine W.eq (g2 := F0 m 74 ls [.long (hm_digitsOf a0)]) rfl ?_
              refine lv_topl (fun v11 ev11 => ?_)
              refine lv_lstore (lv' := [(5, .long v11), (4, .int v9), (3, .int v4), (0, .ref h0), (1, .int a0), (2, .int a1)]) hx hb dX1_divide_74 hl (by decide) rfl (fun ls hl => ?_)
              refine lv_iload_n hx hb dX1_divide_76 rfl (lv_at hl 5 rfl) ?_
              refine W.callV (r := .long (hm_digitsOf a1)) (W.runS (As := [.int a1]) (rest := []) ⟨hx, hb, hml, hown, hts⟩ (met_X1_digitsOf l a1) (va_cwS 1 hts (lw_S q166 q167 q8 q168) rfl rfl rfl (by decide +kernel) ⟨Nat.le_of_ble_eq_true rfl, Nat.le_of_ble_eq_true rfl⟩) preEq rfl rfl hl.1 rfl (lv_room (Nat.le_of_ble_eq_true rfl)) dX1_divide_77 ⟨Nat.le_of_ble_eq_true rfl, Nat.le_of_ble_eq_true rfl⟩) ?_
              refine W.eq (g2 := F0 m 80 ls [.long (hm_digitsOf a1)]) rfl ?_
              refine lv_topl (fun v12 ev12 => ?_)
              refine lv_lstore (lv' := [(7, .long v12), (5, .long v11), (4, .int v9), (3, .int v4), (0, .ref h0), (1, .int a0), (2, .int a1)]) hx hb dX1_divide_80 hl (by decide) rfl (fun ls hl => ?_)
              refine lv_sipush (v := 31744) hx hb dX1_divide_82 (by decide) ?_
              refine lv_istore (lv' := [(9, .int 31744), (7, .long v12), (5, .long v11), (4, .int v9), (3, .int v4), (0, .ref h0), (1, .int a0), (2, .int a1)]) hx hb dX1_divide_85 hl (by decide) rfl (fun ls hl => ?_)
              refine lv_lload hx hb dX1_divide_87 (lv_at hl 2 rfl) ?_
              refine lv_lconst (v := 0) hx hb dX1_divide_89 (by decide) ?_
              have J134 : ∀ (v13 : Int32), v13 = (if (v11 : Int64) = (0 : Int64) then (0)
  else (if (45 : Int32) < (v4 : Int32) then (31744)
    else (let v16 : Int32 := (if (v4 : Int32) < (0 : Int32) then (hm_nearest v11 ((v12 : Int64) <<< ((-v4 : Int32).toInt64 &&& 63)))
        else (hm_nearest ((v11 : Int64) <<< ((v4 : Int32).toInt64 &&& 63)) v12));
      v16))) → ∀ ls : Array Slot, lv_has ls 10 [(9, .int v13), (7, .long v12), (5, .long v11), (4, .int v9), (3, .int v4), (0, .ref h0), (1, .int a0), (2, .int a1)] → (W p l e (headSpec (ws_ yX1_divide cX1_divide 10 (some .int)) ({ frames := 3, cells := 0, slots := 0, locals := 75 } : Room)).room s m ([.ref h0, .int a0, .int a1] : List Value).toArray below meth c s.heap [] 0 0 (MQ below (k2_QcV (.int (hm_divide a0 a1))) ([.ref h0, .int a0, .int a1] : List Value).toArray s 0 0 (fun _ => False))) (F0 m 134 ls []) := by
                intro v13 ev13 ls hl
                refine lv_iload hx hb dX1_divide_134 (lv_at hl 0 rfl) ?_
                refine lv_iload hx hb dX1_divide_136 (lv_at hl 3 rfl) ?_
                refine W.callV (r := .int (hm_withSign v13 v9)) (W.runS (As := [.int v13, .int v9]) (rest := []) ⟨hx, hb, hml, hown, hts⟩ (met_X1_withSign l v13 v9) (va_cwS 2 hts (lw_S q176 q177 q8 q178) rfl rfl rfl (by decide +kernel) ⟨Nat.le_of_ble_eq_true rfl, Nat.le_of_ble_eq_true rfl⟩) preEq rfl rfl hl.1 rfl (lv_room (Nat.le_of_ble_eq_true rfl)) dX1_divide_138 ⟨Nat.le_of_ble_eq_true rfl, Nat.le_of_ble_eq_true rfl⟩) ?_
                refine W.eq (g2 := F0 m 141 ls [.int (hm_withSign v13 v9)]) rfl ?_
                exact W.iret hx hb hr (fun t ht hW => hf_okI (by have hh := ev4.symm; subst hh; have hh := ev5.symm; subst hh; have hh := ev7.symm; subst hh; have hh := ev9.symm; subst hh; have hh := ev11.symm; subst hh; have hh := ev12.symm; subst hh; have hh := ev13.symm; subst hh; simp only [hm_divide, if_pos c1, if_pos c2, if_neg c3]) ht) (fun q h => by cases h) dX1_divide_141
              refine hf_lcmp_ne (tgt := 100) hx hb dX1_divide_90 dX1_divide_91 (by decide) (fun c14 => ?_) (fun c14 => ?_)
              · skip
                refine lv_iload_n hx hb dX1_divide_100 rfl (lv_at hl 4 rfl) ?_
                refine lv_bipush (v := 45) hx hb dX1_divide_101 (by decide) ?_
                refine lv_icmp_gt (tgt := 134) hx hb dX1_divide_103 (by decide) (fun c15 => ?_) (fun c15 => ?_)
                · skip
                  exact J134 _ (by simp only [if_neg c14, if_pos c15]) ls hl
                · skip
                  refine lv_iload_n hx hb dX1_divide_106 rfl (lv_at hl 4 rfl) ?_
                  have J132 : ∀ (v16 : Int32), v16 = (if (v4 : Int32) < (0 : Int32) then (hm_nearest v11 ((v12 : Int64) <<< ((-v4 : Int32).toInt64 &&& 63)))
  else (hm_nearest ((v11 : Int64) <<< ((v4 : Int32).toInt64 &&& 63)) v12)) → ∀ ls : Array Slot, lv_has ls 10 [(9, .int 31744), (7, .long v12), (5, .long v11), (4, .int v9), (3, .int v4), (0, .ref h0), (1, .int a0), (2, .int a1)] → (W p l e (headSpec (ws_ yX1_divide cX1_divide 10 (some .int)) ({ frames := 3, cells := 0, slots := 0, locals := 75 } : Room)).room s m ([.ref h0, .int a0, .int a1] : List Value).toArray below meth c s.heap [] 0 0 (MQ below (k2_QcV (.int (hm_divide a0 a1))) ([.ref h0, .int a0, .int a1] : List Value).toArray s 0 0 (fun _ => False))) (F0 m 132 ls [.int v16]) := by
                    intro v16 ev16 ls hl
                    refine lv_istore (lv' := [(9, .int v16), (7, .long v12), (5, .long v11), (4, .int v9), (3, .int v4), (0, .ref h0), (1, .int a0), (2, .int a1)]) hx hb dX1_divide_132 hl (by decide) rfl (fun ls hl => ?_)
                    exact J134 _ (by have hh := ev16.symm; subst hh; simp only [if_neg c14, if_neg c15]) ls hl
                  refine lv_if_lt (tgt := 122) hx hb dX1_divide_107 (by decide) (fun c17 => ?_) (fun c17 => ?_)
                  · skip
                    refine lv_lload hx hb dX1_divide_122 (lv_at hl 2 rfl) ?_
                    refine lv_lload hx hb dX1_divide_124 (lv_at hl 1 rfl) ?_
                    refine lv_iload_n hx hb dX1_divide_126 rfl (lv_at hl 4 rfl) ?_
                    refine lv_ineg hx hb dX1_divide_127 ?_
                    refine lv_lshl hx hb dX1_divide_128 rfl ?_
                    refine W.callV (r := .int (hm_nearest v11 ((v12 : Int64) <<< ((-v4 : Int32).toInt64 &&& 63)))) (W.runS (As := [.long v11, .long ((v12 : Int64) <<< ((-v4 : Int32).toInt64 &&& 63))]) (rest := []) ⟨hx, hb, hml, hown, hts⟩ (met_X1_nearest l v11 ((v12 : Int64) <<< ((-v4 : Int32).toInt64 &&& 63))) (va_cwS 2 hts (lw_S q172 q173 q8 q174) rfl rfl rfl (by decide +kernel) ⟨Nat.le_of_ble_eq_true rfl, Nat.le_of_ble_eq_true rfl⟩) preEq rfl rfl hl.1 rfl (lv_room (Nat.le_of_ble_eq_true rfl)) dX1_divide_129 ⟨Nat.le_of_ble_eq_true rfl, Nat.le_of_ble_eq_true rfl⟩) ?_
                    refine W.eq (g2 := F0 m 132 ls [.int (hm_nearest v11 ((v12 : Int64) <<< ((-v4 : Int32).toInt64 &&& 63)))]) rfl ?_
                    exact J132 _ (by simp only [if_pos c17]) ls hl
                  · skip
                    refine lv_lload hx hb dX1_divide_110 (lv_at hl 2 rfl) ?_
                    refine lv_iload_n hx hb dX1_divide_112 rfl (lv_at hl 4 rfl) ?_
                    refine lv_lshl hx hb dX1_divide_113 rfl ?_
                    refine lv_lload hx hb dX1_divide_114 (lv_at hl 1 rfl) ?_
                    refine W.callV (r := .int (hm_nearest ((v11 : Int64) <<< ((v4 : Int32).toInt64 &&& 63)) v12)) (W.runS (As := [.long ((v11 : Int64) <<< ((v4 : Int32).toInt64 &&& 63)), .long v12]) (rest := []) ⟨hx, hb, hml, hown, hts⟩ (met_X1_nearest l ((v11 : Int64) <<< ((v4 : Int32).toInt64 &&& 63)) v12) (va_cwS 2 hts (lw_S q172 q173 q8 q174) rfl rfl rfl (by decide +kernel) ⟨Nat.le_of_ble_eq_true rfl, Nat.le_of_ble_eq_true rfl⟩) preEq rfl rfl hl.1 rfl (lv_room (Nat.le_of_ble_eq_true rfl)) dX1_divide_116 ⟨Nat.le_of_ble_eq_true rfl, Nat.le_of_ble_eq_true rfl⟩) ?_
                    refine W.eq (g2 := F0 m 119 ls [.int (hm_nearest ((v11 : Int64) <<< ((v4 : Int32).toInt64 &&& 63)) v12)]) rfl ?_
                    refine lv_goto (tgt := 132) hx hb dX1_divide_119 (by decide) ?_
                    exact J132 _ (by simp only [if_neg c17]) ls hl
              · skip
                refine lv_iconst (v := 0) hx hb dX1_divide_94 (by decide) ?_
                refine lv_istore (lv' := [(9, .int 0), (7, .long v12), (5, .long v11), (4, .int v9), (3, .int v4), (0, .ref h0), (1, .int a0), (2, .int a1)]) hx hb dX1_divide_95 hl (by decide) rfl (fun ls hl => ?_)
                refine lv_goto (tgt := 134) hx hb dX1_divide_97 (by decide) ?_
                exact J134 _ (by simp only [if_pos c14]) ls hl
            refine lv_icmp_eq (tgt := 67) hx hb dX1_divide_60 (by decide) (fun c10 => ?_) (fun c10 => ?_)
            · skip
              refine lv_iconst (v := 0) hx hb dX1_divide_67 (by decide) ?_
              exact J68 _ (by simp only [if_pos c10]) ls hl
            · skip
              refine lv_iconst (v := 1) hx hb dX1_divide_63 (by decide) ?_
              refine lv_goto (tgt := 68) hx hb dX1_divide_64 (by decide) ?_
              exact J68 _ (by simp only [if_neg c10]) ls hl
          refine lv_icmp_lt (tgt := 59) hx hb dX1_divide_52 (by decide) (fun c8 => ?_) (fun c8 => ?_)
          · skip
            refine lv_iconst (v := 0) hx hb dX1_divide_59 (by decide) ?_
            exact J60 _ (by simp only [if_pos c8]) ls hl
          · skip
            refine lv_iconst (v := 1) hx hb dX1_divide_55 (by decide) ?_
            refine lv_goto (tgt := 60) hx hb dX1_divide_56 (by decide) ?_
            exact J60 _ (by simp only [if_neg c8]) ls hl
        refine lv_icmp_lt (tgt := 48) hx hb dX1_divide_41 (by decide) (fun c6 => ?_) (fun c6 => ?_)
        · skip
          refine lv_iconst (v := 0) hx hb dX1_divide_48 (by decide) ?_
          exact J49 _ (by simp only [if_pos c6]) ls hl
        · skip
          refine lv_iconst (v := 1) hx hb dX1_divide_44 (by decide) ?_
          refine lv_goto (tgt := 49) hx hb dX1_divide_45 (by decide) ?_
          exact J49 _ (by simp only [if_neg c6]) ls hl
      · skip
        refine lv_iconst (v := (-1)) hx hb dX1_divide_23 (by decide) ?_
        exact W.iret hx hb hr (fun t ht hW => hf_okI (by simp only [hm_divide, if_pos c1, if_pos c2, if_pos c3]) ht) (fun q h => by cases h) dX1_divide_24
set_option maxHeartbeats 4000000 in
set_option maxRecDepth 100000 in
theorem met_X1_rootOf (l : Launch) (a0 : Int64) : Met l yX1_rootOf (ws_ yX1_rootOf cX1_rootOf 8 (some .long)) ({ frames := 0, cells := 0, slots := 0, locals := 0 } : Room) (fun v _ => v = ([.long a0] : List Value).toArray) (k2_QcV (.long (hm_rootOf a0))) 0 0 (fun _ => False) := by
  refine Met.ofW (cc := cX1_rootOf) (maxL := 8) (ret := some .long) (by decide) rfl ?_
  intro p e s m args below meth c s₁ B hml hv
  subst hv
  have hx := B.exec
  have hb := B.bytes
  have hr := B.returns
  have hts := atoms_spec (ws := (ws_ yX1_rootOf cX1_rootOf 8 (some .long))) B.pre
  have hts : ∀ w ∈ lw_all, w.before _ s = true := fun w h => hts w (List.mem_cons_of_mem _ h)
  have hown : s.vm.findClass RX1 = some m.cls := findClass_of_methodNamed B.named
  have hlocks := B.notSynchronized
  have hl := lv_entry ([.long a0]) (n := 8) (Nat.le_of_ble_eq_true rfl)
  rw [lg_entry_eq]
  generalize (lg_sl ([.long a0]) ++ List.replicate (8 - (lg_sl ([.long a0])).length) Slot.unset).toArray = ls at hl ⊢
  have hl : lv_has ls 8 [(0, .long a0)] := hl
  refine lv_lconst (v := 0) hx hb dX1_rootOf_0 (by decide) ?_
  refine lv_lstore_n (lv' := [(2, .long 0), (0, .long a0)]) hx hb dX1_rootOf_1 rfl hl (by decide) rfl (fun ls hl => ?_)
  refine lv_ldc2 (v := 2147483648) hx hb hown (hts _ q194) dX1_rootOf_2 ?_
  refine lv_lstore (lv' := [(4, .long 2147483648), (2, .long 0), (0, .long a0)]) hx hb dX1_rootOf_5 hl (by decide) rfl (fun ls hl => ?_)
  have X7 : ∀ q7 : Int64 × Int64, q7 = hf_run (hm_rootOf_s7 a0) 32 (0, 2147483648) → ∀ ls : Array Slot, lv_has ls 8 [(2, .long q7.1), (4, .long q7.2), (0, .long a0)] → (W p l e (headSpec (ws_ yX1_rootOf cX1_rootOf 8 (some .long)) ({ frames := 0, cells := 0, slots := 0, locals := 0 } : Room)).room s m ([.long a0] : List Value).toArray below meth c s.heap [] 0 0 (MQ below (k2_QcV (.long (hm_rootOf a0))) ([.long a0] : List Value).toArray s 0 0 (fun _ => False))) (F0 m 51 ls []) := by
    intro q7 eq7 ls hl
    obtain ⟨x7_2, ex7_2⟩ : ∃ y : Int64, y = q7.1 := ⟨_, rfl⟩
    obtain ⟨x7_4, ex7_4⟩ : ∃ y : Int64, y = q7.2 := ⟨_, rfl⟩
    rw [← ex7_2, ← ex7_4] at hl
    refine lv_lload_n hx hb dX1_rootOf_51 rfl (lv_at hl 0 rfl) ?_
    exact W.lret hx hb hr (fun t ht hW => hf_okL (by have hh := eq7.symm; subst hh; have hh := ex7_2.symm; subst hh; have hh := ex7_4.symm; subst hh; simp only [hm_rootOf]) ht) (fun q h => by cases h) dX1_rootOf_52
  refine hf_loop (hm_rootOf_s7 a0) (fun q => ∀ ls : Array Slot, lv_has ls 8 [(2, .long q.1), (4, .long q.2), (0, .long a0)] → (W p l e (headSpec (ws_ yX1_rootOf cX1_rootOf 8 (some .long)) ({ frames := 0, cells := 0, slots := 0, locals := 0 } : Room)).room s m ([.long a0] : List Value).toArray below meth c s.heap [] 0 0 (MQ below (k2_QcV (.long (hm_rootOf a0))) ([.long a0] : List Value).toArray s 0 0 (fun _ => False))) (F0 m 7 ls [])) (fun q => ∀ ls : Array Slot, lv_has ls 8 [(2, .long q.1), (4, .long q.2), (0, .long a0)] → (W p l e (headSpec (ws_ yX1_rootOf cX1_rootOf 8 (some .long)) ({ frames := 0, cells := 0, slots := 0, locals := 0 } : Room)).room s m ([.long a0] : List Value).toArray below meth c s.heap [] 0 0 (MQ below (k2_QcV (.long (hm_rootOf a0))) ([.long a0] : List Value).toArray s 0 0 (fun _ => False))) (F0 m 51 ls [])) ?_ 32 (0, 2147483648) (hm_rootOf_end _) (X7 _ rfl) ls (lv_sub hl [1, 0, 2] rfl)
  rintro ⟨x7_2, x7_4⟩ hno hgo ls hl
  have hl : lv_has ls 8 [(2, .long x7_2), (4, .long x7_4), (0, .long a0)] := hl
  refine lv_lload_n hx hb dX1_rootOf_7 rfl (lv_at hl 0 rfl) ?_
  refine lv_lload hx hb dX1_rootOf_8 (lv_at hl 1 rfl) ?_
  refine hf_lcmp_ge (tgt := 51) hx hb dX1_rootOf_10 dX1_rootOf_11 (by decide) (fun c1 => ?_) (fun c1 => ?_)
  · skip
    exact hno (by simp only [hm_rootOf_s7, if_pos c1]) ls (lv_sub hl [0, 1, 2] rfl)
  · skip
    refine lv_lload_n hx hb dX1_rootOf_14 rfl (lv_at hl 0 rfl) ?_
    refine lv_lload hx hb dX1_rootOf_15 (lv_at hl 1 rfl) ?_
    refine lv_ladd hx hb dX1_rootOf_17 ?_
    refine lv_lconst (v := 1) hx hb dX1_rootOf_18 (by decide) ?_
    refine lv_ladd hx hb dX1_rootOf_19 ?_
    refine lv_ldc2 (v := 2) hx hb hown (hts _ q175) dX1_rootOf_20 ?_
    refine lv_ldiv hx hb dX1_rootOf_23 (by decide) ?_
    refine lv_topl (fun v2 ev2 => ?_)
    refine lv_lstore (lv' := [(6, .long v2), (2, .long x7_2), (4, .long x7_4), (0, .long a0)]) hx hb dX1_rootOf_24 hl (by decide) rfl (fun ls hl => ?_)
    refine lv_lload hx hb dX1_rootOf_26 (lv_at hl 0 rfl) ?_
    refine lv_lload hx hb dX1_rootOf_28 (lv_at hl 0 rfl) ?_
    refine lv_lmul hx hb dX1_rootOf_30 ?_
    refine lv_lload_n hx hb dX1_rootOf_31 rfl (lv_at hl 3 rfl) ?_
    refine hf_lcmp_gt (tgt := 42) hx hb dX1_rootOf_32 dX1_rootOf_33 (by decide) (fun c3 => ?_) (fun c3 => ?_)
    · skip
      refine lv_lload hx hb dX1_rootOf_42 (lv_at hl 0 rfl) ?_
      refine lv_lconst (v := 1) hx hb dX1_rootOf_44 (by decide) ?_
      refine lv_lsub hx hb dX1_rootOf_45 ?_
      refine lv_topl (fun v4 ev4 => ?_)
      refine lv_lstore (lv' := [(4, .long v4), (6, .long v2), (2, .long x7_2), (0, .long a0)]) hx hb dX1_rootOf_46 hl (by decide) rfl (fun ls hl => ?_)
      refine lv_goto (tgt := 7) hx hb dX1_rootOf_48 (by decide) ?_
      exact hgo (x7_2, v4) (by have hh := ev2.symm; subst hh; have hh := ev4.symm; subst hh; simp only [hm_rootOf_s7, if_neg c1, if_pos c3]) ls (lv_sub hl [2, 0, 3] rfl)
    · skip
      refine lv_lload hx hb dX1_rootOf_36 (lv_at hl 0 rfl) ?_
      refine lv_lstore_n (lv' := [(2, .long v2), (6, .long v2), (4, .long x7_4), (0, .long a0)]) hx hb dX1_rootOf_38 rfl hl (by decide) rfl (fun ls hl => ?_)
      refine lv_goto (tgt := 48) hx hb dX1_rootOf_39 (by decide) ?_
      refine lv_goto (tgt := 7) hx hb dX1_rootOf_48 (by decide) ?_
      exact hgo (v2, x7_4) (by have hh := ev2.symm; subst hh; simp only [hm_rootOf_s7, if_neg c1, if_neg c3]) ls (lv_sub hl [0, 2, 3] rfl)
set_option maxHeartbeats 4000000 in
set_option maxRecDepth 100000 in
theorem met_X1_root (l : Launch) (h0 : Nat) (a0 : Int32) : Met l yX1_root (ws_ yX1_root cX1_root 12 (some .int)) ({ frames := 3, cells := 0, slots := 0, locals := 75 } : Room) (fun v _ => v = ([.ref h0, .int a0] : List Value).toArray) (k2_QcV (.int (hm_root a0))) 0 0 (fun _ => False) := by
  refine Met.ofW (cc := cX1_root) (maxL := 12) (ret := some .int) (by decide) rfl ?_
  intro p e s m args below meth c s₁ B hml hv
  subst hv
  have hx := B.exec
  have hb := B.bytes
  have hr := B.returns
  have hts := atoms_spec (ws := (ws_ yX1_root cX1_root 12 (some .int))) B.pre
  have hts : ∀ w ∈ lw_all, w.before _ s = true := fun w h => hts w (List.mem_cons_of_mem _ h)
  have hown : s.vm.findClass RX1 = some m.cls := findClass_of_methodNamed B.named
  have hlocks := B.notSynchronized
  have hl := lv_entry ([.ref h0, .int a0]) (n := 12) (Nat.le_of_ble_eq_true rfl)
  rw [lg_entry_eq]
  generalize (lg_sl ([.ref h0, .int a0]) ++ List.replicate (12 - (lg_sl ([.ref h0, .int a0])).length) Slot.unset).toArray = ls at hl ⊢
  have hl : lv_has ls 12 [(0, .ref h0), (1, .int a0)] := hl
  refine lv_iload_n hx hb dX1_root_0 rfl (lv_at hl 1 rfl) ?_
  refine W.callV (r := .int (hm_bad a0)) (W.runS (As := [.int a0]) (rest := []) ⟨hx, hb, hml, hown, hts⟩ (met_X1_bad l a0) (va_cwS 1 hts (lw_S q154 q155 q8 q156) rfl rfl rfl (by decide +kernel) ⟨Nat.le_of_ble_eq_true rfl, Nat.le_of_ble_eq_true rfl⟩) preEq rfl rfl hl.1 rfl (lv_room (Nat.le_of_ble_eq_true rfl)) dX1_root_1 ⟨Nat.le_of_ble_eq_true rfl, Nat.le_of_ble_eq_true rfl⟩) ?_
  refine W.eq (g2 := F0 m 4 ls [.int (hm_bad a0)]) rfl ?_
  refine lv_if_ne (tgt := 13) hx hb dX1_root_4 (by decide) (fun c1 => ?_) (fun c1 => ?_)
  · skip
    refine lv_iconst (v := (-1)) hx hb dX1_root_13 (by decide) ?_
    exact W.iret hx hb hr (fun t ht hW => hf_okI (by simp only [hm_root, if_neg c1]) ht) (fun q h => by cases h) dX1_root_14
  · skip
    refine lv_iload_n hx hb dX1_root_7 rfl (lv_at hl 1 rfl) ?_
    refine lv_ldc (v := 32768) hx hb hown (hts _ q161) dX1_root_8 ?_
    refine lv_icmp_le (tgt := 15) hx hb dX1_root_10 (by decide) (fun c2 => ?_) (fun c2 => ?_)
    · skip
      refine lv_iload_n hx hb dX1_root_15 rfl (lv_at hl 1 rfl) ?_
      refine W.callV (r := .int (hm_shiftOf a0)) (W.runS (As := [.int a0]) (rest := []) ⟨hx, hb, hml, hown, hts⟩ (met_X1_shiftOf l a0) (va_cwS 1 hts (lw_S q169 q170 q8 q171) rfl rfl rfl (by decide +kernel) ⟨Nat.le_of_ble_eq_true rfl, Nat.le_of_ble_eq_true rfl⟩) preEq rfl rfl hl.1 rfl (lv_room (Nat.le_of_ble_eq_true rfl)) dX1_root_16 ⟨Nat.le_of_ble_eq_true rfl, Nat.le_of_ble_eq_true rfl⟩) ?_
      refine W.eq (g2 := F0 m 19 ls [.int (hm_shiftOf a0)]) rfl ?_
      refine lv_bipush (v := 24) hx hb dX1_root_19 (by decide) ?_
      refine lv_iadd hx hb dX1_root_21 ?_
      refine lv_topi (fun v3 ev3 => ?_)
      refine lv_istore_n (lv' := [(2, .int v3), (0, .ref h0), (1, .int a0)]) hx hb dX1_root_22 rfl hl (by decide) rfl (fun ls hl => ?_)
      refine lv_iload_n hx hb dX1_root_23 rfl (lv_at hl 0 rfl) ?_
      refine lv_iconst (v := 2) hx hb dX1_root_24 (by decide) ?_
      refine lv_irem hx hb dX1_root_25 (by decide) ?_
      have J44 : ∀ (v4 : Int64), v4 = (if (v3 - v3 / 2 * 2 : Int32) = (0 : Int32) then (hm_digitsOf a0)
  else (2 * (hm_digitsOf a0))) → ∀ ls : Array Slot, lv_has ls 12 [(2, .int v3), (0, .ref h0), (1, .int a0)] → (W p l e (headSpec (ws_ yX1_root cX1_root 12 (some .int)) ({ frames := 3, cells := 0, slots := 0, locals := 75 } : Room)).room s m ([.ref h0, .int a0] : List Value).toArray below meth c s.heap [] 0 0 (MQ below (k2_QcV (.int (hm_root a0))) ([.ref h0, .int a0] : List Value).toArray s 0 0 (fun _ => False))) (F0 m 44 ls [.long v4]) := by
        intro v4 ev4 ls hl
        refine lv_lstore_n (lv' := [(3, .long v4), (2, .int v3), (0, .ref h0), (1, .int a0)]) hx hb dX1_root_44 rfl hl (by decide) rfl (fun ls hl => ?_)
        refine lv_lload_n hx hb dX1_root_45 rfl (lv_at hl 0 rfl) ?_
        refine lv_bipush (v := 28) hx hb dX1_root_46 (by decide) ?_
        refine lv_lshl hx hb dX1_root_48 rfl ?_
        refine lv_topl (fun v6 ev6 => ?_)
        refine lv_lstore (lv' := [(5, .long v6), (3, .long v4), (2, .int v3), (0, .ref h0), (1, .int a0)]) hx hb dX1_root_49 hl (by decide) rfl (fun ls hl => ?_)
        refine lv_lload hx hb dX1_root_51 (lv_at hl 0 rfl) ?_
        refine W.callV (r := .long (hm_rootOf v6)) (W.runS (As := [.long v6]) (rest := []) ⟨hx, hb, hml, hown, hts⟩ (met_X1_rootOf l v6) (va_cwS 1 hts (lw_S q191 q192 q8 q193) rfl rfl rfl (by decide +kernel) ⟨Nat.le_of_ble_eq_true rfl, Nat.le_of_ble_eq_true rfl⟩) preEq rfl rfl hl.1 rfl (lv_room (Nat.le_of_ble_eq_true rfl)) dX1_root_53 ⟨Nat.le_of_ble_eq_true rfl, Nat.le_of_ble_eq_true rfl⟩) ?_
        refine W.eq (g2 := F0 m 56 ls [.long (hm_rootOf v6)]) rfl ?_
        refine lv_topl (fun v7 ev7 => ?_)
        refine lv_lstore (lv' := [(7, .long v7), (5, .long v6), (3, .long v4), (2, .int v3), (0, .ref h0), (1, .int a0)]) hx hb dX1_root_56 hl (by decide) rfl (fun ls hl => ?_)
        refine lv_ldc2 (v := 2) hx hb hown (hts _ q175) dX1_root_58 ?_
        refine lv_lload hx hb dX1_root_61 (lv_at hl 0 rfl) ?_
        refine lv_lmul hx hb dX1_root_63 ?_
        refine lv_lload hx hb dX1_root_64 (lv_at hl 0 rfl) ?_
        refine lv_lload hx hb dX1_root_66 (lv_at hl 0 rfl) ?_
        refine lv_lmul hx hb dX1_root_68 ?_
        refine lv_lload hx hb dX1_root_69 (lv_at hl 1 rfl) ?_
        have J80 : ∀ (v8 : Int32), v8 = (if (v7 * v7 : Int64) = (v6 : Int64) then (0)
  else (1)) → ∀ ls : Array Slot, lv_has ls 12 [(7, .long v7), (5, .long v6), (3, .long v4), (2, .int v3), (0, .ref h0), (1, .int a0)] → (W p l e (headSpec (ws_ yX1_root cX1_root 12 (some .int)) ({ frames := 3, cells := 0, slots := 0, locals := 75 } : Room)).room s m ([.ref h0, .int a0] : List Value).toArray below meth c s.heap [] 0 0 (MQ below (k2_QcV (.int (hm_root a0))) ([.ref h0, .int a0] : List Value).toArray s 0 0 (fun _ => False))) (F0 m 80 ls [.int v8, .long (2 * v7)]) := by
          intro v8 ev8 ls hl
          refine lv_i2l hx hb dX1_root_80 rfl ?_
          refine lv_ladd hx hb dX1_root_81 ?_
          refine lv_topl (fun v10 ev10 => ?_)
          refine lv_lstore (lv' := [(9, .long v10), (7, .long v7), (5, .long v6), (3, .long v4), (2, .int v3), (0, .ref h0), (1, .int a0)]) hx hb dX1_root_82 hl (by decide) rfl (fun ls hl => ?_)
          refine lv_iload_n hx hb dX1_root_84 rfl (lv_at hl 4 rfl) ?_
          refine lv_iconst (v := 2) hx hb dX1_root_85 (by decide) ?_
          refine lv_idiv hx hb dX1_root_86 (by decide) ?_
          refine lv_bipush (v := 15) hx hb dX1_root_87 (by decide) ?_
          refine lv_isub hx hb dX1_root_89 ?_
          refine lv_topi (fun v11 ev11 => ?_)
          refine lv_istore (lv' := [(11, .int v11), (9, .long v10), (7, .long v7), (5, .long v6), (3, .long v4), (2, .int v3), (0, .ref h0), (1, .int a0)]) hx hb dX1_root_90 hl (by decide) rfl (fun ls hl => ?_)
          refine lv_iload hx hb dX1_root_92 (lv_at hl 0 rfl) ?_
          refine lv_if_lt (tgt := 109) hx hb dX1_root_94 (by decide) (fun c12 => ?_) (fun c12 => ?_)
          · skip
            refine lv_lload hx hb dX1_root_109 (lv_at hl 1 rfl) ?_
            refine lv_lconst (v := 1) hx hb dX1_root_111 (by decide) ?_
            refine lv_iload hx hb dX1_root_112 (lv_at hl 0 rfl) ?_
            refine lv_ineg hx hb dX1_root_114 ?_
            refine lv_lshl hx hb dX1_root_115 rfl ?_
            refine W.callV (r := .int (hm_nearest v10 ((1 : Int64) <<< ((-v11 : Int32).toInt64 &&& 63)))) (W.runS (As := [.long v10, .long ((1 : Int64) <<< ((-v11 : Int32).toInt64 &&& 63))]) (rest := []) ⟨hx, hb, hml, hown, hts⟩ (met_X1_nearest l v10 ((1 : Int64) <<< ((-v11 : Int32).toInt64 &&& 63))) (va_cwS 2 hts (lw_S q172 q173 q8 q174) rfl rfl rfl (by decide +kernel) ⟨Nat.le_of_ble_eq_true rfl, Nat.le_of_ble_eq_true rfl⟩) preEq rfl rfl hl.1 rfl (lv_room (Nat.le_of_ble_eq_true rfl)) dX1_root_116 ⟨Nat.le_of_ble_eq_true rfl, Nat.le_of_ble_eq_true rfl⟩) ?_
            refine W.eq (g2 := F0 m 119 ls [.int (hm_nearest v10 ((1 : Int64) <<< ((-v11 : Int32).toInt64 &&& 63)))]) rfl ?_
            exact W.iret hx hb hr (fun t ht hW => hf_okI (by have hh := ev3.symm; subst hh; have hh := ev4.symm; subst hh; have hh := ev6.symm; subst hh; have hh := ev7.symm; subst hh; have hh := ev8.symm; subst hh; have hh := ev10.symm; subst hh; have hh := ev11.symm; subst hh; simp only [hm_root, if_pos c1, if_pos c2, if_pos c12]) ht) (fun q h => by cases h) dX1_root_119
          · skip
            refine lv_lload hx hb dX1_root_97 (lv_at hl 1 rfl) ?_
            refine lv_iload hx hb dX1_root_99 (lv_at hl 0 rfl) ?_
            refine lv_lshl hx hb dX1_root_101 rfl ?_
            refine lv_lconst (v := 1) hx hb dX1_root_102 (by decide) ?_
            refine W.callV (r := .int (hm_nearest ((v10 : Int64) <<< ((v11 : Int32).toInt64 &&& 63)) 1)) (W.runS (As := [.long ((v10 : Int64) <<< ((v11 : Int32).toInt64 &&& 63)), .long 1]) (rest := []) ⟨hx, hb, hml, hown, hts⟩ (met_X1_nearest l ((v10 : Int64) <<< ((v11 : Int32).toInt64 &&& 63)) 1) (va_cwS 2 hts (lw_S q172 q173 q8 q174) rfl rfl rfl (by decide +kernel) ⟨Nat.le_of_ble_eq_true rfl, Nat.le_of_ble_eq_true rfl⟩) preEq rfl rfl hl.1 rfl (lv_room (Nat.le_of_ble_eq_true rfl)) dX1_root_103 ⟨Nat.le_of_ble_eq_true rfl, Nat.le_of_ble_eq_true rfl⟩) ?_
            refine W.eq (g2 := F0 m 106 ls [.int (hm_nearest ((v10 : Int64) <<< ((v11 : Int32).toInt64 &&& 63)) 1)]) rfl ?_
            refine lv_goto (tgt := 119) hx hb dX1_root_106 (by decide) ?_
            exact W.iret hx hb hr (fun t ht hW => hf_okI (by have hh := ev3.symm; subst hh; have hh := ev4.symm; subst hh; have hh := ev6.symm; subst hh; have hh := ev7.symm; subst hh; have hh := ev8.symm; subst hh; have hh := ev10.symm; subst hh; have hh := ev11.symm; subst hh; simp only [hm_root, if_pos c1, if_pos c2, if_neg c12]) ht) (fun q h => by cases h) dX1_root_119
        refine hf_lcmp_ne (tgt := 79) hx hb dX1_root_71 dX1_root_72 (by decide) (fun c9 => ?_) (fun c9 => ?_)
        · skip
          refine lv_iconst (v := 1) hx hb dX1_root_79 (by decide) ?_
          exact J80 _ (by simp only [if_neg c9]) ls hl
        · skip
          refine lv_iconst (v := 0) hx hb dX1_root_75 (by decide) ?_
          refine lv_goto (tgt := 80) hx hb dX1_root_76 (by decide) ?_
          exact J80 _ (by simp only [if_pos c9]) ls hl
      refine lv_if_ne (tgt := 36) hx hb dX1_root_26 (by decide) (fun c5 => ?_) (fun c5 => ?_)
      · skip
        refine lv_ldc2 (v := 2) hx hb hown (hts _ q175) dX1_root_36 ?_
        refine lv_iload_n hx hb dX1_root_39 rfl (lv_at hl 2 rfl) ?_
        refine W.callV (r := .long (hm_digitsOf a0)) (W.runS (As := [.int a0]) (rest := [.long 2]) ⟨hx, hb, hml, hown, hts⟩ (met_X1_digitsOf l a0) (va_cwS 1 hts (lw_S q166 q167 q8 q168) rfl rfl rfl (by decide +kernel) ⟨Nat.le_of_ble_eq_true rfl, Nat.le_of_ble_eq_true rfl⟩) preEq rfl rfl hl.1 rfl (lv_room (Nat.le_of_ble_eq_true rfl)) dX1_root_40 ⟨Nat.le_of_ble_eq_true rfl, Nat.le_of_ble_eq_true rfl⟩) ?_
        refine W.eq (g2 := F0 m 43 ls [.long (hm_digitsOf a0), .long 2]) rfl ?_
        refine lv_lmul hx hb dX1_root_43 ?_
        exact J44 _ (by simp only [if_neg c5]) ls hl
      · skip
        refine lv_iload_n hx hb dX1_root_29 rfl (lv_at hl 2 rfl) ?_
        refine W.callV (r := .long (hm_digitsOf a0)) (W.runS (As := [.int a0]) (rest := []) ⟨hx, hb, hml, hown, hts⟩ (met_X1_digitsOf l a0) (va_cwS 1 hts (lw_S q166 q167 q8 q168) rfl rfl rfl (by decide +kernel) ⟨Nat.le_of_ble_eq_true rfl, Nat.le_of_ble_eq_true rfl⟩) preEq rfl rfl hl.1 rfl (lv_room (Nat.le_of_ble_eq_true rfl)) dX1_root_30 ⟨Nat.le_of_ble_eq_true rfl, Nat.le_of_ble_eq_true rfl⟩) ?_
        refine W.eq (g2 := F0 m 33 ls [.long (hm_digitsOf a0)]) rfl ?_
        refine lv_goto (tgt := 44) hx hb dX1_root_33 (by decide) ?_
        exact J44 _ (by simp only [if_pos c5]) ls hl
    · skip
      refine lv_iconst (v := (-1)) hx hb dX1_root_13 (by decide) ?_
      exact W.iret hx hb hr (fun t ht hW => hf_okI (by simp only [hm_root, if_pos c1, if_neg c2]) ht) (fun q h => by cases h) dX1_root_14
set_option maxHeartbeats 4000000 in
set_option maxRecDepth 100000 in
theorem met_X1_power (l : Launch) (a0 : Int32) : Met l yX1_power (ws_ yX1_power cX1_power 4 (some .long)) ({ frames := 0, cells := 0, slots := 0, locals := 0 } : Room) (fun v _ => v = ([.int a0] : List Value).toArray) (k2_QcV (.long (hm_power a0))) 0 0 (fun _ => False) := by
  refine Met.ofW (cc := cX1_power) (maxL := 4) (ret := some .long) (by decide) rfl ?_
  intro p e s m args below meth c s₁ B hml hv
  subst hv
  have hx := B.exec
  have hb := B.bytes
  have hr := B.returns
  have hts := atoms_spec (ws := (ws_ yX1_power cX1_power 4 (some .long))) B.pre
  have hts : ∀ w ∈ lw_all, w.before _ s = true := fun w h => hts w (List.mem_cons_of_mem _ h)
  have hown : s.vm.findClass RX1 = some m.cls := findClass_of_methodNamed B.named
  have hlocks := B.notSynchronized
  have hl := lv_entry ([.int a0]) (n := 4) (Nat.le_of_ble_eq_true rfl)
  rw [lg_entry_eq]
  generalize (lg_sl ([.int a0]) ++ List.replicate (4 - (lg_sl ([.int a0])).length) Slot.unset).toArray = ls at hl ⊢
  have hl : lv_has ls 4 [(0, .int a0)] := hl
  refine lv_lconst (v := 1) hx hb dX1_power_0 (by decide) ?_
  refine lv_lstore_n (lv' := [(1, .long 1), (0, .int a0)]) hx hb dX1_power_1 rfl hl (by decide) rfl (fun ls hl => ?_)
  refine lv_iconst (v := 0) hx hb dX1_power_2 (by decide) ?_
  refine lv_istore_n (lv' := [(3, .int 0), (1, .long 1), (0, .int a0)]) hx hb dX1_power_3 rfl hl (by decide) rfl (fun ls hl => ?_)
  have X4 : ∀ q4 : Int64 × Int32, q4 = hf_run (hm_power_s4 a0) a0.toNatClampNeg (1, 0) → ∀ ls : Array Slot, lv_has ls 4 [(1, .long q4.1), (3, .int q4.2), (0, .int a0)] → (W p l e (headSpec (ws_ yX1_power cX1_power 4 (some .long)) ({ frames := 0, cells := 0, slots := 0, locals := 0 } : Room)).room s m ([.int a0] : List Value).toArray below meth c s.heap [] 0 0 (MQ below (k2_QcV (.long (hm_power a0))) ([.int a0] : List Value).toArray s 0 0 (fun _ => False))) (F0 m 21 ls []) := by
    intro q4 eq4 ls hl
    obtain ⟨x4_1, ex4_1⟩ : ∃ y : Int64, y = q4.1 := ⟨_, rfl⟩
    obtain ⟨x4_3, ex4_3⟩ : ∃ y : Int32, y = q4.2 := ⟨_, rfl⟩
    rw [← ex4_1, ← ex4_3] at hl
    refine lv_lload_n hx hb dX1_power_21 rfl (lv_at hl 0 rfl) ?_
    exact W.lret hx hb hr (fun t ht hW => hf_okL (by have hh := eq4.symm; subst hh; have hh := ex4_1.symm; subst hh; have hh := ex4_3.symm; subst hh; simp only [hm_power]) ht) (fun q h => by cases h) dX1_power_22
  refine hf_loop (hm_power_s4 a0) (fun q => ∀ ls : Array Slot, lv_has ls 4 [(1, .long q.1), (3, .int q.2), (0, .int a0)] → (W p l e (headSpec (ws_ yX1_power cX1_power 4 (some .long)) ({ frames := 0, cells := 0, slots := 0, locals := 0 } : Room)).room s m ([.int a0] : List Value).toArray below meth c s.heap [] 0 0 (MQ below (k2_QcV (.long (hm_power a0))) ([.int a0] : List Value).toArray s 0 0 (fun _ => False))) (F0 m 4 ls [])) (fun q => ∀ ls : Array Slot, lv_has ls 4 [(1, .long q.1), (3, .int q.2), (0, .int a0)] → (W p l e (headSpec (ws_ yX1_power cX1_power 4 (some .long)) ({ frames := 0, cells := 0, slots := 0, locals := 0 } : Room)).room s m ([.int a0] : List Value).toArray below meth c s.heap [] 0 0 (MQ below (k2_QcV (.long (hm_power a0))) ([.int a0] : List Value).toArray s 0 0 (fun _ => False))) (F0 m 21 ls [])) ?_ a0.toNatClampNeg (1, 0) (hm_power_end _) (X4 _ rfl) ls (lv_sub hl [1, 0, 2] rfl)
  rintro ⟨x4_1, x4_3⟩ hno hgo ls hl
  have hl : lv_has ls 4 [(1, .long x4_1), (3, .int x4_3), (0, .int a0)] := hl
  refine lv_iload_n hx hb dX1_power_4 rfl (lv_at hl 1 rfl) ?_
  refine lv_iload_n hx hb dX1_power_5 rfl (lv_at hl 2 rfl) ?_
  refine lv_icmp_ge (tgt := 21) hx hb dX1_power_6 (by decide) (fun c1 => ?_) (fun c1 => ?_)
  · skip
    exact hno (by simp only [hm_power_s4, if_pos c1]) ls (lv_sub hl [0, 1, 2] rfl)
  · skip
    refine lv_ldc2 (v := 10) hx hb hown (hts _ q206) dX1_power_9 ?_
    refine lv_lload_n hx hb dX1_power_12 rfl (lv_at hl 0 rfl) ?_
    refine lv_lmul hx hb dX1_power_13 ?_
    refine lv_topl (fun v2 ev2 => ?_)
    refine lv_lstore_n (lv' := [(1, .long v2), (3, .int x4_3), (0, .int a0)]) hx hb dX1_power_14 rfl hl (by decide) rfl (fun ls hl => ?_)
    obtain ⟨v3, ev3⟩ : ∃ y : Int32, y = x4_3 + 1 := ⟨_, rfl⟩
    refine lv_iinc (v := v3) (lv' := [(3, .int v3), (1, .long v2), (0, .int a0)]) hx hb dX1_power_15 hl (k := 1) rfl (by rw [ev3]; rfl) (by decide) rfl (fun ls hl => ?_)
    refine lv_goto (tgt := 4) hx hb dX1_power_18 (by decide) ?_
    exact hgo (v2, v3) (by have hh := ev2.symm; subst hh; have hh := ev3.symm; subst hh; simp only [hm_power_s4, if_neg c1]) ls (lv_sub hl [1, 0, 2] rfl)
set_option maxHeartbeats 4000000 in
set_option maxRecDepth 100000 in
theorem met_X1_parsed (l : Launch) (a0 : Int64) (a1 : Int32) : Met l yX1_parsed (ws_ yX1_parsed cX1_parsed 6 (some .int)) ({ frames := 3, cells := 0, slots := 0, locals := 75 } : Room) (fun v _ => v = ([.long a0, .int a1] : List Value).toArray) (k2_QcV (.int (hm_parsed a0 a1))) 0 0 (fun _ => False) := by
  refine Met.ofW (cc := cX1_parsed) (maxL := 6) (ret := some .int) (by decide) rfl ?_
  intro p e s m args below meth c s₁ B hml hv
  subst hv
  have hx := B.exec
  have hb := B.bytes
  have hr := B.returns
  have hts := atoms_spec (ws := (ws_ yX1_parsed cX1_parsed 6 (some .int))) B.pre
  have hts : ∀ w ∈ lw_all, w.before _ s = true := fun w h => hts w (List.mem_cons_of_mem _ h)
  have hown : s.vm.findClass RX1 = some m.cls := findClass_of_methodNamed B.named
  have hlocks := B.notSynchronized
  have hl := lv_entry ([.long a0, .int a1]) (n := 6) (Nat.le_of_ble_eq_true rfl)
  rw [lg_entry_eq]
  generalize (lg_sl ([.long a0, .int a1]) ++ List.replicate (6 - (lg_sl ([.long a0, .int a1])).length) Slot.unset).toArray = ls at hl ⊢
  have hl : lv_has ls 6 [(0, .long a0), (2, .int a1)] := hl
  refine lv_iload_n hx hb dX1_parsed_0 rfl (lv_at hl 1 rfl) ?_
  refine lv_if_ge (tgt := 19) hx hb dX1_parsed_1 (by decide) (fun c1 => ?_) (fun c1 => ?_)
  · skip
    refine lv_lload_n hx hb dX1_parsed_19 rfl (lv_at hl 0 rfl) ?_
    refine lv_lstore_n (lv' := [(3, .long a0), (0, .long a0), (2, .int a1)]) hx hb dX1_parsed_20 rfl hl (by decide) rfl (fun ls hl => ?_)
    refine lv_iconst (v := 0) hx hb dX1_parsed_21 (by decide) ?_
    refine lv_istore (lv' := [(5, .int 0), (3, .long a0), (0, .long a0), (2, .int a1)]) hx hb dX1_parsed_22 hl (by decide) rfl (fun ls hl => ?_)
    have X24 : ∀ q24 : Int64 × Int32, q24 = hf_run (hm_parsed_s24 a1) a1.toNatClampNeg (a0, 0) → ∀ ls : Array Slot, lv_has ls 6 [(3, .long q24.1), (5, .int q24.2), (0, .long a0), (2, .int a1)] → (W p l e (headSpec (ws_ yX1_parsed cX1_parsed 6 (some .int)) ({ frames := 3, cells := 0, slots := 0, locals := 75 } : Room)).room s m ([.long a0, .int a1] : List Value).toArray below meth c s.heap [] 0 0 (MQ below (k2_QcV (.int (hm_parsed a0 a1))) ([.long a0, .int a1] : List Value).toArray s 0 0 (fun _ => False))) (F0 m 50 ls []) := by
      intro q24 eq24 ls hl
      obtain ⟨x24_3, ex24_3⟩ : ∃ y : Int64, y = q24.1 := ⟨_, rfl⟩
      obtain ⟨x24_5, ex24_5⟩ : ∃ y : Int32, y = q24.2 := ⟨_, rfl⟩
      rw [← ex24_3, ← ex24_5] at hl
      refine lv_lload_n hx hb dX1_parsed_50 rfl (lv_at hl 0 rfl) ?_
      refine lv_ldc2 (v := 100000) hx hb hown (hts _ q207) dX1_parsed_51 ?_
      have J68 : ∀ (v2 : Int64), v2 = (if (100000 : Int64) ≤ (x24_3 : Int64) then (1099511627776)
  else ((x24_3 : Int64) <<< ((24 : Int32).toInt64 &&& 63))) → ∀ ls : Array Slot, lv_has ls 6 [(3, .long x24_3), (5, .int x24_5), (0, .long a0), (2, .int a1)] → (W p l e (headSpec (ws_ yX1_parsed cX1_parsed 6 (some .int)) ({ frames := 3, cells := 0, slots := 0, locals := 75 } : Room)).room s m ([.long a0, .int a1] : List Value).toArray below meth c s.heap [] 0 0 (MQ below (k2_QcV (.int (hm_parsed a0 a1))) ([.long a0, .int a1] : List Value).toArray s 0 0 (fun _ => False))) (F0 m 68 ls [.long v2]) := by
        intro v2 ev2 ls hl
        refine lv_lconst (v := 1) hx hb dX1_parsed_68 (by decide) ?_
        refine W.callV (r := .int (hm_nearest v2 1)) (W.runS (As := [.long v2, .long 1]) (rest := []) ⟨hx, hb, hml, hown, hts⟩ (met_X1_nearest l v2 1) (va_cwS 2 hts (lw_S q172 q173 q8 q174) rfl rfl rfl (by decide +kernel) ⟨Nat.le_of_ble_eq_true rfl, Nat.le_of_ble_eq_true rfl⟩) preEq rfl rfl hl.1 rfl (lv_room (Nat.le_of_ble_eq_true rfl)) dX1_parsed_69 ⟨Nat.le_of_ble_eq_true rfl, Nat.le_of_ble_eq_true rfl⟩) ?_
        refine W.eq (g2 := F0 m 72 ls [.int (hm_nearest v2 1)]) rfl ?_
        exact W.iret hx hb hr (fun t ht hW => hf_okI (by have hh := eq24.symm; subst hh; have hh := ex24_3.symm; subst hh; have hh := ex24_5.symm; subst hh; have hh := ev2.symm; subst hh; simp only [hm_parsed, if_pos c1]) ht) (fun q h => by cases h) dX1_parsed_72
      refine hf_lcmp_ge (tgt := 65) hx hb dX1_parsed_54 dX1_parsed_55 (by decide) (fun c3 => ?_) (fun c3 => ?_)
      · skip
        refine lv_ldc2 (v := 1099511627776) hx hb hown (hts _ q165) dX1_parsed_65 ?_
        exact J68 _ (by simp only [if_pos c3]) ls hl
      · skip
        refine lv_lload_n hx hb dX1_parsed_58 rfl (lv_at hl 0 rfl) ?_
        refine lv_bipush (v := 24) hx hb dX1_parsed_59 (by decide) ?_
        refine lv_lshl hx hb dX1_parsed_61 rfl ?_
        refine lv_goto (tgt := 68) hx hb dX1_parsed_62 (by decide) ?_
        exact J68 _ (by simp only [if_neg c3]) ls hl
    refine hf_loop (hm_parsed_s24 a1) (fun q => ∀ ls : Array Slot, lv_has ls 6 [(3, .long q.1), (5, .int q.2), (0, .long a0), (2, .int a1)] → (W p l e (headSpec (ws_ yX1_parsed cX1_parsed 6 (some .int)) ({ frames := 3, cells := 0, slots := 0, locals := 75 } : Room)).room s m ([.long a0, .int a1] : List Value).toArray below meth c s.heap [] 0 0 (MQ below (k2_QcV (.int (hm_parsed a0 a1))) ([.long a0, .int a1] : List Value).toArray s 0 0 (fun _ => False))) (F0 m 24 ls [])) (fun q => ∀ ls : Array Slot, lv_has ls 6 [(3, .long q.1), (5, .int q.2), (0, .long a0), (2, .int a1)] → (W p l e (headSpec (ws_ yX1_parsed cX1_parsed 6 (some .int)) ({ frames := 3, cells := 0, slots := 0, locals := 75 } : Room)).room s m ([.long a0, .int a1] : List Value).toArray below meth c s.heap [] 0 0 (MQ below (k2_QcV (.int (hm_parsed a0 a1))) ([.long a0, .int a1] : List Value).toArray s 0 0 (fun _ => False))) (F0 m 50 ls [])) ?_ a1.toNatClampNeg (a0, 0) (hm_parsed_end _ _) (X24 _ rfl) ls (lv_sub hl [1, 0, 2, 3] rfl)
    rintro ⟨x24_3, x24_5⟩ hno hgo ls hl
    have hl : lv_has ls 6 [(3, .long x24_3), (5, .int x24_5), (0, .long a0), (2, .int a1)] := hl
    refine lv_iload hx hb dX1_parsed_24 (lv_at hl 1 rfl) ?_
    refine lv_iload_n hx hb dX1_parsed_26 rfl (lv_at hl 3 rfl) ?_
    refine lv_icmp_ge (tgt := 50) hx hb dX1_parsed_27 (by decide) (fun c4 => ?_) (fun c4 => ?_)
    · skip
      exact hno (by simp only [hm_parsed_s24, if_pos c4]) ls (lv_sub hl [0, 1, 2, 3] rfl)
    · skip
      refine lv_lload_n hx hb dX1_parsed_30 rfl (lv_at hl 0 rfl) ?_
      refine lv_ldc2 (v := 100000) hx hb hown (hts _ q207) dX1_parsed_31 ?_
      refine hf_lcmp_ge (tgt := 50) hx hb dX1_parsed_34 dX1_parsed_35 (by decide) (fun c5 => ?_) (fun c5 => ?_)
      · skip
        exact hno (by simp only [hm_parsed_s24, if_neg c4, if_pos c5]) ls (lv_sub hl [0, 1, 2, 3] rfl)
      · skip
        refine lv_ldc2 (v := 10) hx hb hown (hts _ q206) dX1_parsed_38 ?_
        refine lv_lload_n hx hb dX1_parsed_41 rfl (lv_at hl 0 rfl) ?_
        refine lv_lmul hx hb dX1_parsed_42 ?_
        refine lv_topl (fun v6 ev6 => ?_)
        refine lv_lstore_n (lv' := [(3, .long v6), (5, .int x24_5), (0, .long a0), (2, .int a1)]) hx hb dX1_parsed_43 rfl hl (by decide) rfl (fun ls hl => ?_)
        obtain ⟨v7, ev7⟩ : ∃ y : Int32, y = x24_5 + 1 := ⟨_, rfl⟩
        refine lv_iinc (v := v7) (lv' := [(5, .int v7), (3, .long v6), (0, .long a0), (2, .int a1)]) hx hb dX1_parsed_44 hl (k := 1) rfl (by rw [ev7]; rfl) (by decide) rfl (fun ls hl => ?_)
        refine lv_goto (tgt := 24) hx hb dX1_parsed_47 (by decide) ?_
        exact hgo (v6, v7) (by have hh := ev6.symm; subst hh; have hh := ev7.symm; subst hh; simp only [hm_parsed_s24, if_neg c4, if_neg c5]) ls (lv_sub hl [1, 0, 2, 3] rfl)
  · skip
    refine lv_iload_n hx hb dX1_parsed_4 rfl (lv_at hl 1 rfl) ?_
    refine lv_ineg hx hb dX1_parsed_5 ?_
    refine W.callV (r := .long (hm_power (-a1))) (W.runS (As := [.int (-a1)]) (rest := []) ⟨hx, hb, hml, hown, hts⟩ (met_X1_power l (-a1)) (va_cwS 1 hts (lw_S q203 q204 q8 q205) rfl rfl rfl (by decide +kernel) ⟨Nat.le_of_ble_eq_true rfl, Nat.le_of_ble_eq_true rfl⟩) preEq rfl rfl hl.1 rfl (lv_room (Nat.le_of_ble_eq_true rfl)) dX1_parsed_6 ⟨Nat.le_of_ble_eq_true rfl, Nat.le_of_ble_eq_true rfl⟩) ?_
    refine W.eq (g2 := F0 m 9 ls [.long (hm_power (-a1))]) rfl ?_
    refine lv_topl (fun v8 ev8 => ?_)
    refine lv_lstore_n (lv' := [(3, .long v8), (0, .long a0), (2, .int a1)]) hx hb dX1_parsed_9 rfl hl (by decide) rfl (fun ls hl => ?_)
    refine lv_lload_n hx hb dX1_parsed_10 rfl (lv_at hl 1 rfl) ?_
    refine lv_bipush (v := 24) hx hb dX1_parsed_11 (by decide) ?_
    refine lv_lshl hx hb dX1_parsed_13 rfl ?_
    refine lv_lload_n hx hb dX1_parsed_14 rfl (lv_at hl 0 rfl) ?_
    refine W.callV (r := .int (hm_nearest ((a0 : Int64) <<< ((24 : Int32).toInt64 &&& 63)) v8)) (W.runS (As := [.long ((a0 : Int64) <<< ((24 : Int32).toInt64 &&& 63)), .long v8]) (rest := []) ⟨hx, hb, hml, hown, hts⟩ (met_X1_nearest l ((a0 : Int64) <<< ((24 : Int32).toInt64 &&& 63)) v8) (va_cwS 2 hts (lw_S q172 q173 q8 q174) rfl rfl rfl (by decide +kernel) ⟨Nat.le_of_ble_eq_true rfl, Nat.le_of_ble_eq_true rfl⟩) preEq rfl rfl hl.1 rfl (lv_room (Nat.le_of_ble_eq_true rfl)) dX1_parsed_15 ⟨Nat.le_of_ble_eq_true rfl, Nat.le_of_ble_eq_true rfl⟩) ?_
    refine W.eq (g2 := F0 m 18 ls [.int (hm_nearest ((a0 : Int64) <<< ((24 : Int32).toInt64 &&& 63)) v8)]) rfl ?_
    exact W.iret hx hb hr (fun t ht hW => hf_okI (by have hh := ev8.symm; subst hh; simp only [hm_parsed, if_neg c1]) ht) (fun q h => by cases h) dX1_parsed_18
set_option maxHeartbeats 4000000 in
set_option maxRecDepth 100000 in
theorem met_X1_parse (l : Launch) (h0 : Nat) (a0 : Int32) (a1 : Int32) : Met l yX1_parse (ws_ yX1_parse cX1_parse 3 (some .int)) ({ frames := 4, cells := 0, slots := 0, locals := 100 } : Room) (fun v _ => v = ([.ref h0, .int a0, .int a1] : List Value).toArray) (k2_QcV (.int (hm_parse a0 a1))) 0 0 (fun _ => False) := by
  refine Met.ofW (cc := cX1_parse) (maxL := 3) (ret := some .int) (by decide) rfl ?_
  intro p e s m args below meth c s₁ B hml hv
  subst hv
  have hx := B.exec
  have hb := B.bytes
  have hr := B.returns
  have hts := atoms_spec (ws := (ws_ yX1_parse cX1_parse 3 (some .int))) B.pre
  have hts : ∀ w ∈ lw_all, w.before _ s = true := fun w h => hts w (List.mem_cons_of_mem _ h)
  have hown : s.vm.findClass RX1 = some m.cls := findClass_of_methodNamed B.named
  have hlocks := B.notSynchronized
  have hl := lv_entry ([.ref h0, .int a0, .int a1]) (n := 3) (Nat.le_of_ble_eq_true rfl)
  rw [lg_entry_eq]
  generalize (lg_sl ([.ref h0, .int a0, .int a1]) ++ List.replicate (3 - (lg_sl ([.ref h0, .int a0, .int a1])).length) Slot.unset).toArray = ls at hl ⊢
  have hl : lv_has ls 3 [(0, .ref h0), (1, .int a0), (2, .int a1)] := hl
  refine lv_iload_n hx hb dX1_parse_0 rfl (lv_at hl 1 rfl) ?_
  refine lv_if_lt (tgt := 22) hx hb dX1_parse_1 (by decide) (fun c1 => ?_) (fun c1 => ?_)
  · skip
    refine lv_iconst (v := (-1)) hx hb dX1_parse_22 (by decide) ?_
    refine lv_goto (tgt := 32) hx hb dX1_parse_23 (by decide) ?_
    exact W.iret hx hb hr (fun t ht hW => hf_okI (by simp only [hm_parse, if_pos c1]) ht) (fun q h => by cases h) dX1_parse_32
  · skip
    refine lv_iload_n hx hb dX1_parse_4 rfl (lv_at hl 1 rfl) ?_
    refine lv_ldc (v := 999999) hx hb hown (hts _ q199) dX1_parse_5 ?_
    refine lv_icmp_gt (tgt := 22) hx hb dX1_parse_7 (by decide) (fun c2 => ?_) (fun c2 => ?_)
    · skip
      refine lv_iconst (v := (-1)) hx hb dX1_parse_22 (by decide) ?_
      refine lv_goto (tgt := 32) hx hb dX1_parse_23 (by decide) ?_
      exact W.iret hx hb hr (fun t ht hW => hf_okI (by simp only [hm_parse, if_neg c1, if_pos c2]) ht) (fun q h => by cases h) dX1_parse_32
    · skip
      refine lv_iload_n hx hb dX1_parse_10 rfl (lv_at hl 2 rfl) ?_
      refine lv_bipush (v := (-12)) hx hb dX1_parse_11 (by decide) ?_
      refine lv_icmp_lt (tgt := 22) hx hb dX1_parse_13 (by decide) (fun c3 => ?_) (fun c3 => ?_)
      · skip
        refine lv_iconst (v := (-1)) hx hb dX1_parse_22 (by decide) ?_
        refine lv_goto (tgt := 32) hx hb dX1_parse_23 (by decide) ?_
        exact W.iret hx hb hr (fun t ht hW => hf_okI (by simp only [hm_parse, if_neg c1, if_neg c2, if_pos c3]) ht) (fun q h => by cases h) dX1_parse_32
      · skip
        refine lv_iload_n hx hb dX1_parse_16 rfl (lv_at hl 2 rfl) ?_
        refine lv_bipush (v := 12) hx hb dX1_parse_17 (by decide) ?_
        refine lv_icmp_le (tgt := 26) hx hb dX1_parse_19 (by decide) (fun c4 => ?_) (fun c4 => ?_)
        · skip
          refine lv_iload_n hx hb dX1_parse_26 rfl (lv_at hl 1 rfl) ?_
          refine lv_i2l hx hb dX1_parse_27 rfl ?_
          refine lv_iload_n hx hb dX1_parse_28 rfl (lv_at hl 2 rfl) ?_
          refine W.callV (r := .int (hm_parsed ((a0 : Int32).toInt64) a1)) (W.runS (As := [.long ((a0 : Int32).toInt64), .int a1]) (rest := []) ⟨hx, hb, hml, hown, hts⟩ (met_X1_parsed l ((a0 : Int32).toInt64) a1) (va_cwS 2 hts (lw_S q200 q201 q8 q202) rfl rfl rfl (by decide +kernel) ⟨Nat.le_of_ble_eq_true rfl, Nat.le_of_ble_eq_true rfl⟩) preEq rfl rfl hl.1 rfl (lv_room (Nat.le_of_ble_eq_true rfl)) dX1_parse_29 ⟨Nat.le_of_ble_eq_true rfl, Nat.le_of_ble_eq_true rfl⟩) ?_
          refine W.eq (g2 := F0 m 32 ls [.int (hm_parsed ((a0 : Int32).toInt64) a1)]) rfl ?_
          exact W.iret hx hb hr (fun t ht hW => hf_okI (by simp only [hm_parse, if_neg c1, if_neg c2, if_neg c3, if_pos c4]) ht) (fun q h => by cases h) dX1_parse_32
        · skip
          refine lv_iconst (v := (-1)) hx hb dX1_parse_22 (by decide) ?_
          refine lv_goto (tgt := 32) hx hb dX1_parse_23 (by decide) ?_
          exact W.iret hx hb hr (fun t ht hW => hf_okI (by simp only [hm_parse, if_neg c1, if_neg c2, if_neg c3, if_neg c4]) ht) (fun q h => by cases h) dX1_parse_32
set_option maxHeartbeats 4000000 in
set_option maxRecDepth 100000 in
theorem met_X1_length (l : Launch) (a0 : Int64) : Met l yX1_length (ws_ yX1_length cX1_length 3 (some .int)) ({ frames := 1, cells := 0, slots := 0, locals := 23 } : Room) (fun v _ => v = ([.long a0] : List Value).toArray) (k2_QcV (.int (hm_length a0))) 0 0 (fun _ => False) := by
  refine Met.ofW (cc := cX1_length) (maxL := 3) (ret := some .int) (by decide) rfl ?_
  intro p e s m args below meth c s₁ B hml hv
  subst hv
  have hx := B.exec
  have hb := B.bytes
  have hr := B.returns
  have hts := atoms_spec (ws := (ws_ yX1_length cX1_length 3 (some .int))) B.pre
  have hts : ∀ w ∈ lw_all, w.before _ s = true := fun w h => hts w (List.mem_cons_of_mem _ h)
  have hown : s.vm.findClass RX1 = some m.cls := findClass_of_methodNamed B.named
  have hlocks := B.notSynchronized
  have hl := lv_entry ([.long a0]) (n := 3) (Nat.le_of_ble_eq_true rfl)
  rw [lg_entry_eq]
  generalize (lg_sl ([.long a0]) ++ List.replicate (3 - (lg_sl ([.long a0])).length) Slot.unset).toArray = ls at hl ⊢
  have hl : lv_has ls 3 [(0, .long a0)] := hl
  refine lv_iconst (v := 1) hx hb dX1_length_0 (by decide) ?_
  refine lv_istore_n (lv' := [(2, .int 1), (0, .long a0)]) hx hb dX1_length_1 rfl hl (by decide) rfl (fun ls hl => ?_)
  have X2 : ∀ q2 : Int32, q2 = hf_run (hm_length_s2 a0) 18 1 → ∀ ls : Array Slot, lv_has ls 3 [(2, .int q2), (0, .long a0)] → (W p l e (headSpec (ws_ yX1_length cX1_length 3 (some .int)) ({ frames := 1, cells := 0, slots := 0, locals := 23 } : Room)).room s m ([.long a0] : List Value).toArray below meth c s.heap [] 0 0 (MQ below (k2_QcV (.int (hm_length a0))) ([.long a0] : List Value).toArray s 0 0 (fun _ => False))) (F0 m 23 ls []) := by
    intro q2 eq2 ls hl
    obtain ⟨x2_2, ex2_2⟩ : ∃ y : Int32, y = q2 := ⟨_, rfl⟩
    rw [← ex2_2] at hl
    refine lv_iload_n hx hb dX1_length_23 rfl (lv_at hl 0 rfl) ?_
    exact W.iret hx hb hr (fun t ht hW => hf_okI (by have hh := eq2.symm; subst hh; have hh := ex2_2.symm; subst hh; simp only [hm_length]) ht) (fun q h => by cases h) dX1_length_24
  refine hf_loop (hm_length_s2 a0) (fun q => ∀ ls : Array Slot, lv_has ls 3 [(2, .int q), (0, .long a0)] → (W p l e (headSpec (ws_ yX1_length cX1_length 3 (some .int)) ({ frames := 1, cells := 0, slots := 0, locals := 23 } : Room)).room s m ([.long a0] : List Value).toArray below meth c s.heap [] 0 0 (MQ below (k2_QcV (.int (hm_length a0))) ([.long a0] : List Value).toArray s 0 0 (fun _ => False))) (F0 m 2 ls [])) (fun q => ∀ ls : Array Slot, lv_has ls 3 [(2, .int q), (0, .long a0)] → (W p l e (headSpec (ws_ yX1_length cX1_length 3 (some .int)) ({ frames := 1, cells := 0, slots := 0, locals := 23 } : Room)).room s m ([.long a0] : List Value).toArray below meth c s.heap [] 0 0 (MQ below (k2_QcV (.int (hm_length a0))) ([.long a0] : List Value).toArray s 0 0 (fun _ => False))) (F0 m 23 ls [])) ?_ 18 1 (hm_length_end _) (X2 _ rfl) ls (lv_sub hl [0, 1] rfl)
  intro x2_2 hno hgo ls hl
  have hl : lv_has ls 3 [(2, .int x2_2), (0, .long a0)] := hl
  refine lv_iload_n hx hb dX1_length_2 rfl (lv_at hl 0 rfl) ?_
  refine lv_bipush (v := 18) hx hb dX1_length_3 (by decide) ?_
  refine lv_icmp_ge (tgt := 23) hx hb dX1_length_5 (by decide) (fun c1 => ?_) (fun c1 => ?_)
  · skip
    exact hno (by simp only [hm_length_s2, if_pos c1]) ls (lv_sub hl [0, 1] rfl)
  · skip
    refine lv_lload_n hx hb dX1_length_8 rfl (lv_at hl 1 rfl) ?_
    refine lv_iload_n hx hb dX1_length_9 rfl (lv_at hl 0 rfl) ?_
    refine W.callV (r := .long (hm_power x2_2)) (W.runS (As := [.int x2_2]) (rest := [.long a0]) ⟨hx, hb, hml, hown, hts⟩ (met_X1_power l x2_2) (va_cwS 1 hts (lw_S q203 q204 q8 q205) rfl rfl rfl (by decide +kernel) ⟨Nat.le_of_ble_eq_true rfl, Nat.le_of_ble_eq_true rfl⟩) preEq rfl rfl hl.1 rfl (lv_room (Nat.le_of_ble_eq_true rfl)) dX1_length_10 ⟨Nat.le_of_ble_eq_true rfl, Nat.le_of_ble_eq_true rfl⟩) ?_
    refine W.eq (g2 := F0 m 13 ls [.long (hm_power x2_2), .long a0]) rfl ?_
    refine hf_lcmp_lt (tgt := 23) hx hb dX1_length_13 dX1_length_14 (by decide) (fun c2 => ?_) (fun c2 => ?_)
    · skip
      exact hno (by simp only [hm_length_s2, if_neg c1, if_pos c2]) ls (lv_sub hl [0, 1] rfl)
    · skip
      obtain ⟨v3, ev3⟩ : ∃ y : Int32, y = x2_2 + 1 := ⟨_, rfl⟩
      refine lv_iinc (v := v3) (lv' := [(2, .int v3), (0, .long a0)]) hx hb dX1_length_17 hl (k := 0) rfl (by rw [ev3]; rfl) (by decide) rfl (fun ls hl => ?_)
      refine lv_goto (tgt := 2) hx hb dX1_length_20 (by decide) ?_
      exact hgo v3 (by have hh := ev3.symm; subst hh; simp only [hm_length_s2, if_neg c1, if_neg c2]) ls (lv_sub hl [0, 1] rfl)
set_option maxHeartbeats 4000000 in
set_option maxRecDepth 100000 in
theorem met_X1_far (l : Launch) (a0 : Int64) (a1 : Int32) (a2 : Int32) (a3 : Int64) : Met l yX1_far (ws_ yX1_far cX1_far 8 (some .long)) ({ frames := 1, cells := 0, slots := 0, locals := 23 } : Room) (fun v _ => v = ([.long a0, .int a1, .int a2, .long a3] : List Value).toArray) (k2_QcV (.long (hm_far a0 a1 a2 a3))) 0 0 (fun _ => False) := by
  refine Met.ofW (cc := cX1_far) (maxL := 8) (ret := some .long) (by decide) rfl ?_
  intro p e s m args below meth c s₁ B hml hv
  subst hv
  have hx := B.exec
  have hb := B.bytes
  have hr := B.returns
  have hts := atoms_spec (ws := (ws_ yX1_far cX1_far 8 (some .long))) B.pre
  have hts : ∀ w ∈ lw_all, w.before _ s = true := fun w h => hts w (List.mem_cons_of_mem _ h)
  have hown : s.vm.findClass RX1 = some m.cls := findClass_of_methodNamed B.named
  have hlocks := B.notSynchronized
  have hl := lv_entry ([.long a0, .int a1, .int a2, .long a3]) (n := 8) (Nat.le_of_ble_eq_true rfl)
  rw [lg_entry_eq]
  generalize (lg_sl ([.long a0, .int a1, .int a2, .long a3]) ++ List.replicate (8 - (lg_sl ([.long a0, .int a1, .int a2, .long a3])).length) Slot.unset).toArray = ls at hl ⊢
  have hl : lv_has ls 8 [(0, .long a0), (2, .int a1), (3, .int a2), (4, .long a3)] := hl
  refine lv_lload_n hx hb dX1_far_0 rfl (lv_at hl 0 rfl) ?_
  refine lv_iload_n hx hb dX1_far_1 rfl (lv_at hl 1 rfl) ?_
  refine lv_iload_n hx hb dX1_far_2 rfl (lv_at hl 2 rfl) ?_
  refine lv_iadd hx hb dX1_far_3 ?_
  refine W.callV (r := .long (hm_power (a1 + a2))) (W.runS (As := [.int (a1 + a2)]) (rest := [.long a0]) ⟨hx, hb, hml, hown, hts⟩ (met_X1_power l (a1 + a2)) (va_cwS 1 hts (lw_S q203 q204 q8 q205) rfl rfl rfl (by decide +kernel) ⟨Nat.le_of_ble_eq_true rfl, Nat.le_of_ble_eq_true rfl⟩) preEq rfl rfl hl.1 rfl (lv_room (Nat.le_of_ble_eq_true rfl)) dX1_far_4 ⟨Nat.le_of_ble_eq_true rfl, Nat.le_of_ble_eq_true rfl⟩) ?_
  refine W.eq (g2 := F0 m 7 ls [.long (hm_power (a1 + a2)), .long a0]) rfl ?_
  refine lv_lmul hx hb dX1_far_7 ?_
  refine lv_bipush (v := 24) hx hb dX1_far_8 (by decide) ?_
  refine lv_lshl hx hb dX1_far_10 rfl ?_
  refine lv_lload hx hb dX1_far_11 (lv_at hl 3 rfl) ?_
  refine lv_iload_n hx hb dX1_far_13 rfl (lv_at hl 2 rfl) ?_
  refine W.callV (r := .long (hm_power a2)) (W.runS (As := [.int a2]) (rest := [.long a3, .long ((a0 * (hm_power (a1 + a2)) : Int64) <<< ((24 : Int32).toInt64 &&& 63))]) ⟨hx, hb, hml, hown, hts⟩ (met_X1_power l a2) (va_cwS 1 hts (lw_S q203 q204 q8 q205) rfl rfl rfl (by decide +kernel) ⟨Nat.le_of_ble_eq_true rfl, Nat.le_of_ble_eq_true rfl⟩) preEq rfl rfl hl.1 rfl (lv_room (Nat.le_of_ble_eq_true rfl)) dX1_far_14 ⟨Nat.le_of_ble_eq_true rfl, Nat.le_of_ble_eq_true rfl⟩) ?_
  refine W.eq (g2 := F0 m 17 ls [.long (hm_power a2), .long a3, .long ((a0 * (hm_power (a1 + a2)) : Int64) <<< ((24 : Int32).toInt64 &&& 63))]) rfl ?_
  refine lv_lmul hx hb dX1_far_17 ?_
  refine lv_lsub hx hb dX1_far_18 ?_
  refine lv_topl (fun v1 ev1 => ?_)
  refine lv_lstore (lv' := [(6, .long v1), (0, .long a0), (2, .int a1), (3, .int a2), (4, .long a3)]) hx hb dX1_far_19 hl (by decide) rfl (fun ls hl => ?_)
  refine lv_lload hx hb dX1_far_21 (lv_at hl 0 rfl) ?_
  refine lv_lconst (v := 0) hx hb dX1_far_23 (by decide) ?_
  refine hf_lcmp_ge (tgt := 34) hx hb dX1_far_24 dX1_far_25 (by decide) (fun c2 => ?_) (fun c2 => ?_)
  · skip
    refine lv_lload hx hb dX1_far_34 (lv_at hl 0 rfl) ?_
    exact W.lret hx hb hr (fun t ht hW => hf_okL (by have hh := ev1.symm; subst hh; simp only [hm_far, if_pos c2]) ht) (fun q h => by cases h) dX1_far_36
  · skip
    refine lv_lload hx hb dX1_far_28 (lv_at hl 0 rfl) ?_
    refine lv_lneg hx hb dX1_far_30 ?_
    refine lv_goto (tgt := 36) hx hb dX1_far_31 (by decide) ?_
    exact W.lret hx hb hr (fun t ht hW => hf_okL (by have hh := ev1.symm; subst hh; simp only [hm_far, if_neg c2]) ht) (fun q h => by cases h) dX1_far_36
set_option maxHeartbeats 4000000 in
set_option maxRecDepth 100000 in
theorem met_X1_nearer (l : Launch) (a0 : Int64) (a1 : Int32) (a2 : Int64) (a3 : Int32) (a4 : Int64) : Met l yX1_nearer (ws_ yX1_nearer cX1_nearer 14 (some .boolean)) ({ frames := 2, cells := 0, slots := 0, locals := 50 } : Room) (fun v _ => v = ([.long a0, .int a1, .long a2, .int a3, .long a4] : List Value).toArray) (k2_QcV (.int (hm_nearer a0 a1 a2 a3 a4))) 0 0 (fun _ => False) := by
  refine Met.ofW (cc := cX1_nearer) (maxL := 14) (ret := some .boolean) (by decide) rfl ?_
  intro p e s m args below meth c s₁ B hml hv
  subst hv
  have hx := B.exec
  have hb := B.bytes
  have hr := B.returns
  have hts := atoms_spec (ws := (ws_ yX1_nearer cX1_nearer 14 (some .boolean))) B.pre
  have hts : ∀ w ∈ lw_all, w.before _ s = true := fun w h => hts w (List.mem_cons_of_mem _ h)
  have hown : s.vm.findClass RX1 = some m.cls := findClass_of_methodNamed B.named
  have hlocks := B.notSynchronized
  have hl := lv_entry ([.long a0, .int a1, .long a2, .int a3, .long a4]) (n := 14) (Nat.le_of_ble_eq_true rfl)
  rw [lg_entry_eq]
  generalize (lg_sl ([.long a0, .int a1, .long a2, .int a3, .long a4]) ++ List.replicate (14 - (lg_sl ([.long a0, .int a1, .long a2, .int a3, .long a4])).length) Slot.unset).toArray = ls at hl ⊢
  have hl : lv_has ls 14 [(0, .long a0), (2, .int a1), (3, .long a2), (5, .int a3), (6, .long a4)] := hl
  refine lv_iload_n hx hb dX1_nearer_0 rfl (lv_at hl 1 rfl) ?_
  refine lv_iload hx hb dX1_nearer_1 (lv_at hl 3 rfl) ?_
  have J12 : ∀ (v1 : Int32), v1 = (if (a3 : Int32) ≤ (a1 : Int32) then (a3)
  else (a1)) → ∀ ls : Array Slot, lv_has ls 14 [(0, .long a0), (2, .int a1), (3, .long a2), (5, .int a3), (6, .long a4)] → (W p l e (headSpec (ws_ yX1_nearer cX1_nearer 14 (some .boolean)) ({ frames := 2, cells := 0, slots := 0, locals := 50 } : Room)).room s m ([.long a0, .int a1, .long a2, .int a3, .long a4] : List Value).toArray below meth c s.heap [] 0 0 (MQ below (k2_QcV (.int (hm_nearer a0 a1 a2 a3 a4))) ([.long a0, .int a1, .long a2, .int a3, .long a4] : List Value).toArray s 0 0 (fun _ => False))) (F0 m 12 ls [.int v1]) := by
    intro v1 ev1 ls hl
    refine lv_istore (lv' := [(8, .int v1), (0, .long a0), (2, .int a1), (3, .long a2), (5, .int a3), (6, .long a4)]) hx hb dX1_nearer_12 hl (by decide) rfl (fun ls hl => ?_)
    refine lv_iload hx hb dX1_nearer_14 (lv_at hl 0 rfl) ?_
    have J26 : ∀ (v3 : Int32), v3 = (if (0 : Int32) ≤ (v1 : Int32) then (0)
  else (-v1)) → ∀ ls : Array Slot, lv_has ls 14 [(8, .int v1), (0, .long a0), (2, .int a1), (3, .long a2), (5, .int a3), (6, .long a4)] → (W p l e (headSpec (ws_ yX1_nearer cX1_nearer 14 (some .boolean)) ({ frames := 2, cells := 0, slots := 0, locals := 50 } : Room)).room s m ([.long a0, .int a1, .long a2, .int a3, .long a4] : List Value).toArray below meth c s.heap [] 0 0 (MQ below (k2_QcV (.int (hm_nearer a0 a1 a2 a3 a4))) ([.long a0, .int a1, .long a2, .int a3, .long a4] : List Value).toArray s 0 0 (fun _ => False))) (F0 m 26 ls [.int v3]) := by
      intro v3 ev3 ls hl
      refine lv_istore (lv' := [(9, .int v3), (8, .int v1), (0, .long a0), (2, .int a1), (3, .long a2), (5, .int a3), (6, .long a4)]) hx hb dX1_nearer_26 hl (by decide) rfl (fun ls hl => ?_)
      refine lv_lload_n hx hb dX1_nearer_28 rfl (lv_at hl 2 rfl) ?_
      refine lv_iload_n hx hb dX1_nearer_29 rfl (lv_at hl 3 rfl) ?_
      refine lv_iload hx hb dX1_nearer_30 (lv_at hl 0 rfl) ?_
      refine lv_lload hx hb dX1_nearer_32 (lv_at hl 6 rfl) ?_
      refine W.callV (r := .long (hm_far a0 a1 v3 a4)) (W.runS (As := [.long a0, .int a1, .int v3, .long a4]) (rest := []) ⟨hx, hb, hml, hown, hts⟩ (met_X1_far l a0 a1 v3 a4) (va_cwS 4 hts (lw_S q229 q230 q8 q231) rfl rfl rfl (by decide +kernel) ⟨Nat.le_of_ble_eq_true rfl, Nat.le_of_ble_eq_true rfl⟩) preEq rfl rfl hl.1 rfl (lv_room (Nat.le_of_ble_eq_true rfl)) dX1_nearer_34 ⟨Nat.le_of_ble_eq_true rfl, Nat.le_of_ble_eq_true rfl⟩) ?_
      refine W.eq (g2 := F0 m 37 ls [.long (hm_far a0 a1 v3 a4)]) rfl ?_
      refine lv_topl (fun v5 ev5 => ?_)
      refine lv_lstore (lv' := [(10, .long v5), (9, .int v3), (8, .int v1), (0, .long a0), (2, .int a1), (3, .long a2), (5, .int a3), (6, .long a4)]) hx hb dX1_nearer_37 hl (by decide) rfl (fun ls hl => ?_)
      refine lv_lload_n hx hb dX1_nearer_39 rfl (lv_at hl 5 rfl) ?_
      refine lv_iload hx hb dX1_nearer_40 (lv_at hl 6 rfl) ?_
      refine lv_iload hx hb dX1_nearer_42 (lv_at hl 1 rfl) ?_
      refine lv_lload hx hb dX1_nearer_44 (lv_at hl 7 rfl) ?_
      refine W.callV (r := .long (hm_far a2 a3 v3 a4)) (W.runS (As := [.long a2, .int a3, .int v3, .long a4]) (rest := []) ⟨hx, hb, hml, hown, hts⟩ (met_X1_far l a2 a3 v3 a4) (va_cwS 4 hts (lw_S q229 q230 q8 q231) rfl rfl rfl (by decide +kernel) ⟨Nat.le_of_ble_eq_true rfl, Nat.le_of_ble_eq_true rfl⟩) preEq rfl rfl hl.1 rfl (lv_room (Nat.le_of_ble_eq_true rfl)) dX1_nearer_46 ⟨Nat.le_of_ble_eq_true rfl, Nat.le_of_ble_eq_true rfl⟩) ?_
      refine W.eq (g2 := F0 m 49 ls [.long (hm_far a2 a3 v3 a4)]) rfl ?_
      refine lv_topl (fun v6 ev6 => ?_)
      refine lv_lstore (lv' := [(12, .long v6), (10, .long v5), (9, .int v3), (8, .int v1), (0, .long a0), (2, .int a1), (3, .long a2), (5, .int a3), (6, .long a4)]) hx hb dX1_nearer_49 hl (by decide) rfl (fun ls hl => ?_)
      refine lv_lload hx hb dX1_nearer_51 (lv_at hl 1 rfl) ?_
      refine lv_lload hx hb dX1_nearer_53 (lv_at hl 0 rfl) ?_
      refine hf_lcmp_eq (tgt := 73) hx hb dX1_nearer_55 dX1_nearer_56 (by decide) (fun c7 => ?_) (fun c7 => ?_)
      · skip
        refine lv_lload_n hx hb dX1_nearer_73 rfl (lv_at hl 4 rfl) ?_
        refine lv_iload_n hx hb dX1_nearer_74 rfl (lv_at hl 5 rfl) ?_
        refine lv_iload hx hb dX1_nearer_75 (lv_at hl 2 rfl) ?_
        refine lv_iadd hx hb dX1_nearer_77 ?_
        refine W.callV (r := .long (hm_power (a1 + v3))) (W.runS (As := [.int (a1 + v3)]) (rest := [.long a0]) ⟨hx, hb, hml, hown, hts⟩ (met_X1_power l (a1 + v3)) (va_cwS 1 hts (lw_S q203 q204 q8 q205) rfl rfl rfl (by decide +kernel) ⟨Nat.le_of_ble_eq_true rfl, Nat.le_of_ble_eq_true rfl⟩) preEq rfl rfl hl.1 rfl (lv_room (Nat.le_of_ble_eq_true rfl)) dX1_nearer_78 ⟨Nat.le_of_ble_eq_true rfl, Nat.le_of_ble_eq_true rfl⟩) ?_
        refine W.eq (g2 := F0 m 81 ls [.long (hm_power (a1 + v3)), .long a0]) rfl ?_
        refine lv_lmul hx hb dX1_nearer_81 ?_
        refine lv_lload_n hx hb dX1_nearer_82 rfl (lv_at hl 6 rfl) ?_
        refine lv_iload hx hb dX1_nearer_83 (lv_at hl 7 rfl) ?_
        refine lv_iload hx hb dX1_nearer_85 (lv_at hl 2 rfl) ?_
        refine lv_iadd hx hb dX1_nearer_87 ?_
        refine W.callV (r := .long (hm_power (a3 + v3))) (W.runS (As := [.int (a3 + v3)]) (rest := [.long a2, .long (a0 * (hm_power (a1 + v3)))]) ⟨hx, hb, hml, hown, hts⟩ (met_X1_power l (a3 + v3)) (va_cwS 1 hts (lw_S q203 q204 q8 q205) rfl rfl rfl (by decide +kernel) ⟨Nat.le_of_ble_eq_true rfl, Nat.le_of_ble_eq_true rfl⟩) preEq rfl rfl hl.1 rfl (lv_room (Nat.le_of_ble_eq_true rfl)) dX1_nearer_88 ⟨Nat.le_of_ble_eq_true rfl, Nat.le_of_ble_eq_true rfl⟩) ?_
        refine W.eq (g2 := F0 m 91 ls [.long (hm_power (a3 + v3)), .long a2, .long (a0 * (hm_power (a1 + v3)))]) rfl ?_
        refine lv_lmul hx hb dX1_nearer_91 ?_
        refine hf_lcmp_ge (tgt := 100) hx hb dX1_nearer_92 dX1_nearer_93 (by decide) (fun c8 => ?_) (fun c8 => ?_)
        · skip
          refine lv_iconst (v := 0) hx hb dX1_nearer_100 (by decide) ?_
          exact W.zret hx hb hr (rfl) (fun t ht hW => hf_okI (by have hh := ev1.symm; subst hh; have hh := ev3.symm; subst hh; have hh := ev5.symm; subst hh; have hh := ev6.symm; subst hh; simp only [hm_nearer, if_pos c7, if_pos c8]) ht) (fun q h => by cases h) dX1_nearer_101
        · skip
          refine lv_iconst (v := 1) hx hb dX1_nearer_96 (by decide) ?_
          refine lv_goto (tgt := 101) hx hb dX1_nearer_97 (by decide) ?_
          exact W.zret hx hb hr (rfl) (fun t ht hW => hf_okI (by have hh := ev1.symm; subst hh; have hh := ev3.symm; subst hh; have hh := ev5.symm; subst hh; have hh := ev6.symm; subst hh; simp only [hm_nearer, if_pos c7, if_neg c8]) ht) (fun q h => by cases h) dX1_nearer_101
      · skip
        refine lv_lload hx hb dX1_nearer_59 (lv_at hl 1 rfl) ?_
        refine lv_lload hx hb dX1_nearer_61 (lv_at hl 0 rfl) ?_
        refine hf_lcmp_ge (tgt := 71) hx hb dX1_nearer_63 dX1_nearer_64 (by decide) (fun c9 => ?_) (fun c9 => ?_)
        · skip
          refine lv_iconst (v := 0) hx hb dX1_nearer_71 (by decide) ?_
          exact W.zret hx hb hr (rfl) (fun t ht hW => hf_okI (by have hh := ev1.symm; subst hh; have hh := ev3.symm; subst hh; have hh := ev5.symm; subst hh; have hh := ev6.symm; subst hh; simp only [hm_nearer, if_neg c7, if_pos c9]) ht) (fun q h => by cases h) dX1_nearer_72
        · skip
          refine lv_iconst (v := 1) hx hb dX1_nearer_67 (by decide) ?_
          refine lv_goto (tgt := 72) hx hb dX1_nearer_68 (by decide) ?_
          exact W.zret hx hb hr (rfl) (fun t ht hW => hf_okI (by have hh := ev1.symm; subst hh; have hh := ev3.symm; subst hh; have hh := ev5.symm; subst hh; have hh := ev6.symm; subst hh; simp only [hm_nearer, if_neg c7, if_neg c9]) ht) (fun q h => by cases h) dX1_nearer_72
    refine lv_if_ge (tgt := 25) hx hb dX1_nearer_16 (by decide) (fun c4 => ?_) (fun c4 => ?_)
    · skip
      refine lv_iconst (v := 0) hx hb dX1_nearer_25 (by decide) ?_
      exact J26 _ (by simp only [if_pos c4]) ls hl
    · skip
      refine lv_iload hx hb dX1_nearer_19 (lv_at hl 0 rfl) ?_
      refine lv_ineg hx hb dX1_nearer_21 ?_
      refine lv_goto (tgt := 26) hx hb dX1_nearer_22 (by decide) ?_
      exact J26 _ (by simp only [if_neg c4]) ls hl
  refine lv_icmp_ge (tgt := 10) hx hb dX1_nearer_3 (by decide) (fun c2 => ?_) (fun c2 => ?_)
  · skip
    refine lv_iload hx hb dX1_nearer_10 (lv_at hl 3 rfl) ?_
    exact J12 _ (by simp only [if_pos c2]) ls hl
  · skip
    refine lv_iload_n hx hb dX1_nearer_6 rfl (lv_at hl 1 rfl) ?_
    refine lv_goto (tgt := 12) hx hb dX1_nearer_7 (by decide) ?_
    exact J12 _ (by simp only [if_neg c2]) ls hl
set_option maxHeartbeats 4000000 in
set_option maxRecDepth 100000 in
theorem met_X1_compare (l : Launch) (h0 : Nat) (a0 : Int32) (a1 : Int32) : Met l yX1_compare (ws_ yX1_compare cX1_compare 7 (some .int)) ({ frames := 3, cells := 0, slots := 0, locals := 62 } : Room) (fun v _ => v = ([.ref h0, .int a0, .int a1] : List Value).toArray) (k2_QcV (.int (hm_compare a0 a1))) 0 0 (fun _ => False) := by
  refine Met.ofW (cc := cX1_compare) (maxL := 7) (ret := some .int) (by decide) rfl ?_
  intro p e s m args below meth c s₁ B hml hv
  subst hv
  have hx := B.exec
  have hb := B.bytes
  have hr := B.returns
  have hts := atoms_spec (ws := (ws_ yX1_compare cX1_compare 7 (some .int))) B.pre
  have hts : ∀ w ∈ lw_all, w.before _ s = true := fun w h => hts w (List.mem_cons_of_mem _ h)
  have hown : s.vm.findClass RX1 = some m.cls := findClass_of_methodNamed B.named
  have hlocks := B.notSynchronized
  have hl := lv_entry ([.ref h0, .int a0, .int a1]) (n := 7) (Nat.le_of_ble_eq_true rfl)
  rw [lg_entry_eq]
  generalize (lg_sl ([.ref h0, .int a0, .int a1]) ++ List.replicate (7 - (lg_sl ([.ref h0, .int a0, .int a1])).length) Slot.unset).toArray = ls at hl ⊢
  have hl : lv_has ls 7 [(0, .ref h0), (1, .int a0), (2, .int a1)] := hl
  refine lv_iload_n hx hb dX1_compare_0 rfl (lv_at hl 1 rfl) ?_
  refine W.callV (r := .int (hm_bad a0)) (W.runS (As := [.int a0]) (rest := []) ⟨hx, hb, hml, hown, hts⟩ (met_X1_bad l a0) (va_cwS 1 hts (lw_S q154 q155 q8 q156) rfl rfl rfl (by decide +kernel) ⟨Nat.le_of_ble_eq_true rfl, Nat.le_of_ble_eq_true rfl⟩) preEq rfl rfl hl.1 rfl (lv_room (Nat.le_of_ble_eq_true rfl)) dX1_compare_1 ⟨Nat.le_of_ble_eq_true rfl, Nat.le_of_ble_eq_true rfl⟩) ?_
  refine W.eq (g2 := F0 m 4 ls [.int (hm_bad a0)]) rfl ?_
  refine lv_if_ne (tgt := 14) hx hb dX1_compare_4 (by decide) (fun c1 => ?_) (fun c1 => ?_)
  · skip
    refine lv_iconst (v := (-1)) hx hb dX1_compare_14 (by decide) ?_
    exact W.iret hx hb hr (fun t ht hW => hf_okI (by simp only [hm_compare, if_neg c1]) ht) (fun q h => by cases h) dX1_compare_15
  · skip
    refine lv_iload_n hx hb dX1_compare_7 rfl (lv_at hl 2 rfl) ?_
    refine W.callV (r := .int (hm_bad a1)) (W.runS (As := [.int a1]) (rest := []) ⟨hx, hb, hml, hown, hts⟩ (met_X1_bad l a1) (va_cwS 1 hts (lw_S q154 q155 q8 q156) rfl rfl rfl (by decide +kernel) ⟨Nat.le_of_ble_eq_true rfl, Nat.le_of_ble_eq_true rfl⟩) preEq rfl rfl hl.1 rfl (lv_room (Nat.le_of_ble_eq_true rfl)) dX1_compare_8 ⟨Nat.le_of_ble_eq_true rfl, Nat.le_of_ble_eq_true rfl⟩) ?_
    refine W.eq (g2 := F0 m 11 ls [.int (hm_bad a1)]) rfl ?_
    refine lv_if_eq (tgt := 16) hx hb dX1_compare_11 (by decide) (fun c2 => ?_) (fun c2 => ?_)
    · skip
      refine lv_iload_n hx hb dX1_compare_16 rfl (lv_at hl 1 rfl) ?_
      refine W.callV (r := .long (hm_signed a0)) (W.runS (As := [.int a0]) (rest := []) ⟨hx, hb, hml, hown, hts⟩ (met_X1_signed l a0) (va_cwS 1 hts (lw_S q158 q159 q8 q160) rfl rfl rfl (by decide +kernel) ⟨Nat.le_of_ble_eq_true rfl, Nat.le_of_ble_eq_true rfl⟩) preEq rfl rfl hl.1 rfl (lv_room (Nat.le_of_ble_eq_true rfl)) dX1_compare_17 ⟨Nat.le_of_ble_eq_true rfl, Nat.le_of_ble_eq_true rfl⟩) ?_
      refine W.eq (g2 := F0 m 20 ls [.long (hm_signed a0)]) rfl ?_
      refine lv_topl (fun v3 ev3 => ?_)
      refine lv_lstore_n (lv' := [(3, .long v3), (0, .ref h0), (1, .int a0), (2, .int a1)]) hx hb dX1_compare_20 rfl hl (by decide) rfl (fun ls hl => ?_)
      refine lv_iload_n hx hb dX1_compare_21 rfl (lv_at hl 3 rfl) ?_
      refine W.callV (r := .long (hm_signed a1)) (W.runS (As := [.int a1]) (rest := []) ⟨hx, hb, hml, hown, hts⟩ (met_X1_signed l a1) (va_cwS 1 hts (lw_S q158 q159 q8 q160) rfl rfl rfl (by decide +kernel) ⟨Nat.le_of_ble_eq_true rfl, Nat.le_of_ble_eq_true rfl⟩) preEq rfl rfl hl.1 rfl (lv_room (Nat.le_of_ble_eq_true rfl)) dX1_compare_22 ⟨Nat.le_of_ble_eq_true rfl, Nat.le_of_ble_eq_true rfl⟩) ?_
      refine W.eq (g2 := F0 m 25 ls [.long (hm_signed a1)]) rfl ?_
      refine lv_topl (fun v4 ev4 => ?_)
      refine lv_lstore (lv' := [(5, .long v4), (3, .long v3), (0, .ref h0), (1, .int a0), (2, .int a1)]) hx hb dX1_compare_25 hl (by decide) rfl (fun ls hl => ?_)
      refine lv_lload_n hx hb dX1_compare_27 rfl (lv_at hl 1 rfl) ?_
      refine lv_lload hx hb dX1_compare_28 (lv_at hl 0 rfl) ?_
      refine hf_lcmp_ge (tgt := 38) hx hb dX1_compare_30 dX1_compare_31 (by decide) (fun c5 => ?_) (fun c5 => ?_)
      · skip
        refine lv_lload_n hx hb dX1_compare_38 rfl (lv_at hl 1 rfl) ?_
        refine lv_lload hx hb dX1_compare_39 (lv_at hl 0 rfl) ?_
        refine hf_lcmp_ne (tgt := 49) hx hb dX1_compare_41 dX1_compare_42 (by decide) (fun c6 => ?_) (fun c6 => ?_)
        · skip
          refine lv_iconst (v := 3) hx hb dX1_compare_49 (by decide) ?_
          exact W.iret hx hb hr (fun t ht hW => hf_okI (by have hh := ev3.symm; subst hh; have hh := ev4.symm; subst hh; simp only [hm_compare, if_pos c1, if_pos c2, if_pos c5, if_neg c6]) ht) (fun q h => by cases h) dX1_compare_50
        · skip
          refine lv_iconst (v := 2) hx hb dX1_compare_45 (by decide) ?_
          refine lv_goto (tgt := 50) hx hb dX1_compare_46 (by decide) ?_
          exact W.iret hx hb hr (fun t ht hW => hf_okI (by have hh := ev3.symm; subst hh; have hh := ev4.symm; subst hh; simp only [hm_compare, if_pos c1, if_pos c2, if_pos c5, if_pos c6]) ht) (fun q h => by cases h) dX1_compare_50
      · skip
        refine lv_iconst (v := 1) hx hb dX1_compare_34 (by decide) ?_
        refine lv_goto (tgt := 50) hx hb dX1_compare_35 (by decide) ?_
        exact W.iret hx hb hr (fun t ht hW => hf_okI (by have hh := ev3.symm; subst hh; have hh := ev4.symm; subst hh; simp only [hm_compare, if_pos c1, if_pos c2, if_neg c5]) ht) (fun q h => by cases h) dX1_compare_50
    · skip
      refine lv_iconst (v := (-1)) hx hb dX1_compare_14 (by decide) ?_
      exact W.iret hx hb hr (fun t ht hW => hf_okI (by simp only [hm_compare, if_pos c1, if_neg c2]) ht) (fun q h => by cases h) dX1_compare_15
set_option maxHeartbeats 4000000 in
set_option maxRecDepth 100000 in
theorem met_X1_floor (l : Launch) (h0 : Nat) (a0 : Int32) : Met l yX1_floor (ws_ yX1_floor cX1_floor 2 (some .int)) ({ frames := 3, cells := 0, slots := 0, locals := 62 } : Room) (fun v _ => v = ([.ref h0, .int a0] : List Value).toArray) (k2_QcV (.int (hm_floor a0))) 0 0 (fun _ => False) := by
  refine Met.ofW (cc := cX1_floor) (maxL := 2) (ret := some .int) (by decide) rfl ?_
  intro p e s m args below meth c s₁ B hml hv
  subst hv
  have hx := B.exec
  have hb := B.bytes
  have hr := B.returns
  have hts := atoms_spec (ws := (ws_ yX1_floor cX1_floor 2 (some .int))) B.pre
  have hts : ∀ w ∈ lw_all, w.before _ s = true := fun w h => hts w (List.mem_cons_of_mem _ h)
  have hown : s.vm.findClass RX1 = some m.cls := findClass_of_methodNamed B.named
  have hlocks := B.notSynchronized
  have hl := lv_entry ([.ref h0, .int a0]) (n := 2) (Nat.le_of_ble_eq_true rfl)
  rw [lg_entry_eq]
  generalize (lg_sl ([.ref h0, .int a0]) ++ List.replicate (2 - (lg_sl ([.ref h0, .int a0])).length) Slot.unset).toArray = ls at hl ⊢
  have hl : lv_has ls 2 [(0, .ref h0), (1, .int a0)] := hl
  refine lv_iload_n hx hb dX1_floor_0 rfl (lv_at hl 1 rfl) ?_
  refine W.callV (r := .int (hm_bad a0)) (W.runS (As := [.int a0]) (rest := []) ⟨hx, hb, hml, hown, hts⟩ (met_X1_bad l a0) (va_cwS 1 hts (lw_S q154 q155 q8 q156) rfl rfl rfl (by decide +kernel) ⟨Nat.le_of_ble_eq_true rfl, Nat.le_of_ble_eq_true rfl⟩) preEq rfl rfl hl.1 rfl (lv_room (Nat.le_of_ble_eq_true rfl)) dX1_floor_1 ⟨Nat.le_of_ble_eq_true rfl, Nat.le_of_ble_eq_true rfl⟩) ?_
  refine W.eq (g2 := F0 m 4 ls [.int (hm_bad a0)]) rfl ?_
  refine lv_if_eq (tgt := 12) hx hb dX1_floor_4 (by decide) (fun c1 => ?_) (fun c1 => ?_)
  · skip
    refine lv_iload_n hx hb dX1_floor_12 rfl (lv_at hl 1 rfl) ?_
    refine W.callV (r := .long (hm_signed a0)) (W.runS (As := [.int a0]) (rest := []) ⟨hx, hb, hml, hown, hts⟩ (met_X1_signed l a0) (va_cwS 1 hts (lw_S q158 q159 q8 q160) rfl rfl rfl (by decide +kernel) ⟨Nat.le_of_ble_eq_true rfl, Nat.le_of_ble_eq_true rfl⟩) preEq rfl rfl hl.1 rfl (lv_room (Nat.le_of_ble_eq_true rfl)) dX1_floor_13 ⟨Nat.le_of_ble_eq_true rfl, Nat.le_of_ble_eq_true rfl⟩) ?_
    refine W.eq (g2 := F0 m 16 ls [.long (hm_signed a0)]) rfl ?_
    refine lv_bipush (v := 24) hx hb dX1_floor_16 (by decide) ?_
    refine lv_lshr hx hb dX1_floor_18 rfl ?_
    refine lv_l2i hx hb dX1_floor_19 rfl ?_
    exact W.iret hx hb hr (fun t ht hW => hf_okI (by simp only [hm_floor, if_pos c1]) ht) (fun q h => by cases h) dX1_floor_20
  · skip
    refine lv_ldc (v := 100000) hx hb hown (hts _ q244) dX1_floor_7 ?_
    refine lv_goto (tgt := 20) hx hb dX1_floor_9 (by decide) ?_
    exact W.iret hx hb hr (fun t ht hW => hf_okI (by simp only [hm_floor, if_neg c1]) ht) (fun q h => by cases h) dX1_floor_20
end
section
/-! the two objects as worlds of one cell -/
abbrev vwCl : List vw_C := [(RX0, TX0, 9), (RX1, TX1, 2)]
abbrev hf_T5 : Type := Int32 × Int32 × Int32 × Int64 × Int64
abbrev hf_T9 : Type := Int64 × Int64 × Int64 × Int32 × Int32 × Int32 × Int32 × Int64 × Int64
abbrev hf_T2 : Type := Int32 × Int32
/-- a HalfFloat at h0 with these fields -/
def hf_O0 (D : va_G) (h0 : Nat) (w : hf_T9) (H : Heap) : Prop := va_P D vwCl [(h0, .inr (0, [.long w.1, .long w.2.1, .long w.2.2.1, .int w.2.2.2.1, .int w.2.2.2.2.1, .int w.2.2.2.2.2.1, .int w.2.2.2.2.2.2.1, .long w.2.2.2.2.2.2.2.1, .long w.2.2.2.2.2.2.2.2]))] H
/-- a HalfFloatModel at h0 with these fields -/
def hf_O1 (D : va_G) (h0 : Nat) (w : hf_T2) (H : Heap) : Prop := va_P D vwCl [(h0, .inr (1, [.int w.1, .int w.2]))] H
/-- where a writing has been found, its scale isn't 0 -/
def hf_okx (q : hf_T5) : Prop := ¬ q.1 = 0 → ¬ q.2.2.2.2 = 0
theorem hf_D1 (h0 : Nat) (e : va_E) : va_D (fun q => q = h0) [(h0, e)] := by
  have one : ∀ (k : Nat) (q : Nat × va_E), [(h0, e)][k]? = some q → k = 0 ∧ q = (h0, e) := by
    intro k q hk
    match k, hk with
    | 0, hk => exact ⟨rfl, (Option.some.inj hk).symm⟩
    | k + 1, hk => simp at hk
  exact ⟨fun i j p q hi hj _ => by rw [(one i p hi).1, (one j q hj).1], fun k q hk => by rw [(one k q hk).2]⟩
end
section
/-- HalfFloat.nearer, as its bytecode computes it -/
def hx_nearer (f5 : Int32) (f6 : Int32) (f7 : Int64) (f8 : Int64) (a0 : Int64) (a1 : Int64) (a2 : Int64) (a3 : Int32) : Int32 :=
  let v1 : Int64 := (if (f8 : Int64) ≤ (a1 : Int64) then (a0)
      else (a0 * (f8 / a1)));
    let v3 : Int64 := (if (a1 : Int64) ≤ (f8 : Int64) then (f7)
      else (f7 * (a1 / f8)));
    if (v1 : Int64) = (v3 : Int64) then (hx_isLess a2 a3 ((f5 : Int32).toInt64) f6)
    else (if (v3 : Int64) ≤ (v1 : Int64) then (0)
      else (1))
/-- HalfFloat.offer, as its bytecode computes it -/
def hx_offer (f0 : Int64) (f1 : Int64) (f2 : Int64) (f3 : Int32) (f4 : Int32) (f5 : Int32) (f6 : Int32) (f7 : Int64) (f8 : Int64) (a0 : Int64) (a1 : Int32) (a2 : Int64) (a3 : Int64) : Int32 × Int32 × Int32 × Int64 × Int64 :=
  if (a0 - a0 / 10 * 10 : Int64) = (0 : Int64) then ((f4, f5, f6, f7, f8))
    else (let v2 : Int64 := (a0 * a2 : Int64) <<< ((26 : Int32).toInt64 &&& 63);
      let v3 : Int64 := f1 * a3;
      let v4 : Int64 := f2 * a3;
      let v5 : Int32 := (if (v2 : Int64) ≤ (v3 : Int64) then (if (f3 : Int32) = (0 : Int32) then (0)
          else (if (v2 : Int64) = (v3 : Int64) then (1)
            else (if (v2 : Int64) = (v4 : Int64) then (1)
              else (0))))
        else (if (v2 : Int64) < (v4 : Int64) then (1)
          else (if (f3 : Int32) = (0 : Int32) then (0)
            else (if (v2 : Int64) = (v3 : Int64) then (1)
              else (if (v2 : Int64) = (v4 : Int64) then (1)
                else (0))))));
      if (v5 : Int32) = (0 : Int32) then ((f4, f5, f6, f7, f8))
      else (let v15 : Int64 := (if (v2 : Int64) ≤ (f0 * a3 : Int64) then ((f0 * a3) - v2)
          else (v2 - (f0 * a3)));
        if (f4 : Int32) = (0 : Int32) then (let v18 : Int32 := (a0 : Int64).toInt32;
          (1, v18, a1, v15, a3))
        else (if (hx_nearer f5 f6 f7 f8 v15 a3 a0 a1 : Int32) = (0 : Int32) then ((f4, f5, f6, f7, f8))
          else (let v20 : Int32 := (a0 : Int64).toInt32;
            (1, v20, a1, v15, a3)))))
/-- HalfFloat.tryPower, as its bytecode computes it -/
def hx_tryPower_s79 (v8 : Int64) (v7 : Int64) (v6 : Int64) (v3 : Int64) (v1 : Int64) (a1 : Int32) (f0 : Int64) (f1 : Int64) (f2 : Int64) (f3 : Int32) : (Int64 × Int32 × Int32 × Int32 × Int64 × Int64) → Option (Int64 × Int32 × Int32 × Int32 × Int64 × Int64) := fun ⟨x79_13, y79_4, y79_5, y79_6, y79_7, y79_8⟩ =>
  if (v6 + 1 : Int64) < (x79_13 : Int64) then (none)
    else (let v10 : Int64 := (if (v7 : Int64) ≤ (x79_13 : Int64) then (if (x79_13 : Int64) ≤ (v8 : Int64) then (x79_13)
          else (v8))
        else (v7));
      let w13 : Int32 × Int32 × Int32 × Int64 × Int64 := hx_offer f0 f1 f2 f3 y79_4 y79_5 y79_6 y79_7 y79_8 v10 a1 v1 v3;
      let v14 : Int64 := x79_13 + 1;
      some (v14, w13.1, w13.2.1, w13.2.2.1, w13.2.2.2.1, w13.2.2.2.2))
def hx_tryPower (f0 : Int64) (f1 : Int64) (f2 : Int64) (f3 : Int32) (f4 : Int32) (f5 : Int32) (f6 : Int32) (f7 : Int64) (f8 : Int64) (a0 : Int32) (a1 : Int32) : Int32 × Int32 × Int32 × Int64 × Int64 :=
  let v1 : Int64 := (if (a1 : Int32) ≤ (0 : Int32) then (1)
      else (hx_power a1));
    let v3 : Int64 := (if (0 : Int32) ≤ (a1 : Int32) then (1)
      else (hx_power (-a1)));
    if (f0 / v1 : Int64) ≤ (67108864000000 / v3 : Int64) then (let v6 : Int64 := (f0 * v3) / ((v1 : Int64) <<< ((26 : Int32).toInt64 &&& 63));
      let v7 : Int64 := hx_power (a0 - 1);
      let v8 : Int64 := (hx_power a0) - 1;
      let q79 : Int64 × Int32 × Int32 × Int32 × Int64 × Int64 := hf_run (hx_tryPower_s79 v8 v7 v6 v3 v1 a1 f0 f1 f2 f3) 2 (v6, f4, f5, f6, f7, f8);
      (q79.2.1, q79.2.2.1, q79.2.2.2.1, q79.2.2.2.2.1, q79.2.2.2.2.2))
    else ((f4, f5, f6, f7, f8))
/-- HalfFloat.findWriting, as its bytecode computes it -/
def hx_findWriting_s126 (x109_6 : Int32) (v2 : Int64) (v9 : Int64) (v10 : Int64) (v11 : Int32) : (Int32 × Int32 × Int32 × Int32 × Int64 × Int64) → Option (Int32 × Int32 × Int32 × Int32 × Int64 × Int64) := fun ⟨x126_7, y126_4, y126_5, y126_6, y126_7, y126_8⟩ =>
  if (x126_7 : Int32) < ((-12) : Int32) then (none)
    else (let w16 : Int32 × Int32 × Int32 × Int64 × Int64 := hx_tryPower v2 v9 v10 v11 y126_4 y126_5 y126_6 y126_7 y126_8 x109_6 x126_7;
      let v17 : Int32 := x126_7 + (-1);
      some (v17, w16.1, w16.2.1, w16.2.2.1, w16.2.2.2.1, w16.2.2.2.2))
def hx_findWriting_s109 (v2 : Int64) (v9 : Int64) (v10 : Int64) (v11 : Int32) : (Int32 × Int32 × Int32 × Int32 × Int64 × Int64) → Option (Int32 × Int32 × Int32 × Int32 × Int64 × Int64) := fun ⟨x109_6, y109_4, y109_5, y109_6, y109_7, y109_8⟩ =>
  if (6 : Int32) < (x109_6 : Int32) then (none)
    else (if (y109_4 : Int32) = (0 : Int32) then (let q126 : Int32 × Int32 × Int32 × Int32 × Int64 × Int64 := hf_run (hx_findWriting_s126 x109_6 v2 v9 v10 v11) 17 (4, y109_4, y109_5, y109_6, y109_7, y109_8);
        let v15 : Int32 := x109_6 + 1;
        some (v15, q126.2.1, q126.2.2.1, q126.2.2.2.1, q126.2.2.2.2.1, q126.2.2.2.2.2))
      else (none))
def hx_findWriting (f5 : Int32) (f6 : Int32) (f7 : Int64) (f8 : Int64) (a0 : Int32) : Int64 × Int64 × Int64 × Int32 × Int32 × Int32 × Int32 × Int64 × Int64 :=
  let v1 : Int32 := a0 &&& 32767;
    let v2 : Int64 := ((hx_digitsOf v1 : Int32).toInt64 : Int64) <<< (((hx_placeOf v1) + 2 : Int32).toInt64 &&& 63);
    let v3 : Int64 := (2 : Int64) <<< ((hx_placeOf v1 : Int32).toInt64 &&& 63);
    let v4 : Int32 := (if (v1 &&& 1023 : Int32) = (0 : Int32) then (if (v1 : Int32) ≤ (1024 : Int32) then (0)
        else (1))
      else (0));
    let v7 : Int64 := (if (v4 : Int32) = (0 : Int32) then (v3)
      else (v3 / 2));
    let v9 : Int64 := v2 - v7;
    let v10 : Int64 := v2 + v3;
    let v11 : Int32 := (if (v1 &&& 1 : Int32) = (0 : Int32) then (1)
      else (0));
    let q109 : Int32 × Int32 × Int32 × Int32 × Int64 × Int64 := hf_run (hx_findWriting_s109 v2 v9 v10 v11) 6 (1, 0, f5, f6, f7, f8);
    (v2, v9, v10, v11, q109.2.1, q109.2.2.1, q109.2.2.2.1, q109.2.2.2.2.1, q109.2.2.2.2.2)
/-- HalfFloat.digits, as its bytecode computes it -/
def hx_digits (f5 : Int32) (f6 : Int32) (f7 : Int64) (f8 : Int64) (a0 : Int32) : Int32 :=
  if (hx_isNumber a0 : Int32) = (0 : Int32) then ((-1))
    else (if (hx_digitsOf a0 : Int32) = (0 : Int32) then (0)
      else (let w3 : Int64 × Int64 × Int64 × Int32 × Int32 × Int32 × Int32 × Int64 × Int64 := hx_findWriting f5 f6 f7 f8 a0;
        w3.2.2.2.2.2.1))
/-- HalfFloat.exponent, as its bytecode computes it -/
def hx_exponent (f5 : Int32) (f6 : Int32) (f7 : Int64) (f8 : Int64) (a0 : Int32) : Int32 :=
  if (hx_isNumber a0 : Int32) = (0 : Int32) then (100)
    else (if (hx_digitsOf a0 : Int32) = (0 : Int32) then (0)
      else (let w3 : Int64 × Int64 × Int64 × Int32 × Int32 × Int32 × Int32 × Int64 × Int64 := hx_findWriting f5 f6 f7 f8 a0;
        w3.2.2.2.2.2.2.1))
/-- HalfFloatModel.take, as its bytecode computes it -/
def hm_take (f0 : Int32) (f1 : Int32) (a0 : Int64) (a1 : Int32) (a2 : Int64) : Int32 × Int32 :=
  let v1 : Int32 := hm_length a0;
    let v2 : Int32 := (if (f0 : Int32) = (0 : Int32) then (100)
      else (hm_length ((f0 : Int32).toInt64)));
    if (v1 : Int32) < (v2 : Int32) then (let v5 : Int32 := (a0 : Int64).toInt32;
      (v5, a1))
    else (if (v1 : Int32) = (v2 : Int32) then (if (hm_nearer a0 a1 ((f0 : Int32).toInt64) f1 a2 : Int32) = (0 : Int32) then ((f0, f1))
        else (let v8 : Int32 := (a0 : Int64).toInt32;
          (v8, a1)))
      else ((f0, f1)))
/-- HalfFloatModel.write, as its bytecode computes it -/
def hm_write_s100 (v9 : Int64) (x13_4 : Int32) (v1 : Int64) (a0 : Int32) : (Int64 × Int32 × Int32) → Option (Int64 × Int32 × Int32) := fun ⟨x100_10, y100_0, y100_1⟩ =>
  if (v9 + 1 : Int64) < (x100_10 : Int64) then (none)
    else (if (999999 : Int64) ≤ (v9 : Int64) then (none)
      else (if (x100_10 : Int64) < (1 : Int64) then (let v15 : Int64 := x100_10 + 1;
          some (v15, y100_0, y100_1))
        else (if (x100_10 - x100_10 / 10 * 10 : Int64) = (0 : Int64) then (let v17 : Int64 := x100_10 + 1;
            some (v17, y100_0, y100_1))
          else (if (hm_parsed x100_10 x13_4 : Int32) = (a0 &&& 32767 : Int32) then (let w20 : Int32 × Int32 := hm_take y100_0 y100_1 x100_10 x13_4 v1;
              let v21 : Int64 := x100_10 + 1;
              some (v21, w20.1, w20.2))
            else (let v19 : Int64 := x100_10 + 1;
              some (v19, y100_0, y100_1))))))
def hm_write_s13 (v1 : Int64) (a0 : Int32) : (Int32 × Int32 × Int32) → Option (Int32 × Int32 × Int32) := fun ⟨x13_4, y13_0, y13_1⟩ =>
  if (x13_4 : Int32) < ((-12) : Int32) then (none)
    else (let v3 : Int32 := (if (0 : Int32) ≤ (x13_4 : Int32) then (x13_4)
        else (-x13_4));
      let v5 : Int64 := hm_power v3;
      let v6 : Int32 := (if (0 : Int32) ≤ (x13_4 : Int32) then (1)
        else (if (9000000000000000000 / v5 : Int64) ≤ (v1 : Int64) then (0)
          else (1)));
      let v9 : Int64 := (if (v6 : Int32) = (0 : Int32) then (1000000)
        else (if (x13_4 : Int32) < (0 : Int32) then ((v1 * v5 : Int64) >>> ((24 : Int32).toInt64 &&& 63))
          else (((v1 : Int64) >>> ((24 : Int32).toInt64 &&& 63)) / v5)));
      let q100 : Int64 × Int32 × Int32 := hf_run (hm_write_s100 v9 x13_4 v1 a0) 2 (v9, y13_0, y13_1);
      let v12 : Int32 := x13_4 + (-1);
      some (v12, q100.2.1, q100.2.2))
def hm_write (f1 : Int32) (a0 : Int32) : Int32 × Int32 :=
  let v1 : Int64 := hm_amount a0;
    let q13 : Int32 × Int32 × Int32 := hf_run (hm_write_s13 v1 a0) 17 (4, 0, f1);
    (q13.2.1, q13.2.2)
/-- HalfFloatModel.digits, as its bytecode computes it -/
def hm_digits (f1 : Int32) (a0 : Int32) : Int32 :=
  if (hm_bad a0 : Int32) = (0 : Int32) then (if (hm_digitsOf a0 : Int64) = (0 : Int64) then (0)
      else (let w3 : Int32 × Int32 := hm_write f1 a0;
        w3.1))
    else ((-1))
/-- HalfFloatModel.exponent, as its bytecode computes it -/
def hm_exponent (f1 : Int32) (a0 : Int32) : Int32 :=
  if (hm_bad a0 : Int32) = (0 : Int32) then (if (hm_digitsOf a0 : Int64) = (0 : Int64) then (0)
      else (let w3 : Int32 × Int32 := hm_write f1 a0;
        w3.2))
    else (100)
end
section
/-! what the walks of the methods with fields ask: no divisor is 0, the loops end -/
theorem hx_isLess_nar (a : Int64) (b : Int32) (c : Int64) (d : Int32) : narrow .boolean (.int (hx_isLess a b c d)) = .int (hx_isLess a b c d) := by
  unfold hx_isLess
  split <;> split <;> rfl
theorem hx_power_nat {n : Nat} (hn : n < 2 ^ 31) : hx_power (nI n) = lN (10 ^ (min n 12)) := by
  have h := hf_inv (hx_power_s4 (nI n)) (fun q => ∃ j : Nat, j ≤ 12 ∧ j ≤ n ∧ q = (lN (10 ^ j), nI j)) (by
    rintro q t ⟨j, hj, hjn, rfl⟩ h
    simp only [hx_power_s4] at h
    by_cases c1 : nI n ≤ nI j
    · simp [c1] at h
    · by_cases c2 : (12 : Int32) ≤ nI j
      · simp [c1, c2] at h
      · simp only [c1, c2, if_false] at h
        rw [show (12 : Int32) = nI 12 from rfl, nI_leI (by omega) (by omega)] at c2
        rw [nI_leI (by omega) (by omega)] at c1
        refine ⟨j + 1, by omega, by omega, ?_⟩
        rw [← Option.some.inj h, nI_1, show (10 : Int64) = lN 10 from rfl, lN_mul, Nat.pow_succ]) 12 (1, 0) ⟨0, by decide, by omega, rfl⟩
  have hE := hx_power_end (nI n)
  obtain ⟨j, hj, hjn, e⟩ := h
  rw [e] at hE
  simp only [hx_power_s4] at hE
  have hj' : j = min n 12 := by
    by_cases c1 : nI n ≤ nI j
    · rw [nI_leI (by omega) (by omega)] at c1
      omega
    · by_cases c2 : (12 : Int32) ≤ nI j
      · rw [show (12 : Int32) = nI 12 from rfl, nI_leI (by omega) (by omega)] at c2
        omega
      · simp [c1, c2] at hE
  simp only [hx_power]
  rw [e, hj']
theorem hf_up_ne (a1 : Int32) : ¬ (if (a1 : Int32) ≤ (0 : Int32) then ((1 : Int64)) else (hx_power a1)) = 0 := by
  split
  · decide
  · exact hx_power_ne _
theorem hf_dn_ne (a1 : Int32) : ¬ (if (0 : Int32) ≤ (a1 : Int32) then ((1 : Int64)) else (hx_power (-a1))) = 0 := by
  split
  · decide
  · exact hx_power_ne _
theorem hf_up_form {a1 : Int32} (h : a1 ≤ 4) : ∃ j : Nat, j ≤ 4 ∧ (if (a1 : Int32) ≤ (0 : Int32) then ((1 : Int64)) else (hx_power a1)) = lN (10 ^ j) := by
  split
  · exact ⟨0, by decide, rfl⟩
  · rename_i c
    obtain ⟨j, hj, rfl⟩ := nI_of2 (M := 4) (n := 4) rfl (x := a1) (by rw [Int32.lt_iff_toInt_lt]; rw [Int32.le_iff_toInt_le] at c; omega) h
    refine ⟨j, hj, ?_⟩
    rw [hx_power_nat (by omega), Nat.min_eq_left (by omega)]
theorem hf_up26 {a1 : Int32} (h : a1 ≤ 4) : ∃ j : Nat, j ≤ 4 ∧ ((if (a1 : Int32) ≤ (0 : Int32) then ((1 : Int64)) else (hx_power a1)) <<< ((26 : Int32).toInt64 &&& 63)) = lN (10 ^ j * 2 ^ 26) := by
  obtain ⟨j, hj, e⟩ := hf_up_form h
  refine ⟨j, hj, ?_⟩
  rw [e]
  exact wb_shl (10 ^ j) (k := 26) (by decide)
theorem hf_p4 {j : Nat} (hj : j ≤ 4) : 2 ^ 26 ≤ 10 ^ j * 2 ^ 26 ∧ 10 ^ j * 2 ^ 26 < 2 ^ 62 := by
  have h1 : 1 ≤ 10 ^ j := Nat.pow_pos (by decide)
  have h2 : 10 ^ j ≤ 10 ^ 4 := Nat.pow_le_pow_right (by decide) hj
  omega
theorem hf_up26_ne {a1 : Int32} (h : a1 ≤ 4) : ¬ ((if (a1 : Int32) ≤ (0 : Int32) then ((1 : Int64)) else (hx_power a1)) <<< ((26 : Int32).toInt64 &&& 63)) = 0 := by
  obtain ⟨j, hj, e⟩ := hf_up26 h
  have hp := hf_p4 hj
  rw [e, show (0 : Int64) = lN 0 from rfl, pk_lEQ (by omega) (by decide)]
  omega
theorem hf_below (f0 v3 : Int64) {a1 : Int32} (h : a1 ≤ 4) : ((f0 * v3) / ((if (a1 : Int32) ≤ (0 : Int32) then ((1 : Int64)) else (hx_power a1)) <<< ((26 : Int32).toInt64 &&& 63))).toInt < 2 ^ 62 := by
  obtain ⟨j, hj, e⟩ := hf_up26 h
  have hp := hf_p4 hj
  rw [e]
  generalize f0 * v3 = x
  have hne : lN (10 ^ j * 2 ^ 26) ≠ -1 := by
    intro g
    have := congrArg Int64.toInt g
    rw [pf_lI (by omega), show (-1 : Int64).toInt = -1 from rfl] at this
    omega
  rw [Int64.toInt_div_of_ne_right _ _ hne, pf_lI (by omega)]
  generalize 10 ^ j * 2 ^ 26 = b at hp
  have hx := x.toInt_lt
  rcases Int.lt_or_le x.toInt 0 with h0 | h0
  · have : x.toInt.tdiv (b : Int) ≤ 0 := by
      have h3 : x.toInt = -(-x.toInt) := by omega
      rw [h3, Int.neg_tdiv]
      have := Int.tdiv_nonneg (a := -x.toInt) (b := (b : Int)) (by omega) (by omega)
      omega
    omega
  · rw [Int.tdiv_eq_ediv_of_nonneg h0]
    apply Int.ediv_lt_of_lt_mul (by omega)
    omega
theorem hf_add1L {k : Int64} (h : k.toInt < 2 ^ 63 - 1) : (k + 1).toInt = k.toInt + 1 := by
  rw [Int64.toInt_add, show (1 : Int64).toInt = 1 from rfl]
  have := k.le_toInt
  exact Int.bmod_eq_of_le_mul_two (by omega) (by omega)
theorem hx_tryPower_end {v8 v7 v6 v3 v1 : Int64} {a1 : Int32} {f0 f1 f2 : Int64} {f3 f4 f5 f6 : Int32} {f7 f8 : Int64} (hb : v6.toInt < 2 ^ 62) :
    hx_tryPower_s79 v8 v7 v6 v3 v1 a1 f0 f1 f2 f3 (hf_run (hx_tryPower_s79 v8 v7 v6 v3 v1 a1 f0 f1 f2 f3) 2 (v6, f4, f5, f6, f7, f8)) = none := by
  have e1 := hf_add1L (k := v6) (by omega)
  refine hf_end (hx_tryPower_s79 v8 v7 v6 v3 v1 a1 f0 f1 f2 f3) (fun n q => q.1.toInt + n = v6.toInt + 2 ∧ n ≤ 2) ?_ ?_ 2 _ ⟨by simp, by decide⟩
  · rintro ⟨x, r⟩ ⟨h1, h2⟩
    have h : v6 + 1 < x := by
      rw [Int64.lt_iff_toInt_lt, e1]
      simp only at h1
      omega
    simp [hx_tryPower_s79, h]
  · rintro n ⟨x, r4, r5, r6, r7, r8⟩ t ⟨h1, h2⟩ h
    simp only at h1
    have c1 : ¬ v6 + 1 < x := by
      rw [Int64.lt_iff_toInt_lt, e1]
      omega
    simp only [hx_tryPower_s79, c1, if_false] at h
    have e2 := hf_add1L (k := x) (by omega)
    rw [← Option.some.inj h]
    simp only [e2]
    omega
theorem hf_ite {α : Sort _} {P : α → Prop} {c : Prop} [Decidable c] {a b : α} (ha : c → P a) (hb : ¬ c → P b) : P (if c then a else b) := by
  by_cases h : c
  · rw [if_pos h]; exact ha h
  · rw [if_neg h]; exact hb h
theorem hx_offer_ok (f0 f1 f2 : Int64) (f3 f4 f5 f6 : Int32) (f7 f8 : Int64) (a0 : Int64) (a1 : Int32) (a2 a3 : Int64) (h1 : ¬ a3 = 0) (h2 : hf_okx (f4, f5, f6, f7, f8)) : hf_okx (hx_offer f0 f1 f2 f3 f4 f5 f6 f7 f8 a0 a1 a2 a3) := by
  unfold hx_offer
  refine hf_ite (P := hf_okx) (fun _ => h2) (fun _ => ?_)
  refine hf_ite (P := hf_okx) (fun _ => h2) (fun _ => ?_)
  refine hf_ite (P := hf_okx) (fun _ => fun _ => h1) (fun _ => ?_)
  exact hf_ite (P := hf_okx) (fun _ => h2) (fun _ => fun _ => h1)
theorem hx_tryPower_ok (f0 f1 f2 : Int64) (f3 f4 f5 f6 : Int32) (f7 f8 : Int64) (a0 a1 : Int32) (h2 : hf_okx (f4, f5, f6, f7, f8)) : hf_okx (hx_tryPower f0 f1 f2 f3 f4 f5 f6 f7 f8 a0 a1) := by
  have key : ∀ v8 v7 v6 v3 v1 : Int64, ¬ v3 = 0 → hf_okx (hf_run (hx_tryPower_s79 v8 v7 v6 v3 v1 a1 f0 f1 f2 f3) 2 (v6, f4, f5, f6, f7, f8)).2 := by
    intro v8 v7 v6 v3 v1 hd
    refine hf_inv (hx_tryPower_s79 v8 v7 v6 v3 v1 a1 f0 f1 f2 f3) (fun q => hf_okx q.2) ?_ 2 (v6, f4, f5, f6, f7, f8) h2
    rintro ⟨x, r4, r5, r6, r7, r8⟩ t hI h
    have hI : hf_okx (r4, r5, r6, r7, r8) := hI
    by_cases c : v6 + 1 < x
    · simp only [hx_tryPower_s79, c, if_true] at h
      cases h
    · simp only [hx_tryPower_s79, c, if_false] at h
      rw [← Option.some.inj h]
      exact hx_offer_ok _ _ _ _ _ _ _ _ _ _ _ _ _ hd hI
  unfold hx_tryPower
  exact hf_ite (P := hf_okx) (fun _ => key _ _ _ _ _ (hf_dn_ne a1)) (fun _ => h2)
theorem hf_dec4 {x : Int32} (h : x ≤ 4) (h2 : ¬ x < (-12)) : x + (-1) ≤ 4 := by
  rw [Int32.le_iff_toInt_le, show (4 : Int32).toInt = 4 from rfl] at h
  rw [Int32.lt_iff_toInt_lt, show (-12 : Int32).toInt = -12 from rfl] at h2
  rw [Int32.le_iff_toInt_le, show (4 : Int32).toInt = 4 from rfl, hf_subm1 (by omega)]
  omega
theorem hx_findWriting_end126 {x109_6 : Int32} {v2 v9 v10 : Int64} {v11 r4 r5 r6 : Int32} {r7 r8 : Int64} : hx_findWriting_s126 x109_6 v2 v9 v10 v11 (hf_run (hx_findWriting_s126 x109_6 v2 v9 v10 v11) 17 (4, r4, r5, r6, r7, r8)) = none := by
  refine hf_end (hx_findWriting_s126 x109_6 v2 v9 v10 v11) (fun n q => q.1.toInt + 13 = n ∧ n ≤ 17) ?_ ?_ 17 _ ⟨show (4 : Int32).toInt + 13 = ((17 : Nat) : Int) from by decide, by decide⟩
  · rintro ⟨x, r⟩ ⟨h1, h2⟩
    have h : x < (-12) := by
      rw [Int32.lt_iff_toInt_lt, show (-12 : Int32).toInt = -12 from rfl]
      simp only at h1
      omega
    simp [hx_findWriting_s126, h]
  · rintro n ⟨x, r4, r5, r6, r7, r8⟩ t ⟨h1, h2⟩ h
    simp only at h1
    have c1 : ¬ x < (-12) := by
      rw [Int32.lt_iff_toInt_lt, show (-12 : Int32).toInt = -12 from rfl]
      omega
    simp only [hx_findWriting_s126, c1, if_false] at h
    have e2 := hf_subm1 (k := x) (by omega)
    rw [← Option.some.inj h]
    simp only [e2]
    omega
theorem hx_findWriting_end109 {v2 v9 v10 : Int64} {v11 r4 r5 r6 : Int32} {r7 r8 : Int64} : hx_findWriting_s109 v2 v9 v10 v11 (hf_run (hx_findWriting_s109 v2 v9 v10 v11) 6 (1, r4, r5, r6, r7, r8)) = none := by
  refine hf_end (hx_findWriting_s109 v2 v9 v10 v11) (fun n q => q.1.toInt + n = 7 ∧ n ≤ 6) ?_ ?_ 6 _ ⟨show (1 : Int32).toInt + ((6 : Nat) : Int) = 7 from by decide, by decide⟩
  · rintro ⟨x, r⟩ ⟨h1, h2⟩
    have h : 6 < x := by
      rw [Int32.lt_iff_toInt_lt, show (6 : Int32).toInt = 6 from rfl]
      simp only at h1
      omega
    simp [hx_findWriting_s109, h]
  · rintro n ⟨x, r4, r5, r6, r7, r8⟩ t ⟨h1, h2⟩ h
    simp only at h1
    have c1 : ¬ 6 < x := by
      rw [Int32.lt_iff_toInt_lt, show (6 : Int32).toInt = 6 from rfl]
      omega
    simp only [hx_findWriting_s109, c1, if_false] at h
    split at h
    · have e2 := hf_add1 (k := x) (by omega)
      rw [← Option.some.inj h]
      simp only [e2]
      omega
    · cases h
theorem hm_write_end100 {v9 : Int64} {x13_4 : Int32} {v1 : Int64} {a0 r0 r1 : Int32} : hm_write_s100 v9 x13_4 v1 a0 (hf_run (hm_write_s100 v9 x13_4 v1 a0) 2 (v9, r0, r1)) = none := by
  by_cases c : (999999 : Int64) ≤ v9
  · have h : hm_write_s100 v9 x13_4 v1 a0 (v9, r0, r1) = none := by
      simp only [hm_write_s100, c, if_true]
      split <;> rfl
    rw [hf_run_none h]
    exact h
  · have hb : v9.toInt < 999999 := by
      rw [Int64.le_iff_toInt_le, show (999999 : Int64).toInt = 999999 from rfl] at c
      omega
    have e1 := hf_add1L (k := v9) (by omega)
    refine hf_end (hm_write_s100 v9 x13_4 v1 a0) (fun n q => q.1.toInt + n = v9.toInt + 2 ∧ n ≤ 2) ?_ ?_ 2 _ ⟨by simp, by decide⟩
    · rintro ⟨x, r⟩ ⟨h1, h2⟩
      have h : v9 + 1 < x := by
        rw [Int64.lt_iff_toInt_lt, e1]
        simp only at h1
        omega
      simp [hm_write_s100, h]
    · rintro n ⟨x, r0, r1⟩ t ⟨h1, h2⟩ h
      simp only at h1
      have c1 : ¬ v9 + 1 < x := by
        rw [Int64.lt_iff_toInt_lt, e1]
        omega
      have e2 := hf_add1L (k := x) (by omega)
      simp only [hm_write_s100, c1, c, if_false] at h
      split at h
      · rw [← Option.some.inj h]
        simp only [e2]
        omega
      · split at h
        · rw [← Option.some.inj h]
          simp only [e2]
          omega
        · split at h
          · rw [← Option.some.inj h]
            simp only [e2]
            omega
          · rw [← Option.some.inj h]
            simp only [e2]
            omega
theorem hm_write_end13 {v1 : Int64} {a0 r0 r1 : Int32} : hm_write_s13 v1 a0 (hf_run (hm_write_s13 v1 a0) 17 (4, r0, r1)) = none := by
  refine hf_end (hm_write_s13 v1 a0) (fun n q => q.1.toInt + 13 = n ∧ n ≤ 17) ?_ ?_ 17 _ ⟨show (4 : Int32).toInt + 13 = ((17 : Nat) : Int) from by decide, by decide⟩
  · rintro ⟨x, r⟩ ⟨h1, h2⟩
    have h : x < (-12) := by
      rw [Int32.lt_iff_toInt_lt, show (-12 : Int32).toInt = -12 from rfl]
      simp only at h1
      omega
    simp [hm_write_s13, h]
  · rintro n ⟨x, r0, r1⟩ t ⟨h1, h2⟩ h
    simp only at h1
    have c1 : ¬ x < (-12) := by
      rw [Int32.lt_iff_toInt_lt, show (-12 : Int32).toInt = -12 from rfl]
      omega
    simp only [hm_write_s13, c1, if_false] at h
    have e2 := hf_subm1 (k := x) (by omega)
    rw [← Option.some.inj h]
    simp only [e2]
    omega
theorem hm_power_nat {n : Nat} (hn : n < 2 ^ 31) : hm_power (nI n) = lN (10 ^ n) := by
  have h := hf_inv (hm_power_s4 (nI n)) (fun q => ∃ j : Nat, j ≤ n ∧ q = (lN (10 ^ j), nI j)) (by
    rintro q t ⟨j, hjn, rfl⟩ h
    simp only [hm_power_s4] at h
    by_cases c1 : nI n ≤ nI j
    · simp [c1] at h
    · simp only [c1, if_false] at h
      rw [nI_leI (by omega) (by omega)] at c1
      refine ⟨j + 1, by omega, ?_⟩
      rw [← Option.some.inj h, nI_1, show (10 : Int64) = lN 10 from rfl, lN_mul, Nat.pow_succ, Nat.mul_comm]) (nI n).toNatClampNeg (1, 0) ⟨0, by omega, rfl⟩
  have hE := hm_power_end (nI n)
  obtain ⟨j, hjn, e⟩ := h
  rw [e] at hE
  simp only [hm_power_s4] at hE
  have hj' : j = n := by
    by_cases c1 : nI n ≤ nI j
    · rw [nI_leI (by omega) (by omega)] at c1
      omega
    · simp [c1] at hE
  simp only [hm_power]
  rw [e, hj']
theorem hm_scale_ne {x : Int32} (h : x ≤ 4) (h2 : ¬ x < (-12)) : ¬ hm_power (if (0 : Int32) ≤ (x : Int32) then (x) else (-x)) = 0 := by
  have hk : ∃ n : Nat, n ≤ 12 ∧ (if (0 : Int32) ≤ (x : Int32) then (x) else (-x)) = nI n := by
    rw [Int32.le_iff_toInt_le, show (4 : Int32).toInt = 4 from rfl] at h
    rw [Int32.lt_iff_toInt_lt, show (-12 : Int32).toInt = -12 from rfl] at h2
    split
    · rename_i c
      rw [Int32.le_iff_toInt_le, show (0 : Int32).toInt = 0 from rfl] at c
      refine ⟨x.toInt.toNat, by omega, ?_⟩
      rw [← Int32.toInt_inj, nI_toInt (by omega)]
      omega
    · rename_i c
      rw [Int32.le_iff_toInt_le, show (0 : Int32).toInt = 0 from rfl] at c
      refine ⟨(-x.toInt).toNat, by omega, ?_⟩
      rw [← Int32.toInt_inj, nI_toInt (by omega), Int32.toInt_neg, Int.bmod_eq_of_le_mul_two (by omega) (by omega)]
      omega
  obtain ⟨n, hn, e⟩ := hk
  rw [e, hm_power_nat (by omega), show (0 : Int64) = lN 0 from rfl, pk_lEQ (hn_pow10 (by omega)) (by decide)]
  exact Nat.ne_of_gt (Nat.pow_pos (by decide))
end
section
set_option maxHeartbeats 1000000 in
set_option maxRecDepth 100000 in
theorem met_X0_nearer (l : Launch) (dC : Nat → ClassId) (dI : Nat → Nat → Nat) (h0 : Nat) (f0 : Int64) (f1 : Int64) (f2 : Int64) (f3 : Int32) (f4 : Int32) (f5 : Int32) (f6 : Int32) (f7 : Int64) (f8 : Int64) (a0 : Int64) (a1 : Int64) (a2 : Int64) (a3 : Int32) (h1 : ¬ a1 = 0) (h2 : ¬ f8 = 0) : Met l yX0_nearer (ws_ yX0_nearer cX0_nearer 12 (some .boolean)) ({ frames := 2, cells := 0, slots := 0, locals := 48 } : Room) (va_Pc [.ref h0, .long a0, .long a1, .long a2, .int a3] (fun U => hf_O0 (dC, dI) h0 (f0, f1, f2, f3, f4, f5, f6, f7, f8) U.heap ∧ va_K (dC, dI) vwCl [] U)) (k2_QcV (.int (hx_nearer f5 f6 f7 f8 a0 a1 a2 a3))) 0 0 (fun _ => False) := by
  refine Met.ofW (cc := cX0_nearer) (maxL := 12) (ret := (some .boolean)) (by decide) rfl ?_
  intro p e s m args below meth c s₁ B hml hv
  obtain ⟨hv, hP, hK⟩ := hv
  subst hv
  have hx := B.exec
  have hb := B.bytes
  have hr := B.returns
  have hts := atoms_spec (ws := (ws_ yX0_nearer cX0_nearer 12 (some .boolean))) B.pre
  have hts : ∀ w ∈ lw_all, w.before _ s = true := fun w h => hts w (List.mem_cons_of_mem _ h)
  have hown : s.vm.findClass RX0 = some m.cls := findClass_of_methodNamed B.named
  have hlocks := B.notSynchronized
  have hS : va_S (fun q => q = h0) s.heap s.heap [] := va_S.rf
  have hP : va_P (dC, dI) vwCl [(h0, .inr (0, [.long f0, .long f1, .long f2, .int f3, .int f4, .int f5, .int f6, .long f7, .long f8]))] s.heap := hP
  have hl := lv_entry ([.ref h0, .long a0, .long a1, .long a2, .int a3]) (n := 12) (Nat.le_of_ble_eq_true rfl)
  rw [lg_entry_eq]
  generalize (lg_sl ([.ref h0, .long a0, .long a1, .long a2, .int a3]) ++ List.replicate (12 - (lg_sl ([.ref h0, .long a0, .long a1, .long a2, .int a3])).length) Slot.unset).toArray = ls at hl ⊢
  have hl : lv_has ls 12 [(0, .ref h0), (1, .long a0), (3, .long a1), (5, .long a2), (7, .int a3)] := hl
  refine lv_lload_n hx hb dX0_nearer_0 rfl (lv_at hl 2 rfl) ?_
  refine lv_aload_n hx hb dX0_nearer_1 rfl (lv_at hl 0 rfl) ?_
  refine va_get (D := (dC, dI)) (ci := 0) (v := .long f8) (C := RX0) (T := TX0) (N := 9) hx hb hts in_X0 hown hK hP 0 rfl rfl 8 (by decide) (hts _ q25) (fun _ h9 => h9) rfl dX0_nearer_2 ?_
  have J21 : ∀ (v1 : Int64), v1 = (if (f8 : Int64) ≤ (a1 : Int64) then (a0)
  else (a0 * (f8 / a1))) → ∀ ls : Array Slot, lv_has ls 12 [(0, .ref h0), (1, .long a0), (3, .long a1), (5, .long a2), (7, .int a3)] → (W p l e (headSpec (ws_ yX0_nearer cX0_nearer 12 (some .boolean)) ({ frames := 2, cells := 0, slots := 0, locals := 48 } : Room)).room s m ([.ref h0, .long a0, .long a1, .long a2, .int a3] : List Value).toArray below meth c s.heap [] 0 0 (MQ below (k2_QcV (.int (hx_nearer f5 f6 f7 f8 a0 a1 a2 a3))) ([.ref h0, .long a0, .long a1, .long a2, .int a3] : List Value).toArray s 0 0 (fun _ => False))) (F0 m 21 ls [.long v1]) := by
    intro v1 ev1 ls hl
    refine lv_lstore (lv' := [(8, .long v1), (0, .ref h0), (1, .long a0), (3, .long a1), (5, .long a2), (7, .int a3)]) hx hb dX0_nearer_21 hl (by decide) rfl (fun ls hl => ?_)
    refine lv_aload_n hx hb dX0_nearer_23 rfl (lv_at hl 1 rfl) ?_
    refine va_get (D := (dC, dI)) (ci := 0) (v := .long f8) (C := RX0) (T := TX0) (N := 9) hx hb hts in_X0 hown hK hP 0 rfl rfl 8 (by decide) (hts _ q25) (fun _ h9 => h9) rfl dX0_nearer_24 ?_
    refine lv_lload_n hx hb dX0_nearer_27 rfl (lv_at hl 3 rfl) ?_
    have J50 : ∀ (v3 : Int64), v3 = (if (a1 : Int64) ≤ (f8 : Int64) then (f7)
  else (f7 * (a1 / f8))) → ∀ ls : Array Slot, lv_has ls 12 [(8, .long v1), (0, .ref h0), (1, .long a0), (3, .long a1), (5, .long a2), (7, .int a3)] → (W p l e (headSpec (ws_ yX0_nearer cX0_nearer 12 (some .boolean)) ({ frames := 2, cells := 0, slots := 0, locals := 48 } : Room)).room s m ([.ref h0, .long a0, .long a1, .long a2, .int a3] : List Value).toArray below meth c s.heap [] 0 0 (MQ below (k2_QcV (.int (hx_nearer f5 f6 f7 f8 a0 a1 a2 a3))) ([.ref h0, .long a0, .long a1, .long a2, .int a3] : List Value).toArray s 0 0 (fun _ => False))) (F0 m 50 ls [.long v3]) := by
      intro v3 ev3 ls hl
      refine lv_lstore (lv' := [(10, .long v3), (8, .long v1), (0, .ref h0), (1, .long a0), (3, .long a1), (5, .long a2), (7, .int a3)]) hx hb dX0_nearer_50 hl (by decide) rfl (fun ls hl => ?_)
      refine lv_lload hx hb dX0_nearer_52 (lv_at hl 1 rfl) ?_
      refine lv_lload hx hb dX0_nearer_54 (lv_at hl 0 rfl) ?_
      refine hf_lcmp_eq (tgt := 74) hx hb dX0_nearer_56 dX0_nearer_57 (by decide) (fun c5 => ?_) (fun c5 => ?_)
      · skip
        refine lv_lload hx hb dX0_nearer_74 (lv_at hl 5 rfl) ?_
        refine lv_iload hx hb dX0_nearer_76 (lv_at hl 6 rfl) ?_
        refine lv_aload_n hx hb dX0_nearer_78 rfl (lv_at hl 2 rfl) ?_
        refine va_get (D := (dC, dI)) (ci := 0) (v := .int f5) (C := RX0) (T := TX0) (N := 9) hx hb hts in_X0 hown hK hP 0 rfl rfl 5 (by decide) (hts _ q22) (fun _ h9 => h9) rfl dX0_nearer_79 ?_
        refine lv_i2l hx hb dX0_nearer_82 rfl ?_
        refine lv_aload_n hx hb dX0_nearer_83 rfl (lv_at hl 2 rfl) ?_
        refine va_get (D := (dC, dI)) (ci := 0) (v := .int f6) (C := RX0) (T := TX0) (N := 9) hx hb hts in_X0 hown hK hP 0 rfl rfl 6 (by decide) (hts _ q23) (fun _ h9 => h9) rfl dX0_nearer_84 ?_
        refine W.callV (r := .int (hx_isLess a2 a3 ((f5 : Int32).toInt64) f6)) (W.runS (As := [.long a2, .int a3, .long ((f5 : Int32).toInt64), .int f6]) (rest := []) ⟨hx, hb, hml, hown, hts⟩ (met_X0_isLess l a2 a3 ((f5 : Int32).toInt64) f6) (va_cwS 4 hts (lw_S q121 q122 q7 q123) rfl rfl rfl (by decide +kernel) ⟨Nat.le_of_ble_eq_true rfl, Nat.le_of_ble_eq_true rfl⟩) preEq rfl rfl hl.1 rfl (lv_room (Nat.le_of_ble_eq_true rfl)) dX0_nearer_87 ⟨Nat.le_of_ble_eq_true rfl, Nat.le_of_ble_eq_true rfl⟩) ?_
        refine W.eq (g2 := F0 m 90 ls [.int (hx_isLess a2 a3 ((f5 : Int32).toInt64) f6)]) rfl ?_
        exact W.zret hx hb hr (hx_isLess_nar _ _ _ _) (fun t ht hW => hf_okI (by have hh := ev1.symm; subst hh; have hh := ev3.symm; subst hh; simp only [hx_nearer, if_pos c5]) ht) (fun q h => by cases h) dX0_nearer_90
      · skip
        refine lv_lload hx hb dX0_nearer_60 (lv_at hl 1 rfl) ?_
        refine lv_lload hx hb dX0_nearer_62 (lv_at hl 0 rfl) ?_
        refine hf_lcmp_ge (tgt := 72) hx hb dX0_nearer_64 dX0_nearer_65 (by decide) (fun c6 => ?_) (fun c6 => ?_)
        · skip
          refine lv_iconst (v := 0) hx hb dX0_nearer_72 (by decide) ?_
          exact W.zret hx hb hr (rfl) (fun t ht hW => hf_okI (by have hh := ev1.symm; subst hh; have hh := ev3.symm; subst hh; simp only [hx_nearer, if_neg c5, if_pos c6]) ht) (fun q h => by cases h) dX0_nearer_73
        · skip
          refine lv_iconst (v := 1) hx hb dX0_nearer_68 (by decide) ?_
          refine lv_goto (tgt := 73) hx hb dX0_nearer_69 (by decide) ?_
          exact W.zret hx hb hr (rfl) (fun t ht hW => hf_okI (by have hh := ev1.symm; subst hh; have hh := ev3.symm; subst hh; simp only [hx_nearer, if_neg c5, if_neg c6]) ht) (fun q h => by cases h) dX0_nearer_73
    refine hf_lcmp_ge (tgt := 46) hx hb dX0_nearer_28 dX0_nearer_29 (by decide) (fun c4 => ?_) (fun c4 => ?_)
    · skip
      refine lv_aload_n hx hb dX0_nearer_46 rfl (lv_at hl 1 rfl) ?_
      refine va_get (D := (dC, dI)) (ci := 0) (v := .long f7) (C := RX0) (T := TX0) (N := 9) hx hb hts in_X0 hown hK hP 0 rfl rfl 7 (by decide) (hts _ q24) (fun _ h9 => h9) rfl dX0_nearer_47 ?_
      exact J50 _ (by simp only [if_pos c4]) ls hl
    · skip
      refine lv_aload_n hx hb dX0_nearer_32 rfl (lv_at hl 1 rfl) ?_
      refine va_get (D := (dC, dI)) (ci := 0) (v := .long f7) (C := RX0) (T := TX0) (N := 9) hx hb hts in_X0 hown hK hP 0 rfl rfl 7 (by decide) (hts _ q24) (fun _ h9 => h9) rfl dX0_nearer_33 ?_
      refine lv_lload_n hx hb dX0_nearer_36 rfl (lv_at hl 3 rfl) ?_
      refine lv_aload_n hx hb dX0_nearer_37 rfl (lv_at hl 1 rfl) ?_
      refine va_get (D := (dC, dI)) (ci := 0) (v := .long f8) (C := RX0) (T := TX0) (N := 9) hx hb hts in_X0 hown hK hP 0 rfl rfl 8 (by decide) (hts _ q25) (fun _ h9 => h9) rfl dX0_nearer_38 ?_
      refine lv_ldiv hx hb dX0_nearer_41 h2 ?_
      refine lv_lmul hx hb dX0_nearer_42 ?_
      refine lv_goto (tgt := 50) hx hb dX0_nearer_43 (by decide) ?_
      exact J50 _ (by simp only [if_neg c4]) ls hl
  refine hf_lcmp_ge (tgt := 20) hx hb dX0_nearer_5 dX0_nearer_6 (by decide) (fun c2 => ?_) (fun c2 => ?_)
  · skip
    refine lv_lload_n hx hb dX0_nearer_20 rfl (lv_at hl 1 rfl) ?_
    exact J21 _ (by simp only [if_pos c2]) ls hl
  · skip
    refine lv_lload_n hx hb dX0_nearer_9 rfl (lv_at hl 1 rfl) ?_
    refine lv_aload_n hx hb dX0_nearer_10 rfl (lv_at hl 0 rfl) ?_
    refine va_get (D := (dC, dI)) (ci := 0) (v := .long f8) (C := RX0) (T := TX0) (N := 9) hx hb hts in_X0 hown hK hP 0 rfl rfl 8 (by decide) (hts _ q25) (fun _ h9 => h9) rfl dX0_nearer_11 ?_
    refine lv_lload_n hx hb dX0_nearer_14 rfl (lv_at hl 2 rfl) ?_
    refine lv_ldiv hx hb dX0_nearer_15 h1 ?_
    refine lv_lmul hx hb dX0_nearer_16 ?_
    refine lv_goto (tgt := 21) hx hb dX0_nearer_17 (by decide) ?_
    exact J21 _ (by simp only [if_neg c2]) ls hl
set_option maxHeartbeats 1000000 in
set_option maxRecDepth 100000 in
theorem met_X0_offer (l : Launch) (dC : Nat → ClassId) (dI : Nat → Nat → Nat) (h0 : Nat) (f0 : Int64) (f1 : Int64) (f2 : Int64) (f3 : Int32) (f4 : Int32) (f5 : Int32) (f6 : Int32) (f7 : Int64) (f8 : Int64) (a0 : Int64) (a1 : Int32) (a2 : Int64) (a3 : Int64) (h1 : ¬ a3 = 0) (h2 : ¬ f4 = 0 → ¬ f8 = 0) : Met l yX0_offer (ws_ yX0_offer cX0_offer 17 none) ({ frames := 3, cells := 0, slots := 0, locals := 79 } : Room) (va_Pc [.ref h0, .long a0, .int a1, .long a2, .long a3] (fun U => hf_O0 (dC, dI) h0 (f0, f1, f2, f3, f4, f5, f6, f7, f8) U.heap ∧ va_K (dC, dI) vwCl [] U)) (va_Qv (fun _ : Unit => True) (fun _ t => hf_O0 (dC, dI) h0 (f0, f1, f2, f3, hx_offer f0 f1 f2 f3 f4 f5 f6 f7 f8 a0 a1 a2 a3) t.heap) (fun q => q = h0)) 0 0 (fun q => q = h0) := by
  refine Met.ofW (cc := cX0_offer) (maxL := 17) (ret := none) (by decide) rfl ?_
  intro p e s m args below meth c s₁ B hml hv
  obtain ⟨hv, hP, hK⟩ := hv
  subst hv
  have hx := B.exec
  have hb := B.bytes
  have hr := B.returns
  have hts := atoms_spec (ws := (ws_ yX0_offer cX0_offer 17 none)) B.pre
  have hts : ∀ w ∈ lw_all, w.before _ s = true := fun w h => hts w (List.mem_cons_of_mem _ h)
  have hown : s.vm.findClass RX0 = some m.cls := findClass_of_methodNamed B.named
  have hlocks := B.notSynchronized
  have hS : va_S (fun q => q = h0) s.heap s.heap [] := va_S.rf
  have hP : va_P (dC, dI) vwCl [(h0, .inr (0, [.long f0, .long f1, .long f2, .int f3, .int f4, .int f5, .int f6, .long f7, .long f8]))] s.heap := hP
  have hl := lv_entry ([.ref h0, .long a0, .int a1, .long a2, .long a3]) (n := 17) (Nat.le_of_ble_eq_true rfl)
  rw [lg_entry_eq]
  generalize (lg_sl ([.ref h0, .long a0, .int a1, .long a2, .long a3]) ++ List.replicate (17 - (lg_sl ([.ref h0, .long a0, .int a1, .long a2, .long a3])).length) Slot.unset).toArray = ls at hl ⊢
  have hl : lv_has ls 17 [(0, .ref h0), (1, .long a0), (3, .int a1), (4, .long a2), (6, .long a3)] := hl
  refine lv_lload_n hx hb dX0_offer_0 rfl (lv_at hl 1 rfl) ?_
  refine lv_ldc2 (v := 10) hx hb hown (hts _ q97) dX0_offer_1 ?_
  refine lv_lrem hx hb dX0_offer_4 (by decide) ?_
  refine lv_lconst (v := 0) hx hb dX0_offer_5 (by decide) ?_
  refine hf_lcmp_ne (tgt := 11) hx hb dX0_offer_6 dX0_offer_7 (by decide) (fun c1 => ?_) (fun c1 => ?_)
  · skip
    refine lv_lload_n hx hb dX0_offer_11 rfl (lv_at hl 1 rfl) ?_
    refine lv_lload hx hb dX0_offer_12 (lv_at hl 3 rfl) ?_
    refine lv_lmul hx hb dX0_offer_14 ?_
    refine lv_bipush (v := 26) hx hb dX0_offer_15 (by decide) ?_
    refine lv_lshl hx hb dX0_offer_17 rfl ?_
    refine lv_topl (fun v2 ev2 => ?_)
    refine lv_lstore (lv' := [(8, .long v2), (0, .ref h0), (1, .long a0), (3, .int a1), (4, .long a2), (6, .long a3)]) hx hb dX0_offer_18 hl (by decide) rfl (fun ls hl => ?_)
    refine lv_aload_n hx hb dX0_offer_20 rfl (lv_at hl 1 rfl) ?_
    refine va_get (D := (dC, dI)) (ci := 0) (v := .long f1) (C := RX0) (T := TX0) (N := 9) hx hb hts in_X0 hown hK hP 0 rfl rfl 1 (by decide) (hts _ q18) (fun _ h9 => h9) rfl dX0_offer_21 ?_
    refine lv_lload hx hb dX0_offer_24 (lv_at hl 5 rfl) ?_
    refine lv_lmul hx hb dX0_offer_26 ?_
    refine lv_topl (fun v3 ev3 => ?_)
    refine lv_lstore (lv' := [(10, .long v3), (8, .long v2), (0, .ref h0), (1, .long a0), (3, .int a1), (4, .long a2), (6, .long a3)]) hx hb dX0_offer_27 hl (by decide) rfl (fun ls hl => ?_)
    refine lv_aload_n hx hb dX0_offer_29 rfl (lv_at hl 2 rfl) ?_
    refine va_get (D := (dC, dI)) (ci := 0) (v := .long f2) (C := RX0) (T := TX0) (N := 9) hx hb hts in_X0 hown hK hP 0 rfl rfl 2 (by decide) (hts _ q19) (fun _ h9 => h9) rfl dX0_offer_30 ?_
    refine lv_lload hx hb dX0_offer_33 (lv_at hl 6 rfl) ?_
    refine lv_lmul hx hb dX0_offer_35 ?_
    refine lv_topl (fun v4 ev4 => ?_)
    refine lv_lstore (lv' := [(12, .long v4), (10, .long v3), (8, .long v2), (0, .ref h0), (1, .long a0), (3, .int a1), (4, .long a2), (6, .long a3)]) hx hb dX0_offer_36 hl (by decide) rfl (fun ls hl => ?_)
    refine lv_lload hx hb dX0_offer_38 (lv_at hl 2 rfl) ?_
    refine lv_lload hx hb dX0_offer_40 (lv_at hl 1 rfl) ?_
    have J82 : ∀ (v5 : Int32), v5 = (if (v2 : Int64) ≤ (v3 : Int64) then (if (f3 : Int32) = (0 : Int32) then (0)
    else (if (v2 : Int64) = (v3 : Int64) then (1)
      else (if (v2 : Int64) = (v4 : Int64) then (1)
        else (0))))
  else (if (v2 : Int64) < (v4 : Int64) then (1)
    else (if (f3 : Int32) = (0 : Int32) then (0)
      else (if (v2 : Int64) = (v3 : Int64) then (1)
        else (if (v2 : Int64) = (v4 : Int64) then (1)
          else (0)))))) → ∀ ls : Array Slot, lv_has ls 17 [(12, .long v4), (10, .long v3), (8, .long v2), (0, .ref h0), (1, .long a0), (3, .int a1), (4, .long a2), (6, .long a3)] → (W p l e (headSpec (ws_ yX0_offer cX0_offer 17 none) ({ frames := 3, cells := 0, slots := 0, locals := 79 } : Room)).room s m ([.ref h0, .long a0, .int a1, .long a2, .long a3] : List Value).toArray below meth c s.heap [] 0 0 (MQ below (va_Qv (fun _ : Unit => True) (fun _ t => hf_O0 (dC, dI) h0 (f0, f1, f2, f3, hx_offer f0 f1 f2 f3 f4 f5 f6 f7 f8 a0 a1 a2 a3) t.heap) (fun q => q = h0)) ([.ref h0, .long a0, .int a1, .long a2, .long a3] : List Value).toArray s 0 0 (fun q => q = h0))) (F0 m 82 ls [.int v5]) := by
      intro v5 ev5 ls hl
      refine lv_istore (lv' := [(14, .int v5), (12, .long v4), (10, .long v3), (8, .long v2), (0, .ref h0), (1, .long a0), (3, .int a1), (4, .long a2), (6, .long a3)]) hx hb dX0_offer_82 hl (by decide) rfl (fun ls hl => ?_)
      refine lv_iload hx hb dX0_offer_84 (lv_at hl 0 rfl) ?_
      refine lv_if_ne (tgt := 90) hx hb dX0_offer_86 (by decide) (fun c14 => ?_) (fun c14 => ?_)
      · skip
        refine lv_lload hx hb dX0_offer_90 (lv_at hl 3 rfl) ?_
        refine lv_aload_n hx hb dX0_offer_92 rfl (lv_at hl 4 rfl) ?_
        refine va_get (D := (dC, dI)) (ci := 0) (v := .long f0) (C := RX0) (T := TX0) (N := 9) hx hb hts in_X0 hown hK hP 0 rfl rfl 0 (by decide) (hts _ q17) (fun _ h9 => h9) rfl dX0_offer_93 ?_
        refine lv_lload hx hb dX0_offer_96 (lv_at hl 8 rfl) ?_
        refine lv_lmul hx hb dX0_offer_98 ?_
        have J126 : ∀ (v15 : Int64), v15 = (if (v2 : Int64) ≤ (f0 * a3 : Int64) then ((f0 * a3) - v2)
  else (v2 - (f0 * a3))) → ∀ ls : Array Slot, lv_has ls 17 [(14, .int v5), (12, .long v4), (10, .long v3), (8, .long v2), (0, .ref h0), (1, .long a0), (3, .int a1), (4, .long a2), (6, .long a3)] → (W p l e (headSpec (ws_ yX0_offer cX0_offer 17 none) ({ frames := 3, cells := 0, slots := 0, locals := 79 } : Room)).room s m ([.ref h0, .long a0, .int a1, .long a2, .long a3] : List Value).toArray below meth c s.heap [] 0 0 (MQ below (va_Qv (fun _ : Unit => True) (fun _ t => hf_O0 (dC, dI) h0 (f0, f1, f2, f3, hx_offer f0 f1 f2 f3 f4 f5 f6 f7 f8 a0 a1 a2 a3) t.heap) (fun q => q = h0)) ([.ref h0, .long a0, .int a1, .long a2, .long a3] : List Value).toArray s 0 0 (fun q => q = h0))) (F0 m 126 ls [.long v15]) := by
          intro v15 ev15 ls hl
          refine lv_lstore (lv' := [(15, .long v15), (14, .int v5), (12, .long v4), (10, .long v3), (8, .long v2), (0, .ref h0), (1, .long a0), (3, .int a1), (4, .long a2), (6, .long a3)]) hx hb dX0_offer_126 hl (by decide) rfl (fun ls hl => ?_)
          refine lv_aload_n hx hb dX0_offer_128 rfl (lv_at hl 5 rfl) ?_
          refine va_get (D := (dC, dI)) (ci := 0) (v := .int f4) (C := RX0) (T := TX0) (N := 9) hx hb hts in_X0 hown hK hP 0 rfl rfl 4 (by decide) (hts _ q21) (fun _ h9 => h9) rfl dX0_offer_129 ?_
          refine lv_if_eq (tgt := 148) hx hb dX0_offer_132 (by decide) (fun c17 => ?_) (fun c17 => ?_)
          · skip
            refine lv_aload_n hx hb dX0_offer_148 rfl (lv_at hl 5 rfl) ?_
            refine lv_iconst (v := 1) hx hb dX0_offer_149 (by decide) ?_
            refine va_put (D := (dC, dI)) (ci := 0) (v := .int 1) (ty := .boolean) (C := RX0) (T := TX0) (N := 9) hx hb hts in_X0 tyX0 tyX0_ok nmX0 hown hK hP (hf_D1 _ _) hS 0 rfl rfl 4 (by decide) (hts _ q21) (fun _ h9 => h9) rfl (by decide +kernel) rfl rfl (Nat.le_of_ble_eq_true rfl) dX0_offer_150 (fun H locs hP _ hS => ?_)
            have hP : va_P (dC, dI) vwCl [(h0, .inr (0, [.long f0, .long f1, .long f2, .int f3, .int 1, .int f5, .int f6, .long f7, .long f8]))] H := hP
            refine lv_aload_n hx hb dX0_offer_153 rfl (lv_at hl 5 rfl) ?_
            refine lv_lload_n hx hb dX0_offer_154 rfl (lv_at hl 6 rfl) ?_
            refine lv_l2i hx hb dX0_offer_155 rfl ?_
            refine lv_topi (fun v18 ev18 => ?_)
            refine va_put (D := (dC, dI)) (ci := 0) (v := .int v18) (ty := .int) (C := RX0) (T := TX0) (N := 9) hx hb hts in_X0 tyX0 tyX0_ok nmX0 hown hK hP (hf_D1 _ _) hS 0 rfl rfl 5 (by decide) (hts _ q22) (fun _ h9 => h9) rfl (by decide +kernel) rfl rfl (Nat.le_of_ble_eq_true rfl) dX0_offer_156 (fun H locs hP _ hS => ?_)
            have hP : va_P (dC, dI) vwCl [(h0, .inr (0, [.long f0, .long f1, .long f2, .int f3, .int 1, .int v18, .int f6, .long f7, .long f8]))] H := hP
            refine lv_aload_n hx hb dX0_offer_159 rfl (lv_at hl 5 rfl) ?_
            refine lv_iload_n hx hb dX0_offer_160 rfl (lv_at hl 7 rfl) ?_
            refine va_put (D := (dC, dI)) (ci := 0) (v := .int a1) (ty := .int) (C := RX0) (T := TX0) (N := 9) hx hb hts in_X0 tyX0 tyX0_ok nmX0 hown hK hP (hf_D1 _ _) hS 0 rfl rfl 6 (by decide) (hts _ q23) (fun _ h9 => h9) rfl (by decide +kernel) rfl rfl (Nat.le_of_ble_eq_true rfl) dX0_offer_161 (fun H locs hP _ hS => ?_)
            have hP : va_P (dC, dI) vwCl [(h0, .inr (0, [.long f0, .long f1, .long f2, .int f3, .int 1, .int v18, .int a1, .long f7, .long f8]))] H := hP
            refine lv_aload_n hx hb dX0_offer_164 rfl (lv_at hl 5 rfl) ?_
            refine lv_lload hx hb dX0_offer_165 (lv_at hl 0 rfl) ?_
            refine va_put (D := (dC, dI)) (ci := 0) (v := .long v15) (ty := .long) (C := RX0) (T := TX0) (N := 9) hx hb hts in_X0 tyX0 tyX0_ok nmX0 hown hK hP (hf_D1 _ _) hS 0 rfl rfl 7 (by decide) (hts _ q24) (fun _ h9 => h9) rfl (by decide +kernel) rfl rfl (Nat.le_of_ble_eq_true rfl) dX0_offer_167 (fun H locs hP _ hS => ?_)
            have hP : va_P (dC, dI) vwCl [(h0, .inr (0, [.long f0, .long f1, .long f2, .int f3, .int 1, .int v18, .int a1, .long v15, .long f8]))] H := hP
            refine lv_aload_n hx hb dX0_offer_170 rfl (lv_at hl 5 rfl) ?_
            refine lv_lload hx hb dX0_offer_171 (lv_at hl 9 rfl) ?_
            refine va_put (D := (dC, dI)) (ci := 0) (v := .long a3) (ty := .long) (C := RX0) (T := TX0) (N := 9) hx hb hts in_X0 tyX0 tyX0_ok nmX0 hown hK hP (hf_D1 _ _) hS 0 rfl rfl 8 (by decide) (hts _ q25) (fun _ h9 => h9) rfl (by decide +kernel) rfl rfl (Nat.le_of_ble_eq_true rfl) dX0_offer_173 (fun H locs hP _ hS => ?_)
            have hP : va_P (dC, dI) vwCl [(h0, .inr (0, [.long f0, .long f1, .long f2, .int f3, .int 1, .int v18, .int a1, .long v15, .long a3]))] H := hP
            exact W.vret hx hb hr (fun t ht hW => ⟨⟨(), rfl, trivial, by have e : (1, v18, a1, v15, a3) = hx_offer f0 f1 f2 f3 f4 f5 f6 f7 f8 a0 a1 a2 a3 := (by have hh := ev2.symm; subst hh; have hh := ev3.symm; subst hh; have hh := ev4.symm; subst hh; have hh := ev5.symm; subst hh; have hh := ev15.symm; subst hh; have hh := ev18.symm; subst hh; simp only [hx_offer, if_neg c1, if_neg c14, if_pos c17]); show hf_O0 (dC, dI) h0 (f0, f1, f2, f3, hx_offer f0 f1 f2 f3 f4 f5 f6 f7 f8 a0 a1 a2 a3) t.heap; rw [ht, ← e]; exact hP⟩, hS.F ht⟩) hS.2.2 dX0_offer_176
          · skip
            refine lv_aload_n hx hb dX0_offer_135 rfl (lv_at hl 5 rfl) ?_
            refine lv_lload hx hb dX0_offer_136 (lv_at hl 0 rfl) ?_
            refine lv_lload hx hb dX0_offer_138 (lv_at hl 9 rfl) ?_
            refine lv_lload_n hx hb dX0_offer_140 rfl (lv_at hl 6 rfl) ?_
            refine lv_iload_n hx hb dX0_offer_141 rfl (lv_at hl 7 rfl) ?_
            refine W.callV (r := .int (hx_nearer f5 f6 f7 f8 v15 a3 a0 a1)) (W.runV (As := [.long v15, .long a3, .long a0, .int a1]) (rest := []) ⟨hx, hb, hml, hown, hts⟩ (met_X0_nearer l dC dI h0 f0 f1 f2 f3 f4 f5 f6 f7 f8 v15 a3 a0 a1 h1 (h2 (by assumption))) (cwV 4 hts (lw_V q117 q119 qs3 q7 q120) rfl rfl rfl (by decide +kernel) ⟨Nat.le_of_ble_eq_true rfl, Nat.le_of_ble_eq_true rfl⟩) ⟨fun a U g mk q => by obtain ⟨q0, qP, qK⟩ := q; exact ⟨q0, qP, va_K.moved (u := U) (U := U.calling g mk a) (Vm.Alike.refl U.vm) qK⟩, va_recv hK hP (ci := 0) (q0 := 0) rfl rfl, fun U hU hW => ⟨rfl, by rw [hU]; exact hP, va_K.moved hW.alike hK⟩⟩ rfl rfl hl.1 rfl (lv_room (Nat.le_of_ble_eq_true rfl)) dX0_offer_142 ⟨Nat.le_of_ble_eq_true rfl, Nat.le_of_ble_eq_true rfl⟩) ?_
            refine W.eq (g2 := F0 m 145 ls [.int (hx_nearer f5 f6 f7 f8 v15 a3 a0 a1)]) rfl ?_
            refine lv_if_eq (tgt := 176) hx hb dX0_offer_145 (by decide) (fun c19 => ?_) (fun c19 => ?_)
            · skip
              exact W.vret hx hb hr (fun t ht hW => ⟨⟨(), rfl, trivial, by have e : (f4, f5, f6, f7, f8) = hx_offer f0 f1 f2 f3 f4 f5 f6 f7 f8 a0 a1 a2 a3 := (by have hh := ev2.symm; subst hh; have hh := ev3.symm; subst hh; have hh := ev4.symm; subst hh; have hh := ev5.symm; subst hh; have hh := ev15.symm; subst hh; simp only [hx_offer, if_neg c1, if_neg c14, if_neg c17, if_pos c19]); show hf_O0 (dC, dI) h0 (f0, f1, f2, f3, hx_offer f0 f1 f2 f3 f4 f5 f6 f7 f8 a0 a1 a2 a3) t.heap; rw [ht, ← e]; exact hP⟩, hS.F ht⟩) hS.2.2 dX0_offer_176
            · skip
              refine lv_aload_n hx hb dX0_offer_148 rfl (lv_at hl 5 rfl) ?_
              refine lv_iconst (v := 1) hx hb dX0_offer_149 (by decide) ?_
              refine va_put (D := (dC, dI)) (ci := 0) (v := .int 1) (ty := .boolean) (C := RX0) (T := TX0) (N := 9) hx hb hts in_X0 tyX0 tyX0_ok nmX0 hown hK hP (hf_D1 _ _) hS 0 rfl rfl 4 (by decide) (hts _ q21) (fun _ h9 => h9) rfl (by decide +kernel) rfl rfl (Nat.le_of_ble_eq_true rfl) dX0_offer_150 (fun H locs hP _ hS => ?_)
              have hP : va_P (dC, dI) vwCl [(h0, .inr (0, [.long f0, .long f1, .long f2, .int f3, .int 1, .int f5, .int f6, .long f7, .long f8]))] H := hP
              refine lv_aload_n hx hb dX0_offer_153 rfl (lv_at hl 5 rfl) ?_
              refine lv_lload_n hx hb dX0_offer_154 rfl (lv_at hl 6 rfl) ?_
              refine lv_l2i hx hb dX0_offer_155 rfl ?_
              refine lv_topi (fun v20 ev20 => ?_)
              refine va_put (D := (dC, dI)) (ci := 0) (v := .int v20) (ty := .int) (C := RX0) (T := TX0) (N := 9) hx hb hts in_X0 tyX0 tyX0_ok nmX0 hown hK hP (hf_D1 _ _) hS 0 rfl rfl 5 (by decide) (hts _ q22) (fun _ h9 => h9) rfl (by decide +kernel) rfl rfl (Nat.le_of_ble_eq_true rfl) dX0_offer_156 (fun H locs hP _ hS => ?_)
              have hP : va_P (dC, dI) vwCl [(h0, .inr (0, [.long f0, .long f1, .long f2, .int f3, .int 1, .int v20, .int f6, .long f7, .long f8]))] H := hP
              refine lv_aload_n hx hb dX0_offer_159 rfl (lv_at hl 5 rfl) ?_
              refine lv_iload_n hx hb dX0_offer_160 rfl (lv_at hl 7 rfl) ?_
              refine va_put (D := (dC, dI)) (ci := 0) (v := .int a1) (ty := .int) (C := RX0) (T := TX0) (N := 9) hx hb hts in_X0 tyX0 tyX0_ok nmX0 hown hK hP (hf_D1 _ _) hS 0 rfl rfl 6 (by decide) (hts _ q23) (fun _ h9 => h9) rfl (by decide +kernel) rfl rfl (Nat.le_of_ble_eq_true rfl) dX0_offer_161 (fun H locs hP _ hS => ?_)
              have hP : va_P (dC, dI) vwCl [(h0, .inr (0, [.long f0, .long f1, .long f2, .int f3, .int 1, .int v20, .int a1, .long f7, .long f8]))] H := hP
              refine lv_aload_n hx hb dX0_offer_164 rfl (lv_at hl 5 rfl) ?_
              refine lv_lload hx hb dX0_offer_165 (lv_at hl 0 rfl) ?_
              refine va_put (D := (dC, dI)) (ci := 0) (v := .long v15) (ty := .long) (C := RX0) (T := TX0) (N := 9) hx hb hts in_X0 tyX0 tyX0_ok nmX0 hown hK hP (hf_D1 _ _) hS 0 rfl rfl 7 (by decide) (hts _ q24) (fun _ h9 => h9) rfl (by decide +kernel) rfl rfl (Nat.le_of_ble_eq_true rfl) dX0_offer_167 (fun H locs hP _ hS => ?_)
              have hP : va_P (dC, dI) vwCl [(h0, .inr (0, [.long f0, .long f1, .long f2, .int f3, .int 1, .int v20, .int a1, .long v15, .long f8]))] H := hP
              refine lv_aload_n hx hb dX0_offer_170 rfl (lv_at hl 5 rfl) ?_
              refine lv_lload hx hb dX0_offer_171 (lv_at hl 9 rfl) ?_
              refine va_put (D := (dC, dI)) (ci := 0) (v := .long a3) (ty := .long) (C := RX0) (T := TX0) (N := 9) hx hb hts in_X0 tyX0 tyX0_ok nmX0 hown hK hP (hf_D1 _ _) hS 0 rfl rfl 8 (by decide) (hts _ q25) (fun _ h9 => h9) rfl (by decide +kernel) rfl rfl (Nat.le_of_ble_eq_true rfl) dX0_offer_173 (fun H locs hP _ hS => ?_)
              have hP : va_P (dC, dI) vwCl [(h0, .inr (0, [.long f0, .long f1, .long f2, .int f3, .int 1, .int v20, .int a1, .long v15, .long a3]))] H := hP
              exact W.vret hx hb hr (fun t ht hW => ⟨⟨(), rfl, trivial, by have e : (1, v20, a1, v15, a3) = hx_offer f0 f1 f2 f3 f4 f5 f6 f7 f8 a0 a1 a2 a3 := (by have hh := ev2.symm; subst hh; have hh := ev3.symm; subst hh; have hh := ev4.symm; subst hh; have hh := ev5.symm; subst hh; have hh := ev15.symm; subst hh; have hh := ev20.symm; subst hh; simp only [hx_offer, if_neg c1, if_neg c14, if_neg c17, if_neg c19]); show hf_O0 (dC, dI) h0 (f0, f1, f2, f3, hx_offer f0 f1 f2 f3 f4 f5 f6 f7 f8 a0 a1 a2 a3) t.heap; rw [ht, ← e]; exact hP⟩, hS.F ht⟩) hS.2.2 dX0_offer_176
        refine hf_lcmp_le (tgt := 116) hx hb dX0_offer_99 dX0_offer_100 (by decide) (fun c16 => ?_) (fun c16 => ?_)
        · skip
          refine lv_aload_n hx hb dX0_offer_116 rfl (lv_at hl 4 rfl) ?_
          refine va_get (D := (dC, dI)) (ci := 0) (v := .long f0) (C := RX0) (T := TX0) (N := 9) hx hb hts in_X0 hown hK hP 0 rfl rfl 0 (by decide) (hts _ q17) (fun _ h9 => h9) rfl dX0_offer_117 ?_
          refine lv_lload hx hb dX0_offer_120 (lv_at hl 8 rfl) ?_
          refine lv_lmul hx hb dX0_offer_122 ?_
          refine lv_lload hx hb dX0_offer_123 (lv_at hl 3 rfl) ?_
          refine lv_lsub hx hb dX0_offer_125 ?_
          exact J126 _ (by simp only [if_pos c16]) ls hl
        · skip
          refine lv_lload hx hb dX0_offer_103 (lv_at hl 3 rfl) ?_
          refine lv_aload_n hx hb dX0_offer_105 rfl (lv_at hl 4 rfl) ?_
          refine va_get (D := (dC, dI)) (ci := 0) (v := .long f0) (C := RX0) (T := TX0) (N := 9) hx hb hts in_X0 hown hK hP 0 rfl rfl 0 (by decide) (hts _ q17) (fun _ h9 => h9) rfl dX0_offer_106 ?_
          refine lv_lload hx hb dX0_offer_109 (lv_at hl 8 rfl) ?_
          refine lv_lmul hx hb dX0_offer_111 ?_
          refine lv_lsub hx hb dX0_offer_112 ?_
          refine lv_goto (tgt := 126) hx hb dX0_offer_113 (by decide) ?_
          exact J126 _ (by simp only [if_neg c16]) ls hl
      · skip
        exact W.vret hx hb hr (fun t ht hW => ⟨⟨(), rfl, trivial, by have e : (f4, f5, f6, f7, f8) = hx_offer f0 f1 f2 f3 f4 f5 f6 f7 f8 a0 a1 a2 a3 := (by have hh := ev2.symm; subst hh; have hh := ev3.symm; subst hh; have hh := ev4.symm; subst hh; have hh := ev5.symm; subst hh; simp only [hx_offer, if_neg c1, if_pos c14]); show hf_O0 (dC, dI) h0 (f0, f1, f2, f3, hx_offer f0 f1 f2 f3 f4 f5 f6 f7 f8 a0 a1 a2 a3) t.heap; rw [ht, ← e]; exact hP⟩, hS.F ht⟩) hS.2.2 dX0_offer_89
    refine hf_lcmp_le (tgt := 54) hx hb dX0_offer_42 dX0_offer_43 (by decide) (fun c6 => ?_) (fun c6 => ?_)
    · skip
      refine lv_aload_n hx hb dX0_offer_54 rfl (lv_at hl 3 rfl) ?_
      refine va_get (D := (dC, dI)) (ci := 0) (v := .int f3) (C := RX0) (T := TX0) (N := 9) hx hb hts in_X0 hown hK hP 0 rfl rfl 3 (by decide) (hts _ q20) (fun _ h9 => h9) rfl dX0_offer_55 ?_
      refine lv_if_eq (tgt := 81) hx hb dX0_offer_58 (by decide) (fun c7 => ?_) (fun c7 => ?_)
      · skip
        refine lv_iconst (v := 0) hx hb dX0_offer_81 (by decide) ?_
        exact J82 _ (by simp only [if_pos c6, if_pos c7]) ls hl
      · skip
        refine lv_lload hx hb dX0_offer_61 (lv_at hl 2 rfl) ?_
        refine lv_lload hx hb dX0_offer_63 (lv_at hl 1 rfl) ?_
        refine hf_lcmp_eq (tgt := 77) hx hb dX0_offer_65 dX0_offer_66 (by decide) (fun c8 => ?_) (fun c8 => ?_)
        · skip
          refine lv_iconst (v := 1) hx hb dX0_offer_77 (by decide) ?_
          refine lv_goto (tgt := 82) hx hb dX0_offer_78 (by decide) ?_
          exact J82 _ (by simp only [if_pos c6, if_neg c7, if_pos c8]) ls hl
        · skip
          refine lv_lload hx hb dX0_offer_69 (lv_at hl 2 rfl) ?_
          refine lv_lload hx hb dX0_offer_71 (lv_at hl 0 rfl) ?_
          refine hf_lcmp_ne (tgt := 81) hx hb dX0_offer_73 dX0_offer_74 (by decide) (fun c9 => ?_) (fun c9 => ?_)
          · skip
            refine lv_iconst (v := 0) hx hb dX0_offer_81 (by decide) ?_
            exact J82 _ (by simp only [if_pos c6, if_neg c7, if_neg c8, if_neg c9]) ls hl
          · skip
            refine lv_iconst (v := 1) hx hb dX0_offer_77 (by decide) ?_
            refine lv_goto (tgt := 82) hx hb dX0_offer_78 (by decide) ?_
            exact J82 _ (by simp only [if_pos c6, if_neg c7, if_neg c8, if_pos c9]) ls hl
    · skip
      refine lv_lload hx hb dX0_offer_46 (lv_at hl 2 rfl) ?_
      refine lv_lload hx hb dX0_offer_48 (lv_at hl 0 rfl) ?_
      refine hf_lcmp_lt (tgt := 77) hx hb dX0_offer_50 dX0_offer_51 (by decide) (fun c10 => ?_) (fun c10 => ?_)
      · skip
        refine lv_iconst (v := 1) hx hb dX0_offer_77 (by decide) ?_
        refine lv_goto (tgt := 82) hx hb dX0_offer_78 (by decide) ?_
        exact J82 _ (by simp only [if_neg c6, if_pos c10]) ls hl
      · skip
        refine lv_aload_n hx hb dX0_offer_54 rfl (lv_at hl 3 rfl) ?_
        refine va_get (D := (dC, dI)) (ci := 0) (v := .int f3) (C := RX0) (T := TX0) (N := 9) hx hb hts in_X0 hown hK hP 0 rfl rfl 3 (by decide) (hts _ q20) (fun _ h9 => h9) rfl dX0_offer_55 ?_
        refine lv_if_eq (tgt := 81) hx hb dX0_offer_58 (by decide) (fun c11 => ?_) (fun c11 => ?_)
        · skip
          refine lv_iconst (v := 0) hx hb dX0_offer_81 (by decide) ?_
          exact J82 _ (by simp only [if_neg c6, if_neg c10, if_pos c11]) ls hl
        · skip
          refine lv_lload hx hb dX0_offer_61 (lv_at hl 2 rfl) ?_
          refine lv_lload hx hb dX0_offer_63 (lv_at hl 1 rfl) ?_
          refine hf_lcmp_eq (tgt := 77) hx hb dX0_offer_65 dX0_offer_66 (by decide) (fun c12 => ?_) (fun c12 => ?_)
          · skip
            refine lv_iconst (v := 1) hx hb dX0_offer_77 (by decide) ?_
            refine lv_goto (tgt := 82) hx hb dX0_offer_78 (by decide) ?_
            exact J82 _ (by simp only [if_neg c6, if_neg c10, if_neg c11, if_pos c12]) ls hl
          · skip
            refine lv_lload hx hb dX0_offer_69 (lv_at hl 2 rfl) ?_
            refine lv_lload hx hb dX0_offer_71 (lv_at hl 0 rfl) ?_
            refine hf_lcmp_ne (tgt := 81) hx hb dX0_offer_73 dX0_offer_74 (by decide) (fun c13 => ?_) (fun c13 => ?_)
            · skip
              refine lv_iconst (v := 0) hx hb dX0_offer_81 (by decide) ?_
              exact J82 _ (by simp only [if_neg c6, if_neg c10, if_neg c11, if_neg c12, if_neg c13]) ls hl
            · skip
              refine lv_iconst (v := 1) hx hb dX0_offer_77 (by decide) ?_
              refine lv_goto (tgt := 82) hx hb dX0_offer_78 (by decide) ?_
              exact J82 _ (by simp only [if_neg c6, if_neg c10, if_neg c11, if_neg c12, if_pos c13]) ls hl
  · skip
    exact W.vret hx hb hr (fun t ht hW => ⟨⟨(), rfl, trivial, by have e : (f4, f5, f6, f7, f8) = hx_offer f0 f1 f2 f3 f4 f5 f6 f7 f8 a0 a1 a2 a3 := (by simp only [hx_offer, if_pos c1]); show hf_O0 (dC, dI) h0 (f0, f1, f2, f3, hx_offer f0 f1 f2 f3 f4 f5 f6 f7 f8 a0 a1 a2 a3) t.heap; rw [ht, ← e]; exact hP⟩, hS.F ht⟩) hS.2.2 dX0_offer_10
set_option maxHeartbeats 1000000 in
set_option maxRecDepth 100000 in
theorem met_X0_tryPower (l : Launch) (dC : Nat → ClassId) (dI : Nat → Nat → Nat) (h0 : Nat) (f0 : Int64) (f1 : Int64) (f2 : Int64) (f3 : Int32) (f4 : Int32) (f5 : Int32) (f6 : Int32) (f7 : Int64) (f8 : Int64) (a0 : Int32) (a1 : Int32) (hx4 : a1 ≤ 4) (h2 : ¬ f4 = 0 → ¬ f8 = 0) : Met l yX0_tryPower (ws_ yX0_tryPower cX0_tryPower 17 none) ({ frames := 4, cells := 0, slots := 0, locals := 115 } : Room) (va_Pc [.ref h0, .int a0, .int a1] (fun U => hf_O0 (dC, dI) h0 (f0, f1, f2, f3, f4, f5, f6, f7, f8) U.heap ∧ va_K (dC, dI) vwCl [] U)) (va_Qv (fun _ : Unit => True) (fun _ t => hf_O0 (dC, dI) h0 (f0, f1, f2, f3, hx_tryPower f0 f1 f2 f3 f4 f5 f6 f7 f8 a0 a1) t.heap) (fun q => q = h0)) 0 0 (fun q => q = h0) := by
  refine Met.ofW (cc := cX0_tryPower) (maxL := 17) (ret := none) (by decide) rfl ?_
  intro p e s m args below meth c s₁ B hml hv
  obtain ⟨hv, hP, hK⟩ := hv
  subst hv
  have hx := B.exec
  have hb := B.bytes
  have hr := B.returns
  have hts := atoms_spec (ws := (ws_ yX0_tryPower cX0_tryPower 17 none)) B.pre
  have hts : ∀ w ∈ lw_all, w.before _ s = true := fun w h => hts w (List.mem_cons_of_mem _ h)
  have hown : s.vm.findClass RX0 = some m.cls := findClass_of_methodNamed B.named
  have hlocks := B.notSynchronized
  have hS : va_S (fun q => q = h0) s.heap s.heap [] := va_S.rf
  have hP : va_P (dC, dI) vwCl [(h0, .inr (0, [.long f0, .long f1, .long f2, .int f3, .int f4, .int f5, .int f6, .long f7, .long f8]))] s.heap := hP
  have hl := lv_entry ([.ref h0, .int a0, .int a1]) (n := 17) (Nat.le_of_ble_eq_true rfl)
  rw [lg_entry_eq]
  generalize (lg_sl ([.ref h0, .int a0, .int a1]) ++ List.replicate (17 - (lg_sl ([.ref h0, .int a0, .int a1])).length) Slot.unset).toArray = ls at hl ⊢
  have hl : lv_has ls 17 [(0, .ref h0), (1, .int a0), (2, .int a1)] := hl
  refine lv_iload_n hx hb dX0_tryPower_0 rfl (lv_at hl 2 rfl) ?_
  have J12 : ∀ (v1 : Int64), v1 = (if (a1 : Int32) ≤ (0 : Int32) then (1)
  else (hx_power a1)) → ∀ ls : Array Slot, lv_has ls 17 [(0, .ref h0), (1, .int a0), (2, .int a1)] → (W p l e (headSpec (ws_ yX0_tryPower cX0_tryPower 17 none) ({ frames := 4, cells := 0, slots := 0, locals := 115 } : Room)).room s m ([.ref h0, .int a0, .int a1] : List Value).toArray below meth c s.heap [] 0 0 (MQ below (va_Qv (fun _ : Unit => True) (fun _ t => hf_O0 (dC, dI) h0 (f0, f1, f2, f3, hx_tryPower f0 f1 f2 f3 f4 f5 f6 f7 f8 a0 a1) t.heap) (fun q => q = h0)) ([.ref h0, .int a0, .int a1] : List Value).toArray s 0 0 (fun q => q = h0))) (F0 m 12 ls [.long v1]) := by
    intro v1 ev1 ls hl
    refine lv_lstore_n (lv' := [(3, .long v1), (0, .ref h0), (1, .int a0), (2, .int a1)]) hx hb dX0_tryPower_12 rfl hl (by decide) rfl (fun ls hl => ?_)
    refine lv_iload_n hx hb dX0_tryPower_13 rfl (lv_at hl 3 rfl) ?_
    have J26 : ∀ (v3 : Int64), v3 = (if (0 : Int32) ≤ (a1 : Int32) then (1)
  else (hx_power (-a1))) → ∀ ls : Array Slot, lv_has ls 17 [(3, .long v1), (0, .ref h0), (1, .int a0), (2, .int a1)] → (W p l e (headSpec (ws_ yX0_tryPower cX0_tryPower 17 none) ({ frames := 4, cells := 0, slots := 0, locals := 115 } : Room)).room s m ([.ref h0, .int a0, .int a1] : List Value).toArray below meth c s.heap [] 0 0 (MQ below (va_Qv (fun _ : Unit => True) (fun _ t => hf_O0 (dC, dI) h0 (f0, f1, f2, f3, hx_tryPower f0 f1 f2 f3 f4 f5 f6 f7 f8 a0 a1) t.heap) (fun q => q = h0)) ([.ref h0, .int a0, .int a1] : List Value).toArray s 0 0 (fun q => q = h0))) (F0 m 26 ls [.long v3]) := by
      intro v3 ev3 ls hl
      refine lv_lstore (lv' := [(5, .long v3), (3, .long v1), (0, .ref h0), (1, .int a0), (2, .int a1)]) hx hb dX0_tryPower_26 hl (by decide) rfl (fun ls hl => ?_)
      refine lv_aload_n hx hb dX0_tryPower_28 rfl (lv_at hl 2 rfl) ?_
      refine va_get (D := (dC, dI)) (ci := 0) (v := .long f0) (C := RX0) (T := TX0) (N := 9) hx hb hts in_X0 hown hK hP 0 rfl rfl 0 (by decide) (hts _ q17) (fun _ h9 => h9) rfl dX0_tryPower_29 ?_
      refine lv_lload_n hx hb dX0_tryPower_32 rfl (lv_at hl 1 rfl) ?_
      refine lv_ldiv hx hb dX0_tryPower_33 (by rw [ev1]; exact hf_up_ne _) ?_
      refine lv_ldc2 (v := 67108864000000) hx hb hown (hts _ q112) dX0_tryPower_34 ?_
      refine lv_lload hx hb dX0_tryPower_37 (lv_at hl 0 rfl) ?_
      refine lv_ldiv hx hb dX0_tryPower_39 (by rw [ev3]; exact hf_dn_ne _) ?_
      refine hf_lcmp_le (tgt := 45) hx hb dX0_tryPower_40 dX0_tryPower_41 (by decide) (fun c5 => ?_) (fun c5 => ?_)
      · skip
        refine lv_aload_n hx hb dX0_tryPower_45 rfl (lv_at hl 2 rfl) ?_
        refine va_get (D := (dC, dI)) (ci := 0) (v := .long f0) (C := RX0) (T := TX0) (N := 9) hx hb hts in_X0 hown hK hP 0 rfl rfl 0 (by decide) (hts _ q17) (fun _ h9 => h9) rfl dX0_tryPower_46 ?_
        refine lv_lload hx hb dX0_tryPower_49 (lv_at hl 0 rfl) ?_
        refine lv_lmul hx hb dX0_tryPower_51 ?_
        refine lv_lload_n hx hb dX0_tryPower_52 rfl (lv_at hl 1 rfl) ?_
        refine lv_bipush (v := 26) hx hb dX0_tryPower_53 (by decide) ?_
        refine lv_lshl hx hb dX0_tryPower_55 rfl ?_
        refine lv_ldiv hx hb dX0_tryPower_56 (by rw [ev1]; exact hf_up26_ne hx4) ?_
        refine lv_topl (fun v6 ev6 => ?_)
        refine lv_lstore (lv' := [(7, .long v6), (5, .long v3), (3, .long v1), (0, .ref h0), (1, .int a0), (2, .int a1)]) hx hb dX0_tryPower_57 hl (by decide) rfl (fun ls hl => ?_)
        refine lv_iload_n hx hb dX0_tryPower_59 rfl (lv_at hl 4 rfl) ?_
        refine lv_iconst (v := 1) hx hb dX0_tryPower_60 (by decide) ?_
        refine lv_isub hx hb dX0_tryPower_61 ?_
        refine W.callV (r := .long (hx_power (a0 - 1))) (W.runS (As := [.int (a0 - 1)]) (rest := []) ⟨hx, hb, hml, hown, hts⟩ (met_X0_power l (a0 - 1)) (va_cwS 1 hts (lw_S q94 q95 q7 q96) rfl rfl rfl (by decide +kernel) ⟨Nat.le_of_ble_eq_true rfl, Nat.le_of_ble_eq_true rfl⟩) preEq rfl rfl hl.1 rfl (lv_room (Nat.le_of_ble_eq_true rfl)) dX0_tryPower_62 ⟨Nat.le_of_ble_eq_true rfl, Nat.le_of_ble_eq_true rfl⟩) ?_
        refine W.eq (g2 := F0 m 65 ls [.long (hx_power (a0 - 1))]) rfl ?_
        refine lv_topl (fun v7 ev7 => ?_)
        refine lv_lstore (lv' := [(9, .long v7), (7, .long v6), (5, .long v3), (3, .long v1), (0, .ref h0), (1, .int a0), (2, .int a1)]) hx hb dX0_tryPower_65 hl (by decide) rfl (fun ls hl => ?_)
        refine lv_iload_n hx hb dX0_tryPower_67 rfl (lv_at hl 5 rfl) ?_
        refine W.callV (r := .long (hx_power a0)) (W.runS (As := [.int a0]) (rest := []) ⟨hx, hb, hml, hown, hts⟩ (met_X0_power l a0) (va_cwS 1 hts (lw_S q94 q95 q7 q96) rfl rfl rfl (by decide +kernel) ⟨Nat.le_of_ble_eq_true rfl, Nat.le_of_ble_eq_true rfl⟩) preEq rfl rfl hl.1 rfl (lv_room (Nat.le_of_ble_eq_true rfl)) dX0_tryPower_68 ⟨Nat.le_of_ble_eq_true rfl, Nat.le_of_ble_eq_true rfl⟩) ?_
        refine W.eq (g2 := F0 m 71 ls [.long (hx_power a0)]) rfl ?_
        refine lv_lconst (v := 1) hx hb dX0_tryPower_71 (by decide) ?_
        refine lv_lsub hx hb dX0_tryPower_72 ?_
        refine lv_topl (fun v8 ev8 => ?_)
        refine lv_lstore (lv' := [(11, .long v8), (9, .long v7), (7, .long v6), (5, .long v3), (3, .long v1), (0, .ref h0), (1, .int a0), (2, .int a1)]) hx hb dX0_tryPower_73 hl (by decide) rfl (fun ls hl => ?_)
        refine lv_lload hx hb dX0_tryPower_75 (lv_at hl 2 rfl) ?_
        refine lv_lstore (lv' := [(13, .long v6), (11, .long v8), (9, .long v7), (7, .long v6), (5, .long v3), (3, .long v1), (0, .ref h0), (1, .int a0), (2, .int a1)]) hx hb dX0_tryPower_77 hl (by decide) rfl (fun ls hl => ?_)
        have X79 : ∀ q79 : Int64 × Int32 × Int32 × Int32 × Int64 × Int64, q79 = hf_run (hx_tryPower_s79 v8 v7 v6 v3 v1 a1 f0 f1 f2 f3) 2 (v6, f4, f5, f6, f7, f8) → ∀ (H : Heap) (locs : List Loc), va_P (dC, dI) vwCl [(h0, .inr (0, [.long f0, .long f1, .long f2, .int f3, .int q79.2.1, .int q79.2.2.1, .int q79.2.2.2.1, .long q79.2.2.2.2.1, .long q79.2.2.2.2.2]))] H → va_S (fun q => q = h0) s.heap H locs → hf_okx q79.2 → ∀ ls : Array Slot, lv_has ls 17 [(13, .long q79.1), (11, .long v8), (9, .long v7), (7, .long v6), (5, .long v3), (3, .long v1), (0, .ref h0), (1, .int a0), (2, .int a1)] → (W p l e (headSpec (ws_ yX0_tryPower cX0_tryPower 17 none) ({ frames := 4, cells := 0, slots := 0, locals := 115 } : Room)).room s m ([.ref h0, .int a0, .int a1] : List Value).toArray below meth c H locs 0 0 (MQ below (va_Qv (fun _ : Unit => True) (fun _ t => hf_O0 (dC, dI) h0 (f0, f1, f2, f3, hx_tryPower f0 f1 f2 f3 f4 f5 f6 f7 f8 a0 a1) t.heap) (fun q => q = h0)) ([.ref h0, .int a0, .int a1] : List Value).toArray s 0 0 (fun q => q = h0))) (F0 m 138 ls []) := by
          intro q79 eq79 H locs hP hS hI79 ls hl
          exact W.vret hx hb hr (fun t ht hW => ⟨⟨(), rfl, trivial, by have e : (q79.2.1, q79.2.2.1, q79.2.2.2.1, q79.2.2.2.2.1, q79.2.2.2.2.2) = hx_tryPower f0 f1 f2 f3 f4 f5 f6 f7 f8 a0 a1 := (by have hh := ev1.symm; subst hh; have hh := ev3.symm; subst hh; have hh := ev6.symm; subst hh; have hh := ev7.symm; subst hh; have hh := ev8.symm; subst hh; have hh := eq79.symm; subst hh; simp only [hx_tryPower, if_pos c5]); show hf_O0 (dC, dI) h0 (f0, f1, f2, f3, hx_tryPower f0 f1 f2 f3 f4 f5 f6 f7 f8 a0 a1) t.heap; rw [ht, ← e]; exact hP⟩, hS.F ht⟩) hS.2.2 dX0_tryPower_138
        refine hf_loop (hx_tryPower_s79 v8 v7 v6 v3 v1 a1 f0 f1 f2 f3) (fun q => ∀ (H : Heap) (locs : List Loc), va_P (dC, dI) vwCl [(h0, .inr (0, [.long f0, .long f1, .long f2, .int f3, .int q.2.1, .int q.2.2.1, .int q.2.2.2.1, .long q.2.2.2.2.1, .long q.2.2.2.2.2]))] H → va_S (fun q => q = h0) s.heap H locs → hf_okx q.2 → ∀ ls : Array Slot, lv_has ls 17 [(13, .long q.1), (11, .long v8), (9, .long v7), (7, .long v6), (5, .long v3), (3, .long v1), (0, .ref h0), (1, .int a0), (2, .int a1)] → (W p l e (headSpec (ws_ yX0_tryPower cX0_tryPower 17 none) ({ frames := 4, cells := 0, slots := 0, locals := 115 } : Room)).room s m ([.ref h0, .int a0, .int a1] : List Value).toArray below meth c H locs 0 0 (MQ below (va_Qv (fun _ : Unit => True) (fun _ t => hf_O0 (dC, dI) h0 (f0, f1, f2, f3, hx_tryPower f0 f1 f2 f3 f4 f5 f6 f7 f8 a0 a1) t.heap) (fun q => q = h0)) ([.ref h0, .int a0, .int a1] : List Value).toArray s 0 0 (fun q => q = h0))) (F0 m 79 ls [])) (fun q => ∀ (H : Heap) (locs : List Loc), va_P (dC, dI) vwCl [(h0, .inr (0, [.long f0, .long f1, .long f2, .int f3, .int q.2.1, .int q.2.2.1, .int q.2.2.2.1, .long q.2.2.2.2.1, .long q.2.2.2.2.2]))] H → va_S (fun q => q = h0) s.heap H locs → hf_okx q.2 → ∀ ls : Array Slot, lv_has ls 17 [(13, .long q.1), (11, .long v8), (9, .long v7), (7, .long v6), (5, .long v3), (3, .long v1), (0, .ref h0), (1, .int a0), (2, .int a1)] → (W p l e (headSpec (ws_ yX0_tryPower cX0_tryPower 17 none) ({ frames := 4, cells := 0, slots := 0, locals := 115 } : Room)).room s m ([.ref h0, .int a0, .int a1] : List Value).toArray below meth c H locs 0 0 (MQ below (va_Qv (fun _ : Unit => True) (fun _ t => hf_O0 (dC, dI) h0 (f0, f1, f2, f3, hx_tryPower f0 f1 f2 f3 f4 f5 f6 f7 f8 a0 a1) t.heap) (fun q => q = h0)) ([.ref h0, .int a0, .int a1] : List Value).toArray s 0 0 (fun q => q = h0))) (F0 m 138 ls [])) ?_ 2 (v6, f4, f5, f6, f7, f8) (hx_tryPower_end (by rw [ev6, ev1]; exact hf_below _ _ hx4)) (X79 _ rfl) s.heap [] hP hS h2 ls (lv_sub hl [0, 1, 2, 3, 4, 5, 6, 7, 8] rfl)
        rintro ⟨x79_13, y79_4, y79_5, y79_6, y79_7, y79_8⟩ hno hgo H locs hP hS hI79 ls hl
        have hl : lv_has ls 17 [(13, .long x79_13), (11, .long v8), (9, .long v7), (7, .long v6), (5, .long v3), (3, .long v1), (0, .ref h0), (1, .int a0), (2, .int a1)] := hl
        have hP : va_P (dC, dI) vwCl [(h0, .inr (0, [.long f0, .long f1, .long f2, .int f3, .int y79_4, .int y79_5, .int y79_6, .long y79_7, .long y79_8]))] H := hP
        refine lv_lload hx hb dX0_tryPower_79 (lv_at hl 0 rfl) ?_
        refine lv_lload hx hb dX0_tryPower_81 (lv_at hl 3 rfl) ?_
        refine lv_lconst (v := 1) hx hb dX0_tryPower_83 (by decide) ?_
        refine lv_ladd hx hb dX0_tryPower_84 ?_
        refine hf_lcmp_gt (tgt := 138) hx hb dX0_tryPower_85 dX0_tryPower_86 (by decide) (fun c9 => ?_) (fun c9 => ?_)
        · skip
          exact hno (by simp only [hx_tryPower_s79, if_pos c9]) H locs hP hS hI79 ls (lv_sub hl [0, 1, 2, 3, 4, 5, 6, 7, 8] rfl)
        · skip
          refine lv_lload hx hb dX0_tryPower_89 (lv_at hl 0 rfl) ?_
          refine lv_lload hx hb dX0_tryPower_91 (lv_at hl 2 rfl) ?_
          have J117 : ∀ (v10 : Int64), v10 = (if (v7 : Int64) ≤ (x79_13 : Int64) then (if (x79_13 : Int64) ≤ (v8 : Int64) then (x79_13)
    else (v8))
  else (v7)) → ∀ ls : Array Slot, lv_has ls 17 [(13, .long x79_13), (11, .long v8), (9, .long v7), (7, .long v6), (5, .long v3), (3, .long v1), (0, .ref h0), (1, .int a0), (2, .int a1)] → (W p l e (headSpec (ws_ yX0_tryPower cX0_tryPower 17 none) ({ frames := 4, cells := 0, slots := 0, locals := 115 } : Room)).room s m ([.ref h0, .int a0, .int a1] : List Value).toArray below meth c H locs 0 0 (MQ below (va_Qv (fun _ : Unit => True) (fun _ t => hf_O0 (dC, dI) h0 (f0, f1, f2, f3, hx_tryPower f0 f1 f2 f3 f4 f5 f6 f7 f8 a0 a1) t.heap) (fun q => q = h0)) ([.ref h0, .int a0, .int a1] : List Value).toArray s 0 0 (fun q => q = h0))) (F0 m 117 ls [.long v10]) := by
            intro v10 ev10 ls hl
            refine lv_lstore (lv' := [(15, .long v10), (13, .long x79_13), (11, .long v8), (9, .long v7), (7, .long v6), (5, .long v3), (3, .long v1), (0, .ref h0), (1, .int a0), (2, .int a1)]) hx hb dX0_tryPower_117 hl (by decide) rfl (fun ls hl => ?_)
            refine lv_aload_n hx hb dX0_tryPower_119 rfl (lv_at hl 7 rfl) ?_
            refine lv_lload hx hb dX0_tryPower_120 (lv_at hl 0 rfl) ?_
            refine lv_iload_n hx hb dX0_tryPower_122 rfl (lv_at hl 9 rfl) ?_
            refine lv_lload_n hx hb dX0_tryPower_123 rfl (lv_at hl 6 rfl) ?_
            refine lv_lload hx hb dX0_tryPower_124 (lv_at hl 5 rfl) ?_
            refine va_callv (va_runV (As := [.long v10, .int a1, .long v1, .long v3]) (rest := []) ⟨hx, hb, hml, hown, hts⟩ (met_X0_offer l dC dI h0 f0 f1 f2 f3 y79_4 y79_5 y79_6 y79_7 y79_8 v10 a1 v1 v3 (by rw [ev3]; exact hf_dn_ne _) hI79) (cwV 4 hts (lw_V q113 q115 qs2 q7 q116) rfl rfl rfl (by decide +kernel) ⟨Nat.le_of_ble_eq_true rfl, Nat.le_of_ble_eq_true rfl⟩) ⟨fun a U g mk q => by obtain ⟨q0, qP, qK⟩ := q; exact ⟨q0, qP, va_K.moved (u := U) (U := U.calling g mk a) (Vm.Alike.refl U.vm) qK⟩, va_recv hK hP (ci := 0) (q0 := 0) rfl rfl, fun U hU hW => ⟨rfl, by rw [hU]; exact hP, va_K.moved hW.alike hK⟩⟩ rfl rfl hl.1 rfl (lv_room (Nat.le_of_ble_eq_true rfl)) dX0_tryPower_126 ⟨Nat.le_of_ble_eq_true rfl, Nat.le_of_ble_eq_true rfl⟩) hS (fun q _ h => h) (fun q h => h) (fun u t H locs ht hvm hw hB hz1 hk1 hS => ?_)
            obtain ⟨w13, ew13⟩ : ∃ y : Int32 × Int32 × Int32 × Int64 × Int64, y = hx_offer f0 f1 f2 f3 y79_4 y79_5 y79_6 y79_7 y79_8 v10 a1 v1 v3 := ⟨_, rfl⟩
            rw [ht, ← ew13] at hB
            have hP : va_P (dC, dI) vwCl [(h0, .inr (0, [.long f0, .long f1, .long f2, .int f3, .int w13.1, .int w13.2.1, .int w13.2.2.1, .long w13.2.2.2.1, .long w13.2.2.2.2]))] H := hB
            refine lv_lload hx hb dX0_tryPower_129 (lv_at hl 1 rfl) ?_
            refine lv_lconst (v := 1) hx hb dX0_tryPower_131 (by decide) ?_
            refine lv_ladd hx hb dX0_tryPower_132 ?_
            refine lv_topl (fun v14 ev14 => ?_)
            refine lv_lstore (lv' := [(13, .long v14), (15, .long v10), (11, .long v8), (9, .long v7), (7, .long v6), (5, .long v3), (3, .long v1), (0, .ref h0), (1, .int a0), (2, .int a1)]) hx hb dX0_tryPower_133 hl (by decide) rfl (fun ls hl => ?_)
            refine lv_goto (tgt := 79) hx hb dX0_tryPower_135 (by decide) ?_
            exact hgo (v14, w13.1, w13.2.1, w13.2.2.1, w13.2.2.2.1, w13.2.2.2.2) (by have hh := ev10.symm; subst hh; have hh := ew13.symm; subst hh; have hh := ev14.symm; subst hh; simp only [hx_tryPower_s79, if_neg c9]) H locs hP hS (show hf_okx w13 from by rw [ew13]; exact hx_offer_ok _ _ _ _ _ _ _ _ _ _ _ _ _ (by rw [ev3]; exact hf_dn_ne _) hI79) ls (lv_sub hl [0, 2, 3, 4, 5, 6, 7, 8, 9] rfl)
          refine hf_lcmp_ge (tgt := 102) hx hb dX0_tryPower_93 dX0_tryPower_94 (by decide) (fun c11 => ?_) (fun c11 => ?_)
          · skip
            refine lv_lload hx hb dX0_tryPower_102 (lv_at hl 0 rfl) ?_
            refine lv_lload hx hb dX0_tryPower_104 (lv_at hl 1 rfl) ?_
            refine hf_lcmp_le (tgt := 115) hx hb dX0_tryPower_106 dX0_tryPower_107 (by decide) (fun c12 => ?_) (fun c12 => ?_)
            · skip
              refine lv_lload hx hb dX0_tryPower_115 (lv_at hl 0 rfl) ?_
              exact J117 _ (by simp only [if_pos c11, if_pos c12]) ls hl
            · skip
              refine lv_lload hx hb dX0_tryPower_110 (lv_at hl 1 rfl) ?_
              refine lv_goto (tgt := 117) hx hb dX0_tryPower_112 (by decide) ?_
              exact J117 _ (by simp only [if_pos c11, if_neg c12]) ls hl
          · skip
            refine lv_lload hx hb dX0_tryPower_97 (lv_at hl 2 rfl) ?_
            refine lv_goto (tgt := 117) hx hb dX0_tryPower_99 (by decide) ?_
            exact J117 _ (by simp only [if_neg c11]) ls hl
      · skip
        exact W.vret hx hb hr (fun t ht hW => ⟨⟨(), rfl, trivial, by have e : (f4, f5, f6, f7, f8) = hx_tryPower f0 f1 f2 f3 f4 f5 f6 f7 f8 a0 a1 := (by have hh := ev1.symm; subst hh; have hh := ev3.symm; subst hh; simp only [hx_tryPower, if_neg c5]); show hf_O0 (dC, dI) h0 (f0, f1, f2, f3, hx_tryPower f0 f1 f2 f3 f4 f5 f6 f7 f8 a0 a1) t.heap; rw [ht, ← e]; exact hP⟩, hS.F ht⟩) hS.2.2 dX0_tryPower_44
    refine lv_if_ge (tgt := 25) hx hb dX0_tryPower_14 (by decide) (fun c4 => ?_) (fun c4 => ?_)
    · skip
      refine lv_lconst (v := 1) hx hb dX0_tryPower_25 (by decide) ?_
      exact J26 _ (by simp only [if_pos c4]) ls hl
    · skip
      refine lv_iload_n hx hb dX0_tryPower_17 rfl (lv_at hl 3 rfl) ?_
      refine lv_ineg hx hb dX0_tryPower_18 ?_
      refine W.callV (r := .long (hx_power (-a1))) (W.runS (As := [.int (-a1)]) (rest := []) ⟨hx, hb, hml, hown, hts⟩ (met_X0_power l (-a1)) (va_cwS 1 hts (lw_S q94 q95 q7 q96) rfl rfl rfl (by decide +kernel) ⟨Nat.le_of_ble_eq_true rfl, Nat.le_of_ble_eq_true rfl⟩) preEq rfl rfl hl.1 rfl (lv_room (Nat.le_of_ble_eq_true rfl)) dX0_tryPower_19 ⟨Nat.le_of_ble_eq_true rfl, Nat.le_of_ble_eq_true rfl⟩) ?_
      refine W.eq (g2 := F0 m 22 ls [.long (hx_power (-a1))]) rfl ?_
      refine lv_goto (tgt := 26) hx hb dX0_tryPower_22 (by decide) ?_
      exact J26 _ (by simp only [if_neg c4]) ls hl
  refine lv_if_le (tgt := 11) hx hb dX0_tryPower_1 (by decide) (fun c2 => ?_) (fun c2 => ?_)
  · skip
    refine lv_lconst (v := 1) hx hb dX0_tryPower_11 (by decide) ?_
    exact J12 _ (by simp only [if_pos c2]) ls hl
  · skip
    refine lv_iload_n hx hb dX0_tryPower_4 rfl (lv_at hl 2 rfl) ?_
    refine W.callV (r := .long (hx_power a1)) (W.runS (As := [.int a1]) (rest := []) ⟨hx, hb, hml, hown, hts⟩ (met_X0_power l a1) (va_cwS 1 hts (lw_S q94 q95 q7 q96) rfl rfl rfl (by decide +kernel) ⟨Nat.le_of_ble_eq_true rfl, Nat.le_of_ble_eq_true rfl⟩) preEq rfl rfl hl.1 rfl (lv_room (Nat.le_of_ble_eq_true rfl)) dX0_tryPower_5 ⟨Nat.le_of_ble_eq_true rfl, Nat.le_of_ble_eq_true rfl⟩) ?_
    refine W.eq (g2 := F0 m 8 ls [.long (hx_power a1)]) rfl ?_
    refine lv_goto (tgt := 12) hx hb dX0_tryPower_8 (by decide) ?_
    exact J12 _ (by simp only [if_neg c2]) ls hl
set_option maxHeartbeats 1000000 in
set_option maxRecDepth 100000 in
theorem met_X0_findWriting (l : Launch) (dC : Nat → ClassId) (dI : Nat → Nat → Nat) (h0 : Nat) (f0 : Int64) (f1 : Int64) (f2 : Int64) (f3 : Int32) (f4 : Int32) (f5 : Int32) (f6 : Int32) (f7 : Int64) (f8 : Int64) (a0 : Int32) : Met l yX0_findWriting (ws_ yX0_findWriting cX0_findWriting 8 none) ({ frames := 5, cells := 0, slots := 0, locals := 151 } : Room) (va_Pc [.ref h0, .int a0] (fun U => hf_O0 (dC, dI) h0 (f0, f1, f2, f3, f4, f5, f6, f7, f8) U.heap ∧ va_K (dC, dI) vwCl [] U)) (va_Qv (fun _ : Unit => True) (fun _ t => hf_O0 (dC, dI) h0 (hx_findWriting f5 f6 f7 f8 a0) t.heap) (fun q => q = h0)) 0 0 (fun q => q = h0) := by
  refine Met.ofW (cc := cX0_findWriting) (maxL := 8) (ret := none) (by decide) rfl ?_
  intro p e s m args below meth c s₁ B hml hv
  obtain ⟨hv, hP, hK⟩ := hv
  subst hv
  have hx := B.exec
  have hb := B.bytes
  have hr := B.returns
  have hts := atoms_spec (ws := (ws_ yX0_findWriting cX0_findWriting 8 none)) B.pre
  have hts : ∀ w ∈ lw_all, w.before _ s = true := fun w h => hts w (List.mem_cons_of_mem _ h)
  have hown : s.vm.findClass RX0 = some m.cls := findClass_of_methodNamed B.named
  have hlocks := B.notSynchronized
  have hS : va_S (fun q => q = h0) s.heap s.heap [] := va_S.rf
  have hP : va_P (dC, dI) vwCl [(h0, .inr (0, [.long f0, .long f1, .long f2, .int f3, .int f4, .int f5, .int f6, .long f7, .long f8]))] s.heap := hP
  have hl := lv_entry ([.ref h0, .int a0]) (n := 8) (Nat.le_of_ble_eq_true rfl)
  rw [lg_entry_eq]
  generalize (lg_sl ([.ref h0, .int a0]) ++ List.replicate (8 - (lg_sl ([.ref h0, .int a0])).length) Slot.unset).toArray = ls at hl ⊢
  have hl : lv_has ls 8 [(0, .ref h0), (1, .int a0)] := hl
  refine lv_iload_n hx hb dX0_findWriting_0 rfl (lv_at hl 1 rfl) ?_
  refine lv_sipush (v := 32767) hx hb dX0_findWriting_1 (by decide) ?_
  refine lv_iand hx hb dX0_findWriting_4 ?_
  refine lv_topi (fun v1 ev1 => ?_)
  refine lv_istore_n (lv' := [(2, .int v1), (0, .ref h0), (1, .int a0)]) hx hb dX0_findWriting_5 rfl hl (by decide) rfl (fun ls hl => ?_)
  refine lv_aload_n hx hb dX0_findWriting_6 rfl (lv_at hl 1 rfl) ?_
  refine lv_iload_n hx hb dX0_findWriting_7 rfl (lv_at hl 0 rfl) ?_
  refine W.callV (r := .int (hx_digitsOf v1)) (W.runS (As := [.int v1]) (rest := [.ref h0]) ⟨hx, hb, hml, hown, hts⟩ (met_X0_digitsOf l v1) (va_cwS 1 hts (lw_S q56 q57 q7 q58) rfl rfl rfl (by decide +kernel) ⟨Nat.le_of_ble_eq_true rfl, Nat.le_of_ble_eq_true rfl⟩) preEq rfl rfl hl.1 rfl (lv_room (Nat.le_of_ble_eq_true rfl)) dX0_findWriting_8 ⟨Nat.le_of_ble_eq_true rfl, Nat.le_of_ble_eq_true rfl⟩) ?_
  refine W.eq (g2 := F0 m 11 ls [.int (hx_digitsOf v1), .ref h0]) rfl ?_
  refine lv_i2l hx hb dX0_findWriting_11 rfl ?_
  refine lv_iload_n hx hb dX0_findWriting_12 rfl (lv_at hl 0 rfl) ?_
  refine W.callV (r := .int (hx_placeOf v1)) (W.runS (As := [.int v1]) (rest := [.long ((hx_digitsOf v1 : Int32).toInt64), .ref h0]) ⟨hx, hb, hml, hown, hts⟩ (met_X0_placeOf l v1) (va_cwS 1 hts (lw_S q59 q60 q7 q61) rfl rfl rfl (by decide +kernel) ⟨Nat.le_of_ble_eq_true rfl, Nat.le_of_ble_eq_true rfl⟩) preEq rfl rfl hl.1 rfl (lv_room (Nat.le_of_ble_eq_true rfl)) dX0_findWriting_13 ⟨Nat.le_of_ble_eq_true rfl, Nat.le_of_ble_eq_true rfl⟩) ?_
  refine W.eq (g2 := F0 m 16 ls [.int (hx_placeOf v1), .long ((hx_digitsOf v1 : Int32).toInt64), .ref h0]) rfl ?_
  refine lv_iconst (v := 2) hx hb dX0_findWriting_16 (by decide) ?_
  refine lv_iadd hx hb dX0_findWriting_17 ?_
  refine lv_lshl hx hb dX0_findWriting_18 rfl ?_
  refine lv_topl (fun v2 ev2 => ?_)
  refine va_put (D := (dC, dI)) (ci := 0) (v := .long v2) (ty := .long) (C := RX0) (T := TX0) (N := 9) hx hb hts in_X0 tyX0 tyX0_ok nmX0 hown hK hP (hf_D1 _ _) hS 0 rfl rfl 0 (by decide) (hts _ q17) (fun _ h9 => h9) rfl (by decide +kernel) rfl rfl (Nat.le_of_ble_eq_true rfl) dX0_findWriting_19 (fun H locs hP _ hS => ?_)
  have hP : va_P (dC, dI) vwCl [(h0, .inr (0, [.long v2, .long f1, .long f2, .int f3, .int f4, .int f5, .int f6, .long f7, .long f8]))] H := hP
  refine lv_ldc2 (v := 2) hx hb hown (hts _ q107) dX0_findWriting_22 ?_
  refine lv_iload_n hx hb dX0_findWriting_25 rfl (lv_at hl 0 rfl) ?_
  refine W.callV (r := .int (hx_placeOf v1)) (W.runS (As := [.int v1]) (rest := [.long 2]) ⟨hx, hb, hml, hown, hts⟩ (met_X0_placeOf l v1) (va_cwS 1 hts (lw_S q59 q60 q7 q61) rfl rfl rfl (by decide +kernel) ⟨Nat.le_of_ble_eq_true rfl, Nat.le_of_ble_eq_true rfl⟩) preEq rfl rfl hl.1 rfl (lv_room (Nat.le_of_ble_eq_true rfl)) dX0_findWriting_26 ⟨Nat.le_of_ble_eq_true rfl, Nat.le_of_ble_eq_true rfl⟩) ?_
  refine W.eq (g2 := F0 m 29 ls [.int (hx_placeOf v1), .long 2]) rfl ?_
  refine lv_lshl hx hb dX0_findWriting_29 rfl ?_
  refine lv_topl (fun v3 ev3 => ?_)
  refine lv_lstore_n (lv' := [(3, .long v3), (2, .int v1), (0, .ref h0), (1, .int a0)]) hx hb dX0_findWriting_30 rfl hl (by decide) rfl (fun ls hl => ?_)
  refine lv_iload_n hx hb dX0_findWriting_31 rfl (lv_at hl 1 rfl) ?_
  refine lv_sipush (v := 1023) hx hb dX0_findWriting_32 (by decide) ?_
  refine lv_iand hx hb dX0_findWriting_35 ?_
  have J51 : ∀ (v4 : Int32), v4 = (if (v1 &&& 1023 : Int32) = (0 : Int32) then (if (v1 : Int32) ≤ (1024 : Int32) then (0)
    else (1))
  else (0)) → ∀ ls : Array Slot, lv_has ls 8 [(3, .long v3), (2, .int v1), (0, .ref h0), (1, .int a0)] → (W p l e (headSpec (ws_ yX0_findWriting cX0_findWriting 8 none) ({ frames := 5, cells := 0, slots := 0, locals := 151 } : Room)).room s m ([.ref h0, .int a0] : List Value).toArray below meth c H locs 0 0 (MQ below (va_Qv (fun _ : Unit => True) (fun _ t => hf_O0 (dC, dI) h0 (hx_findWriting f5 f6 f7 f8 a0) t.heap) (fun q => q = h0)) ([.ref h0, .int a0] : List Value).toArray s 0 0 (fun q => q = h0))) (F0 m 51 ls [.int v4]) := by
    intro v4 ev4 ls hl
    refine lv_istore (lv' := [(5, .int v4), (3, .long v3), (2, .int v1), (0, .ref h0), (1, .int a0)]) hx hb dX0_findWriting_51 hl (by decide) rfl (fun ls hl => ?_)
    refine lv_aload_n hx hb dX0_findWriting_53 rfl (lv_at hl 3 rfl) ?_
    refine lv_aload_n hx hb dX0_findWriting_54 rfl (lv_at hl 3 rfl) ?_
    refine va_get (D := (dC, dI)) (ci := 0) (v := .long v2) (C := RX0) (T := TX0) (N := 9) hx hb hts in_X0 hown hK hP 0 rfl rfl 0 (by decide) (hts _ q17) (fun _ h9 => h9) rfl dX0_findWriting_55 ?_
    refine lv_iload hx hb dX0_findWriting_58 (lv_at hl 0 rfl) ?_
    have J72 : ∀ (v7 : Int64), v7 = (if (v4 : Int32) = (0 : Int32) then (v3)
  else (v3 / 2)) → ∀ ls : Array Slot, lv_has ls 8 [(5, .int v4), (3, .long v3), (2, .int v1), (0, .ref h0), (1, .int a0)] → (W p l e (headSpec (ws_ yX0_findWriting cX0_findWriting 8 none) ({ frames := 5, cells := 0, slots := 0, locals := 151 } : Room)).room s m ([.ref h0, .int a0] : List Value).toArray below meth c H locs 0 0 (MQ below (va_Qv (fun _ : Unit => True) (fun _ t => hf_O0 (dC, dI) h0 (hx_findWriting f5 f6 f7 f8 a0) t.heap) (fun q => q = h0)) ([.ref h0, .int a0] : List Value).toArray s 0 0 (fun q => q = h0))) (F0 m 72 ls [.long v7, .long v2, .ref h0]) := by
      intro v7 ev7 ls hl
      refine lv_lsub hx hb dX0_findWriting_72 ?_
      refine lv_topl (fun v9 ev9 => ?_)
      refine va_put (D := (dC, dI)) (ci := 0) (v := .long v9) (ty := .long) (C := RX0) (T := TX0) (N := 9) hx hb hts in_X0 tyX0 tyX0_ok nmX0 hown hK hP (hf_D1 _ _) hS 0 rfl rfl 1 (by decide) (hts _ q18) (fun _ h9 => h9) rfl (by decide +kernel) rfl rfl (Nat.le_of_ble_eq_true rfl) dX0_findWriting_73 (fun H locs hP _ hS => ?_)
      have hP : va_P (dC, dI) vwCl [(h0, .inr (0, [.long v2, .long v9, .long f2, .int f3, .int f4, .int f5, .int f6, .long f7, .long f8]))] H := hP
      refine lv_aload_n hx hb dX0_findWriting_76 rfl (lv_at hl 3 rfl) ?_
      refine lv_aload_n hx hb dX0_findWriting_77 rfl (lv_at hl 3 rfl) ?_
      refine va_get (D := (dC, dI)) (ci := 0) (v := .long v2) (C := RX0) (T := TX0) (N := 9) hx hb hts in_X0 hown hK hP 0 rfl rfl 0 (by decide) (hts _ q17) (fun _ h9 => h9) rfl dX0_findWriting_78 ?_
      refine lv_lload_n hx hb dX0_findWriting_81 rfl (lv_at hl 1 rfl) ?_
      refine lv_ladd hx hb dX0_findWriting_82 ?_
      refine lv_topl (fun v10 ev10 => ?_)
      refine va_put (D := (dC, dI)) (ci := 0) (v := .long v10) (ty := .long) (C := RX0) (T := TX0) (N := 9) hx hb hts in_X0 tyX0 tyX0_ok nmX0 hown hK hP (hf_D1 _ _) hS 0 rfl rfl 2 (by decide) (hts _ q19) (fun _ h9 => h9) rfl (by decide +kernel) rfl rfl (Nat.le_of_ble_eq_true rfl) dX0_findWriting_83 (fun H locs hP _ hS => ?_)
      have hP : va_P (dC, dI) vwCl [(h0, .inr (0, [.long v2, .long v9, .long v10, .int f3, .int f4, .int f5, .int f6, .long f7, .long f8]))] H := hP
      refine lv_aload_n hx hb dX0_findWriting_86 rfl (lv_at hl 3 rfl) ?_
      refine lv_iload_n hx hb dX0_findWriting_87 rfl (lv_at hl 2 rfl) ?_
      refine lv_iconst (v := 1) hx hb dX0_findWriting_88 (by decide) ?_
      refine lv_iand hx hb dX0_findWriting_89 ?_
      have J98 : ∀ (v11 : Int32), v11 = (if (v1 &&& 1 : Int32) = (0 : Int32) then (1)
  else (0)) → ∀ ls : Array Slot, lv_has ls 8 [(5, .int v4), (3, .long v3), (2, .int v1), (0, .ref h0), (1, .int a0)] → (W p l e (headSpec (ws_ yX0_findWriting cX0_findWriting 8 none) ({ frames := 5, cells := 0, slots := 0, locals := 151 } : Room)).room s m ([.ref h0, .int a0] : List Value).toArray below meth c H locs 0 0 (MQ below (va_Qv (fun _ : Unit => True) (fun _ t => hf_O0 (dC, dI) h0 (hx_findWriting f5 f6 f7 f8 a0) t.heap) (fun q => q = h0)) ([.ref h0, .int a0] : List Value).toArray s 0 0 (fun q => q = h0))) (F0 m 98 ls [.int v11, .ref h0]) := by
        intro v11 ev11 ls hl
        refine va_put (D := (dC, dI)) (ci := 0) (v := .int v11) (ty := .boolean) (C := RX0) (T := TX0) (N := 9) hx hb hts in_X0 tyX0 tyX0_ok nmX0 hown hK hP (hf_D1 _ _) hS 0 rfl rfl 3 (by decide) (hts _ q20) (fun _ h9 => h9) rfl (by decide +kernel) (by rw [ev11]; split <;> rfl) (by rw [ev11]; split <;> rfl) (Nat.le_of_ble_eq_true rfl) dX0_findWriting_98 (fun H locs hP _ hS => ?_)
        have hP : va_P (dC, dI) vwCl [(h0, .inr (0, [.long v2, .long v9, .long v10, .int v11, .int f4, .int f5, .int f6, .long f7, .long f8]))] H := hP
        refine lv_aload_n hx hb dX0_findWriting_101 rfl (lv_at hl 3 rfl) ?_
        refine lv_iconst (v := 0) hx hb dX0_findWriting_102 (by decide) ?_
        refine va_put (D := (dC, dI)) (ci := 0) (v := .int 0) (ty := .boolean) (C := RX0) (T := TX0) (N := 9) hx hb hts in_X0 tyX0 tyX0_ok nmX0 hown hK hP (hf_D1 _ _) hS 0 rfl rfl 4 (by decide) (hts _ q21) (fun _ h9 => h9) rfl (by decide +kernel) rfl rfl (Nat.le_of_ble_eq_true rfl) dX0_findWriting_103 (fun H locs hP _ hS => ?_)
        have hP : va_P (dC, dI) vwCl [(h0, .inr (0, [.long v2, .long v9, .long v10, .int v11, .int 0, .int f5, .int f6, .long f7, .long f8]))] H := hP
        refine lv_iconst (v := 1) hx hb dX0_findWriting_106 (by decide) ?_
        refine lv_istore (lv' := [(6, .int 1), (5, .int v4), (3, .long v3), (2, .int v1), (0, .ref h0), (1, .int a0)]) hx hb dX0_findWriting_107 hl (by decide) rfl (fun ls hl => ?_)
        have X109 : ∀ q109 : Int32 × Int32 × Int32 × Int32 × Int64 × Int64, q109 = hf_run (hx_findWriting_s109 v2 v9 v10 v11) 6 (1, 0, f5, f6, f7, f8) → ∀ (H : Heap) (locs : List Loc), va_P (dC, dI) vwCl [(h0, .inr (0, [.long v2, .long v9, .long v10, .int v11, .int q109.2.1, .int q109.2.2.1, .int q109.2.2.2.1, .long q109.2.2.2.2.1, .long q109.2.2.2.2.2]))] H → va_S (fun q => q = h0) s.heap H locs → hf_okx q109.2 → ∀ ls : Array Slot, lv_has ls 8 [(6, .int q109.1), (5, .int v4), (3, .long v3), (2, .int v1), (0, .ref h0), (1, .int a0)] → (W p l e (headSpec (ws_ yX0_findWriting cX0_findWriting 8 none) ({ frames := 5, cells := 0, slots := 0, locals := 151 } : Room)).room s m ([.ref h0, .int a0] : List Value).toArray below meth c H locs 0 0 (MQ below (va_Qv (fun _ : Unit => True) (fun _ t => hf_O0 (dC, dI) h0 (hx_findWriting f5 f6 f7 f8 a0) t.heap) (fun q => q = h0)) ([.ref h0, .int a0] : List Value).toArray s 0 0 (fun q => q = h0))) (F0 m 153 ls []) := by
          intro q109 eq109 H locs hP hS hI109 ls hl
          exact W.vret hx hb hr (fun t ht hW => ⟨⟨(), rfl, trivial, by have e : (v2, v9, v10, v11, q109.2.1, q109.2.2.1, q109.2.2.2.1, q109.2.2.2.2.1, q109.2.2.2.2.2) = hx_findWriting f5 f6 f7 f8 a0 := (by have hh := ev1.symm; subst hh; have hh := ev2.symm; subst hh; have hh := ev3.symm; subst hh; have hh := ev4.symm; subst hh; have hh := ev7.symm; subst hh; have hh := ev9.symm; subst hh; have hh := ev10.symm; subst hh; have hh := ev11.symm; subst hh; have hh := eq109.symm; subst hh; simp only [hx_findWriting]); show hf_O0 (dC, dI) h0 (hx_findWriting f5 f6 f7 f8 a0) t.heap; rw [ht, ← e]; exact hP⟩, hS.F ht⟩) hS.2.2 dX0_findWriting_153
        refine hf_loop (hx_findWriting_s109 v2 v9 v10 v11) (fun q => ∀ (H : Heap) (locs : List Loc), va_P (dC, dI) vwCl [(h0, .inr (0, [.long v2, .long v9, .long v10, .int v11, .int q.2.1, .int q.2.2.1, .int q.2.2.2.1, .long q.2.2.2.2.1, .long q.2.2.2.2.2]))] H → va_S (fun q => q = h0) s.heap H locs → hf_okx q.2 → ∀ ls : Array Slot, lv_has ls 8 [(6, .int q.1), (5, .int v4), (3, .long v3), (2, .int v1), (0, .ref h0), (1, .int a0)] → (W p l e (headSpec (ws_ yX0_findWriting cX0_findWriting 8 none) ({ frames := 5, cells := 0, slots := 0, locals := 151 } : Room)).room s m ([.ref h0, .int a0] : List Value).toArray below meth c H locs 0 0 (MQ below (va_Qv (fun _ : Unit => True) (fun _ t => hf_O0 (dC, dI) h0 (hx_findWriting f5 f6 f7 f8 a0) t.heap) (fun q => q = h0)) ([.ref h0, .int a0] : List Value).toArray s 0 0 (fun q => q = h0))) (F0 m 109 ls [])) (fun q => ∀ (H : Heap) (locs : List Loc), va_P (dC, dI) vwCl [(h0, .inr (0, [.long v2, .long v9, .long v10, .int v11, .int q.2.1, .int q.2.2.1, .int q.2.2.2.1, .long q.2.2.2.2.1, .long q.2.2.2.2.2]))] H → va_S (fun q => q = h0) s.heap H locs → hf_okx q.2 → ∀ ls : Array Slot, lv_has ls 8 [(6, .int q.1), (5, .int v4), (3, .long v3), (2, .int v1), (0, .ref h0), (1, .int a0)] → (W p l e (headSpec (ws_ yX0_findWriting cX0_findWriting 8 none) ({ frames := 5, cells := 0, slots := 0, locals := 151 } : Room)).room s m ([.ref h0, .int a0] : List Value).toArray below meth c H locs 0 0 (MQ below (va_Qv (fun _ : Unit => True) (fun _ t => hf_O0 (dC, dI) h0 (hx_findWriting f5 f6 f7 f8 a0) t.heap) (fun q => q = h0)) ([.ref h0, .int a0] : List Value).toArray s 0 0 (fun q => q = h0))) (F0 m 153 ls [])) ?_ 6 (1, 0, f5, f6, f7, f8) (hx_findWriting_end109) (X109 _ rfl) H locs hP hS (fun h => (h rfl).elim) ls (lv_sub hl [0, 1, 2, 3, 4, 5] rfl)
        rintro ⟨x109_6, y109_4, y109_5, y109_6, y109_7, y109_8⟩ hno hgo H locs hP hS hI109 ls hl
        have hl : lv_has ls 8 [(6, .int x109_6), (5, .int v4), (3, .long v3), (2, .int v1), (0, .ref h0), (1, .int a0)] := hl
        have hP : va_P (dC, dI) vwCl [(h0, .inr (0, [.long v2, .long v9, .long v10, .int v11, .int y109_4, .int y109_5, .int y109_6, .long y109_7, .long y109_8]))] H := hP
        refine lv_iload hx hb dX0_findWriting_109 (lv_at hl 0 rfl) ?_
        refine lv_bipush (v := 6) hx hb dX0_findWriting_111 (by decide) ?_
        refine lv_icmp_gt (tgt := 153) hx hb dX0_findWriting_113 (by decide) (fun c13 => ?_) (fun c13 => ?_)
        · skip
          exact hno (by simp only [hx_findWriting_s109, if_pos c13]) H locs hP hS hI109 ls (lv_sub hl [0, 1, 2, 3, 4, 5] rfl)
        · skip
          refine lv_aload_n hx hb dX0_findWriting_116 rfl (lv_at hl 4 rfl) ?_
          refine va_get (D := (dC, dI)) (ci := 0) (v := .int y109_4) (C := RX0) (T := TX0) (N := 9) hx hb hts in_X0 hown hK hP 0 rfl rfl 4 (by decide) (hts _ q21) (fun _ h9 => h9) rfl dX0_findWriting_117 ?_
          refine lv_if_ne (tgt := 153) hx hb dX0_findWriting_120 (by decide) (fun c14 => ?_) (fun c14 => ?_)
          · skip
            exact hno (by simp only [hx_findWriting_s109, if_neg c13, if_neg c14]) H locs hP hS hI109 ls (lv_sub hl [0, 1, 2, 3, 4, 5] rfl)
          · skip
            refine lv_iconst (v := 4) hx hb dX0_findWriting_123 (by decide) ?_
            refine lv_istore (lv' := [(7, .int 4), (6, .int x109_6), (5, .int v4), (3, .long v3), (2, .int v1), (0, .ref h0), (1, .int a0)]) hx hb dX0_findWriting_124 hl (by decide) rfl (fun ls hl => ?_)
            have X126 : ∀ q126 : Int32 × Int32 × Int32 × Int32 × Int64 × Int64, q126 = hf_run (hx_findWriting_s126 x109_6 v2 v9 v10 v11) 17 (4, y109_4, y109_5, y109_6, y109_7, y109_8) → ∀ (H : Heap) (locs : List Loc), va_P (dC, dI) vwCl [(h0, .inr (0, [.long v2, .long v9, .long v10, .int v11, .int q126.2.1, .int q126.2.2.1, .int q126.2.2.2.1, .long q126.2.2.2.2.1, .long q126.2.2.2.2.2]))] H → va_S (fun q => q = h0) s.heap H locs → (q126.1 ≤ 4 ∧ hf_okx q126.2) → ∀ ls : Array Slot, lv_has ls 8 [(7, .int q126.1), (6, .int x109_6), (5, .int v4), (3, .long v3), (2, .int v1), (0, .ref h0), (1, .int a0)] → (W p l e (headSpec (ws_ yX0_findWriting cX0_findWriting 8 none) ({ frames := 5, cells := 0, slots := 0, locals := 151 } : Room)).room s m ([.ref h0, .int a0] : List Value).toArray below meth c H locs 0 0 (MQ below (va_Qv (fun _ : Unit => True) (fun _ t => hf_O0 (dC, dI) h0 (hx_findWriting f5 f6 f7 f8 a0) t.heap) (fun q => q = h0)) ([.ref h0, .int a0] : List Value).toArray s 0 0 (fun q => q = h0))) (F0 m 147 ls []) := by
              intro q126 eq126 H locs hP hS hI126 ls hl
              obtain ⟨v15, ev15⟩ : ∃ y : Int32, y = x109_6 + 1 := ⟨_, rfl⟩
              refine lv_iinc (v := v15) (lv' := [(6, .int v15), (7, .int q126.1), (5, .int v4), (3, .long v3), (2, .int v1), (0, .ref h0), (1, .int a0)]) hx hb dX0_findWriting_147 hl (k := 1) rfl (by rw [ev15]; rfl) (by decide) rfl (fun ls hl => ?_)
              refine lv_goto (tgt := 109) hx hb dX0_findWriting_150 (by decide) ?_
              exact hgo (v15, q126.2.1, q126.2.2.1, q126.2.2.2.1, q126.2.2.2.2.1, q126.2.2.2.2.2) (by have hh := eq126.symm; subst hh; have hh := ev15.symm; subst hh; simp only [hx_findWriting_s109, if_neg c13, if_pos c14]) H locs hP hS hI126.2 ls (lv_sub hl [0, 2, 3, 4, 5, 6] rfl)
            refine hf_loop (hx_findWriting_s126 x109_6 v2 v9 v10 v11) (fun q => ∀ (H : Heap) (locs : List Loc), va_P (dC, dI) vwCl [(h0, .inr (0, [.long v2, .long v9, .long v10, .int v11, .int q.2.1, .int q.2.2.1, .int q.2.2.2.1, .long q.2.2.2.2.1, .long q.2.2.2.2.2]))] H → va_S (fun q => q = h0) s.heap H locs → (q.1 ≤ 4 ∧ hf_okx q.2) → ∀ ls : Array Slot, lv_has ls 8 [(7, .int q.1), (6, .int x109_6), (5, .int v4), (3, .long v3), (2, .int v1), (0, .ref h0), (1, .int a0)] → (W p l e (headSpec (ws_ yX0_findWriting cX0_findWriting 8 none) ({ frames := 5, cells := 0, slots := 0, locals := 151 } : Room)).room s m ([.ref h0, .int a0] : List Value).toArray below meth c H locs 0 0 (MQ below (va_Qv (fun _ : Unit => True) (fun _ t => hf_O0 (dC, dI) h0 (hx_findWriting f5 f6 f7 f8 a0) t.heap) (fun q => q = h0)) ([.ref h0, .int a0] : List Value).toArray s 0 0 (fun q => q = h0))) (F0 m 126 ls [])) (fun q => ∀ (H : Heap) (locs : List Loc), va_P (dC, dI) vwCl [(h0, .inr (0, [.long v2, .long v9, .long v10, .int v11, .int q.2.1, .int q.2.2.1, .int q.2.2.2.1, .long q.2.2.2.2.1, .long q.2.2.2.2.2]))] H → va_S (fun q => q = h0) s.heap H locs → (q.1 ≤ 4 ∧ hf_okx q.2) → ∀ ls : Array Slot, lv_has ls 8 [(7, .int q.1), (6, .int x109_6), (5, .int v4), (3, .long v3), (2, .int v1), (0, .ref h0), (1, .int a0)] → (W p l e (headSpec (ws_ yX0_findWriting cX0_findWriting 8 none) ({ frames := 5, cells := 0, slots := 0, locals := 151 } : Room)).room s m ([.ref h0, .int a0] : List Value).toArray below meth c H locs 0 0 (MQ below (va_Qv (fun _ : Unit => True) (fun _ t => hf_O0 (dC, dI) h0 (hx_findWriting f5 f6 f7 f8 a0) t.heap) (fun q => q = h0)) ([.ref h0, .int a0] : List Value).toArray s 0 0 (fun q => q = h0))) (F0 m 147 ls [])) ?_ 17 (4, y109_4, y109_5, y109_6, y109_7, y109_8) (hx_findWriting_end126) (X126 _ rfl) H locs hP hS ⟨(show (4 : Int32) ≤ 4 from by decide), hI109⟩ ls (lv_sub hl [0, 1, 2, 3, 4, 5, 6] rfl)
            rintro ⟨x126_7, y126_4, y126_5, y126_6, y126_7, y126_8⟩ hno hgo H locs hP hS hI126 ls hl
            have hl : lv_has ls 8 [(7, .int x126_7), (6, .int x109_6), (5, .int v4), (3, .long v3), (2, .int v1), (0, .ref h0), (1, .int a0)] := hl
            have hP : va_P (dC, dI) vwCl [(h0, .inr (0, [.long v2, .long v9, .long v10, .int v11, .int y126_4, .int y126_5, .int y126_6, .long y126_7, .long y126_8]))] H := hP
            refine lv_iload hx hb dX0_findWriting_126 (lv_at hl 0 rfl) ?_
            refine lv_bipush (v := (-12)) hx hb dX0_findWriting_128 (by decide) ?_
            refine lv_icmp_lt (tgt := 147) hx hb dX0_findWriting_130 (by decide) (fun c16 => ?_) (fun c16 => ?_)
            · skip
              exact hno (by simp only [hx_findWriting_s126, if_pos c16]) H locs hP hS hI126 ls (lv_sub hl [0, 1, 2, 3, 4, 5, 6] rfl)
            · skip
              refine lv_aload_n hx hb dX0_findWriting_133 rfl (lv_at hl 5 rfl) ?_
              refine lv_iload hx hb dX0_findWriting_134 (lv_at hl 1 rfl) ?_
              refine lv_iload hx hb dX0_findWriting_136 (lv_at hl 0 rfl) ?_
              refine va_callv (va_runV (As := [.int x109_6, .int x126_7]) (rest := []) ⟨hx, hb, hml, hown, hts⟩ (met_X0_tryPower l dC dI h0 v2 v9 v10 v11 y126_4 y126_5 y126_6 y126_7 y126_8 x109_6 x126_7 hI126.1 hI126.2) (cwV 2 hts (lw_V q108 q110 qs1 q7 q111) rfl rfl rfl (by decide +kernel) ⟨Nat.le_of_ble_eq_true rfl, Nat.le_of_ble_eq_true rfl⟩) ⟨fun a U g mk q => by obtain ⟨q0, qP, qK⟩ := q; exact ⟨q0, qP, va_K.moved (u := U) (U := U.calling g mk a) (Vm.Alike.refl U.vm) qK⟩, va_recv hK hP (ci := 0) (q0 := 0) rfl rfl, fun U hU hW => ⟨rfl, by rw [hU]; exact hP, va_K.moved hW.alike hK⟩⟩ rfl rfl hl.1 rfl (lv_room (Nat.le_of_ble_eq_true rfl)) dX0_findWriting_138 ⟨Nat.le_of_ble_eq_true rfl, Nat.le_of_ble_eq_true rfl⟩) hS (fun q _ h => h) (fun q h => h) (fun u t H locs ht hvm hw hB hz1 hk1 hS => ?_)
              obtain ⟨w17, ew17⟩ : ∃ y : Int32 × Int32 × Int32 × Int64 × Int64, y = hx_tryPower v2 v9 v10 v11 y126_4 y126_5 y126_6 y126_7 y126_8 x109_6 x126_7 := ⟨_, rfl⟩
              rw [ht, ← ew17] at hB
              have hP : va_P (dC, dI) vwCl [(h0, .inr (0, [.long v2, .long v9, .long v10, .int v11, .int w17.1, .int w17.2.1, .int w17.2.2.1, .long w17.2.2.2.1, .long w17.2.2.2.2]))] H := hB
              obtain ⟨v18, ev18⟩ : ∃ y : Int32, y = x126_7 + (-1) := ⟨_, rfl⟩
              refine lv_iinc (v := v18) (lv' := [(7, .int v18), (6, .int x109_6), (5, .int v4), (3, .long v3), (2, .int v1), (0, .ref h0), (1, .int a0)]) hx hb dX0_findWriting_141 hl (k := 0) rfl (by rw [ev18]; rfl) (by decide) rfl (fun ls hl => ?_)
              refine lv_goto (tgt := 126) hx hb dX0_findWriting_144 (by decide) ?_
              exact hgo (v18, w17.1, w17.2.1, w17.2.2.1, w17.2.2.2.1, w17.2.2.2.2) (by have hh := ew17.symm; subst hh; have hh := ev18.symm; subst hh; simp only [hx_findWriting_s126, if_neg c16]) H locs hP hS ⟨(by rw [ev18]; exact hf_dec4 hI126.1 (by assumption)), (show hf_okx w17 from by rw [ew17]; exact hx_tryPower_ok _ _ _ _ _ _ _ _ _ _ _ hI126.2)⟩ ls (lv_sub hl [0, 1, 2, 3, 4, 5, 6] rfl)
      refine lv_if_ne (tgt := 97) hx hb dX0_findWriting_90 (by decide) (fun c12 => ?_) (fun c12 => ?_)
      · skip
        refine lv_iconst (v := 0) hx hb dX0_findWriting_97 (by decide) ?_
        exact J98 _ (by simp only [if_neg c12]) ls hl
      · skip
        refine lv_iconst (v := 1) hx hb dX0_findWriting_93 (by decide) ?_
        refine lv_goto (tgt := 98) hx hb dX0_findWriting_94 (by decide) ?_
        exact J98 _ (by simp only [if_pos c12]) ls hl
    refine lv_if_eq (tgt := 71) hx hb dX0_findWriting_60 (by decide) (fun c8 => ?_) (fun c8 => ?_)
    · skip
      refine lv_lload_n hx hb dX0_findWriting_71 rfl (lv_at hl 1 rfl) ?_
      exact J72 _ (by simp only [if_pos c8]) ls hl
    · skip
      refine lv_lload_n hx hb dX0_findWriting_63 rfl (lv_at hl 1 rfl) ?_
      refine lv_ldc2 (v := 2) hx hb hown (hts _ q107) dX0_findWriting_64 ?_
      refine lv_ldiv hx hb dX0_findWriting_67 (by decide) ?_
      refine lv_goto (tgt := 72) hx hb dX0_findWriting_68 (by decide) ?_
      exact J72 _ (by simp only [if_neg c8]) ls hl
  refine lv_if_ne (tgt := 50) hx hb dX0_findWriting_36 (by decide) (fun c5 => ?_) (fun c5 => ?_)
  · skip
    refine lv_iconst (v := 0) hx hb dX0_findWriting_50 (by decide) ?_
    exact J51 _ (by simp only [if_neg c5]) ls hl
  · skip
    refine lv_iload_n hx hb dX0_findWriting_39 rfl (lv_at hl 1 rfl) ?_
    refine lv_sipush (v := 1024) hx hb dX0_findWriting_40 (by decide) ?_
    refine lv_icmp_le (tgt := 50) hx hb dX0_findWriting_43 (by decide) (fun c6 => ?_) (fun c6 => ?_)
    · skip
      refine lv_iconst (v := 0) hx hb dX0_findWriting_50 (by decide) ?_
      exact J51 _ (by simp only [if_pos c5, if_pos c6]) ls hl
    · skip
      refine lv_iconst (v := 1) hx hb dX0_findWriting_46 (by decide) ?_
      refine lv_goto (tgt := 51) hx hb dX0_findWriting_47 (by decide) ?_
      exact J51 _ (by simp only [if_pos c5, if_neg c6]) ls hl
set_option maxHeartbeats 1000000 in
set_option maxRecDepth 100000 in
theorem met_X0_digits (l : Launch) (dC : Nat → ClassId) (dI : Nat → Nat → Nat) (h0 : Nat) (f0 : Int64) (f1 : Int64) (f2 : Int64) (f3 : Int32) (f4 : Int32) (f5 : Int32) (f6 : Int32) (f7 : Int64) (f8 : Int64) (a0 : Int32) : Met l yX0_digits (ws_ yX0_digits cX0_digits 2 (some .int)) ({ frames := 6, cells := 0, slots := 0, locals := 178 } : Room) (va_Pc [.ref h0, .int a0] (fun U => hf_O0 (dC, dI) h0 (f0, f1, f2, f3, f4, f5, f6, f7, f8) U.heap ∧ va_K (dC, dI) vwCl [] U)) (va_Qi (fun (r : Int32) (_ : Unit) => r = hx_digits f5 f6 f7 f8 a0) (fun _ t => ∃ w : hf_T9, hf_O0 (dC, dI) h0 w t.heap) (fun q => q = h0)) 0 0 (fun q => q = h0) := by
  refine Met.ofW (cc := cX0_digits) (maxL := 2) (ret := (some .int)) (by decide) rfl ?_
  intro p e s m args below meth c s₁ B hml hv
  obtain ⟨hv, hP, hK⟩ := hv
  subst hv
  have hx := B.exec
  have hb := B.bytes
  have hr := B.returns
  have hts := atoms_spec (ws := (ws_ yX0_digits cX0_digits 2 (some .int))) B.pre
  have hts : ∀ w ∈ lw_all, w.before _ s = true := fun w h => hts w (List.mem_cons_of_mem _ h)
  have hown : s.vm.findClass RX0 = some m.cls := findClass_of_methodNamed B.named
  have hlocks := B.notSynchronized
  have hS : va_S (fun q => q = h0) s.heap s.heap [] := va_S.rf
  have hP : va_P (dC, dI) vwCl [(h0, .inr (0, [.long f0, .long f1, .long f2, .int f3, .int f4, .int f5, .int f6, .long f7, .long f8]))] s.heap := hP
  have hl := lv_entry ([.ref h0, .int a0]) (n := 2) (Nat.le_of_ble_eq_true rfl)
  rw [lg_entry_eq]
  generalize (lg_sl ([.ref h0, .int a0]) ++ List.replicate (2 - (lg_sl ([.ref h0, .int a0])).length) Slot.unset).toArray = ls at hl ⊢
  have hl : lv_has ls 2 [(0, .ref h0), (1, .int a0)] := hl
  refine lv_iload_n hx hb dX0_digits_0 rfl (lv_at hl 1 rfl) ?_
  refine W.callV (r := .int (hx_isNumber a0)) (W.runS (As := [.int a0]) (rest := []) ⟨hx, hb, hml, hown, hts⟩ (met_X0_isNumber l a0) (va_cwS 1 hts (lw_S q49 q50 q7 q51) rfl rfl rfl (by decide +kernel) ⟨Nat.le_of_ble_eq_true rfl, Nat.le_of_ble_eq_true rfl⟩) preEq rfl rfl hl.1 rfl (lv_room (Nat.le_of_ble_eq_true rfl)) dX0_digits_1 ⟨Nat.le_of_ble_eq_true rfl, Nat.le_of_ble_eq_true rfl⟩) ?_
  refine W.eq (g2 := F0 m 4 ls [.int (hx_isNumber a0)]) rfl ?_
  refine lv_if_ne (tgt := 9) hx hb dX0_digits_4 (by decide) (fun c1 => ?_) (fun c1 => ?_)
  · skip
    refine lv_iload_n hx hb dX0_digits_9 rfl (lv_at hl 1 rfl) ?_
    refine W.callV (r := .int (hx_digitsOf a0)) (W.runS (As := [.int a0]) (rest := []) ⟨hx, hb, hml, hown, hts⟩ (met_X0_digitsOf l a0) (va_cwS 1 hts (lw_S q56 q57 q7 q58) rfl rfl rfl (by decide +kernel) ⟨Nat.le_of_ble_eq_true rfl, Nat.le_of_ble_eq_true rfl⟩) preEq rfl rfl hl.1 rfl (lv_room (Nat.le_of_ble_eq_true rfl)) dX0_digits_10 ⟨Nat.le_of_ble_eq_true rfl, Nat.le_of_ble_eq_true rfl⟩) ?_
    refine W.eq (g2 := F0 m 13 ls [.int (hx_digitsOf a0)]) rfl ?_
    refine lv_if_ne (tgt := 18) hx hb dX0_digits_13 (by decide) (fun c2 => ?_) (fun c2 => ?_)
    · skip
      refine lv_aload_n hx hb dX0_digits_18 rfl (lv_at hl 0 rfl) ?_
      refine lv_iload_n hx hb dX0_digits_19 rfl (lv_at hl 1 rfl) ?_
      refine va_callv (va_runV (As := [.int a0]) (rest := []) ⟨hx, hb, hml, hown, hts⟩ (met_X0_findWriting l dC dI h0 f0 f1 f2 f3 f4 f5 f6 f7 f8 a0) (cwV 1 hts (lw_V q103 q105 qs0 q7 q106) rfl rfl rfl (by decide +kernel) ⟨Nat.le_of_ble_eq_true rfl, Nat.le_of_ble_eq_true rfl⟩) ⟨fun a U g mk q => by obtain ⟨q0, qP, qK⟩ := q; exact ⟨q0, qP, va_K.moved (u := U) (U := U.calling g mk a) (Vm.Alike.refl U.vm) qK⟩, va_recv hK hP (ci := 0) (q0 := 0) rfl rfl, fun U hU hW => ⟨rfl, by rw [hU]; exact hP, va_K.moved hW.alike hK⟩⟩ rfl rfl hl.1 rfl (lv_room (Nat.le_of_ble_eq_true rfl)) dX0_digits_20 ⟨Nat.le_of_ble_eq_true rfl, Nat.le_of_ble_eq_true rfl⟩) hS (fun q _ h => h) (fun q h => h) (fun u t H locs ht hvm hw hB hz1 hk1 hS => ?_)
      obtain ⟨w3, ew3⟩ : ∃ y : Int64 × Int64 × Int64 × Int32 × Int32 × Int32 × Int32 × Int64 × Int64, y = hx_findWriting f5 f6 f7 f8 a0 := ⟨_, rfl⟩
      rw [ht, ← ew3] at hB
      have hP : va_P (dC, dI) vwCl [(h0, .inr (0, [.long w3.1, .long w3.2.1, .long w3.2.2.1, .int w3.2.2.2.1, .int w3.2.2.2.2.1, .int w3.2.2.2.2.2.1, .int w3.2.2.2.2.2.2.1, .long w3.2.2.2.2.2.2.2.1, .long w3.2.2.2.2.2.2.2.2]))] H := hB
      refine lv_aload_n hx hb dX0_digits_23 rfl (lv_at hl 0 rfl) ?_
      refine va_get (D := (dC, dI)) (ci := 0) (v := .int w3.2.2.2.2.2.1) (C := RX0) (T := TX0) (N := 9) hx hb hts in_X0 hown hK hP 0 rfl rfl 5 (by decide) (hts _ q22) (fun _ h9 => h9) rfl dX0_digits_24 ?_
      exact W.iret hx hb hr (fun t ht hW => ⟨⟨_, (), rfl, (by have hh := ew3.symm; subst hh; simp only [hx_digits, if_neg c1, if_neg c2]), ⟨(w3.1, w3.2.1, w3.2.2.1, w3.2.2.2.1, w3.2.2.2.2.1, w3.2.2.2.2.2.1, w3.2.2.2.2.2.2.1, w3.2.2.2.2.2.2.2.1, w3.2.2.2.2.2.2.2.2), by rw [ht]; exact hP⟩⟩, hS.F ht⟩) hS.2.2 dX0_digits_27
    · skip
      refine lv_iconst (v := 0) hx hb dX0_digits_16 (by decide) ?_
      exact W.iret hx hb hr (fun t ht hW => ⟨⟨_, (), rfl, (by simp only [hx_digits, if_neg c1, if_pos c2]), ⟨(f0, f1, f2, f3, f4, f5, f6, f7, f8), by rw [ht]; exact hP⟩⟩, hS.F ht⟩) hS.2.2 dX0_digits_17
  · skip
    refine lv_iconst (v := (-1)) hx hb dX0_digits_7 (by decide) ?_
    exact W.iret hx hb hr (fun t ht hW => ⟨⟨_, (), rfl, (by simp only [hx_digits, if_pos c1]), ⟨(f0, f1, f2, f3, f4, f5, f6, f7, f8), by rw [ht]; exact hP⟩⟩, hS.F ht⟩) hS.2.2 dX0_digits_8
set_option maxHeartbeats 1000000 in
set_option maxRecDepth 100000 in
theorem met_X0_exponent (l : Launch) (dC : Nat → ClassId) (dI : Nat → Nat → Nat) (h0 : Nat) (f0 : Int64) (f1 : Int64) (f2 : Int64) (f3 : Int32) (f4 : Int32) (f5 : Int32) (f6 : Int32) (f7 : Int64) (f8 : Int64) (a0 : Int32) : Met l yX0_exponent (ws_ yX0_exponent cX0_exponent 2 (some .int)) ({ frames := 6, cells := 0, slots := 0, locals := 178 } : Room) (va_Pc [.ref h0, .int a0] (fun U => hf_O0 (dC, dI) h0 (f0, f1, f2, f3, f4, f5, f6, f7, f8) U.heap ∧ va_K (dC, dI) vwCl [] U)) (va_Qi (fun (r : Int32) (_ : Unit) => r = hx_exponent f5 f6 f7 f8 a0) (fun _ t => ∃ w : hf_T9, hf_O0 (dC, dI) h0 w t.heap) (fun q => q = h0)) 0 0 (fun q => q = h0) := by
  refine Met.ofW (cc := cX0_exponent) (maxL := 2) (ret := (some .int)) (by decide) rfl ?_
  intro p e s m args below meth c s₁ B hml hv
  obtain ⟨hv, hP, hK⟩ := hv
  subst hv
  have hx := B.exec
  have hb := B.bytes
  have hr := B.returns
  have hts := atoms_spec (ws := (ws_ yX0_exponent cX0_exponent 2 (some .int))) B.pre
  have hts : ∀ w ∈ lw_all, w.before _ s = true := fun w h => hts w (List.mem_cons_of_mem _ h)
  have hown : s.vm.findClass RX0 = some m.cls := findClass_of_methodNamed B.named
  have hlocks := B.notSynchronized
  have hS : va_S (fun q => q = h0) s.heap s.heap [] := va_S.rf
  have hP : va_P (dC, dI) vwCl [(h0, .inr (0, [.long f0, .long f1, .long f2, .int f3, .int f4, .int f5, .int f6, .long f7, .long f8]))] s.heap := hP
  have hl := lv_entry ([.ref h0, .int a0]) (n := 2) (Nat.le_of_ble_eq_true rfl)
  rw [lg_entry_eq]
  generalize (lg_sl ([.ref h0, .int a0]) ++ List.replicate (2 - (lg_sl ([.ref h0, .int a0])).length) Slot.unset).toArray = ls at hl ⊢
  have hl : lv_has ls 2 [(0, .ref h0), (1, .int a0)] := hl
  refine lv_iload_n hx hb dX0_exponent_0 rfl (lv_at hl 1 rfl) ?_
  refine W.callV (r := .int (hx_isNumber a0)) (W.runS (As := [.int a0]) (rest := []) ⟨hx, hb, hml, hown, hts⟩ (met_X0_isNumber l a0) (va_cwS 1 hts (lw_S q49 q50 q7 q51) rfl rfl rfl (by decide +kernel) ⟨Nat.le_of_ble_eq_true rfl, Nat.le_of_ble_eq_true rfl⟩) preEq rfl rfl hl.1 rfl (lv_room (Nat.le_of_ble_eq_true rfl)) dX0_exponent_1 ⟨Nat.le_of_ble_eq_true rfl, Nat.le_of_ble_eq_true rfl⟩) ?_
  refine W.eq (g2 := F0 m 4 ls [.int (hx_isNumber a0)]) rfl ?_
  refine lv_if_ne (tgt := 10) hx hb dX0_exponent_4 (by decide) (fun c1 => ?_) (fun c1 => ?_)
  · skip
    refine lv_iload_n hx hb dX0_exponent_10 rfl (lv_at hl 1 rfl) ?_
    refine W.callV (r := .int (hx_digitsOf a0)) (W.runS (As := [.int a0]) (rest := []) ⟨hx, hb, hml, hown, hts⟩ (met_X0_digitsOf l a0) (va_cwS 1 hts (lw_S q56 q57 q7 q58) rfl rfl rfl (by decide +kernel) ⟨Nat.le_of_ble_eq_true rfl, Nat.le_of_ble_eq_true rfl⟩) preEq rfl rfl hl.1 rfl (lv_room (Nat.le_of_ble_eq_true rfl)) dX0_exponent_11 ⟨Nat.le_of_ble_eq_true rfl, Nat.le_of_ble_eq_true rfl⟩) ?_
    refine W.eq (g2 := F0 m 14 ls [.int (hx_digitsOf a0)]) rfl ?_
    refine lv_if_ne (tgt := 19) hx hb dX0_exponent_14 (by decide) (fun c2 => ?_) (fun c2 => ?_)
    · skip
      refine lv_aload_n hx hb dX0_exponent_19 rfl (lv_at hl 0 rfl) ?_
      refine lv_iload_n hx hb dX0_exponent_20 rfl (lv_at hl 1 rfl) ?_
      refine va_callv (va_runV (As := [.int a0]) (rest := []) ⟨hx, hb, hml, hown, hts⟩ (met_X0_findWriting l dC dI h0 f0 f1 f2 f3 f4 f5 f6 f7 f8 a0) (cwV 1 hts (lw_V q103 q105 qs0 q7 q106) rfl rfl rfl (by decide +kernel) ⟨Nat.le_of_ble_eq_true rfl, Nat.le_of_ble_eq_true rfl⟩) ⟨fun a U g mk q => by obtain ⟨q0, qP, qK⟩ := q; exact ⟨q0, qP, va_K.moved (u := U) (U := U.calling g mk a) (Vm.Alike.refl U.vm) qK⟩, va_recv hK hP (ci := 0) (q0 := 0) rfl rfl, fun U hU hW => ⟨rfl, by rw [hU]; exact hP, va_K.moved hW.alike hK⟩⟩ rfl rfl hl.1 rfl (lv_room (Nat.le_of_ble_eq_true rfl)) dX0_exponent_21 ⟨Nat.le_of_ble_eq_true rfl, Nat.le_of_ble_eq_true rfl⟩) hS (fun q _ h => h) (fun q h => h) (fun u t H locs ht hvm hw hB hz1 hk1 hS => ?_)
      obtain ⟨w3, ew3⟩ : ∃ y : Int64 × Int64 × Int64 × Int32 × Int32 × Int32 × Int32 × Int64 × Int64, y = hx_findWriting f5 f6 f7 f8 a0 := ⟨_, rfl⟩
      rw [ht, ← ew3] at hB
      have hP : va_P (dC, dI) vwCl [(h0, .inr (0, [.long w3.1, .long w3.2.1, .long w3.2.2.1, .int w3.2.2.2.1, .int w3.2.2.2.2.1, .int w3.2.2.2.2.2.1, .int w3.2.2.2.2.2.2.1, .long w3.2.2.2.2.2.2.2.1, .long w3.2.2.2.2.2.2.2.2]))] H := hB
      refine lv_aload_n hx hb dX0_exponent_24 rfl (lv_at hl 0 rfl) ?_
      refine va_get (D := (dC, dI)) (ci := 0) (v := .int w3.2.2.2.2.2.2.1) (C := RX0) (T := TX0) (N := 9) hx hb hts in_X0 hown hK hP 0 rfl rfl 6 (by decide) (hts _ q23) (fun _ h9 => h9) rfl dX0_exponent_25 ?_
      exact W.iret hx hb hr (fun t ht hW => ⟨⟨_, (), rfl, (by have hh := ew3.symm; subst hh; simp only [hx_exponent, if_neg c1, if_neg c2]), ⟨(w3.1, w3.2.1, w3.2.2.1, w3.2.2.2.1, w3.2.2.2.2.1, w3.2.2.2.2.2.1, w3.2.2.2.2.2.2.1, w3.2.2.2.2.2.2.2.1, w3.2.2.2.2.2.2.2.2), by rw [ht]; exact hP⟩⟩, hS.F ht⟩) hS.2.2 dX0_exponent_28
    · skip
      refine lv_iconst (v := 0) hx hb dX0_exponent_17 (by decide) ?_
      exact W.iret hx hb hr (fun t ht hW => ⟨⟨_, (), rfl, (by simp only [hx_exponent, if_neg c1, if_pos c2]), ⟨(f0, f1, f2, f3, f4, f5, f6, f7, f8), by rw [ht]; exact hP⟩⟩, hS.F ht⟩) hS.2.2 dX0_exponent_18
  · skip
    refine lv_bipush (v := 100) hx hb dX0_exponent_7 (by decide) ?_
    exact W.iret hx hb hr (fun t ht hW => ⟨⟨_, (), rfl, (by simp only [hx_exponent, if_pos c1]), ⟨(f0, f1, f2, f3, f4, f5, f6, f7, f8), by rw [ht]; exact hP⟩⟩, hS.F ht⟩) hS.2.2 dX0_exponent_9
end
section
set_option maxHeartbeats 1000000 in
set_option maxRecDepth 100000 in
theorem met_X1_take (l : Launch) (dC : Nat → ClassId) (dI : Nat → Nat → Nat) (h0 : Nat) (f0 : Int32) (f1 : Int32) (a0 : Int64) (a1 : Int32) (a2 : Int64) : Met l yX1_take (ws_ yX1_take cX1_take 8 none) ({ frames := 3, cells := 0, slots := 0, locals := 83 } : Room) (va_Pc [.ref h0, .long a0, .int a1, .long a2] (fun U => hf_O1 (dC, dI) h0 (f0, f1) U.heap ∧ va_K (dC, dI) vwCl [] U)) (va_Qv (fun _ : Unit => True) (fun _ t => hf_O1 (dC, dI) h0 (hm_take f0 f1 a0 a1 a2) t.heap) (fun q => q = h0)) 0 0 (fun q => q = h0) := by
  refine Met.ofW (cc := cX1_take) (maxL := 8) (ret := none) (by decide) rfl ?_
  intro p e s m args below meth c s₁ B hml hv
  obtain ⟨hv, hP, hK⟩ := hv
  subst hv
  have hx := B.exec
  have hb := B.bytes
  have hr := B.returns
  have hts := atoms_spec (ws := (ws_ yX1_take cX1_take 8 none)) B.pre
  have hts : ∀ w ∈ lw_all, w.before _ s = true := fun w h => hts w (List.mem_cons_of_mem _ h)
  have hown : s.vm.findClass RX1 = some m.cls := findClass_of_methodNamed B.named
  have hlocks := B.notSynchronized
  have hS : va_S (fun q => q = h0) s.heap s.heap [] := va_S.rf
  have hP : va_P (dC, dI) vwCl [(h0, .inr (1, [.int f0, .int f1]))] s.heap := hP
  have hl := lv_entry ([.ref h0, .long a0, .int a1, .long a2]) (n := 8) (Nat.le_of_ble_eq_true rfl)
  rw [lg_entry_eq]
  generalize (lg_sl ([.ref h0, .long a0, .int a1, .long a2]) ++ List.replicate (8 - (lg_sl ([.ref h0, .long a0, .int a1, .long a2])).length) Slot.unset).toArray = ls at hl ⊢
  have hl : lv_has ls 8 [(0, .ref h0), (1, .long a0), (3, .int a1), (4, .long a2)] := hl
  refine lv_lload_n hx hb dX1_take_0 rfl (lv_at hl 1 rfl) ?_
  refine W.callV (r := .int (hm_length a0)) (W.runS (As := [.long a0]) (rest := []) ⟨hx, hb, hml, hown, hts⟩ (met_X1_length l a0) (va_cwS 1 hts (lw_S q223 q224 q8 q225) rfl rfl rfl (by decide +kernel) ⟨Nat.le_of_ble_eq_true rfl, Nat.le_of_ble_eq_true rfl⟩) preEq rfl rfl hl.1 rfl (lv_room (Nat.le_of_ble_eq_true rfl)) dX1_take_1 ⟨Nat.le_of_ble_eq_true rfl, Nat.le_of_ble_eq_true rfl⟩) ?_
  refine W.eq (g2 := F0 m 4 ls [.int (hm_length a0)]) rfl ?_
  refine lv_topi (fun v1 ev1 => ?_)
  refine lv_istore (lv' := [(6, .int v1), (0, .ref h0), (1, .long a0), (3, .int a1), (4, .long a2)]) hx hb dX1_take_4 hl (by decide) rfl (fun ls hl => ?_)
  refine lv_aload_n hx hb dX1_take_6 rfl (lv_at hl 1 rfl) ?_
  refine va_get (D := (dC, dI)) (ci := 1) (v := .int f0) (C := RX1) (T := TX1) (N := 2) hx hb hts in_X1 hown hK hP 0 rfl rfl 0 (by decide) (hts _ q143) (fun _ h9 => h9) rfl dX1_take_7 ?_
  have J26 : ∀ (v2 : Int32), v2 = (if (f0 : Int32) = (0 : Int32) then (100)
  else (hm_length ((f0 : Int32).toInt64))) → ∀ ls : Array Slot, lv_has ls 8 [(6, .int v1), (0, .ref h0), (1, .long a0), (3, .int a1), (4, .long a2)] → (W p l e (headSpec (ws_ yX1_take cX1_take 8 none) ({ frames := 3, cells := 0, slots := 0, locals := 83 } : Room)).room s m ([.ref h0, .long a0, .int a1, .long a2] : List Value).toArray below meth c s.heap [] 0 0 (MQ below (va_Qv (fun _ : Unit => True) (fun _ t => hf_O1 (dC, dI) h0 (hm_take f0 f1 a0 a1 a2) t.heap) (fun q => q = h0)) ([.ref h0, .long a0, .int a1, .long a2] : List Value).toArray s 0 0 (fun q => q = h0))) (F0 m 26 ls [.int v2]) := by
    intro v2 ev2 ls hl
    refine lv_istore (lv' := [(7, .int v2), (6, .int v1), (0, .ref h0), (1, .long a0), (3, .int a1), (4, .long a2)]) hx hb dX1_take_26 hl (by decide) rfl (fun ls hl => ?_)
    refine lv_iload hx hb dX1_take_28 (lv_at hl 1 rfl) ?_
    refine lv_iload hx hb dX1_take_30 (lv_at hl 0 rfl) ?_
    refine lv_icmp_lt (tgt := 61) hx hb dX1_take_32 (by decide) (fun c4 => ?_) (fun c4 => ?_)
    · skip
      refine lv_aload_n hx hb dX1_take_61 rfl (lv_at hl 2 rfl) ?_
      refine lv_lload_n hx hb dX1_take_62 rfl (lv_at hl 3 rfl) ?_
      refine lv_l2i hx hb dX1_take_63 rfl ?_
      refine lv_topi (fun v5 ev5 => ?_)
      refine va_put (D := (dC, dI)) (ci := 1) (v := .int v5) (ty := .int) (C := RX1) (T := TX1) (N := 2) hx hb hts in_X1 tyX1 tyX1_ok nmX1 hown hK hP (hf_D1 _ _) hS 0 rfl rfl 0 (by decide) (hts _ q143) (fun _ h9 => h9) rfl (by decide +kernel) rfl rfl (Nat.le_of_ble_eq_true rfl) dX1_take_64 (fun H locs hP _ hS => ?_)
      have hP : va_P (dC, dI) vwCl [(h0, .inr (1, [.int v5, .int f1]))] H := hP
      refine lv_aload_n hx hb dX1_take_67 rfl (lv_at hl 2 rfl) ?_
      refine lv_iload_n hx hb dX1_take_68 rfl (lv_at hl 4 rfl) ?_
      refine va_put (D := (dC, dI)) (ci := 1) (v := .int a1) (ty := .int) (C := RX1) (T := TX1) (N := 2) hx hb hts in_X1 tyX1 tyX1_ok nmX1 hown hK hP (hf_D1 _ _) hS 0 rfl rfl 1 (by decide) (hts _ q144) (fun _ h9 => h9) rfl (by decide +kernel) rfl rfl (Nat.le_of_ble_eq_true rfl) dX1_take_69 (fun H locs hP _ hS => ?_)
      have hP : va_P (dC, dI) vwCl [(h0, .inr (1, [.int v5, .int a1]))] H := hP
      exact W.vret hx hb hr (fun t ht hW => ⟨⟨(), rfl, trivial, by have e : (v5, a1) = hm_take f0 f1 a0 a1 a2 := (by have hh := ev1.symm; subst hh; have hh := ev2.symm; subst hh; have hh := ev5.symm; subst hh; simp only [hm_take, if_pos c4]); show hf_O1 (dC, dI) h0 (hm_take f0 f1 a0 a1 a2) t.heap; rw [ht, ← e]; exact hP⟩, hS.F ht⟩) hS.2.2 dX1_take_72
    · skip
      refine lv_iload hx hb dX1_take_35 (lv_at hl 1 rfl) ?_
      refine lv_iload hx hb dX1_take_37 (lv_at hl 0 rfl) ?_
      refine lv_icmp_ne (tgt := 72) hx hb dX1_take_39 (by decide) (fun c6 => ?_) (fun c6 => ?_)
      · skip
        exact W.vret hx hb hr (fun t ht hW => ⟨⟨(), rfl, trivial, by have e : (f0, f1) = hm_take f0 f1 a0 a1 a2 := (by have hh := ev1.symm; subst hh; have hh := ev2.symm; subst hh; simp only [hm_take, if_neg c4, if_neg c6]); show hf_O1 (dC, dI) h0 (hm_take f0 f1 a0 a1 a2) t.heap; rw [ht, ← e]; exact hP⟩, hS.F ht⟩) hS.2.2 dX1_take_72
      · skip
        refine lv_lload_n hx hb dX1_take_42 rfl (lv_at hl 3 rfl) ?_
        refine lv_iload_n hx hb dX1_take_43 rfl (lv_at hl 4 rfl) ?_
        refine lv_aload_n hx hb dX1_take_44 rfl (lv_at hl 2 rfl) ?_
        refine va_get (D := (dC, dI)) (ci := 1) (v := .int f0) (C := RX1) (T := TX1) (N := 2) hx hb hts in_X1 hown hK hP 0 rfl rfl 0 (by decide) (hts _ q143) (fun _ h9 => h9) rfl dX1_take_45 ?_
        refine lv_i2l hx hb dX1_take_48 rfl ?_
        refine lv_aload_n hx hb dX1_take_49 rfl (lv_at hl 2 rfl) ?_
        refine va_get (D := (dC, dI)) (ci := 1) (v := .int f1) (C := RX1) (T := TX1) (N := 2) hx hb hts in_X1 hown hK hP 0 rfl rfl 1 (by decide) (hts _ q144) (fun _ h9 => h9) rfl dX1_take_50 ?_
        refine lv_lload hx hb dX1_take_53 (lv_at hl 5 rfl) ?_
        refine W.callV (r := .int (hm_nearer a0 a1 ((f0 : Int32).toInt64) f1 a2)) (W.runS (As := [.long a0, .int a1, .long ((f0 : Int32).toInt64), .int f1, .long a2]) (rest := []) ⟨hx, hb, hml, hown, hts⟩ (met_X1_nearer l a0 a1 ((f0 : Int32).toInt64) f1 a2) (va_cwS 5 hts (lw_S q226 q227 q8 q228) rfl rfl rfl (by decide +kernel) ⟨Nat.le_of_ble_eq_true rfl, Nat.le_of_ble_eq_true rfl⟩) preEq rfl rfl hl.1 rfl (lv_room (Nat.le_of_ble_eq_true rfl)) dX1_take_55 ⟨Nat.le_of_ble_eq_true rfl, Nat.le_of_ble_eq_true rfl⟩) ?_
        refine W.eq (g2 := F0 m 58 ls [.int (hm_nearer a0 a1 ((f0 : Int32).toInt64) f1 a2)]) rfl ?_
        refine lv_if_eq (tgt := 72) hx hb dX1_take_58 (by decide) (fun c7 => ?_) (fun c7 => ?_)
        · skip
          exact W.vret hx hb hr (fun t ht hW => ⟨⟨(), rfl, trivial, by have e : (f0, f1) = hm_take f0 f1 a0 a1 a2 := (by have hh := ev1.symm; subst hh; have hh := ev2.symm; subst hh; simp only [hm_take, if_neg c4, if_pos c6, if_pos c7]); show hf_O1 (dC, dI) h0 (hm_take f0 f1 a0 a1 a2) t.heap; rw [ht, ← e]; exact hP⟩, hS.F ht⟩) hS.2.2 dX1_take_72
        · skip
          refine lv_aload_n hx hb dX1_take_61 rfl (lv_at hl 2 rfl) ?_
          refine lv_lload_n hx hb dX1_take_62 rfl (lv_at hl 3 rfl) ?_
          refine lv_l2i hx hb dX1_take_63 rfl ?_
          refine lv_topi (fun v8 ev8 => ?_)
          refine va_put (D := (dC, dI)) (ci := 1) (v := .int v8) (ty := .int) (C := RX1) (T := TX1) (N := 2) hx hb hts in_X1 tyX1 tyX1_ok nmX1 hown hK hP (hf_D1 _ _) hS 0 rfl rfl 0 (by decide) (hts _ q143) (fun _ h9 => h9) rfl (by decide +kernel) rfl rfl (Nat.le_of_ble_eq_true rfl) dX1_take_64 (fun H locs hP _ hS => ?_)
          have hP : va_P (dC, dI) vwCl [(h0, .inr (1, [.int v8, .int f1]))] H := hP
          refine lv_aload_n hx hb dX1_take_67 rfl (lv_at hl 2 rfl) ?_
          refine lv_iload_n hx hb dX1_take_68 rfl (lv_at hl 4 rfl) ?_
          refine va_put (D := (dC, dI)) (ci := 1) (v := .int a1) (ty := .int) (C := RX1) (T := TX1) (N := 2) hx hb hts in_X1 tyX1 tyX1_ok nmX1 hown hK hP (hf_D1 _ _) hS 0 rfl rfl 1 (by decide) (hts _ q144) (fun _ h9 => h9) rfl (by decide +kernel) rfl rfl (Nat.le_of_ble_eq_true rfl) dX1_take_69 (fun H locs hP _ hS => ?_)
          have hP : va_P (dC, dI) vwCl [(h0, .inr (1, [.int v8, .int a1]))] H := hP
          exact W.vret hx hb hr (fun t ht hW => ⟨⟨(), rfl, trivial, by have e : (v8, a1) = hm_take f0 f1 a0 a1 a2 := (by have hh := ev1.symm; subst hh; have hh := ev2.symm; subst hh; have hh := ev8.symm; subst hh; simp only [hm_take, if_neg c4, if_pos c6, if_neg c7]); show hf_O1 (dC, dI) h0 (hm_take f0 f1 a0 a1 a2) t.heap; rw [ht, ← e]; exact hP⟩, hS.F ht⟩) hS.2.2 dX1_take_72
  refine lv_if_ne (tgt := 18) hx hb dX1_take_10 (by decide) (fun c3 => ?_) (fun c3 => ?_)
  · skip
    refine lv_aload_n hx hb dX1_take_18 rfl (lv_at hl 1 rfl) ?_
    refine va_get (D := (dC, dI)) (ci := 1) (v := .int f0) (C := RX1) (T := TX1) (N := 2) hx hb hts in_X1 hown hK hP 0 rfl rfl 0 (by decide) (hts _ q143) (fun _ h9 => h9) rfl dX1_take_19 ?_
    refine lv_i2l hx hb dX1_take_22 rfl ?_
    refine W.callV (r := .int (hm_length ((f0 : Int32).toInt64))) (W.runS (As := [.long ((f0 : Int32).toInt64)]) (rest := []) ⟨hx, hb, hml, hown, hts⟩ (met_X1_length l ((f0 : Int32).toInt64)) (va_cwS 1 hts (lw_S q223 q224 q8 q225) rfl rfl rfl (by decide +kernel) ⟨Nat.le_of_ble_eq_true rfl, Nat.le_of_ble_eq_true rfl⟩) preEq rfl rfl hl.1 rfl (lv_room (Nat.le_of_ble_eq_true rfl)) dX1_take_23 ⟨Nat.le_of_ble_eq_true rfl, Nat.le_of_ble_eq_true rfl⟩) ?_
    refine W.eq (g2 := F0 m 26 ls [.int (hm_length ((f0 : Int32).toInt64))]) rfl ?_
    exact J26 _ (by simp only [if_neg c3]) ls hl
  · skip
    refine lv_bipush (v := 100) hx hb dX1_take_13 (by decide) ?_
    refine lv_goto (tgt := 26) hx hb dX1_take_15 (by decide) ?_
    exact J26 _ (by simp only [if_pos c3]) ls hl
set_option maxHeartbeats 1000000 in
set_option maxRecDepth 100000 in
theorem met_X1_write (l : Launch) (dC : Nat → ClassId) (dI : Nat → Nat → Nat) (h0 : Nat) (f0 : Int32) (f1 : Int32) (a0 : Int32) : Met l yX1_write (ws_ yX1_write cX1_write 12 none) ({ frames := 4, cells := 0, slots := 0, locals := 110 } : Room) (va_Pc [.ref h0, .int a0] (fun U => hf_O1 (dC, dI) h0 (f0, f1) U.heap ∧ va_K (dC, dI) vwCl [] U)) (va_Qv (fun _ : Unit => True) (fun _ t => hf_O1 (dC, dI) h0 (hm_write f1 a0) t.heap) (fun q => q = h0)) 0 0 (fun q => q = h0) := by
  refine Met.ofW (cc := cX1_write) (maxL := 12) (ret := none) (by decide) rfl ?_
  intro p e s m args below meth c s₁ B hml hv
  obtain ⟨hv, hP, hK⟩ := hv
  subst hv
  have hx := B.exec
  have hb := B.bytes
  have hr := B.returns
  have hts := atoms_spec (ws := (ws_ yX1_write cX1_write 12 none)) B.pre
  have hts : ∀ w ∈ lw_all, w.before _ s = true := fun w h => hts w (List.mem_cons_of_mem _ h)
  have hown : s.vm.findClass RX1 = some m.cls := findClass_of_methodNamed B.named
  have hlocks := B.notSynchronized
  have hS : va_S (fun q => q = h0) s.heap s.heap [] := va_S.rf
  have hP : va_P (dC, dI) vwCl [(h0, .inr (1, [.int f0, .int f1]))] s.heap := hP
  have hl := lv_entry ([.ref h0, .int a0]) (n := 12) (Nat.le_of_ble_eq_true rfl)
  rw [lg_entry_eq]
  generalize (lg_sl ([.ref h0, .int a0]) ++ List.replicate (12 - (lg_sl ([.ref h0, .int a0])).length) Slot.unset).toArray = ls at hl ⊢
  have hl : lv_has ls 12 [(0, .ref h0), (1, .int a0)] := hl
  refine lv_iload_n hx hb dX1_write_0 rfl (lv_at hl 1 rfl) ?_
  refine W.callV (r := .long (hm_amount a0)) (W.runS (As := [.int a0]) (rest := []) ⟨hx, hb, hml, hown, hts⟩ (met_X1_amount l a0) (va_cwS 1 hts (lw_S q162 q163 q8 q164) rfl rfl rfl (by decide +kernel) ⟨Nat.le_of_ble_eq_true rfl, Nat.le_of_ble_eq_true rfl⟩) preEq rfl rfl hl.1 rfl (lv_room (Nat.le_of_ble_eq_true rfl)) dX1_write_1 ⟨Nat.le_of_ble_eq_true rfl, Nat.le_of_ble_eq_true rfl⟩) ?_
  refine W.eq (g2 := F0 m 4 ls [.long (hm_amount a0)]) rfl ?_
  refine lv_topl (fun v1 ev1 => ?_)
  refine lv_lstore_n (lv' := [(2, .long v1), (0, .ref h0), (1, .int a0)]) hx hb dX1_write_4 rfl hl (by decide) rfl (fun ls hl => ?_)
  refine lv_aload_n hx hb dX1_write_5 rfl (lv_at hl 1 rfl) ?_
  refine lv_iconst (v := 0) hx hb dX1_write_6 (by decide) ?_
  refine va_put (D := (dC, dI)) (ci := 1) (v := .int 0) (ty := .int) (C := RX1) (T := TX1) (N := 2) hx hb hts in_X1 tyX1 tyX1_ok nmX1 hown hK hP (hf_D1 _ _) hS 0 rfl rfl 0 (by decide) (hts _ q143) (fun _ h9 => h9) rfl (by decide +kernel) rfl rfl (Nat.le_of_ble_eq_true rfl) dX1_write_7 (fun H locs hP _ hS => ?_)
  have hP : va_P (dC, dI) vwCl [(h0, .inr (1, [.int 0, .int f1]))] H := hP
  refine lv_iconst (v := 4) hx hb dX1_write_10 (by decide) ?_
  refine lv_istore (lv' := [(4, .int 4), (2, .long v1), (0, .ref h0), (1, .int a0)]) hx hb dX1_write_11 hl (by decide) rfl (fun ls hl => ?_)
  have X13 : ∀ q13 : Int32 × Int32 × Int32, q13 = hf_run (hm_write_s13 v1 a0) 17 (4, 0, f1) → ∀ (H : Heap) (locs : List Loc), va_P (dC, dI) vwCl [(h0, .inr (1, [.int q13.2.1, .int q13.2.2]))] H → va_S (fun q => q = h0) s.heap H locs → q13.1 ≤ 4 → ∀ ls : Array Slot, lv_has ls 12 [(4, .int q13.1), (2, .long v1), (0, .ref h0), (1, .int a0)] → (W p l e (headSpec (ws_ yX1_write cX1_write 12 none) ({ frames := 4, cells := 0, slots := 0, locals := 110 } : Room)).room s m ([.ref h0, .int a0] : List Value).toArray below meth c H locs 0 0 (MQ below (va_Qv (fun _ : Unit => True) (fun _ t => hf_O1 (dC, dI) h0 (hm_write f1 a0) t.heap) (fun q => q = h0)) ([.ref h0, .int a0] : List Value).toArray s 0 0 (fun q => q = h0))) (F0 m 176 ls []) := by
    intro q13 eq13 H locs hP hS hI13 ls hl
    exact W.vret hx hb hr (fun t ht hW => ⟨⟨(), rfl, trivial, by have e : (q13.2.1, q13.2.2) = hm_write f1 a0 := (by have hh := ev1.symm; subst hh; have hh := eq13.symm; subst hh; simp only [hm_write]); show hf_O1 (dC, dI) h0 (hm_write f1 a0) t.heap; rw [ht, ← e]; exact hP⟩, hS.F ht⟩) hS.2.2 dX1_write_176
  refine hf_loop (hm_write_s13 v1 a0) (fun q => ∀ (H : Heap) (locs : List Loc), va_P (dC, dI) vwCl [(h0, .inr (1, [.int q.2.1, .int q.2.2]))] H → va_S (fun q => q = h0) s.heap H locs → q.1 ≤ 4 → ∀ ls : Array Slot, lv_has ls 12 [(4, .int q.1), (2, .long v1), (0, .ref h0), (1, .int a0)] → (W p l e (headSpec (ws_ yX1_write cX1_write 12 none) ({ frames := 4, cells := 0, slots := 0, locals := 110 } : Room)).room s m ([.ref h0, .int a0] : List Value).toArray below meth c H locs 0 0 (MQ below (va_Qv (fun _ : Unit => True) (fun _ t => hf_O1 (dC, dI) h0 (hm_write f1 a0) t.heap) (fun q => q = h0)) ([.ref h0, .int a0] : List Value).toArray s 0 0 (fun q => q = h0))) (F0 m 13 ls [])) (fun q => ∀ (H : Heap) (locs : List Loc), va_P (dC, dI) vwCl [(h0, .inr (1, [.int q.2.1, .int q.2.2]))] H → va_S (fun q => q = h0) s.heap H locs → q.1 ≤ 4 → ∀ ls : Array Slot, lv_has ls 12 [(4, .int q.1), (2, .long v1), (0, .ref h0), (1, .int a0)] → (W p l e (headSpec (ws_ yX1_write cX1_write 12 none) ({ frames := 4, cells := 0, slots := 0, locals := 110 } : Room)).room s m ([.ref h0, .int a0] : List Value).toArray below meth c H locs 0 0 (MQ below (va_Qv (fun _ : Unit => True) (fun _ t => hf_O1 (dC, dI) h0 (hm_write f1 a0) t.heap) (fun q => q = h0)) ([.ref h0, .int a0] : List Value).toArray s 0 0 (fun q => q = h0))) (F0 m 176 ls [])) ?_ 17 (4, 0, f1) (hm_write_end13) (X13 _ rfl) H locs hP hS (show (4 : Int32) ≤ 4 from by decide) ls (lv_sub hl [0, 1, 2, 3] rfl)
  rintro ⟨x13_4, y13_0, y13_1⟩ hno hgo H locs hP hS hI13 ls hl
  have hl : lv_has ls 12 [(4, .int x13_4), (2, .long v1), (0, .ref h0), (1, .int a0)] := hl
  have hP : va_P (dC, dI) vwCl [(h0, .inr (1, [.int y13_0, .int y13_1]))] H := hP
  refine lv_iload hx hb dX1_write_13 (lv_at hl 0 rfl) ?_
  refine lv_bipush (v := (-12)) hx hb dX1_write_15 (by decide) ?_
  refine lv_icmp_lt (tgt := 176) hx hb dX1_write_17 (by decide) (fun c2 => ?_) (fun c2 => ?_)
  · skip
    exact hno (by simp only [hm_write_s13, if_pos c2]) H locs hP hS hI13 ls (lv_sub hl [0, 1, 2, 3] rfl)
  · skip
    refine lv_iload hx hb dX1_write_20 (lv_at hl 0 rfl) ?_
    have J33 : ∀ (v3 : Int32), v3 = (if (0 : Int32) ≤ (x13_4 : Int32) then (x13_4)
  else (-x13_4)) → ∀ ls : Array Slot, lv_has ls 12 [(4, .int x13_4), (2, .long v1), (0, .ref h0), (1, .int a0)] → (W p l e (headSpec (ws_ yX1_write cX1_write 12 none) ({ frames := 4, cells := 0, slots := 0, locals := 110 } : Room)).room s m ([.ref h0, .int a0] : List Value).toArray below meth c H locs 0 0 (MQ below (va_Qv (fun _ : Unit => True) (fun _ t => hf_O1 (dC, dI) h0 (hm_write f1 a0) t.heap) (fun q => q = h0)) ([.ref h0, .int a0] : List Value).toArray s 0 0 (fun q => q = h0))) (F0 m 33 ls [.int v3]) := by
      intro v3 ev3 ls hl
      refine W.callV (r := .long (hm_power v3)) (W.runS (As := [.int v3]) (rest := []) ⟨hx, hb, hml, hown, hts⟩ (met_X1_power l v3) (va_cwS 1 hts (lw_S q203 q204 q8 q205) rfl rfl rfl (by decide +kernel) ⟨Nat.le_of_ble_eq_true rfl, Nat.le_of_ble_eq_true rfl⟩) preEq rfl rfl hl.1 rfl (lv_room (Nat.le_of_ble_eq_true rfl)) dX1_write_33 ⟨Nat.le_of_ble_eq_true rfl, Nat.le_of_ble_eq_true rfl⟩) ?_
      refine W.eq (g2 := F0 m 36 ls [.long (hm_power v3)]) rfl ?_
      refine lv_topl (fun v5 ev5 => ?_)
      refine lv_lstore (lv' := [(5, .long v5), (4, .int x13_4), (2, .long v1), (0, .ref h0), (1, .int a0)]) hx hb dX1_write_36 hl (by decide) rfl (fun ls hl => ?_)
      refine lv_iload hx hb dX1_write_38 (lv_at hl 1 rfl) ?_
      have J59 : ∀ (v6 : Int32), v6 = (if (0 : Int32) ≤ (x13_4 : Int32) then (1)
  else (if (9000000000000000000 / v5 : Int64) ≤ (v1 : Int64) then (0)
    else (1))) → ∀ ls : Array Slot, lv_has ls 12 [(5, .long v5), (4, .int x13_4), (2, .long v1), (0, .ref h0), (1, .int a0)] → (W p l e (headSpec (ws_ yX1_write cX1_write 12 none) ({ frames := 4, cells := 0, slots := 0, locals := 110 } : Room)).room s m ([.ref h0, .int a0] : List Value).toArray below meth c H locs 0 0 (MQ below (va_Qv (fun _ : Unit => True) (fun _ t => hf_O1 (dC, dI) h0 (hm_write f1 a0) t.heap) (fun q => q = h0)) ([.ref h0, .int a0] : List Value).toArray s 0 0 (fun q => q = h0))) (F0 m 59 ls [.int v6]) := by
        intro v6 ev6 ls hl
        refine lv_istore (lv' := [(7, .int v6), (5, .long v5), (4, .int x13_4), (2, .long v1), (0, .ref h0), (1, .int a0)]) hx hb dX1_write_59 hl (by decide) rfl (fun ls hl => ?_)
        refine lv_iload hx hb dX1_write_61 (lv_at hl 0 rfl) ?_
        have J94 : ∀ (v9 : Int64), v9 = (if (v6 : Int32) = (0 : Int32) then (1000000)
  else (if (x13_4 : Int32) < (0 : Int32) then ((v1 * v5 : Int64) >>> ((24 : Int32).toInt64 &&& 63))
    else (((v1 : Int64) >>> ((24 : Int32).toInt64 &&& 63)) / v5))) → ∀ ls : Array Slot, lv_has ls 12 [(7, .int v6), (5, .long v5), (4, .int x13_4), (2, .long v1), (0, .ref h0), (1, .int a0)] → (W p l e (headSpec (ws_ yX1_write cX1_write 12 none) ({ frames := 4, cells := 0, slots := 0, locals := 110 } : Room)).room s m ([.ref h0, .int a0] : List Value).toArray below meth c H locs 0 0 (MQ below (va_Qv (fun _ : Unit => True) (fun _ t => hf_O1 (dC, dI) h0 (hm_write f1 a0) t.heap) (fun q => q = h0)) ([.ref h0, .int a0] : List Value).toArray s 0 0 (fun q => q = h0))) (F0 m 94 ls [.long v9]) := by
          intro v9 ev9 ls hl
          refine lv_lstore (lv' := [(8, .long v9), (7, .int v6), (5, .long v5), (4, .int x13_4), (2, .long v1), (0, .ref h0), (1, .int a0)]) hx hb dX1_write_94 hl (by decide) rfl (fun ls hl => ?_)
          refine lv_lload hx hb dX1_write_96 (lv_at hl 0 rfl) ?_
          refine lv_lstore (lv' := [(10, .long v9), (8, .long v9), (7, .int v6), (5, .long v5), (4, .int x13_4), (2, .long v1), (0, .ref h0), (1, .int a0)]) hx hb dX1_write_98 hl (by decide) rfl (fun ls hl => ?_)
          have X100 : ∀ q100 : Int64 × Int32 × Int32, q100 = hf_run (hm_write_s100 v9 x13_4 v1 a0) 2 (v9, y13_0, y13_1) → ∀ (H : Heap) (locs : List Loc), va_P (dC, dI) vwCl [(h0, .inr (1, [.int q100.2.1, .int q100.2.2]))] H → va_S (fun q => q = h0) s.heap H locs → True → ∀ ls : Array Slot, lv_has ls 12 [(10, .long q100.1), (8, .long v9), (7, .int v6), (5, .long v5), (4, .int x13_4), (2, .long v1), (0, .ref h0), (1, .int a0)] → (W p l e (headSpec (ws_ yX1_write cX1_write 12 none) ({ frames := 4, cells := 0, slots := 0, locals := 110 } : Room)).room s m ([.ref h0, .int a0] : List Value).toArray below meth c H locs 0 0 (MQ below (va_Qv (fun _ : Unit => True) (fun _ t => hf_O1 (dC, dI) h0 (hm_write f1 a0) t.heap) (fun q => q = h0)) ([.ref h0, .int a0] : List Value).toArray s 0 0 (fun q => q = h0))) (F0 m 170 ls []) := by
            intro q100 eq100 H locs hP hS hI100 ls hl
            obtain ⟨v12, ev12⟩ : ∃ y : Int32, y = x13_4 + (-1) := ⟨_, rfl⟩
            refine lv_iinc (v := v12) (lv' := [(4, .int v12), (10, .long q100.1), (8, .long v9), (7, .int v6), (5, .long v5), (2, .long v1), (0, .ref h0), (1, .int a0)]) hx hb dX1_write_170 hl (k := 4) rfl (by rw [ev12]; rfl) (by decide) rfl (fun ls hl => ?_)
            refine lv_goto (tgt := 13) hx hb dX1_write_173 (by decide) ?_
            exact hgo (v12, q100.2.1, q100.2.2) (by have hh := ev3.symm; subst hh; have hh := ev5.symm; subst hh; have hh := ev6.symm; subst hh; have hh := ev9.symm; subst hh; have hh := eq100.symm; subst hh; have hh := ev12.symm; subst hh; simp only [hm_write_s13, if_neg c2]) H locs hP hS (by rw [ev12]; exact hf_dec4 hI13 (by assumption)) ls (lv_sub hl [0, 5, 6, 7] rfl)
          refine hf_loop (hm_write_s100 v9 x13_4 v1 a0) (fun q => ∀ (H : Heap) (locs : List Loc), va_P (dC, dI) vwCl [(h0, .inr (1, [.int q.2.1, .int q.2.2]))] H → va_S (fun q => q = h0) s.heap H locs → True → ∀ ls : Array Slot, lv_has ls 12 [(10, .long q.1), (8, .long v9), (7, .int v6), (5, .long v5), (4, .int x13_4), (2, .long v1), (0, .ref h0), (1, .int a0)] → (W p l e (headSpec (ws_ yX1_write cX1_write 12 none) ({ frames := 4, cells := 0, slots := 0, locals := 110 } : Room)).room s m ([.ref h0, .int a0] : List Value).toArray below meth c H locs 0 0 (MQ below (va_Qv (fun _ : Unit => True) (fun _ t => hf_O1 (dC, dI) h0 (hm_write f1 a0) t.heap) (fun q => q = h0)) ([.ref h0, .int a0] : List Value).toArray s 0 0 (fun q => q = h0))) (F0 m 100 ls [])) (fun q => ∀ (H : Heap) (locs : List Loc), va_P (dC, dI) vwCl [(h0, .inr (1, [.int q.2.1, .int q.2.2]))] H → va_S (fun q => q = h0) s.heap H locs → True → ∀ ls : Array Slot, lv_has ls 12 [(10, .long q.1), (8, .long v9), (7, .int v6), (5, .long v5), (4, .int x13_4), (2, .long v1), (0, .ref h0), (1, .int a0)] → (W p l e (headSpec (ws_ yX1_write cX1_write 12 none) ({ frames := 4, cells := 0, slots := 0, locals := 110 } : Room)).room s m ([.ref h0, .int a0] : List Value).toArray below meth c H locs 0 0 (MQ below (va_Qv (fun _ : Unit => True) (fun _ t => hf_O1 (dC, dI) h0 (hm_write f1 a0) t.heap) (fun q => q = h0)) ([.ref h0, .int a0] : List Value).toArray s 0 0 (fun q => q = h0))) (F0 m 170 ls [])) ?_ 2 (v9, y13_0, y13_1) (hm_write_end100) (X100 _ rfl) H locs hP hS trivial ls (lv_sub hl [0, 1, 2, 3, 4, 5, 6, 7] rfl)
          rintro ⟨x100_10, y100_0, y100_1⟩ hno hgo H locs hP hS hI100 ls hl
          have hl : lv_has ls 12 [(10, .long x100_10), (8, .long v9), (7, .int v6), (5, .long v5), (4, .int x13_4), (2, .long v1), (0, .ref h0), (1, .int a0)] := hl
          have hP : va_P (dC, dI) vwCl [(h0, .inr (1, [.int y100_0, .int y100_1]))] H := hP
          refine lv_lload hx hb dX1_write_100 (lv_at hl 0 rfl) ?_
          refine lv_lload hx hb dX1_write_102 (lv_at hl 1 rfl) ?_
          refine lv_lconst (v := 1) hx hb dX1_write_104 (by decide) ?_
          refine lv_ladd hx hb dX1_write_105 ?_
          refine hf_lcmp_gt (tgt := 170) hx hb dX1_write_106 dX1_write_107 (by decide) (fun c13 => ?_) (fun c13 => ?_)
          · skip
            exact hno (by simp only [hm_write_s100, if_pos c13]) H locs hP hS hI100 ls (lv_sub hl [0, 1, 2, 3, 4, 5, 6, 7] rfl)
          · skip
            refine lv_lload hx hb dX1_write_110 (lv_at hl 1 rfl) ?_
            refine lv_ldc2 (v := 999999) hx hb hown (hts _ q218) dX1_write_112 ?_
            refine hf_lcmp_ge (tgt := 170) hx hb dX1_write_115 dX1_write_116 (by decide) (fun c14 => ?_) (fun c14 => ?_)
            · skip
              exact hno (by simp only [hm_write_s100, if_neg c13, if_pos c14]) H locs hP hS hI100 ls (lv_sub hl [0, 1, 2, 3, 4, 5, 6, 7] rfl)
            · skip
              refine lv_lload hx hb dX1_write_119 (lv_at hl 0 rfl) ?_
              refine lv_lconst (v := 1) hx hb dX1_write_121 (by decide) ?_
              refine hf_lcmp_lt (tgt := 161) hx hb dX1_write_122 dX1_write_123 (by decide) (fun c15 => ?_) (fun c15 => ?_)
              · skip
                refine lv_lload hx hb dX1_write_161 (lv_at hl 0 rfl) ?_
                refine lv_lconst (v := 1) hx hb dX1_write_163 (by decide) ?_
                refine lv_ladd hx hb dX1_write_164 ?_
                refine lv_topl (fun v16 ev16 => ?_)
                refine lv_lstore (lv' := [(10, .long v16), (8, .long v9), (7, .int v6), (5, .long v5), (4, .int x13_4), (2, .long v1), (0, .ref h0), (1, .int a0)]) hx hb dX1_write_165 hl (by decide) rfl (fun ls hl => ?_)
                refine lv_goto (tgt := 100) hx hb dX1_write_167 (by decide) ?_
                exact hgo (v16, y100_0, y100_1) (by have hh := ev16.symm; subst hh; simp only [hm_write_s100, if_neg c13, if_neg c14, if_pos c15]) H locs hP hS trivial ls (lv_sub hl [0, 1, 2, 3, 4, 5, 6, 7] rfl)
              · skip
                refine lv_lload hx hb dX1_write_126 (lv_at hl 0 rfl) ?_
                refine lv_ldc2 (v := 10) hx hb hown (hts _ q206) dX1_write_128 ?_
                refine lv_lrem hx hb dX1_write_131 (by decide) ?_
                refine lv_lconst (v := 0) hx hb dX1_write_132 (by decide) ?_
                refine hf_lcmp_eq (tgt := 161) hx hb dX1_write_133 dX1_write_134 (by decide) (fun c17 => ?_) (fun c17 => ?_)
                · skip
                  refine lv_lload hx hb dX1_write_161 (lv_at hl 0 rfl) ?_
                  refine lv_lconst (v := 1) hx hb dX1_write_163 (by decide) ?_
                  refine lv_ladd hx hb dX1_write_164 ?_
                  refine lv_topl (fun v18 ev18 => ?_)
                  refine lv_lstore (lv' := [(10, .long v18), (8, .long v9), (7, .int v6), (5, .long v5), (4, .int x13_4), (2, .long v1), (0, .ref h0), (1, .int a0)]) hx hb dX1_write_165 hl (by decide) rfl (fun ls hl => ?_)
                  refine lv_goto (tgt := 100) hx hb dX1_write_167 (by decide) ?_
                  exact hgo (v18, y100_0, y100_1) (by have hh := ev18.symm; subst hh; simp only [hm_write_s100, if_neg c13, if_neg c14, if_neg c15, if_pos c17]) H locs hP hS trivial ls (lv_sub hl [0, 1, 2, 3, 4, 5, 6, 7] rfl)
                · skip
                  refine lv_lload hx hb dX1_write_137 (lv_at hl 0 rfl) ?_
                  refine lv_iload hx hb dX1_write_139 (lv_at hl 4 rfl) ?_
                  refine W.callV (r := .int (hm_parsed x100_10 x13_4)) (W.runS (As := [.long x100_10, .int x13_4]) (rest := []) ⟨hx, hb, hml, hown, hts⟩ (met_X1_parsed l x100_10 x13_4) (va_cwS 2 hts (lw_S q200 q201 q8 q202) rfl rfl rfl (by decide +kernel) ⟨Nat.le_of_ble_eq_true rfl, Nat.le_of_ble_eq_true rfl⟩) preEq rfl rfl hl.1 rfl (lv_room (Nat.le_of_ble_eq_true rfl)) dX1_write_141 ⟨Nat.le_of_ble_eq_true rfl, Nat.le_of_ble_eq_true rfl⟩) ?_
                  refine W.eq (g2 := F0 m 144 ls [.int (hm_parsed x100_10 x13_4)]) rfl ?_
                  refine lv_iload_n hx hb dX1_write_144 rfl (lv_at hl 7 rfl) ?_
                  refine lv_sipush (v := 32767) hx hb dX1_write_145 (by decide) ?_
                  refine lv_iand hx hb dX1_write_148 ?_
                  refine lv_icmp_ne (tgt := 161) hx hb dX1_write_149 (by decide) (fun c19 => ?_) (fun c19 => ?_)
                  · skip
                    refine lv_lload hx hb dX1_write_161 (lv_at hl 0 rfl) ?_
                    refine lv_lconst (v := 1) hx hb dX1_write_163 (by decide) ?_
                    refine lv_ladd hx hb dX1_write_164 ?_
                    refine lv_topl (fun v20 ev20 => ?_)
                    refine lv_lstore (lv' := [(10, .long v20), (8, .long v9), (7, .int v6), (5, .long v5), (4, .int x13_4), (2, .long v1), (0, .ref h0), (1, .int a0)]) hx hb dX1_write_165 hl (by decide) rfl (fun ls hl => ?_)
                    refine lv_goto (tgt := 100) hx hb dX1_write_167 (by decide) ?_
                    exact hgo (v20, y100_0, y100_1) (by have hh := ev20.symm; subst hh; simp only [hm_write_s100, if_neg c13, if_neg c14, if_neg c15, if_neg c17, if_neg c19]) H locs hP hS trivial ls (lv_sub hl [0, 1, 2, 3, 4, 5, 6, 7] rfl)
                  · skip
                    refine lv_aload_n hx hb dX1_write_152 rfl (lv_at hl 6 rfl) ?_
                    refine lv_lload hx hb dX1_write_153 (lv_at hl 0 rfl) ?_
                    refine lv_iload hx hb dX1_write_155 (lv_at hl 4 rfl) ?_
                    refine lv_lload_n hx hb dX1_write_157 rfl (lv_at hl 5 rfl) ?_
                    refine va_callv (va_runV (As := [.long x100_10, .int x13_4, .long v1]) (rest := []) ⟨hx, hb, hml, hown, hts⟩ (met_X1_take l dC dI h0 y100_0 y100_1 x100_10 x13_4 v1) (cwV 3 hts (lw_V q219 q221 qs5 q8 q222) rfl rfl rfl (by decide +kernel) ⟨Nat.le_of_ble_eq_true rfl, Nat.le_of_ble_eq_true rfl⟩) ⟨fun a U g mk q => by obtain ⟨q0, qP, qK⟩ := q; exact ⟨q0, qP, va_K.moved (u := U) (U := U.calling g mk a) (Vm.Alike.refl U.vm) qK⟩, va_recv hK hP (ci := 1) (q0 := 0) rfl rfl, fun U hU hW => ⟨rfl, by rw [hU]; exact hP, va_K.moved hW.alike hK⟩⟩ rfl rfl hl.1 rfl (lv_room (Nat.le_of_ble_eq_true rfl)) dX1_write_158 ⟨Nat.le_of_ble_eq_true rfl, Nat.le_of_ble_eq_true rfl⟩) hS (fun q _ h => h) (fun q h => h) (fun u t H locs ht hvm hw hB hz1 hk1 hS => ?_)
                    obtain ⟨w21, ew21⟩ : ∃ y : Int32 × Int32, y = hm_take y100_0 y100_1 x100_10 x13_4 v1 := ⟨_, rfl⟩
                    rw [ht, ← ew21] at hB
                    have hP : va_P (dC, dI) vwCl [(h0, .inr (1, [.int w21.1, .int w21.2]))] H := hB
                    refine lv_lload hx hb dX1_write_161 (lv_at hl 0 rfl) ?_
                    refine lv_lconst (v := 1) hx hb dX1_write_163 (by decide) ?_
                    refine lv_ladd hx hb dX1_write_164 ?_
                    refine lv_topl (fun v22 ev22 => ?_)
                    refine lv_lstore (lv' := [(10, .long v22), (8, .long v9), (7, .int v6), (5, .long v5), (4, .int x13_4), (2, .long v1), (0, .ref h0), (1, .int a0)]) hx hb dX1_write_165 hl (by decide) rfl (fun ls hl => ?_)
                    refine lv_goto (tgt := 100) hx hb dX1_write_167 (by decide) ?_
                    exact hgo (v22, w21.1, w21.2) (by have hh := ew21.symm; subst hh; have hh := ev22.symm; subst hh; simp only [hm_write_s100, if_neg c13, if_neg c14, if_neg c15, if_neg c17, if_pos c19]) H locs hP hS trivial ls (lv_sub hl [0, 1, 2, 3, 4, 5, 6, 7] rfl)
        refine lv_if_ne (tgt := 72) hx hb dX1_write_63 (by decide) (fun c10 => ?_) (fun c10 => ?_)
        · skip
          refine lv_iload hx hb dX1_write_72 (lv_at hl 2 rfl) ?_
          refine lv_if_lt (tgt := 87) hx hb dX1_write_74 (by decide) (fun c11 => ?_) (fun c11 => ?_)
          · skip
            refine lv_lload_n hx hb dX1_write_87 rfl (lv_at hl 3 rfl) ?_
            refine lv_lload hx hb dX1_write_88 (lv_at hl 1 rfl) ?_
            refine lv_lmul hx hb dX1_write_90 ?_
            refine lv_bipush (v := 24) hx hb dX1_write_91 (by decide) ?_
            refine lv_lshr hx hb dX1_write_93 rfl ?_
            exact J94 _ (by simp only [if_neg c10, if_pos c11]) ls hl
          · skip
            refine lv_lload_n hx hb dX1_write_77 rfl (lv_at hl 3 rfl) ?_
            refine lv_bipush (v := 24) hx hb dX1_write_78 (by decide) ?_
            refine lv_lshr hx hb dX1_write_80 rfl ?_
            refine lv_lload hx hb dX1_write_81 (lv_at hl 1 rfl) ?_
            refine lv_ldiv hx hb dX1_write_83 (by rw [ev5, ev3]; exact hm_scale_ne hI13 (by assumption)) ?_
            refine lv_goto (tgt := 94) hx hb dX1_write_84 (by decide) ?_
            exact J94 _ (by simp only [if_neg c10, if_neg c11]) ls hl
        · skip
          refine lv_ldc2 (v := 1000000) hx hb hown (hts _ q217) dX1_write_66 ?_
          refine lv_goto (tgt := 94) hx hb dX1_write_69 (by decide) ?_
          exact J94 _ (by simp only [if_pos c10]) ls hl
      refine lv_if_ge (tgt := 54) hx hb dX1_write_40 (by decide) (fun c7 => ?_) (fun c7 => ?_)
      · skip
        refine lv_iconst (v := 1) hx hb dX1_write_54 (by decide) ?_
        refine lv_goto (tgt := 59) hx hb dX1_write_55 (by decide) ?_
        exact J59 _ (by simp only [if_pos c7]) ls hl
      · skip
        refine lv_lload_n hx hb dX1_write_43 rfl (lv_at hl 2 rfl) ?_
        refine lv_ldc2 (v := 9000000000000000000) hx hb hown (hts _ q216) dX1_write_44 ?_
        refine lv_lload hx hb dX1_write_47 (lv_at hl 0 rfl) ?_
        refine lv_ldiv hx hb dX1_write_49 (by rw [ev5, ev3]; exact hm_scale_ne hI13 (by assumption)) ?_
        refine hf_lcmp_ge (tgt := 58) hx hb dX1_write_50 dX1_write_51 (by decide) (fun c8 => ?_) (fun c8 => ?_)
        · skip
          refine lv_iconst (v := 0) hx hb dX1_write_58 (by decide) ?_
          exact J59 _ (by simp only [if_neg c7, if_pos c8]) ls hl
        · skip
          refine lv_iconst (v := 1) hx hb dX1_write_54 (by decide) ?_
          refine lv_goto (tgt := 59) hx hb dX1_write_55 (by decide) ?_
          exact J59 _ (by simp only [if_neg c7, if_neg c8]) ls hl
    refine lv_if_ge (tgt := 31) hx hb dX1_write_22 (by decide) (fun c4 => ?_) (fun c4 => ?_)
    · skip
      refine lv_iload hx hb dX1_write_31 (lv_at hl 0 rfl) ?_
      exact J33 _ (by simp only [if_pos c4]) ls hl
    · skip
      refine lv_iload hx hb dX1_write_25 (lv_at hl 0 rfl) ?_
      refine lv_ineg hx hb dX1_write_27 ?_
      refine lv_goto (tgt := 33) hx hb dX1_write_28 (by decide) ?_
      exact J33 _ (by simp only [if_neg c4]) ls hl
set_option maxHeartbeats 1000000 in
set_option maxRecDepth 100000 in
theorem met_X1_digits (l : Launch) (dC : Nat → ClassId) (dI : Nat → Nat → Nat) (h0 : Nat) (f0 : Int32) (f1 : Int32) (a0 : Int32) : Met l yX1_digits (ws_ yX1_digits cX1_digits 2 (some .int)) ({ frames := 5, cells := 0, slots := 0, locals := 141 } : Room) (va_Pc [.ref h0, .int a0] (fun U => hf_O1 (dC, dI) h0 (f0, f1) U.heap ∧ va_K (dC, dI) vwCl [] U)) (va_Qi (fun (r : Int32) (_ : Unit) => r = hm_digits f1 a0) (fun _ t => ∃ w : hf_T2, hf_O1 (dC, dI) h0 w t.heap) (fun q => q = h0)) 0 0 (fun q => q = h0) := by
  refine Met.ofW (cc := cX1_digits) (maxL := 2) (ret := (some .int)) (by decide) rfl ?_
  intro p e s m args below meth c s₁ B hml hv
  obtain ⟨hv, hP, hK⟩ := hv
  subst hv
  have hx := B.exec
  have hb := B.bytes
  have hr := B.returns
  have hts := atoms_spec (ws := (ws_ yX1_digits cX1_digits 2 (some .int))) B.pre
  have hts : ∀ w ∈ lw_all, w.before _ s = true := fun w h => hts w (List.mem_cons_of_mem _ h)
  have hown : s.vm.findClass RX1 = some m.cls := findClass_of_methodNamed B.named
  have hlocks := B.notSynchronized
  have hS : va_S (fun q => q = h0) s.heap s.heap [] := va_S.rf
  have hP : va_P (dC, dI) vwCl [(h0, .inr (1, [.int f0, .int f1]))] s.heap := hP
  have hl := lv_entry ([.ref h0, .int a0]) (n := 2) (Nat.le_of_ble_eq_true rfl)
  rw [lg_entry_eq]
  generalize (lg_sl ([.ref h0, .int a0]) ++ List.replicate (2 - (lg_sl ([.ref h0, .int a0])).length) Slot.unset).toArray = ls at hl ⊢
  have hl : lv_has ls 2 [(0, .ref h0), (1, .int a0)] := hl
  refine lv_iload_n hx hb dX1_digits_0 rfl (lv_at hl 1 rfl) ?_
  refine W.callV (r := .int (hm_bad a0)) (W.runS (As := [.int a0]) (rest := []) ⟨hx, hb, hml, hown, hts⟩ (met_X1_bad l a0) (va_cwS 1 hts (lw_S q154 q155 q8 q156) rfl rfl rfl (by decide +kernel) ⟨Nat.le_of_ble_eq_true rfl, Nat.le_of_ble_eq_true rfl⟩) preEq rfl rfl hl.1 rfl (lv_room (Nat.le_of_ble_eq_true rfl)) dX1_digits_1 ⟨Nat.le_of_ble_eq_true rfl, Nat.le_of_ble_eq_true rfl⟩) ?_
  refine W.eq (g2 := F0 m 4 ls [.int (hm_bad a0)]) rfl ?_
  refine lv_if_eq (tgt := 9) hx hb dX1_digits_4 (by decide) (fun c1 => ?_) (fun c1 => ?_)
  · skip
    refine lv_iload_n hx hb dX1_digits_9 rfl (lv_at hl 1 rfl) ?_
    refine W.callV (r := .long (hm_digitsOf a0)) (W.runS (As := [.int a0]) (rest := []) ⟨hx, hb, hml, hown, hts⟩ (met_X1_digitsOf l a0) (va_cwS 1 hts (lw_S q166 q167 q8 q168) rfl rfl rfl (by decide +kernel) ⟨Nat.le_of_ble_eq_true rfl, Nat.le_of_ble_eq_true rfl⟩) preEq rfl rfl hl.1 rfl (lv_room (Nat.le_of_ble_eq_true rfl)) dX1_digits_10 ⟨Nat.le_of_ble_eq_true rfl, Nat.le_of_ble_eq_true rfl⟩) ?_
    refine W.eq (g2 := F0 m 13 ls [.long (hm_digitsOf a0)]) rfl ?_
    refine lv_lconst (v := 0) hx hb dX1_digits_13 (by decide) ?_
    refine hf_lcmp_ne (tgt := 20) hx hb dX1_digits_14 dX1_digits_15 (by decide) (fun c2 => ?_) (fun c2 => ?_)
    · skip
      refine lv_aload_n hx hb dX1_digits_20 rfl (lv_at hl 0 rfl) ?_
      refine lv_iload_n hx hb dX1_digits_21 rfl (lv_at hl 1 rfl) ?_
      refine va_callv (va_runV (As := [.int a0]) (rest := []) ⟨hx, hb, hml, hown, hts⟩ (met_X1_write l dC dI h0 f0 f1 a0) (cwV 1 hts (lw_V q212 q214 qs4 q8 q215) rfl rfl rfl (by decide +kernel) ⟨Nat.le_of_ble_eq_true rfl, Nat.le_of_ble_eq_true rfl⟩) ⟨fun a U g mk q => by obtain ⟨q0, qP, qK⟩ := q; exact ⟨q0, qP, va_K.moved (u := U) (U := U.calling g mk a) (Vm.Alike.refl U.vm) qK⟩, va_recv hK hP (ci := 1) (q0 := 0) rfl rfl, fun U hU hW => ⟨rfl, by rw [hU]; exact hP, va_K.moved hW.alike hK⟩⟩ rfl rfl hl.1 rfl (lv_room (Nat.le_of_ble_eq_true rfl)) dX1_digits_22 ⟨Nat.le_of_ble_eq_true rfl, Nat.le_of_ble_eq_true rfl⟩) hS (fun q _ h => h) (fun q h => h) (fun u t H locs ht hvm hw hB hz1 hk1 hS => ?_)
      obtain ⟨w3, ew3⟩ : ∃ y : Int32 × Int32, y = hm_write f1 a0 := ⟨_, rfl⟩
      rw [ht, ← ew3] at hB
      have hP : va_P (dC, dI) vwCl [(h0, .inr (1, [.int w3.1, .int w3.2]))] H := hB
      refine lv_aload_n hx hb dX1_digits_25 rfl (lv_at hl 0 rfl) ?_
      refine va_get (D := (dC, dI)) (ci := 1) (v := .int w3.1) (C := RX1) (T := TX1) (N := 2) hx hb hts in_X1 hown hK hP 0 rfl rfl 0 (by decide) (hts _ q143) (fun _ h9 => h9) rfl dX1_digits_26 ?_
      exact W.iret hx hb hr (fun t ht hW => ⟨⟨_, (), rfl, (by have hh := ew3.symm; subst hh; simp only [hm_digits, if_pos c1, if_neg c2]), ⟨(w3.1, w3.2), by rw [ht]; exact hP⟩⟩, hS.F ht⟩) hS.2.2 dX1_digits_29
    · skip
      refine lv_iconst (v := 0) hx hb dX1_digits_18 (by decide) ?_
      exact W.iret hx hb hr (fun t ht hW => ⟨⟨_, (), rfl, (by simp only [hm_digits, if_pos c1, if_pos c2]), ⟨(f0, f1), by rw [ht]; exact hP⟩⟩, hS.F ht⟩) hS.2.2 dX1_digits_19
  · skip
    refine lv_iconst (v := (-1)) hx hb dX1_digits_7 (by decide) ?_
    exact W.iret hx hb hr (fun t ht hW => ⟨⟨_, (), rfl, (by simp only [hm_digits, if_neg c1]), ⟨(f0, f1), by rw [ht]; exact hP⟩⟩, hS.F ht⟩) hS.2.2 dX1_digits_8
set_option maxHeartbeats 1000000 in
set_option maxRecDepth 100000 in
theorem met_X1_exponent (l : Launch) (dC : Nat → ClassId) (dI : Nat → Nat → Nat) (h0 : Nat) (f0 : Int32) (f1 : Int32) (a0 : Int32) : Met l yX1_exponent (ws_ yX1_exponent cX1_exponent 2 (some .int)) ({ frames := 5, cells := 0, slots := 0, locals := 141 } : Room) (va_Pc [.ref h0, .int a0] (fun U => hf_O1 (dC, dI) h0 (f0, f1) U.heap ∧ va_K (dC, dI) vwCl [] U)) (va_Qi (fun (r : Int32) (_ : Unit) => r = hm_exponent f1 a0) (fun _ t => ∃ w : hf_T2, hf_O1 (dC, dI) h0 w t.heap) (fun q => q = h0)) 0 0 (fun q => q = h0) := by
  refine Met.ofW (cc := cX1_exponent) (maxL := 2) (ret := (some .int)) (by decide) rfl ?_
  intro p e s m args below meth c s₁ B hml hv
  obtain ⟨hv, hP, hK⟩ := hv
  subst hv
  have hx := B.exec
  have hb := B.bytes
  have hr := B.returns
  have hts := atoms_spec (ws := (ws_ yX1_exponent cX1_exponent 2 (some .int))) B.pre
  have hts : ∀ w ∈ lw_all, w.before _ s = true := fun w h => hts w (List.mem_cons_of_mem _ h)
  have hown : s.vm.findClass RX1 = some m.cls := findClass_of_methodNamed B.named
  have hlocks := B.notSynchronized
  have hS : va_S (fun q => q = h0) s.heap s.heap [] := va_S.rf
  have hP : va_P (dC, dI) vwCl [(h0, .inr (1, [.int f0, .int f1]))] s.heap := hP
  have hl := lv_entry ([.ref h0, .int a0]) (n := 2) (Nat.le_of_ble_eq_true rfl)
  rw [lg_entry_eq]
  generalize (lg_sl ([.ref h0, .int a0]) ++ List.replicate (2 - (lg_sl ([.ref h0, .int a0])).length) Slot.unset).toArray = ls at hl ⊢
  have hl : lv_has ls 2 [(0, .ref h0), (1, .int a0)] := hl
  refine lv_iload_n hx hb dX1_exponent_0 rfl (lv_at hl 1 rfl) ?_
  refine W.callV (r := .int (hm_bad a0)) (W.runS (As := [.int a0]) (rest := []) ⟨hx, hb, hml, hown, hts⟩ (met_X1_bad l a0) (va_cwS 1 hts (lw_S q154 q155 q8 q156) rfl rfl rfl (by decide +kernel) ⟨Nat.le_of_ble_eq_true rfl, Nat.le_of_ble_eq_true rfl⟩) preEq rfl rfl hl.1 rfl (lv_room (Nat.le_of_ble_eq_true rfl)) dX1_exponent_1 ⟨Nat.le_of_ble_eq_true rfl, Nat.le_of_ble_eq_true rfl⟩) ?_
  refine W.eq (g2 := F0 m 4 ls [.int (hm_bad a0)]) rfl ?_
  refine lv_if_eq (tgt := 10) hx hb dX1_exponent_4 (by decide) (fun c1 => ?_) (fun c1 => ?_)
  · skip
    refine lv_iload_n hx hb dX1_exponent_10 rfl (lv_at hl 1 rfl) ?_
    refine W.callV (r := .long (hm_digitsOf a0)) (W.runS (As := [.int a0]) (rest := []) ⟨hx, hb, hml, hown, hts⟩ (met_X1_digitsOf l a0) (va_cwS 1 hts (lw_S q166 q167 q8 q168) rfl rfl rfl (by decide +kernel) ⟨Nat.le_of_ble_eq_true rfl, Nat.le_of_ble_eq_true rfl⟩) preEq rfl rfl hl.1 rfl (lv_room (Nat.le_of_ble_eq_true rfl)) dX1_exponent_11 ⟨Nat.le_of_ble_eq_true rfl, Nat.le_of_ble_eq_true rfl⟩) ?_
    refine W.eq (g2 := F0 m 14 ls [.long (hm_digitsOf a0)]) rfl ?_
    refine lv_lconst (v := 0) hx hb dX1_exponent_14 (by decide) ?_
    refine hf_lcmp_ne (tgt := 21) hx hb dX1_exponent_15 dX1_exponent_16 (by decide) (fun c2 => ?_) (fun c2 => ?_)
    · skip
      refine lv_aload_n hx hb dX1_exponent_21 rfl (lv_at hl 0 rfl) ?_
      refine lv_iload_n hx hb dX1_exponent_22 rfl (lv_at hl 1 rfl) ?_
      refine va_callv (va_runV (As := [.int a0]) (rest := []) ⟨hx, hb, hml, hown, hts⟩ (met_X1_write l dC dI h0 f0 f1 a0) (cwV 1 hts (lw_V q212 q214 qs4 q8 q215) rfl rfl rfl (by decide +kernel) ⟨Nat.le_of_ble_eq_true rfl, Nat.le_of_ble_eq_true rfl⟩) ⟨fun a U g mk q => by obtain ⟨q0, qP, qK⟩ := q; exact ⟨q0, qP, va_K.moved (u := U) (U := U.calling g mk a) (Vm.Alike.refl U.vm) qK⟩, va_recv hK hP (ci := 1) (q0 := 0) rfl rfl, fun U hU hW => ⟨rfl, by rw [hU]; exact hP, va_K.moved hW.alike hK⟩⟩ rfl rfl hl.1 rfl (lv_room (Nat.le_of_ble_eq_true rfl)) dX1_exponent_23 ⟨Nat.le_of_ble_eq_true rfl, Nat.le_of_ble_eq_true rfl⟩) hS (fun q _ h => h) (fun q h => h) (fun u t H locs ht hvm hw hB hz1 hk1 hS => ?_)
      obtain ⟨w3, ew3⟩ : ∃ y : Int32 × Int32, y = hm_write f1 a0 := ⟨_, rfl⟩
      rw [ht, ← ew3] at hB
      have hP : va_P (dC, dI) vwCl [(h0, .inr (1, [.int w3.1, .int w3.2]))] H := hB
      refine lv_aload_n hx hb dX1_exponent_26 rfl (lv_at hl 0 rfl) ?_
      refine va_get (D := (dC, dI)) (ci := 1) (v := .int w3.2) (C := RX1) (T := TX1) (N := 2) hx hb hts in_X1 hown hK hP 0 rfl rfl 1 (by decide) (hts _ q144) (fun _ h9 => h9) rfl dX1_exponent_27 ?_
      exact W.iret hx hb hr (fun t ht hW => ⟨⟨_, (), rfl, (by have hh := ew3.symm; subst hh; simp only [hm_exponent, if_pos c1, if_neg c2]), ⟨(w3.1, w3.2), by rw [ht]; exact hP⟩⟩, hS.F ht⟩) hS.2.2 dX1_exponent_30
    · skip
      refine lv_iconst (v := 0) hx hb dX1_exponent_19 (by decide) ?_
      exact W.iret hx hb hr (fun t ht hW => ⟨⟨_, (), rfl, (by simp only [hm_exponent, if_pos c1, if_pos c2]), ⟨(f0, f1), by rw [ht]; exact hP⟩⟩, hS.F ht⟩) hS.2.2 dX1_exponent_20
  · skip
    refine lv_bipush (v := 100) hx hb dX1_exponent_7 (by decide) ?_
    exact W.iret hx hb hr (fun t ht hW => ⟨⟨_, (), rfl, (by simp only [hm_exponent, if_neg c1]), ⟨(f0, f1), by rw [ht]; exact hP⟩⟩, hS.F ht⟩) hS.2.2 dX1_exponent_9
end
section
/-! patterns as natural numbers: digits, places, amounts -/
theorem hn_if {α : Type} {c d : Prop} {ic : Decidable c} [Decidable d] (h : c ↔ d) {a b : α} : @ite α c ic a b = ite d a b := by
  by_cases g : d
  · rw [if_pos g, if_pos (h.mpr g)]
  · rw [if_neg g, if_neg (fun q => g (h.mp q))]
def np_d (p : Nat) : Nat := if p / 1024 % 32 = 0 then p % 1024 else 1024 + p % 1024
def np_s (p : Nat) : Nat := p / 1024 % 32 - 1
/-- the amount of a pattern, in units of 2^-24 -/
def amt (p : Nat) : Nat := if p / 1024 = 0 then p else (1024 + p % 1024) * 2 ^ (p / 1024 - 1)
theorem np_and31 (p : Nat) : p &&& 31744 = p / 1024 % 32 * 1024 := by
  have h : p / 1024 % 32 * 1024 = ((p >>> 10) &&& (2 ^ 5 - 1)) <<< 10 := by
    rw [Nat.and_two_pow_sub_one_eq_mod, Nat.shiftRight_eq_div_pow, Nat.shiftLeft_eq]
  rw [h, show (31744 : Nat) = (2 ^ 5 - 1) <<< 10 from rfl]
  apply Nat.eq_of_testBit_eq
  intro i
  simp only [Nat.testBit_and, Nat.testBit_shiftLeft, Nat.testBit_shiftRight]
  by_cases c : 10 ≤ i
  · rw [show 10 + (i - 10) = i by omega]
    simp [c]
  · simp [c]
theorem hx_isNumber_nat {p : Nat} (hp : p < 2 ^ 31) : hx_isNumber (nI p) = if p < 65536 ∧ p / 1024 % 32 ≠ 31 then 1 else 0 := by
  have c1 : ¬ nI p < 0 := nI_pos hp
  unfold hx_isNumber
  rw [if_neg c1]
  by_cases c2 : p < 65536
  · have c2' : ¬ (65535 : Int32) < nI p := nI_nlt (a := 65535) (by omega) (by omega)
    rw [if_neg c2', show (31744 : Int32) = nI 31744 from rfl, fa_and, np_and31, hn_if (nI_eq (by omega) (by decide))]
    by_cases c3 : p / 1024 % 32 = 31
    · rw [if_pos (by omega), if_neg (by omega)]
    · rw [if_neg (by omega), if_pos (by omega)]
  · have c2' : (65535 : Int32) < nI p := nI_lt (a := 65535) (by omega) hp
    rw [if_pos c2', if_neg (by omega)]
theorem hm_bad_nat {p : Nat} (hp : p < 2 ^ 31) : hm_bad (nI p) = if p < 65536 ∧ p / 1024 % 32 ≠ 31 then 0 else 1 := by
  have c1 : ¬ nI p < 0 := nI_pos hp
  unfold hm_bad
  rw [if_neg c1]
  by_cases c2 : p < 65536
  · have c2' : ¬ (65535 : Int32) < nI p := nI_nlt (a := 65535) (by omega) (by omega)
    rw [if_neg c2', show (1024 : Int32) = nI 1024 from rfl, show (32 : Int32) = nI 32 from rfl, show (31 : Int32) = nI 31 from rfl, pk_div hp (by decide) (by decide), pk_rem (by omega) (by decide) (by decide), hn_if (nI_eq (by omega) (by decide))]
    by_cases c3 : p / 1024 % 32 = 31
    · rw [if_pos c3, if_neg (by omega)]
    · rw [if_neg c3, if_pos (by omega)]
  · have c2' : (65535 : Int32) < nI p := nI_lt (a := 65535) (by omega) hp
    rw [if_pos c2', if_neg (by omega)]
/-- an int is a number for both, or for neither -/
theorem np_num (a : Int32) : (hx_isNumber a = 0 ∧ ¬ hm_bad a = 0) ∨ ∃ p : Nat, p < 65536 ∧ p / 1024 % 32 ≠ 31 ∧ a = nI p ∧ ¬ hx_isNumber a = 0 ∧ hm_bad a = 0 := by
  by_cases c : a < 0
  · left
    unfold hx_isNumber hm_bad
    rw [if_pos c, if_pos c]
    exact ⟨rfl, by decide⟩
  · obtain ⟨p, hp, rfl⟩ := nI_of c
    by_cases h : p < 65536 ∧ p / 1024 % 32 ≠ 31
    · right
      refine ⟨p, h.1, h.2, rfl, ?_, ?_⟩
      · rw [hx_isNumber_nat hp, if_pos h]; decide
      · rw [hm_bad_nat hp, if_pos h]
    · left
      rw [hx_isNumber_nat hp, hm_bad_nat hp, if_neg h, if_neg h]
      exact ⟨rfl, by decide⟩
theorem np_ush10 {p : Nat} (hp : p < 2 ^ 31) : ((nI p).toUInt32 >>> ((10 : Int32).toUInt32 &&& Int32.toUInt32 31)).toInt32 &&& 31 = nI (p / 1024 % 32) := by
  rw [pk_ushrN (by omega) 10 10 (by decide)]
  exact fa_mask (p / 2 ^ 10) 5
theorem hx_digitsOf_nat {p : Nat} (hp : p < 2 ^ 31) : hx_digitsOf (nI p) = nI (np_d p) := by
  unfold hx_digitsOf np_d
  rw [np_ush10 hp, show nI p &&& 1023 = nI (p % 1024) from fa_mask p 10]
  show (if nI (p / 1024 % 32) = nI 0 then _ else _) = _
  rw [hn_if (nI_eq (by omega) (by decide))]
  by_cases c : p / 1024 % 32 = 0
  · rw [if_pos c, if_pos c]
  · rw [if_neg c, if_neg c, ← nI_add]
    rfl
theorem hx_placeOf_nat {p : Nat} (hp : p < 2 ^ 31) : hx_placeOf (nI p) = nI (np_s p) := by
  unfold hx_placeOf np_s
  rw [np_ush10 hp]
  show (if nI (p / 1024 % 32) = nI 0 then nI 0 else nI (p / 1024 % 32) - nI 1) = _
  rw [hn_if (nI_eq (by omega) (by decide))]
  by_cases c : p / 1024 % 32 = 0
  · rw [if_pos c, c]
  · rw [if_neg c, pk_sub (by omega)]
theorem hm_digitsOf_nat {p : Nat} (hp : p < 2 ^ 31) : hm_digitsOf (nI p) = lN (np_d p) := by
  unfold hm_digitsOf np_d
  rw [show (1024 : Int32) = nI 1024 from rfl, show (32 : Int32) = nI 32 from rfl, show (0 : Int32) = nI 0 from rfl, pk_rem hp (by decide) (by decide), pk_div hp (by decide) (by decide), pk_rem (by omega) (by decide) (by decide), hn_if (nI_eq (by omega) (by decide)), nI_add, nI_l (by omega), nI_l (by omega)]
  by_cases c : p / 1024 % 32 = 0
  · rw [if_pos c, if_pos c]
  · rw [if_neg c, if_neg c]
theorem hm_shiftOf_nat {p : Nat} (hp : p < 2 ^ 31) : hm_shiftOf (nI p) = nI (np_s p) := by
  unfold hm_shiftOf np_s
  rw [show (1024 : Int32) = nI 1024 from rfl, show (32 : Int32) = nI 32 from rfl, pk_div hp (by decide) (by decide), pk_rem (by omega) (by decide) (by decide)]
  show (if nI (p / 1024 % 32) = nI 0 then nI 0 else nI (p / 1024 % 32) - nI 1) = _
  rw [hn_if (nI_eq (by omega) (by decide))]
  by_cases c : p / 1024 % 32 = 0
  · rw [if_pos c, c]
  · rw [if_neg c, pk_sub (by omega)]
theorem np_d_lt (p : Nat) : np_d p < 2048 := by
  unfold np_d
  split <;> omega
theorem np_s_lt (p : Nat) : np_s p ≤ 30 := by
  unfold np_s
  omega
theorem np_s_lt' {p : Nat} (h : p / 1024 % 32 ≠ 31) : np_s p ≤ 29 := by
  unfold np_s
  omega
theorem np_amt {p : Nat} (hp : p < 32768) : np_d p * 2 ^ np_s p = amt p := by
  unfold np_d np_s amt
  have h : p / 1024 % 32 = p / 1024 := by omega
  rw [h]
  by_cases c : p / 1024 = 0
  · rw [if_pos c, if_pos c, c]
    omega
  · rw [if_neg c, if_neg c]
theorem np_low (p : Nat) (hp : p < 65536) : np_d p = np_d (p % 32768) ∧ np_s p = np_s (p % 32768) := by
  unfold np_d np_s
  have h1 : p / 1024 % 32 = p % 32768 / 1024 % 32 := by omega
  have h2 : p % 1024 = p % 32768 % 1024 := by omega
  rw [h1, h2]
  exact ⟨rfl, rfl⟩
theorem amt_succ (p : Nat) : amt (p + 1) = amt p + 2 ^ (p / 1024 - 1) := by
  unfold amt
  by_cases c : p % 1024 = 1023
  · have h1 : (p + 1) / 1024 = p / 1024 + 1 := by omega
    have h2 : (p + 1) % 1024 = 0 := by omega
    rw [h1, h2, if_neg (by omega)]
    by_cases c0 : p / 1024 = 0
    · rw [if_pos c0, c0]
      omega
    · rw [if_neg c0, c]
      obtain ⟨e, he⟩ : ∃ e, p / 1024 = e + 1 := ⟨p / 1024 - 1, by omega⟩
      rw [he]
      simp only [Nat.add_sub_cancel]
      rw [Nat.pow_succ]
      omega
  · have h1 : (p + 1) / 1024 = p / 1024 := by omega
    have h2 : (p + 1) % 1024 = p % 1024 + 1 := by omega
    rw [h1, h2]
    by_cases c0 : p / 1024 = 0
    · rw [if_pos c0, if_pos c0, c0]
    · rw [if_neg c0, if_neg c0, ← Nat.add_assoc, Nat.add_mul]
      omega
theorem amt_lt_succ (p : Nat) : amt p < amt (p + 1) := by
  rw [amt_succ]
  have := Nat.two_pow_pos (p / 1024 - 1)
  omega
theorem amt_lt {p q : Nat} (h : p < q) : amt p < amt q := by
  induction q with
  | zero => omega
  | succ q ih =>
    have h2 := amt_lt_succ q
    rcases Nat.lt_or_ge p q with c | c
    · have := ih c
      omega
    · rw [show p = q by omega]
      exact h2
theorem amt_le {p q : Nat} (h : p ≤ q) : amt p ≤ amt q := by
  rcases Nat.lt_or_ge p q with c | c
  · exact Nat.le_of_lt (amt_lt c)
  · rw [show p = q by omega]
    exact Nat.le_refl _
theorem amt_31744 : amt 31744 = 2 ^ 40 := by decide +kernel
theorem amt_0 : amt 0 = 0 := by decide +kernel
/-- the reference's amount -/
theorem hm_amount_nat {p : Nat} (hp : p < 2 ^ 31) : hm_amount (nI p) = lN (amt (p % 32768)) := by
  unfold hm_amount
  rw [show nI p &&& 32767 = nI (p % 32768) from fa_mask p 15]
  show (if nI (p % 32768) = nI 31744 then _ else _) = _
  rw [hn_if (nI_eq (by omega) (by decide))]
  by_cases c : p % 32768 = 31744
  · rw [if_pos c, c, amt_31744]
    rfl
  · rw [if_neg c, hm_digitsOf_nat (by omega), hm_shiftOf_nat (by omega), wb_shl _ (by have := np_s_lt (p % 32768); omega), np_amt (by omega)]
end
section
/-! the nearest pattern: 'mid p' is twice the middle between p-1 and p; lt M: M is less than twice the value, eq M: it is twice the value -/
def mid (p : Nat) : Nat := amt (p - 1) + amt p
theorem mid_lt {p q : Nat} (h : p < q) : mid p < mid q := by
  unfold mid
  have h1 := amt_le (show p - 1 ≤ q - 1 by omega)
  have h2 := amt_lt h
  omega
def Low (lt eq : Nat → Prop) (p : Nat) : Prop := p = 0 ∨ lt (mid p) ∨ (eq (mid p) ∧ p % 2 = 0)
def Upp (lt eq : Nat → Prop) (p : Nat) : Prop := (¬ lt (mid (p + 1)) ∧ ¬ eq (mid (p + 1))) ∨ (eq (mid (p + 1)) ∧ p % 2 = 0)
def Near (lt eq : Nat → Prop) (p : Nat) : Prop := p ≤ 31744 ∧ Low lt eq p ∧ (p = 31744 ∨ Upp lt eq p)
/-- a comparison with one value -/
def Cmp (lt eq : Nat → Prop) : Prop := (∀ M M', M' < M → (lt M ∨ eq M) → lt M') ∧ ∀ M, lt M → ¬ eq M
theorem near_not_lt {lt eq : Nat → Prop} (hc : Cmp lt eq) {p q : Nat} (hp : Near lt eq p) (hq : Near lt eq q) : ¬ p < q := by
  intro h
  obtain ⟨p1, -, p3⟩ := hp
  obtain ⟨q1, q2, -⟩ := hq
  have p3 : Upp lt eq p := by
    rcases p3 with c | c
    · omega
    · exact c
  have q2 : lt (mid q) ∨ (eq (mid q) ∧ q % 2 = 0) := by
    rcases q2 with c | c
    · omega
    · exact c
  rcases Nat.lt_or_ge (p + 1) q with c | c
  · have hl : lt (mid (p + 1)) := hc.1 _ _ (mid_lt c) (by rcases q2 with a | a; exact Or.inl a; exact Or.inr a.1)
    rcases p3 with a | a
    · exact a.1 hl
    · exact hc.2 _ hl a.1
  · have e : q = p + 1 := by omega
    subst e
    rcases p3 with a | a
    · rcases q2 with b | b
      · exact a.1 b
      · exact a.2 b.1
    · rcases q2 with b | b
      · exact hc.2 _ b a.1
      · omega
theorem near_unique {lt eq : Nat → Prop} (hc : Cmp lt eq) {p q : Nat} (hp : Near lt eq p) (hq : Near lt eq q) : p = q := by
  have h1 := near_not_lt hc hp hq
  have h2 := near_not_lt hc hq hp
  omega
/-- the value U / L -/
theorem cmp_frac {U L : Nat} (hL : 0 < L) : Cmp (fun M => M * L < 2 * U) (fun M => M * L = 2 * U) := by
  refine ⟨fun M M' h h2 => ?_, fun M h h2 => ?_⟩
  · have h3 : M' * L < M * L := Nat.mul_lt_mul_of_pos_right h hL
    show M' * L < 2 * U
    have h2 : M * L < 2 * U ∨ M * L = 2 * U := h2
    omega
  · have h : M * L < 2 * U := h
    have h2 : M * L = 2 * U := h2
    omega
/-- the value u / 16, and a little more if b -/
theorem cmp_rest {u : Nat} {b : Prop} : Cmp (fun M => 8 * M < u ∨ (8 * M = u ∧ b)) (fun M => 8 * M = u ∧ ¬ b) := by
  refine ⟨fun M M' h h2 => ?_, fun M h h2 => ?_⟩
  · have h2 : (8 * M < u ∨ (8 * M = u ∧ b)) ∨ (8 * M = u ∧ ¬ b) := h2
    show 8 * M' < u ∨ (8 * M' = u ∧ b)
    left
    rcases h2 with (h2 | h2) | h2 <;> omega
  · have h : 8 * M < u ∨ (8 * M = u ∧ b) := h
    have h2 : 8 * M = u ∧ ¬ b := h2
    rcases h with h | h
    · omega
    · exact h2.2 h.2
/-- what is cut off at 31744 -/
theorem near_cap {lt eq : Nat → Prop} (hc : Cmp lt eq) {p : Nat} (h1 : Low lt eq p) (h2 : Upp lt eq p) : Near lt eq (if p ≤ 31744 then p else 31744) := by
  by_cases c : p ≤ 31744
  · rw [if_pos c]
    exact ⟨c, h1, Or.inr h2⟩
  · rw [if_neg c]
    refine ⟨Nat.le_refl _, Or.inr (Or.inl ?_), Or.inl rfl⟩
    refine hc.1 _ _ (mid_lt (show 31744 < p by omega)) ?_
    rcases h1 with a | a | a
    · omega
    · exact Or.inl a
    · exact Or.inr a.1
/-- the pattern (s - 4) * 1024 + q has the amount q * 2^(s - 4) -/
theorem amt_sq {s q : Nat} (hs : 4 ≤ s) (hq : q ≤ 2047) (h : s = 4 ∨ 1024 ≤ q) : ((s - 4) * 1024 + q) / 1024 - 1 = s - 4 ∧ amt ((s - 4) * 1024 + q) = q * 2 ^ (s - 4) := by
  unfold amt
  by_cases c : q < 1024
  · have e : s = 4 := by omega
    subst e
    have h1 : ((4 - 4) * 1024 + q) / 1024 = 0 := by omega
    rw [h1, if_pos rfl]
    simp
  · have h1 : ((s - 4) * 1024 + q) / 1024 = s - 4 + 1 := by omega
    have h2 : ((s - 4) * 1024 + q) % 1024 = q - 1024 := by omega
    rw [h1, h2, if_neg (by omega)]
    refine ⟨by omega, ?_⟩
    rw [show 1024 + (q - 1024) = q by omega, show s - 4 + 1 - 1 = s - 4 by omega]
/-- the rounding by digits, lost part and half -/
theorem round_near' {u q r t P up : Nat} {b : Prop} (hu : u = 16 * (q * t) + r) (hm : r < 16 * t) (hp : 0 < t) (a2 : amt P = q * t) (a3 : amt (P + 1) = q * t + t) (hpar : P % 2 = q % 2)
    (hup : (up = 1 ∧ (8 * t < r ∨ (r = 8 * t ∧ (b ∨ q % 2 = 1)))) ∨ (up = 0 ∧ (r < 8 * t ∨ (r = 8 * t ∧ ¬ b ∧ q % 2 = 0)))) :
    Low (fun M => 8 * M < u ∨ (8 * M = u ∧ b)) (fun M => 8 * M = u ∧ ¬ b) (P + up) ∧ Upp (fun M => 8 * M < u ∨ (8 * M = u ∧ b)) (fun M => 8 * M = u ∧ ¬ b) (P + up) := by
  have m1 : mid (P + 1) = 2 * (q * t) + t := by
    unfold mid
    rw [Nat.add_sub_cancel, a2, a3]
    omega
  rcases hup with ⟨rfl, hup⟩ | ⟨rfl, hup⟩
  · constructor
    · right
      rcases hup with c | ⟨c, c | c⟩
      · left; left
        omega
      · left; right
        exact ⟨by omega, c⟩
      · by_cases cb : b
        · left; right
          exact ⟨by omega, cb⟩
        · right
          exact ⟨⟨by omega, cb⟩, by omega⟩
    · left
      have m2 : 2 * amt (P + 1) < mid (P + 1 + 1) := by
        unfold mid
        have := amt_lt_succ (P + 1)
        rw [Nat.add_sub_cancel]
        omega
      refine ⟨fun g => ?_, fun g => ?_⟩
      · rcases g with g | g <;> omega
      · have := g.1
        omega
  · rw [Nat.add_zero]
    constructor
    · by_cases c0 : P = 0
      · exact Or.inl c0
      · right; left; left
        have : mid P < 2 * amt P := by
          unfold mid
          have := amt_lt (show P - 1 < P by omega)
          omega
        omega
    · rcases hup with c | ⟨c, c2, c3⟩
      · left
        refine ⟨fun g => ?_, fun g => ?_⟩
        · rcases g with g | g <;> omega
        · have := g.1
          omega
      · right
        exact ⟨⟨by omega, c2⟩, by omega⟩

theorem round_near {u s P : Nat} {b : Prop} (hs : 4 ≤ s) (hq : u / 2 ^ s ≤ 2047) (h : s = 4 ∨ 1024 ≤ u / 2 ^ s) (up : Nat) (hP : P = (s - 4) * 1024 + u / 2 ^ s) (hup : (up = 1 ∧ (2 ^ (s - 1) < u % 2 ^ s ∨ (u % 2 ^ s = 2 ^ (s - 1) ∧ (b ∨ u / 2 ^ s % 2 = 1)))) ∨ (up = 0 ∧ (u % 2 ^ s < 2 ^ (s - 1) ∨ (u % 2 ^ s = 2 ^ (s - 1) ∧ ¬ b ∧ u / 2 ^ s % 2 = 0)))) :
    Low (fun M => 8 * M < u ∨ (8 * M = u ∧ b)) (fun M => 8 * M = u ∧ ¬ b) (P + up) ∧ Upp (fun M => 8 * M < u ∨ (8 * M = u ∧ b)) (fun M => 8 * M = u ∧ ¬ b) (P + up) := by
  obtain ⟨a1, a2⟩ := amt_sq hs hq h
  rw [← hP] at a1 a2
  have a3 := amt_succ P
  rw [a1, a2] at a3
  have hd := Nat.div_add_mod u (2 ^ s)
  have hm := Nat.mod_lt u (Nat.two_pow_pos s)
  have e1 : 2 ^ s = 16 * 2 ^ (s - 4) := by
    rw [show (16 : Nat) = 2 ^ 4 from rfl, ← Nat.pow_add]
    congr 1
    omega
  have e2 : 2 ^ (s - 1) = 8 * 2 ^ (s - 4) := by
    rw [show (8 : Nat) = 2 ^ 3 from rfl, ← Nat.pow_add]
    congr 1
    omega
  have hp := Nat.two_pow_pos (s - 4)
  refine round_near' (q := u / 2 ^ s) (r := u % 2 ^ s) (t := 2 ^ (s - 4)) ?_ (by rw [← e1]; exact hm) hp a2 a3 (by omega) (by rw [← e2]; exact hup)
  rw [← Nat.mul_assoc, Nat.mul_comm 16, Nat.mul_assoc, ← e1, Nat.mul_comm]
  exact hd.symm
end
section
/-! round and nearest give the nearest pattern -/
theorem hx_round_run {u : Nat} (hu : u < 2 ^ 62) : ∃ k : Nat, k ≤ 50 ∧ hf_run (hx_round_s5 (lN u)) 50 (4, 0) = (nI (k + 4), nI k) ∧ u / 2 ^ (k + 4) ≤ 2047 ∧ (k = 0 ∨ 2048 ≤ u / 2 ^ (k + 3)) := by
  have hs : ∀ k : Nat, k ≤ 50 → (lN u : Int64) >>> ((nI (k + 4)).toInt64 &&& 63) = lN (u / 2 ^ (k + 4)) := fun k hk => hn_shr (by omega) hu
  have hlt : ∀ k : Nat, u / 2 ^ k < 2 ^ 63 := fun k => Nat.lt_of_le_of_lt (Nat.div_le_self _ _) (by omega)
  have h := hf_inv (hx_round_s5 (lN u)) (fun q => ∃ k : Nat, k ≤ 50 ∧ q = (nI (k + 4), nI k) ∧ (k = 0 ∨ 2048 ≤ u / 2 ^ (k + 3))) (by
    rintro q t ⟨k, hk, rfl, hk2⟩ h
    simp only [hx_round_s5, hs k hk] at h
    by_cases c1 : (50 : Int32) ≤ nI k
    · simp only [c1, if_true] at h
      cases h
    · by_cases c2 : lN (u / 2 ^ (k + 4)) ≤ 2047
      · simp only [c1, c2, if_true, if_false] at h
        cases h
      · simp only [c1, c2, if_false] at h
        rw [show (50 : Int32) = nI 50 from rfl, nI_leI (by omega) (by omega)] at c1
        rw [show (2047 : Int64) = lN 2047 from rfl, pk_lLE (hlt _) (by decide)] at c2
        refine ⟨k + 1, by omega, ?_, Or.inr (by rw [show k + 1 + 3 = k + 4 by omega]; omega)⟩
        rw [← Option.some.inj h, nI_1, nI_1]) 50 (4, 0) ⟨0, by decide, rfl, Or.inl rfl⟩
  have hE := hx_round_end (lN u)
  obtain ⟨k, hk, e, hk2⟩ := h
  refine ⟨k, hk, e, ?_, hk2⟩
  rw [e] at hE
  simp only [hx_round_s5, hs k hk] at hE
  by_cases c1 : (50 : Int32) ≤ nI k
  · rw [show (50 : Int32) = nI 50 from rfl, nI_leI (by omega) (by omega)] at c1
    have h1 : u / 2 ^ (k + 4) < 2 ^ 8 := by
      apply Nat.div_lt_of_lt_mul
      rw [show k = 50 by omega]
      omega
    omega
  · by_cases c2 : lN (u / 2 ^ (k + 4)) ≤ 2047
    · rw [show (2047 : Int64) = lN 2047 from rfl, pk_lLE (hlt _) (by decide)] at c2
      exact c2
    · simp only [c1, c2, if_false] at hE
      cases hE
theorem hx_round_up {r h q : Nat} (hr : r < 2 ^ 63) (hh : h < 2 ^ 63) (hq : q ≤ 2047) (b : Int32) : ∃ up : Nat, (if (if (lN h : Int64) < (lN r : Int64) then ((1 : Int32)) else (if (lN r : Int64) = (lN h : Int64) then (if (b : Int32) = (0 : Int32) then (if (lN (q % 2) : Int64) = (0 : Int64) then (0) else (1)) else (1)) else (0))) = (0 : Int32) then ((0 : Int32)) else (1)) = nI up ∧
    ((up = 1 ∧ (h < r ∨ (r = h ∧ (¬ b = 0 ∨ q % 2 = 1)))) ∨ (up = 0 ∧ (r < h ∨ (r = h ∧ ¬ ¬ b = 0 ∧ q % 2 = 0)))) := by
  rw [hn_if (pk_lLT hh hr)]
  by_cases c1 : h < r
  · rw [if_pos c1]
    exact ⟨1, rfl, Or.inl ⟨rfl, Or.inl c1⟩⟩
  · rw [if_neg c1, hn_if (pk_lEQ hr hh)]
    by_cases c2 : r = h
    · rw [if_pos c2]
      by_cases c3 : b = 0
      · rw [if_pos c3, show (0 : Int64) = lN 0 from rfl, hn_if (pk_lEQ (show q % 2 < 2 ^ 63 by omega) (by decide))]
        by_cases c4 : q % 2 = 0
        · rw [if_pos c4]
          exact ⟨0, rfl, Or.inr ⟨rfl, Or.inr ⟨c2, fun g => g c3, c4⟩⟩⟩
        · rw [if_neg c4]
          exact ⟨1, rfl, Or.inl ⟨rfl, Or.inr ⟨c2, Or.inr (by omega)⟩⟩⟩
      · rw [if_neg c3]
        exact ⟨1, rfl, Or.inl ⟨rfl, Or.inr ⟨c2, Or.inl c3⟩⟩⟩
    · rw [if_neg c2]
      exact ⟨0, rfl, Or.inr ⟨rfl, Or.inl (by omega)⟩⟩
/-- round: the nearest pattern to u / 16 units, and a little more if there is a rest -/
theorem hx_round_near {u : Nat} (hu : u < 2 ^ 62) (b : Int32) : ∃ p : Nat, hx_round (lN u) b = nI p ∧ Near (fun M => 8 * M < u ∨ (8 * M = u ∧ ¬ b = 0)) (fun M => 8 * M = u ∧ ¬ ¬ b = 0) p := by
  obtain ⟨k, hk, hrun, hq, hk2⟩ := hx_round_run hu
  have hd := Nat.div_add_mod u (2 ^ (k + 4))
  have hm := Nat.mod_lt u (Nat.two_pow_pos (k + 4))
  have hp : 2 ^ (k + 4) = 2 * 2 ^ (k + 3) := by rw [show k + 4 = (k + 3) + 1 by omega, Nat.pow_succ]; omega
  have hp2 : 2 ^ (k + 3) < 2 ^ 63 := Nat.pow_lt_pow_right (by decide) (by omega)
  have hq2 : k + 4 = 4 ∨ 1024 ≤ u / 2 ^ (k + 4) := by
    rcases hk2 with c | c
    · left; omega
    · right
      rw [hp, Nat.mul_comm, ← Nat.div_div_eq_div_mul]
      omega
  have hr : u % 2 ^ (k + 4) < 2 ^ 63 := Nat.lt_of_le_of_lt (Nat.mod_le _ _) (by omega)
  obtain ⟨up, e6, hup⟩ := hx_round_up hr hp2 hq b
  have e1 : (lN u : Int64) >>> ((nI (k + 4)).toInt64 &&& 63) = lN (u / 2 ^ (k + 4)) := hn_shr (by omega) hu
  have e2 : lN u - (lN (u / 2 ^ (k + 4)) : Int64) <<< ((nI (k + 4)).toInt64 &&& 63) = lN (u % 2 ^ (k + 4)) := by
    rw [wb_shl _ (by omega), lN_sub (by rw [Nat.mul_comm]; omega)]
    congr 1
    rw [Nat.mul_comm]
    omega
  have e3 : (1 : Int64) <<< ((nI (k + 4) - 1 : Int32).toInt64 &&& 63) = lN (2 ^ (k + 3)) := by
    rw [show k + 4 = (k + 3) + 1 by omega, nI_pred, show (1 : Int64) = lN 1 from rfl, wb_shl _ (by omega), Nat.one_mul]
  have e4 : lN (u / 2 ^ (k + 4)) &&& 1 = lN (u / 2 ^ (k + 4) % 2) := wb_a1 (by omega)
  have e5 : (((nI (k + 4) - 4) <<< ((10 : Int32) &&& 31) : Int32).toInt64) = lN (k * 1024) := by
    rw [show (4 : Int32) = nI 4 from rfl, pk_sub (by omega), pk_shlN _ 10 (by decide) (by omega), nI_l (by omega), show k + 4 - 4 = k by omega]
  have hval : hx_round (lN u) b = if k * 1024 + u / 2 ^ (k + 4) + up ≤ 31744 then nI (k * 1024 + u / 2 ^ (k + 4) + up) else nI 31744 := by
    have hup1 : up ≤ 1 := by rcases hup with c | c <;> omega
    unfold hx_round
    rw [hrun]
    show (if (((nI (k + 4) - 4) <<< ((10 : Int32) &&& 31) : Int32).toInt64 + ((lN u : Int64) >>> ((nI (k + 4)).toInt64 &&& 63)) + _ : Int64) ≤ 31744 then _ else _) = _
    rw [e1, e2, e3, e4, e5, e6, nI_l (by omega), lN_add, lN_add, show (31744 : Int64) = lN 31744 from rfl, hn_if (pk_lLE (by omega) (by decide)), lN_i]
    rfl
  have hn := round_near (b := ¬ b = 0) (P := k * 1024 + u / 2 ^ (k + 4)) (show 4 ≤ k + 4 by omega) hq hq2 up (by rw [show k + 4 - 4 = k by omega]) (by rw [show k + 4 - 1 = k + 3 by omega]; exact hup)
  refine ⟨if k * 1024 + u / 2 ^ (k + 4) + up ≤ 31744 then k * 1024 + u / 2 ^ (k + 4) + up else 31744, ?_, near_cap cmp_rest hn.1 hn.2⟩
  rw [hval]
  by_cases c : k * 1024 + u / 2 ^ (k + 4) + up ≤ 31744
  · rw [if_pos c, if_pos c]
  · rw [if_neg c, if_neg c]

theorem hm_nearest_run {w : Nat} (hw : w < 2 ^ 40) : ∃ a : Nat, a ≤ 31743 ∧ hf_run (hm_nearest_s54 (lN w)) 16 (0, 31743) = (nI a, nI a) ∧ amt a ≤ w ∧ w < amt (a + 1) := by
  have hA : ∀ a : Nat, a ≤ 31743 → hm_amount (nI a) = lN (amt a) ∧ amt a < 2 ^ 40 := by
    intro a ha
    have h1 := hm_amount_nat (p := a) (by omega)
    rw [Nat.mod_eq_of_lt (by omega)] at h1
    have h2 := amt_lt (show a < 31744 by omega)
    rw [amt_31744] at h2
    exact ⟨h1, h2⟩
  have h := hf_inv (hm_nearest_s54 (lN w)) (fun q => ∃ a b : Nat, a ≤ b ∧ b ≤ 31743 ∧ amt a ≤ w ∧ w < amt (b + 1) ∧ q = (nI a, nI b)) (by
    rintro q t ⟨a, b, h1, h2, h3, h4, rfl⟩ h
    have hm : (nI a + nI b + 1) / 2 = nI ((a + b + 1) / 2) := by rw [nI_add, nI_1, show (2 : Int32) = nI 2 from rfl, pk_div (by omega) (by decide) (by decide)]
    simp only [hm_nearest_s54, hm] at h
    by_cases c1 : nI b ≤ nI a
    · simp only [c1, if_true] at h
      cases h
    · have c1' : a < b := by
        rw [nI_leI (by omega) (by omega)] at c1
        omega
      simp only [c1, if_false] at h
      obtain ⟨g1, g2⟩ := hA ((a + b + 1) / 2) (by omega)
      rw [g1] at h
      by_cases c2 : lN w < lN (amt ((a + b + 1) / 2))
      · simp only [c2, if_true] at h
        rw [pk_lLT (by omega) (by omega)] at c2
        refine ⟨a, (a + b + 1) / 2 - 1, by omega, by omega, h3, ?_, ?_⟩
        · rw [show (a + b + 1) / 2 - 1 + 1 = (a + b + 1) / 2 by omega]
          exact c2
        · rw [← Option.some.inj h, show (1 : Int32) = nI 1 from rfl, pk_sub (by omega)]
      · simp only [c2, if_false] at h
        rw [pk_lLT (by omega) (by omega)] at c2
        exact ⟨(a + b + 1) / 2, b, by omega, by omega, by omega, h4, (Option.some.inj h).symm⟩) 16 (0, 31743) ⟨0, 31743, by decide, by decide, by rw [amt_0]; omega, by rw [amt_31744]; exact hw, rfl⟩
  have hE := hm_nearest_end (lN w)
  obtain ⟨a, b, h1, h2, h3, h4, e⟩ := h
  rw [e] at hE
  have hm : (nI a + nI b + 1) / 2 = nI ((a + b + 1) / 2) := by rw [nI_add, nI_1, show (2 : Int32) = nI 2 from rfl, pk_div (by omega) (by decide) (by decide)]
  simp only [hm_nearest_s54, hm] at hE
  by_cases c1 : nI b ≤ nI a
  · rw [nI_leI (by omega) (by omega)] at c1
    have e2 : b = a := by omega
    subst e2
    exact ⟨b, h2, e, h3, h4⟩
  · simp only [c1, if_false] at hE
    split at hE <;> cases hE
theorem amt_gap (a : Nat) : 2 ^ (a / 1024 - 1) ≤ 1 ∨ 2 ^ (a / 1024 - 1) ≤ amt a := by
  unfold amt
  by_cases c : a / 1024 = 0
  · left
    rw [c]
    decide
  · right
    rw [if_neg c, Nat.add_mul]
    have : 1 * 2 ^ (a / 1024 - 1) ≤ 1024 * 2 ^ (a / 1024 - 1) := Nat.mul_le_mul_right _ (by decide)
    omega
/-- nearest: the nearest pattern to U / L units -/
theorem hm_nearest_near {U L : Nat} (hU : U < 2 ^ 61) (hL0 : 0 < L) (hL : L < 2 ^ 61) : ∃ p : Nat, hm_nearest (lN U) (lN L) = nI p ∧ Near (fun M => M * L < 2 * U) (fun M => M * L = 2 * U) p := by
  have c0 : ¬ lN L ≤ 0 := by
    rw [show (0 : Int64) = lN 0 from rfl, pk_lLE (by omega) (by decide)]
    omega
  have hA : hm_amount 31744 = lN (2 ^ 40) := by
    have h1 := hm_amount_nat (p := 31744) (by decide)
    rw [show 31744 % 32768 = 31744 from rfl, amt_31744] at h1
    exact h1
  have hw := Nat.div_mul_le_self U L
  have hd := Nat.div_add_mod U L
  have hr := Nat.mod_lt U hL0
  have hwU : U / L ≤ U := Nat.div_le_self _ _
  have e1 : (if (lN L : Int64) ≤ (0 : Int64) then (0) else (lN U / lN L)) = lN (U / L) := by rw [if_neg c0, pk_lDiv (by omega) hL0 (by omega)]
  have e2 : (if (lN L : Int64) ≤ (0 : Int64) then (0) else (lN U - lN U / lN L * lN L)) = lN (U % L) := by rw [if_neg c0, pk_lRem (by omega) hL0 (by omega)]
  unfold hm_nearest
  rw [e1, e2, hA]
  by_cases c1 : U / L < 2 ^ 40
  · obtain ⟨a, ha, hrun, h3, h4⟩ := hm_nearest_run c1
    have g1 : hm_amount (nI a) = lN (amt a) := by
      have h1 := hm_amount_nat (p := a) (by omega)
      rw [Nat.mod_eq_of_lt (by omega)] at h1
      exact h1
    have g2 : hm_amount (nI a + 1) = lN (amt (a + 1)) := by
      have h1 := hm_amount_nat (p := a + 1) (by omega)
      rw [Nat.mod_eq_of_lt (by omega), ← nI_1] at h1
      exact h1
    have hs := amt_succ a
    have hXU : amt a * L ≤ U := Nat.le_trans (Nat.mul_le_mul_right L h3) hw
    have hUY : U < amt (a + 1) * L := by
      have h5 : (U / L + 1) * L ≤ amt (a + 1) * L := Nat.mul_le_mul_right L h4
      rw [Nat.add_mul, Nat.one_mul, Nat.mul_comm] at h5
      omega
    have hXY : amt (a + 1) * L = amt a * L + 2 ^ (a / 1024 - 1) * L := by rw [hs, Nat.add_mul]
    have hgL : 2 ^ (a / 1024 - 1) * L < 2 ^ 61 := by
      rcases amt_gap a with g | g
      · have := Nat.mul_le_mul_right L g
        omega
      · have := Nat.mul_le_mul_right L g
        omega
    have f6 : lN (amt (a + 1)) - lN (amt a) = lN (2 ^ (a / 1024 - 1)) := by
      rw [lN_sub (by omega)]
      congr 1
      omega
    have hsub : (U / L - amt a) * L = U / L * L - amt a * L := Nat.sub_mul _ _ _
    have f7 : (2 : Int64) * (lN (U / L) - lN (amt a)) * lN L + 2 * lN (U % L) = lN (2 * U - 2 * (amt a * L)) := by
      rw [show (2 : Int64) = lN 2 from rfl, lN_sub h3, lN_mul, lN_mul, lN_mul, lN_add, Nat.mul_assoc, hsub]
      congr 1
      rw [Nat.mul_comm] at hd
      have hXw : amt a * L ≤ U / L * L := Nat.mul_le_mul_right L h3
      omega
    have m1 : mid (a + 1) * L = 2 * (amt a * L) + 2 ^ (a / 1024 - 1) * L := by
      unfold mid
      rw [Nat.add_sub_cancel, Nat.add_mul, hXY]
      omega
    have nlow : Low (fun M => M * L < 2 * U) (fun M => M * L = 2 * U) a := by
      by_cases z : a = 0
      · exact Or.inl z
      · right; left
        show mid a * L < 2 * U
        have h6 : mid a < 2 * amt a := by
          unfold mid
          have := amt_lt (show a - 1 < a by omega)
          omega
        have := Nat.mul_lt_mul_of_pos_right h6 hL0
        rw [Nat.mul_assoc] at this
        omega
    have nupp : Upp (fun M => M * L < 2 * U) (fun M => M * L = 2 * U) (a + 1) := by
      left
      have h6 : 2 * amt (a + 1) < mid (a + 1 + 1) := by
        unfold mid
        have := amt_lt_succ (a + 1)
        rw [Nat.add_sub_cancel]
        omega
      have h7 := Nat.mul_lt_mul_of_pos_right h6 hL0
      rw [Nat.mul_assoc] at h7
      refine ⟨fun g => ?_, fun g => ?_⟩
      · have g : mid (a + 1 + 1) * L < 2 * U := g
        omega
      · have g : mid (a + 1 + 1) * L = 2 * U := g
        omega
    dsimp only
    rw [hrun]
    show ∃ p : Nat, (if lN (U / L) < lN (2 ^ 40) then (if (2 : Int64) * (lN (U / L) - hm_amount (nI a)) * lN L + 2 * lN (U % L) = (hm_amount (nI a + 1) - hm_amount (nI a)) * lN L then (if nI a - nI a / 2 * 2 = 0 then nI a else nI a + 1) else (if (2 : Int64) * (lN (U / L) - hm_amount (nI a)) * lN L + 2 * lN (U % L) ≤ (hm_amount (nI a + 1) - hm_amount (nI a)) * lN L then nI a else nI a + 1)) else 31744) = nI p ∧ _
    rw [hn_if (pk_lLT (by omega) (by decide)), if_pos c1, g1, g2, f6, f7, lN_mul, hn_if (pk_lEQ (by omega) (by omega)), hn_if (pk_lLE (by omega) (by omega)), show (2 : Int32) = nI 2 from rfl, pk_rem (by omega) (by decide) (by decide), show (0 : Int32) = nI 0 from rfl, hn_if (nI_eq (by omega) (by decide)), nI_1]
    by_cases d1 : 2 * U - 2 * (amt a * L) = 2 ^ (a / 1024 - 1) * L
    · have d1' : mid (a + 1) * L = 2 * U := by omega
      rw [if_pos d1]
      by_cases d2 : a % 2 = 0
      · rw [if_pos d2]
        exact ⟨a, rfl, by omega, nlow, Or.inr (Or.inr ⟨d1', d2⟩)⟩
      · rw [if_neg d2]
        exact ⟨a + 1, rfl, by omega, Or.inr (Or.inr ⟨d1', by omega⟩), Or.inr nupp⟩
    · rw [if_neg d1]
      by_cases d2 : 2 * U - 2 * (amt a * L) ≤ 2 ^ (a / 1024 - 1) * L
      · rw [if_pos d2]
        refine ⟨a, rfl, by omega, nlow, Or.inr (Or.inl ⟨fun g => ?_, fun g => ?_⟩)⟩
        · have g : mid (a + 1) * L < 2 * U := g
          omega
        · have g : mid (a + 1) * L = 2 * U := g
          omega
      · rw [if_neg d2]
        refine ⟨a + 1, rfl, by omega, Or.inr (Or.inl ?_), Or.inr nupp⟩
        show mid (a + 1) * L < 2 * U
        omega
  · refine ⟨31744, ?_, Nat.le_refl _, Or.inr (Or.inl ?_), Or.inl rfl⟩
    · show (if lN (U / L) < lN (2 ^ 40) then _ else (31744 : Int32)) = _
      rw [hn_if (pk_lLT (by omega) (by decide)), if_neg c1]
      rfl
    · show mid 31744 * L < 2 * U
      have h6 : mid 31744 < 2 * 2 ^ 40 := by
        have h9 := amt_lt (show 31743 < 31744 by decide)
        show amt 31743 + amt 31744 < _
        rw [amt_31744] at h9 ⊢
        generalize amt 31743 = z at h9 ⊢
        omega
      have h7 := Nat.mul_lt_mul_of_pos_right h6 hL0
      have h8 : 2 ^ 40 * L ≤ U / L * L := Nat.mul_le_mul_right L (by omega)
      rw [Nat.mul_assoc] at h7
      omega
end
section
/-! the bridge from round to nearest; add, compare, floor, multiply, parse -/
theorem br_lt {x D N u r : Nat} (hD : 0 < D) (hu : u * D + r = N) (hr : r < D) : ((x < u ∨ (x = u ∧ r ≠ 0)) ↔ x * D < N) ∧ ((x = u ∧ r = 0) ↔ x * D = N) := by
  rcases Nat.lt_trichotomy x u with c | c | c
  · have h := Nat.mul_le_mul_right D (show x + 1 ≤ u from c)
    rw [Nat.add_mul, Nat.one_mul] at h
    constructor <;> omega
  · subst c
    constructor <;> omega
  · have h := Nat.mul_le_mul_right D (show u + 1 ≤ x from c)
    rw [Nat.add_mul, Nat.one_mul] at h
    constructor <;> omega
theorem br_cmp {m M U L D N g : Nat} (hD : 0 < D) (hL : 0 < L) (h : 16 * U * D = N * 2 ^ g * L) (hm : 8 * M = m * 2 ^ g) : (m * D < N ↔ M * L < 2 * U) ∧ (m * D = N ↔ M * L = 2 * U) := by
  have hg := Nat.two_pow_pos g
  have hG : 0 < 2 ^ g * L := Nat.mul_pos hg hL
  have h8 : 0 < 8 * D := by omega
  have e1 : (m * D) * (2 ^ g * L) = (M * L) * (8 * D) := by
    have : (m * D) * (2 ^ g * L) = (m * 2 ^ g) * (D * L) := by
      rw [Nat.mul_assoc, Nat.mul_assoc]
      congr 1
      rw [← Nat.mul_assoc, ← Nat.mul_assoc, Nat.mul_comm D]
    rw [this, ← hm]
    rw [Nat.mul_comm 8 M, Nat.mul_assoc, Nat.mul_assoc]
    congr 1
    rw [Nat.mul_comm D L, ← Nat.mul_assoc, Nat.mul_comm 8 L, Nat.mul_assoc]
  have e2 : N * (2 ^ g * L) = (2 * U) * (8 * D) := by
    rw [← Nat.mul_assoc, ← h, Nat.mul_comm 2 U, Nat.mul_assoc U, ← Nat.mul_assoc 2 8 D, Nat.mul_comm 16 U, Nat.mul_assoc]
  constructor
  · rw [← Nat.mul_lt_mul_right hG, e1, e2, Nat.mul_lt_mul_right h8]
  · constructor
    · intro g1
      have : (m * D) * (2 ^ g * L) = N * (2 ^ g * L) := by rw [g1]
      rw [e1, e2] at this
      exact Nat.eq_of_mul_eq_mul_right h8 this
    · intro g1
      have : (M * L) * (8 * D) = (2 * U) * (8 * D) := by rw [g1]
      rw [← e1, ← e2] at this
      exact Nat.eq_of_mul_eq_mul_right hG this
theorem near_transfer {lt eq lt' eq' : Nat → Prop} {p : Nat} (h : Near lt eq p) (h1 : p ≠ 0 → (lt (mid p) ↔ lt' (mid p)) ∧ (eq (mid p) ↔ eq' (mid p))) (h2 : p ≠ 31744 → (lt (mid (p + 1)) ↔ lt' (mid (p + 1))) ∧ (eq (mid (p + 1)) ↔ eq' (mid (p + 1)))) : Near lt' eq' p := by
  obtain ⟨a1, a2, a3⟩ := h
  refine ⟨a1, ?_, ?_⟩
  · rcases a2 with c | c
    · exact Or.inl c
    · by_cases z : p = 0
      · exact Or.inl z
      · obtain ⟨g1, g2⟩ := h1 z
        rw [g1, g2] at c
        exact Or.inr c
  · by_cases z : p = 31744
    · exact Or.inl z
    · obtain ⟨g1, g2⟩ := h2 z
      rcases a3 with c | c
      · exact absurd c z
      · unfold Upp at c ⊢
        rw [g1, g2] at c
        exact Or.inr c
/-- u is the whole part of N / D, and 16 U / L = N / D -/
theorem round_eq_floor {u U L N D : Nat} {b : Int32} (hu : u < 2 ^ 62) (hU : U < 2 ^ 61) (hL0 : 0 < L) (hL : L < 2 ^ 61) (hD : 0 < D) (h : 16 * U * D = N * L) (hN : N / D = u) (hb : ¬ b = 0 ↔ N % D ≠ 0) : hx_round (lN u) b = hm_nearest (lN U) (lN L) := by
  obtain ⟨p, e1, n1⟩ := hx_round_near hu b
  obtain ⟨q, e2, n2⟩ := hm_nearest_near hU hL0 hL
  have hd : u * D + N % D = N := by
    rw [← hN, Nat.mul_comm]
    exact Nat.div_add_mod N D
  have hr := Nat.mod_lt N hD
  have key : ∀ M, ((8 * M < u ∨ (8 * M = u ∧ ¬ b = 0)) ↔ M * L < 2 * U) ∧ ((8 * M = u ∧ ¬ ¬ b = 0) ↔ M * L = 2 * U) := by
    intro M
    obtain ⟨g1, g2⟩ := br_lt (x := 8 * M) hD hd hr
    obtain ⟨g3, g4⟩ := br_cmp (m := 8 * M) (M := M) (U := U) (N := N) (g := 0) hD hL0 (by rw [Nat.pow_zero, Nat.mul_one]; exact h) (by rw [Nat.pow_zero, Nat.mul_one])
    rw [hb]
    have hz : ¬ N % D ≠ 0 ↔ N % D = 0 := Decidable.not_not
    rw [hz]
    exact ⟨g1.trans g3, g2.trans g4⟩
  rw [e1, e2, near_unique (cmp_frac hL0) (near_transfer n1 (fun _ => key _) (fun _ => key _)) n2]
theorem near_le {lt eq : Nat → Prop} {p : Nat} (h : Near lt eq p) : p ≤ 31744 := h.1
theorem hm_nearest_le {U L : Nat} (hU : U < 2 ^ 61) (hL0 : 0 < L) (hL : L < 2 ^ 61) : ∃ p : Nat, p ≤ 31744 ∧ hm_nearest (lN U) (lN L) = nI p := by
  obtain ⟨p, e, n⟩ := hm_nearest_near hU hL0 hL
  exact ⟨p, n.1, e⟩
theorem hn_neg {p : Nat} (hp : p ≤ 31744) : hx_negative (nI p) = hm_withSign (nI p) 1 := by
  unfold hx_negative hm_withSign
  rw [if_neg (show ¬ (1 : Int32) = 0 by decide), show (0 : Int32) = nI 0 from rfl, hn_if (nI_eq (by omega) (by decide)), hn_if (nI_leI (by omega) (by decide))]
  by_cases c : p = 0
  · rw [if_pos c, if_pos (by omega), c]
  · rw [if_neg c, if_neg (by omega)]
theorem hn_ws0 (x : Int32) : hm_withSign x 0 = x := by
  unfold hm_withSign
  rw [if_pos rfl]
theorem hn_lz (n : Nat) : lN n = Int64.ofInt (n : Int) := Int64.ofInt_eq_ofNat.symm
/-- the signed amount of a pattern, in units of 2^-24 -/
def np_z (p : Nat) : Int := if p < 32768 then (amt (p % 32768) : Int) else -(amt (p % 32768) : Int)
theorem amt_bound {p : Nat} (hp : p < 65536) (h31 : p / 1024 % 32 ≠ 31) : amt (p % 32768) < 2 ^ 40 := by
  have h1 := amt_lt (show p % 32768 < 31744 by omega)
  rw [amt_31744] at h1
  exact h1
theorem np_z_bound {p : Nat} (hp : p < 65536) (h31 : p / 1024 % 32 ≠ 31) : -2 ^ 40 < np_z p ∧ np_z p < 2 ^ 40 := by
  have := amt_bound hp h31
  unfold np_z
  split <;> omega
theorem hx_signed_nat {p : Nat} (hp : p < 65536) : hx_signed (nI p) = Int64.ofInt (16 * np_z p) := by
  have hs := np_s_lt p
  have e1 : ((hx_digitsOf (nI p) : Int32).toInt64 : Int64) <<< (((hx_placeOf (nI p)) + 4 : Int32).toInt64 &&& 63) = lN (16 * amt (p % 32768)) := by
    rw [hx_digitsOf_nat (by omega), hx_placeOf_nat (by omega), nI_l (by have := np_d_lt p; omega), show (4 : Int32) = nI 4 from rfl, nI_add, wb_shl _ (by omega)]
    congr 1
    obtain ⟨h1, h2⟩ := np_low p hp
    rw [h1, h2, Nat.pow_add, ← Nat.mul_assoc, np_amt (by omega)]
    omega
  unfold hx_signed
  rw [e1]
  show (if nI p < nI 32768 then lN (16 * amt (p % 32768)) else -lN (16 * amt (p % 32768))) = _
  rw [hn_if (nI_ltI (by omega) (by decide))]
  unfold np_z
  by_cases c : p < 32768
  · rw [if_pos c, if_pos c, hn_lz]
    congr 1
  · rw [if_neg c, if_neg c, hn_lz, ← Int64.ofInt_neg]
    congr 1
    omega
theorem hm_signed_nat {p : Nat} (hp : p < 65536) : hm_signed (nI p) = Int64.ofInt (np_z p) := by
  unfold hm_signed
  rw [hm_amount_nat (by omega)]
  show (if nI p < nI 32768 then lN (amt (p % 32768)) else -lN (amt (p % 32768))) = _
  rw [hn_if (nI_ltI (by omega) (by decide))]
  unfold np_z
  by_cases c : p < 32768
  · rw [if_pos c, if_pos c, hn_lz]
  · rw [if_neg c, if_neg c, hn_lz, ← Int64.ofInt_neg]
theorem hn_tz {z : Int} (h1 : -2 ^ 62 < z) (h2 : z < 2 ^ 62) : (Int64.ofInt z).toInt = z := Int64.toInt_ofInt_of_le (by omega) (by omega)
theorem hn_0le {z : Int} (h1 : -2 ^ 62 < z) (h2 : z < 2 ^ 62) : (0 : Int64) ≤ Int64.ofInt z ↔ 0 ≤ z := by
  rw [Int64.le_iff_toInt_le, hn_tz h1 h2]
  rfl
theorem hn_abs {z : Int} (h1 : -2 ^ 62 < z) (h2 : z < 2 ^ 62) : (if (0 : Int64) ≤ Int64.ofInt z then Int64.ofInt z else -Int64.ofInt z) = lN z.natAbs := by
  rw [hn_if (hn_0le h1 h2)]
  by_cases c : 0 ≤ z
  · rw [if_pos c, hn_lz]
    congr 1
    omega
  · rw [if_neg c, hn_lz, ← Int64.ofInt_neg]
    congr 1
    omega
theorem eq_add (a b : Int32) : hx_add a b = hm_add a b := by
  unfold hx_add hm_add
  rcases np_num a with ⟨a1, a2⟩ | ⟨p, hp, hp31, rfl, a1, a2⟩
  · rw [if_pos a1, if_neg a2]
  · rw [if_neg a1, if_pos a2]
    rcases np_num b with ⟨b1, b2⟩ | ⟨q, hq, hq31, rfl, b1, b2⟩
    · rw [if_pos b1, if_neg b2]
    · rw [if_neg b1, if_pos b2, hx_signed_nat hp, hx_signed_nat hq, hm_signed_nat hp, hm_signed_nat hq, ← Int64.ofInt_add, ← Int64.ofInt_add]
      have zp := np_z_bound hp hp31
      have zq := np_z_bound hq hq31
      generalize hS : np_z p + np_z q = S
      have hS16 : 16 * np_z p + 16 * np_z q = 16 * S := by omega
      rw [hS16]
      have k1 := hn_abs (z := 16 * S) (by omega) (by omega)
      have k2 := hn_abs (z := S) (by omega) (by omega)
      dsimp only
      rw [k1, k2, hn_if (hn_0le (z := 16 * S) (by omega) (by omega)), hn_if (hn_0le (z := S) (by omega) (by omega)), hn_if (show (0 ≤ 16 * S ↔ 0 ≤ S) by omega), show (16 * S).natAbs = 16 * S.natAbs by omega]
      have hr : hx_round (lN (16 * S.natAbs)) 0 = hm_nearest (lN S.natAbs) (lN 1) := round_eq_floor (N := 16 * S.natAbs) (D := 1) (by omega) (by omega) (by decide) (by decide) (by decide) (by omega) (by omega) (by simp [Nat.mod_one])
      rw [hr, show (1 : Int64) = lN 1 from rfl]
      obtain ⟨r, hr1, hr2⟩ := hm_nearest_le (U := S.natAbs) (L := 1) (by omega) (by decide) (by decide)
      rw [hr2]
      by_cases c : 0 ≤ S
      · rw [if_pos c, if_pos c, hn_ws0]
      · rw [if_neg c, if_neg c, hn_neg hr1]
theorem eq_compare (a b : Int32) : hx_compare a b = hm_compare a b := by
  unfold hx_compare hm_compare
  rcases np_num a with ⟨a1, a2⟩ | ⟨p, hp, hp31, rfl, a1, a2⟩
  · rw [if_pos a1, if_neg a2]
  · rw [if_neg a1, if_pos a2]
    rcases np_num b with ⟨b1, b2⟩ | ⟨q, hq, hq31, rfl, b1, b2⟩
    · rw [if_pos b1, if_neg b2]
    · rw [if_neg b1, if_pos b2, hx_signed_nat hp, hx_signed_nat hq, hm_signed_nat hp, hm_signed_nat hq, ← Int64.ofInt_sub]
      have zp := np_z_bound hp hp31
      have zq := np_z_bound hq hq31
      generalize np_z p = x at *
      generalize np_z q = y at *
      have h1 : (0 : Int64) ≤ Int64.ofInt (16 * x - 16 * y) ↔ y ≤ x := (hn_0le (by omega) (by omega)).trans (by omega)
      have h2 : Int64.ofInt (16 * x - 16 * y) = 0 ↔ x = y := by
        rw [← Int64.toInt_inj, hn_tz (by omega) (by omega), show (0 : Int64).toInt = 0 from rfl]
        omega
      have h3 : Int64.ofInt y ≤ Int64.ofInt x ↔ y ≤ x := by rw [Int64.le_iff_toInt_le, hn_tz (by omega) (by omega), hn_tz (by omega) (by omega)]
      have h4 : Int64.ofInt x = Int64.ofInt y ↔ x = y := by rw [← Int64.toInt_inj, hn_tz (by omega) (by omega), hn_tz (by omega) (by omega)]
      dsimp only
      rw [hn_if h1, hn_if h2, hn_if h3, hn_if h4]
theorem eq_floor (a : Int32) : hx_floor a = hm_floor a := by
  unfold hx_floor hm_floor
  rcases np_num a with ⟨a1, a2⟩ | ⟨p, hp, hp31, rfl, a1, a2⟩
  · rw [if_pos a1, if_neg a2]
  · rw [if_neg a1, if_pos a2, hx_signed_nat hp, hm_signed_nat hp]
    have zp := np_z_bound hp hp31
    congr 1
    rw [← Int64.toInt_inj]
    have sh : ∀ (z : Int) (k : Nat), k < 64 → -2 ^ 62 < z → z < 2 ^ 62 → (Int64.ofInt z >>> ((nI k).toInt64 &&& 63)).toInt = z / 2 ^ k := by
      intro z k hk g1 g2
      rw [wb_c k hk]
      have e : (Int64.ofInt z >>> lN k).toInt = (Int64.ofInt z).toInt >>> k := by
        have h3 : (lN k).toBitVec.smod 64 = BitVec.ofNat 64 k := by rw [wb_tb, wb_sm k hk]
        show (Int64.ofInt z >>> lN k).toBitVec.toInt = _
        rw [Int64.toBitVec_shiftRight, h3, BitVec.sshiftRight_eq', BitVec.toInt_sshiftRight, BitVec.toNat_ofNat, Nat.mod_eq_of_lt (by omega)]
        rfl
      rw [e, hn_tz g1 g2, Int.shiftRight_eq_div_pow]
      rfl
    have e1 := sh (16 * np_z p) 28 (by decide) (by omega) (by omega)
    have e2 := sh (np_z p) 24 (by decide) (by omega) (by omega)
    show (Int64.ofInt (16 * np_z p) >>> ((nI 28).toInt64 &&& 63)).toInt = (Int64.ofInt (np_z p) >>> ((nI 24).toInt64 &&& 63)).toInt
    rw [e1, e2]
    omega
end
section
/-! multiply and parse -/
def hx_core (a2 : Int64) (a3 : Int32) (a4 : Int32) : Int32 :=
  if (a3 : Int32) < (0 : Int32) then (let v3 : Int64 := a2 &&& (((1 : Int64) <<< ((-a3 : Int32).toInt64 &&& 63)) - 1);
        let v4 : Int32 := (if (a4 : Int32) = (0 : Int32) then (if (v3 : Int64) = (0 : Int64) then (0)
            else (1))
          else (1));
        let v7 : Int32 := hx_round ((a2 : Int64) >>> ((-a3 : Int32).toInt64 &&& 63)) v4;
        v7)
      else (let v8 : Int32 := (if (a2 : Int64) = (0 : Int64) then (0)
          else (if ((a2 : Int64) >>> ((60 - a3 : Int32).toInt64 &&& 63) : Int64) = (0 : Int64) then (0)
            else (1)));
        let v11 : Int32 := (if (v8 : Int32) = (0 : Int32) then (hx_round ((a2 : Int64) <<< ((a3 : Int32).toInt64 &&& 63)) a4)
          else (31744));
        v11)
/-- the signs of two patterns differ -/
def np_df (a b : Int32) : Int32 := if (if (a : Int32) < (32768 : Int32) then ((0 : Int32)) else (1)) = (if (b : Int32) < (32768 : Int32) then ((0 : Int32)) else (1)) then 0 else 1
theorem hx_withSign_core (a0 a1 : Int32) (a2 : Int64) (a3 a4 : Int32) {r : Nat} (hr : r ≤ 31744) (h : hx_core a2 a3 a4 = nI r) : hx_withSign a0 a1 a2 a3 a4 = hm_withSign (nI r) (np_df a0 a1) := by
  have e : hx_withSign a0 a1 a2 a3 a4 = if (if (a0 : Int32) < (32768 : Int32) then ((0 : Int32)) else (1)) = (if (a1 : Int32) < (32768 : Int32) then ((0 : Int32)) else (1)) then hx_core a2 a3 a4 else hx_negative (hx_core a2 a3 a4) := rfl
  rw [e, h]
  unfold np_df
  by_cases c : (if (a0 : Int32) < (32768 : Int32) then ((0 : Int32)) else (1)) = (if (a1 : Int32) < (32768 : Int32) then ((0 : Int32)) else (1))
  · rw [if_pos c, if_pos c, hn_ws0]
  · rw [if_neg c, if_neg c, hn_neg hr]
theorem hn_subneg {a b : Nat} (h : a ≤ b) : nI a - nI b = -nI (b - a) := by
  have e : ∀ n : Nat, nI n = Int32.ofInt (n : Int) := fun n => Int32.ofInt_eq_ofNat.symm
  rw [e, e, e, ← Int32.ofInt_sub, ← Int32.ofInt_neg]
  congr 1
  omega
theorem hn_negneg (x : Int32) : - -x = x := Int32.neg_neg
theorem hn_neg_lt {k : Nat} (h0 : 0 < k) (hk : k < 2 ^ 31) : -nI k < 0 := by
  rw [Int32.lt_iff_toInt_lt, sb_negT hk]
  show -(k : Int) < 0
  omega
/-- an amount times 2^S -/
theorem hx_core_pos {n S : Nat} (hn : n < 2 ^ 62) (hS : S ≤ 59) (b : Int32) : hx_core (lN n) (nI S) b = if n / 2 ^ (60 - S) = 0 then hx_round (lN (n * 2 ^ S)) b else nI 31744 := by
  have hlt : n / 2 ^ (60 - S) < 2 ^ 63 := Nat.lt_of_le_of_lt (Nat.div_le_self _ _) (by omega)
  have e1 : (lN n : Int64) >>> ((60 - nI S : Int32).toInt64 &&& 63) = lN (n / 2 ^ (60 - S)) := by
    rw [show (60 : Int32) = nI 60 from rfl, pk_sub (by omega)]
    exact hn_shr (by omega) hn
  have e2 : (lN n : Int64) <<< ((nI S : Int32).toInt64 &&& 63) = lN (n * 2 ^ S) := wb_shl _ (by omega)
  unfold hx_core
  rw [if_neg (nI_pos (by omega)), e1, e2]
  dsimp only
  rw [show (0 : Int64) = lN 0 from rfl, hn_if (pk_lEQ (by omega) (by decide)), hn_if (pk_lEQ hlt (by decide))]
  by_cases c : n / 2 ^ (60 - S) = 0
  · rw [if_pos c, if_pos c]
    have : (if n = 0 then (0 : Int32) else 0) = 0 := by split <;> rfl
    rw [this, if_pos rfl]
  · have c0 : ¬ n = 0 := by
      intro g
      apply c
      rw [g, Nat.zero_div]
    rw [if_neg c, if_neg c, if_neg c0, if_neg (by decide)]
    rfl
/-- an amount divided by 2^k -/
theorem hx_core_neg {n k : Nat} (hn : n < 2 ^ 62) (h0 : 0 < k) (hk : k ≤ 59) (b : Int32) : hx_core (lN n) (-nI k) b = hx_round (lN (n / 2 ^ k)) (if b = 0 then (if n % 2 ^ k = 0 then 0 else 1) else 1) := by
  have hp : 2 ^ k < 2 ^ 63 := Nat.pow_lt_pow_right (by decide) (by omega)
  have hp1 := Nat.two_pow_pos k
  have e1 : (1 : Int64) <<< ((- -nI k : Int32).toInt64 &&& 63) - 1 = lN (2 ^ k - 1) := by
    rw [hn_negneg, show (1 : Int64) = lN 1 from rfl, wb_shl _ (by omega), Nat.one_mul, lN_sub hp1]
  have e2 : lN n &&& lN (2 ^ k - 1) = lN (n % 2 ^ k) := wb_mask (by omega) (by omega)
  have e3 : (lN n : Int64) >>> ((- -nI k : Int32).toInt64 &&& 63) = lN (n / 2 ^ k) := by
    rw [hn_negneg]
    exact hn_shr (by omega) hn
  have hm : n % 2 ^ k < 2 ^ 63 := Nat.lt_of_le_of_lt (Nat.mod_le _ _) (by omega)
  unfold hx_core
  rw [if_pos (hn_neg_lt h0 (by omega)), e1, e2, e3]
  dsimp only
  rw [show (0 : Int64) = lN 0 from rfl, hn_if (pk_lEQ hm (by decide))]
theorem hn_b0 : ¬ ¬ (0 : Int32) = 0 := fun h => h rfl
theorem hn_flag (c : Prop) [Decidable c] : ¬ (if c then (0 : Int32) else 1) = 0 ↔ ¬ c := by
  by_cases h : c
  · rw [if_pos h]
    exact ⟨fun g => absurd rfl g, fun g => absurd h g⟩
  · rw [if_neg h]
    exact ⟨fun _ => h, fun _ => by decide⟩
theorem eq_multiply (a b : Int32) : hx_multiply a b = hm_multiply a b := by
  unfold hx_multiply hm_multiply
  rcases np_num a with ⟨a1, a2⟩ | ⟨p, hp, hp31, rfl, a1, a2⟩
  · rw [if_pos a1, if_neg a2]
  · rw [if_neg a1, if_pos a2]
    rcases np_num b with ⟨b1, b2⟩ | ⟨q, hq, hq31, rfl, b1, b2⟩
    · rw [if_pos b1, if_neg b2]
    · rw [if_neg b1, if_pos b2, hx_digitsOf_nat (by omega), hx_digitsOf_nat (by omega), hx_placeOf_nat (by omega), hx_placeOf_nat (by omega), hm_digitsOf_nat (by omega), hm_digitsOf_nat (by omega), hm_shiftOf_nat (by omega), hm_shiftOf_nat (by omega)]
      have dp := np_d_lt p
      have dq := np_d_lt q
      have sp := np_s_lt' hp31
      have sq := np_s_lt' hq31
      rw [nI_l (by omega), nI_l (by omega), lN_mul, nI_add]
      have hP : np_d p * np_d q < 2 ^ 22 := by
        have := Nat.mul_le_mul (show np_d p ≤ 2047 by omega) (show np_d q ≤ 2047 by omega)
        omega
      generalize np_d p * np_d q = n at hP
      generalize hs : np_s p + np_s q = S
      have hS : S ≤ 58 := by omega
      -- the reference's answer as a nearest pattern, and the component's as the same
      have key : ∃ r : Nat, r ≤ 31744 ∧ hx_core (lN n) (nI S - 20) 0 = nI r ∧ (if (nI S - 24 : Int32) < (0 : Int32) then (hm_nearest (lN n) ((1 : Int64) <<< ((-(nI S - 24) : Int32).toInt64 &&& 63))) else (hm_nearest ((lN n : Int64) <<< ((nI S - 24 : Int32).toInt64 &&& 63)) 1)) = nI r := by
        by_cases c1 : 24 ≤ S
        · obtain ⟨k, rfl⟩ : ∃ k, S = k + 24 := ⟨S - 24, by omega⟩
          have hpk : 2 ^ k ≤ 2 ^ 34 := Nat.pow_le_pow_right (by decide) (by omega)
          have hb : n * 2 ^ k < 2 ^ 57 := by
            have := Nat.mul_le_mul (show n ≤ 2 ^ 22 by omega) hpk
            omega
          have e20 : nI (k + 24) - 20 = nI (k + 4) := by rw [show (20 : Int32) = nI 20 from rfl, pk_sub (by omega)]; congr 1
          have e24 : nI (k + 24) - 24 = nI k := by rw [show (24 : Int32) = nI 24 from rfl, pk_sub (by omega)]; congr 1
          have hz : n / 2 ^ (60 - (k + 4)) = 0 := Nat.div_eq_of_lt (Nat.lt_of_lt_of_le hP (Nat.pow_le_pow_right (by decide) (by omega)))
          have e16 : n * 2 ^ (k + 4) = 16 * (n * 2 ^ k) := by rw [Nat.pow_add, ← Nat.mul_assoc]; omega
          obtain ⟨r, hr, er⟩ := hm_nearest_le (U := n * 2 ^ k) (L := 1) (by omega) (by decide) (by decide)
          refine ⟨r, hr, ?_, ?_⟩
          · rw [e20, hx_core_pos (by omega) (by omega), if_pos hz, ← er]
            exact round_eq_floor (N := n * 2 ^ (k + 4)) (D := 1) (by omega) (by omega) (by decide) (by decide) (by decide) (by omega) (by omega) (by simp [Nat.mod_one])
          · rw [e24, if_neg (nI_pos (by omega)), wb_shl _ (by omega)]
            exact er
        · obtain ⟨k, hk0, hk⟩ : ∃ k, 0 < k ∧ S + k = 24 := ⟨24 - S, by omega, by omega⟩
          have hpk : 2 ^ k ≤ 2 ^ 24 := Nat.pow_le_pow_right (by decide) (by omega)
          have hpk0 := Nat.two_pow_pos k
          have e24 : nI S - 24 = -nI k := by rw [show (24 : Int32) = nI 24 from rfl, hn_subneg (by omega), show 24 - S = k by omega]
          obtain ⟨r, hr, er⟩ := hm_nearest_le (U := n) (L := 2 ^ k) (by omega) hpk0 (by omega)
          have hm : (if (nI S - 24 : Int32) < (0 : Int32) then (hm_nearest (lN n) ((1 : Int64) <<< ((-(nI S - 24) : Int32).toInt64 &&& 63))) else (hm_nearest ((lN n : Int64) <<< ((nI S - 24 : Int32).toInt64 &&& 63)) 1)) = nI r := by
            rw [e24, if_pos (hn_neg_lt hk0 (by omega)), hn_negneg, show (1 : Int64) = lN 1 from rfl, wb_shl _ (by omega), Nat.one_mul]
            exact er
          refine ⟨r, hr, ?_, hm⟩
          by_cases c2 : 20 ≤ S
          · obtain ⟨j, rfl⟩ : ∃ j, S = j + 20 := ⟨S - 20, by omega⟩
            have e20 : nI (j + 20) - 20 = nI j := by rw [show (20 : Int32) = nI 20 from rfl, pk_sub (by omega)]; congr 1
            have hz : n / 2 ^ (60 - j) = 0 := Nat.div_eq_of_lt (Nat.lt_of_lt_of_le hP (Nat.pow_le_pow_right (by decide) (by omega)))
            have hpj : 2 ^ j ≤ 2 ^ 4 := Nat.pow_le_pow_right (by decide) (by omega)
            have hb : n * 2 ^ j < 2 ^ 57 := by
              have := Nat.mul_le_mul (show n ≤ 2 ^ 22 by omega) hpj
              omega
            have hjk : 2 ^ j * 2 ^ k = 16 := by rw [← Nat.pow_add, show j + k = 4 by omega]
            rw [e20, hx_core_pos (by omega) (by omega), if_pos hz, ← er]
            refine round_eq_floor (N := n * 2 ^ j) (D := 1) (by omega) (by omega) hpk0 (by omega) (by decide) ?_ (by omega) (by simp [Nat.mod_one])
            rw [Nat.mul_assoc n, hjk]
            omega
          · obtain ⟨j, hj0, hj⟩ : ∃ j, 0 < j ∧ S + j = 20 := ⟨20 - S, by omega, by omega⟩
            have e20 : nI S - 20 = -nI j := by rw [show (20 : Int32) = nI 20 from rfl, hn_subneg (by omega), show 20 - S = j by omega]
            have hjk : 2 ^ k = 16 * 2 ^ j := by rw [show k = 4 + j by omega, Nat.pow_add]
            have hle : n / 2 ^ j ≤ n := Nat.div_le_self _ _
            rw [e20, hx_core_neg (by omega) hj0 (by omega), if_pos rfl, ← er]
            refine round_eq_floor (N := n) (D := 2 ^ j) (by omega) (by omega) hpk0 (by omega) (Nat.two_pow_pos j) ?_ rfl (hn_flag _)
            rw [hjk, ← Nat.mul_assoc, Nat.mul_comm 16 n]
      obtain ⟨r, hr, k1, k2⟩ := key
      dsimp only
      rw [hx_withSign_core _ _ _ _ _ hr k1, k2]
      rfl
end
section
/-! parse and divide -/
theorem amt_31743 : amt 31743 = 2047 * 2 ^ 29 := by decide +kernel
theorem mid_31744 : mid 31744 = 4095 * 2 ^ 29 := by
  show amt 31743 + amt 31744 = _
  rw [amt_31743, amt_31744]
theorem near_inf {lt eq : Nat → Prop} (hc : Cmp lt eq) {p : Nat} (n : Near lt eq p) (h : lt (mid 31744) ∨ eq (mid 31744)) : p = 31744 := by
  refine near_unique hc n ⟨Nat.le_refl _, Or.inr ?_, Or.inl rfl⟩
  rcases h with h | h
  · exact Or.inl h
  · exact Or.inr ⟨h, by decide⟩
theorem hm_nearest_inf {U L : Nat} (hU : U < 2 ^ 61) (hL0 : 0 < L) (hL : L < 2 ^ 61) (h : 4095 * 2 ^ 29 * L ≤ 2 * U) : hm_nearest (lN U) (lN L) = nI 31744 := by
  obtain ⟨p, e, n⟩ := hm_nearest_near hU hL0 hL
  rw [e, near_inf (cmp_frac hL0) n]
  rw [mid_31744]
  show 4095 * 2 ^ 29 * L < 2 * U ∨ 4095 * 2 ^ 29 * L = 2 * U
  omega
theorem hx_round_inf {u : Nat} (hu : u < 2 ^ 62) (h : 8 * (4095 * 2 ^ 29) ≤ u) (b : Int32) : hx_round (lN u) b = nI 31744 := by
  obtain ⟨p, e, n⟩ := hx_round_near hu b
  rw [e, near_inf cmp_rest n]
  rw [mid_31744]
  show (8 * (4095 * 2 ^ 29) < u ∨ (8 * (4095 * 2 ^ 29) = u ∧ ¬ b = 0)) ∨ (8 * (4095 * 2 ^ 29) = u ∧ ¬ ¬ b = 0)
  by_cases c : 8 * (4095 * 2 ^ 29) < u
  · exact Or.inl (Or.inl c)
  · by_cases d : b = 0
    · exact Or.inr ⟨by omega, fun g => g d⟩
    · exact Or.inl (Or.inr ⟨by omega, d⟩)
theorem hm_parsed_run {d j : Nat} (hd : d < 2 ^ 40) (hj : j < 2 ^ 31) : ∃ i : Nat, i ≤ j ∧ hf_run (hm_parsed_s24 (nI j)) (nI j).toNatClampNeg (lN d, 0) = (lN (d * 10 ^ i), nI i) ∧ d * 10 ^ i < 2 ^ 40 ∧ (i = j ∨ 100000 ≤ d * 10 ^ i) := by
  have h := hf_inv (hm_parsed_s24 (nI j)) (fun q => ∃ i : Nat, i ≤ j ∧ q = (lN (d * 10 ^ i), nI i) ∧ d * 10 ^ i < 2 ^ 40) (by
    rintro q t ⟨i, hi, rfl, hb⟩ h
    simp only [hm_parsed_s24] at h
    by_cases c1 : nI j ≤ nI i
    · simp only [c1, if_true] at h
      cases h
    · by_cases c2 : (100000 : Int64) ≤ lN (d * 10 ^ i)
      · simp only [c1, c2, if_true, if_false] at h
        cases h
      · simp only [c1, c2, if_false] at h
        rw [nI_leI (by omega) (by omega)] at c1
        rw [show (100000 : Int64) = lN 100000 from rfl, pk_lLE (by decide) (by omega)] at c2
        have e : d * 10 ^ (i + 1) = 10 * (d * 10 ^ i) := by rw [Nat.pow_succ, ← Nat.mul_assoc, Nat.mul_comm]
        refine ⟨i + 1, by omega, ?_, by omega⟩
        rw [← Option.some.inj h, nI_1, show (10 : Int64) = lN 10 from rfl, lN_mul, e]) (nI j).toNatClampNeg (lN d, 0) ⟨0, by omega, by rw [Nat.pow_zero, Nat.mul_one]; rfl, by rw [Nat.pow_zero, Nat.mul_one]; exact hd⟩
  have hE := hm_parsed_end (nI j) (lN d)
  obtain ⟨i, hi, e, hb⟩ := h
  refine ⟨i, hi, e, hb, ?_⟩
  rw [e] at hE
  simp only [hm_parsed_s24] at hE
  by_cases c1 : nI j ≤ nI i
  · rw [nI_leI (by omega) (by omega)] at c1
    left
    omega
  · by_cases c2 : (100000 : Int64) ≤ lN (d * 10 ^ i)
    · rw [show (100000 : Int64) = lN 100000 from rfl, pk_lLE (by decide) (by omega)] at c2
      exact Or.inr c2
    · simp only [c1, c2, if_false] at hE
      cases hE
/-- parsed with a power of ten -/
theorem hm_parsed_pos {d j : Nat} (hd : d < 2 ^ 40) (hj : j < 2 ^ 31) : hm_parsed (lN d) (nI j) = if d * 10 ^ j < 100000 then hm_nearest (lN (d * 10 ^ j * 2 ^ 24)) (lN 1) else nI 31744 := by
  obtain ⟨i, hi, hrun, hb, hi2⟩ := hm_parsed_run hd hj
  have hmono : d * 10 ^ i ≤ d * 10 ^ j := Nat.mul_le_mul_left d (Nat.pow_le_pow_right (by decide) hi)
  unfold hm_parsed
  rw [if_pos (nI_pos' hj), hrun]
  show hm_nearest (if (100000 : Int64) ≤ lN (d * 10 ^ i) then (1099511627776 : Int64) else (lN (d * 10 ^ i) : Int64) <<< ((24 : Int32).toInt64 &&& 63)) 1 = _
  rw [show (100000 : Int64) = lN 100000 from rfl, hn_if (pk_lLE (by decide) (by omega))]
  by_cases c : 100000 ≤ d * 10 ^ i
  · rw [if_pos c, if_neg (by omega), show (1099511627776 : Int64) = lN (2 ^ 40) from rfl, show (1 : Int64) = lN 1 from rfl, hm_nearest_inf (by decide) (by decide) (by decide) (by decide)]
  · have e : i = j := by omega
    subst e
    rw [if_neg c, if_pos (by omega)]
    have e2 : (lN (d * 10 ^ i) : Int64) <<< ((24 : Int32).toInt64 &&& 63) = lN (d * 10 ^ i * 2 ^ 24) := wb_shl _ (k := 24) (by decide)
    rw [e2, show (1 : Int64) = lN 1 from rfl]
/-- parsed with a divisor -/
theorem hm_parsed_neg {d j : Nat} (h0 : 0 < j) (hj : j < 2 ^ 31) : hm_parsed (lN d) (-nI j) = hm_nearest (lN (d * 2 ^ 24)) (lN (10 ^ j)) := by
  have c : ¬ (0 : Int32) ≤ -nI j := by
    rw [Int32.le_iff_toInt_le, sb_negT hj]
    show ¬ (0 : Int) ≤ -(j : Int)
    omega
  unfold hm_parsed
  rw [if_neg c, hn_negneg, hm_power_nat hj]
  have e2 : (lN d : Int64) <<< ((24 : Int32).toInt64 &&& 63) = lN (d * 2 ^ 24) := wb_shl _ (k := 24) (by decide)
  show hm_nearest ((lN d : Int64) <<< ((24 : Int32).toInt64 &&& 63)) _ = _
  rw [e2]
/-- an int from -12 to 12 -/
theorem hn_small {x : Int32} {n : Nat} (h1 : ¬ x < -nI n) (h2 : ¬ 0 ≤ x) (hn : n < 2 ^ 31) : ∃ j : Nat, 0 < j ∧ j ≤ n ∧ x = -nI j := by
  rw [Int32.lt_iff_toInt_lt, sb_negT hn] at h1
  rw [Int32.le_iff_toInt_le, show (0 : Int32).toInt = 0 from rfl] at h2
  refine ⟨(-x.toInt).toNat, by omega, by omega, ?_⟩
  rw [← Int32.toInt_inj, sb_negT (by omega)]
  omega
theorem eq_parse (a b : Int32) : hx_parse a b = hm_parse a b := by
  unfold hx_parse hm_parse
  by_cases c1 : a < 0
  · rw [if_pos c1, if_pos c1]
  · rw [if_neg c1, if_neg c1]
    by_cases c2 : (999999 : Int32) < a
    · rw [if_pos c2, if_pos c2]
    · rw [if_neg c2, if_neg c2]
      by_cases c3 : b < (-12)
      · rw [if_pos c3, if_pos c3]
      · rw [if_neg c3, if_neg c3]
        by_cases c4 : b ≤ 12
        · rw [if_pos c4, if_pos c4]
          obtain ⟨d, hd, rfl⟩ := nI_of2 (M := 999999) (n := 999999) rfl c1 (by rw [Int32.le_iff_toInt_le]; rw [Int32.lt_iff_toInt_lt] at c2; omega)
          rw [nI_l (by omega)]
          by_cases c5 : (0 : Int32) ≤ b
          · rw [if_pos c5]
            obtain ⟨j, hj, rfl⟩ := nI_of2 (M := 12) (n := 12) rfl (x := b) (by rw [Int32.lt_iff_toInt_lt]; rw [Int32.le_iff_toInt_le] at c5; omega) c4
            have hp : 10 ^ j ≤ 10 ^ 12 := Nat.pow_le_pow_right (by decide) hj
            have hW : d * 10 ^ j < 2 ^ 62 := by
              have := Nat.mul_le_mul hd hp
              omega
            rw [hx_power_nat (by omega), Nat.min_eq_left hj, lN_mul, hm_parsed_pos (by omega) (by omega)]
            dsimp only
            rw [show (65520 : Int64) = lN 65520 from rfl, hn_if (pk_lLT (by omega) (by decide))]
            generalize d * 10 ^ j = W at hW
            by_cases c6 : W < 65520
            · rw [if_pos c6, if_pos (by omega)]
              have e2 : (lN W : Int64) <<< ((28 : Int32).toInt64 &&& 63) = lN (W * 2 ^ 28) := wb_shl _ (k := 28) (by decide)
              rw [e2]
              exact round_eq_floor (N := W * 2 ^ 28) (D := 1) (by omega) (by omega) (by decide) (by decide) (by decide) (by omega) (by omega) (by simp [Nat.mod_one])
            · rw [if_neg c6]
              by_cases c7 : W < 100000
              · rw [if_pos c7, hm_nearest_inf (by omega) (by decide) (by decide) (by omega)]
                rfl
              · rw [if_neg c7]
                rfl
          · rw [if_neg c5]
            obtain ⟨j, hj0, hj, rfl⟩ := hn_small (n := 12) c3 c5 (by decide)
            have hp : 10 ^ j ≤ 10 ^ 12 := Nat.pow_le_pow_right (by decide) hj
            have hp0 : 0 < 10 ^ j := Nat.pow_pos (by decide)
            rw [hn_negneg, hx_power_nat (by omega), Nat.min_eq_left hj, hm_parsed_neg hj0 (by omega)]
            have e2 : (lN d : Int64) <<< ((28 : Int32).toInt64 &&& 63) = lN (d * 2 ^ 28) := wb_shl _ (k := 28) (by decide)
            rw [e2]
            dsimp only
            have hm : d * 2 ^ 28 % 10 ^ j < 2 ^ 63 := Nat.lt_of_le_of_lt (Nat.mod_le _ _) (by omega)
            rw [pk_lRem (by omega) hp0 (by omega), pk_lDiv (by omega) hp0 (by omega), show (0 : Int64) = lN 0 from rfl, hn_if (pk_lEQ hm (by decide))]
            have hle := Nat.div_le_self (d * 2 ^ 28) (10 ^ j)
            refine round_eq_floor (N := d * 2 ^ 28) (D := 10 ^ j) (by omega) (by omega) hp0 (by omega) hp0 ?_ rfl (hn_flag _)
            rw [show 16 * (d * 2 ^ 24) = d * 2 ^ 28 by omega]
        · rw [if_neg c4, if_neg c4]
end
section
/-! divide: a quotient with a rest, times a power of two -/
theorem amt_ub (q : Nat) : amt q < 2 ^ (10 + q / 1024) := by
  unfold amt
  by_cases c : q / 1024 = 0
  · rw [if_pos c, c]
    omega
  · rw [if_neg c]
    obtain ⟨e, he⟩ : ∃ e, q / 1024 = e + 1 := ⟨q / 1024 - 1, by omega⟩
    rw [he, Nat.add_sub_cancel, show 10 + (e + 1) = 11 + e by omega, Nat.pow_add]
    exact Nat.mul_lt_mul_of_pos_right (by omega) (Nat.two_pow_pos e)
theorem mid_dvd {p e : Nat} (hp : 1 ≤ p) (he : e + 1 ≤ (p - 1) / 1024) : ∃ m, 8 * mid p = m * 2 ^ (e + 3) := by
  obtain ⟨d, hd⟩ : ∃ d, (p - 1) / 1024 - 1 = e + d := ⟨(p - 1) / 1024 - 1 - e, by omega⟩
  have h1 := amt_succ (p - 1)
  rw [show p - 1 + 1 = p by omega, hd] at h1
  have h2 : amt (p - 1) = (1024 + (p - 1) % 1024) * 2 ^ (e + d) := by
    unfold amt
    rw [if_neg (by omega), hd]
  refine ⟨(2 * (1024 + (p - 1) % 1024) + 1) * 2 ^ d, ?_⟩
  unfold mid
  rw [h1, h2]
  generalize 1024 + (p - 1) % 1024 = c
  rw [Nat.pow_add 2 e d, Nat.pow_add 2 e 3, Nat.mul_assoc, show 2 ^ d * (2 ^ e * 2 ^ 3) = 8 * (2 ^ e * 2 ^ d) by
    rw [← Nat.mul_assoc, Nat.mul_comm (2 ^ d), Nat.mul_comm]]
  generalize 2 ^ e * 2 ^ d = t
  rw [Nat.add_mul, Nat.mul_assoc 2 c, Nat.one_mul, ← Nat.mul_assoc c 8 t, Nat.mul_comm c 8, Nat.mul_assoc 8 c t]
  omega
theorem near_big {u p g : Nat} {b : Prop} (n : Near (fun M => 8 * M < u ∨ (8 * M = u ∧ b)) (fun M => 8 * M = u ∧ ¬ b) p) (hu : 2 ^ (15 + g) ≤ u) (hp : p ≠ 31744) : g + 2 ≤ (p + 1) / 1024 := by
  obtain ⟨-, -, n3⟩ := n
  have h1 : u ≤ 8 * mid (p + 1) := by
    rcases n3 with c | c
    · exact absurd c hp
    · rcases c with c | c
      · have c1 := c.1
        have c1 : ¬ (8 * mid (p + 1) < u ∨ (8 * mid (p + 1) = u ∧ b)) := c1
        rcases Nat.lt_or_ge (8 * mid (p + 1)) u with z | z
        · exact absurd (Or.inl z) c1
        · exact z
      · have c1 := c.1
        have c1 : 8 * mid (p + 1) = u ∧ ¬ b := c1
        omega
  have h2 : mid (p + 1) < 2 * amt (p + 1) := by
    unfold mid
    have := amt_lt_succ p
    rw [Nat.add_sub_cancel]
    omega
  have h3 := amt_ub (p + 1)
  have h4 : 2 ^ (15 + g) < 2 ^ (14 + (p + 1) / 1024) := by
    rw [show 14 + (p + 1) / 1024 = 4 + (10 + (p + 1) / 1024) by omega, Nat.pow_add 2 4]
    omega
  have h5 := (Nat.pow_lt_pow_iff_right (by decide)).mp h4
  omega
theorem near_dvd {u p g : Nat} {b : Prop} (n : Near (fun M => 8 * M < u ∨ (8 * M = u ∧ b)) (fun M => 8 * M = u ∧ ¬ b) p) (hu : 2 ^ (15 + g) ≤ u) (hg : g ≤ 31) : (p ≠ 0 → ∃ m, 8 * mid p = m * 2 ^ (g + 1)) ∧ (p ≠ 31744 → ∃ m, 8 * mid (p + 1) = m * 2 ^ (g + 1)) := by
  have down : ∀ {x e : Nat}, g + 1 ≤ e + 3 → (∃ m, x = m * 2 ^ (e + 3)) → ∃ m, x = m * 2 ^ (g + 1) := by
    rintro x e h ⟨m, rfl⟩
    refine ⟨m * 2 ^ (e + 3 - (g + 1)), ?_⟩
    rw [Nat.mul_assoc, ← Nat.pow_add]
    congr 2
    omega
  by_cases c : p = 31744
  · refine ⟨fun _ => ?_, fun h => absurd c h⟩
    exact down (e := 29) (by omega) (mid_dvd (by omega) (by omega))
  · have h := near_big n hu c
    refine ⟨fun h0 => ?_, fun _ => ?_⟩
    · exact down (e := g) (by omega) (mid_dvd (by omega) (by omega))
    · exact down (e := g) (by omega) (mid_dvd (by omega) (by omega))
/-- u is the whole part of N / D times 2^g, and 16 U / L = N / D * 2^g -/
theorem round_eq_sticky {u U L N D g : Nat} {b : Int32} (hu : u < 2 ^ 62) (hU : U < 2 ^ 61) (hL0 : 0 < L) (hL : L < 2 ^ 61) (hD : 0 < D) (h : 16 * U * D = N * 2 ^ g * L) (hN : N / D * 2 ^ g = u) (hb : ¬ b = 0 ↔ N % D ≠ 0) (hbig : 2 ^ 15 ≤ N / D) (hg : g ≤ 31) : hx_round (lN u) b = hm_nearest (lN U) (lN L) := by
  obtain ⟨p, e1, n1⟩ := hx_round_near hu b
  obtain ⟨q, e2, n2⟩ := hm_nearest_near hU hL0 hL
  have hd : N / D * D + N % D = N := by
    rw [Nat.mul_comm]
    exact Nat.div_add_mod N D
  have hr := Nat.mod_lt N hD
  have hg0 := Nat.two_pow_pos g
  have key : ∀ M, (∃ m, 8 * M = m * 2 ^ (g + 1)) → ((8 * M < u ∨ (8 * M = u ∧ ¬ b = 0)) ↔ M * L < 2 * U) ∧ ((8 * M = u ∧ ¬ ¬ b = 0) ↔ M * L = 2 * U) := by
    rintro M ⟨m', hm'⟩
    obtain ⟨m, hm⟩ : ∃ m, 8 * M = m * 2 ^ g := ⟨m' * 2, by rw [hm', Nat.pow_succ, Nat.mul_comm (2 ^ g) 2, Nat.mul_assoc]⟩
    obtain ⟨g1, g2⟩ := br_lt (x := m) hD hd hr
    obtain ⟨g3, g4⟩ := br_cmp (m := m) (M := M) (U := U) (N := N) (g := g) hD hL0 h hm
    have hz : ¬ N % D ≠ 0 ↔ N % D = 0 := Decidable.not_not
    rw [hb, hz, hm, ← hN, Nat.mul_lt_mul_right hg0]
    have he : m * 2 ^ g = N / D * 2 ^ g ↔ m = N / D := ⟨fun z => Nat.eq_of_mul_eq_mul_right hg0 z, fun z => by rw [z]⟩
    rw [he]
    exact ⟨g1.trans g3, g2.trans g4⟩
  have hu2 : 2 ^ (15 + g) ≤ u := by
    rw [← hN, Nat.pow_add]
    exact Nat.mul_le_mul_right _ hbig
  obtain ⟨d1, d2⟩ := near_dvd n1 hu2 hg
  rw [e1, e2, near_unique (cmp_frac hL0) (near_transfer n1 (fun z => key _ (d1 z)) (fun z => key _ (d2 z))) n2]
theorem hx_round_0 : hx_round (lN 0) 0 = nI 0 := by
  obtain ⟨p, e, n⟩ := hx_round_near (u := 0) (by decide) 0
  rw [e]
  obtain ⟨-, n2, -⟩ := n
  rcases n2 with c | c | c
  · rw [c]
  · have c : 8 * mid p < 0 ∨ (8 * mid p = 0 ∧ ¬ (0 : Int32) = 0) := c
    rcases c with c | c
    · omega
    · exact absurd rfl c.2
  · have c1 : 8 * mid p = 0 ∧ ¬ ¬ (0 : Int32) = 0 := c.1
    have h1 : amt p = 0 := by
      have := c1.1
      unfold mid at this
      omega
    by_cases z : p = 0
    · rw [z]
    · have := amt_lt (show 0 < p by omega)
      omega
theorem eq_divide (a b : Int32) : hx_divide a b = hm_divide a b := by
  unfold hx_divide hm_divide
  rcases np_num a with ⟨a1, a2⟩ | ⟨p, hp, hp31, rfl, a1, a2⟩
  · rw [if_pos a1, if_neg a2]
  rw [if_neg a1, if_pos a2]
  rcases np_num b with ⟨b1, b2⟩ | ⟨q, hq, hq31, rfl, b1, b2⟩
  · rw [if_pos b1, if_neg b2]
  rw [if_neg b1, if_pos b2, hx_digitsOf_nat (by omega), hx_digitsOf_nat (by omega), hx_placeOf_nat (by omega), hx_placeOf_nat (by omega), hm_digitsOf_nat (by omega), hm_digitsOf_nat (by omega), hm_shiftOf_nat (by omega), hm_shiftOf_nat (by omega)]
  have dp := np_d_lt p
  have dq := np_d_lt q
  have sp := np_s_lt' hp31
  have sq := np_s_lt' hq31
  have hnorm : np_s p = 0 ∨ 1024 ≤ np_d p := by
    unfold np_s np_d
    by_cases z : p / 1024 % 32 = 0
    · left; omega
    · right
      rw [if_neg z]
      omega
  rw [show (0 : Int32) = nI 0 from rfl, show (0 : Int64) = lN 0 from rfl, hn_if (nI_eq (show np_d q < 2 ^ 31 by omega) (by decide)), hn_if (pk_lEQ (show np_d q < 2 ^ 63 by omega) (by decide))]
  by_cases z0 : np_d q = 0
  · rw [if_pos z0, if_pos z0]
  rw [if_neg z0, if_neg z0]
  rw [nI_l (by omega), nI_l (by omega)]
  generalize hdp : np_d p = da at *
  generalize hdq : np_d q = db at *
  generalize np_s p = sa at *
  generalize np_s q = sb at *
  have e26 : (lN da : Int64) <<< ((26 : Int32).toInt64 &&& 63) = lN (da * 2 ^ 26) := wb_shl _ (k := 26) (by decide)
  have hdb : 0 < db := by omega
  rw [e26]
  have hN : da * 2 ^ 26 < 2 ^ 37 := by omega
  have hle := Nat.div_le_self (da * 2 ^ 26) db
  have hml := Nat.mod_le (da * 2 ^ 26) db
  have hmt := Nat.mod_lt (da * 2 ^ 26) hdb
  dsimp only
  rw [pk_lRem (by omega) hdb (by omega), pk_lDiv (by omega) hdb (by omega), hn_if (pk_lEQ (show da * 2 ^ 26 % db < 2 ^ 63 by omega) (by decide))]
  have key : ∃ r : Nat, r ≤ 31744 ∧ hx_core (lN (da * 2 ^ 26 / db)) (nI sa - nI sb + 2) (if da * 2 ^ 26 % db = 0 then nI 0 else 1) = nI r ∧
      (if (lN da : Int64) = lN 0 then nI 0 else if (45 : Int32) < nI sa - nI sb + 24 then 31744 else (if (nI sa - nI sb + 24 : Int32) < nI 0 then hm_nearest (lN da) ((lN db : Int64) <<< ((-(nI sa - nI sb + 24) : Int32).toInt64 &&& 63)) else hm_nearest ((lN da : Int64) <<< ((nI sa - nI sb + 24 : Int32).toInt64 &&& 63)) (lN db))) = nI r := by
    -- the shift: k = sa + 2 - sb, or its opposite
    have esub : ∀ t : Nat, nI sa - nI sb + nI t = nI (sa + t) - nI sb := by
      intro t
      have e : ∀ n : Nat, nI n = Int32.ofInt (n : Int) := fun n => Int32.ofInt_eq_ofNat.symm
      rw [e, e, e, e, ← Int32.ofInt_sub, ← Int32.ofInt_add, ← Int32.ofInt_sub]
      congr 1
      omega
    rw [show (2 : Int32) = nI 2 from rfl, show (24 : Int32) = nI 24 from rfl, esub, esub, hn_if (pk_lEQ (show da < 2 ^ 63 by omega) (by decide))]
    by_cases cz : da = 0
    · refine ⟨0, by decide, ?_, by rw [if_pos cz]⟩
      have h0 : da * 2 ^ 26 / db = 0 := by rw [cz, Nat.zero_mul, Nat.zero_div]
      have h1 : da * 2 ^ 26 % db = 0 := by rw [cz, Nat.zero_mul, Nat.zero_mod]
      rw [h0, if_pos h1]
      by_cases c : sb ≤ sa + 2
      · rw [pk_sub c, hx_core_pos (by decide) (by omega), if_pos (Nat.zero_div _), Nat.zero_mul]
        exact hx_round_0
      · rw [hn_subneg (by omega), hx_core_neg (by decide) (by omega) (by omega), if_pos (show nI 0 = 0 from rfl), Nat.zero_div, if_pos (Nat.zero_mod _)]
        exact hx_round_0
    rw [if_neg cz]
    have hbig : 2 ^ 15 ≤ da * 2 ^ 26 / db := by
      rw [Nat.le_div_iff_mul_le hdb]
      have h1 : 32768 * db ≤ 32768 * 2047 := Nat.mul_le_mul_left _ (by omega)
      have h2 : 1 * 67108864 ≤ da * 67108864 := Nat.mul_le_mul_right _ (by omega)
      exact Nat.le_trans h1 (Nat.le_trans (by decide) h2)
    have hfl : ¬ (if da * 2 ^ 26 % db = 0 then nI 0 else (1 : Int32)) = 0 ↔ da * 2 ^ 26 % db ≠ 0 := hn_flag _
    generalize hfe : (if da * 2 ^ 26 % db = 0 then nI 0 else (1 : Int32)) = fl at hfl ⊢
    by_cases c : sb ≤ sa + 2
    · -- S = sa + 2 - sb
      obtain ⟨S, hS⟩ : ∃ S, sa + 2 = sb + S := ⟨sa + 2 - sb, by omega⟩
      have e1 : nI (sa + 2) - nI sb = nI S := by rw [hS, pk_sub (by omega)]; congr 1; omega
      have e2 : nI (sa + 24) - nI sb = nI (S + 22) := by rw [pk_sub (by omega)]; congr 1; omega
      rw [e1, e2, show (45 : Int32) = nI 45 from rfl, hn_if (nI_ltI (by decide) (by omega)), hn_if (nI_ltI (show S + 22 < 2 ^ 31 by omega) (by decide)), hx_core_pos (by omega) (by omega)]
      by_cases c45 : 45 < S + 22
      · rw [if_pos c45]
        refine ⟨31744, by decide, ?_, rfl⟩
        by_cases cl : da * 2 ^ 26 / db / 2 ^ (60 - S) = 0
        · rw [if_pos cl]
          have hlt : da * 2 ^ 26 / db < 2 ^ (60 - S) := by
            rcases Nat.lt_or_ge (da * 2 ^ 26 / db) (2 ^ (60 - S)) with z | z
            · exact z
            · have := (Nat.le_div_iff_mul_le (Nat.two_pow_pos (60 - S))).mpr (show 1 * 2 ^ (60 - S) ≤ da * 2 ^ 26 / db by omega)
              omega
          have h60 : da * 2 ^ 26 / db * 2 ^ S < 2 ^ 60 := by
            have h1 := Nat.mul_lt_mul_of_pos_right hlt (Nat.two_pow_pos S)
            rw [← Nat.pow_add, show 60 - S + S = 60 by omega] at h1
            exact h1
          have h25 : 2 ^ 25 ≤ da * 2 ^ 26 / db := by
            rw [Nat.le_div_iff_mul_le hdb]
            have hda : 1024 ≤ da := by
              rcases hnorm with z | z
              · omega
              · exact z
            have h1 : 33554432 * db ≤ 33554432 * 2047 := Nat.mul_le_mul_left _ (by omega)
            have h2 : 1024 * 67108864 ≤ da * 67108864 := Nat.mul_le_mul_right _ hda
            exact Nat.le_trans h1 (Nat.le_trans (by decide) h2)
          have h49 : 2 ^ 25 * 2 ^ 24 ≤ da * 2 ^ 26 / db * 2 ^ S := Nat.mul_le_mul h25 (Nat.pow_le_pow_right (by decide) (by omega))
          exact hx_round_inf (by omega) (by omega) fl
        · rw [if_neg cl]
      · have hz : da * 2 ^ 26 / db / 2 ^ (60 - S) = 0 := by
          apply Nat.div_eq_of_lt
          exact Nat.lt_of_lt_of_le (show da * 2 ^ 26 / db < 2 ^ 37 by omega) (Nat.pow_le_pow_right (by decide) (by omega))
        rw [if_neg c45, if_pos hz, if_neg (show ¬ S + 22 < 0 by omega), wb_shl _ (by omega)]
        have hp22 : 2 ^ (S + 22) ≤ 2 ^ 45 := Nat.pow_le_pow_right (by decide) (by omega)
        have hU : da * 2 ^ (S + 22) < 2 ^ 57 := by
          have := Nat.mul_le_mul (show da ≤ 2 ^ 11 by omega) hp22
          omega
        have hpS : 2 ^ S ≤ 2 ^ 23 := Nat.pow_le_pow_right (by decide) (by omega)
        have hu : da * 2 ^ 26 / db * 2 ^ S < 2 ^ 61 := by
          have := Nat.mul_le_mul (show da * 2 ^ 26 / db ≤ 2 ^ 37 by omega) hpS
          omega
        obtain ⟨r, hr, er⟩ := hm_nearest_le (U := da * 2 ^ (S + 22)) (L := db) (by omega) hdb (by omega)
        refine ⟨r, hr, ?_, er⟩
        rw [← er]
        refine round_eq_sticky (N := da * 2 ^ 26) (D := db) (g := S) (by omega) (by omega) hdb (by omega) hdb ?_ rfl hfl hbig (by omega)
        rw [Nat.pow_add 2 S 22, show (2 : Nat) ^ 26 = 16 * 2 ^ 22 from rfl]
        ac_rfl
    · -- k = sb - (sa + 2)
      obtain ⟨k, hk0, hk⟩ : ∃ k, 0 < k ∧ sb = sa + 2 + k := ⟨sb - (sa + 2), by omega, by omega⟩
      have e1 : nI (sa + 2) - nI sb = -nI k := by rw [hn_subneg (by omega)]; congr 2; omega
      rw [e1, hx_core_neg (by omega) hk0 (by omega)]
      have hpk0 := Nat.two_pow_pos k
      have hpk : 2 ^ k ≤ 2 ^ 27 := Nat.pow_le_pow_right (by decide) (by omega)
      have hDD : db * 2 ^ k < 2 ^ 40 := by
        have := Nat.mul_le_mul (show db ≤ 2 ^ 11 by omega) hpk
        omega
      have hdiv : da * 2 ^ 26 / (db * 2 ^ k) = da * 2 ^ 26 / db / 2 ^ k := by rw [Nat.div_div_eq_div_mul]
      have hle2 := Nat.div_le_self (da * 2 ^ 26 / db) (2 ^ k)
      have hfl2 : ¬ (if fl = 0 then (if da * 2 ^ 26 / db % 2 ^ k = 0 then (0 : Int32) else 1) else 1) = 0 ↔ da * 2 ^ 26 % (db * 2 ^ k) ≠ 0 := by
        have hmm : da * 2 ^ 26 % (db * 2 ^ k) = da * 2 ^ 26 % db + db * (da * 2 ^ 26 / db % 2 ^ k) := Nat.mod_mul
        rw [hmm]
        by_cases z : fl = 0
        · rw [if_pos z, hn_flag]
          have z2 : da * 2 ^ 26 % db = 0 := by
            rcases Nat.eq_zero_or_pos (da * 2 ^ 26 % db) with y | y
            · exact y
            · exact absurd z (hfl.mpr (by omega))
          rw [z2, Nat.zero_add]
          constructor
          · intro y
            exact Nat.ne_of_gt (Nat.mul_pos hdb (by omega))
          · intro y y2
            rw [y2, Nat.mul_zero] at y
            exact y rfl
        · rw [if_neg z]
          have := hfl.mp z
          exact ⟨fun _ => by omega, fun _ => by decide⟩
      generalize (if fl = 0 then (if da * 2 ^ 26 / db % 2 ^ k = 0 then (0 : Int32) else 1) else 1) = fl2 at hfl2 ⊢
      by_cases c22 : k ≤ 22
      · obtain ⟨j, hj⟩ : ∃ j, k + j = 22 := ⟨22 - k, by omega⟩
        have e2 : nI (sa + 24) - nI sb = nI j := by rw [pk_sub (by omega)]; congr 1; omega
        rw [e2, show (45 : Int32) = nI 45 from rfl, hn_if (nI_ltI (by decide) (by omega)), hn_if (nI_ltI (show j < 2 ^ 31 by omega) (by decide)), if_neg (by omega), if_neg (by omega), wb_shl _ (by omega)]
        have hpj : 2 ^ j ≤ 2 ^ 22 := Nat.pow_le_pow_right (by decide) (by omega)
        have hU : da * 2 ^ j < 2 ^ 34 := by
          have := Nat.mul_le_mul (show da ≤ 2 ^ 11 by omega) hpj
          omega
        obtain ⟨r, hr, er⟩ := hm_nearest_le (U := da * 2 ^ j) (L := db) (by omega) hdb (by omega)
        refine ⟨r, hr, ?_, er⟩
        rw [← er]
        refine round_eq_floor (N := da * 2 ^ 26) (D := db * 2 ^ k) (by omega) (by omega) hdb (by omega) (Nat.mul_pos hdb hpk0) ?_ hdiv hfl2
        have h26 : 16 * (2 ^ j * 2 ^ k) = 2 ^ 26 := by rw [← Nat.pow_add, show j + k = 22 by omega]
        rw [← h26]
        ac_rfl
      · obtain ⟨j, hj0, hj⟩ : ∃ j, 0 < j ∧ k = 22 + j := ⟨k - 22, by omega, by omega⟩
        have e2 : nI (sa + 24) - nI sb = -nI j := by rw [hn_subneg (by omega)]; congr 2; omega
        have c45 : ¬ (45 : Int32) < -nI j := by
          rw [Int32.lt_iff_toInt_lt, sb_negT (by omega)]
          show ¬ (45 : Int) < -(j : Int)
          omega
        rw [e2, if_neg c45, if_pos (show -nI j < nI 0 from hn_neg_lt hj0 (by omega)), hn_negneg, wb_shl _ (by omega)]
        have hpj : 2 ^ j ≤ 2 ^ 5 := Nat.pow_le_pow_right (by decide) (by omega)
        have hpj0 := Nat.two_pow_pos j
        have hL : db * 2 ^ j < 2 ^ 17 := by
          have := Nat.mul_le_mul (show db ≤ 2 ^ 11 by omega) hpj
          omega
        have hL0 : 0 < db * 2 ^ j := Nat.mul_pos hdb hpj0
        obtain ⟨r, hr, er⟩ := hm_nearest_le (U := da) (L := db * 2 ^ j) (by omega) hL0 (by omega)
        refine ⟨r, hr, ?_, er⟩
        rw [← er]
        refine round_eq_floor (N := da * 2 ^ 26) (D := db * 2 ^ k) (by omega) (by omega) hL0 (by omega) (Nat.mul_pos hdb hpk0) ?_ hdiv hfl2
        rw [hj, Nat.pow_add 2 22 j]
        rw [show (2 : Nat) ^ 26 = 16 * 2 ^ 22 from rfl]
        ac_rfl
  obtain ⟨r, hr, k1, k2⟩ := key
  rw [hx_withSign_core _ _ _ _ _ hr k1, k2]
  rfl
end
section
/-! root: both find the whole root; a rest tells that it is a little more -/
theorem rt_sq {x r N : Nat} (h1 : r * r ≤ N) (h2 : N < (r + 1) * (r + 1)) : ((x < r ∨ (x = r ∧ r * r ≠ N)) ↔ x * x < N) ∧ ((x = r ∧ ¬ r * r ≠ N) ↔ x * x = N) := by
  rcases Nat.lt_trichotomy x r with c | c | c
  · have g1 : x * x ≤ x * r := Nat.mul_le_mul_left x (Nat.le_of_lt c)
    have g2 : x * r < r * r := Nat.mul_lt_mul_of_pos_right c (by omega)
    constructor <;> omega
  · subst c
    constructor <;> omega
  · have g1 : (r + 1) * (r + 1) ≤ x * x := Nat.mul_le_mul c c
    constructor <;> omega
theorem rt_lt {r k N : Nat} (h1 : r * r ≤ N) (h2 : N < 2 ^ k * 2 ^ k) : r < 2 ^ k := by
  rcases Nat.lt_or_ge r (2 ^ k) with c | c
  · exact c
  · have := Nat.mul_le_mul c c
    omega
theorem hx_rootOf_nat {x : Nat} (hx : x < 2 ^ 44) : ∃ r : Nat, hx_rootOf (lN x) = lN r ∧ r * r ≤ x ∧ x < (r + 1) * (r + 1) := by
  have h := hf_inv (hx_rootOf_s6 (lN x)) (fun q => ∃ n r : Nat, n ≤ 22 ∧ q = (lN r, nI n + (-1)) ∧ r * r ≤ x ∧ x < (r + 2 ^ n) * (r + 2 ^ n)) (by
    rintro q t ⟨n, r, hn, rfl, h1, h2⟩ h
    rcases Nat.eq_zero_or_pos n with z | z
    · subst z
      have c : nI 0 + (-1) < (0 : Int32) := by decide
      simp only [hx_rootOf_s6, c, if_true] at h
      cases h
    · obtain ⟨k, rfl⟩ : ∃ k, n = k + 1 := ⟨n - 1, by omega⟩
      have c : ¬ nI k < (0 : Int32) := nI_pos (by omega)
      have hr : r < 2 ^ 22 := rt_lt h1 (by omega)
      have hk : 2 ^ k ≤ 2 ^ 21 := Nat.pow_le_pow_right (by decide) (by omega)
      have e1 : lN r + (1 : Int64) <<< ((nI k : Int32).toInt64 &&& 63) = lN (r + 2 ^ k) := by
        rw [show (1 : Int64) = lN 1 from rfl, wb_shl _ (by omega), Nat.one_mul, lN_add]
      have hb : (r + 2 ^ k) * (r + 2 ^ k) < 2 ^ 63 := by
        have := Nat.mul_le_mul (show r + 2 ^ k ≤ 2 ^ 23 by omega) (show r + 2 ^ k ≤ 2 ^ 23 by omega)
        omega
      simp only [hx_rootOf_s6, pk_m1, c, if_false, e1, lN_mul] at h
      by_cases c2 : x < (r + 2 ^ k) * (r + 2 ^ k)
      · refine ⟨k, r, by omega, ?_, h1, c2⟩
        rw [← Option.some.inj h, if_pos ((pk_lLT (by omega) hb).mpr c2)]
      · refine ⟨k, r + 2 ^ k, by omega, ?_, by omega, ?_⟩
        · rw [← Option.some.inj h, if_neg (fun g => c2 ((pk_lLT (by omega) hb).mp g))]
        · have e : r + 2 ^ k + 2 ^ k = r + 2 ^ (k + 1) := by
            rw [Nat.pow_succ]
            omega
          rw [e]
          exact h2) 22 (0, 21) ⟨22, 0, by decide, by decide, by omega, by omega⟩
  have hE := hx_rootOf_end (lN x)
  obtain ⟨n, r, hn, e, h1, h2⟩ := h
  rw [e] at hE
  rcases Nat.eq_zero_or_pos n with z | z
  · subst z
    refine ⟨r, ?_, h1, h2⟩
    simp only [hx_rootOf]
    rw [e]
  · obtain ⟨k, rfl⟩ : ∃ k, n = k + 1 := ⟨n - 1, by omega⟩
    have c : ¬ nI k < (0 : Int32) := nI_pos (by omega)
    simp only [hx_rootOf_s6, pk_m1, c, if_false] at hE
    cases hE
theorem hm_rootOf_nat {x : Nat} (hx : x < 2 ^ 62) : ∃ r : Nat, hm_rootOf (lN x) = lN r ∧ r * r ≤ x ∧ x < (r + 1) * (r + 1) := by
  have hm : ∀ a b : Nat, a ≤ b → b ≤ 2147483648 → (lN a + lN b + 1) / 2 = lN ((a + b + 1) / 2) := by
    intro a b h1 h2
    rw [lN_add, lN_1, show (2 : Int64) = lN 2 from rfl, pk_lDiv (by omega) (by decide) (by decide)]
  have h := hf_inv (hm_rootOf_s7 (lN x)) (fun q => ∃ a b : Nat, a ≤ b ∧ b ≤ 2147483648 ∧ a * a ≤ x ∧ x < (b + 1) * (b + 1) ∧ q = (lN a, lN b)) (by
    rintro q t ⟨a, b, h1, h2, h3, h4, rfl⟩ h
    simp only [hm_rootOf_s7, hm a b h1 h2, lN_mul] at h
    by_cases c1 : lN b ≤ lN a
    · simp only [c1, if_true] at h
      cases h
    · have c1' : a < b := by
        rw [pk_lLE (by omega) (by omega)] at c1
        omega
      simp only [c1, if_false] at h
      have hb : (a + b + 1) / 2 * ((a + b + 1) / 2) < 2 ^ 63 := by
        have := Nat.mul_le_mul (show (a + b + 1) / 2 ≤ 2 ^ 31 by omega) (show (a + b + 1) / 2 ≤ 2 ^ 31 by omega)
        omega
      by_cases c2 : x < (a + b + 1) / 2 * ((a + b + 1) / 2)
      · rw [if_pos ((pk_lLT (by omega) hb).mpr c2)] at h
        refine ⟨a, (a + b + 1) / 2 - 1, by omega, by omega, h3, ?_, ?_⟩
        · rw [show (a + b + 1) / 2 - 1 + 1 = (a + b + 1) / 2 by omega]
          exact c2
        · rw [← Option.some.inj h, show (1 : Int64) = lN 1 from rfl, lN_sub (by omega)]
      · rw [if_neg (fun g => c2 ((pk_lLT (by omega) hb).mp g))] at h
        exact ⟨(a + b + 1) / 2, b, by omega, by omega, by omega, h4, (Option.some.inj h).symm⟩) 32 (0, 2147483648) ⟨0, 2147483648, by decide, by decide, by omega, by omega, rfl⟩
  have hE := hm_rootOf_end (lN x)
  obtain ⟨a, b, h1, h2, h3, h4, e⟩ := h
  rw [e] at hE
  simp only [hm_rootOf_s7] at hE
  by_cases c1 : lN b ≤ lN a
  · rw [pk_lLE (by omega) (by omega)] at c1
    have e2 : b = a := by omega
    subst e2
    refine ⟨b, ?_, h3, h4⟩
    simp only [hm_rootOf]
    rw [e]
  · simp only [c1, if_false] at hE
    split at hE <;> cases hE
/-- what root does with the place and the digits -/
def hx_rt (pl dg : Int32) : Int32 :=
  let v3 : Int32 := (if (pl &&& 1 : Int32) = (0 : Int32) then (30)
          else (31));
        let v5 : Int64 := ((dg : Int32).toInt64 : Int64) <<< ((v3 : Int32).toInt64 &&& 63);
        let v6 : Int64 := hx_rootOf v5;
        let v7 : Int32 := ((pl + 32) - v3) / 2;
        let v8 : Int32 := (if (v6 * v6 : Int64) = (v5 : Int64) then (0)
          else (1));
        hx_round ((v6 : Int64) <<< ((v7 : Int32).toInt64 &&& 63)) v8
def hm_rt (sh : Int32) (dg : Int64) : Int32 :=
  let v3 : Int32 := sh + 24;
        let v4 : Int64 := (if (v3 - v3 / 2 * 2 : Int32) = (0 : Int32) then (dg)
          else (2 * dg));
        let v6 : Int64 := (v4 : Int64) <<< ((28 : Int32).toInt64 &&& 63);
        let v7 : Int64 := hm_rootOf v6;
        let v8 : Int32 := (if (v7 * v7 : Int64) = (v6 : Int64) then (0)
          else (1));
        let v10 : Int64 := (2 * v7) + ((v8 : Int32).toInt64);
        let v11 : Int32 := (v3 / 2) - 15;
        if (v11 : Int32) < (0 : Int32) then (hm_nearest v10 ((1 : Int64) <<< ((-v11 : Int32).toInt64 &&& 63)))
        else (hm_nearest ((v10 : Int64) <<< ((v11 : Int32).toInt64 &&& 63)) 1)
theorem hx_rt_nat {s d n : Nat} (hs : s ≤ 29) (hd : d < 2048) (hn : (s % 2 = 0 ∧ n = d) ∨ (s % 2 = 1 ∧ n = 2 * d)) : ∃ r : Nat, r * r ≤ n * 2 ^ 30 ∧ n * 2 ^ 30 < (r + 1) * (r + 1) ∧ hx_rt (nI s) (nI d) = hx_round (lN (r * 2 ^ (s / 2 + 1))) (if r * r = n * 2 ^ 30 then 0 else 1) := by
  have hn2 : n < 4096 := by omega
  obtain ⟨r, e, h1, h2⟩ := hx_rootOf_nat (x := n * 2 ^ 30) (by omega)
  refine ⟨r, h1, h2, ?_⟩
  have eA : nI s &&& 1 = nI (s % 2) := fa_mask s 1
  unfold hx_rt
  dsimp only
  rw [eA, nI_l (by omega)]
  rcases hn with ⟨c, hn⟩ | ⟨c, hn⟩
  · have e5 : (lN d : Int64) <<< ((30 : Int32).toInt64 &&& 63) = lN (n * 2 ^ 30) := by
      rw [hn]
      exact wb_shl _ (k := 30) (by decide)
    have e7 : (nI s + 32 - 30) / 2 = nI (s / 2 + 1) := by
      rw [show (32 : Int32) = nI 32 from rfl, show (30 : Int32) = nI 30 from rfl, show (2 : Int32) = nI 2 from rfl, nI_add, pk_sub (by omega), pk_div (by omega) (by decide) (by decide)]
      congr 1
      omega
    rw [c, if_pos (show nI 0 = (0 : Int32) from rfl), e5, e, e7, lN_mul, hn_if (pk_lEQ (by omega) (by omega)), wb_shl _ (by omega)]
  · have e5 : (lN d : Int64) <<< ((31 : Int32).toInt64 &&& 63) = lN (n * 2 ^ 30) := by
      have h := wb_shl d (k := 31) (by decide)
      rw [show d * 2 ^ 31 = n * 2 ^ 30 by omega] at h
      exact h
    have e7 : (nI s + 32 - 31) / 2 = nI (s / 2 + 1) := by
      rw [show (32 : Int32) = nI 32 from rfl, show (31 : Int32) = nI 31 from rfl, show (2 : Int32) = nI 2 from rfl, nI_add, pk_sub (by omega), pk_div (by omega) (by decide) (by decide)]
      congr 1
      omega
    rw [c, if_neg (show ¬ nI 1 = (0 : Int32) by decide), e5, e, e7, lN_mul, hn_if (pk_lEQ (by omega) (by omega)), wb_shl _ (by omega)]
theorem hm_rt_nat {s d n : Nat} (hs : s ≤ 29) (hd : d < 2048) (hn : (s % 2 = 0 ∧ n = d) ∨ (s % 2 = 1 ∧ n = 2 * d)) : ∃ r ie U L : Nat, r * r ≤ n * 2 ^ 28 ∧ n * 2 ^ 28 < (r + 1) * (r + 1) ∧ ((ie = 0 ∧ r * r = n * 2 ^ 28) ∨ (ie = 1 ∧ r * r ≠ n * 2 ^ 28)) ∧ U < 2 ^ 61 ∧ 0 < L ∧ L < 2 ^ 61 ∧ 8 * U = (2 * r + ie) * 2 ^ (s / 2) * L ∧ hm_rt (nI s) (lN d) = hm_nearest (lN U) (lN L) := by
  have hn2 : n < 4096 := by omega
  obtain ⟨r, e, h1, h2⟩ := hm_rootOf_nat (x := n * 2 ^ 28) (by omega)
  have hr : r < 2 ^ 20 := rt_lt h1 (by omega)
  have e3 : nI s + 24 = nI (s + 24) := nI_add s 24
  have e4 : nI (s + 24) - nI (s + 24) / 2 * 2 = nI (s % 2) := by
    rw [show (2 : Int32) = nI 2 from rfl, pk_rem (by omega) (by decide) (by decide)]
    congr 1
    omega
  have e4' : (if nI (s % 2) = (0 : Int32) then lN d else 2 * lN d) = lN n := by
    rcases hn with ⟨c, hn⟩ | ⟨c, hn⟩
    · rw [c, if_pos (show nI 0 = (0 : Int32) from rfl), hn]
    · rw [c, if_neg (show ¬ nI 1 = (0 : Int32) by decide), show (2 : Int64) = lN 2 from rfl, lN_mul, hn]
  have e6 : (lN n : Int64) <<< ((28 : Int32).toInt64 &&& 63) = lN (n * 2 ^ 28) := wb_shl _ (k := 28) (by decide)
  have e11 : nI (s + 24) / 2 = nI (s / 2 + 12) := by
    rw [show (2 : Int32) = nI 2 from rfl, pk_div (by omega) (by decide) (by decide)]
    congr 1
    omega
  obtain ⟨ie, hie, e10⟩ : ∃ ie : Nat, ((ie = 0 ∧ r * r = n * 2 ^ 28) ∨ (ie = 1 ∧ r * r ≠ n * 2 ^ 28)) ∧ (2 : Int64) * lN r + ((if lN r * lN r = lN (n * 2 ^ 28) then (0 : Int32) else 1) : Int32).toInt64 = lN (2 * r + ie) := by
    rw [lN_mul, hn_if (pk_lEQ (show r * r < 2 ^ 63 by omega) (show n * 2 ^ 28 < 2 ^ 63 by omega)), show (2 : Int64) = lN 2 from rfl, lN_mul]
    by_cases c : r * r = n * 2 ^ 28
    · refine ⟨0, Or.inl ⟨rfl, c⟩, ?_⟩
      rw [if_pos c]
      exact lN_add (2 * r) 0
    · refine ⟨1, Or.inr ⟨rfl, c⟩, ?_⟩
      rw [if_neg c]
      exact lN_add (2 * r) 1
  have hie1 : ie ≤ 1 := by omega
  have hval : hm_rt (nI s) (lN d) = if (nI (s / 2 + 12) - 15 : Int32) < (0 : Int32) then (hm_nearest (lN (2 * r + ie)) ((1 : Int64) <<< ((-(nI (s / 2 + 12) - 15) : Int32).toInt64 &&& 63))) else (hm_nearest ((lN (2 * r + ie) : Int64) <<< ((nI (s / 2 + 12) - 15 : Int32).toInt64 &&& 63)) 1) := by
    unfold hm_rt
    dsimp only
    rw [e3, e4, e4', e6, e, e10, e11]
  generalize hh : s / 2 = h at hval ⊢
  have hh2 : h ≤ 14 := by omega
  by_cases c : 3 ≤ h
  · obtain ⟨k, rfl⟩ : ∃ k, h = k + 3 := ⟨h - 3, by omega⟩
    have e15 : nI (k + 3 + 12) - 15 = nI k := by
      rw [show (15 : Int32) = nI 15 from rfl, pk_sub (by omega)]
      congr 1
    have hpk : 2 ^ k ≤ 2 ^ 11 := Nat.pow_le_pow_right (by decide) (by omega)
    have hU : (2 * r + ie) * 2 ^ k < 2 ^ 40 := by
      have := Nat.mul_le_mul (show 2 * r + ie ≤ 2 ^ 22 by omega) hpk
      omega
    refine ⟨r, ie, (2 * r + ie) * 2 ^ k, 1, h1, h2, hie, by omega, by decide, by decide, ?_, ?_⟩
    · rw [Nat.mul_one, Nat.pow_add 2 k 3, ← Nat.mul_assoc (2 * r + ie) (2 ^ k) (2 ^ 3)]
      omega
    · rw [hval, e15, if_neg (nI_pos (by omega)), wb_shl _ (by omega)]
      rfl
  · obtain ⟨k, hk0, hk⟩ : ∃ k, 0 < k ∧ h + k = 3 := ⟨3 - h, by omega, by omega⟩
    have e15 : nI (h + 12) - 15 = -nI k := by
      rw [show (15 : Int32) = nI 15 from rfl, hn_subneg (by omega)]
      congr 2
      omega
    have hpk : 2 ^ k ≤ 2 ^ 3 := Nat.pow_le_pow_right (by decide) (by omega)
    refine ⟨r, ie, 2 * r + ie, 2 ^ k, h1, h2, hie, by omega, Nat.two_pow_pos k, by omega, ?_, ?_⟩
    · rw [Nat.mul_assoc, ← Nat.pow_add, hk]
      omega
    · rw [hval, e15, if_pos (hn_neg_lt hk0 (by omega)), hn_negneg, show (1 : Int64) = lN 1 from rfl, wb_shl _ (by omega), Nat.one_mul]
theorem rt_b {n : Nat} (hn : n < 4096) : n * 2 ^ 30 < 2 ^ 21 * 2 ^ 21 := by omega
theorem rt_core {n h r1 r2 ie U L : Nat} (hn : n < 4096) (hh : h ≤ 14) (a1 : r1 * r1 ≤ n * 2 ^ 30) (a2 : n * 2 ^ 30 < (r1 + 1) * (r1 + 1)) (b1 : r2 * r2 ≤ n * 2 ^ 28) (b2 : n * 2 ^ 28 < (r2 + 1) * (r2 + 1))
    (hie : (ie = 0 ∧ r2 * r2 = n * 2 ^ 28) ∨ (ie = 1 ∧ r2 * r2 ≠ n * 2 ^ 28)) (hU : U < 2 ^ 61) (hL0 : 0 < L) (hL : L < 2 ^ 61) (hUL : 8 * U = (2 * r2 + ie) * 2 ^ h * L) : hx_round (lN (r1 * 2 ^ (h + 1))) (if r1 * r1 = n * 2 ^ 30 then 0 else 1) = hm_nearest (lN U) (lN L) := by
  have hr1 : r1 < 2 ^ 21 := rt_lt a1 (rt_b hn)
  have hp : 0 < 2 ^ (h + 1) := Nat.two_pow_pos _
  have hp2 : 2 ^ (h + 1) ≤ 2 ^ 15 := Nat.pow_le_pow_right (by decide) (by omega)
  have hu : r1 * 2 ^ (h + 1) < 2 ^ 62 := by
    have := Nat.mul_le_mul (show r1 ≤ 2 ^ 21 by omega) hp2
    omega
  by_cases z : n = 0
  · have y1 : r1 = 0 := by
      rcases Nat.eq_zero_or_pos r1 with y | y
      · exact y
      · have := Nat.mul_pos y y
        omega
    have y2 : r2 = 0 := by
      rcases Nat.eq_zero_or_pos r2 with y | y
      · exact y
      · have := Nat.mul_pos y y
        omega
    subst y1
    subst y2
    have y3 : ie = 0 := by omega
    have y4 : U = 0 := by
      rw [y3, Nat.mul_zero, Nat.add_zero, Nat.zero_mul, Nat.zero_mul] at hUL
      omega
    rw [y4, if_pos (by omega), Nat.zero_mul]
    exact round_eq_floor (N := 0) (D := 1) (by decide) (by decide) hL0 hL (by decide) (by omega) (by decide) (by decide)
  have hbig : 2 ^ 15 ≤ r1 := by
    rcases Nat.lt_or_ge r1 (2 ^ 15) with y | y
    · have := Nat.mul_le_mul (show r1 + 1 ≤ 2 ^ 15 by omega) (show r1 + 1 ≤ 2 ^ 15 by omega)
      omega
    · exact y
  have hfl : ¬ (if r1 * r1 = n * 2 ^ 30 then (0 : Int32) else 1) = 0 ↔ r1 * r1 ≠ n * 2 ^ 30 := hn_flag _
  generalize (if r1 * r1 = n * 2 ^ 30 then (0 : Int32) else 1) = b at hfl ⊢
  obtain ⟨p, e1, n1⟩ := hx_round_near hu b
  obtain ⟨q, e2, n2⟩ := hm_nearest_near hU hL0 hL
  have hu2 : 2 ^ (15 + (h + 1)) ≤ r1 * 2 ^ (h + 1) := by
    rw [Nat.pow_add]
    exact Nat.mul_le_mul_right _ hbig
  have key : ∀ M, (∃ m, 8 * M = m * 2 ^ (h + 1 + 1)) → ((8 * M < r1 * 2 ^ (h + 1) ∨ (8 * M = r1 * 2 ^ (h + 1) ∧ ¬ b = 0)) ↔ M * L < 2 * U) ∧ ((8 * M = r1 * 2 ^ (h + 1) ∧ ¬ ¬ b = 0) ↔ M * L = 2 * U) := by
    rintro M ⟨m, hm⟩
    have hm2 : 8 * M = (2 * m) * 2 ^ (h + 1) := by
      rw [hm, Nat.pow_succ 2 (h + 1)]
      ac_rfl
    obtain ⟨g1, g2⟩ := rt_sq (x := 2 * m) a1 a2
    obtain ⟨g3, g4⟩ := rt_sq (x := m) b1 b2
    have hT : 0 < 2 ^ (h + 1) * L := Nat.mul_pos hp hL0
    have q1 : 8 * (M * L) = (2 * m) * (2 ^ (h + 1) * L) := by
      rw [← Nat.mul_assoc, hm2, Nat.mul_assoc]
    have q2 : 8 * (2 * U) = (2 * r2 + ie) * (2 ^ (h + 1) * L) := by
      rw [show 8 * (2 * U) = 2 * (8 * U) by omega, hUL, Nat.pow_succ]
      ac_rfl
    have k1 : M * L < 2 * U ↔ 2 * m < 2 * r2 + ie := by
      have y : 2 * m * (2 ^ (h + 1) * L) < (2 * r2 + ie) * (2 ^ (h + 1) * L) ↔ 2 * m < 2 * r2 + ie := Nat.mul_lt_mul_right hT
      rw [← q1, ← q2] at y
      omega
    have k2 : M * L = 2 * U ↔ 2 * m = 2 * r2 + ie := by
      constructor
      · intro y
        apply Nat.eq_of_mul_eq_mul_right hT
        rw [← q1, ← q2, y]
      · intro y
        rw [y, ← q2] at q1
        omega
    have he : (2 * m) * 2 ^ (h + 1) = r1 * 2 ^ (h + 1) ↔ 2 * m = r1 := ⟨fun y => Nat.eq_of_mul_eq_mul_right hp y, fun y => by rw [y]⟩
    have hsq : 2 * m * (2 * m) = 4 * (m * m) := by
      rw [show 2 * m * (2 * m) = (2 * 2) * (m * m) by ac_rfl]
    rw [hfl, hm2, Nat.mul_lt_mul_right hp, he, k1, k2, g1, g2, hsq]
    constructor
    · rw [show (4 * (m * m) < n * 2 ^ 30 ↔ m * m < n * 2 ^ 28) by omega, ← g3]
      omega
    · rw [show (4 * (m * m) = n * 2 ^ 30 ↔ m * m = n * 2 ^ 28) by omega, ← g4]
      omega
  obtain ⟨d1, d2⟩ := near_dvd n1 hu2 (by omega)
  rw [e1, e2, near_unique (cmp_frac hL0) (near_transfer n1 (fun z => key _ (d1 z)) (fun z => key _ (d2 z))) n2]
theorem eq_root (a : Int32) : hx_root a = hm_root a := by
  have f1 : hx_root a = if hx_isNumber a = 0 then -1 else if a < 32768 then hx_rt (hx_placeOf a) (hx_digitsOf a) else if hx_digitsOf a = 0 then hx_rt (hx_placeOf a) (hx_digitsOf a) else -1 := rfl
  have f2 : hm_root a = if hm_bad a = 0 then (if a ≤ 32768 then hm_rt (hm_shiftOf a) (hm_digitsOf a) else -1) else -1 := rfl
  rw [f1, f2]
  rcases np_num a with ⟨a1, a2⟩ | ⟨p, hp, hp31, rfl, a1, a2⟩
  · rw [if_pos a1, if_neg a2]
  rw [if_neg a1, if_pos a2, hx_digitsOf_nat (by omega), hx_placeOf_nat (by omega), hm_digitsOf_nat (by omega), hm_shiftOf_nat (by omega)]
  have dp := np_d_lt p
  have sp := np_s_lt' hp31
  have core : hx_rt (nI (np_s p)) (nI (np_d p)) = hm_rt (nI (np_s p)) (lN (np_d p)) := by
    generalize np_d p = d at dp ⊢
    generalize np_s p = s at sp ⊢
    obtain ⟨n, hn⟩ : ∃ n : Nat, (s % 2 = 0 ∧ n = d) ∨ (s % 2 = 1 ∧ n = 2 * d) := by
      rcases Nat.mod_two_eq_zero_or_one s with y | y
      · exact ⟨d, Or.inl ⟨y, rfl⟩⟩
      · exact ⟨2 * d, Or.inr ⟨y, rfl⟩⟩
    obtain ⟨r1, a1, a2, e1⟩ := hx_rt_nat sp dp hn
    obtain ⟨r2, ie, U, L, b1, b2, hie, hU, hL0, hL, hUL, e2⟩ := hm_rt_nat sp dp hn
    rw [e1, e2]
    exact rt_core (by omega) (by omega) a1 a2 b1 b2 hie hU hL0 hL hUL
  rw [core, show (32768 : Int32) = nI 32768 from rfl, show (0 : Int32) = nI 0 from rfl, hn_if (nI_ltI (by omega) (by decide)), hn_if (nI_leI (by omega) (by decide)), hn_if (nI_eq (show np_d p < 2 ^ 31 by omega) (by decide))]
  by_cases c : p < 32768
  · rw [if_pos c, if_pos (by omega)]
  · rw [if_neg c]
    by_cases c2 : p ≤ 32768
    · have e : p = 32768 := by omega
      subst e
      rw [if_pos (by decide), if_pos c2]
    · have hd : ¬ np_d p = 0 := by
        unfold np_d
        split <;> omega
      rw [if_neg hd, if_neg c2]
end
section
/-! the writing: what both searches look for. The pair (d, j) stands for d * 10^(j - 12); A is an amount in 2^-24 -/
/-- the distance of (d, j) from A, in parts of 10^-12 -/
def wr_D (A d j : Nat) : Nat := (d * 10 ^ j * 2 ^ 24 - A * 10 ^ 12) + (A * 10 ^ 12 - d * 10 ^ j * 2 ^ 24)
/-- (d, j) rounds to p -/
def wr_I (p d j : Nat) : Prop := (mid p * 10 ^ 12 < d * 10 ^ j * 2 ^ 25 ∨ (mid p * 10 ^ 12 = d * 10 ^ j * 2 ^ 25 ∧ p % 2 = 0)) ∧ (d * 10 ^ j * 2 ^ 25 < mid (p + 1) * 10 ^ 12 ∨ (d * 10 ^ j * 2 ^ 25 = mid (p + 1) * 10 ^ 12 ∧ p % 2 = 0))
/-- the number of digits, up to six -/
def wr_l (d : Nat) : Nat := if d < 10 then 1 else if d < 100 then 2 else if d < 1000 then 3 else if d < 10000 then 4 else if d < 100000 then 5 else 6
/-- (d, j) is the better writing -/
def wr_b (A d j e i : Nat) : Prop := wr_l d < wr_l e ∨ (wr_l d = wr_l e ∧ (wr_D A d j < wr_D A e i ∨ (wr_D A d j = wr_D A e i ∧ d * 10 ^ j < e * 10 ^ i)))
/-- (d, j) is the best of P -/
def wr_B (A : Nat) (P : Nat → Nat → Prop) (d j : Nat) : Prop := P d j ∧ ∀ e i, P e i → ¬ wr_b A e i d j
/-- the whole part of A / 10^(j - 12) -/
def wr_f (A j : Nat) : Nat := A * 10 ^ 12 / (10 ^ j * 2 ^ 24)
/-- the exponent that j stands for -/
def wr_x (j : Nat) : Int32 := nI j - 12
def wr_y (n : Nat) : Int32 := nI n - 13
/-- what every candidate has -/
def wr_g (p d j : Nat) : Prop := 1 ≤ d ∧ d < 1000000 ∧ j ≤ 16 ∧ d % 10 ≠ 0 ∧ wr_I p d j ∧ amt p * 10 ^ (12 - j) ≤ 1000000 * 2 ^ 24
theorem wr_b_irr {A d j : Nat} : ¬ wr_b A d j d j := by
  unfold wr_b
  omega
theorem wr_b_trans {A d j e i f k : Nat} (h1 : wr_b A d j e i) (h2 : wr_b A e i f k) : wr_b A d j f k := by
  unfold wr_b at *
  omega
theorem wr_b_tot {A d j e i : Nat} (h1 : ¬ wr_b A d j e i) (h2 : ¬ wr_b A e i d j) : d * 10 ^ j = e * 10 ^ i := by
  unfold wr_b at *
  omega
theorem wr_p10 (j : Nat) : 0 < 10 ^ j := Nat.pow_pos (by decide)
theorem wr_same' {d j e t : Nat} (hd : d % 10 ≠ 0) (h : d * 10 ^ j = e * 10 ^ (j + 1 + t)) : False := by
  have e1 : d = e * 10 ^ t * 10 := by
    apply Nat.eq_of_mul_eq_mul_right (wr_p10 j)
    rw [h, Nat.pow_add 10 (j + 1) t, Nat.pow_succ 10 j]
    ac_rfl
  omega
theorem wr_same {d j e i : Nat} (hd : d % 10 ≠ 0) (he : e % 10 ≠ 0) (h : d * 10 ^ j = e * 10 ^ i) : d = e ∧ j = i := by
  rcases Nat.lt_trichotomy j i with c | c | c
  · obtain ⟨t, rfl⟩ : ∃ t, i = j + 1 + t := ⟨i - (j + 1), by omega⟩
    exact absurd h (fun g => wr_same' hd g)
  · subst c
    exact ⟨Nat.eq_of_mul_eq_mul_right (wr_p10 j) h, rfl⟩
  · obtain ⟨t, rfl⟩ : ∃ t, j = i + 1 + t := ⟨j - (i + 1), by omega⟩
    exact absurd h.symm (fun g => wr_same' he g)
theorem wr_B_first {A d j : Nat} {P : Nat → Nat → Prop} (h : ∀ e i, ¬ P e i) : wr_B A (fun e i => P e i ∨ (e = d ∧ i = j)) d j := by
  refine ⟨Or.inr ⟨rfl, rfl⟩, ?_⟩
  rintro e i (c | ⟨rfl, rfl⟩)
  · exact absurd c (h e i)
  · exact wr_b_irr
theorem wr_B_new {A d j e i : Nat} {P : Nat → Nat → Prop} (h : wr_B A P e i) (hb : wr_b A d j e i) : wr_B A (fun e i => P e i ∨ (e = d ∧ i = j)) d j := by
  refine ⟨Or.inr ⟨rfl, rfl⟩, ?_⟩
  rintro f k (c | ⟨rfl, rfl⟩)
  · exact fun g => h.2 f k c (wr_b_trans g hb)
  · exact wr_b_irr
theorem wr_B_old {A d j e i : Nat} {P : Nat → Nat → Prop} (h : wr_B A P e i) (hb : ¬ wr_b A d j e i) : wr_B A (fun e i => P e i ∨ (e = d ∧ i = j)) e i := by
  refine ⟨Or.inl h.1, ?_⟩
  rintro f k (c | ⟨rfl, rfl⟩)
  · exact h.2 f k c
  · exact hb
theorem wr_l_char {d : Nat} (h0 : 1 ≤ d) (h : d < 1000000) : ∃ k, k ≤ 5 ∧ wr_l d = k + 1 ∧ 10 ^ k ≤ d ∧ d < 10 ^ (k + 1) := by
  unfold wr_l
  by_cases c1 : d < 10
  · exact ⟨0, by decide, by rw [if_pos c1], by omega, by omega⟩
  by_cases c2 : d < 100
  · exact ⟨1, by decide, by rw [if_neg c1, if_pos c2], by omega, by omega⟩
  by_cases c3 : d < 1000
  · exact ⟨2, by decide, by rw [if_neg c1, if_neg c2, if_pos c3], by omega, by omega⟩
  by_cases c4 : d < 10000
  · exact ⟨3, by decide, by rw [if_neg c1, if_neg c2, if_neg c3, if_pos c4], by omega, by omega⟩
  by_cases c5 : d < 100000
  · exact ⟨4, by decide, by rw [if_neg c1, if_neg c2, if_neg c3, if_neg c4, if_pos c5], by omega, by omega⟩
  · exact ⟨5, by decide, by rw [if_neg c1, if_neg c2, if_neg c3, if_neg c4, if_neg c5], by omega, by omega⟩
theorem wr_l_of {d k : Nat} (h1 : 10 ^ k ≤ d) (h2 : d < 10 ^ (k + 1)) (hk : k ≤ 5) : wr_l d = k + 1 := by
  have hb : 10 ^ (k + 1) ≤ 10 ^ 6 := Nat.pow_le_pow_right (by decide) (by omega)
  have h0 := wr_p10 k
  obtain ⟨m, -, e, g1, g2⟩ := wr_l_char (d := d) (by omega) (by omega)
  have q1 : 10 ^ k < 10 ^ (m + 1) := by omega
  have q2 : 10 ^ m < 10 ^ (k + 1) := by omega
  have q1 := (Nat.pow_lt_pow_iff_right (by decide)).mp q1
  have q2 := (Nat.pow_lt_pow_iff_right (by decide)).mp q2
  omega
theorem wr_l_le (d : Nat) : 1 ≤ wr_l d ∧ wr_l d ≤ 6 := by
  unfold wr_l
  repeat' split
  all_goals omega
/-! the amounts around a pattern -/
theorem amt_pos {p : Nat} (hp : 1 ≤ p) : 1 ≤ amt p := by
  have := amt_lt (show 0 < p by omega)
  omega
theorem amt_dbl {p : Nat} (hp : 1 ≤ p) : amt (p + 1) ≤ 2 * amt p := by
  have h1 := amt_succ p
  have h2 := amt_pos hp
  rcases amt_gap p with g | g <;> omega
theorem amt_2047 (p : Nat) : amt p ≤ 2047 * 2 ^ (p / 1024 - 1) := by
  unfold amt
  by_cases c : p / 1024 = 0
  · rw [if_pos c, c]
    omega
  · rw [if_neg c]
    exact Nat.mul_le_mul_right _ (by omega)
theorem mid_up (p : Nat) : mid (p + 1) = 2 * amt p + 2 ^ (p / 1024 - 1) := by
  unfold mid
  rw [Nat.add_sub_cancel, amt_succ]
  omega
theorem mid_dn {p : Nat} (hp : 1 ≤ p) : mid p + 2 ^ ((p - 1) / 1024 - 1) = 2 * amt p := by
  unfold mid
  have h := amt_succ (p - 1)
  rw [show p - 1 + 1 = p by omega] at h
  omega
theorem amt_2048 {p : Nat} (hp : 1 ≤ p) : amt p ≤ 2048 * 2 ^ ((p - 1) / 1024 - 1) := by
  have h := amt_succ (p - 1)
  rw [show p - 1 + 1 = p by omega] at h
  have := amt_2047 (p - 1)
  omega
/-- two writings of one number with as many digits: their exponents differ by at most one -/
theorem wr_close {p d j e i : Nat} (hp : 1 ≤ p) (h1 : wr_g p d j) (h2 : wr_g p e i) (hl : wr_l d = wr_l e) : j ≤ i + 1 := by
  obtain ⟨a1, a2, -, -, ⟨-, a3⟩, -⟩ := h1
  obtain ⟨b1, b2, -, -, ⟨b3, -⟩, -⟩ := h2
  obtain ⟨k, -, q1, q2, q3⟩ := wr_l_char a1 a2
  obtain ⟨m, -, r1, r2, r3⟩ := wr_l_char b1 b2
  have e1 : m = k := by omega
  subst e1
  have hed : e < 10 * d := by
    rw [Nat.pow_succ] at r3
    omega
  have g1 : mid (p + 1) ≤ 3 * mid p := by
    have := amt_dbl hp
    unfold mid
    rw [Nat.add_sub_cancel]
    omega
  have g2 : d * 10 ^ j * 2 ^ 25 ≤ 3 * (e * 10 ^ i * 2 ^ 25) := by omega
  rcases Nat.lt_or_ge (i + 1) j with c | c
  · obtain ⟨t, rfl⟩ : ∃ t, j = i + 2 + t := ⟨j - (i + 2), by omega⟩
    have hX := wr_p10 i
    have ht := wr_p10 t
    have e2 : 10 ^ (i + 2 + t) = 10 ^ i * 100 * 10 ^ t := by rw [Nat.pow_add, Nat.pow_add]
    have g3 : d * (10 ^ i * 100) ≤ d * 10 ^ (i + 2 + t) := by
      apply Nat.mul_le_mul_left
      rw [e2]
      exact Nat.le_mul_of_pos_right _ ht
    have g4 : d * (10 ^ i * 100) = d * 10 ^ i * 100 := by rw [Nat.mul_assoc]
    have g5 : (e + 1) * 10 ^ i ≤ 10 * d * 10 ^ i := Nat.mul_le_mul_right _ hed
    rw [Nat.add_mul, Nat.one_mul, Nat.mul_assoc 10 d] at g5
    omega
  · exact c
/-! the exponent in the code -/
theorem wr_x_pos {j : Nat} (h : 12 ≤ j) : wr_x j = nI (j - 12) := pk_sub h
theorem wr_x_neg {j : Nat} (h : j ≤ 12) : wr_x j = -nI (12 - j) := hn_subneg h
theorem wr_x_toInt {j : Nat} (h : j ≤ 16) : (wr_x j).toInt = (j : Int) - 12 := pk_sub_toInt (b := 12) (by omega) (by decide)
theorem wr_oi (n : Nat) : nI n = Int32.ofInt (n : Int) := Int32.ofInt_eq_ofNat.symm
theorem wr_y_succ (n : Nat) : wr_y (n + 1) = wr_x n := by
  unfold wr_y wr_x
  rw [show (13 : Int32) = nI 13 from rfl, show (12 : Int32) = nI 12 from rfl, wr_oi, wr_oi, wr_oi, wr_oi, ← Int32.ofInt_sub, ← Int32.ofInt_sub]
  congr 1
  omega
theorem wr_y_dec (n : Nat) : wr_x n + (-1) = wr_y n := by
  unfold wr_y wr_x
  rw [show (13 : Int32) = nI 13 from rfl, show (12 : Int32) = nI 12 from rfl, show (-1 : Int32) = Int32.ofInt (-1) from rfl, wr_oi, wr_oi, wr_oi, ← Int32.ofInt_sub, ← Int32.ofInt_sub, ← Int32.ofInt_add]
  congr 1
  omega
theorem wr_x_in {j : Nat} (h : j ≤ 16) : ¬ wr_x j < (-12) := by
  rw [Int32.lt_iff_toInt_lt, wr_x_toInt h, show (-12 : Int32).toInt = -12 from rfl]
  omega
theorem wr_x_0le {j : Nat} (h : j ≤ 16) : (0 : Int32) ≤ wr_x j ↔ 12 ≤ j := by
  rw [Int32.le_iff_toInt_le, wr_x_toInt h, show (0 : Int32).toInt = 0 from rfl]
  omega
theorem wr_x_le0 {j : Nat} (h : j ≤ 16) : wr_x j ≤ (0 : Int32) ↔ j ≤ 12 := by
  rw [Int32.le_iff_toInt_le, wr_x_toInt h, show (0 : Int32).toInt = 0 from rfl]
  omega
theorem wr_x_lt0 {j : Nat} (h : j ≤ 16) : wr_x j < (0 : Int32) ↔ j < 12 := by
  rw [Int32.lt_iff_toInt_lt, wr_x_toInt h, show (0 : Int32).toInt = 0 from rfl]
  omega
theorem wr_x_le {i j : Nat} (hi : i ≤ 16) (hj : j ≤ 16) : wr_x i ≤ wr_x j ↔ i ≤ j := by
  rw [Int32.le_iff_toInt_le, wr_x_toInt hi, wr_x_toInt hj]
  omega
theorem wr_x_lt {i j : Nat} (hi : i ≤ 16) (hj : j ≤ 16) : wr_x i < wr_x j ↔ i < j := by
  rw [Int32.lt_iff_toInt_lt, wr_x_toInt hi, wr_x_toInt hj]
  omega
theorem wr_x_add {j l : Nat} (h : 12 ≤ j + l) : wr_x j + nI l = nI (j + l - 12) := by
  unfold wr_x
  rw [show (12 : Int32) = nI 12 from rfl, wr_oi, wr_oi, wr_oi, wr_oi, ← Int32.ofInt_sub, ← Int32.ofInt_add]
  congr 1
  omega
theorem wr_x_sub {i j : Nat} (h : j ≤ i) : wr_x i - wr_x j = nI (i - j) := by
  unfold wr_x
  rw [show (12 : Int32) = nI 12 from rfl, wr_oi, wr_oi, wr_oi, wr_oi, ← Int32.ofInt_sub, ← Int32.ofInt_sub, ← Int32.ofInt_sub]
  congr 1
  omega
/-- a loop over the exponents, from 4 down to -12 -/
theorem hf_down {τ : Type} (stp : Int32 × τ → Option (Int32 × τ)) (I : Nat → τ → Prop) (hs : ∀ n st, n < 17 → I (n + 1) st → ∃ st', stp (wr_x n, st) = some (wr_y n, st') ∧ I n st') :
    ∀ (n : Nat) (st : τ), n ≤ 17 → I n st → I 0 (hf_run stp n (wr_y n, st)).2 := by
  intro n
  induction n with
  | zero =>
    intro st _ h
    rw [hf_run_0]
    exact h
  | succ n ih =>
    intro st hn h
    obtain ⟨st', e, h'⟩ := hs n st (by omega) h
    rw [wr_y_succ, hf_run_some e]
    exact ih st' (by omega) h'
theorem wr_f_pos {A j : Nat} (h : 12 ≤ j) : A / 2 ^ 24 / 10 ^ (j - 12) = wr_f A j := by
  unfold wr_f
  obtain ⟨k, rfl⟩ : ∃ k, j = k + 12 := ⟨j - 12, by omega⟩
  rw [Nat.add_sub_cancel, Nat.div_div_eq_div_mul, Nat.pow_add 10 k 12, show 10 ^ k * 10 ^ 12 * 2 ^ 24 = 2 ^ 24 * 10 ^ k * 10 ^ 12 by ac_rfl, Nat.mul_div_mul_right _ _ (wr_p10 12)]
theorem wr_f_neg {A j : Nat} (h : j ≤ 12) : A * 10 ^ (12 - j) / 2 ^ 24 = wr_f A j := by
  unfold wr_f
  have e : 10 ^ 12 = 10 ^ (12 - j) * 10 ^ j := by
    rw [← Nat.pow_add]
    congr 1
    omega
  rw [e, ← Nat.mul_assoc, Nat.mul_comm (10 ^ j) (2 ^ 24), Nat.mul_div_mul_right _ _ (wr_p10 j)]
/-- the guards of both searches -/
theorem wr_guard {A j n : Nat} (hA : A < 2 ^ 40) (hj : j ≤ 16) (h : wr_f A j < n) (hn : n ≤ 1000000) : A * 10 ^ (12 - j) ≤ 1000000 * 2 ^ 24 := by
  by_cases c : j ≤ 12
  · rw [← wr_f_neg c] at h
    have h2 := (Nat.div_lt_iff_lt_mul (show 0 < 2 ^ 24 by decide)).mp h
    omega
  · rw [show 12 - j = 0 by omega, Nat.pow_zero]
    omega
end
section
/-! the reference's search -/
theorem near_iff {U L T p q e j : Nat} (hp0 : 1 ≤ p) (hp : p < 31744) (hL : 0 < L) (hT : 0 < T) (h1 : L * T = 10 ^ 12) (h2 : U * T = e * 10 ^ j * 2 ^ 24) (nq : Near (fun M => M * L < 2 * U) (fun M => M * L = 2 * U) q) : q = p ↔ wr_I p e j := by
  have key : ∀ M, (M * L < 2 * U ↔ M * 10 ^ 12 < e * 10 ^ j * 2 ^ 25) ∧ (M * L = 2 * U ↔ M * 10 ^ 12 = e * 10 ^ j * 2 ^ 25) := by
    intro M
    have q1 : M * L * T = M * 10 ^ 12 := by rw [Nat.mul_assoc, h1]
    have q2 : 2 * U * T = e * 10 ^ j * 2 ^ 25 := by
      rw [Nat.mul_assoc, h2]
      omega
    constructor
    · rw [← q1, ← q2, Nat.mul_lt_mul_right hT]
    · rw [← q1, ← q2]
      exact ⟨fun y => by rw [y], fun y => Nat.eq_of_mul_eq_mul_right hT y⟩
  have k1 := key (mid p)
  have k2 := key (mid (p + 1))
  have hN : Near (fun M => M * L < 2 * U) (fun M => M * L = 2 * U) p ↔ wr_I p e j := by
    unfold wr_I
    show (p ≤ 31744 ∧ (p = 0 ∨ mid p * L < 2 * U ∨ (mid p * L = 2 * U ∧ p % 2 = 0)) ∧ (p = 31744 ∨ ((¬ mid (p + 1) * L < 2 * U ∧ ¬ mid (p + 1) * L = 2 * U) ∨ (mid (p + 1) * L = 2 * U ∧ p % 2 = 0)))) ↔ _
    rw [k1.1, k1.2, k2.1, k2.2]
    omega
  rw [← hN]
  exact ⟨fun y => y ▸ nq, fun y => near_unique (cmp_frac hL) nq y⟩
theorem hm_parsed_I {p e j : Nat} (hp0 : 1 ≤ p) (hp : p < 31744) (hj : j ≤ 16) (he : e < 2 ^ 20) : hm_parsed (lN e) (wr_x j) = nI p ↔ wr_I p e j := by
  by_cases c : 12 ≤ j
  · obtain ⟨k, rfl⟩ : ∃ k, j = k + 12 := ⟨j - 12, by omega⟩
    rw [wr_x_pos c, Nat.add_sub_cancel, hm_parsed_pos (by omega) (by omega)]
    by_cases c1 : e * 10 ^ k < 100000
    · rw [if_pos c1]
      obtain ⟨q, eq, nq⟩ := hm_nearest_near (U := e * 10 ^ k * 2 ^ 24) (L := 1) (by omega) (by decide) (by decide)
      rw [eq, nI_eq (by have := nq.1; omega) (by omega)]
      refine near_iff hp0 hp (by decide) (T := 10 ^ 12) (wr_p10 12) (Nat.one_mul _) ?_ nq
      rw [Nat.pow_add 10 k 12]
      ac_rfl
    · rw [if_neg c1]
      constructor
      · intro y
        have := (nI_eq (by decide) (by omega)).mp y
        omega
      · intro y
        exfalso
        have hm : mid (p + 1) ≤ 4095 * 2 ^ 29 := by
          rw [← mid_31744]
          rcases Nat.lt_or_ge (p + 1) 31744 with z | z
          · exact Nat.le_of_lt (mid_lt z)
          · exact Nat.le_of_eq (congrArg mid (show p + 1 = 31744 by omega))
        have e2 : e * 10 ^ (k + 12) = e * 10 ^ k * 10 ^ 12 := by rw [Nat.pow_add 10 k 12, Nat.mul_assoc]
        unfold wr_I at y
        rw [e2] at y
        obtain ⟨-, y⟩ := y
        omega
  · have hL : 10 ^ (12 - j) < 2 ^ 61 := Nat.lt_of_le_of_lt (Nat.pow_le_pow_right (by decide) (show 12 - j ≤ 12 by omega)) (by decide)
    rw [wr_x_neg (by omega), hm_parsed_neg (by omega) (by omega)]
    obtain ⟨q, eq, nq⟩ := hm_nearest_near (U := e * 2 ^ 24) (L := 10 ^ (12 - j)) (by omega) (wr_p10 _) hL
    rw [eq, nI_eq (by have := nq.1; omega) (by omega)]
    refine near_iff hp0 hp (wr_p10 _) (T := 10 ^ j) (wr_p10 j) ?_ (Nat.mul_right_comm _ _ _) nq
    rw [← Nat.pow_add]
    congr 1
    omega
theorem hm_length_nat {d : Nat} (h0 : 1 ≤ d) (hd : d < 1000000) : hm_length (lN d) = nI (wr_l d) := by
  obtain ⟨k, hk, e, g1, g2⟩ := wr_l_char h0 hd
  rw [e]
  have hI := hf_inv (hm_length_s2 (lN d)) (fun q => ∃ m : Nat, 1 ≤ m ∧ m ≤ 18 ∧ q = nI m ∧ (m = 1 ∨ 10 ^ (m - 1) ≤ d)) (by
    rintro q t ⟨m, hm1, hm, rfl, hm2⟩ h
    simp only [hm_length_s2] at h
    by_cases c1 : (18 : Int32) ≤ nI m
    · simp only [c1, if_true] at h
      cases h
    · by_cases c2 : lN d < hm_power (nI m)
      · simp only [c1, c2, if_true, if_false] at h
        cases h
      · simp only [c1, c2, if_false] at h
        rw [show (18 : Int32) = nI 18 from rfl, nI_leI (by omega) (by omega)] at c1
        rw [hm_power_nat (by omega), pk_lLT (by omega) (hn_pow10 (by omega))] at c2
        refine ⟨m + 1, by omega, by omega, ?_, Or.inr (by rw [Nat.add_sub_cancel]; omega)⟩
        rw [← Option.some.inj h, nI_1]) 18 1 ⟨1, by decide, by decide, rfl, Or.inl rfl⟩
  have hE := hm_length_end (lN d)
  obtain ⟨m, hm1, hm, e2, hm2⟩ := hI
  rw [e2] at hE
  simp only [hm_length_s2] at hE
  have hm3 : d < 10 ^ m := by
    by_cases c1 : (18 : Int32) ≤ nI m
    · rw [show (18 : Int32) = nI 18 from rfl, nI_leI (by omega) (by omega)] at c1
      have : 10 ^ 6 ≤ 10 ^ m := Nat.pow_le_pow_right (by decide) (by omega)
      omega
    · by_cases c2 : lN d < hm_power (nI m)
      · rw [hm_power_nat (by omega), pk_lLT (by omega) (hn_pow10 (by omega))] at c2
        exact c2
      · simp only [c1, c2, if_false] at hE
        cases hE
  have q1 : k < m := (Nat.pow_lt_pow_iff_right (a := 10) (by decide)).mp (by omega)
  have q2 : m ≤ k + 1 := by
    rcases hm2 with z | z
    · omega
    · have := (Nat.pow_lt_pow_iff_right (a := 10) (n := m - 1) (m := k + 1) (by decide)).mp (by omega)
      omega
  simp only [hm_length]
  rw [e2, show m = k + 1 by omega]
theorem hm_far_nat {A d j l : Nat} (hjl : 12 ≤ j + l) (hj : j ≤ 16) (hl : l ≤ 12) (b1 : d * 10 ^ (j + l - 12) * 2 ^ 24 < 2 ^ 62) (b2 : A * 10 ^ l < 2 ^ 62) : hm_far (lN d) (wr_x j) (nI l) (lN A) = lN ((d * 10 ^ (j + l - 12) * 2 ^ 24 - A * 10 ^ l) + (A * 10 ^ l - d * 10 ^ (j + l - 12) * 2 ^ 24)) := by
  have e24 : ∀ n : Nat, (lN n : Int64) <<< ((24 : Int32).toInt64 &&& 63) = lN (n * 2 ^ 24) := fun n => wb_shl n (k := 24) (by decide)
  unfold hm_far
  dsimp only
  rw [wr_x_add hjl, hm_power_nat (by omega), hm_power_nat (by omega), lN_mul, lN_mul, e24]
  generalize d * 10 ^ (j + l - 12) * 2 ^ 24 = X at b1 ⊢
  generalize A * 10 ^ l = Y at b2 ⊢
  rw [hn_lz X, hn_lz Y, ← Int64.ofInt_sub, hn_abs (by omega) (by omega)]
  congr 1
  omega
theorem wr_D_far {A d j l : Nat} (hjl : 12 ≤ j + l) (hl : l ≤ 12) : wr_D A d j = ((d * 10 ^ (j + l - 12) * 2 ^ 24 - A * 10 ^ l) + (A * 10 ^ l - d * 10 ^ (j + l - 12) * 2 ^ 24)) * 10 ^ (12 - l) ∧ d * 10 ^ j = d * 10 ^ (j + l - 12) * 10 ^ (12 - l) := by
  have e1 : 10 ^ j = 10 ^ (j + l - 12) * 10 ^ (12 - l) := by
    rw [← Nat.pow_add]
    congr 1
    omega
  have e2 : 10 ^ 12 = 10 ^ l * 10 ^ (12 - l) := by
    rw [← Nat.pow_add]
    congr 1
    omega
  have e3 : d * 10 ^ j * 2 ^ 24 = d * 10 ^ (j + l - 12) * 2 ^ 24 * 10 ^ (12 - l) := by
    rw [e1]
    ac_rfl
  have e4 : A * 10 ^ 12 = A * 10 ^ l * 10 ^ (12 - l) := by
    rw [e2, Nat.mul_assoc]
  refine ⟨?_, by rw [e1, Nat.mul_assoc]⟩
  unfold wr_D
  rw [e3, e4, Nat.add_mul, Nat.sub_mul, Nat.sub_mul]
theorem wr_b24 {Y : Nat} (h : Y ≤ 1000000 * 10 ^ 4) : Y * 2 ^ 24 < 2 ^ 62 := by omega
theorem wr_b6 {X Y : Nat} (h : X ≤ Y * 10) (h2 : Y ≤ 1000000 * 2 ^ 24) : X < 2 ^ 62 := by omega
theorem wr_ad {X Y : Nat} (hx : X < 2 ^ 62) (hy : Y < 2 ^ 62) : (X - Y) + (Y - X) < 2 ^ 63 := by omega
theorem hm_nearer_nat {p d j e i : Nat} (hA : amt p < 2 ^ 40) (h1 : wr_g p d j) (h2 : wr_g p e i) (c1 : j ≤ i + 1) (c2 : i ≤ j + 1) :
    hm_nearer (lN d) (wr_x j) (lN e) (wr_x i) (lN (amt p)) = if (wr_D (amt p) d j < wr_D (amt p) e i ∨ (wr_D (amt p) d j = wr_D (amt p) e i ∧ d * 10 ^ j < e * 10 ^ i)) then 1 else 0 := by
  obtain ⟨a1, a2, a3, -, -, a4⟩ := h1
  obtain ⟨b1, b2, b3, -, -, b4⟩ := h2
  generalize amt p = A at *
  obtain ⟨m, hm⟩ : ∃ m, (m = i ∧ i ≤ j) ∨ (m = j ∧ ¬ i ≤ j) := by
    by_cases c : i ≤ j
    · exact ⟨i, Or.inl ⟨rfl, c⟩⟩
    · exact ⟨j, Or.inr ⟨rfl, c⟩⟩
  have ev1 : (if wr_x i ≤ wr_x j then wr_x i else wr_x j) = wr_x m := by
    rw [hn_if (wr_x_le b3 a3)]
    rcases hm with ⟨hm, c⟩ | ⟨hm, c⟩
    · rw [if_pos c, hm]
    · rw [if_neg c, hm]
  have hm16 : m ≤ 16 := by omega
  have ev3 : (if (0 : Int32) ≤ wr_x m then (0 : Int32) else -wr_x m) = nI (12 - m) := by
    rw [hn_if (wr_x_0le hm16)]
    by_cases c : 12 ≤ m
    · rw [if_pos c, show 12 - m = 0 by omega]
      rfl
    · rw [if_neg c, wr_x_neg (by omega), hn_negneg]
  generalize hl : 12 - m = l at ev3
  have l1 : l ≤ 12 := by omega
  have l2 : 12 ≤ j + l := by omega
  have l3 : 12 ≤ i + l := by omega
  have l4 : j + l - 12 ≤ 4 := by omega
  have l5 : i + l - 12 ≤ 4 := by omega
  have l6 : l ≤ 12 - j + 1 := by omega
  have B1 : d * 10 ^ (j + l - 12) ≤ 1000000 * 10 ^ 4 := Nat.mul_le_mul (by omega) (Nat.pow_le_pow_right (by decide) l4)
  have B2 : e * 10 ^ (i + l - 12) ≤ 1000000 * 10 ^ 4 := Nat.mul_le_mul (by omega) (Nat.pow_le_pow_right (by decide) l5)
  have B3 : A * 10 ^ l ≤ A * 10 ^ (12 - j) * 10 := by
    rw [Nat.mul_assoc, ← Nat.pow_succ]
    exact Nat.mul_le_mul_left A (Nat.pow_le_pow_right (by decide) l6)
  obtain ⟨D1, V1⟩ := wr_D_far (A := A) (d := d) l2 l1
  obtain ⟨D2, V2⟩ := wr_D_far (A := A) (d := e) l3 l1
  have B4 := wr_b24 B1
  have B5 := wr_b24 B2
  have B6 := wr_b6 B3 a4
  have F1 := hm_far_nat (A := A) (d := d) l2 a3 l1 B4 B6
  have F2 := hm_far_nat (A := A) (d := e) l3 b3 l1 B5 B6
  have hT := wr_p10 (12 - l)
  unfold hm_nearer
  dsimp only
  rw [ev1, ev3, F1, F2, wr_x_add l2, wr_x_add l3, hm_power_nat (by omega), hm_power_nat (by omega), lN_mul, lN_mul, D1, D2, V1, V2]
  have Q1 := wr_ad B4 B6
  have Q2 := wr_ad B5 B6
  obtain ⟨X1, hX1⟩ : ∃ X, X = (d * 10 ^ (j + l - 12) * 2 ^ 24 - A * 10 ^ l) + (A * 10 ^ l - d * 10 ^ (j + l - 12) * 2 ^ 24) := ⟨_, rfl⟩
  obtain ⟨X2, hX2⟩ : ∃ X, X = (e * 10 ^ (i + l - 12) * 2 ^ 24 - A * 10 ^ l) + (A * 10 ^ l - e * 10 ^ (i + l - 12) * 2 ^ 24) := ⟨_, rfl⟩
  obtain ⟨Y1, hY1⟩ : ∃ X, X = d * 10 ^ (j + l - 12) := ⟨_, rfl⟩
  obtain ⟨Y2, hY2⟩ : ∃ X, X = e * 10 ^ (i + l - 12) := ⟨_, rfl⟩
  rw [← hX1] at Q1 ⊢
  rw [← hX2] at Q2 ⊢
  rw [← hY1] at B1 ⊢
  rw [← hY2] at B2 ⊢
  clear hX1 hX2 hY1 hY2 D1 D2 V1 V2 F1 F2 B3 B4 B5 B6 ev1 ev3 a4 b4
  have he : X1 * 10 ^ (12 - l) = X2 * 10 ^ (12 - l) ↔ X1 = X2 := ⟨fun y => Nat.eq_of_mul_eq_mul_right hT y, fun y => by rw [y]⟩
  have hiff : (X1 * 10 ^ (12 - l) < X2 * 10 ^ (12 - l) ∨ (X1 * 10 ^ (12 - l) = X2 * 10 ^ (12 - l) ∧ Y1 * 10 ^ (12 - l) < Y2 * 10 ^ (12 - l))) ↔ (X1 < X2 ∨ (X1 = X2 ∧ Y1 < Y2)) := by
    rw [Nat.mul_lt_mul_right hT, Nat.mul_lt_mul_right hT, he]
  rw [hn_if hiff, hn_if (pk_lEQ Q1 Q2), hn_if (pk_lLE (show Y2 < 2 ^ 63 by omega) (show Y1 < 2 ^ 63 by omega)), hn_if (pk_lLE Q2 Q1)]
  by_cases z1 : X1 = X2
  · rw [if_pos z1]
    by_cases z2 : Y2 ≤ Y1
    · rw [if_pos z2, if_neg (by omega)]
    · rw [if_neg z2, if_pos (by omega)]
  · rw [if_neg z1]
    by_cases z2 : X2 ≤ X1
    · rw [if_pos z2, if_neg (by omega)]
    · rw [if_neg z2, if_pos (by omega)]
/-- the fields of the reference: nothing found, or the best of P -/
def wr_M (A : Nat) (P : Nat → Nat → Prop) (st : Int32 × Int32) : Prop := (st.1 = 0 ∧ ∀ d j, ¬ P d j) ∨ ∃ d j, st = (nI d, wr_x j) ∧ wr_B A P d j
theorem wr_M_congr {A : Nat} {P Q : Nat → Nat → Prop} {st : Int32 × Int32} (h : ∀ d j, P d j ↔ Q d j) (hM : wr_M A P st) : wr_M A Q st := by
  have e : P = Q := funext fun d => funext fun j => propext (h d j)
  rw [← e]
  exact hM
theorem hm_take_step {p d j : Nat} {P : Nat → Nat → Prop} {st : Int32 × Int32} (hp : 1 ≤ p) (hA : amt p < 2 ^ 40) (hP : ∀ e i, P e i → wr_g p e i) (hst : wr_M (amt p) P st) (hg : wr_g p d j) :
    wr_M (amt p) (fun e i => P e i ∨ (e = d ∧ i = j)) (hm_take st.1 st.2 (lN d) (wr_x j) (lN (amt p))) := by
  have hl := wr_l_le d
  unfold hm_take
  dsimp only
  rw [hm_length_nat hg.1 hg.2.1, lN_i]
  rcases hst with ⟨h0, hn⟩ | ⟨e, i, rfl, hb⟩
  · rw [h0, if_pos rfl, show (100 : Int32) = nI 100 from rfl, if_pos (nI_lt (by omega) (by decide))]
    exact Or.inr ⟨d, j, rfl, wr_B_first hn⟩
  · have ge := hP e i hb.1
    have hl2 := wr_l_le e
    have he := ge.2.1
    dsimp only
    rw [if_neg (nI_ne0 ge.1 (by omega)), nI_l (by omega), hm_length_nat ge.1 he, hn_if (nI_ltI (by omega) (by omega)), hn_if (nI_eq (show wr_l d < 2 ^ 31 by omega) (show wr_l e < 2 ^ 31 by omega))]
    by_cases c1 : wr_l d < wr_l e
    · rw [if_pos c1]
      exact Or.inr ⟨d, j, rfl, wr_B_new hb (Or.inl c1)⟩
    · rw [if_neg c1]
      by_cases c2 : wr_l d = wr_l e
      · rw [if_pos c2, hm_nearer_nat hA hg ge (wr_close hp hg ge c2) (wr_close hp ge hg c2.symm)]
        by_cases c3 : (wr_D (amt p) d j < wr_D (amt p) e i ∨ (wr_D (amt p) d j = wr_D (amt p) e i ∧ d * 10 ^ j < e * 10 ^ i))
        · rw [if_pos c3, if_neg (by decide)]
          exact Or.inr ⟨d, j, rfl, wr_B_new hb (Or.inr ⟨c2, c3⟩)⟩
        · rw [if_neg c3, if_pos rfl]
          refine Or.inr ⟨e, i, rfl, wr_B_old hb ?_⟩
          rintro (g | g)
          · exact c1 g
          · exact c3 g.2
      · rw [if_neg c2]
        refine Or.inr ⟨e, i, rfl, wr_B_old hb ?_⟩
        rintro (g | g)
        · exact c1 g
        · exact c2 g.1
/-- the reference's candidates -/
def wr_C (p d j : Nat) : Prop := j ≤ 16 ∧ wr_f (amt p) j < 999999 ∧ (d = wr_f (amt p) j ∨ d = wr_f (amt p) j + 1) ∧ 1 ≤ d ∧ d % 10 ≠ 0 ∧ wr_I p d j
theorem wr_C_g {p d j : Nat} (hA : amt p < 2 ^ 40) (h : wr_C p d j) : wr_g p d j := by
  obtain ⟨h1, h2, h3, h4, h5, h6⟩ := h
  exact ⟨h4, by omega, h1, h5, h6, wr_guard hA h1 h2 (by decide)⟩
theorem hm_s100_step {p p0 dd j e : Nat} {P : Nat → Nat → Prop} {st : Int32 × Int32} (hp0 : 1 ≤ p) (hp : p < 31744) (hA : amt p < 2 ^ 40) (hj : j ≤ 16) (hpp : p0 % 32768 = p) (hdd : dd < 999999) (he : e ≤ dd + 1) (hgd : amt p * 10 ^ (12 - j) ≤ 1000000 * 2 ^ 24)
    (hP : ∀ e i, P e i → wr_g p e i) (hst : wr_M (amt p) P st) : ∃ st', hm_write_s100 (lN dd) (wr_x j) (lN (amt p)) (nI p0) (lN e, st) = some (lN (e + 1), st') ∧ wr_M (amt p) (fun f i => P f i ∨ ((f = e ∧ i = j) ∧ 1 ≤ e ∧ e % 10 ≠ 0 ∧ wr_I p e j)) st' := by
  have keep : ¬ (1 ≤ e ∧ e % 10 ≠ 0 ∧ wr_I p e j) → wr_M (amt p) (fun f i => P f i ∨ ((f = e ∧ i = j) ∧ 1 ≤ e ∧ e % 10 ≠ 0 ∧ wr_I p e j)) st := by
    intro h
    refine wr_M_congr (fun f i => ?_) hst
    exact ⟨fun g => Or.inl g, fun g => g.elim id (fun g => absurd g.2 h)⟩
  obtain ⟨y0, y1⟩ := st
  simp only [hm_write_s100]
  have eM : nI p0 &&& 32767 = nI p := by
    rw [← hpp]
    exact fa_mask p0 15
  have e10 : lN e - lN e / 10 * 10 = lN (e % 10) := pk_lRem (b := 10) (by omega) (by decide) (by decide)
  rw [lN_1, hn_if (pk_lLT (show dd + 1 < 2 ^ 63 by omega) (show e < 2 ^ 63 by omega)), if_neg (by omega), show (999999 : Int64) = lN 999999 from rfl, hn_if (pk_lLE (by decide) (show dd < 2 ^ 63 by omega)), if_neg (by omega), eM, e10, lN_1, show (1 : Int64) = lN 1 from rfl, hn_if (pk_lLT (show e < 2 ^ 63 by omega) (by decide)), show (0 : Int64) = lN 0 from rfl, hn_if (pk_lEQ (show e % 10 < 2 ^ 63 by omega) (by decide))]
  have hpI := hm_parsed_I (p := p) (e := e) hp0 hp hj (by omega)
  by_cases c1 : e < 1
  · rw [if_pos c1]
    exact ⟨_, rfl, keep (fun g => by omega)⟩
  rw [if_neg c1]
  by_cases c2 : e % 10 = 0
  · rw [if_pos c2]
    exact ⟨_, rfl, keep (fun g => g.2.1 c2)⟩
  rw [if_neg c2]
  by_cases c3 : wr_I p e j
  · rw [if_pos (hpI.mpr c3)]
    have hg : wr_g p e j := ⟨by omega, by omega, hj, c2, c3, hgd⟩
    have hts := hm_take_step hp0 hA hP hst hg
    dsimp only at hts
    obtain ⟨w, hw⟩ : ∃ w, w = hm_take y0 y1 (lN e) (wr_x j) (lN (amt p)) := ⟨_, rfl⟩
    rw [← hw] at hts ⊢
    refine ⟨w, rfl, wr_M_congr (fun f i => ?_) hts⟩
    exact ⟨fun g => g.imp id (fun g => ⟨g, by omega, c2, c3⟩), fun g => g.imp id (fun g => g.1)⟩
  · rw [if_neg (fun g => c3 (hpI.mp g))]
    exact ⟨_, rfl, keep (fun g => c3 g.2.2)⟩
/-- the whole part, as the reference works it out -/
theorem hn_shr63 {a k : Nat} (hk : k < 64) (h : a < 2 ^ 63) : lN a >>> ((nI k).toInt64 &&& 63) = lN (a / 2 ^ k) := by
  rw [wb_c k hk]
  have hd : a / 2 ^ k ≤ a := Nat.div_le_self _ _
  apply Int64.toInt_inj.mp
  have h3 : (lN k).toBitVec.smod 64 = BitVec.ofNat 64 k := by rw [wb_tb, wb_sm k hk]
  have e : (lN a >>> lN k).toInt = (lN a).toInt >>> k := by
    show (lN a >>> lN k).toBitVec.toInt = _
    rw [Int64.toBitVec_shiftRight, h3, BitVec.sshiftRight_eq', BitVec.toInt_sshiftRight, BitVec.toNat_ofNat, Nat.mod_eq_of_lt (by omega)]
    rfl
  rw [e, Int.shiftRight_eq_div_pow, pf_lI (by omega), pf_lI (by omega)]
  rfl
def hm_v9d (v1 : Int64) (x : Int32) : Int64 :=
  (if (if (0 : Int32) ≤ (x : Int32) then (1 : Int32) else (if (9000000000000000000 / hm_power (if (0 : Int32) ≤ (x : Int32) then (x) else (-x)) : Int64) ≤ (v1 : Int64) then (0) else (1))) = (0 : Int32) then (1000000 : Int64) else (if (x : Int32) < (0 : Int32) then ((v1 * hm_power (if (0 : Int32) ≤ (x : Int32) then (x) else (-x)) : Int64) >>> ((24 : Int32).toInt64 &&& 63)) else (((v1 : Int64) >>> ((24 : Int32).toInt64 &&& 63)) / hm_power (if (0 : Int32) ≤ (x : Int32) then (x) else (-x)))))
theorem hm_s13_eq (v1 : Int64) (a0 x : Int32) (st : Int32 × Int32) : hm_write_s13 v1 a0 (x, st) = if (x : Int32) < ((-12) : Int32) then none else some (x + (-1), (hf_run (hm_write_s100 (hm_v9d v1 x) x v1 a0) 2 (hm_v9d v1 x, st)).2) := rfl
theorem hm_v9 {A j : Nat} (hA : A < 2 ^ 40) (hj : j ≤ 16) : ∃ dd : Nat, dd < 2 ^ 62 ∧ (dd = wr_f A j ∨ (999999 ≤ dd ∧ 999999 ≤ wr_f A j)) ∧ hm_v9d (lN A) (wr_x j) = lN dd := by
  have e24 : ∀ n : Nat, n < 2 ^ 63 → (lN n : Int64) >>> ((24 : Int32).toInt64 &&& 63) = lN (n / 2 ^ 24) := fun n hn => hn_shr63 (k := 24) (by decide) hn
  unfold hm_v9d
  rw [hn_if (wr_x_0le hj), hn_if (wr_x_lt0 hj), hn_if (wr_x_0le hj)]
  by_cases c : 12 ≤ j
  · refine ⟨wr_f A j, ?_, Or.inl rfl, ?_⟩
    · rw [← wr_f_pos c]
      have h1 := Nat.div_le_self (A / 2 ^ 24) (10 ^ (j - 12))
      omega
    · rw [if_pos c, if_pos c, if_neg (by decide), if_neg (by omega), e24 _ (by omega), wr_x_pos c, hm_power_nat (by omega), pk_lDiv (by omega) (wr_p10 _) (hn_pow10 (by omega)), wr_f_pos c]
  · have hT := wr_p10 (12 - j)
    have hpw : 10 ^ (12 - j) ≤ 10 ^ 12 := Nat.pow_le_pow_right (by decide) (by omega)
    have hdv := Nat.div_le_self 9000000000000000000 (10 ^ (12 - j))
    rw [if_neg c, if_neg c, wr_x_neg (by omega), hn_negneg, hm_power_nat (by omega), show (9000000000000000000 : Int64) = lN 9000000000000000000 from rfl, pk_lDiv (by decide) hT (by omega), hn_if (pk_lLE (by omega) (by omega))]
    by_cases c2 : 9000000000000000000 / 10 ^ (12 - j) ≤ A
    · refine ⟨1000000, by decide, Or.inr ⟨by decide, ?_⟩, ?_⟩
      · rw [← wr_f_neg (by omega), Nat.le_div_iff_mul_le (by decide)]
        have h1 : 9000000000000000000 < (A + 1) * 10 ^ (12 - j) := by
          rw [← Nat.div_lt_iff_lt_mul hT]
          omega
        rw [Nat.add_mul] at h1
        omega
      · rw [if_pos c2, if_pos rfl]
        rfl
    · have h1 : A * 10 ^ (12 - j) ≤ 9000000000000000000 := by
        have h2 : A ≤ 9000000000000000000 / 10 ^ (12 - j) := by omega
        exact (Nat.le_div_iff_mul_le hT).mp h2
      refine ⟨wr_f A j, ?_, Or.inl rfl, ?_⟩
      · rw [← wr_f_neg (by omega)]
        omega
      · rw [if_neg c2, if_neg (by decide), if_pos (by omega), lN_mul, e24 _ (by omega), wr_f_neg (by omega)]
theorem hm_row {p p0 n : Nat} {st : Int32 × Int32} (hp0 : 1 ≤ p) (hp : p < 31744) (hA : amt p < 2 ^ 40) (hpp : p0 % 32768 = p) (hn : n ≤ 16) (hst : wr_M (amt p) (fun d j => n + 1 ≤ j ∧ wr_C p d j) st) {dd : Nat} (hd1 : dd < 2 ^ 62) (hd2 : dd = wr_f (amt p) n ∨ (999999 ≤ dd ∧ 999999 ≤ wr_f (amt p) n)) :
    wr_M (amt p) (fun d j => n ≤ j ∧ wr_C p d j) (hf_run (hm_write_s100 (lN dd) (wr_x n) (lN (amt p)) (nI p0)) 2 (lN dd, st)).2 := by
  have hP : ∀ e i, (n + 1 ≤ i ∧ wr_C p e i) → wr_g p e i := fun e i h => wr_C_g hA h.2
  by_cases c : dd < 999999
  · have e : dd = wr_f (amt p) n := by omega
    have hgd := wr_guard hA hn (show wr_f (amt p) n < 999999 by omega) (by decide)
    obtain ⟨st1, s1, m1⟩ := hm_s100_step (e := dd) hp0 hp hA hn hpp c (by omega) hgd hP hst
    have hP1 : ∀ f i, ((n + 1 ≤ i ∧ wr_C p f i) ∨ ((f = dd ∧ i = n) ∧ 1 ≤ dd ∧ dd % 10 ≠ 0 ∧ wr_I p dd n)) → wr_g p f i := by
      rintro f i (h | ⟨⟨q1, q2⟩, h1, h2, h3⟩)
      · exact hP f i h
      · rw [q1, q2]
        exact ⟨h1, by omega, hn, h2, h3, hgd⟩
    obtain ⟨st2, s2, m2⟩ := hm_s100_step (e := dd + 1) hp0 hp hA hn hpp c (by omega) hgd hP1 m1
    rw [hf_run_some s1, hf_run_some s2, hf_run_0]
    refine wr_M_congr (fun f i => ?_) m2
    constructor
    · rintro ((h | ⟨⟨q1, q2⟩, h1, h2, h3⟩) | ⟨⟨q1, q2⟩, h1, h2, h3⟩)
      · exact ⟨by omega, h.2⟩
      · rw [q1, q2]
        exact ⟨Nat.le_refl _, hn, by omega, Or.inl e, h1, h2, h3⟩
      · rw [q1, q2]
        exact ⟨Nat.le_refl _, hn, by omega, Or.inr (by omega), h1, h2, h3⟩
    · rintro ⟨h1, h2⟩
      rcases Nat.lt_or_ge n i with z | z
      · exact Or.inl (Or.inl ⟨z, h2⟩)
      · have hi : i = n := by omega
        rw [hi] at h2 ⊢
        obtain ⟨-, -, g3, g4, g5, g6⟩ := h2
        rcases g3 with g3 | g3
        · have y : f = dd := by omega
          rw [y] at g4 g5 g6 ⊢
          exact Or.inl (Or.inr ⟨⟨rfl, rfl⟩, g4, g5, g6⟩)
        · have y : f = dd + 1 := by omega
          rw [y] at g4 g5 g6 ⊢
          exact Or.inr ⟨⟨rfl, rfl⟩, g4, g5, g6⟩
  · have h : hm_write_s100 (lN dd) (wr_x n) (lN (amt p)) (nI p0) (lN dd, st) = none := by
      obtain ⟨y0, y1⟩ := st
      have c2 : (999999 : Int64) ≤ lN dd := (pk_lLE (a := 999999) (by decide) (by omega)).mpr (by omega)
      simp only [hm_write_s100, c2, if_true]
      split <;> rfl
    rw [hf_run_none h]
    refine wr_M_congr (fun f i => ?_) hst
    constructor
    · rintro ⟨h1, h2⟩
      exact ⟨by omega, h2⟩
    · rintro ⟨h1, h2⟩
      refine ⟨?_, h2⟩
      rcases Nat.lt_or_ge n i with z | z
      · exact z
      · have hi : i = n := by omega
        rw [hi] at h2
        have := h2.2.1
        omega
theorem hm_write_best {p p0 : Nat} (hp0 : 1 ≤ p) (hp : p < 31744) (hq : p0 < 65536) (hpp : p0 % 32768 = p) (f1 : Int32) : wr_M (amt p) (wr_C p) (hm_write f1 (nI p0)) := by
  have hA : amt p < 2 ^ 40 := by
    have := amt_lt hp
    rw [amt_31744] at this
    exact this
  have hI := hf_down (hm_write_s13 (lN (amt p)) (nI p0)) (fun n st => wr_M (amt p) (fun d j => n ≤ j ∧ wr_C p d j) st) (by
    intro n st hn hst
    have hn16 : n ≤ 16 := by omega
    obtain ⟨dd, hd1, hd2, e9⟩ := hm_v9 hA hn16
    refine ⟨_, ?_, hm_row hp0 hp hA hpp hn16 hst hd1 hd2⟩
    rw [hm_s13_eq, if_neg (wr_x_in hn16), e9, wr_y_dec])
  have h4 : wr_y 17 = 4 := by decide
  have hM : hm_amount (nI p0) = lN (amt p) := by
    rw [hm_amount_nat (by omega), hpp]
  have e : hm_write f1 (nI p0) = (hf_run (hm_write_s13 (hm_amount (nI p0)) (nI p0)) 17 (4, 0, f1)).2 := rfl
  rw [e, hM, ← h4]
  refine wr_M_congr (fun d j => ⟨fun h => h.2, fun h => ⟨Nat.zero_le _, h⟩⟩) (hI 17 (0, f1) (by decide) (Or.inl ⟨rfl, fun d j h => ?_⟩))
  have := h.2.1
  omega
end
section
/-! the component's search -/
/-- the gap of (d, j), as the component counts it -/
def wr_G (A d j : Nat) : Nat := (d * 10 ^ (j - 12) * 2 ^ 26 - 4 * A * 10 ^ (12 - j)) + (4 * A * 10 ^ (12 - j) - d * 10 ^ (j - 12) * 2 ^ 26)
theorem wr_split (j : Nat) : 10 ^ j = 10 ^ (j - 12) * 10 ^ (12 - (12 - j)) ∧ 10 ^ 12 = 10 ^ (12 - j) * 10 ^ (12 - (12 - j)) := by
  constructor
  · rw [← Nat.pow_add]
    congr 1
    omega
  · rw [← Nat.pow_add]
    congr 1
    omega
theorem wr_sV (d j : Nat) : d * 10 ^ (j - 12) * 2 ^ 26 * 10 ^ (12 - (12 - j)) = 4 * (d * 10 ^ j * 2 ^ 24) := by
  rw [Nat.mul_right_comm (d * 10 ^ (j - 12)) (2 ^ 26), Nat.mul_assoc d, ← (wr_split j).1]
  omega
theorem wr_sA (c A j : Nat) : c * A * 10 ^ (12 - j) * 10 ^ (12 - (12 - j)) = c * (A * 10 ^ 12) := by
  rw [Nat.mul_assoc (c * A), ← (wr_split j).2, Nat.mul_assoc]
theorem wr_D4 (X Y : Nat) : 4 * X - 4 * Y + (4 * Y - 4 * X) = 4 * ((X - Y) + (Y - X)) := by omega
theorem wr_D_G (A d j : Nat) : 4 * wr_D A d j = wr_G A d j * 10 ^ (12 - (12 - j)) := by
  unfold wr_D wr_G
  rw [Nat.add_mul, Nat.sub_mul, Nat.sub_mul, wr_sV, wr_sA, wr_D4]
theorem wr_cmpM (M d j : Nat) : (2 * M * 10 ^ (12 - j) < d * 10 ^ (j - 12) * 2 ^ 26 ↔ M * 10 ^ 12 < d * 10 ^ j * 2 ^ 25) ∧ (d * 10 ^ (j - 12) * 2 ^ 26 < 2 * M * 10 ^ (12 - j) ↔ d * 10 ^ j * 2 ^ 25 < M * 10 ^ 12) := by
  have hT := wr_p10 (12 - (12 - j))
  have y1 : 2 * M * 10 ^ (12 - j) * 10 ^ (12 - (12 - j)) < d * 10 ^ (j - 12) * 2 ^ 26 * 10 ^ (12 - (12 - j)) ↔ 2 * M * 10 ^ (12 - j) < d * 10 ^ (j - 12) * 2 ^ 26 := Nat.mul_lt_mul_right hT
  have y2 : d * 10 ^ (j - 12) * 2 ^ 26 * 10 ^ (12 - (12 - j)) < 2 * M * 10 ^ (12 - j) * 10 ^ (12 - (12 - j)) ↔ d * 10 ^ (j - 12) * 2 ^ 26 < 2 * M * 10 ^ (12 - j) := Nat.mul_lt_mul_right hT
  rw [wr_sV, wr_sA] at y1 y2
  rw [← y1, ← y2]
  clear y1 y2 hT
  omega
theorem mid_le2 {p : Nat} (hp : 1 ≤ p) : mid p ≤ 2 * amt p ∧ mid p < mid (p + 1) ∧ mid (p + 1) ≤ 3 * amt p := by
  have h1 := mid_dn hp
  have h2 := mid_lt (show p < p + 1 by omega)
  have h3 := amt_dbl hp
  have h4 := Nat.two_pow_pos ((p - 1) / 1024 - 1)
  refine ⟨by omega, h2, ?_⟩
  unfold mid
  rw [Nat.add_sub_cancel]
  omega
theorem wr_m {M A X c : Nat} (h : M ≤ c * A) : 2 * M * X ≤ 2 * c * (A * X) := by
  rw [← Nat.mul_assoc (2 * c), Nat.mul_assoc 2 c]
  exact Nat.mul_le_mul_right X (Nat.mul_le_mul_left 2 h)
theorem wr_gle {V O T X : Nat} (h1 : V ≤ T) (h2 : T ≤ 2 * 3 * X) (h3 : O = 4 * X) : (V - O) + (O - V) ≤ 4 * X := by omega
theorem wr_G_le {p d j : Nat} (hp : 1 ≤ p) (h : wr_I p d j) : wr_G (amt p) d j ≤ 4 * (amt p * 10 ^ (12 - j)) := by
  have h1 := (wr_cmpM (mid (p + 1)) d j).1
  have h2 : ¬ mid (p + 1) * 10 ^ 12 < d * 10 ^ j * 2 ^ 25 := by
    obtain ⟨-, h⟩ := h
    rcases h with h | h <;> omega
  have h3 : d * 10 ^ (j - 12) * 2 ^ 26 ≤ 2 * mid (p + 1) * 10 ^ (12 - j) := Nat.le_of_not_lt (fun g => h2 (h1.mp g))
  exact wr_gle h3 (wr_m (mid_le2 hp).2.2) (Nat.mul_assoc _ _ _)
theorem wr_scale {g a b : Nat} (ha : a ≤ 12) (hb : b ≤ 12) : (if lN (10 ^ b) ≤ lN (10 ^ a) then lN g else lN g * (lN (10 ^ b) / lN (10 ^ a))) = lN (g * 10 ^ (b - a)) := by
  rw [hn_if (pk_lLE (hn_pow10 (by omega)) (hn_pow10 (by omega)))]
  by_cases c : 10 ^ b ≤ 10 ^ a
  · have h := (Nat.pow_le_pow_iff_right (a := 10) (by decide)).mp c
    rw [if_pos c, show b - a = 0 by omega, Nat.pow_zero, Nat.mul_one]
  · have h : a ≤ b := by
      rcases Nat.lt_or_ge a b with z | z
      · omega
      · exact absurd (Nat.pow_le_pow_right (by decide) z) c
    rw [if_neg c, pk_lDiv (hn_pow10 (by omega)) (wr_p10 a) (hn_pow10 (by omega)), Nat.pow_div h (by decide), lN_mul]
theorem hx_isLess_nat {d j e i : Nat} (hd : d < 1000000) (he : e < 1000000) (hj : j ≤ 16) (hi : i ≤ 16) (c1 : j ≤ i + 1) (c2 : i ≤ j + 1) : hx_isLess (lN d) (wr_x j) (lN e) (wr_x i) = if d * 10 ^ j < e * 10 ^ i then 1 else 0 := by
  unfold hx_isLess
  rw [hn_if (wr_x_lt hj hi)]
  by_cases c : j < i
  · have hi2 : i = j + 1 := by omega
    subst hi2
    have hq : d * 10 ^ j < e * 10 ^ (j + 1) ↔ d < e * 10 := by
      rw [Nat.pow_succ, Nat.mul_comm (10 ^ j) 10, ← Nat.mul_assoc]
      exact Nat.mul_lt_mul_right (wr_p10 j)
    rw [if_pos c, wr_x_sub (by omega), show j + 1 - j = 1 by omega, hx_power_nat (by decide), show 10 ^ (min 1 12) = 10 from rfl, lN_mul, hn_if (pk_lLE (show e * 10 < 2 ^ 63 by omega) (show d < 2 ^ 63 by omega)), hn_if hq]
    by_cases z : e * 10 ≤ d
    · rw [if_pos z, if_neg (by omega)]
    · rw [if_neg z, if_pos (by omega)]
  · obtain ⟨t, ht⟩ : ∃ t, j = i + t := ⟨j - i, by omega⟩
    subst ht
    have ht : 10 ^ t ≤ 10 ^ 1 := Nat.pow_le_pow_right (by decide) (by omega)
    have hb : d * 10 ^ t ≤ 1000000 * 10 ^ 1 := Nat.mul_le_mul (by omega) ht
    have hq : d * 10 ^ (i + t) < e * 10 ^ i ↔ d * 10 ^ t < e := by
      rw [Nat.pow_add, Nat.mul_comm (10 ^ i), ← Nat.mul_assoc]
      exact Nat.mul_lt_mul_right (wr_p10 i)
    rw [if_neg c, wr_x_sub (by omega), show i + t - i = t by omega, hx_power_nat (by omega), Nat.min_eq_left (by omega), lN_mul, hn_if (pk_lLE (show e < 2 ^ 63 by omega) (show d * 10 ^ t < 2 ^ 63 by omega)), hn_if hq]
    by_cases z : e ≤ d * 10 ^ t
    · rw [if_pos z, if_neg (by omega)]
    · rw [if_neg z, if_pos (by omega)]
theorem wr_gb {g x t : Nat} (h : g ≤ 4 * x) (hx : x ≤ 1000000 * 2 ^ 24) (ht : t ≤ 1) : g * 10 ^ t < 2 ^ 63 := by
  have h1 : 10 ^ t ≤ 10 ^ 1 := Nat.pow_le_pow_right (by decide) ht
  have h2 := Nat.mul_le_mul h h1
  omega
theorem wr_T {g T t m : Nat} (h : T = t + m) : g * 10 ^ T = g * 10 ^ t * 10 ^ m := by rw [h, Nat.pow_add, Nat.mul_assoc]
theorem wr_4 {x y a b T : Nat} (h1 : 4 * x = a * T) (h2 : 4 * y = b * T) (hT : 0 < T) : (x < y ↔ a < b) ∧ (x = y ↔ a = b) := by
  have y1 : a * T < b * T ↔ a < b := Nat.mul_lt_mul_right hT
  rw [← h1, ← h2] at y1
  refine ⟨by omega, fun g => ?_, fun g => ?_⟩
  · apply Nat.eq_of_mul_eq_mul_right hT
    rw [← h1, ← h2, g]
  · rw [g, ← h2] at h1
    omega
theorem hx_nearer_nat {p d j e i : Nat} (hp : 1 ≤ p) (h1 : wr_g p d j) (h2 : wr_g p e i) (c1 : j ≤ i + 1) (c2 : i ≤ j + 1) :
    hx_nearer (nI e) (wr_x i) (lN (wr_G (amt p) e i)) (lN (10 ^ (12 - i))) (lN (wr_G (amt p) d j)) (lN (10 ^ (12 - j))) (lN d) (wr_x j) = if (wr_D (amt p) d j < wr_D (amt p) e i ∨ (wr_D (amt p) d j = wr_D (amt p) e i ∧ d * 10 ^ j < e * 10 ^ i)) then 1 else 0 := by
  obtain ⟨a1, a2, a3, -, a5, a4⟩ := h1
  obtain ⟨b1, b2, b3, -, b5, b4⟩ := h2
  have B1 := wr_gb (wr_G_le hp a5) a4 (show 12 - i - (12 - j) ≤ 1 by omega)
  have B2 := wr_gb (wr_G_le hp b5) b4 (show 12 - j - (12 - i) ≤ 1 by omega)
  have D1 := wr_D_G (amt p) d j
  have D2 := wr_D_G (amt p) e i
  rw [wr_T (show 12 - (12 - j) = (12 - i - (12 - j)) + (12 - max (12 - j) (12 - i)) by omega)] at D1
  rw [wr_T (show 12 - (12 - i) = (12 - j - (12 - i)) + (12 - max (12 - j) (12 - i)) by omega)] at D2
  obtain ⟨k1, k2⟩ := wr_4 D1 D2 (wr_p10 _)
  have hiff : (wr_D (amt p) d j < wr_D (amt p) e i ∨ (wr_D (amt p) d j = wr_D (amt p) e i ∧ d * 10 ^ j < e * 10 ^ i)) ↔ (wr_G (amt p) d j * 10 ^ (12 - i - (12 - j)) < wr_G (amt p) e i * 10 ^ (12 - j - (12 - i)) ∨ (wr_G (amt p) d j * 10 ^ (12 - i - (12 - j)) = wr_G (amt p) e i * 10 ^ (12 - j - (12 - i)) ∧ d * 10 ^ j < e * 10 ^ i)) := by
    rw [k1, k2]
  unfold hx_nearer
  dsimp only
  rw [hn_if hiff, wr_scale (by omega) (by omega), wr_scale (by omega) (by omega), nI_l (by omega), hx_isLess_nat a2 b2 a3 b3 c1 c2, hn_if (pk_lEQ B1 B2), hn_if (pk_lLE B2 B1)]
  clear hiff k1 k2 D1 D2
  obtain ⟨X1, hX1⟩ : ∃ X, X = wr_G (amt p) d j * 10 ^ (12 - i - (12 - j)) := ⟨_, rfl⟩
  obtain ⟨X2, hX2⟩ : ∃ X, X = wr_G (amt p) e i * 10 ^ (12 - j - (12 - i)) := ⟨_, rfl⟩
  rw [← hX1, ← hX2]
  clear hX1 hX2 B1 B2 a4 b4 a5 b5
  by_cases z1 : X1 = X2
  · rw [if_pos z1]
    by_cases z2 : d * 10 ^ j < e * 10 ^ i
    · rw [if_pos z2, if_pos (Or.inr ⟨z1, z2⟩)]
    · rw [if_neg z2, if_neg (by omega)]
  · rw [if_neg z1]
    by_cases z2 : X2 ≤ X1
    · rw [if_pos z2, if_neg (by omega)]
    · rw [if_neg z2, if_pos (by omega)]
/-- the fields of the component: nothing found, or the best of P -/
def wr_X (A : Nat) (P : Nat → Nat → Prop) (st : hf_T5) : Prop := (st.1 = 0 ∧ ∀ d j, ¬ P d j) ∨ ∃ d j, st = (1, nI d, wr_x j, lN (wr_G A d j), lN (10 ^ (12 - j))) ∧ wr_B A P d j
theorem wr_X_congr {A : Nat} {P Q : Nat → Nat → Prop} {st : hf_T5} (h : ∀ d j, P d j ↔ Q d j) (hM : wr_X A P st) : wr_X A Q st := by
  have e : P = Q := funext fun d => funext fun j => propext (h d j)
  rw [← e]
  exact hM
theorem wr_inside {V F T E : Nat} {f3 : Int32} (hV : V < 2 ^ 63) (hF : F < 2 ^ 63) (hT : T < 2 ^ 63) (hFT : F < T) (hf : f3 = 0 ↔ ¬ E = 0) :
    (if (lN V : Int64) ≤ (lN F : Int64) then (if (f3 : Int32) = (0 : Int32) then ((0 : Int32)) else (if (lN V : Int64) = (lN F : Int64) then (1) else (if (lN V : Int64) = (lN T : Int64) then (1) else (0)))) else (if (lN V : Int64) < (lN T : Int64) then (1) else (if (f3 : Int32) = (0 : Int32) then (0) else (if (lN V : Int64) = (lN F : Int64) then (1) else (if (lN V : Int64) = (lN T : Int64) then (1) else (0)))))) = (0 : Int32) ↔ ¬ ((F < V ∨ (F = V ∧ E = 0)) ∧ (V < T ∨ (V = T ∧ E = 0))) := by
  rw [hn_if (pk_lLE hV hF), hn_if hf, hn_if (pk_lEQ hV hF), hn_if (pk_lEQ hV hT), hn_if (pk_lLT hV hT)]
  repeat' split
  all_goals first
    | exact ⟨fun _ => by omega, fun _ => rfl⟩
    | exact ⟨fun h => absurd h (by decide), fun h => absurd (by omega) h⟩
theorem wr_I_iff (p d j : Nat) : ((2 * mid p * 10 ^ (12 - j) < d * 10 ^ (j - 12) * 2 ^ 26 ∨ (2 * mid p * 10 ^ (12 - j) = d * 10 ^ (j - 12) * 2 ^ 26 ∧ p % 2 = 0)) ∧ (d * 10 ^ (j - 12) * 2 ^ 26 < 2 * mid (p + 1) * 10 ^ (12 - j) ∨ (d * 10 ^ (j - 12) * 2 ^ 26 = 2 * mid (p + 1) * 10 ^ (12 - j) ∧ p % 2 = 0))) ↔ wr_I p d j := by
  obtain ⟨k1, k2⟩ := wr_cmpM (mid p) d j
  obtain ⟨k3, k4⟩ := wr_cmpM (mid (p + 1)) d j
  have q1 : 2 * mid p * 10 ^ (12 - j) = d * 10 ^ (j - 12) * 2 ^ 26 ↔ mid p * 10 ^ 12 = d * 10 ^ j * 2 ^ 25 := by
    rw [Nat.eq_iff_le_and_ge, Nat.eq_iff_le_and_ge, ← Nat.not_lt, ← Nat.not_lt, ← Nat.not_lt, ← Nat.not_lt, k1, k2]
  have q2 : d * 10 ^ (j - 12) * 2 ^ 26 = 2 * mid (p + 1) * 10 ^ (12 - j) ↔ d * 10 ^ j * 2 ^ 25 = mid (p + 1) * 10 ^ 12 := by
    rw [Nat.eq_iff_le_and_ge, Nat.eq_iff_le_and_ge, ← Nat.not_lt, ← Nat.not_lt, ← Nat.not_lt, ← Nat.not_lt, k3, k4]
  unfold wr_I
  rw [k1, k4, q1, q2]
theorem wr_gapI {V O : Nat} (hV : V < 2 ^ 63) (hO : O < 2 ^ 63) : (if (lN V : Int64) ≤ (lN O : Int64) then (lN O - lN V) else (lN V - lN O)) = lN ((V - O) + (O - V)) := by
  rw [hn_if (pk_lLE hV hO)]
  by_cases c : V ≤ O
  · rw [if_pos c, lN_sub c]
    congr 1
    omega
  · rw [if_neg c, lN_sub (by omega)]
    congr 1
    omega
theorem wr_bV {d X : Nat} (hd : d < 1000000) (hX : X ≤ 10 ^ 4) : d * X * 2 ^ 26 < 2 ^ 63 := by
  have := Nat.mul_le_mul (show d ≤ 1000000 by omega) hX
  omega
theorem wr_bF {F X c : Nat} (h : F ≤ 2 * c * X) (hc : c ≤ 3) (hX : X ≤ 1000000 * 2 ^ 24) : F < 2 ^ 63 := by
  have := Nat.mul_le_mul (show 2 * c ≤ 6 by omega) hX
  omega
theorem wr_bO {A X : Nat} (hX : A * X ≤ 1000000 * 2 ^ 24) : 4 * A * X < 2 ^ 63 := by
  rw [Nat.mul_assoc]
  omega
theorem hx_offer_step {p d j k : Nat} {P : Nat → Nat → Prop} {st : hf_T5} {f3 : Int32} (hp : 1 ≤ p) (hf3 : f3 = 0 ↔ ¬ p % 2 = 0) (hj : j ≤ 16) (hd0 : 1 ≤ d) (hd : d < 1000000) (hk : wr_l d = k) (hgd : amt p * 10 ^ (12 - j) ≤ 1000000 * 2 ^ 24)
    (hP : ∀ e i, P e i → wr_g p e i ∧ wr_l e = k) (hst : wr_X (amt p) P st) :
    wr_X (amt p) (fun e i => P e i ∨ ((e = d ∧ i = j) ∧ d % 10 ≠ 0 ∧ wr_I p d j)) (hx_offer (lN (4 * amt p)) (lN (2 * mid p)) (lN (2 * mid (p + 1))) f3 st.1 st.2.1 st.2.2.1 st.2.2.2.1 st.2.2.2.2 (lN d) (wr_x j) (lN (10 ^ (j - 12))) (lN (10 ^ (12 - j)))) := by
  have keep : ¬ (d % 10 ≠ 0 ∧ wr_I p d j) → wr_X (amt p) (fun e i => P e i ∨ ((e = d ∧ i = j) ∧ d % 10 ≠ 0 ∧ wr_I p d j)) st := by
    intro h
    refine wr_X_congr (fun f i => ?_) hst
    exact ⟨fun g => Or.inl g, fun g => g.elim id (fun g => absurd g.2 h)⟩
  obtain ⟨m1, m2, m3⟩ := mid_le2 hp
  have e10 : lN d - lN d / 10 * 10 = lN (d % 10) := pk_lRem (b := 10) (by omega) (by decide) (by decide)
  have hV := wr_bV hd (Nat.pow_le_pow_right (n := 10) (by decide) (show j - 12 ≤ 4 by omega))
  have hF := wr_bF (wr_m m1) (by decide) hgd
  have hT := wr_bF (wr_m m3) (by decide) hgd
  have hO := wr_bO hgd
  have hFT : 2 * mid p * 10 ^ (12 - j) < 2 * mid (p + 1) * 10 ^ (12 - j) := Nat.mul_lt_mul_of_pos_right (by omega) (wr_p10 _)
  have eV : (lN d * lN (10 ^ (j - 12)) : Int64) <<< ((26 : Int32).toInt64 &&& 63) = lN (d * 10 ^ (j - 12) * 2 ^ 26) := by
    rw [lN_mul]
    exact wb_shl _ (k := 26) (by decide)
  have hin := wr_inside hV hF hT hFT hf3
  rw [wr_I_iff] at hin
  have eG := wr_gapI hV hO
  unfold hx_offer
  dsimp only
  rw [e10, eV, lN_mul, lN_mul, lN_mul, show (0 : Int64) = lN 0 from rfl, hn_if (pk_lEQ (show d % 10 < 2 ^ 63 by omega) (by decide)), eG, lN_i]
  by_cases c1 : d % 10 = 0
  · rw [if_pos c1]
    exact keep (fun g => g.1 c1)
  rw [if_neg c1]
  by_cases c2 : wr_I p d j
  · rw [if_neg (fun g => hin.mp g c2)]
    have hg : wr_g p d j := ⟨hd0, hd, hj, c1, c2, hgd⟩
    have hc : ∀ Q : Nat → Nat → Prop, ∀ st' : hf_T5, (∀ e i, Q e i ↔ (P e i ∨ (e = d ∧ i = j))) → wr_X (amt p) Q st' → wr_X (amt p) (fun e i => P e i ∨ ((e = d ∧ i = j) ∧ d % 10 ≠ 0 ∧ wr_I p d j)) st' := by
      intro Q st' hQ hX
      refine wr_X_congr (fun f i => ?_) hX
      rw [hQ]
      exact ⟨fun g => g.imp id (fun g => ⟨g, c1, c2⟩), fun g => g.imp id (fun g => g.1)⟩
    rcases hst with ⟨h0, hn⟩ | ⟨e, i, rfl, hb⟩
    · rw [if_pos h0]
      exact hc _ _ (fun _ _ => Iff.rfl) (Or.inr ⟨d, j, rfl, wr_B_first hn⟩)
    · obtain ⟨ge, hke⟩ := hP e i hb.1
      have hl : wr_l d = wr_l e := by omega
      dsimp only
      have eN := hx_nearer_nat hp hg ge (wr_close hp hg ge hl) (wr_close hp ge hg hl.symm)
      unfold wr_G at eN ⊢
      rw [if_neg (show ¬ (1 : Int32) = 0 by decide), eN]
      by_cases c3 : (wr_D (amt p) d j < wr_D (amt p) e i ∨ (wr_D (amt p) d j = wr_D (amt p) e i ∧ d * 10 ^ j < e * 10 ^ i))
      · rw [if_pos c3, if_neg (by decide)]
        exact hc _ _ (fun _ _ => Iff.rfl) (Or.inr ⟨d, j, rfl, wr_B_new hb (Or.inr ⟨hl, c3⟩)⟩)
      · rw [if_neg c3, if_pos rfl]
        refine hc _ _ (fun _ _ => Iff.rfl) (Or.inr ⟨e, i, rfl, wr_B_old hb ?_⟩)
        rintro (g | g)
        · omega
        · exact c3 g.2
  · rw [if_pos (hin.mpr c2)]
    exact keep (fun g => c2 g.2)
end
section
/-! the component's search, row by row and level by level -/
theorem hx_up {j : Nat} (hj : j ≤ 16) : (if (wr_x j : Int32) ≤ (0 : Int32) then ((1 : Int64)) else (hx_power (wr_x j))) = lN (10 ^ (j - 12)) := by
  rw [hn_if (wr_x_le0 hj)]
  by_cases c : j ≤ 12
  · rw [if_pos c, show j - 12 = 0 by omega]
    rfl
  · rw [if_neg c, wr_x_pos (by omega), hx_power_nat (by omega), Nat.min_eq_left (by omega)]
theorem hx_dn {j : Nat} (hj : j ≤ 16) : (if (0 : Int32) ≤ (wr_x j : Int32) then ((1 : Int64)) else (hx_power (-wr_x j))) = lN (10 ^ (12 - j)) := by
  rw [hn_if (wr_x_0le hj)]
  by_cases c : 12 ≤ j
  · rw [if_pos c, show 12 - j = 0 by omega]
    rfl
  · rw [if_neg c, wr_x_neg (by omega), hn_negneg, hx_power_nat (by omega), Nat.min_eq_left (by omega)]
theorem hx_guard {A j : Nat} (hA : A < 2 ^ 40) (hj : j ≤ 16) : (lN (4 * A) / lN (10 ^ (j - 12)) : Int64) ≤ (67108864000000 / lN (10 ^ (12 - j)) : Int64) ↔ A * 10 ^ (12 - j) ≤ 1000000 * 2 ^ 24 := by
  have h1 := Nat.div_le_self (4 * A) (10 ^ (j - 12))
  have h2 := Nat.div_le_self 67108864000000 (10 ^ (12 - j))
  rw [show (67108864000000 : Int64) = lN 67108864000000 from rfl, pk_lDiv (by omega) (wr_p10 _) (hn_pow10 (by omega)), pk_lDiv (by decide) (wr_p10 _) (hn_pow10 (by omega)), pk_lLE (by omega) (by omega)]
  by_cases c : 12 ≤ j
  · rw [show 12 - j = 0 by omega, Nat.pow_zero, Nat.div_one]
    omega
  · rw [show j - 12 = 0 by omega, Nat.pow_zero, Nat.div_one, Nat.le_div_iff_mul_le (wr_p10 _), Nat.mul_assoc]
    omega
theorem wr_f_hx (A j : Nat) : 4 * A * 10 ^ (12 - j) / (10 ^ (j - 12) * 2 ^ 26) = wr_f A j := by
  have h := wr_sV 1 j
  rw [Nat.one_mul, Nat.one_mul] at h
  unfold wr_f
  rw [← Nat.mul_div_mul_right (4 * A * 10 ^ (12 - j)) (10 ^ (j - 12) * 2 ^ 26) (wr_p10 (12 - (12 - j))), wr_sA, h, Nat.mul_div_mul_left _ _ (by decide)]
theorem wr_f_ub {A j : Nat} (h : A * 10 ^ (12 - j) ≤ 1000000 * 2 ^ 24) : wr_f A j ≤ 1000000 := by
  rw [← wr_f_hx]
  have h2 : 1 * 2 ^ 26 ≤ 10 ^ (j - 12) * 2 ^ 26 := Nat.mul_le_mul_right _ (wr_p10 _)
  have h3 : 4 * A * 10 ^ (12 - j) / (10 ^ (j - 12) * 2 ^ 26) ≤ 4 * A * 10 ^ (12 - j) / (1 * 2 ^ 26) := Nat.div_le_div_left h2 (by decide)
  rw [Nat.mul_assoc 4 A] at h3 ⊢
  omega
/-- brought to k digits -/
def wr_c (k e : Nat) : Nat := if 10 ^ (k - 1) ≤ e then (if e ≤ 10 ^ k - 1 then e else 10 ^ k - 1) else 10 ^ (k - 1)
theorem wr_c_in {k : Nat} (hk : 1 ≤ k) (e : Nat) : 10 ^ (k - 1) ≤ wr_c k e ∧ wr_c k e < 10 ^ k := by
  obtain ⟨m, rfl⟩ : ∃ m, k = m + 1 := ⟨k - 1, by omega⟩
  have h := wr_p10 m
  unfold wr_c
  rw [Nat.add_sub_cancel, Nat.pow_succ]
  split
  · split <;> omega
  · omega
theorem wr_c_l {k : Nat} (hk : 1 ≤ k) (hk6 : k ≤ 6) (e : Nat) : wr_l (wr_c k e) = k ∧ 1 ≤ wr_c k e ∧ wr_c k e < 1000000 := by
  obtain ⟨h1, h2⟩ := wr_c_in hk e
  have h3 := wr_p10 (k - 1)
  have h4 : 10 ^ k ≤ 10 ^ 6 := Nat.pow_le_pow_right (by decide) hk6
  have h5 := wr_l_of h1 (by rw [show k - 1 + 1 = k by omega]; exact h2) (by omega)
  exact ⟨by omega, by omega, by omega⟩
/-- the component's candidates with k digits -/
def wr_K (p k d j : Nat) : Prop := j ≤ 16 ∧ amt p * 10 ^ (12 - j) ≤ 1000000 * 2 ^ 24 ∧ (d = wr_c k (wr_f (amt p) j) ∨ d = wr_c k (wr_f (amt p) j + 1)) ∧ d % 10 ≠ 0 ∧ wr_I p d j
theorem wr_K_g {p k d j : Nat} (hk : 1 ≤ k) (hk6 : k ≤ 6) (h : wr_K p k d j) : wr_g p d j ∧ wr_l d = k := by
  obtain ⟨h1, h2, h3, h4, h5⟩ := h
  have q : wr_l d = k ∧ 1 ≤ d ∧ d < 1000000 := by
    rcases h3 with h3 | h3
    · rw [h3]
      exact wr_c_l hk hk6 _
    · rw [h3]
      exact wr_c_l hk hk6 _
  exact ⟨⟨q.2.1, q.2.2, h1, h4, h5, h2⟩, q.1⟩
theorem hx_s79_eq (v8 v7 v6 v3 v1 : Int64) (a1 : Int32) (f0 f1 f2 : Int64) (f3 : Int32) (x : Int64) (st : hf_T5) : hx_tryPower_s79 v8 v7 v6 v3 v1 a1 f0 f1 f2 f3 (x, st) = if v6 + 1 < x then none else some (x + 1, hx_offer f0 f1 f2 f3 st.1 st.2.1 st.2.2.1 st.2.2.2.1 st.2.2.2.2 (if v7 ≤ x then (if x ≤ v8 then x else v8) else v7) a1 v1 v3) := rfl
theorem hx_clip {k e : Nat} (hk : 1 ≤ k) (hk6 : k ≤ 6) (he : e < 2 ^ 62) : (if lN (10 ^ (k - 1)) ≤ lN e then (if lN e ≤ lN (10 ^ k - 1) then lN e else lN (10 ^ k - 1)) else lN (10 ^ (k - 1))) = lN (wr_c k e) := by
  have h1 := hn_pow10 (j := k - 1) (by omega)
  have h2 := hn_pow10 (j := k) (by omega)
  rw [hn_if (pk_lLE h1 (by omega)), hn_if (pk_lLE (show e < 2 ^ 63 by omega) (show 10 ^ k - 1 < 2 ^ 63 by omega))]
  unfold wr_c
  split
  · split <;> rfl
  · rfl
theorem hx_row {p k n : Nat} {st : hf_T5} {f3 : Int32} (hp : 1 ≤ p) (hf3 : f3 = 0 ↔ ¬ p % 2 = 0) (hk : 1 ≤ k) (hk6 : k ≤ 6) (hn : n ≤ 16) (hgd : amt p * 10 ^ (12 - n) ≤ 1000000 * 2 ^ 24)
    (hst : wr_X (amt p) (fun d j => n + 1 ≤ j ∧ wr_K p k d j) st) :
    wr_X (amt p) (fun d j => n ≤ j ∧ wr_K p k d j) (hf_run (hx_tryPower_s79 (lN (10 ^ k - 1)) (lN (10 ^ (k - 1))) (lN (wr_f (amt p) n)) (lN (10 ^ (12 - n))) (lN (10 ^ (n - 12))) (wr_x n) (lN (4 * amt p)) (lN (2 * mid p)) (lN (2 * mid (p + 1))) f3) 2 (lN (wr_f (amt p) n), st)).2 := by
  have hfu := wr_f_ub hgd
  obtain ⟨f, hf⟩ : ∃ f, f = wr_f (amt p) n := ⟨_, rfl⟩
  rw [← hf] at hfu ⊢
  have stp : ∀ (e : Nat) (s : hf_T5), e ≤ f + 1 → hx_tryPower_s79 (lN (10 ^ k - 1)) (lN (10 ^ (k - 1))) (lN f) (lN (10 ^ (12 - n))) (lN (10 ^ (n - 12))) (wr_x n) (lN (4 * amt p)) (lN (2 * mid p)) (lN (2 * mid (p + 1))) f3 (lN e, s) = some (lN (e + 1), hx_offer (lN (4 * amt p)) (lN (2 * mid p)) (lN (2 * mid (p + 1))) f3 s.1 s.2.1 s.2.2.1 s.2.2.2.1 s.2.2.2.2 (lN (wr_c k e)) (wr_x n) (lN (10 ^ (n - 12))) (lN (10 ^ (12 - n)))) := by
    intro e s he
    rw [hx_s79_eq, lN_1, if_neg (fun g => by rw [pk_lLT (by omega) (by omega)] at g; omega), lN_1, hx_clip hk hk6 (by omega)]
  have hP : ∀ e i, (n + 1 ≤ i ∧ wr_K p k e i) → wr_g p e i ∧ wr_l e = k := fun e i h => wr_K_g hk hk6 h.2
  obtain ⟨l1, l2, l3⟩ := wr_c_l hk hk6 f
  obtain ⟨r1, r2, r3⟩ := wr_c_l hk hk6 (f + 1)
  have m1 := hx_offer_step hp hf3 hn l2 l3 l1 hgd hP hst
  have hP1 : ∀ e i, ((n + 1 ≤ i ∧ wr_K p k e i) ∨ ((e = wr_c k f ∧ i = n) ∧ wr_c k f % 10 ≠ 0 ∧ wr_I p (wr_c k f) n)) → wr_g p e i ∧ wr_l e = k := by
    rintro e i (h | ⟨⟨q1, q2⟩, h1, h2⟩)
    · exact hP e i h
    · rw [q1, q2]
      exact ⟨⟨l2, l3, hn, h1, h2, hgd⟩, l1⟩
  have m2 := hx_offer_step hp hf3 hn r2 r3 r1 hgd hP1 m1
  rw [hf_run_some (stp f st (by omega)), hf_run_some (stp (f + 1) _ (by omega)), hf_run_0]
  refine wr_X_congr (fun e i => ?_) m2
  constructor
  · rintro ((h | ⟨⟨q1, q2⟩, h1, h2⟩) | ⟨⟨q1, q2⟩, h1, h2⟩)
    · exact ⟨by omega, h.2⟩
    · rw [q1, q2]
      exact ⟨Nat.le_refl _, hn, hgd, Or.inl (by rw [hf]), h1, h2⟩
    · rw [q1, q2]
      exact ⟨Nat.le_refl _, hn, hgd, Or.inr (by rw [hf]), h1, h2⟩
  · rintro ⟨h1, h2⟩
    rcases Nat.lt_or_ge n i with z | z
    · exact Or.inl (Or.inl ⟨z, h2⟩)
    · have hi : i = n := by omega
      rw [hi] at h2 ⊢
      obtain ⟨-, -, g3, g5, g6⟩ := h2
      rw [← hf] at g3
      rcases g3 with g3 | g3
      · rw [g3] at g5 g6 ⊢
        exact Or.inl (Or.inr ⟨⟨rfl, rfl⟩, g5, g6⟩)
      · rw [g3] at g5 g6 ⊢
        exact Or.inr ⟨⟨rfl, rfl⟩, g5, g6⟩
theorem hx_try_eq (f0 f1 f2 : Int64) (f3 : Int32) (st : hf_T5) (a0 a1 : Int32) : hx_tryPower f0 f1 f2 f3 st.1 st.2.1 st.2.2.1 st.2.2.2.1 st.2.2.2.2 a0 a1 =
    if (f0 / (if (a1 : Int32) ≤ (0 : Int32) then (1) else (hx_power a1)) : Int64) ≤ (67108864000000 / (if (0 : Int32) ≤ (a1 : Int32) then (1) else (hx_power (-a1))) : Int64) then
      (hf_run (hx_tryPower_s79 ((hx_power a0) - 1) (hx_power (a0 - 1)) ((f0 * (if (0 : Int32) ≤ (a1 : Int32) then (1) else (hx_power (-a1)))) / (((if (a1 : Int32) ≤ (0 : Int32) then (1) else (hx_power a1)) : Int64) <<< ((26 : Int32).toInt64 &&& 63))) (if (0 : Int32) ≤ (a1 : Int32) then (1) else (hx_power (-a1))) (if (a1 : Int32) ≤ (0 : Int32) then (1) else (hx_power a1)) a1 f0 f1 f2 f3) 2 ((f0 * (if (0 : Int32) ≤ (a1 : Int32) then (1) else (hx_power (-a1)))) / (((if (a1 : Int32) ≤ (0 : Int32) then (1) else (hx_power a1)) : Int64) <<< ((26 : Int32).toInt64 &&& 63)), st)).2
    else st := rfl
theorem hx_try_row {p k n : Nat} {st : hf_T5} {f3 : Int32} (hp : 1 ≤ p) (hA : amt p < 2 ^ 40) (hf3 : f3 = 0 ↔ ¬ p % 2 = 0) (hk : 1 ≤ k) (hk6 : k ≤ 6) (hn : n ≤ 16)
    (hst : wr_X (amt p) (fun d j => n + 1 ≤ j ∧ wr_K p k d j) st) :
    wr_X (amt p) (fun d j => n ≤ j ∧ wr_K p k d j) (hx_tryPower (lN (4 * amt p)) (lN (2 * mid p)) (lN (2 * mid (p + 1))) f3 st.1 st.2.1 st.2.2.1 st.2.2.2.1 st.2.2.2.2 (nI k) (wr_x n)) := by
  have e26 : (lN (10 ^ (n - 12)) : Int64) <<< ((26 : Int32).toInt64 &&& 63) = lN (10 ^ (n - 12) * 2 ^ 26) := wb_shl _ (k := 26) (by decide)
  have ek : nI k - 1 = nI (k - 1) := pk_sub (b := 1) hk
  rw [hx_try_eq, hx_up hn, hx_dn hn, e26]
  by_cases g : amt p * 10 ^ (12 - n) ≤ 1000000 * 2 ^ 24
  · have hp4 : 10 ^ (n - 12) ≤ 10 ^ 4 := Nat.pow_le_pow_right (by decide) (by omega)
    have hp0 := wr_p10 (n - 12)
    have hO := wr_bO g
    rw [if_pos ((hx_guard hA hn).mpr g), lN_mul, pk_lDiv hO (by omega) (by omega), wr_f_hx, ek, hx_power_nat (by omega), hx_power_nat (by omega), Nat.min_eq_left (by omega), Nat.min_eq_left (by omega), show (1 : Int64) = lN 1 from rfl, lN_sub (wr_p10 k)]
    exact hx_row hp hf3 hk hk6 hn g hst
  · rw [if_neg (fun q => g ((hx_guard hA hn).mp q))]
    refine wr_X_congr (fun e i => ?_) hst
    constructor
    · rintro ⟨h1, h2⟩
      exact ⟨by omega, h2⟩
    · rintro ⟨h1, h2⟩
      refine ⟨?_, h2⟩
      rcases Nat.lt_or_ge n i with z | z
      · exact z
      · have hi : i = n := by omega
        rw [hi] at h2
        exact absurd h2.2.1 g
theorem hx_s126_eq (k : Int32) (v2 v9 v10 : Int64) (v11 x : Int32) (st : hf_T5) : hx_findWriting_s126 k v2 v9 v10 v11 (x, st) = if (x : Int32) < ((-12) : Int32) then none else some (x + (-1), hx_tryPower v2 v9 v10 v11 st.1 st.2.1 st.2.2.1 st.2.2.2.1 st.2.2.2.2 k x) := rfl
theorem hx_level {p k : Nat} {st : hf_T5} {f3 : Int32} (hp : 1 ≤ p) (hA : amt p < 2 ^ 40) (hf3 : f3 = 0 ↔ ¬ p % 2 = 0) (hk : 1 ≤ k) (hk6 : k ≤ 6) (h0 : st.1 = 0) :
    wr_X (amt p) (wr_K p k) (hf_run (hx_findWriting_s126 (nI k) (lN (4 * amt p)) (lN (2 * mid p)) (lN (2 * mid (p + 1))) f3) 17 (4, st)).2 := by
  have hI := hf_down (hx_findWriting_s126 (nI k) (lN (4 * amt p)) (lN (2 * mid p)) (lN (2 * mid (p + 1))) f3) (fun n st => wr_X (amt p) (fun d j => n ≤ j ∧ wr_K p k d j) st) (by
    intro n st hn hst
    refine ⟨_, ?_, hx_try_row hp hA hf3 hk hk6 (show n ≤ 16 by omega) hst⟩
    rw [hx_s126_eq, if_neg (wr_x_in (by omega)), wr_y_dec])
  have h4 : wr_y 17 = 4 := by decide
  rw [← h4]
  refine wr_X_congr (fun d j => ⟨fun h => h.2, fun h => ⟨Nat.zero_le _, h⟩⟩) (hI 17 st (by decide) (Or.inl ⟨h0, fun d j h => ?_⟩))
  have := h.2.1
  omega
theorem hx_s109_eq (v2 v9 v10 : Int64) (v11 x : Int32) (st : hf_T5) : hx_findWriting_s109 v2 v9 v10 v11 (x, st) = if (6 : Int32) < (x : Int32) then none else if st.1 = 0 then some (x + 1, (hf_run (hx_findWriting_s126 x v2 v9 v10 v11) 17 (4, st)).2) else none := rfl
theorem hx_find_best {p : Nat} {f3 : Int32} (hp : 1 ≤ p) (hA : amt p < 2 ^ 40) (hf3 : f3 = 0 ↔ ¬ p % 2 = 0) (hE : ∃ k d j, 1 ≤ k ∧ k ≤ 5 ∧ wr_K p k d j) (f5 f6 : Int32) (f7 f8 : Int64) :
    ∃ k d j, 1 ≤ k ∧ k ≤ 5 ∧ (hf_run (hx_findWriting_s109 (lN (4 * amt p)) (lN (2 * mid p)) (lN (2 * mid (p + 1))) f3) 6 (1, 0, f5, f6, f7, f8)).2 = (1, nI d, wr_x j, lN (wr_G (amt p) d j), lN (10 ^ (12 - j))) ∧ wr_B (amt p) (wr_K p k) d j ∧ ∀ k' e i, 1 ≤ k' → k' < k → ¬ wr_K p k' e i := by
  obtain ⟨k0, d0, j0, q1, q2, q3⟩ := hE
  have hI := hf_inv (hx_findWriting_s109 (lN (4 * amt p)) (lN (2 * mid p)) (lN (2 * mid (p + 1))) f3) (fun q => ∃ k, 1 ≤ k ∧ k ≤ 7 ∧ q.1 = nI k ∧ ((q.2.1 = 0 ∧ ∀ k' e i, 1 ≤ k' → k' < k → ¬ wr_K p k' e i) ∨ (∃ m d j, 1 ≤ m ∧ m < k ∧ q.2 = (1, nI d, wr_x j, lN (wr_G (amt p) d j), lN (10 ^ (12 - j))) ∧ wr_B (amt p) (wr_K p m) d j ∧ ∀ k' e i, 1 ≤ k' → k' < m → ¬ wr_K p k' e i))) (by
    rintro ⟨x, st⟩ t ⟨k, hk1, hk7, hx, hq⟩ h
    have hx : x = nI k := hx
    subst hx
    rw [hx_s109_eq] at h
    by_cases c1 : (6 : Int32) < nI k
    · rw [if_pos c1] at h
      cases h
    · rw [if_neg c1] at h
      rw [show (6 : Int32) = nI 6 from rfl, nI_ltI (by decide) (by omega)] at c1
      by_cases c2 : st.1 = 0
      · rw [if_pos c2] at h
        have hlv := hx_level (st := st) hp hA hf3 hk1 (show k ≤ 6 by omega) c2
        rw [← Option.some.inj h]
        refine ⟨k + 1, by omega, by omega, nI_1 k, ?_⟩
        rcases hq with hq | ⟨m, d, j, -, -, hq, -⟩
        · have hlow := hq.2
          rcases hlv with ⟨l1, l2⟩ | ⟨d, j, l1, l2⟩
          · refine Or.inl ⟨l1, fun k' e i g1 g2 => ?_⟩
            rcases Nat.lt_or_ge k' k with z | z
            · exact hlow k' e i g1 z
            · rw [show k' = k by omega]
              exact l2 e i
          · exact Or.inr ⟨k, d, j, hk1, by omega, l1, l2, hlow⟩
        · have hq : st = (1, nI d, wr_x j, lN (wr_G (amt p) d j), lN (10 ^ (12 - j))) := hq
          rw [hq] at c2
          exact absurd (show (1 : Int32) = 0 from c2) (by decide)
      · rw [if_neg c2] at h
        cases h) 6 (1, 0, f5, f6, f7, f8) ⟨1, by decide, by decide, rfl, Or.inl ⟨rfl, fun k' e i g1 g2 => by omega⟩⟩
  have hEnd := hx_findWriting_end109 (v2 := lN (4 * amt p)) (v9 := lN (2 * mid p)) (v10 := lN (2 * mid (p + 1))) (v11 := f3) (r4 := 0) (r5 := f5) (r6 := f6) (r7 := f7) (r8 := f8)
  obtain ⟨q, hq⟩ : ∃ q, q = hf_run (hx_findWriting_s109 (lN (4 * amt p)) (lN (2 * mid p)) (lN (2 * mid (p + 1))) f3) 6 (1, 0, f5, f6, f7, f8) := ⟨_, rfl⟩
  rw [← hq] at hI hEnd ⊢
  clear hq
  obtain ⟨x, st⟩ := q
  obtain ⟨k, hk1, hk7, hx, hq⟩ := hI
  have hx : x = nI k := hx
  subst hx
  rcases hq with ⟨z1, z2⟩ | ⟨m, d, j, m1, m2, m3, m4, m5⟩
  · have z1 : st.1 = 0 := z1
    rw [hx_s109_eq, if_pos z1] at hEnd
    by_cases c1 : (6 : Int32) < nI k
    · rw [show (6 : Int32) = nI 6 from rfl, nI_ltI (by decide) (by omega)] at c1
      exact absurd q3 (z2 k0 d0 j0 q1 (by omega))
    · rw [if_neg c1] at hEnd
      cases hEnd
  · refine ⟨m, d, j, m1, ?_, m3, m4, m5⟩
    rcases Nat.lt_or_ge 5 m with z | z
    · exact absurd q3 (m5 k0 d0 j0 q1 (by omega))
    · exact z
end
section
/-! both searches find one writing -/
theorem wr_f_bd (A j : Nat) : wr_f A j * (10 ^ j * 2 ^ 24) ≤ A * 10 ^ 12 ∧ A * 10 ^ 12 < wr_f A j * (10 ^ j * 2 ^ 24) + 10 ^ j * 2 ^ 24 := by
  have hY : 0 < 10 ^ j * 2 ^ 24 := Nat.mul_pos (wr_p10 j) (by decide)
  have h1 := Nat.div_mul_le_self (A * 10 ^ 12) (10 ^ j * 2 ^ 24)
  have h2 := Nat.lt_div_mul_add (a := A * 10 ^ 12) hY
  exact ⟨h1, h2⟩
/-- the power of ten that leaves five digits -/
theorem wr_five {A : Nat} (h0 : 1 ≤ A) (hA : A < 2 ^ 40) : ∃ j, j ≤ 12 ∧ 10 ^ 4 * (10 ^ j * 2 ^ 24) ≤ A * 10 ^ 12 ∧ A * 10 ^ 12 < 10 ^ 5 * (10 ^ j * 2 ^ 24) := by
  obtain ⟨k, h1, h2⟩ := pk_least (fun k => A * 10 ^ 12 < 10 ^ 4 * (10 ^ k * 2 ^ 24)) ⟨13, by
    show A * 10 ^ 12 < 10 ^ 4 * (10 ^ 13 * 2 ^ 24)
    omega⟩
  have h1 : A * 10 ^ 12 < 10 ^ 4 * (10 ^ k * 2 ^ 24) := h1
  have hk0 : k ≠ 0 := by
    intro z
    rw [z] at h1
    omega
  have hk : k ≤ 13 := by
    rcases Nat.lt_or_ge 13 k with z | z
    · have : ¬ A * 10 ^ 12 < 10 ^ 4 * (10 ^ 13 * 2 ^ 24) := h2 13 z
      omega
    · exact z
  obtain ⟨j, rfl⟩ : ∃ j, k = j + 1 := ⟨k - 1, by omega⟩
  have h3 : ¬ A * 10 ^ 12 < 10 ^ 4 * (10 ^ j * 2 ^ 24) := h2 j (by omega)
  refine ⟨j, by omega, by omega, ?_⟩
  rw [Nat.pow_succ] at h1
  omega
theorem wr_ev (d j : Nat) : d * 10 ^ j * 2 ^ 25 = 2 * (d * (10 ^ j * 2 ^ 24)) := by
  rw [← Nat.mul_assoc d (10 ^ j) (2 ^ 24)]
  omega
theorem wr_amts {p : Nat} (hp : 1 ≤ p) : mid (p + 1) * 10 ^ 12 = 2 * (amt p * 10 ^ 12) + 2 ^ (p / 1024 - 1) * 10 ^ 12 ∧ mid p * 10 ^ 12 + 2 ^ ((p - 1) / 1024 - 1) * 10 ^ 12 = 2 * (amt p * 10 ^ 12) ∧ amt p * 10 ^ 12 ≤ 2047 * (2 ^ (p / 1024 - 1) * 10 ^ 12) ∧ amt p * 10 ^ 12 ≤ 2048 * (2 ^ ((p - 1) / 1024 - 1) * 10 ^ 12) ∧ 0 < amt p * 10 ^ 12 := by
  have u1 := mid_up p
  have u2 := mid_dn hp
  have u3 := amt_2047 p
  have u4 := amt_2048 hp
  have u5 := amt_pos hp
  refine ⟨by omega, by omega, by omega, by omega, by omega⟩
theorem wr_hW {M A Z : Nat} (h1 : M * 10 ^ 12 < Z * 2 ^ 25) (h2 : A ≤ M) : A * 10 ^ 12 < 2 * (Z * 2 ^ 24) := by
  have h3 : Z * 2 ^ 25 = 2 * (Z * 2 ^ 24) := by
    clear h1
    omega
  rw [← h3]
  exact Nat.lt_of_le_of_lt (Nat.mul_le_mul_right _ h2) h1
theorem wr_hup {Z W M G : Nat} (h1 : Z * 2 ^ 24 ≤ W) (h2 : M = 2 * W + G) (h3 : 0 < G) : Z * 2 ^ 25 < M := by omega
theorem wr_ex {p : Nat} (hp : 1 ≤ p) (hA : amt p < 2 ^ 40) : ∃ k d j, 1 ≤ k ∧ k ≤ 5 ∧ wr_K p k d j := by
  have hA1 := amt_pos hp
  obtain ⟨j, hj, h1, h2⟩ := wr_five hA1 hA
  obtain ⟨b1, b2⟩ := wr_f_bd (amt p) j
  have hY : 0 < 10 ^ j * 2 ^ 24 := Nat.mul_pos (wr_p10 j) (by decide)
  have hf4 : 10 ^ 4 ≤ wr_f (amt p) j := by
    unfold wr_f
    exact (Nat.le_div_iff_mul_le hY).mpr h1
  have hf5 : wr_f (amt p) j < 10 ^ 5 := by
    unfold wr_f
    exact (Nat.div_lt_iff_lt_mul hY).mpr h2
  have hgd := wr_guard hA (show j ≤ 16 by omega) (show wr_f (amt p) j < 1000000 by omega) (Nat.le_refl _)
  obtain ⟨m1, m2, m3, m4, m5⟩ := wr_amts hp
  have main : ∃ d, (d = wr_f (amt p) j ∨ d = wr_f (amt p) j + 1) ∧ d % 10 ≠ 0 ∧ 1 ≤ d ∧ d < 100000 ∧ wr_I p d j := by
    unfold wr_I
    obtain ⟨f, hf⟩ : ∃ f, f = wr_f (amt p) j := ⟨_, rfl⟩
    rw [← hf] at b1 b2 hf4 hf5 ⊢
    obtain ⟨W, hW⟩ : ∃ W, W = amt p * 10 ^ 12 := ⟨_, rfl⟩
    rw [← hW] at b1 b2 h1 m1 m2 m3 m4 m5
    obtain ⟨Y, hYY⟩ : ∃ Y, Y = 10 ^ j * 2 ^ 24 := ⟨_, rfl⟩
    rw [← hYY] at b1 b2 h1 hY
    obtain ⟨G, hG⟩ : ∃ G, G = 2 ^ (p / 1024 - 1) * 10 ^ 12 := ⟨_, rfl⟩
    rw [← hG] at m1 m3
    obtain ⟨G', hG'⟩ : ∃ G', G' = 2 ^ ((p - 1) / 1024 - 1) * 10 ^ 12 := ⟨_, rfl⟩
    rw [← hG'] at m2 m4
    obtain ⟨M1, hM1⟩ : ∃ M1, M1 = mid (p + 1) * 10 ^ 12 := ⟨_, rfl⟩
    obtain ⟨M2, hM2⟩ : ∃ M2, M2 = mid p * 10 ^ 12 := ⟨_, rfl⟩
    rw [← hM1] at m1
    rw [← hM2] at m2
    have e0 := wr_ev f j
    have e1 := wr_ev (f + 1) j
    rw [← hYY] at e0 e1
    rw [Nat.add_mul f 1 Y, Nat.one_mul] at e1
    rw [← hM1, ← hM2]
    clear hW hYY hG hG' hM1 hM2 hgd h2
    by_cases c : (f + 1) % 10 = 0
    · refine ⟨f, Or.inl rfl, by omega, by omega, by omega, ?_⟩
      rw [e0]
      clear e0 e1
      refine ⟨Or.inl (by omega), Or.inl (by omega)⟩
    · refine ⟨f + 1, Or.inr rfl, c, by omega, by omega, ?_⟩
      rw [e1]
      clear e0 e1
      refine ⟨Or.inl (by omega), Or.inl (by omega)⟩
  obtain ⟨d, c1, c2, c3, c4, c5⟩ := main
  obtain ⟨k, hk5, hl, g1, g2⟩ := wr_l_char c3 (show d < 1000000 by omega)
  have hk4 : k ≤ 4 := by
    rcases Nat.lt_or_ge 4 k with z | z
    · have : 10 ^ 5 ≤ 10 ^ k := Nat.pow_le_pow_right (by decide) z
      omega
    · exact z
  refine ⟨k + 1, d, j, by omega, by omega, by omega, hgd, ?_, c2, c5⟩
  have hc : wr_c (k + 1) d = d := by
    unfold wr_c
    rw [Nat.add_sub_cancel, if_pos g1, if_pos (by omega)]
  rcases c1 with c1 | c1
  · left
    rw [← c1, hc]
  · right
    rw [← c1, hc]
/-- a candidate of the reference is one of the component -/
theorem wr_C_K {p d j : Nat} (hA : amt p < 2 ^ 40) (h : wr_C p d j) : wr_K p (wr_l d) d j := by
  have hg := wr_C_g hA h
  obtain ⟨h1, h2, h3, h4, h5, h6⟩ := h
  obtain ⟨k, hk5, hl, g1, g2⟩ := wr_l_char h4 hg.2.1
  have hc : wr_c (k + 1) d = d := by
    unfold wr_c
    rw [Nat.add_sub_cancel, if_pos g1, if_pos (by omega)]
  refine ⟨h1, hg.2.2.2.2.2, ?_, h5, h6⟩
  rw [hl]
  rcases h3 with c1 | c1
  · left
    rw [← c1, hc]
  · right
    rw [← c1, hc]
/-- a candidate that was brought down to 99..9: then 1 and noughts are a nearer one -/
theorem wr_top {p k j : Nat} (hp : 1 ≤ p) (hA : amt p < 2 ^ 40) (hk : 1 ≤ k) (hj : j ≤ 16) (hgd : amt p * 10 ^ (12 - j) ≤ 1000000 * 2 ^ 24) (hf : 10 ^ k ≤ wr_f (amt p) j) (hI : wr_I p (10 ^ k - 1) j) : wr_K p 1 1 (j + k) ∧ (k = 1 → wr_b (amt p) 1 (j + k) (10 ^ k - 1) j) := by
  obtain ⟨b1, b2⟩ := wr_f_bd (amt p) j
  obtain ⟨m1, m2, m3⟩ := mid_le2 hp
  have u1 := mid_up p
  have hg := Nat.two_pow_pos (p / 1024 - 1)
  have q1 : 10 ^ k * (10 ^ j * 2 ^ 24) ≤ amt p * 10 ^ 12 := Nat.le_trans (Nat.mul_le_mul_right _ hf) b1
  have q2 : 10 ^ k * (10 ^ j * 2 ^ 24) = 10 ^ (j + k) * 2 ^ 24 := by
    rw [← Nat.mul_assoc, Nat.mul_comm (10 ^ k), ← Nat.pow_add]
  rw [q2] at q1
  have hJ : j + k ≤ 16 := by
    rcases Nat.lt_or_ge 16 (j + k) with z | z
    · have : 10 ^ 17 ≤ 10 ^ (j + k) := Nat.pow_le_pow_right (by decide) z
      clear b1 b2 q2 hI u1 m3 hgd
      omega
    · exact z
  have hX := wr_p10 j
  have hkk := wr_p10 k
  have q3 : (10 ^ k - 1) * 10 ^ j + 10 ^ j = 10 ^ (j + k) := by
    rw [Nat.sub_mul, Nat.one_mul, Nat.pow_add, Nat.mul_comm (10 ^ j)]
    have : 1 * 10 ^ j ≤ 10 ^ k * 10 ^ j := Nat.mul_le_mul_right _ hkk
    omega
  have hI2 := hI
  obtain ⟨i1, i2⟩ := hI2
  have hlow : mid p * 10 ^ 12 < 10 ^ (j + k) * 2 ^ 25 := by
    clear b1 b2 q1 q2 i2 u1 m1 m2 m3 hgd hI
    omega
  have hmp : amt p ≤ mid p := by
    unfold mid
    omega
  have hW : amt p * 10 ^ 12 < 2 * (10 ^ (j + k) * 2 ^ 24) := wr_hW hlow hmp
  have hJ0 : 0 < 10 ^ (j + k) * 2 ^ 24 := Nat.mul_pos (wr_p10 _) (by decide)
  have hf1 : wr_f (amt p) (j + k) = 1 := by
    have y1 : 1 ≤ wr_f (amt p) (j + k) := by
      unfold wr_f
      exact (Nat.le_div_iff_mul_le hJ0).mpr (by rw [Nat.one_mul]; exact q1)
    have y2 : wr_f (amt p) (j + k) < 2 := by
      unfold wr_f
      exact (Nat.div_lt_iff_lt_mul hJ0).mpr hW
    omega
  have hgd2 : amt p * 10 ^ (12 - (j + k)) ≤ 1000000 * 2 ^ 24 := Nat.le_trans (Nat.mul_le_mul_left _ (Nat.pow_le_pow_right (by decide) (by omega))) hgd
  have hup : 10 ^ (j + k) * 2 ^ 25 < mid (p + 1) * 10 ^ 12 := wr_hup q1 (wr_amts hp).1 (Nat.mul_pos hg (by decide))
  refine ⟨⟨hJ, hgd2, Or.inl ?_, by decide, ?_⟩, fun z => ?_⟩
  · rw [hf1]
    decide
  · unfold wr_I
    rw [Nat.one_mul]
    exact ⟨Or.inl hlow, Or.inl hup⟩
  · subst z
    refine Or.inr ⟨by decide, Or.inl ?_⟩
    unfold wr_D
    rw [Nat.one_mul]
    obtain ⟨W, hW'⟩ : ∃ W, W = amt p * 10 ^ 12 := ⟨_, rfl⟩
    obtain ⟨V, hV'⟩ : ∃ V, V = (10 ^ 1 - 1) * 10 ^ j := ⟨_, rfl⟩
    obtain ⟨Z, hZ'⟩ : ∃ Z, Z = 10 ^ (j + 1) := ⟨_, rfl⟩
    rw [← hV', ← hZ'] at q3
    rw [← hW', ← hZ'] at q1
    rw [← hW', ← hV', ← hZ']
    clear hW' hV' hZ' b1 b2 q2 i1 i2 hlow hW hgd hgd2 hI hup u1 hJ0
    omega
/-- the component's best candidate is one of the reference -/
theorem wr_K_C {p k d j : Nat} (hp : 1 ≤ p) (hA : amt p < 2 ^ 40) (hk : 1 ≤ k) (hk5 : k ≤ 5) (hb : wr_B (amt p) (wr_K p k) d j) (hlow : ∀ k' e i, 1 ≤ k' → k' < k → ¬ wr_K p k' e i) : wr_C p d j := by
  obtain ⟨⟨h1, h2, h3, h4, h5⟩, hbest⟩ := hb
  obtain ⟨m, rfl⟩ : ∃ m, k = m + 1 := ⟨k - 1, by omega⟩
  have hm := wr_p10 m
  have hps : 10 ^ (m + 1) = 10 * 10 ^ m := by rw [Nat.pow_succ, Nat.mul_comm]
  have hp5 : 10 ^ (m + 1) ≤ 10 ^ 5 := Nat.pow_le_pow_right (by decide) hk5
  have hd1 : 1 ≤ d := by omega
  have h10 : m = 0 ∨ 10 ^ m % 10 = 0 := by
    rcases Nat.eq_zero_or_pos m with z | z
    · exact Or.inl z
    · right
      obtain ⟨t, rfl⟩ : ∃ t, m = t + 1 := ⟨m - 1, by omega⟩
      rw [Nat.pow_succ]
      omega
  obtain ⟨f, hf⟩ : ∃ f, f = wr_f (amt p) j := ⟨_, rfl⟩
  rw [← hf] at h3
  have hcl : ∀ e, wr_c (m + 1) e = if 10 ^ m ≤ e then (if e ≤ 10 ^ (m + 1) - 1 then e else 10 ^ (m + 1) - 1) else 10 ^ m := fun e => rfl
  by_cases top : 10 ^ (m + 1) ≤ f
  · exfalso
    have hd : d = 10 ^ (m + 1) - 1 := by
      rcases h3 with h3 | h3
      · rw [h3, hcl, if_pos (by omega), if_neg (by omega)]
      · rw [h3, hcl, if_pos (by omega), if_neg (by omega)]
    rw [hd] at h5
    obtain ⟨t1, t2⟩ := wr_top hp hA hk h1 h2 (by rw [← hf]; exact top) h5
    rcases Nat.eq_zero_or_pos m with z | z
    · subst z
      exact hbest _ _ t1 (by rw [hd]; exact t2 rfl)
    · exact hlow 1 _ _ (by decide) (by omega) t1
  · have hin : d = f ∨ d = f + 1 := by
      by_cases lo : 10 ^ m ≤ f
      · rcases h3 with h3 | h3
        · rw [hcl, if_pos lo, if_pos (by omega)] at h3
          exact Or.inl h3
        · by_cases hi : f + 1 ≤ 10 ^ (m + 1) - 1
          · rw [hcl, if_pos (by omega), if_pos hi] at h3
            exact Or.inr h3
          · rw [hcl, if_pos (by omega), if_neg hi] at h3
            left
            omega
      · by_cases lo2 : 10 ^ m ≤ f + 1
        · rcases h3 with h3 | h3
          · rw [hcl, if_neg lo] at h3
            right
            omega
          · rw [hcl, if_pos lo2, if_pos (by omega)] at h3
            exact Or.inr h3
        · have hd : d = 10 ^ m := by
            rcases h3 with h3 | h3
            · rw [hcl, if_neg lo] at h3
              exact h3
            · rw [hcl, if_neg lo2] at h3
              exact h3
          exfalso
          rcases h10 with z | z
          · subst z
            omega
          · rw [hd] at h4
            exact h4 z
    exact ⟨h1, by rw [← hf]; omega, by rw [← hf]; exact hin, hd1, h4, h5⟩
theorem wr_meet {p k d j : Nat} {st : Int32 × Int32} (hp : 1 ≤ p) (hA : amt p < 2 ^ 40) (hk : 1 ≤ k) (hk5 : k ≤ 5) (hb : wr_B (amt p) (wr_K p k) d j) (hlow : ∀ k' e i, 1 ≤ k' → k' < k → ¬ wr_K p k' e i) (hst : wr_M (amt p) (wr_C p) st) : st = (nI d, wr_x j) := by
  have hC := wr_K_C hp hA hk hk5 hb hlow
  have hl := (wr_K_g hk (by omega) hb.1).2
  rcases hst with ⟨-, hn⟩ | ⟨e, i, rfl, he⟩
  · exact absurd hC (hn d j)
  · have n1 : ¬ wr_b (amt p) d j e i := he.2 d j hC
    have hKe := wr_C_K hA he.1
    have hle := wr_l_le e
    have n2 : ¬ wr_b (amt p) e i d j := by
      rcases Nat.lt_trichotomy (wr_l e) k with z | z | z
      · exact absurd hKe (hlow _ _ _ hle.1 z)
      · rw [z] at hKe
        exact hb.2 e i hKe
      · rintro (g | g) <;> omega
    obtain ⟨y1, y2⟩ := wr_same hC.2.2.2.2.1 he.1.2.2.2.2.1 (wr_b_tot n1 n2)
    rw [y1, y2]
/-! the fields that findWriting sets -/
theorem hx_v9 {p : Nat} (hp : 1 ≤ p) (hp2 : p < 31744) (hA : amt p < 2 ^ 40) : lN (4 * amt p) - (if (if (nI (p % 1024) : Int32) = (0 : Int32) then (if (nI p : Int32) ≤ (1024 : Int32) then ((0 : Int32)) else (1)) else (0)) = (0 : Int32) then lN (2 * 2 ^ (p / 1024 - 1)) else lN (2 * 2 ^ (p / 1024 - 1)) / 2) = lN (2 * mid p) := by
  have u := mid_dn hp
  have hs : 2 ^ (p / 1024 - 1) ≤ 2 ^ 30 := Nat.pow_le_pow_right (by decide) (by omega)
  have hs0 := Nat.two_pow_pos (p / 1024 - 1)
  rw [show (0 : Int32) = nI 0 from rfl, hn_if (nI_eq (show p % 1024 < 2 ^ 31 by omega) (by decide)), show (1024 : Int32) = nI 1024 from rfl, hn_if (nI_leI (show p < 2 ^ 31 by omega) (by decide))]
  by_cases c : p % 1024 = 0 ∧ 1024 < p
  · rw [if_pos c.1, if_neg (show ¬ p ≤ 1024 by omega), if_neg (show ¬ (1 : Int32) = nI 0 by decide), show (2 : Int64) = lN 2 from rfl, pk_lDiv (by omega) (by decide) (by decide)]
    have e : 2 ^ (p / 1024 - 1) = 2 * 2 ^ ((p - 1) / 1024 - 1) := by
      rw [show p / 1024 - 1 = ((p - 1) / 1024 - 1) + 1 by omega, Nat.pow_succ]
      omega
    rw [e, lN_sub (by omega)]
    congr 1
    omega
  · have e : p / 1024 - 1 = (p - 1) / 1024 - 1 := by omega
    have e4 : (if p % 1024 = 0 then (if p ≤ 1024 then nI 0 else (1 : Int32)) else nI 0) = nI 0 := by
      by_cases z : p % 1024 = 0
      · rw [if_pos z, if_pos (by omega)]
      · rw [if_neg z]
    rw [e4, if_pos rfl, e, lN_sub (by omega)]
    congr 1
    omega
theorem hx_find_eq {p p0 : Nat} (hp : 1 ≤ p) (hp2 : p < 31744) (hq : p0 < 65536) (hpp : p0 % 32768 = p) (f5 f6 : Int32) (f7 f8 : Int64) : ∃ f3 : Int32, (f3 = 0 ↔ ¬ p % 2 = 0) ∧ (hx_findWriting f5 f6 f7 f8 (nI p0)).2.2.2.2 = (hf_run (hx_findWriting_s109 (lN (4 * amt p)) (lN (2 * mid p)) (lN (2 * mid (p + 1))) f3) 6 (1, 0, f5, f6, f7, f8)).2 := by
  have hA : amt p < 2 ^ 40 := by
    have := amt_lt hp2
    rw [amt_31744] at this
    exact this
  have hs : np_s p = p / 1024 - 1 := by
    unfold np_s
    omega
  have hdp := np_d_lt p
  have eM : nI p0 &&& 32767 = nI p := by
    rw [← hpp]
    exact fa_mask p0 15
  have e2 : (lN (np_d p) : Int64) <<< ((nI (np_s p) + 2 : Int32).toInt64 &&& 63) = lN (4 * amt p) := by
    rw [show (2 : Int32) = nI 2 from rfl, nI_add, wb_shl _ (by omega), ← np_amt (by omega), Nat.pow_add, ← Nat.mul_assoc]
    congr 1
    omega
  have e3 : (2 : Int64) <<< ((nI (np_s p) : Int32).toInt64 &&& 63) = lN (2 * 2 ^ (p / 1024 - 1)) := by
    rw [show (2 : Int64) = lN 2 from rfl, wb_shl _ (by omega), hs]
  have e10 : lN (4 * amt p) + lN (2 * 2 ^ (p / 1024 - 1)) = lN (2 * mid (p + 1)) := by
    rw [lN_add, mid_up]
    congr 1
    omega
  have em : nI p &&& 1023 = nI (p % 1024) := fa_mask p 10
  have em1 : nI p &&& 1 = nI (p % 2) := fa_mask p 1
  have e9 := hx_v9 hp hp2 hA
  refine ⟨if nI (p % 2) = (0 : Int32) then 1 else 0, ?_, ?_⟩
  · rw [show (0 : Int32) = nI 0 from rfl, hn_if (nI_eq (show p % 2 < 2 ^ 31 by omega) (by decide))]
    by_cases z : p % 2 = 0
    · rw [if_pos z]
      exact ⟨fun g => absurd g (by decide), fun g => absurd z g⟩
    · rw [if_neg z]
      exact ⟨fun _ => z, fun _ => rfl⟩
  · unfold hx_findWriting
    dsimp only
    rw [eM, hx_digitsOf_nat (by omega), hx_placeOf_nat (by omega), nI_l (by omega), e2, e3, em, em1, e9, e10]
theorem wr_both {p0 : Nat} (hq : p0 < 65536) (h31 : p0 / 1024 % 32 ≠ 31) (hd : np_d p0 ≠ 0) (f5 f6 : Int32) (f7 f8 : Int64) (g1 : Int32) : ∃ d j : Nat, (hx_findWriting f5 f6 f7 f8 (nI p0)).2.2.2.2.2.1 = nI d ∧ (hx_findWriting f5 f6 f7 f8 (nI p0)).2.2.2.2.2.2.1 = wr_x j ∧ hm_write g1 (nI p0) = (nI d, wr_x j) := by
  obtain ⟨p, hpp⟩ : ∃ p, p0 % 32768 = p := ⟨_, rfl⟩
  have hp2 : p < 31744 := by omega
  have hp : 1 ≤ p := by
    unfold np_d at hd
    split at hd <;> omega
  have hA : amt p < 2 ^ 40 := by
    have := amt_lt hp2
    rw [amt_31744] at this
    exact this
  obtain ⟨f3, hf3, e⟩ := hx_find_eq hp hp2 hq hpp f5 f6 f7 f8
  obtain ⟨k, d, j, k1, k2, e2, hb, hlow⟩ := hx_find_best hp hA hf3 (wr_ex hp hA) f5 f6 f7 f8
  rw [e2] at e
  refine ⟨d, j, ?_, ?_, wr_meet hp hA k1 k2 hb hlow (hm_write_best hp hp2 hq hpp g1)⟩
  · rw [e]
  · rw [e]
theorem eq_digits (f5 f6 : Int32) (f7 f8 : Int64) (g1 a : Int32) : hx_digits f5 f6 f7 f8 a = hm_digits g1 a := by
  unfold hx_digits hm_digits
  rcases np_num a with ⟨a1, a2⟩ | ⟨p, hp, hp31, rfl, a1, a2⟩
  · rw [if_pos a1, if_neg a2]
  have dp := np_d_lt p
  rw [if_neg a1, if_pos a2, hx_digitsOf_nat (by omega), hm_digitsOf_nat (by omega), show (0 : Int32) = nI 0 from rfl, show (0 : Int64) = lN 0 from rfl, hn_if (nI_eq (show np_d p < 2 ^ 31 by omega) (by decide)), hn_if (pk_lEQ (show np_d p < 2 ^ 63 by omega) (by decide))]
  by_cases z : np_d p = 0
  · rw [if_pos z, if_pos z]
  · obtain ⟨d, j, e1, e2, e3⟩ := wr_both hp hp31 z f5 f6 f7 f8 g1
    rw [if_neg z, if_neg z]
    dsimp only
    rw [e1, e3]
theorem eq_exponent (f5 f6 : Int32) (f7 f8 : Int64) (g1 a : Int32) : hx_exponent f5 f6 f7 f8 a = hm_exponent g1 a := by
  unfold hx_exponent hm_exponent
  rcases np_num a with ⟨a1, a2⟩ | ⟨p, hp, hp31, rfl, a1, a2⟩
  · rw [if_pos a1, if_neg a2]
  have dp := np_d_lt p
  rw [if_neg a1, if_pos a2, hx_digitsOf_nat (by omega), hm_digitsOf_nat (by omega), show (0 : Int32) = nI 0 from rfl, show (0 : Int64) = lN 0 from rfl, hn_if (nI_eq (show np_d p < 2 ^ 31 by omega) (by decide)), hn_if (pk_lEQ (show np_d p < 2 ^ 63 by omega) (by decide))]
  by_cases z : np_d p = 0
  · rw [if_pos z, if_pos z]
  · obtain ⟨d, j, e1, e2, e3⟩ := wr_both hp hp31 z f5 f6 f7 f8 g1
    rw [if_neg z, if_neg z]
    dsimp only
    rw [e2, e3]
end
section
set_option maxRecDepth 100000
/-! THE CLAIM OUT OF ONE WALK OF THE LAW'S BODY. Your part is whole_start (and what it stands on); all else here is the same for every law, but numbers. -/
def R_law : String := "HalfFloatLaw"
def lw_P (b : Addr) (xs : List Int32) (args : Array Value) (s : State) : Prop := args = #[.ref b] ∧ s.IntsAt b xs ∧ xs.length ≤ 192 ∧ (Jvm.Cond.and given_1 narrow_1).before args s = true
def lw_Q (_ : Array Value) (s : State) (o : Outcome) (t : State) : Prop := o = .returned (some (.int 1)) ∧ Framed s o t [] 600000 7290000
def lw_Z (below : List Frame) (a : Array Value) (s : State) : State → Prop := fun t => ∃ o, t.status = .running ∧ Ended t below o ∧ lw_Q a s o t
/-- the law's own end, with 1 on the stack, nothing written that was there before, its room as the claim has it -/
theorem lw_ret {p : Program} {l : Launch} {e : Env} {s : State} {m : MethodId} {below : List Frame} {meth : Method} {c : Code} {b : Nat} (hx : p.tables.exec = Jvm.exec) (hb : c.code = code) (hr : meth.sig.returnType = ret) (hlocks : meth.locks = false) {pc : Nat} {H : Heap} {ls : Array Slot} (hdg : decode code pc = .ok (.ireturn, 1)) : W p l e room_1 s m #[Value.ref b] below meth c H [] 600000 7290000 (lw_Z below #[Value.ref b] s) (F0 m pc ls [.int 1]) := by
  intro T hT X
  obtain ⟨fs, hret, hrun, hended, hW, hframe⟩ := X.leave (v := some (.int 1)) (hlocks := hlocks) (fun h => by rw [hr] at h; cases h)
  have hmeth' : T.vm.method? m = some meth := X.method'
  refine ⟨T.setFrames fs, ?_, .returned (some (.int 1)), hrun, hended, rfl, ⟨_, rfl⟩, hW, hframe⟩
  jvm_step X.here [X.here.top, hx, hb, hdg, hmeth', hr, ret, narrow_b1]
  (try refine ⟨rfl, ?_⟩); (try refine ⟨rfl, ?_⟩)
  first | (intro acts; rw [hret _ acts rfl rfl rfl]) | rw [hret _ _ rfl rfl rfl]
  exact Steps.refl _
/-- what holds at the law's entry: the machine, the code, the tables' words (any of lw_tbl by 'hts w (by decide +kernel)'), the script of L ints xs at the cell b, what the Statement gives of the start (any of its parts by flat_of_before) -/
def lw_At (p : Program) (s : State) (m : MethodId) (meth : Method) (c : Code) (b L : Nat) (xs : Nat → Int32) : Prop :=
  p.tables.exec = Jvm.exec ∧ c.code = code ∧ meth.sig.returnType = ret ∧ c.maxLocals = 4 ∧ s.vm.findClass R_law = some m.cls ∧ (∀ w ∈ lw_tbl, w.before #[Value.ref b] s = true) ∧ va_X b L xs s s.heap ∧ b < s.heap.size ∧ meth.locks = false ∧ (Jvm.Cond.and given_1 narrow_1).before #[Value.ref b] s = true
set_option maxHeartbeats 1000000 in
set_option maxRecDepth 100000 in
theorem met_X0_init (l : Launch) (h0 : Nat) : Met l yX0_init (ws_ yX0_init cX0_init 1 none) ({ frames := 1, cells := 0, slots := 0, locals := 12 } : Room) (fun v _ => v = ([.ref h0] : List Value).toArray) (va_Sv (fun _ => True)) 0 0 (fun _ => False) := by
  refine Met.ofW (cc := cX0_init) (maxL := 1) (ret := none) (by decide) rfl ?_
  intro p e s m args below meth c s₁ B hml hv
  subst hv
  have hx := B.exec
  have hb := B.bytes
  have hr := B.returns
  have hts := atoms_spec (ws := (ws_ yX0_init cX0_init 1 none)) B.pre
  have hts : ∀ w ∈ lw_all, w.before _ s = true := fun w h => hts w (List.mem_cons_of_mem _ h)
  have hown : s.vm.findClass RX0 = some m.cls := findClass_of_methodNamed B.named
  have hlocks := B.notSynchronized
  have hl := lv_entry ([.ref h0]) (n := 1) (Nat.le_of_ble_eq_true rfl)
  rw [lg_entry_eq]
  generalize (lg_sl ([.ref h0]) ++ List.replicate (1 - (lg_sl ([.ref h0])).length) Slot.unset).toArray = ls at hl ⊢
  have hl : lv_has ls 1 [(0, .ref h0)] := hl
  refine lv_aload_n hx hb dX0_init_0 rfl (lv_at hl 0 rfl) ?_
  refine W.objInit hx hb hown (hts _ q14) (hts _ q15) (hts _ q16) rfl (by rw [hml]; exact hl.1) rfl dX0_init_1 (Nat.le_of_ble_eq_true rfl) (Nat.le_of_ble_eq_true rfl) ?_
  refine W.eq (g2 := F0 m 4 ls []) rfl ?_
  exact W.vret hx hb hr (fun t ht hW => ⟨rfl, trivial, ht⟩) (fun q h => by cases h) dX0_init_4
set_option maxHeartbeats 1000000 in
set_option maxRecDepth 100000 in
theorem met_X1_init (l : Launch) (h0 : Nat) : Met l yX1_init (ws_ yX1_init cX1_init 1 none) ({ frames := 1, cells := 0, slots := 0, locals := 12 } : Room) (fun v _ => v = ([.ref h0] : List Value).toArray) (va_Sv (fun _ => True)) 0 0 (fun _ => False) := by
  refine Met.ofW (cc := cX1_init) (maxL := 1) (ret := none) (by decide) rfl ?_
  intro p e s m args below meth c s₁ B hml hv
  subst hv
  have hx := B.exec
  have hb := B.bytes
  have hr := B.returns
  have hts := atoms_spec (ws := (ws_ yX1_init cX1_init 1 none)) B.pre
  have hts : ∀ w ∈ lw_all, w.before _ s = true := fun w h => hts w (List.mem_cons_of_mem _ h)
  have hown : s.vm.findClass RX1 = some m.cls := findClass_of_methodNamed B.named
  have hlocks := B.notSynchronized
  have hl := lv_entry ([.ref h0]) (n := 1) (Nat.le_of_ble_eq_true rfl)
  rw [lg_entry_eq]
  generalize (lg_sl ([.ref h0]) ++ List.replicate (1 - (lg_sl ([.ref h0])).length) Slot.unset).toArray = ls at hl ⊢
  have hl : lv_has ls 1 [(0, .ref h0)] := hl
  refine lv_aload_n hx hb dX1_init_0 rfl (lv_at hl 0 rfl) ?_
  refine W.objInit hx hb hown (hts _ q142) (hts _ q15) (hts _ q16) rfl (by rw [hml]; exact hl.1) rfl dX1_init_1 (Nat.le_of_ble_eq_true rfl) (Nat.le_of_ble_eq_true rfl) ?_
  refine W.eq (g2 := F0 m 4 ls []) rfl ?_
  exact W.vret hx hb hr (fun t ht hW => ⟨rfl, trivial, ht⟩) (fun q h => by cases h) dX1_init_4
theorem hf_kept0 {D : va_G} {q a : Nat} {w : hf_T9} {H H1 : Heap} (h : hf_O0 D q w H) (hk : ∀ x : Nat, x < H.size → ¬ x = a → H1[x]? = H[x]?) (hn : ¬ q = a) : hf_O0 D q w H1 := by
  have h : va_P D vwCl _ H := h
  refine va_P.kept h (fun k x hx => ?_)
  have hz : k < 1 := (List.getElem?_eq_some_iff.mp hx).1
  have hl := (h k x hx).lt
  rw [show k = 0 by omega] at hx
  have e : x.1 = q := by rw [← Option.some.inj hx]
  exact hk _ hl (by rw [e]; exact hn)
theorem hf_kept1 {D : va_G} {q a : Nat} {w : hf_T2} {H H1 : Heap} (h : hf_O1 D q w H) (hk : ∀ x : Nat, x < H.size → ¬ x = a → H1[x]? = H[x]?) (hn : ¬ q = a) : hf_O1 D q w H1 := by
  have h : va_P D vwCl _ H := h
  refine va_P.kept h (fun k x hx => ?_)
  have hz : k < 1 := (List.getElem?_eq_some_iff.mp hx).1
  have hl := (h k x hx).lt
  rw [show k = 0 by omega] at hx
  have e : x.1 = q := by rw [← Option.some.inj hx]
  exact hk _ hl (by rw [e]; exact hn)
set_option maxHeartbeats 4000000 in
set_option maxRecDepth 100000 in
/-- the law's loop at its head -/
theorem law_loop {p : Program} {l : Launch} {e : Env} {s : State} {m : MethodId} {below : List Frame} {meth : Method} {c : Code} {dC : Nat → ClassId} {dI : Nat → Nat → Nat} {b L qx qm : Nat} {xs : Nat → Int32} (hL : L ≤ 192) (hx : p.tables.exec = Jvm.exec) (hb : c.code = code) (hr : meth.sig.returnType = ret) (hlocks : meth.locks = false) (hml : c.maxLocals = 4) (hown : s.vm.findClass R_law = some m.cls) (hts : ∀ w ∈ lw_all, w.before #[Value.ref b] s = true) (hX : va_X b L xs s s.heap) (hbl : b < s.heap.size) (hK : va_K (dC, dI) vwCl [] s) (hAx : s.heap.size ≤ qx) (hAm : s.heap.size ≤ qm) (hne : ¬ qx = qm) :
    ∀ (n i : Nat), L < i + n → i ≤ 200 → ∀ (wx : hf_T9) (wm : hf_T2) (H : Heap) (locs : List Loc), hf_O0 (dC, dI) qx wx H → hf_O1 (dC, dI) qm wm H → va_S (fun q => s.heap.size ≤ q) s.heap H locs → ∀ ls : Array Slot, lv_has ls 4 [(3, .int (nI i)), (2, .ref qm), (1, .ref qx), (0, .ref b)] → W p l e room_1 s m #[Value.ref b] below meth c H locs 2 11 (lw_Z below #[Value.ref b] s) (F0 m 18 ls []) := by
  intro n
  induction n with
  | zero =>
    intro i h1 h2 wx wm H locs hPx hPm hS ls hl
    have hbA : ¬ (fun q => s.heap.size ≤ q) b := by show ¬ s.heap.size ≤ b; omega
    have cnd : nI L - 3 < nI i := by
      rw [Int32.lt_iff_toInt_lt, show (3 : Int32) = nI 3 from rfl, pk_sub_toInt (by omega) (by omega), nI_toInt (by omega)]
      omega
    refine lv_iload_n hx hb dL_law_18 rfl (lv_at hl 0 rfl) ?_
    refine lv_aload_n hx hb dL_law_19 rfl (lv_at hl 3 rfl) ?_
    refine va_slen hx hb hX hbl hbA hS dL_law_20 ?_
    refine lv_iconst (v := 3) hx hb dL_law_21 (by decide) ?_
    refine lv_isub hx hb dL_law_22 ?_
    refine lv_icmp_gt (tgt := 347) hx hb dL_law_23 (by decide) (fun c1 => ?_) (fun c1 => absurd cnd c1)
    refine lv_iconst (v := 1) hx hb dL_law_347 (by decide) ?_
    refine va_forget (fun q h => hS.2.2 q h) ?_
    refine W.widen (k := 600000) (n := 7290000) (Nat.le_of_ble_eq_true rfl) (Nat.le_of_ble_eq_true rfl) ?_
    exact lw_ret hx hb hr hlocks dL_law_348
  | succ n ih =>
    intro i h1 h2 wx wm H locs hPx hPm hS ls hl
    have hbA : ¬ (fun q => s.heap.size ≤ q) b := by show ¬ s.heap.size ≤ b; omega
    refine lv_iload_n hx hb dL_law_18 rfl (lv_at hl 0 rfl) ?_
    refine lv_aload_n hx hb dL_law_19 rfl (lv_at hl 3 rfl) ?_
    refine va_slen hx hb hX hbl hbA hS dL_law_20 ?_
    refine lv_iconst (v := 3) hx hb dL_law_21 (by decide) ?_
    refine lv_isub hx hb dL_law_22 ?_
    refine lv_icmp_gt (tgt := 347) hx hb dL_law_23 (by decide) (fun c1 => ?_) (fun c1 => ?_)
    · skip
      refine lv_iconst (v := 1) hx hb dL_law_347 (by decide) ?_
      refine va_forget (fun q h => hS.2.2 q h) ?_
      refine W.widen (k := 600000) (n := 7290000) (Nat.le_of_ble_eq_true rfl) (Nat.le_of_ble_eq_true rfl) ?_
      exact lw_ret hx hb hr hlocks dL_law_348
    have hi : i + 3 ≤ L := by
      have c2 : ¬ nI L - 3 < nI i := c1
      rw [Int32.lt_iff_toInt_lt, show (3 : Int32) = nI 3 from rfl, pk_sub_toInt (by omega) (by omega), nI_toInt (by omega)] at c2
      omega
    have hin0 : vp_in (nI i) L := vp_in_nI (by omega) (by omega)
    have hin1 : vp_in (nI i + 1) L := by rw [nI_1]; exact vp_in_nI (by omega) (by omega)
    have hin2 : vp_in (nI i + 2) L := by rw [show (2 : Int32) = nI 2 from rfl, nI_add]; exact vp_in_nI (by omega) (by omega)
    have next : ∀ (wx : hf_T9) (wm : hf_T2) (H : Heap) (locs : List Loc), hf_O0 (dC, dI) qx wx H → hf_O1 (dC, dI) qm wm H → va_S (fun q => s.heap.size ≤ q) s.heap H locs → ∀ ls : Array Slot, lv_has ls 4 [(3, .int (nI i)), (2, .ref qm), (1, .ref qx), (0, .ref b)] → W p l e room_1 s m #[Value.ref b] below meth c H locs 2 11 (lw_Z below #[Value.ref b] s) (F0 m 341 ls []) := by
      intro wx wm H locs hPx hPm hS ls hl
      refine lv_iinc (v := nI (i + 3)) (lv' := [(3, .int (nI (i + 3))), (2, .ref qm), (1, .ref qx), (0, .ref b)]) hx hb dL_law_341 hl (k := 0) rfl (by rw [← nI_add]; rfl) (by decide) rfl (fun ls hl => ?_)
      refine lv_goto (tgt := 18) hx hb dL_law_344 (by decide) ?_
      exact ih (i + 3) (by omega) (by omega) wx wm H locs hPx hPm hS ls hl
    refine lv_aload_n hx hb dL_law_26 rfl (lv_at hl 3 rfl) ?_
    refine lv_iload_n hx hb dL_law_27 rfl (lv_at hl 0 rfl) ?_
    refine va_sld hx hb hX hbl hbA hS hin0 dL_law_28 ?_
    refine lv_bipush (v := 15) hx hb dL_law_29 (by decide) ?_
    refine lv_iand hx hb dL_law_31 ?_
    refine lv_topi (fun k ek => ?_)
    by_cases hout : k.toInt < 0 ∨ 8 < k.toInt
    · refine lv_tableOut (tgt := 341) hx hb dL_law_32 hout (by decide) ?_
      exact next wx wm H locs hPx hPm hS ls hl
    by_cases hk0 : k.toInt = 0
    · refine lv_tableIn (off := 52) (tgt := 84) hx hb dL_law_32 (by omega) (by omega) (by rw [hk0]; rfl) (by decide) ?_
      refine lv_aload_n hx hb dL_law_84 rfl (lv_at hl 2 rfl) ?_
      refine lv_aload_n hx hb dL_law_85 rfl (lv_at hl 3 rfl) ?_
      refine lv_iload_n hx hb dL_law_86 rfl (lv_at hl 0 rfl) ?_
      refine lv_iconst (v := 1) hx hb dL_law_87 (by decide) ?_
      refine lv_iadd hx hb dL_law_88 ?_
      refine va_sld hx hb hX hbl hbA hS hin1 dL_law_89 ?_
      refine lv_aload_n hx hb dL_law_90 rfl (lv_at hl 3 rfl) ?_
      refine lv_iload_n hx hb dL_law_91 rfl (lv_at hl 0 rfl) ?_
      refine lv_iconst (v := 2) hx hb dL_law_92 (by decide) ?_
      refine lv_iadd hx hb dL_law_93 ?_
      refine va_sld hx hb hX hbl hbA hS hin2 dL_law_94 ?_
      refine W.callV (r := .int (hx_add (xs (nI i + 1).toNatClampNeg) (xs (nI i + 2).toNatClampNeg))) (W.runV (As := [.int (xs (nI i + 1).toNatClampNeg), .int (xs (nI i + 2).toNatClampNeg)]) (rest := []) ⟨hx, hb, hml, hown, hts⟩ (met_X0_add l qx (xs (nI i + 1).toNatClampNeg) (xs (nI i + 2).toNatClampNeg)) (cwV 2 hts (lw_V q45 q46 q47 q7 q48) rfl rfl rfl (by decide +kernel) ⟨Nat.le_of_ble_eq_true rfl, Nat.le_of_ble_eq_true rfl⟩) ⟨fun _ _ _ _ q => q, va_recv hK hPx (ci := 0) (q0 := 0) rfl rfl, fun _ _ _ => rfl⟩ rfl rfl hl.1 rfl (lv_room (Nat.le_of_ble_eq_true rfl)) dL_law_95 ⟨Nat.le_of_ble_eq_true rfl, Nat.le_of_ble_eq_true rfl⟩) ?_
      refine W.eq (g2 := F0 m 98 ls [.int (hx_add (xs (nI i + 1).toNatClampNeg) (xs (nI i + 2).toNatClampNeg))]) rfl ?_
      refine lv_aload_n hx hb dL_law_98 rfl (lv_at hl 1 rfl) ?_
      refine lv_aload_n hx hb dL_law_99 rfl (lv_at hl 3 rfl) ?_
      refine lv_iload_n hx hb dL_law_100 rfl (lv_at hl 0 rfl) ?_
      refine lv_iconst (v := 1) hx hb dL_law_101 (by decide) ?_
      refine lv_iadd hx hb dL_law_102 ?_
      refine va_sld hx hb hX hbl hbA hS hin1 dL_law_103 ?_
      refine lv_aload_n hx hb dL_law_104 rfl (lv_at hl 3 rfl) ?_
      refine lv_iload_n hx hb dL_law_105 rfl (lv_at hl 0 rfl) ?_
      refine lv_iconst (v := 2) hx hb dL_law_106 (by decide) ?_
      refine lv_iadd hx hb dL_law_107 ?_
      refine va_sld hx hb hX hbl hbA hS hin2 dL_law_108 ?_
      refine W.callV (r := .int (hm_add (xs (nI i + 1).toNatClampNeg) (xs (nI i + 2).toNatClampNeg))) (W.runV (As := [.int (xs (nI i + 1).toNatClampNeg), .int (xs (nI i + 2).toNatClampNeg)]) (rest := [.int (hx_add (xs (nI i + 1).toNatClampNeg) (xs (nI i + 2).toNatClampNeg))]) ⟨hx, hb, hml, hown, hts⟩ (met_X1_add l qm (xs (nI i + 1).toNatClampNeg) (xs (nI i + 2).toNatClampNeg)) (cwV 2 hts (lw_V q150 q151 q152 q8 q153) rfl rfl rfl (by decide +kernel) ⟨Nat.le_of_ble_eq_true rfl, Nat.le_of_ble_eq_true rfl⟩) ⟨fun _ _ _ _ q => q, va_recv hK hPm (ci := 1) (q0 := 0) rfl rfl, fun _ _ _ => rfl⟩ rfl rfl hl.1 rfl (lv_room (Nat.le_of_ble_eq_true rfl)) dL_law_109 ⟨Nat.le_of_ble_eq_true rfl, Nat.le_of_ble_eq_true rfl⟩) ?_
      refine W.eq (g2 := F0 m 112 ls [.int (hm_add (xs (nI i + 1).toNatClampNeg) (xs (nI i + 2).toNatClampNeg)), .int (hx_add (xs (nI i + 1).toNatClampNeg) (xs (nI i + 2).toNatClampNeg))]) rfl ?_
      refine lv_icmp_eq (tgt := 341) hx hb dL_law_112 (by decide) (fun c2 => ?_) (fun c2 => ?_)
      · exact next wx wm _ _ hPx hPm hS ls hl
      · exact absurd (eq_add _ _) c2
    by_cases hk1 : k.toInt = 1
    · refine lv_tableIn (off := 85) (tgt := 117) hx hb dL_law_32 (by omega) (by omega) (by rw [hk1]; rfl) (by decide) ?_
      refine lv_aload_n hx hb dL_law_117 rfl (lv_at hl 2 rfl) ?_
      refine lv_aload_n hx hb dL_law_118 rfl (lv_at hl 3 rfl) ?_
      refine lv_iload_n hx hb dL_law_119 rfl (lv_at hl 0 rfl) ?_
      refine lv_iconst (v := 1) hx hb dL_law_120 (by decide) ?_
      refine lv_iadd hx hb dL_law_121 ?_
      refine va_sld hx hb hX hbl hbA hS hin1 dL_law_122 ?_
      refine lv_aload_n hx hb dL_law_123 rfl (lv_at hl 3 rfl) ?_
      refine lv_iload_n hx hb dL_law_124 rfl (lv_at hl 0 rfl) ?_
      refine lv_iconst (v := 2) hx hb dL_law_125 (by decide) ?_
      refine lv_iadd hx hb dL_law_126 ?_
      refine va_sld hx hb hX hbl hbA hS hin2 dL_law_127 ?_
      refine W.callV (r := .int (hx_multiply (xs (nI i + 1).toNatClampNeg) (xs (nI i + 2).toNatClampNeg))) (W.runV (As := [.int (xs (nI i + 1).toNatClampNeg), .int (xs (nI i + 2).toNatClampNeg)]) (rest := []) ⟨hx, hb, hml, hown, hts⟩ (met_X0_multiply l qx (xs (nI i + 1).toNatClampNeg) (xs (nI i + 2).toNatClampNeg)) (cwV 2 hts (lw_V q71 q72 q73 q7 q74) rfl rfl rfl (by decide +kernel) ⟨Nat.le_of_ble_eq_true rfl, Nat.le_of_ble_eq_true rfl⟩) ⟨fun _ _ _ _ q => q, va_recv hK hPx (ci := 0) (q0 := 0) rfl rfl, fun _ _ _ => rfl⟩ rfl rfl hl.1 rfl (lv_room (Nat.le_of_ble_eq_true rfl)) dL_law_128 ⟨Nat.le_of_ble_eq_true rfl, Nat.le_of_ble_eq_true rfl⟩) ?_
      refine W.eq (g2 := F0 m 131 ls [.int (hx_multiply (xs (nI i + 1).toNatClampNeg) (xs (nI i + 2).toNatClampNeg))]) rfl ?_
      refine lv_aload_n hx hb dL_law_131 rfl (lv_at hl 1 rfl) ?_
      refine lv_aload_n hx hb dL_law_132 rfl (lv_at hl 3 rfl) ?_
      refine lv_iload_n hx hb dL_law_133 rfl (lv_at hl 0 rfl) ?_
      refine lv_iconst (v := 1) hx hb dL_law_134 (by decide) ?_
      refine lv_iadd hx hb dL_law_135 ?_
      refine va_sld hx hb hX hbl hbA hS hin1 dL_law_136 ?_
      refine lv_aload_n hx hb dL_law_137 rfl (lv_at hl 3 rfl) ?_
      refine lv_iload_n hx hb dL_law_138 rfl (lv_at hl 0 rfl) ?_
      refine lv_iconst (v := 2) hx hb dL_law_139 (by decide) ?_
      refine lv_iadd hx hb dL_law_140 ?_
      refine va_sld hx hb hX hbl hbA hS hin2 dL_law_141 ?_
      refine W.callV (r := .int (hm_multiply (xs (nI i + 1).toNatClampNeg) (xs (nI i + 2).toNatClampNeg))) (W.runV (As := [.int (xs (nI i + 1).toNatClampNeg), .int (xs (nI i + 2).toNatClampNeg)]) (rest := [.int (hx_multiply (xs (nI i + 1).toNatClampNeg) (xs (nI i + 2).toNatClampNeg))]) ⟨hx, hb, hml, hown, hts⟩ (met_X1_multiply l qm (xs (nI i + 1).toNatClampNeg) (xs (nI i + 2).toNatClampNeg)) (cwV 2 hts (lw_V q179 q180 q181 q8 q182) rfl rfl rfl (by decide +kernel) ⟨Nat.le_of_ble_eq_true rfl, Nat.le_of_ble_eq_true rfl⟩) ⟨fun _ _ _ _ q => q, va_recv hK hPm (ci := 1) (q0 := 0) rfl rfl, fun _ _ _ => rfl⟩ rfl rfl hl.1 rfl (lv_room (Nat.le_of_ble_eq_true rfl)) dL_law_142 ⟨Nat.le_of_ble_eq_true rfl, Nat.le_of_ble_eq_true rfl⟩) ?_
      refine W.eq (g2 := F0 m 145 ls [.int (hm_multiply (xs (nI i + 1).toNatClampNeg) (xs (nI i + 2).toNatClampNeg)), .int (hx_multiply (xs (nI i + 1).toNatClampNeg) (xs (nI i + 2).toNatClampNeg))]) rfl ?_
      refine lv_icmp_eq (tgt := 341) hx hb dL_law_145 (by decide) (fun c2 => ?_) (fun c2 => ?_)
      · exact next wx wm _ _ hPx hPm hS ls hl
      · exact absurd (eq_multiply _ _) c2
    by_cases hk2 : k.toInt = 2
    · refine lv_tableIn (off := 118) (tgt := 150) hx hb dL_law_32 (by omega) (by omega) (by rw [hk2]; rfl) (by decide) ?_
      refine lv_aload_n hx hb dL_law_150 rfl (lv_at hl 2 rfl) ?_
      refine lv_aload_n hx hb dL_law_151 rfl (lv_at hl 3 rfl) ?_
      refine lv_iload_n hx hb dL_law_152 rfl (lv_at hl 0 rfl) ?_
      refine lv_iconst (v := 1) hx hb dL_law_153 (by decide) ?_
      refine lv_iadd hx hb dL_law_154 ?_
      refine va_sld hx hb hX hbl hbA hS hin1 dL_law_155 ?_
      refine lv_aload_n hx hb dL_law_156 rfl (lv_at hl 3 rfl) ?_
      refine lv_iload_n hx hb dL_law_157 rfl (lv_at hl 0 rfl) ?_
      refine lv_iconst (v := 2) hx hb dL_law_158 (by decide) ?_
      refine lv_iadd hx hb dL_law_159 ?_
      refine va_sld hx hb hX hbl hbA hS hin2 dL_law_160 ?_
      refine W.callV (r := .int (hx_divide (xs (nI i + 1).toNatClampNeg) (xs (nI i + 2).toNatClampNeg))) (W.runV (As := [.int (xs (nI i + 1).toNatClampNeg), .int (xs (nI i + 2).toNatClampNeg)]) (rest := []) ⟨hx, hb, hml, hown, hts⟩ (met_X0_divide l qx (xs (nI i + 1).toNatClampNeg) (xs (nI i + 2).toNatClampNeg)) (cwV 2 hts (lw_V q78 q79 q80 q7 q81) rfl rfl rfl (by decide +kernel) ⟨Nat.le_of_ble_eq_true rfl, Nat.le_of_ble_eq_true rfl⟩) ⟨fun _ _ _ _ q => q, va_recv hK hPx (ci := 0) (q0 := 0) rfl rfl, fun _ _ _ => rfl⟩ rfl rfl hl.1 rfl (lv_room (Nat.le_of_ble_eq_true rfl)) dL_law_161 ⟨Nat.le_of_ble_eq_true rfl, Nat.le_of_ble_eq_true rfl⟩) ?_
      refine W.eq (g2 := F0 m 164 ls [.int (hx_divide (xs (nI i + 1).toNatClampNeg) (xs (nI i + 2).toNatClampNeg))]) rfl ?_
      refine lv_aload_n hx hb dL_law_164 rfl (lv_at hl 1 rfl) ?_
      refine lv_aload_n hx hb dL_law_165 rfl (lv_at hl 3 rfl) ?_
      refine lv_iload_n hx hb dL_law_166 rfl (lv_at hl 0 rfl) ?_
      refine lv_iconst (v := 1) hx hb dL_law_167 (by decide) ?_
      refine lv_iadd hx hb dL_law_168 ?_
      refine va_sld hx hb hX hbl hbA hS hin1 dL_law_169 ?_
      refine lv_aload_n hx hb dL_law_170 rfl (lv_at hl 3 rfl) ?_
      refine lv_iload_n hx hb dL_law_171 rfl (lv_at hl 0 rfl) ?_
      refine lv_iconst (v := 2) hx hb dL_law_172 (by decide) ?_
      refine lv_iadd hx hb dL_law_173 ?_
      refine va_sld hx hb hX hbl hbA hS hin2 dL_law_174 ?_
      refine W.callV (r := .int (hm_divide (xs (nI i + 1).toNatClampNeg) (xs (nI i + 2).toNatClampNeg))) (W.runV (As := [.int (xs (nI i + 1).toNatClampNeg), .int (xs (nI i + 2).toNatClampNeg)]) (rest := [.int (hx_divide (xs (nI i + 1).toNatClampNeg) (xs (nI i + 2).toNatClampNeg))]) ⟨hx, hb, hml, hown, hts⟩ (met_X1_divide l qm (xs (nI i + 1).toNatClampNeg) (xs (nI i + 2).toNatClampNeg)) (cwV 2 hts (lw_V q183 q184 q185 q8 q186) rfl rfl rfl (by decide +kernel) ⟨Nat.le_of_ble_eq_true rfl, Nat.le_of_ble_eq_true rfl⟩) ⟨fun _ _ _ _ q => q, va_recv hK hPm (ci := 1) (q0 := 0) rfl rfl, fun _ _ _ => rfl⟩ rfl rfl hl.1 rfl (lv_room (Nat.le_of_ble_eq_true rfl)) dL_law_175 ⟨Nat.le_of_ble_eq_true rfl, Nat.le_of_ble_eq_true rfl⟩) ?_
      refine W.eq (g2 := F0 m 178 ls [.int (hm_divide (xs (nI i + 1).toNatClampNeg) (xs (nI i + 2).toNatClampNeg)), .int (hx_divide (xs (nI i + 1).toNatClampNeg) (xs (nI i + 2).toNatClampNeg))]) rfl ?_
      refine lv_icmp_eq (tgt := 341) hx hb dL_law_178 (by decide) (fun c2 => ?_) (fun c2 => ?_)
      · exact next wx wm _ _ hPx hPm hS ls hl
      · exact absurd (eq_divide _ _) c2
    by_cases hk3 : k.toInt = 3
    · refine lv_tableIn (off := 151) (tgt := 183) hx hb dL_law_32 (by omega) (by omega) (by rw [hk3]; rfl) (by decide) ?_
      refine lv_aload_n hx hb dL_law_183 rfl (lv_at hl 2 rfl) ?_
      refine lv_aload_n hx hb dL_law_184 rfl (lv_at hl 3 rfl) ?_
      refine lv_iload_n hx hb dL_law_185 rfl (lv_at hl 0 rfl) ?_
      refine lv_iconst (v := 1) hx hb dL_law_186 (by decide) ?_
      refine lv_iadd hx hb dL_law_187 ?_
      refine va_sld hx hb hX hbl hbA hS hin1 dL_law_188 ?_
      refine W.callV (r := .int (hx_root (xs (nI i + 1).toNatClampNeg))) (W.runV (As := [.int (xs (nI i + 1).toNatClampNeg)]) (rest := []) ⟨hx, hb, hml, hown, hts⟩ (met_X0_root l qx (xs (nI i + 1).toNatClampNeg)) (cwV 1 hts (lw_V q82 q83 q84 q7 q85) rfl rfl rfl (by decide +kernel) ⟨Nat.le_of_ble_eq_true rfl, Nat.le_of_ble_eq_true rfl⟩) ⟨fun _ _ _ _ q => q, va_recv hK hPx (ci := 0) (q0 := 0) rfl rfl, fun _ _ _ => rfl⟩ rfl rfl hl.1 rfl (lv_room (Nat.le_of_ble_eq_true rfl)) dL_law_189 ⟨Nat.le_of_ble_eq_true rfl, Nat.le_of_ble_eq_true rfl⟩) ?_
      refine W.eq (g2 := F0 m 192 ls [.int (hx_root (xs (nI i + 1).toNatClampNeg))]) rfl ?_
      refine lv_aload_n hx hb dL_law_192 rfl (lv_at hl 1 rfl) ?_
      refine lv_aload_n hx hb dL_law_193 rfl (lv_at hl 3 rfl) ?_
      refine lv_iload_n hx hb dL_law_194 rfl (lv_at hl 0 rfl) ?_
      refine lv_iconst (v := 1) hx hb dL_law_195 (by decide) ?_
      refine lv_iadd hx hb dL_law_196 ?_
      refine va_sld hx hb hX hbl hbA hS hin1 dL_law_197 ?_
      refine W.callV (r := .int (hm_root (xs (nI i + 1).toNatClampNeg))) (W.runV (As := [.int (xs (nI i + 1).toNatClampNeg)]) (rest := [.int (hx_root (xs (nI i + 1).toNatClampNeg))]) ⟨hx, hb, hml, hown, hts⟩ (met_X1_root l qm (xs (nI i + 1).toNatClampNeg)) (cwV 1 hts (lw_V q187 q188 q189 q8 q190) rfl rfl rfl (by decide +kernel) ⟨Nat.le_of_ble_eq_true rfl, Nat.le_of_ble_eq_true rfl⟩) ⟨fun _ _ _ _ q => q, va_recv hK hPm (ci := 1) (q0 := 0) rfl rfl, fun _ _ _ => rfl⟩ rfl rfl hl.1 rfl (lv_room (Nat.le_of_ble_eq_true rfl)) dL_law_198 ⟨Nat.le_of_ble_eq_true rfl, Nat.le_of_ble_eq_true rfl⟩) ?_
      refine W.eq (g2 := F0 m 201 ls [.int (hm_root (xs (nI i + 1).toNatClampNeg)), .int (hx_root (xs (nI i + 1).toNatClampNeg))]) rfl ?_
      refine lv_icmp_eq (tgt := 341) hx hb dL_law_201 (by decide) (fun c2 => ?_) (fun c2 => ?_)
      · exact next wx wm _ _ hPx hPm hS ls hl
      · exact absurd (eq_root _) c2
    by_cases hk4 : k.toInt = 4
    · refine lv_tableIn (off := 174) (tgt := 206) hx hb dL_law_32 (by omega) (by omega) (by rw [hk4]; rfl) (by decide) ?_
      refine lv_aload_n hx hb dL_law_206 rfl (lv_at hl 2 rfl) ?_
      refine lv_aload_n hx hb dL_law_207 rfl (lv_at hl 3 rfl) ?_
      refine lv_iload_n hx hb dL_law_208 rfl (lv_at hl 0 rfl) ?_
      refine lv_iconst (v := 1) hx hb dL_law_209 (by decide) ?_
      refine lv_iadd hx hb dL_law_210 ?_
      refine va_sld hx hb hX hbl hbA hS hin1 dL_law_211 ?_
      refine lv_aload_n hx hb dL_law_212 rfl (lv_at hl 3 rfl) ?_
      refine lv_iload_n hx hb dL_law_213 rfl (lv_at hl 0 rfl) ?_
      refine lv_iconst (v := 2) hx hb dL_law_214 (by decide) ?_
      refine lv_iadd hx hb dL_law_215 ?_
      refine va_sld hx hb hX hbl hbA hS hin2 dL_law_216 ?_
      refine W.callV (r := .int (hx_parse (xs (nI i + 1).toNatClampNeg) (xs (nI i + 2).toNatClampNeg))) (W.runV (As := [.int (xs (nI i + 1).toNatClampNeg), .int (xs (nI i + 2).toNatClampNeg)]) (rest := []) ⟨hx, hb, hml, hown, hts⟩ (met_X0_parse l qx (xs (nI i + 1).toNatClampNeg) (xs (nI i + 2).toNatClampNeg)) (cwV 2 hts (lw_V q89 q90 q91 q7 q92) rfl rfl rfl (by decide +kernel) ⟨Nat.le_of_ble_eq_true rfl, Nat.le_of_ble_eq_true rfl⟩) ⟨fun _ _ _ _ q => q, va_recv hK hPx (ci := 0) (q0 := 0) rfl rfl, fun _ _ _ => rfl⟩ rfl rfl hl.1 rfl (lv_room (Nat.le_of_ble_eq_true rfl)) dL_law_217 ⟨Nat.le_of_ble_eq_true rfl, Nat.le_of_ble_eq_true rfl⟩) ?_
      refine W.eq (g2 := F0 m 220 ls [.int (hx_parse (xs (nI i + 1).toNatClampNeg) (xs (nI i + 2).toNatClampNeg))]) rfl ?_
      refine lv_aload_n hx hb dL_law_220 rfl (lv_at hl 1 rfl) ?_
      refine lv_aload_n hx hb dL_law_221 rfl (lv_at hl 3 rfl) ?_
      refine lv_iload_n hx hb dL_law_222 rfl (lv_at hl 0 rfl) ?_
      refine lv_iconst (v := 1) hx hb dL_law_223 (by decide) ?_
      refine lv_iadd hx hb dL_law_224 ?_
      refine va_sld hx hb hX hbl hbA hS hin1 dL_law_225 ?_
      refine lv_aload_n hx hb dL_law_226 rfl (lv_at hl 3 rfl) ?_
      refine lv_iload_n hx hb dL_law_227 rfl (lv_at hl 0 rfl) ?_
      refine lv_iconst (v := 2) hx hb dL_law_228 (by decide) ?_
      refine lv_iadd hx hb dL_law_229 ?_
      refine va_sld hx hb hX hbl hbA hS hin2 dL_law_230 ?_
      refine W.callV (r := .int (hm_parse (xs (nI i + 1).toNatClampNeg) (xs (nI i + 2).toNatClampNeg))) (W.runV (As := [.int (xs (nI i + 1).toNatClampNeg), .int (xs (nI i + 2).toNatClampNeg)]) (rest := [.int (hx_parse (xs (nI i + 1).toNatClampNeg) (xs (nI i + 2).toNatClampNeg))]) ⟨hx, hb, hml, hown, hts⟩ (met_X1_parse l qm (xs (nI i + 1).toNatClampNeg) (xs (nI i + 2).toNatClampNeg)) (cwV 2 hts (lw_V q195 q196 q197 q8 q198) rfl rfl rfl (by decide +kernel) ⟨Nat.le_of_ble_eq_true rfl, Nat.le_of_ble_eq_true rfl⟩) ⟨fun _ _ _ _ q => q, va_recv hK hPm (ci := 1) (q0 := 0) rfl rfl, fun _ _ _ => rfl⟩ rfl rfl hl.1 rfl (lv_room (Nat.le_of_ble_eq_true rfl)) dL_law_231 ⟨Nat.le_of_ble_eq_true rfl, Nat.le_of_ble_eq_true rfl⟩) ?_
      refine W.eq (g2 := F0 m 234 ls [.int (hm_parse (xs (nI i + 1).toNatClampNeg) (xs (nI i + 2).toNatClampNeg)), .int (hx_parse (xs (nI i + 1).toNatClampNeg) (xs (nI i + 2).toNatClampNeg))]) rfl ?_
      refine lv_icmp_eq (tgt := 341) hx hb dL_law_234 (by decide) (fun c2 => ?_) (fun c2 => ?_)
      · exact next wx wm _ _ hPx hPm hS ls hl
      · exact absurd (eq_parse _ _) c2
    by_cases hk5 : k.toInt = 5
    · refine lv_tableIn (off := 207) (tgt := 239) hx hb dL_law_32 (by omega) (by omega) (by rw [hk5]; rfl) (by decide) ?_
      refine lv_aload_n hx hb dL_law_239 rfl (lv_at hl 2 rfl) ?_
      refine lv_aload_n hx hb dL_law_240 rfl (lv_at hl 3 rfl) ?_
      refine lv_iload_n hx hb dL_law_241 rfl (lv_at hl 0 rfl) ?_
      refine lv_iconst (v := 1) hx hb dL_law_242 (by decide) ?_
      refine lv_iadd hx hb dL_law_243 ?_
      refine va_sld hx hb hX hbl hbA hS hin1 dL_law_244 ?_
      refine va_calli (va_runV (As := [.int (xs (nI i + 1).toNatClampNeg)]) (rest := []) ⟨hx, hb, hml, hown, hts⟩ (met_X0_digits l dC dI qx wx.1 wx.2.1 wx.2.2.1 wx.2.2.2.1 wx.2.2.2.2.1 wx.2.2.2.2.2.1 wx.2.2.2.2.2.2.1 wx.2.2.2.2.2.2.2.1 wx.2.2.2.2.2.2.2.2 (xs (nI i + 1).toNatClampNeg)) (cwV 1 hts (lw_V q99 q100 q101 q7 q102) rfl rfl rfl (by decide +kernel) ⟨Nat.le_of_ble_eq_true rfl, Nat.le_of_ble_eq_true rfl⟩) ⟨fun a U g mk q => by obtain ⟨q0, qP, qK⟩ := q; exact ⟨q0, qP, va_K.moved (u := U) (U := U.calling g mk a) (Vm.Alike.refl U.vm) qK⟩, va_recv hK hPx (ci := 0) (q0 := 0) rfl rfl, fun U hU hW => ⟨rfl, by rw [hU]; exact hPx, va_K.moved hW.alike hK⟩⟩ rfl rfl hl.1 rfl (lv_room (Nat.le_of_ble_eq_true rfl)) dL_law_245 ⟨Nat.le_of_ble_eq_true rfl, Nat.le_of_ble_eq_true rfl⟩) hS (fun q _ h => by rw [h]; exact hAx) (fun q h => by rw [h]; exact hAx) (fun r1 u t H1 locs1 ht hvm er1 hB hz1 hk1 hS => ?_)
      obtain ⟨wx', hB⟩ := hB
      rw [ht] at hB
      have hPm := hf_kept1 hPm hk1 (fun h => hne h.symm)
      have hPx : hf_O0 (dC, dI) qx wx' H1 := hB
      skip
      refine lv_aload_n hx hb dL_law_248 rfl (lv_at hl 1 rfl) ?_
      refine lv_aload_n hx hb dL_law_249 rfl (lv_at hl 3 rfl) ?_
      refine lv_iload_n hx hb dL_law_250 rfl (lv_at hl 0 rfl) ?_
      refine lv_iconst (v := 1) hx hb dL_law_251 (by decide) ?_
      refine lv_iadd hx hb dL_law_252 ?_
      refine va_sld hx hb hX hbl hbA hS hin1 dL_law_253 ?_
      refine va_calli (va_runV (As := [.int (xs (nI i + 1).toNatClampNeg)]) (rest := [.int r1]) ⟨hx, hb, hml, hown, hts⟩ (met_X1_digits l dC dI qm wm.1 wm.2 (xs (nI i + 1).toNatClampNeg)) (cwV 1 hts (lw_V q208 q209 q210 q8 q211) rfl rfl rfl (by decide +kernel) ⟨Nat.le_of_ble_eq_true rfl, Nat.le_of_ble_eq_true rfl⟩) ⟨fun a U g mk q => by obtain ⟨q0, qP, qK⟩ := q; exact ⟨q0, qP, va_K.moved (u := U) (U := U.calling g mk a) (Vm.Alike.refl U.vm) qK⟩, va_recv hK hPm (ci := 1) (q0 := 0) rfl rfl, fun U hU hW => ⟨rfl, by rw [hU]; exact hPm, va_K.moved hW.alike hK⟩⟩ rfl rfl hl.1 rfl (lv_room (Nat.le_of_ble_eq_true rfl)) dL_law_254 ⟨Nat.le_of_ble_eq_true rfl, Nat.le_of_ble_eq_true rfl⟩) hS (fun q _ h => by rw [h]; exact hAm) (fun q h => by rw [h]; exact hAm) (fun r2 u t H1 locs1 ht hvm er2 hB hz1 hk1 hS => ?_)
      obtain ⟨wm', hB⟩ := hB
      rw [ht] at hB
      have hPx := hf_kept0 hPx hk1 hne
      have hPm : hf_O1 (dC, dI) qm wm' H1 := hB
      refine lv_icmp_eq (tgt := 341) hx hb dL_law_257 (by decide) (fun c2 => ?_) (fun c2 => ?_)
      · exact next wx' wm' _ _ hPx hPm hS ls hl
      · exact absurd (er1.trans ((eq_digits _ _ _ _ _ _).trans er2.symm)) c2
    by_cases hk6 : k.toInt = 6
    · refine lv_tableIn (off := 230) (tgt := 262) hx hb dL_law_32 (by omega) (by omega) (by rw [hk6]; rfl) (by decide) ?_
      refine lv_aload_n hx hb dL_law_262 rfl (lv_at hl 2 rfl) ?_
      refine lv_aload_n hx hb dL_law_263 rfl (lv_at hl 3 rfl) ?_
      refine lv_iload_n hx hb dL_law_264 rfl (lv_at hl 0 rfl) ?_
      refine lv_iconst (v := 1) hx hb dL_law_265 (by decide) ?_
      refine lv_iadd hx hb dL_law_266 ?_
      refine va_sld hx hb hX hbl hbA hS hin1 dL_law_267 ?_
      refine va_calli (va_runV (As := [.int (xs (nI i + 1).toNatClampNeg)]) (rest := []) ⟨hx, hb, hml, hown, hts⟩ (met_X0_exponent l dC dI qx wx.1 wx.2.1 wx.2.2.1 wx.2.2.2.1 wx.2.2.2.2.1 wx.2.2.2.2.2.1 wx.2.2.2.2.2.2.1 wx.2.2.2.2.2.2.2.1 wx.2.2.2.2.2.2.2.2 (xs (nI i + 1).toNatClampNeg)) (cwV 1 hts (lw_V q124 q125 q126 q7 q127) rfl rfl rfl (by decide +kernel) ⟨Nat.le_of_ble_eq_true rfl, Nat.le_of_ble_eq_true rfl⟩) ⟨fun a U g mk q => by obtain ⟨q0, qP, qK⟩ := q; exact ⟨q0, qP, va_K.moved (u := U) (U := U.calling g mk a) (Vm.Alike.refl U.vm) qK⟩, va_recv hK hPx (ci := 0) (q0 := 0) rfl rfl, fun U hU hW => ⟨rfl, by rw [hU]; exact hPx, va_K.moved hW.alike hK⟩⟩ rfl rfl hl.1 rfl (lv_room (Nat.le_of_ble_eq_true rfl)) dL_law_268 ⟨Nat.le_of_ble_eq_true rfl, Nat.le_of_ble_eq_true rfl⟩) hS (fun q _ h => by rw [h]; exact hAx) (fun q h => by rw [h]; exact hAx) (fun r1 u t H1 locs1 ht hvm er1 hB hz1 hk1 hS => ?_)
      obtain ⟨wx', hB⟩ := hB
      rw [ht] at hB
      have hPm := hf_kept1 hPm hk1 (fun h => hne h.symm)
      have hPx : hf_O0 (dC, dI) qx wx' H1 := hB
      skip
      refine lv_aload_n hx hb dL_law_271 rfl (lv_at hl 1 rfl) ?_
      refine lv_aload_n hx hb dL_law_272 rfl (lv_at hl 3 rfl) ?_
      refine lv_iload_n hx hb dL_law_273 rfl (lv_at hl 0 rfl) ?_
      refine lv_iconst (v := 1) hx hb dL_law_274 (by decide) ?_
      refine lv_iadd hx hb dL_law_275 ?_
      refine va_sld hx hb hX hbl hbA hS hin1 dL_law_276 ?_
      refine va_calli (va_runV (As := [.int (xs (nI i + 1).toNatClampNeg)]) (rest := [.int r1]) ⟨hx, hb, hml, hown, hts⟩ (met_X1_exponent l dC dI qm wm.1 wm.2 (xs (nI i + 1).toNatClampNeg)) (cwV 1 hts (lw_V q232 q233 q234 q8 q235) rfl rfl rfl (by decide +kernel) ⟨Nat.le_of_ble_eq_true rfl, Nat.le_of_ble_eq_true rfl⟩) ⟨fun a U g mk q => by obtain ⟨q0, qP, qK⟩ := q; exact ⟨q0, qP, va_K.moved (u := U) (U := U.calling g mk a) (Vm.Alike.refl U.vm) qK⟩, va_recv hK hPm (ci := 1) (q0 := 0) rfl rfl, fun U hU hW => ⟨rfl, by rw [hU]; exact hPm, va_K.moved hW.alike hK⟩⟩ rfl rfl hl.1 rfl (lv_room (Nat.le_of_ble_eq_true rfl)) dL_law_277 ⟨Nat.le_of_ble_eq_true rfl, Nat.le_of_ble_eq_true rfl⟩) hS (fun q _ h => by rw [h]; exact hAm) (fun q h => by rw [h]; exact hAm) (fun r2 u t H1 locs1 ht hvm er2 hB hz1 hk1 hS => ?_)
      obtain ⟨wm', hB⟩ := hB
      rw [ht] at hB
      have hPx := hf_kept0 hPx hk1 hne
      have hPm : hf_O1 (dC, dI) qm wm' H1 := hB
      refine lv_icmp_eq (tgt := 341) hx hb dL_law_280 (by decide) (fun c2 => ?_) (fun c2 => ?_)
      · exact next wx' wm' _ _ hPx hPm hS ls hl
      · exact absurd (er1.trans ((eq_exponent _ _ _ _ _ _).trans er2.symm)) c2
    by_cases hk7 : k.toInt = 7
    · refine lv_tableIn (off := 253) (tgt := 285) hx hb dL_law_32 (by omega) (by omega) (by rw [hk7]; rfl) (by decide) ?_
      refine lv_aload_n hx hb dL_law_285 rfl (lv_at hl 2 rfl) ?_
      refine lv_aload_n hx hb dL_law_286 rfl (lv_at hl 3 rfl) ?_
      refine lv_iload_n hx hb dL_law_287 rfl (lv_at hl 0 rfl) ?_
      refine lv_iconst (v := 1) hx hb dL_law_288 (by decide) ?_
      refine lv_iadd hx hb dL_law_289 ?_
      refine va_sld hx hb hX hbl hbA hS hin1 dL_law_290 ?_
      refine lv_aload_n hx hb dL_law_291 rfl (lv_at hl 3 rfl) ?_
      refine lv_iload_n hx hb dL_law_292 rfl (lv_at hl 0 rfl) ?_
      refine lv_iconst (v := 2) hx hb dL_law_293 (by decide) ?_
      refine lv_iadd hx hb dL_law_294 ?_
      refine va_sld hx hb hX hbl hbA hS hin2 dL_law_295 ?_
      refine W.callV (r := .int (hx_compare (xs (nI i + 1).toNatClampNeg) (xs (nI i + 2).toNatClampNeg))) (W.runV (As := [.int (xs (nI i + 1).toNatClampNeg), .int (xs (nI i + 2).toNatClampNeg)]) (rest := []) ⟨hx, hb, hml, hown, hts⟩ (met_X0_compare l qx (xs (nI i + 1).toNatClampNeg) (xs (nI i + 2).toNatClampNeg)) (cwV 2 hts (lw_V q128 q129 q130 q7 q131) rfl rfl rfl (by decide +kernel) ⟨Nat.le_of_ble_eq_true rfl, Nat.le_of_ble_eq_true rfl⟩) ⟨fun _ _ _ _ q => q, va_recv hK hPx (ci := 0) (q0 := 0) rfl rfl, fun _ _ _ => rfl⟩ rfl rfl hl.1 rfl (lv_room (Nat.le_of_ble_eq_true rfl)) dL_law_296 ⟨Nat.le_of_ble_eq_true rfl, Nat.le_of_ble_eq_true rfl⟩) ?_
      refine W.eq (g2 := F0 m 299 ls [.int (hx_compare (xs (nI i + 1).toNatClampNeg) (xs (nI i + 2).toNatClampNeg))]) rfl ?_
      refine lv_aload_n hx hb dL_law_299 rfl (lv_at hl 1 rfl) ?_
      refine lv_aload_n hx hb dL_law_300 rfl (lv_at hl 3 rfl) ?_
      refine lv_iload_n hx hb dL_law_301 rfl (lv_at hl 0 rfl) ?_
      refine lv_iconst (v := 1) hx hb dL_law_302 (by decide) ?_
      refine lv_iadd hx hb dL_law_303 ?_
      refine va_sld hx hb hX hbl hbA hS hin1 dL_law_304 ?_
      refine lv_aload_n hx hb dL_law_305 rfl (lv_at hl 3 rfl) ?_
      refine lv_iload_n hx hb dL_law_306 rfl (lv_at hl 0 rfl) ?_
      refine lv_iconst (v := 2) hx hb dL_law_307 (by decide) ?_
      refine lv_iadd hx hb dL_law_308 ?_
      refine va_sld hx hb hX hbl hbA hS hin2 dL_law_309 ?_
      refine W.callV (r := .int (hm_compare (xs (nI i + 1).toNatClampNeg) (xs (nI i + 2).toNatClampNeg))) (W.runV (As := [.int (xs (nI i + 1).toNatClampNeg), .int (xs (nI i + 2).toNatClampNeg)]) (rest := [.int (hx_compare (xs (nI i + 1).toNatClampNeg) (xs (nI i + 2).toNatClampNeg))]) ⟨hx, hb, hml, hown, hts⟩ (met_X1_compare l qm (xs (nI i + 1).toNatClampNeg) (xs (nI i + 2).toNatClampNeg)) (cwV 2 hts (lw_V q236 q237 q238 q8 q239) rfl rfl rfl (by decide +kernel) ⟨Nat.le_of_ble_eq_true rfl, Nat.le_of_ble_eq_true rfl⟩) ⟨fun _ _ _ _ q => q, va_recv hK hPm (ci := 1) (q0 := 0) rfl rfl, fun _ _ _ => rfl⟩ rfl rfl hl.1 rfl (lv_room (Nat.le_of_ble_eq_true rfl)) dL_law_310 ⟨Nat.le_of_ble_eq_true rfl, Nat.le_of_ble_eq_true rfl⟩) ?_
      refine W.eq (g2 := F0 m 313 ls [.int (hm_compare (xs (nI i + 1).toNatClampNeg) (xs (nI i + 2).toNatClampNeg)), .int (hx_compare (xs (nI i + 1).toNatClampNeg) (xs (nI i + 2).toNatClampNeg))]) rfl ?_
      refine lv_icmp_eq (tgt := 341) hx hb dL_law_313 (by decide) (fun c2 => ?_) (fun c2 => ?_)
      · exact next wx wm _ _ hPx hPm hS ls hl
      · exact absurd (eq_compare _ _) c2
    by_cases hk8 : k.toInt = 8
    · refine lv_tableIn (off := 286) (tgt := 318) hx hb dL_law_32 (by omega) (by omega) (by rw [hk8]; rfl) (by decide) ?_
      refine lv_aload_n hx hb dL_law_318 rfl (lv_at hl 2 rfl) ?_
      refine lv_aload_n hx hb dL_law_319 rfl (lv_at hl 3 rfl) ?_
      refine lv_iload_n hx hb dL_law_320 rfl (lv_at hl 0 rfl) ?_
      refine lv_iconst (v := 1) hx hb dL_law_321 (by decide) ?_
      refine lv_iadd hx hb dL_law_322 ?_
      refine va_sld hx hb hX hbl hbA hS hin1 dL_law_323 ?_
      refine W.callV (r := .int (hx_floor (xs (nI i + 1).toNatClampNeg))) (W.runV (As := [.int (xs (nI i + 1).toNatClampNeg)]) (rest := []) ⟨hx, hb, hml, hown, hts⟩ (met_X0_floor l qx (xs (nI i + 1).toNatClampNeg)) (cwV 1 hts (lw_V q132 q133 q134 q7 q135) rfl rfl rfl (by decide +kernel) ⟨Nat.le_of_ble_eq_true rfl, Nat.le_of_ble_eq_true rfl⟩) ⟨fun _ _ _ _ q => q, va_recv hK hPx (ci := 0) (q0 := 0) rfl rfl, fun _ _ _ => rfl⟩ rfl rfl hl.1 rfl (lv_room (Nat.le_of_ble_eq_true rfl)) dL_law_324 ⟨Nat.le_of_ble_eq_true rfl, Nat.le_of_ble_eq_true rfl⟩) ?_
      refine W.eq (g2 := F0 m 327 ls [.int (hx_floor (xs (nI i + 1).toNatClampNeg))]) rfl ?_
      refine lv_aload_n hx hb dL_law_327 rfl (lv_at hl 1 rfl) ?_
      refine lv_aload_n hx hb dL_law_328 rfl (lv_at hl 3 rfl) ?_
      refine lv_iload_n hx hb dL_law_329 rfl (lv_at hl 0 rfl) ?_
      refine lv_iconst (v := 1) hx hb dL_law_330 (by decide) ?_
      refine lv_iadd hx hb dL_law_331 ?_
      refine va_sld hx hb hX hbl hbA hS hin1 dL_law_332 ?_
      refine W.callV (r := .int (hm_floor (xs (nI i + 1).toNatClampNeg))) (W.runV (As := [.int (xs (nI i + 1).toNatClampNeg)]) (rest := [.int (hx_floor (xs (nI i + 1).toNatClampNeg))]) ⟨hx, hb, hml, hown, hts⟩ (met_X1_floor l qm (xs (nI i + 1).toNatClampNeg)) (cwV 1 hts (lw_V q240 q241 q242 q8 q243) rfl rfl rfl (by decide +kernel) ⟨Nat.le_of_ble_eq_true rfl, Nat.le_of_ble_eq_true rfl⟩) ⟨fun _ _ _ _ q => q, va_recv hK hPm (ci := 1) (q0 := 0) rfl rfl, fun _ _ _ => rfl⟩ rfl rfl hl.1 rfl (lv_room (Nat.le_of_ble_eq_true rfl)) dL_law_333 ⟨Nat.le_of_ble_eq_true rfl, Nat.le_of_ble_eq_true rfl⟩) ?_
      refine W.eq (g2 := F0 m 336 ls [.int (hm_floor (xs (nI i + 1).toNatClampNeg)), .int (hx_floor (xs (nI i + 1).toNatClampNeg))]) rfl ?_
      refine lv_icmp_eq (tgt := 341) hx hb dL_law_336 (by decide) (fun c2 => ?_) (fun c2 => ?_)
      · exact next wx wm _ _ hPx hPm hS ls hl
      · exact absurd (eq_floor _) c2
    exact absurd hout (by omega)
set_option maxHeartbeats 4000000 in
set_option maxRecDepth 100000 in
/-- from the entry, for every script of at most 192 ints, the law comes to its end with true -/
theorem whole_start {p : Program} {e : Env} {s : State} {m : MethodId} {below : List Frame} {meth : Method} {c : Code} (l : Launch) {b L : Nat} {xs : Nat → Int32} (hL : L ≤ 192) (C0 : lw_At p s m meth c b L xs) : W p l e room_1 s m #[Value.ref b] below meth c s.heap [] 0 0 (lw_Z below #[Value.ref b] s) (entryFrame m ([Value.ref b] : List Value).toArray 4) := by
  obtain ⟨hx, hb, hr, hml, hown, hts0, hX, hbl, hlocks, hgv⟩ := C0
  have hts : ∀ w ∈ lw_all, w.before #[Value.ref b] s = true := fun w h => hts0 w (lw_all_tbl h)
  obtain ⟨c0_, iS0, hKn0⟩ := u_known (C := RX0) (T := TX0) (N := 9) (n := 9) hts in_X0 (hts _ q10)
  obtain ⟨c1_, iS1, hKn1⟩ := u_known (C := RX1) (T := TX1) (N := 2) (n := 2) hts in_X1 (hts _ q138)
  obtain ⟨dC, hdC⟩ : ∃ f : Nat → ClassId, f = fun k => if k = 0 then c0_ else c1_ := ⟨_, rfl⟩
  obtain ⟨dI, hdI⟩ : ∃ f : Nat → Nat → Nat, f = fun k => if k = 0 then iS0 else iS1 := ⟨_, rfl⟩
  have hK : va_K (dC, dI) vwCl [] s := by
    refine ⟨?_, fun k q hk => by simp at hk⟩
    intro k q hq
    match k, hq with
    | 0, hq => cases hq; rw [hdC, hdI]; exact hKn0
    | 1, hq => cases hq; rw [hdC, hdI]; exact hKn1
    | k + 2, hq => simp [vwCl] at hq
  have hP : va_P (dC, dI) vwCl [] s.heap := fun k q hk => by simp at hk
  have hD : va_D (fun q => s.heap.size ≤ q) [] := ⟨fun i j p q hi => by simp at hi, fun k q hk => by simp at hk⟩
  have hS : va_S (fun q => s.heap.size ≤ q) s.heap s.heap [] := va_S.rf
  have hA : ∀ q : Nat, s.heap.size ≤ q → (fun q => s.heap.size ≤ q) q := fun q h => h
  have hl := lv_entry ([.ref b]) (n := 4) (Nat.le_of_ble_eq_true rfl)
  rw [lg_entry_eq]
  generalize (lg_sl ([.ref b]) ++ List.replicate (4 - (lg_sl ([.ref b])).length) Slot.unset).toArray = ls at hl ⊢
  have hl : lv_has ls 4 [(0, .ref b)] := hl
  refine va_new (ci := 0) (fs := [.long 0, .long 0, .long 0, .int 0, .int 0, .int 0, .int 0, .long 0, .long 0]) (C := RX0) (T := TX0) (N := 9) hx hb hts in_X0 tyX0 tyX0_ok hown (hts _ q9) (hts _ q10) (hts _ q7) hK hP hD hS hA rfl (fun j hj => by rcases (show j = 0 ∨ j = 1 ∨ j = 2 ∨ j = 3 ∨ j = 4 ∨ j = 5 ∨ j = 6 ∨ j = 7 ∨ j = 8 by omega) with rfl | rfl | rfl | rfl | rfl | rfl | rfl | rfl | rfl <;> rfl) (Nat.le_of_ble_eq_true rfl) (Nat.le_of_ble_eq_true rfl) dL_law_0 (fun qx H hP hD hS => ?_)
  refine W.widen (k := 1) (n := 9) (by omega) (by omega) ?_
  refine lv_dup hx hb dL_law_3 rfl ?_
  refine va_csv (W.runI (As := []) (rest := [.ref qx]) ⟨hx, hb, hml, hown, hts⟩ (met_X0_init l qx) (cwI 0 hts (lw_meth q13) rfl rfl rfl (hts _ q7) (hts _ q11) (hts _ q12) rfl (by decide +kernel) ⟨Nat.le_of_ble_eq_true rfl, Nat.le_of_ble_eq_true rfl⟩) preEq rfl rfl hl.1 rfl (lv_room (Nat.le_of_ble_eq_true rfl)) dL_law_4 ⟨Nat.le_of_ble_eq_true rfl, Nat.le_of_ble_eq_true rfl⟩) (fun _ => ?_)
  refine lv_astore_n (lv' := [(1, .ref qx), (0, .ref b)]) hx hb dL_law_7 rfl hl (by decide) rfl (fun ls hl => ?_)
  refine va_new (ci := 1) (fs := [.int 0, .int 0]) (C := RX1) (T := TX1) (N := 2) hx hb hts in_X1 tyX1 tyX1_ok hown (hts _ q137) (hts _ q138) (hts _ q8) hK hP hD hS hA rfl (fun j hj => by rcases (show j = 0 ∨ j = 1 by omega) with rfl | rfl <;> rfl) (Nat.le_of_ble_eq_true rfl) (Nat.le_of_ble_eq_true rfl) dL_law_8 (fun qm H hP hD hS => ?_)
  refine W.widen (k := 2) (n := 11) (by omega) (by omega) ?_
  refine lv_dup hx hb dL_law_11 rfl ?_
  refine va_csv (W.runI (As := []) (rest := [.ref qm]) ⟨hx, hb, hml, hown, hts⟩ (met_X1_init l qm) (cwI 0 hts (lw_meth q141) rfl rfl rfl (hts _ q8) (hts _ q139) (hts _ q140) rfl (by decide +kernel) ⟨Nat.le_of_ble_eq_true rfl, Nat.le_of_ble_eq_true rfl⟩) preEq rfl rfl hl.1 rfl (lv_room (Nat.le_of_ble_eq_true rfl)) dL_law_12 ⟨Nat.le_of_ble_eq_true rfl, Nat.le_of_ble_eq_true rfl⟩) (fun _ => ?_)
  refine lv_astore_n (lv' := [(2, .ref qm), (1, .ref qx), (0, .ref b)]) hx hb dL_law_15 rfl hl (by decide) rfl (fun ls hl => ?_)
  refine lv_iconst (v := 0) hx hb dL_law_16 (by decide) ?_
  refine lv_istore_n (lv' := [(3, .int 0), (2, .ref qm), (1, .ref qx), (0, .ref b)]) hx hb dL_law_17 rfl hl (by decide) rfl (fun ls hl => ?_)
  have hPx : hf_O0 (dC, dI) qx (0, 0, 0, 0, 0, 0, 0, 0, 0) H := hP.sub (ws' := [(qx, .inr (0, [.long 0, .long 0, .long 0, .int 0, .int 0, .int 0, .int 0, .long 0, .long 0]))]) [0] rfl
  have hPm : hf_O1 (dC, dI) qm (0, 0) H := hP.sub (ws' := [(qm, .inr (1, [.int 0, .int 0]))]) [1] rfl
  have hne : ¬ qx = qm := fun h => absurd (hD.1 0 1 _ _ rfl rfl h) (by decide)
  have hAx : s.heap.size ≤ qx := hD.2 0 _ rfl
  have hAm : s.heap.size ≤ qm := hD.2 1 _ rfl
  exact law_loop hL hx hb hr hlocks hml hown hts hX hbl hK hAx hAm hne (L + 1) 0 (by omega) (by omega) _ _ H _ hPx hPm hS ls hl
end
section
-- ===== YOUR PART ENDS =====
set_option maxHeartbeats 4000000 in
theorem lw_walk (l : Launch) (b : Addr) (xs : List Int32) : MetFree l x (headSpec (Jvm.Cond.code x code maxLocals ret :: tables_1) room_1) (lw_P b xs) (fun _ _ _ _ _ => True) lw_Q := by
  refine MetFree.of_bodyS (code := code) (maxLocals := maxLocals) (ret := ret) (by decide) ?_ ?_
  · intro args s m h hn
    obtain ⟨meth, c, h1, h2, h3, h4, h5, h6, -, -⟩ := Cond.code_spec hn (atoms_spec (ws := Jvm.Cond.code x code maxLocals ret :: tables_1) h _ List.mem_cons_self)
    exact ⟨meth, c, h1, h2, h3, h4, h5, h6⟩
  · intro p e s m args below meth c s₁ B hml0 hP _
    obtain ⟨rfl, hx, hbd, hgv⟩ := hP
    obtain ⟨scr, harrAt, hlist, hof, hsmall⟩ := hx
    obtain ⟨hcb, hkn, -, -⟩ := State.arrayAt?_spec harrAt
    have hown : s.vm.findClass R_law = some m.cls := findClass_of_methodNamed B.named
    have hts0 : ∀ c ∈ (Jvm.Cond.code x code maxLocals ret :: tables_1), c.before #[Value.ref b] s = true := atoms_spec (ws := Jvm.Cond.code x code maxLocals ret :: tables_1) B.pre
    have hts : ∀ w ∈ lw_tbl, w.before #[Value.ref b] s = true := k2_hts_sels lw_privs (fun w hw => hts0 w (List.mem_cons_of_mem _ hw)) lw_privs_ok
    have hml : c.maxLocals = 4 := B.maxLocals_eq (hts0 _ List.mem_cons_self)
    have X₀ : Stand p l e room_1 s m #[Value.ref b] below meth c s₁ [] 0 0 := Stand.of_body B
    have hh0 : s₁.heap = s.heap := by rw [B.state]; rfl
    have hsz : scr.slots.size = xs.length := by rw [← Array.length_toList, hlist, List.length_map]
    have hval : ∀ j : Nat, j < xs.length → scr.slots[j]? = some (.int (xs.getD j 0)) := fun j hj => by
      rw [← Array.getElem?_toList, hlist]
      simp [hj]
    have hbl : b < s.heap.size := (Array.getElem?_eq_some_iff.mp hcb).1
    have hX : va_X b xs.length (fun j => xs.getD j 0) s s.heap := ⟨scr, hcb, hof, hkn, hsz, hval⟩
    have K : W p l e room_1 s m #[Value.ref b] below meth c s₁.heap [] 0 0 (lw_Z below #[Value.ref b] s) (entryFrame m ([Value.ref b] : List Value).toArray 4) := by
      rw [hh0]
      exact whole_start l hbd ⟨B.exec, B.bytes, B.returns, hml, hown, hts, hX, hbl, B.notSynchronized, hgv⟩
    obtain ⟨t, a1, o, b1, b2, b3⟩ := K s₁ rfl X₀
    exact ⟨t, o, a1, b1, b2, b3⟩
theorem lw_pre_spec {args : Array Value} {s : State} (h : (Jvm.Cond.and given_1 narrow_1).before args s = true) (hr : rest_1_c.before args s = true) : ∃ (b : Addr) (xs : List Int32), lw_P b xs args s := by
  have hs := flat_of_before _ h
  have hq := flat_of_before _ hr
  have hc : (Cond.count 1).before args s = true := hs _ (by decide +kernel)
  have harr : (Cond.arrayOf (.arg 0) .int).before args s = true := hs _ (by decide +kernel)
  have hle : (Cond.le (.length (.arg 0)) (.int 192)).before args s = true := hs _ (by decide +kernel)
  have hlen : (Cond.isInt (.length (.arg 0))).before args s = true := hq _ (by decide +kernel)
  have hall : (Cond.all (.arg 0) (.isInt (.elem (.arg 0) (.index 0)))).before args s = true := hq _ (by decide +kernel)
  obtain ⟨b, xs, hb, hx⟩ := State.ints_of_pre rfl harr hlen hall
  have hsm : xs.length < 2 ^ 31 := hx.choose_spec.2.2.2
  have hev : (Term.length (.arg 0)).eval args s none [] s = some (.int xs.length.toInt32) := hx.length_eval hb
  have hv := Cond.le_ints hev (show (Term.int 192).eval args s none [] s = some (.int 192) from rfl)
  have hd : xs.length.toInt32 ≤ 192 := by
    simpa [Cond.before, Cond.holds, hv] using hle
  have hN : xs.length ≤ 192 := (Int32.ofNat_le_ofNat hsm (by decide)).mp (show Int32.ofNat xs.length ≤ Int32.ofNat 192 from hd)
  exact ⟨b, xs, Cond.one_arg hc (show args[0]? = some (.ref b) from hb), hx, hN, h⟩
theorem lw_comes (l : Launch) : Comes l x (Jvm.Cond.code x code maxLocals ret :: tables_1) room_1 (fun tb e args s => Calls_1 tb e args s ∧ rest_1 tb e args s ∧ Pre_1 tb e args s)
    (fun _ _ args s o t => lw_Q args s o t) := by
  intro p e ha hc hk s m args below hf hfit hheap happ hpre
  obtain ⟨b, xs, hP⟩ := lw_pre_spec hpre.2.2 hpre.2.1
  obtain ⟨k, o, h1, h2, h3, hQ⟩ := lw_walk l b xs p e ha hc hk s m args below hf ((Spec.applies_iff_loose hf).mp happ).1 hP trivial
  exact ⟨k, o, h1, h2, h3, hQ⟩
theorem lw_frame {s t : State} {o : Outcome} {args : Array Value} (h : Framed s o t [] 600000 7290000) :
    Framed s o t (fieldLocs frame_1_writes args s ++ arrayLocs frame_1_arrays args s ++ staticLocs frame_1_statics s) 600000 7290000 := h
theorem lw_limb (L : Cond) (hL : ∀ (args : Array Value) (s t : State), L.after args s (.returned (some (.int 1))) t = true) :
    ArmFor flags0 classFile x code maxLocals ret World_1 tables_1 room_1 Calls_1 rest_1 Pre_1
      (fun tb e a s o t => postC L tb e a s o t ∧ Framed s o t (fieldLocs frame_1_writes a s ++ arrayLocs frame_1_arrays a s ++ staticLocs frame_1_statics s) 600000 7290000) := by
  intro l _ _ _ p e ha hc hk s m args below hf hfit hheap happ hpre
  obtain ⟨k, o, h1, h2, h3, rfl, hF⟩ := lw_comes l p e ha hc hk s m args below hf hfit hheap happ hpre
  exact ⟨k, _, h1, h2, h3, hL args s _, lw_frame hF⟩
theorem i_vc : Claimed_1_1 ∧ Claimed_1_2 := ⟨lw_limb limb_1_1 (fun args s t => by simp [limb_1_1, Cond.after, Cond.holds, Cond.value]), lw_limb limb_1_2 (fun args s t => Cond.after_iff.mpr (by
  first | (rw [show limb_1_2 = Cond.eq .result (.int 1) from rfl, Cond.eq_ints (x := 1) (y := 1) rfl rfl]; simp; done) | (simp [limb_1_2, Cond.value, Term.eval]; done)))⟩
end
