section
-- ===== PART A: goes FIRST, ahead of the names: the tables' words, and 'selects' of the private methods out of them =====
/-- a private method of a class that the tables say can be made, by its rows of tables_1 -/
def lw_okq (q : MethodName × Nat) : Prop := (q.1.cls ≠ "java/lang/invoke/MethodHandle" ∧ q.1.cls ≠ "java/lang/invoke/VarHandle") ∧ Cond.instantiable q.1.cls q.2 ∈ tables_1 ∧ Cond.privateMethod q.1 ∈ tables_1 ∧ Cond.instanceMethod q.1 ∈ tables_1
set_option maxRecDepth 100000
theorem lw_p0 : lw_okq (⟨"ResidueTransforms$Residues", "power", "(JJ)J"⟩, 2) := ⟨⟨by decide +kernel, by decide +kernel⟩, List.mem_of_getElem? (i := 13) rfl, List.mem_of_getElem? (i := 77) rfl, List.mem_of_getElem? (i := 78) rfl⟩
theorem lw_p1 : lw_okq (⟨"ResidueTransforms$Residues", "turn", "(I)V"⟩, 2) := ⟨⟨by decide +kernel, by decide +kernel⟩, List.mem_of_getElem? (i := 13) rfl, List.mem_of_getElem? (i := 81) rfl, List.mem_of_getElem? (i := 82) rfl⟩
theorem lw_p2 : lw_okq (⟨"ResidueTransforms$Residues", "pair", "(IIJ)V"⟩, 2) := ⟨⟨by decide +kernel, by decide +kernel⟩, List.mem_of_getElem? (i := 13) rfl, List.mem_of_getElem? (i := 85) rfl, List.mem_of_getElem? (i := 86) rfl⟩
def lw_privs_1 : List (MethodName × Nat) := [(⟨"ResidueTransforms$Residues", "power", "(JJ)J"⟩, 2), (⟨"ResidueTransforms$Residues", "turn", "(I)V"⟩, 2), (⟨"ResidueTransforms$Residues", "pair", "(IIJ)V"⟩, 2)]
theorem lw_r1 : ∀ q ∈ lw_privs_1, lw_okq q := List.forall_mem_cons.mpr ⟨lw_p0, List.forall_mem_cons.mpr ⟨lw_p1, List.forall_mem_cons.mpr ⟨lw_p2, fun _ h => absurd h List.not_mem_nil⟩⟩⟩
def lw_privs : List (MethodName × Nat) := lw_privs_1
def lw_tbl : List Cond := k2_sels lw_privs ++ tables_1
theorem lw_privs_ok : ∀ q ∈ lw_privs, lw_okq q := lw_r1
-- ===== ONE list of words for every method: the tables' words that hold all through a run =====
def lw_all : List Cond := lw_tbl.filter goodWord
/-- a word of the tables by its place: claim/WORDS.tsv -/
theorem lw_w {w : Cond} (i : Nat) (h : lw_tbl[i]? = some w) (g : goodWord w = true) : w ∈ lw_all := List.mem_filter.mpr ⟨List.mem_of_getElem? h, g⟩
theorem lw_all_tbl {w : Cond} (h : w ∈ lw_all) : w ∈ lw_tbl := (List.mem_filter.mp h).1
theorem lw_self : GoodIn lw_all lw_all := fun w h => ⟨h, good_of_word (List.mem_filter.mp h).2⟩
/-- a class's field words, by their places -/
theorem lw_in (ws : List Cond) (ps : List Nat) (hp : ws = ps.filterMap (fun i => lw_tbl[i]?)) (hg : ws.all goodWord = true) : ∀ w ∈ ws, w ∈ lw_all := by
  intro w h
  have h1 := List.all_eq_true.mp hg w h
  rw [hp] at h
  obtain ⟨i, -, hi⟩ := List.mem_filterMap.mp h
  exact lw_w i hi h1
/-- the words of a contract for the method y with code b, L locals, answer r -/
abbrev ws_ (y : MethodName) (b : ByteArray) (L : Nat) (r : Option FieldType) : List Cond := Cond.code y b L r :: lw_all
theorem lw_meth {y : MethodName} {b : ByteArray} {L : Nat} {r : Option FieldType} (h : Cond.code y b L r ∈ lw_all) : GoodIn lw_all (ws_ y b L r) := by
  intro w hw
  rcases List.mem_cons.mp hw with e | e
  · rw [e]
    exact lw_self _ h
  · exact lw_self _ e
theorem lw_app {a c : List Cond} (ha : ∀ w ∈ a, w ∈ lw_all) (hc : GoodIn lw_all c) : GoodIn lw_all (a ++ c) := by
  intro w hw
  rcases List.mem_append.mp hw with e | e
  · exact lw_self w (ha w e)
  · exact hc w e
/-- what a call through an object asks: cwV n hts (lw_V ..) -/
theorem lw_V {own : String} {idx : Nat} {C : String} {y : MethodName} {b : ByteArray} {L : Nat} {r : Option FieldType} (h1 : Cond.methodLink own idx y ∈ lw_all) (h2 : Cond.instanceMethod y ∈ lw_all) (h3 : Cond.selects C y y ∈ lw_all) (h4 : Cond.initialized C ∈ lw_all) (h5 : Cond.code y b L r ∈ lw_all) : GoodIn lw_all (wsV own idx C y (ws_ y b L r)) := by
  refine lw_app ?_ (lw_meth h5)
  intro w hw
  simp only [List.mem_cons, List.not_mem_nil, or_false] at hw
  rcases hw with e | e | e | e
  · rw [e]; exact h1
  · rw [e]; exact h2
  · rw [e]; exact h3
  · rw [e]; exact h4
/-- what a static call asks: va_cwS n hts (lw_S ..) -/
theorem lw_S {own : String} {idx : Nat} {y : MethodName} {b : ByteArray} {L : Nat} {r : Option FieldType} (h1 : Cond.methodLink own idx y ∈ lw_all) (h2 : Cond.static y ∈ lw_all) (h3 : Cond.initialized y.cls ∈ lw_all) (h4 : Cond.code y b L r ∈ lw_all) : GoodIn lw_all (va_wsS own idx y (ws_ y b L r)) := by
  refine lw_app ?_ (lw_meth h4)
  intro w hw
  simp only [List.mem_cons, List.not_mem_nil, or_false] at hw
  rcases hw with e | e | e
  · rw [e]; exact h1
  · rw [e]; exact h2
  · rw [e]; exact h3
/-- the words of a contract for a method WITH HANDLERS (hh: its table) -/
abbrev wsW_ (y : MethodName) (b : ByteArray) (L : Nat) (r : Option FieldType) (hh : List (Nat × Nat × Nat × Nat)) : List Cond := Cond.codeWith y b L r hh :: lw_all
theorem lw_methW {y : MethodName} {b : ByteArray} {L : Nat} {r : Option FieldType} {hh : List (Nat × Nat × Nat × Nat)} (h : Cond.codeWith y b L r hh ∈ lw_all) : GoodIn lw_all (wsW_ y b L r hh) := by
  intro w hw
  rcases List.mem_cons.mp hw with e | e
  · rw [e]
    exact lw_self _ h
  · exact lw_self _ e
/-- any list of words by their places (lw_in), good -/
theorem lw_good {ws : List Cond} (h : ∀ w ∈ ws, w ∈ lw_all) : GoodIn lw_all ws := fun w hw => lw_self w (h w hw)
/-- what a call of a method with handlers asks: vx_cwVW n hts (lw_VW ..), vx_cwSW n hts (lw_SW ..) -/
theorem lw_VW {own : String} {idx : Nat} {C : String} {y : MethodName} {b : ByteArray} {L : Nat} {r : Option FieldType} {hh : List (Nat × Nat × Nat × Nat)} (h1 : Cond.methodLink own idx y ∈ lw_all) (h2 : Cond.instanceMethod y ∈ lw_all) (h3 : Cond.selects C y y ∈ lw_all) (h4 : Cond.initialized C ∈ lw_all) (h5 : Cond.codeWith y b L r hh ∈ lw_all) : GoodIn lw_all (wsV own idx C y (wsW_ y b L r hh)) := by
  refine lw_app ?_ (lw_methW h5)
  intro w hw
  simp only [List.mem_cons, List.not_mem_nil, or_false] at hw
  rcases hw with e | e | e | e
  · rw [e]; exact h1
  · rw [e]; exact h2
  · rw [e]; exact h3
  · rw [e]; exact h4
theorem lw_SW {own : String} {idx : Nat} {y : MethodName} {b : ByteArray} {L : Nat} {r : Option FieldType} {hh : List (Nat × Nat × Nat × Nat)} (h1 : Cond.methodLink own idx y ∈ lw_all) (h2 : Cond.static y ∈ lw_all) (h3 : Cond.initialized y.cls ∈ lw_all) (h4 : Cond.codeWith y b L r hh ∈ lw_all) : GoodIn lw_all (va_wsS own idx y (wsW_ y b L r hh)) := by
  refine lw_app ?_ (lw_methW h4)
  intro w hw
  simp only [List.mem_cons, List.not_mem_nil, or_false] at hw
  rcases hw with e | e | e
  · rw [e]; exact h1
  · rw [e]; exact h2
  · rw [e]; exact h3
/-- a word by its place in its run of the tables -/
theorem lw_at {r : List Cond} (hr : ∀ w ∈ r, w ∈ lw_tbl) {w : Cond} (i : Nat) (h : r[i]? = some w) : w ∈ lw_tbl := hr w (List.mem_of_getElem? h)
theorem lw_g {w : Cond} (h : w ∈ lw_tbl) (g : goodWord w = true) : w ∈ lw_all := List.mem_filter.mpr ⟨h, g⟩
theorem lw_ms : ∀ w ∈ k2_sels lw_privs, w ∈ lw_tbl := fun w h => show w ∈ k2_sels lw_privs ++ tables_1 from List.mem_append_left _ h
theorem lw_m0 : ∀ w ∈ tables_1, w ∈ lw_tbl := fun w h => show w ∈ k2_sels lw_privs ++ tables_1 from List.mem_append_right (k2_sels lw_privs) h
theorem qs0 : (Cond.selects "ResidueTransforms$Residues" ⟨"ResidueTransforms$Residues", "power", "(JJ)J"⟩ ⟨"ResidueTransforms$Residues", "power", "(JJ)J"⟩) ∈ lw_all := lw_g (lw_at lw_ms 0 rfl) rfl
theorem qs1 : (Cond.selects "ResidueTransforms$Residues" ⟨"ResidueTransforms$Residues", "turn", "(I)V"⟩ ⟨"ResidueTransforms$Residues", "turn", "(I)V"⟩) ∈ lw_all := lw_g (lw_at lw_ms 1 rfl) rfl
theorem qs2 : (Cond.selects "ResidueTransforms$Residues" ⟨"ResidueTransforms$Residues", "pair", "(IIJ)V"⟩ ⟨"ResidueTransforms$Residues", "pair", "(IIJ)V"⟩) ∈ lw_all := lw_g (lw_at lw_ms 2 rfl) rfl
end
section
/-! java/lang/Object -/
set_option maxRecDepth 100000
def RJ0 : String := "java/lang/Object"
abbrev cJ0_init : ByteArray := object_method_1_code
def yJ0_init : MethodName := ⟨RJ0, "<init>", "()V"⟩
theorem dJ0_init_0 : decode cJ0_init 0 = .ok (.return_, 1) := by decide +kernel
theorem q13 : (Jvm.Cond.instanceMethod ({ cls := "java/lang/Object", name := "<init>", desc := "()V" } : Jvm.MethodName)) ∈ lw_all := lw_g (lw_at lw_m0 10 rfl) rfl
theorem q14 : (Jvm.Cond.code ({ cls := "java/lang/Object", name := "<init>", desc := "()V" } : Jvm.MethodName) object_method_1_code (1 : Nat) (Option.none : Option Jvm.ClassFile.FieldType)) ∈ lw_all := lw_g (lw_at lw_m0 11 rfl) rfl
theorem q30 : (Jvm.Cond.arrayClass Jvm.ClassFile.FieldType.long) ∈ lw_all := lw_g (lw_at lw_m0 27 rfl) rfl
set_option maxRecDepth 100000
/-! ResidueTransforms$Residues -/
set_option maxRecDepth 100000
def RX1 : String := "ResidueTransforms$Residues"
def TX1 : u_T := fun k => match k with
  | 0 => ("ResidueTransforms$Residues", "row", "[J", true)
  | _ => ("ResidueTransforms$Residues", "p", "J", false)
def tyX1 : Nat → FieldType := fun k => match k with
  | 0 => .array .long
  | _ => .long
abbrev wsX10 : List Cond := u_ws RX1 TX1 2
theorem nmX1 : ∀ a, a < 2 → ∀ b, b < 2 → a ≠ b → (TX1 a).2.1 ≠ (TX1 b).2.1 := by decide +kernel
theorem tyX1_ok : ∀ k, k < 2 → parseFieldDescriptor (TX1 k).2.2.1 = some (tyX1 k) := by decide +kernel
abbrev cX1_init : ByteArray := prog_2_method_1_code
def yX1_init : MethodName := ⟨RX1, "<init>", "()V"⟩
theorem dX1_init_0 : decode cX1_init 0 = .ok (.aload_n 0, 1) := by decide +kernel
theorem dX1_init_1 : decode cX1_init 1 = .ok (.invokespecial 1, 3) := by decide +kernel
theorem dX1_init_4 : decode cX1_init 4 = .ok (.aload_n 0, 1) := by decide +kernel
theorem dX1_init_5 : decode cX1_init 5 = .ok (.sipush 1024, 3) := by decide +kernel
theorem dX1_init_8 : decode cX1_init 8 = .ok (.newarray .long, 2) := by decide +kernel
theorem dX1_init_10 : decode cX1_init 10 = .ok (.putfield 9, 3) := by decide +kernel
theorem dX1_init_13 : decode cX1_init 13 = .ok (.return_, 1) := by decide +kernel
abbrev cX1_isPrime : ByteArray := prog_2_method_2_code
def yX1_isPrime : MethodName := ⟨RX1, "isPrime", "(I)Z"⟩
theorem dX1_isPrime_0 : decode cX1_isPrime 0 = .ok (.iload_n 0, 1) := by decide +kernel
theorem dX1_isPrime_1 : decode cX1_isPrime 1 = .ok (.iconst 3, 1) := by decide +kernel
theorem dX1_isPrime_2 : decode cX1_isPrime 2 = .ok (.if_icmp .lt 9, 3) := by decide +kernel
theorem dX1_isPrime_5 : decode cX1_isPrime 5 = .ok (.iload_n 0, 1) := by decide +kernel
theorem dX1_isPrime_6 : decode cX1_isPrime 6 = .ok (.iconst 2, 1) := by decide +kernel
theorem dX1_isPrime_7 : decode cX1_isPrime 7 = .ok (.irem, 1) := by decide +kernel
theorem dX1_isPrime_8 : decode cX1_isPrime 8 = .ok (.ifCond .ne 5, 3) := by decide +kernel
theorem dX1_isPrime_11 : decode cX1_isPrime 11 = .ok (.iconst 0, 1) := by decide +kernel
theorem dX1_isPrime_12 : decode cX1_isPrime 12 = .ok (.ireturn, 1) := by decide +kernel
theorem dX1_isPrime_13 : decode cX1_isPrime 13 = .ok (.iconst 3, 1) := by decide +kernel
theorem dX1_isPrime_14 : decode cX1_isPrime 14 = .ok (.istore_n 1, 1) := by decide +kernel
theorem dX1_isPrime_15 : decode cX1_isPrime 15 = .ok (.iload_n 1, 1) := by decide +kernel
theorem dX1_isPrime_16 : decode cX1_isPrime 16 = .ok (.i2l, 1) := by decide +kernel
theorem dX1_isPrime_17 : decode cX1_isPrime 17 = .ok (.iload_n 1, 1) := by decide +kernel
theorem dX1_isPrime_18 : decode cX1_isPrime 18 = .ok (.i2l, 1) := by decide +kernel
theorem dX1_isPrime_19 : decode cX1_isPrime 19 = .ok (.lmul, 1) := by decide +kernel
theorem dX1_isPrime_20 : decode cX1_isPrime 20 = .ok (.iload_n 0, 1) := by decide +kernel
theorem dX1_isPrime_21 : decode cX1_isPrime 21 = .ok (.i2l, 1) := by decide +kernel
theorem dX1_isPrime_22 : decode cX1_isPrime 22 = .ok (.lcmp, 1) := by decide +kernel
theorem dX1_isPrime_23 : decode cX1_isPrime 23 = .ok (.ifCond .gt 17, 3) := by decide +kernel
theorem dX1_isPrime_26 : decode cX1_isPrime 26 = .ok (.iload_n 0, 1) := by decide +kernel
theorem dX1_isPrime_27 : decode cX1_isPrime 27 = .ok (.iload_n 1, 1) := by decide +kernel
theorem dX1_isPrime_28 : decode cX1_isPrime 28 = .ok (.irem, 1) := by decide +kernel
theorem dX1_isPrime_29 : decode cX1_isPrime 29 = .ok (.ifCond .ne 5, 3) := by decide +kernel
theorem dX1_isPrime_32 : decode cX1_isPrime 32 = .ok (.iconst 0, 1) := by decide +kernel
theorem dX1_isPrime_33 : decode cX1_isPrime 33 = .ok (.ireturn, 1) := by decide +kernel
theorem dX1_isPrime_34 : decode cX1_isPrime 34 = .ok (.iinc 1 2, 3) := by decide +kernel
theorem dX1_isPrime_37 : decode cX1_isPrime 37 = .ok (.goto (-22), 3) := by decide +kernel
theorem dX1_isPrime_40 : decode cX1_isPrime 40 = .ok (.iconst 1, 1) := by decide +kernel
theorem dX1_isPrime_41 : decode cX1_isPrime 41 = .ok (.ireturn, 1) := by decide +kernel
abbrev cX1_work : ByteArray := prog_2_method_5_code
def yX1_work : MethodName := ⟨RX1, "work", "(IIZ)V"⟩
theorem dX1_work_0 : decode cX1_work 0 = .ok (.aload_n 0, 1) := by decide +kernel
theorem dX1_work_1 : decode cX1_work 1 = .ok (.iload_n 2, 1) := by decide +kernel
theorem dX1_work_2 : decode cX1_work 2 = .ok (.i2l, 1) := by decide +kernel
theorem dX1_work_3 : decode cX1_work 3 = .ok (.putfield 15, 3) := by decide +kernel
theorem dX1_work_6 : decode cX1_work 6 = .ok (.aload_n 0, 1) := by decide +kernel
theorem dX1_work_7 : decode cX1_work 7 = .ok (.iload_n 1, 1) := by decide +kernel
theorem dX1_work_8 : decode cX1_work 8 = .ok (.invokevirtual 23, 3) := by decide +kernel
theorem dX1_work_11 : decode cX1_work 11 = .ok (.lstore 4, 2) := by decide +kernel
theorem dX1_work_13 : decode cX1_work 13 = .ok (.iload_n 3, 1) := by decide +kernel
theorem dX1_work_14 : decode cX1_work 14 = .ok (.ifCond .eq 19, 3) := by decide +kernel
theorem dX1_work_17 : decode cX1_work 17 = .ok (.aload_n 0, 1) := by decide +kernel
theorem dX1_work_18 : decode cX1_work 18 = .ok (.lload 4, 2) := by decide +kernel
theorem dX1_work_20 : decode cX1_work 20 = .ok (.aload_n 0, 1) := by decide +kernel
theorem dX1_work_21 : decode cX1_work 21 = .ok (.getfield 15, 3) := by decide +kernel
theorem dX1_work_24 : decode cX1_work 24 = .ok (.ldc2_w 13, 3) := by decide +kernel
theorem dX1_work_27 : decode cX1_work 27 = .ok (.lsub, 1) := by decide +kernel
theorem dX1_work_28 : decode cX1_work 28 = .ok (.invokevirtual 19, 3) := by decide +kernel
theorem dX1_work_31 : decode cX1_work 31 = .ok (.lstore 4, 2) := by decide +kernel
theorem dX1_work_33 : decode cX1_work 33 = .ok (.aload_n 0, 1) := by decide +kernel
theorem dX1_work_34 : decode cX1_work 34 = .ok (.iload_n 1, 1) := by decide +kernel
theorem dX1_work_35 : decode cX1_work 35 = .ok (.invokevirtual 27, 3) := by decide +kernel
theorem dX1_work_38 : decode cX1_work 38 = .ok (.iconst 1, 1) := by decide +kernel
theorem dX1_work_39 : decode cX1_work 39 = .ok (.istore 6, 2) := by decide +kernel
theorem dX1_work_41 : decode cX1_work 41 = .ok (.iload 6, 2) := by decide +kernel
theorem dX1_work_43 : decode cX1_work 43 = .ok (.iload_n 1, 1) := by decide +kernel
theorem dX1_work_44 : decode cX1_work 44 = .ok (.if_icmp .ge 58, 3) := by decide +kernel
theorem dX1_work_47 : decode cX1_work 47 = .ok (.aload_n 0, 1) := by decide +kernel
theorem dX1_work_48 : decode cX1_work 48 = .ok (.lload 4, 2) := by decide +kernel
theorem dX1_work_50 : decode cX1_work 50 = .ok (.iload_n 1, 1) := by decide +kernel
theorem dX1_work_51 : decode cX1_work 51 = .ok (.iconst 2, 1) := by decide +kernel
theorem dX1_work_52 : decode cX1_work 52 = .ok (.iload 6, 2) := by decide +kernel
theorem dX1_work_54 : decode cX1_work 54 = .ok (.imul, 1) := by decide +kernel
theorem dX1_work_55 : decode cX1_work 55 = .ok (.idiv, 1) := by decide +kernel
theorem dX1_work_56 : decode cX1_work 56 = .ok (.i2l, 1) := by decide +kernel
theorem dX1_work_57 : decode cX1_work 57 = .ok (.invokevirtual 19, 3) := by decide +kernel
theorem dX1_work_60 : decode cX1_work 60 = .ok (.lstore 7, 2) := by decide +kernel
theorem dX1_work_62 : decode cX1_work 62 = .ok (.iconst 0, 1) := by decide +kernel
theorem dX1_work_63 : decode cX1_work 63 = .ok (.istore 9, 2) := by decide +kernel
theorem dX1_work_65 : decode cX1_work 65 = .ok (.iload 9, 2) := by decide +kernel
theorem dX1_work_67 : decode cX1_work 67 = .ok (.iload_n 1, 1) := by decide +kernel
theorem dX1_work_68 : decode cX1_work 68 = .ok (.if_icmp .ge 25, 3) := by decide +kernel
theorem dX1_work_71 : decode cX1_work 71 = .ok (.aload_n 0, 1) := by decide +kernel
theorem dX1_work_72 : decode cX1_work 72 = .ok (.iload 9, 2) := by decide +kernel
theorem dX1_work_74 : decode cX1_work 74 = .ok (.iload 6, 2) := by decide +kernel
theorem dX1_work_76 : decode cX1_work 76 = .ok (.lload 7, 2) := by decide +kernel
theorem dX1_work_78 : decode cX1_work 78 = .ok (.invokevirtual 31, 3) := by decide +kernel
theorem dX1_work_81 : decode cX1_work 81 = .ok (.iload 9, 2) := by decide +kernel
theorem dX1_work_83 : decode cX1_work 83 = .ok (.iconst 2, 1) := by decide +kernel
theorem dX1_work_84 : decode cX1_work 84 = .ok (.iload 6, 2) := by decide +kernel
theorem dX1_work_86 : decode cX1_work 86 = .ok (.imul, 1) := by decide +kernel
theorem dX1_work_87 : decode cX1_work 87 = .ok (.iadd, 1) := by decide +kernel
theorem dX1_work_88 : decode cX1_work 88 = .ok (.istore 9, 2) := by decide +kernel
theorem dX1_work_90 : decode cX1_work 90 = .ok (.goto (-25), 3) := by decide +kernel
theorem dX1_work_93 : decode cX1_work 93 = .ok (.iload 6, 2) := by decide +kernel
theorem dX1_work_95 : decode cX1_work 95 = .ok (.iconst 2, 1) := by decide +kernel
theorem dX1_work_96 : decode cX1_work 96 = .ok (.imul, 1) := by decide +kernel
theorem dX1_work_97 : decode cX1_work 97 = .ok (.istore 6, 2) := by decide +kernel
theorem dX1_work_99 : decode cX1_work 99 = .ok (.goto (-58), 3) := by decide +kernel
theorem dX1_work_102 : decode cX1_work 102 = .ok (.iload_n 3, 1) := by decide +kernel
theorem dX1_work_103 : decode cX1_work 103 = .ok (.ifCond .ne 4, 3) := by decide +kernel
theorem dX1_work_106 : decode cX1_work 106 = .ok (.return_, 1) := by decide +kernel
theorem dX1_work_107 : decode cX1_work 107 = .ok (.aload_n 0, 1) := by decide +kernel
theorem dX1_work_108 : decode cX1_work 108 = .ok (.iload_n 1, 1) := by decide +kernel
theorem dX1_work_109 : decode cX1_work 109 = .ok (.i2l, 1) := by decide +kernel
theorem dX1_work_110 : decode cX1_work 110 = .ok (.aload_n 0, 1) := by decide +kernel
theorem dX1_work_111 : decode cX1_work 111 = .ok (.getfield 15, 3) := by decide +kernel
theorem dX1_work_114 : decode cX1_work 114 = .ok (.ldc2_w 13, 3) := by decide +kernel
theorem dX1_work_117 : decode cX1_work 117 = .ok (.lsub, 1) := by decide +kernel
theorem dX1_work_118 : decode cX1_work 118 = .ok (.invokevirtual 19, 3) := by decide +kernel
theorem dX1_work_121 : decode cX1_work 121 = .ok (.lstore 6, 2) := by decide +kernel
theorem dX1_work_123 : decode cX1_work 123 = .ok (.iconst 0, 1) := by decide +kernel
theorem dX1_work_124 : decode cX1_work 124 = .ok (.istore 8, 2) := by decide +kernel
theorem dX1_work_126 : decode cX1_work 126 = .ok (.iload 8, 2) := by decide +kernel
theorem dX1_work_128 : decode cX1_work 128 = .ok (.iload_n 1, 1) := by decide +kernel
theorem dX1_work_129 : decode cX1_work 129 = .ok (.if_icmp .ge 31, 3) := by decide +kernel
theorem dX1_work_132 : decode cX1_work 132 = .ok (.aload_n 0, 1) := by decide +kernel
theorem dX1_work_133 : decode cX1_work 133 = .ok (.getfield 9, 3) := by decide +kernel
theorem dX1_work_136 : decode cX1_work 136 = .ok (.iload 8, 2) := by decide +kernel
theorem dX1_work_138 : decode cX1_work 138 = .ok (.aload_n 0, 1) := by decide +kernel
theorem dX1_work_139 : decode cX1_work 139 = .ok (.getfield 9, 3) := by decide +kernel
theorem dX1_work_142 : decode cX1_work 142 = .ok (.iload 8, 2) := by decide +kernel
theorem dX1_work_144 : decode cX1_work 144 = .ok (.laload, 1) := by decide +kernel
theorem dX1_work_145 : decode cX1_work 145 = .ok (.lload 6, 2) := by decide +kernel
theorem dX1_work_147 : decode cX1_work 147 = .ok (.lmul, 1) := by decide +kernel
theorem dX1_work_148 : decode cX1_work 148 = .ok (.aload_n 0, 1) := by decide +kernel
theorem dX1_work_149 : decode cX1_work 149 = .ok (.getfield 15, 3) := by decide +kernel
theorem dX1_work_152 : decode cX1_work 152 = .ok (.lrem, 1) := by decide +kernel
theorem dX1_work_153 : decode cX1_work 153 = .ok (.lastore, 1) := by decide +kernel
theorem dX1_work_154 : decode cX1_work 154 = .ok (.iinc 8 1, 3) := by decide +kernel
theorem dX1_work_157 : decode cX1_work 157 = .ok (.goto (-31), 3) := by decide +kernel
theorem dX1_work_160 : decode cX1_work 160 = .ok (.return_, 1) := by decide +kernel
abbrev cX1_root : ByteArray := prog_2_method_4_code
def yX1_root : MethodName := ⟨RX1, "root", "(I)J"⟩
theorem dX1_root_0 : decode cX1_root 0 = .ok (.iload_n 1, 1) := by decide +kernel
theorem dX1_root_1 : decode cX1_root 1 = .ok (.iconst 1, 1) := by decide +kernel
theorem dX1_root_2 : decode cX1_root 2 = .ok (.if_icmp .ne 5, 3) := by decide +kernel
theorem dX1_root_5 : decode cX1_root 5 = .ok (.lconst 1, 1) := by decide +kernel
theorem dX1_root_6 : decode cX1_root 6 = .ok (.lreturn, 1) := by decide +kernel
theorem dX1_root_7 : decode cX1_root 7 = .ok (.ldc2_w 13, 3) := by decide +kernel
theorem dX1_root_10 : decode cX1_root 10 = .ok (.lstore_n 2, 1) := by decide +kernel
theorem dX1_root_11 : decode cX1_root 11 = .ok (.aload_n 0, 1) := by decide +kernel
theorem dX1_root_12 : decode cX1_root 12 = .ok (.aload_n 0, 1) := by decide +kernel
theorem dX1_root_13 : decode cX1_root 13 = .ok (.lload_n 2, 1) := by decide +kernel
theorem dX1_root_14 : decode cX1_root 14 = .ok (.aload_n 0, 1) := by decide +kernel
theorem dX1_root_15 : decode cX1_root 15 = .ok (.getfield 15, 3) := by decide +kernel
theorem dX1_root_18 : decode cX1_root 18 = .ok (.lconst 1, 1) := by decide +kernel
theorem dX1_root_19 : decode cX1_root 19 = .ok (.lsub, 1) := by decide +kernel
theorem dX1_root_20 : decode cX1_root 20 = .ok (.iload_n 1, 1) := by decide +kernel
theorem dX1_root_21 : decode cX1_root 21 = .ok (.i2l, 1) := by decide +kernel
theorem dX1_root_22 : decode cX1_root 22 = .ok (.ldiv, 1) := by decide +kernel
theorem dX1_root_23 : decode cX1_root 23 = .ok (.invokevirtual 19, 3) := by decide +kernel
theorem dX1_root_26 : decode cX1_root 26 = .ok (.iload_n 1, 1) := by decide +kernel
theorem dX1_root_27 : decode cX1_root 27 = .ok (.iconst 2, 1) := by decide +kernel
theorem dX1_root_28 : decode cX1_root 28 = .ok (.idiv, 1) := by decide +kernel
theorem dX1_root_29 : decode cX1_root 29 = .ok (.i2l, 1) := by decide +kernel
theorem dX1_root_30 : decode cX1_root 30 = .ok (.invokevirtual 19, 3) := by decide +kernel
theorem dX1_root_33 : decode cX1_root 33 = .ok (.aload_n 0, 1) := by decide +kernel
theorem dX1_root_34 : decode cX1_root 34 = .ok (.getfield 15, 3) := by decide +kernel
theorem dX1_root_37 : decode cX1_root 37 = .ok (.lconst 1, 1) := by decide +kernel
theorem dX1_root_38 : decode cX1_root 38 = .ok (.lsub, 1) := by decide +kernel
theorem dX1_root_39 : decode cX1_root 39 = .ok (.lcmp, 1) := by decide +kernel
theorem dX1_root_40 : decode cX1_root 40 = .ok (.ifCond .eq 10, 3) := by decide +kernel
theorem dX1_root_43 : decode cX1_root 43 = .ok (.lload_n 2, 1) := by decide +kernel
theorem dX1_root_44 : decode cX1_root 44 = .ok (.lconst 1, 1) := by decide +kernel
theorem dX1_root_45 : decode cX1_root 45 = .ok (.ladd, 1) := by decide +kernel
theorem dX1_root_46 : decode cX1_root 46 = .ok (.lstore_n 2, 1) := by decide +kernel
theorem dX1_root_47 : decode cX1_root 47 = .ok (.goto (-36), 3) := by decide +kernel
theorem dX1_root_50 : decode cX1_root 50 = .ok (.aload_n 0, 1) := by decide +kernel
theorem dX1_root_51 : decode cX1_root 51 = .ok (.lload_n 2, 1) := by decide +kernel
theorem dX1_root_52 : decode cX1_root 52 = .ok (.aload_n 0, 1) := by decide +kernel
theorem dX1_root_53 : decode cX1_root 53 = .ok (.getfield 15, 3) := by decide +kernel
theorem dX1_root_56 : decode cX1_root 56 = .ok (.lconst 1, 1) := by decide +kernel
theorem dX1_root_57 : decode cX1_root 57 = .ok (.lsub, 1) := by decide +kernel
theorem dX1_root_58 : decode cX1_root 58 = .ok (.iload_n 1, 1) := by decide +kernel
theorem dX1_root_59 : decode cX1_root 59 = .ok (.i2l, 1) := by decide +kernel
theorem dX1_root_60 : decode cX1_root 60 = .ok (.ldiv, 1) := by decide +kernel
theorem dX1_root_61 : decode cX1_root 61 = .ok (.invokevirtual 19, 3) := by decide +kernel
theorem dX1_root_64 : decode cX1_root 64 = .ok (.lreturn, 1) := by decide +kernel
abbrev cX1_power : ByteArray := prog_2_method_3_code
def yX1_power : MethodName := ⟨RX1, "power", "(JJ)J"⟩
theorem dX1_power_0 : decode cX1_power 0 = .ok (.lconst 1, 1) := by decide +kernel
theorem dX1_power_1 : decode cX1_power 1 = .ok (.lstore 5, 2) := by decide +kernel
theorem dX1_power_3 : decode cX1_power 3 = .ok (.lload_n 1, 1) := by decide +kernel
theorem dX1_power_4 : decode cX1_power 4 = .ok (.lstore 7, 2) := by decide +kernel
theorem dX1_power_6 : decode cX1_power 6 = .ok (.lload_n 3, 1) := by decide +kernel
theorem dX1_power_7 : decode cX1_power 7 = .ok (.lstore 9, 2) := by decide +kernel
theorem dX1_power_9 : decode cX1_power 9 = .ok (.lload 9, 2) := by decide +kernel
theorem dX1_power_11 : decode cX1_power 11 = .ok (.lconst 0, 1) := by decide +kernel
theorem dX1_power_12 : decode cX1_power 12 = .ok (.lcmp, 1) := by decide +kernel
theorem dX1_power_13 : decode cX1_power 13 = .ok (.ifCond .le 49, 3) := by decide +kernel
theorem dX1_power_16 : decode cX1_power 16 = .ok (.lload 9, 2) := by decide +kernel
theorem dX1_power_18 : decode cX1_power 18 = .ok (.ldc2_w 13, 3) := by decide +kernel
theorem dX1_power_21 : decode cX1_power 21 = .ok (.lrem, 1) := by decide +kernel
theorem dX1_power_22 : decode cX1_power 22 = .ok (.lconst 1, 1) := by decide +kernel
theorem dX1_power_23 : decode cX1_power 23 = .ok (.lcmp, 1) := by decide +kernel
theorem dX1_power_24 : decode cX1_power 24 = .ok (.ifCond .ne 15, 3) := by decide +kernel
theorem dX1_power_27 : decode cX1_power 27 = .ok (.lload 5, 2) := by decide +kernel
theorem dX1_power_29 : decode cX1_power 29 = .ok (.lload 7, 2) := by decide +kernel
theorem dX1_power_31 : decode cX1_power 31 = .ok (.lmul, 1) := by decide +kernel
theorem dX1_power_32 : decode cX1_power 32 = .ok (.aload_n 0, 1) := by decide +kernel
theorem dX1_power_33 : decode cX1_power 33 = .ok (.getfield 15, 3) := by decide +kernel
theorem dX1_power_36 : decode cX1_power 36 = .ok (.lrem, 1) := by decide +kernel
theorem dX1_power_37 : decode cX1_power 37 = .ok (.lstore 5, 2) := by decide +kernel
theorem dX1_power_39 : decode cX1_power 39 = .ok (.lload 7, 2) := by decide +kernel
theorem dX1_power_41 : decode cX1_power 41 = .ok (.lload 7, 2) := by decide +kernel
theorem dX1_power_43 : decode cX1_power 43 = .ok (.lmul, 1) := by decide +kernel
theorem dX1_power_44 : decode cX1_power 44 = .ok (.aload_n 0, 1) := by decide +kernel
theorem dX1_power_45 : decode cX1_power 45 = .ok (.getfield 15, 3) := by decide +kernel
theorem dX1_power_48 : decode cX1_power 48 = .ok (.lrem, 1) := by decide +kernel
theorem dX1_power_49 : decode cX1_power 49 = .ok (.lstore 7, 2) := by decide +kernel
theorem dX1_power_51 : decode cX1_power 51 = .ok (.lload 9, 2) := by decide +kernel
theorem dX1_power_53 : decode cX1_power 53 = .ok (.ldc2_w 13, 3) := by decide +kernel
theorem dX1_power_56 : decode cX1_power 56 = .ok (.ldiv, 1) := by decide +kernel
theorem dX1_power_57 : decode cX1_power 57 = .ok (.lstore 9, 2) := by decide +kernel
theorem dX1_power_59 : decode cX1_power 59 = .ok (.goto (-50), 3) := by decide +kernel
theorem dX1_power_62 : decode cX1_power 62 = .ok (.lload 5, 2) := by decide +kernel
theorem dX1_power_64 : decode cX1_power 64 = .ok (.lreturn, 1) := by decide +kernel
abbrev cX1_turn : ByteArray := prog_2_method_7_code
def yX1_turn : MethodName := ⟨RX1, "turn", "(I)V"⟩
theorem dX1_turn_0 : decode cX1_turn 0 = .ok (.iconst 0, 1) := by decide +kernel
theorem dX1_turn_1 : decode cX1_turn 1 = .ok (.istore_n 2, 1) := by decide +kernel
theorem dX1_turn_2 : decode cX1_turn 2 = .ok (.iconst 1, 1) := by decide +kernel
theorem dX1_turn_3 : decode cX1_turn 3 = .ok (.istore_n 3, 1) := by decide +kernel
theorem dX1_turn_4 : decode cX1_turn 4 = .ok (.iload_n 3, 1) := by decide +kernel
theorem dX1_turn_5 : decode cX1_turn 5 = .ok (.iload_n 1, 1) := by decide +kernel
theorem dX1_turn_6 : decode cX1_turn 6 = .ok (.if_icmp .ge 73, 3) := by decide +kernel
theorem dX1_turn_9 : decode cX1_turn 9 = .ok (.iload_n 1, 1) := by decide +kernel
theorem dX1_turn_10 : decode cX1_turn 10 = .ok (.iconst 2, 1) := by decide +kernel
theorem dX1_turn_11 : decode cX1_turn 11 = .ok (.idiv, 1) := by decide +kernel
theorem dX1_turn_12 : decode cX1_turn 12 = .ok (.istore 4, 2) := by decide +kernel
theorem dX1_turn_14 : decode cX1_turn 14 = .ok (.iload_n 2, 1) := by decide +kernel
theorem dX1_turn_15 : decode cX1_turn 15 = .ok (.iload 4, 2) := by decide +kernel
theorem dX1_turn_17 : decode cX1_turn 17 = .ok (.iand, 1) := by decide +kernel
theorem dX1_turn_18 : decode cX1_turn 18 = .ok (.ifCond .eq 17, 3) := by decide +kernel
theorem dX1_turn_21 : decode cX1_turn 21 = .ok (.iload_n 2, 1) := by decide +kernel
theorem dX1_turn_22 : decode cX1_turn 22 = .ok (.iload 4, 2) := by decide +kernel
theorem dX1_turn_24 : decode cX1_turn 24 = .ok (.ixor, 1) := by decide +kernel
theorem dX1_turn_25 : decode cX1_turn 25 = .ok (.istore_n 2, 1) := by decide +kernel
theorem dX1_turn_26 : decode cX1_turn 26 = .ok (.iload 4, 2) := by decide +kernel
theorem dX1_turn_28 : decode cX1_turn 28 = .ok (.iconst 2, 1) := by decide +kernel
theorem dX1_turn_29 : decode cX1_turn 29 = .ok (.idiv, 1) := by decide +kernel
theorem dX1_turn_30 : decode cX1_turn 30 = .ok (.istore 4, 2) := by decide +kernel
theorem dX1_turn_32 : decode cX1_turn 32 = .ok (.goto (-18), 3) := by decide +kernel
theorem dX1_turn_35 : decode cX1_turn 35 = .ok (.iload_n 2, 1) := by decide +kernel
theorem dX1_turn_36 : decode cX1_turn 36 = .ok (.iload 4, 2) := by decide +kernel
theorem dX1_turn_38 : decode cX1_turn 38 = .ok (.ior, 1) := by decide +kernel
theorem dX1_turn_39 : decode cX1_turn 39 = .ok (.istore_n 2, 1) := by decide +kernel
theorem dX1_turn_40 : decode cX1_turn 40 = .ok (.iload_n 3, 1) := by decide +kernel
theorem dX1_turn_41 : decode cX1_turn 41 = .ok (.iload_n 2, 1) := by decide +kernel
theorem dX1_turn_42 : decode cX1_turn 42 = .ok (.if_icmp .ge 31, 3) := by decide +kernel
theorem dX1_turn_45 : decode cX1_turn 45 = .ok (.aload_n 0, 1) := by decide +kernel
theorem dX1_turn_46 : decode cX1_turn 46 = .ok (.getfield 9, 3) := by decide +kernel
theorem dX1_turn_49 : decode cX1_turn 49 = .ok (.iload_n 3, 1) := by decide +kernel
theorem dX1_turn_50 : decode cX1_turn 50 = .ok (.laload, 1) := by decide +kernel
theorem dX1_turn_51 : decode cX1_turn 51 = .ok (.lstore 5, 2) := by decide +kernel
theorem dX1_turn_53 : decode cX1_turn 53 = .ok (.aload_n 0, 1) := by decide +kernel
theorem dX1_turn_54 : decode cX1_turn 54 = .ok (.getfield 9, 3) := by decide +kernel
theorem dX1_turn_57 : decode cX1_turn 57 = .ok (.iload_n 3, 1) := by decide +kernel
theorem dX1_turn_58 : decode cX1_turn 58 = .ok (.aload_n 0, 1) := by decide +kernel
theorem dX1_turn_59 : decode cX1_turn 59 = .ok (.getfield 9, 3) := by decide +kernel
theorem dX1_turn_62 : decode cX1_turn 62 = .ok (.iload_n 2, 1) := by decide +kernel
theorem dX1_turn_63 : decode cX1_turn 63 = .ok (.laload, 1) := by decide +kernel
theorem dX1_turn_64 : decode cX1_turn 64 = .ok (.lastore, 1) := by decide +kernel
theorem dX1_turn_65 : decode cX1_turn 65 = .ok (.aload_n 0, 1) := by decide +kernel
theorem dX1_turn_66 : decode cX1_turn 66 = .ok (.getfield 9, 3) := by decide +kernel
theorem dX1_turn_69 : decode cX1_turn 69 = .ok (.iload_n 2, 1) := by decide +kernel
theorem dX1_turn_70 : decode cX1_turn 70 = .ok (.lload 5, 2) := by decide +kernel
theorem dX1_turn_72 : decode cX1_turn 72 = .ok (.lastore, 1) := by decide +kernel
theorem dX1_turn_73 : decode cX1_turn 73 = .ok (.iinc 3 1, 3) := by decide +kernel
theorem dX1_turn_76 : decode cX1_turn 76 = .ok (.goto (-72), 3) := by decide +kernel
theorem dX1_turn_79 : decode cX1_turn 79 = .ok (.return_, 1) := by decide +kernel
abbrev cX1_pair : ByteArray := prog_2_method_6_code
def yX1_pair : MethodName := ⟨RX1, "pair", "(IIJ)V"⟩
theorem dX1_pair_0 : decode cX1_pair 0 = .ok (.lconst 1, 1) := by decide +kernel
theorem dX1_pair_1 : decode cX1_pair 1 = .ok (.lstore 5, 2) := by decide +kernel
theorem dX1_pair_3 : decode cX1_pair 3 = .ok (.iload_n 1, 1) := by decide +kernel
theorem dX1_pair_4 : decode cX1_pair 4 = .ok (.istore 7, 2) := by decide +kernel
theorem dX1_pair_6 : decode cX1_pair 6 = .ok (.iload 7, 2) := by decide +kernel
theorem dX1_pair_8 : decode cX1_pair 8 = .ok (.iload_n 1, 1) := by decide +kernel
theorem dX1_pair_9 : decode cX1_pair 9 = .ok (.iload_n 2, 1) := by decide +kernel
theorem dX1_pair_10 : decode cX1_pair 10 = .ok (.iadd, 1) := by decide +kernel
theorem dX1_pair_11 : decode cX1_pair 11 = .ok (.if_icmp .ge 89, 3) := by decide +kernel
theorem dX1_pair_14 : decode cX1_pair 14 = .ok (.aload_n 0, 1) := by decide +kernel
theorem dX1_pair_15 : decode cX1_pair 15 = .ok (.getfield 9, 3) := by decide +kernel
theorem dX1_pair_18 : decode cX1_pair 18 = .ok (.iload 7, 2) := by decide +kernel
theorem dX1_pair_20 : decode cX1_pair 20 = .ok (.laload, 1) := by decide +kernel
theorem dX1_pair_21 : decode cX1_pair 21 = .ok (.lstore 8, 2) := by decide +kernel
theorem dX1_pair_23 : decode cX1_pair 23 = .ok (.aload_n 0, 1) := by decide +kernel
theorem dX1_pair_24 : decode cX1_pair 24 = .ok (.getfield 9, 3) := by decide +kernel
theorem dX1_pair_27 : decode cX1_pair 27 = .ok (.iload 7, 2) := by decide +kernel
theorem dX1_pair_29 : decode cX1_pair 29 = .ok (.iload_n 2, 1) := by decide +kernel
theorem dX1_pair_30 : decode cX1_pair 30 = .ok (.iadd, 1) := by decide +kernel
theorem dX1_pair_31 : decode cX1_pair 31 = .ok (.laload, 1) := by decide +kernel
theorem dX1_pair_32 : decode cX1_pair 32 = .ok (.lload 5, 2) := by decide +kernel
theorem dX1_pair_34 : decode cX1_pair 34 = .ok (.lmul, 1) := by decide +kernel
theorem dX1_pair_35 : decode cX1_pair 35 = .ok (.aload_n 0, 1) := by decide +kernel
theorem dX1_pair_36 : decode cX1_pair 36 = .ok (.getfield 15, 3) := by decide +kernel
theorem dX1_pair_39 : decode cX1_pair 39 = .ok (.lrem, 1) := by decide +kernel
theorem dX1_pair_40 : decode cX1_pair 40 = .ok (.lstore 10, 2) := by decide +kernel
theorem dX1_pair_42 : decode cX1_pair 42 = .ok (.aload_n 0, 1) := by decide +kernel
theorem dX1_pair_43 : decode cX1_pair 43 = .ok (.getfield 9, 3) := by decide +kernel
theorem dX1_pair_46 : decode cX1_pair 46 = .ok (.iload 7, 2) := by decide +kernel
theorem dX1_pair_48 : decode cX1_pair 48 = .ok (.lload 8, 2) := by decide +kernel
theorem dX1_pair_50 : decode cX1_pair 50 = .ok (.lload 10, 2) := by decide +kernel
theorem dX1_pair_52 : decode cX1_pair 52 = .ok (.ladd, 1) := by decide +kernel
theorem dX1_pair_53 : decode cX1_pair 53 = .ok (.aload_n 0, 1) := by decide +kernel
theorem dX1_pair_54 : decode cX1_pair 54 = .ok (.getfield 15, 3) := by decide +kernel
theorem dX1_pair_57 : decode cX1_pair 57 = .ok (.lrem, 1) := by decide +kernel
theorem dX1_pair_58 : decode cX1_pair 58 = .ok (.lastore, 1) := by decide +kernel
theorem dX1_pair_59 : decode cX1_pair 59 = .ok (.aload_n 0, 1) := by decide +kernel
theorem dX1_pair_60 : decode cX1_pair 60 = .ok (.getfield 9, 3) := by decide +kernel
theorem dX1_pair_63 : decode cX1_pair 63 = .ok (.iload 7, 2) := by decide +kernel
theorem dX1_pair_65 : decode cX1_pair 65 = .ok (.iload_n 2, 1) := by decide +kernel
theorem dX1_pair_66 : decode cX1_pair 66 = .ok (.iadd, 1) := by decide +kernel
theorem dX1_pair_67 : decode cX1_pair 67 = .ok (.lload 8, 2) := by decide +kernel
theorem dX1_pair_69 : decode cX1_pair 69 = .ok (.aload_n 0, 1) := by decide +kernel
theorem dX1_pair_70 : decode cX1_pair 70 = .ok (.getfield 15, 3) := by decide +kernel
theorem dX1_pair_73 : decode cX1_pair 73 = .ok (.ladd, 1) := by decide +kernel
theorem dX1_pair_74 : decode cX1_pair 74 = .ok (.lload 10, 2) := by decide +kernel
theorem dX1_pair_76 : decode cX1_pair 76 = .ok (.lsub, 1) := by decide +kernel
theorem dX1_pair_77 : decode cX1_pair 77 = .ok (.aload_n 0, 1) := by decide +kernel
theorem dX1_pair_78 : decode cX1_pair 78 = .ok (.getfield 15, 3) := by decide +kernel
theorem dX1_pair_81 : decode cX1_pair 81 = .ok (.lrem, 1) := by decide +kernel
theorem dX1_pair_82 : decode cX1_pair 82 = .ok (.lastore, 1) := by decide +kernel
theorem dX1_pair_83 : decode cX1_pair 83 = .ok (.lload 5, 2) := by decide +kernel
theorem dX1_pair_85 : decode cX1_pair 85 = .ok (.lload_n 3, 1) := by decide +kernel
theorem dX1_pair_86 : decode cX1_pair 86 = .ok (.lmul, 1) := by decide +kernel
theorem dX1_pair_87 : decode cX1_pair 87 = .ok (.aload_n 0, 1) := by decide +kernel
theorem dX1_pair_88 : decode cX1_pair 88 = .ok (.getfield 15, 3) := by decide +kernel
theorem dX1_pair_91 : decode cX1_pair 91 = .ok (.lrem, 1) := by decide +kernel
theorem dX1_pair_92 : decode cX1_pair 92 = .ok (.lstore 5, 2) := by decide +kernel
theorem dX1_pair_94 : decode cX1_pair 94 = .ok (.iinc 7 1, 3) := by decide +kernel
theorem dX1_pair_97 : decode cX1_pair 97 = .ok (.goto (-91), 3) := by decide +kernel
theorem dX1_pair_100 : decode cX1_pair 100 = .ok (.return_, 1) := by decide +kernel
theorem q5 : (Jvm.Cond.initialized "ResidueTransforms$Residues") ∈ lw_all := lw_g (lw_at lw_m0 2 rfl) rfl
theorem q16 : (Jvm.Cond.instantiable "ResidueTransforms$Residues" (2 : Nat)) ∈ lw_all := lw_g (lw_at lw_m0 13 rfl) rfl
theorem q18 : (Jvm.Cond.instanceMethod ({ cls := "ResidueTransforms$Residues", name := "<init>", desc := "()V" } : Jvm.MethodName)) ∈ lw_all := lw_g (lw_at lw_m0 15 rfl) rfl
theorem q19 : (Jvm.Cond.code ({ cls := "ResidueTransforms$Residues", name := "<init>", desc := "()V" } : Jvm.MethodName) prog_2_method_1_code (1 : Nat) (Option.none : Option Jvm.ClassFile.FieldType)) ∈ lw_all := lw_g (lw_at lw_m0 16 rfl) rfl
theorem q20 : (Jvm.Cond.methodLink "ResidueTransforms$Residues" (1 : Nat) ({ cls := "java/lang/Object", name := "<init>", desc := "()V" } : Jvm.MethodName)) ∈ lw_all := lw_g (lw_at lw_m0 17 rfl) rfl
theorem q21 : (Jvm.Cond.fieldLink "ResidueTransforms$Residues" (9 : Nat) "ResidueTransforms$Residues" "row" "[J") ∈ lw_all := lw_g (lw_at lw_m0 18 rfl) rfl
theorem q24 : (Jvm.Cond.fieldLink "ResidueTransforms$Residues" (15 : Nat) "ResidueTransforms$Residues" "p" "J") ∈ lw_all := lw_g (lw_at lw_m0 21 rfl) rfl
theorem q25 : (Jvm.Cond.laysFinal "ResidueTransforms$Residues" "ResidueTransforms$Residues" "row" "[J") ∈ lw_all := lw_g (lw_at lw_m0 22 rfl) rfl
theorem q26 : (Jvm.Cond.soleField "ResidueTransforms$Residues" "row") ∈ lw_all := lw_g (lw_at lw_m0 23 rfl) rfl
theorem q27 : (Jvm.Cond.lays "ResidueTransforms$Residues" "ResidueTransforms$Residues" "p" "J") ∈ lw_all := lw_g (lw_at lw_m0 24 rfl) rfl
theorem q28 : (Jvm.Cond.soleField "ResidueTransforms$Residues" "p") ∈ lw_all := lw_g (lw_at lw_m0 25 rfl) rfl
theorem q29 : (Jvm.Cond.superclass "ResidueTransforms$Residues" "java/lang/Object") ∈ lw_all := lw_g (lw_at lw_m0 26 rfl) rfl
theorem q65 : (Jvm.Cond.static ({ cls := "ResidueTransforms$Residues", name := "isPrime", desc := "(I)Z" } : Jvm.MethodName)) ∈ lw_all := lw_g (lw_at lw_m0 62 rfl) rfl
theorem q66 : (Jvm.Cond.code ({ cls := "ResidueTransforms$Residues", name := "isPrime", desc := "(I)Z" } : Jvm.MethodName) prog_2_method_2_code (2 : Nat) (Option.some Jvm.ClassFile.FieldType.boolean)) ∈ lw_all := lw_g (lw_at lw_m0 63 rfl) rfl
theorem q71 : (Jvm.Cond.instanceMethod ({ cls := "ResidueTransforms$Residues", name := "work", desc := "(IIZ)V" } : Jvm.MethodName)) ∈ lw_all := lw_g (lw_at lw_m0 68 rfl) rfl
theorem q72 : (Jvm.Cond.selects "ResidueTransforms$Residues" ({ cls := "ResidueTransforms$Residues", name := "work", desc := "(IIZ)V" } : Jvm.MethodName) ({ cls := "ResidueTransforms$Residues", name := "work", desc := "(IIZ)V" } : Jvm.MethodName)) ∈ lw_all := lw_g (lw_at lw_m0 69 rfl) rfl
theorem q73 : (Jvm.Cond.code ({ cls := "ResidueTransforms$Residues", name := "work", desc := "(IIZ)V" } : Jvm.MethodName) prog_2_method_5_code (10 : Nat) (Option.none : Option Jvm.ClassFile.FieldType)) ∈ lw_all := lw_g (lw_at lw_m0 70 rfl) rfl
theorem q74 : (Jvm.Cond.methodLink "ResidueTransforms$Residues" (23 : Nat) ({ cls := "ResidueTransforms$Residues", name := "root", desc := "(I)J" } : Jvm.MethodName)) ∈ lw_all := lw_g (lw_at lw_m0 71 rfl) rfl
theorem q75 : (Jvm.Cond.instanceMethod ({ cls := "ResidueTransforms$Residues", name := "root", desc := "(I)J" } : Jvm.MethodName)) ∈ lw_all := lw_g (lw_at lw_m0 72 rfl) rfl
theorem q76 : (Jvm.Cond.selects "ResidueTransforms$Residues" ({ cls := "ResidueTransforms$Residues", name := "root", desc := "(I)J" } : Jvm.MethodName) ({ cls := "ResidueTransforms$Residues", name := "root", desc := "(I)J" } : Jvm.MethodName)) ∈ lw_all := lw_g (lw_at lw_m0 73 rfl) rfl
theorem q77 : (Jvm.Cond.code ({ cls := "ResidueTransforms$Residues", name := "root", desc := "(I)J" } : Jvm.MethodName) prog_2_method_4_code (4 : Nat) (Option.some Jvm.ClassFile.FieldType.long)) ∈ lw_all := lw_g (lw_at lw_m0 74 rfl) rfl
theorem q78 : (Jvm.Cond.constantLong "ResidueTransforms$Residues" (13 : Nat) (2 : Int64)) ∈ lw_all := lw_g (lw_at lw_m0 75 rfl) rfl
theorem q79 : (Jvm.Cond.methodLink "ResidueTransforms$Residues" (19 : Nat) ({ cls := "ResidueTransforms$Residues", name := "power", desc := "(JJ)J" } : Jvm.MethodName)) ∈ lw_all := lw_g (lw_at lw_m0 76 rfl) rfl
theorem q80 : (Jvm.Cond.privateMethod ({ cls := "ResidueTransforms$Residues", name := "power", desc := "(JJ)J" } : Jvm.MethodName)) ∈ lw_tbl := lw_at lw_m0 77 rfl
theorem q81 : (Jvm.Cond.instanceMethod ({ cls := "ResidueTransforms$Residues", name := "power", desc := "(JJ)J" } : Jvm.MethodName)) ∈ lw_all := lw_g (lw_at lw_m0 78 rfl) rfl
theorem q82 : (Jvm.Cond.code ({ cls := "ResidueTransforms$Residues", name := "power", desc := "(JJ)J" } : Jvm.MethodName) prog_2_method_3_code (11 : Nat) (Option.some Jvm.ClassFile.FieldType.long)) ∈ lw_all := lw_g (lw_at lw_m0 79 rfl) rfl
theorem q83 : (Jvm.Cond.methodLink "ResidueTransforms$Residues" (27 : Nat) ({ cls := "ResidueTransforms$Residues", name := "turn", desc := "(I)V" } : Jvm.MethodName)) ∈ lw_all := lw_g (lw_at lw_m0 80 rfl) rfl
theorem q84 : (Jvm.Cond.privateMethod ({ cls := "ResidueTransforms$Residues", name := "turn", desc := "(I)V" } : Jvm.MethodName)) ∈ lw_tbl := lw_at lw_m0 81 rfl
theorem q85 : (Jvm.Cond.instanceMethod ({ cls := "ResidueTransforms$Residues", name := "turn", desc := "(I)V" } : Jvm.MethodName)) ∈ lw_all := lw_g (lw_at lw_m0 82 rfl) rfl
theorem q86 : (Jvm.Cond.code ({ cls := "ResidueTransforms$Residues", name := "turn", desc := "(I)V" } : Jvm.MethodName) prog_2_method_7_code (7 : Nat) (Option.none : Option Jvm.ClassFile.FieldType)) ∈ lw_all := lw_g (lw_at lw_m0 83 rfl) rfl
theorem q87 : (Jvm.Cond.methodLink "ResidueTransforms$Residues" (31 : Nat) ({ cls := "ResidueTransforms$Residues", name := "pair", desc := "(IIJ)V" } : Jvm.MethodName)) ∈ lw_all := lw_g (lw_at lw_m0 84 rfl) rfl
theorem q88 : (Jvm.Cond.privateMethod ({ cls := "ResidueTransforms$Residues", name := "pair", desc := "(IIJ)V" } : Jvm.MethodName)) ∈ lw_tbl := lw_at lw_m0 85 rfl
theorem q89 : (Jvm.Cond.instanceMethod ({ cls := "ResidueTransforms$Residues", name := "pair", desc := "(IIJ)V" } : Jvm.MethodName)) ∈ lw_all := lw_g (lw_at lw_m0 86 rfl) rfl
theorem q90 : (Jvm.Cond.code ({ cls := "ResidueTransforms$Residues", name := "pair", desc := "(IIJ)V" } : Jvm.MethodName) prog_2_method_6_code (12 : Nat) (Option.none : Option Jvm.ClassFile.FieldType)) ∈ lw_all := lw_g (lw_at lw_m0 87 rfl) rfl
theorem in_X1 : ∀ w ∈ wsX10, w ∈ lw_all := lw_in wsX10 [25, 27] (by decide +kernel) (by decide +kernel)
end
section
/-! ResidueTransforms -/
set_option maxRecDepth 100000
def RX0 : String := "ResidueTransforms"
def TX0 : u_T := fun k => match k with
  | 0 => ("ResidueTransforms", "residues", "LResidueTransforms$Residues;", true)
  | 1 => ("ResidueTransforms", "row", "[J", true)
  | _ => ("ResidueTransforms", "kept", "[J", true)
def tyX0 : Nat → FieldType := fun k => match k with
  | 0 => .object "ResidueTransforms$Residues"
  | 1 => .array .long
  | _ => .array .long
abbrev wsX00 : List Cond := u_ws RX0 TX0 3
theorem nmX0 : ∀ a, a < 3 → ∀ b, b < 3 → a ≠ b → (TX0 a).2.1 ≠ (TX0 b).2.1 := by decide +kernel
theorem tyX0_ok : ∀ k, k < 3 → parseFieldDescriptor (TX0 k).2.2.1 = some (tyX0 k) := by decide +kernel
abbrev cX0_init : ByteArray := prog_1_method_1_code
def yX0_init : MethodName := ⟨RX0, "<init>", "()V"⟩
theorem dX0_init_0 : decode cX0_init 0 = .ok (.aload_n 0, 1) := by decide +kernel
theorem dX0_init_1 : decode cX0_init 1 = .ok (.invokespecial 1, 3) := by decide +kernel
theorem dX0_init_4 : decode cX0_init 4 = .ok (.aload_n 0, 1) := by decide +kernel
theorem dX0_init_5 : decode cX0_init 5 = .ok (.new 7, 3) := by decide +kernel
theorem dX0_init_8 : decode cX0_init 8 = .ok (.dup, 1) := by decide +kernel
theorem dX0_init_9 : decode cX0_init 9 = .ok (.invokespecial 9, 3) := by decide +kernel
theorem dX0_init_12 : decode cX0_init 12 = .ok (.putfield 10, 3) := by decide +kernel
theorem dX0_init_15 : decode cX0_init 15 = .ok (.aload_n 0, 1) := by decide +kernel
theorem dX0_init_16 : decode cX0_init 16 = .ok (.sipush 1024, 3) := by decide +kernel
theorem dX0_init_19 : decode cX0_init 19 = .ok (.newarray .long, 2) := by decide +kernel
theorem dX0_init_21 : decode cX0_init 21 = .ok (.putfield 16, 3) := by decide +kernel
theorem dX0_init_24 : decode cX0_init 24 = .ok (.aload_n 0, 1) := by decide +kernel
theorem dX0_init_25 : decode cX0_init 25 = .ok (.sipush 1024, 3) := by decide +kernel
theorem dX0_init_28 : decode cX0_init 28 = .ok (.newarray .long, 2) := by decide +kernel
theorem dX0_init_30 : decode cX0_init 30 = .ok (.putfield 20, 3) := by decide +kernel
theorem dX0_init_33 : decode cX0_init 33 = .ok (.aload_n 0, 1) := by decide +kernel
theorem dX0_init_34 : decode cX0_init 34 = .ok (.getfield 10, 3) := by decide +kernel
theorem dX0_init_37 : decode cX0_init 37 = .ok (.ldc2_w 23, 3) := by decide +kernel
theorem dX0_init_40 : decode cX0_init 40 = .ok (.putfield 25, 3) := by decide +kernel
theorem dX0_init_43 : decode cX0_init 43 = .ok (.return_, 1) := by decide +kernel
abbrev cX0_put : ByteArray := prog_1_method_3_code
def yX0_put : MethodName := ⟨RX0, "put", "(IJ)Z"⟩
theorem dX0_put_0 : decode cX0_put 0 = .ok (.iload_n 1, 1) := by decide +kernel
theorem dX0_put_1 : decode cX0_put 1 = .ok (.invokestatic 29, 3) := by decide +kernel
theorem dX0_put_4 : decode cX0_put 4 = .ok (.ifCond .ne 5, 3) := by decide +kernel
theorem dX0_put_7 : decode cX0_put 7 = .ok (.iconst 0, 1) := by decide +kernel
theorem dX0_put_8 : decode cX0_put 8 = .ok (.ireturn, 1) := by decide +kernel
theorem dX0_put_9 : decode cX0_put 9 = .ok (.aload_n 0, 1) := by decide +kernel
theorem dX0_put_10 : decode cX0_put 10 = .ok (.getfield 16, 3) := by decide +kernel
theorem dX0_put_13 : decode cX0_put 13 = .ok (.iload_n 1, 1) := by decide +kernel
theorem dX0_put_14 : decode cX0_put 14 = .ok (.lload_n 2, 1) := by decide +kernel
theorem dX0_put_15 : decode cX0_put 15 = .ok (.lastore, 1) := by decide +kernel
theorem dX0_put_16 : decode cX0_put 16 = .ok (.iconst 1, 1) := by decide +kernel
theorem dX0_put_17 : decode cX0_put 17 = .ok (.ireturn, 1) := by decide +kernel
abbrev cX0_isPlace : ByteArray := prog_1_method_2_code
def yX0_isPlace : MethodName := ⟨RX0, "isPlace", "(I)Z"⟩
theorem dX0_isPlace_0 : decode cX0_isPlace 0 = .ok (.iload_n 0, 1) := by decide +kernel
theorem dX0_isPlace_1 : decode cX0_isPlace 1 = .ok (.ifCond .lt 14, 3) := by decide +kernel
theorem dX0_isPlace_4 : decode cX0_isPlace 4 = .ok (.iload_n 0, 1) := by decide +kernel
theorem dX0_isPlace_5 : decode cX0_isPlace 5 = .ok (.sipush 1024, 3) := by decide +kernel
theorem dX0_isPlace_8 : decode cX0_isPlace 8 = .ok (.if_icmp .ge 7, 3) := by decide +kernel
theorem dX0_isPlace_11 : decode cX0_isPlace 11 = .ok (.iconst 1, 1) := by decide +kernel
theorem dX0_isPlace_12 : decode cX0_isPlace 12 = .ok (.goto 4, 3) := by decide +kernel
theorem dX0_isPlace_15 : decode cX0_isPlace 15 = .ok (.iconst 0, 1) := by decide +kernel
theorem dX0_isPlace_16 : decode cX0_isPlace 16 = .ok (.ireturn, 1) := by decide +kernel
abbrev cX0_get : ByteArray := prog_1_method_4_code
def yX0_get : MethodName := ⟨RX0, "get", "(I)J"⟩
theorem dX0_get_0 : decode cX0_get 0 = .ok (.iload_n 1, 1) := by decide +kernel
theorem dX0_get_1 : decode cX0_get 1 = .ok (.invokestatic 29, 3) := by decide +kernel
theorem dX0_get_4 : decode cX0_get 4 = .ok (.ifCond .eq 12, 3) := by decide +kernel
theorem dX0_get_7 : decode cX0_get 7 = .ok (.aload_n 0, 1) := by decide +kernel
theorem dX0_get_8 : decode cX0_get 8 = .ok (.getfield 16, 3) := by decide +kernel
theorem dX0_get_11 : decode cX0_get 11 = .ok (.iload_n 1, 1) := by decide +kernel
theorem dX0_get_12 : decode cX0_get 12 = .ok (.laload, 1) := by decide +kernel
theorem dX0_get_13 : decode cX0_get 13 = .ok (.goto 4, 3) := by decide +kernel
theorem dX0_get_16 : decode cX0_get 16 = .ok (.lconst 0, 1) := by decide +kernel
theorem dX0_get_17 : decode cX0_get 17 = .ok (.lreturn, 1) := by decide +kernel
abbrev cX0_transform : ByteArray := prog_1_method_8_code
def yX0_transform : MethodName := ⟨RX0, "transform", "(IIZ)I"⟩
theorem dX0_transform_0 : decode cX0_transform 0 = .ok (.iload_n 1, 1) := by decide +kernel
theorem dX0_transform_1 : decode cX0_transform 1 = .ok (.iload_n 2, 1) := by decide +kernel
theorem dX0_transform_2 : decode cX0_transform 2 = .ok (.invokestatic 40, 3) := by decide +kernel
theorem dX0_transform_5 : decode cX0_transform 5 = .ok (.istore 4, 2) := by decide +kernel
theorem dX0_transform_7 : decode cX0_transform 7 = .ok (.iload 4, 2) := by decide +kernel
theorem dX0_transform_9 : decode cX0_transform 9 = .ok (.ifCond .ge 6, 3) := by decide +kernel
theorem dX0_transform_12 : decode cX0_transform 12 = .ok (.iload 4, 2) := by decide +kernel
theorem dX0_transform_14 : decode cX0_transform 14 = .ok (.ireturn, 1) := by decide +kernel
theorem dX0_transform_15 : decode cX0_transform 15 = .ok (.iconst 0, 1) := by decide +kernel
theorem dX0_transform_16 : decode cX0_transform 16 = .ok (.istore 5, 2) := by decide +kernel
theorem dX0_transform_18 : decode cX0_transform 18 = .ok (.iload 5, 2) := by decide +kernel
theorem dX0_transform_20 : decode cX0_transform 20 = .ok (.iload_n 1, 1) := by decide +kernel
theorem dX0_transform_21 : decode cX0_transform 21 = .ok (.if_icmp .ge 30, 3) := by decide +kernel
theorem dX0_transform_24 : decode cX0_transform 24 = .ok (.aload_n 0, 1) := by decide +kernel
theorem dX0_transform_25 : decode cX0_transform 25 = .ok (.getfield 10, 3) := by decide +kernel
theorem dX0_transform_28 : decode cX0_transform 28 = .ok (.getfield 44, 3) := by decide +kernel
theorem dX0_transform_31 : decode cX0_transform 31 = .ok (.iload 5, 2) := by decide +kernel
theorem dX0_transform_33 : decode cX0_transform 33 = .ok (.aload_n 0, 1) := by decide +kernel
theorem dX0_transform_34 : decode cX0_transform 34 = .ok (.getfield 16, 3) := by decide +kernel
theorem dX0_transform_37 : decode cX0_transform 37 = .ok (.iload 5, 2) := by decide +kernel
theorem dX0_transform_39 : decode cX0_transform 39 = .ok (.laload, 1) := by decide +kernel
theorem dX0_transform_40 : decode cX0_transform 40 = .ok (.iload_n 2, 1) := by decide +kernel
theorem dX0_transform_41 : decode cX0_transform 41 = .ok (.invokestatic 45, 3) := by decide +kernel
theorem dX0_transform_44 : decode cX0_transform 44 = .ok (.lastore, 1) := by decide +kernel
theorem dX0_transform_45 : decode cX0_transform 45 = .ok (.iinc 5 1, 3) := by decide +kernel
theorem dX0_transform_48 : decode cX0_transform 48 = .ok (.goto (-30), 3) := by decide +kernel
theorem dX0_transform_51 : decode cX0_transform 51 = .ok (.aload_n 0, 1) := by decide +kernel
theorem dX0_transform_52 : decode cX0_transform 52 = .ok (.getfield 10, 3) := by decide +kernel
theorem dX0_transform_55 : decode cX0_transform 55 = .ok (.iload_n 1, 1) := by decide +kernel
theorem dX0_transform_56 : decode cX0_transform 56 = .ok (.iload_n 2, 1) := by decide +kernel
theorem dX0_transform_57 : decode cX0_transform 57 = .ok (.iload_n 3, 1) := by decide +kernel
theorem dX0_transform_58 : decode cX0_transform 58 = .ok (.invokevirtual 49, 3) := by decide +kernel
theorem dX0_transform_61 : decode cX0_transform 61 = .ok (.iconst 0, 1) := by decide +kernel
theorem dX0_transform_62 : decode cX0_transform 62 = .ok (.istore 5, 2) := by decide +kernel
theorem dX0_transform_64 : decode cX0_transform 64 = .ok (.iload 5, 2) := by decide +kernel
theorem dX0_transform_66 : decode cX0_transform 66 = .ok (.iload_n 1, 1) := by decide +kernel
theorem dX0_transform_67 : decode cX0_transform 67 = .ok (.if_icmp .ge 26, 3) := by decide +kernel
theorem dX0_transform_70 : decode cX0_transform 70 = .ok (.aload_n 0, 1) := by decide +kernel
theorem dX0_transform_71 : decode cX0_transform 71 = .ok (.getfield 16, 3) := by decide +kernel
theorem dX0_transform_74 : decode cX0_transform 74 = .ok (.iload 5, 2) := by decide +kernel
theorem dX0_transform_76 : decode cX0_transform 76 = .ok (.aload_n 0, 1) := by decide +kernel
theorem dX0_transform_77 : decode cX0_transform 77 = .ok (.getfield 10, 3) := by decide +kernel
theorem dX0_transform_80 : decode cX0_transform 80 = .ok (.getfield 44, 3) := by decide +kernel
theorem dX0_transform_83 : decode cX0_transform 83 = .ok (.iload 5, 2) := by decide +kernel
theorem dX0_transform_85 : decode cX0_transform 85 = .ok (.laload, 1) := by decide +kernel
theorem dX0_transform_86 : decode cX0_transform 86 = .ok (.lastore, 1) := by decide +kernel
theorem dX0_transform_87 : decode cX0_transform 87 = .ok (.iinc 5 1, 3) := by decide +kernel
theorem dX0_transform_90 : decode cX0_transform 90 = .ok (.goto (-26), 3) := by decide +kernel
theorem dX0_transform_93 : decode cX0_transform 93 = .ok (.iconst 0, 1) := by decide +kernel
theorem dX0_transform_94 : decode cX0_transform 94 = .ok (.ireturn, 1) := by decide +kernel
abbrev cX0_refusal : ByteArray := prog_1_method_6_code
def yX0_refusal : MethodName := ⟨RX0, "refusal", "(II)I"⟩
theorem dX0_refusal_0 : decode cX0_refusal 0 = .ok (.iload_n 0, 1) := by decide +kernel
theorem dX0_refusal_1 : decode cX0_refusal 1 = .ok (.iconst 1, 1) := by decide +kernel
theorem dX0_refusal_2 : decode cX0_refusal 2 = .ok (.if_icmp .lt 18, 3) := by decide +kernel
theorem dX0_refusal_5 : decode cX0_refusal 5 = .ok (.iload_n 0, 1) := by decide +kernel
theorem dX0_refusal_6 : decode cX0_refusal 6 = .ok (.sipush 1024, 3) := by decide +kernel
theorem dX0_refusal_9 : decode cX0_refusal 9 = .ok (.if_icmp .gt 11, 3) := by decide +kernel
theorem dX0_refusal_12 : decode cX0_refusal 12 = .ok (.iload_n 0, 1) := by decide +kernel
theorem dX0_refusal_13 : decode cX0_refusal 13 = .ok (.iload_n 0, 1) := by decide +kernel
theorem dX0_refusal_14 : decode cX0_refusal 14 = .ok (.iconst 1, 1) := by decide +kernel
theorem dX0_refusal_15 : decode cX0_refusal 15 = .ok (.isub, 1) := by decide +kernel
theorem dX0_refusal_16 : decode cX0_refusal 16 = .ok (.iand, 1) := by decide +kernel
theorem dX0_refusal_17 : decode cX0_refusal 17 = .ok (.ifCond .eq 5, 3) := by decide +kernel
theorem dX0_refusal_20 : decode cX0_refusal 20 = .ok (.iconst (-1), 1) := by decide +kernel
theorem dX0_refusal_21 : decode cX0_refusal 21 = .ok (.ireturn, 1) := by decide +kernel
theorem dX0_refusal_22 : decode cX0_refusal 22 = .ok (.iload_n 1, 1) := by decide +kernel
theorem dX0_refusal_23 : decode cX0_refusal 23 = .ok (.invokestatic 37, 3) := by decide +kernel
theorem dX0_refusal_26 : decode cX0_refusal 26 = .ok (.ifCond .ne 6, 3) := by decide +kernel
theorem dX0_refusal_29 : decode cX0_refusal 29 = .ok (.bipush (-2), 2) := by decide +kernel
theorem dX0_refusal_31 : decode cX0_refusal 31 = .ok (.ireturn, 1) := by decide +kernel
theorem dX0_refusal_32 : decode cX0_refusal 32 = .ok (.iload_n 1, 1) := by decide +kernel
theorem dX0_refusal_33 : decode cX0_refusal 33 = .ok (.iconst 1, 1) := by decide +kernel
theorem dX0_refusal_34 : decode cX0_refusal 34 = .ok (.isub, 1) := by decide +kernel
theorem dX0_refusal_35 : decode cX0_refusal 35 = .ok (.iload_n 0, 1) := by decide +kernel
theorem dX0_refusal_36 : decode cX0_refusal 36 = .ok (.irem, 1) := by decide +kernel
theorem dX0_refusal_37 : decode cX0_refusal 37 = .ok (.ifCond .eq 8, 3) := by decide +kernel
theorem dX0_refusal_40 : decode cX0_refusal 40 = .ok (.bipush (-3), 2) := by decide +kernel
theorem dX0_refusal_42 : decode cX0_refusal 42 = .ok (.goto 4, 3) := by decide +kernel
theorem dX0_refusal_45 : decode cX0_refusal 45 = .ok (.iconst 0, 1) := by decide +kernel
theorem dX0_refusal_46 : decode cX0_refusal 46 = .ok (.ireturn, 1) := by decide +kernel
abbrev cX0_isGood : ByteArray := prog_1_method_5_code
def yX0_isGood : MethodName := ⟨RX0, "isGood", "(I)Z"⟩
theorem dX0_isGood_0 : decode cX0_isGood 0 = .ok (.iload_n 0, 1) := by decide +kernel
theorem dX0_isGood_1 : decode cX0_isGood 1 = .ok (.ldc 33, 2) := by decide +kernel
theorem dX0_isGood_3 : decode cX0_isGood 3 = .ok (.if_icmp .gt 14, 3) := by decide +kernel
theorem dX0_isGood_6 : decode cX0_isGood 6 = .ok (.iload_n 0, 1) := by decide +kernel
theorem dX0_isGood_7 : decode cX0_isGood 7 = .ok (.invokestatic 34, 3) := by decide +kernel
theorem dX0_isGood_10 : decode cX0_isGood 10 = .ok (.ifCond .eq 7, 3) := by decide +kernel
theorem dX0_isGood_13 : decode cX0_isGood 13 = .ok (.iconst 1, 1) := by decide +kernel
theorem dX0_isGood_14 : decode cX0_isGood 14 = .ok (.goto 4, 3) := by decide +kernel
theorem dX0_isGood_17 : decode cX0_isGood 17 = .ok (.iconst 0, 1) := by decide +kernel
theorem dX0_isGood_18 : decode cX0_isGood 18 = .ok (.ireturn, 1) := by decide +kernel
abbrev cX0_rest : ByteArray := prog_1_method_7_code
def yX0_rest : MethodName := ⟨RX0, "rest", "(JI)J"⟩
theorem dX0_rest_0 : decode cX0_rest 0 = .ok (.lload_n 0, 1) := by decide +kernel
theorem dX0_rest_1 : decode cX0_rest 1 = .ok (.iload_n 2, 1) := by decide +kernel
theorem dX0_rest_2 : decode cX0_rest 2 = .ok (.i2l, 1) := by decide +kernel
theorem dX0_rest_3 : decode cX0_rest 3 = .ok (.lrem, 1) := by decide +kernel
theorem dX0_rest_4 : decode cX0_rest 4 = .ok (.lstore_n 3, 1) := by decide +kernel
theorem dX0_rest_5 : decode cX0_rest 5 = .ok (.lload_n 3, 1) := by decide +kernel
theorem dX0_rest_6 : decode cX0_rest 6 = .ok (.lconst 0, 1) := by decide +kernel
theorem dX0_rest_7 : decode cX0_rest 7 = .ok (.lcmp, 1) := by decide +kernel
theorem dX0_rest_8 : decode cX0_rest 8 = .ok (.ifCond .ge 10, 3) := by decide +kernel
theorem dX0_rest_11 : decode cX0_rest 11 = .ok (.lload_n 3, 1) := by decide +kernel
theorem dX0_rest_12 : decode cX0_rest 12 = .ok (.iload_n 2, 1) := by decide +kernel
theorem dX0_rest_13 : decode cX0_rest 13 = .ok (.i2l, 1) := by decide +kernel
theorem dX0_rest_14 : decode cX0_rest 14 = .ok (.ladd, 1) := by decide +kernel
theorem dX0_rest_15 : decode cX0_rest 15 = .ok (.goto 4, 3) := by decide +kernel
theorem dX0_rest_18 : decode cX0_rest 18 = .ok (.lload_n 3, 1) := by decide +kernel
theorem dX0_rest_19 : decode cX0_rest 19 = .ok (.lreturn, 1) := by decide +kernel
abbrev cX0_keep : ByteArray := prog_1_method_9_code
def yX0_keep : MethodName := ⟨RX0, "keep", "(I)Z"⟩
theorem dX0_keep_0 : decode cX0_keep 0 = .ok (.iload_n 1, 1) := by decide +kernel
theorem dX0_keep_1 : decode cX0_keep 1 = .ok (.ifCond .lt 10, 3) := by decide +kernel
theorem dX0_keep_4 : decode cX0_keep 4 = .ok (.iload_n 1, 1) := by decide +kernel
theorem dX0_keep_5 : decode cX0_keep 5 = .ok (.sipush 1024, 3) := by decide +kernel
theorem dX0_keep_8 : decode cX0_keep 8 = .ok (.if_icmp .le 5, 3) := by decide +kernel
theorem dX0_keep_11 : decode cX0_keep 11 = .ok (.iconst 0, 1) := by decide +kernel
theorem dX0_keep_12 : decode cX0_keep 12 = .ok (.ireturn, 1) := by decide +kernel
theorem dX0_keep_13 : decode cX0_keep 13 = .ok (.iconst 0, 1) := by decide +kernel
theorem dX0_keep_14 : decode cX0_keep 14 = .ok (.istore_n 2, 1) := by decide +kernel
theorem dX0_keep_15 : decode cX0_keep 15 = .ok (.iload_n 2, 1) := by decide +kernel
theorem dX0_keep_16 : decode cX0_keep 16 = .ok (.sipush 1024, 3) := by decide +kernel
theorem dX0_keep_19 : decode cX0_keep 19 = .ok (.if_icmp .ge 30, 3) := by decide +kernel
theorem dX0_keep_22 : decode cX0_keep 22 = .ok (.aload_n 0, 1) := by decide +kernel
theorem dX0_keep_23 : decode cX0_keep 23 = .ok (.getfield 20, 3) := by decide +kernel
theorem dX0_keep_26 : decode cX0_keep 26 = .ok (.iload_n 2, 1) := by decide +kernel
theorem dX0_keep_27 : decode cX0_keep 27 = .ok (.iload_n 2, 1) := by decide +kernel
theorem dX0_keep_28 : decode cX0_keep 28 = .ok (.iload_n 1, 1) := by decide +kernel
theorem dX0_keep_29 : decode cX0_keep 29 = .ok (.if_icmp .ge 12, 3) := by decide +kernel
theorem dX0_keep_32 : decode cX0_keep 32 = .ok (.aload_n 0, 1) := by decide +kernel
theorem dX0_keep_33 : decode cX0_keep 33 = .ok (.getfield 16, 3) := by decide +kernel
theorem dX0_keep_36 : decode cX0_keep 36 = .ok (.iload_n 2, 1) := by decide +kernel
theorem dX0_keep_37 : decode cX0_keep 37 = .ok (.laload, 1) := by decide +kernel
theorem dX0_keep_38 : decode cX0_keep 38 = .ok (.goto 4, 3) := by decide +kernel
theorem dX0_keep_41 : decode cX0_keep 41 = .ok (.lconst 0, 1) := by decide +kernel
theorem dX0_keep_42 : decode cX0_keep 42 = .ok (.lastore, 1) := by decide +kernel
theorem dX0_keep_43 : decode cX0_keep 43 = .ok (.iinc 2 1, 3) := by decide +kernel
theorem dX0_keep_46 : decode cX0_keep 46 = .ok (.goto (-31), 3) := by decide +kernel
theorem dX0_keep_49 : decode cX0_keep 49 = .ok (.iconst 1, 1) := by decide +kernel
theorem dX0_keep_50 : decode cX0_keep 50 = .ok (.ireturn, 1) := by decide +kernel
abbrev cX0_times : ByteArray := prog_1_method_10_code
def yX0_times : MethodName := ⟨RX0, "times", "(II)I"⟩
theorem dX0_times_0 : decode cX0_times 0 = .ok (.iload_n 1, 1) := by decide +kernel
theorem dX0_times_1 : decode cX0_times 1 = .ok (.ifCond .lt 10, 3) := by decide +kernel
theorem dX0_times_4 : decode cX0_times 4 = .ok (.iload_n 1, 1) := by decide +kernel
theorem dX0_times_5 : decode cX0_times 5 = .ok (.sipush 1024, 3) := by decide +kernel
theorem dX0_times_8 : decode cX0_times 8 = .ok (.if_icmp .le 5, 3) := by decide +kernel
theorem dX0_times_11 : decode cX0_times 11 = .ok (.iconst (-1), 1) := by decide +kernel
theorem dX0_times_12 : decode cX0_times 12 = .ok (.ireturn, 1) := by decide +kernel
theorem dX0_times_13 : decode cX0_times 13 = .ok (.iload_n 2, 1) := by decide +kernel
theorem dX0_times_14 : decode cX0_times 14 = .ok (.invokestatic 37, 3) := by decide +kernel
theorem dX0_times_17 : decode cX0_times 17 = .ok (.ifCond .ne 6, 3) := by decide +kernel
theorem dX0_times_20 : decode cX0_times 20 = .ok (.bipush (-2), 2) := by decide +kernel
theorem dX0_times_22 : decode cX0_times 22 = .ok (.ireturn, 1) := by decide +kernel
theorem dX0_times_23 : decode cX0_times 23 = .ok (.iconst 0, 1) := by decide +kernel
theorem dX0_times_24 : decode cX0_times 24 = .ok (.istore_n 3, 1) := by decide +kernel
theorem dX0_times_25 : decode cX0_times 25 = .ok (.iload_n 3, 1) := by decide +kernel
theorem dX0_times_26 : decode cX0_times 26 = .ok (.iload_n 1, 1) := by decide +kernel
theorem dX0_times_27 : decode cX0_times 27 = .ok (.if_icmp .ge 39, 3) := by decide +kernel
theorem dX0_times_30 : decode cX0_times 30 = .ok (.aload_n 0, 1) := by decide +kernel
theorem dX0_times_31 : decode cX0_times 31 = .ok (.getfield 16, 3) := by decide +kernel
theorem dX0_times_34 : decode cX0_times 34 = .ok (.iload_n 3, 1) := by decide +kernel
theorem dX0_times_35 : decode cX0_times 35 = .ok (.aload_n 0, 1) := by decide +kernel
theorem dX0_times_36 : decode cX0_times 36 = .ok (.getfield 16, 3) := by decide +kernel
theorem dX0_times_39 : decode cX0_times 39 = .ok (.iload_n 3, 1) := by decide +kernel
theorem dX0_times_40 : decode cX0_times 40 = .ok (.laload, 1) := by decide +kernel
theorem dX0_times_41 : decode cX0_times 41 = .ok (.iload_n 2, 1) := by decide +kernel
theorem dX0_times_42 : decode cX0_times 42 = .ok (.invokestatic 45, 3) := by decide +kernel
theorem dX0_times_45 : decode cX0_times 45 = .ok (.aload_n 0, 1) := by decide +kernel
theorem dX0_times_46 : decode cX0_times 46 = .ok (.getfield 20, 3) := by decide +kernel
theorem dX0_times_49 : decode cX0_times 49 = .ok (.iload_n 3, 1) := by decide +kernel
theorem dX0_times_50 : decode cX0_times 50 = .ok (.laload, 1) := by decide +kernel
theorem dX0_times_51 : decode cX0_times 51 = .ok (.iload_n 2, 1) := by decide +kernel
theorem dX0_times_52 : decode cX0_times 52 = .ok (.invokestatic 45, 3) := by decide +kernel
theorem dX0_times_55 : decode cX0_times 55 = .ok (.lmul, 1) := by decide +kernel
theorem dX0_times_56 : decode cX0_times 56 = .ok (.iload_n 2, 1) := by decide +kernel
theorem dX0_times_57 : decode cX0_times 57 = .ok (.i2l, 1) := by decide +kernel
theorem dX0_times_58 : decode cX0_times 58 = .ok (.lrem, 1) := by decide +kernel
theorem dX0_times_59 : decode cX0_times 59 = .ok (.lastore, 1) := by decide +kernel
theorem dX0_times_60 : decode cX0_times 60 = .ok (.iinc 3 1, 3) := by decide +kernel
theorem dX0_times_63 : decode cX0_times 63 = .ok (.goto (-38), 3) := by decide +kernel
theorem dX0_times_66 : decode cX0_times 66 = .ok (.iconst 0, 1) := by decide +kernel
theorem dX0_times_67 : decode cX0_times 67 = .ok (.ireturn, 1) := by decide +kernel
abbrev cX0_root : ByteArray := prog_1_method_11_code
def yX0_root : MethodName := ⟨RX0, "root", "(II)J"⟩
theorem dX0_root_0 : decode cX0_root 0 = .ok (.iload_n 1, 1) := by decide +kernel
theorem dX0_root_1 : decode cX0_root 1 = .ok (.iload_n 2, 1) := by decide +kernel
theorem dX0_root_2 : decode cX0_root 2 = .ok (.invokestatic 40, 3) := by decide +kernel
theorem dX0_root_5 : decode cX0_root 5 = .ok (.ifCond .ge 5, 3) := by decide +kernel
theorem dX0_root_8 : decode cX0_root 8 = .ok (.lconst 0, 1) := by decide +kernel
theorem dX0_root_9 : decode cX0_root 9 = .ok (.lreturn, 1) := by decide +kernel
theorem dX0_root_10 : decode cX0_root 10 = .ok (.aload_n 0, 1) := by decide +kernel
theorem dX0_root_11 : decode cX0_root 11 = .ok (.getfield 10, 3) := by decide +kernel
theorem dX0_root_14 : decode cX0_root 14 = .ok (.iload_n 2, 1) := by decide +kernel
theorem dX0_root_15 : decode cX0_root 15 = .ok (.i2l, 1) := by decide +kernel
theorem dX0_root_16 : decode cX0_root 16 = .ok (.putfield 25, 3) := by decide +kernel
theorem dX0_root_19 : decode cX0_root 19 = .ok (.aload_n 0, 1) := by decide +kernel
theorem dX0_root_20 : decode cX0_root 20 = .ok (.getfield 10, 3) := by decide +kernel
theorem dX0_root_23 : decode cX0_root 23 = .ok (.iload_n 1, 1) := by decide +kernel
theorem dX0_root_24 : decode cX0_root 24 = .ok (.invokevirtual 53, 3) := by decide +kernel
theorem dX0_root_27 : decode cX0_root 27 = .ok (.lreturn, 1) := by decide +kernel
theorem q4 : (Jvm.Cond.initialized "ResidueTransforms") ∈ lw_all := lw_g (lw_at lw_m0 1 rfl) rfl
theorem q8 : (Jvm.Cond.instantiable "ResidueTransforms" (3 : Nat)) ∈ lw_all := lw_g (lw_at lw_m0 5 rfl) rfl
theorem q10 : (Jvm.Cond.instanceMethod ({ cls := "ResidueTransforms", name := "<init>", desc := "()V" } : Jvm.MethodName)) ∈ lw_all := lw_g (lw_at lw_m0 7 rfl) rfl
theorem q11 : (Jvm.Cond.code ({ cls := "ResidueTransforms", name := "<init>", desc := "()V" } : Jvm.MethodName) prog_1_method_1_code (1 : Nat) (Option.none : Option Jvm.ClassFile.FieldType)) ∈ lw_all := lw_g (lw_at lw_m0 8 rfl) rfl
theorem q12 : (Jvm.Cond.methodLink "ResidueTransforms" (1 : Nat) ({ cls := "java/lang/Object", name := "<init>", desc := "()V" } : Jvm.MethodName)) ∈ lw_all := lw_g (lw_at lw_m0 9 rfl) rfl
theorem q15 : (Jvm.Cond.classLink "ResidueTransforms" (7 : Nat) "ResidueTransforms$Residues") ∈ lw_all := lw_g (lw_at lw_m0 12 rfl) rfl
theorem q17 : (Jvm.Cond.methodLinkNest "ResidueTransforms" (9 : Nat) ({ cls := "ResidueTransforms$Residues", name := "<init>", desc := "()V" } : Jvm.MethodName) "ResidueTransforms") ∈ lw_tbl := lw_at lw_m0 14 rfl
theorem q22 : (Jvm.Cond.fieldLink "ResidueTransforms" (44 : Nat) "ResidueTransforms$Residues" "row" "[J") ∈ lw_all := lw_g (lw_at lw_m0 19 rfl) rfl
theorem q23 : (Jvm.Cond.fieldLink "ResidueTransforms" (25 : Nat) "ResidueTransforms$Residues" "p" "J") ∈ lw_all := lw_g (lw_at lw_m0 20 rfl) rfl
theorem q31 : (Jvm.Cond.constantLong "ResidueTransforms" (23 : Nat) (3 : Int64)) ∈ lw_all := lw_g (lw_at lw_m0 28 rfl) rfl
theorem q32 : (Jvm.Cond.fieldLink "ResidueTransforms" (10 : Nat) "ResidueTransforms" "residues" "LResidueTransforms$Residues;") ∈ lw_all := lw_g (lw_at lw_m0 29 rfl) rfl
theorem q33 : (Jvm.Cond.fieldLink "ResidueTransforms" (16 : Nat) "ResidueTransforms" "row" "[J") ∈ lw_all := lw_g (lw_at lw_m0 30 rfl) rfl
theorem q34 : (Jvm.Cond.fieldLink "ResidueTransforms" (20 : Nat) "ResidueTransforms" "kept" "[J") ∈ lw_all := lw_g (lw_at lw_m0 31 rfl) rfl
theorem q35 : (Jvm.Cond.laysFinal "ResidueTransforms" "ResidueTransforms" "residues" "LResidueTransforms$Residues;") ∈ lw_all := lw_g (lw_at lw_m0 32 rfl) rfl
theorem q36 : (Jvm.Cond.soleField "ResidueTransforms" "residues") ∈ lw_all := lw_g (lw_at lw_m0 33 rfl) rfl
theorem q37 : (Jvm.Cond.laysFinal "ResidueTransforms" "ResidueTransforms" "row" "[J") ∈ lw_all := lw_g (lw_at lw_m0 34 rfl) rfl
theorem q38 : (Jvm.Cond.soleField "ResidueTransforms" "row") ∈ lw_all := lw_g (lw_at lw_m0 35 rfl) rfl
theorem q39 : (Jvm.Cond.laysFinal "ResidueTransforms" "ResidueTransforms" "kept" "[J") ∈ lw_all := lw_g (lw_at lw_m0 36 rfl) rfl
theorem q40 : (Jvm.Cond.soleField "ResidueTransforms" "kept") ∈ lw_all := lw_g (lw_at lw_m0 37 rfl) rfl
theorem q41 : (Jvm.Cond.superclass "ResidueTransforms" "java/lang/Object") ∈ lw_all := lw_g (lw_at lw_m0 38 rfl) rfl
theorem q43 : (Jvm.Cond.instanceMethod ({ cls := "ResidueTransforms", name := "put", desc := "(IJ)Z" } : Jvm.MethodName)) ∈ lw_all := lw_g (lw_at lw_m0 40 rfl) rfl
theorem q44 : (Jvm.Cond.selects "ResidueTransforms" ({ cls := "ResidueTransforms", name := "put", desc := "(IJ)Z" } : Jvm.MethodName) ({ cls := "ResidueTransforms", name := "put", desc := "(IJ)Z" } : Jvm.MethodName)) ∈ lw_all := lw_g (lw_at lw_m0 41 rfl) rfl
theorem q45 : (Jvm.Cond.code ({ cls := "ResidueTransforms", name := "put", desc := "(IJ)Z" } : Jvm.MethodName) prog_1_method_3_code (4 : Nat) (Option.some Jvm.ClassFile.FieldType.boolean)) ∈ lw_all := lw_g (lw_at lw_m0 42 rfl) rfl
theorem q46 : (Jvm.Cond.methodLink "ResidueTransforms" (29 : Nat) ({ cls := "ResidueTransforms", name := "isPlace", desc := "(I)Z" } : Jvm.MethodName)) ∈ lw_all := lw_g (lw_at lw_m0 43 rfl) rfl
theorem q47 : (Jvm.Cond.static ({ cls := "ResidueTransforms", name := "isPlace", desc := "(I)Z" } : Jvm.MethodName)) ∈ lw_all := lw_g (lw_at lw_m0 44 rfl) rfl
theorem q48 : (Jvm.Cond.code ({ cls := "ResidueTransforms", name := "isPlace", desc := "(I)Z" } : Jvm.MethodName) prog_1_method_2_code (1 : Nat) (Option.some Jvm.ClassFile.FieldType.boolean)) ∈ lw_all := lw_g (lw_at lw_m0 45 rfl) rfl
theorem q50 : (Jvm.Cond.instanceMethod ({ cls := "ResidueTransforms", name := "get", desc := "(I)J" } : Jvm.MethodName)) ∈ lw_all := lw_g (lw_at lw_m0 47 rfl) rfl
theorem q51 : (Jvm.Cond.selects "ResidueTransforms" ({ cls := "ResidueTransforms", name := "get", desc := "(I)J" } : Jvm.MethodName) ({ cls := "ResidueTransforms", name := "get", desc := "(I)J" } : Jvm.MethodName)) ∈ lw_all := lw_g (lw_at lw_m0 48 rfl) rfl
theorem q52 : (Jvm.Cond.code ({ cls := "ResidueTransforms", name := "get", desc := "(I)J" } : Jvm.MethodName) prog_1_method_4_code (2 : Nat) (Option.some Jvm.ClassFile.FieldType.long)) ∈ lw_all := lw_g (lw_at lw_m0 49 rfl) rfl
theorem q54 : (Jvm.Cond.instanceMethod ({ cls := "ResidueTransforms", name := "transform", desc := "(IIZ)I" } : Jvm.MethodName)) ∈ lw_all := lw_g (lw_at lw_m0 51 rfl) rfl
theorem q55 : (Jvm.Cond.selects "ResidueTransforms" ({ cls := "ResidueTransforms", name := "transform", desc := "(IIZ)I" } : Jvm.MethodName) ({ cls := "ResidueTransforms", name := "transform", desc := "(IIZ)I" } : Jvm.MethodName)) ∈ lw_all := lw_g (lw_at lw_m0 52 rfl) rfl
theorem q56 : (Jvm.Cond.code ({ cls := "ResidueTransforms", name := "transform", desc := "(IIZ)I" } : Jvm.MethodName) prog_1_method_8_code (6 : Nat) (Option.some Jvm.ClassFile.FieldType.int)) ∈ lw_all := lw_g (lw_at lw_m0 53 rfl) rfl
theorem q57 : (Jvm.Cond.methodLink "ResidueTransforms" (40 : Nat) ({ cls := "ResidueTransforms", name := "refusal", desc := "(II)I" } : Jvm.MethodName)) ∈ lw_all := lw_g (lw_at lw_m0 54 rfl) rfl
theorem q58 : (Jvm.Cond.static ({ cls := "ResidueTransforms", name := "refusal", desc := "(II)I" } : Jvm.MethodName)) ∈ lw_all := lw_g (lw_at lw_m0 55 rfl) rfl
theorem q59 : (Jvm.Cond.code ({ cls := "ResidueTransforms", name := "refusal", desc := "(II)I" } : Jvm.MethodName) prog_1_method_6_code (2 : Nat) (Option.some Jvm.ClassFile.FieldType.int)) ∈ lw_all := lw_g (lw_at lw_m0 56 rfl) rfl
theorem q60 : (Jvm.Cond.methodLink "ResidueTransforms" (37 : Nat) ({ cls := "ResidueTransforms", name := "isGood", desc := "(I)Z" } : Jvm.MethodName)) ∈ lw_all := lw_g (lw_at lw_m0 57 rfl) rfl
theorem q61 : (Jvm.Cond.static ({ cls := "ResidueTransforms", name := "isGood", desc := "(I)Z" } : Jvm.MethodName)) ∈ lw_all := lw_g (lw_at lw_m0 58 rfl) rfl
theorem q62 : (Jvm.Cond.code ({ cls := "ResidueTransforms", name := "isGood", desc := "(I)Z" } : Jvm.MethodName) prog_1_method_5_code (1 : Nat) (Option.some Jvm.ClassFile.FieldType.boolean)) ∈ lw_all := lw_g (lw_at lw_m0 59 rfl) rfl
theorem q63 : (Jvm.Cond.constant "ResidueTransforms" (33 : Nat) (1000000007 : Int32)) ∈ lw_all := lw_g (lw_at lw_m0 60 rfl) rfl
theorem q64 : (Jvm.Cond.methodLink "ResidueTransforms" (34 : Nat) ({ cls := "ResidueTransforms$Residues", name := "isPrime", desc := "(I)Z" } : Jvm.MethodName)) ∈ lw_all := lw_g (lw_at lw_m0 61 rfl) rfl
theorem q67 : (Jvm.Cond.methodLink "ResidueTransforms" (45 : Nat) ({ cls := "ResidueTransforms", name := "rest", desc := "(JI)J" } : Jvm.MethodName)) ∈ lw_all := lw_g (lw_at lw_m0 64 rfl) rfl
theorem q68 : (Jvm.Cond.static ({ cls := "ResidueTransforms", name := "rest", desc := "(JI)J" } : Jvm.MethodName)) ∈ lw_all := lw_g (lw_at lw_m0 65 rfl) rfl
theorem q69 : (Jvm.Cond.code ({ cls := "ResidueTransforms", name := "rest", desc := "(JI)J" } : Jvm.MethodName) prog_1_method_7_code (5 : Nat) (Option.some Jvm.ClassFile.FieldType.long)) ∈ lw_all := lw_g (lw_at lw_m0 66 rfl) rfl
theorem q70 : (Jvm.Cond.methodLink "ResidueTransforms" (49 : Nat) ({ cls := "ResidueTransforms$Residues", name := "work", desc := "(IIZ)V" } : Jvm.MethodName)) ∈ lw_all := lw_g (lw_at lw_m0 67 rfl) rfl
theorem q92 : (Jvm.Cond.instanceMethod ({ cls := "ResidueTransforms", name := "keep", desc := "(I)Z" } : Jvm.MethodName)) ∈ lw_all := lw_g (lw_at lw_m0 89 rfl) rfl
theorem q93 : (Jvm.Cond.selects "ResidueTransforms" ({ cls := "ResidueTransforms", name := "keep", desc := "(I)Z" } : Jvm.MethodName) ({ cls := "ResidueTransforms", name := "keep", desc := "(I)Z" } : Jvm.MethodName)) ∈ lw_all := lw_g (lw_at lw_m0 90 rfl) rfl
theorem q94 : (Jvm.Cond.code ({ cls := "ResidueTransforms", name := "keep", desc := "(I)Z" } : Jvm.MethodName) prog_1_method_9_code (3 : Nat) (Option.some Jvm.ClassFile.FieldType.boolean)) ∈ lw_all := lw_g (lw_at lw_m0 91 rfl) rfl
theorem q96 : (Jvm.Cond.instanceMethod ({ cls := "ResidueTransforms", name := "times", desc := "(II)I" } : Jvm.MethodName)) ∈ lw_all := lw_g (lw_at lw_m0 93 rfl) rfl
theorem q97 : (Jvm.Cond.selects "ResidueTransforms" ({ cls := "ResidueTransforms", name := "times", desc := "(II)I" } : Jvm.MethodName) ({ cls := "ResidueTransforms", name := "times", desc := "(II)I" } : Jvm.MethodName)) ∈ lw_all := lw_g (lw_at lw_m0 94 rfl) rfl
theorem q98 : (Jvm.Cond.code ({ cls := "ResidueTransforms", name := "times", desc := "(II)I" } : Jvm.MethodName) prog_1_method_10_code (4 : Nat) (Option.some Jvm.ClassFile.FieldType.int)) ∈ lw_all := lw_g (lw_at lw_m0 95 rfl) rfl
theorem q100 : (Jvm.Cond.instanceMethod ({ cls := "ResidueTransforms", name := "root", desc := "(II)J" } : Jvm.MethodName)) ∈ lw_all := lw_g (lw_at lw_m0 97 rfl) rfl
theorem q101 : (Jvm.Cond.selects "ResidueTransforms" ({ cls := "ResidueTransforms", name := "root", desc := "(II)J" } : Jvm.MethodName) ({ cls := "ResidueTransforms", name := "root", desc := "(II)J" } : Jvm.MethodName)) ∈ lw_all := lw_g (lw_at lw_m0 98 rfl) rfl
theorem q102 : (Jvm.Cond.code ({ cls := "ResidueTransforms", name := "root", desc := "(II)J" } : Jvm.MethodName) prog_1_method_11_code (3 : Nat) (Option.some Jvm.ClassFile.FieldType.long)) ∈ lw_all := lw_g (lw_at lw_m0 99 rfl) rfl
theorem q103 : (Jvm.Cond.methodLink "ResidueTransforms" (53 : Nat) ({ cls := "ResidueTransforms$Residues", name := "root", desc := "(I)J" } : Jvm.MethodName)) ∈ lw_all := lw_g (lw_at lw_m0 100 rfl) rfl
theorem in_X0 : ∀ w ∈ wsX00, w ∈ lw_all := lw_in wsX00 [35, 37, 39] (by decide +kernel) (by decide +kernel)
end
section
/-! ResidueTransformsModel -/
set_option maxRecDepth 100000
def RX2 : String := "ResidueTransformsModel"
def TX2 : u_T := fun k => match k with
  | 0 => ("ResidueTransformsModel", "row", "[J", true)
  | 1 => ("ResidueTransformsModel", "kept", "[J", true)
  | 2 => ("ResidueTransformsModel", "work", "[J", true)
  | _ => ("ResidueTransformsModel", "keptSize", "I", false)
def tyX2 : Nat → FieldType := fun k => match k with
  | 0 => .array .long
  | 1 => .array .long
  | 2 => .array .long
  | _ => .int
abbrev wsX20 : List Cond := u_ws RX2 TX2 4
theorem nmX2 : ∀ a, a < 4 → ∀ b, b < 4 → a ≠ b → (TX2 a).2.1 ≠ (TX2 b).2.1 := by decide +kernel
theorem tyX2_ok : ∀ k, k < 4 → parseFieldDescriptor (TX2 k).2.2.1 = some (tyX2 k) := by decide +kernel
abbrev cX2_init : ByteArray := prog_4_method_1_code
def yX2_init : MethodName := ⟨RX2, "<init>", "()V"⟩
theorem dX2_init_0 : decode cX2_init 0 = .ok (.aload_n 0, 1) := by decide +kernel
theorem dX2_init_1 : decode cX2_init 1 = .ok (.invokespecial 1, 3) := by decide +kernel
theorem dX2_init_4 : decode cX2_init 4 = .ok (.aload_n 0, 1) := by decide +kernel
theorem dX2_init_5 : decode cX2_init 5 = .ok (.sipush 1024, 3) := by decide +kernel
theorem dX2_init_8 : decode cX2_init 8 = .ok (.newarray .long, 2) := by decide +kernel
theorem dX2_init_10 : decode cX2_init 10 = .ok (.putfield 9, 3) := by decide +kernel
theorem dX2_init_13 : decode cX2_init 13 = .ok (.aload_n 0, 1) := by decide +kernel
theorem dX2_init_14 : decode cX2_init 14 = .ok (.sipush 1024, 3) := by decide +kernel
theorem dX2_init_17 : decode cX2_init 17 = .ok (.newarray .long, 2) := by decide +kernel
theorem dX2_init_19 : decode cX2_init 19 = .ok (.putfield 13, 3) := by decide +kernel
theorem dX2_init_22 : decode cX2_init 22 = .ok (.aload_n 0, 1) := by decide +kernel
theorem dX2_init_23 : decode cX2_init 23 = .ok (.sipush 1024, 3) := by decide +kernel
theorem dX2_init_26 : decode cX2_init 26 = .ok (.newarray .long, 2) := by decide +kernel
theorem dX2_init_28 : decode cX2_init 28 = .ok (.putfield 16, 3) := by decide +kernel
theorem dX2_init_31 : decode cX2_init 31 = .ok (.return_, 1) := by decide +kernel
abbrev cX2_put : ByteArray := prog_4_method_3_code
def yX2_put : MethodName := ⟨RX2, "put", "(IJ)Z"⟩
theorem dX2_put_0 : decode cX2_put 0 = .ok (.iload_n 1, 1) := by decide +kernel
theorem dX2_put_1 : decode cX2_put 1 = .ok (.ifCond .lt 10, 3) := by decide +kernel
theorem dX2_put_4 : decode cX2_put 4 = .ok (.iload_n 1, 1) := by decide +kernel
theorem dX2_put_5 : decode cX2_put 5 = .ok (.sipush 1024, 3) := by decide +kernel
theorem dX2_put_8 : decode cX2_put 8 = .ok (.if_icmp .lt 5, 3) := by decide +kernel
theorem dX2_put_11 : decode cX2_put 11 = .ok (.iconst 0, 1) := by decide +kernel
theorem dX2_put_12 : decode cX2_put 12 = .ok (.ireturn, 1) := by decide +kernel
theorem dX2_put_13 : decode cX2_put 13 = .ok (.aload_n 0, 1) := by decide +kernel
theorem dX2_put_14 : decode cX2_put 14 = .ok (.getfield 9, 3) := by decide +kernel
theorem dX2_put_17 : decode cX2_put 17 = .ok (.iload_n 1, 1) := by decide +kernel
theorem dX2_put_18 : decode cX2_put 18 = .ok (.lload_n 2, 1) := by decide +kernel
theorem dX2_put_19 : decode cX2_put 19 = .ok (.lastore, 1) := by decide +kernel
theorem dX2_put_20 : decode cX2_put 20 = .ok (.iconst 1, 1) := by decide +kernel
theorem dX2_put_21 : decode cX2_put 21 = .ok (.ireturn, 1) := by decide +kernel
abbrev cX2_get : ByteArray := prog_4_method_4_code
def yX2_get : MethodName := ⟨RX2, "get", "(I)J"⟩
theorem dX2_get_0 : decode cX2_get 0 = .ok (.iload_n 1, 1) := by decide +kernel
theorem dX2_get_1 : decode cX2_get 1 = .ok (.ifCond .lt 19, 3) := by decide +kernel
theorem dX2_get_4 : decode cX2_get 4 = .ok (.iload_n 1, 1) := by decide +kernel
theorem dX2_get_5 : decode cX2_get 5 = .ok (.sipush 1024, 3) := by decide +kernel
theorem dX2_get_8 : decode cX2_get 8 = .ok (.if_icmp .ge 12, 3) := by decide +kernel
theorem dX2_get_11 : decode cX2_get 11 = .ok (.aload_n 0, 1) := by decide +kernel
theorem dX2_get_12 : decode cX2_get 12 = .ok (.getfield 9, 3) := by decide +kernel
theorem dX2_get_15 : decode cX2_get 15 = .ok (.iload_n 1, 1) := by decide +kernel
theorem dX2_get_16 : decode cX2_get 16 = .ok (.laload, 1) := by decide +kernel
theorem dX2_get_17 : decode cX2_get 17 = .ok (.goto 4, 3) := by decide +kernel
theorem dX2_get_20 : decode cX2_get 20 = .ok (.lconst 0, 1) := by decide +kernel
theorem dX2_get_21 : decode cX2_get 21 = .ok (.lreturn, 1) := by decide +kernel
abbrev cX2_root : ByteArray := prog_4_method_10_code
def yX2_root : MethodName := ⟨RX2, "root", "(II)J"⟩
theorem dX2_root_0 : decode cX2_root 0 = .ok (.iload_n 1, 1) := by decide +kernel
theorem dX2_root_1 : decode cX2_root 1 = .ok (.iload_n 2, 1) := by decide +kernel
theorem dX2_root_2 : decode cX2_root 2 = .ok (.invokestatic 30, 3) := by decide +kernel
theorem dX2_root_5 : decode cX2_root 5 = .ok (.ifCond .ge 7, 3) := by decide +kernel
theorem dX2_root_8 : decode cX2_root 8 = .ok (.lconst 0, 1) := by decide +kernel
theorem dX2_root_9 : decode cX2_root 9 = .ok (.goto 8, 3) := by decide +kernel
theorem dX2_root_12 : decode cX2_root 12 = .ok (.iload_n 1, 1) := by decide +kernel
theorem dX2_root_13 : decode cX2_root 13 = .ok (.iload_n 2, 1) := by decide +kernel
theorem dX2_root_14 : decode cX2_root 14 = .ok (.invokestatic 34, 3) := by decide +kernel
theorem dX2_root_17 : decode cX2_root 17 = .ok (.lreturn, 1) := by decide +kernel
abbrev cX2_refused : ByteArray := prog_4_method_5_code
def yX2_refused : MethodName := ⟨RX2, "refused", "(II)I"⟩
theorem dX2_refused_0 : decode cX2_refused 0 = .ok (.iload_n 0, 1) := by decide +kernel
theorem dX2_refused_1 : decode cX2_refused 1 = .ok (.iconst 1, 1) := by decide +kernel
theorem dX2_refused_2 : decode cX2_refused 2 = .ok (.if_icmp .lt 18, 3) := by decide +kernel
theorem dX2_refused_5 : decode cX2_refused 5 = .ok (.iload_n 0, 1) := by decide +kernel
theorem dX2_refused_6 : decode cX2_refused 6 = .ok (.sipush 1024, 3) := by decide +kernel
theorem dX2_refused_9 : decode cX2_refused 9 = .ok (.if_icmp .gt 11, 3) := by decide +kernel
theorem dX2_refused_12 : decode cX2_refused 12 = .ok (.iload_n 0, 1) := by decide +kernel
theorem dX2_refused_13 : decode cX2_refused 13 = .ok (.iload_n 0, 1) := by decide +kernel
theorem dX2_refused_14 : decode cX2_refused 14 = .ok (.iconst 1, 1) := by decide +kernel
theorem dX2_refused_15 : decode cX2_refused 15 = .ok (.isub, 1) := by decide +kernel
theorem dX2_refused_16 : decode cX2_refused 16 = .ok (.iand, 1) := by decide +kernel
theorem dX2_refused_17 : decode cX2_refused 17 = .ok (.ifCond .eq 5, 3) := by decide +kernel
theorem dX2_refused_20 : decode cX2_refused 20 = .ok (.iconst (-1), 1) := by decide +kernel
theorem dX2_refused_21 : decode cX2_refused 21 = .ok (.ireturn, 1) := by decide +kernel
theorem dX2_refused_22 : decode cX2_refused 22 = .ok (.iload_n 1, 1) := by decide +kernel
theorem dX2_refused_23 : decode cX2_refused 23 = .ok (.invokestatic 19, 3) := by decide +kernel
theorem dX2_refused_26 : decode cX2_refused 26 = .ok (.ifCond .ne 6, 3) := by decide +kernel
theorem dX2_refused_29 : decode cX2_refused 29 = .ok (.bipush (-2), 2) := by decide +kernel
theorem dX2_refused_31 : decode cX2_refused 31 = .ok (.ireturn, 1) := by decide +kernel
theorem dX2_refused_32 : decode cX2_refused 32 = .ok (.iload_n 1, 1) := by decide +kernel
theorem dX2_refused_33 : decode cX2_refused 33 = .ok (.iconst 1, 1) := by decide +kernel
theorem dX2_refused_34 : decode cX2_refused 34 = .ok (.isub, 1) := by decide +kernel
theorem dX2_refused_35 : decode cX2_refused 35 = .ok (.iload_n 0, 1) := by decide +kernel
theorem dX2_refused_36 : decode cX2_refused 36 = .ok (.irem, 1) := by decide +kernel
theorem dX2_refused_37 : decode cX2_refused 37 = .ok (.ifCond .eq 8, 3) := by decide +kernel
theorem dX2_refused_40 : decode cX2_refused 40 = .ok (.bipush (-3), 2) := by decide +kernel
theorem dX2_refused_42 : decode cX2_refused 42 = .ok (.goto 4, 3) := by decide +kernel
theorem dX2_refused_45 : decode cX2_refused 45 = .ok (.iconst 0, 1) := by decide +kernel
theorem dX2_refused_46 : decode cX2_refused 46 = .ok (.ireturn, 1) := by decide +kernel
abbrev cX2_isPrime : ByteArray := prog_4_method_6_code
def yX2_isPrime : MethodName := ⟨RX2, "isPrime", "(I)Z"⟩
theorem dX2_isPrime_0 : decode cX2_isPrime 0 = .ok (.iload_n 0, 1) := by decide +kernel
theorem dX2_isPrime_1 : decode cX2_isPrime 1 = .ok (.iconst 3, 1) := by decide +kernel
theorem dX2_isPrime_2 : decode cX2_isPrime 2 = .ok (.if_icmp .lt 9, 3) := by decide +kernel
theorem dX2_isPrime_5 : decode cX2_isPrime 5 = .ok (.iload_n 0, 1) := by decide +kernel
theorem dX2_isPrime_6 : decode cX2_isPrime 6 = .ok (.ldc 23, 2) := by decide +kernel
theorem dX2_isPrime_8 : decode cX2_isPrime 8 = .ok (.if_icmp .le 5, 3) := by decide +kernel
theorem dX2_isPrime_11 : decode cX2_isPrime 11 = .ok (.iconst 0, 1) := by decide +kernel
theorem dX2_isPrime_12 : decode cX2_isPrime 12 = .ok (.ireturn, 1) := by decide +kernel
theorem dX2_isPrime_13 : decode cX2_isPrime 13 = .ok (.iconst 2, 1) := by decide +kernel
theorem dX2_isPrime_14 : decode cX2_isPrime 14 = .ok (.istore_n 1, 1) := by decide +kernel
theorem dX2_isPrime_15 : decode cX2_isPrime 15 = .ok (.iload_n 1, 1) := by decide +kernel
theorem dX2_isPrime_16 : decode cX2_isPrime 16 = .ok (.i2l, 1) := by decide +kernel
theorem dX2_isPrime_17 : decode cX2_isPrime 17 = .ok (.iload_n 1, 1) := by decide +kernel
theorem dX2_isPrime_18 : decode cX2_isPrime 18 = .ok (.i2l, 1) := by decide +kernel
theorem dX2_isPrime_19 : decode cX2_isPrime 19 = .ok (.lmul, 1) := by decide +kernel
theorem dX2_isPrime_20 : decode cX2_isPrime 20 = .ok (.iload_n 0, 1) := by decide +kernel
theorem dX2_isPrime_21 : decode cX2_isPrime 21 = .ok (.i2l, 1) := by decide +kernel
theorem dX2_isPrime_22 : decode cX2_isPrime 22 = .ok (.lcmp, 1) := by decide +kernel
theorem dX2_isPrime_23 : decode cX2_isPrime 23 = .ok (.ifCond .gt 17, 3) := by decide +kernel
theorem dX2_isPrime_26 : decode cX2_isPrime 26 = .ok (.iload_n 0, 1) := by decide +kernel
theorem dX2_isPrime_27 : decode cX2_isPrime 27 = .ok (.iload_n 1, 1) := by decide +kernel
theorem dX2_isPrime_28 : decode cX2_isPrime 28 = .ok (.irem, 1) := by decide +kernel
theorem dX2_isPrime_29 : decode cX2_isPrime 29 = .ok (.ifCond .ne 5, 3) := by decide +kernel
theorem dX2_isPrime_32 : decode cX2_isPrime 32 = .ok (.iconst 0, 1) := by decide +kernel
theorem dX2_isPrime_33 : decode cX2_isPrime 33 = .ok (.ireturn, 1) := by decide +kernel
theorem dX2_isPrime_34 : decode cX2_isPrime 34 = .ok (.iinc 1 1, 3) := by decide +kernel
theorem dX2_isPrime_37 : decode cX2_isPrime 37 = .ok (.goto (-22), 3) := by decide +kernel
theorem dX2_isPrime_40 : decode cX2_isPrime 40 = .ok (.iconst 1, 1) := by decide +kernel
theorem dX2_isPrime_41 : decode cX2_isPrime 41 = .ok (.ireturn, 1) := by decide +kernel
abbrev cX2_rootOf : ByteArray := prog_4_method_9_code
def yX2_rootOf : MethodName := ⟨RX2, "rootOf", "(II)J"⟩
theorem dX2_rootOf_0 : decode cX2_rootOf 0 = .ok (.iload_n 0, 1) := by decide +kernel
theorem dX2_rootOf_1 : decode cX2_rootOf 1 = .ok (.iconst 1, 1) := by decide +kernel
theorem dX2_rootOf_2 : decode cX2_rootOf 2 = .ok (.if_icmp .ne 5, 3) := by decide +kernel
theorem dX2_rootOf_5 : decode cX2_rootOf 5 = .ok (.lconst 1, 1) := by decide +kernel
theorem dX2_rootOf_6 : decode cX2_rootOf 6 = .ok (.lreturn, 1) := by decide +kernel
theorem dX2_rootOf_7 : decode cX2_rootOf 7 = .ok (.lconst 1, 1) := by decide +kernel
theorem dX2_rootOf_8 : decode cX2_rootOf 8 = .ok (.lstore_n 2, 1) := by decide +kernel
theorem dX2_rootOf_9 : decode cX2_rootOf 9 = .ok (.ldc2_w 24, 3) := by decide +kernel
theorem dX2_rootOf_12 : decode cX2_rootOf 12 = .ok (.lstore 4, 2) := by decide +kernel
theorem dX2_rootOf_14 : decode cX2_rootOf 14 = .ok (.lload_n 2, 1) := by decide +kernel
theorem dX2_rootOf_15 : decode cX2_rootOf 15 = .ok (.iload_n 0, 1) := by decide +kernel
theorem dX2_rootOf_16 : decode cX2_rootOf 16 = .ok (.iconst 2, 1) := by decide +kernel
theorem dX2_rootOf_17 : decode cX2_rootOf 17 = .ok (.idiv, 1) := by decide +kernel
theorem dX2_rootOf_18 : decode cX2_rootOf 18 = .ok (.i2l, 1) := by decide +kernel
theorem dX2_rootOf_19 : decode cX2_rootOf 19 = .ok (.iload_n 1, 1) := by decide +kernel
theorem dX2_rootOf_20 : decode cX2_rootOf 20 = .ok (.invokestatic 26, 3) := by decide +kernel
theorem dX2_rootOf_23 : decode cX2_rootOf 23 = .ok (.iload_n 1, 1) := by decide +kernel
theorem dX2_rootOf_24 : decode cX2_rootOf 24 = .ok (.iconst 1, 1) := by decide +kernel
theorem dX2_rootOf_25 : decode cX2_rootOf 25 = .ok (.isub, 1) := by decide +kernel
theorem dX2_rootOf_26 : decode cX2_rootOf 26 = .ok (.i2l, 1) := by decide +kernel
theorem dX2_rootOf_27 : decode cX2_rootOf 27 = .ok (.lcmp, 1) := by decide +kernel
theorem dX2_rootOf_28 : decode cX2_rootOf 28 = .ok (.ifCond .eq 25, 3) := by decide +kernel
theorem dX2_rootOf_31 : decode cX2_rootOf 31 = .ok (.lload 4, 2) := by decide +kernel
theorem dX2_rootOf_33 : decode cX2_rootOf 33 = .ok (.iload_n 1, 1) := by decide +kernel
theorem dX2_rootOf_34 : decode cX2_rootOf 34 = .ok (.iconst 1, 1) := by decide +kernel
theorem dX2_rootOf_35 : decode cX2_rootOf 35 = .ok (.isub, 1) := by decide +kernel
theorem dX2_rootOf_36 : decode cX2_rootOf 36 = .ok (.iload_n 0, 1) := by decide +kernel
theorem dX2_rootOf_37 : decode cX2_rootOf 37 = .ok (.idiv, 1) := by decide +kernel
theorem dX2_rootOf_38 : decode cX2_rootOf 38 = .ok (.i2l, 1) := by decide +kernel
theorem dX2_rootOf_39 : decode cX2_rootOf 39 = .ok (.iload_n 1, 1) := by decide +kernel
theorem dX2_rootOf_40 : decode cX2_rootOf 40 = .ok (.invokestatic 26, 3) := by decide +kernel
theorem dX2_rootOf_43 : decode cX2_rootOf 43 = .ok (.lstore_n 2, 1) := by decide +kernel
theorem dX2_rootOf_44 : decode cX2_rootOf 44 = .ok (.lload 4, 2) := by decide +kernel
theorem dX2_rootOf_46 : decode cX2_rootOf 46 = .ok (.lconst 1, 1) := by decide +kernel
theorem dX2_rootOf_47 : decode cX2_rootOf 47 = .ok (.ladd, 1) := by decide +kernel
theorem dX2_rootOf_48 : decode cX2_rootOf 48 = .ok (.lstore 4, 2) := by decide +kernel
theorem dX2_rootOf_50 : decode cX2_rootOf 50 = .ok (.goto (-36), 3) := by decide +kernel
theorem dX2_rootOf_53 : decode cX2_rootOf 53 = .ok (.lload_n 2, 1) := by decide +kernel
theorem dX2_rootOf_54 : decode cX2_rootOf 54 = .ok (.lreturn, 1) := by decide +kernel
abbrev cX2_power : ByteArray := prog_4_method_8_code
def yX2_power : MethodName := ⟨RX2, "power", "(JJI)J"⟩
theorem dX2_power_0 : decode cX2_power 0 = .ok (.lconst 1, 1) := by decide +kernel
theorem dX2_power_1 : decode cX2_power 1 = .ok (.lstore 5, 2) := by decide +kernel
theorem dX2_power_3 : decode cX2_power 3 = .ok (.lload_n 0, 1) := by decide +kernel
theorem dX2_power_4 : decode cX2_power 4 = .ok (.iload 4, 2) := by decide +kernel
theorem dX2_power_6 : decode cX2_power 6 = .ok (.i2l, 1) := by decide +kernel
theorem dX2_power_7 : decode cX2_power 7 = .ok (.lrem, 1) := by decide +kernel
theorem dX2_power_8 : decode cX2_power 8 = .ok (.lstore 7, 2) := by decide +kernel
theorem dX2_power_10 : decode cX2_power 10 = .ok (.lload_n 2, 1) := by decide +kernel
theorem dX2_power_11 : decode cX2_power 11 = .ok (.lstore 9, 2) := by decide +kernel
theorem dX2_power_13 : decode cX2_power 13 = .ok (.lload 9, 2) := by decide +kernel
theorem dX2_power_15 : decode cX2_power 15 = .ok (.lconst 0, 1) := by decide +kernel
theorem dX2_power_16 : decode cX2_power 16 = .ok (.lcmp, 1) := by decide +kernel
theorem dX2_power_17 : decode cX2_power 17 = .ok (.ifCond .le 47, 3) := by decide +kernel
theorem dX2_power_20 : decode cX2_power 20 = .ok (.lload 9, 2) := by decide +kernel
theorem dX2_power_22 : decode cX2_power 22 = .ok (.ldc2_w 24, 3) := by decide +kernel
theorem dX2_power_25 : decode cX2_power 25 = .ok (.lrem, 1) := by decide +kernel
theorem dX2_power_26 : decode cX2_power 26 = .ok (.lconst 1, 1) := by decide +kernel
theorem dX2_power_27 : decode cX2_power 27 = .ok (.lcmp, 1) := by decide +kernel
theorem dX2_power_28 : decode cX2_power 28 = .ok (.ifCond .ne 14, 3) := by decide +kernel
theorem dX2_power_31 : decode cX2_power 31 = .ok (.lload 5, 2) := by decide +kernel
theorem dX2_power_33 : decode cX2_power 33 = .ok (.lload 7, 2) := by decide +kernel
theorem dX2_power_35 : decode cX2_power 35 = .ok (.lmul, 1) := by decide +kernel
theorem dX2_power_36 : decode cX2_power 36 = .ok (.iload 4, 2) := by decide +kernel
theorem dX2_power_38 : decode cX2_power 38 = .ok (.i2l, 1) := by decide +kernel
theorem dX2_power_39 : decode cX2_power 39 = .ok (.lrem, 1) := by decide +kernel
theorem dX2_power_40 : decode cX2_power 40 = .ok (.lstore 5, 2) := by decide +kernel
theorem dX2_power_42 : decode cX2_power 42 = .ok (.lload 7, 2) := by decide +kernel
theorem dX2_power_44 : decode cX2_power 44 = .ok (.lload 7, 2) := by decide +kernel
theorem dX2_power_46 : decode cX2_power 46 = .ok (.lmul, 1) := by decide +kernel
theorem dX2_power_47 : decode cX2_power 47 = .ok (.iload 4, 2) := by decide +kernel
theorem dX2_power_49 : decode cX2_power 49 = .ok (.i2l, 1) := by decide +kernel
theorem dX2_power_50 : decode cX2_power 50 = .ok (.lrem, 1) := by decide +kernel
theorem dX2_power_51 : decode cX2_power 51 = .ok (.lstore 7, 2) := by decide +kernel
theorem dX2_power_53 : decode cX2_power 53 = .ok (.lload 9, 2) := by decide +kernel
theorem dX2_power_55 : decode cX2_power 55 = .ok (.ldc2_w 24, 3) := by decide +kernel
theorem dX2_power_58 : decode cX2_power 58 = .ok (.ldiv, 1) := by decide +kernel
theorem dX2_power_59 : decode cX2_power 59 = .ok (.lstore 9, 2) := by decide +kernel
theorem dX2_power_61 : decode cX2_power 61 = .ok (.goto (-48), 3) := by decide +kernel
theorem dX2_power_64 : decode cX2_power 64 = .ok (.lload 5, 2) := by decide +kernel
theorem dX2_power_66 : decode cX2_power 66 = .ok (.lreturn, 1) := by decide +kernel
abbrev cX2_transform : ByteArray := prog_4_method_11_code
def yX2_transform : MethodName := ⟨RX2, "transform", "(IIZ)I"⟩
theorem dX2_transform_0 : decode cX2_transform 0 = .ok (.iload_n 1, 1) := by decide +kernel
theorem dX2_transform_1 : decode cX2_transform 1 = .ok (.iload_n 2, 1) := by decide +kernel
theorem dX2_transform_2 : decode cX2_transform 2 = .ok (.invokestatic 30, 3) := by decide +kernel
theorem dX2_transform_5 : decode cX2_transform 5 = .ok (.istore 4, 2) := by decide +kernel
theorem dX2_transform_7 : decode cX2_transform 7 = .ok (.iload 4, 2) := by decide +kernel
theorem dX2_transform_9 : decode cX2_transform 9 = .ok (.ifCond .ge 6, 3) := by decide +kernel
theorem dX2_transform_12 : decode cX2_transform 12 = .ok (.iload 4, 2) := by decide +kernel
theorem dX2_transform_14 : decode cX2_transform 14 = .ok (.ireturn, 1) := by decide +kernel
theorem dX2_transform_15 : decode cX2_transform 15 = .ok (.iload_n 1, 1) := by decide +kernel
theorem dX2_transform_16 : decode cX2_transform 16 = .ok (.iload_n 2, 1) := by decide +kernel
theorem dX2_transform_17 : decode cX2_transform 17 = .ok (.invokestatic 34, 3) := by decide +kernel
theorem dX2_transform_20 : decode cX2_transform 20 = .ok (.lstore 5, 2) := by decide +kernel
theorem dX2_transform_22 : decode cX2_transform 22 = .ok (.iload_n 3, 1) := by decide +kernel
theorem dX2_transform_23 : decode cX2_transform 23 = .ok (.ifCond .eq 15, 3) := by decide +kernel
theorem dX2_transform_26 : decode cX2_transform 26 = .ok (.lload 5, 2) := by decide +kernel
theorem dX2_transform_28 : decode cX2_transform 28 = .ok (.iload_n 2, 1) := by decide +kernel
theorem dX2_transform_29 : decode cX2_transform 29 = .ok (.iconst 2, 1) := by decide +kernel
theorem dX2_transform_30 : decode cX2_transform 30 = .ok (.isub, 1) := by decide +kernel
theorem dX2_transform_31 : decode cX2_transform 31 = .ok (.i2l, 1) := by decide +kernel
theorem dX2_transform_32 : decode cX2_transform 32 = .ok (.iload_n 2, 1) := by decide +kernel
theorem dX2_transform_33 : decode cX2_transform 33 = .ok (.invokestatic 26, 3) := by decide +kernel
theorem dX2_transform_36 : decode cX2_transform 36 = .ok (.lstore 5, 2) := by decide +kernel
theorem dX2_transform_38 : decode cX2_transform 38 = .ok (.iconst 0, 1) := by decide +kernel
theorem dX2_transform_39 : decode cX2_transform 39 = .ok (.istore 7, 2) := by decide +kernel
theorem dX2_transform_41 : decode cX2_transform 41 = .ok (.iload 7, 2) := by decide +kernel
theorem dX2_transform_43 : decode cX2_transform 43 = .ok (.iload_n 1, 1) := by decide +kernel
theorem dX2_transform_44 : decode cX2_transform 44 = .ok (.if_icmp .ge 27, 3) := by decide +kernel
theorem dX2_transform_47 : decode cX2_transform 47 = .ok (.aload_n 0, 1) := by decide +kernel
theorem dX2_transform_48 : decode cX2_transform 48 = .ok (.getfield 16, 3) := by decide +kernel
theorem dX2_transform_51 : decode cX2_transform 51 = .ok (.iload 7, 2) := by decide +kernel
theorem dX2_transform_53 : decode cX2_transform 53 = .ok (.aload_n 0, 1) := by decide +kernel
theorem dX2_transform_54 : decode cX2_transform 54 = .ok (.getfield 9, 3) := by decide +kernel
theorem dX2_transform_57 : decode cX2_transform 57 = .ok (.iload 7, 2) := by decide +kernel
theorem dX2_transform_59 : decode cX2_transform 59 = .ok (.laload, 1) := by decide +kernel
theorem dX2_transform_60 : decode cX2_transform 60 = .ok (.iload_n 2, 1) := by decide +kernel
theorem dX2_transform_61 : decode cX2_transform 61 = .ok (.invokestatic 38, 3) := by decide +kernel
theorem dX2_transform_64 : decode cX2_transform 64 = .ok (.lastore, 1) := by decide +kernel
theorem dX2_transform_65 : decode cX2_transform 65 = .ok (.iinc 7 1, 3) := by decide +kernel
theorem dX2_transform_68 : decode cX2_transform 68 = .ok (.goto (-27), 3) := by decide +kernel
theorem dX2_transform_71 : decode cX2_transform 71 = .ok (.iload_n 3, 1) := by decide +kernel
theorem dX2_transform_72 : decode cX2_transform 72 = .ok (.ifCond .eq 16, 3) := by decide +kernel
theorem dX2_transform_75 : decode cX2_transform 75 = .ok (.iload_n 1, 1) := by decide +kernel
theorem dX2_transform_76 : decode cX2_transform 76 = .ok (.i2l, 1) := by decide +kernel
theorem dX2_transform_77 : decode cX2_transform 77 = .ok (.iload_n 2, 1) := by decide +kernel
theorem dX2_transform_78 : decode cX2_transform 78 = .ok (.iconst 2, 1) := by decide +kernel
theorem dX2_transform_79 : decode cX2_transform 79 = .ok (.isub, 1) := by decide +kernel
theorem dX2_transform_80 : decode cX2_transform 80 = .ok (.i2l, 1) := by decide +kernel
theorem dX2_transform_81 : decode cX2_transform 81 = .ok (.iload_n 2, 1) := by decide +kernel
theorem dX2_transform_82 : decode cX2_transform 82 = .ok (.invokestatic 26, 3) := by decide +kernel
theorem dX2_transform_85 : decode cX2_transform 85 = .ok (.goto 4, 3) := by decide +kernel
theorem dX2_transform_88 : decode cX2_transform 88 = .ok (.lconst 1, 1) := by decide +kernel
theorem dX2_transform_89 : decode cX2_transform 89 = .ok (.lstore 7, 2) := by decide +kernel
theorem dX2_transform_91 : decode cX2_transform 91 = .ok (.lconst 1, 1) := by decide +kernel
theorem dX2_transform_92 : decode cX2_transform 92 = .ok (.lstore 9, 2) := by decide +kernel
theorem dX2_transform_94 : decode cX2_transform 94 = .ok (.iconst 0, 1) := by decide +kernel
theorem dX2_transform_95 : decode cX2_transform 95 = .ok (.istore 11, 2) := by decide +kernel
theorem dX2_transform_97 : decode cX2_transform 97 = .ok (.iload 11, 2) := by decide +kernel
theorem dX2_transform_99 : decode cX2_transform 99 = .ok (.iload_n 1, 1) := by decide +kernel
theorem dX2_transform_100 : decode cX2_transform 100 = .ok (.if_icmp .ge 83, 3) := by decide +kernel
theorem dX2_transform_103 : decode cX2_transform 103 = .ok (.lconst 0, 1) := by decide +kernel
theorem dX2_transform_104 : decode cX2_transform 104 = .ok (.lstore 12, 2) := by decide +kernel
theorem dX2_transform_106 : decode cX2_transform 106 = .ok (.lconst 1, 1) := by decide +kernel
theorem dX2_transform_107 : decode cX2_transform 107 = .ok (.lstore 14, 2) := by decide +kernel
theorem dX2_transform_109 : decode cX2_transform 109 = .ok (.iconst 0, 1) := by decide +kernel
theorem dX2_transform_110 : decode cX2_transform 110 = .ok (.istore 16, 2) := by decide +kernel
theorem dX2_transform_112 : decode cX2_transform 112 = .ok (.iload 16, 2) := by decide +kernel
theorem dX2_transform_114 : decode cX2_transform 114 = .ok (.iload_n 1, 1) := by decide +kernel
theorem dX2_transform_115 : decode cX2_transform 115 = .ok (.if_icmp .ge 37, 3) := by decide +kernel
theorem dX2_transform_118 : decode cX2_transform 118 = .ok (.lload 12, 2) := by decide +kernel
theorem dX2_transform_120 : decode cX2_transform 120 = .ok (.aload_n 0, 1) := by decide +kernel
theorem dX2_transform_121 : decode cX2_transform 121 = .ok (.getfield 16, 3) := by decide +kernel
theorem dX2_transform_124 : decode cX2_transform 124 = .ok (.iload 16, 2) := by decide +kernel
theorem dX2_transform_126 : decode cX2_transform 126 = .ok (.laload, 1) := by decide +kernel
theorem dX2_transform_127 : decode cX2_transform 127 = .ok (.lload 14, 2) := by decide +kernel
theorem dX2_transform_129 : decode cX2_transform 129 = .ok (.lmul, 1) := by decide +kernel
theorem dX2_transform_130 : decode cX2_transform 130 = .ok (.ladd, 1) := by decide +kernel
theorem dX2_transform_131 : decode cX2_transform 131 = .ok (.iload_n 2, 1) := by decide +kernel
theorem dX2_transform_132 : decode cX2_transform 132 = .ok (.i2l, 1) := by decide +kernel
theorem dX2_transform_133 : decode cX2_transform 133 = .ok (.lrem, 1) := by decide +kernel
theorem dX2_transform_134 : decode cX2_transform 134 = .ok (.lstore 12, 2) := by decide +kernel
theorem dX2_transform_136 : decode cX2_transform 136 = .ok (.lload 14, 2) := by decide +kernel
theorem dX2_transform_138 : decode cX2_transform 138 = .ok (.lload 9, 2) := by decide +kernel
theorem dX2_transform_140 : decode cX2_transform 140 = .ok (.lmul, 1) := by decide +kernel
theorem dX2_transform_141 : decode cX2_transform 141 = .ok (.iload_n 2, 1) := by decide +kernel
theorem dX2_transform_142 : decode cX2_transform 142 = .ok (.i2l, 1) := by decide +kernel
theorem dX2_transform_143 : decode cX2_transform 143 = .ok (.lrem, 1) := by decide +kernel
theorem dX2_transform_144 : decode cX2_transform 144 = .ok (.lstore 14, 2) := by decide +kernel
theorem dX2_transform_146 : decode cX2_transform 146 = .ok (.iinc 16 1, 3) := by decide +kernel
theorem dX2_transform_149 : decode cX2_transform 149 = .ok (.goto (-37), 3) := by decide +kernel
theorem dX2_transform_152 : decode cX2_transform 152 = .ok (.aload_n 0, 1) := by decide +kernel
theorem dX2_transform_153 : decode cX2_transform 153 = .ok (.getfield 9, 3) := by decide +kernel
theorem dX2_transform_156 : decode cX2_transform 156 = .ok (.iload 11, 2) := by decide +kernel
theorem dX2_transform_158 : decode cX2_transform 158 = .ok (.lload 12, 2) := by decide +kernel
theorem dX2_transform_160 : decode cX2_transform 160 = .ok (.lload 7, 2) := by decide +kernel
theorem dX2_transform_162 : decode cX2_transform 162 = .ok (.lmul, 1) := by decide +kernel
theorem dX2_transform_163 : decode cX2_transform 163 = .ok (.iload_n 2, 1) := by decide +kernel
theorem dX2_transform_164 : decode cX2_transform 164 = .ok (.i2l, 1) := by decide +kernel
theorem dX2_transform_165 : decode cX2_transform 165 = .ok (.lrem, 1) := by decide +kernel
theorem dX2_transform_166 : decode cX2_transform 166 = .ok (.lastore, 1) := by decide +kernel
theorem dX2_transform_167 : decode cX2_transform 167 = .ok (.lload 9, 2) := by decide +kernel
theorem dX2_transform_169 : decode cX2_transform 169 = .ok (.lload 5, 2) := by decide +kernel
theorem dX2_transform_171 : decode cX2_transform 171 = .ok (.lmul, 1) := by decide +kernel
theorem dX2_transform_172 : decode cX2_transform 172 = .ok (.iload_n 2, 1) := by decide +kernel
theorem dX2_transform_173 : decode cX2_transform 173 = .ok (.i2l, 1) := by decide +kernel
theorem dX2_transform_174 : decode cX2_transform 174 = .ok (.lrem, 1) := by decide +kernel
theorem dX2_transform_175 : decode cX2_transform 175 = .ok (.lstore 9, 2) := by decide +kernel
theorem dX2_transform_177 : decode cX2_transform 177 = .ok (.iinc 11 1, 3) := by decide +kernel
theorem dX2_transform_180 : decode cX2_transform 180 = .ok (.goto (-83), 3) := by decide +kernel
theorem dX2_transform_183 : decode cX2_transform 183 = .ok (.iconst 0, 1) := by decide +kernel
theorem dX2_transform_184 : decode cX2_transform 184 = .ok (.ireturn, 1) := by decide +kernel
abbrev cX2_rest : ByteArray := prog_4_method_7_code
def yX2_rest : MethodName := ⟨RX2, "rest", "(JI)J"⟩
theorem dX2_rest_0 : decode cX2_rest 0 = .ok (.lload_n 0, 1) := by decide +kernel
theorem dX2_rest_1 : decode cX2_rest 1 = .ok (.iload_n 2, 1) := by decide +kernel
theorem dX2_rest_2 : decode cX2_rest 2 = .ok (.i2l, 1) := by decide +kernel
theorem dX2_rest_3 : decode cX2_rest 3 = .ok (.lrem, 1) := by decide +kernel
theorem dX2_rest_4 : decode cX2_rest 4 = .ok (.iload_n 2, 1) := by decide +kernel
theorem dX2_rest_5 : decode cX2_rest 5 = .ok (.i2l, 1) := by decide +kernel
theorem dX2_rest_6 : decode cX2_rest 6 = .ok (.ladd, 1) := by decide +kernel
theorem dX2_rest_7 : decode cX2_rest 7 = .ok (.iload_n 2, 1) := by decide +kernel
theorem dX2_rest_8 : decode cX2_rest 8 = .ok (.i2l, 1) := by decide +kernel
theorem dX2_rest_9 : decode cX2_rest 9 = .ok (.lrem, 1) := by decide +kernel
theorem dX2_rest_10 : decode cX2_rest 10 = .ok (.lreturn, 1) := by decide +kernel
abbrev cX2_keep : ByteArray := prog_4_method_12_code
def yX2_keep : MethodName := ⟨RX2, "keep", "(I)Z"⟩
theorem dX2_keep_0 : decode cX2_keep 0 = .ok (.iload_n 1, 1) := by decide +kernel
theorem dX2_keep_1 : decode cX2_keep 1 = .ok (.ifCond .lt 10, 3) := by decide +kernel
theorem dX2_keep_4 : decode cX2_keep 4 = .ok (.iload_n 1, 1) := by decide +kernel
theorem dX2_keep_5 : decode cX2_keep 5 = .ok (.sipush 1024, 3) := by decide +kernel
theorem dX2_keep_8 : decode cX2_keep 8 = .ok (.if_icmp .le 5, 3) := by decide +kernel
theorem dX2_keep_11 : decode cX2_keep 11 = .ok (.iconst 0, 1) := by decide +kernel
theorem dX2_keep_12 : decode cX2_keep 12 = .ok (.ireturn, 1) := by decide +kernel
theorem dX2_keep_13 : decode cX2_keep 13 = .ok (.iconst 0, 1) := by decide +kernel
theorem dX2_keep_14 : decode cX2_keep 14 = .ok (.istore_n 2, 1) := by decide +kernel
theorem dX2_keep_15 : decode cX2_keep 15 = .ok (.iload_n 2, 1) := by decide +kernel
theorem dX2_keep_16 : decode cX2_keep 16 = .ok (.iload_n 1, 1) := by decide +kernel
theorem dX2_keep_17 : decode cX2_keep 17 = .ok (.if_icmp .ge 21, 3) := by decide +kernel
theorem dX2_keep_20 : decode cX2_keep 20 = .ok (.aload_n 0, 1) := by decide +kernel
theorem dX2_keep_21 : decode cX2_keep 21 = .ok (.getfield 13, 3) := by decide +kernel
theorem dX2_keep_24 : decode cX2_keep 24 = .ok (.iload_n 2, 1) := by decide +kernel
theorem dX2_keep_25 : decode cX2_keep 25 = .ok (.aload_n 0, 1) := by decide +kernel
theorem dX2_keep_26 : decode cX2_keep 26 = .ok (.getfield 9, 3) := by decide +kernel
theorem dX2_keep_29 : decode cX2_keep 29 = .ok (.iload_n 2, 1) := by decide +kernel
theorem dX2_keep_30 : decode cX2_keep 30 = .ok (.laload, 1) := by decide +kernel
theorem dX2_keep_31 : decode cX2_keep 31 = .ok (.lastore, 1) := by decide +kernel
theorem dX2_keep_32 : decode cX2_keep 32 = .ok (.iinc 2 1, 3) := by decide +kernel
theorem dX2_keep_35 : decode cX2_keep 35 = .ok (.goto (-20), 3) := by decide +kernel
theorem dX2_keep_38 : decode cX2_keep 38 = .ok (.aload_n 0, 1) := by decide +kernel
theorem dX2_keep_39 : decode cX2_keep 39 = .ok (.iload_n 1, 1) := by decide +kernel
theorem dX2_keep_40 : decode cX2_keep 40 = .ok (.putfield 42, 3) := by decide +kernel
theorem dX2_keep_43 : decode cX2_keep 43 = .ok (.iconst 1, 1) := by decide +kernel
theorem dX2_keep_44 : decode cX2_keep 44 = .ok (.ireturn, 1) := by decide +kernel
abbrev cX2_times : ByteArray := prog_4_method_13_code
def yX2_times : MethodName := ⟨RX2, "times", "(II)I"⟩
theorem dX2_times_0 : decode cX2_times 0 = .ok (.iload_n 1, 1) := by decide +kernel
theorem dX2_times_1 : decode cX2_times 1 = .ok (.ifCond .lt 10, 3) := by decide +kernel
theorem dX2_times_4 : decode cX2_times 4 = .ok (.iload_n 1, 1) := by decide +kernel
theorem dX2_times_5 : decode cX2_times 5 = .ok (.sipush 1024, 3) := by decide +kernel
theorem dX2_times_8 : decode cX2_times 8 = .ok (.if_icmp .le 5, 3) := by decide +kernel
theorem dX2_times_11 : decode cX2_times 11 = .ok (.iconst (-1), 1) := by decide +kernel
theorem dX2_times_12 : decode cX2_times 12 = .ok (.ireturn, 1) := by decide +kernel
theorem dX2_times_13 : decode cX2_times 13 = .ok (.iload_n 2, 1) := by decide +kernel
theorem dX2_times_14 : decode cX2_times 14 = .ok (.invokestatic 19, 3) := by decide +kernel
theorem dX2_times_17 : decode cX2_times 17 = .ok (.ifCond .ne 6, 3) := by decide +kernel
theorem dX2_times_20 : decode cX2_times 20 = .ok (.bipush (-2), 2) := by decide +kernel
theorem dX2_times_22 : decode cX2_times 22 = .ok (.ireturn, 1) := by decide +kernel
theorem dX2_times_23 : decode cX2_times 23 = .ok (.iconst 0, 1) := by decide +kernel
theorem dX2_times_24 : decode cX2_times 24 = .ok (.istore_n 3, 1) := by decide +kernel
theorem dX2_times_25 : decode cX2_times 25 = .ok (.iload_n 3, 1) := by decide +kernel
theorem dX2_times_26 : decode cX2_times 26 = .ok (.iload_n 1, 1) := by decide +kernel
theorem dX2_times_27 : decode cX2_times 27 = .ok (.if_icmp .ge 51, 3) := by decide +kernel
theorem dX2_times_30 : decode cX2_times 30 = .ok (.aload_n 0, 1) := by decide +kernel
theorem dX2_times_31 : decode cX2_times 31 = .ok (.getfield 9, 3) := by decide +kernel
theorem dX2_times_34 : decode cX2_times 34 = .ok (.iload_n 3, 1) := by decide +kernel
theorem dX2_times_35 : decode cX2_times 35 = .ok (.iload_n 3, 1) := by decide +kernel
theorem dX2_times_36 : decode cX2_times 36 = .ok (.aload_n 0, 1) := by decide +kernel
theorem dX2_times_37 : decode cX2_times 37 = .ok (.getfield 42, 3) := by decide +kernel
theorem dX2_times_40 : decode cX2_times 40 = .ok (.if_icmp .ge 30, 3) := by decide +kernel
theorem dX2_times_43 : decode cX2_times 43 = .ok (.aload_n 0, 1) := by decide +kernel
theorem dX2_times_44 : decode cX2_times 44 = .ok (.getfield 9, 3) := by decide +kernel
theorem dX2_times_47 : decode cX2_times 47 = .ok (.iload_n 3, 1) := by decide +kernel
theorem dX2_times_48 : decode cX2_times 48 = .ok (.laload, 1) := by decide +kernel
theorem dX2_times_49 : decode cX2_times 49 = .ok (.iload_n 2, 1) := by decide +kernel
theorem dX2_times_50 : decode cX2_times 50 = .ok (.invokestatic 38, 3) := by decide +kernel
theorem dX2_times_53 : decode cX2_times 53 = .ok (.aload_n 0, 1) := by decide +kernel
theorem dX2_times_54 : decode cX2_times 54 = .ok (.getfield 13, 3) := by decide +kernel
theorem dX2_times_57 : decode cX2_times 57 = .ok (.iload_n 3, 1) := by decide +kernel
theorem dX2_times_58 : decode cX2_times 58 = .ok (.laload, 1) := by decide +kernel
theorem dX2_times_59 : decode cX2_times 59 = .ok (.iload_n 2, 1) := by decide +kernel
theorem dX2_times_60 : decode cX2_times 60 = .ok (.invokestatic 38, 3) := by decide +kernel
theorem dX2_times_63 : decode cX2_times 63 = .ok (.lmul, 1) := by decide +kernel
theorem dX2_times_64 : decode cX2_times 64 = .ok (.iload_n 2, 1) := by decide +kernel
theorem dX2_times_65 : decode cX2_times 65 = .ok (.i2l, 1) := by decide +kernel
theorem dX2_times_66 : decode cX2_times 66 = .ok (.lrem, 1) := by decide +kernel
theorem dX2_times_67 : decode cX2_times 67 = .ok (.goto 4, 3) := by decide +kernel
theorem dX2_times_70 : decode cX2_times 70 = .ok (.lconst 0, 1) := by decide +kernel
theorem dX2_times_71 : decode cX2_times 71 = .ok (.lastore, 1) := by decide +kernel
theorem dX2_times_72 : decode cX2_times 72 = .ok (.iinc 3 1, 3) := by decide +kernel
theorem dX2_times_75 : decode cX2_times 75 = .ok (.goto (-50), 3) := by decide +kernel
theorem dX2_times_78 : decode cX2_times 78 = .ok (.iconst 0, 1) := by decide +kernel
theorem dX2_times_79 : decode cX2_times 79 = .ok (.ireturn, 1) := by decide +kernel
theorem q6 : (Jvm.Cond.initialized "ResidueTransformsModel") ∈ lw_all := lw_g (lw_at lw_m0 3 rfl) rfl
theorem q105 : (Jvm.Cond.instantiable "ResidueTransformsModel" (4 : Nat)) ∈ lw_all := lw_g (lw_at lw_m0 102 rfl) rfl
theorem q107 : (Jvm.Cond.instanceMethod ({ cls := "ResidueTransformsModel", name := "<init>", desc := "()V" } : Jvm.MethodName)) ∈ lw_all := lw_g (lw_at lw_m0 104 rfl) rfl
theorem q108 : (Jvm.Cond.code ({ cls := "ResidueTransformsModel", name := "<init>", desc := "()V" } : Jvm.MethodName) prog_4_method_1_code (1 : Nat) (Option.none : Option Jvm.ClassFile.FieldType)) ∈ lw_all := lw_g (lw_at lw_m0 105 rfl) rfl
theorem q109 : (Jvm.Cond.methodLink "ResidueTransformsModel" (1 : Nat) ({ cls := "java/lang/Object", name := "<init>", desc := "()V" } : Jvm.MethodName)) ∈ lw_all := lw_g (lw_at lw_m0 106 rfl) rfl
theorem q110 : (Jvm.Cond.fieldLink "ResidueTransformsModel" (9 : Nat) "ResidueTransformsModel" "row" "[J") ∈ lw_all := lw_g (lw_at lw_m0 107 rfl) rfl
theorem q111 : (Jvm.Cond.fieldLink "ResidueTransformsModel" (13 : Nat) "ResidueTransformsModel" "kept" "[J") ∈ lw_all := lw_g (lw_at lw_m0 108 rfl) rfl
theorem q112 : (Jvm.Cond.fieldLink "ResidueTransformsModel" (16 : Nat) "ResidueTransformsModel" "work" "[J") ∈ lw_all := lw_g (lw_at lw_m0 109 rfl) rfl
theorem q113 : (Jvm.Cond.fieldLink "ResidueTransformsModel" (42 : Nat) "ResidueTransformsModel" "keptSize" "I") ∈ lw_all := lw_g (lw_at lw_m0 110 rfl) rfl
theorem q114 : (Jvm.Cond.laysFinal "ResidueTransformsModel" "ResidueTransformsModel" "row" "[J") ∈ lw_all := lw_g (lw_at lw_m0 111 rfl) rfl
theorem q115 : (Jvm.Cond.soleField "ResidueTransformsModel" "row") ∈ lw_all := lw_g (lw_at lw_m0 112 rfl) rfl
theorem q116 : (Jvm.Cond.laysFinal "ResidueTransformsModel" "ResidueTransformsModel" "kept" "[J") ∈ lw_all := lw_g (lw_at lw_m0 113 rfl) rfl
theorem q117 : (Jvm.Cond.soleField "ResidueTransformsModel" "kept") ∈ lw_all := lw_g (lw_at lw_m0 114 rfl) rfl
theorem q118 : (Jvm.Cond.laysFinal "ResidueTransformsModel" "ResidueTransformsModel" "work" "[J") ∈ lw_all := lw_g (lw_at lw_m0 115 rfl) rfl
theorem q119 : (Jvm.Cond.soleField "ResidueTransformsModel" "work") ∈ lw_all := lw_g (lw_at lw_m0 116 rfl) rfl
theorem q120 : (Jvm.Cond.lays "ResidueTransformsModel" "ResidueTransformsModel" "keptSize" "I") ∈ lw_all := lw_g (lw_at lw_m0 117 rfl) rfl
theorem q121 : (Jvm.Cond.soleField "ResidueTransformsModel" "keptSize") ∈ lw_all := lw_g (lw_at lw_m0 118 rfl) rfl
theorem q122 : (Jvm.Cond.superclass "ResidueTransformsModel" "java/lang/Object") ∈ lw_all := lw_g (lw_at lw_m0 119 rfl) rfl
theorem q124 : (Jvm.Cond.instanceMethod ({ cls := "ResidueTransformsModel", name := "put", desc := "(IJ)Z" } : Jvm.MethodName)) ∈ lw_all := lw_g (lw_at lw_m0 121 rfl) rfl
theorem q125 : (Jvm.Cond.selects "ResidueTransformsModel" ({ cls := "ResidueTransformsModel", name := "put", desc := "(IJ)Z" } : Jvm.MethodName) ({ cls := "ResidueTransformsModel", name := "put", desc := "(IJ)Z" } : Jvm.MethodName)) ∈ lw_all := lw_g (lw_at lw_m0 122 rfl) rfl
theorem q126 : (Jvm.Cond.code ({ cls := "ResidueTransformsModel", name := "put", desc := "(IJ)Z" } : Jvm.MethodName) prog_4_method_3_code (4 : Nat) (Option.some Jvm.ClassFile.FieldType.boolean)) ∈ lw_all := lw_g (lw_at lw_m0 123 rfl) rfl
theorem q128 : (Jvm.Cond.instanceMethod ({ cls := "ResidueTransformsModel", name := "get", desc := "(I)J" } : Jvm.MethodName)) ∈ lw_all := lw_g (lw_at lw_m0 125 rfl) rfl
theorem q129 : (Jvm.Cond.selects "ResidueTransformsModel" ({ cls := "ResidueTransformsModel", name := "get", desc := "(I)J" } : Jvm.MethodName) ({ cls := "ResidueTransformsModel", name := "get", desc := "(I)J" } : Jvm.MethodName)) ∈ lw_all := lw_g (lw_at lw_m0 126 rfl) rfl
theorem q130 : (Jvm.Cond.code ({ cls := "ResidueTransformsModel", name := "get", desc := "(I)J" } : Jvm.MethodName) prog_4_method_4_code (2 : Nat) (Option.some Jvm.ClassFile.FieldType.long)) ∈ lw_all := lw_g (lw_at lw_m0 127 rfl) rfl
theorem q132 : (Jvm.Cond.instanceMethod ({ cls := "ResidueTransformsModel", name := "root", desc := "(II)J" } : Jvm.MethodName)) ∈ lw_all := lw_g (lw_at lw_m0 129 rfl) rfl
theorem q133 : (Jvm.Cond.selects "ResidueTransformsModel" ({ cls := "ResidueTransformsModel", name := "root", desc := "(II)J" } : Jvm.MethodName) ({ cls := "ResidueTransformsModel", name := "root", desc := "(II)J" } : Jvm.MethodName)) ∈ lw_all := lw_g (lw_at lw_m0 130 rfl) rfl
theorem q134 : (Jvm.Cond.code ({ cls := "ResidueTransformsModel", name := "root", desc := "(II)J" } : Jvm.MethodName) prog_4_method_10_code (3 : Nat) (Option.some Jvm.ClassFile.FieldType.long)) ∈ lw_all := lw_g (lw_at lw_m0 131 rfl) rfl
theorem q135 : (Jvm.Cond.methodLink "ResidueTransformsModel" (30 : Nat) ({ cls := "ResidueTransformsModel", name := "refused", desc := "(II)I" } : Jvm.MethodName)) ∈ lw_all := lw_g (lw_at lw_m0 132 rfl) rfl
theorem q136 : (Jvm.Cond.static ({ cls := "ResidueTransformsModel", name := "refused", desc := "(II)I" } : Jvm.MethodName)) ∈ lw_all := lw_g (lw_at lw_m0 133 rfl) rfl
theorem q137 : (Jvm.Cond.code ({ cls := "ResidueTransformsModel", name := "refused", desc := "(II)I" } : Jvm.MethodName) prog_4_method_5_code (2 : Nat) (Option.some Jvm.ClassFile.FieldType.int)) ∈ lw_all := lw_g (lw_at lw_m0 134 rfl) rfl
theorem q138 : (Jvm.Cond.methodLink "ResidueTransformsModel" (19 : Nat) ({ cls := "ResidueTransformsModel", name := "isPrime", desc := "(I)Z" } : Jvm.MethodName)) ∈ lw_all := lw_g (lw_at lw_m0 135 rfl) rfl
theorem q139 : (Jvm.Cond.static ({ cls := "ResidueTransformsModel", name := "isPrime", desc := "(I)Z" } : Jvm.MethodName)) ∈ lw_all := lw_g (lw_at lw_m0 136 rfl) rfl
theorem q140 : (Jvm.Cond.code ({ cls := "ResidueTransformsModel", name := "isPrime", desc := "(I)Z" } : Jvm.MethodName) prog_4_method_6_code (2 : Nat) (Option.some Jvm.ClassFile.FieldType.boolean)) ∈ lw_all := lw_g (lw_at lw_m0 137 rfl) rfl
theorem q141 : (Jvm.Cond.constant "ResidueTransformsModel" (23 : Nat) (1000000007 : Int32)) ∈ lw_all := lw_g (lw_at lw_m0 138 rfl) rfl
theorem q142 : (Jvm.Cond.methodLink "ResidueTransformsModel" (34 : Nat) ({ cls := "ResidueTransformsModel", name := "rootOf", desc := "(II)J" } : Jvm.MethodName)) ∈ lw_all := lw_g (lw_at lw_m0 139 rfl) rfl
theorem q143 : (Jvm.Cond.static ({ cls := "ResidueTransformsModel", name := "rootOf", desc := "(II)J" } : Jvm.MethodName)) ∈ lw_all := lw_g (lw_at lw_m0 140 rfl) rfl
theorem q144 : (Jvm.Cond.code ({ cls := "ResidueTransformsModel", name := "rootOf", desc := "(II)J" } : Jvm.MethodName) prog_4_method_9_code (6 : Nat) (Option.some Jvm.ClassFile.FieldType.long)) ∈ lw_all := lw_g (lw_at lw_m0 141 rfl) rfl
theorem q145 : (Jvm.Cond.constantLong "ResidueTransformsModel" (24 : Nat) (2 : Int64)) ∈ lw_all := lw_g (lw_at lw_m0 142 rfl) rfl
theorem q146 : (Jvm.Cond.methodLink "ResidueTransformsModel" (26 : Nat) ({ cls := "ResidueTransformsModel", name := "power", desc := "(JJI)J" } : Jvm.MethodName)) ∈ lw_all := lw_g (lw_at lw_m0 143 rfl) rfl
theorem q147 : (Jvm.Cond.static ({ cls := "ResidueTransformsModel", name := "power", desc := "(JJI)J" } : Jvm.MethodName)) ∈ lw_all := lw_g (lw_at lw_m0 144 rfl) rfl
theorem q148 : (Jvm.Cond.code ({ cls := "ResidueTransformsModel", name := "power", desc := "(JJI)J" } : Jvm.MethodName) prog_4_method_8_code (11 : Nat) (Option.some Jvm.ClassFile.FieldType.long)) ∈ lw_all := lw_g (lw_at lw_m0 145 rfl) rfl
theorem q150 : (Jvm.Cond.instanceMethod ({ cls := "ResidueTransformsModel", name := "transform", desc := "(IIZ)I" } : Jvm.MethodName)) ∈ lw_all := lw_g (lw_at lw_m0 147 rfl) rfl
theorem q151 : (Jvm.Cond.selects "ResidueTransformsModel" ({ cls := "ResidueTransformsModel", name := "transform", desc := "(IIZ)I" } : Jvm.MethodName) ({ cls := "ResidueTransformsModel", name := "transform", desc := "(IIZ)I" } : Jvm.MethodName)) ∈ lw_all := lw_g (lw_at lw_m0 148 rfl) rfl
theorem q152 : (Jvm.Cond.code ({ cls := "ResidueTransformsModel", name := "transform", desc := "(IIZ)I" } : Jvm.MethodName) prog_4_method_11_code (17 : Nat) (Option.some Jvm.ClassFile.FieldType.int)) ∈ lw_all := lw_g (lw_at lw_m0 149 rfl) rfl
theorem q153 : (Jvm.Cond.methodLink "ResidueTransformsModel" (38 : Nat) ({ cls := "ResidueTransformsModel", name := "rest", desc := "(JI)J" } : Jvm.MethodName)) ∈ lw_all := lw_g (lw_at lw_m0 150 rfl) rfl
theorem q154 : (Jvm.Cond.static ({ cls := "ResidueTransformsModel", name := "rest", desc := "(JI)J" } : Jvm.MethodName)) ∈ lw_all := lw_g (lw_at lw_m0 151 rfl) rfl
theorem q155 : (Jvm.Cond.code ({ cls := "ResidueTransformsModel", name := "rest", desc := "(JI)J" } : Jvm.MethodName) prog_4_method_7_code (3 : Nat) (Option.some Jvm.ClassFile.FieldType.long)) ∈ lw_all := lw_g (lw_at lw_m0 152 rfl) rfl
theorem q157 : (Jvm.Cond.instanceMethod ({ cls := "ResidueTransformsModel", name := "keep", desc := "(I)Z" } : Jvm.MethodName)) ∈ lw_all := lw_g (lw_at lw_m0 154 rfl) rfl
theorem q158 : (Jvm.Cond.selects "ResidueTransformsModel" ({ cls := "ResidueTransformsModel", name := "keep", desc := "(I)Z" } : Jvm.MethodName) ({ cls := "ResidueTransformsModel", name := "keep", desc := "(I)Z" } : Jvm.MethodName)) ∈ lw_all := lw_g (lw_at lw_m0 155 rfl) rfl
theorem q159 : (Jvm.Cond.code ({ cls := "ResidueTransformsModel", name := "keep", desc := "(I)Z" } : Jvm.MethodName) prog_4_method_12_code (3 : Nat) (Option.some Jvm.ClassFile.FieldType.boolean)) ∈ lw_all := lw_g (lw_at lw_m0 156 rfl) rfl
theorem q161 : (Jvm.Cond.instanceMethod ({ cls := "ResidueTransformsModel", name := "times", desc := "(II)I" } : Jvm.MethodName)) ∈ lw_all := lw_g (lw_at lw_m0 158 rfl) rfl
theorem q162 : (Jvm.Cond.selects "ResidueTransformsModel" ({ cls := "ResidueTransformsModel", name := "times", desc := "(II)I" } : Jvm.MethodName) ({ cls := "ResidueTransformsModel", name := "times", desc := "(II)I" } : Jvm.MethodName)) ∈ lw_all := lw_g (lw_at lw_m0 159 rfl) rfl
theorem q163 : (Jvm.Cond.code ({ cls := "ResidueTransformsModel", name := "times", desc := "(II)I" } : Jvm.MethodName) prog_4_method_13_code (4 : Nat) (Option.some Jvm.ClassFile.FieldType.int)) ∈ lw_all := lw_g (lw_at lw_m0 160 rfl) rfl
theorem in_X2 : ∀ w ∈ wsX20, w ∈ lw_all := lw_in wsX20 [114, 116, 118, 120] (by decide +kernel) (by decide +kernel)
end
section
/-! the law's own entry -/
set_option maxRecDepth 100000
abbrev cL_law : ByteArray := code
theorem dL_law_0 : decode cL_law 0 = .ok (.new 7, 3) := by decide +kernel
theorem dL_law_3 : decode cL_law 3 = .ok (.dup, 1) := by decide +kernel
theorem dL_law_4 : decode cL_law 4 = .ok (.invokespecial 9, 3) := by decide +kernel
theorem dL_law_7 : decode cL_law 7 = .ok (.astore_n 1, 1) := by decide +kernel
theorem dL_law_8 : decode cL_law 8 = .ok (.new 10, 3) := by decide +kernel
theorem dL_law_11 : decode cL_law 11 = .ok (.dup, 1) := by decide +kernel
theorem dL_law_12 : decode cL_law 12 = .ok (.invokespecial 12, 3) := by decide +kernel
theorem dL_law_15 : decode cL_law 15 = .ok (.astore_n 2, 1) := by decide +kernel
theorem dL_law_16 : decode cL_law 16 = .ok (.iconst 0, 1) := by decide +kernel
theorem dL_law_17 : decode cL_law 17 = .ok (.istore_n 3, 1) := by decide +kernel
theorem dL_law_18 : decode cL_law 18 = .ok (.iload_n 3, 1) := by decide +kernel
theorem dL_law_19 : decode cL_law 19 = .ok (.aload_n 0, 1) := by decide +kernel
theorem dL_law_20 : decode cL_law 20 = .ok (.arraylength, 1) := by decide +kernel
theorem dL_law_21 : decode cL_law 21 = .ok (.iconst 4, 1) := by decide +kernel
theorem dL_law_22 : decode cL_law 22 = .ok (.isub, 1) := by decide +kernel
theorem dL_law_23 : decode cL_law 23 = .ok (.if_icmp .gt 291, 3) := by decide +kernel
theorem dL_law_26 : decode cL_law 26 = .ok (.aload_n 0, 1) := by decide +kernel
theorem dL_law_27 : decode cL_law 27 = .ok (.iload_n 3, 1) := by decide +kernel
theorem dL_law_28 : decode cL_law 28 = .ok (.iaload, 1) := by decide +kernel
theorem dL_law_29 : decode cL_law 29 = .ok (.bipush 7, 2) := by decide +kernel
theorem dL_law_31 : decode cL_law 31 = .ok (.iand, 1) := by decide +kernel
theorem dL_law_32 : decode cL_law 32 = .ok (.tableswitch 276 0 5 #[40, 103, 127, 186, 209, 242], 40) := by decide +kernel
theorem dL_law_72 : decode cL_law 72 = .ok (.aload_n 1, 1) := by decide +kernel
theorem dL_law_73 : decode cL_law 73 = .ok (.aload_n 0, 1) := by decide +kernel
theorem dL_law_74 : decode cL_law 74 = .ok (.iload_n 3, 1) := by decide +kernel
theorem dL_law_75 : decode cL_law 75 = .ok (.iconst 1, 1) := by decide +kernel
theorem dL_law_76 : decode cL_law 76 = .ok (.iadd, 1) := by decide +kernel
theorem dL_law_77 : decode cL_law 77 = .ok (.iaload, 1) := by decide +kernel
theorem dL_law_78 : decode cL_law 78 = .ok (.aload_n 0, 1) := by decide +kernel
theorem dL_law_79 : decode cL_law 79 = .ok (.iload_n 3, 1) := by decide +kernel
theorem dL_law_80 : decode cL_law 80 = .ok (.iconst 2, 1) := by decide +kernel
theorem dL_law_81 : decode cL_law 81 = .ok (.iadd, 1) := by decide +kernel
theorem dL_law_82 : decode cL_law 82 = .ok (.iaload, 1) := by decide +kernel
theorem dL_law_83 : decode cL_law 83 = .ok (.i2l, 1) := by decide +kernel
theorem dL_law_84 : decode cL_law 84 = .ok (.bipush 32, 2) := by decide +kernel
theorem dL_law_86 : decode cL_law 86 = .ok (.lshl, 1) := by decide +kernel
theorem dL_law_87 : decode cL_law 87 = .ok (.aload_n 0, 1) := by decide +kernel
theorem dL_law_88 : decode cL_law 88 = .ok (.iload_n 3, 1) := by decide +kernel
theorem dL_law_89 : decode cL_law 89 = .ok (.iconst 3, 1) := by decide +kernel
theorem dL_law_90 : decode cL_law 90 = .ok (.iadd, 1) := by decide +kernel
theorem dL_law_91 : decode cL_law 91 = .ok (.iaload, 1) := by decide +kernel
theorem dL_law_92 : decode cL_law 92 = .ok (.i2l, 1) := by decide +kernel
theorem dL_law_93 : decode cL_law 93 = .ok (.ldc2_w 13, 3) := by decide +kernel
theorem dL_law_96 : decode cL_law 96 = .ok (.land, 1) := by decide +kernel
theorem dL_law_97 : decode cL_law 97 = .ok (.lor, 1) := by decide +kernel
theorem dL_law_98 : decode cL_law 98 = .ok (.invokevirtual 15, 3) := by decide +kernel
theorem dL_law_101 : decode cL_law 101 = .ok (.aload_n 2, 1) := by decide +kernel
theorem dL_law_102 : decode cL_law 102 = .ok (.aload_n 0, 1) := by decide +kernel
theorem dL_law_103 : decode cL_law 103 = .ok (.iload_n 3, 1) := by decide +kernel
theorem dL_law_104 : decode cL_law 104 = .ok (.iconst 1, 1) := by decide +kernel
theorem dL_law_105 : decode cL_law 105 = .ok (.iadd, 1) := by decide +kernel
theorem dL_law_106 : decode cL_law 106 = .ok (.iaload, 1) := by decide +kernel
theorem dL_law_107 : decode cL_law 107 = .ok (.aload_n 0, 1) := by decide +kernel
theorem dL_law_108 : decode cL_law 108 = .ok (.iload_n 3, 1) := by decide +kernel
theorem dL_law_109 : decode cL_law 109 = .ok (.iconst 2, 1) := by decide +kernel
theorem dL_law_110 : decode cL_law 110 = .ok (.iadd, 1) := by decide +kernel
theorem dL_law_111 : decode cL_law 111 = .ok (.iaload, 1) := by decide +kernel
theorem dL_law_112 : decode cL_law 112 = .ok (.i2l, 1) := by decide +kernel
theorem dL_law_113 : decode cL_law 113 = .ok (.bipush 32, 2) := by decide +kernel
theorem dL_law_115 : decode cL_law 115 = .ok (.lshl, 1) := by decide +kernel
theorem dL_law_116 : decode cL_law 116 = .ok (.aload_n 0, 1) := by decide +kernel
theorem dL_law_117 : decode cL_law 117 = .ok (.iload_n 3, 1) := by decide +kernel
theorem dL_law_118 : decode cL_law 118 = .ok (.iconst 3, 1) := by decide +kernel
theorem dL_law_119 : decode cL_law 119 = .ok (.iadd, 1) := by decide +kernel
theorem dL_law_120 : decode cL_law 120 = .ok (.iaload, 1) := by decide +kernel
theorem dL_law_121 : decode cL_law 121 = .ok (.i2l, 1) := by decide +kernel
theorem dL_law_122 : decode cL_law 122 = .ok (.ldc2_w 13, 3) := by decide +kernel
theorem dL_law_125 : decode cL_law 125 = .ok (.land, 1) := by decide +kernel
theorem dL_law_126 : decode cL_law 126 = .ok (.lor, 1) := by decide +kernel
theorem dL_law_127 : decode cL_law 127 = .ok (.invokevirtual 19, 3) := by decide +kernel
theorem dL_law_130 : decode cL_law 130 = .ok (.if_icmp .eq 178, 3) := by decide +kernel
theorem dL_law_133 : decode cL_law 133 = .ok (.iconst 0, 1) := by decide +kernel
theorem dL_law_134 : decode cL_law 134 = .ok (.ireturn, 1) := by decide +kernel
theorem dL_law_135 : decode cL_law 135 = .ok (.aload_n 1, 1) := by decide +kernel
theorem dL_law_136 : decode cL_law 136 = .ok (.aload_n 0, 1) := by decide +kernel
theorem dL_law_137 : decode cL_law 137 = .ok (.iload_n 3, 1) := by decide +kernel
theorem dL_law_138 : decode cL_law 138 = .ok (.iconst 1, 1) := by decide +kernel
theorem dL_law_139 : decode cL_law 139 = .ok (.iadd, 1) := by decide +kernel
theorem dL_law_140 : decode cL_law 140 = .ok (.iaload, 1) := by decide +kernel
theorem dL_law_141 : decode cL_law 141 = .ok (.invokevirtual 20, 3) := by decide +kernel
theorem dL_law_144 : decode cL_law 144 = .ok (.aload_n 2, 1) := by decide +kernel
theorem dL_law_145 : decode cL_law 145 = .ok (.aload_n 0, 1) := by decide +kernel
theorem dL_law_146 : decode cL_law 146 = .ok (.iload_n 3, 1) := by decide +kernel
theorem dL_law_147 : decode cL_law 147 = .ok (.iconst 1, 1) := by decide +kernel
theorem dL_law_148 : decode cL_law 148 = .ok (.iadd, 1) := by decide +kernel
theorem dL_law_149 : decode cL_law 149 = .ok (.iaload, 1) := by decide +kernel
theorem dL_law_150 : decode cL_law 150 = .ok (.invokevirtual 24, 3) := by decide +kernel
theorem dL_law_153 : decode cL_law 153 = .ok (.lcmp, 1) := by decide +kernel
theorem dL_law_154 : decode cL_law 154 = .ok (.ifCond .eq 154, 3) := by decide +kernel
theorem dL_law_157 : decode cL_law 157 = .ok (.iconst 0, 1) := by decide +kernel
theorem dL_law_158 : decode cL_law 158 = .ok (.ireturn, 1) := by decide +kernel
theorem dL_law_159 : decode cL_law 159 = .ok (.aload_n 1, 1) := by decide +kernel
theorem dL_law_160 : decode cL_law 160 = .ok (.aload_n 0, 1) := by decide +kernel
theorem dL_law_161 : decode cL_law 161 = .ok (.iload_n 3, 1) := by decide +kernel
theorem dL_law_162 : decode cL_law 162 = .ok (.iconst 1, 1) := by decide +kernel
theorem dL_law_163 : decode cL_law 163 = .ok (.iadd, 1) := by decide +kernel
theorem dL_law_164 : decode cL_law 164 = .ok (.iaload, 1) := by decide +kernel
theorem dL_law_165 : decode cL_law 165 = .ok (.aload_n 0, 1) := by decide +kernel
theorem dL_law_166 : decode cL_law 166 = .ok (.iload_n 3, 1) := by decide +kernel
theorem dL_law_167 : decode cL_law 167 = .ok (.iconst 2, 1) := by decide +kernel
theorem dL_law_168 : decode cL_law 168 = .ok (.iadd, 1) := by decide +kernel
theorem dL_law_169 : decode cL_law 169 = .ok (.iaload, 1) := by decide +kernel
theorem dL_law_170 : decode cL_law 170 = .ok (.aload_n 0, 1) := by decide +kernel
theorem dL_law_171 : decode cL_law 171 = .ok (.iload_n 3, 1) := by decide +kernel
theorem dL_law_172 : decode cL_law 172 = .ok (.iconst 3, 1) := by decide +kernel
theorem dL_law_173 : decode cL_law 173 = .ok (.iadd, 1) := by decide +kernel
theorem dL_law_174 : decode cL_law 174 = .ok (.iaload, 1) := by decide +kernel
theorem dL_law_175 : decode cL_law 175 = .ok (.ifCond .eq 7, 3) := by decide +kernel
theorem dL_law_178 : decode cL_law 178 = .ok (.iconst 1, 1) := by decide +kernel
theorem dL_law_179 : decode cL_law 179 = .ok (.goto 4, 3) := by decide +kernel
theorem dL_law_182 : decode cL_law 182 = .ok (.iconst 0, 1) := by decide +kernel
theorem dL_law_183 : decode cL_law 183 = .ok (.invokevirtual 25, 3) := by decide +kernel
theorem dL_law_186 : decode cL_law 186 = .ok (.aload_n 2, 1) := by decide +kernel
theorem dL_law_187 : decode cL_law 187 = .ok (.aload_n 0, 1) := by decide +kernel
theorem dL_law_188 : decode cL_law 188 = .ok (.iload_n 3, 1) := by decide +kernel
theorem dL_law_189 : decode cL_law 189 = .ok (.iconst 1, 1) := by decide +kernel
theorem dL_law_190 : decode cL_law 190 = .ok (.iadd, 1) := by decide +kernel
theorem dL_law_191 : decode cL_law 191 = .ok (.iaload, 1) := by decide +kernel
theorem dL_law_192 : decode cL_law 192 = .ok (.aload_n 0, 1) := by decide +kernel
theorem dL_law_193 : decode cL_law 193 = .ok (.iload_n 3, 1) := by decide +kernel
theorem dL_law_194 : decode cL_law 194 = .ok (.iconst 2, 1) := by decide +kernel
theorem dL_law_195 : decode cL_law 195 = .ok (.iadd, 1) := by decide +kernel
theorem dL_law_196 : decode cL_law 196 = .ok (.iaload, 1) := by decide +kernel
theorem dL_law_197 : decode cL_law 197 = .ok (.aload_n 0, 1) := by decide +kernel
theorem dL_law_198 : decode cL_law 198 = .ok (.iload_n 3, 1) := by decide +kernel
theorem dL_law_199 : decode cL_law 199 = .ok (.iconst 3, 1) := by decide +kernel
theorem dL_law_200 : decode cL_law 200 = .ok (.iadd, 1) := by decide +kernel
theorem dL_law_201 : decode cL_law 201 = .ok (.iaload, 1) := by decide +kernel
theorem dL_law_202 : decode cL_law 202 = .ok (.ifCond .eq 7, 3) := by decide +kernel
theorem dL_law_205 : decode cL_law 205 = .ok (.iconst 1, 1) := by decide +kernel
theorem dL_law_206 : decode cL_law 206 = .ok (.goto 4, 3) := by decide +kernel
theorem dL_law_209 : decode cL_law 209 = .ok (.iconst 0, 1) := by decide +kernel
theorem dL_law_210 : decode cL_law 210 = .ok (.invokevirtual 29, 3) := by decide +kernel
theorem dL_law_213 : decode cL_law 213 = .ok (.if_icmp .eq 95, 3) := by decide +kernel
theorem dL_law_216 : decode cL_law 216 = .ok (.iconst 0, 1) := by decide +kernel
theorem dL_law_217 : decode cL_law 217 = .ok (.ireturn, 1) := by decide +kernel
theorem dL_law_218 : decode cL_law 218 = .ok (.aload_n 1, 1) := by decide +kernel
theorem dL_law_219 : decode cL_law 219 = .ok (.aload_n 0, 1) := by decide +kernel
theorem dL_law_220 : decode cL_law 220 = .ok (.iload_n 3, 1) := by decide +kernel
theorem dL_law_221 : decode cL_law 221 = .ok (.iconst 1, 1) := by decide +kernel
theorem dL_law_222 : decode cL_law 222 = .ok (.iadd, 1) := by decide +kernel
theorem dL_law_223 : decode cL_law 223 = .ok (.iaload, 1) := by decide +kernel
theorem dL_law_224 : decode cL_law 224 = .ok (.invokevirtual 30, 3) := by decide +kernel
theorem dL_law_227 : decode cL_law 227 = .ok (.aload_n 2, 1) := by decide +kernel
theorem dL_law_228 : decode cL_law 228 = .ok (.aload_n 0, 1) := by decide +kernel
theorem dL_law_229 : decode cL_law 229 = .ok (.iload_n 3, 1) := by decide +kernel
theorem dL_law_230 : decode cL_law 230 = .ok (.iconst 1, 1) := by decide +kernel
theorem dL_law_231 : decode cL_law 231 = .ok (.iadd, 1) := by decide +kernel
theorem dL_law_232 : decode cL_law 232 = .ok (.iaload, 1) := by decide +kernel
theorem dL_law_233 : decode cL_law 233 = .ok (.invokevirtual 34, 3) := by decide +kernel
theorem dL_law_236 : decode cL_law 236 = .ok (.if_icmp .eq 72, 3) := by decide +kernel
theorem dL_law_239 : decode cL_law 239 = .ok (.iconst 0, 1) := by decide +kernel
theorem dL_law_240 : decode cL_law 240 = .ok (.ireturn, 1) := by decide +kernel
theorem dL_law_241 : decode cL_law 241 = .ok (.aload_n 1, 1) := by decide +kernel
theorem dL_law_242 : decode cL_law 242 = .ok (.aload_n 0, 1) := by decide +kernel
theorem dL_law_243 : decode cL_law 243 = .ok (.iload_n 3, 1) := by decide +kernel
theorem dL_law_244 : decode cL_law 244 = .ok (.iconst 1, 1) := by decide +kernel
theorem dL_law_245 : decode cL_law 245 = .ok (.iadd, 1) := by decide +kernel
theorem dL_law_246 : decode cL_law 246 = .ok (.iaload, 1) := by decide +kernel
theorem dL_law_247 : decode cL_law 247 = .ok (.aload_n 0, 1) := by decide +kernel
theorem dL_law_248 : decode cL_law 248 = .ok (.iload_n 3, 1) := by decide +kernel
theorem dL_law_249 : decode cL_law 249 = .ok (.iconst 2, 1) := by decide +kernel
theorem dL_law_250 : decode cL_law 250 = .ok (.iadd, 1) := by decide +kernel
theorem dL_law_251 : decode cL_law 251 = .ok (.iaload, 1) := by decide +kernel
theorem dL_law_252 : decode cL_law 252 = .ok (.invokevirtual 35, 3) := by decide +kernel
theorem dL_law_255 : decode cL_law 255 = .ok (.aload_n 2, 1) := by decide +kernel
theorem dL_law_256 : decode cL_law 256 = .ok (.aload_n 0, 1) := by decide +kernel
theorem dL_law_257 : decode cL_law 257 = .ok (.iload_n 3, 1) := by decide +kernel
theorem dL_law_258 : decode cL_law 258 = .ok (.iconst 1, 1) := by decide +kernel
theorem dL_law_259 : decode cL_law 259 = .ok (.iadd, 1) := by decide +kernel
theorem dL_law_260 : decode cL_law 260 = .ok (.iaload, 1) := by decide +kernel
theorem dL_law_261 : decode cL_law 261 = .ok (.aload_n 0, 1) := by decide +kernel
theorem dL_law_262 : decode cL_law 262 = .ok (.iload_n 3, 1) := by decide +kernel
theorem dL_law_263 : decode cL_law 263 = .ok (.iconst 2, 1) := by decide +kernel
theorem dL_law_264 : decode cL_law 264 = .ok (.iadd, 1) := by decide +kernel
theorem dL_law_265 : decode cL_law 265 = .ok (.iaload, 1) := by decide +kernel
theorem dL_law_266 : decode cL_law 266 = .ok (.invokevirtual 39, 3) := by decide +kernel
theorem dL_law_269 : decode cL_law 269 = .ok (.if_icmp .eq 39, 3) := by decide +kernel
theorem dL_law_272 : decode cL_law 272 = .ok (.iconst 0, 1) := by decide +kernel
theorem dL_law_273 : decode cL_law 273 = .ok (.ireturn, 1) := by decide +kernel
theorem dL_law_274 : decode cL_law 274 = .ok (.aload_n 1, 1) := by decide +kernel
theorem dL_law_275 : decode cL_law 275 = .ok (.aload_n 0, 1) := by decide +kernel
theorem dL_law_276 : decode cL_law 276 = .ok (.iload_n 3, 1) := by decide +kernel
theorem dL_law_277 : decode cL_law 277 = .ok (.iconst 1, 1) := by decide +kernel
theorem dL_law_278 : decode cL_law 278 = .ok (.iadd, 1) := by decide +kernel
theorem dL_law_279 : decode cL_law 279 = .ok (.iaload, 1) := by decide +kernel
theorem dL_law_280 : decode cL_law 280 = .ok (.aload_n 0, 1) := by decide +kernel
theorem dL_law_281 : decode cL_law 281 = .ok (.iload_n 3, 1) := by decide +kernel
theorem dL_law_282 : decode cL_law 282 = .ok (.iconst 2, 1) := by decide +kernel
theorem dL_law_283 : decode cL_law 283 = .ok (.iadd, 1) := by decide +kernel
theorem dL_law_284 : decode cL_law 284 = .ok (.iaload, 1) := by decide +kernel
theorem dL_law_285 : decode cL_law 285 = .ok (.invokevirtual 40, 3) := by decide +kernel
theorem dL_law_288 : decode cL_law 288 = .ok (.aload_n 2, 1) := by decide +kernel
theorem dL_law_289 : decode cL_law 289 = .ok (.aload_n 0, 1) := by decide +kernel
theorem dL_law_290 : decode cL_law 290 = .ok (.iload_n 3, 1) := by decide +kernel
theorem dL_law_291 : decode cL_law 291 = .ok (.iconst 1, 1) := by decide +kernel
theorem dL_law_292 : decode cL_law 292 = .ok (.iadd, 1) := by decide +kernel
theorem dL_law_293 : decode cL_law 293 = .ok (.iaload, 1) := by decide +kernel
theorem dL_law_294 : decode cL_law 294 = .ok (.aload_n 0, 1) := by decide +kernel
theorem dL_law_295 : decode cL_law 295 = .ok (.iload_n 3, 1) := by decide +kernel
theorem dL_law_296 : decode cL_law 296 = .ok (.iconst 2, 1) := by decide +kernel
theorem dL_law_297 : decode cL_law 297 = .ok (.iadd, 1) := by decide +kernel
theorem dL_law_298 : decode cL_law 298 = .ok (.iaload, 1) := by decide +kernel
theorem dL_law_299 : decode cL_law 299 = .ok (.invokevirtual 44, 3) := by decide +kernel
theorem dL_law_302 : decode cL_law 302 = .ok (.lcmp, 1) := by decide +kernel
theorem dL_law_303 : decode cL_law 303 = .ok (.ifCond .eq 5, 3) := by decide +kernel
theorem dL_law_306 : decode cL_law 306 = .ok (.iconst 0, 1) := by decide +kernel
theorem dL_law_307 : decode cL_law 307 = .ok (.ireturn, 1) := by decide +kernel
theorem dL_law_308 : decode cL_law 308 = .ok (.iinc 3 4, 3) := by decide +kernel
theorem dL_law_311 : decode cL_law 311 = .ok (.goto (-293), 3) := by decide +kernel
theorem dL_law_314 : decode cL_law 314 = .ok (.iconst 1, 1) := by decide +kernel
theorem dL_law_315 : decode cL_law 315 = .ok (.ireturn, 1) := by decide +kernel
theorem q3 : (Jvm.Cond.initialized "ResidueTransformsLaw") ∈ lw_all := lw_g (lw_at lw_m0 0 rfl) rfl
set_option maxRecDepth 100000
theorem q7 : (Jvm.Cond.classLink "ResidueTransformsLaw" (7 : Nat) "ResidueTransforms") ∈ lw_all := lw_g (lw_at lw_m0 4 rfl) rfl
theorem q9 : (Jvm.Cond.methodLink "ResidueTransformsLaw" (9 : Nat) ({ cls := "ResidueTransforms", name := "<init>", desc := "()V" } : Jvm.MethodName)) ∈ lw_all := lw_g (lw_at lw_m0 6 rfl) rfl
theorem q42 : (Jvm.Cond.methodLink "ResidueTransformsLaw" (15 : Nat) ({ cls := "ResidueTransforms", name := "put", desc := "(IJ)Z" } : Jvm.MethodName)) ∈ lw_all := lw_g (lw_at lw_m0 39 rfl) rfl
theorem q49 : (Jvm.Cond.methodLink "ResidueTransformsLaw" (20 : Nat) ({ cls := "ResidueTransforms", name := "get", desc := "(I)J" } : Jvm.MethodName)) ∈ lw_all := lw_g (lw_at lw_m0 46 rfl) rfl
theorem q53 : (Jvm.Cond.methodLink "ResidueTransformsLaw" (25 : Nat) ({ cls := "ResidueTransforms", name := "transform", desc := "(IIZ)I" } : Jvm.MethodName)) ∈ lw_all := lw_g (lw_at lw_m0 50 rfl) rfl
theorem q91 : (Jvm.Cond.methodLink "ResidueTransformsLaw" (30 : Nat) ({ cls := "ResidueTransforms", name := "keep", desc := "(I)Z" } : Jvm.MethodName)) ∈ lw_all := lw_g (lw_at lw_m0 88 rfl) rfl
theorem q95 : (Jvm.Cond.methodLink "ResidueTransformsLaw" (35 : Nat) ({ cls := "ResidueTransforms", name := "times", desc := "(II)I" } : Jvm.MethodName)) ∈ lw_all := lw_g (lw_at lw_m0 92 rfl) rfl
theorem q99 : (Jvm.Cond.methodLink "ResidueTransformsLaw" (40 : Nat) ({ cls := "ResidueTransforms", name := "root", desc := "(II)J" } : Jvm.MethodName)) ∈ lw_all := lw_g (lw_at lw_m0 96 rfl) rfl
theorem q104 : (Jvm.Cond.classLink "ResidueTransformsLaw" (10 : Nat) "ResidueTransformsModel") ∈ lw_all := lw_g (lw_at lw_m0 101 rfl) rfl
theorem q106 : (Jvm.Cond.methodLink "ResidueTransformsLaw" (12 : Nat) ({ cls := "ResidueTransformsModel", name := "<init>", desc := "()V" } : Jvm.MethodName)) ∈ lw_all := lw_g (lw_at lw_m0 103 rfl) rfl
theorem q123 : (Jvm.Cond.methodLink "ResidueTransformsLaw" (19 : Nat) ({ cls := "ResidueTransformsModel", name := "put", desc := "(IJ)Z" } : Jvm.MethodName)) ∈ lw_all := lw_g (lw_at lw_m0 120 rfl) rfl
theorem q127 : (Jvm.Cond.methodLink "ResidueTransformsLaw" (24 : Nat) ({ cls := "ResidueTransformsModel", name := "get", desc := "(I)J" } : Jvm.MethodName)) ∈ lw_all := lw_g (lw_at lw_m0 124 rfl) rfl
theorem q131 : (Jvm.Cond.methodLink "ResidueTransformsLaw" (44 : Nat) ({ cls := "ResidueTransformsModel", name := "root", desc := "(II)J" } : Jvm.MethodName)) ∈ lw_all := lw_g (lw_at lw_m0 128 rfl) rfl
theorem q149 : (Jvm.Cond.methodLink "ResidueTransformsLaw" (29 : Nat) ({ cls := "ResidueTransformsModel", name := "transform", desc := "(IIZ)I" } : Jvm.MethodName)) ∈ lw_all := lw_g (lw_at lw_m0 146 rfl) rfl
theorem q156 : (Jvm.Cond.methodLink "ResidueTransformsLaw" (34 : Nat) ({ cls := "ResidueTransformsModel", name := "keep", desc := "(I)Z" } : Jvm.MethodName)) ∈ lw_all := lw_g (lw_at lw_m0 153 rfl) rfl
theorem q160 : (Jvm.Cond.methodLink "ResidueTransformsLaw" (39 : Nat) ({ cls := "ResidueTransformsModel", name := "times", desc := "(II)I" } : Jvm.MethodName)) ∈ lw_all := lw_g (lw_at lw_m0 157 rfl) rfl
theorem q164 : (Jvm.Cond.constantLong "ResidueTransformsLaw" (13 : Nat) (4294967295 : Int64)) ∈ lw_all := lw_g (lw_at lw_m0 161 rfl) rfl
end
section
/-! rows at the level of natural numbers: ints are nI a, longs are lN a -/
section HelpRows
variable {p : Program} {l : Launch} {e : Env} {R : Room} {s : State} {m : MethodId} {args : Array Value} {below : List Frame} {meth : Method} {c : Code} {H : Heap} {locs : List Loc} {cells slots : Nat} {Q : State → Prop}
variable {cc : ByteArray} {pc : Nat} {ls : Array Slot} {rest : List Value}
theorem nv_ci {x y : Int32} (h : x = y) (k : W p l e R s m args below meth c H locs cells slots Q (F0 m pc ls (.int y :: rest))) : W p l e R s m args below meth c H locs cells slots Q (F0 m pc ls (.int x :: rest)) := h ▸ k
theorem nv_cl {x y : Int64} (h : x = y) (k : W p l e R s m args below meth c H locs cells slots Q (F0 m pc ls (.long y :: rest))) : W p l e R s m args below meth c H locs cells slots Q (F0 m pc ls (.long x :: rest)) := h ▸ k
theorem nv_iadd (hexec : p.tables.exec = Jvm.exec) (hb : c.code = cc) {a b : Nat} (hdg : decode cc pc = .ok (.iadd, 1)) (k : W p l e R s m args below meth c H locs cells slots Q (F0 m (pc + 1) ls (.int (nI (a + b)) :: rest))) : W p l e R s m args below meth c H locs cells slots Q (F0 m pc ls (.int (nI b) :: .int (nI a) :: rest)) :=
  lv_iadd hexec hb hdg (by rw [nI_add]; exact k)
theorem nv_isub (hexec : p.tables.exec = Jvm.exec) (hb : c.code = cc) {a b : Nat} (hdg : decode cc pc = .ok (.isub, 1)) (h : b ≤ a) (k : W p l e R s m args below meth c H locs cells slots Q (F0 m (pc + 1) ls (.int (nI (a - b)) :: rest))) : W p l e R s m args below meth c H locs cells slots Q (F0 m pc ls (.int (nI b) :: .int (nI a) :: rest)) :=
  lv_isub hexec hb hdg (by rw [pk_sub h]; exact k)
theorem nv_imul (hexec : p.tables.exec = Jvm.exec) (hb : c.code = cc) {a b : Nat} (hdg : decode cc pc = .ok (.imul, 1)) (k : W p l e R s m args below meth c H locs cells slots Q (F0 m (pc + 1) ls (.int (nI (a * b)) :: rest))) : W p l e R s m args below meth c H locs cells slots Q (F0 m pc ls (.int (nI b) :: .int (nI a) :: rest)) :=
  lv_imul hexec hb hdg (by rw [pk_mul]; exact k)
theorem nv_idiv (hexec : p.tables.exec = Jvm.exec) (hb : c.code = cc) {a b : Nat} (hdg : decode cc pc = .ok (.idiv, 1)) (ha : a < 2 ^ 31) (h0 : 0 < b) (hb2 : b < 2 ^ 31) (k : W p l e R s m args below meth c H locs cells slots Q (F0 m (pc + 1) ls (.int (nI (a / b)) :: rest))) : W p l e R s m args below meth c H locs cells slots Q (F0 m pc ls (.int (nI b) :: .int (nI a) :: rest)) :=
  lv_idiv hexec hb hdg (nI_ne0 h0 hb2) (by rw [pk_div ha h0 hb2]; exact k)
theorem nv_irem (hexec : p.tables.exec = Jvm.exec) (hb : c.code = cc) {a b : Nat} (hdg : decode cc pc = .ok (.irem, 1)) (ha : a < 2 ^ 31) (h0 : 0 < b) (hb2 : b < 2 ^ 31) (k : W p l e R s m args below meth c H locs cells slots Q (F0 m (pc + 1) ls (.int (nI (a % b)) :: rest))) : W p l e R s m args below meth c H locs cells slots Q (F0 m pc ls (.int (nI b) :: .int (nI a) :: rest)) :=
  lv_irem hexec hb hdg (nI_ne0 h0 hb2) (by rw [pk_rem ha h0 hb2]; exact k)
theorem nv_i2l (hexec : p.tables.exec = Jvm.exec) (hb : c.code = cc) {a : Nat} (hdg : decode cc pc = .ok (.i2l, 1)) (ha : a < 2 ^ 31) (k : W p l e R s m args below meth c H locs cells slots Q (F0 m (pc + 1) ls (.long (lN a) :: rest))) : W p l e R s m args below meth c H locs cells slots Q (F0 m pc ls (.int (nI a) :: rest)) :=
  lv_i2l hexec hb hdg (nI_l ha) k
theorem nv_ladd (hexec : p.tables.exec = Jvm.exec) (hb : c.code = cc) {a b : Nat} (hdg : decode cc pc = .ok (.ladd, 1)) (k : W p l e R s m args below meth c H locs cells slots Q (F0 m (pc + 1) ls (.long (lN (a + b)) :: rest))) : W p l e R s m args below meth c H locs cells slots Q (F0 m pc ls (.long (lN b) :: .long (lN a) :: rest)) :=
  lv_ladd hexec hb hdg (by rw [lN_add]; exact k)
theorem nv_lsub (hexec : p.tables.exec = Jvm.exec) (hb : c.code = cc) {a b : Nat} (hdg : decode cc pc = .ok (.lsub, 1)) (h : b ≤ a) (k : W p l e R s m args below meth c H locs cells slots Q (F0 m (pc + 1) ls (.long (lN (a - b)) :: rest))) : W p l e R s m args below meth c H locs cells slots Q (F0 m pc ls (.long (lN b) :: .long (lN a) :: rest)) :=
  lv_lsub hexec hb hdg (by rw [lN_sub h]; exact k)
theorem nv_lmul (hexec : p.tables.exec = Jvm.exec) (hb : c.code = cc) {a b : Nat} (hdg : decode cc pc = .ok (.lmul, 1)) (k : W p l e R s m args below meth c H locs cells slots Q (F0 m (pc + 1) ls (.long (lN (a * b)) :: rest))) : W p l e R s m args below meth c H locs cells slots Q (F0 m pc ls (.long (lN b) :: .long (lN a) :: rest)) :=
  lv_lmul hexec hb hdg (by rw [lN_mul]; exact k)
theorem nv_lne0 {b : Nat} (h0 : 0 < b) (hb : b < 2 ^ 63) : ¬ lN b = 0 := by
  intro h
  have h1 : lN b = lN 0 := h
  have h2 := (pk_lEQ hb (by decide)).mp h1
  omega
theorem nv_ldiv (hexec : p.tables.exec = Jvm.exec) (hb : c.code = cc) {a b : Nat} (hdg : decode cc pc = .ok (.ldiv, 1)) (ha : a < 2 ^ 63) (h0 : 0 < b) (hb2 : b < 2 ^ 63) (k : W p l e R s m args below meth c H locs cells slots Q (F0 m (pc + 1) ls (.long (lN (a / b)) :: rest))) : W p l e R s m args below meth c H locs cells slots Q (F0 m pc ls (.long (lN b) :: .long (lN a) :: rest)) :=
  lv_ldiv hexec hb hdg (nv_lne0 h0 hb2) (by rw [pk_lDiv ha h0 hb2]; exact k)
theorem nv_lrem (hexec : p.tables.exec = Jvm.exec) (hb : c.code = cc) {a b : Nat} (hdg : decode cc pc = .ok (.lrem, 1)) (ha : a < 2 ^ 63) (h0 : 0 < b) (hb2 : b < 2 ^ 63) (k : W p l e R s m args below meth c H locs cells slots Q (F0 m (pc + 1) ls (.long (lN (a % b)) :: rest))) : W p l e R s m args below meth c H locs cells slots Q (F0 m pc ls (.long (lN b) :: .long (lN a) :: rest)) :=
  lv_lrem hexec hb hdg (nv_lne0 h0 hb2) (by rw [pk_lRem ha h0 hb2]; exact k)
theorem nv_icmp_ge (hexec : p.tables.exec = Jvm.exec) (hb : c.code = cc) {a b : Nat} {off : Int} {tgt : Nat} (hdg : decode cc pc = .ok (.if_icmp .ge off, 3)) (ht : (pc : Int) + off = (tgt : Int)) (ha : a < 2 ^ 31) (hb2 : b < 2 ^ 31)
    (kt : b ≤ a → W p l e R s m args below meth c H locs cells slots Q (F0 m tgt ls rest)) (kf : a < b → W p l e R s m args below meth c H locs cells slots Q (F0 m (pc + 3) ls rest)) : W p l e R s m args below meth c H locs cells slots Q (F0 m pc ls (.int (nI b) :: .int (nI a) :: rest)) :=
  lv_icmp_ge hexec hb hdg ht (fun h => kt ((nI_leI hb2 ha).mp h)) (fun h => kf (Nat.lt_of_not_le (fun q => h ((nI_leI hb2 ha).mpr q))))
theorem nv_icmp_ne (hexec : p.tables.exec = Jvm.exec) (hb : c.code = cc) {a b : Nat} {off : Int} {tgt : Nat} (hdg : decode cc pc = .ok (.if_icmp .ne off, 3)) (ht : (pc : Int) + off = (tgt : Int)) (ha : a < 2 ^ 31) (hb2 : b < 2 ^ 31)
    (kt : a ≠ b → W p l e R s m args below meth c H locs cells slots Q (F0 m tgt ls rest)) (kf : a = b → W p l e R s m args below meth c H locs cells slots Q (F0 m (pc + 3) ls rest)) : W p l e R s m args below meth c H locs cells slots Q (F0 m pc ls (.int (nI b) :: .int (nI a) :: rest)) :=
  lv_icmp_ne hexec hb hdg ht (fun h => kt (fun q => h (by rw [q]))) (fun h => kf ((nI_eq ha hb2).mp (by first | exact h | exact Decidable.not_not.mp h)))
theorem nv_if_eq (hexec : p.tables.exec = Jvm.exec) (hb : c.code = cc) {a : Nat} {off : Int} {tgt : Nat} (hdg : decode cc pc = .ok (.ifCond .eq off, 3)) (ht : (pc : Int) + off = (tgt : Int)) (ha : a < 2 ^ 31)
    (kt : a = 0 → W p l e R s m args below meth c H locs cells slots Q (F0 m tgt ls rest)) (kf : 0 < a → W p l e R s m args below meth c H locs cells slots Q (F0 m (pc + 3) ls rest)) : W p l e R s m args below meth c H locs cells slots Q (F0 m pc ls (.int (nI a) :: rest)) :=
  lv_if_eq hexec hb hdg ht (fun h => kt ((nI_eq ha (by decide)).mp (h : nI a = nI 0))) (fun h => kf (Nat.pos_of_ne_zero (fun q => h (by rw [q]; rfl))))
theorem nv_if_ne (hexec : p.tables.exec = Jvm.exec) (hb : c.code = cc) {a : Nat} {off : Int} {tgt : Nat} (hdg : decode cc pc = .ok (.ifCond .ne off, 3)) (ht : (pc : Int) + off = (tgt : Int)) (ha : a < 2 ^ 31)
    (kt : 0 < a → W p l e R s m args below meth c H locs cells slots Q (F0 m tgt ls rest)) (kf : a = 0 → W p l e R s m args below meth c H locs cells slots Q (F0 m (pc + 3) ls rest)) : W p l e R s m args below meth c H locs cells slots Q (F0 m pc ls (.int (nI a) :: rest)) :=
  lv_if_ne (x := nI a) hexec hb hdg ht (fun h => kt (Nat.pos_of_ne_zero (fun q => h (by rw [q]; rfl)))) (fun h => kf ((nI_eq ha (by decide)).mp (show nI a = nI 0 by first | exact h | exact Decidable.not_not.mp h)))
theorem nv_lcmp_gt (hexec : p.tables.exec = Jvm.exec) (hb : c.code = cc) {a b : Nat} {off : Int} {tgt : Nat} (hdg : decode cc pc = .ok (.lcmp, 1)) (hdg2 : decode cc (pc + 1) = .ok (.ifCond .gt off, 3)) (ht : ((pc + 1 : Nat) : Int) + off = (tgt : Int)) (ha : a < 2 ^ 63) (hb2 : b < 2 ^ 63)
    (kt : b < a → W p l e R s m args below meth c H locs cells slots Q (F0 m tgt ls rest)) (kf : a ≤ b → W p l e R s m args below meth c H locs cells slots Q (F0 m (pc + 1 + 3) ls rest)) : W p l e R s m args below meth c H locs cells slots Q (F0 m pc ls (.long (lN b) :: .long (lN a) :: rest)) :=
  W.lcmp hexec hb hdg (lv_if_gt hexec hb hdg2 ht (fun h => kt ((pk_lLT hb2 ha).mp ((lg_cmp_gt _ _).mp h))) (fun h => kf (Nat.le_of_not_lt (fun q => h ((lg_cmp_gt _ _).mpr ((pk_lLT hb2 ha).mpr q))))))
theorem nv_lcmp_le (hexec : p.tables.exec = Jvm.exec) (hb : c.code = cc) {a b : Nat} {off : Int} {tgt : Nat} (hdg : decode cc pc = .ok (.lcmp, 1)) (hdg2 : decode cc (pc + 1) = .ok (.ifCond .le off, 3)) (ht : ((pc + 1 : Nat) : Int) + off = (tgt : Int)) (ha : a < 2 ^ 63) (hb2 : b < 2 ^ 63)
    (kt : a ≤ b → W p l e R s m args below meth c H locs cells slots Q (F0 m tgt ls rest)) (kf : b < a → W p l e R s m args below meth c H locs cells slots Q (F0 m (pc + 1 + 3) ls rest)) : W p l e R s m args below meth c H locs cells slots Q (F0 m pc ls (.long (lN b) :: .long (lN a) :: rest)) :=
  W.lcmp hexec hb hdg (lv_if_le hexec hb hdg2 ht (fun h => kt ((pk_lLE ha hb2).mp ((lg_cmp_le _ _).mp h))) (fun h => kf (Nat.lt_of_not_le (fun q => h ((lg_cmp_le _ _).mpr ((pk_lLE ha hb2).mpr q))))))
theorem nv_lcmp_ne (hexec : p.tables.exec = Jvm.exec) (hb : c.code = cc) {a b : Nat} {off : Int} {tgt : Nat} (hdg : decode cc pc = .ok (.lcmp, 1)) (hdg2 : decode cc (pc + 1) = .ok (.ifCond .ne off, 3)) (ht : ((pc + 1 : Nat) : Int) + off = (tgt : Int)) (ha : a < 2 ^ 63) (hb2 : b < 2 ^ 63)
    (kt : a ≠ b → W p l e R s m args below meth c H locs cells slots Q (F0 m tgt ls rest)) (kf : a = b → W p l e R s m args below meth c H locs cells slots Q (F0 m (pc + 1 + 3) ls rest)) : W p l e R s m args below meth c H locs cells slots Q (F0 m pc ls (.long (lN b) :: .long (lN a) :: rest)) :=
  W.lcmp hexec hb hdg (lv_if_ne hexec hb hdg2 ht (fun h => kt (fun q => h ((lg_cmp_eq _ _).mpr (by rw [q])))) (fun h => kf ((pk_lEQ ha hb2).mp ((lg_cmp_eq _ _).mp (by first | exact h | exact Decidable.not_not.mp h)))))
theorem nv_lcmp_eq (hexec : p.tables.exec = Jvm.exec) (hb : c.code = cc) {a b : Nat} {off : Int} {tgt : Nat} (hdg : decode cc pc = .ok (.lcmp, 1)) (hdg2 : decode cc (pc + 1) = .ok (.ifCond .eq off, 3)) (ht : ((pc + 1 : Nat) : Int) + off = (tgt : Int)) (ha : a < 2 ^ 63) (hb2 : b < 2 ^ 63)
    (kt : a = b → W p l e R s m args below meth c H locs cells slots Q (F0 m tgt ls rest)) (kf : a ≠ b → W p l e R s m args below meth c H locs cells slots Q (F0 m (pc + 1 + 3) ls rest)) : W p l e R s m args below meth c H locs cells slots Q (F0 m pc ls (.long (lN b) :: .long (lN a) :: rest)) :=
  W.lcmp hexec hb hdg (lv_if_eq hexec hb hdg2 ht (fun h => kt ((pk_lEQ ha hb2).mp ((lg_cmp_eq _ _).mp h))) (fun h => kf (fun q => h ((lg_cmp_eq _ _).mpr (by rw [q])))))
variable {D : va_G} {cl : List vw_C} {A : Nat → Prop} {a : Nat} {tys : List (ClassId × FieldType)} {ws : va_W} {H0 : Heap}
theorem nv_lald (hexec : p.tables.exec = Jvm.exec) (hb : c.code = cc) (hK : va_K D cl tys s) (hP : va_P D cl ws H) (q0 t0 : Nat) {cA : ClassId} {n : Nat} {f : Nat → Int64} (ha : ws[q0]? = some (a, .inl (cA, n, .inr (.inl f)))) (ht : tys[t0]? = some (cA, .long)) {i : Nat} (hi : i < n) (hn : n < 2 ^ 31) (hdg : decode cc pc = .ok (.laload, 1))
    (kk : W p l e R s m args below meth c H locs cells slots Q (F0 m (pc + 1) ls (.long (f i) :: rest))) : W p l e R s m args below meth c H locs cells slots Q (F0 m pc ls (.int (nI i) :: .ref a :: rest)) :=
  va_lald hexec hb hK hP q0 t0 ha ht (vp_in_nI hi hn) hdg (by rw [nI_clamp (Nat.lt_trans hi hn)]; exact kk)
theorem nv_last (hexec : p.tables.exec = Jvm.exec) (hb : c.code = cc) (hK : va_K D cl tys s) (hP : va_P D cl ws H) (hD : va_D A ws) (hS : va_S A H0 H locs) (q0 t0 : Nat) {cA : ClassId} {n : Nat} {f : Nat → Int64} (ha : ws[q0]? = some (a, .inl (cA, n, .inr (.inl f)))) (ht : tys[t0]? = some (cA, .long)) {i : Nat} {x : Int64} (hi : i < n) (hn : n < 2 ^ 31) (hdg : decode cc pc = .ok (.lastore, 1))
    (kk : ∀ (H1 : Heap) (locs1 : List Loc), va_P D cl (ws.set q0 (a, .inl (cA, n, .inr (.inl (vp_updL f i x))))) H1 → va_D A (ws.set q0 (a, .inl (cA, n, .inr (.inl (vp_updL f i x))))) → va_S A H0 H1 locs1 → W p l e R s m args below meth c H1 locs1 cells slots Q (F0 m (pc + 1) ls rest)) : W p l e R s m args below meth c H locs cells slots Q (F0 m pc ls (.long x :: .int (nI i) :: .ref a :: rest)) :=
  va_last hexec hb hK hP hD hS q0 t0 ha ht (vp_in_nI hi hn) hdg (by rw [nI_clamp (Nat.lt_trans hi hn)]; exact kk)
end HelpRows
end
section
/-! plain numbers: primes by trial division, Fermat, a polynomial's roots, a number that is no square -/
def sp_prm (p : Nat) : Prop := 2 ≤ p ∧ ∀ d : Nat, 2 ≤ d → d * d ≤ p → ¬ p % d = 0
theorem sp_dvd {p d : Nat} (hp : sp_prm p) (h : d ∣ p) : d = 1 ∨ d = p := by
  obtain ⟨h2, hd⟩ := hp
  obtain ⟨e, rfl⟩ := h
  rcases Nat.lt_or_ge d 2 with h1 | h1
  · rcases (show d = 0 ∨ d = 1 by omega) with rfl | rfl
    · rw [Nat.zero_mul] at h2; omega
    · exact Or.inl rfl
  · rcases Nat.lt_or_ge e 2 with h3 | h3
    · rcases (show e = 0 ∨ e = 1 by omega) with rfl | rfl
      · rw [Nat.mul_zero] at h2; omega
      · right; rw [Nat.mul_one]
    · exfalso
      rcases Nat.le_total d e with h4 | h4
      · exact hd d h1 (Nat.mul_le_mul_left d h4) (Nat.mul_mod_right d e)
      · exact hd e h3 (Nat.mul_le_mul_right e h4) (Nat.mul_mod_left d e)
theorem sp_cop {p a : Nat} (hp : sp_prm p) (h : ¬ p ∣ a) : Nat.Coprime p a := by
  rcases sp_dvd hp (Nat.gcd_dvd_left p a) with h1 | h1
  · exact h1
  · have h2 := Nat.gcd_dvd_right p a
    rw [h1] at h2
    exact absurd h2 h
theorem sp_mul {p a b : Nat} (hp : sp_prm p) (h : p ∣ a * b) : p ∣ a ∨ p ∣ b := by
  by_cases h1 : p ∣ a
  · exact Or.inl h1
  · exact Or.inr (Nat.Coprime.dvd_of_dvd_mul_left (sp_cop hp h1) h)
theorem sp_prod_perm {l l' : List Nat} (h : l.Perm l') : l.prod = l'.prod := by
  induction h with
  | nil => rfl
  | cons x _ ih => rw [List.prod_cons, List.prod_cons, ih]
  | swap x y l => simp only [List.prod_cons]; exact Nat.mul_left_comm _ _ _
  | trans _ _ ih1 ih2 => exact ih1.trans ih2
theorem sp_prod_mod (p a : Nat) (l : List Nat) : (l.map (fun i => a * i % p)).prod % p = a ^ l.length * l.prod % p := by
  induction l with
  | nil => simp
  | cons x l ih =>
    simp only [List.map_cons, List.prod_cons, List.length_cons]
    rw [Nat.mul_mod, ih, Nat.mod_mod, ← Nat.mul_mod, Nat.pow_succ]
    congr 1
    ac_rfl
theorem sp_prod_ndvd {p : Nat} (hp : sp_prm p) : ∀ l : List Nat, (∀ x ∈ l, ¬ p ∣ x) → ¬ p ∣ l.prod
  | [], _, h => by
    have h1 := Nat.le_of_dvd (by decide) (show p ∣ 1 from h)
    have h2 := hp.1
    omega
  | x :: l, hl, h => by
    rw [List.prod_cons] at h
    rcases sp_mul hp h with h1 | h1
    · exact hl x List.mem_cons_self h1
    · exact sp_prod_ndvd hp l (fun y hy => hl y (List.mem_cons_of_mem _ hy)) h1
theorem sp_fermat {p a : Nat} (hp : sp_prm p) (h : ¬ p ∣ a) : a ^ (p - 1) % p = 1 := by
  have h2 : 2 ≤ p := hp.1
  have hm : ∀ i, i ∈ List.range' 1 (p - 1) ↔ 1 ≤ i ∧ i < p := by
    intro i
    rw [List.mem_range'_1]
    omega
  have hs : ∀ i, 1 ≤ i → i < p → 1 ≤ a * i % p ∧ a * i % p < p := by
    intro i h1 h3
    refine ⟨?_, Nat.mod_lt _ (by omega)⟩
    rcases Nat.eq_zero_or_pos (a * i % p) with z | z
    · rcases sp_mul hp (Nat.dvd_of_mod_eq_zero z) with q | q
      · exact absurd q h
      · have := Nat.le_of_dvd (by omega) q
        omega
    · exact z
  have hinj : ∀ i j, 1 ≤ i → i < p → 1 ≤ j → j < p → i < j → a * i % p ≠ a * j % p := by
    intro i j a1 a2 a3 a4 a5 e
    have h5 := Nat.sub_mod_eq_zero_of_mod_eq e.symm
    rw [← Nat.mul_sub] at h5
    rcases sp_mul hp (Nat.dvd_of_mod_eq_zero h5) with q | q
    · exact h q
    · have := Nat.le_of_dvd (by omega) q
      omega
  have hn : (List.range' 1 (p - 1)).Nodup := List.nodup_range'
  have hnd : ((List.range' 1 (p - 1)).map (fun i => a * i % p)).Nodup := by
    rw [List.nodup_iff_pairwise_ne, List.pairwise_map]
    refine List.Pairwise.imp_of_mem ?_ (List.pairwise_lt_range' (s := 1) (n := p - 1))
    intro i j hi hj hij
    rw [hm] at hi hj
    exact hinj i j hi.1 hi.2 hj.1 hj.2 hij
  have hsub : ∀ y, y ∈ (List.range' 1 (p - 1)).map (fun i => a * i % p) → y ∈ List.range' 1 (p - 1) := by
    intro y hy
    obtain ⟨i, hi, rfl⟩ := List.mem_map.mp hy
    rw [hm] at hi ⊢
    exact hs i hi.1 hi.2
  have hsup : ∀ y, y ∈ List.range' 1 (p - 1) → y ∈ (List.range' 1 (p - 1)).map (fun i => a * i % p) := by
    intro y hy
    by_cases hc : y ∈ (List.range' 1 (p - 1)).map (fun i => a * i % p)
    · exact hc
    · exfalso
      have hl := List.Nodup.length_le_of_subset (l₁ := y :: (List.range' 1 (p - 1)).map (fun i => a * i % p)) (l₂ := List.range' 1 (p - 1)) (List.nodup_cons.mpr ⟨hc, hnd⟩) (fun z hz => by
        rcases List.mem_cons.mp hz with e | e
        · rw [e]; exact hy
        · exact hsub z e)
      simp only [List.length_cons, List.length_map, List.length_range'] at hl
      omega
  have hperm := (List.perm_ext_iff_of_nodup hnd hn).mpr (fun y => ⟨hsub y, hsup y⟩)
  have hpr := sp_prod_perm hperm
  have hmod := sp_prod_mod p a (List.range' 1 (p - 1))
  rw [hpr, List.length_range'] at hmod
  have hnp : ¬ p ∣ (List.range' 1 (p - 1)).prod := sp_prod_ndvd hp _ (fun x hx hd => by
    rw [hm] at hx
    have := Nat.le_of_dvd (by omega) hd
    omega)
  generalize (List.range' 1 (p - 1)).prod = P at hmod hnp
  have hpos : 1 ≤ a ^ (p - 1) := by
    rcases Nat.eq_zero_or_pos a with z | z
    · exact absurd (by rw [z]; exact Nat.dvd_zero p) h
    · exact Nat.pow_pos z
  have h6 := Nat.sub_mod_eq_zero_of_mod_eq hmod.symm
  have h7 : (a ^ (p - 1) - 1) * P = a ^ (p - 1) * P - P := by rw [Nat.sub_mul, Nat.one_mul]
  rw [← h7] at h6
  rcases sp_mul hp (Nat.dvd_of_mod_eq_zero h6) with q | q
  · obtain ⟨t, ht⟩ := q
    have h8 : a ^ (p - 1) = 1 + p * t := by omega
    rw [h8, Nat.add_mul_mod_self_left]
    exact Nat.mod_eq_of_lt (by omega)
  · exact absurd q hnp
def sp_mon : Nat → (Int → Int) → Prop
  | 0, f => ∀ x, f x = 1
  | m + 1, f => ∃ (c : Int) (g : Int → Int), sp_mon m g ∧ ∀ x, f x = c + x * g x
theorem sp_mon_fac : ∀ (m : Nat) (f : Int → Int), sp_mon (m + 1) f → ∀ r, ∃ q, sp_mon m q ∧ ∀ x, f x - f r = (x - r) * q x
  | 0, f, hf0, r => by
    obtain ⟨c, g, hg, hf⟩ := hf0
    refine ⟨fun _ => 1, fun _ => rfl, fun x => ?_⟩
    rw [hf x, hf r, hg x, hg r]
    dsimp only
    omega
  | m + 1, f, hf0, r => by
    obtain ⟨c, g, hg, hf⟩ := hf0
    obtain ⟨q, hq, he⟩ := sp_mon_fac m g hg r
    refine ⟨fun x => g r + x * q x, ⟨g r, q, hq, fun _ => rfl⟩, fun x => ?_⟩
    have h1 := he x
    rw [hf x, hf r]
    have h2 : g x = g r + (x - r) * q x := by omega
    rw [h2]
    grind
theorem sp_mulI {p : Nat} {a b : Int} (hp : sp_prm p) (h : (p : Int) ∣ a * b) : (p : Int) ∣ a ∨ (p : Int) ∣ b := by
  rw [Int.ofNat_dvd_left, Int.natAbs_mul] at h
  rw [Int.ofNat_dvd_left, Int.ofNat_dvd_left]
  exact sp_mul hp h
theorem sp_lag {p : Nat} (hp : sp_prm p) : ∀ (m : Nat) (f : Int → Int), sp_mon m f → ∀ l : List Nat, l.Nodup → (∀ x ∈ l, x < p ∧ (p : Int) ∣ f x) → l.length ≤ m
  | 0, f, hf, l, hn, hr => by
    cases l with
    | nil => simp
    | cons x l =>
      obtain ⟨-, h⟩ := hr x List.mem_cons_self
      rw [hf] at h
      have h1 := Int.le_of_dvd (by decide) h
      have h2 := hp.1
      omega
  | m + 1, f, hf, l, hn, hr => by
    cases l with
    | nil => simp
    | cons r l =>
      obtain ⟨q, hq, he⟩ := sp_mon_fac m f hf r
      rw [List.nodup_cons] at hn
      have h1 := sp_lag hp m q hq l hn.2 (fun x hx => by
        obtain ⟨hxp, hx2⟩ := hr x (List.mem_cons_of_mem _ hx)
        obtain ⟨hrp, hr2⟩ := hr r List.mem_cons_self
        refine ⟨hxp, ?_⟩
        have h3 : (p : Int) ∣ ((x : Int) - r) * q x := by
          rw [← he]
          exact Int.dvd_sub hx2 hr2
        rcases sp_mulI hp h3 with h4 | h4
        · exfalso
          have hne : x ≠ r := fun e => hn.1 (e ▸ hx)
          rw [Int.ofNat_dvd_left] at h4
          have := Nat.le_of_dvd (by omega) h4
          omega
        · exact h4)
      simp only [List.length_cons]
      omega
theorem sp_mon_pow : ∀ m : Nat, sp_mon m (fun x => x ^ m)
  | 0 => fun x => Int.pow_zero x
  | m + 1 => ⟨0, fun x => x ^ m, sp_mon_pow m, fun x => by dsimp only; rw [Int.pow_succ, Int.zero_add, Int.mul_comm]⟩
theorem sp_mon_pow1 : ∀ m : Nat, 1 ≤ m → sp_mon m (fun x => x ^ m - 1)
  | 0, h => absurd h (by decide)
  | m + 1, _ => ⟨-1, fun x => x ^ m, sp_mon_pow m, fun x => by dsimp only; rw [Int.pow_succ, Int.mul_comm]; omega⟩
theorem sp_nonres {p : Nat} (hp : sp_prm p) (hodd : p % 2 = 1) : ∃ h, 2 ≤ h ∧ h < p ∧ h ^ ((p - 1) / 2) % p = p - 1 := by
  have h2 := hp.1
  by_cases hall : ∀ h : Nat, 1 ≤ h → h < p → (p : Int) ∣ ((h : Int) ^ ((p - 1) / 2) - 1)
  · exfalso
    have hl := sp_lag hp ((p - 1) / 2) _ (sp_mon_pow1 _ (by omega)) (List.range' 1 (p - 1)) List.nodup_range' (fun x hx => by
      rw [List.mem_range'_1] at hx
      exact ⟨by omega, hall x (by omega) (by omega)⟩)
    rw [List.length_range'] at hl
    omega
  · obtain ⟨h, hh⟩ := Classical.not_forall.mp hall
    obtain ⟨h1, hh⟩ := Classical.not_imp.mp hh
    obtain ⟨h3, hh⟩ := Classical.not_imp.mp hh
    have hne1 : h ≠ 1 := by
      intro e
      apply hh
      rw [e]
      rw [show ((1 : Nat) : Int) = 1 from rfl, Int.one_pow]
      exact Int.dvd_zero _
    have hf := sp_fermat hp (a := h) (fun q => by have := Nat.le_of_dvd (by omega) q; omega)
    refine ⟨h, by omega, h3, ?_⟩
    have e1 : h ^ (p - 1) = p * (h ^ (p - 1) / p) + 1 := by
      have := Nat.div_add_mod (h ^ (p - 1)) p
      omega
    have e2 : p - 1 = (p - 1) / 2 + (p - 1) / 2 := by omega
    generalize (p - 1) / 2 = m at *
    have e3 : (p : Int) ∣ ((h : Int) ^ m - 1) * ((h : Int) ^ m + 1) := by
      refine ⟨((h ^ (p - 1) / p : Nat) : Int), ?_⟩
      have e4 : ((h ^ (p - 1) : Nat) : Int) = (p : Int) * ((h ^ (p - 1) / p : Nat) : Int) + 1 := by
        rw [← Int.natCast_mul, ← Int.natCast_one, ← Int.natCast_add]
        exact congrArg _ e1
      have e5 : ((h ^ (p - 1) : Nat) : Int) = (h : Int) ^ m * (h : Int) ^ m := by
        rw [e2, Int.natCast_pow, Int.pow_add]
      rw [e5] at e4
      grind
    rcases sp_mulI hp e3 with q | q
    · exact absurd q hh
    · have q2 : p ∣ h ^ m + 1 := by
        have : ((p : Nat) : Int) ∣ ((h ^ m + 1 : Nat) : Int) := by
          rw [Int.natCast_add, Int.natCast_pow]
          exact q
        exact Int.ofNat_dvd.mp this
      have q3 := Nat.mod_eq_zero_of_dvd q2
      rw [← Nat.mod_add_mod] at q3
      have q4 := Nat.mod_lt (h ^ m) (show 0 < p by omega)
      rcases Nat.lt_or_ge (h ^ m % p + 1) p with q5 | q5
      · rw [Nat.mod_eq_of_lt q5] at q3
        omega
      · omega
end
section
/-! plain: sums of powers, the split of a transform in two halves, places with bits turned round, one stage of pairs -/
def sp_sg (f : Nat → Nat) : Nat → Nat
  | 0 => 0
  | n + 1 => sp_sg f n + f n
theorem sp_sg_cong {f g : Nat → Nat} {p : Nat} : ∀ n : Nat, (∀ j, j < n → f j % p = g j % p) → sp_sg f n % p = sp_sg g n % p
  | 0, _ => rfl
  | n + 1, h => by
    unfold sp_sg
    rw [Nat.add_mod, sp_sg_cong n (fun j hj => h j (by omega)), h n (by omega), ← Nat.add_mod]
theorem sp_sg_eq {f g : Nat → Nat} : ∀ n : Nat, (∀ j, j < n → f j = g j) → sp_sg f n = sp_sg g n
  | 0, _ => rfl
  | n + 1, h => by
    unfold sp_sg
    rw [sp_sg_eq n (fun j hj => h j (by omega)), h n (by omega)]
def sp_S (x : Nat → Nat) (w k N : Nat) : Nat := sp_sg (fun j => x j * w ^ (j * k)) N
theorem sp_split (x : Nat → Nat) (w k : Nat) : ∀ L : Nat, sp_S x w k (2 * L) = sp_S (fun u => x (2 * u)) (w * w) k L + w ^ k * sp_S (fun u => x (2 * u + 1)) (w * w) k L
  | 0 => by simp [sp_S, sp_sg]
  | L + 1 => by
    have ih := sp_split x w k L
    have e1 : 2 * (L + 1) = 2 * L + 1 + 1 := by omega
    have e2 : w ^ (2 * L * k) = (w * w) ^ (L * k) := by
      rw [Nat.mul_pow, ← Nat.pow_add]
      congr 1
      grind
    have e3 : w ^ ((2 * L + 1) * k) = (w * w) ^ (L * k) * w ^ k := by
      rw [← e2, ← Nat.pow_add]
      congr 1
      grind
    unfold sp_S at ih ⊢
    rw [e1]
    simp only [sp_sg]
    rw [ih, e2, e3]
    grind
theorem sp_cancel {x y b p : Nat} (hp : 0 < p) (h : (x + b) % p = (y + b) % p) : x % p = y % p := by
  have h0 : b ≤ p * b := Nat.le_mul_of_pos_left b hp
  have h1 : (x + b + (p * b - b)) % p = (y + b + (p * b - b)) % p := by rw [Nat.add_mod, h, ← Nat.add_mod]
  rw [show x + b + (p * b - b) = x + p * b by omega, show y + b + (p * b - b) = y + p * b by omega, Nat.add_mul_mod_self_left, Nat.add_mul_mod_self_left] at h1
  exact h1
theorem sp_subm {p : Nat} (hp : 0 < p) (a b : Nat) : (a % p + p - b % p) % p = (a + (p - 1) * b) % p := by
  refine sp_cancel (b := b) hp ?_
  have h1 := Nat.div_add_mod b p
  have h2 := Nat.mod_lt b hp
  rw [show a % p + p - b % p + b = a % p + p * (1 + b / p) by rw [Nat.mul_add, Nat.mul_one]; omega]
  obtain ⟨P, rfl⟩ : ∃ P, p = P + 1 := ⟨p - 1, by omega⟩
  rw [show a + (P + 1 - 1) * b + b = a + (P + 1) * b by rw [Nat.add_sub_cancel, Nat.add_mul]; omega]
  rw [Nat.add_mul_mod_self_left, Nat.add_mul_mod_self_left, Nat.mod_mod]
theorem sp_pow1 {w p e : Nat} (h : w % p = 1 % p) : w ^ e % p = 1 % p := by
  rw [Nat.pow_mod, h, ← Nat.pow_mod, Nat.one_pow]
theorem sp_S_per {x : Nat → Nat} {w k L N p : Nat} (h : w ^ L % p = 1 % p) : sp_S x w (k + L) N % p = sp_S x w k N % p := by
  unfold sp_S
  refine sp_sg_cong N (fun j _ => ?_)
  rw [show j * (k + L) = j * k + L * j by rw [Nat.mul_add, Nat.mul_comm j L], Nat.pow_add, Nat.pow_mul w L j, ← Nat.mul_assoc, Nat.mul_mod, sp_pow1 h, ← Nat.mul_mod, Nat.mul_one]
theorem sp_m1sq {p a : Nat} (hp : 2 ≤ p) (h : a % p = p - 1) : a * a % p = 1 % p := by
  obtain ⟨P, rfl⟩ : ∃ P, p = P + 2 := ⟨p - 2, by omega⟩
  rw [Nat.mul_mod, h]
  rw [show (P + 2 - 1) * (P + 2 - 1) = 1 + (P + 2) * P by rw [show P + 2 - 1 = P + 1 by omega]; grind]
  rw [Nat.add_mul_mod_self_left]
theorem sp_split2 {x : Nat → Nat} {w k L p : Nat} (hp : 2 ≤ p) (h : w ^ L % p = p - 1) : sp_S x w (k + L) (2 * L) % p = (sp_S (fun u => x (2 * u)) (w * w) k L + (p - 1) * (w ^ k * sp_S (fun u => x (2 * u + 1)) (w * w) k L)) % p := by
  have h1 : (w * w) ^ L % p = 1 % p := by rw [Nat.mul_pow]; exact sp_m1sq hp h
  have e1 : w ^ k * w ^ L % p = w ^ k * (p - 1) % p := by rw [← Nat.mul_mod_mod, h]
  have e2 : ∀ O : Nat, w ^ k * w ^ L * O % p = (p - 1) * (w ^ k * O) % p := fun O => by
    rw [← Nat.mod_mul_mod, e1, Nat.mod_mul_mod]
    congr 1
    ac_rfl
  rw [sp_split, Nat.add_mod, sp_S_per h1, Nat.mul_mod, sp_S_per h1, ← Nat.mul_mod, Nat.pow_add, e2, ← Nat.add_mod]
/-! bits turned round -/
def sp_rev : Nat → Nat → Nat
  | 0, _ => 0
  | s + 1, b => (b % 2) * 2 ^ s + sp_rev s (b / 2)
theorem sp_rev_lt : ∀ s b : Nat, sp_rev s b < 2 ^ s
  | 0, _ => Nat.one_pos
  | s + 1, b => by
    have ih := sp_rev_lt s (b / 2)
    have h2 : b % 2 < 2 := Nat.mod_lt _ (by decide)
    unfold sp_rev
    rw [Nat.pow_succ]
    rcases (show b % 2 = 0 ∨ b % 2 = 1 by omega) with h | h <;> rw [h] <;> omega
theorem sp_rev_e (s b : Nat) : sp_rev (s + 1) (2 * b) = sp_rev s b := by
  unfold sp_rev
  rw [show 2 * b % 2 = 0 by omega, show 2 * b / 2 = b by omega]
  cases s <;> simp [sp_rev]
theorem sp_rev_o (s b : Nat) : sp_rev (s + 1) (2 * b + 1) = 2 ^ s + sp_rev s b := by
  rw [sp_rev]
  rw [show (2 * b + 1) % 2 = 1 by omega, show (2 * b + 1) / 2 = b by omega, Nat.one_mul]
theorem sp_rev_top : ∀ (s c r : Nat), c < 2 → r < 2 ^ s → sp_rev (s + 1) (c * 2 ^ s + r) = c + 2 * sp_rev s r
  | 0, c, r, hc, hr => by
    have h0 : r = 0 := by omega
    subst h0
    simp only [sp_rev]
    omega
  | s + 1, c, r, hc, hr => by
    rw [Nat.pow_succ] at hr
    have ih := sp_rev_top s c (r / 2) hc (by omega)
    rw [show sp_rev (s + 1 + 1) (c * 2 ^ (s + 1) + r) = (c * 2 ^ (s + 1) + r) % 2 * 2 ^ (s + 1) + sp_rev (s + 1) ((c * 2 ^ (s + 1) + r) / 2) from rfl, show sp_rev (s + 1) r = r % 2 * 2 ^ s + sp_rev s (r / 2) from rfl]
    rw [show (c * 2 ^ (s + 1) + r) / 2 = c * 2 ^ s + r / 2 by rw [Nat.pow_succ, ← Nat.mul_assoc]; omega, ih]
    rw [show (c * 2 ^ (s + 1) + r) % 2 = r % 2 by rw [Nat.pow_succ, ← Nat.mul_assoc]; omega]
    rw [Nat.pow_succ]
    rcases (show r % 2 = 0 ∨ r % 2 = 1 by omega) with h | h <;> rw [h] <;> omega
theorem sp_rev_rev : ∀ (s b : Nat), b < 2 ^ s → sp_rev s (sp_rev s b) = b
  | 0, b, h => by
    have h0 : b = 0 := by omega
    subst h0
    rfl
  | s + 1, b, h => by
    rw [Nat.pow_succ] at h
    have ih := sp_rev_rev s (b / 2) (by omega)
    rw [show sp_rev (s + 1) b = (b % 2) * 2 ^ s + sp_rev s (b / 2) from rfl, sp_rev_top s _ _ (Nat.mod_lt _ (by decide)) (sp_rev_lt _ _), ih]
    omega
/-! the row behind i exchanges -/
def sp_turned (f : Nat → Int64) (m i : Nat) (f' : Nat → Int64) : Prop := ∀ k, k < 2 ^ m → f' k = if k < i ∨ sp_rev m k < i then f (sp_rev m k) else f k
theorem sp_turned_0 (f : Nat → Int64) (m : Nat) : sp_turned f m 1 f := by
  intro k hk
  split
  · rename_i h
    rcases (show k = 0 ∨ sp_rev m k = 0 by omega) with h1 | h1
    · subst h1
      have hz : ∀ s, sp_rev s 0 = 0 := by
        intro s
        induction s with
        | zero => rfl
        | succ s ih => rw [show sp_rev (s + 1) 0 = 0 % 2 * 2 ^ s + sp_rev s (0 / 2) from rfl, show 0 / 2 = 0 from rfl, ih]; simp
      rw [hz]
    · have h2 := sp_rev_rev m k hk
      rw [h1] at h2 ⊢
      have hz : ∀ s, sp_rev s 0 = 0 := by
        intro s
        induction s with
        | zero => rfl
        | succ s ih => rw [show sp_rev (s + 1) 0 = 0 % 2 * 2 ^ s + sp_rev s (0 / 2) from rfl, show 0 / 2 = 0 from rfl, ih]; simp
      rw [hz] at h2
      rw [← h2]
  · rfl
theorem sp_turned_s {f f' : Nat → Int64} {m i : Nat} (h : sp_turned f m i f') (hi : i < 2 ^ m) (hs : i < sp_rev m i) : sp_turned f m (i + 1) (vp_updL (vp_updL f' i (f' (sp_rev m i))) (sp_rev m i) (f' i)) := by
  have hj := sp_rev_lt m i
  have hrr := sp_rev_rev m i hi
  have e1 : f' i = f i := by rw [h i hi, if_neg (by omega)]
  have e2 : f' (sp_rev m i) = f (sp_rev m i) := by rw [h _ hj, hrr, if_neg (by omega)]
  intro k hk
  by_cases k1 : k = sp_rev m i
  · subst k1
    rw [pk_uLs, hrr, if_pos (by omega), e1]
  · rw [pk_uLn k1]
    by_cases k2 : k = i
    · subst k2
      rw [pk_uLs, if_pos (by omega), e2]
    · rw [pk_uLn k2, h k hk]
      have k3 : sp_rev m k ≠ i := fun q => k1 (by rw [← q, sp_rev_rev m k hk])
      by_cases k4 : k < i ∨ sp_rev m k < i
      · rw [if_pos k4, if_pos (by omega)]
      · rw [if_neg k4, if_neg (by omega)]
theorem sp_turned_n {f f' : Nat → Int64} {m i : Nat} (h : sp_turned f m i f') (hi : i < 2 ^ m) (hs : ¬ i < sp_rev m i) : sp_turned f m (i + 1) f' := by
  have hrr := sp_rev_rev m i hi
  intro k hk
  rw [h k hk]
  by_cases k4 : k < i ∨ sp_rev m k < i
  · rw [if_pos k4, if_pos (by omega)]
  · rw [if_neg k4]
    by_cases k2 : k = i
    · subst k2
      rw [if_pos (by omega), show sp_rev m k = k by omega]
    · by_cases k3 : sp_rev m k = i
      · have k5 := sp_rev_rev m k hk
        rw [k3] at k5
        omega
      · rw [if_neg (by omega)]
theorem sp_turned_e {f f' : Nat → Int64} {m : Nat} (h : sp_turned f m (2 ^ m) f') : ∀ k, k < 2 ^ m → f' k = f (sp_rev m k) := fun k hk => by rw [h k hk, if_pos (Or.inl hk)]
theorem sp_and (a b : Nat) : nI a &&& nI b = nI (a &&& b) := by
  apply Int32.toBitVec_inj.1
  show BitVec.ofNat 32 a &&& BitVec.ofNat 32 b = BitVec.ofNat 32 (a &&& b)
  apply BitVec.eq_of_getLsbD_eq
  intro i hi
  simp [hi]
theorem sp_or (a b : Nat) : nI a ||| nI b = nI (a ||| b) := by
  apply Int32.toBitVec_inj.1
  show BitVec.ofNat 32 a ||| BitVec.ofNat 32 b = BitVec.ofNat 32 (a ||| b)
  apply BitVec.eq_of_getLsbD_eq
  intro i hi
  simp [hi]
theorem sp_xor (a b : Nat) : nI a ^^^ nI b = nI (a ^^^ b) := by
  apply Int32.toBitVec_inj.1
  show BitVec.ofNat 32 a ^^^ BitVec.ofNat 32 b = BitVec.ofNat 32 (a ^^^ b)
  apply BitVec.eq_of_getLsbD_eq
  intro i hi
  simp [hi]
/-- the next place with its bits turned round: what the inner loop does -/
theorem sp_and_e (t q : Nat) : nI (sp_rev (t + 1) (2 * q)) &&& nI (2 ^ t) = nI 0 := by
  have h2 := sp_rev_lt t q
  rw [sp_rev_e, sp_and]
  congr 1
  apply Nat.eq_of_testBit_eq
  intro i
  rw [Nat.testBit_and, Nat.testBit_two_pow]
  by_cases hi : t = i
  · subst hi; simp [Nat.testBit_lt_two_pow h2]
  · simp [hi]
theorem sp_and_o (t q : Nat) (ht : t < 31) : ∃ z : Nat, 0 < z ∧ z < 2 ^ 31 ∧ nI (sp_rev (t + 1) (2 * q + 1)) &&& nI (2 ^ t) = nI z := by
  have h2 := sp_rev_lt t q
  have h3 : (2 : Nat) ^ t < 2 ^ 31 := Nat.pow_lt_pow_right (by decide) ht
  refine ⟨(2 ^ t + sp_rev t q) &&& 2 ^ t, ?_, Nat.lt_of_le_of_lt Nat.and_le_right h3, by rw [sp_rev_o, sp_and]⟩
  apply Nat.pos_of_ne_zero
  intro h
  have h4 : ((2 ^ t + sp_rev t q) &&& 2 ^ t).testBit t = false := by rw [h]; simp
  rw [Nat.testBit_and, Nat.testBit_two_pow_add_eq, Nat.testBit_lt_two_pow h2, Nat.testBit_two_pow] at h4
  simp at h4
theorem sp_xor_o (t q : Nat) : nI (sp_rev (t + 1) (2 * q + 1)) ^^^ nI (2 ^ t) = nI (sp_rev t q) := by
  have h2 := sp_rev_lt t q
  rw [sp_rev_o, sp_xor]
  congr 1
  have h3 := Nat.two_pow_add_eq_or_of_lt h2 1
  rw [Nat.mul_one] at h3
  rw [h3]
  apply Nat.eq_of_testBit_eq
  intro i
  rw [Nat.testBit_xor, Nat.testBit_or, Nat.testBit_two_pow]
  by_cases hi : t = i
  · subst hi; simp [Nat.testBit_lt_two_pow h2]
  · simp [hi]
theorem sp_or_e (t q : Nat) : nI (sp_rev (t + 1) (2 * q)) ||| nI (2 ^ t) = nI (sp_rev (t + 1) (2 * q + 1)) := by
  have h2 := sp_rev_lt t q
  have h3 := Nat.two_pow_add_eq_or_of_lt h2 1
  rw [Nat.mul_one] at h3
  rw [sp_rev_e, sp_or, sp_rev_o, h3, Nat.or_comm]
/-! the stages -/
def sp_blk (x : Nat → Nat) (w r s p b k : Nat) : Nat := sp_S (fun t => x (sp_rev r b + 2 ^ r * t)) (w ^ 2 ^ r) k (2 ^ s) % p
theorem sp_blk_x (x : Nat → Nat) (r b : Nat) : (fun u => (fun t => x (sp_rev r b + 2 ^ r * t)) (2 * u)) = (fun t => x (sp_rev (r + 1) (2 * b) + 2 ^ (r + 1) * t)) ∧ (fun u => (fun t => x (sp_rev r b + 2 ^ r * t)) (2 * u + 1)) = (fun t => x (sp_rev (r + 1) (2 * b + 1) + 2 ^ (r + 1) * t)) := by
  constructor
  · funext u
    show x (sp_rev r b + 2 ^ r * (2 * u)) = _
    rw [sp_rev_e, Nat.pow_succ, Nat.mul_assoc]
  · funext u
    show x (sp_rev r b + 2 ^ r * (2 * u + 1)) = _
    rw [sp_rev_o, Nat.pow_succ, Nat.mul_assoc]
    congr 1
    rw [Nat.mul_add]
    omega
theorem sp_ww (w r : Nat) : w ^ 2 ^ r * w ^ 2 ^ r = w ^ 2 ^ (r + 1) := by
  rw [← Nat.pow_add, Nat.pow_succ, Nat.mul_two]
theorem sp_blk_lo (x : Nat → Nat) (w r s p b k : Nat) : sp_blk x w r (s + 1) p b k = (sp_blk x w (r + 1) s p (2 * b) k + sp_blk x w (r + 1) s p (2 * b + 1) k * ((w ^ 2 ^ r % p) ^ k % p) % p) % p := by
  unfold sp_blk
  rw [show 2 ^ (s + 1) = 2 * 2 ^ s by rw [Nat.pow_succ, Nat.mul_comm], sp_split, (sp_blk_x x r b).1, (sp_blk_x x r b).2, sp_ww, ← Nat.pow_mod, ← Nat.mul_mod, ← Nat.add_mod, Nat.mul_comm ((w ^ 2 ^ r) ^ k)]
theorem sp_blk_hi {x : Nat → Nat} {w r s p : Nat} (hp : 2 ≤ p) (hw : w ^ 2 ^ (r + s) % p = p - 1) (b k : Nat) : sp_blk x w r (s + 1) p b (k + 2 ^ s) = (sp_blk x w (r + 1) s p (2 * b) k + p - sp_blk x w (r + 1) s p (2 * b + 1) k * ((w ^ 2 ^ r % p) ^ k % p) % p) % p := by
  unfold sp_blk
  rw [show 2 ^ (s + 1) = 2 * 2 ^ s by rw [Nat.pow_succ, Nat.mul_comm], sp_split2 hp (by rw [← Nat.pow_mul, ← Nat.pow_add]; exact hw), (sp_blk_x x r b).1, (sp_blk_x x r b).2, sp_ww, ← Nat.pow_mod, ← Nat.mul_mod, sp_subm (by omega), Nat.mul_comm ((w ^ 2 ^ r) ^ k)]
def sp_stage (x : Nat → Nat) (w r s p : Nat) (g : Nat → Nat) : Prop := ∀ b k, b < 2 ^ r → k < 2 ^ s → g (b * 2 ^ s + k) = sp_blk x w r s p b k
theorem sp_stage_0 {x : Nat → Nat} {w m p : Nat} {g : Nat → Nat} (hx : ∀ j, j < 2 ^ m → x j < p) (hg : ∀ j, j < 2 ^ m → g j = x (sp_rev m j)) : sp_stage x w m 0 p g := by
  intro b k hb hk
  have hk0 : k = 0 := by omega
  subst hk0
  have h1 := hx _ (sp_rev_lt m b)
  simp only [sp_blk, sp_S, sp_sg, Nat.pow_zero, Nat.mul_one, Nat.add_zero, Nat.mul_zero, Nat.zero_add]
  rw [hg b hb, Nat.mod_eq_of_lt h1]
theorem sp_stage_e {x : Nat → Nat} {w m p : Nat} {g : Nat → Nat} (h : sp_stage x w 0 m p g) : ∀ k, k < 2 ^ m → g k = sp_S x w k (2 ^ m) % p := by
  intro k hk
  have h1 := h 0 k (by decide) hk
  rw [Nat.zero_mul, Nat.zero_add] at h1
  rw [h1]
  simp only [sp_blk, sp_rev, Nat.pow_zero, Nat.pow_one, Nat.one_mul, Nat.zero_add]
/-- the row behind i of the half pairs that begin at 'fr' -/
def sp_pairF (g : Nat → Nat) (p v fr half i : Nat) : Nat → Nat := fun j =>
  if fr ≤ j ∧ j < fr + i then (g j + g (j + half) * (v ^ (j - fr) % p) % p) % p
  else if fr + half ≤ j ∧ j < fr + half + i then (g (j - half) + p - g j * (v ^ (j - half - fr) % p) % p) % p
  else g j
theorem sp_pairF_0 (g : Nat → Nat) (p v fr half : Nat) : sp_pairF g p v fr half 0 = g := by
  funext j
  unfold sp_pairF
  rw [if_neg (by omega), if_neg (by omega)]
theorem sp_pairF_at {g : Nat → Nat} {p v fr half i : Nat} (hi : i < half) : sp_pairF g p v fr half i (fr + i) = g (fr + i) ∧ sp_pairF g p v fr half i (fr + i + half) = g (fr + i + half) := by
  unfold sp_pairF
  constructor
  · rw [if_neg (by omega), if_neg (by omega)]
  · rw [if_neg (by omega), if_neg (by omega)]
def sp_rep (f : Nat → Int64) (g : Nat → Nat) (n p : Nat) : Prop := ∀ j, j < n → f j = lN (g j) ∧ g j < p
theorem sp_pairF_s {f' : Nat → Int64} {g : Nat → Nat} {n p v fr half i : Nat} (h : sp_rep f' (sp_pairF g p v fr half i) n p) (hp : 0 < p) (hi : i < half) : sp_rep (vp_updL (vp_updL f' (fr + i) (lN ((g (fr + i) + g (fr + i + half) * (v ^ i % p) % p) % p))) (fr + i + half) (lN ((g (fr + i) + p - g (fr + i + half) * (v ^ i % p) % p) % p))) (sp_pairF g p v fr half (i + 1)) n p := by
  intro j hj
  obtain ⟨h1, h2⟩ := h j hj
  by_cases k1 : j = fr + i + half
  · subst k1
    rw [pk_uLs]
    have e : sp_pairF g p v fr half (i + 1) (fr + i + half) = (g (fr + i) + p - g (fr + i + half) * (v ^ i % p) % p) % p := by
      unfold sp_pairF
      rw [if_neg (by omega), if_pos (by omega), show fr + i + half - half = fr + i by omega, show fr + i - fr = i by omega]
    rw [e]
    exact ⟨rfl, Nat.mod_lt _ hp⟩
  · rw [pk_uLn k1]
    by_cases k2 : j = fr + i
    · subst k2
      rw [pk_uLs]
      have e : sp_pairF g p v fr half (i + 1) (fr + i) = (g (fr + i) + g (fr + i + half) * (v ^ i % p) % p) % p := by
        unfold sp_pairF
        rw [if_pos (by omega), show fr + i - fr = i by omega]
      rw [e]
      exact ⟨rfl, Nat.mod_lt _ hp⟩
    · rw [pk_uLn k2]
      have e : sp_pairF g p v fr half (i + 1) j = sp_pairF g p v fr half i j := by
        unfold sp_pairF
        by_cases c1 : fr ≤ j ∧ j < fr + i
        · rw [if_pos c1, if_pos (by omega)]
        · rw [if_neg c1, if_neg (by omega)]
          by_cases c2 : fr + half ≤ j ∧ j < fr + half + i
          · rw [if_pos c2, if_pos (by omega)]
          · rw [if_neg c2, if_neg (by omega)]
      rw [e]
      exact ⟨h1, h2⟩
def sp_mid (x : Nat → Nat) (w r s p c : Nat) (g : Nat → Nat) : Prop := (∀ b k, b < c → k < 2 ^ (s + 1) → g (b * 2 ^ (s + 1) + k) = sp_blk x w r (s + 1) p b k) ∧ (∀ b k, 2 * c ≤ b → b < 2 ^ (r + 1) → k < 2 ^ s → g (b * 2 ^ s + k) = sp_blk x w (r + 1) s p b k)
theorem sp_mid_0 {x : Nat → Nat} {w r s p : Nat} {g : Nat → Nat} (h : sp_stage x w (r + 1) s p g) : sp_mid x w r s p 0 g := ⟨fun b k hb _ => absurd hb (Nat.not_lt_zero b), fun b k _ h2 h3 => h b k h2 h3⟩
theorem sp_mid_e {x : Nat → Nat} {w r s p : Nat} {g : Nat → Nat} (h : sp_mid x w r s p (2 ^ r) g) : sp_stage x w r (s + 1) p g := fun b k hb hk => h.1 b k hb hk
theorem sp_mid_s {x : Nat → Nat} {w r s p c : Nat} {g : Nat → Nat} (hp : 2 ≤ p) (hw : w ^ 2 ^ (r + s) % p = p - 1) (hc : c < 2 ^ r) (h : sp_mid x w r s p c g) : sp_mid x w r s p (c + 1) (sp_pairF g p (w ^ 2 ^ r % p) (c * 2 ^ (s + 1)) (2 ^ s) (2 ^ s)) := by
  have e2 : 2 ^ (s + 1) = 2 * 2 ^ s := by rw [Nat.pow_succ, Nat.mul_comm]
  have er : 2 ^ (r + 1) = 2 * 2 ^ r := by rw [Nat.pow_succ, Nat.mul_comm]
  have el : ∀ k, c * 2 ^ (s + 1) + k = (2 * c) * 2 ^ s + k := fun k => by rw [e2, ← Nat.mul_assoc, Nat.mul_comm c 2]
  have eh : ∀ k, c * 2 ^ (s + 1) + k + 2 ^ s = (2 * c + 1) * 2 ^ s + k := fun k => by rw [el, Nat.add_mul (2 * c), Nat.one_mul]; omega
  refine ⟨fun b k hb hk => ?_, fun b k h1 h2 h3 => ?_⟩
  · by_cases hbc : b = c
    · subst hbc
      by_cases hk2 : k < 2 ^ s
      · unfold sp_pairF
        rw [if_pos (by omega), show b * 2 ^ (s + 1) + k - b * 2 ^ (s + 1) = k by omega, eh k, el k, h.2 (2 * b) k (by omega) (by omega) hk2, h.2 (2 * b + 1) k (by omega) (by omega) hk2, sp_blk_lo]
      · obtain ⟨k', rfl⟩ : ∃ k', k = k' + 2 ^ s := ⟨k - 2 ^ s, by omega⟩
        have hk3 : k' < 2 ^ s := by omega
        unfold sp_pairF
        rw [if_neg (by omega), if_pos (by omega), show b * 2 ^ (s + 1) + (k' + 2 ^ s) - 2 ^ s = b * 2 ^ (s + 1) + k' by omega, show b * 2 ^ (s + 1) + k' - b * 2 ^ (s + 1) = k' by omega, ← Nat.add_assoc, eh k', el k', h.2 (2 * b) k' (by omega) (by omega) hk3, h.2 (2 * b + 1) k' (by omega) (by omega) hk3, sp_blk_hi hp hw]
    · have hb2 : b < c := by omega
      have h4 : (b + 1) * 2 ^ (s + 1) ≤ c * 2 ^ (s + 1) := Nat.mul_le_mul_right _ hb2
      rw [Nat.add_mul, Nat.one_mul] at h4
      unfold sp_pairF
      rw [if_neg (by omega), if_neg (by omega)]
      exact h.1 b k hb2 hk
  · have h4 : (2 * (c + 1)) * 2 ^ s ≤ b * 2 ^ s := Nat.mul_le_mul_right _ h1
    have h5 : (2 * (c + 1)) * 2 ^ s = c * 2 ^ (s + 1) + 2 ^ s + 2 ^ s := by rw [e2, Nat.mul_add, Nat.add_mul, ← Nat.mul_assoc, Nat.mul_comm c 2]; omega
    unfold sp_pairF
    rw [if_neg (by omega), if_neg (by omega)]
    exact h.2 b k (by omega) h2 h3
end
section
/-! what the calls answer, in plain words -/
def sp_ok (n p h : Nat) : Prop := (h ^ ((p - 1) / n) % p) ^ (n / 2) % p = p - 1
noncomputable def sp_h (n p : Nat) : Nat := Classical.epsilon (fun h => 2 ≤ h ∧ sp_ok n p h ∧ ∀ j, 2 ≤ j → j < h → ¬ sp_ok n p j)
noncomputable def sp_w (n p : Nat) : Nat := if n = 1 then 1 else sp_h n p ^ ((p - 1) / n) % p
def sp_val (n p : Nat) : Prop := sp_prm p ∧ 3 ≤ p ∧ p % 2 = 1 ∧ p ≤ 1000000007 ∧ (∃ m, m ≤ 10 ∧ n = 2 ^ m) ∧ (p - 1) % n = 0
theorem sp_ok_iff {n p h : Nat} (hv : sp_val n p) (hn : n ≠ 1) : sp_ok n p h ↔ h ^ ((p - 1) / 2) % p = p - 1 := by
  obtain ⟨-, h3, -, -, ⟨m, hm, rfl⟩, hd⟩ := hv
  obtain ⟨m, rfl⟩ : ∃ m', m = m' + 1 := ⟨m - 1, by
    rcases Nat.eq_zero_or_pos m with z | z
    · subst z; exact absurd rfl hn
    · omega⟩
  have e : (p - 1) / 2 = (p - 1) / 2 ^ (m + 1) * (2 ^ (m + 1) / 2) := by
    obtain ⟨t, ht⟩ := Nat.dvd_of_mod_eq_zero hd
    have h2 : 0 < 2 ^ (m + 1) := Nat.two_pow_pos _
    rw [ht, Nat.mul_div_cancel_left t h2]
    rw [Nat.pow_succ, Nat.mul_div_cancel _ (by decide : 0 < 2)]
    rw [show 2 ^ m * 2 * t = t * 2 ^ m * 2 by ac_rfl, Nat.mul_div_cancel _ (by decide : 0 < 2)]
  unfold sp_ok
  rw [← Nat.pow_mod, ← Nat.pow_mul, ← e]
theorem sp_h_spec {n p : Nat} (hv : sp_val n p) (hn : n ≠ 1) : 2 ≤ sp_h n p ∧ sp_h n p < p ∧ sp_ok n p (sp_h n p) ∧ ∀ j, 2 ≤ j → j < sp_h n p → ¬ sp_ok n p j := by
  obtain ⟨h0, a1, a2, a3⟩ := sp_nonres hv.1 hv.2.2.1
  have hex : ∃ h, 2 ≤ h ∧ sp_ok n p h := ⟨h0, a1, (sp_ok_iff hv hn).mpr a3⟩
  obtain ⟨k, hk, hl⟩ := pk_least _ hex
  have hex2 : ∃ h, 2 ≤ h ∧ sp_ok n p h ∧ ∀ j, 2 ≤ j → j < h → ¬ sp_ok n p j := ⟨k, hk.1, hk.2, fun j h1 h2 h3 => hl j h2 ⟨h1, h3⟩⟩
  have hs := Classical.epsilon_spec hex2
  have hs : 2 ≤ sp_h n p ∧ sp_ok n p (sp_h n p) ∧ ∀ j, 2 ≤ j → j < sp_h n p → ¬ sp_ok n p j := hs
  refine ⟨hs.1, ?_, hs.2.1, hs.2.2⟩
  rcases Nat.lt_or_ge (sp_h n p) p with q | q
  · exact q
  · exact absurd ((sp_ok_iff hv hn).mpr a3) (hs.2.2 h0 a1 (by omega))
theorem sp_w_lt {n p : Nat} (hv : sp_val n p) : sp_w n p < p := by
  have h3 := hv.2.1
  unfold sp_w
  split
  · omega
  · exact Nat.mod_lt _ (by omega)
theorem sp_w_half {n p : Nat} (hv : sp_val n p) (hn : n ≠ 1) : sp_w n p ^ (n / 2) % p = p - 1 := by
  have h := (sp_h_spec hv hn).2.2.1
  unfold sp_w
  rw [if_neg hn]
  exact h
/-- the root that the transform goes by: forward, or back -/
noncomputable def sp_wb (n p : Nat) (back : Bool) : Nat := if back then sp_w n p ^ (p - 2) % p else sp_w n p
theorem sp_m1odd {p : Nat} (hp : 2 ≤ p) : ∀ e : Nat, e % 2 = 1 → (p - 1) ^ e % p = p - 1
  | 0, h => absurd h (by decide)
  | 1, _ => by rw [Nat.pow_one]; exact Nat.mod_eq_of_lt (by omega)
  | e + 2, h => by
    have ih := sp_m1odd hp e (by omega)
    rw [Nat.pow_succ, Nat.pow_succ, Nat.mul_assoc, Nat.mul_mod, ih, sp_m1sq hp (Nat.mod_eq_of_lt (by omega)), ← ih, ← Nat.mul_mod, Nat.mul_one]
theorem sp_wb_lt {n p : Nat} (hv : sp_val n p) (back : Bool) : sp_wb n p back < p := by
  have h3 := hv.2.1
  unfold sp_wb
  split
  · exact Nat.mod_lt _ (by omega)
  · exact sp_w_lt hv
theorem sp_wb_half {n p : Nat} (hv : sp_val n p) (hn : n ≠ 1) (back : Bool) : sp_wb n p back ^ (n / 2) % p = p - 1 := by
  have h3 := hv.2.1
  have ho := hv.2.2.1
  have h := sp_w_half hv hn
  unfold sp_wb
  split
  · rw [← Nat.pow_mod, ← Nat.pow_mul, Nat.mul_comm, Nat.pow_mul, Nat.pow_mod, h]
    exact sp_m1odd (by omega) (p - 2) (by omega)
  · exact h
/-- the number at place k behind a transform of x -/
noncomputable def sp_out (x : Nat → Nat) (n p : Nat) (back : Bool) (k : Nat) : Nat := if back then (sp_S x (sp_wb n p back) k n % p) * (n ^ (p - 2) % p) % p else sp_S x (sp_wb n p back) k n % p
/-- the rest of a long by p, from 0 up -/
def sp_res (v : Int64) (p : Nat) : Nat := (v.toInt % (p : Int)).toNat
theorem sp_res_lt (v : Int64) {p : Nat} (hp : 0 < p) : sp_res v p < p := by
  have h1 := Int.emod_nonneg v.toInt (b := (p : Int)) (by omega)
  have h2 := Int.emod_lt_of_pos v.toInt (b := (p : Int)) (by omega)
  unfold sp_res
  omega
/-- p, as an int, is a prime that the calls take -/
def sp_good (x : Int32) : Prop := ∃ n : Nat, x = nI n ∧ 3 ≤ n ∧ n ≤ 1000000007 ∧ sp_prm n
def sp_pp (x : Int32) : Prop := ∃ n : Nat, x = nI n ∧ 3 ≤ n ∧ n < 2 ^ 31 ∧ sp_prm n
/-- a boolean answer -/
def sp_b (P : Prop) (r : Int32) : Prop := (r = 1 ∧ P) ∨ (r = 0 ∧ ¬ P)
theorem sp_b_eq {P : Prop} {r r' : Int32} (h : sp_b P r) (h' : sp_b P r') : r = r' := by
  rcases h with ⟨h1, h2⟩ | ⟨h1, h2⟩ <;> rcases h' with ⟨h3, h4⟩ | ⟨h3, h4⟩
  · rw [h1, h3]
  · exact absurd h2 h4
  · exact absurd h4 h2
  · rw [h1, h3]
def sp_badn (n : Int32) : Prop := n < 1 ∨ 1024 < n ∨ ¬ (n &&& (n - 1)) = 0
noncomputable def sp_rfz (n p : Int32) : Int32 := by
  classical
  exact (if sp_badn n then -1 else if ¬ sp_good p then -2 else if ¬ (p - 1) - (p - 1) / n * n = 0 then -3 else 0)
theorem sp_rfz_1 {n p : Int32} (h : sp_badn n) : sp_rfz n p = -1 := by unfold sp_rfz; rw [if_pos h]
theorem sp_rfz_2 {n p : Int32} (h : ¬ sp_badn n) (h2 : ¬ sp_good p) : sp_rfz n p = -2 := by unfold sp_rfz; rw [if_neg h, if_pos h2]
theorem sp_rfz_3 {n p : Int32} (h : ¬ sp_badn n) (h2 : sp_good p) (h3 : ¬ (p - 1) - (p - 1) / n * n = 0) : sp_rfz n p = -3 := by unfold sp_rfz; rw [if_neg h, if_neg (fun q => q h2), if_pos h3]
theorem sp_rfz_0 {n p : Int32} (h : ¬ sp_badn n) (h2 : sp_good p) (h3 : (p - 1) - (p - 1) / n * n = 0) : sp_rfz n p = 0 := by unfold sp_rfz; rw [if_neg h, if_neg (fun q => q h2), if_neg (fun q => q h3)]
theorem sp_pow2 : ∀ n : Fin 1025, (decide (1 ≤ n.val) && (n.val &&& (n.val - 1)) == 0) = true → (List.range 11).any (fun m => n.val == 2 ^ m) = true := by decide +kernel
theorem sp_pow2m {n : Nat} (h : n ≤ 1024) (h1 : 1 ≤ n) (h2 : n &&& (n - 1) = 0) : ∃ m, m ≤ 10 ∧ n = 2 ^ m := by
  have h3 := sp_pow2 ⟨n, by omega⟩ (by simp [h1, h2])
  obtain ⟨m, hm, he⟩ := List.any_eq_true.mp h3
  rw [List.mem_range] at hm
  exact ⟨m, by omega, by simpa using he⟩
/-- nothing refused: n and p are as the transform wants them -/
theorem sp_rfz_val {n p : Int32} (h : sp_rfz n p = 0) : ∃ N P : Nat, n = nI N ∧ p = nI P ∧ sp_val N P := by
  classical
  by_cases h1 : sp_badn n
  · rw [sp_rfz_1 h1] at h; exact absurd h (by decide)
  by_cases h2 : sp_good p
  · by_cases h3 : (p - 1) - (p - 1) / n * n = 0
    · obtain ⟨P, rfl, hP3, hPm, hPp⟩ := h2
      have hn1 : ¬ n < 1 := fun q => h1 (Or.inl q)
      have hn2 : ¬ 1024 < n := fun q => h1 (Or.inr (Or.inl q))
      have hn3 : (n &&& (n - 1)) = 0 := Classical.byContradiction (fun q => h1 (Or.inr (Or.inr q)))
      rw [Int32.lt_iff_toInt_lt] at hn1 hn2
      have e1 : (1 : Int32).toInt = 1 := rfl
      have e2 : (1024 : Int32).toInt = 1024 := rfl
      rw [e1] at hn1
      rw [e2] at hn2
      obtain ⟨N, hNb, rfl⟩ := nI_of (x := n) (by rw [Int32.lt_iff_toInt_lt]; show ¬ n.toInt < 0; omega)
      rw [nI_toInt hNb] at hn1 hn2
      have e3 : nI N - 1 = nI (N - 1) := pk_sub (a := N) (b := 1) (by omega)
      rw [e3, sp_and] at hn3
      have hn4 : N &&& (N - 1) = 0 := by
        have hle : N &&& (N - 1) ≤ N := Nat.and_le_left
        exact (nI_eq (by omega) (by decide)).mp (show nI (N &&& (N - 1)) = nI 0 from hn3)
      have e4 : nI P - 1 = nI (P - 1) := pk_sub (a := P) (b := 1) (by omega)
      rw [e4, pk_rem (by omega) (by omega) hNb] at h3
      have h5 : (P - 1) % N = 0 := (nI_eq (Nat.lt_of_le_of_lt (Nat.mod_le _ _) (by omega)) (by decide)).mp (show nI ((P - 1) % N) = nI 0 from h3)
      refine ⟨N, P, rfl, rfl, hPp, hP3, ?_, hPm, sp_pow2m (by omega) (by omega) hn4, h5⟩
      rcases (show P % 2 = 0 ∨ P % 2 = 1 by omega) with z | z
      · exact absurd z (hPp.2 2 (by decide) (by omega))
      · exact z
    · rw [sp_rfz_3 h1 h2 h3] at h; exact absurd h (by decide)
  · rw [sp_rfz_2 h1 h2] at h; exact absurd h (by decide)
theorem sp_rfz_neg (n p : Int32) : sp_rfz n p < 0 ∨ sp_rfz n p = 0 := by
  classical
  by_cases h1 : sp_badn n
  · rw [sp_rfz_1 h1]; exact Or.inl (by decide)
  by_cases h2 : sp_good p
  · by_cases h3 : (p - 1) - (p - 1) / n * n = 0
    · exact Or.inr (sp_rfz_0 h1 h2 h3)
    · rw [sp_rfz_3 h1 h2 h3]; exact Or.inl (by decide)
  · rw [sp_rfz_2 h1 h2]; exact Or.inl (by decide)
/-- the row behind a transform; a root; the row behind a product -/
noncomputable def sp_tr (n p b : Int32) (row : Nat → Int64) : Nat → Int64 := fun k =>
  if sp_rfz n p = 0 ∧ k < n.toNatClampNeg then lN (sp_out (fun j => sp_res (row j) p.toNatClampNeg) n.toNatClampNeg p.toNatClampNeg (decide (¬ b = 0)) k) else row k
noncomputable def sp_root (n p : Int32) : Int64 := if sp_rfz n p = 0 then lN (sp_w n.toNatClampNeg p.toNatClampNeg) else 0
theorem sp_tr_neg {n p b : Int32} {row : Nat → Int64} (h : sp_rfz n p < 0) : sp_tr n p b row = row := by
  funext k
  unfold sp_tr
  rw [if_neg]
  intro q
  rw [q.1] at h
  exact absurd h (by decide)
def sp_badt (n : Int32) : Prop := n < 0 ∨ 1024 < n
noncomputable def sp_tans (n p : Int32) : Int32 := by
  classical
  exact (if sp_badt n then -1 else if ¬ sp_good p then -2 else 0)
theorem sp_tans_1 {n p : Int32} (h : sp_badt n) : sp_tans n p = -1 := by unfold sp_tans; rw [if_pos h]
theorem sp_tans_2 {n p : Int32} (h : ¬ sp_badt n) (h2 : ¬ sp_good p) : sp_tans n p = -2 := by unfold sp_tans; rw [if_neg h, if_pos h2]
theorem sp_tans_0 {n p : Int32} (h : ¬ sp_badt n) (h2 : sp_good p) : sp_tans n p = 0 := by unfold sp_tans; rw [if_neg h, if_neg (fun q => q h2)]
noncomputable def sp_times (n p : Int32) (row kept : Nat → Int64) : Nat → Int64 := fun k =>
  if sp_tans n p = 0 ∧ k < n.toNatClampNeg then lN (sp_res (row k) p.toNatClampNeg * sp_res (kept k) p.toNatClampNeg % p.toNatClampNeg) else row k
end
section
/-! the three classes' table; starts, ends and calls in one row each -/
abbrev vwCl : List vw_C := [(RX0, TX0, 3), (RX1, TX1, 2), (RX2, TX2, 4)]
abbrev tyL : Type := List (ClassId × FieldType)
abbrev pcW (av : List Value) (sz : Nat) (dC : Nat → ClassId) (dI : Nat → Nat → Nat) (ws : va_W) (tys : tyL) : Array Value → State → Prop := va_Pc av (fun U => U.heap.size = sz ∧ va_P (dC, dI) vwCl ws U.heap ∧ va_K (dC, dI) vwCl tys U ∧ va_D (fun _ => True) ws)
abbrev bw {S : Type} (dC : Nat → ClassId) (dI : Nat → Nat → Nat) (A : Nat → Prop) (w1 : S → va_W) (t1 : S → tyL) (u : S) (t : State) : Prop := va_P (dC, dI) vwCl (w1 u) t.heap ∧ va_K (dC, dI) vwCl (t1 u) t ∧ va_D A (w1 u)
theorem fbW {av : List Value} {sz : Nat} {dC : Nat → ClassId} {dI : Nat → Nat → Nat} {ws : va_W} {tys : tyL} : FrameBlind (pcW av sz dC dI ws tys) := by
  intro a U g mk q
  obtain ⟨q0, q1, qP, qK, qD⟩ := q
  exact ⟨q0, q1, qP, va_K.moved (u := U) (U := U.calling g mk a) (Vm.Alike.refl U.vm) qK, qD⟩
theorem mapFM {α β : Type} {f : α → Option β} : ∀ {l : List α} {w : List β}, l.map f = w.map some → l.filterMap f = w
  | [], [], _ => rfl
  | [], _ :: _, h => by simp at h
  | _ :: _, [], h => by simp at h
  | a :: l, b :: w, h => by
    simp only [List.map_cons, List.cons.injEq] at h
    rw [List.filterMap_cons, h.1, mapFM h.2]
section Calls13
variable {p : Program} {l : Launch} {e : Env} {R : Room} {s : State} {m : MethodId} {args : Array Value} {below : List Frame} {meth : Method} {c : Code} {H : Heap} {locs : List Loc} {cells slots : Nat} {Q : State → Prop}
variable {cc : ByteArray} {pc : Nat} {ls : Array Slot} {rest st0 : List Value} {dC : Nat → ClassId} {dI : Nat → Nat → Nat} {A A0 : Nat → Prop} {ws wc wr : va_W} {tys tc : tyL} {H0 : Heap} {a : Array Value} {mc ms : Nat}
theorem preS {As : List Value} (hK : va_K (dC, dI) vwCl tys s) (hP : va_P (dC, dI) vwCl ws H) (hD : va_D A ws) (isC : List Nat) (hn : va_nd isC = true) (hC : isC.map (fun i => ws[i]?) = wc.map some) (isT : List Nat) (hT : isT.filterMap (fun i => tys[i]?) = tc) : PreS s H (pcW As H.size dC dI wc tc) As := by
  refine ⟨fbW, fun U hU hW => ⟨rfl, by rw [hU], ?_, va_K.moved hW.alike (hK.sub isT hT), ?_⟩⟩
  · rw [hU]
    exact hP.sub isC (mapFM hC)
  · exact (hD.sub isC hn hC).weaken (fun _ _ _ _ => trivial)
theorem preV {As : List Value} {b ci : Nat} {q : vw_C} {fs : List Value} (hK : va_K (dC, dI) vwCl tys s) (hP : va_P (dC, dI) vwCl ws H) (hD : va_D A ws) (isC : List Nat) (hn : va_nd isC = true) (hC : isC.map (fun i => ws[i]?) = wc.map some) (isT : List Nat) (hT : isT.filterMap (fun i => tys[i]?) = tc) (hc : vwCl[ci]? = some q) (he : wc[0]? = some (b, .inr (ci, fs))) : PreV s H q.1 b (pcW (.ref b :: As) H.size dC dI wc tc) As := by
  refine ⟨fbW, va_recv (hK.sub isT hT) (hP.sub isC (mapFM hC)) hc he, fun U hU hW => ⟨rfl, by rw [hU], ?_, va_K.moved hW.alike (hK.sub isT hT), ?_⟩⟩
  · rw [hU]
    exact hP.sub isC (mapFM hC)
  · exact (hD.sub isC hn hC).weaken (fun _ _ _ _ => trivial)
theorem cl_l {S : Type} {post : Int64 → S → Prop} {w1 : S → va_W} {t1 : S → tyL} (hr : va_Run p l e R s m args below meth c H locs cells slots mc ms (F0 m pc ls st0) rest (va_Ql post (bw dC dI (va_A wc H.size) w1 t1) (va_A wc H.size) a) (va_A wc H.size)) (hP : va_P (dC, dI) vwCl ws H) (hD : va_D A0 ws) (hS : va_S A0 H0 H locs) (hA : ∀ q, H0.size ≤ q → A0 q) (isC isR : List Nat) (hC : isC.map (fun i => ws[i]?) = wc.map some) (hR : isR.map (fun i => ws[i]?) = wr.map some) (hn : va_nd isR = true) (hdis : ∀ i ∈ isR, i ∉ isC)
    (kk : ∀ (r : Int64) (u : S) (H1 : Heap) (locs1 : List Loc), post r u → va_P (dC, dI) vwCl (wr ++ w1 u) H1 → va_D A0 (wr ++ w1 u) → va_K (dC, dI) vwCl (t1 u) s → va_S A0 H0 H1 locs1 → W p l e R s m args below meth c H1 locs1 (cells + mc) (slots + ms) Q (F0 m (pc + 3) ls (.long r :: rest))) : W p l e R s m args below meth c H locs cells slots Q (F0 m pc ls st0) :=
  va_calll hr hS (fun q _ h => va_free hD hS hA isC hC q h) (va_free hD hS hA isC hC) (fun r u t H1 locs1 ht hvm hp hB hz hk hS1 => by
    obtain ⟨hP1, hK1, hD1⟩ := hB
    rw [ht] at hP1
    obtain ⟨hP', hD'⟩ := va_join hP hD isC isR hC hR hn hdis hk (va_free hD hS hA isC hC) hP1 hD1
    exact kk r u H1 locs1 hp hP' hD' (va_K.moved hvm.symm hK1) hS1)
theorem cl_i {S : Type} {post : Int32 → S → Prop} {w1 : S → va_W} {t1 : S → tyL} (hr : va_Run p l e R s m args below meth c H locs cells slots mc ms (F0 m pc ls st0) rest (va_Qi post (bw dC dI (va_A wc H.size) w1 t1) (va_A wc H.size) a) (va_A wc H.size)) (hP : va_P (dC, dI) vwCl ws H) (hD : va_D A0 ws) (hS : va_S A0 H0 H locs) (hA : ∀ q, H0.size ≤ q → A0 q) (isC isR : List Nat) (hC : isC.map (fun i => ws[i]?) = wc.map some) (hR : isR.map (fun i => ws[i]?) = wr.map some) (hn : va_nd isR = true) (hdis : ∀ i ∈ isR, i ∉ isC)
    (kk : ∀ (r : Int32) (u : S) (H1 : Heap) (locs1 : List Loc), post r u → va_P (dC, dI) vwCl (wr ++ w1 u) H1 → va_D A0 (wr ++ w1 u) → va_K (dC, dI) vwCl (t1 u) s → va_S A0 H0 H1 locs1 → W p l e R s m args below meth c H1 locs1 (cells + mc) (slots + ms) Q (F0 m (pc + 3) ls (.int r :: rest))) : W p l e R s m args below meth c H locs cells slots Q (F0 m pc ls st0) :=
  va_calli hr hS (fun q _ h => va_free hD hS hA isC hC q h) (va_free hD hS hA isC hC) (fun r u t H1 locs1 ht hvm hp hB hz hk hS1 => by
    obtain ⟨hP1, hK1, hD1⟩ := hB
    rw [ht] at hP1
    obtain ⟨hP', hD'⟩ := va_join hP hD isC isR hC hR hn hdis hk (va_free hD hS hA isC hC) hP1 hD1
    exact kk r u H1 locs1 hp hP' hD' (va_K.moved hvm.symm hK1) hS1)
theorem cl_v {S : Type} {post : S → Prop} {w1 : S → va_W} {t1 : S → tyL} (hr : va_Run p l e R s m args below meth c H locs cells slots mc ms (F0 m pc ls st0) rest (va_Qv post (bw dC dI (va_A wc H.size) w1 t1) (va_A wc H.size) a) (va_A wc H.size)) (hP : va_P (dC, dI) vwCl ws H) (hD : va_D A0 ws) (hS : va_S A0 H0 H locs) (hA : ∀ q, H0.size ≤ q → A0 q) (isC isR : List Nat) (hC : isC.map (fun i => ws[i]?) = wc.map some) (hR : isR.map (fun i => ws[i]?) = wr.map some) (hn : va_nd isR = true) (hdis : ∀ i ∈ isR, i ∉ isC)
    (kk : ∀ (u : S) (H1 : Heap) (locs1 : List Loc), post u → va_P (dC, dI) vwCl (wr ++ w1 u) H1 → va_D A0 (wr ++ w1 u) → va_K (dC, dI) vwCl (t1 u) s → va_S A0 H0 H1 locs1 → W p l e R s m args below meth c H1 locs1 (cells + mc) (slots + ms) Q (F0 m (pc + 3) ls rest)) : W p l e R s m args below meth c H locs cells slots Q (F0 m pc ls st0) :=
  va_callv hr hS (fun q _ h => va_free hD hS hA isC hC q h) (va_free hD hS hA isC hC) (fun u t H1 locs1 ht hvm hp hB hz hk hS1 => by
    obtain ⟨hP1, hK1, hD1⟩ := hB
    rw [ht] at hP1
    obtain ⟨hP', hD'⟩ := va_join hP hD isC isR hC hR hn hdis hk (va_free hD hS hA isC hC) hP1 hD1
    exact kk u H1 locs1 hp hP' hD' (va_K.moved hvm.symm hK1) hS1)
theorem rt_l {S : Type} {post : Int64 → S → Prop} {w1 : S → va_W} {t1 : S → tyL} {v : Int64} (hx : p.tables.exec = Jvm.exec) (hb : c.code = cc) (hr : meth.sig.returnType = some .long) (hlocks : meth.locks = false) (u : S) (hp : post v u) (hP : va_P (dC, dI) vwCl (w1 u) H) (hK : va_K (dC, dI) vwCl (t1 u) s) (hD : va_D A (w1 u)) (hS : va_S A s.heap H locs) (hd : decode cc pc = .ok (.lreturn, 1)) :
    W p l e R s m args below meth c H locs cells slots (MQ below (va_Ql post (bw dC dI A w1 t1) A) args s cells slots A) (F0 m pc ls [.long v]) :=
  W.lret hx hb hr (fun t ht hW => ⟨⟨v, u, rfl, hp, by rw [ht]; exact hP, va_K.moved hW.alike hK, hD⟩, hS.F ht⟩) hS.2.2 hd hlocks
theorem rt_i {S : Type} {post : Int32 → S → Prop} {w1 : S → va_W} {t1 : S → tyL} {v : Int32} (hx : p.tables.exec = Jvm.exec) (hb : c.code = cc) (hr : meth.sig.returnType = some .int) (hlocks : meth.locks = false) (u : S) (hp : post v u) (hP : va_P (dC, dI) vwCl (w1 u) H) (hK : va_K (dC, dI) vwCl (t1 u) s) (hD : va_D A (w1 u)) (hS : va_S A s.heap H locs) (hd : decode cc pc = .ok (.ireturn, 1)) :
    W p l e R s m args below meth c H locs cells slots (MQ below (va_Qi post (bw dC dI A w1 t1) A) args s cells slots A) (F0 m pc ls [.int v]) :=
  W.iret hx hb hr (fun t ht hW => ⟨⟨v, u, rfl, hp, by rw [ht]; exact hP, va_K.moved hW.alike hK, hD⟩, hS.F ht⟩) hS.2.2 hd hlocks
theorem rt_z {S : Type} {post : Int32 → S → Prop} {w1 : S → va_W} {t1 : S → tyL} {v : Int32} (hx : p.tables.exec = Jvm.exec) (hb : c.code = cc) (hr : meth.sig.returnType = some .boolean) (hlocks : meth.locks = false) (hn : narrow .boolean (.int v) = .int v) (u : S) (hp : post v u) (hP : va_P (dC, dI) vwCl (w1 u) H) (hK : va_K (dC, dI) vwCl (t1 u) s) (hD : va_D A (w1 u)) (hS : va_S A s.heap H locs) (hd : decode cc pc = .ok (.ireturn, 1)) :
    W p l e R s m args below meth c H locs cells slots (MQ below (va_Qi post (bw dC dI A w1 t1) A) args s cells slots A) (F0 m pc ls [.int v]) :=
  W.zret hx hb hr hn (fun t ht hW => ⟨⟨v, u, rfl, hp, by rw [ht]; exact hP, va_K.moved hW.alike hK, hD⟩, hS.F ht⟩) hS.2.2 hd hlocks
theorem rt_v {S : Type} {post : S → Prop} {w1 : S → va_W} {t1 : S → tyL} (hx : p.tables.exec = Jvm.exec) (hb : c.code = cc) (hr : meth.sig.returnType = none) (hlocks : meth.locks = false) (u : S) (hp : post u) (hP : va_P (dC, dI) vwCl (w1 u) H) (hK : va_K (dC, dI) vwCl (t1 u) s) (hD : va_D A (w1 u)) (hS : va_S A s.heap H locs) (hd : decode cc pc = .ok (.return_, 1)) :
    W p l e R s m args below meth c H locs cells slots (MQ below (va_Qv post (bw dC dI A w1 t1) A) args s cells slots A) (F0 m pc ls []) :=
  W.vret hx hb hr (fun t ht hW => ⟨⟨u, rfl, hp, by rw [ht]; exact hP, va_K.moved hW.alike hK, hD⟩, hS.F ht⟩) hS.2.2 hd hlocks
end Calls13
end
section
/-! plain rows for the loops -/
theorem sp_m62 {a b : Nat} (ha : a < 2 ^ 31) (hb : b < 2 ^ 31) : a * b < 2 ^ 62 := by
  have h := Nat.mul_le_mul (Nat.le_of_lt_succ ha) (Nat.le_of_lt_succ hb)
  exact Nat.lt_of_le_of_lt h (by decide)
theorem pw_even {r b k p v : Nat} (hk : k % 2 ≠ 1) (h : r * b ^ k % p = v) : r * (b * b % p) ^ (k / 2) % p = v := by
  rw [← h, ← Nat.mul_mod_mod, ← Nat.pow_mod, Nat.mul_mod_mod, ← Nat.pow_two, ← Nat.pow_mul]
  congr 3
  omega
theorem pw_odd {r b k p v : Nat} (hk : k % 2 = 1) (h : r * b ^ k % p = v) : (r * b % p) * (b * b % p) ^ (k / 2) % p = v := by
  rw [← h, ← Nat.mul_mod_mod, ← Nat.pow_mod, ← Nat.mul_mod, ← Nat.pow_two, ← Nat.pow_mul, Nat.mul_assoc]
  congr 2
  rw [Nat.mul_comm b, ← Nat.pow_succ]
  congr 1
  omega
theorem sp_val_n {n p : Nat} (h : sp_val n p) : 1 ≤ n ∧ n ≤ 1024 := by
  obtain ⟨-, -, -, -, ⟨m, hm, rfl⟩, -⟩ := h
  exact ⟨Nat.two_pow_pos m, Nat.pow_le_pow_right (by decide) hm⟩
theorem sp_w_1 (p : Nat) : sp_w 1 p = 1 := by unfold sp_w; rw [if_pos rfl]
theorem sp_w_n {n p : Nat} (h : n ≠ 1) : sp_w n p = sp_h n p ^ ((p - 1) / n) % p := by unfold sp_w; rw [if_neg h]
/-! the test of a prime -/
theorem pr_ge3 {x : Int32} (h : ¬ x < nI 3) : ∃ n : Nat, 3 ≤ n ∧ n < 2 ^ 31 ∧ x = nI n := by
  rw [Int32.lt_iff_toInt_lt, nI_toInt (by decide)] at h
  obtain ⟨n, hn, rfl⟩ := nI_of (x := x) (by rw [Int32.lt_iff_toInt_lt]; show ¬ x.toInt < 0; omega)
  rw [nI_toInt hn] at h
  exact ⟨n, by omega, hn, rfl⟩
theorem pr_lt3 {x : Int32} (h : x < nI 3) : ¬ sp_pp x ∧ ¬ sp_good x := by
  constructor
  · rintro ⟨n, rfl, h3, hn, -⟩
    exact absurd ((nI_ltI (by omega) (by decide)).mp h) (by omega)
  · rintro ⟨n, rfl, h3, hn, -⟩
    exact absurd ((nI_ltI (by omega) (by decide)).mp h) (by omega)
theorem pr_end {n d : Nat} (h : ∀ e, 2 ≤ e → e < d → ¬ n % e = 0) (hd : n < d * d) (h2 : 2 ≤ n) : sp_prm n := by
  refine ⟨h2, fun e he hee => h e he ?_⟩
  rcases Nat.lt_or_ge e d with q | q
  · exact q
  · have := Nat.mul_le_mul q q
    omega
theorem pr_not {n d : Nat} (h2 : 2 ≤ d) (hd : d * d ≤ n) (h : n % d = 0) : ¬ sp_prm n := fun q => q.2 d h2 hd h
theorem pr_even {n e : Nat} (hn : n % 2 = 1) (he : e % 2 = 0) : ¬ n % e = 0 := by
  intro h
  have h1 : 2 ∣ e := Nat.dvd_of_mod_eq_zero he
  have h2 := Nat.mod_eq_zero_of_dvd (Nat.dvd_trans h1 (Nat.dvd_of_mod_eq_zero h))
  omega
theorem pr_sq {d n : Nat} (h : d * d ≤ n) (hn : n < 2 ^ 31) : d ≤ 46340 := by
  rcases Nat.lt_or_ge d 46341 with q | q
  · omega
  · have := Nat.mul_le_mul q q
    omega
theorem pr_pp {n : Nat} (hn : n < 2 ^ 31) (h3 : 3 ≤ n) : sp_pp (nI n) ↔ sp_prm n := by
  constructor
  · rintro ⟨k, hk, -, hk2, hk3⟩
    rw [(nI_eq hn hk2).mp hk]
    exact hk3
  · exact fun h => ⟨n, rfl, h3, hn, h⟩
theorem pr_good {n : Nat} (hn : n < 2 ^ 31) (h3 : 3 ≤ n) : sp_good (nI n) ↔ n ≤ 1000000007 ∧ sp_prm n := by
  constructor
  · rintro ⟨k, hk, -, hk2, hk3⟩
    rw [(nI_eq hn (by omega)).mp hk]
    exact ⟨hk2, hk3⟩
  · exact fun h => ⟨n, rfl, h3, h.1, h.2⟩
theorem sp_bT {P : Prop} (h : P) : sp_b P (nI 1) := Or.inl ⟨rfl, h⟩
theorem sp_bF {P : Prop} (h : ¬ P) : sp_b P (nI 0) := Or.inr ⟨rfl, h⟩
/-! places -/
theorem sp_rev_z : ∀ m : Nat, sp_rev m 0 = 0
  | 0 => rfl
  | m + 1 => by rw [show sp_rev (m + 1) 0 = 0 % 2 * 2 ^ m + sp_rev m (0 / 2) from rfl, show 0 / 2 = 0 from rfl, sp_rev_z m]; simp
theorem p2_le {m : Nat} (h : m ≤ 10) : 2 ^ m ≤ 1024 := Nat.pow_le_pow_right (by decide) h
theorem p2_half {m : Nat} (h : 1 ≤ m) : 2 ^ m / 2 = 2 ^ (m - 1) := by
  obtain ⟨k, rfl⟩ : ∃ k, m = k + 1 := ⟨m - 1, by omega⟩
  rw [Nat.pow_succ, Nat.mul_div_cancel _ (by decide : 0 < 2), Nat.add_sub_cancel]
theorem p2_pos {m i : Nat} (h : i + 1 < 2 ^ m) : 1 ≤ m := by
  rcases Nat.eq_zero_or_pos m with z | z
  · subst z; simp at h
  · exact z
theorem p2_div {r s : Nat} : 2 ^ (r + 1 + s) / (2 * 2 ^ s) = 2 ^ r := by
  rw [show 2 ^ (r + 1 + s) = 2 ^ r * (2 * 2 ^ s) by rw [Nat.pow_add, Nat.pow_succ]; ac_rfl]
  exact Nat.mul_div_cancel _ (Nat.mul_pos (by decide) (Nat.two_pow_pos s))
theorem pw_s {v i p : Nat} : v ^ i % p * v % p = v ^ (i + 1) % p := by rw [Nat.mod_mul_mod, Nat.pow_succ]
/-- the row behind the first i are scaled -/
def sp_sc (y : Nat → Nat) (pt p i : Nat) : Nat → Nat := fun k => if k < i then y k * pt % p else y k
theorem sp_sc_0 (y : Nat → Nat) (pt p : Nat) : sp_sc y pt p 0 = y := funext fun k => if_neg (Nat.not_lt_zero k)
theorem sp_sc_at (y : Nat → Nat) (pt p i : Nat) : sp_sc y pt p i i = y i := if_neg (Nat.lt_irrefl i)
theorem sp_sc_s {f : Nat → Int64} {y : Nat → Nat} {pt p n i : Nat} (hp : 0 < p) (h : sp_rep f (sp_sc y pt p i) n p) : sp_rep (vp_updL f i (lN (y i * pt % p))) (sp_sc y pt p (i + 1)) n p := by
  intro j hj
  obtain ⟨h1, h2⟩ := h j hj
  by_cases k : j = i
  · subst k
    rw [pk_uLs]
    unfold sp_sc
    rw [if_pos (Nat.lt_succ_self j)]
    exact ⟨rfl, Nat.mod_lt _ hp⟩
  · rw [pk_uLn k]
    have e : sp_sc y pt p (i + 1) j = sp_sc y pt p i j := by
      unfold sp_sc
      by_cases q : j < i
      · rw [if_pos q, if_pos (by omega)]
      · rw [if_neg q, if_neg (by omega)]
    rw [e]
    exact ⟨h1, h2⟩
end
section
set_option maxHeartbeats 4000000 in
set_option maxRecDepth 100000 in
theorem lpX1_power {p : Program} {l : Launch} {e : Env} {R : Room} {s : State} {m : MethodId} {args : Array Value} {below : List Frame} {meth : Method} {c : Code} {Q : State → Prop} {cells slots : Nat} {dC : Nat → ClassId} {dI : Nat → Nat → Nat} {A : Nat → Prop} {h0 q0 pn vn : Nat} (hx : p.tables.exec = Jvm.exec) (hb : c.code = cX1_power) (hml : c.maxLocals = 11) (hown : s.vm.findClass RX1 = some m.cls) (hts : ∀ w ∈ lw_all, w.before args s = true) (hA : ∀ q : Nat, s.heap.size ≤ q → A q) (hK : va_K (dC, dI) vwCl [] s) (hp1 : 2 ≤ pn) (hp2 : pn ≤ 1000000007) (hQ : ∀ (rn : Nat), (rn = vn) → ∀ (H : Heap) (locs : List Loc), va_P (dC, dI) vwCl [(h0, .inr (1, [.ref q0, .long (lN pn)]))] H → va_D A [(h0, .inr (1, [.ref q0, .long (lN pn)]))] → va_S A s.heap H locs → ∀ (ls : Array Slot), lv_has ls 11 [(5, .long (lN rn))] → W p l e R s m args below meth c H locs cells slots Q (F0 m 62 ls [])) :
    ∀ (fuel : Nat) (rn : Nat) (bn : Nat) (kn : Nat), (rn < pn) → (bn < 2 ^ 31) → (kn < 2 ^ 63) → (rn * bn ^ kn % pn = vn) → kn < fuel → ∀ (H : Heap) (locs : List Loc), va_P (dC, dI) vwCl [(h0, .inr (1, [.ref q0, .long (lN pn)]))] H → va_D A [(h0, .inr (1, [.ref q0, .long (lN pn)]))] → va_S A s.heap H locs → ∀ (ls : Array Slot), lv_has ls 11 [(9, .long (lN kn)), (7, .long (lN bn)), (5, .long (lN rn)), (0, .ref h0)] → W p l e R s m args below meth c H locs cells slots Q (F0 m 9 ls []) := by
  intro fuel
  induction fuel with
  | zero =>
    intro rn bn kn hr hbn hk hv hfu
    exact absurd hfu (Nat.not_lt_zero _)
  | succ fuel ih =>
    intro rn bn kn hr hbn hk hv hfu H locs hP hD hS ls hl
    refine lv_lload hx hb dX1_power_9 (lv_at hl 0 rfl) ?_
    refine lv_lconst (v := lN 0) hx hb dX1_power_11 rfl ?_
    refine nv_lcmp_le (a := kn) (b := 0) (tgt := 62) hx hb dX1_power_12 dX1_power_13 (by decide) (by omega) (by omega) (fun hc => ?_) (fun hc => ?_)
    · have hk0 : kn = 0 := by omega
      subst hk0
      exact hQ rn (by rw [Nat.pow_zero, Nat.mul_one, Nat.mod_eq_of_lt hr] at hv; exact hv) H locs hP hD hS ls (lv_sub hl [2] rfl)
    · refine lv_lload hx hb dX1_power_16 (lv_at hl 0 rfl) ?_
      refine lv_ldc2 hx hb hown (hts _ q78) dX1_power_18 ?_
      refine nv_cl (y := lN 2) rfl ?_
      refine nv_lrem (a := kn) (b := 2) hx hb dX1_power_21 (by omega) (by omega) (by omega) ?_
      refine lv_lconst (v := lN 1) hx hb dX1_power_22 rfl ?_
      refine nv_lcmp_ne (a := kn % 2) (b := 1) (tgt := 39) hx hb dX1_power_23 dX1_power_24 (by decide) (by omega) (by omega) (fun hc2 => ?_) (fun hc2 => ?_)
      · refine lv_lload hx hb dX1_power_39 (lv_at hl 1 rfl) ?_
        refine lv_lload hx hb dX1_power_41 (lv_at hl 1 rfl) ?_
        refine nv_lmul (a := bn) (b := bn) hx hb dX1_power_43  ?_
        refine lv_aload_n hx hb dX1_power_44 rfl (lv_at hl 3 rfl) ?_
        refine va_get (D := (dC, dI)) (ci := 1) (v := .long (lN pn)) (C := RX1) (T := TX1) (N := 2) hx hb hts in_X1 hown hK hP 0 rfl rfl 1 (by decide) (hts _ q24) (fun _ h9 => h9) rfl dX1_power_45 ?_
        refine nv_lrem (a := bn * bn) (b := pn) hx hb dX1_power_48 (by have := sp_m62 hbn hbn; omega) (by omega) (by omega) ?_
        refine lv_lstore (lv' := [(7, .long (lN ((bn * bn) % pn))), (9, .long (lN kn)), (5, .long (lN rn)), (0, .ref h0)]) hx hb dX1_power_49 hl (by decide) rfl (fun ls hl => ?_)
        refine lv_lload hx hb dX1_power_51 (lv_at hl 1 rfl) ?_
        refine lv_ldc2 hx hb hown (hts _ q78) dX1_power_53 ?_
        refine nv_cl (y := lN 2) rfl ?_
        refine nv_ldiv (a := kn) (b := 2) hx hb dX1_power_56 (by omega) (by omega) (by omega) ?_
        refine lv_lstore (lv' := [(9, .long (lN (kn / 2))), (7, .long (lN ((bn * bn) % pn))), (5, .long (lN rn)), (0, .ref h0)]) hx hb dX1_power_57 hl (by decide) rfl (fun ls hl => ?_)
        refine lv_goto (tgt := 9) hx hb dX1_power_59 (by decide) ?_
        exact ih (rn) (bn * bn % pn) (kn / 2) (hr) (by have := Nat.mod_lt (bn * bn) (show 0 < pn by omega); omega) (by omega) (pw_even hc2 hv) (by omega) H locs hP hD hS ls (lv_sub hl [0, 1, 2, 3] rfl)
      · refine lv_lload hx hb dX1_power_27 (lv_at hl 2 rfl) ?_
        refine lv_lload hx hb dX1_power_29 (lv_at hl 1 rfl) ?_
        refine nv_lmul (a := rn) (b := bn) hx hb dX1_power_31  ?_
        refine lv_aload_n hx hb dX1_power_32 rfl (lv_at hl 3 rfl) ?_
        refine va_get (D := (dC, dI)) (ci := 1) (v := .long (lN pn)) (C := RX1) (T := TX1) (N := 2) hx hb hts in_X1 hown hK hP 0 rfl rfl 1 (by decide) (hts _ q24) (fun _ h9 => h9) rfl dX1_power_33 ?_
        refine nv_lrem (a := rn * bn) (b := pn) hx hb dX1_power_36 (by have := sp_m62 (a := rn) (b := bn) (by omega) hbn; omega) (by omega) (by omega) ?_
        refine lv_lstore (lv' := [(5, .long (lN ((rn * bn) % pn))), (9, .long (lN kn)), (7, .long (lN bn)), (0, .ref h0)]) hx hb dX1_power_37 hl (by decide) rfl (fun ls hl => ?_)
        refine lv_lload hx hb dX1_power_39 (lv_at hl 2 rfl) ?_
        refine lv_lload hx hb dX1_power_41 (lv_at hl 2 rfl) ?_
        refine nv_lmul (a := bn) (b := bn) hx hb dX1_power_43  ?_
        refine lv_aload_n hx hb dX1_power_44 rfl (lv_at hl 3 rfl) ?_
        refine va_get (D := (dC, dI)) (ci := 1) (v := .long (lN pn)) (C := RX1) (T := TX1) (N := 2) hx hb hts in_X1 hown hK hP 0 rfl rfl 1 (by decide) (hts _ q24) (fun _ h9 => h9) rfl dX1_power_45 ?_
        refine nv_lrem (a := bn * bn) (b := pn) hx hb dX1_power_48 (by have := sp_m62 hbn hbn; omega) (by omega) (by omega) ?_
        refine lv_lstore (lv' := [(7, .long (lN ((bn * bn) % pn))), (5, .long (lN ((rn * bn) % pn))), (9, .long (lN kn)), (0, .ref h0)]) hx hb dX1_power_49 hl (by decide) rfl (fun ls hl => ?_)
        refine lv_lload hx hb dX1_power_51 (lv_at hl 2 rfl) ?_
        refine lv_ldc2 hx hb hown (hts _ q78) dX1_power_53 ?_
        refine nv_cl (y := lN 2) rfl ?_
        refine nv_ldiv (a := kn) (b := 2) hx hb dX1_power_56 (by omega) (by omega) (by omega) ?_
        refine lv_lstore (lv' := [(9, .long (lN (kn / 2))), (7, .long (lN ((bn * bn) % pn))), (5, .long (lN ((rn * bn) % pn))), (0, .ref h0)]) hx hb dX1_power_57 hl (by decide) rfl (fun ls hl => ?_)
        refine lv_goto (tgt := 9) hx hb dX1_power_59 (by decide) ?_
        exact ih (rn * bn % pn) (bn * bn % pn) (kn / 2) (Nat.mod_lt _ (by omega)) (by have := Nat.mod_lt (bn * bn) (show 0 < pn by omega); omega) (by omega) (pw_odd hc2 hv) (by omega) H locs hP hD hS ls (lv_sub hl [0, 1, 2, 3] rfl)
set_option maxHeartbeats 4000000 in
set_option maxRecDepth 100000 in
/-- Residues.power(a, n): a to the n, by p -/
theorem metX1_power (l : Launch) (dC : Nat → ClassId) (dI : Nat → Nat → Nat) (sz : Nat) (h0 q0 an en pn : Nat) (ha : an < 2 ^ 31) (he : en < 2 ^ 63) (hp1 : 2 ≤ pn) (hp2 : pn ≤ 1000000007) : Met l yX1_power (ws_ yX1_power cX1_power 11 (some .long)) ({ frames := 0, cells := 0, slots := 0, locals := 0 }) (pcW [.ref h0, .long (lN an), .long (lN en)] sz dC dI [(h0, .inr (1, [.ref q0, .long (lN pn)]))] []) (va_Ql (fun (r : Int64) (u : Unit) => r = lN (an ^ en % pn)) (bw dC dI (va_A [(h0, .inr (1, [.ref q0, .long (lN pn)]))] sz) (fun u => [(h0, .inr (1, [.ref q0, .long (lN pn)]))]) (fun u => [])) (va_A [(h0, .inr (1, [.ref q0, .long (lN pn)]))] sz)) 0 0 (va_A [(h0, .inr (1, [.ref q0, .long (lN pn)]))] sz) := by
  refine Met.ofW (cc := cX1_power) (maxL := 11) (ret := (some .long)) (by decide) rfl ?_
  intro p e s m args below meth c s₁ B hml hv
  obtain ⟨rfl, hsz, hP, hK, hD0⟩ := hv
  have hx := B.exec
  have hb := B.bytes
  have hr := B.returns
  have hts := atoms_spec (ws := ws_ yX1_power cX1_power 11 (some .long)) B.pre
  have hts : ∀ w ∈ lw_all, w.before _ s = true := fun w h => hts w (List.mem_cons_of_mem _ h)
  have hown : s.vm.findClass RX1 = some m.cls := findClass_of_methodNamed B.named
  have hlocks := B.notSynchronized
  subst hsz
  have hD := hD0.self (sz := s.heap.size)
  generalize hAe : va_A [(h0, .inr (1, [.ref q0, .long (lN pn)]))] s.heap.size = A at hD ⊢
  have hA : ∀ q : Nat, s.heap.size ≤ q → A q := fun q h => by rw [← hAe]; exact Or.inr h
  have hS : va_S A s.heap s.heap [] := va_S.rf
  have hP : va_P (dC, dI) vwCl [(h0, .inr (1, [.ref q0, .long (lN pn)]))] s.heap := hP
  have hl := lv_entry ([.ref h0, .long (lN an), .long (lN en)]) (n := 11) (Nat.le_of_ble_eq_true rfl)
  rw [lg_entry_eq]
  generalize (lg_sl ([.ref h0, .long (lN an), .long (lN en)]) ++ List.replicate (11 - (lg_sl ([.ref h0, .long (lN an), .long (lN en)])).length) Slot.unset).toArray = ls at hl ⊢
  have hl : lv_has ls 11 [(0, .ref h0), (1, .long (lN an)), (3, .long (lN en))] := hl
  refine lv_lconst (v := lN 1) hx hb dX1_power_0 rfl ?_
  refine lv_lstore (lv' := [(5, .long (lN 1)), (0, .ref h0), (1, .long (lN an)), (3, .long (lN en))]) hx hb dX1_power_1 hl (by decide) rfl (fun ls hl => ?_)
  refine lv_lload_n hx hb dX1_power_3 rfl (lv_at hl 2 rfl) ?_
  refine lv_lstore (lv' := [(7, .long (lN an)), (5, .long (lN 1)), (0, .ref h0), (1, .long (lN an)), (3, .long (lN en))]) hx hb dX1_power_4 hl (by decide) rfl (fun ls hl => ?_)
  refine lv_lload_n hx hb dX1_power_6 rfl (lv_at hl 4 rfl) ?_
  refine lv_lstore (lv' := [(9, .long (lN en)), (7, .long (lN an)), (5, .long (lN 1)), (0, .ref h0), (1, .long (lN an)), (3, .long (lN en))]) hx hb dX1_power_7 hl (by decide) rfl (fun ls hl => ?_)
  refine lpX1_power (vn := an ^ en % pn) hx hb hml hown hts hA hK hp1 hp2 ?_ (en + 1) 1 an en (by omega) ha he (by rw [Nat.one_mul]) (by omega) s.heap [] hP hD hS ls (lv_sub hl [0, 1, 2, 3] rfl)
  intro rn hrn H locs hP hD hS ls hl
  refine lv_lload hx hb dX1_power_62 (lv_at hl 0 rfl) ?_
  exact rt_l hx hb hr hlocks (()) (by rw [hrn]) (hP.sub [0] rfl) (hK.sub [] rfl) (hD.sub [0] (by decide) rfl) hS dX1_power_64
end
section
set_option maxHeartbeats 4000000 in
set_option maxRecDepth 100000 in
theorem lpX1_root {p : Program} {l : Launch} {e : Env} {s : State} {m : MethodId} {args : Array Value} {below : List Frame} {meth : Method} {c : Code} {Q : State → Prop} {dC : Nat → ClassId} {dI : Nat → Nat → Nat} {A : Nat → Prop} {h0 q0 nn pn : Nat} (hx : p.tables.exec = Jvm.exec) (hb : c.code = cX1_root) (hml : c.maxLocals = 4) (hown : s.vm.findClass RX1 = some m.cls) (hts : ∀ w ∈ lw_all, w.before args s = true) (hA : ∀ q : Nat, s.heap.size ≤ q → A q) (hK : va_K (dC, dI) vwCl [] s) (hv : sp_val nn pn) (hn1 : nn ≠ 1) (hQ : ∀ (H : Heap) (locs : List Loc), va_P (dC, dI) vwCl [(h0, .inr (1, [.ref q0, .long (lN pn)]))] H → va_D A [(h0, .inr (1, [.ref q0, .long (lN pn)]))] → va_S A s.heap H locs → ∀ (ls : Array Slot), lv_has ls 4 [(2, .long (lN (sp_h nn pn))), (0, .ref h0), (1, .int (nI nn))] → W p l e ({ frames := 1, cells := 0, slots := 0, locals := 30 } : Room) s m args below meth c H locs 0 0 Q (F0 m 50 ls [])) :
    ∀ (fuel : Nat) (hn : Nat), (2 ≤ hn) → (hn ≤ sp_h nn pn) → sp_h nn pn - hn < fuel → ∀ (H : Heap) (locs : List Loc), va_P (dC, dI) vwCl [(h0, .inr (1, [.ref q0, .long (lN pn)]))] H → va_D A [(h0, .inr (1, [.ref q0, .long (lN pn)]))] → va_S A s.heap H locs → ∀ (ls : Array Slot), lv_has ls 4 [(2, .long (lN hn)), (0, .ref h0), (1, .int (nI nn))] → W p l e ({ frames := 1, cells := 0, slots := 0, locals := 30 } : Room) s m args below meth c H locs 0 0 Q (F0 m 11 ls []) := by
  intro fuel
  induction fuel with
  | zero =>
    intro hn h2 hle hfu
    exact absurd hfu (Nat.not_lt_zero _)
  | succ fuel ih =>
    intro hn h2 hle hfu H locs hP hD hS ls hl
    have hnn := sp_val_n hv
    have hp3 := hv.2.1
    have hpm := hv.2.2.2.1
    have hdv := Nat.div_le_self (pn - 1) nn
    have hsp := sp_h_spec hv hn1
    refine lv_aload_n hx hb dX1_root_11 rfl (lv_at hl 1 rfl) ?_
    refine lv_aload_n hx hb dX1_root_12 rfl (lv_at hl 1 rfl) ?_
    refine lv_lload_n hx hb dX1_root_13 rfl (lv_at hl 0 rfl) ?_
    refine lv_aload_n hx hb dX1_root_14 rfl (lv_at hl 1 rfl) ?_
    refine va_get (D := (dC, dI)) (ci := 1) (v := .long (lN pn)) (C := RX1) (T := TX1) (N := 2) hx hb hts in_X1 hown hK hP 0 rfl rfl 1 (by decide) (hts _ q24) (fun _ h9 => h9) rfl dX1_root_15 ?_
    refine lv_lconst (v := lN 1) hx hb dX1_root_18 rfl ?_
    refine nv_lsub (a := pn) (b := 1) hx hb dX1_root_19 (by omega) ?_
    refine lv_iload_n hx hb dX1_root_20 rfl (lv_at hl 2 rfl) ?_
    refine nv_i2l (a := nn) hx hb dX1_root_21 (by omega) ?_
    refine nv_ldiv (a := pn - 1) (b := nn) hx hb dX1_root_22 (by omega) (by omega) (by omega) ?_
    refine cl_l (wc := [(h0, .inr (1, [.ref q0, .long (lN pn)]))]) (wr := []) (va_runV (As := [.long (lN hn), .long (lN ((pn - 1) / nn))]) (rest := [.ref h0]) ⟨hx, hb, hml, hown, hts⟩ (metX1_power l dC dI H.size h0 q0 hn ((pn - 1) / nn) pn (by omega) (by omega) (by omega) (by omega)) (cwV 2 hts (lw_V q79 q81 qs0 q5 q82) rfl rfl rfl (by decide +kernel) ⟨Nat.le_of_ble_eq_true rfl, Nat.le_of_ble_eq_true rfl⟩) (preV (wc := [(h0, .inr (1, [.ref q0, .long (lN pn)]))]) (tc := []) (ci := 1) hK hP hD [0] (by decide) rfl [] rfl rfl rfl) rfl rfl hl.1 rfl (lv_room (Nat.le_of_ble_eq_true rfl)) dX1_root_23 ⟨Nat.le_refl _, Nat.le_refl _⟩) hP hD hS hA [0] [] rfl rfl (by decide) (by decide) (fun r1 u1 H locs hw1 hP hD hK1 hS => ?_)
    have hP : va_P (dC, dI) vwCl [(h0, .inr (1, [.ref q0, .long (lN pn)]))] H := hP
    have hD : va_D A [(h0, .inr (1, [.ref q0, .long (lN pn)]))] := hD
    refine nv_cl (y := lN (hn ^ ((pn - 1) / nn) % pn)) hw1 ?_
    refine lv_iload_n hx hb dX1_root_26 rfl (lv_at hl 2 rfl) ?_
    refine lv_iconst (v := nI 2) hx hb dX1_root_27 (by decide) ?_
    refine nv_idiv (a := nn) (b := 2) hx hb dX1_root_28 (by omega) (by omega) (by omega) ?_
    refine nv_i2l (a := nn / 2) hx hb dX1_root_29 (by omega) ?_
    have hml1 := Nat.mod_lt (hn ^ ((pn - 1) / nn)) (show 0 < pn by omega)
    refine cl_l (wc := [(h0, .inr (1, [.ref q0, .long (lN pn)]))]) (wr := []) (va_runV (As := [.long (lN (hn ^ ((pn - 1) / nn) % pn)), .long (lN (nn / 2))]) (rest := []) ⟨hx, hb, hml, hown, hts⟩ (metX1_power l dC dI H.size h0 q0 (hn ^ ((pn - 1) / nn) % pn) (nn / 2) pn (by omega) (by omega) (by omega) (by omega)) (cwV 2 hts (lw_V q79 q81 qs0 q5 q82) rfl rfl rfl (by decide +kernel) ⟨Nat.le_of_ble_eq_true rfl, Nat.le_of_ble_eq_true rfl⟩) (preV (wc := [(h0, .inr (1, [.ref q0, .long (lN pn)]))]) (tc := []) (ci := 1) hK hP hD [0] (by decide) rfl [] rfl rfl rfl) rfl rfl hl.1 rfl (lv_room (Nat.le_of_ble_eq_true rfl)) dX1_root_30 ⟨Nat.le_refl _, Nat.le_refl _⟩) hP hD hS hA [0] [] rfl rfl (by decide) (by decide) (fun r2 u2 H locs hw2 hP hD hK1 hS => ?_)
    have hP : va_P (dC, dI) vwCl [(h0, .inr (1, [.ref q0, .long (lN pn)]))] H := hP
    have hD : va_D A [(h0, .inr (1, [.ref q0, .long (lN pn)]))] := hD
    refine nv_cl (y := lN ((hn ^ ((pn - 1) / nn) % pn) ^ (nn / 2) % pn)) hw2 ?_
    refine lv_aload_n hx hb dX1_root_33 rfl (lv_at hl 1 rfl) ?_
    refine va_get (D := (dC, dI)) (ci := 1) (v := .long (lN pn)) (C := RX1) (T := TX1) (N := 2) hx hb hts in_X1 hown hK hP 0 rfl rfl 1 (by decide) (hts _ q24) (fun _ h9 => h9) rfl dX1_root_34 ?_
    refine lv_lconst (v := lN 1) hx hb dX1_root_37 rfl ?_
    refine nv_lsub (a := pn) (b := 1) hx hb dX1_root_38 (by omega) ?_
    have hml2 := Nat.mod_lt ((hn ^ ((pn - 1) / nn) % pn) ^ (nn / 2)) (show 0 < pn by omega)
    refine nv_lcmp_eq (a := (hn ^ ((pn - 1) / nn) % pn) ^ (nn / 2) % pn) (b := pn - 1) (tgt := 50) hx hb dX1_root_39 dX1_root_40 (by decide) (by omega) (by omega) (fun hc => ?_) (fun hc => ?_)
    · have he : hn = sp_h nn pn := by
        rcases Nat.lt_or_ge hn (sp_h nn pn) with q | q
        · exact absurd hc (hsp.2.2.2 hn h2 q)
        · omega
      subst he
      exact hQ H locs hP hD hS ls hl
    · refine lv_lload_n hx hb dX1_root_43 rfl (lv_at hl 0 rfl) ?_
      refine lv_lconst (v := lN 1) hx hb dX1_root_44 rfl ?_
      refine nv_ladd (a := hn) (b := 1) hx hb dX1_root_45  ?_
      refine lv_lstore_n (lv' := [(2, .long (lN (hn + 1))), (0, .ref h0), (1, .int (nI nn))]) hx hb dX1_root_46 rfl hl (by decide) rfl (fun ls hl => ?_)
      refine lv_goto (tgt := 11) hx hb dX1_root_47 (by decide) ?_
      have hne : hn ≠ sp_h nn pn := fun q => hc (by rw [q]; exact hsp.2.2.1)
      exact ih (hn + 1) (by omega) (by omega) (by omega) H locs hP hD hS ls hl
set_option maxHeartbeats 4000000 in
set_option maxRecDepth 100000 in
/-- Residues.root(n): the root that the transform of n numbers goes by -/
theorem metX1_root (l : Launch) (dC : Nat → ClassId) (dI : Nat → Nat → Nat) (sz : Nat) (h0 q0 nn pn : Nat) (hv : sp_val nn pn) : Met l yX1_root (ws_ yX1_root cX1_root 4 (some .long)) ({ frames := 1, cells := 0, slots := 0, locals := 30 }) (pcW [.ref h0, .int (nI nn)] sz dC dI [(h0, .inr (1, [.ref q0, .long (lN pn)]))] []) (va_Ql (fun (r : Int64) (u : Unit) => r = lN (sp_w nn pn)) (bw dC dI (va_A [(h0, .inr (1, [.ref q0, .long (lN pn)]))] sz) (fun u => [(h0, .inr (1, [.ref q0, .long (lN pn)]))]) (fun u => [])) (va_A [(h0, .inr (1, [.ref q0, .long (lN pn)]))] sz)) 0 0 (va_A [(h0, .inr (1, [.ref q0, .long (lN pn)]))] sz) := by
  refine Met.ofW (cc := cX1_root) (maxL := 4) (ret := (some .long)) (by decide) rfl ?_
  intro p e s m args below meth c s₁ B hml hv
  obtain ⟨rfl, hsz, hP, hK, hD0⟩ := hv
  have hx := B.exec
  have hb := B.bytes
  have hr := B.returns
  have hts := atoms_spec (ws := ws_ yX1_root cX1_root 4 (some .long)) B.pre
  have hts : ∀ w ∈ lw_all, w.before _ s = true := fun w h => hts w (List.mem_cons_of_mem _ h)
  have hown : s.vm.findClass RX1 = some m.cls := findClass_of_methodNamed B.named
  have hlocks := B.notSynchronized
  subst hsz
  have hD := hD0.self (sz := s.heap.size)
  generalize hAe : va_A [(h0, .inr (1, [.ref q0, .long (lN pn)]))] s.heap.size = A at hD ⊢
  have hA : ∀ q : Nat, s.heap.size ≤ q → A q := fun q h => by rw [← hAe]; exact Or.inr h
  have hS : va_S A s.heap s.heap [] := va_S.rf
  have hP : va_P (dC, dI) vwCl [(h0, .inr (1, [.ref q0, .long (lN pn)]))] s.heap := hP
  have hl := lv_entry ([.ref h0, .int (nI nn)]) (n := 4) (Nat.le_of_ble_eq_true rfl)
  rw [lg_entry_eq]
  generalize (lg_sl ([.ref h0, .int (nI nn)]) ++ List.replicate (4 - (lg_sl ([.ref h0, .int (nI nn)])).length) Slot.unset).toArray = ls at hl ⊢
  have hl : lv_has ls 4 [(0, .ref h0), (1, .int (nI nn))] := hl
  have hnn := sp_val_n hv
  have hp3 := hv.2.1
  have hpm := hv.2.2.2.1
  have hdv := Nat.div_le_self (pn - 1) nn
  refine lv_iload_n hx hb dX1_root_0 rfl (lv_at hl 1 rfl) ?_
  refine lv_iconst (v := nI 1) hx hb dX1_root_1 (by decide) ?_
  refine nv_icmp_ne (a := nn) (b := 1) (tgt := 7) hx hb dX1_root_2 (by decide) (by omega) (by omega) (fun hc => ?_) (fun hc => ?_)
  · refine lv_ldc2 hx hb hown (hts _ q78) dX1_root_7 ?_
    refine nv_cl (y := lN 2) rfl ?_
    refine lv_lstore_n (lv' := [(2, .long (lN 2)), (0, .ref h0), (1, .int (nI nn))]) hx hb dX1_root_10 rfl hl (by decide) rfl (fun ls hl => ?_)
    refine lpX1_root hx hb hml hown hts hA hK hv hc ?_ (sp_h nn pn + 1) 2 (by omega) (sp_h_spec hv hc).1 (by omega) s.heap [] hP hD hS ls (lv_sub hl [0, 1, 2] rfl)
    intro H locs hP hD hS ls hl
    refine lv_aload_n hx hb dX1_root_50 rfl (lv_at hl 1 rfl) ?_
    refine lv_lload_n hx hb dX1_root_51 rfl (lv_at hl 0 rfl) ?_
    refine lv_aload_n hx hb dX1_root_52 rfl (lv_at hl 1 rfl) ?_
    refine va_get (D := (dC, dI)) (ci := 1) (v := .long (lN pn)) (C := RX1) (T := TX1) (N := 2) hx hb hts in_X1 hown hK hP 0 rfl rfl 1 (by decide) (hts _ q24) (fun _ h9 => h9) rfl dX1_root_53 ?_
    refine lv_lconst (v := lN 1) hx hb dX1_root_56 rfl ?_
    refine nv_lsub (a := pn) (b := 1) hx hb dX1_root_57 (by omega) ?_
    refine lv_iload_n hx hb dX1_root_58 rfl (lv_at hl 2 rfl) ?_
    refine nv_i2l (a := nn) hx hb dX1_root_59 (by omega) ?_
    refine nv_ldiv (a := pn - 1) (b := nn) hx hb dX1_root_60 (by omega) (by omega) (by omega) ?_
    refine cl_l (wc := [(h0, .inr (1, [.ref q0, .long (lN pn)]))]) (wr := []) (va_runV (As := [.long (lN (sp_h nn pn)), .long (lN ((pn - 1) / nn))]) (rest := []) ⟨hx, hb, hml, hown, hts⟩ (metX1_power l dC dI H.size h0 q0 (sp_h nn pn) ((pn - 1) / nn) pn (by have := (sp_h_spec hv hc).2.1; omega) (by omega) (by omega) (by omega)) (cwV 2 hts (lw_V q79 q81 qs0 q5 q82) rfl rfl rfl (by decide +kernel) ⟨Nat.le_of_ble_eq_true rfl, Nat.le_of_ble_eq_true rfl⟩) (preV (wc := [(h0, .inr (1, [.ref q0, .long (lN pn)]))]) (tc := []) (ci := 1) hK hP hD [0] (by decide) rfl [] rfl rfl rfl) rfl rfl hl.1 rfl (lv_room (Nat.le_of_ble_eq_true rfl)) dX1_root_61 ⟨Nat.le_refl _, Nat.le_refl _⟩) hP hD hS hA [0] [] rfl rfl (by decide) (by decide) (fun r1 u1 H locs hw1 hP hD hK1 hS => ?_)
    have hP : va_P (dC, dI) vwCl [(h0, .inr (1, [.ref q0, .long (lN pn)]))] H := hP
    have hD : va_D A [(h0, .inr (1, [.ref q0, .long (lN pn)]))] := hD
    exact rt_l hx hb hr hlocks (()) (by rw [sp_w_n hc]; exact hw1) (hP.sub [0] rfl) (hK.sub [] rfl) (hD.sub [0] (by decide) rfl) hS dX1_root_64
  · refine lv_lconst (v := lN 1) hx hb dX1_root_5 rfl ?_
    exact rt_l hx hb hr hlocks (()) (by rw [hc, sp_w_1]) (hP.sub [0] rfl) (hK.sub [] rfl) (hD.sub [0] (by decide) rfl) hS dX1_root_6
set_option maxHeartbeats 4000000 in
set_option maxRecDepth 100000 in
theorem lpX1_isPrime {p : Program} {l : Launch} {e : Env} {R : Room} {s : State} {m : MethodId} {args : Array Value} {below : List Frame} {meth : Method} {c : Code} {Q : State → Prop} {cells slots : Nat} {dC : Nat → ClassId} {dI : Nat → Nat → Nat} {A : Nat → Prop} {n : Nat} (hx : p.tables.exec = Jvm.exec) (hb : c.code = cX1_isPrime) (hml : c.maxLocals = 2) (hown : s.vm.findClass RX1 = some m.cls) (hts : ∀ w ∈ lw_all, w.before args s = true) (hA : ∀ q : Nat, s.heap.size ≤ q → A q) (hK : va_K (dC, dI) vwCl [] s) (hn3 : 3 ≤ n) (hn31 : n < 2 ^ 31) (hodd : n % 2 = 1) (hQ1 : (sp_prm n) → ∀ (H : Heap) (locs : List Loc), va_P (dC, dI) vwCl [] H → va_D A [] → va_S A s.heap H locs → ∀ (ls : Array Slot), lv_has ls 2 [] → W p l e R s m args below meth c H locs cells slots Q (F0 m 40 ls [])) (hQ0 : (¬ sp_prm n) → ∀ (H : Heap) (locs : List Loc), va_P (dC, dI) vwCl [] H → va_D A [] → va_S A s.heap H locs → ∀ (ls : Array Slot), lv_has ls 2 [] → W p l e R s m args below meth c H locs cells slots Q (F0 m 32 ls [])) :
    ∀ (fuel : Nat) (dn : Nat), (3 ≤ dn) → (dn ≤ 46343) → (dn % 2 = 1) → (∀ e, 2 ≤ e → e < dn → ¬ n % e = 0) → 50000 - dn < fuel → ∀ (H : Heap) (locs : List Loc), va_P (dC, dI) vwCl [] H → va_D A [] → va_S A s.heap H locs → ∀ (ls : Array Slot), lv_has ls 2 [(1, .int (nI dn)), (0, .int (nI n))] → W p l e R s m args below meth c H locs cells slots Q (F0 m 15 ls []) := by
  intro fuel
  induction fuel with
  | zero =>
    intro dn hd3 hdm hdo hno hfu
    exact absurd hfu (Nat.not_lt_zero _)
  | succ fuel ih =>
    intro dn hd3 hdm hdo hno hfu H locs hP hD hS ls hl
    have hsq := sp_m62 (a := dn) (b := dn) (by omega) (by omega)
    refine lv_iload_n hx hb dX1_isPrime_15 rfl (lv_at hl 0 rfl) ?_
    refine nv_i2l (a := dn) hx hb dX1_isPrime_16 (by omega) ?_
    refine lv_iload_n hx hb dX1_isPrime_17 rfl (lv_at hl 0 rfl) ?_
    refine nv_i2l (a := dn) hx hb dX1_isPrime_18 (by omega) ?_
    refine nv_lmul (a := dn) (b := dn) hx hb dX1_isPrime_19  ?_
    refine lv_iload_n hx hb dX1_isPrime_20 rfl (lv_at hl 1 rfl) ?_
    refine nv_i2l (a := n) hx hb dX1_isPrime_21 (by omega) ?_
    refine nv_lcmp_gt (a := dn * dn) (b := n) (tgt := 40) hx hb dX1_isPrime_22 dX1_isPrime_23 (by decide) (by omega) (by omega) (fun hc => ?_) (fun hc => ?_)
    · exact hQ1 (pr_end hno hc (by omega)) H locs hP hD hS ls (lv_sub hl [] rfl)
    · have hd4 := pr_sq hc hn31
      refine lv_iload_n hx hb dX1_isPrime_26 rfl (lv_at hl 1 rfl) ?_
      refine lv_iload_n hx hb dX1_isPrime_27 rfl (lv_at hl 0 rfl) ?_
      refine nv_irem (a := n) (b := dn) hx hb dX1_isPrime_28 (by omega) (by omega) (by omega) ?_
      refine nv_if_ne (a := n % dn) (tgt := 34) hx hb dX1_isPrime_29 (by decide) (Nat.lt_of_le_of_lt (Nat.mod_le _ _) hn31) (fun hc2 => ?_) (fun hc2 => ?_)
      · refine lv_iinc (v := nI (dn + 2)) (lv' := [(1, .int (nI (dn + 2))), (0, .int (nI n))]) hx hb dX1_isPrime_34 hl (k := 0) rfl (nI_add _ 2) (by decide) rfl (fun ls hl => ?_)
        refine lv_goto (tgt := 15) hx hb dX1_isPrime_37 (by decide) ?_
        exact ih (dn + 2) (by omega) (by omega) (by omega) (fun e he1 he2 => by
          rcases (show e < dn ∨ e = dn ∨ e = dn + 1 by omega) with q | q | q
          · exact hno e he1 q
          · rw [q]; omega
          · rw [q]; exact pr_even hodd (by omega)) (by omega) H locs hP hD hS ls hl
      · exact hQ0 (pr_not (by omega) hc hc2) H locs hP hD hS ls (lv_sub hl [] rfl)
set_option maxHeartbeats 4000000 in
set_option maxRecDepth 100000 in
/-- Residues.isPrime(p) -/
theorem metX1_isPrime (l : Launch) (dC : Nat → ClassId) (dI : Nat → Nat → Nat) (sz : Nat) (x : Int32)  : Met l yX1_isPrime (ws_ yX1_isPrime cX1_isPrime 2 (some .boolean)) ({ frames := 0, cells := 0, slots := 0, locals := 0 }) (pcW [.int x] sz dC dI [] []) (va_Qi (fun (r : Int32) (u : Unit) => sp_b (sp_pp x) r) (bw dC dI (va_A [] sz) (fun u => []) (fun u => [])) (va_A [] sz)) 0 0 (va_A [] sz) := by
  refine Met.ofW (cc := cX1_isPrime) (maxL := 2) (ret := (some .boolean)) (by decide) rfl ?_
  intro p e s m args below meth c s₁ B hml hv
  obtain ⟨rfl, hsz, hP, hK, hD0⟩ := hv
  have hx := B.exec
  have hb := B.bytes
  have hr := B.returns
  have hts := atoms_spec (ws := ws_ yX1_isPrime cX1_isPrime 2 (some .boolean)) B.pre
  have hts : ∀ w ∈ lw_all, w.before _ s = true := fun w h => hts w (List.mem_cons_of_mem _ h)
  have hown : s.vm.findClass RX1 = some m.cls := findClass_of_methodNamed B.named
  have hlocks := B.notSynchronized
  subst hsz
  have hD := hD0.self (sz := s.heap.size)
  generalize hAe : va_A [] s.heap.size = A at hD ⊢
  have hA : ∀ q : Nat, s.heap.size ≤ q → A q := fun q h => by rw [← hAe]; exact Or.inr h
  have hS : va_S A s.heap s.heap [] := va_S.rf
  have hP : va_P (dC, dI) vwCl [] s.heap := hP
  have hl := lv_entry ([.int x]) (n := 2) (Nat.le_of_ble_eq_true rfl)
  rw [lg_entry_eq]
  generalize (lg_sl ([.int x]) ++ List.replicate (2 - (lg_sl ([.int x])).length) Slot.unset).toArray = ls at hl ⊢
  have hl : lv_has ls 2 [(0, .int x)] := hl
  refine lv_iload_n hx hb dX1_isPrime_0 rfl (lv_at hl 0 rfl) ?_
  refine lv_iconst (v := nI 3) hx hb dX1_isPrime_1 (by decide) ?_
  refine lv_icmp_lt (tgt := 11) hx hb dX1_isPrime_2 (by decide) (fun hc => ?_) (fun hc => ?_)
  · refine lv_iconst (v := nI 0) hx hb dX1_isPrime_11 (by decide) ?_
    exact rt_z hx hb hr hlocks rfl (()) (sp_bF (pr_lt3 hc).1) (hP.sub [] rfl) (hK.sub [] rfl) (hD.sub [] (by decide) rfl) hS dX1_isPrime_12
  · obtain ⟨n, hn3, hn31, rfl⟩ := pr_ge3 hc
    refine lv_iload_n hx hb dX1_isPrime_5 rfl (lv_at hl 0 rfl) ?_
    refine lv_iconst (v := nI 2) hx hb dX1_isPrime_6 (by decide) ?_
    refine nv_irem (a := n) (b := 2) hx hb dX1_isPrime_7 (by omega) (by omega) (by omega) ?_
    refine nv_if_ne (a := n % 2) (tgt := 13) hx hb dX1_isPrime_8 (by decide) (by omega) (fun hc2 => ?_) (fun hc2 => ?_)
    · refine lv_iconst (v := nI 3) hx hb dX1_isPrime_13 (by decide) ?_
      refine lv_istore_n (lv' := [(1, .int (nI 3)), (0, .int (nI n))]) hx hb dX1_isPrime_14 rfl hl (by decide) rfl (fun ls hl => ?_)
      refine lpX1_isPrime hx hb hml hown hts hA hK hn3 hn31 (by omega) ?_ ?_ 50001 3 (by omega) (by omega) (by omega) (fun e h1 h2 => by rw [show e = 2 by omega]; omega) (by omega) s.heap [] hP hD hS ls hl
      · intro hpr H locs hP hD hS ls hl
        refine lv_iconst (v := nI 1) hx hb dX1_isPrime_40 (by decide) ?_
        exact rt_z hx hb hr hlocks rfl (()) (sp_bT ((pr_pp hn31 hn3).mpr hpr)) (hP.sub [] rfl) (hK.sub [] rfl) (hD.sub [] (by decide) rfl) hS dX1_isPrime_41
      · intro hpr H locs hP hD hS ls hl
        refine lv_iconst (v := nI 0) hx hb dX1_isPrime_32 (by decide) ?_
        exact rt_z hx hb hr hlocks rfl (()) (sp_bF (fun q => hpr ((pr_pp hn31 hn3).mp q))) (hP.sub [] rfl) (hK.sub [] rfl) (hD.sub [] (by decide) rfl) hS dX1_isPrime_33
    · refine lv_iconst (v := nI 0) hx hb dX1_isPrime_11 (by decide) ?_
      exact rt_z hx hb hr hlocks rfl (()) (sp_bF (fun q => pr_not (d := 2) (by decide) (by omega) hc2 ((pr_pp hn31 hn3).mp q))) (hP.sub [] rfl) (hK.sub [] rfl) (hD.sub [] (by decide) rfl) hS dX1_isPrime_12
end
section
set_option maxHeartbeats 4000000 in
set_option maxRecDepth 100000 in
theorem lpX1_turnI {p : Program} {l : Launch} {e : Env} {R : Room} {s : State} {m : MethodId} {args : Array Value} {below : List Frame} {meth : Method} {c : Code} {Q : State → Prop} {cells slots : Nat} {dC : Nat → ClassId} {dI : Nat → Nat → Nat} {A : Nat → Prop} {h0 q0 : Nat} {pv : Int64} {d0 : ClassId} {f : Nat → Int64} {n1 n3 tg : Nat} (hx : p.tables.exec = Jvm.exec) (hb : c.code = cX1_turn) (hml : c.maxLocals = 7) (hown : s.vm.findClass RX1 = some m.cls) (hts : ∀ w ∈ lw_all, w.before args s = true) (hA : ∀ q : Nat, s.heap.size ≤ q → A q) (hK : va_K (dC, dI) vwCl [(d0, .long)] s)  (hQ : ∀ (H : Heap) (locs : List Loc), va_P (dC, dI) vwCl [(h0, .inr (1, [.ref q0, .long pv])), (q0, .inl (d0, 1024, .inr (.inl f)))] H → va_D A [(h0, .inr (1, [.ref q0, .long pv])), (q0, .inl (d0, 1024, .inr (.inl f)))] → va_S A s.heap H locs → ∀ (ls : Array Slot), lv_has ls 7 [(2, .int (nI tg)), (3, .int (nI n3)), (0, .ref h0), (1, .int (nI n1))] → W p l e R s m args below meth c H locs cells slots Q (F0 m 40 ls [])) :
    ∀ (fuel : Nat) (t : Nat) (cn : Nat), (t < 31) → (cn + 1 < 2 ^ (t + 1)) → (sp_rev (t + 1) (cn + 1) = tg) → t < fuel → ∀ (H : Heap) (locs : List Loc), va_P (dC, dI) vwCl [(h0, .inr (1, [.ref q0, .long pv])), (q0, .inl (d0, 1024, .inr (.inl f)))] H → va_D A [(h0, .inr (1, [.ref q0, .long pv])), (q0, .inl (d0, 1024, .inr (.inl f)))] → va_S A s.heap H locs → ∀ (ls : Array Slot), lv_has ls 7 [(4, .int (nI (2 ^ t))), (2, .int (nI (sp_rev (t + 1) cn))), (3, .int (nI n3)), (0, .ref h0), (1, .int (nI n1))] → W p l e R s m args below meth c H locs cells slots Q (F0 m 14 ls []) := by
  intro fuel
  induction fuel with
  | zero =>
    intro t cn ht hcn htg hfu
    exact absurd hfu (Nat.not_lt_zero _)
  | succ fuel ih =>
    intro t cn ht hcn htg hfu H locs hP hD hS ls hl
    rw [Nat.pow_succ] at hcn
    rcases (show (∃ q, cn = 2 * q) ∨ (∃ q, cn = 2 * q + 1) by rcases Nat.mod_two_eq_zero_or_one cn with z | z; exact Or.inl ⟨cn / 2, by omega⟩; exact Or.inr ⟨cn / 2, by omega⟩) with ⟨q, rfl⟩ | ⟨q, rfl⟩
    · refine lv_iload_n hx hb dX1_turn_14 rfl (lv_at hl 1 rfl) ?_
      refine lv_iload hx hb dX1_turn_15 (lv_at hl 0 rfl) ?_
      refine lv_iand hx hb dX1_turn_17 ?_
      refine nv_ci (y := nI 0) (sp_and_e t q) ?_
      refine nv_if_eq (a := 0) (tgt := 35) hx hb dX1_turn_18 (by decide) (by decide) (fun hc => ?_) (fun hc => ?_)
      · refine lv_iload_n hx hb dX1_turn_35 rfl (lv_at hl 1 rfl) ?_
        refine lv_iload hx hb dX1_turn_36 (lv_at hl 0 rfl) ?_
        refine lv_ior hx hb dX1_turn_38 ?_
        refine nv_ci (y := nI (sp_rev (t + 1) (2 * q + 1))) (sp_or_e t q) ?_
        refine lv_istore_n (lv' := [(2, .int (nI (sp_rev (t + 1) (2 * q + 1)))), (4, .int (nI (2 ^ t))), (3, .int (nI n3)), (0, .ref h0), (1, .int (nI n1))]) hx hb dX1_turn_39 rfl hl (by decide) rfl (fun ls hl => ?_)
        rw [htg] at hl
        exact hQ H locs hP hD hS ls (lv_sub hl [0, 2, 3, 4] rfl)
      · exact absurd hc (by decide)
    · obtain ⟨z, hz0, hz31, hz⟩ := sp_and_o t q ht
      refine lv_iload_n hx hb dX1_turn_14 rfl (lv_at hl 1 rfl) ?_
      refine lv_iload hx hb dX1_turn_15 (lv_at hl 0 rfl) ?_
      refine lv_iand hx hb dX1_turn_17 ?_
      refine nv_ci (y := nI z) hz ?_
      refine nv_if_eq (a := z) (tgt := 35) hx hb dX1_turn_18 (by decide) hz31 (fun hc => ?_) (fun hc => ?_)
      · exact absurd hc (by omega)
      · refine lv_iload_n hx hb dX1_turn_21 rfl (lv_at hl 1 rfl) ?_
        refine lv_iload hx hb dX1_turn_22 (lv_at hl 0 rfl) ?_
        refine lv_ixor hx hb dX1_turn_24 ?_
        refine nv_ci (y := nI (sp_rev t q)) (sp_xor_o t q) ?_
        obtain ⟨t', rfl⟩ : ∃ t', t = t' + 1 := ⟨t - 1, by have := p2_pos (m := t) (i := q) (by omega); omega⟩
        have ht2 : 2 ^ (t' + 1) < 2 ^ 31 := Nat.pow_lt_pow_right (by decide) ht
        refine lv_istore_n (lv' := [(2, .int (nI (sp_rev (t' + 1) q))), (4, .int (nI (2 ^ (t' + 1)))), (3, .int (nI n3)), (0, .ref h0), (1, .int (nI n1))]) hx hb dX1_turn_25 rfl hl (by decide) rfl (fun ls hl => ?_)
        refine lv_iload hx hb dX1_turn_26 (lv_at hl 1 rfl) ?_
        refine lv_iconst (v := nI 2) hx hb dX1_turn_28 (by decide) ?_
        refine nv_idiv (a := 2 ^ (t' + 1)) (b := 2) hx hb dX1_turn_29 (by omega) (by omega) (by omega) ?_
        refine nv_ci (y := nI (2 ^ t')) (congrArg nI (show (2 ^ (t' + 1)) / 2 = 2 ^ t' from (by rw [p2_half (by omega), Nat.add_sub_cancel]))) ?_
        refine lv_istore (lv' := [(4, .int (nI (2 ^ t'))), (2, .int (nI (sp_rev (t' + 1) q))), (3, .int (nI n3)), (0, .ref h0), (1, .int (nI n1))]) hx hb dX1_turn_30 hl (by decide) rfl (fun ls hl => ?_)
        refine lv_goto (tgt := 14) hx hb dX1_turn_32 (by decide) ?_
        exact ih t' q (by omega) (by omega) (by rw [← htg, show 2 * q + 1 + 1 = 2 * (q + 1) by omega, sp_rev_e]) (by omega) H locs hP hD hS ls (lv_sub hl [0, 1, 2, 3, 4] rfl)
set_option maxHeartbeats 4000000 in
set_option maxRecDepth 100000 in
theorem lpX1_turn {p : Program} {l : Launch} {e : Env} {R : Room} {s : State} {m : MethodId} {args : Array Value} {below : List Frame} {meth : Method} {c : Code} {Q : State → Prop} {cells slots : Nat} {dC : Nat → ClassId} {dI : Nat → Nat → Nat} {A : Nat → Prop} {h0 q0 : Nat} {pv : Int64} {d0 : ClassId} {f0 : Nat → Int64} {mm : Nat} (hx : p.tables.exec = Jvm.exec) (hb : c.code = cX1_turn) (hml : c.maxLocals = 7) (hown : s.vm.findClass RX1 = some m.cls) (hts : ∀ w ∈ lw_all, w.before args s = true) (hA : ∀ q : Nat, s.heap.size ≤ q → A q) (hK : va_K (dC, dI) vwCl [(d0, .long)] s) (hm : mm ≤ 10) (hQ : ∀ (f : Nat → Int64), (∀ k, k < 2 ^ mm → f k = f0 (sp_rev mm k)) → ∀ (H : Heap) (locs : List Loc), va_P (dC, dI) vwCl [(h0, .inr (1, [.ref q0, .long pv])), (q0, .inl (d0, 1024, .inr (.inl f)))] H → va_D A [(h0, .inr (1, [.ref q0, .long pv])), (q0, .inl (d0, 1024, .inr (.inl f)))] → va_S A s.heap H locs → ∀ (ls : Array Slot), lv_has ls 7 [] → W p l e R s m args below meth c H locs cells slots Q (F0 m 79 ls [])) :
    ∀ (fuel : Nat) (i : Nat) (f : Nat → Int64), (i + 1 ≤ 2 ^ mm) → (sp_turned f0 mm (i + 1) f) → 2 ^ mm - i < fuel → ∀ (H : Heap) (locs : List Loc), va_P (dC, dI) vwCl [(h0, .inr (1, [.ref q0, .long pv])), (q0, .inl (d0, 1024, .inr (.inl f)))] H → va_D A [(h0, .inr (1, [.ref q0, .long pv])), (q0, .inl (d0, 1024, .inr (.inl f)))] → va_S A s.heap H locs → ∀ (ls : Array Slot), lv_has ls 7 [(3, .int (nI (i + 1))), (2, .int (nI (sp_rev mm i))), (0, .ref h0), (1, .int (nI (2 ^ mm)))] → W p l e R s m args below meth c H locs cells slots Q (F0 m 4 ls []) := by
  intro fuel
  induction fuel with
  | zero =>
    intro i f hi htu hfu
    exact absurd hfu (Nat.not_lt_zero _)
  | succ fuel ih =>
    intro i f hi htu hfu H locs hP hD hS ls hl
    have hle := p2_le hm
    refine lv_iload_n hx hb dX1_turn_4 rfl (lv_at hl 0 rfl) ?_
    refine lv_iload_n hx hb dX1_turn_5 rfl (lv_at hl 3 rfl) ?_
    refine nv_icmp_ge (a := i + 1) (b := 2 ^ mm) (tgt := 79) hx hb dX1_turn_6 (by decide) (by omega) (by omega) (fun hc => ?_) (fun hc => ?_)
    · rw [show i + 1 = 2 ^ mm by omega] at htu
      exact hQ f (sp_turned_e htu) H locs hP hD hS ls (lv_sub hl [] rfl)
    · have hm1 := p2_pos hc
      have em : mm - 1 + 1 = mm := by omega
      refine lv_iload_n hx hb dX1_turn_9 rfl (lv_at hl 3 rfl) ?_
      refine lv_iconst (v := nI 2) hx hb dX1_turn_10 (by decide) ?_
      refine nv_idiv (a := 2 ^ mm) (b := 2) hx hb dX1_turn_11 (by omega) (by omega) (by omega) ?_
      refine nv_ci (y := nI (2 ^ (mm - 1))) (congrArg nI (show (2 ^ mm) / 2 = 2 ^ (mm - 1) from p2_half hm1)) ?_
      refine lv_istore (lv' := [(4, .int (nI (2 ^ (mm - 1)))), (3, .int (nI (i + 1))), (2, .int (nI (sp_rev mm i))), (0, .ref h0), (1, .int (nI (2 ^ mm)))]) hx hb dX1_turn_12 hl (by decide) rfl (fun ls hl => ?_)
      refine lpX1_turnI (tg := sp_rev mm (i + 1)) hx hb hml hown hts hA hK ?_ mm (mm - 1) i (by omega) (by rw [em]; exact hc) (by rw [em]) (by omega) H locs hP hD hS ls (by rw [em]; exact lv_sub hl [0, 2, 1, 3, 4] rfl)
      intro H locs hP hD hS ls hl
      have hrl := sp_rev_lt mm (i + 1)
      refine lv_iload_n hx hb dX1_turn_40 rfl (lv_at hl 1 rfl) ?_
      refine lv_iload_n hx hb dX1_turn_41 rfl (lv_at hl 0 rfl) ?_
      refine nv_icmp_ge (a := i + 1) (b := sp_rev mm (i + 1)) (tgt := 73) hx hb dX1_turn_42 (by decide) (by omega) (by omega) (fun hc2 => ?_) (fun hc2 => ?_)
      · refine lv_iinc (v := nI ((i + 1) + 1)) (lv' := [(3, .int (nI ((i + 1) + 1))), (2, .int (nI (sp_rev mm (i + 1)))), (0, .ref h0), (1, .int (nI (2 ^ mm)))]) hx hb dX1_turn_73 hl (k := 1) rfl (nI_add _ 1) (by decide) rfl (fun ls hl => ?_)
        refine lv_goto (tgt := 4) hx hb dX1_turn_76 (by decide) ?_
        exact ih (i + 1) (f) (by omega) (sp_turned_n htu hc (by omega)) (by omega) H locs hP hD hS ls (lv_sub hl [0, 1, 2, 3] rfl)
      · refine lv_aload_n hx hb dX1_turn_45 rfl (lv_at hl 2 rfl) ?_
        refine va_get (D := (dC, dI)) (ci := 1) (v := .ref q0) (C := RX1) (T := TX1) (N := 2) hx hb hts in_X1 hown hK hP 0 rfl rfl 0 (by decide) (hts _ q21) (fun _ h9 => h9) rfl dX1_turn_46 ?_
        refine lv_iload_n hx hb dX1_turn_49 rfl (lv_at hl 1 rfl) ?_
        refine nv_lald (i := i + 1) hx hb hK hP 1 0 rfl rfl (by omega) (by decide) dX1_turn_50 ?_
        refine lv_lstore (lv' := [(5, .long (f (i + 1))), (2, .int (nI (sp_rev mm (i + 1)))), (3, .int (nI (i + 1))), (0, .ref h0), (1, .int (nI (2 ^ mm)))]) hx hb dX1_turn_51 hl (by decide) rfl (fun ls hl => ?_)
        refine lv_aload_n hx hb dX1_turn_53 rfl (lv_at hl 3 rfl) ?_
        refine va_get (D := (dC, dI)) (ci := 1) (v := .ref q0) (C := RX1) (T := TX1) (N := 2) hx hb hts in_X1 hown hK hP 0 rfl rfl 0 (by decide) (hts _ q21) (fun _ h9 => h9) rfl dX1_turn_54 ?_
        refine lv_iload_n hx hb dX1_turn_57 rfl (lv_at hl 2 rfl) ?_
        refine lv_aload_n hx hb dX1_turn_58 rfl (lv_at hl 3 rfl) ?_
        refine va_get (D := (dC, dI)) (ci := 1) (v := .ref q0) (C := RX1) (T := TX1) (N := 2) hx hb hts in_X1 hown hK hP 0 rfl rfl 0 (by decide) (hts _ q21) (fun _ h9 => h9) rfl dX1_turn_59 ?_
        refine lv_iload_n hx hb dX1_turn_62 rfl (lv_at hl 1 rfl) ?_
        refine nv_lald (i := sp_rev mm (i + 1)) hx hb hK hP 1 0 rfl rfl (by omega) (by decide) dX1_turn_63 ?_
        refine nv_last (i := i + 1) hx hb hK hP hD hS 1 0 rfl rfl (by omega) (by decide) dX1_turn_64 (fun H locs hP hD hS => ?_)
        have hP : va_P (dC, dI) vwCl [(h0, .inr (1, [.ref q0, .long pv])), (q0, .inl (d0, 1024, .inr (.inl (vp_updL f (i + 1) (f (sp_rev mm (i + 1)))))))] H := hP
        have hD : va_D A [(h0, .inr (1, [.ref q0, .long pv])), (q0, .inl (d0, 1024, .inr (.inl (vp_updL f (i + 1) (f (sp_rev mm (i + 1)))))))] := hD
        refine lv_aload_n hx hb dX1_turn_65 rfl (lv_at hl 3 rfl) ?_
        refine va_get (D := (dC, dI)) (ci := 1) (v := .ref q0) (C := RX1) (T := TX1) (N := 2) hx hb hts in_X1 hown hK hP 0 rfl rfl 0 (by decide) (hts _ q21) (fun _ h9 => h9) rfl dX1_turn_66 ?_
        refine lv_iload_n hx hb dX1_turn_69 rfl (lv_at hl 1 rfl) ?_
        refine lv_lload hx hb dX1_turn_70 (lv_at hl 0 rfl) ?_
        refine nv_last (i := sp_rev mm (i + 1)) hx hb hK hP hD hS 1 0 rfl rfl (by omega) (by decide) dX1_turn_72 (fun H locs hP hD hS => ?_)
        have hP : va_P (dC, dI) vwCl [(h0, .inr (1, [.ref q0, .long pv])), (q0, .inl (d0, 1024, .inr (.inl (vp_updL (vp_updL f (i + 1) (f (sp_rev mm (i + 1)))) (sp_rev mm (i + 1)) (f (i + 1))))))] H := hP
        have hD : va_D A [(h0, .inr (1, [.ref q0, .long pv])), (q0, .inl (d0, 1024, .inr (.inl (vp_updL (vp_updL f (i + 1) (f (sp_rev mm (i + 1)))) (sp_rev mm (i + 1)) (f (i + 1))))))] := hD
        refine lv_iinc (v := nI ((i + 1) + 1)) (lv' := [(3, .int (nI ((i + 1) + 1))), (5, .long (f (i + 1))), (2, .int (nI (sp_rev mm (i + 1)))), (0, .ref h0), (1, .int (nI (2 ^ mm)))]) hx hb dX1_turn_73 hl (k := 2) rfl (nI_add _ 1) (by decide) rfl (fun ls hl => ?_)
        refine lv_goto (tgt := 4) hx hb dX1_turn_76 (by decide) ?_
        exact ih (i + 1) (vp_updL (vp_updL f (i + 1) (f (sp_rev mm (i + 1)))) (sp_rev mm (i + 1)) (f (i + 1))) (by omega) (sp_turned_s htu hc hc2) (by omega) H locs hP hD hS ls (lv_sub hl [0, 2, 3, 4] rfl)
set_option maxHeartbeats 4000000 in
set_option maxRecDepth 100000 in
/-- Residues.turn(n) -/
theorem metX1_turn (l : Launch) (dC : Nat → ClassId) (dI : Nat → Nat → Nat) (sz : Nat) (h0 q0 : Nat) (pv : Int64) (d0 : ClassId) (f0 : Nat → Int64) (mm : Nat) (hm : mm ≤ 10) : Met l yX1_turn (ws_ yX1_turn cX1_turn 7 none) ({ frames := 0, cells := 0, slots := 0, locals := 0 }) (pcW [.ref h0, .int (nI (2 ^ mm))] sz dC dI [(h0, .inr (1, [.ref q0, .long pv])), (q0, .inl (d0, 1024, .inr (.inl f0)))] [(d0, .long)]) (va_Qv (fun (u : Nat → Int64) => ∀ k, k < 2 ^ mm → u k = f0 (sp_rev mm k)) (bw dC dI (va_A [(h0, .inr (1, [.ref q0, .long pv])), (q0, .inl (d0, 1024, .inr (.inl f0)))] sz) (fun u => [(h0, .inr (1, [.ref q0, .long pv])), (q0, .inl (d0, 1024, .inr (.inl u)))]) (fun u => [(d0, .long)])) (va_A [(h0, .inr (1, [.ref q0, .long pv])), (q0, .inl (d0, 1024, .inr (.inl f0)))] sz)) 0 0 (va_A [(h0, .inr (1, [.ref q0, .long pv])), (q0, .inl (d0, 1024, .inr (.inl f0)))] sz) := by
  refine Met.ofW (cc := cX1_turn) (maxL := 7) (ret := none) (by decide) rfl ?_
  intro p e s m args below meth c s₁ B hml hv
  obtain ⟨rfl, hsz, hP, hK, hD0⟩ := hv
  have hx := B.exec
  have hb := B.bytes
  have hr := B.returns
  have hts := atoms_spec (ws := ws_ yX1_turn cX1_turn 7 none) B.pre
  have hts : ∀ w ∈ lw_all, w.before _ s = true := fun w h => hts w (List.mem_cons_of_mem _ h)
  have hown : s.vm.findClass RX1 = some m.cls := findClass_of_methodNamed B.named
  have hlocks := B.notSynchronized
  subst hsz
  have hD := hD0.self (sz := s.heap.size)
  generalize hAe : va_A [(h0, .inr (1, [.ref q0, .long pv])), (q0, .inl (d0, 1024, .inr (.inl f0)))] s.heap.size = A at hD ⊢
  have hA : ∀ q : Nat, s.heap.size ≤ q → A q := fun q h => by rw [← hAe]; exact Or.inr h
  have hS : va_S A s.heap s.heap [] := va_S.rf
  have hP : va_P (dC, dI) vwCl [(h0, .inr (1, [.ref q0, .long pv])), (q0, .inl (d0, 1024, .inr (.inl f0)))] s.heap := hP
  have hl := lv_entry ([.ref h0, .int (nI (2 ^ mm))]) (n := 7) (Nat.le_of_ble_eq_true rfl)
  rw [lg_entry_eq]
  generalize (lg_sl ([.ref h0, .int (nI (2 ^ mm))]) ++ List.replicate (7 - (lg_sl ([.ref h0, .int (nI (2 ^ mm))])).length) Slot.unset).toArray = ls at hl ⊢
  have hl : lv_has ls 7 [(0, .ref h0), (1, .int (nI (2 ^ mm)))] := hl
  refine lv_iconst (v := nI 0) hx hb dX1_turn_0 (by decide) ?_
  refine lv_istore_n (lv' := [(2, .int (nI 0)), (0, .ref h0), (1, .int (nI (2 ^ mm)))]) hx hb dX1_turn_1 rfl hl (by decide) rfl (fun ls hl => ?_)
  refine lv_iconst (v := nI 1) hx hb dX1_turn_2 (by decide) ?_
  refine lv_istore_n (lv' := [(3, .int (nI 1)), (2, .int (nI 0)), (0, .ref h0), (1, .int (nI (2 ^ mm)))]) hx hb dX1_turn_3 rfl hl (by decide) rfl (fun ls hl => ?_)
  refine lpX1_turn hx hb hml hown hts hA hK hm ?_ (2 ^ mm + 1) 0 f0 (Nat.two_pow_pos mm) (sp_turned_0 f0 mm) (Nat.lt_succ_of_le (Nat.sub_le _ _)) s.heap [] hP hD hS ls (by rw [sp_rev_z]; exact lv_sub hl [0, 1, 2, 3] rfl)
  intro f hf H locs hP hD hS ls hl
  exact rt_v hx hb hr hlocks f hf (hP.sub [0, 1] rfl) (hK.sub [0] rfl) (hD.sub [0, 1] (by decide) rfl) hS dX1_turn_79
set_option maxHeartbeats 4000000 in
set_option maxRecDepth 100000 in
theorem lpX1_pair {p : Program} {l : Launch} {e : Env} {R : Room} {s : State} {m : MethodId} {args : Array Value} {below : List Frame} {meth : Method} {c : Code} {Q : State → Prop} {cells slots : Nat} {dC : Nat → ClassId} {dI : Nat → Nat → Nat} {A : Nat → Prop} {h0 q0 : Nat} {d0 : ClassId} {g : Nat → Nat} {fr half vn nn pn : Nat} (hx : p.tables.exec = Jvm.exec) (hb : c.code = cX1_pair) (hml : c.maxLocals = 12) (hown : s.vm.findClass RX1 = some m.cls) (hts : ∀ w ∈ lw_all, w.before args s = true) (hA : ∀ q : Nat, s.heap.size ≤ q → A q) (hK : va_K (dC, dI) vwCl [(d0, .long)] s) (hp1 : 2 ≤ pn) (hp2 : pn ≤ 1000000007) (hvn : vn < pn) (hnn : nn ≤ 1024) (hfr : fr + 2 * half ≤ nn) (hQ : ∀ (f : Nat → Int64), (sp_rep f (sp_pairF g pn vn fr half half) nn pn) → ∀ (H : Heap) (locs : List Loc), va_P (dC, dI) vwCl [(h0, .inr (1, [.ref q0, .long (lN pn)])), (q0, .inl (d0, 1024, .inr (.inl f)))] H → va_D A [(h0, .inr (1, [.ref q0, .long (lN pn)])), (q0, .inl (d0, 1024, .inr (.inl f)))] → va_S A s.heap H locs → ∀ (ls : Array Slot), lv_has ls 12 [] → W p l e R s m args below meth c H locs cells slots Q (F0 m 100 ls [])) :
    ∀ (fuel : Nat) (i : Nat) (f : Nat → Int64), (i ≤ half) → (sp_rep f (sp_pairF g pn vn fr half i) nn pn) → half - i < fuel → ∀ (H : Heap) (locs : List Loc), va_P (dC, dI) vwCl [(h0, .inr (1, [.ref q0, .long (lN pn)])), (q0, .inl (d0, 1024, .inr (.inl f)))] H → va_D A [(h0, .inr (1, [.ref q0, .long (lN pn)])), (q0, .inl (d0, 1024, .inr (.inl f)))] → va_S A s.heap H locs → ∀ (ls : Array Slot), lv_has ls 12 [(7, .int (nI (fr + i))), (5, .long (lN (vn ^ i % pn))), (0, .ref h0), (1, .int (nI fr)), (2, .int (nI half)), (3, .long (lN vn))] → W p l e R s m args below meth c H locs cells slots Q (F0 m 6 ls []) := by
  intro fuel
  induction fuel with
  | zero =>
    intro i f hi hf hfu
    exact absurd hfu (Nat.not_lt_zero _)
  | succ fuel ih =>
    intro i f hi hf hfu H locs hP hD hS ls hl
    refine lv_iload hx hb dX1_pair_6 (lv_at hl 0 rfl) ?_
    refine lv_iload_n hx hb dX1_pair_8 rfl (lv_at hl 3 rfl) ?_
    refine lv_iload_n hx hb dX1_pair_9 rfl (lv_at hl 4 rfl) ?_
    refine nv_iadd (a := fr) (b := half) hx hb dX1_pair_10  ?_
    refine nv_icmp_ge (a := fr + i) (b := fr + half) (tgt := 100) hx hb dX1_pair_11 (by decide) (by omega) (by omega) (fun hc => ?_) (fun hc => ?_)
    · have he : i = half := by omega
      subst he
      exact hQ f hf H locs hP hD hS ls (lv_sub hl [] rfl)
    · have hi2 : i < half := by omega
      have ha1 := hf (fr + i) (by omega)
      have hb1 := hf (fr + i + half) (by omega)
      rw [(sp_pairF_at hi2).1] at ha1
      rw [(sp_pairF_at hi2).2] at hb1
      obtain ⟨ha1, ha2⟩ := ha1
      obtain ⟨hb1, hb2⟩ := hb1
      have hw1 := Nat.mod_lt (vn ^ i) (show 0 < pn by omega)
      have hm1 := sp_m62 (a := g (fr + i + half)) (b := vn ^ i % pn) (by omega) (by omega)
      have hm2 := Nat.mod_lt (g (fr + i + half) * (vn ^ i % pn)) (show 0 < pn by omega)
      have hm3 := sp_m62 (a := vn ^ i % pn) (b := vn) (by omega) (by omega)
      refine lv_aload_n hx hb dX1_pair_14 rfl (lv_at hl 2 rfl) ?_
      refine va_get (D := (dC, dI)) (ci := 1) (v := .ref q0) (C := RX1) (T := TX1) (N := 2) hx hb hts in_X1 hown hK hP 0 rfl rfl 0 (by decide) (hts _ q21) (fun _ h9 => h9) rfl dX1_pair_15 ?_
      refine lv_iload hx hb dX1_pair_18 (lv_at hl 0 rfl) ?_
      refine nv_lald (i := fr + i) hx hb hK hP 1 0 rfl rfl (by omega) (by decide) dX1_pair_20 ?_
      refine nv_cl (y := lN (g (fr + i))) ha1 ?_
      refine lv_lstore (lv' := [(8, .long (lN (g (fr + i)))), (7, .int (nI (fr + i))), (5, .long (lN (vn ^ i % pn))), (0, .ref h0), (1, .int (nI fr)), (2, .int (nI half)), (3, .long (lN vn))]) hx hb dX1_pair_21 hl (by decide) rfl (fun ls hl => ?_)
      refine lv_aload_n hx hb dX1_pair_23 rfl (lv_at hl 3 rfl) ?_
      refine va_get (D := (dC, dI)) (ci := 1) (v := .ref q0) (C := RX1) (T := TX1) (N := 2) hx hb hts in_X1 hown hK hP 0 rfl rfl 0 (by decide) (hts _ q21) (fun _ h9 => h9) rfl dX1_pair_24 ?_
      refine lv_iload hx hb dX1_pair_27 (lv_at hl 1 rfl) ?_
      refine lv_iload_n hx hb dX1_pair_29 rfl (lv_at hl 5 rfl) ?_
      refine nv_iadd (a := fr + i) (b := half) hx hb dX1_pair_30  ?_
      refine nv_lald (i := (fr + i) + half) hx hb hK hP 1 0 rfl rfl (by omega) (by decide) dX1_pair_31 ?_
      refine nv_cl (y := lN (g (fr + i + half))) hb1 ?_
      refine lv_lload hx hb dX1_pair_32 (lv_at hl 2 rfl) ?_
      refine nv_lmul (a := g (fr + i + half)) (b := vn ^ i % pn) hx hb dX1_pair_34  ?_
      refine lv_aload_n hx hb dX1_pair_35 rfl (lv_at hl 3 rfl) ?_
      refine va_get (D := (dC, dI)) (ci := 1) (v := .long (lN pn)) (C := RX1) (T := TX1) (N := 2) hx hb hts in_X1 hown hK hP 0 rfl rfl 1 (by decide) (hts _ q24) (fun _ h9 => h9) rfl dX1_pair_36 ?_
      refine nv_lrem (a := (g (fr + i + half)) * (vn ^ i % pn)) (b := pn) hx hb dX1_pair_39 (by omega) (by omega) (by omega) ?_
      refine lv_lstore (lv' := [(10, .long (lN (((g (fr + i + half)) * (vn ^ i % pn)) % pn))), (8, .long (lN (g (fr + i)))), (7, .int (nI (fr + i))), (5, .long (lN (vn ^ i % pn))), (0, .ref h0), (1, .int (nI fr)), (2, .int (nI half)), (3, .long (lN vn))]) hx hb dX1_pair_40 hl (by decide) rfl (fun ls hl => ?_)
      refine lv_aload_n hx hb dX1_pair_42 rfl (lv_at hl 4 rfl) ?_
      refine va_get (D := (dC, dI)) (ci := 1) (v := .ref q0) (C := RX1) (T := TX1) (N := 2) hx hb hts in_X1 hown hK hP 0 rfl rfl 0 (by decide) (hts _ q21) (fun _ h9 => h9) rfl dX1_pair_43 ?_
      refine lv_iload hx hb dX1_pair_46 (lv_at hl 2 rfl) ?_
      refine lv_lload hx hb dX1_pair_48 (lv_at hl 1 rfl) ?_
      refine lv_lload hx hb dX1_pair_50 (lv_at hl 0 rfl) ?_
      refine nv_ladd (a := g (fr + i)) (b := ((g (fr + i + half)) * (vn ^ i % pn)) % pn) hx hb dX1_pair_52  ?_
      refine lv_aload_n hx hb dX1_pair_53 rfl (lv_at hl 4 rfl) ?_
      refine va_get (D := (dC, dI)) (ci := 1) (v := .long (lN pn)) (C := RX1) (T := TX1) (N := 2) hx hb hts in_X1 hown hK hP 0 rfl rfl 1 (by decide) (hts _ q24) (fun _ h9 => h9) rfl dX1_pair_54 ?_
      refine nv_lrem (a := (g (fr + i)) + (((g (fr + i + half)) * (vn ^ i % pn)) % pn)) (b := pn) hx hb dX1_pair_57 (by omega) (by omega) (by omega) ?_
      refine nv_last (i := fr + i) hx hb hK hP hD hS 1 0 rfl rfl (by omega) (by decide) dX1_pair_58 (fun H locs hP hD hS => ?_)
      have hP : va_P (dC, dI) vwCl [(h0, .inr (1, [.ref q0, .long (lN pn)])), (q0, .inl (d0, 1024, .inr (.inl (vp_updL f (fr + i) (lN (((g (fr + i)) + (((g (fr + i + half)) * (vn ^ i % pn)) % pn)) % pn))))))] H := hP
      have hD : va_D A [(h0, .inr (1, [.ref q0, .long (lN pn)])), (q0, .inl (d0, 1024, .inr (.inl (vp_updL f (fr + i) (lN (((g (fr + i)) + (((g (fr + i + half)) * (vn ^ i % pn)) % pn)) % pn))))))] := hD
      refine lv_aload_n hx hb dX1_pair_59 rfl (lv_at hl 4 rfl) ?_
      refine va_get (D := (dC, dI)) (ci := 1) (v := .ref q0) (C := RX1) (T := TX1) (N := 2) hx hb hts in_X1 hown hK hP 0 rfl rfl 0 (by decide) (hts _ q21) (fun _ h9 => h9) rfl dX1_pair_60 ?_
      refine lv_iload hx hb dX1_pair_63 (lv_at hl 2 rfl) ?_
      refine lv_iload_n hx hb dX1_pair_65 rfl (lv_at hl 6 rfl) ?_
      refine nv_iadd (a := fr + i) (b := half) hx hb dX1_pair_66  ?_
      refine lv_lload hx hb dX1_pair_67 (lv_at hl 1 rfl) ?_
      refine lv_aload_n hx hb dX1_pair_69 rfl (lv_at hl 4 rfl) ?_
      refine va_get (D := (dC, dI)) (ci := 1) (v := .long (lN pn)) (C := RX1) (T := TX1) (N := 2) hx hb hts in_X1 hown hK hP 0 rfl rfl 1 (by decide) (hts _ q24) (fun _ h9 => h9) rfl dX1_pair_70 ?_
      refine nv_ladd (a := g (fr + i)) (b := pn) hx hb dX1_pair_73  ?_
      refine lv_lload hx hb dX1_pair_74 (lv_at hl 0 rfl) ?_
      refine nv_lsub (a := (g (fr + i)) + pn) (b := ((g (fr + i + half)) * (vn ^ i % pn)) % pn) hx hb dX1_pair_76 (by omega) ?_
      refine lv_aload_n hx hb dX1_pair_77 rfl (lv_at hl 4 rfl) ?_
      refine va_get (D := (dC, dI)) (ci := 1) (v := .long (lN pn)) (C := RX1) (T := TX1) (N := 2) hx hb hts in_X1 hown hK hP 0 rfl rfl 1 (by decide) (hts _ q24) (fun _ h9 => h9) rfl dX1_pair_78 ?_
      refine nv_lrem (a := ((g (fr + i)) + pn) - (((g (fr + i + half)) * (vn ^ i % pn)) % pn)) (b := pn) hx hb dX1_pair_81 (by omega) (by omega) (by omega) ?_
      refine nv_last (i := (fr + i) + half) hx hb hK hP hD hS 1 0 rfl rfl (by omega) (by decide) dX1_pair_82 (fun H locs hP hD hS => ?_)
      have hP : va_P (dC, dI) vwCl [(h0, .inr (1, [.ref q0, .long (lN pn)])), (q0, .inl (d0, 1024, .inr (.inl (vp_updL (vp_updL f (fr + i) (lN (((g (fr + i)) + (((g (fr + i + half)) * (vn ^ i % pn)) % pn)) % pn))) ((fr + i) + half) (lN ((((g (fr + i)) + pn) - (((g (fr + i + half)) * (vn ^ i % pn)) % pn)) % pn))))))] H := hP
      have hD : va_D A [(h0, .inr (1, [.ref q0, .long (lN pn)])), (q0, .inl (d0, 1024, .inr (.inl (vp_updL (vp_updL f (fr + i) (lN (((g (fr + i)) + (((g (fr + i + half)) * (vn ^ i % pn)) % pn)) % pn))) ((fr + i) + half) (lN ((((g (fr + i)) + pn) - (((g (fr + i + half)) * (vn ^ i % pn)) % pn)) % pn))))))] := hD
      refine lv_lload hx hb dX1_pair_83 (lv_at hl 3 rfl) ?_
      refine lv_lload_n hx hb dX1_pair_85 rfl (lv_at hl 7 rfl) ?_
      refine nv_lmul (a := vn ^ i % pn) (b := vn) hx hb dX1_pair_86  ?_
      refine lv_aload_n hx hb dX1_pair_87 rfl (lv_at hl 4 rfl) ?_
      refine va_get (D := (dC, dI)) (ci := 1) (v := .long (lN pn)) (C := RX1) (T := TX1) (N := 2) hx hb hts in_X1 hown hK hP 0 rfl rfl 1 (by decide) (hts _ q24) (fun _ h9 => h9) rfl dX1_pair_88 ?_
      refine nv_lrem (a := (vn ^ i % pn) * vn) (b := pn) hx hb dX1_pair_91 (by omega) (by omega) (by omega) ?_
      refine nv_cl (y := lN (vn ^ (i + 1) % pn)) (congrArg lN (show ((vn ^ i % pn) * vn) % pn = vn ^ (i + 1) % pn from pw_s)) ?_
      refine lv_lstore (lv' := [(5, .long (lN (vn ^ (i + 1) % pn))), (10, .long (lN (((g (fr + i + half)) * (vn ^ i % pn)) % pn))), (8, .long (lN (g (fr + i)))), (7, .int (nI (fr + i))), (0, .ref h0), (1, .int (nI fr)), (2, .int (nI half)), (3, .long (lN vn))]) hx hb dX1_pair_92 hl (by decide) rfl (fun ls hl => ?_)
      refine lv_iinc (v := nI ((fr + i) + 1)) (lv' := [(7, .int (nI ((fr + i) + 1))), (5, .long (lN (vn ^ (i + 1) % pn))), (10, .long (lN (((g (fr + i + half)) * (vn ^ i % pn)) % pn))), (8, .long (lN (g (fr + i)))), (0, .ref h0), (1, .int (nI fr)), (2, .int (nI half)), (3, .long (lN vn))]) hx hb dX1_pair_94 hl (k := 3) rfl (nI_add _ 1) (by decide) rfl (fun ls hl => ?_)
      refine lv_goto (tgt := 6) hx hb dX1_pair_97 (by decide) ?_
      exact ih (i + 1) (vp_updL (vp_updL f (fr + i) (lN (((g (fr + i)) + (((g (fr + i + half)) * (vn ^ i % pn)) % pn)) % pn))) ((fr + i) + half) (lN ((((g (fr + i)) + pn) - (((g (fr + i + half)) * (vn ^ i % pn)) % pn)) % pn))) (by omega) (sp_pairF_s hf (by omega) hi2) (by omega) H locs hP hD hS ls (lv_sub hl [0, 1, 4, 5, 6, 7] rfl)
set_option maxHeartbeats 4000000 in
set_option maxRecDepth 100000 in
/-- Residues.pair(from, half, by) -/
theorem metX1_pair (l : Launch) (dC : Nat → ClassId) (dI : Nat → Nat → Nat) (sz : Nat) (h0 q0 : Nat) (d0 : ClassId) (f0 : Nat → Int64) (g : Nat → Nat) (fr half vn nn pn : Nat) (hp1 : 2 ≤ pn) (hp2 : pn ≤ 1000000007) (hvn : vn < pn) (hnn : nn ≤ 1024) (hfr : fr + 2 * half ≤ nn) (hf : sp_rep f0 g nn pn) : Met l yX1_pair (ws_ yX1_pair cX1_pair 12 none) ({ frames := 0, cells := 0, slots := 0, locals := 0 }) (pcW [.ref h0, .int (nI fr), .int (nI half), .long (lN vn)] sz dC dI [(h0, .inr (1, [.ref q0, .long (lN pn)])), (q0, .inl (d0, 1024, .inr (.inl f0)))] [(d0, .long)]) (va_Qv (fun (u : Nat → Int64) => sp_rep u (sp_pairF g pn vn fr half half) nn pn) (bw dC dI (va_A [(h0, .inr (1, [.ref q0, .long (lN pn)])), (q0, .inl (d0, 1024, .inr (.inl f0)))] sz) (fun u => [(h0, .inr (1, [.ref q0, .long (lN pn)])), (q0, .inl (d0, 1024, .inr (.inl u)))]) (fun u => [(d0, .long)])) (va_A [(h0, .inr (1, [.ref q0, .long (lN pn)])), (q0, .inl (d0, 1024, .inr (.inl f0)))] sz)) 0 0 (va_A [(h0, .inr (1, [.ref q0, .long (lN pn)])), (q0, .inl (d0, 1024, .inr (.inl f0)))] sz) := by
  refine Met.ofW (cc := cX1_pair) (maxL := 12) (ret := none) (by decide) rfl ?_
  intro p e s m args below meth c s₁ B hml hv
  obtain ⟨rfl, hsz, hP, hK, hD0⟩ := hv
  have hx := B.exec
  have hb := B.bytes
  have hr := B.returns
  have hts := atoms_spec (ws := ws_ yX1_pair cX1_pair 12 none) B.pre
  have hts : ∀ w ∈ lw_all, w.before _ s = true := fun w h => hts w (List.mem_cons_of_mem _ h)
  have hown : s.vm.findClass RX1 = some m.cls := findClass_of_methodNamed B.named
  have hlocks := B.notSynchronized
  subst hsz
  have hD := hD0.self (sz := s.heap.size)
  generalize hAe : va_A [(h0, .inr (1, [.ref q0, .long (lN pn)])), (q0, .inl (d0, 1024, .inr (.inl f0)))] s.heap.size = A at hD ⊢
  have hA : ∀ q : Nat, s.heap.size ≤ q → A q := fun q h => by rw [← hAe]; exact Or.inr h
  have hS : va_S A s.heap s.heap [] := va_S.rf
  have hP : va_P (dC, dI) vwCl [(h0, .inr (1, [.ref q0, .long (lN pn)])), (q0, .inl (d0, 1024, .inr (.inl f0)))] s.heap := hP
  have hl := lv_entry ([.ref h0, .int (nI fr), .int (nI half), .long (lN vn)]) (n := 12) (Nat.le_of_ble_eq_true rfl)
  rw [lg_entry_eq]
  generalize (lg_sl ([.ref h0, .int (nI fr), .int (nI half), .long (lN vn)]) ++ List.replicate (12 - (lg_sl ([.ref h0, .int (nI fr), .int (nI half), .long (lN vn)])).length) Slot.unset).toArray = ls at hl ⊢
  have hl : lv_has ls 12 [(0, .ref h0), (1, .int (nI fr)), (2, .int (nI half)), (3, .long (lN vn))] := hl
  refine lv_lconst (v := lN 1) hx hb dX1_pair_0 rfl ?_
  refine lv_lstore (lv' := [(5, .long (lN 1)), (0, .ref h0), (1, .int (nI fr)), (2, .int (nI half)), (3, .long (lN vn))]) hx hb dX1_pair_1 hl (by decide) rfl (fun ls hl => ?_)
  refine lv_iload_n hx hb dX1_pair_3 rfl (lv_at hl 2 rfl) ?_
  refine lv_istore (lv' := [(7, .int (nI fr)), (5, .long (lN 1)), (0, .ref h0), (1, .int (nI fr)), (2, .int (nI half)), (3, .long (lN vn))]) hx hb dX1_pair_4 hl (by decide) rfl (fun ls hl => ?_)
  refine lpX1_pair (g := g) (nn := nn) hx hb hml hown hts hA hK hp1 hp2 hvn hnn hfr ?_ (half + 1) 0 f0 (Nat.zero_le _) (by rw [sp_pairF_0]; exact hf) (by omega) s.heap [] hP hD hS ls (by rw [Nat.pow_zero, Nat.mod_eq_of_lt (show 1 < pn by omega)]; exact lv_sub hl [0, 1, 2, 3, 4, 5] rfl)
  intro f hf H locs hP hD hS ls hl
  exact rt_v hx hb hr hlocks f hf (hP.sub [0, 1] rfl) (hK.sub [0] rfl) (hD.sub [0, 1] (by decide) rfl) hS dX1_pair_100
end
section
theorem blk_end {c r B n : Nat} (hB : 0 < B) (e : n = r * B) (hc : c ≤ r) (h : n ≤ c * B) : c = r := by
  rw [e] at h
  have := Nat.le_of_mul_le_mul_right h hB
  omega
theorem blk_lt {c r B n : Nat} (e : n = r * B) (h : c * B < n) : c < r ∧ c * B + B ≤ n := by
  rw [e] at h
  have h1 : c < r := Nat.lt_of_mul_lt_mul_right h
  have h2 : (c + 1) * B ≤ r * B := Nat.mul_le_mul_right B h1
  rw [Nat.add_mul, Nat.one_mul] at h2
  exact ⟨h1, by rw [e]; exact h2⟩
theorem sp_out_f {x : Nat → Nat} {n p k : Nat} {bk : Int32} (h : bk = 0) : sp_out x n p (decide (¬ bk = 0)) k = sp_S x (sp_wb n p (decide (¬ bk = 0))) k n % p := by
  unfold sp_out
  rw [if_neg (by simp [h])]
theorem sp_out_t {x : Nat → Nat} {n p k : Nat} {bk : Int32} (h : ¬ bk = 0) : sp_out x n p (decide (¬ bk = 0)) k = sp_S x (sp_wb n p (decide (¬ bk = 0))) k n % p * (n ^ (p - 2) % p) % p := by
  unfold sp_out
  rw [if_pos (by simp [h])]
theorem sp_wb_f {n p : Nat} {bk : Int32} (h : bk = 0) : sp_wb n p (decide (¬ bk = 0)) = sp_w n p := by
  unfold sp_wb
  rw [if_neg (by simp [h])]
theorem sp_wb_t {n p : Nat} {bk : Int32} (h : ¬ bk = 0) : sp_wb n p (decide (¬ bk = 0)) = sp_w n p ^ (p - 2) % p := by
  unfold sp_wb
  rw [if_pos (by simp [h])]
theorem sp_wb_m {m p : Nat} (hv : sp_val (2 ^ m) p) (b : Bool) (hm : m ≠ 0) : sp_wb (2 ^ m) p b ^ 2 ^ (m - 1) % p = p - 1 := by
  have h := sp_wb_half hv (fun q => by
    have h1 : 2 ^ 1 ≤ 2 ^ m := Nat.pow_le_pow_right (by decide) (by omega)
    omega) b
  rw [p2_half (by omega)] at h
  exact h
end
section
set_option maxHeartbeats 4000000 in
set_option maxRecDepth 100000 in
theorem lpX1_workI {p : Program} {l : Launch} {e : Env} {s : State} {m : MethodId} {args : Array Value} {below : List Frame} {meth : Method} {c : Code} {Q : State → Prop} {dC : Nat → ClassId} {dI : Nat → Nat → Nat} {A : Nat → Prop} {h0 q0 : Nat} {d0 : ClassId} {g : Nat → Nat} {bk : Int32} {mm rr sn pn wv : Nat} (hx : p.tables.exec = Jvm.exec) (hb : c.code = cX1_work) (hml : c.maxLocals = 10) (hown : s.vm.findClass RX1 = some m.cls) (hts : ∀ w ∈ lw_all, w.before args s = true) (hA : ∀ q : Nat, s.heap.size ≤ q → A q) (hK : va_K (dC, dI) vwCl [(d0, .long)] s) (hm : mm ≤ 10) (hp1 : 2 ≤ pn) (hp2 : pn ≤ 1000000007) (hwv : wv < pn) (hrs : rr + 1 + sn = mm) (hw : wv ^ 2 ^ (rr + sn) % pn = pn - 1) (hQ : ∀ (f : Nat → Int64) (g' : Nat → Nat), (sp_mid g wv rr sn pn (2 ^ rr) g') → (sp_rep f g' (2 ^ mm) pn) → ∀ (H : Heap) (locs : List Loc), va_P (dC, dI) vwCl [(h0, .inr (1, [.ref q0, .long (lN pn)])), (q0, .inl (d0, 1024, .inr (.inl f)))] H → va_D A [(h0, .inr (1, [.ref q0, .long (lN pn)])), (q0, .inl (d0, 1024, .inr (.inl f)))] → va_S A s.heap H locs → ∀ (ls : Array Slot), lv_has ls 10 [(6, .int (nI (2 ^ sn))), (4, .long (lN wv)), (0, .ref h0), (1, .int (nI (2 ^ mm))), (3, .int bk)] → W p l e ({ frames := 2, cells := 0, slots := 0, locals := 53 } : Room) s m args below meth c H locs 0 0 Q (F0 m 93 ls [])) :
    ∀ (fuel : Nat) (cn : Nat) (f : Nat → Int64) (g' : Nat → Nat), (cn ≤ 2 ^ rr) → (sp_mid g wv rr sn pn cn g') → (sp_rep f g' (2 ^ mm) pn) → 2 ^ rr - cn < fuel → ∀ (H : Heap) (locs : List Loc), va_P (dC, dI) vwCl [(h0, .inr (1, [.ref q0, .long (lN pn)])), (q0, .inl (d0, 1024, .inr (.inl f)))] H → va_D A [(h0, .inr (1, [.ref q0, .long (lN pn)])), (q0, .inl (d0, 1024, .inr (.inl f)))] → va_S A s.heap H locs → ∀ (ls : Array Slot), lv_has ls 10 [(9, .int (nI (cn * 2 ^ (sn + 1)))), (7, .long (lN (wv ^ 2 ^ rr % pn))), (6, .int (nI (2 ^ sn))), (4, .long (lN wv)), (0, .ref h0), (1, .int (nI (2 ^ mm))), (3, .int bk)] → W p l e ({ frames := 2, cells := 0, slots := 0, locals := 53 } : Room) s m args below meth c H locs 0 0 Q (F0 m 65 ls []) := by
  intro fuel
  induction fuel with
  | zero =>
    intro cn f g' hcn hmid hf hfu
    exact absurd hfu (Nat.not_lt_zero _)
  | succ fuel ih =>
    intro cn f g' hcn hmid hf hfu H locs hP hD hS ls hl
    have hle := p2_le hm
    have e1 : 2 ^ mm = 2 ^ rr * 2 ^ (sn + 1) := by rw [← hrs, ← Nat.pow_add]; congr 1; omega
    have e2 : 2 ^ (sn + 1) = 2 * 2 ^ sn := by rw [Nat.pow_succ, Nat.mul_comm]
    have hB : 0 < 2 ^ (sn + 1) := Nat.two_pow_pos _
    have hcl : cn * 2 ^ (sn + 1) ≤ 2 ^ rr * 2 ^ (sn + 1) := Nat.mul_le_mul_right _ hcn
    refine lv_iload hx hb dX1_work_65 (lv_at hl 0 rfl) ?_
    refine lv_iload_n hx hb dX1_work_67 rfl (lv_at hl 5 rfl) ?_
    refine nv_icmp_ge (a := cn * 2 ^ (sn + 1)) (b := 2 ^ mm) (tgt := 93) hx hb dX1_work_68 (by decide) (by omega) (by omega) (fun hc => ?_) (fun hc => ?_)
    · have he := blk_end hB e1 hcn hc
      subst he
      exact hQ f g' hmid hf H locs hP hD hS ls (lv_sub hl [2, 3, 4, 5, 6] rfl)
    · obtain ⟨hlt, hfr⟩ := blk_lt e1 hc
      refine lv_aload_n hx hb dX1_work_71 rfl (lv_at hl 4 rfl) ?_
      refine lv_iload hx hb dX1_work_72 (lv_at hl 0 rfl) ?_
      refine lv_iload hx hb dX1_work_74 (lv_at hl 2 rfl) ?_
      refine lv_lload hx hb dX1_work_76 (lv_at hl 1 rfl) ?_
      refine cl_v (wc := [(h0, .inr (1, [.ref q0, .long (lN pn)])), (q0, .inl (d0, 1024, .inr (.inl f)))]) (wr := []) (va_runV (As := [.int (nI (cn * 2 ^ (sn + 1))), .int (nI (2 ^ sn)), .long (lN (wv ^ 2 ^ rr % pn))]) (rest := []) ⟨hx, hb, hml, hown, hts⟩ (metX1_pair l dC dI H.size h0 q0 d0 f g' (cn * 2 ^ (sn + 1)) (2 ^ sn) (wv ^ 2 ^ rr % pn) (2 ^ mm) pn hp1 hp2 (Nat.mod_lt _ (by omega)) hle (by omega) hf) (cwV 3 hts (lw_V q87 q89 qs2 q5 q90) rfl rfl rfl (by decide +kernel) ⟨Nat.le_of_ble_eq_true rfl, Nat.le_of_ble_eq_true rfl⟩) (preV (wc := [(h0, .inr (1, [.ref q0, .long (lN pn)])), (q0, .inl (d0, 1024, .inr (.inl f)))]) (tc := [(d0, .long)]) (ci := 1) hK hP hD [0, 1] (by decide) rfl [0] rfl rfl rfl) rfl rfl hl.1 rfl (lv_room (Nat.le_of_ble_eq_true rfl)) dX1_work_78 ⟨Nat.le_refl _, Nat.le_refl _⟩) hP hD hS hA [0, 1] [] rfl rfl (by decide) (by decide) (fun u1 H locs hw1 hP hD hK1 hS => ?_)
      have hP : va_P (dC, dI) vwCl [(h0, .inr (1, [.ref q0, .long (lN pn)])), (q0, .inl (d0, 1024, .inr (.inl u1)))] H := hP
      have hD : va_D A [(h0, .inr (1, [.ref q0, .long (lN pn)])), (q0, .inl (d0, 1024, .inr (.inl u1)))] := hD
      refine lv_iload hx hb dX1_work_81 (lv_at hl 0 rfl) ?_
      refine lv_iconst (v := nI 2) hx hb dX1_work_83 (by decide) ?_
      refine lv_iload hx hb dX1_work_84 (lv_at hl 2 rfl) ?_
      refine nv_imul (a := 2) (b := 2 ^ sn) hx hb dX1_work_86  ?_
      refine nv_iadd (a := cn * 2 ^ (sn + 1)) (b := 2 * (2 ^ sn)) hx hb dX1_work_87  ?_
      refine nv_ci (y := nI ((cn + 1) * 2 ^ (sn + 1))) (congrArg nI (show (cn * 2 ^ (sn + 1)) + (2 * (2 ^ sn)) = (cn + 1) * 2 ^ (sn + 1) from (by rw [Nat.add_mul, Nat.one_mul, e2]))) ?_
      refine lv_istore (lv' := [(9, .int (nI ((cn + 1) * 2 ^ (sn + 1)))), (7, .long (lN (wv ^ 2 ^ rr % pn))), (6, .int (nI (2 ^ sn))), (4, .long (lN wv)), (0, .ref h0), (1, .int (nI (2 ^ mm))), (3, .int bk)]) hx hb dX1_work_88 hl (by decide) rfl (fun ls hl => ?_)
      refine lv_goto (tgt := 65) hx hb dX1_work_90 (by decide) ?_
      exact ih (cn + 1) u1 _ hlt (sp_mid_s hp1 hw hlt hmid) hw1 (by omega) H locs hP hD hS ls (lv_sub hl [0, 1, 2, 3, 4, 5, 6] rfl)
set_option maxHeartbeats 4000000 in
set_option maxRecDepth 100000 in
theorem lpX1_work {p : Program} {l : Launch} {e : Env} {s : State} {m : MethodId} {args : Array Value} {below : List Frame} {meth : Method} {c : Code} {Q : State → Prop} {dC : Nat → ClassId} {dI : Nat → Nat → Nat} {A : Nat → Prop} {h0 q0 : Nat} {d0 : ClassId} {g : Nat → Nat} {bk : Int32} {mm pn wv : Nat} (hx : p.tables.exec = Jvm.exec) (hb : c.code = cX1_work) (hml : c.maxLocals = 10) (hown : s.vm.findClass RX1 = some m.cls) (hts : ∀ w ∈ lw_all, w.before args s = true) (hA : ∀ q : Nat, s.heap.size ≤ q → A q) (hK : va_K (dC, dI) vwCl [(d0, .long)] s) (hm : mm ≤ 10) (hp1 : 2 ≤ pn) (hp2 : pn ≤ 1000000007) (hwv : wv < pn) (hw : mm ≠ 0 → wv ^ 2 ^ (mm - 1) % pn = pn - 1) (hQ : ∀ (f : Nat → Int64) (g' : Nat → Nat), (sp_stage g wv 0 mm pn g') → (sp_rep f g' (2 ^ mm) pn) → ∀ (H : Heap) (locs : List Loc), va_P (dC, dI) vwCl [(h0, .inr (1, [.ref q0, .long (lN pn)])), (q0, .inl (d0, 1024, .inr (.inl f)))] H → va_D A [(h0, .inr (1, [.ref q0, .long (lN pn)])), (q0, .inl (d0, 1024, .inr (.inl f)))] → va_S A s.heap H locs → ∀ (ls : Array Slot), lv_has ls 10 [(0, .ref h0), (1, .int (nI (2 ^ mm))), (3, .int bk)] → W p l e ({ frames := 2, cells := 0, slots := 0, locals := 53 } : Room) s m args below meth c H locs 0 0 Q (F0 m 102 ls [])) :
    ∀ (fuel : Nat) (rr : Nat) (sn : Nat) (f : Nat → Int64) (g' : Nat → Nat), (rr + sn = mm) → (sp_stage g wv rr sn pn g') → (sp_rep f g' (2 ^ mm) pn) → rr < fuel → ∀ (H : Heap) (locs : List Loc), va_P (dC, dI) vwCl [(h0, .inr (1, [.ref q0, .long (lN pn)])), (q0, .inl (d0, 1024, .inr (.inl f)))] H → va_D A [(h0, .inr (1, [.ref q0, .long (lN pn)])), (q0, .inl (d0, 1024, .inr (.inl f)))] → va_S A s.heap H locs → ∀ (ls : Array Slot), lv_has ls 10 [(6, .int (nI (2 ^ sn))), (4, .long (lN wv)), (0, .ref h0), (1, .int (nI (2 ^ mm))), (3, .int bk)] → W p l e ({ frames := 2, cells := 0, slots := 0, locals := 53 } : Room) s m args below meth c H locs 0 0 Q (F0 m 41 ls []) := by
  intro fuel
  induction fuel with
  | zero =>
    intro rr sn f g' hrs hst hf hfu
    exact absurd hfu (Nat.not_lt_zero _)
  | succ fuel ih =>
    intro rr sn f g' hrs hst hf hfu H locs hP hD hS ls hl
    have hle := p2_le hm
    have hse : 2 ^ sn ≤ 2 ^ mm := Nat.pow_le_pow_right (by decide) (by omega)
    have hsp := Nat.two_pow_pos sn
    refine lv_iload hx hb dX1_work_41 (lv_at hl 0 rfl) ?_
    refine lv_iload_n hx hb dX1_work_43 rfl (lv_at hl 3 rfl) ?_
    refine nv_icmp_ge (a := 2 ^ sn) (b := 2 ^ mm) (tgt := 102) hx hb dX1_work_44 (by decide) (by omega) (by omega) (fun hc => ?_) (fun hc => ?_)
    · have h1 : mm ≤ sn := (Nat.pow_le_pow_iff_right (by decide)).mp hc
      obtain rfl : rr = 0 := by omega
      obtain rfl : sn = mm := by omega
      exact hQ f g' hst hf H locs hP hD hS ls (lv_sub hl [2, 3, 4] rfl)
    · have h1 : sn < mm := (Nat.pow_lt_pow_iff_right (by decide)).mp hc
      obtain ⟨r2, rfl⟩ : ∃ r2, rr = r2 + 1 := ⟨rr - 1, by omega⟩
      refine lv_aload_n hx hb dX1_work_47 rfl (lv_at hl 2 rfl) ?_
      refine lv_lload hx hb dX1_work_48 (lv_at hl 1 rfl) ?_
      refine lv_iload_n hx hb dX1_work_50 rfl (lv_at hl 3 rfl) ?_
      refine lv_iconst (v := nI 2) hx hb dX1_work_51 (by decide) ?_
      refine lv_iload hx hb dX1_work_52 (lv_at hl 0 rfl) ?_
      refine nv_imul (a := 2) (b := 2 ^ sn) hx hb dX1_work_54  ?_
      refine nv_idiv (a := 2 ^ mm) (b := 2 * (2 ^ sn)) hx hb dX1_work_55 (by omega) (by omega) (by omega) ?_
      refine nv_ci (y := nI (2 ^ r2)) (congrArg nI (show (2 ^ mm) / (2 * (2 ^ sn)) = 2 ^ r2 from (by rw [← hrs]; exact p2_div))) ?_
      have hr2 : 2 ^ r2 ≤ 2 ^ mm := Nat.pow_le_pow_right (by decide) (by omega)
      refine nv_i2l (a := 2 ^ r2) hx hb dX1_work_56 (by omega) ?_
      refine cl_l (wc := [(h0, .inr (1, [.ref q0, .long (lN pn)]))]) (wr := [(q0, .inl (d0, 1024, .inr (.inl f)))]) (va_runV (As := [.long (lN wv), .long (lN (2 ^ r2))]) (rest := []) ⟨hx, hb, hml, hown, hts⟩ (metX1_power l dC dI H.size h0 q0 wv (2 ^ r2) pn (by omega) (by omega) hp1 hp2) (cwV 2 hts (lw_V q79 q81 qs0 q5 q82) rfl rfl rfl (by decide +kernel) ⟨Nat.le_of_ble_eq_true rfl, Nat.le_of_ble_eq_true rfl⟩) (preV (wc := [(h0, .inr (1, [.ref q0, .long (lN pn)]))]) (tc := []) (ci := 1) hK hP hD [0] (by decide) rfl [] rfl rfl rfl) rfl rfl hl.1 rfl (lv_room (Nat.le_of_ble_eq_true rfl)) dX1_work_57 ⟨Nat.le_refl _, Nat.le_refl _⟩) hP hD hS hA [0] [1] rfl rfl (by decide) (by decide) (fun r1 u1 H locs hw1 hP hD hK1 hS => ?_)
      have hP : va_P (dC, dI) vwCl [(q0, .inl (d0, 1024, .inr (.inl f))), (h0, .inr (1, [.ref q0, .long (lN pn)]))] H := hP
      have hD : va_D A [(q0, .inl (d0, 1024, .inr (.inl f))), (h0, .inr (1, [.ref q0, .long (lN pn)]))] := hD
      refine nv_cl (y := lN (wv ^ 2 ^ r2 % pn)) hw1 ?_
      refine lv_lstore (lv' := [(7, .long (lN (wv ^ 2 ^ r2 % pn))), (6, .int (nI (2 ^ sn))), (4, .long (lN wv)), (0, .ref h0), (1, .int (nI (2 ^ mm))), (3, .int bk)]) hx hb dX1_work_60 hl (by decide) rfl (fun ls hl => ?_)
      refine lv_iconst (v := nI 0) hx hb dX1_work_62 (by decide) ?_
      refine lv_istore (lv' := [(9, .int (nI 0)), (7, .long (lN (wv ^ 2 ^ r2 % pn))), (6, .int (nI (2 ^ sn))), (4, .long (lN wv)), (0, .ref h0), (1, .int (nI (2 ^ mm))), (3, .int bk)]) hx hb dX1_work_63 hl (by decide) rfl (fun ls hl => ?_)
      refine lpX1_workI (rr := r2) (g := g) hx hb hml hown hts hA hK hm hp1 hp2 hwv hrs (by have h2 := hw (by omega); rw [show mm - 1 = r2 + sn by omega] at h2; exact h2) ?_ (2 ^ r2 + 1) 0 f g' (Nat.zero_le _) (sp_mid_0 hst) hf (Nat.lt_succ_of_le (Nat.sub_le _ _)) H locs (hP.sub [1, 0] rfl) (hD.sub [1, 0] (by decide) rfl) hS ls (by rw [Nat.zero_mul]; exact lv_sub hl [0, 1, 2, 3, 4, 5, 6] rfl)
      intro f g' hmid hf H locs hP hD hS ls hl
      refine lv_iload hx hb dX1_work_93 (lv_at hl 0 rfl) ?_
      refine lv_iconst (v := nI 2) hx hb dX1_work_95 (by decide) ?_
      refine nv_imul (a := 2 ^ sn) (b := 2) hx hb dX1_work_96  ?_
      refine nv_ci (y := nI (2 ^ (sn + 1))) (congrArg nI (show (2 ^ sn) * 2 = 2 ^ (sn + 1) from (Nat.pow_succ _ _).symm)) ?_
      refine lv_istore (lv' := [(6, .int (nI (2 ^ (sn + 1)))), (4, .long (lN wv)), (0, .ref h0), (1, .int (nI (2 ^ mm))), (3, .int bk)]) hx hb dX1_work_97 hl (by decide) rfl (fun ls hl => ?_)
      refine lv_goto (tgt := 41) hx hb dX1_work_99 (by decide) ?_
      exact ih r2 (sn + 1) f g' (by omega) (sp_mid_e hmid) hf (by omega) H locs hP hD hS ls (lv_sub hl [0, 1, 2, 3, 4] rfl)
set_option maxHeartbeats 4000000 in
set_option maxRecDepth 100000 in
theorem lpX1_workS {p : Program} {l : Launch} {e : Env} {R : Room} {s : State} {m : MethodId} {args : Array Value} {below : List Frame} {meth : Method} {c : Code} {Q : State → Prop} {cells slots : Nat} {dC : Nat → ClassId} {dI : Nat → Nat → Nat} {A : Nat → Prop} {h0 q0 : Nat} {d0 : ClassId} {y : Nat → Nat} {mm pn pt : Nat} (hx : p.tables.exec = Jvm.exec) (hb : c.code = cX1_work) (hml : c.maxLocals = 10) (hown : s.vm.findClass RX1 = some m.cls) (hts : ∀ w ∈ lw_all, w.before args s = true) (hA : ∀ q : Nat, s.heap.size ≤ q → A q) (hK : va_K (dC, dI) vwCl [(d0, .long)] s) (hm : mm ≤ 10) (hp1 : 2 ≤ pn) (hp2 : pn ≤ 1000000007) (hpt : pt < pn) (hQ : ∀ (f : Nat → Int64), (sp_rep f (sp_sc y pt pn (2 ^ mm)) (2 ^ mm) pn) → ∀ (H : Heap) (locs : List Loc), va_P (dC, dI) vwCl [(h0, .inr (1, [.ref q0, .long (lN pn)])), (q0, .inl (d0, 1024, .inr (.inl f)))] H → va_D A [(h0, .inr (1, [.ref q0, .long (lN pn)])), (q0, .inl (d0, 1024, .inr (.inl f)))] → va_S A s.heap H locs → ∀ (ls : Array Slot), lv_has ls 10 [] → W p l e R s m args below meth c H locs cells slots Q (F0 m 160 ls [])) :
    ∀ (fuel : Nat) (i : Nat) (f : Nat → Int64), (i ≤ 2 ^ mm) → (sp_rep f (sp_sc y pt pn i) (2 ^ mm) pn) → 2 ^ mm - i < fuel → ∀ (H : Heap) (locs : List Loc), va_P (dC, dI) vwCl [(h0, .inr (1, [.ref q0, .long (lN pn)])), (q0, .inl (d0, 1024, .inr (.inl f)))] H → va_D A [(h0, .inr (1, [.ref q0, .long (lN pn)])), (q0, .inl (d0, 1024, .inr (.inl f)))] → va_S A s.heap H locs → ∀ (ls : Array Slot), lv_has ls 10 [(8, .int (nI i)), (6, .long (lN pt)), (0, .ref h0), (1, .int (nI (2 ^ mm)))] → W p l e R s m args below meth c H locs cells slots Q (F0 m 126 ls []) := by
  intro fuel
  induction fuel with
  | zero =>
    intro i f hi hf hfu
    exact absurd hfu (Nat.not_lt_zero _)
  | succ fuel ih =>
    intro i f hi hf hfu H locs hP hD hS ls hl
    have hle := p2_le hm
    refine lv_iload hx hb dX1_work_126 (lv_at hl 0 rfl) ?_
    refine lv_iload_n hx hb dX1_work_128 rfl (lv_at hl 3 rfl) ?_
    refine nv_icmp_ge (a := i) (b := 2 ^ mm) (tgt := 160) hx hb dX1_work_129 (by decide) (by omega) (by omega) (fun hc => ?_) (fun hc => ?_)
    · obtain rfl : i = 2 ^ mm := by omega
      exact hQ f hf H locs hP hD hS ls (lv_sub hl [] rfl)
    · have ha := hf i hc
      rw [sp_sc_at] at ha
      have hm1 := sp_m62 (a := y i) (b := pt) (by omega) (by omega)
      refine lv_aload_n hx hb dX1_work_132 rfl (lv_at hl 2 rfl) ?_
      refine va_get (D := (dC, dI)) (ci := 1) (v := .ref q0) (C := RX1) (T := TX1) (N := 2) hx hb hts in_X1 hown hK hP 0 rfl rfl 0 (by decide) (hts _ q21) (fun _ h9 => h9) rfl dX1_work_133 ?_
      refine lv_iload hx hb dX1_work_136 (lv_at hl 0 rfl) ?_
      refine lv_aload_n hx hb dX1_work_138 rfl (lv_at hl 2 rfl) ?_
      refine va_get (D := (dC, dI)) (ci := 1) (v := .ref q0) (C := RX1) (T := TX1) (N := 2) hx hb hts in_X1 hown hK hP 0 rfl rfl 0 (by decide) (hts _ q21) (fun _ h9 => h9) rfl dX1_work_139 ?_
      refine lv_iload hx hb dX1_work_142 (lv_at hl 0 rfl) ?_
      refine nv_lald (i := i) hx hb hK hP 1 0 rfl rfl (by omega) (by decide) dX1_work_144 ?_
      refine nv_cl (y := lN (y i)) ha.1 ?_
      refine lv_lload hx hb dX1_work_145 (lv_at hl 1 rfl) ?_
      refine nv_lmul (a := y i) (b := pt) hx hb dX1_work_147  ?_
      refine lv_aload_n hx hb dX1_work_148 rfl (lv_at hl 2 rfl) ?_
      refine va_get (D := (dC, dI)) (ci := 1) (v := .long (lN pn)) (C := RX1) (T := TX1) (N := 2) hx hb hts in_X1 hown hK hP 0 rfl rfl 1 (by decide) (hts _ q24) (fun _ h9 => h9) rfl dX1_work_149 ?_
      refine nv_lrem (a := (y i) * pt) (b := pn) hx hb dX1_work_152 (by omega) (by omega) (by omega) ?_
      refine nv_last (i := i) hx hb hK hP hD hS 1 0 rfl rfl (by omega) (by decide) dX1_work_153 (fun H locs hP hD hS => ?_)
      have hP : va_P (dC, dI) vwCl [(h0, .inr (1, [.ref q0, .long (lN pn)])), (q0, .inl (d0, 1024, .inr (.inl (vp_updL f i (lN (((y i) * pt) % pn))))))] H := hP
      have hD : va_D A [(h0, .inr (1, [.ref q0, .long (lN pn)])), (q0, .inl (d0, 1024, .inr (.inl (vp_updL f i (lN (((y i) * pt) % pn))))))] := hD
      refine lv_iinc (v := nI (i + 1)) (lv' := [(8, .int (nI (i + 1))), (6, .long (lN pt)), (0, .ref h0), (1, .int (nI (2 ^ mm)))]) hx hb dX1_work_154 hl (k := 0) rfl (nI_add _ 1) (by decide) rfl (fun ls hl => ?_)
      refine lv_goto (tgt := 126) hx hb dX1_work_157 (by decide) ?_
      exact ih (i + 1) (vp_updL f i (lN (((y i) * pt) % pn))) hc (sp_sc_s (by omega) hf) (by omega) H locs hP hD hS ls (lv_sub hl [0, 1, 2, 3] rfl)
set_option maxHeartbeats 4000000 in
set_option maxRecDepth 100000 in
/-- Residues.work(n, prime, back): the transform of the row -/
theorem metX1_work (l : Launch) (dC : Nat → ClassId) (dI : Nat → Nat → Nat) (sz : Nat) (h0 q0 : Nat) (pv : Int64) (d0 : ClassId) (f0 : Nat → Int64) (g : Nat → Nat) (mm pn : Nat) (bk : Int32) (hm : mm ≤ 10) (hv : sp_val (2 ^ mm) pn) (hf : sp_rep f0 g (2 ^ mm) pn) : Met l yX1_work (ws_ yX1_work cX1_work 10 none) ({ frames := 2, cells := 0, slots := 0, locals := 53 }) (pcW [.ref h0, .int (nI (2 ^ mm)), .int (nI pn), .int bk] sz dC dI [(h0, .inr (1, [.ref q0, .long pv])), (q0, .inl (d0, 1024, .inr (.inl f0)))] [(d0, .long)]) (va_Qv (fun (u : Nat → Int64) => ∀ k, k < 2 ^ mm → u k = lN (sp_out g (2 ^ mm) pn (decide (¬ bk = 0)) k)) (bw dC dI (va_A [(h0, .inr (1, [.ref q0, .long pv])), (q0, .inl (d0, 1024, .inr (.inl f0)))] sz) (fun u => [(h0, .inr (1, [.ref q0, .long (lN pn)])), (q0, .inl (d0, 1024, .inr (.inl u)))]) (fun u => [(d0, .long)])) (va_A [(h0, .inr (1, [.ref q0, .long pv])), (q0, .inl (d0, 1024, .inr (.inl f0)))] sz)) 0 0 (va_A [(h0, .inr (1, [.ref q0, .long pv])), (q0, .inl (d0, 1024, .inr (.inl f0)))] sz) := by
  refine Met.ofW (cc := cX1_work) (maxL := 10) (ret := none) (by decide) rfl ?_
  intro p e s m args below meth c s₁ B hml hv
  obtain ⟨rfl, hsz, hP, hK, hD0⟩ := hv
  have hx := B.exec
  have hb := B.bytes
  have hr := B.returns
  have hts := atoms_spec (ws := ws_ yX1_work cX1_work 10 none) B.pre
  have hts : ∀ w ∈ lw_all, w.before _ s = true := fun w h => hts w (List.mem_cons_of_mem _ h)
  have hown : s.vm.findClass RX1 = some m.cls := findClass_of_methodNamed B.named
  have hlocks := B.notSynchronized
  subst hsz
  have hD := hD0.self (sz := s.heap.size)
  generalize hAe : va_A [(h0, .inr (1, [.ref q0, .long pv])), (q0, .inl (d0, 1024, .inr (.inl f0)))] s.heap.size = A at hD ⊢
  have hA : ∀ q : Nat, s.heap.size ≤ q → A q := fun q h => by rw [← hAe]; exact Or.inr h
  have hS : va_S A s.heap s.heap [] := va_S.rf
  have hP : va_P (dC, dI) vwCl [(h0, .inr (1, [.ref q0, .long pv])), (q0, .inl (d0, 1024, .inr (.inl f0)))] s.heap := hP
  have hl := lv_entry ([.ref h0, .int (nI (2 ^ mm)), .int (nI pn), .int bk]) (n := 10) (Nat.le_of_ble_eq_true rfl)
  rw [lg_entry_eq]
  generalize (lg_sl ([.ref h0, .int (nI (2 ^ mm)), .int (nI pn), .int bk]) ++ List.replicate (10 - (lg_sl ([.ref h0, .int (nI (2 ^ mm)), .int (nI pn), .int bk])).length) Slot.unset).toArray = ls at hl ⊢
  have hl : lv_has ls 10 [(0, .ref h0), (1, .int (nI (2 ^ mm))), (2, .int (nI pn)), (3, .int bk)] := hl
  have hle := p2_le hm
  have hp3 := hv.2.1
  have hp2 := hv.2.2.2.1
  have hwlt := sp_w_lt hv
  have hwb := sp_wb_lt hv (decide (¬ bk = 0))
  refine lv_aload_n hx hb dX1_work_0 rfl (lv_at hl 0 rfl) ?_
  refine lv_iload_n hx hb dX1_work_1 rfl (lv_at hl 2 rfl) ?_
  refine nv_i2l (a := pn) hx hb dX1_work_2 (by omega) ?_
  refine va_put (D := (dC, dI)) (ci := 1) (v := .long (lN pn)) (ty := .long) (C := RX1) (T := TX1) (N := 2) hx hb hts in_X1 tyX1 tyX1_ok nmX1 hown hK hP hD hS 0 rfl rfl 1 (by decide) (hts _ q24) (fun _ h9 => h9) rfl (by decide +kernel) rfl rfl (Nat.le_of_ble_eq_true rfl) dX1_work_3 (fun H locs hP hD hS => ?_)
  have hP : va_P (dC, dI) vwCl [(h0, .inr (1, [.ref q0, .long (lN pn)])), (q0, .inl (d0, 1024, .inr (.inl f0)))] H := hP
  have hD : va_D A [(h0, .inr (1, [.ref q0, .long (lN pn)])), (q0, .inl (d0, 1024, .inr (.inl f0)))] := hD
  refine lv_aload_n hx hb dX1_work_6 rfl (lv_at hl 0 rfl) ?_
  refine lv_iload_n hx hb dX1_work_7 rfl (lv_at hl 1 rfl) ?_
  refine cl_l (wc := [(h0, .inr (1, [.ref q0, .long (lN pn)]))]) (wr := [(q0, .inl (d0, 1024, .inr (.inl f0)))]) (va_runV (As := [.int (nI (2 ^ mm))]) (rest := []) ⟨hx, hb, hml, hown, hts⟩ (metX1_root l dC dI H.size h0 q0 (2 ^ mm) pn hv) (cwV 1 hts (lw_V q74 q75 q76 q5 q77) rfl rfl rfl (by decide +kernel) ⟨Nat.le_of_ble_eq_true rfl, Nat.le_of_ble_eq_true rfl⟩) (preV (wc := [(h0, .inr (1, [.ref q0, .long (lN pn)]))]) (tc := []) (ci := 1) hK hP hD [0] (by decide) rfl [] rfl rfl rfl) rfl rfl hl.1 rfl (lv_room (Nat.le_of_ble_eq_true rfl)) dX1_work_8 ⟨Nat.le_refl _, Nat.le_refl _⟩) hP hD hS hA [0] [1] rfl rfl (by decide) (by decide) (fun r1 u1 H locs hw1 hP hD hK1 hS => ?_)
  have hP : va_P (dC, dI) vwCl [(q0, .inl (d0, 1024, .inr (.inl f0))), (h0, .inr (1, [.ref q0, .long (lN pn)]))] H := hP
  have hD : va_D A [(q0, .inl (d0, 1024, .inr (.inl f0))), (h0, .inr (1, [.ref q0, .long (lN pn)]))] := hD
  refine nv_cl (y := lN (sp_w (2 ^ mm) pn)) hw1 ?_
  refine lv_lstore (lv' := [(4, .long (lN (sp_w (2 ^ mm) pn))), (0, .ref h0), (1, .int (nI (2 ^ mm))), (2, .int (nI pn)), (3, .int bk)]) hx hb dX1_work_11 hl (by decide) rfl (fun ls hl => ?_)
  refine lv_iload_n hx hb dX1_work_13 rfl (lv_at hl 4 rfl) ?_
  refine lv_if_eq (tgt := 33) hx hb dX1_work_14 (by decide) (fun hc => ?_) (fun hc => ?_)
  · rw [← sp_wb_f (n := 2 ^ mm) (p := pn) hc] at hl
    refine lv_aload_n hx hb dX1_work_33 rfl (lv_at hl 1 rfl) ?_
    refine lv_iload_n hx hb dX1_work_34 rfl (lv_at hl 2 rfl) ?_
    refine cl_v (wc := [(h0, .inr (1, [.ref q0, .long (lN pn)])), (q0, .inl (d0, 1024, .inr (.inl f0)))]) (wr := []) (va_runV (As := [.int (nI (2 ^ mm))]) (rest := []) ⟨hx, hb, hml, hown, hts⟩ (metX1_turn l dC dI H.size h0 q0 (lN pn) d0 f0 mm hm) (cwV 1 hts (lw_V q83 q85 qs1 q5 q86) rfl rfl rfl (by decide +kernel) ⟨Nat.le_of_ble_eq_true rfl, Nat.le_of_ble_eq_true rfl⟩) (preV (wc := [(h0, .inr (1, [.ref q0, .long (lN pn)])), (q0, .inl (d0, 1024, .inr (.inl f0)))]) (tc := [(d0, .long)]) (ci := 1) hK hP hD [1, 0] (by decide) rfl [0] rfl rfl rfl) rfl rfl hl.1 rfl (lv_room (Nat.le_of_ble_eq_true rfl)) dX1_work_35 ⟨Nat.le_refl _, Nat.le_refl _⟩) hP hD hS hA [1, 0] [] rfl rfl (by decide) (by decide) (fun u2 H locs hw2 hP hD hK1 hS => ?_)
    have hP : va_P (dC, dI) vwCl [(h0, .inr (1, [.ref q0, .long (lN pn)])), (q0, .inl (d0, 1024, .inr (.inl u2)))] H := hP
    have hD : va_D A [(h0, .inr (1, [.ref q0, .long (lN pn)])), (q0, .inl (d0, 1024, .inr (.inl u2)))] := hD
    refine lv_iconst (v := nI 1) hx hb dX1_work_38 (by decide) ?_
    refine lv_istore (lv' := [(6, .int (nI 1)), (4, .long (lN (sp_wb (2 ^ mm) pn (decide (¬ bk = 0))))), (0, .ref h0), (1, .int (nI (2 ^ mm))), (2, .int (nI pn)), (3, .int bk)]) hx hb dX1_work_39 hl (by decide) rfl (fun ls hl => ?_)
    refine lpX1_work (g := g) hx hb hml hown hts hA hK hm (by omega) hp2 hwb (sp_wb_m hv _) ?_ (mm + 1) mm 0 u2 (fun j => g (sp_rev mm j)) (Nat.add_zero mm) (sp_stage_0 (fun j hj => (hf j hj).2) (fun _ _ => rfl)) (fun j hj => ⟨by rw [hw2 j hj]; exact (hf _ (sp_rev_lt mm j)).1, (hf _ (sp_rev_lt mm j)).2⟩) (by omega) H locs hP hD hS ls (lv_sub hl [0, 1, 2, 3, 5] rfl)
    intro f g' hst hrp H locs hP hD hS ls hl
    have hse := sp_stage_e hst
    refine lv_iload_n hx hb dX1_work_102 rfl (lv_at hl 2 rfl) ?_
    refine lv_if_ne (tgt := 107) hx hb dX1_work_103 (by decide) (fun hc2 => ?_) (fun hc2 => ?_)
    · refine lv_aload_n hx hb dX1_work_107 rfl (lv_at hl 0 rfl) ?_
      refine lv_iload_n hx hb dX1_work_108 rfl (lv_at hl 1 rfl) ?_
      refine nv_i2l (a := 2 ^ mm) hx hb dX1_work_109 (by omega) ?_
      refine lv_aload_n hx hb dX1_work_110 rfl (lv_at hl 0 rfl) ?_
      refine va_get (D := (dC, dI)) (ci := 1) (v := .long (lN pn)) (C := RX1) (T := TX1) (N := 2) hx hb hts in_X1 hown hK hP 0 rfl rfl 1 (by decide) (hts _ q24) (fun _ h9 => h9) rfl dX1_work_111 ?_
      refine lv_ldc2 hx hb hown (hts _ q78) dX1_work_114 ?_
      refine nv_cl (y := lN 2) rfl ?_
      refine nv_lsub (a := pn) (b := 2) hx hb dX1_work_117 (by omega) ?_
      refine cl_l (wc := [(h0, .inr (1, [.ref q0, .long (lN pn)]))]) (wr := [(q0, .inl (d0, 1024, .inr (.inl f)))]) (va_runV (As := [.long (lN (2 ^ mm)), .long (lN (pn - 2))]) (rest := []) ⟨hx, hb, hml, hown, hts⟩ (metX1_power l dC dI H.size h0 q0 (2 ^ mm) (pn - 2) pn (by omega) (by omega) (by omega) hp2) (cwV 2 hts (lw_V q79 q81 qs0 q5 q82) rfl rfl rfl (by decide +kernel) ⟨Nat.le_of_ble_eq_true rfl, Nat.le_of_ble_eq_true rfl⟩) (preV (wc := [(h0, .inr (1, [.ref q0, .long (lN pn)]))]) (tc := []) (ci := 1) hK hP hD [0] (by decide) rfl [] rfl rfl rfl) rfl rfl hl.1 rfl (lv_room (Nat.le_of_ble_eq_true rfl)) dX1_work_118 ⟨Nat.le_refl _, Nat.le_refl _⟩) hP hD hS hA [0] [1] rfl rfl (by decide) (by decide) (fun r3 u3 H locs hw3 hP hD hK1 hS => ?_)
      have hP : va_P (dC, dI) vwCl [(q0, .inl (d0, 1024, .inr (.inl f))), (h0, .inr (1, [.ref q0, .long (lN pn)]))] H := hP
      have hD : va_D A [(q0, .inl (d0, 1024, .inr (.inl f))), (h0, .inr (1, [.ref q0, .long (lN pn)]))] := hD
      refine nv_cl (y := lN ((2 ^ mm) ^ (pn - 2) % pn)) hw3 ?_
      refine lv_lstore (lv' := [(6, .long (lN ((2 ^ mm) ^ (pn - 2) % pn))), (0, .ref h0), (1, .int (nI (2 ^ mm))), (3, .int bk)]) hx hb dX1_work_121 hl (by decide) rfl (fun ls hl => ?_)
      refine lv_iconst (v := nI 0) hx hb dX1_work_123 (by decide) ?_
      refine lv_istore (lv' := [(8, .int (nI 0)), (6, .long (lN ((2 ^ mm) ^ (pn - 2) % pn))), (0, .ref h0), (1, .int (nI (2 ^ mm))), (3, .int bk)]) hx hb dX1_work_124 hl (by decide) rfl (fun ls hl => ?_)
      refine lpX1_workS (y := g') hx hb hml hown hts hA hK hm (by omega) hp2 (Nat.mod_lt _ (by omega)) ?_ (2 ^ mm + 1) 0 f (Nat.zero_le _) (by rw [sp_sc_0]; exact hrp) (Nat.lt_succ_of_le (Nat.sub_le _ _)) H locs (hP.sub [1, 0] rfl) (hD.sub [1, 0] (by decide) rfl) hS ls (lv_sub hl [0, 1, 2, 3] rfl)
      intro f hsc H locs hP hD hS ls hl
      exact rt_v hx hb hr hlocks f (fun k hk => by rw [(hsc k hk).1, sp_out_t hc2, ← hse k hk]; unfold sp_sc; rw [if_pos hk]) (hP.sub [0, 1] rfl) (hK.sub [0] rfl) (hD.sub [0, 1] (by decide) rfl) hS dX1_work_160
    · exact rt_v hx hb hr hlocks f (fun k hk => by rw [(hrp k hk).1, sp_out_f (by first | exact hc2 | exact Decidable.not_not.mp hc2), ← hse k hk]) (hP.sub [0, 1] rfl) (hK.sub [0] rfl) (hD.sub [0, 1] (by decide) rfl) hS dX1_work_106
  · refine lv_aload_n hx hb dX1_work_17 rfl (lv_at hl 1 rfl) ?_
    refine lv_lload hx hb dX1_work_18 (lv_at hl 0 rfl) ?_
    refine lv_aload_n hx hb dX1_work_20 rfl (lv_at hl 1 rfl) ?_
    refine va_get (D := (dC, dI)) (ci := 1) (v := .long (lN pn)) (C := RX1) (T := TX1) (N := 2) hx hb hts in_X1 hown hK hP 1 rfl rfl 1 (by decide) (hts _ q24) (fun _ h9 => h9) rfl dX1_work_21 ?_
    refine lv_ldc2 hx hb hown (hts _ q78) dX1_work_24 ?_
    refine nv_cl (y := lN 2) rfl ?_
    refine nv_lsub (a := pn) (b := 2) hx hb dX1_work_27 (by omega) ?_
    refine cl_l (wc := [(h0, .inr (1, [.ref q0, .long (lN pn)]))]) (wr := [(q0, .inl (d0, 1024, .inr (.inl f0)))]) (va_runV (As := [.long (lN (sp_w (2 ^ mm) pn)), .long (lN (pn - 2))]) (rest := []) ⟨hx, hb, hml, hown, hts⟩ (metX1_power l dC dI H.size h0 q0 (sp_w (2 ^ mm) pn) (pn - 2) pn (by omega) (by omega) (by omega) hp2) (cwV 2 hts (lw_V q79 q81 qs0 q5 q82) rfl rfl rfl (by decide +kernel) ⟨Nat.le_of_ble_eq_true rfl, Nat.le_of_ble_eq_true rfl⟩) (preV (wc := [(h0, .inr (1, [.ref q0, .long (lN pn)]))]) (tc := []) (ci := 1) hK hP hD [1] (by decide) rfl [] rfl rfl rfl) rfl rfl hl.1 rfl (lv_room (Nat.le_of_ble_eq_true rfl)) dX1_work_28 ⟨Nat.le_refl _, Nat.le_refl _⟩) hP hD hS hA [1] [0] rfl rfl (by decide) (by decide) (fun r2 u2 H locs hw2 hP hD hK1 hS => ?_)
    have hP : va_P (dC, dI) vwCl [(q0, .inl (d0, 1024, .inr (.inl f0))), (h0, .inr (1, [.ref q0, .long (lN pn)]))] H := hP
    have hD : va_D A [(q0, .inl (d0, 1024, .inr (.inl f0))), (h0, .inr (1, [.ref q0, .long (lN pn)]))] := hD
    refine nv_cl (y := lN (sp_wb (2 ^ mm) pn (decide (¬ bk = 0)))) (by rw [sp_wb_t hc]; exact hw2) ?_
    refine lv_lstore (lv' := [(4, .long (lN (sp_wb (2 ^ mm) pn (decide (¬ bk = 0))))), (0, .ref h0), (1, .int (nI (2 ^ mm))), (2, .int (nI pn)), (3, .int bk)]) hx hb dX1_work_31 hl (by decide) rfl (fun ls hl => ?_)
    refine lv_aload_n hx hb dX1_work_33 rfl (lv_at hl 1 rfl) ?_
    refine lv_iload_n hx hb dX1_work_34 rfl (lv_at hl 2 rfl) ?_
    refine cl_v (wc := [(h0, .inr (1, [.ref q0, .long (lN pn)])), (q0, .inl (d0, 1024, .inr (.inl f0)))]) (wr := []) (va_runV (As := [.int (nI (2 ^ mm))]) (rest := []) ⟨hx, hb, hml, hown, hts⟩ (metX1_turn l dC dI H.size h0 q0 (lN pn) d0 f0 mm hm) (cwV 1 hts (lw_V q83 q85 qs1 q5 q86) rfl rfl rfl (by decide +kernel) ⟨Nat.le_of_ble_eq_true rfl, Nat.le_of_ble_eq_true rfl⟩) (preV (wc := [(h0, .inr (1, [.ref q0, .long (lN pn)])), (q0, .inl (d0, 1024, .inr (.inl f0)))]) (tc := [(d0, .long)]) (ci := 1) hK hP hD [1, 0] (by decide) rfl [0] rfl rfl rfl) rfl rfl hl.1 rfl (lv_room (Nat.le_of_ble_eq_true rfl)) dX1_work_35 ⟨Nat.le_refl _, Nat.le_refl _⟩) hP hD hS hA [1, 0] [] rfl rfl (by decide) (by decide) (fun u2 H locs hw2 hP hD hK1 hS => ?_)
    have hP : va_P (dC, dI) vwCl [(h0, .inr (1, [.ref q0, .long (lN pn)])), (q0, .inl (d0, 1024, .inr (.inl u2)))] H := hP
    have hD : va_D A [(h0, .inr (1, [.ref q0, .long (lN pn)])), (q0, .inl (d0, 1024, .inr (.inl u2)))] := hD
    refine lv_iconst (v := nI 1) hx hb dX1_work_38 (by decide) ?_
    refine lv_istore (lv' := [(6, .int (nI 1)), (4, .long (lN (sp_wb (2 ^ mm) pn (decide (¬ bk = 0))))), (0, .ref h0), (1, .int (nI (2 ^ mm))), (2, .int (nI pn)), (3, .int bk)]) hx hb dX1_work_39 hl (by decide) rfl (fun ls hl => ?_)
    refine lpX1_work (g := g) hx hb hml hown hts hA hK hm (by omega) hp2 hwb (sp_wb_m hv _) ?_ (mm + 1) mm 0 u2 (fun j => g (sp_rev mm j)) (Nat.add_zero mm) (sp_stage_0 (fun j hj => (hf j hj).2) (fun _ _ => rfl)) (fun j hj => ⟨by rw [hw2 j hj]; exact (hf _ (sp_rev_lt mm j)).1, (hf _ (sp_rev_lt mm j)).2⟩) (by omega) H locs hP hD hS ls (lv_sub hl [0, 1, 2, 3, 5] rfl)
    intro f g' hst hrp H locs hP hD hS ls hl
    have hse := sp_stage_e hst
    refine lv_iload_n hx hb dX1_work_102 rfl (lv_at hl 2 rfl) ?_
    refine lv_if_ne (tgt := 107) hx hb dX1_work_103 (by decide) (fun hc2 => ?_) (fun hc2 => ?_)
    · refine lv_aload_n hx hb dX1_work_107 rfl (lv_at hl 0 rfl) ?_
      refine lv_iload_n hx hb dX1_work_108 rfl (lv_at hl 1 rfl) ?_
      refine nv_i2l (a := 2 ^ mm) hx hb dX1_work_109 (by omega) ?_
      refine lv_aload_n hx hb dX1_work_110 rfl (lv_at hl 0 rfl) ?_
      refine va_get (D := (dC, dI)) (ci := 1) (v := .long (lN pn)) (C := RX1) (T := TX1) (N := 2) hx hb hts in_X1 hown hK hP 0 rfl rfl 1 (by decide) (hts _ q24) (fun _ h9 => h9) rfl dX1_work_111 ?_
      refine lv_ldc2 hx hb hown (hts _ q78) dX1_work_114 ?_
      refine nv_cl (y := lN 2) rfl ?_
      refine nv_lsub (a := pn) (b := 2) hx hb dX1_work_117 (by omega) ?_
      refine cl_l (wc := [(h0, .inr (1, [.ref q0, .long (lN pn)]))]) (wr := [(q0, .inl (d0, 1024, .inr (.inl f)))]) (va_runV (As := [.long (lN (2 ^ mm)), .long (lN (pn - 2))]) (rest := []) ⟨hx, hb, hml, hown, hts⟩ (metX1_power l dC dI H.size h0 q0 (2 ^ mm) (pn - 2) pn (by omega) (by omega) (by omega) hp2) (cwV 2 hts (lw_V q79 q81 qs0 q5 q82) rfl rfl rfl (by decide +kernel) ⟨Nat.le_of_ble_eq_true rfl, Nat.le_of_ble_eq_true rfl⟩) (preV (wc := [(h0, .inr (1, [.ref q0, .long (lN pn)]))]) (tc := []) (ci := 1) hK hP hD [0] (by decide) rfl [] rfl rfl rfl) rfl rfl hl.1 rfl (lv_room (Nat.le_of_ble_eq_true rfl)) dX1_work_118 ⟨Nat.le_refl _, Nat.le_refl _⟩) hP hD hS hA [0] [1] rfl rfl (by decide) (by decide) (fun r3 u3 H locs hw3 hP hD hK1 hS => ?_)
      have hP : va_P (dC, dI) vwCl [(q0, .inl (d0, 1024, .inr (.inl f))), (h0, .inr (1, [.ref q0, .long (lN pn)]))] H := hP
      have hD : va_D A [(q0, .inl (d0, 1024, .inr (.inl f))), (h0, .inr (1, [.ref q0, .long (lN pn)]))] := hD
      refine nv_cl (y := lN ((2 ^ mm) ^ (pn - 2) % pn)) hw3 ?_
      refine lv_lstore (lv' := [(6, .long (lN ((2 ^ mm) ^ (pn - 2) % pn))), (0, .ref h0), (1, .int (nI (2 ^ mm))), (3, .int bk)]) hx hb dX1_work_121 hl (by decide) rfl (fun ls hl => ?_)
      refine lv_iconst (v := nI 0) hx hb dX1_work_123 (by decide) ?_
      refine lv_istore (lv' := [(8, .int (nI 0)), (6, .long (lN ((2 ^ mm) ^ (pn - 2) % pn))), (0, .ref h0), (1, .int (nI (2 ^ mm))), (3, .int bk)]) hx hb dX1_work_124 hl (by decide) rfl (fun ls hl => ?_)
      refine lpX1_workS (y := g') hx hb hml hown hts hA hK hm (by omega) hp2 (Nat.mod_lt _ (by omega)) ?_ (2 ^ mm + 1) 0 f (Nat.zero_le _) (by rw [sp_sc_0]; exact hrp) (Nat.lt_succ_of_le (Nat.sub_le _ _)) H locs (hP.sub [1, 0] rfl) (hD.sub [1, 0] (by decide) rfl) hS ls (lv_sub hl [0, 1, 2, 3] rfl)
      intro f hsc H locs hP hD hS ls hl
      exact rt_v hx hb hr hlocks f (fun k hk => by rw [(hsc k hk).1, sp_out_t hc2, ← hse k hk]; unfold sp_sc; rw [if_pos hk]) (hP.sub [0, 1] rfl) (hK.sub [0] rfl) (hD.sub [0, 1] (by decide) rfl) hS dX1_work_160
    · exact rt_v hx hb hr hlocks f (fun k hk => by rw [(hrp k hk).1, sp_out_f (by first | exact hc2 | exact Decidable.not_not.mp hc2), ← hse k hk]) (hP.sub [0, 1] rfl) (hK.sub [0] rfl) (hD.sub [0, 1] (by decide) rfl) hS dX1_work_106
end
section
/-! plain rows for the outer class and the reference -/
theorem rs_t (a P : Int) (hP : 0 < P) : (0 ≤ a.tmod P → a.tmod P = a % P) ∧ (a.tmod P < 0 → a.tmod P + P = a % P) := by
  have h1 := Int.emod_nonneg a (show P ≠ 0 by omega)
  have h2 := Int.emod_lt_of_pos a hP
  rw [Int.tmod_eq_emod]
  split <;> omega
theorem rs_eq {x : Int64} {v : Int64} {pn : Nat} (hp : 0 < pn) (hm : pn ≤ 1000000007) (h : x.toInt = v.toInt % (pn : Int)) : x = lN (sp_res v pn) := by
  have h1 := Int.emod_nonneg v.toInt (show (pn : Int) ≠ 0 by omega)
  have h2 := sp_res_lt v hp
  apply Int64.toInt_inj.mp
  rw [pk_lT (by omega), h]
  unfold sp_res
  omega
theorem rs_rem (v : Int64) {pn : Nat} (hm : pn ≤ 1000000007) : (v - v / lN pn * lN pn).toInt = v.toInt.tmod (pn : Int) := by
  rw [Jvm.Kit.i64_rem, pk_lT (by omega)]
theorem rs_pos {v rv : Int64} {pn : Nat} (e : rv = v - v / lN pn * lN pn) (hp : 0 < pn) (hm : pn ≤ 1000000007) (h : lN 0 ≤ rv) : rv = lN (sp_res v pn) := by
  have h1 := rs_rem v hm
  rw [← e] at h1
  rw [Int64.le_iff_toInt_le, pk_lT (by decide)] at h
  refine rs_eq hp hm ?_
  rw [h1]
  rw [h1] at h
  exact (rs_t _ _ (by omega)).1 h
theorem rs_neg {v rv : Int64} {pn : Nat} (e : rv = v - v / lN pn * lN pn) (hp : 0 < pn) (hm : pn ≤ 1000000007) (h : ¬ lN 0 ≤ rv) : rv + lN pn = lN (sp_res v pn) := by
  have h1 := rs_rem v hm
  rw [← e] at h1
  rw [Int64.le_iff_toInt_le, pk_lT (by decide)] at h
  have h2 := (rs_t v.toInt pn (by omega)).2 (by rw [← h1]; omega)
  have h3 := Int.emod_nonneg v.toInt (show (pn : Int) ≠ 0 by omega)
  have h4 := Int.emod_lt_of_pos v.toInt (show 0 < (pn : Int) by omega)
  refine rs_eq hp hm ?_
  rw [Jvm.Kit.i64_add (by rw [h1, pk_lT (by omega)]; omega) (by rw [h1, pk_lT (by omega)]; omega), h1, pk_lT (by omega), h2]
theorem rs_two {v rv sv : Int64} {pn : Nat} (e : rv = v - v / lN pn * lN pn) (e2 : sv = rv + lN pn) (hp : 0 < pn) (hm : pn ≤ 1000000007) : sv - sv / lN pn * lN pn = lN (sp_res v pn) := by
  have h1 := rs_rem v hm
  rw [← e] at h1
  have hb := tmod_bounds (a := v.toInt) (M := (pn : Int)) (by omega)
  have h3 := Int.emod_nonneg v.toInt (show (pn : Int) ≠ 0 by omega)
  have h4 := Int.emod_lt_of_pos v.toInt (show 0 < (pn : Int) by omega)
  have hs : sv.toInt = v.toInt.tmod pn + pn := by
    rw [e2, Jvm.Kit.i64_add (by rw [h1, pk_lT (by omega)]; omega) (by rw [h1, pk_lT (by omega)]; omega), h1, pk_lT (by omega)]
  refine rs_eq hp hm ?_
  rw [rs_rem sv hm, hs, Int.tmod_eq_emod_of_nonneg (by omega)]
  have ht := rs_t v.toInt pn (by omega)
  rcases Int.le_total 0 (v.toInt.tmod pn) with q | q
  · rw [ht.1 q, Int.add_emod_right, Int.emod_emod]
  · rcases (show v.toInt.tmod pn = 0 ∨ v.toInt.tmod pn < 0 by omega) with z | z
    · rw [ht.1 (by omega), Int.add_emod_right, Int.emod_emod]
    · rw [ht.2 z, Int.emod_emod]
def sp_place (x : Int32) : Prop := ∃ k : Nat, k < 1024 ∧ x = nI k
theorem pl_neg {x : Int32} (h : x < 0) : ¬ sp_place x := by
  rintro ⟨k, hk, rfl⟩
  exact nI_pos (by omega) h
theorem pl_big {x : Int32} (h : nI 1024 ≤ x) : ¬ sp_place x := by
  rintro ⟨k, hk, rfl⟩
  have := (nI_leI (by decide) (by omega)).mp h
  omega
theorem pl_in {x : Int32} (h : ¬ x < 0) (h2 : ¬ nI 1024 ≤ x) : sp_place x := by
  rcases pk_ix x (n := 1024) (by decide) with q | q | ⟨j, hj, e⟩
  · exact absurd q h
  · exact absurd q h2
  · exact ⟨j, hj, e⟩
noncomputable def sp_put (x : Int32) (v : Int64) (f : Nat → Int64) : Nat → Int64 := by
  classical
  exact (if sp_place x then vp_updL f x.toNatClampNeg v else f)
noncomputable def sp_get (x : Int32) (f : Nat → Int64) : Int64 := by
  classical
  exact (if sp_place x then f x.toNatClampNeg else 0)
theorem sp_put_t {k : Nat} (hk : k < 1024) (v : Int64) (f : Nat → Int64) : sp_put (nI k) v f = vp_updL f k v := by
  unfold sp_put
  rw [if_pos ⟨k, hk, rfl⟩, nI_clamp (by omega)]
theorem sp_put_f {x : Int32} (h : ¬ sp_place x) (v : Int64) (f : Nat → Int64) : sp_put x v f = f := by
  unfold sp_put
  rw [if_neg h]
theorem sp_get_t {k : Nat} (hk : k < 1024) (f : Nat → Int64) : sp_get (nI k) f = f k := by
  unfold sp_get
  rw [if_pos ⟨k, hk, rfl⟩, nI_clamp (by omega)]
theorem sp_get_f {x : Int32} (h : ¬ sp_place x) (f : Nat → Int64) : sp_get x f = 0 := by
  unfold sp_get
  rw [if_neg h]
theorem gd_big {x : Int32} (h : nI 1000000007 < x) : ¬ sp_good x := by
  rintro ⟨n, rfl, h3, hn, -⟩
  have := (nI_ltI (by decide) (by omega)).mp h
  omega
theorem gd_pp {x : Int32} (h : ¬ nI 1000000007 < x) : sp_good x ↔ sp_pp x := by
  constructor
  · rintro ⟨n, rfl, h3, hn, hp⟩
    exact ⟨n, rfl, h3, by omega, hp⟩
  · rintro ⟨n, rfl, h3, hn, hp⟩
    refine ⟨n, rfl, h3, ?_, hp⟩
    rcases Nat.lt_or_ge 1000000007 n with q | q
    · exact absurd ((nI_ltI (by decide) hn).mpr q) h
    · exact q
theorem sp_b_ne {P : Prop} {r : Int32} (h : sp_b P r) (h0 : ¬ r = 0) : P := by
  rcases h with ⟨-, h⟩ | ⟨h, -⟩
  · exact h
  · exact absurd h h0
theorem sp_b_0 {P : Prop} {r : Int32} (h : sp_b P r) (h0 : r = 0) : ¬ P := by
  rcases h with ⟨h, -⟩ | ⟨-, h⟩
  · rw [h0] at h; exact absurd h (by decide)
  · exact h
theorem rf_n0 {n : Int32} (h : ¬ n < nI 1) : ¬ n = 0 := by
  intro q
  rw [q] at h
  exact h (by decide)
theorem rf_nb {n : Int32} (h1 : ¬ n < nI 1) (h2 : ¬ nI 1024 < n) (h3 : (n &&& (n - nI 1)) = 0) : ¬ sp_badn n := by
  rintro (q | q | q)
  · exact h1 q
  · exact h2 q
  · exact q h3
theorem rf_z {n p : Int32} (h : 0 ≤ sp_rfz n p) : sp_rfz n p = 0 := by
  rcases sp_rfz_neg n p with q | q
  · rw [Int32.lt_iff_toInt_lt] at q
    rw [Int32.le_iff_toInt_le] at h
    omega
  · exact q
theorem rf_m {n p : Int32} (h : ¬ 0 ≤ sp_rfz n p) : sp_rfz n p < 0 := by
  rcases sp_rfz_neg n p with q | q
  · exact q
  · rw [q] at h; exact absurd (by decide) h
/-- nothing refused, with the power named -/
theorem rf_val {n p : Int32} (h : sp_rfz n p = 0) : ∃ mm pn : Nat, mm ≤ 10 ∧ n = nI (2 ^ mm) ∧ p = nI pn ∧ sp_val (2 ^ mm) pn := by
  obtain ⟨N, P, h1, h2, hv⟩ := sp_rfz_val h
  obtain ⟨mm, hm, e⟩ := hv.2.2.2.2.1
  subst e
  exact ⟨mm, P, hm, h1, h2, hv⟩
def sp_fill (f g : Nat → Int64) (i : Nat) : Nat → Int64 := fun k => if k < i then f k else g k
theorem sp_fill_0 (f g : Nat → Int64) : sp_fill f g 0 = g := funext fun k => if_neg (Nat.not_lt_zero k)
theorem sp_fill_at (f g : Nat → Int64) (i : Nat) : sp_fill f g i i = g i := if_neg (Nat.lt_irrefl i)
theorem sp_fill_s (f g : Nat → Int64) (i : Nat) {x : Int64} (h : x = f i) : vp_updL (sp_fill f g i) i x = sp_fill f g (i + 1) := by
  subst h
  funext k
  by_cases e : k = i
  · subst e
    rw [pk_uLs]
    exact (if_pos (Nat.lt_succ_self k)).symm
  · rw [pk_uLn e]
    unfold sp_fill
    by_cases q : k < i
    · rw [if_pos q, if_pos (by omega)]
    · rw [if_neg q, if_neg (by omega)]
theorem sp_tr_ok {mm pn : Nat} {b : Int32} {row u : Nat → Int64} (hm : mm ≤ 10) (hpn : pn ≤ 1000000007) (h : sp_rfz (nI (2 ^ mm)) (nI pn) = 0) (hu : ∀ k, k < 2 ^ mm → u k = lN (sp_out (fun j => sp_res (row j) pn) (2 ^ mm) pn (decide (¬ b = 0)) k)) : sp_fill u row (2 ^ mm) = sp_tr (nI (2 ^ mm)) (nI pn) b row := by
  have hle := p2_le hm
  funext k
  unfold sp_fill sp_tr
  rw [nI_clamp (by omega), nI_clamp (by omega)]
  by_cases q : k < 2 ^ mm
  · rw [if_pos q, if_pos ⟨h, q⟩, hu k q]
  · rw [if_neg q, if_neg (fun z => q z.2)]
noncomputable def sp_keep (n : Int32) (row kept : Nat → Int64) : Nat → Int64 := by
  classical
  exact (if sp_badt n then kept else sp_fill (fun k => if k < n.toNatClampNeg then row k else 0) kept 1024)
theorem sp_keep_b {n : Int32} (h : sp_badt n) (row kept : Nat → Int64) : sp_keep n row kept = kept := by unfold sp_keep; rw [if_pos h]
theorem sp_keep_g {n : Int32} (h : ¬ sp_badt n) (row kept : Nat → Int64) : sp_keep n row kept = sp_fill (fun k => if k < n.toNatClampNeg then row k else 0) kept 1024 := by unfold sp_keep; rw [if_neg h]
theorem bt_in {n : Int32} (h : ¬ n < 0) (h2 : n ≤ nI 1024) : ∃ nn : Nat, nn ≤ 1024 ∧ n = nI nn := nI_of2 (M := nI 1024) (n := 1024) (nI_toInt (by decide)) h h2
theorem bt_ok {nn : Nat} (h : nn ≤ 1024) : ¬ sp_badt (nI nn) := by
  rintro (q | q)
  · exact nI_pos (by omega) q
  · have := (nI_ltI (show 1024 < 2 ^ 31 by decide) (by omega)).mp (show nI 1024 < nI nn from q)
    omega
theorem bt_big {n : Int32} (h : ¬ n ≤ nI 1024) : sp_badt n := by
  refine Or.inr ?_
  rw [Int32.lt_iff_toInt_lt]
  rw [Int32.le_iff_toInt_le] at h
  exact Int.not_le.mp h
theorem sp_times_b {n p : Int32} {row kept : Nat → Int64} (h : ¬ sp_tans n p = 0) : sp_times n p row kept = row := by
  funext k
  unfold sp_times
  rw [if_neg (fun q => h q.1)]
theorem sp_times_g {nn pn : Nat} {row kept : Nat → Int64} (h : sp_tans (nI nn) (nI pn) = 0) (hn : nn ≤ 1024) (hp : pn ≤ 1000000007) : sp_fill (fun k => lN (sp_res (row k) pn * sp_res (kept k) pn % pn)) row nn = sp_times (nI nn) (nI pn) row kept := by
  funext k
  unfold sp_fill sp_times
  rw [nI_clamp (by omega), nI_clamp (by omega)]
  by_cases q : k < nn
  · rw [if_pos q, if_pos ⟨h, q⟩]
  · rw [if_neg q, if_neg (fun z => q z.2)]
theorem sp_root_g {mm pn : Nat} (hm : mm ≤ 10) (hp : pn ≤ 1000000007) (h : sp_rfz (nI (2 ^ mm)) (nI pn) = 0) : sp_root (nI (2 ^ mm)) (nI pn) = lN (sp_w (2 ^ mm) pn) := by
  have hle := p2_le hm
  unfold sp_root
  rw [if_pos h, nI_clamp (by omega), nI_clamp (by omega)]
theorem sp_root_b {n p : Int32} (h : sp_rfz n p < 0) : sp_root n p = 0 := by
  unfold sp_root
  rw [if_neg]
  intro q
  rw [q] at h
  exact absurd h (by decide)
end
section
set_option maxHeartbeats 4000000 in
set_option maxRecDepth 100000 in
/-- isPlace(k) -/
theorem metX0_isPlace (l : Launch) (dC : Nat → ClassId) (dI : Nat → Nat → Nat) (sz : Nat) (x : Int32)  : Met l yX0_isPlace (ws_ yX0_isPlace cX0_isPlace 1 (some .boolean)) ({ frames := 0, cells := 0, slots := 0, locals := 0 }) (pcW [.int x] sz dC dI [] []) (va_Qi (fun (r : Int32) (u : Unit) => sp_b (sp_place x) r) (bw dC dI (va_A [] sz) (fun u => []) (fun u => [])) (va_A [] sz)) 0 0 (va_A [] sz) := by
  refine Met.ofW (cc := cX0_isPlace) (maxL := 1) (ret := (some .boolean)) (by decide) rfl ?_
  intro p e s m args below meth c s₁ B hml hv
  obtain ⟨rfl, hsz, hP, hK, hD0⟩ := hv
  have hx := B.exec
  have hb := B.bytes
  have hr := B.returns
  have hts := atoms_spec (ws := ws_ yX0_isPlace cX0_isPlace 1 (some .boolean)) B.pre
  have hts : ∀ w ∈ lw_all, w.before _ s = true := fun w h => hts w (List.mem_cons_of_mem _ h)
  have hown : s.vm.findClass RX0 = some m.cls := findClass_of_methodNamed B.named
  have hlocks := B.notSynchronized
  subst hsz
  have hD := hD0.self (sz := s.heap.size)
  generalize hAe : va_A [] s.heap.size = A at hD ⊢
  have hA : ∀ q : Nat, s.heap.size ≤ q → A q := fun q h => by rw [← hAe]; exact Or.inr h
  have hS : va_S A s.heap s.heap [] := va_S.rf
  have hP : va_P (dC, dI) vwCl [] s.heap := hP
  have hl := lv_entry ([.int x]) (n := 1) (Nat.le_of_ble_eq_true rfl)
  rw [lg_entry_eq]
  generalize (lg_sl ([.int x]) ++ List.replicate (1 - (lg_sl ([.int x])).length) Slot.unset).toArray = ls at hl ⊢
  have hl : lv_has ls 1 [(0, .int x)] := hl
  refine lv_iload_n hx hb dX0_isPlace_0 rfl (lv_at hl 0 rfl) ?_
  refine lv_if_lt (tgt := 15) hx hb dX0_isPlace_1 (by decide) (fun hc => ?_) (fun hc => ?_)
  · refine lv_iconst (v := nI 0) hx hb dX0_isPlace_15 (by decide) ?_
    exact rt_z hx hb hr hlocks rfl (()) (sp_bF (pl_neg hc)) (hP.sub [] rfl) (hK.sub [] rfl) (hD.sub [] (by decide) rfl) hS dX0_isPlace_16
  · refine lv_iload_n hx hb dX0_isPlace_4 rfl (lv_at hl 0 rfl) ?_
    refine lv_sipush (v := nI 1024) hx hb dX0_isPlace_5 (by decide) ?_
    refine lv_icmp_ge (tgt := 15) hx hb dX0_isPlace_8 (by decide) (fun hc2 => ?_) (fun hc2 => ?_)
    · refine lv_iconst (v := nI 0) hx hb dX0_isPlace_15 (by decide) ?_
      exact rt_z hx hb hr hlocks rfl (()) (sp_bF (pl_big hc2)) (hP.sub [] rfl) (hK.sub [] rfl) (hD.sub [] (by decide) rfl) hS dX0_isPlace_16
    · refine lv_iconst (v := nI 1) hx hb dX0_isPlace_11 (by decide) ?_
      refine lv_goto (tgt := 16) hx hb dX0_isPlace_12 (by decide) ?_
      exact rt_z hx hb hr hlocks rfl (()) (sp_bT (pl_in hc hc2)) (hP.sub [] rfl) (hK.sub [] rfl) (hD.sub [] (by decide) rfl) hS dX0_isPlace_16
set_option maxHeartbeats 4000000 in
set_option maxRecDepth 100000 in
/-- put(k, v) -/
theorem metX0_put (l : Launch) (dC : Nat → ClassId) (dI : Nat → Nat → Nat) (sz : Nat) (h0 a1 a2 a3 : Nat) (d2 : ClassId) (fr : Nat → Int64) (x : Int32) (v : Int64)  : Met l yX0_put (ws_ yX0_put cX0_put 4 (some .boolean)) ({ frames := 1, cells := 0, slots := 0, locals := 20 }) (pcW [.ref h0, .int x, .long v] sz dC dI [(h0, .inr (0, [.ref a1, .ref a2, .ref a3])), (a2, .inl (d2, 1024, .inr (.inl fr)))] [(d2, .long)]) (va_Qi (fun (r : Int32) (u : Nat → Int64) => sp_b (sp_place x) r ∧ u = sp_put x v fr) (bw dC dI (va_A [(h0, .inr (0, [.ref a1, .ref a2, .ref a3])), (a2, .inl (d2, 1024, .inr (.inl fr)))] sz) (fun u => [(h0, .inr (0, [.ref a1, .ref a2, .ref a3])), (a2, .inl (d2, 1024, .inr (.inl u)))]) (fun u => [(d2, .long)])) (va_A [(h0, .inr (0, [.ref a1, .ref a2, .ref a3])), (a2, .inl (d2, 1024, .inr (.inl fr)))] sz)) 0 0 (va_A [(h0, .inr (0, [.ref a1, .ref a2, .ref a3])), (a2, .inl (d2, 1024, .inr (.inl fr)))] sz) := by
  refine Met.ofW (cc := cX0_put) (maxL := 4) (ret := (some .boolean)) (by decide) rfl ?_
  intro p e s m args below meth c s₁ B hml hv
  obtain ⟨rfl, hsz, hP, hK, hD0⟩ := hv
  have hx := B.exec
  have hb := B.bytes
  have hr := B.returns
  have hts := atoms_spec (ws := ws_ yX0_put cX0_put 4 (some .boolean)) B.pre
  have hts : ∀ w ∈ lw_all, w.before _ s = true := fun w h => hts w (List.mem_cons_of_mem _ h)
  have hown : s.vm.findClass RX0 = some m.cls := findClass_of_methodNamed B.named
  have hlocks := B.notSynchronized
  subst hsz
  have hD := hD0.self (sz := s.heap.size)
  generalize hAe : va_A [(h0, .inr (0, [.ref a1, .ref a2, .ref a3])), (a2, .inl (d2, 1024, .inr (.inl fr)))] s.heap.size = A at hD ⊢
  have hA : ∀ q : Nat, s.heap.size ≤ q → A q := fun q h => by rw [← hAe]; exact Or.inr h
  have hS : va_S A s.heap s.heap [] := va_S.rf
  have hP : va_P (dC, dI) vwCl [(h0, .inr (0, [.ref a1, .ref a2, .ref a3])), (a2, .inl (d2, 1024, .inr (.inl fr)))] s.heap := hP
  have hl := lv_entry ([.ref h0, .int x, .long v]) (n := 4) (Nat.le_of_ble_eq_true rfl)
  rw [lg_entry_eq]
  generalize (lg_sl ([.ref h0, .int x, .long v]) ++ List.replicate (4 - (lg_sl ([.ref h0, .int x, .long v])).length) Slot.unset).toArray = ls at hl ⊢
  have hl : lv_has ls 4 [(0, .ref h0), (1, .int x), (2, .long v)] := hl
  refine lv_iload_n hx hb dX0_put_0 rfl (lv_at hl 1 rfl) ?_
  refine cl_i (wc := []) (wr := [(h0, .inr (0, [.ref a1, .ref a2, .ref a3])), (a2, .inl (d2, 1024, .inr (.inl fr)))]) (va_runS (As := [.int x]) (rest := []) ⟨hx, hb, hml, hown, hts⟩ (metX0_isPlace l dC dI s.heap.size x) (va_cwS 1 hts (lw_S q46 q47 q4 q48) rfl rfl rfl (by decide +kernel) ⟨Nat.le_of_ble_eq_true rfl, Nat.le_of_ble_eq_true rfl⟩) (preS (wc := []) (tc := []) hK hP hD [] (by decide) rfl [] rfl) rfl rfl hl.1 rfl (lv_room (Nat.le_of_ble_eq_true rfl)) dX0_put_1 ⟨Nat.le_refl _, Nat.le_refl _⟩) hP hD hS hA [] [0, 1] rfl rfl (by decide) (by decide) (fun r1 u1 H locs hw1 hP hD hK1 hS => ?_)
  have hP : va_P (dC, dI) vwCl [(h0, .inr (0, [.ref a1, .ref a2, .ref a3])), (a2, .inl (d2, 1024, .inr (.inl fr)))] H := hP
  have hD : va_D A [(h0, .inr (0, [.ref a1, .ref a2, .ref a3])), (a2, .inl (d2, 1024, .inr (.inl fr)))] := hD
  refine lv_if_ne (tgt := 9) hx hb dX0_put_4 (by decide) (fun hc => ?_) (fun hc => ?_)
  · have hpl := sp_b_ne hw1 hc
    obtain ⟨k, hk, rfl⟩ := sp_b_ne hw1 hc
    refine lv_aload_n hx hb dX0_put_9 rfl (lv_at hl 0 rfl) ?_
    refine va_get (D := (dC, dI)) (ci := 0) (v := .ref a2) (C := RX0) (T := TX0) (N := 3) hx hb hts in_X0 hown hK hP 0 rfl rfl 1 (by decide) (hts _ q33) (fun _ h9 => h9) rfl dX0_put_10 ?_
    refine lv_iload_n hx hb dX0_put_13 rfl (lv_at hl 1 rfl) ?_
    refine lv_lload_n hx hb dX0_put_14 rfl (lv_at hl 2 rfl) ?_
    refine nv_last (i := k) hx hb hK hP hD hS 1 0 rfl rfl (by omega) (by decide) dX0_put_15 (fun H locs hP hD hS => ?_)
    have hP : va_P (dC, dI) vwCl [(h0, .inr (0, [.ref a1, .ref a2, .ref a3])), (a2, .inl (d2, 1024, .inr (.inl (vp_updL fr k v))))] H := hP
    have hD : va_D A [(h0, .inr (0, [.ref a1, .ref a2, .ref a3])), (a2, .inl (d2, 1024, .inr (.inl (vp_updL fr k v))))] := hD
    refine lv_iconst (v := nI 1) hx hb dX0_put_16 (by decide) ?_
    exact rt_z hx hb hr hlocks rfl ((vp_updL fr k v)) (⟨sp_bT hpl, (sp_put_t hk v fr).symm⟩) (hP.sub [0, 1] rfl) (hK.sub [0] rfl) (hD.sub [0, 1] (by decide) rfl) hS dX0_put_17
  · refine lv_iconst (v := nI 0) hx hb dX0_put_7 (by decide) ?_
    exact rt_z hx hb hr hlocks rfl fr (⟨sp_bF (sp_b_0 hw1 hc), (sp_put_f (sp_b_0 hw1 hc) v fr).symm⟩) (hP.sub [0, 1] rfl) (hK.sub [0] rfl) (hD.sub [0, 1] (by decide) rfl) hS dX0_put_8
set_option maxHeartbeats 4000000 in
set_option maxRecDepth 100000 in
/-- get(k) -/
theorem metX0_get (l : Launch) (dC : Nat → ClassId) (dI : Nat → Nat → Nat) (sz : Nat) (h0 a1 a2 a3 : Nat) (d2 : ClassId) (fr : Nat → Int64) (x : Int32)  : Met l yX0_get (ws_ yX0_get cX0_get 2 (some .long)) ({ frames := 1, cells := 0, slots := 0, locals := 20 }) (pcW [.ref h0, .int x] sz dC dI [(h0, .inr (0, [.ref a1, .ref a2, .ref a3])), (a2, .inl (d2, 1024, .inr (.inl fr)))] [(d2, .long)]) (va_Ql (fun (r : Int64) (u : Unit) => r = sp_get x fr) (bw dC dI (va_A [(h0, .inr (0, [.ref a1, .ref a2, .ref a3])), (a2, .inl (d2, 1024, .inr (.inl fr)))] sz) (fun u => [(h0, .inr (0, [.ref a1, .ref a2, .ref a3])), (a2, .inl (d2, 1024, .inr (.inl fr)))]) (fun u => [(d2, .long)])) (va_A [(h0, .inr (0, [.ref a1, .ref a2, .ref a3])), (a2, .inl (d2, 1024, .inr (.inl fr)))] sz)) 0 0 (va_A [(h0, .inr (0, [.ref a1, .ref a2, .ref a3])), (a2, .inl (d2, 1024, .inr (.inl fr)))] sz) := by
  refine Met.ofW (cc := cX0_get) (maxL := 2) (ret := (some .long)) (by decide) rfl ?_
  intro p e s m args below meth c s₁ B hml hv
  obtain ⟨rfl, hsz, hP, hK, hD0⟩ := hv
  have hx := B.exec
  have hb := B.bytes
  have hr := B.returns
  have hts := atoms_spec (ws := ws_ yX0_get cX0_get 2 (some .long)) B.pre
  have hts : ∀ w ∈ lw_all, w.before _ s = true := fun w h => hts w (List.mem_cons_of_mem _ h)
  have hown : s.vm.findClass RX0 = some m.cls := findClass_of_methodNamed B.named
  have hlocks := B.notSynchronized
  subst hsz
  have hD := hD0.self (sz := s.heap.size)
  generalize hAe : va_A [(h0, .inr (0, [.ref a1, .ref a2, .ref a3])), (a2, .inl (d2, 1024, .inr (.inl fr)))] s.heap.size = A at hD ⊢
  have hA : ∀ q : Nat, s.heap.size ≤ q → A q := fun q h => by rw [← hAe]; exact Or.inr h
  have hS : va_S A s.heap s.heap [] := va_S.rf
  have hP : va_P (dC, dI) vwCl [(h0, .inr (0, [.ref a1, .ref a2, .ref a3])), (a2, .inl (d2, 1024, .inr (.inl fr)))] s.heap := hP
  have hl := lv_entry ([.ref h0, .int x]) (n := 2) (Nat.le_of_ble_eq_true rfl)
  rw [lg_entry_eq]
  generalize (lg_sl ([.ref h0, .int x]) ++ List.replicate (2 - (lg_sl ([.ref h0, .int x])).length) Slot.unset).toArray = ls at hl ⊢
  have hl : lv_has ls 2 [(0, .ref h0), (1, .int x)] := hl
  refine lv_iload_n hx hb dX0_get_0 rfl (lv_at hl 1 rfl) ?_
  refine cl_i (wc := []) (wr := [(h0, .inr (0, [.ref a1, .ref a2, .ref a3])), (a2, .inl (d2, 1024, .inr (.inl fr)))]) (va_runS (As := [.int x]) (rest := []) ⟨hx, hb, hml, hown, hts⟩ (metX0_isPlace l dC dI s.heap.size x) (va_cwS 1 hts (lw_S q46 q47 q4 q48) rfl rfl rfl (by decide +kernel) ⟨Nat.le_of_ble_eq_true rfl, Nat.le_of_ble_eq_true rfl⟩) (preS (wc := []) (tc := []) hK hP hD [] (by decide) rfl [] rfl) rfl rfl hl.1 rfl (lv_room (Nat.le_of_ble_eq_true rfl)) dX0_get_1 ⟨Nat.le_refl _, Nat.le_refl _⟩) hP hD hS hA [] [0, 1] rfl rfl (by decide) (by decide) (fun r1 u1 H locs hw1 hP hD hK1 hS => ?_)
  have hP : va_P (dC, dI) vwCl [(h0, .inr (0, [.ref a1, .ref a2, .ref a3])), (a2, .inl (d2, 1024, .inr (.inl fr)))] H := hP
  have hD : va_D A [(h0, .inr (0, [.ref a1, .ref a2, .ref a3])), (a2, .inl (d2, 1024, .inr (.inl fr)))] := hD
  refine lv_if_eq (tgt := 16) hx hb dX0_get_4 (by decide) (fun hc => ?_) (fun hc => ?_)
  · refine lv_lconst (v := lN 0) hx hb dX0_get_16 rfl ?_
    exact rt_l hx hb hr hlocks (()) ((sp_get_f (sp_b_0 hw1 hc) fr).symm) (hP.sub [0, 1] rfl) (hK.sub [0] rfl) (hD.sub [0, 1] (by decide) rfl) hS dX0_get_17
  · obtain ⟨k, hk, rfl⟩ := sp_b_ne hw1 hc
    refine lv_aload_n hx hb dX0_get_7 rfl (lv_at hl 0 rfl) ?_
    refine va_get (D := (dC, dI)) (ci := 0) (v := .ref a2) (C := RX0) (T := TX0) (N := 3) hx hb hts in_X0 hown hK hP 0 rfl rfl 1 (by decide) (hts _ q33) (fun _ h9 => h9) rfl dX0_get_8 ?_
    refine lv_iload_n hx hb dX0_get_11 rfl (lv_at hl 1 rfl) ?_
    refine nv_lald (i := k) hx hb hK hP 1 0 rfl rfl (by omega) (by decide) dX0_get_12 ?_
    refine lv_goto (tgt := 17) hx hb dX0_get_13 (by decide) ?_
    exact rt_l hx hb hr hlocks (()) ((sp_get_t hk fr).symm) (hP.sub [0, 1] rfl) (hK.sub [0] rfl) (hD.sub [0, 1] (by decide) rfl) hS dX0_get_17
set_option maxHeartbeats 4000000 in
set_option maxRecDepth 100000 in
/-- isGood(p) -/
theorem metX0_isGood (l : Launch) (dC : Nat → ClassId) (dI : Nat → Nat → Nat) (sz : Nat) (x : Int32)  : Met l yX0_isGood (ws_ yX0_isGood cX0_isGood 1 (some .boolean)) ({ frames := 1, cells := 0, slots := 0, locals := 21 }) (pcW [.int x] sz dC dI [] []) (va_Qi (fun (r : Int32) (u : Unit) => sp_b (sp_good x) r) (bw dC dI (va_A [] sz) (fun u => []) (fun u => [])) (va_A [] sz)) 0 0 (va_A [] sz) := by
  refine Met.ofW (cc := cX0_isGood) (maxL := 1) (ret := (some .boolean)) (by decide) rfl ?_
  intro p e s m args below meth c s₁ B hml hv
  obtain ⟨rfl, hsz, hP, hK, hD0⟩ := hv
  have hx := B.exec
  have hb := B.bytes
  have hr := B.returns
  have hts := atoms_spec (ws := ws_ yX0_isGood cX0_isGood 1 (some .boolean)) B.pre
  have hts : ∀ w ∈ lw_all, w.before _ s = true := fun w h => hts w (List.mem_cons_of_mem _ h)
  have hown : s.vm.findClass RX0 = some m.cls := findClass_of_methodNamed B.named
  have hlocks := B.notSynchronized
  subst hsz
  have hD := hD0.self (sz := s.heap.size)
  generalize hAe : va_A [] s.heap.size = A at hD ⊢
  have hA : ∀ q : Nat, s.heap.size ≤ q → A q := fun q h => by rw [← hAe]; exact Or.inr h
  have hS : va_S A s.heap s.heap [] := va_S.rf
  have hP : va_P (dC, dI) vwCl [] s.heap := hP
  have hl := lv_entry ([.int x]) (n := 1) (Nat.le_of_ble_eq_true rfl)
  rw [lg_entry_eq]
  generalize (lg_sl ([.int x]) ++ List.replicate (1 - (lg_sl ([.int x])).length) Slot.unset).toArray = ls at hl ⊢
  have hl : lv_has ls 1 [(0, .int x)] := hl
  refine lv_iload_n hx hb dX0_isGood_0 rfl (lv_at hl 0 rfl) ?_
  refine lv_ldc hx hb hown (hts _ q63) dX0_isGood_1 ?_
  refine nv_ci (y := nI 1000000007) rfl ?_
  refine lv_icmp_gt (tgt := 17) hx hb dX0_isGood_3 (by decide) (fun hc => ?_) (fun hc => ?_)
  · refine lv_iconst (v := nI 0) hx hb dX0_isGood_17 (by decide) ?_
    exact rt_z hx hb hr hlocks rfl (()) (sp_bF (gd_big hc)) (hP.sub [] rfl) (hK.sub [] rfl) (hD.sub [] (by decide) rfl) hS dX0_isGood_18
  · refine lv_iload_n hx hb dX0_isGood_6 rfl (lv_at hl 0 rfl) ?_
    refine cl_i (wc := []) (wr := []) (va_runS (As := [.int x]) (rest := []) ⟨hx, hb, hml, hown, hts⟩ (metX1_isPrime l dC dI s.heap.size x) (va_cwS 1 hts (lw_S q64 q65 q5 q66) rfl rfl rfl (by decide +kernel) ⟨Nat.le_of_ble_eq_true rfl, Nat.le_of_ble_eq_true rfl⟩) (preS (wc := []) (tc := []) hK hP hD [] (by decide) rfl [] rfl) rfl rfl hl.1 rfl (lv_room (Nat.le_of_ble_eq_true rfl)) dX0_isGood_7 ⟨Nat.le_refl _, Nat.le_refl _⟩) hP hD hS hA [] [] rfl rfl (by decide) (by decide) (fun r1 u1 H locs hw1 hP hD hK1 hS => ?_)
    have hP : va_P (dC, dI) vwCl [] H := hP
    have hD : va_D A [] := hD
    refine lv_if_eq (tgt := 17) hx hb dX0_isGood_10 (by decide) (fun hc2 => ?_) (fun hc2 => ?_)
    · refine lv_iconst (v := nI 0) hx hb dX0_isGood_17 (by decide) ?_
      exact rt_z hx hb hr hlocks rfl (()) (sp_bF (fun q => sp_b_0 hw1 hc2 ((gd_pp hc).mp q))) (hP.sub [] rfl) (hK.sub [] rfl) (hD.sub [] (by decide) rfl) hS dX0_isGood_18
    · refine lv_iconst (v := nI 1) hx hb dX0_isGood_13 (by decide) ?_
      refine lv_goto (tgt := 18) hx hb dX0_isGood_14 (by decide) ?_
      exact rt_z hx hb hr hlocks rfl (()) (sp_bT ((gd_pp hc).mpr (sp_b_ne hw1 hc2))) (hP.sub [] rfl) (hK.sub [] rfl) (hD.sub [] (by decide) rfl) hS dX0_isGood_18
set_option maxHeartbeats 4000000 in
set_option maxRecDepth 100000 in
/-- what is refused -/
theorem metX0_refusal (l : Launch) (dC : Nat → ClassId) (dI : Nat → Nat → Nat) (sz : Nat) (n q : Int32)  : Met l yX0_refusal (ws_ yX0_refusal cX0_refusal 2 (some .int)) ({ frames := 2, cells := 0, slots := 0, locals := 41 }) (pcW [.int n, .int q] sz dC dI [] []) (va_Qi (fun (r : Int32) (u : Unit) => r = sp_rfz n q) (bw dC dI (va_A [] sz) (fun u => []) (fun u => [])) (va_A [] sz)) 0 0 (va_A [] sz) := by
  refine Met.ofW (cc := cX0_refusal) (maxL := 2) (ret := (some .int)) (by decide) rfl ?_
  intro p e s m args below meth c s₁ B hml hv
  obtain ⟨rfl, hsz, hP, hK, hD0⟩ := hv
  have hx := B.exec
  have hb := B.bytes
  have hr := B.returns
  have hts := atoms_spec (ws := ws_ yX0_refusal cX0_refusal 2 (some .int)) B.pre
  have hts : ∀ w ∈ lw_all, w.before _ s = true := fun w h => hts w (List.mem_cons_of_mem _ h)
  have hown : s.vm.findClass RX0 = some m.cls := findClass_of_methodNamed B.named
  have hlocks := B.notSynchronized
  subst hsz
  have hD := hD0.self (sz := s.heap.size)
  generalize hAe : va_A [] s.heap.size = A at hD ⊢
  have hA : ∀ q : Nat, s.heap.size ≤ q → A q := fun q h => by rw [← hAe]; exact Or.inr h
  have hS : va_S A s.heap s.heap [] := va_S.rf
  have hP : va_P (dC, dI) vwCl [] s.heap := hP
  have hl := lv_entry ([.int n, .int q]) (n := 2) (Nat.le_of_ble_eq_true rfl)
  rw [lg_entry_eq]
  generalize (lg_sl ([.int n, .int q]) ++ List.replicate (2 - (lg_sl ([.int n, .int q])).length) Slot.unset).toArray = ls at hl ⊢
  have hl : lv_has ls 2 [(0, .int n), (1, .int q)] := hl
  refine lv_iload_n hx hb dX0_refusal_0 rfl (lv_at hl 0 rfl) ?_
  refine lv_iconst (v := nI 1) hx hb dX0_refusal_1 (by decide) ?_
  refine lv_icmp_lt (tgt := 20) hx hb dX0_refusal_2 (by decide) (fun hc => ?_) (fun hc => ?_)
  · refine lv_iconst (v := (-1)) hx hb dX0_refusal_20 (by decide) ?_
    exact rt_i hx hb hr hlocks (()) ((sp_rfz_1 (Or.inl hc)).symm) (hP.sub [] rfl) (hK.sub [] rfl) (hD.sub [] (by decide) rfl) hS dX0_refusal_21
  · refine lv_iload_n hx hb dX0_refusal_5 rfl (lv_at hl 0 rfl) ?_
    refine lv_sipush (v := nI 1024) hx hb dX0_refusal_6 (by decide) ?_
    refine lv_icmp_gt (tgt := 20) hx hb dX0_refusal_9 (by decide) (fun hc2 => ?_) (fun hc2 => ?_)
    · refine lv_iconst (v := (-1)) hx hb dX0_refusal_20 (by decide) ?_
      exact rt_i hx hb hr hlocks (()) ((sp_rfz_1 (Or.inr (Or.inl hc2))).symm) (hP.sub [] rfl) (hK.sub [] rfl) (hD.sub [] (by decide) rfl) hS dX0_refusal_21
    · refine lv_iload_n hx hb dX0_refusal_12 rfl (lv_at hl 0 rfl) ?_
      refine lv_iload_n hx hb dX0_refusal_13 rfl (lv_at hl 0 rfl) ?_
      refine lv_iconst (v := nI 1) hx hb dX0_refusal_14 (by decide) ?_
      refine lv_isub hx hb dX0_refusal_15 ?_
      refine lv_iand hx hb dX0_refusal_16 ?_
      refine lv_if_eq (tgt := 22) hx hb dX0_refusal_17 (by decide) (fun hc3 => ?_) (fun hc3 => ?_)
      · have hnb := rf_nb hc hc2 hc3
        refine lv_iload_n hx hb dX0_refusal_22 rfl (lv_at hl 1 rfl) ?_
        refine cl_i (wc := []) (wr := []) (va_runS (As := [.int q]) (rest := []) ⟨hx, hb, hml, hown, hts⟩ (metX0_isGood l dC dI s.heap.size q) (va_cwS 1 hts (lw_S q60 q61 q4 q62) rfl rfl rfl (by decide +kernel) ⟨Nat.le_of_ble_eq_true rfl, Nat.le_of_ble_eq_true rfl⟩) (preS (wc := []) (tc := []) hK hP hD [] (by decide) rfl [] rfl) rfl rfl hl.1 rfl (lv_room (Nat.le_of_ble_eq_true rfl)) dX0_refusal_23 ⟨Nat.le_refl _, Nat.le_refl _⟩) hP hD hS hA [] [] rfl rfl (by decide) (by decide) (fun r1 u1 H locs hw1 hP hD hK1 hS => ?_)
        have hP : va_P (dC, dI) vwCl [] H := hP
        have hD : va_D A [] := hD
        refine lv_if_ne (tgt := 32) hx hb dX0_refusal_26 (by decide) (fun hc4 => ?_) (fun hc4 => ?_)
        · refine lv_iload_n hx hb dX0_refusal_32 rfl (lv_at hl 1 rfl) ?_
          refine lv_iconst (v := nI 1) hx hb dX0_refusal_33 (by decide) ?_
          refine lv_isub hx hb dX0_refusal_34 ?_
          refine lv_iload_n hx hb dX0_refusal_35 rfl (lv_at hl 0 rfl) ?_
          refine lv_irem hx hb dX0_refusal_36 (rf_n0 hc) ?_
          refine lv_if_eq (tgt := 45) hx hb dX0_refusal_37 (by decide) (fun hc5 => ?_) (fun hc5 => ?_)
          · refine lv_iconst (v := nI 0) hx hb dX0_refusal_45 (by decide) ?_
            exact rt_i hx hb hr hlocks (()) ((sp_rfz_0 hnb (sp_b_ne hw1 hc4) hc5).symm) (hP.sub [] rfl) (hK.sub [] rfl) (hD.sub [] (by decide) rfl) hS dX0_refusal_46
          · refine lv_bipush (v := (-3)) hx hb dX0_refusal_40 (by decide) ?_
            refine lv_goto (tgt := 46) hx hb dX0_refusal_42 (by decide) ?_
            exact rt_i hx hb hr hlocks (()) ((sp_rfz_3 hnb (sp_b_ne hw1 hc4) hc5).symm) (hP.sub [] rfl) (hK.sub [] rfl) (hD.sub [] (by decide) rfl) hS dX0_refusal_46
        · refine lv_bipush (v := (-2)) hx hb dX0_refusal_29 (by decide) ?_
          exact rt_i hx hb hr hlocks (()) ((sp_rfz_2 hnb (sp_b_0 hw1 hc4)).symm) (hP.sub [] rfl) (hK.sub [] rfl) (hD.sub [] (by decide) rfl) hS dX0_refusal_31
      · refine lv_iconst (v := (-1)) hx hb dX0_refusal_20 (by decide) ?_
        exact rt_i hx hb hr hlocks (()) ((sp_rfz_1 (Or.inr (Or.inr hc3))).symm) (hP.sub [] rfl) (hK.sub [] rfl) (hD.sub [] (by decide) rfl) hS dX0_refusal_21
set_option maxHeartbeats 4000000 in
set_option maxRecDepth 100000 in
/-- rest(v, p) -/
theorem metX0_rest (l : Launch) (dC : Nat → ClassId) (dI : Nat → Nat → Nat) (sz : Nat) (v : Int64) (pn : Nat) (hp0 : 0 < pn) (hpm : pn ≤ 1000000007) : Met l yX0_rest (ws_ yX0_rest cX0_rest 5 (some .long)) ({ frames := 0, cells := 0, slots := 0, locals := 0 }) (pcW [.long v, .int (nI pn)] sz dC dI [] []) (va_Ql (fun (r : Int64) (u : Unit) => r = lN (sp_res v pn)) (bw dC dI (va_A [] sz) (fun u => []) (fun u => [])) (va_A [] sz)) 0 0 (va_A [] sz) := by
  refine Met.ofW (cc := cX0_rest) (maxL := 5) (ret := (some .long)) (by decide) rfl ?_
  intro p e s m args below meth c s₁ B hml hv
  obtain ⟨rfl, hsz, hP, hK, hD0⟩ := hv
  have hx := B.exec
  have hb := B.bytes
  have hr := B.returns
  have hts := atoms_spec (ws := ws_ yX0_rest cX0_rest 5 (some .long)) B.pre
  have hts : ∀ w ∈ lw_all, w.before _ s = true := fun w h => hts w (List.mem_cons_of_mem _ h)
  have hown : s.vm.findClass RX0 = some m.cls := findClass_of_methodNamed B.named
  have hlocks := B.notSynchronized
  subst hsz
  have hD := hD0.self (sz := s.heap.size)
  generalize hAe : va_A [] s.heap.size = A at hD ⊢
  have hA : ∀ q : Nat, s.heap.size ≤ q → A q := fun q h => by rw [← hAe]; exact Or.inr h
  have hS : va_S A s.heap s.heap [] := va_S.rf
  have hP : va_P (dC, dI) vwCl [] s.heap := hP
  have hl := lv_entry ([.long v, .int (nI pn)]) (n := 5) (Nat.le_of_ble_eq_true rfl)
  rw [lg_entry_eq]
  generalize (lg_sl ([.long v, .int (nI pn)]) ++ List.replicate (5 - (lg_sl ([.long v, .int (nI pn)])).length) Slot.unset).toArray = ls at hl ⊢
  have hl : lv_has ls 5 [(0, .long v), (2, .int (nI pn))] := hl
  refine lv_lload_n hx hb dX0_rest_0 rfl (lv_at hl 0 rfl) ?_
  refine lv_iload_n hx hb dX0_rest_1 rfl (lv_at hl 1 rfl) ?_
  refine nv_i2l (a := pn) hx hb dX0_rest_2 (by omega) ?_
  refine lv_lrem hx hb dX0_rest_3 (nv_lne0 (by omega) (by omega)) ?_
  refine lv_topl (fun rv erv => ?_)
  refine lv_lstore_n (lv' := [(3, .long rv), (0, .long v), (2, .int (nI pn))]) hx hb dX0_rest_4 rfl hl (by decide) rfl (fun ls hl => ?_)
  refine lv_lload_n hx hb dX0_rest_5 rfl (lv_at hl 0 rfl) ?_
  refine lv_lconst (v := lN 0) hx hb dX0_rest_6 rfl ?_
  refine W.lcmp hx hb dX0_rest_7 ?_
  refine lv_if_ge (tgt := 18) hx hb dX0_rest_8 (by decide) (fun hc => ?_) (fun hc => ?_)
  · refine lv_lload_n hx hb dX0_rest_18 rfl (lv_at hl 0 rfl) ?_
    exact rt_l hx hb hr hlocks (()) (rs_pos erv hp0 hpm ((lg_cmp_ge _ _).mp hc)) (hP.sub [] rfl) (hK.sub [] rfl) (hD.sub [] (by decide) rfl) hS dX0_rest_19
  · refine lv_lload_n hx hb dX0_rest_11 rfl (lv_at hl 0 rfl) ?_
    refine lv_iload_n hx hb dX0_rest_12 rfl (lv_at hl 2 rfl) ?_
    refine nv_i2l (a := pn) hx hb dX0_rest_13 (by omega) ?_
    refine lv_ladd hx hb dX0_rest_14 ?_
    refine lv_goto (tgt := 19) hx hb dX0_rest_15 (by decide) ?_
    exact rt_l hx hb hr hlocks (()) (rs_neg erv hp0 hpm (fun q => hc ((lg_cmp_ge _ _).mpr q))) (hP.sub [] rfl) (hK.sub [] rfl) (hD.sub [] (by decide) rfl) hS dX0_rest_19
end
section
set_option maxHeartbeats 4000000 in
set_option maxRecDepth 100000 in
theorem lpX0_trA {p : Program} {l : Launch} {e : Env} {s : State} {m : MethodId} {args : Array Value} {below : List Frame} {meth : Method} {c : Code} {Q : State → Prop} {dC : Nat → ClassId} {dI : Nat → Nat → Nat} {A : Nat → Prop} {h0 a1 a2 a3 a4 : Nat} {d2 d4 : ClassId} {mm pn : Nat} {bk : Int32} {pv : Int64} {fr : Nat → Int64} (hx : p.tables.exec = Jvm.exec) (hb : c.code = cX0_transform) (hml : c.maxLocals = 6) (hown : s.vm.findClass RX0 = some m.cls) (hts : ∀ w ∈ lw_all, w.before args s = true) (hA : ∀ q : Nat, s.heap.size ≤ q → A q) (hK : va_K (dC, dI) vwCl [(d4, .long), (d2, .long)] s) (hm : mm ≤ 10) (hp0 : 0 < pn) (hpm : pn ≤ 1000000007) (hQ : ∀ (fw : Nat → Int64), (∀ k, k < 2 ^ mm → fw k = lN (sp_res (fr k) pn)) → ∀ (H : Heap) (locs : List Loc), va_P (dC, dI) vwCl [(h0, .inr (0, [.ref a1, .ref a2, .ref a3])), (a1, .inr (1, [.ref a4, .long pv])), (a4, .inl (d4, 1024, .inr (.inl fw))), (a2, .inl (d2, 1024, .inr (.inl fr)))] H → va_D A [(h0, .inr (0, [.ref a1, .ref a2, .ref a3])), (a1, .inr (1, [.ref a4, .long pv])), (a4, .inl (d4, 1024, .inr (.inl fw))), (a2, .inl (d2, 1024, .inr (.inl fr)))] → va_S A s.heap H locs → ∀ (ls : Array Slot), lv_has ls 6 [(0, .ref h0), (1, .int (nI (2 ^ mm))), (2, .int (nI pn)), (3, .int bk)] → W p l e ({ frames := 3, cells := 0, slots := 0, locals := 82 } : Room) s m args below meth c H locs 0 0 Q (F0 m 51 ls [])) :
    ∀ (fuel : Nat) (i : Nat) (fw : Nat → Int64), (i ≤ 2 ^ mm) → (fw = sp_fill (fun k => lN (sp_res (fr k) pn)) fw i) → 2 ^ mm - i < fuel → ∀ (H : Heap) (locs : List Loc), va_P (dC, dI) vwCl [(h0, .inr (0, [.ref a1, .ref a2, .ref a3])), (a1, .inr (1, [.ref a4, .long pv])), (a4, .inl (d4, 1024, .inr (.inl fw))), (a2, .inl (d2, 1024, .inr (.inl fr)))] H → va_D A [(h0, .inr (0, [.ref a1, .ref a2, .ref a3])), (a1, .inr (1, [.ref a4, .long pv])), (a4, .inl (d4, 1024, .inr (.inl fw))), (a2, .inl (d2, 1024, .inr (.inl fr)))] → va_S A s.heap H locs → ∀ (ls : Array Slot), lv_has ls 6 [(5, .int (nI i)), (0, .ref h0), (1, .int (nI (2 ^ mm))), (2, .int (nI pn)), (3, .int bk)] → W p l e ({ frames := 3, cells := 0, slots := 0, locals := 82 } : Room) s m args below meth c H locs 0 0 Q (F0 m 18 ls []) := by
  intro fuel
  induction fuel with
  | zero =>
    intro i fw hi hfw hfu
    exact absurd hfu (Nat.not_lt_zero _)
  | succ fuel ih =>
    intro i fw hi hfw hfu H locs hP hD hS ls hl
    have hle := p2_le hm
    refine lv_iload hx hb dX0_transform_18 (lv_at hl 0 rfl) ?_
    refine lv_iload_n hx hb dX0_transform_20 rfl (lv_at hl 2 rfl) ?_
    refine nv_icmp_ge (a := i) (b := 2 ^ mm) (tgt := 51) hx hb dX0_transform_21 (by decide) (by omega) (by omega) (fun hc => ?_) (fun hc => ?_)
    · obtain rfl : i = 2 ^ mm := by omega
      exact hQ fw (fun k hk => by rw [hfw]; exact if_pos hk) H locs hP hD hS ls (lv_sub hl [1, 2, 3, 4] rfl)
    · refine lv_aload_n hx hb dX0_transform_24 rfl (lv_at hl 1 rfl) ?_
      refine va_get (D := (dC, dI)) (ci := 0) (v := .ref a1) (C := RX0) (T := TX0) (N := 3) hx hb hts in_X0 hown hK hP 0 rfl rfl 0 (by decide) (hts _ q32) (fun _ h9 => h9) rfl dX0_transform_25 ?_
      refine va_get (D := (dC, dI)) (ci := 1) (v := .ref a4) (C := RX1) (T := TX1) (N := 2) hx hb hts in_X1 hown hK hP 1 rfl rfl 0 (by decide) (hts _ q22) (fun _ h9 => h9) rfl dX0_transform_28 ?_
      refine lv_iload hx hb dX0_transform_31 (lv_at hl 0 rfl) ?_
      refine lv_aload_n hx hb dX0_transform_33 rfl (lv_at hl 1 rfl) ?_
      refine va_get (D := (dC, dI)) (ci := 0) (v := .ref a2) (C := RX0) (T := TX0) (N := 3) hx hb hts in_X0 hown hK hP 0 rfl rfl 1 (by decide) (hts _ q33) (fun _ h9 => h9) rfl dX0_transform_34 ?_
      refine lv_iload hx hb dX0_transform_37 (lv_at hl 0 rfl) ?_
      refine nv_lald (i := i) hx hb hK hP 3 1 rfl rfl (by omega) (by decide) dX0_transform_39 ?_
      refine lv_iload_n hx hb dX0_transform_40 rfl (lv_at hl 3 rfl) ?_
      refine cl_l (wc := []) (wr := [(h0, .inr (0, [.ref a1, .ref a2, .ref a3])), (a1, .inr (1, [.ref a4, .long pv])), (a4, .inl (d4, 1024, .inr (.inl fw))), (a2, .inl (d2, 1024, .inr (.inl fr)))]) (va_runS (As := [.long (fr i), .int (nI pn)]) (rest := [.int (nI i), .ref a4]) ⟨hx, hb, hml, hown, hts⟩ (metX0_rest l dC dI H.size (fr i) pn hp0 hpm) (va_cwS 2 hts (lw_S q67 q68 q4 q69) rfl rfl rfl (by decide +kernel) ⟨Nat.le_of_ble_eq_true rfl, Nat.le_of_ble_eq_true rfl⟩) (preS (wc := []) (tc := []) hK hP hD [] (by decide) rfl [] rfl) rfl rfl hl.1 rfl (lv_room (Nat.le_of_ble_eq_true rfl)) dX0_transform_41 ⟨Nat.le_refl _, Nat.le_refl _⟩) hP hD hS hA [] [0, 1, 2, 3] rfl rfl (by decide) (by decide) (fun r1 u1 H locs hw1 hP hD hK1 hS => ?_)
      have hP : va_P (dC, dI) vwCl [(h0, .inr (0, [.ref a1, .ref a2, .ref a3])), (a1, .inr (1, [.ref a4, .long pv])), (a4, .inl (d4, 1024, .inr (.inl fw))), (a2, .inl (d2, 1024, .inr (.inl fr)))] H := hP
      have hD : va_D A [(h0, .inr (0, [.ref a1, .ref a2, .ref a3])), (a1, .inr (1, [.ref a4, .long pv])), (a4, .inl (d4, 1024, .inr (.inl fw))), (a2, .inl (d2, 1024, .inr (.inl fr)))] := hD
      refine nv_cl (y := lN (sp_res (fr i) pn)) hw1 ?_
      refine nv_last (i := i) hx hb hK hP hD hS 2 0 rfl rfl (by omega) (by decide) dX0_transform_44 (fun H locs hP hD hS => ?_)
      have hP : va_P (dC, dI) vwCl [(h0, .inr (0, [.ref a1, .ref a2, .ref a3])), (a1, .inr (1, [.ref a4, .long pv])), (a4, .inl (d4, 1024, .inr (.inl (vp_updL fw i (lN (sp_res (fr i) pn)))))), (a2, .inl (d2, 1024, .inr (.inl fr)))] H := hP
      have hD : va_D A [(h0, .inr (0, [.ref a1, .ref a2, .ref a3])), (a1, .inr (1, [.ref a4, .long pv])), (a4, .inl (d4, 1024, .inr (.inl (vp_updL fw i (lN (sp_res (fr i) pn)))))), (a2, .inl (d2, 1024, .inr (.inl fr)))] := hD
      refine lv_iinc (v := nI (i + 1)) (lv' := [(5, .int (nI (i + 1))), (0, .ref h0), (1, .int (nI (2 ^ mm))), (2, .int (nI pn)), (3, .int bk)]) hx hb dX0_transform_45 hl (k := 0) rfl (nI_add _ 1) (by decide) rfl (fun ls hl => ?_)
      refine lv_goto (tgt := 18) hx hb dX0_transform_48 (by decide) ?_
      exact ih (i + 1) _ hc (by
        funext k
        unfold sp_fill
        by_cases e : k = i
        · subst e
          rw [pk_uLs, if_pos (Nat.lt_succ_self k)]
        · rw [pk_uLn e]
          by_cases q : k < i
          · rw [if_pos (by omega), hfw]
            exact if_pos q
          · rw [if_neg (by omega)]) (by omega) H locs hP hD hS ls (lv_sub hl [0, 1, 2, 3, 4] rfl)
set_option maxHeartbeats 4000000 in
set_option maxRecDepth 100000 in
theorem lpX0_trB {p : Program} {l : Launch} {e : Env} {R : Room} {s : State} {m : MethodId} {args : Array Value} {below : List Frame} {meth : Method} {c : Code} {Q : State → Prop} {cells slots : Nat} {dC : Nat → ClassId} {dI : Nat → Nat → Nat} {A : Nat → Prop} {h0 a1 a2 a3 a4 : Nat} {d2 d4 : ClassId} {mm pn : Nat} {bk : Int32} {fw fr : Nat → Int64} (hx : p.tables.exec = Jvm.exec) (hb : c.code = cX0_transform) (hml : c.maxLocals = 6) (hown : s.vm.findClass RX0 = some m.cls) (hts : ∀ w ∈ lw_all, w.before args s = true) (hA : ∀ q : Nat, s.heap.size ≤ q → A q) (hK : va_K (dC, dI) vwCl [(d4, .long), (d2, .long)] s) (hm : mm ≤ 10) (hQ : ∀ (H : Heap) (locs : List Loc), va_P (dC, dI) vwCl [(h0, .inr (0, [.ref a1, .ref a2, .ref a3])), (a1, .inr (1, [.ref a4, .long (lN pn)])), (a4, .inl (d4, 1024, .inr (.inl fw))), (a2, .inl (d2, 1024, .inr (.inl (sp_fill fw fr (2 ^ mm)))))] H → va_D A [(h0, .inr (0, [.ref a1, .ref a2, .ref a3])), (a1, .inr (1, [.ref a4, .long (lN pn)])), (a4, .inl (d4, 1024, .inr (.inl fw))), (a2, .inl (d2, 1024, .inr (.inl (sp_fill fw fr (2 ^ mm)))))] → va_S A s.heap H locs → ∀ (ls : Array Slot), lv_has ls 6 [] → W p l e R s m args below meth c H locs cells slots Q (F0 m 93 ls [])) :
    ∀ (fuel : Nat) (i : Nat), (i ≤ 2 ^ mm) → 2 ^ mm - i < fuel → ∀ (H : Heap) (locs : List Loc), va_P (dC, dI) vwCl [(h0, .inr (0, [.ref a1, .ref a2, .ref a3])), (a1, .inr (1, [.ref a4, .long (lN pn)])), (a4, .inl (d4, 1024, .inr (.inl fw))), (a2, .inl (d2, 1024, .inr (.inl (sp_fill fw fr i))))] H → va_D A [(h0, .inr (0, [.ref a1, .ref a2, .ref a3])), (a1, .inr (1, [.ref a4, .long (lN pn)])), (a4, .inl (d4, 1024, .inr (.inl fw))), (a2, .inl (d2, 1024, .inr (.inl (sp_fill fw fr i))))] → va_S A s.heap H locs → ∀ (ls : Array Slot), lv_has ls 6 [(5, .int (nI i)), (0, .ref h0), (1, .int (nI (2 ^ mm))), (2, .int (nI pn)), (3, .int bk)] → W p l e R s m args below meth c H locs cells slots Q (F0 m 64 ls []) := by
  intro fuel
  induction fuel with
  | zero =>
    intro i hi hfu
    exact absurd hfu (Nat.not_lt_zero _)
  | succ fuel ih =>
    intro i hi hfu H locs hP hD hS ls hl
    have hle := p2_le hm
    refine lv_iload hx hb dX0_transform_64 (lv_at hl 0 rfl) ?_
    refine lv_iload_n hx hb dX0_transform_66 rfl (lv_at hl 2 rfl) ?_
    refine nv_icmp_ge (a := i) (b := 2 ^ mm) (tgt := 93) hx hb dX0_transform_67 (by decide) (by omega) (by omega) (fun hc => ?_) (fun hc => ?_)
    · obtain rfl : i = 2 ^ mm := by omega
      exact hQ H locs hP hD hS ls (lv_sub hl [] rfl)
    · refine lv_aload_n hx hb dX0_transform_70 rfl (lv_at hl 1 rfl) ?_
      refine va_get (D := (dC, dI)) (ci := 0) (v := .ref a2) (C := RX0) (T := TX0) (N := 3) hx hb hts in_X0 hown hK hP 0 rfl rfl 1 (by decide) (hts _ q33) (fun _ h9 => h9) rfl dX0_transform_71 ?_
      refine lv_iload hx hb dX0_transform_74 (lv_at hl 0 rfl) ?_
      refine lv_aload_n hx hb dX0_transform_76 rfl (lv_at hl 1 rfl) ?_
      refine va_get (D := (dC, dI)) (ci := 0) (v := .ref a1) (C := RX0) (T := TX0) (N := 3) hx hb hts in_X0 hown hK hP 0 rfl rfl 0 (by decide) (hts _ q32) (fun _ h9 => h9) rfl dX0_transform_77 ?_
      refine va_get (D := (dC, dI)) (ci := 1) (v := .ref a4) (C := RX1) (T := TX1) (N := 2) hx hb hts in_X1 hown hK hP 1 rfl rfl 0 (by decide) (hts _ q22) (fun _ h9 => h9) rfl dX0_transform_80 ?_
      refine lv_iload hx hb dX0_transform_83 (lv_at hl 0 rfl) ?_
      refine nv_lald (i := i) hx hb hK hP 2 0 rfl rfl (by omega) (by decide) dX0_transform_85 ?_
      refine nv_last (i := i) hx hb hK hP hD hS 3 1 rfl rfl (by omega) (by decide) dX0_transform_86 (fun H locs hP hD hS => ?_)
      have hP : va_P (dC, dI) vwCl [(h0, .inr (0, [.ref a1, .ref a2, .ref a3])), (a1, .inr (1, [.ref a4, .long (lN pn)])), (a4, .inl (d4, 1024, .inr (.inl fw))), (a2, .inl (d2, 1024, .inr (.inl (vp_updL (sp_fill fw fr i) i (fw i)))))] H := hP
      have hD : va_D A [(h0, .inr (0, [.ref a1, .ref a2, .ref a3])), (a1, .inr (1, [.ref a4, .long (lN pn)])), (a4, .inl (d4, 1024, .inr (.inl fw))), (a2, .inl (d2, 1024, .inr (.inl (vp_updL (sp_fill fw fr i) i (fw i)))))] := hD
      refine lv_iinc (v := nI (i + 1)) (lv' := [(5, .int (nI (i + 1))), (0, .ref h0), (1, .int (nI (2 ^ mm))), (2, .int (nI pn)), (3, .int bk)]) hx hb dX0_transform_87 hl (k := 0) rfl (nI_add _ 1) (by decide) rfl (fun ls hl => ?_)
      refine lv_goto (tgt := 64) hx hb dX0_transform_90 (by decide) ?_
      rw [sp_fill_s fw fr i rfl] at hP hD
      exact ih (i + 1) hc (by omega) H locs hP hD hS ls (lv_sub hl [0, 1, 2, 3, 4] rfl)
set_option maxHeartbeats 4000000 in
set_option maxRecDepth 100000 in
/-- transform(n, p, back) -/
theorem metX0_transform (l : Launch) (dC : Nat → ClassId) (dI : Nat → Nat → Nat) (sz : Nat) (h0 a1 a2 a3 a4 : Nat) (d2 d4 : ClassId) (pv : Int64) (fw fr : Nat → Int64) (n q bk : Int32)  : Met l yX0_transform (ws_ yX0_transform cX0_transform 6 (some .int)) ({ frames := 3, cells := 0, slots := 0, locals := 82 }) (pcW [.ref h0, .int n, .int q, .int bk] sz dC dI [(h0, .inr (0, [.ref a1, .ref a2, .ref a3])), (a1, .inr (1, [.ref a4, .long pv])), (a4, .inl (d4, 1024, .inr (.inl fw))), (a2, .inl (d2, 1024, .inr (.inl fr)))] [(d4, .long), (d2, .long)]) (va_Qi (fun (r : Int32) (u : (Nat → Int64) × (Nat → Int64) × Int64) => r = sp_rfz n q ∧ u.1 = sp_tr n q bk fr) (bw dC dI (va_A [(h0, .inr (0, [.ref a1, .ref a2, .ref a3])), (a1, .inr (1, [.ref a4, .long pv])), (a4, .inl (d4, 1024, .inr (.inl fw))), (a2, .inl (d2, 1024, .inr (.inl fr)))] sz) (fun u => [(h0, .inr (0, [.ref a1, .ref a2, .ref a3])), (a1, .inr (1, [.ref a4, .long u.2.2])), (a4, .inl (d4, 1024, .inr (.inl u.2.1))), (a2, .inl (d2, 1024, .inr (.inl u.1)))]) (fun u => [(d4, .long), (d2, .long)])) (va_A [(h0, .inr (0, [.ref a1, .ref a2, .ref a3])), (a1, .inr (1, [.ref a4, .long pv])), (a4, .inl (d4, 1024, .inr (.inl fw))), (a2, .inl (d2, 1024, .inr (.inl fr)))] sz)) 0 0 (va_A [(h0, .inr (0, [.ref a1, .ref a2, .ref a3])), (a1, .inr (1, [.ref a4, .long pv])), (a4, .inl (d4, 1024, .inr (.inl fw))), (a2, .inl (d2, 1024, .inr (.inl fr)))] sz) := by
  refine Met.ofW (cc := cX0_transform) (maxL := 6) (ret := (some .int)) (by decide) rfl ?_
  intro p e s m args below meth c s₁ B hml hv
  obtain ⟨rfl, hsz, hP, hK, hD0⟩ := hv
  have hx := B.exec
  have hb := B.bytes
  have hr := B.returns
  have hts := atoms_spec (ws := ws_ yX0_transform cX0_transform 6 (some .int)) B.pre
  have hts : ∀ w ∈ lw_all, w.before _ s = true := fun w h => hts w (List.mem_cons_of_mem _ h)
  have hown : s.vm.findClass RX0 = some m.cls := findClass_of_methodNamed B.named
  have hlocks := B.notSynchronized
  subst hsz
  have hD := hD0.self (sz := s.heap.size)
  generalize hAe : va_A [(h0, .inr (0, [.ref a1, .ref a2, .ref a3])), (a1, .inr (1, [.ref a4, .long pv])), (a4, .inl (d4, 1024, .inr (.inl fw))), (a2, .inl (d2, 1024, .inr (.inl fr)))] s.heap.size = A at hD ⊢
  have hA : ∀ q : Nat, s.heap.size ≤ q → A q := fun q h => by rw [← hAe]; exact Or.inr h
  have hS : va_S A s.heap s.heap [] := va_S.rf
  have hP : va_P (dC, dI) vwCl [(h0, .inr (0, [.ref a1, .ref a2, .ref a3])), (a1, .inr (1, [.ref a4, .long pv])), (a4, .inl (d4, 1024, .inr (.inl fw))), (a2, .inl (d2, 1024, .inr (.inl fr)))] s.heap := hP
  have hl := lv_entry ([.ref h0, .int n, .int q, .int bk]) (n := 6) (Nat.le_of_ble_eq_true rfl)
  rw [lg_entry_eq]
  generalize (lg_sl ([.ref h0, .int n, .int q, .int bk]) ++ List.replicate (6 - (lg_sl ([.ref h0, .int n, .int q, .int bk])).length) Slot.unset).toArray = ls at hl ⊢
  have hl : lv_has ls 6 [(0, .ref h0), (1, .int n), (2, .int q), (3, .int bk)] := hl
  refine lv_iload_n hx hb dX0_transform_0 rfl (lv_at hl 1 rfl) ?_
  refine lv_iload_n hx hb dX0_transform_1 rfl (lv_at hl 2 rfl) ?_
  refine cl_i (wc := []) (wr := [(h0, .inr (0, [.ref a1, .ref a2, .ref a3])), (a1, .inr (1, [.ref a4, .long pv])), (a4, .inl (d4, 1024, .inr (.inl fw))), (a2, .inl (d2, 1024, .inr (.inl fr)))]) (va_runS (As := [.int n, .int q]) (rest := []) ⟨hx, hb, hml, hown, hts⟩ (metX0_refusal l dC dI s.heap.size n q) (va_cwS 2 hts (lw_S q57 q58 q4 q59) rfl rfl rfl (by decide +kernel) ⟨Nat.le_of_ble_eq_true rfl, Nat.le_of_ble_eq_true rfl⟩) (preS (wc := []) (tc := []) hK hP hD [] (by decide) rfl [] rfl) rfl rfl hl.1 rfl (lv_room (Nat.le_of_ble_eq_true rfl)) dX0_transform_2 ⟨Nat.le_refl _, Nat.le_refl _⟩) hP hD hS hA [] [0, 1, 2, 3] rfl rfl (by decide) (by decide) (fun r1 u1 H locs hw1 hP hD hK1 hS => ?_)
  have hP : va_P (dC, dI) vwCl [(h0, .inr (0, [.ref a1, .ref a2, .ref a3])), (a1, .inr (1, [.ref a4, .long pv])), (a4, .inl (d4, 1024, .inr (.inl fw))), (a2, .inl (d2, 1024, .inr (.inl fr)))] H := hP
  have hD : va_D A [(h0, .inr (0, [.ref a1, .ref a2, .ref a3])), (a1, .inr (1, [.ref a4, .long pv])), (a4, .inl (d4, 1024, .inr (.inl fw))), (a2, .inl (d2, 1024, .inr (.inl fr)))] := hD
  have hw1 : r1 = sp_rfz n q := hw1
  subst hw1
  refine lv_istore (lv' := [(4, .int (sp_rfz n q)), (0, .ref h0), (1, .int n), (2, .int q), (3, .int bk)]) hx hb dX0_transform_5 hl (by decide) rfl (fun ls hl => ?_)
  refine lv_iload hx hb dX0_transform_7 (lv_at hl 0 rfl) ?_
  refine lv_if_ge (tgt := 15) hx hb dX0_transform_9 (by decide) (fun hc => ?_) (fun hc => ?_)
  · have hz := rf_z hc
    rw [hz] at hl
    obtain ⟨mm, pn, hm, rfl, rfl, hv⟩ := rf_val hz
    have hle := p2_le hm
    have hp3 := hv.2.1
    have hpm := hv.2.2.2.1
    refine lv_iconst (v := nI 0) hx hb dX0_transform_15 (by decide) ?_
    refine lv_istore (lv' := [(5, .int (nI 0)), (4, .int 0), (0, .ref h0), (1, .int (nI (2 ^ mm))), (2, .int (nI pn)), (3, .int bk)]) hx hb dX0_transform_16 hl (by decide) rfl (fun ls hl => ?_)
    refine lpX0_trA hx hb hml hown hts hA hK hm (by omega) hpm ?_ (2 ^ mm + 1) 0 fw (Nat.zero_le _) (sp_fill_0 _ _).symm (Nat.lt_succ_of_le (Nat.sub_le _ _)) H locs hP hD hS ls (lv_sub hl [0, 2, 3, 4, 5] rfl)
    intro fw hfw H locs hP hD hS ls hl
    refine lv_aload_n hx hb dX0_transform_51 rfl (lv_at hl 0 rfl) ?_
    refine va_get (D := (dC, dI)) (ci := 0) (v := .ref a1) (C := RX0) (T := TX0) (N := 3) hx hb hts in_X0 hown hK hP 0 rfl rfl 0 (by decide) (hts _ q32) (fun _ h9 => h9) rfl dX0_transform_52 ?_
    refine lv_iload_n hx hb dX0_transform_55 rfl (lv_at hl 1 rfl) ?_
    refine lv_iload_n hx hb dX0_transform_56 rfl (lv_at hl 2 rfl) ?_
    refine lv_iload_n hx hb dX0_transform_57 rfl (lv_at hl 3 rfl) ?_
    refine cl_v (wc := [(a1, .inr (1, [.ref a4, .long pv])), (a4, .inl (d4, 1024, .inr (.inl fw)))]) (wr := [(h0, .inr (0, [.ref a1, .ref a2, .ref a3])), (a2, .inl (d2, 1024, .inr (.inl fr)))]) (va_runV (As := [.int (nI (2 ^ mm)), .int (nI pn), .int bk]) (rest := []) ⟨hx, hb, hml, hown, hts⟩ (metX1_work l dC dI H.size a1 a4 pv d4 fw (fun j => sp_res (fr j) pn) mm pn bk hm hv (fun j hj => ⟨hfw j hj, sp_res_lt _ (by omega)⟩)) (cwV 3 hts (lw_V q70 q71 q72 q5 q73) rfl rfl rfl (by decide +kernel) ⟨Nat.le_of_ble_eq_true rfl, Nat.le_of_ble_eq_true rfl⟩) (preV (wc := [(a1, .inr (1, [.ref a4, .long pv])), (a4, .inl (d4, 1024, .inr (.inl fw)))]) (tc := [(d4, .long)]) (ci := 1) hK hP hD [1, 2] (by decide) rfl [0] rfl rfl rfl) rfl rfl hl.1 rfl (lv_room (Nat.le_of_ble_eq_true rfl)) dX0_transform_58 ⟨Nat.le_refl _, Nat.le_refl _⟩) hP hD hS hA [1, 2] [0, 3] rfl rfl (by decide) (by decide) (fun u2 H locs hw2 hP hD hK1 hS => ?_)
    have hP : va_P (dC, dI) vwCl [(h0, .inr (0, [.ref a1, .ref a2, .ref a3])), (a2, .inl (d2, 1024, .inr (.inl fr))), (a1, .inr (1, [.ref a4, .long (lN pn)])), (a4, .inl (d4, 1024, .inr (.inl u2)))] H := hP
    have hD : va_D A [(h0, .inr (0, [.ref a1, .ref a2, .ref a3])), (a2, .inl (d2, 1024, .inr (.inl fr))), (a1, .inr (1, [.ref a4, .long (lN pn)])), (a4, .inl (d4, 1024, .inr (.inl u2)))] := hD
    refine lv_iconst (v := nI 0) hx hb dX0_transform_61 (by decide) ?_
    refine lv_istore (lv' := [(5, .int (nI 0)), (0, .ref h0), (1, .int (nI (2 ^ mm))), (2, .int (nI pn)), (3, .int bk)]) hx hb dX0_transform_62 hl (by decide) rfl (fun ls hl => ?_)
    refine lpX0_trB (fw := u2) (fr := fr) hx hb hml hown hts hA hK hm ?_ (2 ^ mm + 1) 0 (Nat.zero_le _) (Nat.lt_succ_of_le (Nat.sub_le _ _)) H locs (by rw [sp_fill_0]; exact hP.sub [0, 2, 3, 1] rfl) (by rw [sp_fill_0]; exact hD.sub [0, 2, 3, 1] (by decide) rfl) hS ls (lv_sub hl [0, 1, 2, 3, 4] rfl)
    intro H locs hP hD hS ls hl
    refine lv_iconst (v := nI 0) hx hb dX0_transform_93 (by decide) ?_
    exact rt_i hx hb hr hlocks ((sp_fill u2 fr (2 ^ mm), u2, lN pn)) (⟨hz.symm, sp_tr_ok hm hpm hz hw2⟩) (hP.sub [0, 1, 2, 3] rfl) (hK.sub [0, 1] rfl) (hD.sub [0, 1, 2, 3] (by decide) rfl) hS dX0_transform_94
  · refine lv_iload hx hb dX0_transform_12 (lv_at hl 0 rfl) ?_
    exact rt_i hx hb hr hlocks ((fr, fw, pv)) (⟨rfl, (sp_tr_neg (rf_m hc)).symm⟩) (hP.sub [0, 1, 2, 3] rfl) (hK.sub [0, 1] rfl) (hD.sub [0, 1, 2, 3] (by decide) rfl) hS dX0_transform_14
set_option maxHeartbeats 4000000 in
set_option maxRecDepth 100000 in
theorem lpX0_keep {p : Program} {l : Launch} {e : Env} {R : Room} {s : State} {m : MethodId} {args : Array Value} {below : List Frame} {meth : Method} {c : Code} {Q : State → Prop} {cells slots : Nat} {dC : Nat → ClassId} {dI : Nat → Nat → Nat} {A : Nat → Prop} {h0 a1 a2 a3 : Nat} {d2 d3 : ClassId} {fr fk : Nat → Int64} {nn : Nat}  (hx : p.tables.exec = Jvm.exec) (hb : c.code = cX0_keep) (hml : c.maxLocals = 3) (hown : s.vm.findClass RX0 = some m.cls) (hts : ∀ w ∈ lw_all, w.before args s = true) (hA : ∀ q : Nat, s.heap.size ≤ q → A q) (hK : va_K (dC, dI) vwCl [(d2, .long), (d3, .long)] s) (hn : nn ≤ 1024) (hQ : ∀ (H : Heap) (locs : List Loc), va_P (dC, dI) vwCl [(h0, .inr (0, [.ref a1, .ref a2, .ref a3])), (a2, .inl (d2, 1024, .inr (.inl fr))), (a3, .inl (d3, 1024, .inr (.inl (sp_fill (fun k => if k < nn then fr k else 0) fk 1024))))] H → va_D A [(h0, .inr (0, [.ref a1, .ref a2, .ref a3])), (a2, .inl (d2, 1024, .inr (.inl fr))), (a3, .inl (d3, 1024, .inr (.inl (sp_fill (fun k => if k < nn then fr k else 0) fk 1024))))] → va_S A s.heap H locs → ∀ (ls : Array Slot), lv_has ls 3 [] → W p l e R s m args below meth c H locs cells slots Q (F0 m 49 ls [])) :
    ∀ (fuel : Nat) (i : Nat), (i ≤ 1024) → 1024 - i < fuel → ∀ (H : Heap) (locs : List Loc), va_P (dC, dI) vwCl [(h0, .inr (0, [.ref a1, .ref a2, .ref a3])), (a2, .inl (d2, 1024, .inr (.inl fr))), (a3, .inl (d3, 1024, .inr (.inl (sp_fill (fun k => if k < nn then fr k else 0) fk i))))] H → va_D A [(h0, .inr (0, [.ref a1, .ref a2, .ref a3])), (a2, .inl (d2, 1024, .inr (.inl fr))), (a3, .inl (d3, 1024, .inr (.inl (sp_fill (fun k => if k < nn then fr k else 0) fk i))))] → va_S A s.heap H locs → ∀ (ls : Array Slot), lv_has ls 3 [(2, .int (nI i)), (0, .ref h0), (1, .int (nI nn))] → W p l e R s m args below meth c H locs cells slots Q (F0 m 15 ls []) := by
  intro fuel
  induction fuel with
  | zero =>
    intro i hi hfu
    exact absurd hfu (Nat.not_lt_zero _)
  | succ fuel ih =>
    intro i hi hfu H locs hP hD hS ls hl
    refine lv_iload_n hx hb dX0_keep_15 rfl (lv_at hl 0 rfl) ?_
    refine lv_sipush (v := nI 1024) hx hb dX0_keep_16 (by decide) ?_
    refine nv_icmp_ge (a := i) (b := 1024) (tgt := 49) hx hb dX0_keep_19 (by decide) (by omega) (by omega) (fun hc => ?_) (fun hc => ?_)
    · obtain rfl : i = 1024 := by omega
      exact hQ H locs hP hD hS ls (lv_sub hl [] rfl)
    · refine lv_aload_n hx hb dX0_keep_22 rfl (lv_at hl 1 rfl) ?_
      refine va_get (D := (dC, dI)) (ci := 0) (v := .ref a3) (C := RX0) (T := TX0) (N := 3) hx hb hts in_X0 hown hK hP 0 rfl rfl 2 (by decide) (hts _ q34) (fun _ h9 => h9) rfl dX0_keep_23 ?_
      refine lv_iload_n hx hb dX0_keep_26 rfl (lv_at hl 0 rfl) ?_
      refine lv_iload_n hx hb dX0_keep_27 rfl (lv_at hl 0 rfl) ?_
      refine lv_iload_n hx hb dX0_keep_28 rfl (lv_at hl 2 rfl) ?_
      refine nv_icmp_ge (a := i) (b := nn) (tgt := 41) hx hb dX0_keep_29 (by decide) (by omega) (by omega) (fun hc2 => ?_) (fun hc2 => ?_)
      · refine lv_lconst (v := lN 0) hx hb dX0_keep_41 rfl ?_
        refine nv_last (i := i) hx hb hK hP hD hS 2 1 rfl rfl (by omega) (by decide) dX0_keep_42 (fun H locs hP hD hS => ?_)
        have hP : va_P (dC, dI) vwCl [(h0, .inr (0, [.ref a1, .ref a2, .ref a3])), (a2, .inl (d2, 1024, .inr (.inl fr))), (a3, .inl (d3, 1024, .inr (.inl (vp_updL (sp_fill (fun k => if k < nn then fr k else 0) fk i) i (lN 0)))))] H := hP
        have hD : va_D A [(h0, .inr (0, [.ref a1, .ref a2, .ref a3])), (a2, .inl (d2, 1024, .inr (.inl fr))), (a3, .inl (d3, 1024, .inr (.inl (vp_updL (sp_fill (fun k => if k < nn then fr k else 0) fk i) i (lN 0)))))] := hD
        refine lv_iinc (v := nI (i + 1)) (lv' := [(2, .int (nI (i + 1))), (0, .ref h0), (1, .int (nI nn))]) hx hb dX0_keep_43 hl (k := 0) rfl (nI_add _ 1) (by decide) rfl (fun ls hl => ?_)
        refine lv_goto (tgt := 15) hx hb dX0_keep_46 (by decide) ?_
        rw [sp_fill_s (fun k => if k < nn then fr k else 0) fk i (x := lN 0) (if_neg (by omega)).symm] at hP hD
        exact ih (i + 1) hc (by omega) H locs hP hD hS ls (lv_sub hl [0, 1, 2] rfl)
      · refine lv_aload_n hx hb dX0_keep_32 rfl (lv_at hl 1 rfl) ?_
        refine va_get (D := (dC, dI)) (ci := 0) (v := .ref a2) (C := RX0) (T := TX0) (N := 3) hx hb hts in_X0 hown hK hP 0 rfl rfl 1 (by decide) (hts _ q33) (fun _ h9 => h9) rfl dX0_keep_33 ?_
        refine lv_iload_n hx hb dX0_keep_36 rfl (lv_at hl 0 rfl) ?_
        refine nv_lald (i := i) hx hb hK hP 1 0 rfl rfl (by omega) (by decide) dX0_keep_37 ?_
        refine lv_goto (tgt := 42) hx hb dX0_keep_38 (by decide) ?_
        refine nv_last (i := i) hx hb hK hP hD hS 2 1 rfl rfl (by omega) (by decide) dX0_keep_42 (fun H locs hP hD hS => ?_)
        have hP : va_P (dC, dI) vwCl [(h0, .inr (0, [.ref a1, .ref a2, .ref a3])), (a2, .inl (d2, 1024, .inr (.inl fr))), (a3, .inl (d3, 1024, .inr (.inl (vp_updL (sp_fill (fun k => if k < nn then fr k else 0) fk i) i (fr i)))))] H := hP
        have hD : va_D A [(h0, .inr (0, [.ref a1, .ref a2, .ref a3])), (a2, .inl (d2, 1024, .inr (.inl fr))), (a3, .inl (d3, 1024, .inr (.inl (vp_updL (sp_fill (fun k => if k < nn then fr k else 0) fk i) i (fr i)))))] := hD
        refine lv_iinc (v := nI (i + 1)) (lv' := [(2, .int (nI (i + 1))), (0, .ref h0), (1, .int (nI nn))]) hx hb dX0_keep_43 hl (k := 0) rfl (nI_add _ 1) (by decide) rfl (fun ls hl => ?_)
        refine lv_goto (tgt := 15) hx hb dX0_keep_46 (by decide) ?_
        rw [sp_fill_s (fun k => if k < nn then fr k else 0) fk i (if_pos hc2).symm] at hP hD
        exact ih (i + 1) hc (by omega) H locs hP hD hS ls (lv_sub hl [0, 1, 2] rfl)
set_option maxHeartbeats 4000000 in
set_option maxRecDepth 100000 in
/-- keep(n) -/
theorem metX0_keep (l : Launch) (dC : Nat → ClassId) (dI : Nat → Nat → Nat) (sz : Nat) (h0 a1 a2 a3 : Nat) (d2 d3 : ClassId) (fr fk : Nat → Int64) (n : Int32)  : Met l yX0_keep (ws_ yX0_keep cX0_keep 3 (some .boolean)) ({ frames := 0, cells := 0, slots := 0, locals := 0 }) (pcW [.ref h0, .int n] sz dC dI [(h0, .inr (0, [.ref a1, .ref a2, .ref a3])), (a2, .inl (d2, 1024, .inr (.inl fr))), (a3, .inl (d3, 1024, .inr (.inl fk)))] [(d2, .long), (d3, .long)]) (va_Qi (fun (r : Int32) (u : Nat → Int64) => sp_b (¬ sp_badt n) r ∧ u = sp_keep n fr fk) (bw dC dI (va_A [(h0, .inr (0, [.ref a1, .ref a2, .ref a3])), (a2, .inl (d2, 1024, .inr (.inl fr))), (a3, .inl (d3, 1024, .inr (.inl fk)))] sz) (fun u => [(h0, .inr (0, [.ref a1, .ref a2, .ref a3])), (a2, .inl (d2, 1024, .inr (.inl fr))), (a3, .inl (d3, 1024, .inr (.inl u)))]) (fun u => [(d2, .long), (d3, .long)])) (va_A [(h0, .inr (0, [.ref a1, .ref a2, .ref a3])), (a2, .inl (d2, 1024, .inr (.inl fr))), (a3, .inl (d3, 1024, .inr (.inl fk)))] sz)) 0 0 (va_A [(h0, .inr (0, [.ref a1, .ref a2, .ref a3])), (a2, .inl (d2, 1024, .inr (.inl fr))), (a3, .inl (d3, 1024, .inr (.inl fk)))] sz) := by
  refine Met.ofW (cc := cX0_keep) (maxL := 3) (ret := (some .boolean)) (by decide) rfl ?_
  intro p e s m args below meth c s₁ B hml hv
  obtain ⟨rfl, hsz, hP, hK, hD0⟩ := hv
  have hx := B.exec
  have hb := B.bytes
  have hr := B.returns
  have hts := atoms_spec (ws := ws_ yX0_keep cX0_keep 3 (some .boolean)) B.pre
  have hts : ∀ w ∈ lw_all, w.before _ s = true := fun w h => hts w (List.mem_cons_of_mem _ h)
  have hown : s.vm.findClass RX0 = some m.cls := findClass_of_methodNamed B.named
  have hlocks := B.notSynchronized
  subst hsz
  have hD := hD0.self (sz := s.heap.size)
  generalize hAe : va_A [(h0, .inr (0, [.ref a1, .ref a2, .ref a3])), (a2, .inl (d2, 1024, .inr (.inl fr))), (a3, .inl (d3, 1024, .inr (.inl fk)))] s.heap.size = A at hD ⊢
  have hA : ∀ q : Nat, s.heap.size ≤ q → A q := fun q h => by rw [← hAe]; exact Or.inr h
  have hS : va_S A s.heap s.heap [] := va_S.rf
  have hP : va_P (dC, dI) vwCl [(h0, .inr (0, [.ref a1, .ref a2, .ref a3])), (a2, .inl (d2, 1024, .inr (.inl fr))), (a3, .inl (d3, 1024, .inr (.inl fk)))] s.heap := hP
  have hl := lv_entry ([.ref h0, .int n]) (n := 3) (Nat.le_of_ble_eq_true rfl)
  rw [lg_entry_eq]
  generalize (lg_sl ([.ref h0, .int n]) ++ List.replicate (3 - (lg_sl ([.ref h0, .int n])).length) Slot.unset).toArray = ls at hl ⊢
  have hl : lv_has ls 3 [(0, .ref h0), (1, .int n)] := hl
  refine lv_iload_n hx hb dX0_keep_0 rfl (lv_at hl 1 rfl) ?_
  refine lv_if_lt (tgt := 11) hx hb dX0_keep_1 (by decide) (fun hc => ?_) (fun hc => ?_)
  · refine lv_iconst (v := nI 0) hx hb dX0_keep_11 (by decide) ?_
    exact rt_z hx hb hr hlocks rfl fk (⟨sp_bF (fun q => q (Or.inl hc)), (sp_keep_b (Or.inl hc) fr fk).symm⟩) (hP.sub [0, 1, 2] rfl) (hK.sub [0, 1] rfl) (hD.sub [0, 1, 2] (by decide) rfl) hS dX0_keep_12
  · refine lv_iload_n hx hb dX0_keep_4 rfl (lv_at hl 1 rfl) ?_
    refine lv_sipush (v := nI 1024) hx hb dX0_keep_5 (by decide) ?_
    refine lv_icmp_le (tgt := 13) hx hb dX0_keep_8 (by decide) (fun hc2 => ?_) (fun hc2 => ?_)
    · obtain ⟨nn, hn, rfl⟩ := bt_in hc hc2
      refine lv_iconst (v := nI 0) hx hb dX0_keep_13 (by decide) ?_
      refine lv_istore_n (lv' := [(2, .int (nI 0)), (0, .ref h0), (1, .int (nI nn))]) hx hb dX0_keep_14 rfl hl (by decide) rfl (fun ls hl => ?_)
      refine lpX0_keep (fr := fr) (fk := fk) hx hb hml hown hts hA hK hn ?_ 1025 0 (Nat.zero_le _) (by decide) s.heap [] (by rw [sp_fill_0]; exact hP) (by rw [sp_fill_0]; exact hD) hS ls (lv_sub hl [0, 1, 2] rfl)
      intro H locs hP hD hS ls hl
      refine lv_iconst (v := nI 1) hx hb dX0_keep_49 (by decide) ?_
      exact rt_z hx hb hr hlocks rfl ((sp_fill (fun k => if k < nn then fr k else 0) fk 1024)) (⟨sp_bT (bt_ok hn), by rw [sp_keep_g (bt_ok hn), nI_clamp (by omega)]⟩) (hP.sub [0, 1, 2] rfl) (hK.sub [0, 1] rfl) (hD.sub [0, 1, 2] (by decide) rfl) hS dX0_keep_50
    · refine lv_iconst (v := nI 0) hx hb dX0_keep_11 (by decide) ?_
      exact rt_z hx hb hr hlocks rfl fk (⟨sp_bF (fun q => q (bt_big hc2)), (sp_keep_b (bt_big hc2) fr fk).symm⟩) (hP.sub [0, 1, 2] rfl) (hK.sub [0, 1] rfl) (hD.sub [0, 1, 2] (by decide) rfl) hS dX0_keep_12
set_option maxHeartbeats 4000000 in
set_option maxRecDepth 100000 in
theorem lpX0_times {p : Program} {l : Launch} {e : Env} {s : State} {m : MethodId} {args : Array Value} {below : List Frame} {meth : Method} {c : Code} {Q : State → Prop} {dC : Nat → ClassId} {dI : Nat → Nat → Nat} {A : Nat → Prop} {h0 a1 a2 a3 : Nat} {d2 d3 : ClassId} {fr fk : Nat → Int64} {nn : Nat} {pn : Nat} (hx : p.tables.exec = Jvm.exec) (hb : c.code = cX0_times) (hml : c.maxLocals = 4) (hown : s.vm.findClass RX0 = some m.cls) (hts : ∀ w ∈ lw_all, w.before args s = true) (hA : ∀ q : Nat, s.heap.size ≤ q → A q) (hK : va_K (dC, dI) vwCl [(d2, .long), (d3, .long)] s) (hn : nn ≤ 1024) (hp0 : 0 < pn) (hpm : pn ≤ 1000000007) (hQ : ∀ (H : Heap) (locs : List Loc), va_P (dC, dI) vwCl [(h0, .inr (0, [.ref a1, .ref a2, .ref a3])), (a2, .inl (d2, 1024, .inr (.inl (sp_fill (fun k => lN (sp_res (fr k) pn * sp_res (fk k) pn % pn)) fr nn)))), (a3, .inl (d3, 1024, .inr (.inl fk)))] H → va_D A [(h0, .inr (0, [.ref a1, .ref a2, .ref a3])), (a2, .inl (d2, 1024, .inr (.inl (sp_fill (fun k => lN (sp_res (fr k) pn * sp_res (fk k) pn % pn)) fr nn)))), (a3, .inl (d3, 1024, .inr (.inl fk)))] → va_S A s.heap H locs → ∀ (ls : Array Slot), lv_has ls 4 [] → W p l e ({ frames := 2, cells := 0, slots := 0, locals := 41 } : Room) s m args below meth c H locs 0 0 Q (F0 m 66 ls [])) :
    ∀ (fuel : Nat) (i : Nat), (i ≤ nn) → nn - i < fuel → ∀ (H : Heap) (locs : List Loc), va_P (dC, dI) vwCl [(h0, .inr (0, [.ref a1, .ref a2, .ref a3])), (a2, .inl (d2, 1024, .inr (.inl (sp_fill (fun k => lN (sp_res (fr k) pn * sp_res (fk k) pn % pn)) fr i)))), (a3, .inl (d3, 1024, .inr (.inl fk)))] H → va_D A [(h0, .inr (0, [.ref a1, .ref a2, .ref a3])), (a2, .inl (d2, 1024, .inr (.inl (sp_fill (fun k => lN (sp_res (fr k) pn * sp_res (fk k) pn % pn)) fr i)))), (a3, .inl (d3, 1024, .inr (.inl fk)))] → va_S A s.heap H locs → ∀ (ls : Array Slot), lv_has ls 4 [(3, .int (nI i)), (0, .ref h0), (1, .int (nI nn)), (2, .int (nI pn))] → W p l e ({ frames := 2, cells := 0, slots := 0, locals := 41 } : Room) s m args below meth c H locs 0 0 Q (F0 m 25 ls []) := by
  intro fuel
  induction fuel with
  | zero =>
    intro i hi hfu
    exact absurd hfu (Nat.not_lt_zero _)
  | succ fuel ih =>
    intro i hi hfu H locs hP hD hS ls hl
    refine lv_iload_n hx hb dX0_times_25 rfl (lv_at hl 0 rfl) ?_
    refine lv_iload_n hx hb dX0_times_26 rfl (lv_at hl 2 rfl) ?_
    refine nv_icmp_ge (a := i) (b := nn) (tgt := 66) hx hb dX0_times_27 (by decide) (by omega) (by omega) (fun hc => ?_) (fun hc => ?_)
    · obtain rfl : i = nn := by omega
      exact hQ H locs hP hD hS ls (lv_sub hl [] rfl)
    · refine lv_aload_n hx hb dX0_times_30 rfl (lv_at hl 1 rfl) ?_
      refine va_get (D := (dC, dI)) (ci := 0) (v := .ref a2) (C := RX0) (T := TX0) (N := 3) hx hb hts in_X0 hown hK hP 0 rfl rfl 1 (by decide) (hts _ q33) (fun _ h9 => h9) rfl dX0_times_31 ?_
      refine lv_iload_n hx hb dX0_times_34 rfl (lv_at hl 0 rfl) ?_
      refine lv_aload_n hx hb dX0_times_35 rfl (lv_at hl 1 rfl) ?_
      refine va_get (D := (dC, dI)) (ci := 0) (v := .ref a2) (C := RX0) (T := TX0) (N := 3) hx hb hts in_X0 hown hK hP 0 rfl rfl 1 (by decide) (hts _ q33) (fun _ h9 => h9) rfl dX0_times_36 ?_
      refine lv_iload_n hx hb dX0_times_39 rfl (lv_at hl 0 rfl) ?_
      refine nv_lald (i := i) hx hb hK hP 1 0 rfl rfl (by omega) (by decide) dX0_times_40 ?_
      refine nv_cl (y := fr i) (sp_fill_at _ _ _) ?_
      refine lv_iload_n hx hb dX0_times_41 rfl (lv_at hl 3 rfl) ?_
      refine cl_l (wc := []) (wr := [(h0, .inr (0, [.ref a1, .ref a2, .ref a3])), (a2, .inl (d2, 1024, .inr (.inl (sp_fill (fun k => lN (sp_res (fr k) pn * sp_res (fk k) pn % pn)) fr i)))), (a3, .inl (d3, 1024, .inr (.inl fk)))]) (va_runS (As := [.long (fr i), .int (nI pn)]) (rest := [.int (nI i), .ref a2]) ⟨hx, hb, hml, hown, hts⟩ (metX0_rest l dC dI H.size (fr i) pn hp0 hpm) (va_cwS 2 hts (lw_S q67 q68 q4 q69) rfl rfl rfl (by decide +kernel) ⟨Nat.le_of_ble_eq_true rfl, Nat.le_of_ble_eq_true rfl⟩) (preS (wc := []) (tc := []) hK hP hD [] (by decide) rfl [] rfl) rfl rfl hl.1 rfl (lv_room (Nat.le_of_ble_eq_true rfl)) dX0_times_42 ⟨Nat.le_refl _, Nat.le_refl _⟩) hP hD hS hA [] [0, 1, 2] rfl rfl (by decide) (by decide) (fun r1 u1 H locs hw1 hP hD hK1 hS => ?_)
      have hP : va_P (dC, dI) vwCl [(h0, .inr (0, [.ref a1, .ref a2, .ref a3])), (a2, .inl (d2, 1024, .inr (.inl (sp_fill (fun k => lN (sp_res (fr k) pn * sp_res (fk k) pn % pn)) fr i)))), (a3, .inl (d3, 1024, .inr (.inl fk)))] H := hP
      have hD : va_D A [(h0, .inr (0, [.ref a1, .ref a2, .ref a3])), (a2, .inl (d2, 1024, .inr (.inl (sp_fill (fun k => lN (sp_res (fr k) pn * sp_res (fk k) pn % pn)) fr i)))), (a3, .inl (d3, 1024, .inr (.inl fk)))] := hD
      refine nv_cl (y := lN (sp_res (fr i) pn)) hw1 ?_
      refine lv_aload_n hx hb dX0_times_45 rfl (lv_at hl 1 rfl) ?_
      refine va_get (D := (dC, dI)) (ci := 0) (v := .ref a3) (C := RX0) (T := TX0) (N := 3) hx hb hts in_X0 hown hK hP 0 rfl rfl 2 (by decide) (hts _ q34) (fun _ h9 => h9) rfl dX0_times_46 ?_
      refine lv_iload_n hx hb dX0_times_49 rfl (lv_at hl 0 rfl) ?_
      refine nv_lald (i := i) hx hb hK hP 2 1 rfl rfl (by omega) (by decide) dX0_times_50 ?_
      refine lv_iload_n hx hb dX0_times_51 rfl (lv_at hl 3 rfl) ?_
      refine cl_l (wc := []) (wr := [(h0, .inr (0, [.ref a1, .ref a2, .ref a3])), (a2, .inl (d2, 1024, .inr (.inl (sp_fill (fun k => lN (sp_res (fr k) pn * sp_res (fk k) pn % pn)) fr i)))), (a3, .inl (d3, 1024, .inr (.inl fk)))]) (va_runS (As := [.long (fk i), .int (nI pn)]) (rest := [.long (lN (sp_res (fr i) pn)), .int (nI i), .ref a2]) ⟨hx, hb, hml, hown, hts⟩ (metX0_rest l dC dI H.size (fk i) pn hp0 hpm) (va_cwS 2 hts (lw_S q67 q68 q4 q69) rfl rfl rfl (by decide +kernel) ⟨Nat.le_of_ble_eq_true rfl, Nat.le_of_ble_eq_true rfl⟩) (preS (wc := []) (tc := []) hK hP hD [] (by decide) rfl [] rfl) rfl rfl hl.1 rfl (lv_room (Nat.le_of_ble_eq_true rfl)) dX0_times_52 ⟨Nat.le_refl _, Nat.le_refl _⟩) hP hD hS hA [] [0, 1, 2] rfl rfl (by decide) (by decide) (fun r2 u2 H locs hw2 hP hD hK1 hS => ?_)
      have hP : va_P (dC, dI) vwCl [(h0, .inr (0, [.ref a1, .ref a2, .ref a3])), (a2, .inl (d2, 1024, .inr (.inl (sp_fill (fun k => lN (sp_res (fr k) pn * sp_res (fk k) pn % pn)) fr i)))), (a3, .inl (d3, 1024, .inr (.inl fk)))] H := hP
      have hD : va_D A [(h0, .inr (0, [.ref a1, .ref a2, .ref a3])), (a2, .inl (d2, 1024, .inr (.inl (sp_fill (fun k => lN (sp_res (fr k) pn * sp_res (fk k) pn % pn)) fr i)))), (a3, .inl (d3, 1024, .inr (.inl fk)))] := hD
      refine nv_cl (y := lN (sp_res (fk i) pn)) hw2 ?_
      have hm1 := sp_m62 (a := sp_res (fr i) pn) (b := sp_res (fk i) pn) (by have := sp_res_lt (fr i) hp0; omega) (by have := sp_res_lt (fk i) hp0; omega)
      refine nv_lmul (a := sp_res (fr i) pn) (b := sp_res (fk i) pn) hx hb dX0_times_55  ?_
      refine lv_iload_n hx hb dX0_times_56 rfl (lv_at hl 3 rfl) ?_
      refine nv_i2l (a := pn) hx hb dX0_times_57 (by omega) ?_
      refine nv_lrem (a := (sp_res (fr i) pn) * (sp_res (fk i) pn)) (b := pn) hx hb dX0_times_58 (by omega) (by omega) (by omega) ?_
      refine nv_last (i := i) hx hb hK hP hD hS 1 0 rfl rfl (by omega) (by decide) dX0_times_59 (fun H locs hP hD hS => ?_)
      have hP : va_P (dC, dI) vwCl [(h0, .inr (0, [.ref a1, .ref a2, .ref a3])), (a2, .inl (d2, 1024, .inr (.inl (vp_updL (sp_fill (fun k => lN (sp_res (fr k) pn * sp_res (fk k) pn % pn)) fr i) i (lN (((sp_res (fr i) pn) * (sp_res (fk i) pn)) % pn)))))), (a3, .inl (d3, 1024, .inr (.inl fk)))] H := hP
      have hD : va_D A [(h0, .inr (0, [.ref a1, .ref a2, .ref a3])), (a2, .inl (d2, 1024, .inr (.inl (vp_updL (sp_fill (fun k => lN (sp_res (fr k) pn * sp_res (fk k) pn % pn)) fr i) i (lN (((sp_res (fr i) pn) * (sp_res (fk i) pn)) % pn)))))), (a3, .inl (d3, 1024, .inr (.inl fk)))] := hD
      refine lv_iinc (v := nI (i + 1)) (lv' := [(3, .int (nI (i + 1))), (0, .ref h0), (1, .int (nI nn)), (2, .int (nI pn))]) hx hb dX0_times_60 hl (k := 0) rfl (nI_add _ 1) (by decide) rfl (fun ls hl => ?_)
      refine lv_goto (tgt := 25) hx hb dX0_times_63 (by decide) ?_
      rw [sp_fill_s (fun k => lN (sp_res (fr k) pn * sp_res (fk k) pn % pn)) fr i rfl] at hP hD
      exact ih (i + 1) hc (by omega) H locs hP hD hS ls (lv_sub hl [0, 1, 2, 3] rfl)
set_option maxHeartbeats 4000000 in
set_option maxRecDepth 100000 in
/-- times(n, p) -/
theorem metX0_times (l : Launch) (dC : Nat → ClassId) (dI : Nat → Nat → Nat) (sz : Nat) (h0 a1 a2 a3 : Nat) (d2 d3 : ClassId) (fr fk : Nat → Int64) (n q : Int32)  : Met l yX0_times (ws_ yX0_times cX0_times 4 (some .int)) ({ frames := 2, cells := 0, slots := 0, locals := 41 }) (pcW [.ref h0, .int n, .int q] sz dC dI [(h0, .inr (0, [.ref a1, .ref a2, .ref a3])), (a2, .inl (d2, 1024, .inr (.inl fr))), (a3, .inl (d3, 1024, .inr (.inl fk)))] [(d2, .long), (d3, .long)]) (va_Qi (fun (r : Int32) (u : Nat → Int64) => r = sp_tans n q ∧ u = sp_times n q fr fk) (bw dC dI (va_A [(h0, .inr (0, [.ref a1, .ref a2, .ref a3])), (a2, .inl (d2, 1024, .inr (.inl fr))), (a3, .inl (d3, 1024, .inr (.inl fk)))] sz) (fun u => [(h0, .inr (0, [.ref a1, .ref a2, .ref a3])), (a2, .inl (d2, 1024, .inr (.inl u))), (a3, .inl (d3, 1024, .inr (.inl fk)))]) (fun u => [(d2, .long), (d3, .long)])) (va_A [(h0, .inr (0, [.ref a1, .ref a2, .ref a3])), (a2, .inl (d2, 1024, .inr (.inl fr))), (a3, .inl (d3, 1024, .inr (.inl fk)))] sz)) 0 0 (va_A [(h0, .inr (0, [.ref a1, .ref a2, .ref a3])), (a2, .inl (d2, 1024, .inr (.inl fr))), (a3, .inl (d3, 1024, .inr (.inl fk)))] sz) := by
  refine Met.ofW (cc := cX0_times) (maxL := 4) (ret := (some .int)) (by decide) rfl ?_
  intro p e s m args below meth c s₁ B hml hv
  obtain ⟨rfl, hsz, hP, hK, hD0⟩ := hv
  have hx := B.exec
  have hb := B.bytes
  have hr := B.returns
  have hts := atoms_spec (ws := ws_ yX0_times cX0_times 4 (some .int)) B.pre
  have hts : ∀ w ∈ lw_all, w.before _ s = true := fun w h => hts w (List.mem_cons_of_mem _ h)
  have hown : s.vm.findClass RX0 = some m.cls := findClass_of_methodNamed B.named
  have hlocks := B.notSynchronized
  subst hsz
  have hD := hD0.self (sz := s.heap.size)
  generalize hAe : va_A [(h0, .inr (0, [.ref a1, .ref a2, .ref a3])), (a2, .inl (d2, 1024, .inr (.inl fr))), (a3, .inl (d3, 1024, .inr (.inl fk)))] s.heap.size = A at hD ⊢
  have hA : ∀ q : Nat, s.heap.size ≤ q → A q := fun q h => by rw [← hAe]; exact Or.inr h
  have hS : va_S A s.heap s.heap [] := va_S.rf
  have hP : va_P (dC, dI) vwCl [(h0, .inr (0, [.ref a1, .ref a2, .ref a3])), (a2, .inl (d2, 1024, .inr (.inl fr))), (a3, .inl (d3, 1024, .inr (.inl fk)))] s.heap := hP
  have hl := lv_entry ([.ref h0, .int n, .int q]) (n := 4) (Nat.le_of_ble_eq_true rfl)
  rw [lg_entry_eq]
  generalize (lg_sl ([.ref h0, .int n, .int q]) ++ List.replicate (4 - (lg_sl ([.ref h0, .int n, .int q])).length) Slot.unset).toArray = ls at hl ⊢
  have hl : lv_has ls 4 [(0, .ref h0), (1, .int n), (2, .int q)] := hl
  refine lv_iload_n hx hb dX0_times_0 rfl (lv_at hl 1 rfl) ?_
  refine lv_if_lt (tgt := 11) hx hb dX0_times_1 (by decide) (fun hc => ?_) (fun hc => ?_)
  · refine lv_iconst (v := (-1)) hx hb dX0_times_11 (by decide) ?_
    exact rt_i hx hb hr hlocks fr (⟨(sp_tans_1 (Or.inl hc)).symm, (sp_times_b (by rw [sp_tans_1 (Or.inl hc)]; decide)).symm⟩) (hP.sub [0, 1, 2] rfl) (hK.sub [0, 1] rfl) (hD.sub [0, 1, 2] (by decide) rfl) hS dX0_times_12
  · refine lv_iload_n hx hb dX0_times_4 rfl (lv_at hl 1 rfl) ?_
    refine lv_sipush (v := nI 1024) hx hb dX0_times_5 (by decide) ?_
    refine lv_icmp_le (tgt := 13) hx hb dX0_times_8 (by decide) (fun hc2 => ?_) (fun hc2 => ?_)
    · obtain ⟨nn, hn, rfl⟩ := bt_in hc hc2
      refine lv_iload_n hx hb dX0_times_13 rfl (lv_at hl 2 rfl) ?_
      refine cl_i (wc := []) (wr := [(h0, .inr (0, [.ref a1, .ref a2, .ref a3])), (a2, .inl (d2, 1024, .inr (.inl fr))), (a3, .inl (d3, 1024, .inr (.inl fk)))]) (va_runS (As := [.int q]) (rest := []) ⟨hx, hb, hml, hown, hts⟩ (metX0_isGood l dC dI s.heap.size q) (va_cwS 1 hts (lw_S q60 q61 q4 q62) rfl rfl rfl (by decide +kernel) ⟨Nat.le_of_ble_eq_true rfl, Nat.le_of_ble_eq_true rfl⟩) (preS (wc := []) (tc := []) hK hP hD [] (by decide) rfl [] rfl) rfl rfl hl.1 rfl (lv_room (Nat.le_of_ble_eq_true rfl)) dX0_times_14 ⟨Nat.le_refl _, Nat.le_refl _⟩) hP hD hS hA [] [0, 1, 2] rfl rfl (by decide) (by decide) (fun r1 u1 H locs hw1 hP hD hK1 hS => ?_)
      have hP : va_P (dC, dI) vwCl [(h0, .inr (0, [.ref a1, .ref a2, .ref a3])), (a2, .inl (d2, 1024, .inr (.inl fr))), (a3, .inl (d3, 1024, .inr (.inl fk)))] H := hP
      have hD : va_D A [(h0, .inr (0, [.ref a1, .ref a2, .ref a3])), (a2, .inl (d2, 1024, .inr (.inl fr))), (a3, .inl (d3, 1024, .inr (.inl fk)))] := hD
      refine lv_if_ne (tgt := 23) hx hb dX0_times_17 (by decide) (fun hc3 => ?_) (fun hc3 => ?_)
      · have hg := sp_b_ne hw1 hc3
        obtain ⟨pn, rfl, hp3, hpm, hpp⟩ := sp_b_ne hw1 hc3
        have hz := sp_tans_0 (bt_ok hn) hg
        refine lv_iconst (v := nI 0) hx hb dX0_times_23 (by decide) ?_
        refine lv_istore_n (lv' := [(3, .int (nI 0)), (0, .ref h0), (1, .int (nI nn)), (2, .int (nI pn))]) hx hb dX0_times_24 rfl hl (by decide) rfl (fun ls hl => ?_)
        refine lpX0_times (fr := fr) (fk := fk) hx hb hml hown hts hA hK hn (by omega) hpm ?_ (nn + 1) 0 (Nat.zero_le _) (by omega) H locs (by rw [sp_fill_0]; exact hP) (by rw [sp_fill_0]; exact hD) hS ls (lv_sub hl [0, 1, 2, 3] rfl)
        intro H locs hP hD hS ls hl
        refine lv_iconst (v := nI 0) hx hb dX0_times_66 (by decide) ?_
        exact rt_i hx hb hr hlocks ((sp_fill (fun k => lN (sp_res (fr k) pn * sp_res (fk k) pn % pn)) fr nn)) (⟨hz.symm, sp_times_g hz hn hpm⟩) (hP.sub [0, 1, 2] rfl) (hK.sub [0, 1] rfl) (hD.sub [0, 1, 2] (by decide) rfl) hS dX0_times_67
      · refine lv_bipush (v := (-2)) hx hb dX0_times_20 (by decide) ?_
        exact rt_i hx hb hr hlocks fr (⟨(sp_tans_2 (bt_ok hn) (sp_b_0 hw1 hc3)).symm, (sp_times_b (by rw [sp_tans_2 (bt_ok hn) (sp_b_0 hw1 hc3)]; decide)).symm⟩) (hP.sub [0, 1, 2] rfl) (hK.sub [0, 1] rfl) (hD.sub [0, 1, 2] (by decide) rfl) hS dX0_times_22
    · refine lv_iconst (v := (-1)) hx hb dX0_times_11 (by decide) ?_
      exact rt_i hx hb hr hlocks fr (⟨(sp_tans_1 (bt_big hc2)).symm, (sp_times_b (by rw [sp_tans_1 (bt_big hc2)]; decide)).symm⟩) (hP.sub [0, 1, 2] rfl) (hK.sub [0, 1] rfl) (hD.sub [0, 1, 2] (by decide) rfl) hS dX0_times_12
set_option maxHeartbeats 4000000 in
set_option maxRecDepth 100000 in
/-- root(n, p) -/
theorem metX0_root (l : Launch) (dC : Nat → ClassId) (dI : Nat → Nat → Nat) (sz : Nat) (h0 a1 a2 a3 a4 : Nat) (pv : Int64) (n q : Int32)  : Met l yX0_root (ws_ yX0_root cX0_root 3 (some .long)) ({ frames := 3, cells := 0, slots := 0, locals := 62 }) (pcW [.ref h0, .int n, .int q] sz dC dI [(h0, .inr (0, [.ref a1, .ref a2, .ref a3])), (a1, .inr (1, [.ref a4, .long pv]))] []) (va_Ql (fun (r : Int64) (u : Int64) => r = sp_root n q) (bw dC dI (va_A [(h0, .inr (0, [.ref a1, .ref a2, .ref a3])), (a1, .inr (1, [.ref a4, .long pv]))] sz) (fun u => [(h0, .inr (0, [.ref a1, .ref a2, .ref a3])), (a1, .inr (1, [.ref a4, .long u]))]) (fun u => [])) (va_A [(h0, .inr (0, [.ref a1, .ref a2, .ref a3])), (a1, .inr (1, [.ref a4, .long pv]))] sz)) 0 0 (va_A [(h0, .inr (0, [.ref a1, .ref a2, .ref a3])), (a1, .inr (1, [.ref a4, .long pv]))] sz) := by
  refine Met.ofW (cc := cX0_root) (maxL := 3) (ret := (some .long)) (by decide) rfl ?_
  intro p e s m args below meth c s₁ B hml hv
  obtain ⟨rfl, hsz, hP, hK, hD0⟩ := hv
  have hx := B.exec
  have hb := B.bytes
  have hr := B.returns
  have hts := atoms_spec (ws := ws_ yX0_root cX0_root 3 (some .long)) B.pre
  have hts : ∀ w ∈ lw_all, w.before _ s = true := fun w h => hts w (List.mem_cons_of_mem _ h)
  have hown : s.vm.findClass RX0 = some m.cls := findClass_of_methodNamed B.named
  have hlocks := B.notSynchronized
  subst hsz
  have hD := hD0.self (sz := s.heap.size)
  generalize hAe : va_A [(h0, .inr (0, [.ref a1, .ref a2, .ref a3])), (a1, .inr (1, [.ref a4, .long pv]))] s.heap.size = A at hD ⊢
  have hA : ∀ q : Nat, s.heap.size ≤ q → A q := fun q h => by rw [← hAe]; exact Or.inr h
  have hS : va_S A s.heap s.heap [] := va_S.rf
  have hP : va_P (dC, dI) vwCl [(h0, .inr (0, [.ref a1, .ref a2, .ref a3])), (a1, .inr (1, [.ref a4, .long pv]))] s.heap := hP
  have hl := lv_entry ([.ref h0, .int n, .int q]) (n := 3) (Nat.le_of_ble_eq_true rfl)
  rw [lg_entry_eq]
  generalize (lg_sl ([.ref h0, .int n, .int q]) ++ List.replicate (3 - (lg_sl ([.ref h0, .int n, .int q])).length) Slot.unset).toArray = ls at hl ⊢
  have hl : lv_has ls 3 [(0, .ref h0), (1, .int n), (2, .int q)] := hl
  refine lv_iload_n hx hb dX0_root_0 rfl (lv_at hl 1 rfl) ?_
  refine lv_iload_n hx hb dX0_root_1 rfl (lv_at hl 2 rfl) ?_
  refine cl_i (wc := []) (wr := [(h0, .inr (0, [.ref a1, .ref a2, .ref a3])), (a1, .inr (1, [.ref a4, .long pv]))]) (va_runS (As := [.int n, .int q]) (rest := []) ⟨hx, hb, hml, hown, hts⟩ (metX0_refusal l dC dI s.heap.size n q) (va_cwS 2 hts (lw_S q57 q58 q4 q59) rfl rfl rfl (by decide +kernel) ⟨Nat.le_of_ble_eq_true rfl, Nat.le_of_ble_eq_true rfl⟩) (preS (wc := []) (tc := []) hK hP hD [] (by decide) rfl [] rfl) rfl rfl hl.1 rfl (lv_room (Nat.le_of_ble_eq_true rfl)) dX0_root_2 ⟨Nat.le_refl _, Nat.le_refl _⟩) hP hD hS hA [] [0, 1] rfl rfl (by decide) (by decide) (fun r1 u1 H locs hw1 hP hD hK1 hS => ?_)
  have hP : va_P (dC, dI) vwCl [(h0, .inr (0, [.ref a1, .ref a2, .ref a3])), (a1, .inr (1, [.ref a4, .long pv]))] H := hP
  have hD : va_D A [(h0, .inr (0, [.ref a1, .ref a2, .ref a3])), (a1, .inr (1, [.ref a4, .long pv]))] := hD
  have hw1 : r1 = sp_rfz n q := hw1
  subst hw1
  refine lv_if_ge (tgt := 10) hx hb dX0_root_5 (by decide) (fun hc => ?_) (fun hc => ?_)
  · have hz := rf_z hc
    obtain ⟨mm, pn, hm, rfl, rfl, hv⟩ := rf_val hz
    have hle := p2_le hm
    have hpm := hv.2.2.2.1
    refine lv_aload_n hx hb dX0_root_10 rfl (lv_at hl 0 rfl) ?_
    refine va_get (D := (dC, dI)) (ci := 0) (v := .ref a1) (C := RX0) (T := TX0) (N := 3) hx hb hts in_X0 hown hK hP 0 rfl rfl 0 (by decide) (hts _ q32) (fun _ h9 => h9) rfl dX0_root_11 ?_
    refine lv_iload_n hx hb dX0_root_14 rfl (lv_at hl 2 rfl) ?_
    refine nv_i2l (a := pn) hx hb dX0_root_15 (by omega) ?_
    refine va_put (D := (dC, dI)) (ci := 1) (v := .long (lN pn)) (ty := .long) (C := RX1) (T := TX1) (N := 2) hx hb hts in_X1 tyX1 tyX1_ok nmX1 hown hK hP hD hS 1 rfl rfl 1 (by decide) (hts _ q23) (fun _ h9 => h9) rfl (by decide +kernel) rfl rfl (Nat.le_of_ble_eq_true rfl) dX0_root_16 (fun H locs hP hD hS => ?_)
    have hP : va_P (dC, dI) vwCl [(h0, .inr (0, [.ref a1, .ref a2, .ref a3])), (a1, .inr (1, [.ref a4, .long (lN pn)]))] H := hP
    have hD : va_D A [(h0, .inr (0, [.ref a1, .ref a2, .ref a3])), (a1, .inr (1, [.ref a4, .long (lN pn)]))] := hD
    refine lv_aload_n hx hb dX0_root_19 rfl (lv_at hl 0 rfl) ?_
    refine va_get (D := (dC, dI)) (ci := 0) (v := .ref a1) (C := RX0) (T := TX0) (N := 3) hx hb hts in_X0 hown hK hP 0 rfl rfl 0 (by decide) (hts _ q32) (fun _ h9 => h9) rfl dX0_root_20 ?_
    refine lv_iload_n hx hb dX0_root_23 rfl (lv_at hl 1 rfl) ?_
    refine cl_l (wc := [(a1, .inr (1, [.ref a4, .long (lN pn)]))]) (wr := [(h0, .inr (0, [.ref a1, .ref a2, .ref a3]))]) (va_runV (As := [.int (nI (2 ^ mm))]) (rest := []) ⟨hx, hb, hml, hown, hts⟩ (metX1_root l dC dI H.size a1 a4 (2 ^ mm) pn hv) (cwV 1 hts (lw_V q103 q75 q76 q5 q77) rfl rfl rfl (by decide +kernel) ⟨Nat.le_of_ble_eq_true rfl, Nat.le_of_ble_eq_true rfl⟩) (preV (wc := [(a1, .inr (1, [.ref a4, .long (lN pn)]))]) (tc := []) (ci := 1) hK hP hD [1] (by decide) rfl [] rfl rfl rfl) rfl rfl hl.1 rfl (lv_room (Nat.le_of_ble_eq_true rfl)) dX0_root_24 ⟨Nat.le_refl _, Nat.le_refl _⟩) hP hD hS hA [1] [0] rfl rfl (by decide) (by decide) (fun r2 u2 H locs hw2 hP hD hK1 hS => ?_)
    have hP : va_P (dC, dI) vwCl [(h0, .inr (0, [.ref a1, .ref a2, .ref a3])), (a1, .inr (1, [.ref a4, .long (lN pn)]))] H := hP
    have hD : va_D A [(h0, .inr (0, [.ref a1, .ref a2, .ref a3])), (a1, .inr (1, [.ref a4, .long (lN pn)]))] := hD
    exact rt_l hx hb hr hlocks ((lN pn)) (by rw [sp_root_g hm hpm hz]; exact hw2) (hP.sub [0, 1] rfl) (hK.sub [] rfl) (hD.sub [0, 1] (by decide) rfl) hS dX0_root_27
  · refine lv_lconst (v := lN 0) hx hb dX0_root_8 rfl ?_
    exact rt_l hx hb hr hlocks pv ((sp_root_b (rf_m hc)).symm) (hP.sub [0, 1] rfl) (hK.sub [] rfl) (hD.sub [0, 1] (by decide) rfl) hS dX0_root_9
end
section
theorem pl_in2 {x : Int32} (h : ¬ x < 0) (h2 : x < nI 1024) : sp_place x := by
  refine pl_in h ?_
  rw [Int32.le_iff_toInt_le]
  rw [Int32.lt_iff_toInt_lt] at h2
  exact Int.not_le.mpr h2
theorem pl_big2 {x : Int32} (h : ¬ x < nI 1024) : ¬ sp_place x := by
  rintro ⟨k, hk, rfl⟩
  exact h ((nI_ltI (by omega) (by decide)).mpr hk)
theorem gd_big2 {x : Int32} (h : ¬ x ≤ nI 1000000007) : ¬ sp_good x := by
  rintro ⟨n, rfl, h3, hn, -⟩
  exact h ((nI_leI (by omega) (by decide)).mpr hn)
/-- the reference's search: what holds of the try w, with h the next to try -/
def ro_inv (nn pn wn hn : Nat) : Prop := wn < pn ∧ 2 ≤ hn ∧ hn ≤ sp_h nn pn + 1 ∧ (wn ^ (nn / 2) % pn = pn - 1 → wn = sp_w nn pn) ∧ (¬ wn ^ (nn / 2) % pn = pn - 1 → hn ≤ sp_h nn pn)
theorem ro_0 {nn pn : Nat} (hv : sp_val nn pn) (hn : nn ≠ 1) : ro_inv nn pn 1 2 := by
  have h3 := hv.2.1
  have hs := sp_h_spec hv hn
  have e : 1 ^ (nn / 2) % pn = 1 := by rw [Nat.one_pow, Nat.mod_eq_of_lt (by omega)]
  exact ⟨by omega, by omega, by omega, fun q => by rw [e] at q; omega, fun _ => hs.1⟩
theorem ro_s {nn pn wn hn : Nat} (hv : sp_val nn pn) (hn1 : nn ≠ 1) (h : ro_inv nn pn wn hn) (hc : ¬ wn ^ (nn / 2) % pn = pn - 1) : ro_inv nn pn (hn ^ ((pn - 1) / nn) % pn) (hn + 1) := by
  have h3 := hv.2.1
  have hs := sp_h_spec hv hn1
  have hle := h.2.2.2.2 hc
  have h2 := h.2.1
  refine ⟨Nat.mod_lt _ (by omega), by omega, by omega, fun q => ?_, fun q => ?_⟩
  · have he : hn = sp_h nn pn := by
      rcases Nat.lt_or_ge hn (sp_h nn pn) with z | z
      · exact absurd q (hs.2.2.2 hn h2 z)
      · omega
    rw [he, sp_w_n hn1]
  · have hne : hn ≠ sp_h nn pn := fun z => q (by rw [z]; exact hs.2.2.1)
    omega
theorem by_s {w j k p : Nat} : w ^ (j * k) % p * (w ^ k % p) % p = w ^ ((j + 1) * k) % p := by
  rw [← Nat.mul_mod, ← Nat.pow_add, Nat.add_mul, Nat.one_mul]
theorem sm_s {x : Nat → Nat} {w k j p : Nat} : (sp_S x w k j % p + x j * (w ^ (j * k) % p)) % p = sp_S x w k (j + 1) % p := by
  rw [show sp_S x w k (j + 1) = sp_S x w k j + x j * w ^ (j * k) from rfl]
  rw [Nat.mod_add_mod, ← Nat.add_mod_mod, Nat.mul_mod_mod, Nat.add_mod_mod]
theorem sp_sm_0 (x : Nat → Nat) (w k p : Nat) : sp_S x w k 0 % p = 0 := Nat.zero_mod p
theorem tr_u {x : Nat → Nat} {mm pn iv k : Nat} {bk : Int32} (hb : (bk = 0 ∧ iv = 1) ∨ (¬ bk = 0 ∧ iv = (2 ^ mm) ^ (pn - 2) % pn)) : lN (sp_S x (sp_wb (2 ^ mm) pn (decide (¬ bk = 0))) k (2 ^ mm) % pn * iv % pn) = lN (sp_out x (2 ^ mm) pn (decide (¬ bk = 0)) k) := by
  rcases hb with ⟨h1, h2⟩ | ⟨h1, h2⟩
  · rw [sp_out_f h1, h2, Nat.mul_one, Nat.mod_mod]
  · rw [sp_out_t h1, h2]
theorem sp_res_0 (p : Nat) : sp_res 0 p = 0 := by
  unfold sp_res
  rw [show (0 : Int64).toInt = 0 from rfl, Int.zero_emod]
  rfl
/-- a row's end behind 'keep' in the reference -/
def sp_kp (n : Int32) (row kept : Nat → Int64) (ks : Int32) (u : (Nat → Int64) × Int32) : Prop := (sp_badt n → u = (kept, ks)) ∧ ∀ nn : Nat, nn ≤ 1024 → n = nI nn → u = (sp_fill row kept nn, nI nn)
end
section
set_option maxHeartbeats 4000000 in
set_option maxRecDepth 100000 in
/-- the reference: put(k, v) -/
theorem metX2_put (l : Launch) (dC : Nat → ClassId) (dI : Nat → Nat → Nat) (sz : Nat) (h0 b1 b2 b3 : Nat) (ks : Int32) (d1 : ClassId) (fr : Nat → Int64) (x : Int32) (v : Int64)  : Met l yX2_put (ws_ yX2_put cX2_put 4 (some .boolean)) ({ frames := 0, cells := 0, slots := 0, locals := 0 }) (pcW [.ref h0, .int x, .long v] sz dC dI [(h0, .inr (2, [.ref b1, .ref b2, .ref b3, .int ks])), (b1, .inl (d1, 1024, .inr (.inl fr)))] [(d1, .long)]) (va_Qi (fun (r : Int32) (u : Nat → Int64) => sp_b (sp_place x) r ∧ u = sp_put x v fr) (bw dC dI (va_A [(h0, .inr (2, [.ref b1, .ref b2, .ref b3, .int ks])), (b1, .inl (d1, 1024, .inr (.inl fr)))] sz) (fun u => [(h0, .inr (2, [.ref b1, .ref b2, .ref b3, .int ks])), (b1, .inl (d1, 1024, .inr (.inl u)))]) (fun u => [(d1, .long)])) (va_A [(h0, .inr (2, [.ref b1, .ref b2, .ref b3, .int ks])), (b1, .inl (d1, 1024, .inr (.inl fr)))] sz)) 0 0 (va_A [(h0, .inr (2, [.ref b1, .ref b2, .ref b3, .int ks])), (b1, .inl (d1, 1024, .inr (.inl fr)))] sz) := by
  refine Met.ofW (cc := cX2_put) (maxL := 4) (ret := (some .boolean)) (by decide) rfl ?_
  intro p e s m args below meth c s₁ B hml hv
  obtain ⟨rfl, hsz, hP, hK, hD0⟩ := hv
  have hx := B.exec
  have hb := B.bytes
  have hr := B.returns
  have hts := atoms_spec (ws := ws_ yX2_put cX2_put 4 (some .boolean)) B.pre
  have hts : ∀ w ∈ lw_all, w.before _ s = true := fun w h => hts w (List.mem_cons_of_mem _ h)
  have hown : s.vm.findClass RX2 = some m.cls := findClass_of_methodNamed B.named
  have hlocks := B.notSynchronized
  subst hsz
  have hD := hD0.self (sz := s.heap.size)
  generalize hAe : va_A [(h0, .inr (2, [.ref b1, .ref b2, .ref b3, .int ks])), (b1, .inl (d1, 1024, .inr (.inl fr)))] s.heap.size = A at hD ⊢
  have hA : ∀ q : Nat, s.heap.size ≤ q → A q := fun q h => by rw [← hAe]; exact Or.inr h
  have hS : va_S A s.heap s.heap [] := va_S.rf
  have hP : va_P (dC, dI) vwCl [(h0, .inr (2, [.ref b1, .ref b2, .ref b3, .int ks])), (b1, .inl (d1, 1024, .inr (.inl fr)))] s.heap := hP
  have hl := lv_entry ([.ref h0, .int x, .long v]) (n := 4) (Nat.le_of_ble_eq_true rfl)
  rw [lg_entry_eq]
  generalize (lg_sl ([.ref h0, .int x, .long v]) ++ List.replicate (4 - (lg_sl ([.ref h0, .int x, .long v])).length) Slot.unset).toArray = ls at hl ⊢
  have hl : lv_has ls 4 [(0, .ref h0), (1, .int x), (2, .long v)] := hl
  refine lv_iload_n hx hb dX2_put_0 rfl (lv_at hl 1 rfl) ?_
  refine lv_if_lt (tgt := 11) hx hb dX2_put_1 (by decide) (fun hc => ?_) (fun hc => ?_)
  · refine lv_iconst (v := nI 0) hx hb dX2_put_11 (by decide) ?_
    exact rt_z hx hb hr hlocks rfl fr (⟨sp_bF (pl_neg hc), (sp_put_f (pl_neg hc) v fr).symm⟩) (hP.sub [0, 1] rfl) (hK.sub [0] rfl) (hD.sub [0, 1] (by decide) rfl) hS dX2_put_12
  · refine lv_iload_n hx hb dX2_put_4 rfl (lv_at hl 1 rfl) ?_
    refine lv_sipush (v := nI 1024) hx hb dX2_put_5 (by decide) ?_
    refine lv_icmp_lt (tgt := 13) hx hb dX2_put_8 (by decide) (fun hc2 => ?_) (fun hc2 => ?_)
    · have hpl := pl_in2 hc hc2
      obtain ⟨k, hk, rfl⟩ := pl_in2 hc hc2
      refine lv_aload_n hx hb dX2_put_13 rfl (lv_at hl 0 rfl) ?_
      refine va_get (D := (dC, dI)) (ci := 2) (v := .ref b1) (C := RX2) (T := TX2) (N := 4) hx hb hts in_X2 hown hK hP 0 rfl rfl 0 (by decide) (hts _ q110) (fun _ h9 => h9) rfl dX2_put_14 ?_
      refine lv_iload_n hx hb dX2_put_17 rfl (lv_at hl 1 rfl) ?_
      refine lv_lload_n hx hb dX2_put_18 rfl (lv_at hl 2 rfl) ?_
      refine nv_last (i := k) hx hb hK hP hD hS 1 0 rfl rfl (by omega) (by decide) dX2_put_19 (fun H locs hP hD hS => ?_)
      have hP : va_P (dC, dI) vwCl [(h0, .inr (2, [.ref b1, .ref b2, .ref b3, .int ks])), (b1, .inl (d1, 1024, .inr (.inl (vp_updL fr k v))))] H := hP
      have hD : va_D A [(h0, .inr (2, [.ref b1, .ref b2, .ref b3, .int ks])), (b1, .inl (d1, 1024, .inr (.inl (vp_updL fr k v))))] := hD
      refine lv_iconst (v := nI 1) hx hb dX2_put_20 (by decide) ?_
      exact rt_z hx hb hr hlocks rfl ((vp_updL fr k v)) (⟨sp_bT hpl, (sp_put_t hk v fr).symm⟩) (hP.sub [0, 1] rfl) (hK.sub [0] rfl) (hD.sub [0, 1] (by decide) rfl) hS dX2_put_21
    · refine lv_iconst (v := nI 0) hx hb dX2_put_11 (by decide) ?_
      exact rt_z hx hb hr hlocks rfl fr (⟨sp_bF (pl_big2 hc2), (sp_put_f (pl_big2 hc2) v fr).symm⟩) (hP.sub [0, 1] rfl) (hK.sub [0] rfl) (hD.sub [0, 1] (by decide) rfl) hS dX2_put_12
set_option maxHeartbeats 4000000 in
set_option maxRecDepth 100000 in
/-- the reference: get(k) -/
theorem metX2_get (l : Launch) (dC : Nat → ClassId) (dI : Nat → Nat → Nat) (sz : Nat) (h0 b1 b2 b3 : Nat) (ks : Int32) (d1 : ClassId) (fr : Nat → Int64) (x : Int32)  : Met l yX2_get (ws_ yX2_get cX2_get 2 (some .long)) ({ frames := 0, cells := 0, slots := 0, locals := 0 }) (pcW [.ref h0, .int x] sz dC dI [(h0, .inr (2, [.ref b1, .ref b2, .ref b3, .int ks])), (b1, .inl (d1, 1024, .inr (.inl fr)))] [(d1, .long)]) (va_Ql (fun (r : Int64) (u : Unit) => r = sp_get x fr) (bw dC dI (va_A [(h0, .inr (2, [.ref b1, .ref b2, .ref b3, .int ks])), (b1, .inl (d1, 1024, .inr (.inl fr)))] sz) (fun u => [(h0, .inr (2, [.ref b1, .ref b2, .ref b3, .int ks])), (b1, .inl (d1, 1024, .inr (.inl fr)))]) (fun u => [(d1, .long)])) (va_A [(h0, .inr (2, [.ref b1, .ref b2, .ref b3, .int ks])), (b1, .inl (d1, 1024, .inr (.inl fr)))] sz)) 0 0 (va_A [(h0, .inr (2, [.ref b1, .ref b2, .ref b3, .int ks])), (b1, .inl (d1, 1024, .inr (.inl fr)))] sz) := by
  refine Met.ofW (cc := cX2_get) (maxL := 2) (ret := (some .long)) (by decide) rfl ?_
  intro p e s m args below meth c s₁ B hml hv
  obtain ⟨rfl, hsz, hP, hK, hD0⟩ := hv
  have hx := B.exec
  have hb := B.bytes
  have hr := B.returns
  have hts := atoms_spec (ws := ws_ yX2_get cX2_get 2 (some .long)) B.pre
  have hts : ∀ w ∈ lw_all, w.before _ s = true := fun w h => hts w (List.mem_cons_of_mem _ h)
  have hown : s.vm.findClass RX2 = some m.cls := findClass_of_methodNamed B.named
  have hlocks := B.notSynchronized
  subst hsz
  have hD := hD0.self (sz := s.heap.size)
  generalize hAe : va_A [(h0, .inr (2, [.ref b1, .ref b2, .ref b3, .int ks])), (b1, .inl (d1, 1024, .inr (.inl fr)))] s.heap.size = A at hD ⊢
  have hA : ∀ q : Nat, s.heap.size ≤ q → A q := fun q h => by rw [← hAe]; exact Or.inr h
  have hS : va_S A s.heap s.heap [] := va_S.rf
  have hP : va_P (dC, dI) vwCl [(h0, .inr (2, [.ref b1, .ref b2, .ref b3, .int ks])), (b1, .inl (d1, 1024, .inr (.inl fr)))] s.heap := hP
  have hl := lv_entry ([.ref h0, .int x]) (n := 2) (Nat.le_of_ble_eq_true rfl)
  rw [lg_entry_eq]
  generalize (lg_sl ([.ref h0, .int x]) ++ List.replicate (2 - (lg_sl ([.ref h0, .int x])).length) Slot.unset).toArray = ls at hl ⊢
  have hl : lv_has ls 2 [(0, .ref h0), (1, .int x)] := hl
  refine lv_iload_n hx hb dX2_get_0 rfl (lv_at hl 1 rfl) ?_
  refine lv_if_lt (tgt := 20) hx hb dX2_get_1 (by decide) (fun hc => ?_) (fun hc => ?_)
  · refine lv_lconst (v := lN 0) hx hb dX2_get_20 rfl ?_
    exact rt_l hx hb hr hlocks (()) ((sp_get_f (pl_neg hc) fr).symm) (hP.sub [0, 1] rfl) (hK.sub [0] rfl) (hD.sub [0, 1] (by decide) rfl) hS dX2_get_21
  · refine lv_iload_n hx hb dX2_get_4 rfl (lv_at hl 1 rfl) ?_
    refine lv_sipush (v := nI 1024) hx hb dX2_get_5 (by decide) ?_
    refine lv_icmp_ge (tgt := 20) hx hb dX2_get_8 (by decide) (fun hc2 => ?_) (fun hc2 => ?_)
    · refine lv_lconst (v := lN 0) hx hb dX2_get_20 rfl ?_
      exact rt_l hx hb hr hlocks (()) ((sp_get_f (pl_big hc2) fr).symm) (hP.sub [0, 1] rfl) (hK.sub [0] rfl) (hD.sub [0, 1] (by decide) rfl) hS dX2_get_21
    · obtain ⟨k, hk, rfl⟩ := pl_in hc hc2
      refine lv_aload_n hx hb dX2_get_11 rfl (lv_at hl 0 rfl) ?_
      refine va_get (D := (dC, dI)) (ci := 2) (v := .ref b1) (C := RX2) (T := TX2) (N := 4) hx hb hts in_X2 hown hK hP 0 rfl rfl 0 (by decide) (hts _ q110) (fun _ h9 => h9) rfl dX2_get_12 ?_
      refine lv_iload_n hx hb dX2_get_15 rfl (lv_at hl 1 rfl) ?_
      refine nv_lald (i := k) hx hb hK hP 1 0 rfl rfl (by omega) (by decide) dX2_get_16 ?_
      refine lv_goto (tgt := 21) hx hb dX2_get_17 (by decide) ?_
      exact rt_l hx hb hr hlocks (()) ((sp_get_t hk fr).symm) (hP.sub [0, 1] rfl) (hK.sub [0] rfl) (hD.sub [0, 1] (by decide) rfl) hS dX2_get_21
set_option maxHeartbeats 4000000 in
set_option maxRecDepth 100000 in
theorem lpX2_isPrime {p : Program} {l : Launch} {e : Env} {R : Room} {s : State} {m : MethodId} {args : Array Value} {below : List Frame} {meth : Method} {c : Code} {Q : State → Prop} {cells slots : Nat} {dC : Nat → ClassId} {dI : Nat → Nat → Nat} {A : Nat → Prop} {n : Nat} (hx : p.tables.exec = Jvm.exec) (hb : c.code = cX2_isPrime) (hml : c.maxLocals = 2) (hown : s.vm.findClass RX2 = some m.cls) (hts : ∀ w ∈ lw_all, w.before args s = true) (hA : ∀ q : Nat, s.heap.size ≤ q → A q) (hK : va_K (dC, dI) vwCl [] s) (hn3 : 3 ≤ n) (hn31 : n < 2 ^ 31) (hQ1 : (sp_prm n) → ∀ (H : Heap) (locs : List Loc), va_P (dC, dI) vwCl [] H → va_D A [] → va_S A s.heap H locs → ∀ (ls : Array Slot), lv_has ls 2 [] → W p l e R s m args below meth c H locs cells slots Q (F0 m 40 ls [])) (hQ0 : (¬ sp_prm n) → ∀ (H : Heap) (locs : List Loc), va_P (dC, dI) vwCl [] H → va_D A [] → va_S A s.heap H locs → ∀ (ls : Array Slot), lv_has ls 2 [] → W p l e R s m args below meth c H locs cells slots Q (F0 m 32 ls [])) :
    ∀ (fuel : Nat) (dn : Nat), (2 ≤ dn) → (dn ≤ 46343) → (∀ e, 2 ≤ e → e < dn → ¬ n % e = 0) → 50000 - dn < fuel → ∀ (H : Heap) (locs : List Loc), va_P (dC, dI) vwCl [] H → va_D A [] → va_S A s.heap H locs → ∀ (ls : Array Slot), lv_has ls 2 [(1, .int (nI dn)), (0, .int (nI n))] → W p l e R s m args below meth c H locs cells slots Q (F0 m 15 ls []) := by
  intro fuel
  induction fuel with
  | zero =>
    intro dn hd3 hdm hno hfu
    exact absurd hfu (Nat.not_lt_zero _)
  | succ fuel ih =>
    intro dn hd3 hdm hno hfu H locs hP hD hS ls hl
    have hsq := sp_m62 (a := dn) (b := dn) (by omega) (by omega)
    refine lv_iload_n hx hb dX2_isPrime_15 rfl (lv_at hl 0 rfl) ?_
    refine nv_i2l (a := dn) hx hb dX2_isPrime_16 (by omega) ?_
    refine lv_iload_n hx hb dX2_isPrime_17 rfl (lv_at hl 0 rfl) ?_
    refine nv_i2l (a := dn) hx hb dX2_isPrime_18 (by omega) ?_
    refine nv_lmul (a := dn) (b := dn) hx hb dX2_isPrime_19  ?_
    refine lv_iload_n hx hb dX2_isPrime_20 rfl (lv_at hl 1 rfl) ?_
    refine nv_i2l (a := n) hx hb dX2_isPrime_21 (by omega) ?_
    refine nv_lcmp_gt (a := dn * dn) (b := n) (tgt := 40) hx hb dX2_isPrime_22 dX2_isPrime_23 (by decide) (by omega) (by omega) (fun hc => ?_) (fun hc => ?_)
    · exact hQ1 (pr_end hno hc (by omega)) H locs hP hD hS ls (lv_sub hl [] rfl)
    · have hd4 := pr_sq hc hn31
      refine lv_iload_n hx hb dX2_isPrime_26 rfl (lv_at hl 1 rfl) ?_
      refine lv_iload_n hx hb dX2_isPrime_27 rfl (lv_at hl 0 rfl) ?_
      refine nv_irem (a := n) (b := dn) hx hb dX2_isPrime_28 (by omega) (by omega) (by omega) ?_
      refine nv_if_ne (a := n % dn) (tgt := 34) hx hb dX2_isPrime_29 (by decide) (Nat.lt_of_le_of_lt (Nat.mod_le _ _) hn31) (fun hc2 => ?_) (fun hc2 => ?_)
      · refine lv_iinc (v := nI (dn + 1)) (lv' := [(1, .int (nI (dn + 1))), (0, .int (nI n))]) hx hb dX2_isPrime_34 hl (k := 0) rfl (nI_add _ 1) (by decide) rfl (fun ls hl => ?_)
        refine lv_goto (tgt := 15) hx hb dX2_isPrime_37 (by decide) ?_
        exact ih (dn + 1) (by omega) (by omega) (fun e he1 he2 => by
          rcases (show e < dn ∨ e = dn by omega) with q | q
          · exact hno e he1 q
          · rw [q]; omega) (by omega) H locs hP hD hS ls hl
      · exact hQ0 (pr_not (by omega) hc hc2) H locs hP hD hS ls (lv_sub hl [] rfl)
set_option maxHeartbeats 4000000 in
set_option maxRecDepth 100000 in
/-- the reference: isPrime(p) -/
theorem metX2_isPrime (l : Launch) (dC : Nat → ClassId) (dI : Nat → Nat → Nat) (sz : Nat) (x : Int32)  : Met l yX2_isPrime (ws_ yX2_isPrime cX2_isPrime 2 (some .boolean)) ({ frames := 0, cells := 0, slots := 0, locals := 0 }) (pcW [.int x] sz dC dI [] []) (va_Qi (fun (r : Int32) (u : Unit) => sp_b (sp_good x) r) (bw dC dI (va_A [] sz) (fun u => []) (fun u => [])) (va_A [] sz)) 0 0 (va_A [] sz) := by
  refine Met.ofW (cc := cX2_isPrime) (maxL := 2) (ret := (some .boolean)) (by decide) rfl ?_
  intro p e s m args below meth c s₁ B hml hv
  obtain ⟨rfl, hsz, hP, hK, hD0⟩ := hv
  have hx := B.exec
  have hb := B.bytes
  have hr := B.returns
  have hts := atoms_spec (ws := ws_ yX2_isPrime cX2_isPrime 2 (some .boolean)) B.pre
  have hts : ∀ w ∈ lw_all, w.before _ s = true := fun w h => hts w (List.mem_cons_of_mem _ h)
  have hown : s.vm.findClass RX2 = some m.cls := findClass_of_methodNamed B.named
  have hlocks := B.notSynchronized
  subst hsz
  have hD := hD0.self (sz := s.heap.size)
  generalize hAe : va_A [] s.heap.size = A at hD ⊢
  have hA : ∀ q : Nat, s.heap.size ≤ q → A q := fun q h => by rw [← hAe]; exact Or.inr h
  have hS : va_S A s.heap s.heap [] := va_S.rf
  have hP : va_P (dC, dI) vwCl [] s.heap := hP
  have hl := lv_entry ([.int x]) (n := 2) (Nat.le_of_ble_eq_true rfl)
  rw [lg_entry_eq]
  generalize (lg_sl ([.int x]) ++ List.replicate (2 - (lg_sl ([.int x])).length) Slot.unset).toArray = ls at hl ⊢
  have hl : lv_has ls 2 [(0, .int x)] := hl
  refine lv_iload_n hx hb dX2_isPrime_0 rfl (lv_at hl 0 rfl) ?_
  refine lv_iconst (v := nI 3) hx hb dX2_isPrime_1 (by decide) ?_
  refine lv_icmp_lt (tgt := 11) hx hb dX2_isPrime_2 (by decide) (fun hc => ?_) (fun hc => ?_)
  · refine lv_iconst (v := nI 0) hx hb dX2_isPrime_11 (by decide) ?_
    exact rt_z hx hb hr hlocks rfl (()) (sp_bF (pr_lt3 hc).2) (hP.sub [] rfl) (hK.sub [] rfl) (hD.sub [] (by decide) rfl) hS dX2_isPrime_12
  · refine lv_iload_n hx hb dX2_isPrime_5 rfl (lv_at hl 0 rfl) ?_
    refine lv_ldc hx hb hown (hts _ q141) dX2_isPrime_6 ?_
    refine nv_ci (y := nI 1000000007) rfl ?_
    refine lv_icmp_le (tgt := 13) hx hb dX2_isPrime_8 (by decide) (fun hc2 => ?_) (fun hc2 => ?_)
    · obtain ⟨n, hn3, hn31, rfl⟩ := pr_ge3 hc
      have hnm := (nI_leI hn31 (show 1000000007 < 2 ^ 31 by decide)).mp hc2
      refine lv_iconst (v := nI 2) hx hb dX2_isPrime_13 (by decide) ?_
      refine lv_istore_n (lv' := [(1, .int (nI 2)), (0, .int (nI n))]) hx hb dX2_isPrime_14 rfl hl (by decide) rfl (fun ls hl => ?_)
      refine lpX2_isPrime hx hb hml hown hts hA hK hn3 hn31 ?_ ?_ 50001 2 (by omega) (by omega) (fun e h1 h2 => by omega) (by omega) s.heap [] hP hD hS ls hl
      · intro hpr H locs hP hD hS ls hl
        refine lv_iconst (v := nI 1) hx hb dX2_isPrime_40 (by decide) ?_
        exact rt_z hx hb hr hlocks rfl (()) (sp_bT ((pr_good hn31 hn3).mpr ⟨hnm, hpr⟩)) (hP.sub [] rfl) (hK.sub [] rfl) (hD.sub [] (by decide) rfl) hS dX2_isPrime_41
      · intro hpr H locs hP hD hS ls hl
        refine lv_iconst (v := nI 0) hx hb dX2_isPrime_32 (by decide) ?_
        exact rt_z hx hb hr hlocks rfl (()) (sp_bF (fun q => hpr ((pr_good hn31 hn3).mp q).2)) (hP.sub [] rfl) (hK.sub [] rfl) (hD.sub [] (by decide) rfl) hS dX2_isPrime_33
    · refine lv_iconst (v := nI 0) hx hb dX2_isPrime_11 (by decide) ?_
      exact rt_z hx hb hr hlocks rfl (()) (sp_bF (gd_big2 hc2)) (hP.sub [] rfl) (hK.sub [] rfl) (hD.sub [] (by decide) rfl) hS dX2_isPrime_12
set_option maxHeartbeats 4000000 in
set_option maxRecDepth 100000 in
/-- the reference: what is refused -/
theorem metX2_refused (l : Launch) (dC : Nat → ClassId) (dI : Nat → Nat → Nat) (sz : Nat) (n q : Int32)  : Met l yX2_refused (ws_ yX2_refused cX2_refused 2 (some .int)) ({ frames := 1, cells := 0, slots := 0, locals := 21 }) (pcW [.int n, .int q] sz dC dI [] []) (va_Qi (fun (r : Int32) (u : Unit) => r = sp_rfz n q) (bw dC dI (va_A [] sz) (fun u => []) (fun u => [])) (va_A [] sz)) 0 0 (va_A [] sz) := by
  refine Met.ofW (cc := cX2_refused) (maxL := 2) (ret := (some .int)) (by decide) rfl ?_
  intro p e s m args below meth c s₁ B hml hv
  obtain ⟨rfl, hsz, hP, hK, hD0⟩ := hv
  have hx := B.exec
  have hb := B.bytes
  have hr := B.returns
  have hts := atoms_spec (ws := ws_ yX2_refused cX2_refused 2 (some .int)) B.pre
  have hts : ∀ w ∈ lw_all, w.before _ s = true := fun w h => hts w (List.mem_cons_of_mem _ h)
  have hown : s.vm.findClass RX2 = some m.cls := findClass_of_methodNamed B.named
  have hlocks := B.notSynchronized
  subst hsz
  have hD := hD0.self (sz := s.heap.size)
  generalize hAe : va_A [] s.heap.size = A at hD ⊢
  have hA : ∀ q : Nat, s.heap.size ≤ q → A q := fun q h => by rw [← hAe]; exact Or.inr h
  have hS : va_S A s.heap s.heap [] := va_S.rf
  have hP : va_P (dC, dI) vwCl [] s.heap := hP
  have hl := lv_entry ([.int n, .int q]) (n := 2) (Nat.le_of_ble_eq_true rfl)
  rw [lg_entry_eq]
  generalize (lg_sl ([.int n, .int q]) ++ List.replicate (2 - (lg_sl ([.int n, .int q])).length) Slot.unset).toArray = ls at hl ⊢
  have hl : lv_has ls 2 [(0, .int n), (1, .int q)] := hl
  refine lv_iload_n hx hb dX2_refused_0 rfl (lv_at hl 0 rfl) ?_
  refine lv_iconst (v := nI 1) hx hb dX2_refused_1 (by decide) ?_
  refine lv_icmp_lt (tgt := 20) hx hb dX2_refused_2 (by decide) (fun hc => ?_) (fun hc => ?_)
  · refine lv_iconst (v := (-1)) hx hb dX2_refused_20 (by decide) ?_
    exact rt_i hx hb hr hlocks (()) ((sp_rfz_1 (Or.inl hc)).symm) (hP.sub [] rfl) (hK.sub [] rfl) (hD.sub [] (by decide) rfl) hS dX2_refused_21
  · refine lv_iload_n hx hb dX2_refused_5 rfl (lv_at hl 0 rfl) ?_
    refine lv_sipush (v := nI 1024) hx hb dX2_refused_6 (by decide) ?_
    refine lv_icmp_gt (tgt := 20) hx hb dX2_refused_9 (by decide) (fun hc2 => ?_) (fun hc2 => ?_)
    · refine lv_iconst (v := (-1)) hx hb dX2_refused_20 (by decide) ?_
      exact rt_i hx hb hr hlocks (()) ((sp_rfz_1 (Or.inr (Or.inl hc2))).symm) (hP.sub [] rfl) (hK.sub [] rfl) (hD.sub [] (by decide) rfl) hS dX2_refused_21
    · refine lv_iload_n hx hb dX2_refused_12 rfl (lv_at hl 0 rfl) ?_
      refine lv_iload_n hx hb dX2_refused_13 rfl (lv_at hl 0 rfl) ?_
      refine lv_iconst (v := nI 1) hx hb dX2_refused_14 (by decide) ?_
      refine lv_isub hx hb dX2_refused_15 ?_
      refine lv_iand hx hb dX2_refused_16 ?_
      refine lv_if_eq (tgt := 22) hx hb dX2_refused_17 (by decide) (fun hc3 => ?_) (fun hc3 => ?_)
      · have hnb := rf_nb hc hc2 hc3
        refine lv_iload_n hx hb dX2_refused_22 rfl (lv_at hl 1 rfl) ?_
        refine cl_i (wc := []) (wr := []) (va_runS (As := [.int q]) (rest := []) ⟨hx, hb, hml, hown, hts⟩ (metX2_isPrime l dC dI s.heap.size q) (va_cwS 1 hts (lw_S q138 q139 q6 q140) rfl rfl rfl (by decide +kernel) ⟨Nat.le_of_ble_eq_true rfl, Nat.le_of_ble_eq_true rfl⟩) (preS (wc := []) (tc := []) hK hP hD [] (by decide) rfl [] rfl) rfl rfl hl.1 rfl (lv_room (Nat.le_of_ble_eq_true rfl)) dX2_refused_23 ⟨Nat.le_refl _, Nat.le_refl _⟩) hP hD hS hA [] [] rfl rfl (by decide) (by decide) (fun r1 u1 H locs hw1 hP hD hK1 hS => ?_)
        have hP : va_P (dC, dI) vwCl [] H := hP
        have hD : va_D A [] := hD
        refine lv_if_ne (tgt := 32) hx hb dX2_refused_26 (by decide) (fun hc4 => ?_) (fun hc4 => ?_)
        · refine lv_iload_n hx hb dX2_refused_32 rfl (lv_at hl 1 rfl) ?_
          refine lv_iconst (v := nI 1) hx hb dX2_refused_33 (by decide) ?_
          refine lv_isub hx hb dX2_refused_34 ?_
          refine lv_iload_n hx hb dX2_refused_35 rfl (lv_at hl 0 rfl) ?_
          refine lv_irem hx hb dX2_refused_36 (rf_n0 hc) ?_
          refine lv_if_eq (tgt := 45) hx hb dX2_refused_37 (by decide) (fun hc5 => ?_) (fun hc5 => ?_)
          · refine lv_iconst (v := nI 0) hx hb dX2_refused_45 (by decide) ?_
            exact rt_i hx hb hr hlocks (()) ((sp_rfz_0 hnb (sp_b_ne hw1 hc4) hc5).symm) (hP.sub [] rfl) (hK.sub [] rfl) (hD.sub [] (by decide) rfl) hS dX2_refused_46
          · refine lv_bipush (v := (-3)) hx hb dX2_refused_40 (by decide) ?_
            refine lv_goto (tgt := 46) hx hb dX2_refused_42 (by decide) ?_
            exact rt_i hx hb hr hlocks (()) ((sp_rfz_3 hnb (sp_b_ne hw1 hc4) hc5).symm) (hP.sub [] rfl) (hK.sub [] rfl) (hD.sub [] (by decide) rfl) hS dX2_refused_46
        · refine lv_bipush (v := (-2)) hx hb dX2_refused_29 (by decide) ?_
          exact rt_i hx hb hr hlocks (()) ((sp_rfz_2 hnb (sp_b_0 hw1 hc4)).symm) (hP.sub [] rfl) (hK.sub [] rfl) (hD.sub [] (by decide) rfl) hS dX2_refused_31
      · refine lv_iconst (v := (-1)) hx hb dX2_refused_20 (by decide) ?_
        exact rt_i hx hb hr hlocks (()) ((sp_rfz_1 (Or.inr (Or.inr hc3))).symm) (hP.sub [] rfl) (hK.sub [] rfl) (hD.sub [] (by decide) rfl) hS dX2_refused_21
set_option maxHeartbeats 4000000 in
set_option maxRecDepth 100000 in
/-- the reference: rest(v, p) -/
theorem metX2_rest (l : Launch) (dC : Nat → ClassId) (dI : Nat → Nat → Nat) (sz : Nat) (v : Int64) (pn : Nat) (hp0 : 0 < pn) (hpm : pn ≤ 1000000007) : Met l yX2_rest (ws_ yX2_rest cX2_rest 3 (some .long)) ({ frames := 0, cells := 0, slots := 0, locals := 0 }) (pcW [.long v, .int (nI pn)] sz dC dI [] []) (va_Ql (fun (r : Int64) (u : Unit) => r = lN (sp_res v pn)) (bw dC dI (va_A [] sz) (fun u => []) (fun u => [])) (va_A [] sz)) 0 0 (va_A [] sz) := by
  refine Met.ofW (cc := cX2_rest) (maxL := 3) (ret := (some .long)) (by decide) rfl ?_
  intro p e s m args below meth c s₁ B hml hv
  obtain ⟨rfl, hsz, hP, hK, hD0⟩ := hv
  have hx := B.exec
  have hb := B.bytes
  have hr := B.returns
  have hts := atoms_spec (ws := ws_ yX2_rest cX2_rest 3 (some .long)) B.pre
  have hts : ∀ w ∈ lw_all, w.before _ s = true := fun w h => hts w (List.mem_cons_of_mem _ h)
  have hown : s.vm.findClass RX2 = some m.cls := findClass_of_methodNamed B.named
  have hlocks := B.notSynchronized
  subst hsz
  have hD := hD0.self (sz := s.heap.size)
  generalize hAe : va_A [] s.heap.size = A at hD ⊢
  have hA : ∀ q : Nat, s.heap.size ≤ q → A q := fun q h => by rw [← hAe]; exact Or.inr h
  have hS : va_S A s.heap s.heap [] := va_S.rf
  have hP : va_P (dC, dI) vwCl [] s.heap := hP
  have hl := lv_entry ([.long v, .int (nI pn)]) (n := 3) (Nat.le_of_ble_eq_true rfl)
  rw [lg_entry_eq]
  generalize (lg_sl ([.long v, .int (nI pn)]) ++ List.replicate (3 - (lg_sl ([.long v, .int (nI pn)])).length) Slot.unset).toArray = ls at hl ⊢
  have hl : lv_has ls 3 [(0, .long v), (2, .int (nI pn))] := hl
  refine lv_lload_n hx hb dX2_rest_0 rfl (lv_at hl 0 rfl) ?_
  refine lv_iload_n hx hb dX2_rest_1 rfl (lv_at hl 1 rfl) ?_
  refine nv_i2l (a := pn) hx hb dX2_rest_2 (by omega) ?_
  refine lv_lrem hx hb dX2_rest_3 (nv_lne0 (by omega) (by omega)) ?_
  refine lv_topl (fun rv erv => ?_)
  refine lv_iload_n hx hb dX2_rest_4 rfl (lv_at hl 1 rfl) ?_
  refine nv_i2l (a := pn) hx hb dX2_rest_5 (by omega) ?_
  refine lv_ladd hx hb dX2_rest_6 ?_
  refine lv_topl (fun sv esv => ?_)
  refine lv_iload_n hx hb dX2_rest_7 rfl (lv_at hl 1 rfl) ?_
  refine nv_i2l (a := pn) hx hb dX2_rest_8 (by omega) ?_
  refine lv_lrem hx hb dX2_rest_9 (nv_lne0 (by omega) (by omega)) ?_
  exact rt_l hx hb hr hlocks (()) (rs_two erv esv hp0 hpm) (hP.sub [] rfl) (hK.sub [] rfl) (hD.sub [] (by decide) rfl) hS dX2_rest_10
set_option maxHeartbeats 4000000 in
set_option maxRecDepth 100000 in
theorem lpX2_power {p : Program} {l : Launch} {e : Env} {R : Room} {s : State} {m : MethodId} {args : Array Value} {below : List Frame} {meth : Method} {c : Code} {Q : State → Prop} {cells slots : Nat} {dC : Nat → ClassId} {dI : Nat → Nat → Nat} {A : Nat → Prop} {pn vn : Nat} (hx : p.tables.exec = Jvm.exec) (hb : c.code = cX2_power) (hml : c.maxLocals = 11) (hown : s.vm.findClass RX2 = some m.cls) (hts : ∀ w ∈ lw_all, w.before args s = true) (hA : ∀ q : Nat, s.heap.size ≤ q → A q) (hK : va_K (dC, dI) vwCl [] s) (hp1 : 2 ≤ pn) (hp2 : pn ≤ 1000000007) (hQ : ∀ (rn : Nat), (rn = vn) → ∀ (H : Heap) (locs : List Loc), va_P (dC, dI) vwCl [] H → va_D A [] → va_S A s.heap H locs → ∀ (ls : Array Slot), lv_has ls 11 [(5, .long (lN rn))] → W p l e R s m args below meth c H locs cells slots Q (F0 m 64 ls [])) :
    ∀ (fuel : Nat) (rn : Nat) (bn : Nat) (kn : Nat), (rn < pn) → (bn < pn) → (kn < 2 ^ 63) → (rn * bn ^ kn % pn = vn) → kn < fuel → ∀ (H : Heap) (locs : List Loc), va_P (dC, dI) vwCl [] H → va_D A [] → va_S A s.heap H locs → ∀ (ls : Array Slot), lv_has ls 11 [(9, .long (lN kn)), (7, .long (lN bn)), (5, .long (lN rn)), (4, .int (nI pn))] → W p l e R s m args below meth c H locs cells slots Q (F0 m 13 ls []) := by
  intro fuel
  induction fuel with
  | zero =>
    intro rn bn kn hr hbn hk hv hfu
    exact absurd hfu (Nat.not_lt_zero _)
  | succ fuel ih =>
    intro rn bn kn hr hbn hk hv hfu H locs hP hD hS ls hl
    refine lv_lload hx hb dX2_power_13 (lv_at hl 0 rfl) ?_
    refine lv_lconst (v := lN 0) hx hb dX2_power_15 rfl ?_
    refine nv_lcmp_le (a := kn) (b := 0) (tgt := 64) hx hb dX2_power_16 dX2_power_17 (by decide) (by omega) (by omega) (fun hc => ?_) (fun hc => ?_)
    · have hk0 : kn = 0 := by omega
      subst hk0
      exact hQ rn (by rw [Nat.pow_zero, Nat.mul_one, Nat.mod_eq_of_lt hr] at hv; exact hv) H locs hP hD hS ls (lv_sub hl [2] rfl)
    · refine lv_lload hx hb dX2_power_20 (lv_at hl 0 rfl) ?_
      refine lv_ldc2 hx hb hown (hts _ q145) dX2_power_22 ?_
      refine nv_cl (y := lN 2) rfl ?_
      refine nv_lrem (a := kn) (b := 2) hx hb dX2_power_25 (by omega) (by omega) (by omega) ?_
      refine lv_lconst (v := lN 1) hx hb dX2_power_26 rfl ?_
      refine nv_lcmp_ne (a := kn % 2) (b := 1) (tgt := 42) hx hb dX2_power_27 dX2_power_28 (by decide) (by omega) (by omega) (fun hc2 => ?_) (fun hc2 => ?_)
      · refine lv_lload hx hb dX2_power_42 (lv_at hl 1 rfl) ?_
        refine lv_lload hx hb dX2_power_44 (lv_at hl 1 rfl) ?_
        refine nv_lmul (a := bn) (b := bn) hx hb dX2_power_46  ?_
        refine lv_iload hx hb dX2_power_47 (lv_at hl 3 rfl) ?_
        refine nv_i2l (a := pn) hx hb dX2_power_49 (by omega) ?_
        refine nv_lrem (a := bn * bn) (b := pn) hx hb dX2_power_50 (by have := sp_m62 (a := bn) (b := bn) (by omega) (by omega); omega) (by omega) (by omega) ?_
        refine lv_lstore (lv' := [(7, .long (lN ((bn * bn) % pn))), (9, .long (lN kn)), (5, .long (lN rn)), (4, .int (nI pn))]) hx hb dX2_power_51 hl (by decide) rfl (fun ls hl => ?_)
        refine lv_lload hx hb dX2_power_53 (lv_at hl 1 rfl) ?_
        refine lv_ldc2 hx hb hown (hts _ q145) dX2_power_55 ?_
        refine nv_cl (y := lN 2) rfl ?_
        refine nv_ldiv (a := kn) (b := 2) hx hb dX2_power_58 (by omega) (by omega) (by omega) ?_
        refine lv_lstore (lv' := [(9, .long (lN (kn / 2))), (7, .long (lN ((bn * bn) % pn))), (5, .long (lN rn)), (4, .int (nI pn))]) hx hb dX2_power_59 hl (by decide) rfl (fun ls hl => ?_)
        refine lv_goto (tgt := 13) hx hb dX2_power_61 (by decide) ?_
        exact ih (rn) (bn * bn % pn) (kn / 2) (hr) (Nat.mod_lt _ (by omega)) (by omega) (pw_even hc2 hv) (by omega) H locs hP hD hS ls (lv_sub hl [0, 1, 2, 3] rfl)
      · refine lv_lload hx hb dX2_power_31 (lv_at hl 2 rfl) ?_
        refine lv_lload hx hb dX2_power_33 (lv_at hl 1 rfl) ?_
        refine nv_lmul (a := rn) (b := bn) hx hb dX2_power_35  ?_
        refine lv_iload hx hb dX2_power_36 (lv_at hl 3 rfl) ?_
        refine nv_i2l (a := pn) hx hb dX2_power_38 (by omega) ?_
        refine nv_lrem (a := rn * bn) (b := pn) hx hb dX2_power_39 (by have := sp_m62 (a := rn) (b := bn) (by omega) (by omega); omega) (by omega) (by omega) ?_
        refine lv_lstore (lv' := [(5, .long (lN ((rn * bn) % pn))), (9, .long (lN kn)), (7, .long (lN bn)), (4, .int (nI pn))]) hx hb dX2_power_40 hl (by decide) rfl (fun ls hl => ?_)
        refine lv_lload hx hb dX2_power_42 (lv_at hl 2 rfl) ?_
        refine lv_lload hx hb dX2_power_44 (lv_at hl 2 rfl) ?_
        refine nv_lmul (a := bn) (b := bn) hx hb dX2_power_46  ?_
        refine lv_iload hx hb dX2_power_47 (lv_at hl 3 rfl) ?_
        refine nv_i2l (a := pn) hx hb dX2_power_49 (by omega) ?_
        refine nv_lrem (a := bn * bn) (b := pn) hx hb dX2_power_50 (by have := sp_m62 (a := bn) (b := bn) (by omega) (by omega); omega) (by omega) (by omega) ?_
        refine lv_lstore (lv' := [(7, .long (lN ((bn * bn) % pn))), (5, .long (lN ((rn * bn) % pn))), (9, .long (lN kn)), (4, .int (nI pn))]) hx hb dX2_power_51 hl (by decide) rfl (fun ls hl => ?_)
        refine lv_lload hx hb dX2_power_53 (lv_at hl 2 rfl) ?_
        refine lv_ldc2 hx hb hown (hts _ q145) dX2_power_55 ?_
        refine nv_cl (y := lN 2) rfl ?_
        refine nv_ldiv (a := kn) (b := 2) hx hb dX2_power_58 (by omega) (by omega) (by omega) ?_
        refine lv_lstore (lv' := [(9, .long (lN (kn / 2))), (7, .long (lN ((bn * bn) % pn))), (5, .long (lN ((rn * bn) % pn))), (4, .int (nI pn))]) hx hb dX2_power_59 hl (by decide) rfl (fun ls hl => ?_)
        refine lv_goto (tgt := 13) hx hb dX2_power_61 (by decide) ?_
        exact ih (rn * bn % pn) (bn * bn % pn) (kn / 2) (Nat.mod_lt _ (by omega)) (Nat.mod_lt _ (by omega)) (by omega) (pw_odd hc2 hv) (by omega) H locs hP hD hS ls (lv_sub hl [0, 1, 2, 3] rfl)
set_option maxHeartbeats 4000000 in
set_option maxRecDepth 100000 in
/-- the reference: power(v, e, p) -/
theorem metX2_power (l : Launch) (dC : Nat → ClassId) (dI : Nat → Nat → Nat) (sz : Nat) (an en pn : Nat) (ha : an < 2 ^ 31) (he : en < 2 ^ 63) (hp1 : 2 ≤ pn) (hp2 : pn ≤ 1000000007) : Met l yX2_power (ws_ yX2_power cX2_power 11 (some .long)) ({ frames := 0, cells := 0, slots := 0, locals := 0 }) (pcW [.long (lN an), .long (lN en), .int (nI pn)] sz dC dI [] []) (va_Ql (fun (r : Int64) (u : Unit) => r = lN (an ^ en % pn)) (bw dC dI (va_A [] sz) (fun u => []) (fun u => [])) (va_A [] sz)) 0 0 (va_A [] sz) := by
  refine Met.ofW (cc := cX2_power) (maxL := 11) (ret := (some .long)) (by decide) rfl ?_
  intro p e s m args below meth c s₁ B hml hv
  obtain ⟨rfl, hsz, hP, hK, hD0⟩ := hv
  have hx := B.exec
  have hb := B.bytes
  have hr := B.returns
  have hts := atoms_spec (ws := ws_ yX2_power cX2_power 11 (some .long)) B.pre
  have hts : ∀ w ∈ lw_all, w.before _ s = true := fun w h => hts w (List.mem_cons_of_mem _ h)
  have hown : s.vm.findClass RX2 = some m.cls := findClass_of_methodNamed B.named
  have hlocks := B.notSynchronized
  subst hsz
  have hD := hD0.self (sz := s.heap.size)
  generalize hAe : va_A [] s.heap.size = A at hD ⊢
  have hA : ∀ q : Nat, s.heap.size ≤ q → A q := fun q h => by rw [← hAe]; exact Or.inr h
  have hS : va_S A s.heap s.heap [] := va_S.rf
  have hP : va_P (dC, dI) vwCl [] s.heap := hP
  have hl := lv_entry ([.long (lN an), .long (lN en), .int (nI pn)]) (n := 11) (Nat.le_of_ble_eq_true rfl)
  rw [lg_entry_eq]
  generalize (lg_sl ([.long (lN an), .long (lN en), .int (nI pn)]) ++ List.replicate (11 - (lg_sl ([.long (lN an), .long (lN en), .int (nI pn)])).length) Slot.unset).toArray = ls at hl ⊢
  have hl : lv_has ls 11 [(0, .long (lN an)), (2, .long (lN en)), (4, .int (nI pn))] := hl
  refine lv_lconst (v := lN 1) hx hb dX2_power_0 rfl ?_
  refine lv_lstore (lv' := [(5, .long (lN 1)), (0, .long (lN an)), (2, .long (lN en)), (4, .int (nI pn))]) hx hb dX2_power_1 hl (by decide) rfl (fun ls hl => ?_)
  refine lv_lload_n hx hb dX2_power_3 rfl (lv_at hl 1 rfl) ?_
  refine lv_iload hx hb dX2_power_4 (lv_at hl 3 rfl) ?_
  refine nv_i2l (a := pn) hx hb dX2_power_6 (by omega) ?_
  refine nv_lrem (a := an) (b := pn) hx hb dX2_power_7 (by omega) (by omega) (by omega) ?_
  refine lv_lstore (lv' := [(7, .long (lN (an % pn))), (5, .long (lN 1)), (0, .long (lN an)), (2, .long (lN en)), (4, .int (nI pn))]) hx hb dX2_power_8 hl (by decide) rfl (fun ls hl => ?_)
  refine lv_lload_n hx hb dX2_power_10 rfl (lv_at hl 3 rfl) ?_
  refine lv_lstore (lv' := [(9, .long (lN en)), (7, .long (lN (an % pn))), (5, .long (lN 1)), (0, .long (lN an)), (2, .long (lN en)), (4, .int (nI pn))]) hx hb dX2_power_11 hl (by decide) rfl (fun ls hl => ?_)
  refine lpX2_power (vn := an ^ en % pn) hx hb hml hown hts hA hK hp1 hp2 ?_ (en + 1) 1 (an % pn) en (by omega) (Nat.mod_lt _ (by omega)) he (by rw [Nat.one_mul, ← Nat.pow_mod]) (by omega) s.heap [] hP hD hS ls (lv_sub hl [0, 1, 2, 5] rfl)
  intro rn hrn H locs hP hD hS ls hl
  refine lv_lload hx hb dX2_power_64 (lv_at hl 0 rfl) ?_
  exact rt_l hx hb hr hlocks (()) (by rw [hrn]) (hP.sub [] rfl) (hK.sub [] rfl) (hD.sub [] (by decide) rfl) hS dX2_power_66
set_option maxHeartbeats 4000000 in
set_option maxRecDepth 100000 in
theorem lpX2_rootOf {p : Program} {l : Launch} {e : Env} {s : State} {m : MethodId} {args : Array Value} {below : List Frame} {meth : Method} {c : Code} {Q : State → Prop} {dC : Nat → ClassId} {dI : Nat → Nat → Nat} {A : Nat → Prop} {nn pn : Nat} (hx : p.tables.exec = Jvm.exec) (hb : c.code = cX2_rootOf) (hml : c.maxLocals = 6) (hown : s.vm.findClass RX2 = some m.cls) (hts : ∀ w ∈ lw_all, w.before args s = true) (hA : ∀ q : Nat, s.heap.size ≤ q → A q) (hK : va_K (dC, dI) vwCl [] s) (hv : sp_val nn pn) (hn1 : nn ≠ 1) (hQ : ∀ (H : Heap) (locs : List Loc), va_P (dC, dI) vwCl [] H → va_D A [] → va_S A s.heap H locs → ∀ (ls : Array Slot), lv_has ls 6 [(2, .long (lN (sp_w nn pn)))] → W p l e ({ frames := 1, cells := 0, slots := 0, locals := 30 } : Room) s m args below meth c H locs 0 0 Q (F0 m 53 ls [])) :
    ∀ (fuel : Nat) (wn : Nat) (hn : Nat), (ro_inv nn pn wn hn) → sp_h nn pn + 1 - hn < fuel → ∀ (H : Heap) (locs : List Loc), va_P (dC, dI) vwCl [] H → va_D A [] → va_S A s.heap H locs → ∀ (ls : Array Slot), lv_has ls 6 [(4, .long (lN hn)), (2, .long (lN wn)), (0, .int (nI nn)), (1, .int (nI pn))] → W p l e ({ frames := 1, cells := 0, slots := 0, locals := 30 } : Room) s m args below meth c H locs 0 0 Q (F0 m 14 ls []) := by
  intro fuel
  induction fuel with
  | zero =>
    intro wn hn hin hfu
    exact absurd hfu (Nat.not_lt_zero _)
  | succ fuel ih =>
    intro wn hn hin hfu H locs hP hD hS ls hl
    have hnn := sp_val_n hv
    have hp3 := hv.2.1
    have hpm := hv.2.2.2.1
    have hdv := Nat.div_le_self (pn - 1) nn
    have hsp := sp_h_spec hv hn1
    have hwl := hin.1
    have hh2 := hin.2.1
    have hh3 := hin.2.2.1
    refine lv_lload_n hx hb dX2_rootOf_14 rfl (lv_at hl 1 rfl) ?_
    refine lv_iload_n hx hb dX2_rootOf_15 rfl (lv_at hl 2 rfl) ?_
    refine lv_iconst (v := nI 2) hx hb dX2_rootOf_16 (by decide) ?_
    refine nv_idiv (a := nn) (b := 2) hx hb dX2_rootOf_17 (by omega) (by omega) (by omega) ?_
    refine nv_i2l (a := nn / 2) hx hb dX2_rootOf_18 (by omega) ?_
    refine lv_iload_n hx hb dX2_rootOf_19 rfl (lv_at hl 3 rfl) ?_
    refine cl_l (wc := []) (wr := []) (va_runS (As := [.long (lN wn), .long (lN (nn / 2)), .int (nI pn)]) (rest := []) ⟨hx, hb, hml, hown, hts⟩ (metX2_power l dC dI H.size wn (nn / 2) pn (by omega) (by omega) (by omega) hpm) (va_cwS 3 hts (lw_S q146 q147 q6 q148) rfl rfl rfl (by decide +kernel) ⟨Nat.le_of_ble_eq_true rfl, Nat.le_of_ble_eq_true rfl⟩) (preS (wc := []) (tc := []) hK hP hD [] (by decide) rfl [] rfl) rfl rfl hl.1 rfl (lv_room (Nat.le_of_ble_eq_true rfl)) dX2_rootOf_20 ⟨Nat.le_refl _, Nat.le_refl _⟩) hP hD hS hA [] [] rfl rfl (by decide) (by decide) (fun r1 u1 H locs hw1 hP hD hK1 hS => ?_)
    have hP : va_P (dC, dI) vwCl [] H := hP
    have hD : va_D A [] := hD
    refine nv_cl (y := lN (wn ^ (nn / 2) % pn)) hw1 ?_
    have hml1 := Nat.mod_lt (wn ^ (nn / 2)) (show 0 < pn by omega)
    refine lv_iload_n hx hb dX2_rootOf_23 rfl (lv_at hl 3 rfl) ?_
    refine lv_iconst (v := nI 1) hx hb dX2_rootOf_24 (by decide) ?_
    refine nv_isub (a := pn) (b := 1) hx hb dX2_rootOf_25 (by omega) ?_
    refine nv_i2l (a := pn - 1) hx hb dX2_rootOf_26 (by omega) ?_
    refine nv_lcmp_eq (a := wn ^ (nn / 2) % pn) (b := pn - 1) (tgt := 53) hx hb dX2_rootOf_27 dX2_rootOf_28 (by decide) (by omega) (by omega) (fun hc => ?_) (fun hc => ?_)
    · rw [hin.2.2.2.1 hc] at hl
      exact hQ H locs hP hD hS ls (lv_sub hl [1] rfl)
    · have hle := hin.2.2.2.2 hc
      refine lv_lload hx hb dX2_rootOf_31 (lv_at hl 0 rfl) ?_
      refine lv_iload_n hx hb dX2_rootOf_33 rfl (lv_at hl 3 rfl) ?_
      refine lv_iconst (v := nI 1) hx hb dX2_rootOf_34 (by decide) ?_
      refine nv_isub (a := pn) (b := 1) hx hb dX2_rootOf_35 (by omega) ?_
      refine lv_iload_n hx hb dX2_rootOf_36 rfl (lv_at hl 2 rfl) ?_
      refine nv_idiv (a := pn - 1) (b := nn) hx hb dX2_rootOf_37 (by omega) (by omega) (by omega) ?_
      refine nv_i2l (a := (pn - 1) / nn) hx hb dX2_rootOf_38 (by omega) ?_
      refine lv_iload_n hx hb dX2_rootOf_39 rfl (lv_at hl 3 rfl) ?_
      refine cl_l (wc := []) (wr := []) (va_runS (As := [.long (lN hn), .long (lN ((pn - 1) / nn)), .int (nI pn)]) (rest := []) ⟨hx, hb, hml, hown, hts⟩ (metX2_power l dC dI H.size hn ((pn - 1) / nn) pn (by omega) (by omega) (by omega) hpm) (va_cwS 3 hts (lw_S q146 q147 q6 q148) rfl rfl rfl (by decide +kernel) ⟨Nat.le_of_ble_eq_true rfl, Nat.le_of_ble_eq_true rfl⟩) (preS (wc := []) (tc := []) hK hP hD [] (by decide) rfl [] rfl) rfl rfl hl.1 rfl (lv_room (Nat.le_of_ble_eq_true rfl)) dX2_rootOf_40 ⟨Nat.le_refl _, Nat.le_refl _⟩) hP hD hS hA [] [] rfl rfl (by decide) (by decide) (fun r2 u2 H locs hw2 hP hD hK1 hS => ?_)
      have hP : va_P (dC, dI) vwCl [] H := hP
      have hD : va_D A [] := hD
      refine nv_cl (y := lN (hn ^ ((pn - 1) / nn) % pn)) hw2 ?_
      refine lv_lstore_n (lv' := [(2, .long (lN (hn ^ ((pn - 1) / nn) % pn))), (4, .long (lN hn)), (0, .int (nI nn)), (1, .int (nI pn))]) hx hb dX2_rootOf_43 rfl hl (by decide) rfl (fun ls hl => ?_)
      refine lv_lload hx hb dX2_rootOf_44 (lv_at hl 1 rfl) ?_
      refine lv_lconst (v := lN 1) hx hb dX2_rootOf_46 rfl ?_
      refine nv_ladd (a := hn) (b := 1) hx hb dX2_rootOf_47  ?_
      refine lv_lstore (lv' := [(4, .long (lN (hn + 1))), (2, .long (lN (hn ^ ((pn - 1) / nn) % pn))), (0, .int (nI nn)), (1, .int (nI pn))]) hx hb dX2_rootOf_48 hl (by decide) rfl (fun ls hl => ?_)
      refine lv_goto (tgt := 14) hx hb dX2_rootOf_50 (by decide) ?_
      exact ih _ (hn + 1) (ro_s hv hn1 hin hc) (by omega) H locs hP hD hS ls (lv_sub hl [0, 1, 2, 3] rfl)
set_option maxHeartbeats 4000000 in
set_option maxRecDepth 100000 in
/-- the reference: rootOf(n, p) -/
theorem metX2_rootOf (l : Launch) (dC : Nat → ClassId) (dI : Nat → Nat → Nat) (sz : Nat) (nn pn : Nat) (hv : sp_val nn pn) : Met l yX2_rootOf (ws_ yX2_rootOf cX2_rootOf 6 (some .long)) ({ frames := 1, cells := 0, slots := 0, locals := 30 }) (pcW [.int (nI nn), .int (nI pn)] sz dC dI [] []) (va_Ql (fun (r : Int64) (u : Unit) => r = lN (sp_w nn pn)) (bw dC dI (va_A [] sz) (fun u => []) (fun u => [])) (va_A [] sz)) 0 0 (va_A [] sz) := by
  refine Met.ofW (cc := cX2_rootOf) (maxL := 6) (ret := (some .long)) (by decide) rfl ?_
  intro p e s m args below meth c s₁ B hml hv
  obtain ⟨rfl, hsz, hP, hK, hD0⟩ := hv
  have hx := B.exec
  have hb := B.bytes
  have hr := B.returns
  have hts := atoms_spec (ws := ws_ yX2_rootOf cX2_rootOf 6 (some .long)) B.pre
  have hts : ∀ w ∈ lw_all, w.before _ s = true := fun w h => hts w (List.mem_cons_of_mem _ h)
  have hown : s.vm.findClass RX2 = some m.cls := findClass_of_methodNamed B.named
  have hlocks := B.notSynchronized
  subst hsz
  have hD := hD0.self (sz := s.heap.size)
  generalize hAe : va_A [] s.heap.size = A at hD ⊢
  have hA : ∀ q : Nat, s.heap.size ≤ q → A q := fun q h => by rw [← hAe]; exact Or.inr h
  have hS : va_S A s.heap s.heap [] := va_S.rf
  have hP : va_P (dC, dI) vwCl [] s.heap := hP
  have hl := lv_entry ([.int (nI nn), .int (nI pn)]) (n := 6) (Nat.le_of_ble_eq_true rfl)
  rw [lg_entry_eq]
  generalize (lg_sl ([.int (nI nn), .int (nI pn)]) ++ List.replicate (6 - (lg_sl ([.int (nI nn), .int (nI pn)])).length) Slot.unset).toArray = ls at hl ⊢
  have hl : lv_has ls 6 [(0, .int (nI nn)), (1, .int (nI pn))] := hl
  have hnn := sp_val_n hv
  have hp3 := hv.2.1
  have hpm := hv.2.2.2.1
  have hdv := Nat.div_le_self (pn - 1) nn
  refine lv_iload_n hx hb dX2_rootOf_0 rfl (lv_at hl 0 rfl) ?_
  refine lv_iconst (v := nI 1) hx hb dX2_rootOf_1 (by decide) ?_
  refine nv_icmp_ne (a := nn) (b := 1) (tgt := 7) hx hb dX2_rootOf_2 (by decide) (by omega) (by omega) (fun hc => ?_) (fun hc => ?_)
  · refine lv_lconst (v := lN 1) hx hb dX2_rootOf_7 rfl ?_
    refine lv_lstore_n (lv' := [(2, .long (lN 1)), (0, .int (nI nn)), (1, .int (nI pn))]) hx hb dX2_rootOf_8 rfl hl (by decide) rfl (fun ls hl => ?_)
    refine lv_ldc2 hx hb hown (hts _ q145) dX2_rootOf_9 ?_
    refine nv_cl (y := lN 2) rfl ?_
    refine lv_lstore (lv' := [(4, .long (lN 2)), (2, .long (lN 1)), (0, .int (nI nn)), (1, .int (nI pn))]) hx hb dX2_rootOf_12 hl (by decide) rfl (fun ls hl => ?_)
    refine lpX2_rootOf hx hb hml hown hts hA hK hv hc ?_ (sp_h nn pn + 1) 1 2 (ro_0 hv hc) (by omega) s.heap [] hP hD hS ls (lv_sub hl [0, 1, 2, 3] rfl)
    intro H locs hP hD hS ls hl
    refine lv_lload_n hx hb dX2_rootOf_53 rfl (lv_at hl 0 rfl) ?_
    exact rt_l hx hb hr hlocks (()) rfl (hP.sub [] rfl) (hK.sub [] rfl) (hD.sub [] (by decide) rfl) hS dX2_rootOf_54
  · refine lv_lconst (v := lN 1) hx hb dX2_rootOf_5 rfl ?_
    exact rt_l hx hb hr hlocks (()) (by rw [hc, sp_w_1]) (hP.sub [] rfl) (hK.sub [] rfl) (hD.sub [] (by decide) rfl) hS dX2_rootOf_6
set_option maxHeartbeats 4000000 in
set_option maxRecDepth 100000 in
/-- the reference: root(n, p) -/
theorem metX2_root (l : Launch) (dC : Nat → ClassId) (dI : Nat → Nat → Nat) (sz : Nat) (h0 b1 b2 b3 : Nat) (ks n q : Int32)  : Met l yX2_root (ws_ yX2_root cX2_root 3 (some .long)) ({ frames := 2, cells := 0, slots := 0, locals := 55 }) (pcW [.ref h0, .int n, .int q] sz dC dI [(h0, .inr (2, [.ref b1, .ref b2, .ref b3, .int ks]))] []) (va_Ql (fun (r : Int64) (u : Unit) => r = sp_root n q) (bw dC dI (va_A [(h0, .inr (2, [.ref b1, .ref b2, .ref b3, .int ks]))] sz) (fun u => [(h0, .inr (2, [.ref b1, .ref b2, .ref b3, .int ks]))]) (fun u => [])) (va_A [(h0, .inr (2, [.ref b1, .ref b2, .ref b3, .int ks]))] sz)) 0 0 (va_A [(h0, .inr (2, [.ref b1, .ref b2, .ref b3, .int ks]))] sz) := by
  refine Met.ofW (cc := cX2_root) (maxL := 3) (ret := (some .long)) (by decide) rfl ?_
  intro p e s m args below meth c s₁ B hml hv
  obtain ⟨rfl, hsz, hP, hK, hD0⟩ := hv
  have hx := B.exec
  have hb := B.bytes
  have hr := B.returns
  have hts := atoms_spec (ws := ws_ yX2_root cX2_root 3 (some .long)) B.pre
  have hts : ∀ w ∈ lw_all, w.before _ s = true := fun w h => hts w (List.mem_cons_of_mem _ h)
  have hown : s.vm.findClass RX2 = some m.cls := findClass_of_methodNamed B.named
  have hlocks := B.notSynchronized
  subst hsz
  have hD := hD0.self (sz := s.heap.size)
  generalize hAe : va_A [(h0, .inr (2, [.ref b1, .ref b2, .ref b3, .int ks]))] s.heap.size = A at hD ⊢
  have hA : ∀ q : Nat, s.heap.size ≤ q → A q := fun q h => by rw [← hAe]; exact Or.inr h
  have hS : va_S A s.heap s.heap [] := va_S.rf
  have hP : va_P (dC, dI) vwCl [(h0, .inr (2, [.ref b1, .ref b2, .ref b3, .int ks]))] s.heap := hP
  have hl := lv_entry ([.ref h0, .int n, .int q]) (n := 3) (Nat.le_of_ble_eq_true rfl)
  rw [lg_entry_eq]
  generalize (lg_sl ([.ref h0, .int n, .int q]) ++ List.replicate (3 - (lg_sl ([.ref h0, .int n, .int q])).length) Slot.unset).toArray = ls at hl ⊢
  have hl : lv_has ls 3 [(0, .ref h0), (1, .int n), (2, .int q)] := hl
  refine lv_iload_n hx hb dX2_root_0 rfl (lv_at hl 1 rfl) ?_
  refine lv_iload_n hx hb dX2_root_1 rfl (lv_at hl 2 rfl) ?_
  refine cl_i (wc := []) (wr := [(h0, .inr (2, [.ref b1, .ref b2, .ref b3, .int ks]))]) (va_runS (As := [.int n, .int q]) (rest := []) ⟨hx, hb, hml, hown, hts⟩ (metX2_refused l dC dI s.heap.size n q) (va_cwS 2 hts (lw_S q135 q136 q6 q137) rfl rfl rfl (by decide +kernel) ⟨Nat.le_of_ble_eq_true rfl, Nat.le_of_ble_eq_true rfl⟩) (preS (wc := []) (tc := []) hK hP hD [] (by decide) rfl [] rfl) rfl rfl hl.1 rfl (lv_room (Nat.le_of_ble_eq_true rfl)) dX2_root_2 ⟨Nat.le_refl _, Nat.le_refl _⟩) hP hD hS hA [] [0] rfl rfl (by decide) (by decide) (fun r1 u1 H locs hw1 hP hD hK1 hS => ?_)
  have hP : va_P (dC, dI) vwCl [(h0, .inr (2, [.ref b1, .ref b2, .ref b3, .int ks]))] H := hP
  have hD : va_D A [(h0, .inr (2, [.ref b1, .ref b2, .ref b3, .int ks]))] := hD
  have hw1 : r1 = sp_rfz n q := hw1
  subst hw1
  refine lv_if_ge (tgt := 12) hx hb dX2_root_5 (by decide) (fun hc => ?_) (fun hc => ?_)
  · have hz := rf_z hc
    obtain ⟨mm, pn, hm, rfl, rfl, hv⟩ := rf_val hz
    have hpm := hv.2.2.2.1
    refine lv_iload_n hx hb dX2_root_12 rfl (lv_at hl 1 rfl) ?_
    refine lv_iload_n hx hb dX2_root_13 rfl (lv_at hl 2 rfl) ?_
    refine cl_l (wc := []) (wr := [(h0, .inr (2, [.ref b1, .ref b2, .ref b3, .int ks]))]) (va_runS (As := [.int (nI (2 ^ mm)), .int (nI pn)]) (rest := []) ⟨hx, hb, hml, hown, hts⟩ (metX2_rootOf l dC dI H.size (2 ^ mm) pn hv) (va_cwS 2 hts (lw_S q142 q143 q6 q144) rfl rfl rfl (by decide +kernel) ⟨Nat.le_of_ble_eq_true rfl, Nat.le_of_ble_eq_true rfl⟩) (preS (wc := []) (tc := []) hK hP hD [] (by decide) rfl [] rfl) rfl rfl hl.1 rfl (lv_room (Nat.le_of_ble_eq_true rfl)) dX2_root_14 ⟨Nat.le_refl _, Nat.le_refl _⟩) hP hD hS hA [] [0] rfl rfl (by decide) (by decide) (fun r2 u2 H locs hw2 hP hD hK1 hS => ?_)
    have hP : va_P (dC, dI) vwCl [(h0, .inr (2, [.ref b1, .ref b2, .ref b3, .int ks]))] H := hP
    have hD : va_D A [(h0, .inr (2, [.ref b1, .ref b2, .ref b3, .int ks]))] := hD
    exact rt_l hx hb hr hlocks (()) (by rw [sp_root_g hm hpm hz]; exact hw2) (hP.sub [0] rfl) (hK.sub [] rfl) (hD.sub [0] (by decide) rfl) hS dX2_root_17
  · refine lv_lconst (v := lN 0) hx hb dX2_root_8 rfl ?_
    refine lv_goto (tgt := 17) hx hb dX2_root_9 (by decide) ?_
    exact rt_l hx hb hr hlocks (()) ((sp_root_b (rf_m hc)).symm) (hP.sub [0] rfl) (hK.sub [] rfl) (hD.sub [0] (by decide) rfl) hS dX2_root_17
end
section
set_option maxHeartbeats 4000000 in
set_option maxRecDepth 100000 in
theorem lpX2_trA {p : Program} {l : Launch} {e : Env} {s : State} {m : MethodId} {args : Array Value} {below : List Frame} {meth : Method} {c : Code} {Q : State → Prop} {dC : Nat → ClassId} {dI : Nat → Nat → Nat} {A : Nat → Prop} {h0 b1 b2 b3 : Nat} {ks : Int32} {d1 d3 : ClassId} {mm pn : Nat} {bk : Int32} {wv : Nat} {fr : Nat → Int64} (hx : p.tables.exec = Jvm.exec) (hb : c.code = cX2_transform) (hml : c.maxLocals = 17) (hown : s.vm.findClass RX2 = some m.cls) (hts : ∀ w ∈ lw_all, w.before args s = true) (hA : ∀ q : Nat, s.heap.size ≤ q → A q) (hK : va_K (dC, dI) vwCl [(d1, .long), (d3, .long)] s) (hm : mm ≤ 10) (hp0 : 0 < pn) (hpm : pn ≤ 1000000007) (hQ : ∀ (fw : Nat → Int64), (∀ k, k < 2 ^ mm → fw k = lN (sp_res (fr k) pn)) → ∀ (H : Heap) (locs : List Loc), va_P (dC, dI) vwCl [(h0, .inr (2, [.ref b1, .ref b2, .ref b3, .int ks])), (b1, .inl (d1, 1024, .inr (.inl fr))), (b3, .inl (d3, 1024, .inr (.inl fw)))] H → va_D A [(h0, .inr (2, [.ref b1, .ref b2, .ref b3, .int ks])), (b1, .inl (d1, 1024, .inr (.inl fr))), (b3, .inl (d3, 1024, .inr (.inl fw)))] → va_S A s.heap H locs → ∀ (ls : Array Slot), lv_has ls 17 [(5, .long (lN wv)), (0, .ref h0), (1, .int (nI (2 ^ mm))), (2, .int (nI pn)), (3, .int bk)] → W p l e ({ frames := 2, cells := 0, slots := 0, locals := 55 } : Room) s m args below meth c H locs 0 0 Q (F0 m 71 ls [])) :
    ∀ (fuel : Nat) (i : Nat) (fw : Nat → Int64), (i ≤ 2 ^ mm) → (fw = sp_fill (fun k => lN (sp_res (fr k) pn)) fw i) → 2 ^ mm - i < fuel → ∀ (H : Heap) (locs : List Loc), va_P (dC, dI) vwCl [(h0, .inr (2, [.ref b1, .ref b2, .ref b3, .int ks])), (b1, .inl (d1, 1024, .inr (.inl fr))), (b3, .inl (d3, 1024, .inr (.inl fw)))] H → va_D A [(h0, .inr (2, [.ref b1, .ref b2, .ref b3, .int ks])), (b1, .inl (d1, 1024, .inr (.inl fr))), (b3, .inl (d3, 1024, .inr (.inl fw)))] → va_S A s.heap H locs → ∀ (ls : Array Slot), lv_has ls 17 [(7, .int (nI i)), (5, .long (lN wv)), (0, .ref h0), (1, .int (nI (2 ^ mm))), (2, .int (nI pn)), (3, .int bk)] → W p l e ({ frames := 2, cells := 0, slots := 0, locals := 55 } : Room) s m args below meth c H locs 0 0 Q (F0 m 41 ls []) := by
  intro fuel
  induction fuel with
  | zero =>
    intro i fw hi hfw hfu
    exact absurd hfu (Nat.not_lt_zero _)
  | succ fuel ih =>
    intro i fw hi hfw hfu H locs hP hD hS ls hl
    have hle := p2_le hm
    refine lv_iload hx hb dX2_transform_41 (lv_at hl 0 rfl) ?_
    refine lv_iload_n hx hb dX2_transform_43 rfl (lv_at hl 3 rfl) ?_
    refine nv_icmp_ge (a := i) (b := 2 ^ mm) (tgt := 71) hx hb dX2_transform_44 (by decide) (by omega) (by omega) (fun hc => ?_) (fun hc => ?_)
    · obtain rfl : i = 2 ^ mm := by omega
      exact hQ fw (fun k hk => by rw [hfw]; exact if_pos hk) H locs hP hD hS ls (lv_sub hl [1, 2, 3, 4, 5] rfl)
    · refine lv_aload_n hx hb dX2_transform_47 rfl (lv_at hl 2 rfl) ?_
      refine va_get (D := (dC, dI)) (ci := 2) (v := .ref b3) (C := RX2) (T := TX2) (N := 4) hx hb hts in_X2 hown hK hP 0 rfl rfl 2 (by decide) (hts _ q112) (fun _ h9 => h9) rfl dX2_transform_48 ?_
      refine lv_iload hx hb dX2_transform_51 (lv_at hl 0 rfl) ?_
      refine lv_aload_n hx hb dX2_transform_53 rfl (lv_at hl 2 rfl) ?_
      refine va_get (D := (dC, dI)) (ci := 2) (v := .ref b1) (C := RX2) (T := TX2) (N := 4) hx hb hts in_X2 hown hK hP 0 rfl rfl 0 (by decide) (hts _ q110) (fun _ h9 => h9) rfl dX2_transform_54 ?_
      refine lv_iload hx hb dX2_transform_57 (lv_at hl 0 rfl) ?_
      refine nv_lald (i := i) hx hb hK hP 1 0 rfl rfl (by omega) (by decide) dX2_transform_59 ?_
      refine lv_iload_n hx hb dX2_transform_60 rfl (lv_at hl 4 rfl) ?_
      refine cl_l (wc := []) (wr := [(h0, .inr (2, [.ref b1, .ref b2, .ref b3, .int ks])), (b1, .inl (d1, 1024, .inr (.inl fr))), (b3, .inl (d3, 1024, .inr (.inl fw)))]) (va_runS (As := [.long (fr i), .int (nI pn)]) (rest := [.int (nI i), .ref b3]) ⟨hx, hb, hml, hown, hts⟩ (metX2_rest l dC dI H.size (fr i) pn hp0 hpm) (va_cwS 2 hts (lw_S q153 q154 q6 q155) rfl rfl rfl (by decide +kernel) ⟨Nat.le_of_ble_eq_true rfl, Nat.le_of_ble_eq_true rfl⟩) (preS (wc := []) (tc := []) hK hP hD [] (by decide) rfl [] rfl) rfl rfl hl.1 rfl (lv_room (Nat.le_of_ble_eq_true rfl)) dX2_transform_61 ⟨Nat.le_refl _, Nat.le_refl _⟩) hP hD hS hA [] [0, 1, 2] rfl rfl (by decide) (by decide) (fun r1 u1 H locs hw1 hP hD hK1 hS => ?_)
      have hP : va_P (dC, dI) vwCl [(h0, .inr (2, [.ref b1, .ref b2, .ref b3, .int ks])), (b1, .inl (d1, 1024, .inr (.inl fr))), (b3, .inl (d3, 1024, .inr (.inl fw)))] H := hP
      have hD : va_D A [(h0, .inr (2, [.ref b1, .ref b2, .ref b3, .int ks])), (b1, .inl (d1, 1024, .inr (.inl fr))), (b3, .inl (d3, 1024, .inr (.inl fw)))] := hD
      refine nv_cl (y := lN (sp_res (fr i) pn)) hw1 ?_
      refine nv_last (i := i) hx hb hK hP hD hS 2 1 rfl rfl (by omega) (by decide) dX2_transform_64 (fun H locs hP hD hS => ?_)
      have hP : va_P (dC, dI) vwCl [(h0, .inr (2, [.ref b1, .ref b2, .ref b3, .int ks])), (b1, .inl (d1, 1024, .inr (.inl fr))), (b3, .inl (d3, 1024, .inr (.inl (vp_updL fw i (lN (sp_res (fr i) pn))))))] H := hP
      have hD : va_D A [(h0, .inr (2, [.ref b1, .ref b2, .ref b3, .int ks])), (b1, .inl (d1, 1024, .inr (.inl fr))), (b3, .inl (d3, 1024, .inr (.inl (vp_updL fw i (lN (sp_res (fr i) pn))))))] := hD
      refine lv_iinc (v := nI (i + 1)) (lv' := [(7, .int (nI (i + 1))), (5, .long (lN wv)), (0, .ref h0), (1, .int (nI (2 ^ mm))), (2, .int (nI pn)), (3, .int bk)]) hx hb dX2_transform_65 hl (k := 0) rfl (nI_add _ 1) (by decide) rfl (fun ls hl => ?_)
      refine lv_goto (tgt := 41) hx hb dX2_transform_68 (by decide) ?_
      exact ih (i + 1) _ hc (by
        funext k
        unfold sp_fill
        by_cases e : k = i
        · subst e
          rw [pk_uLs, if_pos (Nat.lt_succ_self k)]
        · rw [pk_uLn e]
          by_cases q : k < i
          · rw [if_pos (by omega), hfw]
            exact if_pos q
          · rw [if_neg (by omega)]) (by omega) H locs hP hD hS ls (lv_sub hl [0, 1, 2, 3, 4, 5] rfl)
set_option maxHeartbeats 4000000 in
set_option maxRecDepth 100000 in
theorem lpX2_trI {p : Program} {l : Launch} {e : Env} {R : Room} {s : State} {m : MethodId} {args : Array Value} {below : List Frame} {meth : Method} {c : Code} {Q : State → Prop} {cells slots : Nat} {dC : Nat → ClassId} {dI : Nat → Nat → Nat} {A : Nat → Prop} {h0 b1 b2 b3 : Nat} {ks : Int32} {d1 d3 : ClassId} {mm pn : Nat} {bk : Int32} {wv iv kn : Nat} {fw fr : Nat → Int64} {x : Nat → Nat} (hx : p.tables.exec = Jvm.exec) (hb : c.code = cX2_transform) (hml : c.maxLocals = 17) (hown : s.vm.findClass RX2 = some m.cls) (hts : ∀ w ∈ lw_all, w.before args s = true) (hA : ∀ q : Nat, s.heap.size ≤ q → A q) (hK : va_K (dC, dI) vwCl [(d1, .long), (d3, .long)] s) (hm : mm ≤ 10) (hp1 : 2 ≤ pn) (hpm : pn ≤ 1000000007) (hwv : wv < pn) (hiv : iv < pn) (hx1 : ∀ j, j < 2 ^ mm → fw j = lN (x j) ∧ x j < pn) (hQ : ∀ (H : Heap) (locs : List Loc), va_P (dC, dI) vwCl [(h0, .inr (2, [.ref b1, .ref b2, .ref b3, .int ks])), (b1, .inl (d1, 1024, .inr (.inl fr))), (b3, .inl (d3, 1024, .inr (.inl fw)))] H → va_D A [(h0, .inr (2, [.ref b1, .ref b2, .ref b3, .int ks])), (b1, .inl (d1, 1024, .inr (.inl fr))), (b3, .inl (d3, 1024, .inr (.inl fw)))] → va_S A s.heap H locs → ∀ (ls : Array Slot), lv_has ls 17 [(12, .long (lN (sp_S x wv kn (2 ^ mm) % pn))), (9, .long (lN (wv ^ kn % pn))), (11, .int (nI kn)), (7, .long (lN iv)), (5, .long (lN wv)), (0, .ref h0), (1, .int (nI (2 ^ mm))), (2, .int (nI pn))] → W p l e R s m args below meth c H locs cells slots Q (F0 m 152 ls [])) :
    ∀ (fuel : Nat) (j : Nat), (j ≤ 2 ^ mm) → 2 ^ mm - j < fuel → ∀ (H : Heap) (locs : List Loc), va_P (dC, dI) vwCl [(h0, .inr (2, [.ref b1, .ref b2, .ref b3, .int ks])), (b1, .inl (d1, 1024, .inr (.inl fr))), (b3, .inl (d3, 1024, .inr (.inl fw)))] H → va_D A [(h0, .inr (2, [.ref b1, .ref b2, .ref b3, .int ks])), (b1, .inl (d1, 1024, .inr (.inl fr))), (b3, .inl (d3, 1024, .inr (.inl fw)))] → va_S A s.heap H locs → ∀ (ls : Array Slot), lv_has ls 17 [(16, .int (nI j)), (14, .long (lN (wv ^ (j * kn) % pn))), (12, .long (lN (sp_S x wv kn j % pn))), (9, .long (lN (wv ^ kn % pn))), (11, .int (nI kn)), (7, .long (lN iv)), (5, .long (lN wv)), (0, .ref h0), (1, .int (nI (2 ^ mm))), (2, .int (nI pn))] → W p l e R s m args below meth c H locs cells slots Q (F0 m 112 ls []) := by
  intro fuel
  induction fuel with
  | zero =>
    intro j hj hfu
    exact absurd hfu (Nat.not_lt_zero _)
  | succ fuel ih =>
    intro j hj hfu H locs hP hD hS ls hl
    have hle := p2_le hm
    refine lv_iload hx hb dX2_transform_112 (lv_at hl 0 rfl) ?_
    refine lv_iload_n hx hb dX2_transform_114 rfl (lv_at hl 8 rfl) ?_
    refine nv_icmp_ge (a := j) (b := 2 ^ mm) (tgt := 152) hx hb dX2_transform_115 (by decide) (by omega) (by omega) (fun hc => ?_) (fun hc => ?_)
    · obtain rfl : j = 2 ^ mm := by omega
      exact hQ H locs hP hD hS ls (lv_sub hl [2, 3, 4, 5, 6, 7, 8, 9] rfl)
    · obtain ⟨hj1, hj2⟩ := hx1 j hc
      have hb1 := Nat.mod_lt (wv ^ (j * kn)) (show 0 < pn by omega)
      have hb2 := Nat.mod_lt (wv ^ kn) (show 0 < pn by omega)
      have hb3 := Nat.mod_lt (sp_S x wv kn j) (show 0 < pn by omega)
      have hm1 := sp_m62 (a := x j) (b := wv ^ (j * kn) % pn) (by omega) (by omega)
      have hm2 := sp_m62 (a := wv ^ (j * kn) % pn) (b := wv ^ kn % pn) (by omega) (by omega)
      refine lv_lload hx hb dX2_transform_118 (lv_at hl 2 rfl) ?_
      refine lv_aload_n hx hb dX2_transform_120 rfl (lv_at hl 7 rfl) ?_
      refine va_get (D := (dC, dI)) (ci := 2) (v := .ref b3) (C := RX2) (T := TX2) (N := 4) hx hb hts in_X2 hown hK hP 0 rfl rfl 2 (by decide) (hts _ q112) (fun _ h9 => h9) rfl dX2_transform_121 ?_
      refine lv_iload hx hb dX2_transform_124 (lv_at hl 0 rfl) ?_
      refine nv_lald (i := j) hx hb hK hP 2 1 rfl rfl (by omega) (by decide) dX2_transform_126 ?_
      refine nv_cl (y := lN (x j)) hj1 ?_
      refine lv_lload hx hb dX2_transform_127 (lv_at hl 1 rfl) ?_
      refine nv_lmul (a := x j) (b := wv ^ (j * kn) % pn) hx hb dX2_transform_129  ?_
      refine nv_ladd (a := sp_S x wv kn j % pn) (b := (x j) * (wv ^ (j * kn) % pn)) hx hb dX2_transform_130  ?_
      refine lv_iload_n hx hb dX2_transform_131 rfl (lv_at hl 9 rfl) ?_
      refine nv_i2l (a := pn) hx hb dX2_transform_132 (by omega) ?_
      refine nv_lrem (a := (sp_S x wv kn j % pn) + ((x j) * (wv ^ (j * kn) % pn))) (b := pn) hx hb dX2_transform_133 (by omega) (by omega) (by omega) ?_
      refine nv_cl (y := lN (sp_S x wv kn (j + 1) % pn)) (congrArg lN (show ((sp_S x wv kn j % pn) + ((x j) * (wv ^ (j * kn) % pn))) % pn = sp_S x wv kn (j + 1) % pn from sm_s)) ?_
      refine lv_lstore (lv' := [(12, .long (lN (sp_S x wv kn (j + 1) % pn))), (16, .int (nI j)), (14, .long (lN (wv ^ (j * kn) % pn))), (9, .long (lN (wv ^ kn % pn))), (11, .int (nI kn)), (7, .long (lN iv)), (5, .long (lN wv)), (0, .ref h0), (1, .int (nI (2 ^ mm))), (2, .int (nI pn))]) hx hb dX2_transform_134 hl (by decide) rfl (fun ls hl => ?_)
      refine lv_lload hx hb dX2_transform_136 (lv_at hl 2 rfl) ?_
      refine lv_lload hx hb dX2_transform_138 (lv_at hl 3 rfl) ?_
      refine nv_lmul (a := wv ^ (j * kn) % pn) (b := wv ^ kn % pn) hx hb dX2_transform_140  ?_
      refine lv_iload_n hx hb dX2_transform_141 rfl (lv_at hl 9 rfl) ?_
      refine nv_i2l (a := pn) hx hb dX2_transform_142 (by omega) ?_
      refine nv_lrem (a := (wv ^ (j * kn) % pn) * (wv ^ kn % pn)) (b := pn) hx hb dX2_transform_143 (by omega) (by omega) (by omega) ?_
      refine nv_cl (y := lN (wv ^ ((j + 1) * kn) % pn)) (congrArg lN (show ((wv ^ (j * kn) % pn) * (wv ^ kn % pn)) % pn = wv ^ ((j + 1) * kn) % pn from (by_s))) ?_
      refine lv_lstore (lv' := [(14, .long (lN (wv ^ ((j + 1) * kn) % pn))), (12, .long (lN (sp_S x wv kn (j + 1) % pn))), (16, .int (nI j)), (9, .long (lN (wv ^ kn % pn))), (11, .int (nI kn)), (7, .long (lN iv)), (5, .long (lN wv)), (0, .ref h0), (1, .int (nI (2 ^ mm))), (2, .int (nI pn))]) hx hb dX2_transform_144 hl (by decide) rfl (fun ls hl => ?_)
      refine lv_iinc (v := nI (j + 1)) (lv' := [(16, .int (nI (j + 1))), (14, .long (lN (wv ^ ((j + 1) * kn) % pn))), (12, .long (lN (sp_S x wv kn (j + 1) % pn))), (9, .long (lN (wv ^ kn % pn))), (11, .int (nI kn)), (7, .long (lN iv)), (5, .long (lN wv)), (0, .ref h0), (1, .int (nI (2 ^ mm))), (2, .int (nI pn))]) hx hb dX2_transform_146 hl (k := 2) rfl (nI_add _ 1) (by decide) rfl (fun ls hl => ?_)
      refine lv_goto (tgt := 112) hx hb dX2_transform_149 (by decide) ?_
      exact ih (j + 1) hc (by omega) H locs hP hD hS ls (lv_sub hl [0, 1, 2, 3, 4, 5, 6, 7, 8, 9] rfl)
set_option maxHeartbeats 4000000 in
set_option maxRecDepth 100000 in
theorem lpX2_trB {p : Program} {l : Launch} {e : Env} {R : Room} {s : State} {m : MethodId} {args : Array Value} {below : List Frame} {meth : Method} {c : Code} {Q : State → Prop} {cells slots : Nat} {dC : Nat → ClassId} {dI : Nat → Nat → Nat} {A : Nat → Prop} {h0 b1 b2 b3 : Nat} {ks : Int32} {d1 d3 : ClassId} {mm pn : Nat} {bk : Int32} {wv iv : Nat} {fw fr : Nat → Int64} {x : Nat → Nat} (hx : p.tables.exec = Jvm.exec) (hb : c.code = cX2_transform) (hml : c.maxLocals = 17) (hown : s.vm.findClass RX2 = some m.cls) (hts : ∀ w ∈ lw_all, w.before args s = true) (hA : ∀ q : Nat, s.heap.size ≤ q → A q) (hK : va_K (dC, dI) vwCl [(d1, .long), (d3, .long)] s) (hm : mm ≤ 10) (hp1 : 2 ≤ pn) (hpm : pn ≤ 1000000007) (hwv : wv < pn) (hiv : iv < pn) (hx1 : ∀ j, j < 2 ^ mm → fw j = lN (x j) ∧ x j < pn) (hQ : ∀ (H : Heap) (locs : List Loc), va_P (dC, dI) vwCl [(h0, .inr (2, [.ref b1, .ref b2, .ref b3, .int ks])), (b1, .inl (d1, 1024, .inr (.inl (sp_fill (fun k => lN (sp_S x wv k (2 ^ mm) % pn * iv % pn)) fr (2 ^ mm))))), (b3, .inl (d3, 1024, .inr (.inl fw)))] H → va_D A [(h0, .inr (2, [.ref b1, .ref b2, .ref b3, .int ks])), (b1, .inl (d1, 1024, .inr (.inl (sp_fill (fun k => lN (sp_S x wv k (2 ^ mm) % pn * iv % pn)) fr (2 ^ mm))))), (b3, .inl (d3, 1024, .inr (.inl fw)))] → va_S A s.heap H locs → ∀ (ls : Array Slot), lv_has ls 17 [] → W p l e R s m args below meth c H locs cells slots Q (F0 m 183 ls [])) :
    ∀ (fuel : Nat) (i : Nat), (i ≤ 2 ^ mm) → 2 ^ mm - i < fuel → ∀ (H : Heap) (locs : List Loc), va_P (dC, dI) vwCl [(h0, .inr (2, [.ref b1, .ref b2, .ref b3, .int ks])), (b1, .inl (d1, 1024, .inr (.inl (sp_fill (fun k => lN (sp_S x wv k (2 ^ mm) % pn * iv % pn)) fr i)))), (b3, .inl (d3, 1024, .inr (.inl fw)))] H → va_D A [(h0, .inr (2, [.ref b1, .ref b2, .ref b3, .int ks])), (b1, .inl (d1, 1024, .inr (.inl (sp_fill (fun k => lN (sp_S x wv k (2 ^ mm) % pn * iv % pn)) fr i)))), (b3, .inl (d3, 1024, .inr (.inl fw)))] → va_S A s.heap H locs → ∀ (ls : Array Slot), lv_has ls 17 [(11, .int (nI i)), (9, .long (lN (wv ^ i % pn))), (7, .long (lN iv)), (5, .long (lN wv)), (0, .ref h0), (1, .int (nI (2 ^ mm))), (2, .int (nI pn))] → W p l e R s m args below meth c H locs cells slots Q (F0 m 97 ls []) := by
  intro fuel
  induction fuel with
  | zero =>
    intro i hi hfu
    exact absurd hfu (Nat.not_lt_zero _)
  | succ fuel ih =>
    intro i hi hfu H locs hP hD hS ls hl
    have hle := p2_le hm
    refine lv_iload hx hb dX2_transform_97 (lv_at hl 0 rfl) ?_
    refine lv_iload_n hx hb dX2_transform_99 rfl (lv_at hl 5 rfl) ?_
    refine nv_icmp_ge (a := i) (b := 2 ^ mm) (tgt := 183) hx hb dX2_transform_100 (by decide) (by omega) (by omega) (fun hc => ?_) (fun hc => ?_)
    · obtain rfl : i = 2 ^ mm := by omega
      exact hQ H locs hP hD hS ls (lv_sub hl [] rfl)
    · refine lv_lconst (v := lN 0) hx hb dX2_transform_103 rfl ?_
      refine lv_lstore (lv' := [(12, .long (lN 0)), (11, .int (nI i)), (9, .long (lN (wv ^ i % pn))), (7, .long (lN iv)), (5, .long (lN wv)), (0, .ref h0), (1, .int (nI (2 ^ mm))), (2, .int (nI pn))]) hx hb dX2_transform_104 hl (by decide) rfl (fun ls hl => ?_)
      refine lv_lconst (v := lN 1) hx hb dX2_transform_106 rfl ?_
      refine lv_lstore (lv' := [(14, .long (lN 1)), (12, .long (lN 0)), (11, .int (nI i)), (9, .long (lN (wv ^ i % pn))), (7, .long (lN iv)), (5, .long (lN wv)), (0, .ref h0), (1, .int (nI (2 ^ mm))), (2, .int (nI pn))]) hx hb dX2_transform_107 hl (by decide) rfl (fun ls hl => ?_)
      refine lv_iconst (v := nI 0) hx hb dX2_transform_109 (by decide) ?_
      refine lv_istore (lv' := [(16, .int (nI 0)), (14, .long (lN 1)), (12, .long (lN 0)), (11, .int (nI i)), (9, .long (lN (wv ^ i % pn))), (7, .long (lN iv)), (5, .long (lN wv)), (0, .ref h0), (1, .int (nI (2 ^ mm))), (2, .int (nI pn))]) hx hb dX2_transform_110 hl (by decide) rfl (fun ls hl => ?_)
      refine lpX2_trI (kn := i) (fr := sp_fill (fun k => lN (sp_S x wv k (2 ^ mm) % pn * iv % pn)) fr i) (bk := bk) hx hb hml hown hts hA hK hm hp1 hpm hwv hiv hx1 ?_ (2 ^ mm + 1) 0 (Nat.zero_le _) (Nat.lt_succ_of_le (Nat.sub_le _ _)) H locs hP hD hS ls (by rw [sp_sm_0, Nat.zero_mul, Nat.pow_zero, Nat.mod_eq_of_lt (show 1 < pn by omega)]; exact lv_sub hl [0, 1, 2, 4, 3, 5, 6, 7, 8, 9] rfl)
      intro H locs hP hD hS ls hl
      have hb2 := Nat.mod_lt (wv ^ i) (show 0 < pn by omega)
      have hb3 := Nat.mod_lt (sp_S x wv i (2 ^ mm)) (show 0 < pn by omega)
      have hm1 := sp_m62 (a := sp_S x wv i (2 ^ mm) % pn) (b := iv) (by omega) (by omega)
      have hm2 := sp_m62 (a := wv ^ i % pn) (b := wv) (by omega) (by omega)
      refine lv_aload_n hx hb dX2_transform_152 rfl (lv_at hl 5 rfl) ?_
      refine va_get (D := (dC, dI)) (ci := 2) (v := .ref b1) (C := RX2) (T := TX2) (N := 4) hx hb hts in_X2 hown hK hP 0 rfl rfl 0 (by decide) (hts _ q110) (fun _ h9 => h9) rfl dX2_transform_153 ?_
      refine lv_iload hx hb dX2_transform_156 (lv_at hl 2 rfl) ?_
      refine lv_lload hx hb dX2_transform_158 (lv_at hl 0 rfl) ?_
      refine lv_lload hx hb dX2_transform_160 (lv_at hl 3 rfl) ?_
      refine nv_lmul (a := sp_S x wv i (2 ^ mm) % pn) (b := iv) hx hb dX2_transform_162  ?_
      refine lv_iload_n hx hb dX2_transform_163 rfl (lv_at hl 7 rfl) ?_
      refine nv_i2l (a := pn) hx hb dX2_transform_164 (by omega) ?_
      refine nv_lrem (a := (sp_S x wv i (2 ^ mm) % pn) * iv) (b := pn) hx hb dX2_transform_165 (by omega) (by omega) (by omega) ?_
      refine nv_last (i := i) hx hb hK hP hD hS 1 0 rfl rfl (by omega) (by decide) dX2_transform_166 (fun H locs hP hD hS => ?_)
      have hP : va_P (dC, dI) vwCl [(h0, .inr (2, [.ref b1, .ref b2, .ref b3, .int ks])), (b1, .inl (d1, 1024, .inr (.inl (vp_updL (sp_fill (fun k => lN (sp_S x wv k (2 ^ mm) % pn * iv % pn)) fr i) i (lN (((sp_S x wv i (2 ^ mm) % pn) * iv) % pn)))))), (b3, .inl (d3, 1024, .inr (.inl fw)))] H := hP
      have hD : va_D A [(h0, .inr (2, [.ref b1, .ref b2, .ref b3, .int ks])), (b1, .inl (d1, 1024, .inr (.inl (vp_updL (sp_fill (fun k => lN (sp_S x wv k (2 ^ mm) % pn * iv % pn)) fr i) i (lN (((sp_S x wv i (2 ^ mm) % pn) * iv) % pn)))))), (b3, .inl (d3, 1024, .inr (.inl fw)))] := hD
      refine lv_lload hx hb dX2_transform_167 (lv_at hl 1 rfl) ?_
      refine lv_lload hx hb dX2_transform_169 (lv_at hl 4 rfl) ?_
      refine nv_lmul (a := wv ^ i % pn) (b := wv) hx hb dX2_transform_171  ?_
      refine lv_iload_n hx hb dX2_transform_172 rfl (lv_at hl 7 rfl) ?_
      refine nv_i2l (a := pn) hx hb dX2_transform_173 (by omega) ?_
      refine nv_lrem (a := (wv ^ i % pn) * wv) (b := pn) hx hb dX2_transform_174 (by omega) (by omega) (by omega) ?_
      refine nv_cl (y := lN (wv ^ (i + 1) % pn)) (congrArg lN (show ((wv ^ i % pn) * wv) % pn = wv ^ (i + 1) % pn from pw_s)) ?_
      refine lv_lstore (lv' := [(9, .long (lN (wv ^ (i + 1) % pn))), (12, .long (lN (sp_S x wv i (2 ^ mm) % pn))), (11, .int (nI i)), (7, .long (lN iv)), (5, .long (lN wv)), (0, .ref h0), (1, .int (nI (2 ^ mm))), (2, .int (nI pn))]) hx hb dX2_transform_175 hl (by decide) rfl (fun ls hl => ?_)
      refine lv_iinc (v := nI (i + 1)) (lv' := [(11, .int (nI (i + 1))), (9, .long (lN (wv ^ (i + 1) % pn))), (12, .long (lN (sp_S x wv i (2 ^ mm) % pn))), (7, .long (lN iv)), (5, .long (lN wv)), (0, .ref h0), (1, .int (nI (2 ^ mm))), (2, .int (nI pn))]) hx hb dX2_transform_177 hl (k := 2) rfl (nI_add _ 1) (by decide) rfl (fun ls hl => ?_)
      refine lv_goto (tgt := 97) hx hb dX2_transform_180 (by decide) ?_
      rw [sp_fill_s (fun k => lN (sp_S x wv k (2 ^ mm) % pn * iv % pn)) fr i rfl] at hP hD
      exact ih (i + 1) hc (by omega) H locs hP hD hS ls (lv_sub hl [0, 1, 3, 4, 5, 6, 7] rfl)
set_option maxHeartbeats 4000000 in
set_option maxRecDepth 100000 in
/-- the reference: transform(n, p, back) -/
theorem metX2_transform (l : Launch) (dC : Nat → ClassId) (dI : Nat → Nat → Nat) (sz : Nat) (h0 b1 b2 b3 : Nat) (ks : Int32) (d1 d3 : ClassId) (fw fr : Nat → Int64) (n q bk : Int32)  : Met l yX2_transform (ws_ yX2_transform cX2_transform 17 (some .int)) ({ frames := 2, cells := 0, slots := 0, locals := 55 }) (pcW [.ref h0, .int n, .int q, .int bk] sz dC dI [(h0, .inr (2, [.ref b1, .ref b2, .ref b3, .int ks])), (b1, .inl (d1, 1024, .inr (.inl fr))), (b3, .inl (d3, 1024, .inr (.inl fw)))] [(d1, .long), (d3, .long)]) (va_Qi (fun (r : Int32) (u : (Nat → Int64) × (Nat → Int64)) => r = sp_rfz n q ∧ u.1 = sp_tr n q bk fr) (bw dC dI (va_A [(h0, .inr (2, [.ref b1, .ref b2, .ref b3, .int ks])), (b1, .inl (d1, 1024, .inr (.inl fr))), (b3, .inl (d3, 1024, .inr (.inl fw)))] sz) (fun u => [(h0, .inr (2, [.ref b1, .ref b2, .ref b3, .int ks])), (b1, .inl (d1, 1024, .inr (.inl u.1))), (b3, .inl (d3, 1024, .inr (.inl u.2)))]) (fun u => [(d1, .long), (d3, .long)])) (va_A [(h0, .inr (2, [.ref b1, .ref b2, .ref b3, .int ks])), (b1, .inl (d1, 1024, .inr (.inl fr))), (b3, .inl (d3, 1024, .inr (.inl fw)))] sz)) 0 0 (va_A [(h0, .inr (2, [.ref b1, .ref b2, .ref b3, .int ks])), (b1, .inl (d1, 1024, .inr (.inl fr))), (b3, .inl (d3, 1024, .inr (.inl fw)))] sz) := by
  refine Met.ofW (cc := cX2_transform) (maxL := 17) (ret := (some .int)) (by decide) rfl ?_
  intro p e s m args below meth c s₁ B hml hv
  obtain ⟨rfl, hsz, hP, hK, hD0⟩ := hv
  have hx := B.exec
  have hb := B.bytes
  have hr := B.returns
  have hts := atoms_spec (ws := ws_ yX2_transform cX2_transform 17 (some .int)) B.pre
  have hts : ∀ w ∈ lw_all, w.before _ s = true := fun w h => hts w (List.mem_cons_of_mem _ h)
  have hown : s.vm.findClass RX2 = some m.cls := findClass_of_methodNamed B.named
  have hlocks := B.notSynchronized
  subst hsz
  have hD := hD0.self (sz := s.heap.size)
  generalize hAe : va_A [(h0, .inr (2, [.ref b1, .ref b2, .ref b3, .int ks])), (b1, .inl (d1, 1024, .inr (.inl fr))), (b3, .inl (d3, 1024, .inr (.inl fw)))] s.heap.size = A at hD ⊢
  have hA : ∀ q : Nat, s.heap.size ≤ q → A q := fun q h => by rw [← hAe]; exact Or.inr h
  have hS : va_S A s.heap s.heap [] := va_S.rf
  have hP : va_P (dC, dI) vwCl [(h0, .inr (2, [.ref b1, .ref b2, .ref b3, .int ks])), (b1, .inl (d1, 1024, .inr (.inl fr))), (b3, .inl (d3, 1024, .inr (.inl fw)))] s.heap := hP
  have hl := lv_entry ([.ref h0, .int n, .int q, .int bk]) (n := 17) (Nat.le_of_ble_eq_true rfl)
  rw [lg_entry_eq]
  generalize (lg_sl ([.ref h0, .int n, .int q, .int bk]) ++ List.replicate (17 - (lg_sl ([.ref h0, .int n, .int q, .int bk])).length) Slot.unset).toArray = ls at hl ⊢
  have hl : lv_has ls 17 [(0, .ref h0), (1, .int n), (2, .int q), (3, .int bk)] := hl
  refine lv_iload_n hx hb dX2_transform_0 rfl (lv_at hl 1 rfl) ?_
  refine lv_iload_n hx hb dX2_transform_1 rfl (lv_at hl 2 rfl) ?_
  refine cl_i (wc := []) (wr := [(h0, .inr (2, [.ref b1, .ref b2, .ref b3, .int ks])), (b1, .inl (d1, 1024, .inr (.inl fr))), (b3, .inl (d3, 1024, .inr (.inl fw)))]) (va_runS (As := [.int n, .int q]) (rest := []) ⟨hx, hb, hml, hown, hts⟩ (metX2_refused l dC dI s.heap.size n q) (va_cwS 2 hts (lw_S q135 q136 q6 q137) rfl rfl rfl (by decide +kernel) ⟨Nat.le_of_ble_eq_true rfl, Nat.le_of_ble_eq_true rfl⟩) (preS (wc := []) (tc := []) hK hP hD [] (by decide) rfl [] rfl) rfl rfl hl.1 rfl (lv_room (Nat.le_of_ble_eq_true rfl)) dX2_transform_2 ⟨Nat.le_refl _, Nat.le_refl _⟩) hP hD hS hA [] [0, 1, 2] rfl rfl (by decide) (by decide) (fun r1 u1 H locs hw1 hP hD hK1 hS => ?_)
  have hP : va_P (dC, dI) vwCl [(h0, .inr (2, [.ref b1, .ref b2, .ref b3, .int ks])), (b1, .inl (d1, 1024, .inr (.inl fr))), (b3, .inl (d3, 1024, .inr (.inl fw)))] H := hP
  have hD : va_D A [(h0, .inr (2, [.ref b1, .ref b2, .ref b3, .int ks])), (b1, .inl (d1, 1024, .inr (.inl fr))), (b3, .inl (d3, 1024, .inr (.inl fw)))] := hD
  have hw1 : r1 = sp_rfz n q := hw1
  subst hw1
  refine lv_istore (lv' := [(4, .int (sp_rfz n q)), (0, .ref h0), (1, .int n), (2, .int q), (3, .int bk)]) hx hb dX2_transform_5 hl (by decide) rfl (fun ls hl => ?_)
  refine lv_iload hx hb dX2_transform_7 (lv_at hl 0 rfl) ?_
  refine lv_if_ge (tgt := 15) hx hb dX2_transform_9 (by decide) (fun hc => ?_) (fun hc => ?_)
  · have hz := rf_z hc
    rw [hz] at hl
    obtain ⟨mm, pn, hm, rfl, rfl, hv⟩ := rf_val hz
    have hle := p2_le hm
    have hp3 := hv.2.1
    have hpm := hv.2.2.2.1
    have hwlt := sp_w_lt hv
    have hwb := sp_wb_lt hv (decide (¬ bk = 0))
    refine lv_iload_n hx hb dX2_transform_15 rfl (lv_at hl 2 rfl) ?_
    refine lv_iload_n hx hb dX2_transform_16 rfl (lv_at hl 3 rfl) ?_
    refine cl_l (wc := []) (wr := [(h0, .inr (2, [.ref b1, .ref b2, .ref b3, .int ks])), (b1, .inl (d1, 1024, .inr (.inl fr))), (b3, .inl (d3, 1024, .inr (.inl fw)))]) (va_runS (As := [.int (nI (2 ^ mm)), .int (nI pn)]) (rest := []) ⟨hx, hb, hml, hown, hts⟩ (metX2_rootOf l dC dI H.size (2 ^ mm) pn hv) (va_cwS 2 hts (lw_S q142 q143 q6 q144) rfl rfl rfl (by decide +kernel) ⟨Nat.le_of_ble_eq_true rfl, Nat.le_of_ble_eq_true rfl⟩) (preS (wc := []) (tc := []) hK hP hD [] (by decide) rfl [] rfl) rfl rfl hl.1 rfl (lv_room (Nat.le_of_ble_eq_true rfl)) dX2_transform_17 ⟨Nat.le_refl _, Nat.le_refl _⟩) hP hD hS hA [] [0, 1, 2] rfl rfl (by decide) (by decide) (fun r2 u2 H locs hw2 hP hD hK1 hS => ?_)
    have hP : va_P (dC, dI) vwCl [(h0, .inr (2, [.ref b1, .ref b2, .ref b3, .int ks])), (b1, .inl (d1, 1024, .inr (.inl fr))), (b3, .inl (d3, 1024, .inr (.inl fw)))] H := hP
    have hD : va_D A [(h0, .inr (2, [.ref b1, .ref b2, .ref b3, .int ks])), (b1, .inl (d1, 1024, .inr (.inl fr))), (b3, .inl (d3, 1024, .inr (.inl fw)))] := hD
    refine nv_cl (y := lN (sp_w (2 ^ mm) pn)) hw2 ?_
    refine lv_lstore (lv' := [(5, .long (lN (sp_w (2 ^ mm) pn))), (4, .int 0), (0, .ref h0), (1, .int (nI (2 ^ mm))), (2, .int (nI pn)), (3, .int bk)]) hx hb dX2_transform_20 hl (by decide) rfl (fun ls hl => ?_)
    refine lv_iload_n hx hb dX2_transform_22 rfl (lv_at hl 5 rfl) ?_
    refine lv_if_eq (tgt := 38) hx hb dX2_transform_23 (by decide) (fun hc2 => ?_) (fun hc2 => ?_)
    · rw [← sp_wb_f (n := 2 ^ mm) (p := pn) hc2] at hl
      refine lv_iconst (v := nI 0) hx hb dX2_transform_38 (by decide) ?_
      refine lv_istore (lv' := [(7, .int (nI 0)), (5, .long (lN (sp_wb (2 ^ mm) pn (decide (¬ bk = 0))))), (4, .int 0), (0, .ref h0), (1, .int (nI (2 ^ mm))), (2, .int (nI pn)), (3, .int bk)]) hx hb dX2_transform_39 hl (by decide) rfl (fun ls hl => ?_)
      refine lpX2_trA (wv := sp_wb (2 ^ mm) pn (decide (¬ bk = 0))) hx hb hml hown hts hA hK hm (by omega) hpm ?_ (2 ^ mm + 1) 0 fw (Nat.zero_le _) (sp_fill_0 _ _).symm (Nat.lt_succ_of_le (Nat.sub_le _ _)) H locs hP hD hS ls (lv_sub hl [0, 1, 3, 4, 5, 6] rfl)
      intro fw hfw H locs hP hD hS ls hl
      refine lv_iload_n hx hb dX2_transform_71 rfl (lv_at hl 4 rfl) ?_
      refine lv_if_eq (tgt := 88) hx hb dX2_transform_72 (by decide) (fun hc3 => ?_) (fun hc3 => ?_)
      · refine lv_lconst (v := lN 1) hx hb dX2_transform_88 rfl ?_
        refine lv_lstore (lv' := [(7, .long (lN 1)), (5, .long (lN (sp_wb (2 ^ mm) pn (decide (¬ bk = 0))))), (0, .ref h0), (1, .int (nI (2 ^ mm))), (2, .int (nI pn)), (3, .int bk)]) hx hb dX2_transform_89 hl (by decide) rfl (fun ls hl => ?_)
        refine lv_lconst (v := lN 1) hx hb dX2_transform_91 rfl ?_
        refine lv_lstore (lv' := [(9, .long (lN 1)), (7, .long (lN 1)), (5, .long (lN (sp_wb (2 ^ mm) pn (decide (¬ bk = 0))))), (0, .ref h0), (1, .int (nI (2 ^ mm))), (2, .int (nI pn)), (3, .int bk)]) hx hb dX2_transform_92 hl (by decide) rfl (fun ls hl => ?_)
        refine lv_iconst (v := nI 0) hx hb dX2_transform_94 (by decide) ?_
        refine lv_istore (lv' := [(11, .int (nI 0)), (9, .long (lN 1)), (7, .long (lN 1)), (5, .long (lN (sp_wb (2 ^ mm) pn (decide (¬ bk = 0))))), (0, .ref h0), (1, .int (nI (2 ^ mm))), (2, .int (nI pn)), (3, .int bk)]) hx hb dX2_transform_95 hl (by decide) rfl (fun ls hl => ?_)
        refine lpX2_trB (wv := sp_wb (2 ^ mm) pn (decide (¬ bk = 0))) (iv := 1) (fr := fr) (fw := fw) (bk := bk) (x := fun k => sp_res (fr k) pn) hx hb hml hown hts hA hK hm (by omega) hpm hwb (by omega) (fun j hj => ⟨hfw j hj, sp_res_lt _ (by omega)⟩) ?_ (2 ^ mm + 1) 0 (Nat.zero_le _) (Nat.lt_succ_of_le (Nat.sub_le _ _)) H locs (by rw [sp_fill_0]; exact hP) (by rw [sp_fill_0]; exact hD) hS ls (by rw [Nat.pow_zero, Nat.mod_eq_of_lt (show 1 < pn by omega)]; exact lv_sub hl [0, 1, 2, 3, 4, 5, 6] rfl)
        intro H locs hP hD hS ls hl
        refine lv_iconst (v := nI 0) hx hb dX2_transform_183 (by decide) ?_
        exact rt_i hx hb hr hlocks ((sp_fill (fun k => lN (sp_S (fun k => sp_res (fr k) pn) (sp_wb (2 ^ mm) pn (decide (¬ bk = 0))) k (2 ^ mm) % pn * (1) % pn)) fr (2 ^ mm), fw)) (⟨hz.symm, sp_tr_ok hm hpm hz (fun k _ => tr_u (Or.inl ⟨hc3, rfl⟩))⟩) (hP.sub [0, 1, 2] rfl) (hK.sub [0, 1] rfl) (hD.sub [0, 1, 2] (by decide) rfl) hS dX2_transform_184
      · refine lv_iload_n hx hb dX2_transform_75 rfl (lv_at hl 2 rfl) ?_
        refine nv_i2l (a := 2 ^ mm) hx hb dX2_transform_76 (by omega) ?_
        refine lv_iload_n hx hb dX2_transform_77 rfl (lv_at hl 3 rfl) ?_
        refine lv_iconst (v := nI 2) hx hb dX2_transform_78 (by decide) ?_
        refine nv_isub (a := pn) (b := 2) hx hb dX2_transform_79 (by omega) ?_
        refine nv_i2l (a := pn - 2) hx hb dX2_transform_80 (by omega) ?_
        refine lv_iload_n hx hb dX2_transform_81 rfl (lv_at hl 3 rfl) ?_
        refine cl_l (wc := []) (wr := [(h0, .inr (2, [.ref b1, .ref b2, .ref b3, .int ks])), (b1, .inl (d1, 1024, .inr (.inl fr))), (b3, .inl (d3, 1024, .inr (.inl fw)))]) (va_runS (As := [.long (lN (2 ^ mm)), .long (lN (pn - 2)), .int (nI pn)]) (rest := []) ⟨hx, hb, hml, hown, hts⟩ (metX2_power l dC dI H.size (2 ^ mm) (pn - 2) pn (by omega) (by omega) (by omega) hpm) (va_cwS 3 hts (lw_S q146 q147 q6 q148) rfl rfl rfl (by decide +kernel) ⟨Nat.le_of_ble_eq_true rfl, Nat.le_of_ble_eq_true rfl⟩) (preS (wc := []) (tc := []) hK hP hD [] (by decide) rfl [] rfl) rfl rfl hl.1 rfl (lv_room (Nat.le_of_ble_eq_true rfl)) dX2_transform_82 ⟨Nat.le_refl _, Nat.le_refl _⟩) hP hD hS hA [] [0, 1, 2] rfl rfl (by decide) (by decide) (fun r4 u4 H locs hw4 hP hD hK1 hS => ?_)
        have hP : va_P (dC, dI) vwCl [(h0, .inr (2, [.ref b1, .ref b2, .ref b3, .int ks])), (b1, .inl (d1, 1024, .inr (.inl fr))), (b3, .inl (d3, 1024, .inr (.inl fw)))] H := hP
        have hD : va_D A [(h0, .inr (2, [.ref b1, .ref b2, .ref b3, .int ks])), (b1, .inl (d1, 1024, .inr (.inl fr))), (b3, .inl (d3, 1024, .inr (.inl fw)))] := hD
        refine nv_cl (y := lN ((2 ^ mm) ^ (pn - 2) % pn)) hw4 ?_
        refine lv_goto (tgt := 89) hx hb dX2_transform_85 (by decide) ?_
        refine lv_lstore (lv' := [(7, .long (lN ((2 ^ mm) ^ (pn - 2) % pn))), (5, .long (lN (sp_wb (2 ^ mm) pn (decide (¬ bk = 0))))), (0, .ref h0), (1, .int (nI (2 ^ mm))), (2, .int (nI pn)), (3, .int bk)]) hx hb dX2_transform_89 hl (by decide) rfl (fun ls hl => ?_)
        refine lv_lconst (v := lN 1) hx hb dX2_transform_91 rfl ?_
        refine lv_lstore (lv' := [(9, .long (lN 1)), (7, .long (lN ((2 ^ mm) ^ (pn - 2) % pn))), (5, .long (lN (sp_wb (2 ^ mm) pn (decide (¬ bk = 0))))), (0, .ref h0), (1, .int (nI (2 ^ mm))), (2, .int (nI pn)), (3, .int bk)]) hx hb dX2_transform_92 hl (by decide) rfl (fun ls hl => ?_)
        refine lv_iconst (v := nI 0) hx hb dX2_transform_94 (by decide) ?_
        refine lv_istore (lv' := [(11, .int (nI 0)), (9, .long (lN 1)), (7, .long (lN ((2 ^ mm) ^ (pn - 2) % pn))), (5, .long (lN (sp_wb (2 ^ mm) pn (decide (¬ bk = 0))))), (0, .ref h0), (1, .int (nI (2 ^ mm))), (2, .int (nI pn)), (3, .int bk)]) hx hb dX2_transform_95 hl (by decide) rfl (fun ls hl => ?_)
        refine lpX2_trB (wv := sp_wb (2 ^ mm) pn (decide (¬ bk = 0))) (iv := (2 ^ mm) ^ (pn - 2) % pn) (fr := fr) (fw := fw) (bk := bk) (x := fun k => sp_res (fr k) pn) hx hb hml hown hts hA hK hm (by omega) hpm hwb (Nat.mod_lt _ (by omega)) (fun j hj => ⟨hfw j hj, sp_res_lt _ (by omega)⟩) ?_ (2 ^ mm + 1) 0 (Nat.zero_le _) (Nat.lt_succ_of_le (Nat.sub_le _ _)) H locs (by rw [sp_fill_0]; exact hP) (by rw [sp_fill_0]; exact hD) hS ls (by rw [Nat.pow_zero, Nat.mod_eq_of_lt (show 1 < pn by omega)]; exact lv_sub hl [0, 1, 2, 3, 4, 5, 6] rfl)
        intro H locs hP hD hS ls hl
        refine lv_iconst (v := nI 0) hx hb dX2_transform_183 (by decide) ?_
        exact rt_i hx hb hr hlocks ((sp_fill (fun k => lN (sp_S (fun k => sp_res (fr k) pn) (sp_wb (2 ^ mm) pn (decide (¬ bk = 0))) k (2 ^ mm) % pn * ((2 ^ mm) ^ (pn - 2) % pn) % pn)) fr (2 ^ mm), fw)) (⟨hz.symm, sp_tr_ok hm hpm hz (fun k _ => tr_u (Or.inr ⟨hc3, rfl⟩))⟩) (hP.sub [0, 1, 2] rfl) (hK.sub [0, 1] rfl) (hD.sub [0, 1, 2] (by decide) rfl) hS dX2_transform_184
    · refine lv_lload hx hb dX2_transform_26 (lv_at hl 0 rfl) ?_
      refine lv_iload_n hx hb dX2_transform_28 rfl (lv_at hl 4 rfl) ?_
      refine lv_iconst (v := nI 2) hx hb dX2_transform_29 (by decide) ?_
      refine nv_isub (a := pn) (b := 2) hx hb dX2_transform_30 (by omega) ?_
      refine nv_i2l (a := pn - 2) hx hb dX2_transform_31 (by omega) ?_
      refine lv_iload_n hx hb dX2_transform_32 rfl (lv_at hl 4 rfl) ?_
      refine cl_l (wc := []) (wr := [(h0, .inr (2, [.ref b1, .ref b2, .ref b3, .int ks])), (b1, .inl (d1, 1024, .inr (.inl fr))), (b3, .inl (d3, 1024, .inr (.inl fw)))]) (va_runS (As := [.long (lN (sp_w (2 ^ mm) pn)), .long (lN (pn - 2)), .int (nI pn)]) (rest := []) ⟨hx, hb, hml, hown, hts⟩ (metX2_power l dC dI H.size (sp_w (2 ^ mm) pn) (pn - 2) pn (by omega) (by omega) (by omega) hpm) (va_cwS 3 hts (lw_S q146 q147 q6 q148) rfl rfl rfl (by decide +kernel) ⟨Nat.le_of_ble_eq_true rfl, Nat.le_of_ble_eq_true rfl⟩) (preS (wc := []) (tc := []) hK hP hD [] (by decide) rfl [] rfl) rfl rfl hl.1 rfl (lv_room (Nat.le_of_ble_eq_true rfl)) dX2_transform_33 ⟨Nat.le_refl _, Nat.le_refl _⟩) hP hD hS hA [] [0, 1, 2] rfl rfl (by decide) (by decide) (fun r3 u3 H locs hw3 hP hD hK1 hS => ?_)
      have hP : va_P (dC, dI) vwCl [(h0, .inr (2, [.ref b1, .ref b2, .ref b3, .int ks])), (b1, .inl (d1, 1024, .inr (.inl fr))), (b3, .inl (d3, 1024, .inr (.inl fw)))] H := hP
      have hD : va_D A [(h0, .inr (2, [.ref b1, .ref b2, .ref b3, .int ks])), (b1, .inl (d1, 1024, .inr (.inl fr))), (b3, .inl (d3, 1024, .inr (.inl fw)))] := hD
      refine nv_cl (y := lN (sp_wb (2 ^ mm) pn (decide (¬ bk = 0)))) (by rw [sp_wb_t hc2]; exact hw3) ?_
      refine lv_lstore (lv' := [(5, .long (lN (sp_wb (2 ^ mm) pn (decide (¬ bk = 0))))), (4, .int 0), (0, .ref h0), (1, .int (nI (2 ^ mm))), (2, .int (nI pn)), (3, .int bk)]) hx hb dX2_transform_36 hl (by decide) rfl (fun ls hl => ?_)
      refine lv_iconst (v := nI 0) hx hb dX2_transform_38 (by decide) ?_
      refine lv_istore (lv' := [(7, .int (nI 0)), (5, .long (lN (sp_wb (2 ^ mm) pn (decide (¬ bk = 0))))), (4, .int 0), (0, .ref h0), (1, .int (nI (2 ^ mm))), (2, .int (nI pn)), (3, .int bk)]) hx hb dX2_transform_39 hl (by decide) rfl (fun ls hl => ?_)
      refine lpX2_trA (wv := sp_wb (2 ^ mm) pn (decide (¬ bk = 0))) hx hb hml hown hts hA hK hm (by omega) hpm ?_ (2 ^ mm + 1) 0 fw (Nat.zero_le _) (sp_fill_0 _ _).symm (Nat.lt_succ_of_le (Nat.sub_le _ _)) H locs hP hD hS ls (lv_sub hl [0, 1, 3, 4, 5, 6] rfl)
      intro fw hfw H locs hP hD hS ls hl
      refine lv_iload_n hx hb dX2_transform_71 rfl (lv_at hl 4 rfl) ?_
      refine lv_if_eq (tgt := 88) hx hb dX2_transform_72 (by decide) (fun hc3 => ?_) (fun hc3 => ?_)
      · refine lv_lconst (v := lN 1) hx hb dX2_transform_88 rfl ?_
        refine lv_lstore (lv' := [(7, .long (lN 1)), (5, .long (lN (sp_wb (2 ^ mm) pn (decide (¬ bk = 0))))), (0, .ref h0), (1, .int (nI (2 ^ mm))), (2, .int (nI pn)), (3, .int bk)]) hx hb dX2_transform_89 hl (by decide) rfl (fun ls hl => ?_)
        refine lv_lconst (v := lN 1) hx hb dX2_transform_91 rfl ?_
        refine lv_lstore (lv' := [(9, .long (lN 1)), (7, .long (lN 1)), (5, .long (lN (sp_wb (2 ^ mm) pn (decide (¬ bk = 0))))), (0, .ref h0), (1, .int (nI (2 ^ mm))), (2, .int (nI pn)), (3, .int bk)]) hx hb dX2_transform_92 hl (by decide) rfl (fun ls hl => ?_)
        refine lv_iconst (v := nI 0) hx hb dX2_transform_94 (by decide) ?_
        refine lv_istore (lv' := [(11, .int (nI 0)), (9, .long (lN 1)), (7, .long (lN 1)), (5, .long (lN (sp_wb (2 ^ mm) pn (decide (¬ bk = 0))))), (0, .ref h0), (1, .int (nI (2 ^ mm))), (2, .int (nI pn)), (3, .int bk)]) hx hb dX2_transform_95 hl (by decide) rfl (fun ls hl => ?_)
        refine lpX2_trB (wv := sp_wb (2 ^ mm) pn (decide (¬ bk = 0))) (iv := 1) (fr := fr) (fw := fw) (bk := bk) (x := fun k => sp_res (fr k) pn) hx hb hml hown hts hA hK hm (by omega) hpm hwb (by omega) (fun j hj => ⟨hfw j hj, sp_res_lt _ (by omega)⟩) ?_ (2 ^ mm + 1) 0 (Nat.zero_le _) (Nat.lt_succ_of_le (Nat.sub_le _ _)) H locs (by rw [sp_fill_0]; exact hP) (by rw [sp_fill_0]; exact hD) hS ls (by rw [Nat.pow_zero, Nat.mod_eq_of_lt (show 1 < pn by omega)]; exact lv_sub hl [0, 1, 2, 3, 4, 5, 6] rfl)
        intro H locs hP hD hS ls hl
        refine lv_iconst (v := nI 0) hx hb dX2_transform_183 (by decide) ?_
        exact rt_i hx hb hr hlocks ((sp_fill (fun k => lN (sp_S (fun k => sp_res (fr k) pn) (sp_wb (2 ^ mm) pn (decide (¬ bk = 0))) k (2 ^ mm) % pn * (1) % pn)) fr (2 ^ mm), fw)) (⟨hz.symm, sp_tr_ok hm hpm hz (fun k _ => tr_u (Or.inl ⟨hc3, rfl⟩))⟩) (hP.sub [0, 1, 2] rfl) (hK.sub [0, 1] rfl) (hD.sub [0, 1, 2] (by decide) rfl) hS dX2_transform_184
      · refine lv_iload_n hx hb dX2_transform_75 rfl (lv_at hl 2 rfl) ?_
        refine nv_i2l (a := 2 ^ mm) hx hb dX2_transform_76 (by omega) ?_
        refine lv_iload_n hx hb dX2_transform_77 rfl (lv_at hl 3 rfl) ?_
        refine lv_iconst (v := nI 2) hx hb dX2_transform_78 (by decide) ?_
        refine nv_isub (a := pn) (b := 2) hx hb dX2_transform_79 (by omega) ?_
        refine nv_i2l (a := pn - 2) hx hb dX2_transform_80 (by omega) ?_
        refine lv_iload_n hx hb dX2_transform_81 rfl (lv_at hl 3 rfl) ?_
        refine cl_l (wc := []) (wr := [(h0, .inr (2, [.ref b1, .ref b2, .ref b3, .int ks])), (b1, .inl (d1, 1024, .inr (.inl fr))), (b3, .inl (d3, 1024, .inr (.inl fw)))]) (va_runS (As := [.long (lN (2 ^ mm)), .long (lN (pn - 2)), .int (nI pn)]) (rest := []) ⟨hx, hb, hml, hown, hts⟩ (metX2_power l dC dI H.size (2 ^ mm) (pn - 2) pn (by omega) (by omega) (by omega) hpm) (va_cwS 3 hts (lw_S q146 q147 q6 q148) rfl rfl rfl (by decide +kernel) ⟨Nat.le_of_ble_eq_true rfl, Nat.le_of_ble_eq_true rfl⟩) (preS (wc := []) (tc := []) hK hP hD [] (by decide) rfl [] rfl) rfl rfl hl.1 rfl (lv_room (Nat.le_of_ble_eq_true rfl)) dX2_transform_82 ⟨Nat.le_refl _, Nat.le_refl _⟩) hP hD hS hA [] [0, 1, 2] rfl rfl (by decide) (by decide) (fun r4 u4 H locs hw4 hP hD hK1 hS => ?_)
        have hP : va_P (dC, dI) vwCl [(h0, .inr (2, [.ref b1, .ref b2, .ref b3, .int ks])), (b1, .inl (d1, 1024, .inr (.inl fr))), (b3, .inl (d3, 1024, .inr (.inl fw)))] H := hP
        have hD : va_D A [(h0, .inr (2, [.ref b1, .ref b2, .ref b3, .int ks])), (b1, .inl (d1, 1024, .inr (.inl fr))), (b3, .inl (d3, 1024, .inr (.inl fw)))] := hD
        refine nv_cl (y := lN ((2 ^ mm) ^ (pn - 2) % pn)) hw4 ?_
        refine lv_goto (tgt := 89) hx hb dX2_transform_85 (by decide) ?_
        refine lv_lstore (lv' := [(7, .long (lN ((2 ^ mm) ^ (pn - 2) % pn))), (5, .long (lN (sp_wb (2 ^ mm) pn (decide (¬ bk = 0))))), (0, .ref h0), (1, .int (nI (2 ^ mm))), (2, .int (nI pn)), (3, .int bk)]) hx hb dX2_transform_89 hl (by decide) rfl (fun ls hl => ?_)
        refine lv_lconst (v := lN 1) hx hb dX2_transform_91 rfl ?_
        refine lv_lstore (lv' := [(9, .long (lN 1)), (7, .long (lN ((2 ^ mm) ^ (pn - 2) % pn))), (5, .long (lN (sp_wb (2 ^ mm) pn (decide (¬ bk = 0))))), (0, .ref h0), (1, .int (nI (2 ^ mm))), (2, .int (nI pn)), (3, .int bk)]) hx hb dX2_transform_92 hl (by decide) rfl (fun ls hl => ?_)
        refine lv_iconst (v := nI 0) hx hb dX2_transform_94 (by decide) ?_
        refine lv_istore (lv' := [(11, .int (nI 0)), (9, .long (lN 1)), (7, .long (lN ((2 ^ mm) ^ (pn - 2) % pn))), (5, .long (lN (sp_wb (2 ^ mm) pn (decide (¬ bk = 0))))), (0, .ref h0), (1, .int (nI (2 ^ mm))), (2, .int (nI pn)), (3, .int bk)]) hx hb dX2_transform_95 hl (by decide) rfl (fun ls hl => ?_)
        refine lpX2_trB (wv := sp_wb (2 ^ mm) pn (decide (¬ bk = 0))) (iv := (2 ^ mm) ^ (pn - 2) % pn) (fr := fr) (fw := fw) (bk := bk) (x := fun k => sp_res (fr k) pn) hx hb hml hown hts hA hK hm (by omega) hpm hwb (Nat.mod_lt _ (by omega)) (fun j hj => ⟨hfw j hj, sp_res_lt _ (by omega)⟩) ?_ (2 ^ mm + 1) 0 (Nat.zero_le _) (Nat.lt_succ_of_le (Nat.sub_le _ _)) H locs (by rw [sp_fill_0]; exact hP) (by rw [sp_fill_0]; exact hD) hS ls (by rw [Nat.pow_zero, Nat.mod_eq_of_lt (show 1 < pn by omega)]; exact lv_sub hl [0, 1, 2, 3, 4, 5, 6] rfl)
        intro H locs hP hD hS ls hl
        refine lv_iconst (v := nI 0) hx hb dX2_transform_183 (by decide) ?_
        exact rt_i hx hb hr hlocks ((sp_fill (fun k => lN (sp_S (fun k => sp_res (fr k) pn) (sp_wb (2 ^ mm) pn (decide (¬ bk = 0))) k (2 ^ mm) % pn * ((2 ^ mm) ^ (pn - 2) % pn) % pn)) fr (2 ^ mm), fw)) (⟨hz.symm, sp_tr_ok hm hpm hz (fun k _ => tr_u (Or.inr ⟨hc3, rfl⟩))⟩) (hP.sub [0, 1, 2] rfl) (hK.sub [0, 1] rfl) (hD.sub [0, 1, 2] (by decide) rfl) hS dX2_transform_184
  · refine lv_iload hx hb dX2_transform_12 (lv_at hl 0 rfl) ?_
    exact rt_i hx hb hr hlocks ((fr, fw)) (⟨rfl, (sp_tr_neg (rf_m hc)).symm⟩) (hP.sub [0, 1, 2] rfl) (hK.sub [0, 1] rfl) (hD.sub [0, 1, 2] (by decide) rfl) hS dX2_transform_14
set_option maxHeartbeats 4000000 in
set_option maxRecDepth 100000 in
theorem lpX2_keep {p : Program} {l : Launch} {e : Env} {R : Room} {s : State} {m : MethodId} {args : Array Value} {below : List Frame} {meth : Method} {c : Code} {Q : State → Prop} {cells slots : Nat} {dC : Nat → ClassId} {dI : Nat → Nat → Nat} {A : Nat → Prop} {h0 b1 b2 b3 : Nat} {ks : Int32} {d1 d2 : ClassId} {fr fk : Nat → Int64} {nn : Nat}  (hx : p.tables.exec = Jvm.exec) (hb : c.code = cX2_keep) (hml : c.maxLocals = 3) (hown : s.vm.findClass RX2 = some m.cls) (hts : ∀ w ∈ lw_all, w.before args s = true) (hA : ∀ q : Nat, s.heap.size ≤ q → A q) (hK : va_K (dC, dI) vwCl [(d1, .long), (d2, .long)] s) (hn : nn ≤ 1024) (hQ : ∀ (H : Heap) (locs : List Loc), va_P (dC, dI) vwCl [(h0, .inr (2, [.ref b1, .ref b2, .ref b3, .int ks])), (b1, .inl (d1, 1024, .inr (.inl fr))), (b2, .inl (d2, 1024, .inr (.inl (sp_fill fr fk nn))))] H → va_D A [(h0, .inr (2, [.ref b1, .ref b2, .ref b3, .int ks])), (b1, .inl (d1, 1024, .inr (.inl fr))), (b2, .inl (d2, 1024, .inr (.inl (sp_fill fr fk nn))))] → va_S A s.heap H locs → ∀ (ls : Array Slot), lv_has ls 3 [(0, .ref h0), (1, .int (nI nn))] → W p l e R s m args below meth c H locs cells slots Q (F0 m 38 ls [])) :
    ∀ (fuel : Nat) (i : Nat), (i ≤ nn) → nn - i < fuel → ∀ (H : Heap) (locs : List Loc), va_P (dC, dI) vwCl [(h0, .inr (2, [.ref b1, .ref b2, .ref b3, .int ks])), (b1, .inl (d1, 1024, .inr (.inl fr))), (b2, .inl (d2, 1024, .inr (.inl (sp_fill fr fk i))))] H → va_D A [(h0, .inr (2, [.ref b1, .ref b2, .ref b3, .int ks])), (b1, .inl (d1, 1024, .inr (.inl fr))), (b2, .inl (d2, 1024, .inr (.inl (sp_fill fr fk i))))] → va_S A s.heap H locs → ∀ (ls : Array Slot), lv_has ls 3 [(2, .int (nI i)), (0, .ref h0), (1, .int (nI nn))] → W p l e R s m args below meth c H locs cells slots Q (F0 m 15 ls []) := by
  intro fuel
  induction fuel with
  | zero =>
    intro i hi hfu
    exact absurd hfu (Nat.not_lt_zero _)
  | succ fuel ih =>
    intro i hi hfu H locs hP hD hS ls hl
    refine lv_iload_n hx hb dX2_keep_15 rfl (lv_at hl 0 rfl) ?_
    refine lv_iload_n hx hb dX2_keep_16 rfl (lv_at hl 2 rfl) ?_
    refine nv_icmp_ge (a := i) (b := nn) (tgt := 38) hx hb dX2_keep_17 (by decide) (by omega) (by omega) (fun hc => ?_) (fun hc => ?_)
    · obtain rfl : i = nn := by omega
      exact hQ H locs hP hD hS ls (lv_sub hl [1, 2] rfl)
    · refine lv_aload_n hx hb dX2_keep_20 rfl (lv_at hl 1 rfl) ?_
      refine va_get (D := (dC, dI)) (ci := 2) (v := .ref b2) (C := RX2) (T := TX2) (N := 4) hx hb hts in_X2 hown hK hP 0 rfl rfl 1 (by decide) (hts _ q111) (fun _ h9 => h9) rfl dX2_keep_21 ?_
      refine lv_iload_n hx hb dX2_keep_24 rfl (lv_at hl 0 rfl) ?_
      refine lv_aload_n hx hb dX2_keep_25 rfl (lv_at hl 1 rfl) ?_
      refine va_get (D := (dC, dI)) (ci := 2) (v := .ref b1) (C := RX2) (T := TX2) (N := 4) hx hb hts in_X2 hown hK hP 0 rfl rfl 0 (by decide) (hts _ q110) (fun _ h9 => h9) rfl dX2_keep_26 ?_
      refine lv_iload_n hx hb dX2_keep_29 rfl (lv_at hl 0 rfl) ?_
      refine nv_lald (i := i) hx hb hK hP 1 0 rfl rfl (by omega) (by decide) dX2_keep_30 ?_
      refine nv_last (i := i) hx hb hK hP hD hS 2 1 rfl rfl (by omega) (by decide) dX2_keep_31 (fun H locs hP hD hS => ?_)
      have hP : va_P (dC, dI) vwCl [(h0, .inr (2, [.ref b1, .ref b2, .ref b3, .int ks])), (b1, .inl (d1, 1024, .inr (.inl fr))), (b2, .inl (d2, 1024, .inr (.inl (vp_updL (sp_fill fr fk i) i (fr i)))))] H := hP
      have hD : va_D A [(h0, .inr (2, [.ref b1, .ref b2, .ref b3, .int ks])), (b1, .inl (d1, 1024, .inr (.inl fr))), (b2, .inl (d2, 1024, .inr (.inl (vp_updL (sp_fill fr fk i) i (fr i)))))] := hD
      refine lv_iinc (v := nI (i + 1)) (lv' := [(2, .int (nI (i + 1))), (0, .ref h0), (1, .int (nI nn))]) hx hb dX2_keep_32 hl (k := 0) rfl (nI_add _ 1) (by decide) rfl (fun ls hl => ?_)
      refine lv_goto (tgt := 15) hx hb dX2_keep_35 (by decide) ?_
      rw [sp_fill_s fr fk i rfl] at hP hD
      exact ih (i + 1) hc (by omega) H locs hP hD hS ls (lv_sub hl [0, 1, 2] rfl)
set_option maxHeartbeats 4000000 in
set_option maxRecDepth 100000 in
/-- the reference: keep(n) -/
theorem metX2_keep (l : Launch) (dC : Nat → ClassId) (dI : Nat → Nat → Nat) (sz : Nat) (h0 b1 b2 b3 : Nat) (ks : Int32) (d1 d2 : ClassId) (fr fk : Nat → Int64) (n : Int32)  : Met l yX2_keep (ws_ yX2_keep cX2_keep 3 (some .boolean)) ({ frames := 0, cells := 0, slots := 0, locals := 0 }) (pcW [.ref h0, .int n] sz dC dI [(h0, .inr (2, [.ref b1, .ref b2, .ref b3, .int ks])), (b1, .inl (d1, 1024, .inr (.inl fr))), (b2, .inl (d2, 1024, .inr (.inl fk)))] [(d1, .long), (d2, .long)]) (va_Qi (fun (r : Int32) (u : (Nat → Int64) × Int32) => sp_b (¬ sp_badt n) r ∧ sp_kp n fr fk ks u) (bw dC dI (va_A [(h0, .inr (2, [.ref b1, .ref b2, .ref b3, .int ks])), (b1, .inl (d1, 1024, .inr (.inl fr))), (b2, .inl (d2, 1024, .inr (.inl fk)))] sz) (fun u => [(h0, .inr (2, [.ref b1, .ref b2, .ref b3, .int u.2])), (b1, .inl (d1, 1024, .inr (.inl fr))), (b2, .inl (d2, 1024, .inr (.inl u.1)))]) (fun u => [(d1, .long), (d2, .long)])) (va_A [(h0, .inr (2, [.ref b1, .ref b2, .ref b3, .int ks])), (b1, .inl (d1, 1024, .inr (.inl fr))), (b2, .inl (d2, 1024, .inr (.inl fk)))] sz)) 0 0 (va_A [(h0, .inr (2, [.ref b1, .ref b2, .ref b3, .int ks])), (b1, .inl (d1, 1024, .inr (.inl fr))), (b2, .inl (d2, 1024, .inr (.inl fk)))] sz) := by
  refine Met.ofW (cc := cX2_keep) (maxL := 3) (ret := (some .boolean)) (by decide) rfl ?_
  intro p e s m args below meth c s₁ B hml hv
  obtain ⟨rfl, hsz, hP, hK, hD0⟩ := hv
  have hx := B.exec
  have hb := B.bytes
  have hr := B.returns
  have hts := atoms_spec (ws := ws_ yX2_keep cX2_keep 3 (some .boolean)) B.pre
  have hts : ∀ w ∈ lw_all, w.before _ s = true := fun w h => hts w (List.mem_cons_of_mem _ h)
  have hown : s.vm.findClass RX2 = some m.cls := findClass_of_methodNamed B.named
  have hlocks := B.notSynchronized
  subst hsz
  have hD := hD0.self (sz := s.heap.size)
  generalize hAe : va_A [(h0, .inr (2, [.ref b1, .ref b2, .ref b3, .int ks])), (b1, .inl (d1, 1024, .inr (.inl fr))), (b2, .inl (d2, 1024, .inr (.inl fk)))] s.heap.size = A at hD ⊢
  have hA : ∀ q : Nat, s.heap.size ≤ q → A q := fun q h => by rw [← hAe]; exact Or.inr h
  have hS : va_S A s.heap s.heap [] := va_S.rf
  have hP : va_P (dC, dI) vwCl [(h0, .inr (2, [.ref b1, .ref b2, .ref b3, .int ks])), (b1, .inl (d1, 1024, .inr (.inl fr))), (b2, .inl (d2, 1024, .inr (.inl fk)))] s.heap := hP
  have hl := lv_entry ([.ref h0, .int n]) (n := 3) (Nat.le_of_ble_eq_true rfl)
  rw [lg_entry_eq]
  generalize (lg_sl ([.ref h0, .int n]) ++ List.replicate (3 - (lg_sl ([.ref h0, .int n])).length) Slot.unset).toArray = ls at hl ⊢
  have hl : lv_has ls 3 [(0, .ref h0), (1, .int n)] := hl
  refine lv_iload_n hx hb dX2_keep_0 rfl (lv_at hl 1 rfl) ?_
  refine lv_if_lt (tgt := 11) hx hb dX2_keep_1 (by decide) (fun hc => ?_) (fun hc => ?_)
  · refine lv_iconst (v := nI 0) hx hb dX2_keep_11 (by decide) ?_
    exact rt_z hx hb hr hlocks rfl ((fk, ks)) (⟨sp_bF (fun q => q (Or.inl hc)), fun _ => rfl, fun nn hn e => absurd (Or.inl hc) (by rw [e]; exact bt_ok hn)⟩) (hP.sub [0, 1, 2] rfl) (hK.sub [0, 1] rfl) (hD.sub [0, 1, 2] (by decide) rfl) hS dX2_keep_12
  · refine lv_iload_n hx hb dX2_keep_4 rfl (lv_at hl 1 rfl) ?_
    refine lv_sipush (v := nI 1024) hx hb dX2_keep_5 (by decide) ?_
    refine lv_icmp_le (tgt := 13) hx hb dX2_keep_8 (by decide) (fun hc2 => ?_) (fun hc2 => ?_)
    · obtain ⟨nn, hn, rfl⟩ := bt_in hc hc2
      refine lv_iconst (v := nI 0) hx hb dX2_keep_13 (by decide) ?_
      refine lv_istore_n (lv' := [(2, .int (nI 0)), (0, .ref h0), (1, .int (nI nn))]) hx hb dX2_keep_14 rfl hl (by decide) rfl (fun ls hl => ?_)
      refine lpX2_keep (fr := fr) (fk := fk) hx hb hml hown hts hA hK hn ?_ (nn + 1) 0 (Nat.zero_le _) (by omega) s.heap [] (by rw [sp_fill_0]; exact hP) (by rw [sp_fill_0]; exact hD) hS ls (lv_sub hl [0, 1, 2] rfl)
      intro H locs hP hD hS ls hl
      refine lv_aload_n hx hb dX2_keep_38 rfl (lv_at hl 0 rfl) ?_
      refine lv_iload_n hx hb dX2_keep_39 rfl (lv_at hl 1 rfl) ?_
      refine va_put (D := (dC, dI)) (ci := 2) (v := .int (nI nn)) (ty := .int) (C := RX2) (T := TX2) (N := 4) hx hb hts in_X2 tyX2 tyX2_ok nmX2 hown hK hP hD hS 0 rfl rfl 3 (by decide) (hts _ q113) (fun _ h9 => h9) rfl (by decide +kernel) rfl rfl (Nat.le_of_ble_eq_true rfl) dX2_keep_40 (fun H locs hP hD hS => ?_)
      have hP : va_P (dC, dI) vwCl [(h0, .inr (2, [.ref b1, .ref b2, .ref b3, .int (nI nn)])), (b1, .inl (d1, 1024, .inr (.inl fr))), (b2, .inl (d2, 1024, .inr (.inl (sp_fill fr fk nn))))] H := hP
      have hD : va_D A [(h0, .inr (2, [.ref b1, .ref b2, .ref b3, .int (nI nn)])), (b1, .inl (d1, 1024, .inr (.inl fr))), (b2, .inl (d2, 1024, .inr (.inl (sp_fill fr fk nn))))] := hD
      refine lv_iconst (v := nI 1) hx hb dX2_keep_43 (by decide) ?_
      exact rt_z hx hb hr hlocks rfl ((sp_fill fr fk nn, nI nn)) (⟨sp_bT (bt_ok hn), fun q => absurd q (bt_ok hn), fun n2 h2 e => by rw [(nI_eq (by omega) (by omega)).mp e]⟩) (hP.sub [0, 1, 2] rfl) (hK.sub [0, 1] rfl) (hD.sub [0, 1, 2] (by decide) rfl) hS dX2_keep_44
    · refine lv_iconst (v := nI 0) hx hb dX2_keep_11 (by decide) ?_
      exact rt_z hx hb hr hlocks rfl ((fk, ks)) (⟨sp_bF (fun q => q (bt_big hc2)), fun _ => rfl, fun nn hn e => absurd (bt_big hc2) (by rw [e]; exact bt_ok hn)⟩) (hP.sub [0, 1, 2] rfl) (hK.sub [0, 1] rfl) (hD.sub [0, 1, 2] (by decide) rfl) hS dX2_keep_12
set_option maxHeartbeats 4000000 in
set_option maxRecDepth 100000 in
theorem lpX2_times {p : Program} {l : Launch} {e : Env} {s : State} {m : MethodId} {args : Array Value} {below : List Frame} {meth : Method} {c : Code} {Q : State → Prop} {dC : Nat → ClassId} {dI : Nat → Nat → Nat} {A : Nat → Prop} {h0 b1 b2 b3 : Nat} {kn : Nat} {d1 d2 : ClassId} {fr fk : Nat → Int64} {nn : Nat} {pn : Nat} (hx : p.tables.exec = Jvm.exec) (hb : c.code = cX2_times) (hml : c.maxLocals = 4) (hown : s.vm.findClass RX2 = some m.cls) (hts : ∀ w ∈ lw_all, w.before args s = true) (hA : ∀ q : Nat, s.heap.size ≤ q → A q) (hK : va_K (dC, dI) vwCl [(d1, .long), (d2, .long)] s) (hn : nn ≤ 1024) (hkn : kn ≤ 1024) (hp0 : 0 < pn) (hpm : pn ≤ 1000000007) (hQ : ∀ (H : Heap) (locs : List Loc), va_P (dC, dI) vwCl [(h0, .inr (2, [.ref b1, .ref b2, .ref b3, .int (nI kn)])), (b1, .inl (d1, 1024, .inr (.inl (sp_fill (fun k => lN (sp_res (fr k) pn * sp_res ((fun k => if k < kn then fk k else 0) k) pn % pn)) fr nn)))), (b2, .inl (d2, 1024, .inr (.inl fk)))] H → va_D A [(h0, .inr (2, [.ref b1, .ref b2, .ref b3, .int (nI kn)])), (b1, .inl (d1, 1024, .inr (.inl (sp_fill (fun k => lN (sp_res (fr k) pn * sp_res ((fun k => if k < kn then fk k else 0) k) pn % pn)) fr nn)))), (b2, .inl (d2, 1024, .inr (.inl fk)))] → va_S A s.heap H locs → ∀ (ls : Array Slot), lv_has ls 4 [] → W p l e ({ frames := 1, cells := 0, slots := 0, locals := 22 } : Room) s m args below meth c H locs 0 0 Q (F0 m 78 ls [])) :
    ∀ (fuel : Nat) (i : Nat), (i ≤ nn) → nn - i < fuel → ∀ (H : Heap) (locs : List Loc), va_P (dC, dI) vwCl [(h0, .inr (2, [.ref b1, .ref b2, .ref b3, .int (nI kn)])), (b1, .inl (d1, 1024, .inr (.inl (sp_fill (fun k => lN (sp_res (fr k) pn * sp_res ((fun k => if k < kn then fk k else 0) k) pn % pn)) fr i)))), (b2, .inl (d2, 1024, .inr (.inl fk)))] H → va_D A [(h0, .inr (2, [.ref b1, .ref b2, .ref b3, .int (nI kn)])), (b1, .inl (d1, 1024, .inr (.inl (sp_fill (fun k => lN (sp_res (fr k) pn * sp_res ((fun k => if k < kn then fk k else 0) k) pn % pn)) fr i)))), (b2, .inl (d2, 1024, .inr (.inl fk)))] → va_S A s.heap H locs → ∀ (ls : Array Slot), lv_has ls 4 [(3, .int (nI i)), (0, .ref h0), (1, .int (nI nn)), (2, .int (nI pn))] → W p l e ({ frames := 1, cells := 0, slots := 0, locals := 22 } : Room) s m args below meth c H locs 0 0 Q (F0 m 25 ls []) := by
  intro fuel
  induction fuel with
  | zero =>
    intro i hi hfu
    exact absurd hfu (Nat.not_lt_zero _)
  | succ fuel ih =>
    intro i hi hfu H locs hP hD hS ls hl
    refine lv_iload_n hx hb dX2_times_25 rfl (lv_at hl 0 rfl) ?_
    refine lv_iload_n hx hb dX2_times_26 rfl (lv_at hl 2 rfl) ?_
    refine nv_icmp_ge (a := i) (b := nn) (tgt := 78) hx hb dX2_times_27 (by decide) (by omega) (by omega) (fun hc => ?_) (fun hc => ?_)
    · obtain rfl : i = nn := by omega
      exact hQ H locs hP hD hS ls (lv_sub hl [] rfl)
    · refine lv_aload_n hx hb dX2_times_30 rfl (lv_at hl 1 rfl) ?_
      refine va_get (D := (dC, dI)) (ci := 2) (v := .ref b1) (C := RX2) (T := TX2) (N := 4) hx hb hts in_X2 hown hK hP 0 rfl rfl 0 (by decide) (hts _ q110) (fun _ h9 => h9) rfl dX2_times_31 ?_
      refine lv_iload_n hx hb dX2_times_34 rfl (lv_at hl 0 rfl) ?_
      refine lv_iload_n hx hb dX2_times_35 rfl (lv_at hl 0 rfl) ?_
      refine lv_aload_n hx hb dX2_times_36 rfl (lv_at hl 1 rfl) ?_
      refine va_get (D := (dC, dI)) (ci := 2) (v := .int (nI kn)) (C := RX2) (T := TX2) (N := 4) hx hb hts in_X2 hown hK hP 0 rfl rfl 3 (by decide) (hts _ q113) (fun _ h9 => h9) rfl dX2_times_37 ?_
      refine nv_icmp_ge (a := i) (b := kn) (tgt := 70) hx hb dX2_times_40 (by decide) (by omega) (by omega) (fun hc2 => ?_) (fun hc2 => ?_)
      · refine lv_lconst (v := lN 0) hx hb dX2_times_70 rfl ?_
        refine nv_last (i := i) hx hb hK hP hD hS 1 0 rfl rfl (by omega) (by decide) dX2_times_71 (fun H locs hP hD hS => ?_)
        have hP : va_P (dC, dI) vwCl [(h0, .inr (2, [.ref b1, .ref b2, .ref b3, .int (nI kn)])), (b1, .inl (d1, 1024, .inr (.inl (vp_updL (sp_fill (fun k => lN (sp_res (fr k) pn * sp_res ((fun k => if k < kn then fk k else 0) k) pn % pn)) fr i) i (lN 0))))), (b2, .inl (d2, 1024, .inr (.inl fk)))] H := hP
        have hD : va_D A [(h0, .inr (2, [.ref b1, .ref b2, .ref b3, .int (nI kn)])), (b1, .inl (d1, 1024, .inr (.inl (vp_updL (sp_fill (fun k => lN (sp_res (fr k) pn * sp_res ((fun k => if k < kn then fk k else 0) k) pn % pn)) fr i) i (lN 0))))), (b2, .inl (d2, 1024, .inr (.inl fk)))] := hD
        refine lv_iinc (v := nI (i + 1)) (lv' := [(3, .int (nI (i + 1))), (0, .ref h0), (1, .int (nI nn)), (2, .int (nI pn))]) hx hb dX2_times_72 hl (k := 0) rfl (nI_add _ 1) (by decide) rfl (fun ls hl => ?_)
        refine lv_goto (tgt := 25) hx hb dX2_times_75 (by decide) ?_
        rw [sp_fill_s (fun k => lN (sp_res (fr k) pn * sp_res ((fun k => if k < kn then fk k else 0) k) pn % pn)) fr i (x := lN 0) (by show lN 0 = lN (sp_res (fr i) pn * sp_res (if i < kn then fk i else 0) pn % pn); rw [if_neg (by omega), sp_res_0, Nat.mul_zero, Nat.zero_mod])] at hP hD
        exact ih (i + 1) hc (by omega) H locs hP hD hS ls (lv_sub hl [0, 1, 2, 3] rfl)
      · refine lv_aload_n hx hb dX2_times_43 rfl (lv_at hl 1 rfl) ?_
        refine va_get (D := (dC, dI)) (ci := 2) (v := .ref b1) (C := RX2) (T := TX2) (N := 4) hx hb hts in_X2 hown hK hP 0 rfl rfl 0 (by decide) (hts _ q110) (fun _ h9 => h9) rfl dX2_times_44 ?_
        refine lv_iload_n hx hb dX2_times_47 rfl (lv_at hl 0 rfl) ?_
        refine nv_lald (i := i) hx hb hK hP 1 0 rfl rfl (by omega) (by decide) dX2_times_48 ?_
        refine nv_cl (y := fr i) (sp_fill_at _ _ _) ?_
        refine lv_iload_n hx hb dX2_times_49 rfl (lv_at hl 3 rfl) ?_
        refine cl_l (wc := []) (wr := [(h0, .inr (2, [.ref b1, .ref b2, .ref b3, .int (nI kn)])), (b1, .inl (d1, 1024, .inr (.inl (sp_fill (fun k => lN (sp_res (fr k) pn * sp_res ((fun k => if k < kn then fk k else 0) k) pn % pn)) fr i)))), (b2, .inl (d2, 1024, .inr (.inl fk)))]) (va_runS (As := [.long (fr i), .int (nI pn)]) (rest := [.int (nI i), .ref b1]) ⟨hx, hb, hml, hown, hts⟩ (metX2_rest l dC dI H.size (fr i) pn hp0 hpm) (va_cwS 2 hts (lw_S q153 q154 q6 q155) rfl rfl rfl (by decide +kernel) ⟨Nat.le_of_ble_eq_true rfl, Nat.le_of_ble_eq_true rfl⟩) (preS (wc := []) (tc := []) hK hP hD [] (by decide) rfl [] rfl) rfl rfl hl.1 rfl (lv_room (Nat.le_of_ble_eq_true rfl)) dX2_times_50 ⟨Nat.le_refl _, Nat.le_refl _⟩) hP hD hS hA [] [0, 1, 2] rfl rfl (by decide) (by decide) (fun r1 u1 H locs hw1 hP hD hK1 hS => ?_)
        have hP : va_P (dC, dI) vwCl [(h0, .inr (2, [.ref b1, .ref b2, .ref b3, .int (nI kn)])), (b1, .inl (d1, 1024, .inr (.inl (sp_fill (fun k => lN (sp_res (fr k) pn * sp_res ((fun k => if k < kn then fk k else 0) k) pn % pn)) fr i)))), (b2, .inl (d2, 1024, .inr (.inl fk)))] H := hP
        have hD : va_D A [(h0, .inr (2, [.ref b1, .ref b2, .ref b3, .int (nI kn)])), (b1, .inl (d1, 1024, .inr (.inl (sp_fill (fun k => lN (sp_res (fr k) pn * sp_res ((fun k => if k < kn then fk k else 0) k) pn % pn)) fr i)))), (b2, .inl (d2, 1024, .inr (.inl fk)))] := hD
        refine nv_cl (y := lN (sp_res (fr i) pn)) hw1 ?_
        refine lv_aload_n hx hb dX2_times_53 rfl (lv_at hl 1 rfl) ?_
        refine va_get (D := (dC, dI)) (ci := 2) (v := .ref b2) (C := RX2) (T := TX2) (N := 4) hx hb hts in_X2 hown hK hP 0 rfl rfl 1 (by decide) (hts _ q111) (fun _ h9 => h9) rfl dX2_times_54 ?_
        refine lv_iload_n hx hb dX2_times_57 rfl (lv_at hl 0 rfl) ?_
        refine nv_lald (i := i) hx hb hK hP 2 1 rfl rfl (by omega) (by decide) dX2_times_58 ?_
        refine lv_iload_n hx hb dX2_times_59 rfl (lv_at hl 3 rfl) ?_
        refine cl_l (wc := []) (wr := [(h0, .inr (2, [.ref b1, .ref b2, .ref b3, .int (nI kn)])), (b1, .inl (d1, 1024, .inr (.inl (sp_fill (fun k => lN (sp_res (fr k) pn * sp_res ((fun k => if k < kn then fk k else 0) k) pn % pn)) fr i)))), (b2, .inl (d2, 1024, .inr (.inl fk)))]) (va_runS (As := [.long (fk i), .int (nI pn)]) (rest := [.long (lN (sp_res (fr i) pn)), .int (nI i), .ref b1]) ⟨hx, hb, hml, hown, hts⟩ (metX2_rest l dC dI H.size (fk i) pn hp0 hpm) (va_cwS 2 hts (lw_S q153 q154 q6 q155) rfl rfl rfl (by decide +kernel) ⟨Nat.le_of_ble_eq_true rfl, Nat.le_of_ble_eq_true rfl⟩) (preS (wc := []) (tc := []) hK hP hD [] (by decide) rfl [] rfl) rfl rfl hl.1 rfl (lv_room (Nat.le_of_ble_eq_true rfl)) dX2_times_60 ⟨Nat.le_refl _, Nat.le_refl _⟩) hP hD hS hA [] [0, 1, 2] rfl rfl (by decide) (by decide) (fun r2 u2 H locs hw2 hP hD hK1 hS => ?_)
        have hP : va_P (dC, dI) vwCl [(h0, .inr (2, [.ref b1, .ref b2, .ref b3, .int (nI kn)])), (b1, .inl (d1, 1024, .inr (.inl (sp_fill (fun k => lN (sp_res (fr k) pn * sp_res ((fun k => if k < kn then fk k else 0) k) pn % pn)) fr i)))), (b2, .inl (d2, 1024, .inr (.inl fk)))] H := hP
        have hD : va_D A [(h0, .inr (2, [.ref b1, .ref b2, .ref b3, .int (nI kn)])), (b1, .inl (d1, 1024, .inr (.inl (sp_fill (fun k => lN (sp_res (fr k) pn * sp_res ((fun k => if k < kn then fk k else 0) k) pn % pn)) fr i)))), (b2, .inl (d2, 1024, .inr (.inl fk)))] := hD
        refine nv_cl (y := lN (sp_res (fk i) pn)) hw2 ?_
        have hm1 := sp_m62 (a := sp_res (fr i) pn) (b := sp_res (fk i) pn) (by have := sp_res_lt (fr i) hp0; omega) (by have := sp_res_lt (fk i) hp0; omega)
        refine nv_lmul (a := sp_res (fr i) pn) (b := sp_res (fk i) pn) hx hb dX2_times_63  ?_
        refine lv_iload_n hx hb dX2_times_64 rfl (lv_at hl 3 rfl) ?_
        refine nv_i2l (a := pn) hx hb dX2_times_65 (by omega) ?_
        refine nv_lrem (a := (sp_res (fr i) pn) * (sp_res (fk i) pn)) (b := pn) hx hb dX2_times_66 (by omega) (by omega) (by omega) ?_
        refine lv_goto (tgt := 71) hx hb dX2_times_67 (by decide) ?_
        refine nv_last (i := i) hx hb hK hP hD hS 1 0 rfl rfl (by omega) (by decide) dX2_times_71 (fun H locs hP hD hS => ?_)
        have hP : va_P (dC, dI) vwCl [(h0, .inr (2, [.ref b1, .ref b2, .ref b3, .int (nI kn)])), (b1, .inl (d1, 1024, .inr (.inl (vp_updL (sp_fill (fun k => lN (sp_res (fr k) pn * sp_res ((fun k => if k < kn then fk k else 0) k) pn % pn)) fr i) i (lN (((sp_res (fr i) pn) * (sp_res (fk i) pn)) % pn)))))), (b2, .inl (d2, 1024, .inr (.inl fk)))] H := hP
        have hD : va_D A [(h0, .inr (2, [.ref b1, .ref b2, .ref b3, .int (nI kn)])), (b1, .inl (d1, 1024, .inr (.inl (vp_updL (sp_fill (fun k => lN (sp_res (fr k) pn * sp_res ((fun k => if k < kn then fk k else 0) k) pn % pn)) fr i) i (lN (((sp_res (fr i) pn) * (sp_res (fk i) pn)) % pn)))))), (b2, .inl (d2, 1024, .inr (.inl fk)))] := hD
        refine lv_iinc (v := nI (i + 1)) (lv' := [(3, .int (nI (i + 1))), (0, .ref h0), (1, .int (nI nn)), (2, .int (nI pn))]) hx hb dX2_times_72 hl (k := 0) rfl (nI_add _ 1) (by decide) rfl (fun ls hl => ?_)
        refine lv_goto (tgt := 25) hx hb dX2_times_75 (by decide) ?_
        rw [sp_fill_s (fun k => lN (sp_res (fr k) pn * sp_res ((fun k => if k < kn then fk k else 0) k) pn % pn)) fr i (x := lN (sp_res (fr i) pn * sp_res (fk i) pn % pn)) (by show _ = lN (sp_res (fr i) pn * sp_res (if i < kn then fk i else 0) pn % pn); rw [if_pos hc2])] at hP hD
        exact ih (i + 1) hc (by omega) H locs hP hD hS ls (lv_sub hl [0, 1, 2, 3] rfl)
set_option maxHeartbeats 4000000 in
set_option maxRecDepth 100000 in
/-- the reference: times(n, p) -/
theorem metX2_times (l : Launch) (dC : Nat → ClassId) (dI : Nat → Nat → Nat) (sz : Nat) (h0 b1 b2 b3 : Nat) (kn : Nat) (d1 d2 : ClassId) (fr fk : Nat → Int64) (n q : Int32) (hkn : kn ≤ 1024) : Met l yX2_times (ws_ yX2_times cX2_times 4 (some .int)) ({ frames := 1, cells := 0, slots := 0, locals := 22 }) (pcW [.ref h0, .int n, .int q] sz dC dI [(h0, .inr (2, [.ref b1, .ref b2, .ref b3, .int (nI kn)])), (b1, .inl (d1, 1024, .inr (.inl fr))), (b2, .inl (d2, 1024, .inr (.inl fk)))] [(d1, .long), (d2, .long)]) (va_Qi (fun (r : Int32) (u : Nat → Int64) => r = sp_tans n q ∧ u = sp_times n q fr (fun k => if k < kn then fk k else 0)) (bw dC dI (va_A [(h0, .inr (2, [.ref b1, .ref b2, .ref b3, .int (nI kn)])), (b1, .inl (d1, 1024, .inr (.inl fr))), (b2, .inl (d2, 1024, .inr (.inl fk)))] sz) (fun u => [(h0, .inr (2, [.ref b1, .ref b2, .ref b3, .int (nI kn)])), (b1, .inl (d1, 1024, .inr (.inl u))), (b2, .inl (d2, 1024, .inr (.inl fk)))]) (fun u => [(d1, .long), (d2, .long)])) (va_A [(h0, .inr (2, [.ref b1, .ref b2, .ref b3, .int (nI kn)])), (b1, .inl (d1, 1024, .inr (.inl fr))), (b2, .inl (d2, 1024, .inr (.inl fk)))] sz)) 0 0 (va_A [(h0, .inr (2, [.ref b1, .ref b2, .ref b3, .int (nI kn)])), (b1, .inl (d1, 1024, .inr (.inl fr))), (b2, .inl (d2, 1024, .inr (.inl fk)))] sz) := by
  refine Met.ofW (cc := cX2_times) (maxL := 4) (ret := (some .int)) (by decide) rfl ?_
  intro p e s m args below meth c s₁ B hml hv
  obtain ⟨rfl, hsz, hP, hK, hD0⟩ := hv
  have hx := B.exec
  have hb := B.bytes
  have hr := B.returns
  have hts := atoms_spec (ws := ws_ yX2_times cX2_times 4 (some .int)) B.pre
  have hts : ∀ w ∈ lw_all, w.before _ s = true := fun w h => hts w (List.mem_cons_of_mem _ h)
  have hown : s.vm.findClass RX2 = some m.cls := findClass_of_methodNamed B.named
  have hlocks := B.notSynchronized
  subst hsz
  have hD := hD0.self (sz := s.heap.size)
  generalize hAe : va_A [(h0, .inr (2, [.ref b1, .ref b2, .ref b3, .int (nI kn)])), (b1, .inl (d1, 1024, .inr (.inl fr))), (b2, .inl (d2, 1024, .inr (.inl fk)))] s.heap.size = A at hD ⊢
  have hA : ∀ q : Nat, s.heap.size ≤ q → A q := fun q h => by rw [← hAe]; exact Or.inr h
  have hS : va_S A s.heap s.heap [] := va_S.rf
  have hP : va_P (dC, dI) vwCl [(h0, .inr (2, [.ref b1, .ref b2, .ref b3, .int (nI kn)])), (b1, .inl (d1, 1024, .inr (.inl fr))), (b2, .inl (d2, 1024, .inr (.inl fk)))] s.heap := hP
  have hl := lv_entry ([.ref h0, .int n, .int q]) (n := 4) (Nat.le_of_ble_eq_true rfl)
  rw [lg_entry_eq]
  generalize (lg_sl ([.ref h0, .int n, .int q]) ++ List.replicate (4 - (lg_sl ([.ref h0, .int n, .int q])).length) Slot.unset).toArray = ls at hl ⊢
  have hl : lv_has ls 4 [(0, .ref h0), (1, .int n), (2, .int q)] := hl
  refine lv_iload_n hx hb dX2_times_0 rfl (lv_at hl 1 rfl) ?_
  refine lv_if_lt (tgt := 11) hx hb dX2_times_1 (by decide) (fun hc => ?_) (fun hc => ?_)
  · refine lv_iconst (v := (-1)) hx hb dX2_times_11 (by decide) ?_
    exact rt_i hx hb hr hlocks fr (⟨(sp_tans_1 (Or.inl hc)).symm, (sp_times_b (by rw [sp_tans_1 (Or.inl hc)]; decide)).symm⟩) (hP.sub [0, 1, 2] rfl) (hK.sub [0, 1] rfl) (hD.sub [0, 1, 2] (by decide) rfl) hS dX2_times_12
  · refine lv_iload_n hx hb dX2_times_4 rfl (lv_at hl 1 rfl) ?_
    refine lv_sipush (v := nI 1024) hx hb dX2_times_5 (by decide) ?_
    refine lv_icmp_le (tgt := 13) hx hb dX2_times_8 (by decide) (fun hc2 => ?_) (fun hc2 => ?_)
    · obtain ⟨nn, hn, rfl⟩ := bt_in hc hc2
      refine lv_iload_n hx hb dX2_times_13 rfl (lv_at hl 2 rfl) ?_
      refine cl_i (wc := []) (wr := [(h0, .inr (2, [.ref b1, .ref b2, .ref b3, .int (nI kn)])), (b1, .inl (d1, 1024, .inr (.inl fr))), (b2, .inl (d2, 1024, .inr (.inl fk)))]) (va_runS (As := [.int q]) (rest := []) ⟨hx, hb, hml, hown, hts⟩ (metX2_isPrime l dC dI s.heap.size q) (va_cwS 1 hts (lw_S q138 q139 q6 q140) rfl rfl rfl (by decide +kernel) ⟨Nat.le_of_ble_eq_true rfl, Nat.le_of_ble_eq_true rfl⟩) (preS (wc := []) (tc := []) hK hP hD [] (by decide) rfl [] rfl) rfl rfl hl.1 rfl (lv_room (Nat.le_of_ble_eq_true rfl)) dX2_times_14 ⟨Nat.le_refl _, Nat.le_refl _⟩) hP hD hS hA [] [0, 1, 2] rfl rfl (by decide) (by decide) (fun r1 u1 H locs hw1 hP hD hK1 hS => ?_)
      have hP : va_P (dC, dI) vwCl [(h0, .inr (2, [.ref b1, .ref b2, .ref b3, .int (nI kn)])), (b1, .inl (d1, 1024, .inr (.inl fr))), (b2, .inl (d2, 1024, .inr (.inl fk)))] H := hP
      have hD : va_D A [(h0, .inr (2, [.ref b1, .ref b2, .ref b3, .int (nI kn)])), (b1, .inl (d1, 1024, .inr (.inl fr))), (b2, .inl (d2, 1024, .inr (.inl fk)))] := hD
      refine lv_if_ne (tgt := 23) hx hb dX2_times_17 (by decide) (fun hc3 => ?_) (fun hc3 => ?_)
      · have hg := sp_b_ne hw1 hc3
        obtain ⟨pn, rfl, hp3, hpm, hpp⟩ := sp_b_ne hw1 hc3
        have hz := sp_tans_0 (bt_ok hn) hg
        refine lv_iconst (v := nI 0) hx hb dX2_times_23 (by decide) ?_
        refine lv_istore_n (lv' := [(3, .int (nI 0)), (0, .ref h0), (1, .int (nI nn)), (2, .int (nI pn))]) hx hb dX2_times_24 rfl hl (by decide) rfl (fun ls hl => ?_)
        refine lpX2_times (fr := fr) (fk := fk) hx hb hml hown hts hA hK hn hkn (by omega) hpm ?_ (nn + 1) 0 (Nat.zero_le _) (by omega) H locs (by rw [sp_fill_0]; exact hP) (by rw [sp_fill_0]; exact hD) hS ls (lv_sub hl [0, 1, 2, 3] rfl)
        intro H locs hP hD hS ls hl
        refine lv_iconst (v := nI 0) hx hb dX2_times_78 (by decide) ?_
        exact rt_i hx hb hr hlocks ((sp_fill (fun k => lN (sp_res (fr k) pn * sp_res ((fun k => if k < kn then fk k else 0) k) pn % pn)) fr nn)) (⟨hz.symm, sp_times_g hz hn hpm⟩) (hP.sub [0, 1, 2] rfl) (hK.sub [0, 1] rfl) (hD.sub [0, 1, 2] (by decide) rfl) hS dX2_times_79
      · refine lv_bipush (v := (-2)) hx hb dX2_times_20 (by decide) ?_
        exact rt_i hx hb hr hlocks fr (⟨(sp_tans_2 (bt_ok hn) (sp_b_0 hw1 hc3)).symm, (sp_times_b (by rw [sp_tans_2 (bt_ok hn) (sp_b_0 hw1 hc3)]; decide)).symm⟩) (hP.sub [0, 1, 2] rfl) (hK.sub [0, 1] rfl) (hD.sub [0, 1, 2] (by decide) rfl) hS dX2_times_22
    · refine lv_iconst (v := (-1)) hx hb dX2_times_11 (by decide) ?_
      exact rt_i hx hb hr hlocks fr (⟨(sp_tans_1 (bt_big hc2)).symm, (sp_times_b (by rw [sp_tans_1 (bt_big hc2)]; decide)).symm⟩) (hP.sub [0, 1, 2] rfl) (hK.sub [0, 1] rfl) (hD.sub [0, 1, 2] (by decide) rfl) hS dX2_times_12
end
section
/-! a contract's start that carries one word of the tables more (a nest mate's link) -/
abbrev pcN (w : Cond) (av : List Value) (sz : Nat) (dC : Nat → ClassId) (dI : Nat → Nat → Nat) (ws : va_W) (tys : tyL) : Array Value → State → Prop := va_Pc av (fun U => va_Nw w U ∧ U.heap.size = sz ∧ va_P (dC, dI) vwCl ws U.heap ∧ va_K (dC, dI) vwCl tys U ∧ va_D (fun _ => True) ws)
abbrev nwR : Cond := .methodLinkNest RX0 9 yX1_init "ResidueTransforms"
theorem fbN {av : List Value} {sz : Nat} {dC : Nat → ClassId} {dI : Nat → Nat → Nat} {ws : va_W} {tys : tyL} : FrameBlind (pcN nwR av sz dC dI ws tys) := by
  intro a U g mk q
  obtain ⟨q0, qn, q1, qP, qK, qD⟩ := q
  exact ⟨q0, va_Nw.same rfl rfl qn, q1, qP, va_K.moved (u := U) (U := U.calling g mk a) (Vm.Alike.refl U.vm) qK, qD⟩
section Nest50
variable {s : State} {H : Heap} {dC : Nat → ClassId} {dI : Nat → Nat → Nat} {A : Nat → Prop} {ws wc : va_W} {tys tc : tyL}
theorem preN {As : List Value} (hnw : va_Nw nwR s) (hK : va_K (dC, dI) vwCl tys s) (hP : va_P (dC, dI) vwCl ws H) (hD : va_D A ws) (isC : List Nat) (hn : va_nd isC = true) (hC : isC.map (fun i => ws[i]?) = wc.map some) (isT : List Nat) (hT : isT.filterMap (fun i => tys[i]?) = tc) : PreS s H (pcN nwR As H.size dC dI wc tc) As := by
  refine ⟨fbN, fun U hU hW => ⟨rfl, va_Nw.warmM hW hnw, by rw [hU], ?_, va_K.moved hW.alike (hK.sub isT hT), ?_⟩⟩
  · rw [hU]
    exact hP.sub isC (mapFM hC)
  · exact (hD.sub isC hn hC).weaken (fun _ _ _ _ => trivial)
end Nest50
end
section
set_option maxHeartbeats 4000000 in
set_option maxRecDepth 100000 in
/-- Residues() -/
theorem metX1_init (l : Launch) (dC : Nat → ClassId) (dI : Nat → Nat → Nat) (sz : Nat) (h0 : Nat)  : Met l yX1_init (ws_ yX1_init cX1_init 1 none) ({ frames := 1, cells := 1, slots := 1024, locals := 12 }) (pcW [.ref h0] sz dC dI [(h0, .inr (1, [.null, .long 0]))] []) (va_Qv (fun (u : Nat × ClassId) => True) (bw dC dI (va_A [(h0, .inr (1, [.null, .long 0]))] sz) (fun u => [(h0, .inr (1, [.ref u.1, .long 0])), (u.1, .inl (u.2, 1024, .inr (.inl (fun _ => 0))))]) (fun u => [(u.2, .long)])) (va_A [(h0, .inr (1, [.null, .long 0]))] sz)) 1 1024 (va_A [(h0, .inr (1, [.null, .long 0]))] sz) := by
  refine Met.ofW (cc := cX1_init) (maxL := 1) (ret := none) (by decide) rfl ?_
  intro p e s m args below meth c s₁ B hml hv
  obtain ⟨rfl, hsz, hP, hK, hD0⟩ := hv
  have hx := B.exec
  have hb := B.bytes
  have hr := B.returns
  have hts := atoms_spec (ws := ws_ yX1_init cX1_init 1 none) B.pre
  have hts : ∀ w ∈ lw_all, w.before _ s = true := fun w h => hts w (List.mem_cons_of_mem _ h)
  have hown : s.vm.findClass RX1 = some m.cls := findClass_of_methodNamed B.named
  have hlocks := B.notSynchronized
  have hin : meth.name = "<init>" := (name_of_methodNamed B.named B.method).1
  subst hsz
  have hD := hD0.self (sz := s.heap.size)
  generalize hAe : va_A [(h0, .inr (1, [.null, .long 0]))] s.heap.size = A at hD ⊢
  have hA : ∀ q : Nat, s.heap.size ≤ q → A q := fun q h => by rw [← hAe]; exact Or.inr h
  have hS : va_S A s.heap s.heap [] := va_S.rf
  have hP : va_P (dC, dI) vwCl [(h0, .inr (1, [.null, .long 0]))] s.heap := hP
  have hl := lv_entry ([.ref h0]) (n := 1) (Nat.le_of_ble_eq_true rfl)
  rw [lg_entry_eq]
  generalize (lg_sl ([.ref h0]) ++ List.replicate (1 - (lg_sl ([.ref h0])).length) Slot.unset).toArray = ls at hl ⊢
  have hl : lv_has ls 1 [(0, .ref h0)] := hl
  refine lv_aload_n hx hb dX1_init_0 rfl (lv_at hl 0 rfl) ?_
  refine W.objInit hx hb hown (hts _ q20) (hts _ q13) (hts _ q14) rfl (by rw [hml]; exact hl.1) rfl dX1_init_1 (Nat.le_of_ble_eq_true rfl) (Nat.le_of_ble_eq_true rfl) ?_
  refine W.eq (g2 := F0 m 4 ls []) rfl ?_
  refine lv_aload_n hx hb dX1_init_4 rfl (lv_at hl 0 rfl) ?_
  refine lv_sipush (v := nI 1024) hx hb dX1_init_5 (by decide) ?_
  refine va_newa (atype := .long) (ty := .long) (n := nI 1024) (N' := 1024) (a0 := (1024, .inr (.inl (fun _ => 0)))) hx hb (hts _ q30) rfl hK hP hD hS hA (fun cA => rfl) (by decide) (by decide) (by decide) (Nat.le_of_ble_eq_true rfl) (Nat.le_of_ble_eq_true rfl) dX1_init_8 (fun q1 d1 H hK hP hD hS => ?_)
  have hP : va_P (dC, dI) vwCl [(h0, .inr (1, [.null, .long 0])), (q1, .inl (d1, 1024, .inr (.inl (fun _ => 0))))] H := hP
  have hD : va_D A [(h0, .inr (1, [.null, .long 0])), (q1, .inl (d1, 1024, .inr (.inl (fun _ => 0))))] := hD
  have hK : va_K (dC, dI) vwCl [(d1, .long)] s := hK
  refine va_putF (D := (dC, dI)) (ci := 1) (v := .ref q1) (ty := .array .long) (C := RX1) (T := TX1) (N := 2) hx hb hts in_X1 tyX1 tyX1_ok nmX1 hown hK hP hD hS 0 rfl rfl 0 (by decide) (hts _ q21) (fun _ h9 => h9) rfl hin rfl (by decide +kernel) rfl rfl (Nat.le_of_ble_eq_true rfl) dX1_init_10 (fun H locs hP hD hS => ?_)
  have hP : va_P (dC, dI) vwCl [(h0, .inr (1, [.ref q1, .long 0])), (q1, .inl (d1, 1024, .inr (.inl (fun _ => 0))))] H := hP
  have hD : va_D A [(h0, .inr (1, [.ref q1, .long 0])), (q1, .inl (d1, 1024, .inr (.inl (fun _ => 0))))] := hD
  refine W.widen (k := 1) (n := 1024) (by decide) (by decide) ?_
  exact rt_v hx hb hr hlocks ((q1, d1)) trivial (hP.sub [0, 1] rfl) (hK.sub [0] rfl) (hD.sub [0, 1] (by decide) rfl) hS dX1_init_13
set_option maxHeartbeats 4000000 in
set_option maxRecDepth 100000 in
/-- ResidueTransforms() -/
theorem metX0_init (l : Launch) (dC : Nat → ClassId) (dI : Nat → Nat → Nat) (sz : Nat) (h0 : Nat)  : Met l yX0_init (ws_ yX0_init cX0_init 1 none) ({ frames := 2, cells := 4, slots := 3074, locals := 32 }) (pcN nwR [.ref h0] sz dC dI [(h0, .inr (0, [.null, .null, .null]))] []) (va_Qv (fun (u : (Nat × Nat × ClassId) × (Nat × ClassId) × (Nat × ClassId)) => True) (bw dC dI (va_A [(h0, .inr (0, [.null, .null, .null]))] sz) (fun u => [(h0, .inr (0, [.ref u.1.1, .ref u.2.1.1, .ref u.2.2.1])), (u.1.1, .inr (1, [.ref u.1.2.1, .long (lN 3)])), (u.1.2.1, .inl (u.1.2.2, 1024, .inr (.inl (fun _ => 0)))), (u.2.1.1, .inl (u.2.1.2, 1024, .inr (.inl (fun _ => 0)))), (u.2.2.1, .inl (u.2.2.2, 1024, .inr (.inl (fun _ => 0))))]) (fun u => [(u.1.2.2, .long), (u.2.1.2, .long), (u.2.2.2, .long)])) (va_A [(h0, .inr (0, [.null, .null, .null]))] sz)) 4 3074 (va_A [(h0, .inr (0, [.null, .null, .null]))] sz) := by
  refine Met.ofW (cc := cX0_init) (maxL := 1) (ret := none) (by decide) rfl ?_
  intro p e s m args below meth c s₁ B hml hv
  obtain ⟨rfl, hnw, hsz, hP, hK, hD0⟩ := hv
  have hx := B.exec
  have hb := B.bytes
  have hr := B.returns
  have hts := atoms_spec (ws := ws_ yX0_init cX0_init 1 none) B.pre
  have hts : ∀ w ∈ lw_all, w.before _ s = true := fun w h => hts w (List.mem_cons_of_mem _ h)
  have hown : s.vm.findClass RX0 = some m.cls := findClass_of_methodNamed B.named
  have hlocks := B.notSynchronized
  have hin : meth.name = "<init>" := (name_of_methodNamed B.named B.method).1
  subst hsz
  have hD := hD0.self (sz := s.heap.size)
  generalize hAe : va_A [(h0, .inr (0, [.null, .null, .null]))] s.heap.size = A at hD ⊢
  have hA : ∀ q : Nat, s.heap.size ≤ q → A q := fun q h => by rw [← hAe]; exact Or.inr h
  have hS : va_S A s.heap s.heap [] := va_S.rf
  have hP : va_P (dC, dI) vwCl [(h0, .inr (0, [.null, .null, .null]))] s.heap := hP
  have hl := lv_entry ([.ref h0]) (n := 1) (Nat.le_of_ble_eq_true rfl)
  rw [lg_entry_eq]
  generalize (lg_sl ([.ref h0]) ++ List.replicate (1 - (lg_sl ([.ref h0])).length) Slot.unset).toArray = ls at hl ⊢
  have hl : lv_has ls 1 [(0, .ref h0)] := hl
  refine lv_aload_n hx hb dX0_init_0 rfl (lv_at hl 0 rfl) ?_
  refine W.objInit hx hb hown (hts _ q12) (hts _ q13) (hts _ q14) rfl (by rw [hml]; exact hl.1) rfl dX0_init_1 (Nat.le_of_ble_eq_true rfl) (Nat.le_of_ble_eq_true rfl) ?_
  refine W.eq (g2 := F0 m 4 ls []) rfl ?_
  refine lv_aload_n hx hb dX0_init_4 rfl (lv_at hl 0 rfl) ?_
  refine va_new (ci := 1) (fs := [.null, .long 0]) (C := RX1) (T := TX1) (N := 2) hx hb hts in_X1 tyX1 tyX1_ok hown (hts _ q15) (hts _ q16) (hts _ q5) hK hP hD hS hA rfl (fun j hj => by rcases (show j = 0 ∨ j = 1 by omega) with rfl | rfl <;> rfl) (Nat.le_of_ble_eq_true rfl) (Nat.le_of_ble_eq_true rfl) dX0_init_5 (fun a1 H hP hD hS => ?_)
  have hP : va_P (dC, dI) vwCl [(h0, .inr (0, [.null, .null, .null])), (a1, .inr (1, [.null, .long 0]))] H := hP
  have hD : va_D A [(h0, .inr (0, [.null, .null, .null])), (a1, .inr (1, [.null, .long 0]))] := hD
  refine lv_dup hx hb dX0_init_8 rfl ?_
  refine cl_v (wc := [(a1, .inr (1, [.null, .long 0]))]) (wr := [(h0, .inr (0, [.null, .null, .null]))]) (va_runIN (As := []) (rest := [.ref a1, .ref h0]) ⟨hx, hb, hml, hown, hts⟩ (metX1_init l dC dI H.size a1) ⟨va_cnB 0 hts (lw_meth q19) rfl rfl rfl hnw (hts _ q5) (by decide +kernel) ⟨Nat.le_of_ble_eq_true rfl, Nat.le_of_ble_eq_true rfl⟩, rfl, hts _ q18⟩ (preS (wc := [(a1, .inr (1, [.null, .long 0]))]) (tc := []) hK hP hD [1] (by decide) rfl [] rfl) rfl rfl hl.1 rfl (lv_room (Nat.le_of_ble_eq_true rfl)) dX0_init_9 ⟨Nat.le_of_ble_eq_true rfl, Nat.le_of_ble_eq_true rfl⟩) hP hD hS hA [1] [0] rfl rfl (by decide) (by decide) (fun u1 H locs hw1 hP hD hK1 hS => ?_)
  have hP : va_P (dC, dI) vwCl [(h0, .inr (0, [.null, .null, .null])), (a1, .inr (1, [.ref u1.1, .long 0])), (u1.1, .inl (u1.2, 1024, .inr (.inl (fun _ => 0))))] H := hP
  have hD : va_D A [(h0, .inr (0, [.null, .null, .null])), (a1, .inr (1, [.ref u1.1, .long 0])), (u1.1, .inl (u1.2, 1024, .inr (.inl (fun _ => 0))))] := hD
  have hK := hK.app hK1
  have hK : va_K (dC, dI) vwCl [(u1.2, .long)] s := hK
  refine va_putF (D := (dC, dI)) (ci := 0) (v := .ref a1) (ty := .object "ResidueTransforms$Residues") (C := RX0) (T := TX0) (N := 3) hx hb hts in_X0 tyX0 tyX0_ok nmX0 hown hK hP hD hS 0 rfl rfl 0 (by decide) (hts _ q32) (fun _ h9 => h9) rfl hin rfl (by decide +kernel) rfl rfl (Nat.le_of_ble_eq_true rfl) dX0_init_12 (fun H locs hP hD hS => ?_)
  have hP : va_P (dC, dI) vwCl [(h0, .inr (0, [.ref a1, .null, .null])), (a1, .inr (1, [.ref u1.1, .long 0])), (u1.1, .inl (u1.2, 1024, .inr (.inl (fun _ => 0))))] H := hP
  have hD : va_D A [(h0, .inr (0, [.ref a1, .null, .null])), (a1, .inr (1, [.ref u1.1, .long 0])), (u1.1, .inl (u1.2, 1024, .inr (.inl (fun _ => 0))))] := hD
  refine lv_aload_n hx hb dX0_init_15 rfl (lv_at hl 0 rfl) ?_
  refine lv_sipush (v := nI 1024) hx hb dX0_init_16 (by decide) ?_
  refine va_newa (atype := .long) (ty := .long) (n := nI 1024) (N' := 1024) (a0 := (1024, .inr (.inl (fun _ => 0)))) hx hb (hts _ q30) rfl hK hP hD hS hA (fun cA => rfl) (by decide) (by decide) (by decide) (Nat.le_of_ble_eq_true rfl) (Nat.le_of_ble_eq_true rfl) dX0_init_19 (fun a2 d2 H hK hP hD hS => ?_)
  have hP : va_P (dC, dI) vwCl [(h0, .inr (0, [.ref a1, .null, .null])), (a1, .inr (1, [.ref u1.1, .long 0])), (u1.1, .inl (u1.2, 1024, .inr (.inl (fun _ => 0)))), (a2, .inl (d2, 1024, .inr (.inl (fun _ => 0))))] H := hP
  have hD : va_D A [(h0, .inr (0, [.ref a1, .null, .null])), (a1, .inr (1, [.ref u1.1, .long 0])), (u1.1, .inl (u1.2, 1024, .inr (.inl (fun _ => 0)))), (a2, .inl (d2, 1024, .inr (.inl (fun _ => 0))))] := hD
  have hK : va_K (dC, dI) vwCl [(u1.2, .long), (d2, .long)] s := hK
  refine va_putF (D := (dC, dI)) (ci := 0) (v := .ref a2) (ty := .array .long) (C := RX0) (T := TX0) (N := 3) hx hb hts in_X0 tyX0 tyX0_ok nmX0 hown hK hP hD hS 0 rfl rfl 1 (by decide) (hts _ q33) (fun _ h9 => h9) rfl hin rfl (by decide +kernel) rfl rfl (Nat.le_of_ble_eq_true rfl) dX0_init_21 (fun H locs hP hD hS => ?_)
  have hP : va_P (dC, dI) vwCl [(h0, .inr (0, [.ref a1, .ref a2, .null])), (a1, .inr (1, [.ref u1.1, .long 0])), (u1.1, .inl (u1.2, 1024, .inr (.inl (fun _ => 0)))), (a2, .inl (d2, 1024, .inr (.inl (fun _ => 0))))] H := hP
  have hD : va_D A [(h0, .inr (0, [.ref a1, .ref a2, .null])), (a1, .inr (1, [.ref u1.1, .long 0])), (u1.1, .inl (u1.2, 1024, .inr (.inl (fun _ => 0)))), (a2, .inl (d2, 1024, .inr (.inl (fun _ => 0))))] := hD
  refine lv_aload_n hx hb dX0_init_24 rfl (lv_at hl 0 rfl) ?_
  refine lv_sipush (v := nI 1024) hx hb dX0_init_25 (by decide) ?_
  refine va_newa (atype := .long) (ty := .long) (n := nI 1024) (N' := 1024) (a0 := (1024, .inr (.inl (fun _ => 0)))) hx hb (hts _ q30) rfl hK hP hD hS hA (fun cA => rfl) (by decide) (by decide) (by decide) (Nat.le_of_ble_eq_true rfl) (Nat.le_of_ble_eq_true rfl) dX0_init_28 (fun a3 d3 H hK hP hD hS => ?_)
  have hP : va_P (dC, dI) vwCl [(h0, .inr (0, [.ref a1, .ref a2, .null])), (a1, .inr (1, [.ref u1.1, .long 0])), (u1.1, .inl (u1.2, 1024, .inr (.inl (fun _ => 0)))), (a2, .inl (d2, 1024, .inr (.inl (fun _ => 0)))), (a3, .inl (d3, 1024, .inr (.inl (fun _ => 0))))] H := hP
  have hD : va_D A [(h0, .inr (0, [.ref a1, .ref a2, .null])), (a1, .inr (1, [.ref u1.1, .long 0])), (u1.1, .inl (u1.2, 1024, .inr (.inl (fun _ => 0)))), (a2, .inl (d2, 1024, .inr (.inl (fun _ => 0)))), (a3, .inl (d3, 1024, .inr (.inl (fun _ => 0))))] := hD
  have hK : va_K (dC, dI) vwCl [(u1.2, .long), (d2, .long), (d3, .long)] s := hK
  refine va_putF (D := (dC, dI)) (ci := 0) (v := .ref a3) (ty := .array .long) (C := RX0) (T := TX0) (N := 3) hx hb hts in_X0 tyX0 tyX0_ok nmX0 hown hK hP hD hS 0 rfl rfl 2 (by decide) (hts _ q34) (fun _ h9 => h9) rfl hin rfl (by decide +kernel) rfl rfl (Nat.le_of_ble_eq_true rfl) dX0_init_30 (fun H locs hP hD hS => ?_)
  have hP : va_P (dC, dI) vwCl [(h0, .inr (0, [.ref a1, .ref a2, .ref a3])), (a1, .inr (1, [.ref u1.1, .long 0])), (u1.1, .inl (u1.2, 1024, .inr (.inl (fun _ => 0)))), (a2, .inl (d2, 1024, .inr (.inl (fun _ => 0)))), (a3, .inl (d3, 1024, .inr (.inl (fun _ => 0))))] H := hP
  have hD : va_D A [(h0, .inr (0, [.ref a1, .ref a2, .ref a3])), (a1, .inr (1, [.ref u1.1, .long 0])), (u1.1, .inl (u1.2, 1024, .inr (.inl (fun _ => 0)))), (a2, .inl (d2, 1024, .inr (.inl (fun _ => 0)))), (a3, .inl (d3, 1024, .inr (.inl (fun _ => 0))))] := hD
  refine lv_aload_n hx hb dX0_init_33 rfl (lv_at hl 0 rfl) ?_
  refine va_get (D := (dC, dI)) (ci := 0) (v := .ref a1) (C := RX0) (T := TX0) (N := 3) hx hb hts in_X0 hown hK hP 0 rfl rfl 0 (by decide) (hts _ q32) (fun _ h9 => h9) rfl dX0_init_34 ?_
  refine lv_ldc2 hx hb hown (hts _ q31) dX0_init_37 ?_
  refine nv_cl (y := lN 3) rfl ?_
  refine va_put (D := (dC, dI)) (ci := 1) (v := .long (lN 3)) (ty := .long) (C := RX1) (T := TX1) (N := 2) hx hb hts in_X1 tyX1 tyX1_ok nmX1 hown hK hP hD hS 1 rfl rfl 1 (by decide) (hts _ q23) (fun _ h9 => h9) rfl (by decide +kernel) rfl rfl (Nat.le_of_ble_eq_true rfl) dX0_init_40 (fun H locs hP hD hS => ?_)
  have hP : va_P (dC, dI) vwCl [(h0, .inr (0, [.ref a1, .ref a2, .ref a3])), (a1, .inr (1, [.ref u1.1, .long (lN 3)])), (u1.1, .inl (u1.2, 1024, .inr (.inl (fun _ => 0)))), (a2, .inl (d2, 1024, .inr (.inl (fun _ => 0)))), (a3, .inl (d3, 1024, .inr (.inl (fun _ => 0))))] H := hP
  have hD : va_D A [(h0, .inr (0, [.ref a1, .ref a2, .ref a3])), (a1, .inr (1, [.ref u1.1, .long (lN 3)])), (u1.1, .inl (u1.2, 1024, .inr (.inl (fun _ => 0)))), (a2, .inl (d2, 1024, .inr (.inl (fun _ => 0)))), (a3, .inl (d3, 1024, .inr (.inl (fun _ => 0))))] := hD
  refine W.widen (k := 4) (n := 3074) (by decide) (by decide) ?_
  exact rt_v hx hb hr hlocks (((a1, u1.1, u1.2), (a2, d2), (a3, d3))) trivial (hP.sub [0, 1, 2, 3, 4] rfl) (hK.sub [0, 1, 2] rfl) (hD.sub [0, 1, 2, 3, 4] (by decide) rfl) hS dX0_init_43
set_option maxHeartbeats 4000000 in
set_option maxRecDepth 100000 in
/-- ResidueTransformsModel() -/
theorem metX2_init (l : Launch) (dC : Nat → ClassId) (dI : Nat → Nat → Nat) (sz : Nat) (h0 : Nat)  : Met l yX2_init (ws_ yX2_init cX2_init 1 none) ({ frames := 1, cells := 3, slots := 3072, locals := 12 }) (pcW [.ref h0] sz dC dI [(h0, .inr (2, [.null, .null, .null, .int 0]))] []) (va_Qv (fun (u : (Nat × ClassId) × (Nat × ClassId) × (Nat × ClassId)) => True) (bw dC dI (va_A [(h0, .inr (2, [.null, .null, .null, .int 0]))] sz) (fun u => [(h0, .inr (2, [.ref u.1.1, .ref u.2.1.1, .ref u.2.2.1, .int 0])), (u.1.1, .inl (u.1.2, 1024, .inr (.inl (fun _ => 0)))), (u.2.1.1, .inl (u.2.1.2, 1024, .inr (.inl (fun _ => 0)))), (u.2.2.1, .inl (u.2.2.2, 1024, .inr (.inl (fun _ => 0))))]) (fun u => [(u.1.2, .long), (u.2.1.2, .long), (u.2.2.2, .long)])) (va_A [(h0, .inr (2, [.null, .null, .null, .int 0]))] sz)) 3 3072 (va_A [(h0, .inr (2, [.null, .null, .null, .int 0]))] sz) := by
  refine Met.ofW (cc := cX2_init) (maxL := 1) (ret := none) (by decide) rfl ?_
  intro p e s m args below meth c s₁ B hml hv
  obtain ⟨rfl, hsz, hP, hK, hD0⟩ := hv
  have hx := B.exec
  have hb := B.bytes
  have hr := B.returns
  have hts := atoms_spec (ws := ws_ yX2_init cX2_init 1 none) B.pre
  have hts : ∀ w ∈ lw_all, w.before _ s = true := fun w h => hts w (List.mem_cons_of_mem _ h)
  have hown : s.vm.findClass RX2 = some m.cls := findClass_of_methodNamed B.named
  have hlocks := B.notSynchronized
  have hin : meth.name = "<init>" := (name_of_methodNamed B.named B.method).1
  subst hsz
  have hD := hD0.self (sz := s.heap.size)
  generalize hAe : va_A [(h0, .inr (2, [.null, .null, .null, .int 0]))] s.heap.size = A at hD ⊢
  have hA : ∀ q : Nat, s.heap.size ≤ q → A q := fun q h => by rw [← hAe]; exact Or.inr h
  have hS : va_S A s.heap s.heap [] := va_S.rf
  have hP : va_P (dC, dI) vwCl [(h0, .inr (2, [.null, .null, .null, .int 0]))] s.heap := hP
  have hl := lv_entry ([.ref h0]) (n := 1) (Nat.le_of_ble_eq_true rfl)
  rw [lg_entry_eq]
  generalize (lg_sl ([.ref h0]) ++ List.replicate (1 - (lg_sl ([.ref h0])).length) Slot.unset).toArray = ls at hl ⊢
  have hl : lv_has ls 1 [(0, .ref h0)] := hl
  refine lv_aload_n hx hb dX2_init_0 rfl (lv_at hl 0 rfl) ?_
  refine W.objInit hx hb hown (hts _ q109) (hts _ q13) (hts _ q14) rfl (by rw [hml]; exact hl.1) rfl dX2_init_1 (Nat.le_of_ble_eq_true rfl) (Nat.le_of_ble_eq_true rfl) ?_
  refine W.eq (g2 := F0 m 4 ls []) rfl ?_
  refine lv_aload_n hx hb dX2_init_4 rfl (lv_at hl 0 rfl) ?_
  refine lv_sipush (v := nI 1024) hx hb dX2_init_5 (by decide) ?_
  refine va_newa (atype := .long) (ty := .long) (n := nI 1024) (N' := 1024) (a0 := (1024, .inr (.inl (fun _ => 0)))) hx hb (hts _ q30) rfl hK hP hD hS hA (fun cA => rfl) (by decide) (by decide) (by decide) (Nat.le_of_ble_eq_true rfl) (Nat.le_of_ble_eq_true rfl) dX2_init_8 (fun b1 d1 H hK hP hD hS => ?_)
  have hP : va_P (dC, dI) vwCl [(h0, .inr (2, [.null, .null, .null, .int 0])), (b1, .inl (d1, 1024, .inr (.inl (fun _ => 0))))] H := hP
  have hD : va_D A [(h0, .inr (2, [.null, .null, .null, .int 0])), (b1, .inl (d1, 1024, .inr (.inl (fun _ => 0))))] := hD
  have hK : va_K (dC, dI) vwCl [(d1, .long)] s := hK
  refine va_putF (D := (dC, dI)) (ci := 2) (v := .ref b1) (ty := .array .long) (C := RX2) (T := TX2) (N := 4) hx hb hts in_X2 tyX2 tyX2_ok nmX2 hown hK hP hD hS 0 rfl rfl 0 (by decide) (hts _ q110) (fun _ h9 => h9) rfl hin rfl (by decide +kernel) rfl rfl (Nat.le_of_ble_eq_true rfl) dX2_init_10 (fun H locs hP hD hS => ?_)
  have hP : va_P (dC, dI) vwCl [(h0, .inr (2, [.ref b1, .null, .null, .int 0])), (b1, .inl (d1, 1024, .inr (.inl (fun _ => 0))))] H := hP
  have hD : va_D A [(h0, .inr (2, [.ref b1, .null, .null, .int 0])), (b1, .inl (d1, 1024, .inr (.inl (fun _ => 0))))] := hD
  refine lv_aload_n hx hb dX2_init_13 rfl (lv_at hl 0 rfl) ?_
  refine lv_sipush (v := nI 1024) hx hb dX2_init_14 (by decide) ?_
  refine va_newa (atype := .long) (ty := .long) (n := nI 1024) (N' := 1024) (a0 := (1024, .inr (.inl (fun _ => 0)))) hx hb (hts _ q30) rfl hK hP hD hS hA (fun cA => rfl) (by decide) (by decide) (by decide) (Nat.le_of_ble_eq_true rfl) (Nat.le_of_ble_eq_true rfl) dX2_init_17 (fun b2 d2 H hK hP hD hS => ?_)
  have hP : va_P (dC, dI) vwCl [(h0, .inr (2, [.ref b1, .null, .null, .int 0])), (b1, .inl (d1, 1024, .inr (.inl (fun _ => 0)))), (b2, .inl (d2, 1024, .inr (.inl (fun _ => 0))))] H := hP
  have hD : va_D A [(h0, .inr (2, [.ref b1, .null, .null, .int 0])), (b1, .inl (d1, 1024, .inr (.inl (fun _ => 0)))), (b2, .inl (d2, 1024, .inr (.inl (fun _ => 0))))] := hD
  have hK : va_K (dC, dI) vwCl [(d1, .long), (d2, .long)] s := hK
  refine va_putF (D := (dC, dI)) (ci := 2) (v := .ref b2) (ty := .array .long) (C := RX2) (T := TX2) (N := 4) hx hb hts in_X2 tyX2 tyX2_ok nmX2 hown hK hP hD hS 0 rfl rfl 1 (by decide) (hts _ q111) (fun _ h9 => h9) rfl hin rfl (by decide +kernel) rfl rfl (Nat.le_of_ble_eq_true rfl) dX2_init_19 (fun H locs hP hD hS => ?_)
  have hP : va_P (dC, dI) vwCl [(h0, .inr (2, [.ref b1, .ref b2, .null, .int 0])), (b1, .inl (d1, 1024, .inr (.inl (fun _ => 0)))), (b2, .inl (d2, 1024, .inr (.inl (fun _ => 0))))] H := hP
  have hD : va_D A [(h0, .inr (2, [.ref b1, .ref b2, .null, .int 0])), (b1, .inl (d1, 1024, .inr (.inl (fun _ => 0)))), (b2, .inl (d2, 1024, .inr (.inl (fun _ => 0))))] := hD
  refine lv_aload_n hx hb dX2_init_22 rfl (lv_at hl 0 rfl) ?_
  refine lv_sipush (v := nI 1024) hx hb dX2_init_23 (by decide) ?_
  refine va_newa (atype := .long) (ty := .long) (n := nI 1024) (N' := 1024) (a0 := (1024, .inr (.inl (fun _ => 0)))) hx hb (hts _ q30) rfl hK hP hD hS hA (fun cA => rfl) (by decide) (by decide) (by decide) (Nat.le_of_ble_eq_true rfl) (Nat.le_of_ble_eq_true rfl) dX2_init_26 (fun b3 d3 H hK hP hD hS => ?_)
  have hP : va_P (dC, dI) vwCl [(h0, .inr (2, [.ref b1, .ref b2, .null, .int 0])), (b1, .inl (d1, 1024, .inr (.inl (fun _ => 0)))), (b2, .inl (d2, 1024, .inr (.inl (fun _ => 0)))), (b3, .inl (d3, 1024, .inr (.inl (fun _ => 0))))] H := hP
  have hD : va_D A [(h0, .inr (2, [.ref b1, .ref b2, .null, .int 0])), (b1, .inl (d1, 1024, .inr (.inl (fun _ => 0)))), (b2, .inl (d2, 1024, .inr (.inl (fun _ => 0)))), (b3, .inl (d3, 1024, .inr (.inl (fun _ => 0))))] := hD
  have hK : va_K (dC, dI) vwCl [(d1, .long), (d2, .long), (d3, .long)] s := hK
  refine va_putF (D := (dC, dI)) (ci := 2) (v := .ref b3) (ty := .array .long) (C := RX2) (T := TX2) (N := 4) hx hb hts in_X2 tyX2 tyX2_ok nmX2 hown hK hP hD hS 0 rfl rfl 2 (by decide) (hts _ q112) (fun _ h9 => h9) rfl hin rfl (by decide +kernel) rfl rfl (Nat.le_of_ble_eq_true rfl) dX2_init_28 (fun H locs hP hD hS => ?_)
  have hP : va_P (dC, dI) vwCl [(h0, .inr (2, [.ref b1, .ref b2, .ref b3, .int 0])), (b1, .inl (d1, 1024, .inr (.inl (fun _ => 0)))), (b2, .inl (d2, 1024, .inr (.inl (fun _ => 0)))), (b3, .inl (d3, 1024, .inr (.inl (fun _ => 0))))] H := hP
  have hD : va_D A [(h0, .inr (2, [.ref b1, .ref b2, .ref b3, .int 0])), (b1, .inl (d1, 1024, .inr (.inl (fun _ => 0)))), (b2, .inl (d2, 1024, .inr (.inl (fun _ => 0)))), (b3, .inl (d3, 1024, .inr (.inl (fun _ => 0))))] := hD
  refine W.widen (k := 3) (n := 3072) (by decide) (by decide) ?_
  exact rt_v hx hb hr hlocks (((b1, d1), (b2, d2), (b3, d3))) trivial (hP.sub [0, 1, 2, 3] rfl) (hK.sub [0, 1, 2] rfl) (hD.sub [0, 1, 2, 3] (by decide) rfl) hS dX2_init_31
end
section
set_option maxRecDepth 100000
/-! THE CLAIM OUT OF ONE WALK OF THE LAW'S BODY. Your part is whole_start (and what it stands on); all else here is the same for every law, but numbers. -/
def R_law : String := "ResidueTransformsLaw"
def lw_P (b : Addr) (xs : List Int32) (args : Array Value) (s : State) : Prop := args = #[.ref b] ∧ s.IntsAt b xs ∧ xs.length ≤ 256 ∧ (Jvm.Cond.and given_1 narrow_1).before args s = true
def lw_Q (_ : Array Value) (s : State) (o : Outcome) (t : State) : Prop := o = .returned (some (.int 1)) ∧ Framed s o t [] 600000 7290000
def lw_Z (below : List Frame) (a : Array Value) (s : State) : State → Prop := fun t => ∃ o, t.status = .running ∧ Ended t below o ∧ lw_Q a s o t
/-- the law's own end, with 1 on the stack, nothing written that was there before, its room as the claim has it -/
theorem lw_ret {p : Program} {l : Launch} {e : Env} {s : State} {m : MethodId} {below : List Frame} {meth : Method} {c : Code} {b : Nat} (hx : p.tables.exec = Jvm.exec) (hb : c.code = code) (hr : meth.sig.returnType = ret) (hlocks : meth.locks = false) {pc : Nat} {H : Heap} {ls : Array Slot} (hdg : decode code pc = .ok (.ireturn, 1)) : W p l e room_1 s m #[Value.ref b] below meth c H [] 600000 7290000 (lw_Z below #[Value.ref b] s) (F0 m pc ls [.int 1]) := by
  intro T hT X
  obtain ⟨fs, hret, hrun, hended, hW, hframe⟩ := X.leave (v := some (.int 1)) (hlocks := hlocks) (fun h => by rw [hr] at h; cases h)
  have hmeth' : T.vm.method? m = some meth := X.method'
  refine ⟨T.setFrames fs, ?_, .returned (some (.int 1)), hrun, hended, rfl, ⟨_, rfl⟩, hW, hframe⟩
  jvm_step X.here [X.here.top, hx, hb, hdg, hmeth', hr, ret, narrow_b1]
  (try refine ⟨rfl, ?_⟩); (try refine ⟨rfl, ?_⟩)
  first | (intro acts; rw [hret _ acts rfl rfl rfl]) | rw [hret _ _ rfl rfl rfl]
  exact Steps.refl _
/-- what holds at the law's entry: the machine, the code, the tables' words (any of lw_tbl by 'hts w (by decide +kernel)'), the script of L ints xs at the cell b, what the Statement gives of the start (any of its parts by flat_of_before) -/
def lw_At (p : Program) (s : State) (m : MethodId) (meth : Method) (c : Code) (b L : Nat) (xs : Nat → Int32) : Prop :=
  p.tables.exec = Jvm.exec ∧ c.code = code ∧ meth.sig.returnType = ret ∧ c.maxLocals = 4 ∧ s.vm.findClass R_law = some m.cls ∧ (∀ w ∈ lw_tbl, w.before #[Value.ref b] s = true) ∧ va_X b L xs s s.heap ∧ b < s.heap.size ∧ meth.locks = false ∧ (Jvm.Cond.and given_1 narrow_1).before #[Value.ref b] s = true
end
section
theorem law_in {L i : Nat} (hL : L ≤ 256) (hi : i ≤ 256) (h : ¬ nI L - nI 4 < nI i) : i + 4 ≤ L := by
  rw [Int32.lt_iff_toInt_lt, pk_sub_toInt (by omega) (by omega), nI_toInt (by omega)] at h
  omega
theorem sp_times_cong {n p : Int32} {row k k' : Nat → Int64} (h : ∀ j, j < 1024 → k j = k' j) : sp_times n p row k = sp_times n p row k' := by
  classical
  funext j
  unfold sp_times
  by_cases q : sp_tans n p = 0 ∧ j < n.toNatClampNeg
  · rw [if_pos q, if_pos q]
    have hb : ¬ sp_badt n := by
      intro z
      rw [sp_tans_1 z] at q
      exact absurd q.1 (by decide)
    have hn : ¬ (1024 : Int32) < n := fun z => hb (Or.inr z)
    rw [Int32.lt_iff_toInt_lt] at hn
    have e : (1024 : Int32).toInt = 1024 := rfl
    rw [e] at hn
    have hj : j < 1024 := by
      have := q.2
      unfold Int32.toNatClampNeg at this
      omega
    rw [h j hj]
  · rw [if_neg q, if_neg q]
theorem bt_nn {n : Int32} (h : ¬ sp_badt n) : ∃ nn : Nat, nn ≤ 1024 ∧ n = nI nn := by
  refine bt_in (fun q => h (Or.inl q)) ?_
  have hn : ¬ (1024 : Int32) < n := fun z => h (Or.inr z)
  rw [Int32.lt_iff_toInt_lt] at hn
  rw [Int32.le_iff_toInt_le]
  exact Int.not_lt.mp hn
theorem sp_kp_rel {n : Int32} {fr k0 k2 u1 : Nat → Int64} {kn : Nat} {u2 : (Nat → Int64) × Int32} (hkn : kn ≤ 1024) (hrel : ∀ k, k < 1024 → k0 k = if k < kn then k2 k else 0) (h1 : u1 = sp_keep n fr k0) (h2 : sp_kp n fr k2 (nI kn) u2) : ∃ kn' : Nat, kn' ≤ 1024 ∧ u2.2 = nI kn' ∧ ∀ k, k < 1024 → u1 k = if k < kn' then u2.1 k else 0 := by
  classical
  by_cases hb : sp_badt n
  · refine ⟨kn, hkn, by rw [h2.1 hb], ?_⟩
    rw [h1, sp_keep_b hb, h2.1 hb]
    exact hrel
  · obtain ⟨nn, hn, rfl⟩ := bt_nn hb
    have e := h2.2 nn hn rfl
    refine ⟨nn, hn, by rw [e], fun k hk => ?_⟩
    rw [h1, sp_keep_g hb, e, nI_clamp (by omega)]
    show (if k < 1024 then (if k < nn then fr k else 0) else k0 k) = if k < nn then (if k < nn then fr k else k2 k) else 0
    rw [if_pos hk]
    by_cases q : k < nn
    · rw [if_pos q, if_pos q, if_pos q]
    · rw [if_neg q, if_neg q]
section Law53
variable {p : Program} {l : Launch} {e : Env} {R : Room} {s : State} {m : MethodId} {args : Array Value} {below : List Frame} {meth : Method} {c : Code} {H : Heap} {locs : List Loc} {cells slots : Nat} {Q : State → Prop}
variable {cc : ByteArray} {pc : Nat} {ls : Array Slot} {rest : List Value} {A : Nat → Prop} {H0 : Heap}
theorem nv_sld (hexec : p.tables.exec = Jvm.exec) (hb : c.code = cc) {b L : Nat} {xs : Nat → Int32} (hX : va_X b L xs s H0) (hbl : b < H0.size) (hbA : ¬ A b) (hS : va_S A H0 H locs) {i : Nat} (hi : i < L) (hL : L < 2 ^ 31) (hdg : decode cc pc = .ok (.iaload, 1))
    (kk : W p l e R s m args below meth c H locs cells slots Q (F0 m (pc + 1) ls (.int (xs i) :: rest))) : W p l e R s m args below meth c H locs cells slots Q (F0 m pc ls (.int (nI i) :: .ref b :: rest)) :=
  va_sld hexec hb hX hbl hbA hS (vp_in_nI hi hL) hdg (by rw [nI_clamp (Nat.lt_trans hi hL)]; exact kk)
end Law53
end
section
set_option maxHeartbeats 4000000 in
set_option maxRecDepth 100000 in
/-- the law, at the head of its loop: both objects hold the same row, and the same numbers kept -/
theorem lp_law {p : Program} {l : Launch} {e : Env} {s : State} {m : MethodId} {args : Array Value} {below : List Frame} {meth : Method} {c : Code} {Q : State → Prop} {dC : Nat → ClassId} {dI : Nat → Nat → Nat} {A : Nat → Prop} {b L : Nat} {xs : Nat → Int32} {o1 a1 a2 a3 a4 o2 b1 b2 b3 : Nat} {d4 d2 d3 e1 e2 e3 : ClassId} (hx : p.tables.exec = Jvm.exec) (hb : c.code = cL_law) (hml : c.maxLocals = 4) (hown : s.vm.findClass R_law = some m.cls) (hts : ∀ w ∈ lw_all, w.before args s = true) (hA : ∀ q : Nat, s.heap.size ≤ q → A q) (hK : va_K (dC, dI) vwCl [(d4, .long), (d2, .long), (d3, .long), (e1, .long), (e2, .long), (e3, .long)] s) (hL : L ≤ 256) (hX : va_X b L xs s s.heap) (hbl : b < s.heap.size) (hbA : ¬ A b) (hQ : ∀ (H : Heap) (locs : List Loc), va_P (dC, dI) vwCl [] H → va_D A [] → va_S A s.heap H locs → ∀ (ls : Array Slot), lv_has ls 4 [] → W p l e room_1 s m args below meth c H locs 9 6153 Q (F0 m 314 ls [])) :
    ∀ (fuel : Nat) (i : Nat) (kn : Nat) (pv : Int64) (fw : Nat → Int64) (fr : Nat → Int64) (k0 : Nat → Int64) (k2 : Nat → Int64) (fv : Nat → Int64), (i ≤ 256) → (kn ≤ 1024) → (∀ k, k < 1024 → k0 k = if k < kn then k2 k else 0) → L + 4 - i < fuel → ∀ (H : Heap) (locs : List Loc), va_P (dC, dI) vwCl [(o1, .inr (0, [.ref a1, .ref a2, .ref a3])), (a1, .inr (1, [.ref a4, .long pv])), (a4, .inl (d4, 1024, .inr (.inl fw))), (a2, .inl (d2, 1024, .inr (.inl fr))), (a3, .inl (d3, 1024, .inr (.inl k0))), (o2, .inr (2, [.ref b1, .ref b2, .ref b3, .int (nI kn)])), (b1, .inl (e1, 1024, .inr (.inl fr))), (b2, .inl (e2, 1024, .inr (.inl k2))), (b3, .inl (e3, 1024, .inr (.inl fv)))] H → va_D A [(o1, .inr (0, [.ref a1, .ref a2, .ref a3])), (a1, .inr (1, [.ref a4, .long pv])), (a4, .inl (d4, 1024, .inr (.inl fw))), (a2, .inl (d2, 1024, .inr (.inl fr))), (a3, .inl (d3, 1024, .inr (.inl k0))), (o2, .inr (2, [.ref b1, .ref b2, .ref b3, .int (nI kn)])), (b1, .inl (e1, 1024, .inr (.inl fr))), (b2, .inl (e2, 1024, .inr (.inl k2))), (b3, .inl (e3, 1024, .inr (.inl fv)))] → va_S A s.heap H locs → ∀ (ls : Array Slot), lv_has ls 4 [(3, .int (nI i)), (2, .ref o2), (1, .ref o1), (0, .ref b)] → W p l e room_1 s m args below meth c H locs 9 6153 Q (F0 m 18 ls []) := by
  intro fuel
  induction fuel with
  | zero =>
    intro i kn pv fw fr k0 k2 fv hi hkn hrel hfu
    exact absurd hfu (Nat.not_lt_zero _)
  | succ fuel ih =>
    intro i kn pv fw fr k0 k2 fv hi hkn hrel hfu H locs hP hD hS ls hl
    refine lv_iload_n hx hb dL_law_18 rfl (lv_at hl 0 rfl) ?_
    refine lv_aload_n hx hb dL_law_19 rfl (lv_at hl 3 rfl) ?_
    refine va_slen hx hb hX hbl hbA hS dL_law_20 ?_
    refine nv_ci (y := nI L) rfl ?_
    refine lv_iconst (v := nI 4) hx hb dL_law_21 (by decide) ?_
    refine lv_isub hx hb dL_law_22 ?_
    refine lv_icmp_gt (tgt := 314) hx hb dL_law_23 (by decide) (fun hc => ?_) (fun hc => ?_)
    · exact hQ H locs (hP.sub [] rfl) (hD.sub [] (by decide) rfl) hS ls (lv_sub hl [] rfl)
    · have hiL := law_in hL hi hc
      refine lv_aload_n hx hb dL_law_26 rfl (lv_at hl 3 rfl) ?_
      refine lv_iload_n hx hb dL_law_27 rfl (lv_at hl 0 rfl) ?_
      refine nv_sld (i := i) hx hb hX hbl hbA hS (by omega) (by omega) dL_law_28 ?_
      refine lv_bipush (v := nI 7) hx hb dL_law_29 (by decide) ?_
      refine lv_iand hx hb dL_law_31 ?_
      obtain ⟨j, hj, ej⟩ := pk_andE (xs i) (m := nI 7) 3 (by decide)
      refine nv_ci (y := nI j) ej ?_
      rcases (show j = 0 ∨ j = 1 ∨ j = 2 ∨ j = 3 ∨ j = 4 ∨ j = 5 ∨ j = 6 ∨ j = 7 by omega) with rfl | rfl | rfl | rfl | rfl | rfl | rfl | rfl
      · refine lv_tableIn (off := 40) (tgt := 72) hx hb dL_law_32 (by decide) (by decide) rfl (by decide) ?_
        refine lv_aload_n hx hb dL_law_72 rfl (lv_at hl 2 rfl) ?_
        refine lv_aload_n hx hb dL_law_73 rfl (lv_at hl 3 rfl) ?_
        refine lv_iload_n hx hb dL_law_74 rfl (lv_at hl 0 rfl) ?_
        refine lv_iconst (v := nI 1) hx hb dL_law_75 (by decide) ?_
        refine nv_iadd (a := i) (b := 1) hx hb dL_law_76  ?_
        refine nv_sld (i := i + 1) hx hb hX hbl hbA hS (by omega) (by omega) dL_law_77 ?_
        refine lv_aload_n hx hb dL_law_78 rfl (lv_at hl 3 rfl) ?_
        refine lv_iload_n hx hb dL_law_79 rfl (lv_at hl 0 rfl) ?_
        refine lv_iconst (v := nI 2) hx hb dL_law_80 (by decide) ?_
        refine nv_iadd (a := i) (b := 2) hx hb dL_law_81  ?_
        refine nv_sld (i := i + 2) hx hb hX hbl hbA hS (by omega) (by omega) dL_law_82 ?_
        refine lv_i2l (v := (xs (i + 2)).toInt64) hx hb dL_law_83 rfl ?_
        refine lv_bipush (v := nI 32) hx hb dL_law_84 (by decide) ?_
        refine lv_lshl (v := ((xs (i + 2)).toInt64) <<< ((nI 32).toInt64 &&& 63)) hx hb dL_law_86 rfl ?_
        refine lv_aload_n hx hb dL_law_87 rfl (lv_at hl 3 rfl) ?_
        refine lv_iload_n hx hb dL_law_88 rfl (lv_at hl 0 rfl) ?_
        refine lv_iconst (v := nI 3) hx hb dL_law_89 (by decide) ?_
        refine nv_iadd (a := i) (b := 3) hx hb dL_law_90  ?_
        refine nv_sld (i := i + 3) hx hb hX hbl hbA hS (by omega) (by omega) dL_law_91 ?_
        refine lv_i2l (v := (xs (i + 3)).toInt64) hx hb dL_law_92 rfl ?_
        refine lv_ldc2 hx hb hown (hts _ q164) dL_law_93 ?_
        refine nv_cl (y := lN 4294967295) rfl ?_
        refine lv_land hx hb dL_law_96 ?_
        refine lv_lor hx hb dL_law_97 ?_
        refine lv_topl (fun v1 ev1 => ?_)
        refine cl_i (wc := [(o1, .inr (0, [.ref a1, .ref a2, .ref a3])), (a2, .inl (d2, 1024, .inr (.inl fr)))]) (wr := [(a1, .inr (1, [.ref a4, .long pv])), (a4, .inl (d4, 1024, .inr (.inl fw))), (a3, .inl (d3, 1024, .inr (.inl k0))), (o2, .inr (2, [.ref b1, .ref b2, .ref b3, .int (nI kn)])), (b1, .inl (e1, 1024, .inr (.inl fr))), (b2, .inl (e2, 1024, .inr (.inl k2))), (b3, .inl (e3, 1024, .inr (.inl fv)))]) (va_runV (As := [.int (xs (i + 1)), .long v1]) (rest := []) ⟨hx, hb, hml, hown, hts⟩ (metX0_put l dC dI H.size o1 a1 a2 a3 d2 fr (xs (i + 1)) v1) (cwV 2 hts (lw_V q42 q43 q44 q4 q45) rfl rfl rfl (by decide +kernel) ⟨Nat.le_of_ble_eq_true rfl, Nat.le_of_ble_eq_true rfl⟩) (preV (wc := [(o1, .inr (0, [.ref a1, .ref a2, .ref a3])), (a2, .inl (d2, 1024, .inr (.inl fr)))]) (tc := [(d2, .long)]) (ci := 0) hK hP hD [0, 3] (by decide) rfl [1] rfl rfl rfl) rfl rfl hl.1 rfl (lv_room (Nat.le_of_ble_eq_true rfl)) dL_law_98 ⟨Nat.le_of_ble_eq_true rfl, Nat.le_of_ble_eq_true rfl⟩) hP hD hS hA [0, 3] [1, 2, 4, 5, 6, 7, 8] rfl rfl (by decide) (by decide) (fun r1 u1 H locs hw1 hP hD hK1 hS => ?_)
        have hP : va_P (dC, dI) vwCl [(a1, .inr (1, [.ref a4, .long pv])), (a4, .inl (d4, 1024, .inr (.inl fw))), (a3, .inl (d3, 1024, .inr (.inl k0))), (o2, .inr (2, [.ref b1, .ref b2, .ref b3, .int (nI kn)])), (b1, .inl (e1, 1024, .inr (.inl fr))), (b2, .inl (e2, 1024, .inr (.inl k2))), (b3, .inl (e3, 1024, .inr (.inl fv))), (o1, .inr (0, [.ref a1, .ref a2, .ref a3])), (a2, .inl (d2, 1024, .inr (.inl u1)))] H := hP
        have hD : va_D A [(a1, .inr (1, [.ref a4, .long pv])), (a4, .inl (d4, 1024, .inr (.inl fw))), (a3, .inl (d3, 1024, .inr (.inl k0))), (o2, .inr (2, [.ref b1, .ref b2, .ref b3, .int (nI kn)])), (b1, .inl (e1, 1024, .inr (.inl fr))), (b2, .inl (e2, 1024, .inr (.inl k2))), (b3, .inl (e3, 1024, .inr (.inl fv))), (o1, .inr (0, [.ref a1, .ref a2, .ref a3])), (a2, .inl (d2, 1024, .inr (.inl u1)))] := hD
        refine lv_aload_n hx hb dL_law_101 rfl (lv_at hl 1 rfl) ?_
        refine lv_aload_n hx hb dL_law_102 rfl (lv_at hl 3 rfl) ?_
        refine lv_iload_n hx hb dL_law_103 rfl (lv_at hl 0 rfl) ?_
        refine lv_iconst (v := nI 1) hx hb dL_law_104 (by decide) ?_
        refine nv_iadd (a := i) (b := 1) hx hb dL_law_105  ?_
        refine nv_sld (i := i + 1) hx hb hX hbl hbA hS (by omega) (by omega) dL_law_106 ?_
        refine lv_aload_n hx hb dL_law_107 rfl (lv_at hl 3 rfl) ?_
        refine lv_iload_n hx hb dL_law_108 rfl (lv_at hl 0 rfl) ?_
        refine lv_iconst (v := nI 2) hx hb dL_law_109 (by decide) ?_
        refine nv_iadd (a := i) (b := 2) hx hb dL_law_110  ?_
        refine nv_sld (i := i + 2) hx hb hX hbl hbA hS (by omega) (by omega) dL_law_111 ?_
        refine lv_i2l (v := (xs (i + 2)).toInt64) hx hb dL_law_112 rfl ?_
        refine lv_bipush (v := nI 32) hx hb dL_law_113 (by decide) ?_
        refine lv_lshl (v := ((xs (i + 2)).toInt64) <<< ((nI 32).toInt64 &&& 63)) hx hb dL_law_115 rfl ?_
        refine lv_aload_n hx hb dL_law_116 rfl (lv_at hl 3 rfl) ?_
        refine lv_iload_n hx hb dL_law_117 rfl (lv_at hl 0 rfl) ?_
        refine lv_iconst (v := nI 3) hx hb dL_law_118 (by decide) ?_
        refine nv_iadd (a := i) (b := 3) hx hb dL_law_119  ?_
        refine nv_sld (i := i + 3) hx hb hX hbl hbA hS (by omega) (by omega) dL_law_120 ?_
        refine lv_i2l (v := (xs (i + 3)).toInt64) hx hb dL_law_121 rfl ?_
        refine lv_ldc2 hx hb hown (hts _ q164) dL_law_122 ?_
        refine nv_cl (y := lN 4294967295) rfl ?_
        refine lv_land hx hb dL_law_125 ?_
        refine lv_lor hx hb dL_law_126 ?_
        refine lv_topl (fun v2 ev2 => ?_)
        have ev : v2 = v1 := ev2.trans ev1.symm
        refine cl_i (wc := [(o2, .inr (2, [.ref b1, .ref b2, .ref b3, .int (nI kn)])), (b1, .inl (e1, 1024, .inr (.inl fr)))]) (wr := [(a1, .inr (1, [.ref a4, .long pv])), (a4, .inl (d4, 1024, .inr (.inl fw))), (a3, .inl (d3, 1024, .inr (.inl k0))), (b2, .inl (e2, 1024, .inr (.inl k2))), (b3, .inl (e3, 1024, .inr (.inl fv))), (o1, .inr (0, [.ref a1, .ref a2, .ref a3])), (a2, .inl (d2, 1024, .inr (.inl u1)))]) (va_runV (As := [.int (xs (i + 1)), .long v2]) (rest := [.int r1]) ⟨hx, hb, hml, hown, hts⟩ (metX2_put l dC dI H.size o2 b1 b2 b3 (nI kn) e1 fr (xs (i + 1)) v2) (cwV 2 hts (lw_V q123 q124 q125 q6 q126) rfl rfl rfl (by decide +kernel) ⟨Nat.le_of_ble_eq_true rfl, Nat.le_of_ble_eq_true rfl⟩) (preV (wc := [(o2, .inr (2, [.ref b1, .ref b2, .ref b3, .int (nI kn)])), (b1, .inl (e1, 1024, .inr (.inl fr)))]) (tc := [(e1, .long)]) (ci := 2) hK hP hD [3, 4] (by decide) rfl [3] rfl rfl rfl) rfl rfl hl.1 rfl (lv_room (Nat.le_of_ble_eq_true rfl)) dL_law_127 ⟨Nat.le_of_ble_eq_true rfl, Nat.le_of_ble_eq_true rfl⟩) hP hD hS hA [3, 4] [0, 1, 2, 5, 6, 7, 8] rfl rfl (by decide) (by decide) (fun r2 u2 H locs hw2 hP hD hK1 hS => ?_)
        have hP : va_P (dC, dI) vwCl [(a1, .inr (1, [.ref a4, .long pv])), (a4, .inl (d4, 1024, .inr (.inl fw))), (a3, .inl (d3, 1024, .inr (.inl k0))), (b2, .inl (e2, 1024, .inr (.inl k2))), (b3, .inl (e3, 1024, .inr (.inl fv))), (o1, .inr (0, [.ref a1, .ref a2, .ref a3])), (a2, .inl (d2, 1024, .inr (.inl u1))), (o2, .inr (2, [.ref b1, .ref b2, .ref b3, .int (nI kn)])), (b1, .inl (e1, 1024, .inr (.inl u2)))] H := hP
        have hD : va_D A [(a1, .inr (1, [.ref a4, .long pv])), (a4, .inl (d4, 1024, .inr (.inl fw))), (a3, .inl (d3, 1024, .inr (.inl k0))), (b2, .inl (e2, 1024, .inr (.inl k2))), (b3, .inl (e3, 1024, .inr (.inl fv))), (o1, .inr (0, [.ref a1, .ref a2, .ref a3])), (a2, .inl (d2, 1024, .inr (.inl u1))), (o2, .inr (2, [.ref b1, .ref b2, .ref b3, .int (nI kn)])), (b1, .inl (e1, 1024, .inr (.inl u2)))] := hD
        have e12 : u2 = u1 := by rw [hw2.2, hw1.2, ev]
        refine lv_icmp_eq (tgt := 308) hx hb dL_law_130 (by decide) (fun hce => ?_) (fun hce => ?_)
        · rw [e12] at hP hD
          refine lv_iinc (v := nI (i + 4)) (lv' := [(3, .int (nI (i + 4))), (2, .ref o2), (1, .ref o1), (0, .ref b)]) hx hb dL_law_308 hl (k := 0) rfl (nI_add _ 4) (by decide) rfl (fun ls hl => ?_)
          refine lv_goto (tgt := 18) hx hb dL_law_311 (by decide) ?_
          exact ih (i + 4) kn pv fw u1 k0 k2 fv (by omega) hkn hrel (by omega) H locs (hP.sub [5, 0, 1, 6, 2, 7, 8, 3, 4] rfl) (hD.sub [5, 0, 1, 6, 2, 7, 8, 3, 4] (by decide) rfl) hS ls (lv_sub hl [0, 1, 2, 3] rfl)
        · exact absurd (sp_b_eq hw1.1 hw2.1) hce
      · refine lv_tableIn (off := 103) (tgt := 135) hx hb dL_law_32 (by decide) (by decide) rfl (by decide) ?_
        refine lv_aload_n hx hb dL_law_135 rfl (lv_at hl 2 rfl) ?_
        refine lv_aload_n hx hb dL_law_136 rfl (lv_at hl 3 rfl) ?_
        refine lv_iload_n hx hb dL_law_137 rfl (lv_at hl 0 rfl) ?_
        refine lv_iconst (v := nI 1) hx hb dL_law_138 (by decide) ?_
        refine nv_iadd (a := i) (b := 1) hx hb dL_law_139  ?_
        refine nv_sld (i := i + 1) hx hb hX hbl hbA hS (by omega) (by omega) dL_law_140 ?_
        refine cl_l (wc := [(o1, .inr (0, [.ref a1, .ref a2, .ref a3])), (a2, .inl (d2, 1024, .inr (.inl fr)))]) (wr := [(a1, .inr (1, [.ref a4, .long pv])), (a4, .inl (d4, 1024, .inr (.inl fw))), (a3, .inl (d3, 1024, .inr (.inl k0))), (o2, .inr (2, [.ref b1, .ref b2, .ref b3, .int (nI kn)])), (b1, .inl (e1, 1024, .inr (.inl fr))), (b2, .inl (e2, 1024, .inr (.inl k2))), (b3, .inl (e3, 1024, .inr (.inl fv)))]) (va_runV (As := [.int (xs (i + 1))]) (rest := []) ⟨hx, hb, hml, hown, hts⟩ (metX0_get l dC dI H.size o1 a1 a2 a3 d2 fr (xs (i + 1))) (cwV 1 hts (lw_V q49 q50 q51 q4 q52) rfl rfl rfl (by decide +kernel) ⟨Nat.le_of_ble_eq_true rfl, Nat.le_of_ble_eq_true rfl⟩) (preV (wc := [(o1, .inr (0, [.ref a1, .ref a2, .ref a3])), (a2, .inl (d2, 1024, .inr (.inl fr)))]) (tc := [(d2, .long)]) (ci := 0) hK hP hD [0, 3] (by decide) rfl [1] rfl rfl rfl) rfl rfl hl.1 rfl (lv_room (Nat.le_of_ble_eq_true rfl)) dL_law_141 ⟨Nat.le_of_ble_eq_true rfl, Nat.le_of_ble_eq_true rfl⟩) hP hD hS hA [0, 3] [1, 2, 4, 5, 6, 7, 8] rfl rfl (by decide) (by decide) (fun r1 u1 H locs hw1 hP hD hK1 hS => ?_)
        have hP : va_P (dC, dI) vwCl [(a1, .inr (1, [.ref a4, .long pv])), (a4, .inl (d4, 1024, .inr (.inl fw))), (a3, .inl (d3, 1024, .inr (.inl k0))), (o2, .inr (2, [.ref b1, .ref b2, .ref b3, .int (nI kn)])), (b1, .inl (e1, 1024, .inr (.inl fr))), (b2, .inl (e2, 1024, .inr (.inl k2))), (b3, .inl (e3, 1024, .inr (.inl fv))), (o1, .inr (0, [.ref a1, .ref a2, .ref a3])), (a2, .inl (d2, 1024, .inr (.inl fr)))] H := hP
        have hD : va_D A [(a1, .inr (1, [.ref a4, .long pv])), (a4, .inl (d4, 1024, .inr (.inl fw))), (a3, .inl (d3, 1024, .inr (.inl k0))), (o2, .inr (2, [.ref b1, .ref b2, .ref b3, .int (nI kn)])), (b1, .inl (e1, 1024, .inr (.inl fr))), (b2, .inl (e2, 1024, .inr (.inl k2))), (b3, .inl (e3, 1024, .inr (.inl fv))), (o1, .inr (0, [.ref a1, .ref a2, .ref a3])), (a2, .inl (d2, 1024, .inr (.inl fr)))] := hD
        refine lv_aload_n hx hb dL_law_144 rfl (lv_at hl 1 rfl) ?_
        refine lv_aload_n hx hb dL_law_145 rfl (lv_at hl 3 rfl) ?_
        refine lv_iload_n hx hb dL_law_146 rfl (lv_at hl 0 rfl) ?_
        refine lv_iconst (v := nI 1) hx hb dL_law_147 (by decide) ?_
        refine nv_iadd (a := i) (b := 1) hx hb dL_law_148  ?_
        refine nv_sld (i := i + 1) hx hb hX hbl hbA hS (by omega) (by omega) dL_law_149 ?_
        refine cl_l (wc := [(o2, .inr (2, [.ref b1, .ref b2, .ref b3, .int (nI kn)])), (b1, .inl (e1, 1024, .inr (.inl fr)))]) (wr := [(a1, .inr (1, [.ref a4, .long pv])), (a4, .inl (d4, 1024, .inr (.inl fw))), (a3, .inl (d3, 1024, .inr (.inl k0))), (b2, .inl (e2, 1024, .inr (.inl k2))), (b3, .inl (e3, 1024, .inr (.inl fv))), (o1, .inr (0, [.ref a1, .ref a2, .ref a3])), (a2, .inl (d2, 1024, .inr (.inl fr)))]) (va_runV (As := [.int (xs (i + 1))]) (rest := [.long r1]) ⟨hx, hb, hml, hown, hts⟩ (metX2_get l dC dI H.size o2 b1 b2 b3 (nI kn) e1 fr (xs (i + 1))) (cwV 1 hts (lw_V q127 q128 q129 q6 q130) rfl rfl rfl (by decide +kernel) ⟨Nat.le_of_ble_eq_true rfl, Nat.le_of_ble_eq_true rfl⟩) (preV (wc := [(o2, .inr (2, [.ref b1, .ref b2, .ref b3, .int (nI kn)])), (b1, .inl (e1, 1024, .inr (.inl fr)))]) (tc := [(e1, .long)]) (ci := 2) hK hP hD [3, 4] (by decide) rfl [3] rfl rfl rfl) rfl rfl hl.1 rfl (lv_room (Nat.le_of_ble_eq_true rfl)) dL_law_150 ⟨Nat.le_of_ble_eq_true rfl, Nat.le_of_ble_eq_true rfl⟩) hP hD hS hA [3, 4] [0, 1, 2, 5, 6, 7, 8] rfl rfl (by decide) (by decide) (fun r2 u2 H locs hw2 hP hD hK1 hS => ?_)
        have hP : va_P (dC, dI) vwCl [(a1, .inr (1, [.ref a4, .long pv])), (a4, .inl (d4, 1024, .inr (.inl fw))), (a3, .inl (d3, 1024, .inr (.inl k0))), (b2, .inl (e2, 1024, .inr (.inl k2))), (b3, .inl (e3, 1024, .inr (.inl fv))), (o1, .inr (0, [.ref a1, .ref a2, .ref a3])), (a2, .inl (d2, 1024, .inr (.inl fr))), (o2, .inr (2, [.ref b1, .ref b2, .ref b3, .int (nI kn)])), (b1, .inl (e1, 1024, .inr (.inl fr)))] H := hP
        have hD : va_D A [(a1, .inr (1, [.ref a4, .long pv])), (a4, .inl (d4, 1024, .inr (.inl fw))), (a3, .inl (d3, 1024, .inr (.inl k0))), (b2, .inl (e2, 1024, .inr (.inl k2))), (b3, .inl (e3, 1024, .inr (.inl fv))), (o1, .inr (0, [.ref a1, .ref a2, .ref a3])), (a2, .inl (d2, 1024, .inr (.inl fr))), (o2, .inr (2, [.ref b1, .ref b2, .ref b3, .int (nI kn)])), (b1, .inl (e1, 1024, .inr (.inl fr)))] := hD
        refine W.lcmp hx hb dL_law_153 ?_
        refine lv_if_eq (tgt := 308) hx hb dL_law_154 (by decide) (fun hce => ?_) (fun hce => ?_)
        · refine lv_iinc (v := nI (i + 4)) (lv' := [(3, .int (nI (i + 4))), (2, .ref o2), (1, .ref o1), (0, .ref b)]) hx hb dL_law_308 hl (k := 0) rfl (nI_add _ 4) (by decide) rfl (fun ls hl => ?_)
          refine lv_goto (tgt := 18) hx hb dL_law_311 (by decide) ?_
          exact ih (i + 4) kn pv fw fr k0 k2 fv (by omega) hkn hrel (by omega) H locs (hP.sub [5, 0, 1, 6, 2, 7, 8, 3, 4] rfl) (hD.sub [5, 0, 1, 6, 2, 7, 8, 3, 4] (by decide) rfl) hS ls (lv_sub hl [0, 1, 2, 3] rfl)
        · exact absurd ((lg_cmp_eq _ _).mpr (hw1.trans hw2.symm)) hce
      · refine lv_tableIn (off := 127) (tgt := 159) hx hb dL_law_32 (by decide) (by decide) rfl (by decide) ?_
        refine lv_aload_n hx hb dL_law_159 rfl (lv_at hl 2 rfl) ?_
        refine lv_aload_n hx hb dL_law_160 rfl (lv_at hl 3 rfl) ?_
        refine lv_iload_n hx hb dL_law_161 rfl (lv_at hl 0 rfl) ?_
        refine lv_iconst (v := nI 1) hx hb dL_law_162 (by decide) ?_
        refine nv_iadd (a := i) (b := 1) hx hb dL_law_163  ?_
        refine nv_sld (i := i + 1) hx hb hX hbl hbA hS (by omega) (by omega) dL_law_164 ?_
        refine lv_aload_n hx hb dL_law_165 rfl (lv_at hl 3 rfl) ?_
        refine lv_iload_n hx hb dL_law_166 rfl (lv_at hl 0 rfl) ?_
        refine lv_iconst (v := nI 2) hx hb dL_law_167 (by decide) ?_
        refine nv_iadd (a := i) (b := 2) hx hb dL_law_168  ?_
        refine nv_sld (i := i + 2) hx hb hX hbl hbA hS (by omega) (by omega) dL_law_169 ?_
        refine lv_aload_n hx hb dL_law_170 rfl (lv_at hl 3 rfl) ?_
        refine lv_iload_n hx hb dL_law_171 rfl (lv_at hl 0 rfl) ?_
        refine lv_iconst (v := nI 3) hx hb dL_law_172 (by decide) ?_
        refine nv_iadd (a := i) (b := 3) hx hb dL_law_173  ?_
        refine nv_sld (i := i + 3) hx hb hX hbl hbA hS (by omega) (by omega) dL_law_174 ?_
        refine lv_if_eq (tgt := 182) hx hb dL_law_175 (by decide) (fun hc2 => ?_) (fun hc2 => ?_)
        · refine lv_iconst (v := nI 0) hx hb dL_law_182 (by decide) ?_
          refine cl_i (wc := [(o1, .inr (0, [.ref a1, .ref a2, .ref a3])), (a1, .inr (1, [.ref a4, .long pv])), (a4, .inl (d4, 1024, .inr (.inl fw))), (a2, .inl (d2, 1024, .inr (.inl fr)))]) (wr := [(a3, .inl (d3, 1024, .inr (.inl k0))), (o2, .inr (2, [.ref b1, .ref b2, .ref b3, .int (nI kn)])), (b1, .inl (e1, 1024, .inr (.inl fr))), (b2, .inl (e2, 1024, .inr (.inl k2))), (b3, .inl (e3, 1024, .inr (.inl fv)))]) (va_runV (As := [.int (xs (i + 1)), .int (xs (i + 2)), .int (nI 0)]) (rest := []) ⟨hx, hb, hml, hown, hts⟩ (metX0_transform l dC dI H.size o1 a1 a2 a3 a4 d2 d4 pv fw fr (xs (i + 1)) (xs (i + 2)) (nI 0)) (cwV 3 hts (lw_V q53 q54 q55 q4 q56) rfl rfl rfl (by decide +kernel) ⟨Nat.le_of_ble_eq_true rfl, Nat.le_of_ble_eq_true rfl⟩) (preV (wc := [(o1, .inr (0, [.ref a1, .ref a2, .ref a3])), (a1, .inr (1, [.ref a4, .long pv])), (a4, .inl (d4, 1024, .inr (.inl fw))), (a2, .inl (d2, 1024, .inr (.inl fr)))]) (tc := [(d4, .long), (d2, .long)]) (ci := 0) hK hP hD [0, 1, 2, 3] (by decide) rfl [0, 1] rfl rfl rfl) rfl rfl hl.1 rfl (lv_room (Nat.le_of_ble_eq_true rfl)) dL_law_183 ⟨Nat.le_of_ble_eq_true rfl, Nat.le_of_ble_eq_true rfl⟩) hP hD hS hA [0, 1, 2, 3] [4, 5, 6, 7, 8] rfl rfl (by decide) (by decide) (fun r1 u1 H locs hw1 hP hD hK1 hS => ?_)
          have hP : va_P (dC, dI) vwCl [(a3, .inl (d3, 1024, .inr (.inl k0))), (o2, .inr (2, [.ref b1, .ref b2, .ref b3, .int (nI kn)])), (b1, .inl (e1, 1024, .inr (.inl fr))), (b2, .inl (e2, 1024, .inr (.inl k2))), (b3, .inl (e3, 1024, .inr (.inl fv))), (o1, .inr (0, [.ref a1, .ref a2, .ref a3])), (a1, .inr (1, [.ref a4, .long u1.2.2])), (a4, .inl (d4, 1024, .inr (.inl u1.2.1))), (a2, .inl (d2, 1024, .inr (.inl u1.1)))] H := hP
          have hD : va_D A [(a3, .inl (d3, 1024, .inr (.inl k0))), (o2, .inr (2, [.ref b1, .ref b2, .ref b3, .int (nI kn)])), (b1, .inl (e1, 1024, .inr (.inl fr))), (b2, .inl (e2, 1024, .inr (.inl k2))), (b3, .inl (e3, 1024, .inr (.inl fv))), (o1, .inr (0, [.ref a1, .ref a2, .ref a3])), (a1, .inr (1, [.ref a4, .long u1.2.2])), (a4, .inl (d4, 1024, .inr (.inl u1.2.1))), (a2, .inl (d2, 1024, .inr (.inl u1.1)))] := hD
          refine lv_aload_n hx hb dL_law_186 rfl (lv_at hl 1 rfl) ?_
          refine lv_aload_n hx hb dL_law_187 rfl (lv_at hl 3 rfl) ?_
          refine lv_iload_n hx hb dL_law_188 rfl (lv_at hl 0 rfl) ?_
          refine lv_iconst (v := nI 1) hx hb dL_law_189 (by decide) ?_
          refine nv_iadd (a := i) (b := 1) hx hb dL_law_190  ?_
          refine nv_sld (i := i + 1) hx hb hX hbl hbA hS (by omega) (by omega) dL_law_191 ?_
          refine lv_aload_n hx hb dL_law_192 rfl (lv_at hl 3 rfl) ?_
          refine lv_iload_n hx hb dL_law_193 rfl (lv_at hl 0 rfl) ?_
          refine lv_iconst (v := nI 2) hx hb dL_law_194 (by decide) ?_
          refine nv_iadd (a := i) (b := 2) hx hb dL_law_195  ?_
          refine nv_sld (i := i + 2) hx hb hX hbl hbA hS (by omega) (by omega) dL_law_196 ?_
          refine lv_aload_n hx hb dL_law_197 rfl (lv_at hl 3 rfl) ?_
          refine lv_iload_n hx hb dL_law_198 rfl (lv_at hl 0 rfl) ?_
          refine lv_iconst (v := nI 3) hx hb dL_law_199 (by decide) ?_
          refine nv_iadd (a := i) (b := 3) hx hb dL_law_200  ?_
          refine nv_sld (i := i + 3) hx hb hX hbl hbA hS (by omega) (by omega) dL_law_201 ?_
          refine lv_if_eq (tgt := 209) hx hb dL_law_202 (by decide) (fun hc3 => ?_) (fun hc3 => ?_)
          · refine lv_iconst (v := nI 0) hx hb dL_law_209 (by decide) ?_
            refine cl_i (wc := [(o2, .inr (2, [.ref b1, .ref b2, .ref b3, .int (nI kn)])), (b1, .inl (e1, 1024, .inr (.inl fr))), (b3, .inl (e3, 1024, .inr (.inl fv)))]) (wr := [(a3, .inl (d3, 1024, .inr (.inl k0))), (b2, .inl (e2, 1024, .inr (.inl k2))), (o1, .inr (0, [.ref a1, .ref a2, .ref a3])), (a1, .inr (1, [.ref a4, .long u1.2.2])), (a4, .inl (d4, 1024, .inr (.inl u1.2.1))), (a2, .inl (d2, 1024, .inr (.inl u1.1)))]) (va_runV (As := [.int (xs (i + 1)), .int (xs (i + 2)), .int (nI 0)]) (rest := [.int r1]) ⟨hx, hb, hml, hown, hts⟩ (metX2_transform l dC dI H.size o2 b1 b2 b3 (nI kn) e1 e3 fv fr (xs (i + 1)) (xs (i + 2)) (nI 0)) (cwV 3 hts (lw_V q149 q150 q151 q6 q152) rfl rfl rfl (by decide +kernel) ⟨Nat.le_of_ble_eq_true rfl, Nat.le_of_ble_eq_true rfl⟩) (preV (wc := [(o2, .inr (2, [.ref b1, .ref b2, .ref b3, .int (nI kn)])), (b1, .inl (e1, 1024, .inr (.inl fr))), (b3, .inl (e3, 1024, .inr (.inl fv)))]) (tc := [(e1, .long), (e3, .long)]) (ci := 2) hK hP hD [1, 2, 4] (by decide) rfl [3, 5] rfl rfl rfl) rfl rfl hl.1 rfl (lv_room (Nat.le_of_ble_eq_true rfl)) dL_law_210 ⟨Nat.le_of_ble_eq_true rfl, Nat.le_of_ble_eq_true rfl⟩) hP hD hS hA [1, 2, 4] [0, 3, 5, 6, 7, 8] rfl rfl (by decide) (by decide) (fun r2 u2 H locs hw2 hP hD hK1 hS => ?_)
            have hP : va_P (dC, dI) vwCl [(a3, .inl (d3, 1024, .inr (.inl k0))), (b2, .inl (e2, 1024, .inr (.inl k2))), (o1, .inr (0, [.ref a1, .ref a2, .ref a3])), (a1, .inr (1, [.ref a4, .long u1.2.2])), (a4, .inl (d4, 1024, .inr (.inl u1.2.1))), (a2, .inl (d2, 1024, .inr (.inl u1.1))), (o2, .inr (2, [.ref b1, .ref b2, .ref b3, .int (nI kn)])), (b1, .inl (e1, 1024, .inr (.inl u2.1))), (b3, .inl (e3, 1024, .inr (.inl u2.2)))] H := hP
            have hD : va_D A [(a3, .inl (d3, 1024, .inr (.inl k0))), (b2, .inl (e2, 1024, .inr (.inl k2))), (o1, .inr (0, [.ref a1, .ref a2, .ref a3])), (a1, .inr (1, [.ref a4, .long u1.2.2])), (a4, .inl (d4, 1024, .inr (.inl u1.2.1))), (a2, .inl (d2, 1024, .inr (.inl u1.1))), (o2, .inr (2, [.ref b1, .ref b2, .ref b3, .int (nI kn)])), (b1, .inl (e1, 1024, .inr (.inl u2.1))), (b3, .inl (e3, 1024, .inr (.inl u2.2)))] := hD
            have e12 : u2.1 = u1.1 := hw2.2.trans hw1.2.symm
            refine lv_icmp_eq (tgt := 308) hx hb dL_law_213 (by decide) (fun hce => ?_) (fun hce => ?_)
            · rw [e12] at hP hD
              refine lv_iinc (v := nI (i + 4)) (lv' := [(3, .int (nI (i + 4))), (2, .ref o2), (1, .ref o1), (0, .ref b)]) hx hb dL_law_308 hl (k := 0) rfl (nI_add _ 4) (by decide) rfl (fun ls hl => ?_)
              refine lv_goto (tgt := 18) hx hb dL_law_311 (by decide) ?_
              exact ih (i + 4) kn u1.2.2 u1.2.1 u1.1 k0 k2 u2.2 (by omega) hkn hrel (by omega) H locs (hP.sub [2, 3, 4, 5, 0, 6, 7, 1, 8] rfl) (hD.sub [2, 3, 4, 5, 0, 6, 7, 1, 8] (by decide) rfl) hS ls (lv_sub hl [0, 1, 2, 3] rfl)
            · exact absurd (hw1.1.trans hw2.1.symm) hce
          · exact absurd hc2 hc3
        · refine lv_iconst (v := nI 1) hx hb dL_law_178 (by decide) ?_
          refine lv_goto (tgt := 183) hx hb dL_law_179 (by decide) ?_
          refine cl_i (wc := [(o1, .inr (0, [.ref a1, .ref a2, .ref a3])), (a1, .inr (1, [.ref a4, .long pv])), (a4, .inl (d4, 1024, .inr (.inl fw))), (a2, .inl (d2, 1024, .inr (.inl fr)))]) (wr := [(a3, .inl (d3, 1024, .inr (.inl k0))), (o2, .inr (2, [.ref b1, .ref b2, .ref b3, .int (nI kn)])), (b1, .inl (e1, 1024, .inr (.inl fr))), (b2, .inl (e2, 1024, .inr (.inl k2))), (b3, .inl (e3, 1024, .inr (.inl fv)))]) (va_runV (As := [.int (xs (i + 1)), .int (xs (i + 2)), .int (nI 1)]) (rest := []) ⟨hx, hb, hml, hown, hts⟩ (metX0_transform l dC dI H.size o1 a1 a2 a3 a4 d2 d4 pv fw fr (xs (i + 1)) (xs (i + 2)) (nI 1)) (cwV 3 hts (lw_V q53 q54 q55 q4 q56) rfl rfl rfl (by decide +kernel) ⟨Nat.le_of_ble_eq_true rfl, Nat.le_of_ble_eq_true rfl⟩) (preV (wc := [(o1, .inr (0, [.ref a1, .ref a2, .ref a3])), (a1, .inr (1, [.ref a4, .long pv])), (a4, .inl (d4, 1024, .inr (.inl fw))), (a2, .inl (d2, 1024, .inr (.inl fr)))]) (tc := [(d4, .long), (d2, .long)]) (ci := 0) hK hP hD [0, 1, 2, 3] (by decide) rfl [0, 1] rfl rfl rfl) rfl rfl hl.1 rfl (lv_room (Nat.le_of_ble_eq_true rfl)) dL_law_183 ⟨Nat.le_of_ble_eq_true rfl, Nat.le_of_ble_eq_true rfl⟩) hP hD hS hA [0, 1, 2, 3] [4, 5, 6, 7, 8] rfl rfl (by decide) (by decide) (fun r1 u1 H locs hw1 hP hD hK1 hS => ?_)
          have hP : va_P (dC, dI) vwCl [(a3, .inl (d3, 1024, .inr (.inl k0))), (o2, .inr (2, [.ref b1, .ref b2, .ref b3, .int (nI kn)])), (b1, .inl (e1, 1024, .inr (.inl fr))), (b2, .inl (e2, 1024, .inr (.inl k2))), (b3, .inl (e3, 1024, .inr (.inl fv))), (o1, .inr (0, [.ref a1, .ref a2, .ref a3])), (a1, .inr (1, [.ref a4, .long u1.2.2])), (a4, .inl (d4, 1024, .inr (.inl u1.2.1))), (a2, .inl (d2, 1024, .inr (.inl u1.1)))] H := hP
          have hD : va_D A [(a3, .inl (d3, 1024, .inr (.inl k0))), (o2, .inr (2, [.ref b1, .ref b2, .ref b3, .int (nI kn)])), (b1, .inl (e1, 1024, .inr (.inl fr))), (b2, .inl (e2, 1024, .inr (.inl k2))), (b3, .inl (e3, 1024, .inr (.inl fv))), (o1, .inr (0, [.ref a1, .ref a2, .ref a3])), (a1, .inr (1, [.ref a4, .long u1.2.2])), (a4, .inl (d4, 1024, .inr (.inl u1.2.1))), (a2, .inl (d2, 1024, .inr (.inl u1.1)))] := hD
          refine lv_aload_n hx hb dL_law_186 rfl (lv_at hl 1 rfl) ?_
          refine lv_aload_n hx hb dL_law_187 rfl (lv_at hl 3 rfl) ?_
          refine lv_iload_n hx hb dL_law_188 rfl (lv_at hl 0 rfl) ?_
          refine lv_iconst (v := nI 1) hx hb dL_law_189 (by decide) ?_
          refine nv_iadd (a := i) (b := 1) hx hb dL_law_190  ?_
          refine nv_sld (i := i + 1) hx hb hX hbl hbA hS (by omega) (by omega) dL_law_191 ?_
          refine lv_aload_n hx hb dL_law_192 rfl (lv_at hl 3 rfl) ?_
          refine lv_iload_n hx hb dL_law_193 rfl (lv_at hl 0 rfl) ?_
          refine lv_iconst (v := nI 2) hx hb dL_law_194 (by decide) ?_
          refine nv_iadd (a := i) (b := 2) hx hb dL_law_195  ?_
          refine nv_sld (i := i + 2) hx hb hX hbl hbA hS (by omega) (by omega) dL_law_196 ?_
          refine lv_aload_n hx hb dL_law_197 rfl (lv_at hl 3 rfl) ?_
          refine lv_iload_n hx hb dL_law_198 rfl (lv_at hl 0 rfl) ?_
          refine lv_iconst (v := nI 3) hx hb dL_law_199 (by decide) ?_
          refine nv_iadd (a := i) (b := 3) hx hb dL_law_200  ?_
          refine nv_sld (i := i + 3) hx hb hX hbl hbA hS (by omega) (by omega) dL_law_201 ?_
          refine lv_if_eq (tgt := 209) hx hb dL_law_202 (by decide) (fun hc3 => ?_) (fun hc3 => ?_)
          · exact absurd hc3 hc2
          · refine lv_iconst (v := nI 1) hx hb dL_law_205 (by decide) ?_
            refine lv_goto (tgt := 210) hx hb dL_law_206 (by decide) ?_
            refine cl_i (wc := [(o2, .inr (2, [.ref b1, .ref b2, .ref b3, .int (nI kn)])), (b1, .inl (e1, 1024, .inr (.inl fr))), (b3, .inl (e3, 1024, .inr (.inl fv)))]) (wr := [(a3, .inl (d3, 1024, .inr (.inl k0))), (b2, .inl (e2, 1024, .inr (.inl k2))), (o1, .inr (0, [.ref a1, .ref a2, .ref a3])), (a1, .inr (1, [.ref a4, .long u1.2.2])), (a4, .inl (d4, 1024, .inr (.inl u1.2.1))), (a2, .inl (d2, 1024, .inr (.inl u1.1)))]) (va_runV (As := [.int (xs (i + 1)), .int (xs (i + 2)), .int (nI 1)]) (rest := [.int r1]) ⟨hx, hb, hml, hown, hts⟩ (metX2_transform l dC dI H.size o2 b1 b2 b3 (nI kn) e1 e3 fv fr (xs (i + 1)) (xs (i + 2)) (nI 1)) (cwV 3 hts (lw_V q149 q150 q151 q6 q152) rfl rfl rfl (by decide +kernel) ⟨Nat.le_of_ble_eq_true rfl, Nat.le_of_ble_eq_true rfl⟩) (preV (wc := [(o2, .inr (2, [.ref b1, .ref b2, .ref b3, .int (nI kn)])), (b1, .inl (e1, 1024, .inr (.inl fr))), (b3, .inl (e3, 1024, .inr (.inl fv)))]) (tc := [(e1, .long), (e3, .long)]) (ci := 2) hK hP hD [1, 2, 4] (by decide) rfl [3, 5] rfl rfl rfl) rfl rfl hl.1 rfl (lv_room (Nat.le_of_ble_eq_true rfl)) dL_law_210 ⟨Nat.le_of_ble_eq_true rfl, Nat.le_of_ble_eq_true rfl⟩) hP hD hS hA [1, 2, 4] [0, 3, 5, 6, 7, 8] rfl rfl (by decide) (by decide) (fun r2 u2 H locs hw2 hP hD hK1 hS => ?_)
            have hP : va_P (dC, dI) vwCl [(a3, .inl (d3, 1024, .inr (.inl k0))), (b2, .inl (e2, 1024, .inr (.inl k2))), (o1, .inr (0, [.ref a1, .ref a2, .ref a3])), (a1, .inr (1, [.ref a4, .long u1.2.2])), (a4, .inl (d4, 1024, .inr (.inl u1.2.1))), (a2, .inl (d2, 1024, .inr (.inl u1.1))), (o2, .inr (2, [.ref b1, .ref b2, .ref b3, .int (nI kn)])), (b1, .inl (e1, 1024, .inr (.inl u2.1))), (b3, .inl (e3, 1024, .inr (.inl u2.2)))] H := hP
            have hD : va_D A [(a3, .inl (d3, 1024, .inr (.inl k0))), (b2, .inl (e2, 1024, .inr (.inl k2))), (o1, .inr (0, [.ref a1, .ref a2, .ref a3])), (a1, .inr (1, [.ref a4, .long u1.2.2])), (a4, .inl (d4, 1024, .inr (.inl u1.2.1))), (a2, .inl (d2, 1024, .inr (.inl u1.1))), (o2, .inr (2, [.ref b1, .ref b2, .ref b3, .int (nI kn)])), (b1, .inl (e1, 1024, .inr (.inl u2.1))), (b3, .inl (e3, 1024, .inr (.inl u2.2)))] := hD
            have e12 : u2.1 = u1.1 := hw2.2.trans hw1.2.symm
            refine lv_icmp_eq (tgt := 308) hx hb dL_law_213 (by decide) (fun hce => ?_) (fun hce => ?_)
            · rw [e12] at hP hD
              refine lv_iinc (v := nI (i + 4)) (lv' := [(3, .int (nI (i + 4))), (2, .ref o2), (1, .ref o1), (0, .ref b)]) hx hb dL_law_308 hl (k := 0) rfl (nI_add _ 4) (by decide) rfl (fun ls hl => ?_)
              refine lv_goto (tgt := 18) hx hb dL_law_311 (by decide) ?_
              exact ih (i + 4) kn u1.2.2 u1.2.1 u1.1 k0 k2 u2.2 (by omega) hkn hrel (by omega) H locs (hP.sub [2, 3, 4, 5, 0, 6, 7, 1, 8] rfl) (hD.sub [2, 3, 4, 5, 0, 6, 7, 1, 8] (by decide) rfl) hS ls (lv_sub hl [0, 1, 2, 3] rfl)
            · exact absurd (hw1.1.trans hw2.1.symm) hce
      · refine lv_tableIn (off := 186) (tgt := 218) hx hb dL_law_32 (by decide) (by decide) rfl (by decide) ?_
        refine lv_aload_n hx hb dL_law_218 rfl (lv_at hl 2 rfl) ?_
        refine lv_aload_n hx hb dL_law_219 rfl (lv_at hl 3 rfl) ?_
        refine lv_iload_n hx hb dL_law_220 rfl (lv_at hl 0 rfl) ?_
        refine lv_iconst (v := nI 1) hx hb dL_law_221 (by decide) ?_
        refine nv_iadd (a := i) (b := 1) hx hb dL_law_222  ?_
        refine nv_sld (i := i + 1) hx hb hX hbl hbA hS (by omega) (by omega) dL_law_223 ?_
        refine cl_i (wc := [(o1, .inr (0, [.ref a1, .ref a2, .ref a3])), (a2, .inl (d2, 1024, .inr (.inl fr))), (a3, .inl (d3, 1024, .inr (.inl k0)))]) (wr := [(a1, .inr (1, [.ref a4, .long pv])), (a4, .inl (d4, 1024, .inr (.inl fw))), (o2, .inr (2, [.ref b1, .ref b2, .ref b3, .int (nI kn)])), (b1, .inl (e1, 1024, .inr (.inl fr))), (b2, .inl (e2, 1024, .inr (.inl k2))), (b3, .inl (e3, 1024, .inr (.inl fv)))]) (va_runV (As := [.int (xs (i + 1))]) (rest := []) ⟨hx, hb, hml, hown, hts⟩ (metX0_keep l dC dI H.size o1 a1 a2 a3 d2 d3 fr k0 (xs (i + 1))) (cwV 1 hts (lw_V q91 q92 q93 q4 q94) rfl rfl rfl (by decide +kernel) ⟨Nat.le_of_ble_eq_true rfl, Nat.le_of_ble_eq_true rfl⟩) (preV (wc := [(o1, .inr (0, [.ref a1, .ref a2, .ref a3])), (a2, .inl (d2, 1024, .inr (.inl fr))), (a3, .inl (d3, 1024, .inr (.inl k0)))]) (tc := [(d2, .long), (d3, .long)]) (ci := 0) hK hP hD [0, 3, 4] (by decide) rfl [1, 2] rfl rfl rfl) rfl rfl hl.1 rfl (lv_room (Nat.le_of_ble_eq_true rfl)) dL_law_224 ⟨Nat.le_of_ble_eq_true rfl, Nat.le_of_ble_eq_true rfl⟩) hP hD hS hA [0, 3, 4] [1, 2, 5, 6, 7, 8] rfl rfl (by decide) (by decide) (fun r1 u1 H locs hw1 hP hD hK1 hS => ?_)
        have hP : va_P (dC, dI) vwCl [(a1, .inr (1, [.ref a4, .long pv])), (a4, .inl (d4, 1024, .inr (.inl fw))), (o2, .inr (2, [.ref b1, .ref b2, .ref b3, .int (nI kn)])), (b1, .inl (e1, 1024, .inr (.inl fr))), (b2, .inl (e2, 1024, .inr (.inl k2))), (b3, .inl (e3, 1024, .inr (.inl fv))), (o1, .inr (0, [.ref a1, .ref a2, .ref a3])), (a2, .inl (d2, 1024, .inr (.inl fr))), (a3, .inl (d3, 1024, .inr (.inl u1)))] H := hP
        have hD : va_D A [(a1, .inr (1, [.ref a4, .long pv])), (a4, .inl (d4, 1024, .inr (.inl fw))), (o2, .inr (2, [.ref b1, .ref b2, .ref b3, .int (nI kn)])), (b1, .inl (e1, 1024, .inr (.inl fr))), (b2, .inl (e2, 1024, .inr (.inl k2))), (b3, .inl (e3, 1024, .inr (.inl fv))), (o1, .inr (0, [.ref a1, .ref a2, .ref a3])), (a2, .inl (d2, 1024, .inr (.inl fr))), (a3, .inl (d3, 1024, .inr (.inl u1)))] := hD
        refine lv_aload_n hx hb dL_law_227 rfl (lv_at hl 1 rfl) ?_
        refine lv_aload_n hx hb dL_law_228 rfl (lv_at hl 3 rfl) ?_
        refine lv_iload_n hx hb dL_law_229 rfl (lv_at hl 0 rfl) ?_
        refine lv_iconst (v := nI 1) hx hb dL_law_230 (by decide) ?_
        refine nv_iadd (a := i) (b := 1) hx hb dL_law_231  ?_
        refine nv_sld (i := i + 1) hx hb hX hbl hbA hS (by omega) (by omega) dL_law_232 ?_
        refine cl_i (wc := [(o2, .inr (2, [.ref b1, .ref b2, .ref b3, .int (nI kn)])), (b1, .inl (e1, 1024, .inr (.inl fr))), (b2, .inl (e2, 1024, .inr (.inl k2)))]) (wr := [(a1, .inr (1, [.ref a4, .long pv])), (a4, .inl (d4, 1024, .inr (.inl fw))), (b3, .inl (e3, 1024, .inr (.inl fv))), (o1, .inr (0, [.ref a1, .ref a2, .ref a3])), (a2, .inl (d2, 1024, .inr (.inl fr))), (a3, .inl (d3, 1024, .inr (.inl u1)))]) (va_runV (As := [.int (xs (i + 1))]) (rest := [.int r1]) ⟨hx, hb, hml, hown, hts⟩ (metX2_keep l dC dI H.size o2 b1 b2 b3 (nI kn) e1 e2 fr k2 (xs (i + 1))) (cwV 1 hts (lw_V q156 q157 q158 q6 q159) rfl rfl rfl (by decide +kernel) ⟨Nat.le_of_ble_eq_true rfl, Nat.le_of_ble_eq_true rfl⟩) (preV (wc := [(o2, .inr (2, [.ref b1, .ref b2, .ref b3, .int (nI kn)])), (b1, .inl (e1, 1024, .inr (.inl fr))), (b2, .inl (e2, 1024, .inr (.inl k2)))]) (tc := [(e1, .long), (e2, .long)]) (ci := 2) hK hP hD [2, 3, 4] (by decide) rfl [3, 4] rfl rfl rfl) rfl rfl hl.1 rfl (lv_room (Nat.le_of_ble_eq_true rfl)) dL_law_233 ⟨Nat.le_of_ble_eq_true rfl, Nat.le_of_ble_eq_true rfl⟩) hP hD hS hA [2, 3, 4] [0, 1, 5, 6, 7, 8] rfl rfl (by decide) (by decide) (fun r2 u2 H locs hw2 hP hD hK1 hS => ?_)
        have hP : va_P (dC, dI) vwCl [(a1, .inr (1, [.ref a4, .long pv])), (a4, .inl (d4, 1024, .inr (.inl fw))), (b3, .inl (e3, 1024, .inr (.inl fv))), (o1, .inr (0, [.ref a1, .ref a2, .ref a3])), (a2, .inl (d2, 1024, .inr (.inl fr))), (a3, .inl (d3, 1024, .inr (.inl u1))), (o2, .inr (2, [.ref b1, .ref b2, .ref b3, .int u2.2])), (b1, .inl (e1, 1024, .inr (.inl fr))), (b2, .inl (e2, 1024, .inr (.inl u2.1)))] H := hP
        have hD : va_D A [(a1, .inr (1, [.ref a4, .long pv])), (a4, .inl (d4, 1024, .inr (.inl fw))), (b3, .inl (e3, 1024, .inr (.inl fv))), (o1, .inr (0, [.ref a1, .ref a2, .ref a3])), (a2, .inl (d2, 1024, .inr (.inl fr))), (a3, .inl (d3, 1024, .inr (.inl u1))), (o2, .inr (2, [.ref b1, .ref b2, .ref b3, .int u2.2])), (b1, .inl (e1, 1024, .inr (.inl fr))), (b2, .inl (e2, 1024, .inr (.inl u2.1)))] := hD
        obtain ⟨kn', hkn', ek, hrel'⟩ := sp_kp_rel hkn hrel hw1.2 hw2.2
        refine lv_icmp_eq (tgt := 308) hx hb dL_law_236 (by decide) (fun hce => ?_) (fun hce => ?_)
        · rw [ek] at hP hD
          refine lv_iinc (v := nI (i + 4)) (lv' := [(3, .int (nI (i + 4))), (2, .ref o2), (1, .ref o1), (0, .ref b)]) hx hb dL_law_308 hl (k := 0) rfl (nI_add _ 4) (by decide) rfl (fun ls hl => ?_)
          refine lv_goto (tgt := 18) hx hb dL_law_311 (by decide) ?_
          exact ih (i + 4) kn' pv fw fr u1 u2.1 fv (by omega) hkn' hrel' (by omega) H locs (hP.sub [3, 0, 1, 4, 5, 6, 7, 8, 2] rfl) (hD.sub [3, 0, 1, 4, 5, 6, 7, 8, 2] (by decide) rfl) hS ls (lv_sub hl [0, 1, 2, 3] rfl)
        · exact absurd (sp_b_eq hw1.1 hw2.1) hce
      · refine lv_tableIn (off := 209) (tgt := 241) hx hb dL_law_32 (by decide) (by decide) rfl (by decide) ?_
        refine lv_aload_n hx hb dL_law_241 rfl (lv_at hl 2 rfl) ?_
        refine lv_aload_n hx hb dL_law_242 rfl (lv_at hl 3 rfl) ?_
        refine lv_iload_n hx hb dL_law_243 rfl (lv_at hl 0 rfl) ?_
        refine lv_iconst (v := nI 1) hx hb dL_law_244 (by decide) ?_
        refine nv_iadd (a := i) (b := 1) hx hb dL_law_245  ?_
        refine nv_sld (i := i + 1) hx hb hX hbl hbA hS (by omega) (by omega) dL_law_246 ?_
        refine lv_aload_n hx hb dL_law_247 rfl (lv_at hl 3 rfl) ?_
        refine lv_iload_n hx hb dL_law_248 rfl (lv_at hl 0 rfl) ?_
        refine lv_iconst (v := nI 2) hx hb dL_law_249 (by decide) ?_
        refine nv_iadd (a := i) (b := 2) hx hb dL_law_250  ?_
        refine nv_sld (i := i + 2) hx hb hX hbl hbA hS (by omega) (by omega) dL_law_251 ?_
        refine cl_i (wc := [(o1, .inr (0, [.ref a1, .ref a2, .ref a3])), (a2, .inl (d2, 1024, .inr (.inl fr))), (a3, .inl (d3, 1024, .inr (.inl k0)))]) (wr := [(a1, .inr (1, [.ref a4, .long pv])), (a4, .inl (d4, 1024, .inr (.inl fw))), (o2, .inr (2, [.ref b1, .ref b2, .ref b3, .int (nI kn)])), (b1, .inl (e1, 1024, .inr (.inl fr))), (b2, .inl (e2, 1024, .inr (.inl k2))), (b3, .inl (e3, 1024, .inr (.inl fv)))]) (va_runV (As := [.int (xs (i + 1)), .int (xs (i + 2))]) (rest := []) ⟨hx, hb, hml, hown, hts⟩ (metX0_times l dC dI H.size o1 a1 a2 a3 d2 d3 fr k0 (xs (i + 1)) (xs (i + 2))) (cwV 2 hts (lw_V q95 q96 q97 q4 q98) rfl rfl rfl (by decide +kernel) ⟨Nat.le_of_ble_eq_true rfl, Nat.le_of_ble_eq_true rfl⟩) (preV (wc := [(o1, .inr (0, [.ref a1, .ref a2, .ref a3])), (a2, .inl (d2, 1024, .inr (.inl fr))), (a3, .inl (d3, 1024, .inr (.inl k0)))]) (tc := [(d2, .long), (d3, .long)]) (ci := 0) hK hP hD [0, 3, 4] (by decide) rfl [1, 2] rfl rfl rfl) rfl rfl hl.1 rfl (lv_room (Nat.le_of_ble_eq_true rfl)) dL_law_252 ⟨Nat.le_of_ble_eq_true rfl, Nat.le_of_ble_eq_true rfl⟩) hP hD hS hA [0, 3, 4] [1, 2, 5, 6, 7, 8] rfl rfl (by decide) (by decide) (fun r1 u1 H locs hw1 hP hD hK1 hS => ?_)
        have hP : va_P (dC, dI) vwCl [(a1, .inr (1, [.ref a4, .long pv])), (a4, .inl (d4, 1024, .inr (.inl fw))), (o2, .inr (2, [.ref b1, .ref b2, .ref b3, .int (nI kn)])), (b1, .inl (e1, 1024, .inr (.inl fr))), (b2, .inl (e2, 1024, .inr (.inl k2))), (b3, .inl (e3, 1024, .inr (.inl fv))), (o1, .inr (0, [.ref a1, .ref a2, .ref a3])), (a2, .inl (d2, 1024, .inr (.inl u1))), (a3, .inl (d3, 1024, .inr (.inl k0)))] H := hP
        have hD : va_D A [(a1, .inr (1, [.ref a4, .long pv])), (a4, .inl (d4, 1024, .inr (.inl fw))), (o2, .inr (2, [.ref b1, .ref b2, .ref b3, .int (nI kn)])), (b1, .inl (e1, 1024, .inr (.inl fr))), (b2, .inl (e2, 1024, .inr (.inl k2))), (b3, .inl (e3, 1024, .inr (.inl fv))), (o1, .inr (0, [.ref a1, .ref a2, .ref a3])), (a2, .inl (d2, 1024, .inr (.inl u1))), (a3, .inl (d3, 1024, .inr (.inl k0)))] := hD
        refine lv_aload_n hx hb dL_law_255 rfl (lv_at hl 1 rfl) ?_
        refine lv_aload_n hx hb dL_law_256 rfl (lv_at hl 3 rfl) ?_
        refine lv_iload_n hx hb dL_law_257 rfl (lv_at hl 0 rfl) ?_
        refine lv_iconst (v := nI 1) hx hb dL_law_258 (by decide) ?_
        refine nv_iadd (a := i) (b := 1) hx hb dL_law_259  ?_
        refine nv_sld (i := i + 1) hx hb hX hbl hbA hS (by omega) (by omega) dL_law_260 ?_
        refine lv_aload_n hx hb dL_law_261 rfl (lv_at hl 3 rfl) ?_
        refine lv_iload_n hx hb dL_law_262 rfl (lv_at hl 0 rfl) ?_
        refine lv_iconst (v := nI 2) hx hb dL_law_263 (by decide) ?_
        refine nv_iadd (a := i) (b := 2) hx hb dL_law_264  ?_
        refine nv_sld (i := i + 2) hx hb hX hbl hbA hS (by omega) (by omega) dL_law_265 ?_
        refine cl_i (wc := [(o2, .inr (2, [.ref b1, .ref b2, .ref b3, .int (nI kn)])), (b1, .inl (e1, 1024, .inr (.inl fr))), (b2, .inl (e2, 1024, .inr (.inl k2)))]) (wr := [(a1, .inr (1, [.ref a4, .long pv])), (a4, .inl (d4, 1024, .inr (.inl fw))), (b3, .inl (e3, 1024, .inr (.inl fv))), (o1, .inr (0, [.ref a1, .ref a2, .ref a3])), (a2, .inl (d2, 1024, .inr (.inl u1))), (a3, .inl (d3, 1024, .inr (.inl k0)))]) (va_runV (As := [.int (xs (i + 1)), .int (xs (i + 2))]) (rest := [.int r1]) ⟨hx, hb, hml, hown, hts⟩ (metX2_times l dC dI H.size o2 b1 b2 b3 kn e1 e2 fr k2 (xs (i + 1)) (xs (i + 2)) hkn) (cwV 2 hts (lw_V q160 q161 q162 q6 q163) rfl rfl rfl (by decide +kernel) ⟨Nat.le_of_ble_eq_true rfl, Nat.le_of_ble_eq_true rfl⟩) (preV (wc := [(o2, .inr (2, [.ref b1, .ref b2, .ref b3, .int (nI kn)])), (b1, .inl (e1, 1024, .inr (.inl fr))), (b2, .inl (e2, 1024, .inr (.inl k2)))]) (tc := [(e1, .long), (e2, .long)]) (ci := 2) hK hP hD [2, 3, 4] (by decide) rfl [3, 4] rfl rfl rfl) rfl rfl hl.1 rfl (lv_room (Nat.le_of_ble_eq_true rfl)) dL_law_266 ⟨Nat.le_of_ble_eq_true rfl, Nat.le_of_ble_eq_true rfl⟩) hP hD hS hA [2, 3, 4] [0, 1, 5, 6, 7, 8] rfl rfl (by decide) (by decide) (fun r2 u2 H locs hw2 hP hD hK1 hS => ?_)
        have hP : va_P (dC, dI) vwCl [(a1, .inr (1, [.ref a4, .long pv])), (a4, .inl (d4, 1024, .inr (.inl fw))), (b3, .inl (e3, 1024, .inr (.inl fv))), (o1, .inr (0, [.ref a1, .ref a2, .ref a3])), (a2, .inl (d2, 1024, .inr (.inl u1))), (a3, .inl (d3, 1024, .inr (.inl k0))), (o2, .inr (2, [.ref b1, .ref b2, .ref b3, .int (nI kn)])), (b1, .inl (e1, 1024, .inr (.inl u2))), (b2, .inl (e2, 1024, .inr (.inl k2)))] H := hP
        have hD : va_D A [(a1, .inr (1, [.ref a4, .long pv])), (a4, .inl (d4, 1024, .inr (.inl fw))), (b3, .inl (e3, 1024, .inr (.inl fv))), (o1, .inr (0, [.ref a1, .ref a2, .ref a3])), (a2, .inl (d2, 1024, .inr (.inl u1))), (a3, .inl (d3, 1024, .inr (.inl k0))), (o2, .inr (2, [.ref b1, .ref b2, .ref b3, .int (nI kn)])), (b1, .inl (e1, 1024, .inr (.inl u2))), (b2, .inl (e2, 1024, .inr (.inl k2)))] := hD
        have e12 : u2 = u1 := by rw [hw2.2, hw1.2]; exact (sp_times_cong hrel).symm
        refine lv_icmp_eq (tgt := 308) hx hb dL_law_269 (by decide) (fun hce => ?_) (fun hce => ?_)
        · rw [e12] at hP hD
          refine lv_iinc (v := nI (i + 4)) (lv' := [(3, .int (nI (i + 4))), (2, .ref o2), (1, .ref o1), (0, .ref b)]) hx hb dL_law_308 hl (k := 0) rfl (nI_add _ 4) (by decide) rfl (fun ls hl => ?_)
          refine lv_goto (tgt := 18) hx hb dL_law_311 (by decide) ?_
          exact ih (i + 4) kn pv fw u1 k0 k2 fv (by omega) hkn hrel (by omega) H locs (hP.sub [3, 0, 1, 4, 5, 6, 7, 8, 2] rfl) (hD.sub [3, 0, 1, 4, 5, 6, 7, 8, 2] (by decide) rfl) hS ls (lv_sub hl [0, 1, 2, 3] rfl)
        · exact absurd (hw1.1.trans hw2.1.symm) hce
      · refine lv_tableIn (off := 242) (tgt := 274) hx hb dL_law_32 (by decide) (by decide) rfl (by decide) ?_
        refine lv_aload_n hx hb dL_law_274 rfl (lv_at hl 2 rfl) ?_
        refine lv_aload_n hx hb dL_law_275 rfl (lv_at hl 3 rfl) ?_
        refine lv_iload_n hx hb dL_law_276 rfl (lv_at hl 0 rfl) ?_
        refine lv_iconst (v := nI 1) hx hb dL_law_277 (by decide) ?_
        refine nv_iadd (a := i) (b := 1) hx hb dL_law_278  ?_
        refine nv_sld (i := i + 1) hx hb hX hbl hbA hS (by omega) (by omega) dL_law_279 ?_
        refine lv_aload_n hx hb dL_law_280 rfl (lv_at hl 3 rfl) ?_
        refine lv_iload_n hx hb dL_law_281 rfl (lv_at hl 0 rfl) ?_
        refine lv_iconst (v := nI 2) hx hb dL_law_282 (by decide) ?_
        refine nv_iadd (a := i) (b := 2) hx hb dL_law_283  ?_
        refine nv_sld (i := i + 2) hx hb hX hbl hbA hS (by omega) (by omega) dL_law_284 ?_
        refine cl_l (wc := [(o1, .inr (0, [.ref a1, .ref a2, .ref a3])), (a1, .inr (1, [.ref a4, .long pv]))]) (wr := [(a4, .inl (d4, 1024, .inr (.inl fw))), (a2, .inl (d2, 1024, .inr (.inl fr))), (a3, .inl (d3, 1024, .inr (.inl k0))), (o2, .inr (2, [.ref b1, .ref b2, .ref b3, .int (nI kn)])), (b1, .inl (e1, 1024, .inr (.inl fr))), (b2, .inl (e2, 1024, .inr (.inl k2))), (b3, .inl (e3, 1024, .inr (.inl fv)))]) (va_runV (As := [.int (xs (i + 1)), .int (xs (i + 2))]) (rest := []) ⟨hx, hb, hml, hown, hts⟩ (metX0_root l dC dI H.size o1 a1 a2 a3 a4 pv (xs (i + 1)) (xs (i + 2))) (cwV 2 hts (lw_V q99 q100 q101 q4 q102) rfl rfl rfl (by decide +kernel) ⟨Nat.le_of_ble_eq_true rfl, Nat.le_of_ble_eq_true rfl⟩) (preV (wc := [(o1, .inr (0, [.ref a1, .ref a2, .ref a3])), (a1, .inr (1, [.ref a4, .long pv]))]) (tc := []) (ci := 0) hK hP hD [0, 1] (by decide) rfl [] rfl rfl rfl) rfl rfl hl.1 rfl (lv_room (Nat.le_of_ble_eq_true rfl)) dL_law_285 ⟨Nat.le_of_ble_eq_true rfl, Nat.le_of_ble_eq_true rfl⟩) hP hD hS hA [0, 1] [2, 3, 4, 5, 6, 7, 8] rfl rfl (by decide) (by decide) (fun r1 u1 H locs hw1 hP hD hK1 hS => ?_)
        have hP : va_P (dC, dI) vwCl [(a4, .inl (d4, 1024, .inr (.inl fw))), (a2, .inl (d2, 1024, .inr (.inl fr))), (a3, .inl (d3, 1024, .inr (.inl k0))), (o2, .inr (2, [.ref b1, .ref b2, .ref b3, .int (nI kn)])), (b1, .inl (e1, 1024, .inr (.inl fr))), (b2, .inl (e2, 1024, .inr (.inl k2))), (b3, .inl (e3, 1024, .inr (.inl fv))), (o1, .inr (0, [.ref a1, .ref a2, .ref a3])), (a1, .inr (1, [.ref a4, .long u1]))] H := hP
        have hD : va_D A [(a4, .inl (d4, 1024, .inr (.inl fw))), (a2, .inl (d2, 1024, .inr (.inl fr))), (a3, .inl (d3, 1024, .inr (.inl k0))), (o2, .inr (2, [.ref b1, .ref b2, .ref b3, .int (nI kn)])), (b1, .inl (e1, 1024, .inr (.inl fr))), (b2, .inl (e2, 1024, .inr (.inl k2))), (b3, .inl (e3, 1024, .inr (.inl fv))), (o1, .inr (0, [.ref a1, .ref a2, .ref a3])), (a1, .inr (1, [.ref a4, .long u1]))] := hD
        refine lv_aload_n hx hb dL_law_288 rfl (lv_at hl 1 rfl) ?_
        refine lv_aload_n hx hb dL_law_289 rfl (lv_at hl 3 rfl) ?_
        refine lv_iload_n hx hb dL_law_290 rfl (lv_at hl 0 rfl) ?_
        refine lv_iconst (v := nI 1) hx hb dL_law_291 (by decide) ?_
        refine nv_iadd (a := i) (b := 1) hx hb dL_law_292  ?_
        refine nv_sld (i := i + 1) hx hb hX hbl hbA hS (by omega) (by omega) dL_law_293 ?_
        refine lv_aload_n hx hb dL_law_294 rfl (lv_at hl 3 rfl) ?_
        refine lv_iload_n hx hb dL_law_295 rfl (lv_at hl 0 rfl) ?_
        refine lv_iconst (v := nI 2) hx hb dL_law_296 (by decide) ?_
        refine nv_iadd (a := i) (b := 2) hx hb dL_law_297  ?_
        refine nv_sld (i := i + 2) hx hb hX hbl hbA hS (by omega) (by omega) dL_law_298 ?_
        refine cl_l (wc := [(o2, .inr (2, [.ref b1, .ref b2, .ref b3, .int (nI kn)]))]) (wr := [(a4, .inl (d4, 1024, .inr (.inl fw))), (a2, .inl (d2, 1024, .inr (.inl fr))), (a3, .inl (d3, 1024, .inr (.inl k0))), (b1, .inl (e1, 1024, .inr (.inl fr))), (b2, .inl (e2, 1024, .inr (.inl k2))), (b3, .inl (e3, 1024, .inr (.inl fv))), (o1, .inr (0, [.ref a1, .ref a2, .ref a3])), (a1, .inr (1, [.ref a4, .long u1]))]) (va_runV (As := [.int (xs (i + 1)), .int (xs (i + 2))]) (rest := [.long r1]) ⟨hx, hb, hml, hown, hts⟩ (metX2_root l dC dI H.size o2 b1 b2 b3 (nI kn) (xs (i + 1)) (xs (i + 2))) (cwV 2 hts (lw_V q131 q132 q133 q6 q134) rfl rfl rfl (by decide +kernel) ⟨Nat.le_of_ble_eq_true rfl, Nat.le_of_ble_eq_true rfl⟩) (preV (wc := [(o2, .inr (2, [.ref b1, .ref b2, .ref b3, .int (nI kn)]))]) (tc := []) (ci := 2) hK hP hD [3] (by decide) rfl [] rfl rfl rfl) rfl rfl hl.1 rfl (lv_room (Nat.le_of_ble_eq_true rfl)) dL_law_299 ⟨Nat.le_of_ble_eq_true rfl, Nat.le_of_ble_eq_true rfl⟩) hP hD hS hA [3] [0, 1, 2, 4, 5, 6, 7, 8] rfl rfl (by decide) (by decide) (fun r2 u2 H locs hw2 hP hD hK1 hS => ?_)
        have hP : va_P (dC, dI) vwCl [(a4, .inl (d4, 1024, .inr (.inl fw))), (a2, .inl (d2, 1024, .inr (.inl fr))), (a3, .inl (d3, 1024, .inr (.inl k0))), (b1, .inl (e1, 1024, .inr (.inl fr))), (b2, .inl (e2, 1024, .inr (.inl k2))), (b3, .inl (e3, 1024, .inr (.inl fv))), (o1, .inr (0, [.ref a1, .ref a2, .ref a3])), (a1, .inr (1, [.ref a4, .long u1])), (o2, .inr (2, [.ref b1, .ref b2, .ref b3, .int (nI kn)]))] H := hP
        have hD : va_D A [(a4, .inl (d4, 1024, .inr (.inl fw))), (a2, .inl (d2, 1024, .inr (.inl fr))), (a3, .inl (d3, 1024, .inr (.inl k0))), (b1, .inl (e1, 1024, .inr (.inl fr))), (b2, .inl (e2, 1024, .inr (.inl k2))), (b3, .inl (e3, 1024, .inr (.inl fv))), (o1, .inr (0, [.ref a1, .ref a2, .ref a3])), (a1, .inr (1, [.ref a4, .long u1])), (o2, .inr (2, [.ref b1, .ref b2, .ref b3, .int (nI kn)]))] := hD
        refine W.lcmp hx hb dL_law_302 ?_
        refine lv_if_eq (tgt := 308) hx hb dL_law_303 (by decide) (fun hce => ?_) (fun hce => ?_)
        · refine lv_iinc (v := nI (i + 4)) (lv' := [(3, .int (nI (i + 4))), (2, .ref o2), (1, .ref o1), (0, .ref b)]) hx hb dL_law_308 hl (k := 0) rfl (nI_add _ 4) (by decide) rfl (fun ls hl => ?_)
          refine lv_goto (tgt := 18) hx hb dL_law_311 (by decide) ?_
          exact ih (i + 4) kn u1 fw fr k0 k2 fv (by omega) hkn hrel (by omega) H locs (hP.sub [6, 7, 0, 1, 2, 8, 3, 4, 5] rfl) (hD.sub [6, 7, 0, 1, 2, 8, 3, 4, 5] (by decide) rfl) hS ls (lv_sub hl [0, 1, 2, 3] rfl)
        · exact absurd ((lg_cmp_eq _ _).mpr (hw1.trans hw2.symm)) hce
      · refine lv_tableOut (tgt := 308) hx hb dL_law_32 (by decide) (by decide) ?_
        refine lv_iinc (v := nI (i + 4)) (lv' := [(3, .int (nI (i + 4))), (2, .ref o2), (1, .ref o1), (0, .ref b)]) hx hb dL_law_308 hl (k := 0) rfl (nI_add _ 4) (by decide) rfl (fun ls hl => ?_)
        refine lv_goto (tgt := 18) hx hb dL_law_311 (by decide) ?_
        exact ih (i + 4) kn pv fw fr k0 k2 fv (by omega) hkn hrel (by omega) H locs (hP.sub [0, 1, 2, 3, 4, 5, 6, 7, 8] rfl) (hD.sub [0, 1, 2, 3, 4, 5, 6, 7, 8] (by decide) rfl) hS ls (lv_sub hl [0, 1, 2, 3] rfl)
      · refine lv_tableOut (tgt := 308) hx hb dL_law_32 (by decide) (by decide) ?_
        refine lv_iinc (v := nI (i + 4)) (lv' := [(3, .int (nI (i + 4))), (2, .ref o2), (1, .ref o1), (0, .ref b)]) hx hb dL_law_308 hl (k := 0) rfl (nI_add _ 4) (by decide) rfl (fun ls hl => ?_)
        refine lv_goto (tgt := 18) hx hb dL_law_311 (by decide) ?_
        exact ih (i + 4) kn pv fw fr k0 k2 fv (by omega) hkn hrel (by omega) H locs (hP.sub [0, 1, 2, 3, 4, 5, 6, 7, 8] rfl) (hD.sub [0, 1, 2, 3, 4, 5, 6, 7, 8] (by decide) rfl) hS ls (lv_sub hl [0, 1, 2, 3] rfl)
end
section
set_option maxHeartbeats 4000000 in
set_option maxRecDepth 100000 in
/-- from the entry, for every script of at most 256 ints, the law comes to its end with true -/
theorem whole_start {p : Program} {e : Env} {s : State} {m : MethodId} {below : List Frame} {meth : Method} {c : Code} (l : Launch) {b L : Nat} {xs : Nat → Int32} (hL : L ≤ 256) (C0 : lw_At p s m meth c b L xs) : W p l e room_1 s m #[Value.ref b] below meth c s.heap [] 0 0 (lw_Z below #[Value.ref b] s) (entryFrame m ([Value.ref b] : List Value).toArray 4) := by
  obtain ⟨hx, hb, hr, hml, hown, hts0, hX, hbl, hlocks, hgv⟩ := id C0
  have hts : ∀ w ∈ lw_all, w.before #[Value.ref b] s = true := fun w h => hts0 w (lw_all_tbl h)
  have hnw : va_Nw nwR s := va_Nw.of rfl (hts0 _ (lw_at lw_m0 14 rfl))
  obtain ⟨A, hAe⟩ : ∃ A : Nat → Prop, A = fun q => s.heap.size ≤ q := ⟨_, rfl⟩
  have hA : ∀ q : Nat, s.heap.size ≤ q → A q := fun q h => by rw [hAe]; exact h
  have hAf : ∀ q : Nat, A q → s.heap.size ≤ q := fun q h => by rw [hAe] at h; exact h
  have hbA : ¬ A b := fun h => absurd (hAf b h) (Nat.not_le.mpr hbl)
  obtain ⟨c0, iS0, hKn0⟩ := u_known (C := RX0) (T := TX0) (N := 3) (n := 3) hts in_X0 (hts _ q8)
  obtain ⟨c1, iS1, hKn1⟩ := u_known (C := RX1) (T := TX1) (N := 2) (n := 2) hts in_X1 (hts _ q16)
  obtain ⟨c2, iS2, hKn2⟩ := u_known (C := RX2) (T := TX2) (N := 4) (n := 4) hts in_X2 (hts _ q105)
  obtain ⟨dC, dI, hKc⟩ : ∃ (dC : Nat → ClassId) (dI : Nat → Nat → Nat), ∀ (k : Nat) (q : vw_C), vwCl[k]? = some q → u_Kn s q.1 q.2.1 q.2.2 (dC k) (dI k) := by
    refine ⟨fun k => if k = 0 then c0 else if k = 1 then c1 else c2, fun k => if k = 0 then iS0 else if k = 1 then iS1 else iS2, ?_⟩
    intro k q hq
    match k, hq with
    | 0, hq => cases hq; exact hKn0
    | 1, hq => cases hq; exact hKn1
    | 2, hq => cases hq; exact hKn2
    | k + 3, hq => simp [vwCl] at hq
  have hS : va_S A s.heap s.heap [] := va_S.rf
  have hK : va_K (dC, dI) vwCl [] s := ⟨hKc, fun k q h => by simp at h⟩
  have hP : va_P (dC, dI) vwCl [] s.heap := fun k q h => by simp at h
  have hD : va_D A [] := ⟨fun i j p q h => by simp at h, fun k q h => by simp at h⟩
  have hl := lv_entry ([.ref b]) (n := 4) (Nat.le_of_ble_eq_true rfl)
  rw [lg_entry_eq]
  generalize (lg_sl ([.ref b]) ++ List.replicate (4 - (lg_sl ([.ref b])).length) Slot.unset).toArray = ls at hl ⊢
  have hl : lv_has ls 4 [(0, .ref b)] := hl
  refine va_new (ci := 0) (fs := [.null, .null, .null]) (C := RX0) (T := TX0) (N := 3) hx hb hts in_X0 tyX0 tyX0_ok hown (hts _ q7) (hts _ q8) (hts _ q4) hK hP hD hS hA rfl (fun j hj => by rcases (show j = 0 ∨ j = 1 ∨ j = 2 by omega) with rfl | rfl | rfl <;> rfl) (Nat.le_of_ble_eq_true rfl) (Nat.le_of_ble_eq_true rfl) dL_law_0 (fun o1 H hP hD hS => ?_)
  have hP : va_P (dC, dI) vwCl [(o1, .inr (0, [.null, .null, .null]))] H := hP
  have hD : va_D A [(o1, .inr (0, [.null, .null, .null]))] := hD
  refine lv_dup hx hb dL_law_3 rfl ?_
  refine cl_v (wc := [(o1, .inr (0, [.null, .null, .null]))]) (wr := []) (va_runI (As := []) (rest := [.ref o1]) ⟨hx, hb, hml, hown, hts⟩ (metX0_init l dC dI H.size o1) (cwI 0 hts (lw_meth q11) rfl rfl rfl (hts _ q4) (hts _ q9) (hts _ q10) rfl (by decide +kernel) ⟨Nat.le_of_ble_eq_true rfl, Nat.le_of_ble_eq_true rfl⟩) (preN (wc := [(o1, .inr (0, [.null, .null, .null]))]) (tc := []) hnw hK hP hD [0] (by decide) rfl [] rfl) rfl rfl hl.1 rfl (lv_room (Nat.le_of_ble_eq_true rfl)) dL_law_4 ⟨Nat.le_of_ble_eq_true rfl, Nat.le_of_ble_eq_true rfl⟩) hP hD hS hA [0] [] rfl rfl (by decide) (by decide) (fun u1 H locs hw1 hP hD hK1 hS => ?_)
  have hP : va_P (dC, dI) vwCl [(o1, .inr (0, [.ref u1.1.1, .ref u1.2.1.1, .ref u1.2.2.1])), (u1.1.1, .inr (1, [.ref u1.1.2.1, .long (lN 3)])), (u1.1.2.1, .inl (u1.1.2.2, 1024, .inr (.inl (fun _ => 0)))), (u1.2.1.1, .inl (u1.2.1.2, 1024, .inr (.inl (fun _ => 0)))), (u1.2.2.1, .inl (u1.2.2.2, 1024, .inr (.inl (fun _ => 0))))] H := hP
  have hD : va_D A [(o1, .inr (0, [.ref u1.1.1, .ref u1.2.1.1, .ref u1.2.2.1])), (u1.1.1, .inr (1, [.ref u1.1.2.1, .long (lN 3)])), (u1.1.2.1, .inl (u1.1.2.2, 1024, .inr (.inl (fun _ => 0)))), (u1.2.1.1, .inl (u1.2.1.2, 1024, .inr (.inl (fun _ => 0)))), (u1.2.2.1, .inl (u1.2.2.2, 1024, .inr (.inl (fun _ => 0))))] := hD
  have hK := hK.app hK1
  have hK : va_K (dC, dI) vwCl [(u1.1.2.2, .long), (u1.2.1.2, .long), (u1.2.2.2, .long)] s := hK
  refine lv_astore_n (lv' := [(1, .ref o1), (0, .ref b)]) hx hb dL_law_7 rfl hl (by decide) rfl (fun ls hl => ?_)
  refine va_new (ci := 2) (fs := [.null, .null, .null, .int 0]) (C := RX2) (T := TX2) (N := 4) hx hb hts in_X2 tyX2 tyX2_ok hown (hts _ q104) (hts _ q105) (hts _ q6) hK hP hD hS hA rfl (fun j hj => by rcases (show j = 0 ∨ j = 1 ∨ j = 2 ∨ j = 3 by omega) with rfl | rfl | rfl | rfl <;> rfl) (Nat.le_of_ble_eq_true rfl) (Nat.le_of_ble_eq_true rfl) dL_law_8 (fun o2 H hP hD hS => ?_)
  have hP : va_P (dC, dI) vwCl [(o1, .inr (0, [.ref u1.1.1, .ref u1.2.1.1, .ref u1.2.2.1])), (u1.1.1, .inr (1, [.ref u1.1.2.1, .long (lN 3)])), (u1.1.2.1, .inl (u1.1.2.2, 1024, .inr (.inl (fun _ => 0)))), (u1.2.1.1, .inl (u1.2.1.2, 1024, .inr (.inl (fun _ => 0)))), (u1.2.2.1, .inl (u1.2.2.2, 1024, .inr (.inl (fun _ => 0)))), (o2, .inr (2, [.null, .null, .null, .int 0]))] H := hP
  have hD : va_D A [(o1, .inr (0, [.ref u1.1.1, .ref u1.2.1.1, .ref u1.2.2.1])), (u1.1.1, .inr (1, [.ref u1.1.2.1, .long (lN 3)])), (u1.1.2.1, .inl (u1.1.2.2, 1024, .inr (.inl (fun _ => 0)))), (u1.2.1.1, .inl (u1.2.1.2, 1024, .inr (.inl (fun _ => 0)))), (u1.2.2.1, .inl (u1.2.2.2, 1024, .inr (.inl (fun _ => 0)))), (o2, .inr (2, [.null, .null, .null, .int 0]))] := hD
  refine lv_dup hx hb dL_law_11 rfl ?_
  refine cl_v (wc := [(o2, .inr (2, [.null, .null, .null, .int 0]))]) (wr := [(o1, .inr (0, [.ref u1.1.1, .ref u1.2.1.1, .ref u1.2.2.1])), (u1.1.1, .inr (1, [.ref u1.1.2.1, .long (lN 3)])), (u1.1.2.1, .inl (u1.1.2.2, 1024, .inr (.inl (fun _ => 0)))), (u1.2.1.1, .inl (u1.2.1.2, 1024, .inr (.inl (fun _ => 0)))), (u1.2.2.1, .inl (u1.2.2.2, 1024, .inr (.inl (fun _ => 0))))]) (va_runI (As := []) (rest := [.ref o2]) ⟨hx, hb, hml, hown, hts⟩ (metX2_init l dC dI H.size o2) (cwI 0 hts (lw_meth q108) rfl rfl rfl (hts _ q6) (hts _ q106) (hts _ q107) rfl (by decide +kernel) ⟨Nat.le_of_ble_eq_true rfl, Nat.le_of_ble_eq_true rfl⟩) (preS (wc := [(o2, .inr (2, [.null, .null, .null, .int 0]))]) (tc := []) hK hP hD [5] (by decide) rfl [] rfl) rfl rfl hl.1 rfl (lv_room (Nat.le_of_ble_eq_true rfl)) dL_law_12 ⟨Nat.le_of_ble_eq_true rfl, Nat.le_of_ble_eq_true rfl⟩) hP hD hS hA [5] [0, 1, 2, 3, 4] rfl rfl (by decide) (by decide) (fun u2 H locs hw2 hP hD hK1 hS => ?_)
  have hP : va_P (dC, dI) vwCl [(o1, .inr (0, [.ref u1.1.1, .ref u1.2.1.1, .ref u1.2.2.1])), (u1.1.1, .inr (1, [.ref u1.1.2.1, .long (lN 3)])), (u1.1.2.1, .inl (u1.1.2.2, 1024, .inr (.inl (fun _ => 0)))), (u1.2.1.1, .inl (u1.2.1.2, 1024, .inr (.inl (fun _ => 0)))), (u1.2.2.1, .inl (u1.2.2.2, 1024, .inr (.inl (fun _ => 0)))), (o2, .inr (2, [.ref u2.1.1, .ref u2.2.1.1, .ref u2.2.2.1, .int 0])), (u2.1.1, .inl (u2.1.2, 1024, .inr (.inl (fun _ => 0)))), (u2.2.1.1, .inl (u2.2.1.2, 1024, .inr (.inl (fun _ => 0)))), (u2.2.2.1, .inl (u2.2.2.2, 1024, .inr (.inl (fun _ => 0))))] H := hP
  have hD : va_D A [(o1, .inr (0, [.ref u1.1.1, .ref u1.2.1.1, .ref u1.2.2.1])), (u1.1.1, .inr (1, [.ref u1.1.2.1, .long (lN 3)])), (u1.1.2.1, .inl (u1.1.2.2, 1024, .inr (.inl (fun _ => 0)))), (u1.2.1.1, .inl (u1.2.1.2, 1024, .inr (.inl (fun _ => 0)))), (u1.2.2.1, .inl (u1.2.2.2, 1024, .inr (.inl (fun _ => 0)))), (o2, .inr (2, [.ref u2.1.1, .ref u2.2.1.1, .ref u2.2.2.1, .int 0])), (u2.1.1, .inl (u2.1.2, 1024, .inr (.inl (fun _ => 0)))), (u2.2.1.1, .inl (u2.2.1.2, 1024, .inr (.inl (fun _ => 0)))), (u2.2.2.1, .inl (u2.2.2.2, 1024, .inr (.inl (fun _ => 0))))] := hD
  have hK := hK.app hK1
  have hK : va_K (dC, dI) vwCl [(u1.1.2.2, .long), (u1.2.1.2, .long), (u1.2.2.2, .long), (u2.1.2, .long), (u2.2.1.2, .long), (u2.2.2.2, .long)] s := hK
  refine lv_astore_n (lv' := [(2, .ref o2), (1, .ref o1), (0, .ref b)]) hx hb dL_law_15 rfl hl (by decide) rfl (fun ls hl => ?_)
  refine lv_iconst (v := nI 0) hx hb dL_law_16 (by decide) ?_
  refine lv_istore_n (lv' := [(3, .int (nI 0)), (2, .ref o2), (1, .ref o1), (0, .ref b)]) hx hb dL_law_17 rfl hl (by decide) rfl (fun ls hl => ?_)
  refine W.widen (k := 9) (n := 6153) (by decide) (by decide) ?_
  refine lp_law hx hb hml hown hts hA hK hL hX hbl hbA ?_ (L + 5) 0 0 (lN 3) (fun _ => 0) (fun _ => 0) (fun _ => 0) (fun _ => 0) (fun _ => 0) (by omega) (by omega) (fun k _ => by simp) (by omega) H locs hP hD hS ls (lv_sub hl [0, 1, 2, 3] rfl)
  intro H locs hP hD hS ls hl
  refine lv_iconst (v := nI 1) hx hb dL_law_314 (by decide) ?_
  refine va_forget (fun q hq => hAf _ (hS.2.2 q hq)) ?_
  refine W.widen (k := 600000) (n := 7290000) (by decide) (by decide) ?_
  exact lw_ret hx hb hr hlocks dL_law_315
end
section
set_option maxRecDepth 100000
set_option maxHeartbeats 4000000 in
theorem lw_walk (l : Launch) (b : Addr) (xs : List Int32) : MetFree l x (headSpec (Jvm.Cond.code x code maxLocals ret :: tables_1) room_1) (lw_P b xs) (fun _ _ _ _ _ => True) lw_Q := by
  refine MetFree.of_bodyS (code := code) (maxLocals := maxLocals) (ret := ret) (by decide) ?_ ?_
  · intro args s m h hn
    obtain ⟨meth, c, h1, h2, h3, h4, h5, h6, -, -⟩ := Cond.code_spec hn (atoms_spec (ws := Jvm.Cond.code x code maxLocals ret :: tables_1) h _ List.mem_cons_self)
    exact ⟨meth, c, h1, h2, h3, h4, h5, h6⟩
  · intro p e s m args below meth c s₁ B hml0 hP _
    obtain ⟨rfl, hx, hbd, hgv⟩ := hP
    obtain ⟨scr, harrAt, hlist, hof, hsmall⟩ := hx
    obtain ⟨hcb, hkn, -, -⟩ := State.arrayAt?_spec harrAt
    have hown : s.vm.findClass R_law = some m.cls := findClass_of_methodNamed B.named
    have hts0 : ∀ c ∈ (Jvm.Cond.code x code maxLocals ret :: tables_1), c.before #[Value.ref b] s = true := atoms_spec (ws := Jvm.Cond.code x code maxLocals ret :: tables_1) B.pre
    have hts : ∀ w ∈ lw_tbl, w.before #[Value.ref b] s = true := k2_hts_sels lw_privs (fun w hw => hts0 w (List.mem_cons_of_mem _ hw)) lw_privs_ok
    have hml : c.maxLocals = 4 := B.maxLocals_eq (hts0 _ List.mem_cons_self)
    have X₀ : Stand p l e room_1 s m #[Value.ref b] below meth c s₁ [] 0 0 := Stand.of_body B
    have hh0 : s₁.heap = s.heap := by rw [B.state]; rfl
    have hsz : scr.slots.size = xs.length := by rw [← Array.length_toList, hlist, List.length_map]
    have hval : ∀ j : Nat, j < xs.length → scr.slots[j]? = some (.int (xs.getD j 0)) := fun j hj => by
      rw [← Array.getElem?_toList, hlist]
      simp [hj]
    have hbl : b < s.heap.size := (Array.getElem?_eq_some_iff.mp hcb).1
    have hX : va_X b xs.length (fun j => xs.getD j 0) s s.heap := ⟨scr, hcb, hof, hkn, hsz, hval⟩
    have K : W p l e room_1 s m #[Value.ref b] below meth c s₁.heap [] 0 0 (lw_Z below #[Value.ref b] s) (entryFrame m ([Value.ref b] : List Value).toArray 4) := by
      rw [hh0]
      exact whole_start l hbd ⟨B.exec, B.bytes, B.returns, hml, hown, hts, hX, hbl, B.notSynchronized, hgv⟩
    obtain ⟨t, a1, o, b1, b2, b3⟩ := K s₁ rfl X₀
    exact ⟨t, o, a1, b1, b2, b3⟩
theorem lw_pre_spec {args : Array Value} {s : State} (h : (Jvm.Cond.and given_1 narrow_1).before args s = true) (hr : rest_1_c.before args s = true) : ∃ (b : Addr) (xs : List Int32), lw_P b xs args s := by
  have hs := flat_of_before _ h
  have hq := flat_of_before _ hr
  have hc : (Cond.count 1).before args s = true := hs _ (by decide +kernel)
  have harr : (Cond.arrayOf (.arg 0) .int).before args s = true := hs _ (by decide +kernel)
  have hle : (Cond.le (.length (.arg 0)) (.int 256)).before args s = true := hs _ (by decide +kernel)
  have hlen : (Cond.isInt (.length (.arg 0))).before args s = true := hq _ (by decide +kernel)
  have hall : (Cond.all (.arg 0) (.isInt (.elem (.arg 0) (.index 0)))).before args s = true := hq _ (by decide +kernel)
  obtain ⟨b, xs, hb, hx⟩ := State.ints_of_pre rfl harr hlen hall
  have hsm : xs.length < 2 ^ 31 := hx.choose_spec.2.2.2
  have hev : (Term.length (.arg 0)).eval args s none [] s = some (.int xs.length.toInt32) := hx.length_eval hb
  have hv := Cond.le_ints hev (show (Term.int 256).eval args s none [] s = some (.int 256) from rfl)
  have hd : xs.length.toInt32 ≤ 256 := by
    simpa [Cond.before, Cond.holds, hv] using hle
  have hN : xs.length ≤ 256 := (Int32.ofNat_le_ofNat hsm (by decide)).mp (show Int32.ofNat xs.length ≤ Int32.ofNat 256 from hd)
  exact ⟨b, xs, Cond.one_arg hc (show args[0]? = some (.ref b) from hb), hx, hN, h⟩
theorem lw_comes (l : Launch) : Comes l x (Jvm.Cond.code x code maxLocals ret :: tables_1) room_1 (fun tb e args s => Calls_1 tb e args s ∧ rest_1 tb e args s ∧ Pre_1 tb e args s)
    (fun _ _ args s o t => lw_Q args s o t) := by
  intro p e ha hc hk s m args below hf hfit hheap happ hpre
  obtain ⟨b, xs, hP⟩ := lw_pre_spec hpre.2.2 hpre.2.1
  obtain ⟨k, o, h1, h2, h3, hQ⟩ := lw_walk l b xs p e ha hc hk s m args below hf ((Spec.applies_iff_loose hf).mp happ).1 hP trivial
  exact ⟨k, o, h1, h2, h3, hQ⟩
theorem lw_frame {s t : State} {o : Outcome} {args : Array Value} (h : Framed s o t [] 600000 7290000) :
    Framed s o t (fieldLocs frame_1_writes args s ++ arrayLocs frame_1_arrays args s ++ staticLocs frame_1_statics s) 600000 7290000 := h
theorem lw_limb (L : Cond) (hL : ∀ (args : Array Value) (s t : State), L.after args s (.returned (some (.int 1))) t = true) :
    ArmFor flags0 classFile x code maxLocals ret World_1 tables_1 room_1 Calls_1 rest_1 Pre_1
      (fun tb e a s o t => postC L tb e a s o t ∧ Framed s o t (fieldLocs frame_1_writes a s ++ arrayLocs frame_1_arrays a s ++ staticLocs frame_1_statics s) 600000 7290000) := by
  intro l _ _ _ p e ha hc hk s m args below hf hfit hheap happ hpre
  obtain ⟨k, o, h1, h2, h3, rfl, hF⟩ := lw_comes l p e ha hc hk s m args below hf hfit hheap happ hpre
  exact ⟨k, _, h1, h2, h3, hL args s _, lw_frame hF⟩
theorem i_vc : Claimed_1_1 ∧ Claimed_1_2 := ⟨lw_limb limb_1_1 (fun args s t => by simp [limb_1_1, Cond.after, Cond.holds, Cond.value]), lw_limb limb_1_2 (fun args s t => Cond.after_iff.mpr (by
  first | (rw [show limb_1_2 = Cond.eq .result (.int 1) from rfl, Cond.eq_ints (x := 1) (y := 1) rfl rfl]; simp; done) | (simp [limb_1_2, Cond.value, Term.eval]; done)))⟩
end
