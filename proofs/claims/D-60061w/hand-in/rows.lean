section
-- ===== PART A: goes FIRST, ahead of the names: the tables' words, and 'selects' of the private methods out of them =====
/-- a private method of a class that the tables say can be made, by its rows of tables_1 -/
def lw_okq (q : MethodName × Nat) : Prop := (q.1.cls ≠ "java/lang/invoke/MethodHandle" ∧ q.1.cls ≠ "java/lang/invoke/VarHandle") ∧ Cond.instantiable q.1.cls q.2 ∈ tables_1 ∧ Cond.privateMethod q.1 ∈ tables_1 ∧ Cond.instanceMethod q.1 ∈ tables_1
set_option maxRecDepth 100000
theorem lw_p0 : lw_okq (⟨"RingDesk$Transform", "there", "([I)V"⟩, 3) := ⟨⟨by decide +kernel, by decide +kernel⟩, List.mem_of_getElem? (i := 13) rfl, List.mem_of_getElem? (i := 69) rfl, List.mem_of_getElem? (i := 70) rfl⟩
theorem lw_p1 : lw_okq (⟨"RingDesk$Transform", "pair", "(II)V"⟩, 3) := ⟨⟨by decide +kernel, by decide +kernel⟩, List.mem_of_getElem? (i := 13) rfl, List.mem_of_getElem? (i := 73) rfl, List.mem_of_getElem? (i := 74) rfl⟩
theorem lw_p2 : lw_okq (⟨"RingDesk$Transform", "back", "([I)V"⟩, 3) := ⟨⟨by decide +kernel, by decide +kernel⟩, List.mem_of_getElem? (i := 13) rfl, List.mem_of_getElem? (i := 77) rfl, List.mem_of_getElem? (i := 78) rfl⟩
def lw_privs_1 : List (MethodName × Nat) := [(⟨"RingDesk$Transform", "there", "([I)V"⟩, 3), (⟨"RingDesk$Transform", "pair", "(II)V"⟩, 3), (⟨"RingDesk$Transform", "back", "([I)V"⟩, 3)]
theorem lw_r1 : ∀ q ∈ lw_privs_1, lw_okq q := List.forall_mem_cons.mpr ⟨lw_p0, List.forall_mem_cons.mpr ⟨lw_p1, List.forall_mem_cons.mpr ⟨lw_p2, fun _ h => absurd h List.not_mem_nil⟩⟩⟩
def lw_privs : List (MethodName × Nat) := lw_privs_1
def lw_tbl : List Cond := k2_sels lw_privs ++ tables_1
theorem lw_privs_ok : ∀ q ∈ lw_privs, lw_okq q := lw_r1
-- ===== ONE list of words for every method: the tables' words that hold all through a run =====
def lw_all : List Cond := lw_tbl.filter goodWord
/-- a word of the tables by its place: claim/WORDS.tsv -/
theorem lw_w {w : Cond} (i : Nat) (h : lw_tbl[i]? = some w) (g : goodWord w = true) : w ∈ lw_all := List.mem_filter.mpr ⟨List.mem_of_getElem? h, g⟩
theorem lw_all_tbl {w : Cond} (h : w ∈ lw_all) : w ∈ lw_tbl := (List.mem_filter.mp h).1
theorem lw_self : GoodIn lw_all lw_all := fun w h => ⟨h, good_of_word (List.mem_filter.mp h).2⟩
/-- a class's field words, by their places -/
theorem lw_in (ws : List Cond) (ps : List Nat) (hp : ws = ps.filterMap (fun i => lw_tbl[i]?)) (hg : ws.all goodWord = true) : ∀ w ∈ ws, w ∈ lw_all := by
  intro w h
  have h1 := List.all_eq_true.mp hg w h
  rw [hp] at h
  obtain ⟨i, -, hi⟩ := List.mem_filterMap.mp h
  exact lw_w i hi h1
/-- the words of a contract for the method y with code b, L locals, answer r -/
abbrev ws_ (y : MethodName) (b : ByteArray) (L : Nat) (r : Option FieldType) : List Cond := Cond.code y b L r :: lw_all
theorem lw_meth {y : MethodName} {b : ByteArray} {L : Nat} {r : Option FieldType} (h : Cond.code y b L r ∈ lw_all) : GoodIn lw_all (ws_ y b L r) := by
  intro w hw
  rcases List.mem_cons.mp hw with e | e
  · rw [e]
    exact lw_self _ h
  · exact lw_self _ e
theorem lw_app {a c : List Cond} (ha : ∀ w ∈ a, w ∈ lw_all) (hc : GoodIn lw_all c) : GoodIn lw_all (a ++ c) := by
  intro w hw
  rcases List.mem_append.mp hw with e | e
  · exact lw_self w (ha w e)
  · exact hc w e
/-- what a call through an object asks: cwV n hts (lw_V ..) -/
theorem lw_V {own : String} {idx : Nat} {C : String} {y : MethodName} {b : ByteArray} {L : Nat} {r : Option FieldType} (h1 : Cond.methodLink own idx y ∈ lw_all) (h2 : Cond.instanceMethod y ∈ lw_all) (h3 : Cond.selects C y y ∈ lw_all) (h4 : Cond.initialized C ∈ lw_all) (h5 : Cond.code y b L r ∈ lw_all) : GoodIn lw_all (wsV own idx C y (ws_ y b L r)) := by
  refine lw_app ?_ (lw_meth h5)
  intro w hw
  simp only [List.mem_cons, List.not_mem_nil, or_false] at hw
  rcases hw with e | e | e | e
  · rw [e]; exact h1
  · rw [e]; exact h2
  · rw [e]; exact h3
  · rw [e]; exact h4
/-- what a static call asks: va_cwS n hts (lw_S ..) -/
theorem lw_S {own : String} {idx : Nat} {y : MethodName} {b : ByteArray} {L : Nat} {r : Option FieldType} (h1 : Cond.methodLink own idx y ∈ lw_all) (h2 : Cond.static y ∈ lw_all) (h3 : Cond.initialized y.cls ∈ lw_all) (h4 : Cond.code y b L r ∈ lw_all) : GoodIn lw_all (va_wsS own idx y (ws_ y b L r)) := by
  refine lw_app ?_ (lw_meth h4)
  intro w hw
  simp only [List.mem_cons, List.not_mem_nil, or_false] at hw
  rcases hw with e | e | e
  · rw [e]; exact h1
  · rw [e]; exact h2
  · rw [e]; exact h3
/-- the words of a contract for a method WITH HANDLERS (hh: its table) -/
abbrev wsW_ (y : MethodName) (b : ByteArray) (L : Nat) (r : Option FieldType) (hh : List (Nat × Nat × Nat × Nat)) : List Cond := Cond.codeWith y b L r hh :: lw_all
theorem lw_methW {y : MethodName} {b : ByteArray} {L : Nat} {r : Option FieldType} {hh : List (Nat × Nat × Nat × Nat)} (h : Cond.codeWith y b L r hh ∈ lw_all) : GoodIn lw_all (wsW_ y b L r hh) := by
  intro w hw
  rcases List.mem_cons.mp hw with e | e
  · rw [e]
    exact lw_self _ h
  · exact lw_self _ e
/-- any list of words by their places (lw_in), good -/
theorem lw_good {ws : List Cond} (h : ∀ w ∈ ws, w ∈ lw_all) : GoodIn lw_all ws := fun w hw => lw_self w (h w hw)
/-- what a call of a method with handlers asks: vx_cwVW n hts (lw_VW ..), vx_cwSW n hts (lw_SW ..) -/
theorem lw_VW {own : String} {idx : Nat} {C : String} {y : MethodName} {b : ByteArray} {L : Nat} {r : Option FieldType} {hh : List (Nat × Nat × Nat × Nat)} (h1 : Cond.methodLink own idx y ∈ lw_all) (h2 : Cond.instanceMethod y ∈ lw_all) (h3 : Cond.selects C y y ∈ lw_all) (h4 : Cond.initialized C ∈ lw_all) (h5 : Cond.codeWith y b L r hh ∈ lw_all) : GoodIn lw_all (wsV own idx C y (wsW_ y b L r hh)) := by
  refine lw_app ?_ (lw_methW h5)
  intro w hw
  simp only [List.mem_cons, List.not_mem_nil, or_false] at hw
  rcases hw with e | e | e | e
  · rw [e]; exact h1
  · rw [e]; exact h2
  · rw [e]; exact h3
  · rw [e]; exact h4
theorem lw_SW {own : String} {idx : Nat} {y : MethodName} {b : ByteArray} {L : Nat} {r : Option FieldType} {hh : List (Nat × Nat × Nat × Nat)} (h1 : Cond.methodLink own idx y ∈ lw_all) (h2 : Cond.static y ∈ lw_all) (h3 : Cond.initialized y.cls ∈ lw_all) (h4 : Cond.codeWith y b L r hh ∈ lw_all) : GoodIn lw_all (va_wsS own idx y (wsW_ y b L r hh)) := by
  refine lw_app ?_ (lw_methW h4)
  intro w hw
  simp only [List.mem_cons, List.not_mem_nil, or_false] at hw
  rcases hw with e | e | e
  · rw [e]; exact h1
  · rw [e]; exact h2
  · rw [e]; exact h3
/-- a word by its place in its run of the tables -/
theorem lw_at {r : List Cond} (hr : ∀ w ∈ r, w ∈ lw_tbl) {w : Cond} (i : Nat) (h : r[i]? = some w) : w ∈ lw_tbl := hr w (List.mem_of_getElem? h)
theorem lw_g {w : Cond} (h : w ∈ lw_tbl) (g : goodWord w = true) : w ∈ lw_all := List.mem_filter.mpr ⟨h, g⟩
theorem lw_ms : ∀ w ∈ k2_sels lw_privs, w ∈ lw_tbl := fun w h => show w ∈ k2_sels lw_privs ++ tables_1 from List.mem_append_left _ h
theorem lw_m0 : ∀ w ∈ tables_1, w ∈ lw_tbl := fun w h => show w ∈ k2_sels lw_privs ++ tables_1 from List.mem_append_right (k2_sels lw_privs) h
theorem qs0 : (Cond.selects "RingDesk$Transform" ⟨"RingDesk$Transform", "there", "([I)V"⟩ ⟨"RingDesk$Transform", "there", "([I)V"⟩) ∈ lw_all := lw_g (lw_at lw_ms 0 rfl) rfl
theorem qs1 : (Cond.selects "RingDesk$Transform" ⟨"RingDesk$Transform", "pair", "(II)V"⟩ ⟨"RingDesk$Transform", "pair", "(II)V"⟩) ∈ lw_all := lw_g (lw_at lw_ms 1 rfl) rfl
theorem qs2 : (Cond.selects "RingDesk$Transform" ⟨"RingDesk$Transform", "back", "([I)V"⟩ ⟨"RingDesk$Transform", "back", "([I)V"⟩) ∈ lw_all := lw_g (lw_at lw_ms 2 rfl) rfl
end
section
/-! java/lang/Object -/
set_option maxRecDepth 100000
def RJ0 : String := "java/lang/Object"
abbrev cJ0_init : ByteArray := object_method_1_code
def yJ0_init : MethodName := ⟨RJ0, "<init>", "()V"⟩
theorem dJ0_init_0 : decode cJ0_init 0 = .ok (.return_, 1) := by decide +kernel
theorem q13 : (Jvm.Cond.instanceMethod ({ cls := "java/lang/Object", name := "<init>", desc := "()V" } : Jvm.MethodName)) ∈ lw_all := lw_g (lw_at lw_m0 10 rfl) rfl
theorem q14 : (Jvm.Cond.code ({ cls := "java/lang/Object", name := "<init>", desc := "()V" } : Jvm.MethodName) object_method_1_code (1 : Nat) (Option.none : Option Jvm.ClassFile.FieldType)) ∈ lw_all := lw_g (lw_at lw_m0 11 rfl) rfl
theorem q31 : (Jvm.Cond.arrayClass Jvm.ClassFile.FieldType.int) ∈ lw_all := lw_g (lw_at lw_m0 28 rfl) rfl
set_option maxRecDepth 100000
theorem q3 : (Jvm.Cond.initialized "RingDeskLaw") ∈ lw_all := lw_g (lw_at lw_m0 0 rfl) rfl
set_option maxRecDepth 100000
theorem q7 : (Jvm.Cond.classLink "RingDeskLaw" (7 : Nat) "RingDesk") ∈ lw_all := lw_g (lw_at lw_m0 4 rfl) rfl
theorem q9 : (Jvm.Cond.methodLink "RingDeskLaw" (9 : Nat) ({ cls := "RingDesk", name := "<init>", desc := "()V" } : Jvm.MethodName)) ∈ lw_all := lw_g (lw_at lw_m0 6 rfl) rfl
theorem q45 : (Jvm.Cond.methodLink "RingDeskLaw" (13 : Nat) ({ cls := "RingDesk", name := "put", desc := "(IIII)V" } : Jvm.MethodName)) ∈ lw_all := lw_g (lw_at lw_m0 42 rfl) rfl
theorem q55 : (Jvm.Cond.methodLink "RingDeskLaw" (18 : Nat) ({ cls := "RingDesk", name := "add", desc := "(III)V" } : Jvm.MethodName)) ∈ lw_all := lw_g (lw_at lw_m0 52 rfl) rfl
theorem q59 : (Jvm.Cond.methodLink "RingDeskLaw" (23 : Nat) ({ cls := "RingDesk", name := "subtract", desc := "(III)V" } : Jvm.MethodName)) ∈ lw_all := lw_g (lw_at lw_m0 56 rfl) rfl
theorem q63 : (Jvm.Cond.methodLink "RingDeskLaw" (27 : Nat) ({ cls := "RingDesk", name := "multiply", desc := "(III)V" } : Jvm.MethodName)) ∈ lw_all := lw_g (lw_at lw_m0 60 rfl) rfl
theorem q83 : (Jvm.Cond.methodLink "RingDeskLaw" (31 : Nat) ({ cls := "RingDesk", name := "turn", desc := "(II)V" } : Jvm.MethodName)) ∈ lw_all := lw_g (lw_at lw_m0 80 rfl) rfl
theorem q87 : (Jvm.Cond.methodLink "RingDeskLaw" (36 : Nat) ({ cls := "RingDesk", name := "press", desc := "(II)V" } : Jvm.MethodName)) ∈ lw_all := lw_g (lw_at lw_m0 84 rfl) rfl
theorem q95 : (Jvm.Cond.methodLink "RingDeskLaw" (40 : Nat) ({ cls := "RingDesk", name := "unpress", desc := "(II)V" } : Jvm.MethodName)) ∈ lw_all := lw_g (lw_at lw_m0 92 rfl) rfl
theorem q99 : (Jvm.Cond.methodLink "RingDeskLaw" (44 : Nat) ({ cls := "RingDesk", name := "at", desc := "(II)I" } : Jvm.MethodName)) ∈ lw_all := lw_g (lw_at lw_m0 96 rfl) rfl
theorem q103 : (Jvm.Cond.classLink "RingDeskLaw" (10 : Nat) "RingDeskModel") ∈ lw_all := lw_g (lw_at lw_m0 100 rfl) rfl
theorem q105 : (Jvm.Cond.methodLink "RingDeskLaw" (12 : Nat) ({ cls := "RingDeskModel", name := "<init>", desc := "()V" } : Jvm.MethodName)) ∈ lw_all := lw_g (lw_at lw_m0 102 rfl) rfl
theorem q116 : (Jvm.Cond.methodLink "RingDeskLaw" (17 : Nat) ({ cls := "RingDeskModel", name := "put", desc := "(IIII)V" } : Jvm.MethodName)) ∈ lw_all := lw_g (lw_at lw_m0 113 rfl) rfl
theorem q120 : (Jvm.Cond.methodLink "RingDeskLaw" (22 : Nat) ({ cls := "RingDeskModel", name := "add", desc := "(III)V" } : Jvm.MethodName)) ∈ lw_all := lw_g (lw_at lw_m0 117 rfl) rfl
theorem q124 : (Jvm.Cond.methodLink "RingDeskLaw" (26 : Nat) ({ cls := "RingDeskModel", name := "subtract", desc := "(III)V" } : Jvm.MethodName)) ∈ lw_all := lw_g (lw_at lw_m0 121 rfl) rfl
theorem q128 : (Jvm.Cond.methodLink "RingDeskLaw" (30 : Nat) ({ cls := "RingDeskModel", name := "multiply", desc := "(III)V" } : Jvm.MethodName)) ∈ lw_all := lw_g (lw_at lw_m0 125 rfl) rfl
theorem q132 : (Jvm.Cond.methodLink "RingDeskLaw" (35 : Nat) ({ cls := "RingDeskModel", name := "turn", desc := "(II)V" } : Jvm.MethodName)) ∈ lw_all := lw_g (lw_at lw_m0 129 rfl) rfl
theorem q136 : (Jvm.Cond.methodLink "RingDeskLaw" (39 : Nat) ({ cls := "RingDeskModel", name := "press", desc := "(II)V" } : Jvm.MethodName)) ∈ lw_all := lw_g (lw_at lw_m0 133 rfl) rfl
theorem q141 : (Jvm.Cond.methodLink "RingDeskLaw" (43 : Nat) ({ cls := "RingDeskModel", name := "unpress", desc := "(II)V" } : Jvm.MethodName)) ∈ lw_all := lw_g (lw_at lw_m0 138 rfl) rfl
theorem q145 : (Jvm.Cond.methodLink "RingDeskLaw" (48 : Nat) ({ cls := "RingDeskModel", name := "at", desc := "(II)I" } : Jvm.MethodName)) ∈ lw_all := lw_g (lw_at lw_m0 142 rfl) rfl
end
section
/-! RingDesk -/
set_option maxRecDepth 100000
def RX0 : String := "RingDesk"
def TX0 : u_T := fun k => match k with
  | 0 => ("RingDesk", "registers", "[I", true)
  | 1 => ("RingDesk", "one", "[I", true)
  | 2 => ("RingDesk", "two", "[I", true)
  | _ => ("RingDesk", "transform", "LRingDesk$Transform;", true)
def tyX0 : Nat → FieldType := fun k => match k with
  | 0 => .array .int
  | 1 => .array .int
  | 2 => .array .int
  | _ => .object "RingDesk$Transform"
abbrev wsX00 : List Cond := u_ws RX0 TX0 4
theorem nmX0 : ∀ a, a < 4 → ∀ b, b < 4 → a ≠ b → (TX0 a).2.1 ≠ (TX0 b).2.1 := by decide +kernel
theorem tyX0_ok : ∀ k, k < 4 → parseFieldDescriptor (TX0 k).2.2.1 = some (tyX0 k) := by decide +kernel
abbrev cX0_init : ByteArray := prog_1_method_1_code
def yX0_init : MethodName := ⟨RX0, "<init>", "()V"⟩
theorem dX0_init_0 : decode cX0_init 0 = .ok (.aload_n 0, 1) := by decide +kernel
theorem dX0_init_1 : decode cX0_init 1 = .ok (.invokespecial 1, 3) := by decide +kernel
theorem dX0_init_4 : decode cX0_init 4 = .ok (.aload_n 0, 1) := by decide +kernel
theorem dX0_init_5 : decode cX0_init 5 = .ok (.sipush 1024, 3) := by decide +kernel
theorem dX0_init_8 : decode cX0_init 8 = .ok (.newarray .int, 2) := by decide +kernel
theorem dX0_init_10 : decode cX0_init 10 = .ok (.putfield 9, 3) := by decide +kernel
theorem dX0_init_13 : decode cX0_init 13 = .ok (.aload_n 0, 1) := by decide +kernel
theorem dX0_init_14 : decode cX0_init 14 = .ok (.sipush 256, 3) := by decide +kernel
theorem dX0_init_17 : decode cX0_init 17 = .ok (.newarray .int, 2) := by decide +kernel
theorem dX0_init_19 : decode cX0_init 19 = .ok (.putfield 13, 3) := by decide +kernel
theorem dX0_init_22 : decode cX0_init 22 = .ok (.aload_n 0, 1) := by decide +kernel
theorem dX0_init_23 : decode cX0_init 23 = .ok (.sipush 256, 3) := by decide +kernel
theorem dX0_init_26 : decode cX0_init 26 = .ok (.newarray .int, 2) := by decide +kernel
theorem dX0_init_28 : decode cX0_init 28 = .ok (.putfield 16, 3) := by decide +kernel
theorem dX0_init_31 : decode cX0_init 31 = .ok (.aload_n 0, 1) := by decide +kernel
theorem dX0_init_32 : decode cX0_init 32 = .ok (.new 19, 3) := by decide +kernel
theorem dX0_init_35 : decode cX0_init 35 = .ok (.dup, 1) := by decide +kernel
theorem dX0_init_36 : decode cX0_init 36 = .ok (.invokespecial 21, 3) := by decide +kernel
theorem dX0_init_39 : decode cX0_init 39 = .ok (.putfield 22, 3) := by decide +kernel
theorem dX0_init_42 : decode cX0_init 42 = .ok (.return_, 1) := by decide +kernel
abbrev cX0_put : ByteArray := prog_1_method_5_code
def yX0_put : MethodName := ⟨RX0, "put", "(IIII)V"⟩
theorem dX0_put_0 : decode cX0_put 0 = .ok (.aload_n 0, 1) := by decide +kernel
theorem dX0_put_1 : decode cX0_put 1 = .ok (.getfield 9, 3) := by decide +kernel
theorem dX0_put_4 : decode cX0_put 4 = .ok (.iload_n 1, 1) := by decide +kernel
theorem dX0_put_5 : decode cX0_put 5 = .ok (.invokestatic 27, 3) := by decide +kernel
theorem dX0_put_8 : decode cX0_put 8 = .ok (.iload_n 2, 1) := by decide +kernel
theorem dX0_put_9 : decode cX0_put 9 = .ok (.sipush 255, 3) := by decide +kernel
theorem dX0_put_12 : decode cX0_put 12 = .ok (.iand, 1) := by decide +kernel
theorem dX0_put_13 : decode cX0_put 13 = .ok (.iadd, 1) := by decide +kernel
theorem dX0_put_14 : decode cX0_put 14 = .ok (.iload_n 3, 1) := by decide +kernel
theorem dX0_put_15 : decode cX0_put 15 = .ok (.invokestatic 31, 3) := by decide +kernel
theorem dX0_put_18 : decode cX0_put 18 = .ok (.iastore, 1) := by decide +kernel
theorem dX0_put_19 : decode cX0_put 19 = .ok (.aload_n 0, 1) := by decide +kernel
theorem dX0_put_20 : decode cX0_put 20 = .ok (.getfield 9, 3) := by decide +kernel
theorem dX0_put_23 : decode cX0_put 23 = .ok (.iload_n 1, 1) := by decide +kernel
theorem dX0_put_24 : decode cX0_put 24 = .ok (.invokestatic 27, 3) := by decide +kernel
theorem dX0_put_27 : decode cX0_put 27 = .ok (.iload_n 2, 1) := by decide +kernel
theorem dX0_put_28 : decode cX0_put 28 = .ok (.iconst 1, 1) := by decide +kernel
theorem dX0_put_29 : decode cX0_put 29 = .ok (.iadd, 1) := by decide +kernel
theorem dX0_put_30 : decode cX0_put 30 = .ok (.sipush 255, 3) := by decide +kernel
theorem dX0_put_33 : decode cX0_put 33 = .ok (.iand, 1) := by decide +kernel
theorem dX0_put_34 : decode cX0_put 34 = .ok (.iadd, 1) := by decide +kernel
theorem dX0_put_35 : decode cX0_put 35 = .ok (.iload 4, 2) := by decide +kernel
theorem dX0_put_37 : decode cX0_put 37 = .ok (.invokestatic 31, 3) := by decide +kernel
theorem dX0_put_40 : decode cX0_put 40 = .ok (.iastore, 1) := by decide +kernel
theorem dX0_put_41 : decode cX0_put 41 = .ok (.return_, 1) := by decide +kernel
abbrev cX0_from : ByteArray := prog_1_method_2_code
def yX0_from : MethodName := ⟨RX0, "from", "(I)I"⟩
theorem dX0_from_0 : decode cX0_from 0 = .ok (.sipush 256, 3) := by decide +kernel
theorem dX0_from_3 : decode cX0_from 3 = .ok (.iload_n 0, 1) := by decide +kernel
theorem dX0_from_4 : decode cX0_from 4 = .ok (.iconst 3, 1) := by decide +kernel
theorem dX0_from_5 : decode cX0_from 5 = .ok (.iand, 1) := by decide +kernel
theorem dX0_from_6 : decode cX0_from 6 = .ok (.imul, 1) := by decide +kernel
theorem dX0_from_7 : decode cX0_from 7 = .ok (.ireturn, 1) := by decide +kernel
abbrev cX0_small : ByteArray := prog_1_method_3_code
def yX0_small : MethodName := ⟨RX0, "small", "(I)I"⟩
theorem dX0_small_0 : decode cX0_small 0 = .ok (.iload_n 0, 1) := by decide +kernel
theorem dX0_small_1 : decode cX0_small 1 = .ok (.sipush 3329, 3) := by decide +kernel
theorem dX0_small_4 : decode cX0_small 4 = .ok (.irem, 1) := by decide +kernel
theorem dX0_small_5 : decode cX0_small 5 = .ok (.istore_n 1, 1) := by decide +kernel
theorem dX0_small_6 : decode cX0_small 6 = .ok (.iload_n 1, 1) := by decide +kernel
theorem dX0_small_7 : decode cX0_small 7 = .ok (.ifCond .ge 11, 3) := by decide +kernel
theorem dX0_small_10 : decode cX0_small 10 = .ok (.iload_n 1, 1) := by decide +kernel
theorem dX0_small_11 : decode cX0_small 11 = .ok (.sipush 3329, 3) := by decide +kernel
theorem dX0_small_14 : decode cX0_small 14 = .ok (.iadd, 1) := by decide +kernel
theorem dX0_small_15 : decode cX0_small 15 = .ok (.goto 4, 3) := by decide +kernel
theorem dX0_small_18 : decode cX0_small 18 = .ok (.iload_n 1, 1) := by decide +kernel
theorem dX0_small_19 : decode cX0_small 19 = .ok (.ireturn, 1) := by decide +kernel
abbrev cX0_add : ByteArray := prog_1_method_6_code
def yX0_add : MethodName := ⟨RX0, "add", "(III)V"⟩
theorem dX0_add_0 : decode cX0_add 0 = .ok (.iconst 0, 1) := by decide +kernel
theorem dX0_add_1 : decode cX0_add 1 = .ok (.istore 4, 2) := by decide +kernel
theorem dX0_add_3 : decode cX0_add 3 = .ok (.iload 4, 2) := by decide +kernel
theorem dX0_add_5 : decode cX0_add 5 = .ok (.sipush 256, 3) := by decide +kernel
theorem dX0_add_8 : decode cX0_add 8 = .ok (.if_icmp .ge 67, 3) := by decide +kernel
theorem dX0_add_11 : decode cX0_add 11 = .ok (.aload_n 0, 1) := by decide +kernel
theorem dX0_add_12 : decode cX0_add 12 = .ok (.getfield 9, 3) := by decide +kernel
theorem dX0_add_15 : decode cX0_add 15 = .ok (.iload_n 2, 1) := by decide +kernel
theorem dX0_add_16 : decode cX0_add 16 = .ok (.invokestatic 27, 3) := by decide +kernel
theorem dX0_add_19 : decode cX0_add 19 = .ok (.iload 4, 2) := by decide +kernel
theorem dX0_add_21 : decode cX0_add 21 = .ok (.iadd, 1) := by decide +kernel
theorem dX0_add_22 : decode cX0_add 22 = .ok (.iaload, 1) := by decide +kernel
theorem dX0_add_23 : decode cX0_add 23 = .ok (.aload_n 0, 1) := by decide +kernel
theorem dX0_add_24 : decode cX0_add 24 = .ok (.getfield 9, 3) := by decide +kernel
theorem dX0_add_27 : decode cX0_add 27 = .ok (.iload_n 3, 1) := by decide +kernel
theorem dX0_add_28 : decode cX0_add 28 = .ok (.invokestatic 27, 3) := by decide +kernel
theorem dX0_add_31 : decode cX0_add 31 = .ok (.iload 4, 2) := by decide +kernel
theorem dX0_add_33 : decode cX0_add 33 = .ok (.iadd, 1) := by decide +kernel
theorem dX0_add_34 : decode cX0_add 34 = .ok (.iaload, 1) := by decide +kernel
theorem dX0_add_35 : decode cX0_add 35 = .ok (.iadd, 1) := by decide +kernel
theorem dX0_add_36 : decode cX0_add 36 = .ok (.istore 5, 2) := by decide +kernel
theorem dX0_add_38 : decode cX0_add 38 = .ok (.aload_n 0, 1) := by decide +kernel
theorem dX0_add_39 : decode cX0_add 39 = .ok (.getfield 9, 3) := by decide +kernel
theorem dX0_add_42 : decode cX0_add 42 = .ok (.iload_n 1, 1) := by decide +kernel
theorem dX0_add_43 : decode cX0_add 43 = .ok (.invokestatic 27, 3) := by decide +kernel
theorem dX0_add_46 : decode cX0_add 46 = .ok (.iload 4, 2) := by decide +kernel
theorem dX0_add_48 : decode cX0_add 48 = .ok (.iadd, 1) := by decide +kernel
theorem dX0_add_49 : decode cX0_add 49 = .ok (.iload 5, 2) := by decide +kernel
theorem dX0_add_51 : decode cX0_add 51 = .ok (.sipush 3329, 3) := by decide +kernel
theorem dX0_add_54 : decode cX0_add 54 = .ok (.if_icmp .ge 8, 3) := by decide +kernel
theorem dX0_add_57 : decode cX0_add 57 = .ok (.iload 5, 2) := by decide +kernel
theorem dX0_add_59 : decode cX0_add 59 = .ok (.goto 9, 3) := by decide +kernel
theorem dX0_add_62 : decode cX0_add 62 = .ok (.iload 5, 2) := by decide +kernel
theorem dX0_add_64 : decode cX0_add 64 = .ok (.sipush 3329, 3) := by decide +kernel
theorem dX0_add_67 : decode cX0_add 67 = .ok (.isub, 1) := by decide +kernel
theorem dX0_add_68 : decode cX0_add 68 = .ok (.iastore, 1) := by decide +kernel
theorem dX0_add_69 : decode cX0_add 69 = .ok (.iinc 4 1, 3) := by decide +kernel
theorem dX0_add_72 : decode cX0_add 72 = .ok (.goto (-69), 3) := by decide +kernel
theorem dX0_add_75 : decode cX0_add 75 = .ok (.return_, 1) := by decide +kernel
abbrev cX0_subtract : ByteArray := prog_1_method_7_code
def yX0_subtract : MethodName := ⟨RX0, "subtract", "(III)V"⟩
theorem dX0_subtract_0 : decode cX0_subtract 0 = .ok (.iconst 0, 1) := by decide +kernel
theorem dX0_subtract_1 : decode cX0_subtract 1 = .ok (.istore 4, 2) := by decide +kernel
theorem dX0_subtract_3 : decode cX0_subtract 3 = .ok (.iload 4, 2) := by decide +kernel
theorem dX0_subtract_5 : decode cX0_subtract 5 = .ok (.sipush 256, 3) := by decide +kernel
theorem dX0_subtract_8 : decode cX0_subtract 8 = .ok (.if_icmp .ge 64, 3) := by decide +kernel
theorem dX0_subtract_11 : decode cX0_subtract 11 = .ok (.aload_n 0, 1) := by decide +kernel
theorem dX0_subtract_12 : decode cX0_subtract 12 = .ok (.getfield 9, 3) := by decide +kernel
theorem dX0_subtract_15 : decode cX0_subtract 15 = .ok (.iload_n 2, 1) := by decide +kernel
theorem dX0_subtract_16 : decode cX0_subtract 16 = .ok (.invokestatic 27, 3) := by decide +kernel
theorem dX0_subtract_19 : decode cX0_subtract 19 = .ok (.iload 4, 2) := by decide +kernel
theorem dX0_subtract_21 : decode cX0_subtract 21 = .ok (.iadd, 1) := by decide +kernel
theorem dX0_subtract_22 : decode cX0_subtract 22 = .ok (.iaload, 1) := by decide +kernel
theorem dX0_subtract_23 : decode cX0_subtract 23 = .ok (.aload_n 0, 1) := by decide +kernel
theorem dX0_subtract_24 : decode cX0_subtract 24 = .ok (.getfield 9, 3) := by decide +kernel
theorem dX0_subtract_27 : decode cX0_subtract 27 = .ok (.iload_n 3, 1) := by decide +kernel
theorem dX0_subtract_28 : decode cX0_subtract 28 = .ok (.invokestatic 27, 3) := by decide +kernel
theorem dX0_subtract_31 : decode cX0_subtract 31 = .ok (.iload 4, 2) := by decide +kernel
theorem dX0_subtract_33 : decode cX0_subtract 33 = .ok (.iadd, 1) := by decide +kernel
theorem dX0_subtract_34 : decode cX0_subtract 34 = .ok (.iaload, 1) := by decide +kernel
theorem dX0_subtract_35 : decode cX0_subtract 35 = .ok (.isub, 1) := by decide +kernel
theorem dX0_subtract_36 : decode cX0_subtract 36 = .ok (.istore 5, 2) := by decide +kernel
theorem dX0_subtract_38 : decode cX0_subtract 38 = .ok (.aload_n 0, 1) := by decide +kernel
theorem dX0_subtract_39 : decode cX0_subtract 39 = .ok (.getfield 9, 3) := by decide +kernel
theorem dX0_subtract_42 : decode cX0_subtract 42 = .ok (.iload_n 1, 1) := by decide +kernel
theorem dX0_subtract_43 : decode cX0_subtract 43 = .ok (.invokestatic 27, 3) := by decide +kernel
theorem dX0_subtract_46 : decode cX0_subtract 46 = .ok (.iload 4, 2) := by decide +kernel
theorem dX0_subtract_48 : decode cX0_subtract 48 = .ok (.iadd, 1) := by decide +kernel
theorem dX0_subtract_49 : decode cX0_subtract 49 = .ok (.iload 5, 2) := by decide +kernel
theorem dX0_subtract_51 : decode cX0_subtract 51 = .ok (.ifCond .ge 12, 3) := by decide +kernel
theorem dX0_subtract_54 : decode cX0_subtract 54 = .ok (.iload 5, 2) := by decide +kernel
theorem dX0_subtract_56 : decode cX0_subtract 56 = .ok (.sipush 3329, 3) := by decide +kernel
theorem dX0_subtract_59 : decode cX0_subtract 59 = .ok (.iadd, 1) := by decide +kernel
theorem dX0_subtract_60 : decode cX0_subtract 60 = .ok (.goto 5, 3) := by decide +kernel
theorem dX0_subtract_63 : decode cX0_subtract 63 = .ok (.iload 5, 2) := by decide +kernel
theorem dX0_subtract_65 : decode cX0_subtract 65 = .ok (.iastore, 1) := by decide +kernel
theorem dX0_subtract_66 : decode cX0_subtract 66 = .ok (.iinc 4 1, 3) := by decide +kernel
theorem dX0_subtract_69 : decode cX0_subtract 69 = .ok (.goto (-66), 3) := by decide +kernel
theorem dX0_subtract_72 : decode cX0_subtract 72 = .ok (.return_, 1) := by decide +kernel
abbrev cX0_multiply : ByteArray := prog_1_method_8_code
def yX0_multiply : MethodName := ⟨RX0, "multiply", "(III)V"⟩
theorem dX0_multiply_0 : decode cX0_multiply 0 = .ok (.iconst 0, 1) := by decide +kernel
theorem dX0_multiply_1 : decode cX0_multiply 1 = .ok (.istore 4, 2) := by decide +kernel
theorem dX0_multiply_3 : decode cX0_multiply 3 = .ok (.iload 4, 2) := by decide +kernel
theorem dX0_multiply_5 : decode cX0_multiply 5 = .ok (.sipush 256, 3) := by decide +kernel
theorem dX0_multiply_8 : decode cX0_multiply 8 = .ok (.if_icmp .ge 47, 3) := by decide +kernel
theorem dX0_multiply_11 : decode cX0_multiply 11 = .ok (.aload_n 0, 1) := by decide +kernel
theorem dX0_multiply_12 : decode cX0_multiply 12 = .ok (.getfield 13, 3) := by decide +kernel
theorem dX0_multiply_15 : decode cX0_multiply 15 = .ok (.iload 4, 2) := by decide +kernel
theorem dX0_multiply_17 : decode cX0_multiply 17 = .ok (.aload_n 0, 1) := by decide +kernel
theorem dX0_multiply_18 : decode cX0_multiply 18 = .ok (.getfield 9, 3) := by decide +kernel
theorem dX0_multiply_21 : decode cX0_multiply 21 = .ok (.iload_n 2, 1) := by decide +kernel
theorem dX0_multiply_22 : decode cX0_multiply 22 = .ok (.invokestatic 27, 3) := by decide +kernel
theorem dX0_multiply_25 : decode cX0_multiply 25 = .ok (.iload 4, 2) := by decide +kernel
theorem dX0_multiply_27 : decode cX0_multiply 27 = .ok (.iadd, 1) := by decide +kernel
theorem dX0_multiply_28 : decode cX0_multiply 28 = .ok (.iaload, 1) := by decide +kernel
theorem dX0_multiply_29 : decode cX0_multiply 29 = .ok (.iastore, 1) := by decide +kernel
theorem dX0_multiply_30 : decode cX0_multiply 30 = .ok (.aload_n 0, 1) := by decide +kernel
theorem dX0_multiply_31 : decode cX0_multiply 31 = .ok (.getfield 16, 3) := by decide +kernel
theorem dX0_multiply_34 : decode cX0_multiply 34 = .ok (.iload 4, 2) := by decide +kernel
theorem dX0_multiply_36 : decode cX0_multiply 36 = .ok (.aload_n 0, 1) := by decide +kernel
theorem dX0_multiply_37 : decode cX0_multiply 37 = .ok (.getfield 9, 3) := by decide +kernel
theorem dX0_multiply_40 : decode cX0_multiply 40 = .ok (.iload_n 3, 1) := by decide +kernel
theorem dX0_multiply_41 : decode cX0_multiply 41 = .ok (.invokestatic 27, 3) := by decide +kernel
theorem dX0_multiply_44 : decode cX0_multiply 44 = .ok (.iload 4, 2) := by decide +kernel
theorem dX0_multiply_46 : decode cX0_multiply 46 = .ok (.iadd, 1) := by decide +kernel
theorem dX0_multiply_47 : decode cX0_multiply 47 = .ok (.iaload, 1) := by decide +kernel
theorem dX0_multiply_48 : decode cX0_multiply 48 = .ok (.iastore, 1) := by decide +kernel
theorem dX0_multiply_49 : decode cX0_multiply 49 = .ok (.iinc 4 1, 3) := by decide +kernel
theorem dX0_multiply_52 : decode cX0_multiply 52 = .ok (.goto (-49), 3) := by decide +kernel
theorem dX0_multiply_55 : decode cX0_multiply 55 = .ok (.aload_n 0, 1) := by decide +kernel
theorem dX0_multiply_56 : decode cX0_multiply 56 = .ok (.getfield 22, 3) := by decide +kernel
theorem dX0_multiply_59 : decode cX0_multiply 59 = .ok (.aload_n 0, 1) := by decide +kernel
theorem dX0_multiply_60 : decode cX0_multiply 60 = .ok (.getfield 13, 3) := by decide +kernel
theorem dX0_multiply_63 : decode cX0_multiply 63 = .ok (.aload_n 0, 1) := by decide +kernel
theorem dX0_multiply_64 : decode cX0_multiply 64 = .ok (.getfield 16, 3) := by decide +kernel
theorem dX0_multiply_67 : decode cX0_multiply 67 = .ok (.aload_n 0, 1) := by decide +kernel
theorem dX0_multiply_68 : decode cX0_multiply 68 = .ok (.getfield 13, 3) := by decide +kernel
theorem dX0_multiply_71 : decode cX0_multiply 71 = .ok (.invokevirtual 34, 3) := by decide +kernel
theorem dX0_multiply_74 : decode cX0_multiply 74 = .ok (.iconst 0, 1) := by decide +kernel
theorem dX0_multiply_75 : decode cX0_multiply 75 = .ok (.istore 4, 2) := by decide +kernel
theorem dX0_multiply_77 : decode cX0_multiply 77 = .ok (.iload 4, 2) := by decide +kernel
theorem dX0_multiply_79 : decode cX0_multiply 79 = .ok (.sipush 256, 3) := by decide +kernel
theorem dX0_multiply_82 : decode cX0_multiply 82 = .ok (.if_icmp .ge 28, 3) := by decide +kernel
theorem dX0_multiply_85 : decode cX0_multiply 85 = .ok (.aload_n 0, 1) := by decide +kernel
theorem dX0_multiply_86 : decode cX0_multiply 86 = .ok (.getfield 9, 3) := by decide +kernel
theorem dX0_multiply_89 : decode cX0_multiply 89 = .ok (.iload_n 1, 1) := by decide +kernel
theorem dX0_multiply_90 : decode cX0_multiply 90 = .ok (.invokestatic 27, 3) := by decide +kernel
theorem dX0_multiply_93 : decode cX0_multiply 93 = .ok (.iload 4, 2) := by decide +kernel
theorem dX0_multiply_95 : decode cX0_multiply 95 = .ok (.iadd, 1) := by decide +kernel
theorem dX0_multiply_96 : decode cX0_multiply 96 = .ok (.aload_n 0, 1) := by decide +kernel
theorem dX0_multiply_97 : decode cX0_multiply 97 = .ok (.getfield 13, 3) := by decide +kernel
theorem dX0_multiply_100 : decode cX0_multiply 100 = .ok (.iload 4, 2) := by decide +kernel
theorem dX0_multiply_102 : decode cX0_multiply 102 = .ok (.iaload, 1) := by decide +kernel
theorem dX0_multiply_103 : decode cX0_multiply 103 = .ok (.iastore, 1) := by decide +kernel
theorem dX0_multiply_104 : decode cX0_multiply 104 = .ok (.iinc 4 1, 3) := by decide +kernel
theorem dX0_multiply_107 : decode cX0_multiply 107 = .ok (.goto (-30), 3) := by decide +kernel
theorem dX0_multiply_110 : decode cX0_multiply 110 = .ok (.return_, 1) := by decide +kernel
abbrev cX0_turn : ByteArray := prog_1_method_9_code
def yX0_turn : MethodName := ⟨RX0, "turn", "(II)V"⟩
theorem dX0_turn_0 : decode cX0_turn 0 = .ok (.iload_n 2, 1) := by decide +kernel
theorem dX0_turn_1 : decode cX0_turn 1 = .ok (.sipush 255, 3) := by decide +kernel
theorem dX0_turn_4 : decode cX0_turn 4 = .ok (.iand, 1) := by decide +kernel
theorem dX0_turn_5 : decode cX0_turn 5 = .ok (.istore_n 3, 1) := by decide +kernel
theorem dX0_turn_6 : decode cX0_turn 6 = .ok (.iconst 0, 1) := by decide +kernel
theorem dX0_turn_7 : decode cX0_turn 7 = .ok (.istore 4, 2) := by decide +kernel
theorem dX0_turn_9 : decode cX0_turn 9 = .ok (.iload 4, 2) := by decide +kernel
theorem dX0_turn_11 : decode cX0_turn 11 = .ok (.sipush 256, 3) := by decide +kernel
theorem dX0_turn_14 : decode cX0_turn 14 = .ok (.if_icmp .ge 62, 3) := by decide +kernel
theorem dX0_turn_17 : decode cX0_turn 17 = .ok (.aload_n 0, 1) := by decide +kernel
theorem dX0_turn_18 : decode cX0_turn 18 = .ok (.getfield 9, 3) := by decide +kernel
theorem dX0_turn_21 : decode cX0_turn 21 = .ok (.iload_n 1, 1) := by decide +kernel
theorem dX0_turn_22 : decode cX0_turn 22 = .ok (.invokestatic 27, 3) := by decide +kernel
theorem dX0_turn_25 : decode cX0_turn 25 = .ok (.iload 4, 2) := by decide +kernel
theorem dX0_turn_27 : decode cX0_turn 27 = .ok (.iadd, 1) := by decide +kernel
theorem dX0_turn_28 : decode cX0_turn 28 = .ok (.iaload, 1) := by decide +kernel
theorem dX0_turn_29 : decode cX0_turn 29 = .ok (.istore 5, 2) := by decide +kernel
theorem dX0_turn_31 : decode cX0_turn 31 = .ok (.aload_n 0, 1) := by decide +kernel
theorem dX0_turn_32 : decode cX0_turn 32 = .ok (.getfield 13, 3) := by decide +kernel
theorem dX0_turn_35 : decode cX0_turn 35 = .ok (.iload 4, 2) := by decide +kernel
theorem dX0_turn_37 : decode cX0_turn 37 = .ok (.iload_n 3, 1) := by decide +kernel
theorem dX0_turn_38 : decode cX0_turn 38 = .ok (.iadd, 1) := by decide +kernel
theorem dX0_turn_39 : decode cX0_turn 39 = .ok (.sipush 255, 3) := by decide +kernel
theorem dX0_turn_42 : decode cX0_turn 42 = .ok (.iand, 1) := by decide +kernel
theorem dX0_turn_43 : decode cX0_turn 43 = .ok (.iload 4, 2) := by decide +kernel
theorem dX0_turn_45 : decode cX0_turn 45 = .ok (.iload_n 3, 1) := by decide +kernel
theorem dX0_turn_46 : decode cX0_turn 46 = .ok (.iadd, 1) := by decide +kernel
theorem dX0_turn_47 : decode cX0_turn 47 = .ok (.sipush 256, 3) := by decide +kernel
theorem dX0_turn_50 : decode cX0_turn 50 = .ok (.if_icmp .lt 8, 3) := by decide +kernel
theorem dX0_turn_53 : decode cX0_turn 53 = .ok (.iload 5, 2) := by decide +kernel
theorem dX0_turn_55 : decode cX0_turn 55 = .ok (.ifCond .ne 8, 3) := by decide +kernel
theorem dX0_turn_58 : decode cX0_turn 58 = .ok (.iload 5, 2) := by decide +kernel
theorem dX0_turn_60 : decode cX0_turn 60 = .ok (.goto 9, 3) := by decide +kernel
theorem dX0_turn_63 : decode cX0_turn 63 = .ok (.sipush 3329, 3) := by decide +kernel
theorem dX0_turn_66 : decode cX0_turn 66 = .ok (.iload 5, 2) := by decide +kernel
theorem dX0_turn_68 : decode cX0_turn 68 = .ok (.isub, 1) := by decide +kernel
theorem dX0_turn_69 : decode cX0_turn 69 = .ok (.iastore, 1) := by decide +kernel
theorem dX0_turn_70 : decode cX0_turn 70 = .ok (.iinc 4 1, 3) := by decide +kernel
theorem dX0_turn_73 : decode cX0_turn 73 = .ok (.goto (-64), 3) := by decide +kernel
theorem dX0_turn_76 : decode cX0_turn 76 = .ok (.iconst 0, 1) := by decide +kernel
theorem dX0_turn_77 : decode cX0_turn 77 = .ok (.istore 4, 2) := by decide +kernel
theorem dX0_turn_79 : decode cX0_turn 79 = .ok (.iload 4, 2) := by decide +kernel
theorem dX0_turn_81 : decode cX0_turn 81 = .ok (.sipush 256, 3) := by decide +kernel
theorem dX0_turn_84 : decode cX0_turn 84 = .ok (.if_icmp .ge 28, 3) := by decide +kernel
theorem dX0_turn_87 : decode cX0_turn 87 = .ok (.aload_n 0, 1) := by decide +kernel
theorem dX0_turn_88 : decode cX0_turn 88 = .ok (.getfield 9, 3) := by decide +kernel
theorem dX0_turn_91 : decode cX0_turn 91 = .ok (.iload_n 1, 1) := by decide +kernel
theorem dX0_turn_92 : decode cX0_turn 92 = .ok (.invokestatic 27, 3) := by decide +kernel
theorem dX0_turn_95 : decode cX0_turn 95 = .ok (.iload 4, 2) := by decide +kernel
theorem dX0_turn_97 : decode cX0_turn 97 = .ok (.iadd, 1) := by decide +kernel
theorem dX0_turn_98 : decode cX0_turn 98 = .ok (.aload_n 0, 1) := by decide +kernel
theorem dX0_turn_99 : decode cX0_turn 99 = .ok (.getfield 13, 3) := by decide +kernel
theorem dX0_turn_102 : decode cX0_turn 102 = .ok (.iload 4, 2) := by decide +kernel
theorem dX0_turn_104 : decode cX0_turn 104 = .ok (.iaload, 1) := by decide +kernel
theorem dX0_turn_105 : decode cX0_turn 105 = .ok (.iastore, 1) := by decide +kernel
theorem dX0_turn_106 : decode cX0_turn 106 = .ok (.iinc 4 1, 3) := by decide +kernel
theorem dX0_turn_109 : decode cX0_turn 109 = .ok (.goto (-30), 3) := by decide +kernel
theorem dX0_turn_112 : decode cX0_turn 112 = .ok (.return_, 1) := by decide +kernel
abbrev cX0_press : ByteArray := prog_1_method_10_code
def yX0_press : MethodName := ⟨RX0, "press", "(II)V"⟩
theorem dX0_press_0 : decode cX0_press 0 = .ok (.iload_n 2, 1) := by decide +kernel
theorem dX0_press_1 : decode cX0_press 1 = .ok (.invokestatic 38, 3) := by decide +kernel
theorem dX0_press_4 : decode cX0_press 4 = .ok (.istore_n 3, 1) := by decide +kernel
theorem dX0_press_5 : decode cX0_press 5 = .ok (.iconst 0, 1) := by decide +kernel
theorem dX0_press_6 : decode cX0_press 6 = .ok (.istore 4, 2) := by decide +kernel
theorem dX0_press_8 : decode cX0_press 8 = .ok (.iload 4, 2) := by decide +kernel
theorem dX0_press_10 : decode cX0_press 10 = .ok (.sipush 256, 3) := by decide +kernel
theorem dX0_press_13 : decode cX0_press 13 = .ok (.if_icmp .ge 53, 3) := by decide +kernel
theorem dX0_press_16 : decode cX0_press 16 = .ok (.aload_n 0, 1) := by decide +kernel
theorem dX0_press_17 : decode cX0_press 17 = .ok (.getfield 9, 3) := by decide +kernel
theorem dX0_press_20 : decode cX0_press 20 = .ok (.iload_n 1, 1) := by decide +kernel
theorem dX0_press_21 : decode cX0_press 21 = .ok (.invokestatic 27, 3) := by decide +kernel
theorem dX0_press_24 : decode cX0_press 24 = .ok (.iload 4, 2) := by decide +kernel
theorem dX0_press_26 : decode cX0_press 26 = .ok (.iadd, 1) := by decide +kernel
theorem dX0_press_27 : decode cX0_press 27 = .ok (.iaload, 1) := by decide +kernel
theorem dX0_press_28 : decode cX0_press 28 = .ok (.istore 5, 2) := by decide +kernel
theorem dX0_press_30 : decode cX0_press 30 = .ok (.aload_n 0, 1) := by decide +kernel
theorem dX0_press_31 : decode cX0_press 31 = .ok (.getfield 9, 3) := by decide +kernel
theorem dX0_press_34 : decode cX0_press 34 = .ok (.iload_n 1, 1) := by decide +kernel
theorem dX0_press_35 : decode cX0_press 35 = .ok (.invokestatic 27, 3) := by decide +kernel
theorem dX0_press_38 : decode cX0_press 38 = .ok (.iload 4, 2) := by decide +kernel
theorem dX0_press_40 : decode cX0_press 40 = .ok (.iadd, 1) := by decide +kernel
theorem dX0_press_41 : decode cX0_press 41 = .ok (.iload 5, 2) := by decide +kernel
theorem dX0_press_43 : decode cX0_press 43 = .ok (.iload_n 3, 1) := by decide +kernel
theorem dX0_press_44 : decode cX0_press 44 = .ok (.ishl, 1) := by decide +kernel
theorem dX0_press_45 : decode cX0_press 45 = .ok (.sipush 1664, 3) := by decide +kernel
theorem dX0_press_48 : decode cX0_press 48 = .ok (.iadd, 1) := by decide +kernel
theorem dX0_press_49 : decode cX0_press 49 = .ok (.sipush 3329, 3) := by decide +kernel
theorem dX0_press_52 : decode cX0_press 52 = .ok (.idiv, 1) := by decide +kernel
theorem dX0_press_53 : decode cX0_press 53 = .ok (.iconst 1, 1) := by decide +kernel
theorem dX0_press_54 : decode cX0_press 54 = .ok (.iload_n 3, 1) := by decide +kernel
theorem dX0_press_55 : decode cX0_press 55 = .ok (.ishl, 1) := by decide +kernel
theorem dX0_press_56 : decode cX0_press 56 = .ok (.iconst 1, 1) := by decide +kernel
theorem dX0_press_57 : decode cX0_press 57 = .ok (.isub, 1) := by decide +kernel
theorem dX0_press_58 : decode cX0_press 58 = .ok (.iand, 1) := by decide +kernel
theorem dX0_press_59 : decode cX0_press 59 = .ok (.iastore, 1) := by decide +kernel
theorem dX0_press_60 : decode cX0_press 60 = .ok (.iinc 4 1, 3) := by decide +kernel
theorem dX0_press_63 : decode cX0_press 63 = .ok (.goto (-55), 3) := by decide +kernel
theorem dX0_press_66 : decode cX0_press 66 = .ok (.return_, 1) := by decide +kernel
abbrev cX0_bits : ByteArray := prog_1_method_4_code
def yX0_bits : MethodName := ⟨RX0, "bits", "(I)I"⟩
theorem dX0_bits_0 : decode cX0_bits 0 = .ok (.iconst 1, 1) := by decide +kernel
theorem dX0_bits_1 : decode cX0_bits 1 = .ok (.iload_n 0, 1) := by decide +kernel
theorem dX0_bits_2 : decode cX0_bits 2 = .ok (.ldc 26, 2) := by decide +kernel
theorem dX0_bits_4 : decode cX0_bits 4 = .ok (.iand, 1) := by decide +kernel
theorem dX0_bits_5 : decode cX0_bits 5 = .ok (.bipush 11, 2) := by decide +kernel
theorem dX0_bits_7 : decode cX0_bits 7 = .ok (.irem, 1) := by decide +kernel
theorem dX0_bits_8 : decode cX0_bits 8 = .ok (.iadd, 1) := by decide +kernel
theorem dX0_bits_9 : decode cX0_bits 9 = .ok (.ireturn, 1) := by decide +kernel
abbrev cX0_unpress : ByteArray := prog_1_method_11_code
def yX0_unpress : MethodName := ⟨RX0, "unpress", "(II)V"⟩
theorem dX0_unpress_0 : decode cX0_unpress 0 = .ok (.iload_n 2, 1) := by decide +kernel
theorem dX0_unpress_1 : decode cX0_unpress 1 = .ok (.invokestatic 38, 3) := by decide +kernel
theorem dX0_unpress_4 : decode cX0_unpress 4 = .ok (.istore_n 3, 1) := by decide +kernel
theorem dX0_unpress_5 : decode cX0_unpress 5 = .ok (.iconst 0, 1) := by decide +kernel
theorem dX0_unpress_6 : decode cX0_unpress 6 = .ok (.istore 4, 2) := by decide +kernel
theorem dX0_unpress_8 : decode cX0_unpress 8 = .ok (.iload 4, 2) := by decide +kernel
theorem dX0_unpress_10 : decode cX0_unpress 10 = .ok (.sipush 256, 3) := by decide +kernel
theorem dX0_unpress_13 : decode cX0_unpress 13 = .ok (.if_icmp .ge 55, 3) := by decide +kernel
theorem dX0_unpress_16 : decode cX0_unpress 16 = .ok (.aload_n 0, 1) := by decide +kernel
theorem dX0_unpress_17 : decode cX0_unpress 17 = .ok (.getfield 9, 3) := by decide +kernel
theorem dX0_unpress_20 : decode cX0_unpress 20 = .ok (.iload_n 1, 1) := by decide +kernel
theorem dX0_unpress_21 : decode cX0_unpress 21 = .ok (.invokestatic 27, 3) := by decide +kernel
theorem dX0_unpress_24 : decode cX0_unpress 24 = .ok (.iload 4, 2) := by decide +kernel
theorem dX0_unpress_26 : decode cX0_unpress 26 = .ok (.iadd, 1) := by decide +kernel
theorem dX0_unpress_27 : decode cX0_unpress 27 = .ok (.iaload, 1) := by decide +kernel
theorem dX0_unpress_28 : decode cX0_unpress 28 = .ok (.iconst 1, 1) := by decide +kernel
theorem dX0_unpress_29 : decode cX0_unpress 29 = .ok (.iload_n 3, 1) := by decide +kernel
theorem dX0_unpress_30 : decode cX0_unpress 30 = .ok (.ishl, 1) := by decide +kernel
theorem dX0_unpress_31 : decode cX0_unpress 31 = .ok (.iconst 1, 1) := by decide +kernel
theorem dX0_unpress_32 : decode cX0_unpress 32 = .ok (.isub, 1) := by decide +kernel
theorem dX0_unpress_33 : decode cX0_unpress 33 = .ok (.iand, 1) := by decide +kernel
theorem dX0_unpress_34 : decode cX0_unpress 34 = .ok (.istore 5, 2) := by decide +kernel
theorem dX0_unpress_36 : decode cX0_unpress 36 = .ok (.aload_n 0, 1) := by decide +kernel
theorem dX0_unpress_37 : decode cX0_unpress 37 = .ok (.getfield 9, 3) := by decide +kernel
theorem dX0_unpress_40 : decode cX0_unpress 40 = .ok (.iload_n 1, 1) := by decide +kernel
theorem dX0_unpress_41 : decode cX0_unpress 41 = .ok (.invokestatic 27, 3) := by decide +kernel
theorem dX0_unpress_44 : decode cX0_unpress 44 = .ok (.iload 4, 2) := by decide +kernel
theorem dX0_unpress_46 : decode cX0_unpress 46 = .ok (.iadd, 1) := by decide +kernel
theorem dX0_unpress_47 : decode cX0_unpress 47 = .ok (.iload 5, 2) := by decide +kernel
theorem dX0_unpress_49 : decode cX0_unpress 49 = .ok (.sipush 3329, 3) := by decide +kernel
theorem dX0_unpress_52 : decode cX0_unpress 52 = .ok (.imul, 1) := by decide +kernel
theorem dX0_unpress_53 : decode cX0_unpress 53 = .ok (.iconst 1, 1) := by decide +kernel
theorem dX0_unpress_54 : decode cX0_unpress 54 = .ok (.iload_n 3, 1) := by decide +kernel
theorem dX0_unpress_55 : decode cX0_unpress 55 = .ok (.iconst 1, 1) := by decide +kernel
theorem dX0_unpress_56 : decode cX0_unpress 56 = .ok (.isub, 1) := by decide +kernel
theorem dX0_unpress_57 : decode cX0_unpress 57 = .ok (.ishl, 1) := by decide +kernel
theorem dX0_unpress_58 : decode cX0_unpress 58 = .ok (.iadd, 1) := by decide +kernel
theorem dX0_unpress_59 : decode cX0_unpress 59 = .ok (.iload_n 3, 1) := by decide +kernel
theorem dX0_unpress_60 : decode cX0_unpress 60 = .ok (.ishr, 1) := by decide +kernel
theorem dX0_unpress_61 : decode cX0_unpress 61 = .ok (.iastore, 1) := by decide +kernel
theorem dX0_unpress_62 : decode cX0_unpress 62 = .ok (.iinc 4 1, 3) := by decide +kernel
theorem dX0_unpress_65 : decode cX0_unpress 65 = .ok (.goto (-57), 3) := by decide +kernel
theorem dX0_unpress_68 : decode cX0_unpress 68 = .ok (.return_, 1) := by decide +kernel
abbrev cX0_at : ByteArray := prog_1_method_12_code
def yX0_at : MethodName := ⟨RX0, "at", "(II)I"⟩
theorem dX0_at_0 : decode cX0_at 0 = .ok (.aload_n 0, 1) := by decide +kernel
theorem dX0_at_1 : decode cX0_at 1 = .ok (.getfield 9, 3) := by decide +kernel
theorem dX0_at_4 : decode cX0_at 4 = .ok (.iload_n 1, 1) := by decide +kernel
theorem dX0_at_5 : decode cX0_at 5 = .ok (.invokestatic 27, 3) := by decide +kernel
theorem dX0_at_8 : decode cX0_at 8 = .ok (.iload_n 2, 1) := by decide +kernel
theorem dX0_at_9 : decode cX0_at 9 = .ok (.sipush 255, 3) := by decide +kernel
theorem dX0_at_12 : decode cX0_at 12 = .ok (.iand, 1) := by decide +kernel
theorem dX0_at_13 : decode cX0_at 13 = .ok (.iadd, 1) := by decide +kernel
theorem dX0_at_14 : decode cX0_at 14 = .ok (.iaload, 1) := by decide +kernel
theorem dX0_at_15 : decode cX0_at 15 = .ok (.ireturn, 1) := by decide +kernel
theorem q4 : (Jvm.Cond.initialized "RingDesk") ∈ lw_all := lw_g (lw_at lw_m0 1 rfl) rfl
theorem q8 : (Jvm.Cond.instantiable "RingDesk" (4 : Nat)) ∈ lw_all := lw_g (lw_at lw_m0 5 rfl) rfl
theorem q10 : (Jvm.Cond.instanceMethod ({ cls := "RingDesk", name := "<init>", desc := "()V" } : Jvm.MethodName)) ∈ lw_all := lw_g (lw_at lw_m0 7 rfl) rfl
theorem q11 : (Jvm.Cond.code ({ cls := "RingDesk", name := "<init>", desc := "()V" } : Jvm.MethodName) prog_1_method_1_code (1 : Nat) (Option.none : Option Jvm.ClassFile.FieldType)) ∈ lw_all := lw_g (lw_at lw_m0 8 rfl) rfl
theorem q12 : (Jvm.Cond.methodLink "RingDesk" (1 : Nat) ({ cls := "java/lang/Object", name := "<init>", desc := "()V" } : Jvm.MethodName)) ∈ lw_all := lw_g (lw_at lw_m0 9 rfl) rfl
theorem q15 : (Jvm.Cond.classLink "RingDesk" (19 : Nat) "RingDesk$Transform") ∈ lw_all := lw_g (lw_at lw_m0 12 rfl) rfl
theorem q17 : (Jvm.Cond.methodLink "RingDesk" (21 : Nat) ({ cls := "RingDesk$Transform", name := "<init>", desc := "()V" } : Jvm.MethodName)) ∈ lw_all := lw_g (lw_at lw_m0 14 rfl) rfl
theorem q32 : (Jvm.Cond.fieldLink "RingDesk" (9 : Nat) "RingDesk" "registers" "[I") ∈ lw_all := lw_g (lw_at lw_m0 29 rfl) rfl
theorem q33 : (Jvm.Cond.fieldLink "RingDesk" (13 : Nat) "RingDesk" "one" "[I") ∈ lw_all := lw_g (lw_at lw_m0 30 rfl) rfl
theorem q34 : (Jvm.Cond.fieldLink "RingDesk" (16 : Nat) "RingDesk" "two" "[I") ∈ lw_all := lw_g (lw_at lw_m0 31 rfl) rfl
theorem q35 : (Jvm.Cond.fieldLink "RingDesk" (22 : Nat) "RingDesk" "transform" "LRingDesk$Transform;") ∈ lw_all := lw_g (lw_at lw_m0 32 rfl) rfl
theorem q36 : (Jvm.Cond.laysFinal "RingDesk" "RingDesk" "registers" "[I") ∈ lw_all := lw_g (lw_at lw_m0 33 rfl) rfl
theorem q37 : (Jvm.Cond.soleField "RingDesk" "registers") ∈ lw_all := lw_g (lw_at lw_m0 34 rfl) rfl
theorem q38 : (Jvm.Cond.laysFinal "RingDesk" "RingDesk" "one" "[I") ∈ lw_all := lw_g (lw_at lw_m0 35 rfl) rfl
theorem q39 : (Jvm.Cond.soleField "RingDesk" "one") ∈ lw_all := lw_g (lw_at lw_m0 36 rfl) rfl
theorem q40 : (Jvm.Cond.laysFinal "RingDesk" "RingDesk" "two" "[I") ∈ lw_all := lw_g (lw_at lw_m0 37 rfl) rfl
theorem q41 : (Jvm.Cond.soleField "RingDesk" "two") ∈ lw_all := lw_g (lw_at lw_m0 38 rfl) rfl
theorem q42 : (Jvm.Cond.laysFinal "RingDesk" "RingDesk" "transform" "LRingDesk$Transform;") ∈ lw_all := lw_g (lw_at lw_m0 39 rfl) rfl
theorem q43 : (Jvm.Cond.soleField "RingDesk" "transform") ∈ lw_all := lw_g (lw_at lw_m0 40 rfl) rfl
theorem q44 : (Jvm.Cond.superclass "RingDesk" "java/lang/Object") ∈ lw_all := lw_g (lw_at lw_m0 41 rfl) rfl
theorem q46 : (Jvm.Cond.instanceMethod ({ cls := "RingDesk", name := "put", desc := "(IIII)V" } : Jvm.MethodName)) ∈ lw_all := lw_g (lw_at lw_m0 43 rfl) rfl
theorem q47 : (Jvm.Cond.selects "RingDesk" ({ cls := "RingDesk", name := "put", desc := "(IIII)V" } : Jvm.MethodName) ({ cls := "RingDesk", name := "put", desc := "(IIII)V" } : Jvm.MethodName)) ∈ lw_all := lw_g (lw_at lw_m0 44 rfl) rfl
theorem q48 : (Jvm.Cond.code ({ cls := "RingDesk", name := "put", desc := "(IIII)V" } : Jvm.MethodName) prog_1_method_5_code (5 : Nat) (Option.none : Option Jvm.ClassFile.FieldType)) ∈ lw_all := lw_g (lw_at lw_m0 45 rfl) rfl
theorem q49 : (Jvm.Cond.methodLink "RingDesk" (27 : Nat) ({ cls := "RingDesk", name := "from", desc := "(I)I" } : Jvm.MethodName)) ∈ lw_all := lw_g (lw_at lw_m0 46 rfl) rfl
theorem q50 : (Jvm.Cond.static ({ cls := "RingDesk", name := "from", desc := "(I)I" } : Jvm.MethodName)) ∈ lw_all := lw_g (lw_at lw_m0 47 rfl) rfl
theorem q51 : (Jvm.Cond.code ({ cls := "RingDesk", name := "from", desc := "(I)I" } : Jvm.MethodName) prog_1_method_2_code (1 : Nat) (Option.some Jvm.ClassFile.FieldType.int)) ∈ lw_all := lw_g (lw_at lw_m0 48 rfl) rfl
theorem q52 : (Jvm.Cond.methodLink "RingDesk" (31 : Nat) ({ cls := "RingDesk", name := "small", desc := "(I)I" } : Jvm.MethodName)) ∈ lw_all := lw_g (lw_at lw_m0 49 rfl) rfl
theorem q53 : (Jvm.Cond.static ({ cls := "RingDesk", name := "small", desc := "(I)I" } : Jvm.MethodName)) ∈ lw_all := lw_g (lw_at lw_m0 50 rfl) rfl
theorem q54 : (Jvm.Cond.code ({ cls := "RingDesk", name := "small", desc := "(I)I" } : Jvm.MethodName) prog_1_method_3_code (2 : Nat) (Option.some Jvm.ClassFile.FieldType.int)) ∈ lw_all := lw_g (lw_at lw_m0 51 rfl) rfl
theorem q56 : (Jvm.Cond.instanceMethod ({ cls := "RingDesk", name := "add", desc := "(III)V" } : Jvm.MethodName)) ∈ lw_all := lw_g (lw_at lw_m0 53 rfl) rfl
theorem q57 : (Jvm.Cond.selects "RingDesk" ({ cls := "RingDesk", name := "add", desc := "(III)V" } : Jvm.MethodName) ({ cls := "RingDesk", name := "add", desc := "(III)V" } : Jvm.MethodName)) ∈ lw_all := lw_g (lw_at lw_m0 54 rfl) rfl
theorem q58 : (Jvm.Cond.code ({ cls := "RingDesk", name := "add", desc := "(III)V" } : Jvm.MethodName) prog_1_method_6_code (6 : Nat) (Option.none : Option Jvm.ClassFile.FieldType)) ∈ lw_all := lw_g (lw_at lw_m0 55 rfl) rfl
theorem q60 : (Jvm.Cond.instanceMethod ({ cls := "RingDesk", name := "subtract", desc := "(III)V" } : Jvm.MethodName)) ∈ lw_all := lw_g (lw_at lw_m0 57 rfl) rfl
theorem q61 : (Jvm.Cond.selects "RingDesk" ({ cls := "RingDesk", name := "subtract", desc := "(III)V" } : Jvm.MethodName) ({ cls := "RingDesk", name := "subtract", desc := "(III)V" } : Jvm.MethodName)) ∈ lw_all := lw_g (lw_at lw_m0 58 rfl) rfl
theorem q62 : (Jvm.Cond.code ({ cls := "RingDesk", name := "subtract", desc := "(III)V" } : Jvm.MethodName) prog_1_method_7_code (6 : Nat) (Option.none : Option Jvm.ClassFile.FieldType)) ∈ lw_all := lw_g (lw_at lw_m0 59 rfl) rfl
theorem q64 : (Jvm.Cond.instanceMethod ({ cls := "RingDesk", name := "multiply", desc := "(III)V" } : Jvm.MethodName)) ∈ lw_all := lw_g (lw_at lw_m0 61 rfl) rfl
theorem q65 : (Jvm.Cond.selects "RingDesk" ({ cls := "RingDesk", name := "multiply", desc := "(III)V" } : Jvm.MethodName) ({ cls := "RingDesk", name := "multiply", desc := "(III)V" } : Jvm.MethodName)) ∈ lw_all := lw_g (lw_at lw_m0 62 rfl) rfl
theorem q66 : (Jvm.Cond.code ({ cls := "RingDesk", name := "multiply", desc := "(III)V" } : Jvm.MethodName) prog_1_method_8_code (5 : Nat) (Option.none : Option Jvm.ClassFile.FieldType)) ∈ lw_all := lw_g (lw_at lw_m0 63 rfl) rfl
theorem q67 : (Jvm.Cond.methodLink "RingDesk" (34 : Nat) ({ cls := "RingDesk$Transform", name := "multiply", desc := "([I[I[I)V" } : Jvm.MethodName)) ∈ lw_all := lw_g (lw_at lw_m0 64 rfl) rfl
theorem q84 : (Jvm.Cond.instanceMethod ({ cls := "RingDesk", name := "turn", desc := "(II)V" } : Jvm.MethodName)) ∈ lw_all := lw_g (lw_at lw_m0 81 rfl) rfl
theorem q85 : (Jvm.Cond.selects "RingDesk" ({ cls := "RingDesk", name := "turn", desc := "(II)V" } : Jvm.MethodName) ({ cls := "RingDesk", name := "turn", desc := "(II)V" } : Jvm.MethodName)) ∈ lw_all := lw_g (lw_at lw_m0 82 rfl) rfl
theorem q86 : (Jvm.Cond.code ({ cls := "RingDesk", name := "turn", desc := "(II)V" } : Jvm.MethodName) prog_1_method_9_code (6 : Nat) (Option.none : Option Jvm.ClassFile.FieldType)) ∈ lw_all := lw_g (lw_at lw_m0 83 rfl) rfl
theorem q88 : (Jvm.Cond.instanceMethod ({ cls := "RingDesk", name := "press", desc := "(II)V" } : Jvm.MethodName)) ∈ lw_all := lw_g (lw_at lw_m0 85 rfl) rfl
theorem q89 : (Jvm.Cond.selects "RingDesk" ({ cls := "RingDesk", name := "press", desc := "(II)V" } : Jvm.MethodName) ({ cls := "RingDesk", name := "press", desc := "(II)V" } : Jvm.MethodName)) ∈ lw_all := lw_g (lw_at lw_m0 86 rfl) rfl
theorem q90 : (Jvm.Cond.code ({ cls := "RingDesk", name := "press", desc := "(II)V" } : Jvm.MethodName) prog_1_method_10_code (6 : Nat) (Option.none : Option Jvm.ClassFile.FieldType)) ∈ lw_all := lw_g (lw_at lw_m0 87 rfl) rfl
theorem q91 : (Jvm.Cond.methodLink "RingDesk" (38 : Nat) ({ cls := "RingDesk", name := "bits", desc := "(I)I" } : Jvm.MethodName)) ∈ lw_all := lw_g (lw_at lw_m0 88 rfl) rfl
theorem q92 : (Jvm.Cond.static ({ cls := "RingDesk", name := "bits", desc := "(I)I" } : Jvm.MethodName)) ∈ lw_all := lw_g (lw_at lw_m0 89 rfl) rfl
theorem q93 : (Jvm.Cond.code ({ cls := "RingDesk", name := "bits", desc := "(I)I" } : Jvm.MethodName) prog_1_method_4_code (1 : Nat) (Option.some Jvm.ClassFile.FieldType.int)) ∈ lw_all := lw_g (lw_at lw_m0 90 rfl) rfl
theorem q94 : (Jvm.Cond.constant "RingDesk" (26 : Nat) (2147483647 : Int32)) ∈ lw_all := lw_g (lw_at lw_m0 91 rfl) rfl
theorem q96 : (Jvm.Cond.instanceMethod ({ cls := "RingDesk", name := "unpress", desc := "(II)V" } : Jvm.MethodName)) ∈ lw_all := lw_g (lw_at lw_m0 93 rfl) rfl
theorem q97 : (Jvm.Cond.selects "RingDesk" ({ cls := "RingDesk", name := "unpress", desc := "(II)V" } : Jvm.MethodName) ({ cls := "RingDesk", name := "unpress", desc := "(II)V" } : Jvm.MethodName)) ∈ lw_all := lw_g (lw_at lw_m0 94 rfl) rfl
theorem q98 : (Jvm.Cond.code ({ cls := "RingDesk", name := "unpress", desc := "(II)V" } : Jvm.MethodName) prog_1_method_11_code (6 : Nat) (Option.none : Option Jvm.ClassFile.FieldType)) ∈ lw_all := lw_g (lw_at lw_m0 95 rfl) rfl
theorem q100 : (Jvm.Cond.instanceMethod ({ cls := "RingDesk", name := "at", desc := "(II)I" } : Jvm.MethodName)) ∈ lw_all := lw_g (lw_at lw_m0 97 rfl) rfl
theorem q101 : (Jvm.Cond.selects "RingDesk" ({ cls := "RingDesk", name := "at", desc := "(II)I" } : Jvm.MethodName) ({ cls := "RingDesk", name := "at", desc := "(II)I" } : Jvm.MethodName)) ∈ lw_all := lw_g (lw_at lw_m0 98 rfl) rfl
theorem q102 : (Jvm.Cond.code ({ cls := "RingDesk", name := "at", desc := "(II)I" } : Jvm.MethodName) prog_1_method_12_code (3 : Nat) (Option.some Jvm.ClassFile.FieldType.int)) ∈ lw_all := lw_g (lw_at lw_m0 99 rfl) rfl
theorem in_X0 : ∀ w ∈ wsX00, w ∈ lw_all := lw_in wsX00 [36, 38, 40, 42] (by decide +kernel) (by decide +kernel)
end
section
/-! RingDesk$Transform -/
set_option maxRecDepth 100000
def RX1 : String := "RingDesk$Transform"
def TX1 : u_T := fun k => match k with
  | 0 => ("RingDesk$Transform", "powers", "[I", true)
  | 1 => ("RingDesk$Transform", "first", "[I", true)
  | _ => ("RingDesk$Transform", "second", "[I", true)
def tyX1 : Nat → FieldType := fun k => match k with
  | 0 => .array .int
  | 1 => .array .int
  | _ => .array .int
abbrev wsX10 : List Cond := u_ws RX1 TX1 3
theorem nmX1 : ∀ a, a < 3 → ∀ b, b < 3 → a ≠ b → (TX1 a).2.1 ≠ (TX1 b).2.1 := by decide +kernel
theorem tyX1_ok : ∀ k, k < 3 → parseFieldDescriptor (TX1 k).2.2.1 = some (tyX1 k) := by decide +kernel
abbrev cX1_init : ByteArray := prog_2_method_1_code
def yX1_init : MethodName := ⟨RX1, "<init>", "()V"⟩
theorem dX1_init_0 : decode cX1_init 0 = .ok (.aload_n 0, 1) := by decide +kernel
theorem dX1_init_1 : decode cX1_init 1 = .ok (.invokespecial 3, 3) := by decide +kernel
theorem dX1_init_4 : decode cX1_init 4 = .ok (.aload_n 0, 1) := by decide +kernel
theorem dX1_init_5 : decode cX1_init 5 = .ok (.sipush 128, 3) := by decide +kernel
theorem dX1_init_8 : decode cX1_init 8 = .ok (.newarray .int, 2) := by decide +kernel
theorem dX1_init_10 : decode cX1_init 10 = .ok (.putfield 9, 3) := by decide +kernel
theorem dX1_init_13 : decode cX1_init 13 = .ok (.aload_n 0, 1) := by decide +kernel
theorem dX1_init_14 : decode cX1_init 14 = .ok (.sipush 256, 3) := by decide +kernel
theorem dX1_init_17 : decode cX1_init 17 = .ok (.newarray .int, 2) := by decide +kernel
theorem dX1_init_19 : decode cX1_init 19 = .ok (.putfield 15, 3) := by decide +kernel
theorem dX1_init_22 : decode cX1_init 22 = .ok (.aload_n 0, 1) := by decide +kernel
theorem dX1_init_23 : decode cX1_init 23 = .ok (.sipush 256, 3) := by decide +kernel
theorem dX1_init_26 : decode cX1_init 26 = .ok (.newarray .int, 2) := by decide +kernel
theorem dX1_init_28 : decode cX1_init 28 = .ok (.putfield 18, 3) := by decide +kernel
theorem dX1_init_31 : decode cX1_init 31 = .ok (.iconst 0, 1) := by decide +kernel
theorem dX1_init_32 : decode cX1_init 32 = .ok (.istore_n 1, 1) := by decide +kernel
theorem dX1_init_33 : decode cX1_init 33 = .ok (.iload_n 1, 1) := by decide +kernel
theorem dX1_init_34 : decode cX1_init 34 = .ok (.sipush 128, 3) := by decide +kernel
theorem dX1_init_37 : decode cX1_init 37 = .ok (.if_icmp .ge 71, 3) := by decide +kernel
theorem dX1_init_40 : decode cX1_init 40 = .ok (.iconst 0, 1) := by decide +kernel
theorem dX1_init_41 : decode cX1_init 41 = .ok (.istore_n 2, 1) := by decide +kernel
theorem dX1_init_42 : decode cX1_init 42 = .ok (.iconst 0, 1) := by decide +kernel
theorem dX1_init_43 : decode cX1_init 43 = .ok (.istore_n 3, 1) := by decide +kernel
theorem dX1_init_44 : decode cX1_init 44 = .ok (.iload_n 3, 1) := by decide +kernel
theorem dX1_init_45 : decode cX1_init 45 = .ok (.bipush 7, 2) := by decide +kernel
theorem dX1_init_47 : decode cX1_init 47 = .ok (.if_icmp .ge 22, 3) := by decide +kernel
theorem dX1_init_50 : decode cX1_init 50 = .ok (.iload_n 2, 1) := by decide +kernel
theorem dX1_init_51 : decode cX1_init 51 = .ok (.iload_n 1, 1) := by decide +kernel
theorem dX1_init_52 : decode cX1_init 52 = .ok (.iload_n 3, 1) := by decide +kernel
theorem dX1_init_53 : decode cX1_init 53 = .ok (.ishr, 1) := by decide +kernel
theorem dX1_init_54 : decode cX1_init 54 = .ok (.iconst 1, 1) := by decide +kernel
theorem dX1_init_55 : decode cX1_init 55 = .ok (.iand, 1) := by decide +kernel
theorem dX1_init_56 : decode cX1_init 56 = .ok (.bipush 6, 2) := by decide +kernel
theorem dX1_init_58 : decode cX1_init 58 = .ok (.iload_n 3, 1) := by decide +kernel
theorem dX1_init_59 : decode cX1_init 59 = .ok (.isub, 1) := by decide +kernel
theorem dX1_init_60 : decode cX1_init 60 = .ok (.ishl, 1) := by decide +kernel
theorem dX1_init_61 : decode cX1_init 61 = .ok (.ior, 1) := by decide +kernel
theorem dX1_init_62 : decode cX1_init 62 = .ok (.istore_n 2, 1) := by decide +kernel
theorem dX1_init_63 : decode cX1_init 63 = .ok (.iinc 3 1, 3) := by decide +kernel
theorem dX1_init_66 : decode cX1_init 66 = .ok (.goto (-22), 3) := by decide +kernel
theorem dX1_init_69 : decode cX1_init 69 = .ok (.iconst 1, 1) := by decide +kernel
theorem dX1_init_70 : decode cX1_init 70 = .ok (.istore_n 3, 1) := by decide +kernel
theorem dX1_init_71 : decode cX1_init 71 = .ok (.iconst 0, 1) := by decide +kernel
theorem dX1_init_72 : decode cX1_init 72 = .ok (.istore 4, 2) := by decide +kernel
theorem dX1_init_74 : decode cX1_init 74 = .ok (.iload 4, 2) := by decide +kernel
theorem dX1_init_76 : decode cX1_init 76 = .ok (.iload_n 2, 1) := by decide +kernel
theorem dX1_init_77 : decode cX1_init 77 = .ok (.if_icmp .ge 18, 3) := by decide +kernel
theorem dX1_init_80 : decode cX1_init 80 = .ok (.iload_n 3, 1) := by decide +kernel
theorem dX1_init_81 : decode cX1_init 81 = .ok (.bipush 17, 2) := by decide +kernel
theorem dX1_init_83 : decode cX1_init 83 = .ok (.imul, 1) := by decide +kernel
theorem dX1_init_84 : decode cX1_init 84 = .ok (.sipush 3329, 3) := by decide +kernel
theorem dX1_init_87 : decode cX1_init 87 = .ok (.irem, 1) := by decide +kernel
theorem dX1_init_88 : decode cX1_init 88 = .ok (.istore_n 3, 1) := by decide +kernel
theorem dX1_init_89 : decode cX1_init 89 = .ok (.iinc 4 1, 3) := by decide +kernel
theorem dX1_init_92 : decode cX1_init 92 = .ok (.goto (-18), 3) := by decide +kernel
theorem dX1_init_95 : decode cX1_init 95 = .ok (.aload_n 0, 1) := by decide +kernel
theorem dX1_init_96 : decode cX1_init 96 = .ok (.getfield 9, 3) := by decide +kernel
theorem dX1_init_99 : decode cX1_init 99 = .ok (.iload_n 1, 1) := by decide +kernel
theorem dX1_init_100 : decode cX1_init 100 = .ok (.iload_n 3, 1) := by decide +kernel
theorem dX1_init_101 : decode cX1_init 101 = .ok (.iastore, 1) := by decide +kernel
theorem dX1_init_102 : decode cX1_init 102 = .ok (.iinc 1 1, 3) := by decide +kernel
theorem dX1_init_105 : decode cX1_init 105 = .ok (.goto (-72), 3) := by decide +kernel
theorem dX1_init_108 : decode cX1_init 108 = .ok (.return_, 1) := by decide +kernel
abbrev cX1_multiply : ByteArray := prog_2_method_5_code
def yX1_multiply : MethodName := ⟨RX1, "multiply", "([I[I[I)V"⟩
theorem dX1_multiply_0 : decode cX1_multiply 0 = .ok (.iconst 0, 1) := by decide +kernel
theorem dX1_multiply_1 : decode cX1_multiply 1 = .ok (.istore 4, 2) := by decide +kernel
theorem dX1_multiply_3 : decode cX1_multiply 3 = .ok (.iload 4, 2) := by decide +kernel
theorem dX1_multiply_5 : decode cX1_multiply 5 = .ok (.sipush 256, 3) := by decide +kernel
theorem dX1_multiply_8 : decode cX1_multiply 8 = .ok (.if_icmp .ge 31, 3) := by decide +kernel
theorem dX1_multiply_11 : decode cX1_multiply 11 = .ok (.aload_n 0, 1) := by decide +kernel
theorem dX1_multiply_12 : decode cX1_multiply 12 = .ok (.getfield 15, 3) := by decide +kernel
theorem dX1_multiply_15 : decode cX1_multiply 15 = .ok (.iload 4, 2) := by decide +kernel
theorem dX1_multiply_17 : decode cX1_multiply 17 = .ok (.aload_n 1, 1) := by decide +kernel
theorem dX1_multiply_18 : decode cX1_multiply 18 = .ok (.iload 4, 2) := by decide +kernel
theorem dX1_multiply_20 : decode cX1_multiply 20 = .ok (.iaload, 1) := by decide +kernel
theorem dX1_multiply_21 : decode cX1_multiply 21 = .ok (.iastore, 1) := by decide +kernel
theorem dX1_multiply_22 : decode cX1_multiply 22 = .ok (.aload_n 0, 1) := by decide +kernel
theorem dX1_multiply_23 : decode cX1_multiply 23 = .ok (.getfield 18, 3) := by decide +kernel
theorem dX1_multiply_26 : decode cX1_multiply 26 = .ok (.iload 4, 2) := by decide +kernel
theorem dX1_multiply_28 : decode cX1_multiply 28 = .ok (.aload_n 2, 1) := by decide +kernel
theorem dX1_multiply_29 : decode cX1_multiply 29 = .ok (.iload 4, 2) := by decide +kernel
theorem dX1_multiply_31 : decode cX1_multiply 31 = .ok (.iaload, 1) := by decide +kernel
theorem dX1_multiply_32 : decode cX1_multiply 32 = .ok (.iastore, 1) := by decide +kernel
theorem dX1_multiply_33 : decode cX1_multiply 33 = .ok (.iinc 4 1, 3) := by decide +kernel
theorem dX1_multiply_36 : decode cX1_multiply 36 = .ok (.goto (-33), 3) := by decide +kernel
theorem dX1_multiply_39 : decode cX1_multiply 39 = .ok (.aload_n 0, 1) := by decide +kernel
theorem dX1_multiply_40 : decode cX1_multiply 40 = .ok (.aload_n 0, 1) := by decide +kernel
theorem dX1_multiply_41 : decode cX1_multiply 41 = .ok (.getfield 15, 3) := by decide +kernel
theorem dX1_multiply_44 : decode cX1_multiply 44 = .ok (.invokevirtual 21, 3) := by decide +kernel
theorem dX1_multiply_47 : decode cX1_multiply 47 = .ok (.aload_n 0, 1) := by decide +kernel
theorem dX1_multiply_48 : decode cX1_multiply 48 = .ok (.aload_n 0, 1) := by decide +kernel
theorem dX1_multiply_49 : decode cX1_multiply 49 = .ok (.getfield 18, 3) := by decide +kernel
theorem dX1_multiply_52 : decode cX1_multiply 52 = .ok (.invokevirtual 21, 3) := by decide +kernel
theorem dX1_multiply_55 : decode cX1_multiply 55 = .ok (.iconst 0, 1) := by decide +kernel
theorem dX1_multiply_56 : decode cX1_multiply 56 = .ok (.istore 4, 2) := by decide +kernel
theorem dX1_multiply_58 : decode cX1_multiply 58 = .ok (.iload 4, 2) := by decide +kernel
theorem dX1_multiply_60 : decode cX1_multiply 60 = .ok (.bipush 64, 2) := by decide +kernel
theorem dX1_multiply_62 : decode cX1_multiply 62 = .ok (.if_icmp .ge 51, 3) := by decide +kernel
theorem dX1_multiply_65 : decode cX1_multiply 65 = .ok (.aload_n 0, 1) := by decide +kernel
theorem dX1_multiply_66 : decode cX1_multiply 66 = .ok (.iconst 4, 1) := by decide +kernel
theorem dX1_multiply_67 : decode cX1_multiply 67 = .ok (.iload 4, 2) := by decide +kernel
theorem dX1_multiply_69 : decode cX1_multiply 69 = .ok (.imul, 1) := by decide +kernel
theorem dX1_multiply_70 : decode cX1_multiply 70 = .ok (.aload_n 0, 1) := by decide +kernel
theorem dX1_multiply_71 : decode cX1_multiply 71 = .ok (.getfield 9, 3) := by decide +kernel
theorem dX1_multiply_74 : decode cX1_multiply 74 = .ok (.bipush 64, 2) := by decide +kernel
theorem dX1_multiply_76 : decode cX1_multiply 76 = .ok (.iload 4, 2) := by decide +kernel
theorem dX1_multiply_78 : decode cX1_multiply 78 = .ok (.iadd, 1) := by decide +kernel
theorem dX1_multiply_79 : decode cX1_multiply 79 = .ok (.iaload, 1) := by decide +kernel
theorem dX1_multiply_80 : decode cX1_multiply 80 = .ok (.invokevirtual 25, 3) := by decide +kernel
theorem dX1_multiply_83 : decode cX1_multiply 83 = .ok (.aload_n 0, 1) := by decide +kernel
theorem dX1_multiply_84 : decode cX1_multiply 84 = .ok (.iconst 4, 1) := by decide +kernel
theorem dX1_multiply_85 : decode cX1_multiply 85 = .ok (.iload 4, 2) := by decide +kernel
theorem dX1_multiply_87 : decode cX1_multiply 87 = .ok (.imul, 1) := by decide +kernel
theorem dX1_multiply_88 : decode cX1_multiply 88 = .ok (.iconst 2, 1) := by decide +kernel
theorem dX1_multiply_89 : decode cX1_multiply 89 = .ok (.iadd, 1) := by decide +kernel
theorem dX1_multiply_90 : decode cX1_multiply 90 = .ok (.sipush 3329, 3) := by decide +kernel
theorem dX1_multiply_93 : decode cX1_multiply 93 = .ok (.aload_n 0, 1) := by decide +kernel
theorem dX1_multiply_94 : decode cX1_multiply 94 = .ok (.getfield 9, 3) := by decide +kernel
theorem dX1_multiply_97 : decode cX1_multiply 97 = .ok (.bipush 64, 2) := by decide +kernel
theorem dX1_multiply_99 : decode cX1_multiply 99 = .ok (.iload 4, 2) := by decide +kernel
theorem dX1_multiply_101 : decode cX1_multiply 101 = .ok (.iadd, 1) := by decide +kernel
theorem dX1_multiply_102 : decode cX1_multiply 102 = .ok (.iaload, 1) := by decide +kernel
theorem dX1_multiply_103 : decode cX1_multiply 103 = .ok (.isub, 1) := by decide +kernel
theorem dX1_multiply_104 : decode cX1_multiply 104 = .ok (.invokevirtual 25, 3) := by decide +kernel
theorem dX1_multiply_107 : decode cX1_multiply 107 = .ok (.iinc 4 1, 3) := by decide +kernel
theorem dX1_multiply_110 : decode cX1_multiply 110 = .ok (.goto (-52), 3) := by decide +kernel
theorem dX1_multiply_113 : decode cX1_multiply 113 = .ok (.aload_n 0, 1) := by decide +kernel
theorem dX1_multiply_114 : decode cX1_multiply 114 = .ok (.aload_n 0, 1) := by decide +kernel
theorem dX1_multiply_115 : decode cX1_multiply 115 = .ok (.getfield 15, 3) := by decide +kernel
theorem dX1_multiply_118 : decode cX1_multiply 118 = .ok (.invokevirtual 29, 3) := by decide +kernel
theorem dX1_multiply_121 : decode cX1_multiply 121 = .ok (.iconst 0, 1) := by decide +kernel
theorem dX1_multiply_122 : decode cX1_multiply 122 = .ok (.istore 4, 2) := by decide +kernel
theorem dX1_multiply_124 : decode cX1_multiply 124 = .ok (.iload 4, 2) := by decide +kernel
theorem dX1_multiply_126 : decode cX1_multiply 126 = .ok (.sipush 256, 3) := by decide +kernel
theorem dX1_multiply_129 : decode cX1_multiply 129 = .ok (.if_icmp .ge 20, 3) := by decide +kernel
theorem dX1_multiply_132 : decode cX1_multiply 132 = .ok (.aload_n 3, 1) := by decide +kernel
theorem dX1_multiply_133 : decode cX1_multiply 133 = .ok (.iload 4, 2) := by decide +kernel
theorem dX1_multiply_135 : decode cX1_multiply 135 = .ok (.aload_n 0, 1) := by decide +kernel
theorem dX1_multiply_136 : decode cX1_multiply 136 = .ok (.getfield 15, 3) := by decide +kernel
theorem dX1_multiply_139 : decode cX1_multiply 139 = .ok (.iload 4, 2) := by decide +kernel
theorem dX1_multiply_141 : decode cX1_multiply 141 = .ok (.iaload, 1) := by decide +kernel
theorem dX1_multiply_142 : decode cX1_multiply 142 = .ok (.iastore, 1) := by decide +kernel
theorem dX1_multiply_143 : decode cX1_multiply 143 = .ok (.iinc 4 1, 3) := by decide +kernel
theorem dX1_multiply_146 : decode cX1_multiply 146 = .ok (.goto (-22), 3) := by decide +kernel
theorem dX1_multiply_149 : decode cX1_multiply 149 = .ok (.return_, 1) := by decide +kernel
abbrev cX1_there : ByteArray := prog_2_method_2_code
def yX1_there : MethodName := ⟨RX1, "there", "([I)V"⟩
theorem dX1_there_0 : decode cX1_there 0 = .ok (.iconst 1, 1) := by decide +kernel
theorem dX1_there_1 : decode cX1_there 1 = .ok (.istore_n 2, 1) := by decide +kernel
theorem dX1_there_2 : decode cX1_there 2 = .ok (.sipush 128, 3) := by decide +kernel
theorem dX1_there_5 : decode cX1_there 5 = .ok (.istore_n 3, 1) := by decide +kernel
theorem dX1_there_6 : decode cX1_there 6 = .ok (.iload_n 3, 1) := by decide +kernel
theorem dX1_there_7 : decode cX1_there 7 = .ok (.iconst 2, 1) := by decide +kernel
theorem dX1_there_8 : decode cX1_there 8 = .ok (.if_icmp .lt 145, 3) := by decide +kernel
theorem dX1_there_11 : decode cX1_there 11 = .ok (.iconst 0, 1) := by decide +kernel
theorem dX1_there_12 : decode cX1_there 12 = .ok (.istore 4, 2) := by decide +kernel
theorem dX1_there_14 : decode cX1_there 14 = .ok (.iload 4, 2) := by decide +kernel
theorem dX1_there_16 : decode cX1_there 16 = .ok (.sipush 256, 3) := by decide +kernel
theorem dX1_there_19 : decode cX1_there 19 = .ok (.if_icmp .ge 127, 3) := by decide +kernel
theorem dX1_there_22 : decode cX1_there 22 = .ok (.aload_n 0, 1) := by decide +kernel
theorem dX1_there_23 : decode cX1_there 23 = .ok (.getfield 9, 3) := by decide +kernel
theorem dX1_there_26 : decode cX1_there 26 = .ok (.iload_n 2, 1) := by decide +kernel
theorem dX1_there_27 : decode cX1_there 27 = .ok (.iaload, 1) := by decide +kernel
theorem dX1_there_28 : decode cX1_there 28 = .ok (.istore 5, 2) := by decide +kernel
theorem dX1_there_30 : decode cX1_there 30 = .ok (.iinc 2 1, 3) := by decide +kernel
theorem dX1_there_33 : decode cX1_there 33 = .ok (.iload 4, 2) := by decide +kernel
theorem dX1_there_35 : decode cX1_there 35 = .ok (.istore 6, 2) := by decide +kernel
theorem dX1_there_37 : decode cX1_there 37 = .ok (.iload 6, 2) := by decide +kernel
theorem dX1_there_39 : decode cX1_there 39 = .ok (.iload 4, 2) := by decide +kernel
theorem dX1_there_41 : decode cX1_there 41 = .ok (.iload_n 3, 1) := by decide +kernel
theorem dX1_there_42 : decode cX1_there 42 = .ok (.iadd, 1) := by decide +kernel
theorem dX1_there_43 : decode cX1_there 43 = .ok (.if_icmp .ge 92, 3) := by decide +kernel
theorem dX1_there_46 : decode cX1_there 46 = .ok (.iload 5, 2) := by decide +kernel
theorem dX1_there_48 : decode cX1_there 48 = .ok (.aload_n 1, 1) := by decide +kernel
theorem dX1_there_49 : decode cX1_there 49 = .ok (.iload 6, 2) := by decide +kernel
theorem dX1_there_51 : decode cX1_there 51 = .ok (.iload_n 3, 1) := by decide +kernel
theorem dX1_there_52 : decode cX1_there 52 = .ok (.iadd, 1) := by decide +kernel
theorem dX1_there_53 : decode cX1_there 53 = .ok (.iaload, 1) := by decide +kernel
theorem dX1_there_54 : decode cX1_there 54 = .ok (.imul, 1) := by decide +kernel
theorem dX1_there_55 : decode cX1_there 55 = .ok (.sipush 3329, 3) := by decide +kernel
theorem dX1_there_58 : decode cX1_there 58 = .ok (.irem, 1) := by decide +kernel
theorem dX1_there_59 : decode cX1_there 59 = .ok (.istore 7, 2) := by decide +kernel
theorem dX1_there_61 : decode cX1_there 61 = .ok (.aload_n 1, 1) := by decide +kernel
theorem dX1_there_62 : decode cX1_there 62 = .ok (.iload 6, 2) := by decide +kernel
theorem dX1_there_64 : decode cX1_there 64 = .ok (.iaload, 1) := by decide +kernel
theorem dX1_there_65 : decode cX1_there 65 = .ok (.istore 8, 2) := by decide +kernel
theorem dX1_there_67 : decode cX1_there 67 = .ok (.aload_n 1, 1) := by decide +kernel
theorem dX1_there_68 : decode cX1_there 68 = .ok (.iload 6, 2) := by decide +kernel
theorem dX1_there_70 : decode cX1_there 70 = .ok (.iload 8, 2) := by decide +kernel
theorem dX1_there_72 : decode cX1_there 72 = .ok (.iload 7, 2) := by decide +kernel
theorem dX1_there_74 : decode cX1_there 74 = .ok (.iadd, 1) := by decide +kernel
theorem dX1_there_75 : decode cX1_there 75 = .ok (.sipush 3329, 3) := by decide +kernel
theorem dX1_there_78 : decode cX1_there 78 = .ok (.if_icmp .ge 11, 3) := by decide +kernel
theorem dX1_there_81 : decode cX1_there 81 = .ok (.iload 8, 2) := by decide +kernel
theorem dX1_there_83 : decode cX1_there 83 = .ok (.iload 7, 2) := by decide +kernel
theorem dX1_there_85 : decode cX1_there 85 = .ok (.iadd, 1) := by decide +kernel
theorem dX1_there_86 : decode cX1_there 86 = .ok (.goto 12, 3) := by decide +kernel
theorem dX1_there_89 : decode cX1_there 89 = .ok (.iload 8, 2) := by decide +kernel
theorem dX1_there_91 : decode cX1_there 91 = .ok (.iload 7, 2) := by decide +kernel
theorem dX1_there_93 : decode cX1_there 93 = .ok (.iadd, 1) := by decide +kernel
theorem dX1_there_94 : decode cX1_there 94 = .ok (.sipush 3329, 3) := by decide +kernel
theorem dX1_there_97 : decode cX1_there 97 = .ok (.isub, 1) := by decide +kernel
theorem dX1_there_98 : decode cX1_there 98 = .ok (.iastore, 1) := by decide +kernel
theorem dX1_there_99 : decode cX1_there 99 = .ok (.aload_n 1, 1) := by decide +kernel
theorem dX1_there_100 : decode cX1_there 100 = .ok (.iload 6, 2) := by decide +kernel
theorem dX1_there_102 : decode cX1_there 102 = .ok (.iload_n 3, 1) := by decide +kernel
theorem dX1_there_103 : decode cX1_there 103 = .ok (.iadd, 1) := by decide +kernel
theorem dX1_there_104 : decode cX1_there 104 = .ok (.iload 8, 2) := by decide +kernel
theorem dX1_there_106 : decode cX1_there 106 = .ok (.iload 7, 2) := by decide +kernel
theorem dX1_there_108 : decode cX1_there 108 = .ok (.if_icmp .ge 15, 3) := by decide +kernel
theorem dX1_there_111 : decode cX1_there 111 = .ok (.iload 8, 2) := by decide +kernel
theorem dX1_there_113 : decode cX1_there 113 = .ok (.iload 7, 2) := by decide +kernel
theorem dX1_there_115 : decode cX1_there 115 = .ok (.isub, 1) := by decide +kernel
theorem dX1_there_116 : decode cX1_there 116 = .ok (.sipush 3329, 3) := by decide +kernel
theorem dX1_there_119 : decode cX1_there 119 = .ok (.iadd, 1) := by decide +kernel
theorem dX1_there_120 : decode cX1_there 120 = .ok (.goto 8, 3) := by decide +kernel
theorem dX1_there_123 : decode cX1_there 123 = .ok (.iload 8, 2) := by decide +kernel
theorem dX1_there_125 : decode cX1_there 125 = .ok (.iload 7, 2) := by decide +kernel
theorem dX1_there_127 : decode cX1_there 127 = .ok (.isub, 1) := by decide +kernel
theorem dX1_there_128 : decode cX1_there 128 = .ok (.iastore, 1) := by decide +kernel
theorem dX1_there_129 : decode cX1_there 129 = .ok (.iinc 6 1, 3) := by decide +kernel
theorem dX1_there_132 : decode cX1_there 132 = .ok (.goto (-95), 3) := by decide +kernel
theorem dX1_there_135 : decode cX1_there 135 = .ok (.iload 4, 2) := by decide +kernel
theorem dX1_there_137 : decode cX1_there 137 = .ok (.iconst 2, 1) := by decide +kernel
theorem dX1_there_138 : decode cX1_there 138 = .ok (.iload_n 3, 1) := by decide +kernel
theorem dX1_there_139 : decode cX1_there 139 = .ok (.imul, 1) := by decide +kernel
theorem dX1_there_140 : decode cX1_there 140 = .ok (.iadd, 1) := by decide +kernel
theorem dX1_there_141 : decode cX1_there 141 = .ok (.istore 4, 2) := by decide +kernel
theorem dX1_there_143 : decode cX1_there 143 = .ok (.goto (-129), 3) := by decide +kernel
theorem dX1_there_146 : decode cX1_there 146 = .ok (.iload_n 3, 1) := by decide +kernel
theorem dX1_there_147 : decode cX1_there 147 = .ok (.iconst 2, 1) := by decide +kernel
theorem dX1_there_148 : decode cX1_there 148 = .ok (.idiv, 1) := by decide +kernel
theorem dX1_there_149 : decode cX1_there 149 = .ok (.istore_n 3, 1) := by decide +kernel
theorem dX1_there_150 : decode cX1_there 150 = .ok (.goto (-144), 3) := by decide +kernel
theorem dX1_there_153 : decode cX1_there 153 = .ok (.return_, 1) := by decide +kernel
abbrev cX1_pair : ByteArray := prog_2_method_4_code
def yX1_pair : MethodName := ⟨RX1, "pair", "(II)V"⟩
theorem dX1_pair_0 : decode cX1_pair 0 = .ok (.aload_n 0, 1) := by decide +kernel
theorem dX1_pair_1 : decode cX1_pair 1 = .ok (.getfield 15, 3) := by decide +kernel
theorem dX1_pair_4 : decode cX1_pair 4 = .ok (.iload_n 1, 1) := by decide +kernel
theorem dX1_pair_5 : decode cX1_pair 5 = .ok (.iaload, 1) := by decide +kernel
theorem dX1_pair_6 : decode cX1_pair 6 = .ok (.istore_n 3, 1) := by decide +kernel
theorem dX1_pair_7 : decode cX1_pair 7 = .ok (.aload_n 0, 1) := by decide +kernel
theorem dX1_pair_8 : decode cX1_pair 8 = .ok (.getfield 15, 3) := by decide +kernel
theorem dX1_pair_11 : decode cX1_pair 11 = .ok (.iload_n 1, 1) := by decide +kernel
theorem dX1_pair_12 : decode cX1_pair 12 = .ok (.iconst 1, 1) := by decide +kernel
theorem dX1_pair_13 : decode cX1_pair 13 = .ok (.iadd, 1) := by decide +kernel
theorem dX1_pair_14 : decode cX1_pair 14 = .ok (.iaload, 1) := by decide +kernel
theorem dX1_pair_15 : decode cX1_pair 15 = .ok (.istore 4, 2) := by decide +kernel
theorem dX1_pair_17 : decode cX1_pair 17 = .ok (.aload_n 0, 1) := by decide +kernel
theorem dX1_pair_18 : decode cX1_pair 18 = .ok (.getfield 18, 3) := by decide +kernel
theorem dX1_pair_21 : decode cX1_pair 21 = .ok (.iload_n 1, 1) := by decide +kernel
theorem dX1_pair_22 : decode cX1_pair 22 = .ok (.iaload, 1) := by decide +kernel
theorem dX1_pair_23 : decode cX1_pair 23 = .ok (.istore 5, 2) := by decide +kernel
theorem dX1_pair_25 : decode cX1_pair 25 = .ok (.aload_n 0, 1) := by decide +kernel
theorem dX1_pair_26 : decode cX1_pair 26 = .ok (.getfield 18, 3) := by decide +kernel
theorem dX1_pair_29 : decode cX1_pair 29 = .ok (.iload_n 1, 1) := by decide +kernel
theorem dX1_pair_30 : decode cX1_pair 30 = .ok (.iconst 1, 1) := by decide +kernel
theorem dX1_pair_31 : decode cX1_pair 31 = .ok (.iadd, 1) := by decide +kernel
theorem dX1_pair_32 : decode cX1_pair 32 = .ok (.iaload, 1) := by decide +kernel
theorem dX1_pair_33 : decode cX1_pair 33 = .ok (.istore 6, 2) := by decide +kernel
theorem dX1_pair_35 : decode cX1_pair 35 = .ok (.aload_n 0, 1) := by decide +kernel
theorem dX1_pair_36 : decode cX1_pair 36 = .ok (.getfield 15, 3) := by decide +kernel
theorem dX1_pair_39 : decode cX1_pair 39 = .ok (.iload_n 1, 1) := by decide +kernel
theorem dX1_pair_40 : decode cX1_pair 40 = .ok (.iload 4, 2) := by decide +kernel
theorem dX1_pair_42 : decode cX1_pair 42 = .ok (.iload 6, 2) := by decide +kernel
theorem dX1_pair_44 : decode cX1_pair 44 = .ok (.imul, 1) := by decide +kernel
theorem dX1_pair_45 : decode cX1_pair 45 = .ok (.sipush 3329, 3) := by decide +kernel
theorem dX1_pair_48 : decode cX1_pair 48 = .ok (.irem, 1) := by decide +kernel
theorem dX1_pair_49 : decode cX1_pair 49 = .ok (.iload_n 2, 1) := by decide +kernel
theorem dX1_pair_50 : decode cX1_pair 50 = .ok (.imul, 1) := by decide +kernel
theorem dX1_pair_51 : decode cX1_pair 51 = .ok (.iload_n 3, 1) := by decide +kernel
theorem dX1_pair_52 : decode cX1_pair 52 = .ok (.iload 5, 2) := by decide +kernel
theorem dX1_pair_54 : decode cX1_pair 54 = .ok (.imul, 1) := by decide +kernel
theorem dX1_pair_55 : decode cX1_pair 55 = .ok (.iadd, 1) := by decide +kernel
theorem dX1_pair_56 : decode cX1_pair 56 = .ok (.sipush 3329, 3) := by decide +kernel
theorem dX1_pair_59 : decode cX1_pair 59 = .ok (.irem, 1) := by decide +kernel
theorem dX1_pair_60 : decode cX1_pair 60 = .ok (.iastore, 1) := by decide +kernel
theorem dX1_pair_61 : decode cX1_pair 61 = .ok (.aload_n 0, 1) := by decide +kernel
theorem dX1_pair_62 : decode cX1_pair 62 = .ok (.getfield 15, 3) := by decide +kernel
theorem dX1_pair_65 : decode cX1_pair 65 = .ok (.iload_n 1, 1) := by decide +kernel
theorem dX1_pair_66 : decode cX1_pair 66 = .ok (.iconst 1, 1) := by decide +kernel
theorem dX1_pair_67 : decode cX1_pair 67 = .ok (.iadd, 1) := by decide +kernel
theorem dX1_pair_68 : decode cX1_pair 68 = .ok (.iload_n 3, 1) := by decide +kernel
theorem dX1_pair_69 : decode cX1_pair 69 = .ok (.iload 6, 2) := by decide +kernel
theorem dX1_pair_71 : decode cX1_pair 71 = .ok (.imul, 1) := by decide +kernel
theorem dX1_pair_72 : decode cX1_pair 72 = .ok (.iload 4, 2) := by decide +kernel
theorem dX1_pair_74 : decode cX1_pair 74 = .ok (.iload 5, 2) := by decide +kernel
theorem dX1_pair_76 : decode cX1_pair 76 = .ok (.imul, 1) := by decide +kernel
theorem dX1_pair_77 : decode cX1_pair 77 = .ok (.iadd, 1) := by decide +kernel
theorem dX1_pair_78 : decode cX1_pair 78 = .ok (.sipush 3329, 3) := by decide +kernel
theorem dX1_pair_81 : decode cX1_pair 81 = .ok (.irem, 1) := by decide +kernel
theorem dX1_pair_82 : decode cX1_pair 82 = .ok (.iastore, 1) := by decide +kernel
theorem dX1_pair_83 : decode cX1_pair 83 = .ok (.return_, 1) := by decide +kernel
abbrev cX1_back : ByteArray := prog_2_method_3_code
def yX1_back : MethodName := ⟨RX1, "back", "([I)V"⟩
theorem dX1_back_0 : decode cX1_back 0 = .ok (.bipush 127, 2) := by decide +kernel
theorem dX1_back_2 : decode cX1_back 2 = .ok (.istore_n 2, 1) := by decide +kernel
theorem dX1_back_3 : decode cX1_back 3 = .ok (.iconst 2, 1) := by decide +kernel
theorem dX1_back_4 : decode cX1_back 4 = .ok (.istore_n 3, 1) := by decide +kernel
theorem dX1_back_5 : decode cX1_back 5 = .ok (.iload_n 3, 1) := by decide +kernel
theorem dX1_back_6 : decode cX1_back 6 = .ok (.sipush 128, 3) := by decide +kernel
theorem dX1_back_9 : decode cX1_back 9 = .ok (.if_icmp .gt 145, 3) := by decide +kernel
theorem dX1_back_12 : decode cX1_back 12 = .ok (.iconst 0, 1) := by decide +kernel
theorem dX1_back_13 : decode cX1_back 13 = .ok (.istore 4, 2) := by decide +kernel
theorem dX1_back_15 : decode cX1_back 15 = .ok (.iload 4, 2) := by decide +kernel
theorem dX1_back_17 : decode cX1_back 17 = .ok (.sipush 256, 3) := by decide +kernel
theorem dX1_back_20 : decode cX1_back 20 = .ok (.if_icmp .ge 127, 3) := by decide +kernel
theorem dX1_back_23 : decode cX1_back 23 = .ok (.aload_n 0, 1) := by decide +kernel
theorem dX1_back_24 : decode cX1_back 24 = .ok (.getfield 9, 3) := by decide +kernel
theorem dX1_back_27 : decode cX1_back 27 = .ok (.iload_n 2, 1) := by decide +kernel
theorem dX1_back_28 : decode cX1_back 28 = .ok (.iaload, 1) := by decide +kernel
theorem dX1_back_29 : decode cX1_back 29 = .ok (.istore 5, 2) := by decide +kernel
theorem dX1_back_31 : decode cX1_back 31 = .ok (.iinc 2 (-1), 3) := by decide +kernel
theorem dX1_back_34 : decode cX1_back 34 = .ok (.iload 4, 2) := by decide +kernel
theorem dX1_back_36 : decode cX1_back 36 = .ok (.istore 6, 2) := by decide +kernel
theorem dX1_back_38 : decode cX1_back 38 = .ok (.iload 6, 2) := by decide +kernel
theorem dX1_back_40 : decode cX1_back 40 = .ok (.iload 4, 2) := by decide +kernel
theorem dX1_back_42 : decode cX1_back 42 = .ok (.iload_n 3, 1) := by decide +kernel
theorem dX1_back_43 : decode cX1_back 43 = .ok (.iadd, 1) := by decide +kernel
theorem dX1_back_44 : decode cX1_back 44 = .ok (.if_icmp .ge 92, 3) := by decide +kernel
theorem dX1_back_47 : decode cX1_back 47 = .ok (.aload_n 1, 1) := by decide +kernel
theorem dX1_back_48 : decode cX1_back 48 = .ok (.iload 6, 2) := by decide +kernel
theorem dX1_back_50 : decode cX1_back 50 = .ok (.iaload, 1) := by decide +kernel
theorem dX1_back_51 : decode cX1_back 51 = .ok (.istore 7, 2) := by decide +kernel
theorem dX1_back_53 : decode cX1_back 53 = .ok (.aload_n 1, 1) := by decide +kernel
theorem dX1_back_54 : decode cX1_back 54 = .ok (.iload 6, 2) := by decide +kernel
theorem dX1_back_56 : decode cX1_back 56 = .ok (.iload_n 3, 1) := by decide +kernel
theorem dX1_back_57 : decode cX1_back 57 = .ok (.iadd, 1) := by decide +kernel
theorem dX1_back_58 : decode cX1_back 58 = .ok (.iaload, 1) := by decide +kernel
theorem dX1_back_59 : decode cX1_back 59 = .ok (.istore 8, 2) := by decide +kernel
theorem dX1_back_61 : decode cX1_back 61 = .ok (.aload_n 1, 1) := by decide +kernel
theorem dX1_back_62 : decode cX1_back 62 = .ok (.iload 6, 2) := by decide +kernel
theorem dX1_back_64 : decode cX1_back 64 = .ok (.iload 7, 2) := by decide +kernel
theorem dX1_back_66 : decode cX1_back 66 = .ok (.iload 8, 2) := by decide +kernel
theorem dX1_back_68 : decode cX1_back 68 = .ok (.iadd, 1) := by decide +kernel
theorem dX1_back_69 : decode cX1_back 69 = .ok (.sipush 3329, 3) := by decide +kernel
theorem dX1_back_72 : decode cX1_back 72 = .ok (.if_icmp .ge 11, 3) := by decide +kernel
theorem dX1_back_75 : decode cX1_back 75 = .ok (.iload 7, 2) := by decide +kernel
theorem dX1_back_77 : decode cX1_back 77 = .ok (.iload 8, 2) := by decide +kernel
theorem dX1_back_79 : decode cX1_back 79 = .ok (.iadd, 1) := by decide +kernel
theorem dX1_back_80 : decode cX1_back 80 = .ok (.goto 12, 3) := by decide +kernel
theorem dX1_back_83 : decode cX1_back 83 = .ok (.iload 7, 2) := by decide +kernel
theorem dX1_back_85 : decode cX1_back 85 = .ok (.iload 8, 2) := by decide +kernel
theorem dX1_back_87 : decode cX1_back 87 = .ok (.iadd, 1) := by decide +kernel
theorem dX1_back_88 : decode cX1_back 88 = .ok (.sipush 3329, 3) := by decide +kernel
theorem dX1_back_91 : decode cX1_back 91 = .ok (.isub, 1) := by decide +kernel
theorem dX1_back_92 : decode cX1_back 92 = .ok (.iastore, 1) := by decide +kernel
theorem dX1_back_93 : decode cX1_back 93 = .ok (.aload_n 1, 1) := by decide +kernel
theorem dX1_back_94 : decode cX1_back 94 = .ok (.iload 6, 2) := by decide +kernel
theorem dX1_back_96 : decode cX1_back 96 = .ok (.iload_n 3, 1) := by decide +kernel
theorem dX1_back_97 : decode cX1_back 97 = .ok (.iadd, 1) := by decide +kernel
theorem dX1_back_98 : decode cX1_back 98 = .ok (.iload 5, 2) := by decide +kernel
theorem dX1_back_100 : decode cX1_back 100 = .ok (.iload 8, 2) := by decide +kernel
theorem dX1_back_102 : decode cX1_back 102 = .ok (.iload 7, 2) := by decide +kernel
theorem dX1_back_104 : decode cX1_back 104 = .ok (.if_icmp .ge 15, 3) := by decide +kernel
theorem dX1_back_107 : decode cX1_back 107 = .ok (.iload 8, 2) := by decide +kernel
theorem dX1_back_109 : decode cX1_back 109 = .ok (.iload 7, 2) := by decide +kernel
theorem dX1_back_111 : decode cX1_back 111 = .ok (.isub, 1) := by decide +kernel
theorem dX1_back_112 : decode cX1_back 112 = .ok (.sipush 3329, 3) := by decide +kernel
theorem dX1_back_115 : decode cX1_back 115 = .ok (.iadd, 1) := by decide +kernel
theorem dX1_back_116 : decode cX1_back 116 = .ok (.goto 8, 3) := by decide +kernel
theorem dX1_back_119 : decode cX1_back 119 = .ok (.iload 8, 2) := by decide +kernel
theorem dX1_back_121 : decode cX1_back 121 = .ok (.iload 7, 2) := by decide +kernel
theorem dX1_back_123 : decode cX1_back 123 = .ok (.isub, 1) := by decide +kernel
theorem dX1_back_124 : decode cX1_back 124 = .ok (.imul, 1) := by decide +kernel
theorem dX1_back_125 : decode cX1_back 125 = .ok (.sipush 3329, 3) := by decide +kernel
theorem dX1_back_128 : decode cX1_back 128 = .ok (.irem, 1) := by decide +kernel
theorem dX1_back_129 : decode cX1_back 129 = .ok (.iastore, 1) := by decide +kernel
theorem dX1_back_130 : decode cX1_back 130 = .ok (.iinc 6 1, 3) := by decide +kernel
theorem dX1_back_133 : decode cX1_back 133 = .ok (.goto (-95), 3) := by decide +kernel
theorem dX1_back_136 : decode cX1_back 136 = .ok (.iload 4, 2) := by decide +kernel
theorem dX1_back_138 : decode cX1_back 138 = .ok (.iconst 2, 1) := by decide +kernel
theorem dX1_back_139 : decode cX1_back 139 = .ok (.iload_n 3, 1) := by decide +kernel
theorem dX1_back_140 : decode cX1_back 140 = .ok (.imul, 1) := by decide +kernel
theorem dX1_back_141 : decode cX1_back 141 = .ok (.iadd, 1) := by decide +kernel
theorem dX1_back_142 : decode cX1_back 142 = .ok (.istore 4, 2) := by decide +kernel
theorem dX1_back_144 : decode cX1_back 144 = .ok (.goto (-129), 3) := by decide +kernel
theorem dX1_back_147 : decode cX1_back 147 = .ok (.iload_n 3, 1) := by decide +kernel
theorem dX1_back_148 : decode cX1_back 148 = .ok (.iconst 2, 1) := by decide +kernel
theorem dX1_back_149 : decode cX1_back 149 = .ok (.imul, 1) := by decide +kernel
theorem dX1_back_150 : decode cX1_back 150 = .ok (.istore_n 3, 1) := by decide +kernel
theorem dX1_back_151 : decode cX1_back 151 = .ok (.goto (-146), 3) := by decide +kernel
theorem dX1_back_154 : decode cX1_back 154 = .ok (.iconst 0, 1) := by decide +kernel
theorem dX1_back_155 : decode cX1_back 155 = .ok (.istore_n 3, 1) := by decide +kernel
theorem dX1_back_156 : decode cX1_back 156 = .ok (.iload_n 3, 1) := by decide +kernel
theorem dX1_back_157 : decode cX1_back 157 = .ok (.sipush 256, 3) := by decide +kernel
theorem dX1_back_160 : decode cX1_back 160 = .ok (.if_icmp .ge 23, 3) := by decide +kernel
theorem dX1_back_163 : decode cX1_back 163 = .ok (.aload_n 1, 1) := by decide +kernel
theorem dX1_back_164 : decode cX1_back 164 = .ok (.iload_n 3, 1) := by decide +kernel
theorem dX1_back_165 : decode cX1_back 165 = .ok (.aload_n 1, 1) := by decide +kernel
theorem dX1_back_166 : decode cX1_back 166 = .ok (.iload_n 3, 1) := by decide +kernel
theorem dX1_back_167 : decode cX1_back 167 = .ok (.iaload, 1) := by decide +kernel
theorem dX1_back_168 : decode cX1_back 168 = .ok (.sipush 3303, 3) := by decide +kernel
theorem dX1_back_171 : decode cX1_back 171 = .ok (.imul, 1) := by decide +kernel
theorem dX1_back_172 : decode cX1_back 172 = .ok (.sipush 3329, 3) := by decide +kernel
theorem dX1_back_175 : decode cX1_back 175 = .ok (.irem, 1) := by decide +kernel
theorem dX1_back_176 : decode cX1_back 176 = .ok (.iastore, 1) := by decide +kernel
theorem dX1_back_177 : decode cX1_back 177 = .ok (.iinc 3 1, 3) := by decide +kernel
theorem dX1_back_180 : decode cX1_back 180 = .ok (.goto (-24), 3) := by decide +kernel
theorem dX1_back_183 : decode cX1_back 183 = .ok (.return_, 1) := by decide +kernel
theorem q5 : (Jvm.Cond.initialized "RingDesk$Transform") ∈ lw_all := lw_g (lw_at lw_m0 2 rfl) rfl
theorem q16 : (Jvm.Cond.instantiable "RingDesk$Transform" (3 : Nat)) ∈ lw_all := lw_g (lw_at lw_m0 13 rfl) rfl
theorem q18 : (Jvm.Cond.instanceMethod ({ cls := "RingDesk$Transform", name := "<init>", desc := "()V" } : Jvm.MethodName)) ∈ lw_all := lw_g (lw_at lw_m0 15 rfl) rfl
theorem q19 : (Jvm.Cond.code ({ cls := "RingDesk$Transform", name := "<init>", desc := "()V" } : Jvm.MethodName) prog_2_method_1_code (5 : Nat) (Option.none : Option Jvm.ClassFile.FieldType)) ∈ lw_all := lw_g (lw_at lw_m0 16 rfl) rfl
theorem q20 : (Jvm.Cond.methodLink "RingDesk$Transform" (3 : Nat) ({ cls := "java/lang/Object", name := "<init>", desc := "()V" } : Jvm.MethodName)) ∈ lw_all := lw_g (lw_at lw_m0 17 rfl) rfl
theorem q21 : (Jvm.Cond.fieldLink "RingDesk$Transform" (9 : Nat) "RingDesk$Transform" "powers" "[I") ∈ lw_all := lw_g (lw_at lw_m0 18 rfl) rfl
theorem q22 : (Jvm.Cond.fieldLink "RingDesk$Transform" (15 : Nat) "RingDesk$Transform" "first" "[I") ∈ lw_all := lw_g (lw_at lw_m0 19 rfl) rfl
theorem q23 : (Jvm.Cond.fieldLink "RingDesk$Transform" (18 : Nat) "RingDesk$Transform" "second" "[I") ∈ lw_all := lw_g (lw_at lw_m0 20 rfl) rfl
theorem q24 : (Jvm.Cond.laysFinal "RingDesk$Transform" "RingDesk$Transform" "powers" "[I") ∈ lw_all := lw_g (lw_at lw_m0 21 rfl) rfl
theorem q25 : (Jvm.Cond.soleField "RingDesk$Transform" "powers") ∈ lw_all := lw_g (lw_at lw_m0 22 rfl) rfl
theorem q26 : (Jvm.Cond.laysFinal "RingDesk$Transform" "RingDesk$Transform" "first" "[I") ∈ lw_all := lw_g (lw_at lw_m0 23 rfl) rfl
theorem q27 : (Jvm.Cond.soleField "RingDesk$Transform" "first") ∈ lw_all := lw_g (lw_at lw_m0 24 rfl) rfl
theorem q28 : (Jvm.Cond.laysFinal "RingDesk$Transform" "RingDesk$Transform" "second" "[I") ∈ lw_all := lw_g (lw_at lw_m0 25 rfl) rfl
theorem q29 : (Jvm.Cond.soleField "RingDesk$Transform" "second") ∈ lw_all := lw_g (lw_at lw_m0 26 rfl) rfl
theorem q30 : (Jvm.Cond.superclass "RingDesk$Transform" "java/lang/Object") ∈ lw_all := lw_g (lw_at lw_m0 27 rfl) rfl
theorem q68 : (Jvm.Cond.instanceMethod ({ cls := "RingDesk$Transform", name := "multiply", desc := "([I[I[I)V" } : Jvm.MethodName)) ∈ lw_all := lw_g (lw_at lw_m0 65 rfl) rfl
theorem q69 : (Jvm.Cond.selects "RingDesk$Transform" ({ cls := "RingDesk$Transform", name := "multiply", desc := "([I[I[I)V" } : Jvm.MethodName) ({ cls := "RingDesk$Transform", name := "multiply", desc := "([I[I[I)V" } : Jvm.MethodName)) ∈ lw_all := lw_g (lw_at lw_m0 66 rfl) rfl
theorem q70 : (Jvm.Cond.code ({ cls := "RingDesk$Transform", name := "multiply", desc := "([I[I[I)V" } : Jvm.MethodName) prog_2_method_5_code (5 : Nat) (Option.none : Option Jvm.ClassFile.FieldType)) ∈ lw_all := lw_g (lw_at lw_m0 67 rfl) rfl
theorem q71 : (Jvm.Cond.methodLink "RingDesk$Transform" (21 : Nat) ({ cls := "RingDesk$Transform", name := "there", desc := "([I)V" } : Jvm.MethodName)) ∈ lw_all := lw_g (lw_at lw_m0 68 rfl) rfl
theorem q72 : (Jvm.Cond.privateMethod ({ cls := "RingDesk$Transform", name := "there", desc := "([I)V" } : Jvm.MethodName)) ∈ lw_tbl := lw_at lw_m0 69 rfl
theorem q73 : (Jvm.Cond.instanceMethod ({ cls := "RingDesk$Transform", name := "there", desc := "([I)V" } : Jvm.MethodName)) ∈ lw_all := lw_g (lw_at lw_m0 70 rfl) rfl
theorem q74 : (Jvm.Cond.code ({ cls := "RingDesk$Transform", name := "there", desc := "([I)V" } : Jvm.MethodName) prog_2_method_2_code (9 : Nat) (Option.none : Option Jvm.ClassFile.FieldType)) ∈ lw_all := lw_g (lw_at lw_m0 71 rfl) rfl
theorem q75 : (Jvm.Cond.methodLink "RingDesk$Transform" (25 : Nat) ({ cls := "RingDesk$Transform", name := "pair", desc := "(II)V" } : Jvm.MethodName)) ∈ lw_all := lw_g (lw_at lw_m0 72 rfl) rfl
theorem q76 : (Jvm.Cond.privateMethod ({ cls := "RingDesk$Transform", name := "pair", desc := "(II)V" } : Jvm.MethodName)) ∈ lw_tbl := lw_at lw_m0 73 rfl
theorem q77 : (Jvm.Cond.instanceMethod ({ cls := "RingDesk$Transform", name := "pair", desc := "(II)V" } : Jvm.MethodName)) ∈ lw_all := lw_g (lw_at lw_m0 74 rfl) rfl
theorem q78 : (Jvm.Cond.code ({ cls := "RingDesk$Transform", name := "pair", desc := "(II)V" } : Jvm.MethodName) prog_2_method_4_code (7 : Nat) (Option.none : Option Jvm.ClassFile.FieldType)) ∈ lw_all := lw_g (lw_at lw_m0 75 rfl) rfl
theorem q79 : (Jvm.Cond.methodLink "RingDesk$Transform" (29 : Nat) ({ cls := "RingDesk$Transform", name := "back", desc := "([I)V" } : Jvm.MethodName)) ∈ lw_all := lw_g (lw_at lw_m0 76 rfl) rfl
theorem q80 : (Jvm.Cond.privateMethod ({ cls := "RingDesk$Transform", name := "back", desc := "([I)V" } : Jvm.MethodName)) ∈ lw_tbl := lw_at lw_m0 77 rfl
theorem q81 : (Jvm.Cond.instanceMethod ({ cls := "RingDesk$Transform", name := "back", desc := "([I)V" } : Jvm.MethodName)) ∈ lw_all := lw_g (lw_at lw_m0 78 rfl) rfl
theorem q82 : (Jvm.Cond.code ({ cls := "RingDesk$Transform", name := "back", desc := "([I)V" } : Jvm.MethodName) prog_2_method_3_code (9 : Nat) (Option.none : Option Jvm.ClassFile.FieldType)) ∈ lw_all := lw_g (lw_at lw_m0 79 rfl) rfl
theorem in_X1 : ∀ w ∈ wsX10, w ∈ lw_all := lw_in wsX10 [24, 26, 28] (by decide +kernel) (by decide +kernel)
end
section
/-! RingDeskModel -/
set_option maxRecDepth 100000
def RX2 : String := "RingDeskModel"
def TX2 : u_T := fun k => match k with
  | 0 => ("RingDeskModel", "file", "[I", true)
  | _ => ("RingDeskModel", "z", "[I", true)
def tyX2 : Nat → FieldType := fun k => match k with
  | 0 => .array .int
  | _ => .array .int
abbrev wsX20 : List Cond := u_ws RX2 TX2 2
theorem nmX2 : ∀ a, a < 2 → ∀ b, b < 2 → a ≠ b → (TX2 a).2.1 ≠ (TX2 b).2.1 := by decide +kernel
theorem tyX2_ok : ∀ k, k < 2 → parseFieldDescriptor (TX2 k).2.2.1 = some (tyX2 k) := by decide +kernel
abbrev cX2_init : ByteArray := prog_4_method_1_code
def yX2_init : MethodName := ⟨RX2, "<init>", "()V"⟩
theorem dX2_init_0 : decode cX2_init 0 = .ok (.aload_n 0, 1) := by decide +kernel
theorem dX2_init_1 : decode cX2_init 1 = .ok (.invokespecial 1, 3) := by decide +kernel
theorem dX2_init_4 : decode cX2_init 4 = .ok (.aload_n 0, 1) := by decide +kernel
theorem dX2_init_5 : decode cX2_init 5 = .ok (.sipush 1024, 3) := by decide +kernel
theorem dX2_init_8 : decode cX2_init 8 = .ok (.newarray .int, 2) := by decide +kernel
theorem dX2_init_10 : decode cX2_init 10 = .ok (.putfield 7, 3) := by decide +kernel
theorem dX2_init_13 : decode cX2_init 13 = .ok (.aload_n 0, 1) := by decide +kernel
theorem dX2_init_14 : decode cX2_init 14 = .ok (.sipush 512, 3) := by decide +kernel
theorem dX2_init_17 : decode cX2_init 17 = .ok (.newarray .int, 2) := by decide +kernel
theorem dX2_init_19 : decode cX2_init 19 = .ok (.putfield 13, 3) := by decide +kernel
theorem dX2_init_22 : decode cX2_init 22 = .ok (.return_, 1) := by decide +kernel
abbrev cX2_put : ByteArray := prog_4_method_2_code
def yX2_put : MethodName := ⟨RX2, "put", "(IIII)V"⟩
theorem dX2_put_0 : decode cX2_put 0 = .ok (.sipush 256, 3) := by decide +kernel
theorem dX2_put_3 : decode cX2_put 3 = .ok (.iload_n 1, 1) := by decide +kernel
theorem dX2_put_4 : decode cX2_put 4 = .ok (.iconst 3, 1) := by decide +kernel
theorem dX2_put_5 : decode cX2_put 5 = .ok (.iand, 1) := by decide +kernel
theorem dX2_put_6 : decode cX2_put 6 = .ok (.imul, 1) := by decide +kernel
theorem dX2_put_7 : decode cX2_put 7 = .ok (.istore 5, 2) := by decide +kernel
theorem dX2_put_9 : decode cX2_put 9 = .ok (.iconst 0, 1) := by decide +kernel
theorem dX2_put_10 : decode cX2_put 10 = .ok (.istore 6, 2) := by decide +kernel
theorem dX2_put_12 : decode cX2_put 12 = .ok (.iload 6, 2) := by decide +kernel
theorem dX2_put_14 : decode cX2_put 14 = .ok (.iconst 2, 1) := by decide +kernel
theorem dX2_put_15 : decode cX2_put 15 = .ok (.if_icmp .ge 58, 3) := by decide +kernel
theorem dX2_put_18 : decode cX2_put 18 = .ok (.iload 6, 2) := by decide +kernel
theorem dX2_put_20 : decode cX2_put 20 = .ok (.ifCond .ne 7, 3) := by decide +kernel
theorem dX2_put_23 : decode cX2_put 23 = .ok (.iload_n 3, 1) := by decide +kernel
theorem dX2_put_24 : decode cX2_put 24 = .ok (.goto 5, 3) := by decide +kernel
theorem dX2_put_27 : decode cX2_put 27 = .ok (.iload 4, 2) := by decide +kernel
theorem dX2_put_29 : decode cX2_put 29 = .ok (.sipush 3329, 3) := by decide +kernel
theorem dX2_put_32 : decode cX2_put 32 = .ok (.irem, 1) := by decide +kernel
theorem dX2_put_33 : decode cX2_put 33 = .ok (.istore 7, 2) := by decide +kernel
theorem dX2_put_35 : decode cX2_put 35 = .ok (.aload_n 0, 1) := by decide +kernel
theorem dX2_put_36 : decode cX2_put 36 = .ok (.getfield 7, 3) := by decide +kernel
theorem dX2_put_39 : decode cX2_put 39 = .ok (.iload 5, 2) := by decide +kernel
theorem dX2_put_41 : decode cX2_put 41 = .ok (.iload_n 2, 1) := by decide +kernel
theorem dX2_put_42 : decode cX2_put 42 = .ok (.iload 6, 2) := by decide +kernel
theorem dX2_put_44 : decode cX2_put 44 = .ok (.iadd, 1) := by decide +kernel
theorem dX2_put_45 : decode cX2_put 45 = .ok (.sipush 255, 3) := by decide +kernel
theorem dX2_put_48 : decode cX2_put 48 = .ok (.iand, 1) := by decide +kernel
theorem dX2_put_49 : decode cX2_put 49 = .ok (.iadd, 1) := by decide +kernel
theorem dX2_put_50 : decode cX2_put 50 = .ok (.iload 7, 2) := by decide +kernel
theorem dX2_put_52 : decode cX2_put 52 = .ok (.ifCond .ge 12, 3) := by decide +kernel
theorem dX2_put_55 : decode cX2_put 55 = .ok (.iload 7, 2) := by decide +kernel
theorem dX2_put_57 : decode cX2_put 57 = .ok (.sipush 3329, 3) := by decide +kernel
theorem dX2_put_60 : decode cX2_put 60 = .ok (.iadd, 1) := by decide +kernel
theorem dX2_put_61 : decode cX2_put 61 = .ok (.goto 5, 3) := by decide +kernel
theorem dX2_put_64 : decode cX2_put 64 = .ok (.iload 7, 2) := by decide +kernel
theorem dX2_put_66 : decode cX2_put 66 = .ok (.iastore, 1) := by decide +kernel
theorem dX2_put_67 : decode cX2_put 67 = .ok (.iinc 6 1, 3) := by decide +kernel
theorem dX2_put_70 : decode cX2_put 70 = .ok (.goto (-58), 3) := by decide +kernel
theorem dX2_put_73 : decode cX2_put 73 = .ok (.return_, 1) := by decide +kernel
abbrev cX2_add : ByteArray := prog_4_method_3_code
def yX2_add : MethodName := ⟨RX2, "add", "(III)V"⟩
theorem dX2_add_0 : decode cX2_add 0 = .ok (.iconst 0, 1) := by decide +kernel
theorem dX2_add_1 : decode cX2_add 1 = .ok (.istore 4, 2) := by decide +kernel
theorem dX2_add_3 : decode cX2_add 3 = .ok (.iload 4, 2) := by decide +kernel
theorem dX2_add_5 : decode cX2_add 5 = .ok (.sipush 256, 3) := by decide +kernel
theorem dX2_add_8 : decode cX2_add 8 = .ok (.if_icmp .ge 59, 3) := by decide +kernel
theorem dX2_add_11 : decode cX2_add 11 = .ok (.aload_n 0, 1) := by decide +kernel
theorem dX2_add_12 : decode cX2_add 12 = .ok (.getfield 7, 3) := by decide +kernel
theorem dX2_add_15 : decode cX2_add 15 = .ok (.sipush 256, 3) := by decide +kernel
theorem dX2_add_18 : decode cX2_add 18 = .ok (.iload_n 1, 1) := by decide +kernel
theorem dX2_add_19 : decode cX2_add 19 = .ok (.iconst 3, 1) := by decide +kernel
theorem dX2_add_20 : decode cX2_add 20 = .ok (.iand, 1) := by decide +kernel
theorem dX2_add_21 : decode cX2_add 21 = .ok (.imul, 1) := by decide +kernel
theorem dX2_add_22 : decode cX2_add 22 = .ok (.iload 4, 2) := by decide +kernel
theorem dX2_add_24 : decode cX2_add 24 = .ok (.iadd, 1) := by decide +kernel
theorem dX2_add_25 : decode cX2_add 25 = .ok (.aload_n 0, 1) := by decide +kernel
theorem dX2_add_26 : decode cX2_add 26 = .ok (.getfield 7, 3) := by decide +kernel
theorem dX2_add_29 : decode cX2_add 29 = .ok (.sipush 256, 3) := by decide +kernel
theorem dX2_add_32 : decode cX2_add 32 = .ok (.iload_n 2, 1) := by decide +kernel
theorem dX2_add_33 : decode cX2_add 33 = .ok (.iconst 3, 1) := by decide +kernel
theorem dX2_add_34 : decode cX2_add 34 = .ok (.iand, 1) := by decide +kernel
theorem dX2_add_35 : decode cX2_add 35 = .ok (.imul, 1) := by decide +kernel
theorem dX2_add_36 : decode cX2_add 36 = .ok (.iload 4, 2) := by decide +kernel
theorem dX2_add_38 : decode cX2_add 38 = .ok (.iadd, 1) := by decide +kernel
theorem dX2_add_39 : decode cX2_add 39 = .ok (.iaload, 1) := by decide +kernel
theorem dX2_add_40 : decode cX2_add 40 = .ok (.aload_n 0, 1) := by decide +kernel
theorem dX2_add_41 : decode cX2_add 41 = .ok (.getfield 7, 3) := by decide +kernel
theorem dX2_add_44 : decode cX2_add 44 = .ok (.sipush 256, 3) := by decide +kernel
theorem dX2_add_47 : decode cX2_add 47 = .ok (.iload_n 3, 1) := by decide +kernel
theorem dX2_add_48 : decode cX2_add 48 = .ok (.iconst 3, 1) := by decide +kernel
theorem dX2_add_49 : decode cX2_add 49 = .ok (.iand, 1) := by decide +kernel
theorem dX2_add_50 : decode cX2_add 50 = .ok (.imul, 1) := by decide +kernel
theorem dX2_add_51 : decode cX2_add 51 = .ok (.iload 4, 2) := by decide +kernel
theorem dX2_add_53 : decode cX2_add 53 = .ok (.iadd, 1) := by decide +kernel
theorem dX2_add_54 : decode cX2_add 54 = .ok (.iaload, 1) := by decide +kernel
theorem dX2_add_55 : decode cX2_add 55 = .ok (.iadd, 1) := by decide +kernel
theorem dX2_add_56 : decode cX2_add 56 = .ok (.sipush 3329, 3) := by decide +kernel
theorem dX2_add_59 : decode cX2_add 59 = .ok (.irem, 1) := by decide +kernel
theorem dX2_add_60 : decode cX2_add 60 = .ok (.iastore, 1) := by decide +kernel
theorem dX2_add_61 : decode cX2_add 61 = .ok (.iinc 4 1, 3) := by decide +kernel
theorem dX2_add_64 : decode cX2_add 64 = .ok (.goto (-61), 3) := by decide +kernel
theorem dX2_add_67 : decode cX2_add 67 = .ok (.return_, 1) := by decide +kernel
abbrev cX2_subtract : ByteArray := prog_4_method_4_code
def yX2_subtract : MethodName := ⟨RX2, "subtract", "(III)V"⟩
theorem dX2_subtract_0 : decode cX2_subtract 0 = .ok (.iconst 0, 1) := by decide +kernel
theorem dX2_subtract_1 : decode cX2_subtract 1 = .ok (.istore 4, 2) := by decide +kernel
theorem dX2_subtract_3 : decode cX2_subtract 3 = .ok (.iload 4, 2) := by decide +kernel
theorem dX2_subtract_5 : decode cX2_subtract 5 = .ok (.sipush 256, 3) := by decide +kernel
theorem dX2_subtract_8 : decode cX2_subtract 8 = .ok (.if_icmp .ge 63, 3) := by decide +kernel
theorem dX2_subtract_11 : decode cX2_subtract 11 = .ok (.aload_n 0, 1) := by decide +kernel
theorem dX2_subtract_12 : decode cX2_subtract 12 = .ok (.getfield 7, 3) := by decide +kernel
theorem dX2_subtract_15 : decode cX2_subtract 15 = .ok (.sipush 256, 3) := by decide +kernel
theorem dX2_subtract_18 : decode cX2_subtract 18 = .ok (.iload_n 1, 1) := by decide +kernel
theorem dX2_subtract_19 : decode cX2_subtract 19 = .ok (.iconst 3, 1) := by decide +kernel
theorem dX2_subtract_20 : decode cX2_subtract 20 = .ok (.iand, 1) := by decide +kernel
theorem dX2_subtract_21 : decode cX2_subtract 21 = .ok (.imul, 1) := by decide +kernel
theorem dX2_subtract_22 : decode cX2_subtract 22 = .ok (.iload 4, 2) := by decide +kernel
theorem dX2_subtract_24 : decode cX2_subtract 24 = .ok (.iadd, 1) := by decide +kernel
theorem dX2_subtract_25 : decode cX2_subtract 25 = .ok (.aload_n 0, 1) := by decide +kernel
theorem dX2_subtract_26 : decode cX2_subtract 26 = .ok (.getfield 7, 3) := by decide +kernel
theorem dX2_subtract_29 : decode cX2_subtract 29 = .ok (.sipush 256, 3) := by decide +kernel
theorem dX2_subtract_32 : decode cX2_subtract 32 = .ok (.iload_n 2, 1) := by decide +kernel
theorem dX2_subtract_33 : decode cX2_subtract 33 = .ok (.iconst 3, 1) := by decide +kernel
theorem dX2_subtract_34 : decode cX2_subtract 34 = .ok (.iand, 1) := by decide +kernel
theorem dX2_subtract_35 : decode cX2_subtract 35 = .ok (.imul, 1) := by decide +kernel
theorem dX2_subtract_36 : decode cX2_subtract 36 = .ok (.iload 4, 2) := by decide +kernel
theorem dX2_subtract_38 : decode cX2_subtract 38 = .ok (.iadd, 1) := by decide +kernel
theorem dX2_subtract_39 : decode cX2_subtract 39 = .ok (.iaload, 1) := by decide +kernel
theorem dX2_subtract_40 : decode cX2_subtract 40 = .ok (.sipush 3329, 3) := by decide +kernel
theorem dX2_subtract_43 : decode cX2_subtract 43 = .ok (.iadd, 1) := by decide +kernel
theorem dX2_subtract_44 : decode cX2_subtract 44 = .ok (.aload_n 0, 1) := by decide +kernel
theorem dX2_subtract_45 : decode cX2_subtract 45 = .ok (.getfield 7, 3) := by decide +kernel
theorem dX2_subtract_48 : decode cX2_subtract 48 = .ok (.sipush 256, 3) := by decide +kernel
theorem dX2_subtract_51 : decode cX2_subtract 51 = .ok (.iload_n 3, 1) := by decide +kernel
theorem dX2_subtract_52 : decode cX2_subtract 52 = .ok (.iconst 3, 1) := by decide +kernel
theorem dX2_subtract_53 : decode cX2_subtract 53 = .ok (.iand, 1) := by decide +kernel
theorem dX2_subtract_54 : decode cX2_subtract 54 = .ok (.imul, 1) := by decide +kernel
theorem dX2_subtract_55 : decode cX2_subtract 55 = .ok (.iload 4, 2) := by decide +kernel
theorem dX2_subtract_57 : decode cX2_subtract 57 = .ok (.iadd, 1) := by decide +kernel
theorem dX2_subtract_58 : decode cX2_subtract 58 = .ok (.iaload, 1) := by decide +kernel
theorem dX2_subtract_59 : decode cX2_subtract 59 = .ok (.isub, 1) := by decide +kernel
theorem dX2_subtract_60 : decode cX2_subtract 60 = .ok (.sipush 3329, 3) := by decide +kernel
theorem dX2_subtract_63 : decode cX2_subtract 63 = .ok (.irem, 1) := by decide +kernel
theorem dX2_subtract_64 : decode cX2_subtract 64 = .ok (.iastore, 1) := by decide +kernel
theorem dX2_subtract_65 : decode cX2_subtract 65 = .ok (.iinc 4 1, 3) := by decide +kernel
theorem dX2_subtract_68 : decode cX2_subtract 68 = .ok (.goto (-65), 3) := by decide +kernel
theorem dX2_subtract_71 : decode cX2_subtract 71 = .ok (.return_, 1) := by decide +kernel
abbrev cX2_multiply : ByteArray := prog_4_method_5_code
def yX2_multiply : MethodName := ⟨RX2, "multiply", "(III)V"⟩
theorem dX2_multiply_0 : decode cX2_multiply 0 = .ok (.iconst 0, 1) := by decide +kernel
theorem dX2_multiply_1 : decode cX2_multiply 1 = .ok (.istore 4, 2) := by decide +kernel
theorem dX2_multiply_3 : decode cX2_multiply 3 = .ok (.iload 4, 2) := by decide +kernel
theorem dX2_multiply_5 : decode cX2_multiply 5 = .ok (.sipush 512, 3) := by decide +kernel
theorem dX2_multiply_8 : decode cX2_multiply 8 = .ok (.if_icmp .ge 17, 3) := by decide +kernel
theorem dX2_multiply_11 : decode cX2_multiply 11 = .ok (.aload_n 0, 1) := by decide +kernel
theorem dX2_multiply_12 : decode cX2_multiply 12 = .ok (.getfield 13, 3) := by decide +kernel
theorem dX2_multiply_15 : decode cX2_multiply 15 = .ok (.iload 4, 2) := by decide +kernel
theorem dX2_multiply_17 : decode cX2_multiply 17 = .ok (.iconst 0, 1) := by decide +kernel
theorem dX2_multiply_18 : decode cX2_multiply 18 = .ok (.iastore, 1) := by decide +kernel
theorem dX2_multiply_19 : decode cX2_multiply 19 = .ok (.iinc 4 1, 3) := by decide +kernel
theorem dX2_multiply_22 : decode cX2_multiply 22 = .ok (.goto (-19), 3) := by decide +kernel
theorem dX2_multiply_25 : decode cX2_multiply 25 = .ok (.iconst 0, 1) := by decide +kernel
theorem dX2_multiply_26 : decode cX2_multiply 26 = .ok (.istore 4, 2) := by decide +kernel
theorem dX2_multiply_28 : decode cX2_multiply 28 = .ok (.iload 4, 2) := by decide +kernel
theorem dX2_multiply_30 : decode cX2_multiply 30 = .ok (.sipush 256, 3) := by decide +kernel
theorem dX2_multiply_33 : decode cX2_multiply 33 = .ok (.if_icmp .ge 82, 3) := by decide +kernel
theorem dX2_multiply_36 : decode cX2_multiply 36 = .ok (.iconst 0, 1) := by decide +kernel
theorem dX2_multiply_37 : decode cX2_multiply 37 = .ok (.istore 5, 2) := by decide +kernel
theorem dX2_multiply_39 : decode cX2_multiply 39 = .ok (.iload 5, 2) := by decide +kernel
theorem dX2_multiply_41 : decode cX2_multiply 41 = .ok (.sipush 256, 3) := by decide +kernel
theorem dX2_multiply_44 : decode cX2_multiply 44 = .ok (.if_icmp .ge 65, 3) := by decide +kernel
theorem dX2_multiply_47 : decode cX2_multiply 47 = .ok (.aload_n 0, 1) := by decide +kernel
theorem dX2_multiply_48 : decode cX2_multiply 48 = .ok (.getfield 13, 3) := by decide +kernel
theorem dX2_multiply_51 : decode cX2_multiply 51 = .ok (.iload 4, 2) := by decide +kernel
theorem dX2_multiply_53 : decode cX2_multiply 53 = .ok (.iload 5, 2) := by decide +kernel
theorem dX2_multiply_55 : decode cX2_multiply 55 = .ok (.iadd, 1) := by decide +kernel
theorem dX2_multiply_56 : decode cX2_multiply 56 = .ok (.aload_n 0, 1) := by decide +kernel
theorem dX2_multiply_57 : decode cX2_multiply 57 = .ok (.getfield 13, 3) := by decide +kernel
theorem dX2_multiply_60 : decode cX2_multiply 60 = .ok (.iload 4, 2) := by decide +kernel
theorem dX2_multiply_62 : decode cX2_multiply 62 = .ok (.iload 5, 2) := by decide +kernel
theorem dX2_multiply_64 : decode cX2_multiply 64 = .ok (.iadd, 1) := by decide +kernel
theorem dX2_multiply_65 : decode cX2_multiply 65 = .ok (.iaload, 1) := by decide +kernel
theorem dX2_multiply_66 : decode cX2_multiply 66 = .ok (.aload_n 0, 1) := by decide +kernel
theorem dX2_multiply_67 : decode cX2_multiply 67 = .ok (.getfield 7, 3) := by decide +kernel
theorem dX2_multiply_70 : decode cX2_multiply 70 = .ok (.sipush 256, 3) := by decide +kernel
theorem dX2_multiply_73 : decode cX2_multiply 73 = .ok (.iload_n 2, 1) := by decide +kernel
theorem dX2_multiply_74 : decode cX2_multiply 74 = .ok (.iconst 3, 1) := by decide +kernel
theorem dX2_multiply_75 : decode cX2_multiply 75 = .ok (.iand, 1) := by decide +kernel
theorem dX2_multiply_76 : decode cX2_multiply 76 = .ok (.imul, 1) := by decide +kernel
theorem dX2_multiply_77 : decode cX2_multiply 77 = .ok (.iload 4, 2) := by decide +kernel
theorem dX2_multiply_79 : decode cX2_multiply 79 = .ok (.iadd, 1) := by decide +kernel
theorem dX2_multiply_80 : decode cX2_multiply 80 = .ok (.iaload, 1) := by decide +kernel
theorem dX2_multiply_81 : decode cX2_multiply 81 = .ok (.aload_n 0, 1) := by decide +kernel
theorem dX2_multiply_82 : decode cX2_multiply 82 = .ok (.getfield 7, 3) := by decide +kernel
theorem dX2_multiply_85 : decode cX2_multiply 85 = .ok (.sipush 256, 3) := by decide +kernel
theorem dX2_multiply_88 : decode cX2_multiply 88 = .ok (.iload_n 3, 1) := by decide +kernel
theorem dX2_multiply_89 : decode cX2_multiply 89 = .ok (.iconst 3, 1) := by decide +kernel
theorem dX2_multiply_90 : decode cX2_multiply 90 = .ok (.iand, 1) := by decide +kernel
theorem dX2_multiply_91 : decode cX2_multiply 91 = .ok (.imul, 1) := by decide +kernel
theorem dX2_multiply_92 : decode cX2_multiply 92 = .ok (.iload 5, 2) := by decide +kernel
theorem dX2_multiply_94 : decode cX2_multiply 94 = .ok (.iadd, 1) := by decide +kernel
theorem dX2_multiply_95 : decode cX2_multiply 95 = .ok (.iaload, 1) := by decide +kernel
theorem dX2_multiply_96 : decode cX2_multiply 96 = .ok (.imul, 1) := by decide +kernel
theorem dX2_multiply_97 : decode cX2_multiply 97 = .ok (.iadd, 1) := by decide +kernel
theorem dX2_multiply_98 : decode cX2_multiply 98 = .ok (.sipush 3329, 3) := by decide +kernel
theorem dX2_multiply_101 : decode cX2_multiply 101 = .ok (.irem, 1) := by decide +kernel
theorem dX2_multiply_102 : decode cX2_multiply 102 = .ok (.iastore, 1) := by decide +kernel
theorem dX2_multiply_103 : decode cX2_multiply 103 = .ok (.iinc 5 1, 3) := by decide +kernel
theorem dX2_multiply_106 : decode cX2_multiply 106 = .ok (.goto (-67), 3) := by decide +kernel
theorem dX2_multiply_109 : decode cX2_multiply 109 = .ok (.iinc 4 1, 3) := by decide +kernel
theorem dX2_multiply_112 : decode cX2_multiply 112 = .ok (.goto (-84), 3) := by decide +kernel
theorem dX2_multiply_115 : decode cX2_multiply 115 = .ok (.iconst 0, 1) := by decide +kernel
theorem dX2_multiply_116 : decode cX2_multiply 116 = .ok (.istore 4, 2) := by decide +kernel
theorem dX2_multiply_118 : decode cX2_multiply 118 = .ok (.iload 4, 2) := by decide +kernel
theorem dX2_multiply_120 : decode cX2_multiply 120 = .ok (.sipush 256, 3) := by decide +kernel
theorem dX2_multiply_123 : decode cX2_multiply 123 = .ok (.if_icmp .ge 51, 3) := by decide +kernel
theorem dX2_multiply_126 : decode cX2_multiply 126 = .ok (.aload_n 0, 1) := by decide +kernel
theorem dX2_multiply_127 : decode cX2_multiply 127 = .ok (.getfield 7, 3) := by decide +kernel
theorem dX2_multiply_130 : decode cX2_multiply 130 = .ok (.sipush 256, 3) := by decide +kernel
theorem dX2_multiply_133 : decode cX2_multiply 133 = .ok (.iload_n 1, 1) := by decide +kernel
theorem dX2_multiply_134 : decode cX2_multiply 134 = .ok (.iconst 3, 1) := by decide +kernel
theorem dX2_multiply_135 : decode cX2_multiply 135 = .ok (.iand, 1) := by decide +kernel
theorem dX2_multiply_136 : decode cX2_multiply 136 = .ok (.imul, 1) := by decide +kernel
theorem dX2_multiply_137 : decode cX2_multiply 137 = .ok (.iload 4, 2) := by decide +kernel
theorem dX2_multiply_139 : decode cX2_multiply 139 = .ok (.iadd, 1) := by decide +kernel
theorem dX2_multiply_140 : decode cX2_multiply 140 = .ok (.aload_n 0, 1) := by decide +kernel
theorem dX2_multiply_141 : decode cX2_multiply 141 = .ok (.getfield 13, 3) := by decide +kernel
theorem dX2_multiply_144 : decode cX2_multiply 144 = .ok (.iload 4, 2) := by decide +kernel
theorem dX2_multiply_146 : decode cX2_multiply 146 = .ok (.iaload, 1) := by decide +kernel
theorem dX2_multiply_147 : decode cX2_multiply 147 = .ok (.sipush 3329, 3) := by decide +kernel
theorem dX2_multiply_150 : decode cX2_multiply 150 = .ok (.iadd, 1) := by decide +kernel
theorem dX2_multiply_151 : decode cX2_multiply 151 = .ok (.aload_n 0, 1) := by decide +kernel
theorem dX2_multiply_152 : decode cX2_multiply 152 = .ok (.getfield 13, 3) := by decide +kernel
theorem dX2_multiply_155 : decode cX2_multiply 155 = .ok (.iload 4, 2) := by decide +kernel
theorem dX2_multiply_157 : decode cX2_multiply 157 = .ok (.sipush 256, 3) := by decide +kernel
theorem dX2_multiply_160 : decode cX2_multiply 160 = .ok (.iadd, 1) := by decide +kernel
theorem dX2_multiply_161 : decode cX2_multiply 161 = .ok (.iaload, 1) := by decide +kernel
theorem dX2_multiply_162 : decode cX2_multiply 162 = .ok (.isub, 1) := by decide +kernel
theorem dX2_multiply_163 : decode cX2_multiply 163 = .ok (.sipush 3329, 3) := by decide +kernel
theorem dX2_multiply_166 : decode cX2_multiply 166 = .ok (.irem, 1) := by decide +kernel
theorem dX2_multiply_167 : decode cX2_multiply 167 = .ok (.iastore, 1) := by decide +kernel
theorem dX2_multiply_168 : decode cX2_multiply 168 = .ok (.iinc 4 1, 3) := by decide +kernel
theorem dX2_multiply_171 : decode cX2_multiply 171 = .ok (.goto (-53), 3) := by decide +kernel
theorem dX2_multiply_174 : decode cX2_multiply 174 = .ok (.return_, 1) := by decide +kernel
abbrev cX2_turn : ByteArray := prog_4_method_6_code
def yX2_turn : MethodName := ⟨RX2, "turn", "(II)V"⟩
theorem dX2_turn_0 : decode cX2_turn 0 = .ok (.iload_n 2, 1) := by decide +kernel
theorem dX2_turn_1 : decode cX2_turn 1 = .ok (.sipush 255, 3) := by decide +kernel
theorem dX2_turn_4 : decode cX2_turn 4 = .ok (.iand, 1) := by decide +kernel
theorem dX2_turn_5 : decode cX2_turn 5 = .ok (.istore_n 3, 1) := by decide +kernel
theorem dX2_turn_6 : decode cX2_turn 6 = .ok (.iconst 0, 1) := by decide +kernel
theorem dX2_turn_7 : decode cX2_turn 7 = .ok (.istore 4, 2) := by decide +kernel
theorem dX2_turn_9 : decode cX2_turn 9 = .ok (.iload 4, 2) := by decide +kernel
theorem dX2_turn_11 : decode cX2_turn 11 = .ok (.sipush 256, 3) := by decide +kernel
theorem dX2_turn_14 : decode cX2_turn 14 = .ok (.if_icmp .ge 31, 3) := by decide +kernel
theorem dX2_turn_17 : decode cX2_turn 17 = .ok (.aload_n 0, 1) := by decide +kernel
theorem dX2_turn_18 : decode cX2_turn 18 = .ok (.getfield 13, 3) := by decide +kernel
theorem dX2_turn_21 : decode cX2_turn 21 = .ok (.iload 4, 2) := by decide +kernel
theorem dX2_turn_23 : decode cX2_turn 23 = .ok (.aload_n 0, 1) := by decide +kernel
theorem dX2_turn_24 : decode cX2_turn 24 = .ok (.getfield 7, 3) := by decide +kernel
theorem dX2_turn_27 : decode cX2_turn 27 = .ok (.sipush 256, 3) := by decide +kernel
theorem dX2_turn_30 : decode cX2_turn 30 = .ok (.iload_n 1, 1) := by decide +kernel
theorem dX2_turn_31 : decode cX2_turn 31 = .ok (.iconst 3, 1) := by decide +kernel
theorem dX2_turn_32 : decode cX2_turn 32 = .ok (.iand, 1) := by decide +kernel
theorem dX2_turn_33 : decode cX2_turn 33 = .ok (.imul, 1) := by decide +kernel
theorem dX2_turn_34 : decode cX2_turn 34 = .ok (.iload 4, 2) := by decide +kernel
theorem dX2_turn_36 : decode cX2_turn 36 = .ok (.iadd, 1) := by decide +kernel
theorem dX2_turn_37 : decode cX2_turn 37 = .ok (.iaload, 1) := by decide +kernel
theorem dX2_turn_38 : decode cX2_turn 38 = .ok (.iastore, 1) := by decide +kernel
theorem dX2_turn_39 : decode cX2_turn 39 = .ok (.iinc 4 1, 3) := by decide +kernel
theorem dX2_turn_42 : decode cX2_turn 42 = .ok (.goto (-33), 3) := by decide +kernel
theorem dX2_turn_45 : decode cX2_turn 45 = .ok (.iconst 0, 1) := by decide +kernel
theorem dX2_turn_46 : decode cX2_turn 46 = .ok (.istore 4, 2) := by decide +kernel
theorem dX2_turn_48 : decode cX2_turn 48 = .ok (.iload 4, 2) := by decide +kernel
theorem dX2_turn_50 : decode cX2_turn 50 = .ok (.sipush 256, 3) := by decide +kernel
theorem dX2_turn_53 : decode cX2_turn 53 = .ok (.if_icmp .ge 81, 3) := by decide +kernel
theorem dX2_turn_56 : decode cX2_turn 56 = .ok (.aload_n 0, 1) := by decide +kernel
theorem dX2_turn_57 : decode cX2_turn 57 = .ok (.getfield 13, 3) := by decide +kernel
theorem dX2_turn_60 : decode cX2_turn 60 = .ok (.iload 4, 2) := by decide +kernel
theorem dX2_turn_62 : decode cX2_turn 62 = .ok (.iaload, 1) := by decide +kernel
theorem dX2_turn_63 : decode cX2_turn 63 = .ok (.istore 5, 2) := by decide +kernel
theorem dX2_turn_65 : decode cX2_turn 65 = .ok (.iload 4, 2) := by decide +kernel
theorem dX2_turn_67 : decode cX2_turn 67 = .ok (.iload_n 3, 1) := by decide +kernel
theorem dX2_turn_68 : decode cX2_turn 68 = .ok (.iadd, 1) := by decide +kernel
theorem dX2_turn_69 : decode cX2_turn 69 = .ok (.sipush 256, 3) := by decide +kernel
theorem dX2_turn_72 : decode cX2_turn 72 = .ok (.if_icmp .ge 25, 3) := by decide +kernel
theorem dX2_turn_75 : decode cX2_turn 75 = .ok (.aload_n 0, 1) := by decide +kernel
theorem dX2_turn_76 : decode cX2_turn 76 = .ok (.getfield 7, 3) := by decide +kernel
theorem dX2_turn_79 : decode cX2_turn 79 = .ok (.sipush 256, 3) := by decide +kernel
theorem dX2_turn_82 : decode cX2_turn 82 = .ok (.iload_n 1, 1) := by decide +kernel
theorem dX2_turn_83 : decode cX2_turn 83 = .ok (.iconst 3, 1) := by decide +kernel
theorem dX2_turn_84 : decode cX2_turn 84 = .ok (.iand, 1) := by decide +kernel
theorem dX2_turn_85 : decode cX2_turn 85 = .ok (.imul, 1) := by decide +kernel
theorem dX2_turn_86 : decode cX2_turn 86 = .ok (.iload 4, 2) := by decide +kernel
theorem dX2_turn_88 : decode cX2_turn 88 = .ok (.iadd, 1) := by decide +kernel
theorem dX2_turn_89 : decode cX2_turn 89 = .ok (.iload_n 3, 1) := by decide +kernel
theorem dX2_turn_90 : decode cX2_turn 90 = .ok (.iadd, 1) := by decide +kernel
theorem dX2_turn_91 : decode cX2_turn 91 = .ok (.iload 5, 2) := by decide +kernel
theorem dX2_turn_93 : decode cX2_turn 93 = .ok (.iastore, 1) := by decide +kernel
theorem dX2_turn_94 : decode cX2_turn 94 = .ok (.goto 34, 3) := by decide +kernel
theorem dX2_turn_97 : decode cX2_turn 97 = .ok (.aload_n 0, 1) := by decide +kernel
theorem dX2_turn_98 : decode cX2_turn 98 = .ok (.getfield 7, 3) := by decide +kernel
theorem dX2_turn_101 : decode cX2_turn 101 = .ok (.sipush 256, 3) := by decide +kernel
theorem dX2_turn_104 : decode cX2_turn 104 = .ok (.iload_n 1, 1) := by decide +kernel
theorem dX2_turn_105 : decode cX2_turn 105 = .ok (.iconst 3, 1) := by decide +kernel
theorem dX2_turn_106 : decode cX2_turn 106 = .ok (.iand, 1) := by decide +kernel
theorem dX2_turn_107 : decode cX2_turn 107 = .ok (.imul, 1) := by decide +kernel
theorem dX2_turn_108 : decode cX2_turn 108 = .ok (.iload 4, 2) := by decide +kernel
theorem dX2_turn_110 : decode cX2_turn 110 = .ok (.iadd, 1) := by decide +kernel
theorem dX2_turn_111 : decode cX2_turn 111 = .ok (.iload_n 3, 1) := by decide +kernel
theorem dX2_turn_112 : decode cX2_turn 112 = .ok (.iadd, 1) := by decide +kernel
theorem dX2_turn_113 : decode cX2_turn 113 = .ok (.sipush 256, 3) := by decide +kernel
theorem dX2_turn_116 : decode cX2_turn 116 = .ok (.isub, 1) := by decide +kernel
theorem dX2_turn_117 : decode cX2_turn 117 = .ok (.sipush 3329, 3) := by decide +kernel
theorem dX2_turn_120 : decode cX2_turn 120 = .ok (.iload 5, 2) := by decide +kernel
theorem dX2_turn_122 : decode cX2_turn 122 = .ok (.isub, 1) := by decide +kernel
theorem dX2_turn_123 : decode cX2_turn 123 = .ok (.sipush 3329, 3) := by decide +kernel
theorem dX2_turn_126 : decode cX2_turn 126 = .ok (.irem, 1) := by decide +kernel
theorem dX2_turn_127 : decode cX2_turn 127 = .ok (.iastore, 1) := by decide +kernel
theorem dX2_turn_128 : decode cX2_turn 128 = .ok (.iinc 4 1, 3) := by decide +kernel
theorem dX2_turn_131 : decode cX2_turn 131 = .ok (.goto (-83), 3) := by decide +kernel
theorem dX2_turn_134 : decode cX2_turn 134 = .ok (.return_, 1) := by decide +kernel
abbrev cX2_press : ByteArray := prog_4_method_7_code
def yX2_press : MethodName := ⟨RX2, "press", "(II)V"⟩
theorem dX2_press_0 : decode cX2_press 0 = .ok (.iconst 1, 1) := by decide +kernel
theorem dX2_press_1 : decode cX2_press 1 = .ok (.iload_n 2, 1) := by decide +kernel
theorem dX2_press_2 : decode cX2_press 2 = .ok (.ldc 16, 2) := by decide +kernel
theorem dX2_press_4 : decode cX2_press 4 = .ok (.iand, 1) := by decide +kernel
theorem dX2_press_5 : decode cX2_press 5 = .ok (.bipush 11, 2) := by decide +kernel
theorem dX2_press_7 : decode cX2_press 7 = .ok (.irem, 1) := by decide +kernel
theorem dX2_press_8 : decode cX2_press 8 = .ok (.iadd, 1) := by decide +kernel
theorem dX2_press_9 : decode cX2_press 9 = .ok (.istore_n 3, 1) := by decide +kernel
theorem dX2_press_10 : decode cX2_press 10 = .ok (.iconst 0, 1) := by decide +kernel
theorem dX2_press_11 : decode cX2_press 11 = .ok (.istore 4, 2) := by decide +kernel
theorem dX2_press_13 : decode cX2_press 13 = .ok (.iload 4, 2) := by decide +kernel
theorem dX2_press_15 : decode cX2_press 15 = .ok (.sipush 256, 3) := by decide +kernel
theorem dX2_press_18 : decode cX2_press 18 = .ok (.if_icmp .ge 59, 3) := by decide +kernel
theorem dX2_press_21 : decode cX2_press 21 = .ok (.aload_n 0, 1) := by decide +kernel
theorem dX2_press_22 : decode cX2_press 22 = .ok (.getfield 7, 3) := by decide +kernel
theorem dX2_press_25 : decode cX2_press 25 = .ok (.sipush 256, 3) := by decide +kernel
theorem dX2_press_28 : decode cX2_press 28 = .ok (.iload_n 1, 1) := by decide +kernel
theorem dX2_press_29 : decode cX2_press 29 = .ok (.iconst 3, 1) := by decide +kernel
theorem dX2_press_30 : decode cX2_press 30 = .ok (.iand, 1) := by decide +kernel
theorem dX2_press_31 : decode cX2_press 31 = .ok (.imul, 1) := by decide +kernel
theorem dX2_press_32 : decode cX2_press 32 = .ok (.iload 4, 2) := by decide +kernel
theorem dX2_press_34 : decode cX2_press 34 = .ok (.iadd, 1) := by decide +kernel
theorem dX2_press_35 : decode cX2_press 35 = .ok (.iaload, 1) := by decide +kernel
theorem dX2_press_36 : decode cX2_press 36 = .ok (.istore 5, 2) := by decide +kernel
theorem dX2_press_38 : decode cX2_press 38 = .ok (.aload_n 0, 1) := by decide +kernel
theorem dX2_press_39 : decode cX2_press 39 = .ok (.getfield 7, 3) := by decide +kernel
theorem dX2_press_42 : decode cX2_press 42 = .ok (.sipush 256, 3) := by decide +kernel
theorem dX2_press_45 : decode cX2_press 45 = .ok (.iload_n 1, 1) := by decide +kernel
theorem dX2_press_46 : decode cX2_press 46 = .ok (.iconst 3, 1) := by decide +kernel
theorem dX2_press_47 : decode cX2_press 47 = .ok (.iand, 1) := by decide +kernel
theorem dX2_press_48 : decode cX2_press 48 = .ok (.imul, 1) := by decide +kernel
theorem dX2_press_49 : decode cX2_press 49 = .ok (.iload 4, 2) := by decide +kernel
theorem dX2_press_51 : decode cX2_press 51 = .ok (.iadd, 1) := by decide +kernel
theorem dX2_press_52 : decode cX2_press 52 = .ok (.iload 5, 2) := by decide +kernel
theorem dX2_press_54 : decode cX2_press 54 = .ok (.iload_n 3, 1) := by decide +kernel
theorem dX2_press_55 : decode cX2_press 55 = .ok (.ishl, 1) := by decide +kernel
theorem dX2_press_56 : decode cX2_press 56 = .ok (.iconst 2, 1) := by decide +kernel
theorem dX2_press_57 : decode cX2_press 57 = .ok (.imul, 1) := by decide +kernel
theorem dX2_press_58 : decode cX2_press 58 = .ok (.sipush 3329, 3) := by decide +kernel
theorem dX2_press_61 : decode cX2_press 61 = .ok (.iadd, 1) := by decide +kernel
theorem dX2_press_62 : decode cX2_press 62 = .ok (.sipush 6658, 3) := by decide +kernel
theorem dX2_press_65 : decode cX2_press 65 = .ok (.idiv, 1) := by decide +kernel
theorem dX2_press_66 : decode cX2_press 66 = .ok (.iconst 1, 1) := by decide +kernel
theorem dX2_press_67 : decode cX2_press 67 = .ok (.iload_n 3, 1) := by decide +kernel
theorem dX2_press_68 : decode cX2_press 68 = .ok (.ishl, 1) := by decide +kernel
theorem dX2_press_69 : decode cX2_press 69 = .ok (.irem, 1) := by decide +kernel
theorem dX2_press_70 : decode cX2_press 70 = .ok (.iastore, 1) := by decide +kernel
theorem dX2_press_71 : decode cX2_press 71 = .ok (.iinc 4 1, 3) := by decide +kernel
theorem dX2_press_74 : decode cX2_press 74 = .ok (.goto (-61), 3) := by decide +kernel
theorem dX2_press_77 : decode cX2_press 77 = .ok (.return_, 1) := by decide +kernel
abbrev cX2_unpress : ByteArray := prog_4_method_8_code
def yX2_unpress : MethodName := ⟨RX2, "unpress", "(II)V"⟩
theorem dX2_unpress_0 : decode cX2_unpress 0 = .ok (.iconst 1, 1) := by decide +kernel
theorem dX2_unpress_1 : decode cX2_unpress 1 = .ok (.iload_n 2, 1) := by decide +kernel
theorem dX2_unpress_2 : decode cX2_unpress 2 = .ok (.ldc 16, 2) := by decide +kernel
theorem dX2_unpress_4 : decode cX2_unpress 4 = .ok (.iand, 1) := by decide +kernel
theorem dX2_unpress_5 : decode cX2_unpress 5 = .ok (.bipush 11, 2) := by decide +kernel
theorem dX2_unpress_7 : decode cX2_unpress 7 = .ok (.irem, 1) := by decide +kernel
theorem dX2_unpress_8 : decode cX2_unpress 8 = .ok (.iadd, 1) := by decide +kernel
theorem dX2_unpress_9 : decode cX2_unpress 9 = .ok (.istore_n 3, 1) := by decide +kernel
theorem dX2_unpress_10 : decode cX2_unpress 10 = .ok (.iconst 0, 1) := by decide +kernel
theorem dX2_unpress_11 : decode cX2_unpress 11 = .ok (.istore 4, 2) := by decide +kernel
theorem dX2_unpress_13 : decode cX2_unpress 13 = .ok (.iload 4, 2) := by decide +kernel
theorem dX2_unpress_15 : decode cX2_unpress 15 = .ok (.sipush 256, 3) := by decide +kernel
theorem dX2_unpress_18 : decode cX2_unpress 18 = .ok (.if_icmp .ge 59, 3) := by decide +kernel
theorem dX2_unpress_21 : decode cX2_unpress 21 = .ok (.aload_n 0, 1) := by decide +kernel
theorem dX2_unpress_22 : decode cX2_unpress 22 = .ok (.getfield 7, 3) := by decide +kernel
theorem dX2_unpress_25 : decode cX2_unpress 25 = .ok (.sipush 256, 3) := by decide +kernel
theorem dX2_unpress_28 : decode cX2_unpress 28 = .ok (.iload_n 1, 1) := by decide +kernel
theorem dX2_unpress_29 : decode cX2_unpress 29 = .ok (.iconst 3, 1) := by decide +kernel
theorem dX2_unpress_30 : decode cX2_unpress 30 = .ok (.iand, 1) := by decide +kernel
theorem dX2_unpress_31 : decode cX2_unpress 31 = .ok (.imul, 1) := by decide +kernel
theorem dX2_unpress_32 : decode cX2_unpress 32 = .ok (.iload 4, 2) := by decide +kernel
theorem dX2_unpress_34 : decode cX2_unpress 34 = .ok (.iadd, 1) := by decide +kernel
theorem dX2_unpress_35 : decode cX2_unpress 35 = .ok (.iaload, 1) := by decide +kernel
theorem dX2_unpress_36 : decode cX2_unpress 36 = .ok (.iconst 1, 1) := by decide +kernel
theorem dX2_unpress_37 : decode cX2_unpress 37 = .ok (.iload_n 3, 1) := by decide +kernel
theorem dX2_unpress_38 : decode cX2_unpress 38 = .ok (.ishl, 1) := by decide +kernel
theorem dX2_unpress_39 : decode cX2_unpress 39 = .ok (.irem, 1) := by decide +kernel
theorem dX2_unpress_40 : decode cX2_unpress 40 = .ok (.istore 5, 2) := by decide +kernel
theorem dX2_unpress_42 : decode cX2_unpress 42 = .ok (.aload_n 0, 1) := by decide +kernel
theorem dX2_unpress_43 : decode cX2_unpress 43 = .ok (.getfield 7, 3) := by decide +kernel
theorem dX2_unpress_46 : decode cX2_unpress 46 = .ok (.sipush 256, 3) := by decide +kernel
theorem dX2_unpress_49 : decode cX2_unpress 49 = .ok (.iload_n 1, 1) := by decide +kernel
theorem dX2_unpress_50 : decode cX2_unpress 50 = .ok (.iconst 3, 1) := by decide +kernel
theorem dX2_unpress_51 : decode cX2_unpress 51 = .ok (.iand, 1) := by decide +kernel
theorem dX2_unpress_52 : decode cX2_unpress 52 = .ok (.imul, 1) := by decide +kernel
theorem dX2_unpress_53 : decode cX2_unpress 53 = .ok (.iload 4, 2) := by decide +kernel
theorem dX2_unpress_55 : decode cX2_unpress 55 = .ok (.iadd, 1) := by decide +kernel
theorem dX2_unpress_56 : decode cX2_unpress 56 = .ok (.iload 5, 2) := by decide +kernel
theorem dX2_unpress_58 : decode cX2_unpress 58 = .ok (.sipush 6658, 3) := by decide +kernel
theorem dX2_unpress_61 : decode cX2_unpress 61 = .ok (.imul, 1) := by decide +kernel
theorem dX2_unpress_62 : decode cX2_unpress 62 = .ok (.iconst 1, 1) := by decide +kernel
theorem dX2_unpress_63 : decode cX2_unpress 63 = .ok (.iload_n 3, 1) := by decide +kernel
theorem dX2_unpress_64 : decode cX2_unpress 64 = .ok (.ishl, 1) := by decide +kernel
theorem dX2_unpress_65 : decode cX2_unpress 65 = .ok (.iadd, 1) := by decide +kernel
theorem dX2_unpress_66 : decode cX2_unpress 66 = .ok (.iconst 2, 1) := by decide +kernel
theorem dX2_unpress_67 : decode cX2_unpress 67 = .ok (.iload_n 3, 1) := by decide +kernel
theorem dX2_unpress_68 : decode cX2_unpress 68 = .ok (.ishl, 1) := by decide +kernel
theorem dX2_unpress_69 : decode cX2_unpress 69 = .ok (.idiv, 1) := by decide +kernel
theorem dX2_unpress_70 : decode cX2_unpress 70 = .ok (.iastore, 1) := by decide +kernel
theorem dX2_unpress_71 : decode cX2_unpress 71 = .ok (.iinc 4 1, 3) := by decide +kernel
theorem dX2_unpress_74 : decode cX2_unpress 74 = .ok (.goto (-61), 3) := by decide +kernel
theorem dX2_unpress_77 : decode cX2_unpress 77 = .ok (.return_, 1) := by decide +kernel
abbrev cX2_at : ByteArray := prog_4_method_9_code
def yX2_at : MethodName := ⟨RX2, "at", "(II)I"⟩
theorem dX2_at_0 : decode cX2_at 0 = .ok (.aload_n 0, 1) := by decide +kernel
theorem dX2_at_1 : decode cX2_at 1 = .ok (.getfield 7, 3) := by decide +kernel
theorem dX2_at_4 : decode cX2_at 4 = .ok (.sipush 256, 3) := by decide +kernel
theorem dX2_at_7 : decode cX2_at 7 = .ok (.iload_n 1, 1) := by decide +kernel
theorem dX2_at_8 : decode cX2_at 8 = .ok (.iconst 3, 1) := by decide +kernel
theorem dX2_at_9 : decode cX2_at 9 = .ok (.iand, 1) := by decide +kernel
theorem dX2_at_10 : decode cX2_at 10 = .ok (.imul, 1) := by decide +kernel
theorem dX2_at_11 : decode cX2_at 11 = .ok (.iload_n 2, 1) := by decide +kernel
theorem dX2_at_12 : decode cX2_at 12 = .ok (.sipush 255, 3) := by decide +kernel
theorem dX2_at_15 : decode cX2_at 15 = .ok (.iand, 1) := by decide +kernel
theorem dX2_at_16 : decode cX2_at 16 = .ok (.iadd, 1) := by decide +kernel
theorem dX2_at_17 : decode cX2_at 17 = .ok (.iaload, 1) := by decide +kernel
theorem dX2_at_18 : decode cX2_at 18 = .ok (.ireturn, 1) := by decide +kernel
theorem q6 : (Jvm.Cond.initialized "RingDeskModel") ∈ lw_all := lw_g (lw_at lw_m0 3 rfl) rfl
theorem q104 : (Jvm.Cond.instantiable "RingDeskModel" (2 : Nat)) ∈ lw_all := lw_g (lw_at lw_m0 101 rfl) rfl
theorem q106 : (Jvm.Cond.instanceMethod ({ cls := "RingDeskModel", name := "<init>", desc := "()V" } : Jvm.MethodName)) ∈ lw_all := lw_g (lw_at lw_m0 103 rfl) rfl
theorem q107 : (Jvm.Cond.code ({ cls := "RingDeskModel", name := "<init>", desc := "()V" } : Jvm.MethodName) prog_4_method_1_code (1 : Nat) (Option.none : Option Jvm.ClassFile.FieldType)) ∈ lw_all := lw_g (lw_at lw_m0 104 rfl) rfl
theorem q108 : (Jvm.Cond.methodLink "RingDeskModel" (1 : Nat) ({ cls := "java/lang/Object", name := "<init>", desc := "()V" } : Jvm.MethodName)) ∈ lw_all := lw_g (lw_at lw_m0 105 rfl) rfl
theorem q109 : (Jvm.Cond.fieldLink "RingDeskModel" (7 : Nat) "RingDeskModel" "file" "[I") ∈ lw_all := lw_g (lw_at lw_m0 106 rfl) rfl
theorem q110 : (Jvm.Cond.fieldLink "RingDeskModel" (13 : Nat) "RingDeskModel" "z" "[I") ∈ lw_all := lw_g (lw_at lw_m0 107 rfl) rfl
theorem q111 : (Jvm.Cond.laysFinal "RingDeskModel" "RingDeskModel" "file" "[I") ∈ lw_all := lw_g (lw_at lw_m0 108 rfl) rfl
theorem q112 : (Jvm.Cond.soleField "RingDeskModel" "file") ∈ lw_all := lw_g (lw_at lw_m0 109 rfl) rfl
theorem q113 : (Jvm.Cond.laysFinal "RingDeskModel" "RingDeskModel" "z" "[I") ∈ lw_all := lw_g (lw_at lw_m0 110 rfl) rfl
theorem q114 : (Jvm.Cond.soleField "RingDeskModel" "z") ∈ lw_all := lw_g (lw_at lw_m0 111 rfl) rfl
theorem q115 : (Jvm.Cond.superclass "RingDeskModel" "java/lang/Object") ∈ lw_all := lw_g (lw_at lw_m0 112 rfl) rfl
theorem q117 : (Jvm.Cond.instanceMethod ({ cls := "RingDeskModel", name := "put", desc := "(IIII)V" } : Jvm.MethodName)) ∈ lw_all := lw_g (lw_at lw_m0 114 rfl) rfl
theorem q118 : (Jvm.Cond.selects "RingDeskModel" ({ cls := "RingDeskModel", name := "put", desc := "(IIII)V" } : Jvm.MethodName) ({ cls := "RingDeskModel", name := "put", desc := "(IIII)V" } : Jvm.MethodName)) ∈ lw_all := lw_g (lw_at lw_m0 115 rfl) rfl
theorem q119 : (Jvm.Cond.code ({ cls := "RingDeskModel", name := "put", desc := "(IIII)V" } : Jvm.MethodName) prog_4_method_2_code (8 : Nat) (Option.none : Option Jvm.ClassFile.FieldType)) ∈ lw_all := lw_g (lw_at lw_m0 116 rfl) rfl
theorem q121 : (Jvm.Cond.instanceMethod ({ cls := "RingDeskModel", name := "add", desc := "(III)V" } : Jvm.MethodName)) ∈ lw_all := lw_g (lw_at lw_m0 118 rfl) rfl
theorem q122 : (Jvm.Cond.selects "RingDeskModel" ({ cls := "RingDeskModel", name := "add", desc := "(III)V" } : Jvm.MethodName) ({ cls := "RingDeskModel", name := "add", desc := "(III)V" } : Jvm.MethodName)) ∈ lw_all := lw_g (lw_at lw_m0 119 rfl) rfl
theorem q123 : (Jvm.Cond.code ({ cls := "RingDeskModel", name := "add", desc := "(III)V" } : Jvm.MethodName) prog_4_method_3_code (5 : Nat) (Option.none : Option Jvm.ClassFile.FieldType)) ∈ lw_all := lw_g (lw_at lw_m0 120 rfl) rfl
theorem q125 : (Jvm.Cond.instanceMethod ({ cls := "RingDeskModel", name := "subtract", desc := "(III)V" } : Jvm.MethodName)) ∈ lw_all := lw_g (lw_at lw_m0 122 rfl) rfl
theorem q126 : (Jvm.Cond.selects "RingDeskModel" ({ cls := "RingDeskModel", name := "subtract", desc := "(III)V" } : Jvm.MethodName) ({ cls := "RingDeskModel", name := "subtract", desc := "(III)V" } : Jvm.MethodName)) ∈ lw_all := lw_g (lw_at lw_m0 123 rfl) rfl
theorem q127 : (Jvm.Cond.code ({ cls := "RingDeskModel", name := "subtract", desc := "(III)V" } : Jvm.MethodName) prog_4_method_4_code (5 : Nat) (Option.none : Option Jvm.ClassFile.FieldType)) ∈ lw_all := lw_g (lw_at lw_m0 124 rfl) rfl
theorem q129 : (Jvm.Cond.instanceMethod ({ cls := "RingDeskModel", name := "multiply", desc := "(III)V" } : Jvm.MethodName)) ∈ lw_all := lw_g (lw_at lw_m0 126 rfl) rfl
theorem q130 : (Jvm.Cond.selects "RingDeskModel" ({ cls := "RingDeskModel", name := "multiply", desc := "(III)V" } : Jvm.MethodName) ({ cls := "RingDeskModel", name := "multiply", desc := "(III)V" } : Jvm.MethodName)) ∈ lw_all := lw_g (lw_at lw_m0 127 rfl) rfl
theorem q131 : (Jvm.Cond.code ({ cls := "RingDeskModel", name := "multiply", desc := "(III)V" } : Jvm.MethodName) prog_4_method_5_code (6 : Nat) (Option.none : Option Jvm.ClassFile.FieldType)) ∈ lw_all := lw_g (lw_at lw_m0 128 rfl) rfl
theorem q133 : (Jvm.Cond.instanceMethod ({ cls := "RingDeskModel", name := "turn", desc := "(II)V" } : Jvm.MethodName)) ∈ lw_all := lw_g (lw_at lw_m0 130 rfl) rfl
theorem q134 : (Jvm.Cond.selects "RingDeskModel" ({ cls := "RingDeskModel", name := "turn", desc := "(II)V" } : Jvm.MethodName) ({ cls := "RingDeskModel", name := "turn", desc := "(II)V" } : Jvm.MethodName)) ∈ lw_all := lw_g (lw_at lw_m0 131 rfl) rfl
theorem q135 : (Jvm.Cond.code ({ cls := "RingDeskModel", name := "turn", desc := "(II)V" } : Jvm.MethodName) prog_4_method_6_code (6 : Nat) (Option.none : Option Jvm.ClassFile.FieldType)) ∈ lw_all := lw_g (lw_at lw_m0 132 rfl) rfl
theorem q137 : (Jvm.Cond.instanceMethod ({ cls := "RingDeskModel", name := "press", desc := "(II)V" } : Jvm.MethodName)) ∈ lw_all := lw_g (lw_at lw_m0 134 rfl) rfl
theorem q138 : (Jvm.Cond.selects "RingDeskModel" ({ cls := "RingDeskModel", name := "press", desc := "(II)V" } : Jvm.MethodName) ({ cls := "RingDeskModel", name := "press", desc := "(II)V" } : Jvm.MethodName)) ∈ lw_all := lw_g (lw_at lw_m0 135 rfl) rfl
theorem q139 : (Jvm.Cond.code ({ cls := "RingDeskModel", name := "press", desc := "(II)V" } : Jvm.MethodName) prog_4_method_7_code (6 : Nat) (Option.none : Option Jvm.ClassFile.FieldType)) ∈ lw_all := lw_g (lw_at lw_m0 136 rfl) rfl
theorem q140 : (Jvm.Cond.constant "RingDeskModel" (16 : Nat) (2147483647 : Int32)) ∈ lw_all := lw_g (lw_at lw_m0 137 rfl) rfl
theorem q142 : (Jvm.Cond.instanceMethod ({ cls := "RingDeskModel", name := "unpress", desc := "(II)V" } : Jvm.MethodName)) ∈ lw_all := lw_g (lw_at lw_m0 139 rfl) rfl
theorem q143 : (Jvm.Cond.selects "RingDeskModel" ({ cls := "RingDeskModel", name := "unpress", desc := "(II)V" } : Jvm.MethodName) ({ cls := "RingDeskModel", name := "unpress", desc := "(II)V" } : Jvm.MethodName)) ∈ lw_all := lw_g (lw_at lw_m0 140 rfl) rfl
theorem q144 : (Jvm.Cond.code ({ cls := "RingDeskModel", name := "unpress", desc := "(II)V" } : Jvm.MethodName) prog_4_method_8_code (6 : Nat) (Option.none : Option Jvm.ClassFile.FieldType)) ∈ lw_all := lw_g (lw_at lw_m0 141 rfl) rfl
theorem q146 : (Jvm.Cond.instanceMethod ({ cls := "RingDeskModel", name := "at", desc := "(II)I" } : Jvm.MethodName)) ∈ lw_all := lw_g (lw_at lw_m0 143 rfl) rfl
theorem q147 : (Jvm.Cond.selects "RingDeskModel" ({ cls := "RingDeskModel", name := "at", desc := "(II)I" } : Jvm.MethodName) ({ cls := "RingDeskModel", name := "at", desc := "(II)I" } : Jvm.MethodName)) ∈ lw_all := lw_g (lw_at lw_m0 144 rfl) rfl
theorem q148 : (Jvm.Cond.code ({ cls := "RingDeskModel", name := "at", desc := "(II)I" } : Jvm.MethodName) prog_4_method_9_code (3 : Nat) (Option.some Jvm.ClassFile.FieldType.int)) ∈ lw_all := lw_g (lw_at lw_m0 145 rfl) rfl
theorem in_X2 : ∀ w ∈ wsX20, w ∈ lw_all := lw_in wsX20 [111, 113] (by decide +kernel) (by decide +kernel)
end
section
/-! the law's own entry -/
set_option maxRecDepth 100000
abbrev cL_law : ByteArray := code
theorem dL_law_0 : decode cL_law 0 = .ok (.new 7, 3) := by decide +kernel
theorem dL_law_3 : decode cL_law 3 = .ok (.dup, 1) := by decide +kernel
theorem dL_law_4 : decode cL_law 4 = .ok (.invokespecial 9, 3) := by decide +kernel
theorem dL_law_7 : decode cL_law 7 = .ok (.astore_n 1, 1) := by decide +kernel
theorem dL_law_8 : decode cL_law 8 = .ok (.new 10, 3) := by decide +kernel
theorem dL_law_11 : decode cL_law 11 = .ok (.dup, 1) := by decide +kernel
theorem dL_law_12 : decode cL_law 12 = .ok (.invokespecial 12, 3) := by decide +kernel
theorem dL_law_15 : decode cL_law 15 = .ok (.astore_n 2, 1) := by decide +kernel
theorem dL_law_16 : decode cL_law 16 = .ok (.iconst 0, 1) := by decide +kernel
theorem dL_law_17 : decode cL_law 17 = .ok (.istore_n 3, 1) := by decide +kernel
theorem dL_law_18 : decode cL_law 18 = .ok (.iload_n 3, 1) := by decide +kernel
theorem dL_law_19 : decode cL_law 19 = .ok (.aload_n 0, 1) := by decide +kernel
theorem dL_law_20 : decode cL_law 20 = .ok (.arraylength, 1) := by decide +kernel
theorem dL_law_21 : decode cL_law 21 = .ok (.iconst 5, 1) := by decide +kernel
theorem dL_law_22 : decode cL_law 22 = .ok (.isub, 1) := by decide +kernel
theorem dL_law_23 : decode cL_law 23 = .ok (.if_icmp .gt 363, 3) := by decide +kernel
theorem dL_law_26 : decode cL_law 26 = .ok (.aload_n 0, 1) := by decide +kernel
theorem dL_law_27 : decode cL_law 27 = .ok (.iload_n 3, 1) := by decide +kernel
theorem dL_law_28 : decode cL_law 28 = .ok (.iaload, 1) := by decide +kernel
theorem dL_law_29 : decode cL_law 29 = .ok (.bipush 7, 2) := by decide +kernel
theorem dL_law_31 : decode cL_law 31 = .ok (.iand, 1) := by decide +kernel
theorem dL_law_32 : decode cL_law 32 = .ok (.tableswitch 348 0 7 #[48, 99, 140, 181, 222, 253, 284, 315], 48) := by decide +kernel
theorem dL_law_80 : decode cL_law 80 = .ok (.aload_n 1, 1) := by decide +kernel
theorem dL_law_81 : decode cL_law 81 = .ok (.aload_n 0, 1) := by decide +kernel
theorem dL_law_82 : decode cL_law 82 = .ok (.iload_n 3, 1) := by decide +kernel
theorem dL_law_83 : decode cL_law 83 = .ok (.iconst 1, 1) := by decide +kernel
theorem dL_law_84 : decode cL_law 84 = .ok (.iadd, 1) := by decide +kernel
theorem dL_law_85 : decode cL_law 85 = .ok (.iaload, 1) := by decide +kernel
theorem dL_law_86 : decode cL_law 86 = .ok (.aload_n 0, 1) := by decide +kernel
theorem dL_law_87 : decode cL_law 87 = .ok (.iload_n 3, 1) := by decide +kernel
theorem dL_law_88 : decode cL_law 88 = .ok (.iconst 2, 1) := by decide +kernel
theorem dL_law_89 : decode cL_law 89 = .ok (.iadd, 1) := by decide +kernel
theorem dL_law_90 : decode cL_law 90 = .ok (.iaload, 1) := by decide +kernel
theorem dL_law_91 : decode cL_law 91 = .ok (.aload_n 0, 1) := by decide +kernel
theorem dL_law_92 : decode cL_law 92 = .ok (.iload_n 3, 1) := by decide +kernel
theorem dL_law_93 : decode cL_law 93 = .ok (.iconst 3, 1) := by decide +kernel
theorem dL_law_94 : decode cL_law 94 = .ok (.iadd, 1) := by decide +kernel
theorem dL_law_95 : decode cL_law 95 = .ok (.iaload, 1) := by decide +kernel
theorem dL_law_96 : decode cL_law 96 = .ok (.aload_n 0, 1) := by decide +kernel
theorem dL_law_97 : decode cL_law 97 = .ok (.iload_n 3, 1) := by decide +kernel
theorem dL_law_98 : decode cL_law 98 = .ok (.iconst 4, 1) := by decide +kernel
theorem dL_law_99 : decode cL_law 99 = .ok (.iadd, 1) := by decide +kernel
theorem dL_law_100 : decode cL_law 100 = .ok (.iaload, 1) := by decide +kernel
theorem dL_law_101 : decode cL_law 101 = .ok (.invokevirtual 13, 3) := by decide +kernel
theorem dL_law_104 : decode cL_law 104 = .ok (.aload_n 2, 1) := by decide +kernel
theorem dL_law_105 : decode cL_law 105 = .ok (.aload_n 0, 1) := by decide +kernel
theorem dL_law_106 : decode cL_law 106 = .ok (.iload_n 3, 1) := by decide +kernel
theorem dL_law_107 : decode cL_law 107 = .ok (.iconst 1, 1) := by decide +kernel
theorem dL_law_108 : decode cL_law 108 = .ok (.iadd, 1) := by decide +kernel
theorem dL_law_109 : decode cL_law 109 = .ok (.iaload, 1) := by decide +kernel
theorem dL_law_110 : decode cL_law 110 = .ok (.aload_n 0, 1) := by decide +kernel
theorem dL_law_111 : decode cL_law 111 = .ok (.iload_n 3, 1) := by decide +kernel
theorem dL_law_112 : decode cL_law 112 = .ok (.iconst 2, 1) := by decide +kernel
theorem dL_law_113 : decode cL_law 113 = .ok (.iadd, 1) := by decide +kernel
theorem dL_law_114 : decode cL_law 114 = .ok (.iaload, 1) := by decide +kernel
theorem dL_law_115 : decode cL_law 115 = .ok (.aload_n 0, 1) := by decide +kernel
theorem dL_law_116 : decode cL_law 116 = .ok (.iload_n 3, 1) := by decide +kernel
theorem dL_law_117 : decode cL_law 117 = .ok (.iconst 3, 1) := by decide +kernel
theorem dL_law_118 : decode cL_law 118 = .ok (.iadd, 1) := by decide +kernel
theorem dL_law_119 : decode cL_law 119 = .ok (.iaload, 1) := by decide +kernel
theorem dL_law_120 : decode cL_law 120 = .ok (.aload_n 0, 1) := by decide +kernel
theorem dL_law_121 : decode cL_law 121 = .ok (.iload_n 3, 1) := by decide +kernel
theorem dL_law_122 : decode cL_law 122 = .ok (.iconst 4, 1) := by decide +kernel
theorem dL_law_123 : decode cL_law 123 = .ok (.iadd, 1) := by decide +kernel
theorem dL_law_124 : decode cL_law 124 = .ok (.iaload, 1) := by decide +kernel
theorem dL_law_125 : decode cL_law 125 = .ok (.invokevirtual 17, 3) := by decide +kernel
theorem dL_law_128 : decode cL_law 128 = .ok (.goto 252, 3) := by decide +kernel
theorem dL_law_131 : decode cL_law 131 = .ok (.aload_n 1, 1) := by decide +kernel
theorem dL_law_132 : decode cL_law 132 = .ok (.aload_n 0, 1) := by decide +kernel
theorem dL_law_133 : decode cL_law 133 = .ok (.iload_n 3, 1) := by decide +kernel
theorem dL_law_134 : decode cL_law 134 = .ok (.iconst 1, 1) := by decide +kernel
theorem dL_law_135 : decode cL_law 135 = .ok (.iadd, 1) := by decide +kernel
theorem dL_law_136 : decode cL_law 136 = .ok (.iaload, 1) := by decide +kernel
theorem dL_law_137 : decode cL_law 137 = .ok (.aload_n 0, 1) := by decide +kernel
theorem dL_law_138 : decode cL_law 138 = .ok (.iload_n 3, 1) := by decide +kernel
theorem dL_law_139 : decode cL_law 139 = .ok (.iconst 2, 1) := by decide +kernel
theorem dL_law_140 : decode cL_law 140 = .ok (.iadd, 1) := by decide +kernel
theorem dL_law_141 : decode cL_law 141 = .ok (.iaload, 1) := by decide +kernel
theorem dL_law_142 : decode cL_law 142 = .ok (.aload_n 0, 1) := by decide +kernel
theorem dL_law_143 : decode cL_law 143 = .ok (.iload_n 3, 1) := by decide +kernel
theorem dL_law_144 : decode cL_law 144 = .ok (.iconst 3, 1) := by decide +kernel
theorem dL_law_145 : decode cL_law 145 = .ok (.iadd, 1) := by decide +kernel
theorem dL_law_146 : decode cL_law 146 = .ok (.iaload, 1) := by decide +kernel
theorem dL_law_147 : decode cL_law 147 = .ok (.invokevirtual 18, 3) := by decide +kernel
theorem dL_law_150 : decode cL_law 150 = .ok (.aload_n 2, 1) := by decide +kernel
theorem dL_law_151 : decode cL_law 151 = .ok (.aload_n 0, 1) := by decide +kernel
theorem dL_law_152 : decode cL_law 152 = .ok (.iload_n 3, 1) := by decide +kernel
theorem dL_law_153 : decode cL_law 153 = .ok (.iconst 1, 1) := by decide +kernel
theorem dL_law_154 : decode cL_law 154 = .ok (.iadd, 1) := by decide +kernel
theorem dL_law_155 : decode cL_law 155 = .ok (.iaload, 1) := by decide +kernel
theorem dL_law_156 : decode cL_law 156 = .ok (.aload_n 0, 1) := by decide +kernel
theorem dL_law_157 : decode cL_law 157 = .ok (.iload_n 3, 1) := by decide +kernel
theorem dL_law_158 : decode cL_law 158 = .ok (.iconst 2, 1) := by decide +kernel
theorem dL_law_159 : decode cL_law 159 = .ok (.iadd, 1) := by decide +kernel
theorem dL_law_160 : decode cL_law 160 = .ok (.iaload, 1) := by decide +kernel
theorem dL_law_161 : decode cL_law 161 = .ok (.aload_n 0, 1) := by decide +kernel
theorem dL_law_162 : decode cL_law 162 = .ok (.iload_n 3, 1) := by decide +kernel
theorem dL_law_163 : decode cL_law 163 = .ok (.iconst 3, 1) := by decide +kernel
theorem dL_law_164 : decode cL_law 164 = .ok (.iadd, 1) := by decide +kernel
theorem dL_law_165 : decode cL_law 165 = .ok (.iaload, 1) := by decide +kernel
theorem dL_law_166 : decode cL_law 166 = .ok (.invokevirtual 22, 3) := by decide +kernel
theorem dL_law_169 : decode cL_law 169 = .ok (.goto 211, 3) := by decide +kernel
theorem dL_law_172 : decode cL_law 172 = .ok (.aload_n 1, 1) := by decide +kernel
theorem dL_law_173 : decode cL_law 173 = .ok (.aload_n 0, 1) := by decide +kernel
theorem dL_law_174 : decode cL_law 174 = .ok (.iload_n 3, 1) := by decide +kernel
theorem dL_law_175 : decode cL_law 175 = .ok (.iconst 1, 1) := by decide +kernel
theorem dL_law_176 : decode cL_law 176 = .ok (.iadd, 1) := by decide +kernel
theorem dL_law_177 : decode cL_law 177 = .ok (.iaload, 1) := by decide +kernel
theorem dL_law_178 : decode cL_law 178 = .ok (.aload_n 0, 1) := by decide +kernel
theorem dL_law_179 : decode cL_law 179 = .ok (.iload_n 3, 1) := by decide +kernel
theorem dL_law_180 : decode cL_law 180 = .ok (.iconst 2, 1) := by decide +kernel
theorem dL_law_181 : decode cL_law 181 = .ok (.iadd, 1) := by decide +kernel
theorem dL_law_182 : decode cL_law 182 = .ok (.iaload, 1) := by decide +kernel
theorem dL_law_183 : decode cL_law 183 = .ok (.aload_n 0, 1) := by decide +kernel
theorem dL_law_184 : decode cL_law 184 = .ok (.iload_n 3, 1) := by decide +kernel
theorem dL_law_185 : decode cL_law 185 = .ok (.iconst 3, 1) := by decide +kernel
theorem dL_law_186 : decode cL_law 186 = .ok (.iadd, 1) := by decide +kernel
theorem dL_law_187 : decode cL_law 187 = .ok (.iaload, 1) := by decide +kernel
theorem dL_law_188 : decode cL_law 188 = .ok (.invokevirtual 23, 3) := by decide +kernel
theorem dL_law_191 : decode cL_law 191 = .ok (.aload_n 2, 1) := by decide +kernel
theorem dL_law_192 : decode cL_law 192 = .ok (.aload_n 0, 1) := by decide +kernel
theorem dL_law_193 : decode cL_law 193 = .ok (.iload_n 3, 1) := by decide +kernel
theorem dL_law_194 : decode cL_law 194 = .ok (.iconst 1, 1) := by decide +kernel
theorem dL_law_195 : decode cL_law 195 = .ok (.iadd, 1) := by decide +kernel
theorem dL_law_196 : decode cL_law 196 = .ok (.iaload, 1) := by decide +kernel
theorem dL_law_197 : decode cL_law 197 = .ok (.aload_n 0, 1) := by decide +kernel
theorem dL_law_198 : decode cL_law 198 = .ok (.iload_n 3, 1) := by decide +kernel
theorem dL_law_199 : decode cL_law 199 = .ok (.iconst 2, 1) := by decide +kernel
theorem dL_law_200 : decode cL_law 200 = .ok (.iadd, 1) := by decide +kernel
theorem dL_law_201 : decode cL_law 201 = .ok (.iaload, 1) := by decide +kernel
theorem dL_law_202 : decode cL_law 202 = .ok (.aload_n 0, 1) := by decide +kernel
theorem dL_law_203 : decode cL_law 203 = .ok (.iload_n 3, 1) := by decide +kernel
theorem dL_law_204 : decode cL_law 204 = .ok (.iconst 3, 1) := by decide +kernel
theorem dL_law_205 : decode cL_law 205 = .ok (.iadd, 1) := by decide +kernel
theorem dL_law_206 : decode cL_law 206 = .ok (.iaload, 1) := by decide +kernel
theorem dL_law_207 : decode cL_law 207 = .ok (.invokevirtual 26, 3) := by decide +kernel
theorem dL_law_210 : decode cL_law 210 = .ok (.goto 170, 3) := by decide +kernel
theorem dL_law_213 : decode cL_law 213 = .ok (.aload_n 1, 1) := by decide +kernel
theorem dL_law_214 : decode cL_law 214 = .ok (.aload_n 0, 1) := by decide +kernel
theorem dL_law_215 : decode cL_law 215 = .ok (.iload_n 3, 1) := by decide +kernel
theorem dL_law_216 : decode cL_law 216 = .ok (.iconst 1, 1) := by decide +kernel
theorem dL_law_217 : decode cL_law 217 = .ok (.iadd, 1) := by decide +kernel
theorem dL_law_218 : decode cL_law 218 = .ok (.iaload, 1) := by decide +kernel
theorem dL_law_219 : decode cL_law 219 = .ok (.aload_n 0, 1) := by decide +kernel
theorem dL_law_220 : decode cL_law 220 = .ok (.iload_n 3, 1) := by decide +kernel
theorem dL_law_221 : decode cL_law 221 = .ok (.iconst 2, 1) := by decide +kernel
theorem dL_law_222 : decode cL_law 222 = .ok (.iadd, 1) := by decide +kernel
theorem dL_law_223 : decode cL_law 223 = .ok (.iaload, 1) := by decide +kernel
theorem dL_law_224 : decode cL_law 224 = .ok (.aload_n 0, 1) := by decide +kernel
theorem dL_law_225 : decode cL_law 225 = .ok (.iload_n 3, 1) := by decide +kernel
theorem dL_law_226 : decode cL_law 226 = .ok (.iconst 3, 1) := by decide +kernel
theorem dL_law_227 : decode cL_law 227 = .ok (.iadd, 1) := by decide +kernel
theorem dL_law_228 : decode cL_law 228 = .ok (.iaload, 1) := by decide +kernel
theorem dL_law_229 : decode cL_law 229 = .ok (.invokevirtual 27, 3) := by decide +kernel
theorem dL_law_232 : decode cL_law 232 = .ok (.aload_n 2, 1) := by decide +kernel
theorem dL_law_233 : decode cL_law 233 = .ok (.aload_n 0, 1) := by decide +kernel
theorem dL_law_234 : decode cL_law 234 = .ok (.iload_n 3, 1) := by decide +kernel
theorem dL_law_235 : decode cL_law 235 = .ok (.iconst 1, 1) := by decide +kernel
theorem dL_law_236 : decode cL_law 236 = .ok (.iadd, 1) := by decide +kernel
theorem dL_law_237 : decode cL_law 237 = .ok (.iaload, 1) := by decide +kernel
theorem dL_law_238 : decode cL_law 238 = .ok (.aload_n 0, 1) := by decide +kernel
theorem dL_law_239 : decode cL_law 239 = .ok (.iload_n 3, 1) := by decide +kernel
theorem dL_law_240 : decode cL_law 240 = .ok (.iconst 2, 1) := by decide +kernel
theorem dL_law_241 : decode cL_law 241 = .ok (.iadd, 1) := by decide +kernel
theorem dL_law_242 : decode cL_law 242 = .ok (.iaload, 1) := by decide +kernel
theorem dL_law_243 : decode cL_law 243 = .ok (.aload_n 0, 1) := by decide +kernel
theorem dL_law_244 : decode cL_law 244 = .ok (.iload_n 3, 1) := by decide +kernel
theorem dL_law_245 : decode cL_law 245 = .ok (.iconst 3, 1) := by decide +kernel
theorem dL_law_246 : decode cL_law 246 = .ok (.iadd, 1) := by decide +kernel
theorem dL_law_247 : decode cL_law 247 = .ok (.iaload, 1) := by decide +kernel
theorem dL_law_248 : decode cL_law 248 = .ok (.invokevirtual 30, 3) := by decide +kernel
theorem dL_law_251 : decode cL_law 251 = .ok (.goto 129, 3) := by decide +kernel
theorem dL_law_254 : decode cL_law 254 = .ok (.aload_n 1, 1) := by decide +kernel
theorem dL_law_255 : decode cL_law 255 = .ok (.aload_n 0, 1) := by decide +kernel
theorem dL_law_256 : decode cL_law 256 = .ok (.iload_n 3, 1) := by decide +kernel
theorem dL_law_257 : decode cL_law 257 = .ok (.iconst 1, 1) := by decide +kernel
theorem dL_law_258 : decode cL_law 258 = .ok (.iadd, 1) := by decide +kernel
theorem dL_law_259 : decode cL_law 259 = .ok (.iaload, 1) := by decide +kernel
theorem dL_law_260 : decode cL_law 260 = .ok (.aload_n 0, 1) := by decide +kernel
theorem dL_law_261 : decode cL_law 261 = .ok (.iload_n 3, 1) := by decide +kernel
theorem dL_law_262 : decode cL_law 262 = .ok (.iconst 2, 1) := by decide +kernel
theorem dL_law_263 : decode cL_law 263 = .ok (.iadd, 1) := by decide +kernel
theorem dL_law_264 : decode cL_law 264 = .ok (.iaload, 1) := by decide +kernel
theorem dL_law_265 : decode cL_law 265 = .ok (.invokevirtual 31, 3) := by decide +kernel
theorem dL_law_268 : decode cL_law 268 = .ok (.aload_n 2, 1) := by decide +kernel
theorem dL_law_269 : decode cL_law 269 = .ok (.aload_n 0, 1) := by decide +kernel
theorem dL_law_270 : decode cL_law 270 = .ok (.iload_n 3, 1) := by decide +kernel
theorem dL_law_271 : decode cL_law 271 = .ok (.iconst 1, 1) := by decide +kernel
theorem dL_law_272 : decode cL_law 272 = .ok (.iadd, 1) := by decide +kernel
theorem dL_law_273 : decode cL_law 273 = .ok (.iaload, 1) := by decide +kernel
theorem dL_law_274 : decode cL_law 274 = .ok (.aload_n 0, 1) := by decide +kernel
theorem dL_law_275 : decode cL_law 275 = .ok (.iload_n 3, 1) := by decide +kernel
theorem dL_law_276 : decode cL_law 276 = .ok (.iconst 2, 1) := by decide +kernel
theorem dL_law_277 : decode cL_law 277 = .ok (.iadd, 1) := by decide +kernel
theorem dL_law_278 : decode cL_law 278 = .ok (.iaload, 1) := by decide +kernel
theorem dL_law_279 : decode cL_law 279 = .ok (.invokevirtual 35, 3) := by decide +kernel
theorem dL_law_282 : decode cL_law 282 = .ok (.goto 98, 3) := by decide +kernel
theorem dL_law_285 : decode cL_law 285 = .ok (.aload_n 1, 1) := by decide +kernel
theorem dL_law_286 : decode cL_law 286 = .ok (.aload_n 0, 1) := by decide +kernel
theorem dL_law_287 : decode cL_law 287 = .ok (.iload_n 3, 1) := by decide +kernel
theorem dL_law_288 : decode cL_law 288 = .ok (.iconst 1, 1) := by decide +kernel
theorem dL_law_289 : decode cL_law 289 = .ok (.iadd, 1) := by decide +kernel
theorem dL_law_290 : decode cL_law 290 = .ok (.iaload, 1) := by decide +kernel
theorem dL_law_291 : decode cL_law 291 = .ok (.aload_n 0, 1) := by decide +kernel
theorem dL_law_292 : decode cL_law 292 = .ok (.iload_n 3, 1) := by decide +kernel
theorem dL_law_293 : decode cL_law 293 = .ok (.iconst 2, 1) := by decide +kernel
theorem dL_law_294 : decode cL_law 294 = .ok (.iadd, 1) := by decide +kernel
theorem dL_law_295 : decode cL_law 295 = .ok (.iaload, 1) := by decide +kernel
theorem dL_law_296 : decode cL_law 296 = .ok (.invokevirtual 36, 3) := by decide +kernel
theorem dL_law_299 : decode cL_law 299 = .ok (.aload_n 2, 1) := by decide +kernel
theorem dL_law_300 : decode cL_law 300 = .ok (.aload_n 0, 1) := by decide +kernel
theorem dL_law_301 : decode cL_law 301 = .ok (.iload_n 3, 1) := by decide +kernel
theorem dL_law_302 : decode cL_law 302 = .ok (.iconst 1, 1) := by decide +kernel
theorem dL_law_303 : decode cL_law 303 = .ok (.iadd, 1) := by decide +kernel
theorem dL_law_304 : decode cL_law 304 = .ok (.iaload, 1) := by decide +kernel
theorem dL_law_305 : decode cL_law 305 = .ok (.aload_n 0, 1) := by decide +kernel
theorem dL_law_306 : decode cL_law 306 = .ok (.iload_n 3, 1) := by decide +kernel
theorem dL_law_307 : decode cL_law 307 = .ok (.iconst 2, 1) := by decide +kernel
theorem dL_law_308 : decode cL_law 308 = .ok (.iadd, 1) := by decide +kernel
theorem dL_law_309 : decode cL_law 309 = .ok (.iaload, 1) := by decide +kernel
theorem dL_law_310 : decode cL_law 310 = .ok (.invokevirtual 39, 3) := by decide +kernel
theorem dL_law_313 : decode cL_law 313 = .ok (.goto 67, 3) := by decide +kernel
theorem dL_law_316 : decode cL_law 316 = .ok (.aload_n 1, 1) := by decide +kernel
theorem dL_law_317 : decode cL_law 317 = .ok (.aload_n 0, 1) := by decide +kernel
theorem dL_law_318 : decode cL_law 318 = .ok (.iload_n 3, 1) := by decide +kernel
theorem dL_law_319 : decode cL_law 319 = .ok (.iconst 1, 1) := by decide +kernel
theorem dL_law_320 : decode cL_law 320 = .ok (.iadd, 1) := by decide +kernel
theorem dL_law_321 : decode cL_law 321 = .ok (.iaload, 1) := by decide +kernel
theorem dL_law_322 : decode cL_law 322 = .ok (.aload_n 0, 1) := by decide +kernel
theorem dL_law_323 : decode cL_law 323 = .ok (.iload_n 3, 1) := by decide +kernel
theorem dL_law_324 : decode cL_law 324 = .ok (.iconst 2, 1) := by decide +kernel
theorem dL_law_325 : decode cL_law 325 = .ok (.iadd, 1) := by decide +kernel
theorem dL_law_326 : decode cL_law 326 = .ok (.iaload, 1) := by decide +kernel
theorem dL_law_327 : decode cL_law 327 = .ok (.invokevirtual 40, 3) := by decide +kernel
theorem dL_law_330 : decode cL_law 330 = .ok (.aload_n 2, 1) := by decide +kernel
theorem dL_law_331 : decode cL_law 331 = .ok (.aload_n 0, 1) := by decide +kernel
theorem dL_law_332 : decode cL_law 332 = .ok (.iload_n 3, 1) := by decide +kernel
theorem dL_law_333 : decode cL_law 333 = .ok (.iconst 1, 1) := by decide +kernel
theorem dL_law_334 : decode cL_law 334 = .ok (.iadd, 1) := by decide +kernel
theorem dL_law_335 : decode cL_law 335 = .ok (.iaload, 1) := by decide +kernel
theorem dL_law_336 : decode cL_law 336 = .ok (.aload_n 0, 1) := by decide +kernel
theorem dL_law_337 : decode cL_law 337 = .ok (.iload_n 3, 1) := by decide +kernel
theorem dL_law_338 : decode cL_law 338 = .ok (.iconst 2, 1) := by decide +kernel
theorem dL_law_339 : decode cL_law 339 = .ok (.iadd, 1) := by decide +kernel
theorem dL_law_340 : decode cL_law 340 = .ok (.iaload, 1) := by decide +kernel
theorem dL_law_341 : decode cL_law 341 = .ok (.invokevirtual 43, 3) := by decide +kernel
theorem dL_law_344 : decode cL_law 344 = .ok (.goto 36, 3) := by decide +kernel
theorem dL_law_347 : decode cL_law 347 = .ok (.aload_n 1, 1) := by decide +kernel
theorem dL_law_348 : decode cL_law 348 = .ok (.aload_n 0, 1) := by decide +kernel
theorem dL_law_349 : decode cL_law 349 = .ok (.iload_n 3, 1) := by decide +kernel
theorem dL_law_350 : decode cL_law 350 = .ok (.iconst 1, 1) := by decide +kernel
theorem dL_law_351 : decode cL_law 351 = .ok (.iadd, 1) := by decide +kernel
theorem dL_law_352 : decode cL_law 352 = .ok (.iaload, 1) := by decide +kernel
theorem dL_law_353 : decode cL_law 353 = .ok (.aload_n 0, 1) := by decide +kernel
theorem dL_law_354 : decode cL_law 354 = .ok (.iload_n 3, 1) := by decide +kernel
theorem dL_law_355 : decode cL_law 355 = .ok (.iconst 2, 1) := by decide +kernel
theorem dL_law_356 : decode cL_law 356 = .ok (.iadd, 1) := by decide +kernel
theorem dL_law_357 : decode cL_law 357 = .ok (.iaload, 1) := by decide +kernel
theorem dL_law_358 : decode cL_law 358 = .ok (.invokevirtual 44, 3) := by decide +kernel
theorem dL_law_361 : decode cL_law 361 = .ok (.aload_n 2, 1) := by decide +kernel
theorem dL_law_362 : decode cL_law 362 = .ok (.aload_n 0, 1) := by decide +kernel
theorem dL_law_363 : decode cL_law 363 = .ok (.iload_n 3, 1) := by decide +kernel
theorem dL_law_364 : decode cL_law 364 = .ok (.iconst 1, 1) := by decide +kernel
theorem dL_law_365 : decode cL_law 365 = .ok (.iadd, 1) := by decide +kernel
theorem dL_law_366 : decode cL_law 366 = .ok (.iaload, 1) := by decide +kernel
theorem dL_law_367 : decode cL_law 367 = .ok (.aload_n 0, 1) := by decide +kernel
theorem dL_law_368 : decode cL_law 368 = .ok (.iload_n 3, 1) := by decide +kernel
theorem dL_law_369 : decode cL_law 369 = .ok (.iconst 2, 1) := by decide +kernel
theorem dL_law_370 : decode cL_law 370 = .ok (.iadd, 1) := by decide +kernel
theorem dL_law_371 : decode cL_law 371 = .ok (.iaload, 1) := by decide +kernel
theorem dL_law_372 : decode cL_law 372 = .ok (.invokevirtual 48, 3) := by decide +kernel
theorem dL_law_375 : decode cL_law 375 = .ok (.if_icmp .eq 5, 3) := by decide +kernel
theorem dL_law_378 : decode cL_law 378 = .ok (.iconst 0, 1) := by decide +kernel
theorem dL_law_379 : decode cL_law 379 = .ok (.ireturn, 1) := by decide +kernel
theorem dL_law_380 : decode cL_law 380 = .ok (.iinc 3 5, 3) := by decide +kernel
theorem dL_law_383 : decode cL_law 383 = .ok (.goto (-365), 3) := by decide +kernel
theorem dL_law_386 : decode cL_law 386 = .ok (.iconst 1, 1) := by decide +kernel
theorem dL_law_387 : decode cL_law 387 = .ok (.ireturn, 1) := by decide +kernel
end
section
theorem zp_mod32 (a : Nat) : nI a = nI (a % 2 ^ 32) := by
  apply Int32.toBitVec_inj.mp
  show BitVec.ofNat 32 a = BitVec.ofNat 32 (a % 2 ^ 32)
  apply BitVec.eq_of_toNat_eq
  simp
theorem zp_and (a r : Nat) (hr : r ≤ 32) : nI a &&& nI (2 ^ r - 1) = nI (a % 2 ^ r) := by
  have h1 : 2 ^ r ≤ 2 ^ 32 := Nat.pow_le_pow_right (by decide) hr
  have h2 : 2 ^ r ∣ 2 ^ 32 := Nat.pow_dvd_pow 2 hr
  rw [zp_mod32 a, pk_andN (m := nI (2 ^ r - 1)) (Nat.mod_lt _ (by decide)) r (pk_tn (by have := Nat.two_pow_pos r; omega)), Nat.mod_mod_of_dvd a h2]
theorem zs_l : ∀ n, n < 32 → ((nI n &&& 31).toBitVec.smod 32).toNat = n := by decide +kernel
/-! A WALK OVER SYMBOLIC STATES: Z C ce sl ws pc lw st: in the context C, with ce cells and sl slots made, the machine whose world is ws, at pc, with the locals lw (a prefix, in order) and the operand stack st, comes to its end. Ints are nI of naturals. -/
abbrev zCl : List vw_C := [(RX0, TX0, 4), (RX1, TX1, 3), (RX2, TX2, 2)]
/-- an int array's contents as naturals -/
def aN (g : Nat → Nat) : Nat → Int32 := fun j => nI (g j)
def updN (g : Nat → Nat) (k x : Nat) : Nat → Nat := fun j => if j = k then x else g j
theorem updN_s {g : Nat → Nat} {k x : Nat} : updN g k x k = x := if_pos rfl
theorem updN_n {g : Nat → Nat} {k x j : Nat} (h : j ≠ k) : updN g k x j = g j := if_neg h
theorem aN_upd (g : Nat → Nat) (k x : Nat) : upd (aN g) k (nI x) = aN (updN g k x) := by
  funext j
  by_cases h : j = k
  · simp [upd, aN, updN, h]
  · simp [upd, aN, updN, h]
/-- an int array's cell -/
abbrev arI (cA : ClassId) (q n : Nat) (g : Nat → Nat) : Nat × va_E := (q, .inl (cA, n, .inl (aN g)))
def lput : List Value → Nat → Value → List Value
  | [], _, v => [v]
  | _ :: xs, 0, v => v :: xs
  | x :: xs, i + 1, v => x :: lput xs i v
theorem lput_get (v : Value) : ∀ (lw : List Value) (i : Nat), i ≤ lw.length → ∀ j : Nat, (lput lw i v)[j]? = if j = i then some v else lw[j]?
  | [], i, h, j => by
    have hi : i = 0 := Nat.le_zero.mp h
    subst hi
    cases j with
    | zero => rfl
    | succ j => simp [lput]
  | x :: xs, 0, h, j => by
    cases j with
    | zero => rfl
    | succ j => simp [lput]
  | x :: xs, i + 1, h, j => by
    cases j with
    | zero => simp [lput]
    | succ j =>
      have := lput_get v xs i (by simpa using h) j
      simp [lput, this]
def lh (ls : Array Slot) (nL : Nat) (lw : List Value) : Prop := ls.size = nL ∧ lv_wf ls ∧ ∀ (i : Nat) (v : Value), lw[i]? = some v → ls[i]? = some (.val v) ∧ v.category = 1
def len (lw : List Value) : List (Nat × Value) := lw.zipIdx.map (fun q => (q.2, q.1))
theorem len_mem {lw : List Value} {i : Nat} {v : Value} : (i, v) ∈ len lw ↔ lw[i]? = some v := by
  simp only [len, List.mem_map]
  constructor
  · rintro ⟨q, h, e⟩
    obtain ⟨w, j⟩ := q
    cases e
    exact List.mem_zipIdx_iff_getElem?.mp h
  · intro h
    exact ⟨(v, i), List.mem_zipIdx_iff_getElem?.mpr h, rfl⟩
theorem lh.has {ls : Array Slot} {nL : Nat} {lw : List Value} (h : lh ls nL lw) : lv_has ls nL (len lw) := ⟨h.1, h.2.1, fun q hq => (h.2.2 q.1 q.2 (len_mem.mp hq)).1⟩
theorem lh.put {ls ls' : Array Slot} {nL i : Nat} {lw : List Value} {v : Value} (h : lh ls nL lw) (hc : v.category = 1) (hi : i ≤ lw.length) (h' : lv_has ls' nL ((i, v) :: (len lw).filter (fun q => !(q.1 == i) && !(q.1 + 1 == i && q.2.category == 2)))) : lh ls' nL (lput lw i v) := by
  refine ⟨h'.1, h'.2.1, fun j w hj => ?_⟩
  rw [lput_get v lw i hi j] at hj
  by_cases e : j = i
  · subst e
    rw [if_pos rfl] at hj
    cases hj
    exact ⟨h'.2.2 (j, v) List.mem_cons_self, hc⟩
  · rw [if_neg e] at hj
    have h1 := (h.2.2 j w hj).2
    refine ⟨h'.2.2 (j, w) (List.mem_cons_of_mem _ (List.mem_filter.mpr ⟨len_mem.mpr hj, ?_⟩)), h1⟩
    simp [e, h1]
theorem lh.sub {ls : Array Slot} {nL : Nat} {lw : List Value} (h : lh ls nL lw) {lw' : List Value} (hp : lw.take lw'.length = lw') : lh ls nL lw' := by
  refine ⟨h.1, h.2.1, fun i v hv => h.2.2 i v ?_⟩
  have hi : i < lw'.length := (List.getElem?_eq_some_iff.mp hv).1
  rw [← hp, List.getElem?_take, if_pos hi] at hv
  exact hv
abbrev zC : Type := Program × Launch × Env × Room × State × MethodId × Array Value × List Frame × Method × Code × (State → Prop) × (Nat → Prop) × va_G × ClassId × Nat
def Z (C : zC) (ce sl : Nat) (ws : va_W) (pc : Nat) (lw st : List Value) : Prop :=
  match C with
  | (p, l, e, R, s, m, args, below, meth, c, Q, A, D, _, nL) => ∀ (H : Heap) (locs : List Loc) (ls : Array Slot), va_P D zCl ws H → va_D A ws → va_S A s.heap H locs → lh ls nL lw → W p l e R s m args below meth c H locs ce sl Q (F0 m pc ls st)
/-- what holds all through a walk -/
def Fx (C : zC) (cc : ByteArray) (own : String) : Prop :=
  match C with
  | (p, _, _, _, s, m, args, _, _, c, _, A, D, cA, nL) => CallFix p m c cc nL s args lw_all own ∧ va_K D zCl [(cA, .int)] s ∧ ∀ q : Nat, s.heap.size ≤ q → A q
def zR (C : zC) : Room := C.2.2.2.1
def zcA (C : zC) : ClassId := C.2.2.2.2.2.2.2.2.2.2.2.2.2.1
def zN (C : zC) : String := C.2.2.2.2.2.2.2.2.1.name
def zL (C : zC) : Nat := C.2.2.2.2.2.2.2.2.2.2.2.2.2.2
section ZROWS
variable {C : zC} {cc : ByteArray} {own : String} {ce sl : Nat} {ws : va_W} {pc : Nat} {lw st : List Value}
theorem z_iconst (hC : Fx C cc own) {n : Int} (v : Nat) (hd : decode cc pc = .ok (.iconst n, 1)) (hv : Int32.ofInt n = nI v) (k : Z C ce sl ws (pc + 1) lw (.int (nI v) :: st)) : Z C ce sl ws pc lw (st) := by
  obtain ⟨p, l, e, R, s, m, args, below, meth, c, Q, A, D, cA, nL⟩ := C
  obtain ⟨⟨hx, hb, hml, hown, hts⟩, hK, hA⟩ := hC
  intro H locs ls hP hD hS hl
  have k2 := k H locs ls hP hD hS hl
  exact lv_iconst hx hb hd hv k2
theorem z_bipush (hC : Fx C cc own) {n : Int} (v : Nat) (hd : decode cc pc = .ok (.bipush n, 2)) (hv : (Int8.ofInt n).toInt32 = nI v) (k : Z C ce sl ws (pc + 2) lw (.int (nI v) :: st)) : Z C ce sl ws pc lw (st) := by
  obtain ⟨p, l, e, R, s, m, args, below, meth, c, Q, A, D, cA, nL⟩ := C
  obtain ⟨⟨hx, hb, hml, hown, hts⟩, hK, hA⟩ := hC
  intro H locs ls hP hD hS hl
  have k2 := k H locs ls hP hD hS hl
  exact lv_bipush hx hb hd hv k2
theorem z_sipush (hC : Fx C cc own) {n : Int} (v : Nat) (hd : decode cc pc = .ok (.sipush n, 3)) (hv : (Int16.ofInt n).toInt32 = nI v) (k : Z C ce sl ws (pc + 3) lw (.int (nI v) :: st)) : Z C ce sl ws pc lw (st) := by
  obtain ⟨p, l, e, R, s, m, args, below, meth, c, Q, A, D, cA, nL⟩ := C
  obtain ⟨⟨hx, hb, hml, hown, hts⟩, hK, hA⟩ := hC
  intro H locs ls hP hD hS hl
  have k2 := k H locs ls hP hD hS hl
  exact lv_sipush hx hb hd hv k2
theorem z_ldc (hC : Fx C cc own) {index : Nat} {x : Int32} (v : Nat) (hd : decode cc pc = .ok (.ldc index, 2)) (hw : Cond.constant own index x ∈ lw_all) (hv : x = nI v) (k : Z C ce sl ws (pc + 2) lw (.int (nI v) :: st)) : Z C ce sl ws pc lw (st) := by
  obtain ⟨p, l, e, R, s, m, args, below, meth, c, Q, A, D, cA, nL⟩ := C
  obtain ⟨⟨hx, hb, hml, hown, hts⟩, hK, hA⟩ := hC
  intro H locs ls hP hD hS hl
  have k2 := k H locs ls hP hD hS hl
  subst hv
  exact lv_ldc hx hb hown (hts _ hw) hd k2
theorem z_iload_n (hC : Fx C cc own) {q : Fin 4} {i : Nat} {x : Int32} (hd : decode cc pc = .ok (.iload_n q, 1)) (hi : (q : Nat) = i) (hv : lw[i]? = some (.int x)) (k : Z C ce sl ws (pc + 1) lw (.int x :: st)) : Z C ce sl ws pc lw (st) := by
  obtain ⟨p, l, e, R, s, m, args, below, meth, c, Q, A, D, cA, nL⟩ := C
  obtain ⟨⟨hx, hb, hml, hown, hts⟩, hK, hA⟩ := hC
  intro H locs ls hP hD hS hl
  have k2 := k H locs ls hP hD hS hl
  exact lv_iload_n hx hb hd hi (hl.2.2 i _ hv).1 k2
theorem z_iload (hC : Fx C cc own) {i : Nat} {x : Int32} (hd : decode cc pc = .ok (.iload i, 2)) (hv : lw[i]? = some (.int x)) (k : Z C ce sl ws (pc + 2) lw (.int x :: st)) : Z C ce sl ws pc lw (st) := by
  obtain ⟨p, l, e, R, s, m, args, below, meth, c, Q, A, D, cA, nL⟩ := C
  obtain ⟨⟨hx, hb, hml, hown, hts⟩, hK, hA⟩ := hC
  intro H locs ls hP hD hS hl
  have k2 := k H locs ls hP hD hS hl
  exact lv_iload hx hb hd (hl.2.2 i _ hv).1 k2
theorem z_aload_n (hC : Fx C cc own) {q : Fin 4} {i : Nat} {x : Nat} (hd : decode cc pc = .ok (.aload_n q, 1)) (hi : (q : Nat) = i) (hv : lw[i]? = some (.ref x)) (k : Z C ce sl ws (pc + 1) lw (.ref x :: st)) : Z C ce sl ws pc lw (st) := by
  obtain ⟨p, l, e, R, s, m, args, below, meth, c, Q, A, D, cA, nL⟩ := C
  obtain ⟨⟨hx, hb, hml, hown, hts⟩, hK, hA⟩ := hC
  intro H locs ls hP hD hS hl
  have k2 := k H locs ls hP hD hS hl
  exact lv_aload_n hx hb hd hi (hl.2.2 i _ hv).1 k2
theorem z_istore_n {N : Nat} (hC : Fx C cc own) {q : Fin 4} {i : Nat} {x : Int32} (hd : decode cc pc = .ok (.istore_n q, 1)) (hi : (q : Nat) = i) (hn : zL C = N) (hiN : i < N) (hil : i ≤ lw.length) (k : Z C ce sl ws (pc + 1) (lput lw i (.int x)) st) : Z C ce sl ws pc lw (.int x :: st) := by
  obtain ⟨p, l, e, R, s, m, args, below, meth, c, Q, A, D, cA, nL⟩ := C
  obtain ⟨⟨hx, hb, hml, hown, hts⟩, hK, hA⟩ := hC
  intro H locs ls hP hD hS hl
  have hn2 : nL = N := hn
  exact lv_istore_n hx hb hd hi hl.has (by rw [hn2]; exact hiN) rfl (fun ls2 h2 => k H locs ls2 hP hD hS (hl.put rfl hil h2))
theorem z_istore {N : Nat} (hC : Fx C cc own) {i : Nat} {x : Int32} (hd : decode cc pc = .ok (.istore i, 2)) (hn : zL C = N) (hiN : i < N) (hil : i ≤ lw.length) (k : Z C ce sl ws (pc + 2) (lput lw i (.int x)) st) : Z C ce sl ws pc lw (.int x :: st) := by
  obtain ⟨p, l, e, R, s, m, args, below, meth, c, Q, A, D, cA, nL⟩ := C
  obtain ⟨⟨hx, hb, hml, hown, hts⟩, hK, hA⟩ := hC
  intro H locs ls hP hD hS hl
  have hn2 : nL = N := hn
  exact lv_istore hx hb hd hl.has (by rw [hn2]; exact hiN) rfl (fun ls2 h2 => k H locs ls2 hP hD hS (hl.put rfl hil h2))
theorem z_astore_n {N : Nat} (hC : Fx C cc own) {q : Fin 4} {i : Nat} {x : Nat} (hd : decode cc pc = .ok (.astore_n q, 1)) (hi : (q : Nat) = i) (hn : zL C = N) (hiN : i < N) (hil : i ≤ lw.length) (k : Z C ce sl ws (pc + 1) (lput lw i (.ref x)) st) : Z C ce sl ws pc lw (.ref x :: st) := by
  obtain ⟨p, l, e, R, s, m, args, below, meth, c, Q, A, D, cA, nL⟩ := C
  obtain ⟨⟨hx, hb, hml, hown, hts⟩, hK, hA⟩ := hC
  intro H locs ls hP hD hS hl
  have hn2 : nL = N := hn
  exact lv_astore_n hx hb hd hi hl.has (by rw [hn2]; exact hiN) rfl (fun ls2 h2 => k H locs ls2 hP hD hS (hl.put rfl hil h2))
theorem z_iinc {N : Nat} (hC : Fx C cc own) {i : Nat} {n : Int} {x : Int32} (v : Nat) (hd : decode cc pc = .ok (.iinc i n, 3)) (hn : zL C = N) (hiN : i < N) (hv : lw[i]? = some (.int x)) (he : x + Int32.ofInt n = nI v) (k : Z C ce sl ws (pc + 3) (lput lw i (.int (nI v))) st) : Z C ce sl ws pc lw st := by
  obtain ⟨p, l, e, R, s, m, args, below, meth, c, Q, A, D, cA, nL⟩ := C
  obtain ⟨⟨hx, hb, hml, hown, hts⟩, hK, hA⟩ := hC
  intro H locs ls hP hD hS hl
  have hn2 : nL = N := hn
  have hm : (i, Value.int x) ∈ len lw := len_mem.mpr hv
  obtain ⟨kk, hkk⟩ := List.getElem?_of_mem hm
  exact lv_iinc (k := kk) hx hb hd hl.has hkk he (by rw [hn2]; exact hiN) rfl (fun ls2 h2 => k H locs ls2 hP hD hS (hl.put rfl (Nat.le_of_lt (List.getElem?_eq_some_iff.mp hv).1) h2))
/-- the top of the stack under another name -/
theorem z_top {x : Int32} (n : Nat) (h : x = nI n) (k : Z C ce sl ws pc lw (.int (nI n) :: st)) : Z C ce sl ws pc lw (.int x :: st) := by
  rw [h]; exact k
/-- fewer locals -/
theorem z_lw {lw' : List Value} (hp : lw.take lw'.length = lw') (k : Z C ce sl ws pc lw' st) : Z C ce sl ws pc lw st := by
  obtain ⟨p, l, e, R, s, m, args, below, meth, c, Q, A, D, cA, nL⟩ := C
  intro H locs ls hP hD hS hl
  exact k H locs ls hP hD hS (hl.sub hp)
/-- the world in another order, or less of it -/
theorem z_ws {ws' : va_W} (is : List Nat) (hn : va_nd is = true) (hs : is.map (fun i => ws[i]?) = ws'.map some) (k : Z C ce sl ws' pc lw st) : Z C ce sl ws pc lw st := by
  obtain ⟨p, l, e, R, s, m, args, below, meth, c, Q, A, D, cA, nL⟩ := C
  intro H locs ls hP hD hS hl
  refine k H locs ls (fun j q hj => ?_) (hD.sub is hn hs) hS hl
  have h1 : (is.map (fun i => ws[i]?))[j]? = some (some q) := by rw [hs, List.getElem?_map, hj]; rfl
  rw [List.getElem?_map] at h1
  cases hi : is[j]? with
  | none => rw [hi] at h1; cases h1
  | some i =>
    rw [hi] at h1
    have h2 : ws[i]? = some q := Option.some.inj h1
    exact hP i q h2
theorem z_widen (ce2 sl2 : Nat) (h1 : ce ≤ ce2) (h2 : sl ≤ sl2) (k : Z C ce2 sl2 ws pc lw st) : Z C ce sl ws pc lw st := by
  obtain ⟨p, l, e, R, s, m, args, below, meth, c, Q, A, D, cA, nL⟩ := C
  intro H locs ls hP hD hS hl
  exact W.widen h1 h2 (k H locs ls hP hD hS hl)
theorem z_iaddR (hC : Fx C cc own) {x y : Int32} (hd : decode cc pc = .ok (.iadd, 1)) (k : Z C ce sl ws (pc + 1) lw (.int (x + y) :: st)) : Z C ce sl ws pc lw (.int y :: .int x :: st) := by
  obtain ⟨p, l, e, R, s, m, args, below, meth, c, Q, A, D, cA, nL⟩ := C
  obtain ⟨⟨hx, hb, hml, hown, hts⟩, hK, hA⟩ := hC
  intro H locs ls hP hD hS hl
  have k2 := k H locs ls hP hD hS hl
  exact lv_iadd hx hb hd k2
theorem z_isubR (hC : Fx C cc own) {x y : Int32} (hd : decode cc pc = .ok (.isub, 1)) (k : Z C ce sl ws (pc + 1) lw (.int (x - y) :: st)) : Z C ce sl ws pc lw (.int y :: .int x :: st) := by
  obtain ⟨p, l, e, R, s, m, args, below, meth, c, Q, A, D, cA, nL⟩ := C
  obtain ⟨⟨hx, hb, hml, hown, hts⟩, hK, hA⟩ := hC
  intro H locs ls hP hD hS hl
  have k2 := k H locs ls hP hD hS hl
  exact lv_isub hx hb hd k2
theorem z_iremR (hC : Fx C cc own) {x y : Int32} (hd : decode cc pc = .ok (.irem, 1)) (h0 : ¬ y = 0) (k : Z C ce sl ws (pc + 1) lw (.int (x - x / y * y) :: st)) : Z C ce sl ws pc lw (.int y :: .int x :: st) := by
  obtain ⟨p, l, e, R, s, m, args, below, meth, c, Q, A, D, cA, nL⟩ := C
  obtain ⟨⟨hx, hb, hml, hown, hts⟩, hK, hA⟩ := hC
  intro H locs ls hP hD hS hl
  have k2 := k H locs ls hP hD hS hl
  exact lv_irem hx hb hd h0 k2
theorem z_iandR (hC : Fx C cc own) {x y : Int32} (hd : decode cc pc = .ok (.iand, 1)) (k : Z C ce sl ws (pc + 1) lw (.int (x &&& y) :: st)) : Z C ce sl ws pc lw (.int y :: .int x :: st) := by
  obtain ⟨p, l, e, R, s, m, args, below, meth, c, Q, A, D, cA, nL⟩ := C
  obtain ⟨⟨hx, hb, hml, hown, hts⟩, hK, hA⟩ := hC
  intro H locs ls hP hD hS hl
  have k2 := k H locs ls hP hD hS hl
  exact lv_iand hx hb hd k2
theorem z_iorR (hC : Fx C cc own) {x y : Int32} (hd : decode cc pc = .ok (.ior, 1)) (k : Z C ce sl ws (pc + 1) lw (.int (x ||| y) :: st)) : Z C ce sl ws pc lw (.int y :: .int x :: st) := by
  obtain ⟨p, l, e, R, s, m, args, below, meth, c, Q, A, D, cA, nL⟩ := C
  obtain ⟨⟨hx, hb, hml, hown, hts⟩, hK, hA⟩ := hC
  intro H locs ls hP hD hS hl
  have k2 := k H locs ls hP hD hS hl
  exact lv_ior hx hb hd k2
theorem z_ishlR (hC : Fx C cc own) {x y : Int32} (hd : decode cc pc = .ok (.ishl, 1)) (k : Z C ce sl ws (pc + 1) lw (.int (x <<< (y &&& 31)) :: st)) : Z C ce sl ws pc lw (.int y :: .int x :: st) := by
  obtain ⟨p, l, e, R, s, m, args, below, meth, c, Q, A, D, cA, nL⟩ := C
  obtain ⟨⟨hx, hb, hml, hown, hts⟩, hK, hA⟩ := hC
  intro H locs ls hP hD hS hl
  have k2 := k H locs ls hP hD hS hl
  exact lv_ishl hx hb hd k2
theorem z_ishrR (hC : Fx C cc own) {x y : Int32} (hd : decode cc pc = .ok (.ishr, 1)) (k : Z C ce sl ws (pc + 1) lw (.int (x >>> (y &&& 31)) :: st)) : Z C ce sl ws pc lw (.int y :: .int x :: st) := by
  obtain ⟨p, l, e, R, s, m, args, below, meth, c, Q, A, D, cA, nL⟩ := C
  obtain ⟨⟨hx, hb, hml, hown, hts⟩, hK, hA⟩ := hC
  intro H locs ls hP hD hS hl
  have k2 := k H locs ls hP hD hS hl
  exact lv_ishr hx hb hd k2
theorem z_iadd (hC : Fx C cc own) {a b : Nat} (hd : decode cc pc = .ok (.iadd, 1)) (k : Z C ce sl ws (pc + 1) lw (.int (nI (a + b)) :: st)) : Z C ce sl ws pc lw (.int (nI b) :: .int (nI a) :: st) := by
  obtain ⟨p, l, e, R, s, m, args, below, meth, c, Q, A, D, cA, nL⟩ := C
  obtain ⟨⟨hx, hb, hml, hown, hts⟩, hK, hA⟩ := hC
  intro H locs ls hP hD hS hl
  have k2 := k H locs ls hP hD hS hl
  rw [← nI_add] at k2
  exact lv_iadd hx hb hd k2
theorem z_isub (hC : Fx C cc own) {a b : Nat} (hd : decode cc pc = .ok (.isub, 1)) (h : b ≤ a) (k : Z C ce sl ws (pc + 1) lw (.int (nI (a - b)) :: st)) : Z C ce sl ws pc lw (.int (nI b) :: .int (nI a) :: st) := by
  obtain ⟨p, l, e, R, s, m, args, below, meth, c, Q, A, D, cA, nL⟩ := C
  obtain ⟨⟨hx, hb, hml, hown, hts⟩, hK, hA⟩ := hC
  intro H locs ls hP hD hS hl
  have k2 := k H locs ls hP hD hS hl
  rw [← pk_sub h] at k2
  exact lv_isub hx hb hd k2
theorem z_imul (hC : Fx C cc own) {a b : Nat} (hd : decode cc pc = .ok (.imul, 1)) (k : Z C ce sl ws (pc + 1) lw (.int (nI (a * b)) :: st)) : Z C ce sl ws pc lw (.int (nI b) :: .int (nI a) :: st) := by
  obtain ⟨p, l, e, R, s, m, args, below, meth, c, Q, A, D, cA, nL⟩ := C
  obtain ⟨⟨hx, hb, hml, hown, hts⟩, hK, hA⟩ := hC
  intro H locs ls hP hD hS hl
  have k2 := k H locs ls hP hD hS hl
  rw [← pk_mul] at k2
  exact lv_imul hx hb hd k2
theorem z_idiv (hC : Fx C cc own) {a b : Nat} (hd : decode cc pc = .ok (.idiv, 1)) (ha : a < 2 ^ 31) (h0 : 0 < b) (hb9 : b < 2 ^ 31) (k : Z C ce sl ws (pc + 1) lw (.int (nI (a / b)) :: st)) : Z C ce sl ws pc lw (.int (nI b) :: .int (nI a) :: st) := by
  obtain ⟨p, l, e, R, s, m, args, below, meth, c, Q, A, D, cA, nL⟩ := C
  obtain ⟨⟨hx, hb, hml, hown, hts⟩, hK, hA⟩ := hC
  intro H locs ls hP hD hS hl
  have k2 := k H locs ls hP hD hS hl
  rw [← pk_div ha h0 hb9] at k2
  exact lv_idiv hx hb hd (nI_ne0 h0 hb9) k2
theorem z_irem (hC : Fx C cc own) {a b : Nat} (hd : decode cc pc = .ok (.irem, 1)) (ha : a < 2 ^ 31) (h0 : 0 < b) (hb9 : b < 2 ^ 31) (k : Z C ce sl ws (pc + 1) lw (.int (nI (a % b)) :: st)) : Z C ce sl ws pc lw (.int (nI b) :: .int (nI a) :: st) := by
  obtain ⟨p, l, e, R, s, m, args, below, meth, c, Q, A, D, cA, nL⟩ := C
  obtain ⟨⟨hx, hb, hml, hown, hts⟩, hK, hA⟩ := hC
  intro H locs ls hP hD hS hl
  have k2 := k H locs ls hP hD hS hl
  rw [← pk_rem ha h0 hb9] at k2
  exact lv_irem hx hb hd (nI_ne0 h0 hb9) k2
theorem z_iand (hC : Fx C cc own) {a y : Nat} (m r : Nat) (hd : decode cc pc = .ok (.iand, 1)) (hr : r ≤ 32) (hy : y < 2 ^ 32) (hm : 2 ^ r = m) (hym : y = m - 1) (k : Z C ce sl ws (pc + 1) lw (.int (nI (a % m)) :: st)) : Z C ce sl ws pc lw (.int (nI y) :: .int (nI a) :: st) := by
  obtain ⟨p, l, e, R, s, m, args, below, meth, c, Q, A, D, cA, nL⟩ := C
  obtain ⟨⟨hx, hb, hml, hown, hts⟩, hK, hA⟩ := hC
  intro H locs ls hP hD hS hl
  have k2 := k H locs ls hP hD hS hl
  subst hm
  rw [← zp_and a r hr, ← hym] at k2
  exact lv_iand hx hb hd k2
theorem z_ishl (hC : Fx C cc own) {a b : Nat} (hd : decode cc pc = .ok (.ishl, 1)) (hs : b < 32) (ha : a * 2 ^ b < 2 ^ 32) (k : Z C ce sl ws (pc + 1) lw (.int (nI (a * 2 ^ b)) :: st)) : Z C ce sl ws pc lw (.int (nI b) :: .int (nI a) :: st) := by
  obtain ⟨p, l, e, R, s, m, args, below, meth, c, Q, A, D, cA, nL⟩ := C
  obtain ⟨⟨hx, hb, hml, hown, hts⟩, hK, hA⟩ := hC
  intro H locs ls hP hD hS hl
  have k2 := k H locs ls hP hD hS hl
  rw [← pk_shlN (nI b &&& 31) b (zs_l b hs) ha] at k2
  exact lv_ishl hx hb hd k2
theorem z_ishr (hC : Fx C cc own) {a b : Nat} (hd : decode cc pc = .ok (.ishr, 1)) (hs : b < 32) (ha : a < 2 ^ 31) (k : Z C ce sl ws (pc + 1) lw (.int (nI (a / 2 ^ b)) :: st)) : Z C ce sl ws pc lw (.int (nI b) :: .int (nI a) :: st) := by
  obtain ⟨p, l, e, R, s, m, args, below, meth, c, Q, A, D, cA, nL⟩ := C
  obtain ⟨⟨hx, hb, hml, hown, hts⟩, hK, hA⟩ := hC
  intro H locs ls hP hD hS hl
  have k2 := k H locs ls hP hD hS hl
  rw [← pk_shrN ha (nI b &&& 31) b (zs_l b hs)] at k2
  exact lv_ishr hx hb hd k2
theorem z_dup (hC : Fx C cc own) {v : Value} (hd : decode cc pc = .ok (.dup, 1)) (hv : v.category = 1) (k : Z C ce sl ws (pc + 1) lw (v :: v :: st)) : Z C ce sl ws pc lw (v :: st) := by
  obtain ⟨p, l, e, R, s, m, args, below, meth, c, Q, A, D, cA, nL⟩ := C
  obtain ⟨⟨hx, hb, hml, hown, hts⟩, hK, hA⟩ := hC
  intro H locs ls hP hD hS hl
  have k2 := k H locs ls hP hD hS hl
  exact lv_dup hx hb hd hv k2
theorem z_icmp_ge (hC : Fx C cc own) {a b : Nat} (ha : a < 2 ^ 31) (hb9 : b < 2 ^ 31) {off : Int} {tgt : Nat} (hd : decode cc pc = .ok (.if_icmp .ge off, 3)) (ht : (pc : Int) + off = (tgt : Int)) (kt : b ≤ a → Z C ce sl ws tgt lw st) (kf : a < b → Z C ce sl ws (pc + 3) lw st) : Z C ce sl ws pc lw (.int (nI b) :: .int (nI a) :: st) := by
  obtain ⟨p, l, e, R, s, m, args, below, meth, c, Q, A, D, cA, nL⟩ := C
  obtain ⟨⟨hx, hb, hml, hown, hts⟩, hK, hA⟩ := hC
  intro H locs ls hP hD hS hl
  exact lv_icmp_ge hx hb hd ht (fun h => kt ((nI_leI hb9 ha).mp h) H locs ls hP hD hS hl) (fun h => kf (Nat.lt_of_not_le (fun q => h ((nI_leI hb9 ha).mpr q))) H locs ls hP hD hS hl)
theorem z_icmp_lt (hC : Fx C cc own) {a b : Nat} (ha : a < 2 ^ 31) (hb9 : b < 2 ^ 31) {off : Int} {tgt : Nat} (hd : decode cc pc = .ok (.if_icmp .lt off, 3)) (ht : (pc : Int) + off = (tgt : Int)) (kt : a < b → Z C ce sl ws tgt lw st) (kf : b ≤ a → Z C ce sl ws (pc + 3) lw st) : Z C ce sl ws pc lw (.int (nI b) :: .int (nI a) :: st) := by
  obtain ⟨p, l, e, R, s, m, args, below, meth, c, Q, A, D, cA, nL⟩ := C
  obtain ⟨⟨hx, hb, hml, hown, hts⟩, hK, hA⟩ := hC
  intro H locs ls hP hD hS hl
  exact lv_icmp_lt hx hb hd ht (fun h => kt ((nI_ltI ha hb9).mp h) H locs ls hP hD hS hl) (fun h => kf (Nat.le_of_not_lt (fun q => h ((nI_ltI ha hb9).mpr q))) H locs ls hP hD hS hl)
theorem z_icmp_gt (hC : Fx C cc own) {a b : Nat} (ha : a < 2 ^ 31) (hb9 : b < 2 ^ 31) {off : Int} {tgt : Nat} (hd : decode cc pc = .ok (.if_icmp .gt off, 3)) (ht : (pc : Int) + off = (tgt : Int)) (kt : b < a → Z C ce sl ws tgt lw st) (kf : a ≤ b → Z C ce sl ws (pc + 3) lw st) : Z C ce sl ws pc lw (.int (nI b) :: .int (nI a) :: st) := by
  obtain ⟨p, l, e, R, s, m, args, below, meth, c, Q, A, D, cA, nL⟩ := C
  obtain ⟨⟨hx, hb, hml, hown, hts⟩, hK, hA⟩ := hC
  intro H locs ls hP hD hS hl
  exact lv_icmp_gt hx hb hd ht (fun h => kt ((nI_ltI hb9 ha).mp h) H locs ls hP hD hS hl) (fun h => kf (Nat.le_of_not_lt (fun q => h ((nI_ltI hb9 ha).mpr q))) H locs ls hP hD hS hl)
theorem z_icmp_gtR (hC : Fx C cc own) {x y : Int32} {off : Int} {tgt : Nat} (hd : decode cc pc = .ok (.if_icmp .gt off, 3)) (ht : (pc : Int) + off = (tgt : Int)) (kt : y < x → Z C ce sl ws tgt lw st) (kf : ¬ y < x → Z C ce sl ws (pc + 3) lw st) : Z C ce sl ws pc lw (.int y :: .int x :: st) := by
  obtain ⟨p, l, e, R, s, m, args, below, meth, c, Q, A, D, cA, nL⟩ := C
  obtain ⟨⟨hx, hb, hml, hown, hts⟩, hK, hA⟩ := hC
  intro H locs ls hP hD hS hl
  exact lv_icmp_gt hx hb hd ht (fun h => kt (h) H locs ls hP hD hS hl) (fun h => kf (h) H locs ls hP hD hS hl)
theorem z_icmp_eqR (hC : Fx C cc own) {x y : Int32} {off : Int} {tgt : Nat} (hd : decode cc pc = .ok (.if_icmp .eq off, 3)) (ht : (pc : Int) + off = (tgt : Int)) (kt : x = y → Z C ce sl ws tgt lw st) (kf : ¬ x = y → Z C ce sl ws (pc + 3) lw st) : Z C ce sl ws pc lw (.int y :: .int x :: st) := by
  obtain ⟨p, l, e, R, s, m, args, below, meth, c, Q, A, D, cA, nL⟩ := C
  obtain ⟨⟨hx, hb, hml, hown, hts⟩, hK, hA⟩ := hC
  intro H locs ls hP hD hS hl
  exact lv_icmp_eq hx hb hd ht (fun h => kt (h) H locs ls hP hD hS hl) (fun h => kf (h) H locs ls hP hD hS hl)
theorem z_if_geR (hC : Fx C cc own) {x : Int32} {off : Int} {tgt : Nat} (hd : decode cc pc = .ok (.ifCond .ge off, 3)) (ht : (pc : Int) + off = (tgt : Int)) (kt : 0 ≤ x → Z C ce sl ws tgt lw st) (kf : ¬ 0 ≤ x → Z C ce sl ws (pc + 3) lw st) : Z C ce sl ws pc lw (.int x :: st) := by
  obtain ⟨p, l, e, R, s, m, args, below, meth, c, Q, A, D, cA, nL⟩ := C
  obtain ⟨⟨hx, hb, hml, hown, hts⟩, hK, hA⟩ := hC
  intro H locs ls hP hD hS hl
  exact lv_if_ge hx hb hd ht (fun h => kt (h) H locs ls hP hD hS hl) (fun h => kf (h) H locs ls hP hD hS hl)
theorem z_if_ne (hC : Fx C cc own) {a : Nat} (ha : a < 2 ^ 31) {off : Int} {tgt : Nat} (hd : decode cc pc = .ok (.ifCond .ne off, 3)) (ht : (pc : Int) + off = (tgt : Int)) (kt : a ≠ 0 → Z C ce sl ws tgt lw st) (kf : a = 0 → Z C ce sl ws (pc + 3) lw st) : Z C ce sl ws pc lw (.int (nI a) :: st) := by
  obtain ⟨p, l, e, R, s, m, args, below, meth, c, Q, A, D, cA, nL⟩ := C
  obtain ⟨⟨hx, hb, hml, hown, hts⟩, hK, hA⟩ := hC
  intro H locs ls hP hD hS hl
  exact lv_if_ne hx hb hd ht (fun h => kt (fun q => h (by rw [q]; exact nI_0)) H locs ls hP hD hS hl) (fun h => kf ((nI_eq ha (by decide)).mp (h.trans nI_0.symm)) H locs ls hP hD hS hl)
theorem z_goto (hC : Fx C cc own) {off : Int} {tgt : Nat} (hd : decode cc pc = .ok (.goto off, 3)) (ht : (pc : Int) + off = (tgt : Int)) (k : Z C ce sl ws tgt lw st) : Z C ce sl ws pc lw st := by
  obtain ⟨p, l, e, R, s, m, args, below, meth, c, Q, A, D, cA, nL⟩ := C
  obtain ⟨⟨hx, hb, hml, hown, hts⟩, hK, hA⟩ := hC
  intro H locs ls hP hD hS hl
  exact lv_goto hx hb hd ht (k H locs ls hP hD hS hl)
theorem z_table (hC : Fx C cc own) {dflt : Int} {lo hi : Int} {offs : Array Int} {len : Nat} {a : Nat} {off : Int} {tgt : Nat} (hd : decode cc pc = .ok (.tableswitch dflt lo hi offs, len)) (ha : a < 2 ^ 31) (h1 : lo ≤ (a : Int)) (h2 : (a : Int) ≤ hi) (ho : offs[((a : Int) - lo).toNat]? = some off) (ht : (pc : Int) + off = (tgt : Int)) (k : Z C ce sl ws tgt lw st) : Z C ce sl ws pc lw (.int (nI a) :: st) := by
  obtain ⟨p, l, e, R, s, m, args, below, meth, c, Q, A, D, cA, nL⟩ := C
  obtain ⟨⟨hx, hb, hml, hown, hts⟩, hK, hA⟩ := hC
  intro H locs ls hP hD hS hl
  have e1 := nI_toInt ha
  exact lv_tableIn hx hb hd (by rw [e1]; omega) (by rw [e1]; omega) (by rw [e1]; exact ho) ht (k H locs ls hP hD hS hl)
theorem z_iald (hC : Fx C cc own) (q0 : Nat) {a n i : Nat} {g : Nat → Nat} (hq : ws[q0]? = some (arI (zcA C) a n g)) (hd : decode cc pc = .ok (.iaload, 1)) (hi : i < n) (hn : n < 2 ^ 31) (k : Z C ce sl ws (pc + 1) lw (.int (nI (g i)) :: st)) : Z C ce sl ws pc lw (.int (nI i) :: .ref a :: st) := by
  obtain ⟨p, l, e, R, s, m, args, below, meth, c, Q, A, D, cA, nL⟩ := C
  obtain ⟨⟨hx, hb, hml, hown, hts⟩, hK, hA⟩ := hC
  intro H locs ls hP hD hS hl
  have k2 := k H locs ls hP hD hS hl
  have hq2 : ws[q0]? = some (arI cA a n g) := hq
  refine va_iald hx hb hK hP q0 0 hq2 rfl (vp_in_nI hi hn) hd ?_
  rw [nI_clamp (Nat.lt_trans hi hn)]
  exact k2
theorem z_iast (hC : Fx C cc own) (q0 : Nat) {a n i x : Nat} {g : Nat → Nat} {ws' : (Nat → Nat) → va_W} (hq : ws[q0]? = some (arI (zcA C) a n g)) (hw : ∀ g' : Nat → Nat, ws.set q0 (arI (zcA C) a n g') = ws' g') (hd : decode cc pc = .ok (.iastore, 1)) (hi : i < n) (hn : n < 2 ^ 31) (k : Z C ce sl (ws' (updN g i x)) (pc + 1) lw st) : Z C ce sl ws pc lw (.int (nI x) :: .int (nI i) :: .ref a :: st) := by
  obtain ⟨p, l, e, R, s, m, args, below, meth, c, Q, A, D, cA, nL⟩ := C
  obtain ⟨⟨hx, hb, hml, hown, hts⟩, hK, hA⟩ := hC
  intro H locs ls hP hD hS hl
  have hq2 : ws[q0]? = some (arI cA a n g) := hq
  refine va_iast hx hb hK hP hD hS q0 0 hq2 rfl (vp_in_nI hi hn) hd (fun H1 locs1 h1 h2 h3 => ?_)
  rw [nI_clamp (Nat.lt_trans hi hn), aN_upd] at h1 h2
  have e : ws.set q0 (arI cA a n (updN g i x)) = ws' (updN g i x) := hw _
  exact k H1 locs1 ls (by rw [← e]; exact h1) (by rw [← e]; exact h2) h3 hl
theorem z_get (hC : Fx C cc own) (q0 : Nat) {a N ci index : Nat} {Cn : String} {T : u_T} {fs : List Value} {v : Value} (hq : ws[q0]? = some (a, .inr (ci, fs))) (hc : zCl[ci]? = some (Cn, T, N)) (hin : ∀ w ∈ u_ws Cn T N, w ∈ lw_all) (f : Nat) (hf : f < N) (hlink : Cond.fieldLink own index (T f).1 (T f).2.1 (T f).2.2.1 ∈ lw_all) (hv : fs[f]? = some v) (hd : decode cc pc = .ok (.getfield index, 3)) (k : Z C ce sl ws (pc + 3) lw (v :: st)) : Z C ce sl ws pc lw (.ref a :: st) := by
  obtain ⟨p, l, e, R, s, m, args, below, meth, c, Q, A, D, cA, nL⟩ := C
  obtain ⟨⟨hx, hb, hml, hown, hts⟩, hK, hA⟩ := hC
  intro H locs ls hP hD hS hl
  exact va_get (ref := (T f).1) hx hb hts hin hown hK hP q0 hq hc f hf (hts _ hlink) (fun _ h9 => h9) hv hd (k H locs ls hP hD hS hl)
theorem z_putF (hC : Fx C cc own) (hin2 : zN C = "<init>") (q0 : Nat) {a N ci index : Nat} {Cn : String} {T : u_T} {fs : List Value} {v : Value} {ws' : va_W} (ty0 : Nat → FieldType) (hq : ws[q0]? = some (a, .inr (ci, fs))) (hc : zCl[ci]? = some (Cn, T, N)) (hin : ∀ w ∈ u_ws Cn T N, w ∈ lw_all) (hty : ∀ k, k < N → parseFieldDescriptor (T k).2.2.1 = some (ty0 k)) (hnm : ∀ a, a < N → ∀ b, b < N → a ≠ b → (T a).2.1 ≠ (T b).2.1) (f : Nat) (hf : f < N) (hlink : Cond.fieldLink own index (T f).1 (T f).2.1 (T f).2.2.1 ∈ lw_all) (hfin : (T f).2.2.2 = true) (hdecl : (T f).1 = own) (hn : narrow (ty0 f) v = v) (hfit : fits (ty0 f) v = true) (hl0 : f < fs.length) (hw : ws.set q0 (a, .inr (ci, fs.set f v)) = ws') (hd : decode cc pc = .ok (.putfield index, 3)) (k : Z C ce sl ws' (pc + 3) lw st) : Z C ce sl ws pc lw (v :: .ref a :: st) := by
  obtain ⟨p, l, e, R, s, m, args, below, meth, c, Q, A, D, cA, nL⟩ := C
  obtain ⟨⟨hx, hb, hml, hown, hts⟩, hK, hA⟩ := hC
  intro H locs ls hP hD hS hl
  have hin3 : meth.name = "<init>" := hin2
  subst hw
  exact va_putF (ref := (T f).1) hx hb hts hin ty0 hty hnm hown hK hP hD hS q0 hq hc f hf (hts _ hlink) (fun _ h9 => h9) hfin hin3 hdecl (hty f hf) hn hfit hl0 hd (fun H1 locs1 h1 h2 h3 => k H1 locs1 ls h1 h2 h3 hl)
theorem z_newa (hC : Fx C cc own) (n : Nat) (hd : decode cc pc = .ok (.newarray .int, 2)) (hn : n < 2 ^ 20) (hc1 : ce + 1 ≤ (zR C).cells) (hc2 : sl + n ≤ (zR C).slots) (k : ∀ q : Nat, Z C (ce + 1) (sl + n) (ws ++ [arI (zcA C) q n (fun _ => 0)]) (pc + 2) lw (.ref q :: st)) : Z C ce sl ws pc lw (.int (nI n) :: st) := by
  obtain ⟨p, l, e, R, s, m, args, below, meth, c, Q, A, D, cA, nL⟩ := C
  obtain ⟨⟨hx, hb, hml, hown, hts⟩, hK, hA⟩ := hC
  intro H locs ls hP hD hS hl
  have hcl := nI_clamp (n := n) (by omega)
  refine va_newa (atype := .int) (ty := .int) (N' := n) (a0 := (n, .inl (aN fun _ => 0))) hx hb (hts _ q31) rfl hK hP hD hS hA (fun cB => ?_) (nI_pos (by omega)) hcl (by show n * componentBytes .int ≤ 536870912; simp only [componentBytes]; omega) hc1 hc2 hd (fun q cB H1 h0 h1 h2 h3 => ?_)
  · show vp_cell cB (n, .inl (aN fun _ => 0)) = _
    rw [vp_cell_i]
    rfl
  · have e1 : s.vm.findClass ("[" ++ (FieldType.int).toString) = some cB := (h0.2 1 (cB, .int) rfl).2
    have e2 : s.vm.findClass ("[" ++ (FieldType.int).toString) = some cA := (hK.2 0 (cA, .int) rfl).2
    have e3 : cB = cA := Option.some.inj (e1.symm.trans e2)
    subst e3
    exact k q H1 locs ls h1 h2 h3 hl
theorem z_new (hC : Fx C cc own) {N ci index : Nat} {Cn : String} {T : u_T} (fs : List Value) (ty : Nat → FieldType) (hc : zCl[ci]? = some (Cn, T, N)) (hin : ∀ w ∈ u_ws Cn T N, w ∈ lw_all) (hty : ∀ k, k < N → parseFieldDescriptor (T k).2.2.1 = some (ty k)) (hcl : Cond.classLink own index Cn ∈ lw_all) (hinst : Cond.instantiable Cn N ∈ lw_all) (hini : Cond.initialized Cn ∈ lw_all) (hfs : ∀ j, j < N → defaultValue (ty j) = vp_V fs j) (hd : decode cc pc = .ok (.new index, 3)) (hc1 : ce + 1 ≤ (zR C).cells) (hc2 : sl + N ≤ (zR C).slots) (k : ∀ q : Nat, Z C (ce + 1) (sl + N) (ws ++ [(q, .inr (ci, fs))]) (pc + 3) lw (.ref q :: st)) : Z C ce sl ws pc lw st := by
  obtain ⟨p, l, e, R, s, m, args, below, meth, c, Q, A, D, cA, nL⟩ := C
  obtain ⟨⟨hx, hb, hml, hown, hts⟩, hK, hA⟩ := hC
  intro H locs ls hP hD hS hl
  exact va_new hx hb hts hin ty hty hown (hts _ hcl) (hts _ hinst) (hts _ hini) hK hP hD hS hA hc hfs hc1 hc2 hd (fun q H1 h1 h2 h3 => k q H1 locs ls h1 h2 h3 hl)
theorem z_objInit (hC : Fx C cc own) {a idx : Nat} (hlink : Cond.methodLink own idx Lib.objectInit ∈ lw_all) (hinst : Cond.instanceMethod Lib.objectInit ∈ lw_all) (hcode : Cond.code Lib.objectInit ⟨#[0xb1]⟩ 1 none ∈ lw_all) (hd : decode cc pc = .ok (.invokespecial idx, 3)) (hf : 1 ≤ (zR C).frames) (hlo : 12 ≤ (zR C).locals) (k : Z C ce sl ws (pc + 3) lw []) : Z C ce sl ws pc lw [.ref a] := by
  obtain ⟨p, l, e, R, s, m, args, below, meth, c, Q, A, D, cA, nL⟩ := C
  obtain ⟨⟨hx, hb, hml, hown, hts⟩, hK, hA⟩ := hC
  intro H locs ls hP hD hS hl
  refine W.objInit hx hb hown (hts _ hlink) (hts _ hinst) (hts _ hcode) rfl (by rw [hml]; exact hl.1) rfl hd hf (by exact hlo) ?_
  exact k H locs ls hP hD hS hl
end ZROWS
def zRm (fr mc ms lo : Nat) : Room := { frames := fr, cells := mc, slots := ms, locals := lo }
/-- a contract of a method without an answer: from the world ws to a world ws' u with post u -/
def Kv (y : MethodName) (cc : ByteArray) (nL fr lo mc ms : Nat) (av : List Value) (ws : ClassId → va_W) {S : Type} (post : S → Prop) (ws' : ClassId → S → va_W) : Prop :=
  ∀ (l : Launch) (D : va_G) (cA : ClassId) (sz : Nat), Met l y (ws_ y cc nL none) (zRm fr mc ms lo) (va_Pc av (fun U => U.heap.size = sz ∧ va_P D zCl (ws cA) U.heap ∧ va_K D zCl [(cA, .int)] U ∧ va_D (fun _ => True) (ws cA)))
    (va_Qv post (fun u t => va_P D zCl (ws' cA u) t.heap ∧ va_K D zCl [(cA, .int)] t ∧ va_D (va_A (ws cA) sz) (ws' cA u)) (va_A (ws cA) sz)) mc ms (va_A (ws cA) sz)
/-- a contract of a method that answers an int -/
def Ki (y : MethodName) (cc : ByteArray) (nL fr lo mc ms : Nat) (av : List Value) (ws : ClassId → va_W) {S : Type} (post : Int32 → S → Prop) (ws' : ClassId → S → va_W) : Prop :=
  ∀ (l : Launch) (D : va_G) (cA : ClassId) (sz : Nat), Met l y (ws_ y cc nL (some .int)) (zRm fr mc ms lo) (va_Pc av (fun U => U.heap.size = sz ∧ va_P D zCl (ws cA) U.heap ∧ va_K D zCl [(cA, .int)] U ∧ va_D (fun _ => True) (ws cA)))
    (va_Qi post (fun u t => va_P D zCl (ws' cA u) t.heap ∧ va_K D zCl [(cA, .int)] t ∧ va_D (va_A (ws cA) sz) (ws' cA u)) (va_A (ws cA) sz)) mc ms (va_A (ws cA) sz)
theorem lh_entry {ls : Array Slot} {nL : Nat} {av : List Value} (hc : ∀ v ∈ av, v.category = 1) (h : lv_has ls nL (lv_args 0 av)) : lh ls nL av := by
  refine ⟨h.1, h.2.1, fun i v hv => ⟨?_, hc v (List.mem_of_getElem? hv)⟩⟩
  have key : ∀ (vs : List Value) (b : Nat), (∀ v ∈ vs, v.category = 1) → ∀ (i : Nat) (v : Value), vs[i]? = some v → (b + i, v) ∈ lv_args b vs := by
    intro vs
    induction vs with
    | nil => intro b _ i v hv; cases i <;> cases hv
    | cons w vs ih =>
      intro b hcs i v hv
      have hw : ¬ w.category = 2 := by rw [hcs w List.mem_cons_self]; decide
      cases i with
      | zero =>
        cases hv
        simp [lv_args]
      | succ i =>
        have h2 := ih (b + 1) (fun v h => hcs v (List.mem_cons_of_mem _ h)) i v (by simpa using hv)
        simp only [lv_args, hw, if_false]
        refine List.mem_cons_of_mem _ ?_
        rw [show b + (i + 1) = b + 1 + i by omega]
        exact h2
  have h2 := key av 0 hc i v hv
  rw [Nat.zero_add] at h2
  exact h.2.2 (i, v) h2
theorem Kv.of {y : MethodName} {cc : ByteArray} {nL fr lo mc ms : Nat} {av : List Value} {ws : ClassId → va_W} {S : Type} {post : S → Prop} {ws' : ClassId → S → va_W} (hy : plainName y.cls = true) (hlen : (lg_sl av).length ≤ nL) (hcat : ∀ v ∈ av, v.category = 1)
    (body : ∀ C : zC, Fx C cc y.cls → zR C = zRm fr mc ms lo → zN C = y.name → zL C = nL → (∀ (u : S), post u → ∀ (pc : Nat) (lw : List Value), decode cc pc = .ok (.return_, 1) → Z C mc ms (ws' (zcA C) u) pc lw []) → Z C 0 0 (ws (zcA C)) 0 av []) : Kv y cc nL fr lo mc ms av ws post ws' := by
  intro l D cA sz
  refine Met.ofW (cc := cc) (maxL := nL) (ret := none) hy rfl ?_
  intro p e s m args below meth c s₁ B hml hv
  obtain ⟨rfl, hsz, hP, hK, hD0⟩ := hv
  have hts := atoms_spec (ws := ws_ y cc nL none) B.pre
  have hts : ∀ w ∈ lw_all, w.before _ s = true := fun w h => hts w (List.mem_cons_of_mem _ h)
  have hown : s.vm.findClass y.cls = some m.cls := findClass_of_methodNamed B.named
  have hlocks := B.notSynchronized
  have hin : meth.name = y.name := (name_of_methodNamed B.named B.method).1
  subst hsz
  have hD := hD0.self (sz := s.heap.size)
  have hl := lv_entry av (n := nL) hlen
  rw [lg_entry_eq]
  generalize (lg_sl av ++ List.replicate (nL - (lg_sl av).length) Slot.unset).toArray = ls at hl ⊢
  have hl := lh_entry hcat hl
  refine body (p, l, e, (headSpec (ws_ y cc nL none) (zRm fr mc ms lo)).room, s, m, av.toArray, below, meth, c, MQ below (va_Qv post (fun u t => va_P D zCl (ws' cA u) t.heap ∧ va_K D zCl [(cA, .int)] t ∧ va_D (va_A (ws cA) s.heap.size) (ws' cA u)) (va_A (ws cA) s.heap.size)) av.toArray s mc ms (va_A (ws cA) s.heap.size), va_A (ws cA) s.heap.size, D, cA, nL) ?_ rfl hin rfl ?_ s.heap [] ls hP hD va_S.rf hl
  · exact ⟨⟨B.exec, B.bytes, hml, hown, hts⟩, hK, fun q h => Or.inr h⟩
  · intro u hu pc lw hd
    intro H locs ls hP hD hS hl
    exact W.vret B.exec B.bytes B.returns (fun t ht hW => ⟨⟨u, rfl, hu, by rw [ht]; exact hP, va_K.moved hW.alike hK, hD⟩, hS.F ht⟩) hS.2.2 hd
theorem Ki.of {y : MethodName} {cc : ByteArray} {nL fr lo mc ms : Nat} {av : List Value} {ws : ClassId → va_W} {S : Type} {post : Int32 → S → Prop} {ws' : ClassId → S → va_W} (hy : plainName y.cls = true) (hlen : (lg_sl av).length ≤ nL) (hcat : ∀ v ∈ av, v.category = 1)
    (body : ∀ C : zC, Fx C cc y.cls → zR C = zRm fr mc ms lo → zN C = y.name → zL C = nL → (∀ (r : Int32) (u : S), post r u → ∀ (pc : Nat) (lw : List Value), decode cc pc = .ok (.ireturn, 1) → Z C mc ms (ws' (zcA C) u) pc lw [.int r]) → Z C 0 0 (ws (zcA C)) 0 av []) : Ki y cc nL fr lo mc ms av ws post ws' := by
  intro l D cA sz
  refine Met.ofW (cc := cc) (maxL := nL) (ret := (some .int)) hy rfl ?_
  intro p e s m args below meth c s₁ B hml hv
  obtain ⟨rfl, hsz, hP, hK, hD0⟩ := hv
  have hts := atoms_spec (ws := ws_ y cc nL (some .int)) B.pre
  have hts : ∀ w ∈ lw_all, w.before _ s = true := fun w h => hts w (List.mem_cons_of_mem _ h)
  have hown : s.vm.findClass y.cls = some m.cls := findClass_of_methodNamed B.named
  have hlocks := B.notSynchronized
  have hin : meth.name = y.name := (name_of_methodNamed B.named B.method).1
  subst hsz
  have hD := hD0.self (sz := s.heap.size)
  have hl := lv_entry av (n := nL) hlen
  rw [lg_entry_eq]
  generalize (lg_sl av ++ List.replicate (nL - (lg_sl av).length) Slot.unset).toArray = ls at hl ⊢
  have hl := lh_entry hcat hl
  refine body (p, l, e, (headSpec (ws_ y cc nL (some .int)) (zRm fr mc ms lo)).room, s, m, av.toArray, below, meth, c, MQ below (va_Qi post (fun u t => va_P D zCl (ws' cA u) t.heap ∧ va_K D zCl [(cA, .int)] t ∧ va_D (va_A (ws cA) s.heap.size) (ws' cA u)) (va_A (ws cA) s.heap.size)) av.toArray s mc ms (va_A (ws cA) s.heap.size), va_A (ws cA) s.heap.size, D, cA, nL) ?_ rfl hin rfl ?_ s.heap [] ls hP hD va_S.rf hl
  · exact ⟨⟨B.exec, B.bytes, hml, hown, hts⟩, hK, fun q h => Or.inr h⟩
  · intro r u hu pc lw hd
    intro H locs ls hP hD hS hl
    exact W.iret B.exec B.bytes B.returns (fun t ht hW => ⟨⟨r, u, rfl, hu, by rw [ht]; exact hP, va_K.moved hW.alike hK, hD⟩, hS.F ht⟩) hS.2.2 hd
section ZCALLS
variable {C : zC} {cc : ByteArray} {own : String} {ce sl : Nat} {ws : va_W} {pc : Nat} {lw st rest : List Value}
/-- a static call of a method that has no world and answers an int -/
theorem z_callS0 (hC : Fx C cc own) {y : MethodName} {cb : ByteArray} {nL index n fr lo : Nat} {As : List Value} {post : Int32 → Unit → Prop} (hk : Ki y cb nL fr lo 0 0 As (fun _ => []) post (fun _ _ => [])) (hw : GoodIn lw_all (va_wsS own index y (ws_ y cb nL (some .int)))) (hd : decode cc pc = .ok (.invokestatic index, 3)) (hn : As.length = n)
    (hy : y.cls ≠ "java/lang/invoke/MethodHandle" ∧ y.cls ≠ "java/lang/invoke/VarHandle" ∧ (parseMethodDescriptor y.desc).map (fun d => d.parameters.length) = some n) (hst : st = As.reverse ++ rest) (hr : (rest.map fun v => v.category).sum ≤ 8) (hR : fr + 1 ≤ (zR C).frames ∧ 8 + (nL + 11) + lo ≤ (zR C).locals) (hc1 : ce ≤ (zR C).cells) (hc2 : sl ≤ (zR C).slots)
    (k : ∀ r : Int32, post r () → Z C ce sl ws (pc + 3) lw (.int r :: rest)) : Z C ce sl ws pc lw st := by
  obtain ⟨p, l, e, R, s, m, args, below, meth, c, Q, A, D, cA, nL⟩ := C
  obtain ⟨⟨hx, hb, hml, hown, hts⟩, hK, hA⟩ := hC
  intro H locs ls hP hD hS hl
  refine va_calli (va_runS (As := As) (rest := rest) ⟨hx, hb, hml, hown, hts⟩ (hk l D cA H.size) (va_cwS n hts hw rfl rfl rfl hy hR) ⟨fun a U g mk q => by obtain ⟨q0, q1, qP, qK, qD⟩ := q; exact ⟨q0, q1, qP, va_K.moved (u := U) (U := U.calling g mk a) (Vm.Alike.refl U.vm) qK, qD⟩, fun U hU hW => ⟨rfl, by rw [hU], (fun k q hq => by cases hq), va_K.moved hW.alike hK, ⟨(fun i j p q hp => by cases hp), (fun k q hq => by cases hq)⟩⟩⟩ rfl hn hl.1 hst (lv_room hr) hd ⟨hc1, hc2⟩) hS (fun q hq h => ?_) (fun q h => ?_) (fun r u t H1 locs1 ht hvm hw1 hB hz1 hk1 hS1 => ?_)
  · rcases h with ⟨k, e, h⟩ | h
    · cases h
    · exact absurd hq (Nat.not_lt.mpr h)
  · rcases h with ⟨k, e, h⟩ | h
    · cases h
    · exact hA q (Nat.le_trans hS.1 h)
  · refine k r hw1 H1 locs1 ls (hP.kept (fun j x hx => hk1 x.1 (hP j x hx).lt (fun h => ?_))) hD hS1 hl
    rcases h with ⟨k, e, h⟩ | h
    · cases h
    · exact absurd (hP j x hx).lt (Nat.not_lt.mpr h)
theorem va_P_map {D : va_G} {cl : List vw_C} {w w' : va_W} {H : Heap} {is : List Nat} (hP : va_P D cl w H) (hs : is.map (fun i => w[i]?) = w'.map some) : va_P D cl w' H := by
  intro j q hj
  have h1 : (is.map (fun i => w[i]?))[j]? = some (some q) := by rw [hs, List.getElem?_map, hj]; rfl
  rw [List.getElem?_map] at h1
  cases hi : is[j]? with
  | none => rw [hi] at h1; cases h1
  | some i =>
    rw [hi] at h1
    have h2 : w[i]? = some q := Option.some.inj h1
    exact hP i q h2
theorem z_callVv (hC : Fx C cc own) (isC isR is2 : List Nat) {wc : ClassId → va_W} {wr : va_W} {S : Type} {post : S → Prop} {wc' : ClassId → S → va_W} {ws2 : S → va_W} {y : MethodName} {cb : ByteArray} {nL index n fr lo mc ms b : Nat} {ci : Nat} {fs : List Value} {q : vw_C} {As : List Value} (hk : Kv y cb nL fr lo mc ms (.ref b :: As) wc post wc') (hw : GoodIn lw_all (wsV own index q.1 y (ws_ y cb nL none))) (hci : zCl[ci]? = some q) (hrc : (wc (zcA C))[0]? = some (b, .inr (ci, fs))) (hd : decode cc pc = .ok (.invokevirtual index, 3)) (hn : As.length = n)
    (hy : y.cls = q.1 ∧ y.cls ≠ "java/lang/invoke/MethodHandle" ∧ y.cls ≠ "java/lang/invoke/VarHandle" ∧ (parseMethodDescriptor y.desc).map (fun d => d.parameters.length) = some n) (hst : st = As.reverse ++ .ref b :: rest) (hr : (rest.map fun v => v.category).sum ≤ 8) (hR : fr + 1 ≤ (zR C).frames ∧ 8 + (nL + 11) + lo ≤ (zR C).locals) (hc1 : ce + mc ≤ (zR C).cells) (hc2 : sl + ms ≤ (zR C).slots)
    (hwc : isC.map (fun i => ws[i]?) = (wc (zcA C)).map some) (hwr : isR.map (fun i => ws[i]?) = wr.map some) (hnC : va_nd isC = true) (hnR : va_nd isR = true) (hdis : ∀ i ∈ isR, i ∉ isC) (hn2 : va_nd is2 = true) (h2 : ∀ u, is2.map (fun i => (wr ++ wc' (zcA C) u)[i]?) = (ws2 u).map some)
    (k : ∀ u : S, post u → Z C (ce + mc) (sl + ms) (ws2 u) (pc + 3) lw rest) : Z C ce sl ws pc lw st := by
  obtain ⟨p, l, e, R, s, m, args, below, meth, c, Q, A, D, cA, nL⟩ := C
  obtain ⟨⟨hx, hb, hml, hown, hts⟩, hK, hA⟩ := hC
  intro H locs ls hP hD hS hl
  have hwc : isC.map (fun i => ws[i]?) = (wc cA).map some := hwc
  have h2 : ∀ u, is2.map (fun i => (wr ++ wc' cA u)[i]?) = (ws2 u).map some := h2
  have hPc : va_P D zCl (wc cA) H := va_P_map hP hwc
  have hDc := hD.sub isC hnC hwc
  have hFc := va_free hD hS hA isC hwc
  refine va_callv (va_runV (As := As) (rest := rest) ⟨hx, hb, hml, hown, hts⟩ (hk l D cA H.size) (cwV n hts hw rfl rfl rfl hy hR) ⟨fun a U g mk q => by obtain ⟨q0, q1, qP, qK, qD⟩ := q; exact ⟨q0, q1, qP, va_K.moved (u := U) (U := U.calling g mk a) (Vm.Alike.refl U.vm) qK, qD⟩, va_recv hK hPc hci hrc, fun U hU hW => ⟨rfl, by rw [hU], by rw [hU]; exact hPc, va_K.moved hW.alike hK, hDc.weaken (fun _ _ _ _ => trivial)⟩⟩ rfl hn hl.1 hst (lv_room hr) hd ⟨hc1, hc2⟩) hS (fun q _ h => hFc q h) hFc (fun u t H1 locs1 ht hvm hw1 hB hz1 hk1 hS1 => ?_)
  obtain ⟨hP1, hK1, hD1⟩ := hB
  rw [ht] at hP1
  obtain ⟨hP2, hD2⟩ := va_join hP hD isC isR hwc hwr hnR hdis hk1 hFc hP1 hD1
  exact k u hw1 H1 locs1 ls (va_P_map hP2 (h2 u)) (hD2.sub is2 hn2 (h2 u)) hS1 hl
theorem z_callVi (hC : Fx C cc own) (isC isR is2 : List Nat) {wc : ClassId → va_W} {wr : va_W} {S : Type} {post : Int32 → S → Prop} {wc' : ClassId → S → va_W} {ws2 : S → va_W} {y : MethodName} {cb : ByteArray} {nL index n fr lo mc ms b : Nat} {ci : Nat} {fs : List Value} {q : vw_C} {As : List Value} (hk : Ki y cb nL fr lo mc ms (.ref b :: As) wc post wc') (hw : GoodIn lw_all (wsV own index q.1 y (ws_ y cb nL (some .int)))) (hci : zCl[ci]? = some q) (hrc : (wc (zcA C))[0]? = some (b, .inr (ci, fs))) (hd : decode cc pc = .ok (.invokevirtual index, 3)) (hn : As.length = n)
    (hy : y.cls = q.1 ∧ y.cls ≠ "java/lang/invoke/MethodHandle" ∧ y.cls ≠ "java/lang/invoke/VarHandle" ∧ (parseMethodDescriptor y.desc).map (fun d => d.parameters.length) = some n) (hst : st = As.reverse ++ .ref b :: rest) (hr : (rest.map fun v => v.category).sum ≤ 8) (hR : fr + 1 ≤ (zR C).frames ∧ 8 + (nL + 11) + lo ≤ (zR C).locals) (hc1 : ce + mc ≤ (zR C).cells) (hc2 : sl + ms ≤ (zR C).slots)
    (hwc : isC.map (fun i => ws[i]?) = (wc (zcA C)).map some) (hwr : isR.map (fun i => ws[i]?) = wr.map some) (hnC : va_nd isC = true) (hnR : va_nd isR = true) (hdis : ∀ i ∈ isR, i ∉ isC) (hn2 : va_nd is2 = true) (h2 : ∀ u, is2.map (fun i => (wr ++ wc' (zcA C) u)[i]?) = (ws2 u).map some)
    (k : ∀ (r : Int32) (u : S), post r u → Z C (ce + mc) (sl + ms) (ws2 u) (pc + 3) lw (.int r :: rest)) : Z C ce sl ws pc lw st := by
  obtain ⟨p, l, e, R, s, m, args, below, meth, c, Q, A, D, cA, nL⟩ := C
  obtain ⟨⟨hx, hb, hml, hown, hts⟩, hK, hA⟩ := hC
  intro H locs ls hP hD hS hl
  have hwc : isC.map (fun i => ws[i]?) = (wc cA).map some := hwc
  have h2 : ∀ u, is2.map (fun i => (wr ++ wc' cA u)[i]?) = (ws2 u).map some := h2
  have hPc : va_P D zCl (wc cA) H := va_P_map hP hwc
  have hDc := hD.sub isC hnC hwc
  have hFc := va_free hD hS hA isC hwc
  refine va_calli (va_runV (As := As) (rest := rest) ⟨hx, hb, hml, hown, hts⟩ (hk l D cA H.size) (cwV n hts hw rfl rfl rfl hy hR) ⟨fun a U g mk q => by obtain ⟨q0, q1, qP, qK, qD⟩ := q; exact ⟨q0, q1, qP, va_K.moved (u := U) (U := U.calling g mk a) (Vm.Alike.refl U.vm) qK, qD⟩, va_recv hK hPc hci hrc, fun U hU hW => ⟨rfl, by rw [hU], by rw [hU]; exact hPc, va_K.moved hW.alike hK, hDc.weaken (fun _ _ _ _ => trivial)⟩⟩ rfl hn hl.1 hst (lv_room hr) hd ⟨hc1, hc2⟩) hS (fun q _ h => hFc q h) hFc (fun r u t H1 locs1 ht hvm hw1 hB hz1 hk1 hS1 => ?_)
  obtain ⟨hP1, hK1, hD1⟩ := hB
  rw [ht] at hP1
  obtain ⟨hP2, hD2⟩ := va_join hP hD isC isR hwc hwr hnR hdis hk1 hFc hP1 hD1
  exact k r u hw1 H1 locs1 ls (va_P_map hP2 (h2 u)) (hD2.sub is2 hn2 (h2 u)) hS1 hl
theorem z_callI (hC : Fx C cc own) (isC isR is2 : List Nat) {wc : ClassId → va_W} {wr : va_W} {S : Type} {post : S → Prop} {wc' : ClassId → S → va_W} {ws2 : S → va_W} {y : MethodName} {cb : ByteArray} {nL index n fr lo mc ms b : Nat} {As : List Value} (hk : Kv y cb nL fr lo mc ms (.ref b :: As) wc post wc') (hw : GoodIn lw_all (ws_ y cb nL none)) (hini : Cond.initialized y.cls ∈ lw_all) (hlk : Cond.methodLink own index y ∈ lw_all) (him : Cond.instanceMethod y ∈ lw_all) (hy1 : y.name = "<init>") (hd : decode cc pc = .ok (.invokespecial index, 3)) (hn : As.length = n)
    (hy : y.cls ≠ "java/lang/invoke/MethodHandle" ∧ y.cls ≠ "java/lang/invoke/VarHandle" ∧ (parseMethodDescriptor y.desc).map (fun d => d.parameters.length) = some n) (hst : st = As.reverse ++ .ref b :: rest) (hr : (rest.map fun v => v.category).sum ≤ 8) (hR : fr + 1 ≤ (zR C).frames ∧ 8 + (nL + 11) + lo ≤ (zR C).locals) (hc1 : ce + mc ≤ (zR C).cells) (hc2 : sl + ms ≤ (zR C).slots)
    (hwc : isC.map (fun i => ws[i]?) = (wc (zcA C)).map some) (hwr : isR.map (fun i => ws[i]?) = wr.map some) (hnC : va_nd isC = true) (hnR : va_nd isR = true) (hdis : ∀ i ∈ isR, i ∉ isC) (hn2 : va_nd is2 = true) (h2 : ∀ u, is2.map (fun i => (wr ++ wc' (zcA C) u)[i]?) = (ws2 u).map some)
    (k : ∀ u : S, post u → Z C (ce + mc) (sl + ms) (ws2 u) (pc + 3) lw rest) : Z C ce sl ws pc lw st := by
  obtain ⟨p, l, e, R, s, m, args, below, meth, c, Q, A, D, cA, nL⟩ := C
  obtain ⟨⟨hx, hb, hml, hown, hts⟩, hK, hA⟩ := hC
  intro H locs ls hP hD hS hl
  have hwc : isC.map (fun i => ws[i]?) = (wc cA).map some := hwc
  have h2 : ∀ u, is2.map (fun i => (wr ++ wc' cA u)[i]?) = (ws2 u).map some := h2
  have hPc : va_P D zCl (wc cA) H := va_P_map hP hwc
  have hDc := hD.sub isC hnC hwc
  have hFc := va_free hD hS hA isC hwc
  refine va_callv (va_runI (As := As) (rest := rest) ⟨hx, hb, hml, hown, hts⟩ (hk l D cA H.size) (cwI n hts hw rfl rfl rfl (hts _ hini) (hts _ hlk) (hts _ him) hy1 hy hR) ⟨fun a U g mk q => by obtain ⟨q0, q1, qP, qK, qD⟩ := q; exact ⟨q0, q1, qP, va_K.moved (u := U) (U := U.calling g mk a) (Vm.Alike.refl U.vm) qK, qD⟩, fun U hU hW => ⟨rfl, by rw [hU], by rw [hU]; exact hPc, va_K.moved hW.alike hK, hDc.weaken (fun _ _ _ _ => trivial)⟩⟩ rfl hn hl.1 hst (lv_room hr) hd ⟨hc1, hc2⟩) hS (fun q _ h => hFc q h) hFc (fun u t H1 locs1 ht hvm hw1 hB hz1 hk1 hS1 => ?_)
  obtain ⟨hP1, hK1, hD1⟩ := hB
  rw [ht] at hP1
  obtain ⟨hP2, hD2⟩ := va_join hP hD isC isR hwc hwr hnR hdis hk1 hFc hP1 hD1
  exact k u hw1 H1 locs1 ls (va_P_map hP2 (h2 u)) (hD2.sub is2 hn2 (h2 u)) hS1 hl
end ZCALLS
/-- the script of the law, which no walk changes -/
def zX (C : zC) (b L : Nat) (xs : Nat → Int32) : Prop :=
  match C with
  | (_, _, _, _, s, _, _, _, _, _, _, A, _, _, _) => va_X b L xs s s.heap ∧ b < s.heap.size ∧ ¬ A b
section ZSCRIPT
variable {C : zC} {cc : ByteArray} {own : String} {ce sl : Nat} {ws : va_W} {pc : Nat} {lw st : List Value}
theorem z_sld (hC : Fx C cc own) {b L i : Nat} {xs : Nat → Int32} (hX : zX C b L xs) (hd : decode cc pc = .ok (.iaload, 1)) (hi : i < L) (hL : L < 2 ^ 31) (k : Z C ce sl ws (pc + 1) lw (.int (xs i) :: st)) : Z C ce sl ws pc lw (.int (nI i) :: .ref b :: st) := by
  obtain ⟨p, l, e, R, s, m, args, below, meth, c, Q, A, D, cA, nL⟩ := C
  obtain ⟨⟨hx, hb, hml, hown, hts⟩, hK, hA⟩ := hC
  intro H locs ls hP hD hS hl
  obtain ⟨h1, h2, h3⟩ := hX
  refine va_sld hx hb h1 h2 h3 hS (vp_in_nI hi hL) hd ?_
  rw [nI_clamp (Nat.lt_trans hi hL)]
  exact k H locs ls hP hD hS hl
theorem z_slen (hC : Fx C cc own) {b L : Nat} {xs : Nat → Int32} (hX : zX C b L xs) (hd : decode cc pc = .ok (.arraylength, 1)) (k : Z C ce sl ws (pc + 1) lw (.int (nI L) :: st)) : Z C ce sl ws pc lw (.ref b :: st) := by
  obtain ⟨p, l, e, R, s, m, args, below, meth, c, Q, A, D, cA, nL⟩ := C
  obtain ⟨⟨hx, hb, hml, hown, hts⟩, hK, hA⟩ := hC
  intro H locs ls hP hD hS hl
  obtain ⟨h1, h2, h3⟩ := hX
  exact va_slen hx hb h1 h2 h3 hS hd (k H locs ls hP hD hS hl)
end ZSCRIPT
end
section
/-! pure rows: Java's remainder made positive; what the loops over a register do -/
def smN (v : Nat) : Nat := if v < 2147483648 then v % 3329 else (3329 - (4294967296 - v) % 3329) % 3329
theorem smN_lt (v : Nat) : smN v < 3329 := by
  unfold smN
  split
  · omega
  · omega
theorem nI_wrap (v : Nat) (h : v ≤ 4294967296) : nI v = -nI (4294967296 - v) := by
  have h1 : nI v + nI (4294967296 - v) = 0 := by
    rw [nI_add, show v + (4294967296 - v) = 4294967296 by omega]
    decide
  have h2 : nI v = 0 - nI (4294967296 - v) := by
    rw [← h1]
    grind
  rw [h2]
  grind
theorem zp_ndiv {w : Nat} (hw : w < 2 ^ 31) : (-nI w) / nI 3329 = -nI (w / 3329) := by
  apply Int32.toInt_inj.mp
  have h100 : (nI 3329).toInt = 3329 := by decide
  rw [Int32.toInt_div, sb_negT hw, h100, sb_negT (by omega), Int.neg_tdiv, Int.tdiv_eq_ediv_of_nonneg (by omega), Int.bmod_eq_of_le (by omega) (by omega)]
  omega
theorem zp_nrem {w : Nat} (hw : w < 2 ^ 31) : (-nI w) - (-nI w) / nI 3329 * nI 3329 = -nI (w % 3329) := by
  have h := pk_rem (a := w) (d := 3329) hw (by decide) (by decide)
  rw [pk_div hw (by decide) (by decide)] at h
  rw [← h, zp_ndiv hw]
  grind
/-- Java's v % 3329, then + 3329 if it is below 0 -/
theorem zp_small (v : Nat) (hv : v < 2 ^ 32) : (0 ≤ nI v - nI v / nI 3329 * nI 3329 → nI v - nI v / nI 3329 * nI 3329 = nI (smN v)) ∧ (¬ 0 ≤ nI v - nI v / nI 3329 * nI 3329 → nI v - nI v / nI 3329 * nI 3329 + nI 3329 = nI (smN v)) := by
  by_cases h : v < 2147483648
  · have e := pk_rem (a := v) (d := 3329) (by omega) (by decide) (by decide)
    rw [e]
    have e2 : smN v = v % 3329 := by unfold smN; rw [if_pos h]
    rw [e2]
    refine ⟨fun _ => rfl, fun h2 => absurd (nI_pos' (n := v % 3329) (by omega)) h2⟩
  · by_cases hm : v = 2147483648
    · subst hm
      decide
    · have e2 : smN v = (3329 - (4294967296 - v) % 3329) % 3329 := by unfold smN; rw [if_neg h]
      rw [nI_wrap v (by omega), zp_nrem (w := 4294967296 - v) (by omega), e2]
      generalize hw : (4294967296 - v) % 3329 = w
      have hw2 : w < 3329 := by omega
      by_cases h0 : w = 0
      · subst h0
        decide
      · refine ⟨fun h2 => ?_, fun _ => ?_⟩
        · exfalso
          rw [Int32.le_iff_toInt_le, sb_negT (by omega), show (0 : Int32).toInt = 0 from by decide] at h2
          omega
        · rw [show (3329 - w) % 3329 = 3329 - w by omega, ← pk_sub (by omega)]
          grind
theorem zp_subGe {a b : Nat} (ha : a < 2 ^ 30) (hb : b < 2 ^ 30) : 0 ≤ nI a - nI b ↔ b ≤ a := by
  rw [Int32.le_iff_toInt_le, pk_sub_toInt ha hb, show (0 : Int32).toInt = 0 from by decide]
  omega
theorem zp_subAdd {a b c : Nat} (h : b ≤ a + c) : nI a - nI b + nI c = nI (a + c - b) := by
  rw [← pk_sub h, ← nI_add]
  grind
/-- a register's cells below place i hold F, the rest is as before -/
def blkI (r i : Nat) (F R : Nat → Nat) : Nat → Nat := fun j => if 256 * (r % 4) ≤ j ∧ j < 256 * (r % 4) + i then F (j - 256 * (r % 4)) else R j
theorem blk_0 (r : Nat) (F R : Nat → Nat) : ∀ j, j < 1024 → R j = blkI r 0 F R j := by
  intro j _
  unfold blkI
  rw [if_neg (by omega)]
theorem blk_step {r i : Nat} {F R u : Nat → Nat} {v : Nat} (hu : ∀ j, j < 1024 → u j = blkI r i F R j) (hv : v = F i) : ∀ j, j < 1024 → updN u (256 * (r % 4) + i) v j = blkI r (i + 1) F R j := by
  intro j hj
  by_cases e : j = 256 * (r % 4) + i
  · subst e
    rw [updN_s, hv]
    unfold blkI
    rw [if_pos (by omega), show 256 * (r % 4) + i - 256 * (r % 4) = i by omega]
  · rw [updN_n e, hu j hj]
    unfold blkI
    by_cases h : 256 * (r % 4) ≤ j ∧ j < 256 * (r % 4) + i
    · rw [if_pos h, if_pos (by omega)]
    · rw [if_neg h, if_neg (by omega)]
theorem blk_read {r i p k : Nat} {F R u : Nat → Nat} (hu : ∀ j, j < 1024 → u j = blkI r i F R j) (hk : i ≤ k) (hk2 : k < 256) : u (256 * (p % 4) + k) = R (256 * (p % 4) + k) := by
  rw [hu _ (by omega)]
  unfold blkI
  rw [if_neg (by omega)]
theorem blk_lt {r i : Nat} {F R : Nat → Nat} (hR : ∀ j, j < 1024 → R j < 3329) (hF : ∀ k, k < 256 → F k < 3329) (hi : i ≤ 256) : ∀ j, j < 1024 → blkI r i F R j < 3329 := by
  intro j hj
  unfold blkI
  split
  · exact hF _ (by omega)
  · exact hR j hj
theorem blk_congr {r i : Nat} {F G R : Nat → Nat} (h : ∀ k, k < i → F k = G k) : ∀ j, blkI r i F R j = blkI r i G R j := by
  intro j
  unfold blkI
  split
  · exact h _ (by omega)
  · rfl
theorem zp_div2 (X : Nat) : (X * 2 + 3329) / 6658 = (X + 1664) / 3329 := by omega
end
section
/-! the worlds: RingDesk with what it holds (addresses q 0 .. q 7), the model (q 0 .. q 2) -/
def wD (cA : ClassId) (q : Nat → Nat) (r o t p f s : Nat → Nat) : va_W :=
  [(q 0, .inr (0, [.ref (q 1), .ref (q 2), .ref (q 3), .ref (q 4)])), arI cA (q 1) 1024 r, arI cA (q 2) 256 o, arI cA (q 3) 256 t, (q 4, .inr (1, [.ref (q 5), .ref (q 6), .ref (q 7)])), arI cA (q 5) 128 p, arI cA (q 6) 256 f, arI cA (q 7) 256 s]
def wM (cA : ClassId) (q : Nat → Nat) (f z : Nat → Nat) : va_W :=
  [(q 0, .inr (2, [.ref (q 1), .ref (q 2)])), arI cA (q 1) 1024 f, arI cA (q 2) 512 z]
/-- Transform.there, back: the object, powers, the array -/
def wT (cA : ClassId) (q : Nat → Nat) (b : Nat) (p a : Nat → Nat) : va_W :=
  [(q 4, .inr (1, [.ref (q 5), .ref (q 6), .ref (q 7)])), arI cA (q 5) 128 p, arI cA b 256 a]
/-- Transform.pair: the object, first, second -/
def wP (cA : ClassId) (q : Nat → Nat) (f s : Nat → Nat) : va_W :=
  [(q 4, .inr (1, [.ref (q 5), .ref (q 6), .ref (q 7)])), arI cA (q 6) 256 f, arI cA (q 7) 256 s]
/-- Transform.multiply(one, two, one): the object, powers, first, second, one, two -/
def wX (cA : ClassId) (q : Nat → Nat) (p f s o t : Nat → Nat) : va_W :=
  [(q 4, .inr (1, [.ref (q 5), .ref (q 6), .ref (q 7)])), arI cA (q 5) 128 p, arI cA (q 6) 256 f, arI cA (q 7) 256 s, arI cA (q 2) 256 o, arI cA (q 3) 256 t]
section WORLDS
variable {cA : ClassId} {q : Nat → Nat} {b : Nat} {r o t p f s a z : Nat → Nat}
theorem wD_0 : (wD cA q r o t p f s)[0]? = some (q 0, .inr (0, [.ref (q 1), .ref (q 2), .ref (q 3), .ref (q 4)])) := rfl
theorem wD_1 : (wD cA q r o t p f s)[1]? = some (arI cA (q 1) 1024 r) := rfl
theorem wD_2 : (wD cA q r o t p f s)[2]? = some (arI cA (q 2) 256 o) := rfl
theorem wD_3 : (wD cA q r o t p f s)[3]? = some (arI cA (q 3) 256 t) := rfl
theorem wD_s1 : ∀ g : Nat → Nat, (wD cA q r o t p f s).set 1 (arI cA (q 1) 1024 g) = wD cA q g o t p f s := fun _ => rfl
theorem wD_s2 : ∀ g : Nat → Nat, (wD cA q r o t p f s).set 2 (arI cA (q 2) 256 g) = wD cA q r g t p f s := fun _ => rfl
theorem wD_s3 : ∀ g : Nat → Nat, (wD cA q r o t p f s).set 3 (arI cA (q 3) 256 g) = wD cA q r o g p f s := fun _ => rfl
theorem wM_0 : (wM cA q f z)[0]? = some (q 0, .inr (2, [.ref (q 1), .ref (q 2)])) := rfl
theorem wM_1 : (wM cA q f z)[1]? = some (arI cA (q 1) 1024 f) := rfl
theorem wM_2 : (wM cA q f z)[2]? = some (arI cA (q 2) 512 z) := rfl
theorem wM_s1 : ∀ g : Nat → Nat, (wM cA q f z).set 1 (arI cA (q 1) 1024 g) = wM cA q g z := fun _ => rfl
theorem wM_s2 : ∀ g : Nat → Nat, (wM cA q f z).set 2 (arI cA (q 2) 512 g) = wM cA q f g := fun _ => rfl
theorem wT_0 : (wT cA q b p a)[0]? = some (q 4, .inr (1, [.ref (q 5), .ref (q 6), .ref (q 7)])) := rfl
theorem wT_1 : (wT cA q b p a)[1]? = some (arI cA (q 5) 128 p) := rfl
theorem wT_2 : (wT cA q b p a)[2]? = some (arI cA b 256 a) := rfl
theorem wT_s2 : ∀ g : Nat → Nat, (wT cA q b p a).set 2 (arI cA b 256 g) = wT cA q b p g := fun _ => rfl
theorem wP_0 : (wP cA q f s)[0]? = some (q 4, .inr (1, [.ref (q 5), .ref (q 6), .ref (q 7)])) := rfl
theorem wP_1 : (wP cA q f s)[1]? = some (arI cA (q 6) 256 f) := rfl
theorem wP_2 : (wP cA q f s)[2]? = some (arI cA (q 7) 256 s) := rfl
theorem wP_s1 : ∀ g : Nat → Nat, (wP cA q f s).set 1 (arI cA (q 6) 256 g) = wP cA q g s := fun _ => rfl
theorem wX_0 : (wX cA q p f s o t)[0]? = some (q 4, .inr (1, [.ref (q 5), .ref (q 6), .ref (q 7)])) := rfl
theorem wX_1 : (wX cA q p f s o t)[1]? = some (arI cA (q 5) 128 p) := rfl
theorem wX_2 : (wX cA q p f s o t)[2]? = some (arI cA (q 6) 256 f) := rfl
theorem wX_3 : (wX cA q p f s o t)[3]? = some (arI cA (q 7) 256 s) := rfl
theorem wX_4 : (wX cA q p f s o t)[4]? = some (arI cA (q 2) 256 o) := rfl
theorem wX_5 : (wX cA q p f s o t)[5]? = some (arI cA (q 3) 256 t) := rfl
theorem wX_s2 : ∀ g : Nat → Nat, (wX cA q p f s o t).set 2 (arI cA (q 6) 256 g) = wX cA q p g s o t := fun _ => rfl
theorem wX_s3 : ∀ g : Nat → Nat, (wX cA q p f s o t).set 3 (arI cA (q 7) 256 g) = wX cA q p f g o t := fun _ => rfl
theorem wX_s4 : ∀ g : Nat → Nat, (wX cA q p f s o t).set 4 (arI cA (q 2) 256 g) = wX cA q p f s g t := fun _ => rfl
end WORLDS
end
section
/-! RingDesk: from, small, bits -/
set_option maxRecDepth 100000
theorem k_from {r : Nat} (h : r < 2 ^ 32) : Ki yX0_from cX0_from 1 0 0 0 0 [.int (nI r)] (fun _ => []) (fun v (_ : Unit) => v = nI (256 * (r % 4))) (fun _ _ => []) := by
  refine Ki.of (by decide) (Nat.le_of_ble_eq_true rfl) (by simp [Value.category]) ?_
  intro C hC hR hN hL hret
  refine z_sipush hC 256 dX0_from_0 (by decide) ?_
  refine z_iload_n hC dX0_from_3 rfl rfl ?_
  refine z_iconst hC 3 dX0_from_4 (by decide) ?_
  refine z_iand hC 4 2 dX0_from_5 (by decide) (by decide) (by decide) rfl ?_
  refine z_imul hC dX0_from_6 ?_
  exact hret _ () rfl _ _ dX0_from_7
theorem k_small {v : Nat} (h : v < 2 ^ 32) : Ki yX0_small cX0_small 2 0 0 0 0 [.int (nI v)] (fun _ => []) (fun x (_ : Unit) => x = nI (smN v)) (fun _ _ => []) := by
  refine Ki.of (by decide) (Nat.le_of_ble_eq_true rfl) (by simp [Value.category]) ?_
  intro C hC hR hN hL hret
  have hs := zp_small v h
  refine z_iload_n hC dX0_small_0 rfl rfl ?_
  refine z_sipush hC 3329 dX0_small_1 (by decide) ?_
  refine z_iremR hC dX0_small_4 (by decide) ?_
  refine z_istore_n hC dX0_small_5 rfl hL (by decide) (Nat.le_of_ble_eq_true rfl) ?_
  refine z_iload_n hC dX0_small_6 rfl rfl ?_
  refine z_if_geR (tgt := 18) hC dX0_small_7 (by decide) (fun hc7 => ?_) (fun hc7 => ?_)
  · refine z_iload_n hC dX0_small_18 rfl rfl ?_
    rw [hs.1 hc7]
    exact hret _ () rfl _ _ dX0_small_19
  · refine z_iload_n hC dX0_small_10 rfl rfl ?_
    refine z_sipush hC 3329 dX0_small_11 (by decide) ?_
    refine z_iaddR hC dX0_small_14 ?_
    refine z_goto (tgt := 19) hC dX0_small_15 (by decide) ?_
    rw [hs.2 hc7]
    exact hret _ () rfl _ _ dX0_small_19
theorem k_bits {d : Nat} (h : d < 2 ^ 32) : Ki yX0_bits cX0_bits 1 0 0 0 0 [.int (nI d)] (fun _ => []) (fun x (_ : Unit) => x = nI (1 + d % 2147483648 % 11)) (fun _ _ => []) := by
  refine Ki.of (by decide) (Nat.le_of_ble_eq_true rfl) (by simp [Value.category]) ?_
  intro C hC hR hN hL hret
  refine z_iconst hC 1 dX0_bits_0 (by decide) ?_
  refine z_iload_n hC dX0_bits_1 rfl rfl ?_
  refine z_ldc hC 2147483647 dX0_bits_2 q94 (by decide) ?_
  refine z_iand hC 2147483648 31 dX0_bits_4 (by decide) (by decide) (by decide) rfl ?_
  refine z_bipush hC 11 dX0_bits_5 (by decide) ?_
  refine z_irem hC dX0_bits_7 (by omega) (by decide) (by decide) ?_
  refine z_iadd hC dX0_bits_8 ?_
  exact hret _ () rfl _ _ dX0_bits_9
end
section
/-! RingDesk: put, add, subtract, at -/
set_option maxRecDepth 100000
section X0OPS
variable {C : zC} {q : Nat → Nat} {R o t pw f s : Nat → Nat} {r p w : Nat}
def putS (R : Nat → Nat) (r k x y : Nat) : Nat → Nat := updN (updN R (256 * (r % 4) + k % 256) (smN x)) (256 * (r % 4) + (k + 1) % 256) (smN y)
theorem k_put {k x y : Nat} (hr : r < 2 ^ 32) (hx : x < 2 ^ 32) (hy : y < 2 ^ 32) : Kv yX0_put cX0_put 5 1 21 0 0 [.ref (q 0), .int (nI r), .int (nI k), .int (nI x), .int (nI y)] (fun cA => wD cA q R o t pw f s) (fun u : Nat → Nat => u = putS R r k x y) (fun cA u => wD cA q u o t pw f s) := by
  refine Kv.of (by decide) (Nat.le_of_ble_eq_true rfl) (by simp [Value.category]) ?_
  intro C hC hR hN hL hret
  refine z_aload_n hC dX0_put_0 rfl rfl ?_
  refine z_get hC 0 wD_0 rfl in_X0 0 (by decide) q32 rfl dX0_put_1 ?_
  refine z_iload_n hC dX0_put_4 rfl rfl ?_
  refine z_callS0 (n := 1) hC (k_from hr) (lw_S q49 q50 q4 q51) dX0_put_5 rfl (by decide +kernel) rfl (Nat.le_of_ble_eq_true rfl) (by rw [hR]; exact ⟨Nat.le_of_ble_eq_true rfl, Nat.le_of_ble_eq_true rfl⟩) (Nat.zero_le _) (Nat.zero_le _) (fun r9 e9 => ?_)
  subst e9
  refine z_iload_n hC dX0_put_8 rfl rfl ?_
  refine z_sipush hC 255 dX0_put_9 (by decide) ?_
  refine z_iand hC 256 8 dX0_put_12 (by decide) (by decide) (by decide) rfl ?_
  refine z_iadd hC dX0_put_13 ?_
  refine z_iload_n hC dX0_put_14 rfl rfl ?_
  refine z_callS0 (n := 1) hC (k_small hx) (lw_S q52 q53 q4 q54) dX0_put_15 rfl (by decide +kernel) rfl (Nat.le_of_ble_eq_true rfl) (by rw [hR]; exact ⟨Nat.le_of_ble_eq_true rfl, Nat.le_of_ble_eq_true rfl⟩) (Nat.zero_le _) (Nat.zero_le _) (fun r9 e9 => ?_)
  subst e9
  refine z_iast hC 1 wD_1 wD_s1 dX0_put_18 (by omega) (by decide) ?_
  refine z_aload_n hC dX0_put_19 rfl rfl ?_
  refine z_get hC 0 wD_0 rfl in_X0 0 (by decide) q32 rfl dX0_put_20 ?_
  refine z_iload_n hC dX0_put_23 rfl rfl ?_
  refine z_callS0 (n := 1) hC (k_from hr) (lw_S q49 q50 q4 q51) dX0_put_24 rfl (by decide +kernel) rfl (Nat.le_of_ble_eq_true rfl) (by rw [hR]; exact ⟨Nat.le_of_ble_eq_true rfl, Nat.le_of_ble_eq_true rfl⟩) (Nat.zero_le _) (Nat.zero_le _) (fun r9 e9 => ?_)
  subst e9
  refine z_iload_n hC dX0_put_27 rfl rfl ?_
  refine z_iconst hC 1 dX0_put_28 (by decide) ?_
  refine z_iadd hC dX0_put_29 ?_
  refine z_sipush hC 255 dX0_put_30 (by decide) ?_
  refine z_iand hC 256 8 dX0_put_33 (by decide) (by decide) (by decide) rfl ?_
  refine z_iadd hC dX0_put_34 ?_
  refine z_iload hC dX0_put_35 rfl ?_
  refine z_callS0 (n := 1) hC (k_small hy) (lw_S q52 q53 q4 q54) dX0_put_37 rfl (by decide +kernel) rfl (Nat.le_of_ble_eq_true rfl) (by rw [hR]; exact ⟨Nat.le_of_ble_eq_true rfl, Nat.le_of_ble_eq_true rfl⟩) (Nat.zero_le _) (Nat.zero_le _) (fun r9 e9 => ?_)
  subst e9
  refine z_iast hC 1 wD_1 wD_s1 dX0_put_40 (by omega) (by decide) ?_
  exact hret _ rfl _ _ dX0_put_41
theorem k_at {k : Nat} (hr : r < 2 ^ 32) : Ki yX0_at cX0_at 3 1 21 0 0 [.ref (q 0), .int (nI r), .int (nI k)] (fun cA => wD cA q R o t pw f s) (fun v (_ : Unit) => v = nI (R (256 * (r % 4) + k % 256))) (fun cA _ => wD cA q R o t pw f s) := by
  refine Ki.of (by decide) (Nat.le_of_ble_eq_true rfl) (by simp [Value.category]) ?_
  intro C hC hR hN hL hret
  refine z_aload_n hC dX0_at_0 rfl rfl ?_
  refine z_get hC 0 wD_0 rfl in_X0 0 (by decide) q32 rfl dX0_at_1 ?_
  refine z_iload_n hC dX0_at_4 rfl rfl ?_
  refine z_callS0 (n := 1) hC (k_from hr) (lw_S q49 q50 q4 q51) dX0_at_5 rfl (by decide +kernel) rfl (Nat.le_of_ble_eq_true rfl) (by rw [hR]; exact ⟨Nat.le_of_ble_eq_true rfl, Nat.le_of_ble_eq_true rfl⟩) (Nat.zero_le _) (Nat.zero_le _) (fun r9 e9 => ?_)
  subst e9
  refine z_iload_n hC dX0_at_8 rfl rfl ?_
  refine z_sipush hC 255 dX0_at_9 (by decide) ?_
  refine z_iand hC 256 8 dX0_at_12 (by decide) (by decide) (by decide) rfl ?_
  refine z_iadd hC dX0_at_13 ?_
  refine z_iald hC 1 wD_1 dX0_at_14 (by omega) (by decide) ?_
  exact hret _ () rfl _ _ dX0_at_15
def fAdd (R : Nat → Nat) (p w : Nat) : Nat → Nat := fun i => (R (256 * (p % 4) + i) + R (256 * (w % 4) + i)) % 3329
def fSub (R : Nat → Nat) (p w : Nat) : Nat → Nat := fun i => (R (256 * (p % 4) + i) + 3329 - R (256 * (w % 4) + i)) % 3329
theorem l_add (hC : Fx C cX0_add RX0) (hR : zR C = zRm 1 0 0 21) (hL : zL C = 6) (hr : r < 2 ^ 32) (hp : p < 2 ^ 32) (hw : w < 2 ^ 32) (hb : ∀ j, j < 1024 → R j < 3329)
    (hret : ∀ u : Nat → Nat, (∀ j, j < 1024 → u j = blkI r 256 (fAdd R p w) R j) → ∀ (pc : Nat) (lw : List Value), decode cX0_add pc = .ok (.return_, 1) → Z C 0 0 (wD (zcA C) q u o t pw f s) pc lw []) :
    ∀ (n i : Nat) (u : Nat → Nat), i ≤ 256 → 257 ≤ i + n → (∀ j, j < 1024 → u j = blkI r i (fAdd R p w) R j) → Z C 0 0 (wD (zcA C) q u o t pw f s) 3 [.ref (q 0), .int (nI r), .int (nI p), .int (nI w), .int (nI i)] [] := by
  intro n
  induction n with
  | zero => intro i u h1 h2; omega
  | succ n ih =>
    intro i u hi hn hu
    refine z_iload hC dX0_add_3 rfl ?_
    refine z_sipush hC 256 dX0_add_5 (by decide) ?_
    refine z_icmp_ge (tgt := 75) hC (by omega) (by omega) dX0_add_8 (by decide) (fun hc8 => ?_) (fun hc8 => ?_)
    · obtain rfl : i = 256 := by omega
      exact hret u hu _ _ dX0_add_75
    · have e1 := blk_read (p := p) hu (Nat.le_refl i) hc8
      have e2 := blk_read (p := w) hu (Nat.le_refl i) hc8
      have b1 := hb (256 * (p % 4) + i) (by omega)
      have b2 := hb (256 * (w % 4) + i) (by omega)
      refine z_aload_n hC dX0_add_11 rfl rfl ?_
      refine z_get hC 0 wD_0 rfl in_X0 0 (by decide) q32 rfl dX0_add_12 ?_
      refine z_iload_n hC dX0_add_15 rfl rfl ?_
      refine z_callS0 (n := 1) hC (k_from hp) (lw_S q49 q50 q4 q51) dX0_add_16 rfl (by decide +kernel) rfl (Nat.le_of_ble_eq_true rfl) (by rw [hR]; exact ⟨Nat.le_of_ble_eq_true rfl, Nat.le_of_ble_eq_true rfl⟩) (Nat.zero_le _) (Nat.zero_le _) (fun r9 e9 => ?_)
      subst e9
      refine z_iload hC dX0_add_19 rfl ?_
      refine z_iadd hC dX0_add_21 ?_
      refine z_iald hC 1 wD_1 dX0_add_22 (by omega) (by decide) ?_
      refine z_aload_n hC dX0_add_23 rfl rfl ?_
      refine z_get hC 0 wD_0 rfl in_X0 0 (by decide) q32 rfl dX0_add_24 ?_
      refine z_iload_n hC dX0_add_27 rfl rfl ?_
      refine z_callS0 (n := 1) hC (k_from hw) (lw_S q49 q50 q4 q51) dX0_add_28 rfl (by decide +kernel) rfl (Nat.le_of_ble_eq_true rfl) (by rw [hR]; exact ⟨Nat.le_of_ble_eq_true rfl, Nat.le_of_ble_eq_true rfl⟩) (Nat.zero_le _) (Nat.zero_le _) (fun r9 e9 => ?_)
      subst e9
      refine z_iload hC dX0_add_31 rfl ?_
      refine z_iadd hC dX0_add_33 ?_
      refine z_iald hC 1 wD_1 dX0_add_34 (by omega) (by decide) ?_
      refine z_iadd hC dX0_add_35 ?_
      refine z_istore hC dX0_add_36 hL (by decide) (Nat.le_of_ble_eq_true rfl) ?_
      refine z_aload_n hC dX0_add_38 rfl rfl ?_
      refine z_get hC 0 wD_0 rfl in_X0 0 (by decide) q32 rfl dX0_add_39 ?_
      refine z_iload_n hC dX0_add_42 rfl rfl ?_
      refine z_callS0 (n := 1) hC (k_from hr) (lw_S q49 q50 q4 q51) dX0_add_43 rfl (by decide +kernel) rfl (Nat.le_of_ble_eq_true rfl) (by rw [hR]; exact ⟨Nat.le_of_ble_eq_true rfl, Nat.le_of_ble_eq_true rfl⟩) (Nat.zero_le _) (Nat.zero_le _) (fun r9 e9 => ?_)
      subst e9
      refine z_iload hC dX0_add_46 rfl ?_
      refine z_iadd hC dX0_add_48 ?_
      refine z_iload hC dX0_add_49 rfl ?_
      refine z_sipush hC 3329 dX0_add_51 (by decide) ?_
      refine z_icmp_ge (tgt := 62) hC (by omega) (by omega) dX0_add_54 (by decide) (fun hc54 => ?_) (fun hc54 => ?_)
      · refine z_iload hC dX0_add_62 rfl ?_
        refine z_sipush hC 3329 dX0_add_64 (by decide) ?_
        refine z_isub hC dX0_add_67 (by omega) ?_
        refine z_iast hC 1 wD_1 wD_s1 dX0_add_68 (by omega) (by decide) ?_
        refine z_iinc hC _ dX0_add_69 hL (by decide) rfl (nI_1 _) ?_
        refine z_goto (tgt := 3) hC dX0_add_72 (by decide) ?_
        refine z_lw (lw' := [.ref (q 0), .int (nI r), .int (nI p), .int (nI w), .int (nI (i + 1))]) rfl ?_
        exact ih (i + 1) _ (by omega) (by omega) (blk_step hu (by unfold fAdd; omega))
      · refine z_iload hC dX0_add_57 rfl ?_
        refine z_goto (tgt := 68) hC dX0_add_59 (by decide) ?_
        refine z_iast hC 1 wD_1 wD_s1 dX0_add_68 (by omega) (by decide) ?_
        refine z_iinc hC _ dX0_add_69 hL (by decide) rfl (nI_1 _) ?_
        refine z_goto (tgt := 3) hC dX0_add_72 (by decide) ?_
        refine z_lw (lw' := [.ref (q 0), .int (nI r), .int (nI p), .int (nI w), .int (nI (i + 1))]) rfl ?_
        exact ih (i + 1) _ (by omega) (by omega) (blk_step hu (by unfold fAdd; omega))
theorem k_add (hr : r < 2 ^ 32) (hp : p < 2 ^ 32) (hw : w < 2 ^ 32) (hb : ∀ j, j < 1024 → R j < 3329) : Kv yX0_add cX0_add 6 1 21 0 0 [.ref (q 0), .int (nI r), .int (nI p), .int (nI w)] (fun cA => wD cA q R o t pw f s) (fun u : Nat → Nat => ∀ j, j < 1024 → u j = blkI r 256 (fAdd R p w) R j) (fun cA u => wD cA q u o t pw f s) := by
  refine Kv.of (by decide) (Nat.le_of_ble_eq_true rfl) (by simp [Value.category]) ?_
  intro C hC hR hN hL hret
  refine z_iconst hC 0 dX0_add_0 (by decide) ?_
  refine z_istore hC dX0_add_1 hL (by decide) (Nat.le_of_ble_eq_true rfl) ?_
  exact l_add hC hR hL hr hp hw hb hret 257 0 R (by decide) (by decide) (blk_0 _ _ _)
theorem l_sub (hC : Fx C cX0_subtract RX0) (hR : zR C = zRm 1 0 0 21) (hL : zL C = 6) (hr : r < 2 ^ 32) (hp : p < 2 ^ 32) (hw : w < 2 ^ 32) (hb : ∀ j, j < 1024 → R j < 3329)
    (hret : ∀ u : Nat → Nat, (∀ j, j < 1024 → u j = blkI r 256 (fSub R p w) R j) → ∀ (pc : Nat) (lw : List Value), decode cX0_subtract pc = .ok (.return_, 1) → Z C 0 0 (wD (zcA C) q u o t pw f s) pc lw []) :
    ∀ (n i : Nat) (u : Nat → Nat), i ≤ 256 → 257 ≤ i + n → (∀ j, j < 1024 → u j = blkI r i (fSub R p w) R j) → Z C 0 0 (wD (zcA C) q u o t pw f s) 3 [.ref (q 0), .int (nI r), .int (nI p), .int (nI w), .int (nI i)] [] := by
  intro n
  induction n with
  | zero => intro i u h1 h2; omega
  | succ n ih =>
    intro i u hi hn hu
    refine z_iload hC dX0_subtract_3 rfl ?_
    refine z_sipush hC 256 dX0_subtract_5 (by decide) ?_
    refine z_icmp_ge (tgt := 72) hC (by omega) (by omega) dX0_subtract_8 (by decide) (fun hc8 => ?_) (fun hc8 => ?_)
    · obtain rfl : i = 256 := by omega
      exact hret u hu _ _ dX0_subtract_72
    · have e1 := blk_read (p := p) hu (Nat.le_refl i) hc8
      have e2 := blk_read (p := w) hu (Nat.le_refl i) hc8
      have b1 := hb (256 * (p % 4) + i) (by omega)
      have b2 := hb (256 * (w % 4) + i) (by omega)
      refine z_aload_n hC dX0_subtract_11 rfl rfl ?_
      refine z_get hC 0 wD_0 rfl in_X0 0 (by decide) q32 rfl dX0_subtract_12 ?_
      refine z_iload_n hC dX0_subtract_15 rfl rfl ?_
      refine z_callS0 (n := 1) hC (k_from hp) (lw_S q49 q50 q4 q51) dX0_subtract_16 rfl (by decide +kernel) rfl (Nat.le_of_ble_eq_true rfl) (by rw [hR]; exact ⟨Nat.le_of_ble_eq_true rfl, Nat.le_of_ble_eq_true rfl⟩) (Nat.zero_le _) (Nat.zero_le _) (fun r9 e9 => ?_)
      subst e9
      refine z_iload hC dX0_subtract_19 rfl ?_
      refine z_iadd hC dX0_subtract_21 ?_
      refine z_iald hC 1 wD_1 dX0_subtract_22 (by omega) (by decide) ?_
      refine z_aload_n hC dX0_subtract_23 rfl rfl ?_
      refine z_get hC 0 wD_0 rfl in_X0 0 (by decide) q32 rfl dX0_subtract_24 ?_
      refine z_iload_n hC dX0_subtract_27 rfl rfl ?_
      refine z_callS0 (n := 1) hC (k_from hw) (lw_S q49 q50 q4 q51) dX0_subtract_28 rfl (by decide +kernel) rfl (Nat.le_of_ble_eq_true rfl) (by rw [hR]; exact ⟨Nat.le_of_ble_eq_true rfl, Nat.le_of_ble_eq_true rfl⟩) (Nat.zero_le _) (Nat.zero_le _) (fun r9 e9 => ?_)
      subst e9
      refine z_iload hC dX0_subtract_31 rfl ?_
      refine z_iadd hC dX0_subtract_33 ?_
      refine z_iald hC 1 wD_1 dX0_subtract_34 (by omega) (by decide) ?_
      refine z_isubR hC dX0_subtract_35 ?_
      refine z_istore hC dX0_subtract_36 hL (by decide) (Nat.le_of_ble_eq_true rfl) ?_
      refine z_aload_n hC dX0_subtract_38 rfl rfl ?_
      refine z_get hC 0 wD_0 rfl in_X0 0 (by decide) q32 rfl dX0_subtract_39 ?_
      refine z_iload_n hC dX0_subtract_42 rfl rfl ?_
      refine z_callS0 (n := 1) hC (k_from hr) (lw_S q49 q50 q4 q51) dX0_subtract_43 rfl (by decide +kernel) rfl (Nat.le_of_ble_eq_true rfl) (by rw [hR]; exact ⟨Nat.le_of_ble_eq_true rfl, Nat.le_of_ble_eq_true rfl⟩) (Nat.zero_le _) (Nat.zero_le _) (fun r9 e9 => ?_)
      subst e9
      refine z_iload hC dX0_subtract_46 rfl ?_
      refine z_iadd hC dX0_subtract_48 ?_
      refine z_iload hC dX0_subtract_49 rfl ?_
      refine z_if_geR (tgt := 63) hC dX0_subtract_51 (by decide) (fun hc51 => ?_) (fun hc51 => ?_)
      · have g1 := (zp_subGe (by omega) (by omega)).mp hc51
        refine z_iload hC dX0_subtract_63 rfl ?_
        refine z_top _ (pk_sub g1) ?_
        refine z_iast hC 1 wD_1 wD_s1 dX0_subtract_65 (by omega) (by decide) ?_
        refine z_iinc hC _ dX0_subtract_66 hL (by decide) rfl (nI_1 _) ?_
        refine z_goto (tgt := 3) hC dX0_subtract_69 (by decide) ?_
        refine z_lw (lw' := [.ref (q 0), .int (nI r), .int (nI p), .int (nI w), .int (nI (i + 1))]) rfl ?_
        exact ih (i + 1) _ (by omega) (by omega) (blk_step hu (by unfold fSub; omega))
      · have g1 := Nat.lt_of_not_le (fun h => hc51 ((zp_subGe (by omega) (by omega)).mpr h))
        refine z_iload hC dX0_subtract_54 rfl ?_
        refine z_sipush hC 3329 dX0_subtract_56 (by decide) ?_
        refine z_iaddR hC dX0_subtract_59 ?_
        refine z_goto (tgt := 65) hC dX0_subtract_60 (by decide) ?_
        refine z_top _ (zp_subAdd (by omega)) ?_
        refine z_iast hC 1 wD_1 wD_s1 dX0_subtract_65 (by omega) (by decide) ?_
        refine z_iinc hC _ dX0_subtract_66 hL (by decide) rfl (nI_1 _) ?_
        refine z_goto (tgt := 3) hC dX0_subtract_69 (by decide) ?_
        refine z_lw (lw' := [.ref (q 0), .int (nI r), .int (nI p), .int (nI w), .int (nI (i + 1))]) rfl ?_
        exact ih (i + 1) _ (by omega) (by omega) (blk_step hu (by unfold fSub; omega))
theorem k_sub (hr : r < 2 ^ 32) (hp : p < 2 ^ 32) (hw : w < 2 ^ 32) (hb : ∀ j, j < 1024 → R j < 3329) : Kv yX0_subtract cX0_subtract 6 1 21 0 0 [.ref (q 0), .int (nI r), .int (nI p), .int (nI w)] (fun cA => wD cA q R o t pw f s) (fun u : Nat → Nat => ∀ j, j < 1024 → u j = blkI r 256 (fSub R p w) R j) (fun cA u => wD cA q u o t pw f s) := by
  refine Kv.of (by decide) (Nat.le_of_ble_eq_true rfl) (by simp [Value.category]) ?_
  intro C hC hR hN hL hret
  refine z_iconst hC 0 dX0_subtract_0 (by decide) ?_
  refine z_istore hC dX0_subtract_1 hL (by decide) (Nat.le_of_ble_eq_true rfl) ?_
  exact l_sub hC hR hL hr hp hw hb hret 257 0 R (by decide) (by decide) (blk_0 _ _ _)
end X0OPS
end
section
/-! RingDesk: turn, press, unpress -/
set_option maxRecDepth 100000
/-- where the coefficient k of x^n times a register comes from -/
def tsrc (n k : Nat) : Nat := if n ≤ k then k - n else k + 256 - n
def fTurn (R : Nat → Nat) (r n : Nat) : Nat → Nat := fun k => if n ≤ k then R (256 * (r % 4) + (k - n)) else (3329 - R (256 * (r % 4) + (k + 256 - n))) % 3329
theorem fTurn_hi {R : Nat → Nat} {r n i : Nat} : fTurn R r n (i + n) = R (256 * (r % 4) + i) := by
  unfold fTurn
  rw [if_pos (by omega), show i + n - n = i by omega]
theorem fTurn_lo {R : Nat → Nat} {r n i : Nat} (h : 256 ≤ i + n) (hi : i < 256) : fTurn R r n (i + n - 256) = (3329 - R (256 * (r % 4) + i)) % 3329 := by
  unfold fTurn
  rw [if_neg (by omega), show i + n - 256 + 256 - n = i by omega]
/-- one: the places whose source is below i are done -/
def tI (R o : Nat → Nat) (r n i : Nat) : Nat → Nat := fun k => if tsrc n k < i then fTurn R r n k else o k
theorem tI_step {R o g : Nat → Nat} {r n i v : Nat} (hn : n < 256) (hi : i < 256) (hg : ∀ k, k < 256 → g k = tI R o r n i k) (hv : v = fTurn R r n ((i + n) % 256)) : ∀ k, k < 256 → updN g ((i + n) % 256) v k = tI R o r n (i + 1) k := by
  intro k hk
  by_cases e : k = (i + n) % 256
  · subst e
    rw [updN_s, hv]
    unfold tI
    rw [if_pos]
    unfold tsrc
    split <;> omega
  · rw [updN_n e, hg k hk]
    unfold tI
    have : tsrc n k ≠ i := by
      unfold tsrc
      split <;> omega
    by_cases h : tsrc n k < i
    · rw [if_pos h, if_pos (by omega)]
    · rw [if_neg h, if_neg (by omega)]
section X0TURN
variable {C : zC} {q : Nat → Nat} {R o t pw f s : Nat → Nat} {r p w n d : Nat}
theorem l_turn2 {g : Nat → Nat} (hC : Fx C cX0_turn RX0) (hR : zR C = zRm 1 0 0 21) (hL : zL C = 6) (hr : r < 2 ^ 32) (hg : ∀ k, k < 256 → g k = fTurn R r n k)
    (hret : ∀ u : (Nat → Nat) × (Nat → Nat), (∀ j, j < 1024 → u.1 j = blkI r 256 (fTurn R r n) R j) → ∀ (pc : Nat) (lw : List Value), decode cX0_turn pc = .ok (.return_, 1) → Z C 0 0 (wD (zcA C) q u.1 u.2 t pw f s) pc lw []) :
    ∀ (m i : Nat) (u : Nat → Nat), i ≤ 256 → 257 ≤ i + m → (∀ j, j < 1024 → u j = blkI r i (fTurn R r n) R j) → Z C 0 0 (wD (zcA C) q u g t pw f s) 79 [.ref (q 0), .int (nI r), .int (nI w), .int (nI n), .int (nI i)] [] := by
  intro m
  induction m with
  | zero => intro i u h1 h2; omega
  | succ m ih =>
    intro i u hi hn hu
    refine z_iload hC dX0_turn_79 rfl ?_
    refine z_sipush hC 256 dX0_turn_81 (by decide) ?_
    refine z_icmp_ge (tgt := 112) hC (by omega) (by omega) dX0_turn_84 (by decide) (fun hc84 => ?_) (fun hc84 => ?_)
    · obtain rfl : i = 256 := by omega
      exact hret (u, g) hu _ _ dX0_turn_112
    · refine z_aload_n hC dX0_turn_87 rfl rfl ?_
      refine z_get hC 0 wD_0 rfl in_X0 0 (by decide) q32 rfl dX0_turn_88 ?_
      refine z_iload_n hC dX0_turn_91 rfl rfl ?_
      refine z_callS0 (n := 1) hC (k_from hr) (lw_S q49 q50 q4 q51) dX0_turn_92 rfl (by decide +kernel) rfl (Nat.le_of_ble_eq_true rfl) (by rw [hR]; exact ⟨Nat.le_of_ble_eq_true rfl, Nat.le_of_ble_eq_true rfl⟩) (Nat.zero_le _) (Nat.zero_le _) (fun r9 e9 => ?_)
      subst e9
      refine z_iload hC dX0_turn_95 rfl ?_
      refine z_iadd hC dX0_turn_97 ?_
      refine z_aload_n hC dX0_turn_98 rfl rfl ?_
      refine z_get hC 0 wD_0 rfl in_X0 1 (by decide) q33 rfl dX0_turn_99 ?_
      refine z_iload hC dX0_turn_102 rfl ?_
      refine z_iald hC 2 wD_2 dX0_turn_104 (by omega) (by decide) ?_
      refine z_iast hC 1 wD_1 wD_s1 dX0_turn_105 (by omega) (by decide) ?_
      refine z_iinc hC _ dX0_turn_106 hL (by decide) rfl (nI_1 _) ?_
      refine z_goto (tgt := 79) hC dX0_turn_109 (by decide) ?_
      refine z_lw (lw' := [.ref (q 0), .int (nI r), .int (nI w), .int (nI n), .int (nI (i + 1))]) rfl ?_
      exact ih (i + 1) _ (by omega) (by omega) (blk_step hu (hg i hc84))
theorem l_turn1 (hC : Fx C cX0_turn RX0) (hR : zR C = zRm 1 0 0 21) (hL : zL C = 6) (hr : r < 2 ^ 32) (hn : n < 256) (hb : ∀ j, j < 1024 → R j < 3329)
    (hret : ∀ u : (Nat → Nat) × (Nat → Nat), (∀ j, j < 1024 → u.1 j = blkI r 256 (fTurn R r n) R j) → ∀ (pc : Nat) (lw : List Value), decode cX0_turn pc = .ok (.return_, 1) → Z C 0 0 (wD (zcA C) q u.1 u.2 t pw f s) pc lw []) :
    ∀ (m i : Nat) (g : Nat → Nat), i ≤ 256 → 257 ≤ i + m → (∀ k, k < 256 → g k = tI R o r n i k) → Z C 0 0 (wD (zcA C) q R g t pw f s) 9 [.ref (q 0), .int (nI r), .int (nI w), .int (nI n), .int (nI i)] [] := by
  intro m
  induction m with
  | zero => intro i u h1 h2; omega
  | succ m ih =>
    intro i g hi hm hg
    refine z_iload hC dX0_turn_9 rfl ?_
    refine z_sipush hC 256 dX0_turn_11 (by decide) ?_
    refine z_icmp_ge (tgt := 76) hC (by omega) (by omega) dX0_turn_14 (by decide) (fun hc14 => ?_) (fun hc14 => ?_)
    · obtain rfl : i = 256 := by omega
      refine z_iconst hC 0 dX0_turn_76 (by decide) ?_
      refine z_istore hC dX0_turn_77 hL (by decide) (Nat.le_of_ble_eq_true rfl) ?_
      refine l_turn2 hC hR hL hr ?_ hret 257 0 R (by decide) (by decide) (blk_0 _ _ _)
      intro k hk
      rw [hg k hk]
      unfold tI
      rw [if_pos]
      unfold tsrc
      split <;> omega
    · have b1 := hb (256 * (r % 4) + i) (by omega)
      refine z_aload_n hC dX0_turn_17 rfl rfl ?_
      refine z_get hC 0 wD_0 rfl in_X0 0 (by decide) q32 rfl dX0_turn_18 ?_
      refine z_iload_n hC dX0_turn_21 rfl rfl ?_
      refine z_callS0 (n := 1) hC (k_from hr) (lw_S q49 q50 q4 q51) dX0_turn_22 rfl (by decide +kernel) rfl (Nat.le_of_ble_eq_true rfl) (by rw [hR]; exact ⟨Nat.le_of_ble_eq_true rfl, Nat.le_of_ble_eq_true rfl⟩) (Nat.zero_le _) (Nat.zero_le _) (fun r9 e9 => ?_)
      subst e9
      refine z_iload hC dX0_turn_25 rfl ?_
      refine z_iadd hC dX0_turn_27 ?_
      refine z_iald hC 1 wD_1 dX0_turn_28 (by omega) (by decide) ?_
      refine z_istore hC dX0_turn_29 hL (by decide) (Nat.le_of_ble_eq_true rfl) ?_
      refine z_aload_n hC dX0_turn_31 rfl rfl ?_
      refine z_get hC 0 wD_0 rfl in_X0 1 (by decide) q33 rfl dX0_turn_32 ?_
      refine z_iload hC dX0_turn_35 rfl ?_
      refine z_iload_n hC dX0_turn_37 rfl rfl ?_
      refine z_iadd hC dX0_turn_38 ?_
      refine z_sipush hC 255 dX0_turn_39 (by decide) ?_
      refine z_iand hC 256 8 dX0_turn_42 (by decide) (by decide) (by decide) rfl ?_
      refine z_iload hC dX0_turn_43 rfl ?_
      refine z_iload_n hC dX0_turn_45 rfl rfl ?_
      refine z_iadd hC dX0_turn_46 ?_
      refine z_sipush hC 256 dX0_turn_47 (by decide) ?_
      refine z_icmp_lt (tgt := 58) hC (by omega) (by omega) dX0_turn_50 (by decide) (fun hc50 => ?_) (fun hc50 => ?_)
      · refine z_iload hC dX0_turn_58 rfl ?_
        refine z_goto (tgt := 69) hC dX0_turn_60 (by decide) ?_
        refine z_iast hC 2 wD_2 wD_s2 dX0_turn_69 (by omega) (by decide) ?_
        refine z_iinc hC _ dX0_turn_70 hL (by decide) rfl (nI_1 _) ?_
        refine z_goto (tgt := 9) hC dX0_turn_73 (by decide) ?_
        refine z_lw (lw' := [.ref (q 0), .int (nI r), .int (nI w), .int (nI n), .int (nI (i + 1))]) rfl ?_
        refine ih (i + 1) _ (by omega) (by omega) (tI_step hn hc14 hg ?_)
        rw [show (i + n) % 256 = i + n by omega, fTurn_hi]
      · refine z_iload hC dX0_turn_53 rfl ?_
        refine z_if_ne (tgt := 63) hC (by omega) dX0_turn_55 (by decide) (fun hc55 => ?_) (fun hc55 => ?_)
        · refine z_sipush hC 3329 dX0_turn_63 (by decide) ?_
          refine z_iload hC dX0_turn_66 rfl ?_
          refine z_isub hC dX0_turn_68 (by omega) ?_
          refine z_iast hC 2 wD_2 wD_s2 dX0_turn_69 (by omega) (by decide) ?_
          refine z_iinc hC _ dX0_turn_70 hL (by decide) rfl (nI_1 _) ?_
          refine z_goto (tgt := 9) hC dX0_turn_73 (by decide) ?_
          refine z_lw (lw' := [.ref (q 0), .int (nI r), .int (nI w), .int (nI n), .int (nI (i + 1))]) rfl ?_
          refine ih (i + 1) _ (by omega) (by omega) (tI_step hn hc14 hg ?_)
          rw [show (i + n) % 256 = i + n - 256 by omega, fTurn_lo hc50 hc14]
          omega
        · refine z_iload hC dX0_turn_58 rfl ?_
          refine z_goto (tgt := 69) hC dX0_turn_60 (by decide) ?_
          refine z_iast hC 2 wD_2 wD_s2 dX0_turn_69 (by omega) (by decide) ?_
          refine z_iinc hC _ dX0_turn_70 hL (by decide) rfl (nI_1 _) ?_
          refine z_goto (tgt := 9) hC dX0_turn_73 (by decide) ?_
          refine z_lw (lw' := [.ref (q 0), .int (nI r), .int (nI w), .int (nI n), .int (nI (i + 1))]) rfl ?_
          refine ih (i + 1) _ (by omega) (by omega) (tI_step hn hc14 hg ?_)
          rw [show (i + n) % 256 = i + n - 256 by omega, fTurn_lo hc50 hc14]
          omega
theorem k_turn (hr : r < 2 ^ 32) (hb : ∀ j, j < 1024 → R j < 3329) : Kv yX0_turn cX0_turn 6 1 21 0 0 [.ref (q 0), .int (nI r), .int (nI w)] (fun cA => wD cA q R o t pw f s) (fun u : (Nat → Nat) × (Nat → Nat) => ∀ j, j < 1024 → u.1 j = blkI r 256 (fTurn R r (w % 256)) R j) (fun cA u => wD cA q u.1 u.2 t pw f s) := by
  refine Kv.of (by decide) (Nat.le_of_ble_eq_true rfl) (by simp [Value.category]) ?_
  intro C hC hR hN hL hret
  refine z_iload_n hC dX0_turn_0 rfl rfl ?_
  refine z_sipush hC 255 dX0_turn_1 (by decide) ?_
  refine z_iand hC 256 8 dX0_turn_4 (by decide) (by decide) (by decide) rfl ?_
  refine z_istore_n hC dX0_turn_5 rfl hL (by decide) (Nat.le_of_ble_eq_true rfl) ?_
  refine z_iconst hC 0 dX0_turn_6 (by decide) ?_
  refine z_istore hC dX0_turn_7 hL (by decide) (Nat.le_of_ble_eq_true rfl) ?_
  refine l_turn1 (n := w % 256) (o := o) hC hR hL hr (by omega) hb hret 257 0 o (by decide) (by decide) (fun k hk => ?_)
  unfold tI
  rw [if_neg (by omega)]
def fPress (R : Nat → Nat) (r b : Nat) : Nat → Nat := fun i => (R (256 * (r % 4) + i) * 2 ^ b + 1664) / 3329 % 2 ^ b
def fUnpress (R : Nat → Nat) (r b : Nat) : Nat → Nat := fun i => (R (256 * (r % 4) + i) % 2 ^ b * 3329 + 2 ^ (b - 1)) / 2 ^ b
theorem two_b {b : Nat} (h1 : 1 ≤ b) (h2 : b ≤ 11) : 2 ≤ 2 ^ b ∧ 2 ^ b ≤ 2048 ∧ 2 ^ b = 2 * 2 ^ (b - 1) := by
  refine ⟨?_, ?_, ?_⟩
  · exact Nat.pow_le_pow_right (n := 2) (by decide) h1
  · exact Nat.pow_le_pow_right (n := 2) (by decide) h2
  · obtain ⟨c, rfl⟩ : ∃ c, b = c + 1 := ⟨b - 1, by omega⟩
    rw [Nat.add_sub_cancel, Nat.pow_succ, Nat.mul_comm]
theorem l_press {b : Nat} (hC : Fx C cX0_press RX0) (hR : zR C = zRm 1 0 0 21) (hL : zL C = 6) (hr : r < 2 ^ 32) (hb1 : 1 ≤ b) (hb2 : b ≤ 11) (hb : ∀ j, j < 1024 → R j < 3329)
    (hret : ∀ u : Nat → Nat, (∀ j, j < 1024 → u j = blkI r 256 (fPress R r b) R j) → ∀ (pc : Nat) (lw : List Value), decode cX0_press pc = .ok (.return_, 1) → Z C 0 0 (wD (zcA C) q u o t pw f s) pc lw []) :
    ∀ (m i : Nat) (u : Nat → Nat), i ≤ 256 → 257 ≤ i + m → (∀ j, j < 1024 → u j = blkI r i (fPress R r b) R j) → Z C 0 0 (wD (zcA C) q u o t pw f s) 8 [.ref (q 0), .int (nI r), .int (nI d), .int (nI b), .int (nI i)] [] := by
  intro m
  induction m with
  | zero => intro i u h1 h2; omega
  | succ m ih =>
    intro i u hi hn hu
    refine z_iload hC dX0_press_8 rfl ?_
    refine z_sipush hC 256 dX0_press_10 (by decide) ?_
    refine z_icmp_ge (tgt := 66) hC (by omega) (by omega) dX0_press_13 (by decide) (fun hc13 => ?_) (fun hc13 => ?_)
    · obtain rfl : i = 256 := by omega
      exact hret u hu _ _ dX0_press_66
    · have e1 := blk_read (p := r) hu (Nat.le_refl i) hc13
      have b1 := hb (256 * (r % 4) + i) (by omega)
      obtain ⟨t1, t2, t3⟩ := two_b hb1 hb2
      have b2 : u (256 * (r % 4) + i) * 2 ^ b ≤ 3328 * 2048 := Nat.mul_le_mul (by omega) t2
      refine z_aload_n hC dX0_press_16 rfl rfl ?_
      refine z_get hC 0 wD_0 rfl in_X0 0 (by decide) q32 rfl dX0_press_17 ?_
      refine z_iload_n hC dX0_press_20 rfl rfl ?_
      refine z_callS0 (n := 1) hC (k_from hr) (lw_S q49 q50 q4 q51) dX0_press_21 rfl (by decide +kernel) rfl (Nat.le_of_ble_eq_true rfl) (by rw [hR]; exact ⟨Nat.le_of_ble_eq_true rfl, Nat.le_of_ble_eq_true rfl⟩) (Nat.zero_le _) (Nat.zero_le _) (fun r9 e9 => ?_)
      subst e9
      refine z_iload hC dX0_press_24 rfl ?_
      refine z_iadd hC dX0_press_26 ?_
      refine z_iald hC 1 wD_1 dX0_press_27 (by omega) (by decide) ?_
      refine z_istore hC dX0_press_28 hL (by decide) (Nat.le_of_ble_eq_true rfl) ?_
      refine z_aload_n hC dX0_press_30 rfl rfl ?_
      refine z_get hC 0 wD_0 rfl in_X0 0 (by decide) q32 rfl dX0_press_31 ?_
      refine z_iload_n hC dX0_press_34 rfl rfl ?_
      refine z_callS0 (n := 1) hC (k_from hr) (lw_S q49 q50 q4 q51) dX0_press_35 rfl (by decide +kernel) rfl (Nat.le_of_ble_eq_true rfl) (by rw [hR]; exact ⟨Nat.le_of_ble_eq_true rfl, Nat.le_of_ble_eq_true rfl⟩) (Nat.zero_le _) (Nat.zero_le _) (fun r9 e9 => ?_)
      subst e9
      refine z_iload hC dX0_press_38 rfl ?_
      refine z_iadd hC dX0_press_40 ?_
      refine z_iload hC dX0_press_41 rfl ?_
      refine z_iload_n hC dX0_press_43 rfl rfl ?_
      refine z_ishl hC dX0_press_44 (by omega) (by omega) ?_
      refine z_sipush hC 1664 dX0_press_45 (by decide) ?_
      refine z_iadd hC dX0_press_48 ?_
      refine z_sipush hC 3329 dX0_press_49 (by decide) ?_
      refine z_idiv hC dX0_press_52 (by omega) (by decide) (by decide) ?_
      refine z_iconst hC 1 dX0_press_53 (by decide) ?_
      refine z_iload_n hC dX0_press_54 rfl rfl ?_
      refine z_ishl hC dX0_press_55 (by omega) (by omega) ?_
      refine z_iconst hC 1 dX0_press_56 (by decide) ?_
      refine z_isub hC dX0_press_57 (by omega) ?_
      refine z_iand hC (2 ^ b) b dX0_press_58 (by omega) (by omega) rfl (by omega) ?_
      refine z_iast hC 1 wD_1 wD_s1 dX0_press_59 (by omega) (by decide) ?_
      refine z_iinc hC _ dX0_press_60 hL (by decide) rfl (nI_1 _) ?_
      refine z_goto (tgt := 8) hC dX0_press_63 (by decide) ?_
      refine z_lw (lw' := [.ref (q 0), .int (nI r), .int (nI d), .int (nI b), .int (nI (i + 1))]) rfl ?_
      exact ih (i + 1) _ (by omega) (by omega) (blk_step hu (by unfold fPress; rw [e1]))
theorem k_press (hr : r < 2 ^ 32) (hd : d < 2 ^ 32) (hb : ∀ j, j < 1024 → R j < 3329) : Kv yX0_press cX0_press 6 1 21 0 0 [.ref (q 0), .int (nI r), .int (nI d)] (fun cA => wD cA q R o t pw f s) (fun u : Nat → Nat => ∀ j, j < 1024 → u j = blkI r 256 (fPress R r (1 + d % 2147483648 % 11)) R j) (fun cA u => wD cA q u o t pw f s) := by
  refine Kv.of (by decide) (Nat.le_of_ble_eq_true rfl) (by simp [Value.category]) ?_
  intro C hC hR hN hL hret
  refine z_iload_n hC dX0_press_0 rfl rfl ?_
  refine z_callS0 (n := 1) hC (k_bits hd) (lw_S q91 q92 q4 q93) dX0_press_1 rfl (by decide +kernel) rfl (Nat.le_of_ble_eq_true rfl) (by rw [hR]; exact ⟨Nat.le_of_ble_eq_true rfl, Nat.le_of_ble_eq_true rfl⟩) (Nat.zero_le _) (Nat.zero_le _) (fun r9 e9 => ?_)
  subst e9
  refine z_istore_n hC dX0_press_4 rfl hL (by decide) (Nat.le_of_ble_eq_true rfl) ?_
  refine z_iconst hC 0 dX0_press_5 (by decide) ?_
  refine z_istore hC dX0_press_6 hL (by decide) (Nat.le_of_ble_eq_true rfl) ?_
  exact l_press hC hR hL hr (by omega) (by omega) hb hret 257 0 R (by decide) (by decide) (blk_0 _ _ _)
theorem l_unpress {b : Nat} (hC : Fx C cX0_unpress RX0) (hR : zR C = zRm 1 0 0 21) (hL : zL C = 6) (hr : r < 2 ^ 32) (hb1 : 1 ≤ b) (hb2 : b ≤ 11) (hb : ∀ j, j < 1024 → R j < 3329)
    (hret : ∀ u : Nat → Nat, (∀ j, j < 1024 → u j = blkI r 256 (fUnpress R r b) R j) → ∀ (pc : Nat) (lw : List Value), decode cX0_unpress pc = .ok (.return_, 1) → Z C 0 0 (wD (zcA C) q u o t pw f s) pc lw []) :
    ∀ (m i : Nat) (u : Nat → Nat), i ≤ 256 → 257 ≤ i + m → (∀ j, j < 1024 → u j = blkI r i (fUnpress R r b) R j) → Z C 0 0 (wD (zcA C) q u o t pw f s) 8 [.ref (q 0), .int (nI r), .int (nI d), .int (nI b), .int (nI i)] [] := by
  intro m
  induction m with
  | zero => intro i u h1 h2; omega
  | succ m ih =>
    intro i u hi hn hu
    refine z_iload hC dX0_unpress_8 rfl ?_
    refine z_sipush hC 256 dX0_unpress_10 (by decide) ?_
    refine z_icmp_ge (tgt := 68) hC (by omega) (by omega) dX0_unpress_13 (by decide) (fun hc13 => ?_) (fun hc13 => ?_)
    · obtain rfl : i = 256 := by omega
      exact hret u hu _ _ dX0_unpress_68
    · have e1 := blk_read (p := r) hu (Nat.le_refl i) hc13
      have b1 := hb (256 * (r % 4) + i) (by omega)
      obtain ⟨t1, t2, t3⟩ := two_b hb1 hb2
      have b2 : u (256 * (r % 4) + i) % 2 ^ b < 2 ^ b := Nat.mod_lt _ (by omega)
      refine z_aload_n hC dX0_unpress_16 rfl rfl ?_
      refine z_get hC 0 wD_0 rfl in_X0 0 (by decide) q32 rfl dX0_unpress_17 ?_
      refine z_iload_n hC dX0_unpress_20 rfl rfl ?_
      refine z_callS0 (n := 1) hC (k_from hr) (lw_S q49 q50 q4 q51) dX0_unpress_21 rfl (by decide +kernel) rfl (Nat.le_of_ble_eq_true rfl) (by rw [hR]; exact ⟨Nat.le_of_ble_eq_true rfl, Nat.le_of_ble_eq_true rfl⟩) (Nat.zero_le _) (Nat.zero_le _) (fun r9 e9 => ?_)
      subst e9
      refine z_iload hC dX0_unpress_24 rfl ?_
      refine z_iadd hC dX0_unpress_26 ?_
      refine z_iald hC 1 wD_1 dX0_unpress_27 (by omega) (by decide) ?_
      refine z_iconst hC 1 dX0_unpress_28 (by decide) ?_
      refine z_iload_n hC dX0_unpress_29 rfl rfl ?_
      refine z_ishl hC dX0_unpress_30 (by omega) (by omega) ?_
      refine z_iconst hC 1 dX0_unpress_31 (by decide) ?_
      refine z_isub hC dX0_unpress_32 (by omega) ?_
      refine z_iand hC (2 ^ b) b dX0_unpress_33 (by omega) (by omega) rfl (by omega) ?_
      refine z_istore hC dX0_unpress_34 hL (by decide) (Nat.le_of_ble_eq_true rfl) ?_
      refine z_aload_n hC dX0_unpress_36 rfl rfl ?_
      refine z_get hC 0 wD_0 rfl in_X0 0 (by decide) q32 rfl dX0_unpress_37 ?_
      refine z_iload_n hC dX0_unpress_40 rfl rfl ?_
      refine z_callS0 (n := 1) hC (k_from hr) (lw_S q49 q50 q4 q51) dX0_unpress_41 rfl (by decide +kernel) rfl (Nat.le_of_ble_eq_true rfl) (by rw [hR]; exact ⟨Nat.le_of_ble_eq_true rfl, Nat.le_of_ble_eq_true rfl⟩) (Nat.zero_le _) (Nat.zero_le _) (fun r9 e9 => ?_)
      subst e9
      refine z_iload hC dX0_unpress_44 rfl ?_
      refine z_iadd hC dX0_unpress_46 ?_
      refine z_iload hC dX0_unpress_47 rfl ?_
      refine z_sipush hC 3329 dX0_unpress_49 (by decide) ?_
      refine z_imul hC dX0_unpress_52 ?_
      refine z_iconst hC 1 dX0_unpress_53 (by decide) ?_
      refine z_iload_n hC dX0_unpress_54 rfl rfl ?_
      refine z_iconst hC 1 dX0_unpress_55 (by decide) ?_
      refine z_isub hC dX0_unpress_56 (by omega) ?_
      refine z_ishl hC dX0_unpress_57 (by omega) (by omega) ?_
      refine z_iadd hC dX0_unpress_58 ?_
      refine z_iload_n hC dX0_unpress_59 rfl rfl ?_
      refine z_ishr hC dX0_unpress_60 (by omega) (by omega) ?_
      refine z_iast hC 1 wD_1 wD_s1 dX0_unpress_61 (by omega) (by decide) ?_
      refine z_iinc hC _ dX0_unpress_62 hL (by decide) rfl (nI_1 _) ?_
      refine z_goto (tgt := 8) hC dX0_unpress_65 (by decide) ?_
      refine z_lw (lw' := [.ref (q 0), .int (nI r), .int (nI d), .int (nI b), .int (nI (i + 1))]) rfl ?_
      exact ih (i + 1) _ (by omega) (by omega) (blk_step hu (by unfold fUnpress; rw [e1, Nat.one_mul]))
theorem k_unpress (hr : r < 2 ^ 32) (hd : d < 2 ^ 32) (hb : ∀ j, j < 1024 → R j < 3329) : Kv yX0_unpress cX0_unpress 6 1 21 0 0 [.ref (q 0), .int (nI r), .int (nI d)] (fun cA => wD cA q R o t pw f s) (fun u : Nat → Nat => ∀ j, j < 1024 → u j = blkI r 256 (fUnpress R r (1 + d % 2147483648 % 11)) R j) (fun cA u => wD cA q u o t pw f s) := by
  refine Kv.of (by decide) (Nat.le_of_ble_eq_true rfl) (by simp [Value.category]) ?_
  intro C hC hR hN hL hret
  refine z_iload_n hC dX0_unpress_0 rfl rfl ?_
  refine z_callS0 (n := 1) hC (k_bits hd) (lw_S q91 q92 q4 q93) dX0_unpress_1 rfl (by decide +kernel) rfl (Nat.le_of_ble_eq_true rfl) (by rw [hR]; exact ⟨Nat.le_of_ble_eq_true rfl, Nat.le_of_ble_eq_true rfl⟩) (Nat.zero_le _) (Nat.zero_le _) (fun r9 e9 => ?_)
  subst e9
  refine z_istore_n hC dX0_unpress_4 rfl hL (by decide) (Nat.le_of_ble_eq_true rfl) ?_
  refine z_iconst hC 0 dX0_unpress_5 (by decide) ?_
  refine z_istore hC dX0_unpress_6 hL (by decide) (Nat.le_of_ble_eq_true rfl) ?_
  exact l_unpress hC hR hL hr (by omega) (by omega) hb hret 257 0 R (by decide) (by decide) (blk_0 _ _ _)
end X0TURN
end
section
/-! RingDeskModel: put, at, add, subtract, turn, press, unpress -/
set_option maxRecDepth 100000
section X2OPS
variable {C : zC} {q : Nat → Nat} {R z : Nat → Nat} {r p w n d : Nat}
theorem m_put {k x y : Nat} (hr : r < 2 ^ 32) (hx : x < 2 ^ 32) (hy : y < 2 ^ 32) : Kv yX2_put cX2_put 8 0 0 0 0 [.ref (q 0), .int (nI r), .int (nI k), .int (nI x), .int (nI y)] (fun cA => wM cA q R z) (fun u : Nat → Nat => u = putS R r k x y) (fun cA u => wM cA q u z) := by
  refine Kv.of (by decide) (Nat.le_of_ble_eq_true rfl) (by simp [Value.category]) ?_
  intro C hC hR hN hL hret
  have hsx := zp_small x hx
  have hsy := zp_small y hy
  refine z_sipush hC 256 dX2_put_0 (by decide) ?_
  refine z_iload_n hC dX2_put_3 rfl rfl ?_
  refine z_iconst hC 3 dX2_put_4 (by decide) ?_
  refine z_iand hC 4 2 dX2_put_5 (by decide) (by decide) (by decide) rfl ?_
  refine z_imul hC dX2_put_6 ?_
  refine z_istore hC dX2_put_7 hL (by decide) (Nat.le_of_ble_eq_true rfl) ?_
  refine z_iconst hC 0 dX2_put_9 (by decide) ?_
  refine z_istore hC dX2_put_10 hL (by decide) (Nat.le_of_ble_eq_true rfl) ?_
  refine z_iload hC dX2_put_12 rfl ?_
  refine z_iconst hC 2 dX2_put_14 (by decide) ?_
  refine z_icmp_ge (tgt := 73) hC (by omega) (by omega) dX2_put_15 (by decide) (fun hc15 => ?_) (fun hc15 => ?_)
  · exact absurd hc15 (by decide)
  · refine z_iload hC dX2_put_18 rfl ?_
    refine z_if_ne (tgt := 27) hC (by omega) dX2_put_20 (by decide) (fun hc20 => ?_) (fun hc20 => ?_)
    · exact absurd rfl hc20
    · refine z_iload_n hC dX2_put_23 rfl rfl ?_
      refine z_goto (tgt := 29) hC dX2_put_24 (by decide) ?_
      refine z_sipush hC 3329 dX2_put_29 (by decide) ?_
      refine z_iremR hC dX2_put_32 (by decide) ?_
      refine z_istore hC dX2_put_33 hL (by decide) (Nat.le_of_ble_eq_true rfl) ?_
      refine z_aload_n hC dX2_put_35 rfl rfl ?_
      refine z_get hC 0 wM_0 rfl in_X2 0 (by decide) q109 rfl dX2_put_36 ?_
      refine z_iload hC dX2_put_39 rfl ?_
      refine z_iload_n hC dX2_put_41 rfl rfl ?_
      refine z_iload hC dX2_put_42 rfl ?_
      refine z_iadd hC dX2_put_44 ?_
      refine z_sipush hC 255 dX2_put_45 (by decide) ?_
      refine z_iand hC 256 8 dX2_put_48 (by decide) (by decide) (by decide) rfl ?_
      refine z_iadd hC dX2_put_49 ?_
      refine z_iload hC dX2_put_50 rfl ?_
      refine z_if_geR (tgt := 64) hC dX2_put_52 (by decide) (fun hc52 => ?_) (fun hc52 => ?_)
      · refine z_iload hC dX2_put_64 rfl ?_
        refine z_top _ (hsx.1 hc52) ?_
        refine z_iast hC 1 wM_1 wM_s1 dX2_put_66 (by omega) (by decide) ?_
        refine z_iinc hC _ dX2_put_67 hL (by decide) rfl (nI_1 _) ?_
        refine z_goto (tgt := 12) hC dX2_put_70 (by decide) ?_
        refine z_iload hC dX2_put_12 rfl ?_
        refine z_iconst hC 2 dX2_put_14 (by decide) ?_
        refine z_icmp_ge (tgt := 73) hC (by omega) (by omega) dX2_put_15 (by decide) (fun hc15 => ?_) (fun hc15 => ?_)
        · exact absurd hc15 (by decide)
        · refine z_iload hC dX2_put_18 rfl ?_
          refine z_if_ne (tgt := 27) hC (by omega) dX2_put_20 (by decide) (fun hc20 => ?_) (fun hc20 => ?_)
          · refine z_iload hC dX2_put_27 rfl ?_
            refine z_sipush hC 3329 dX2_put_29 (by decide) ?_
            refine z_iremR hC dX2_put_32 (by decide) ?_
            refine z_istore hC dX2_put_33 hL (by decide) (Nat.le_of_ble_eq_true rfl) ?_
            refine z_aload_n hC dX2_put_35 rfl rfl ?_
            refine z_get hC 0 wM_0 rfl in_X2 0 (by decide) q109 rfl dX2_put_36 ?_
            refine z_iload hC dX2_put_39 rfl ?_
            refine z_iload_n hC dX2_put_41 rfl rfl ?_
            refine z_iload hC dX2_put_42 rfl ?_
            refine z_iadd hC dX2_put_44 ?_
            refine z_sipush hC 255 dX2_put_45 (by decide) ?_
            refine z_iand hC 256 8 dX2_put_48 (by decide) (by decide) (by decide) rfl ?_
            refine z_iadd hC dX2_put_49 ?_
            refine z_iload hC dX2_put_50 rfl ?_
            refine z_if_geR (tgt := 64) hC dX2_put_52 (by decide) (fun hc52 => ?_) (fun hc52 => ?_)
            · refine z_iload hC dX2_put_64 rfl ?_
              refine z_top _ (hsy.1 hc52) ?_
              refine z_iast hC 1 wM_1 wM_s1 dX2_put_66 (by omega) (by decide) ?_
              refine z_iinc hC _ dX2_put_67 hL (by decide) rfl (nI_1 _) ?_
              refine z_goto (tgt := 12) hC dX2_put_70 (by decide) ?_
              refine z_iload hC dX2_put_12 rfl ?_
              refine z_iconst hC 2 dX2_put_14 (by decide) ?_
              refine z_icmp_ge (tgt := 73) hC (by omega) (by omega) dX2_put_15 (by decide) (fun hc15 => ?_) (fun hc15 => ?_)
              · exact hret _ rfl _ _ dX2_put_73
              · exact absurd hc15 (by decide)
            · refine z_iload hC dX2_put_55 rfl ?_
              refine z_sipush hC 3329 dX2_put_57 (by decide) ?_
              refine z_iaddR hC dX2_put_60 ?_
              refine z_goto (tgt := 66) hC dX2_put_61 (by decide) ?_
              refine z_top _ (hsy.2 hc52) ?_
              refine z_iast hC 1 wM_1 wM_s1 dX2_put_66 (by omega) (by decide) ?_
              refine z_iinc hC _ dX2_put_67 hL (by decide) rfl (nI_1 _) ?_
              refine z_goto (tgt := 12) hC dX2_put_70 (by decide) ?_
              refine z_iload hC dX2_put_12 rfl ?_
              refine z_iconst hC 2 dX2_put_14 (by decide) ?_
              refine z_icmp_ge (tgt := 73) hC (by omega) (by omega) dX2_put_15 (by decide) (fun hc15 => ?_) (fun hc15 => ?_)
              · exact hret _ rfl _ _ dX2_put_73
              · exact absurd hc15 (by decide)
          · exact absurd hc20 (by decide)
      · refine z_iload hC dX2_put_55 rfl ?_
        refine z_sipush hC 3329 dX2_put_57 (by decide) ?_
        refine z_iaddR hC dX2_put_60 ?_
        refine z_goto (tgt := 66) hC dX2_put_61 (by decide) ?_
        refine z_top _ (hsx.2 hc52) ?_
        refine z_iast hC 1 wM_1 wM_s1 dX2_put_66 (by omega) (by decide) ?_
        refine z_iinc hC _ dX2_put_67 hL (by decide) rfl (nI_1 _) ?_
        refine z_goto (tgt := 12) hC dX2_put_70 (by decide) ?_
        refine z_iload hC dX2_put_12 rfl ?_
        refine z_iconst hC 2 dX2_put_14 (by decide) ?_
        refine z_icmp_ge (tgt := 73) hC (by omega) (by omega) dX2_put_15 (by decide) (fun hc15 => ?_) (fun hc15 => ?_)
        · exact absurd hc15 (by decide)
        · refine z_iload hC dX2_put_18 rfl ?_
          refine z_if_ne (tgt := 27) hC (by omega) dX2_put_20 (by decide) (fun hc20 => ?_) (fun hc20 => ?_)
          · refine z_iload hC dX2_put_27 rfl ?_
            refine z_sipush hC 3329 dX2_put_29 (by decide) ?_
            refine z_iremR hC dX2_put_32 (by decide) ?_
            refine z_istore hC dX2_put_33 hL (by decide) (Nat.le_of_ble_eq_true rfl) ?_
            refine z_aload_n hC dX2_put_35 rfl rfl ?_
            refine z_get hC 0 wM_0 rfl in_X2 0 (by decide) q109 rfl dX2_put_36 ?_
            refine z_iload hC dX2_put_39 rfl ?_
            refine z_iload_n hC dX2_put_41 rfl rfl ?_
            refine z_iload hC dX2_put_42 rfl ?_
            refine z_iadd hC dX2_put_44 ?_
            refine z_sipush hC 255 dX2_put_45 (by decide) ?_
            refine z_iand hC 256 8 dX2_put_48 (by decide) (by decide) (by decide) rfl ?_
            refine z_iadd hC dX2_put_49 ?_
            refine z_iload hC dX2_put_50 rfl ?_
            refine z_if_geR (tgt := 64) hC dX2_put_52 (by decide) (fun hc52 => ?_) (fun hc52 => ?_)
            · refine z_iload hC dX2_put_64 rfl ?_
              refine z_top _ (hsy.1 hc52) ?_
              refine z_iast hC 1 wM_1 wM_s1 dX2_put_66 (by omega) (by decide) ?_
              refine z_iinc hC _ dX2_put_67 hL (by decide) rfl (nI_1 _) ?_
              refine z_goto (tgt := 12) hC dX2_put_70 (by decide) ?_
              refine z_iload hC dX2_put_12 rfl ?_
              refine z_iconst hC 2 dX2_put_14 (by decide) ?_
              refine z_icmp_ge (tgt := 73) hC (by omega) (by omega) dX2_put_15 (by decide) (fun hc15 => ?_) (fun hc15 => ?_)
              · exact hret _ rfl _ _ dX2_put_73
              · exact absurd hc15 (by decide)
            · refine z_iload hC dX2_put_55 rfl ?_
              refine z_sipush hC 3329 dX2_put_57 (by decide) ?_
              refine z_iaddR hC dX2_put_60 ?_
              refine z_goto (tgt := 66) hC dX2_put_61 (by decide) ?_
              refine z_top _ (hsy.2 hc52) ?_
              refine z_iast hC 1 wM_1 wM_s1 dX2_put_66 (by omega) (by decide) ?_
              refine z_iinc hC _ dX2_put_67 hL (by decide) rfl (nI_1 _) ?_
              refine z_goto (tgt := 12) hC dX2_put_70 (by decide) ?_
              refine z_iload hC dX2_put_12 rfl ?_
              refine z_iconst hC 2 dX2_put_14 (by decide) ?_
              refine z_icmp_ge (tgt := 73) hC (by omega) (by omega) dX2_put_15 (by decide) (fun hc15 => ?_) (fun hc15 => ?_)
              · exact hret _ rfl _ _ dX2_put_73
              · exact absurd hc15 (by decide)
          · exact absurd hc20 (by decide)
theorem m_at {k : Nat} : Ki yX2_at cX2_at 3 0 0 0 0 [.ref (q 0), .int (nI r), .int (nI k)] (fun cA => wM cA q R z) (fun v (_ : Unit) => v = nI (R (256 * (r % 4) + k % 256))) (fun cA _ => wM cA q R z) := by
  refine Ki.of (by decide) (Nat.le_of_ble_eq_true rfl) (by simp [Value.category]) ?_
  intro C hC hR hN hL hret
  refine z_aload_n hC dX2_at_0 rfl rfl ?_
  refine z_get hC 0 wM_0 rfl in_X2 0 (by decide) q109 rfl dX2_at_1 ?_
  refine z_sipush hC 256 dX2_at_4 (by decide) ?_
  refine z_iload_n hC dX2_at_7 rfl rfl ?_
  refine z_iconst hC 3 dX2_at_8 (by decide) ?_
  refine z_iand hC 4 2 dX2_at_9 (by decide) (by decide) (by decide) rfl ?_
  refine z_imul hC dX2_at_10 ?_
  refine z_iload_n hC dX2_at_11 rfl rfl ?_
  refine z_sipush hC 255 dX2_at_12 (by decide) ?_
  refine z_iand hC 256 8 dX2_at_15 (by decide) (by decide) (by decide) rfl ?_
  refine z_iadd hC dX2_at_16 ?_
  refine z_iald hC 1 wM_1 dX2_at_17 (by omega) (by decide) ?_
  exact hret _ () rfl _ _ dX2_at_18
theorem ml_add (hC : Fx C cX2_add RX2) (hL : zL C = 5) (hb : ∀ j, j < 1024 → R j < 3329)
    (hret : ∀ u : Nat → Nat, (∀ j, j < 1024 → u j = blkI r 256 (fAdd R p w) R j) → ∀ (pc : Nat) (lw : List Value), decode cX2_add pc = .ok (.return_, 1) → Z C 0 0 (wM (zcA C) q u z) pc lw []) :
    ∀ (n i : Nat) (u : Nat → Nat), i ≤ 256 → 257 ≤ i + n → (∀ j, j < 1024 → u j = blkI r i (fAdd R p w) R j) → Z C 0 0 (wM (zcA C) q u z) 3 [.ref (q 0), .int (nI r), .int (nI p), .int (nI w), .int (nI i)] [] := by
  intro n
  induction n with
  | zero => intro i u h1 h2; omega
  | succ n ih =>
    intro i u hi hn hu
    refine z_iload hC dX2_add_3 rfl ?_
    refine z_sipush hC 256 dX2_add_5 (by decide) ?_
    refine z_icmp_ge (tgt := 67) hC (by omega) (by omega) dX2_add_8 (by decide) (fun hc8 => ?_) (fun hc8 => ?_)
    · obtain rfl : i = 256 := by omega
      exact hret u hu _ _ dX2_add_67
    · have e1 := blk_read (p := p) hu (Nat.le_refl i) hc8
      have e2 := blk_read (p := w) hu (Nat.le_refl i) hc8
      have b1 := hb (256 * (p % 4) + i) (by omega)
      have b2 := hb (256 * (w % 4) + i) (by omega)
      refine z_aload_n hC dX2_add_11 rfl rfl ?_
      refine z_get hC 0 wM_0 rfl in_X2 0 (by decide) q109 rfl dX2_add_12 ?_
      refine z_sipush hC 256 dX2_add_15 (by decide) ?_
      refine z_iload_n hC dX2_add_18 rfl rfl ?_
      refine z_iconst hC 3 dX2_add_19 (by decide) ?_
      refine z_iand hC 4 2 dX2_add_20 (by decide) (by decide) (by decide) rfl ?_
      refine z_imul hC dX2_add_21 ?_
      refine z_iload hC dX2_add_22 rfl ?_
      refine z_iadd hC dX2_add_24 ?_
      refine z_aload_n hC dX2_add_25 rfl rfl ?_
      refine z_get hC 0 wM_0 rfl in_X2 0 (by decide) q109 rfl dX2_add_26 ?_
      refine z_sipush hC 256 dX2_add_29 (by decide) ?_
      refine z_iload_n hC dX2_add_32 rfl rfl ?_
      refine z_iconst hC 3 dX2_add_33 (by decide) ?_
      refine z_iand hC 4 2 dX2_add_34 (by decide) (by decide) (by decide) rfl ?_
      refine z_imul hC dX2_add_35 ?_
      refine z_iload hC dX2_add_36 rfl ?_
      refine z_iadd hC dX2_add_38 ?_
      refine z_iald hC 1 wM_1 dX2_add_39 (by omega) (by decide) ?_
      refine z_aload_n hC dX2_add_40 rfl rfl ?_
      refine z_get hC 0 wM_0 rfl in_X2 0 (by decide) q109 rfl dX2_add_41 ?_
      refine z_sipush hC 256 dX2_add_44 (by decide) ?_
      refine z_iload_n hC dX2_add_47 rfl rfl ?_
      refine z_iconst hC 3 dX2_add_48 (by decide) ?_
      refine z_iand hC 4 2 dX2_add_49 (by decide) (by decide) (by decide) rfl ?_
      refine z_imul hC dX2_add_50 ?_
      refine z_iload hC dX2_add_51 rfl ?_
      refine z_iadd hC dX2_add_53 ?_
      refine z_iald hC 1 wM_1 dX2_add_54 (by omega) (by decide) ?_
      refine z_iadd hC dX2_add_55 ?_
      refine z_sipush hC 3329 dX2_add_56 (by decide) ?_
      refine z_irem hC dX2_add_59 (by omega) (by decide) (by decide) ?_
      refine z_iast hC 1 wM_1 wM_s1 dX2_add_60 (by omega) (by decide) ?_
      refine z_iinc hC _ dX2_add_61 hL (by decide) rfl (nI_1 _) ?_
      refine z_goto (tgt := 3) hC dX2_add_64 (by decide) ?_
      refine z_lw (lw' := [.ref (q 0), .int (nI r), .int (nI p), .int (nI w), .int (nI (i + 1))]) rfl ?_
      exact ih (i + 1) _ (by omega) (by omega) (blk_step hu (by unfold fAdd; rw [e1, e2]))
theorem m_add (hb : ∀ j, j < 1024 → R j < 3329) : Kv yX2_add cX2_add 5 0 0 0 0 [.ref (q 0), .int (nI r), .int (nI p), .int (nI w)] (fun cA => wM cA q R z) (fun u : Nat → Nat => ∀ j, j < 1024 → u j = blkI r 256 (fAdd R p w) R j) (fun cA u => wM cA q u z) := by
  refine Kv.of (by decide) (Nat.le_of_ble_eq_true rfl) (by simp [Value.category]) ?_
  intro C hC hR hN hL hret
  refine z_iconst hC 0 dX2_add_0 (by decide) ?_
  refine z_istore hC dX2_add_1 hL (by decide) (Nat.le_of_ble_eq_true rfl) ?_
  exact ml_add hC hL hb hret 257 0 R (by decide) (by decide) (blk_0 _ _ _)
theorem ml_sub (hC : Fx C cX2_subtract RX2) (hL : zL C = 5) (hb : ∀ j, j < 1024 → R j < 3329)
    (hret : ∀ u : Nat → Nat, (∀ j, j < 1024 → u j = blkI r 256 (fSub R p w) R j) → ∀ (pc : Nat) (lw : List Value), decode cX2_subtract pc = .ok (.return_, 1) → Z C 0 0 (wM (zcA C) q u z) pc lw []) :
    ∀ (n i : Nat) (u : Nat → Nat), i ≤ 256 → 257 ≤ i + n → (∀ j, j < 1024 → u j = blkI r i (fSub R p w) R j) → Z C 0 0 (wM (zcA C) q u z) 3 [.ref (q 0), .int (nI r), .int (nI p), .int (nI w), .int (nI i)] [] := by
  intro n
  induction n with
  | zero => intro i u h1 h2; omega
  | succ n ih =>
    intro i u hi hn hu
    refine z_iload hC dX2_subtract_3 rfl ?_
    refine z_sipush hC 256 dX2_subtract_5 (by decide) ?_
    refine z_icmp_ge (tgt := 71) hC (by omega) (by omega) dX2_subtract_8 (by decide) (fun hc8 => ?_) (fun hc8 => ?_)
    · obtain rfl : i = 256 := by omega
      exact hret u hu _ _ dX2_subtract_71
    · have e1 := blk_read (p := p) hu (Nat.le_refl i) hc8
      have e2 := blk_read (p := w) hu (Nat.le_refl i) hc8
      have b1 := hb (256 * (p % 4) + i) (by omega)
      have b2 := hb (256 * (w % 4) + i) (by omega)
      refine z_aload_n hC dX2_subtract_11 rfl rfl ?_
      refine z_get hC 0 wM_0 rfl in_X2 0 (by decide) q109 rfl dX2_subtract_12 ?_
      refine z_sipush hC 256 dX2_subtract_15 (by decide) ?_
      refine z_iload_n hC dX2_subtract_18 rfl rfl ?_
      refine z_iconst hC 3 dX2_subtract_19 (by decide) ?_
      refine z_iand hC 4 2 dX2_subtract_20 (by decide) (by decide) (by decide) rfl ?_
      refine z_imul hC dX2_subtract_21 ?_
      refine z_iload hC dX2_subtract_22 rfl ?_
      refine z_iadd hC dX2_subtract_24 ?_
      refine z_aload_n hC dX2_subtract_25 rfl rfl ?_
      refine z_get hC 0 wM_0 rfl in_X2 0 (by decide) q109 rfl dX2_subtract_26 ?_
      refine z_sipush hC 256 dX2_subtract_29 (by decide) ?_
      refine z_iload_n hC dX2_subtract_32 rfl rfl ?_
      refine z_iconst hC 3 dX2_subtract_33 (by decide) ?_
      refine z_iand hC 4 2 dX2_subtract_34 (by decide) (by decide) (by decide) rfl ?_
      refine z_imul hC dX2_subtract_35 ?_
      refine z_iload hC dX2_subtract_36 rfl ?_
      refine z_iadd hC dX2_subtract_38 ?_
      refine z_iald hC 1 wM_1 dX2_subtract_39 (by omega) (by decide) ?_
      refine z_sipush hC 3329 dX2_subtract_40 (by decide) ?_
      refine z_iadd hC dX2_subtract_43 ?_
      refine z_aload_n hC dX2_subtract_44 rfl rfl ?_
      refine z_get hC 0 wM_0 rfl in_X2 0 (by decide) q109 rfl dX2_subtract_45 ?_
      refine z_sipush hC 256 dX2_subtract_48 (by decide) ?_
      refine z_iload_n hC dX2_subtract_51 rfl rfl ?_
      refine z_iconst hC 3 dX2_subtract_52 (by decide) ?_
      refine z_iand hC 4 2 dX2_subtract_53 (by decide) (by decide) (by decide) rfl ?_
      refine z_imul hC dX2_subtract_54 ?_
      refine z_iload hC dX2_subtract_55 rfl ?_
      refine z_iadd hC dX2_subtract_57 ?_
      refine z_iald hC 1 wM_1 dX2_subtract_58 (by omega) (by decide) ?_
      refine z_isub hC dX2_subtract_59 (by omega) ?_
      refine z_sipush hC 3329 dX2_subtract_60 (by decide) ?_
      refine z_irem hC dX2_subtract_63 (by omega) (by decide) (by decide) ?_
      refine z_iast hC 1 wM_1 wM_s1 dX2_subtract_64 (by omega) (by decide) ?_
      refine z_iinc hC _ dX2_subtract_65 hL (by decide) rfl (nI_1 _) ?_
      refine z_goto (tgt := 3) hC dX2_subtract_68 (by decide) ?_
      refine z_lw (lw' := [.ref (q 0), .int (nI r), .int (nI p), .int (nI w), .int (nI (i + 1))]) rfl ?_
      exact ih (i + 1) _ (by omega) (by omega) (blk_step hu (by unfold fSub; rw [e1, e2]))
theorem m_sub (hb : ∀ j, j < 1024 → R j < 3329) : Kv yX2_subtract cX2_subtract 5 0 0 0 0 [.ref (q 0), .int (nI r), .int (nI p), .int (nI w)] (fun cA => wM cA q R z) (fun u : Nat → Nat => ∀ j, j < 1024 → u j = blkI r 256 (fSub R p w) R j) (fun cA u => wM cA q u z) := by
  refine Kv.of (by decide) (Nat.le_of_ble_eq_true rfl) (by simp [Value.category]) ?_
  intro C hC hR hN hL hret
  refine z_iconst hC 0 dX2_subtract_0 (by decide) ?_
  refine z_istore hC dX2_subtract_1 hL (by decide) (Nat.le_of_ble_eq_true rfl) ?_
  exact ml_sub hC hL hb hret 257 0 R (by decide) (by decide) (blk_0 _ _ _)
/-- the model's turn writes the file in place: the places whose source is below i are done -/
def tJ (R : Nat → Nat) (r n i : Nat) : Nat → Nat := fun j => if (256 * (r % 4) ≤ j ∧ j < 256 * (r % 4) + 256) ∧ tsrc n (j - 256 * (r % 4)) < i then fTurn R r n (j - 256 * (r % 4)) else R j
theorem tJ_step {u : Nat → Nat} {i v k : Nat} (hn : n < 256) (hi : i < 256) (hu : ∀ j, j < 1024 → u j = tJ R r n i j) (hk : k < 256) (hs : tsrc n k = i) (hv : v = fTurn R r n k) : ∀ j, j < 1024 → updN u (256 * (r % 4) + k) v j = tJ R r n (i + 1) j := by
  intro j hj
  by_cases e : j = 256 * (r % 4) + k
  · subst e
    rw [updN_s, hv]
    unfold tJ
    rw [show 256 * (r % 4) + k - 256 * (r % 4) = k by omega, if_pos (by omega)]
  · rw [updN_n e, hu j hj]
    unfold tJ
    by_cases h : 256 * (r % 4) ≤ j ∧ j < 256 * (r % 4) + 256
    · have h2 : tsrc n (j - 256 * (r % 4)) ≠ i := by
        rw [← hs]
        unfold tsrc
        split <;> split <;> omega
      by_cases h3 : tsrc n (j - 256 * (r % 4)) < i
      · rw [if_pos ⟨h, h3⟩, if_pos ⟨h, by omega⟩]
      · rw [if_neg (fun q => h3 q.2), if_neg (fun q => h3 (by omega))]
    · rw [if_neg (fun q => h q.1), if_neg (fun q => h q.1)]
theorem ml_turn2 {g : Nat → Nat} (hC : Fx C cX2_turn RX2) (hL : zL C = 6) (hn : n < 256) (hb : ∀ j, j < 1024 → R j < 3329) (hg : ∀ k, k < 256 → g k = R (256 * (r % 4) + k))
    (hret : ∀ u : (Nat → Nat) × (Nat → Nat), (∀ j, j < 1024 → u.1 j = blkI r 256 (fTurn R r n) R j) → ∀ (pc : Nat) (lw : List Value), decode cX2_turn pc = .ok (.return_, 1) → Z C 0 0 (wM (zcA C) q u.1 u.2) pc lw []) :
    ∀ (m i : Nat) (u : Nat → Nat), i ≤ 256 → 257 ≤ i + m → (∀ j, j < 1024 → u j = tJ R r n i j) → Z C 0 0 (wM (zcA C) q u g) 48 [.ref (q 0), .int (nI r), .int (nI w), .int (nI n), .int (nI i)] [] := by
  intro m
  induction m with
  | zero => intro i u h1 h2; omega
  | succ m ih =>
    intro i u hi hm hu
    refine z_iload hC dX2_turn_48 rfl ?_
    refine z_sipush hC 256 dX2_turn_50 (by decide) ?_
    refine z_icmp_ge (tgt := 134) hC (by omega) (by omega) dX2_turn_53 (by decide) (fun hc53 => ?_) (fun hc53 => ?_)
    · obtain rfl : i = 256 := by omega
      refine hret (u, g) (fun j hj => ?_) _ _ dX2_turn_134
      show u j = _
      rw [hu j hj]
      unfold tJ blkI
      by_cases h : 256 * (r % 4) ≤ j ∧ j < 256 * (r % 4) + 256
      · rw [if_pos ⟨h, by unfold tsrc; split <;> omega⟩, if_pos h]
      · rw [if_neg (fun q => h q.1), if_neg h]
    · have e1 := hg i hc53
      have b1 := hb (256 * (r % 4) + i) (by omega)
      refine z_aload_n hC dX2_turn_56 rfl rfl ?_
      refine z_get hC 0 wM_0 rfl in_X2 1 (by decide) q110 rfl dX2_turn_57 ?_
      refine z_iload hC dX2_turn_60 rfl ?_
      refine z_iald hC 2 wM_2 dX2_turn_62 (by omega) (by decide) ?_
      refine z_istore hC dX2_turn_63 hL (by decide) (Nat.le_of_ble_eq_true rfl) ?_
      refine z_iload hC dX2_turn_65 rfl ?_
      refine z_iload_n hC dX2_turn_67 rfl rfl ?_
      refine z_iadd hC dX2_turn_68 ?_
      refine z_sipush hC 256 dX2_turn_69 (by decide) ?_
      refine z_icmp_ge (tgt := 97) hC (by omega) (by omega) dX2_turn_72 (by decide) (fun hc72 => ?_) (fun hc72 => ?_)
      · refine z_aload_n hC dX2_turn_97 rfl rfl ?_
        refine z_get hC 0 wM_0 rfl in_X2 0 (by decide) q109 rfl dX2_turn_98 ?_
        refine z_sipush hC 256 dX2_turn_101 (by decide) ?_
        refine z_iload_n hC dX2_turn_104 rfl rfl ?_
        refine z_iconst hC 3 dX2_turn_105 (by decide) ?_
        refine z_iand hC 4 2 dX2_turn_106 (by decide) (by decide) (by decide) rfl ?_
        refine z_imul hC dX2_turn_107 ?_
        refine z_iload hC dX2_turn_108 rfl ?_
        refine z_iadd hC dX2_turn_110 ?_
        refine z_iload_n hC dX2_turn_111 rfl rfl ?_
        refine z_iadd hC dX2_turn_112 ?_
        refine z_sipush hC 256 dX2_turn_113 (by decide) ?_
        refine z_isub hC dX2_turn_116 (by omega) ?_
        refine z_sipush hC 3329 dX2_turn_117 (by decide) ?_
        refine z_iload hC dX2_turn_120 rfl ?_
        refine z_isub hC dX2_turn_122 (by omega) ?_
        refine z_sipush hC 3329 dX2_turn_123 (by decide) ?_
        refine z_irem hC dX2_turn_126 (by omega) (by decide) (by decide) ?_
        refine z_iast hC 1 wM_1 wM_s1 dX2_turn_127 (by omega) (by decide) ?_
        refine z_iinc hC _ dX2_turn_128 hL (by decide) rfl (nI_1 _) ?_
        refine z_goto (tgt := 48) hC dX2_turn_131 (by decide) ?_
        refine z_lw (lw' := [.ref (q 0), .int (nI r), .int (nI w), .int (nI n), .int (nI (i + 1))]) rfl ?_
        refine ih (i + 1) _ (by omega) (by omega) ?_
        rw [show 256 * (r % 4) + i + n - 256 = 256 * (r % 4) + (i + n - 256) by omega]
        refine tJ_step hn hc53 hu (by omega) (by unfold tsrc; split <;> omega) ?_
        rw [fTurn_lo hc72 hc53, e1]
      · refine z_aload_n hC dX2_turn_75 rfl rfl ?_
        refine z_get hC 0 wM_0 rfl in_X2 0 (by decide) q109 rfl dX2_turn_76 ?_
        refine z_sipush hC 256 dX2_turn_79 (by decide) ?_
        refine z_iload_n hC dX2_turn_82 rfl rfl ?_
        refine z_iconst hC 3 dX2_turn_83 (by decide) ?_
        refine z_iand hC 4 2 dX2_turn_84 (by decide) (by decide) (by decide) rfl ?_
        refine z_imul hC dX2_turn_85 ?_
        refine z_iload hC dX2_turn_86 rfl ?_
        refine z_iadd hC dX2_turn_88 ?_
        refine z_iload_n hC dX2_turn_89 rfl rfl ?_
        refine z_iadd hC dX2_turn_90 ?_
        refine z_iload hC dX2_turn_91 rfl ?_
        refine z_iast hC 1 wM_1 wM_s1 dX2_turn_93 (by omega) (by decide) ?_
        refine z_goto (tgt := 128) hC dX2_turn_94 (by decide) ?_
        refine z_iinc hC _ dX2_turn_128 hL (by decide) rfl (nI_1 _) ?_
        refine z_goto (tgt := 48) hC dX2_turn_131 (by decide) ?_
        refine z_lw (lw' := [.ref (q 0), .int (nI r), .int (nI w), .int (nI n), .int (nI (i + 1))]) rfl ?_
        refine ih (i + 1) _ (by omega) (by omega) ?_
        rw [show 256 * (r % 4) + i + n = 256 * (r % 4) + (i + n) by omega]
        refine tJ_step hn hc53 hu (by omega) (by unfold tsrc; split <;> omega) ?_
        rw [fTurn_hi, e1]
theorem ml_turn1 (hC : Fx C cX2_turn RX2) (hL : zL C = 6) (hn : n < 256) (hb : ∀ j, j < 1024 → R j < 3329)
    (hret : ∀ u : (Nat → Nat) × (Nat → Nat), (∀ j, j < 1024 → u.1 j = blkI r 256 (fTurn R r n) R j) → ∀ (pc : Nat) (lw : List Value), decode cX2_turn pc = .ok (.return_, 1) → Z C 0 0 (wM (zcA C) q u.1 u.2) pc lw []) :
    ∀ (m i : Nat) (g : Nat → Nat), i ≤ 256 → 257 ≤ i + m → (∀ k, k < i → g k = R (256 * (r % 4) + k)) → Z C 0 0 (wM (zcA C) q R g) 9 [.ref (q 0), .int (nI r), .int (nI w), .int (nI n), .int (nI i)] [] := by
  intro m
  induction m with
  | zero => intro i u h1 h2; omega
  | succ m ih =>
    intro i g hi hm hg
    refine z_iload hC dX2_turn_9 rfl ?_
    refine z_sipush hC 256 dX2_turn_11 (by decide) ?_
    refine z_icmp_ge (tgt := 45) hC (by omega) (by omega) dX2_turn_14 (by decide) (fun hc14 => ?_) (fun hc14 => ?_)
    · obtain rfl : i = 256 := by omega
      refine z_iconst hC 0 dX2_turn_45 (by decide) ?_
      refine z_istore hC dX2_turn_46 hL (by decide) (Nat.le_of_ble_eq_true rfl) ?_
      refine ml_turn2 hC hL hn hb hg hret 257 0 R (by decide) (by decide) (fun j hj => ?_)
      unfold tJ
      rw [if_neg (by omega)]
    · refine z_aload_n hC dX2_turn_17 rfl rfl ?_
      refine z_get hC 0 wM_0 rfl in_X2 1 (by decide) q110 rfl dX2_turn_18 ?_
      refine z_iload hC dX2_turn_21 rfl ?_
      refine z_aload_n hC dX2_turn_23 rfl rfl ?_
      refine z_get hC 0 wM_0 rfl in_X2 0 (by decide) q109 rfl dX2_turn_24 ?_
      refine z_sipush hC 256 dX2_turn_27 (by decide) ?_
      refine z_iload_n hC dX2_turn_30 rfl rfl ?_
      refine z_iconst hC 3 dX2_turn_31 (by decide) ?_
      refine z_iand hC 4 2 dX2_turn_32 (by decide) (by decide) (by decide) rfl ?_
      refine z_imul hC dX2_turn_33 ?_
      refine z_iload hC dX2_turn_34 rfl ?_
      refine z_iadd hC dX2_turn_36 ?_
      refine z_iald hC 1 wM_1 dX2_turn_37 (by omega) (by decide) ?_
      refine z_iast hC 2 wM_2 wM_s2 dX2_turn_38 (by omega) (by decide) ?_
      refine z_iinc hC _ dX2_turn_39 hL (by decide) rfl (nI_1 _) ?_
      refine z_goto (tgt := 9) hC dX2_turn_42 (by decide) ?_
      refine z_lw (lw' := [.ref (q 0), .int (nI r), .int (nI w), .int (nI n), .int (nI (i + 1))]) rfl ?_
      refine ih (i + 1) _ (by omega) (by omega) (fun k hk => ?_)
      by_cases e : k = i
      · subst e
        rw [updN_s]
      · rw [updN_n e, hg k (by omega)]
theorem m_turn (hb : ∀ j, j < 1024 → R j < 3329) : Kv yX2_turn cX2_turn 6 0 0 0 0 [.ref (q 0), .int (nI r), .int (nI w)] (fun cA => wM cA q R z) (fun u : (Nat → Nat) × (Nat → Nat) => ∀ j, j < 1024 → u.1 j = blkI r 256 (fTurn R r (w % 256)) R j) (fun cA u => wM cA q u.1 u.2) := by
  refine Kv.of (by decide) (Nat.le_of_ble_eq_true rfl) (by simp [Value.category]) ?_
  intro C hC hR hN hL hret
  refine z_iload_n hC dX2_turn_0 rfl rfl ?_
  refine z_sipush hC 255 dX2_turn_1 (by decide) ?_
  refine z_iand hC 256 8 dX2_turn_4 (by decide) (by decide) (by decide) rfl ?_
  refine z_istore_n hC dX2_turn_5 rfl hL (by decide) (Nat.le_of_ble_eq_true rfl) ?_
  refine z_iconst hC 0 dX2_turn_6 (by decide) ?_
  refine z_istore hC dX2_turn_7 hL (by decide) (Nat.le_of_ble_eq_true rfl) ?_
  exact ml_turn1 (n := w % 256) hC hL (by omega) hb hret 257 0 z (by decide) (by decide) (fun k hk => absurd hk (by omega))
theorem ml_press {b : Nat} (hC : Fx C cX2_press RX2) (hL : zL C = 6) (hb1 : 1 ≤ b) (hb2 : b ≤ 11) (hb : ∀ j, j < 1024 → R j < 3329)
    (hret : ∀ u : Nat → Nat, (∀ j, j < 1024 → u j = blkI r 256 (fPress R r b) R j) → ∀ (pc : Nat) (lw : List Value), decode cX2_press pc = .ok (.return_, 1) → Z C 0 0 (wM (zcA C) q u z) pc lw []) :
    ∀ (m i : Nat) (u : Nat → Nat), i ≤ 256 → 257 ≤ i + m → (∀ j, j < 1024 → u j = blkI r i (fPress R r b) R j) → Z C 0 0 (wM (zcA C) q u z) 13 [.ref (q 0), .int (nI r), .int (nI d), .int (nI b), .int (nI i)] [] := by
  intro m
  induction m with
  | zero => intro i u h1 h2; omega
  | succ m ih =>
    intro i u hi hn hu
    refine z_iload hC dX2_press_13 rfl ?_
    refine z_sipush hC 256 dX2_press_15 (by decide) ?_
    refine z_icmp_ge (tgt := 77) hC (by omega) (by omega) dX2_press_18 (by decide) (fun hc18 => ?_) (fun hc18 => ?_)
    · obtain rfl : i = 256 := by omega
      exact hret u hu _ _ dX2_press_77
    · have e1 := blk_read (p := r) hu (Nat.le_refl i) hc18
      have b1 := hb (256 * (r % 4) + i) (by omega)
      obtain ⟨t1, t2, t3⟩ := two_b hb1 hb2
      have b2 : u (256 * (r % 4) + i) * 2 ^ b ≤ 3328 * 2048 := Nat.mul_le_mul (by omega) t2
      refine z_aload_n hC dX2_press_21 rfl rfl ?_
      refine z_get hC 0 wM_0 rfl in_X2 0 (by decide) q109 rfl dX2_press_22 ?_
      refine z_sipush hC 256 dX2_press_25 (by decide) ?_
      refine z_iload_n hC dX2_press_28 rfl rfl ?_
      refine z_iconst hC 3 dX2_press_29 (by decide) ?_
      refine z_iand hC 4 2 dX2_press_30 (by decide) (by decide) (by decide) rfl ?_
      refine z_imul hC dX2_press_31 ?_
      refine z_iload hC dX2_press_32 rfl ?_
      refine z_iadd hC dX2_press_34 ?_
      refine z_iald hC 1 wM_1 dX2_press_35 (by omega) (by decide) ?_
      refine z_istore hC dX2_press_36 hL (by decide) (Nat.le_of_ble_eq_true rfl) ?_
      refine z_aload_n hC dX2_press_38 rfl rfl ?_
      refine z_get hC 0 wM_0 rfl in_X2 0 (by decide) q109 rfl dX2_press_39 ?_
      refine z_sipush hC 256 dX2_press_42 (by decide) ?_
      refine z_iload_n hC dX2_press_45 rfl rfl ?_
      refine z_iconst hC 3 dX2_press_46 (by decide) ?_
      refine z_iand hC 4 2 dX2_press_47 (by decide) (by decide) (by decide) rfl ?_
      refine z_imul hC dX2_press_48 ?_
      refine z_iload hC dX2_press_49 rfl ?_
      refine z_iadd hC dX2_press_51 ?_
      refine z_iload hC dX2_press_52 rfl ?_
      refine z_iload_n hC dX2_press_54 rfl rfl ?_
      refine z_ishl hC dX2_press_55 (by omega) (by omega) ?_
      refine z_iconst hC 2 dX2_press_56 (by decide) ?_
      refine z_imul hC dX2_press_57 ?_
      refine z_sipush hC 3329 dX2_press_58 (by decide) ?_
      refine z_iadd hC dX2_press_61 ?_
      refine z_sipush hC 6658 dX2_press_62 (by decide) ?_
      refine z_idiv hC dX2_press_65 (by omega) (by decide) (by decide) ?_
      refine z_iconst hC 1 dX2_press_66 (by decide) ?_
      refine z_iload_n hC dX2_press_67 rfl rfl ?_
      refine z_ishl hC dX2_press_68 (by omega) (by omega) ?_
      refine z_irem hC dX2_press_69 (by omega) (by omega) (by omega) ?_
      refine z_iast hC 1 wM_1 wM_s1 dX2_press_70 (by omega) (by decide) ?_
      refine z_iinc hC _ dX2_press_71 hL (by decide) rfl (nI_1 _) ?_
      refine z_goto (tgt := 13) hC dX2_press_74 (by decide) ?_
      refine z_lw (lw' := [.ref (q 0), .int (nI r), .int (nI d), .int (nI b), .int (nI (i + 1))]) rfl ?_
      exact ih (i + 1) _ (by omega) (by omega) (blk_step hu (by unfold fPress; rw [e1, Nat.one_mul, zp_div2]))
theorem m_press (hb : ∀ j, j < 1024 → R j < 3329) : Kv yX2_press cX2_press 6 0 0 0 0 [.ref (q 0), .int (nI r), .int (nI d)] (fun cA => wM cA q R z) (fun u : Nat → Nat => ∀ j, j < 1024 → u j = blkI r 256 (fPress R r (1 + d % 2147483648 % 11)) R j) (fun cA u => wM cA q u z) := by
  refine Kv.of (by decide) (Nat.le_of_ble_eq_true rfl) (by simp [Value.category]) ?_
  intro C hC hR hN hL hret
  refine z_iconst hC 1 dX2_press_0 (by decide) ?_
  refine z_iload_n hC dX2_press_1 rfl rfl ?_
  refine z_ldc hC 2147483647 dX2_press_2 q140 (by decide) ?_
  refine z_iand hC 2147483648 31 dX2_press_4 (by decide) (by decide) (by decide) rfl ?_
  refine z_bipush hC 11 dX2_press_5 (by decide) ?_
  refine z_irem hC dX2_press_7 (by omega) (by decide) (by decide) ?_
  refine z_iadd hC dX2_press_8 ?_
  refine z_istore_n hC dX2_press_9 rfl hL (by decide) (Nat.le_of_ble_eq_true rfl) ?_
  refine z_iconst hC 0 dX2_press_10 (by decide) ?_
  refine z_istore hC dX2_press_11 hL (by decide) (Nat.le_of_ble_eq_true rfl) ?_
  exact ml_press hC hL (by omega) (by omega) hb hret 257 0 R (by decide) (by decide) (blk_0 _ _ _)
theorem zp_unp (a b c : Nat) (h : b = 2 * c) : (a * 6658 + b) / (2 * b) = (a * 3329 + c) / b := by
  rw [← Nat.mul_div_mul_left (a * 3329 + c) b (show 0 < 2 by decide)]
  congr 1
  omega
theorem ml_unpress {b : Nat} (hC : Fx C cX2_unpress RX2) (hL : zL C = 6) (hb1 : 1 ≤ b) (hb2 : b ≤ 11) (hb : ∀ j, j < 1024 → R j < 3329)
    (hret : ∀ u : Nat → Nat, (∀ j, j < 1024 → u j = blkI r 256 (fUnpress R r b) R j) → ∀ (pc : Nat) (lw : List Value), decode cX2_unpress pc = .ok (.return_, 1) → Z C 0 0 (wM (zcA C) q u z) pc lw []) :
    ∀ (m i : Nat) (u : Nat → Nat), i ≤ 256 → 257 ≤ i + m → (∀ j, j < 1024 → u j = blkI r i (fUnpress R r b) R j) → Z C 0 0 (wM (zcA C) q u z) 13 [.ref (q 0), .int (nI r), .int (nI d), .int (nI b), .int (nI i)] [] := by
  intro m
  induction m with
  | zero => intro i u h1 h2; omega
  | succ m ih =>
    intro i u hi hn hu
    refine z_iload hC dX2_unpress_13 rfl ?_
    refine z_sipush hC 256 dX2_unpress_15 (by decide) ?_
    refine z_icmp_ge (tgt := 77) hC (by omega) (by omega) dX2_unpress_18 (by decide) (fun hc18 => ?_) (fun hc18 => ?_)
    · obtain rfl : i = 256 := by omega
      exact hret u hu _ _ dX2_unpress_77
    · have e1 := blk_read (p := r) hu (Nat.le_refl i) hc18
      have b1 := hb (256 * (r % 4) + i) (by omega)
      obtain ⟨t1, t2, t3⟩ := two_b hb1 hb2
      have b2 : u (256 * (r % 4) + i) % 2 ^ b < 2 ^ b := Nat.mod_lt _ (by omega)
      refine z_aload_n hC dX2_unpress_21 rfl rfl ?_
      refine z_get hC 0 wM_0 rfl in_X2 0 (by decide) q109 rfl dX2_unpress_22 ?_
      refine z_sipush hC 256 dX2_unpress_25 (by decide) ?_
      refine z_iload_n hC dX2_unpress_28 rfl rfl ?_
      refine z_iconst hC 3 dX2_unpress_29 (by decide) ?_
      refine z_iand hC 4 2 dX2_unpress_30 (by decide) (by decide) (by decide) rfl ?_
      refine z_imul hC dX2_unpress_31 ?_
      refine z_iload hC dX2_unpress_32 rfl ?_
      refine z_iadd hC dX2_unpress_34 ?_
      refine z_iald hC 1 wM_1 dX2_unpress_35 (by omega) (by decide) ?_
      refine z_iconst hC 1 dX2_unpress_36 (by decide) ?_
      refine z_iload_n hC dX2_unpress_37 rfl rfl ?_
      refine z_ishl hC dX2_unpress_38 (by omega) (by omega) ?_
      refine z_irem hC dX2_unpress_39 (by omega) (by omega) (by omega) ?_
      rw [Nat.one_mul]
      refine z_istore hC dX2_unpress_40 hL (by decide) (Nat.le_of_ble_eq_true rfl) ?_
      refine z_aload_n hC dX2_unpress_42 rfl rfl ?_
      refine z_get hC 0 wM_0 rfl in_X2 0 (by decide) q109 rfl dX2_unpress_43 ?_
      refine z_sipush hC 256 dX2_unpress_46 (by decide) ?_
      refine z_iload_n hC dX2_unpress_49 rfl rfl ?_
      refine z_iconst hC 3 dX2_unpress_50 (by decide) ?_
      refine z_iand hC 4 2 dX2_unpress_51 (by decide) (by decide) (by decide) rfl ?_
      refine z_imul hC dX2_unpress_52 ?_
      refine z_iload hC dX2_unpress_53 rfl ?_
      refine z_iadd hC dX2_unpress_55 ?_
      refine z_iload hC dX2_unpress_56 rfl ?_
      refine z_sipush hC 6658 dX2_unpress_58 (by decide) ?_
      refine z_imul hC dX2_unpress_61 ?_
      refine z_iconst hC 1 dX2_unpress_62 (by decide) ?_
      refine z_iload_n hC dX2_unpress_63 rfl rfl ?_
      refine z_ishl hC dX2_unpress_64 (by omega) (by omega) ?_
      refine z_iadd hC dX2_unpress_65 ?_
      refine z_iconst hC 2 dX2_unpress_66 (by decide) ?_
      refine z_iload_n hC dX2_unpress_67 rfl rfl ?_
      refine z_ishl hC dX2_unpress_68 (by omega) (by omega) ?_
      refine z_idiv hC dX2_unpress_69 (by omega) (by omega) (by omega) ?_
      refine z_iast hC 1 wM_1 wM_s1 dX2_unpress_70 (by omega) (by decide) ?_
      refine z_iinc hC _ dX2_unpress_71 hL (by decide) rfl (nI_1 _) ?_
      refine z_goto (tgt := 13) hC dX2_unpress_74 (by decide) ?_
      refine z_lw (lw' := [.ref (q 0), .int (nI r), .int (nI d), .int (nI b), .int (nI (i + 1))]) rfl ?_
      exact ih (i + 1) _ (by omega) (by omega) (blk_step hu (by unfold fUnpress; rw [e1, Nat.one_mul, zp_unp _ _ _ t3]))
theorem m_unpress (hb : ∀ j, j < 1024 → R j < 3329) : Kv yX2_unpress cX2_unpress 6 0 0 0 0 [.ref (q 0), .int (nI r), .int (nI d)] (fun cA => wM cA q R z) (fun u : Nat → Nat => ∀ j, j < 1024 → u j = blkI r 256 (fUnpress R r (1 + d % 2147483648 % 11)) R j) (fun cA u => wM cA q u z) := by
  refine Kv.of (by decide) (Nat.le_of_ble_eq_true rfl) (by simp [Value.category]) ?_
  intro C hC hR hN hL hret
  refine z_iconst hC 1 dX2_unpress_0 (by decide) ?_
  refine z_iload_n hC dX2_unpress_1 rfl rfl ?_
  refine z_ldc hC 2147483647 dX2_unpress_2 q140 (by decide) ?_
  refine z_iand hC 2147483648 31 dX2_unpress_4 (by decide) (by decide) (by decide) rfl ?_
  refine z_bipush hC 11 dX2_unpress_5 (by decide) ?_
  refine z_irem hC dX2_unpress_7 (by omega) (by decide) (by decide) ?_
  refine z_iadd hC dX2_unpress_8 ?_
  refine z_istore_n hC dX2_unpress_9 rfl hL (by decide) (Nat.le_of_ble_eq_true rfl) ?_
  refine z_iconst hC 0 dX2_unpress_10 (by decide) ?_
  refine z_istore hC dX2_unpress_11 hL (by decide) (Nat.le_of_ble_eq_true rfl) ?_
  exact ml_unpress hC hL (by omega) (by omega) hb hret 257 0 R (by decide) (by decide) (blk_0 _ _ _)
end X2OPS
end
section
/-! the algebra: products modulo x^n - c, and how they fold -/
def sm {R : Type} [Lean.Grind.CommRing R] (f : Nat → R) : Nat → R
  | 0 => 0
  | n + 1 => sm f n + f n
theorem sm_congr {R : Type} [Lean.Grind.CommRing R] {f g : Nat → R} : ∀ n : Nat, (∀ i, i < n → f i = g i) → sm f n = sm g n := by
  intro n
  induction n with
  | zero => intro _; rfl
  | succ n ih =>
    intro h
    show sm f n + f n = sm g n + g n
    rw [ih (fun i hi => h i (by omega)), h n (by omega)]
theorem sm_add2 {R : Type} [Lean.Grind.CommRing R] (f g : Nat → R) (n : Nat) : sm f n + sm g n = sm (fun i => f i + g i) n := by
  induction n with
  | zero => show (0 : R) + 0 = 0; grind
  | succ n ih =>
    show sm f n + f n + (sm g n + g n) = sm (fun i => f i + g i) n + (f n + g n)
    rw [← ih]
    grind
theorem sm_mul {R : Type} [Lean.Grind.CommRing R] (c : R) (f : Nat → R) (n : Nat) : c * sm f n = sm (fun i => c * f i) n := by
  induction n with
  | zero => show c * (0 : R) = 0; grind
  | succ n ih =>
    show c * (sm f n + f n) = sm (fun i => c * f i) n + c * f n
    rw [← ih]
    grind
theorem sm_app {R : Type} [Lean.Grind.CommRing R] (f : Nat → R) (n m : Nat) : sm f (n + m) = sm f n + sm (fun i => f (n + i)) m := by
  induction m with
  | zero => show sm f n = sm f n + (0 : R); grind
  | succ m ih =>
    show sm f (n + m) + f (n + m) = sm f n + (sm (fun i => f (n + i)) m + f (n + m))
    rw [ih]
    grind
theorem sm_zero {R : Type} [Lean.Grind.CommRing R] {f : Nat → R} (n : Nat) (h : ∀ i, i < n → f i = 0) : sm f n = 0 := by
  induction n with
  | zero => rfl
  | succ n ih =>
    show sm f n + f n = 0
    rw [ih (fun i hi => h i (by omega)), h n (by omega)]
    grind
/-- the coefficient k of f g modulo x^n - c -/
def pm {R : Type} [Lean.Grind.CommRing R] (n : Nat) (c : R) (f g : Nat → R) (k : Nat) : R := sm (fun i => f i * (if i ≤ k then g (k - i) else c * g (n + k - i))) n
theorem pm_congr {R : Type} [Lean.Grind.CommRing R] {n k : Nat} {c : R} {f g f' g' : Nat → R} (hk : k < n) (hf : ∀ i, i < n → f i = f' i) (hg : ∀ i, i < n → g i = g' i) : pm n c f g k = pm n c f' g' k := by
  unfold pm
  refine sm_congr n (fun i hi => ?_)
  rw [hf i hi]
  by_cases h : i ≤ k
  · rw [if_pos h, if_pos h, hg _ (by omega)]
  · rw [if_neg h, if_neg h, hg _ (by omega)]
theorem pm_fold {R : Type} [Lean.Grind.CommRing R] {h k : Nat} (c : R) (f g : Nat → R) (hk : k < h) :
    pm (h + h) (c * c) f g k + c * pm (h + h) (c * c) f g (h + k) = pm h c (fun i => f i + c * f (h + i)) (fun i => g i + c * g (h + i)) k := by
  unfold pm
  rw [sm_app, sm_app, sm_add2, sm_add2, sm_mul, sm_add2]
  refine sm_congr h (fun i hi => ?_)
  rw [if_neg (show ¬ h + i ≤ k by omega), if_pos (show i ≤ h + k by omega), show h + h + k - (h + i) = h + k - i by omega]
  dsimp only
  by_cases e : i ≤ k
  · rw [if_pos e, if_pos (show h + i ≤ h + k by omega), if_pos e, show h + k - (h + i) = k - i by omega, show h + (k - i) = h + k - i by omega]
    grind
  · rw [if_neg e, if_neg (show ¬ h + i ≤ h + k by omega), if_neg e, show h + h + (h + k) - (h + i) = h + h + k - i by omega, show h + (h + k - i) = h + h + k - i by omega]
    grind
/-- P is the product of A and B, block by block: N blocks of n cells, modulo x^n - mf b -/
def IsP {R : Type} [Lean.Grind.CommRing R] (n N : Nat) (mf : Nat → R) (A B P : Nat → R) : Prop := ∀ b k : Nat, b < N → k < n → P (b * n + k) = pm n (mf b) (fun i => A (b * n + i)) (fun i => B (b * n + i)) k
/-- A' is A with each of N blocks of h + h cells split by z -/
def IsL {R : Type} [Lean.Grind.CommRing R] (h N : Nat) (zf : Nat → R) (A A' : Nat → R) : Prop := ∀ b k : Nat, b < N → k < h → A' (b * (h + h) + k) = A (b * (h + h) + k) + zf b * A (b * (h + h) + (h + k)) ∧ A' (b * (h + h) + (h + k)) = A (b * (h + h) + k) - zf b * A (b * (h + h) + (h + k))
theorem IsP.split {R : Type} [Lean.Grind.CommRing R] {h N : Nat} {mf mf' zf A B P A' B' P' : Nat → R} (hP : IsP (h + h) N mf A B P) (hA : IsL h N zf A A') (hB : IsL h N zf B B') (hQ : IsL h N zf P P')
    (hm : ∀ b, b < N → mf b = zf b * zf b) (hm0 : ∀ b, b < N → mf' (2 * b) = zf b) (hm1 : ∀ b, b < N → mf' (2 * b + 1) = - zf b) : IsP h (2 * N) mf' A' B' P' := by
  intro c k hc hk
  have key : ∀ b, b * (h + h) = (2 * b) * h := fun b => by rw [Nat.mul_add, Nat.mul_comm 2 b, Nat.mul_assoc, Nat.two_mul, Nat.mul_add]
  obtain ⟨b, hb⟩ : ∃ b, c = 2 * b ∨ c = 2 * b + 1 := ⟨c / 2, by omega⟩
  rcases hb with rfl | rfl
  · have hb : b < N := by omega
    rw [← key b, (hQ b k hb hk).1, hP b k hb (by omega), hP b (h + k) hb (by omega), hm b hb, pm_fold (zf b) _ _ hk, hm0 b hb]
    refine pm_congr hk (fun i hi => ?_) (fun i hi => ?_)
    · rw [(hA b i hb hi).1]
    · rw [(hB b i hb hi).1]
  · have e2 : (2 * b + 1) * h = b * (h + h) + h := by rw [key b, Nat.add_mul, Nat.one_mul]
    have hb : b < N := by omega
    have e5 : ∀ i, b * (h + h) + h + i = b * (h + h) + (h + i) := fun i => Nat.add_assoc _ _ _
    rw [e2, e5, (hQ b k hb hk).2, hP b k hb (by omega), hP b (h + k) hb (by omega), hm b hb, hm1 b hb]
    have e3 := pm_fold (- zf b) (fun i => A (b * (h + h) + i)) (fun i => B (b * (h + h) + i)) hk
    rw [show (- zf b) * (- zf b) = zf b * zf b by grind] at e3
    have e4 : ∀ x y : R, x - zf b * y = x + (- zf b) * y := by intro x y; grind
    rw [e4, e3]
    refine pm_congr hk (fun i hi => ?_) (fun i hi => ?_)
    · rw [e5, (hA b i hb hi).2]
      grind
    · rw [e5, (hB b i hb hi).2]
      grind
end
section
/-! the transform, modulo 3329 -/
set_option maxRecDepth 100000
abbrev F9 : Type := Fin 3329
def eF (n : Nat) : F9 := Fin.ofNat 3329 n
theorem eF_add (a b : Nat) : eF (a + b) = eF a + eF b := by
  apply Fin.ext
  show (a + b) % 3329 = (a % 3329 + b % 3329) % 3329
  omega
theorem eF_mul (a b : Nat) : eF (a * b) = eF a * eF b := by
  apply Fin.ext
  show (a * b) % 3329 = (a % 3329 * (b % 3329)) % 3329
  exact Nat.mul_mod _ _ _
theorem eF_mod (a : Nat) : eF (a % 3329) = eF a := by
  apply Fin.ext
  show a % 3329 % 3329 = a % 3329
  omega
theorem eF_inj {a b : Nat} (ha : a < 3329) (hb : b < 3329) (h : eF a = eF b) : a = b := by
  have h1 : a % 3329 = b % 3329 := congrArg Fin.val h
  omega
theorem eF_val (x : F9) : eF x.val = x := by
  apply Fin.ext
  show x.val % 3329 = x.val
  exact Nat.mod_eq_of_lt x.isLt
theorem eF_p : eF 3329 = 0 := by decide
theorem eF_sub {a b : Nat} (h : b ≤ a) : eF (a - b) = eF a - eF b := by
  have h1 : eF a = eF (a - b) + eF b := by rw [← eF_add]; congr 1; omega
  rw [h1]
  grind
theorem eF_lo (x y z : Nat) : eF ((x + z * y % 3329) % 3329) = eF x + eF z * eF y := by
  rw [eF_mod, eF_add, eF_mod, eF_mul]
theorem eF_hi (x y z : Nat) : eF ((x + 3329 - z * y % 3329) % 3329) = eF x - eF z * eF y := by
  rw [eF_mod, eF_sub (by omega), eF_add, eF_p, eF_mod, eF_mul]
  grind
/-- a layer of Transform.there, with half h, blocks numbered from k0 -/
def lay (h k0 : Nat) (pw a : Nat → Nat) : Nat → Nat := fun j => if j % (h + h) < h then (a j + pw (k0 + j / (h + h)) * a (j + h) % 3329) % 3329 else (a (j - h) + 3329 - pw (k0 + j / (h + h)) * a j % 3329) % 3329
theorem dv_at {b n k : Nat} (hk : k < n) : (b * n + k) / n = b ∧ (b * n + k) % n = k := by
  have hn : 0 < n := by omega
  constructor
  · rw [Nat.add_comm, Nat.add_mul_div_right _ _ hn, Nat.div_eq_of_lt hk, Nat.zero_add]
  · rw [Nat.add_comm, Nat.add_mul_mod_self_right, Nat.mod_eq_of_lt hk]
theorem lay_lo {h k0 b k : Nat} {pw a : Nat → Nat} (hk : k < h) : lay h k0 pw a (b * (h + h) + k) = (a (b * (h + h) + k) + pw (k0 + b) * a (b * (h + h) + (h + k)) % 3329) % 3329 := by
  obtain ⟨e1, e2⟩ := dv_at (b := b) (n := h + h) (k := k) (by omega)
  unfold lay
  rw [e1, e2, if_pos hk, show b * (h + h) + k + h = b * (h + h) + (h + k) by omega]
theorem lay_hi {h k0 b k : Nat} {pw a : Nat → Nat} (hk : k < h) : lay h k0 pw a (b * (h + h) + (h + k)) = (a (b * (h + h) + k) + 3329 - pw (k0 + b) * a (b * (h + h) + (h + k)) % 3329) % 3329 := by
  obtain ⟨e1, e2⟩ := dv_at (b := b) (n := h + h) (k := h + k) (by omega)
  unfold lay
  rw [e1, e2, if_neg (by omega), show b * (h + h) + (h + k) - h = b * (h + h) + k by omega]
theorem lay_lt {h k0 j : Nat} {pw a : Nat → Nat} : lay h k0 pw a j < 3329 := by
  unfold lay
  split <;> omega
def lays (pw a : Nat → Nat) : Nat → Nat → Nat
  | 0 => a
  | t + 1 => lay (2 ^ (7 - t)) (2 ^ t) pw (lays pw a t)
theorem lays_lt {pw a : Nat → Nat} (ha : ∀ j, j < 256 → a j < 3329) : ∀ (t j : Nat), j < 256 → lays pw a t j < 3329 := by
  intro t j hj
  cases t with
  | zero => exact ha j hj
  | succ t => exact lay_lt
theorem lays_IsL (pw a : Nat → Nat) (t : Nat) : IsL (2 ^ (7 - t)) (2 ^ t) (fun b => eF (pw (2 ^ t + b))) (fun j => eF (lays pw a t j)) (fun j => eF (lays pw a (t + 1) j)) := by
  intro b k hb hk
  refine ⟨?_, ?_⟩
  · show eF (lay _ _ _ _ _) = _
    rw [lay_lo hk, eF_lo]
  · show eF (lay _ _ _ _ _) = _
    rw [lay_hi hk, eF_hi]
/-- 17 to the n -/
def pw17 : Nat → Nat
  | 0 => 1
  | n + 1 => pw17 n * 17 % 3329
/-- the low bits of i turned round, as the loop has them -/
def revk (i : Nat) : Nat → Nat
  | 0 => 0
  | k + 1 => revk i k ||| (i / 2 ^ k % 2 * 2 ^ (6 - k))
def zt (i : Nat) : Nat := pw17 (revk i 7)
def mN : Nat → Nat → Nat
  | 0, _ => 3328
  | t + 1, b => if b % 2 = 0 then zt (2 ^ t + b / 2) else 3329 - zt (2 ^ t + b / 2)
theorem mN_s (t b : Nat) : mN (t + 1) b = if b % 2 = 0 then zt (2 ^ t + b / 2) else 3329 - zt (2 ^ t + b / 2) := rfl
theorem pm2_0 {R : Type} [Lean.Grind.CommRing R] (c : R) (f g : Nat → R) : pm 2 c f g 0 = f 0 * g 0 + f 1 * (c * g 1) := by
  show (0 + f 0 * (if 0 ≤ 0 then g (0 - 0) else c * g (2 + 0 - 0))) + f 1 * (if 1 ≤ 0 then g (0 - 1) else c * g (2 + 0 - 1)) = _
  rw [if_pos (by decide), if_neg (by decide)]
  show (0 + f 0 * g 0) + f 1 * (c * g 1) = _
  grind
theorem pm2_1 {R : Type} [Lean.Grind.CommRing R] (c : R) (f g : Nat → R) : pm 2 c f g 1 = f 0 * g 1 + f 1 * g 0 := by
  show (0 + f 0 * (if 0 ≤ 1 then g (1 - 0) else c * g (2 + 1 - 0))) + f 1 * (if 1 ≤ 1 then g (1 - 1) else c * g (2 + 1 - 1)) = _
  rw [if_pos (by decide), if_pos (by decide)]
  show (0 + f 0 * g 1) + f 1 * g 0 = _
  grind
theorem zt_lt : ∀ i, i < 128 → 0 < zt i ∧ zt i < 3329 := by decide +kernel
theorem zt_sq : ∀ t, t < 7 → ∀ b, b < 2 ^ t → zt (2 ^ t + b) * zt (2 ^ t + b) % 3329 = mN t b := by decide +kernel
theorem zt_inv : ∀ t, t < 7 → ∀ b, b < 2 ^ t → (zt (2 ^ t + b) * zt (2 ^ (t + 1) - 1 - b) + 1) % 3329 = 0 := by decide +kernel
theorem pow_lt7 {t b : Nat} (ht : t < 7) (hb : b < 2 ^ t) : 2 ^ t + b < 128 ∧ 2 ^ (t + 1) - 1 - b < 128 := by
  have h1 : 2 ^ t ≤ 2 ^ 6 := Nat.pow_le_pow_right (by decide) (by omega)
  have h2 : 2 ^ (t + 1) = 2 ^ t * 2 := Nat.pow_succ ..
  omega
theorem pow_dbl {t : Nat} (ht : t ≤ 7) : 2 ^ (8 - t) = 2 ^ (7 - t) + 2 ^ (7 - t) := by
  rw [show 8 - t = 7 - t + 1 by omega, Nat.pow_succ]
  omega
theorem lays_IsP {pw a b c : Nat → Nat} (hpw : ∀ i, i < 128 → pw i = zt i) (h0 : IsP 256 1 (fun x => eF (mN 0 x)) (fun j => eF (a j)) (fun j => eF (b j)) (fun j => eF (c j))) :
    ∀ t, t ≤ 7 → IsP (2 ^ (8 - t)) (2 ^ t) (fun x => eF (mN t x)) (fun j => eF (lays pw a t j)) (fun j => eF (lays pw b t j)) (fun j => eF (lays pw c t j)) := by
  intro t
  induction t with
  | zero => intro _; exact h0
  | succ t ih =>
    intro ht
    have h1 := ih (by omega)
    rw [pow_dbl (by omega)] at h1
    have h2 := h1.split (mf' := fun x => eF (mN (t + 1) x)) (lays_IsL pw a t) (lays_IsL pw b t) (lays_IsL pw c t) ?_ ?_ ?_
    · rw [show 2 * 2 ^ t = 2 ^ (t + 1) by rw [Nat.pow_succ, Nat.mul_comm]] at h2
      rw [show 8 - (t + 1) = 7 - t by omega]
      exact h2
    · intro x hx
      show eF (mN t x) = eF (pw (2 ^ t + x)) * eF (pw (2 ^ t + x))
      rw [hpw _ (pow_lt7 (by omega) hx).1, ← eF_mul, ← zt_sq t (by omega) x hx, eF_mod]
    · intro x hx
      show eF (mN (t + 1) (2 * x)) = eF (pw (2 ^ t + x))
      rw [hpw _ (pow_lt7 (by omega) hx).1]
      rw [mN_s, if_pos (by omega), show 2 * x / 2 = x by omega]
    · intro x hx
      have h3 := (pow_lt7 (t := t) (b := x) (by omega) hx).1
      show eF (mN (t + 1) (2 * x + 1)) = - eF (pw (2 ^ t + x))
      rw [hpw _ h3]
      rw [mN_s, if_neg (by omega), show (2 * x + 1) / 2 = x by omega, eF_sub (by have := (zt_lt _ h3).2; omega), eF_p]
      grind
/-- a layer of Transform.back, with half h, blocks numbered down from k1 -/
def ilay (h k1 : Nat) (pw a : Nat → Nat) : Nat → Nat := fun j => if j % (h + h) < h then (a j + a (j + h)) % 3329 else pw (k1 - j / (h + h)) * ((a j + 3329 - a (j - h)) % 3329) % 3329
theorem ilay_lo {h k1 b k : Nat} {pw a : Nat → Nat} (hk : k < h) : ilay h k1 pw a (b * (h + h) + k) = (a (b * (h + h) + k) + a (b * (h + h) + (h + k))) % 3329 := by
  obtain ⟨e1, e2⟩ := dv_at (b := b) (n := h + h) (k := k) (by omega)
  unfold ilay
  rw [e2, if_pos hk, show b * (h + h) + k + h = b * (h + h) + (h + k) by omega]
theorem ilay_hi {h k1 b k : Nat} {pw a : Nat → Nat} (hk : k < h) : ilay h k1 pw a (b * (h + h) + (h + k)) = pw (k1 - b) * ((a (b * (h + h) + (h + k)) + 3329 - a (b * (h + h) + k)) % 3329) % 3329 := by
  obtain ⟨e1, e2⟩ := dv_at (b := b) (n := h + h) (k := h + k) (by omega)
  unfold ilay
  rw [e1, e2, if_neg (by omega), show b * (h + h) + (h + k) - h = b * (h + h) + k by omega]
theorem ilay_lt {h k1 j : Nat} {pw a : Nat → Nat} : ilay h k1 pw a j < 3329 := by
  unfold ilay
  split
  · omega
  · exact Nat.mod_lt _ (by decide)
def ibk (pw a : Nat → Nat) : Nat → Nat → Nat
  | 0 => a
  | s + 1 => ilay (2 ^ (s + 1)) (2 ^ (7 - s) - 1) pw (ibk pw a s)
theorem ibk_lt {pw a : Nat → Nat} (ha : ∀ j, j < 256 → a j < 3329) : ∀ (t j : Nat), j < 256 → ibk pw a t j < 3329 := by
  intro t j hj
  cases t with
  | zero => exact ha j hj
  | succ t => exact ilay_lt
theorem ibk_back {pw c D : Nat → Nat} (hpw : ∀ i, i < 128 → pw i = zt i) (hD : ∀ j, j < 256 → D j = lays pw c 7 j) (hDl : ∀ j, j < 256 → D j < 3329) :
    ∀ s, s ≤ 7 → ∀ j, j < 256 → eF (ibk pw D s j) = eF (2 ^ s) * eF (lays pw c (7 - s) j) := by
  intro s
  induction s with
  | zero =>
    intro _ j hj
    show eF (D j) = eF 1 * eF (lays pw c 7 j)
    rw [hD j hj, ← eF_mul, Nat.one_mul]
  | succ s ih =>
    intro hs j hj
    have ih := ih (by omega)
    obtain ⟨t, ht⟩ : ∃ t, t = 6 - s := ⟨_, rfl⟩
    have e1 : 7 - s = t + 1 := by omega
    have e2 : 7 - (s + 1) = t := by omega
    have e3 : 7 - t = s + 1 := by omega
    rw [e1] at ih
    rw [e2]
    generalize hh : 2 ^ (s + 1) = h
    have hN : 2 ^ t * (h + h) = 256 := by
      rw [← hh, show 2 ^ (s + 1) + 2 ^ (s + 1) = 2 ^ (s + 2) by rw [Nat.pow_succ 2 (s + 1)]; omega, ← Nat.pow_add, show t + (s + 2) = 8 by omega]
    have h0 : 0 < h := by rw [← hh]; exact Nat.two_pow_pos _
    have hL : IsL h (2 ^ t) (fun b => eF (pw (2 ^ t + b))) (fun j => eF (lays pw c t j)) (fun j => eF (lays pw c (t + 1) j)) := by
      have := lays_IsL pw c t
      rw [e3, hh] at this
      exact this
    have hd : eF h = eF (2 ^ s) + eF (2 ^ s) := by
      rw [← eF_add, ← hh, Nat.pow_succ]
      congr 1
      omega
    show eF (ilay (2 ^ (s + 1)) (2 ^ (7 - s) - 1) pw (ibk pw D s) j) = _
    rw [hh, e1]
    obtain ⟨b, hb⟩ : ∃ b, b = j / (h + h) := ⟨_, rfl⟩
    obtain ⟨k, hk⟩ : ∃ k, k = j % (h + h) := ⟨_, rfl⟩
    have hkl : k < h + h := by rw [hk]; exact Nat.mod_lt _ (by omega)
    have hj2 : j = b * (h + h) + k := by rw [hb, hk]; exact (Nat.div_add_mod' j (h + h)).symm
    have hbN : b < 2 ^ t := by
      rw [hb]
      exact Nat.div_lt_of_lt_mul (by rw [Nat.mul_comm, hN]; exact hj)
    have hin : b * (h + h) + (h + h) ≤ 256 := by
      rw [← hN, ← Nat.succ_mul]
      exact Nat.mul_le_mul_right _ hbN
    clear hb hk
    by_cases hlo : k < h
    · subst hj2
      obtain ⟨g1, g2⟩ := hL b k hbN hlo
      dsimp only at g1 g2
      rw [ilay_lo hlo, eF_mod, eF_add, ih _ (by omega), ih _ (by omega), g1, g2, hd]
      grind
    · obtain ⟨k', rfl⟩ : ∃ k', k = h + k' := ⟨k - h, by omega⟩
      have hk2 : k' < h := by omega
      subst hj2
      obtain ⟨g1, g2⟩ := hL b k' hbN hk2
      dsimp only at g1 g2
      have hl1 := ibk_lt hDl s (b * (h + h) + k') (by omega) (pw := pw)
      rw [ilay_hi hk2, eF_mod, eF_mul, eF_mod, eF_sub (by omega), eF_add, eF_p, ih _ (by omega), ih _ (by omega), g1, g2, hd]
      obtain ⟨p1, p2⟩ := pow_lt7 (t := t) (b := b) (by omega) hbN
      have hz : eF (zt (2 ^ t + b)) * eF (zt (2 ^ (t + 1) - 1 - b)) + 1 = 0 := by
        have h5 := zt_inv t (by omega) b hbN
        rw [← eF_mul, show (1 : F9) = eF 1 from rfl, ← eF_add, ← eF_mod, h5]
        rfl
      rw [hpw _ p1, hpw _ p2]
      generalize eF (zt (2 ^ t + b)) = z at hz ⊢
      generalize eF (zt (2 ^ (t + 1) - 1 - b)) = z' at hz ⊢
      grind
/-- the product modulo x^256 + 1 -/
def mulN (a b : Nat → Nat) (j : Nat) : Nat := (pm 256 (-1 : F9) (fun i => eF (a i)) (fun i => eF (b i)) j).val
theorem mulN_lt (a b : Nat → Nat) (j : Nat) : mulN a b j < 3329 := (pm 256 (-1 : F9) (fun i => eF (a i)) (fun i => eF (b i)) j).isLt
theorem mulN_congr {a b a' b' : Nat → Nat} {j : Nat} (hj : j < 256) (ha : ∀ i, i < 256 → a i = a' i) (hb : ∀ i, i < 256 → b i = b' i) : mulN a b j = mulN a' b' j := by
  unfold mulN
  rw [pm_congr hj (fun i hi => by rw [ha i hi]) (fun i hi => by rw [hb i hi])]
/-- Transform.multiply's middle: pairs modulo x^2 - z -/
def prF (pw a b : Nat → Nat) : Nat → Nat := fun j => if j % 2 = 0 then (a (j + 1) * b (j + 1) % 3329 * (if j / 2 % 2 = 0 then pw (64 + j / 4) else 3329 - pw (64 + j / 4)) + a j * b j) % 3329 else (a (j - 1) * b j + a j * b (j - 1)) % 3329
theorem prF_lt {pw a b : Nat → Nat} {j : Nat} : prF pw a b j < 3329 := by
  unfold prF
  split <;> exact Nat.mod_lt _ (by decide)
theorem ntt_main {pw a b A B D : Nat → Nat} (hpw : ∀ i, i < 128 → pw i = zt i) (hA : ∀ j, j < 256 → A j = lays pw a 7 j) (hB : ∀ j, j < 256 → B j = lays pw b 7 j) (hD : ∀ j, j < 256 → D j = prF pw A B j) :
    ∀ j, j < 256 → ibk pw D 7 j * 3303 % 3329 = mulN a b j := by
  have hc : IsP 256 1 (fun x => eF (mN 0 x)) (fun j => eF (a j)) (fun j => eF (b j)) (fun j => eF (mulN a b j)) := by
    intro x k hx hk
    have : x = 0 := by omega
    subst this
    show eF (mulN a b (0 * 256 + k)) = pm 256 (eF 3328) (fun i => eF (a (0 * 256 + i))) (fun i => eF (b (0 * 256 + i))) k
    simp only [Nat.zero_mul, Nat.zero_add]
    unfold mulN
    rw [eF_val, show eF 3328 = (-1 : F9) by decide]
  have h7 : IsP 2 128 (fun x => eF (mN 7 x)) (fun j => eF (lays pw a 7 j)) (fun j => eF (lays pw b 7 j)) (fun j => eF (lays pw (mulN a b) 7 j)) := lays_IsP hpw hc 7 (Nat.le_refl 7)
  have hDl : ∀ j, j < 256 → D j < 3329 := fun j hj => by rw [hD j hj]; exact prF_lt
  have hDc : ∀ j, j < 256 → D j = lays pw (mulN a b) 7 j := by
    intro j hj
    refine eF_inj (hDl j hj) (lays_lt (fun i _ => mulN_lt a b i) 7 j hj) ?_
    rw [hD j hj]
    have hm : eF (if j / 2 % 2 = 0 then pw (64 + j / 4) else 3329 - pw (64 + j / 4)) = eF (mN 7 (j / 2)) := by
      rw [hpw _ (by omega)]
      rw [mN_s, show j / 2 / 2 = j / 4 by omega]
    obtain ⟨x, hx⟩ : ∃ x, j = x * 2 ∨ j = x * 2 + 1 := ⟨j / 2, by omega⟩
    rcases hx with rfl | rfl
    · have h8 := h7 x 0 (by omega) (by decide)
      dsimp only at h8
      rw [pm2_0, Nat.add_zero, ← hA _ hj, ← hA _ (by omega), ← hB _ hj, ← hB _ (by omega)] at h8
      rw [h8]
      unfold prF
      rw [if_pos (by omega), eF_mod, eF_add, eF_mul, eF_mod, eF_mul, eF_mul, hm, show x * 2 / 2 = x by omega]
      grind
    · have h8 := h7 x 1 (by omega) (by decide)
      dsimp only at h8
      rw [pm2_1, Nat.add_zero, ← hA _ hj, ← hA _ (by omega), ← hB _ hj, ← hB _ (by omega)] at h8
      rw [h8]
      unfold prF
      rw [if_neg (by omega), eF_mod, eF_add, eF_mul, eF_mul, show x * 2 + 1 - 1 = x * 2 by omega]
      rfl
  intro j hj
  have h9 := ibk_back hpw hDc hDl 7 (Nat.le_refl 7) j hj
  refine eF_inj (Nat.mod_lt _ (by decide)) (mulN_lt a b j) ?_
  rw [eF_mod, eF_mul, h9]
  show eF (2 ^ 7) * eF (mulN a b j) * eF 3303 = eF (mulN a b j)
  have h10 : eF (2 ^ 7) * eF 3303 = 1 := by decide
  generalize eF (mulN a b j) = x
  generalize eF (2 ^ 7) = y at h10 ⊢
  generalize eF 3303 = z at h10 ⊢
  grind
end
section
/-! Transform: there, back -/
set_option maxRecDepth 100000
/-- inside a block from S on with half h: places below i, and those h higher, are done -/
def inI (P N : Nat → Nat) (h S i : Nat) : Nat → Nat := fun j => if j < i ∨ (S + h ≤ j ∧ j < i + h) then N j else P j
theorem inI_start {P N u : Nat → Nat} {h S : Nat} (hu : ∀ j, j < 256 → u j = if j < S then N j else P j) : ∀ j, j < 256 → u j = inI P N h S S j := by
  intro j hj
  rw [hu j hj]
  unfold inI
  by_cases e : j < S
  · rw [if_pos e, if_pos (Or.inl e)]
  · rw [if_neg e, if_neg (by omega)]
theorem inI_end {P N u : Nat → Nat} {h S : Nat} (hu : ∀ j, j < 256 → u j = inI P N h S (S + h) j) : ∀ j, j < 256 → u j = if j < S + (h + h) then N j else P j := by
  intro j hj
  rw [hu j hj]
  unfold inI
  by_cases e : j < S + (h + h)
  · rw [if_pos e, if_pos (by omega)]
  · rw [if_neg e, if_neg (by omega)]
theorem inI_step {P N u : Nat → Nat} {h S i v w : Nat} (hi : S ≤ i) (hi2 : i < S + h) (hu : ∀ j, j < 256 → u j = inI P N h S i j) (hv : v = N i) (hw : w = N (i + h)) : ∀ j, j < 256 → updN (updN u i v) (i + h) w j = inI P N h S (i + 1) j := by
  intro j hj
  by_cases e2 : j = i + h
  · subst e2
    rw [updN_s, hw]
    unfold inI
    rw [if_pos (by omega)]
  · rw [updN_n e2]
    by_cases e1 : j = i
    · subst e1
      rw [updN_s, hv]
      unfold inI
      rw [if_pos (by omega)]
    · rw [updN_n e1, hu j hj]
      unfold inI
      by_cases c : j < i ∨ (S + h ≤ j ∧ j < i + h)
      · rw [if_pos c, if_pos (by omega)]
      · rw [if_neg c, if_neg (by omega)]
theorem inI_lo {P N u : Nat → Nat} {h S i : Nat} (hu : ∀ j, j < 256 → u j = inI P N h S i j) (hi : S ≤ i) (hi2 : i < S + h) (h3 : i < 256) : u i = P i := by
  rw [hu i h3]
  unfold inI
  rw [if_neg (by omega)]
theorem inI_hi {P N u : Nat → Nat} {h S i : Nat} (hu : ∀ j, j < 256 → u j = inI P N h S i j) (hi : S ≤ i) (hi2 : i < S + h) (h3 : i + h < 256) : u (i + h) = P (i + h) := by
  rw [hu _ h3]
  unfold inI
  rw [if_neg (by omega)]
theorem blk_in {h N j : Nat} (h0 : N * (h + h) = 256) (hj : j < 256) : j / (h + h) * (h + h) + (h + h) ≤ 256 ∧ j = j / (h + h) * (h + h) + j % (h + h) ∧ j % (h + h) < h + h := by
  have h1 : 0 < h + h := by
    rcases Nat.eq_zero_or_pos (h + h) with e | e
    · rw [e] at h0
      omega
    · exact e
  have h2 : j / (h + h) < N := Nat.div_lt_of_lt_mul (by rw [Nat.mul_comm, h0]; exact hj)
  refine ⟨?_, (Nat.div_add_mod' j (h + h)).symm, Nat.mod_lt _ h1⟩
  rw [← h0, ← Nat.succ_mul]
  exact Nat.mul_le_mul_right _ h2
theorem lay_congr {h k0 N j : Nat} {pw a a' : Nat → Nat} (ha : ∀ j, j < 256 → a j = a' j) (h0 : N * (h + h) = 256) (hj : j < 256) : lay h k0 pw a j = lay h k0 pw a' j := by
  obtain ⟨g1, g2, g3⟩ := blk_in h0 hj
  unfold lay
  split
  · rw [ha j hj, ha (j + h) (by omega)]
  · rw [ha j hj, ha (j - h) (by omega)]
theorem ilay_congr {h k1 N j : Nat} {pw a a' : Nat → Nat} (ha : ∀ j, j < 256 → a j = a' j) (h0 : N * (h + h) = 256) (hj : j < 256) : ilay h k1 pw a j = ilay h k1 pw a' j := by
  obtain ⟨g1, g2, g3⟩ := blk_in h0 hj
  unfold ilay
  split
  · rw [ha j hj, ha (j + h) (by omega)]
  · rw [ha j hj, ha (j - h) (by omega)]
section THERE
variable {C : zC} {q : Nat → Nat} {x0 : Nat} {pw a : Nat → Nat}
/-- the innermost loop of there -/
theorem l_there3 {P : Nat → Nat} {h b k0 kk : Nat} (hC : Fx C cX1_there RX1) (hL : zL C = 9) (hpw : ∀ i, i < 128 → pw i < 3329) (hP : ∀ j, j < 256 → P j < 3329) (hb : b * (h + h) + (h + h) ≤ 256) (hk : k0 + b < 128)
    (hnext : ∀ u : Nat → Nat, (∀ j, j < 256 → u j = if j < b * (h + h) + (h + h) then lay h k0 pw P j else P j) → ∀ lw : List Value, [Value.ref (q 4), .ref x0, .int (nI kk), .int (nI h), .int (nI (b * (h + h)))] = lw.take 5 → Z C 0 0 (wT (zcA C) q x0 pw u) 135 lw []) :
    ∀ (n i : Nat) (u : Nat → Nat), b * (h + h) ≤ i → i ≤ b * (h + h) + h → b * (h + h) + h + 1 ≤ i + n → (∀ j, j < 256 → u j = inI P (lay h k0 pw P) h (b * (h + h)) i j) → Z C 0 0 (wT (zcA C) q x0 pw u) 37 [.ref (q 4), .ref x0, .int (nI kk), .int (nI h), .int (nI (b * (h + h))), .int (nI (pw (k0 + b))), .int (nI i)] [] := by
  intro n
  induction n with
  | zero => intro i u h1 h2 h3; omega
  | succ n ih =>
    intro i u h1 h2 h3 hu
    have hz := hpw (k0 + b) hk
    refine z_iload hC dX1_there_37 rfl ?_
    refine z_iload hC dX1_there_39 rfl ?_
    refine z_iload_n hC dX1_there_41 rfl rfl ?_
    refine z_iadd hC dX1_there_42 ?_
    refine z_icmp_ge (tgt := 135) hC (by omega) (by omega) dX1_there_43 (by decide) (fun hc43 => ?_) (fun hc43 => ?_)
    · obtain rfl : i = b * (h + h) + h := by omega
      exact hnext u (inI_end hu) _ rfl
    · obtain ⟨k, rfl⟩ : ∃ k, i = b * (h + h) + k := ⟨i - b * (h + h), by omega⟩
      have hkh : k < h := by omega
      have e1 := inI_lo hu h1 hc43 (by omega)
      have e2 := inI_hi hu h1 hc43 (by omega)
      have b1 := hP (b * (h + h) + k) (by omega)
      have b2 := hP (b * (h + h) + k + h) (by omega)
      have b3 : pw (k0 + b) * u (b * (h + h) + k + h) ≤ 3328 * 3328 := Nat.mul_le_mul (by omega) (by omega)
      have g1 : lay h k0 pw P (b * (h + h) + k) = (u (b * (h + h) + k) + pw (k0 + b) * u (b * (h + h) + k + h) % 3329) % 3329 := by
        rw [lay_lo hkh, e1, e2, show b * (h + h) + k + h = b * (h + h) + (h + k) by omega]
      have g2 : lay h k0 pw P (b * (h + h) + k + h) = (u (b * (h + h) + k) + 3329 - pw (k0 + b) * u (b * (h + h) + k + h) % 3329) % 3329 := by
        rw [show b * (h + h) + k + h = b * (h + h) + (h + k) by omega] at e2 ⊢
        rw [lay_hi hkh, e1, e2]
      refine z_iload hC dX1_there_46 rfl ?_
      refine z_aload_n hC dX1_there_48 rfl rfl ?_
      refine z_iload hC dX1_there_49 rfl ?_
      refine z_iload_n hC dX1_there_51 rfl rfl ?_
      refine z_iadd hC dX1_there_52 ?_
      refine z_iald hC 2 wT_2 dX1_there_53 (by omega) (by decide) ?_
      refine z_imul hC dX1_there_54 ?_
      refine z_sipush hC 3329 dX1_there_55 (by decide) ?_
      refine z_irem hC dX1_there_58 (by omega) (by decide) (by decide) ?_
      refine z_istore hC dX1_there_59 hL (by decide) (Nat.le_of_ble_eq_true rfl) ?_
      generalize hT : pw (k0 + b) * u (b * (h + h) + k + h) % 3329 = T at g1 g2 ⊢
      have hT2 : T < 3329 := by omega
      refine z_aload_n hC dX1_there_61 rfl rfl ?_
      refine z_iload hC dX1_there_62 rfl ?_
      refine z_iald hC 2 wT_2 dX1_there_64 (by omega) (by decide) ?_
      refine z_istore hC dX1_there_65 hL (by decide) (Nat.le_of_ble_eq_true rfl) ?_
      refine z_aload_n hC dX1_there_67 rfl rfl ?_
      refine z_iload hC dX1_there_68 rfl ?_
      refine z_iload hC dX1_there_70 rfl ?_
      refine z_iload hC dX1_there_72 rfl ?_
      refine z_iadd hC dX1_there_74 ?_
      refine z_sipush hC 3329 dX1_there_75 (by decide) ?_
      refine z_icmp_ge (tgt := 89) hC (by omega) (by omega) dX1_there_78 (by decide) (fun hc78 => ?_) (fun hc78 => ?_)
      · refine z_iload hC dX1_there_89 rfl ?_
        refine z_iload hC dX1_there_91 rfl ?_
        refine z_iadd hC dX1_there_93 ?_
        refine z_sipush hC 3329 dX1_there_94 (by decide) ?_
        refine z_isub hC dX1_there_97 (by omega) ?_
        refine z_iast hC 2 wT_2 wT_s2 dX1_there_98 (by omega) (by decide) ?_
        refine z_aload_n hC dX1_there_99 rfl rfl ?_
        refine z_iload hC dX1_there_100 rfl ?_
        refine z_iload_n hC dX1_there_102 rfl rfl ?_
        refine z_iadd hC dX1_there_103 ?_
        refine z_iload hC dX1_there_104 rfl ?_
        refine z_iload hC dX1_there_106 rfl ?_
        refine z_icmp_ge (tgt := 123) hC (by omega) (by omega) dX1_there_108 (by decide) (fun hc108 => ?_) (fun hc108 => ?_)
        · refine z_iload hC dX1_there_123 rfl ?_
          refine z_iload hC dX1_there_125 rfl ?_
          refine z_isub hC dX1_there_127 (by omega) ?_
          refine z_iast hC 2 wT_2 wT_s2 dX1_there_128 (by omega) (by decide) ?_
          refine z_iinc hC _ dX1_there_129 hL (by decide) rfl (nI_1 _) ?_
          refine z_goto (tgt := 37) hC dX1_there_132 (by decide) ?_
          refine z_lw (lw' := [.ref (q 4), .ref x0, .int (nI kk), .int (nI h), .int (nI (b * (h + h))), .int (nI (pw (k0 + b))), .int (nI (b * (h + h) + k + 1))]) rfl ?_
          exact ih (b * (h + h) + k + 1) _ (by omega) (by omega) (by omega) (inI_step h1 hc43 hu (by omega) (by omega))
        · refine z_iload hC dX1_there_111 rfl ?_
          refine z_iload hC dX1_there_113 rfl ?_
          refine z_isubR hC dX1_there_115 ?_
          refine z_sipush hC 3329 dX1_there_116 (by decide) ?_
          refine z_iaddR hC dX1_there_119 ?_
          refine z_top _ (zp_subAdd (by omega)) ?_
          refine z_goto (tgt := 128) hC dX1_there_120 (by decide) ?_
          refine z_iast hC 2 wT_2 wT_s2 dX1_there_128 (by omega) (by decide) ?_
          refine z_iinc hC _ dX1_there_129 hL (by decide) rfl (nI_1 _) ?_
          refine z_goto (tgt := 37) hC dX1_there_132 (by decide) ?_
          refine z_lw (lw' := [.ref (q 4), .ref x0, .int (nI kk), .int (nI h), .int (nI (b * (h + h))), .int (nI (pw (k0 + b))), .int (nI (b * (h + h) + k + 1))]) rfl ?_
          exact ih (b * (h + h) + k + 1) _ (by omega) (by omega) (by omega) (inI_step h1 hc43 hu (by omega) (by omega))
      · refine z_iload hC dX1_there_81 rfl ?_
        refine z_iload hC dX1_there_83 rfl ?_
        refine z_iadd hC dX1_there_85 ?_
        refine z_goto (tgt := 98) hC dX1_there_86 (by decide) ?_
        refine z_iast hC 2 wT_2 wT_s2 dX1_there_98 (by omega) (by decide) ?_
        refine z_aload_n hC dX1_there_99 rfl rfl ?_
        refine z_iload hC dX1_there_100 rfl ?_
        refine z_iload_n hC dX1_there_102 rfl rfl ?_
        refine z_iadd hC dX1_there_103 ?_
        refine z_iload hC dX1_there_104 rfl ?_
        refine z_iload hC dX1_there_106 rfl ?_
        refine z_icmp_ge (tgt := 123) hC (by omega) (by omega) dX1_there_108 (by decide) (fun hc108 => ?_) (fun hc108 => ?_)
        · refine z_iload hC dX1_there_123 rfl ?_
          refine z_iload hC dX1_there_125 rfl ?_
          refine z_isub hC dX1_there_127 (by omega) ?_
          refine z_iast hC 2 wT_2 wT_s2 dX1_there_128 (by omega) (by decide) ?_
          refine z_iinc hC _ dX1_there_129 hL (by decide) rfl (nI_1 _) ?_
          refine z_goto (tgt := 37) hC dX1_there_132 (by decide) ?_
          refine z_lw (lw' := [.ref (q 4), .ref x0, .int (nI kk), .int (nI h), .int (nI (b * (h + h))), .int (nI (pw (k0 + b))), .int (nI (b * (h + h) + k + 1))]) rfl ?_
          exact ih (b * (h + h) + k + 1) _ (by omega) (by omega) (by omega) (inI_step h1 hc43 hu (by omega) (by omega))
        · refine z_iload hC dX1_there_111 rfl ?_
          refine z_iload hC dX1_there_113 rfl ?_
          refine z_isubR hC dX1_there_115 ?_
          refine z_sipush hC 3329 dX1_there_116 (by decide) ?_
          refine z_iaddR hC dX1_there_119 ?_
          refine z_top _ (zp_subAdd (by omega)) ?_
          refine z_goto (tgt := 128) hC dX1_there_120 (by decide) ?_
          refine z_iast hC 2 wT_2 wT_s2 dX1_there_128 (by omega) (by decide) ?_
          refine z_iinc hC _ dX1_there_129 hL (by decide) rfl (nI_1 _) ?_
          refine z_goto (tgt := 37) hC dX1_there_132 (by decide) ?_
          refine z_lw (lw' := [.ref (q 4), .ref x0, .int (nI kk), .int (nI h), .int (nI (b * (h + h))), .int (nI (pw (k0 + b))), .int (nI (b * (h + h) + k + 1))]) rfl ?_
          exact ih (b * (h + h) + k + 1) _ (by omega) (by omega) (by omega) (inI_step h1 hc43 hu (by omega) (by omega))
/-- the middle loop of there: a layer -/
theorem l_there2 {P : Nat → Nat} {h N : Nat} (hC : Fx C cX1_there RX1) (hL : zL C = 9) (hpw : ∀ i, i < 128 → pw i < 3329) (hP : ∀ j, j < 256 → P j < 3329) (h0 : 0 < h) (hN : N * (h + h) = 256) (hN2 : N ≤ 64)
    (hnext : ∀ u : Nat → Nat, (∀ j, j < 256 → u j = lay h N pw P j) → ∀ lw : List Value, [Value.ref (q 4), .ref x0, .int (nI (N + N)), .int (nI h)] = lw.take 4 → Z C 0 0 (wT (zcA C) q x0 pw u) 146 lw []) :
    ∀ (n b : Nat) (u : Nat → Nat), b ≤ N → N + 1 ≤ b + n → (∀ j, j < 256 → u j = if j < b * (h + h) then lay h N pw P j else P j) → Z C 0 0 (wT (zcA C) q x0 pw u) 14 [.ref (q 4), .ref x0, .int (nI (N + b)), .int (nI h), .int (nI (b * (h + h)))] [] := by
  intro n
  induction n with
  | zero => intro b u h1 h2; omega
  | succ n ih =>
    intro b u h1 h2 hu
    have hb1 : b * (h + h) ≤ N * (h + h) := Nat.mul_le_mul_right _ h1
    refine z_iload hC dX1_there_14 rfl ?_
    refine z_sipush hC 256 dX1_there_16 (by decide) ?_
    refine z_icmp_ge (tgt := 146) hC (by omega) (by omega) dX1_there_19 (by decide) (fun hc19 => ?_) (fun hc19 => ?_)
    · have hbN : b = N := by
        rcases Nat.lt_or_ge b N with c | c
        · have : (b + 1) * (h + h) ≤ N * (h + h) := Nat.mul_le_mul_right _ c
          rw [Nat.succ_mul] at this
          omega
        · omega
      subst hbN
      refine hnext u (fun j hj => ?_) _ rfl
      rw [hu j hj, if_pos (by omega)]
    · have hbN : b < N := by
        rcases Nat.lt_or_ge b N with c | c
        · exact c
        · have : b = N := by omega
          subst this
          omega
      have hb2 : (b + 1) * (h + h) ≤ N * (h + h) := Nat.mul_le_mul_right _ hbN
      rw [Nat.succ_mul] at hb2
      refine z_aload_n hC dX1_there_22 rfl rfl ?_
      refine z_get hC 0 wT_0 rfl in_X1 0 (by decide) q21 rfl dX1_there_23 ?_
      refine z_iload_n hC dX1_there_26 rfl rfl ?_
      refine z_iald hC 1 wT_1 dX1_there_27 (by omega) (by decide) ?_
      refine z_istore hC dX1_there_28 hL (by decide) (Nat.le_of_ble_eq_true rfl) ?_
      refine z_iinc hC _ dX1_there_30 hL (by decide) rfl (nI_1 _) ?_
      refine z_iload hC dX1_there_33 rfl ?_
      refine z_istore hC dX1_there_35 hL (by decide) (Nat.le_of_ble_eq_true rfl) ?_
      refine z_lw (lw' := [.ref (q 4), .ref x0, .int (nI (N + b + 1)), .int (nI h), .int (nI (b * (h + h))), .int (nI (pw (N + b))), .int (nI (b * (h + h)))]) rfl ?_
      refine l_there3 hC hL hpw hP (by omega) (by omega) ?_ (h + 1) (b * (h + h)) u (Nat.le_refl _) (by omega) (by omega) (inI_start hu)
      intro u2 hu2 lw hlw
      refine z_lw (lw' := [.ref (q 4), .ref x0, .int (nI (N + b + 1)), .int (nI h), .int (nI (b * (h + h)))]) hlw.symm ?_
      refine z_iload hC dX1_there_135 rfl ?_
      refine z_iconst hC 2 dX1_there_137 (by decide) ?_
      refine z_iload_n hC dX1_there_138 rfl rfl ?_
      refine z_imul hC dX1_there_139 ?_
      refine z_iadd hC dX1_there_140 ?_
      refine z_istore hC dX1_there_141 hL (by decide) (Nat.le_of_ble_eq_true rfl) ?_
      refine z_goto (tgt := 14) hC dX1_there_143 (by decide) ?_
      refine z_lw (lw' := [.ref (q 4), .ref x0, .int (nI (N + (b + 1))), .int (nI h), .int (nI ((b + 1) * (h + h)))]) ?_ ?_
      · show [Value.ref (q 4), .ref x0, .int (nI (N + b + 1)), .int (nI h), .int (nI (b * (h + h) + 2 * h))] = _
        rw [Nat.two_mul, Nat.succ_mul]
        rfl
      · refine ih (b + 1) u2 hbN (by omega) (fun j hj => ?_)
        rw [hu2 j hj, Nat.succ_mul]
/-- the outer loop of there -/
theorem l_there1 (hC : Fx C cX1_there RX1) (hL : zL C = 9) (hpw : ∀ i, i < 128 → pw i < 3329) (ha : ∀ j, j < 256 → a j < 3329)
    (hret : ∀ u : Nat → Nat, (∀ j, j < 256 → u j = lays pw a 7 j) → ∀ (pc : Nat) (lw : List Value), decode cX1_there pc = .ok (.return_, 1) → Z C 0 0 (wT (zcA C) q x0 pw u) pc lw []) :
    ∀ (n t : Nat) (u : Nat → Nat), t ≤ 7 → 8 ≤ t + n → (∀ j, j < 256 → u j = lays pw a t j) → Z C 0 0 (wT (zcA C) q x0 pw u) 6 [.ref (q 4), .ref x0, .int (nI (2 ^ t)), .int (nI (2 ^ (7 - t)))] [] := by
  intro n
  induction n with
  | zero => intro t u h1 h2; omega
  | succ n ih =>
    intro t u h1 h2 hu
    have hp1 : 2 ^ (7 - t) ≤ 2 ^ 7 := Nat.pow_le_pow_right (by decide) (by omega)
    refine z_iload_n hC dX1_there_6 rfl rfl ?_
    refine z_iconst hC 2 dX1_there_7 (by decide) ?_
    refine z_icmp_lt (tgt := 153) hC (by omega) (by omega) dX1_there_8 (by decide) (fun hc8 => ?_) (fun hc8 => ?_)
    · have ht : t = 7 := by
        rcases Nat.lt_or_ge t 7 with c | c
        · have : 2 ^ 1 ≤ 2 ^ (7 - t) := Nat.pow_le_pow_right (by decide) (by omega)
          omega
        · omega
      subst ht
      exact hret u hu _ _ dX1_there_153
    · have ht : t < 7 := by
        rcases Nat.lt_or_ge t 7 with c | c
        · exact c
        · have : 7 - t = 0 := by omega
          rw [this] at hc8
          exact absurd hc8 (by decide)
      have hN : 2 ^ t * (2 ^ (7 - t) + 2 ^ (7 - t)) = 256 := by
        rw [← pow_dbl (by omega), ← Nat.pow_add, show t + (8 - t) = 8 by omega]
      have hp0 := Nat.two_pow_pos t
      have hN2 : 2 ^ t ≤ 2 ^ 6 := Nat.pow_le_pow_right (by decide) (by omega)
      have hu3 : ∀ j, j < 256 → u j < 3329 := fun j hj => by rw [hu j hj]; exact lays_lt ha t j hj
      refine z_iconst hC 0 dX1_there_11 (by decide) ?_
      refine z_istore hC dX1_there_12 hL (by decide) (Nat.le_of_ble_eq_true rfl) ?_
      refine z_lw (lw' := [.ref (q 4), .ref x0, .int (nI (2 ^ t + 0)), .int (nI (2 ^ (7 - t))), .int (nI (0 * (2 ^ (7 - t) + 2 ^ (7 - t))))]) ?_ ?_
      · rw [Nat.zero_mul]
        rfl
      refine l_there2 (P := u) hC hL hpw hu3 (by omega) hN hN2 ?_ (2 ^ t + 1) 0 u (by omega) (by omega) (fun j hj => by rw [if_neg (by omega)])
      intro u2 hu2 lw hlw
      refine z_lw (lw' := [.ref (q 4), .ref x0, .int (nI (2 ^ t + 2 ^ t)), .int (nI (2 ^ (7 - t)))]) hlw.symm ?_
      refine z_iload_n hC dX1_there_146 rfl rfl ?_
      refine z_iconst hC 2 dX1_there_147 (by decide) ?_
      refine z_idiv hC dX1_there_148 (by omega) (by decide) (by decide) ?_
      refine z_istore_n hC dX1_there_149 rfl hL (by decide) (Nat.le_of_ble_eq_true rfl) ?_
      refine z_goto (tgt := 6) hC dX1_there_150 (by decide) ?_
      refine z_lw (lw' := [.ref (q 4), .ref x0, .int (nI (2 ^ (t + 1))), .int (nI (2 ^ (7 - (t + 1))))]) ?_ ?_
      · show [Value.ref (q 4), .ref x0, .int (nI (2 ^ t + 2 ^ t)), .int (nI (2 ^ (7 - t) / 2))] = _
        rw [show 2 ^ t + 2 ^ t = 2 ^ (t + 1) by rw [Nat.pow_succ]; omega, show 2 ^ (7 - t) / 2 = 2 ^ (7 - (t + 1)) by rw [show 7 - t = 7 - (t + 1) + 1 by omega, Nat.pow_succ]; omega]
      · refine ih (t + 1) u2 (by omega) (by omega) (fun j hj => ?_)
        rw [hu2 j hj]
        exact lay_congr hu hN hj
theorem k_there (hpw : ∀ i, i < 128 → pw i < 3329) (ha : ∀ j, j < 256 → a j < 3329) : Kv yX1_there cX1_there 9 0 0 0 0 [.ref (q 4), .ref x0] (fun cA => wT cA q x0 pw a) (fun u : Nat → Nat => ∀ j, j < 256 → u j = lays pw a 7 j) (fun cA u => wT cA q x0 pw u) := by
  refine Kv.of (by decide) (Nat.le_of_ble_eq_true rfl) (by simp [Value.category]) ?_
  intro C hC hR hN hL hret
  refine z_iconst hC 1 dX1_there_0 (by decide) ?_
  refine z_istore_n hC dX1_there_1 rfl hL (by decide) (Nat.le_of_ble_eq_true rfl) ?_
  refine z_sipush hC 128 dX1_there_2 (by decide) ?_
  refine z_istore_n hC dX1_there_5 rfl hL (by decide) (Nat.le_of_ble_eq_true rfl) ?_
  exact l_there1 hC hL hpw ha hret 8 0 a (by decide) (by decide) (fun j hj => rfl)
end THERE
end
section
/-! Transform: back, pair -/
set_option maxRecDepth 100000
section BACK
variable {C : zC} {q : Nat → Nat} {x0 : Nat} {pw a f s : Nat → Nat}
theorem l_back3 {P : Nat → Nat} {h b k1 kk : Nat} (hC : Fx C cX1_back RX1) (hL : zL C = 9) (hpw : ∀ i, i < 128 → pw i < 3329) (hP : ∀ j, j < 256 → P j < 3329) (hb : b * (h + h) + (h + h) ≤ 256) (hk : k1 - b < 128)
    (hnext : ∀ u : Nat → Nat, (∀ j, j < 256 → u j = if j < b * (h + h) + (h + h) then ilay h k1 pw P j else P j) → ∀ lw : List Value, [Value.ref (q 4), .ref x0, .int (nI kk), .int (nI h), .int (nI (b * (h + h)))] = lw.take 5 → Z C 0 0 (wT (zcA C) q x0 pw u) 136 lw []) :
    ∀ (n i : Nat) (u : Nat → Nat), b * (h + h) ≤ i → i ≤ b * (h + h) + h → b * (h + h) + h + 1 ≤ i + n → (∀ j, j < 256 → u j = inI P (ilay h k1 pw P) h (b * (h + h)) i j) → Z C 0 0 (wT (zcA C) q x0 pw u) 38 [.ref (q 4), .ref x0, .int (nI kk), .int (nI h), .int (nI (b * (h + h))), .int (nI (pw (k1 - b))), .int (nI i)] [] := by
  intro n
  induction n with
  | zero => intro i u h1 h2 h3; omega
  | succ n ih =>
    intro i u h1 h2 h3 hu
    have hz := hpw (k1 - b) hk
    refine z_iload hC dX1_back_38 rfl ?_
    refine z_iload hC dX1_back_40 rfl ?_
    refine z_iload_n hC dX1_back_42 rfl rfl ?_
    refine z_iadd hC dX1_back_43 ?_
    refine z_icmp_ge (tgt := 136) hC (by omega) (by omega) dX1_back_44 (by decide) (fun hc44 => ?_) (fun hc44 => ?_)
    · obtain rfl : i = b * (h + h) + h := by omega
      exact hnext u (inI_end hu) _ rfl
    · obtain ⟨k, rfl⟩ : ∃ k, i = b * (h + h) + k := ⟨i - b * (h + h), by omega⟩
      have hkh : k < h := by omega
      have e1 := inI_lo hu h1 hc44 (by omega)
      have e2 := inI_hi hu h1 hc44 (by omega)
      have b1 := hP (b * (h + h) + k) (by omega)
      have b2 := hP (b * (h + h) + k + h) (by omega)
      have g1 : ilay h k1 pw P (b * (h + h) + k) = (u (b * (h + h) + k) + u (b * (h + h) + k + h)) % 3329 := by
        rw [ilay_lo hkh, e1, e2, show b * (h + h) + k + h = b * (h + h) + (h + k) by omega]
      have g2 : ilay h k1 pw P (b * (h + h) + k + h) = pw (k1 - b) * ((u (b * (h + h) + k + h) + 3329 - u (b * (h + h) + k)) % 3329) % 3329 := by
        rw [show b * (h + h) + k + h = b * (h + h) + (h + k) by omega] at e2 ⊢
        rw [ilay_hi hkh, e1, e2]
      have b3 : pw (k1 - b) * ((u (b * (h + h) + k + h) + 3329 - u (b * (h + h) + k)) % 3329) ≤ 3328 * 3328 := Nat.mul_le_mul (by omega) (by omega)
      refine z_aload_n hC dX1_back_47 rfl rfl ?_
      refine z_iload hC dX1_back_48 rfl ?_
      refine z_iald hC 2 wT_2 dX1_back_50 (by omega) (by decide) ?_
      refine z_istore hC dX1_back_51 hL (by decide) (Nat.le_of_ble_eq_true rfl) ?_
      refine z_aload_n hC dX1_back_53 rfl rfl ?_
      refine z_iload hC dX1_back_54 rfl ?_
      refine z_iload_n hC dX1_back_56 rfl rfl ?_
      refine z_iadd hC dX1_back_57 ?_
      refine z_iald hC 2 wT_2 dX1_back_58 (by omega) (by decide) ?_
      refine z_istore hC dX1_back_59 hL (by decide) (Nat.le_of_ble_eq_true rfl) ?_
      refine z_aload_n hC dX1_back_61 rfl rfl ?_
      refine z_iload hC dX1_back_62 rfl ?_
      refine z_iload hC dX1_back_64 rfl ?_
      refine z_iload hC dX1_back_66 rfl ?_
      refine z_iadd hC dX1_back_68 ?_
      refine z_sipush hC 3329 dX1_back_69 (by decide) ?_
      refine z_icmp_ge (tgt := 83) hC (by omega) (by omega) dX1_back_72 (by decide) (fun hc72 => ?_) (fun hc72 => ?_)
      · refine z_iload hC dX1_back_83 rfl ?_
        refine z_iload hC dX1_back_85 rfl ?_
        refine z_iadd hC dX1_back_87 ?_
        refine z_sipush hC 3329 dX1_back_88 (by decide) ?_
        refine z_isub hC dX1_back_91 (by omega) ?_
        refine z_iast hC 2 wT_2 wT_s2 dX1_back_92 (by omega) (by decide) ?_
        refine z_aload_n hC dX1_back_93 rfl rfl ?_
        refine z_iload hC dX1_back_94 rfl ?_
        refine z_iload_n hC dX1_back_96 rfl rfl ?_
        refine z_iadd hC dX1_back_97 ?_
        refine z_iload hC dX1_back_98 rfl ?_
        refine z_iload hC dX1_back_100 rfl ?_
        refine z_iload hC dX1_back_102 rfl ?_
        refine z_icmp_ge (tgt := 119) hC (by omega) (by omega) dX1_back_104 (by decide) (fun hc104 => ?_) (fun hc104 => ?_)
        · refine z_iload hC dX1_back_119 rfl ?_
          refine z_iload hC dX1_back_121 rfl ?_
          refine z_isub hC dX1_back_123 (by omega) ?_
          refine z_top ((u (b * (h + h) + k + h) + 3329 - u (b * (h + h) + k)) % 3329) (by congr 1; omega) ?_
          refine z_imul hC dX1_back_124 ?_
          refine z_sipush hC 3329 dX1_back_125 (by decide) ?_
          refine z_irem hC dX1_back_128 (by omega) (by decide) (by decide) ?_
          refine z_iast hC 2 wT_2 wT_s2 dX1_back_129 (by omega) (by decide) ?_
          refine z_iinc hC _ dX1_back_130 hL (by decide) rfl (nI_1 _) ?_
          refine z_goto (tgt := 38) hC dX1_back_133 (by decide) ?_
          refine z_lw (lw' := [.ref (q 4), .ref x0, .int (nI kk), .int (nI h), .int (nI (b * (h + h))), .int (nI (pw (k1 - b))), .int (nI (b * (h + h) + k + 1))]) rfl ?_
          exact ih (b * (h + h) + k + 1) _ (by omega) (by omega) (by omega) (inI_step h1 hc44 hu (by omega) g2.symm)
        · refine z_iload hC dX1_back_107 rfl ?_
          refine z_iload hC dX1_back_109 rfl ?_
          refine z_isubR hC dX1_back_111 ?_
          refine z_sipush hC 3329 dX1_back_112 (by decide) ?_
          refine z_iaddR hC dX1_back_115 ?_
          refine z_goto (tgt := 124) hC dX1_back_116 (by decide) ?_
          refine z_top ((u (b * (h + h) + k + h) + 3329 - u (b * (h + h) + k)) % 3329) (by rw [zp_subAdd (by omega)]; congr 1; omega) ?_
          refine z_imul hC dX1_back_124 ?_
          refine z_sipush hC 3329 dX1_back_125 (by decide) ?_
          refine z_irem hC dX1_back_128 (by omega) (by decide) (by decide) ?_
          refine z_iast hC 2 wT_2 wT_s2 dX1_back_129 (by omega) (by decide) ?_
          refine z_iinc hC _ dX1_back_130 hL (by decide) rfl (nI_1 _) ?_
          refine z_goto (tgt := 38) hC dX1_back_133 (by decide) ?_
          refine z_lw (lw' := [.ref (q 4), .ref x0, .int (nI kk), .int (nI h), .int (nI (b * (h + h))), .int (nI (pw (k1 - b))), .int (nI (b * (h + h) + k + 1))]) rfl ?_
          exact ih (b * (h + h) + k + 1) _ (by omega) (by omega) (by omega) (inI_step h1 hc44 hu (by omega) g2.symm)
      · refine z_iload hC dX1_back_75 rfl ?_
        refine z_iload hC dX1_back_77 rfl ?_
        refine z_iadd hC dX1_back_79 ?_
        refine z_goto (tgt := 92) hC dX1_back_80 (by decide) ?_
        refine z_iast hC 2 wT_2 wT_s2 dX1_back_92 (by omega) (by decide) ?_
        refine z_aload_n hC dX1_back_93 rfl rfl ?_
        refine z_iload hC dX1_back_94 rfl ?_
        refine z_iload_n hC dX1_back_96 rfl rfl ?_
        refine z_iadd hC dX1_back_97 ?_
        refine z_iload hC dX1_back_98 rfl ?_
        refine z_iload hC dX1_back_100 rfl ?_
        refine z_iload hC dX1_back_102 rfl ?_
        refine z_icmp_ge (tgt := 119) hC (by omega) (by omega) dX1_back_104 (by decide) (fun hc104 => ?_) (fun hc104 => ?_)
        · refine z_iload hC dX1_back_119 rfl ?_
          refine z_iload hC dX1_back_121 rfl ?_
          refine z_isub hC dX1_back_123 (by omega) ?_
          refine z_top ((u (b * (h + h) + k + h) + 3329 - u (b * (h + h) + k)) % 3329) (by congr 1; omega) ?_
          refine z_imul hC dX1_back_124 ?_
          refine z_sipush hC 3329 dX1_back_125 (by decide) ?_
          refine z_irem hC dX1_back_128 (by omega) (by decide) (by decide) ?_
          refine z_iast hC 2 wT_2 wT_s2 dX1_back_129 (by omega) (by decide) ?_
          refine z_iinc hC _ dX1_back_130 hL (by decide) rfl (nI_1 _) ?_
          refine z_goto (tgt := 38) hC dX1_back_133 (by decide) ?_
          refine z_lw (lw' := [.ref (q 4), .ref x0, .int (nI kk), .int (nI h), .int (nI (b * (h + h))), .int (nI (pw (k1 - b))), .int (nI (b * (h + h) + k + 1))]) rfl ?_
          exact ih (b * (h + h) + k + 1) _ (by omega) (by omega) (by omega) (inI_step h1 hc44 hu (by omega) g2.symm)
        · refine z_iload hC dX1_back_107 rfl ?_
          refine z_iload hC dX1_back_109 rfl ?_
          refine z_isubR hC dX1_back_111 ?_
          refine z_sipush hC 3329 dX1_back_112 (by decide) ?_
          refine z_iaddR hC dX1_back_115 ?_
          refine z_goto (tgt := 124) hC dX1_back_116 (by decide) ?_
          refine z_top ((u (b * (h + h) + k + h) + 3329 - u (b * (h + h) + k)) % 3329) (by rw [zp_subAdd (by omega)]; congr 1; omega) ?_
          refine z_imul hC dX1_back_124 ?_
          refine z_sipush hC 3329 dX1_back_125 (by decide) ?_
          refine z_irem hC dX1_back_128 (by omega) (by decide) (by decide) ?_
          refine z_iast hC 2 wT_2 wT_s2 dX1_back_129 (by omega) (by decide) ?_
          refine z_iinc hC _ dX1_back_130 hL (by decide) rfl (nI_1 _) ?_
          refine z_goto (tgt := 38) hC dX1_back_133 (by decide) ?_
          refine z_lw (lw' := [.ref (q 4), .ref x0, .int (nI kk), .int (nI h), .int (nI (b * (h + h))), .int (nI (pw (k1 - b))), .int (nI (b * (h + h) + k + 1))]) rfl ?_
          exact ih (b * (h + h) + k + 1) _ (by omega) (by omega) (by omega) (inI_step h1 hc44 hu (by omega) g2.symm)
theorem l_back2 {P : Nat → Nat} {h N k1 : Nat} (hC : Fx C cX1_back RX1) (hL : zL C = 9) (hpw : ∀ i, i < 128 → pw i < 3329) (hP : ∀ j, j < 256 → P j < 3329) (h0 : 0 < h) (hN : N * (h + h) = 256) (hk1 : k1 = N + N - 1) (hN2 : N ≤ 64)
    (hnext : ∀ u : Nat → Nat, (∀ j, j < 256 → u j = ilay h k1 pw P j) → ∀ lw : List Value, [Value.ref (q 4), .ref x0, .int (nI (k1 - N)), .int (nI h)] = lw.take 4 → Z C 0 0 (wT (zcA C) q x0 pw u) 147 lw []) :
    ∀ (n b : Nat) (u : Nat → Nat), b ≤ N → N + 1 ≤ b + n → (∀ j, j < 256 → u j = if j < b * (h + h) then ilay h k1 pw P j else P j) → Z C 0 0 (wT (zcA C) q x0 pw u) 15 [.ref (q 4), .ref x0, .int (nI (k1 - b)), .int (nI h), .int (nI (b * (h + h)))] [] := by
  intro n
  induction n with
  | zero => intro b u h1 h2; omega
  | succ n ih =>
    intro b u h1 h2 hu
    have hb1 : b * (h + h) ≤ N * (h + h) := Nat.mul_le_mul_right _ h1
    refine z_iload hC dX1_back_15 rfl ?_
    refine z_sipush hC 256 dX1_back_17 (by decide) ?_
    refine z_icmp_ge (tgt := 147) hC (by omega) (by omega) dX1_back_20 (by decide) (fun hc20 => ?_) (fun hc20 => ?_)
    · have hbN : b = N := by
        rcases Nat.lt_or_ge b N with c | c
        · have : (b + 1) * (h + h) ≤ N * (h + h) := Nat.mul_le_mul_right _ c
          rw [Nat.succ_mul] at this
          omega
        · omega
      subst hbN
      refine hnext u (fun j hj => ?_) _ rfl
      rw [hu j hj, if_pos (by omega)]
    · have hbN : b < N := by
        rcases Nat.lt_or_ge b N with c | c
        · exact c
        · have : b = N := by omega
          subst this
          omega
      have hb2 : (b + 1) * (h + h) ≤ N * (h + h) := Nat.mul_le_mul_right _ hbN
      rw [Nat.succ_mul] at hb2
      refine z_aload_n hC dX1_back_23 rfl rfl ?_
      refine z_get hC 0 wT_0 rfl in_X1 0 (by decide) q21 rfl dX1_back_24 ?_
      refine z_iload_n hC dX1_back_27 rfl rfl ?_
      refine z_iald hC 1 wT_1 dX1_back_28 (by omega) (by decide) ?_
      refine z_istore hC dX1_back_29 hL (by decide) (Nat.le_of_ble_eq_true rfl) ?_
      refine z_iinc hC _ dX1_back_31 hL (by decide) rfl (sb_m1 (by omega)) ?_
      refine z_iload hC dX1_back_34 rfl ?_
      refine z_istore hC dX1_back_36 hL (by decide) (Nat.le_of_ble_eq_true rfl) ?_
      refine z_lw (lw' := [.ref (q 4), .ref x0, .int (nI (k1 - b - 1)), .int (nI h), .int (nI (b * (h + h))), .int (nI (pw (k1 - b))), .int (nI (b * (h + h)))]) rfl ?_
      refine l_back3 hC hL hpw hP (by omega) (by omega) ?_ (h + 1) (b * (h + h)) u (Nat.le_refl _) (by omega) (by omega) (inI_start hu)
      intro u2 hu2 lw hlw
      refine z_lw (lw' := [.ref (q 4), .ref x0, .int (nI (k1 - b - 1)), .int (nI h), .int (nI (b * (h + h)))]) hlw.symm ?_
      refine z_iload hC dX1_back_136 rfl ?_
      refine z_iconst hC 2 dX1_back_138 (by decide) ?_
      refine z_iload_n hC dX1_back_139 rfl rfl ?_
      refine z_imul hC dX1_back_140 ?_
      refine z_iadd hC dX1_back_141 ?_
      refine z_istore hC dX1_back_142 hL (by decide) (Nat.le_of_ble_eq_true rfl) ?_
      refine z_goto (tgt := 15) hC dX1_back_144 (by decide) ?_
      refine z_lw (lw' := [.ref (q 4), .ref x0, .int (nI (k1 - (b + 1))), .int (nI h), .int (nI ((b + 1) * (h + h)))]) ?_ ?_
      · show [Value.ref (q 4), .ref x0, .int (nI (k1 - b - 1)), .int (nI h), .int (nI (b * (h + h) + 2 * h))] = _
        rw [Nat.two_mul, Nat.succ_mul]
        rfl
      · refine ih (b + 1) u2 hbN (by omega) (fun j hj => ?_)
        rw [hu2 j hj, Nat.succ_mul]
theorem l_back0 {B : Nat → Nat} {kk : Nat} (hC : Fx C cX1_back RX1) (hL : zL C = 9) (hB : ∀ j, j < 256 → B j < 3329)
    (hret : ∀ u : Nat → Nat, (∀ j, j < 256 → u j = B j * 3303 % 3329) → ∀ (pc : Nat) (lw : List Value), decode cX1_back pc = .ok (.return_, 1) → Z C 0 0 (wT (zcA C) q x0 pw u) pc lw []) :
    ∀ (n i : Nat) (u : Nat → Nat), i ≤ 256 → 257 ≤ i + n → (∀ j, j < 256 → u j = if j < i then B j * 3303 % 3329 else B j) → Z C 0 0 (wT (zcA C) q x0 pw u) 156 [.ref (q 4), .ref x0, .int (nI kk), .int (nI i)] [] := by
  intro n
  induction n with
  | zero => intro i u h1 h2; omega
  | succ n ih =>
    intro i u h1 h2 hu
    refine z_iload_n hC dX1_back_156 rfl rfl ?_
    refine z_sipush hC 256 dX1_back_157 (by decide) ?_
    refine z_icmp_ge (tgt := 183) hC (by omega) (by omega) dX1_back_160 (by decide) (fun hc160 => ?_) (fun hc160 => ?_)
    · obtain rfl : i = 256 := by omega
      refine hret u (fun j hj => ?_) _ _ dX1_back_183
      rw [hu j hj, if_pos hj]
    · have e1 : u i = B i := by rw [hu i hc160, if_neg (by omega)]
      have b1 := hB i hc160
      refine z_aload_n hC dX1_back_163 rfl rfl ?_
      refine z_iload_n hC dX1_back_164 rfl rfl ?_
      refine z_aload_n hC dX1_back_165 rfl rfl ?_
      refine z_iload_n hC dX1_back_166 rfl rfl ?_
      refine z_iald hC 2 wT_2 dX1_back_167 (by omega) (by decide) ?_
      refine z_sipush hC 3303 dX1_back_168 (by decide) ?_
      refine z_imul hC dX1_back_171 ?_
      refine z_sipush hC 3329 dX1_back_172 (by decide) ?_
      refine z_irem hC dX1_back_175 (by omega) (by decide) (by decide) ?_
      refine z_iast hC 2 wT_2 wT_s2 dX1_back_176 (by omega) (by decide) ?_
      refine z_iinc hC _ dX1_back_177 hL (by decide) rfl (nI_1 _) ?_
      refine z_goto (tgt := 156) hC dX1_back_180 (by decide) ?_
      refine z_lw (lw' := [.ref (q 4), .ref x0, .int (nI kk), .int (nI (i + 1))]) rfl ?_
      refine ih (i + 1) _ (by omega) (by omega) (fun j hj => ?_)
      by_cases e : j = i
      · subst e
        rw [updN_s, if_pos (by omega), e1]
      · rw [updN_n e, hu j hj]
        by_cases c : j < i
        · rw [if_pos c, if_pos (by omega)]
        · rw [if_neg c, if_neg (by omega)]
theorem l_back1 (hC : Fx C cX1_back RX1) (hL : zL C = 9) (hpw : ∀ i, i < 128 → pw i < 3329) (ha : ∀ j, j < 256 → a j < 3329)
    (hret : ∀ u : Nat → Nat, (∀ j, j < 256 → u j = ibk pw a 7 j * 3303 % 3329) → ∀ (pc : Nat) (lw : List Value), decode cX1_back pc = .ok (.return_, 1) → Z C 0 0 (wT (zcA C) q x0 pw u) pc lw []) :
    ∀ (n t : Nat) (u : Nat → Nat), t ≤ 7 → 8 ≤ t + n → (∀ j, j < 256 → u j = ibk pw a t j) → Z C 0 0 (wT (zcA C) q x0 pw u) 5 [.ref (q 4), .ref x0, .int (nI (2 ^ (7 - t) - 1)), .int (nI (2 ^ (t + 1)))] [] := by
  intro n
  induction n with
  | zero => intro t u h1 h2; omega
  | succ n ih =>
    intro t u h1 h2 hu
    have hp1 : 2 ^ (t + 1) ≤ 2 ^ 8 := Nat.pow_le_pow_right (by decide) (by omega)
    have hu3 : ∀ j, j < 256 → u j < 3329 := fun j hj => by rw [hu j hj]; exact ibk_lt ha t j hj
    refine z_iload_n hC dX1_back_5 rfl rfl ?_
    refine z_sipush hC 128 dX1_back_6 (by decide) ?_
    refine z_icmp_gt (tgt := 154) hC (by omega) (by omega) dX1_back_9 (by decide) (fun hc9 => ?_) (fun hc9 => ?_)
    · have ht : t = 7 := by
        rcases Nat.lt_or_ge t 7 with c | c
        · have : 2 ^ (t + 1) ≤ 2 ^ 7 := Nat.pow_le_pow_right (by decide) (by omega)
          omega
        · omega
      subst ht
      refine z_iconst hC 0 dX1_back_154 (by decide) ?_
      refine z_istore_n hC dX1_back_155 rfl hL (by decide) (Nat.le_of_ble_eq_true rfl) ?_
      refine l_back0 (B := u) hC hL hu3 ?_ 257 0 u (by decide) (by decide) (fun j hj => by rw [if_neg (by omega)])
      intro u2 hu2
      refine hret u2 (fun j hj => ?_)
      rw [hu2 j hj, hu j hj]
    · have ht : t < 7 := by
        rcases Nat.lt_or_ge t 7 with c | c
        · exact c
        · have : t = 7 := by omega
          subst this
          exact absurd hc9 (by decide)
      have hN : 2 ^ (6 - t) * (2 ^ (t + 1) + 2 ^ (t + 1)) = 256 := by
        rw [show 2 ^ (t + 1) + 2 ^ (t + 1) = 2 ^ (t + 2) by rw [Nat.pow_succ 2 (t + 1)]; omega, ← Nat.pow_add, show 6 - t + (t + 2) = 8 by omega]
      have hp0 := Nat.two_pow_pos (6 - t)
      have hp2 := Nat.two_pow_pos (t + 1)
      have hN2 : 2 ^ (6 - t) ≤ 2 ^ 6 := Nat.pow_le_pow_right (by decide) (by omega)
      have hk1 : 2 ^ (7 - t) - 1 = 2 ^ (6 - t) + 2 ^ (6 - t) - 1 := by
        rw [show 7 - t = 6 - t + 1 by omega, Nat.pow_succ]
        omega
      refine z_iconst hC 0 dX1_back_12 (by decide) ?_
      refine z_istore hC dX1_back_13 hL (by decide) (Nat.le_of_ble_eq_true rfl) ?_
      refine z_lw (lw' := [.ref (q 4), .ref x0, .int (nI (2 ^ (7 - t) - 1 - 0)), .int (nI (2 ^ (t + 1))), .int (nI (0 * (2 ^ (t + 1) + 2 ^ (t + 1))))]) ?_ ?_
      · rw [Nat.zero_mul]
        rfl
      refine l_back2 (P := u) (N := 2 ^ (6 - t)) hC hL hpw hu3 hp2 hN hk1 hN2 ?_ (2 ^ (6 - t) + 1) 0 u (by omega) (by omega) (fun j hj => by rw [if_neg (by omega)])
      intro u2 hu2 lw hlw
      refine z_lw (lw' := [.ref (q 4), .ref x0, .int (nI (2 ^ (7 - t) - 1 - 2 ^ (6 - t))), .int (nI (2 ^ (t + 1)))]) hlw.symm ?_
      refine z_iload_n hC dX1_back_147 rfl rfl ?_
      refine z_iconst hC 2 dX1_back_148 (by decide) ?_
      refine z_imul hC dX1_back_149 ?_
      refine z_istore_n hC dX1_back_150 rfl hL (by decide) (Nat.le_of_ble_eq_true rfl) ?_
      refine z_goto (tgt := 5) hC dX1_back_151 (by decide) ?_
      refine z_lw (lw' := [.ref (q 4), .ref x0, .int (nI (2 ^ (7 - (t + 1)) - 1)), .int (nI (2 ^ (t + 1 + 1)))]) ?_ ?_
      · show [Value.ref (q 4), .ref x0, .int (nI (2 ^ (7 - t) - 1 - 2 ^ (6 - t))), .int (nI (2 ^ (t + 1) * 2))] = _
        rw [show 2 ^ (7 - t) - 1 - 2 ^ (6 - t) = 2 ^ (7 - (t + 1)) - 1 by rw [hk1, show 7 - (t + 1) = 6 - t by omega]; omega, Nat.pow_succ 2 (t + 1)]
      · refine ih (t + 1) u2 (by omega) (by omega) (fun j hj => ?_)
        rw [hu2 j hj]
        exact ilay_congr hu hN hj
theorem k_back (hpw : ∀ i, i < 128 → pw i < 3329) (ha : ∀ j, j < 256 → a j < 3329) : Kv yX1_back cX1_back 9 0 0 0 0 [.ref (q 4), .ref x0] (fun cA => wT cA q x0 pw a) (fun u : Nat → Nat => ∀ j, j < 256 → u j = ibk pw a 7 j * 3303 % 3329) (fun cA u => wT cA q x0 pw u) := by
  refine Kv.of (by decide) (Nat.le_of_ble_eq_true rfl) (by simp [Value.category]) ?_
  intro C hC hR hN hL hret
  refine z_bipush hC 127 dX1_back_0 (by decide) ?_
  refine z_istore_n hC dX1_back_2 rfl hL (by decide) (Nat.le_of_ble_eq_true rfl) ?_
  refine z_iconst hC 2 dX1_back_3 (by decide) ?_
  refine z_istore_n hC dX1_back_4 rfl hL (by decide) (Nat.le_of_ble_eq_true rfl) ?_
  exact l_back1 hC hL hpw ha hret 8 0 a (by decide) (by decide) (fun j hj => rfl)
def prS (f s : Nat → Nat) (i z : Nat) : Nat → Nat := updN (updN f i ((f (i + 1) * s (i + 1) % 3329 * z + f i * s i) % 3329)) (i + 1) ((f i * s (i + 1) + f (i + 1) * s i) % 3329)
theorem k_pair {i z : Nat} (hi : i + 1 < 256) (hz : z ≤ 3329) (hf : ∀ j, j < 256 → f j < 3329) (hs : ∀ j, j < 256 → s j < 3329) : Kv yX1_pair cX1_pair 7 0 0 0 0 [.ref (q 4), .int (nI i), .int (nI z)] (fun cA => wP cA q f s) (fun u : Nat → Nat => u = prS f s i z) (fun cA u => wP cA q u s) := by
  refine Kv.of (by decide) (Nat.le_of_ble_eq_true rfl) (by simp [Value.category]) ?_
  intro C hC hR hN hL hret
  have f0 := hf i (by omega)
  have f1 := hf (i + 1) hi
  have s0 := hs i (by omega)
  have s1 := hs (i + 1) hi
  have m1 : f (i + 1) * s (i + 1) ≤ 3328 * 3328 := Nat.mul_le_mul (by omega) (by omega)
  have m2 : f (i + 1) * s (i + 1) % 3329 * z ≤ 3328 * 3329 := Nat.mul_le_mul (by omega) (by omega)
  have m3 : f i * s i ≤ 3328 * 3328 := Nat.mul_le_mul (by omega) (by omega)
  have m4 : f i * s (i + 1) ≤ 3328 * 3328 := Nat.mul_le_mul (by omega) (by omega)
  have m5 : f (i + 1) * s i ≤ 3328 * 3328 := Nat.mul_le_mul (by omega) (by omega)
  refine z_aload_n hC dX1_pair_0 rfl rfl ?_
  refine z_get hC 0 wP_0 rfl in_X1 1 (by decide) q22 rfl dX1_pair_1 ?_
  refine z_iload_n hC dX1_pair_4 rfl rfl ?_
  refine z_iald hC 1 wP_1 dX1_pair_5 (by omega) (by decide) ?_
  refine z_istore_n hC dX1_pair_6 rfl hL (by decide) (Nat.le_of_ble_eq_true rfl) ?_
  refine z_aload_n hC dX1_pair_7 rfl rfl ?_
  refine z_get hC 0 wP_0 rfl in_X1 1 (by decide) q22 rfl dX1_pair_8 ?_
  refine z_iload_n hC dX1_pair_11 rfl rfl ?_
  refine z_iconst hC 1 dX1_pair_12 (by decide) ?_
  refine z_iadd hC dX1_pair_13 ?_
  refine z_iald hC 1 wP_1 dX1_pair_14 (by omega) (by decide) ?_
  refine z_istore hC dX1_pair_15 hL (by decide) (Nat.le_of_ble_eq_true rfl) ?_
  refine z_aload_n hC dX1_pair_17 rfl rfl ?_
  refine z_get hC 0 wP_0 rfl in_X1 2 (by decide) q23 rfl dX1_pair_18 ?_
  refine z_iload_n hC dX1_pair_21 rfl rfl ?_
  refine z_iald hC 2 wP_2 dX1_pair_22 (by omega) (by decide) ?_
  refine z_istore hC dX1_pair_23 hL (by decide) (Nat.le_of_ble_eq_true rfl) ?_
  refine z_aload_n hC dX1_pair_25 rfl rfl ?_
  refine z_get hC 0 wP_0 rfl in_X1 2 (by decide) q23 rfl dX1_pair_26 ?_
  refine z_iload_n hC dX1_pair_29 rfl rfl ?_
  refine z_iconst hC 1 dX1_pair_30 (by decide) ?_
  refine z_iadd hC dX1_pair_31 ?_
  refine z_iald hC 2 wP_2 dX1_pair_32 (by omega) (by decide) ?_
  refine z_istore hC dX1_pair_33 hL (by decide) (Nat.le_of_ble_eq_true rfl) ?_
  refine z_aload_n hC dX1_pair_35 rfl rfl ?_
  refine z_get hC 0 wP_0 rfl in_X1 1 (by decide) q22 rfl dX1_pair_36 ?_
  refine z_iload_n hC dX1_pair_39 rfl rfl ?_
  refine z_iload hC dX1_pair_40 rfl ?_
  refine z_iload hC dX1_pair_42 rfl ?_
  refine z_imul hC dX1_pair_44 ?_
  refine z_sipush hC 3329 dX1_pair_45 (by decide) ?_
  refine z_irem hC dX1_pair_48 (by omega) (by decide) (by decide) ?_
  refine z_iload_n hC dX1_pair_49 rfl rfl ?_
  refine z_imul hC dX1_pair_50 ?_
  refine z_iload_n hC dX1_pair_51 rfl rfl ?_
  refine z_iload hC dX1_pair_52 rfl ?_
  refine z_imul hC dX1_pair_54 ?_
  refine z_iadd hC dX1_pair_55 ?_
  refine z_sipush hC 3329 dX1_pair_56 (by decide) ?_
  refine z_irem hC dX1_pair_59 (by omega) (by decide) (by decide) ?_
  refine z_iast hC 1 wP_1 wP_s1 dX1_pair_60 (by omega) (by decide) ?_
  refine z_aload_n hC dX1_pair_61 rfl rfl ?_
  refine z_get hC 0 wP_0 rfl in_X1 1 (by decide) q22 rfl dX1_pair_62 ?_
  refine z_iload_n hC dX1_pair_65 rfl rfl ?_
  refine z_iconst hC 1 dX1_pair_66 (by decide) ?_
  refine z_iadd hC dX1_pair_67 ?_
  refine z_iload_n hC dX1_pair_68 rfl rfl ?_
  refine z_iload hC dX1_pair_69 rfl ?_
  refine z_imul hC dX1_pair_71 ?_
  refine z_iload hC dX1_pair_72 rfl ?_
  refine z_iload hC dX1_pair_74 rfl ?_
  refine z_imul hC dX1_pair_76 ?_
  refine z_iadd hC dX1_pair_77 ?_
  refine z_sipush hC 3329 dX1_pair_78 (by decide) ?_
  refine z_irem hC dX1_pair_81 (by omega) (by decide) (by decide) ?_
  refine z_iast hC 1 wP_1 wP_s1 dX1_pair_82 (by omega) (by decide) ?_
  exact hret _ rfl _ _ dX1_pair_83
end BACK
end
section
/-! Transform.multiply(one, two, one) -/
set_option maxRecDepth 100000
section XMUL
variable {C : zC} {q : Nat → Nat} {pw o t : Nat → Nat}
theorem l_xm1 (hC : Fx C cX1_multiply RX1) (hL : zL C = 5)
    (hnext : ∀ f s : Nat → Nat, (∀ j, j < 256 → f j = o j) → (∀ j, j < 256 → s j = t j) → Z C 0 0 (wX (zcA C) q pw f s o t) 39 [.ref (q 4), .ref (q 2), .ref (q 3), .ref (q 2), .int (nI 256)] []) :
    ∀ (n i : Nat) (f s : Nat → Nat), i ≤ 256 → 257 ≤ i + n → (∀ j, j < i → f j = o j) → (∀ j, j < i → s j = t j) → Z C 0 0 (wX (zcA C) q pw f s o t) 3 [.ref (q 4), .ref (q 2), .ref (q 3), .ref (q 2), .int (nI i)] [] := by
  intro n
  induction n with
  | zero => intro i f s h1 h2; omega
  | succ n ih =>
    intro i f s h1 h2 hf hs
    refine z_iload hC dX1_multiply_3 rfl ?_
    refine z_sipush hC 256 dX1_multiply_5 (by decide) ?_
    refine z_icmp_ge (tgt := 39) hC (by omega) (by omega) dX1_multiply_8 (by decide) (fun hc8 => ?_) (fun hc8 => ?_)
    · obtain rfl : i = 256 := by omega
      exact hnext f s hf hs
    · refine z_aload_n hC dX1_multiply_11 rfl rfl ?_
      refine z_get hC 0 wX_0 rfl in_X1 1 (by decide) q22 rfl dX1_multiply_12 ?_
      refine z_iload hC dX1_multiply_15 rfl ?_
      refine z_aload_n hC dX1_multiply_17 rfl rfl ?_
      refine z_iload hC dX1_multiply_18 rfl ?_
      refine z_iald hC 4 wX_4 dX1_multiply_20 (by omega) (by decide) ?_
      refine z_iast hC 2 wX_2 wX_s2 dX1_multiply_21 (by omega) (by decide) ?_
      refine z_aload_n hC dX1_multiply_22 rfl rfl ?_
      refine z_get hC 0 wX_0 rfl in_X1 2 (by decide) q23 rfl dX1_multiply_23 ?_
      refine z_iload hC dX1_multiply_26 rfl ?_
      refine z_aload_n hC dX1_multiply_28 rfl rfl ?_
      refine z_iload hC dX1_multiply_29 rfl ?_
      refine z_iald hC 5 wX_5 dX1_multiply_31 (by omega) (by decide) ?_
      refine z_iast hC 3 wX_3 wX_s3 dX1_multiply_32 (by omega) (by decide) ?_
      refine z_iinc hC _ dX1_multiply_33 hL (by decide) rfl (nI_1 _) ?_
      refine z_goto (tgt := 3) hC dX1_multiply_36 (by decide) ?_
      refine z_lw (lw' := [.ref (q 4), .ref (q 2), .ref (q 3), .ref (q 2), .int (nI (i + 1))]) rfl ?_
      refine ih (i + 1) _ _ (by omega) (by omega) (fun j hj => ?_) (fun j hj => ?_)
      · by_cases e : j = i
        · subst e
          rw [updN_s]
        · rw [updN_n e, hf j (by omega)]
      · by_cases e : j = i
        · subst e
          rw [updN_s]
        · rw [updN_n e, hs j (by omega)]
theorem prS_at {A B u : Nat → Nat} {i : Nat} (hi : i < 64) (hu : ∀ j, j < 256 → u j = if j < 4 * i then prF pw A B j else A j) :
    ∀ j, j < 256 → prS (prS u B (4 * i) (pw (64 + i))) B (4 * i + 2) (3329 - pw (64 + i)) j = if j < 4 * (i + 1) then prF pw A B j else A j := by
  have a0 : u (4 * i) = A (4 * i) := by rw [hu _ (by omega), if_neg (by omega)]
  have a1 : u (4 * i + 1) = A (4 * i + 1) := by rw [hu _ (by omega), if_neg (by omega)]
  have a2 : u (4 * i + 2) = A (4 * i + 2) := by rw [hu _ (by omega), if_neg (by omega)]
  have a3 : u (4 * i + 2 + 1) = A (4 * i + 2 + 1) := by rw [hu _ (by omega), if_neg (by omega)]
  have hv : prS u B (4 * i) (pw (64 + i)) = updN (updN u (4 * i) (prF pw A B (4 * i))) (4 * i + 1) (prF pw A B (4 * i + 1)) := by
    unfold prS prF
    rw [if_pos (show 4 * i % 2 = 0 by omega), if_neg (show ¬ (4 * i + 1) % 2 = 0 by omega), if_pos (show 4 * i / 2 % 2 = 0 by omega), a0, a1, show 4 * i / 4 = i by omega, show 4 * i + 1 - 1 = 4 * i by omega]
  rw [hv]
  have c2 : updN (updN u (4 * i) (prF pw A B (4 * i))) (4 * i + 1) (prF pw A B (4 * i + 1)) (4 * i + 2) = A (4 * i + 2) := by
    rw [updN_n (by omega), updN_n (by omega), a2]
  have c3 : updN (updN u (4 * i) (prF pw A B (4 * i))) (4 * i + 1) (prF pw A B (4 * i + 1)) (4 * i + 2 + 1) = A (4 * i + 2 + 1) := by
    rw [updN_n (by omega), updN_n (by omega), a3]
  have hw : ∀ v : Nat → Nat, v (4 * i + 2) = A (4 * i + 2) → v (4 * i + 2 + 1) = A (4 * i + 2 + 1) → prS v B (4 * i + 2) (3329 - pw (64 + i)) = updN (updN v (4 * i + 2) (prF pw A B (4 * i + 2))) (4 * i + 2 + 1) (prF pw A B (4 * i + 2 + 1)) := by
    intro v d2 d3
    unfold prS prF
    rw [if_pos (show (4 * i + 2) % 2 = 0 by omega), if_neg (show ¬ (4 * i + 2 + 1) % 2 = 0 by omega), if_neg (show ¬ (4 * i + 2) / 2 % 2 = 0 by omega), d2, d3, show (4 * i + 2) / 4 = i by omega, show 4 * i + 2 + 1 - 1 = 4 * i + 2 by omega]
  rw [hw _ c2 c3]
  intro j hj
  by_cases e3 : j = 4 * i + 2 + 1
  · subst e3
    rw [updN_s, if_pos (by omega)]
  · rw [updN_n e3]
    by_cases e2 : j = 4 * i + 2
    · subst e2
      rw [updN_s, if_pos (by omega)]
    · rw [updN_n e2]
      by_cases e1 : j = 4 * i + 1
      · subst e1
        rw [updN_s, if_pos (by omega)]
      · rw [updN_n e1]
        by_cases e0 : j = 4 * i
        · subst e0
          rw [updN_s, if_pos (by omega)]
        · rw [updN_n e0, hu j hj]
          by_cases c : j < 4 * i
          · rw [if_pos c, if_pos (by omega)]
          · rw [if_neg c, if_neg (by omega)]
theorem prS_lt {f s : Nat → Nat} {i z : Nat} (hf : ∀ j, j < 256 → f j < 3329) : ∀ j, j < 256 → prS f s i z j < 3329 := by
  intro j hj
  unfold prS
  by_cases e1 : j = i + 1
  · subst e1
    rw [updN_s]
    exact Nat.mod_lt _ (by decide)
  · rw [updN_n e1]
    by_cases e0 : j = i
    · subst e0
      rw [updN_s]
      exact Nat.mod_lt _ (by decide)
    · rw [updN_n e0]
      exact hf j hj
theorem l_xm2 {A B : Nat → Nat} (hC : Fx C cX1_multiply RX1) (hR : zR C = zRm 1 0 0 28) (hL : zL C = 5) (hpw : ∀ i, i < 128 → pw i < 3329) (hA : ∀ j, j < 256 → A j < 3329) (hB : ∀ j, j < 256 → B j < 3329)
    (hnext : ∀ f : Nat → Nat, (∀ j, j < 256 → f j = prF pw A B j) → Z C 0 0 (wX (zcA C) q pw f B o t) 113 [.ref (q 4), .ref (q 2), .ref (q 3), .ref (q 2), .int (nI 64)] []) :
    ∀ (n i : Nat) (u : Nat → Nat), i ≤ 64 → 65 ≤ i + n → (∀ j, j < 256 → u j = if j < 4 * i then prF pw A B j else A j) → Z C 0 0 (wX (zcA C) q pw u B o t) 58 [.ref (q 4), .ref (q 2), .ref (q 3), .ref (q 2), .int (nI i)] [] := by
  intro n
  induction n with
  | zero => intro i u h1 h2; omega
  | succ n ih =>
    intro i u h1 h2 hu
    refine z_iload hC dX1_multiply_58 rfl ?_
    refine z_bipush hC 64 dX1_multiply_60 (by decide) ?_
    refine z_icmp_ge (tgt := 113) hC (by omega) (by omega) dX1_multiply_62 (by decide) (fun hc62 => ?_) (fun hc62 => ?_)
    · obtain rfl : i = 64 := by omega
      refine hnext u (fun j hj => ?_)
      rw [hu j hj, if_pos (by omega)]
    · have hu3 : ∀ j, j < 256 → u j < 3329 := by
        intro j hj
        rw [hu j hj]
        split
        · exact prF_lt
        · exact hA j hj
      have hz := hpw (64 + i) (by omega)
      refine z_aload_n hC dX1_multiply_65 rfl rfl ?_
      refine z_iconst hC 4 dX1_multiply_66 (by decide) ?_
      refine z_iload hC dX1_multiply_67 rfl ?_
      refine z_imul hC dX1_multiply_69 ?_
      refine z_aload_n hC dX1_multiply_70 rfl rfl ?_
      refine z_get hC 0 wX_0 rfl in_X1 0 (by decide) q21 rfl dX1_multiply_71 ?_
      refine z_bipush hC 64 dX1_multiply_74 (by decide) ?_
      refine z_iload hC dX1_multiply_76 rfl ?_
      refine z_iadd hC dX1_multiply_78 ?_
      refine z_iald hC 1 wX_1 dX1_multiply_79 (by omega) (by decide) ?_
      refine z_callVv (n := 2) (q := (RX1, TX1, 3)) (ci := 1) (ws2 := (fun u => wX (zcA C) q pw u B o t)) (wr := [arI (zcA C) (q 5) 128 pw, arI (zcA C) (q 2) 256 o, arI (zcA C) (q 3) 256 t]) hC [0, 2, 3] [1, 4, 5] [3, 0, 4, 5, 1, 2] (k_pair (q := q) (f := u) (s := B) (i := 4 * i) (z := pw (64 + i)) (by omega) (by omega) hu3 hB) (lw_V q75 q77 qs1 q5 q78) rfl rfl dX1_multiply_80 rfl (by decide +kernel) rfl (Nat.le_of_ble_eq_true rfl) (by rw [hR]; exact ⟨Nat.le_of_ble_eq_true rfl, Nat.le_of_ble_eq_true rfl⟩) (by rw [hR]; exact Nat.le_of_ble_eq_true rfl) (by rw [hR]; exact Nat.le_of_ble_eq_true rfl) rfl rfl rfl rfl (by decide) rfl (fun _ => rfl) (fun u2 hu2 => ?_)
      subst hu2
      refine z_aload_n hC dX1_multiply_83 rfl rfl ?_
      refine z_iconst hC 4 dX1_multiply_84 (by decide) ?_
      refine z_iload hC dX1_multiply_85 rfl ?_
      refine z_imul hC dX1_multiply_87 ?_
      refine z_iconst hC 2 dX1_multiply_88 (by decide) ?_
      refine z_iadd hC dX1_multiply_89 ?_
      refine z_sipush hC 3329 dX1_multiply_90 (by decide) ?_
      refine z_aload_n hC dX1_multiply_93 rfl rfl ?_
      refine z_get hC 0 wX_0 rfl in_X1 0 (by decide) q21 rfl dX1_multiply_94 ?_
      refine z_bipush hC 64 dX1_multiply_97 (by decide) ?_
      refine z_iload hC dX1_multiply_99 rfl ?_
      refine z_iadd hC dX1_multiply_101 ?_
      refine z_iald hC 1 wX_1 dX1_multiply_102 (by omega) (by decide) ?_
      refine z_isub hC dX1_multiply_103 (by omega) ?_
      refine z_callVv (n := 2) (q := (RX1, TX1, 3)) (ci := 1) (ws2 := (fun u => wX (zcA C) q pw u B o t)) (wr := [arI (zcA C) (q 5) 128 pw, arI (zcA C) (q 2) 256 o, arI (zcA C) (q 3) 256 t]) hC [0, 2, 3] [1, 4, 5] [3, 0, 4, 5, 1, 2] (k_pair (q := q) (f := prS u B (4 * i) (pw (64 + i))) (s := B) (i := 4 * i + 2) (z := 3329 - pw (64 + i)) (by omega) (by omega) (prS_lt hu3) hB) (lw_V q75 q77 qs1 q5 q78) rfl rfl dX1_multiply_104 rfl (by decide +kernel) rfl (Nat.le_of_ble_eq_true rfl) (by rw [hR]; exact ⟨Nat.le_of_ble_eq_true rfl, Nat.le_of_ble_eq_true rfl⟩) (by rw [hR]; exact Nat.le_of_ble_eq_true rfl) (by rw [hR]; exact Nat.le_of_ble_eq_true rfl) rfl rfl rfl rfl (by decide) rfl (fun _ => rfl) (fun u2 hu2 => ?_)
      subst hu2
      refine z_iinc hC _ dX1_multiply_107 hL (by decide) rfl (nI_1 _) ?_
      refine z_goto (tgt := 58) hC dX1_multiply_110 (by decide) ?_
      exact ih (i + 1) _ (by omega) (by omega) (prS_at hc62 hu)
theorem l_xm3 {f s : Nat → Nat} (hC : Fx C cX1_multiply RX1) (hL : zL C = 5)
    (hret : ∀ u : (Nat → Nat) × (Nat → Nat) × (Nat → Nat), (∀ j, j < 256 → u.2.2 j = f j) → ∀ (pc : Nat) (lw : List Value), decode cX1_multiply pc = .ok (.return_, 1) → Z C 0 0 (wX (zcA C) q pw u.1 u.2.1 u.2.2 t) pc lw []) :
    ∀ (n i : Nat) (u : Nat → Nat), i ≤ 256 → 257 ≤ i + n → (∀ j, j < i → u j = f j) → Z C 0 0 (wX (zcA C) q pw f s u t) 124 [.ref (q 4), .ref (q 2), .ref (q 3), .ref (q 2), .int (nI i)] [] := by
  intro n
  induction n with
  | zero => intro i u h1 h2; omega
  | succ n ih =>
    intro i u h1 h2 hu
    refine z_iload hC dX1_multiply_124 rfl ?_
    refine z_sipush hC 256 dX1_multiply_126 (by decide) ?_
    refine z_icmp_ge (tgt := 149) hC (by omega) (by omega) dX1_multiply_129 (by decide) (fun hc129 => ?_) (fun hc129 => ?_)
    · obtain rfl : i = 256 := by omega
      exact hret (f, s, u) hu _ _ dX1_multiply_149
    · refine z_aload_n hC dX1_multiply_132 rfl rfl ?_
      refine z_iload hC dX1_multiply_133 rfl ?_
      refine z_aload_n hC dX1_multiply_135 rfl rfl ?_
      refine z_get hC 0 wX_0 rfl in_X1 1 (by decide) q22 rfl dX1_multiply_136 ?_
      refine z_iload hC dX1_multiply_139 rfl ?_
      refine z_iald hC 2 wX_2 dX1_multiply_141 (by omega) (by decide) ?_
      refine z_iast hC 4 wX_4 wX_s4 dX1_multiply_142 (by omega) (by decide) ?_
      refine z_iinc hC _ dX1_multiply_143 hL (by decide) rfl (nI_1 _) ?_
      refine z_goto (tgt := 124) hC dX1_multiply_146 (by decide) ?_
      refine z_lw (lw' := [.ref (q 4), .ref (q 2), .ref (q 3), .ref (q 2), .int (nI (i + 1))]) rfl ?_
      refine ih (i + 1) _ (by omega) (by omega) (fun j hj => ?_)
      by_cases e : j = i
      · subst e
        rw [updN_s]
      · rw [updN_n e, hu j (by omega)]
theorem k_xmul {f s : Nat → Nat} (hpw : ∀ i, i < 128 → pw i = zt i) (ho : ∀ j, j < 256 → o j < 3329) (ht : ∀ j, j < 256 → t j < 3329) : Kv yX1_multiply cX1_multiply 5 1 28 0 0 [.ref (q 4), .ref (q 2), .ref (q 3), .ref (q 2)] (fun cA => wX cA q pw f s o t) (fun u : (Nat → Nat) × (Nat → Nat) × (Nat → Nat) => ∀ j, j < 256 → u.2.2 j = mulN o t j) (fun cA u => wX cA q pw u.1 u.2.1 u.2.2 t) := by
  refine Kv.of (by decide) (Nat.le_of_ble_eq_true rfl) (by simp [Value.category]) ?_
  intro C hC hR hN hL hret
  have hpl : ∀ i, i < 128 → pw i < 3329 := fun i hi => by rw [hpw i hi]; exact (zt_lt i hi).2
  refine z_iconst hC 0 dX1_multiply_0 (by decide) ?_
  refine z_istore hC dX1_multiply_1 hL (by decide) (Nat.le_of_ble_eq_true rfl) ?_
  refine l_xm1 hC hL ?_ 257 0 f s (by decide) (by decide) (fun j hj => absurd hj (by omega)) (fun j hj => absurd hj (by omega))
  intro f s hf hs
  have hfl : ∀ j, j < 256 → f j < 3329 := fun j hj => by rw [hf j hj]; exact ho j hj
  have hsl : ∀ j, j < 256 → s j < 3329 := fun j hj => by rw [hs j hj]; exact ht j hj
  refine z_aload_n hC dX1_multiply_39 rfl rfl ?_
  refine z_aload_n hC dX1_multiply_40 rfl rfl ?_
  refine z_get hC 0 wX_0 rfl in_X1 1 (by decide) q22 rfl dX1_multiply_41 ?_
  refine z_callVv (n := 1) (q := (RX1, TX1, 3)) (ci := 1) (ws2 := (fun u => wX (zcA C) q pw u s o t)) (wr := [arI (zcA C) (q 7) 256 s, arI (zcA C) (q 2) 256 o, arI (zcA C) (q 3) 256 t]) hC [0, 1, 2] [3, 4, 5] [3, 4, 5, 0, 1, 2] (k_there (q := q) (x0 := q 6) hpl hfl) (lw_V q71 q73 qs0 q5 q74) rfl rfl dX1_multiply_44 rfl (by decide +kernel) rfl (Nat.le_of_ble_eq_true rfl) (by rw [hR]; exact ⟨Nat.le_of_ble_eq_true rfl, Nat.le_of_ble_eq_true rfl⟩) (by rw [hR]; exact Nat.le_of_ble_eq_true rfl) (by rw [hR]; exact Nat.le_of_ble_eq_true rfl) rfl rfl rfl rfl (by decide) rfl (fun _ => rfl) (fun A hA => ?_)
  refine z_aload_n hC dX1_multiply_47 rfl rfl ?_
  refine z_aload_n hC dX1_multiply_48 rfl rfl ?_
  refine z_get hC 0 wX_0 rfl in_X1 2 (by decide) q23 rfl dX1_multiply_49 ?_
  refine z_callVv (n := 1) (q := (RX1, TX1, 3)) (ci := 1) (ws2 := (fun u => wX (zcA C) q pw A u o t)) (wr := [arI (zcA C) (q 6) 256 A, arI (zcA C) (q 2) 256 o, arI (zcA C) (q 3) 256 t]) hC [0, 1, 3] [2, 4, 5] [3, 4, 0, 5, 1, 2] (k_there (q := q) (x0 := q 7) hpl hsl) (lw_V q71 q73 qs0 q5 q74) rfl rfl dX1_multiply_52 rfl (by decide +kernel) rfl (Nat.le_of_ble_eq_true rfl) (by rw [hR]; exact ⟨Nat.le_of_ble_eq_true rfl, Nat.le_of_ble_eq_true rfl⟩) (by rw [hR]; exact Nat.le_of_ble_eq_true rfl) (by rw [hR]; exact Nat.le_of_ble_eq_true rfl) rfl rfl rfl rfl (by decide) rfl (fun _ => rfl) (fun B hB => ?_)
  have hAl : ∀ j, j < 256 → A j < 3329 := fun j hj => by rw [hA j hj]; exact lays_lt hfl 7 j hj
  have hBl : ∀ j, j < 256 → B j < 3329 := fun j hj => by rw [hB j hj]; exact lays_lt hsl 7 j hj
  refine z_iconst hC 0 dX1_multiply_55 (by decide) ?_
  refine z_istore hC dX1_multiply_56 hL (by decide) (Nat.le_of_ble_eq_true rfl) ?_
  refine l_xm2 hC hR hL hpl hAl hBl ?_ 65 0 A (by decide) (by decide) (fun j hj => by rw [if_neg (by omega)])
  intro D hD
  have hDl : ∀ j, j < 256 → D j < 3329 := fun j hj => by rw [hD j hj]; exact prF_lt
  refine z_aload_n hC dX1_multiply_113 rfl rfl ?_
  refine z_aload_n hC dX1_multiply_114 rfl rfl ?_
  refine z_get hC 0 wX_0 rfl in_X1 1 (by decide) q22 rfl dX1_multiply_115 ?_
  refine z_callVv (n := 1) (q := (RX1, TX1, 3)) (ci := 1) (ws2 := (fun u => wX (zcA C) q pw u B o t)) (wr := [arI (zcA C) (q 7) 256 B, arI (zcA C) (q 2) 256 o, arI (zcA C) (q 3) 256 t]) hC [0, 1, 2] [3, 4, 5] [3, 4, 5, 0, 1, 2] (k_back (q := q) (x0 := q 6) hpl hDl) (lw_V q79 q81 qs2 q5 q82) rfl rfl dX1_multiply_118 rfl (by decide +kernel) rfl (Nat.le_of_ble_eq_true rfl) (by rw [hR]; exact ⟨Nat.le_of_ble_eq_true rfl, Nat.le_of_ble_eq_true rfl⟩) (by rw [hR]; exact Nat.le_of_ble_eq_true rfl) (by rw [hR]; exact Nat.le_of_ble_eq_true rfl) rfl rfl rfl rfl (by decide) rfl (fun _ => rfl) (fun E hE => ?_)
  refine z_iconst hC 0 dX1_multiply_121 (by decide) ?_
  refine z_istore hC dX1_multiply_122 hL (by decide) (Nat.le_of_ble_eq_true rfl) ?_
  refine l_xm3 (f := E) hC hL ?_ 257 0 o (by decide) (by decide) (fun j hj => absurd hj (by omega))
  intro u hu
  refine hret u (fun j hj => ?_)
  rw [hu j hj, hE j hj, ntt_main hpw hA hB hD j hj]
  exact mulN_congr hj hf hs
end XMUL
end
section
/-! the constructors -/
set_option maxRecDepth 100000
theorem zp_or (a b : Nat) : nI a ||| nI b = nI (a ||| b) := by
  apply Int32.toBitVec_inj.1
  show BitVec.ofNat 32 a ||| BitVec.ofNat 32 b = BitVec.ofNat 32 (a ||| b)
  apply BitVec.eq_of_getLsbD_eq
  intro i hi
  simp [hi]
theorem pw17_lt : ∀ n, pw17 n < 3329
  | 0 => by decide
  | n + 1 => Nat.mod_lt _ (by decide)
theorem revk_lt : ∀ i, i < 128 → revk i 7 < 128 := by decide +kernel
def wI (cA : ClassId) (h a b c : Nat) (p : Nat → Nat) : va_W := [(h, .inr (1, [.ref a, .ref b, .ref c])), arI cA a 128 p, arI cA b 256 (fun _ => 0), arI cA c 256 (fun _ => 0)]
theorem wI_0 {cA : ClassId} {h a b c : Nat} {p : Nat → Nat} : (wI cA h a b c p)[0]? = some (h, .inr (1, [.ref a, .ref b, .ref c])) := rfl
theorem wI_1 {cA : ClassId} {h a b c : Nat} {p : Nat → Nat} : (wI cA h a b c p)[1]? = some (arI cA a 128 p) := rfl
theorem wI_s1 {cA : ClassId} {h a b c : Nat} {p : Nat → Nat} : ∀ g : Nat → Nat, (wI cA h a b c p).set 1 (arI cA a 128 g) = wI cA h a b c g := fun _ => rfl
section INIT
variable {C : zC} {h a b c : Nat}
theorem l_init2 {p : Nat → Nat} {i T ce sl : Nat} (hC : Fx C cX1_init RX1) (hL : zL C = 5) (hT : T < 128)
    (hnext : ∀ lw : List Value, [Value.ref h, .int (nI i), .int (nI T), .int (nI (pw17 T))] = lw.take 4 → Z C ce sl (wI (zcA C) h a b c p) 95 lw []) :
    ∀ (n k : Nat), k ≤ T → T + 1 ≤ k + n → Z C ce sl (wI (zcA C) h a b c p) 74 [.ref h, .int (nI i), .int (nI T), .int (nI (pw17 k)), .int (nI k)] [] := by
  intro n
  induction n with
  | zero => intro k h1 h2; omega
  | succ n ih =>
    intro k h1 h2
    have hv := pw17_lt k
    refine z_iload hC dX1_init_74 rfl ?_
    refine z_iload_n hC dX1_init_76 rfl rfl ?_
    refine z_icmp_ge (tgt := 95) hC (by omega) (by omega) dX1_init_77 (by decide) (fun hc77 => ?_) (fun hc77 => ?_)
    · obtain rfl : k = T := by omega
      exact hnext _ rfl
    · refine z_iload_n hC dX1_init_80 rfl rfl ?_
      refine z_bipush hC 17 dX1_init_81 (by decide) ?_
      refine z_imul hC dX1_init_83 ?_
      refine z_sipush hC 3329 dX1_init_84 (by decide) ?_
      refine z_irem hC dX1_init_87 (by omega) (by decide) (by decide) ?_
      refine z_istore_n hC dX1_init_88 rfl hL (by decide) (Nat.le_of_ble_eq_true rfl) ?_
      refine z_iinc hC _ dX1_init_89 hL (by decide) rfl (nI_1 _) ?_
      refine z_goto (tgt := 74) hC dX1_init_92 (by decide) ?_
      refine z_lw (lw' := [.ref h, .int (nI i), .int (nI T), .int (nI (pw17 (k + 1))), .int (nI (k + 1))]) rfl ?_
      exact ih (k + 1) (by omega) (by omega)
theorem l_init1 {p : Nat → Nat} {i ce sl : Nat} (hC : Fx C cX1_init RX1) (hL : zL C = 5) (hi : i < 128)
    (hnext : ∀ lw : List Value, [Value.ref h, .int (nI i), .int (nI (revk i 7))] = lw.take 3 → Z C ce sl (wI (zcA C) h a b c p) 69 lw []) :
    ∀ (n k : Nat), k ≤ 7 → 8 ≤ k + n → Z C ce sl (wI (zcA C) h a b c p) 44 [.ref h, .int (nI i), .int (nI (revk i k)), .int (nI k)] [] := by
  intro n
  induction n with
  | zero => intro k h1 h2; omega
  | succ n ih =>
    intro k h1 h2
    refine z_iload_n hC dX1_init_44 rfl rfl ?_
    refine z_bipush hC 7 dX1_init_45 (by decide) ?_
    refine z_icmp_ge (tgt := 69) hC (by omega) (by omega) dX1_init_47 (by decide) (fun hc47 => ?_) (fun hc47 => ?_)
    · obtain rfl : k = 7 := by omega
      exact hnext _ rfl
    · have hp : 2 ^ (6 - k) ≤ 2 ^ 6 := Nat.pow_le_pow_right (by decide) (by omega)
      have hm : i / 2 ^ k % 2 * 2 ^ (6 - k) ≤ 1 * 2 ^ 6 := Nat.mul_le_mul (by omega) hp
      refine z_iload_n hC dX1_init_50 rfl rfl ?_
      refine z_iload_n hC dX1_init_51 rfl rfl ?_
      refine z_iload_n hC dX1_init_52 rfl rfl ?_
      refine z_ishr hC dX1_init_53 (by omega) (by omega) ?_
      refine z_iconst hC 1 dX1_init_54 (by decide) ?_
      refine z_iand hC 2 1 dX1_init_55 (by decide) (by decide) (by decide) rfl ?_
      refine z_bipush hC 6 dX1_init_56 (by decide) ?_
      refine z_iload_n hC dX1_init_58 rfl rfl ?_
      refine z_isub hC dX1_init_59 (by omega) ?_
      refine z_ishl hC dX1_init_60 (by omega) (by omega) ?_
      refine z_iorR hC dX1_init_61 ?_
      refine z_top _ (zp_or _ _) ?_
      refine z_istore_n hC dX1_init_62 rfl hL (by decide) (Nat.le_of_ble_eq_true rfl) ?_
      refine z_iinc hC _ dX1_init_63 hL (by decide) rfl (nI_1 _) ?_
      refine z_goto (tgt := 44) hC dX1_init_66 (by decide) ?_
      refine z_lw (lw' := [.ref h, .int (nI i), .int (nI (revk i (k + 1))), .int (nI (k + 1))]) rfl ?_
      exact ih (k + 1) (by omega) (by omega)
theorem l_init0 (hC : Fx C cX1_init RX1) (hL : zL C = 5)
    (hret : ∀ u : (Nat × Nat × Nat) × (Nat → Nat), (∀ i, i < 128 → u.2 i = zt i) → ∀ (pc : Nat) (lw : List Value), decode cX1_init pc = .ok (.return_, 1) → Z C 3 640 (wI (zcA C) h u.1.1 u.1.2.1 u.1.2.2 u.2) pc lw []) :
    ∀ (n i : Nat) (p : Nat → Nat), i ≤ 128 → 129 ≤ i + n → (∀ j, j < i → p j = zt j) → Z C 3 640 (wI (zcA C) h a b c p) 33 [.ref h, .int (nI i)] [] := by
  intro n
  induction n with
  | zero => intro i p h1 h2; omega
  | succ n ih =>
    intro i p h1 h2 hp
    refine z_iload_n hC dX1_init_33 rfl rfl ?_
    refine z_sipush hC 128 dX1_init_34 (by decide) ?_
    refine z_icmp_ge (tgt := 108) hC (by omega) (by omega) dX1_init_37 (by decide) (fun hc37 => ?_) (fun hc37 => ?_)
    · obtain rfl : i = 128 := by omega
      exact hret ((a, b, c), p) hp _ _ dX1_init_108
    · refine z_iconst hC 0 dX1_init_40 (by decide) ?_
      refine z_istore_n hC dX1_init_41 rfl hL (by decide) (Nat.le_of_ble_eq_true rfl) ?_
      refine z_iconst hC 0 dX1_init_42 (by decide) ?_
      refine z_istore_n hC dX1_init_43 rfl hL (by decide) (Nat.le_of_ble_eq_true rfl) ?_
      refine l_init1 hC hL hc37 ?_ 8 0 (by decide) (by decide)
      intro lw hlw
      refine z_lw (lw' := [.ref h, .int (nI i), .int (nI (revk i 7))]) hlw.symm ?_
      refine z_iconst hC 1 dX1_init_69 (by decide) ?_
      refine z_istore_n hC dX1_init_70 rfl hL (by decide) (Nat.le_of_ble_eq_true rfl) ?_
      refine z_iconst hC 0 dX1_init_71 (by decide) ?_
      refine z_istore hC dX1_init_72 hL (by decide) (Nat.le_of_ble_eq_true rfl) ?_
      refine l_init2 hC hL (revk_lt i hc37) ?_ (revk i 7 + 1) 0 (Nat.zero_le _) (by omega)
      intro lw hlw
      refine z_lw (lw' := [.ref h, .int (nI i), .int (nI (revk i 7)), .int (nI (pw17 (revk i 7)))]) hlw.symm ?_
      refine z_aload_n hC dX1_init_95 rfl rfl ?_
      refine z_get hC 0 wI_0 rfl in_X1 0 (by decide) q21 rfl dX1_init_96 ?_
      refine z_iload_n hC dX1_init_99 rfl rfl ?_
      refine z_iload_n hC dX1_init_100 rfl rfl ?_
      refine z_iast hC 1 wI_1 wI_s1 dX1_init_101 (by omega) (by decide) ?_
      refine z_iinc hC _ dX1_init_102 hL (by decide) rfl (nI_1 _) ?_
      refine z_goto (tgt := 33) hC dX1_init_105 (by decide) ?_
      refine z_lw (lw' := [.ref h, .int (nI (i + 1))]) rfl ?_
      refine ih (i + 1) _ (by omega) (by omega) (fun j hj => ?_)
      by_cases e : j = i
      · subst e
        rw [updN_s]
        rfl
      · rw [updN_n e, hp j (by omega)]
theorem k_tinit : Kv yX1_init cX1_init 5 1 12 3 640 [.ref h] (fun _ => [(h, .inr (1, [.null, .null, .null]))]) (fun u : (Nat × Nat × Nat) × (Nat → Nat) => ∀ i, i < 128 → u.2 i = zt i) (fun cA u => wI cA h u.1.1 u.1.2.1 u.1.2.2 u.2) := by
  refine Kv.of (by decide) (Nat.le_of_ble_eq_true rfl) (by simp [Value.category]) ?_
  intro C hC hR hN hL hret
  refine z_aload_n hC dX1_init_0 rfl rfl ?_
  refine z_objInit hC q20 q13 q14 dX1_init_1 (by rw [hR]; exact Nat.le_of_ble_eq_true rfl) (by rw [hR]; exact Nat.le_of_ble_eq_true rfl) ?_
  refine z_aload_n hC dX1_init_4 rfl rfl ?_
  refine z_sipush hC 128 dX1_init_5 (by decide) ?_
  refine z_newa hC 128 dX1_init_8 (by decide) (by rw [hR]; exact Nat.le_of_ble_eq_true rfl) (by rw [hR]; exact Nat.le_of_ble_eq_true rfl) (fun a => ?_)
  refine z_putF (ws' := [(h, .inr (1, [.ref a, .null, .null])), arI (zcA C) a 128 (fun _ => 0)]) hC hN 0 tyX1 rfl rfl in_X1 tyX1_ok nmX1 0 (by decide) q21 rfl rfl rfl rfl (Nat.le_of_ble_eq_true rfl) rfl dX1_init_10 ?_
  refine z_aload_n hC dX1_init_13 rfl rfl ?_
  refine z_sipush hC 256 dX1_init_14 (by decide) ?_
  refine z_newa hC 256 dX1_init_17 (by decide) (by rw [hR]; exact Nat.le_of_ble_eq_true rfl) (by rw [hR]; exact Nat.le_of_ble_eq_true rfl) (fun b => ?_)
  refine z_putF (ws' := [(h, .inr (1, [.ref a, .ref b, .null])), arI (zcA C) a 128 (fun _ => 0), arI (zcA C) b 256 (fun _ => 0)]) hC hN 0 tyX1 rfl rfl in_X1 tyX1_ok nmX1 1 (by decide) q22 rfl rfl rfl rfl (Nat.le_of_ble_eq_true rfl) rfl dX1_init_19 ?_
  refine z_aload_n hC dX1_init_22 rfl rfl ?_
  refine z_sipush hC 256 dX1_init_23 (by decide) ?_
  refine z_newa hC 256 dX1_init_26 (by decide) (by rw [hR]; exact Nat.le_of_ble_eq_true rfl) (by rw [hR]; exact Nat.le_of_ble_eq_true rfl) (fun c => ?_)
  refine z_putF (ws' := wI (zcA C) h a b c (fun _ => 0)) hC hN 0 tyX1 rfl rfl in_X1 tyX1_ok nmX1 2 (by decide) q23 rfl rfl rfl rfl (Nat.le_of_ble_eq_true rfl) rfl dX1_init_28 ?_
  refine z_iconst hC 0 dX1_init_31 (by decide) ?_
  refine z_istore_n hC dX1_init_32 rfl hL (by decide) (Nat.le_of_ble_eq_true rfl) ?_
  exact l_init0 hC hL hret 129 0 (fun _ => 0) (by decide) (by decide) (fun j hj => absurd hj (by omega))
/-- the addresses of a RingDesk's cells -/
def qq8 (h a b c x p f s : Nat) : Nat → Nat := fun i => match i with
  | 0 => h
  | 1 => a
  | 2 => b
  | 3 => c
  | 4 => x
  | 5 => p
  | 6 => f
  | _ => s
theorem k_dinit : Kv yX0_init cX0_init 1 2 36 7 2179 [.ref h] (fun _ => [(h, .inr (0, [.null, .null, .null, .null]))]) (fun u : (Nat → Nat) × (Nat → Nat) => u.1 0 = h ∧ ∀ i, i < 128 → u.2 i = zt i) (fun cA u => wD cA u.1 (fun _ => 0) (fun _ => 0) (fun _ => 0) u.2 (fun _ => 0) (fun _ => 0)) := by
  refine Kv.of (by decide) (Nat.le_of_ble_eq_true rfl) (by simp [Value.category]) ?_
  intro C hC hR hN hL hret
  refine z_aload_n hC dX0_init_0 rfl rfl ?_
  refine z_objInit hC q12 q13 q14 dX0_init_1 (by rw [hR]; exact Nat.le_of_ble_eq_true rfl) (by rw [hR]; exact Nat.le_of_ble_eq_true rfl) ?_
  refine z_aload_n hC dX0_init_4 rfl rfl ?_
  refine z_sipush hC 1024 dX0_init_5 (by decide) ?_
  refine z_newa hC 1024 dX0_init_8 (by decide) (by rw [hR]; exact Nat.le_of_ble_eq_true rfl) (by rw [hR]; exact Nat.le_of_ble_eq_true rfl) (fun a => ?_)
  refine z_putF (ws' := [(h, .inr (0, [.ref a, .null, .null, .null])), arI (zcA C) a 1024 (fun _ => 0)]) hC hN 0 tyX0 rfl rfl in_X0 tyX0_ok nmX0 0 (by decide) q32 rfl rfl rfl rfl (Nat.le_of_ble_eq_true rfl) rfl dX0_init_10 ?_
  refine z_aload_n hC dX0_init_13 rfl rfl ?_
  refine z_sipush hC 256 dX0_init_14 (by decide) ?_
  refine z_newa hC 256 dX0_init_17 (by decide) (by rw [hR]; exact Nat.le_of_ble_eq_true rfl) (by rw [hR]; exact Nat.le_of_ble_eq_true rfl) (fun b => ?_)
  refine z_putF (ws' := [(h, .inr (0, [.ref a, .ref b, .null, .null])), arI (zcA C) a 1024 (fun _ => 0), arI (zcA C) b 256 (fun _ => 0)]) hC hN 0 tyX0 rfl rfl in_X0 tyX0_ok nmX0 1 (by decide) q33 rfl rfl rfl rfl (Nat.le_of_ble_eq_true rfl) rfl dX0_init_19 ?_
  refine z_aload_n hC dX0_init_22 rfl rfl ?_
  refine z_sipush hC 256 dX0_init_23 (by decide) ?_
  refine z_newa hC 256 dX0_init_26 (by decide) (by rw [hR]; exact Nat.le_of_ble_eq_true rfl) (by rw [hR]; exact Nat.le_of_ble_eq_true rfl) (fun c => ?_)
  refine z_putF (ws' := [(h, .inr (0, [.ref a, .ref b, .ref c, .null])), arI (zcA C) a 1024 (fun _ => 0), arI (zcA C) b 256 (fun _ => 0), arI (zcA C) c 256 (fun _ => 0)]) hC hN 0 tyX0 rfl rfl in_X0 tyX0_ok nmX0 2 (by decide) q34 rfl rfl rfl rfl (Nat.le_of_ble_eq_true rfl) rfl dX0_init_28 ?_
  refine z_aload_n hC dX0_init_31 rfl rfl ?_
  refine z_new (ci := 1) hC [.null, .null, .null] tyX1 rfl in_X1 tyX1_ok q15 q16 q5 (fun j hj => by rcases (show j = 0 ∨ j = 1 ∨ j = 2 by omega) with rfl | rfl | rfl <;> rfl) dX0_init_32 (by rw [hR]; exact Nat.le_of_ble_eq_true rfl) (by rw [hR]; exact Nat.le_of_ble_eq_true rfl) (fun x => ?_)
  refine z_dup hC dX0_init_35 rfl ?_
  refine z_callI (n := 0) (ws2 := (fun u => [(h, .inr (0, [.ref a, .ref b, .ref c, .null])), arI (zcA C) a 1024 (fun _ => 0), arI (zcA C) b 256 (fun _ => 0), arI (zcA C) c 256 (fun _ => 0)] ++ wI (zcA C) x u.1.1 u.1.2.1 u.1.2.2 u.2)) (wr := [(h, .inr (0, [.ref a, .ref b, .ref c, .null])), arI (zcA C) a 1024 (fun _ => 0), arI (zcA C) b 256 (fun _ => 0), arI (zcA C) c 256 (fun _ => 0)]) hC [4] [0, 1, 2, 3] [0, 1, 2, 3, 4, 5, 6, 7] (k_tinit (h := x)) (lw_meth q19) q5 q17 q18 rfl dX0_init_36 rfl (by decide +kernel) rfl (Nat.le_of_ble_eq_true rfl) (by rw [hR]; exact ⟨Nat.le_of_ble_eq_true rfl, Nat.le_of_ble_eq_true rfl⟩) (by rw [hR]; exact Nat.le_of_ble_eq_true rfl) (by rw [hR]; exact Nat.le_of_ble_eq_true rfl) rfl rfl rfl rfl (by decide) rfl (fun _ => rfl) (fun u hu => ?_)
  obtain ⟨⟨p, f, s⟩, pw⟩ := u
  refine z_putF (ws' := wD (zcA C) (qq8 h a b c x p f s) (fun _ => 0) (fun _ => 0) (fun _ => 0) pw (fun _ => 0) (fun _ => 0)) hC hN 0 tyX0 rfl rfl in_X0 tyX0_ok nmX0 3 (by decide) q35 rfl rfl rfl rfl (Nat.le_of_ble_eq_true rfl) rfl dX0_init_39 ?_
  exact hret (qq8 h a b c x p f s, pw) ⟨rfl, hu⟩ _ _ dX0_init_42
theorem k_minit : Kv yX2_init cX2_init 1 1 12 2 1536 [.ref h] (fun _ => [(h, .inr (2, [.null, .null]))]) (fun u : Nat → Nat => u 0 = h) (fun cA u => wM cA u (fun _ => 0) (fun _ => 0)) := by
  refine Kv.of (by decide) (Nat.le_of_ble_eq_true rfl) (by simp [Value.category]) ?_
  intro C hC hR hN hL hret
  refine z_aload_n hC dX2_init_0 rfl rfl ?_
  refine z_objInit hC q108 q13 q14 dX2_init_1 (by rw [hR]; exact Nat.le_of_ble_eq_true rfl) (by rw [hR]; exact Nat.le_of_ble_eq_true rfl) ?_
  refine z_aload_n hC dX2_init_4 rfl rfl ?_
  refine z_sipush hC 1024 dX2_init_5 (by decide) ?_
  refine z_newa hC 1024 dX2_init_8 (by decide) (by rw [hR]; exact Nat.le_of_ble_eq_true rfl) (by rw [hR]; exact Nat.le_of_ble_eq_true rfl) (fun a => ?_)
  refine z_putF (ws' := [(h, .inr (2, [.ref a, .null])), arI (zcA C) a 1024 (fun _ => 0)]) hC hN 0 tyX2 rfl rfl in_X2 tyX2_ok nmX2 0 (by decide) q109 rfl rfl rfl rfl (Nat.le_of_ble_eq_true rfl) rfl dX2_init_10 ?_
  refine z_aload_n hC dX2_init_13 rfl rfl ?_
  refine z_sipush hC 512 dX2_init_14 (by decide) ?_
  refine z_newa hC 512 dX2_init_17 (by decide) (by rw [hR]; exact Nat.le_of_ble_eq_true rfl) (by rw [hR]; exact Nat.le_of_ble_eq_true rfl) (fun b => ?_)
  refine z_putF (ws' := wM (zcA C) (qq8 h a b 0 0 0 0 0) (fun _ => 0) (fun _ => 0)) hC hN 0 tyX2 rfl rfl in_X2 tyX2_ok nmX2 1 (by decide) q110 rfl rfl rfl rfl (Nat.le_of_ble_eq_true rfl) rfl dX2_init_19 ?_
  exact hret (qq8 h a b 0 0 0 0 0) rfl _ _ dX2_init_22
end INIT
end
section
/-! RingDesk.multiply; RingDeskModel.multiply -/
set_option maxRecDepth 100000
def fMul (R : Nat → Nat) (p w : Nat) : Nat → Nat := fun i => mulN (fun k => R (256 * (p % 4) + k)) (fun k => R (256 * (w % 4) + k)) i
section X0MUL
variable {C : zC} {q : Nat → Nat} {R pw f s z : Nat → Nat} {r p w : Nat}
theorem l_mul1 (hC : Fx C cX0_multiply RX0) (hR : zR C = zRm 2 0 0 52) (hL : zL C = 5) (hp : p < 2 ^ 32) (hw : w < 2 ^ 32)
    (hnext : ∀ o t : Nat → Nat, (∀ j, j < 256 → o j = R (256 * (p % 4) + j)) → (∀ j, j < 256 → t j = R (256 * (w % 4) + j)) → Z C 0 0 (wD (zcA C) q R o t pw f s) 55 [.ref (q 0), .int (nI r), .int (nI p), .int (nI w), .int (nI 256)] []) :
    ∀ (n i : Nat) (o t : Nat → Nat), i ≤ 256 → 257 ≤ i + n → (∀ j, j < i → o j = R (256 * (p % 4) + j)) → (∀ j, j < i → t j = R (256 * (w % 4) + j)) → Z C 0 0 (wD (zcA C) q R o t pw f s) 3 [.ref (q 0), .int (nI r), .int (nI p), .int (nI w), .int (nI i)] [] := by
  intro n
  induction n with
  | zero => intro i o t h1 h2; omega
  | succ n ih =>
    intro i o t h1 h2 ho ht
    refine z_iload hC dX0_multiply_3 rfl ?_
    refine z_sipush hC 256 dX0_multiply_5 (by decide) ?_
    refine z_icmp_ge (tgt := 55) hC (by omega) (by omega) dX0_multiply_8 (by decide) (fun hc8 => ?_) (fun hc8 => ?_)
    · obtain rfl : i = 256 := by omega
      exact hnext o t ho ht
    · refine z_aload_n hC dX0_multiply_11 rfl rfl ?_
      refine z_get hC 0 wD_0 rfl in_X0 1 (by decide) q33 rfl dX0_multiply_12 ?_
      refine z_iload hC dX0_multiply_15 rfl ?_
      refine z_aload_n hC dX0_multiply_17 rfl rfl ?_
      refine z_get hC 0 wD_0 rfl in_X0 0 (by decide) q32 rfl dX0_multiply_18 ?_
      refine z_iload_n hC dX0_multiply_21 rfl rfl ?_
      refine z_callS0 (n := 1) hC (k_from hp) (lw_S q49 q50 q4 q51) dX0_multiply_22 rfl (by decide +kernel) rfl (Nat.le_of_ble_eq_true rfl) (by rw [hR]; exact ⟨Nat.le_of_ble_eq_true rfl, Nat.le_of_ble_eq_true rfl⟩) (Nat.zero_le _) (Nat.zero_le _) (fun r9 e9 => ?_)
      subst e9
      refine z_iload hC dX0_multiply_25 rfl ?_
      refine z_iadd hC dX0_multiply_27 ?_
      refine z_iald hC 1 wD_1 dX0_multiply_28 (by omega) (by decide) ?_
      refine z_iast hC 2 wD_2 wD_s2 dX0_multiply_29 (by omega) (by decide) ?_
      refine z_aload_n hC dX0_multiply_30 rfl rfl ?_
      refine z_get hC 0 wD_0 rfl in_X0 2 (by decide) q34 rfl dX0_multiply_31 ?_
      refine z_iload hC dX0_multiply_34 rfl ?_
      refine z_aload_n hC dX0_multiply_36 rfl rfl ?_
      refine z_get hC 0 wD_0 rfl in_X0 0 (by decide) q32 rfl dX0_multiply_37 ?_
      refine z_iload_n hC dX0_multiply_40 rfl rfl ?_
      refine z_callS0 (n := 1) hC (k_from hw) (lw_S q49 q50 q4 q51) dX0_multiply_41 rfl (by decide +kernel) rfl (Nat.le_of_ble_eq_true rfl) (by rw [hR]; exact ⟨Nat.le_of_ble_eq_true rfl, Nat.le_of_ble_eq_true rfl⟩) (Nat.zero_le _) (Nat.zero_le _) (fun r9 e9 => ?_)
      subst e9
      refine z_iload hC dX0_multiply_44 rfl ?_
      refine z_iadd hC dX0_multiply_46 ?_
      refine z_iald hC 1 wD_1 dX0_multiply_47 (by omega) (by decide) ?_
      refine z_iast hC 3 wD_3 wD_s3 dX0_multiply_48 (by omega) (by decide) ?_
      refine z_iinc hC _ dX0_multiply_49 hL (by decide) rfl (nI_1 _) ?_
      refine z_goto (tgt := 3) hC dX0_multiply_52 (by decide) ?_
      refine z_lw (lw' := [.ref (q 0), .int (nI r), .int (nI p), .int (nI w), .int (nI (i + 1))]) rfl ?_
      refine ih (i + 1) _ _ (by omega) (by omega) (fun j hj => ?_) (fun j hj => ?_)
      · by_cases e : j = i
        · subst e
          rw [updN_s]
        · rw [updN_n e, ho j (by omega)]
      · by_cases e : j = i
        · subst e
          rw [updN_s]
        · rw [updN_n e, ht j (by omega)]
theorem l_mul2 {o t : Nat → Nat} (hC : Fx C cX0_multiply RX0) (hR : zR C = zRm 2 0 0 52) (hL : zL C = 5) (hr : r < 2 ^ 32) (ho : ∀ j, j < 256 → o j = fMul R p w j)
    (hret : ∀ u : (Nat → Nat) × (Nat → Nat) × (Nat → Nat) × (Nat → Nat) × (Nat → Nat), (∀ j, j < 1024 → u.1 j = blkI r 256 (fMul R p w) R j) → ∀ (pc : Nat) (lw : List Value), decode cX0_multiply pc = .ok (.return_, 1) → Z C 0 0 (wD (zcA C) q u.1 u.2.1 u.2.2.1 pw u.2.2.2.1 u.2.2.2.2) pc lw []) :
    ∀ (n i : Nat) (u : Nat → Nat), i ≤ 256 → 257 ≤ i + n → (∀ j, j < 1024 → u j = blkI r i (fMul R p w) R j) → Z C 0 0 (wD (zcA C) q u o t pw f s) 77 [.ref (q 0), .int (nI r), .int (nI p), .int (nI w), .int (nI i)] [] := by
  intro n
  induction n with
  | zero => intro i u h1 h2; omega
  | succ n ih =>
    intro i u h1 h2 hu
    refine z_iload hC dX0_multiply_77 rfl ?_
    refine z_sipush hC 256 dX0_multiply_79 (by decide) ?_
    refine z_icmp_ge (tgt := 110) hC (by omega) (by omega) dX0_multiply_82 (by decide) (fun hc82 => ?_) (fun hc82 => ?_)
    · obtain rfl : i = 256 := by omega
      exact hret (u, o, t, f, s) hu _ _ dX0_multiply_110
    · refine z_aload_n hC dX0_multiply_85 rfl rfl ?_
      refine z_get hC 0 wD_0 rfl in_X0 0 (by decide) q32 rfl dX0_multiply_86 ?_
      refine z_iload_n hC dX0_multiply_89 rfl rfl ?_
      refine z_callS0 (n := 1) hC (k_from hr) (lw_S q49 q50 q4 q51) dX0_multiply_90 rfl (by decide +kernel) rfl (Nat.le_of_ble_eq_true rfl) (by rw [hR]; exact ⟨Nat.le_of_ble_eq_true rfl, Nat.le_of_ble_eq_true rfl⟩) (Nat.zero_le _) (Nat.zero_le _) (fun r9 e9 => ?_)
      subst e9
      refine z_iload hC dX0_multiply_93 rfl ?_
      refine z_iadd hC dX0_multiply_95 ?_
      refine z_aload_n hC dX0_multiply_96 rfl rfl ?_
      refine z_get hC 0 wD_0 rfl in_X0 1 (by decide) q33 rfl dX0_multiply_97 ?_
      refine z_iload hC dX0_multiply_100 rfl ?_
      refine z_iald hC 2 wD_2 dX0_multiply_102 (by omega) (by decide) ?_
      refine z_iast hC 1 wD_1 wD_s1 dX0_multiply_103 (by omega) (by decide) ?_
      refine z_iinc hC _ dX0_multiply_104 hL (by decide) rfl (nI_1 _) ?_
      refine z_goto (tgt := 77) hC dX0_multiply_107 (by decide) ?_
      refine z_lw (lw' := [.ref (q 0), .int (nI r), .int (nI p), .int (nI w), .int (nI (i + 1))]) rfl ?_
      exact ih (i + 1) _ (by omega) (by omega) (blk_step hu (ho i hc82))
theorem k_mul {o t : Nat → Nat} (hr : r < 2 ^ 32) (hp : p < 2 ^ 32) (hw : w < 2 ^ 32) (hpw : ∀ i, i < 128 → pw i = zt i) (hb : ∀ j, j < 1024 → R j < 3329) : Kv yX0_multiply cX0_multiply 5 2 52 0 0 [.ref (q 0), .int (nI r), .int (nI p), .int (nI w)] (fun cA => wD cA q R o t pw f s) (fun u : (Nat → Nat) × (Nat → Nat) × (Nat → Nat) × (Nat → Nat) × (Nat → Nat) => ∀ j, j < 1024 → u.1 j = blkI r 256 (fMul R p w) R j) (fun cA u => wD cA q u.1 u.2.1 u.2.2.1 pw u.2.2.2.1 u.2.2.2.2) := by
  refine Kv.of (by decide) (Nat.le_of_ble_eq_true rfl) (by simp [Value.category]) ?_
  intro C hC hR hN hL hret
  refine z_iconst hC 0 dX0_multiply_0 (by decide) ?_
  refine z_istore hC dX0_multiply_1 hL (by decide) (Nat.le_of_ble_eq_true rfl) ?_
  refine l_mul1 hC hR hL hp hw ?_ 257 0 o t (by decide) (by decide) (fun j hj => absurd hj (by omega)) (fun j hj => absurd hj (by omega))
  intro o t ho ht
  have hol : ∀ j, j < 256 → o j < 3329 := fun j hj => by rw [ho j hj]; exact hb _ (by omega)
  have htl : ∀ j, j < 256 → t j < 3329 := fun j hj => by rw [ht j hj]; exact hb _ (by omega)
  refine z_aload_n hC dX0_multiply_55 rfl rfl ?_
  refine z_get hC 0 wD_0 rfl in_X0 3 (by decide) q35 rfl dX0_multiply_56 ?_
  refine z_aload_n hC dX0_multiply_59 rfl rfl ?_
  refine z_get hC 0 wD_0 rfl in_X0 1 (by decide) q33 rfl dX0_multiply_60 ?_
  refine z_aload_n hC dX0_multiply_63 rfl rfl ?_
  refine z_get hC 0 wD_0 rfl in_X0 2 (by decide) q34 rfl dX0_multiply_64 ?_
  refine z_aload_n hC dX0_multiply_67 rfl rfl ?_
  refine z_get hC 0 wD_0 rfl in_X0 1 (by decide) q33 rfl dX0_multiply_68 ?_
  refine z_callVv (n := 3) (q := (RX1, TX1, 3)) (ci := 1) (ws2 := (fun u => wD (zcA C) q R u.2.2 t pw u.1 u.2.1)) (wr := [(q 0, .inr (0, [.ref (q 1), .ref (q 2), .ref (q 3), .ref (q 4)])), arI (zcA C) (q 1) 1024 R]) hC [4, 5, 6, 7, 2, 3] [0, 1] [0, 1, 6, 7, 2, 3, 4, 5] (k_xmul (q := q) (f := f) (s := s) hpw hol htl) (lw_V q67 q68 q69 q5 q70) rfl rfl dX0_multiply_71 rfl (by decide +kernel) rfl (Nat.le_of_ble_eq_true rfl) (by rw [hR]; exact ⟨Nat.le_of_ble_eq_true rfl, Nat.le_of_ble_eq_true rfl⟩) (by rw [hR]; exact Nat.le_of_ble_eq_true rfl) (by rw [hR]; exact Nat.le_of_ble_eq_true rfl) rfl rfl rfl rfl (by decide) rfl (fun _ => rfl) (fun u hu => ?_)
  refine z_iconst hC 0 dX0_multiply_74 (by decide) ?_
  refine z_istore hC dX0_multiply_75 hL (by decide) (Nat.le_of_ble_eq_true rfl) ?_
  refine l_mul2 hC hR hL hr ?_ hret 257 0 R (by decide) (by decide) (blk_0 _ _ _)
  intro j hj
  rw [hu j hj]
  exact mulN_congr hj ho ht
/-- what the model's z holds: products of the first i rows, of row i the first j -/
def zS (P Q : Nat → F9) (k : Nat) : Nat → F9 := fun i => if i ≤ k ∧ k - i < 256 then P i * Q (k - i) else 0
theorem zS_end {P Q : Nat → F9} {k : Nat} (hk : k < 256) : sm (zS P Q k) 256 - sm (zS P Q (k + 256)) 256 = pm 256 (-1 : F9) P Q k := by
  have h1 : sm (zS P Q k) 256 - sm (zS P Q (k + 256)) 256 = sm (zS P Q k) 256 + (-1 : F9) * sm (zS P Q (k + 256)) 256 := by
    generalize sm (zS P Q k) 256 = x
    generalize sm (zS P Q (k + 256)) 256 = y
    grind
  rw [h1, sm_mul, sm_add2]
  unfold pm
  refine sm_congr 256 (fun i hi => ?_)
  unfold zS
  by_cases e : i ≤ k
  · rw [if_pos ⟨e, by omega⟩, if_neg (by omega), if_pos e]
    generalize P i = x
    generalize Q (k - i) = y
    grind
  · rw [if_neg (by omega), if_pos (by omega), if_neg e, show k + 256 - i = 256 + k - i by omega]
    generalize P i = x
    generalize Q (256 + k - i) = y
    grind
abbrev eR (R : Nat → Nat) (p : Nat) : Nat → F9 := fun i => eF (R (256 * (p % 4) + i))
theorem ml_mul0 (hC : Fx C cX2_multiply RX2) (hL : zL C = 6)
    (hnext : ∀ g : Nat → Nat, (∀ k, k < 512 → g k = 0) → Z C 0 0 (wM (zcA C) q R g) 25 [.ref (q 0), .int (nI r), .int (nI p), .int (nI w), .int (nI 512)] []) :
    ∀ (n i : Nat) (g : Nat → Nat), i ≤ 512 → 513 ≤ i + n → (∀ k, k < i → g k = 0) → Z C 0 0 (wM (zcA C) q R g) 3 [.ref (q 0), .int (nI r), .int (nI p), .int (nI w), .int (nI i)] [] := by
  intro n
  induction n with
  | zero => intro i g h1 h2; omega
  | succ n ih =>
    intro i g h1 h2 hg
    refine z_iload hC dX2_multiply_3 rfl ?_
    refine z_sipush hC 512 dX2_multiply_5 (by decide) ?_
    refine z_icmp_ge (tgt := 25) hC (by omega) (by omega) dX2_multiply_8 (by decide) (fun hc8 => ?_) (fun hc8 => ?_)
    · obtain rfl : i = 512 := by omega
      exact hnext g hg
    · refine z_aload_n hC dX2_multiply_11 rfl rfl ?_
      refine z_get hC 0 wM_0 rfl in_X2 1 (by decide) q110 rfl dX2_multiply_12 ?_
      refine z_iload hC dX2_multiply_15 rfl ?_
      refine z_iconst hC 0 dX2_multiply_17 (by decide) ?_
      refine z_iast hC 2 wM_2 wM_s2 dX2_multiply_18 (by omega) (by decide) ?_
      refine z_iinc hC _ dX2_multiply_19 hL (by decide) rfl (nI_1 _) ?_
      refine z_goto (tgt := 3) hC dX2_multiply_22 (by decide) ?_
      refine z_lw (lw' := [.ref (q 0), .int (nI r), .int (nI p), .int (nI w), .int (nI (i + 1))]) rfl ?_
      refine ih (i + 1) _ (by omega) (by omega) (fun j hj => ?_)
      by_cases e : j = i
      · subst e
        rw [updN_s]
      · rw [updN_n e, hg j (by omega)]
theorem ml_mul2 {i : Nat} (hC : Fx C cX2_multiply RX2) (hL : zL C = 6) (hb : ∀ j, j < 1024 → R j < 3329) (hi : i < 256)
    (hnext : ∀ g : Nat → Nat, (∀ k, k < 512 → g k < 3329 ∧ eF (g k) = sm (zS (eR R p) (eR R w) k) (i + 1)) → Z C 0 0 (wM (zcA C) q R g) 109 [.ref (q 0), .int (nI r), .int (nI p), .int (nI w), .int (nI i), .int (nI 256)] []) :
    ∀ (n j : Nat) (g : Nat → Nat), j ≤ 256 → 257 ≤ j + n → (∀ k, k < 512 → g k < 3329 ∧ eF (g k) = sm (zS (eR R p) (eR R w) k) i + (if i ≤ k ∧ k - i < j then eR R p i * eR R w (k - i) else 0)) → Z C 0 0 (wM (zcA C) q R g) 39 [.ref (q 0), .int (nI r), .int (nI p), .int (nI w), .int (nI i), .int (nI j)] [] := by
  intro n
  induction n with
  | zero => intro j g h1 h2; omega
  | succ n ih =>
    intro j g h1 h2 hg
    refine z_iload hC dX2_multiply_39 rfl ?_
    refine z_sipush hC 256 dX2_multiply_41 (by decide) ?_
    refine z_icmp_ge (tgt := 109) hC (by omega) (by omega) dX2_multiply_44 (by decide) (fun hc44 => ?_) (fun hc44 => ?_)
    · obtain rfl : j = 256 := by omega
      refine hnext g (fun k hk => ?_)
      obtain ⟨g1, g2⟩ := hg k hk
      exact ⟨g1, g2⟩
    · have b1 := (hg (i + j) (by omega)).1
      have b2 := hb (256 * (p % 4) + i) (by omega)
      have b3 := hb (256 * (w % 4) + j) (by omega)
      have m1 : R (256 * (p % 4) + i) * R (256 * (w % 4) + j) ≤ 3328 * 3328 := Nat.mul_le_mul (by omega) (by omega)
      refine z_aload_n hC dX2_multiply_47 rfl rfl ?_
      refine z_get hC 0 wM_0 rfl in_X2 1 (by decide) q110 rfl dX2_multiply_48 ?_
      refine z_iload hC dX2_multiply_51 rfl ?_
      refine z_iload hC dX2_multiply_53 rfl ?_
      refine z_iadd hC dX2_multiply_55 ?_
      refine z_aload_n hC dX2_multiply_56 rfl rfl ?_
      refine z_get hC 0 wM_0 rfl in_X2 1 (by decide) q110 rfl dX2_multiply_57 ?_
      refine z_iload hC dX2_multiply_60 rfl ?_
      refine z_iload hC dX2_multiply_62 rfl ?_
      refine z_iadd hC dX2_multiply_64 ?_
      refine z_iald hC 2 wM_2 dX2_multiply_65 (by omega) (by decide) ?_
      refine z_aload_n hC dX2_multiply_66 rfl rfl ?_
      refine z_get hC 0 wM_0 rfl in_X2 0 (by decide) q109 rfl dX2_multiply_67 ?_
      refine z_sipush hC 256 dX2_multiply_70 (by decide) ?_
      refine z_iload_n hC dX2_multiply_73 rfl rfl ?_
      refine z_iconst hC 3 dX2_multiply_74 (by decide) ?_
      refine z_iand hC 4 2 dX2_multiply_75 (by decide) (by decide) (by decide) rfl ?_
      refine z_imul hC dX2_multiply_76 ?_
      refine z_iload hC dX2_multiply_77 rfl ?_
      refine z_iadd hC dX2_multiply_79 ?_
      refine z_iald hC 1 wM_1 dX2_multiply_80 (by omega) (by decide) ?_
      refine z_aload_n hC dX2_multiply_81 rfl rfl ?_
      refine z_get hC 0 wM_0 rfl in_X2 0 (by decide) q109 rfl dX2_multiply_82 ?_
      refine z_sipush hC 256 dX2_multiply_85 (by decide) ?_
      refine z_iload_n hC dX2_multiply_88 rfl rfl ?_
      refine z_iconst hC 3 dX2_multiply_89 (by decide) ?_
      refine z_iand hC 4 2 dX2_multiply_90 (by decide) (by decide) (by decide) rfl ?_
      refine z_imul hC dX2_multiply_91 ?_
      refine z_iload hC dX2_multiply_92 rfl ?_
      refine z_iadd hC dX2_multiply_94 ?_
      refine z_iald hC 1 wM_1 dX2_multiply_95 (by omega) (by decide) ?_
      refine z_imul hC dX2_multiply_96 ?_
      refine z_iadd hC dX2_multiply_97 ?_
      refine z_sipush hC 3329 dX2_multiply_98 (by decide) ?_
      refine z_irem hC dX2_multiply_101 (by omega) (by decide) (by decide) ?_
      refine z_iast hC 2 wM_2 wM_s2 dX2_multiply_102 (by omega) (by decide) ?_
      refine z_iinc hC _ dX2_multiply_103 hL (by decide) rfl (nI_1 _) ?_
      refine z_goto (tgt := 39) hC dX2_multiply_106 (by decide) ?_
      refine z_lw (lw' := [.ref (q 0), .int (nI r), .int (nI p), .int (nI w), .int (nI i), .int (nI (j + 1))]) rfl ?_
      refine ih (j + 1) _ (by omega) (by omega) (fun k hk => ?_)
      by_cases e : k = i + j
      · subst e
        rw [updN_s]
        refine ⟨Nat.mod_lt _ (by decide), ?_⟩
        rw [eF_mod, eF_add, eF_mul, (hg (i + j) hk).2, if_neg (by omega), if_pos (by omega), show i + j - i = j by omega]
        generalize sm (zS (eR R p) (eR R w) (i + j)) i = x
        show x + 0 + eF (R (256 * (p % 4) + i)) * eF (R (256 * (w % 4) + j)) = x + eF (R (256 * (p % 4) + i)) * eF (R (256 * (w % 4) + j))
        grind
      · rw [updN_n e]
        refine ⟨(hg k hk).1, ?_⟩
        rw [(hg k hk).2]
        by_cases c : i ≤ k ∧ k - i < j
        · rw [if_pos c, if_pos (by omega)]
        · rw [if_neg c, if_neg (by omega)]
theorem ml_mul1 (hC : Fx C cX2_multiply RX2) (hL : zL C = 6) (hb : ∀ j, j < 1024 → R j < 3329)
    (hnext : ∀ g : Nat → Nat, (∀ k, k < 512 → g k < 3329 ∧ eF (g k) = sm (zS (eR R p) (eR R w) k) 256) → Z C 0 0 (wM (zcA C) q R g) 115 [.ref (q 0), .int (nI r), .int (nI p), .int (nI w), .int (nI 256)] []) :
    ∀ (n i : Nat) (g : Nat → Nat), i ≤ 256 → 257 ≤ i + n → (∀ k, k < 512 → g k < 3329 ∧ eF (g k) = sm (zS (eR R p) (eR R w) k) i) → Z C 0 0 (wM (zcA C) q R g) 28 [.ref (q 0), .int (nI r), .int (nI p), .int (nI w), .int (nI i)] [] := by
  intro n
  induction n with
  | zero => intro i g h1 h2; omega
  | succ n ih =>
    intro i g h1 h2 hg
    refine z_iload hC dX2_multiply_28 rfl ?_
    refine z_sipush hC 256 dX2_multiply_30 (by decide) ?_
    refine z_icmp_ge (tgt := 115) hC (by omega) (by omega) dX2_multiply_33 (by decide) (fun hc33 => ?_) (fun hc33 => ?_)
    · obtain rfl : i = 256 := by omega
      exact hnext g hg
    · refine z_iconst hC 0 dX2_multiply_36 (by decide) ?_
      refine z_istore hC dX2_multiply_37 hL (by decide) (Nat.le_of_ble_eq_true rfl) ?_
      refine ml_mul2 hC hL hb hc33 ?_ 257 0 g (by decide) (by decide) (fun k hk => ⟨(hg k hk).1, ?_⟩)
      · intro g2 hg2
        refine z_iinc hC _ dX2_multiply_109 hL (by decide) rfl (nI_1 _) ?_
        refine z_goto (tgt := 28) hC dX2_multiply_112 (by decide) ?_
        refine z_lw (lw' := [.ref (q 0), .int (nI r), .int (nI p), .int (nI w), .int (nI (i + 1))]) rfl ?_
        exact ih (i + 1) g2 (by omega) (by omega) hg2
      · rw [(hg k hk).2, if_neg (by omega)]
        generalize sm (zS (eR R p) (eR R w) k) i = x
        grind
theorem ml_mul3 {g : Nat → Nat} (hC : Fx C cX2_multiply RX2) (hL : zL C = 6) (hg : ∀ k, k < 512 → g k < 3329 ∧ eF (g k) = sm (zS (eR R p) (eR R w) k) 256)
    (hret : ∀ u : (Nat → Nat) × (Nat → Nat), (∀ j, j < 1024 → u.1 j = blkI r 256 (fMul R p w) R j) → ∀ (pc : Nat) (lw : List Value), decode cX2_multiply pc = .ok (.return_, 1) → Z C 0 0 (wM (zcA C) q u.1 u.2) pc lw []) :
    ∀ (n i : Nat) (u : Nat → Nat), i ≤ 256 → 257 ≤ i + n → (∀ j, j < 1024 → u j = blkI r i (fMul R p w) R j) → Z C 0 0 (wM (zcA C) q u g) 118 [.ref (q 0), .int (nI r), .int (nI p), .int (nI w), .int (nI i)] [] := by
  intro n
  induction n with
  | zero => intro i u h1 h2; omega
  | succ n ih =>
    intro i u h1 h2 hu
    refine z_iload hC dX2_multiply_118 rfl ?_
    refine z_sipush hC 256 dX2_multiply_120 (by decide) ?_
    refine z_icmp_ge (tgt := 174) hC (by omega) (by omega) dX2_multiply_123 (by decide) (fun hc123 => ?_) (fun hc123 => ?_)
    · obtain rfl : i = 256 := by omega
      exact hret (u, g) hu _ _ dX2_multiply_174
    · obtain ⟨b1, e1⟩ := hg i (by omega)
      obtain ⟨b2, e2⟩ := hg (i + 256) (by omega)
      refine z_aload_n hC dX2_multiply_126 rfl rfl ?_
      refine z_get hC 0 wM_0 rfl in_X2 0 (by decide) q109 rfl dX2_multiply_127 ?_
      refine z_sipush hC 256 dX2_multiply_130 (by decide) ?_
      refine z_iload_n hC dX2_multiply_133 rfl rfl ?_
      refine z_iconst hC 3 dX2_multiply_134 (by decide) ?_
      refine z_iand hC 4 2 dX2_multiply_135 (by decide) (by decide) (by decide) rfl ?_
      refine z_imul hC dX2_multiply_136 ?_
      refine z_iload hC dX2_multiply_137 rfl ?_
      refine z_iadd hC dX2_multiply_139 ?_
      refine z_aload_n hC dX2_multiply_140 rfl rfl ?_
      refine z_get hC 0 wM_0 rfl in_X2 1 (by decide) q110 rfl dX2_multiply_141 ?_
      refine z_iload hC dX2_multiply_144 rfl ?_
      refine z_iald hC 2 wM_2 dX2_multiply_146 (by omega) (by decide) ?_
      refine z_sipush hC 3329 dX2_multiply_147 (by decide) ?_
      refine z_iadd hC dX2_multiply_150 ?_
      refine z_aload_n hC dX2_multiply_151 rfl rfl ?_
      refine z_get hC 0 wM_0 rfl in_X2 1 (by decide) q110 rfl dX2_multiply_152 ?_
      refine z_iload hC dX2_multiply_155 rfl ?_
      refine z_sipush hC 256 dX2_multiply_157 (by decide) ?_
      refine z_iadd hC dX2_multiply_160 ?_
      refine z_iald hC 2 wM_2 dX2_multiply_161 (by omega) (by decide) ?_
      refine z_isub hC dX2_multiply_162 (by omega) ?_
      refine z_sipush hC 3329 dX2_multiply_163 (by decide) ?_
      refine z_irem hC dX2_multiply_166 (by omega) (by decide) (by decide) ?_
      refine z_iast hC 1 wM_1 wM_s1 dX2_multiply_167 (by omega) (by decide) ?_
      refine z_iinc hC _ dX2_multiply_168 hL (by decide) rfl (nI_1 _) ?_
      refine z_goto (tgt := 118) hC dX2_multiply_171 (by decide) ?_
      refine z_lw (lw' := [.ref (q 0), .int (nI r), .int (nI p), .int (nI w), .int (nI (i + 1))]) rfl ?_
      refine ih (i + 1) _ (by omega) (by omega) (blk_step hu ?_)
      refine eF_inj (Nat.mod_lt _ (by decide)) (mulN_lt _ _ _) ?_
      unfold fMul mulN
      rw [eF_val, ← zS_end hc123, ← e1, ← e2, eF_mod, eF_sub (by omega), eF_add, eF_p]
      generalize eF (g i) = x
      generalize eF (g (i + 256)) = y
      grind
theorem m_mul (hb : ∀ j, j < 1024 → R j < 3329) : Kv yX2_multiply cX2_multiply 6 0 0 0 0 [.ref (q 0), .int (nI r), .int (nI p), .int (nI w)] (fun cA => wM cA q R z) (fun u : (Nat → Nat) × (Nat → Nat) => ∀ j, j < 1024 → u.1 j = blkI r 256 (fMul R p w) R j) (fun cA u => wM cA q u.1 u.2) := by
  refine Kv.of (by decide) (Nat.le_of_ble_eq_true rfl) (by simp [Value.category]) ?_
  intro C hC hR hN hL hret
  refine z_iconst hC 0 dX2_multiply_0 (by decide) ?_
  refine z_istore hC dX2_multiply_1 hL (by decide) (Nat.le_of_ble_eq_true rfl) ?_
  refine ml_mul0 hC hL ?_ 513 0 z (by decide) (by decide) (fun k hk => absurd hk (by omega))
  intro g hg
  refine z_iconst hC 0 dX2_multiply_25 (by decide) ?_
  refine z_istore hC dX2_multiply_26 hL (by decide) (Nat.le_of_ble_eq_true rfl) ?_
  refine z_lw (lw' := [.ref (q 0), .int (nI r), .int (nI p), .int (nI w), .int (nI 0)]) rfl ?_
  refine ml_mul1 hC hL hb ?_ 257 0 g (by decide) (by decide) (fun k hk => ?_)
  · intro g2 hg2
    refine z_iconst hC 0 dX2_multiply_115 (by decide) ?_
    refine z_istore hC dX2_multiply_116 hL (by decide) (Nat.le_of_ble_eq_true rfl) ?_
    exact ml_mul3 hC hL hg2 hret 257 0 R (by decide) (by decide) (blk_0 _ _ _)
  · rw [hg k hk]
    exact ⟨by decide, rfl⟩
end X0MUL
end
section
/-! the law: its cases and its loop -/
set_option maxRecDepth 100000
/-- the law's world: the RingDesk and the model -/
def wL (cA : ClassId) (q v : Nat → Nat) (R o t pw f s R' z : Nat → Nat) : va_W := wD cA q R o t pw f s ++ wM cA v R' z
/-- what holds between two calls: the same registers on both sides, all below 3329 -/
def Inv (R R' : Nat → Nat) : Prop := ∀ j, j < 1024 → R' j = R j ∧ R j < 3329
theorem Inv.lt {R R' : Nat → Nat} (h : Inv R R') : ∀ j, j < 1024 → R j < 3329 := fun j hj => (h j hj).2
theorem Inv.lt' {R R' : Nat → Nat} (h : Inv R R') : ∀ j, j < 1024 → R' j < 3329 := fun j hj => by rw [(h j hj).1]; exact (h j hj).2
theorem Inv.blk {R R' u u' F F' : Nat → Nat} {r : Nat} (h : Inv R R') (hu : ∀ j, j < 1024 → u j = blkI r 256 F R j) (hu' : ∀ j, j < 1024 → u' j = blkI r 256 F' R' j) (hF : ∀ k, k < 256 → F' k = F k ∧ F k < 3329) : Inv u u' := by
  intro j hj
  rw [hu j hj, hu' j hj]
  unfold blkI
  by_cases e : 256 * (r % 4) ≤ j ∧ j < 256 * (r % 4) + 256
  · rw [if_pos e, if_pos e]
    exact hF _ (by omega)
  · rw [if_neg e, if_neg e]
    exact h j hj
theorem Inv.put {R R' : Nat → Nat} (h : Inv R R') (r k x y : Nat) : Inv (putS R r k x y) (putS R' r k x y) := by
  intro j hj
  unfold putS
  by_cases e1 : j = 256 * (r % 4) + (k + 1) % 256
  · subst e1
    rw [updN_s, updN_s]
    exact ⟨rfl, smN_lt y⟩
  · rw [updN_n e1, updN_n e1]
    by_cases e2 : j = 256 * (r % 4) + k % 256
    · subst e2
      rw [updN_s, updN_s]
      exact ⟨rfl, smN_lt x⟩
    · rw [updN_n e2, updN_n e2]
      exact h j hj
section LAW
variable {C : zC} {q v : Nat → Nat} {R o t pw f s R' z : Nat → Nat} {b L i : Nat} {xs : Nat → Int32} {ys : Nat → Nat}
theorem law_put (hC : Fx C cL_law "RingDeskLaw") (hR : zR C = room_1) (hX : zX C b L xs) (hxs : ∀ j, xs j = nI (ys j)) (hys : ∀ j, ys j < 2 ^ 32) (hL : L ≤ 320) (hi : i + 5 ≤ L) (hpw : ∀ i, i < 128 → pw i = zt i) (hI : Inv R R')
    (hnext : ∀ R o t f s R' z : Nat → Nat, Inv R R' → Z C 11 3721 (wL (zcA C) q v R o t pw f s R' z) 380 [.ref b, .ref (q 0), .ref (v 0), .int (nI i)] []) : Z C 11 3721 (wL (zcA C) q v R o t pw f s R' z) 80 [.ref b, .ref (q 0), .ref (v 0), .int (nI i)] [] := by
  refine z_aload_n hC dL_law_80 rfl rfl ?_
  refine z_aload_n hC dL_law_81 rfl rfl ?_
  refine z_iload_n hC dL_law_82 rfl rfl ?_
  refine z_iconst hC 1 dL_law_83 (by decide) ?_
  refine z_iadd hC dL_law_84 ?_
  refine z_sld hC hX dL_law_85 (by omega) (by omega) ?_
  refine z_top _ (hxs _) ?_
  refine z_aload_n hC dL_law_86 rfl rfl ?_
  refine z_iload_n hC dL_law_87 rfl rfl ?_
  refine z_iconst hC 2 dL_law_88 (by decide) ?_
  refine z_iadd hC dL_law_89 ?_
  refine z_sld hC hX dL_law_90 (by omega) (by omega) ?_
  refine z_top _ (hxs _) ?_
  refine z_aload_n hC dL_law_91 rfl rfl ?_
  refine z_iload_n hC dL_law_92 rfl rfl ?_
  refine z_iconst hC 3 dL_law_93 (by decide) ?_
  refine z_iadd hC dL_law_94 ?_
  refine z_sld hC hX dL_law_95 (by omega) (by omega) ?_
  refine z_top _ (hxs _) ?_
  refine z_aload_n hC dL_law_96 rfl rfl ?_
  refine z_iload_n hC dL_law_97 rfl rfl ?_
  refine z_iconst hC 4 dL_law_98 (by decide) ?_
  refine z_iadd hC dL_law_99 ?_
  refine z_sld hC hX dL_law_100 (by omega) (by omega) ?_
  refine z_top _ (hxs _) ?_
  refine z_callVv (n := 4) (q := (RX0, TX0, 4)) (ci := 0) (ws2 := (fun u => wL (zcA C) q v u o t pw f s R' z)) (wr := (wM (zcA C) v R' z)) hC [0, 1, 2, 3, 4, 5, 6, 7] [8, 9, 10] [3, 4, 5, 6, 7, 8, 9, 10, 0, 1, 2] (k_put (q := q) (R := R) (o := o) (t := t) (pw := pw) (f := f) (s := s) (r := ys (i + 1)) (k := ys (i + 2)) (x := ys (i + 3)) (y := ys (i + 4)) (hys _) (hys _) (hys _)) (lw_V q45 q46 q47 q4 q48) rfl rfl dL_law_101 rfl (by decide +kernel) rfl (Nat.le_of_ble_eq_true rfl) (by rw [hR]; exact ⟨Nat.le_of_ble_eq_true rfl, Nat.le_of_ble_eq_true rfl⟩) (by rw [hR]; exact Nat.le_of_ble_eq_true rfl) (by rw [hR]; exact Nat.le_of_ble_eq_true rfl) rfl rfl rfl rfl (by decide) rfl (fun _ => rfl) (fun u hu => ?_)
  refine z_aload_n hC dL_law_104 rfl rfl ?_
  refine z_aload_n hC dL_law_105 rfl rfl ?_
  refine z_iload_n hC dL_law_106 rfl rfl ?_
  refine z_iconst hC 1 dL_law_107 (by decide) ?_
  refine z_iadd hC dL_law_108 ?_
  refine z_sld hC hX dL_law_109 (by omega) (by omega) ?_
  refine z_top _ (hxs _) ?_
  refine z_aload_n hC dL_law_110 rfl rfl ?_
  refine z_iload_n hC dL_law_111 rfl rfl ?_
  refine z_iconst hC 2 dL_law_112 (by decide) ?_
  refine z_iadd hC dL_law_113 ?_
  refine z_sld hC hX dL_law_114 (by omega) (by omega) ?_
  refine z_top _ (hxs _) ?_
  refine z_aload_n hC dL_law_115 rfl rfl ?_
  refine z_iload_n hC dL_law_116 rfl rfl ?_
  refine z_iconst hC 3 dL_law_117 (by decide) ?_
  refine z_iadd hC dL_law_118 ?_
  refine z_sld hC hX dL_law_119 (by omega) (by omega) ?_
  refine z_top _ (hxs _) ?_
  refine z_aload_n hC dL_law_120 rfl rfl ?_
  refine z_iload_n hC dL_law_121 rfl rfl ?_
  refine z_iconst hC 4 dL_law_122 (by decide) ?_
  refine z_iadd hC dL_law_123 ?_
  refine z_sld hC hX dL_law_124 (by omega) (by omega) ?_
  refine z_top _ (hxs _) ?_
  refine z_callVv (n := 4) (q := (RX2, TX2, 2)) (ci := 2) (ws2 := (fun w => wL (zcA C) q v u o t pw f s w z)) (wr := (wD (zcA C) q u o t pw f s)) hC [8, 9, 10] [0, 1, 2, 3, 4, 5, 6, 7] [0, 1, 2, 3, 4, 5, 6, 7, 8, 9, 10] (m_put (q := v) (R := R') (z := z) (r := ys (i + 1)) (k := ys (i + 2)) (x := ys (i + 3)) (y := ys (i + 4)) (hys _) (hys _) (hys _)) (lw_V q116 q117 q118 q6 q119) rfl rfl dL_law_125 rfl (by decide +kernel) rfl (Nat.le_of_ble_eq_true rfl) (by rw [hR]; exact ⟨Nat.le_of_ble_eq_true rfl, Nat.le_of_ble_eq_true rfl⟩) (by rw [hR]; exact Nat.le_of_ble_eq_true rfl) (by rw [hR]; exact Nat.le_of_ble_eq_true rfl) rfl rfl rfl rfl (by decide) rfl (fun _ => rfl) (fun w hw => ?_)
  refine z_goto (tgt := 380) hC dL_law_128 (by decide) ?_
  subst hu
  subst hw
  exact hnext _ _ _ _ _ _ _ (hI.put _ _ _ _)
theorem law_add (hC : Fx C cL_law "RingDeskLaw") (hR : zR C = room_1) (hX : zX C b L xs) (hxs : ∀ j, xs j = nI (ys j)) (hys : ∀ j, ys j < 2 ^ 32) (hL : L ≤ 320) (hi : i + 5 ≤ L) (hpw : ∀ i, i < 128 → pw i = zt i) (hI : Inv R R')
    (hnext : ∀ R o t f s R' z : Nat → Nat, Inv R R' → Z C 11 3721 (wL (zcA C) q v R o t pw f s R' z) 380 [.ref b, .ref (q 0), .ref (v 0), .int (nI i)] []) : Z C 11 3721 (wL (zcA C) q v R o t pw f s R' z) 131 [.ref b, .ref (q 0), .ref (v 0), .int (nI i)] [] := by
  refine z_aload_n hC dL_law_131 rfl rfl ?_
  refine z_aload_n hC dL_law_132 rfl rfl ?_
  refine z_iload_n hC dL_law_133 rfl rfl ?_
  refine z_iconst hC 1 dL_law_134 (by decide) ?_
  refine z_iadd hC dL_law_135 ?_
  refine z_sld hC hX dL_law_136 (by omega) (by omega) ?_
  refine z_top _ (hxs _) ?_
  refine z_aload_n hC dL_law_137 rfl rfl ?_
  refine z_iload_n hC dL_law_138 rfl rfl ?_
  refine z_iconst hC 2 dL_law_139 (by decide) ?_
  refine z_iadd hC dL_law_140 ?_
  refine z_sld hC hX dL_law_141 (by omega) (by omega) ?_
  refine z_top _ (hxs _) ?_
  refine z_aload_n hC dL_law_142 rfl rfl ?_
  refine z_iload_n hC dL_law_143 rfl rfl ?_
  refine z_iconst hC 3 dL_law_144 (by decide) ?_
  refine z_iadd hC dL_law_145 ?_
  refine z_sld hC hX dL_law_146 (by omega) (by omega) ?_
  refine z_top _ (hxs _) ?_
  refine z_callVv (n := 3) (q := (RX0, TX0, 4)) (ci := 0) (ws2 := (fun u => wL (zcA C) q v u o t pw f s R' z)) (wr := (wM (zcA C) v R' z)) hC [0, 1, 2, 3, 4, 5, 6, 7] [8, 9, 10] [3, 4, 5, 6, 7, 8, 9, 10, 0, 1, 2] (k_add (q := q) (R := R) (o := o) (t := t) (pw := pw) (f := f) (s := s) (r := ys (i + 1)) (p := ys (i + 2)) (w := ys (i + 3)) (hys _) (hys _) (hys _) hI.lt) (lw_V q55 q56 q57 q4 q58) rfl rfl dL_law_147 rfl (by decide +kernel) rfl (Nat.le_of_ble_eq_true rfl) (by rw [hR]; exact ⟨Nat.le_of_ble_eq_true rfl, Nat.le_of_ble_eq_true rfl⟩) (by rw [hR]; exact Nat.le_of_ble_eq_true rfl) (by rw [hR]; exact Nat.le_of_ble_eq_true rfl) rfl rfl rfl rfl (by decide) rfl (fun _ => rfl) (fun u hu => ?_)
  refine z_aload_n hC dL_law_150 rfl rfl ?_
  refine z_aload_n hC dL_law_151 rfl rfl ?_
  refine z_iload_n hC dL_law_152 rfl rfl ?_
  refine z_iconst hC 1 dL_law_153 (by decide) ?_
  refine z_iadd hC dL_law_154 ?_
  refine z_sld hC hX dL_law_155 (by omega) (by omega) ?_
  refine z_top _ (hxs _) ?_
  refine z_aload_n hC dL_law_156 rfl rfl ?_
  refine z_iload_n hC dL_law_157 rfl rfl ?_
  refine z_iconst hC 2 dL_law_158 (by decide) ?_
  refine z_iadd hC dL_law_159 ?_
  refine z_sld hC hX dL_law_160 (by omega) (by omega) ?_
  refine z_top _ (hxs _) ?_
  refine z_aload_n hC dL_law_161 rfl rfl ?_
  refine z_iload_n hC dL_law_162 rfl rfl ?_
  refine z_iconst hC 3 dL_law_163 (by decide) ?_
  refine z_iadd hC dL_law_164 ?_
  refine z_sld hC hX dL_law_165 (by omega) (by omega) ?_
  refine z_top _ (hxs _) ?_
  refine z_callVv (n := 3) (q := (RX2, TX2, 2)) (ci := 2) (ws2 := (fun w => wL (zcA C) q v u o t pw f s w z)) (wr := (wD (zcA C) q u o t pw f s)) hC [8, 9, 10] [0, 1, 2, 3, 4, 5, 6, 7] [0, 1, 2, 3, 4, 5, 6, 7, 8, 9, 10] (m_add (q := v) (R := R') (z := z) (r := ys (i + 1)) (p := ys (i + 2)) (w := ys (i + 3)) hI.lt') (lw_V q120 q121 q122 q6 q123) rfl rfl dL_law_166 rfl (by decide +kernel) rfl (Nat.le_of_ble_eq_true rfl) (by rw [hR]; exact ⟨Nat.le_of_ble_eq_true rfl, Nat.le_of_ble_eq_true rfl⟩) (by rw [hR]; exact Nat.le_of_ble_eq_true rfl) (by rw [hR]; exact Nat.le_of_ble_eq_true rfl) rfl rfl rfl rfl (by decide) rfl (fun _ => rfl) (fun w hw => ?_)
  refine z_goto (tgt := 380) hC dL_law_169 (by decide) ?_
  refine hnext _ _ _ _ _ _ _ (hI.blk hu hw (fun k hk => ?_))
  · unfold fAdd
    rw [(hI (256 * (ys (i + 2) % 4) + k) (by omega)).1, (hI (256 * (ys (i + 3) % 4) + k) (by omega)).1]
    exact ⟨rfl, Nat.mod_lt _ (by decide)⟩
theorem law_sub (hC : Fx C cL_law "RingDeskLaw") (hR : zR C = room_1) (hX : zX C b L xs) (hxs : ∀ j, xs j = nI (ys j)) (hys : ∀ j, ys j < 2 ^ 32) (hL : L ≤ 320) (hi : i + 5 ≤ L) (hpw : ∀ i, i < 128 → pw i = zt i) (hI : Inv R R')
    (hnext : ∀ R o t f s R' z : Nat → Nat, Inv R R' → Z C 11 3721 (wL (zcA C) q v R o t pw f s R' z) 380 [.ref b, .ref (q 0), .ref (v 0), .int (nI i)] []) : Z C 11 3721 (wL (zcA C) q v R o t pw f s R' z) 172 [.ref b, .ref (q 0), .ref (v 0), .int (nI i)] [] := by
  refine z_aload_n hC dL_law_172 rfl rfl ?_
  refine z_aload_n hC dL_law_173 rfl rfl ?_
  refine z_iload_n hC dL_law_174 rfl rfl ?_
  refine z_iconst hC 1 dL_law_175 (by decide) ?_
  refine z_iadd hC dL_law_176 ?_
  refine z_sld hC hX dL_law_177 (by omega) (by omega) ?_
  refine z_top _ (hxs _) ?_
  refine z_aload_n hC dL_law_178 rfl rfl ?_
  refine z_iload_n hC dL_law_179 rfl rfl ?_
  refine z_iconst hC 2 dL_law_180 (by decide) ?_
  refine z_iadd hC dL_law_181 ?_
  refine z_sld hC hX dL_law_182 (by omega) (by omega) ?_
  refine z_top _ (hxs _) ?_
  refine z_aload_n hC dL_law_183 rfl rfl ?_
  refine z_iload_n hC dL_law_184 rfl rfl ?_
  refine z_iconst hC 3 dL_law_185 (by decide) ?_
  refine z_iadd hC dL_law_186 ?_
  refine z_sld hC hX dL_law_187 (by omega) (by omega) ?_
  refine z_top _ (hxs _) ?_
  refine z_callVv (n := 3) (q := (RX0, TX0, 4)) (ci := 0) (ws2 := (fun u => wL (zcA C) q v u o t pw f s R' z)) (wr := (wM (zcA C) v R' z)) hC [0, 1, 2, 3, 4, 5, 6, 7] [8, 9, 10] [3, 4, 5, 6, 7, 8, 9, 10, 0, 1, 2] (k_sub (q := q) (R := R) (o := o) (t := t) (pw := pw) (f := f) (s := s) (r := ys (i + 1)) (p := ys (i + 2)) (w := ys (i + 3)) (hys _) (hys _) (hys _) hI.lt) (lw_V q59 q60 q61 q4 q62) rfl rfl dL_law_188 rfl (by decide +kernel) rfl (Nat.le_of_ble_eq_true rfl) (by rw [hR]; exact ⟨Nat.le_of_ble_eq_true rfl, Nat.le_of_ble_eq_true rfl⟩) (by rw [hR]; exact Nat.le_of_ble_eq_true rfl) (by rw [hR]; exact Nat.le_of_ble_eq_true rfl) rfl rfl rfl rfl (by decide) rfl (fun _ => rfl) (fun u hu => ?_)
  refine z_aload_n hC dL_law_191 rfl rfl ?_
  refine z_aload_n hC dL_law_192 rfl rfl ?_
  refine z_iload_n hC dL_law_193 rfl rfl ?_
  refine z_iconst hC 1 dL_law_194 (by decide) ?_
  refine z_iadd hC dL_law_195 ?_
  refine z_sld hC hX dL_law_196 (by omega) (by omega) ?_
  refine z_top _ (hxs _) ?_
  refine z_aload_n hC dL_law_197 rfl rfl ?_
  refine z_iload_n hC dL_law_198 rfl rfl ?_
  refine z_iconst hC 2 dL_law_199 (by decide) ?_
  refine z_iadd hC dL_law_200 ?_
  refine z_sld hC hX dL_law_201 (by omega) (by omega) ?_
  refine z_top _ (hxs _) ?_
  refine z_aload_n hC dL_law_202 rfl rfl ?_
  refine z_iload_n hC dL_law_203 rfl rfl ?_
  refine z_iconst hC 3 dL_law_204 (by decide) ?_
  refine z_iadd hC dL_law_205 ?_
  refine z_sld hC hX dL_law_206 (by omega) (by omega) ?_
  refine z_top _ (hxs _) ?_
  refine z_callVv (n := 3) (q := (RX2, TX2, 2)) (ci := 2) (ws2 := (fun w => wL (zcA C) q v u o t pw f s w z)) (wr := (wD (zcA C) q u o t pw f s)) hC [8, 9, 10] [0, 1, 2, 3, 4, 5, 6, 7] [0, 1, 2, 3, 4, 5, 6, 7, 8, 9, 10] (m_sub (q := v) (R := R') (z := z) (r := ys (i + 1)) (p := ys (i + 2)) (w := ys (i + 3)) hI.lt') (lw_V q124 q125 q126 q6 q127) rfl rfl dL_law_207 rfl (by decide +kernel) rfl (Nat.le_of_ble_eq_true rfl) (by rw [hR]; exact ⟨Nat.le_of_ble_eq_true rfl, Nat.le_of_ble_eq_true rfl⟩) (by rw [hR]; exact Nat.le_of_ble_eq_true rfl) (by rw [hR]; exact Nat.le_of_ble_eq_true rfl) rfl rfl rfl rfl (by decide) rfl (fun _ => rfl) (fun w hw => ?_)
  refine z_goto (tgt := 380) hC dL_law_210 (by decide) ?_
  refine hnext _ _ _ _ _ _ _ (hI.blk hu hw (fun k hk => ?_))
  · unfold fSub
    rw [(hI (256 * (ys (i + 2) % 4) + k) (by omega)).1, (hI (256 * (ys (i + 3) % 4) + k) (by omega)).1]
    exact ⟨rfl, Nat.mod_lt _ (by decide)⟩
theorem law_mul (hC : Fx C cL_law "RingDeskLaw") (hR : zR C = room_1) (hX : zX C b L xs) (hxs : ∀ j, xs j = nI (ys j)) (hys : ∀ j, ys j < 2 ^ 32) (hL : L ≤ 320) (hi : i + 5 ≤ L) (hpw : ∀ i, i < 128 → pw i = zt i) (hI : Inv R R')
    (hnext : ∀ R o t f s R' z : Nat → Nat, Inv R R' → Z C 11 3721 (wL (zcA C) q v R o t pw f s R' z) 380 [.ref b, .ref (q 0), .ref (v 0), .int (nI i)] []) : Z C 11 3721 (wL (zcA C) q v R o t pw f s R' z) 213 [.ref b, .ref (q 0), .ref (v 0), .int (nI i)] [] := by
  refine z_aload_n hC dL_law_213 rfl rfl ?_
  refine z_aload_n hC dL_law_214 rfl rfl ?_
  refine z_iload_n hC dL_law_215 rfl rfl ?_
  refine z_iconst hC 1 dL_law_216 (by decide) ?_
  refine z_iadd hC dL_law_217 ?_
  refine z_sld hC hX dL_law_218 (by omega) (by omega) ?_
  refine z_top _ (hxs _) ?_
  refine z_aload_n hC dL_law_219 rfl rfl ?_
  refine z_iload_n hC dL_law_220 rfl rfl ?_
  refine z_iconst hC 2 dL_law_221 (by decide) ?_
  refine z_iadd hC dL_law_222 ?_
  refine z_sld hC hX dL_law_223 (by omega) (by omega) ?_
  refine z_top _ (hxs _) ?_
  refine z_aload_n hC dL_law_224 rfl rfl ?_
  refine z_iload_n hC dL_law_225 rfl rfl ?_
  refine z_iconst hC 3 dL_law_226 (by decide) ?_
  refine z_iadd hC dL_law_227 ?_
  refine z_sld hC hX dL_law_228 (by omega) (by omega) ?_
  refine z_top _ (hxs _) ?_
  refine z_callVv (n := 3) (q := (RX0, TX0, 4)) (ci := 0) (ws2 := (fun u => wL (zcA C) q v u.1 u.2.1 u.2.2.1 pw u.2.2.2.1 u.2.2.2.2 R' z)) (wr := (wM (zcA C) v R' z)) hC [0, 1, 2, 3, 4, 5, 6, 7] [8, 9, 10] [3, 4, 5, 6, 7, 8, 9, 10, 0, 1, 2] (k_mul (q := q) (R := R) (o := o) (t := t) (pw := pw) (f := f) (s := s) (r := ys (i + 1)) (p := ys (i + 2)) (w := ys (i + 3)) (hys _) (hys _) (hys _) hpw hI.lt) (lw_V q63 q64 q65 q4 q66) rfl rfl dL_law_229 rfl (by decide +kernel) rfl (Nat.le_of_ble_eq_true rfl) (by rw [hR]; exact ⟨Nat.le_of_ble_eq_true rfl, Nat.le_of_ble_eq_true rfl⟩) (by rw [hR]; exact Nat.le_of_ble_eq_true rfl) (by rw [hR]; exact Nat.le_of_ble_eq_true rfl) rfl rfl rfl rfl (by decide) rfl (fun _ => rfl) (fun u hu => ?_)
  refine z_aload_n hC dL_law_232 rfl rfl ?_
  refine z_aload_n hC dL_law_233 rfl rfl ?_
  refine z_iload_n hC dL_law_234 rfl rfl ?_
  refine z_iconst hC 1 dL_law_235 (by decide) ?_
  refine z_iadd hC dL_law_236 ?_
  refine z_sld hC hX dL_law_237 (by omega) (by omega) ?_
  refine z_top _ (hxs _) ?_
  refine z_aload_n hC dL_law_238 rfl rfl ?_
  refine z_iload_n hC dL_law_239 rfl rfl ?_
  refine z_iconst hC 2 dL_law_240 (by decide) ?_
  refine z_iadd hC dL_law_241 ?_
  refine z_sld hC hX dL_law_242 (by omega) (by omega) ?_
  refine z_top _ (hxs _) ?_
  refine z_aload_n hC dL_law_243 rfl rfl ?_
  refine z_iload_n hC dL_law_244 rfl rfl ?_
  refine z_iconst hC 3 dL_law_245 (by decide) ?_
  refine z_iadd hC dL_law_246 ?_
  refine z_sld hC hX dL_law_247 (by omega) (by omega) ?_
  refine z_top _ (hxs _) ?_
  refine z_callVv (n := 3) (q := (RX2, TX2, 2)) (ci := 2) (ws2 := (fun w => wL (zcA C) q v u.1 u.2.1 u.2.2.1 pw u.2.2.2.1 u.2.2.2.2 w.1 w.2)) (wr := (wD (zcA C) q u.1 u.2.1 u.2.2.1 pw u.2.2.2.1 u.2.2.2.2)) hC [8, 9, 10] [0, 1, 2, 3, 4, 5, 6, 7] [0, 1, 2, 3, 4, 5, 6, 7, 8, 9, 10] (m_mul (q := v) (R := R') (z := z) (r := ys (i + 1)) (p := ys (i + 2)) (w := ys (i + 3)) hI.lt') (lw_V q128 q129 q130 q6 q131) rfl rfl dL_law_248 rfl (by decide +kernel) rfl (Nat.le_of_ble_eq_true rfl) (by rw [hR]; exact ⟨Nat.le_of_ble_eq_true rfl, Nat.le_of_ble_eq_true rfl⟩) (by rw [hR]; exact Nat.le_of_ble_eq_true rfl) (by rw [hR]; exact Nat.le_of_ble_eq_true rfl) rfl rfl rfl rfl (by decide) rfl (fun _ => rfl) (fun w hw => ?_)
  refine z_goto (tgt := 380) hC dL_law_251 (by decide) ?_
  refine hnext _ _ _ _ _ _ _ (hI.blk hu hw (fun k hk => ?_))
  · unfold fMul
    exact ⟨mulN_congr hk (fun j hj => (hI _ (by omega)).1) (fun j hj => (hI _ (by omega)).1), mulN_lt _ _ _⟩
theorem law_turn (hC : Fx C cL_law "RingDeskLaw") (hR : zR C = room_1) (hX : zX C b L xs) (hxs : ∀ j, xs j = nI (ys j)) (hys : ∀ j, ys j < 2 ^ 32) (hL : L ≤ 320) (hi : i + 5 ≤ L) (hpw : ∀ i, i < 128 → pw i = zt i) (hI : Inv R R')
    (hnext : ∀ R o t f s R' z : Nat → Nat, Inv R R' → Z C 11 3721 (wL (zcA C) q v R o t pw f s R' z) 380 [.ref b, .ref (q 0), .ref (v 0), .int (nI i)] []) : Z C 11 3721 (wL (zcA C) q v R o t pw f s R' z) 254 [.ref b, .ref (q 0), .ref (v 0), .int (nI i)] [] := by
  refine z_aload_n hC dL_law_254 rfl rfl ?_
  refine z_aload_n hC dL_law_255 rfl rfl ?_
  refine z_iload_n hC dL_law_256 rfl rfl ?_
  refine z_iconst hC 1 dL_law_257 (by decide) ?_
  refine z_iadd hC dL_law_258 ?_
  refine z_sld hC hX dL_law_259 (by omega) (by omega) ?_
  refine z_top _ (hxs _) ?_
  refine z_aload_n hC dL_law_260 rfl rfl ?_
  refine z_iload_n hC dL_law_261 rfl rfl ?_
  refine z_iconst hC 2 dL_law_262 (by decide) ?_
  refine z_iadd hC dL_law_263 ?_
  refine z_sld hC hX dL_law_264 (by omega) (by omega) ?_
  refine z_top _ (hxs _) ?_
  refine z_callVv (n := 2) (q := (RX0, TX0, 4)) (ci := 0) (ws2 := (fun u => wL (zcA C) q v u.1 u.2 t pw f s R' z)) (wr := (wM (zcA C) v R' z)) hC [0, 1, 2, 3, 4, 5, 6, 7] [8, 9, 10] [3, 4, 5, 6, 7, 8, 9, 10, 0, 1, 2] (k_turn (q := q) (R := R) (o := o) (t := t) (pw := pw) (f := f) (s := s) (r := ys (i + 1)) (w := ys (i + 2)) (hys _) hI.lt) (lw_V q83 q84 q85 q4 q86) rfl rfl dL_law_265 rfl (by decide +kernel) rfl (Nat.le_of_ble_eq_true rfl) (by rw [hR]; exact ⟨Nat.le_of_ble_eq_true rfl, Nat.le_of_ble_eq_true rfl⟩) (by rw [hR]; exact Nat.le_of_ble_eq_true rfl) (by rw [hR]; exact Nat.le_of_ble_eq_true rfl) rfl rfl rfl rfl (by decide) rfl (fun _ => rfl) (fun u hu => ?_)
  refine z_aload_n hC dL_law_268 rfl rfl ?_
  refine z_aload_n hC dL_law_269 rfl rfl ?_
  refine z_iload_n hC dL_law_270 rfl rfl ?_
  refine z_iconst hC 1 dL_law_271 (by decide) ?_
  refine z_iadd hC dL_law_272 ?_
  refine z_sld hC hX dL_law_273 (by omega) (by omega) ?_
  refine z_top _ (hxs _) ?_
  refine z_aload_n hC dL_law_274 rfl rfl ?_
  refine z_iload_n hC dL_law_275 rfl rfl ?_
  refine z_iconst hC 2 dL_law_276 (by decide) ?_
  refine z_iadd hC dL_law_277 ?_
  refine z_sld hC hX dL_law_278 (by omega) (by omega) ?_
  refine z_top _ (hxs _) ?_
  refine z_callVv (n := 2) (q := (RX2, TX2, 2)) (ci := 2) (ws2 := (fun w => wL (zcA C) q v u.1 u.2 t pw f s w.1 w.2)) (wr := (wD (zcA C) q u.1 u.2 t pw f s)) hC [8, 9, 10] [0, 1, 2, 3, 4, 5, 6, 7] [0, 1, 2, 3, 4, 5, 6, 7, 8, 9, 10] (m_turn (q := v) (R := R') (z := z) (r := ys (i + 1)) (w := ys (i + 2)) hI.lt') (lw_V q132 q133 q134 q6 q135) rfl rfl dL_law_279 rfl (by decide +kernel) rfl (Nat.le_of_ble_eq_true rfl) (by rw [hR]; exact ⟨Nat.le_of_ble_eq_true rfl, Nat.le_of_ble_eq_true rfl⟩) (by rw [hR]; exact Nat.le_of_ble_eq_true rfl) (by rw [hR]; exact Nat.le_of_ble_eq_true rfl) rfl rfl rfl rfl (by decide) rfl (fun _ => rfl) (fun w hw => ?_)
  refine z_goto (tgt := 380) hC dL_law_282 (by decide) ?_
  refine hnext _ _ _ _ _ _ _ (hI.blk hu hw (fun k hk => ?_))
  · unfold fTurn
    by_cases e : ys (i + 2) % 256 ≤ k
    · rw [if_pos e, if_pos e]
      exact hI _ (by omega)
    · rw [if_neg e, if_neg e, (hI (256 * (ys (i + 1) % 4) + (k + 256 - ys (i + 2) % 256)) (by omega)).1]
      exact ⟨rfl, Nat.mod_lt _ (by decide)⟩
theorem law_press (hC : Fx C cL_law "RingDeskLaw") (hR : zR C = room_1) (hX : zX C b L xs) (hxs : ∀ j, xs j = nI (ys j)) (hys : ∀ j, ys j < 2 ^ 32) (hL : L ≤ 320) (hi : i + 5 ≤ L) (hpw : ∀ i, i < 128 → pw i = zt i) (hI : Inv R R')
    (hnext : ∀ R o t f s R' z : Nat → Nat, Inv R R' → Z C 11 3721 (wL (zcA C) q v R o t pw f s R' z) 380 [.ref b, .ref (q 0), .ref (v 0), .int (nI i)] []) : Z C 11 3721 (wL (zcA C) q v R o t pw f s R' z) 285 [.ref b, .ref (q 0), .ref (v 0), .int (nI i)] [] := by
  refine z_aload_n hC dL_law_285 rfl rfl ?_
  refine z_aload_n hC dL_law_286 rfl rfl ?_
  refine z_iload_n hC dL_law_287 rfl rfl ?_
  refine z_iconst hC 1 dL_law_288 (by decide) ?_
  refine z_iadd hC dL_law_289 ?_
  refine z_sld hC hX dL_law_290 (by omega) (by omega) ?_
  refine z_top _ (hxs _) ?_
  refine z_aload_n hC dL_law_291 rfl rfl ?_
  refine z_iload_n hC dL_law_292 rfl rfl ?_
  refine z_iconst hC 2 dL_law_293 (by decide) ?_
  refine z_iadd hC dL_law_294 ?_
  refine z_sld hC hX dL_law_295 (by omega) (by omega) ?_
  refine z_top _ (hxs _) ?_
  refine z_callVv (n := 2) (q := (RX0, TX0, 4)) (ci := 0) (ws2 := (fun u => wL (zcA C) q v u o t pw f s R' z)) (wr := (wM (zcA C) v R' z)) hC [0, 1, 2, 3, 4, 5, 6, 7] [8, 9, 10] [3, 4, 5, 6, 7, 8, 9, 10, 0, 1, 2] (k_press (q := q) (R := R) (o := o) (t := t) (pw := pw) (f := f) (s := s) (r := ys (i + 1)) (d := ys (i + 2)) (hys _) (hys _) hI.lt) (lw_V q87 q88 q89 q4 q90) rfl rfl dL_law_296 rfl (by decide +kernel) rfl (Nat.le_of_ble_eq_true rfl) (by rw [hR]; exact ⟨Nat.le_of_ble_eq_true rfl, Nat.le_of_ble_eq_true rfl⟩) (by rw [hR]; exact Nat.le_of_ble_eq_true rfl) (by rw [hR]; exact Nat.le_of_ble_eq_true rfl) rfl rfl rfl rfl (by decide) rfl (fun _ => rfl) (fun u hu => ?_)
  refine z_aload_n hC dL_law_299 rfl rfl ?_
  refine z_aload_n hC dL_law_300 rfl rfl ?_
  refine z_iload_n hC dL_law_301 rfl rfl ?_
  refine z_iconst hC 1 dL_law_302 (by decide) ?_
  refine z_iadd hC dL_law_303 ?_
  refine z_sld hC hX dL_law_304 (by omega) (by omega) ?_
  refine z_top _ (hxs _) ?_
  refine z_aload_n hC dL_law_305 rfl rfl ?_
  refine z_iload_n hC dL_law_306 rfl rfl ?_
  refine z_iconst hC 2 dL_law_307 (by decide) ?_
  refine z_iadd hC dL_law_308 ?_
  refine z_sld hC hX dL_law_309 (by omega) (by omega) ?_
  refine z_top _ (hxs _) ?_
  refine z_callVv (n := 2) (q := (RX2, TX2, 2)) (ci := 2) (ws2 := (fun w => wL (zcA C) q v u o t pw f s w z)) (wr := (wD (zcA C) q u o t pw f s)) hC [8, 9, 10] [0, 1, 2, 3, 4, 5, 6, 7] [0, 1, 2, 3, 4, 5, 6, 7, 8, 9, 10] (m_press (q := v) (R := R') (z := z) (r := ys (i + 1)) (d := ys (i + 2)) hI.lt') (lw_V q136 q137 q138 q6 q139) rfl rfl dL_law_310 rfl (by decide +kernel) rfl (Nat.le_of_ble_eq_true rfl) (by rw [hR]; exact ⟨Nat.le_of_ble_eq_true rfl, Nat.le_of_ble_eq_true rfl⟩) (by rw [hR]; exact Nat.le_of_ble_eq_true rfl) (by rw [hR]; exact Nat.le_of_ble_eq_true rfl) rfl rfl rfl rfl (by decide) rfl (fun _ => rfl) (fun w hw => ?_)
  refine z_goto (tgt := 380) hC dL_law_313 (by decide) ?_
  refine hnext _ _ _ _ _ _ _ (hI.blk hu hw (fun k hk => ?_))
  · unfold fPress
    rw [(hI (256 * (ys (i + 1) % 4) + k) (by omega)).1]
    obtain ⟨t1, t2, t3⟩ := two_b (b := 1 + ys (i + 2) % 2147483648 % 11) (by omega) (by omega)
    refine ⟨rfl, ?_⟩
    have := Nat.mod_lt ((R (256 * (ys (i + 1) % 4) + k) * 2 ^ (1 + ys (i + 2) % 2147483648 % 11) + 1664) / 3329) (show 0 < 2 ^ (1 + ys (i + 2) % 2147483648 % 11) by omega)
    omega
theorem law_unpress (hC : Fx C cL_law "RingDeskLaw") (hR : zR C = room_1) (hX : zX C b L xs) (hxs : ∀ j, xs j = nI (ys j)) (hys : ∀ j, ys j < 2 ^ 32) (hL : L ≤ 320) (hi : i + 5 ≤ L) (hpw : ∀ i, i < 128 → pw i = zt i) (hI : Inv R R')
    (hnext : ∀ R o t f s R' z : Nat → Nat, Inv R R' → Z C 11 3721 (wL (zcA C) q v R o t pw f s R' z) 380 [.ref b, .ref (q 0), .ref (v 0), .int (nI i)] []) : Z C 11 3721 (wL (zcA C) q v R o t pw f s R' z) 316 [.ref b, .ref (q 0), .ref (v 0), .int (nI i)] [] := by
  refine z_aload_n hC dL_law_316 rfl rfl ?_
  refine z_aload_n hC dL_law_317 rfl rfl ?_
  refine z_iload_n hC dL_law_318 rfl rfl ?_
  refine z_iconst hC 1 dL_law_319 (by decide) ?_
  refine z_iadd hC dL_law_320 ?_
  refine z_sld hC hX dL_law_321 (by omega) (by omega) ?_
  refine z_top _ (hxs _) ?_
  refine z_aload_n hC dL_law_322 rfl rfl ?_
  refine z_iload_n hC dL_law_323 rfl rfl ?_
  refine z_iconst hC 2 dL_law_324 (by decide) ?_
  refine z_iadd hC dL_law_325 ?_
  refine z_sld hC hX dL_law_326 (by omega) (by omega) ?_
  refine z_top _ (hxs _) ?_
  refine z_callVv (n := 2) (q := (RX0, TX0, 4)) (ci := 0) (ws2 := (fun u => wL (zcA C) q v u o t pw f s R' z)) (wr := (wM (zcA C) v R' z)) hC [0, 1, 2, 3, 4, 5, 6, 7] [8, 9, 10] [3, 4, 5, 6, 7, 8, 9, 10, 0, 1, 2] (k_unpress (q := q) (R := R) (o := o) (t := t) (pw := pw) (f := f) (s := s) (r := ys (i + 1)) (d := ys (i + 2)) (hys _) (hys _) hI.lt) (lw_V q95 q96 q97 q4 q98) rfl rfl dL_law_327 rfl (by decide +kernel) rfl (Nat.le_of_ble_eq_true rfl) (by rw [hR]; exact ⟨Nat.le_of_ble_eq_true rfl, Nat.le_of_ble_eq_true rfl⟩) (by rw [hR]; exact Nat.le_of_ble_eq_true rfl) (by rw [hR]; exact Nat.le_of_ble_eq_true rfl) rfl rfl rfl rfl (by decide) rfl (fun _ => rfl) (fun u hu => ?_)
  refine z_aload_n hC dL_law_330 rfl rfl ?_
  refine z_aload_n hC dL_law_331 rfl rfl ?_
  refine z_iload_n hC dL_law_332 rfl rfl ?_
  refine z_iconst hC 1 dL_law_333 (by decide) ?_
  refine z_iadd hC dL_law_334 ?_
  refine z_sld hC hX dL_law_335 (by omega) (by omega) ?_
  refine z_top _ (hxs _) ?_
  refine z_aload_n hC dL_law_336 rfl rfl ?_
  refine z_iload_n hC dL_law_337 rfl rfl ?_
  refine z_iconst hC 2 dL_law_338 (by decide) ?_
  refine z_iadd hC dL_law_339 ?_
  refine z_sld hC hX dL_law_340 (by omega) (by omega) ?_
  refine z_top _ (hxs _) ?_
  refine z_callVv (n := 2) (q := (RX2, TX2, 2)) (ci := 2) (ws2 := (fun w => wL (zcA C) q v u o t pw f s w z)) (wr := (wD (zcA C) q u o t pw f s)) hC [8, 9, 10] [0, 1, 2, 3, 4, 5, 6, 7] [0, 1, 2, 3, 4, 5, 6, 7, 8, 9, 10] (m_unpress (q := v) (R := R') (z := z) (r := ys (i + 1)) (d := ys (i + 2)) hI.lt') (lw_V q141 q142 q143 q6 q144) rfl rfl dL_law_341 rfl (by decide +kernel) rfl (Nat.le_of_ble_eq_true rfl) (by rw [hR]; exact ⟨Nat.le_of_ble_eq_true rfl, Nat.le_of_ble_eq_true rfl⟩) (by rw [hR]; exact Nat.le_of_ble_eq_true rfl) (by rw [hR]; exact Nat.le_of_ble_eq_true rfl) rfl rfl rfl rfl (by decide) rfl (fun _ => rfl) (fun w hw => ?_)
  refine z_goto (tgt := 380) hC dL_law_344 (by decide) ?_
  refine hnext _ _ _ _ _ _ _ (hI.blk hu hw (fun k hk => ?_))
  · unfold fUnpress
    rw [(hI (256 * (ys (i + 1) % 4) + k) (by omega)).1]
    obtain ⟨t1, t2, t3⟩ := two_b (b := 1 + ys (i + 2) % 2147483648 % 11) (by omega) (by omega)
    refine ⟨rfl, ?_⟩
    have h1 := Nat.mod_lt (R (256 * (ys (i + 1) % 4) + k)) (show 0 < 2 ^ (1 + ys (i + 2) % 2147483648 % 11) by omega)
    generalize R (256 * (ys (i + 1) % 4) + k) % 2 ^ (1 + ys (i + 2) % 2147483648 % 11) = x at h1 ⊢
    generalize 2 ^ (1 + ys (i + 2) % 2147483648 % 11) = B at t1 t2 t3 h1 ⊢
    generalize 2 ^ (1 + ys (i + 2) % 2147483648 % 11 - 1) = B2 at t3 ⊢
    rw [Nat.div_lt_iff_lt_mul (by omega)]
    omega
theorem law_at (hC : Fx C cL_law "RingDeskLaw") (hR : zR C = room_1) (hX : zX C b L xs) (hxs : ∀ j, xs j = nI (ys j)) (hys : ∀ j, ys j < 2 ^ 32) (hL : L ≤ 320) (hi : i + 5 ≤ L) (hI : Inv R R')
    (hnext : Z C 11 3721 (wL (zcA C) q v R o t pw f s R' z) 380 [.ref b, .ref (q 0), .ref (v 0), .int (nI i)] []) : Z C 11 3721 (wL (zcA C) q v R o t pw f s R' z) 347 [.ref b, .ref (q 0), .ref (v 0), .int (nI i)] [] := by
  refine z_aload_n hC dL_law_347 rfl rfl ?_
  refine z_aload_n hC dL_law_348 rfl rfl ?_
  refine z_iload_n hC dL_law_349 rfl rfl ?_
  refine z_iconst hC 1 dL_law_350 (by decide) ?_
  refine z_iadd hC dL_law_351 ?_
  refine z_sld hC hX dL_law_352 (by omega) (by omega) ?_
  refine z_top _ (hxs _) ?_
  refine z_aload_n hC dL_law_353 rfl rfl ?_
  refine z_iload_n hC dL_law_354 rfl rfl ?_
  refine z_iconst hC 2 dL_law_355 (by decide) ?_
  refine z_iadd hC dL_law_356 ?_
  refine z_sld hC hX dL_law_357 (by omega) (by omega) ?_
  refine z_top _ (hxs _) ?_
  refine z_callVi (n := 2) (q := (RX0, TX0, 4)) (ci := 0) (ws2 := (fun _ => wL (zcA C) q v R o t pw f s R' z)) (wr := (wM (zcA C) v R' z)) hC [0, 1, 2, 3, 4, 5, 6, 7] [8, 9, 10] [3, 4, 5, 6, 7, 8, 9, 10, 0, 1, 2] (k_at (q := q) (R := R) (o := o) (t := t) (pw := pw) (f := f) (s := s) (r := ys (i + 1)) (k := ys (i + 2)) (hys _)) (lw_V q99 q100 q101 q4 q102) rfl rfl dL_law_358 rfl (by decide +kernel) rfl (Nat.le_of_ble_eq_true rfl) (by rw [hR]; exact ⟨Nat.le_of_ble_eq_true rfl, Nat.le_of_ble_eq_true rfl⟩) (by rw [hR]; exact Nat.le_of_ble_eq_true rfl) (by rw [hR]; exact Nat.le_of_ble_eq_true rfl) rfl rfl rfl rfl (by decide) rfl (fun _ => rfl) (fun a u ha => ?_)
  refine z_aload_n hC dL_law_361 rfl rfl ?_
  refine z_aload_n hC dL_law_362 rfl rfl ?_
  refine z_iload_n hC dL_law_363 rfl rfl ?_
  refine z_iconst hC 1 dL_law_364 (by decide) ?_
  refine z_iadd hC dL_law_365 ?_
  refine z_sld hC hX dL_law_366 (by omega) (by omega) ?_
  refine z_top _ (hxs _) ?_
  refine z_aload_n hC dL_law_367 rfl rfl ?_
  refine z_iload_n hC dL_law_368 rfl rfl ?_
  refine z_iconst hC 2 dL_law_369 (by decide) ?_
  refine z_iadd hC dL_law_370 ?_
  refine z_sld hC hX dL_law_371 (by omega) (by omega) ?_
  refine z_top _ (hxs _) ?_
  refine z_callVi (n := 2) (q := (RX2, TX2, 2)) (ci := 2) (ws2 := (fun _ => wL (zcA C) q v R o t pw f s R' z)) (wr := (wD (zcA C) q R o t pw f s)) hC [8, 9, 10] [0, 1, 2, 3, 4, 5, 6, 7] [0, 1, 2, 3, 4, 5, 6, 7, 8, 9, 10] (m_at (q := v) (R := R') (z := z) (r := ys (i + 1)) (k := ys (i + 2))) (lw_V q145 q146 q147 q6 q148) rfl rfl dL_law_372 rfl (by decide +kernel) rfl (Nat.le_of_ble_eq_true rfl) (by rw [hR]; exact ⟨Nat.le_of_ble_eq_true rfl, Nat.le_of_ble_eq_true rfl⟩) (by rw [hR]; exact Nat.le_of_ble_eq_true rfl) (by rw [hR]; exact Nat.le_of_ble_eq_true rfl) rfl rfl rfl rfl (by decide) rfl (fun _ => rfl) (fun a2 u2 ha2 => ?_)
  refine z_icmp_eqR (tgt := 380) hC dL_law_375 (by decide) (fun hc375 => ?_) (fun hc375 => ?_)
  · exact hnext
  · exact absurd (by rw [ha, ha2, (hI (256 * (ys (i + 1) % 4) + ys (i + 2) % 256) (by omega)).1]) hc375
theorem law_cond {L i : Nat} (hL : L ≤ 320) (hi : i ≤ 325) (h : ¬ nI L - nI 5 < nI i) : i + 5 ≤ L := by
  rw [Int32.lt_iff_toInt_lt, pk_sub_toInt (by omega) (by omega), nI_toInt (by omega)] at h
  omega
theorem law_loop (hC : Fx C cL_law "RingDeskLaw") (hR : zR C = room_1) (hZ : zL C = 4) (hX : zX C b L xs) (hxs : ∀ j, xs j = nI (ys j)) (hys : ∀ j, ys j < 2 ^ 32) (hL : L ≤ 320) (hpw : ∀ i, i < 128 → pw i = zt i)
    (hret : ∀ (ws : va_W) (pc : Nat) (lw : List Value), decode cL_law pc = .ok (.ireturn, 1) → Z C 11 3721 ws pc lw [.int (nI 1)]) :
    ∀ (n i : Nat) (R o t f s R' z : Nat → Nat), i ≤ 325 → 326 ≤ i + n → Inv R R' → Z C 11 3721 (wL (zcA C) q v R o t pw f s R' z) 18 [.ref b, .ref (q 0), .ref (v 0), .int (nI i)] [] := by
  intro n
  induction n with
  | zero =>
    intro i R o t f s R' z h1 h2 hI
    omega
  | succ n ih =>
    intro i R o t f s R' z h1 h2 hI
    refine z_iload_n hC dL_law_18 rfl rfl ?_
    refine z_aload_n hC dL_law_19 rfl rfl ?_
    refine z_slen hC hX dL_law_20 ?_
    refine z_iconst hC 5 dL_law_21 (by decide) ?_
    refine z_isubR hC dL_law_22 ?_
    refine z_icmp_gtR (tgt := 386) hC dL_law_23 (by decide) (fun hc23 => ?_) (fun hc23 => ?_)
    · refine z_iconst hC 1 dL_law_386 (by decide) ?_
      exact hret _ _ _ dL_law_387
    · have hi := law_cond hL h1 hc23
      refine z_aload_n hC dL_law_26 rfl rfl ?_
      refine z_iload_n hC dL_law_27 rfl rfl ?_
      refine z_sld hC hX dL_law_28 (by omega) (by omega) ?_
      refine z_top _ (hxs _) ?_
      refine z_bipush hC 7 dL_law_29 (by decide) ?_
      refine z_iand hC 8 3 dL_law_31 (by decide) (by decide) (by decide) rfl ?_
      have hnext : ∀ R o t f s R' z : Nat → Nat, Inv R R' → Z C 11 3721 (wL (zcA C) q v R o t pw f s R' z) 380 [.ref b, .ref (q 0), .ref (v 0), .int (nI i)] [] := by
        intro R o t f s R' z hI
        have hL := hZ
        refine z_iinc hC _ dL_law_380 hL (by decide) rfl (nI_add _ 5) ?_
        refine z_goto (tgt := 18) hC dL_law_383 (by decide) ?_
        refine z_lw (lw' := [.ref b, .ref (q 0), .ref (v 0), .int (nI (i + 5))]) rfl ?_
        exact ih (i + 5) R o t f s R' z (by omega) (by omega) hI
      rcases (show ys i % 8 = 0 ∨ ys i % 8 = 1 ∨ ys i % 8 = 2 ∨ ys i % 8 = 3 ∨ ys i % 8 = 4 ∨ ys i % 8 = 5 ∨ ys i % 8 = 6 ∨ ys i % 8 = 7 by omega) with h | h | h | h | h | h | h | h
      all_goals rw [h]
      · refine z_table (tgt := 80) hC dL_law_32 (by decide) (by decide) (by decide) rfl (by decide) ?_
        exact law_put hC hR hX hxs hys hL hi hpw hI hnext
      · refine z_table (tgt := 131) hC dL_law_32 (by decide) (by decide) (by decide) rfl (by decide) ?_
        exact law_add hC hR hX hxs hys hL hi hpw hI hnext
      · refine z_table (tgt := 172) hC dL_law_32 (by decide) (by decide) (by decide) rfl (by decide) ?_
        exact law_sub hC hR hX hxs hys hL hi hpw hI hnext
      · refine z_table (tgt := 213) hC dL_law_32 (by decide) (by decide) (by decide) rfl (by decide) ?_
        exact law_mul hC hR hX hxs hys hL hi hpw hI hnext
      · refine z_table (tgt := 254) hC dL_law_32 (by decide) (by decide) (by decide) rfl (by decide) ?_
        exact law_turn hC hR hX hxs hys hL hi hpw hI hnext
      · refine z_table (tgt := 285) hC dL_law_32 (by decide) (by decide) (by decide) rfl (by decide) ?_
        exact law_press hC hR hX hxs hys hL hi hpw hI hnext
      · refine z_table (tgt := 316) hC dL_law_32 (by decide) (by decide) (by decide) rfl (by decide) ?_
        exact law_unpress hC hR hX hxs hys hL hi hpw hI hnext
      · refine z_table (tgt := 347) hC dL_law_32 (by decide) (by decide) (by decide) rfl (by decide) ?_
        exact law_at hC hR hX hxs hys hL hi hI (hnext _ _ _ _ _ _ _ hI)
end LAW
end
section
set_option maxRecDepth 100000
/-! THE CLAIM OUT OF ONE WALK OF THE LAW'S BODY. Your part is whole_start (and what it stands on); all else here is the same for every law, but numbers. -/
def R_law : String := "RingDeskLaw"
def lw_P (b : Addr) (xs : List Int32) (args : Array Value) (s : State) : Prop := args = #[.ref b] ∧ s.IntsAt b xs ∧ xs.length ≤ 320 ∧ (Jvm.Cond.and given_1 narrow_1).before args s = true
def lw_Q (_ : Array Value) (s : State) (o : Outcome) (t : State) : Prop := o = .returned (some (.int 1)) ∧ Framed s o t [] 600000 7290000
def lw_Z (below : List Frame) (a : Array Value) (s : State) : State → Prop := fun t => ∃ o, t.status = .running ∧ Ended t below o ∧ lw_Q a s o t
/-- the law's own end, with 1 on the stack, nothing written that was there before, its room as the claim has it -/
theorem lw_ret {p : Program} {l : Launch} {e : Env} {s : State} {m : MethodId} {below : List Frame} {meth : Method} {c : Code} {b : Nat} (hx : p.tables.exec = Jvm.exec) (hb : c.code = code) (hr : meth.sig.returnType = ret) (hlocks : meth.locks = false) {pc : Nat} {H : Heap} {ls : Array Slot} (hdg : decode code pc = .ok (.ireturn, 1)) : W p l e room_1 s m #[Value.ref b] below meth c H [] 600000 7290000 (lw_Z below #[Value.ref b] s) (F0 m pc ls [.int 1]) := by
  intro T hT X
  obtain ⟨fs, hret, hrun, hended, hW, hframe⟩ := X.leave (v := some (.int 1)) (hlocks := hlocks) (fun h => by rw [hr] at h; cases h)
  have hmeth' : T.vm.method? m = some meth := X.method'
  refine ⟨T.setFrames fs, ?_, .returned (some (.int 1)), hrun, hended, rfl, ⟨_, rfl⟩, hW, hframe⟩
  jvm_step X.here [X.here.top, hx, hb, hdg, hmeth', hr, ret, narrow_b1]
  (try refine ⟨rfl, ?_⟩); (try refine ⟨rfl, ?_⟩)
  first | (intro acts; rw [hret _ acts rfl rfl rfl]) | rw [hret _ _ rfl rfl rfl]
  exact Steps.refl _
/-- what holds at the law's entry: the machine, the code, the tables' words (any of lw_tbl by 'hts w (by decide +kernel)'), the script of L ints xs at the cell b, what the Statement gives of the start (any of its parts by flat_of_before) -/
def lw_At (p : Program) (s : State) (m : MethodId) (meth : Method) (c : Code) (b L : Nat) (xs : Nat → Int32) : Prop :=
  p.tables.exec = Jvm.exec ∧ c.code = code ∧ meth.sig.returnType = ret ∧ c.maxLocals = 4 ∧ s.vm.findClass R_law = some m.cls ∧ (∀ w ∈ lw_tbl, w.before #[Value.ref b] s = true) ∧ va_X b L xs s s.heap ∧ b < s.heap.size ∧ meth.locks = false ∧ (Jvm.Cond.and given_1 narrow_1).before #[Value.ref b] s = true
-- ===== YOUR PART BEGINS =====
theorem zp_of (x : Int32) : x = nI x.toBitVec.toNat := by
  apply Int32.toBitVec_inj.mp
  show x.toBitVec = BitVec.ofNat 32 x.toBitVec.toNat
  rw [BitVec.ofNat_toNat]
  simp
theorem law_body {C : zC} {b L : Nat} {xs : Nat → Int32} (hC : Fx C cL_law "RingDeskLaw") (hR : zR C = room_1) (hL : zL C = 4) (hX : zX C b L xs) (hL3 : L ≤ 320)
    (hret : ∀ (ws : va_W) (pc : Nat) (lw : List Value), decode cL_law pc = .ok (.ireturn, 1) → Z C 11 3721 ws pc lw [.int (nI 1)]) : Z C 0 0 [] 0 [.ref b] [] := by
  refine z_new (ci := 0) hC [.null, .null, .null, .null] tyX0 rfl in_X0 tyX0_ok q7 q8 q4 (fun j hj => by rcases (show j = 0 ∨ j = 1 ∨ j = 2 ∨ j = 3 by omega) with rfl | rfl | rfl | rfl <;> rfl) dL_law_0 (by rw [hR]; exact Nat.le_of_ble_eq_true rfl) (by rw [hR]; exact Nat.le_of_ble_eq_true rfl) (fun x0 => ?_)
  refine z_dup hC dL_law_3 rfl ?_
  refine z_callI (n := 0) (ws2 := (fun u => wD (zcA C) u.1 (fun _ => 0) (fun _ => 0) (fun _ => 0) u.2 (fun _ => 0) (fun _ => 0))) (wr := ([] : va_W)) hC [0] [] [0, 1, 2, 3, 4, 5, 6, 7] (k_dinit (h := x0)) (lw_meth q11) q4 q9 q10 rfl dL_law_4 rfl (by decide +kernel) rfl (Nat.le_of_ble_eq_true rfl) (by rw [hR]; exact ⟨Nat.le_of_ble_eq_true rfl, Nat.le_of_ble_eq_true rfl⟩) (by rw [hR]; exact Nat.le_of_ble_eq_true rfl) (by rw [hR]; exact Nat.le_of_ble_eq_true rfl) rfl rfl rfl rfl (by decide) rfl (fun _ => rfl) (fun u hu => ?_)
  obtain ⟨q, pw⟩ := u
  obtain ⟨hq, hpw⟩ := hu
  have hq : q 0 = x0 := hq
  subst hq
  refine z_astore_n hC dL_law_7 rfl hL (by decide) (Nat.le_of_ble_eq_true rfl) ?_
  refine z_new (ci := 2) hC [.null, .null] tyX2 rfl in_X2 tyX2_ok q103 q104 q6 (fun j hj => by rcases (show j = 0 ∨ j = 1 by omega) with rfl | rfl <;> rfl) dL_law_8 (by rw [hR]; exact Nat.le_of_ble_eq_true rfl) (by rw [hR]; exact Nat.le_of_ble_eq_true rfl) (fun y0 => ?_)
  refine z_dup hC dL_law_11 rfl ?_
  refine z_callI (n := 0) (ws2 := (fun u => wL (zcA C) q u (fun _ => 0) (fun _ => 0) (fun _ => 0) pw (fun _ => 0) (fun _ => 0) (fun _ => 0) (fun _ => 0))) (wr := (wD (zcA C) q (fun _ => 0) (fun _ => 0) (fun _ => 0) pw (fun _ => 0) (fun _ => 0))) hC [8] [0, 1, 2, 3, 4, 5, 6, 7] [0, 1, 2, 3, 4, 5, 6, 7, 8, 9, 10] (k_minit (h := y0)) (lw_meth q107) q6 q105 q106 rfl dL_law_12 rfl (by decide +kernel) rfl (Nat.le_of_ble_eq_true rfl) (by rw [hR]; exact ⟨Nat.le_of_ble_eq_true rfl, Nat.le_of_ble_eq_true rfl⟩) (by rw [hR]; exact Nat.le_of_ble_eq_true rfl) (by rw [hR]; exact Nat.le_of_ble_eq_true rfl) rfl rfl rfl rfl (by decide) rfl (fun _ => rfl) (fun v hv => ?_)
  subst hv
  refine z_astore_n hC dL_law_15 rfl hL (by decide) (Nat.le_of_ble_eq_true rfl) ?_
  refine z_iconst hC 0 dL_law_16 (by decide) ?_
  refine z_istore_n hC dL_law_17 rfl hL (by decide) (Nat.le_of_ble_eq_true rfl) ?_
  refine z_widen 11 3721 (Nat.le_of_ble_eq_true rfl) (Nat.le_of_ble_eq_true rfl) ?_
  exact law_loop (ys := fun j => (xs j).toBitVec.toNat) hC hR hL hX (fun j => zp_of (xs j)) (fun j => (xs j).toBitVec.isLt) hL3 hpw hret 326 0 _ _ _ _ _ _ _ (by decide) (by decide) (fun j _ => ⟨rfl, by decide⟩)
/-- from the entry, for every script of at most 320 ints, the law comes to its end with true -/
theorem whole_start {p : Program} {e : Env} {s : State} {m : MethodId} {below : List Frame} {meth : Method} {c : Code} (l : Launch) {b L : Nat} {xs : Nat → Int32} (hL : L ≤ 320) (C0 : lw_At p s m meth c b L xs) : W p l e room_1 s m #[Value.ref b] below meth c s.heap [] 0 0 (lw_Z below #[Value.ref b] s) (entryFrame m ([Value.ref b] : List Value).toArray 4) := by
  obtain ⟨hx, hb, hr, hml, hown, hts0, hX, hbl, hlocks, hgv⟩ := C0
  have hts : ∀ w ∈ lw_all, w.before #[Value.ref b] s = true := fun w h => hts0 w (lw_all_tbl h)
  obtain ⟨c0, iS0, hKn0⟩ := u_known (C := RX0) (T := TX0) (N := 4) (n := 4) hts in_X0 (hts _ q8)
  obtain ⟨c1, iS1, hKn1⟩ := u_known (C := RX1) (T := TX1) (N := 3) (n := 3) hts in_X1 (hts _ q16)
  obtain ⟨c2, iS2, hKn2⟩ := u_known (C := RX2) (T := TX2) (N := 2) (n := 2) hts in_X2 (hts _ q104)
  obtain ⟨D, hKc⟩ : ∃ D : va_G, ∀ (k : Nat) (q : vw_C), zCl[k]? = some q → u_Kn s q.1 q.2.1 q.2.2 (D.1 k) (D.2 k) := by
    refine ⟨(fun k => if k = 0 then c0 else if k = 1 then c1 else c2, fun k => if k = 0 then iS0 else if k = 1 then iS1 else iS2), ?_⟩
    intro k q hq
    match k, hq with
    | 0, hq => cases hq; exact hKn0
    | 1, hq => cases hq; exact hKn1
    | 2, hq => cases hq; exact hKn2
    | k + 3, hq => simp [zCl] at hq
  obtain ⟨cA, kA, comp, f1, f2, f3⟩ := Cond.arrayClass_spec (hts _ q31)
  have hK : va_K D zCl [(cA, .int)] s := by
    refine ⟨hKc, fun k q hk => ?_⟩
    match k, hk with
    | 0, hk =>
      cases hk
      exact ⟨fun n z => ⟨fun k h => (by cases h), kA, f2, comp, f3⟩, f1⟩
    | k + 1, hk => simp at hk
  have hl := lv_entry ([.ref b]) (n := 4) (Nat.le_of_ble_eq_true rfl)
  rw [lg_entry_eq]
  generalize (lg_sl ([.ref b]) ++ List.replicate (4 - (lg_sl ([.ref b])).length) Slot.unset).toArray = ls at hl ⊢
  have hl : lh ls 4 [.ref b] := lh_entry (by simp [Value.category]) hl
  refine law_body (C := (p, l, e, room_1, s, m, #[Value.ref b], below, meth, c, lw_Z below #[Value.ref b] s, fun q : Nat => s.heap.size ≤ q, D, cA, 4)) (b := b) (L := L) (xs := xs) ⟨⟨hx, hb, hml, hown, hts⟩, hK, fun _ h => h⟩ rfl rfl ⟨hX, hbl, Nat.not_le.mpr hbl⟩ hL ?_ s.heap [] ls (fun k q h => by simp at h) ⟨fun i j p q h => by simp at h, fun k q h => by simp at h⟩ va_S.rf hl
  intro ws pc lw hd
  intro H locs ls hP hD hS hl
  refine va_forget (fun q hq => hS.2.2 q hq) ?_
  refine W.widen (k := 600000) (n := 7290000) (Nat.le_of_ble_eq_true rfl) (Nat.le_of_ble_eq_true rfl) ?_
  exact lw_ret hx hb hr hlocks hd
-- ===== YOUR PART ENDS =====
end
section
set_option maxRecDepth 100000
set_option maxHeartbeats 4000000 in
theorem lw_walk (l : Launch) (b : Addr) (xs : List Int32) : MetFree l x (headSpec (Jvm.Cond.code x code maxLocals ret :: tables_1) room_1) (lw_P b xs) (fun _ _ _ _ _ => True) lw_Q := by
  refine MetFree.of_bodyS (code := code) (maxLocals := maxLocals) (ret := ret) (by decide) ?_ ?_
  · intro args s m h hn
    obtain ⟨meth, c, h1, h2, h3, h4, h5, h6, -, -⟩ := Cond.code_spec hn (atoms_spec (ws := Jvm.Cond.code x code maxLocals ret :: tables_1) h _ List.mem_cons_self)
    exact ⟨meth, c, h1, h2, h3, h4, h5, h6⟩
  · intro p e s m args below meth c s₁ B hml0 hP _
    obtain ⟨rfl, hx, hbd, hgv⟩ := hP
    obtain ⟨scr, harrAt, hlist, hof, hsmall⟩ := hx
    obtain ⟨hcb, hkn, -, -⟩ := State.arrayAt?_spec harrAt
    have hown : s.vm.findClass R_law = some m.cls := findClass_of_methodNamed B.named
    have hts0 : ∀ c ∈ (Jvm.Cond.code x code maxLocals ret :: tables_1), c.before #[Value.ref b] s = true := atoms_spec (ws := Jvm.Cond.code x code maxLocals ret :: tables_1) B.pre
    have hts : ∀ w ∈ lw_tbl, w.before #[Value.ref b] s = true := k2_hts_sels lw_privs (fun w hw => hts0 w (List.mem_cons_of_mem _ hw)) lw_privs_ok
    have hml : c.maxLocals = 4 := B.maxLocals_eq (hts0 _ List.mem_cons_self)
    have X₀ : Stand p l e room_1 s m #[Value.ref b] below meth c s₁ [] 0 0 := Stand.of_body B
    have hh0 : s₁.heap = s.heap := by rw [B.state]; rfl
    have hsz : scr.slots.size = xs.length := by rw [← Array.length_toList, hlist, List.length_map]
    have hval : ∀ j : Nat, j < xs.length → scr.slots[j]? = some (.int (xs.getD j 0)) := fun j hj => by
      rw [← Array.getElem?_toList, hlist]
      simp [hj]
    have hbl : b < s.heap.size := (Array.getElem?_eq_some_iff.mp hcb).1
    have hX : va_X b xs.length (fun j => xs.getD j 0) s s.heap := ⟨scr, hcb, hof, hkn, hsz, hval⟩
    have K : W p l e room_1 s m #[Value.ref b] below meth c s₁.heap [] 0 0 (lw_Z below #[Value.ref b] s) (entryFrame m ([Value.ref b] : List Value).toArray 4) := by
      rw [hh0]
      exact whole_start l hbd ⟨B.exec, B.bytes, B.returns, hml, hown, hts, hX, hbl, B.notSynchronized, hgv⟩
    obtain ⟨t, a1, o, b1, b2, b3⟩ := K s₁ rfl X₀
    exact ⟨t, o, a1, b1, b2, b3⟩
theorem lw_pre_spec {args : Array Value} {s : State} (h : (Jvm.Cond.and given_1 narrow_1).before args s = true) (hr : rest_1_c.before args s = true) : ∃ (b : Addr) (xs : List Int32), lw_P b xs args s := by
  have hs := flat_of_before _ h
  have hq := flat_of_before _ hr
  have hc : (Cond.count 1).before args s = true := hs _ (by decide +kernel)
  have harr : (Cond.arrayOf (.arg 0) .int).before args s = true := hs _ (by decide +kernel)
  have hle : (Cond.le (.length (.arg 0)) (.int 320)).before args s = true := hs _ (by decide +kernel)
  have hlen : (Cond.isInt (.length (.arg 0))).before args s = true := hq _ (by decide +kernel)
  have hall : (Cond.all (.arg 0) (.isInt (.elem (.arg 0) (.index 0)))).before args s = true := hq _ (by decide +kernel)
  obtain ⟨b, xs, hb, hx⟩ := State.ints_of_pre rfl harr hlen hall
  have hsm : xs.length < 2 ^ 31 := hx.choose_spec.2.2.2
  have hev : (Term.length (.arg 0)).eval args s none [] s = some (.int xs.length.toInt32) := hx.length_eval hb
  have hv := Cond.le_ints hev (show (Term.int 320).eval args s none [] s = some (.int 320) from rfl)
  have hd : xs.length.toInt32 ≤ 320 := by
    simpa [Cond.before, Cond.holds, hv] using hle
  have hN : xs.length ≤ 320 := (Int32.ofNat_le_ofNat hsm (by decide)).mp (show Int32.ofNat xs.length ≤ Int32.ofNat 320 from hd)
  exact ⟨b, xs, Cond.one_arg hc (show args[0]? = some (.ref b) from hb), hx, hN, h⟩
theorem lw_comes (l : Launch) : Comes l x (Jvm.Cond.code x code maxLocals ret :: tables_1) room_1 (fun tb e args s => Calls_1 tb e args s ∧ rest_1 tb e args s ∧ Pre_1 tb e args s)
    (fun _ _ args s o t => lw_Q args s o t) := by
  intro p e ha hc hk s m args below hf hfit hheap happ hpre
  obtain ⟨b, xs, hP⟩ := lw_pre_spec hpre.2.2 hpre.2.1
  obtain ⟨k, o, h1, h2, h3, hQ⟩ := lw_walk l b xs p e ha hc hk s m args below hf ((Spec.applies_iff_loose hf).mp happ).1 hP trivial
  exact ⟨k, o, h1, h2, h3, hQ⟩
theorem lw_frame {s t : State} {o : Outcome} {args : Array Value} (h : Framed s o t [] 600000 7290000) :
    Framed s o t (fieldLocs frame_1_writes args s ++ arrayLocs frame_1_arrays args s ++ staticLocs frame_1_statics s) 600000 7290000 := h
theorem lw_limb (L : Cond) (hL : ∀ (args : Array Value) (s t : State), L.after args s (.returned (some (.int 1))) t = true) :
    ArmFor flags0 classFile x code maxLocals ret World_1 tables_1 room_1 Calls_1 rest_1 Pre_1
      (fun tb e a s o t => postC L tb e a s o t ∧ Framed s o t (fieldLocs frame_1_writes a s ++ arrayLocs frame_1_arrays a s ++ staticLocs frame_1_statics s) 600000 7290000) := by
  intro l _ _ _ p e ha hc hk s m args below hf hfit hheap happ hpre
  obtain ⟨k, o, h1, h2, h3, rfl, hF⟩ := lw_comes l p e ha hc hk s m args below hf hfit hheap happ hpre
  exact ⟨k, _, h1, h2, h3, hL args s _, lw_frame hF⟩
theorem i_vc : Claimed_1_1 ∧ Claimed_1_2 := ⟨lw_limb limb_1_1 (fun args s t => by simp [limb_1_1, Cond.after, Cond.holds, Cond.value]), lw_limb limb_1_2 (fun args s t => Cond.after_iff.mpr (by
  first | (rw [show limb_1_2 = Cond.eq .result (.int 1) from rfl, Cond.eq_ints (x := 1) (y := 1) rfl rfl]; simp; done) | (simp [limb_1_2, Cond.value, Term.eval]; done)))⟩
end
