section
-- ===== PART A: goes FIRST, ahead of the names: the tables' words, and 'selects' of the private methods out of them =====
/-- a private method of a class that the tables say can be made, by its rows of tables_1 -/
def lw_okq (q : MethodName × Nat) : Prop := (q.1.cls ≠ "java/lang/invoke/MethodHandle" ∧ q.1.cls ≠ "java/lang/invoke/VarHandle") ∧ Cond.instantiable q.1.cls q.2 ∈ tables_1 ∧ Cond.privateMethod q.1 ∈ tables_1 ∧ Cond.instanceMethod q.1 ∈ tables_1
set_option maxRecDepth 100000
theorem lw_p0 : lw_okq (⟨"CoalitionValues", "findParts", "()V"⟩, 5) := ⟨⟨by decide +kernel, by decide +kernel⟩, List.mem_of_getElem? (i := 4) rfl, List.mem_of_getElem? (i := 58) rfl, List.mem_of_getElem? (i := 59) rfl⟩
theorem lw_p1 : lw_okq (⟨"CoalitionValues", "shareOf", "(I)I"⟩, 5) := ⟨⟨by decide +kernel, by decide +kernel⟩, List.mem_of_getElem? (i := 4) rfl, List.mem_of_getElem? (i := 77) rfl, List.mem_of_getElem? (i := 78) rfl⟩
theorem lw_p2 : lw_okq (⟨"CoalitionValues", "pairGains", "(II)Z"⟩, 5) := ⟨⟨by decide +kernel, by decide +kernel⟩, List.mem_of_getElem? (i := 4) rfl, List.mem_of_getElem? (i := 90) rfl, List.mem_of_getElem? (i := 91) rfl⟩
theorem lw_p3 : lw_okq (⟨"CoalitionValuesModel", "isPlayer", "(I)Z"⟩, 4) := ⟨⟨by decide +kernel, by decide +kernel⟩, List.mem_of_getElem? (i := 106) rfl, List.mem_of_getElem? (i := 133) rfl, List.mem_of_getElem? (i := 134) rfl⟩
theorem lw_p4 : lw_okq (⟨"CoalitionValuesModel", "marginIn", "(II)I"⟩, 4) := ⟨⟨by decide +kernel, by decide +kernel⟩, List.mem_of_getElem? (i := 106) rfl, List.mem_of_getElem? (i := 149) rfl, List.mem_of_getElem? (i := 150) rfl⟩
theorem lw_p5 : lw_okq (⟨"CoalitionValuesModel", "share", "(I)I"⟩, 4) := ⟨⟨by decide +kernel, by decide +kernel⟩, List.mem_of_getElem? (i := 106) rfl, List.mem_of_getElem? (i := 165) rfl, List.mem_of_getElem? (i := 166) rfl⟩
theorem lw_p6 : lw_okq (⟨"CoalitionValuesModel", "splitWorth", "(I)I"⟩, 4) := ⟨⟨by decide +kernel, by decide +kernel⟩, List.mem_of_getElem? (i := 106) rfl, List.mem_of_getElem? (i := 190) rfl, List.mem_of_getElem? (i := 191) rfl⟩
def lw_privs_1 : List (MethodName × Nat) := [(⟨"CoalitionValues", "findParts", "()V"⟩, 5), (⟨"CoalitionValues", "shareOf", "(I)I"⟩, 5), (⟨"CoalitionValues", "pairGains", "(II)Z"⟩, 5), (⟨"CoalitionValuesModel", "isPlayer", "(I)Z"⟩, 4), (⟨"CoalitionValuesModel", "marginIn", "(II)I"⟩, 4), (⟨"CoalitionValuesModel", "share", "(I)I"⟩, 4), (⟨"CoalitionValuesModel", "splitWorth", "(I)I"⟩, 4)]
theorem lw_r1 : ∀ q ∈ lw_privs_1, lw_okq q := List.forall_mem_cons.mpr ⟨lw_p0, List.forall_mem_cons.mpr ⟨lw_p1, List.forall_mem_cons.mpr ⟨lw_p2, List.forall_mem_cons.mpr ⟨lw_p3, List.forall_mem_cons.mpr ⟨lw_p4, List.forall_mem_cons.mpr ⟨lw_p5, List.forall_mem_cons.mpr ⟨lw_p6, fun _ h => absurd h List.not_mem_nil⟩⟩⟩⟩⟩⟩⟩
def lw_privs : List (MethodName × Nat) := lw_privs_1
def lw_tbl : List Cond := k2_sels lw_privs ++ tables_1
theorem lw_privs_ok : ∀ q ∈ lw_privs, lw_okq q := lw_r1
-- ===== ONE list of words for every method: the tables' words that hold all through a run =====
def lw_all : List Cond := lw_tbl.filter goodWord
/-- a word of the tables by its place: claim/WORDS.tsv -/
theorem lw_w {w : Cond} (i : Nat) (h : lw_tbl[i]? = some w) (g : goodWord w = true) : w ∈ lw_all := List.mem_filter.mpr ⟨List.mem_of_getElem? h, g⟩
theorem lw_all_tbl {w : Cond} (h : w ∈ lw_all) : w ∈ lw_tbl := (List.mem_filter.mp h).1
theorem lw_self : GoodIn lw_all lw_all := fun w h => ⟨h, good_of_word (List.mem_filter.mp h).2⟩
/-- a class's field words, by their places -/
theorem lw_in (ws : List Cond) (ps : List Nat) (hp : ws = ps.filterMap (fun i => lw_tbl[i]?)) (hg : ws.all goodWord = true) : ∀ w ∈ ws, w ∈ lw_all := by
  intro w h
  have h1 := List.all_eq_true.mp hg w h
  rw [hp] at h
  obtain ⟨i, -, hi⟩ := List.mem_filterMap.mp h
  exact lw_w i hi h1
/-- the words of a contract for the method y with code b, L locals, answer r -/
abbrev ws_ (y : MethodName) (b : ByteArray) (L : Nat) (r : Option FieldType) : List Cond := Cond.code y b L r :: lw_all
theorem lw_meth {y : MethodName} {b : ByteArray} {L : Nat} {r : Option FieldType} (h : Cond.code y b L r ∈ lw_all) : GoodIn lw_all (ws_ y b L r) := by
  intro w hw
  rcases List.mem_cons.mp hw with e | e
  · rw [e]
    exact lw_self _ h
  · exact lw_self _ e
theorem lw_app {a c : List Cond} (ha : ∀ w ∈ a, w ∈ lw_all) (hc : GoodIn lw_all c) : GoodIn lw_all (a ++ c) := by
  intro w hw
  rcases List.mem_append.mp hw with e | e
  · exact lw_self w (ha w e)
  · exact hc w e
/-- what a call through an object asks: cwV n hts (lw_V ..) -/
theorem lw_V {own : String} {idx : Nat} {C : String} {y : MethodName} {b : ByteArray} {L : Nat} {r : Option FieldType} (h1 : Cond.methodLink own idx y ∈ lw_all) (h2 : Cond.instanceMethod y ∈ lw_all) (h3 : Cond.selects C y y ∈ lw_all) (h4 : Cond.initialized C ∈ lw_all) (h5 : Cond.code y b L r ∈ lw_all) : GoodIn lw_all (wsV own idx C y (ws_ y b L r)) := by
  refine lw_app ?_ (lw_meth h5)
  intro w hw
  simp only [List.mem_cons, List.not_mem_nil, or_false] at hw
  rcases hw with e | e | e | e
  · rw [e]; exact h1
  · rw [e]; exact h2
  · rw [e]; exact h3
  · rw [e]; exact h4
/-- what a static call asks: va_cwS n hts (lw_S ..) -/
theorem lw_S {own : String} {idx : Nat} {y : MethodName} {b : ByteArray} {L : Nat} {r : Option FieldType} (h1 : Cond.methodLink own idx y ∈ lw_all) (h2 : Cond.static y ∈ lw_all) (h3 : Cond.initialized y.cls ∈ lw_all) (h4 : Cond.code y b L r ∈ lw_all) : GoodIn lw_all (va_wsS own idx y (ws_ y b L r)) := by
  refine lw_app ?_ (lw_meth h4)
  intro w hw
  simp only [List.mem_cons, List.not_mem_nil, or_false] at hw
  rcases hw with e | e | e
  · rw [e]; exact h1
  · rw [e]; exact h2
  · rw [e]; exact h3
/-- the words of a contract for a method WITH HANDLERS (hh: its table) -/
abbrev wsW_ (y : MethodName) (b : ByteArray) (L : Nat) (r : Option FieldType) (hh : List (Nat × Nat × Nat × Nat)) : List Cond := Cond.codeWith y b L r hh :: lw_all
theorem lw_methW {y : MethodName} {b : ByteArray} {L : Nat} {r : Option FieldType} {hh : List (Nat × Nat × Nat × Nat)} (h : Cond.codeWith y b L r hh ∈ lw_all) : GoodIn lw_all (wsW_ y b L r hh) := by
  intro w hw
  rcases List.mem_cons.mp hw with e | e
  · rw [e]
    exact lw_self _ h
  · exact lw_self _ e
/-- any list of words by their places (lw_in), good -/
theorem lw_good {ws : List Cond} (h : ∀ w ∈ ws, w ∈ lw_all) : GoodIn lw_all ws := fun w hw => lw_self w (h w hw)
/-- what a call of a method with handlers asks: vx_cwVW n hts (lw_VW ..), vx_cwSW n hts (lw_SW ..) -/
theorem lw_VW {own : String} {idx : Nat} {C : String} {y : MethodName} {b : ByteArray} {L : Nat} {r : Option FieldType} {hh : List (Nat × Nat × Nat × Nat)} (h1 : Cond.methodLink own idx y ∈ lw_all) (h2 : Cond.instanceMethod y ∈ lw_all) (h3 : Cond.selects C y y ∈ lw_all) (h4 : Cond.initialized C ∈ lw_all) (h5 : Cond.codeWith y b L r hh ∈ lw_all) : GoodIn lw_all (wsV own idx C y (wsW_ y b L r hh)) := by
  refine lw_app ?_ (lw_methW h5)
  intro w hw
  simp only [List.mem_cons, List.not_mem_nil, or_false] at hw
  rcases hw with e | e | e | e
  · rw [e]; exact h1
  · rw [e]; exact h2
  · rw [e]; exact h3
  · rw [e]; exact h4
theorem lw_SW {own : String} {idx : Nat} {y : MethodName} {b : ByteArray} {L : Nat} {r : Option FieldType} {hh : List (Nat × Nat × Nat × Nat)} (h1 : Cond.methodLink own idx y ∈ lw_all) (h2 : Cond.static y ∈ lw_all) (h3 : Cond.initialized y.cls ∈ lw_all) (h4 : Cond.codeWith y b L r hh ∈ lw_all) : GoodIn lw_all (va_wsS own idx y (wsW_ y b L r hh)) := by
  refine lw_app ?_ (lw_methW h4)
  intro w hw
  simp only [List.mem_cons, List.not_mem_nil, or_false] at hw
  rcases hw with e | e | e
  · rw [e]; exact h1
  · rw [e]; exact h2
  · rw [e]; exact h3
/-- a word by its place in its run of the tables -/
theorem lw_at {r : List Cond} (hr : ∀ w ∈ r, w ∈ lw_tbl) {w : Cond} (i : Nat) (h : r[i]? = some w) : w ∈ lw_tbl := hr w (List.mem_of_getElem? h)
theorem lw_g {w : Cond} (h : w ∈ lw_tbl) (g : goodWord w = true) : w ∈ lw_all := List.mem_filter.mpr ⟨h, g⟩
theorem lw_ms : ∀ w ∈ k2_sels lw_privs, w ∈ lw_tbl := fun w h => show w ∈ k2_sels lw_privs ++ tables_1 from List.mem_append_left _ h
theorem lw_m0 : ∀ w ∈ tables_1, w ∈ lw_tbl := fun w h => show w ∈ k2_sels lw_privs ++ tables_1 from List.mem_append_right (k2_sels lw_privs) h
theorem qs0 : (Cond.selects "CoalitionValues" ⟨"CoalitionValues", "findParts", "()V"⟩ ⟨"CoalitionValues", "findParts", "()V"⟩) ∈ lw_all := lw_g (lw_at lw_ms 0 rfl) rfl
theorem qs1 : (Cond.selects "CoalitionValues" ⟨"CoalitionValues", "shareOf", "(I)I"⟩ ⟨"CoalitionValues", "shareOf", "(I)I"⟩) ∈ lw_all := lw_g (lw_at lw_ms 1 rfl) rfl
theorem qs2 : (Cond.selects "CoalitionValues" ⟨"CoalitionValues", "pairGains", "(II)Z"⟩ ⟨"CoalitionValues", "pairGains", "(II)Z"⟩) ∈ lw_all := lw_g (lw_at lw_ms 2 rfl) rfl
theorem qs3 : (Cond.selects "CoalitionValuesModel" ⟨"CoalitionValuesModel", "isPlayer", "(I)Z"⟩ ⟨"CoalitionValuesModel", "isPlayer", "(I)Z"⟩) ∈ lw_all := lw_g (lw_at lw_ms 3 rfl) rfl
theorem qs4 : (Cond.selects "CoalitionValuesModel" ⟨"CoalitionValuesModel", "marginIn", "(II)I"⟩ ⟨"CoalitionValuesModel", "marginIn", "(II)I"⟩) ∈ lw_all := lw_g (lw_at lw_ms 4 rfl) rfl
theorem qs5 : (Cond.selects "CoalitionValuesModel" ⟨"CoalitionValuesModel", "share", "(I)I"⟩ ⟨"CoalitionValuesModel", "share", "(I)I"⟩) ∈ lw_all := lw_g (lw_at lw_ms 5 rfl) rfl
theorem qs6 : (Cond.selects "CoalitionValuesModel" ⟨"CoalitionValuesModel", "splitWorth", "(I)I"⟩ ⟨"CoalitionValuesModel", "splitWorth", "(I)I"⟩) ∈ lw_all := lw_g (lw_at lw_ms 6 rfl) rfl
end
section
/-! CoalitionValues -/
set_option maxRecDepth 100000
def RX0 : String := "CoalitionValues"
def TX0 : u_T := fun k => match k with
  | 0 => ("CoalitionValues", "worths", "[I", true)
  | 1 => ("CoalitionValues", "amount", "[I", true)
  | 2 => ("CoalitionValues", "part", "[I", true)
  | 3 => ("CoalitionValues", "moved", "[I", true)
  | _ => ("CoalitionValues", "split", "[I", true)
def tyX0 : Nat → FieldType := fun k => match k with
  | 0 => .array .int
  | 1 => .array .int
  | 2 => .array .int
  | 3 => .array .int
  | _ => .array .int
abbrev wsX00 : List Cond := u_ws RX0 TX0 5
theorem nmX0 : ∀ a, a < 5 → ∀ b, b < 5 → a ≠ b → (TX0 a).2.1 ≠ (TX0 b).2.1 := by decide +kernel
theorem tyX0_ok : ∀ k, k < 5 → parseFieldDescriptor (TX0 k).2.2.1 = some (tyX0 k) := by decide +kernel
abbrev cX0_init : ByteArray := prog_1_method_1_code
def yX0_init : MethodName := ⟨RX0, "<init>", "()V"⟩
theorem dX0_init_0 : decode cX0_init 0 = .ok (.aload_n 0, 1) := by decide +kernel
theorem dX0_init_1 : decode cX0_init 1 = .ok (.invokespecial 1, 3) := by decide +kernel
theorem dX0_init_4 : decode cX0_init 4 = .ok (.aload_n 0, 1) := by decide +kernel
theorem dX0_init_5 : decode cX0_init 5 = .ok (.bipush 32, 2) := by decide +kernel
theorem dX0_init_7 : decode cX0_init 7 = .ok (.newarray .int, 2) := by decide +kernel
theorem dX0_init_9 : decode cX0_init 9 = .ok (.putfield 7, 3) := by decide +kernel
theorem dX0_init_12 : decode cX0_init 12 = .ok (.aload_n 0, 1) := by decide +kernel
theorem dX0_init_13 : decode cX0_init 13 = .ok (.iconst 5, 1) := by decide +kernel
theorem dX0_init_14 : decode cX0_init 14 = .ok (.newarray .int, 2) := by decide +kernel
theorem dX0_init_16 : decode cX0_init 16 = .ok (.putfield 13, 3) := by decide +kernel
theorem dX0_init_19 : decode cX0_init 19 = .ok (.aload_n 0, 1) := by decide +kernel
theorem dX0_init_20 : decode cX0_init 20 = .ok (.bipush 32, 2) := by decide +kernel
theorem dX0_init_22 : decode cX0_init 22 = .ok (.newarray .int, 2) := by decide +kernel
theorem dX0_init_24 : decode cX0_init 24 = .ok (.putfield 16, 3) := by decide +kernel
theorem dX0_init_27 : decode cX0_init 27 = .ok (.aload_n 0, 1) := by decide +kernel
theorem dX0_init_28 : decode cX0_init 28 = .ok (.bipush 32, 2) := by decide +kernel
theorem dX0_init_30 : decode cX0_init 30 = .ok (.newarray .int, 2) := by decide +kernel
theorem dX0_init_32 : decode cX0_init 32 = .ok (.putfield 19, 3) := by decide +kernel
theorem dX0_init_35 : decode cX0_init 35 = .ok (.aload_n 0, 1) := by decide +kernel
theorem dX0_init_36 : decode cX0_init 36 = .ok (.bipush 32, 2) := by decide +kernel
theorem dX0_init_38 : decode cX0_init 38 = .ok (.newarray .int, 2) := by decide +kernel
theorem dX0_init_40 : decode cX0_init 40 = .ok (.putfield 22, 3) := by decide +kernel
theorem dX0_init_43 : decode cX0_init 43 = .ok (.aload_n 0, 1) := by decide +kernel
theorem dX0_init_44 : decode cX0_init 44 = .ok (.getfield 7, 3) := by decide +kernel
theorem dX0_init_47 : decode cX0_init 47 = .ok (.iconst 0, 1) := by decide +kernel
theorem dX0_init_48 : decode cX0_init 48 = .ok (.iconst 0, 1) := by decide +kernel
theorem dX0_init_49 : decode cX0_init 49 = .ok (.iastore, 1) := by decide +kernel
theorem dX0_init_50 : decode cX0_init 50 = .ok (.return_, 1) := by decide +kernel
abbrev cX0_worth : ByteArray := prog_1_method_4_code
def yX0_worth : MethodName := ⟨RX0, "worth", "(II)I"⟩
theorem dX0_worth_0 : decode cX0_worth 0 = .ok (.iload_n 1, 1) := by decide +kernel
theorem dX0_worth_1 : decode cX0_worth 1 = .ok (.invokestatic 25, 3) := by decide +kernel
theorem dX0_worth_4 : decode cX0_worth 4 = .ok (.ifCond .eq 5, 3) := by decide +kernel
theorem dX0_worth_7 : decode cX0_worth 7 = .ok (.iconst (-1), 1) := by decide +kernel
theorem dX0_worth_8 : decode cX0_worth 8 = .ok (.ireturn, 1) := by decide +kernel
theorem dX0_worth_9 : decode cX0_worth 9 = .ok (.iload_n 2, 1) := by decide +kernel
theorem dX0_worth_10 : decode cX0_worth 10 = .ok (.sipush (-1000), 3) := by decide +kernel
theorem dX0_worth_13 : decode cX0_worth 13 = .ok (.if_icmp .lt 10, 3) := by decide +kernel
theorem dX0_worth_16 : decode cX0_worth 16 = .ok (.iload_n 2, 1) := by decide +kernel
theorem dX0_worth_17 : decode cX0_worth 17 = .ok (.sipush 1000, 3) := by decide +kernel
theorem dX0_worth_20 : decode cX0_worth 20 = .ok (.if_icmp .le 6, 3) := by decide +kernel
theorem dX0_worth_23 : decode cX0_worth 23 = .ok (.bipush (-2), 2) := by decide +kernel
theorem dX0_worth_25 : decode cX0_worth 25 = .ok (.ireturn, 1) := by decide +kernel
theorem dX0_worth_26 : decode cX0_worth 26 = .ok (.aload_n 0, 1) := by decide +kernel
theorem dX0_worth_27 : decode cX0_worth 27 = .ok (.getfield 7, 3) := by decide +kernel
theorem dX0_worth_30 : decode cX0_worth 30 = .ok (.iload_n 1, 1) := by decide +kernel
theorem dX0_worth_31 : decode cX0_worth 31 = .ok (.iaload, 1) := by decide +kernel
theorem dX0_worth_32 : decode cX0_worth 32 = .ok (.istore_n 3, 1) := by decide +kernel
theorem dX0_worth_33 : decode cX0_worth 33 = .ok (.aload_n 0, 1) := by decide +kernel
theorem dX0_worth_34 : decode cX0_worth 34 = .ok (.getfield 7, 3) := by decide +kernel
theorem dX0_worth_37 : decode cX0_worth 37 = .ok (.iload_n 1, 1) := by decide +kernel
theorem dX0_worth_38 : decode cX0_worth 38 = .ok (.iload_n 2, 1) := by decide +kernel
theorem dX0_worth_39 : decode cX0_worth 39 = .ok (.iastore, 1) := by decide +kernel
theorem dX0_worth_40 : decode cX0_worth 40 = .ok (.iload_n 3, 1) := by decide +kernel
theorem dX0_worth_41 : decode cX0_worth 41 = .ok (.ireturn, 1) := by decide +kernel
abbrev cX0_badSet : ByteArray := prog_1_method_2_code
def yX0_badSet : MethodName := ⟨RX0, "badSet", "(I)Z"⟩
theorem dX0_badSet_0 : decode cX0_badSet 0 = .ok (.iload_n 0, 1) := by decide +kernel
theorem dX0_badSet_1 : decode cX0_badSet 1 = .ok (.iconst 1, 1) := by decide +kernel
theorem dX0_badSet_2 : decode cX0_badSet 2 = .ok (.if_icmp .lt 9, 3) := by decide +kernel
theorem dX0_badSet_5 : decode cX0_badSet 5 = .ok (.iload_n 0, 1) := by decide +kernel
theorem dX0_badSet_6 : decode cX0_badSet 6 = .ok (.bipush 32, 2) := by decide +kernel
theorem dX0_badSet_8 : decode cX0_badSet 8 = .ok (.if_icmp .lt 7, 3) := by decide +kernel
theorem dX0_badSet_11 : decode cX0_badSet 11 = .ok (.iconst 1, 1) := by decide +kernel
theorem dX0_badSet_12 : decode cX0_badSet 12 = .ok (.goto 4, 3) := by decide +kernel
theorem dX0_badSet_15 : decode cX0_badSet 15 = .ok (.iconst 0, 1) := by decide +kernel
theorem dX0_badSet_16 : decode cX0_badSet 16 = .ok (.ireturn, 1) := by decide +kernel
abbrev cX0_pay : ByteArray := prog_1_method_5_code
def yX0_pay : MethodName := ⟨RX0, "pay", "(II)I"⟩
theorem dX0_pay_0 : decode cX0_pay 0 = .ok (.iload_n 1, 1) := by decide +kernel
theorem dX0_pay_1 : decode cX0_pay 1 = .ok (.invokestatic 29, 3) := by decide +kernel
theorem dX0_pay_4 : decode cX0_pay 4 = .ok (.ifCond .eq 6, 3) := by decide +kernel
theorem dX0_pay_7 : decode cX0_pay 7 = .ok (.bipush (-3), 2) := by decide +kernel
theorem dX0_pay_9 : decode cX0_pay 9 = .ok (.ireturn, 1) := by decide +kernel
theorem dX0_pay_10 : decode cX0_pay 10 = .ok (.iload_n 2, 1) := by decide +kernel
theorem dX0_pay_11 : decode cX0_pay 11 = .ok (.sipush (-10000), 3) := by decide +kernel
theorem dX0_pay_14 : decode cX0_pay 14 = .ok (.if_icmp .lt 10, 3) := by decide +kernel
theorem dX0_pay_17 : decode cX0_pay 17 = .ok (.iload_n 2, 1) := by decide +kernel
theorem dX0_pay_18 : decode cX0_pay 18 = .ok (.sipush 10000, 3) := by decide +kernel
theorem dX0_pay_21 : decode cX0_pay 21 = .ok (.if_icmp .le 6, 3) := by decide +kernel
theorem dX0_pay_24 : decode cX0_pay 24 = .ok (.bipush (-2), 2) := by decide +kernel
theorem dX0_pay_26 : decode cX0_pay 26 = .ok (.ireturn, 1) := by decide +kernel
theorem dX0_pay_27 : decode cX0_pay 27 = .ok (.aload_n 0, 1) := by decide +kernel
theorem dX0_pay_28 : decode cX0_pay 28 = .ok (.getfield 13, 3) := by decide +kernel
theorem dX0_pay_31 : decode cX0_pay 31 = .ok (.iload_n 1, 1) := by decide +kernel
theorem dX0_pay_32 : decode cX0_pay 32 = .ok (.iload_n 2, 1) := by decide +kernel
theorem dX0_pay_33 : decode cX0_pay 33 = .ok (.iastore, 1) := by decide +kernel
theorem dX0_pay_34 : decode cX0_pay 34 = .ok (.iconst 0, 1) := by decide +kernel
theorem dX0_pay_35 : decode cX0_pay 35 = .ok (.ireturn, 1) := by decide +kernel
abbrev cX0_badPlayer : ByteArray := prog_1_method_3_code
def yX0_badPlayer : MethodName := ⟨RX0, "badPlayer", "(I)Z"⟩
theorem dX0_badPlayer_0 : decode cX0_badPlayer 0 = .ok (.iload_n 0, 1) := by decide +kernel
theorem dX0_badPlayer_1 : decode cX0_badPlayer 1 = .ok (.ifCond .lt 8, 3) := by decide +kernel
theorem dX0_badPlayer_4 : decode cX0_badPlayer 4 = .ok (.iload_n 0, 1) := by decide +kernel
theorem dX0_badPlayer_5 : decode cX0_badPlayer 5 = .ok (.iconst 5, 1) := by decide +kernel
theorem dX0_badPlayer_6 : decode cX0_badPlayer 6 = .ok (.if_icmp .lt 7, 3) := by decide +kernel
theorem dX0_badPlayer_9 : decode cX0_badPlayer 9 = .ok (.iconst 1, 1) := by decide +kernel
theorem dX0_badPlayer_10 : decode cX0_badPlayer 10 = .ok (.goto 4, 3) := by decide +kernel
theorem dX0_badPlayer_13 : decode cX0_badPlayer 13 = .ok (.iconst 0, 1) := by decide +kernel
theorem dX0_badPlayer_14 : decode cX0_badPlayer 14 = .ok (.ireturn, 1) := by decide +kernel
abbrev cX0_weigh : ByteArray := prog_1_method_6_code
def yX0_weigh : MethodName := ⟨RX0, "weigh", "(II)I"⟩
theorem dX0_weigh_0 : decode cX0_weigh 0 = .ok (.iload_n 2, 1) := by decide +kernel
theorem dX0_weigh_1 : decode cX0_weigh 1 = .ok (.iconst 1, 1) := by decide +kernel
theorem dX0_weigh_2 : decode cX0_weigh 2 = .ok (.if_icmp .lt 9, 3) := by decide +kernel
theorem dX0_weigh_5 : decode cX0_weigh 5 = .ok (.iload_n 2, 1) := by decide +kernel
theorem dX0_weigh_6 : decode cX0_weigh 6 = .ok (.bipush 75, 2) := by decide +kernel
theorem dX0_weigh_8 : decode cX0_weigh 8 = .ok (.if_icmp .le 6, 3) := by decide +kernel
theorem dX0_weigh_11 : decode cX0_weigh 11 = .ok (.bipush (-2), 2) := by decide +kernel
theorem dX0_weigh_13 : decode cX0_weigh 13 = .ok (.ireturn, 1) := by decide +kernel
theorem dX0_weigh_14 : decode cX0_weigh 14 = .ok (.iconst 0, 1) := by decide +kernel
theorem dX0_weigh_15 : decode cX0_weigh 15 = .ok (.istore_n 3, 1) := by decide +kernel
theorem dX0_weigh_16 : decode cX0_weigh 16 = .ok (.iconst 1, 1) := by decide +kernel
theorem dX0_weigh_17 : decode cX0_weigh 17 = .ok (.istore 4, 2) := by decide +kernel
theorem dX0_weigh_19 : decode cX0_weigh 19 = .ok (.iload 4, 2) := by decide +kernel
theorem dX0_weigh_21 : decode cX0_weigh 21 = .ok (.bipush 32, 2) := by decide +kernel
theorem dX0_weigh_23 : decode cX0_weigh 23 = .ok (.if_icmp .ge 80, 3) := by decide +kernel
theorem dX0_weigh_26 : decode cX0_weigh 26 = .ok (.iconst 0, 1) := by decide +kernel
theorem dX0_weigh_27 : decode cX0_weigh 27 = .ok (.istore 5, 2) := by decide +kernel
theorem dX0_weigh_29 : decode cX0_weigh 29 = .ok (.iconst 0, 1) := by decide +kernel
theorem dX0_weigh_30 : decode cX0_weigh 30 = .ok (.istore 6, 2) := by decide +kernel
theorem dX0_weigh_32 : decode cX0_weigh 32 = .ok (.iload 6, 2) := by decide +kernel
theorem dX0_weigh_34 : decode cX0_weigh 34 = .ok (.iconst 5, 1) := by decide +kernel
theorem dX0_weigh_35 : decode cX0_weigh 35 = .ok (.if_icmp .ge 34, 3) := by decide +kernel
theorem dX0_weigh_38 : decode cX0_weigh 38 = .ok (.iload 4, 2) := by decide +kernel
theorem dX0_weigh_40 : decode cX0_weigh 40 = .ok (.iload 6, 2) := by decide +kernel
theorem dX0_weigh_42 : decode cX0_weigh 42 = .ok (.ishr, 1) := by decide +kernel
theorem dX0_weigh_43 : decode cX0_weigh 43 = .ok (.iconst 1, 1) := by decide +kernel
theorem dX0_weigh_44 : decode cX0_weigh 44 = .ok (.iand, 1) := by decide +kernel
theorem dX0_weigh_45 : decode cX0_weigh 45 = .ok (.iconst 1, 1) := by decide +kernel
theorem dX0_weigh_46 : decode cX0_weigh 46 = .ok (.if_icmp .ne 17, 3) := by decide +kernel
theorem dX0_weigh_49 : decode cX0_weigh 49 = .ok (.iload 5, 2) := by decide +kernel
theorem dX0_weigh_51 : decode cX0_weigh 51 = .ok (.iload_n 1, 1) := by decide +kernel
theorem dX0_weigh_52 : decode cX0_weigh 52 = .ok (.iconst 4, 1) := by decide +kernel
theorem dX0_weigh_53 : decode cX0_weigh 53 = .ok (.iload 6, 2) := by decide +kernel
theorem dX0_weigh_55 : decode cX0_weigh 55 = .ok (.imul, 1) := by decide +kernel
theorem dX0_weigh_56 : decode cX0_weigh 56 = .ok (.ishr, 1) := by decide +kernel
theorem dX0_weigh_57 : decode cX0_weigh 57 = .ok (.bipush 15, 2) := by decide +kernel
theorem dX0_weigh_59 : decode cX0_weigh 59 = .ok (.iand, 1) := by decide +kernel
theorem dX0_weigh_60 : decode cX0_weigh 60 = .ok (.iadd, 1) := by decide +kernel
theorem dX0_weigh_61 : decode cX0_weigh 61 = .ok (.istore 5, 2) := by decide +kernel
theorem dX0_weigh_63 : decode cX0_weigh 63 = .ok (.iinc 6 1, 3) := by decide +kernel
theorem dX0_weigh_66 : decode cX0_weigh 66 = .ok (.goto (-34), 3) := by decide +kernel
theorem dX0_weigh_69 : decode cX0_weigh 69 = .ok (.aload_n 0, 1) := by decide +kernel
theorem dX0_weigh_70 : decode cX0_weigh 70 = .ok (.getfield 7, 3) := by decide +kernel
theorem dX0_weigh_73 : decode cX0_weigh 73 = .ok (.iload 4, 2) := by decide +kernel
theorem dX0_weigh_75 : decode cX0_weigh 75 = .ok (.iload 5, 2) := by decide +kernel
theorem dX0_weigh_77 : decode cX0_weigh 77 = .ok (.iload_n 2, 1) := by decide +kernel
theorem dX0_weigh_78 : decode cX0_weigh 78 = .ok (.if_icmp .lt 7, 3) := by decide +kernel
theorem dX0_weigh_81 : decode cX0_weigh 81 = .ok (.iconst 1, 1) := by decide +kernel
theorem dX0_weigh_82 : decode cX0_weigh 82 = .ok (.goto 4, 3) := by decide +kernel
theorem dX0_weigh_85 : decode cX0_weigh 85 = .ok (.iconst 0, 1) := by decide +kernel
theorem dX0_weigh_86 : decode cX0_weigh 86 = .ok (.iastore, 1) := by decide +kernel
theorem dX0_weigh_87 : decode cX0_weigh 87 = .ok (.iload_n 3, 1) := by decide +kernel
theorem dX0_weigh_88 : decode cX0_weigh 88 = .ok (.aload_n 0, 1) := by decide +kernel
theorem dX0_weigh_89 : decode cX0_weigh 89 = .ok (.getfield 7, 3) := by decide +kernel
theorem dX0_weigh_92 : decode cX0_weigh 92 = .ok (.iload 4, 2) := by decide +kernel
theorem dX0_weigh_94 : decode cX0_weigh 94 = .ok (.iaload, 1) := by decide +kernel
theorem dX0_weigh_95 : decode cX0_weigh 95 = .ok (.iadd, 1) := by decide +kernel
theorem dX0_weigh_96 : decode cX0_weigh 96 = .ok (.istore_n 3, 1) := by decide +kernel
theorem dX0_weigh_97 : decode cX0_weigh 97 = .ok (.iinc 4 1, 3) := by decide +kernel
theorem dX0_weigh_100 : decode cX0_weigh 100 = .ok (.goto (-81), 3) := by decide +kernel
theorem dX0_weigh_103 : decode cX0_weigh 103 = .ok (.iload_n 3, 1) := by decide +kernel
theorem dX0_weigh_104 : decode cX0_weigh 104 = .ok (.ireturn, 1) := by decide +kernel
abbrev cX0_exchange : ByteArray := prog_1_method_8_code
def yX0_exchange : MethodName := ⟨RX0, "exchange", "(II)I"⟩
theorem dX0_exchange_0 : decode cX0_exchange 0 = .ok (.iload_n 1, 1) := by decide +kernel
theorem dX0_exchange_1 : decode cX0_exchange 1 = .ok (.invokestatic 29, 3) := by decide +kernel
theorem dX0_exchange_4 : decode cX0_exchange 4 = .ok (.ifCond .ne 10, 3) := by decide +kernel
theorem dX0_exchange_7 : decode cX0_exchange 7 = .ok (.iload_n 2, 1) := by decide +kernel
theorem dX0_exchange_8 : decode cX0_exchange 8 = .ok (.invokestatic 29, 3) := by decide +kernel
theorem dX0_exchange_11 : decode cX0_exchange 11 = .ok (.ifCond .eq 6, 3) := by decide +kernel
theorem dX0_exchange_14 : decode cX0_exchange 14 = .ok (.bipush (-3), 2) := by decide +kernel
theorem dX0_exchange_16 : decode cX0_exchange 16 = .ok (.ireturn, 1) := by decide +kernel
theorem dX0_exchange_17 : decode cX0_exchange 17 = .ok (.iconst 0, 1) := by decide +kernel
theorem dX0_exchange_18 : decode cX0_exchange 18 = .ok (.istore_n 3, 1) := by decide +kernel
theorem dX0_exchange_19 : decode cX0_exchange 19 = .ok (.iload_n 3, 1) := by decide +kernel
theorem dX0_exchange_20 : decode cX0_exchange 20 = .ok (.bipush 32, 2) := by decide +kernel
theorem dX0_exchange_22 : decode cX0_exchange 22 = .ok (.if_icmp .ge 26, 3) := by decide +kernel
theorem dX0_exchange_25 : decode cX0_exchange 25 = .ok (.aload_n 0, 1) := by decide +kernel
theorem dX0_exchange_26 : decode cX0_exchange 26 = .ok (.getfield 19, 3) := by decide +kernel
theorem dX0_exchange_29 : decode cX0_exchange 29 = .ok (.iload_n 3, 1) := by decide +kernel
theorem dX0_exchange_30 : decode cX0_exchange 30 = .ok (.iload_n 1, 1) := by decide +kernel
theorem dX0_exchange_31 : decode cX0_exchange 31 = .ok (.iload_n 2, 1) := by decide +kernel
theorem dX0_exchange_32 : decode cX0_exchange 32 = .ok (.invokestatic 32, 3) := by decide +kernel
theorem dX0_exchange_35 : decode cX0_exchange 35 = .ok (.aload_n 0, 1) := by decide +kernel
theorem dX0_exchange_36 : decode cX0_exchange 36 = .ok (.getfield 7, 3) := by decide +kernel
theorem dX0_exchange_39 : decode cX0_exchange 39 = .ok (.iload_n 3, 1) := by decide +kernel
theorem dX0_exchange_40 : decode cX0_exchange 40 = .ok (.iaload, 1) := by decide +kernel
theorem dX0_exchange_41 : decode cX0_exchange 41 = .ok (.iastore, 1) := by decide +kernel
theorem dX0_exchange_42 : decode cX0_exchange 42 = .ok (.iinc 3 1, 3) := by decide +kernel
theorem dX0_exchange_45 : decode cX0_exchange 45 = .ok (.goto (-26), 3) := by decide +kernel
theorem dX0_exchange_48 : decode cX0_exchange 48 = .ok (.iconst 0, 1) := by decide +kernel
theorem dX0_exchange_49 : decode cX0_exchange 49 = .ok (.istore_n 3, 1) := by decide +kernel
theorem dX0_exchange_50 : decode cX0_exchange 50 = .ok (.iload_n 3, 1) := by decide +kernel
theorem dX0_exchange_51 : decode cX0_exchange 51 = .ok (.bipush 32, 2) := by decide +kernel
theorem dX0_exchange_53 : decode cX0_exchange 53 = .ok (.if_icmp .ge 21, 3) := by decide +kernel
theorem dX0_exchange_56 : decode cX0_exchange 56 = .ok (.aload_n 0, 1) := by decide +kernel
theorem dX0_exchange_57 : decode cX0_exchange 57 = .ok (.getfield 7, 3) := by decide +kernel
theorem dX0_exchange_60 : decode cX0_exchange 60 = .ok (.iload_n 3, 1) := by decide +kernel
theorem dX0_exchange_61 : decode cX0_exchange 61 = .ok (.aload_n 0, 1) := by decide +kernel
theorem dX0_exchange_62 : decode cX0_exchange 62 = .ok (.getfield 19, 3) := by decide +kernel
theorem dX0_exchange_65 : decode cX0_exchange 65 = .ok (.iload_n 3, 1) := by decide +kernel
theorem dX0_exchange_66 : decode cX0_exchange 66 = .ok (.iaload, 1) := by decide +kernel
theorem dX0_exchange_67 : decode cX0_exchange 67 = .ok (.iastore, 1) := by decide +kernel
theorem dX0_exchange_68 : decode cX0_exchange 68 = .ok (.iinc 3 1, 3) := by decide +kernel
theorem dX0_exchange_71 : decode cX0_exchange 71 = .ok (.goto (-21), 3) := by decide +kernel
theorem dX0_exchange_74 : decode cX0_exchange 74 = .ok (.iconst 0, 1) := by decide +kernel
theorem dX0_exchange_75 : decode cX0_exchange 75 = .ok (.ireturn, 1) := by decide +kernel
abbrev cX0_exchanged : ByteArray := prog_1_method_7_code
def yX0_exchanged : MethodName := ⟨RX0, "exchanged", "(III)I"⟩
theorem dX0_exchanged_0 : decode cX0_exchanged 0 = .ok (.iload_n 0, 1) := by decide +kernel
theorem dX0_exchanged_1 : decode cX0_exchanged 1 = .ok (.iload_n 1, 1) := by decide +kernel
theorem dX0_exchanged_2 : decode cX0_exchanged 2 = .ok (.ishr, 1) := by decide +kernel
theorem dX0_exchanged_3 : decode cX0_exchanged 3 = .ok (.iconst 1, 1) := by decide +kernel
theorem dX0_exchanged_4 : decode cX0_exchanged 4 = .ok (.iand, 1) := by decide +kernel
theorem dX0_exchanged_5 : decode cX0_exchanged 5 = .ok (.istore_n 3, 1) := by decide +kernel
theorem dX0_exchanged_6 : decode cX0_exchanged 6 = .ok (.iload_n 0, 1) := by decide +kernel
theorem dX0_exchanged_7 : decode cX0_exchanged 7 = .ok (.iload_n 2, 1) := by decide +kernel
theorem dX0_exchanged_8 : decode cX0_exchanged 8 = .ok (.ishr, 1) := by decide +kernel
theorem dX0_exchanged_9 : decode cX0_exchanged 9 = .ok (.iconst 1, 1) := by decide +kernel
theorem dX0_exchanged_10 : decode cX0_exchanged 10 = .ok (.iand, 1) := by decide +kernel
theorem dX0_exchanged_11 : decode cX0_exchanged 11 = .ok (.istore 4, 2) := by decide +kernel
theorem dX0_exchanged_13 : decode cX0_exchanged 13 = .ok (.iload_n 3, 1) := by decide +kernel
theorem dX0_exchanged_14 : decode cX0_exchanged 14 = .ok (.iload 4, 2) := by decide +kernel
theorem dX0_exchanged_16 : decode cX0_exchanged 16 = .ok (.if_icmp .ne 7, 3) := by decide +kernel
theorem dX0_exchanged_19 : decode cX0_exchanged 19 = .ok (.iload_n 0, 1) := by decide +kernel
theorem dX0_exchanged_20 : decode cX0_exchanged 20 = .ok (.goto 12, 3) := by decide +kernel
theorem dX0_exchanged_23 : decode cX0_exchanged 23 = .ok (.iload_n 0, 1) := by decide +kernel
theorem dX0_exchanged_24 : decode cX0_exchanged 24 = .ok (.iconst 1, 1) := by decide +kernel
theorem dX0_exchanged_25 : decode cX0_exchanged 25 = .ok (.iload_n 1, 1) := by decide +kernel
theorem dX0_exchanged_26 : decode cX0_exchanged 26 = .ok (.ishl, 1) := by decide +kernel
theorem dX0_exchanged_27 : decode cX0_exchanged 27 = .ok (.ixor, 1) := by decide +kernel
theorem dX0_exchanged_28 : decode cX0_exchanged 28 = .ok (.iconst 1, 1) := by decide +kernel
theorem dX0_exchanged_29 : decode cX0_exchanged 29 = .ok (.iload_n 2, 1) := by decide +kernel
theorem dX0_exchanged_30 : decode cX0_exchanged 30 = .ok (.ishl, 1) := by decide +kernel
theorem dX0_exchanged_31 : decode cX0_exchanged 31 = .ok (.ixor, 1) := by decide +kernel
theorem dX0_exchanged_32 : decode cX0_exchanged 32 = .ok (.ireturn, 1) := by decide +kernel
abbrev cX0_orderValue : ByteArray := prog_1_method_11_code
def yX0_orderValue : MethodName := ⟨RX0, "orderValue", "(I)I"⟩
theorem dX0_orderValue_0 : decode cX0_orderValue 0 = .ok (.iload_n 1, 1) := by decide +kernel
theorem dX0_orderValue_1 : decode cX0_orderValue 1 = .ok (.invokestatic 29, 3) := by decide +kernel
theorem dX0_orderValue_4 : decode cX0_orderValue 4 = .ok (.ifCond .eq 6, 3) := by decide +kernel
theorem dX0_orderValue_7 : decode cX0_orderValue 7 = .ok (.bipush (-3), 2) := by decide +kernel
theorem dX0_orderValue_9 : decode cX0_orderValue 9 = .ok (.ireturn, 1) := by decide +kernel
theorem dX0_orderValue_10 : decode cX0_orderValue 10 = .ok (.aload_n 0, 1) := by decide +kernel
theorem dX0_orderValue_11 : decode cX0_orderValue 11 = .ok (.invokevirtual 36, 3) := by decide +kernel
theorem dX0_orderValue_14 : decode cX0_orderValue 14 = .ok (.iconst 0, 1) := by decide +kernel
theorem dX0_orderValue_15 : decode cX0_orderValue 15 = .ok (.istore_n 2, 1) := by decide +kernel
theorem dX0_orderValue_16 : decode cX0_orderValue 16 = .ok (.iconst 1, 1) := by decide +kernel
theorem dX0_orderValue_17 : decode cX0_orderValue 17 = .ok (.istore_n 3, 1) := by decide +kernel
theorem dX0_orderValue_18 : decode cX0_orderValue 18 = .ok (.iload_n 3, 1) := by decide +kernel
theorem dX0_orderValue_19 : decode cX0_orderValue 19 = .ok (.bipush 32, 2) := by decide +kernel
theorem dX0_orderValue_21 : decode cX0_orderValue 21 = .ok (.if_icmp .ge 44, 3) := by decide +kernel
theorem dX0_orderValue_24 : decode cX0_orderValue 24 = .ok (.iload_n 3, 1) := by decide +kernel
theorem dX0_orderValue_25 : decode cX0_orderValue 25 = .ok (.invokestatic 39, 3) := by decide +kernel
theorem dX0_orderValue_28 : decode cX0_orderValue 28 = .ok (.istore 4, 2) := by decide +kernel
theorem dX0_orderValue_30 : decode cX0_orderValue 30 = .ok (.iload_n 3, 1) := by decide +kernel
theorem dX0_orderValue_31 : decode cX0_orderValue 31 = .ok (.iload_n 1, 1) := by decide +kernel
theorem dX0_orderValue_32 : decode cX0_orderValue 32 = .ok (.ishr, 1) := by decide +kernel
theorem dX0_orderValue_33 : decode cX0_orderValue 33 = .ok (.iconst 1, 1) := by decide +kernel
theorem dX0_orderValue_34 : decode cX0_orderValue 34 = .ok (.iand, 1) := by decide +kernel
theorem dX0_orderValue_35 : decode cX0_orderValue 35 = .ok (.iconst 1, 1) := by decide +kernel
theorem dX0_orderValue_36 : decode cX0_orderValue 36 = .ok (.if_icmp .ne 23, 3) := by decide +kernel
theorem dX0_orderValue_39 : decode cX0_orderValue 39 = .ok (.iload 4, 2) := by decide +kernel
theorem dX0_orderValue_41 : decode cX0_orderValue 41 = .ok (.ifCond .le 18, 3) := by decide +kernel
theorem dX0_orderValue_44 : decode cX0_orderValue 44 = .ok (.iload_n 2, 1) := by decide +kernel
theorem dX0_orderValue_45 : decode cX0_orderValue 45 = .ok (.aload_n 0, 1) := by decide +kernel
theorem dX0_orderValue_46 : decode cX0_orderValue 46 = .ok (.getfield 16, 3) := by decide +kernel
theorem dX0_orderValue_49 : decode cX0_orderValue 49 = .ok (.iload_n 3, 1) := by decide +kernel
theorem dX0_orderValue_50 : decode cX0_orderValue 50 = .ok (.iaload, 1) := by decide +kernel
theorem dX0_orderValue_51 : decode cX0_orderValue 51 = .ok (.bipush 120, 2) := by decide +kernel
theorem dX0_orderValue_53 : decode cX0_orderValue 53 = .ok (.iload 4, 2) := by decide +kernel
theorem dX0_orderValue_55 : decode cX0_orderValue 55 = .ok (.idiv, 1) := by decide +kernel
theorem dX0_orderValue_56 : decode cX0_orderValue 56 = .ok (.imul, 1) := by decide +kernel
theorem dX0_orderValue_57 : decode cX0_orderValue 57 = .ok (.iadd, 1) := by decide +kernel
theorem dX0_orderValue_58 : decode cX0_orderValue 58 = .ok (.istore_n 2, 1) := by decide +kernel
theorem dX0_orderValue_59 : decode cX0_orderValue 59 = .ok (.iinc 3 1, 3) := by decide +kernel
theorem dX0_orderValue_62 : decode cX0_orderValue 62 = .ok (.goto (-44), 3) := by decide +kernel
theorem dX0_orderValue_65 : decode cX0_orderValue 65 = .ok (.iload_n 2, 1) := by decide +kernel
theorem dX0_orderValue_66 : decode cX0_orderValue 66 = .ok (.ireturn, 1) := by decide +kernel
abbrev cX0_findParts : ByteArray := prog_1_method_9_code
def yX0_findParts : MethodName := ⟨RX0, "findParts", "()V"⟩
theorem dX0_findParts_0 : decode cX0_findParts 0 = .ok (.iconst 0, 1) := by decide +kernel
theorem dX0_findParts_1 : decode cX0_findParts 1 = .ok (.istore_n 1, 1) := by decide +kernel
theorem dX0_findParts_2 : decode cX0_findParts 2 = .ok (.iload_n 1, 1) := by decide +kernel
theorem dX0_findParts_3 : decode cX0_findParts 3 = .ok (.bipush 32, 2) := by decide +kernel
theorem dX0_findParts_5 : decode cX0_findParts 5 = .ok (.if_icmp .ge 21, 3) := by decide +kernel
theorem dX0_findParts_8 : decode cX0_findParts 8 = .ok (.aload_n 0, 1) := by decide +kernel
theorem dX0_findParts_9 : decode cX0_findParts 9 = .ok (.getfield 16, 3) := by decide +kernel
theorem dX0_findParts_12 : decode cX0_findParts 12 = .ok (.iload_n 1, 1) := by decide +kernel
theorem dX0_findParts_13 : decode cX0_findParts 13 = .ok (.aload_n 0, 1) := by decide +kernel
theorem dX0_findParts_14 : decode cX0_findParts 14 = .ok (.getfield 7, 3) := by decide +kernel
theorem dX0_findParts_17 : decode cX0_findParts 17 = .ok (.iload_n 1, 1) := by decide +kernel
theorem dX0_findParts_18 : decode cX0_findParts 18 = .ok (.iaload, 1) := by decide +kernel
theorem dX0_findParts_19 : decode cX0_findParts 19 = .ok (.iastore, 1) := by decide +kernel
theorem dX0_findParts_20 : decode cX0_findParts 20 = .ok (.iinc 1 1, 3) := by decide +kernel
theorem dX0_findParts_23 : decode cX0_findParts 23 = .ok (.goto (-21), 3) := by decide +kernel
theorem dX0_findParts_26 : decode cX0_findParts 26 = .ok (.iconst 0, 1) := by decide +kernel
theorem dX0_findParts_27 : decode cX0_findParts 27 = .ok (.istore_n 1, 1) := by decide +kernel
theorem dX0_findParts_28 : decode cX0_findParts 28 = .ok (.iload_n 1, 1) := by decide +kernel
theorem dX0_findParts_29 : decode cX0_findParts 29 = .ok (.iconst 5, 1) := by decide +kernel
theorem dX0_findParts_30 : decode cX0_findParts 30 = .ok (.if_icmp .ge 51, 3) := by decide +kernel
theorem dX0_findParts_33 : decode cX0_findParts 33 = .ok (.iconst 0, 1) := by decide +kernel
theorem dX0_findParts_34 : decode cX0_findParts 34 = .ok (.istore_n 2, 1) := by decide +kernel
theorem dX0_findParts_35 : decode cX0_findParts 35 = .ok (.iload_n 2, 1) := by decide +kernel
theorem dX0_findParts_36 : decode cX0_findParts 36 = .ok (.bipush 32, 2) := by decide +kernel
theorem dX0_findParts_38 : decode cX0_findParts 38 = .ok (.if_icmp .ge 37, 3) := by decide +kernel
theorem dX0_findParts_41 : decode cX0_findParts 41 = .ok (.iload_n 2, 1) := by decide +kernel
theorem dX0_findParts_42 : decode cX0_findParts 42 = .ok (.iload_n 1, 1) := by decide +kernel
theorem dX0_findParts_43 : decode cX0_findParts 43 = .ok (.ishr, 1) := by decide +kernel
theorem dX0_findParts_44 : decode cX0_findParts 44 = .ok (.iconst 1, 1) := by decide +kernel
theorem dX0_findParts_45 : decode cX0_findParts 45 = .ok (.iand, 1) := by decide +kernel
theorem dX0_findParts_46 : decode cX0_findParts 46 = .ok (.iconst 1, 1) := by decide +kernel
theorem dX0_findParts_47 : decode cX0_findParts 47 = .ok (.if_icmp .ne 22, 3) := by decide +kernel
theorem dX0_findParts_50 : decode cX0_findParts 50 = .ok (.aload_n 0, 1) := by decide +kernel
theorem dX0_findParts_51 : decode cX0_findParts 51 = .ok (.getfield 16, 3) := by decide +kernel
theorem dX0_findParts_54 : decode cX0_findParts 54 = .ok (.iload_n 2, 1) := by decide +kernel
theorem dX0_findParts_55 : decode cX0_findParts 55 = .ok (.dup2, 1) := by decide +kernel
theorem dX0_findParts_56 : decode cX0_findParts 56 = .ok (.iaload, 1) := by decide +kernel
theorem dX0_findParts_57 : decode cX0_findParts 57 = .ok (.aload_n 0, 1) := by decide +kernel
theorem dX0_findParts_58 : decode cX0_findParts 58 = .ok (.getfield 16, 3) := by decide +kernel
theorem dX0_findParts_61 : decode cX0_findParts 61 = .ok (.iload_n 2, 1) := by decide +kernel
theorem dX0_findParts_62 : decode cX0_findParts 62 = .ok (.iconst 1, 1) := by decide +kernel
theorem dX0_findParts_63 : decode cX0_findParts 63 = .ok (.iload_n 1, 1) := by decide +kernel
theorem dX0_findParts_64 : decode cX0_findParts 64 = .ok (.ishl, 1) := by decide +kernel
theorem dX0_findParts_65 : decode cX0_findParts 65 = .ok (.ixor, 1) := by decide +kernel
theorem dX0_findParts_66 : decode cX0_findParts 66 = .ok (.iaload, 1) := by decide +kernel
theorem dX0_findParts_67 : decode cX0_findParts 67 = .ok (.isub, 1) := by decide +kernel
theorem dX0_findParts_68 : decode cX0_findParts 68 = .ok (.iastore, 1) := by decide +kernel
theorem dX0_findParts_69 : decode cX0_findParts 69 = .ok (.iinc 2 1, 3) := by decide +kernel
theorem dX0_findParts_72 : decode cX0_findParts 72 = .ok (.goto (-37), 3) := by decide +kernel
theorem dX0_findParts_75 : decode cX0_findParts 75 = .ok (.iinc 1 1, 3) := by decide +kernel
theorem dX0_findParts_78 : decode cX0_findParts 78 = .ok (.goto (-50), 3) := by decide +kernel
theorem dX0_findParts_81 : decode cX0_findParts 81 = .ok (.return_, 1) := by decide +kernel
abbrev cX0_size : ByteArray := prog_1_method_10_code
def yX0_size : MethodName := ⟨RX0, "size", "(I)I"⟩
theorem dX0_size_0 : decode cX0_size 0 = .ok (.iconst 0, 1) := by decide +kernel
theorem dX0_size_1 : decode cX0_size 1 = .ok (.istore_n 1, 1) := by decide +kernel
theorem dX0_size_2 : decode cX0_size 2 = .ok (.iconst 0, 1) := by decide +kernel
theorem dX0_size_3 : decode cX0_size 3 = .ok (.istore_n 2, 1) := by decide +kernel
theorem dX0_size_4 : decode cX0_size 4 = .ok (.iload_n 2, 1) := by decide +kernel
theorem dX0_size_5 : decode cX0_size 5 = .ok (.iconst 5, 1) := by decide +kernel
theorem dX0_size_6 : decode cX0_size 6 = .ok (.if_icmp .ge 17, 3) := by decide +kernel
theorem dX0_size_9 : decode cX0_size 9 = .ok (.iload_n 1, 1) := by decide +kernel
theorem dX0_size_10 : decode cX0_size 10 = .ok (.iload_n 0, 1) := by decide +kernel
theorem dX0_size_11 : decode cX0_size 11 = .ok (.iload_n 2, 1) := by decide +kernel
theorem dX0_size_12 : decode cX0_size 12 = .ok (.ishr, 1) := by decide +kernel
theorem dX0_size_13 : decode cX0_size 13 = .ok (.iconst 1, 1) := by decide +kernel
theorem dX0_size_14 : decode cX0_size 14 = .ok (.iand, 1) := by decide +kernel
theorem dX0_size_15 : decode cX0_size 15 = .ok (.iadd, 1) := by decide +kernel
theorem dX0_size_16 : decode cX0_size 16 = .ok (.istore_n 1, 1) := by decide +kernel
theorem dX0_size_17 : decode cX0_size 17 = .ok (.iinc 2 1, 3) := by decide +kernel
theorem dX0_size_20 : decode cX0_size 20 = .ok (.goto (-16), 3) := by decide +kernel
theorem dX0_size_23 : decode cX0_size 23 = .ok (.iload_n 1, 1) := by decide +kernel
theorem dX0_size_24 : decode cX0_size 24 = .ok (.ireturn, 1) := by decide +kernel
abbrev cX0_swingValue : ByteArray := prog_1_method_12_code
def yX0_swingValue : MethodName := ⟨RX0, "swingValue", "(I)I"⟩
theorem dX0_swingValue_0 : decode cX0_swingValue 0 = .ok (.iload_n 1, 1) := by decide +kernel
theorem dX0_swingValue_1 : decode cX0_swingValue 1 = .ok (.invokestatic 29, 3) := by decide +kernel
theorem dX0_swingValue_4 : decode cX0_swingValue 4 = .ok (.ifCond .eq 6, 3) := by decide +kernel
theorem dX0_swingValue_7 : decode cX0_swingValue 7 = .ok (.bipush (-3), 2) := by decide +kernel
theorem dX0_swingValue_9 : decode cX0_swingValue 9 = .ok (.ireturn, 1) := by decide +kernel
theorem dX0_swingValue_10 : decode cX0_swingValue 10 = .ok (.aload_n 0, 1) := by decide +kernel
theorem dX0_swingValue_11 : decode cX0_swingValue 11 = .ok (.invokevirtual 36, 3) := by decide +kernel
theorem dX0_swingValue_14 : decode cX0_swingValue 14 = .ok (.iconst 0, 1) := by decide +kernel
theorem dX0_swingValue_15 : decode cX0_swingValue 15 = .ok (.istore_n 2, 1) := by decide +kernel
theorem dX0_swingValue_16 : decode cX0_swingValue 16 = .ok (.iconst 1, 1) := by decide +kernel
theorem dX0_swingValue_17 : decode cX0_swingValue 17 = .ok (.istore_n 3, 1) := by decide +kernel
theorem dX0_swingValue_18 : decode cX0_swingValue 18 = .ok (.iload_n 3, 1) := by decide +kernel
theorem dX0_swingValue_19 : decode cX0_swingValue 19 = .ok (.bipush 32, 2) := by decide +kernel
theorem dX0_swingValue_21 : decode cX0_swingValue 21 = .ok (.if_icmp .ge 40, 3) := by decide +kernel
theorem dX0_swingValue_24 : decode cX0_swingValue 24 = .ok (.iload_n 3, 1) := by decide +kernel
theorem dX0_swingValue_25 : decode cX0_swingValue 25 = .ok (.invokestatic 39, 3) := by decide +kernel
theorem dX0_swingValue_28 : decode cX0_swingValue 28 = .ok (.istore 4, 2) := by decide +kernel
theorem dX0_swingValue_30 : decode cX0_swingValue 30 = .ok (.iload_n 3, 1) := by decide +kernel
theorem dX0_swingValue_31 : decode cX0_swingValue 31 = .ok (.iload_n 1, 1) := by decide +kernel
theorem dX0_swingValue_32 : decode cX0_swingValue 32 = .ok (.ishr, 1) := by decide +kernel
theorem dX0_swingValue_33 : decode cX0_swingValue 33 = .ok (.iconst 1, 1) := by decide +kernel
theorem dX0_swingValue_34 : decode cX0_swingValue 34 = .ok (.iand, 1) := by decide +kernel
theorem dX0_swingValue_35 : decode cX0_swingValue 35 = .ok (.iconst 1, 1) := by decide +kernel
theorem dX0_swingValue_36 : decode cX0_swingValue 36 = .ok (.if_icmp .ne 19, 3) := by decide +kernel
theorem dX0_swingValue_39 : decode cX0_swingValue 39 = .ok (.iload_n 2, 1) := by decide +kernel
theorem dX0_swingValue_40 : decode cX0_swingValue 40 = .ok (.aload_n 0, 1) := by decide +kernel
theorem dX0_swingValue_41 : decode cX0_swingValue 41 = .ok (.getfield 16, 3) := by decide +kernel
theorem dX0_swingValue_44 : decode cX0_swingValue 44 = .ok (.iload_n 3, 1) := by decide +kernel
theorem dX0_swingValue_45 : decode cX0_swingValue 45 = .ok (.iaload, 1) := by decide +kernel
theorem dX0_swingValue_46 : decode cX0_swingValue 46 = .ok (.iconst 1, 1) := by decide +kernel
theorem dX0_swingValue_47 : decode cX0_swingValue 47 = .ok (.iconst 5, 1) := by decide +kernel
theorem dX0_swingValue_48 : decode cX0_swingValue 48 = .ok (.iload 4, 2) := by decide +kernel
theorem dX0_swingValue_50 : decode cX0_swingValue 50 = .ok (.isub, 1) := by decide +kernel
theorem dX0_swingValue_51 : decode cX0_swingValue 51 = .ok (.ishl, 1) := by decide +kernel
theorem dX0_swingValue_52 : decode cX0_swingValue 52 = .ok (.imul, 1) := by decide +kernel
theorem dX0_swingValue_53 : decode cX0_swingValue 53 = .ok (.iadd, 1) := by decide +kernel
theorem dX0_swingValue_54 : decode cX0_swingValue 54 = .ok (.istore_n 2, 1) := by decide +kernel
theorem dX0_swingValue_55 : decode cX0_swingValue 55 = .ok (.iinc 3 1, 3) := by decide +kernel
theorem dX0_swingValue_58 : decode cX0_swingValue 58 = .ok (.goto (-40), 3) := by decide +kernel
theorem dX0_swingValue_61 : decode cX0_swingValue 61 = .ok (.iload_n 2, 1) := by decide +kernel
theorem dX0_swingValue_62 : decode cX0_swingValue 62 = .ok (.ireturn, 1) := by decide +kernel
abbrev cX0_own : ByteArray := prog_1_method_13_code
def yX0_own : MethodName := ⟨RX0, "own", "(I)I"⟩
theorem dX0_own_0 : decode cX0_own 0 = .ok (.iload_n 1, 1) := by decide +kernel
theorem dX0_own_1 : decode cX0_own 1 = .ok (.invokestatic 25, 3) := by decide +kernel
theorem dX0_own_4 : decode cX0_own 4 = .ok (.ifCond .eq 5, 3) := by decide +kernel
theorem dX0_own_7 : decode cX0_own 7 = .ok (.iconst (-1), 1) := by decide +kernel
theorem dX0_own_8 : decode cX0_own 8 = .ok (.ireturn, 1) := by decide +kernel
theorem dX0_own_9 : decode cX0_own 9 = .ok (.aload_n 0, 1) := by decide +kernel
theorem dX0_own_10 : decode cX0_own 10 = .ok (.invokevirtual 36, 3) := by decide +kernel
theorem dX0_own_13 : decode cX0_own 13 = .ok (.aload_n 0, 1) := by decide +kernel
theorem dX0_own_14 : decode cX0_own 14 = .ok (.getfield 16, 3) := by decide +kernel
theorem dX0_own_17 : decode cX0_own 17 = .ok (.iload_n 1, 1) := by decide +kernel
theorem dX0_own_18 : decode cX0_own 18 = .ok (.iaload, 1) := by decide +kernel
theorem dX0_own_19 : decode cX0_own 19 = .ok (.ireturn, 1) := by decide +kernel
abbrev cX0_complaint : ByteArray := prog_1_method_15_code
def yX0_complaint : MethodName := ⟨RX0, "complaint", "()I"⟩
theorem dX0_complaint_0 : decode cX0_complaint 0 = .ok (.iconst 0, 1) := by decide +kernel
theorem dX0_complaint_1 : decode cX0_complaint 1 = .ok (.istore_n 1, 1) := by decide +kernel
theorem dX0_complaint_2 : decode cX0_complaint 2 = .ok (.iconst 1, 1) := by decide +kernel
theorem dX0_complaint_3 : decode cX0_complaint 3 = .ok (.istore_n 2, 1) := by decide +kernel
theorem dX0_complaint_4 : decode cX0_complaint 4 = .ok (.iload_n 2, 1) := by decide +kernel
theorem dX0_complaint_5 : decode cX0_complaint 5 = .ok (.bipush 31, 2) := by decide +kernel
theorem dX0_complaint_7 : decode cX0_complaint 7 = .ok (.if_icmp .ge 41, 3) := by decide +kernel
theorem dX0_complaint_10 : decode cX0_complaint 10 = .ok (.aload_n 0, 1) := by decide +kernel
theorem dX0_complaint_11 : decode cX0_complaint 11 = .ok (.iload_n 2, 1) := by decide +kernel
theorem dX0_complaint_12 : decode cX0_complaint 12 = .ok (.invokevirtual 43, 3) := by decide +kernel
theorem dX0_complaint_15 : decode cX0_complaint 15 = .ok (.istore_n 3, 1) := by decide +kernel
theorem dX0_complaint_16 : decode cX0_complaint 16 = .ok (.iload_n 2, 1) := by decide +kernel
theorem dX0_complaint_17 : decode cX0_complaint 17 = .ok (.iconst 1, 1) := by decide +kernel
theorem dX0_complaint_18 : decode cX0_complaint 18 = .ok (.if_icmp .eq 15, 3) := by decide +kernel
theorem dX0_complaint_21 : decode cX0_complaint 21 = .ok (.aload_n 0, 1) := by decide +kernel
theorem dX0_complaint_22 : decode cX0_complaint 22 = .ok (.getfield 7, 3) := by decide +kernel
theorem dX0_complaint_25 : decode cX0_complaint 25 = .ok (.iload_n 2, 1) := by decide +kernel
theorem dX0_complaint_26 : decode cX0_complaint 26 = .ok (.iaload, 1) := by decide +kernel
theorem dX0_complaint_27 : decode cX0_complaint 27 = .ok (.iload_n 3, 1) := by decide +kernel
theorem dX0_complaint_28 : decode cX0_complaint 28 = .ok (.isub, 1) := by decide +kernel
theorem dX0_complaint_29 : decode cX0_complaint 29 = .ok (.iload_n 1, 1) := by decide +kernel
theorem dX0_complaint_30 : decode cX0_complaint 30 = .ok (.if_icmp .le 12, 3) := by decide +kernel
theorem dX0_complaint_33 : decode cX0_complaint 33 = .ok (.aload_n 0, 1) := by decide +kernel
theorem dX0_complaint_34 : decode cX0_complaint 34 = .ok (.getfield 7, 3) := by decide +kernel
theorem dX0_complaint_37 : decode cX0_complaint 37 = .ok (.iload_n 2, 1) := by decide +kernel
theorem dX0_complaint_38 : decode cX0_complaint 38 = .ok (.iaload, 1) := by decide +kernel
theorem dX0_complaint_39 : decode cX0_complaint 39 = .ok (.iload_n 3, 1) := by decide +kernel
theorem dX0_complaint_40 : decode cX0_complaint 40 = .ok (.isub, 1) := by decide +kernel
theorem dX0_complaint_41 : decode cX0_complaint 41 = .ok (.istore_n 1, 1) := by decide +kernel
theorem dX0_complaint_42 : decode cX0_complaint 42 = .ok (.iinc 2 1, 3) := by decide +kernel
theorem dX0_complaint_45 : decode cX0_complaint 45 = .ok (.goto (-41), 3) := by decide +kernel
theorem dX0_complaint_48 : decode cX0_complaint 48 = .ok (.iload_n 1, 1) := by decide +kernel
theorem dX0_complaint_49 : decode cX0_complaint 49 = .ok (.ireturn, 1) := by decide +kernel
abbrev cX0_shareOf : ByteArray := prog_1_method_14_code
def yX0_shareOf : MethodName := ⟨RX0, "shareOf", "(I)I"⟩
theorem dX0_shareOf_0 : decode cX0_shareOf 0 = .ok (.iconst 0, 1) := by decide +kernel
theorem dX0_shareOf_1 : decode cX0_shareOf 1 = .ok (.istore_n 2, 1) := by decide +kernel
theorem dX0_shareOf_2 : decode cX0_shareOf 2 = .ok (.iconst 0, 1) := by decide +kernel
theorem dX0_shareOf_3 : decode cX0_shareOf 3 = .ok (.istore_n 3, 1) := by decide +kernel
theorem dX0_shareOf_4 : decode cX0_shareOf 4 = .ok (.iload_n 3, 1) := by decide +kernel
theorem dX0_shareOf_5 : decode cX0_shareOf 5 = .ok (.iconst 5, 1) := by decide +kernel
theorem dX0_shareOf_6 : decode cX0_shareOf 6 = .ok (.if_icmp .ge 27, 3) := by decide +kernel
theorem dX0_shareOf_9 : decode cX0_shareOf 9 = .ok (.iload_n 1, 1) := by decide +kernel
theorem dX0_shareOf_10 : decode cX0_shareOf 10 = .ok (.iload_n 3, 1) := by decide +kernel
theorem dX0_shareOf_11 : decode cX0_shareOf 11 = .ok (.ishr, 1) := by decide +kernel
theorem dX0_shareOf_12 : decode cX0_shareOf 12 = .ok (.iconst 1, 1) := by decide +kernel
theorem dX0_shareOf_13 : decode cX0_shareOf 13 = .ok (.iand, 1) := by decide +kernel
theorem dX0_shareOf_14 : decode cX0_shareOf 14 = .ok (.iconst 1, 1) := by decide +kernel
theorem dX0_shareOf_15 : decode cX0_shareOf 15 = .ok (.if_icmp .ne 12, 3) := by decide +kernel
theorem dX0_shareOf_18 : decode cX0_shareOf 18 = .ok (.iload_n 2, 1) := by decide +kernel
theorem dX0_shareOf_19 : decode cX0_shareOf 19 = .ok (.aload_n 0, 1) := by decide +kernel
theorem dX0_shareOf_20 : decode cX0_shareOf 20 = .ok (.getfield 13, 3) := by decide +kernel
theorem dX0_shareOf_23 : decode cX0_shareOf 23 = .ok (.iload_n 3, 1) := by decide +kernel
theorem dX0_shareOf_24 : decode cX0_shareOf 24 = .ok (.iaload, 1) := by decide +kernel
theorem dX0_shareOf_25 : decode cX0_shareOf 25 = .ok (.iadd, 1) := by decide +kernel
theorem dX0_shareOf_26 : decode cX0_shareOf 26 = .ok (.istore_n 2, 1) := by decide +kernel
theorem dX0_shareOf_27 : decode cX0_shareOf 27 = .ok (.iinc 3 1, 3) := by decide +kernel
theorem dX0_shareOf_30 : decode cX0_shareOf 30 = .ok (.goto (-26), 3) := by decide +kernel
theorem dX0_shareOf_33 : decode cX0_shareOf 33 = .ok (.iload_n 2, 1) := by decide +kernel
theorem dX0_shareOf_34 : decode cX0_shareOf 34 = .ok (.ireturn, 1) := by decide +kernel
abbrev cX0_inCore : ByteArray := prog_1_method_16_code
def yX0_inCore : MethodName := ⟨RX0, "inCore", "()Z"⟩
theorem dX0_inCore_0 : decode cX0_inCore 0 = .ok (.aload_n 0, 1) := by decide +kernel
theorem dX0_inCore_1 : decode cX0_inCore 1 = .ok (.bipush 31, 2) := by decide +kernel
theorem dX0_inCore_3 : decode cX0_inCore 3 = .ok (.invokevirtual 43, 3) := by decide +kernel
theorem dX0_inCore_6 : decode cX0_inCore 6 = .ok (.istore_n 1, 1) := by decide +kernel
theorem dX0_inCore_7 : decode cX0_inCore 7 = .ok (.aload_n 0, 1) := by decide +kernel
theorem dX0_inCore_8 : decode cX0_inCore 8 = .ok (.invokevirtual 46, 3) := by decide +kernel
theorem dX0_inCore_11 : decode cX0_inCore 11 = .ok (.istore_n 2, 1) := by decide +kernel
theorem dX0_inCore_12 : decode cX0_inCore 12 = .ok (.iload_n 1, 1) := by decide +kernel
theorem dX0_inCore_13 : decode cX0_inCore 13 = .ok (.aload_n 0, 1) := by decide +kernel
theorem dX0_inCore_14 : decode cX0_inCore 14 = .ok (.getfield 7, 3) := by decide +kernel
theorem dX0_inCore_17 : decode cX0_inCore 17 = .ok (.bipush 31, 2) := by decide +kernel
theorem dX0_inCore_19 : decode cX0_inCore 19 = .ok (.iaload, 1) := by decide +kernel
theorem dX0_inCore_20 : decode cX0_inCore 20 = .ok (.if_icmp .ne 11, 3) := by decide +kernel
theorem dX0_inCore_23 : decode cX0_inCore 23 = .ok (.iload_n 2, 1) := by decide +kernel
theorem dX0_inCore_24 : decode cX0_inCore 24 = .ok (.ifCond .gt 7, 3) := by decide +kernel
theorem dX0_inCore_27 : decode cX0_inCore 27 = .ok (.iconst 1, 1) := by decide +kernel
theorem dX0_inCore_28 : decode cX0_inCore 28 = .ok (.goto 4, 3) := by decide +kernel
theorem dX0_inCore_31 : decode cX0_inCore 31 = .ok (.iconst 0, 1) := by decide +kernel
theorem dX0_inCore_32 : decode cX0_inCore 32 = .ok (.ireturn, 1) := by decide +kernel
abbrev cX0_convex : ByteArray := prog_1_method_18_code
def yX0_convex : MethodName := ⟨RX0, "convex", "()Z"⟩
theorem dX0_convex_0 : decode cX0_convex 0 = .ok (.iconst 0, 1) := by decide +kernel
theorem dX0_convex_1 : decode cX0_convex 1 = .ok (.istore_n 1, 1) := by decide +kernel
theorem dX0_convex_2 : decode cX0_convex 2 = .ok (.iload_n 1, 1) := by decide +kernel
theorem dX0_convex_3 : decode cX0_convex 3 = .ok (.iconst 5, 1) := by decide +kernel
theorem dX0_convex_4 : decode cX0_convex 4 = .ok (.if_icmp .ge 37, 3) := by decide +kernel
theorem dX0_convex_7 : decode cX0_convex 7 = .ok (.iload_n 1, 1) := by decide +kernel
theorem dX0_convex_8 : decode cX0_convex 8 = .ok (.iconst 1, 1) := by decide +kernel
theorem dX0_convex_9 : decode cX0_convex 9 = .ok (.iadd, 1) := by decide +kernel
theorem dX0_convex_10 : decode cX0_convex 10 = .ok (.istore_n 2, 1) := by decide +kernel
theorem dX0_convex_11 : decode cX0_convex 11 = .ok (.iload_n 2, 1) := by decide +kernel
theorem dX0_convex_12 : decode cX0_convex 12 = .ok (.iconst 5, 1) := by decide +kernel
theorem dX0_convex_13 : decode cX0_convex 13 = .ok (.if_icmp .ge 22, 3) := by decide +kernel
theorem dX0_convex_16 : decode cX0_convex 16 = .ok (.aload_n 0, 1) := by decide +kernel
theorem dX0_convex_17 : decode cX0_convex 17 = .ok (.iload_n 1, 1) := by decide +kernel
theorem dX0_convex_18 : decode cX0_convex 18 = .ok (.iload_n 2, 1) := by decide +kernel
theorem dX0_convex_19 : decode cX0_convex 19 = .ok (.invokevirtual 50, 3) := by decide +kernel
theorem dX0_convex_22 : decode cX0_convex 22 = .ok (.istore_n 3, 1) := by decide +kernel
theorem dX0_convex_23 : decode cX0_convex 23 = .ok (.iload_n 3, 1) := by decide +kernel
theorem dX0_convex_24 : decode cX0_convex 24 = .ok (.ifCond .ne 5, 3) := by decide +kernel
theorem dX0_convex_27 : decode cX0_convex 27 = .ok (.iconst 0, 1) := by decide +kernel
theorem dX0_convex_28 : decode cX0_convex 28 = .ok (.ireturn, 1) := by decide +kernel
theorem dX0_convex_29 : decode cX0_convex 29 = .ok (.iinc 2 1, 3) := by decide +kernel
theorem dX0_convex_32 : decode cX0_convex 32 = .ok (.goto (-21), 3) := by decide +kernel
theorem dX0_convex_35 : decode cX0_convex 35 = .ok (.iinc 1 1, 3) := by decide +kernel
theorem dX0_convex_38 : decode cX0_convex 38 = .ok (.goto (-36), 3) := by decide +kernel
theorem dX0_convex_41 : decode cX0_convex 41 = .ok (.iconst 1, 1) := by decide +kernel
theorem dX0_convex_42 : decode cX0_convex 42 = .ok (.ireturn, 1) := by decide +kernel
abbrev cX0_pairGains : ByteArray := prog_1_method_17_code
def yX0_pairGains : MethodName := ⟨RX0, "pairGains", "(II)Z"⟩
theorem dX0_pairGains_0 : decode cX0_pairGains 0 = .ok (.iconst 1, 1) := by decide +kernel
theorem dX0_pairGains_1 : decode cX0_pairGains 1 = .ok (.iload_n 1, 1) := by decide +kernel
theorem dX0_pairGains_2 : decode cX0_pairGains 2 = .ok (.ishl, 1) := by decide +kernel
theorem dX0_pairGains_3 : decode cX0_pairGains 3 = .ok (.istore_n 3, 1) := by decide +kernel
theorem dX0_pairGains_4 : decode cX0_pairGains 4 = .ok (.iconst 1, 1) := by decide +kernel
theorem dX0_pairGains_5 : decode cX0_pairGains 5 = .ok (.iload_n 2, 1) := by decide +kernel
theorem dX0_pairGains_6 : decode cX0_pairGains 6 = .ok (.ishl, 1) := by decide +kernel
theorem dX0_pairGains_7 : decode cX0_pairGains 7 = .ok (.istore 4, 2) := by decide +kernel
theorem dX0_pairGains_9 : decode cX0_pairGains 9 = .ok (.iconst 0, 1) := by decide +kernel
theorem dX0_pairGains_10 : decode cX0_pairGains 10 = .ok (.istore 5, 2) := by decide +kernel
theorem dX0_pairGains_12 : decode cX0_pairGains 12 = .ok (.iload 5, 2) := by decide +kernel
theorem dX0_pairGains_14 : decode cX0_pairGains 14 = .ok (.bipush 32, 2) := by decide +kernel
theorem dX0_pairGains_16 : decode cX0_pairGains 16 = .ok (.if_icmp .ge 64, 3) := by decide +kernel
theorem dX0_pairGains_19 : decode cX0_pairGains 19 = .ok (.iload 5, 2) := by decide +kernel
theorem dX0_pairGains_21 : decode cX0_pairGains 21 = .ok (.iload_n 3, 1) := by decide +kernel
theorem dX0_pairGains_22 : decode cX0_pairGains 22 = .ok (.iload 4, 2) := by decide +kernel
theorem dX0_pairGains_24 : decode cX0_pairGains 24 = .ok (.ior, 1) := by decide +kernel
theorem dX0_pairGains_25 : decode cX0_pairGains 25 = .ok (.iand, 1) := by decide +kernel
theorem dX0_pairGains_26 : decode cX0_pairGains 26 = .ok (.ifCond .ne 48, 3) := by decide +kernel
theorem dX0_pairGains_29 : decode cX0_pairGains 29 = .ok (.aload_n 0, 1) := by decide +kernel
theorem dX0_pairGains_30 : decode cX0_pairGains 30 = .ok (.getfield 7, 3) := by decide +kernel
theorem dX0_pairGains_33 : decode cX0_pairGains 33 = .ok (.iload 5, 2) := by decide +kernel
theorem dX0_pairGains_35 : decode cX0_pairGains 35 = .ok (.iload_n 3, 1) := by decide +kernel
theorem dX0_pairGains_36 : decode cX0_pairGains 36 = .ok (.ior, 1) := by decide +kernel
theorem dX0_pairGains_37 : decode cX0_pairGains 37 = .ok (.iload 4, 2) := by decide +kernel
theorem dX0_pairGains_39 : decode cX0_pairGains 39 = .ok (.ior, 1) := by decide +kernel
theorem dX0_pairGains_40 : decode cX0_pairGains 40 = .ok (.iaload, 1) := by decide +kernel
theorem dX0_pairGains_41 : decode cX0_pairGains 41 = .ok (.aload_n 0, 1) := by decide +kernel
theorem dX0_pairGains_42 : decode cX0_pairGains 42 = .ok (.getfield 7, 3) := by decide +kernel
theorem dX0_pairGains_45 : decode cX0_pairGains 45 = .ok (.iload 5, 2) := by decide +kernel
theorem dX0_pairGains_47 : decode cX0_pairGains 47 = .ok (.iaload, 1) := by decide +kernel
theorem dX0_pairGains_48 : decode cX0_pairGains 48 = .ok (.iadd, 1) := by decide +kernel
theorem dX0_pairGains_49 : decode cX0_pairGains 49 = .ok (.aload_n 0, 1) := by decide +kernel
theorem dX0_pairGains_50 : decode cX0_pairGains 50 = .ok (.getfield 7, 3) := by decide +kernel
theorem dX0_pairGains_53 : decode cX0_pairGains 53 = .ok (.iload 5, 2) := by decide +kernel
theorem dX0_pairGains_55 : decode cX0_pairGains 55 = .ok (.iload_n 3, 1) := by decide +kernel
theorem dX0_pairGains_56 : decode cX0_pairGains 56 = .ok (.ior, 1) := by decide +kernel
theorem dX0_pairGains_57 : decode cX0_pairGains 57 = .ok (.iaload, 1) := by decide +kernel
theorem dX0_pairGains_58 : decode cX0_pairGains 58 = .ok (.aload_n 0, 1) := by decide +kernel
theorem dX0_pairGains_59 : decode cX0_pairGains 59 = .ok (.getfield 7, 3) := by decide +kernel
theorem dX0_pairGains_62 : decode cX0_pairGains 62 = .ok (.iload 5, 2) := by decide +kernel
theorem dX0_pairGains_64 : decode cX0_pairGains 64 = .ok (.iload 4, 2) := by decide +kernel
theorem dX0_pairGains_66 : decode cX0_pairGains 66 = .ok (.ior, 1) := by decide +kernel
theorem dX0_pairGains_67 : decode cX0_pairGains 67 = .ok (.iaload, 1) := by decide +kernel
theorem dX0_pairGains_68 : decode cX0_pairGains 68 = .ok (.iadd, 1) := by decide +kernel
theorem dX0_pairGains_69 : decode cX0_pairGains 69 = .ok (.if_icmp .ge 5, 3) := by decide +kernel
theorem dX0_pairGains_72 : decode cX0_pairGains 72 = .ok (.iconst 0, 1) := by decide +kernel
theorem dX0_pairGains_73 : decode cX0_pairGains 73 = .ok (.ireturn, 1) := by decide +kernel
theorem dX0_pairGains_74 : decode cX0_pairGains 74 = .ok (.iinc 5 1, 3) := by decide +kernel
theorem dX0_pairGains_77 : decode cX0_pairGains 77 = .ok (.goto (-65), 3) := by decide +kernel
theorem dX0_pairGains_80 : decode cX0_pairGains 80 = .ok (.iconst 1, 1) := by decide +kernel
theorem dX0_pairGains_81 : decode cX0_pairGains 81 = .ok (.ireturn, 1) := by decide +kernel
abbrev cX0_superadditive : ByteArray := prog_1_method_19_code
def yX0_superadditive : MethodName := ⟨RX0, "superadditive", "()Z"⟩
theorem dX0_superadditive_0 : decode cX0_superadditive 0 = .ok (.iconst 1, 1) := by decide +kernel
theorem dX0_superadditive_1 : decode cX0_superadditive 1 = .ok (.istore_n 1, 1) := by decide +kernel
theorem dX0_superadditive_2 : decode cX0_superadditive 2 = .ok (.iload_n 1, 1) := by decide +kernel
theorem dX0_superadditive_3 : decode cX0_superadditive 3 = .ok (.bipush 32, 2) := by decide +kernel
theorem dX0_superadditive_5 : decode cX0_superadditive 5 = .ok (.if_icmp .ge 65, 3) := by decide +kernel
theorem dX0_superadditive_8 : decode cX0_superadditive 8 = .ok (.iload_n 1, 1) := by decide +kernel
theorem dX0_superadditive_9 : decode cX0_superadditive 9 = .ok (.iconst 1, 1) := by decide +kernel
theorem dX0_superadditive_10 : decode cX0_superadditive 10 = .ok (.isub, 1) := by decide +kernel
theorem dX0_superadditive_11 : decode cX0_superadditive 11 = .ok (.iload_n 1, 1) := by decide +kernel
theorem dX0_superadditive_12 : decode cX0_superadditive 12 = .ok (.iand, 1) := by decide +kernel
theorem dX0_superadditive_13 : decode cX0_superadditive 13 = .ok (.istore_n 2, 1) := by decide +kernel
theorem dX0_superadditive_14 : decode cX0_superadditive 14 = .ok (.iconst 0, 1) := by decide +kernel
theorem dX0_superadditive_15 : decode cX0_superadditive 15 = .ok (.istore_n 3, 1) := by decide +kernel
theorem dX0_superadditive_16 : decode cX0_superadditive 16 = .ok (.iload_n 3, 1) := by decide +kernel
theorem dX0_superadditive_17 : decode cX0_superadditive 17 = .ok (.bipush 32, 2) := by decide +kernel
theorem dX0_superadditive_19 : decode cX0_superadditive 19 = .ok (.if_icmp .ge 45, 3) := by decide +kernel
theorem dX0_superadditive_22 : decode cX0_superadditive 22 = .ok (.iload_n 2, 1) := by decide +kernel
theorem dX0_superadditive_23 : decode cX0_superadditive 23 = .ok (.ifCond .le 41, 3) := by decide +kernel
theorem dX0_superadditive_26 : decode cX0_superadditive 26 = .ok (.aload_n 0, 1) := by decide +kernel
theorem dX0_superadditive_27 : decode cX0_superadditive 27 = .ok (.getfield 7, 3) := by decide +kernel
theorem dX0_superadditive_30 : decode cX0_superadditive 30 = .ok (.iload_n 1, 1) := by decide +kernel
theorem dX0_superadditive_31 : decode cX0_superadditive 31 = .ok (.iaload, 1) := by decide +kernel
theorem dX0_superadditive_32 : decode cX0_superadditive 32 = .ok (.aload_n 0, 1) := by decide +kernel
theorem dX0_superadditive_33 : decode cX0_superadditive 33 = .ok (.getfield 7, 3) := by decide +kernel
theorem dX0_superadditive_36 : decode cX0_superadditive 36 = .ok (.iload_n 2, 1) := by decide +kernel
theorem dX0_superadditive_37 : decode cX0_superadditive 37 = .ok (.iaload, 1) := by decide +kernel
theorem dX0_superadditive_38 : decode cX0_superadditive 38 = .ok (.aload_n 0, 1) := by decide +kernel
theorem dX0_superadditive_39 : decode cX0_superadditive 39 = .ok (.getfield 7, 3) := by decide +kernel
theorem dX0_superadditive_42 : decode cX0_superadditive 42 = .ok (.iload_n 1, 1) := by decide +kernel
theorem dX0_superadditive_43 : decode cX0_superadditive 43 = .ok (.iload_n 2, 1) := by decide +kernel
theorem dX0_superadditive_44 : decode cX0_superadditive 44 = .ok (.ixor, 1) := by decide +kernel
theorem dX0_superadditive_45 : decode cX0_superadditive 45 = .ok (.iaload, 1) := by decide +kernel
theorem dX0_superadditive_46 : decode cX0_superadditive 46 = .ok (.iadd, 1) := by decide +kernel
theorem dX0_superadditive_47 : decode cX0_superadditive 47 = .ok (.if_icmp .ge 5, 3) := by decide +kernel
theorem dX0_superadditive_50 : decode cX0_superadditive 50 = .ok (.iconst 0, 1) := by decide +kernel
theorem dX0_superadditive_51 : decode cX0_superadditive 51 = .ok (.ireturn, 1) := by decide +kernel
theorem dX0_superadditive_52 : decode cX0_superadditive 52 = .ok (.iload_n 2, 1) := by decide +kernel
theorem dX0_superadditive_53 : decode cX0_superadditive 53 = .ok (.iconst 1, 1) := by decide +kernel
theorem dX0_superadditive_54 : decode cX0_superadditive 54 = .ok (.isub, 1) := by decide +kernel
theorem dX0_superadditive_55 : decode cX0_superadditive 55 = .ok (.iload_n 1, 1) := by decide +kernel
theorem dX0_superadditive_56 : decode cX0_superadditive 56 = .ok (.iand, 1) := by decide +kernel
theorem dX0_superadditive_57 : decode cX0_superadditive 57 = .ok (.istore_n 2, 1) := by decide +kernel
theorem dX0_superadditive_58 : decode cX0_superadditive 58 = .ok (.iinc 3 1, 3) := by decide +kernel
theorem dX0_superadditive_61 : decode cX0_superadditive 61 = .ok (.goto (-45), 3) := by decide +kernel
theorem dX0_superadditive_64 : decode cX0_superadditive 64 = .ok (.iinc 1 1, 3) := by decide +kernel
theorem dX0_superadditive_67 : decode cX0_superadditive 67 = .ok (.goto (-65), 3) := by decide +kernel
theorem dX0_superadditive_70 : decode cX0_superadditive 70 = .ok (.iconst 1, 1) := by decide +kernel
theorem dX0_superadditive_71 : decode cX0_superadditive 71 = .ok (.ireturn, 1) := by decide +kernel
abbrev cX0_alike : ByteArray := prog_1_method_20_code
def yX0_alike : MethodName := ⟨RX0, "alike", "(II)Z"⟩
theorem dX0_alike_0 : decode cX0_alike 0 = .ok (.iload_n 1, 1) := by decide +kernel
theorem dX0_alike_1 : decode cX0_alike 1 = .ok (.invokestatic 29, 3) := by decide +kernel
theorem dX0_alike_4 : decode cX0_alike 4 = .ok (.ifCond .ne 10, 3) := by decide +kernel
theorem dX0_alike_7 : decode cX0_alike 7 = .ok (.iload_n 2, 1) := by decide +kernel
theorem dX0_alike_8 : decode cX0_alike 8 = .ok (.invokestatic 29, 3) := by decide +kernel
theorem dX0_alike_11 : decode cX0_alike 11 = .ok (.ifCond .eq 5, 3) := by decide +kernel
theorem dX0_alike_14 : decode cX0_alike 14 = .ok (.iconst 0, 1) := by decide +kernel
theorem dX0_alike_15 : decode cX0_alike 15 = .ok (.ireturn, 1) := by decide +kernel
theorem dX0_alike_16 : decode cX0_alike 16 = .ok (.iconst 0, 1) := by decide +kernel
theorem dX0_alike_17 : decode cX0_alike 17 = .ok (.istore_n 3, 1) := by decide +kernel
theorem dX0_alike_18 : decode cX0_alike 18 = .ok (.iload_n 3, 1) := by decide +kernel
theorem dX0_alike_19 : decode cX0_alike 19 = .ok (.bipush 32, 2) := by decide +kernel
theorem dX0_alike_21 : decode cX0_alike 21 = .ok (.if_icmp .ge 62, 3) := by decide +kernel
theorem dX0_alike_24 : decode cX0_alike 24 = .ok (.iload_n 3, 1) := by decide +kernel
theorem dX0_alike_25 : decode cX0_alike 25 = .ok (.iload_n 1, 1) := by decide +kernel
theorem dX0_alike_26 : decode cX0_alike 26 = .ok (.ishr, 1) := by decide +kernel
theorem dX0_alike_27 : decode cX0_alike 27 = .ok (.iconst 1, 1) := by decide +kernel
theorem dX0_alike_28 : decode cX0_alike 28 = .ok (.iand, 1) := by decide +kernel
theorem dX0_alike_29 : decode cX0_alike 29 = .ok (.ifCond .ne 15, 3) := by decide +kernel
theorem dX0_alike_32 : decode cX0_alike 32 = .ok (.iload_n 3, 1) := by decide +kernel
theorem dX0_alike_33 : decode cX0_alike 33 = .ok (.iload_n 2, 1) := by decide +kernel
theorem dX0_alike_34 : decode cX0_alike 34 = .ok (.ishr, 1) := by decide +kernel
theorem dX0_alike_35 : decode cX0_alike 35 = .ok (.iconst 1, 1) := by decide +kernel
theorem dX0_alike_36 : decode cX0_alike 36 = .ok (.iand, 1) := by decide +kernel
theorem dX0_alike_37 : decode cX0_alike 37 = .ok (.ifCond .ne 7, 3) := by decide +kernel
theorem dX0_alike_40 : decode cX0_alike 40 = .ok (.iconst 1, 1) := by decide +kernel
theorem dX0_alike_41 : decode cX0_alike 41 = .ok (.goto 4, 3) := by decide +kernel
theorem dX0_alike_44 : decode cX0_alike 44 = .ok (.iconst 0, 1) := by decide +kernel
theorem dX0_alike_45 : decode cX0_alike 45 = .ok (.istore 4, 2) := by decide +kernel
theorem dX0_alike_47 : decode cX0_alike 47 = .ok (.iload 4, 2) := by decide +kernel
theorem dX0_alike_49 : decode cX0_alike 49 = .ok (.ifCond .eq 28, 3) := by decide +kernel
theorem dX0_alike_52 : decode cX0_alike 52 = .ok (.aload_n 0, 1) := by decide +kernel
theorem dX0_alike_53 : decode cX0_alike 53 = .ok (.getfield 7, 3) := by decide +kernel
theorem dX0_alike_56 : decode cX0_alike 56 = .ok (.iload_n 3, 1) := by decide +kernel
theorem dX0_alike_57 : decode cX0_alike 57 = .ok (.iconst 1, 1) := by decide +kernel
theorem dX0_alike_58 : decode cX0_alike 58 = .ok (.iload_n 1, 1) := by decide +kernel
theorem dX0_alike_59 : decode cX0_alike 59 = .ok (.ishl, 1) := by decide +kernel
theorem dX0_alike_60 : decode cX0_alike 60 = .ok (.ior, 1) := by decide +kernel
theorem dX0_alike_61 : decode cX0_alike 61 = .ok (.iaload, 1) := by decide +kernel
theorem dX0_alike_62 : decode cX0_alike 62 = .ok (.aload_n 0, 1) := by decide +kernel
theorem dX0_alike_63 : decode cX0_alike 63 = .ok (.getfield 7, 3) := by decide +kernel
theorem dX0_alike_66 : decode cX0_alike 66 = .ok (.iload_n 3, 1) := by decide +kernel
theorem dX0_alike_67 : decode cX0_alike 67 = .ok (.iconst 1, 1) := by decide +kernel
theorem dX0_alike_68 : decode cX0_alike 68 = .ok (.iload_n 2, 1) := by decide +kernel
theorem dX0_alike_69 : decode cX0_alike 69 = .ok (.ishl, 1) := by decide +kernel
theorem dX0_alike_70 : decode cX0_alike 70 = .ok (.ior, 1) := by decide +kernel
theorem dX0_alike_71 : decode cX0_alike 71 = .ok (.iaload, 1) := by decide +kernel
theorem dX0_alike_72 : decode cX0_alike 72 = .ok (.if_icmp .eq 5, 3) := by decide +kernel
theorem dX0_alike_75 : decode cX0_alike 75 = .ok (.iconst 0, 1) := by decide +kernel
theorem dX0_alike_76 : decode cX0_alike 76 = .ok (.ireturn, 1) := by decide +kernel
theorem dX0_alike_77 : decode cX0_alike 77 = .ok (.iinc 3 1, 3) := by decide +kernel
theorem dX0_alike_80 : decode cX0_alike 80 = .ok (.goto (-62), 3) := by decide +kernel
theorem dX0_alike_83 : decode cX0_alike 83 = .ok (.iconst 1, 1) := by decide +kernel
theorem dX0_alike_84 : decode cX0_alike 84 = .ok (.ireturn, 1) := by decide +kernel
abbrev cX0_bestSplit : ByteArray := prog_1_method_21_code
def yX0_bestSplit : MethodName := ⟨RX0, "bestSplit", "()I"⟩
theorem dX0_bestSplit_0 : decode cX0_bestSplit 0 = .ok (.aload_n 0, 1) := by decide +kernel
theorem dX0_bestSplit_1 : decode cX0_bestSplit 1 = .ok (.getfield 22, 3) := by decide +kernel
theorem dX0_bestSplit_4 : decode cX0_bestSplit 4 = .ok (.iconst 0, 1) := by decide +kernel
theorem dX0_bestSplit_5 : decode cX0_bestSplit 5 = .ok (.iconst 0, 1) := by decide +kernel
theorem dX0_bestSplit_6 : decode cX0_bestSplit 6 = .ok (.iastore, 1) := by decide +kernel
theorem dX0_bestSplit_7 : decode cX0_bestSplit 7 = .ok (.iconst 1, 1) := by decide +kernel
theorem dX0_bestSplit_8 : decode cX0_bestSplit 8 = .ok (.istore_n 1, 1) := by decide +kernel
theorem dX0_bestSplit_9 : decode cX0_bestSplit 9 = .ok (.iload_n 1, 1) := by decide +kernel
theorem dX0_bestSplit_10 : decode cX0_bestSplit 10 = .ok (.bipush 32, 2) := by decide +kernel
theorem dX0_bestSplit_12 : decode cX0_bestSplit 12 = .ok (.if_icmp .ge 96, 3) := by decide +kernel
theorem dX0_bestSplit_15 : decode cX0_bestSplit 15 = .ok (.iload_n 1, 1) := by decide +kernel
theorem dX0_bestSplit_16 : decode cX0_bestSplit 16 = .ok (.iload_n 1, 1) := by decide +kernel
theorem dX0_bestSplit_17 : decode cX0_bestSplit 17 = .ok (.ineg, 1) := by decide +kernel
theorem dX0_bestSplit_18 : decode cX0_bestSplit 18 = .ok (.iand, 1) := by decide +kernel
theorem dX0_bestSplit_19 : decode cX0_bestSplit 19 = .ok (.istore_n 2, 1) := by decide +kernel
theorem dX0_bestSplit_20 : decode cX0_bestSplit 20 = .ok (.iload_n 1, 1) := by decide +kernel
theorem dX0_bestSplit_21 : decode cX0_bestSplit 21 = .ok (.iload_n 2, 1) := by decide +kernel
theorem dX0_bestSplit_22 : decode cX0_bestSplit 22 = .ok (.ixor, 1) := by decide +kernel
theorem dX0_bestSplit_23 : decode cX0_bestSplit 23 = .ok (.istore_n 3, 1) := by decide +kernel
theorem dX0_bestSplit_24 : decode cX0_bestSplit 24 = .ok (.iload_n 3, 1) := by decide +kernel
theorem dX0_bestSplit_25 : decode cX0_bestSplit 25 = .ok (.istore 4, 2) := by decide +kernel
theorem dX0_bestSplit_27 : decode cX0_bestSplit 27 = .ok (.aload_n 0, 1) := by decide +kernel
theorem dX0_bestSplit_28 : decode cX0_bestSplit 28 = .ok (.getfield 7, 3) := by decide +kernel
theorem dX0_bestSplit_31 : decode cX0_bestSplit 31 = .ok (.iload_n 1, 1) := by decide +kernel
theorem dX0_bestSplit_32 : decode cX0_bestSplit 32 = .ok (.iaload, 1) := by decide +kernel
theorem dX0_bestSplit_33 : decode cX0_bestSplit 33 = .ok (.istore 5, 2) := by decide +kernel
theorem dX0_bestSplit_35 : decode cX0_bestSplit 35 = .ok (.iconst 0, 1) := by decide +kernel
theorem dX0_bestSplit_36 : decode cX0_bestSplit 36 = .ok (.istore 6, 2) := by decide +kernel
theorem dX0_bestSplit_38 : decode cX0_bestSplit 38 = .ok (.iload 6, 2) := by decide +kernel
theorem dX0_bestSplit_40 : decode cX0_bestSplit 40 = .ok (.bipush 32, 2) := by decide +kernel
theorem dX0_bestSplit_42 : decode cX0_bestSplit 42 = .ok (.if_icmp .ge 52, 3) := by decide +kernel
theorem dX0_bestSplit_45 : decode cX0_bestSplit 45 = .ok (.iload 4, 2) := by decide +kernel
theorem dX0_bestSplit_47 : decode cX0_bestSplit 47 = .ok (.ifCond .le 47, 3) := by decide +kernel
theorem dX0_bestSplit_50 : decode cX0_bestSplit 50 = .ok (.aload_n 0, 1) := by decide +kernel
theorem dX0_bestSplit_51 : decode cX0_bestSplit 51 = .ok (.getfield 7, 3) := by decide +kernel
theorem dX0_bestSplit_54 : decode cX0_bestSplit 54 = .ok (.iload_n 1, 1) := by decide +kernel
theorem dX0_bestSplit_55 : decode cX0_bestSplit 55 = .ok (.iload 4, 2) := by decide +kernel
theorem dX0_bestSplit_57 : decode cX0_bestSplit 57 = .ok (.ixor, 1) := by decide +kernel
theorem dX0_bestSplit_58 : decode cX0_bestSplit 58 = .ok (.iaload, 1) := by decide +kernel
theorem dX0_bestSplit_59 : decode cX0_bestSplit 59 = .ok (.aload_n 0, 1) := by decide +kernel
theorem dX0_bestSplit_60 : decode cX0_bestSplit 60 = .ok (.getfield 22, 3) := by decide +kernel
theorem dX0_bestSplit_63 : decode cX0_bestSplit 63 = .ok (.iload 4, 2) := by decide +kernel
theorem dX0_bestSplit_65 : decode cX0_bestSplit 65 = .ok (.iaload, 1) := by decide +kernel
theorem dX0_bestSplit_66 : decode cX0_bestSplit 66 = .ok (.iadd, 1) := by decide +kernel
theorem dX0_bestSplit_67 : decode cX0_bestSplit 67 = .ok (.istore 7, 2) := by decide +kernel
theorem dX0_bestSplit_69 : decode cX0_bestSplit 69 = .ok (.iload 7, 2) := by decide +kernel
theorem dX0_bestSplit_71 : decode cX0_bestSplit 71 = .ok (.iload 5, 2) := by decide +kernel
theorem dX0_bestSplit_73 : decode cX0_bestSplit 73 = .ok (.if_icmp .le 7, 3) := by decide +kernel
theorem dX0_bestSplit_76 : decode cX0_bestSplit 76 = .ok (.iload 7, 2) := by decide +kernel
theorem dX0_bestSplit_78 : decode cX0_bestSplit 78 = .ok (.istore 5, 2) := by decide +kernel
theorem dX0_bestSplit_80 : decode cX0_bestSplit 80 = .ok (.iload 4, 2) := by decide +kernel
theorem dX0_bestSplit_82 : decode cX0_bestSplit 82 = .ok (.iconst 1, 1) := by decide +kernel
theorem dX0_bestSplit_83 : decode cX0_bestSplit 83 = .ok (.isub, 1) := by decide +kernel
theorem dX0_bestSplit_84 : decode cX0_bestSplit 84 = .ok (.iload_n 3, 1) := by decide +kernel
theorem dX0_bestSplit_85 : decode cX0_bestSplit 85 = .ok (.iand, 1) := by decide +kernel
theorem dX0_bestSplit_86 : decode cX0_bestSplit 86 = .ok (.istore 4, 2) := by decide +kernel
theorem dX0_bestSplit_88 : decode cX0_bestSplit 88 = .ok (.iinc 6 1, 3) := by decide +kernel
theorem dX0_bestSplit_91 : decode cX0_bestSplit 91 = .ok (.goto (-53), 3) := by decide +kernel
theorem dX0_bestSplit_94 : decode cX0_bestSplit 94 = .ok (.aload_n 0, 1) := by decide +kernel
theorem dX0_bestSplit_95 : decode cX0_bestSplit 95 = .ok (.getfield 22, 3) := by decide +kernel
theorem dX0_bestSplit_98 : decode cX0_bestSplit 98 = .ok (.iload_n 1, 1) := by decide +kernel
theorem dX0_bestSplit_99 : decode cX0_bestSplit 99 = .ok (.iload 5, 2) := by decide +kernel
theorem dX0_bestSplit_101 : decode cX0_bestSplit 101 = .ok (.iastore, 1) := by decide +kernel
theorem dX0_bestSplit_102 : decode cX0_bestSplit 102 = .ok (.iinc 1 1, 3) := by decide +kernel
theorem dX0_bestSplit_105 : decode cX0_bestSplit 105 = .ok (.goto (-96), 3) := by decide +kernel
theorem dX0_bestSplit_108 : decode cX0_bestSplit 108 = .ok (.aload_n 0, 1) := by decide +kernel
theorem dX0_bestSplit_109 : decode cX0_bestSplit 109 = .ok (.getfield 22, 3) := by decide +kernel
theorem dX0_bestSplit_112 : decode cX0_bestSplit 112 = .ok (.bipush 31, 2) := by decide +kernel
theorem dX0_bestSplit_114 : decode cX0_bestSplit 114 = .ok (.iaload, 1) := by decide +kernel
theorem dX0_bestSplit_115 : decode cX0_bestSplit 115 = .ok (.ireturn, 1) := by decide +kernel
theorem q8 : (Jvm.Cond.initialized "CoalitionValues") ∈ lw_all := lw_g (lw_at lw_m0 1 rfl) rfl
theorem q11 : (Jvm.Cond.instantiable "CoalitionValues" (5 : Nat)) ∈ lw_all := lw_g (lw_at lw_m0 4 rfl) rfl
theorem q13 : (Jvm.Cond.instanceMethod ({ cls := "CoalitionValues", name := "<init>", desc := "()V" } : Jvm.MethodName)) ∈ lw_all := lw_g (lw_at lw_m0 6 rfl) rfl
theorem q14 : (Jvm.Cond.code ({ cls := "CoalitionValues", name := "<init>", desc := "()V" } : Jvm.MethodName) prog_1_method_1_code (1 : Nat) (Option.none : Option Jvm.ClassFile.FieldType)) ∈ lw_all := lw_g (lw_at lw_m0 7 rfl) rfl
theorem q15 : (Jvm.Cond.methodLink "CoalitionValues" (1 : Nat) ({ cls := "java/lang/Object", name := "<init>", desc := "()V" } : Jvm.MethodName)) ∈ lw_all := lw_g (lw_at lw_m0 8 rfl) rfl
theorem q18 : (Jvm.Cond.fieldLink "CoalitionValues" (7 : Nat) "CoalitionValues" "worths" "[I") ∈ lw_all := lw_g (lw_at lw_m0 11 rfl) rfl
theorem q19 : (Jvm.Cond.fieldLink "CoalitionValues" (13 : Nat) "CoalitionValues" "amount" "[I") ∈ lw_all := lw_g (lw_at lw_m0 12 rfl) rfl
theorem q20 : (Jvm.Cond.fieldLink "CoalitionValues" (16 : Nat) "CoalitionValues" "part" "[I") ∈ lw_all := lw_g (lw_at lw_m0 13 rfl) rfl
theorem q21 : (Jvm.Cond.fieldLink "CoalitionValues" (19 : Nat) "CoalitionValues" "moved" "[I") ∈ lw_all := lw_g (lw_at lw_m0 14 rfl) rfl
theorem q22 : (Jvm.Cond.fieldLink "CoalitionValues" (22 : Nat) "CoalitionValues" "split" "[I") ∈ lw_all := lw_g (lw_at lw_m0 15 rfl) rfl
theorem q23 : (Jvm.Cond.laysFinal "CoalitionValues" "CoalitionValues" "worths" "[I") ∈ lw_all := lw_g (lw_at lw_m0 16 rfl) rfl
theorem q24 : (Jvm.Cond.soleField "CoalitionValues" "worths") ∈ lw_all := lw_g (lw_at lw_m0 17 rfl) rfl
theorem q25 : (Jvm.Cond.laysFinal "CoalitionValues" "CoalitionValues" "amount" "[I") ∈ lw_all := lw_g (lw_at lw_m0 18 rfl) rfl
theorem q26 : (Jvm.Cond.soleField "CoalitionValues" "amount") ∈ lw_all := lw_g (lw_at lw_m0 19 rfl) rfl
theorem q27 : (Jvm.Cond.laysFinal "CoalitionValues" "CoalitionValues" "part" "[I") ∈ lw_all := lw_g (lw_at lw_m0 20 rfl) rfl
theorem q28 : (Jvm.Cond.soleField "CoalitionValues" "part") ∈ lw_all := lw_g (lw_at lw_m0 21 rfl) rfl
theorem q29 : (Jvm.Cond.laysFinal "CoalitionValues" "CoalitionValues" "moved" "[I") ∈ lw_all := lw_g (lw_at lw_m0 22 rfl) rfl
theorem q30 : (Jvm.Cond.soleField "CoalitionValues" "moved") ∈ lw_all := lw_g (lw_at lw_m0 23 rfl) rfl
theorem q31 : (Jvm.Cond.laysFinal "CoalitionValues" "CoalitionValues" "split" "[I") ∈ lw_all := lw_g (lw_at lw_m0 24 rfl) rfl
theorem q32 : (Jvm.Cond.soleField "CoalitionValues" "split") ∈ lw_all := lw_g (lw_at lw_m0 25 rfl) rfl
theorem q33 : (Jvm.Cond.superclass "CoalitionValues" "java/lang/Object") ∈ lw_all := lw_g (lw_at lw_m0 26 rfl) rfl
theorem q36 : (Jvm.Cond.instanceMethod ({ cls := "CoalitionValues", name := "worth", desc := "(II)I" } : Jvm.MethodName)) ∈ lw_all := lw_g (lw_at lw_m0 29 rfl) rfl
theorem q37 : (Jvm.Cond.selects "CoalitionValues" ({ cls := "CoalitionValues", name := "worth", desc := "(II)I" } : Jvm.MethodName) ({ cls := "CoalitionValues", name := "worth", desc := "(II)I" } : Jvm.MethodName)) ∈ lw_all := lw_g (lw_at lw_m0 30 rfl) rfl
theorem q38 : (Jvm.Cond.code ({ cls := "CoalitionValues", name := "worth", desc := "(II)I" } : Jvm.MethodName) prog_1_method_4_code (4 : Nat) (Option.some Jvm.ClassFile.FieldType.int)) ∈ lw_all := lw_g (lw_at lw_m0 31 rfl) rfl
theorem q39 : (Jvm.Cond.methodLink "CoalitionValues" (25 : Nat) ({ cls := "CoalitionValues", name := "badSet", desc := "(I)Z" } : Jvm.MethodName)) ∈ lw_all := lw_g (lw_at lw_m0 32 rfl) rfl
theorem q40 : (Jvm.Cond.static ({ cls := "CoalitionValues", name := "badSet", desc := "(I)Z" } : Jvm.MethodName)) ∈ lw_all := lw_g (lw_at lw_m0 33 rfl) rfl
theorem q41 : (Jvm.Cond.code ({ cls := "CoalitionValues", name := "badSet", desc := "(I)Z" } : Jvm.MethodName) prog_1_method_2_code (1 : Nat) (Option.some Jvm.ClassFile.FieldType.boolean)) ∈ lw_all := lw_g (lw_at lw_m0 34 rfl) rfl
theorem q43 : (Jvm.Cond.instanceMethod ({ cls := "CoalitionValues", name := "pay", desc := "(II)I" } : Jvm.MethodName)) ∈ lw_all := lw_g (lw_at lw_m0 36 rfl) rfl
theorem q44 : (Jvm.Cond.selects "CoalitionValues" ({ cls := "CoalitionValues", name := "pay", desc := "(II)I" } : Jvm.MethodName) ({ cls := "CoalitionValues", name := "pay", desc := "(II)I" } : Jvm.MethodName)) ∈ lw_all := lw_g (lw_at lw_m0 37 rfl) rfl
theorem q45 : (Jvm.Cond.code ({ cls := "CoalitionValues", name := "pay", desc := "(II)I" } : Jvm.MethodName) prog_1_method_5_code (3 : Nat) (Option.some Jvm.ClassFile.FieldType.int)) ∈ lw_all := lw_g (lw_at lw_m0 38 rfl) rfl
theorem q46 : (Jvm.Cond.methodLink "CoalitionValues" (29 : Nat) ({ cls := "CoalitionValues", name := "badPlayer", desc := "(I)Z" } : Jvm.MethodName)) ∈ lw_all := lw_g (lw_at lw_m0 39 rfl) rfl
theorem q47 : (Jvm.Cond.static ({ cls := "CoalitionValues", name := "badPlayer", desc := "(I)Z" } : Jvm.MethodName)) ∈ lw_all := lw_g (lw_at lw_m0 40 rfl) rfl
theorem q48 : (Jvm.Cond.code ({ cls := "CoalitionValues", name := "badPlayer", desc := "(I)Z" } : Jvm.MethodName) prog_1_method_3_code (1 : Nat) (Option.some Jvm.ClassFile.FieldType.boolean)) ∈ lw_all := lw_g (lw_at lw_m0 41 rfl) rfl
theorem q50 : (Jvm.Cond.instanceMethod ({ cls := "CoalitionValues", name := "weigh", desc := "(II)I" } : Jvm.MethodName)) ∈ lw_all := lw_g (lw_at lw_m0 43 rfl) rfl
theorem q51 : (Jvm.Cond.selects "CoalitionValues" ({ cls := "CoalitionValues", name := "weigh", desc := "(II)I" } : Jvm.MethodName) ({ cls := "CoalitionValues", name := "weigh", desc := "(II)I" } : Jvm.MethodName)) ∈ lw_all := lw_g (lw_at lw_m0 44 rfl) rfl
theorem q52 : (Jvm.Cond.code ({ cls := "CoalitionValues", name := "weigh", desc := "(II)I" } : Jvm.MethodName) prog_1_method_6_code (7 : Nat) (Option.some Jvm.ClassFile.FieldType.int)) ∈ lw_all := lw_g (lw_at lw_m0 45 rfl) rfl
theorem q54 : (Jvm.Cond.instanceMethod ({ cls := "CoalitionValues", name := "exchange", desc := "(II)I" } : Jvm.MethodName)) ∈ lw_all := lw_g (lw_at lw_m0 47 rfl) rfl
theorem q55 : (Jvm.Cond.selects "CoalitionValues" ({ cls := "CoalitionValues", name := "exchange", desc := "(II)I" } : Jvm.MethodName) ({ cls := "CoalitionValues", name := "exchange", desc := "(II)I" } : Jvm.MethodName)) ∈ lw_all := lw_g (lw_at lw_m0 48 rfl) rfl
theorem q56 : (Jvm.Cond.code ({ cls := "CoalitionValues", name := "exchange", desc := "(II)I" } : Jvm.MethodName) prog_1_method_8_code (4 : Nat) (Option.some Jvm.ClassFile.FieldType.int)) ∈ lw_all := lw_g (lw_at lw_m0 49 rfl) rfl
theorem q57 : (Jvm.Cond.methodLink "CoalitionValues" (32 : Nat) ({ cls := "CoalitionValues", name := "exchanged", desc := "(III)I" } : Jvm.MethodName)) ∈ lw_all := lw_g (lw_at lw_m0 50 rfl) rfl
theorem q58 : (Jvm.Cond.static ({ cls := "CoalitionValues", name := "exchanged", desc := "(III)I" } : Jvm.MethodName)) ∈ lw_all := lw_g (lw_at lw_m0 51 rfl) rfl
theorem q59 : (Jvm.Cond.code ({ cls := "CoalitionValues", name := "exchanged", desc := "(III)I" } : Jvm.MethodName) prog_1_method_7_code (5 : Nat) (Option.some Jvm.ClassFile.FieldType.int)) ∈ lw_all := lw_g (lw_at lw_m0 52 rfl) rfl
theorem q61 : (Jvm.Cond.instanceMethod ({ cls := "CoalitionValues", name := "orderValue", desc := "(I)I" } : Jvm.MethodName)) ∈ lw_all := lw_g (lw_at lw_m0 54 rfl) rfl
theorem q62 : (Jvm.Cond.selects "CoalitionValues" ({ cls := "CoalitionValues", name := "orderValue", desc := "(I)I" } : Jvm.MethodName) ({ cls := "CoalitionValues", name := "orderValue", desc := "(I)I" } : Jvm.MethodName)) ∈ lw_all := lw_g (lw_at lw_m0 55 rfl) rfl
theorem q63 : (Jvm.Cond.code ({ cls := "CoalitionValues", name := "orderValue", desc := "(I)I" } : Jvm.MethodName) prog_1_method_11_code (5 : Nat) (Option.some Jvm.ClassFile.FieldType.int)) ∈ lw_all := lw_g (lw_at lw_m0 56 rfl) rfl
theorem q64 : (Jvm.Cond.methodLink "CoalitionValues" (36 : Nat) ({ cls := "CoalitionValues", name := "findParts", desc := "()V" } : Jvm.MethodName)) ∈ lw_all := lw_g (lw_at lw_m0 57 rfl) rfl
theorem q65 : (Jvm.Cond.privateMethod ({ cls := "CoalitionValues", name := "findParts", desc := "()V" } : Jvm.MethodName)) ∈ lw_tbl := lw_at lw_m0 58 rfl
theorem q66 : (Jvm.Cond.instanceMethod ({ cls := "CoalitionValues", name := "findParts", desc := "()V" } : Jvm.MethodName)) ∈ lw_all := lw_g (lw_at lw_m0 59 rfl) rfl
theorem q67 : (Jvm.Cond.code ({ cls := "CoalitionValues", name := "findParts", desc := "()V" } : Jvm.MethodName) prog_1_method_9_code (3 : Nat) (Option.none : Option Jvm.ClassFile.FieldType)) ∈ lw_all := lw_g (lw_at lw_m0 60 rfl) rfl
theorem q68 : (Jvm.Cond.methodLink "CoalitionValues" (39 : Nat) ({ cls := "CoalitionValues", name := "size", desc := "(I)I" } : Jvm.MethodName)) ∈ lw_all := lw_g (lw_at lw_m0 61 rfl) rfl
theorem q69 : (Jvm.Cond.static ({ cls := "CoalitionValues", name := "size", desc := "(I)I" } : Jvm.MethodName)) ∈ lw_all := lw_g (lw_at lw_m0 62 rfl) rfl
theorem q70 : (Jvm.Cond.code ({ cls := "CoalitionValues", name := "size", desc := "(I)I" } : Jvm.MethodName) prog_1_method_10_code (3 : Nat) (Option.some Jvm.ClassFile.FieldType.int)) ∈ lw_all := lw_g (lw_at lw_m0 63 rfl) rfl
theorem q72 : (Jvm.Cond.instanceMethod ({ cls := "CoalitionValues", name := "swingValue", desc := "(I)I" } : Jvm.MethodName)) ∈ lw_all := lw_g (lw_at lw_m0 65 rfl) rfl
theorem q73 : (Jvm.Cond.selects "CoalitionValues" ({ cls := "CoalitionValues", name := "swingValue", desc := "(I)I" } : Jvm.MethodName) ({ cls := "CoalitionValues", name := "swingValue", desc := "(I)I" } : Jvm.MethodName)) ∈ lw_all := lw_g (lw_at lw_m0 66 rfl) rfl
theorem q74 : (Jvm.Cond.code ({ cls := "CoalitionValues", name := "swingValue", desc := "(I)I" } : Jvm.MethodName) prog_1_method_12_code (5 : Nat) (Option.some Jvm.ClassFile.FieldType.int)) ∈ lw_all := lw_g (lw_at lw_m0 67 rfl) rfl
theorem q76 : (Jvm.Cond.instanceMethod ({ cls := "CoalitionValues", name := "own", desc := "(I)I" } : Jvm.MethodName)) ∈ lw_all := lw_g (lw_at lw_m0 69 rfl) rfl
theorem q77 : (Jvm.Cond.selects "CoalitionValues" ({ cls := "CoalitionValues", name := "own", desc := "(I)I" } : Jvm.MethodName) ({ cls := "CoalitionValues", name := "own", desc := "(I)I" } : Jvm.MethodName)) ∈ lw_all := lw_g (lw_at lw_m0 70 rfl) rfl
theorem q78 : (Jvm.Cond.code ({ cls := "CoalitionValues", name := "own", desc := "(I)I" } : Jvm.MethodName) prog_1_method_13_code (2 : Nat) (Option.some Jvm.ClassFile.FieldType.int)) ∈ lw_all := lw_g (lw_at lw_m0 71 rfl) rfl
theorem q80 : (Jvm.Cond.instanceMethod ({ cls := "CoalitionValues", name := "complaint", desc := "()I" } : Jvm.MethodName)) ∈ lw_all := lw_g (lw_at lw_m0 73 rfl) rfl
theorem q81 : (Jvm.Cond.selects "CoalitionValues" ({ cls := "CoalitionValues", name := "complaint", desc := "()I" } : Jvm.MethodName) ({ cls := "CoalitionValues", name := "complaint", desc := "()I" } : Jvm.MethodName)) ∈ lw_all := lw_g (lw_at lw_m0 74 rfl) rfl
theorem q82 : (Jvm.Cond.code ({ cls := "CoalitionValues", name := "complaint", desc := "()I" } : Jvm.MethodName) prog_1_method_15_code (4 : Nat) (Option.some Jvm.ClassFile.FieldType.int)) ∈ lw_all := lw_g (lw_at lw_m0 75 rfl) rfl
theorem q83 : (Jvm.Cond.methodLink "CoalitionValues" (43 : Nat) ({ cls := "CoalitionValues", name := "shareOf", desc := "(I)I" } : Jvm.MethodName)) ∈ lw_all := lw_g (lw_at lw_m0 76 rfl) rfl
theorem q84 : (Jvm.Cond.privateMethod ({ cls := "CoalitionValues", name := "shareOf", desc := "(I)I" } : Jvm.MethodName)) ∈ lw_tbl := lw_at lw_m0 77 rfl
theorem q85 : (Jvm.Cond.instanceMethod ({ cls := "CoalitionValues", name := "shareOf", desc := "(I)I" } : Jvm.MethodName)) ∈ lw_all := lw_g (lw_at lw_m0 78 rfl) rfl
theorem q86 : (Jvm.Cond.code ({ cls := "CoalitionValues", name := "shareOf", desc := "(I)I" } : Jvm.MethodName) prog_1_method_14_code (4 : Nat) (Option.some Jvm.ClassFile.FieldType.int)) ∈ lw_all := lw_g (lw_at lw_m0 79 rfl) rfl
theorem q88 : (Jvm.Cond.instanceMethod ({ cls := "CoalitionValues", name := "inCore", desc := "()Z" } : Jvm.MethodName)) ∈ lw_all := lw_g (lw_at lw_m0 81 rfl) rfl
theorem q89 : (Jvm.Cond.selects "CoalitionValues" ({ cls := "CoalitionValues", name := "inCore", desc := "()Z" } : Jvm.MethodName) ({ cls := "CoalitionValues", name := "inCore", desc := "()Z" } : Jvm.MethodName)) ∈ lw_all := lw_g (lw_at lw_m0 82 rfl) rfl
theorem q90 : (Jvm.Cond.code ({ cls := "CoalitionValues", name := "inCore", desc := "()Z" } : Jvm.MethodName) prog_1_method_16_code (3 : Nat) (Option.some Jvm.ClassFile.FieldType.boolean)) ∈ lw_all := lw_g (lw_at lw_m0 83 rfl) rfl
theorem q91 : (Jvm.Cond.methodLink "CoalitionValues" (46 : Nat) ({ cls := "CoalitionValues", name := "complaint", desc := "()I" } : Jvm.MethodName)) ∈ lw_all := lw_g (lw_at lw_m0 84 rfl) rfl
theorem q93 : (Jvm.Cond.instanceMethod ({ cls := "CoalitionValues", name := "convex", desc := "()Z" } : Jvm.MethodName)) ∈ lw_all := lw_g (lw_at lw_m0 86 rfl) rfl
theorem q94 : (Jvm.Cond.selects "CoalitionValues" ({ cls := "CoalitionValues", name := "convex", desc := "()Z" } : Jvm.MethodName) ({ cls := "CoalitionValues", name := "convex", desc := "()Z" } : Jvm.MethodName)) ∈ lw_all := lw_g (lw_at lw_m0 87 rfl) rfl
theorem q95 : (Jvm.Cond.code ({ cls := "CoalitionValues", name := "convex", desc := "()Z" } : Jvm.MethodName) prog_1_method_18_code (4 : Nat) (Option.some Jvm.ClassFile.FieldType.boolean)) ∈ lw_all := lw_g (lw_at lw_m0 88 rfl) rfl
theorem q96 : (Jvm.Cond.methodLink "CoalitionValues" (50 : Nat) ({ cls := "CoalitionValues", name := "pairGains", desc := "(II)Z" } : Jvm.MethodName)) ∈ lw_all := lw_g (lw_at lw_m0 89 rfl) rfl
theorem q97 : (Jvm.Cond.privateMethod ({ cls := "CoalitionValues", name := "pairGains", desc := "(II)Z" } : Jvm.MethodName)) ∈ lw_tbl := lw_at lw_m0 90 rfl
theorem q98 : (Jvm.Cond.instanceMethod ({ cls := "CoalitionValues", name := "pairGains", desc := "(II)Z" } : Jvm.MethodName)) ∈ lw_all := lw_g (lw_at lw_m0 91 rfl) rfl
theorem q99 : (Jvm.Cond.code ({ cls := "CoalitionValues", name := "pairGains", desc := "(II)Z" } : Jvm.MethodName) prog_1_method_17_code (6 : Nat) (Option.some Jvm.ClassFile.FieldType.boolean)) ∈ lw_all := lw_g (lw_at lw_m0 92 rfl) rfl
theorem q101 : (Jvm.Cond.instanceMethod ({ cls := "CoalitionValues", name := "superadditive", desc := "()Z" } : Jvm.MethodName)) ∈ lw_all := lw_g (lw_at lw_m0 94 rfl) rfl
theorem q102 : (Jvm.Cond.selects "CoalitionValues" ({ cls := "CoalitionValues", name := "superadditive", desc := "()Z" } : Jvm.MethodName) ({ cls := "CoalitionValues", name := "superadditive", desc := "()Z" } : Jvm.MethodName)) ∈ lw_all := lw_g (lw_at lw_m0 95 rfl) rfl
theorem q103 : (Jvm.Cond.code ({ cls := "CoalitionValues", name := "superadditive", desc := "()Z" } : Jvm.MethodName) prog_1_method_19_code (4 : Nat) (Option.some Jvm.ClassFile.FieldType.boolean)) ∈ lw_all := lw_g (lw_at lw_m0 96 rfl) rfl
theorem q105 : (Jvm.Cond.instanceMethod ({ cls := "CoalitionValues", name := "alike", desc := "(II)Z" } : Jvm.MethodName)) ∈ lw_all := lw_g (lw_at lw_m0 98 rfl) rfl
theorem q106 : (Jvm.Cond.selects "CoalitionValues" ({ cls := "CoalitionValues", name := "alike", desc := "(II)Z" } : Jvm.MethodName) ({ cls := "CoalitionValues", name := "alike", desc := "(II)Z" } : Jvm.MethodName)) ∈ lw_all := lw_g (lw_at lw_m0 99 rfl) rfl
theorem q107 : (Jvm.Cond.code ({ cls := "CoalitionValues", name := "alike", desc := "(II)Z" } : Jvm.MethodName) prog_1_method_20_code (5 : Nat) (Option.some Jvm.ClassFile.FieldType.boolean)) ∈ lw_all := lw_g (lw_at lw_m0 100 rfl) rfl
theorem q109 : (Jvm.Cond.instanceMethod ({ cls := "CoalitionValues", name := "bestSplit", desc := "()I" } : Jvm.MethodName)) ∈ lw_all := lw_g (lw_at lw_m0 102 rfl) rfl
theorem q110 : (Jvm.Cond.selects "CoalitionValues" ({ cls := "CoalitionValues", name := "bestSplit", desc := "()I" } : Jvm.MethodName) ({ cls := "CoalitionValues", name := "bestSplit", desc := "()I" } : Jvm.MethodName)) ∈ lw_all := lw_g (lw_at lw_m0 103 rfl) rfl
theorem q111 : (Jvm.Cond.code ({ cls := "CoalitionValues", name := "bestSplit", desc := "()I" } : Jvm.MethodName) prog_1_method_21_code (8 : Nat) (Option.some Jvm.ClassFile.FieldType.int)) ∈ lw_all := lw_g (lw_at lw_m0 104 rfl) rfl
theorem in_X0 : ∀ w ∈ wsX00, w ∈ lw_all := lw_in wsX00 [23, 25, 27, 29, 31] (by decide +kernel) (by decide +kernel)
/-! java/lang/Object -/
set_option maxRecDepth 100000
def RJ0 : String := "java/lang/Object"
abbrev cJ0_init : ByteArray := object_method_1_code
def yJ0_init : MethodName := ⟨RJ0, "<init>", "()V"⟩
theorem dJ0_init_0 : decode cJ0_init 0 = .ok (.return_, 1) := by decide +kernel
theorem q16 : (Jvm.Cond.instanceMethod ({ cls := "java/lang/Object", name := "<init>", desc := "()V" } : Jvm.MethodName)) ∈ lw_all := lw_g (lw_at lw_m0 9 rfl) rfl
theorem q17 : (Jvm.Cond.code ({ cls := "java/lang/Object", name := "<init>", desc := "()V" } : Jvm.MethodName) object_method_1_code (1 : Nat) (Option.none : Option Jvm.ClassFile.FieldType)) ∈ lw_all := lw_g (lw_at lw_m0 10 rfl) rfl
theorem q34 : (Jvm.Cond.arrayClass Jvm.ClassFile.FieldType.int) ∈ lw_all := lw_g (lw_at lw_m0 27 rfl) rfl
set_option maxRecDepth 100000
end
section
/-! CoalitionValuesModel -/
set_option maxRecDepth 100000
def RX1 : String := "CoalitionValuesModel"
def TX1 : u_T := fun k => match k with
  | 0 => ("CoalitionValuesModel", "worths", "[I", true)
  | 1 => ("CoalitionValuesModel", "moved", "[I", true)
  | 2 => ("CoalitionValuesModel", "parts", "[I", true)
  | _ => ("CoalitionValuesModel", "amounts", "[I", true)
def tyX1 : Nat → FieldType := fun k => match k with
  | 0 => .array .int
  | 1 => .array .int
  | 2 => .array .int
  | _ => .array .int
abbrev wsX10 : List Cond := u_ws RX1 TX1 4
theorem nmX1 : ∀ a, a < 4 → ∀ b, b < 4 → a ≠ b → (TX1 a).2.1 ≠ (TX1 b).2.1 := by decide +kernel
theorem tyX1_ok : ∀ k, k < 4 → parseFieldDescriptor (TX1 k).2.2.1 = some (tyX1 k) := by decide +kernel
abbrev cX1_init : ByteArray := prog_3_method_1_code
def yX1_init : MethodName := ⟨RX1, "<init>", "()V"⟩
theorem dX1_init_0 : decode cX1_init 0 = .ok (.aload_n 0, 1) := by decide +kernel
theorem dX1_init_1 : decode cX1_init 1 = .ok (.invokespecial 1, 3) := by decide +kernel
theorem dX1_init_4 : decode cX1_init 4 = .ok (.aload_n 0, 1) := by decide +kernel
theorem dX1_init_5 : decode cX1_init 5 = .ok (.bipush 32, 2) := by decide +kernel
theorem dX1_init_7 : decode cX1_init 7 = .ok (.newarray .int, 2) := by decide +kernel
theorem dX1_init_9 : decode cX1_init 9 = .ok (.putfield 7, 3) := by decide +kernel
theorem dX1_init_12 : decode cX1_init 12 = .ok (.aload_n 0, 1) := by decide +kernel
theorem dX1_init_13 : decode cX1_init 13 = .ok (.bipush 32, 2) := by decide +kernel
theorem dX1_init_15 : decode cX1_init 15 = .ok (.newarray .int, 2) := by decide +kernel
theorem dX1_init_17 : decode cX1_init 17 = .ok (.putfield 13, 3) := by decide +kernel
theorem dX1_init_20 : decode cX1_init 20 = .ok (.aload_n 0, 1) := by decide +kernel
theorem dX1_init_21 : decode cX1_init 21 = .ok (.bipush 32, 2) := by decide +kernel
theorem dX1_init_23 : decode cX1_init 23 = .ok (.newarray .int, 2) := by decide +kernel
theorem dX1_init_25 : decode cX1_init 25 = .ok (.putfield 16, 3) := by decide +kernel
theorem dX1_init_28 : decode cX1_init 28 = .ok (.aload_n 0, 1) := by decide +kernel
theorem dX1_init_29 : decode cX1_init 29 = .ok (.iconst 5, 1) := by decide +kernel
theorem dX1_init_30 : decode cX1_init 30 = .ok (.newarray .int, 2) := by decide +kernel
theorem dX1_init_32 : decode cX1_init 32 = .ok (.putfield 19, 3) := by decide +kernel
theorem dX1_init_35 : decode cX1_init 35 = .ok (.return_, 1) := by decide +kernel
abbrev cX1_worth : ByteArray := prog_3_method_3_code
def yX1_worth : MethodName := ⟨RX1, "worth", "(II)I"⟩
theorem dX1_worth_0 : decode cX1_worth 0 = .ok (.iload_n 1, 1) := by decide +kernel
theorem dX1_worth_1 : decode cX1_worth 1 = .ok (.iconst 1, 1) := by decide +kernel
theorem dX1_worth_2 : decode cX1_worth 2 = .ok (.if_icmp .lt 9, 3) := by decide +kernel
theorem dX1_worth_5 : decode cX1_worth 5 = .ok (.iload_n 1, 1) := by decide +kernel
theorem dX1_worth_6 : decode cX1_worth 6 = .ok (.bipush 31, 2) := by decide +kernel
theorem dX1_worth_8 : decode cX1_worth 8 = .ok (.if_icmp .le 5, 3) := by decide +kernel
theorem dX1_worth_11 : decode cX1_worth 11 = .ok (.iconst (-1), 1) := by decide +kernel
theorem dX1_worth_12 : decode cX1_worth 12 = .ok (.ireturn, 1) := by decide +kernel
theorem dX1_worth_13 : decode cX1_worth 13 = .ok (.iload_n 2, 1) := by decide +kernel
theorem dX1_worth_14 : decode cX1_worth 14 = .ok (.sipush (-1000), 3) := by decide +kernel
theorem dX1_worth_17 : decode cX1_worth 17 = .ok (.if_icmp .lt 10, 3) := by decide +kernel
theorem dX1_worth_20 : decode cX1_worth 20 = .ok (.iload_n 2, 1) := by decide +kernel
theorem dX1_worth_21 : decode cX1_worth 21 = .ok (.sipush 1000, 3) := by decide +kernel
theorem dX1_worth_24 : decode cX1_worth 24 = .ok (.if_icmp .le 6, 3) := by decide +kernel
theorem dX1_worth_27 : decode cX1_worth 27 = .ok (.bipush (-2), 2) := by decide +kernel
theorem dX1_worth_29 : decode cX1_worth 29 = .ok (.ireturn, 1) := by decide +kernel
theorem dX1_worth_30 : decode cX1_worth 30 = .ok (.aload_n 0, 1) := by decide +kernel
theorem dX1_worth_31 : decode cX1_worth 31 = .ok (.getfield 7, 3) := by decide +kernel
theorem dX1_worth_34 : decode cX1_worth 34 = .ok (.iload_n 1, 1) := by decide +kernel
theorem dX1_worth_35 : decode cX1_worth 35 = .ok (.iaload, 1) := by decide +kernel
theorem dX1_worth_36 : decode cX1_worth 36 = .ok (.istore_n 3, 1) := by decide +kernel
theorem dX1_worth_37 : decode cX1_worth 37 = .ok (.aload_n 0, 1) := by decide +kernel
theorem dX1_worth_38 : decode cX1_worth 38 = .ok (.getfield 7, 3) := by decide +kernel
theorem dX1_worth_41 : decode cX1_worth 41 = .ok (.iload_n 1, 1) := by decide +kernel
theorem dX1_worth_42 : decode cX1_worth 42 = .ok (.iload_n 2, 1) := by decide +kernel
theorem dX1_worth_43 : decode cX1_worth 43 = .ok (.iastore, 1) := by decide +kernel
theorem dX1_worth_44 : decode cX1_worth 44 = .ok (.iload_n 3, 1) := by decide +kernel
theorem dX1_worth_45 : decode cX1_worth 45 = .ok (.ireturn, 1) := by decide +kernel
abbrev cX1_pay : ByteArray := prog_3_method_4_code
def yX1_pay : MethodName := ⟨RX1, "pay", "(II)I"⟩
theorem dX1_pay_0 : decode cX1_pay 0 = .ok (.aload_n 0, 1) := by decide +kernel
theorem dX1_pay_1 : decode cX1_pay 1 = .ok (.iload_n 1, 1) := by decide +kernel
theorem dX1_pay_2 : decode cX1_pay 2 = .ok (.invokevirtual 22, 3) := by decide +kernel
theorem dX1_pay_5 : decode cX1_pay 5 = .ok (.ifCond .ne 6, 3) := by decide +kernel
theorem dX1_pay_8 : decode cX1_pay 8 = .ok (.bipush (-3), 2) := by decide +kernel
theorem dX1_pay_10 : decode cX1_pay 10 = .ok (.ireturn, 1) := by decide +kernel
theorem dX1_pay_11 : decode cX1_pay 11 = .ok (.iload_n 2, 1) := by decide +kernel
theorem dX1_pay_12 : decode cX1_pay 12 = .ok (.sipush (-10000), 3) := by decide +kernel
theorem dX1_pay_15 : decode cX1_pay 15 = .ok (.if_icmp .lt 10, 3) := by decide +kernel
theorem dX1_pay_18 : decode cX1_pay 18 = .ok (.iload_n 2, 1) := by decide +kernel
theorem dX1_pay_19 : decode cX1_pay 19 = .ok (.sipush 10000, 3) := by decide +kernel
theorem dX1_pay_22 : decode cX1_pay 22 = .ok (.if_icmp .le 6, 3) := by decide +kernel
theorem dX1_pay_25 : decode cX1_pay 25 = .ok (.bipush (-2), 2) := by decide +kernel
theorem dX1_pay_27 : decode cX1_pay 27 = .ok (.ireturn, 1) := by decide +kernel
theorem dX1_pay_28 : decode cX1_pay 28 = .ok (.aload_n 0, 1) := by decide +kernel
theorem dX1_pay_29 : decode cX1_pay 29 = .ok (.getfield 19, 3) := by decide +kernel
theorem dX1_pay_32 : decode cX1_pay 32 = .ok (.iload_n 1, 1) := by decide +kernel
theorem dX1_pay_33 : decode cX1_pay 33 = .ok (.iload_n 2, 1) := by decide +kernel
theorem dX1_pay_34 : decode cX1_pay 34 = .ok (.iastore, 1) := by decide +kernel
theorem dX1_pay_35 : decode cX1_pay 35 = .ok (.iconst 0, 1) := by decide +kernel
theorem dX1_pay_36 : decode cX1_pay 36 = .ok (.ireturn, 1) := by decide +kernel
abbrev cX1_isPlayer : ByteArray := prog_3_method_2_code
def yX1_isPlayer : MethodName := ⟨RX1, "isPlayer", "(I)Z"⟩
theorem dX1_isPlayer_0 : decode cX1_isPlayer 0 = .ok (.iload_n 1, 1) := by decide +kernel
theorem dX1_isPlayer_1 : decode cX1_isPlayer 1 = .ok (.ifCond .lt 12, 3) := by decide +kernel
theorem dX1_isPlayer_4 : decode cX1_isPlayer 4 = .ok (.iload_n 1, 1) := by decide +kernel
theorem dX1_isPlayer_5 : decode cX1_isPlayer 5 = .ok (.iconst 5, 1) := by decide +kernel
theorem dX1_isPlayer_6 : decode cX1_isPlayer 6 = .ok (.if_icmp .ge 7, 3) := by decide +kernel
theorem dX1_isPlayer_9 : decode cX1_isPlayer 9 = .ok (.iconst 1, 1) := by decide +kernel
theorem dX1_isPlayer_10 : decode cX1_isPlayer 10 = .ok (.goto 4, 3) := by decide +kernel
theorem dX1_isPlayer_13 : decode cX1_isPlayer 13 = .ok (.iconst 0, 1) := by decide +kernel
theorem dX1_isPlayer_14 : decode cX1_isPlayer 14 = .ok (.ireturn, 1) := by decide +kernel
abbrev cX1_weigh : ByteArray := prog_3_method_5_code
def yX1_weigh : MethodName := ⟨RX1, "weigh", "(II)I"⟩
theorem dX1_weigh_0 : decode cX1_weigh 0 = .ok (.iload_n 2, 1) := by decide +kernel
theorem dX1_weigh_1 : decode cX1_weigh 1 = .ok (.iconst 1, 1) := by decide +kernel
theorem dX1_weigh_2 : decode cX1_weigh 2 = .ok (.if_icmp .lt 9, 3) := by decide +kernel
theorem dX1_weigh_5 : decode cX1_weigh 5 = .ok (.iload_n 2, 1) := by decide +kernel
theorem dX1_weigh_6 : decode cX1_weigh 6 = .ok (.bipush 75, 2) := by decide +kernel
theorem dX1_weigh_8 : decode cX1_weigh 8 = .ok (.if_icmp .le 6, 3) := by decide +kernel
theorem dX1_weigh_11 : decode cX1_weigh 11 = .ok (.bipush (-2), 2) := by decide +kernel
theorem dX1_weigh_13 : decode cX1_weigh 13 = .ok (.ireturn, 1) := by decide +kernel
theorem dX1_weigh_14 : decode cX1_weigh 14 = .ok (.iconst 0, 1) := by decide +kernel
theorem dX1_weigh_15 : decode cX1_weigh 15 = .ok (.istore_n 3, 1) := by decide +kernel
theorem dX1_weigh_16 : decode cX1_weigh 16 = .ok (.iconst 0, 1) := by decide +kernel
theorem dX1_weigh_17 : decode cX1_weigh 17 = .ok (.istore 4, 2) := by decide +kernel
theorem dX1_weigh_19 : decode cX1_weigh 19 = .ok (.iload 4, 2) := by decide +kernel
theorem dX1_weigh_21 : decode cX1_weigh 21 = .ok (.bipush 32, 2) := by decide +kernel
theorem dX1_weigh_23 : decode cX1_weigh 23 = .ok (.if_icmp .ge 79, 3) := by decide +kernel
theorem dX1_weigh_26 : decode cX1_weigh 26 = .ok (.iconst 0, 1) := by decide +kernel
theorem dX1_weigh_27 : decode cX1_weigh 27 = .ok (.istore 5, 2) := by decide +kernel
theorem dX1_weigh_29 : decode cX1_weigh 29 = .ok (.iconst 0, 1) := by decide +kernel
theorem dX1_weigh_30 : decode cX1_weigh 30 = .ok (.istore 6, 2) := by decide +kernel
theorem dX1_weigh_32 : decode cX1_weigh 32 = .ok (.iload 6, 2) := by decide +kernel
theorem dX1_weigh_34 : decode cX1_weigh 34 = .ok (.iconst 5, 1) := by decide +kernel
theorem dX1_weigh_35 : decode cX1_weigh 35 = .ok (.if_icmp .ge 33, 3) := by decide +kernel
theorem dX1_weigh_38 : decode cX1_weigh 38 = .ok (.iload 4, 2) := by decide +kernel
theorem dX1_weigh_40 : decode cX1_weigh 40 = .ok (.iload 6, 2) := by decide +kernel
theorem dX1_weigh_42 : decode cX1_weigh 42 = .ok (.ishr, 1) := by decide +kernel
theorem dX1_weigh_43 : decode cX1_weigh 43 = .ok (.iconst 1, 1) := by decide +kernel
theorem dX1_weigh_44 : decode cX1_weigh 44 = .ok (.iand, 1) := by decide +kernel
theorem dX1_weigh_45 : decode cX1_weigh 45 = .ok (.ifCond .eq 17, 3) := by decide +kernel
theorem dX1_weigh_48 : decode cX1_weigh 48 = .ok (.iload 5, 2) := by decide +kernel
theorem dX1_weigh_50 : decode cX1_weigh 50 = .ok (.iload_n 1, 1) := by decide +kernel
theorem dX1_weigh_51 : decode cX1_weigh 51 = .ok (.iconst 4, 1) := by decide +kernel
theorem dX1_weigh_52 : decode cX1_weigh 52 = .ok (.iload 6, 2) := by decide +kernel
theorem dX1_weigh_54 : decode cX1_weigh 54 = .ok (.imul, 1) := by decide +kernel
theorem dX1_weigh_55 : decode cX1_weigh 55 = .ok (.ishr, 1) := by decide +kernel
theorem dX1_weigh_56 : decode cX1_weigh 56 = .ok (.bipush 15, 2) := by decide +kernel
theorem dX1_weigh_58 : decode cX1_weigh 58 = .ok (.iand, 1) := by decide +kernel
theorem dX1_weigh_59 : decode cX1_weigh 59 = .ok (.iadd, 1) := by decide +kernel
theorem dX1_weigh_60 : decode cX1_weigh 60 = .ok (.istore 5, 2) := by decide +kernel
theorem dX1_weigh_62 : decode cX1_weigh 62 = .ok (.iinc 6 1, 3) := by decide +kernel
theorem dX1_weigh_65 : decode cX1_weigh 65 = .ok (.goto (-33), 3) := by decide +kernel
theorem dX1_weigh_68 : decode cX1_weigh 68 = .ok (.aload_n 0, 1) := by decide +kernel
theorem dX1_weigh_69 : decode cX1_weigh 69 = .ok (.getfield 7, 3) := by decide +kernel
theorem dX1_weigh_72 : decode cX1_weigh 72 = .ok (.iload 4, 2) := by decide +kernel
theorem dX1_weigh_74 : decode cX1_weigh 74 = .ok (.iload 5, 2) := by decide +kernel
theorem dX1_weigh_76 : decode cX1_weigh 76 = .ok (.iload_n 2, 1) := by decide +kernel
theorem dX1_weigh_77 : decode cX1_weigh 77 = .ok (.if_icmp .lt 7, 3) := by decide +kernel
theorem dX1_weigh_80 : decode cX1_weigh 80 = .ok (.iconst 1, 1) := by decide +kernel
theorem dX1_weigh_81 : decode cX1_weigh 81 = .ok (.goto 4, 3) := by decide +kernel
theorem dX1_weigh_84 : decode cX1_weigh 84 = .ok (.iconst 0, 1) := by decide +kernel
theorem dX1_weigh_85 : decode cX1_weigh 85 = .ok (.iastore, 1) := by decide +kernel
theorem dX1_weigh_86 : decode cX1_weigh 86 = .ok (.iload_n 3, 1) := by decide +kernel
theorem dX1_weigh_87 : decode cX1_weigh 87 = .ok (.aload_n 0, 1) := by decide +kernel
theorem dX1_weigh_88 : decode cX1_weigh 88 = .ok (.getfield 7, 3) := by decide +kernel
theorem dX1_weigh_91 : decode cX1_weigh 91 = .ok (.iload 4, 2) := by decide +kernel
theorem dX1_weigh_93 : decode cX1_weigh 93 = .ok (.iaload, 1) := by decide +kernel
theorem dX1_weigh_94 : decode cX1_weigh 94 = .ok (.iadd, 1) := by decide +kernel
theorem dX1_weigh_95 : decode cX1_weigh 95 = .ok (.istore_n 3, 1) := by decide +kernel
theorem dX1_weigh_96 : decode cX1_weigh 96 = .ok (.iinc 4 1, 3) := by decide +kernel
theorem dX1_weigh_99 : decode cX1_weigh 99 = .ok (.goto (-80), 3) := by decide +kernel
theorem dX1_weigh_102 : decode cX1_weigh 102 = .ok (.iload_n 3, 1) := by decide +kernel
theorem dX1_weigh_103 : decode cX1_weigh 103 = .ok (.ireturn, 1) := by decide +kernel
abbrev cX1_exchange : ByteArray := prog_3_method_6_code
def yX1_exchange : MethodName := ⟨RX1, "exchange", "(II)I"⟩
theorem dX1_exchange_0 : decode cX1_exchange 0 = .ok (.aload_n 0, 1) := by decide +kernel
theorem dX1_exchange_1 : decode cX1_exchange 1 = .ok (.iload_n 1, 1) := by decide +kernel
theorem dX1_exchange_2 : decode cX1_exchange 2 = .ok (.invokevirtual 22, 3) := by decide +kernel
theorem dX1_exchange_5 : decode cX1_exchange 5 = .ok (.ifCond .eq 11, 3) := by decide +kernel
theorem dX1_exchange_8 : decode cX1_exchange 8 = .ok (.aload_n 0, 1) := by decide +kernel
theorem dX1_exchange_9 : decode cX1_exchange 9 = .ok (.iload_n 2, 1) := by decide +kernel
theorem dX1_exchange_10 : decode cX1_exchange 10 = .ok (.invokevirtual 22, 3) := by decide +kernel
theorem dX1_exchange_13 : decode cX1_exchange 13 = .ok (.ifCond .ne 6, 3) := by decide +kernel
theorem dX1_exchange_16 : decode cX1_exchange 16 = .ok (.bipush (-3), 2) := by decide +kernel
theorem dX1_exchange_18 : decode cX1_exchange 18 = .ok (.ireturn, 1) := by decide +kernel
theorem dX1_exchange_19 : decode cX1_exchange 19 = .ok (.iconst 0, 1) := by decide +kernel
theorem dX1_exchange_20 : decode cX1_exchange 20 = .ok (.istore_n 3, 1) := by decide +kernel
theorem dX1_exchange_21 : decode cX1_exchange 21 = .ok (.iload_n 3, 1) := by decide +kernel
theorem dX1_exchange_22 : decode cX1_exchange 22 = .ok (.bipush 32, 2) := by decide +kernel
theorem dX1_exchange_24 : decode cX1_exchange 24 = .ok (.if_icmp .ge 21, 3) := by decide +kernel
theorem dX1_exchange_27 : decode cX1_exchange 27 = .ok (.aload_n 0, 1) := by decide +kernel
theorem dX1_exchange_28 : decode cX1_exchange 28 = .ok (.getfield 13, 3) := by decide +kernel
theorem dX1_exchange_31 : decode cX1_exchange 31 = .ok (.iload_n 3, 1) := by decide +kernel
theorem dX1_exchange_32 : decode cX1_exchange 32 = .ok (.aload_n 0, 1) := by decide +kernel
theorem dX1_exchange_33 : decode cX1_exchange 33 = .ok (.getfield 7, 3) := by decide +kernel
theorem dX1_exchange_36 : decode cX1_exchange 36 = .ok (.iload_n 3, 1) := by decide +kernel
theorem dX1_exchange_37 : decode cX1_exchange 37 = .ok (.iaload, 1) := by decide +kernel
theorem dX1_exchange_38 : decode cX1_exchange 38 = .ok (.iastore, 1) := by decide +kernel
theorem dX1_exchange_39 : decode cX1_exchange 39 = .ok (.iinc 3 1, 3) := by decide +kernel
theorem dX1_exchange_42 : decode cX1_exchange 42 = .ok (.goto (-21), 3) := by decide +kernel
theorem dX1_exchange_45 : decode cX1_exchange 45 = .ok (.iconst 0, 1) := by decide +kernel
theorem dX1_exchange_46 : decode cX1_exchange 46 = .ok (.istore_n 3, 1) := by decide +kernel
theorem dX1_exchange_47 : decode cX1_exchange 47 = .ok (.iload_n 3, 1) := by decide +kernel
theorem dX1_exchange_48 : decode cX1_exchange 48 = .ok (.bipush 32, 2) := by decide +kernel
theorem dX1_exchange_50 : decode cX1_exchange 50 = .ok (.if_icmp .ge 69, 3) := by decide +kernel
theorem dX1_exchange_53 : decode cX1_exchange 53 = .ok (.iload_n 3, 1) := by decide +kernel
theorem dX1_exchange_54 : decode cX1_exchange 54 = .ok (.iconst 1, 1) := by decide +kernel
theorem dX1_exchange_55 : decode cX1_exchange 55 = .ok (.iload_n 1, 1) := by decide +kernel
theorem dX1_exchange_56 : decode cX1_exchange 56 = .ok (.ishl, 1) := by decide +kernel
theorem dX1_exchange_57 : decode cX1_exchange 57 = .ok (.iconst (-1), 1) := by decide +kernel
theorem dX1_exchange_58 : decode cX1_exchange 58 = .ok (.ixor, 1) := by decide +kernel
theorem dX1_exchange_59 : decode cX1_exchange 59 = .ok (.iand, 1) := by decide +kernel
theorem dX1_exchange_60 : decode cX1_exchange 60 = .ok (.iconst 1, 1) := by decide +kernel
theorem dX1_exchange_61 : decode cX1_exchange 61 = .ok (.iload_n 2, 1) := by decide +kernel
theorem dX1_exchange_62 : decode cX1_exchange 62 = .ok (.ishl, 1) := by decide +kernel
theorem dX1_exchange_63 : decode cX1_exchange 63 = .ok (.iconst (-1), 1) := by decide +kernel
theorem dX1_exchange_64 : decode cX1_exchange 64 = .ok (.ixor, 1) := by decide +kernel
theorem dX1_exchange_65 : decode cX1_exchange 65 = .ok (.iand, 1) := by decide +kernel
theorem dX1_exchange_66 : decode cX1_exchange 66 = .ok (.istore 4, 2) := by decide +kernel
theorem dX1_exchange_68 : decode cX1_exchange 68 = .ok (.iload_n 3, 1) := by decide +kernel
theorem dX1_exchange_69 : decode cX1_exchange 69 = .ok (.iload_n 1, 1) := by decide +kernel
theorem dX1_exchange_70 : decode cX1_exchange 70 = .ok (.ishr, 1) := by decide +kernel
theorem dX1_exchange_71 : decode cX1_exchange 71 = .ok (.iconst 1, 1) := by decide +kernel
theorem dX1_exchange_72 : decode cX1_exchange 72 = .ok (.iand, 1) := by decide +kernel
theorem dX1_exchange_73 : decode cX1_exchange 73 = .ok (.ifCond .eq 11, 3) := by decide +kernel
theorem dX1_exchange_76 : decode cX1_exchange 76 = .ok (.iload 4, 2) := by decide +kernel
theorem dX1_exchange_78 : decode cX1_exchange 78 = .ok (.iconst 1, 1) := by decide +kernel
theorem dX1_exchange_79 : decode cX1_exchange 79 = .ok (.iload_n 2, 1) := by decide +kernel
theorem dX1_exchange_80 : decode cX1_exchange 80 = .ok (.ishl, 1) := by decide +kernel
theorem dX1_exchange_81 : decode cX1_exchange 81 = .ok (.ior, 1) := by decide +kernel
theorem dX1_exchange_82 : decode cX1_exchange 82 = .ok (.istore 4, 2) := by decide +kernel
theorem dX1_exchange_84 : decode cX1_exchange 84 = .ok (.iload_n 3, 1) := by decide +kernel
theorem dX1_exchange_85 : decode cX1_exchange 85 = .ok (.iload_n 2, 1) := by decide +kernel
theorem dX1_exchange_86 : decode cX1_exchange 86 = .ok (.ishr, 1) := by decide +kernel
theorem dX1_exchange_87 : decode cX1_exchange 87 = .ok (.iconst 1, 1) := by decide +kernel
theorem dX1_exchange_88 : decode cX1_exchange 88 = .ok (.iand, 1) := by decide +kernel
theorem dX1_exchange_89 : decode cX1_exchange 89 = .ok (.ifCond .eq 11, 3) := by decide +kernel
theorem dX1_exchange_92 : decode cX1_exchange 92 = .ok (.iload 4, 2) := by decide +kernel
theorem dX1_exchange_94 : decode cX1_exchange 94 = .ok (.iconst 1, 1) := by decide +kernel
theorem dX1_exchange_95 : decode cX1_exchange 95 = .ok (.iload_n 1, 1) := by decide +kernel
theorem dX1_exchange_96 : decode cX1_exchange 96 = .ok (.ishl, 1) := by decide +kernel
theorem dX1_exchange_97 : decode cX1_exchange 97 = .ok (.ior, 1) := by decide +kernel
theorem dX1_exchange_98 : decode cX1_exchange 98 = .ok (.istore 4, 2) := by decide +kernel
theorem dX1_exchange_100 : decode cX1_exchange 100 = .ok (.aload_n 0, 1) := by decide +kernel
theorem dX1_exchange_101 : decode cX1_exchange 101 = .ok (.getfield 7, 3) := by decide +kernel
theorem dX1_exchange_104 : decode cX1_exchange 104 = .ok (.iload 4, 2) := by decide +kernel
theorem dX1_exchange_106 : decode cX1_exchange 106 = .ok (.aload_n 0, 1) := by decide +kernel
theorem dX1_exchange_107 : decode cX1_exchange 107 = .ok (.getfield 13, 3) := by decide +kernel
theorem dX1_exchange_110 : decode cX1_exchange 110 = .ok (.iload_n 3, 1) := by decide +kernel
theorem dX1_exchange_111 : decode cX1_exchange 111 = .ok (.iaload, 1) := by decide +kernel
theorem dX1_exchange_112 : decode cX1_exchange 112 = .ok (.iastore, 1) := by decide +kernel
theorem dX1_exchange_113 : decode cX1_exchange 113 = .ok (.iinc 3 1, 3) := by decide +kernel
theorem dX1_exchange_116 : decode cX1_exchange 116 = .ok (.goto (-69), 3) := by decide +kernel
theorem dX1_exchange_119 : decode cX1_exchange 119 = .ok (.iconst 0, 1) := by decide +kernel
theorem dX1_exchange_120 : decode cX1_exchange 120 = .ok (.ireturn, 1) := by decide +kernel
abbrev cX1_orderValue : ByteArray := prog_3_method_8_code
def yX1_orderValue : MethodName := ⟨RX1, "orderValue", "(I)I"⟩
theorem dX1_orderValue_0 : decode cX1_orderValue 0 = .ok (.aload_n 0, 1) := by decide +kernel
theorem dX1_orderValue_1 : decode cX1_orderValue 1 = .ok (.iload_n 1, 1) := by decide +kernel
theorem dX1_orderValue_2 : decode cX1_orderValue 2 = .ok (.invokevirtual 22, 3) := by decide +kernel
theorem dX1_orderValue_5 : decode cX1_orderValue 5 = .ok (.ifCond .ne 6, 3) := by decide +kernel
theorem dX1_orderValue_8 : decode cX1_orderValue 8 = .ok (.bipush (-3), 2) := by decide +kernel
theorem dX1_orderValue_10 : decode cX1_orderValue 10 = .ok (.ireturn, 1) := by decide +kernel
theorem dX1_orderValue_11 : decode cX1_orderValue 11 = .ok (.iconst 0, 1) := by decide +kernel
theorem dX1_orderValue_12 : decode cX1_orderValue 12 = .ok (.istore_n 2, 1) := by decide +kernel
theorem dX1_orderValue_13 : decode cX1_orderValue 13 = .ok (.iconst 0, 1) := by decide +kernel
theorem dX1_orderValue_14 : decode cX1_orderValue 14 = .ok (.istore_n 3, 1) := by decide +kernel
theorem dX1_orderValue_15 : decode cX1_orderValue 15 = .ok (.iload_n 3, 1) := by decide +kernel
theorem dX1_orderValue_16 : decode cX1_orderValue 16 = .ok (.bipush 120, 2) := by decide +kernel
theorem dX1_orderValue_18 : decode cX1_orderValue 18 = .ok (.if_icmp .ge 18, 3) := by decide +kernel
theorem dX1_orderValue_21 : decode cX1_orderValue 21 = .ok (.iload_n 2, 1) := by decide +kernel
theorem dX1_orderValue_22 : decode cX1_orderValue 22 = .ok (.aload_n 0, 1) := by decide +kernel
theorem dX1_orderValue_23 : decode cX1_orderValue 23 = .ok (.iload_n 3, 1) := by decide +kernel
theorem dX1_orderValue_24 : decode cX1_orderValue 24 = .ok (.iload_n 1, 1) := by decide +kernel
theorem dX1_orderValue_25 : decode cX1_orderValue 25 = .ok (.invokevirtual 26, 3) := by decide +kernel
theorem dX1_orderValue_28 : decode cX1_orderValue 28 = .ok (.iadd, 1) := by decide +kernel
theorem dX1_orderValue_29 : decode cX1_orderValue 29 = .ok (.istore_n 2, 1) := by decide +kernel
theorem dX1_orderValue_30 : decode cX1_orderValue 30 = .ok (.iinc 3 1, 3) := by decide +kernel
theorem dX1_orderValue_33 : decode cX1_orderValue 33 = .ok (.goto (-18), 3) := by decide +kernel
theorem dX1_orderValue_36 : decode cX1_orderValue 36 = .ok (.iload_n 2, 1) := by decide +kernel
theorem dX1_orderValue_37 : decode cX1_orderValue 37 = .ok (.ireturn, 1) := by decide +kernel
abbrev cX1_marginIn : ByteArray := prog_3_method_7_code
def yX1_marginIn : MethodName := ⟨RX1, "marginIn", "(II)I"⟩
theorem dX1_marginIn_0 : decode cX1_marginIn 0 = .ok (.iload_n 1, 1) := by decide +kernel
theorem dX1_marginIn_1 : decode cX1_marginIn 1 = .ok (.istore_n 3, 1) := by decide +kernel
theorem dX1_marginIn_2 : decode cX1_marginIn 2 = .ok (.iconst 0, 1) := by decide +kernel
theorem dX1_marginIn_3 : decode cX1_marginIn 3 = .ok (.istore 4, 2) := by decide +kernel
theorem dX1_marginIn_5 : decode cX1_marginIn 5 = .ok (.iconst 0, 1) := by decide +kernel
theorem dX1_marginIn_6 : decode cX1_marginIn 6 = .ok (.istore 5, 2) := by decide +kernel
theorem dX1_marginIn_8 : decode cX1_marginIn 8 = .ok (.iload 5, 2) := by decide +kernel
theorem dX1_marginIn_10 : decode cX1_marginIn 10 = .ok (.iconst 5, 1) := by decide +kernel
theorem dX1_marginIn_11 : decode cX1_marginIn 11 = .ok (.if_icmp .ge 103, 3) := by decide +kernel
theorem dX1_marginIn_14 : decode cX1_marginIn 14 = .ok (.iload_n 3, 1) := by decide +kernel
theorem dX1_marginIn_15 : decode cX1_marginIn 15 = .ok (.iconst 5, 1) := by decide +kernel
theorem dX1_marginIn_16 : decode cX1_marginIn 16 = .ok (.iload 5, 2) := by decide +kernel
theorem dX1_marginIn_18 : decode cX1_marginIn 18 = .ok (.isub, 1) := by decide +kernel
theorem dX1_marginIn_19 : decode cX1_marginIn 19 = .ok (.irem, 1) := by decide +kernel
theorem dX1_marginIn_20 : decode cX1_marginIn 20 = .ok (.istore 6, 2) := by decide +kernel
theorem dX1_marginIn_22 : decode cX1_marginIn 22 = .ok (.iload_n 3, 1) := by decide +kernel
theorem dX1_marginIn_23 : decode cX1_marginIn 23 = .ok (.iconst 5, 1) := by decide +kernel
theorem dX1_marginIn_24 : decode cX1_marginIn 24 = .ok (.iload 5, 2) := by decide +kernel
theorem dX1_marginIn_26 : decode cX1_marginIn 26 = .ok (.isub, 1) := by decide +kernel
theorem dX1_marginIn_27 : decode cX1_marginIn 27 = .ok (.idiv, 1) := by decide +kernel
theorem dX1_marginIn_28 : decode cX1_marginIn 28 = .ok (.istore_n 3, 1) := by decide +kernel
theorem dX1_marginIn_29 : decode cX1_marginIn 29 = .ok (.iconst 0, 1) := by decide +kernel
theorem dX1_marginIn_30 : decode cX1_marginIn 30 = .ok (.istore 7, 2) := by decide +kernel
theorem dX1_marginIn_32 : decode cX1_marginIn 32 = .ok (.iload 7, 2) := by decide +kernel
theorem dX1_marginIn_34 : decode cX1_marginIn 34 = .ok (.iconst 5, 1) := by decide +kernel
theorem dX1_marginIn_35 : decode cX1_marginIn 35 = .ok (.if_icmp .ge 37, 3) := by decide +kernel
theorem dX1_marginIn_38 : decode cX1_marginIn 38 = .ok (.iload 4, 2) := by decide +kernel
theorem dX1_marginIn_40 : decode cX1_marginIn 40 = .ok (.iload 7, 2) := by decide +kernel
theorem dX1_marginIn_42 : decode cX1_marginIn 42 = .ok (.ishr, 1) := by decide +kernel
theorem dX1_marginIn_43 : decode cX1_marginIn 43 = .ok (.iconst 1, 1) := by decide +kernel
theorem dX1_marginIn_44 : decode cX1_marginIn 44 = .ok (.iand, 1) := by decide +kernel
theorem dX1_marginIn_45 : decode cX1_marginIn 45 = .ok (.ifCond .ne 8, 3) := by decide +kernel
theorem dX1_marginIn_48 : decode cX1_marginIn 48 = .ok (.iload 6, 2) := by decide +kernel
theorem dX1_marginIn_50 : decode cX1_marginIn 50 = .ok (.ifCond .le 22, 3) := by decide +kernel
theorem dX1_marginIn_53 : decode cX1_marginIn 53 = .ok (.iload 4, 2) := by decide +kernel
theorem dX1_marginIn_55 : decode cX1_marginIn 55 = .ok (.iload 7, 2) := by decide +kernel
theorem dX1_marginIn_57 : decode cX1_marginIn 57 = .ok (.ishr, 1) := by decide +kernel
theorem dX1_marginIn_58 : decode cX1_marginIn 58 = .ok (.iconst 1, 1) := by decide +kernel
theorem dX1_marginIn_59 : decode cX1_marginIn 59 = .ok (.iand, 1) := by decide +kernel
theorem dX1_marginIn_60 : decode cX1_marginIn 60 = .ok (.ifCond .ne 6, 3) := by decide +kernel
theorem dX1_marginIn_63 : decode cX1_marginIn 63 = .ok (.iinc 6 (-1), 3) := by decide +kernel
theorem dX1_marginIn_66 : decode cX1_marginIn 66 = .ok (.iinc 7 1, 3) := by decide +kernel
theorem dX1_marginIn_69 : decode cX1_marginIn 69 = .ok (.goto (-37), 3) := by decide +kernel
theorem dX1_marginIn_72 : decode cX1_marginIn 72 = .ok (.iload 7, 2) := by decide +kernel
theorem dX1_marginIn_74 : decode cX1_marginIn 74 = .ok (.iload_n 2, 1) := by decide +kernel
theorem dX1_marginIn_75 : decode cX1_marginIn 75 = .ok (.if_icmp .ne 24, 3) := by decide +kernel
theorem dX1_marginIn_78 : decode cX1_marginIn 78 = .ok (.aload_n 0, 1) := by decide +kernel
theorem dX1_marginIn_79 : decode cX1_marginIn 79 = .ok (.getfield 7, 3) := by decide +kernel
theorem dX1_marginIn_82 : decode cX1_marginIn 82 = .ok (.iload 4, 2) := by decide +kernel
theorem dX1_marginIn_84 : decode cX1_marginIn 84 = .ok (.iconst 1, 1) := by decide +kernel
theorem dX1_marginIn_85 : decode cX1_marginIn 85 = .ok (.iload 7, 2) := by decide +kernel
theorem dX1_marginIn_87 : decode cX1_marginIn 87 = .ok (.ishl, 1) := by decide +kernel
theorem dX1_marginIn_88 : decode cX1_marginIn 88 = .ok (.ior, 1) := by decide +kernel
theorem dX1_marginIn_89 : decode cX1_marginIn 89 = .ok (.iaload, 1) := by decide +kernel
theorem dX1_marginIn_90 : decode cX1_marginIn 90 = .ok (.aload_n 0, 1) := by decide +kernel
theorem dX1_marginIn_91 : decode cX1_marginIn 91 = .ok (.getfield 7, 3) := by decide +kernel
theorem dX1_marginIn_94 : decode cX1_marginIn 94 = .ok (.iload 4, 2) := by decide +kernel
theorem dX1_marginIn_96 : decode cX1_marginIn 96 = .ok (.iaload, 1) := by decide +kernel
theorem dX1_marginIn_97 : decode cX1_marginIn 97 = .ok (.isub, 1) := by decide +kernel
theorem dX1_marginIn_98 : decode cX1_marginIn 98 = .ok (.ireturn, 1) := by decide +kernel
theorem dX1_marginIn_99 : decode cX1_marginIn 99 = .ok (.iload 4, 2) := by decide +kernel
theorem dX1_marginIn_101 : decode cX1_marginIn 101 = .ok (.iconst 1, 1) := by decide +kernel
theorem dX1_marginIn_102 : decode cX1_marginIn 102 = .ok (.iload 7, 2) := by decide +kernel
theorem dX1_marginIn_104 : decode cX1_marginIn 104 = .ok (.ishl, 1) := by decide +kernel
theorem dX1_marginIn_105 : decode cX1_marginIn 105 = .ok (.ior, 1) := by decide +kernel
theorem dX1_marginIn_106 : decode cX1_marginIn 106 = .ok (.istore 4, 2) := by decide +kernel
theorem dX1_marginIn_108 : decode cX1_marginIn 108 = .ok (.iinc 5 1, 3) := by decide +kernel
theorem dX1_marginIn_111 : decode cX1_marginIn 111 = .ok (.goto (-103), 3) := by decide +kernel
theorem dX1_marginIn_114 : decode cX1_marginIn 114 = .ok (.iconst 0, 1) := by decide +kernel
theorem dX1_marginIn_115 : decode cX1_marginIn 115 = .ok (.ireturn, 1) := by decide +kernel
abbrev cX1_swingValue : ByteArray := prog_3_method_9_code
def yX1_swingValue : MethodName := ⟨RX1, "swingValue", "(I)I"⟩
theorem dX1_swingValue_0 : decode cX1_swingValue 0 = .ok (.aload_n 0, 1) := by decide +kernel
theorem dX1_swingValue_1 : decode cX1_swingValue 1 = .ok (.iload_n 1, 1) := by decide +kernel
theorem dX1_swingValue_2 : decode cX1_swingValue 2 = .ok (.invokevirtual 22, 3) := by decide +kernel
theorem dX1_swingValue_5 : decode cX1_swingValue 5 = .ok (.ifCond .ne 6, 3) := by decide +kernel
theorem dX1_swingValue_8 : decode cX1_swingValue 8 = .ok (.bipush (-3), 2) := by decide +kernel
theorem dX1_swingValue_10 : decode cX1_swingValue 10 = .ok (.ireturn, 1) := by decide +kernel
theorem dX1_swingValue_11 : decode cX1_swingValue 11 = .ok (.iconst 0, 1) := by decide +kernel
theorem dX1_swingValue_12 : decode cX1_swingValue 12 = .ok (.istore_n 2, 1) := by decide +kernel
theorem dX1_swingValue_13 : decode cX1_swingValue 13 = .ok (.iconst 0, 1) := by decide +kernel
theorem dX1_swingValue_14 : decode cX1_swingValue 14 = .ok (.istore_n 3, 1) := by decide +kernel
theorem dX1_swingValue_15 : decode cX1_swingValue 15 = .ok (.iload_n 3, 1) := by decide +kernel
theorem dX1_swingValue_16 : decode cX1_swingValue 16 = .ok (.bipush 32, 2) := by decide +kernel
theorem dX1_swingValue_18 : decode cX1_swingValue 18 = .ok (.if_icmp .ge 37, 3) := by decide +kernel
theorem dX1_swingValue_21 : decode cX1_swingValue 21 = .ok (.iload_n 3, 1) := by decide +kernel
theorem dX1_swingValue_22 : decode cX1_swingValue 22 = .ok (.iload_n 1, 1) := by decide +kernel
theorem dX1_swingValue_23 : decode cX1_swingValue 23 = .ok (.ishr, 1) := by decide +kernel
theorem dX1_swingValue_24 : decode cX1_swingValue 24 = .ok (.iconst 1, 1) := by decide +kernel
theorem dX1_swingValue_25 : decode cX1_swingValue 25 = .ok (.iand, 1) := by decide +kernel
theorem dX1_swingValue_26 : decode cX1_swingValue 26 = .ok (.ifCond .ne 23, 3) := by decide +kernel
theorem dX1_swingValue_29 : decode cX1_swingValue 29 = .ok (.iload_n 2, 1) := by decide +kernel
theorem dX1_swingValue_30 : decode cX1_swingValue 30 = .ok (.aload_n 0, 1) := by decide +kernel
theorem dX1_swingValue_31 : decode cX1_swingValue 31 = .ok (.getfield 7, 3) := by decide +kernel
theorem dX1_swingValue_34 : decode cX1_swingValue 34 = .ok (.iload_n 3, 1) := by decide +kernel
theorem dX1_swingValue_35 : decode cX1_swingValue 35 = .ok (.iconst 1, 1) := by decide +kernel
theorem dX1_swingValue_36 : decode cX1_swingValue 36 = .ok (.iload_n 1, 1) := by decide +kernel
theorem dX1_swingValue_37 : decode cX1_swingValue 37 = .ok (.ishl, 1) := by decide +kernel
theorem dX1_swingValue_38 : decode cX1_swingValue 38 = .ok (.ior, 1) := by decide +kernel
theorem dX1_swingValue_39 : decode cX1_swingValue 39 = .ok (.iaload, 1) := by decide +kernel
theorem dX1_swingValue_40 : decode cX1_swingValue 40 = .ok (.aload_n 0, 1) := by decide +kernel
theorem dX1_swingValue_41 : decode cX1_swingValue 41 = .ok (.getfield 7, 3) := by decide +kernel
theorem dX1_swingValue_44 : decode cX1_swingValue 44 = .ok (.iload_n 3, 1) := by decide +kernel
theorem dX1_swingValue_45 : decode cX1_swingValue 45 = .ok (.iaload, 1) := by decide +kernel
theorem dX1_swingValue_46 : decode cX1_swingValue 46 = .ok (.isub, 1) := by decide +kernel
theorem dX1_swingValue_47 : decode cX1_swingValue 47 = .ok (.iadd, 1) := by decide +kernel
theorem dX1_swingValue_48 : decode cX1_swingValue 48 = .ok (.istore_n 2, 1) := by decide +kernel
theorem dX1_swingValue_49 : decode cX1_swingValue 49 = .ok (.iinc 3 1, 3) := by decide +kernel
theorem dX1_swingValue_52 : decode cX1_swingValue 52 = .ok (.goto (-37), 3) := by decide +kernel
theorem dX1_swingValue_55 : decode cX1_swingValue 55 = .ok (.iload_n 2, 1) := by decide +kernel
theorem dX1_swingValue_56 : decode cX1_swingValue 56 = .ok (.ireturn, 1) := by decide +kernel
abbrev cX1_own : ByteArray := prog_3_method_10_code
def yX1_own : MethodName := ⟨RX1, "own", "(I)I"⟩
theorem dX1_own_0 : decode cX1_own 0 = .ok (.iload_n 1, 1) := by decide +kernel
theorem dX1_own_1 : decode cX1_own 1 = .ok (.iconst 1, 1) := by decide +kernel
theorem dX1_own_2 : decode cX1_own 2 = .ok (.if_icmp .lt 9, 3) := by decide +kernel
theorem dX1_own_5 : decode cX1_own 5 = .ok (.iload_n 1, 1) := by decide +kernel
theorem dX1_own_6 : decode cX1_own 6 = .ok (.bipush 31, 2) := by decide +kernel
theorem dX1_own_8 : decode cX1_own 8 = .ok (.if_icmp .le 5, 3) := by decide +kernel
theorem dX1_own_11 : decode cX1_own 11 = .ok (.iconst (-1), 1) := by decide +kernel
theorem dX1_own_12 : decode cX1_own 12 = .ok (.ireturn, 1) := by decide +kernel
theorem dX1_own_13 : decode cX1_own 13 = .ok (.iconst 1, 1) := by decide +kernel
theorem dX1_own_14 : decode cX1_own 14 = .ok (.istore_n 2, 1) := by decide +kernel
theorem dX1_own_15 : decode cX1_own 15 = .ok (.iload_n 2, 1) := by decide +kernel
theorem dX1_own_16 : decode cX1_own 16 = .ok (.bipush 32, 2) := by decide +kernel
theorem dX1_own_18 : decode cX1_own 18 = .ok (.if_icmp .ge 57, 3) := by decide +kernel
theorem dX1_own_21 : decode cX1_own 21 = .ok (.aload_n 0, 1) := by decide +kernel
theorem dX1_own_22 : decode cX1_own 22 = .ok (.getfield 7, 3) := by decide +kernel
theorem dX1_own_25 : decode cX1_own 25 = .ok (.iload_n 2, 1) := by decide +kernel
theorem dX1_own_26 : decode cX1_own 26 = .ok (.iaload, 1) := by decide +kernel
theorem dX1_own_27 : decode cX1_own 27 = .ok (.istore_n 3, 1) := by decide +kernel
theorem dX1_own_28 : decode cX1_own 28 = .ok (.iconst 1, 1) := by decide +kernel
theorem dX1_own_29 : decode cX1_own 29 = .ok (.istore 4, 2) := by decide +kernel
theorem dX1_own_31 : decode cX1_own 31 = .ok (.iload 4, 2) := by decide +kernel
theorem dX1_own_33 : decode cX1_own 33 = .ok (.iload_n 2, 1) := by decide +kernel
theorem dX1_own_34 : decode cX1_own 34 = .ok (.if_icmp .ge 28, 3) := by decide +kernel
theorem dX1_own_37 : decode cX1_own 37 = .ok (.iload 4, 2) := by decide +kernel
theorem dX1_own_39 : decode cX1_own 39 = .ok (.iload_n 2, 1) := by decide +kernel
theorem dX1_own_40 : decode cX1_own 40 = .ok (.iand, 1) := by decide +kernel
theorem dX1_own_41 : decode cX1_own 41 = .ok (.iload 4, 2) := by decide +kernel
theorem dX1_own_43 : decode cX1_own 43 = .ok (.if_icmp .ne 13, 3) := by decide +kernel
theorem dX1_own_46 : decode cX1_own 46 = .ok (.iload_n 3, 1) := by decide +kernel
theorem dX1_own_47 : decode cX1_own 47 = .ok (.aload_n 0, 1) := by decide +kernel
theorem dX1_own_48 : decode cX1_own 48 = .ok (.getfield 16, 3) := by decide +kernel
theorem dX1_own_51 : decode cX1_own 51 = .ok (.iload 4, 2) := by decide +kernel
theorem dX1_own_53 : decode cX1_own 53 = .ok (.iaload, 1) := by decide +kernel
theorem dX1_own_54 : decode cX1_own 54 = .ok (.isub, 1) := by decide +kernel
theorem dX1_own_55 : decode cX1_own 55 = .ok (.istore_n 3, 1) := by decide +kernel
theorem dX1_own_56 : decode cX1_own 56 = .ok (.iinc 4 1, 3) := by decide +kernel
theorem dX1_own_59 : decode cX1_own 59 = .ok (.goto (-28), 3) := by decide +kernel
theorem dX1_own_62 : decode cX1_own 62 = .ok (.aload_n 0, 1) := by decide +kernel
theorem dX1_own_63 : decode cX1_own 63 = .ok (.getfield 16, 3) := by decide +kernel
theorem dX1_own_66 : decode cX1_own 66 = .ok (.iload_n 2, 1) := by decide +kernel
theorem dX1_own_67 : decode cX1_own 67 = .ok (.iload_n 3, 1) := by decide +kernel
theorem dX1_own_68 : decode cX1_own 68 = .ok (.iastore, 1) := by decide +kernel
theorem dX1_own_69 : decode cX1_own 69 = .ok (.iinc 2 1, 3) := by decide +kernel
theorem dX1_own_72 : decode cX1_own 72 = .ok (.goto (-57), 3) := by decide +kernel
theorem dX1_own_75 : decode cX1_own 75 = .ok (.aload_n 0, 1) := by decide +kernel
theorem dX1_own_76 : decode cX1_own 76 = .ok (.getfield 16, 3) := by decide +kernel
theorem dX1_own_79 : decode cX1_own 79 = .ok (.iload_n 1, 1) := by decide +kernel
theorem dX1_own_80 : decode cX1_own 80 = .ok (.iaload, 1) := by decide +kernel
theorem dX1_own_81 : decode cX1_own 81 = .ok (.ireturn, 1) := by decide +kernel
abbrev cX1_complaint : ByteArray := prog_3_method_12_code
def yX1_complaint : MethodName := ⟨RX1, "complaint", "()I"⟩
theorem dX1_complaint_0 : decode cX1_complaint 0 = .ok (.aload_n 0, 1) := by decide +kernel
theorem dX1_complaint_1 : decode cX1_complaint 1 = .ok (.getfield 7, 3) := by decide +kernel
theorem dX1_complaint_4 : decode cX1_complaint 4 = .ok (.iconst 1, 1) := by decide +kernel
theorem dX1_complaint_5 : decode cX1_complaint 5 = .ok (.iaload, 1) := by decide +kernel
theorem dX1_complaint_6 : decode cX1_complaint 6 = .ok (.aload_n 0, 1) := by decide +kernel
theorem dX1_complaint_7 : decode cX1_complaint 7 = .ok (.iconst 1, 1) := by decide +kernel
theorem dX1_complaint_8 : decode cX1_complaint 8 = .ok (.invokevirtual 30, 3) := by decide +kernel
theorem dX1_complaint_11 : decode cX1_complaint 11 = .ok (.isub, 1) := by decide +kernel
theorem dX1_complaint_12 : decode cX1_complaint 12 = .ok (.istore_n 1, 1) := by decide +kernel
theorem dX1_complaint_13 : decode cX1_complaint 13 = .ok (.iconst 2, 1) := by decide +kernel
theorem dX1_complaint_14 : decode cX1_complaint 14 = .ok (.istore_n 2, 1) := by decide +kernel
theorem dX1_complaint_15 : decode cX1_complaint 15 = .ok (.iload_n 2, 1) := by decide +kernel
theorem dX1_complaint_16 : decode cX1_complaint 16 = .ok (.bipush 31, 2) := by decide +kernel
theorem dX1_complaint_18 : decode cX1_complaint 18 = .ok (.if_icmp .ge 29, 3) := by decide +kernel
theorem dX1_complaint_21 : decode cX1_complaint 21 = .ok (.aload_n 0, 1) := by decide +kernel
theorem dX1_complaint_22 : decode cX1_complaint 22 = .ok (.getfield 7, 3) := by decide +kernel
theorem dX1_complaint_25 : decode cX1_complaint 25 = .ok (.iload_n 2, 1) := by decide +kernel
theorem dX1_complaint_26 : decode cX1_complaint 26 = .ok (.iaload, 1) := by decide +kernel
theorem dX1_complaint_27 : decode cX1_complaint 27 = .ok (.aload_n 0, 1) := by decide +kernel
theorem dX1_complaint_28 : decode cX1_complaint 28 = .ok (.iload_n 2, 1) := by decide +kernel
theorem dX1_complaint_29 : decode cX1_complaint 29 = .ok (.invokevirtual 30, 3) := by decide +kernel
theorem dX1_complaint_32 : decode cX1_complaint 32 = .ok (.isub, 1) := by decide +kernel
theorem dX1_complaint_33 : decode cX1_complaint 33 = .ok (.istore_n 3, 1) := by decide +kernel
theorem dX1_complaint_34 : decode cX1_complaint 34 = .ok (.iload_n 3, 1) := by decide +kernel
theorem dX1_complaint_35 : decode cX1_complaint 35 = .ok (.iload_n 1, 1) := by decide +kernel
theorem dX1_complaint_36 : decode cX1_complaint 36 = .ok (.if_icmp .le 5, 3) := by decide +kernel
theorem dX1_complaint_39 : decode cX1_complaint 39 = .ok (.iload_n 3, 1) := by decide +kernel
theorem dX1_complaint_40 : decode cX1_complaint 40 = .ok (.istore_n 1, 1) := by decide +kernel
theorem dX1_complaint_41 : decode cX1_complaint 41 = .ok (.iinc 2 1, 3) := by decide +kernel
theorem dX1_complaint_44 : decode cX1_complaint 44 = .ok (.goto (-29), 3) := by decide +kernel
theorem dX1_complaint_47 : decode cX1_complaint 47 = .ok (.iload_n 1, 1) := by decide +kernel
theorem dX1_complaint_48 : decode cX1_complaint 48 = .ok (.ireturn, 1) := by decide +kernel
abbrev cX1_share : ByteArray := prog_3_method_11_code
def yX1_share : MethodName := ⟨RX1, "share", "(I)I"⟩
theorem dX1_share_0 : decode cX1_share 0 = .ok (.iconst 0, 1) := by decide +kernel
theorem dX1_share_1 : decode cX1_share 1 = .ok (.istore_n 2, 1) := by decide +kernel
theorem dX1_share_2 : decode cX1_share 2 = .ok (.iconst 0, 1) := by decide +kernel
theorem dX1_share_3 : decode cX1_share 3 = .ok (.istore_n 3, 1) := by decide +kernel
theorem dX1_share_4 : decode cX1_share 4 = .ok (.iload_n 3, 1) := by decide +kernel
theorem dX1_share_5 : decode cX1_share 5 = .ok (.iconst 5, 1) := by decide +kernel
theorem dX1_share_6 : decode cX1_share 6 = .ok (.if_icmp .ge 26, 3) := by decide +kernel
theorem dX1_share_9 : decode cX1_share 9 = .ok (.iload_n 1, 1) := by decide +kernel
theorem dX1_share_10 : decode cX1_share 10 = .ok (.iload_n 3, 1) := by decide +kernel
theorem dX1_share_11 : decode cX1_share 11 = .ok (.ishr, 1) := by decide +kernel
theorem dX1_share_12 : decode cX1_share 12 = .ok (.iconst 1, 1) := by decide +kernel
theorem dX1_share_13 : decode cX1_share 13 = .ok (.iand, 1) := by decide +kernel
theorem dX1_share_14 : decode cX1_share 14 = .ok (.ifCond .eq 12, 3) := by decide +kernel
theorem dX1_share_17 : decode cX1_share 17 = .ok (.iload_n 2, 1) := by decide +kernel
theorem dX1_share_18 : decode cX1_share 18 = .ok (.aload_n 0, 1) := by decide +kernel
theorem dX1_share_19 : decode cX1_share 19 = .ok (.getfield 19, 3) := by decide +kernel
theorem dX1_share_22 : decode cX1_share 22 = .ok (.iload_n 3, 1) := by decide +kernel
theorem dX1_share_23 : decode cX1_share 23 = .ok (.iaload, 1) := by decide +kernel
theorem dX1_share_24 : decode cX1_share 24 = .ok (.iadd, 1) := by decide +kernel
theorem dX1_share_25 : decode cX1_share 25 = .ok (.istore_n 2, 1) := by decide +kernel
theorem dX1_share_26 : decode cX1_share 26 = .ok (.iinc 3 1, 3) := by decide +kernel
theorem dX1_share_29 : decode cX1_share 29 = .ok (.goto (-25), 3) := by decide +kernel
theorem dX1_share_32 : decode cX1_share 32 = .ok (.iload_n 2, 1) := by decide +kernel
theorem dX1_share_33 : decode cX1_share 33 = .ok (.ireturn, 1) := by decide +kernel
abbrev cX1_inCore : ByteArray := prog_3_method_13_code
def yX1_inCore : MethodName := ⟨RX1, "inCore", "()Z"⟩
theorem dX1_inCore_0 : decode cX1_inCore 0 = .ok (.aload_n 0, 1) := by decide +kernel
theorem dX1_inCore_1 : decode cX1_inCore 1 = .ok (.getfield 7, 3) := by decide +kernel
theorem dX1_inCore_4 : decode cX1_inCore 4 = .ok (.bipush 31, 2) := by decide +kernel
theorem dX1_inCore_6 : decode cX1_inCore 6 = .ok (.iaload, 1) := by decide +kernel
theorem dX1_inCore_7 : decode cX1_inCore 7 = .ok (.aload_n 0, 1) := by decide +kernel
theorem dX1_inCore_8 : decode cX1_inCore 8 = .ok (.bipush 31, 2) := by decide +kernel
theorem dX1_inCore_10 : decode cX1_inCore 10 = .ok (.invokevirtual 30, 3) := by decide +kernel
theorem dX1_inCore_13 : decode cX1_inCore 13 = .ok (.if_icmp .ne 14, 3) := by decide +kernel
theorem dX1_inCore_16 : decode cX1_inCore 16 = .ok (.aload_n 0, 1) := by decide +kernel
theorem dX1_inCore_17 : decode cX1_inCore 17 = .ok (.invokevirtual 34, 3) := by decide +kernel
theorem dX1_inCore_20 : decode cX1_inCore 20 = .ok (.ifCond .gt 7, 3) := by decide +kernel
theorem dX1_inCore_23 : decode cX1_inCore 23 = .ok (.iconst 1, 1) := by decide +kernel
theorem dX1_inCore_24 : decode cX1_inCore 24 = .ok (.goto 4, 3) := by decide +kernel
theorem dX1_inCore_27 : decode cX1_inCore 27 = .ok (.iconst 0, 1) := by decide +kernel
theorem dX1_inCore_28 : decode cX1_inCore 28 = .ok (.ireturn, 1) := by decide +kernel
abbrev cX1_convex : ByteArray := prog_3_method_14_code
def yX1_convex : MethodName := ⟨RX1, "convex", "()Z"⟩
theorem dX1_convex_0 : decode cX1_convex 0 = .ok (.iconst 0, 1) := by decide +kernel
theorem dX1_convex_1 : decode cX1_convex 1 = .ok (.istore_n 1, 1) := by decide +kernel
theorem dX1_convex_2 : decode cX1_convex 2 = .ok (.iload_n 1, 1) := by decide +kernel
theorem dX1_convex_3 : decode cX1_convex 3 = .ok (.sipush 1024, 3) := by decide +kernel
theorem dX1_convex_6 : decode cX1_convex 6 = .ok (.if_icmp .ge 54, 3) := by decide +kernel
theorem dX1_convex_9 : decode cX1_convex 9 = .ok (.iload_n 1, 1) := by decide +kernel
theorem dX1_convex_10 : decode cX1_convex 10 = .ok (.bipush 32, 2) := by decide +kernel
theorem dX1_convex_12 : decode cX1_convex 12 = .ok (.idiv, 1) := by decide +kernel
theorem dX1_convex_13 : decode cX1_convex 13 = .ok (.istore_n 2, 1) := by decide +kernel
theorem dX1_convex_14 : decode cX1_convex 14 = .ok (.iload_n 1, 1) := by decide +kernel
theorem dX1_convex_15 : decode cX1_convex 15 = .ok (.bipush 32, 2) := by decide +kernel
theorem dX1_convex_17 : decode cX1_convex 17 = .ok (.irem, 1) := by decide +kernel
theorem dX1_convex_18 : decode cX1_convex 18 = .ok (.istore_n 3, 1) := by decide +kernel
theorem dX1_convex_19 : decode cX1_convex 19 = .ok (.aload_n 0, 1) := by decide +kernel
theorem dX1_convex_20 : decode cX1_convex 20 = .ok (.getfield 7, 3) := by decide +kernel
theorem dX1_convex_23 : decode cX1_convex 23 = .ok (.iload_n 2, 1) := by decide +kernel
theorem dX1_convex_24 : decode cX1_convex 24 = .ok (.iload_n 3, 1) := by decide +kernel
theorem dX1_convex_25 : decode cX1_convex 25 = .ok (.ior, 1) := by decide +kernel
theorem dX1_convex_26 : decode cX1_convex 26 = .ok (.iaload, 1) := by decide +kernel
theorem dX1_convex_27 : decode cX1_convex 27 = .ok (.aload_n 0, 1) := by decide +kernel
theorem dX1_convex_28 : decode cX1_convex 28 = .ok (.getfield 7, 3) := by decide +kernel
theorem dX1_convex_31 : decode cX1_convex 31 = .ok (.iload_n 2, 1) := by decide +kernel
theorem dX1_convex_32 : decode cX1_convex 32 = .ok (.iload_n 3, 1) := by decide +kernel
theorem dX1_convex_33 : decode cX1_convex 33 = .ok (.iand, 1) := by decide +kernel
theorem dX1_convex_34 : decode cX1_convex 34 = .ok (.iaload, 1) := by decide +kernel
theorem dX1_convex_35 : decode cX1_convex 35 = .ok (.iadd, 1) := by decide +kernel
theorem dX1_convex_36 : decode cX1_convex 36 = .ok (.aload_n 0, 1) := by decide +kernel
theorem dX1_convex_37 : decode cX1_convex 37 = .ok (.getfield 7, 3) := by decide +kernel
theorem dX1_convex_40 : decode cX1_convex 40 = .ok (.iload_n 2, 1) := by decide +kernel
theorem dX1_convex_41 : decode cX1_convex 41 = .ok (.iaload, 1) := by decide +kernel
theorem dX1_convex_42 : decode cX1_convex 42 = .ok (.aload_n 0, 1) := by decide +kernel
theorem dX1_convex_43 : decode cX1_convex 43 = .ok (.getfield 7, 3) := by decide +kernel
theorem dX1_convex_46 : decode cX1_convex 46 = .ok (.iload_n 3, 1) := by decide +kernel
theorem dX1_convex_47 : decode cX1_convex 47 = .ok (.iaload, 1) := by decide +kernel
theorem dX1_convex_48 : decode cX1_convex 48 = .ok (.iadd, 1) := by decide +kernel
theorem dX1_convex_49 : decode cX1_convex 49 = .ok (.if_icmp .ge 5, 3) := by decide +kernel
theorem dX1_convex_52 : decode cX1_convex 52 = .ok (.iconst 0, 1) := by decide +kernel
theorem dX1_convex_53 : decode cX1_convex 53 = .ok (.ireturn, 1) := by decide +kernel
theorem dX1_convex_54 : decode cX1_convex 54 = .ok (.iinc 1 1, 3) := by decide +kernel
theorem dX1_convex_57 : decode cX1_convex 57 = .ok (.goto (-55), 3) := by decide +kernel
theorem dX1_convex_60 : decode cX1_convex 60 = .ok (.iconst 1, 1) := by decide +kernel
theorem dX1_convex_61 : decode cX1_convex 61 = .ok (.ireturn, 1) := by decide +kernel
abbrev cX1_superadditive : ByteArray := prog_3_method_15_code
def yX1_superadditive : MethodName := ⟨RX1, "superadditive", "()Z"⟩
theorem dX1_superadditive_0 : decode cX1_superadditive 0 = .ok (.iconst 0, 1) := by decide +kernel
theorem dX1_superadditive_1 : decode cX1_superadditive 1 = .ok (.istore_n 1, 1) := by decide +kernel
theorem dX1_superadditive_2 : decode cX1_superadditive 2 = .ok (.iload_n 1, 1) := by decide +kernel
theorem dX1_superadditive_3 : decode cX1_superadditive 3 = .ok (.sipush 1024, 3) := by decide +kernel
theorem dX1_superadditive_6 : decode cX1_superadditive 6 = .ok (.if_icmp .ge 51, 3) := by decide +kernel
theorem dX1_superadditive_9 : decode cX1_superadditive 9 = .ok (.iload_n 1, 1) := by decide +kernel
theorem dX1_superadditive_10 : decode cX1_superadditive 10 = .ok (.bipush 32, 2) := by decide +kernel
theorem dX1_superadditive_12 : decode cX1_superadditive 12 = .ok (.idiv, 1) := by decide +kernel
theorem dX1_superadditive_13 : decode cX1_superadditive 13 = .ok (.istore_n 2, 1) := by decide +kernel
theorem dX1_superadditive_14 : decode cX1_superadditive 14 = .ok (.iload_n 1, 1) := by decide +kernel
theorem dX1_superadditive_15 : decode cX1_superadditive 15 = .ok (.bipush 32, 2) := by decide +kernel
theorem dX1_superadditive_17 : decode cX1_superadditive 17 = .ok (.irem, 1) := by decide +kernel
theorem dX1_superadditive_18 : decode cX1_superadditive 18 = .ok (.istore_n 3, 1) := by decide +kernel
theorem dX1_superadditive_19 : decode cX1_superadditive 19 = .ok (.iload_n 2, 1) := by decide +kernel
theorem dX1_superadditive_20 : decode cX1_superadditive 20 = .ok (.iload_n 3, 1) := by decide +kernel
theorem dX1_superadditive_21 : decode cX1_superadditive 21 = .ok (.iand, 1) := by decide +kernel
theorem dX1_superadditive_22 : decode cX1_superadditive 22 = .ok (.ifCond .ne 29, 3) := by decide +kernel
theorem dX1_superadditive_25 : decode cX1_superadditive 25 = .ok (.aload_n 0, 1) := by decide +kernel
theorem dX1_superadditive_26 : decode cX1_superadditive 26 = .ok (.getfield 7, 3) := by decide +kernel
theorem dX1_superadditive_29 : decode cX1_superadditive 29 = .ok (.iload_n 2, 1) := by decide +kernel
theorem dX1_superadditive_30 : decode cX1_superadditive 30 = .ok (.iload_n 3, 1) := by decide +kernel
theorem dX1_superadditive_31 : decode cX1_superadditive 31 = .ok (.ior, 1) := by decide +kernel
theorem dX1_superadditive_32 : decode cX1_superadditive 32 = .ok (.iaload, 1) := by decide +kernel
theorem dX1_superadditive_33 : decode cX1_superadditive 33 = .ok (.aload_n 0, 1) := by decide +kernel
theorem dX1_superadditive_34 : decode cX1_superadditive 34 = .ok (.getfield 7, 3) := by decide +kernel
theorem dX1_superadditive_37 : decode cX1_superadditive 37 = .ok (.iload_n 2, 1) := by decide +kernel
theorem dX1_superadditive_38 : decode cX1_superadditive 38 = .ok (.iaload, 1) := by decide +kernel
theorem dX1_superadditive_39 : decode cX1_superadditive 39 = .ok (.aload_n 0, 1) := by decide +kernel
theorem dX1_superadditive_40 : decode cX1_superadditive 40 = .ok (.getfield 7, 3) := by decide +kernel
theorem dX1_superadditive_43 : decode cX1_superadditive 43 = .ok (.iload_n 3, 1) := by decide +kernel
theorem dX1_superadditive_44 : decode cX1_superadditive 44 = .ok (.iaload, 1) := by decide +kernel
theorem dX1_superadditive_45 : decode cX1_superadditive 45 = .ok (.iadd, 1) := by decide +kernel
theorem dX1_superadditive_46 : decode cX1_superadditive 46 = .ok (.if_icmp .ge 5, 3) := by decide +kernel
theorem dX1_superadditive_49 : decode cX1_superadditive 49 = .ok (.iconst 0, 1) := by decide +kernel
theorem dX1_superadditive_50 : decode cX1_superadditive 50 = .ok (.ireturn, 1) := by decide +kernel
theorem dX1_superadditive_51 : decode cX1_superadditive 51 = .ok (.iinc 1 1, 3) := by decide +kernel
theorem dX1_superadditive_54 : decode cX1_superadditive 54 = .ok (.goto (-52), 3) := by decide +kernel
theorem dX1_superadditive_57 : decode cX1_superadditive 57 = .ok (.iconst 1, 1) := by decide +kernel
theorem dX1_superadditive_58 : decode cX1_superadditive 58 = .ok (.ireturn, 1) := by decide +kernel
abbrev cX1_alike : ByteArray := prog_3_method_16_code
def yX1_alike : MethodName := ⟨RX1, "alike", "(II)Z"⟩
theorem dX1_alike_0 : decode cX1_alike 0 = .ok (.aload_n 0, 1) := by decide +kernel
theorem dX1_alike_1 : decode cX1_alike 1 = .ok (.iload_n 1, 1) := by decide +kernel
theorem dX1_alike_2 : decode cX1_alike 2 = .ok (.invokevirtual 22, 3) := by decide +kernel
theorem dX1_alike_5 : decode cX1_alike 5 = .ok (.ifCond .eq 11, 3) := by decide +kernel
theorem dX1_alike_8 : decode cX1_alike 8 = .ok (.aload_n 0, 1) := by decide +kernel
theorem dX1_alike_9 : decode cX1_alike 9 = .ok (.iload_n 2, 1) := by decide +kernel
theorem dX1_alike_10 : decode cX1_alike 10 = .ok (.invokevirtual 22, 3) := by decide +kernel
theorem dX1_alike_13 : decode cX1_alike 13 = .ok (.ifCond .ne 5, 3) := by decide +kernel
theorem dX1_alike_16 : decode cX1_alike 16 = .ok (.iconst 0, 1) := by decide +kernel
theorem dX1_alike_17 : decode cX1_alike 17 = .ok (.ireturn, 1) := by decide +kernel
theorem dX1_alike_18 : decode cX1_alike 18 = .ok (.iconst 0, 1) := by decide +kernel
theorem dX1_alike_19 : decode cX1_alike 19 = .ok (.istore_n 3, 1) := by decide +kernel
theorem dX1_alike_20 : decode cX1_alike 20 = .ok (.iload_n 3, 1) := by decide +kernel
theorem dX1_alike_21 : decode cX1_alike 21 = .ok (.bipush 32, 2) := by decide +kernel
theorem dX1_alike_23 : decode cX1_alike 23 = .ok (.if_icmp .ge 62, 3) := by decide +kernel
theorem dX1_alike_26 : decode cX1_alike 26 = .ok (.iload_n 3, 1) := by decide +kernel
theorem dX1_alike_27 : decode cX1_alike 27 = .ok (.iload_n 1, 1) := by decide +kernel
theorem dX1_alike_28 : decode cX1_alike 28 = .ok (.ishr, 1) := by decide +kernel
theorem dX1_alike_29 : decode cX1_alike 29 = .ok (.iconst 1, 1) := by decide +kernel
theorem dX1_alike_30 : decode cX1_alike 30 = .ok (.iand, 1) := by decide +kernel
theorem dX1_alike_31 : decode cX1_alike 31 = .ok (.ifCond .ne 15, 3) := by decide +kernel
theorem dX1_alike_34 : decode cX1_alike 34 = .ok (.iload_n 3, 1) := by decide +kernel
theorem dX1_alike_35 : decode cX1_alike 35 = .ok (.iload_n 2, 1) := by decide +kernel
theorem dX1_alike_36 : decode cX1_alike 36 = .ok (.ishr, 1) := by decide +kernel
theorem dX1_alike_37 : decode cX1_alike 37 = .ok (.iconst 1, 1) := by decide +kernel
theorem dX1_alike_38 : decode cX1_alike 38 = .ok (.iand, 1) := by decide +kernel
theorem dX1_alike_39 : decode cX1_alike 39 = .ok (.ifCond .ne 7, 3) := by decide +kernel
theorem dX1_alike_42 : decode cX1_alike 42 = .ok (.iconst 1, 1) := by decide +kernel
theorem dX1_alike_43 : decode cX1_alike 43 = .ok (.goto 4, 3) := by decide +kernel
theorem dX1_alike_46 : decode cX1_alike 46 = .ok (.iconst 0, 1) := by decide +kernel
theorem dX1_alike_47 : decode cX1_alike 47 = .ok (.istore 4, 2) := by decide +kernel
theorem dX1_alike_49 : decode cX1_alike 49 = .ok (.iload 4, 2) := by decide +kernel
theorem dX1_alike_51 : decode cX1_alike 51 = .ok (.ifCond .eq 28, 3) := by decide +kernel
theorem dX1_alike_54 : decode cX1_alike 54 = .ok (.aload_n 0, 1) := by decide +kernel
theorem dX1_alike_55 : decode cX1_alike 55 = .ok (.getfield 7, 3) := by decide +kernel
theorem dX1_alike_58 : decode cX1_alike 58 = .ok (.iload_n 3, 1) := by decide +kernel
theorem dX1_alike_59 : decode cX1_alike 59 = .ok (.iconst 1, 1) := by decide +kernel
theorem dX1_alike_60 : decode cX1_alike 60 = .ok (.iload_n 1, 1) := by decide +kernel
theorem dX1_alike_61 : decode cX1_alike 61 = .ok (.ishl, 1) := by decide +kernel
theorem dX1_alike_62 : decode cX1_alike 62 = .ok (.ior, 1) := by decide +kernel
theorem dX1_alike_63 : decode cX1_alike 63 = .ok (.iaload, 1) := by decide +kernel
theorem dX1_alike_64 : decode cX1_alike 64 = .ok (.aload_n 0, 1) := by decide +kernel
theorem dX1_alike_65 : decode cX1_alike 65 = .ok (.getfield 7, 3) := by decide +kernel
theorem dX1_alike_68 : decode cX1_alike 68 = .ok (.iload_n 3, 1) := by decide +kernel
theorem dX1_alike_69 : decode cX1_alike 69 = .ok (.iconst 1, 1) := by decide +kernel
theorem dX1_alike_70 : decode cX1_alike 70 = .ok (.iload_n 2, 1) := by decide +kernel
theorem dX1_alike_71 : decode cX1_alike 71 = .ok (.ishl, 1) := by decide +kernel
theorem dX1_alike_72 : decode cX1_alike 72 = .ok (.ior, 1) := by decide +kernel
theorem dX1_alike_73 : decode cX1_alike 73 = .ok (.iaload, 1) := by decide +kernel
theorem dX1_alike_74 : decode cX1_alike 74 = .ok (.if_icmp .eq 5, 3) := by decide +kernel
theorem dX1_alike_77 : decode cX1_alike 77 = .ok (.iconst 0, 1) := by decide +kernel
theorem dX1_alike_78 : decode cX1_alike 78 = .ok (.ireturn, 1) := by decide +kernel
theorem dX1_alike_79 : decode cX1_alike 79 = .ok (.iinc 3 1, 3) := by decide +kernel
theorem dX1_alike_82 : decode cX1_alike 82 = .ok (.goto (-62), 3) := by decide +kernel
theorem dX1_alike_85 : decode cX1_alike 85 = .ok (.iconst 1, 1) := by decide +kernel
theorem dX1_alike_86 : decode cX1_alike 86 = .ok (.ireturn, 1) := by decide +kernel
abbrev cX1_bestSplit : ByteArray := prog_3_method_18_code
def yX1_bestSplit : MethodName := ⟨RX1, "bestSplit", "()I"⟩
theorem dX1_bestSplit_0 : decode cX1_bestSplit 0 = .ok (.aload_n 0, 1) := by decide +kernel
theorem dX1_bestSplit_1 : decode cX1_bestSplit 1 = .ok (.iconst 0, 1) := by decide +kernel
theorem dX1_bestSplit_2 : decode cX1_bestSplit 2 = .ok (.invokevirtual 38, 3) := by decide +kernel
theorem dX1_bestSplit_5 : decode cX1_bestSplit 5 = .ok (.istore_n 1, 1) := by decide +kernel
theorem dX1_bestSplit_6 : decode cX1_bestSplit 6 = .ok (.iconst 1, 1) := by decide +kernel
theorem dX1_bestSplit_7 : decode cX1_bestSplit 7 = .ok (.istore_n 2, 1) := by decide +kernel
theorem dX1_bestSplit_8 : decode cX1_bestSplit 8 = .ok (.iload_n 2, 1) := by decide +kernel
theorem dX1_bestSplit_9 : decode cX1_bestSplit 9 = .ok (.sipush 3125, 3) := by decide +kernel
theorem dX1_bestSplit_12 : decode cX1_bestSplit 12 = .ok (.if_icmp .ge 22, 3) := by decide +kernel
theorem dX1_bestSplit_15 : decode cX1_bestSplit 15 = .ok (.aload_n 0, 1) := by decide +kernel
theorem dX1_bestSplit_16 : decode cX1_bestSplit 16 = .ok (.iload_n 2, 1) := by decide +kernel
theorem dX1_bestSplit_17 : decode cX1_bestSplit 17 = .ok (.invokevirtual 38, 3) := by decide +kernel
theorem dX1_bestSplit_20 : decode cX1_bestSplit 20 = .ok (.istore_n 3, 1) := by decide +kernel
theorem dX1_bestSplit_21 : decode cX1_bestSplit 21 = .ok (.iload_n 3, 1) := by decide +kernel
theorem dX1_bestSplit_22 : decode cX1_bestSplit 22 = .ok (.iload_n 1, 1) := by decide +kernel
theorem dX1_bestSplit_23 : decode cX1_bestSplit 23 = .ok (.if_icmp .le 5, 3) := by decide +kernel
theorem dX1_bestSplit_26 : decode cX1_bestSplit 26 = .ok (.iload_n 3, 1) := by decide +kernel
theorem dX1_bestSplit_27 : decode cX1_bestSplit 27 = .ok (.istore_n 1, 1) := by decide +kernel
theorem dX1_bestSplit_28 : decode cX1_bestSplit 28 = .ok (.iinc 2 1, 3) := by decide +kernel
theorem dX1_bestSplit_31 : decode cX1_bestSplit 31 = .ok (.goto (-23), 3) := by decide +kernel
theorem dX1_bestSplit_34 : decode cX1_bestSplit 34 = .ok (.iload_n 1, 1) := by decide +kernel
theorem dX1_bestSplit_35 : decode cX1_bestSplit 35 = .ok (.ireturn, 1) := by decide +kernel
abbrev cX1_splitWorth : ByteArray := prog_3_method_17_code
def yX1_splitWorth : MethodName := ⟨RX1, "splitWorth", "(I)I"⟩
theorem dX1_splitWorth_0 : decode cX1_splitWorth 0 = .ok (.iconst 0, 1) := by decide +kernel
theorem dX1_splitWorth_1 : decode cX1_splitWorth 1 = .ok (.istore_n 2, 1) := by decide +kernel
theorem dX1_splitWorth_2 : decode cX1_splitWorth 2 = .ok (.iconst 0, 1) := by decide +kernel
theorem dX1_splitWorth_3 : decode cX1_splitWorth 3 = .ok (.istore_n 3, 1) := by decide +kernel
theorem dX1_splitWorth_4 : decode cX1_splitWorth 4 = .ok (.iload_n 3, 1) := by decide +kernel
theorem dX1_splitWorth_5 : decode cX1_splitWorth 5 = .ok (.iconst 5, 1) := by decide +kernel
theorem dX1_splitWorth_6 : decode cX1_splitWorth 6 = .ok (.if_icmp .ge 63, 3) := by decide +kernel
theorem dX1_splitWorth_9 : decode cX1_splitWorth 9 = .ok (.iconst 0, 1) := by decide +kernel
theorem dX1_splitWorth_10 : decode cX1_splitWorth 10 = .ok (.istore 4, 2) := by decide +kernel
theorem dX1_splitWorth_12 : decode cX1_splitWorth 12 = .ok (.iload_n 1, 1) := by decide +kernel
theorem dX1_splitWorth_13 : decode cX1_splitWorth 13 = .ok (.istore 5, 2) := by decide +kernel
theorem dX1_splitWorth_15 : decode cX1_splitWorth 15 = .ok (.iconst 0, 1) := by decide +kernel
theorem dX1_splitWorth_16 : decode cX1_splitWorth 16 = .ok (.istore 6, 2) := by decide +kernel
theorem dX1_splitWorth_18 : decode cX1_splitWorth 18 = .ok (.iload 6, 2) := by decide +kernel
theorem dX1_splitWorth_20 : decode cX1_splitWorth 20 = .ok (.iconst 5, 1) := by decide +kernel
theorem dX1_splitWorth_21 : decode cX1_splitWorth 21 = .ok (.if_icmp .ge 32, 3) := by decide +kernel
theorem dX1_splitWorth_24 : decode cX1_splitWorth 24 = .ok (.iload 5, 2) := by decide +kernel
theorem dX1_splitWorth_26 : decode cX1_splitWorth 26 = .ok (.iconst 5, 1) := by decide +kernel
theorem dX1_splitWorth_27 : decode cX1_splitWorth 27 = .ok (.irem, 1) := by decide +kernel
theorem dX1_splitWorth_28 : decode cX1_splitWorth 28 = .ok (.iload_n 3, 1) := by decide +kernel
theorem dX1_splitWorth_29 : decode cX1_splitWorth 29 = .ok (.if_icmp .ne 12, 3) := by decide +kernel
theorem dX1_splitWorth_32 : decode cX1_splitWorth 32 = .ok (.iload 4, 2) := by decide +kernel
theorem dX1_splitWorth_34 : decode cX1_splitWorth 34 = .ok (.iconst 1, 1) := by decide +kernel
theorem dX1_splitWorth_35 : decode cX1_splitWorth 35 = .ok (.iload 6, 2) := by decide +kernel
theorem dX1_splitWorth_37 : decode cX1_splitWorth 37 = .ok (.ishl, 1) := by decide +kernel
theorem dX1_splitWorth_38 : decode cX1_splitWorth 38 = .ok (.ior, 1) := by decide +kernel
theorem dX1_splitWorth_39 : decode cX1_splitWorth 39 = .ok (.istore 4, 2) := by decide +kernel
theorem dX1_splitWorth_41 : decode cX1_splitWorth 41 = .ok (.iload 5, 2) := by decide +kernel
theorem dX1_splitWorth_43 : decode cX1_splitWorth 43 = .ok (.iconst 5, 1) := by decide +kernel
theorem dX1_splitWorth_44 : decode cX1_splitWorth 44 = .ok (.idiv, 1) := by decide +kernel
theorem dX1_splitWorth_45 : decode cX1_splitWorth 45 = .ok (.istore 5, 2) := by decide +kernel
theorem dX1_splitWorth_47 : decode cX1_splitWorth 47 = .ok (.iinc 6 1, 3) := by decide +kernel
theorem dX1_splitWorth_50 : decode cX1_splitWorth 50 = .ok (.goto (-32), 3) := by decide +kernel
theorem dX1_splitWorth_53 : decode cX1_splitWorth 53 = .ok (.iload_n 2, 1) := by decide +kernel
theorem dX1_splitWorth_54 : decode cX1_splitWorth 54 = .ok (.aload_n 0, 1) := by decide +kernel
theorem dX1_splitWorth_55 : decode cX1_splitWorth 55 = .ok (.getfield 7, 3) := by decide +kernel
theorem dX1_splitWorth_58 : decode cX1_splitWorth 58 = .ok (.iload 4, 2) := by decide +kernel
theorem dX1_splitWorth_60 : decode cX1_splitWorth 60 = .ok (.iaload, 1) := by decide +kernel
theorem dX1_splitWorth_61 : decode cX1_splitWorth 61 = .ok (.iadd, 1) := by decide +kernel
theorem dX1_splitWorth_62 : decode cX1_splitWorth 62 = .ok (.istore_n 2, 1) := by decide +kernel
theorem dX1_splitWorth_63 : decode cX1_splitWorth 63 = .ok (.iinc 3 1, 3) := by decide +kernel
theorem dX1_splitWorth_66 : decode cX1_splitWorth 66 = .ok (.goto (-62), 3) := by decide +kernel
theorem dX1_splitWorth_69 : decode cX1_splitWorth 69 = .ok (.iload_n 2, 1) := by decide +kernel
theorem dX1_splitWorth_70 : decode cX1_splitWorth 70 = .ok (.ireturn, 1) := by decide +kernel
theorem q9 : (Jvm.Cond.initialized "CoalitionValuesModel") ∈ lw_all := lw_g (lw_at lw_m0 2 rfl) rfl
theorem q113 : (Jvm.Cond.instantiable "CoalitionValuesModel" (4 : Nat)) ∈ lw_all := lw_g (lw_at lw_m0 106 rfl) rfl
theorem q115 : (Jvm.Cond.instanceMethod ({ cls := "CoalitionValuesModel", name := "<init>", desc := "()V" } : Jvm.MethodName)) ∈ lw_all := lw_g (lw_at lw_m0 108 rfl) rfl
theorem q116 : (Jvm.Cond.code ({ cls := "CoalitionValuesModel", name := "<init>", desc := "()V" } : Jvm.MethodName) prog_3_method_1_code (1 : Nat) (Option.none : Option Jvm.ClassFile.FieldType)) ∈ lw_all := lw_g (lw_at lw_m0 109 rfl) rfl
theorem q117 : (Jvm.Cond.methodLink "CoalitionValuesModel" (1 : Nat) ({ cls := "java/lang/Object", name := "<init>", desc := "()V" } : Jvm.MethodName)) ∈ lw_all := lw_g (lw_at lw_m0 110 rfl) rfl
theorem q118 : (Jvm.Cond.fieldLink "CoalitionValuesModel" (7 : Nat) "CoalitionValuesModel" "worths" "[I") ∈ lw_all := lw_g (lw_at lw_m0 111 rfl) rfl
theorem q119 : (Jvm.Cond.fieldLink "CoalitionValuesModel" (13 : Nat) "CoalitionValuesModel" "moved" "[I") ∈ lw_all := lw_g (lw_at lw_m0 112 rfl) rfl
theorem q120 : (Jvm.Cond.fieldLink "CoalitionValuesModel" (16 : Nat) "CoalitionValuesModel" "parts" "[I") ∈ lw_all := lw_g (lw_at lw_m0 113 rfl) rfl
theorem q121 : (Jvm.Cond.fieldLink "CoalitionValuesModel" (19 : Nat) "CoalitionValuesModel" "amounts" "[I") ∈ lw_all := lw_g (lw_at lw_m0 114 rfl) rfl
theorem q122 : (Jvm.Cond.laysFinal "CoalitionValuesModel" "CoalitionValuesModel" "worths" "[I") ∈ lw_all := lw_g (lw_at lw_m0 115 rfl) rfl
theorem q123 : (Jvm.Cond.soleField "CoalitionValuesModel" "worths") ∈ lw_all := lw_g (lw_at lw_m0 116 rfl) rfl
theorem q124 : (Jvm.Cond.laysFinal "CoalitionValuesModel" "CoalitionValuesModel" "moved" "[I") ∈ lw_all := lw_g (lw_at lw_m0 117 rfl) rfl
theorem q125 : (Jvm.Cond.soleField "CoalitionValuesModel" "moved") ∈ lw_all := lw_g (lw_at lw_m0 118 rfl) rfl
theorem q126 : (Jvm.Cond.laysFinal "CoalitionValuesModel" "CoalitionValuesModel" "parts" "[I") ∈ lw_all := lw_g (lw_at lw_m0 119 rfl) rfl
theorem q127 : (Jvm.Cond.soleField "CoalitionValuesModel" "parts") ∈ lw_all := lw_g (lw_at lw_m0 120 rfl) rfl
theorem q128 : (Jvm.Cond.laysFinal "CoalitionValuesModel" "CoalitionValuesModel" "amounts" "[I") ∈ lw_all := lw_g (lw_at lw_m0 121 rfl) rfl
theorem q129 : (Jvm.Cond.soleField "CoalitionValuesModel" "amounts") ∈ lw_all := lw_g (lw_at lw_m0 122 rfl) rfl
theorem q130 : (Jvm.Cond.superclass "CoalitionValuesModel" "java/lang/Object") ∈ lw_all := lw_g (lw_at lw_m0 123 rfl) rfl
theorem q132 : (Jvm.Cond.instanceMethod ({ cls := "CoalitionValuesModel", name := "worth", desc := "(II)I" } : Jvm.MethodName)) ∈ lw_all := lw_g (lw_at lw_m0 125 rfl) rfl
theorem q133 : (Jvm.Cond.selects "CoalitionValuesModel" ({ cls := "CoalitionValuesModel", name := "worth", desc := "(II)I" } : Jvm.MethodName) ({ cls := "CoalitionValuesModel", name := "worth", desc := "(II)I" } : Jvm.MethodName)) ∈ lw_all := lw_g (lw_at lw_m0 126 rfl) rfl
theorem q134 : (Jvm.Cond.code ({ cls := "CoalitionValuesModel", name := "worth", desc := "(II)I" } : Jvm.MethodName) prog_3_method_3_code (4 : Nat) (Option.some Jvm.ClassFile.FieldType.int)) ∈ lw_all := lw_g (lw_at lw_m0 127 rfl) rfl
theorem q136 : (Jvm.Cond.instanceMethod ({ cls := "CoalitionValuesModel", name := "pay", desc := "(II)I" } : Jvm.MethodName)) ∈ lw_all := lw_g (lw_at lw_m0 129 rfl) rfl
theorem q137 : (Jvm.Cond.selects "CoalitionValuesModel" ({ cls := "CoalitionValuesModel", name := "pay", desc := "(II)I" } : Jvm.MethodName) ({ cls := "CoalitionValuesModel", name := "pay", desc := "(II)I" } : Jvm.MethodName)) ∈ lw_all := lw_g (lw_at lw_m0 130 rfl) rfl
theorem q138 : (Jvm.Cond.code ({ cls := "CoalitionValuesModel", name := "pay", desc := "(II)I" } : Jvm.MethodName) prog_3_method_4_code (3 : Nat) (Option.some Jvm.ClassFile.FieldType.int)) ∈ lw_all := lw_g (lw_at lw_m0 131 rfl) rfl
theorem q139 : (Jvm.Cond.methodLink "CoalitionValuesModel" (22 : Nat) ({ cls := "CoalitionValuesModel", name := "isPlayer", desc := "(I)Z" } : Jvm.MethodName)) ∈ lw_all := lw_g (lw_at lw_m0 132 rfl) rfl
theorem q140 : (Jvm.Cond.privateMethod ({ cls := "CoalitionValuesModel", name := "isPlayer", desc := "(I)Z" } : Jvm.MethodName)) ∈ lw_tbl := lw_at lw_m0 133 rfl
theorem q141 : (Jvm.Cond.instanceMethod ({ cls := "CoalitionValuesModel", name := "isPlayer", desc := "(I)Z" } : Jvm.MethodName)) ∈ lw_all := lw_g (lw_at lw_m0 134 rfl) rfl
theorem q142 : (Jvm.Cond.code ({ cls := "CoalitionValuesModel", name := "isPlayer", desc := "(I)Z" } : Jvm.MethodName) prog_3_method_2_code (2 : Nat) (Option.some Jvm.ClassFile.FieldType.boolean)) ∈ lw_all := lw_g (lw_at lw_m0 135 rfl) rfl
theorem q144 : (Jvm.Cond.instanceMethod ({ cls := "CoalitionValuesModel", name := "weigh", desc := "(II)I" } : Jvm.MethodName)) ∈ lw_all := lw_g (lw_at lw_m0 137 rfl) rfl
theorem q145 : (Jvm.Cond.selects "CoalitionValuesModel" ({ cls := "CoalitionValuesModel", name := "weigh", desc := "(II)I" } : Jvm.MethodName) ({ cls := "CoalitionValuesModel", name := "weigh", desc := "(II)I" } : Jvm.MethodName)) ∈ lw_all := lw_g (lw_at lw_m0 138 rfl) rfl
theorem q146 : (Jvm.Cond.code ({ cls := "CoalitionValuesModel", name := "weigh", desc := "(II)I" } : Jvm.MethodName) prog_3_method_5_code (7 : Nat) (Option.some Jvm.ClassFile.FieldType.int)) ∈ lw_all := lw_g (lw_at lw_m0 139 rfl) rfl
theorem q148 : (Jvm.Cond.instanceMethod ({ cls := "CoalitionValuesModel", name := "exchange", desc := "(II)I" } : Jvm.MethodName)) ∈ lw_all := lw_g (lw_at lw_m0 141 rfl) rfl
theorem q149 : (Jvm.Cond.selects "CoalitionValuesModel" ({ cls := "CoalitionValuesModel", name := "exchange", desc := "(II)I" } : Jvm.MethodName) ({ cls := "CoalitionValuesModel", name := "exchange", desc := "(II)I" } : Jvm.MethodName)) ∈ lw_all := lw_g (lw_at lw_m0 142 rfl) rfl
theorem q150 : (Jvm.Cond.code ({ cls := "CoalitionValuesModel", name := "exchange", desc := "(II)I" } : Jvm.MethodName) prog_3_method_6_code (5 : Nat) (Option.some Jvm.ClassFile.FieldType.int)) ∈ lw_all := lw_g (lw_at lw_m0 143 rfl) rfl
theorem q152 : (Jvm.Cond.instanceMethod ({ cls := "CoalitionValuesModel", name := "orderValue", desc := "(I)I" } : Jvm.MethodName)) ∈ lw_all := lw_g (lw_at lw_m0 145 rfl) rfl
theorem q153 : (Jvm.Cond.selects "CoalitionValuesModel" ({ cls := "CoalitionValuesModel", name := "orderValue", desc := "(I)I" } : Jvm.MethodName) ({ cls := "CoalitionValuesModel", name := "orderValue", desc := "(I)I" } : Jvm.MethodName)) ∈ lw_all := lw_g (lw_at lw_m0 146 rfl) rfl
theorem q154 : (Jvm.Cond.code ({ cls := "CoalitionValuesModel", name := "orderValue", desc := "(I)I" } : Jvm.MethodName) prog_3_method_8_code (4 : Nat) (Option.some Jvm.ClassFile.FieldType.int)) ∈ lw_all := lw_g (lw_at lw_m0 147 rfl) rfl
theorem q155 : (Jvm.Cond.methodLink "CoalitionValuesModel" (26 : Nat) ({ cls := "CoalitionValuesModel", name := "marginIn", desc := "(II)I" } : Jvm.MethodName)) ∈ lw_all := lw_g (lw_at lw_m0 148 rfl) rfl
theorem q156 : (Jvm.Cond.privateMethod ({ cls := "CoalitionValuesModel", name := "marginIn", desc := "(II)I" } : Jvm.MethodName)) ∈ lw_tbl := lw_at lw_m0 149 rfl
theorem q157 : (Jvm.Cond.instanceMethod ({ cls := "CoalitionValuesModel", name := "marginIn", desc := "(II)I" } : Jvm.MethodName)) ∈ lw_all := lw_g (lw_at lw_m0 150 rfl) rfl
theorem q158 : (Jvm.Cond.code ({ cls := "CoalitionValuesModel", name := "marginIn", desc := "(II)I" } : Jvm.MethodName) prog_3_method_7_code (8 : Nat) (Option.some Jvm.ClassFile.FieldType.int)) ∈ lw_all := lw_g (lw_at lw_m0 151 rfl) rfl
theorem q160 : (Jvm.Cond.instanceMethod ({ cls := "CoalitionValuesModel", name := "swingValue", desc := "(I)I" } : Jvm.MethodName)) ∈ lw_all := lw_g (lw_at lw_m0 153 rfl) rfl
theorem q161 : (Jvm.Cond.selects "CoalitionValuesModel" ({ cls := "CoalitionValuesModel", name := "swingValue", desc := "(I)I" } : Jvm.MethodName) ({ cls := "CoalitionValuesModel", name := "swingValue", desc := "(I)I" } : Jvm.MethodName)) ∈ lw_all := lw_g (lw_at lw_m0 154 rfl) rfl
theorem q162 : (Jvm.Cond.code ({ cls := "CoalitionValuesModel", name := "swingValue", desc := "(I)I" } : Jvm.MethodName) prog_3_method_9_code (4 : Nat) (Option.some Jvm.ClassFile.FieldType.int)) ∈ lw_all := lw_g (lw_at lw_m0 155 rfl) rfl
theorem q164 : (Jvm.Cond.instanceMethod ({ cls := "CoalitionValuesModel", name := "own", desc := "(I)I" } : Jvm.MethodName)) ∈ lw_all := lw_g (lw_at lw_m0 157 rfl) rfl
theorem q165 : (Jvm.Cond.selects "CoalitionValuesModel" ({ cls := "CoalitionValuesModel", name := "own", desc := "(I)I" } : Jvm.MethodName) ({ cls := "CoalitionValuesModel", name := "own", desc := "(I)I" } : Jvm.MethodName)) ∈ lw_all := lw_g (lw_at lw_m0 158 rfl) rfl
theorem q166 : (Jvm.Cond.code ({ cls := "CoalitionValuesModel", name := "own", desc := "(I)I" } : Jvm.MethodName) prog_3_method_10_code (5 : Nat) (Option.some Jvm.ClassFile.FieldType.int)) ∈ lw_all := lw_g (lw_at lw_m0 159 rfl) rfl
theorem q168 : (Jvm.Cond.instanceMethod ({ cls := "CoalitionValuesModel", name := "complaint", desc := "()I" } : Jvm.MethodName)) ∈ lw_all := lw_g (lw_at lw_m0 161 rfl) rfl
theorem q169 : (Jvm.Cond.selects "CoalitionValuesModel" ({ cls := "CoalitionValuesModel", name := "complaint", desc := "()I" } : Jvm.MethodName) ({ cls := "CoalitionValuesModel", name := "complaint", desc := "()I" } : Jvm.MethodName)) ∈ lw_all := lw_g (lw_at lw_m0 162 rfl) rfl
theorem q170 : (Jvm.Cond.code ({ cls := "CoalitionValuesModel", name := "complaint", desc := "()I" } : Jvm.MethodName) prog_3_method_12_code (4 : Nat) (Option.some Jvm.ClassFile.FieldType.int)) ∈ lw_all := lw_g (lw_at lw_m0 163 rfl) rfl
theorem q171 : (Jvm.Cond.methodLink "CoalitionValuesModel" (30 : Nat) ({ cls := "CoalitionValuesModel", name := "share", desc := "(I)I" } : Jvm.MethodName)) ∈ lw_all := lw_g (lw_at lw_m0 164 rfl) rfl
theorem q172 : (Jvm.Cond.privateMethod ({ cls := "CoalitionValuesModel", name := "share", desc := "(I)I" } : Jvm.MethodName)) ∈ lw_tbl := lw_at lw_m0 165 rfl
theorem q173 : (Jvm.Cond.instanceMethod ({ cls := "CoalitionValuesModel", name := "share", desc := "(I)I" } : Jvm.MethodName)) ∈ lw_all := lw_g (lw_at lw_m0 166 rfl) rfl
theorem q174 : (Jvm.Cond.code ({ cls := "CoalitionValuesModel", name := "share", desc := "(I)I" } : Jvm.MethodName) prog_3_method_11_code (4 : Nat) (Option.some Jvm.ClassFile.FieldType.int)) ∈ lw_all := lw_g (lw_at lw_m0 167 rfl) rfl
theorem q176 : (Jvm.Cond.instanceMethod ({ cls := "CoalitionValuesModel", name := "inCore", desc := "()Z" } : Jvm.MethodName)) ∈ lw_all := lw_g (lw_at lw_m0 169 rfl) rfl
theorem q177 : (Jvm.Cond.selects "CoalitionValuesModel" ({ cls := "CoalitionValuesModel", name := "inCore", desc := "()Z" } : Jvm.MethodName) ({ cls := "CoalitionValuesModel", name := "inCore", desc := "()Z" } : Jvm.MethodName)) ∈ lw_all := lw_g (lw_at lw_m0 170 rfl) rfl
theorem q178 : (Jvm.Cond.code ({ cls := "CoalitionValuesModel", name := "inCore", desc := "()Z" } : Jvm.MethodName) prog_3_method_13_code (1 : Nat) (Option.some Jvm.ClassFile.FieldType.boolean)) ∈ lw_all := lw_g (lw_at lw_m0 171 rfl) rfl
theorem q179 : (Jvm.Cond.methodLink "CoalitionValuesModel" (34 : Nat) ({ cls := "CoalitionValuesModel", name := "complaint", desc := "()I" } : Jvm.MethodName)) ∈ lw_all := lw_g (lw_at lw_m0 172 rfl) rfl
theorem q181 : (Jvm.Cond.instanceMethod ({ cls := "CoalitionValuesModel", name := "convex", desc := "()Z" } : Jvm.MethodName)) ∈ lw_all := lw_g (lw_at lw_m0 174 rfl) rfl
theorem q182 : (Jvm.Cond.selects "CoalitionValuesModel" ({ cls := "CoalitionValuesModel", name := "convex", desc := "()Z" } : Jvm.MethodName) ({ cls := "CoalitionValuesModel", name := "convex", desc := "()Z" } : Jvm.MethodName)) ∈ lw_all := lw_g (lw_at lw_m0 175 rfl) rfl
theorem q183 : (Jvm.Cond.code ({ cls := "CoalitionValuesModel", name := "convex", desc := "()Z" } : Jvm.MethodName) prog_3_method_14_code (4 : Nat) (Option.some Jvm.ClassFile.FieldType.boolean)) ∈ lw_all := lw_g (lw_at lw_m0 176 rfl) rfl
theorem q185 : (Jvm.Cond.instanceMethod ({ cls := "CoalitionValuesModel", name := "superadditive", desc := "()Z" } : Jvm.MethodName)) ∈ lw_all := lw_g (lw_at lw_m0 178 rfl) rfl
theorem q186 : (Jvm.Cond.selects "CoalitionValuesModel" ({ cls := "CoalitionValuesModel", name := "superadditive", desc := "()Z" } : Jvm.MethodName) ({ cls := "CoalitionValuesModel", name := "superadditive", desc := "()Z" } : Jvm.MethodName)) ∈ lw_all := lw_g (lw_at lw_m0 179 rfl) rfl
theorem q187 : (Jvm.Cond.code ({ cls := "CoalitionValuesModel", name := "superadditive", desc := "()Z" } : Jvm.MethodName) prog_3_method_15_code (4 : Nat) (Option.some Jvm.ClassFile.FieldType.boolean)) ∈ lw_all := lw_g (lw_at lw_m0 180 rfl) rfl
theorem q189 : (Jvm.Cond.instanceMethod ({ cls := "CoalitionValuesModel", name := "alike", desc := "(II)Z" } : Jvm.MethodName)) ∈ lw_all := lw_g (lw_at lw_m0 182 rfl) rfl
theorem q190 : (Jvm.Cond.selects "CoalitionValuesModel" ({ cls := "CoalitionValuesModel", name := "alike", desc := "(II)Z" } : Jvm.MethodName) ({ cls := "CoalitionValuesModel", name := "alike", desc := "(II)Z" } : Jvm.MethodName)) ∈ lw_all := lw_g (lw_at lw_m0 183 rfl) rfl
theorem q191 : (Jvm.Cond.code ({ cls := "CoalitionValuesModel", name := "alike", desc := "(II)Z" } : Jvm.MethodName) prog_3_method_16_code (5 : Nat) (Option.some Jvm.ClassFile.FieldType.boolean)) ∈ lw_all := lw_g (lw_at lw_m0 184 rfl) rfl
theorem q193 : (Jvm.Cond.instanceMethod ({ cls := "CoalitionValuesModel", name := "bestSplit", desc := "()I" } : Jvm.MethodName)) ∈ lw_all := lw_g (lw_at lw_m0 186 rfl) rfl
theorem q194 : (Jvm.Cond.selects "CoalitionValuesModel" ({ cls := "CoalitionValuesModel", name := "bestSplit", desc := "()I" } : Jvm.MethodName) ({ cls := "CoalitionValuesModel", name := "bestSplit", desc := "()I" } : Jvm.MethodName)) ∈ lw_all := lw_g (lw_at lw_m0 187 rfl) rfl
theorem q195 : (Jvm.Cond.code ({ cls := "CoalitionValuesModel", name := "bestSplit", desc := "()I" } : Jvm.MethodName) prog_3_method_18_code (4 : Nat) (Option.some Jvm.ClassFile.FieldType.int)) ∈ lw_all := lw_g (lw_at lw_m0 188 rfl) rfl
theorem q196 : (Jvm.Cond.methodLink "CoalitionValuesModel" (38 : Nat) ({ cls := "CoalitionValuesModel", name := "splitWorth", desc := "(I)I" } : Jvm.MethodName)) ∈ lw_all := lw_g (lw_at lw_m0 189 rfl) rfl
theorem q197 : (Jvm.Cond.privateMethod ({ cls := "CoalitionValuesModel", name := "splitWorth", desc := "(I)I" } : Jvm.MethodName)) ∈ lw_tbl := lw_at lw_m0 190 rfl
theorem q198 : (Jvm.Cond.instanceMethod ({ cls := "CoalitionValuesModel", name := "splitWorth", desc := "(I)I" } : Jvm.MethodName)) ∈ lw_all := lw_g (lw_at lw_m0 191 rfl) rfl
theorem q199 : (Jvm.Cond.code ({ cls := "CoalitionValuesModel", name := "splitWorth", desc := "(I)I" } : Jvm.MethodName) prog_3_method_17_code (7 : Nat) (Option.some Jvm.ClassFile.FieldType.int)) ∈ lw_all := lw_g (lw_at lw_m0 192 rfl) rfl
theorem in_X1 : ∀ w ∈ wsX10, w ∈ lw_all := lw_in wsX10 [122, 124, 126, 128] (by decide +kernel) (by decide +kernel)
end
section
/-! the law's own entry -/
set_option maxRecDepth 100000
abbrev cL_law : ByteArray := code
theorem dL_law_0 : decode cL_law 0 = .ok (.new 7, 3) := by decide +kernel
theorem dL_law_3 : decode cL_law 3 = .ok (.dup, 1) := by decide +kernel
theorem dL_law_4 : decode cL_law 4 = .ok (.invokespecial 9, 3) := by decide +kernel
theorem dL_law_7 : decode cL_law 7 = .ok (.astore_n 1, 1) := by decide +kernel
theorem dL_law_8 : decode cL_law 8 = .ok (.new 10, 3) := by decide +kernel
theorem dL_law_11 : decode cL_law 11 = .ok (.dup, 1) := by decide +kernel
theorem dL_law_12 : decode cL_law 12 = .ok (.invokespecial 12, 3) := by decide +kernel
theorem dL_law_15 : decode cL_law 15 = .ok (.astore_n 2, 1) := by decide +kernel
theorem dL_law_16 : decode cL_law 16 = .ok (.iconst 0, 1) := by decide +kernel
theorem dL_law_17 : decode cL_law 17 = .ok (.istore_n 3, 1) := by decide +kernel
theorem dL_law_18 : decode cL_law 18 = .ok (.iload_n 3, 1) := by decide +kernel
theorem dL_law_19 : decode cL_law 19 = .ok (.aload_n 0, 1) := by decide +kernel
theorem dL_law_20 : decode cL_law 20 = .ok (.arraylength, 1) := by decide +kernel
theorem dL_law_21 : decode cL_law 21 = .ok (.iconst 3, 1) := by decide +kernel
theorem dL_law_22 : decode cL_law 22 = .ok (.isub, 1) := by decide +kernel
theorem dL_law_23 : decode cL_law 23 = .ok (.if_icmp .gt 382, 3) := by decide +kernel
theorem dL_law_26 : decode cL_law 26 = .ok (.aload_n 0, 1) := by decide +kernel
theorem dL_law_27 : decode cL_law 27 = .ok (.iload_n 3, 1) := by decide +kernel
theorem dL_law_28 : decode cL_law 28 = .ok (.iaload, 1) := by decide +kernel
theorem dL_law_29 : decode cL_law 29 = .ok (.bipush 15, 2) := by decide +kernel
theorem dL_law_31 : decode cL_law 31 = .ok (.iand, 1) := by decide +kernel
theorem dL_law_32 : decode cL_law 32 = .ok (.tableswitch 367 0 12 #[68, 101, 134, 167, 200, 223, 246, 269, 282, 295, 308, 321, 354], 68) := by decide +kernel
theorem dL_law_100 : decode cL_law 100 = .ok (.aload_n 1, 1) := by decide +kernel
theorem dL_law_101 : decode cL_law 101 = .ok (.aload_n 0, 1) := by decide +kernel
theorem dL_law_102 : decode cL_law 102 = .ok (.iload_n 3, 1) := by decide +kernel
theorem dL_law_103 : decode cL_law 103 = .ok (.iconst 1, 1) := by decide +kernel
theorem dL_law_104 : decode cL_law 104 = .ok (.iadd, 1) := by decide +kernel
theorem dL_law_105 : decode cL_law 105 = .ok (.iaload, 1) := by decide +kernel
theorem dL_law_106 : decode cL_law 106 = .ok (.aload_n 0, 1) := by decide +kernel
theorem dL_law_107 : decode cL_law 107 = .ok (.iload_n 3, 1) := by decide +kernel
theorem dL_law_108 : decode cL_law 108 = .ok (.iconst 2, 1) := by decide +kernel
theorem dL_law_109 : decode cL_law 109 = .ok (.iadd, 1) := by decide +kernel
theorem dL_law_110 : decode cL_law 110 = .ok (.iaload, 1) := by decide +kernel
theorem dL_law_111 : decode cL_law 111 = .ok (.invokevirtual 13, 3) := by decide +kernel
theorem dL_law_114 : decode cL_law 114 = .ok (.aload_n 2, 1) := by decide +kernel
theorem dL_law_115 : decode cL_law 115 = .ok (.aload_n 0, 1) := by decide +kernel
theorem dL_law_116 : decode cL_law 116 = .ok (.iload_n 3, 1) := by decide +kernel
theorem dL_law_117 : decode cL_law 117 = .ok (.iconst 1, 1) := by decide +kernel
theorem dL_law_118 : decode cL_law 118 = .ok (.iadd, 1) := by decide +kernel
theorem dL_law_119 : decode cL_law 119 = .ok (.iaload, 1) := by decide +kernel
theorem dL_law_120 : decode cL_law 120 = .ok (.aload_n 0, 1) := by decide +kernel
theorem dL_law_121 : decode cL_law 121 = .ok (.iload_n 3, 1) := by decide +kernel
theorem dL_law_122 : decode cL_law 122 = .ok (.iconst 2, 1) := by decide +kernel
theorem dL_law_123 : decode cL_law 123 = .ok (.iadd, 1) := by decide +kernel
theorem dL_law_124 : decode cL_law 124 = .ok (.iaload, 1) := by decide +kernel
theorem dL_law_125 : decode cL_law 125 = .ok (.invokevirtual 17, 3) := by decide +kernel
theorem dL_law_128 : decode cL_law 128 = .ok (.if_icmp .eq 271, 3) := by decide +kernel
theorem dL_law_131 : decode cL_law 131 = .ok (.iconst 0, 1) := by decide +kernel
theorem dL_law_132 : decode cL_law 132 = .ok (.ireturn, 1) := by decide +kernel
theorem dL_law_133 : decode cL_law 133 = .ok (.aload_n 1, 1) := by decide +kernel
theorem dL_law_134 : decode cL_law 134 = .ok (.aload_n 0, 1) := by decide +kernel
theorem dL_law_135 : decode cL_law 135 = .ok (.iload_n 3, 1) := by decide +kernel
theorem dL_law_136 : decode cL_law 136 = .ok (.iconst 1, 1) := by decide +kernel
theorem dL_law_137 : decode cL_law 137 = .ok (.iadd, 1) := by decide +kernel
theorem dL_law_138 : decode cL_law 138 = .ok (.iaload, 1) := by decide +kernel
theorem dL_law_139 : decode cL_law 139 = .ok (.aload_n 0, 1) := by decide +kernel
theorem dL_law_140 : decode cL_law 140 = .ok (.iload_n 3, 1) := by decide +kernel
theorem dL_law_141 : decode cL_law 141 = .ok (.iconst 2, 1) := by decide +kernel
theorem dL_law_142 : decode cL_law 142 = .ok (.iadd, 1) := by decide +kernel
theorem dL_law_143 : decode cL_law 143 = .ok (.iaload, 1) := by decide +kernel
theorem dL_law_144 : decode cL_law 144 = .ok (.invokevirtual 18, 3) := by decide +kernel
theorem dL_law_147 : decode cL_law 147 = .ok (.aload_n 2, 1) := by decide +kernel
theorem dL_law_148 : decode cL_law 148 = .ok (.aload_n 0, 1) := by decide +kernel
theorem dL_law_149 : decode cL_law 149 = .ok (.iload_n 3, 1) := by decide +kernel
theorem dL_law_150 : decode cL_law 150 = .ok (.iconst 1, 1) := by decide +kernel
theorem dL_law_151 : decode cL_law 151 = .ok (.iadd, 1) := by decide +kernel
theorem dL_law_152 : decode cL_law 152 = .ok (.iaload, 1) := by decide +kernel
theorem dL_law_153 : decode cL_law 153 = .ok (.aload_n 0, 1) := by decide +kernel
theorem dL_law_154 : decode cL_law 154 = .ok (.iload_n 3, 1) := by decide +kernel
theorem dL_law_155 : decode cL_law 155 = .ok (.iconst 2, 1) := by decide +kernel
theorem dL_law_156 : decode cL_law 156 = .ok (.iadd, 1) := by decide +kernel
theorem dL_law_157 : decode cL_law 157 = .ok (.iaload, 1) := by decide +kernel
theorem dL_law_158 : decode cL_law 158 = .ok (.invokevirtual 21, 3) := by decide +kernel
theorem dL_law_161 : decode cL_law 161 = .ok (.if_icmp .eq 238, 3) := by decide +kernel
theorem dL_law_164 : decode cL_law 164 = .ok (.iconst 0, 1) := by decide +kernel
theorem dL_law_165 : decode cL_law 165 = .ok (.ireturn, 1) := by decide +kernel
theorem dL_law_166 : decode cL_law 166 = .ok (.aload_n 1, 1) := by decide +kernel
theorem dL_law_167 : decode cL_law 167 = .ok (.aload_n 0, 1) := by decide +kernel
theorem dL_law_168 : decode cL_law 168 = .ok (.iload_n 3, 1) := by decide +kernel
theorem dL_law_169 : decode cL_law 169 = .ok (.iconst 1, 1) := by decide +kernel
theorem dL_law_170 : decode cL_law 170 = .ok (.iadd, 1) := by decide +kernel
theorem dL_law_171 : decode cL_law 171 = .ok (.iaload, 1) := by decide +kernel
theorem dL_law_172 : decode cL_law 172 = .ok (.aload_n 0, 1) := by decide +kernel
theorem dL_law_173 : decode cL_law 173 = .ok (.iload_n 3, 1) := by decide +kernel
theorem dL_law_174 : decode cL_law 174 = .ok (.iconst 2, 1) := by decide +kernel
theorem dL_law_175 : decode cL_law 175 = .ok (.iadd, 1) := by decide +kernel
theorem dL_law_176 : decode cL_law 176 = .ok (.iaload, 1) := by decide +kernel
theorem dL_law_177 : decode cL_law 177 = .ok (.invokevirtual 22, 3) := by decide +kernel
theorem dL_law_180 : decode cL_law 180 = .ok (.aload_n 2, 1) := by decide +kernel
theorem dL_law_181 : decode cL_law 181 = .ok (.aload_n 0, 1) := by decide +kernel
theorem dL_law_182 : decode cL_law 182 = .ok (.iload_n 3, 1) := by decide +kernel
theorem dL_law_183 : decode cL_law 183 = .ok (.iconst 1, 1) := by decide +kernel
theorem dL_law_184 : decode cL_law 184 = .ok (.iadd, 1) := by decide +kernel
theorem dL_law_185 : decode cL_law 185 = .ok (.iaload, 1) := by decide +kernel
theorem dL_law_186 : decode cL_law 186 = .ok (.aload_n 0, 1) := by decide +kernel
theorem dL_law_187 : decode cL_law 187 = .ok (.iload_n 3, 1) := by decide +kernel
theorem dL_law_188 : decode cL_law 188 = .ok (.iconst 2, 1) := by decide +kernel
theorem dL_law_189 : decode cL_law 189 = .ok (.iadd, 1) := by decide +kernel
theorem dL_law_190 : decode cL_law 190 = .ok (.iaload, 1) := by decide +kernel
theorem dL_law_191 : decode cL_law 191 = .ok (.invokevirtual 25, 3) := by decide +kernel
theorem dL_law_194 : decode cL_law 194 = .ok (.if_icmp .eq 205, 3) := by decide +kernel
theorem dL_law_197 : decode cL_law 197 = .ok (.iconst 0, 1) := by decide +kernel
theorem dL_law_198 : decode cL_law 198 = .ok (.ireturn, 1) := by decide +kernel
theorem dL_law_199 : decode cL_law 199 = .ok (.aload_n 1, 1) := by decide +kernel
theorem dL_law_200 : decode cL_law 200 = .ok (.aload_n 0, 1) := by decide +kernel
theorem dL_law_201 : decode cL_law 201 = .ok (.iload_n 3, 1) := by decide +kernel
theorem dL_law_202 : decode cL_law 202 = .ok (.iconst 1, 1) := by decide +kernel
theorem dL_law_203 : decode cL_law 203 = .ok (.iadd, 1) := by decide +kernel
theorem dL_law_204 : decode cL_law 204 = .ok (.iaload, 1) := by decide +kernel
theorem dL_law_205 : decode cL_law 205 = .ok (.aload_n 0, 1) := by decide +kernel
theorem dL_law_206 : decode cL_law 206 = .ok (.iload_n 3, 1) := by decide +kernel
theorem dL_law_207 : decode cL_law 207 = .ok (.iconst 2, 1) := by decide +kernel
theorem dL_law_208 : decode cL_law 208 = .ok (.iadd, 1) := by decide +kernel
theorem dL_law_209 : decode cL_law 209 = .ok (.iaload, 1) := by decide +kernel
theorem dL_law_210 : decode cL_law 210 = .ok (.invokevirtual 26, 3) := by decide +kernel
theorem dL_law_213 : decode cL_law 213 = .ok (.aload_n 2, 1) := by decide +kernel
theorem dL_law_214 : decode cL_law 214 = .ok (.aload_n 0, 1) := by decide +kernel
theorem dL_law_215 : decode cL_law 215 = .ok (.iload_n 3, 1) := by decide +kernel
theorem dL_law_216 : decode cL_law 216 = .ok (.iconst 1, 1) := by decide +kernel
theorem dL_law_217 : decode cL_law 217 = .ok (.iadd, 1) := by decide +kernel
theorem dL_law_218 : decode cL_law 218 = .ok (.iaload, 1) := by decide +kernel
theorem dL_law_219 : decode cL_law 219 = .ok (.aload_n 0, 1) := by decide +kernel
theorem dL_law_220 : decode cL_law 220 = .ok (.iload_n 3, 1) := by decide +kernel
theorem dL_law_221 : decode cL_law 221 = .ok (.iconst 2, 1) := by decide +kernel
theorem dL_law_222 : decode cL_law 222 = .ok (.iadd, 1) := by decide +kernel
theorem dL_law_223 : decode cL_law 223 = .ok (.iaload, 1) := by decide +kernel
theorem dL_law_224 : decode cL_law 224 = .ok (.invokevirtual 29, 3) := by decide +kernel
theorem dL_law_227 : decode cL_law 227 = .ok (.if_icmp .eq 172, 3) := by decide +kernel
theorem dL_law_230 : decode cL_law 230 = .ok (.iconst 0, 1) := by decide +kernel
theorem dL_law_231 : decode cL_law 231 = .ok (.ireturn, 1) := by decide +kernel
theorem dL_law_232 : decode cL_law 232 = .ok (.aload_n 1, 1) := by decide +kernel
theorem dL_law_233 : decode cL_law 233 = .ok (.aload_n 0, 1) := by decide +kernel
theorem dL_law_234 : decode cL_law 234 = .ok (.iload_n 3, 1) := by decide +kernel
theorem dL_law_235 : decode cL_law 235 = .ok (.iconst 1, 1) := by decide +kernel
theorem dL_law_236 : decode cL_law 236 = .ok (.iadd, 1) := by decide +kernel
theorem dL_law_237 : decode cL_law 237 = .ok (.iaload, 1) := by decide +kernel
theorem dL_law_238 : decode cL_law 238 = .ok (.invokevirtual 30, 3) := by decide +kernel
theorem dL_law_241 : decode cL_law 241 = .ok (.aload_n 2, 1) := by decide +kernel
theorem dL_law_242 : decode cL_law 242 = .ok (.aload_n 0, 1) := by decide +kernel
theorem dL_law_243 : decode cL_law 243 = .ok (.iload_n 3, 1) := by decide +kernel
theorem dL_law_244 : decode cL_law 244 = .ok (.iconst 1, 1) := by decide +kernel
theorem dL_law_245 : decode cL_law 245 = .ok (.iadd, 1) := by decide +kernel
theorem dL_law_246 : decode cL_law 246 = .ok (.iaload, 1) := by decide +kernel
theorem dL_law_247 : decode cL_law 247 = .ok (.invokevirtual 34, 3) := by decide +kernel
theorem dL_law_250 : decode cL_law 250 = .ok (.if_icmp .eq 149, 3) := by decide +kernel
theorem dL_law_253 : decode cL_law 253 = .ok (.iconst 0, 1) := by decide +kernel
theorem dL_law_254 : decode cL_law 254 = .ok (.ireturn, 1) := by decide +kernel
theorem dL_law_255 : decode cL_law 255 = .ok (.aload_n 1, 1) := by decide +kernel
theorem dL_law_256 : decode cL_law 256 = .ok (.aload_n 0, 1) := by decide +kernel
theorem dL_law_257 : decode cL_law 257 = .ok (.iload_n 3, 1) := by decide +kernel
theorem dL_law_258 : decode cL_law 258 = .ok (.iconst 1, 1) := by decide +kernel
theorem dL_law_259 : decode cL_law 259 = .ok (.iadd, 1) := by decide +kernel
theorem dL_law_260 : decode cL_law 260 = .ok (.iaload, 1) := by decide +kernel
theorem dL_law_261 : decode cL_law 261 = .ok (.invokevirtual 35, 3) := by decide +kernel
theorem dL_law_264 : decode cL_law 264 = .ok (.aload_n 2, 1) := by decide +kernel
theorem dL_law_265 : decode cL_law 265 = .ok (.aload_n 0, 1) := by decide +kernel
theorem dL_law_266 : decode cL_law 266 = .ok (.iload_n 3, 1) := by decide +kernel
theorem dL_law_267 : decode cL_law 267 = .ok (.iconst 1, 1) := by decide +kernel
theorem dL_law_268 : decode cL_law 268 = .ok (.iadd, 1) := by decide +kernel
theorem dL_law_269 : decode cL_law 269 = .ok (.iaload, 1) := by decide +kernel
theorem dL_law_270 : decode cL_law 270 = .ok (.invokevirtual 38, 3) := by decide +kernel
theorem dL_law_273 : decode cL_law 273 = .ok (.if_icmp .eq 126, 3) := by decide +kernel
theorem dL_law_276 : decode cL_law 276 = .ok (.iconst 0, 1) := by decide +kernel
theorem dL_law_277 : decode cL_law 277 = .ok (.ireturn, 1) := by decide +kernel
theorem dL_law_278 : decode cL_law 278 = .ok (.aload_n 1, 1) := by decide +kernel
theorem dL_law_279 : decode cL_law 279 = .ok (.aload_n 0, 1) := by decide +kernel
theorem dL_law_280 : decode cL_law 280 = .ok (.iload_n 3, 1) := by decide +kernel
theorem dL_law_281 : decode cL_law 281 = .ok (.iconst 1, 1) := by decide +kernel
theorem dL_law_282 : decode cL_law 282 = .ok (.iadd, 1) := by decide +kernel
theorem dL_law_283 : decode cL_law 283 = .ok (.iaload, 1) := by decide +kernel
theorem dL_law_284 : decode cL_law 284 = .ok (.invokevirtual 39, 3) := by decide +kernel
theorem dL_law_287 : decode cL_law 287 = .ok (.aload_n 2, 1) := by decide +kernel
theorem dL_law_288 : decode cL_law 288 = .ok (.aload_n 0, 1) := by decide +kernel
theorem dL_law_289 : decode cL_law 289 = .ok (.iload_n 3, 1) := by decide +kernel
theorem dL_law_290 : decode cL_law 290 = .ok (.iconst 1, 1) := by decide +kernel
theorem dL_law_291 : decode cL_law 291 = .ok (.iadd, 1) := by decide +kernel
theorem dL_law_292 : decode cL_law 292 = .ok (.iaload, 1) := by decide +kernel
theorem dL_law_293 : decode cL_law 293 = .ok (.invokevirtual 42, 3) := by decide +kernel
theorem dL_law_296 : decode cL_law 296 = .ok (.if_icmp .eq 103, 3) := by decide +kernel
theorem dL_law_299 : decode cL_law 299 = .ok (.iconst 0, 1) := by decide +kernel
theorem dL_law_300 : decode cL_law 300 = .ok (.ireturn, 1) := by decide +kernel
theorem dL_law_301 : decode cL_law 301 = .ok (.aload_n 1, 1) := by decide +kernel
theorem dL_law_302 : decode cL_law 302 = .ok (.invokevirtual 43, 3) := by decide +kernel
theorem dL_law_305 : decode cL_law 305 = .ok (.aload_n 2, 1) := by decide +kernel
theorem dL_law_306 : decode cL_law 306 = .ok (.invokevirtual 47, 3) := by decide +kernel
theorem dL_law_309 : decode cL_law 309 = .ok (.if_icmp .eq 90, 3) := by decide +kernel
theorem dL_law_312 : decode cL_law 312 = .ok (.iconst 0, 1) := by decide +kernel
theorem dL_law_313 : decode cL_law 313 = .ok (.ireturn, 1) := by decide +kernel
theorem dL_law_314 : decode cL_law 314 = .ok (.aload_n 1, 1) := by decide +kernel
theorem dL_law_315 : decode cL_law 315 = .ok (.invokevirtual 48, 3) := by decide +kernel
theorem dL_law_318 : decode cL_law 318 = .ok (.aload_n 2, 1) := by decide +kernel
theorem dL_law_319 : decode cL_law 319 = .ok (.invokevirtual 52, 3) := by decide +kernel
theorem dL_law_322 : decode cL_law 322 = .ok (.if_icmp .eq 77, 3) := by decide +kernel
theorem dL_law_325 : decode cL_law 325 = .ok (.iconst 0, 1) := by decide +kernel
theorem dL_law_326 : decode cL_law 326 = .ok (.ireturn, 1) := by decide +kernel
theorem dL_law_327 : decode cL_law 327 = .ok (.aload_n 1, 1) := by decide +kernel
theorem dL_law_328 : decode cL_law 328 = .ok (.invokevirtual 53, 3) := by decide +kernel
theorem dL_law_331 : decode cL_law 331 = .ok (.aload_n 2, 1) := by decide +kernel
theorem dL_law_332 : decode cL_law 332 = .ok (.invokevirtual 56, 3) := by decide +kernel
theorem dL_law_335 : decode cL_law 335 = .ok (.if_icmp .eq 64, 3) := by decide +kernel
theorem dL_law_338 : decode cL_law 338 = .ok (.iconst 0, 1) := by decide +kernel
theorem dL_law_339 : decode cL_law 339 = .ok (.ireturn, 1) := by decide +kernel
theorem dL_law_340 : decode cL_law 340 = .ok (.aload_n 1, 1) := by decide +kernel
theorem dL_law_341 : decode cL_law 341 = .ok (.invokevirtual 57, 3) := by decide +kernel
theorem dL_law_344 : decode cL_law 344 = .ok (.aload_n 2, 1) := by decide +kernel
theorem dL_law_345 : decode cL_law 345 = .ok (.invokevirtual 60, 3) := by decide +kernel
theorem dL_law_348 : decode cL_law 348 = .ok (.if_icmp .eq 51, 3) := by decide +kernel
theorem dL_law_351 : decode cL_law 351 = .ok (.iconst 0, 1) := by decide +kernel
theorem dL_law_352 : decode cL_law 352 = .ok (.ireturn, 1) := by decide +kernel
theorem dL_law_353 : decode cL_law 353 = .ok (.aload_n 1, 1) := by decide +kernel
theorem dL_law_354 : decode cL_law 354 = .ok (.aload_n 0, 1) := by decide +kernel
theorem dL_law_355 : decode cL_law 355 = .ok (.iload_n 3, 1) := by decide +kernel
theorem dL_law_356 : decode cL_law 356 = .ok (.iconst 1, 1) := by decide +kernel
theorem dL_law_357 : decode cL_law 357 = .ok (.iadd, 1) := by decide +kernel
theorem dL_law_358 : decode cL_law 358 = .ok (.iaload, 1) := by decide +kernel
theorem dL_law_359 : decode cL_law 359 = .ok (.aload_n 0, 1) := by decide +kernel
theorem dL_law_360 : decode cL_law 360 = .ok (.iload_n 3, 1) := by decide +kernel
theorem dL_law_361 : decode cL_law 361 = .ok (.iconst 2, 1) := by decide +kernel
theorem dL_law_362 : decode cL_law 362 = .ok (.iadd, 1) := by decide +kernel
theorem dL_law_363 : decode cL_law 363 = .ok (.iaload, 1) := by decide +kernel
theorem dL_law_364 : decode cL_law 364 = .ok (.invokevirtual 61, 3) := by decide +kernel
theorem dL_law_367 : decode cL_law 367 = .ok (.aload_n 2, 1) := by decide +kernel
theorem dL_law_368 : decode cL_law 368 = .ok (.aload_n 0, 1) := by decide +kernel
theorem dL_law_369 : decode cL_law 369 = .ok (.iload_n 3, 1) := by decide +kernel
theorem dL_law_370 : decode cL_law 370 = .ok (.iconst 1, 1) := by decide +kernel
theorem dL_law_371 : decode cL_law 371 = .ok (.iadd, 1) := by decide +kernel
theorem dL_law_372 : decode cL_law 372 = .ok (.iaload, 1) := by decide +kernel
theorem dL_law_373 : decode cL_law 373 = .ok (.aload_n 0, 1) := by decide +kernel
theorem dL_law_374 : decode cL_law 374 = .ok (.iload_n 3, 1) := by decide +kernel
theorem dL_law_375 : decode cL_law 375 = .ok (.iconst 2, 1) := by decide +kernel
theorem dL_law_376 : decode cL_law 376 = .ok (.iadd, 1) := by decide +kernel
theorem dL_law_377 : decode cL_law 377 = .ok (.iaload, 1) := by decide +kernel
theorem dL_law_378 : decode cL_law 378 = .ok (.invokevirtual 65, 3) := by decide +kernel
theorem dL_law_381 : decode cL_law 381 = .ok (.if_icmp .eq 18, 3) := by decide +kernel
theorem dL_law_384 : decode cL_law 384 = .ok (.iconst 0, 1) := by decide +kernel
theorem dL_law_385 : decode cL_law 385 = .ok (.ireturn, 1) := by decide +kernel
theorem dL_law_386 : decode cL_law 386 = .ok (.aload_n 1, 1) := by decide +kernel
theorem dL_law_387 : decode cL_law 387 = .ok (.invokevirtual 66, 3) := by decide +kernel
theorem dL_law_390 : decode cL_law 390 = .ok (.aload_n 2, 1) := by decide +kernel
theorem dL_law_391 : decode cL_law 391 = .ok (.invokevirtual 69, 3) := by decide +kernel
theorem dL_law_394 : decode cL_law 394 = .ok (.if_icmp .eq 5, 3) := by decide +kernel
theorem dL_law_397 : decode cL_law 397 = .ok (.iconst 0, 1) := by decide +kernel
theorem dL_law_398 : decode cL_law 398 = .ok (.ireturn, 1) := by decide +kernel
theorem dL_law_399 : decode cL_law 399 = .ok (.iinc 3 3, 3) := by decide +kernel
theorem dL_law_402 : decode cL_law 402 = .ok (.goto (-384), 3) := by decide +kernel
theorem dL_law_405 : decode cL_law 405 = .ok (.iconst 1, 1) := by decide +kernel
theorem dL_law_406 : decode cL_law 406 = .ok (.ireturn, 1) := by decide +kernel
theorem q7 : (Jvm.Cond.initialized "CoalitionValuesLaw") ∈ lw_all := lw_g (lw_at lw_m0 0 rfl) rfl
set_option maxRecDepth 100000
theorem q10 : (Jvm.Cond.classLink "CoalitionValuesLaw" (7 : Nat) "CoalitionValues") ∈ lw_all := lw_g (lw_at lw_m0 3 rfl) rfl
theorem q12 : (Jvm.Cond.methodLink "CoalitionValuesLaw" (9 : Nat) ({ cls := "CoalitionValues", name := "<init>", desc := "()V" } : Jvm.MethodName)) ∈ lw_all := lw_g (lw_at lw_m0 5 rfl) rfl
theorem q35 : (Jvm.Cond.methodLink "CoalitionValuesLaw" (13 : Nat) ({ cls := "CoalitionValues", name := "worth", desc := "(II)I" } : Jvm.MethodName)) ∈ lw_all := lw_g (lw_at lw_m0 28 rfl) rfl
theorem q42 : (Jvm.Cond.methodLink "CoalitionValuesLaw" (18 : Nat) ({ cls := "CoalitionValues", name := "pay", desc := "(II)I" } : Jvm.MethodName)) ∈ lw_all := lw_g (lw_at lw_m0 35 rfl) rfl
theorem q49 : (Jvm.Cond.methodLink "CoalitionValuesLaw" (22 : Nat) ({ cls := "CoalitionValues", name := "weigh", desc := "(II)I" } : Jvm.MethodName)) ∈ lw_all := lw_g (lw_at lw_m0 42 rfl) rfl
theorem q53 : (Jvm.Cond.methodLink "CoalitionValuesLaw" (26 : Nat) ({ cls := "CoalitionValues", name := "exchange", desc := "(II)I" } : Jvm.MethodName)) ∈ lw_all := lw_g (lw_at lw_m0 46 rfl) rfl
theorem q60 : (Jvm.Cond.methodLink "CoalitionValuesLaw" (30 : Nat) ({ cls := "CoalitionValues", name := "orderValue", desc := "(I)I" } : Jvm.MethodName)) ∈ lw_all := lw_g (lw_at lw_m0 53 rfl) rfl
theorem q71 : (Jvm.Cond.methodLink "CoalitionValuesLaw" (35 : Nat) ({ cls := "CoalitionValues", name := "swingValue", desc := "(I)I" } : Jvm.MethodName)) ∈ lw_all := lw_g (lw_at lw_m0 64 rfl) rfl
theorem q75 : (Jvm.Cond.methodLink "CoalitionValuesLaw" (39 : Nat) ({ cls := "CoalitionValues", name := "own", desc := "(I)I" } : Jvm.MethodName)) ∈ lw_all := lw_g (lw_at lw_m0 68 rfl) rfl
theorem q79 : (Jvm.Cond.methodLink "CoalitionValuesLaw" (43 : Nat) ({ cls := "CoalitionValues", name := "complaint", desc := "()I" } : Jvm.MethodName)) ∈ lw_all := lw_g (lw_at lw_m0 72 rfl) rfl
theorem q87 : (Jvm.Cond.methodLink "CoalitionValuesLaw" (48 : Nat) ({ cls := "CoalitionValues", name := "inCore", desc := "()Z" } : Jvm.MethodName)) ∈ lw_all := lw_g (lw_at lw_m0 80 rfl) rfl
theorem q92 : (Jvm.Cond.methodLink "CoalitionValuesLaw" (53 : Nat) ({ cls := "CoalitionValues", name := "convex", desc := "()Z" } : Jvm.MethodName)) ∈ lw_all := lw_g (lw_at lw_m0 85 rfl) rfl
theorem q100 : (Jvm.Cond.methodLink "CoalitionValuesLaw" (57 : Nat) ({ cls := "CoalitionValues", name := "superadditive", desc := "()Z" } : Jvm.MethodName)) ∈ lw_all := lw_g (lw_at lw_m0 93 rfl) rfl
theorem q104 : (Jvm.Cond.methodLink "CoalitionValuesLaw" (61 : Nat) ({ cls := "CoalitionValues", name := "alike", desc := "(II)Z" } : Jvm.MethodName)) ∈ lw_all := lw_g (lw_at lw_m0 97 rfl) rfl
theorem q108 : (Jvm.Cond.methodLink "CoalitionValuesLaw" (66 : Nat) ({ cls := "CoalitionValues", name := "bestSplit", desc := "()I" } : Jvm.MethodName)) ∈ lw_all := lw_g (lw_at lw_m0 101 rfl) rfl
theorem q112 : (Jvm.Cond.classLink "CoalitionValuesLaw" (10 : Nat) "CoalitionValuesModel") ∈ lw_all := lw_g (lw_at lw_m0 105 rfl) rfl
theorem q114 : (Jvm.Cond.methodLink "CoalitionValuesLaw" (12 : Nat) ({ cls := "CoalitionValuesModel", name := "<init>", desc := "()V" } : Jvm.MethodName)) ∈ lw_all := lw_g (lw_at lw_m0 107 rfl) rfl
theorem q131 : (Jvm.Cond.methodLink "CoalitionValuesLaw" (17 : Nat) ({ cls := "CoalitionValuesModel", name := "worth", desc := "(II)I" } : Jvm.MethodName)) ∈ lw_all := lw_g (lw_at lw_m0 124 rfl) rfl
theorem q135 : (Jvm.Cond.methodLink "CoalitionValuesLaw" (21 : Nat) ({ cls := "CoalitionValuesModel", name := "pay", desc := "(II)I" } : Jvm.MethodName)) ∈ lw_all := lw_g (lw_at lw_m0 128 rfl) rfl
theorem q143 : (Jvm.Cond.methodLink "CoalitionValuesLaw" (25 : Nat) ({ cls := "CoalitionValuesModel", name := "weigh", desc := "(II)I" } : Jvm.MethodName)) ∈ lw_all := lw_g (lw_at lw_m0 136 rfl) rfl
theorem q147 : (Jvm.Cond.methodLink "CoalitionValuesLaw" (29 : Nat) ({ cls := "CoalitionValuesModel", name := "exchange", desc := "(II)I" } : Jvm.MethodName)) ∈ lw_all := lw_g (lw_at lw_m0 140 rfl) rfl
theorem q151 : (Jvm.Cond.methodLink "CoalitionValuesLaw" (34 : Nat) ({ cls := "CoalitionValuesModel", name := "orderValue", desc := "(I)I" } : Jvm.MethodName)) ∈ lw_all := lw_g (lw_at lw_m0 144 rfl) rfl
theorem q159 : (Jvm.Cond.methodLink "CoalitionValuesLaw" (38 : Nat) ({ cls := "CoalitionValuesModel", name := "swingValue", desc := "(I)I" } : Jvm.MethodName)) ∈ lw_all := lw_g (lw_at lw_m0 152 rfl) rfl
theorem q163 : (Jvm.Cond.methodLink "CoalitionValuesLaw" (42 : Nat) ({ cls := "CoalitionValuesModel", name := "own", desc := "(I)I" } : Jvm.MethodName)) ∈ lw_all := lw_g (lw_at lw_m0 156 rfl) rfl
theorem q167 : (Jvm.Cond.methodLink "CoalitionValuesLaw" (47 : Nat) ({ cls := "CoalitionValuesModel", name := "complaint", desc := "()I" } : Jvm.MethodName)) ∈ lw_all := lw_g (lw_at lw_m0 160 rfl) rfl
theorem q175 : (Jvm.Cond.methodLink "CoalitionValuesLaw" (52 : Nat) ({ cls := "CoalitionValuesModel", name := "inCore", desc := "()Z" } : Jvm.MethodName)) ∈ lw_all := lw_g (lw_at lw_m0 168 rfl) rfl
theorem q180 : (Jvm.Cond.methodLink "CoalitionValuesLaw" (56 : Nat) ({ cls := "CoalitionValuesModel", name := "convex", desc := "()Z" } : Jvm.MethodName)) ∈ lw_all := lw_g (lw_at lw_m0 173 rfl) rfl
theorem q184 : (Jvm.Cond.methodLink "CoalitionValuesLaw" (60 : Nat) ({ cls := "CoalitionValuesModel", name := "superadditive", desc := "()Z" } : Jvm.MethodName)) ∈ lw_all := lw_g (lw_at lw_m0 177 rfl) rfl
theorem q188 : (Jvm.Cond.methodLink "CoalitionValuesLaw" (65 : Nat) ({ cls := "CoalitionValuesModel", name := "alike", desc := "(II)Z" } : Jvm.MethodName)) ∈ lw_all := lw_g (lw_at lw_m0 181 rfl) rfl
theorem q192 : (Jvm.Cond.methodLink "CoalitionValuesLaw" (69 : Nat) ({ cls := "CoalitionValuesModel", name := "bestSplit", desc := "()I" } : Jvm.MethodName)) ∈ lw_all := lw_g (lw_at lw_m0 185 rfl) rfl
end
section
/-! TOOLS: numbers nI under the machine's operations; rows of the kit over numbers nI; contracts (CM, CS) with their start, return and call -/
set_option maxRecDepth 100000
theorem cv_and (a b : Nat) : nI a &&& nI b = nI (a &&& b) := by
  apply Int32.toBitVec_inj.1
  show BitVec.ofNat 32 a &&& BitVec.ofNat 32 b = BitVec.ofNat 32 (a &&& b)
  apply BitVec.eq_of_getLsbD_eq
  intro i hi
  simp [hi]
theorem cv_or (a b : Nat) : nI a ||| nI b = nI (a ||| b) := by
  apply Int32.toBitVec_inj.1
  show BitVec.ofNat 32 a ||| BitVec.ofNat 32 b = BitVec.ofNat 32 (a ||| b)
  apply BitVec.eq_of_getLsbD_eq
  intro i hi
  simp [hi]
theorem cv_xor (a b : Nat) : nI a ^^^ nI b = nI (a ^^^ b) := by
  apply Int32.toBitVec_inj.1
  show BitVec.ofNat 32 a ^^^ BitVec.ofNat 32 b = BitVec.ofNat 32 (a ^^^ b)
  apply BitVec.eq_of_getLsbD_eq
  intro i hi
  simp [hi]
theorem cv_smod : ∀ n, n < 32 → ((nI n &&& 31).toBitVec.smod 32).toNat = n := by decide +kernel
theorem cv_shr {a b : Nat} (ha : a < 2 ^ 31) (hb : b < 32) : nI a >>> (nI b &&& 31) = nI (a >>> b) := by
  rw [pk_shrN ha _ b (cv_smod b hb), Nat.shiftRight_eq_div_pow]
theorem cv_shl {a b : Nat} (hb : b < 32) (h : a <<< b < 2 ^ 31) : nI a <<< (nI b &&& 31) = nI (a <<< b) := by
  rw [Nat.shiftLeft_eq] at h
  rw [pk_shlN _ b (cv_smod b hb) (by omega), Nat.shiftLeft_eq]
/-- the bit p of s -/
def bt (s p : Nat) : Nat := s >>> p &&& 1
theorem bt_lt (s p : Nat) : bt s p < 2 := by
  unfold bt
  rw [Nat.and_one_is_mod]
  exact Nat.mod_lt _ (by decide)
theorem bt_01 (s p : Nat) : bt s p = 0 ∨ bt s p = 1 := by
  have := bt_lt s p
  omega
theorem or32 {a b : Nat} (ha : a < 32) (hb : b < 32) : a ||| b < 32 := Nat.or_lt_two_pow (n := 5) ha hb
theorem xor32 {a b : Nat} (ha : a < 32) (hb : b < 32) : a ^^^ b < 32 := Nat.xor_lt_two_pow (n := 5) ha hb
theorem and32 {a b : Nat} (ha : a < 32) : a &&& b < 32 := Nat.lt_of_le_of_lt Nat.and_le_left ha
theorem shl32 {a : Nat} (ha : a < 5) : 1 <<< a < 32 := by
  rcases (show a = 0 ∨ a = 1 ∨ a = 2 ∨ a = 3 ∨ a = 4 by omega) with rfl | rfl | rfl | rfl | rfl <;> decide
theorem shlB {a : Nat} (ha : a < 5) : 1 <<< a < 2 ^ 31 := Nat.lt_trans (shl32 ha) (by decide)
/-- a player's number, if it is one -/
def pl5 (x : Int32) : Option Nat := if 0 ≤ x ∧ x < 5 then some x.toNatClampNeg else none
def st32 (x : Int32) : Option Nat := if 1 ≤ x ∧ x < 32 then some x.toNatClampNeg else none
theorem clamp_nI {x : Int32} (h : 0 ≤ x) : x = nI x.toNatClampNeg := by
  obtain ⟨j, hj, rfl⟩ := nI_of (x := x) (by
    rw [Int32.le_iff_toInt_le] at h
    rw [Int32.lt_iff_toInt_lt]
    omega)
  rw [nI_clamp hj]
theorem pl5_some {x : Int32} {k : Nat} (h : pl5 x = some k) : k < 5 ∧ x = nI k := by
  unfold pl5 at h
  split at h
  · rename_i hc
    have e := clamp_nI hc.1
    have e2 := Option.some.inj h
    rw [e2] at e
    refine ⟨?_, e⟩
    have h5 := hc.2
    rw [← e2]
    rw [Int32.lt_iff_toInt_lt, show (5 : Int32).toInt = 5 from by decide] at h5
    have h0 := hc.1
    rw [Int32.le_iff_toInt_le, show (0 : Int32).toInt = 0 from by decide] at h0
    show x.toInt.toNat < 5
    omega
  · cases h
theorem pl5_none {x : Int32} (h : pl5 x = none) : x < 0 ∨ 5 ≤ x := by
  unfold pl5 at h
  split at h
  · cases h
  · rename_i hc
    rw [Int32.le_iff_toInt_le, Int32.lt_iff_toInt_lt] at hc
    rw [Int32.le_iff_toInt_le, Int32.lt_iff_toInt_lt]
    omega
theorem pl5_nI {k : Nat} (h : k < 5) : pl5 (nI k) = some k := by
  rcases (show k = 0 ∨ k = 1 ∨ k = 2 ∨ k = 3 ∨ k = 4 by omega) with rfl | rfl | rfl | rfl | rfl <;> decide +kernel
theorem st32_some {x : Int32} {k : Nat} (h : st32 x = some k) : 1 ≤ k ∧ k < 32 ∧ x = nI k := by
  unfold st32 at h
  split at h
  · rename_i hc
    have h5 := hc.2
    rw [Int32.lt_iff_toInt_lt, show (32 : Int32).toInt = 32 from by decide] at h5
    have h0 := hc.1
    rw [Int32.le_iff_toInt_le, show (1 : Int32).toInt = 1 from by decide] at h0
    have e := clamp_nI (x := x) (by rw [Int32.le_iff_toInt_le, show (0 : Int32).toInt = 0 from by decide]; omega)
    have e2 := Option.some.inj h
    rw [e2] at e
    refine ⟨?_, ?_, e⟩
    · rw [← e2]
      show 1 ≤ x.toInt.toNat
      omega
    · rw [← e2]
      show x.toInt.toNat < 32
      omega
  · cases h
theorem st32_none {x : Int32} (h : st32 x = none) : x < 1 ∨ 32 ≤ x := by
  unfold st32 at h
  split at h
  · cases h
  · rename_i hc
    rw [Int32.le_iff_toInt_le, Int32.lt_iff_toInt_lt] at hc
    rw [Int32.le_iff_toInt_le, Int32.lt_iff_toInt_lt]
    omega
/-! rows over numbers nI -/
section
variable {p : Program} {l : Launch} {e : Env} {R : Room} {s : State} {m : MethodId} {args : Array Value} {below : List Frame} {meth : Method} {c : Code} {H : Heap} {locs : List Loc} {cells slots : Nat} {Q : State → Prop}
variable {cc : ByteArray} {pc : Nat} {ls : Array Slot} {rest : List Value}
theorem cv_set {x y : Int32} (h : x = y) (k : W p l e R s m args below meth c H locs cells slots Q (F0 m pc ls (.int y :: rest))) : W p l e R s m args below meth c H locs cells slots Q (F0 m pc ls (.int x :: rest)) := h ▸ k
theorem cn_iadd (hx : p.tables.exec = Jvm.exec) (hb : c.code = cc) {a b : Nat} (hdg : decode cc pc = .ok (.iadd, 1))
    (k : W p l e R s m args below meth c H locs cells slots Q (F0 m (pc + 1) ls (.int (nI (a + b)) :: rest))) : W p l e R s m args below meth c H locs cells slots Q (F0 m pc ls (.int (nI b) :: .int (nI a) :: rest)) := lv_iadd hx hb hdg (cv_set (nI_add a b) k)
theorem cn_isub (hx : p.tables.exec = Jvm.exec) (hb : c.code = cc) {a b : Nat} (h : b ≤ a) (hdg : decode cc pc = .ok (.isub, 1))
    (k : W p l e R s m args below meth c H locs cells slots Q (F0 m (pc + 1) ls (.int (nI (a - b)) :: rest))) : W p l e R s m args below meth c H locs cells slots Q (F0 m pc ls (.int (nI b) :: .int (nI a) :: rest)) := lv_isub hx hb hdg (cv_set (pk_sub h) k)
theorem cn_imul (hx : p.tables.exec = Jvm.exec) (hb : c.code = cc) {a b : Nat} (hdg : decode cc pc = .ok (.imul, 1))
    (k : W p l e R s m args below meth c H locs cells slots Q (F0 m (pc + 1) ls (.int (nI (a * b)) :: rest))) : W p l e R s m args below meth c H locs cells slots Q (F0 m pc ls (.int (nI b) :: .int (nI a) :: rest)) := lv_imul hx hb hdg (cv_set (pk_mul a b) k)
theorem cn_iand (hx : p.tables.exec = Jvm.exec) (hb : c.code = cc) {a b : Nat} (hdg : decode cc pc = .ok (.iand, 1))
    (k : W p l e R s m args below meth c H locs cells slots Q (F0 m (pc + 1) ls (.int (nI (a &&& b)) :: rest))) : W p l e R s m args below meth c H locs cells slots Q (F0 m pc ls (.int (nI b) :: .int (nI a) :: rest)) := lv_iand hx hb hdg (cv_set (cv_and a b) k)
theorem cn_ior (hx : p.tables.exec = Jvm.exec) (hb : c.code = cc) {a b : Nat} (hdg : decode cc pc = .ok (.ior, 1))
    (k : W p l e R s m args below meth c H locs cells slots Q (F0 m (pc + 1) ls (.int (nI (a ||| b)) :: rest))) : W p l e R s m args below meth c H locs cells slots Q (F0 m pc ls (.int (nI b) :: .int (nI a) :: rest)) := lv_ior hx hb hdg (cv_set (cv_or a b) k)
theorem cn_ixor (hx : p.tables.exec = Jvm.exec) (hb : c.code = cc) {a b : Nat} (hdg : decode cc pc = .ok (.ixor, 1))
    (k : W p l e R s m args below meth c H locs cells slots Q (F0 m (pc + 1) ls (.int (nI (a ^^^ b)) :: rest))) : W p l e R s m args below meth c H locs cells slots Q (F0 m pc ls (.int (nI b) :: .int (nI a) :: rest)) := lv_ixor hx hb hdg (cv_set (cv_xor a b) k)
theorem cn_ishr (hx : p.tables.exec = Jvm.exec) (hb : c.code = cc) {a b : Nat} (h1 : a < 2 ^ 31) (h2 : b < 32) (hdg : decode cc pc = .ok (.ishr, 1))
    (k : W p l e R s m args below meth c H locs cells slots Q (F0 m (pc + 1) ls (.int (nI (a >>> b)) :: rest))) : W p l e R s m args below meth c H locs cells slots Q (F0 m pc ls (.int (nI b) :: .int (nI a) :: rest)) := lv_ishr hx hb hdg (cv_set (cv_shr h1 h2) k)
theorem cn_ishl (hx : p.tables.exec = Jvm.exec) (hb : c.code = cc) {a b : Nat} (h1 : a <<< b < 2 ^ 31) (h2 : b < 32) (hdg : decode cc pc = .ok (.ishl, 1))
    (k : W p l e R s m args below meth c H locs cells slots Q (F0 m (pc + 1) ls (.int (nI (a <<< b)) :: rest))) : W p l e R s m args below meth c H locs cells slots Q (F0 m pc ls (.int (nI b) :: .int (nI a) :: rest)) := lv_ishl hx hb hdg (cv_set (cv_shl h2 h1) k)
theorem cn_idiv (hx : p.tables.exec = Jvm.exec) (hb : c.code = cc) {a b : Nat} (h1 : a < 2 ^ 31) (h0 : 0 < b) (h2 : b < 2 ^ 31) (hdg : decode cc pc = .ok (.idiv, 1))
    (k : W p l e R s m args below meth c H locs cells slots Q (F0 m (pc + 1) ls (.int (nI (a / b)) :: rest))) : W p l e R s m args below meth c H locs cells slots Q (F0 m pc ls (.int (nI b) :: .int (nI a) :: rest)) := lv_idiv hx hb hdg (nI_ne0 h0 h2) (cv_set (pk_div h1 h0 h2) k)
theorem cn_irem (hx : p.tables.exec = Jvm.exec) (hb : c.code = cc) {a b : Nat} (h1 : a < 2 ^ 31) (h0 : 0 < b) (h2 : b < 2 ^ 31) (hdg : decode cc pc = .ok (.irem, 1))
    (k : W p l e R s m args below meth c H locs cells slots Q (F0 m (pc + 1) ls (.int (nI (a % b)) :: rest))) : W p l e R s m args below meth c H locs cells slots Q (F0 m pc ls (.int (nI b) :: .int (nI a) :: rest)) := lv_irem hx hb hdg (nI_ne0 h0 h2) (cv_set (pk_rem h1 h0 h2) k)
theorem cn_iinc (hx : p.tables.exec = Jvm.exec) (hb : c.code = cc) {i nL k a : Nat} {lv lv' : List (Nat × Value)} (hdg : decode cc pc = .ok (.iinc i 1, 3)) (h : lv_has ls nL lv) (hk : lv[k]? = some (i, .int (nI a))) (hn : i < nL) (hl : (i, Value.int (nI (a + 1))) :: lv.filter (fun q => !(q.1 == i) && !(q.1 + 1 == i && q.2.category == 2)) = lv')
    (kk : ∀ ls' : Array Slot, lv_has ls' nL lv' → W p l e R s m args below meth c H locs cells slots Q (F0 m (pc + 3) ls' rest)) : W p l e R s m args below meth c H locs cells slots Q (F0 m pc ls rest) := lv_iinc (v := nI (a + 1)) hx hb hdg h hk (nI_1 a) hn hl kk
theorem cn_dec (hx : p.tables.exec = Jvm.exec) (hb : c.code = cc) {i nL k a : Nat} {lv lv' : List (Nat × Value)} (ha : 0 < a) (hdg : decode cc pc = .ok (.iinc i (-1), 3)) (h : lv_has ls nL lv) (hk : lv[k]? = some (i, .int (nI a))) (hn : i < nL) (hl : (i, Value.int (nI (a - 1))) :: lv.filter (fun q => !(q.1 == i) && !(q.1 + 1 == i && q.2.category == 2)) = lv')
    (kk : ∀ ls' : Array Slot, lv_has ls' nL lv' → W p l e R s m args below meth c H locs cells slots Q (F0 m (pc + 3) ls' rest)) : W p l e R s m args below meth c H locs cells slots Q (F0 m pc ls rest) := lv_iinc (v := nI (a - 1)) hx hb hdg h hk (sb_m1 ha) hn hl kk
theorem cn_ge (hx : p.tables.exec = Jvm.exec) (hb : c.code = cc) {a b : Nat} (h1 : a < 2 ^ 31) (h2 : b < 2 ^ 31) {off : Int} {tgt : Nat} (hdg : decode cc pc = .ok (.if_icmp .ge off, 3)) (ht : (pc : Int) + off = (tgt : Int))
    (kt : b ≤ a → W p l e R s m args below meth c H locs cells slots Q (F0 m tgt ls rest)) (kf : a < b → W p l e R s m args below meth c H locs cells slots Q (F0 m (pc + 3) ls rest)) : W p l e R s m args below meth c H locs cells slots Q (F0 m pc ls (.int (nI b) :: .int (nI a) :: rest)) :=
  lv_icmp_ge hx hb hdg ht (fun h => kt ((nI_leI h2 h1).mp h)) (fun h => kf (Nat.not_le.mp fun q => h ((nI_leI h2 h1).mpr q)))
theorem cn_lt (hx : p.tables.exec = Jvm.exec) (hb : c.code = cc) {a b : Nat} (h1 : a < 2 ^ 31) (h2 : b < 2 ^ 31) {off : Int} {tgt : Nat} (hdg : decode cc pc = .ok (.if_icmp .lt off, 3)) (ht : (pc : Int) + off = (tgt : Int))
    (kt : a < b → W p l e R s m args below meth c H locs cells slots Q (F0 m tgt ls rest)) (kf : b ≤ a → W p l e R s m args below meth c H locs cells slots Q (F0 m (pc + 3) ls rest)) : W p l e R s m args below meth c H locs cells slots Q (F0 m pc ls (.int (nI b) :: .int (nI a) :: rest)) :=
  lv_icmp_lt hx hb hdg ht (fun h => kt ((nI_ltI h1 h2).mp h)) (fun h => kf (Nat.not_lt.mp fun q => h ((nI_ltI h1 h2).mpr q)))
theorem cn_gt (hx : p.tables.exec = Jvm.exec) (hb : c.code = cc) {a b : Nat} (h1 : a < 2 ^ 31) (h2 : b < 2 ^ 31) {off : Int} {tgt : Nat} (hdg : decode cc pc = .ok (.if_icmp .gt off, 3)) (ht : (pc : Int) + off = (tgt : Int))
    (kt : b < a → W p l e R s m args below meth c H locs cells slots Q (F0 m tgt ls rest)) (kf : a ≤ b → W p l e R s m args below meth c H locs cells slots Q (F0 m (pc + 3) ls rest)) : W p l e R s m args below meth c H locs cells slots Q (F0 m pc ls (.int (nI b) :: .int (nI a) :: rest)) :=
  lv_icmp_gt hx hb hdg ht (fun h => kt ((nI_ltI h2 h1).mp h)) (fun h => kf (Nat.not_lt.mp fun q => h ((nI_ltI h2 h1).mpr q)))
theorem cn_le (hx : p.tables.exec = Jvm.exec) (hb : c.code = cc) {a b : Nat} (h1 : a < 2 ^ 31) (h2 : b < 2 ^ 31) {off : Int} {tgt : Nat} (hdg : decode cc pc = .ok (.if_icmp .le off, 3)) (ht : (pc : Int) + off = (tgt : Int))
    (kt : a ≤ b → W p l e R s m args below meth c H locs cells slots Q (F0 m tgt ls rest)) (kf : b < a → W p l e R s m args below meth c H locs cells slots Q (F0 m (pc + 3) ls rest)) : W p l e R s m args below meth c H locs cells slots Q (F0 m pc ls (.int (nI b) :: .int (nI a) :: rest)) :=
  lv_icmp_le hx hb hdg ht (fun h => kt ((nI_leI h1 h2).mp h)) (fun h => kf (Nat.not_le.mp fun q => h ((nI_leI h1 h2).mpr q)))
theorem cn_eq (hx : p.tables.exec = Jvm.exec) (hb : c.code = cc) {a b : Nat} (h1 : a < 2 ^ 31) (h2 : b < 2 ^ 31) {off : Int} {tgt : Nat} (hdg : decode cc pc = .ok (.if_icmp .eq off, 3)) (ht : (pc : Int) + off = (tgt : Int))
    (kt : a = b → W p l e R s m args below meth c H locs cells slots Q (F0 m tgt ls rest)) (kf : ¬ a = b → W p l e R s m args below meth c H locs cells slots Q (F0 m (pc + 3) ls rest)) : W p l e R s m args below meth c H locs cells slots Q (F0 m pc ls (.int (nI b) :: .int (nI a) :: rest)) :=
  lv_icmp_eq hx hb hdg ht (fun h => kt ((nI_eq h1 h2).mp h)) (fun h => kf (fun q => h ((nI_eq h1 h2).mpr q)))
theorem cn_ne (hx : p.tables.exec = Jvm.exec) (hb : c.code = cc) {a b : Nat} (h1 : a < 2 ^ 31) (h2 : b < 2 ^ 31) {off : Int} {tgt : Nat} (hdg : decode cc pc = .ok (.if_icmp .ne off, 3)) (ht : (pc : Int) + off = (tgt : Int))
    (kt : ¬ a = b → W p l e R s m args below meth c H locs cells slots Q (F0 m tgt ls rest)) (kf : a = b → W p l e R s m args below meth c H locs cells slots Q (F0 m (pc + 3) ls rest)) : W p l e R s m args below meth c H locs cells slots Q (F0 m pc ls (.int (nI b) :: .int (nI a) :: rest)) :=
  lv_icmp_ne hx hb hdg ht (fun h => kt (fun q => h ((nI_eq h1 h2).mpr q))) (fun h => kf ((nI_eq h1 h2).mp h))
theorem cz_eq (hx : p.tables.exec = Jvm.exec) (hb : c.code = cc) {a : Nat} (h1 : a < 2 ^ 31) {off : Int} {tgt : Nat} (hdg : decode cc pc = .ok (.ifCond .eq off, 3)) (ht : (pc : Int) + off = (tgt : Int))
    (kt : a = 0 → W p l e R s m args below meth c H locs cells slots Q (F0 m tgt ls rest)) (kf : ¬ a = 0 → W p l e R s m args below meth c H locs cells slots Q (F0 m (pc + 3) ls rest)) : W p l e R s m args below meth c H locs cells slots Q (F0 m pc ls (.int (nI a) :: rest)) :=
  lv_if_eq hx hb hdg ht (fun h => kt ((nI_eq (b := 0) h1 (by decide)).mp h)) (fun h => kf (fun q => h ((nI_eq (b := 0) h1 (by decide)).mpr q)))
theorem cz_ne (hx : p.tables.exec = Jvm.exec) (hb : c.code = cc) {a : Nat} (h1 : a < 2 ^ 31) {off : Int} {tgt : Nat} (hdg : decode cc pc = .ok (.ifCond .ne off, 3)) (ht : (pc : Int) + off = (tgt : Int))
    (kt : ¬ a = 0 → W p l e R s m args below meth c H locs cells slots Q (F0 m tgt ls rest)) (kf : a = 0 → W p l e R s m args below meth c H locs cells slots Q (F0 m (pc + 3) ls rest)) : W p l e R s m args below meth c H locs cells slots Q (F0 m pc ls (.int (nI a) :: rest)) :=
  lv_if_ne hx hb hdg ht (fun h => kt (fun q => h ((nI_eq (b := 0) h1 (by decide)).mpr q))) (fun h => kf ((nI_eq (b := 0) h1 (by decide)).mp h))
theorem cz_le (hx : p.tables.exec = Jvm.exec) (hb : c.code = cc) {a : Nat} (h1 : a < 2 ^ 31) {off : Int} {tgt : Nat} (hdg : decode cc pc = .ok (.ifCond .le off, 3)) (ht : (pc : Int) + off = (tgt : Int))
    (kt : a = 0 → W p l e R s m args below meth c H locs cells slots Q (F0 m tgt ls rest)) (kf : 0 < a → W p l e R s m args below meth c H locs cells slots Q (F0 m (pc + 3) ls rest)) : W p l e R s m args below meth c H locs cells slots Q (F0 m pc ls (.int (nI a) :: rest)) :=
  lv_if_le hx hb hdg ht (fun h => kt (Nat.le_zero.mp ((nI_leI (b := 0) h1 (by decide)).mp h))) (fun h => kf (Nat.pos_of_ne_zero (fun q => h ((nI_leI (b := 0) h1 (by decide)).mpr (Nat.le_of_eq q)))))
/-- an array's place j read and written -/
theorem cv_ald {a : Nat} {D : va_G} {cl : List vw_C} {ws : va_W} {tys : List (ClassId × FieldType)} (hx : p.tables.exec = Jvm.exec) (hb : c.code = cc) (hK : va_K D cl tys s) (hP : va_P D cl ws H) (q0 t0 : Nat) {cA : ClassId} {n : Nat} {f : Nat → Int32} (ha : ws[q0]? = some (a, .inl (cA, n, .inl f))) (ht : tys[t0]? = some (cA, .int)) {j : Nat} (hn : n < 2 ^ 31) (hj : j < n) (hdg : decode cc pc = .ok (.iaload, 1))
    (kk : W p l e R s m args below meth c H locs cells slots Q (F0 m (pc + 1) ls (.int (f j) :: rest))) : W p l e R s m args below meth c H locs cells slots Q (F0 m pc ls (.int (nI j) :: .ref a :: rest)) := by
  refine va_iald hx hb hK hP q0 t0 ha ht (vp_in_nI hj hn) hdg ?_
  rw [nI_clamp (by omega)]
  exact kk
theorem cv_ast {a : Nat} {D : va_G} {cl : List vw_C} {ws : va_W} {tys : List (ClassId × FieldType)} {A : Nat → Prop} {H0 : Heap} (hx : p.tables.exec = Jvm.exec) (hb : c.code = cc) (hK : va_K D cl tys s) (hP : va_P D cl ws H) (hD : va_D A ws) (hS : va_S A H0 H locs) (q0 t0 : Nat) {cA : ClassId} {n : Nat} {f : Nat → Int32} (ha : ws[q0]? = some (a, .inl (cA, n, .inl f))) (ht : tys[t0]? = some (cA, .int)) {j : Nat} {x : Int32} (hn : n < 2 ^ 31) (hj : j < n) (hdg : decode cc pc = .ok (.iastore, 1))
    (kk : ∀ (H1 : Heap) (locs1 : List Loc), va_P D cl (ws.set q0 (a, .inl (cA, n, .inl (upd f j x)))) H1 → va_D A (ws.set q0 (a, .inl (cA, n, .inl (upd f j x)))) → va_S A H0 H1 locs1 → W p l e R s m args below meth c H1 locs1 cells slots Q (F0 m (pc + 1) ls rest)) : W p l e R s m args below meth c H locs cells slots Q (F0 m pc ls (.int x :: .int (nI j) :: .ref a :: rest)) := by
  refine va_iast hx hb hK hP hD hS q0 t0 ha ht (vp_in_nI hj hn) hdg ?_
  rw [nI_clamp (by omega)]
  exact kk
end
end
section
/-! CONTRACTS: the two classes' worlds (wX0, wX1), a contract's form (CM: a method of an object, CMv: one without an answer, CS: a static one without a world), its start, its return, its call -/
set_option maxRecDepth 100000
abbrev vwCl : List vw_C := [(RX0, TX0, 5), (RX1, TX1, 4)]
abbrev SX0 : Type := (Nat → Int32) × (Nat → Int32) × (Nat → Int32) × (Nat → Int32) × (Nat → Int32)
abbrev SX1 : Type := (Nat → Int32) × (Nat → Int32) × (Nat → Int32) × (Nat → Int32)
/-- a CoalitionValues at g 0: worths, amount, part, moved, split -/
abbrev wX0 (d : Nat → ClassId) (g : Nat → Nat) (u : SX0) : va_W := [(g 0, .inr (0, [.ref (g 1), .ref (g 2), .ref (g 3), .ref (g 4), .ref (g 5)])), (g 1, .inl (d 0, 32, .inl u.1)), (g 2, .inl (d 1, 5, .inl u.2.1)), (g 3, .inl (d 2, 32, .inl u.2.2.1)), (g 4, .inl (d 3, 32, .inl u.2.2.2.1)), (g 5, .inl (d 4, 32, .inl u.2.2.2.2))]
/-- a CoalitionValuesModel at g 0: worths, moved, parts, amounts -/
abbrev wX1 (d : Nat → ClassId) (g : Nat → Nat) (u : SX1) : va_W := [(g 0, .inr (1, [.ref (g 1), .ref (g 2), .ref (g 3), .ref (g 4)])), (g 1, .inl (d 0, 32, .inl u.1)), (g 2, .inl (d 1, 32, .inl u.2.1)), (g 3, .inl (d 2, 32, .inl u.2.2.1)), (g 4, .inl (d 3, 5, .inl u.2.2.2))]
abbrev tX0 (d : Nat → ClassId) : List (ClassId × FieldType) := [(d 0, .int), (d 1, .int), (d 2, .int), (d 3, .int), (d 4, .int)]
abbrev tX1 (d : Nat → ClassId) : List (ClassId × FieldType) := [(d 0, .int), (d 1, .int), (d 2, .int), (d 3, .int)]
/-- what stands behind a method of an object: the world by u -/
abbrev BM {S : Type} (D : va_G) (wf : S → va_W) (tys : List (ClassId × FieldType)) (A : Nat → Prop) (u : S) (t : State) : Prop := va_P D vwCl (wf u) t.heap ∧ va_K D vwCl tys t ∧ va_D A (wf u)
abbrev PM {S : Type} (D : va_G) (wf : S → va_W) (tys : List (ClassId × FieldType)) (sz : Nat) (u : S) (U : State) : Prop := U.heap.size = sz ∧ va_P D vwCl (wf u) U.heap ∧ va_K D vwCl tys U ∧ va_D (fun _ => True) (wf u)
abbrev CM {S : Type} (l : Launch) (y : MethodName) (b : ByteArray) (L : Nat) (r : Option FieldType) (rm : Room) (D : va_G) (wf : S → va_W) (tys : List (ClassId × FieldType)) (a0 sz : Nat) (u : S) (av : List Value) (post : Int32 → S → Prop) : Prop :=
  Met l y (ws_ y b L r) rm (va_Pc (.ref a0 :: av) (PM D wf tys sz u)) (va_Qi post (BM D wf tys (va_A (wf u) sz)) (va_A (wf u) sz)) 0 0 (va_A (wf u) sz)
abbrev CMv {S : Type} (l : Launch) (y : MethodName) (b : ByteArray) (L : Nat) (r : Option FieldType) (rm : Room) (D : va_G) (wf : S → va_W) (tys : List (ClassId × FieldType)) (a0 sz : Nat) (u : S) (av : List Value) (post : S → Prop) : Prop :=
  Met l y (ws_ y b L r) rm (va_Pc (.ref a0 :: av) (PM D wf tys sz u)) (va_Qv post (BM D wf tys (va_A (wf u) sz)) (va_A (wf u) sz)) 0 0 (va_A (wf u) sz)
/-- a static method that reads and writes no cell -/
abbrev CS (l : Launch) (y : MethodName) (b : ByteArray) (L : Nat) (r : Option FieldType) (rm : Room) (sz : Nat) (av : List Value) (post : Int32 → Unit → Prop) : Prop :=
  Met l y (ws_ y b L r) rm (va_Pc av (fun U => U.heap.size = sz)) (va_Qi post (fun _ _ => True) (va_A [] sz)) 0 0 (va_A [] sz)
theorem cm_start {S : Type} {l : Launch} {y : MethodName} {b : ByteArray} {L : Nat} {r : Option FieldType} {rm : Room} {D : va_G} {wf : S → va_W} {tys : List (ClassId × FieldType)} {a0 sz : Nat} {u : S} {av : List Value} {post : Int32 → S → Prop} (hy : plainName y.cls = true) (hn : (lg_sl (.ref a0 :: av)).length ≤ L)
    (body : ∀ (p : Program) (e : Env) (s : State) (m : MethodId) (below : List Frame) (meth : Method) (c : Code) (ls : Array Slot) (A : Nat → Prop), CallFix p m c b L s (.ref a0 :: av : List Value).toArray lw_all y.cls → meth.sig.returnType = r → meth.locks = false → (∀ q : Nat, s.heap.size ≤ q → A q) → va_P D vwCl (wf u) s.heap → va_K D vwCl tys s → va_D A (wf u) → va_S A s.heap s.heap [] → lv_has ls L (lv_args 0 (.ref a0 :: av)) →
      W p l e rm s m (.ref a0 :: av : List Value).toArray below meth c s.heap [] 0 0 (MQ below (va_Qi post (BM D wf tys A) A) (.ref a0 :: av : List Value).toArray s 0 0 A) (F0 m 0 ls [])) : CM l y b L r rm D wf tys a0 sz u av post := by
  refine Met.ofW (cc := b) (maxL := L) (ret := r) hy rfl ?_
  intro p e s m args below meth c s₁ B hml hv
  obtain ⟨rfl, hsz, hP, hK, hD0⟩ := hv
  have hts := atoms_spec (ws := ws_ y b L r) B.pre
  have hts : ∀ w ∈ lw_all, w.before _ s = true := fun w h => hts w (List.mem_cons_of_mem _ h)
  subst hsz
  have hD := hD0.self (sz := s.heap.size)
  have hl := lv_entry (.ref a0 :: av) (n := L) hn
  rw [lg_entry_eq]
  exact body p e s m below meth c _ (va_A (wf u) s.heap.size) ⟨B.exec, B.bytes, hml, findClass_of_methodNamed B.named, hts⟩ B.returns B.notSynchronized (fun q h => Or.inr h) hP hK hD va_S.rf hl
theorem cmv_start {S : Type} {l : Launch} {y : MethodName} {b : ByteArray} {L : Nat} {r : Option FieldType} {rm : Room} {D : va_G} {wf : S → va_W} {tys : List (ClassId × FieldType)} {a0 sz : Nat} {u : S} {av : List Value} {post : S → Prop} (hy : plainName y.cls = true) (hn : (lg_sl (.ref a0 :: av)).length ≤ L)
    (body : ∀ (p : Program) (e : Env) (s : State) (m : MethodId) (below : List Frame) (meth : Method) (c : Code) (ls : Array Slot) (A : Nat → Prop), CallFix p m c b L s (.ref a0 :: av : List Value).toArray lw_all y.cls → meth.sig.returnType = r → meth.locks = false → (∀ q : Nat, s.heap.size ≤ q → A q) → va_P D vwCl (wf u) s.heap → va_K D vwCl tys s → va_D A (wf u) → va_S A s.heap s.heap [] → lv_has ls L (lv_args 0 (.ref a0 :: av)) →
      W p l e rm s m (.ref a0 :: av : List Value).toArray below meth c s.heap [] 0 0 (MQ below (va_Qv post (BM D wf tys A) A) (.ref a0 :: av : List Value).toArray s 0 0 A) (F0 m 0 ls [])) : CMv l y b L r rm D wf tys a0 sz u av post := by
  refine Met.ofW (cc := b) (maxL := L) (ret := r) hy rfl ?_
  intro p e s m args below meth c s₁ B hml hv
  obtain ⟨rfl, hsz, hP, hK, hD0⟩ := hv
  have hts := atoms_spec (ws := ws_ y b L r) B.pre
  have hts : ∀ w ∈ lw_all, w.before _ s = true := fun w h => hts w (List.mem_cons_of_mem _ h)
  subst hsz
  have hD := hD0.self (sz := s.heap.size)
  have hl := lv_entry (.ref a0 :: av) (n := L) hn
  rw [lg_entry_eq]
  exact body p e s m below meth c _ (va_A (wf u) s.heap.size) ⟨B.exec, B.bytes, hml, findClass_of_methodNamed B.named, hts⟩ B.returns B.notSynchronized (fun q h => Or.inr h) hP hK hD va_S.rf hl
theorem cs_start {l : Launch} {y : MethodName} {b : ByteArray} {L : Nat} {r : Option FieldType} {rm : Room} {sz : Nat} {av : List Value} {post : Int32 → Unit → Prop} (hy : plainName y.cls = true) (hn : (lg_sl av).length ≤ L)
    (body : ∀ (p : Program) (e : Env) (s : State) (m : MethodId) (below : List Frame) (meth : Method) (c : Code) (ls : Array Slot) (A : Nat → Prop), CallFix p m c b L s av.toArray lw_all y.cls → meth.sig.returnType = r → meth.locks = false → va_S A s.heap s.heap [] → lv_has ls L (lv_args 0 av) →
      W p l e rm s m av.toArray below meth c s.heap [] 0 0 (MQ below (va_Qi post (fun _ _ => True) A) av.toArray s 0 0 A) (F0 m 0 ls [])) : CS l y b L r rm sz av post := by
  refine Met.ofW (cc := b) (maxL := L) (ret := r) hy rfl ?_
  intro p e s m args below meth c s₁ B hml hv
  obtain ⟨rfl, hsz⟩ := hv
  have hts := atoms_spec (ws := ws_ y b L r) B.pre
  have hts : ∀ w ∈ lw_all, w.before _ s = true := fun w h => hts w (List.mem_cons_of_mem _ h)
  subst hsz
  have hl := lv_entry av (n := L) hn
  rw [lg_entry_eq]
  exact body p e s m below meth c _ (va_A [] s.heap.size) ⟨B.exec, B.bytes, hml, findClass_of_methodNamed B.named, hts⟩ B.returns B.notSynchronized va_S.rf hl
section
variable {p : Program} {l : Launch} {e : Env} {R : Room} {s : State} {m : MethodId} {args : Array Value} {below : List Frame} {meth : Method} {c : Code} {H : Heap} {locs : List Loc} {cells slots : Nat} {Q : State → Prop}
variable {cc : ByteArray} {pc nL : Nat} {ls : Array Slot} {rest st : List Value} {own : String}
theorem cm_ret {S : Type} {D : va_G} {wf : S → va_W} {tys : List (ClassId × FieldType)} {A : Nat → Prop} {post : Int32 → S → Prop} {v : Int32} {ty : FieldType} (hx : p.tables.exec = Jvm.exec) (hb : c.code = cc) (hr : meth.sig.returnType = some ty) (hlocks : meth.locks = false) (hn : narrow ty (.int v) = .int v) (u : S) (hp : post v u) (hP : va_P D vwCl (wf u) H) (hK : va_K D vwCl tys s) (hD : va_D A (wf u)) (hS : va_S A s.heap H locs) (hdg : decode cc pc = .ok (.ireturn, 1)) :
    W p l e R s m args below meth c H locs cells slots (MQ below (va_Qi post (BM D wf tys A) A) args s cells slots A) (F0 m pc ls [.int v]) :=
  W.zret hx hb hr hn (fun t ht hW => ⟨⟨v, u, rfl, hp, by rw [ht]; exact hP, va_K.moved hW.alike hK, hD⟩, hS.F ht⟩) hS.2.2 hdg hlocks
theorem cmv_ret {S : Type} {D : va_G} {wf : S → va_W} {tys : List (ClassId × FieldType)} {A : Nat → Prop} {post : S → Prop} (hx : p.tables.exec = Jvm.exec) (hb : c.code = cc) (hr : meth.sig.returnType = none) (hlocks : meth.locks = false) (u : S) (hp : post u) (hP : va_P D vwCl (wf u) H) (hK : va_K D vwCl tys s) (hD : va_D A (wf u)) (hS : va_S A s.heap H locs) (hdg : decode cc pc = .ok (.return_, 1)) :
    W p l e R s m args below meth c H locs cells slots (MQ below (va_Qv post (BM D wf tys A) A) args s cells slots A) (F0 m pc ls []) :=
  W.vret hx hb hr (fun t ht hW => ⟨⟨u, rfl, hp, by rw [ht]; exact hP, va_K.moved hW.alike hK, hD⟩, hS.F ht⟩) hS.2.2 hdg hlocks
theorem cs_ret {A : Nat → Prop} {post : Int32 → Unit → Prop} {v : Int32} {ty : FieldType} (hx : p.tables.exec = Jvm.exec) (hb : c.code = cc) (hr : meth.sig.returnType = some ty) (hlocks : meth.locks = false) (hn : narrow ty (.int v) = .int v) (hp : post v ()) (hS : va_S A s.heap H locs) (hdg : decode cc pc = .ok (.ireturn, 1)) :
    W p l e R s m args below meth c H locs cells slots (MQ below (va_Qi post (fun _ _ => True) A) args s cells slots A) (F0 m pc ls [.int v]) :=
  W.zret hx hb hr hn (fun t ht hW => ⟨⟨v, (), rfl, hp, trivial⟩, hS.F ht⟩) hS.2.2 hdg hlocks
/-- a static call: the world stays -/
theorem cs_call {D : va_G} {ws : va_W} {A : Nat → Prop} {y : MethodName} {b : ByteArray} {L n index : Nat} {r : Option FieldType} {rm : Room} {av : List Value} {post : Int32 → Unit → Prop} (F : CallFix p m c cc nL s args lw_all own) (hM : CS l y b L r rm H.size av post) (cw : CallB R s args own index y b L r (ws_ y b L r) rm 0 0 n ∧ (Cond.static y).before args s = true)
    (hP : va_P D vwCl ws H) (hS : va_S A s.heap H locs) (hA : ∀ q : Nat, s.heap.size ≤ q → A q) (hn : av.length = n) (hsz : ls.size = nL) (hst : st = av.reverse ++ rest) (hW : (rest.map fun v => v.category).sum ≤ 8) (hf : cells ≤ R.cells ∧ slots ≤ R.slots) (hdg : decode cc pc = .ok (.invokestatic index, 3))
    (kk : ∀ (r : Int32) (H1 : Heap) (locs1 : List Loc), post r () → va_P D vwCl ws H1 → va_S A s.heap H1 locs1 → W p l e R s m args below meth c H1 locs1 cells slots Q (F0 m (pc + 3) ls (.int r :: rest))) : W p l e R s m args below meth c H locs cells slots Q (F0 m pc ls st) := by
  subst hst
  have hFc : ∀ q : Nat, va_A [] H.size q → A q := fun q h => by
    rcases h with ⟨k, e, h⟩ | h
    · cases h
    · exact hA q (Nat.le_trans hS.1 h)
  refine va_calli (va_runS (As := av) (rest := rest) F hM cw ⟨fun a U g mk q => q, fun U hU hW => ⟨rfl, by show Array.size U.heap = Array.size H; rw [hU]⟩⟩ rfl hn hsz rfl (lv_room hW) hdg hf) hS (fun q _ h => hFc q h) hFc (fun r u t H1 locs1 ht hvm hw hB hz1 hk1 hS1 => ?_)
  refine kk r H1 locs1 hw (hP.kept (fun k q hk => hk1 q.1 (hP k q hk).lt (fun h => ?_))) hS1
  rcases h with ⟨k, e, h⟩ | h
  · cases h
  · exact absurd (hP k q hk).lt (Nat.not_lt.mpr h)
/-- a call of an object's method: its world wc by the places isC of ws; the rest wr by isR -/
theorem cm_call {S : Type} {D : va_G} {wf : S → va_W} {tys tys0 : List (ClassId × FieldType)} {ws wr : va_W} {A : Nat → Prop} {y : MethodName} {b : ByteArray} {L n index a0 ci : Nat} {C : String} {q : vw_C} {fs : List Value} {r : Option FieldType} {rm : Room} {u : S} {av : List Value} {post : Int32 → S → Prop} (F : CallFix p m c cc nL s args lw_all own) (hM : CM l y b L r rm D wf tys a0 H.size u av post) (cw : CallW R s args own C index y b L r (ws_ y b L r) rm 0 0 n)
    (hc : vwCl[ci]? = some q) (hC : q.1 = C) (he : (wf u)[0]? = some (a0, .inr (ci, fs))) (hK0 : va_K D vwCl tys0 s) (isT : List Nat) (hT : isT.filterMap (fun i => tys0[i]?) = tys) (hP : va_P D vwCl ws H) (hD : va_D A ws) (hS : va_S A s.heap H locs) (hA : ∀ q : Nat, s.heap.size ≤ q → A q)
    (isC isR : List Nat) (hCs : isC.filterMap (fun i => ws[i]?) = wf u) (hCm : isC.map (fun i => ws[i]?) = (wf u).map some) (hRm : isR.map (fun i => ws[i]?) = wr.map some) (hnC : va_nd isC = true) (hnR : va_nd isR = true) (hdis : ∀ i ∈ isR, i ∉ isC)
    (hn : av.length = n) (hsz : ls.size = nL) (hst : st = av.reverse ++ .ref a0 :: rest) (hW : (rest.map fun v => v.category).sum ≤ 8) (hf : cells ≤ R.cells ∧ slots ≤ R.slots) (hdg : decode cc pc = .ok (.invokevirtual index, 3))
    (kk : ∀ (r : Int32) (u1 : S) (H1 : Heap) (locs1 : List Loc), post r u1 → va_P D vwCl (wr ++ wf u1) H1 → va_D A (wr ++ wf u1) → va_S A s.heap H1 locs1 → W p l e R s m args below meth c H1 locs1 cells slots Q (F0 m (pc + 3) ls (.int r :: rest))) : W p l e R s m args below meth c H locs cells slots Q (F0 m pc ls st) := by
  subst hst
  subst hC
  have hPc := hP.sub (ws' := wf u) isC hCs
  have hDc := hD.sub (ws' := wf u) isC hnC hCm
  have hKc := hK0.sub (tys' := tys) isT hT
  have hFc := va_free (wc := wf u) hD hS hA isC hCm
  refine va_calli (va_runV (As := av) (rest := rest) F hM cw ⟨fun a U g mk q => by obtain ⟨q0, q1, qP, qK, qD⟩ := q; exact ⟨q0, q1, qP, va_K.moved (u := U) (U := U.calling g mk a) (Vm.Alike.refl U.vm) qK, qD⟩, va_recv hKc hPc (ci := ci) (q0 := 0) hc he, fun U hU hW => ⟨rfl, by rw [hU], by rw [hU]; exact hPc, va_K.moved hW.alike hKc, hDc.weaken (fun _ _ _ _ => trivial)⟩⟩ rfl hn hsz rfl (lv_room hW) hdg hf) hS (fun q _ h => hFc q h) hFc (fun r u1 t H1 locs1 ht hvm hw hB hz1 hk1 hS1 => ?_)
  obtain ⟨hP1, hK1, hD1⟩ := hB
  rw [ht] at hP1
  obtain ⟨hP2, hD2⟩ := va_join (wr := wr) (w1 := wf u1) hP hD isC isR hCm hRm hnR hdis hk1 hFc hP1 hD1
  exact kk r u1 H1 locs1 hw hP2 hD2 hS1
theorem cmv_call {S : Type} {D : va_G} {wf : S → va_W} {tys tys0 : List (ClassId × FieldType)} {ws wr : va_W} {A : Nat → Prop} {y : MethodName} {b : ByteArray} {L n index a0 ci : Nat} {C : String} {q : vw_C} {fs : List Value} {r : Option FieldType} {rm : Room} {u : S} {av : List Value} {post : S → Prop} (F : CallFix p m c cc nL s args lw_all own) (hM : CMv l y b L r rm D wf tys a0 H.size u av post) (cw : CallW R s args own C index y b L r (ws_ y b L r) rm 0 0 n)
    (hc : vwCl[ci]? = some q) (hC : q.1 = C) (he : (wf u)[0]? = some (a0, .inr (ci, fs))) (hK0 : va_K D vwCl tys0 s) (isT : List Nat) (hT : isT.filterMap (fun i => tys0[i]?) = tys) (hP : va_P D vwCl ws H) (hD : va_D A ws) (hS : va_S A s.heap H locs) (hA : ∀ q : Nat, s.heap.size ≤ q → A q)
    (isC isR : List Nat) (hCs : isC.filterMap (fun i => ws[i]?) = wf u) (hCm : isC.map (fun i => ws[i]?) = (wf u).map some) (hRm : isR.map (fun i => ws[i]?) = wr.map some) (hnC : va_nd isC = true) (hnR : va_nd isR = true) (hdis : ∀ i ∈ isR, i ∉ isC)
    (hn : av.length = n) (hsz : ls.size = nL) (hst : st = av.reverse ++ .ref a0 :: rest) (hW : (rest.map fun v => v.category).sum ≤ 8) (hf : cells ≤ R.cells ∧ slots ≤ R.slots) (hdg : decode cc pc = .ok (.invokevirtual index, 3))
    (kk : ∀ (u1 : S) (H1 : Heap) (locs1 : List Loc), post u1 → va_P D vwCl (wr ++ wf u1) H1 → va_D A (wr ++ wf u1) → va_S A s.heap H1 locs1 → W p l e R s m args below meth c H1 locs1 cells slots Q (F0 m (pc + 3) ls rest)) : W p l e R s m args below meth c H locs cells slots Q (F0 m pc ls st) := by
  subst hst
  subst hC
  have hPc := hP.sub (ws' := wf u) isC hCs
  have hDc := hD.sub (ws' := wf u) isC hnC hCm
  have hKc := hK0.sub (tys' := tys) isT hT
  have hFc := va_free (wc := wf u) hD hS hA isC hCm
  refine va_callv (va_runV (As := av) (rest := rest) F hM cw ⟨fun a U g mk q => by obtain ⟨q0, q1, qP, qK, qD⟩ := q; exact ⟨q0, q1, qP, va_K.moved (u := U) (U := U.calling g mk a) (Vm.Alike.refl U.vm) qK, qD⟩, va_recv hKc hPc (ci := ci) (q0 := 0) hc he, fun U hU hW => ⟨rfl, by rw [hU], by rw [hU]; exact hPc, va_K.moved hW.alike hKc, hDc.weaken (fun _ _ _ _ => trivial)⟩⟩ rfl hn hsz rfl (lv_room hW) hdg hf) hS (fun q _ h => hFc q h) hFc (fun u1 t H1 locs1 ht hvm hw hB hz1 hk1 hS1 => ?_)
  obtain ⟨hP1, hK1, hD1⟩ := hB
  rw [ht] at hP1
  obtain ⟨hP2, hD2⟩ := va_join (wr := wr) (w1 := wf u1) hP hD isC isR hCm hRm hnR hdis hk1 hFc hP1 hD1
  exact kk u1 H1 locs1 hw hP2 hD2 hS1
/-- the same where the object's world is all there is -/
theorem cm_self {S : Type} {D : va_G} {wf : S → va_W} {tys : List (ClassId × FieldType)} {A : Nat → Prop} {y : MethodName} {b : ByteArray} {L n index a0 ci : Nat} {C : String} {q : vw_C} {fs : List Value} {r : Option FieldType} {rm : Room} {u : S} {av : List Value} {post : Int32 → S → Prop} (F : CallFix p m c cc nL s args lw_all own) (hM : CM l y b L r rm D wf tys a0 H.size u av post) (cw : CallW R s args own C index y b L r (ws_ y b L r) rm 0 0 n)
    (hc : vwCl[ci]? = some q) (hC : q.1 = C) (he : (wf u)[0]? = some (a0, .inr (ci, fs))) (hK : va_K D vwCl tys s) (hP : va_P D vwCl (wf u) H) (hD : va_D A (wf u)) (hS : va_S A s.heap H locs) (hA : ∀ q : Nat, s.heap.size ≤ q → A q)
    (isT isC : List Nat) (hT : isT.filterMap (fun i => tys[i]?) = tys) (hCs : isC.filterMap (fun i => (wf u)[i]?) = wf u) (hCm : isC.map (fun i => (wf u)[i]?) = (wf u).map some) (hnC : va_nd isC = true)
    (hn : av.length = n) (hsz : ls.size = nL) (hst : st = av.reverse ++ .ref a0 :: rest) (hW : (rest.map fun v => v.category).sum ≤ 8) (hf : cells ≤ R.cells ∧ slots ≤ R.slots) (hdg : decode cc pc = .ok (.invokevirtual index, 3))
    (kk : ∀ (r : Int32) (u1 : S) (H1 : Heap) (locs1 : List Loc), post r u1 → va_P D vwCl (wf u1) H1 → va_D A (wf u1) → va_S A s.heap H1 locs1 → W p l e R s m args below meth c H1 locs1 cells slots Q (F0 m (pc + 3) ls (.int r :: rest))) : W p l e R s m args below meth c H locs cells slots Q (F0 m pc ls st) :=
  cm_call (wr := []) F hM cw hc hC he hK isT hT hP hD hS hA isC [] hCs hCm rfl hnC rfl (fun i h => by cases h) hn hsz hst hW hf hdg kk
theorem cmv_self {S : Type} {D : va_G} {wf : S → va_W} {tys : List (ClassId × FieldType)} {A : Nat → Prop} {y : MethodName} {b : ByteArray} {L n index a0 ci : Nat} {C : String} {q : vw_C} {fs : List Value} {r : Option FieldType} {rm : Room} {u : S} {av : List Value} {post : S → Prop} (F : CallFix p m c cc nL s args lw_all own) (hM : CMv l y b L r rm D wf tys a0 H.size u av post) (cw : CallW R s args own C index y b L r (ws_ y b L r) rm 0 0 n)
    (hc : vwCl[ci]? = some q) (hC : q.1 = C) (he : (wf u)[0]? = some (a0, .inr (ci, fs))) (hK : va_K D vwCl tys s) (hP : va_P D vwCl (wf u) H) (hD : va_D A (wf u)) (hS : va_S A s.heap H locs) (hA : ∀ q : Nat, s.heap.size ≤ q → A q)
    (isT isC : List Nat) (hT : isT.filterMap (fun i => tys[i]?) = tys) (hCs : isC.filterMap (fun i => (wf u)[i]?) = wf u) (hCm : isC.map (fun i => (wf u)[i]?) = (wf u).map some) (hnC : va_nd isC = true)
    (hn : av.length = n) (hsz : ls.size = nL) (hst : st = av.reverse ++ .ref a0 :: rest) (hW : (rest.map fun v => v.category).sum ≤ 8) (hf : cells ≤ R.cells ∧ slots ≤ R.slots) (hdg : decode cc pc = .ok (.invokevirtual index, 3))
    (kk : ∀ (u1 : S) (H1 : Heap) (locs1 : List Loc), post u1 → va_P D vwCl (wf u1) H1 → va_D A (wf u1) → va_S A s.heap H1 locs1 → W p l e R s m args below meth c H1 locs1 cells slots Q (F0 m (pc + 3) ls rest)) : W p l e R s m args below meth c H locs cells slots Q (F0 m pc ls st) :=
  cmv_call (wr := []) F hM cw hc hC he hK isT hT hP hD hS hA isC [] hCs hCm rfl hnC rfl (fun i h => by cases h) hn hsz hst hW hf hdg kk
end
end
section
/-! SPECS: what the methods answer, over the worths w and the amounts am -/
set_option maxRecDepth 100000
theorem fin32 {P : Nat → Prop} (h : ∀ j : Fin 32, P j.val) {j : Nat} (hj : j < 32) : P j := h ⟨j, hj⟩
/-- the share of coalition k: its first j players' amounts -/
def shF (am : Nat → Int32) (k : Nat) : Nat → Int32
  | 0 => 0
  | j + 1 => if bt k j = 1 then shF am k j + am j else shF am k j
theorem shF_1 {am : Nat → Int32} {k j : Nat} (h : bt k j = 1) : shF am k j + am j = shF am k (j + 1) := by
  show _ = if bt k j = 1 then _ else _
  rw [if_pos h]
theorem shF_0 {am : Nat → Int32} {k j : Nat} (h : ¬ bt k j = 1) : shF am k j = shF am k (j + 1) := by
  show _ = if bt k j = 1 then _ else _
  rw [if_neg h]
theorem bt_n0 {k j : Nat} (h : ¬ bt k j = 0) : bt k j = 1 := by
  have := bt_01 k j
  omega
theorem bt_n1 {k j : Nat} (h : bt k j = 0) : ¬ bt k j = 1 := by omega
/-- the greatest complaint of the coalitions 1 .. n + 1 -/
def cmF (w am : Nat → Int32) : Nat → Int32
  | 0 => w 1 - shF am 1 5
  | n + 1 => if cmF w am n < w (n + 2) - shF am (n + 2) 5 then w (n + 2) - shF am (n + 2) 5 else cmF w am n
theorem cmF_1 {w am : Nat → Int32} {s : Nat} (h : 2 ≤ s) (hc : cmF w am (s - 2) < w s - shF am s 5) : w s - shF am s 5 = cmF w am (s - 1) := by
  obtain ⟨n, rfl⟩ : ∃ n, s = n + 2 := ⟨s - 2, by omega⟩
  exact (if_pos hc).symm
theorem cmF_0 {w am : Nat → Int32} {s : Nat} (h : 2 ≤ s) (hc : ¬ cmF w am (s - 2) < w s - shF am s 5) : cmF w am (s - 2) = cmF w am (s - 1) := by
  obtain ⟨n, rfl⟩ : ∃ n, s = n + 2 := ⟨s - 2, by omega⟩
  exact (if_neg hc).symm
def icF (w am : Nat → Int32) : Int32 := if w 31 = shF am 31 5 ∧ cmF w am 29 ≤ 0 then nI 1 else nI 0
/-- worth, pay -/
def worthF (k v : Int32) (w : Nat → Int32) : Int32 × (Nat → Int32) := match st32 k with
  | none => (-1, w)
  | some j => if v < -1000 ∨ ¬ v ≤ 1000 then (-2, w) else (w j, upd w j v)
def payF (k v : Int32) (am : Nat → Int32) : Int32 × (Nat → Int32) := match pl5 k with
  | none => (-3, am)
  | some j => if v < -10000 ∨ ¬ v ≤ 10000 then (-2, am) else (nI 0, upd am j v)
/-- weigh -/
def wgS (wt : Int32) (s : Nat) : Nat → Int32
  | 0 => 0
  | j + 1 => if bt s j = 1 then wgS wt s j + ((wt >>> (nI (4 * j) &&& 31)) &&& nI 15) else wgS wt s j
theorem wgS_1 {wt : Int32} {s j : Nat} (h : bt s j = 1) : wgS wt s j + ((wt >>> (nI (4 * j) &&& 31)) &&& nI 15) = wgS wt s (j + 1) := by
  show _ = if bt s j = 1 then _ else _
  rw [if_pos h]
theorem wgS_0 {wt : Int32} {s j : Nat} (h : ¬ bt s j = 1) : wgS wt s j = wgS wt s (j + 1) := by
  show _ = if bt s j = 1 then _ else _
  rw [if_neg h]
def wgV (wt q : Int32) (s : Nat) : Int32 := if wgS wt s 5 < q then 0 else 1
def wgN (wt q : Int32) : Nat → Int32
  | 0 => 0
  | s + 1 => wgN wt q s + wgV wt q s
def wgW (wt q : Int32) (w : Nat → Int32) (a b : Nat) : Nat → Int32 := fun j => if a ≤ j ∧ j < b then wgV wt q j else w j
theorem wgV_0 {wt q : Int32} {s : Nat} (h : wgS wt s 5 < q) : (0 : Int32) = wgV wt q s := by
  unfold wgV
  rw [if_pos h]
theorem wgV_1 {wt q : Int32} {s : Nat} (h : ¬ wgS wt s 5 < q) : (1 : Int32) = wgV wt q s := by
  unfold wgV
  rw [if_neg h]
theorem wgW_up {wt q : Int32} {w : Nat → Int32} {a s : Nat} (h : a ≤ s) : upd (wgW wt q w a s) s (wgV wt q s) = wgW wt q w a (s + 1) := by
  funext j
  unfold upd wgW
  by_cases hj : j = s
  · subst hj
    rw [if_pos rfl, if_pos ⟨h, Nat.lt_succ_self j⟩]
  · rw [if_neg hj]
    by_cases h2 : a ≤ j ∧ j < s
    · rw [if_pos h2, if_pos ⟨h2.1, by omega⟩]
    · rw [if_neg h2, if_neg (by omega)]
theorem wgW_at {wt q : Int32} {w : Nat → Int32} {a b j : Nat} (h : a ≤ j) (h2 : j < b) : wgW wt q w a b j = wgV wt q j := if_pos ⟨h, h2⟩
theorem wgW_nil {wt q : Int32} {w : Nat → Int32} {a : Nat} : wgW wt q w a a = w := by
  funext j
  exact if_neg (by omega)
def weighF (wt q : Int32) (w : Nat → Int32) : Int32 × (Nat → Int32) := if q < nI 1 ∨ ¬ q ≤ nI 75 then (-2, w) else (wgN wt q 32, wgW wt q w 0 32)
theorem bt_z (j : Nat) : bt 0 j = 0 := by
  unfold bt
  rw [Nat.zero_shiftRight]
  rfl
theorem wgS_z (wt : Int32) : ∀ j, wgS wt 0 j = 0
  | 0 => rfl
  | j + 1 => by rw [← wgS_0 (by rw [bt_z]; decide), wgS_z wt j]
theorem wgV_z {wt q : Int32} (hq : ¬ q < nI 1) : wgV wt q 0 = 0 := by
  have h : wgS wt 0 5 < q := by
    rw [wgS_z]
    rw [Int32.lt_iff_toInt_lt, show (nI 1).toInt = 1 from by decide] at hq
    rw [Int32.lt_iff_toInt_lt, show (0 : Int32).toInt = 0 from by decide]
    omega
  exact (wgV_0 h).symm
theorem wgN_z {wt q : Int32} (hq : ¬ q < nI 1) : wgN wt q 1 = 0 := by
  show (0 : Int32) + wgV wt q 0 = 0
  rw [wgV_z hq]
  decide
theorem wgW_z {wt q : Int32} {w : Nat → Int32} (hq : ¬ q < nI 1) (h0 : w 0 = 0) : wgW wt q w 1 32 = wgW wt q w 0 32 := by
  funext j
  unfold wgW
  by_cases hj : j = 0
  · subst hj
    rw [if_neg (by omega), if_pos (by omega), wgV_z hq, h0]
  · by_cases h2 : j < 32
    · rw [if_pos (by omega), if_pos (by omega)]
    · rw [if_neg (by omega), if_neg (by omega)]
/-- exchange -/
def exN (s a b : Nat) : Nat := if bt s a = bt s b then s else s ^^^ 1 <<< a ^^^ 1 <<< b
theorem exN_all : ∀ s : Fin 32, ∀ a : Fin 5, ∀ b : Fin 5, exN s.val a.val b.val < 32 ∧ exN (exN s.val a.val b.val) a.val b.val = s.val := by decide +kernel
theorem exN_lt {s a b : Nat} (hs : s < 32) (ha : a < 5) (hb : b < 5) : exN s a b < 32 := (exN_all ⟨s, hs⟩ ⟨a, ha⟩ ⟨b, hb⟩).1
theorem exN_inv {s a b : Nat} (hs : s < 32) (ha : a < 5) (hb : b < 5) : exN (exN s a b) a b = s := (exN_all ⟨s, hs⟩ ⟨a, ha⟩ ⟨b, hb⟩).2
def exW (a b : Nat) (w : Nat → Int32) (n : Nat) : Nat → Int32 := fun j => if j < n then w (exN j a b) else w j
def exV (a b : Nat) (w : Nat → Int32) (n : Nat) : Nat → Int32 := fun j => if j < 32 ∧ exN j a b < n then w (exN j a b) else w j
theorem exW_up {a b n : Nat} {w : Nat → Int32} : upd (exW a b w n) n (w (exN n a b)) = exW a b w (n + 1) := by
  funext j
  unfold upd exW
  by_cases hj : j = n
  · subst hj
    rw [if_pos rfl, if_pos (Nat.lt_succ_self j)]
  · rw [if_neg hj]
    by_cases h : j < n
    · rw [if_pos h, if_pos (by omega)]
    · rw [if_neg h, if_neg (by omega)]
theorem exV_up {a b n : Nat} {w : Nat → Int32} (hn : n < 32) (ha : a < 5) (hb : b < 5) : upd (exV a b w n) (exN n a b) (w n) = exV a b w (n + 1) := by
  funext j
  unfold upd exV
  by_cases hj : j = exN n a b
  · subst hj
    rw [if_pos rfl, exN_inv hn ha hb, if_pos ⟨exN_lt hn ha hb, Nat.lt_succ_self n⟩]
  · rw [if_neg hj]
    by_cases h : j < 32 ∧ exN j a b < n
    · rw [if_pos h, if_pos ⟨h.1, by omega⟩]
    · rw [if_neg h, if_neg]
      intro q
      have h1 : ¬ exN j a b = n := fun e => hj (by rw [← e, exN_inv q.1 ha hb])
      exact h ⟨q.1, by omega⟩
theorem exV_all {a b : Nat} {w : Nat → Int32} (ha : a < 5) (hb : b < 5) : exV a b w 32 = exW a b w 32 := by
  funext j
  unfold exV exW
  by_cases h : j < 32
  · rw [if_pos h, if_pos ⟨h, exN_lt h ha hb⟩]
  · rw [if_neg h, if_neg (fun q => h q.1)]
def exchF (a b : Int32) (w : Nat → Int32) : Int32 × (Nat → Int32) := match pl5 a, pl5 b with
  | some i, some j => (nI 0, exW i j w 32)
  | _, _ => (-3, w)
theorem exM_00 : ∀ s : Fin 32, ∀ a : Fin 5, ∀ b : Fin 5, bt s.val a.val = 0 → bt s.val b.val = 0 → (nI s.val &&& (nI (1 <<< a.val) ^^^ ((-1) : Int32))) &&& (nI (1 <<< b.val) ^^^ ((-1) : Int32)) = nI (exN s.val a.val b.val) := by decide +kernel
theorem exM_10 : ∀ s : Fin 32, ∀ a : Fin 5, ∀ b : Fin 5, ¬ bt s.val a.val = 0 → bt s.val b.val = 0 → ((nI s.val &&& (nI (1 <<< a.val) ^^^ ((-1) : Int32))) &&& (nI (1 <<< b.val) ^^^ ((-1) : Int32))) ||| nI (1 <<< b.val) = nI (exN s.val a.val b.val) := by decide +kernel
theorem exM_01 : ∀ s : Fin 32, ∀ a : Fin 5, ∀ b : Fin 5, bt s.val a.val = 0 → ¬ bt s.val b.val = 0 → ((nI s.val &&& (nI (1 <<< a.val) ^^^ ((-1) : Int32))) &&& (nI (1 <<< b.val) ^^^ ((-1) : Int32))) ||| nI (1 <<< a.val) = nI (exN s.val a.val b.val) := by decide +kernel
theorem exM_11 : ∀ s : Fin 32, ∀ a : Fin 5, ∀ b : Fin 5, ¬ bt s.val a.val = 0 → ¬ bt s.val b.val = 0 → (((nI s.val &&& (nI (1 <<< a.val) ^^^ ((-1) : Int32))) &&& (nI (1 <<< b.val) ^^^ ((-1) : Int32))) ||| nI (1 <<< b.val)) ||| nI (1 <<< a.val) = nI (exN s.val a.val b.val) := by decide +kernel
/-- own parts -/
def mob (p : Nat) (f : Nat → Int32) (s : Nat) : Int32 := if bt s p = 1 then f s - f (s ^^^ 1 <<< p) else f s
def mobs (w : Nat → Int32) : Nat → Nat → Int32
  | 0 => w
  | p + 1 => mob p (mobs w p)
theorem mob_low : ∀ s : Fin 32, ∀ p : Fin 5, bt s.val p.val = 1 → s.val ^^^ 1 <<< p.val < s.val ∧ ¬ bt (s.val ^^^ 1 <<< p.val) p.val = 1 := by decide +kernel
/-- a step of the inner loop of findParts -/
theorem mob_step1 {w pt : Nat → Int32} {p s : Nat} (hp : p < 5) (hs : s < 32) (h : ∀ j, j < 32 → pt j = if j < s then mobs w (p + 1) j else mobs w p j) (hb : bt s p = 1) : ∀ j, j < 32 → upd pt s (pt s - pt (s ^^^ 1 <<< p)) j = if j < s + 1 then mobs w (p + 1) j else mobs w p j := by
  obtain ⟨h1, h2⟩ := mob_low ⟨s, hs⟩ ⟨p, hp⟩ hb
  have h1 : s ^^^ 1 <<< p < s := h1
  have h2 : ¬ bt (s ^^^ 1 <<< p) p = 1 := h2
  have e1 : pt s = mobs w p s := by rw [h s hs, if_neg (Nat.lt_irrefl s)]
  have e2 : pt (s ^^^ 1 <<< p) = mobs w p (s ^^^ 1 <<< p) := by
    rw [h _ (by omega), if_pos h1]
    show (if bt (s ^^^ 1 <<< p) p = 1 then _ else _) = _
    rw [if_neg h2]
  intro j hj
  unfold upd
  by_cases hjs : j = s
  · subst hjs
    rw [if_pos rfl, if_pos (Nat.lt_succ_self j), e1, e2]
    show _ = if bt j p = 1 then _ else _
    rw [if_pos hb]
  · rw [if_neg hjs, h j hj]
    by_cases q : j < s
    · rw [if_pos q, if_pos (by omega)]
    · rw [if_neg q, if_neg (by omega)]
theorem mob_step0 {w pt : Nat → Int32} {p s : Nat} (h : ∀ j, j < 32 → pt j = if j < s then mobs w (p + 1) j else mobs w p j) (hb : ¬ bt s p = 1) : ∀ j, j < 32 → pt j = if j < s + 1 then mobs w (p + 1) j else mobs w p j := by
  intro j hj
  rw [h j hj]
  by_cases hjs : j = s
  · subst hjs
    rw [if_neg (Nat.lt_irrefl j), if_pos (Nat.lt_succ_self j)]
    show _ = if bt j p = 1 then _ else _
    rw [if_neg hb]
  · by_cases q : j < s
    · rw [if_pos q, if_pos (by omega)]
    · rw [if_neg q, if_neg (by omega)]
/-- the number of players -/
def szN (s : Nat) : Nat → Nat
  | 0 => 0
  | j + 1 => szN s j + bt s j
theorem szN_le (s : Nat) : ∀ j, szN s j ≤ j
  | 0 => Nat.le_refl 0
  | j + 1 => by
    have h1 := szN_le s j
    have h2 := bt_lt s j
    show szN s j + bt s j ≤ j + 1
    omega
/-- orderValue, swingValue: the class' own sums -/
def ovX (w : Nat → Int32) (pl : Nat) : Nat → Int32
  | 0 => 0
  | s + 1 => if bt s pl = 1 ∧ 0 < szN s 5 then ovX w pl s + mobs w 5 s * nI (120 / szN s 5) else ovX w pl s
theorem ovX_1 {w : Nat → Int32} {pl s : Nat} (h : bt s pl = 1) (h2 : 0 < szN s 5) : ovX w pl s + mobs w 5 s * nI (120 / szN s 5) = ovX w pl (s + 1) := by
  show _ = if bt s pl = 1 ∧ 0 < szN s 5 then _ else _
  rw [if_pos ⟨h, h2⟩]
theorem ovX_0 {w : Nat → Int32} {pl s : Nat} (h : ¬ (bt s pl = 1 ∧ 0 < szN s 5)) : ovX w pl s = ovX w pl (s + 1) := by
  show _ = if bt s pl = 1 ∧ 0 < szN s 5 then _ else _
  rw [if_neg h]
theorem ovX_z {w : Nat → Int32} {pl : Nat} : (0 : Int32) = ovX w pl 1 := by
  rw [← ovX_0 (by rw [bt_z]; omega)]
  rfl
def svX (w : Nat → Int32) (pl : Nat) : Nat → Int32
  | 0 => 0
  | s + 1 => if bt s pl = 1 then svX w pl s + mobs w 5 s * nI (1 <<< (5 - szN s 5)) else svX w pl s
theorem svX_1 {w : Nat → Int32} {pl s : Nat} (h : bt s pl = 1) : svX w pl s + mobs w 5 s * nI (1 <<< (5 - szN s 5)) = svX w pl (s + 1) := by
  show _ = if bt s pl = 1 then _ else _
  rw [if_pos h]
theorem svX_0 {w : Nat → Int32} {pl s : Nat} (h : ¬ bt s pl = 1) : svX w pl s = svX w pl (s + 1) := by
  show _ = if bt s pl = 1 then _ else _
  rw [if_neg h]
theorem svX_z {w : Nat → Int32} {pl : Nat} : (0 : Int32) = svX w pl 1 := by
  rw [← svX_0 (by rw [bt_z]; omega)]
  rfl
/-- the model's: the player that comes next, the coalition that a player finds -/
def inP (come : Nat) : Nat → Nat → Nat → Nat
  | 0, _, p => p
  | n + 1, skip, p => if p < 5 ∧ (¬ bt come p = 0 ∨ 0 < skip) then inP come n (if bt come p = 0 then skip - 1 else skip) (p + 1) else p
def mgC (pl : Nat) : Nat → Nat → Nat → Nat → Nat
  | 0, _, _, _ => 32
  | n + 1, place, rest, come => if place < 5 then (if inP come 6 (rest % (5 - place)) 0 = pl then come else mgC pl n (place + 1) (rest / (5 - place)) (come ||| 1 <<< inP come 6 (rest % (5 - place)) 0)) else 32
def mgR (w : Nat → Int32) (pl C : Nat) : Int32 := w (C ||| 1 <<< pl) - w C
theorem inP_all : ∀ come : Fin 32, ∀ skip : Fin 5, skip.val + szN come.val 5 < 5 → inP come.val 6 skip.val 0 < 5 ∧ szN (come.val ||| 1 <<< inP come.val 6 skip.val 0) 5 = szN come.val 5 + 1 := by decide +kernel
def ovM (w : Nat → Int32) (pl : Nat) : Nat → Int32
  | 0 => 0
  | k + 1 => ovM w pl k + mgR w pl (mgC pl 6 0 k 0)
def svM (w : Nat → Int32) (pl : Nat) : Nat → Int32
  | 0 => 0
  | s + 1 => if bt s pl = 0 then svM w pl s + (w (s ||| 1 <<< pl) - w s) else svM w pl s
theorem svM_1 {w : Nat → Int32} {pl s : Nat} (h : bt s pl = 0) : svM w pl s + (w (s ||| 1 <<< pl) - w s) = svM w pl (s + 1) := by
  show _ = if bt s pl = 0 then _ else _
  rw [if_pos h]
theorem svM_0 {w : Nat → Int32} {pl s : Nat} (h : ¬ bt s pl = 0) : svM w pl s = svM w pl (s + 1) := by
  show _ = if bt s pl = 0 then _ else _
  rw [if_neg h]
/-- the model's own parts: rest of s after the parts of 1 .. n -/
def owR (pt : Nat → Int32) (v : Int32) (s : Nat) : Nat → Int32
  | 0 => v
  | n + 1 => if (n + 1) &&& s = n + 1 then owR pt v s n - pt (n + 1) else owR pt v s n
theorem owR_1 {pt : Nat → Int32} {v : Int32} {s t : Nat} (ht : 1 ≤ t) (h : t &&& s = t) : owR pt v s (t - 1) - pt t = owR pt v s t := by
  obtain ⟨n, rfl⟩ : ∃ n, t = n + 1 := ⟨t - 1, by omega⟩
  show _ = if (n + 1) &&& s = n + 1 then _ else _
  rw [if_pos h]
  rfl
theorem owR_0 {pt : Nat → Int32} {v : Int32} {s t : Nat} (ht : 1 ≤ t) (h : ¬ t &&& s = t) : owR pt v s (t - 1) = owR pt v s t := by
  obtain ⟨n, rfl⟩ : ∃ n, t = n + 1 := ⟨t - 1, by omega⟩
  show _ = if (n + 1) &&& s = n + 1 then _ else _
  rw [if_neg h]
  rfl
theorem owR_congr {f h : Nat → Int32} {v : Int32} {s : Nat} : ∀ n, (∀ j, 1 ≤ j → j ≤ n → f j = h j) → owR f v s n = owR h v s n
  | 0, _ => rfl
  | n + 1, q => by
    show (if (n + 1) &&& s = n + 1 then owR f v s n - f (n + 1) else owR f v s n) = if (n + 1) &&& s = n + 1 then owR h v s n - h (n + 1) else owR h v s n
    rw [owR_congr n (fun j h1 h2 => q j h1 (by omega)), q (n + 1) (by omega) (Nat.le_refl _)]
/-- convex, superadditive, alike: what a broken condition is -/
def pgB (w : Nat → Int32) (a b s : Nat) : Prop := s &&& (1 <<< a ||| 1 <<< b) = 0 ∧ w (s ||| 1 <<< a ||| 1 <<< b) + w s < w (s ||| 1 <<< a) + w (s ||| 1 <<< b)
def cxB (w : Nat → Int32) (k : Nat) : Prop := w (k / 32 ||| k % 32) + w (k / 32 &&& k % 32) < w (k / 32) + w (k % 32)
def saB (w : Nat → Int32) (k : Nat) : Prop := k / 32 &&& k % 32 = 0 ∧ w (k / 32 ||| k % 32) < w (k / 32) + w (k % 32)
def sxB (w : Nat → Int32) (s t : Nat) : Prop := 0 < t ∧ t < s ∧ t &&& s = t ∧ w s < w t + w (s ^^^ t)
def alB (w : Nat → Int32) (a b s : Nat) : Prop := bt s a = 0 ∧ bt s b = 0 ∧ ¬ w (s ||| 1 <<< a) = w (s ||| 1 <<< b)
def yesNo (r : Int32) (bad : Prop) : Prop := (r = nI 0 ∧ bad) ∨ (r = nI 1 ∧ ¬ bad)
def cxX (w : Nat → Int32) : Prop := ∃ a b s, a < b ∧ b < 5 ∧ s < 32 ∧ pgB w a b s
def cxM (w : Nat → Int32) : Prop := ∃ k, k < 1024 ∧ cxB w k
def saX (w : Nat → Int32) : Prop := ∃ s t, s < 32 ∧ sxB w s t
def saM (w : Nat → Int32) : Prop := ∃ k, k < 1024 ∧ saB w k
def alP (w : Nat → Int32) (a b r : Int32) : Prop := match pl5 a, pl5 b with
  | some i, some j => yesNo r (∃ s, s < 32 ∧ alB w i j s)
  | _, _ => r = nI 0
/-- bestSplit: a table of best splits -/
def rst (s : Nat) : Nat := s &&& (s - 1)
def bsT (w sp : Nat → Int32) (s : Nat) : Prop := w s ≤ sp s ∧ (∀ t, 0 < t → t &&& rst s = t → w (s ^^^ t) + sp t ≤ sp s) ∧ (sp s = w s ∨ ∃ t, 0 < t ∧ t &&& rst s = t ∧ sp s = w (s ^^^ t) + sp t)
/-- the model's: the room's coalition, what the rooms have together, the best of them -/
def rsN (rooms : Nat) : Nat → Nat
  | 0 => rooms
  | j + 1 => rsN rooms j / 5
def mkN (rooms room : Nat) : Nat → Nat
  | 0 => 0
  | j + 1 => if rsN rooms j % 5 = room then mkN rooms room j ||| 1 <<< j else mkN rooms room j
theorem mkN_1 {rooms room j : Nat} (h : rsN rooms j % 5 = room) : mkN rooms room j ||| 1 <<< j = mkN rooms room (j + 1) := by
  show _ = if rsN rooms j % 5 = room then _ else _
  rw [if_pos h]
theorem mkN_0 {rooms room j : Nat} (h : ¬ rsN rooms j % 5 = room) : mkN rooms room j = mkN rooms room (j + 1) := by
  show _ = if rsN rooms j % 5 = room then _ else _
  rw [if_neg h]
theorem mkN_lt (rooms room : Nat) : ∀ j, j ≤ 5 → mkN rooms room j < 32
  | 0, _ => (by decide : (0 : Nat) < 32)
  | j + 1, h => by
    by_cases q : rsN rooms j % 5 = room
    · rw [← mkN_1 q]
      exact or32 (mkN_lt rooms room j (by omega)) (shl32 (by omega))
    · rw [← mkN_0 q]
      exact mkN_lt rooms room j (by omega)
theorem rsN_le (rooms : Nat) : ∀ j, rsN rooms j ≤ rooms
  | 0 => Nat.le_refl _
  | j + 1 => Nat.le_trans (Nat.div_le_self _ _) (rsN_le rooms j)
def swS (w : Nat → Int32) (rooms : Nat) : Nat → Int32
  | 0 => 0
  | r + 1 => swS w rooms r + w (mkN rooms r 5)
def bmF (w : Nat → Int32) : Nat → Int32
  | 0 => swS w 0 5
  | n + 1 => if bmF w n < swS w (n + 1) 5 then swS w (n + 1) 5 else bmF w n
theorem bmF_1 {w : Nat → Int32} {k : Nat} (h : 1 ≤ k) (hc : bmF w (k - 1) < swS w k 5) : swS w k 5 = bmF w k := by
  obtain ⟨n, rfl⟩ : ∃ n, k = n + 1 := ⟨k - 1, by omega⟩
  exact (if_pos hc).symm
theorem bmF_0 {w : Nat → Int32} {k : Nat} (h : 1 ≤ k) (hc : ¬ bmF w (k - 1) < swS w k 5) : bmF w (k - 1) = bmF w k := by
  obtain ⟨n, rfl⟩ : ∃ n, k = n + 1 := ⟨k - 1, by omega⟩
  exact (if_neg hc).symm
end
section
/-! rooms of the levels; the small tests' answers -/
set_option maxRecDepth 100000
abbrev cvr0 : Room := { frames := 0, cells := 0, slots := 0, locals := 0 }
abbrev cvr1 : Room := { frames := 1, cells := 0, slots := 0, locals := 40 }
abbrev cvr2 : Room := { frames := 2, cells := 0, slots := 0, locals := 80 }
def bad5 (x r : Int32) : Prop := (r = nI 1 ∧ pl5 x = none) ∨ ∃ k, r = nI 0 ∧ pl5 x = some k
def bad32 (x r : Int32) : Prop := (r = nI 1 ∧ st32 x = none) ∨ ∃ k, r = nI 0 ∧ st32 x = some k
theorem pl5_lt {x : Int32} (h : x < 0) : pl5 x = none := by
  unfold pl5
  rw [if_neg]
  rintro ⟨h1, -⟩
  rw [Int32.le_iff_toInt_le] at h1
  rw [Int32.lt_iff_toInt_lt] at h
  omega
theorem pl5_ge {x : Int32} (h : ¬ x < nI 5) : pl5 x = none := by
  unfold pl5
  rw [if_neg]
  rintro ⟨-, h1⟩
  exact h h1
theorem pl5_le {x : Int32} (h : nI 5 ≤ x) : pl5 x = none := pl5_ge (by
  rw [Int32.le_iff_toInt_le] at h
  rw [Int32.lt_iff_toInt_lt]
  omega)
theorem pl5_in {x : Int32} (h : ¬ x < 0) (h2 : x < nI 5) : ∃ k, pl5 x = some k := by
  refine ⟨x.toNatClampNeg, ?_⟩
  unfold pl5
  rw [if_pos]
  refine ⟨?_, h2⟩
  rw [Int32.lt_iff_toInt_lt] at h
  rw [Int32.le_iff_toInt_le]
  omega
theorem pl5_in' {x : Int32} (h : ¬ x < 0) (h2 : ¬ nI 5 ≤ x) : ∃ k, pl5 x = some k := pl5_in h (by
  rw [Int32.le_iff_toInt_le] at h2
  rw [Int32.lt_iff_toInt_lt]
  omega)
theorem st32_lt {x : Int32} (h : x < nI 1) : st32 x = none := by
  unfold st32
  rw [if_neg]
  rintro ⟨h1, -⟩
  have h1 : nI 1 ≤ x := h1
  rw [Int32.le_iff_toInt_le] at h1
  rw [Int32.lt_iff_toInt_lt] at h
  omega
theorem st32_ge {x : Int32} (h : ¬ x < nI 32) : st32 x = none := by
  unfold st32
  rw [if_neg]
  rintro ⟨-, h1⟩
  exact h h1
theorem st32_gt {x : Int32} (h : ¬ x ≤ nI 31) : st32 x = none := st32_ge (by
  rw [Int32.le_iff_toInt_le, show (nI 31).toInt = 31 from by decide] at h
  rw [Int32.lt_iff_toInt_lt, show (nI 32).toInt = 32 from by decide]
  omega)
theorem st32_in {x : Int32} (h : ¬ x < nI 1) (h2 : x < nI 32) : ∃ k, st32 x = some k := by
  refine ⟨x.toNatClampNeg, ?_⟩
  unfold st32
  rw [if_pos]
  refine ⟨?_, h2⟩
  show nI 1 ≤ x
  rw [Int32.lt_iff_toInt_lt] at h
  rw [Int32.le_iff_toInt_le]
  omega
theorem st32_in' {x : Int32} (h : ¬ x < nI 1) (h2 : x ≤ nI 31) : ∃ k, st32 x = some k := st32_in h (by
  rw [Int32.le_iff_toInt_le, show (nI 31).toInt = 31 from by decide] at h2
  rw [Int32.lt_iff_toInt_lt, show (nI 32).toInt = 32 from by decide]
  omega)
end
section
/-! X0 (CoalitionValues), first: badSet, badPlayer, worth, pay, shareOf, complaint, inCore -/
set_option maxRecDepth 100000
theorem x0_badPlayer (l : Launch) (sz : Nat) (x : Int32) : CS l yX0_badPlayer cX0_badPlayer 1 (some .boolean) cvr0 sz [.int x] (fun r _ => bad5 x r) := by
  refine cs_start (by decide) (Nat.le_of_ble_eq_true rfl) ?_
  intro p e s m below meth c ls A F hr hlocks hS hl
  have hx := F.1
  have hb := F.2.1
  have hown := F.2.2.2.1
  have hts := F.2.2.2.2
  have hl : lv_has ls 1 [(0, .int x)] := hl
  refine lv_iload_n hx hb dX0_badPlayer_0 rfl (lv_at hl 0 rfl) ?_
  refine lv_if_lt (tgt := 9) hx hb dX0_badPlayer_1 (by decide) (fun c_1 => ?_) (fun c_1 => ?_)
  · refine lv_iconst (v := nI 1) hx hb dX0_badPlayer_9 (by decide +kernel) ?_
    refine lv_goto (tgt := 14) hx hb dX0_badPlayer_10 (by decide) ?_
    exact cs_ret hx hb hr hlocks rfl (Or.inl ⟨rfl, by first | exact pl5_lt c_1 | exact pl5_ge c_6⟩) hS dX0_badPlayer_14
  · refine lv_iload_n hx hb dX0_badPlayer_4 rfl (lv_at hl 0 rfl) ?_
    refine lv_iconst (v := nI 5) hx hb dX0_badPlayer_5 (by decide +kernel) ?_
    refine lv_icmp_lt (tgt := 13) hx hb dX0_badPlayer_6 (by decide) (fun c_6 => ?_) (fun c_6 => ?_)
    · refine lv_iconst (v := nI 0) hx hb dX0_badPlayer_13 (by decide +kernel) ?_
      exact cs_ret hx hb hr hlocks rfl (by obtain ⟨k, hk⟩ := pl5_in c_1 c_6; exact Or.inr ⟨k, rfl, hk⟩) hS dX0_badPlayer_14
    · refine lv_iconst (v := nI 1) hx hb dX0_badPlayer_9 (by decide +kernel) ?_
      refine lv_goto (tgt := 14) hx hb dX0_badPlayer_10 (by decide) ?_
      exact cs_ret hx hb hr hlocks rfl (Or.inl ⟨rfl, by first | exact pl5_lt c_1 | exact pl5_ge c_6⟩) hS dX0_badPlayer_14

theorem x0_badSet (l : Launch) (sz : Nat) (x : Int32) : CS l yX0_badSet cX0_badSet 1 (some .boolean) cvr0 sz [.int x] (fun r _ => bad32 x r) := by
  refine cs_start (by decide) (Nat.le_of_ble_eq_true rfl) ?_
  intro p e s m below meth c ls A F hr hlocks hS hl
  have hx := F.1
  have hb := F.2.1
  have hown := F.2.2.2.1
  have hts := F.2.2.2.2
  have hl : lv_has ls 1 [(0, .int x)] := hl
  refine lv_iload_n hx hb dX0_badSet_0 rfl (lv_at hl 0 rfl) ?_
  refine lv_iconst (v := nI 1) hx hb dX0_badSet_1 (by decide +kernel) ?_
  refine lv_icmp_lt (tgt := 11) hx hb dX0_badSet_2 (by decide) (fun c_2 => ?_) (fun c_2 => ?_)
  · refine lv_iconst (v := nI 1) hx hb dX0_badSet_11 (by decide +kernel) ?_
    refine lv_goto (tgt := 16) hx hb dX0_badSet_12 (by decide) ?_
    exact cs_ret hx hb hr hlocks rfl (Or.inl ⟨rfl, by first | exact st32_lt c_2 | exact st32_ge c_8⟩) hS dX0_badSet_16
  · refine lv_iload_n hx hb dX0_badSet_5 rfl (lv_at hl 0 rfl) ?_
    refine lv_bipush (v := nI 32) hx hb dX0_badSet_6 (by decide +kernel) ?_
    refine lv_icmp_lt (tgt := 15) hx hb dX0_badSet_8 (by decide) (fun c_8 => ?_) (fun c_8 => ?_)
    · refine lv_iconst (v := nI 0) hx hb dX0_badSet_15 (by decide +kernel) ?_
      exact cs_ret hx hb hr hlocks rfl (by obtain ⟨k, hk⟩ := st32_in c_2 c_8; exact Or.inr ⟨k, rfl, hk⟩) hS dX0_badSet_16
    · refine lv_iconst (v := nI 1) hx hb dX0_badSet_11 (by decide +kernel) ?_
      refine lv_goto (tgt := 16) hx hb dX0_badSet_12 (by decide) ?_
      exact cs_ret hx hb hr hlocks rfl (Or.inl ⟨rfl, by first | exact st32_lt c_2 | exact st32_ge c_8⟩) hS dX0_badSet_16

set_option maxHeartbeats 4000000 in
set_option maxRecDepth 100000 in
theorem x0_worth (l : Launch) (D : va_G) (d : Nat → ClassId) (g : Nat → Nat) (sz : Nat) (w am pt mv sp : Nat → Int32) (x v : Int32) : CM l yX0_worth cX0_worth 4 (some .int) cvr1 D (wX0 d g) (tX0 d) (g 0) sz (w, am, pt, mv, sp) [.int x, .int v] (fun r u => (r, u) = ((worthF x v w).1, ((worthF x v w).2, am, pt, mv, sp))) := by
  refine cm_start (by decide) (Nat.le_of_ble_eq_true rfl) ?_
  intro p e s m below meth c ls A F hr hlocks hA hP hK hD hS hl
  have hx := F.1
  have hb := F.2.1
  have hown := F.2.2.2.1
  have hts := F.2.2.2.2
  have hl : lv_has ls 4 [(0, .ref (g 0)), (1, .int x), (2, .int v)] := hl
  have hP : va_P D vwCl (wX0 d g (w, am, pt, mv, sp)) s.heap := hP
  have hD : va_D A (wX0 d g (w, am, pt, mv, sp)) := hD
  refine lv_iload_n hx hb dX0_worth_0 rfl (lv_at hl 1 rfl) ?_
  refine cs_call (rest := []) F (x0_badSet l _ (x)) (va_cwS 1 hts (lw_S q39 q40 q8 q41) rfl rfl rfl (by decide +kernel) ⟨Nat.le_of_ble_eq_true rfl, Nat.le_of_ble_eq_true rfl⟩) hP hS hA rfl hl.1 rfl (Nat.le_of_ble_eq_true rfl) ⟨Nat.zero_le _, Nat.zero_le _⟩ dX0_worth_1 (fun r H locs hw hP hS => ?_)
  rcases hw with ⟨rfl, h1⟩ | ⟨k, rfl, h1⟩
  · refine cz_eq (tgt := 9) hx hb (by decide) dX0_worth_4 (by decide) (fun h9 => absurd h9 (by decide)) (fun h9 => ?_)
    refine lv_iconst (v := (-1)) hx hb dX0_worth_7 (by decide +kernel) ?_
    exact cm_ret hx hb hr hlocks rfl (w, am, pt, mv, sp) (by unfold worthF; rw [h1]) hP hK hD hS dX0_worth_8
  · obtain ⟨h1_k, hk_k, rfl⟩ := st32_some h1
    refine cz_eq (tgt := 9) hx hb (by decide) dX0_worth_4 (by decide) (fun h9 => ?_) (fun h9 => absurd h9 (by decide))
    refine lv_iload_n hx hb dX0_worth_9 rfl (lv_at hl 2 rfl) ?_
    refine lv_sipush (v := (-1000)) hx hb dX0_worth_10 (by decide +kernel) ?_
    refine lv_icmp_lt (tgt := 23) hx hb dX0_worth_13 (by decide) (fun c_13 => ?_) (fun c_13 => ?_)
    · refine lv_bipush (v := (-2)) hx hb dX0_worth_23 (by decide +kernel) ?_
      exact cm_ret hx hb hr hlocks rfl (w, am, pt, mv, sp) (by unfold worthF; simp only [h1]; rw [if_pos (by first | exact Or.inl c_13 | exact Or.inr c_20)]) hP hK hD hS dX0_worth_25
    · refine lv_iload_n hx hb dX0_worth_16 rfl (lv_at hl 2 rfl) ?_
      refine lv_sipush (v := 1000) hx hb dX0_worth_17 (by decide +kernel) ?_
      refine lv_icmp_le (tgt := 26) hx hb dX0_worth_20 (by decide) (fun c_20 => ?_) (fun c_20 => ?_)
      · refine lv_aload_n hx hb dX0_worth_26 rfl (lv_at hl 0 rfl) ?_
        refine va_get (D := D) (ci := 0) (v := .ref (g 1)) (C := RX0) (T := TX0) (N := 5) hx hb hts in_X0 hown hK hP 0 rfl rfl 0 (by decide) (hts _ q18) (fun _ h9 => h9) rfl dX0_worth_27 ?_
        refine lv_iload_n hx hb dX0_worth_30 rfl (lv_at hl 1 rfl) ?_
        refine cv_ald hx hb hK hP 1 0 rfl rfl (by decide) (by omega) dX0_worth_31 ?_
        refine lv_istore_n (lv' := [(3, .int (w k)), (0, .ref (g 0)), (1, .int (nI k)), (2, .int v)]) hx hb dX0_worth_32 rfl hl (by decide) rfl (fun ls hl => ?_)
        refine lv_aload_n hx hb dX0_worth_33 rfl (lv_at hl 1 rfl) ?_
        refine va_get (D := D) (ci := 0) (v := .ref (g 1)) (C := RX0) (T := TX0) (N := 5) hx hb hts in_X0 hown hK hP 0 rfl rfl 0 (by decide) (hts _ q18) (fun _ h9 => h9) rfl dX0_worth_34 ?_
        refine lv_iload_n hx hb dX0_worth_37 rfl (lv_at hl 2 rfl) ?_
        refine lv_iload_n hx hb dX0_worth_38 rfl (lv_at hl 3 rfl) ?_
        refine cv_ast hx hb hK hP hD hS 1 0 rfl rfl (by decide) (by omega) dX0_worth_39 (fun H locs hP hD hS => ?_)
        have hP : va_P D vwCl (wX0 d g (upd w k v, am, pt, mv, sp)) H := hP
        have hD : va_D A (wX0 d g (upd w k v, am, pt, mv, sp)) := hD
        refine lv_iload_n hx hb dX0_worth_40 rfl (lv_at hl 0 rfl) ?_
        exact cm_ret hx hb hr hlocks rfl (upd w k v, am, pt, mv, sp) (by unfold worthF; simp only [h1]; rw [if_neg (by rintro (h | h); exact c_13 h; exact h c_20)]) hP hK hD hS dX0_worth_41
      · refine lv_bipush (v := (-2)) hx hb dX0_worth_23 (by decide +kernel) ?_
        exact cm_ret hx hb hr hlocks rfl (w, am, pt, mv, sp) (by unfold worthF; simp only [h1]; rw [if_pos (by first | exact Or.inl c_13 | exact Or.inr c_20)]) hP hK hD hS dX0_worth_25

set_option maxHeartbeats 4000000 in
set_option maxRecDepth 100000 in
theorem x0_pay (l : Launch) (D : va_G) (d : Nat → ClassId) (g : Nat → Nat) (sz : Nat) (w am pt mv sp : Nat → Int32) (x v : Int32) : CM l yX0_pay cX0_pay 3 (some .int) cvr1 D (wX0 d g) (tX0 d) (g 0) sz (w, am, pt, mv, sp) [.int x, .int v] (fun r u => (r, u) = ((payF x v am).1, (w, (payF x v am).2, pt, mv, sp))) := by
  refine cm_start (by decide) (Nat.le_of_ble_eq_true rfl) ?_
  intro p e s m below meth c ls A F hr hlocks hA hP hK hD hS hl
  have hx := F.1
  have hb := F.2.1
  have hown := F.2.2.2.1
  have hts := F.2.2.2.2
  have hl : lv_has ls 3 [(0, .ref (g 0)), (1, .int x), (2, .int v)] := hl
  have hP : va_P D vwCl (wX0 d g (w, am, pt, mv, sp)) s.heap := hP
  have hD : va_D A (wX0 d g (w, am, pt, mv, sp)) := hD
  refine lv_iload_n hx hb dX0_pay_0 rfl (lv_at hl 1 rfl) ?_
  refine cs_call (rest := []) F (x0_badPlayer l _ (x)) (va_cwS 1 hts (lw_S q46 q47 q8 q48) rfl rfl rfl (by decide +kernel) ⟨Nat.le_of_ble_eq_true rfl, Nat.le_of_ble_eq_true rfl⟩) hP hS hA rfl hl.1 rfl (Nat.le_of_ble_eq_true rfl) ⟨Nat.zero_le _, Nat.zero_le _⟩ dX0_pay_1 (fun r H locs hw hP hS => ?_)
  rcases hw with ⟨rfl, h1⟩ | ⟨k, rfl, h1⟩
  · refine cz_eq (tgt := 10) hx hb (by decide) dX0_pay_4 (by decide) (fun h9 => absurd h9 (by decide)) (fun h9 => ?_)
    refine lv_bipush (v := (-3)) hx hb dX0_pay_7 (by decide +kernel) ?_
    exact cm_ret hx hb hr hlocks rfl (w, am, pt, mv, sp) (by unfold payF; rw [h1]) hP hK hD hS dX0_pay_9
  · obtain ⟨hk_k, rfl⟩ := pl5_some h1
    refine cz_eq (tgt := 10) hx hb (by decide) dX0_pay_4 (by decide) (fun h9 => ?_) (fun h9 => absurd h9 (by decide))
    refine lv_iload_n hx hb dX0_pay_10 rfl (lv_at hl 2 rfl) ?_
    refine lv_sipush (v := (-10000)) hx hb dX0_pay_11 (by decide +kernel) ?_
    refine lv_icmp_lt (tgt := 24) hx hb dX0_pay_14 (by decide) (fun c_14 => ?_) (fun c_14 => ?_)
    · refine lv_bipush (v := (-2)) hx hb dX0_pay_24 (by decide +kernel) ?_
      exact cm_ret hx hb hr hlocks rfl (w, am, pt, mv, sp) (by unfold payF; simp only [h1]; rw [if_pos (by first | exact Or.inl c_14 | exact Or.inr c_21)]) hP hK hD hS dX0_pay_26
    · refine lv_iload_n hx hb dX0_pay_17 rfl (lv_at hl 2 rfl) ?_
      refine lv_sipush (v := 10000) hx hb dX0_pay_18 (by decide +kernel) ?_
      refine lv_icmp_le (tgt := 27) hx hb dX0_pay_21 (by decide) (fun c_21 => ?_) (fun c_21 => ?_)
      · refine lv_aload_n hx hb dX0_pay_27 rfl (lv_at hl 0 rfl) ?_
        refine va_get (D := D) (ci := 0) (v := .ref (g 2)) (C := RX0) (T := TX0) (N := 5) hx hb hts in_X0 hown hK hP 0 rfl rfl 1 (by decide) (hts _ q19) (fun _ h9 => h9) rfl dX0_pay_28 ?_
        refine lv_iload_n hx hb dX0_pay_31 rfl (lv_at hl 1 rfl) ?_
        refine lv_iload_n hx hb dX0_pay_32 rfl (lv_at hl 2 rfl) ?_
        refine cv_ast hx hb hK hP hD hS 2 1 rfl rfl (by decide) (by omega) dX0_pay_33 (fun H locs hP hD hS => ?_)
        have hP : va_P D vwCl (wX0 d g (w, upd am k v, pt, mv, sp)) H := hP
        have hD : va_D A (wX0 d g (w, upd am k v, pt, mv, sp)) := hD
        refine lv_iconst (v := nI 0) hx hb dX0_pay_34 (by decide +kernel) ?_
        exact cm_ret hx hb hr hlocks rfl (w, upd am k v, pt, mv, sp) (by unfold payF; simp only [h1]; rw [if_neg (by rintro (h | h); exact c_14 h; exact h c_21)]) hP hK hD hS dX0_pay_35
      · refine lv_bipush (v := (-2)) hx hb dX0_pay_24 (by decide +kernel) ?_
        exact cm_ret hx hb hr hlocks rfl (w, am, pt, mv, sp) (by unfold payF; simp only [h1]; rw [if_pos (by first | exact Or.inl c_14 | exact Or.inr c_21)]) hP hK hD hS dX0_pay_26

section
variable {p : Program} {l : Launch} {e : Env} {R : Room} {s : State} {m : MethodId} {args : Array Value} {below : List Frame} {meth : Method} {c : Code} {H : Heap} {locs : List Loc} {cells slots : Nat} {Q : State → Prop} {A : Nat → Prop}
variable {D : va_G} {d : Nat → ClassId} {g : Nat → Nat} {w am pt mv sp : Nat → Int32}
set_option maxHeartbeats 4000000 in
set_option maxRecDepth 100000 in
theorem x0_share_lp (F : CallFix p m c cX0_shareOf 4 s args lw_all RX0) (hK : va_K D vwCl (tX0 d) s) (hP : va_P D vwCl (wX0 d g (w, am, pt, mv, sp)) H) {k : Nat} (hk : k < 32) (K : ∀ ls : Array Slot, lv_has ls 4 [(0, .ref (g 0)), (1, .int (nI k)), (2, .int (shF am k 5)), (3, .int (nI 5))] → W p l e R s m args below meth c H locs cells slots Q (F0 m 33 ls [])) : ∀ (n j : Nat) (ls : Array Slot), j ≤ 5 → 5 - j < n → lv_has ls 4 [(0, .ref (g 0)), (1, .int (nI k)), (2, .int (shF am k j)), (3, .int (nI j))] → W p l e R s m args below meth c H locs cells slots Q (F0 m 4 ls []) := by
  have hx := F.1
  have hb := F.2.1
  have hown := F.2.2.2.1
  have hts := F.2.2.2.2
  intro n
  induction n with
  | zero => intro j ls h1 h2; omega
  | succ n ih =>
    intro j ls hj hn hl
    refine lv_iload_n hx hb dX0_shareOf_4 rfl (lv_at hl 3 rfl) ?_
    refine lv_iconst (v := nI 5) hx hb dX0_shareOf_5 (by decide +kernel) ?_
    refine cn_ge (tgt := 33) hx hb (by omega) (by decide) dX0_shareOf_6 (by decide) (fun c_6 => ?_) (fun c_6 => ?_)
    · obtain rfl : j = 5 := by omega
      exact K ls (lv_sub hl [0, 1, 2, 3] rfl)
    · refine lv_iload_n hx hb dX0_shareOf_9 rfl (lv_at hl 1 rfl) ?_
      refine lv_iload_n hx hb dX0_shareOf_10 rfl (lv_at hl 3 rfl) ?_
      refine cn_ishr hx hb (by omega) (by omega) dX0_shareOf_11 ?_
      refine lv_iconst (v := nI 1) hx hb dX0_shareOf_12 (by decide +kernel) ?_
      refine cn_iand hx hb dX0_shareOf_13 ?_
      refine lv_iconst (v := nI 1) hx hb dX0_shareOf_14 (by decide +kernel) ?_
      refine cn_ne (tgt := 27) hx hb (Nat.lt_trans (bt_lt _ _) (by decide)) (by decide) dX0_shareOf_15 (by decide) (fun c_15 => ?_) (fun c_15 => ?_)
      · refine cn_iinc (lv' := [(3, .int (nI (j + 1))), (0, .ref (g 0)), (1, .int (nI k)), (2, .int (shF am k j))]) hx hb dX0_shareOf_27 hl (k := 3) rfl (by decide) rfl (fun ls hl => ?_)
        refine lv_goto (tgt := 4) hx hb dX0_shareOf_30 (by decide) ?_
        exact ih (j + 1) ls (by omega) (by omega) (by rw [← shF_0 c_15]; exact (lv_sub hl [1, 2, 3, 0] rfl))
      · refine lv_iload_n hx hb dX0_shareOf_18 rfl (lv_at hl 2 rfl) ?_
        refine lv_aload_n hx hb dX0_shareOf_19 rfl (lv_at hl 0 rfl) ?_
        refine va_get (D := D) (ci := 0) (v := .ref (g 2)) (C := RX0) (T := TX0) (N := 5) hx hb hts in_X0 hown hK hP 0 rfl rfl 1 (by decide) (hts _ q19) (fun _ h9 => h9) rfl dX0_shareOf_20 ?_
        refine lv_iload_n hx hb dX0_shareOf_23 rfl (lv_at hl 3 rfl) ?_
        refine cv_ald hx hb hK hP 2 1 rfl rfl (by decide) (by omega) dX0_shareOf_24 ?_
        refine lv_iadd hx hb dX0_shareOf_25 ?_
        refine cv_set (y := shF am k (j + 1)) (shF_1 c_15) ?_
        refine lv_istore_n (lv' := [(2, .int (shF am k (j + 1))), (0, .ref (g 0)), (1, .int (nI k)), (3, .int (nI j))]) hx hb dX0_shareOf_26 rfl hl (by decide) rfl (fun ls hl => ?_)
        refine cn_iinc (lv' := [(3, .int (nI (j + 1))), (2, .int (shF am k (j + 1))), (0, .ref (g 0)), (1, .int (nI k))]) hx hb dX0_shareOf_27 hl (k := 3) rfl (by decide) rfl (fun ls hl => ?_)
        refine lv_goto (tgt := 4) hx hb dX0_shareOf_30 (by decide) ?_
        exact ih (j + 1) ls (by omega) (by omega) (lv_sub hl [2, 3, 1, 0] rfl)
end
set_option maxHeartbeats 4000000 in
set_option maxRecDepth 100000 in
theorem x0_shareOf (l : Launch) (D : va_G) (d : Nat → ClassId) (g : Nat → Nat) (sz : Nat) (w am pt mv sp : Nat → Int32) {k : Nat} (hk : k < 32) : CM l yX0_shareOf cX0_shareOf 4 (some .int) cvr0 D (wX0 d g) (tX0 d) (g 0) sz (w, am, pt, mv, sp) [.int (nI k)] (fun r u => r = shF am k 5 ∧ u = (w, am, pt, mv, sp)) := by
  refine cm_start (by decide) (Nat.le_of_ble_eq_true rfl) ?_
  intro p e s m below meth c ls A F hr hlocks hA hP hK hD hS hl
  have hx := F.1
  have hb := F.2.1
  have hown := F.2.2.2.1
  have hts := F.2.2.2.2
  have hl : lv_has ls 4 [(0, .ref (g 0)), (1, .int (nI k))] := hl
  have hP : va_P D vwCl (wX0 d g (w, am, pt, mv, sp)) s.heap := hP
  have hD : va_D A (wX0 d g (w, am, pt, mv, sp)) := hD
  refine lv_iconst (v := 0) hx hb dX0_shareOf_0 (by decide +kernel) ?_
  refine lv_istore_n (lv' := [(2, .int 0), (0, .ref (g 0)), (1, .int (nI k))]) hx hb dX0_shareOf_1 rfl hl (by decide) rfl (fun ls hl => ?_)
  refine lv_iconst (v := nI 0) hx hb dX0_shareOf_2 (by decide +kernel) ?_
  refine lv_istore_n (lv' := [(3, .int (nI 0)), (2, .int 0), (0, .ref (g 0)), (1, .int (nI k))]) hx hb dX0_shareOf_3 rfl hl (by decide) rfl (fun ls hl => ?_)
  refine x0_share_lp F hK hP hk (fun ls hl => ?_) 6 0 ls (by omega) (by omega) (lv_sub hl [2, 3, 1, 0] rfl)
  refine lv_iload_n hx hb dX0_shareOf_33 rfl (lv_at hl 2 rfl) ?_
  exact cm_ret hx hb hr hlocks rfl (w, am, pt, mv, sp) ⟨rfl, rfl⟩ hP hK hD hS dX0_shareOf_34

section
variable {p : Program} {l : Launch} {e : Env} {R : Room} {s : State} {m : MethodId} {args : Array Value} {below : List Frame} {meth : Method} {c : Code} {H : Heap} {locs : List Loc} {cells slots : Nat} {Q : State → Prop} {A : Nat → Prop}
variable {D : va_G} {d : Nat → ClassId} {g : Nat → Nat} {w am pt mv sp : Nat → Int32}
set_option maxHeartbeats 4000000 in
set_option maxRecDepth 100000 in
theorem x0_compl_lp (F : CallFix p m c cX0_complaint 4 s args lw_all RX0) (hA : ∀ q : Nat, s.heap.size ≤ q → A q) (hK : va_K D vwCl (tX0 d) s) (K : ∀ (H : Heap) (locs : List Loc), va_P D vwCl (wX0 d g (w, am, pt, mv, sp)) H → va_D A (wX0 d g (w, am, pt, mv, sp)) → va_S A s.heap H locs → ∀ ls : Array Slot, lv_has ls 4 [(0, .ref (g 0)), (1, .int (cmF w am 29)), (2, .int (nI 31))] → W p l e cvr1 s m args below meth c H locs 0 0 Q (F0 m 48 ls [])) : ∀ (n j : Nat) (best : Int32), 1 ≤ j → j ≤ 31 → 31 - j < n → (2 ≤ j → best = cmF w am (j - 2)) → ∀ (H : Heap) (locs : List Loc), va_P D vwCl (wX0 d g (w, am, pt, mv, sp)) H → va_D A (wX0 d g (w, am, pt, mv, sp)) → va_S A s.heap H locs → ∀ (ls : Array Slot), lv_has ls 4 [(0, .ref (g 0)), (1, .int best), (2, .int (nI j))] → W p l e cvr1 s m args below meth c H locs 0 0 Q (F0 m 4 ls []) := by
  have hx := F.1
  have hb := F.2.1
  have hown := F.2.2.2.1
  have hts := F.2.2.2.2
  intro n
  induction n with
  | zero => intro j best h0 h1 h2; omega
  | succ n ih =>
    intro j best h1 hj hn hbest H locs hP hD hS ls hl
    refine lv_iload_n hx hb dX0_complaint_4 rfl (lv_at hl 2 rfl) ?_
    refine lv_bipush (v := nI 31) hx hb dX0_complaint_5 (by decide +kernel) ?_
    refine cn_ge (tgt := 48) hx hb (by omega) (by decide) dX0_complaint_7 (by decide) (fun c_7 => ?_) (fun c_7 => ?_)
    · obtain rfl : j = 31 := by omega
      obtain rfl := hbest (by decide)
      exact K H locs hP hD hS ls (lv_sub hl [0, 1, 2] rfl)
    · refine lv_aload_n hx hb dX0_complaint_10 rfl (lv_at hl 0 rfl) ?_
      refine lv_iload_n hx hb dX0_complaint_11 rfl (lv_at hl 2 rfl) ?_
      refine cm_self (wf := wX0 d g) (rest := []) F (x0_shareOf l D d g _ w am pt mv sp (k := j) (by omega)) (cwV 1 hts (lw_V q83 q85 qs1 q8 q86) rfl rfl rfl (by decide +kernel) ⟨Nat.le_of_ble_eq_true rfl, Nat.le_of_ble_eq_true rfl⟩) (ci := 0) rfl rfl rfl hK hP hD hS hA [0, 1, 2, 3, 4] [0, 1, 2, 3, 4, 5] rfl rfl rfl (by decide) rfl hl.1 rfl (Nat.le_of_ble_eq_true rfl) ⟨Nat.zero_le _, Nat.zero_le _⟩ dX0_complaint_12 (fun r u H locs hw hP hD hS => ?_)
      obtain ⟨rfl, rfl⟩ := hw
      refine lv_istore_n (lv' := [(3, .int (shF am j 5)), (0, .ref (g 0)), (1, .int best), (2, .int (nI j))]) hx hb dX0_complaint_15 rfl hl (by decide) rfl (fun ls hl => ?_)
      refine lv_iload_n hx hb dX0_complaint_16 rfl (lv_at hl 3 rfl) ?_
      refine lv_iconst (v := nI 1) hx hb dX0_complaint_17 (by decide +kernel) ?_
      refine cn_eq (tgt := 33) hx hb (by omega) (by decide) dX0_complaint_18 (by decide) (fun c_18 => ?_) (fun c_18 => ?_)
      · refine lv_aload_n hx hb dX0_complaint_33 rfl (lv_at hl 1 rfl) ?_
        refine va_get (D := D) (ci := 0) (v := .ref (g 1)) (C := RX0) (T := TX0) (N := 5) hx hb hts in_X0 hown hK hP 0 rfl rfl 0 (by decide) (hts _ q18) (fun _ h9 => h9) rfl dX0_complaint_34 ?_
        refine lv_iload_n hx hb dX0_complaint_37 rfl (lv_at hl 3 rfl) ?_
        refine cv_ald hx hb hK hP 1 0 rfl rfl (by decide) (by omega) dX0_complaint_38 ?_
        refine lv_iload_n hx hb dX0_complaint_39 rfl (lv_at hl 0 rfl) ?_
        refine lv_isub hx hb dX0_complaint_40 ?_
        refine lv_istore_n (lv' := [(1, .int ((w j) - (shF am j 5))), (3, .int (shF am j 5)), (0, .ref (g 0)), (2, .int (nI j))]) hx hb dX0_complaint_41 rfl hl (by decide) rfl (fun ls hl => ?_)
        refine cn_iinc (lv' := [(2, .int (nI (j + 1))), (1, .int ((w j) - (shF am j 5))), (3, .int (shF am j 5)), (0, .ref (g 0))]) hx hb dX0_complaint_42 hl (k := 3) rfl (by decide) rfl (fun ls hl => ?_)
        refine lv_goto (tgt := 4) hx hb dX0_complaint_45 (by decide) ?_
        exact ih (j + 1) _ (by omega) (by omega) (by omega) (fun h2 => by first | (subst c_18; rfl) | exact cmF_1 (by omega) (by rw [← hbest (by omega)]; exact Int32.not_le.mp c_30)) H locs hP hD hS ls (lv_sub hl [3, 1, 0] rfl)
      · refine lv_aload_n hx hb dX0_complaint_21 rfl (lv_at hl 1 rfl) ?_
        refine va_get (D := D) (ci := 0) (v := .ref (g 1)) (C := RX0) (T := TX0) (N := 5) hx hb hts in_X0 hown hK hP 0 rfl rfl 0 (by decide) (hts _ q18) (fun _ h9 => h9) rfl dX0_complaint_22 ?_
        refine lv_iload_n hx hb dX0_complaint_25 rfl (lv_at hl 3 rfl) ?_
        refine cv_ald hx hb hK hP 1 0 rfl rfl (by decide) (by omega) dX0_complaint_26 ?_
        refine lv_iload_n hx hb dX0_complaint_27 rfl (lv_at hl 0 rfl) ?_
        refine lv_isub hx hb dX0_complaint_28 ?_
        refine lv_iload_n hx hb dX0_complaint_29 rfl (lv_at hl 2 rfl) ?_
        refine lv_icmp_le (tgt := 42) hx hb dX0_complaint_30 (by decide) (fun c_30 => ?_) (fun c_30 => ?_)
        · refine cn_iinc (lv' := [(2, .int (nI (j + 1))), (3, .int (shF am j 5)), (0, .ref (g 0)), (1, .int best)]) hx hb dX0_complaint_42 hl (k := 3) rfl (by decide) rfl (fun ls hl => ?_)
          refine lv_goto (tgt := 4) hx hb dX0_complaint_45 (by decide) ?_
          exact ih (j + 1) _ (by omega) (by omega) (by omega) (fun h2 => by rw [hbest (by omega)]; exact cmF_0 (by omega) (by rw [← hbest (by omega)]; intro h; exact absurd c_30 (Int32.not_le.mpr h))) H locs hP hD hS ls (lv_sub hl [2, 3, 0] rfl)
        · refine lv_aload_n hx hb dX0_complaint_33 rfl (lv_at hl 1 rfl) ?_
          refine va_get (D := D) (ci := 0) (v := .ref (g 1)) (C := RX0) (T := TX0) (N := 5) hx hb hts in_X0 hown hK hP 0 rfl rfl 0 (by decide) (hts _ q18) (fun _ h9 => h9) rfl dX0_complaint_34 ?_
          refine lv_iload_n hx hb dX0_complaint_37 rfl (lv_at hl 3 rfl) ?_
          refine cv_ald hx hb hK hP 1 0 rfl rfl (by decide) (by omega) dX0_complaint_38 ?_
          refine lv_iload_n hx hb dX0_complaint_39 rfl (lv_at hl 0 rfl) ?_
          refine lv_isub hx hb dX0_complaint_40 ?_
          refine lv_istore_n (lv' := [(1, .int ((w j) - (shF am j 5))), (3, .int (shF am j 5)), (0, .ref (g 0)), (2, .int (nI j))]) hx hb dX0_complaint_41 rfl hl (by decide) rfl (fun ls hl => ?_)
          refine cn_iinc (lv' := [(2, .int (nI (j + 1))), (1, .int ((w j) - (shF am j 5))), (3, .int (shF am j 5)), (0, .ref (g 0))]) hx hb dX0_complaint_42 hl (k := 3) rfl (by decide) rfl (fun ls hl => ?_)
          refine lv_goto (tgt := 4) hx hb dX0_complaint_45 (by decide) ?_
          exact ih (j + 1) _ (by omega) (by omega) (by omega) (fun h2 => by first | (subst c_18; rfl) | exact cmF_1 (by omega) (by rw [← hbest (by omega)]; exact Int32.not_le.mp c_30)) H locs hP hD hS ls (lv_sub hl [3, 1, 0] rfl)
end
set_option maxHeartbeats 4000000 in
set_option maxRecDepth 100000 in
theorem x0_complaint (l : Launch) (D : va_G) (d : Nat → ClassId) (g : Nat → Nat) (sz : Nat) (w am pt mv sp : Nat → Int32) : CM l yX0_complaint cX0_complaint 4 (some .int) cvr1 D (wX0 d g) (tX0 d) (g 0) sz (w, am, pt, mv, sp) [] (fun r u => r = cmF w am 29 ∧ u = (w, am, pt, mv, sp)) := by
  refine cm_start (by decide) (Nat.le_of_ble_eq_true rfl) ?_
  intro p e s m below meth c ls A F hr hlocks hA hP hK hD hS hl
  have hx := F.1
  have hb := F.2.1
  have hown := F.2.2.2.1
  have hts := F.2.2.2.2
  have hl : lv_has ls 4 [(0, .ref (g 0))] := hl
  have hP : va_P D vwCl (wX0 d g (w, am, pt, mv, sp)) s.heap := hP
  have hD : va_D A (wX0 d g (w, am, pt, mv, sp)) := hD
  refine lv_iconst (v := 0) hx hb dX0_complaint_0 (by decide +kernel) ?_
  refine lv_istore_n (lv' := [(1, .int 0), (0, .ref (g 0))]) hx hb dX0_complaint_1 rfl hl (by decide) rfl (fun ls hl => ?_)
  refine lv_iconst (v := nI 1) hx hb dX0_complaint_2 (by decide +kernel) ?_
  refine lv_istore_n (lv' := [(2, .int (nI 1)), (1, .int 0), (0, .ref (g 0))]) hx hb dX0_complaint_3 rfl hl (by decide) rfl (fun ls hl => ?_)
  refine x0_compl_lp F hA hK (fun H locs hP hD hS ls hl => ?_) 32 1 0 (by omega) (by omega) (by omega) (fun h => by omega) _ _ hP hD hS ls (lv_sub hl [2, 1, 0] rfl)
  refine lv_iload_n hx hb dX0_complaint_48 rfl (lv_at hl 1 rfl) ?_
  exact cm_ret hx hb hr hlocks rfl (w, am, pt, mv, sp) ⟨rfl, rfl⟩ hP hK hD hS dX0_complaint_49

set_option maxHeartbeats 4000000 in
set_option maxRecDepth 100000 in
theorem x0_inCore (l : Launch) (D : va_G) (d : Nat → ClassId) (g : Nat → Nat) (sz : Nat) (w am pt mv sp : Nat → Int32) : CM l yX0_inCore cX0_inCore 3 (some .boolean) cvr2 D (wX0 d g) (tX0 d) (g 0) sz (w, am, pt, mv, sp) [] (fun r u => r = icF w am ∧ u = (w, am, pt, mv, sp)) := by
  refine cm_start (by decide) (Nat.le_of_ble_eq_true rfl) ?_
  intro p e s m below meth c ls A F hr hlocks hA hP hK hD hS hl
  have hx := F.1
  have hb := F.2.1
  have hown := F.2.2.2.1
  have hts := F.2.2.2.2
  have hl : lv_has ls 3 [(0, .ref (g 0))] := hl
  have hP : va_P D vwCl (wX0 d g (w, am, pt, mv, sp)) s.heap := hP
  have hD : va_D A (wX0 d g (w, am, pt, mv, sp)) := hD
  refine lv_aload_n hx hb dX0_inCore_0 rfl (lv_at hl 0 rfl) ?_
  refine lv_bipush (v := nI 31) hx hb dX0_inCore_1 (by decide +kernel) ?_
  refine cm_self (wf := wX0 d g) (rest := []) F (x0_shareOf l D d g _ w am pt mv sp (k := 31) (by decide)) (cwV 1 hts (lw_V q83 q85 qs1 q8 q86) rfl rfl rfl (by decide +kernel) ⟨Nat.le_of_ble_eq_true rfl, Nat.le_of_ble_eq_true rfl⟩) (ci := 0) rfl rfl rfl hK hP hD hS hA [0, 1, 2, 3, 4] [0, 1, 2, 3, 4, 5] rfl rfl rfl (by decide) rfl hl.1 rfl (Nat.le_of_ble_eq_true rfl) ⟨Nat.zero_le _, Nat.zero_le _⟩ dX0_inCore_3 (fun r u H locs hw hP hD hS => ?_)
  obtain ⟨rfl, rfl⟩ := hw
  refine lv_istore_n (lv' := [(1, .int (shF am 31 5)), (0, .ref (g 0))]) hx hb dX0_inCore_6 rfl hl (by decide) rfl (fun ls hl => ?_)
  refine lv_aload_n hx hb dX0_inCore_7 rfl (lv_at hl 1 rfl) ?_
  refine cm_self (wf := wX0 d g) (rest := []) F (x0_complaint l D d g _ w am pt mv sp) (cwV 0 hts (lw_V q91 q80 q81 q8 q82) rfl rfl rfl (by decide +kernel) ⟨Nat.le_of_ble_eq_true rfl, Nat.le_of_ble_eq_true rfl⟩) (ci := 0) rfl rfl rfl hK hP hD hS hA [0, 1, 2, 3, 4] [0, 1, 2, 3, 4, 5] rfl rfl rfl (by decide) rfl hl.1 rfl (Nat.le_of_ble_eq_true rfl) ⟨Nat.zero_le _, Nat.zero_le _⟩ dX0_inCore_8 (fun r u H locs hw hP hD hS => ?_)
  obtain ⟨rfl, rfl⟩ := hw
  refine lv_istore_n (lv' := [(2, .int (cmF w am 29)), (1, .int (shF am 31 5)), (0, .ref (g 0))]) hx hb dX0_inCore_11 rfl hl (by decide) rfl (fun ls hl => ?_)
  refine lv_iload_n hx hb dX0_inCore_12 rfl (lv_at hl 1 rfl) ?_
  refine lv_aload_n hx hb dX0_inCore_13 rfl (lv_at hl 2 rfl) ?_
  refine va_get (D := D) (ci := 0) (v := .ref (g 1)) (C := RX0) (T := TX0) (N := 5) hx hb hts in_X0 hown hK hP 0 rfl rfl 0 (by decide) (hts _ q18) (fun _ h9 => h9) rfl dX0_inCore_14 ?_
  refine lv_bipush (v := nI 31) hx hb dX0_inCore_17 (by decide +kernel) ?_
  refine cv_ald hx hb hK hP 1 0 rfl rfl (by decide) (by decide) dX0_inCore_19 ?_
  refine lv_icmp_ne (tgt := 31) hx hb dX0_inCore_20 (by decide) (fun c_20 => ?_) (fun c_20 => ?_)
  · refine lv_iconst (v := nI 0) hx hb dX0_inCore_31 (by decide +kernel) ?_
    exact cm_ret hx hb hr hlocks rfl (w, am, pt, mv, sp) ⟨by unfold icF; rw [if_neg (by first | exact fun h => c_20 h.1.symm | exact fun h => absurd c_24 (Int32.not_lt.mpr h.2))], rfl⟩ hP hK hD hS dX0_inCore_32
  · refine lv_iload_n hx hb dX0_inCore_23 rfl (lv_at hl 0 rfl) ?_
    refine lv_if_gt (tgt := 31) hx hb dX0_inCore_24 (by decide) (fun c_24 => ?_) (fun c_24 => ?_)
    · refine lv_iconst (v := nI 0) hx hb dX0_inCore_31 (by decide +kernel) ?_
      exact cm_ret hx hb hr hlocks rfl (w, am, pt, mv, sp) ⟨by unfold icF; rw [if_neg (by first | exact fun h => c_20 h.1.symm | exact fun h => absurd c_24 (Int32.not_lt.mpr h.2))], rfl⟩ hP hK hD hS dX0_inCore_32
    · refine lv_iconst (v := nI 1) hx hb dX0_inCore_27 (by decide +kernel) ?_
      refine lv_goto (tgt := 32) hx hb dX0_inCore_28 (by decide) ?_
      exact cm_ret hx hb hr hlocks rfl (w, am, pt, mv, sp) ⟨by unfold icF; rw [if_pos ⟨c_20.symm, Int32.not_lt.mp c_24⟩], rfl⟩ hP hK hD hS dX0_inCore_32
end
section
/-! X0 (CoalitionValues), second: weigh, exchanged, exchange, findParts, size, orderValue, swingValue, own -/
set_option maxRecDepth 100000
section
variable {p : Program} {l : Launch} {e : Env} {R : Room} {s : State} {m : MethodId} {args : Array Value} {below : List Frame} {meth : Method} {c : Code} {H : Heap} {locs : List Loc} {cells slots : Nat} {Q : State → Prop} {A : Nat → Prop}
variable {D : va_G} {d : Nat → ClassId} {g : Nat → Nat} {w am pt mv sp : Nat → Int32}
set_option maxHeartbeats 4000000 in
set_option maxRecDepth 100000 in
theorem x0_weigh_in (F : CallFix p m c cX0_weigh 7 s args lw_all RX0) {wt q nn : Int32} {t : Nat} (ht : t < 32) (K : ∀ ls : Array Slot, lv_has ls 7 [(0, .ref (g 0)), (1, .int wt), (2, .int q), (3, .int nn), (4, .int (nI t)), (5, .int (wgS wt t 5)), (6, .int (nI 5))] → W p l e R s m args below meth c H locs cells slots Q (F0 m 69 ls [])) : ∀ (n j : Nat) (ls : Array Slot), j ≤ 5 → 5 - j < n → lv_has ls 7 [(0, .ref (g 0)), (1, .int wt), (2, .int q), (3, .int nn), (4, .int (nI t)), (5, .int (wgS wt t j)), (6, .int (nI j))] → W p l e R s m args below meth c H locs cells slots Q (F0 m 32 ls []) := by
  have hx := F.1
  have hb := F.2.1
  have hown := F.2.2.2.1
  have hts := F.2.2.2.2
  intro n
  induction n with
  | zero => intro j ls h1 h2; omega
  | succ n ih =>
    intro j ls hj hn hl
    refine lv_iload hx hb dX0_weigh_32 (lv_at hl 6 rfl) ?_
    refine lv_iconst (v := nI 5) hx hb dX0_weigh_34 (by decide +kernel) ?_
    refine cn_ge (tgt := 69) hx hb (by omega) (by decide) dX0_weigh_35 (by decide) (fun c_35 => ?_) (fun c_35 => ?_)
    · obtain rfl : j = 5 := by omega
      exact K ls (lv_sub hl [0, 1, 2, 3, 4, 5, 6] rfl)
    · refine lv_iload hx hb dX0_weigh_38 (lv_at hl 4 rfl) ?_
      refine lv_iload hx hb dX0_weigh_40 (lv_at hl 6 rfl) ?_
      refine cn_ishr hx hb (by omega) (by omega) dX0_weigh_42 ?_
      refine lv_iconst (v := nI 1) hx hb dX0_weigh_43 (by decide +kernel) ?_
      refine cn_iand hx hb dX0_weigh_44 ?_
      refine lv_iconst (v := nI 1) hx hb dX0_weigh_45 (by decide +kernel) ?_
      refine cn_ne (tgt := 63) hx hb (Nat.lt_trans (bt_lt _ _) (by decide)) (by decide) dX0_weigh_46 (by decide) (fun c_46 => ?_) (fun c_46 => ?_)
      · refine cn_iinc (lv' := [(6, .int (nI (j + 1))), (0, .ref (g 0)), (1, .int wt), (2, .int q), (3, .int nn), (4, .int (nI t)), (5, .int (wgS wt t j))]) hx hb dX0_weigh_63 hl (k := 6) rfl (by decide) rfl (fun ls hl => ?_)
        refine lv_goto (tgt := 32) hx hb dX0_weigh_66 (by decide) ?_
        exact ih (j + 1) ls (by omega) (by omega) (by rw [← wgS_0 c_46]; exact (lv_sub hl [1, 2, 3, 4, 5, 6, 0] rfl))
      · refine lv_iload hx hb dX0_weigh_49 (lv_at hl 5 rfl) ?_
        refine lv_iload_n hx hb dX0_weigh_51 rfl (lv_at hl 1 rfl) ?_
        refine lv_iconst (v := nI 4) hx hb dX0_weigh_52 (by decide +kernel) ?_
        refine lv_iload hx hb dX0_weigh_53 (lv_at hl 6 rfl) ?_
        refine cn_imul hx hb dX0_weigh_55 ?_
        refine lv_ishr hx hb dX0_weigh_56 ?_
        refine lv_bipush (v := nI 15) hx hb dX0_weigh_57 (by decide +kernel) ?_
        refine lv_iand hx hb dX0_weigh_59 ?_
        refine lv_iadd hx hb dX0_weigh_60 ?_
        refine cv_set (y := wgS wt t (j + 1)) (wgS_1 c_46) ?_
        refine lv_istore (lv' := [(5, .int (wgS wt t (j + 1))), (0, .ref (g 0)), (1, .int wt), (2, .int q), (3, .int nn), (4, .int (nI t)), (6, .int (nI j))]) hx hb dX0_weigh_61 hl (by decide) rfl (fun ls hl => ?_)
        refine cn_iinc (lv' := [(6, .int (nI (j + 1))), (5, .int (wgS wt t (j + 1))), (0, .ref (g 0)), (1, .int wt), (2, .int q), (3, .int nn), (4, .int (nI t))]) hx hb dX0_weigh_63 hl (k := 6) rfl (by decide) rfl (fun ls hl => ?_)
        refine lv_goto (tgt := 32) hx hb dX0_weigh_66 (by decide) ?_
        exact ih (j + 1) ls (by omega) (by omega) (lv_sub hl [2, 3, 4, 5, 6, 1, 0] rfl)
end
section
variable {p : Program} {l : Launch} {e : Env} {R : Room} {s : State} {m : MethodId} {args : Array Value} {below : List Frame} {meth : Method} {c : Code} {H : Heap} {locs : List Loc} {cells slots : Nat} {Q : State → Prop} {A : Nat → Prop}
variable {D : va_G} {d : Nat → ClassId} {g : Nat → Nat} {w am pt mv sp : Nat → Int32}
set_option maxHeartbeats 4000000 in
set_option maxRecDepth 100000 in
theorem x0_weigh_lp (F : CallFix p m c cX0_weigh 7 s args lw_all RX0) (hK : va_K D vwCl (tX0 d) s) {wt q : Int32} (K : ∀ (H : Heap) (locs : List Loc), va_P D vwCl (wX0 d g (wgW wt q w 1 32, am, pt, mv, sp)) H → va_D A (wX0 d g (wgW wt q w 1 32, am, pt, mv, sp)) → va_S A s.heap H locs → ∀ ls : Array Slot, lv_has ls 7 [(0, .ref (g 0)), (1, .int wt), (2, .int q), (3, .int (wgN wt q 32)), (4, .int (nI 32))] → W p l e R s m args below meth c H locs cells slots Q (F0 m 103 ls [])) : ∀ (n t : Nat), 1 ≤ t → t ≤ 32 → 32 - t < n → ∀ (H : Heap) (locs : List Loc), va_P D vwCl (wX0 d g (wgW wt q w 1 t, am, pt, mv, sp)) H → va_D A (wX0 d g (wgW wt q w 1 t, am, pt, mv, sp)) → va_S A s.heap H locs → ∀ (ls : Array Slot), lv_has ls 7 [(0, .ref (g 0)), (1, .int wt), (2, .int q), (3, .int (wgN wt q t)), (4, .int (nI t))] → W p l e R s m args below meth c H locs cells slots Q (F0 m 19 ls []) := by
  have hx := F.1
  have hb := F.2.1
  have hown := F.2.2.2.1
  have hts := F.2.2.2.2
  intro n
  induction n with
  | zero => intro t h0 h1 h2; omega
  | succ n ih =>
    intro t h1 ht hn H locs hP hD hS ls hl
    refine lv_iload hx hb dX0_weigh_19 (lv_at hl 4 rfl) ?_
    refine lv_bipush (v := nI 32) hx hb dX0_weigh_21 (by decide +kernel) ?_
    refine cn_ge (tgt := 103) hx hb (by omega) (by decide) dX0_weigh_23 (by decide) (fun c_23 => ?_) (fun c_23 => ?_)
    · obtain rfl : t = 32 := by omega
      exact K H locs hP hD hS ls (lv_sub hl [0, 1, 2, 3, 4] rfl)
    · refine lv_iconst (v := 0) hx hb dX0_weigh_26 (by decide +kernel) ?_
      refine lv_istore (lv' := [(5, .int 0), (0, .ref (g 0)), (1, .int wt), (2, .int q), (3, .int (wgN wt q t)), (4, .int (nI t))]) hx hb dX0_weigh_27 hl (by decide) rfl (fun ls hl => ?_)
      refine lv_iconst (v := nI 0) hx hb dX0_weigh_29 (by decide +kernel) ?_
      refine lv_istore (lv' := [(6, .int (nI 0)), (5, .int 0), (0, .ref (g 0)), (1, .int wt), (2, .int q), (3, .int (wgN wt q t)), (4, .int (nI t))]) hx hb dX0_weigh_30 hl (by decide) rfl (fun ls hl => ?_)
      refine x0_weigh_in F (by omega) (fun ls hl => ?_) 6 0 ls (by omega) (by omega) (lv_sub hl [2, 3, 4, 5, 6, 1, 0] rfl)
      refine lv_aload_n hx hb dX0_weigh_69 rfl (lv_at hl 0 rfl) ?_
      refine va_get (D := D) (ci := 0) (v := .ref (g 1)) (C := RX0) (T := TX0) (N := 5) hx hb hts in_X0 hown hK hP 0 rfl rfl 0 (by decide) (hts _ q18) (fun _ h9 => h9) rfl dX0_weigh_70 ?_
      refine lv_iload hx hb dX0_weigh_73 (lv_at hl 4 rfl) ?_
      refine lv_iload hx hb dX0_weigh_75 (lv_at hl 5 rfl) ?_
      refine lv_iload_n hx hb dX0_weigh_77 rfl (lv_at hl 2 rfl) ?_
      refine lv_icmp_lt (tgt := 85) hx hb dX0_weigh_78 (by decide) (fun c_78 => ?_) (fun c_78 => ?_)
      · refine lv_iconst (v := 0) hx hb dX0_weigh_85 (by decide +kernel) ?_
        refine cv_set (y := wgV wt q t) (wgV_0 c_78) ?_
        refine cv_ast hx hb hK hP hD hS 1 0 rfl rfl (by decide) (by omega) dX0_weigh_86 (fun H locs hP hD hS => ?_)
        have hP : va_P D vwCl (wX0 d g (upd (wgW wt q w 1 t) t (wgV wt q t), am, pt, mv, sp)) H := hP
        have hD : va_D A (wX0 d g (upd (wgW wt q w 1 t) t (wgV wt q t), am, pt, mv, sp)) := hD
        rw [wgW_up (by omega)] at hP hD
        refine lv_iload_n hx hb dX0_weigh_87 rfl (lv_at hl 3 rfl) ?_
        refine lv_aload_n hx hb dX0_weigh_88 rfl (lv_at hl 0 rfl) ?_
        refine va_get (D := D) (ci := 0) (v := .ref (g 1)) (C := RX0) (T := TX0) (N := 5) hx hb hts in_X0 hown hK hP 0 rfl rfl 0 (by decide) (hts _ q18) (fun _ h9 => h9) rfl dX0_weigh_89 ?_
        refine lv_iload hx hb dX0_weigh_92 (lv_at hl 4 rfl) ?_
        refine cv_ald hx hb hK hP 1 0 rfl rfl (by decide) (by omega) dX0_weigh_94 ?_
        refine cv_set (y := wgV wt q t) (wgW_at (by omega) (by omega)) ?_
        refine lv_iadd hx hb dX0_weigh_95 ?_
        refine cv_set (y := wgN wt q (t + 1)) rfl ?_
        refine lv_istore_n (lv' := [(3, .int (wgN wt q (t + 1))), (0, .ref (g 0)), (1, .int wt), (2, .int q), (4, .int (nI t)), (5, .int (wgS wt t 5)), (6, .int (nI 5))]) hx hb dX0_weigh_96 rfl hl (by decide) rfl (fun ls hl => ?_)
        refine cn_iinc (lv' := [(4, .int (nI (t + 1))), (3, .int (wgN wt q (t + 1))), (0, .ref (g 0)), (1, .int wt), (2, .int q), (5, .int (wgS wt t 5)), (6, .int (nI 5))]) hx hb dX0_weigh_97 hl (k := 4) rfl (by decide) rfl (fun ls hl => ?_)
        refine lv_goto (tgt := 19) hx hb dX0_weigh_100 (by decide) ?_
        exact ih (t + 1) (by omega) (by omega) (by omega) H locs hP hD hS ls (lv_sub hl [2, 3, 4, 1, 0] rfl)
      · refine lv_iconst (v := 1) hx hb dX0_weigh_81 (by decide +kernel) ?_
        refine cv_set (y := wgV wt q t) (wgV_1 c_78) ?_
        refine lv_goto (tgt := 86) hx hb dX0_weigh_82 (by decide) ?_
        refine cv_ast hx hb hK hP hD hS 1 0 rfl rfl (by decide) (by omega) dX0_weigh_86 (fun H locs hP hD hS => ?_)
        have hP : va_P D vwCl (wX0 d g (upd (wgW wt q w 1 t) t (wgV wt q t), am, pt, mv, sp)) H := hP
        have hD : va_D A (wX0 d g (upd (wgW wt q w 1 t) t (wgV wt q t), am, pt, mv, sp)) := hD
        rw [wgW_up (by omega)] at hP hD
        refine lv_iload_n hx hb dX0_weigh_87 rfl (lv_at hl 3 rfl) ?_
        refine lv_aload_n hx hb dX0_weigh_88 rfl (lv_at hl 0 rfl) ?_
        refine va_get (D := D) (ci := 0) (v := .ref (g 1)) (C := RX0) (T := TX0) (N := 5) hx hb hts in_X0 hown hK hP 0 rfl rfl 0 (by decide) (hts _ q18) (fun _ h9 => h9) rfl dX0_weigh_89 ?_
        refine lv_iload hx hb dX0_weigh_92 (lv_at hl 4 rfl) ?_
        refine cv_ald hx hb hK hP 1 0 rfl rfl (by decide) (by omega) dX0_weigh_94 ?_
        refine cv_set (y := wgV wt q t) (wgW_at (by omega) (by omega)) ?_
        refine lv_iadd hx hb dX0_weigh_95 ?_
        refine cv_set (y := wgN wt q (t + 1)) rfl ?_
        refine lv_istore_n (lv' := [(3, .int (wgN wt q (t + 1))), (0, .ref (g 0)), (1, .int wt), (2, .int q), (4, .int (nI t)), (5, .int (wgS wt t 5)), (6, .int (nI 5))]) hx hb dX0_weigh_96 rfl hl (by decide) rfl (fun ls hl => ?_)
        refine cn_iinc (lv' := [(4, .int (nI (t + 1))), (3, .int (wgN wt q (t + 1))), (0, .ref (g 0)), (1, .int wt), (2, .int q), (5, .int (wgS wt t 5)), (6, .int (nI 5))]) hx hb dX0_weigh_97 hl (k := 4) rfl (by decide) rfl (fun ls hl => ?_)
        refine lv_goto (tgt := 19) hx hb dX0_weigh_100 (by decide) ?_
        exact ih (t + 1) (by omega) (by omega) (by omega) H locs hP hD hS ls (lv_sub hl [2, 3, 4, 1, 0] rfl)
end
set_option maxHeartbeats 4000000 in
set_option maxRecDepth 100000 in
theorem x0_weigh (l : Launch) (D : va_G) (d : Nat → ClassId) (g : Nat → Nat) (sz : Nat) (w am pt mv sp : Nat → Int32) (wt q : Int32) (h0 : w 0 = 0) : CM l yX0_weigh cX0_weigh 7 (some .int) cvr0 D (wX0 d g) (tX0 d) (g 0) sz (w, am, pt, mv, sp) [.int wt, .int q] (fun r u => (r, u) = ((weighF wt q w).1, ((weighF wt q w).2, am, pt, mv, sp))) := by
  refine cm_start (by decide) (Nat.le_of_ble_eq_true rfl) ?_
  intro p e s m below meth c ls A F hr hlocks hA hP hK hD hS hl
  have hx := F.1
  have hb := F.2.1
  have hown := F.2.2.2.1
  have hts := F.2.2.2.2
  have hl : lv_has ls 7 [(0, .ref (g 0)), (1, .int wt), (2, .int q)] := hl
  have hP : va_P D vwCl (wX0 d g (w, am, pt, mv, sp)) s.heap := hP
  have hD : va_D A (wX0 d g (w, am, pt, mv, sp)) := hD
  refine lv_iload_n hx hb dX0_weigh_0 rfl (lv_at hl 2 rfl) ?_
  refine lv_iconst (v := nI 1) hx hb dX0_weigh_1 (by decide +kernel) ?_
  refine lv_icmp_lt (tgt := 11) hx hb dX0_weigh_2 (by decide) (fun c_2 => ?_) (fun c_2 => ?_)
  · refine lv_bipush (v := (-2)) hx hb dX0_weigh_11 (by decide +kernel) ?_
    exact cm_ret hx hb hr hlocks rfl (w, am, pt, mv, sp) (by unfold weighF; rw [if_pos (by first | exact Or.inl c_2 | exact Or.inr c_8)]) hP hK hD hS dX0_weigh_13
  · refine lv_iload_n hx hb dX0_weigh_5 rfl (lv_at hl 2 rfl) ?_
    refine lv_bipush (v := nI 75) hx hb dX0_weigh_6 (by decide +kernel) ?_
    refine lv_icmp_le (tgt := 14) hx hb dX0_weigh_8 (by decide) (fun c_8 => ?_) (fun c_8 => ?_)
    · refine lv_iconst (v := 0) hx hb dX0_weigh_14 (by decide +kernel) ?_
      refine lv_istore_n (lv' := [(3, .int 0), (0, .ref (g 0)), (1, .int wt), (2, .int q)]) hx hb dX0_weigh_15 rfl hl (by decide) rfl (fun ls hl => ?_)
      refine lv_iconst (v := nI 1) hx hb dX0_weigh_16 (by decide +kernel) ?_
      refine lv_istore (lv' := [(4, .int (nI 1)), (3, .int 0), (0, .ref (g 0)), (1, .int wt), (2, .int q)]) hx hb dX0_weigh_17 hl (by decide) rfl (fun ls hl => ?_)
      have hl : lv_has ls 7 [(0, .ref (g 0)), (1, .int wt), (2, .int q), (3, .int (wgN wt q 1)), (4, .int (nI 1))] := by rw [wgN_z c_2]; exact (lv_sub hl [2, 3, 4, 1, 0] rfl)
      have hP : va_P D vwCl (wX0 d g (wgW wt q w 1 1, am, pt, mv, sp)) s.heap := by rw [wgW_nil]; exact hP
      have hD : va_D A (wX0 d g (wgW wt q w 1 1, am, pt, mv, sp)) := by rw [wgW_nil]; exact hD
      refine x0_weigh_lp F hK (fun H locs hP hD hS ls hl => ?_) 32 1 (by omega) (by omega) (by omega) _ _ hP hD hS ls hl
      refine lv_iload_n hx hb dX0_weigh_103 rfl (lv_at hl 3 rfl) ?_
      exact cm_ret hx hb hr hlocks rfl (wgW wt q w 1 32, am, pt, mv, sp) (by unfold weighF; rw [if_neg (by rintro (h | h); exact c_2 h; exact h c_8), wgW_z c_2 h0]) hP hK hD hS dX0_weigh_104
    · refine lv_bipush (v := (-2)) hx hb dX0_weigh_11 (by decide +kernel) ?_
      exact cm_ret hx hb hr hlocks rfl (w, am, pt, mv, sp) (by unfold weighF; rw [if_pos (by first | exact Or.inl c_2 | exact Or.inr c_8)]) hP hK hD hS dX0_weigh_13

set_option maxHeartbeats 4000000 in
set_option maxRecDepth 100000 in
theorem x0_exchanged (l : Launch) (sz : Nat) {t a b : Nat} (ht : t < 32) (ha : a < 5) (hb5 : b < 5) : CS l yX0_exchanged cX0_exchanged 5 (some .int) cvr0 sz [.int (nI t), .int (nI a), .int (nI b)] (fun r _ => r = nI (exN t a b)) := by
  refine cs_start (by decide) (Nat.le_of_ble_eq_true rfl) ?_
  intro p e s m below meth c ls A F hr hlocks hS hl
  have hx := F.1
  have hb := F.2.1
  have hown := F.2.2.2.1
  have hts := F.2.2.2.2
  have hl : lv_has ls 5 [(0, .int (nI t)), (1, .int (nI a)), (2, .int (nI b))] := hl
  refine lv_iload_n hx hb dX0_exchanged_0 rfl (lv_at hl 0 rfl) ?_
  refine lv_iload_n hx hb dX0_exchanged_1 rfl (lv_at hl 1 rfl) ?_
  refine cn_ishr hx hb (by omega) (by omega) dX0_exchanged_2 ?_
  refine lv_iconst (v := nI 1) hx hb dX0_exchanged_3 (by decide +kernel) ?_
  refine cn_iand hx hb dX0_exchanged_4 ?_
  refine lv_istore_n (lv' := [(3, .int (nI (bt t a))), (0, .int (nI t)), (1, .int (nI a)), (2, .int (nI b))]) hx hb dX0_exchanged_5 rfl hl (by decide) rfl (fun ls hl => ?_)
  refine lv_iload_n hx hb dX0_exchanged_6 rfl (lv_at hl 1 rfl) ?_
  refine lv_iload_n hx hb dX0_exchanged_7 rfl (lv_at hl 3 rfl) ?_
  refine cn_ishr hx hb (by omega) (by omega) dX0_exchanged_8 ?_
  refine lv_iconst (v := nI 1) hx hb dX0_exchanged_9 (by decide +kernel) ?_
  refine cn_iand hx hb dX0_exchanged_10 ?_
  refine lv_istore (lv' := [(4, .int (nI (bt t b))), (3, .int (nI (bt t a))), (0, .int (nI t)), (1, .int (nI a)), (2, .int (nI b))]) hx hb dX0_exchanged_11 hl (by decide) rfl (fun ls hl => ?_)
  refine lv_iload_n hx hb dX0_exchanged_13 rfl (lv_at hl 1 rfl) ?_
  refine lv_iload hx hb dX0_exchanged_14 (lv_at hl 0 rfl) ?_
  refine cn_ne (tgt := 23) hx hb (Nat.lt_trans (bt_lt _ _) (by decide)) (Nat.lt_trans (bt_lt _ _) (by decide)) dX0_exchanged_16 (by decide) (fun c_16 => ?_) (fun c_16 => ?_)
  · refine lv_iload_n hx hb dX0_exchanged_23 rfl (lv_at hl 2 rfl) ?_
    refine lv_iconst (v := nI 1) hx hb dX0_exchanged_24 (by decide +kernel) ?_
    refine lv_iload_n hx hb dX0_exchanged_25 rfl (lv_at hl 3 rfl) ?_
    refine cn_ishl hx hb (shlB (by omega)) (by omega) dX0_exchanged_26 ?_
    refine cn_ixor hx hb dX0_exchanged_27 ?_
    refine lv_iconst (v := nI 1) hx hb dX0_exchanged_28 (by decide +kernel) ?_
    refine lv_iload_n hx hb dX0_exchanged_29 rfl (lv_at hl 4 rfl) ?_
    refine cn_ishl hx hb (shlB (by omega)) (by omega) dX0_exchanged_30 ?_
    refine cn_ixor hx hb dX0_exchanged_31 ?_
    exact cs_ret hx hb hr hlocks rfl (by unfold exN; rw [if_neg c_16]) hS dX0_exchanged_32
  · refine lv_iload_n hx hb dX0_exchanged_19 rfl (lv_at hl 2 rfl) ?_
    refine lv_goto (tgt := 32) hx hb dX0_exchanged_20 (by decide) ?_
    exact cs_ret hx hb hr hlocks rfl (by unfold exN; rw [if_pos c_16]) hS dX0_exchanged_32

theorem exchF_l {x y : Int32} {w : Nat → Int32} (h : pl5 x = none) : exchF x y w = (-3, w) := by
  unfold exchF
  rw [h]
theorem exchF_r {x y : Int32} {w : Nat → Int32} (h : pl5 y = none) : exchF x y w = (-3, w) := by
  unfold exchF
  rw [h]
  cases pl5 x <;> rfl
theorem exchF_ok {x y : Int32} {w : Nat → Int32} {i j : Nat} (h : pl5 x = some i) (h2 : pl5 y = some j) : exchF x y w = (nI 0, exW i j w 32) := by
  unfold exchF
  rw [h, h2]
theorem exS {w mv : Nat → Int32} {t a b : Nat} (ht : t < 32) (ha : a < 5) (hb : b < 5) (h : ∀ i, i < t → mv (exN i a b) = w i) : ∀ i, i < t + 1 → upd mv (exN t a b) (w t) (exN i a b) = w i := by
  intro i hi
  unfold upd
  by_cases e : i = t
  · subst e
    rw [if_pos rfl]
  · rw [if_neg (fun q => e (by rw [← exN_inv (s := i) (by omega) ha hb, q, exN_inv ht ha hb])), h i (by omega)]
theorem exJ {w mv : Nat → Int32} {a b : Nat} (ha : a < 5) (hb : b < 5) (h : ∀ i, i < 32 → mv (exN i a b) = w i) : ∀ i, i < 32 → mv i = w (exN i a b) := by
  intro i hi
  rw [← h _ (exN_lt hi ha hb), exN_inv hi ha hb]
section
variable {p : Program} {l : Launch} {e : Env} {R : Room} {s : State} {m : MethodId} {args : Array Value} {below : List Frame} {meth : Method} {c : Code} {H : Heap} {locs : List Loc} {cells slots : Nat} {Q : State → Prop} {A : Nat → Prop}
variable {D : va_G} {d : Nat → ClassId} {g : Nat → Nat} {w am pt mv sp : Nat → Int32}
set_option maxHeartbeats 4000000 in
set_option maxRecDepth 100000 in
theorem x0_exch_l1 (F : CallFix p m c cX0_exchange 4 s args lw_all RX0) (hA : ∀ q : Nat, s.heap.size ≤ q → A q) (hK : va_K D vwCl (tX0 d) s) {a b : Nat} (ha : a < 5) (hb5 : b < 5) (K : ∀ mv : Nat → Int32, (∀ i, i < 32 → mv (exN i a b) = w i) → ∀ (H : Heap) (locs : List Loc), va_P D vwCl (wX0 d g (w, am, pt, mv, sp)) H → va_D A (wX0 d g (w, am, pt, mv, sp)) → va_S A s.heap H locs → ∀ ls : Array Slot, lv_has ls 4 [(0, .ref (g 0)), (1, .int (nI a)), (2, .int (nI b)), (3, .int (nI 32))] → W p l e cvr1 s m args below meth c H locs 0 0 Q (F0 m 48 ls [])) : ∀ (n t : Nat) (mv : Nat → Int32), t ≤ 32 → 32 - t < n → (∀ i, i < t → mv (exN i a b) = w i) → ∀ (H : Heap) (locs : List Loc), va_P D vwCl (wX0 d g (w, am, pt, mv, sp)) H → va_D A (wX0 d g (w, am, pt, mv, sp)) → va_S A s.heap H locs → ∀ (ls : Array Slot), lv_has ls 4 [(0, .ref (g 0)), (1, .int (nI a)), (2, .int (nI b)), (3, .int (nI t))] → W p l e cvr1 s m args below meth c H locs 0 0 Q (F0 m 19 ls []) := by
  have hx := F.1
  have hb := F.2.1
  have hown := F.2.2.2.1
  have hts := F.2.2.2.2
  intro n
  induction n with
  | zero => intro t mv h1 h2; omega
  | succ n ih =>
    intro t mv ht hn hmv H locs hP hD hS ls hl
    refine lv_iload_n hx hb dX0_exchange_19 rfl (lv_at hl 3 rfl) ?_
    refine lv_bipush (v := nI 32) hx hb dX0_exchange_20 (by decide +kernel) ?_
    refine cn_ge (tgt := 48) hx hb (by omega) (by decide) dX0_exchange_22 (by decide) (fun c_22 => ?_) (fun c_22 => ?_)
    · obtain rfl : t = 32 := by omega
      exact K mv hmv H locs hP hD hS ls (lv_sub hl [0, 1, 2, 3] rfl)
    · refine lv_aload_n hx hb dX0_exchange_25 rfl (lv_at hl 0 rfl) ?_
      refine va_get (D := D) (ci := 0) (v := .ref (g 4)) (C := RX0) (T := TX0) (N := 5) hx hb hts in_X0 hown hK hP 0 rfl rfl 3 (by decide) (hts _ q21) (fun _ h9 => h9) rfl dX0_exchange_26 ?_
      refine lv_iload_n hx hb dX0_exchange_29 rfl (lv_at hl 3 rfl) ?_
      refine lv_iload_n hx hb dX0_exchange_30 rfl (lv_at hl 1 rfl) ?_
      refine lv_iload_n hx hb dX0_exchange_31 rfl (lv_at hl 2 rfl) ?_
      refine cs_call (rest := [.ref (g 4)]) F (x0_exchanged l _ (t := t) (a := a) (b := b) (by omega) ha hb5) (va_cwS 3 hts (lw_S q57 q58 q8 q59) rfl rfl rfl (by decide +kernel) ⟨Nat.le_of_ble_eq_true rfl, Nat.le_of_ble_eq_true rfl⟩) hP hS hA rfl hl.1 rfl (Nat.le_of_ble_eq_true rfl) ⟨Nat.zero_le _, Nat.zero_le _⟩ dX0_exchange_32 (fun r H locs hw hP hS => ?_)
      obtain rfl := hw
      refine lv_aload_n hx hb dX0_exchange_35 rfl (lv_at hl 0 rfl) ?_
      refine va_get (D := D) (ci := 0) (v := .ref (g 1)) (C := RX0) (T := TX0) (N := 5) hx hb hts in_X0 hown hK hP 0 rfl rfl 0 (by decide) (hts _ q18) (fun _ h9 => h9) rfl dX0_exchange_36 ?_
      refine lv_iload_n hx hb dX0_exchange_39 rfl (lv_at hl 3 rfl) ?_
      refine cv_ald hx hb hK hP 1 0 rfl rfl (by decide) (by omega) dX0_exchange_40 ?_
      refine cv_ast hx hb hK hP hD hS 4 3 rfl rfl (by decide) (exN_lt (by omega) ha hb5) dX0_exchange_41 (fun H locs hP hD hS => ?_)
      have hP : va_P D vwCl (wX0 d g (w, am, pt, upd mv (exN t a b) (w t), sp)) H := hP
      have hD : va_D A (wX0 d g (w, am, pt, upd mv (exN t a b) (w t), sp)) := hD
      refine cn_iinc (lv' := [(3, .int (nI (t + 1))), (0, .ref (g 0)), (1, .int (nI a)), (2, .int (nI b))]) hx hb dX0_exchange_42 hl (k := 3) rfl (by decide) rfl (fun ls hl => ?_)
      refine lv_goto (tgt := 19) hx hb dX0_exchange_45 (by decide) ?_
      exact ih (t + 1) _ (by omega) (by omega) (exS (by omega) ha hb5 hmv) H locs hP hD hS ls (lv_sub hl [1, 2, 3, 0] rfl)
end
section
variable {p : Program} {l : Launch} {e : Env} {R : Room} {s : State} {m : MethodId} {args : Array Value} {below : List Frame} {meth : Method} {c : Code} {H : Heap} {locs : List Loc} {cells slots : Nat} {Q : State → Prop} {A : Nat → Prop}
variable {D : va_G} {d : Nat → ClassId} {g : Nat → Nat} {w am pt mv sp : Nat → Int32}
set_option maxHeartbeats 4000000 in
set_option maxRecDepth 100000 in
theorem x0_exch_l2 (F : CallFix p m c cX0_exchange 4 s args lw_all RX0) (hK : va_K D vwCl (tX0 d) s) {a b : Nat} (hmv : ∀ i, i < 32 → mv i = w (exN i a b)) (K : ∀ (H : Heap) (locs : List Loc), va_P D vwCl (wX0 d g (exW a b w 32, am, pt, mv, sp)) H → va_D A (wX0 d g (exW a b w 32, am, pt, mv, sp)) → va_S A s.heap H locs → ∀ ls : Array Slot, lv_has ls 4 [(0, .ref (g 0)), (1, .int (nI a)), (2, .int (nI b)), (3, .int (nI 32))] → W p l e R s m args below meth c H locs cells slots Q (F0 m 74 ls [])) : ∀ (n t : Nat), t ≤ 32 → 32 - t < n → ∀ (H : Heap) (locs : List Loc), va_P D vwCl (wX0 d g (exW a b w t, am, pt, mv, sp)) H → va_D A (wX0 d g (exW a b w t, am, pt, mv, sp)) → va_S A s.heap H locs → ∀ (ls : Array Slot), lv_has ls 4 [(0, .ref (g 0)), (1, .int (nI a)), (2, .int (nI b)), (3, .int (nI t))] → W p l e R s m args below meth c H locs cells slots Q (F0 m 50 ls []) := by
  have hx := F.1
  have hb := F.2.1
  have hown := F.2.2.2.1
  have hts := F.2.2.2.2
  intro n
  induction n with
  | zero => intro t h1 h2; omega
  | succ n ih =>
    intro t ht hn H locs hP hD hS ls hl
    refine lv_iload_n hx hb dX0_exchange_50 rfl (lv_at hl 3 rfl) ?_
    refine lv_bipush (v := nI 32) hx hb dX0_exchange_51 (by decide +kernel) ?_
    refine cn_ge (tgt := 74) hx hb (by omega) (by decide) dX0_exchange_53 (by decide) (fun c_53 => ?_) (fun c_53 => ?_)
    · obtain rfl : t = 32 := by omega
      exact K H locs hP hD hS ls (lv_sub hl [0, 1, 2, 3] rfl)
    · refine lv_aload_n hx hb dX0_exchange_56 rfl (lv_at hl 0 rfl) ?_
      refine va_get (D := D) (ci := 0) (v := .ref (g 1)) (C := RX0) (T := TX0) (N := 5) hx hb hts in_X0 hown hK hP 0 rfl rfl 0 (by decide) (hts _ q18) (fun _ h9 => h9) rfl dX0_exchange_57 ?_
      refine lv_iload_n hx hb dX0_exchange_60 rfl (lv_at hl 3 rfl) ?_
      refine lv_aload_n hx hb dX0_exchange_61 rfl (lv_at hl 0 rfl) ?_
      refine va_get (D := D) (ci := 0) (v := .ref (g 4)) (C := RX0) (T := TX0) (N := 5) hx hb hts in_X0 hown hK hP 0 rfl rfl 3 (by decide) (hts _ q21) (fun _ h9 => h9) rfl dX0_exchange_62 ?_
      refine lv_iload_n hx hb dX0_exchange_65 rfl (lv_at hl 3 rfl) ?_
      refine cv_ald hx hb hK hP 4 3 rfl rfl (by decide) (by omega) dX0_exchange_66 ?_
      refine cv_set (y := w (exN t a b)) (hmv t (by omega)) ?_
      refine cv_ast hx hb hK hP hD hS 1 0 rfl rfl (by decide) (by omega) dX0_exchange_67 (fun H locs hP hD hS => ?_)
      have hP : va_P D vwCl (wX0 d g (upd (exW a b w t) t (w (exN t a b)), am, pt, mv, sp)) H := hP
      have hD : va_D A (wX0 d g (upd (exW a b w t) t (w (exN t a b)), am, pt, mv, sp)) := hD
      rw [exW_up] at hP hD
      refine cn_iinc (lv' := [(3, .int (nI (t + 1))), (0, .ref (g 0)), (1, .int (nI a)), (2, .int (nI b))]) hx hb dX0_exchange_68 hl (k := 3) rfl (by decide) rfl (fun ls hl => ?_)
      refine lv_goto (tgt := 50) hx hb dX0_exchange_71 (by decide) ?_
      exact ih (t + 1) (by omega) (by omega) H locs hP hD hS ls (lv_sub hl [1, 2, 3, 0] rfl)
end
set_option maxHeartbeats 4000000 in
set_option maxRecDepth 100000 in
theorem x0_exchange (l : Launch) (D : va_G) (d : Nat → ClassId) (g : Nat → Nat) (sz : Nat) (w am pt mv sp : Nat → Int32) (x y : Int32) : CM l yX0_exchange cX0_exchange 4 (some .int) cvr1 D (wX0 d g) (tX0 d) (g 0) sz (w, am, pt, mv, sp) [.int x, .int y] (fun r u => r = (exchF x y w).1 ∧ u.1 = (exchF x y w).2 ∧ u.2.1 = am) := by
  refine cm_start (by decide) (Nat.le_of_ble_eq_true rfl) ?_
  intro p e s m below meth c ls A F hr hlocks hA hP hK hD hS hl
  have hx := F.1
  have hb := F.2.1
  have hown := F.2.2.2.1
  have hts := F.2.2.2.2
  have hl : lv_has ls 4 [(0, .ref (g 0)), (1, .int x), (2, .int y)] := hl
  have hP : va_P D vwCl (wX0 d g (w, am, pt, mv, sp)) s.heap := hP
  have hD : va_D A (wX0 d g (w, am, pt, mv, sp)) := hD
  refine lv_iload_n hx hb dX0_exchange_0 rfl (lv_at hl 1 rfl) ?_
  refine cs_call (rest := []) F (x0_badPlayer l _ (x)) (va_cwS 1 hts (lw_S q46 q47 q8 q48) rfl rfl rfl (by decide +kernel) ⟨Nat.le_of_ble_eq_true rfl, Nat.le_of_ble_eq_true rfl⟩) hP hS hA rfl hl.1 rfl (Nat.le_of_ble_eq_true rfl) ⟨Nat.zero_le _, Nat.zero_le _⟩ dX0_exchange_1 (fun r H locs hw hP hS => ?_)
  rcases hw with ⟨rfl, h1⟩ | ⟨a, rfl, h1⟩
  · refine cz_ne (tgt := 14) hx hb (by decide) dX0_exchange_4 (by decide) (fun h9 => ?_) (fun h9 => absurd h9 (by decide))
    refine lv_bipush (v := (-3)) hx hb dX0_exchange_14 (by decide +kernel) ?_
    exact cm_ret hx hb hr hlocks rfl (w, am, pt, mv, sp) (by first | (rw [exchF_l h1]; exact ⟨rfl, rfl, rfl⟩) | (rw [exchF_r h8]; exact ⟨rfl, rfl, rfl⟩)) hP hK hD hS dX0_exchange_16
  · obtain ⟨hk_a, rfl⟩ := pl5_some h1
    refine cz_ne (tgt := 14) hx hb (by decide) dX0_exchange_4 (by decide) (fun h9 => absurd h9 (by decide)) (fun h9 => ?_)
    refine lv_iload_n hx hb dX0_exchange_7 rfl (lv_at hl 2 rfl) ?_
    refine cs_call (rest := []) F (x0_badPlayer l _ (y)) (va_cwS 1 hts (lw_S q46 q47 q8 q48) rfl rfl rfl (by decide +kernel) ⟨Nat.le_of_ble_eq_true rfl, Nat.le_of_ble_eq_true rfl⟩) hP hS hA rfl hl.1 rfl (Nat.le_of_ble_eq_true rfl) ⟨Nat.zero_le _, Nat.zero_le _⟩ dX0_exchange_8 (fun r H locs hw hP hS => ?_)
    rcases hw with ⟨rfl, h8⟩ | ⟨b, rfl, h8⟩
    · refine cz_eq (tgt := 17) hx hb (by decide) dX0_exchange_11 (by decide) (fun h9 => absurd h9 (by decide)) (fun h9 => ?_)
      refine lv_bipush (v := (-3)) hx hb dX0_exchange_14 (by decide +kernel) ?_
      exact cm_ret hx hb hr hlocks rfl (w, am, pt, mv, sp) (by first | (rw [exchF_l h1]; exact ⟨rfl, rfl, rfl⟩) | (rw [exchF_r h8]; exact ⟨rfl, rfl, rfl⟩)) hP hK hD hS dX0_exchange_16
    · obtain ⟨hk_b, rfl⟩ := pl5_some h8
      refine cz_eq (tgt := 17) hx hb (by decide) dX0_exchange_11 (by decide) (fun h9 => ?_) (fun h9 => absurd h9 (by decide))
      refine lv_iconst (v := nI 0) hx hb dX0_exchange_17 (by decide +kernel) ?_
      refine lv_istore_n (lv' := [(3, .int (nI 0)), (0, .ref (g 0)), (1, .int (nI a)), (2, .int (nI b))]) hx hb dX0_exchange_18 rfl hl (by decide) rfl (fun ls hl => ?_)
      refine x0_exch_l1 F hA hK hk_a hk_b (fun mv hmv H locs hP hD hS ls hl => ?_) 33 0 _ (by omega) (by omega) (fun i h => by omega) _ _ hP hD hS ls (lv_sub hl [1, 2, 3, 0] rfl)
      refine lv_iconst (v := nI 0) hx hb dX0_exchange_48 (by decide +kernel) ?_
      refine lv_istore_n (lv' := [(3, .int (nI 0)), (0, .ref (g 0)), (1, .int (nI a)), (2, .int (nI b))]) hx hb dX0_exchange_49 rfl hl (by decide) rfl (fun ls hl => ?_)
      have hP : va_P D vwCl (wX0 d g (exW a b w 0, am, pt, mv, sp)) H := hP
      have hD : va_D A (wX0 d g (exW a b w 0, am, pt, mv, sp)) := hD
      refine x0_exch_l2 F hK (exJ hk_a hk_b hmv) (fun H locs hP hD hS ls hl => ?_) 33 0 (by omega) (by omega) _ _ hP hD hS ls (lv_sub hl [1, 2, 3, 0] rfl)
      refine lv_iconst (v := nI 0) hx hb dX0_exchange_74 (by decide +kernel) ?_
      exact cm_ret hx hb hr hlocks rfl (exW a b w 32, am, pt, mv, sp) (by rw [exchF_ok h1 h8]; exact ⟨rfl, rfl, rfl⟩) hP hK hD hS dX0_exchange_75

theorem cpS {w pt : Nat → Int32} {t : Nat} (h : ∀ i, i < t → pt i = w i) : ∀ i, i < t + 1 → upd pt t (w t) i = w i := by
  intro i hi
  unfold upd
  by_cases e : i = t
  · subst e
    rw [if_pos rfl]
  · rw [if_neg e, h i (by omega)]
section
variable {p : Program} {l : Launch} {e : Env} {R : Room} {s : State} {m : MethodId} {args : Array Value} {below : List Frame} {meth : Method} {c : Code} {H : Heap} {locs : List Loc} {cells slots : Nat} {Q : State → Prop} {A : Nat → Prop}
variable {D : va_G} {d : Nat → ClassId} {g : Nat → Nat} {w am pt mv sp : Nat → Int32}
set_option maxHeartbeats 4000000 in
set_option maxRecDepth 100000 in
theorem x0_fp_l1 (F : CallFix p m c cX0_findParts 3 s args lw_all RX0) (hK : va_K D vwCl (tX0 d) s) (K : ∀ pt : Nat → Int32, (∀ i, i < 32 → pt i = w i) → ∀ (H : Heap) (locs : List Loc), va_P D vwCl (wX0 d g (w, am, pt, mv, sp)) H → va_D A (wX0 d g (w, am, pt, mv, sp)) → va_S A s.heap H locs → ∀ ls : Array Slot, lv_has ls 3 [(0, .ref (g 0)), (1, .int (nI 32))] → W p l e R s m args below meth c H locs cells slots Q (F0 m 26 ls [])) : ∀ (n t : Nat) (pt : Nat → Int32), t ≤ 32 → 32 - t < n → (∀ i, i < t → pt i = w i) → ∀ (H : Heap) (locs : List Loc), va_P D vwCl (wX0 d g (w, am, pt, mv, sp)) H → va_D A (wX0 d g (w, am, pt, mv, sp)) → va_S A s.heap H locs → ∀ (ls : Array Slot), lv_has ls 3 [(0, .ref (g 0)), (1, .int (nI t))] → W p l e R s m args below meth c H locs cells slots Q (F0 m 2 ls []) := by
  have hx := F.1
  have hb := F.2.1
  have hown := F.2.2.2.1
  have hts := F.2.2.2.2
  intro n
  induction n with
  | zero => intro t pt h1 h2; omega
  | succ n ih =>
    intro t pt ht hn hpt H locs hP hD hS ls hl
    refine lv_iload_n hx hb dX0_findParts_2 rfl (lv_at hl 1 rfl) ?_
    refine lv_bipush (v := nI 32) hx hb dX0_findParts_3 (by decide +kernel) ?_
    refine cn_ge (tgt := 26) hx hb (by omega) (by decide) dX0_findParts_5 (by decide) (fun c_5 => ?_) (fun c_5 => ?_)
    · obtain rfl : t = 32 := by omega
      exact K pt hpt H locs hP hD hS ls (lv_sub hl [0, 1] rfl)
    · refine lv_aload_n hx hb dX0_findParts_8 rfl (lv_at hl 0 rfl) ?_
      refine va_get (D := D) (ci := 0) (v := .ref (g 3)) (C := RX0) (T := TX0) (N := 5) hx hb hts in_X0 hown hK hP 0 rfl rfl 2 (by decide) (hts _ q20) (fun _ h9 => h9) rfl dX0_findParts_9 ?_
      refine lv_iload_n hx hb dX0_findParts_12 rfl (lv_at hl 1 rfl) ?_
      refine lv_aload_n hx hb dX0_findParts_13 rfl (lv_at hl 0 rfl) ?_
      refine va_get (D := D) (ci := 0) (v := .ref (g 1)) (C := RX0) (T := TX0) (N := 5) hx hb hts in_X0 hown hK hP 0 rfl rfl 0 (by decide) (hts _ q18) (fun _ h9 => h9) rfl dX0_findParts_14 ?_
      refine lv_iload_n hx hb dX0_findParts_17 rfl (lv_at hl 1 rfl) ?_
      refine cv_ald hx hb hK hP 1 0 rfl rfl (by decide) (by omega) dX0_findParts_18 ?_
      refine cv_ast hx hb hK hP hD hS 3 2 rfl rfl (by decide) (by omega) dX0_findParts_19 (fun H locs hP hD hS => ?_)
      have hP : va_P D vwCl (wX0 d g (w, am, upd pt t (w t), mv, sp)) H := hP
      have hD : va_D A (wX0 d g (w, am, upd pt t (w t), mv, sp)) := hD
      refine cn_iinc (lv' := [(1, .int (nI (t + 1))), (0, .ref (g 0))]) hx hb dX0_findParts_20 hl (k := 1) rfl (by decide) rfl (fun ls hl => ?_)
      refine lv_goto (tgt := 2) hx hb dX0_findParts_23 (by decide) ?_
      exact ih (t + 1) _ (by omega) (by omega) (cpS hpt) H locs hP hD hS ls (lv_sub hl [1, 0] rfl)
end
section
variable {p : Program} {l : Launch} {e : Env} {R : Room} {s : State} {m : MethodId} {args : Array Value} {below : List Frame} {meth : Method} {c : Code} {H : Heap} {locs : List Loc} {cells slots : Nat} {Q : State → Prop} {A : Nat → Prop}
variable {D : va_G} {d : Nat → ClassId} {g : Nat → Nat} {w am pt mv sp : Nat → Int32}
set_option maxHeartbeats 4000000 in
set_option maxRecDepth 100000 in
theorem x0_fp_in (F : CallFix p m c cX0_findParts 3 s args lw_all RX0) (hK : va_K D vwCl (tX0 d) s) {j : Nat} (hp : j < 5) (K : ∀ pt : Nat → Int32, (∀ i, i < 32 → pt i = mobs w (j + 1) i) → ∀ (H : Heap) (locs : List Loc), va_P D vwCl (wX0 d g (w, am, pt, mv, sp)) H → va_D A (wX0 d g (w, am, pt, mv, sp)) → va_S A s.heap H locs → ∀ ls : Array Slot, lv_has ls 3 [(0, .ref (g 0)), (1, .int (nI j)), (2, .int (nI 32))] → W p l e R s m args below meth c H locs cells slots Q (F0 m 75 ls [])) : ∀ (n t : Nat) (pt : Nat → Int32), t ≤ 32 → 32 - t < n → (∀ i, i < 32 → pt i = if i < t then mobs w (j + 1) i else mobs w j i) → ∀ (H : Heap) (locs : List Loc), va_P D vwCl (wX0 d g (w, am, pt, mv, sp)) H → va_D A (wX0 d g (w, am, pt, mv, sp)) → va_S A s.heap H locs → ∀ (ls : Array Slot), lv_has ls 3 [(0, .ref (g 0)), (1, .int (nI j)), (2, .int (nI t))] → W p l e R s m args below meth c H locs cells slots Q (F0 m 35 ls []) := by
  have hx := F.1
  have hb := F.2.1
  have hown := F.2.2.2.1
  have hts := F.2.2.2.2
  intro n
  induction n with
  | zero => intro t pt h1 h2; omega
  | succ n ih =>
    intro t pt ht hn hpt H locs hP hD hS ls hl
    refine lv_iload_n hx hb dX0_findParts_35 rfl (lv_at hl 2 rfl) ?_
    refine lv_bipush (v := nI 32) hx hb dX0_findParts_36 (by decide +kernel) ?_
    refine cn_ge (tgt := 75) hx hb (by omega) (by decide) dX0_findParts_38 (by decide) (fun c_38 => ?_) (fun c_38 => ?_)
    · obtain rfl : t = 32 := by omega
      exact K pt (fun i hi => by rw [hpt i hi, if_pos hi]) H locs hP hD hS ls (lv_sub hl [0, 1, 2] rfl)
    · refine lv_iload_n hx hb dX0_findParts_41 rfl (lv_at hl 2 rfl) ?_
      refine lv_iload_n hx hb dX0_findParts_42 rfl (lv_at hl 1 rfl) ?_
      refine cn_ishr hx hb (by omega) (by omega) dX0_findParts_43 ?_
      refine lv_iconst (v := nI 1) hx hb dX0_findParts_44 (by decide +kernel) ?_
      refine cn_iand hx hb dX0_findParts_45 ?_
      refine lv_iconst (v := nI 1) hx hb dX0_findParts_46 (by decide +kernel) ?_
      refine cn_ne (tgt := 69) hx hb (Nat.lt_trans (bt_lt _ _) (by decide)) (by decide) dX0_findParts_47 (by decide) (fun c_47 => ?_) (fun c_47 => ?_)
      · refine cn_iinc (lv' := [(2, .int (nI (t + 1))), (0, .ref (g 0)), (1, .int (nI j))]) hx hb dX0_findParts_69 hl (k := 2) rfl (by decide) rfl (fun ls hl => ?_)
        refine lv_goto (tgt := 35) hx hb dX0_findParts_72 (by decide) ?_
        exact ih (t + 1) _ (by omega) (by omega) (mob_step0 hpt c_47) H locs hP hD hS ls (lv_sub hl [1, 2, 0] rfl)
      · refine lv_aload_n hx hb dX0_findParts_50 rfl (lv_at hl 0 rfl) ?_
        refine va_get (D := D) (ci := 0) (v := .ref (g 3)) (C := RX0) (T := TX0) (N := 5) hx hb hts in_X0 hown hK hP 0 rfl rfl 2 (by decide) (hts _ q20) (fun _ h9 => h9) rfl dX0_findParts_51 ?_
        refine lv_iload_n hx hb dX0_findParts_54 rfl (lv_at hl 2 rfl) ?_
        refine lv_dup2_11 hx hb dX0_findParts_55 rfl rfl ?_
        refine cv_ald hx hb hK hP 3 2 rfl rfl (by decide) (by omega) dX0_findParts_56 ?_
        refine lv_aload_n hx hb dX0_findParts_57 rfl (lv_at hl 0 rfl) ?_
        refine va_get (D := D) (ci := 0) (v := .ref (g 3)) (C := RX0) (T := TX0) (N := 5) hx hb hts in_X0 hown hK hP 0 rfl rfl 2 (by decide) (hts _ q20) (fun _ h9 => h9) rfl dX0_findParts_58 ?_
        refine lv_iload_n hx hb dX0_findParts_61 rfl (lv_at hl 2 rfl) ?_
        refine lv_iconst (v := nI 1) hx hb dX0_findParts_62 (by decide +kernel) ?_
        refine lv_iload_n hx hb dX0_findParts_63 rfl (lv_at hl 1 rfl) ?_
        refine cn_ishl hx hb (shlB (by omega)) (by omega) dX0_findParts_64 ?_
        refine cn_ixor hx hb dX0_findParts_65 ?_
        refine cv_ald hx hb hK hP 3 2 rfl rfl (by decide) (xor32 (by omega) (shl32 hp)) dX0_findParts_66 ?_
        refine lv_isub hx hb dX0_findParts_67 ?_
        refine cv_ast hx hb hK hP hD hS 3 2 rfl rfl (by decide) (by omega) dX0_findParts_68 (fun H locs hP hD hS => ?_)
        have hP : va_P D vwCl (wX0 d g (w, am, upd pt t ((pt t) - (pt (t ^^^ (1 <<< j)))), mv, sp)) H := hP
        have hD : va_D A (wX0 d g (w, am, upd pt t ((pt t) - (pt (t ^^^ (1 <<< j)))), mv, sp)) := hD
        refine cn_iinc (lv' := [(2, .int (nI (t + 1))), (0, .ref (g 0)), (1, .int (nI j))]) hx hb dX0_findParts_69 hl (k := 2) rfl (by decide) rfl (fun ls hl => ?_)
        refine lv_goto (tgt := 35) hx hb dX0_findParts_72 (by decide) ?_
        exact ih (t + 1) _ (by omega) (by omega) (mob_step1 hp (by omega) hpt c_47) H locs hP hD hS ls (lv_sub hl [1, 2, 0] rfl)
end
section
variable {p : Program} {l : Launch} {e : Env} {R : Room} {s : State} {m : MethodId} {args : Array Value} {below : List Frame} {meth : Method} {c : Code} {H : Heap} {locs : List Loc} {cells slots : Nat} {Q : State → Prop} {A : Nat → Prop}
variable {D : va_G} {d : Nat → ClassId} {g : Nat → Nat} {w am pt mv sp : Nat → Int32}
set_option maxHeartbeats 4000000 in
set_option maxRecDepth 100000 in
theorem x0_fp_lp (F : CallFix p m c cX0_findParts 3 s args lw_all RX0) (hK : va_K D vwCl (tX0 d) s) (K : ∀ pt : Nat → Int32, (∀ i, i < 32 → pt i = mobs w 5 i) → ∀ (H : Heap) (locs : List Loc), va_P D vwCl (wX0 d g (w, am, pt, mv, sp)) H → va_D A (wX0 d g (w, am, pt, mv, sp)) → va_S A s.heap H locs → ∀ ls : Array Slot, W p l e R s m args below meth c H locs cells slots Q (F0 m 81 ls [])) : ∀ (n j : Nat) (pt : Nat → Int32), j ≤ 5 → 5 - j < n → (∀ i, i < 32 → pt i = mobs w j i) → ∀ (H : Heap) (locs : List Loc), va_P D vwCl (wX0 d g (w, am, pt, mv, sp)) H → va_D A (wX0 d g (w, am, pt, mv, sp)) → va_S A s.heap H locs → ∀ (ls : Array Slot), lv_has ls 3 [(0, .ref (g 0)), (1, .int (nI j))] → W p l e R s m args below meth c H locs cells slots Q (F0 m 28 ls []) := by
  have hx := F.1
  have hb := F.2.1
  have hown := F.2.2.2.1
  have hts := F.2.2.2.2
  intro n
  induction n with
  | zero => intro j pt h1 h2; omega
  | succ n ih =>
    intro j pt hj hn hpt H locs hP hD hS ls hl
    refine lv_iload_n hx hb dX0_findParts_28 rfl (lv_at hl 1 rfl) ?_
    refine lv_iconst (v := nI 5) hx hb dX0_findParts_29 (by decide +kernel) ?_
    refine cn_ge (tgt := 81) hx hb (by omega) (by decide) dX0_findParts_30 (by decide) (fun c_30 => ?_) (fun c_30 => ?_)
    · obtain rfl : j = 5 := by omega
      exact K pt hpt H locs hP hD hS ls
    · refine lv_iconst (v := nI 0) hx hb dX0_findParts_33 (by decide +kernel) ?_
      refine lv_istore_n (lv' := [(2, .int (nI 0)), (0, .ref (g 0)), (1, .int (nI j))]) hx hb dX0_findParts_34 rfl hl (by decide) rfl (fun ls hl => ?_)
      refine x0_fp_in F hK (by omega) (fun pt hpt H locs hP hD hS ls hl => ?_) 33 0 _ (by omega) (by omega) (fun i hi => by rw [if_neg (Nat.not_lt_zero i)]; exact hpt i hi) _ _ hP hD hS ls (lv_sub hl [1, 2, 0] rfl)
      refine cn_iinc (lv' := [(1, .int (nI (j + 1))), (0, .ref (g 0)), (2, .int (nI 32))]) hx hb dX0_findParts_75 hl (k := 1) rfl (by decide) rfl (fun ls hl => ?_)
      refine lv_goto (tgt := 28) hx hb dX0_findParts_78 (by decide) ?_
      exact ih (j + 1) _ (by omega) (by omega) hpt H locs hP hD hS ls (lv_sub hl [1, 0] rfl)
end
set_option maxHeartbeats 4000000 in
set_option maxRecDepth 100000 in
theorem x0_findParts (l : Launch) (D : va_G) (d : Nat → ClassId) (g : Nat → Nat) (sz : Nat) (w am pt mv sp : Nat → Int32) : CMv l yX0_findParts cX0_findParts 3 none cvr0 D (wX0 d g) (tX0 d) (g 0) sz (w, am, pt, mv, sp) [] (fun u => ∃ pt : Nat → Int32, (∀ i, i < 32 → pt i = mobs w 5 i) ∧ u = (w, am, pt, mv, sp)) := by
  refine cmv_start (by decide) (Nat.le_of_ble_eq_true rfl) ?_
  intro p e s m below meth c ls A F hr hlocks hA hP hK hD hS hl
  have hx := F.1
  have hb := F.2.1
  have hown := F.2.2.2.1
  have hts := F.2.2.2.2
  have hl : lv_has ls 3 [(0, .ref (g 0))] := hl
  have hP : va_P D vwCl (wX0 d g (w, am, pt, mv, sp)) s.heap := hP
  have hD : va_D A (wX0 d g (w, am, pt, mv, sp)) := hD
  refine lv_iconst (v := nI 0) hx hb dX0_findParts_0 (by decide +kernel) ?_
  refine lv_istore_n (lv' := [(1, .int (nI 0)), (0, .ref (g 0))]) hx hb dX0_findParts_1 rfl hl (by decide) rfl (fun ls hl => ?_)
  refine x0_fp_l1 F hK (fun pt hpt H locs hP hD hS ls hl => ?_) 33 0 _ (by omega) (by omega) (fun i h => by omega) _ _ hP hD hS ls (lv_sub hl [1, 0] rfl)
  refine lv_iconst (v := nI 0) hx hb dX0_findParts_26 (by decide +kernel) ?_
  refine lv_istore_n (lv' := [(1, .int (nI 0)), (0, .ref (g 0))]) hx hb dX0_findParts_27 rfl hl (by decide) rfl (fun ls hl => ?_)
  refine x0_fp_lp F hK (fun pt hpt H locs hP hD hS ls => ?_) 6 0 _ (by omega) (by omega) hpt _ _ hP hD hS ls (lv_sub hl [1, 0] rfl)
  exact cmv_ret hx hb hr hlocks (w, am, pt, mv, sp) ⟨pt, hpt, rfl⟩ hP hK hD hS dX0_findParts_81

section
variable {p : Program} {l : Launch} {e : Env} {R : Room} {s : State} {m : MethodId} {args : Array Value} {below : List Frame} {meth : Method} {c : Code} {H : Heap} {locs : List Loc} {cells slots : Nat} {Q : State → Prop} {A : Nat → Prop}
variable {D : va_G} {d : Nat → ClassId} {g : Nat → Nat} {w am pt mv sp : Nat → Int32}
set_option maxHeartbeats 4000000 in
set_option maxRecDepth 100000 in
theorem x0_size_lp (F : CallFix p m c cX0_size 3 s args lw_all RX0) {t : Nat} (ht : t < 32) (K : ∀ ls : Array Slot, lv_has ls 3 [(0, .int (nI t)), (1, .int (nI (szN t 5))), (2, .int (nI 5))] → W p l e R s m args below meth c H locs cells slots Q (F0 m 23 ls [])) : ∀ (n j : Nat) (ls : Array Slot), j ≤ 5 → 5 - j < n → lv_has ls 3 [(0, .int (nI t)), (1, .int (nI (szN t j))), (2, .int (nI j))] → W p l e R s m args below meth c H locs cells slots Q (F0 m 4 ls []) := by
  have hx := F.1
  have hb := F.2.1
  have hown := F.2.2.2.1
  have hts := F.2.2.2.2
  intro n
  induction n with
  | zero => intro j ls h1 h2; omega
  | succ n ih =>
    intro j ls hj hn hl
    refine lv_iload_n hx hb dX0_size_4 rfl (lv_at hl 2 rfl) ?_
    refine lv_iconst (v := nI 5) hx hb dX0_size_5 (by decide +kernel) ?_
    refine cn_ge (tgt := 23) hx hb (by omega) (by decide) dX0_size_6 (by decide) (fun c_6 => ?_) (fun c_6 => ?_)
    · obtain rfl : j = 5 := by omega
      exact K ls (lv_sub hl [0, 1, 2] rfl)
    · refine lv_iload_n hx hb dX0_size_9 rfl (lv_at hl 1 rfl) ?_
      refine lv_iload_n hx hb dX0_size_10 rfl (lv_at hl 0 rfl) ?_
      refine lv_iload_n hx hb dX0_size_11 rfl (lv_at hl 2 rfl) ?_
      refine cn_ishr hx hb (by omega) (by omega) dX0_size_12 ?_
      refine lv_iconst (v := nI 1) hx hb dX0_size_13 (by decide +kernel) ?_
      refine cn_iand hx hb dX0_size_14 ?_
      refine cn_iadd hx hb dX0_size_15 ?_
      refine cv_set (y := nI (szN t (j + 1))) rfl ?_
      refine lv_istore_n (lv' := [(1, .int (nI (szN t (j + 1)))), (0, .int (nI t)), (2, .int (nI j))]) hx hb dX0_size_16 rfl hl (by decide) rfl (fun ls hl => ?_)
      refine cn_iinc (lv' := [(2, .int (nI (j + 1))), (1, .int (nI (szN t (j + 1)))), (0, .int (nI t))]) hx hb dX0_size_17 hl (k := 2) rfl (by decide) rfl (fun ls hl => ?_)
      refine lv_goto (tgt := 4) hx hb dX0_size_20 (by decide) ?_
      exact ih (j + 1) ls (by omega) (by omega) (lv_sub hl [2, 1, 0] rfl)
end
set_option maxHeartbeats 4000000 in
set_option maxRecDepth 100000 in
theorem x0_size (l : Launch) (sz : Nat) {t : Nat} (ht : t < 32) : CS l yX0_size cX0_size 3 (some .int) cvr0 sz [.int (nI t)] (fun r _ => r = nI (szN t 5)) := by
  refine cs_start (by decide) (Nat.le_of_ble_eq_true rfl) ?_
  intro p e s m below meth c ls A F hr hlocks hS hl
  have hx := F.1
  have hb := F.2.1
  have hown := F.2.2.2.1
  have hts := F.2.2.2.2
  have hl : lv_has ls 3 [(0, .int (nI t))] := hl
  refine lv_iconst (v := nI 0) hx hb dX0_size_0 (by decide +kernel) ?_
  refine lv_istore_n (lv' := [(1, .int (nI 0)), (0, .int (nI t))]) hx hb dX0_size_1 rfl hl (by decide) rfl (fun ls hl => ?_)
  refine lv_iconst (v := nI 0) hx hb dX0_size_2 (by decide +kernel) ?_
  refine lv_istore_n (lv' := [(2, .int (nI 0)), (1, .int (nI 0)), (0, .int (nI t))]) hx hb dX0_size_3 rfl hl (by decide) rfl (fun ls hl => ?_)
  refine x0_size_lp F ht (fun ls hl => ?_) 6 0 ls (by omega) (by omega) (lv_sub hl [2, 1, 0] rfl)
  refine lv_iload_n hx hb dX0_size_23 rfl (lv_at hl 1 rfl) ?_
  exact cs_ret hx hb hr hlocks rfl rfl hS dX0_size_24

section
variable {p : Program} {l : Launch} {e : Env} {R : Room} {s : State} {m : MethodId} {args : Array Value} {below : List Frame} {meth : Method} {c : Code} {H : Heap} {locs : List Loc} {cells slots : Nat} {Q : State → Prop} {A : Nat → Prop}
variable {D : va_G} {d : Nat → ClassId} {g : Nat → Nat} {w am pt mv sp : Nat → Int32}
set_option maxHeartbeats 4000000 in
set_option maxRecDepth 100000 in
theorem x0_orderValue_lp (F : CallFix p m c cX0_orderValue 5 s args lw_all RX0) (hA : ∀ q : Nat, s.heap.size ≤ q → A q) (hK : va_K D vwCl (tX0 d) s) (hpt : ∀ i, i < 32 → pt i = mobs w 5 i) {k : Nat} (hk : k < 5) (K : ∀ (H : Heap) (locs : List Loc), va_P D vwCl (wX0 d g (w, am, pt, mv, sp)) H → va_S A s.heap H locs → ∀ ls : Array Slot, lv_has ls 5 [(0, .ref (g 0)), (1, .int (nI k)), (2, .int (ovX w k 32)), (3, .int (nI 32))] → W p l e cvr1 s m args below meth c H locs 0 0 Q (F0 m 65 ls [])) : ∀ (n t : Nat), 1 ≤ t → t ≤ 32 → 32 - t < n → ∀ (H : Heap) (locs : List Loc), va_P D vwCl (wX0 d g (w, am, pt, mv, sp)) H → va_S A s.heap H locs → ∀ (ls : Array Slot), lv_has ls 5 [(0, .ref (g 0)), (1, .int (nI k)), (2, .int (ovX w k t)), (3, .int (nI t))] → W p l e cvr1 s m args below meth c H locs 0 0 Q (F0 m 18 ls []) := by
  have hx := F.1
  have hb := F.2.1
  have hown := F.2.2.2.1
  have hts := F.2.2.2.2
  intro n
  induction n with
  | zero => intro t h0 h1 h2; omega
  | succ n ih =>
    intro t h1 ht hn H locs hP hS ls hl
    refine lv_iload_n hx hb dX0_orderValue_18 rfl (lv_at hl 3 rfl) ?_
    refine lv_bipush (v := nI 32) hx hb dX0_orderValue_19 (by decide +kernel) ?_
    refine cn_ge (tgt := 65) hx hb (by omega) (by decide) dX0_orderValue_21 (by decide) (fun c_21 => ?_) (fun c_21 => ?_)
    · obtain rfl : t = 32 := by omega
      exact K H locs hP hS ls (lv_sub hl [0, 1, 2, 3] rfl)
    · refine lv_iload_n hx hb dX0_orderValue_24 rfl (lv_at hl 3 rfl) ?_
      refine cs_call (rest := []) F (x0_size l _ (t := t) (by omega)) (va_cwS 1 hts (lw_S q68 q69 q8 q70) rfl rfl rfl (by decide +kernel) ⟨Nat.le_of_ble_eq_true rfl, Nat.le_of_ble_eq_true rfl⟩) hP hS hA rfl hl.1 rfl (Nat.le_of_ble_eq_true rfl) ⟨Nat.zero_le _, Nat.zero_le _⟩ dX0_orderValue_25 (fun r H locs hw hP hS => ?_)
      obtain rfl := hw
      have hz := szN_le t 5
      refine lv_istore (lv' := [(4, .int (nI (szN t 5))), (0, .ref (g 0)), (1, .int (nI k)), (2, .int (ovX w k t)), (3, .int (nI t))]) hx hb dX0_orderValue_28 hl (by decide) rfl (fun ls hl => ?_)
      refine lv_iload_n hx hb dX0_orderValue_30 rfl (lv_at hl 4 rfl) ?_
      refine lv_iload_n hx hb dX0_orderValue_31 rfl (lv_at hl 2 rfl) ?_
      refine cn_ishr hx hb (by omega) (by omega) dX0_orderValue_32 ?_
      refine lv_iconst (v := nI 1) hx hb dX0_orderValue_33 (by decide +kernel) ?_
      refine cn_iand hx hb dX0_orderValue_34 ?_
      refine lv_iconst (v := nI 1) hx hb dX0_orderValue_35 (by decide +kernel) ?_
      refine cn_ne (tgt := 59) hx hb (Nat.lt_trans (bt_lt _ _) (by decide)) (by decide) dX0_orderValue_36 (by decide) (fun c_36 => ?_) (fun c_36 => ?_)
      · refine cn_iinc (lv' := [(3, .int (nI (t + 1))), (4, .int (nI (szN t 5))), (0, .ref (g 0)), (1, .int (nI k)), (2, .int (ovX w k t))]) hx hb dX0_orderValue_59 hl (k := 4) rfl (by decide) rfl (fun ls hl => ?_)
        refine lv_goto (tgt := 18) hx hb dX0_orderValue_62 (by decide) ?_
        exact ih (t + 1) (by omega) (by omega) (by omega) H locs hP hS ls (by rw [← ovX_0 (by first | exact fun h => c_36 h.1 | exact fun h => absurd h.2 (by omega))]; exact (lv_sub hl [2, 3, 4, 0] rfl))
      · refine lv_iload hx hb dX0_orderValue_39 (lv_at hl 0 rfl) ?_
        refine cz_le (tgt := 59) hx hb (by omega) dX0_orderValue_41 (by decide) (fun c_41 => ?_) (fun c_41 => ?_)
        · refine cn_iinc (lv' := [(3, .int (nI (t + 1))), (4, .int (nI (szN t 5))), (0, .ref (g 0)), (1, .int (nI k)), (2, .int (ovX w k t))]) hx hb dX0_orderValue_59 hl (k := 4) rfl (by decide) rfl (fun ls hl => ?_)
          refine lv_goto (tgt := 18) hx hb dX0_orderValue_62 (by decide) ?_
          exact ih (t + 1) (by omega) (by omega) (by omega) H locs hP hS ls (by rw [← ovX_0 (by first | exact fun h => c_36 h.1 | exact fun h => absurd h.2 (by omega))]; exact (lv_sub hl [2, 3, 4, 0] rfl))
        · refine lv_iload_n hx hb dX0_orderValue_44 rfl (lv_at hl 3 rfl) ?_
          refine lv_aload_n hx hb dX0_orderValue_45 rfl (lv_at hl 1 rfl) ?_
          refine va_get (D := D) (ci := 0) (v := .ref (g 3)) (C := RX0) (T := TX0) (N := 5) hx hb hts in_X0 hown hK hP 0 rfl rfl 2 (by decide) (hts _ q20) (fun _ h9 => h9) rfl dX0_orderValue_46 ?_
          refine lv_iload_n hx hb dX0_orderValue_49 rfl (lv_at hl 4 rfl) ?_
          refine cv_ald hx hb hK hP 3 2 rfl rfl (by decide) (by omega) dX0_orderValue_50 ?_
          refine cv_set (y := mobs w 5 t) (hpt t (by omega)) ?_
          refine lv_bipush (v := nI 120) hx hb dX0_orderValue_51 (by decide +kernel) ?_
          refine lv_iload hx hb dX0_orderValue_53 (lv_at hl 0 rfl) ?_
          refine cn_idiv hx hb (by omega) (by omega) (by omega) dX0_orderValue_55 ?_
          refine lv_imul hx hb dX0_orderValue_56 ?_
          refine lv_iadd hx hb dX0_orderValue_57 ?_
          refine cv_set (y := ovX w k (t + 1)) (ovX_1 c_36 c_41) ?_
          refine lv_istore_n (lv' := [(2, .int (ovX w k (t + 1))), (4, .int (nI (szN t 5))), (0, .ref (g 0)), (1, .int (nI k)), (3, .int (nI t))]) hx hb dX0_orderValue_58 rfl hl (by decide) rfl (fun ls hl => ?_)
          refine cn_iinc (lv' := [(3, .int (nI (t + 1))), (2, .int (ovX w k (t + 1))), (4, .int (nI (szN t 5))), (0, .ref (g 0)), (1, .int (nI k))]) hx hb dX0_orderValue_59 hl (k := 4) rfl (by decide) rfl (fun ls hl => ?_)
          refine lv_goto (tgt := 18) hx hb dX0_orderValue_62 (by decide) ?_
          exact ih (t + 1) (by omega) (by omega) (by omega) H locs hP hS ls (lv_sub hl [3, 4, 1, 0] rfl)
end
set_option maxHeartbeats 4000000 in
set_option maxRecDepth 100000 in
theorem x0_orderValue (l : Launch) (D : va_G) (d : Nat → ClassId) (g : Nat → Nat) (sz : Nat) (w am pt mv sp : Nat → Int32) (x : Int32) : CM l yX0_orderValue cX0_orderValue 5 (some .int) cvr1 D (wX0 d g) (tX0 d) (g 0) sz (w, am, pt, mv, sp) [.int x] (fun r u => r = (match pl5 x with | none => -3 | some k => ovX w k 32) ∧ u.1 = w ∧ u.2.1 = am) := by
  refine cm_start (by decide) (Nat.le_of_ble_eq_true rfl) ?_
  intro p e s m below meth c ls A F hr hlocks hA hP hK hD hS hl
  have hx := F.1
  have hb := F.2.1
  have hown := F.2.2.2.1
  have hts := F.2.2.2.2
  have hl : lv_has ls 5 [(0, .ref (g 0)), (1, .int x)] := hl
  have hP : va_P D vwCl (wX0 d g (w, am, pt, mv, sp)) s.heap := hP
  have hD : va_D A (wX0 d g (w, am, pt, mv, sp)) := hD
  refine lv_iload_n hx hb dX0_orderValue_0 rfl (lv_at hl 1 rfl) ?_
  refine cs_call (rest := []) F (x0_badPlayer l _ (x)) (va_cwS 1 hts (lw_S q46 q47 q8 q48) rfl rfl rfl (by decide +kernel) ⟨Nat.le_of_ble_eq_true rfl, Nat.le_of_ble_eq_true rfl⟩) hP hS hA rfl hl.1 rfl (Nat.le_of_ble_eq_true rfl) ⟨Nat.zero_le _, Nat.zero_le _⟩ dX0_orderValue_1 (fun r H locs hw hP hS => ?_)
  rcases hw with ⟨rfl, h1⟩ | ⟨k, rfl, h1⟩
  · refine cz_eq (tgt := 10) hx hb (by decide) dX0_orderValue_4 (by decide) (fun h9 => absurd h9 (by decide)) (fun h9 => ?_)
    refine lv_bipush (v := (-3)) hx hb dX0_orderValue_7 (by decide +kernel) ?_
    exact cm_ret hx hb hr hlocks rfl (w, am, pt, mv, sp) ⟨by rw [h1], rfl, rfl⟩ hP hK hD hS dX0_orderValue_9
  · obtain ⟨hk_k, rfl⟩ := pl5_some h1
    refine cz_eq (tgt := 10) hx hb (by decide) dX0_orderValue_4 (by decide) (fun h9 => ?_) (fun h9 => absurd h9 (by decide))
    refine lv_aload_n hx hb dX0_orderValue_10 rfl (lv_at hl 0 rfl) ?_
    refine cmv_self (wf := wX0 d g) (rest := []) F (x0_findParts l D d g _ w am pt mv sp) (cwV 0 hts (lw_V q64 q66 qs0 q8 q67) rfl rfl rfl (by decide +kernel) ⟨Nat.le_of_ble_eq_true rfl, Nat.le_of_ble_eq_true rfl⟩) (ci := 0) rfl rfl rfl hK hP hD hS hA [0, 1, 2, 3, 4] [0, 1, 2, 3, 4, 5] rfl rfl rfl (by decide) rfl hl.1 rfl (Nat.le_of_ble_eq_true rfl) ⟨Nat.zero_le _, Nat.zero_le _⟩ dX0_orderValue_11 (fun u H locs hw hP hD hS => ?_)
    obtain ⟨pt, hpt, rfl⟩ := hw
    refine lv_iconst (v := 0) hx hb dX0_orderValue_14 (by decide +kernel) ?_
    refine lv_istore_n (lv' := [(2, .int 0), (0, .ref (g 0)), (1, .int (nI k))]) hx hb dX0_orderValue_15 rfl hl (by decide) rfl (fun ls hl => ?_)
    refine lv_iconst (v := nI 1) hx hb dX0_orderValue_16 (by decide +kernel) ?_
    refine lv_istore_n (lv' := [(3, .int (nI 1)), (2, .int 0), (0, .ref (g 0)), (1, .int (nI k))]) hx hb dX0_orderValue_17 rfl hl (by decide) rfl (fun ls hl => ?_)
    have hl : lv_has ls 5 [(0, .ref (g 0)), (1, .int (nI k)), (2, .int (ovX w k 1)), (3, .int (nI 1))] := by rw [← ovX_z]; exact (lv_sub hl [2, 3, 1, 0] rfl)
    refine x0_orderValue_lp F hA hK hpt hk_k (fun H locs hP hS ls hl => ?_) 32 1 (by omega) (by omega) (by omega) _ _ hP hS ls hl
    refine lv_iload_n hx hb dX0_orderValue_65 rfl (lv_at hl 2 rfl) ?_
    exact cm_ret hx hb hr hlocks rfl (w, am, pt, mv, sp) ⟨by rw [h1], rfl, rfl⟩ hP hK hD hS dX0_orderValue_66

theorem shl6 {a : Nat} (h : a ≤ 5) : 1 <<< a < 2 ^ 31 := by
  rcases (show a = 0 ∨ a = 1 ∨ a = 2 ∨ a = 3 ∨ a = 4 ∨ a = 5 by omega) with rfl | rfl | rfl | rfl | rfl | rfl <;> decide
section
variable {p : Program} {l : Launch} {e : Env} {R : Room} {s : State} {m : MethodId} {args : Array Value} {below : List Frame} {meth : Method} {c : Code} {H : Heap} {locs : List Loc} {cells slots : Nat} {Q : State → Prop} {A : Nat → Prop}
variable {D : va_G} {d : Nat → ClassId} {g : Nat → Nat} {w am pt mv sp : Nat → Int32}
set_option maxHeartbeats 4000000 in
set_option maxRecDepth 100000 in
theorem x0_swingValue_lp (F : CallFix p m c cX0_swingValue 5 s args lw_all RX0) (hA : ∀ q : Nat, s.heap.size ≤ q → A q) (hK : va_K D vwCl (tX0 d) s) (hpt : ∀ i, i < 32 → pt i = mobs w 5 i) {k : Nat} (hk : k < 5) (K : ∀ (H : Heap) (locs : List Loc), va_P D vwCl (wX0 d g (w, am, pt, mv, sp)) H → va_S A s.heap H locs → ∀ ls : Array Slot, lv_has ls 5 [(0, .ref (g 0)), (1, .int (nI k)), (2, .int (svX w k 32)), (3, .int (nI 32))] → W p l e cvr1 s m args below meth c H locs 0 0 Q (F0 m 61 ls [])) : ∀ (n t : Nat), 1 ≤ t → t ≤ 32 → 32 - t < n → ∀ (H : Heap) (locs : List Loc), va_P D vwCl (wX0 d g (w, am, pt, mv, sp)) H → va_S A s.heap H locs → ∀ (ls : Array Slot), lv_has ls 5 [(0, .ref (g 0)), (1, .int (nI k)), (2, .int (svX w k t)), (3, .int (nI t))] → W p l e cvr1 s m args below meth c H locs 0 0 Q (F0 m 18 ls []) := by
  have hx := F.1
  have hb := F.2.1
  have hown := F.2.2.2.1
  have hts := F.2.2.2.2
  intro n
  induction n with
  | zero => intro t h0 h1 h2; omega
  | succ n ih =>
    intro t h1 ht hn H locs hP hS ls hl
    refine lv_iload_n hx hb dX0_swingValue_18 rfl (lv_at hl 3 rfl) ?_
    refine lv_bipush (v := nI 32) hx hb dX0_swingValue_19 (by decide +kernel) ?_
    refine cn_ge (tgt := 61) hx hb (by omega) (by decide) dX0_swingValue_21 (by decide) (fun c_21 => ?_) (fun c_21 => ?_)
    · obtain rfl : t = 32 := by omega
      exact K H locs hP hS ls (lv_sub hl [0, 1, 2, 3] rfl)
    · refine lv_iload_n hx hb dX0_swingValue_24 rfl (lv_at hl 3 rfl) ?_
      refine cs_call (rest := []) F (x0_size l _ (t := t) (by omega)) (va_cwS 1 hts (lw_S q68 q69 q8 q70) rfl rfl rfl (by decide +kernel) ⟨Nat.le_of_ble_eq_true rfl, Nat.le_of_ble_eq_true rfl⟩) hP hS hA rfl hl.1 rfl (Nat.le_of_ble_eq_true rfl) ⟨Nat.zero_le _, Nat.zero_le _⟩ dX0_swingValue_25 (fun r H locs hw hP hS => ?_)
      obtain rfl := hw
      have hz := szN_le t 5
      refine lv_istore (lv' := [(4, .int (nI (szN t 5))), (0, .ref (g 0)), (1, .int (nI k)), (2, .int (svX w k t)), (3, .int (nI t))]) hx hb dX0_swingValue_28 hl (by decide) rfl (fun ls hl => ?_)
      refine lv_iload_n hx hb dX0_swingValue_30 rfl (lv_at hl 4 rfl) ?_
      refine lv_iload_n hx hb dX0_swingValue_31 rfl (lv_at hl 2 rfl) ?_
      refine cn_ishr hx hb (by omega) (by omega) dX0_swingValue_32 ?_
      refine lv_iconst (v := nI 1) hx hb dX0_swingValue_33 (by decide +kernel) ?_
      refine cn_iand hx hb dX0_swingValue_34 ?_
      refine lv_iconst (v := nI 1) hx hb dX0_swingValue_35 (by decide +kernel) ?_
      refine cn_ne (tgt := 55) hx hb (Nat.lt_trans (bt_lt _ _) (by decide)) (by decide) dX0_swingValue_36 (by decide) (fun c_36 => ?_) (fun c_36 => ?_)
      · refine cn_iinc (lv' := [(3, .int (nI (t + 1))), (4, .int (nI (szN t 5))), (0, .ref (g 0)), (1, .int (nI k)), (2, .int (svX w k t))]) hx hb dX0_swingValue_55 hl (k := 4) rfl (by decide) rfl (fun ls hl => ?_)
        refine lv_goto (tgt := 18) hx hb dX0_swingValue_58 (by decide) ?_
        exact ih (t + 1) (by omega) (by omega) (by omega) H locs hP hS ls (by rw [← svX_0 c_36]; exact (lv_sub hl [2, 3, 4, 0] rfl))
      · refine lv_iload_n hx hb dX0_swingValue_39 rfl (lv_at hl 3 rfl) ?_
        refine lv_aload_n hx hb dX0_swingValue_40 rfl (lv_at hl 1 rfl) ?_
        refine va_get (D := D) (ci := 0) (v := .ref (g 3)) (C := RX0) (T := TX0) (N := 5) hx hb hts in_X0 hown hK hP 0 rfl rfl 2 (by decide) (hts _ q20) (fun _ h9 => h9) rfl dX0_swingValue_41 ?_
        refine lv_iload_n hx hb dX0_swingValue_44 rfl (lv_at hl 4 rfl) ?_
        refine cv_ald hx hb hK hP 3 2 rfl rfl (by decide) (by omega) dX0_swingValue_45 ?_
        refine cv_set (y := mobs w 5 t) (hpt t (by omega)) ?_
        refine lv_iconst (v := nI 1) hx hb dX0_swingValue_46 (by decide +kernel) ?_
        refine lv_iconst (v := nI 5) hx hb dX0_swingValue_47 (by decide +kernel) ?_
        refine lv_iload hx hb dX0_swingValue_48 (lv_at hl 0 rfl) ?_
        refine cn_isub hx hb (by omega) dX0_swingValue_50 ?_
        refine cn_ishl hx hb (shl6 (by omega)) (by omega) dX0_swingValue_51 ?_
        refine lv_imul hx hb dX0_swingValue_52 ?_
        refine lv_iadd hx hb dX0_swingValue_53 ?_
        refine cv_set (y := svX w k (t + 1)) (svX_1 c_36) ?_
        refine lv_istore_n (lv' := [(2, .int (svX w k (t + 1))), (4, .int (nI (szN t 5))), (0, .ref (g 0)), (1, .int (nI k)), (3, .int (nI t))]) hx hb dX0_swingValue_54 rfl hl (by decide) rfl (fun ls hl => ?_)
        refine cn_iinc (lv' := [(3, .int (nI (t + 1))), (2, .int (svX w k (t + 1))), (4, .int (nI (szN t 5))), (0, .ref (g 0)), (1, .int (nI k))]) hx hb dX0_swingValue_55 hl (k := 4) rfl (by decide) rfl (fun ls hl => ?_)
        refine lv_goto (tgt := 18) hx hb dX0_swingValue_58 (by decide) ?_
        exact ih (t + 1) (by omega) (by omega) (by omega) H locs hP hS ls (lv_sub hl [3, 4, 1, 0] rfl)
end
set_option maxHeartbeats 4000000 in
set_option maxRecDepth 100000 in
theorem x0_swingValue (l : Launch) (D : va_G) (d : Nat → ClassId) (g : Nat → Nat) (sz : Nat) (w am pt mv sp : Nat → Int32) (x : Int32) : CM l yX0_swingValue cX0_swingValue 5 (some .int) cvr1 D (wX0 d g) (tX0 d) (g 0) sz (w, am, pt, mv, sp) [.int x] (fun r u => r = (match pl5 x with | none => -3 | some k => svX w k 32) ∧ u.1 = w ∧ u.2.1 = am) := by
  refine cm_start (by decide) (Nat.le_of_ble_eq_true rfl) ?_
  intro p e s m below meth c ls A F hr hlocks hA hP hK hD hS hl
  have hx := F.1
  have hb := F.2.1
  have hown := F.2.2.2.1
  have hts := F.2.2.2.2
  have hl : lv_has ls 5 [(0, .ref (g 0)), (1, .int x)] := hl
  have hP : va_P D vwCl (wX0 d g (w, am, pt, mv, sp)) s.heap := hP
  have hD : va_D A (wX0 d g (w, am, pt, mv, sp)) := hD
  refine lv_iload_n hx hb dX0_swingValue_0 rfl (lv_at hl 1 rfl) ?_
  refine cs_call (rest := []) F (x0_badPlayer l _ (x)) (va_cwS 1 hts (lw_S q46 q47 q8 q48) rfl rfl rfl (by decide +kernel) ⟨Nat.le_of_ble_eq_true rfl, Nat.le_of_ble_eq_true rfl⟩) hP hS hA rfl hl.1 rfl (Nat.le_of_ble_eq_true rfl) ⟨Nat.zero_le _, Nat.zero_le _⟩ dX0_swingValue_1 (fun r H locs hw hP hS => ?_)
  rcases hw with ⟨rfl, h1⟩ | ⟨k, rfl, h1⟩
  · refine cz_eq (tgt := 10) hx hb (by decide) dX0_swingValue_4 (by decide) (fun h9 => absurd h9 (by decide)) (fun h9 => ?_)
    refine lv_bipush (v := (-3)) hx hb dX0_swingValue_7 (by decide +kernel) ?_
    exact cm_ret hx hb hr hlocks rfl (w, am, pt, mv, sp) ⟨by rw [h1], rfl, rfl⟩ hP hK hD hS dX0_swingValue_9
  · obtain ⟨hk_k, rfl⟩ := pl5_some h1
    refine cz_eq (tgt := 10) hx hb (by decide) dX0_swingValue_4 (by decide) (fun h9 => ?_) (fun h9 => absurd h9 (by decide))
    refine lv_aload_n hx hb dX0_swingValue_10 rfl (lv_at hl 0 rfl) ?_
    refine cmv_self (wf := wX0 d g) (rest := []) F (x0_findParts l D d g _ w am pt mv sp) (cwV 0 hts (lw_V q64 q66 qs0 q8 q67) rfl rfl rfl (by decide +kernel) ⟨Nat.le_of_ble_eq_true rfl, Nat.le_of_ble_eq_true rfl⟩) (ci := 0) rfl rfl rfl hK hP hD hS hA [0, 1, 2, 3, 4] [0, 1, 2, 3, 4, 5] rfl rfl rfl (by decide) rfl hl.1 rfl (Nat.le_of_ble_eq_true rfl) ⟨Nat.zero_le _, Nat.zero_le _⟩ dX0_swingValue_11 (fun u H locs hw hP hD hS => ?_)
    obtain ⟨pt, hpt, rfl⟩ := hw
    refine lv_iconst (v := 0) hx hb dX0_swingValue_14 (by decide +kernel) ?_
    refine lv_istore_n (lv' := [(2, .int 0), (0, .ref (g 0)), (1, .int (nI k))]) hx hb dX0_swingValue_15 rfl hl (by decide) rfl (fun ls hl => ?_)
    refine lv_iconst (v := nI 1) hx hb dX0_swingValue_16 (by decide +kernel) ?_
    refine lv_istore_n (lv' := [(3, .int (nI 1)), (2, .int 0), (0, .ref (g 0)), (1, .int (nI k))]) hx hb dX0_swingValue_17 rfl hl (by decide) rfl (fun ls hl => ?_)
    have hl : lv_has ls 5 [(0, .ref (g 0)), (1, .int (nI k)), (2, .int (svX w k 1)), (3, .int (nI 1))] := by rw [← svX_z]; exact (lv_sub hl [2, 3, 1, 0] rfl)
    refine x0_swingValue_lp F hA hK hpt hk_k (fun H locs hP hS ls hl => ?_) 32 1 (by omega) (by omega) (by omega) _ _ hP hS ls hl
    refine lv_iload_n hx hb dX0_swingValue_61 rfl (lv_at hl 2 rfl) ?_
    exact cm_ret hx hb hr hlocks rfl (w, am, pt, mv, sp) ⟨by rw [h1], rfl, rfl⟩ hP hK hD hS dX0_swingValue_62

set_option maxHeartbeats 4000000 in
set_option maxRecDepth 100000 in
theorem x0_own (l : Launch) (D : va_G) (d : Nat → ClassId) (g : Nat → Nat) (sz : Nat) (w am pt mv sp : Nat → Int32) (x : Int32) : CM l yX0_own cX0_own 2 (some .int) cvr1 D (wX0 d g) (tX0 d) (g 0) sz (w, am, pt, mv, sp) [.int x] (fun r u => r = (match st32 x with | none => -1 | some k => mobs w 5 k) ∧ u.1 = w ∧ u.2.1 = am) := by
  refine cm_start (by decide) (Nat.le_of_ble_eq_true rfl) ?_
  intro p e s m below meth c ls A F hr hlocks hA hP hK hD hS hl
  have hx := F.1
  have hb := F.2.1
  have hown := F.2.2.2.1
  have hts := F.2.2.2.2
  have hl : lv_has ls 2 [(0, .ref (g 0)), (1, .int x)] := hl
  have hP : va_P D vwCl (wX0 d g (w, am, pt, mv, sp)) s.heap := hP
  have hD : va_D A (wX0 d g (w, am, pt, mv, sp)) := hD
  refine lv_iload_n hx hb dX0_own_0 rfl (lv_at hl 1 rfl) ?_
  refine cs_call (rest := []) F (x0_badSet l _ (x)) (va_cwS 1 hts (lw_S q39 q40 q8 q41) rfl rfl rfl (by decide +kernel) ⟨Nat.le_of_ble_eq_true rfl, Nat.le_of_ble_eq_true rfl⟩) hP hS hA rfl hl.1 rfl (Nat.le_of_ble_eq_true rfl) ⟨Nat.zero_le _, Nat.zero_le _⟩ dX0_own_1 (fun r H locs hw hP hS => ?_)
  rcases hw with ⟨rfl, h1⟩ | ⟨k, rfl, h1⟩
  · refine cz_eq (tgt := 9) hx hb (by decide) dX0_own_4 (by decide) (fun h9 => absurd h9 (by decide)) (fun h9 => ?_)
    refine lv_iconst (v := (-1)) hx hb dX0_own_7 (by decide +kernel) ?_
    exact cm_ret hx hb hr hlocks rfl (w, am, pt, mv, sp) ⟨by rw [h1], rfl, rfl⟩ hP hK hD hS dX0_own_8
  · obtain ⟨h1_k, hk_k, rfl⟩ := st32_some h1
    refine cz_eq (tgt := 9) hx hb (by decide) dX0_own_4 (by decide) (fun h9 => ?_) (fun h9 => absurd h9 (by decide))
    refine lv_aload_n hx hb dX0_own_9 rfl (lv_at hl 0 rfl) ?_
    refine cmv_self (wf := wX0 d g) (rest := []) F (x0_findParts l D d g _ w am pt mv sp) (cwV 0 hts (lw_V q64 q66 qs0 q8 q67) rfl rfl rfl (by decide +kernel) ⟨Nat.le_of_ble_eq_true rfl, Nat.le_of_ble_eq_true rfl⟩) (ci := 0) rfl rfl rfl hK hP hD hS hA [0, 1, 2, 3, 4] [0, 1, 2, 3, 4, 5] rfl rfl rfl (by decide) rfl hl.1 rfl (Nat.le_of_ble_eq_true rfl) ⟨Nat.zero_le _, Nat.zero_le _⟩ dX0_own_10 (fun u H locs hw hP hD hS => ?_)
    obtain ⟨pt, hpt, rfl⟩ := hw
    refine lv_aload_n hx hb dX0_own_13 rfl (lv_at hl 0 rfl) ?_
    refine va_get (D := D) (ci := 0) (v := .ref (g 3)) (C := RX0) (T := TX0) (N := 5) hx hb hts in_X0 hown hK hP 0 rfl rfl 2 (by decide) (hts _ q20) (fun _ h9 => h9) rfl dX0_own_14 ?_
    refine lv_iload_n hx hb dX0_own_17 rfl (lv_at hl 1 rfl) ?_
    refine cv_ald hx hb hK hP 3 2 rfl rfl (by decide) (by omega) dX0_own_18 ?_
    refine cv_set (y := mobs w 5 k) (hpt k hk_k) ?_
    exact cm_ret hx hb hr hlocks rfl (w, am, pt, mv, sp) ⟨by rw [h1], rfl, rfl⟩ hP hK hD hS dX0_own_19
end
section
/-! X0 (CoalitionValues), third: pairGains, convex, superadditive, alike, bestSplit -/
set_option maxRecDepth 100000
section
variable {p : Program} {l : Launch} {e : Env} {R : Room} {s : State} {m : MethodId} {args : Array Value} {below : List Frame} {meth : Method} {c : Code} {H : Heap} {locs : List Loc} {cells slots : Nat} {Q : State → Prop} {A : Nat → Prop}
variable {D : va_G} {d : Nat → ClassId} {g : Nat → Nat} {w am pt mv sp : Nat → Int32}
set_option maxHeartbeats 4000000 in
set_option maxRecDepth 100000 in
theorem x0_pg_lp (F : CallFix p m c cX0_pairGains 6 s args lw_all RX0) (hK : va_K D vwCl (tX0 d) s) (hP : va_P D vwCl (wX0 d g (w, am, pt, mv, sp)) H) {a b : Nat} (ha : a < 5) (hb5 : b < 5) (K1 : (∀ t, t < 32 → ¬ pgB w a b t) → ∀ ls : Array Slot, W p l e R s m args below meth c H locs cells slots Q (F0 m 80 ls [])) (K0 : (∃ t, t < 32 ∧ pgB w a b t) → ∀ ls : Array Slot, W p l e R s m args below meth c H locs cells slots Q (F0 m 72 ls [])) : ∀ (n t : Nat) (ls : Array Slot), t ≤ 32 → 32 - t < n → (∀ i, i < t → ¬ pgB w a b i) → lv_has ls 6 [(0, .ref (g 0)), (1, .int (nI a)), (2, .int (nI b)), (3, .int (nI (1 <<< a))), (4, .int (nI (1 <<< b))), (5, .int (nI t))] → W p l e R s m args below meth c H locs cells slots Q (F0 m 12 ls []) := by
  have hx := F.1
  have hb := F.2.1
  have hown := F.2.2.2.1
  have hts := F.2.2.2.2
  intro n
  induction n with
  | zero => intro t ls h1 h2; omega
  | succ n ih =>
    intro t ls ht hn hno hl
    refine lv_iload hx hb dX0_pairGains_12 (lv_at hl 5 rfl) ?_
    refine lv_bipush (v := nI 32) hx hb dX0_pairGains_14 (by decide +kernel) ?_
    refine cn_ge (tgt := 80) hx hb (by omega) (by decide) dX0_pairGains_16 (by decide) (fun c_16 => ?_) (fun c_16 => ?_)
    · obtain rfl : t = 32 := by omega
      exact K1 hno ls
    · refine lv_iload hx hb dX0_pairGains_19 (lv_at hl 5 rfl) ?_
      refine lv_iload_n hx hb dX0_pairGains_21 rfl (lv_at hl 3 rfl) ?_
      refine lv_iload hx hb dX0_pairGains_22 (lv_at hl 4 rfl) ?_
      refine cn_ior hx hb dX0_pairGains_24 ?_
      refine cn_iand hx hb dX0_pairGains_25 ?_
      refine cz_ne (tgt := 74) hx hb (Nat.lt_trans (and32 (by omega)) (by decide)) dX0_pairGains_26 (by decide) (fun c_26 => ?_) (fun c_26 => ?_)
      · refine cn_iinc (lv' := [(5, .int (nI (t + 1))), (0, .ref (g 0)), (1, .int (nI a)), (2, .int (nI b)), (3, .int (nI (1 <<< a))), (4, .int (nI (1 <<< b)))]) hx hb dX0_pairGains_74 hl (k := 5) rfl (by decide) rfl (fun ls hl => ?_)
        refine lv_goto (tgt := 12) hx hb dX0_pairGains_77 (by decide) ?_
        exact ih (t + 1) ls (by omega) (by omega) (lt_s hno (by first | exact fun h => c_26 h.1 | exact fun h => absurd c_69 (Int32.not_le.mpr h.2))) (lv_sub hl [1, 2, 3, 4, 5, 0] rfl)
      · refine lv_aload_n hx hb dX0_pairGains_29 rfl (lv_at hl 0 rfl) ?_
        refine va_get (D := D) (ci := 0) (v := .ref (g 1)) (C := RX0) (T := TX0) (N := 5) hx hb hts in_X0 hown hK hP 0 rfl rfl 0 (by decide) (hts _ q18) (fun _ h9 => h9) rfl dX0_pairGains_30 ?_
        refine lv_iload hx hb dX0_pairGains_33 (lv_at hl 5 rfl) ?_
        refine lv_iload_n hx hb dX0_pairGains_35 rfl (lv_at hl 3 rfl) ?_
        refine cn_ior hx hb dX0_pairGains_36 ?_
        refine lv_iload hx hb dX0_pairGains_37 (lv_at hl 4 rfl) ?_
        refine cn_ior hx hb dX0_pairGains_39 ?_
        refine cv_ald hx hb hK hP 1 0 rfl rfl (by decide) (or32 (or32 (by omega) (shl32 ha)) (shl32 hb5)) dX0_pairGains_40 ?_
        refine lv_aload_n hx hb dX0_pairGains_41 rfl (lv_at hl 0 rfl) ?_
        refine va_get (D := D) (ci := 0) (v := .ref (g 1)) (C := RX0) (T := TX0) (N := 5) hx hb hts in_X0 hown hK hP 0 rfl rfl 0 (by decide) (hts _ q18) (fun _ h9 => h9) rfl dX0_pairGains_42 ?_
        refine lv_iload hx hb dX0_pairGains_45 (lv_at hl 5 rfl) ?_
        refine cv_ald hx hb hK hP 1 0 rfl rfl (by decide) (by omega) dX0_pairGains_47 ?_
        refine lv_iadd hx hb dX0_pairGains_48 ?_
        refine lv_aload_n hx hb dX0_pairGains_49 rfl (lv_at hl 0 rfl) ?_
        refine va_get (D := D) (ci := 0) (v := .ref (g 1)) (C := RX0) (T := TX0) (N := 5) hx hb hts in_X0 hown hK hP 0 rfl rfl 0 (by decide) (hts _ q18) (fun _ h9 => h9) rfl dX0_pairGains_50 ?_
        refine lv_iload hx hb dX0_pairGains_53 (lv_at hl 5 rfl) ?_
        refine lv_iload_n hx hb dX0_pairGains_55 rfl (lv_at hl 3 rfl) ?_
        refine cn_ior hx hb dX0_pairGains_56 ?_
        refine cv_ald hx hb hK hP 1 0 rfl rfl (by decide) (or32 (by omega) (shl32 ha)) dX0_pairGains_57 ?_
        refine lv_aload_n hx hb dX0_pairGains_58 rfl (lv_at hl 0 rfl) ?_
        refine va_get (D := D) (ci := 0) (v := .ref (g 1)) (C := RX0) (T := TX0) (N := 5) hx hb hts in_X0 hown hK hP 0 rfl rfl 0 (by decide) (hts _ q18) (fun _ h9 => h9) rfl dX0_pairGains_59 ?_
        refine lv_iload hx hb dX0_pairGains_62 (lv_at hl 5 rfl) ?_
        refine lv_iload hx hb dX0_pairGains_64 (lv_at hl 4 rfl) ?_
        refine cn_ior hx hb dX0_pairGains_66 ?_
        refine cv_ald hx hb hK hP 1 0 rfl rfl (by decide) (or32 (by omega) (shl32 hb5)) dX0_pairGains_67 ?_
        refine lv_iadd hx hb dX0_pairGains_68 ?_
        refine lv_icmp_ge (tgt := 74) hx hb dX0_pairGains_69 (by decide) (fun c_69 => ?_) (fun c_69 => ?_)
        · refine cn_iinc (lv' := [(5, .int (nI (t + 1))), (0, .ref (g 0)), (1, .int (nI a)), (2, .int (nI b)), (3, .int (nI (1 <<< a))), (4, .int (nI (1 <<< b)))]) hx hb dX0_pairGains_74 hl (k := 5) rfl (by decide) rfl (fun ls hl => ?_)
          refine lv_goto (tgt := 12) hx hb dX0_pairGains_77 (by decide) ?_
          exact ih (t + 1) ls (by omega) (by omega) (lt_s hno (by first | exact fun h => c_26 h.1 | exact fun h => absurd c_69 (Int32.not_le.mpr h.2))) (lv_sub hl [1, 2, 3, 4, 5, 0] rfl)
        · exact K0 ⟨t, by omega, c_26, Int32.not_le.mp c_69⟩ ls
end
set_option maxHeartbeats 4000000 in
set_option maxRecDepth 100000 in
theorem x0_pairGains (l : Launch) (D : va_G) (d : Nat → ClassId) (g : Nat → Nat) (sz : Nat) (w am pt mv sp : Nat → Int32) {a b : Nat} (ha : a < 5) (hb5 : b < 5) : CM l yX0_pairGains cX0_pairGains 6 (some .boolean) cvr0 D (wX0 d g) (tX0 d) (g 0) sz (w, am, pt, mv, sp) [.int (nI a), .int (nI b)] (fun r u => yesNo r (∃ t, t < 32 ∧ pgB w a b t) ∧ u = (w, am, pt, mv, sp)) := by
  refine cm_start (by decide) (Nat.le_of_ble_eq_true rfl) ?_
  intro p e s m below meth c ls A F hr hlocks hA hP hK hD hS hl
  have hx := F.1
  have hb := F.2.1
  have hown := F.2.2.2.1
  have hts := F.2.2.2.2
  have hl : lv_has ls 6 [(0, .ref (g 0)), (1, .int (nI a)), (2, .int (nI b))] := hl
  have hP : va_P D vwCl (wX0 d g (w, am, pt, mv, sp)) s.heap := hP
  have hD : va_D A (wX0 d g (w, am, pt, mv, sp)) := hD
  refine lv_iconst (v := nI 1) hx hb dX0_pairGains_0 (by decide +kernel) ?_
  refine lv_iload_n hx hb dX0_pairGains_1 rfl (lv_at hl 1 rfl) ?_
  refine cn_ishl hx hb (shlB (by omega)) (by omega) dX0_pairGains_2 ?_
  refine lv_istore_n (lv' := [(3, .int (nI (1 <<< a))), (0, .ref (g 0)), (1, .int (nI a)), (2, .int (nI b))]) hx hb dX0_pairGains_3 rfl hl (by decide) rfl (fun ls hl => ?_)
  refine lv_iconst (v := nI 1) hx hb dX0_pairGains_4 (by decide +kernel) ?_
  refine lv_iload_n hx hb dX0_pairGains_5 rfl (lv_at hl 3 rfl) ?_
  refine cn_ishl hx hb (shlB (by omega)) (by omega) dX0_pairGains_6 ?_
  refine lv_istore (lv' := [(4, .int (nI (1 <<< b))), (3, .int (nI (1 <<< a))), (0, .ref (g 0)), (1, .int (nI a)), (2, .int (nI b))]) hx hb dX0_pairGains_7 hl (by decide) rfl (fun ls hl => ?_)
  refine lv_iconst (v := nI 0) hx hb dX0_pairGains_9 (by decide +kernel) ?_
  refine lv_istore (lv' := [(5, .int (nI 0)), (4, .int (nI (1 <<< b))), (3, .int (nI (1 <<< a))), (0, .ref (g 0)), (1, .int (nI a)), (2, .int (nI b))]) hx hb dX0_pairGains_10 hl (by decide) rfl (fun ls hl => ?_)
  refine x0_pg_lp F hK hP ha hb5 (fun hno ls => ?_) (fun hbad ls => ?_) 33 0 ls (by omega) (by omega) (fun i h => by omega) (lv_sub hl [3, 4, 5, 2, 1, 0] rfl)
  · refine lv_iconst (v := nI 1) hx hb dX0_pairGains_80 (by decide +kernel) ?_
    exact cm_ret hx hb hr hlocks rfl (w, am, pt, mv, sp) ⟨Or.inr ⟨rfl, fun ⟨t, h1, h2⟩ => hno t h1 h2⟩, rfl⟩ hP hK hD hS dX0_pairGains_81
  · refine lv_iconst (v := nI 0) hx hb dX0_pairGains_72 (by decide +kernel) ?_
    exact cm_ret hx hb hr hlocks rfl (w, am, pt, mv, sp) ⟨Or.inl ⟨rfl, hbad⟩, rfl⟩ hP hK hD hS dX0_pairGains_73

theorem lt_s2 {a b : Nat} {P : Nat → Prop} (h : ∀ i, a < i → i < b → P i) (hb : P b) : ∀ i, a < i → i < b + 1 → P i := by
  intro i h1 h2
  rcases Nat.lt_or_ge i b with q | q
  · exact h i h1 q
  · obtain rfl : i = b := by omega
    exact hb
section
variable {p : Program} {l : Launch} {e : Env} {R : Room} {s : State} {m : MethodId} {args : Array Value} {below : List Frame} {meth : Method} {c : Code} {H : Heap} {locs : List Loc} {cells slots : Nat} {Q : State → Prop} {A : Nat → Prop}
variable {D : va_G} {d : Nat → ClassId} {g : Nat → Nat} {w am pt mv sp : Nat → Int32}
set_option maxHeartbeats 4000000 in
set_option maxRecDepth 100000 in
theorem x0_cx_in (F : CallFix p m c cX0_convex 4 s args lw_all RX0) (hA : ∀ q : Nat, s.heap.size ≤ q → A q) (hK : va_K D vwCl (tX0 d) s) {a : Nat} (ha : a < 5) (K1 : (∀ b, a < b → b < 5 → ∀ t, t < 32 → ¬ pgB w a b t) → ∀ (H : Heap) (locs : List Loc), va_P D vwCl (wX0 d g (w, am, pt, mv, sp)) H → va_D A (wX0 d g (w, am, pt, mv, sp)) → va_S A s.heap H locs → ∀ ls : Array Slot, lv_has ls 4 [(0, .ref (g 0)), (1, .int (nI a))] → W p l e cvr1 s m args below meth c H locs 0 0 Q (F0 m 35 ls [])) (K0 : cxX w → ∀ (H : Heap) (locs : List Loc), va_P D vwCl (wX0 d g (w, am, pt, mv, sp)) H → va_D A (wX0 d g (w, am, pt, mv, sp)) → va_S A s.heap H locs → ∀ ls : Array Slot, W p l e cvr1 s m args below meth c H locs 0 0 Q (F0 m 27 ls [])) : ∀ (n b : Nat), a < b → b ≤ 5 → 5 - b < n → (∀ i, a < i → i < b → ∀ t, t < 32 → ¬ pgB w a i t) → ∀ (H : Heap) (locs : List Loc), va_P D vwCl (wX0 d g (w, am, pt, mv, sp)) H → va_D A (wX0 d g (w, am, pt, mv, sp)) → va_S A s.heap H locs → ∀ ls : Array Slot, lv_has ls 4 [(0, .ref (g 0)), (1, .int (nI a)), (2, .int (nI b))] → W p l e cvr1 s m args below meth c H locs 0 0 Q (F0 m 11 ls []) := by
  have hx := F.1
  have hb := F.2.1
  have hown := F.2.2.2.1
  have hts := F.2.2.2.2
  intro n
  induction n with
  | zero => intro b h0 h1 h2; omega
  | succ n ih =>
    intro b hab hb5 hn hno H locs hP hD hS ls hl
    refine lv_iload_n hx hb dX0_convex_11 rfl (lv_at hl 2 rfl) ?_
    refine lv_iconst (v := nI 5) hx hb dX0_convex_12 (by decide +kernel) ?_
    refine cn_ge (tgt := 35) hx hb (by omega) (by decide) dX0_convex_13 (by decide) (fun c_13 => ?_) (fun c_13 => ?_)
    · obtain rfl : b = 5 := by omega
      exact K1 hno H locs hP hD hS ls (lv_sub hl [0, 1] rfl)
    · refine lv_aload_n hx hb dX0_convex_16 rfl (lv_at hl 0 rfl) ?_
      refine lv_iload_n hx hb dX0_convex_17 rfl (lv_at hl 1 rfl) ?_
      refine lv_iload_n hx hb dX0_convex_18 rfl (lv_at hl 2 rfl) ?_
      refine cm_self (wf := wX0 d g) (rest := []) F (x0_pairGains l D d g _ w am pt mv sp (a := a) (b := b) (by omega) (by omega)) (cwV 2 hts (lw_V q96 q98 qs2 q8 q99) rfl rfl rfl (by decide +kernel) ⟨Nat.le_of_ble_eq_true rfl, Nat.le_of_ble_eq_true rfl⟩) (ci := 0) rfl rfl rfl hK hP hD hS hA [0, 1, 2, 3, 4] [0, 1, 2, 3, 4, 5] rfl rfl rfl (by decide) rfl hl.1 rfl (Nat.le_of_ble_eq_true rfl) ⟨Nat.zero_le _, Nat.zero_le _⟩ dX0_convex_19 (fun r u H locs hw hP hD hS => ?_)
      obtain ⟨hw, rfl⟩ := hw
      rcases hw with ⟨rfl, hbad⟩ | ⟨rfl, hgood⟩
      · refine lv_istore_n (lv' := [(3, .int (nI 0)), (0, .ref (g 0)), (1, .int (nI a)), (2, .int (nI b))]) hx hb dX0_convex_22 rfl hl (by decide) rfl (fun ls hl => ?_)
        refine lv_iload_n hx hb dX0_convex_23 rfl (lv_at hl 0 rfl) ?_
        refine cz_ne (tgt := 29) hx hb (by decide) dX0_convex_24 (by decide) (fun h9 => absurd h9 (by decide)) (fun h9 => ?_)
        obtain ⟨t, ht, hbt⟩ := hbad
        exact K0 ⟨a, b, t, hab, by omega, ht, hbt⟩ H locs hP hD hS ls
      · refine lv_istore_n (lv' := [(3, .int (nI 1)), (0, .ref (g 0)), (1, .int (nI a)), (2, .int (nI b))]) hx hb dX0_convex_22 rfl hl (by decide) rfl (fun ls hl => ?_)
        refine lv_iload_n hx hb dX0_convex_23 rfl (lv_at hl 0 rfl) ?_
        refine cz_ne (tgt := 29) hx hb (by decide) dX0_convex_24 (by decide) (fun h9 => ?_) (fun h9 => absurd h9 (by decide))
        refine cn_iinc (lv' := [(2, .int (nI (b + 1))), (3, .int (nI 1)), (0, .ref (g 0)), (1, .int (nI a))]) hx hb dX0_convex_29 hl (k := 3) rfl (by decide) rfl (fun ls hl => ?_)
        refine lv_goto (tgt := 11) hx hb dX0_convex_32 (by decide) ?_
        exact ih (b + 1) (by omega) (by omega) (by omega) (lt_s2 hno (fun t ht hbt => hgood ⟨t, ht, hbt⟩)) H locs hP hD hS ls (lv_sub hl [2, 3, 0] rfl)
end
section
variable {p : Program} {l : Launch} {e : Env} {R : Room} {s : State} {m : MethodId} {args : Array Value} {below : List Frame} {meth : Method} {c : Code} {H : Heap} {locs : List Loc} {cells slots : Nat} {Q : State → Prop} {A : Nat → Prop}
variable {D : va_G} {d : Nat → ClassId} {g : Nat → Nat} {w am pt mv sp : Nat → Int32}
set_option maxHeartbeats 4000000 in
set_option maxRecDepth 100000 in
theorem x0_cx_lp (F : CallFix p m c cX0_convex 4 s args lw_all RX0) (hA : ∀ q : Nat, s.heap.size ≤ q → A q) (hK : va_K D vwCl (tX0 d) s) (K1 : ¬ cxX w → ∀ (H : Heap) (locs : List Loc), va_P D vwCl (wX0 d g (w, am, pt, mv, sp)) H → va_D A (wX0 d g (w, am, pt, mv, sp)) → va_S A s.heap H locs → ∀ ls : Array Slot, W p l e cvr1 s m args below meth c H locs 0 0 Q (F0 m 41 ls [])) (K0 : cxX w → ∀ (H : Heap) (locs : List Loc), va_P D vwCl (wX0 d g (w, am, pt, mv, sp)) H → va_D A (wX0 d g (w, am, pt, mv, sp)) → va_S A s.heap H locs → ∀ ls : Array Slot, W p l e cvr1 s m args below meth c H locs 0 0 Q (F0 m 27 ls [])) : ∀ (n a : Nat), a ≤ 5 → 5 - a < n → (∀ i, i < a → ∀ b, i < b → b < 5 → ∀ t, t < 32 → ¬ pgB w i b t) → ∀ (H : Heap) (locs : List Loc), va_P D vwCl (wX0 d g (w, am, pt, mv, sp)) H → va_D A (wX0 d g (w, am, pt, mv, sp)) → va_S A s.heap H locs → ∀ ls : Array Slot, lv_has ls 4 [(0, .ref (g 0)), (1, .int (nI a))] → W p l e cvr1 s m args below meth c H locs 0 0 Q (F0 m 2 ls []) := by
  have hx := F.1
  have hb := F.2.1
  have hown := F.2.2.2.1
  have hts := F.2.2.2.2
  intro n
  induction n with
  | zero => intro a h1 h2; omega
  | succ n ih =>
    intro a ha hn hno H locs hP hD hS ls hl
    refine lv_iload_n hx hb dX0_convex_2 rfl (lv_at hl 1 rfl) ?_
    refine lv_iconst (v := nI 5) hx hb dX0_convex_3 (by decide +kernel) ?_
    refine cn_ge (tgt := 41) hx hb (by omega) (by decide) dX0_convex_4 (by decide) (fun c_4 => ?_) (fun c_4 => ?_)
    · obtain rfl : a = 5 := by omega
      exact K1 (fun ⟨a, b, t, h1, h2, h3, h4⟩ => hno a (by omega) b h1 h2 t h3 h4) H locs hP hD hS ls
    · refine lv_iload_n hx hb dX0_convex_7 rfl (lv_at hl 1 rfl) ?_
      refine lv_iconst (v := nI 1) hx hb dX0_convex_8 (by decide +kernel) ?_
      refine cn_iadd hx hb dX0_convex_9 ?_
      refine lv_istore_n (lv' := [(2, .int (nI (a + 1))), (0, .ref (g 0)), (1, .int (nI a))]) hx hb dX0_convex_10 rfl hl (by decide) rfl (fun ls hl => ?_)
      refine x0_cx_in F hA hK (by omega) (fun hna H locs hP hD hS ls hl => ?_) K0 6 (a + 1) (by omega) (by omega) (by omega) (fun i h1 h2 => by omega) H locs hP hD hS ls (lv_sub hl [1, 2, 0] rfl)
      refine cn_iinc (lv' := [(1, .int (nI (a + 1))), (0, .ref (g 0))]) hx hb dX0_convex_35 hl (k := 1) rfl (by decide) rfl (fun ls hl => ?_)
      refine lv_goto (tgt := 2) hx hb dX0_convex_38 (by decide) ?_
      exact ih (a + 1) (by omega) (by omega) (lt_s hno hna) H locs hP hD hS ls (lv_sub hl [1, 0] rfl)
end
set_option maxHeartbeats 4000000 in
set_option maxRecDepth 100000 in
theorem x0_convex (l : Launch) (D : va_G) (d : Nat → ClassId) (g : Nat → Nat) (sz : Nat) (w am pt mv sp : Nat → Int32) : CM l yX0_convex cX0_convex 4 (some .boolean) cvr1 D (wX0 d g) (tX0 d) (g 0) sz (w, am, pt, mv, sp) [] (fun r u => yesNo r (cxX w) ∧ u = (w, am, pt, mv, sp)) := by
  refine cm_start (by decide) (Nat.le_of_ble_eq_true rfl) ?_
  intro p e s m below meth c ls A F hr hlocks hA hP hK hD hS hl
  have hx := F.1
  have hb := F.2.1
  have hown := F.2.2.2.1
  have hts := F.2.2.2.2
  have hl : lv_has ls 4 [(0, .ref (g 0))] := hl
  have hP : va_P D vwCl (wX0 d g (w, am, pt, mv, sp)) s.heap := hP
  have hD : va_D A (wX0 d g (w, am, pt, mv, sp)) := hD
  refine lv_iconst (v := nI 0) hx hb dX0_convex_0 (by decide +kernel) ?_
  refine lv_istore_n (lv' := [(1, .int (nI 0)), (0, .ref (g 0))]) hx hb dX0_convex_1 rfl hl (by decide) rfl (fun ls hl => ?_)
  refine x0_cx_lp F hA hK (fun hno H locs hP hD hS ls => ?_) (fun hbad H locs hP hD hS ls => ?_) 6 0 (by omega) (by omega) (fun i h => by omega) _ _ hP hD hS ls (lv_sub hl [1, 0] rfl)
  · refine lv_iconst (v := nI 1) hx hb dX0_convex_41 (by decide +kernel) ?_
    exact cm_ret hx hb hr hlocks rfl (w, am, pt, mv, sp) ⟨Or.inr ⟨rfl, hno⟩, rfl⟩ hP hK hD hS dX0_convex_42
  · refine lv_iconst (v := nI 0) hx hb dX0_convex_27 (by decide +kernel) ?_
    exact cm_ret hx hb hr hlocks rfl (w, am, pt, mv, sp) ⟨Or.inl ⟨rfl, hbad⟩, rfl⟩ hP hK hD hS dX0_convex_28

theorem sub_all : ∀ t v u : Fin 32, u.val < v.val → v.val &&& t.val = v.val → u.val &&& t.val = u.val → u.val ≤ (v.val - 1) &&& t.val := by decide +kernel
theorem sub_next {t v u : Nat} (ht : t < 32) (hv : v < 32) (h1 : u < v) (h2 : v &&& t = v) (h3 : u &&& t = u) : u ≤ (v - 1) &&& t := sub_all ⟨t, ht⟩ ⟨v, hv⟩ ⟨u, by omega⟩ h1 h2 h3
theorem sub_in (a t : Nat) : a &&& t &&& t = a &&& t := by rw [Nat.and_assoc, Nat.and_self]
theorem sub_lt {v t : Nat} (h : 0 < v) : (v - 1) &&& t < v := Nat.lt_of_le_of_lt Nat.and_le_left (by omega)
section
variable {p : Program} {l : Launch} {e : Env} {R : Room} {s : State} {m : MethodId} {args : Array Value} {below : List Frame} {meth : Method} {c : Code} {H : Heap} {locs : List Loc} {cells slots : Nat} {Q : State → Prop} {A : Nat → Prop}
variable {D : va_G} {d : Nat → ClassId} {g : Nat → Nat} {w am pt mv sp : Nat → Int32}
set_option maxHeartbeats 4000000 in
set_option maxRecDepth 100000 in
theorem x0_sa_in (F : CallFix p m c cX0_superadditive 4 s args lw_all RX0) (hK : va_K D vwCl (tX0 d) s) (hP : va_P D vwCl (wX0 d g (w, am, pt, mv, sp)) H) {t : Nat} (ht : t < 32) (K1 : (∀ u, 0 < u → u < t → u &&& t = u → ¬ w t < w u + w (t ^^^ u)) → ∀ ls : Array Slot, lv_has ls 4 [(0, .ref (g 0)), (1, .int (nI t))] → W p l e R s m args below meth c H locs cells slots Q (F0 m 64 ls [])) (K0 : saX w → ∀ ls : Array Slot, W p l e R s m args below meth c H locs cells slots Q (F0 m 50 ls [])) : ∀ (n v i : Nat) (ls : Array Slot), v < n → v + i ≤ 31 → v < t → v &&& t = v → (∀ u, v < u → u < t → u &&& t = u → ¬ w t < w u + w (t ^^^ u)) → lv_has ls 4 [(0, .ref (g 0)), (1, .int (nI t)), (2, .int (nI v)), (3, .int (nI i))] → W p l e R s m args below meth c H locs cells slots Q (F0 m 16 ls []) := by
  have hx := F.1
  have hb := F.2.1
  have hown := F.2.2.2.1
  have hts := F.2.2.2.2
  intro n
  induction n with
  | zero => intro v i ls h1; omega
  | succ n ih =>
    intro v i ls hn hvi hvt hsub hno hl
    refine lv_iload_n hx hb dX0_superadditive_16 rfl (lv_at hl 3 rfl) ?_
    refine lv_bipush (v := nI 32) hx hb dX0_superadditive_17 (by decide +kernel) ?_
    refine cn_ge (tgt := 64) hx hb (by omega) (by decide) dX0_superadditive_19 (by decide) (fun c_19 => ?_) (fun c_19 => ?_)
    · omega
    · refine lv_iload_n hx hb dX0_superadditive_22 rfl (lv_at hl 2 rfl) ?_
      refine cz_le (tgt := 64) hx hb (by omega) dX0_superadditive_23 (by decide) (fun c_23 => ?_) (fun c_23 => ?_)
      · subst c_23
        exact K1 hno ls (lv_sub hl [0, 1] rfl)
      · refine lv_aload_n hx hb dX0_superadditive_26 rfl (lv_at hl 0 rfl) ?_
        refine va_get (D := D) (ci := 0) (v := .ref (g 1)) (C := RX0) (T := TX0) (N := 5) hx hb hts in_X0 hown hK hP 0 rfl rfl 0 (by decide) (hts _ q18) (fun _ h9 => h9) rfl dX0_superadditive_27 ?_
        refine lv_iload_n hx hb dX0_superadditive_30 rfl (lv_at hl 1 rfl) ?_
        refine cv_ald hx hb hK hP 1 0 rfl rfl (by decide) (by omega) dX0_superadditive_31 ?_
        refine lv_aload_n hx hb dX0_superadditive_32 rfl (lv_at hl 0 rfl) ?_
        refine va_get (D := D) (ci := 0) (v := .ref (g 1)) (C := RX0) (T := TX0) (N := 5) hx hb hts in_X0 hown hK hP 0 rfl rfl 0 (by decide) (hts _ q18) (fun _ h9 => h9) rfl dX0_superadditive_33 ?_
        refine lv_iload_n hx hb dX0_superadditive_36 rfl (lv_at hl 2 rfl) ?_
        refine cv_ald hx hb hK hP 1 0 rfl rfl (by decide) (by omega) dX0_superadditive_37 ?_
        refine lv_aload_n hx hb dX0_superadditive_38 rfl (lv_at hl 0 rfl) ?_
        refine va_get (D := D) (ci := 0) (v := .ref (g 1)) (C := RX0) (T := TX0) (N := 5) hx hb hts in_X0 hown hK hP 0 rfl rfl 0 (by decide) (hts _ q18) (fun _ h9 => h9) rfl dX0_superadditive_39 ?_
        refine lv_iload_n hx hb dX0_superadditive_42 rfl (lv_at hl 1 rfl) ?_
        refine lv_iload_n hx hb dX0_superadditive_43 rfl (lv_at hl 2 rfl) ?_
        refine cn_ixor hx hb dX0_superadditive_44 ?_
        refine cv_ald hx hb hK hP 1 0 rfl rfl (by decide) (xor32 (by omega) (by omega)) dX0_superadditive_45 ?_
        refine lv_iadd hx hb dX0_superadditive_46 ?_
        refine lv_icmp_ge (tgt := 52) hx hb dX0_superadditive_47 (by decide) (fun c_47 => ?_) (fun c_47 => ?_)
        · refine lv_iload_n hx hb dX0_superadditive_52 rfl (lv_at hl 2 rfl) ?_
          refine lv_iconst (v := nI 1) hx hb dX0_superadditive_53 (by decide +kernel) ?_
          refine cn_isub hx hb (by omega) dX0_superadditive_54 ?_
          refine lv_iload_n hx hb dX0_superadditive_55 rfl (lv_at hl 1 rfl) ?_
          refine cn_iand hx hb dX0_superadditive_56 ?_
          refine lv_istore_n (lv' := [(2, .int (nI ((v - 1) &&& t))), (0, .ref (g 0)), (1, .int (nI t)), (3, .int (nI i))]) hx hb dX0_superadditive_57 rfl hl (by decide) rfl (fun ls hl => ?_)
          refine cn_iinc (lv' := [(3, .int (nI (i + 1))), (2, .int (nI ((v - 1) &&& t))), (0, .ref (g 0)), (1, .int (nI t))]) hx hb dX0_superadditive_58 hl (k := 3) rfl (by decide) rfl (fun ls hl => ?_)
          refine lv_goto (tgt := 16) hx hb dX0_superadditive_61 (by decide) ?_
          have hlt := sub_lt (v := v) (t := t) c_23
          exact ih ((v - 1) &&& t) (i + 1) ls (by omega) (by omega) (by omega) (sub_in _ _) (fun u h1 h2 h3 => by
            rcases Nat.lt_trichotomy u v with q | q | q
            · exact absurd (sub_next ht (by omega) q hsub h3) (by omega)
            · subst q; exact fun h => absurd c_47 (Int32.not_le.mpr h)
            · exact hno u q h2 h3) (lv_sub hl [2, 3, 1, 0] rfl)
        · exact K0 ⟨t, v, ht, c_23, hvt, hsub, Int32.not_le.mp c_47⟩ ls
end
section
variable {p : Program} {l : Launch} {e : Env} {R : Room} {s : State} {m : MethodId} {args : Array Value} {below : List Frame} {meth : Method} {c : Code} {H : Heap} {locs : List Loc} {cells slots : Nat} {Q : State → Prop} {A : Nat → Prop}
variable {D : va_G} {d : Nat → ClassId} {g : Nat → Nat} {w am pt mv sp : Nat → Int32}
set_option maxHeartbeats 4000000 in
set_option maxRecDepth 100000 in
theorem x0_sa_lp (F : CallFix p m c cX0_superadditive 4 s args lw_all RX0) (hK : va_K D vwCl (tX0 d) s) (hP : va_P D vwCl (wX0 d g (w, am, pt, mv, sp)) H) (K1 : ¬ saX w → ∀ ls : Array Slot, W p l e R s m args below meth c H locs cells slots Q (F0 m 70 ls [])) (K0 : saX w → ∀ ls : Array Slot, W p l e R s m args below meth c H locs cells slots Q (F0 m 50 ls [])) : ∀ (n t : Nat) (ls : Array Slot), 1 ≤ t → t ≤ 32 → 32 - t < n → (∀ i, i < t → ∀ v, ¬ sxB w i v) → lv_has ls 4 [(0, .ref (g 0)), (1, .int (nI t))] → W p l e R s m args below meth c H locs cells slots Q (F0 m 2 ls []) := by
  have hx := F.1
  have hb := F.2.1
  have hown := F.2.2.2.1
  have hts := F.2.2.2.2
  intro n
  induction n with
  | zero => intro t ls h0 h1 h2; omega
  | succ n ih =>
    intro t ls h1 ht hn hno hl
    refine lv_iload_n hx hb dX0_superadditive_2 rfl (lv_at hl 1 rfl) ?_
    refine lv_bipush (v := nI 32) hx hb dX0_superadditive_3 (by decide +kernel) ?_
    refine cn_ge (tgt := 70) hx hb (by omega) (by decide) dX0_superadditive_5 (by decide) (fun c_5 => ?_) (fun c_5 => ?_)
    · obtain rfl : t = 32 := by omega
      exact K1 (fun ⟨t, v, h1, h2⟩ => hno t h1 v h2) ls
    · refine lv_iload_n hx hb dX0_superadditive_8 rfl (lv_at hl 1 rfl) ?_
      refine lv_iconst (v := nI 1) hx hb dX0_superadditive_9 (by decide +kernel) ?_
      refine cn_isub hx hb (by omega) dX0_superadditive_10 ?_
      refine lv_iload_n hx hb dX0_superadditive_11 rfl (lv_at hl 1 rfl) ?_
      refine cn_iand hx hb dX0_superadditive_12 ?_
      refine lv_istore_n (lv' := [(2, .int (nI ((t - 1) &&& t))), (0, .ref (g 0)), (1, .int (nI t))]) hx hb dX0_superadditive_13 rfl hl (by decide) rfl (fun ls hl => ?_)
      refine lv_iconst (v := nI 0) hx hb dX0_superadditive_14 (by decide +kernel) ?_
      refine lv_istore_n (lv' := [(3, .int (nI 0)), (2, .int (nI ((t - 1) &&& t))), (0, .ref (g 0)), (1, .int (nI t))]) hx hb dX0_superadditive_15 rfl hl (by decide) rfl (fun ls hl => ?_)
      have hlt := sub_lt (v := t) (t := t) (by omega)
      refine x0_sa_in F hK hP (by omega) (fun hnt ls hl => ?_) K0 32 ((t - 1) &&& t) 0 ls (by omega) (by omega) (by omega) (sub_in _ _) (fun u h1 h2 h3 => absurd (sub_next (v := t) (by omega) (by omega) h2 (Nat.and_self t) h3) (by omega)) (lv_sub hl [2, 3, 1, 0] rfl)
      refine cn_iinc (lv' := [(1, .int (nI (t + 1))), (0, .ref (g 0))]) hx hb dX0_superadditive_64 hl (k := 1) rfl (by decide) rfl (fun ls hl => ?_)
      refine lv_goto (tgt := 2) hx hb dX0_superadditive_67 (by decide) ?_
      exact ih (t + 1) ls (by omega) (by omega) (by omega) (lt_s hno (fun u h => hnt u h.1 h.2.1 h.2.2.1 h.2.2.2)) (lv_sub hl [1, 0] rfl)
end
set_option maxHeartbeats 4000000 in
set_option maxRecDepth 100000 in
theorem x0_superadditive (l : Launch) (D : va_G) (d : Nat → ClassId) (g : Nat → Nat) (sz : Nat) (w am pt mv sp : Nat → Int32) : CM l yX0_superadditive cX0_superadditive 4 (some .boolean) cvr0 D (wX0 d g) (tX0 d) (g 0) sz (w, am, pt, mv, sp) [] (fun r u => yesNo r (saX w) ∧ u = (w, am, pt, mv, sp)) := by
  refine cm_start (by decide) (Nat.le_of_ble_eq_true rfl) ?_
  intro p e s m below meth c ls A F hr hlocks hA hP hK hD hS hl
  have hx := F.1
  have hb := F.2.1
  have hown := F.2.2.2.1
  have hts := F.2.2.2.2
  have hl : lv_has ls 4 [(0, .ref (g 0))] := hl
  have hP : va_P D vwCl (wX0 d g (w, am, pt, mv, sp)) s.heap := hP
  have hD : va_D A (wX0 d g (w, am, pt, mv, sp)) := hD
  refine lv_iconst (v := nI 1) hx hb dX0_superadditive_0 (by decide +kernel) ?_
  refine lv_istore_n (lv' := [(1, .int (nI 1)), (0, .ref (g 0))]) hx hb dX0_superadditive_1 rfl hl (by decide) rfl (fun ls hl => ?_)
  refine x0_sa_lp F hK hP (fun hno ls => ?_) (fun hbad ls => ?_) 32 1 ls (by omega) (by omega) (by omega) (fun i h v hv => by have := hv.2.1; have := hv.1; omega) (lv_sub hl [1, 0] rfl)
  · refine lv_iconst (v := nI 1) hx hb dX0_superadditive_70 (by decide +kernel) ?_
    exact cm_ret hx hb hr hlocks rfl (w, am, pt, mv, sp) ⟨Or.inr ⟨rfl, hno⟩, rfl⟩ hP hK hD hS dX0_superadditive_71
  · refine lv_iconst (v := nI 0) hx hb dX0_superadditive_50 (by decide +kernel) ?_
    exact cm_ret hx hb hr hlocks rfl (w, am, pt, mv, sp) ⟨Or.inl ⟨rfl, hbad⟩, rfl⟩ hP hK hD hS dX0_superadditive_51

section
variable {p : Program} {l : Launch} {e : Env} {R : Room} {s : State} {m : MethodId} {args : Array Value} {below : List Frame} {meth : Method} {c : Code} {H : Heap} {locs : List Loc} {cells slots : Nat} {Q : State → Prop} {A : Nat → Prop}
variable {D : va_G} {d : Nat → ClassId} {g : Nat → Nat} {w am pt mv sp : Nat → Int32}
set_option maxHeartbeats 4000000 in
set_option maxRecDepth 100000 in
theorem x0_al_lp (F : CallFix p m c cX0_alike 5 s args lw_all RX0) (hK : va_K D vwCl (tX0 d) s) (hP : va_P D vwCl (wX0 d g (w, am, pt, mv, sp)) H) {a b : Nat} (ha : a < 5) (hb5 : b < 5) (K1 : ¬ (∃ t, t < 32 ∧ alB w a b t) → ∀ ls : Array Slot, W p l e R s m args below meth c H locs cells slots Q (F0 m 83 ls [])) (K0 : (∃ t, t < 32 ∧ alB w a b t) → ∀ ls : Array Slot, W p l e R s m args below meth c H locs cells slots Q (F0 m 75 ls [])) : ∀ (n t : Nat) (ls : Array Slot), t ≤ 32 → 32 - t < n → (∀ i, i < t → ¬ alB w a b i) → lv_has ls 5 [(0, .ref (g 0)), (1, .int (nI a)), (2, .int (nI b)), (3, .int (nI t))] → W p l e R s m args below meth c H locs cells slots Q (F0 m 18 ls []) := by
  have hx := F.1
  have hb := F.2.1
  have hown := F.2.2.2.1
  have hts := F.2.2.2.2
  intro n
  induction n with
  | zero => intro t ls h1 h2; omega
  | succ n ih =>
    intro t ls ht hn hno hl
    refine lv_iload_n hx hb dX0_alike_18 rfl (lv_at hl 3 rfl) ?_
    refine lv_bipush (v := nI 32) hx hb dX0_alike_19 (by decide +kernel) ?_
    refine cn_ge (tgt := 83) hx hb (by omega) (by decide) dX0_alike_21 (by decide) (fun c_21 => ?_) (fun c_21 => ?_)
    · obtain rfl : t = 32 := by omega
      exact K1 (fun ⟨t, h1, h2⟩ => hno t h1 h2) ls
    · refine lv_iload_n hx hb dX0_alike_24 rfl (lv_at hl 3 rfl) ?_
      refine lv_iload_n hx hb dX0_alike_25 rfl (lv_at hl 1 rfl) ?_
      refine cn_ishr hx hb (by omega) (by omega) dX0_alike_26 ?_
      refine lv_iconst (v := nI 1) hx hb dX0_alike_27 (by decide +kernel) ?_
      refine cn_iand hx hb dX0_alike_28 ?_
      refine cz_ne (tgt := 44) hx hb (Nat.lt_trans (bt_lt _ _) (by decide)) dX0_alike_29 (by decide) (fun c_29 => ?_) (fun c_29 => ?_)
      · refine lv_iconst (v := nI 0) hx hb dX0_alike_44 (by decide +kernel) ?_
        refine lv_istore (lv' := [(4, .int (nI 0)), (0, .ref (g 0)), (1, .int (nI a)), (2, .int (nI b)), (3, .int (nI t))]) hx hb dX0_alike_45 hl (by decide) rfl (fun ls hl => ?_)
        refine lv_iload hx hb dX0_alike_47 (lv_at hl 0 rfl) ?_
        refine cz_eq (tgt := 77) hx hb (by decide) dX0_alike_49 (by decide) (fun h9 => ?_) (fun h9 => absurd h9 (by decide))
        refine cn_iinc (lv' := [(3, .int (nI (t + 1))), (4, .int (nI 0)), (0, .ref (g 0)), (1, .int (nI a)), (2, .int (nI b))]) hx hb dX0_alike_77 hl (k := 4) rfl (by decide) rfl (fun ls hl => ?_)
        refine lv_goto (tgt := 18) hx hb dX0_alike_80 (by decide) ?_
        exact ih (t + 1) ls (by omega) (by omega) (lt_s hno (by first | exact fun h => c_29 h.1 | exact fun h => c_37 h.2.1 | exact fun h => h.2.2 c_72)) (lv_sub hl [2, 3, 4, 0] rfl)
      · refine lv_iload_n hx hb dX0_alike_32 rfl (lv_at hl 3 rfl) ?_
        refine lv_iload_n hx hb dX0_alike_33 rfl (lv_at hl 2 rfl) ?_
        refine cn_ishr hx hb (by omega) (by omega) dX0_alike_34 ?_
        refine lv_iconst (v := nI 1) hx hb dX0_alike_35 (by decide +kernel) ?_
        refine cn_iand hx hb dX0_alike_36 ?_
        refine cz_ne (tgt := 44) hx hb (Nat.lt_trans (bt_lt _ _) (by decide)) dX0_alike_37 (by decide) (fun c_37 => ?_) (fun c_37 => ?_)
        · refine lv_iconst (v := nI 0) hx hb dX0_alike_44 (by decide +kernel) ?_
          refine lv_istore (lv' := [(4, .int (nI 0)), (0, .ref (g 0)), (1, .int (nI a)), (2, .int (nI b)), (3, .int (nI t))]) hx hb dX0_alike_45 hl (by decide) rfl (fun ls hl => ?_)
          refine lv_iload hx hb dX0_alike_47 (lv_at hl 0 rfl) ?_
          refine cz_eq (tgt := 77) hx hb (by decide) dX0_alike_49 (by decide) (fun h9 => ?_) (fun h9 => absurd h9 (by decide))
          refine cn_iinc (lv' := [(3, .int (nI (t + 1))), (4, .int (nI 0)), (0, .ref (g 0)), (1, .int (nI a)), (2, .int (nI b))]) hx hb dX0_alike_77 hl (k := 4) rfl (by decide) rfl (fun ls hl => ?_)
          refine lv_goto (tgt := 18) hx hb dX0_alike_80 (by decide) ?_
          exact ih (t + 1) ls (by omega) (by omega) (lt_s hno (by first | exact fun h => c_29 h.1 | exact fun h => c_37 h.2.1 | exact fun h => h.2.2 c_72)) (lv_sub hl [2, 3, 4, 0] rfl)
        · refine lv_iconst (v := nI 1) hx hb dX0_alike_40 (by decide +kernel) ?_
          refine lv_goto (tgt := 45) hx hb dX0_alike_41 (by decide) ?_
          refine lv_istore (lv' := [(4, .int (nI 1)), (0, .ref (g 0)), (1, .int (nI a)), (2, .int (nI b)), (3, .int (nI t))]) hx hb dX0_alike_45 hl (by decide) rfl (fun ls hl => ?_)
          refine lv_iload hx hb dX0_alike_47 (lv_at hl 0 rfl) ?_
          refine cz_eq (tgt := 77) hx hb (by decide) dX0_alike_49 (by decide) (fun h9 => absurd h9 (by decide)) (fun h9 => ?_)
          refine lv_aload_n hx hb dX0_alike_52 rfl (lv_at hl 1 rfl) ?_
          refine va_get (D := D) (ci := 0) (v := .ref (g 1)) (C := RX0) (T := TX0) (N := 5) hx hb hts in_X0 hown hK hP 0 rfl rfl 0 (by decide) (hts _ q18) (fun _ h9 => h9) rfl dX0_alike_53 ?_
          refine lv_iload_n hx hb dX0_alike_56 rfl (lv_at hl 4 rfl) ?_
          refine lv_iconst (v := nI 1) hx hb dX0_alike_57 (by decide +kernel) ?_
          refine lv_iload_n hx hb dX0_alike_58 rfl (lv_at hl 2 rfl) ?_
          refine cn_ishl hx hb (shlB (by omega)) (by omega) dX0_alike_59 ?_
          refine cn_ior hx hb dX0_alike_60 ?_
          refine cv_ald hx hb hK hP 1 0 rfl rfl (by decide) (or32 (by omega) (shl32 ha)) dX0_alike_61 ?_
          refine lv_aload_n hx hb dX0_alike_62 rfl (lv_at hl 1 rfl) ?_
          refine va_get (D := D) (ci := 0) (v := .ref (g 1)) (C := RX0) (T := TX0) (N := 5) hx hb hts in_X0 hown hK hP 0 rfl rfl 0 (by decide) (hts _ q18) (fun _ h9 => h9) rfl dX0_alike_63 ?_
          refine lv_iload_n hx hb dX0_alike_66 rfl (lv_at hl 4 rfl) ?_
          refine lv_iconst (v := nI 1) hx hb dX0_alike_67 (by decide +kernel) ?_
          refine lv_iload_n hx hb dX0_alike_68 rfl (lv_at hl 3 rfl) ?_
          refine cn_ishl hx hb (shlB (by omega)) (by omega) dX0_alike_69 ?_
          refine cn_ior hx hb dX0_alike_70 ?_
          refine cv_ald hx hb hK hP 1 0 rfl rfl (by decide) (or32 (by omega) (shl32 hb5)) dX0_alike_71 ?_
          refine lv_icmp_eq (tgt := 77) hx hb dX0_alike_72 (by decide) (fun c_72 => ?_) (fun c_72 => ?_)
          · refine cn_iinc (lv' := [(3, .int (nI (t + 1))), (4, .int (nI 1)), (0, .ref (g 0)), (1, .int (nI a)), (2, .int (nI b))]) hx hb dX0_alike_77 hl (k := 4) rfl (by decide) rfl (fun ls hl => ?_)
            refine lv_goto (tgt := 18) hx hb dX0_alike_80 (by decide) ?_
            exact ih (t + 1) ls (by omega) (by omega) (lt_s hno (by first | exact fun h => c_29 h.1 | exact fun h => c_37 h.2.1 | exact fun h => h.2.2 c_72)) (lv_sub hl [2, 3, 4, 0] rfl)
          · exact K0 ⟨t, by omega, c_29, c_37, c_72⟩ ls
end
theorem alP_l {x y r : Int32} {w : Nat → Int32} (h : pl5 x = none) (hr : r = nI 0) : alP w x y r := by
  unfold alP
  rw [h]
  exact hr
theorem alP_r {x y r : Int32} {w : Nat → Int32} (h : pl5 y = none) (hr : r = nI 0) : alP w x y r := by
  unfold alP
  rw [h]
  cases pl5 x <;> exact hr
theorem alP_ok {x y r : Int32} {w : Nat → Int32} {i j : Nat} (h : pl5 x = some i) (h2 : pl5 y = some j) (hr : yesNo r (∃ t, t < 32 ∧ alB w i j t)) : alP w x y r := by
  unfold alP
  rw [h, h2]
  exact hr
set_option maxHeartbeats 4000000 in
set_option maxRecDepth 100000 in
theorem x0_alike (l : Launch) (D : va_G) (d : Nat → ClassId) (g : Nat → Nat) (sz : Nat) (w am pt mv sp : Nat → Int32) (x y : Int32) : CM l yX0_alike cX0_alike 5 (some .boolean) cvr1 D (wX0 d g) (tX0 d) (g 0) sz (w, am, pt, mv, sp) [.int x, .int y] (fun r u => alP w x y r ∧ u = (w, am, pt, mv, sp)) := by
  refine cm_start (by decide) (Nat.le_of_ble_eq_true rfl) ?_
  intro p e s m below meth c ls A F hr hlocks hA hP hK hD hS hl
  have hx := F.1
  have hb := F.2.1
  have hown := F.2.2.2.1
  have hts := F.2.2.2.2
  have hl : lv_has ls 5 [(0, .ref (g 0)), (1, .int x), (2, .int y)] := hl
  have hP : va_P D vwCl (wX0 d g (w, am, pt, mv, sp)) s.heap := hP
  have hD : va_D A (wX0 d g (w, am, pt, mv, sp)) := hD
  refine lv_iload_n hx hb dX0_alike_0 rfl (lv_at hl 1 rfl) ?_
  refine cs_call (rest := []) F (x0_badPlayer l _ (x)) (va_cwS 1 hts (lw_S q46 q47 q8 q48) rfl rfl rfl (by decide +kernel) ⟨Nat.le_of_ble_eq_true rfl, Nat.le_of_ble_eq_true rfl⟩) hP hS hA rfl hl.1 rfl (Nat.le_of_ble_eq_true rfl) ⟨Nat.zero_le _, Nat.zero_le _⟩ dX0_alike_1 (fun r H locs hw hP hS => ?_)
  rcases hw with ⟨rfl, h1⟩ | ⟨a, rfl, h1⟩
  · refine cz_ne (tgt := 14) hx hb (by decide) dX0_alike_4 (by decide) (fun h9 => ?_) (fun h9 => absurd h9 (by decide))
    refine lv_iconst (v := nI 0) hx hb dX0_alike_14 (by decide +kernel) ?_
    exact cm_ret hx hb hr hlocks rfl (w, am, pt, mv, sp) ⟨by first | exact alP_l h1 rfl | exact alP_r h8 rfl, rfl⟩ hP hK hD hS dX0_alike_15
  · obtain ⟨hk_a, rfl⟩ := pl5_some h1
    refine cz_ne (tgt := 14) hx hb (by decide) dX0_alike_4 (by decide) (fun h9 => absurd h9 (by decide)) (fun h9 => ?_)
    refine lv_iload_n hx hb dX0_alike_7 rfl (lv_at hl 2 rfl) ?_
    refine cs_call (rest := []) F (x0_badPlayer l _ (y)) (va_cwS 1 hts (lw_S q46 q47 q8 q48) rfl rfl rfl (by decide +kernel) ⟨Nat.le_of_ble_eq_true rfl, Nat.le_of_ble_eq_true rfl⟩) hP hS hA rfl hl.1 rfl (Nat.le_of_ble_eq_true rfl) ⟨Nat.zero_le _, Nat.zero_le _⟩ dX0_alike_8 (fun r H locs hw hP hS => ?_)
    rcases hw with ⟨rfl, h8⟩ | ⟨b, rfl, h8⟩
    · refine cz_eq (tgt := 16) hx hb (by decide) dX0_alike_11 (by decide) (fun h9 => absurd h9 (by decide)) (fun h9 => ?_)
      refine lv_iconst (v := nI 0) hx hb dX0_alike_14 (by decide +kernel) ?_
      exact cm_ret hx hb hr hlocks rfl (w, am, pt, mv, sp) ⟨by first | exact alP_l h1 rfl | exact alP_r h8 rfl, rfl⟩ hP hK hD hS dX0_alike_15
    · obtain ⟨hk_b, rfl⟩ := pl5_some h8
      refine cz_eq (tgt := 16) hx hb (by decide) dX0_alike_11 (by decide) (fun h9 => ?_) (fun h9 => absurd h9 (by decide))
      refine lv_iconst (v := nI 0) hx hb dX0_alike_16 (by decide +kernel) ?_
      refine lv_istore_n (lv' := [(3, .int (nI 0)), (0, .ref (g 0)), (1, .int (nI a)), (2, .int (nI b))]) hx hb dX0_alike_17 rfl hl (by decide) rfl (fun ls hl => ?_)
      refine x0_al_lp F hK hP hk_a hk_b (fun hno ls => ?_) (fun hbad ls => ?_) 33 0 ls (by omega) (by omega) (fun i h => by omega) (lv_sub hl [1, 2, 3, 0] rfl)
      · refine lv_iconst (v := nI 1) hx hb dX0_alike_83 (by decide +kernel) ?_
        exact cm_ret hx hb hr hlocks rfl (w, am, pt, mv, sp) ⟨alP_ok h1 h8 (Or.inr ⟨rfl, hno⟩), rfl⟩ hP hK hD hS dX0_alike_84
      · refine lv_iconst (v := nI 0) hx hb dX0_alike_75 (by decide +kernel) ?_
        exact cm_ret hx hb hr hlocks rfl (w, am, pt, mv, sp) ⟨alP_ok h1 h8 (Or.inl ⟨rfl, hbad⟩), rfl⟩ hP hK hD hS dX0_alike_76

def lwN (t : Nat) : Nat := t ^^^ rst t
theorem low_all : ∀ t : Fin 32, nI t.val &&& -(nI t.val) = nI (lwN t.val) ∧ t.val ^^^ lwN t.val = rst t.val := by decide +kernel
theorem low_eq {t : Nat} (h : t < 32) : nI t &&& -(nI t) = nI (lwN t) := (low_all ⟨t, h⟩).1
theorem low_rst {t : Nat} (h : t < 32) : t ^^^ lwN t = rst t := (low_all ⟨t, h⟩).2
theorem rst_lt {t : Nat} (h : 0 < t) : rst t < t := Nat.lt_of_le_of_lt Nat.and_le_right (by omega)
/-- the best of the splits of t by the groups greater than v -/
def bsI (w sp : Nat → Int32) (t v : Nat) (best : Int32) : Prop := w t ≤ best ∧ (∀ u, v < u → u &&& rst t = u → w (t ^^^ u) + sp u ≤ best) ∧ (best = w t ∨ ∃ u, 0 < u ∧ u &&& rst t = u ∧ best = w (t ^^^ u) + sp u)
theorem bsI_0 {w sp : Nat → Int32} {t : Nat} : bsI w sp t (rst t) (w t) := by
  refine ⟨Int32.le_refl _, fun u h1 h2 => ?_, Or.inl rfl⟩
  have h3 : u &&& rst t ≤ rst t := Nat.and_le_right
  omega
theorem bsI_step {w sp : Nat → Int32} {t v : Nat} {best b2 : Int32} (ht : 0 < t) (ht2 : t < 32) (h : bsI w sp t v best) (hv : 0 < v) (hsub : v &&& rst t = v) (h1 : best ≤ b2) (h2 : w (t ^^^ v) + sp v ≤ b2) (h3 : b2 = best ∨ b2 = w (t ^^^ v) + sp v) : bsI w sp t ((v - 1) &&& rst t) b2 := by
  obtain ⟨g1, g2, g3⟩ := h
  have hr := rst_lt ht
  refine ⟨Int32.le_trans g1 h1, fun u q1 q2 => ?_, ?_⟩
  · rcases Nat.lt_trichotomy u v with q | q | q
    · have hvr : v &&& rst t ≤ rst t := Nat.and_le_right
      exact absurd (sub_next (by omega) (by omega) q hsub q2) (by omega)
    · subst q
      exact h2
    · exact Int32.le_trans (g2 u q q2) h1
  · rcases h3 with rfl | rfl
    · exact g3
    · exact Or.inr ⟨v, hv, hsub, rfl⟩
theorem bsT_new {w sp : Nat → Int32} {t : Nat} {best : Int32} (ht : 0 < t) (h : bsI w sp t 0 best) : bsT w (upd sp t best) t := by
  obtain ⟨g1, g2, g3⟩ := h
  have hr := rst_lt ht
  have e : ∀ u, u &&& rst t = u → upd sp t best u = sp u := fun u hu => by
    have h3 : u &&& rst t ≤ rst t := Nat.and_le_right
    exact pk_un (by omega)
  have e0 : upd sp t best t = best := pk_us
  refine ⟨by rw [e0]; exact g1, fun u h1 h2 => by rw [e0, e u h2]; exact g2 u h1 h2, ?_⟩
  rw [e0]
  rcases g3 with g3 | ⟨u, h1, h2, h3⟩
  · exact Or.inl g3
  · exact Or.inr ⟨u, h1, h2, by rw [e u h2]; exact h3⟩
theorem bsT_old {w sp : Nat → Int32} {t i : Nat} {best : Int32} (hi : 0 < i) (hit : i < t) (h : bsT w sp i) : bsT w (upd sp t best) i := by
  obtain ⟨g1, g2, g3⟩ := h
  have hr := rst_lt hi
  have e : ∀ u, u &&& rst i = u → upd sp t best u = sp u := fun u hu => by
    have h3 : u &&& rst i ≤ rst i := Nat.and_le_right
    exact pk_un (by omega)
  have e0 : upd sp t best i = sp i := pk_un (by omega)
  refine ⟨by rw [e0]; exact g1, fun u h1 h2 => by rw [e0, e u h2]; exact g2 u h1 h2, ?_⟩
  rw [e0]
  rcases g3 with g3 | ⟨u, h1, h2, h3⟩
  · exact Or.inl g3
  · exact Or.inr ⟨u, h1, h2, by rw [e u h2]; exact h3⟩
theorem bsAll {w sp : Nat → Int32} {t : Nat} {best : Int32} (ht : 0 < t) (h : ∀ i, 1 ≤ i → i < t → bsT w sp i) (hn : bsI w sp t 0 best) : ∀ i, 1 ≤ i → i < t + 1 → bsT w (upd sp t best) i := by
  intro i h1 h2
  rcases Nat.lt_or_ge i t with q | q
  · exact bsT_old h1 q (h i h1 q)
  · obtain rfl : i = t := by omega
    exact bsT_new h1 hn
section
variable {p : Program} {l : Launch} {e : Env} {R : Room} {s : State} {m : MethodId} {args : Array Value} {below : List Frame} {meth : Method} {c : Code} {H : Heap} {locs : List Loc} {cells slots : Nat} {Q : State → Prop} {A : Nat → Prop}
variable {D : va_G} {d : Nat → ClassId} {g : Nat → Nat} {w am pt mv sp : Nat → Int32}
set_option maxHeartbeats 4000000 in
set_option maxRecDepth 100000 in
theorem x0_bs_in (F : CallFix p m c cX0_bestSplit 8 s args lw_all RX0) (hK : va_K D vwCl (tX0 d) s) (hP : va_P D vwCl (wX0 d g (w, am, pt, mv, sp)) H) {t : Nat} (h0 : 0 < t) (ht : t < 32) (K : ∀ best : Int32, bsI w sp t 0 best → ∀ ls : Array Slot, lv_has ls 8 [(0, .ref (g 0)), (1, .int (nI t)), (5, .int best)] → W p l e R s m args below meth c H locs cells slots Q (F0 m 94 ls [])) : ∀ (n v i : Nat) (best : Int32) (ls : Array Slot), v < n → v + i ≤ 31 → v &&& rst t = v → bsI w sp t v best → lv_has ls 8 [(0, .ref (g 0)), (1, .int (nI t)), (3, .int (nI (rst t))), (4, .int (nI v)), (5, .int best), (6, .int (nI i))] → W p l e R s m args below meth c H locs cells slots Q (F0 m 38 ls []) := by
  have hx := F.1
  have hb := F.2.1
  have hown := F.2.2.2.1
  have hts := F.2.2.2.2
  intro n
  induction n with
  | zero => intro v i best ls h1; omega
  | succ n ih =>
    intro v i best ls hn hvi hsub hI hl
    refine lv_iload hx hb dX0_bestSplit_38 (lv_at hl 5 rfl) ?_
    refine lv_bipush (v := nI 32) hx hb dX0_bestSplit_40 (by decide +kernel) ?_
    refine cn_ge (tgt := 94) hx hb (by omega) (by decide) dX0_bestSplit_42 (by decide) (fun c_42 => ?_) (fun c_42 => ?_)
    · omega
    · refine lv_iload hx hb dX0_bestSplit_45 (lv_at hl 3 rfl) ?_
      refine cz_le (tgt := 94) hx hb (by omega) dX0_bestSplit_47 (by decide) (fun c_47 => ?_) (fun c_47 => ?_)
      · subst c_47
        exact K best hI ls (lv_sub hl [0, 1, 4] rfl)
      · refine lv_aload_n hx hb dX0_bestSplit_50 rfl (lv_at hl 0 rfl) ?_
        refine va_get (D := D) (ci := 0) (v := .ref (g 1)) (C := RX0) (T := TX0) (N := 5) hx hb hts in_X0 hown hK hP 0 rfl rfl 0 (by decide) (hts _ q18) (fun _ h9 => h9) rfl dX0_bestSplit_51 ?_
        refine lv_iload_n hx hb dX0_bestSplit_54 rfl (lv_at hl 1 rfl) ?_
        refine lv_iload hx hb dX0_bestSplit_55 (lv_at hl 3 rfl) ?_
        refine cn_ixor hx hb dX0_bestSplit_57 ?_
        refine cv_ald hx hb hK hP 1 0 rfl rfl (by decide) (xor32 ht (by omega)) dX0_bestSplit_58 ?_
        refine lv_aload_n hx hb dX0_bestSplit_59 rfl (lv_at hl 0 rfl) ?_
        refine va_get (D := D) (ci := 0) (v := .ref (g 5)) (C := RX0) (T := TX0) (N := 5) hx hb hts in_X0 hown hK hP 0 rfl rfl 4 (by decide) (hts _ q22) (fun _ h9 => h9) rfl dX0_bestSplit_60 ?_
        refine lv_iload hx hb dX0_bestSplit_63 (lv_at hl 3 rfl) ?_
        refine cv_ald hx hb hK hP 5 4 rfl rfl (by decide) (by omega) dX0_bestSplit_65 ?_
        refine lv_iadd hx hb dX0_bestSplit_66 ?_
        refine lv_istore (lv' := [(7, .int ((w (t ^^^ v)) + (sp v))), (0, .ref (g 0)), (1, .int (nI t)), (3, .int (nI (rst t))), (4, .int (nI v)), (5, .int best), (6, .int (nI i))]) hx hb dX0_bestSplit_67 hl (by decide) rfl (fun ls hl => ?_)
        refine lv_iload hx hb dX0_bestSplit_69 (lv_at hl 0 rfl) ?_
        refine lv_iload hx hb dX0_bestSplit_71 (lv_at hl 5 rfl) ?_
        refine lv_icmp_le (tgt := 80) hx hb dX0_bestSplit_73 (by decide) (fun c_73 => ?_) (fun c_73 => ?_)
        · refine lv_iload hx hb dX0_bestSplit_80 (lv_at hl 4 rfl) ?_
          refine lv_iconst (v := nI 1) hx hb dX0_bestSplit_82 (by decide +kernel) ?_
          refine cn_isub hx hb (by omega) dX0_bestSplit_83 ?_
          refine lv_iload_n hx hb dX0_bestSplit_84 rfl (lv_at hl 3 rfl) ?_
          refine cn_iand hx hb dX0_bestSplit_85 ?_
          refine lv_istore (lv' := [(4, .int (nI ((v - 1) &&& (rst t)))), (7, .int ((w (t ^^^ v)) + (sp v))), (0, .ref (g 0)), (1, .int (nI t)), (3, .int (nI (rst t))), (5, .int best), (6, .int (nI i))]) hx hb dX0_bestSplit_86 hl (by decide) rfl (fun ls hl => ?_)
          refine cn_iinc (lv' := [(6, .int (nI (i + 1))), (4, .int (nI ((v - 1) &&& (rst t)))), (7, .int ((w (t ^^^ v)) + (sp v))), (0, .ref (g 0)), (1, .int (nI t)), (3, .int (nI (rst t))), (5, .int best)]) hx hb dX0_bestSplit_88 hl (k := 6) rfl (by decide) rfl (fun ls hl => ?_)
          refine lv_goto (tgt := 38) hx hb dX0_bestSplit_91 (by decide) ?_
          have hlt := sub_lt (v := v) (t := rst t) c_47
          exact ih ((v - 1) &&& rst t) (i + 1) _ ls (by omega) (by omega) (sub_in _ _) (bsI_step (by omega) ht hI c_47 hsub (Int32.le_refl _) c_73 (Or.inl rfl)) (lv_sub hl [3, 4, 5, 1, 6, 0] rfl)
        · refine lv_iload hx hb dX0_bestSplit_76 (lv_at hl 0 rfl) ?_
          refine lv_istore (lv' := [(5, .int ((w (t ^^^ v)) + (sp v))), (7, .int ((w (t ^^^ v)) + (sp v))), (0, .ref (g 0)), (1, .int (nI t)), (3, .int (nI (rst t))), (4, .int (nI v)), (6, .int (nI i))]) hx hb dX0_bestSplit_78 hl (by decide) rfl (fun ls hl => ?_)
          refine lv_iload hx hb dX0_bestSplit_80 (lv_at hl 5 rfl) ?_
          refine lv_iconst (v := nI 1) hx hb dX0_bestSplit_82 (by decide +kernel) ?_
          refine cn_isub hx hb (by omega) dX0_bestSplit_83 ?_
          refine lv_iload_n hx hb dX0_bestSplit_84 rfl (lv_at hl 4 rfl) ?_
          refine cn_iand hx hb dX0_bestSplit_85 ?_
          refine lv_istore (lv' := [(4, .int (nI ((v - 1) &&& (rst t)))), (5, .int ((w (t ^^^ v)) + (sp v))), (7, .int ((w (t ^^^ v)) + (sp v))), (0, .ref (g 0)), (1, .int (nI t)), (3, .int (nI (rst t))), (6, .int (nI i))]) hx hb dX0_bestSplit_86 hl (by decide) rfl (fun ls hl => ?_)
          refine cn_iinc (lv' := [(6, .int (nI (i + 1))), (4, .int (nI ((v - 1) &&& (rst t)))), (5, .int ((w (t ^^^ v)) + (sp v))), (7, .int ((w (t ^^^ v)) + (sp v))), (0, .ref (g 0)), (1, .int (nI t)), (3, .int (nI (rst t)))]) hx hb dX0_bestSplit_88 hl (k := 6) rfl (by decide) rfl (fun ls hl => ?_)
          refine lv_goto (tgt := 38) hx hb dX0_bestSplit_91 (by decide) ?_
          have hlt := sub_lt (v := v) (t := rst t) c_47
          exact ih ((v - 1) &&& rst t) (i + 1) _ ls (by omega) (by omega) (sub_in _ _) (bsI_step (by omega) ht hI c_47 hsub (Int32.le_of_lt (Int32.not_le.mp c_73)) (Int32.le_refl _) (Or.inr rfl)) (lv_sub hl [4, 5, 6, 1, 2, 0] rfl)
end
section
variable {p : Program} {l : Launch} {e : Env} {R : Room} {s : State} {m : MethodId} {args : Array Value} {below : List Frame} {meth : Method} {c : Code} {H : Heap} {locs : List Loc} {cells slots : Nat} {Q : State → Prop} {A : Nat → Prop}
variable {D : va_G} {d : Nat → ClassId} {g : Nat → Nat} {w am pt mv sp : Nat → Int32}
set_option maxHeartbeats 4000000 in
set_option maxRecDepth 100000 in
theorem x0_bs_lp (F : CallFix p m c cX0_bestSplit 8 s args lw_all RX0) (hK : va_K D vwCl (tX0 d) s) (K : ∀ sp : Nat → Int32, sp 0 = 0 → (∀ i, 1 ≤ i → i < 32 → bsT w sp i) → ∀ (H : Heap) (locs : List Loc), va_P D vwCl (wX0 d g (w, am, pt, mv, sp)) H → va_D A (wX0 d g (w, am, pt, mv, sp)) → va_S A s.heap H locs → ∀ ls : Array Slot, lv_has ls 8 [(0, .ref (g 0))] → W p l e R s m args below meth c H locs cells slots Q (F0 m 108 ls [])) : ∀ (n t : Nat) (sp : Nat → Int32), 1 ≤ t → t ≤ 32 → 32 - t < n → sp 0 = 0 → (∀ i, 1 ≤ i → i < t → bsT w sp i) → ∀ (H : Heap) (locs : List Loc), va_P D vwCl (wX0 d g (w, am, pt, mv, sp)) H → va_D A (wX0 d g (w, am, pt, mv, sp)) → va_S A s.heap H locs → ∀ ls : Array Slot, lv_has ls 8 [(0, .ref (g 0)), (1, .int (nI t))] → W p l e R s m args below meth c H locs cells slots Q (F0 m 9 ls []) := by
  have hx := F.1
  have hb := F.2.1
  have hown := F.2.2.2.1
  have hts := F.2.2.2.2
  intro n
  induction n with
  | zero => intro t sp h0 h1 h2; omega
  | succ n ih =>
    intro t sp h1 ht hn hz hT H locs hP hD hS ls hl
    refine lv_iload_n hx hb dX0_bestSplit_9 rfl (lv_at hl 1 rfl) ?_
    refine lv_bipush (v := nI 32) hx hb dX0_bestSplit_10 (by decide +kernel) ?_
    refine cn_ge (tgt := 108) hx hb (by omega) (by decide) dX0_bestSplit_12 (by decide) (fun c_12 => ?_) (fun c_12 => ?_)
    · obtain rfl : t = 32 := by omega
      exact K sp hz hT H locs hP hD hS ls (lv_sub hl [0] rfl)
    · refine lv_iload_n hx hb dX0_bestSplit_15 rfl (lv_at hl 1 rfl) ?_
      refine lv_iload_n hx hb dX0_bestSplit_16 rfl (lv_at hl 1 rfl) ?_
      refine lv_ineg hx hb dX0_bestSplit_17 ?_
      refine lv_iand hx hb dX0_bestSplit_18 ?_
      refine cv_set (y := nI (lwN t)) (low_eq (by omega)) ?_
      refine lv_istore_n (lv' := [(2, .int (nI (lwN t))), (0, .ref (g 0)), (1, .int (nI t))]) hx hb dX0_bestSplit_19 rfl hl (by decide) rfl (fun ls hl => ?_)
      refine lv_iload_n hx hb dX0_bestSplit_20 rfl (lv_at hl 2 rfl) ?_
      refine lv_iload_n hx hb dX0_bestSplit_21 rfl (lv_at hl 0 rfl) ?_
      refine cn_ixor hx hb dX0_bestSplit_22 ?_
      refine cv_set (y := nI (rst t)) (congrArg nI (low_rst (by omega))) ?_
      refine lv_istore_n (lv' := [(3, .int (nI (rst t))), (2, .int (nI (lwN t))), (0, .ref (g 0)), (1, .int (nI t))]) hx hb dX0_bestSplit_23 rfl hl (by decide) rfl (fun ls hl => ?_)
      refine lv_iload_n hx hb dX0_bestSplit_24 rfl (lv_at hl 0 rfl) ?_
      refine lv_istore (lv' := [(4, .int (nI (rst t))), (3, .int (nI (rst t))), (2, .int (nI (lwN t))), (0, .ref (g 0)), (1, .int (nI t))]) hx hb dX0_bestSplit_25 hl (by decide) rfl (fun ls hl => ?_)
      refine lv_aload_n hx hb dX0_bestSplit_27 rfl (lv_at hl 3 rfl) ?_
      refine va_get (D := D) (ci := 0) (v := .ref (g 1)) (C := RX0) (T := TX0) (N := 5) hx hb hts in_X0 hown hK hP 0 rfl rfl 0 (by decide) (hts _ q18) (fun _ h9 => h9) rfl dX0_bestSplit_28 ?_
      refine lv_iload_n hx hb dX0_bestSplit_31 rfl (lv_at hl 4 rfl) ?_
      refine cv_ald hx hb hK hP 1 0 rfl rfl (by decide) (by omega) dX0_bestSplit_32 ?_
      refine lv_istore (lv' := [(5, .int (w t)), (4, .int (nI (rst t))), (3, .int (nI (rst t))), (2, .int (nI (lwN t))), (0, .ref (g 0)), (1, .int (nI t))]) hx hb dX0_bestSplit_33 hl (by decide) rfl (fun ls hl => ?_)
      refine lv_iconst (v := nI 0) hx hb dX0_bestSplit_35 (by decide +kernel) ?_
      refine lv_istore (lv' := [(6, .int (nI 0)), (5, .int (w t)), (4, .int (nI (rst t))), (3, .int (nI (rst t))), (2, .int (nI (lwN t))), (0, .ref (g 0)), (1, .int (nI t))]) hx hb dX0_bestSplit_36 hl (by decide) rfl (fun ls hl => ?_)
      have hr := rst_lt (t := t) (by omega)
      refine x0_bs_in F hK hP (by omega) (by omega) (fun best hI ls hl => ?_) 32 (rst t) 0 _ ls (by omega) (by omega) (Nat.and_self _) bsI_0 (lv_sub hl [5, 6, 3, 2, 1, 0] rfl)
      refine lv_aload_n hx hb dX0_bestSplit_94 rfl (lv_at hl 0 rfl) ?_
      refine va_get (D := D) (ci := 0) (v := .ref (g 5)) (C := RX0) (T := TX0) (N := 5) hx hb hts in_X0 hown hK hP 0 rfl rfl 4 (by decide) (hts _ q22) (fun _ h9 => h9) rfl dX0_bestSplit_95 ?_
      refine lv_iload_n hx hb dX0_bestSplit_98 rfl (lv_at hl 1 rfl) ?_
      refine lv_iload hx hb dX0_bestSplit_99 (lv_at hl 2 rfl) ?_
      refine cv_ast hx hb hK hP hD hS 5 4 rfl rfl (by decide) (by omega) dX0_bestSplit_101 (fun H locs hP hD hS => ?_)
      have hP : va_P D vwCl (wX0 d g (w, am, pt, mv, upd sp t best)) H := hP
      have hD : va_D A (wX0 d g (w, am, pt, mv, upd sp t best)) := hD
      refine cn_iinc (lv' := [(1, .int (nI (t + 1))), (0, .ref (g 0)), (5, .int best)]) hx hb dX0_bestSplit_102 hl (k := 1) rfl (by decide) rfl (fun ls hl => ?_)
      refine lv_goto (tgt := 9) hx hb dX0_bestSplit_105 (by decide) ?_
      exact ih (t + 1) _ (by omega) (by omega) (by omega) (by rw [pk_un (by omega)]; exact hz) (bsAll (by omega) hT hI) H locs hP hD hS ls (lv_sub hl [1, 0] rfl)
end
set_option maxHeartbeats 4000000 in
set_option maxRecDepth 100000 in
theorem x0_bestSplit (l : Launch) (D : va_G) (d : Nat → ClassId) (g : Nat → Nat) (sz : Nat) (w am pt mv sp : Nat → Int32) : CM l yX0_bestSplit cX0_bestSplit 8 (some .int) cvr0 D (wX0 d g) (tX0 d) (g 0) sz (w, am, pt, mv, sp) [] (fun r u => (∃ sp : Nat → Int32, sp 0 = 0 ∧ (∀ i, 1 ≤ i → i < 32 → bsT w sp i) ∧ r = sp 31) ∧ u.1 = w ∧ u.2.1 = am) := by
  refine cm_start (by decide) (Nat.le_of_ble_eq_true rfl) ?_
  intro p e s m below meth c ls A F hr hlocks hA hP hK hD hS hl
  have hx := F.1
  have hb := F.2.1
  have hown := F.2.2.2.1
  have hts := F.2.2.2.2
  have hl : lv_has ls 8 [(0, .ref (g 0))] := hl
  have hP : va_P D vwCl (wX0 d g (w, am, pt, mv, sp)) s.heap := hP
  have hD : va_D A (wX0 d g (w, am, pt, mv, sp)) := hD
  refine lv_aload_n hx hb dX0_bestSplit_0 rfl (lv_at hl 0 rfl) ?_
  refine va_get (D := D) (ci := 0) (v := .ref (g 5)) (C := RX0) (T := TX0) (N := 5) hx hb hts in_X0 hown hK hP 0 rfl rfl 4 (by decide) (hts _ q22) (fun _ h9 => h9) rfl dX0_bestSplit_1 ?_
  refine lv_iconst (v := nI 0) hx hb dX0_bestSplit_4 (by decide +kernel) ?_
  refine lv_iconst (v := 0) hx hb dX0_bestSplit_5 (by decide +kernel) ?_
  refine cv_ast hx hb hK hP hD hS 5 4 rfl rfl (by decide) (by decide) dX0_bestSplit_6 (fun H locs hP hD hS => ?_)
  have hP : va_P D vwCl (wX0 d g (w, am, pt, mv, upd sp 0 0)) H := hP
  have hD : va_D A (wX0 d g (w, am, pt, mv, upd sp 0 0)) := hD
  refine lv_iconst (v := nI 1) hx hb dX0_bestSplit_7 (by decide +kernel) ?_
  refine lv_istore_n (lv' := [(1, .int (nI 1)), (0, .ref (g 0))]) hx hb dX0_bestSplit_8 rfl hl (by decide) rfl (fun ls hl => ?_)
  refine x0_bs_lp F hK (fun sp hz hT H locs hP hD hS ls hl => ?_) 32 1 _ (by omega) (by omega) (by omega) pk_us (fun i h1 h2 => by omega) _ _ hP hD hS ls (lv_sub hl [1, 0] rfl)
  refine lv_aload_n hx hb dX0_bestSplit_108 rfl (lv_at hl 0 rfl) ?_
  refine va_get (D := D) (ci := 0) (v := .ref (g 5)) (C := RX0) (T := TX0) (N := 5) hx hb hts in_X0 hown hK hP 0 rfl rfl 4 (by decide) (hts _ q22) (fun _ h9 => h9) rfl dX0_bestSplit_109 ?_
  refine lv_bipush (v := nI 31) hx hb dX0_bestSplit_112 (by decide +kernel) ?_
  refine cv_ald hx hb hK hP 5 4 rfl rfl (by decide) (by decide) dX0_bestSplit_114 ?_
  exact cm_ret hx hb hr hlocks rfl (w, am, pt, mv, sp) ⟨⟨sp, hz, hT, rfl⟩, rfl, rfl⟩ hP hK hD hS dX0_bestSplit_115
end
section
/-! X1 (CoalitionValuesModel), first: isPlayer, worth, pay, weigh, exchange, share, complaint, inCore, own, swingValue -/
set_option maxRecDepth 100000
def ok5 (x r : Int32) : Prop := (r = nI 0 ∧ pl5 x = none) ∨ ∃ k, r = nI 1 ∧ pl5 x = some k
set_option maxHeartbeats 4000000 in
set_option maxRecDepth 100000 in
theorem x1_isPlayer (l : Launch) (D : va_G) (d : Nat → ClassId) (g : Nat → Nat) (sz : Nat) (w mv pt am : Nat → Int32) (x : Int32) : CM l yX1_isPlayer cX1_isPlayer 2 (some .boolean) cvr0 D (wX1 d g) (tX1 d) (g 0) sz (w, mv, pt, am) [.int x] (fun r u => ok5 x r ∧ u = (w, mv, pt, am)) := by
  refine cm_start (by decide) (Nat.le_of_ble_eq_true rfl) ?_
  intro p e s m below meth c ls A F hr hlocks hA hP hK hD hS hl
  have hx := F.1
  have hb := F.2.1
  have hown := F.2.2.2.1
  have hts := F.2.2.2.2
  have hl : lv_has ls 2 [(0, .ref (g 0)), (1, .int x)] := hl
  have hP : va_P D vwCl (wX1 d g (w, mv, pt, am)) s.heap := hP
  have hD : va_D A (wX1 d g (w, mv, pt, am)) := hD
  refine lv_iload_n hx hb dX1_isPlayer_0 rfl (lv_at hl 1 rfl) ?_
  refine lv_if_lt (tgt := 13) hx hb dX1_isPlayer_1 (by decide) (fun c_1 => ?_) (fun c_1 => ?_)
  · refine lv_iconst (v := nI 0) hx hb dX1_isPlayer_13 (by decide +kernel) ?_
    exact cm_ret hx hb hr hlocks rfl (w, mv, pt, am) ⟨Or.inl ⟨rfl, by first | exact pl5_lt c_1 | exact pl5_le c_6⟩, rfl⟩ hP hK hD hS dX1_isPlayer_14
  · refine lv_iload_n hx hb dX1_isPlayer_4 rfl (lv_at hl 1 rfl) ?_
    refine lv_iconst (v := nI 5) hx hb dX1_isPlayer_5 (by decide +kernel) ?_
    refine lv_icmp_ge (tgt := 13) hx hb dX1_isPlayer_6 (by decide) (fun c_6 => ?_) (fun c_6 => ?_)
    · refine lv_iconst (v := nI 0) hx hb dX1_isPlayer_13 (by decide +kernel) ?_
      exact cm_ret hx hb hr hlocks rfl (w, mv, pt, am) ⟨Or.inl ⟨rfl, by first | exact pl5_lt c_1 | exact pl5_le c_6⟩, rfl⟩ hP hK hD hS dX1_isPlayer_14
    · refine lv_iconst (v := nI 1) hx hb dX1_isPlayer_9 (by decide +kernel) ?_
      refine lv_goto (tgt := 14) hx hb dX1_isPlayer_10 (by decide) ?_
      exact cm_ret hx hb hr hlocks rfl (w, mv, pt, am) ⟨by obtain ⟨k, hk⟩ := pl5_in' c_1 c_6; exact Or.inr ⟨k, rfl, hk⟩, rfl⟩ hP hK hD hS dX1_isPlayer_14

set_option maxHeartbeats 4000000 in
set_option maxRecDepth 100000 in
theorem x1_worth (l : Launch) (D : va_G) (d : Nat → ClassId) (g : Nat → Nat) (sz : Nat) (w mv pt am : Nat → Int32) (x v : Int32) : CM l yX1_worth cX1_worth 4 (some .int) cvr0 D (wX1 d g) (tX1 d) (g 0) sz (w, mv, pt, am) [.int x, .int v] (fun r u => (r, u) = ((worthF x v w).1, ((worthF x v w).2, mv, pt, am))) := by
  refine cm_start (by decide) (Nat.le_of_ble_eq_true rfl) ?_
  intro p e s m below meth c ls A F hr hlocks hA hP hK hD hS hl
  have hx := F.1
  have hb := F.2.1
  have hown := F.2.2.2.1
  have hts := F.2.2.2.2
  have hl : lv_has ls 4 [(0, .ref (g 0)), (1, .int x), (2, .int v)] := hl
  have hP : va_P D vwCl (wX1 d g (w, mv, pt, am)) s.heap := hP
  have hD : va_D A (wX1 d g (w, mv, pt, am)) := hD
  refine lv_iload_n hx hb dX1_worth_0 rfl (lv_at hl 1 rfl) ?_
  refine lv_iconst (v := nI 1) hx hb dX1_worth_1 (by decide +kernel) ?_
  refine lv_icmp_lt (tgt := 11) hx hb dX1_worth_2 (by decide) (fun c_2 => ?_) (fun c_2 => ?_)
  · have h1 : st32 x = none := by first | exact st32_lt c_2 | exact st32_gt c_8
    refine lv_iconst (v := (-1)) hx hb dX1_worth_11 (by decide +kernel) ?_
    exact cm_ret hx hb hr hlocks rfl (w, mv, pt, am) (by unfold worthF; rw [h1]) hP hK hD hS dX1_worth_12
  · refine lv_iload_n hx hb dX1_worth_5 rfl (lv_at hl 1 rfl) ?_
    refine lv_bipush (v := nI 31) hx hb dX1_worth_6 (by decide +kernel) ?_
    refine lv_icmp_le (tgt := 13) hx hb dX1_worth_8 (by decide) (fun c_8 => ?_) (fun c_8 => ?_)
    · obtain ⟨k, h1⟩ := st32_in' c_2 c_8
      obtain ⟨h1_k, hk_k, rfl⟩ := st32_some h1
      refine lv_iload_n hx hb dX1_worth_13 rfl (lv_at hl 2 rfl) ?_
      refine lv_sipush (v := (-1000)) hx hb dX1_worth_14 (by decide +kernel) ?_
      refine lv_icmp_lt (tgt := 27) hx hb dX1_worth_17 (by decide) (fun c_17 => ?_) (fun c_17 => ?_)
      · refine lv_bipush (v := (-2)) hx hb dX1_worth_27 (by decide +kernel) ?_
        exact cm_ret hx hb hr hlocks rfl (w, mv, pt, am) (by unfold worthF; simp only [h1]; rw [if_pos (by first | exact Or.inl c_17 | exact Or.inr c_24)]) hP hK hD hS dX1_worth_29
      · refine lv_iload_n hx hb dX1_worth_20 rfl (lv_at hl 2 rfl) ?_
        refine lv_sipush (v := 1000) hx hb dX1_worth_21 (by decide +kernel) ?_
        refine lv_icmp_le (tgt := 30) hx hb dX1_worth_24 (by decide) (fun c_24 => ?_) (fun c_24 => ?_)
        · refine lv_aload_n hx hb dX1_worth_30 rfl (lv_at hl 0 rfl) ?_
          refine va_get (D := D) (ci := 1) (v := .ref (g 1)) (C := RX1) (T := TX1) (N := 4) hx hb hts in_X1 hown hK hP 0 rfl rfl 0 (by decide) (hts _ q118) (fun _ h9 => h9) rfl dX1_worth_31 ?_
          refine lv_iload_n hx hb dX1_worth_34 rfl (lv_at hl 1 rfl) ?_
          refine cv_ald hx hb hK hP 1 0 rfl rfl (by decide) (by omega) dX1_worth_35 ?_
          refine lv_istore_n (lv' := [(3, .int (w k)), (0, .ref (g 0)), (1, .int (nI k)), (2, .int v)]) hx hb dX1_worth_36 rfl hl (by decide) rfl (fun ls hl => ?_)
          refine lv_aload_n hx hb dX1_worth_37 rfl (lv_at hl 1 rfl) ?_
          refine va_get (D := D) (ci := 1) (v := .ref (g 1)) (C := RX1) (T := TX1) (N := 4) hx hb hts in_X1 hown hK hP 0 rfl rfl 0 (by decide) (hts _ q118) (fun _ h9 => h9) rfl dX1_worth_38 ?_
          refine lv_iload_n hx hb dX1_worth_41 rfl (lv_at hl 2 rfl) ?_
          refine lv_iload_n hx hb dX1_worth_42 rfl (lv_at hl 3 rfl) ?_
          refine cv_ast hx hb hK hP hD hS 1 0 rfl rfl (by decide) (by omega) dX1_worth_43 (fun H locs hP hD hS => ?_)
          have hP : va_P D vwCl (wX1 d g (upd w k v, mv, pt, am)) H := hP
          have hD : va_D A (wX1 d g (upd w k v, mv, pt, am)) := hD
          refine lv_iload_n hx hb dX1_worth_44 rfl (lv_at hl 0 rfl) ?_
          exact cm_ret hx hb hr hlocks rfl (upd w k v, mv, pt, am) (by unfold worthF; simp only [h1]; rw [if_neg (by rintro (h | h); exact c_17 h; exact h c_24)]) hP hK hD hS dX1_worth_45
        · refine lv_bipush (v := (-2)) hx hb dX1_worth_27 (by decide +kernel) ?_
          exact cm_ret hx hb hr hlocks rfl (w, mv, pt, am) (by unfold worthF; simp only [h1]; rw [if_pos (by first | exact Or.inl c_17 | exact Or.inr c_24)]) hP hK hD hS dX1_worth_29
    · have h1 : st32 x = none := by first | exact st32_lt c_2 | exact st32_gt c_8
      refine lv_iconst (v := (-1)) hx hb dX1_worth_11 (by decide +kernel) ?_
      exact cm_ret hx hb hr hlocks rfl (w, mv, pt, am) (by unfold worthF; rw [h1]) hP hK hD hS dX1_worth_12

set_option maxHeartbeats 4000000 in
set_option maxRecDepth 100000 in
theorem x1_pay (l : Launch) (D : va_G) (d : Nat → ClassId) (g : Nat → Nat) (sz : Nat) (w mv pt am : Nat → Int32) (x v : Int32) : CM l yX1_pay cX1_pay 3 (some .int) cvr1 D (wX1 d g) (tX1 d) (g 0) sz (w, mv, pt, am) [.int x, .int v] (fun r u => (r, u) = ((payF x v am).1, (w, mv, pt, (payF x v am).2))) := by
  refine cm_start (by decide) (Nat.le_of_ble_eq_true rfl) ?_
  intro p e s m below meth c ls A F hr hlocks hA hP hK hD hS hl
  have hx := F.1
  have hb := F.2.1
  have hown := F.2.2.2.1
  have hts := F.2.2.2.2
  have hl : lv_has ls 3 [(0, .ref (g 0)), (1, .int x), (2, .int v)] := hl
  have hP : va_P D vwCl (wX1 d g (w, mv, pt, am)) s.heap := hP
  have hD : va_D A (wX1 d g (w, mv, pt, am)) := hD
  refine lv_aload_n hx hb dX1_pay_0 rfl (lv_at hl 0 rfl) ?_
  refine lv_iload_n hx hb dX1_pay_1 rfl (lv_at hl 1 rfl) ?_
  refine cm_self (wf := wX1 d g) (rest := []) F (x1_isPlayer l D d g _ w mv pt am x) (cwV 1 hts (lw_V q139 q141 qs3 q9 q142) rfl rfl rfl (by decide +kernel) ⟨Nat.le_of_ble_eq_true rfl, Nat.le_of_ble_eq_true rfl⟩) (ci := 1) rfl rfl rfl hK hP hD hS hA [0, 1, 2, 3] [0, 1, 2, 3, 4] rfl rfl rfl (by decide) rfl hl.1 rfl (Nat.le_of_ble_eq_true rfl) ⟨Nat.zero_le _, Nat.zero_le _⟩ dX1_pay_2 (fun r u H locs hw hP hD hS => ?_)
  obtain ⟨hw, rfl⟩ := hw
  rcases hw with ⟨rfl, h2⟩ | ⟨k, rfl, h2⟩
  · refine cz_ne (tgt := 11) hx hb (by decide) dX1_pay_5 (by decide) (fun h9 => absurd h9 (by decide)) (fun h9 => ?_)
    refine lv_bipush (v := (-3)) hx hb dX1_pay_8 (by decide +kernel) ?_
    exact cm_ret hx hb hr hlocks rfl (w, mv, pt, am) (by unfold payF; rw [h2]) hP hK hD hS dX1_pay_10
  · obtain ⟨hk_k, rfl⟩ := pl5_some h2
    refine cz_ne (tgt := 11) hx hb (by decide) dX1_pay_5 (by decide) (fun h9 => ?_) (fun h9 => absurd h9 (by decide))
    refine lv_iload_n hx hb dX1_pay_11 rfl (lv_at hl 2 rfl) ?_
    refine lv_sipush (v := (-10000)) hx hb dX1_pay_12 (by decide +kernel) ?_
    refine lv_icmp_lt (tgt := 25) hx hb dX1_pay_15 (by decide) (fun c_15 => ?_) (fun c_15 => ?_)
    · refine lv_bipush (v := (-2)) hx hb dX1_pay_25 (by decide +kernel) ?_
      exact cm_ret hx hb hr hlocks rfl (w, mv, pt, am) (by unfold payF; simp only [h2]; rw [if_pos (by first | exact Or.inl c_15 | exact Or.inr c_22)]) hP hK hD hS dX1_pay_27
    · refine lv_iload_n hx hb dX1_pay_18 rfl (lv_at hl 2 rfl) ?_
      refine lv_sipush (v := 10000) hx hb dX1_pay_19 (by decide +kernel) ?_
      refine lv_icmp_le (tgt := 28) hx hb dX1_pay_22 (by decide) (fun c_22 => ?_) (fun c_22 => ?_)
      · refine lv_aload_n hx hb dX1_pay_28 rfl (lv_at hl 0 rfl) ?_
        refine va_get (D := D) (ci := 1) (v := .ref (g 4)) (C := RX1) (T := TX1) (N := 4) hx hb hts in_X1 hown hK hP 0 rfl rfl 3 (by decide) (hts _ q121) (fun _ h9 => h9) rfl dX1_pay_29 ?_
        refine lv_iload_n hx hb dX1_pay_32 rfl (lv_at hl 1 rfl) ?_
        refine lv_iload_n hx hb dX1_pay_33 rfl (lv_at hl 2 rfl) ?_
        refine cv_ast hx hb hK hP hD hS 4 3 rfl rfl (by decide) (by omega) dX1_pay_34 (fun H locs hP hD hS => ?_)
        have hP : va_P D vwCl (wX1 d g (w, mv, pt, upd am k v)) H := hP
        have hD : va_D A (wX1 d g (w, mv, pt, upd am k v)) := hD
        refine lv_iconst (v := nI 0) hx hb dX1_pay_35 (by decide +kernel) ?_
        exact cm_ret hx hb hr hlocks rfl (w, mv, pt, upd am k v) (by unfold payF; simp only [h2]; rw [if_neg (by rintro (h | h); exact c_15 h; exact h c_22)]) hP hK hD hS dX1_pay_36
      · refine lv_bipush (v := (-2)) hx hb dX1_pay_25 (by decide +kernel) ?_
        exact cm_ret hx hb hr hlocks rfl (w, mv, pt, am) (by unfold payF; simp only [h2]; rw [if_pos (by first | exact Or.inl c_15 | exact Or.inr c_22)]) hP hK hD hS dX1_pay_27

section
variable {p : Program} {l : Launch} {e : Env} {R : Room} {s : State} {m : MethodId} {args : Array Value} {below : List Frame} {meth : Method} {c : Code} {H : Heap} {locs : List Loc} {cells slots : Nat} {Q : State → Prop} {A : Nat → Prop}
variable {D : va_G} {d : Nat → ClassId} {g : Nat → Nat} {w am pt mv sp : Nat → Int32}
set_option maxHeartbeats 4000000 in
set_option maxRecDepth 100000 in
theorem x1_weigh_in (F : CallFix p m c cX1_weigh 7 s args lw_all RX1) {wt q nn : Int32} {t : Nat} (ht : t < 32) (K : ∀ ls : Array Slot, lv_has ls 7 [(0, .ref (g 0)), (1, .int wt), (2, .int q), (3, .int nn), (4, .int (nI t)), (5, .int (wgS wt t 5)), (6, .int (nI 5))] → W p l e R s m args below meth c H locs cells slots Q (F0 m 68 ls [])) : ∀ (n j : Nat) (ls : Array Slot), j ≤ 5 → 5 - j < n → lv_has ls 7 [(0, .ref (g 0)), (1, .int wt), (2, .int q), (3, .int nn), (4, .int (nI t)), (5, .int (wgS wt t j)), (6, .int (nI j))] → W p l e R s m args below meth c H locs cells slots Q (F0 m 32 ls []) := by
  have hx := F.1
  have hb := F.2.1
  have hown := F.2.2.2.1
  have hts := F.2.2.2.2
  intro n
  induction n with
  | zero => intro j ls h1 h2; omega
  | succ n ih =>
    intro j ls hj hn hl
    refine lv_iload hx hb dX1_weigh_32 (lv_at hl 6 rfl) ?_
    refine lv_iconst (v := nI 5) hx hb dX1_weigh_34 (by decide +kernel) ?_
    refine cn_ge (tgt := 68) hx hb (by omega) (by decide) dX1_weigh_35 (by decide) (fun c_35 => ?_) (fun c_35 => ?_)
    · obtain rfl : j = 5 := by omega
      exact K ls (lv_sub hl [0, 1, 2, 3, 4, 5, 6] rfl)
    · refine lv_iload hx hb dX1_weigh_38 (lv_at hl 4 rfl) ?_
      refine lv_iload hx hb dX1_weigh_40 (lv_at hl 6 rfl) ?_
      refine cn_ishr hx hb (by omega) (by omega) dX1_weigh_42 ?_
      refine lv_iconst (v := nI 1) hx hb dX1_weigh_43 (by decide +kernel) ?_
      refine cn_iand hx hb dX1_weigh_44 ?_
      refine cz_eq (tgt := 62) hx hb (Nat.lt_trans (bt_lt _ _) (by decide)) dX1_weigh_45 (by decide) (fun c_45 => ?_) (fun c_45 => ?_)
      · refine cn_iinc (lv' := [(6, .int (nI (j + 1))), (0, .ref (g 0)), (1, .int wt), (2, .int q), (3, .int nn), (4, .int (nI t)), (5, .int (wgS wt t j))]) hx hb dX1_weigh_62 hl (k := 6) rfl (by decide) rfl (fun ls hl => ?_)
        refine lv_goto (tgt := 32) hx hb dX1_weigh_65 (by decide) ?_
        exact ih (j + 1) ls (by omega) (by omega) (by rw [← wgS_0 (bt_n1 c_45)]; exact (lv_sub hl [1, 2, 3, 4, 5, 6, 0] rfl))
      · refine lv_iload hx hb dX1_weigh_48 (lv_at hl 5 rfl) ?_
        refine lv_iload_n hx hb dX1_weigh_50 rfl (lv_at hl 1 rfl) ?_
        refine lv_iconst (v := nI 4) hx hb dX1_weigh_51 (by decide +kernel) ?_
        refine lv_iload hx hb dX1_weigh_52 (lv_at hl 6 rfl) ?_
        refine cn_imul hx hb dX1_weigh_54 ?_
        refine lv_ishr hx hb dX1_weigh_55 ?_
        refine lv_bipush (v := nI 15) hx hb dX1_weigh_56 (by decide +kernel) ?_
        refine lv_iand hx hb dX1_weigh_58 ?_
        refine lv_iadd hx hb dX1_weigh_59 ?_
        refine cv_set (y := wgS wt t (j + 1)) (wgS_1 (bt_n0 c_45)) ?_
        refine lv_istore (lv' := [(5, .int (wgS wt t (j + 1))), (0, .ref (g 0)), (1, .int wt), (2, .int q), (3, .int nn), (4, .int (nI t)), (6, .int (nI j))]) hx hb dX1_weigh_60 hl (by decide) rfl (fun ls hl => ?_)
        refine cn_iinc (lv' := [(6, .int (nI (j + 1))), (5, .int (wgS wt t (j + 1))), (0, .ref (g 0)), (1, .int wt), (2, .int q), (3, .int nn), (4, .int (nI t))]) hx hb dX1_weigh_62 hl (k := 6) rfl (by decide) rfl (fun ls hl => ?_)
        refine lv_goto (tgt := 32) hx hb dX1_weigh_65 (by decide) ?_
        exact ih (j + 1) ls (by omega) (by omega) (lv_sub hl [2, 3, 4, 5, 6, 1, 0] rfl)
end
section
variable {p : Program} {l : Launch} {e : Env} {R : Room} {s : State} {m : MethodId} {args : Array Value} {below : List Frame} {meth : Method} {c : Code} {H : Heap} {locs : List Loc} {cells slots : Nat} {Q : State → Prop} {A : Nat → Prop}
variable {D : va_G} {d : Nat → ClassId} {g : Nat → Nat} {w am pt mv sp : Nat → Int32}
set_option maxHeartbeats 4000000 in
set_option maxRecDepth 100000 in
theorem x1_weigh_lp (F : CallFix p m c cX1_weigh 7 s args lw_all RX1) (hK : va_K D vwCl (tX1 d) s) {wt q : Int32} (K : ∀ (H : Heap) (locs : List Loc), va_P D vwCl (wX1 d g (wgW wt q w 0 32, mv, pt, am)) H → va_D A (wX1 d g (wgW wt q w 0 32, mv, pt, am)) → va_S A s.heap H locs → ∀ ls : Array Slot, lv_has ls 7 [(0, .ref (g 0)), (1, .int wt), (2, .int q), (3, .int (wgN wt q 32)), (4, .int (nI 32))] → W p l e R s m args below meth c H locs cells slots Q (F0 m 102 ls [])) : ∀ (n t : Nat), t ≤ 32 → 32 - t < n → ∀ (H : Heap) (locs : List Loc), va_P D vwCl (wX1 d g (wgW wt q w 0 t, mv, pt, am)) H → va_D A (wX1 d g (wgW wt q w 0 t, mv, pt, am)) → va_S A s.heap H locs → ∀ (ls : Array Slot), lv_has ls 7 [(0, .ref (g 0)), (1, .int wt), (2, .int q), (3, .int (wgN wt q t)), (4, .int (nI t))] → W p l e R s m args below meth c H locs cells slots Q (F0 m 19 ls []) := by
  have hx := F.1
  have hb := F.2.1
  have hown := F.2.2.2.1
  have hts := F.2.2.2.2
  intro n
  induction n with
  | zero => intro t h1 h2; omega
  | succ n ih =>
    intro t ht hn H locs hP hD hS ls hl
    refine lv_iload hx hb dX1_weigh_19 (lv_at hl 4 rfl) ?_
    refine lv_bipush (v := nI 32) hx hb dX1_weigh_21 (by decide +kernel) ?_
    refine cn_ge (tgt := 102) hx hb (by omega) (by decide) dX1_weigh_23 (by decide) (fun c_23 => ?_) (fun c_23 => ?_)
    · obtain rfl : t = 32 := by omega
      exact K H locs hP hD hS ls (lv_sub hl [0, 1, 2, 3, 4] rfl)
    · refine lv_iconst (v := 0) hx hb dX1_weigh_26 (by decide +kernel) ?_
      refine lv_istore (lv' := [(5, .int 0), (0, .ref (g 0)), (1, .int wt), (2, .int q), (3, .int (wgN wt q t)), (4, .int (nI t))]) hx hb dX1_weigh_27 hl (by decide) rfl (fun ls hl => ?_)
      refine lv_iconst (v := nI 0) hx hb dX1_weigh_29 (by decide +kernel) ?_
      refine lv_istore (lv' := [(6, .int (nI 0)), (5, .int 0), (0, .ref (g 0)), (1, .int wt), (2, .int q), (3, .int (wgN wt q t)), (4, .int (nI t))]) hx hb dX1_weigh_30 hl (by decide) rfl (fun ls hl => ?_)
      refine x1_weigh_in F (by omega) (fun ls hl => ?_) 6 0 ls (by omega) (by omega) (lv_sub hl [2, 3, 4, 5, 6, 1, 0] rfl)
      refine lv_aload_n hx hb dX1_weigh_68 rfl (lv_at hl 0 rfl) ?_
      refine va_get (D := D) (ci := 1) (v := .ref (g 1)) (C := RX1) (T := TX1) (N := 4) hx hb hts in_X1 hown hK hP 0 rfl rfl 0 (by decide) (hts _ q118) (fun _ h9 => h9) rfl dX1_weigh_69 ?_
      refine lv_iload hx hb dX1_weigh_72 (lv_at hl 4 rfl) ?_
      refine lv_iload hx hb dX1_weigh_74 (lv_at hl 5 rfl) ?_
      refine lv_iload_n hx hb dX1_weigh_76 rfl (lv_at hl 2 rfl) ?_
      refine lv_icmp_lt (tgt := 84) hx hb dX1_weigh_77 (by decide) (fun c_77 => ?_) (fun c_77 => ?_)
      · refine lv_iconst (v := 0) hx hb dX1_weigh_84 (by decide +kernel) ?_
        refine cv_set (y := wgV wt q t) (wgV_0 c_77) ?_
        refine cv_ast hx hb hK hP hD hS 1 0 rfl rfl (by decide) (by omega) dX1_weigh_85 (fun H locs hP hD hS => ?_)
        have hP : va_P D vwCl (wX1 d g (upd (wgW wt q w 0 t) t (wgV wt q t), mv, pt, am)) H := hP
        have hD : va_D A (wX1 d g (upd (wgW wt q w 0 t) t (wgV wt q t), mv, pt, am)) := hD
        rw [wgW_up (by omega)] at hP hD
        refine lv_iload_n hx hb dX1_weigh_86 rfl (lv_at hl 3 rfl) ?_
        refine lv_aload_n hx hb dX1_weigh_87 rfl (lv_at hl 0 rfl) ?_
        refine va_get (D := D) (ci := 1) (v := .ref (g 1)) (C := RX1) (T := TX1) (N := 4) hx hb hts in_X1 hown hK hP 0 rfl rfl 0 (by decide) (hts _ q118) (fun _ h9 => h9) rfl dX1_weigh_88 ?_
        refine lv_iload hx hb dX1_weigh_91 (lv_at hl 4 rfl) ?_
        refine cv_ald hx hb hK hP 1 0 rfl rfl (by decide) (by omega) dX1_weigh_93 ?_
        refine cv_set (y := wgV wt q t) (wgW_at (by omega) (by omega)) ?_
        refine lv_iadd hx hb dX1_weigh_94 ?_
        refine cv_set (y := wgN wt q (t + 1)) rfl ?_
        refine lv_istore_n (lv' := [(3, .int (wgN wt q (t + 1))), (0, .ref (g 0)), (1, .int wt), (2, .int q), (4, .int (nI t)), (5, .int (wgS wt t 5)), (6, .int (nI 5))]) hx hb dX1_weigh_95 rfl hl (by decide) rfl (fun ls hl => ?_)
        refine cn_iinc (lv' := [(4, .int (nI (t + 1))), (3, .int (wgN wt q (t + 1))), (0, .ref (g 0)), (1, .int wt), (2, .int q), (5, .int (wgS wt t 5)), (6, .int (nI 5))]) hx hb dX1_weigh_96 hl (k := 4) rfl (by decide) rfl (fun ls hl => ?_)
        refine lv_goto (tgt := 19) hx hb dX1_weigh_99 (by decide) ?_
        exact ih (t + 1) (by omega) (by omega) H locs hP hD hS ls (lv_sub hl [2, 3, 4, 1, 0] rfl)
      · refine lv_iconst (v := 1) hx hb dX1_weigh_80 (by decide +kernel) ?_
        refine cv_set (y := wgV wt q t) (wgV_1 c_77) ?_
        refine lv_goto (tgt := 85) hx hb dX1_weigh_81 (by decide) ?_
        refine cv_ast hx hb hK hP hD hS 1 0 rfl rfl (by decide) (by omega) dX1_weigh_85 (fun H locs hP hD hS => ?_)
        have hP : va_P D vwCl (wX1 d g (upd (wgW wt q w 0 t) t (wgV wt q t), mv, pt, am)) H := hP
        have hD : va_D A (wX1 d g (upd (wgW wt q w 0 t) t (wgV wt q t), mv, pt, am)) := hD
        rw [wgW_up (by omega)] at hP hD
        refine lv_iload_n hx hb dX1_weigh_86 rfl (lv_at hl 3 rfl) ?_
        refine lv_aload_n hx hb dX1_weigh_87 rfl (lv_at hl 0 rfl) ?_
        refine va_get (D := D) (ci := 1) (v := .ref (g 1)) (C := RX1) (T := TX1) (N := 4) hx hb hts in_X1 hown hK hP 0 rfl rfl 0 (by decide) (hts _ q118) (fun _ h9 => h9) rfl dX1_weigh_88 ?_
        refine lv_iload hx hb dX1_weigh_91 (lv_at hl 4 rfl) ?_
        refine cv_ald hx hb hK hP 1 0 rfl rfl (by decide) (by omega) dX1_weigh_93 ?_
        refine cv_set (y := wgV wt q t) (wgW_at (by omega) (by omega)) ?_
        refine lv_iadd hx hb dX1_weigh_94 ?_
        refine cv_set (y := wgN wt q (t + 1)) rfl ?_
        refine lv_istore_n (lv' := [(3, .int (wgN wt q (t + 1))), (0, .ref (g 0)), (1, .int wt), (2, .int q), (4, .int (nI t)), (5, .int (wgS wt t 5)), (6, .int (nI 5))]) hx hb dX1_weigh_95 rfl hl (by decide) rfl (fun ls hl => ?_)
        refine cn_iinc (lv' := [(4, .int (nI (t + 1))), (3, .int (wgN wt q (t + 1))), (0, .ref (g 0)), (1, .int wt), (2, .int q), (5, .int (wgS wt t 5)), (6, .int (nI 5))]) hx hb dX1_weigh_96 hl (k := 4) rfl (by decide) rfl (fun ls hl => ?_)
        refine lv_goto (tgt := 19) hx hb dX1_weigh_99 (by decide) ?_
        exact ih (t + 1) (by omega) (by omega) H locs hP hD hS ls (lv_sub hl [2, 3, 4, 1, 0] rfl)
end
set_option maxHeartbeats 4000000 in
set_option maxRecDepth 100000 in
theorem x1_weigh (l : Launch) (D : va_G) (d : Nat → ClassId) (g : Nat → Nat) (sz : Nat) (w mv pt am : Nat → Int32) (wt q : Int32) : CM l yX1_weigh cX1_weigh 7 (some .int) cvr0 D (wX1 d g) (tX1 d) (g 0) sz (w, mv, pt, am) [.int wt, .int q] (fun r u => (r, u) = ((weighF wt q w).1, ((weighF wt q w).2, mv, pt, am))) := by
  refine cm_start (by decide) (Nat.le_of_ble_eq_true rfl) ?_
  intro p e s m below meth c ls A F hr hlocks hA hP hK hD hS hl
  have hx := F.1
  have hb := F.2.1
  have hown := F.2.2.2.1
  have hts := F.2.2.2.2
  have hl : lv_has ls 7 [(0, .ref (g 0)), (1, .int wt), (2, .int q)] := hl
  have hP : va_P D vwCl (wX1 d g (w, mv, pt, am)) s.heap := hP
  have hD : va_D A (wX1 d g (w, mv, pt, am)) := hD
  refine lv_iload_n hx hb dX1_weigh_0 rfl (lv_at hl 2 rfl) ?_
  refine lv_iconst (v := nI 1) hx hb dX1_weigh_1 (by decide +kernel) ?_
  refine lv_icmp_lt (tgt := 11) hx hb dX1_weigh_2 (by decide) (fun c_2 => ?_) (fun c_2 => ?_)
  · refine lv_bipush (v := (-2)) hx hb dX1_weigh_11 (by decide +kernel) ?_
    exact cm_ret hx hb hr hlocks rfl (w, mv, pt, am) (by unfold weighF; rw [if_pos (by first | exact Or.inl c_2 | exact Or.inr c_8)]) hP hK hD hS dX1_weigh_13
  · refine lv_iload_n hx hb dX1_weigh_5 rfl (lv_at hl 2 rfl) ?_
    refine lv_bipush (v := nI 75) hx hb dX1_weigh_6 (by decide +kernel) ?_
    refine lv_icmp_le (tgt := 14) hx hb dX1_weigh_8 (by decide) (fun c_8 => ?_) (fun c_8 => ?_)
    · refine lv_iconst (v := 0) hx hb dX1_weigh_14 (by decide +kernel) ?_
      refine lv_istore_n (lv' := [(3, .int 0), (0, .ref (g 0)), (1, .int wt), (2, .int q)]) hx hb dX1_weigh_15 rfl hl (by decide) rfl (fun ls hl => ?_)
      refine lv_iconst (v := nI 0) hx hb dX1_weigh_16 (by decide +kernel) ?_
      refine lv_istore (lv' := [(4, .int (nI 0)), (3, .int 0), (0, .ref (g 0)), (1, .int wt), (2, .int q)]) hx hb dX1_weigh_17 hl (by decide) rfl (fun ls hl => ?_)
      have hP : va_P D vwCl (wX1 d g (wgW wt q w 0 0, mv, pt, am)) s.heap := by rw [wgW_nil]; exact hP
      have hD : va_D A (wX1 d g (wgW wt q w 0 0, mv, pt, am)) := by rw [wgW_nil]; exact hD
      refine x1_weigh_lp F hK (fun H locs hP hD hS ls hl => ?_) 33 0 (by omega) (by omega) _ _ hP hD hS ls (lv_sub hl [2, 3, 4, 1, 0] rfl)
      refine lv_iload_n hx hb dX1_weigh_102 rfl (lv_at hl 3 rfl) ?_
      exact cm_ret hx hb hr hlocks rfl (wgW wt q w 0 32, mv, pt, am) (by unfold weighF; rw [if_neg (by rintro (h | h); exact c_2 h; exact h c_8)]) hP hK hD hS dX1_weigh_103
    · refine lv_bipush (v := (-2)) hx hb dX1_weigh_11 (by decide +kernel) ?_
      exact cm_ret hx hb hr hlocks rfl (w, mv, pt, am) (by unfold weighF; rw [if_pos (by first | exact Or.inl c_2 | exact Or.inr c_8)]) hP hK hD hS dX1_weigh_13

section
variable {p : Program} {l : Launch} {e : Env} {R : Room} {s : State} {m : MethodId} {args : Array Value} {below : List Frame} {meth : Method} {c : Code} {H : Heap} {locs : List Loc} {cells slots : Nat} {Q : State → Prop} {A : Nat → Prop}
variable {D : va_G} {d : Nat → ClassId} {g : Nat → Nat} {w am pt mv sp : Nat → Int32}
set_option maxHeartbeats 4000000 in
set_option maxRecDepth 100000 in
theorem x1_exch_l1 (F : CallFix p m c cX1_exchange 5 s args lw_all RX1) (hK : va_K D vwCl (tX1 d) s) {a b : Nat} (K : ∀ mv : Nat → Int32, (∀ i, i < 32 → mv i = w i) → ∀ (H : Heap) (locs : List Loc), va_P D vwCl (wX1 d g (w, mv, pt, am)) H → va_D A (wX1 d g (w, mv, pt, am)) → va_S A s.heap H locs → ∀ ls : Array Slot, lv_has ls 5 [(0, .ref (g 0)), (1, .int (nI a)), (2, .int (nI b)), (3, .int (nI 32))] → W p l e R s m args below meth c H locs cells slots Q (F0 m 45 ls [])) : ∀ (n t : Nat) (mv : Nat → Int32), t ≤ 32 → 32 - t < n → (∀ i, i < t → mv i = w i) → ∀ (H : Heap) (locs : List Loc), va_P D vwCl (wX1 d g (w, mv, pt, am)) H → va_D A (wX1 d g (w, mv, pt, am)) → va_S A s.heap H locs → ∀ (ls : Array Slot), lv_has ls 5 [(0, .ref (g 0)), (1, .int (nI a)), (2, .int (nI b)), (3, .int (nI t))] → W p l e R s m args below meth c H locs cells slots Q (F0 m 21 ls []) := by
  have hx := F.1
  have hb := F.2.1
  have hown := F.2.2.2.1
  have hts := F.2.2.2.2
  intro n
  induction n with
  | zero => intro t mv h1 h2; omega
  | succ n ih =>
    intro t mv ht hn hmv H locs hP hD hS ls hl
    refine lv_iload_n hx hb dX1_exchange_21 rfl (lv_at hl 3 rfl) ?_
    refine lv_bipush (v := nI 32) hx hb dX1_exchange_22 (by decide +kernel) ?_
    refine cn_ge (tgt := 45) hx hb (by omega) (by decide) dX1_exchange_24 (by decide) (fun c_24 => ?_) (fun c_24 => ?_)
    · obtain rfl : t = 32 := by omega
      exact K mv hmv H locs hP hD hS ls (lv_sub hl [0, 1, 2, 3] rfl)
    · refine lv_aload_n hx hb dX1_exchange_27 rfl (lv_at hl 0 rfl) ?_
      refine va_get (D := D) (ci := 1) (v := .ref (g 2)) (C := RX1) (T := TX1) (N := 4) hx hb hts in_X1 hown hK hP 0 rfl rfl 1 (by decide) (hts _ q119) (fun _ h9 => h9) rfl dX1_exchange_28 ?_
      refine lv_iload_n hx hb dX1_exchange_31 rfl (lv_at hl 3 rfl) ?_
      refine lv_aload_n hx hb dX1_exchange_32 rfl (lv_at hl 0 rfl) ?_
      refine va_get (D := D) (ci := 1) (v := .ref (g 1)) (C := RX1) (T := TX1) (N := 4) hx hb hts in_X1 hown hK hP 0 rfl rfl 0 (by decide) (hts _ q118) (fun _ h9 => h9) rfl dX1_exchange_33 ?_
      refine lv_iload_n hx hb dX1_exchange_36 rfl (lv_at hl 3 rfl) ?_
      refine cv_ald hx hb hK hP 1 0 rfl rfl (by decide) (by omega) dX1_exchange_37 ?_
      refine cv_ast hx hb hK hP hD hS 2 1 rfl rfl (by decide) (by omega) dX1_exchange_38 (fun H locs hP hD hS => ?_)
      have hP : va_P D vwCl (wX1 d g (w, upd mv t (w t), pt, am)) H := hP
      have hD : va_D A (wX1 d g (w, upd mv t (w t), pt, am)) := hD
      refine cn_iinc (lv' := [(3, .int (nI (t + 1))), (0, .ref (g 0)), (1, .int (nI a)), (2, .int (nI b))]) hx hb dX1_exchange_39 hl (k := 3) rfl (by decide) rfl (fun ls hl => ?_)
      refine lv_goto (tgt := 21) hx hb dX1_exchange_42 (by decide) ?_
      exact ih (t + 1) _ (by omega) (by omega) (cpS hmv) H locs hP hD hS ls (lv_sub hl [1, 2, 3, 0] rfl)
end
section
variable {p : Program} {l : Launch} {e : Env} {R : Room} {s : State} {m : MethodId} {args : Array Value} {below : List Frame} {meth : Method} {c : Code} {H : Heap} {locs : List Loc} {cells slots : Nat} {Q : State → Prop} {A : Nat → Prop}
variable {D : va_G} {d : Nat → ClassId} {g : Nat → Nat} {w am pt mv sp : Nat → Int32}
set_option maxHeartbeats 4000000 in
set_option maxRecDepth 100000 in
theorem x1_exch_l2 (F : CallFix p m c cX1_exchange 5 s args lw_all RX1) (hK : va_K D vwCl (tX1 d) s) {a b : Nat} (ha : a < 5) (hb5 : b < 5) (hmv : ∀ i, i < 32 → mv i = w i) (K : ∀ (H : Heap) (locs : List Loc), va_P D vwCl (wX1 d g (exV a b w 32, mv, pt, am)) H → va_D A (wX1 d g (exV a b w 32, mv, pt, am)) → va_S A s.heap H locs → ∀ ls : Array Slot, W p l e R s m args below meth c H locs cells slots Q (F0 m 119 ls [])) : ∀ (n t : Nat), t ≤ 32 → 32 - t < n → ∀ (H : Heap) (locs : List Loc), va_P D vwCl (wX1 d g (exV a b w t, mv, pt, am)) H → va_D A (wX1 d g (exV a b w t, mv, pt, am)) → va_S A s.heap H locs → ∀ (ls : Array Slot), lv_has ls 5 [(0, .ref (g 0)), (1, .int (nI a)), (2, .int (nI b)), (3, .int (nI t))] → W p l e R s m args below meth c H locs cells slots Q (F0 m 47 ls []) := by
  have hx := F.1
  have hb := F.2.1
  have hown := F.2.2.2.1
  have hts := F.2.2.2.2
  intro n
  induction n with
  | zero => intro t h1 h2; omega
  | succ n ih =>
    intro t ht hn H locs hP hD hS ls hl
    refine lv_iload_n hx hb dX1_exchange_47 rfl (lv_at hl 3 rfl) ?_
    refine lv_bipush (v := nI 32) hx hb dX1_exchange_48 (by decide +kernel) ?_
    refine cn_ge (tgt := 119) hx hb (by omega) (by decide) dX1_exchange_50 (by decide) (fun c_50 => ?_) (fun c_50 => ?_)
    · obtain rfl : t = 32 := by omega
      exact K H locs hP hD hS ls
    · refine lv_iload_n hx hb dX1_exchange_53 rfl (lv_at hl 3 rfl) ?_
      refine lv_iconst (v := nI 1) hx hb dX1_exchange_54 (by decide +kernel) ?_
      refine lv_iload_n hx hb dX1_exchange_55 rfl (lv_at hl 1 rfl) ?_
      refine cn_ishl hx hb (shlB (by omega)) (by omega) dX1_exchange_56 ?_
      refine lv_iconst (v := ((-1) : Int32)) hx hb dX1_exchange_57 (by decide +kernel) ?_
      refine lv_ixor hx hb dX1_exchange_58 ?_
      refine lv_iand hx hb dX1_exchange_59 ?_
      refine lv_iconst (v := nI 1) hx hb dX1_exchange_60 (by decide +kernel) ?_
      refine lv_iload_n hx hb dX1_exchange_61 rfl (lv_at hl 2 rfl) ?_
      refine cn_ishl hx hb (shlB (by omega)) (by omega) dX1_exchange_62 ?_
      refine lv_iconst (v := ((-1) : Int32)) hx hb dX1_exchange_63 (by decide +kernel) ?_
      refine lv_ixor hx hb dX1_exchange_64 ?_
      refine lv_iand hx hb dX1_exchange_65 ?_
      refine lv_istore (lv' := [(4, .int (((nI t) &&& ((nI (1 <<< a)) ^^^ ((-1) : Int32))) &&& ((nI (1 <<< b)) ^^^ ((-1) : Int32)))), (0, .ref (g 0)), (1, .int (nI a)), (2, .int (nI b)), (3, .int (nI t))]) hx hb dX1_exchange_66 hl (by decide) rfl (fun ls hl => ?_)
      refine lv_iload_n hx hb dX1_exchange_68 rfl (lv_at hl 4 rfl) ?_
      refine lv_iload_n hx hb dX1_exchange_69 rfl (lv_at hl 2 rfl) ?_
      refine cn_ishr hx hb (by omega) (by omega) dX1_exchange_70 ?_
      refine lv_iconst (v := nI 1) hx hb dX1_exchange_71 (by decide +kernel) ?_
      refine cn_iand hx hb dX1_exchange_72 ?_
      refine cz_eq (tgt := 84) hx hb (Nat.lt_trans (bt_lt _ _) (by decide)) dX1_exchange_73 (by decide) (fun c_73 => ?_) (fun c_73 => ?_)
      · refine lv_iload_n hx hb dX1_exchange_84 rfl (lv_at hl 4 rfl) ?_
        refine lv_iload_n hx hb dX1_exchange_85 rfl (lv_at hl 3 rfl) ?_
        refine cn_ishr hx hb (by omega) (by omega) dX1_exchange_86 ?_
        refine lv_iconst (v := nI 1) hx hb dX1_exchange_87 (by decide +kernel) ?_
        refine cn_iand hx hb dX1_exchange_88 ?_
        refine cz_eq (tgt := 100) hx hb (Nat.lt_trans (bt_lt _ _) (by decide)) dX1_exchange_89 (by decide) (fun c_89 => ?_) (fun c_89 => ?_)
        · refine lv_aload_n hx hb dX1_exchange_100 rfl (lv_at hl 1 rfl) ?_
          refine va_get (D := D) (ci := 1) (v := .ref (g 1)) (C := RX1) (T := TX1) (N := 4) hx hb hts in_X1 hown hK hP 0 rfl rfl 0 (by decide) (hts _ q118) (fun _ h9 => h9) rfl dX1_exchange_101 ?_
          refine lv_iload hx hb dX1_exchange_104 (lv_at hl 0 rfl) ?_
          refine cv_set (y := nI (exN t a b)) (by first | exact exM_00 ⟨t, by omega⟩ ⟨a, ha⟩ ⟨b, hb5⟩ c_73 c_89 | exact exM_10 ⟨t, by omega⟩ ⟨a, ha⟩ ⟨b, hb5⟩ c_73 c_89 | exact exM_01 ⟨t, by omega⟩ ⟨a, ha⟩ ⟨b, hb5⟩ c_73 c_89 | exact exM_11 ⟨t, by omega⟩ ⟨a, ha⟩ ⟨b, hb5⟩ c_73 c_89) ?_
          refine lv_aload_n hx hb dX1_exchange_106 rfl (lv_at hl 1 rfl) ?_
          refine va_get (D := D) (ci := 1) (v := .ref (g 2)) (C := RX1) (T := TX1) (N := 4) hx hb hts in_X1 hown hK hP 0 rfl rfl 1 (by decide) (hts _ q119) (fun _ h9 => h9) rfl dX1_exchange_107 ?_
          refine lv_iload_n hx hb dX1_exchange_110 rfl (lv_at hl 4 rfl) ?_
          refine cv_ald hx hb hK hP 2 1 rfl rfl (by decide) (by omega) dX1_exchange_111 ?_
          refine cv_set (y := w t) (hmv t (by omega)) ?_
          refine cv_ast hx hb hK hP hD hS 1 0 rfl rfl (by decide) (exN_lt (by omega) ha hb5) dX1_exchange_112 (fun H locs hP hD hS => ?_)
          have hP : va_P D vwCl (wX1 d g (upd (exV a b w t) (exN t a b) (w t), mv, pt, am)) H := hP
          have hD : va_D A (wX1 d g (upd (exV a b w t) (exN t a b) (w t), mv, pt, am)) := hD
          rw [exV_up (by omega) ha hb5] at hP hD
          refine cn_iinc (lv' := [(3, .int (nI (t + 1))), (4, .int (((nI t) &&& ((nI (1 <<< a)) ^^^ ((-1) : Int32))) &&& ((nI (1 <<< b)) ^^^ ((-1) : Int32)))), (0, .ref (g 0)), (1, .int (nI a)), (2, .int (nI b))]) hx hb dX1_exchange_113 hl (k := 4) rfl (by decide) rfl (fun ls hl => ?_)
          refine lv_goto (tgt := 47) hx hb dX1_exchange_116 (by decide) ?_
          exact ih (t + 1) (by omega) (by omega) H locs hP hD hS ls (lv_sub hl [2, 3, 4, 0] rfl)
        · refine lv_iload hx hb dX1_exchange_92 (lv_at hl 0 rfl) ?_
          refine lv_iconst (v := nI 1) hx hb dX1_exchange_94 (by decide +kernel) ?_
          refine lv_iload_n hx hb dX1_exchange_95 rfl (lv_at hl 2 rfl) ?_
          refine cn_ishl hx hb (shlB (by omega)) (by omega) dX1_exchange_96 ?_
          refine lv_ior hx hb dX1_exchange_97 ?_
          refine lv_istore (lv' := [(4, .int ((((nI t) &&& ((nI (1 <<< a)) ^^^ ((-1) : Int32))) &&& ((nI (1 <<< b)) ^^^ ((-1) : Int32))) ||| (nI (1 <<< a)))), (0, .ref (g 0)), (1, .int (nI a)), (2, .int (nI b)), (3, .int (nI t))]) hx hb dX1_exchange_98 hl (by decide) rfl (fun ls hl => ?_)
          refine lv_aload_n hx hb dX1_exchange_100 rfl (lv_at hl 1 rfl) ?_
          refine va_get (D := D) (ci := 1) (v := .ref (g 1)) (C := RX1) (T := TX1) (N := 4) hx hb hts in_X1 hown hK hP 0 rfl rfl 0 (by decide) (hts _ q118) (fun _ h9 => h9) rfl dX1_exchange_101 ?_
          refine lv_iload hx hb dX1_exchange_104 (lv_at hl 0 rfl) ?_
          refine cv_set (y := nI (exN t a b)) (by first | exact exM_00 ⟨t, by omega⟩ ⟨a, ha⟩ ⟨b, hb5⟩ c_73 c_89 | exact exM_10 ⟨t, by omega⟩ ⟨a, ha⟩ ⟨b, hb5⟩ c_73 c_89 | exact exM_01 ⟨t, by omega⟩ ⟨a, ha⟩ ⟨b, hb5⟩ c_73 c_89 | exact exM_11 ⟨t, by omega⟩ ⟨a, ha⟩ ⟨b, hb5⟩ c_73 c_89) ?_
          refine lv_aload_n hx hb dX1_exchange_106 rfl (lv_at hl 1 rfl) ?_
          refine va_get (D := D) (ci := 1) (v := .ref (g 2)) (C := RX1) (T := TX1) (N := 4) hx hb hts in_X1 hown hK hP 0 rfl rfl 1 (by decide) (hts _ q119) (fun _ h9 => h9) rfl dX1_exchange_107 ?_
          refine lv_iload_n hx hb dX1_exchange_110 rfl (lv_at hl 4 rfl) ?_
          refine cv_ald hx hb hK hP 2 1 rfl rfl (by decide) (by omega) dX1_exchange_111 ?_
          refine cv_set (y := w t) (hmv t (by omega)) ?_
          refine cv_ast hx hb hK hP hD hS 1 0 rfl rfl (by decide) (exN_lt (by omega) ha hb5) dX1_exchange_112 (fun H locs hP hD hS => ?_)
          have hP : va_P D vwCl (wX1 d g (upd (exV a b w t) (exN t a b) (w t), mv, pt, am)) H := hP
          have hD : va_D A (wX1 d g (upd (exV a b w t) (exN t a b) (w t), mv, pt, am)) := hD
          rw [exV_up (by omega) ha hb5] at hP hD
          refine cn_iinc (lv' := [(3, .int (nI (t + 1))), (4, .int ((((nI t) &&& ((nI (1 <<< a)) ^^^ ((-1) : Int32))) &&& ((nI (1 <<< b)) ^^^ ((-1) : Int32))) ||| (nI (1 <<< a)))), (0, .ref (g 0)), (1, .int (nI a)), (2, .int (nI b))]) hx hb dX1_exchange_113 hl (k := 4) rfl (by decide) rfl (fun ls hl => ?_)
          refine lv_goto (tgt := 47) hx hb dX1_exchange_116 (by decide) ?_
          exact ih (t + 1) (by omega) (by omega) H locs hP hD hS ls (lv_sub hl [2, 3, 4, 0] rfl)
      · refine lv_iload hx hb dX1_exchange_76 (lv_at hl 0 rfl) ?_
        refine lv_iconst (v := nI 1) hx hb dX1_exchange_78 (by decide +kernel) ?_
        refine lv_iload_n hx hb dX1_exchange_79 rfl (lv_at hl 3 rfl) ?_
        refine cn_ishl hx hb (shlB (by omega)) (by omega) dX1_exchange_80 ?_
        refine lv_ior hx hb dX1_exchange_81 ?_
        refine lv_istore (lv' := [(4, .int ((((nI t) &&& ((nI (1 <<< a)) ^^^ ((-1) : Int32))) &&& ((nI (1 <<< b)) ^^^ ((-1) : Int32))) ||| (nI (1 <<< b)))), (0, .ref (g 0)), (1, .int (nI a)), (2, .int (nI b)), (3, .int (nI t))]) hx hb dX1_exchange_82 hl (by decide) rfl (fun ls hl => ?_)
        refine lv_iload_n hx hb dX1_exchange_84 rfl (lv_at hl 4 rfl) ?_
        refine lv_iload_n hx hb dX1_exchange_85 rfl (lv_at hl 3 rfl) ?_
        refine cn_ishr hx hb (by omega) (by omega) dX1_exchange_86 ?_
        refine lv_iconst (v := nI 1) hx hb dX1_exchange_87 (by decide +kernel) ?_
        refine cn_iand hx hb dX1_exchange_88 ?_
        refine cz_eq (tgt := 100) hx hb (Nat.lt_trans (bt_lt _ _) (by decide)) dX1_exchange_89 (by decide) (fun c_89 => ?_) (fun c_89 => ?_)
        · refine lv_aload_n hx hb dX1_exchange_100 rfl (lv_at hl 1 rfl) ?_
          refine va_get (D := D) (ci := 1) (v := .ref (g 1)) (C := RX1) (T := TX1) (N := 4) hx hb hts in_X1 hown hK hP 0 rfl rfl 0 (by decide) (hts _ q118) (fun _ h9 => h9) rfl dX1_exchange_101 ?_
          refine lv_iload hx hb dX1_exchange_104 (lv_at hl 0 rfl) ?_
          refine cv_set (y := nI (exN t a b)) (by first | exact exM_00 ⟨t, by omega⟩ ⟨a, ha⟩ ⟨b, hb5⟩ c_73 c_89 | exact exM_10 ⟨t, by omega⟩ ⟨a, ha⟩ ⟨b, hb5⟩ c_73 c_89 | exact exM_01 ⟨t, by omega⟩ ⟨a, ha⟩ ⟨b, hb5⟩ c_73 c_89 | exact exM_11 ⟨t, by omega⟩ ⟨a, ha⟩ ⟨b, hb5⟩ c_73 c_89) ?_
          refine lv_aload_n hx hb dX1_exchange_106 rfl (lv_at hl 1 rfl) ?_
          refine va_get (D := D) (ci := 1) (v := .ref (g 2)) (C := RX1) (T := TX1) (N := 4) hx hb hts in_X1 hown hK hP 0 rfl rfl 1 (by decide) (hts _ q119) (fun _ h9 => h9) rfl dX1_exchange_107 ?_
          refine lv_iload_n hx hb dX1_exchange_110 rfl (lv_at hl 4 rfl) ?_
          refine cv_ald hx hb hK hP 2 1 rfl rfl (by decide) (by omega) dX1_exchange_111 ?_
          refine cv_set (y := w t) (hmv t (by omega)) ?_
          refine cv_ast hx hb hK hP hD hS 1 0 rfl rfl (by decide) (exN_lt (by omega) ha hb5) dX1_exchange_112 (fun H locs hP hD hS => ?_)
          have hP : va_P D vwCl (wX1 d g (upd (exV a b w t) (exN t a b) (w t), mv, pt, am)) H := hP
          have hD : va_D A (wX1 d g (upd (exV a b w t) (exN t a b) (w t), mv, pt, am)) := hD
          rw [exV_up (by omega) ha hb5] at hP hD
          refine cn_iinc (lv' := [(3, .int (nI (t + 1))), (4, .int ((((nI t) &&& ((nI (1 <<< a)) ^^^ ((-1) : Int32))) &&& ((nI (1 <<< b)) ^^^ ((-1) : Int32))) ||| (nI (1 <<< b)))), (0, .ref (g 0)), (1, .int (nI a)), (2, .int (nI b))]) hx hb dX1_exchange_113 hl (k := 4) rfl (by decide) rfl (fun ls hl => ?_)
          refine lv_goto (tgt := 47) hx hb dX1_exchange_116 (by decide) ?_
          exact ih (t + 1) (by omega) (by omega) H locs hP hD hS ls (lv_sub hl [2, 3, 4, 0] rfl)
        · refine lv_iload hx hb dX1_exchange_92 (lv_at hl 0 rfl) ?_
          refine lv_iconst (v := nI 1) hx hb dX1_exchange_94 (by decide +kernel) ?_
          refine lv_iload_n hx hb dX1_exchange_95 rfl (lv_at hl 2 rfl) ?_
          refine cn_ishl hx hb (shlB (by omega)) (by omega) dX1_exchange_96 ?_
          refine lv_ior hx hb dX1_exchange_97 ?_
          refine lv_istore (lv' := [(4, .int (((((nI t) &&& ((nI (1 <<< a)) ^^^ ((-1) : Int32))) &&& ((nI (1 <<< b)) ^^^ ((-1) : Int32))) ||| (nI (1 <<< b))) ||| (nI (1 <<< a)))), (0, .ref (g 0)), (1, .int (nI a)), (2, .int (nI b)), (3, .int (nI t))]) hx hb dX1_exchange_98 hl (by decide) rfl (fun ls hl => ?_)
          refine lv_aload_n hx hb dX1_exchange_100 rfl (lv_at hl 1 rfl) ?_
          refine va_get (D := D) (ci := 1) (v := .ref (g 1)) (C := RX1) (T := TX1) (N := 4) hx hb hts in_X1 hown hK hP 0 rfl rfl 0 (by decide) (hts _ q118) (fun _ h9 => h9) rfl dX1_exchange_101 ?_
          refine lv_iload hx hb dX1_exchange_104 (lv_at hl 0 rfl) ?_
          refine cv_set (y := nI (exN t a b)) (by first | exact exM_00 ⟨t, by omega⟩ ⟨a, ha⟩ ⟨b, hb5⟩ c_73 c_89 | exact exM_10 ⟨t, by omega⟩ ⟨a, ha⟩ ⟨b, hb5⟩ c_73 c_89 | exact exM_01 ⟨t, by omega⟩ ⟨a, ha⟩ ⟨b, hb5⟩ c_73 c_89 | exact exM_11 ⟨t, by omega⟩ ⟨a, ha⟩ ⟨b, hb5⟩ c_73 c_89) ?_
          refine lv_aload_n hx hb dX1_exchange_106 rfl (lv_at hl 1 rfl) ?_
          refine va_get (D := D) (ci := 1) (v := .ref (g 2)) (C := RX1) (T := TX1) (N := 4) hx hb hts in_X1 hown hK hP 0 rfl rfl 1 (by decide) (hts _ q119) (fun _ h9 => h9) rfl dX1_exchange_107 ?_
          refine lv_iload_n hx hb dX1_exchange_110 rfl (lv_at hl 4 rfl) ?_
          refine cv_ald hx hb hK hP 2 1 rfl rfl (by decide) (by omega) dX1_exchange_111 ?_
          refine cv_set (y := w t) (hmv t (by omega)) ?_
          refine cv_ast hx hb hK hP hD hS 1 0 rfl rfl (by decide) (exN_lt (by omega) ha hb5) dX1_exchange_112 (fun H locs hP hD hS => ?_)
          have hP : va_P D vwCl (wX1 d g (upd (exV a b w t) (exN t a b) (w t), mv, pt, am)) H := hP
          have hD : va_D A (wX1 d g (upd (exV a b w t) (exN t a b) (w t), mv, pt, am)) := hD
          rw [exV_up (by omega) ha hb5] at hP hD
          refine cn_iinc (lv' := [(3, .int (nI (t + 1))), (4, .int (((((nI t) &&& ((nI (1 <<< a)) ^^^ ((-1) : Int32))) &&& ((nI (1 <<< b)) ^^^ ((-1) : Int32))) ||| (nI (1 <<< b))) ||| (nI (1 <<< a)))), (0, .ref (g 0)), (1, .int (nI a)), (2, .int (nI b))]) hx hb dX1_exchange_113 hl (k := 4) rfl (by decide) rfl (fun ls hl => ?_)
          refine lv_goto (tgt := 47) hx hb dX1_exchange_116 (by decide) ?_
          exact ih (t + 1) (by omega) (by omega) H locs hP hD hS ls (lv_sub hl [2, 3, 4, 0] rfl)
end
theorem exV_nil {a b : Nat} {w : Nat → Int32} : exV a b w 0 = w := by
  funext j
  exact if_neg (fun h => absurd h.2 (Nat.not_lt_zero _))
set_option maxHeartbeats 4000000 in
set_option maxRecDepth 100000 in
theorem x1_exchange (l : Launch) (D : va_G) (d : Nat → ClassId) (g : Nat → Nat) (sz : Nat) (w mv pt am : Nat → Int32) (x y : Int32) : CM l yX1_exchange cX1_exchange 5 (some .int) cvr1 D (wX1 d g) (tX1 d) (g 0) sz (w, mv, pt, am) [.int x, .int y] (fun r u => r = (exchF x y w).1 ∧ u.1 = (exchF x y w).2 ∧ u.2.2.2 = am) := by
  refine cm_start (by decide) (Nat.le_of_ble_eq_true rfl) ?_
  intro p e s m below meth c ls A F hr hlocks hA hP hK hD hS hl
  have hx := F.1
  have hb := F.2.1
  have hown := F.2.2.2.1
  have hts := F.2.2.2.2
  have hl : lv_has ls 5 [(0, .ref (g 0)), (1, .int x), (2, .int y)] := hl
  have hP : va_P D vwCl (wX1 d g (w, mv, pt, am)) s.heap := hP
  have hD : va_D A (wX1 d g (w, mv, pt, am)) := hD
  refine lv_aload_n hx hb dX1_exchange_0 rfl (lv_at hl 0 rfl) ?_
  refine lv_iload_n hx hb dX1_exchange_1 rfl (lv_at hl 1 rfl) ?_
  refine cm_self (wf := wX1 d g) (rest := []) F (x1_isPlayer l D d g _ w mv pt am x) (cwV 1 hts (lw_V q139 q141 qs3 q9 q142) rfl rfl rfl (by decide +kernel) ⟨Nat.le_of_ble_eq_true rfl, Nat.le_of_ble_eq_true rfl⟩) (ci := 1) rfl rfl rfl hK hP hD hS hA [0, 1, 2, 3] [0, 1, 2, 3, 4] rfl rfl rfl (by decide) rfl hl.1 rfl (Nat.le_of_ble_eq_true rfl) ⟨Nat.zero_le _, Nat.zero_le _⟩ dX1_exchange_2 (fun r u H locs hw hP hD hS => ?_)
  obtain ⟨hw, rfl⟩ := hw
  rcases hw with ⟨rfl, h2⟩ | ⟨a, rfl, h2⟩
  · refine cz_eq (tgt := 16) hx hb (by decide) dX1_exchange_5 (by decide) (fun h9 => ?_) (fun h9 => absurd h9 (by decide))
    refine lv_bipush (v := (-3)) hx hb dX1_exchange_16 (by decide +kernel) ?_
    exact cm_ret hx hb hr hlocks rfl (w, mv, pt, am) (by first | (rw [exchF_l h2]; exact ⟨rfl, rfl, rfl⟩) | (rw [exchF_r h10]; exact ⟨rfl, rfl, rfl⟩)) hP hK hD hS dX1_exchange_18
  · obtain ⟨hk_a, rfl⟩ := pl5_some h2
    refine cz_eq (tgt := 16) hx hb (by decide) dX1_exchange_5 (by decide) (fun h9 => absurd h9 (by decide)) (fun h9 => ?_)
    refine lv_aload_n hx hb dX1_exchange_8 rfl (lv_at hl 0 rfl) ?_
    refine lv_iload_n hx hb dX1_exchange_9 rfl (lv_at hl 2 rfl) ?_
    refine cm_self (wf := wX1 d g) (rest := []) F (x1_isPlayer l D d g _ w mv pt am y) (cwV 1 hts (lw_V q139 q141 qs3 q9 q142) rfl rfl rfl (by decide +kernel) ⟨Nat.le_of_ble_eq_true rfl, Nat.le_of_ble_eq_true rfl⟩) (ci := 1) rfl rfl rfl hK hP hD hS hA [0, 1, 2, 3] [0, 1, 2, 3, 4] rfl rfl rfl (by decide) rfl hl.1 rfl (Nat.le_of_ble_eq_true rfl) ⟨Nat.zero_le _, Nat.zero_le _⟩ dX1_exchange_10 (fun r u H locs hw hP hD hS => ?_)
    obtain ⟨hw, rfl⟩ := hw
    rcases hw with ⟨rfl, h10⟩ | ⟨b, rfl, h10⟩
    · refine cz_ne (tgt := 19) hx hb (by decide) dX1_exchange_13 (by decide) (fun h9 => absurd h9 (by decide)) (fun h9 => ?_)
      refine lv_bipush (v := (-3)) hx hb dX1_exchange_16 (by decide +kernel) ?_
      exact cm_ret hx hb hr hlocks rfl (w, mv, pt, am) (by first | (rw [exchF_l h2]; exact ⟨rfl, rfl, rfl⟩) | (rw [exchF_r h10]; exact ⟨rfl, rfl, rfl⟩)) hP hK hD hS dX1_exchange_18
    · obtain ⟨hk_b, rfl⟩ := pl5_some h10
      refine cz_ne (tgt := 19) hx hb (by decide) dX1_exchange_13 (by decide) (fun h9 => ?_) (fun h9 => absurd h9 (by decide))
      refine lv_iconst (v := nI 0) hx hb dX1_exchange_19 (by decide +kernel) ?_
      refine lv_istore_n (lv' := [(3, .int (nI 0)), (0, .ref (g 0)), (1, .int (nI a)), (2, .int (nI b))]) hx hb dX1_exchange_20 rfl hl (by decide) rfl (fun ls hl => ?_)
      refine x1_exch_l1 F hK (fun mv hmv H locs hP hD hS ls hl => ?_) 33 0 _ (by omega) (by omega) (fun i h => by omega) _ _ hP hD hS ls (lv_sub hl [1, 2, 3, 0] rfl)
      refine lv_iconst (v := nI 0) hx hb dX1_exchange_45 (by decide +kernel) ?_
      refine lv_istore_n (lv' := [(3, .int (nI 0)), (0, .ref (g 0)), (1, .int (nI a)), (2, .int (nI b))]) hx hb dX1_exchange_46 rfl hl (by decide) rfl (fun ls hl => ?_)
      have hP : va_P D vwCl (wX1 d g (exV a b w 0, mv, pt, am)) H := by rw [exV_nil]; exact hP
      have hD : va_D A (wX1 d g (exV a b w 0, mv, pt, am)) := by rw [exV_nil]; exact hD
      refine x1_exch_l2 F hK hk_a hk_b hmv (fun H locs hP hD hS ls => ?_) 33 0 (by omega) (by omega) _ _ hP hD hS ls (lv_sub hl [1, 2, 3, 0] rfl)
      refine lv_iconst (v := nI 0) hx hb dX1_exchange_119 (by decide +kernel) ?_
      exact cm_ret hx hb hr hlocks rfl (exV a b w 32, mv, pt, am) (by rw [exchF_ok h2 h10]; exact ⟨rfl, exV_all hk_a hk_b, rfl⟩) hP hK hD hS dX1_exchange_120

section
variable {p : Program} {l : Launch} {e : Env} {R : Room} {s : State} {m : MethodId} {args : Array Value} {below : List Frame} {meth : Method} {c : Code} {H : Heap} {locs : List Loc} {cells slots : Nat} {Q : State → Prop} {A : Nat → Prop}
variable {D : va_G} {d : Nat → ClassId} {g : Nat → Nat} {w am pt mv sp : Nat → Int32}
set_option maxHeartbeats 4000000 in
set_option maxRecDepth 100000 in
theorem x1_share_lp (F : CallFix p m c cX1_share 4 s args lw_all RX1) (hK : va_K D vwCl (tX1 d) s) (hP : va_P D vwCl (wX1 d g (w, mv, pt, am)) H) {k : Nat} (hk : k < 32) (K : ∀ ls : Array Slot, lv_has ls 4 [(0, .ref (g 0)), (1, .int (nI k)), (2, .int (shF am k 5)), (3, .int (nI 5))] → W p l e R s m args below meth c H locs cells slots Q (F0 m 32 ls [])) : ∀ (n j : Nat) (ls : Array Slot), j ≤ 5 → 5 - j < n → lv_has ls 4 [(0, .ref (g 0)), (1, .int (nI k)), (2, .int (shF am k j)), (3, .int (nI j))] → W p l e R s m args below meth c H locs cells slots Q (F0 m 4 ls []) := by
  have hx := F.1
  have hb := F.2.1
  have hown := F.2.2.2.1
  have hts := F.2.2.2.2
  intro n
  induction n with
  | zero => intro j ls h1 h2; omega
  | succ n ih =>
    intro j ls hj hn hl
    refine lv_iload_n hx hb dX1_share_4 rfl (lv_at hl 3 rfl) ?_
    refine lv_iconst (v := nI 5) hx hb dX1_share_5 (by decide +kernel) ?_
    refine cn_ge (tgt := 32) hx hb (by omega) (by decide) dX1_share_6 (by decide) (fun c_6 => ?_) (fun c_6 => ?_)
    · obtain rfl : j = 5 := by omega
      exact K ls (lv_sub hl [0, 1, 2, 3] rfl)
    · refine lv_iload_n hx hb dX1_share_9 rfl (lv_at hl 1 rfl) ?_
      refine lv_iload_n hx hb dX1_share_10 rfl (lv_at hl 3 rfl) ?_
      refine cn_ishr hx hb (by omega) (by omega) dX1_share_11 ?_
      refine lv_iconst (v := nI 1) hx hb dX1_share_12 (by decide +kernel) ?_
      refine cn_iand hx hb dX1_share_13 ?_
      refine cz_eq (tgt := 26) hx hb (Nat.lt_trans (bt_lt _ _) (by decide)) dX1_share_14 (by decide) (fun c_14 => ?_) (fun c_14 => ?_)
      · refine cn_iinc (lv' := [(3, .int (nI (j + 1))), (0, .ref (g 0)), (1, .int (nI k)), (2, .int (shF am k j))]) hx hb dX1_share_26 hl (k := 3) rfl (by decide) rfl (fun ls hl => ?_)
        refine lv_goto (tgt := 4) hx hb dX1_share_29 (by decide) ?_
        exact ih (j + 1) ls (by omega) (by omega) (by rw [← shF_0 (bt_n1 c_14)]; exact (lv_sub hl [1, 2, 3, 0] rfl))
      · refine lv_iload_n hx hb dX1_share_17 rfl (lv_at hl 2 rfl) ?_
        refine lv_aload_n hx hb dX1_share_18 rfl (lv_at hl 0 rfl) ?_
        refine va_get (D := D) (ci := 1) (v := .ref (g 4)) (C := RX1) (T := TX1) (N := 4) hx hb hts in_X1 hown hK hP 0 rfl rfl 3 (by decide) (hts _ q121) (fun _ h9 => h9) rfl dX1_share_19 ?_
        refine lv_iload_n hx hb dX1_share_22 rfl (lv_at hl 3 rfl) ?_
        refine cv_ald hx hb hK hP 4 3 rfl rfl (by decide) (by omega) dX1_share_23 ?_
        refine lv_iadd hx hb dX1_share_24 ?_
        refine cv_set (y := shF am k (j + 1)) (shF_1 (bt_n0 c_14)) ?_
        refine lv_istore_n (lv' := [(2, .int (shF am k (j + 1))), (0, .ref (g 0)), (1, .int (nI k)), (3, .int (nI j))]) hx hb dX1_share_25 rfl hl (by decide) rfl (fun ls hl => ?_)
        refine cn_iinc (lv' := [(3, .int (nI (j + 1))), (2, .int (shF am k (j + 1))), (0, .ref (g 0)), (1, .int (nI k))]) hx hb dX1_share_26 hl (k := 3) rfl (by decide) rfl (fun ls hl => ?_)
        refine lv_goto (tgt := 4) hx hb dX1_share_29 (by decide) ?_
        exact ih (j + 1) ls (by omega) (by omega) (lv_sub hl [2, 3, 1, 0] rfl)
end
set_option maxHeartbeats 4000000 in
set_option maxRecDepth 100000 in
theorem x1_share (l : Launch) (D : va_G) (d : Nat → ClassId) (g : Nat → Nat) (sz : Nat) (w mv pt am : Nat → Int32) {k : Nat} (hk : k < 32) : CM l yX1_share cX1_share 4 (some .int) cvr0 D (wX1 d g) (tX1 d) (g 0) sz (w, mv, pt, am) [.int (nI k)] (fun r u => r = shF am k 5 ∧ u = (w, mv, pt, am)) := by
  refine cm_start (by decide) (Nat.le_of_ble_eq_true rfl) ?_
  intro p e s m below meth c ls A F hr hlocks hA hP hK hD hS hl
  have hx := F.1
  have hb := F.2.1
  have hown := F.2.2.2.1
  have hts := F.2.2.2.2
  have hl : lv_has ls 4 [(0, .ref (g 0)), (1, .int (nI k))] := hl
  have hP : va_P D vwCl (wX1 d g (w, mv, pt, am)) s.heap := hP
  have hD : va_D A (wX1 d g (w, mv, pt, am)) := hD
  refine lv_iconst (v := 0) hx hb dX1_share_0 (by decide +kernel) ?_
  refine lv_istore_n (lv' := [(2, .int 0), (0, .ref (g 0)), (1, .int (nI k))]) hx hb dX1_share_1 rfl hl (by decide) rfl (fun ls hl => ?_)
  refine lv_iconst (v := nI 0) hx hb dX1_share_2 (by decide +kernel) ?_
  refine lv_istore_n (lv' := [(3, .int (nI 0)), (2, .int 0), (0, .ref (g 0)), (1, .int (nI k))]) hx hb dX1_share_3 rfl hl (by decide) rfl (fun ls hl => ?_)
  refine x1_share_lp F hK hP hk (fun ls hl => ?_) 6 0 ls (by omega) (by omega) (lv_sub hl [2, 3, 1, 0] rfl)
  refine lv_iload_n hx hb dX1_share_32 rfl (lv_at hl 2 rfl) ?_
  exact cm_ret hx hb hr hlocks rfl (w, mv, pt, am) ⟨rfl, rfl⟩ hP hK hD hS dX1_share_33

section
variable {p : Program} {l : Launch} {e : Env} {R : Room} {s : State} {m : MethodId} {args : Array Value} {below : List Frame} {meth : Method} {c : Code} {H : Heap} {locs : List Loc} {cells slots : Nat} {Q : State → Prop} {A : Nat → Prop}
variable {D : va_G} {d : Nat → ClassId} {g : Nat → Nat} {w am pt mv sp : Nat → Int32}
set_option maxHeartbeats 4000000 in
set_option maxRecDepth 100000 in
theorem x1_compl_lp (F : CallFix p m c cX1_complaint 4 s args lw_all RX1) (hA : ∀ q : Nat, s.heap.size ≤ q → A q) (hK : va_K D vwCl (tX1 d) s) (K : ∀ (H : Heap) (locs : List Loc), va_P D vwCl (wX1 d g (w, mv, pt, am)) H → va_D A (wX1 d g (w, mv, pt, am)) → va_S A s.heap H locs → ∀ ls : Array Slot, lv_has ls 4 [(0, .ref (g 0)), (1, .int (cmF w am 29)), (2, .int (nI 31))] → W p l e cvr1 s m args below meth c H locs 0 0 Q (F0 m 47 ls [])) : ∀ (n j : Nat), 2 ≤ j → j ≤ 31 → 31 - j < n → ∀ (H : Heap) (locs : List Loc), va_P D vwCl (wX1 d g (w, mv, pt, am)) H → va_D A (wX1 d g (w, mv, pt, am)) → va_S A s.heap H locs → ∀ (ls : Array Slot), lv_has ls 4 [(0, .ref (g 0)), (1, .int (cmF w am (j - 2))), (2, .int (nI j))] → W p l e cvr1 s m args below meth c H locs 0 0 Q (F0 m 15 ls []) := by
  have hx := F.1
  have hb := F.2.1
  have hown := F.2.2.2.1
  have hts := F.2.2.2.2
  intro n
  induction n with
  | zero => intro j h0 h1 h2; omega
  | succ n ih =>
    intro j h1 hj hn H locs hP hD hS ls hl
    refine lv_iload_n hx hb dX1_complaint_15 rfl (lv_at hl 2 rfl) ?_
    refine lv_bipush (v := nI 31) hx hb dX1_complaint_16 (by decide +kernel) ?_
    refine cn_ge (tgt := 47) hx hb (by omega) (by decide) dX1_complaint_18 (by decide) (fun c_18 => ?_) (fun c_18 => ?_)
    · obtain rfl : j = 31 := by omega
      exact K H locs hP hD hS ls (lv_sub hl [0, 1, 2] rfl)
    · refine lv_aload_n hx hb dX1_complaint_21 rfl (lv_at hl 0 rfl) ?_
      refine va_get (D := D) (ci := 1) (v := .ref (g 1)) (C := RX1) (T := TX1) (N := 4) hx hb hts in_X1 hown hK hP 0 rfl rfl 0 (by decide) (hts _ q118) (fun _ h9 => h9) rfl dX1_complaint_22 ?_
      refine lv_iload_n hx hb dX1_complaint_25 rfl (lv_at hl 2 rfl) ?_
      refine cv_ald hx hb hK hP 1 0 rfl rfl (by decide) (by omega) dX1_complaint_26 ?_
      refine lv_aload_n hx hb dX1_complaint_27 rfl (lv_at hl 0 rfl) ?_
      refine lv_iload_n hx hb dX1_complaint_28 rfl (lv_at hl 2 rfl) ?_
      refine cm_self (wf := wX1 d g) (rest := [.int (w j)]) F (x1_share l D d g _ w mv pt am (k := j) (by omega)) (cwV 1 hts (lw_V q171 q173 qs5 q9 q174) rfl rfl rfl (by decide +kernel) ⟨Nat.le_of_ble_eq_true rfl, Nat.le_of_ble_eq_true rfl⟩) (ci := 1) rfl rfl rfl hK hP hD hS hA [0, 1, 2, 3] [0, 1, 2, 3, 4] rfl rfl rfl (by decide) rfl hl.1 rfl (Nat.le_of_ble_eq_true rfl) ⟨Nat.zero_le _, Nat.zero_le _⟩ dX1_complaint_29 (fun r u H locs hw hP hD hS => ?_)
      obtain ⟨rfl, rfl⟩ := hw
      refine lv_isub hx hb dX1_complaint_32 ?_
      refine lv_istore_n (lv' := [(3, .int ((w j) - (shF am j 5))), (0, .ref (g 0)), (1, .int (cmF w am (j - 2))), (2, .int (nI j))]) hx hb dX1_complaint_33 rfl hl (by decide) rfl (fun ls hl => ?_)
      refine lv_iload_n hx hb dX1_complaint_34 rfl (lv_at hl 0 rfl) ?_
      refine lv_iload_n hx hb dX1_complaint_35 rfl (lv_at hl 2 rfl) ?_
      refine lv_icmp_le (tgt := 41) hx hb dX1_complaint_36 (by decide) (fun c_36 => ?_) (fun c_36 => ?_)
      · refine cn_iinc (lv' := [(2, .int (nI (j + 1))), (3, .int ((w j) - (shF am j 5))), (0, .ref (g 0)), (1, .int (cmF w am (j - 2)))]) hx hb dX1_complaint_41 hl (k := 3) rfl (by decide) rfl (fun ls hl => ?_)
        refine lv_goto (tgt := 15) hx hb dX1_complaint_44 (by decide) ?_
        exact ih (j + 1) (by omega) (by omega) (by omega) H locs hP hD hS ls (by rw [show j + 1 - 2 = j - 1 by omega, ← cmF_0 (by omega) (fun h => absurd c_36 (Int32.not_le.mpr h))]; exact (lv_sub hl [2, 3, 0] rfl))
      · refine lv_iload_n hx hb dX1_complaint_39 rfl (lv_at hl 0 rfl) ?_
        refine lv_istore_n (lv' := [(1, .int ((w j) - (shF am j 5))), (3, .int ((w j) - (shF am j 5))), (0, .ref (g 0)), (2, .int (nI j))]) hx hb dX1_complaint_40 rfl hl (by decide) rfl (fun ls hl => ?_)
        refine cn_iinc (lv' := [(2, .int (nI (j + 1))), (1, .int ((w j) - (shF am j 5))), (3, .int ((w j) - (shF am j 5))), (0, .ref (g 0))]) hx hb dX1_complaint_41 hl (k := 3) rfl (by decide) rfl (fun ls hl => ?_)
        refine lv_goto (tgt := 15) hx hb dX1_complaint_44 (by decide) ?_
        exact ih (j + 1) (by omega) (by omega) (by omega) H locs hP hD hS ls (by rw [show j + 1 - 2 = j - 1 by omega, ← cmF_1 (by omega) (Int32.not_le.mp c_36)]; exact (lv_sub hl [3, 1, 0] rfl))
end
set_option maxHeartbeats 4000000 in
set_option maxRecDepth 100000 in
theorem x1_complaint (l : Launch) (D : va_G) (d : Nat → ClassId) (g : Nat → Nat) (sz : Nat) (w mv pt am : Nat → Int32) : CM l yX1_complaint cX1_complaint 4 (some .int) cvr1 D (wX1 d g) (tX1 d) (g 0) sz (w, mv, pt, am) [] (fun r u => r = cmF w am 29 ∧ u = (w, mv, pt, am)) := by
  refine cm_start (by decide) (Nat.le_of_ble_eq_true rfl) ?_
  intro p e s m below meth c ls A F hr hlocks hA hP hK hD hS hl
  have hx := F.1
  have hb := F.2.1
  have hown := F.2.2.2.1
  have hts := F.2.2.2.2
  have hl : lv_has ls 4 [(0, .ref (g 0))] := hl
  have hP : va_P D vwCl (wX1 d g (w, mv, pt, am)) s.heap := hP
  have hD : va_D A (wX1 d g (w, mv, pt, am)) := hD
  refine lv_aload_n hx hb dX1_complaint_0 rfl (lv_at hl 0 rfl) ?_
  refine va_get (D := D) (ci := 1) (v := .ref (g 1)) (C := RX1) (T := TX1) (N := 4) hx hb hts in_X1 hown hK hP 0 rfl rfl 0 (by decide) (hts _ q118) (fun _ h9 => h9) rfl dX1_complaint_1 ?_
  refine lv_iconst (v := nI 1) hx hb dX1_complaint_4 (by decide +kernel) ?_
  refine cv_ald hx hb hK hP 1 0 rfl rfl (by decide) (by decide) dX1_complaint_5 ?_
  refine lv_aload_n hx hb dX1_complaint_6 rfl (lv_at hl 0 rfl) ?_
  refine lv_iconst (v := nI 1) hx hb dX1_complaint_7 (by decide +kernel) ?_
  refine cm_self (wf := wX1 d g) (rest := [.int (w 1)]) F (x1_share l D d g _ w mv pt am (k := 1) (by decide)) (cwV 1 hts (lw_V q171 q173 qs5 q9 q174) rfl rfl rfl (by decide +kernel) ⟨Nat.le_of_ble_eq_true rfl, Nat.le_of_ble_eq_true rfl⟩) (ci := 1) rfl rfl rfl hK hP hD hS hA [0, 1, 2, 3] [0, 1, 2, 3, 4] rfl rfl rfl (by decide) rfl hl.1 rfl (Nat.le_of_ble_eq_true rfl) ⟨Nat.zero_le _, Nat.zero_le _⟩ dX1_complaint_8 (fun r u H locs hw hP hD hS => ?_)
  obtain ⟨rfl, rfl⟩ := hw
  refine lv_isub hx hb dX1_complaint_11 ?_
  refine lv_istore_n (lv' := [(1, .int ((w 1) - (shF am 1 5))), (0, .ref (g 0))]) hx hb dX1_complaint_12 rfl hl (by decide) rfl (fun ls hl => ?_)
  refine lv_iconst (v := nI 2) hx hb dX1_complaint_13 (by decide +kernel) ?_
  refine lv_istore_n (lv' := [(2, .int (nI 2)), (1, .int ((w 1) - (shF am 1 5))), (0, .ref (g 0))]) hx hb dX1_complaint_14 rfl hl (by decide) rfl (fun ls hl => ?_)
  refine x1_compl_lp F hA hK (fun H locs hP hD hS ls hl => ?_) 31 2 (by omega) (by omega) (by omega) _ _ hP hD hS ls (lv_sub hl [2, 1, 0] rfl)
  refine lv_iload_n hx hb dX1_complaint_47 rfl (lv_at hl 1 rfl) ?_
  exact cm_ret hx hb hr hlocks rfl (w, mv, pt, am) ⟨rfl, rfl⟩ hP hK hD hS dX1_complaint_48

set_option maxHeartbeats 4000000 in
set_option maxRecDepth 100000 in
theorem x1_inCore (l : Launch) (D : va_G) (d : Nat → ClassId) (g : Nat → Nat) (sz : Nat) (w mv pt am : Nat → Int32) : CM l yX1_inCore cX1_inCore 1 (some .boolean) cvr2 D (wX1 d g) (tX1 d) (g 0) sz (w, mv, pt, am) [] (fun r u => r = icF w am ∧ u = (w, mv, pt, am)) := by
  refine cm_start (by decide) (Nat.le_of_ble_eq_true rfl) ?_
  intro p e s m below meth c ls A F hr hlocks hA hP hK hD hS hl
  have hx := F.1
  have hb := F.2.1
  have hown := F.2.2.2.1
  have hts := F.2.2.2.2
  have hl : lv_has ls 1 [(0, .ref (g 0))] := hl
  have hP : va_P D vwCl (wX1 d g (w, mv, pt, am)) s.heap := hP
  have hD : va_D A (wX1 d g (w, mv, pt, am)) := hD
  refine lv_aload_n hx hb dX1_inCore_0 rfl (lv_at hl 0 rfl) ?_
  refine va_get (D := D) (ci := 1) (v := .ref (g 1)) (C := RX1) (T := TX1) (N := 4) hx hb hts in_X1 hown hK hP 0 rfl rfl 0 (by decide) (hts _ q118) (fun _ h9 => h9) rfl dX1_inCore_1 ?_
  refine lv_bipush (v := nI 31) hx hb dX1_inCore_4 (by decide +kernel) ?_
  refine cv_ald hx hb hK hP 1 0 rfl rfl (by decide) (by decide) dX1_inCore_6 ?_
  refine lv_aload_n hx hb dX1_inCore_7 rfl (lv_at hl 0 rfl) ?_
  refine lv_bipush (v := nI 31) hx hb dX1_inCore_8 (by decide +kernel) ?_
  refine cm_self (wf := wX1 d g) (rest := [.int (w 31)]) F (x1_share l D d g _ w mv pt am (k := 31) (by decide)) (cwV 1 hts (lw_V q171 q173 qs5 q9 q174) rfl rfl rfl (by decide +kernel) ⟨Nat.le_of_ble_eq_true rfl, Nat.le_of_ble_eq_true rfl⟩) (ci := 1) rfl rfl rfl hK hP hD hS hA [0, 1, 2, 3] [0, 1, 2, 3, 4] rfl rfl rfl (by decide) rfl hl.1 rfl (Nat.le_of_ble_eq_true rfl) ⟨Nat.zero_le _, Nat.zero_le _⟩ dX1_inCore_10 (fun r u H locs hw hP hD hS => ?_)
  obtain ⟨rfl, rfl⟩ := hw
  refine lv_icmp_ne (tgt := 27) hx hb dX1_inCore_13 (by decide) (fun c_13 => ?_) (fun c_13 => ?_)
  · refine lv_iconst (v := nI 0) hx hb dX1_inCore_27 (by decide +kernel) ?_
    exact cm_ret hx hb hr hlocks rfl (w, mv, pt, am) ⟨by unfold icF; rw [if_neg (by first | exact fun h => c_13 h.1 | exact fun h => absurd c_20 (Int32.not_lt.mpr h.2))], rfl⟩ hP hK hD hS dX1_inCore_28
  · refine lv_aload_n hx hb dX1_inCore_16 rfl (lv_at hl 0 rfl) ?_
    refine cm_self (wf := wX1 d g) (rest := []) F (x1_complaint l D d g _ w mv pt am) (cwV 0 hts (lw_V q179 q168 q169 q9 q170) rfl rfl rfl (by decide +kernel) ⟨Nat.le_of_ble_eq_true rfl, Nat.le_of_ble_eq_true rfl⟩) (ci := 1) rfl rfl rfl hK hP hD hS hA [0, 1, 2, 3] [0, 1, 2, 3, 4] rfl rfl rfl (by decide) rfl hl.1 rfl (Nat.le_of_ble_eq_true rfl) ⟨Nat.zero_le _, Nat.zero_le _⟩ dX1_inCore_17 (fun r u H locs hw hP hD hS => ?_)
    obtain ⟨rfl, rfl⟩ := hw
    refine lv_if_gt (tgt := 27) hx hb dX1_inCore_20 (by decide) (fun c_20 => ?_) (fun c_20 => ?_)
    · refine lv_iconst (v := nI 0) hx hb dX1_inCore_27 (by decide +kernel) ?_
      exact cm_ret hx hb hr hlocks rfl (w, mv, pt, am) ⟨by unfold icF; rw [if_neg (by first | exact fun h => c_13 h.1 | exact fun h => absurd c_20 (Int32.not_lt.mpr h.2))], rfl⟩ hP hK hD hS dX1_inCore_28
    · refine lv_iconst (v := nI 1) hx hb dX1_inCore_23 (by decide +kernel) ?_
      refine lv_goto (tgt := 28) hx hb dX1_inCore_24 (by decide) ?_
      exact cm_ret hx hb hr hlocks rfl (w, mv, pt, am) ⟨by unfold icF; rw [if_pos ⟨c_13, Int32.not_lt.mp c_20⟩], rfl⟩ hP hK hD hS dX1_inCore_28

section
variable {p : Program} {l : Launch} {e : Env} {R : Room} {s : State} {m : MethodId} {args : Array Value} {below : List Frame} {meth : Method} {c : Code} {H : Heap} {locs : List Loc} {cells slots : Nat} {Q : State → Prop} {A : Nat → Prop}
variable {D : va_G} {d : Nat → ClassId} {g : Nat → Nat} {w am pt mv sp : Nat → Int32}
set_option maxHeartbeats 4000000 in
set_option maxRecDepth 100000 in
theorem x1_own_in (F : CallFix p m c cX1_own 5 s args lw_all RX1) (hK : va_K D vwCl (tX1 d) s) (hP : va_P D vwCl (wX1 d g (w, mv, pt, am)) H) {k t : Nat} (ht : t < 32) (K : ∀ ls : Array Slot, lv_has ls 5 [(0, .ref (g 0)), (1, .int (nI k)), (2, .int (nI t)), (3, .int (owR pt (w t) t (t - 1)))] → W p l e R s m args below meth c H locs cells slots Q (F0 m 62 ls [])) : ∀ (n v : Nat) (ls : Array Slot), 1 ≤ v → v ≤ t → t - v < n → lv_has ls 5 [(0, .ref (g 0)), (1, .int (nI k)), (2, .int (nI t)), (3, .int (owR pt (w t) t (v - 1))), (4, .int (nI v))] → W p l e R s m args below meth c H locs cells slots Q (F0 m 31 ls []) := by
  have hx := F.1
  have hb := F.2.1
  have hown := F.2.2.2.1
  have hts := F.2.2.2.2
  intro n
  induction n with
  | zero => intro v ls h0 h1 h2; omega
  | succ n ih =>
    intro v ls h1 hv hn hl
    refine lv_iload hx hb dX1_own_31 (lv_at hl 4 rfl) ?_
    refine lv_iload_n hx hb dX1_own_33 rfl (lv_at hl 2 rfl) ?_
    refine cn_ge (tgt := 62) hx hb (by omega) (by omega) dX1_own_34 (by decide) (fun c_34 => ?_) (fun c_34 => ?_)
    · obtain rfl : v = t := by omega
      exact K ls (lv_sub hl [0, 1, 2, 3] rfl)
    · refine lv_iload hx hb dX1_own_37 (lv_at hl 4 rfl) ?_
      refine lv_iload_n hx hb dX1_own_39 rfl (lv_at hl 2 rfl) ?_
      refine cn_iand hx hb dX1_own_40 ?_
      refine lv_iload hx hb dX1_own_41 (lv_at hl 4 rfl) ?_
      refine cn_ne (tgt := 56) hx hb (Nat.lt_trans (and32 (by omega)) (by decide)) (by omega) dX1_own_43 (by decide) (fun c_43 => ?_) (fun c_43 => ?_)
      · refine cn_iinc (lv' := [(4, .int (nI (v + 1))), (0, .ref (g 0)), (1, .int (nI k)), (2, .int (nI t)), (3, .int (owR pt (w t) t (v - 1)))]) hx hb dX1_own_56 hl (k := 4) rfl (by decide) rfl (fun ls hl => ?_)
        refine lv_goto (tgt := 31) hx hb dX1_own_59 (by decide) ?_
        exact ih (v + 1) ls (by omega) (by omega) (by omega) (by rw [show v + 1 - 1 = v by omega, ← owR_0 (by omega) c_43]; exact (lv_sub hl [1, 2, 3, 4, 0] rfl))
      · refine lv_iload_n hx hb dX1_own_46 rfl (lv_at hl 3 rfl) ?_
        refine lv_aload_n hx hb dX1_own_47 rfl (lv_at hl 0 rfl) ?_
        refine va_get (D := D) (ci := 1) (v := .ref (g 3)) (C := RX1) (T := TX1) (N := 4) hx hb hts in_X1 hown hK hP 0 rfl rfl 2 (by decide) (hts _ q120) (fun _ h9 => h9) rfl dX1_own_48 ?_
        refine lv_iload hx hb dX1_own_51 (lv_at hl 4 rfl) ?_
        refine cv_ald hx hb hK hP 3 2 rfl rfl (by decide) (by omega) dX1_own_53 ?_
        refine lv_isub hx hb dX1_own_54 ?_
        refine cv_set (y := owR pt (w t) t v) (owR_1 (by omega) c_43) ?_
        refine lv_istore_n (lv' := [(3, .int (owR pt (w t) t v)), (0, .ref (g 0)), (1, .int (nI k)), (2, .int (nI t)), (4, .int (nI v))]) hx hb dX1_own_55 rfl hl (by decide) rfl (fun ls hl => ?_)
        refine cn_iinc (lv' := [(4, .int (nI (v + 1))), (3, .int (owR pt (w t) t v)), (0, .ref (g 0)), (1, .int (nI k)), (2, .int (nI t))]) hx hb dX1_own_56 hl (k := 4) rfl (by decide) rfl (fun ls hl => ?_)
        refine lv_goto (tgt := 31) hx hb dX1_own_59 (by decide) ?_
        exact ih (v + 1) ls (by omega) (by omega) (by omega) (by rw [show v + 1 - 1 = v by omega]; exact (lv_sub hl [2, 3, 4, 1, 0] rfl))
end
theorem owS {w pt f : Nat → Int32} {t : Nat} (h1 : 1 ≤ t) (ht : t < 32) (h : ∀ i, 1 ≤ i → i < t → pt i = f i) (hE : ∀ i, 1 ≤ i → i < 32 → owR f (w i) i (i - 1) = f i) : ∀ i, 1 ≤ i → i < t + 1 → upd pt t (owR pt (w t) t (t - 1)) i = f i := by
  intro i hi1 hi2
  unfold upd
  by_cases e : i = t
  · subst e
    rw [if_pos rfl, owR_congr (h := f) (i - 1) (fun j q1 q2 => h j q1 (by omega)), hE i h1 ht]
  · rw [if_neg e, h i hi1 (by omega)]
section
variable {p : Program} {l : Launch} {e : Env} {R : Room} {s : State} {m : MethodId} {args : Array Value} {below : List Frame} {meth : Method} {c : Code} {H : Heap} {locs : List Loc} {cells slots : Nat} {Q : State → Prop} {A : Nat → Prop}
variable {D : va_G} {d : Nat → ClassId} {g : Nat → Nat} {w am pt mv sp : Nat → Int32}
set_option maxHeartbeats 4000000 in
set_option maxRecDepth 100000 in
theorem x1_own_lp (F : CallFix p m c cX1_own 5 s args lw_all RX1) (hK : va_K D vwCl (tX1 d) s) {k : Nat} {f : Nat → Int32} (hE : ∀ i, 1 ≤ i → i < 32 → owR f (w i) i (i - 1) = f i) (K : ∀ pt : Nat → Int32, (∀ i, 1 ≤ i → i < 32 → pt i = f i) → ∀ (H : Heap) (locs : List Loc), va_P D vwCl (wX1 d g (w, mv, pt, am)) H → va_D A (wX1 d g (w, mv, pt, am)) → va_S A s.heap H locs → ∀ ls : Array Slot, lv_has ls 5 [(0, .ref (g 0)), (1, .int (nI k))] → W p l e R s m args below meth c H locs cells slots Q (F0 m 75 ls [])) : ∀ (n t : Nat) (pt : Nat → Int32), 1 ≤ t → t ≤ 32 → 32 - t < n → (∀ i, 1 ≤ i → i < t → pt i = f i) → ∀ (H : Heap) (locs : List Loc), va_P D vwCl (wX1 d g (w, mv, pt, am)) H → va_D A (wX1 d g (w, mv, pt, am)) → va_S A s.heap H locs → ∀ (ls : Array Slot), lv_has ls 5 [(0, .ref (g 0)), (1, .int (nI k)), (2, .int (nI t))] → W p l e R s m args below meth c H locs cells slots Q (F0 m 15 ls []) := by
  have hx := F.1
  have hb := F.2.1
  have hown := F.2.2.2.1
  have hts := F.2.2.2.2
  intro n
  induction n with
  | zero => intro t pt h0 h1 h2; omega
  | succ n ih =>
    intro t pt h1 ht hn hpt H locs hP hD hS ls hl
    refine lv_iload_n hx hb dX1_own_15 rfl (lv_at hl 2 rfl) ?_
    refine lv_bipush (v := nI 32) hx hb dX1_own_16 (by decide +kernel) ?_
    refine cn_ge (tgt := 75) hx hb (by omega) (by decide) dX1_own_18 (by decide) (fun c_18 => ?_) (fun c_18 => ?_)
    · obtain rfl : t = 32 := by omega
      exact K pt hpt H locs hP hD hS ls (lv_sub hl [0, 1] rfl)
    · refine lv_aload_n hx hb dX1_own_21 rfl (lv_at hl 0 rfl) ?_
      refine va_get (D := D) (ci := 1) (v := .ref (g 1)) (C := RX1) (T := TX1) (N := 4) hx hb hts in_X1 hown hK hP 0 rfl rfl 0 (by decide) (hts _ q118) (fun _ h9 => h9) rfl dX1_own_22 ?_
      refine lv_iload_n hx hb dX1_own_25 rfl (lv_at hl 2 rfl) ?_
      refine cv_ald hx hb hK hP 1 0 rfl rfl (by decide) (by omega) dX1_own_26 ?_
      refine lv_istore_n (lv' := [(3, .int (w t)), (0, .ref (g 0)), (1, .int (nI k)), (2, .int (nI t))]) hx hb dX1_own_27 rfl hl (by decide) rfl (fun ls hl => ?_)
      refine lv_iconst (v := nI 1) hx hb dX1_own_28 (by decide +kernel) ?_
      refine lv_istore (lv' := [(4, .int (nI 1)), (3, .int (w t)), (0, .ref (g 0)), (1, .int (nI k)), (2, .int (nI t))]) hx hb dX1_own_29 hl (by decide) rfl (fun ls hl => ?_)
      refine x1_own_in F hK hP (by omega) (fun ls hl => ?_) 32 1 ls (by omega) (by omega) (by omega) (lv_sub hl [2, 3, 4, 1, 0] rfl)
      refine lv_aload_n hx hb dX1_own_62 rfl (lv_at hl 0 rfl) ?_
      refine va_get (D := D) (ci := 1) (v := .ref (g 3)) (C := RX1) (T := TX1) (N := 4) hx hb hts in_X1 hown hK hP 0 rfl rfl 2 (by decide) (hts _ q120) (fun _ h9 => h9) rfl dX1_own_63 ?_
      refine lv_iload_n hx hb dX1_own_66 rfl (lv_at hl 2 rfl) ?_
      refine lv_iload_n hx hb dX1_own_67 rfl (lv_at hl 3 rfl) ?_
      refine cv_ast hx hb hK hP hD hS 3 2 rfl rfl (by decide) (by omega) dX1_own_68 (fun H locs hP hD hS => ?_)
      have hP : va_P D vwCl (wX1 d g (w, mv, upd pt t (owR pt (w t) t (t - 1)), am)) H := hP
      have hD : va_D A (wX1 d g (w, mv, upd pt t (owR pt (w t) t (t - 1)), am)) := hD
      refine cn_iinc (lv' := [(2, .int (nI (t + 1))), (0, .ref (g 0)), (1, .int (nI k)), (3, .int (owR pt (w t) t (t - 1)))]) hx hb dX1_own_69 hl (k := 2) rfl (by decide) rfl (fun ls hl => ?_)
      refine lv_goto (tgt := 15) hx hb dX1_own_72 (by decide) ?_
      exact ih (t + 1) _ (by omega) (by omega) (by omega) (owS (by omega) (by omega) hpt hE) H locs hP hD hS ls (lv_sub hl [1, 2, 0] rfl)
end
set_option maxHeartbeats 4000000 in
set_option maxRecDepth 100000 in
theorem x1_own (l : Launch) (D : va_G) (d : Nat → ClassId) (g : Nat → Nat) (sz : Nat) (w mv pt am : Nat → Int32) (x : Int32) (f : Nat → Int32) (hE : ∀ i, 1 ≤ i → i < 32 → owR f (w i) i (i - 1) = f i) : CM l yX1_own cX1_own 5 (some .int) cvr0 D (wX1 d g) (tX1 d) (g 0) sz (w, mv, pt, am) [.int x] (fun r u => r = (match st32 x with | none => -1 | some k => f k) ∧ u.1 = w ∧ u.2.2.2 = am) := by
  refine cm_start (by decide) (Nat.le_of_ble_eq_true rfl) ?_
  intro p e s m below meth c ls A F hr hlocks hA hP hK hD hS hl
  have hx := F.1
  have hb := F.2.1
  have hown := F.2.2.2.1
  have hts := F.2.2.2.2
  have hl : lv_has ls 5 [(0, .ref (g 0)), (1, .int x)] := hl
  have hP : va_P D vwCl (wX1 d g (w, mv, pt, am)) s.heap := hP
  have hD : va_D A (wX1 d g (w, mv, pt, am)) := hD
  refine lv_iload_n hx hb dX1_own_0 rfl (lv_at hl 1 rfl) ?_
  refine lv_iconst (v := nI 1) hx hb dX1_own_1 (by decide +kernel) ?_
  refine lv_icmp_lt (tgt := 11) hx hb dX1_own_2 (by decide) (fun c_2 => ?_) (fun c_2 => ?_)
  · have h1 : st32 x = none := by first | exact st32_lt c_2 | exact st32_gt c_8
    refine lv_iconst (v := (-1)) hx hb dX1_own_11 (by decide +kernel) ?_
    exact cm_ret hx hb hr hlocks rfl (w, mv, pt, am) ⟨by rw [h1], rfl, rfl⟩ hP hK hD hS dX1_own_12
  · refine lv_iload_n hx hb dX1_own_5 rfl (lv_at hl 1 rfl) ?_
    refine lv_bipush (v := nI 31) hx hb dX1_own_6 (by decide +kernel) ?_
    refine lv_icmp_le (tgt := 13) hx hb dX1_own_8 (by decide) (fun c_8 => ?_) (fun c_8 => ?_)
    · obtain ⟨k, h1⟩ := st32_in' c_2 c_8
      obtain ⟨h1_k, hk_k, rfl⟩ := st32_some h1
      refine lv_iconst (v := nI 1) hx hb dX1_own_13 (by decide +kernel) ?_
      refine lv_istore_n (lv' := [(2, .int (nI 1)), (0, .ref (g 0)), (1, .int (nI k))]) hx hb dX1_own_14 rfl hl (by decide) rfl (fun ls hl => ?_)
      refine x1_own_lp F hK hE (fun pt hpt H locs hP hD hS ls hl => ?_) 32 1 _ (by omega) (by omega) (by omega) (fun i h1 h2 => by omega) _ _ hP hD hS ls (lv_sub hl [1, 2, 0] rfl)
      refine lv_aload_n hx hb dX1_own_75 rfl (lv_at hl 0 rfl) ?_
      refine va_get (D := D) (ci := 1) (v := .ref (g 3)) (C := RX1) (T := TX1) (N := 4) hx hb hts in_X1 hown hK hP 0 rfl rfl 2 (by decide) (hts _ q120) (fun _ h9 => h9) rfl dX1_own_76 ?_
      refine lv_iload_n hx hb dX1_own_79 rfl (lv_at hl 1 rfl) ?_
      refine cv_ald hx hb hK hP 3 2 rfl rfl (by decide) (by omega) dX1_own_80 ?_
      refine cv_set (y := f k) (hpt k h1_k hk_k) ?_
      exact cm_ret hx hb hr hlocks rfl (w, mv, pt, am) ⟨by rw [h1], rfl, rfl⟩ hP hK hD hS dX1_own_81
    · have h1 : st32 x = none := by first | exact st32_lt c_2 | exact st32_gt c_8
      refine lv_iconst (v := (-1)) hx hb dX1_own_11 (by decide +kernel) ?_
      exact cm_ret hx hb hr hlocks rfl (w, mv, pt, am) ⟨by rw [h1], rfl, rfl⟩ hP hK hD hS dX1_own_12

section
variable {p : Program} {l : Launch} {e : Env} {R : Room} {s : State} {m : MethodId} {args : Array Value} {below : List Frame} {meth : Method} {c : Code} {H : Heap} {locs : List Loc} {cells slots : Nat} {Q : State → Prop} {A : Nat → Prop}
variable {D : va_G} {d : Nat → ClassId} {g : Nat → Nat} {w am pt mv sp : Nat → Int32}
set_option maxHeartbeats 4000000 in
set_option maxRecDepth 100000 in
theorem x1_swing_lp (F : CallFix p m c cX1_swingValue 4 s args lw_all RX1) (hK : va_K D vwCl (tX1 d) s) (hP : va_P D vwCl (wX1 d g (w, mv, pt, am)) H) {k : Nat} (hk : k < 5) (K : ∀ ls : Array Slot, lv_has ls 4 [(0, .ref (g 0)), (1, .int (nI k)), (2, .int (svM w k 32)), (3, .int (nI 32))] → W p l e R s m args below meth c H locs cells slots Q (F0 m 55 ls [])) : ∀ (n t : Nat) (ls : Array Slot), t ≤ 32 → 32 - t < n → lv_has ls 4 [(0, .ref (g 0)), (1, .int (nI k)), (2, .int (svM w k t)), (3, .int (nI t))] → W p l e R s m args below meth c H locs cells slots Q (F0 m 15 ls []) := by
  have hx := F.1
  have hb := F.2.1
  have hown := F.2.2.2.1
  have hts := F.2.2.2.2
  intro n
  induction n with
  | zero => intro t ls h1 h2; omega
  | succ n ih =>
    intro t ls ht hn hl
    refine lv_iload_n hx hb dX1_swingValue_15 rfl (lv_at hl 3 rfl) ?_
    refine lv_bipush (v := nI 32) hx hb dX1_swingValue_16 (by decide +kernel) ?_
    refine cn_ge (tgt := 55) hx hb (by omega) (by decide) dX1_swingValue_18 (by decide) (fun c_18 => ?_) (fun c_18 => ?_)
    · obtain rfl : t = 32 := by omega
      exact K ls (lv_sub hl [0, 1, 2, 3] rfl)
    · refine lv_iload_n hx hb dX1_swingValue_21 rfl (lv_at hl 3 rfl) ?_
      refine lv_iload_n hx hb dX1_swingValue_22 rfl (lv_at hl 1 rfl) ?_
      refine cn_ishr hx hb (by omega) (by omega) dX1_swingValue_23 ?_
      refine lv_iconst (v := nI 1) hx hb dX1_swingValue_24 (by decide +kernel) ?_
      refine cn_iand hx hb dX1_swingValue_25 ?_
      refine cz_ne (tgt := 49) hx hb (Nat.lt_trans (bt_lt _ _) (by decide)) dX1_swingValue_26 (by decide) (fun c_26 => ?_) (fun c_26 => ?_)
      · refine cn_iinc (lv' := [(3, .int (nI (t + 1))), (0, .ref (g 0)), (1, .int (nI k)), (2, .int (svM w k t))]) hx hb dX1_swingValue_49 hl (k := 3) rfl (by decide) rfl (fun ls hl => ?_)
        refine lv_goto (tgt := 15) hx hb dX1_swingValue_52 (by decide) ?_
        exact ih (t + 1) ls (by omega) (by omega) (by rw [← svM_0 c_26]; exact (lv_sub hl [1, 2, 3, 0] rfl))
      · refine lv_iload_n hx hb dX1_swingValue_29 rfl (lv_at hl 2 rfl) ?_
        refine lv_aload_n hx hb dX1_swingValue_30 rfl (lv_at hl 0 rfl) ?_
        refine va_get (D := D) (ci := 1) (v := .ref (g 1)) (C := RX1) (T := TX1) (N := 4) hx hb hts in_X1 hown hK hP 0 rfl rfl 0 (by decide) (hts _ q118) (fun _ h9 => h9) rfl dX1_swingValue_31 ?_
        refine lv_iload_n hx hb dX1_swingValue_34 rfl (lv_at hl 3 rfl) ?_
        refine lv_iconst (v := nI 1) hx hb dX1_swingValue_35 (by decide +kernel) ?_
        refine lv_iload_n hx hb dX1_swingValue_36 rfl (lv_at hl 1 rfl) ?_
        refine cn_ishl hx hb (shlB (by omega)) (by omega) dX1_swingValue_37 ?_
        refine cn_ior hx hb dX1_swingValue_38 ?_
        refine cv_ald hx hb hK hP 1 0 rfl rfl (by decide) (or32 (by omega) (shl32 hk)) dX1_swingValue_39 ?_
        refine lv_aload_n hx hb dX1_swingValue_40 rfl (lv_at hl 0 rfl) ?_
        refine va_get (D := D) (ci := 1) (v := .ref (g 1)) (C := RX1) (T := TX1) (N := 4) hx hb hts in_X1 hown hK hP 0 rfl rfl 0 (by decide) (hts _ q118) (fun _ h9 => h9) rfl dX1_swingValue_41 ?_
        refine lv_iload_n hx hb dX1_swingValue_44 rfl (lv_at hl 3 rfl) ?_
        refine cv_ald hx hb hK hP 1 0 rfl rfl (by decide) (by omega) dX1_swingValue_45 ?_
        refine lv_isub hx hb dX1_swingValue_46 ?_
        refine lv_iadd hx hb dX1_swingValue_47 ?_
        refine cv_set (y := svM w k (t + 1)) (svM_1 c_26) ?_
        refine lv_istore_n (lv' := [(2, .int (svM w k (t + 1))), (0, .ref (g 0)), (1, .int (nI k)), (3, .int (nI t))]) hx hb dX1_swingValue_48 rfl hl (by decide) rfl (fun ls hl => ?_)
        refine cn_iinc (lv' := [(3, .int (nI (t + 1))), (2, .int (svM w k (t + 1))), (0, .ref (g 0)), (1, .int (nI k))]) hx hb dX1_swingValue_49 hl (k := 3) rfl (by decide) rfl (fun ls hl => ?_)
        refine lv_goto (tgt := 15) hx hb dX1_swingValue_52 (by decide) ?_
        exact ih (t + 1) ls (by omega) (by omega) (lv_sub hl [2, 3, 1, 0] rfl)
end
set_option maxHeartbeats 4000000 in
set_option maxRecDepth 100000 in
theorem x1_swingValue (l : Launch) (D : va_G) (d : Nat → ClassId) (g : Nat → Nat) (sz : Nat) (w mv pt am : Nat → Int32) (x : Int32) : CM l yX1_swingValue cX1_swingValue 4 (some .int) cvr1 D (wX1 d g) (tX1 d) (g 0) sz (w, mv, pt, am) [.int x] (fun r u => r = (match pl5 x with | none => -3 | some k => svM w k 32) ∧ u = (w, mv, pt, am)) := by
  refine cm_start (by decide) (Nat.le_of_ble_eq_true rfl) ?_
  intro p e s m below meth c ls A F hr hlocks hA hP hK hD hS hl
  have hx := F.1
  have hb := F.2.1
  have hown := F.2.2.2.1
  have hts := F.2.2.2.2
  have hl : lv_has ls 4 [(0, .ref (g 0)), (1, .int x)] := hl
  have hP : va_P D vwCl (wX1 d g (w, mv, pt, am)) s.heap := hP
  have hD : va_D A (wX1 d g (w, mv, pt, am)) := hD
  refine lv_aload_n hx hb dX1_swingValue_0 rfl (lv_at hl 0 rfl) ?_
  refine lv_iload_n hx hb dX1_swingValue_1 rfl (lv_at hl 1 rfl) ?_
  refine cm_self (wf := wX1 d g) (rest := []) F (x1_isPlayer l D d g _ w mv pt am x) (cwV 1 hts (lw_V q139 q141 qs3 q9 q142) rfl rfl rfl (by decide +kernel) ⟨Nat.le_of_ble_eq_true rfl, Nat.le_of_ble_eq_true rfl⟩) (ci := 1) rfl rfl rfl hK hP hD hS hA [0, 1, 2, 3] [0, 1, 2, 3, 4] rfl rfl rfl (by decide) rfl hl.1 rfl (Nat.le_of_ble_eq_true rfl) ⟨Nat.zero_le _, Nat.zero_le _⟩ dX1_swingValue_2 (fun r u H locs hw hP hD hS => ?_)
  obtain ⟨hw, rfl⟩ := hw
  rcases hw with ⟨rfl, h2⟩ | ⟨k, rfl, h2⟩
  · refine cz_ne (tgt := 11) hx hb (by decide) dX1_swingValue_5 (by decide) (fun h9 => absurd h9 (by decide)) (fun h9 => ?_)
    refine lv_bipush (v := (-3)) hx hb dX1_swingValue_8 (by decide +kernel) ?_
    exact cm_ret hx hb hr hlocks rfl (w, mv, pt, am) ⟨by rw [h2], rfl⟩ hP hK hD hS dX1_swingValue_10
  · obtain ⟨hk_k, rfl⟩ := pl5_some h2
    refine cz_ne (tgt := 11) hx hb (by decide) dX1_swingValue_5 (by decide) (fun h9 => ?_) (fun h9 => absurd h9 (by decide))
    refine lv_iconst (v := 0) hx hb dX1_swingValue_11 (by decide +kernel) ?_
    refine lv_istore_n (lv' := [(2, .int 0), (0, .ref (g 0)), (1, .int (nI k))]) hx hb dX1_swingValue_12 rfl hl (by decide) rfl (fun ls hl => ?_)
    refine lv_iconst (v := nI 0) hx hb dX1_swingValue_13 (by decide +kernel) ?_
    refine lv_istore_n (lv' := [(3, .int (nI 0)), (2, .int 0), (0, .ref (g 0)), (1, .int (nI k))]) hx hb dX1_swingValue_14 rfl hl (by decide) rfl (fun ls hl => ?_)
    refine x1_swing_lp F hK hP hk_k (fun ls hl => ?_) 33 0 ls (by omega) (by omega) (lv_sub hl [2, 3, 1, 0] rfl)
    refine lv_iload_n hx hb dX1_swingValue_55 rfl (lv_at hl 2 rfl) ?_
    exact cm_ret hx hb hr hlocks rfl (w, mv, pt, am) ⟨by rw [h2], rfl⟩ hP hK hD hS dX1_swingValue_56
end
section
/-! X1 (CoalitionValuesModel), second: marginIn, orderValue, convex, superadditive, alike, splitWorth, bestSplit -/
set_option maxRecDepth 100000
theorem inP_x5 {cm n sk j : Nat} (h : 5 ≤ j) : inP cm (n + 1) sk j = j := if_neg (fun q => absurd q.1 (by omega))
theorem inP_x0 {cm n sk j : Nat} (h : bt cm j = 0) (h2 : sk = 0) : inP cm (n + 1) sk j = j := if_neg (fun q => by
  rcases q.2 with q | q
  · exact q h
  · omega)
theorem inP_s1 {cm n sk j : Nat} (hj : j < 5) (h : ¬ bt cm j = 0) : inP cm (n + 1) sk j = inP cm n sk (j + 1) := by
  show (if j < 5 ∧ (¬ bt cm j = 0 ∨ 0 < sk) then inP cm n (if bt cm j = 0 then sk - 1 else sk) (j + 1) else j) = _
  rw [if_pos ⟨hj, Or.inl h⟩, if_neg h]
theorem inP_s0 {cm n sk j : Nat} (hj : j < 5) (h : bt cm j = 0) (h2 : 0 < sk) : inP cm (n + 1) sk j = inP cm n (sk - 1) (j + 1) := by
  show (if j < 5 ∧ (¬ bt cm j = 0 ∨ 0 < sk) then inP cm n (if bt cm j = 0 then sk - 1 else sk) (j + 1) else j) = _
  rw [if_pos ⟨hj, Or.inr h2⟩, if_pos h]
theorem mgC_x {pl n pp rs cm : Nat} (h : 5 ≤ pp) : mgC pl (n + 1) pp rs cm = 32 := if_neg (by omega)
theorem mgC_hit {pl n pp rs cm : Nat} (h : pp < 5) (h2 : inP cm 6 (rs % (5 - pp)) 0 = pl) : mgC pl (n + 1) pp rs cm = cm := by
  show (if pp < 5 then (if inP cm 6 (rs % (5 - pp)) 0 = pl then cm else _) else 32) = _
  rw [if_pos h, if_pos h2]
theorem mgC_next {pl n pp rs cm : Nat} (h : pp < 5) (h2 : ¬ inP cm 6 (rs % (5 - pp)) 0 = pl) : mgC pl (n + 1) pp rs cm = mgC pl n (pp + 1) (rs / (5 - pp)) (cm ||| 1 <<< inP cm 6 (rs % (5 - pp)) 0) := by
  show (if pp < 5 then (if inP cm 6 (rs % (5 - pp)) 0 = pl then cm else mgC pl n (pp + 1) (rs / (5 - pp)) (cm ||| 1 <<< inP cm 6 (rs % (5 - pp)) 0)) else 32) = _
  rw [if_pos h, if_neg h2]
theorem mgC_all : ∀ k : Fin 120, ∀ pl : Fin 5, mgC pl.val 6 0 k.val 0 < 32 := by decide +kernel
section
variable {p : Program} {l : Launch} {e : Env} {R : Room} {s : State} {m : MethodId} {args : Array Value} {below : List Frame} {meth : Method} {c : Code} {H : Heap} {locs : List Loc} {cells slots : Nat} {Q : State → Prop} {A : Nat → Prop}
variable {D : va_G} {d : Nat → ClassId} {g : Nat → Nat} {w am pt mv sp : Nat → Int32}
set_option maxHeartbeats 4000000 in
set_option maxRecDepth 100000 in
theorem x1_mg_in (F : CallFix p m c cX1_marginIn 8 s args lw_all RX1) {k pl rs cm pp : Nat} (hcm : cm < 32) : ∀ (n j sk : Nat) (ls : Array Slot), j ≤ 5 → 5 - j < n → sk < 5 → lv_has ls 8 [(0, .ref (g 0)), (1, .int (nI k)), (2, .int (nI pl)), (3, .int (nI rs)), (4, .int (nI cm)), (5, .int (nI pp)), (6, .int (nI sk)), (7, .int (nI j))] → (∀ ls : Array Slot, lv_has ls 8 [(0, .ref (g 0)), (1, .int (nI k)), (2, .int (nI pl)), (3, .int (nI rs)), (4, .int (nI cm)), (5, .int (nI pp)), (7, .int (nI (inP cm n sk j)))] → W p l e R s m args below meth c H locs cells slots Q (F0 m 72 ls [])) → W p l e R s m args below meth c H locs cells slots Q (F0 m 32 ls []) := by
  have hx := F.1
  have hb := F.2.1
  have hown := F.2.2.2.1
  have hts := F.2.2.2.2
  intro n
  induction n with
  | zero => intro j sk ls h1 h2; omega
  | succ n ih =>
    intro j sk ls hj hn hsk hl K
    refine lv_iload hx hb dX1_marginIn_32 (lv_at hl 7 rfl) ?_
    refine lv_iconst (v := nI 5) hx hb dX1_marginIn_34 (by decide +kernel) ?_
    refine cn_ge (tgt := 72) hx hb (by omega) (by decide) dX1_marginIn_35 (by decide) (fun c_35 => ?_) (fun c_35 => ?_)
    · exact K ls (by rw [inP_x5 c_35]; exact (lv_sub hl [0, 1, 2, 3, 4, 5, 7] rfl))
    · refine lv_iload hx hb dX1_marginIn_38 (lv_at hl 4 rfl) ?_
      refine lv_iload hx hb dX1_marginIn_40 (lv_at hl 7 rfl) ?_
      refine cn_ishr hx hb (by omega) (by omega) dX1_marginIn_42 ?_
      refine lv_iconst (v := nI 1) hx hb dX1_marginIn_43 (by decide +kernel) ?_
      refine cn_iand hx hb dX1_marginIn_44 ?_
      refine cz_ne (tgt := 53) hx hb (Nat.lt_trans (bt_lt _ _) (by decide)) dX1_marginIn_45 (by decide) (fun c_45 => ?_) (fun c_45 => ?_)
      · refine lv_iload hx hb dX1_marginIn_53 (lv_at hl 4 rfl) ?_
        refine lv_iload hx hb dX1_marginIn_55 (lv_at hl 7 rfl) ?_
        refine cn_ishr hx hb (by omega) (by omega) dX1_marginIn_57 ?_
        refine lv_iconst (v := nI 1) hx hb dX1_marginIn_58 (by decide +kernel) ?_
        refine cn_iand hx hb dX1_marginIn_59 ?_
        refine cz_ne (tgt := 66) hx hb (Nat.lt_trans (bt_lt _ _) (by decide)) dX1_marginIn_60 (by decide) (fun c_60 => ?_) (fun c_60 => ?_)
        · refine cn_iinc (lv' := [(7, .int (nI (j + 1))), (0, .ref (g 0)), (1, .int (nI k)), (2, .int (nI pl)), (3, .int (nI rs)), (4, .int (nI cm)), (5, .int (nI pp)), (6, .int (nI sk))]) hx hb dX1_marginIn_66 hl (k := 7) rfl (by decide) rfl (fun ls hl => ?_)
          refine lv_goto (tgt := 32) hx hb dX1_marginIn_69 (by decide) ?_
          exact ih (j + 1) _ ls (by omega) (by omega) (by omega) (lv_sub hl [1, 2, 3, 4, 5, 6, 7, 0] rfl) (fun ls hl => K ls (by rw [inP_s1 c_35 c_45]; exact hl))
        · exact absurd c_60 c_45
      · refine lv_iload hx hb dX1_marginIn_48 (lv_at hl 6 rfl) ?_
        refine cz_le (tgt := 72) hx hb (by omega) dX1_marginIn_50 (by decide) (fun c_50 => ?_) (fun c_50 => ?_)
        · exact K ls (by rw [inP_x0 c_45 c_50]; exact (lv_sub hl [0, 1, 2, 3, 4, 5, 7] rfl))
        · refine lv_iload hx hb dX1_marginIn_53 (lv_at hl 4 rfl) ?_
          refine lv_iload hx hb dX1_marginIn_55 (lv_at hl 7 rfl) ?_
          refine cn_ishr hx hb (by omega) (by omega) dX1_marginIn_57 ?_
          refine lv_iconst (v := nI 1) hx hb dX1_marginIn_58 (by decide +kernel) ?_
          refine cn_iand hx hb dX1_marginIn_59 ?_
          refine cz_ne (tgt := 66) hx hb (Nat.lt_trans (bt_lt _ _) (by decide)) dX1_marginIn_60 (by decide) (fun c_60 => ?_) (fun c_60 => ?_)
          · exact absurd c_45 c_60
          · refine cn_dec (lv' := [(6, .int (nI (sk - 1))), (0, .ref (g 0)), (1, .int (nI k)), (2, .int (nI pl)), (3, .int (nI rs)), (4, .int (nI cm)), (5, .int (nI pp)), (7, .int (nI j))]) hx hb (by omega) dX1_marginIn_63 hl (k := 6) rfl (by decide) rfl (fun ls hl => ?_)
            refine cn_iinc (lv' := [(7, .int (nI (j + 1))), (6, .int (nI (sk - 1))), (0, .ref (g 0)), (1, .int (nI k)), (2, .int (nI pl)), (3, .int (nI rs)), (4, .int (nI cm)), (5, .int (nI pp))]) hx hb dX1_marginIn_66 hl (k := 7) rfl (by decide) rfl (fun ls hl => ?_)
            refine lv_goto (tgt := 32) hx hb dX1_marginIn_69 (by decide) ?_
            exact ih (j + 1) _ ls (by omega) (by omega) (by omega) (lv_sub hl [2, 3, 4, 5, 6, 7, 1, 0] rfl) (fun ls hl => K ls (by rw [inP_s0 c_35 c_45 c_50]; exact hl))
end
section
variable {p : Program} {l : Launch} {e : Env} {R : Room} {s : State} {m : MethodId} {args : Array Value} {below : List Frame} {meth : Method} {c : Code} {H : Heap} {locs : List Loc} {cells slots : Nat} {Q : State → Prop} {A : Nat → Prop}
variable {D : va_G} {d : Nat → ClassId} {g : Nat → Nat} {w am pt mv sp : Nat → Int32}
set_option maxHeartbeats 4000000 in
set_option maxRecDepth 100000 in
theorem x1_mg_lp (F : CallFix p m c cX1_marginIn 8 s args lw_all RX1) (hK : va_K D vwCl (tX1 d) s) (hP : va_P D vwCl (wX1 d g (w, mv, pt, am)) H) {k pl : Nat} (hpl : pl < 5) : ∀ (n pp rs cm : Nat) (ls : Array Slot), pp ≤ 5 → 5 - pp < n → rs < 120 → cm < 32 → szN cm 5 = pp → lv_has ls 8 [(0, .ref (g 0)), (1, .int (nI k)), (2, .int (nI pl)), (3, .int (nI rs)), (4, .int (nI cm)), (5, .int (nI pp))] → (mgC pl n pp rs cm < 32 → ∀ ls : Array Slot, W p l e R s m args below meth c H locs cells slots Q (F0 m 98 ls [.int (mgR w pl (mgC pl n pp rs cm))])) → (mgC pl n pp rs cm = 32 → ∀ ls : Array Slot, W p l e R s m args below meth c H locs cells slots Q (F0 m 114 ls [])) → W p l e R s m args below meth c H locs cells slots Q (F0 m 8 ls []) := by
  have hx := F.1
  have hb := F.2.1
  have hown := F.2.2.2.1
  have hts := F.2.2.2.2
  intro n
  induction n with
  | zero => intro pp rs cm ls h1 h2; omega
  | succ n ih =>
    intro pp rs cm ls hpp hn hrs hcm hsz hl K1 K0
    refine lv_iload hx hb dX1_marginIn_8 (lv_at hl 5 rfl) ?_
    refine lv_iconst (v := nI 5) hx hb dX1_marginIn_10 (by decide +kernel) ?_
    refine cn_ge (tgt := 114) hx hb (by omega) (by decide) dX1_marginIn_11 (by decide) (fun c_11 => ?_) (fun c_11 => ?_)
    · exact K0 (mgC_x c_11) ls
    · refine lv_iload_n hx hb dX1_marginIn_14 rfl (lv_at hl 3 rfl) ?_
      refine lv_iconst (v := nI 5) hx hb dX1_marginIn_15 (by decide +kernel) ?_
      refine lv_iload hx hb dX1_marginIn_16 (lv_at hl 5 rfl) ?_
      refine cn_isub hx hb (by omega) dX1_marginIn_18 ?_
      refine cn_irem hx hb (by omega) (by omega) (by omega) dX1_marginIn_19 ?_
      refine lv_istore (lv' := [(6, .int (nI (rs % (5 - pp)))), (0, .ref (g 0)), (1, .int (nI k)), (2, .int (nI pl)), (3, .int (nI rs)), (4, .int (nI cm)), (5, .int (nI pp))]) hx hb dX1_marginIn_20 hl (by decide) rfl (fun ls hl => ?_)
      refine lv_iload_n hx hb dX1_marginIn_22 rfl (lv_at hl 4 rfl) ?_
      refine lv_iconst (v := nI 5) hx hb dX1_marginIn_23 (by decide +kernel) ?_
      refine lv_iload hx hb dX1_marginIn_24 (lv_at hl 6 rfl) ?_
      refine cn_isub hx hb (by omega) dX1_marginIn_26 ?_
      refine cn_idiv hx hb (by omega) (by omega) (by omega) dX1_marginIn_27 ?_
      refine lv_istore_n (lv' := [(3, .int (nI (rs / (5 - pp)))), (6, .int (nI (rs % (5 - pp)))), (0, .ref (g 0)), (1, .int (nI k)), (2, .int (nI pl)), (4, .int (nI cm)), (5, .int (nI pp))]) hx hb dX1_marginIn_28 rfl hl (by decide) rfl (fun ls hl => ?_)
      refine lv_iconst (v := nI 0) hx hb dX1_marginIn_29 (by decide +kernel) ?_
      refine lv_istore (lv' := [(7, .int (nI 0)), (3, .int (nI (rs / (5 - pp)))), (6, .int (nI (rs % (5 - pp)))), (0, .ref (g 0)), (1, .int (nI k)), (2, .int (nI pl)), (4, .int (nI cm)), (5, .int (nI pp))]) hx hb dX1_marginIn_30 hl (by decide) rfl (fun ls hl => ?_)
      have hmod : rs % (5 - pp) < 5 - pp := Nat.mod_lt _ (by omega)
      have hq := inP_all ⟨cm, hcm⟩ ⟨rs % (5 - pp), by omega⟩ (by show rs % (5 - pp) + szN cm 5 < 5; omega)
      refine x1_mg_in F hcm 6 0 _ ls (by omega) (by omega) (by omega) (lv_sub hl [3, 4, 5, 1, 6, 7, 2, 0] rfl) (fun ls hl => ?_)
      obtain ⟨q, hqe⟩ : ∃ q, q = inP cm 6 (rs % (5 - pp)) 0 := ⟨_, rfl⟩
      have hq : q < 5 ∧ szN (cm ||| 1 <<< q) 5 = szN cm 5 + 1 := by rw [hqe]; exact hq
      rw [← hqe] at hl
      refine lv_iload hx hb dX1_marginIn_72 (lv_at hl 6 rfl) ?_
      refine lv_iload_n hx hb dX1_marginIn_74 rfl (lv_at hl 2 rfl) ?_
      refine cn_ne (tgt := 99) hx hb (by omega) (by omega) dX1_marginIn_75 (by decide) (fun c_75 => ?_) (fun c_75 => ?_)
      · rw [mgC_next c_11 (by rw [← hqe]; exact c_75)] at K1 K0
        rw [← hqe] at K1 K0
        refine lv_iload hx hb dX1_marginIn_99 (lv_at hl 4 rfl) ?_
        refine lv_iconst (v := nI 1) hx hb dX1_marginIn_101 (by decide +kernel) ?_
        refine lv_iload hx hb dX1_marginIn_102 (lv_at hl 6 rfl) ?_
        refine cn_ishl hx hb (shlB (by omega)) (by omega) dX1_marginIn_104 ?_
        refine cn_ior hx hb dX1_marginIn_105 ?_
        refine lv_istore (lv' := [(4, .int (nI (cm ||| (1 <<< q)))), (0, .ref (g 0)), (1, .int (nI k)), (2, .int (nI pl)), (3, .int (nI (rs / (5 - pp)))), (5, .int (nI pp)), (7, .int (nI q))]) hx hb dX1_marginIn_106 hl (by decide) rfl (fun ls hl => ?_)
        refine cn_iinc (lv' := [(5, .int (nI (pp + 1))), (4, .int (nI (cm ||| (1 <<< q)))), (0, .ref (g 0)), (1, .int (nI k)), (2, .int (nI pl)), (3, .int (nI (rs / (5 - pp)))), (7, .int (nI q))]) hx hb dX1_marginIn_108 hl (k := 5) rfl (by decide) rfl (fun ls hl => ?_)
        refine lv_goto (tgt := 8) hx hb dX1_marginIn_111 (by decide) ?_
        exact ih (pp + 1) (rs / (5 - pp)) (cm ||| 1 <<< q) ls (by omega) (by omega) (Nat.lt_of_le_of_lt (Nat.div_le_self _ _) hrs) (or32 hcm (shl32 hq.1)) (by rw [hq.2, hsz]) (lv_sub hl [2, 3, 4, 5, 1, 0] rfl) K1 K0
      · refine lv_aload_n hx hb dX1_marginIn_78 rfl (lv_at hl 0 rfl) ?_
        refine va_get (D := D) (ci := 1) (v := .ref (g 1)) (C := RX1) (T := TX1) (N := 4) hx hb hts in_X1 hown hK hP 0 rfl rfl 0 (by decide) (hts _ q118) (fun _ h9 => h9) rfl dX1_marginIn_79 ?_
        refine lv_iload hx hb dX1_marginIn_82 (lv_at hl 4 rfl) ?_
        refine lv_iconst (v := nI 1) hx hb dX1_marginIn_84 (by decide +kernel) ?_
        refine lv_iload hx hb dX1_marginIn_85 (lv_at hl 6 rfl) ?_
        refine cn_ishl hx hb (shlB (by omega)) (by omega) dX1_marginIn_87 ?_
        refine cn_ior hx hb dX1_marginIn_88 ?_
        refine cv_ald hx hb hK hP 1 0 rfl rfl (by decide) (or32 hcm (shl32 hq.1)) dX1_marginIn_89 ?_
        refine lv_aload_n hx hb dX1_marginIn_90 rfl (lv_at hl 0 rfl) ?_
        refine va_get (D := D) (ci := 1) (v := .ref (g 1)) (C := RX1) (T := TX1) (N := 4) hx hb hts in_X1 hown hK hP 0 rfl rfl 0 (by decide) (hts _ q118) (fun _ h9 => h9) rfl dX1_marginIn_91 ?_
        refine lv_iload hx hb dX1_marginIn_94 (lv_at hl 4 rfl) ?_
        refine cv_ald hx hb hK hP 1 0 rfl rfl (by decide) hcm dX1_marginIn_96 ?_
        refine lv_isub hx hb dX1_marginIn_97 ?_
        refine cv_set (y := mgR w pl (mgC pl (n + 1) pp rs cm)) (by rw [mgC_hit c_11 (by rw [← hqe]; exact c_75), ← c_75]; rfl) ?_
        exact K1 (by rw [mgC_hit c_11 (by rw [← hqe]; exact c_75)]; exact hcm) ls
end
set_option maxHeartbeats 4000000 in
set_option maxRecDepth 100000 in
theorem x1_marginIn (l : Launch) (D : va_G) (d : Nat → ClassId) (g : Nat → Nat) (sz : Nat) (w mv pt am : Nat → Int32) {k pl : Nat} (hk : k < 120) (hpl : pl < 5) : CM l yX1_marginIn cX1_marginIn 8 (some .int) cvr0 D (wX1 d g) (tX1 d) (g 0) sz (w, mv, pt, am) [.int (nI k), .int (nI pl)] (fun r u => r = mgR w pl (mgC pl 6 0 k 0) ∧ u = (w, mv, pt, am)) := by
  refine cm_start (by decide) (Nat.le_of_ble_eq_true rfl) ?_
  intro p e s m below meth c ls A F hr hlocks hA hP hK hD hS hl
  have hx := F.1
  have hb := F.2.1
  have hown := F.2.2.2.1
  have hts := F.2.2.2.2
  have hl : lv_has ls 8 [(0, .ref (g 0)), (1, .int (nI k)), (2, .int (nI pl))] := hl
  have hP : va_P D vwCl (wX1 d g (w, mv, pt, am)) s.heap := hP
  have hD : va_D A (wX1 d g (w, mv, pt, am)) := hD
  refine lv_iload_n hx hb dX1_marginIn_0 rfl (lv_at hl 1 rfl) ?_
  refine lv_istore_n (lv' := [(3, .int (nI k)), (0, .ref (g 0)), (1, .int (nI k)), (2, .int (nI pl))]) hx hb dX1_marginIn_1 rfl hl (by decide) rfl (fun ls hl => ?_)
  refine lv_iconst (v := nI 0) hx hb dX1_marginIn_2 (by decide +kernel) ?_
  refine lv_istore (lv' := [(4, .int (nI 0)), (3, .int (nI k)), (0, .ref (g 0)), (1, .int (nI k)), (2, .int (nI pl))]) hx hb dX1_marginIn_3 hl (by decide) rfl (fun ls hl => ?_)
  refine lv_iconst (v := nI 0) hx hb dX1_marginIn_5 (by decide +kernel) ?_
  refine lv_istore (lv' := [(5, .int (nI 0)), (4, .int (nI 0)), (3, .int (nI k)), (0, .ref (g 0)), (1, .int (nI k)), (2, .int (nI pl))]) hx hb dX1_marginIn_6 hl (by decide) rfl (fun ls hl => ?_)
  have hall := mgC_all ⟨k, hk⟩ ⟨pl, hpl⟩
  refine x1_mg_lp F hK hP hpl 6 0 k 0 ls (by omega) (by omega) hk (by omega) rfl (lv_sub hl [3, 4, 5, 2, 1, 0] rfl) (fun h ls => ?_) (fun h ls => ?_)
  · exact cm_ret hx hb hr hlocks rfl (w, mv, pt, am) ⟨rfl, rfl⟩ hP hK hD hS dX1_marginIn_98
  · exact absurd hall (by show ¬ mgC pl 6 0 k 0 < 32; omega)

section
variable {p : Program} {l : Launch} {e : Env} {R : Room} {s : State} {m : MethodId} {args : Array Value} {below : List Frame} {meth : Method} {c : Code} {H : Heap} {locs : List Loc} {cells slots : Nat} {Q : State → Prop} {A : Nat → Prop}
variable {D : va_G} {d : Nat → ClassId} {g : Nat → Nat} {w am pt mv sp : Nat → Int32}
set_option maxHeartbeats 4000000 in
set_option maxRecDepth 100000 in
theorem x1_order_lp (F : CallFix p m c cX1_orderValue 4 s args lw_all RX1) (hA : ∀ q : Nat, s.heap.size ≤ q → A q) (hK : va_K D vwCl (tX1 d) s) {pl : Nat} (hpl : pl < 5) (K : ∀ (H : Heap) (locs : List Loc), va_P D vwCl (wX1 d g (w, mv, pt, am)) H → va_D A (wX1 d g (w, mv, pt, am)) → va_S A s.heap H locs → ∀ ls : Array Slot, lv_has ls 4 [(0, .ref (g 0)), (1, .int (nI pl)), (2, .int (ovM w pl 120)), (3, .int (nI 120))] → W p l e cvr1 s m args below meth c H locs 0 0 Q (F0 m 36 ls [])) : ∀ (n t : Nat), t ≤ 120 → 120 - t < n → ∀ (H : Heap) (locs : List Loc), va_P D vwCl (wX1 d g (w, mv, pt, am)) H → va_D A (wX1 d g (w, mv, pt, am)) → va_S A s.heap H locs → ∀ (ls : Array Slot), lv_has ls 4 [(0, .ref (g 0)), (1, .int (nI pl)), (2, .int (ovM w pl t)), (3, .int (nI t))] → W p l e cvr1 s m args below meth c H locs 0 0 Q (F0 m 15 ls []) := by
  have hx := F.1
  have hb := F.2.1
  have hown := F.2.2.2.1
  have hts := F.2.2.2.2
  intro n
  induction n with
  | zero => intro t h1 h2; omega
  | succ n ih =>
    intro t ht hn H locs hP hD hS ls hl
    refine lv_iload_n hx hb dX1_orderValue_15 rfl (lv_at hl 3 rfl) ?_
    refine lv_bipush (v := nI 120) hx hb dX1_orderValue_16 (by decide +kernel) ?_
    refine cn_ge (tgt := 36) hx hb (by omega) (by decide) dX1_orderValue_18 (by decide) (fun c_18 => ?_) (fun c_18 => ?_)
    · obtain rfl : t = 120 := by omega
      exact K H locs hP hD hS ls (lv_sub hl [0, 1, 2, 3] rfl)
    · refine lv_iload_n hx hb dX1_orderValue_21 rfl (lv_at hl 2 rfl) ?_
      refine lv_aload_n hx hb dX1_orderValue_22 rfl (lv_at hl 0 rfl) ?_
      refine lv_iload_n hx hb dX1_orderValue_23 rfl (lv_at hl 3 rfl) ?_
      refine lv_iload_n hx hb dX1_orderValue_24 rfl (lv_at hl 1 rfl) ?_
      refine cm_self (wf := wX1 d g) (rest := [.int (ovM w pl t)]) F (x1_marginIn l D d g _ w mv pt am (k := t) (pl := pl) (by omega) hpl) (cwV 2 hts (lw_V q155 q157 qs4 q9 q158) rfl rfl rfl (by decide +kernel) ⟨Nat.le_of_ble_eq_true rfl, Nat.le_of_ble_eq_true rfl⟩) (ci := 1) rfl rfl rfl hK hP hD hS hA [0, 1, 2, 3] [0, 1, 2, 3, 4] rfl rfl rfl (by decide) rfl hl.1 rfl (Nat.le_of_ble_eq_true rfl) ⟨Nat.zero_le _, Nat.zero_le _⟩ dX1_orderValue_25 (fun r u H locs hw hP hD hS => ?_)
      obtain ⟨rfl, rfl⟩ := hw
      refine lv_iadd hx hb dX1_orderValue_28 ?_
      refine cv_set (y := ovM w pl (t + 1)) rfl ?_
      refine lv_istore_n (lv' := [(2, .int (ovM w pl (t + 1))), (0, .ref (g 0)), (1, .int (nI pl)), (3, .int (nI t))]) hx hb dX1_orderValue_29 rfl hl (by decide) rfl (fun ls hl => ?_)
      refine cn_iinc (lv' := [(3, .int (nI (t + 1))), (2, .int (ovM w pl (t + 1))), (0, .ref (g 0)), (1, .int (nI pl))]) hx hb dX1_orderValue_30 hl (k := 3) rfl (by decide) rfl (fun ls hl => ?_)
      refine lv_goto (tgt := 15) hx hb dX1_orderValue_33 (by decide) ?_
      exact ih (t + 1) (by omega) (by omega) H locs hP hD hS ls (lv_sub hl [2, 3, 1, 0] rfl)
end
set_option maxHeartbeats 4000000 in
set_option maxRecDepth 100000 in
theorem x1_orderValue (l : Launch) (D : va_G) (d : Nat → ClassId) (g : Nat → Nat) (sz : Nat) (w mv pt am : Nat → Int32) (x : Int32) : CM l yX1_orderValue cX1_orderValue 4 (some .int) cvr1 D (wX1 d g) (tX1 d) (g 0) sz (w, mv, pt, am) [.int x] (fun r u => r = (match pl5 x with | none => -3 | some k => ovM w k 120) ∧ u = (w, mv, pt, am)) := by
  refine cm_start (by decide) (Nat.le_of_ble_eq_true rfl) ?_
  intro p e s m below meth c ls A F hr hlocks hA hP hK hD hS hl
  have hx := F.1
  have hb := F.2.1
  have hown := F.2.2.2.1
  have hts := F.2.2.2.2
  have hl : lv_has ls 4 [(0, .ref (g 0)), (1, .int x)] := hl
  have hP : va_P D vwCl (wX1 d g (w, mv, pt, am)) s.heap := hP
  have hD : va_D A (wX1 d g (w, mv, pt, am)) := hD
  refine lv_aload_n hx hb dX1_orderValue_0 rfl (lv_at hl 0 rfl) ?_
  refine lv_iload_n hx hb dX1_orderValue_1 rfl (lv_at hl 1 rfl) ?_
  refine cm_self (wf := wX1 d g) (rest := []) F (x1_isPlayer l D d g _ w mv pt am x) (cwV 1 hts (lw_V q139 q141 qs3 q9 q142) rfl rfl rfl (by decide +kernel) ⟨Nat.le_of_ble_eq_true rfl, Nat.le_of_ble_eq_true rfl⟩) (ci := 1) rfl rfl rfl hK hP hD hS hA [0, 1, 2, 3] [0, 1, 2, 3, 4] rfl rfl rfl (by decide) rfl hl.1 rfl (Nat.le_of_ble_eq_true rfl) ⟨Nat.zero_le _, Nat.zero_le _⟩ dX1_orderValue_2 (fun r u H locs hw hP hD hS => ?_)
  obtain ⟨hw, rfl⟩ := hw
  rcases hw with ⟨rfl, h2⟩ | ⟨pl, rfl, h2⟩
  · refine cz_ne (tgt := 11) hx hb (by decide) dX1_orderValue_5 (by decide) (fun h9 => absurd h9 (by decide)) (fun h9 => ?_)
    refine lv_bipush (v := (-3)) hx hb dX1_orderValue_8 (by decide +kernel) ?_
    exact cm_ret hx hb hr hlocks rfl (w, mv, pt, am) ⟨by rw [h2], rfl⟩ hP hK hD hS dX1_orderValue_10
  · obtain ⟨hk_pl, rfl⟩ := pl5_some h2
    refine cz_ne (tgt := 11) hx hb (by decide) dX1_orderValue_5 (by decide) (fun h9 => ?_) (fun h9 => absurd h9 (by decide))
    refine lv_iconst (v := 0) hx hb dX1_orderValue_11 (by decide +kernel) ?_
    refine lv_istore_n (lv' := [(2, .int 0), (0, .ref (g 0)), (1, .int (nI pl))]) hx hb dX1_orderValue_12 rfl hl (by decide) rfl (fun ls hl => ?_)
    refine lv_iconst (v := nI 0) hx hb dX1_orderValue_13 (by decide +kernel) ?_
    refine lv_istore_n (lv' := [(3, .int (nI 0)), (2, .int 0), (0, .ref (g 0)), (1, .int (nI pl))]) hx hb dX1_orderValue_14 rfl hl (by decide) rfl (fun ls hl => ?_)
    refine x1_order_lp F hA hK hk_pl (fun H locs hP hD hS ls hl => ?_) 121 0 (by omega) (by omega) _ _ hP hD hS ls (lv_sub hl [2, 3, 1, 0] rfl)
    refine lv_iload_n hx hb dX1_orderValue_36 rfl (lv_at hl 2 rfl) ?_
    exact cm_ret hx hb hr hlocks rfl (w, mv, pt, am) ⟨by rw [h2], rfl⟩ hP hK hD hS dX1_orderValue_37

section
variable {p : Program} {l : Launch} {e : Env} {R : Room} {s : State} {m : MethodId} {args : Array Value} {below : List Frame} {meth : Method} {c : Code} {H : Heap} {locs : List Loc} {cells slots : Nat} {Q : State → Prop} {A : Nat → Prop}
variable {D : va_G} {d : Nat → ClassId} {g : Nat → Nat} {w am pt mv sp : Nat → Int32}
set_option maxHeartbeats 4000000 in
set_option maxRecDepth 100000 in
theorem x1_convex_lp (F : CallFix p m c cX1_convex 4 s args lw_all RX1) (hK : va_K D vwCl (tX1 d) s) (hP : va_P D vwCl (wX1 d g (w, mv, pt, am)) H) (K1 : ¬ cxM w → ∀ ls : Array Slot, W p l e R s m args below meth c H locs cells slots Q (F0 m 60 ls [])) (K0 : cxM w → ∀ ls : Array Slot, W p l e R s m args below meth c H locs cells slots Q (F0 m 52 ls [])) : ∀ (n t : Nat) (ls : Array Slot), t ≤ 1024 → 1024 - t < n → (∀ i, i < t → ¬ cxB w i) → lv_has ls 4 [(0, .ref (g 0)), (1, .int (nI t))] → W p l e R s m args below meth c H locs cells slots Q (F0 m 2 ls []) := by
  have hx := F.1
  have hb := F.2.1
  have hown := F.2.2.2.1
  have hts := F.2.2.2.2
  intro n
  induction n with
  | zero => intro t ls h1 h2; omega
  | succ n ih =>
    intro t ls ht hn hno hl
    refine lv_iload_n hx hb dX1_convex_2 rfl (lv_at hl 1 rfl) ?_
    refine lv_sipush (v := nI 1024) hx hb dX1_convex_3 (by decide +kernel) ?_
    refine cn_ge (tgt := 60) hx hb (by omega) (by decide) dX1_convex_6 (by decide) (fun c_6 => ?_) (fun c_6 => ?_)
    · obtain rfl : t = 1024 := by omega
      exact K1 (fun ⟨t, h1, h2⟩ => hno t h1 h2) ls
    · refine lv_iload_n hx hb dX1_convex_9 rfl (lv_at hl 1 rfl) ?_
      refine lv_bipush (v := nI 32) hx hb dX1_convex_10 (by decide +kernel) ?_
      refine cn_idiv hx hb (by omega) (by omega) (by omega) dX1_convex_12 ?_
      refine lv_istore_n (lv' := [(2, .int (nI (t / 32))), (0, .ref (g 0)), (1, .int (nI t))]) hx hb dX1_convex_13 rfl hl (by decide) rfl (fun ls hl => ?_)
      refine lv_iload_n hx hb dX1_convex_14 rfl (lv_at hl 2 rfl) ?_
      refine lv_bipush (v := nI 32) hx hb dX1_convex_15 (by decide +kernel) ?_
      refine cn_irem hx hb (by omega) (by omega) (by omega) dX1_convex_17 ?_
      refine lv_istore_n (lv' := [(3, .int (nI (t % 32))), (2, .int (nI (t / 32))), (0, .ref (g 0)), (1, .int (nI t))]) hx hb dX1_convex_18 rfl hl (by decide) rfl (fun ls hl => ?_)
      refine lv_aload_n hx hb dX1_convex_19 rfl (lv_at hl 2 rfl) ?_
      refine va_get (D := D) (ci := 1) (v := .ref (g 1)) (C := RX1) (T := TX1) (N := 4) hx hb hts in_X1 hown hK hP 0 rfl rfl 0 (by decide) (hts _ q118) (fun _ h9 => h9) rfl dX1_convex_20 ?_
      refine lv_iload_n hx hb dX1_convex_23 rfl (lv_at hl 1 rfl) ?_
      refine lv_iload_n hx hb dX1_convex_24 rfl (lv_at hl 0 rfl) ?_
      refine cn_ior hx hb dX1_convex_25 ?_
      refine cv_ald hx hb hK hP 1 0 rfl rfl (by decide) (or32 (by omega) (by omega)) dX1_convex_26 ?_
      refine lv_aload_n hx hb dX1_convex_27 rfl (lv_at hl 2 rfl) ?_
      refine va_get (D := D) (ci := 1) (v := .ref (g 1)) (C := RX1) (T := TX1) (N := 4) hx hb hts in_X1 hown hK hP 0 rfl rfl 0 (by decide) (hts _ q118) (fun _ h9 => h9) rfl dX1_convex_28 ?_
      refine lv_iload_n hx hb dX1_convex_31 rfl (lv_at hl 1 rfl) ?_
      refine lv_iload_n hx hb dX1_convex_32 rfl (lv_at hl 0 rfl) ?_
      refine cn_iand hx hb dX1_convex_33 ?_
      refine cv_ald hx hb hK hP 1 0 rfl rfl (by decide) (and32 (by omega)) dX1_convex_34 ?_
      refine lv_iadd hx hb dX1_convex_35 ?_
      refine lv_aload_n hx hb dX1_convex_36 rfl (lv_at hl 2 rfl) ?_
      refine va_get (D := D) (ci := 1) (v := .ref (g 1)) (C := RX1) (T := TX1) (N := 4) hx hb hts in_X1 hown hK hP 0 rfl rfl 0 (by decide) (hts _ q118) (fun _ h9 => h9) rfl dX1_convex_37 ?_
      refine lv_iload_n hx hb dX1_convex_40 rfl (lv_at hl 1 rfl) ?_
      refine cv_ald hx hb hK hP 1 0 rfl rfl (by decide) (by omega) dX1_convex_41 ?_
      refine lv_aload_n hx hb dX1_convex_42 rfl (lv_at hl 2 rfl) ?_
      refine va_get (D := D) (ci := 1) (v := .ref (g 1)) (C := RX1) (T := TX1) (N := 4) hx hb hts in_X1 hown hK hP 0 rfl rfl 0 (by decide) (hts _ q118) (fun _ h9 => h9) rfl dX1_convex_43 ?_
      refine lv_iload_n hx hb dX1_convex_46 rfl (lv_at hl 0 rfl) ?_
      refine cv_ald hx hb hK hP 1 0 rfl rfl (by decide) (by omega) dX1_convex_47 ?_
      refine lv_iadd hx hb dX1_convex_48 ?_
      refine lv_icmp_ge (tgt := 54) hx hb dX1_convex_49 (by decide) (fun c_49 => ?_) (fun c_49 => ?_)
      · refine cn_iinc (lv' := [(1, .int (nI (t + 1))), (3, .int (nI (t % 32))), (2, .int (nI (t / 32))), (0, .ref (g 0))]) hx hb dX1_convex_54 hl (k := 3) rfl (by decide) rfl (fun ls hl => ?_)
        refine lv_goto (tgt := 2) hx hb dX1_convex_57 (by decide) ?_
        exact ih (t + 1) ls (by omega) (by omega) (lt_s hno (fun h => absurd c_49 (Int32.not_le.mpr h))) (lv_sub hl [3, 0] rfl)
      · exact K0 ⟨t, by omega, Int32.not_le.mp c_49⟩ ls
end
set_option maxHeartbeats 4000000 in
set_option maxRecDepth 100000 in
theorem x1_convex (l : Launch) (D : va_G) (d : Nat → ClassId) (g : Nat → Nat) (sz : Nat) (w mv pt am : Nat → Int32) : CM l yX1_convex cX1_convex 4 (some .boolean) cvr0 D (wX1 d g) (tX1 d) (g 0) sz (w, mv, pt, am) [] (fun r u => yesNo r (cxM w) ∧ u = (w, mv, pt, am)) := by
  refine cm_start (by decide) (Nat.le_of_ble_eq_true rfl) ?_
  intro p e s m below meth c ls A F hr hlocks hA hP hK hD hS hl
  have hx := F.1
  have hb := F.2.1
  have hown := F.2.2.2.1
  have hts := F.2.2.2.2
  have hl : lv_has ls 4 [(0, .ref (g 0))] := hl
  have hP : va_P D vwCl (wX1 d g (w, mv, pt, am)) s.heap := hP
  have hD : va_D A (wX1 d g (w, mv, pt, am)) := hD
  refine lv_iconst (v := nI 0) hx hb dX1_convex_0 (by decide +kernel) ?_
  refine lv_istore_n (lv' := [(1, .int (nI 0)), (0, .ref (g 0))]) hx hb dX1_convex_1 rfl hl (by decide) rfl (fun ls hl => ?_)
  refine x1_convex_lp F hK hP (fun hno ls => ?_) (fun hbad ls => ?_) 1025 0 ls (by omega) (by omega) (fun i h => by omega) (lv_sub hl [1, 0] rfl)
  · refine lv_iconst (v := nI 1) hx hb dX1_convex_60 (by decide +kernel) ?_
    exact cm_ret hx hb hr hlocks rfl (w, mv, pt, am) ⟨Or.inr ⟨rfl, hno⟩, rfl⟩ hP hK hD hS dX1_convex_61
  · refine lv_iconst (v := nI 0) hx hb dX1_convex_52 (by decide +kernel) ?_
    exact cm_ret hx hb hr hlocks rfl (w, mv, pt, am) ⟨Or.inl ⟨rfl, hbad⟩, rfl⟩ hP hK hD hS dX1_convex_53

section
variable {p : Program} {l : Launch} {e : Env} {R : Room} {s : State} {m : MethodId} {args : Array Value} {below : List Frame} {meth : Method} {c : Code} {H : Heap} {locs : List Loc} {cells slots : Nat} {Q : State → Prop} {A : Nat → Prop}
variable {D : va_G} {d : Nat → ClassId} {g : Nat → Nat} {w am pt mv sp : Nat → Int32}
set_option maxHeartbeats 4000000 in
set_option maxRecDepth 100000 in
theorem x1_superadditive_lp (F : CallFix p m c cX1_superadditive 4 s args lw_all RX1) (hK : va_K D vwCl (tX1 d) s) (hP : va_P D vwCl (wX1 d g (w, mv, pt, am)) H) (K1 : ¬ saM w → ∀ ls : Array Slot, W p l e R s m args below meth c H locs cells slots Q (F0 m 57 ls [])) (K0 : saM w → ∀ ls : Array Slot, W p l e R s m args below meth c H locs cells slots Q (F0 m 49 ls [])) : ∀ (n t : Nat) (ls : Array Slot), t ≤ 1024 → 1024 - t < n → (∀ i, i < t → ¬ saB w i) → lv_has ls 4 [(0, .ref (g 0)), (1, .int (nI t))] → W p l e R s m args below meth c H locs cells slots Q (F0 m 2 ls []) := by
  have hx := F.1
  have hb := F.2.1
  have hown := F.2.2.2.1
  have hts := F.2.2.2.2
  intro n
  induction n with
  | zero => intro t ls h1 h2; omega
  | succ n ih =>
    intro t ls ht hn hno hl
    refine lv_iload_n hx hb dX1_superadditive_2 rfl (lv_at hl 1 rfl) ?_
    refine lv_sipush (v := nI 1024) hx hb dX1_superadditive_3 (by decide +kernel) ?_
    refine cn_ge (tgt := 57) hx hb (by omega) (by decide) dX1_superadditive_6 (by decide) (fun c_6 => ?_) (fun c_6 => ?_)
    · obtain rfl : t = 1024 := by omega
      exact K1 (fun ⟨t, h1, h2⟩ => hno t h1 h2) ls
    · refine lv_iload_n hx hb dX1_superadditive_9 rfl (lv_at hl 1 rfl) ?_
      refine lv_bipush (v := nI 32) hx hb dX1_superadditive_10 (by decide +kernel) ?_
      refine cn_idiv hx hb (by omega) (by omega) (by omega) dX1_superadditive_12 ?_
      refine lv_istore_n (lv' := [(2, .int (nI (t / 32))), (0, .ref (g 0)), (1, .int (nI t))]) hx hb dX1_superadditive_13 rfl hl (by decide) rfl (fun ls hl => ?_)
      refine lv_iload_n hx hb dX1_superadditive_14 rfl (lv_at hl 2 rfl) ?_
      refine lv_bipush (v := nI 32) hx hb dX1_superadditive_15 (by decide +kernel) ?_
      refine cn_irem hx hb (by omega) (by omega) (by omega) dX1_superadditive_17 ?_
      refine lv_istore_n (lv' := [(3, .int (nI (t % 32))), (2, .int (nI (t / 32))), (0, .ref (g 0)), (1, .int (nI t))]) hx hb dX1_superadditive_18 rfl hl (by decide) rfl (fun ls hl => ?_)
      refine lv_iload_n hx hb dX1_superadditive_19 rfl (lv_at hl 1 rfl) ?_
      refine lv_iload_n hx hb dX1_superadditive_20 rfl (lv_at hl 0 rfl) ?_
      refine cn_iand hx hb dX1_superadditive_21 ?_
      refine cz_ne (tgt := 51) hx hb (Nat.lt_trans (and32 (by omega)) (by decide)) dX1_superadditive_22 (by decide) (fun c_22 => ?_) (fun c_22 => ?_)
      · refine cn_iinc (lv' := [(1, .int (nI (t + 1))), (3, .int (nI (t % 32))), (2, .int (nI (t / 32))), (0, .ref (g 0))]) hx hb dX1_superadditive_51 hl (k := 3) rfl (by decide) rfl (fun ls hl => ?_)
        refine lv_goto (tgt := 2) hx hb dX1_superadditive_54 (by decide) ?_
        exact ih (t + 1) ls (by omega) (by omega) (lt_s hno (by first | exact fun h => c_22 h.1 | exact fun h => absurd c_46 (Int32.not_le.mpr h.2))) (lv_sub hl [3, 0] rfl)
      · refine lv_aload_n hx hb dX1_superadditive_25 rfl (lv_at hl 2 rfl) ?_
        refine va_get (D := D) (ci := 1) (v := .ref (g 1)) (C := RX1) (T := TX1) (N := 4) hx hb hts in_X1 hown hK hP 0 rfl rfl 0 (by decide) (hts _ q118) (fun _ h9 => h9) rfl dX1_superadditive_26 ?_
        refine lv_iload_n hx hb dX1_superadditive_29 rfl (lv_at hl 1 rfl) ?_
        refine lv_iload_n hx hb dX1_superadditive_30 rfl (lv_at hl 0 rfl) ?_
        refine cn_ior hx hb dX1_superadditive_31 ?_
        refine cv_ald hx hb hK hP 1 0 rfl rfl (by decide) (or32 (by omega) (by omega)) dX1_superadditive_32 ?_
        refine lv_aload_n hx hb dX1_superadditive_33 rfl (lv_at hl 2 rfl) ?_
        refine va_get (D := D) (ci := 1) (v := .ref (g 1)) (C := RX1) (T := TX1) (N := 4) hx hb hts in_X1 hown hK hP 0 rfl rfl 0 (by decide) (hts _ q118) (fun _ h9 => h9) rfl dX1_superadditive_34 ?_
        refine lv_iload_n hx hb dX1_superadditive_37 rfl (lv_at hl 1 rfl) ?_
        refine cv_ald hx hb hK hP 1 0 rfl rfl (by decide) (by omega) dX1_superadditive_38 ?_
        refine lv_aload_n hx hb dX1_superadditive_39 rfl (lv_at hl 2 rfl) ?_
        refine va_get (D := D) (ci := 1) (v := .ref (g 1)) (C := RX1) (T := TX1) (N := 4) hx hb hts in_X1 hown hK hP 0 rfl rfl 0 (by decide) (hts _ q118) (fun _ h9 => h9) rfl dX1_superadditive_40 ?_
        refine lv_iload_n hx hb dX1_superadditive_43 rfl (lv_at hl 0 rfl) ?_
        refine cv_ald hx hb hK hP 1 0 rfl rfl (by decide) (by omega) dX1_superadditive_44 ?_
        refine lv_iadd hx hb dX1_superadditive_45 ?_
        refine lv_icmp_ge (tgt := 51) hx hb dX1_superadditive_46 (by decide) (fun c_46 => ?_) (fun c_46 => ?_)
        · refine cn_iinc (lv' := [(1, .int (nI (t + 1))), (3, .int (nI (t % 32))), (2, .int (nI (t / 32))), (0, .ref (g 0))]) hx hb dX1_superadditive_51 hl (k := 3) rfl (by decide) rfl (fun ls hl => ?_)
          refine lv_goto (tgt := 2) hx hb dX1_superadditive_54 (by decide) ?_
          exact ih (t + 1) ls (by omega) (by omega) (lt_s hno (by first | exact fun h => c_22 h.1 | exact fun h => absurd c_46 (Int32.not_le.mpr h.2))) (lv_sub hl [3, 0] rfl)
        · exact K0 ⟨t, by omega, c_22, Int32.not_le.mp c_46⟩ ls
end
set_option maxHeartbeats 4000000 in
set_option maxRecDepth 100000 in
theorem x1_superadditive (l : Launch) (D : va_G) (d : Nat → ClassId) (g : Nat → Nat) (sz : Nat) (w mv pt am : Nat → Int32) : CM l yX1_superadditive cX1_superadditive 4 (some .boolean) cvr0 D (wX1 d g) (tX1 d) (g 0) sz (w, mv, pt, am) [] (fun r u => yesNo r (saM w) ∧ u = (w, mv, pt, am)) := by
  refine cm_start (by decide) (Nat.le_of_ble_eq_true rfl) ?_
  intro p e s m below meth c ls A F hr hlocks hA hP hK hD hS hl
  have hx := F.1
  have hb := F.2.1
  have hown := F.2.2.2.1
  have hts := F.2.2.2.2
  have hl : lv_has ls 4 [(0, .ref (g 0))] := hl
  have hP : va_P D vwCl (wX1 d g (w, mv, pt, am)) s.heap := hP
  have hD : va_D A (wX1 d g (w, mv, pt, am)) := hD
  refine lv_iconst (v := nI 0) hx hb dX1_superadditive_0 (by decide +kernel) ?_
  refine lv_istore_n (lv' := [(1, .int (nI 0)), (0, .ref (g 0))]) hx hb dX1_superadditive_1 rfl hl (by decide) rfl (fun ls hl => ?_)
  refine x1_superadditive_lp F hK hP (fun hno ls => ?_) (fun hbad ls => ?_) 1025 0 ls (by omega) (by omega) (fun i h => by omega) (lv_sub hl [1, 0] rfl)
  · refine lv_iconst (v := nI 1) hx hb dX1_superadditive_57 (by decide +kernel) ?_
    exact cm_ret hx hb hr hlocks rfl (w, mv, pt, am) ⟨Or.inr ⟨rfl, hno⟩, rfl⟩ hP hK hD hS dX1_superadditive_58
  · refine lv_iconst (v := nI 0) hx hb dX1_superadditive_49 (by decide +kernel) ?_
    exact cm_ret hx hb hr hlocks rfl (w, mv, pt, am) ⟨Or.inl ⟨rfl, hbad⟩, rfl⟩ hP hK hD hS dX1_superadditive_50

section
variable {p : Program} {l : Launch} {e : Env} {R : Room} {s : State} {m : MethodId} {args : Array Value} {below : List Frame} {meth : Method} {c : Code} {H : Heap} {locs : List Loc} {cells slots : Nat} {Q : State → Prop} {A : Nat → Prop}
variable {D : va_G} {d : Nat → ClassId} {g : Nat → Nat} {w am pt mv sp : Nat → Int32}
set_option maxHeartbeats 4000000 in
set_option maxRecDepth 100000 in
theorem x1_al_lp (F : CallFix p m c cX1_alike 5 s args lw_all RX1) (hK : va_K D vwCl (tX1 d) s) (hP : va_P D vwCl (wX1 d g (w, mv, pt, am)) H) {a b : Nat} (ha : a < 5) (hb5 : b < 5) (K1 : ¬ (∃ t, t < 32 ∧ alB w a b t) → ∀ ls : Array Slot, W p l e R s m args below meth c H locs cells slots Q (F0 m 85 ls [])) (K0 : (∃ t, t < 32 ∧ alB w a b t) → ∀ ls : Array Slot, W p l e R s m args below meth c H locs cells slots Q (F0 m 77 ls [])) : ∀ (n t : Nat) (ls : Array Slot), t ≤ 32 → 32 - t < n → (∀ i, i < t → ¬ alB w a b i) → lv_has ls 5 [(0, .ref (g 0)), (1, .int (nI a)), (2, .int (nI b)), (3, .int (nI t))] → W p l e R s m args below meth c H locs cells slots Q (F0 m 20 ls []) := by
  have hx := F.1
  have hb := F.2.1
  have hown := F.2.2.2.1
  have hts := F.2.2.2.2
  intro n
  induction n with
  | zero => intro t ls h1 h2; omega
  | succ n ih =>
    intro t ls ht hn hno hl
    refine lv_iload_n hx hb dX1_alike_20 rfl (lv_at hl 3 rfl) ?_
    refine lv_bipush (v := nI 32) hx hb dX1_alike_21 (by decide +kernel) ?_
    refine cn_ge (tgt := 85) hx hb (by omega) (by decide) dX1_alike_23 (by decide) (fun c_23 => ?_) (fun c_23 => ?_)
    · obtain rfl : t = 32 := by omega
      exact K1 (fun ⟨t, h1, h2⟩ => hno t h1 h2) ls
    · refine lv_iload_n hx hb dX1_alike_26 rfl (lv_at hl 3 rfl) ?_
      refine lv_iload_n hx hb dX1_alike_27 rfl (lv_at hl 1 rfl) ?_
      refine cn_ishr hx hb (by omega) (by omega) dX1_alike_28 ?_
      refine lv_iconst (v := nI 1) hx hb dX1_alike_29 (by decide +kernel) ?_
      refine cn_iand hx hb dX1_alike_30 ?_
      refine cz_ne (tgt := 46) hx hb (Nat.lt_trans (bt_lt _ _) (by decide)) dX1_alike_31 (by decide) (fun c_31 => ?_) (fun c_31 => ?_)
      · refine lv_iconst (v := nI 0) hx hb dX1_alike_46 (by decide +kernel) ?_
        refine lv_istore (lv' := [(4, .int (nI 0)), (0, .ref (g 0)), (1, .int (nI a)), (2, .int (nI b)), (3, .int (nI t))]) hx hb dX1_alike_47 hl (by decide) rfl (fun ls hl => ?_)
        refine lv_iload hx hb dX1_alike_49 (lv_at hl 0 rfl) ?_
        refine cz_eq (tgt := 79) hx hb (by decide) dX1_alike_51 (by decide) (fun h9 => ?_) (fun h9 => absurd h9 (by decide))
        refine cn_iinc (lv' := [(3, .int (nI (t + 1))), (4, .int (nI 0)), (0, .ref (g 0)), (1, .int (nI a)), (2, .int (nI b))]) hx hb dX1_alike_79 hl (k := 4) rfl (by decide) rfl (fun ls hl => ?_)
        refine lv_goto (tgt := 20) hx hb dX1_alike_82 (by decide) ?_
        exact ih (t + 1) ls (by omega) (by omega) (lt_s hno (by first | exact fun h => c_31 h.1 | exact fun h => c_39 h.2.1 | exact fun h => h.2.2 c_74)) (lv_sub hl [2, 3, 4, 0] rfl)
      · refine lv_iload_n hx hb dX1_alike_34 rfl (lv_at hl 3 rfl) ?_
        refine lv_iload_n hx hb dX1_alike_35 rfl (lv_at hl 2 rfl) ?_
        refine cn_ishr hx hb (by omega) (by omega) dX1_alike_36 ?_
        refine lv_iconst (v := nI 1) hx hb dX1_alike_37 (by decide +kernel) ?_
        refine cn_iand hx hb dX1_alike_38 ?_
        refine cz_ne (tgt := 46) hx hb (Nat.lt_trans (bt_lt _ _) (by decide)) dX1_alike_39 (by decide) (fun c_39 => ?_) (fun c_39 => ?_)
        · refine lv_iconst (v := nI 0) hx hb dX1_alike_46 (by decide +kernel) ?_
          refine lv_istore (lv' := [(4, .int (nI 0)), (0, .ref (g 0)), (1, .int (nI a)), (2, .int (nI b)), (3, .int (nI t))]) hx hb dX1_alike_47 hl (by decide) rfl (fun ls hl => ?_)
          refine lv_iload hx hb dX1_alike_49 (lv_at hl 0 rfl) ?_
          refine cz_eq (tgt := 79) hx hb (by decide) dX1_alike_51 (by decide) (fun h9 => ?_) (fun h9 => absurd h9 (by decide))
          refine cn_iinc (lv' := [(3, .int (nI (t + 1))), (4, .int (nI 0)), (0, .ref (g 0)), (1, .int (nI a)), (2, .int (nI b))]) hx hb dX1_alike_79 hl (k := 4) rfl (by decide) rfl (fun ls hl => ?_)
          refine lv_goto (tgt := 20) hx hb dX1_alike_82 (by decide) ?_
          exact ih (t + 1) ls (by omega) (by omega) (lt_s hno (by first | exact fun h => c_31 h.1 | exact fun h => c_39 h.2.1 | exact fun h => h.2.2 c_74)) (lv_sub hl [2, 3, 4, 0] rfl)
        · refine lv_iconst (v := nI 1) hx hb dX1_alike_42 (by decide +kernel) ?_
          refine lv_goto (tgt := 47) hx hb dX1_alike_43 (by decide) ?_
          refine lv_istore (lv' := [(4, .int (nI 1)), (0, .ref (g 0)), (1, .int (nI a)), (2, .int (nI b)), (3, .int (nI t))]) hx hb dX1_alike_47 hl (by decide) rfl (fun ls hl => ?_)
          refine lv_iload hx hb dX1_alike_49 (lv_at hl 0 rfl) ?_
          refine cz_eq (tgt := 79) hx hb (by decide) dX1_alike_51 (by decide) (fun h9 => absurd h9 (by decide)) (fun h9 => ?_)
          refine lv_aload_n hx hb dX1_alike_54 rfl (lv_at hl 1 rfl) ?_
          refine va_get (D := D) (ci := 1) (v := .ref (g 1)) (C := RX1) (T := TX1) (N := 4) hx hb hts in_X1 hown hK hP 0 rfl rfl 0 (by decide) (hts _ q118) (fun _ h9 => h9) rfl dX1_alike_55 ?_
          refine lv_iload_n hx hb dX1_alike_58 rfl (lv_at hl 4 rfl) ?_
          refine lv_iconst (v := nI 1) hx hb dX1_alike_59 (by decide +kernel) ?_
          refine lv_iload_n hx hb dX1_alike_60 rfl (lv_at hl 2 rfl) ?_
          refine cn_ishl hx hb (shlB (by omega)) (by omega) dX1_alike_61 ?_
          refine cn_ior hx hb dX1_alike_62 ?_
          refine cv_ald hx hb hK hP 1 0 rfl rfl (by decide) (or32 (by omega) (shl32 ha)) dX1_alike_63 ?_
          refine lv_aload_n hx hb dX1_alike_64 rfl (lv_at hl 1 rfl) ?_
          refine va_get (D := D) (ci := 1) (v := .ref (g 1)) (C := RX1) (T := TX1) (N := 4) hx hb hts in_X1 hown hK hP 0 rfl rfl 0 (by decide) (hts _ q118) (fun _ h9 => h9) rfl dX1_alike_65 ?_
          refine lv_iload_n hx hb dX1_alike_68 rfl (lv_at hl 4 rfl) ?_
          refine lv_iconst (v := nI 1) hx hb dX1_alike_69 (by decide +kernel) ?_
          refine lv_iload_n hx hb dX1_alike_70 rfl (lv_at hl 3 rfl) ?_
          refine cn_ishl hx hb (shlB (by omega)) (by omega) dX1_alike_71 ?_
          refine cn_ior hx hb dX1_alike_72 ?_
          refine cv_ald hx hb hK hP 1 0 rfl rfl (by decide) (or32 (by omega) (shl32 hb5)) dX1_alike_73 ?_
          refine lv_icmp_eq (tgt := 79) hx hb dX1_alike_74 (by decide) (fun c_74 => ?_) (fun c_74 => ?_)
          · refine cn_iinc (lv' := [(3, .int (nI (t + 1))), (4, .int (nI 1)), (0, .ref (g 0)), (1, .int (nI a)), (2, .int (nI b))]) hx hb dX1_alike_79 hl (k := 4) rfl (by decide) rfl (fun ls hl => ?_)
            refine lv_goto (tgt := 20) hx hb dX1_alike_82 (by decide) ?_
            exact ih (t + 1) ls (by omega) (by omega) (lt_s hno (by first | exact fun h => c_31 h.1 | exact fun h => c_39 h.2.1 | exact fun h => h.2.2 c_74)) (lv_sub hl [2, 3, 4, 0] rfl)
          · exact K0 ⟨t, by omega, c_31, c_39, c_74⟩ ls
end
set_option maxHeartbeats 4000000 in
set_option maxRecDepth 100000 in
theorem x1_alike (l : Launch) (D : va_G) (d : Nat → ClassId) (g : Nat → Nat) (sz : Nat) (w mv pt am : Nat → Int32) (x y : Int32) : CM l yX1_alike cX1_alike 5 (some .boolean) cvr1 D (wX1 d g) (tX1 d) (g 0) sz (w, mv, pt, am) [.int x, .int y] (fun r u => alP w x y r ∧ u = (w, mv, pt, am)) := by
  refine cm_start (by decide) (Nat.le_of_ble_eq_true rfl) ?_
  intro p e s m below meth c ls A F hr hlocks hA hP hK hD hS hl
  have hx := F.1
  have hb := F.2.1
  have hown := F.2.2.2.1
  have hts := F.2.2.2.2
  have hl : lv_has ls 5 [(0, .ref (g 0)), (1, .int x), (2, .int y)] := hl
  have hP : va_P D vwCl (wX1 d g (w, mv, pt, am)) s.heap := hP
  have hD : va_D A (wX1 d g (w, mv, pt, am)) := hD
  refine lv_aload_n hx hb dX1_alike_0 rfl (lv_at hl 0 rfl) ?_
  refine lv_iload_n hx hb dX1_alike_1 rfl (lv_at hl 1 rfl) ?_
  refine cm_self (wf := wX1 d g) (rest := []) F (x1_isPlayer l D d g _ w mv pt am x) (cwV 1 hts (lw_V q139 q141 qs3 q9 q142) rfl rfl rfl (by decide +kernel) ⟨Nat.le_of_ble_eq_true rfl, Nat.le_of_ble_eq_true rfl⟩) (ci := 1) rfl rfl rfl hK hP hD hS hA [0, 1, 2, 3] [0, 1, 2, 3, 4] rfl rfl rfl (by decide) rfl hl.1 rfl (Nat.le_of_ble_eq_true rfl) ⟨Nat.zero_le _, Nat.zero_le _⟩ dX1_alike_2 (fun r u H locs hw hP hD hS => ?_)
  obtain ⟨hw, rfl⟩ := hw
  rcases hw with ⟨rfl, h2⟩ | ⟨a, rfl, h2⟩
  · refine cz_eq (tgt := 16) hx hb (by decide) dX1_alike_5 (by decide) (fun h9 => ?_) (fun h9 => absurd h9 (by decide))
    refine lv_iconst (v := nI 0) hx hb dX1_alike_16 (by decide +kernel) ?_
    exact cm_ret hx hb hr hlocks rfl (w, mv, pt, am) ⟨by first | exact alP_l h2 rfl | exact alP_r h10 rfl, rfl⟩ hP hK hD hS dX1_alike_17
  · obtain ⟨hk_a, rfl⟩ := pl5_some h2
    refine cz_eq (tgt := 16) hx hb (by decide) dX1_alike_5 (by decide) (fun h9 => absurd h9 (by decide)) (fun h9 => ?_)
    refine lv_aload_n hx hb dX1_alike_8 rfl (lv_at hl 0 rfl) ?_
    refine lv_iload_n hx hb dX1_alike_9 rfl (lv_at hl 2 rfl) ?_
    refine cm_self (wf := wX1 d g) (rest := []) F (x1_isPlayer l D d g _ w mv pt am y) (cwV 1 hts (lw_V q139 q141 qs3 q9 q142) rfl rfl rfl (by decide +kernel) ⟨Nat.le_of_ble_eq_true rfl, Nat.le_of_ble_eq_true rfl⟩) (ci := 1) rfl rfl rfl hK hP hD hS hA [0, 1, 2, 3] [0, 1, 2, 3, 4] rfl rfl rfl (by decide) rfl hl.1 rfl (Nat.le_of_ble_eq_true rfl) ⟨Nat.zero_le _, Nat.zero_le _⟩ dX1_alike_10 (fun r u H locs hw hP hD hS => ?_)
    obtain ⟨hw, rfl⟩ := hw
    rcases hw with ⟨rfl, h10⟩ | ⟨b, rfl, h10⟩
    · refine cz_ne (tgt := 18) hx hb (by decide) dX1_alike_13 (by decide) (fun h9 => absurd h9 (by decide)) (fun h9 => ?_)
      refine lv_iconst (v := nI 0) hx hb dX1_alike_16 (by decide +kernel) ?_
      exact cm_ret hx hb hr hlocks rfl (w, mv, pt, am) ⟨by first | exact alP_l h2 rfl | exact alP_r h10 rfl, rfl⟩ hP hK hD hS dX1_alike_17
    · obtain ⟨hk_b, rfl⟩ := pl5_some h10
      refine cz_ne (tgt := 18) hx hb (by decide) dX1_alike_13 (by decide) (fun h9 => ?_) (fun h9 => absurd h9 (by decide))
      refine lv_iconst (v := nI 0) hx hb dX1_alike_18 (by decide +kernel) ?_
      refine lv_istore_n (lv' := [(3, .int (nI 0)), (0, .ref (g 0)), (1, .int (nI a)), (2, .int (nI b))]) hx hb dX1_alike_19 rfl hl (by decide) rfl (fun ls hl => ?_)
      refine x1_al_lp F hK hP hk_a hk_b (fun hno ls => ?_) (fun hbad ls => ?_) 33 0 ls (by omega) (by omega) (fun i h => by omega) (lv_sub hl [1, 2, 3, 0] rfl)
      · refine lv_iconst (v := nI 1) hx hb dX1_alike_85 (by decide +kernel) ?_
        exact cm_ret hx hb hr hlocks rfl (w, mv, pt, am) ⟨alP_ok h2 h10 (Or.inr ⟨rfl, hno⟩), rfl⟩ hP hK hD hS dX1_alike_86
      · refine lv_iconst (v := nI 0) hx hb dX1_alike_77 (by decide +kernel) ?_
        exact cm_ret hx hb hr hlocks rfl (w, mv, pt, am) ⟨alP_ok h2 h10 (Or.inl ⟨rfl, hbad⟩), rfl⟩ hP hK hD hS dX1_alike_78

section
variable {p : Program} {l : Launch} {e : Env} {R : Room} {s : State} {m : MethodId} {args : Array Value} {below : List Frame} {meth : Method} {c : Code} {H : Heap} {locs : List Loc} {cells slots : Nat} {Q : State → Prop} {A : Nat → Prop}
variable {D : va_G} {d : Nat → ClassId} {g : Nat → Nat} {w am pt mv sp : Nat → Int32}
set_option maxHeartbeats 4000000 in
set_option maxRecDepth 100000 in
theorem x1_sw_in (F : CallFix p m c cX1_splitWorth 7 s args lw_all RX1) {k rr : Nat} {sm : Int32} (hk : k < 3125) (hr5 : rr < 5) (K : ∀ ls : Array Slot, lv_has ls 7 [(0, .ref (g 0)), (1, .int (nI k)), (2, .int sm), (3, .int (nI rr)), (4, .int (nI (mkN k rr 5)))] → W p l e R s m args below meth c H locs cells slots Q (F0 m 53 ls [])) : ∀ (n j : Nat) (ls : Array Slot), j ≤ 5 → 5 - j < n → lv_has ls 7 [(0, .ref (g 0)), (1, .int (nI k)), (2, .int sm), (3, .int (nI rr)), (4, .int (nI (mkN k rr j))), (5, .int (nI (rsN k j))), (6, .int (nI j))] → W p l e R s m args below meth c H locs cells slots Q (F0 m 18 ls []) := by
  have hx := F.1
  have hb := F.2.1
  have hown := F.2.2.2.1
  have hts := F.2.2.2.2
  intro n
  induction n with
  | zero => intro j ls h1 h2; omega
  | succ n ih =>
    intro j ls hj hn hl
    have hrs := rsN_le k j
    refine lv_iload hx hb dX1_splitWorth_18 (lv_at hl 6 rfl) ?_
    refine lv_iconst (v := nI 5) hx hb dX1_splitWorth_20 (by decide +kernel) ?_
    refine cn_ge (tgt := 53) hx hb (by omega) (by decide) dX1_splitWorth_21 (by decide) (fun c_21 => ?_) (fun c_21 => ?_)
    · obtain rfl : j = 5 := by omega
      exact K ls (lv_sub hl [0, 1, 2, 3, 4] rfl)
    · refine lv_iload hx hb dX1_splitWorth_24 (lv_at hl 5 rfl) ?_
      refine lv_iconst (v := nI 5) hx hb dX1_splitWorth_26 (by decide +kernel) ?_
      refine cn_irem hx hb (by omega) (by omega) (by omega) dX1_splitWorth_27 ?_
      refine lv_iload_n hx hb dX1_splitWorth_28 rfl (lv_at hl 3 rfl) ?_
      refine cn_ne (tgt := 41) hx hb (by omega) (by omega) dX1_splitWorth_29 (by decide) (fun c_29 => ?_) (fun c_29 => ?_)
      · refine lv_iload hx hb dX1_splitWorth_41 (lv_at hl 5 rfl) ?_
        refine lv_iconst (v := nI 5) hx hb dX1_splitWorth_43 (by decide +kernel) ?_
        refine cn_idiv hx hb (by omega) (by omega) (by omega) dX1_splitWorth_44 ?_
        refine cv_set (y := nI (rsN k (j + 1))) rfl ?_
        refine lv_istore (lv' := [(5, .int (nI (rsN k (j + 1)))), (0, .ref (g 0)), (1, .int (nI k)), (2, .int sm), (3, .int (nI rr)), (4, .int (nI (mkN k rr j))), (6, .int (nI j))]) hx hb dX1_splitWorth_45 hl (by decide) rfl (fun ls hl => ?_)
        refine cn_iinc (lv' := [(6, .int (nI (j + 1))), (5, .int (nI (rsN k (j + 1)))), (0, .ref (g 0)), (1, .int (nI k)), (2, .int sm), (3, .int (nI rr)), (4, .int (nI (mkN k rr j)))]) hx hb dX1_splitWorth_47 hl (k := 6) rfl (by decide) rfl (fun ls hl => ?_)
        refine lv_goto (tgt := 18) hx hb dX1_splitWorth_50 (by decide) ?_
        exact ih (j + 1) ls (by omega) (by omega) (by rw [← mkN_0 c_29]; exact (lv_sub hl [2, 3, 4, 5, 6, 1, 0] rfl))
      · refine lv_iload hx hb dX1_splitWorth_32 (lv_at hl 4 rfl) ?_
        refine lv_iconst (v := nI 1) hx hb dX1_splitWorth_34 (by decide +kernel) ?_
        refine lv_iload hx hb dX1_splitWorth_35 (lv_at hl 6 rfl) ?_
        refine cn_ishl hx hb (shlB (by omega)) (by omega) dX1_splitWorth_37 ?_
        refine cn_ior hx hb dX1_splitWorth_38 ?_
        refine cv_set (y := nI (mkN k rr (j + 1))) (congrArg nI (mkN_1 c_29)) ?_
        refine lv_istore (lv' := [(4, .int (nI (mkN k rr (j + 1)))), (0, .ref (g 0)), (1, .int (nI k)), (2, .int sm), (3, .int (nI rr)), (5, .int (nI (rsN k j))), (6, .int (nI j))]) hx hb dX1_splitWorth_39 hl (by decide) rfl (fun ls hl => ?_)
        refine lv_iload hx hb dX1_splitWorth_41 (lv_at hl 5 rfl) ?_
        refine lv_iconst (v := nI 5) hx hb dX1_splitWorth_43 (by decide +kernel) ?_
        refine cn_idiv hx hb (by omega) (by omega) (by omega) dX1_splitWorth_44 ?_
        refine cv_set (y := nI (rsN k (j + 1))) rfl ?_
        refine lv_istore (lv' := [(5, .int (nI (rsN k (j + 1)))), (4, .int (nI (mkN k rr (j + 1)))), (0, .ref (g 0)), (1, .int (nI k)), (2, .int sm), (3, .int (nI rr)), (6, .int (nI j))]) hx hb dX1_splitWorth_45 hl (by decide) rfl (fun ls hl => ?_)
        refine cn_iinc (lv' := [(6, .int (nI (j + 1))), (5, .int (nI (rsN k (j + 1)))), (4, .int (nI (mkN k rr (j + 1)))), (0, .ref (g 0)), (1, .int (nI k)), (2, .int sm), (3, .int (nI rr))]) hx hb dX1_splitWorth_47 hl (k := 6) rfl (by decide) rfl (fun ls hl => ?_)
        refine lv_goto (tgt := 18) hx hb dX1_splitWorth_50 (by decide) ?_
        exact ih (j + 1) ls (by omega) (by omega) (lv_sub hl [3, 4, 5, 6, 2, 1, 0] rfl)
end
section
variable {p : Program} {l : Launch} {e : Env} {R : Room} {s : State} {m : MethodId} {args : Array Value} {below : List Frame} {meth : Method} {c : Code} {H : Heap} {locs : List Loc} {cells slots : Nat} {Q : State → Prop} {A : Nat → Prop}
variable {D : va_G} {d : Nat → ClassId} {g : Nat → Nat} {w am pt mv sp : Nat → Int32}
set_option maxHeartbeats 4000000 in
set_option maxRecDepth 100000 in
theorem x1_sw_lp (F : CallFix p m c cX1_splitWorth 7 s args lw_all RX1) (hK : va_K D vwCl (tX1 d) s) (hP : va_P D vwCl (wX1 d g (w, mv, pt, am)) H) {k : Nat} (hk : k < 3125) (K : ∀ ls : Array Slot, lv_has ls 7 [(0, .ref (g 0)), (1, .int (nI k)), (2, .int (swS w k 5)), (3, .int (nI 5))] → W p l e R s m args below meth c H locs cells slots Q (F0 m 69 ls [])) : ∀ (n rr : Nat) (ls : Array Slot), rr ≤ 5 → 5 - rr < n → lv_has ls 7 [(0, .ref (g 0)), (1, .int (nI k)), (2, .int (swS w k rr)), (3, .int (nI rr))] → W p l e R s m args below meth c H locs cells slots Q (F0 m 4 ls []) := by
  have hx := F.1
  have hb := F.2.1
  have hown := F.2.2.2.1
  have hts := F.2.2.2.2
  intro n
  induction n with
  | zero => intro rr ls h1 h2; omega
  | succ n ih =>
    intro rr ls hj hn hl
    refine lv_iload_n hx hb dX1_splitWorth_4 rfl (lv_at hl 3 rfl) ?_
    refine lv_iconst (v := nI 5) hx hb dX1_splitWorth_5 (by decide +kernel) ?_
    refine cn_ge (tgt := 69) hx hb (by omega) (by decide) dX1_splitWorth_6 (by decide) (fun c_6 => ?_) (fun c_6 => ?_)
    · obtain rfl : rr = 5 := by omega
      exact K ls (lv_sub hl [0, 1, 2, 3] rfl)
    · refine lv_iconst (v := nI 0) hx hb dX1_splitWorth_9 (by decide +kernel) ?_
      refine lv_istore (lv' := [(4, .int (nI 0)), (0, .ref (g 0)), (1, .int (nI k)), (2, .int (swS w k rr)), (3, .int (nI rr))]) hx hb dX1_splitWorth_10 hl (by decide) rfl (fun ls hl => ?_)
      refine lv_iload_n hx hb dX1_splitWorth_12 rfl (lv_at hl 2 rfl) ?_
      refine lv_istore (lv' := [(5, .int (nI k)), (4, .int (nI 0)), (0, .ref (g 0)), (1, .int (nI k)), (2, .int (swS w k rr)), (3, .int (nI rr))]) hx hb dX1_splitWorth_13 hl (by decide) rfl (fun ls hl => ?_)
      refine lv_iconst (v := nI 0) hx hb dX1_splitWorth_15 (by decide +kernel) ?_
      refine lv_istore (lv' := [(6, .int (nI 0)), (5, .int (nI k)), (4, .int (nI 0)), (0, .ref (g 0)), (1, .int (nI k)), (2, .int (swS w k rr)), (3, .int (nI rr))]) hx hb dX1_splitWorth_16 hl (by decide) rfl (fun ls hl => ?_)
      refine x1_sw_in F hk (by omega) (fun ls hl => ?_) 6 0 ls (by omega) (by omega) (lv_sub hl [3, 4, 5, 6, 2, 1, 0] rfl)
      refine lv_iload_n hx hb dX1_splitWorth_53 rfl (lv_at hl 2 rfl) ?_
      refine lv_aload_n hx hb dX1_splitWorth_54 rfl (lv_at hl 0 rfl) ?_
      refine va_get (D := D) (ci := 1) (v := .ref (g 1)) (C := RX1) (T := TX1) (N := 4) hx hb hts in_X1 hown hK hP 0 rfl rfl 0 (by decide) (hts _ q118) (fun _ h9 => h9) rfl dX1_splitWorth_55 ?_
      refine lv_iload hx hb dX1_splitWorth_58 (lv_at hl 4 rfl) ?_
      refine cv_ald hx hb hK hP 1 0 rfl rfl (by decide) (mkN_lt k rr 5 (Nat.le_refl 5)) dX1_splitWorth_60 ?_
      refine lv_iadd hx hb dX1_splitWorth_61 ?_
      refine cv_set (y := swS w k (rr + 1)) rfl ?_
      refine lv_istore_n (lv' := [(2, .int (swS w k (rr + 1))), (0, .ref (g 0)), (1, .int (nI k)), (3, .int (nI rr)), (4, .int (nI (mkN k rr 5)))]) hx hb dX1_splitWorth_62 rfl hl (by decide) rfl (fun ls hl => ?_)
      refine cn_iinc (lv' := [(3, .int (nI (rr + 1))), (2, .int (swS w k (rr + 1))), (0, .ref (g 0)), (1, .int (nI k)), (4, .int (nI (mkN k rr 5)))]) hx hb dX1_splitWorth_63 hl (k := 3) rfl (by decide) rfl (fun ls hl => ?_)
      refine lv_goto (tgt := 4) hx hb dX1_splitWorth_66 (by decide) ?_
      exact ih (rr + 1) ls (by omega) (by omega) (lv_sub hl [2, 3, 1, 0] rfl)
end
set_option maxHeartbeats 4000000 in
set_option maxRecDepth 100000 in
theorem x1_splitWorth (l : Launch) (D : va_G) (d : Nat → ClassId) (g : Nat → Nat) (sz : Nat) (w mv pt am : Nat → Int32) {k : Nat} (hk : k < 3125) : CM l yX1_splitWorth cX1_splitWorth 7 (some .int) cvr0 D (wX1 d g) (tX1 d) (g 0) sz (w, mv, pt, am) [.int (nI k)] (fun r u => r = swS w k 5 ∧ u = (w, mv, pt, am)) := by
  refine cm_start (by decide) (Nat.le_of_ble_eq_true rfl) ?_
  intro p e s m below meth c ls A F hr hlocks hA hP hK hD hS hl
  have hx := F.1
  have hb := F.2.1
  have hown := F.2.2.2.1
  have hts := F.2.2.2.2
  have hl : lv_has ls 7 [(0, .ref (g 0)), (1, .int (nI k))] := hl
  have hP : va_P D vwCl (wX1 d g (w, mv, pt, am)) s.heap := hP
  have hD : va_D A (wX1 d g (w, mv, pt, am)) := hD
  refine lv_iconst (v := 0) hx hb dX1_splitWorth_0 (by decide +kernel) ?_
  refine lv_istore_n (lv' := [(2, .int 0), (0, .ref (g 0)), (1, .int (nI k))]) hx hb dX1_splitWorth_1 rfl hl (by decide) rfl (fun ls hl => ?_)
  refine lv_iconst (v := nI 0) hx hb dX1_splitWorth_2 (by decide +kernel) ?_
  refine lv_istore_n (lv' := [(3, .int (nI 0)), (2, .int 0), (0, .ref (g 0)), (1, .int (nI k))]) hx hb dX1_splitWorth_3 rfl hl (by decide) rfl (fun ls hl => ?_)
  refine x1_sw_lp F hK hP hk (fun ls hl => ?_) 6 0 ls (by omega) (by omega) (lv_sub hl [2, 3, 1, 0] rfl)
  refine lv_iload_n hx hb dX1_splitWorth_69 rfl (lv_at hl 2 rfl) ?_
  exact cm_ret hx hb hr hlocks rfl (w, mv, pt, am) ⟨rfl, rfl⟩ hP hK hD hS dX1_splitWorth_70

section
variable {p : Program} {l : Launch} {e : Env} {R : Room} {s : State} {m : MethodId} {args : Array Value} {below : List Frame} {meth : Method} {c : Code} {H : Heap} {locs : List Loc} {cells slots : Nat} {Q : State → Prop} {A : Nat → Prop}
variable {D : va_G} {d : Nat → ClassId} {g : Nat → Nat} {w am pt mv sp : Nat → Int32}
set_option maxHeartbeats 4000000 in
set_option maxRecDepth 100000 in
theorem x1_best_lp (F : CallFix p m c cX1_bestSplit 4 s args lw_all RX1) (hA : ∀ q : Nat, s.heap.size ≤ q → A q) (hK : va_K D vwCl (tX1 d) s) (K : ∀ (H : Heap) (locs : List Loc), va_P D vwCl (wX1 d g (w, mv, pt, am)) H → va_D A (wX1 d g (w, mv, pt, am)) → va_S A s.heap H locs → ∀ ls : Array Slot, lv_has ls 4 [(0, .ref (g 0)), (1, .int (bmF w 3124)), (2, .int (nI 3125))] → W p l e cvr1 s m args below meth c H locs 0 0 Q (F0 m 34 ls [])) : ∀ (n t : Nat), 1 ≤ t → t ≤ 3125 → 3125 - t < n → ∀ (H : Heap) (locs : List Loc), va_P D vwCl (wX1 d g (w, mv, pt, am)) H → va_D A (wX1 d g (w, mv, pt, am)) → va_S A s.heap H locs → ∀ (ls : Array Slot), lv_has ls 4 [(0, .ref (g 0)), (1, .int (bmF w (t - 1))), (2, .int (nI t))] → W p l e cvr1 s m args below meth c H locs 0 0 Q (F0 m 8 ls []) := by
  have hx := F.1
  have hb := F.2.1
  have hown := F.2.2.2.1
  have hts := F.2.2.2.2
  intro n
  induction n with
  | zero => intro t h0 h1 h2; omega
  | succ n ih =>
    intro t h1 ht hn H locs hP hD hS ls hl
    refine lv_iload_n hx hb dX1_bestSplit_8 rfl (lv_at hl 2 rfl) ?_
    refine lv_sipush (v := nI 3125) hx hb dX1_bestSplit_9 (by decide +kernel) ?_
    refine cn_ge (tgt := 34) hx hb (by omega) (by decide) dX1_bestSplit_12 (by decide) (fun c_12 => ?_) (fun c_12 => ?_)
    · obtain rfl : t = 3125 := by omega
      exact K H locs hP hD hS ls (lv_sub hl [0, 1, 2] rfl)
    · refine lv_aload_n hx hb dX1_bestSplit_15 rfl (lv_at hl 0 rfl) ?_
      refine lv_iload_n hx hb dX1_bestSplit_16 rfl (lv_at hl 2 rfl) ?_
      refine cm_self (wf := wX1 d g) (rest := []) F (x1_splitWorth l D d g _ w mv pt am (k := t) (by omega)) (cwV 1 hts (lw_V q196 q198 qs6 q9 q199) rfl rfl rfl (by decide +kernel) ⟨Nat.le_of_ble_eq_true rfl, Nat.le_of_ble_eq_true rfl⟩) (ci := 1) rfl rfl rfl hK hP hD hS hA [0, 1, 2, 3] [0, 1, 2, 3, 4] rfl rfl rfl (by decide) rfl hl.1 rfl (Nat.le_of_ble_eq_true rfl) ⟨Nat.zero_le _, Nat.zero_le _⟩ dX1_bestSplit_17 (fun r u H locs hw hP hD hS => ?_)
      obtain ⟨rfl, rfl⟩ := hw
      refine lv_istore_n (lv' := [(3, .int (swS w t 5)), (0, .ref (g 0)), (1, .int (bmF w (t - 1))), (2, .int (nI t))]) hx hb dX1_bestSplit_20 rfl hl (by decide) rfl (fun ls hl => ?_)
      refine lv_iload_n hx hb dX1_bestSplit_21 rfl (lv_at hl 0 rfl) ?_
      refine lv_iload_n hx hb dX1_bestSplit_22 rfl (lv_at hl 2 rfl) ?_
      refine lv_icmp_le (tgt := 28) hx hb dX1_bestSplit_23 (by decide) (fun c_23 => ?_) (fun c_23 => ?_)
      · refine cn_iinc (lv' := [(2, .int (nI (t + 1))), (3, .int (swS w t 5)), (0, .ref (g 0)), (1, .int (bmF w (t - 1)))]) hx hb dX1_bestSplit_28 hl (k := 3) rfl (by decide) rfl (fun ls hl => ?_)
        refine lv_goto (tgt := 8) hx hb dX1_bestSplit_31 (by decide) ?_
        exact ih (t + 1) (by omega) (by omega) (by omega) H locs hP hD hS ls (by rw [show t + 1 - 1 = t by omega, ← bmF_0 (by omega) (fun h => absurd c_23 (Int32.not_le.mpr h))]; exact (lv_sub hl [2, 3, 0] rfl))
      · refine lv_iload_n hx hb dX1_bestSplit_26 rfl (lv_at hl 0 rfl) ?_
        refine lv_istore_n (lv' := [(1, .int (swS w t 5)), (3, .int (swS w t 5)), (0, .ref (g 0)), (2, .int (nI t))]) hx hb dX1_bestSplit_27 rfl hl (by decide) rfl (fun ls hl => ?_)
        refine cn_iinc (lv' := [(2, .int (nI (t + 1))), (1, .int (swS w t 5)), (3, .int (swS w t 5)), (0, .ref (g 0))]) hx hb dX1_bestSplit_28 hl (k := 3) rfl (by decide) rfl (fun ls hl => ?_)
        refine lv_goto (tgt := 8) hx hb dX1_bestSplit_31 (by decide) ?_
        exact ih (t + 1) (by omega) (by omega) (by omega) H locs hP hD hS ls (by rw [show t + 1 - 1 = t by omega, ← bmF_1 (by omega) (Int32.not_le.mp c_23)]; exact (lv_sub hl [3, 1, 0] rfl))
end
set_option maxHeartbeats 4000000 in
set_option maxRecDepth 100000 in
theorem x1_bestSplit (l : Launch) (D : va_G) (d : Nat → ClassId) (g : Nat → Nat) (sz : Nat) (w mv pt am : Nat → Int32) : CM l yX1_bestSplit cX1_bestSplit 4 (some .int) cvr1 D (wX1 d g) (tX1 d) (g 0) sz (w, mv, pt, am) [] (fun r u => r = bmF w 3124 ∧ u = (w, mv, pt, am)) := by
  refine cm_start (by decide) (Nat.le_of_ble_eq_true rfl) ?_
  intro p e s m below meth c ls A F hr hlocks hA hP hK hD hS hl
  have hx := F.1
  have hb := F.2.1
  have hown := F.2.2.2.1
  have hts := F.2.2.2.2
  have hl : lv_has ls 4 [(0, .ref (g 0))] := hl
  have hP : va_P D vwCl (wX1 d g (w, mv, pt, am)) s.heap := hP
  have hD : va_D A (wX1 d g (w, mv, pt, am)) := hD
  refine lv_aload_n hx hb dX1_bestSplit_0 rfl (lv_at hl 0 rfl) ?_
  refine lv_iconst (v := nI 0) hx hb dX1_bestSplit_1 (by decide +kernel) ?_
  refine cm_self (wf := wX1 d g) (rest := []) F (x1_splitWorth l D d g _ w mv pt am (k := 0) (by decide)) (cwV 1 hts (lw_V q196 q198 qs6 q9 q199) rfl rfl rfl (by decide +kernel) ⟨Nat.le_of_ble_eq_true rfl, Nat.le_of_ble_eq_true rfl⟩) (ci := 1) rfl rfl rfl hK hP hD hS hA [0, 1, 2, 3] [0, 1, 2, 3, 4] rfl rfl rfl (by decide) rfl hl.1 rfl (Nat.le_of_ble_eq_true rfl) ⟨Nat.zero_le _, Nat.zero_le _⟩ dX1_bestSplit_2 (fun r u H locs hw hP hD hS => ?_)
  obtain ⟨rfl, rfl⟩ := hw
  refine lv_istore_n (lv' := [(1, .int (swS w 0 5)), (0, .ref (g 0))]) hx hb dX1_bestSplit_5 rfl hl (by decide) rfl (fun ls hl => ?_)
  refine lv_iconst (v := nI 1) hx hb dX1_bestSplit_6 (by decide +kernel) ?_
  refine lv_istore_n (lv' := [(2, .int (nI 1)), (1, .int (swS w 0 5)), (0, .ref (g 0))]) hx hb dX1_bestSplit_7 rfl hl (by decide) rfl (fun ls hl => ?_)
  refine x1_best_lp F hA hK (fun H locs hP hD hS ls hl => ?_) 3125 1 (by omega) (by omega) (by omega) _ _ hP hD hS ls (lv_sub hl [2, 1, 0] rfl)
  refine lv_iload_n hx hb dX1_bestSplit_34 rfl (lv_at hl 1 rfl) ?_
  exact cm_ret hx hb hr hlocks rfl (w, mv, pt, am) ⟨rfl, rfl⟩ hP hK hD hS dX1_bestSplit_35
end
section
/-! PURE: orderValue, swingValue, own are the same linear forms of the worths on both sides -/
set_option maxRecDepth 100000
/-- the linear form with coefficients e over w 0 .. w (n - 1) -/
def lnE (w : Nat → Int32) (e : Nat → Int) : Nat → Int32
  | 0 => 0
  | n + 1 => lnE w e n + Int32.ofInt (e n) * w n
theorem ring_add (a b x y v : Int32) : a + b + (x + y) * v = a + x * v + (b + y * v) := by grind
theorem ring_sub (a b x y v : Int32) : a - b + (x - y) * v = a + x * v - (b + y * v) := by grind
theorem ring_mul (a k x v : Int32) : k * a + k * x * v = k * (a + x * v) := by grind
theorem lnE_add (w : Nat → Int32) (e f : Nat → Int) : ∀ n, lnE w (fun i => e i + f i) n = lnE w e n + lnE w f n
  | 0 => by
    show (0 : Int32) = 0 + 0
    decide
  | n + 1 => by
    show lnE w (fun i => e i + f i) n + Int32.ofInt (e n + f n) * w n = lnE w e n + Int32.ofInt (e n) * w n + (lnE w f n + Int32.ofInt (f n) * w n)
    rw [lnE_add w e f n, Int32.ofInt_add, ring_add]
theorem lnE_sub (w : Nat → Int32) (e f : Nat → Int) : ∀ n, lnE w (fun i => e i - f i) n = lnE w e n - lnE w f n
  | 0 => by
    show (0 : Int32) = 0 - 0
    decide
  | n + 1 => by
    show lnE w (fun i => e i - f i) n + Int32.ofInt (e n - f n) * w n = lnE w e n + Int32.ofInt (e n) * w n - (lnE w f n + Int32.ofInt (f n) * w n)
    rw [lnE_sub w e f n, Int32.ofInt_sub, ring_sub]
theorem lnE_mul (w : Nat → Int32) (k : Int) (e : Nat → Int) : ∀ n, lnE w (fun i => k * e i) n = Int32.ofInt k * lnE w e n
  | 0 => by
    show (0 : Int32) = Int32.ofInt k * 0
    rw [Int32.mul_zero]
  | n + 1 => by
    show lnE w (fun i => k * e i) n + Int32.ofInt (k * e n) * w n = Int32.ofInt k * (lnE w e n + Int32.ofInt (e n) * w n)
    rw [lnE_mul w k e n, Int32.ofInt_mul, ring_mul]
theorem lnE_0 (w : Nat → Int32) : ∀ n, lnE w (fun _ => 0) n = 0
  | 0 => rfl
  | n + 1 => by
    show lnE w (fun _ => 0) n + Int32.ofInt 0 * w n = 0
    rw [lnE_0 w n, show Int32.ofInt 0 = 0 from rfl, Int32.zero_mul]
    decide
theorem lnE_congr {w : Nat → Int32} {e f : Nat → Int} : ∀ n, (∀ i, i < n → e i = f i) → lnE w e n = lnE w f n
  | 0, _ => rfl
  | n + 1, h => by
    show lnE w e n + Int32.ofInt (e n) * w n = lnE w f n + Int32.ofInt (f n) * w n
    rw [lnE_congr n (fun i hi => h i (by omega)), h n (Nat.lt_succ_self n)]
theorem lnE_congr0 {w : Nat → Int32} {e f : Nat → Int} (h0 : w 0 = 0) : ∀ n, (∀ i, 1 ≤ i → i < n → e i = f i) → lnE w e n = lnE w f n
  | 0, _ => rfl
  | 1, _ => by
    show (0 : Int32) + Int32.ofInt (e 0) * w 0 = 0 + Int32.ofInt (f 0) * w 0
    rw [h0, Int32.mul_zero, Int32.mul_zero]
  | n + 2, h => by
    show lnE w e (n + 1) + Int32.ofInt (e (n + 1)) * w (n + 1) = lnE w f (n + 1) + Int32.ofInt (f (n + 1)) * w (n + 1)
    rw [lnE_congr0 h0 (n + 1) (fun i h1 hi => h i h1 (by omega)), h (n + 1) (by omega) (Nat.lt_succ_self _)]
def lnU (j i : Nat) : Int := if i = j then 1 else 0
theorem lnE_u0 (w : Nat → Int32) (j : Nat) : ∀ n, n ≤ j → lnE w (lnU j) n = 0
  | 0, _ => rfl
  | n + 1, h => by
    show lnE w (lnU j) n + Int32.ofInt (lnU j n) * w n = 0
    rw [lnE_u0 w j n (by omega), show lnU j n = 0 from if_neg (by omega), show Int32.ofInt 0 = 0 from rfl, Int32.zero_mul]
    decide
theorem lnE_u (w : Nat → Int32) (j : Nat) : ∀ n, j < n → w j = lnE w (lnU j) n
  | 0, h => absurd h (Nat.not_lt_zero _)
  | n + 1, h => by
    show w j = lnE w (lnU j) n + Int32.ofInt (lnU j n) * w n
    by_cases e : j = n
    · subst e
      rw [lnE_u0 w j j (Nat.le_refl j), show lnU j j = 1 from if_pos rfl, show Int32.ofInt 1 = 1 from rfl, Int32.one_mul, Int32.zero_add]
    · rw [← lnE_u w j n (by omega), show lnU j n = 0 from if_neg (by omega), show Int32.ofInt 0 = 0 from rfl, Int32.zero_mul, Int32.add_zero]
theorem nI_ofInt (k : Nat) : nI k = Int32.ofInt (k : Int) := (Int32.ofInt_eq_ofNat).symm
/-- own parts -/
def kmob : Nat → Nat → Nat → Int
  | 0, s, i => lnU s i
  | p + 1, s, i => if bt s p = 1 then kmob p s i - kmob p (s ^^^ 1 <<< p) i else kmob p s i
theorem kmob_ok (w : Nat → Int32) : ∀ p, p ≤ 5 → ∀ s, s < 32 → mobs w p s = lnE w (kmob p s) 32
  | 0, _, s, hs => lnE_u w s 32 hs
  | p + 1, hp, s, hs => by
    have h1 := kmob_ok w p (by omega) s hs
    have h2 := kmob_ok w p (by omega) (s ^^^ 1 <<< p) (xor32 hs (shl32 (by omega)))
    show (if bt s p = 1 then mobs w p s - mobs w p (s ^^^ 1 <<< p) else mobs w p s) = _
    by_cases hb : bt s p = 1
    · rw [if_pos hb, h1, h2, ← lnE_sub]
      refine lnE_congr 32 (fun i _ => ?_)
      show _ = if bt s p = 1 then _ else _
      rw [if_pos hb]
    · rw [if_neg hb, h1]
      refine lnE_congr 32 (fun i _ => ?_)
      show _ = if bt s p = 1 then _ else _
      rw [if_neg hb]
/-- the same, by parity -/
def kT (s i : Nat) : Int := if i &&& s = i then (if (szN s 5 - szN i 5) % 2 = 0 then 1 else -1) else 0
theorem kT_ok : ∀ s : Fin 32, ∀ i : Fin 32, kmob 5 s.val i.val = kT s.val i.val := by decide +kernel
theorem mobs_T (w : Nat → Int32) {s : Nat} (hs : s < 32) : mobs w 5 s = lnE w (kT s) 32 := by
  rw [kmob_ok w 5 (Nat.le_refl 5) s hs]
  exact lnE_congr 32 (fun i hi => kT_ok ⟨s, hs⟩ ⟨i, hi⟩)
/-- own: the model's recursion -/
def kow (s : Nat) : Nat → Nat → Int
  | 0, i => lnU s i
  | n + 1, i => if (n + 1) &&& s = n + 1 then kow s n i - kT (n + 1) i else kow s n i
theorem kow_ok (w : Nat → Int32) {s : Nat} (hs : s < 32) : ∀ n, n < 32 → owR (mobs w 5) (w s) s n = lnE w (kow s n) 32
  | 0, _ => lnE_u w s 32 hs
  | n + 1, hn => by
    show (if (n + 1) &&& s = n + 1 then owR (mobs w 5) (w s) s n - mobs w 5 (n + 1) else owR (mobs w 5) (w s) s n) = _
    by_cases h : (n + 1) &&& s = n + 1
    · rw [if_pos h, kow_ok w hs n (by omega), mobs_T w hn, ← lnE_sub]
      refine lnE_congr 32 (fun i _ => ?_)
      show _ = if (n + 1) &&& s = n + 1 then _ else _
      rw [if_pos h]
    · rw [if_neg h, kow_ok w hs n (by omega)]
      refine lnE_congr 32 (fun i _ => ?_)
      show _ = if (n + 1) &&& s = n + 1 then _ else _
      rw [if_neg h]
theorem kow_T : ∀ s : Fin 32, ∀ i : Fin 32, 1 ≤ s.val → 1 ≤ i.val → kow s.val (s.val - 1) i.val = kT s.val i.val := by decide +kernel
theorem own_eq (w : Nat → Int32) (h0 : w 0 = 0) : ∀ s, 1 ≤ s → s < 32 → owR (mobs w 5) (w s) s (s - 1) = mobs w 5 s := by
  intro s h1 hs
  rw [kow_ok w hs _ (by omega), mobs_T w hs]
  exact lnE_congr0 h0 32 (fun i q1 q2 => kow_T ⟨s, hs⟩ ⟨i, q2⟩ h1 q1)
/-- orderValue -/
def kov (pl : Nat) : Nat → Nat → Int
  | 0, _ => 0
  | s + 1, i => if bt s pl = 1 ∧ 0 < szN s 5 then kov pl s i + ((120 / szN s 5 : Nat) : Int) * kT s i else kov pl s i
theorem kov_ok (w : Nat → Int32) (pl : Nat) : ∀ s, s ≤ 32 → ovX w pl s = lnE w (kov pl s) 32
  | 0, _ => (lnE_0 w 32).symm
  | s + 1, hs => by
    show (if bt s pl = 1 ∧ 0 < szN s 5 then ovX w pl s + mobs w 5 s * nI (120 / szN s 5) else ovX w pl s) = _
    by_cases h : bt s pl = 1 ∧ 0 < szN s 5
    · rw [if_pos h, kov_ok w pl s (by omega), mobs_T w (by omega), nI_ofInt, Int32.mul_comm, ← lnE_mul, ← lnE_add]
      refine lnE_congr 32 (fun i _ => ?_)
      show _ = if bt s pl = 1 ∧ 0 < szN s 5 then _ else _
      rw [if_pos h]
    · rw [if_neg h, kov_ok w pl s (by omega)]
      refine lnE_congr 32 (fun i _ => ?_)
      show _ = if bt s pl = 1 ∧ 0 < szN s 5 then _ else _
      rw [if_neg h]
def koM (pl : Nat) : Nat → Nat → Int
  | 0, _ => 0
  | k + 1, i => koM pl k i + (lnU (mgC pl 6 0 k 0 ||| 1 <<< pl) i - lnU (mgC pl 6 0 k 0) i)
theorem koM_ok (w : Nat → Int32) {pl : Nat} (hp : pl < 5) : ∀ k, k ≤ 120 → ovM w pl k = lnE w (koM pl k) 32
  | 0, _ => (lnE_0 w 32).symm
  | k + 1, hk => by
    have hc : mgC pl 6 0 k 0 < 32 := mgC_all ⟨k, by omega⟩ ⟨pl, hp⟩
    show ovM w pl k + (w (mgC pl 6 0 k 0 ||| 1 <<< pl) - w (mgC pl 6 0 k 0)) = _
    rw [koM_ok w hp k (by omega), lnE_u w (mgC pl 6 0 k 0 ||| 1 <<< pl) 32 (or32 hc (shl32 hp)), lnE_u w (mgC pl 6 0 k 0) 32 hc, ← lnE_sub, ← lnE_add]
    exact lnE_congr 32 (fun i _ => rfl)
theorem kov_M : ∀ pl : Fin 5, ∀ i : Fin 32, kov pl.val 32 i.val = koM pl.val 120 i.val := by decide +kernel
theorem order_eq (w : Nat → Int32) {pl : Nat} (hp : pl < 5) : ovX w pl 32 = ovM w pl 120 := by
  rw [kov_ok w pl 32 (Nat.le_refl _), koM_ok w hp 120 (Nat.le_refl _)]
  exact lnE_congr 32 (fun i hi => kov_M ⟨pl, hp⟩ ⟨i, hi⟩)
/-- swingValue -/
def ksv (pl : Nat) : Nat → Nat → Int
  | 0, _ => 0
  | s + 1, i => if bt s pl = 1 then ksv pl s i + ((1 <<< (5 - szN s 5) : Nat) : Int) * kT s i else ksv pl s i
theorem ksv_ok (w : Nat → Int32) (pl : Nat) : ∀ s, s ≤ 32 → svX w pl s = lnE w (ksv pl s) 32
  | 0, _ => (lnE_0 w 32).symm
  | s + 1, hs => by
    show (if bt s pl = 1 then svX w pl s + mobs w 5 s * nI (1 <<< (5 - szN s 5)) else svX w pl s) = _
    by_cases h : bt s pl = 1
    · rw [if_pos h, ksv_ok w pl s (by omega), mobs_T w (by omega), nI_ofInt, Int32.mul_comm, ← lnE_mul, ← lnE_add]
      refine lnE_congr 32 (fun i _ => ?_)
      show _ = if bt s pl = 1 then _ else _
      rw [if_pos h]
    · rw [if_neg h, ksv_ok w pl s (by omega)]
      refine lnE_congr 32 (fun i _ => ?_)
      show _ = if bt s pl = 1 then _ else _
      rw [if_neg h]
def ksM (pl : Nat) : Nat → Nat → Int
  | 0, _ => 0
  | s + 1, i => if bt s pl = 0 then ksM pl s i + (lnU (s ||| 1 <<< pl) i - lnU s i) else ksM pl s i
theorem ksM_ok (w : Nat → Int32) {pl : Nat} (hp : pl < 5) : ∀ s, s ≤ 32 → svM w pl s = lnE w (ksM pl s) 32
  | 0, _ => (lnE_0 w 32).symm
  | s + 1, hs => by
    show (if bt s pl = 0 then svM w pl s + (w (s ||| 1 <<< pl) - w s) else svM w pl s) = _
    by_cases h : bt s pl = 0
    · rw [if_pos h, ksM_ok w hp s (by omega), lnE_u w (s ||| 1 <<< pl) 32 (or32 hs (shl32 hp)), lnE_u w s 32 hs, ← lnE_sub, ← lnE_add]
      refine lnE_congr 32 (fun i _ => ?_)
      show _ = if bt s pl = 0 then _ else _
      rw [if_pos h]
    · rw [if_neg h, ksM_ok w hp s (by omega)]
      refine lnE_congr 32 (fun i _ => ?_)
      show _ = if bt s pl = 0 then _ else _
      rw [if_neg h]
theorem ksv_M : ∀ pl : Fin 5, ∀ i : Fin 32, ksv pl.val 32 i.val = ksM pl.val 32 i.val := by decide +kernel
theorem swing_eq (w : Nat → Int32) {pl : Nat} (hp : pl < 5) : svX w pl 32 = svM w pl 32 := by
  rw [ksv_ok w pl 32 (Nat.le_refl _), ksM_ok w hp 32 (Nat.le_refl _)]
  exact lnE_congr 32 (fun i hi => ksv_M ⟨pl, hp⟩ ⟨i, hi⟩)
end
section
/-! PURE: superadditive and convex are the same conditions on both sides; bestSplit is the same greatest value -/
set_option maxRecDepth 100000
theorem sa_f1 : ∀ s t : Fin 32, t.val &&& s.val = t.val → t.val &&& (s.val ^^^ t.val) = 0 ∧ t.val ||| (s.val ^^^ t.val) = s.val := by decide +kernel
theorem sa_f2 : ∀ a b : Fin 32, a.val &&& b.val = 0 → 0 < b.val → a.val < (a.val ||| b.val) ∧ a.val &&& (a.val ||| b.val) = a.val ∧ (a.val ||| b.val) ^^^ a.val = b.val := by decide +kernel
theorem sa_XM {w : Nat → Int32} (h : saX w) : saM w := by
  obtain ⟨s, t, hs, h0, hts, hsub, hw⟩ := h
  have hx : s ^^^ t < 32 := xor32 hs (by omega)
  obtain ⟨f1, f2⟩ := sa_f1 ⟨s, hs⟩ ⟨t, by omega⟩ hsub
  have f1 : t &&& (s ^^^ t) = 0 := f1
  have f2 : t ||| (s ^^^ t) = s := f2
  have e1 : (t * 32 + (s ^^^ t)) / 32 = t := by omega
  have e2 : (t * 32 + (s ^^^ t)) % 32 = s ^^^ t := by omega
  refine ⟨t * 32 + (s ^^^ t), by omega, ?_⟩
  unfold saB
  rw [e1, e2, f1, f2]
  exact ⟨rfl, hw⟩
theorem sa_MX {w : Nat → Int32} (h0 : w 0 = 0) (h : saM w) : saX w := by
  obtain ⟨k, hk, h1, h2⟩ := h
  have ha : k / 32 < 32 := by omega
  have hb : k % 32 < 32 := by omega
  generalize k / 32 = a at *
  generalize k % 32 = b at *
  by_cases ea : a = 0
  · subst ea
    rw [Nat.zero_or, h0, Int32.zero_add] at h2
    exact absurd h2 Int32.lt_irrefl
  · by_cases eb : b = 0
    · subst eb
      rw [Nat.or_zero, h0, Int32.add_zero] at h2
      exact absurd h2 Int32.lt_irrefl
    · obtain ⟨f1, f2, f3⟩ := sa_f2 ⟨a, ha⟩ ⟨b, hb⟩ h1 (Nat.pos_of_ne_zero eb)
      have f1 : a < a ||| b := f1
      have f2 : a &&& (a ||| b) = a := f2
      have f3 : (a ||| b) ^^^ a = b := f3
      exact ⟨a ||| b, a, or32 ha hb, Nat.pos_of_ne_zero ea, f1, f2, by rw [f3]; exact h2⟩
/-- the worths are small -/
def small (w : Nat → Int32) : Prop := ∀ j, j < 32 → -1000 ≤ (w j).toInt ∧ (w j).toInt ≤ 1000
theorem tA {a b : Int32} (h1 : -1000000 ≤ a.toInt) (h2 : a.toInt ≤ 1000000) (h3 : -1000000 ≤ b.toInt) (h4 : b.toInt ≤ 1000000) : (a + b).toInt = a.toInt + b.toInt := by
  rw [Int32.toInt_add]
  exact Int.bmod_eq_of_le (by omega) (by omega)
theorem tS {w : Nat → Int32} (h : small w) {i j : Nat} (hi : i < 32) (hj : j < 32) : (w i + w j).toInt = (w i).toInt + (w j).toInt := by
  have h1 := h i hi
  have h2 := h j hj
  exact tA (by omega) (by omega) (by omega) (by omega)
/-- convex -/
theorem pg_f : ∀ a b : Fin 5, ∀ s : Fin 32, bt s.val a.val = 0 → bt s.val b.val = 0 → s.val &&& (1 <<< a.val ||| 1 <<< b.val) = 0 := by decide +kernel
theorem or_swap (s a b : Nat) : s ||| a ||| b = s ||| b ||| a := by rw [Nat.or_assoc, Nat.or_comm a b, Nat.or_assoc]
/-- no pair loses: as integers, for any two players -/
theorem cx_pair {w : Nat → Int32} (hw : small w) (h : ¬ cxX w) {i j s : Nat} (hi : i < 5) (hj : j < 5) (hij : i ≠ j) (hs : s < 32) (b1 : bt s i = 0) (b2 : bt s j = 0) : (w (s ||| 1 <<< i)).toInt + (w (s ||| 1 <<< j)).toInt ≤ (w (s ||| 1 <<< i ||| 1 <<< j)).toInt + (w s).toInt := by
  have key : ∀ a b : Nat, a < b → b < 5 → bt s a = 0 → bt s b = 0 → (w (s ||| 1 <<< a)).toInt + (w (s ||| 1 <<< b)).toInt ≤ (w (s ||| 1 <<< a ||| 1 <<< b)).toInt + (w s).toInt := by
    intro a b hab hb q1 q2
    have h1 : ¬ w (s ||| 1 <<< a ||| 1 <<< b) + w s < w (s ||| 1 <<< a) + w (s ||| 1 <<< b) := fun q => h ⟨a, b, s, hab, hb, hs, pg_f ⟨a, by omega⟩ ⟨b, hb⟩ ⟨s, hs⟩ q1 q2, q⟩
    have l1 : s ||| 1 <<< a < 32 := or32 hs (shl32 (by omega))
    have l2 : s ||| 1 <<< b < 32 := or32 hs (shl32 hb)
    have l3 : s ||| 1 <<< a ||| 1 <<< b < 32 := or32 l1 (shl32 hb)
    rw [Int32.lt_iff_toInt_lt, tS hw l3 hs, tS hw l1 l2] at h1
    omega
  rcases Nat.lt_or_gt_of_ne hij with q | q
  · exact key i j q hj b1 b2
  · have := key j i q hi b2 b1
    rw [or_swap s (1 <<< j) (1 <<< i)] at this
    omega
theorem up_f : ∀ s t : Fin 32, ∀ k : Fin 5, (s.val ||| (t.val &&& (2 ^ (k.val + 1) - 1)) = s.val ||| (t.val &&& (2 ^ k.val - 1))) ∨ (s.val ||| (t.val &&& (2 ^ (k.val + 1) - 1)) = s.val ||| (t.val &&& (2 ^ k.val - 1)) ||| 1 <<< k.val ∧ bt (s.val ||| (t.val &&& (2 ^ k.val - 1))) k.val = 0 ∧ bt (s.val ||| t.val) k.val = 1) := by decide +kernel
theorem up_g : ∀ s t : Fin 32, ∀ k i : Fin 5, bt (s.val ||| t.val) i.val = 0 → bt (s.val ||| (t.val &&& (2 ^ k.val - 1))) i.val = 0 := by decide +kernel
theorem up_e : ∀ s t : Fin 32, s.val ||| (t.val &&& (2 ^ 5 - 1)) = s.val ||| t.val := by decide +kernel
theorem up_z (s t : Nat) : s ||| (t &&& (2 ^ 0 - 1)) = s := by
  rw [show 2 ^ 0 - 1 = 0 from rfl, Nat.and_zero, Nat.or_zero]
/-- what i adds grows with the coalition -/
theorem cx_mono {w : Nat → Int32} (hw : small w) (h : ¬ cxX w) {i s t : Nat} (hi : i < 5) (hs : s < 32) (ht : t < 32) (hb : bt (s ||| t) i = 0) : ∀ k, k ≤ 5 → (w (s ||| 1 <<< i)).toInt - (w s).toInt ≤ (w (s ||| (t &&& (2 ^ k - 1)) ||| 1 <<< i)).toInt - (w (s ||| (t &&& (2 ^ k - 1)))).toInt
  | 0, _ => by
    rw [up_z]
    exact Int.le_refl _
  | k + 1, hk => by
    have ih := cx_mono hw h hi hs ht hb k (by omega)
    rcases up_f ⟨s, hs⟩ ⟨t, ht⟩ ⟨k, by omega⟩ with e | ⟨e, e1, e2⟩
    · have e : s ||| (t &&& (2 ^ (k + 1) - 1)) = s ||| (t &&& (2 ^ k - 1)) := e
      rw [e]
      exact ih
    · have e : s ||| (t &&& (2 ^ (k + 1) - 1)) = s ||| (t &&& (2 ^ k - 1)) ||| 1 <<< k := e
      have e1 : bt (s ||| (t &&& (2 ^ k - 1))) k = 0 := e1
      have e2 : bt (s ||| t) k = 1 := e2
      have hki : k ≠ i := fun q => by rw [q, hb] at e2; exact absurd e2 (by decide)
      have e3 : bt (s ||| (t &&& (2 ^ k - 1))) i = 0 := up_g ⟨s, hs⟩ ⟨t, ht⟩ ⟨k, by omega⟩ ⟨i, hi⟩ hb
      have hu : s ||| (t &&& (2 ^ k - 1)) < 32 := or32 hs (and32 ht)
      have hp := cx_pair hw h (i := k) (j := i) (by omega) hi hki hu e1 e3
      rw [e]
      omega
theorem dn_f : ∀ s t : Fin 32, ∀ k : Fin 5, ((s.val &&& t.val ||| (s.val &&& (2 ^ (k.val + 1) - 1))) = (s.val &&& t.val ||| (s.val &&& (2 ^ k.val - 1))) ∧ (t.val ||| (s.val &&& (2 ^ (k.val + 1) - 1))) = (t.val ||| (s.val &&& (2 ^ k.val - 1)))) ∨ ((s.val &&& t.val ||| (s.val &&& (2 ^ (k.val + 1) - 1))) = (s.val &&& t.val ||| (s.val &&& (2 ^ k.val - 1))) ||| 1 <<< k.val ∧ (t.val ||| (s.val &&& (2 ^ (k.val + 1) - 1))) = (t.val ||| (s.val &&& (2 ^ k.val - 1))) ||| 1 <<< k.val ∧ bt ((s.val &&& t.val ||| (s.val &&& (2 ^ k.val - 1))) ||| t.val) k.val = 0 ∧ (s.val &&& t.val ||| (s.val &&& (2 ^ k.val - 1))) ||| t.val = t.val ||| (s.val &&& (2 ^ k.val - 1))) := by decide +kernel
theorem dn_e : ∀ s t : Fin 32, (s.val &&& t.val ||| (s.val &&& (2 ^ 5 - 1))) = s.val ∧ (t.val ||| (s.val &&& (2 ^ 5 - 1))) = s.val ||| t.val := by decide +kernel
theorem cx_chain {w : Nat → Int32} (hw : small w) (h : ¬ cxX w) {s t : Nat} (hs : s < 32) (ht : t < 32) : ∀ k, k ≤ 5 → (w (s &&& t ||| (s &&& (2 ^ k - 1)))).toInt - (w (s &&& t)).toInt ≤ (w (t ||| (s &&& (2 ^ k - 1)))).toInt - (w t).toInt
  | 0, _ => by
    rw [up_z, up_z]
    omega
  | k + 1, hk => by
    have ih := cx_chain hw h hs ht k (by omega)
    rcases dn_f ⟨s, hs⟩ ⟨t, ht⟩ ⟨k, by omega⟩ with ⟨e1, e2⟩ | ⟨e1, e2, e3, e4⟩
    · have e1 : (s &&& t ||| (s &&& (2 ^ (k + 1) - 1))) = (s &&& t ||| (s &&& (2 ^ k - 1))) := e1
      have e2 : (t ||| (s &&& (2 ^ (k + 1) - 1))) = (t ||| (s &&& (2 ^ k - 1))) := e2
      rw [e1, e2]
      exact ih
    · have e1 : (s &&& t ||| (s &&& (2 ^ (k + 1) - 1))) = (s &&& t ||| (s &&& (2 ^ k - 1))) ||| 1 <<< k := e1
      have e2 : (t ||| (s &&& (2 ^ (k + 1) - 1))) = (t ||| (s &&& (2 ^ k - 1))) ||| 1 <<< k := e2
      have e3 : bt ((s &&& t ||| (s &&& (2 ^ k - 1))) ||| t) k = 0 := e3
      have e4 : (s &&& t ||| (s &&& (2 ^ k - 1))) ||| t = t ||| (s &&& (2 ^ k - 1)) := e4
      have hu : (s &&& t ||| (s &&& (2 ^ k - 1))) < 32 := or32 (and32 hs) (and32 hs)
      have hm := cx_mono hw h (i := k) (by omega) hu ht e3 5 (Nat.le_refl 5)
      rw [up_e ⟨_, hu⟩ ⟨t, ht⟩] at hm
      have hm : (w ((s &&& t ||| (s &&& (2 ^ k - 1))) ||| 1 <<< k)).toInt - (w (s &&& t ||| (s &&& (2 ^ k - 1)))).toInt ≤ (w ((s &&& t ||| (s &&& (2 ^ k - 1))) ||| t ||| 1 <<< k)).toInt - (w ((s &&& t ||| (s &&& (2 ^ k - 1))) ||| t)).toInt := hm
      rw [e4] at hm
      rw [e1, e2]
      omega
theorem cx_MX {w : Nat → Int32} (hw : small w) (h : cxM w) : cxX w := by
  refine Classical.byContradiction fun hn => ?_
  obtain ⟨k, hk, hb⟩ := h
  unfold cxB at hb
  have hs : k / 32 < 32 := by omega
  have ht : k % 32 < 32 := by omega
  generalize k / 32 = s at *
  generalize k % 32 = t at *
  have hc := cx_chain hw hn hs ht 5 (Nat.le_refl 5)
  obtain ⟨e1, e2⟩ := dn_e ⟨s, hs⟩ ⟨t, ht⟩
  have e1 : (s &&& t ||| (s &&& (2 ^ 5 - 1))) = s := e1
  have e2 : (t ||| (s &&& (2 ^ 5 - 1))) = s ||| t := e2
  rw [e1, e2] at hc
  rw [Int32.lt_iff_toInt_lt, tS hw (or32 hs ht) (and32 hs), tS hw hs ht] at hb
  omega
theorem cx_f : ∀ a b : Fin 5, ∀ s : Fin 32, s.val &&& (1 <<< a.val ||| 1 <<< b.val) = 0 → a.val ≠ b.val → (s.val ||| 1 <<< a.val) ||| (s.val ||| 1 <<< b.val) = s.val ||| 1 <<< a.val ||| 1 <<< b.val ∧ (s.val ||| 1 <<< a.val) &&& (s.val ||| 1 <<< b.val) = s.val := by decide +kernel
theorem cx_XM {w : Nat → Int32} (h : cxX w) : cxM w := by
  obtain ⟨a, b, s, hab, hb, hs, h0, hlt⟩ := h
  obtain ⟨f1, f2⟩ := cx_f ⟨a, by omega⟩ ⟨b, hb⟩ ⟨s, hs⟩ h0 (show a ≠ b by omega)
  have f1 : (s ||| 1 <<< a) ||| (s ||| 1 <<< b) = s ||| 1 <<< a ||| 1 <<< b := f1
  have f2 : (s ||| 1 <<< a) &&& (s ||| 1 <<< b) = s := f2
  have l1 : s ||| 1 <<< a < 32 := or32 hs (shl32 (by omega))
  have l2 : s ||| 1 <<< b < 32 := or32 hs (shl32 hb)
  refine ⟨(s ||| 1 <<< a) * 32 + (s ||| 1 <<< b), by omega, ?_⟩
  unfold cxB
  rw [show ((s ||| 1 <<< a) * 32 + (s ||| 1 <<< b)) / 32 = s ||| 1 <<< a by omega, show ((s ||| 1 <<< a) * 32 + (s ||| 1 <<< b)) % 32 = s ||| 1 <<< b by omega, f1, f2]
  exact hlt
/-- two answers about the same thing are the same -/
theorem yn_eq {r q : Int32} {A B : Prop} (h1 : yesNo r A) (h2 : yesNo q B) (h : A ↔ B) : r = q := by
  rcases h1 with ⟨e1, a⟩ | ⟨e1, a⟩ <;> rcases h2 with ⟨e2, b⟩ | ⟨e2, b⟩
  · rw [e1, e2]
  · exact absurd (h.mp a) b
  · exact absurd (h.mpr b) a
  · rw [e1, e2]
theorem alP_eq {w : Nat → Int32} {x y r q : Int32} (h1 : alP w x y r) (h2 : alP w x y q) : r = q := by
  unfold alP at h1 h2
  cases hx : pl5 x with
  | none =>
    rw [hx] at h1 h2
    exact h1.trans h2.symm
  | some i =>
    cases hy : pl5 y with
    | none =>
      rw [hx, hy] at h1 h2
      exact h1.trans h2.symm
    | some j =>
      rw [hx, hy] at h1 h2
      exact yn_eq h1 h2 Iff.rfl
/-- bestSplit: sums over lists of coalitions -/
def smL (f : Nat → Int) : List Nat → Int
  | [] => 0
  | b :: L => f b + smL f L
theorem smL_perm {f : Nat → Int} {L M : List Nat} (h : L.Perm M) : smL f L = smL f M := by
  induction h with
  | nil => rfl
  | cons x _ ih => simp only [smL, ih]
  | swap x y l => simp only [smL]; omega
  | trans _ _ ih1 ih2 => exact ih1.trans ih2
theorem smL_filter {f : Nat → Int} (h0 : f 0 = 0) : ∀ L : List Nat, smL f (L.filter (fun b => !(b == 0))) = smL f L
  | [] => rfl
  | b :: L => by
    by_cases e : b = 0
    · subst e
      rw [List.filter_cons_of_neg (by decide), smL_filter h0 L]
      simp only [smL]
      omega
    · rw [List.filter_cons_of_pos (by simp [e])]
      simp only [smL, smL_filter h0 L]
/-- a chain of groups: each holds the first of those that are left -/
def chn : Nat → List Nat → Bool
  | s, [] => s == 0
  | s, b :: L => !(s == 0) && ((s ^^^ b) &&& rst s == (s ^^^ b)) && chn (s ^^^ b) L
def msk (k : Nat) : List Nat := [mkN k 0 5, mkN k 1 5, mkN k 2 5, mkN k 3 5, mkN k 4 5]
/-- the rooms' coalitions by their first players -/
def can (k : Nat) : List Nat := (List.range 5).filterMap (fun p => if (List.range p).all (fun q => !(rsN k q % 5 == rsN k p % 5)) then some (mkN k (rsN k p % 5) 5) else none)
def chk (k : Nat) : Bool := chn 31 (can k) && ((msk k).filter (fun b => !(b == 0))).isPerm (can k)
theorem chk_all : (List.range 3125).all chk = true := by decide +kernel
theorem chk_ok {k : Nat} (hk : k < 3125) : chn 31 (can k) = true ∧ ((msk k).filter (fun b => !(b == 0))).Perm (can k) := by
  have h := List.all_eq_true.mp chk_all k (List.mem_range.mpr hk)
  unfold chk at h
  rw [Bool.and_eq_true] at h
  exact ⟨h.1, List.isPerm_iff.mp h.2⟩
/-- the partitions that the table's walk goes through -/
def prt : Nat → Nat → List (List Nat)
  | 0, _ => []
  | n + 1, s => if s = 0 then [[]] else ((List.range 32).filter (fun t => t &&& rst s == t)).flatMap (fun t => (prt n t).map (fun L => (s ^^^ t) :: L))
/-- rooms for a partition: a player's room is its group's place -/
def rmo (L : List Nat) : Nat := (List.range 5).foldl (fun a p => a + (L.findIdx (fun b => bt b p == 1)) * 5 ^ p) 0
def chp (L : List Nat) : Bool := decide (rmo L < 3125) && ((msk (rmo L)).filter (fun b => !(b == 0))).isPerm L
theorem chp_all : (prt 32 31).all chp = true := by decide +kernel
/-- a table of best splits, over the integers -/
def tbI (f h : Nat → Int) : Prop := h 0 = 0 ∧ ∀ s, 1 ≤ s → s < 32 → (∀ t, t &&& rst s = t → f (s ^^^ t) + h t ≤ h s) ∧ ∃ t, t &&& rst s = t ∧ h s = f (s ^^^ t) + h t
theorem chn_le {f h : Nat → Int} (hT : tbI f h) : ∀ (L : List Nat) (s : Nat), s < 32 → chn s L = true → smL f L ≤ h s
  | [], s, hs, hc => by
    have e : s = 0 := by simpa [chn] using hc
    rw [e, hT.1]
    exact Int.le_refl _
  | b :: L, s, hs, hc => by
    unfold chn at hc
    rw [Bool.and_eq_true, Bool.and_eq_true] at hc
    obtain ⟨⟨h1, h2⟩, h3⟩ := hc
    have h1 : s ≠ 0 := by simpa using h1
    have h2 : (s ^^^ b) &&& rst s = (s ^^^ b) := by simpa using h2
    have hr := rst_lt (t := s) (by omega)
    have hl : (s ^^^ b) &&& rst s ≤ rst s := Nat.and_le_right
    have ih := chn_le hT L (s ^^^ b) (by omega) h3
    have q := (hT.2 s (by omega) hs).1 (s ^^^ b) h2
    rw [← Nat.xor_assoc, Nat.xor_self, Nat.zero_xor] at q
    show f b + smL f L ≤ h s
    omega
theorem prt_ex {f h : Nat → Int} (hT : tbI f h) : ∀ (n s : Nat), s < n → s < 32 → ∃ L, L ∈ prt n s ∧ smL f L = h s
  | 0, s, hn, _ => absurd hn (Nat.not_lt_zero _)
  | n + 1, s, hn, hs => by
    by_cases e : s = 0
    · subst e
      refine ⟨[], ?_, ?_⟩
      · show [] ∈ (if (0 : Nat) = 0 then [[]] else _)
        rw [if_pos rfl]
        exact List.mem_singleton.mpr rfl
      · rw [hT.1]
        rfl
    · obtain ⟨t, ht, he⟩ := (hT.2 s (by omega) hs).2
      have hr := rst_lt (t := s) (by omega)
      have hl : t &&& rst s ≤ rst s := Nat.and_le_right
      obtain ⟨L, hL, hs2⟩ := prt_ex hT n t (by omega) (by omega)
      refine ⟨(s ^^^ t) :: L, ?_, ?_⟩
      · show _ ∈ (if s = 0 then [[]] else _)
        rw [if_neg e]
        refine List.mem_flatMap.mpr ⟨t, List.mem_filter.mpr ⟨List.mem_range.mpr (by omega), by simpa using ht⟩, List.mem_map.mpr ⟨L, hL, rfl⟩⟩
      · show f (s ^^^ t) + smL f L = h s
        rw [hs2, he]
theorem best_le {f h : Nat → Int} (hT : tbI f h) (h0 : f 0 = 0) {k : Nat} (hk : k < 3125) : smL f (msk k) ≤ h 31 := by
  obtain ⟨h1, h2⟩ := chk_ok hk
  rw [← smL_filter h0, smL_perm h2]
  exact chn_le hT _ 31 (by decide) h1
theorem best_ex {f h : Nat → Int} (hT : tbI f h) (h0 : f 0 = 0) : ∃ k, k < 3125 ∧ smL f (msk k) = h 31 := by
  obtain ⟨L, hL, hs⟩ := prt_ex hT 32 31 (by decide) (by decide)
  have hc := List.all_eq_true.mp chp_all L hL
  unfold chp at hc
  rw [Bool.and_eq_true] at hc
  refine ⟨rmo L, of_decide_eq_true hc.1, ?_⟩
  rw [← smL_filter h0, smL_perm (List.isPerm_iff.mp hc.2), hs]
/-- the class' table over the integers -/
theorem bs_small {w sp : Nat → Int32} (hw : small w) (hz : sp 0 = 0) (hT : ∀ i, 1 ≤ i → i < 32 → bsT w sp i) : ∀ (n s : Nat), s < n → s < 32 → -(1000 * ((s : Int) + 1)) ≤ (sp s).toInt ∧ (sp s).toInt ≤ 1000 * ((s : Int) + 1)
  | 0, s, hn, _ => absurd hn (Nat.not_lt_zero _)
  | n + 1, s, hn, hs => by
    by_cases e : s = 0
    · subst e
      rw [hz, show (0 : Int32).toInt = 0 from by decide]
      omega
    · have hb := hw s hs
      rcases (hT s (by omega) hs).2.2 with q | ⟨t, t1, t2, t3⟩
      · rw [q]
        omega
      · have hr := rst_lt (t := s) (by omega)
        have hl : t &&& rst s ≤ rst s := Nat.and_le_right
        have ih := bs_small hw hz hT n t (by omega) (by omega)
        have hx := hw (s ^^^ t) (xor32 hs (by omega))
        rw [t3, tA (by omega) (by omega) (by omega) (by omega)]
        omega
theorem bs_tbI {w sp : Nat → Int32} (hw : small w) (hz : sp 0 = 0) (hT : ∀ i, 1 ≤ i → i < 32 → bsT w sp i) : tbI (fun j => (w j).toInt) (fun j => (sp j).toInt) := by
  refine ⟨by show (sp 0).toInt = 0; rw [hz]; decide, fun s h1 hs => ?_⟩
  have hr := rst_lt (t := s) (by omega)
  have add : ∀ t, t &&& rst s = t → (w (s ^^^ t) + sp t).toInt = (w (s ^^^ t)).toInt + (sp t).toInt := fun t ht => by
    have hl : t &&& rst s ≤ rst s := Nat.and_le_right
    have hx := hw (s ^^^ t) (xor32 hs (by omega))
    have hy := bs_small hw hz hT 32 t (by omega) (by omega)
    exact tA (by omega) (by omega) (by omega) (by omega)
  have z : (sp 0).toInt = 0 := by rw [hz]; decide
  obtain ⟨g1, g2, g3⟩ := hT s h1 hs
  refine ⟨fun t ht => ?_, ?_⟩
  · show (w (s ^^^ t)).toInt + (sp t).toInt ≤ (sp s).toInt
    by_cases e : t = 0
    · subst e
      rw [Nat.xor_zero, z]
      rw [Int32.le_iff_toInt_le] at g1
      omega
    · have q := g2 t (Nat.pos_of_ne_zero e) ht
      rw [Int32.le_iff_toInt_le, add t ht] at q
      exact q
  · rcases g3 with q | ⟨t, t1, t2, t3⟩
    · refine ⟨0, Nat.zero_and _, ?_⟩
      show (sp s).toInt = (w (s ^^^ 0)).toInt + (sp 0).toInt
      rw [Nat.xor_zero, z, q]
      omega
    · refine ⟨t, t2, ?_⟩
      show (sp s).toInt = (w (s ^^^ t)).toInt + (sp t).toInt
      rw [← add t t2, t3]
/-- the model's sums over the integers -/
theorem sw_toInt {w : Nat → Int32} (hw : small w) (k : Nat) : (swS w k 5).toInt = smL (fun j => (w j).toInt) (msk k) := by
  have b0 := hw _ (mkN_lt k 0 5 (Nat.le_refl 5))
  have b1 := hw _ (mkN_lt k 1 5 (Nat.le_refl 5))
  have b2 := hw _ (mkN_lt k 2 5 (Nat.le_refl 5))
  have b3 := hw _ (mkN_lt k 3 5 (Nat.le_refl 5))
  have b4 := hw _ (mkN_lt k 4 5 (Nat.le_refl 5))
  have z : (0 : Int32).toInt = 0 := by decide
  show (0 + w (mkN k 0 5) + w (mkN k 1 5) + w (mkN k 2 5) + w (mkN k 3 5) + w (mkN k 4 5)).toInt = (w (mkN k 0 5)).toInt + ((w (mkN k 1 5)).toInt + ((w (mkN k 2 5)).toInt + ((w (mkN k 3 5)).toInt + ((w (mkN k 4 5)).toInt + 0))))
  have e1 : (0 + w (mkN k 0 5)).toInt = (w (mkN k 0 5)).toInt := by rw [Int32.zero_add]
  have e2 := tA (a := 0 + w (mkN k 0 5)) (b := w (mkN k 1 5)) (by omega) (by omega) (by omega) (by omega)
  have e3 := tA (a := 0 + w (mkN k 0 5) + w (mkN k 1 5)) (b := w (mkN k 2 5)) (by omega) (by omega) (by omega) (by omega)
  have e4 := tA (a := 0 + w (mkN k 0 5) + w (mkN k 1 5) + w (mkN k 2 5)) (b := w (mkN k 3 5)) (by omega) (by omega) (by omega) (by omega)
  have e5 := tA (a := 0 + w (mkN k 0 5) + w (mkN k 1 5) + w (mkN k 2 5) + w (mkN k 3 5)) (b := w (mkN k 4 5)) (by omega) (by omega) (by omega) (by omega)
  omega
theorem bm_max {w : Nat → Int32} : ∀ n, (∀ k, k ≤ n → swS w k 5 ≤ bmF w n) ∧ ∃ k, k ≤ n ∧ bmF w n = swS w k 5
  | 0 => ⟨fun k hk => by obtain rfl : k = 0 := by omega
                         exact Int32.le_refl _, 0, Nat.le_refl 0, rfl⟩
  | n + 1 => by
    obtain ⟨h1, k0, h2, h3⟩ := bm_max (w := w) n
    by_cases hc : bmF w n < swS w (n + 1) 5
    · have e : bmF w (n + 1) = swS w (n + 1) 5 := if_pos hc
      rw [e]
      refine ⟨fun k hk => ?_, n + 1, Nat.le_refl _, rfl⟩
      rcases Nat.lt_or_ge k (n + 1) with q | q
      · exact Int32.le_trans (h1 k (by omega)) (Int32.le_of_lt hc)
      · obtain rfl : k = n + 1 := by omega
        exact Int32.le_refl _
    · have e : bmF w (n + 1) = bmF w n := if_neg hc
      rw [e]
      refine ⟨fun k hk => ?_, k0, by omega, h3⟩
      rcases Nat.lt_or_ge k (n + 1) with q | q
      · exact h1 k (by omega)
      · obtain rfl : k = n + 1 := by omega
        exact Int32.not_lt.mp hc
theorem best_eq {w sp : Nat → Int32} (hw : small w) (h0 : w 0 = 0) (hz : sp 0 = 0) (hT : ∀ i, 1 ≤ i → i < 32 → bsT w sp i) : sp 31 = bmF w 3124 := by
  have hI := bs_tbI hw hz hT
  have f0 : (fun j => (w j).toInt) 0 = 0 := by show (w 0).toInt = 0; rw [h0]; decide
  obtain ⟨m1, k0, m2, m3⟩ := bm_max (w := w) 3124
  obtain ⟨k, hk, he⟩ := best_ex hI f0
  have l1 := best_le hI f0 (k := k0) (by omega)
  rw [← sw_toInt hw, ← m3] at l1
  have l2 := m1 k (by omega)
  rw [Int32.le_iff_toInt_le, sw_toInt hw, he] at l2
  have l1 : (bmF w 3124).toInt ≤ (sp 31).toInt := l1
  have l2 : (sp 31).toInt ≤ (bmF w 3124).toInt := l2
  exact Int32.toInt_inj.mp (by omega)
end
section
/-! the constructors -/
set_option maxRecDepth 100000
abbrev zF : Nat → Int32 := fun _ => 0
theorem upd_z : upd zF 0 0 = zF := by
  funext j
  unfold upd
  by_cases h : j = 0
  · rw [if_pos h]
  · rw [if_neg h]
set_option maxHeartbeats 4000000 in
set_option maxRecDepth 100000 in
theorem x0_init (l : Launch) (D : va_G) (h sz : Nat) : Met l yX0_init (ws_ yX0_init cX0_init 1 none) { frames := 1, cells := 5, slots := 133, locals := 12 } (va_Pc [.ref h] (fun U => U.heap.size = sz ∧ va_P D vwCl [(h, .inr (0, [.null, .null, .null, .null, .null]))] U.heap ∧ va_K D vwCl [] U ∧ va_D (fun _ => True) [(h, .inr (0, [.null, .null, .null, .null, .null]))])) (va_Qv (fun u : (Nat → ClassId) × (Nat → Nat) => u.2 0 = h) (fun u t => va_P D vwCl (wX0 u.1 u.2 (zF, zF, zF, zF, zF)) t.heap ∧ va_K D vwCl (tX0 u.1) t ∧ va_D (va_A [(h, .inr (0, [.null, .null, .null, .null, .null]))] sz) (wX0 u.1 u.2 (zF, zF, zF, zF, zF))) (va_A [(h, .inr (0, [.null, .null, .null, .null, .null]))] sz)) 5 133 (va_A [(h, .inr (0, [.null, .null, .null, .null, .null]))] sz) := by
  refine Met.ofW (cc := cX0_init) (maxL := 1) (ret := none) (by decide) rfl ?_
  intro p e s m args below meth c s₁ B hml hv
  obtain ⟨rfl, hsz, hP, hK, hD0⟩ := hv
  have hx := B.exec
  have hb := B.bytes
  have hr := B.returns
  have hts := atoms_spec (ws := ws_ yX0_init cX0_init 1 none) B.pre
  have hts : ∀ w ∈ lw_all, w.before _ s = true := fun w h => hts w (List.mem_cons_of_mem _ h)
  have hown : s.vm.findClass RX0 = some m.cls := findClass_of_methodNamed B.named
  have hlocks := B.notSynchronized
  have hin : meth.name = "<init>" := (name_of_methodNamed B.named B.method).1
  subst hsz
  have hD := hD0.self (sz := s.heap.size)
  generalize hAe : va_A [(h, .inr (0, [.null, .null, .null, .null, .null]))] s.heap.size = A at hD ⊢
  have hA : ∀ q : Nat, s.heap.size ≤ q → A q := fun q h => by rw [← hAe]; exact Or.inr h
  have hS : va_S A s.heap s.heap [] := va_S.rf
  have hP : va_P D vwCl [(h, .inr (0, [.null, .null, .null, .null, .null]))] s.heap := hP
  have hl := lv_entry ([.ref h]) (n := 1) (Nat.le_of_ble_eq_true rfl)
  rw [lg_entry_eq]
  generalize (lg_sl ([.ref h]) ++ List.replicate (1 - (lg_sl ([.ref h])).length) Slot.unset).toArray = ls at hl ⊢
  have hl : lv_has ls 1 [(0, .ref h)] := hl
  refine lv_aload_n hx hb dX0_init_0 rfl (lv_at hl 0 rfl) ?_
  refine W.objInit hx hb hown (hts _ q15) (hts _ q16) (hts _ q17) rfl (by rw [hml]; exact hl.1) rfl dX0_init_1 (Nat.le_of_ble_eq_true rfl) (Nat.le_of_ble_eq_true rfl) ?_
  refine W.eq (g2 := F0 m 4 ls []) rfl ?_
  refine lv_aload_n hx hb dX0_init_4 rfl (lv_at hl 0 rfl) ?_
  refine lv_bipush (v := nI 32) hx hb dX0_init_5 (by decide +kernel) ?_
  refine va_newa (a0 := (32, .inl zF)) (N' := 32) (atype := .int) (ty := .int) hx hb (hts _ q34) rfl hK hP hD hS hA (fun cA => rfl) (by decide) (by decide) (by decide) (Nat.le_of_ble_eq_true rfl) (Nat.le_of_ble_eq_true rfl) dX0_init_7 (fun a1 c1 H hK hP hD hS => ?_)
  have hP : va_P D vwCl [(h, .inr (0, [.null, .null, .null, .null, .null])), (a1, .inl (c1, 32, .inl zF))] H := hP
  have hD : va_D A [(h, .inr (0, [.null, .null, .null, .null, .null])), (a1, .inl (c1, 32, .inl zF))] := hD
  have hK : va_K D vwCl [(c1, .int)] s := hK
  refine W.widen (k := 1) (n := 32) (Nat.le_of_ble_eq_true rfl) (Nat.le_of_ble_eq_true rfl) ?_
  refine va_putF (D := D) (ci := 0) (v := .ref a1) (ty := .array .int) (C := RX0) (T := TX0) (N := 5) hx hb hts in_X0 tyX0 tyX0_ok nmX0 hown hK hP hD hS 0 rfl rfl 0 (by decide) (hts _ q18) (fun _ h9 => h9) rfl hin rfl (by decide +kernel) rfl rfl (Nat.le_of_ble_eq_true rfl) dX0_init_9 (fun H locs hP hD hS => ?_)
  have hP : va_P D vwCl [(h, .inr (0, [.ref a1, .null, .null, .null, .null])), (a1, .inl (c1, 32, .inl zF))] H := hP
  have hD : va_D A [(h, .inr (0, [.ref a1, .null, .null, .null, .null])), (a1, .inl (c1, 32, .inl zF))] := hD
  refine lv_aload_n hx hb dX0_init_12 rfl (lv_at hl 0 rfl) ?_
  refine lv_iconst (v := nI 5) hx hb dX0_init_13 (by decide +kernel) ?_
  refine va_newa (a0 := (5, .inl zF)) (N' := 5) (atype := .int) (ty := .int) hx hb (hts _ q34) rfl hK hP hD hS hA (fun cA => rfl) (by decide) (by decide) (by decide) (Nat.le_of_ble_eq_true rfl) (Nat.le_of_ble_eq_true rfl) dX0_init_14 (fun a2 c2 H hK hP hD hS => ?_)
  have hP : va_P D vwCl [(h, .inr (0, [.ref a1, .null, .null, .null, .null])), (a1, .inl (c1, 32, .inl zF)), (a2, .inl (c2, 5, .inl zF))] H := hP
  have hD : va_D A [(h, .inr (0, [.ref a1, .null, .null, .null, .null])), (a1, .inl (c1, 32, .inl zF)), (a2, .inl (c2, 5, .inl zF))] := hD
  have hK : va_K D vwCl [(c1, .int), (c2, .int)] s := hK
  refine W.widen (k := 2) (n := 37) (Nat.le_of_ble_eq_true rfl) (Nat.le_of_ble_eq_true rfl) ?_
  refine va_putF (D := D) (ci := 0) (v := .ref a2) (ty := .array .int) (C := RX0) (T := TX0) (N := 5) hx hb hts in_X0 tyX0 tyX0_ok nmX0 hown hK hP hD hS 0 rfl rfl 1 (by decide) (hts _ q19) (fun _ h9 => h9) rfl hin rfl (by decide +kernel) rfl rfl (Nat.le_of_ble_eq_true rfl) dX0_init_16 (fun H locs hP hD hS => ?_)
  have hP : va_P D vwCl [(h, .inr (0, [.ref a1, .ref a2, .null, .null, .null])), (a1, .inl (c1, 32, .inl zF)), (a2, .inl (c2, 5, .inl zF))] H := hP
  have hD : va_D A [(h, .inr (0, [.ref a1, .ref a2, .null, .null, .null])), (a1, .inl (c1, 32, .inl zF)), (a2, .inl (c2, 5, .inl zF))] := hD
  refine lv_aload_n hx hb dX0_init_19 rfl (lv_at hl 0 rfl) ?_
  refine lv_bipush (v := nI 32) hx hb dX0_init_20 (by decide +kernel) ?_
  refine va_newa (a0 := (32, .inl zF)) (N' := 32) (atype := .int) (ty := .int) hx hb (hts _ q34) rfl hK hP hD hS hA (fun cA => rfl) (by decide) (by decide) (by decide) (Nat.le_of_ble_eq_true rfl) (Nat.le_of_ble_eq_true rfl) dX0_init_22 (fun a3 c3 H hK hP hD hS => ?_)
  have hP : va_P D vwCl [(h, .inr (0, [.ref a1, .ref a2, .null, .null, .null])), (a1, .inl (c1, 32, .inl zF)), (a2, .inl (c2, 5, .inl zF)), (a3, .inl (c3, 32, .inl zF))] H := hP
  have hD : va_D A [(h, .inr (0, [.ref a1, .ref a2, .null, .null, .null])), (a1, .inl (c1, 32, .inl zF)), (a2, .inl (c2, 5, .inl zF)), (a3, .inl (c3, 32, .inl zF))] := hD
  have hK : va_K D vwCl [(c1, .int), (c2, .int), (c3, .int)] s := hK
  refine W.widen (k := 3) (n := 69) (Nat.le_of_ble_eq_true rfl) (Nat.le_of_ble_eq_true rfl) ?_
  refine va_putF (D := D) (ci := 0) (v := .ref a3) (ty := .array .int) (C := RX0) (T := TX0) (N := 5) hx hb hts in_X0 tyX0 tyX0_ok nmX0 hown hK hP hD hS 0 rfl rfl 2 (by decide) (hts _ q20) (fun _ h9 => h9) rfl hin rfl (by decide +kernel) rfl rfl (Nat.le_of_ble_eq_true rfl) dX0_init_24 (fun H locs hP hD hS => ?_)
  have hP : va_P D vwCl [(h, .inr (0, [.ref a1, .ref a2, .ref a3, .null, .null])), (a1, .inl (c1, 32, .inl zF)), (a2, .inl (c2, 5, .inl zF)), (a3, .inl (c3, 32, .inl zF))] H := hP
  have hD : va_D A [(h, .inr (0, [.ref a1, .ref a2, .ref a3, .null, .null])), (a1, .inl (c1, 32, .inl zF)), (a2, .inl (c2, 5, .inl zF)), (a3, .inl (c3, 32, .inl zF))] := hD
  refine lv_aload_n hx hb dX0_init_27 rfl (lv_at hl 0 rfl) ?_
  refine lv_bipush (v := nI 32) hx hb dX0_init_28 (by decide +kernel) ?_
  refine va_newa (a0 := (32, .inl zF)) (N' := 32) (atype := .int) (ty := .int) hx hb (hts _ q34) rfl hK hP hD hS hA (fun cA => rfl) (by decide) (by decide) (by decide) (Nat.le_of_ble_eq_true rfl) (Nat.le_of_ble_eq_true rfl) dX0_init_30 (fun a4 c4 H hK hP hD hS => ?_)
  have hP : va_P D vwCl [(h, .inr (0, [.ref a1, .ref a2, .ref a3, .null, .null])), (a1, .inl (c1, 32, .inl zF)), (a2, .inl (c2, 5, .inl zF)), (a3, .inl (c3, 32, .inl zF)), (a4, .inl (c4, 32, .inl zF))] H := hP
  have hD : va_D A [(h, .inr (0, [.ref a1, .ref a2, .ref a3, .null, .null])), (a1, .inl (c1, 32, .inl zF)), (a2, .inl (c2, 5, .inl zF)), (a3, .inl (c3, 32, .inl zF)), (a4, .inl (c4, 32, .inl zF))] := hD
  have hK : va_K D vwCl [(c1, .int), (c2, .int), (c3, .int), (c4, .int)] s := hK
  refine W.widen (k := 4) (n := 101) (Nat.le_of_ble_eq_true rfl) (Nat.le_of_ble_eq_true rfl) ?_
  refine va_putF (D := D) (ci := 0) (v := .ref a4) (ty := .array .int) (C := RX0) (T := TX0) (N := 5) hx hb hts in_X0 tyX0 tyX0_ok nmX0 hown hK hP hD hS 0 rfl rfl 3 (by decide) (hts _ q21) (fun _ h9 => h9) rfl hin rfl (by decide +kernel) rfl rfl (Nat.le_of_ble_eq_true rfl) dX0_init_32 (fun H locs hP hD hS => ?_)
  have hP : va_P D vwCl [(h, .inr (0, [.ref a1, .ref a2, .ref a3, .ref a4, .null])), (a1, .inl (c1, 32, .inl zF)), (a2, .inl (c2, 5, .inl zF)), (a3, .inl (c3, 32, .inl zF)), (a4, .inl (c4, 32, .inl zF))] H := hP
  have hD : va_D A [(h, .inr (0, [.ref a1, .ref a2, .ref a3, .ref a4, .null])), (a1, .inl (c1, 32, .inl zF)), (a2, .inl (c2, 5, .inl zF)), (a3, .inl (c3, 32, .inl zF)), (a4, .inl (c4, 32, .inl zF))] := hD
  refine lv_aload_n hx hb dX0_init_35 rfl (lv_at hl 0 rfl) ?_
  refine lv_bipush (v := nI 32) hx hb dX0_init_36 (by decide +kernel) ?_
  refine va_newa (a0 := (32, .inl zF)) (N' := 32) (atype := .int) (ty := .int) hx hb (hts _ q34) rfl hK hP hD hS hA (fun cA => rfl) (by decide) (by decide) (by decide) (Nat.le_of_ble_eq_true rfl) (Nat.le_of_ble_eq_true rfl) dX0_init_38 (fun a5 c5 H hK hP hD hS => ?_)
  have hP : va_P D vwCl [(h, .inr (0, [.ref a1, .ref a2, .ref a3, .ref a4, .null])), (a1, .inl (c1, 32, .inl zF)), (a2, .inl (c2, 5, .inl zF)), (a3, .inl (c3, 32, .inl zF)), (a4, .inl (c4, 32, .inl zF)), (a5, .inl (c5, 32, .inl zF))] H := hP
  have hD : va_D A [(h, .inr (0, [.ref a1, .ref a2, .ref a3, .ref a4, .null])), (a1, .inl (c1, 32, .inl zF)), (a2, .inl (c2, 5, .inl zF)), (a3, .inl (c3, 32, .inl zF)), (a4, .inl (c4, 32, .inl zF)), (a5, .inl (c5, 32, .inl zF))] := hD
  have hK : va_K D vwCl [(c1, .int), (c2, .int), (c3, .int), (c4, .int), (c5, .int)] s := hK
  refine W.widen (k := 5) (n := 133) (Nat.le_of_ble_eq_true rfl) (Nat.le_of_ble_eq_true rfl) ?_
  refine va_putF (D := D) (ci := 0) (v := .ref a5) (ty := .array .int) (C := RX0) (T := TX0) (N := 5) hx hb hts in_X0 tyX0 tyX0_ok nmX0 hown hK hP hD hS 0 rfl rfl 4 (by decide) (hts _ q22) (fun _ h9 => h9) rfl hin rfl (by decide +kernel) rfl rfl (Nat.le_of_ble_eq_true rfl) dX0_init_40 (fun H locs hP hD hS => ?_)
  have hP : va_P D vwCl [(h, .inr (0, [.ref a1, .ref a2, .ref a3, .ref a4, .ref a5])), (a1, .inl (c1, 32, .inl zF)), (a2, .inl (c2, 5, .inl zF)), (a3, .inl (c3, 32, .inl zF)), (a4, .inl (c4, 32, .inl zF)), (a5, .inl (c5, 32, .inl zF))] H := hP
  have hD : va_D A [(h, .inr (0, [.ref a1, .ref a2, .ref a3, .ref a4, .ref a5])), (a1, .inl (c1, 32, .inl zF)), (a2, .inl (c2, 5, .inl zF)), (a3, .inl (c3, 32, .inl zF)), (a4, .inl (c4, 32, .inl zF)), (a5, .inl (c5, 32, .inl zF))] := hD
  obtain ⟨g, hg⟩ : ∃ g : Nat → Nat, g = (fun k => match k with | 0 => h | 1 => a1 | 2 => a2 | 3 => a3 | 4 => a4 | _ => a5) := ⟨_, rfl⟩
  obtain ⟨d, hd⟩ : ∃ d : Nat → ClassId, d = (fun k => match k with | 0 => c1 | 1 => c2 | 2 => c3 | 3 => c4 | _ => c5) := ⟨_, rfl⟩
  have hP : va_P D vwCl (wX0 d g (zF, zF, zF, zF, zF)) H := by rw [hg, hd]; exact hP
  have hD : va_D A (wX0 d g (zF, zF, zF, zF, zF)) := by rw [hg, hd]; exact hD
  have hK : va_K D vwCl (tX0 d) s := by rw [hd]; exact hK
  have h0 : g 0 = h := congrFun hg 0
  rw [← h0] at hl
  refine lv_aload_n hx hb dX0_init_43 rfl (lv_at hl 0 rfl) ?_
  refine va_get (D := D) (ci := 0) (v := .ref (g 1)) (C := RX0) (T := TX0) (N := 5) hx hb hts in_X0 hown hK hP 0 rfl rfl 0 (by decide) (hts _ q18) (fun _ h9 => h9) rfl dX0_init_44 ?_
  refine lv_iconst (v := nI 0) hx hb dX0_init_47 (by decide +kernel) ?_
  refine lv_iconst (v := 0) hx hb dX0_init_48 (by decide +kernel) ?_
  refine cv_ast hx hb hK hP hD hS 1 0 rfl rfl (by decide) (by decide) dX0_init_49 (fun H locs hP hD hS => ?_)
  have hP : va_P D vwCl (wX0 d g (upd zF 0 0, zF, zF, zF, zF)) H := hP
  have hD : va_D A (wX0 d g (upd zF 0 0, zF, zF, zF, zF)) := hD
  rw [upd_z] at hP hD
  exact W.vret hx hb hr (fun t ht hW => ⟨⟨(d, g), rfl, h0, by rw [ht]; exact hP, va_K.moved hW.alike hK, hD⟩, hS.F ht⟩) hS.2.2 dX0_init_50
set_option maxHeartbeats 4000000 in
set_option maxRecDepth 100000 in
theorem x1_init (l : Launch) (D : va_G) (h sz : Nat) : Met l yX1_init (ws_ yX1_init cX1_init 1 none) { frames := 1, cells := 4, slots := 101, locals := 12 } (va_Pc [.ref h] (fun U => U.heap.size = sz ∧ va_P D vwCl [(h, .inr (1, [.null, .null, .null, .null]))] U.heap ∧ va_K D vwCl [] U ∧ va_D (fun _ => True) [(h, .inr (1, [.null, .null, .null, .null]))])) (va_Qv (fun u : (Nat → ClassId) × (Nat → Nat) => u.2 0 = h) (fun u t => va_P D vwCl (wX1 u.1 u.2 (zF, zF, zF, zF)) t.heap ∧ va_K D vwCl (tX1 u.1) t ∧ va_D (va_A [(h, .inr (1, [.null, .null, .null, .null]))] sz) (wX1 u.1 u.2 (zF, zF, zF, zF))) (va_A [(h, .inr (1, [.null, .null, .null, .null]))] sz)) 4 101 (va_A [(h, .inr (1, [.null, .null, .null, .null]))] sz) := by
  refine Met.ofW (cc := cX1_init) (maxL := 1) (ret := none) (by decide) rfl ?_
  intro p e s m args below meth c s₁ B hml hv
  obtain ⟨rfl, hsz, hP, hK, hD0⟩ := hv
  have hx := B.exec
  have hb := B.bytes
  have hr := B.returns
  have hts := atoms_spec (ws := ws_ yX1_init cX1_init 1 none) B.pre
  have hts : ∀ w ∈ lw_all, w.before _ s = true := fun w h => hts w (List.mem_cons_of_mem _ h)
  have hown : s.vm.findClass RX1 = some m.cls := findClass_of_methodNamed B.named
  have hlocks := B.notSynchronized
  have hin : meth.name = "<init>" := (name_of_methodNamed B.named B.method).1
  subst hsz
  have hD := hD0.self (sz := s.heap.size)
  generalize hAe : va_A [(h, .inr (1, [.null, .null, .null, .null]))] s.heap.size = A at hD ⊢
  have hA : ∀ q : Nat, s.heap.size ≤ q → A q := fun q h => by rw [← hAe]; exact Or.inr h
  have hS : va_S A s.heap s.heap [] := va_S.rf
  have hP : va_P D vwCl [(h, .inr (1, [.null, .null, .null, .null]))] s.heap := hP
  have hl := lv_entry ([.ref h]) (n := 1) (Nat.le_of_ble_eq_true rfl)
  rw [lg_entry_eq]
  generalize (lg_sl ([.ref h]) ++ List.replicate (1 - (lg_sl ([.ref h])).length) Slot.unset).toArray = ls at hl ⊢
  have hl : lv_has ls 1 [(0, .ref h)] := hl
  refine lv_aload_n hx hb dX1_init_0 rfl (lv_at hl 0 rfl) ?_
  refine W.objInit hx hb hown (hts _ q117) (hts _ q16) (hts _ q17) rfl (by rw [hml]; exact hl.1) rfl dX1_init_1 (Nat.le_of_ble_eq_true rfl) (Nat.le_of_ble_eq_true rfl) ?_
  refine W.eq (g2 := F0 m 4 ls []) rfl ?_
  refine lv_aload_n hx hb dX1_init_4 rfl (lv_at hl 0 rfl) ?_
  refine lv_bipush (v := nI 32) hx hb dX1_init_5 (by decide +kernel) ?_
  refine va_newa (a0 := (32, .inl zF)) (N' := 32) (atype := .int) (ty := .int) hx hb (hts _ q34) rfl hK hP hD hS hA (fun cA => rfl) (by decide) (by decide) (by decide) (Nat.le_of_ble_eq_true rfl) (Nat.le_of_ble_eq_true rfl) dX1_init_7 (fun a1 c1 H hK hP hD hS => ?_)
  have hP : va_P D vwCl [(h, .inr (1, [.null, .null, .null, .null])), (a1, .inl (c1, 32, .inl zF))] H := hP
  have hD : va_D A [(h, .inr (1, [.null, .null, .null, .null])), (a1, .inl (c1, 32, .inl zF))] := hD
  have hK : va_K D vwCl [(c1, .int)] s := hK
  refine W.widen (k := 1) (n := 32) (Nat.le_of_ble_eq_true rfl) (Nat.le_of_ble_eq_true rfl) ?_
  refine va_putF (D := D) (ci := 1) (v := .ref a1) (ty := .array .int) (C := RX1) (T := TX1) (N := 4) hx hb hts in_X1 tyX1 tyX1_ok nmX1 hown hK hP hD hS 0 rfl rfl 0 (by decide) (hts _ q118) (fun _ h9 => h9) rfl hin rfl (by decide +kernel) rfl rfl (Nat.le_of_ble_eq_true rfl) dX1_init_9 (fun H locs hP hD hS => ?_)
  have hP : va_P D vwCl [(h, .inr (1, [.ref a1, .null, .null, .null])), (a1, .inl (c1, 32, .inl zF))] H := hP
  have hD : va_D A [(h, .inr (1, [.ref a1, .null, .null, .null])), (a1, .inl (c1, 32, .inl zF))] := hD
  refine lv_aload_n hx hb dX1_init_12 rfl (lv_at hl 0 rfl) ?_
  refine lv_bipush (v := nI 32) hx hb dX1_init_13 (by decide +kernel) ?_
  refine va_newa (a0 := (32, .inl zF)) (N' := 32) (atype := .int) (ty := .int) hx hb (hts _ q34) rfl hK hP hD hS hA (fun cA => rfl) (by decide) (by decide) (by decide) (Nat.le_of_ble_eq_true rfl) (Nat.le_of_ble_eq_true rfl) dX1_init_15 (fun a2 c2 H hK hP hD hS => ?_)
  have hP : va_P D vwCl [(h, .inr (1, [.ref a1, .null, .null, .null])), (a1, .inl (c1, 32, .inl zF)), (a2, .inl (c2, 32, .inl zF))] H := hP
  have hD : va_D A [(h, .inr (1, [.ref a1, .null, .null, .null])), (a1, .inl (c1, 32, .inl zF)), (a2, .inl (c2, 32, .inl zF))] := hD
  have hK : va_K D vwCl [(c1, .int), (c2, .int)] s := hK
  refine W.widen (k := 2) (n := 64) (Nat.le_of_ble_eq_true rfl) (Nat.le_of_ble_eq_true rfl) ?_
  refine va_putF (D := D) (ci := 1) (v := .ref a2) (ty := .array .int) (C := RX1) (T := TX1) (N := 4) hx hb hts in_X1 tyX1 tyX1_ok nmX1 hown hK hP hD hS 0 rfl rfl 1 (by decide) (hts _ q119) (fun _ h9 => h9) rfl hin rfl (by decide +kernel) rfl rfl (Nat.le_of_ble_eq_true rfl) dX1_init_17 (fun H locs hP hD hS => ?_)
  have hP : va_P D vwCl [(h, .inr (1, [.ref a1, .ref a2, .null, .null])), (a1, .inl (c1, 32, .inl zF)), (a2, .inl (c2, 32, .inl zF))] H := hP
  have hD : va_D A [(h, .inr (1, [.ref a1, .ref a2, .null, .null])), (a1, .inl (c1, 32, .inl zF)), (a2, .inl (c2, 32, .inl zF))] := hD
  refine lv_aload_n hx hb dX1_init_20 rfl (lv_at hl 0 rfl) ?_
  refine lv_bipush (v := nI 32) hx hb dX1_init_21 (by decide +kernel) ?_
  refine va_newa (a0 := (32, .inl zF)) (N' := 32) (atype := .int) (ty := .int) hx hb (hts _ q34) rfl hK hP hD hS hA (fun cA => rfl) (by decide) (by decide) (by decide) (Nat.le_of_ble_eq_true rfl) (Nat.le_of_ble_eq_true rfl) dX1_init_23 (fun a3 c3 H hK hP hD hS => ?_)
  have hP : va_P D vwCl [(h, .inr (1, [.ref a1, .ref a2, .null, .null])), (a1, .inl (c1, 32, .inl zF)), (a2, .inl (c2, 32, .inl zF)), (a3, .inl (c3, 32, .inl zF))] H := hP
  have hD : va_D A [(h, .inr (1, [.ref a1, .ref a2, .null, .null])), (a1, .inl (c1, 32, .inl zF)), (a2, .inl (c2, 32, .inl zF)), (a3, .inl (c3, 32, .inl zF))] := hD
  have hK : va_K D vwCl [(c1, .int), (c2, .int), (c3, .int)] s := hK
  refine W.widen (k := 3) (n := 96) (Nat.le_of_ble_eq_true rfl) (Nat.le_of_ble_eq_true rfl) ?_
  refine va_putF (D := D) (ci := 1) (v := .ref a3) (ty := .array .int) (C := RX1) (T := TX1) (N := 4) hx hb hts in_X1 tyX1 tyX1_ok nmX1 hown hK hP hD hS 0 rfl rfl 2 (by decide) (hts _ q120) (fun _ h9 => h9) rfl hin rfl (by decide +kernel) rfl rfl (Nat.le_of_ble_eq_true rfl) dX1_init_25 (fun H locs hP hD hS => ?_)
  have hP : va_P D vwCl [(h, .inr (1, [.ref a1, .ref a2, .ref a3, .null])), (a1, .inl (c1, 32, .inl zF)), (a2, .inl (c2, 32, .inl zF)), (a3, .inl (c3, 32, .inl zF))] H := hP
  have hD : va_D A [(h, .inr (1, [.ref a1, .ref a2, .ref a3, .null])), (a1, .inl (c1, 32, .inl zF)), (a2, .inl (c2, 32, .inl zF)), (a3, .inl (c3, 32, .inl zF))] := hD
  refine lv_aload_n hx hb dX1_init_28 rfl (lv_at hl 0 rfl) ?_
  refine lv_iconst (v := nI 5) hx hb dX1_init_29 (by decide +kernel) ?_
  refine va_newa (a0 := (5, .inl zF)) (N' := 5) (atype := .int) (ty := .int) hx hb (hts _ q34) rfl hK hP hD hS hA (fun cA => rfl) (by decide) (by decide) (by decide) (Nat.le_of_ble_eq_true rfl) (Nat.le_of_ble_eq_true rfl) dX1_init_30 (fun a4 c4 H hK hP hD hS => ?_)
  have hP : va_P D vwCl [(h, .inr (1, [.ref a1, .ref a2, .ref a3, .null])), (a1, .inl (c1, 32, .inl zF)), (a2, .inl (c2, 32, .inl zF)), (a3, .inl (c3, 32, .inl zF)), (a4, .inl (c4, 5, .inl zF))] H := hP
  have hD : va_D A [(h, .inr (1, [.ref a1, .ref a2, .ref a3, .null])), (a1, .inl (c1, 32, .inl zF)), (a2, .inl (c2, 32, .inl zF)), (a3, .inl (c3, 32, .inl zF)), (a4, .inl (c4, 5, .inl zF))] := hD
  have hK : va_K D vwCl [(c1, .int), (c2, .int), (c3, .int), (c4, .int)] s := hK
  refine W.widen (k := 4) (n := 101) (Nat.le_of_ble_eq_true rfl) (Nat.le_of_ble_eq_true rfl) ?_
  refine va_putF (D := D) (ci := 1) (v := .ref a4) (ty := .array .int) (C := RX1) (T := TX1) (N := 4) hx hb hts in_X1 tyX1 tyX1_ok nmX1 hown hK hP hD hS 0 rfl rfl 3 (by decide) (hts _ q121) (fun _ h9 => h9) rfl hin rfl (by decide +kernel) rfl rfl (Nat.le_of_ble_eq_true rfl) dX1_init_32 (fun H locs hP hD hS => ?_)
  have hP : va_P D vwCl [(h, .inr (1, [.ref a1, .ref a2, .ref a3, .ref a4])), (a1, .inl (c1, 32, .inl zF)), (a2, .inl (c2, 32, .inl zF)), (a3, .inl (c3, 32, .inl zF)), (a4, .inl (c4, 5, .inl zF))] H := hP
  have hD : va_D A [(h, .inr (1, [.ref a1, .ref a2, .ref a3, .ref a4])), (a1, .inl (c1, 32, .inl zF)), (a2, .inl (c2, 32, .inl zF)), (a3, .inl (c3, 32, .inl zF)), (a4, .inl (c4, 5, .inl zF))] := hD
  obtain ⟨g, hg⟩ : ∃ g : Nat → Nat, g = (fun k => match k with | 0 => h | 1 => a1 | 2 => a2 | 3 => a3 | _ => a4) := ⟨_, rfl⟩
  obtain ⟨d, hd⟩ : ∃ d : Nat → ClassId, d = (fun k => match k with | 0 => c1 | 1 => c2 | 2 => c3 | _ => c4) := ⟨_, rfl⟩
  have hP : va_P D vwCl (wX1 d g (zF, zF, zF, zF)) H := by rw [hg, hd]; exact hP
  have hD : va_D A (wX1 d g (zF, zF, zF, zF)) := by rw [hg, hd]; exact hD
  have hK : va_K D vwCl (tX1 d) s := by rw [hd]; exact hK
  have h0 : g 0 = h := congrFun hg 0
  exact W.vret hx hb hr (fun t ht hW => ⟨⟨(d, g), rfl, h0, by rw [ht]; exact hP, va_K.moved hW.alike hK, hD⟩, hS.F ht⟩) hS.2.2 dX1_init_35
end
section
/-! the law: invariants, script, cases -/
set_option maxRecDepth 100000
def R_law : String := "CoalitionValuesLaw"
theorem cv_sld {p : Program} {l : Launch} {e : Env} {R : Room} {s : State} {m : MethodId} {args : Array Value} {below : List Frame} {meth : Method} {c : Code} {H : Heap} {locs : List Loc} {cells slots : Nat} {Q : State → Prop} {A : Nat → Prop} {cc : ByteArray} {pc : Nat} {ls : Array Slot} {rest : List Value} {H0 : Heap} {b L : Nat} {xs : Nat → Int32} (hx : p.tables.exec = Jvm.exec) (hb : c.code = cc) (hX : va_X b L xs s H0) (hbl : b < H0.size) (hbA : ¬ A b) (hS : va_S A H0 H locs) {j : Nat} (hL : L ≤ 192) (hj : j < L) (hdg : decode cc pc = .ok (.iaload, 1))
    (kk : W p l e R s m args below meth c H locs cells slots Q (F0 m (pc + 1) ls (.int (xs j) :: rest))) : W p l e R s m args below meth c H locs cells slots Q (F0 m pc ls (.int (nI j) :: .ref b :: rest)) := by
  refine va_sld hx hb hX hbl hbA hS (vp_in_nI hj (by omega)) hdg ?_
  rw [nI_clamp (by omega)]
  exact kk
theorem worthF_inv {x v : Int32} {w : Nat → Int32} (h0 : w 0 = 0) (hw : small w) : (worthF x v w).2 0 = 0 ∧ small (worthF x v w).2 := by
  unfold worthF
  cases hx : st32 x with
  | none => exact ⟨h0, hw⟩
  | some k =>
    obtain ⟨h1, hk, -⟩ := st32_some hx
    by_cases hv : v < -1000 ∨ ¬ v ≤ 1000
    · simp only [if_pos hv]
      exact ⟨h0, hw⟩
    · simp only [if_neg hv]
      refine ⟨by rw [pk_un (by omega)]; exact h0, fun j hj => ?_⟩
      by_cases e : j = k
      · subst e
        rw [pk_us]
        have h2 : ¬ v < -1000 := fun q => hv (Or.inl q)
        have h3 : v ≤ 1000 := Classical.byContradiction fun q => hv (Or.inr q)
        rw [Int32.lt_iff_toInt_lt, show (-1000 : Int32).toInt = -1000 from by decide] at h2
        rw [Int32.le_iff_toInt_le, show (1000 : Int32).toInt = 1000 from by decide] at h3
        omega
      · rw [pk_un e]
        exact hw j hj
theorem weighF_inv {wt q : Int32} {w : Nat → Int32} (h0 : w 0 = 0) (hw : small w) : (weighF wt q w).2 0 = 0 ∧ small (weighF wt q w).2 := by
  unfold weighF
  by_cases hq : q < nI 1 ∨ ¬ q ≤ nI 75
  · rw [if_pos hq]
    exact ⟨h0, hw⟩
  · rw [if_neg hq]
    have hv : ∀ j, (wgV wt q j).toInt = 0 ∨ (wgV wt q j).toInt = 1 := fun j => by
      unfold wgV
      by_cases hc : wgS wt j 5 < q
      · rw [if_pos hc]
        exact Or.inl (by decide)
      · rw [if_neg hc]
        exact Or.inr (by decide)
    refine ⟨?_, fun j hj => ?_⟩
    · show wgW wt q w 0 32 0 = 0
      rw [wgW_at (by omega) (by omega)]
      exact wgV_z (fun h => hq (Or.inl h))
    · show -1000 ≤ (wgW wt q w 0 32 j).toInt ∧ (wgW wt q w 0 32 j).toInt ≤ 1000
      rw [wgW_at (by omega) hj]
      have := hv j
      omega
theorem exN_z (a b : Nat) : exN 0 a b = 0 := if_pos (by rw [bt_z, bt_z])
theorem exchF_inv {x y : Int32} {w : Nat → Int32} (h0 : w 0 = 0) (hw : small w) : (exchF x y w).2 0 = 0 ∧ small (exchF x y w).2 := by
  cases hx : pl5 x with
  | none =>
    rw [exchF_l hx]
    exact ⟨h0, hw⟩
  | some i =>
    cases hy : pl5 y with
    | none =>
      rw [exchF_r hy]
      exact ⟨h0, hw⟩
    | some j =>
      rw [exchF_ok hx hy]
      obtain ⟨hi, -⟩ := pl5_some hx
      obtain ⟨hj, -⟩ := pl5_some hy
      refine ⟨?_, fun k hk => ?_⟩
      · show exW i j w 32 0 = 0
        unfold exW
        rw [if_pos (by decide), exN_z, h0]
      · show -1000 ≤ (exW i j w 32 k).toInt ∧ (exW i j w 32 k).toInt ≤ 1000
        unfold exW
        rw [if_pos hk]
        exact hw _ (exN_lt hk hi hj)
theorem order_ans (w : Nat → Int32) (x : Int32) : (match pl5 x with | none => -3 | some k => ovX w k 32) = (match pl5 x with | none => (-3 : Int32) | some k => ovM w k 120) := by
  cases hx : pl5 x with
  | none => rfl
  | some k => exact order_eq w (pl5_some hx).1
theorem swing_ans (w : Nat → Int32) (x : Int32) : (match pl5 x with | none => -3 | some k => svX w k 32) = (match pl5 x with | none => (-3 : Int32) | some k => svM w k 32) := by
  cases hx : pl5 x with
  | none => rfl
  | some k => exact swing_eq w (pl5_some hx).1
end
section
/-! the law, case 0: worth -/
set_option maxRecDepth 100000
section
variable {p : Program} {l : Launch} {e : Env} {s : State} {m : MethodId} {args : Array Value} {below : List Frame} {meth : Method} {c : Code} {H : Heap} {locs : List Loc} {Q : State → Prop} {A : Nat → Prop}
variable {D : va_G} {d d2 : Nat → ClassId} {g g2 : Nat → Nat} {w am pt mv sp mv2 pt2 : Nat → Int32} {b L i : Nat} {xs : Nat → Int32}
set_option maxHeartbeats 4000000 in
set_option maxRecDepth 100000 in
theorem law_worth (F : CallFix p m c code 4 s args lw_all R_law) (hA : ∀ q : Nat, s.heap.size ≤ q → A q) (hX : va_X b L xs s s.heap) (hbl : b < s.heap.size) (hbA : ¬ A b) (hL : L ≤ 192) (hi : i + 3 ≤ L) (hK : va_K D vwCl (tX0 d ++ tX1 d2) s) (h0 : w 0 = 0) (hsm : small w) (N : ∀ w am pt mv sp mv2 pt2 : Nat → Int32, w 0 = 0 → small w → ∀ (H : Heap) (locs : List Loc), va_P D vwCl (wX0 d g (w, am, pt, mv, sp) ++ wX1 d2 g2 (w, mv2, pt2, am)) H → va_D A (wX0 d g (w, am, pt, mv, sp) ++ wX1 d2 g2 (w, mv2, pt2, am)) → va_S A s.heap H locs → ∀ ls : Array Slot, lv_has ls 4 [(0, .ref b), (1, .ref (g 0)), (2, .ref (g2 0)), (3, .int (nI i))] → W p l e room_1 s m args below meth c H locs 11 243 Q (F0 m 399 ls [])) (hP : va_P D vwCl (wX0 d g (w, am, pt, mv, sp) ++ wX1 d2 g2 (w, mv2, pt2, am)) H) (hD : va_D A (wX0 d g (w, am, pt, mv, sp) ++ wX1 d2 g2 (w, mv2, pt2, am))) (hS : va_S A s.heap H locs) (ls : Array Slot) (hl : lv_has ls 4 [(0, .ref b), (1, .ref (g 0)), (2, .ref (g2 0)), (3, .int (nI i))]) : W p l e room_1 s m args below meth c H locs 11 243 Q (F0 m 100 ls []) := by
  have hx := F.1
  have hb := F.2.1
  have hown := F.2.2.2.1
  have hts := F.2.2.2.2
  refine lv_aload_n hx hb dL_law_100 rfl (lv_at hl 1 rfl) ?_
  refine lv_aload_n hx hb dL_law_101 rfl (lv_at hl 0 rfl) ?_
  refine lv_iload_n hx hb dL_law_102 rfl (lv_at hl 3 rfl) ?_
  refine lv_iconst (v := nI 1) hx hb dL_law_103 (by decide +kernel) ?_
  refine cn_iadd hx hb dL_law_104 ?_
  refine cv_sld hx hb hX hbl hbA hS hL (by omega) dL_law_105 ?_
  refine lv_aload_n hx hb dL_law_106 rfl (lv_at hl 0 rfl) ?_
  refine lv_iload_n hx hb dL_law_107 rfl (lv_at hl 3 rfl) ?_
  refine lv_iconst (v := nI 2) hx hb dL_law_108 (by decide +kernel) ?_
  refine cn_iadd hx hb dL_law_109 ?_
  refine cv_sld hx hb hX hbl hbA hS hL (by omega) dL_law_110 ?_
  refine cm_call (wf := wX0 d g) (rest := []) (wr := wX1 d2 g2 (w, mv2, pt2, am)) F (x0_worth l D d g _ w am pt mv sp (xs (i + 1)) (xs (i + 2))) (cwV 2 hts (lw_V q35 q36 q37 q8 q38) rfl rfl rfl (by decide +kernel) ⟨Nat.le_of_ble_eq_true rfl, Nat.le_of_ble_eq_true rfl⟩) (ci := 0) rfl rfl rfl hK [0, 1, 2, 3, 4] rfl hP hD hS hA [0, 1, 2, 3, 4, 5] [6, 7, 8, 9, 10] rfl rfl rfl (by decide) (by decide) (by decide) rfl hl.1 rfl (Nat.le_of_ble_eq_true rfl) ⟨Nat.le_of_ble_eq_true rfl, Nat.le_of_ble_eq_true rfl⟩ dL_law_111 (fun r1 u1 H locs hw1 hP hD hS => ?_)
  obtain ⟨hr1, rfl⟩ := Prod.mk.inj hw1
  have hP : va_P D vwCl (wX1 d2 g2 (w, mv2, pt2, am) ++ wX0 d g ((worthF (xs (i + 1)) (xs (i + 2)) w).2, am, pt, mv, sp)) H := hP
  have hD : va_D A (wX1 d2 g2 (w, mv2, pt2, am) ++ wX0 d g ((worthF (xs (i + 1)) (xs (i + 2)) w).2, am, pt, mv, sp)) := hD
  refine lv_aload_n hx hb dL_law_114 rfl (lv_at hl 2 rfl) ?_
  refine lv_aload_n hx hb dL_law_115 rfl (lv_at hl 0 rfl) ?_
  refine lv_iload_n hx hb dL_law_116 rfl (lv_at hl 3 rfl) ?_
  refine lv_iconst (v := nI 1) hx hb dL_law_117 (by decide +kernel) ?_
  refine cn_iadd hx hb dL_law_118 ?_
  refine cv_sld hx hb hX hbl hbA hS hL (by omega) dL_law_119 ?_
  refine lv_aload_n hx hb dL_law_120 rfl (lv_at hl 0 rfl) ?_
  refine lv_iload_n hx hb dL_law_121 rfl (lv_at hl 3 rfl) ?_
  refine lv_iconst (v := nI 2) hx hb dL_law_122 (by decide +kernel) ?_
  refine cn_iadd hx hb dL_law_123 ?_
  refine cv_sld hx hb hX hbl hbA hS hL (by omega) dL_law_124 ?_
  refine cm_call (wf := wX1 d2 g2) (rest := [.int r1]) (wr := wX0 d g ((worthF (xs (i + 1)) (xs (i + 2)) w).2, am, pt, mv, sp)) F (x1_worth l D d2 g2 _ w mv2 pt2 am (xs (i + 1)) (xs (i + 2))) (cwV 2 hts (lw_V q131 q132 q133 q9 q134) rfl rfl rfl (by decide +kernel) ⟨Nat.le_of_ble_eq_true rfl, Nat.le_of_ble_eq_true rfl⟩) (ci := 1) rfl rfl rfl hK [5, 6, 7, 8] rfl hP hD hS hA [0, 1, 2, 3, 4] [5, 6, 7, 8, 9, 10] rfl rfl rfl (by decide) (by decide) (by decide) rfl hl.1 rfl (Nat.le_of_ble_eq_true rfl) ⟨Nat.le_of_ble_eq_true rfl, Nat.le_of_ble_eq_true rfl⟩ dL_law_125 (fun r2 u2 H locs hw2 hP hD hS => ?_)
  obtain ⟨hr2, rfl⟩ := Prod.mk.inj hw2
  have hP : va_P D vwCl (wX0 d g ((worthF (xs (i + 1)) (xs (i + 2)) w).2, am, pt, mv, sp) ++ wX1 d2 g2 ((worthF (xs (i + 1)) (xs (i + 2)) w).2, mv2, pt2, am)) H := hP
  have hD : va_D A (wX0 d g ((worthF (xs (i + 1)) (xs (i + 2)) w).2, am, pt, mv, sp) ++ wX1 d2 g2 ((worthF (xs (i + 1)) (xs (i + 2)) w).2, mv2, pt2, am)) := hD
  refine lv_icmp_eq (tgt := 399) hx hb dL_law_128 (by decide) (fun c_128 => ?_) (fun c_128 => ?_)
  · exact N _ _ _ _ _ _ _ (worthF_inv h0 hsm).1 (worthF_inv h0 hsm).2 H locs hP hD hS ls (lv_sub hl [0, 1, 2, 3] rfl)
  · exact absurd (hr1.trans hr2.symm) c_128
end
end
section
/-! the law, case 1: pay -/
set_option maxRecDepth 100000
section
variable {p : Program} {l : Launch} {e : Env} {s : State} {m : MethodId} {args : Array Value} {below : List Frame} {meth : Method} {c : Code} {H : Heap} {locs : List Loc} {Q : State → Prop} {A : Nat → Prop}
variable {D : va_G} {d d2 : Nat → ClassId} {g g2 : Nat → Nat} {w am pt mv sp mv2 pt2 : Nat → Int32} {b L i : Nat} {xs : Nat → Int32}
set_option maxHeartbeats 4000000 in
set_option maxRecDepth 100000 in
theorem law_pay (F : CallFix p m c code 4 s args lw_all R_law) (hA : ∀ q : Nat, s.heap.size ≤ q → A q) (hX : va_X b L xs s s.heap) (hbl : b < s.heap.size) (hbA : ¬ A b) (hL : L ≤ 192) (hi : i + 3 ≤ L) (hK : va_K D vwCl (tX0 d ++ tX1 d2) s) (h0 : w 0 = 0) (hsm : small w) (N : ∀ w am pt mv sp mv2 pt2 : Nat → Int32, w 0 = 0 → small w → ∀ (H : Heap) (locs : List Loc), va_P D vwCl (wX0 d g (w, am, pt, mv, sp) ++ wX1 d2 g2 (w, mv2, pt2, am)) H → va_D A (wX0 d g (w, am, pt, mv, sp) ++ wX1 d2 g2 (w, mv2, pt2, am)) → va_S A s.heap H locs → ∀ ls : Array Slot, lv_has ls 4 [(0, .ref b), (1, .ref (g 0)), (2, .ref (g2 0)), (3, .int (nI i))] → W p l e room_1 s m args below meth c H locs 11 243 Q (F0 m 399 ls [])) (hP : va_P D vwCl (wX0 d g (w, am, pt, mv, sp) ++ wX1 d2 g2 (w, mv2, pt2, am)) H) (hD : va_D A (wX0 d g (w, am, pt, mv, sp) ++ wX1 d2 g2 (w, mv2, pt2, am))) (hS : va_S A s.heap H locs) (ls : Array Slot) (hl : lv_has ls 4 [(0, .ref b), (1, .ref (g 0)), (2, .ref (g2 0)), (3, .int (nI i))]) : W p l e room_1 s m args below meth c H locs 11 243 Q (F0 m 133 ls []) := by
  have hx := F.1
  have hb := F.2.1
  have hown := F.2.2.2.1
  have hts := F.2.2.2.2
  refine lv_aload_n hx hb dL_law_133 rfl (lv_at hl 1 rfl) ?_
  refine lv_aload_n hx hb dL_law_134 rfl (lv_at hl 0 rfl) ?_
  refine lv_iload_n hx hb dL_law_135 rfl (lv_at hl 3 rfl) ?_
  refine lv_iconst (v := nI 1) hx hb dL_law_136 (by decide +kernel) ?_
  refine cn_iadd hx hb dL_law_137 ?_
  refine cv_sld hx hb hX hbl hbA hS hL (by omega) dL_law_138 ?_
  refine lv_aload_n hx hb dL_law_139 rfl (lv_at hl 0 rfl) ?_
  refine lv_iload_n hx hb dL_law_140 rfl (lv_at hl 3 rfl) ?_
  refine lv_iconst (v := nI 2) hx hb dL_law_141 (by decide +kernel) ?_
  refine cn_iadd hx hb dL_law_142 ?_
  refine cv_sld hx hb hX hbl hbA hS hL (by omega) dL_law_143 ?_
  refine cm_call (wf := wX0 d g) (rest := []) (wr := wX1 d2 g2 (w, mv2, pt2, am)) F (x0_pay l D d g _ w am pt mv sp (xs (i + 1)) (xs (i + 2))) (cwV 2 hts (lw_V q42 q43 q44 q8 q45) rfl rfl rfl (by decide +kernel) ⟨Nat.le_of_ble_eq_true rfl, Nat.le_of_ble_eq_true rfl⟩) (ci := 0) rfl rfl rfl hK [0, 1, 2, 3, 4] rfl hP hD hS hA [0, 1, 2, 3, 4, 5] [6, 7, 8, 9, 10] rfl rfl rfl (by decide) (by decide) (by decide) rfl hl.1 rfl (Nat.le_of_ble_eq_true rfl) ⟨Nat.le_of_ble_eq_true rfl, Nat.le_of_ble_eq_true rfl⟩ dL_law_144 (fun r1 u1 H locs hw1 hP hD hS => ?_)
  obtain ⟨hr1, rfl⟩ := Prod.mk.inj hw1
  have hP : va_P D vwCl (wX1 d2 g2 (w, mv2, pt2, am) ++ wX0 d g (w, (payF (xs (i + 1)) (xs (i + 2)) am).2, pt, mv, sp)) H := hP
  have hD : va_D A (wX1 d2 g2 (w, mv2, pt2, am) ++ wX0 d g (w, (payF (xs (i + 1)) (xs (i + 2)) am).2, pt, mv, sp)) := hD
  refine lv_aload_n hx hb dL_law_147 rfl (lv_at hl 2 rfl) ?_
  refine lv_aload_n hx hb dL_law_148 rfl (lv_at hl 0 rfl) ?_
  refine lv_iload_n hx hb dL_law_149 rfl (lv_at hl 3 rfl) ?_
  refine lv_iconst (v := nI 1) hx hb dL_law_150 (by decide +kernel) ?_
  refine cn_iadd hx hb dL_law_151 ?_
  refine cv_sld hx hb hX hbl hbA hS hL (by omega) dL_law_152 ?_
  refine lv_aload_n hx hb dL_law_153 rfl (lv_at hl 0 rfl) ?_
  refine lv_iload_n hx hb dL_law_154 rfl (lv_at hl 3 rfl) ?_
  refine lv_iconst (v := nI 2) hx hb dL_law_155 (by decide +kernel) ?_
  refine cn_iadd hx hb dL_law_156 ?_
  refine cv_sld hx hb hX hbl hbA hS hL (by omega) dL_law_157 ?_
  refine cm_call (wf := wX1 d2 g2) (rest := [.int r1]) (wr := wX0 d g (w, (payF (xs (i + 1)) (xs (i + 2)) am).2, pt, mv, sp)) F (x1_pay l D d2 g2 _ w mv2 pt2 am (xs (i + 1)) (xs (i + 2))) (cwV 2 hts (lw_V q135 q136 q137 q9 q138) rfl rfl rfl (by decide +kernel) ⟨Nat.le_of_ble_eq_true rfl, Nat.le_of_ble_eq_true rfl⟩) (ci := 1) rfl rfl rfl hK [5, 6, 7, 8] rfl hP hD hS hA [0, 1, 2, 3, 4] [5, 6, 7, 8, 9, 10] rfl rfl rfl (by decide) (by decide) (by decide) rfl hl.1 rfl (Nat.le_of_ble_eq_true rfl) ⟨Nat.le_of_ble_eq_true rfl, Nat.le_of_ble_eq_true rfl⟩ dL_law_158 (fun r2 u2 H locs hw2 hP hD hS => ?_)
  obtain ⟨hr2, rfl⟩ := Prod.mk.inj hw2
  have hP : va_P D vwCl (wX0 d g (w, (payF (xs (i + 1)) (xs (i + 2)) am).2, pt, mv, sp) ++ wX1 d2 g2 (w, mv2, pt2, (payF (xs (i + 1)) (xs (i + 2)) am).2)) H := hP
  have hD : va_D A (wX0 d g (w, (payF (xs (i + 1)) (xs (i + 2)) am).2, pt, mv, sp) ++ wX1 d2 g2 (w, mv2, pt2, (payF (xs (i + 1)) (xs (i + 2)) am).2)) := hD
  refine lv_icmp_eq (tgt := 399) hx hb dL_law_161 (by decide) (fun c_161 => ?_) (fun c_161 => ?_)
  · exact N _ _ _ _ _ _ _ h0 hsm H locs hP hD hS ls (lv_sub hl [0, 1, 2, 3] rfl)
  · exact absurd (hr1.trans hr2.symm) c_161
end
end
section
/-! the law, case 2: weigh -/
set_option maxRecDepth 100000
section
variable {p : Program} {l : Launch} {e : Env} {s : State} {m : MethodId} {args : Array Value} {below : List Frame} {meth : Method} {c : Code} {H : Heap} {locs : List Loc} {Q : State → Prop} {A : Nat → Prop}
variable {D : va_G} {d d2 : Nat → ClassId} {g g2 : Nat → Nat} {w am pt mv sp mv2 pt2 : Nat → Int32} {b L i : Nat} {xs : Nat → Int32}
set_option maxHeartbeats 4000000 in
set_option maxRecDepth 100000 in
theorem law_weigh (F : CallFix p m c code 4 s args lw_all R_law) (hA : ∀ q : Nat, s.heap.size ≤ q → A q) (hX : va_X b L xs s s.heap) (hbl : b < s.heap.size) (hbA : ¬ A b) (hL : L ≤ 192) (hi : i + 3 ≤ L) (hK : va_K D vwCl (tX0 d ++ tX1 d2) s) (h0 : w 0 = 0) (hsm : small w) (N : ∀ w am pt mv sp mv2 pt2 : Nat → Int32, w 0 = 0 → small w → ∀ (H : Heap) (locs : List Loc), va_P D vwCl (wX0 d g (w, am, pt, mv, sp) ++ wX1 d2 g2 (w, mv2, pt2, am)) H → va_D A (wX0 d g (w, am, pt, mv, sp) ++ wX1 d2 g2 (w, mv2, pt2, am)) → va_S A s.heap H locs → ∀ ls : Array Slot, lv_has ls 4 [(0, .ref b), (1, .ref (g 0)), (2, .ref (g2 0)), (3, .int (nI i))] → W p l e room_1 s m args below meth c H locs 11 243 Q (F0 m 399 ls [])) (hP : va_P D vwCl (wX0 d g (w, am, pt, mv, sp) ++ wX1 d2 g2 (w, mv2, pt2, am)) H) (hD : va_D A (wX0 d g (w, am, pt, mv, sp) ++ wX1 d2 g2 (w, mv2, pt2, am))) (hS : va_S A s.heap H locs) (ls : Array Slot) (hl : lv_has ls 4 [(0, .ref b), (1, .ref (g 0)), (2, .ref (g2 0)), (3, .int (nI i))]) : W p l e room_1 s m args below meth c H locs 11 243 Q (F0 m 166 ls []) := by
  have hx := F.1
  have hb := F.2.1
  have hown := F.2.2.2.1
  have hts := F.2.2.2.2
  refine lv_aload_n hx hb dL_law_166 rfl (lv_at hl 1 rfl) ?_
  refine lv_aload_n hx hb dL_law_167 rfl (lv_at hl 0 rfl) ?_
  refine lv_iload_n hx hb dL_law_168 rfl (lv_at hl 3 rfl) ?_
  refine lv_iconst (v := nI 1) hx hb dL_law_169 (by decide +kernel) ?_
  refine cn_iadd hx hb dL_law_170 ?_
  refine cv_sld hx hb hX hbl hbA hS hL (by omega) dL_law_171 ?_
  refine lv_aload_n hx hb dL_law_172 rfl (lv_at hl 0 rfl) ?_
  refine lv_iload_n hx hb dL_law_173 rfl (lv_at hl 3 rfl) ?_
  refine lv_iconst (v := nI 2) hx hb dL_law_174 (by decide +kernel) ?_
  refine cn_iadd hx hb dL_law_175 ?_
  refine cv_sld hx hb hX hbl hbA hS hL (by omega) dL_law_176 ?_
  refine cm_call (wf := wX0 d g) (rest := []) (wr := wX1 d2 g2 (w, mv2, pt2, am)) F (x0_weigh l D d g _ w am pt mv sp (xs (i + 1)) (xs (i + 2)) h0) (cwV 2 hts (lw_V q49 q50 q51 q8 q52) rfl rfl rfl (by decide +kernel) ⟨Nat.le_of_ble_eq_true rfl, Nat.le_of_ble_eq_true rfl⟩) (ci := 0) rfl rfl rfl hK [0, 1, 2, 3, 4] rfl hP hD hS hA [0, 1, 2, 3, 4, 5] [6, 7, 8, 9, 10] rfl rfl rfl (by decide) (by decide) (by decide) rfl hl.1 rfl (Nat.le_of_ble_eq_true rfl) ⟨Nat.le_of_ble_eq_true rfl, Nat.le_of_ble_eq_true rfl⟩ dL_law_177 (fun r1 u1 H locs hw1 hP hD hS => ?_)
  obtain ⟨hr1, rfl⟩ := Prod.mk.inj hw1
  have hP : va_P D vwCl (wX1 d2 g2 (w, mv2, pt2, am) ++ wX0 d g ((weighF (xs (i + 1)) (xs (i + 2)) w).2, am, pt, mv, sp)) H := hP
  have hD : va_D A (wX1 d2 g2 (w, mv2, pt2, am) ++ wX0 d g ((weighF (xs (i + 1)) (xs (i + 2)) w).2, am, pt, mv, sp)) := hD
  refine lv_aload_n hx hb dL_law_180 rfl (lv_at hl 2 rfl) ?_
  refine lv_aload_n hx hb dL_law_181 rfl (lv_at hl 0 rfl) ?_
  refine lv_iload_n hx hb dL_law_182 rfl (lv_at hl 3 rfl) ?_
  refine lv_iconst (v := nI 1) hx hb dL_law_183 (by decide +kernel) ?_
  refine cn_iadd hx hb dL_law_184 ?_
  refine cv_sld hx hb hX hbl hbA hS hL (by omega) dL_law_185 ?_
  refine lv_aload_n hx hb dL_law_186 rfl (lv_at hl 0 rfl) ?_
  refine lv_iload_n hx hb dL_law_187 rfl (lv_at hl 3 rfl) ?_
  refine lv_iconst (v := nI 2) hx hb dL_law_188 (by decide +kernel) ?_
  refine cn_iadd hx hb dL_law_189 ?_
  refine cv_sld hx hb hX hbl hbA hS hL (by omega) dL_law_190 ?_
  refine cm_call (wf := wX1 d2 g2) (rest := [.int r1]) (wr := wX0 d g ((weighF (xs (i + 1)) (xs (i + 2)) w).2, am, pt, mv, sp)) F (x1_weigh l D d2 g2 _ w mv2 pt2 am (xs (i + 1)) (xs (i + 2))) (cwV 2 hts (lw_V q143 q144 q145 q9 q146) rfl rfl rfl (by decide +kernel) ⟨Nat.le_of_ble_eq_true rfl, Nat.le_of_ble_eq_true rfl⟩) (ci := 1) rfl rfl rfl hK [5, 6, 7, 8] rfl hP hD hS hA [0, 1, 2, 3, 4] [5, 6, 7, 8, 9, 10] rfl rfl rfl (by decide) (by decide) (by decide) rfl hl.1 rfl (Nat.le_of_ble_eq_true rfl) ⟨Nat.le_of_ble_eq_true rfl, Nat.le_of_ble_eq_true rfl⟩ dL_law_191 (fun r2 u2 H locs hw2 hP hD hS => ?_)
  obtain ⟨hr2, rfl⟩ := Prod.mk.inj hw2
  have hP : va_P D vwCl (wX0 d g ((weighF (xs (i + 1)) (xs (i + 2)) w).2, am, pt, mv, sp) ++ wX1 d2 g2 ((weighF (xs (i + 1)) (xs (i + 2)) w).2, mv2, pt2, am)) H := hP
  have hD : va_D A (wX0 d g ((weighF (xs (i + 1)) (xs (i + 2)) w).2, am, pt, mv, sp) ++ wX1 d2 g2 ((weighF (xs (i + 1)) (xs (i + 2)) w).2, mv2, pt2, am)) := hD
  refine lv_icmp_eq (tgt := 399) hx hb dL_law_194 (by decide) (fun c_194 => ?_) (fun c_194 => ?_)
  · exact N _ _ _ _ _ _ _ (weighF_inv h0 hsm).1 (weighF_inv h0 hsm).2 H locs hP hD hS ls (lv_sub hl [0, 1, 2, 3] rfl)
  · exact absurd (hr1.trans hr2.symm) c_194
end
end
section
/-! the law, case 3: exchange -/
set_option maxRecDepth 100000
section
variable {p : Program} {l : Launch} {e : Env} {s : State} {m : MethodId} {args : Array Value} {below : List Frame} {meth : Method} {c : Code} {H : Heap} {locs : List Loc} {Q : State → Prop} {A : Nat → Prop}
variable {D : va_G} {d d2 : Nat → ClassId} {g g2 : Nat → Nat} {w am pt mv sp mv2 pt2 : Nat → Int32} {b L i : Nat} {xs : Nat → Int32}
set_option maxHeartbeats 4000000 in
set_option maxRecDepth 100000 in
theorem law_exchange (F : CallFix p m c code 4 s args lw_all R_law) (hA : ∀ q : Nat, s.heap.size ≤ q → A q) (hX : va_X b L xs s s.heap) (hbl : b < s.heap.size) (hbA : ¬ A b) (hL : L ≤ 192) (hi : i + 3 ≤ L) (hK : va_K D vwCl (tX0 d ++ tX1 d2) s) (h0 : w 0 = 0) (hsm : small w) (N : ∀ w am pt mv sp mv2 pt2 : Nat → Int32, w 0 = 0 → small w → ∀ (H : Heap) (locs : List Loc), va_P D vwCl (wX0 d g (w, am, pt, mv, sp) ++ wX1 d2 g2 (w, mv2, pt2, am)) H → va_D A (wX0 d g (w, am, pt, mv, sp) ++ wX1 d2 g2 (w, mv2, pt2, am)) → va_S A s.heap H locs → ∀ ls : Array Slot, lv_has ls 4 [(0, .ref b), (1, .ref (g 0)), (2, .ref (g2 0)), (3, .int (nI i))] → W p l e room_1 s m args below meth c H locs 11 243 Q (F0 m 399 ls [])) (hP : va_P D vwCl (wX0 d g (w, am, pt, mv, sp) ++ wX1 d2 g2 (w, mv2, pt2, am)) H) (hD : va_D A (wX0 d g (w, am, pt, mv, sp) ++ wX1 d2 g2 (w, mv2, pt2, am))) (hS : va_S A s.heap H locs) (ls : Array Slot) (hl : lv_has ls 4 [(0, .ref b), (1, .ref (g 0)), (2, .ref (g2 0)), (3, .int (nI i))]) : W p l e room_1 s m args below meth c H locs 11 243 Q (F0 m 199 ls []) := by
  have hx := F.1
  have hb := F.2.1
  have hown := F.2.2.2.1
  have hts := F.2.2.2.2
  refine lv_aload_n hx hb dL_law_199 rfl (lv_at hl 1 rfl) ?_
  refine lv_aload_n hx hb dL_law_200 rfl (lv_at hl 0 rfl) ?_
  refine lv_iload_n hx hb dL_law_201 rfl (lv_at hl 3 rfl) ?_
  refine lv_iconst (v := nI 1) hx hb dL_law_202 (by decide +kernel) ?_
  refine cn_iadd hx hb dL_law_203 ?_
  refine cv_sld hx hb hX hbl hbA hS hL (by omega) dL_law_204 ?_
  refine lv_aload_n hx hb dL_law_205 rfl (lv_at hl 0 rfl) ?_
  refine lv_iload_n hx hb dL_law_206 rfl (lv_at hl 3 rfl) ?_
  refine lv_iconst (v := nI 2) hx hb dL_law_207 (by decide +kernel) ?_
  refine cn_iadd hx hb dL_law_208 ?_
  refine cv_sld hx hb hX hbl hbA hS hL (by omega) dL_law_209 ?_
  refine cm_call (wf := wX0 d g) (rest := []) (wr := wX1 d2 g2 (w, mv2, pt2, am)) F (x0_exchange l D d g _ w am pt mv sp (xs (i + 1)) (xs (i + 2))) (cwV 2 hts (lw_V q53 q54 q55 q8 q56) rfl rfl rfl (by decide +kernel) ⟨Nat.le_of_ble_eq_true rfl, Nat.le_of_ble_eq_true rfl⟩) (ci := 0) rfl rfl rfl hK [0, 1, 2, 3, 4] rfl hP hD hS hA [0, 1, 2, 3, 4, 5] [6, 7, 8, 9, 10] rfl rfl rfl (by decide) (by decide) (by decide) rfl hl.1 rfl (Nat.le_of_ble_eq_true rfl) ⟨Nat.le_of_ble_eq_true rfl, Nat.le_of_ble_eq_true rfl⟩ dL_law_210 (fun r1 u1 H locs hw1 hP hD hS => ?_)
  obtain ⟨w9, am9, pt9, mv9, sp9⟩ := u1
  obtain ⟨hr1, e1, e2⟩ := hw1
  have e1 : w9 = (exchF (xs (i + 1)) (xs (i + 2)) w).2 := e1
  have e2 : am9 = am := e2
  have hP : va_P D vwCl (wX1 d2 g2 (w, mv2, pt2, am) ++ wX0 d g (w9, am9, pt9, mv9, sp9)) H := hP
  have hD : va_D A (wX1 d2 g2 (w, mv2, pt2, am) ++ wX0 d g (w9, am9, pt9, mv9, sp9)) := hD
  rw [e1, e2] at hP hD
  have hP : va_P D vwCl (wX1 d2 g2 (w, mv2, pt2, am) ++ wX0 d g ((exchF (xs (i + 1)) (xs (i + 2)) w).2, am, pt9, mv9, sp9)) H := hP
  have hD : va_D A (wX1 d2 g2 (w, mv2, pt2, am) ++ wX0 d g ((exchF (xs (i + 1)) (xs (i + 2)) w).2, am, pt9, mv9, sp9)) := hD
  refine lv_aload_n hx hb dL_law_213 rfl (lv_at hl 2 rfl) ?_
  refine lv_aload_n hx hb dL_law_214 rfl (lv_at hl 0 rfl) ?_
  refine lv_iload_n hx hb dL_law_215 rfl (lv_at hl 3 rfl) ?_
  refine lv_iconst (v := nI 1) hx hb dL_law_216 (by decide +kernel) ?_
  refine cn_iadd hx hb dL_law_217 ?_
  refine cv_sld hx hb hX hbl hbA hS hL (by omega) dL_law_218 ?_
  refine lv_aload_n hx hb dL_law_219 rfl (lv_at hl 0 rfl) ?_
  refine lv_iload_n hx hb dL_law_220 rfl (lv_at hl 3 rfl) ?_
  refine lv_iconst (v := nI 2) hx hb dL_law_221 (by decide +kernel) ?_
  refine cn_iadd hx hb dL_law_222 ?_
  refine cv_sld hx hb hX hbl hbA hS hL (by omega) dL_law_223 ?_
  refine cm_call (wf := wX1 d2 g2) (rest := [.int r1]) (wr := wX0 d g ((exchF (xs (i + 1)) (xs (i + 2)) w).2, am, pt9, mv9, sp9)) F (x1_exchange l D d2 g2 _ w mv2 pt2 am (xs (i + 1)) (xs (i + 2))) (cwV 2 hts (lw_V q147 q148 q149 q9 q150) rfl rfl rfl (by decide +kernel) ⟨Nat.le_of_ble_eq_true rfl, Nat.le_of_ble_eq_true rfl⟩) (ci := 1) rfl rfl rfl hK [5, 6, 7, 8] rfl hP hD hS hA [0, 1, 2, 3, 4] [5, 6, 7, 8, 9, 10] rfl rfl rfl (by decide) (by decide) (by decide) rfl hl.1 rfl (Nat.le_of_ble_eq_true rfl) ⟨Nat.le_of_ble_eq_true rfl, Nat.le_of_ble_eq_true rfl⟩ dL_law_224 (fun r2 u2 H locs hw2 hP hD hS => ?_)
  obtain ⟨w8, mv8, pt8, am8⟩ := u2
  obtain ⟨hr2, e1, e2⟩ := hw2
  have e1 : w8 = (exchF (xs (i + 1)) (xs (i + 2)) w).2 := e1
  have e2 : am8 = am := e2
  have hP : va_P D vwCl (wX0 d g ((exchF (xs (i + 1)) (xs (i + 2)) w).2, am, pt9, mv9, sp9) ++ wX1 d2 g2 (w8, mv8, pt8, am8)) H := hP
  have hD : va_D A (wX0 d g ((exchF (xs (i + 1)) (xs (i + 2)) w).2, am, pt9, mv9, sp9) ++ wX1 d2 g2 (w8, mv8, pt8, am8)) := hD
  rw [e1, e2] at hP hD
  have hP : va_P D vwCl (wX0 d g ((exchF (xs (i + 1)) (xs (i + 2)) w).2, am, pt9, mv9, sp9) ++ wX1 d2 g2 ((exchF (xs (i + 1)) (xs (i + 2)) w).2, mv8, pt8, am)) H := hP
  have hD : va_D A (wX0 d g ((exchF (xs (i + 1)) (xs (i + 2)) w).2, am, pt9, mv9, sp9) ++ wX1 d2 g2 ((exchF (xs (i + 1)) (xs (i + 2)) w).2, mv8, pt8, am)) := hD
  refine lv_icmp_eq (tgt := 399) hx hb dL_law_227 (by decide) (fun c_227 => ?_) (fun c_227 => ?_)
  · exact N _ _ _ _ _ _ _ (exchF_inv h0 hsm).1 (exchF_inv h0 hsm).2 H locs hP hD hS ls (lv_sub hl [0, 1, 2, 3] rfl)
  · exact absurd (hr1.trans hr2.symm) c_227
end
end
section
/-! the law, case 4: orderValue -/
set_option maxRecDepth 100000
section
variable {p : Program} {l : Launch} {e : Env} {s : State} {m : MethodId} {args : Array Value} {below : List Frame} {meth : Method} {c : Code} {H : Heap} {locs : List Loc} {Q : State → Prop} {A : Nat → Prop}
variable {D : va_G} {d d2 : Nat → ClassId} {g g2 : Nat → Nat} {w am pt mv sp mv2 pt2 : Nat → Int32} {b L i : Nat} {xs : Nat → Int32}
set_option maxHeartbeats 4000000 in
set_option maxRecDepth 100000 in
theorem law_orderValue (F : CallFix p m c code 4 s args lw_all R_law) (hA : ∀ q : Nat, s.heap.size ≤ q → A q) (hX : va_X b L xs s s.heap) (hbl : b < s.heap.size) (hbA : ¬ A b) (hL : L ≤ 192) (hi : i + 3 ≤ L) (hK : va_K D vwCl (tX0 d ++ tX1 d2) s) (h0 : w 0 = 0) (hsm : small w) (N : ∀ w am pt mv sp mv2 pt2 : Nat → Int32, w 0 = 0 → small w → ∀ (H : Heap) (locs : List Loc), va_P D vwCl (wX0 d g (w, am, pt, mv, sp) ++ wX1 d2 g2 (w, mv2, pt2, am)) H → va_D A (wX0 d g (w, am, pt, mv, sp) ++ wX1 d2 g2 (w, mv2, pt2, am)) → va_S A s.heap H locs → ∀ ls : Array Slot, lv_has ls 4 [(0, .ref b), (1, .ref (g 0)), (2, .ref (g2 0)), (3, .int (nI i))] → W p l e room_1 s m args below meth c H locs 11 243 Q (F0 m 399 ls [])) (hP : va_P D vwCl (wX0 d g (w, am, pt, mv, sp) ++ wX1 d2 g2 (w, mv2, pt2, am)) H) (hD : va_D A (wX0 d g (w, am, pt, mv, sp) ++ wX1 d2 g2 (w, mv2, pt2, am))) (hS : va_S A s.heap H locs) (ls : Array Slot) (hl : lv_has ls 4 [(0, .ref b), (1, .ref (g 0)), (2, .ref (g2 0)), (3, .int (nI i))]) : W p l e room_1 s m args below meth c H locs 11 243 Q (F0 m 232 ls []) := by
  have hx := F.1
  have hb := F.2.1
  have hown := F.2.2.2.1
  have hts := F.2.2.2.2
  refine lv_aload_n hx hb dL_law_232 rfl (lv_at hl 1 rfl) ?_
  refine lv_aload_n hx hb dL_law_233 rfl (lv_at hl 0 rfl) ?_
  refine lv_iload_n hx hb dL_law_234 rfl (lv_at hl 3 rfl) ?_
  refine lv_iconst (v := nI 1) hx hb dL_law_235 (by decide +kernel) ?_
  refine cn_iadd hx hb dL_law_236 ?_
  refine cv_sld hx hb hX hbl hbA hS hL (by omega) dL_law_237 ?_
  refine cm_call (wf := wX0 d g) (rest := []) (wr := wX1 d2 g2 (w, mv2, pt2, am)) F (x0_orderValue l D d g _ w am pt mv sp (xs (i + 1))) (cwV 1 hts (lw_V q60 q61 q62 q8 q63) rfl rfl rfl (by decide +kernel) ⟨Nat.le_of_ble_eq_true rfl, Nat.le_of_ble_eq_true rfl⟩) (ci := 0) rfl rfl rfl hK [0, 1, 2, 3, 4] rfl hP hD hS hA [0, 1, 2, 3, 4, 5] [6, 7, 8, 9, 10] rfl rfl rfl (by decide) (by decide) (by decide) rfl hl.1 rfl (Nat.le_of_ble_eq_true rfl) ⟨Nat.le_of_ble_eq_true rfl, Nat.le_of_ble_eq_true rfl⟩ dL_law_238 (fun r1 u1 H locs hw1 hP hD hS => ?_)
  obtain ⟨w9, am9, pt9, mv9, sp9⟩ := u1
  obtain ⟨hr1, e1, e2⟩ := hw1
  have e1 : w9 = w := e1
  have e2 : am9 = am := e2
  have hP : va_P D vwCl (wX1 d2 g2 (w, mv2, pt2, am) ++ wX0 d g (w9, am9, pt9, mv9, sp9)) H := hP
  have hD : va_D A (wX1 d2 g2 (w, mv2, pt2, am) ++ wX0 d g (w9, am9, pt9, mv9, sp9)) := hD
  rw [e1, e2] at hP hD
  have hP : va_P D vwCl (wX1 d2 g2 (w, mv2, pt2, am) ++ wX0 d g (w, am, pt9, mv9, sp9)) H := hP
  have hD : va_D A (wX1 d2 g2 (w, mv2, pt2, am) ++ wX0 d g (w, am, pt9, mv9, sp9)) := hD
  refine lv_aload_n hx hb dL_law_241 rfl (lv_at hl 2 rfl) ?_
  refine lv_aload_n hx hb dL_law_242 rfl (lv_at hl 0 rfl) ?_
  refine lv_iload_n hx hb dL_law_243 rfl (lv_at hl 3 rfl) ?_
  refine lv_iconst (v := nI 1) hx hb dL_law_244 (by decide +kernel) ?_
  refine cn_iadd hx hb dL_law_245 ?_
  refine cv_sld hx hb hX hbl hbA hS hL (by omega) dL_law_246 ?_
  refine cm_call (wf := wX1 d2 g2) (rest := [.int r1]) (wr := wX0 d g (w, am, pt9, mv9, sp9)) F (x1_orderValue l D d2 g2 _ w mv2 pt2 am (xs (i + 1))) (cwV 1 hts (lw_V q151 q152 q153 q9 q154) rfl rfl rfl (by decide +kernel) ⟨Nat.le_of_ble_eq_true rfl, Nat.le_of_ble_eq_true rfl⟩) (ci := 1) rfl rfl rfl hK [5, 6, 7, 8] rfl hP hD hS hA [0, 1, 2, 3, 4] [5, 6, 7, 8, 9, 10] rfl rfl rfl (by decide) (by decide) (by decide) rfl hl.1 rfl (Nat.le_of_ble_eq_true rfl) ⟨Nat.le_of_ble_eq_true rfl, Nat.le_of_ble_eq_true rfl⟩ dL_law_247 (fun r2 u2 H locs hw2 hP hD hS => ?_)
  obtain ⟨hr2, rfl⟩ := hw2
  have hP : va_P D vwCl (wX0 d g (w, am, pt9, mv9, sp9) ++ wX1 d2 g2 (w, mv2, pt2, am)) H := hP
  have hD : va_D A (wX0 d g (w, am, pt9, mv9, sp9) ++ wX1 d2 g2 (w, mv2, pt2, am)) := hD
  refine lv_icmp_eq (tgt := 399) hx hb dL_law_250 (by decide) (fun c_250 => ?_) (fun c_250 => ?_)
  · exact N _ _ _ _ _ _ _ h0 hsm H locs hP hD hS ls (lv_sub hl [0, 1, 2, 3] rfl)
  · exact absurd (hr1.trans ((order_ans w (xs (i + 1))).trans hr2.symm)) c_250
end
end
section
/-! the law, case 5: swingValue -/
set_option maxRecDepth 100000
section
variable {p : Program} {l : Launch} {e : Env} {s : State} {m : MethodId} {args : Array Value} {below : List Frame} {meth : Method} {c : Code} {H : Heap} {locs : List Loc} {Q : State → Prop} {A : Nat → Prop}
variable {D : va_G} {d d2 : Nat → ClassId} {g g2 : Nat → Nat} {w am pt mv sp mv2 pt2 : Nat → Int32} {b L i : Nat} {xs : Nat → Int32}
set_option maxHeartbeats 4000000 in
set_option maxRecDepth 100000 in
theorem law_swingValue (F : CallFix p m c code 4 s args lw_all R_law) (hA : ∀ q : Nat, s.heap.size ≤ q → A q) (hX : va_X b L xs s s.heap) (hbl : b < s.heap.size) (hbA : ¬ A b) (hL : L ≤ 192) (hi : i + 3 ≤ L) (hK : va_K D vwCl (tX0 d ++ tX1 d2) s) (h0 : w 0 = 0) (hsm : small w) (N : ∀ w am pt mv sp mv2 pt2 : Nat → Int32, w 0 = 0 → small w → ∀ (H : Heap) (locs : List Loc), va_P D vwCl (wX0 d g (w, am, pt, mv, sp) ++ wX1 d2 g2 (w, mv2, pt2, am)) H → va_D A (wX0 d g (w, am, pt, mv, sp) ++ wX1 d2 g2 (w, mv2, pt2, am)) → va_S A s.heap H locs → ∀ ls : Array Slot, lv_has ls 4 [(0, .ref b), (1, .ref (g 0)), (2, .ref (g2 0)), (3, .int (nI i))] → W p l e room_1 s m args below meth c H locs 11 243 Q (F0 m 399 ls [])) (hP : va_P D vwCl (wX0 d g (w, am, pt, mv, sp) ++ wX1 d2 g2 (w, mv2, pt2, am)) H) (hD : va_D A (wX0 d g (w, am, pt, mv, sp) ++ wX1 d2 g2 (w, mv2, pt2, am))) (hS : va_S A s.heap H locs) (ls : Array Slot) (hl : lv_has ls 4 [(0, .ref b), (1, .ref (g 0)), (2, .ref (g2 0)), (3, .int (nI i))]) : W p l e room_1 s m args below meth c H locs 11 243 Q (F0 m 255 ls []) := by
  have hx := F.1
  have hb := F.2.1
  have hown := F.2.2.2.1
  have hts := F.2.2.2.2
  refine lv_aload_n hx hb dL_law_255 rfl (lv_at hl 1 rfl) ?_
  refine lv_aload_n hx hb dL_law_256 rfl (lv_at hl 0 rfl) ?_
  refine lv_iload_n hx hb dL_law_257 rfl (lv_at hl 3 rfl) ?_
  refine lv_iconst (v := nI 1) hx hb dL_law_258 (by decide +kernel) ?_
  refine cn_iadd hx hb dL_law_259 ?_
  refine cv_sld hx hb hX hbl hbA hS hL (by omega) dL_law_260 ?_
  refine cm_call (wf := wX0 d g) (rest := []) (wr := wX1 d2 g2 (w, mv2, pt2, am)) F (x0_swingValue l D d g _ w am pt mv sp (xs (i + 1))) (cwV 1 hts (lw_V q71 q72 q73 q8 q74) rfl rfl rfl (by decide +kernel) ⟨Nat.le_of_ble_eq_true rfl, Nat.le_of_ble_eq_true rfl⟩) (ci := 0) rfl rfl rfl hK [0, 1, 2, 3, 4] rfl hP hD hS hA [0, 1, 2, 3, 4, 5] [6, 7, 8, 9, 10] rfl rfl rfl (by decide) (by decide) (by decide) rfl hl.1 rfl (Nat.le_of_ble_eq_true rfl) ⟨Nat.le_of_ble_eq_true rfl, Nat.le_of_ble_eq_true rfl⟩ dL_law_261 (fun r1 u1 H locs hw1 hP hD hS => ?_)
  obtain ⟨w9, am9, pt9, mv9, sp9⟩ := u1
  obtain ⟨hr1, e1, e2⟩ := hw1
  have e1 : w9 = w := e1
  have e2 : am9 = am := e2
  have hP : va_P D vwCl (wX1 d2 g2 (w, mv2, pt2, am) ++ wX0 d g (w9, am9, pt9, mv9, sp9)) H := hP
  have hD : va_D A (wX1 d2 g2 (w, mv2, pt2, am) ++ wX0 d g (w9, am9, pt9, mv9, sp9)) := hD
  rw [e1, e2] at hP hD
  have hP : va_P D vwCl (wX1 d2 g2 (w, mv2, pt2, am) ++ wX0 d g (w, am, pt9, mv9, sp9)) H := hP
  have hD : va_D A (wX1 d2 g2 (w, mv2, pt2, am) ++ wX0 d g (w, am, pt9, mv9, sp9)) := hD
  refine lv_aload_n hx hb dL_law_264 rfl (lv_at hl 2 rfl) ?_
  refine lv_aload_n hx hb dL_law_265 rfl (lv_at hl 0 rfl) ?_
  refine lv_iload_n hx hb dL_law_266 rfl (lv_at hl 3 rfl) ?_
  refine lv_iconst (v := nI 1) hx hb dL_law_267 (by decide +kernel) ?_
  refine cn_iadd hx hb dL_law_268 ?_
  refine cv_sld hx hb hX hbl hbA hS hL (by omega) dL_law_269 ?_
  refine cm_call (wf := wX1 d2 g2) (rest := [.int r1]) (wr := wX0 d g (w, am, pt9, mv9, sp9)) F (x1_swingValue l D d2 g2 _ w mv2 pt2 am (xs (i + 1))) (cwV 1 hts (lw_V q159 q160 q161 q9 q162) rfl rfl rfl (by decide +kernel) ⟨Nat.le_of_ble_eq_true rfl, Nat.le_of_ble_eq_true rfl⟩) (ci := 1) rfl rfl rfl hK [5, 6, 7, 8] rfl hP hD hS hA [0, 1, 2, 3, 4] [5, 6, 7, 8, 9, 10] rfl rfl rfl (by decide) (by decide) (by decide) rfl hl.1 rfl (Nat.le_of_ble_eq_true rfl) ⟨Nat.le_of_ble_eq_true rfl, Nat.le_of_ble_eq_true rfl⟩ dL_law_270 (fun r2 u2 H locs hw2 hP hD hS => ?_)
  obtain ⟨hr2, rfl⟩ := hw2
  have hP : va_P D vwCl (wX0 d g (w, am, pt9, mv9, sp9) ++ wX1 d2 g2 (w, mv2, pt2, am)) H := hP
  have hD : va_D A (wX0 d g (w, am, pt9, mv9, sp9) ++ wX1 d2 g2 (w, mv2, pt2, am)) := hD
  refine lv_icmp_eq (tgt := 399) hx hb dL_law_273 (by decide) (fun c_273 => ?_) (fun c_273 => ?_)
  · exact N _ _ _ _ _ _ _ h0 hsm H locs hP hD hS ls (lv_sub hl [0, 1, 2, 3] rfl)
  · exact absurd (hr1.trans ((swing_ans w (xs (i + 1))).trans hr2.symm)) c_273
end
end
section
/-! the law, case 6: own -/
set_option maxRecDepth 100000
section
variable {p : Program} {l : Launch} {e : Env} {s : State} {m : MethodId} {args : Array Value} {below : List Frame} {meth : Method} {c : Code} {H : Heap} {locs : List Loc} {Q : State → Prop} {A : Nat → Prop}
variable {D : va_G} {d d2 : Nat → ClassId} {g g2 : Nat → Nat} {w am pt mv sp mv2 pt2 : Nat → Int32} {b L i : Nat} {xs : Nat → Int32}
set_option maxHeartbeats 4000000 in
set_option maxRecDepth 100000 in
theorem law_own (F : CallFix p m c code 4 s args lw_all R_law) (hA : ∀ q : Nat, s.heap.size ≤ q → A q) (hX : va_X b L xs s s.heap) (hbl : b < s.heap.size) (hbA : ¬ A b) (hL : L ≤ 192) (hi : i + 3 ≤ L) (hK : va_K D vwCl (tX0 d ++ tX1 d2) s) (h0 : w 0 = 0) (hsm : small w) (N : ∀ w am pt mv sp mv2 pt2 : Nat → Int32, w 0 = 0 → small w → ∀ (H : Heap) (locs : List Loc), va_P D vwCl (wX0 d g (w, am, pt, mv, sp) ++ wX1 d2 g2 (w, mv2, pt2, am)) H → va_D A (wX0 d g (w, am, pt, mv, sp) ++ wX1 d2 g2 (w, mv2, pt2, am)) → va_S A s.heap H locs → ∀ ls : Array Slot, lv_has ls 4 [(0, .ref b), (1, .ref (g 0)), (2, .ref (g2 0)), (3, .int (nI i))] → W p l e room_1 s m args below meth c H locs 11 243 Q (F0 m 399 ls [])) (hP : va_P D vwCl (wX0 d g (w, am, pt, mv, sp) ++ wX1 d2 g2 (w, mv2, pt2, am)) H) (hD : va_D A (wX0 d g (w, am, pt, mv, sp) ++ wX1 d2 g2 (w, mv2, pt2, am))) (hS : va_S A s.heap H locs) (ls : Array Slot) (hl : lv_has ls 4 [(0, .ref b), (1, .ref (g 0)), (2, .ref (g2 0)), (3, .int (nI i))]) : W p l e room_1 s m args below meth c H locs 11 243 Q (F0 m 278 ls []) := by
  have hx := F.1
  have hb := F.2.1
  have hown := F.2.2.2.1
  have hts := F.2.2.2.2
  refine lv_aload_n hx hb dL_law_278 rfl (lv_at hl 1 rfl) ?_
  refine lv_aload_n hx hb dL_law_279 rfl (lv_at hl 0 rfl) ?_
  refine lv_iload_n hx hb dL_law_280 rfl (lv_at hl 3 rfl) ?_
  refine lv_iconst (v := nI 1) hx hb dL_law_281 (by decide +kernel) ?_
  refine cn_iadd hx hb dL_law_282 ?_
  refine cv_sld hx hb hX hbl hbA hS hL (by omega) dL_law_283 ?_
  refine cm_call (wf := wX0 d g) (rest := []) (wr := wX1 d2 g2 (w, mv2, pt2, am)) F (x0_own l D d g _ w am pt mv sp (xs (i + 1))) (cwV 1 hts (lw_V q75 q76 q77 q8 q78) rfl rfl rfl (by decide +kernel) ⟨Nat.le_of_ble_eq_true rfl, Nat.le_of_ble_eq_true rfl⟩) (ci := 0) rfl rfl rfl hK [0, 1, 2, 3, 4] rfl hP hD hS hA [0, 1, 2, 3, 4, 5] [6, 7, 8, 9, 10] rfl rfl rfl (by decide) (by decide) (by decide) rfl hl.1 rfl (Nat.le_of_ble_eq_true rfl) ⟨Nat.le_of_ble_eq_true rfl, Nat.le_of_ble_eq_true rfl⟩ dL_law_284 (fun r1 u1 H locs hw1 hP hD hS => ?_)
  obtain ⟨w9, am9, pt9, mv9, sp9⟩ := u1
  obtain ⟨hr1, e1, e2⟩ := hw1
  have e1 : w9 = w := e1
  have e2 : am9 = am := e2
  have hP : va_P D vwCl (wX1 d2 g2 (w, mv2, pt2, am) ++ wX0 d g (w9, am9, pt9, mv9, sp9)) H := hP
  have hD : va_D A (wX1 d2 g2 (w, mv2, pt2, am) ++ wX0 d g (w9, am9, pt9, mv9, sp9)) := hD
  rw [e1, e2] at hP hD
  have hP : va_P D vwCl (wX1 d2 g2 (w, mv2, pt2, am) ++ wX0 d g (w, am, pt9, mv9, sp9)) H := hP
  have hD : va_D A (wX1 d2 g2 (w, mv2, pt2, am) ++ wX0 d g (w, am, pt9, mv9, sp9)) := hD
  refine lv_aload_n hx hb dL_law_287 rfl (lv_at hl 2 rfl) ?_
  refine lv_aload_n hx hb dL_law_288 rfl (lv_at hl 0 rfl) ?_
  refine lv_iload_n hx hb dL_law_289 rfl (lv_at hl 3 rfl) ?_
  refine lv_iconst (v := nI 1) hx hb dL_law_290 (by decide +kernel) ?_
  refine cn_iadd hx hb dL_law_291 ?_
  refine cv_sld hx hb hX hbl hbA hS hL (by omega) dL_law_292 ?_
  refine cm_call (wf := wX1 d2 g2) (rest := [.int r1]) (wr := wX0 d g (w, am, pt9, mv9, sp9)) F (x1_own l D d2 g2 _ w mv2 pt2 am (xs (i + 1)) (mobs w 5) (own_eq w h0)) (cwV 1 hts (lw_V q163 q164 q165 q9 q166) rfl rfl rfl (by decide +kernel) ⟨Nat.le_of_ble_eq_true rfl, Nat.le_of_ble_eq_true rfl⟩) (ci := 1) rfl rfl rfl hK [5, 6, 7, 8] rfl hP hD hS hA [0, 1, 2, 3, 4] [5, 6, 7, 8, 9, 10] rfl rfl rfl (by decide) (by decide) (by decide) rfl hl.1 rfl (Nat.le_of_ble_eq_true rfl) ⟨Nat.le_of_ble_eq_true rfl, Nat.le_of_ble_eq_true rfl⟩ dL_law_293 (fun r2 u2 H locs hw2 hP hD hS => ?_)
  obtain ⟨w8, mv8, pt8, am8⟩ := u2
  obtain ⟨hr2, e1, e2⟩ := hw2
  have e1 : w8 = w := e1
  have e2 : am8 = am := e2
  have hP : va_P D vwCl (wX0 d g (w, am, pt9, mv9, sp9) ++ wX1 d2 g2 (w8, mv8, pt8, am8)) H := hP
  have hD : va_D A (wX0 d g (w, am, pt9, mv9, sp9) ++ wX1 d2 g2 (w8, mv8, pt8, am8)) := hD
  rw [e1, e2] at hP hD
  have hP : va_P D vwCl (wX0 d g (w, am, pt9, mv9, sp9) ++ wX1 d2 g2 (w, mv8, pt8, am)) H := hP
  have hD : va_D A (wX0 d g (w, am, pt9, mv9, sp9) ++ wX1 d2 g2 (w, mv8, pt8, am)) := hD
  refine lv_icmp_eq (tgt := 399) hx hb dL_law_296 (by decide) (fun c_296 => ?_) (fun c_296 => ?_)
  · exact N _ _ _ _ _ _ _ h0 hsm H locs hP hD hS ls (lv_sub hl [0, 1, 2, 3] rfl)
  · exact absurd (hr1.trans hr2.symm) c_296
end
end
section
/-! the law, case 7: complaint -/
set_option maxRecDepth 100000
section
variable {p : Program} {l : Launch} {e : Env} {s : State} {m : MethodId} {args : Array Value} {below : List Frame} {meth : Method} {c : Code} {H : Heap} {locs : List Loc} {Q : State → Prop} {A : Nat → Prop}
variable {D : va_G} {d d2 : Nat → ClassId} {g g2 : Nat → Nat} {w am pt mv sp mv2 pt2 : Nat → Int32} {b L i : Nat} {xs : Nat → Int32}
set_option maxHeartbeats 4000000 in
set_option maxRecDepth 100000 in
theorem law_complaint (F : CallFix p m c code 4 s args lw_all R_law) (hA : ∀ q : Nat, s.heap.size ≤ q → A q) (hX : va_X b L xs s s.heap) (hbl : b < s.heap.size) (hbA : ¬ A b) (hL : L ≤ 192) (hi : i + 3 ≤ L) (hK : va_K D vwCl (tX0 d ++ tX1 d2) s) (h0 : w 0 = 0) (hsm : small w) (N : ∀ w am pt mv sp mv2 pt2 : Nat → Int32, w 0 = 0 → small w → ∀ (H : Heap) (locs : List Loc), va_P D vwCl (wX0 d g (w, am, pt, mv, sp) ++ wX1 d2 g2 (w, mv2, pt2, am)) H → va_D A (wX0 d g (w, am, pt, mv, sp) ++ wX1 d2 g2 (w, mv2, pt2, am)) → va_S A s.heap H locs → ∀ ls : Array Slot, lv_has ls 4 [(0, .ref b), (1, .ref (g 0)), (2, .ref (g2 0)), (3, .int (nI i))] → W p l e room_1 s m args below meth c H locs 11 243 Q (F0 m 399 ls [])) (hP : va_P D vwCl (wX0 d g (w, am, pt, mv, sp) ++ wX1 d2 g2 (w, mv2, pt2, am)) H) (hD : va_D A (wX0 d g (w, am, pt, mv, sp) ++ wX1 d2 g2 (w, mv2, pt2, am))) (hS : va_S A s.heap H locs) (ls : Array Slot) (hl : lv_has ls 4 [(0, .ref b), (1, .ref (g 0)), (2, .ref (g2 0)), (3, .int (nI i))]) : W p l e room_1 s m args below meth c H locs 11 243 Q (F0 m 301 ls []) := by
  have hx := F.1
  have hb := F.2.1
  have hown := F.2.2.2.1
  have hts := F.2.2.2.2
  refine lv_aload_n hx hb dL_law_301 rfl (lv_at hl 1 rfl) ?_
  refine cm_call (wf := wX0 d g) (rest := []) (wr := wX1 d2 g2 (w, mv2, pt2, am)) F (x0_complaint l D d g _ w am pt mv sp ) (cwV 0 hts (lw_V q79 q80 q81 q8 q82) rfl rfl rfl (by decide +kernel) ⟨Nat.le_of_ble_eq_true rfl, Nat.le_of_ble_eq_true rfl⟩) (ci := 0) rfl rfl rfl hK [0, 1, 2, 3, 4] rfl hP hD hS hA [0, 1, 2, 3, 4, 5] [6, 7, 8, 9, 10] rfl rfl rfl (by decide) (by decide) (by decide) rfl hl.1 rfl (Nat.le_of_ble_eq_true rfl) ⟨Nat.le_of_ble_eq_true rfl, Nat.le_of_ble_eq_true rfl⟩ dL_law_302 (fun r1 u1 H locs hw1 hP hD hS => ?_)
  obtain ⟨hr1, rfl⟩ := hw1
  have hP : va_P D vwCl (wX1 d2 g2 (w, mv2, pt2, am) ++ wX0 d g (w, am, pt, mv, sp)) H := hP
  have hD : va_D A (wX1 d2 g2 (w, mv2, pt2, am) ++ wX0 d g (w, am, pt, mv, sp)) := hD
  refine lv_aload_n hx hb dL_law_305 rfl (lv_at hl 2 rfl) ?_
  refine cm_call (wf := wX1 d2 g2) (rest := [.int r1]) (wr := wX0 d g (w, am, pt, mv, sp)) F (x1_complaint l D d2 g2 _ w mv2 pt2 am ) (cwV 0 hts (lw_V q167 q168 q169 q9 q170) rfl rfl rfl (by decide +kernel) ⟨Nat.le_of_ble_eq_true rfl, Nat.le_of_ble_eq_true rfl⟩) (ci := 1) rfl rfl rfl hK [5, 6, 7, 8] rfl hP hD hS hA [0, 1, 2, 3, 4] [5, 6, 7, 8, 9, 10] rfl rfl rfl (by decide) (by decide) (by decide) rfl hl.1 rfl (Nat.le_of_ble_eq_true rfl) ⟨Nat.le_of_ble_eq_true rfl, Nat.le_of_ble_eq_true rfl⟩ dL_law_306 (fun r2 u2 H locs hw2 hP hD hS => ?_)
  obtain ⟨hr2, rfl⟩ := hw2
  have hP : va_P D vwCl (wX0 d g (w, am, pt, mv, sp) ++ wX1 d2 g2 (w, mv2, pt2, am)) H := hP
  have hD : va_D A (wX0 d g (w, am, pt, mv, sp) ++ wX1 d2 g2 (w, mv2, pt2, am)) := hD
  refine lv_icmp_eq (tgt := 399) hx hb dL_law_309 (by decide) (fun c_309 => ?_) (fun c_309 => ?_)
  · exact N _ _ _ _ _ _ _ h0 hsm H locs hP hD hS ls (lv_sub hl [0, 1, 2, 3] rfl)
  · exact absurd (hr1.trans hr2.symm) c_309
end
end
section
/-! the law, case 8: inCore -/
set_option maxRecDepth 100000
section
variable {p : Program} {l : Launch} {e : Env} {s : State} {m : MethodId} {args : Array Value} {below : List Frame} {meth : Method} {c : Code} {H : Heap} {locs : List Loc} {Q : State → Prop} {A : Nat → Prop}
variable {D : va_G} {d d2 : Nat → ClassId} {g g2 : Nat → Nat} {w am pt mv sp mv2 pt2 : Nat → Int32} {b L i : Nat} {xs : Nat → Int32}
set_option maxHeartbeats 4000000 in
set_option maxRecDepth 100000 in
theorem law_inCore (F : CallFix p m c code 4 s args lw_all R_law) (hA : ∀ q : Nat, s.heap.size ≤ q → A q) (hX : va_X b L xs s s.heap) (hbl : b < s.heap.size) (hbA : ¬ A b) (hL : L ≤ 192) (hi : i + 3 ≤ L) (hK : va_K D vwCl (tX0 d ++ tX1 d2) s) (h0 : w 0 = 0) (hsm : small w) (N : ∀ w am pt mv sp mv2 pt2 : Nat → Int32, w 0 = 0 → small w → ∀ (H : Heap) (locs : List Loc), va_P D vwCl (wX0 d g (w, am, pt, mv, sp) ++ wX1 d2 g2 (w, mv2, pt2, am)) H → va_D A (wX0 d g (w, am, pt, mv, sp) ++ wX1 d2 g2 (w, mv2, pt2, am)) → va_S A s.heap H locs → ∀ ls : Array Slot, lv_has ls 4 [(0, .ref b), (1, .ref (g 0)), (2, .ref (g2 0)), (3, .int (nI i))] → W p l e room_1 s m args below meth c H locs 11 243 Q (F0 m 399 ls [])) (hP : va_P D vwCl (wX0 d g (w, am, pt, mv, sp) ++ wX1 d2 g2 (w, mv2, pt2, am)) H) (hD : va_D A (wX0 d g (w, am, pt, mv, sp) ++ wX1 d2 g2 (w, mv2, pt2, am))) (hS : va_S A s.heap H locs) (ls : Array Slot) (hl : lv_has ls 4 [(0, .ref b), (1, .ref (g 0)), (2, .ref (g2 0)), (3, .int (nI i))]) : W p l e room_1 s m args below meth c H locs 11 243 Q (F0 m 314 ls []) := by
  have hx := F.1
  have hb := F.2.1
  have hown := F.2.2.2.1
  have hts := F.2.2.2.2
  refine lv_aload_n hx hb dL_law_314 rfl (lv_at hl 1 rfl) ?_
  refine cm_call (wf := wX0 d g) (rest := []) (wr := wX1 d2 g2 (w, mv2, pt2, am)) F (x0_inCore l D d g _ w am pt mv sp ) (cwV 0 hts (lw_V q87 q88 q89 q8 q90) rfl rfl rfl (by decide +kernel) ⟨Nat.le_of_ble_eq_true rfl, Nat.le_of_ble_eq_true rfl⟩) (ci := 0) rfl rfl rfl hK [0, 1, 2, 3, 4] rfl hP hD hS hA [0, 1, 2, 3, 4, 5] [6, 7, 8, 9, 10] rfl rfl rfl (by decide) (by decide) (by decide) rfl hl.1 rfl (Nat.le_of_ble_eq_true rfl) ⟨Nat.le_of_ble_eq_true rfl, Nat.le_of_ble_eq_true rfl⟩ dL_law_315 (fun r1 u1 H locs hw1 hP hD hS => ?_)
  obtain ⟨hr1, rfl⟩ := hw1
  have hP : va_P D vwCl (wX1 d2 g2 (w, mv2, pt2, am) ++ wX0 d g (w, am, pt, mv, sp)) H := hP
  have hD : va_D A (wX1 d2 g2 (w, mv2, pt2, am) ++ wX0 d g (w, am, pt, mv, sp)) := hD
  refine lv_aload_n hx hb dL_law_318 rfl (lv_at hl 2 rfl) ?_
  refine cm_call (wf := wX1 d2 g2) (rest := [.int r1]) (wr := wX0 d g (w, am, pt, mv, sp)) F (x1_inCore l D d2 g2 _ w mv2 pt2 am ) (cwV 0 hts (lw_V q175 q176 q177 q9 q178) rfl rfl rfl (by decide +kernel) ⟨Nat.le_of_ble_eq_true rfl, Nat.le_of_ble_eq_true rfl⟩) (ci := 1) rfl rfl rfl hK [5, 6, 7, 8] rfl hP hD hS hA [0, 1, 2, 3, 4] [5, 6, 7, 8, 9, 10] rfl rfl rfl (by decide) (by decide) (by decide) rfl hl.1 rfl (Nat.le_of_ble_eq_true rfl) ⟨Nat.le_of_ble_eq_true rfl, Nat.le_of_ble_eq_true rfl⟩ dL_law_319 (fun r2 u2 H locs hw2 hP hD hS => ?_)
  obtain ⟨hr2, rfl⟩ := hw2
  have hP : va_P D vwCl (wX0 d g (w, am, pt, mv, sp) ++ wX1 d2 g2 (w, mv2, pt2, am)) H := hP
  have hD : va_D A (wX0 d g (w, am, pt, mv, sp) ++ wX1 d2 g2 (w, mv2, pt2, am)) := hD
  refine lv_icmp_eq (tgt := 399) hx hb dL_law_322 (by decide) (fun c_322 => ?_) (fun c_322 => ?_)
  · exact N _ _ _ _ _ _ _ h0 hsm H locs hP hD hS ls (lv_sub hl [0, 1, 2, 3] rfl)
  · exact absurd (hr1.trans hr2.symm) c_322
end
end
section
/-! the law, case 9: convex -/
set_option maxRecDepth 100000
section
variable {p : Program} {l : Launch} {e : Env} {s : State} {m : MethodId} {args : Array Value} {below : List Frame} {meth : Method} {c : Code} {H : Heap} {locs : List Loc} {Q : State → Prop} {A : Nat → Prop}
variable {D : va_G} {d d2 : Nat → ClassId} {g g2 : Nat → Nat} {w am pt mv sp mv2 pt2 : Nat → Int32} {b L i : Nat} {xs : Nat → Int32}
set_option maxHeartbeats 4000000 in
set_option maxRecDepth 100000 in
theorem law_convex (F : CallFix p m c code 4 s args lw_all R_law) (hA : ∀ q : Nat, s.heap.size ≤ q → A q) (hX : va_X b L xs s s.heap) (hbl : b < s.heap.size) (hbA : ¬ A b) (hL : L ≤ 192) (hi : i + 3 ≤ L) (hK : va_K D vwCl (tX0 d ++ tX1 d2) s) (h0 : w 0 = 0) (hsm : small w) (N : ∀ w am pt mv sp mv2 pt2 : Nat → Int32, w 0 = 0 → small w → ∀ (H : Heap) (locs : List Loc), va_P D vwCl (wX0 d g (w, am, pt, mv, sp) ++ wX1 d2 g2 (w, mv2, pt2, am)) H → va_D A (wX0 d g (w, am, pt, mv, sp) ++ wX1 d2 g2 (w, mv2, pt2, am)) → va_S A s.heap H locs → ∀ ls : Array Slot, lv_has ls 4 [(0, .ref b), (1, .ref (g 0)), (2, .ref (g2 0)), (3, .int (nI i))] → W p l e room_1 s m args below meth c H locs 11 243 Q (F0 m 399 ls [])) (hP : va_P D vwCl (wX0 d g (w, am, pt, mv, sp) ++ wX1 d2 g2 (w, mv2, pt2, am)) H) (hD : va_D A (wX0 d g (w, am, pt, mv, sp) ++ wX1 d2 g2 (w, mv2, pt2, am))) (hS : va_S A s.heap H locs) (ls : Array Slot) (hl : lv_has ls 4 [(0, .ref b), (1, .ref (g 0)), (2, .ref (g2 0)), (3, .int (nI i))]) : W p l e room_1 s m args below meth c H locs 11 243 Q (F0 m 327 ls []) := by
  have hx := F.1
  have hb := F.2.1
  have hown := F.2.2.2.1
  have hts := F.2.2.2.2
  refine lv_aload_n hx hb dL_law_327 rfl (lv_at hl 1 rfl) ?_
  refine cm_call (wf := wX0 d g) (rest := []) (wr := wX1 d2 g2 (w, mv2, pt2, am)) F (x0_convex l D d g _ w am pt mv sp ) (cwV 0 hts (lw_V q92 q93 q94 q8 q95) rfl rfl rfl (by decide +kernel) ⟨Nat.le_of_ble_eq_true rfl, Nat.le_of_ble_eq_true rfl⟩) (ci := 0) rfl rfl rfl hK [0, 1, 2, 3, 4] rfl hP hD hS hA [0, 1, 2, 3, 4, 5] [6, 7, 8, 9, 10] rfl rfl rfl (by decide) (by decide) (by decide) rfl hl.1 rfl (Nat.le_of_ble_eq_true rfl) ⟨Nat.le_of_ble_eq_true rfl, Nat.le_of_ble_eq_true rfl⟩ dL_law_328 (fun r1 u1 H locs hw1 hP hD hS => ?_)
  obtain ⟨hr1, rfl⟩ := hw1
  have hP : va_P D vwCl (wX1 d2 g2 (w, mv2, pt2, am) ++ wX0 d g (w, am, pt, mv, sp)) H := hP
  have hD : va_D A (wX1 d2 g2 (w, mv2, pt2, am) ++ wX0 d g (w, am, pt, mv, sp)) := hD
  refine lv_aload_n hx hb dL_law_331 rfl (lv_at hl 2 rfl) ?_
  refine cm_call (wf := wX1 d2 g2) (rest := [.int r1]) (wr := wX0 d g (w, am, pt, mv, sp)) F (x1_convex l D d2 g2 _ w mv2 pt2 am ) (cwV 0 hts (lw_V q180 q181 q182 q9 q183) rfl rfl rfl (by decide +kernel) ⟨Nat.le_of_ble_eq_true rfl, Nat.le_of_ble_eq_true rfl⟩) (ci := 1) rfl rfl rfl hK [5, 6, 7, 8] rfl hP hD hS hA [0, 1, 2, 3, 4] [5, 6, 7, 8, 9, 10] rfl rfl rfl (by decide) (by decide) (by decide) rfl hl.1 rfl (Nat.le_of_ble_eq_true rfl) ⟨Nat.le_of_ble_eq_true rfl, Nat.le_of_ble_eq_true rfl⟩ dL_law_332 (fun r2 u2 H locs hw2 hP hD hS => ?_)
  obtain ⟨hr2, rfl⟩ := hw2
  have hP : va_P D vwCl (wX0 d g (w, am, pt, mv, sp) ++ wX1 d2 g2 (w, mv2, pt2, am)) H := hP
  have hD : va_D A (wX0 d g (w, am, pt, mv, sp) ++ wX1 d2 g2 (w, mv2, pt2, am)) := hD
  refine lv_icmp_eq (tgt := 399) hx hb dL_law_335 (by decide) (fun c_335 => ?_) (fun c_335 => ?_)
  · exact N _ _ _ _ _ _ _ h0 hsm H locs hP hD hS ls (lv_sub hl [0, 1, 2, 3] rfl)
  · exact absurd (yn_eq hr1 hr2 ⟨cx_XM, cx_MX hsm⟩) c_335
end
end
section
/-! the law, case 10: superadditive -/
set_option maxRecDepth 100000
section
variable {p : Program} {l : Launch} {e : Env} {s : State} {m : MethodId} {args : Array Value} {below : List Frame} {meth : Method} {c : Code} {H : Heap} {locs : List Loc} {Q : State → Prop} {A : Nat → Prop}
variable {D : va_G} {d d2 : Nat → ClassId} {g g2 : Nat → Nat} {w am pt mv sp mv2 pt2 : Nat → Int32} {b L i : Nat} {xs : Nat → Int32}
set_option maxHeartbeats 4000000 in
set_option maxRecDepth 100000 in
theorem law_superadditive (F : CallFix p m c code 4 s args lw_all R_law) (hA : ∀ q : Nat, s.heap.size ≤ q → A q) (hX : va_X b L xs s s.heap) (hbl : b < s.heap.size) (hbA : ¬ A b) (hL : L ≤ 192) (hi : i + 3 ≤ L) (hK : va_K D vwCl (tX0 d ++ tX1 d2) s) (h0 : w 0 = 0) (hsm : small w) (N : ∀ w am pt mv sp mv2 pt2 : Nat → Int32, w 0 = 0 → small w → ∀ (H : Heap) (locs : List Loc), va_P D vwCl (wX0 d g (w, am, pt, mv, sp) ++ wX1 d2 g2 (w, mv2, pt2, am)) H → va_D A (wX0 d g (w, am, pt, mv, sp) ++ wX1 d2 g2 (w, mv2, pt2, am)) → va_S A s.heap H locs → ∀ ls : Array Slot, lv_has ls 4 [(0, .ref b), (1, .ref (g 0)), (2, .ref (g2 0)), (3, .int (nI i))] → W p l e room_1 s m args below meth c H locs 11 243 Q (F0 m 399 ls [])) (hP : va_P D vwCl (wX0 d g (w, am, pt, mv, sp) ++ wX1 d2 g2 (w, mv2, pt2, am)) H) (hD : va_D A (wX0 d g (w, am, pt, mv, sp) ++ wX1 d2 g2 (w, mv2, pt2, am))) (hS : va_S A s.heap H locs) (ls : Array Slot) (hl : lv_has ls 4 [(0, .ref b), (1, .ref (g 0)), (2, .ref (g2 0)), (3, .int (nI i))]) : W p l e room_1 s m args below meth c H locs 11 243 Q (F0 m 340 ls []) := by
  have hx := F.1
  have hb := F.2.1
  have hown := F.2.2.2.1
  have hts := F.2.2.2.2
  refine lv_aload_n hx hb dL_law_340 rfl (lv_at hl 1 rfl) ?_
  refine cm_call (wf := wX0 d g) (rest := []) (wr := wX1 d2 g2 (w, mv2, pt2, am)) F (x0_superadditive l D d g _ w am pt mv sp ) (cwV 0 hts (lw_V q100 q101 q102 q8 q103) rfl rfl rfl (by decide +kernel) ⟨Nat.le_of_ble_eq_true rfl, Nat.le_of_ble_eq_true rfl⟩) (ci := 0) rfl rfl rfl hK [0, 1, 2, 3, 4] rfl hP hD hS hA [0, 1, 2, 3, 4, 5] [6, 7, 8, 9, 10] rfl rfl rfl (by decide) (by decide) (by decide) rfl hl.1 rfl (Nat.le_of_ble_eq_true rfl) ⟨Nat.le_of_ble_eq_true rfl, Nat.le_of_ble_eq_true rfl⟩ dL_law_341 (fun r1 u1 H locs hw1 hP hD hS => ?_)
  obtain ⟨hr1, rfl⟩ := hw1
  have hP : va_P D vwCl (wX1 d2 g2 (w, mv2, pt2, am) ++ wX0 d g (w, am, pt, mv, sp)) H := hP
  have hD : va_D A (wX1 d2 g2 (w, mv2, pt2, am) ++ wX0 d g (w, am, pt, mv, sp)) := hD
  refine lv_aload_n hx hb dL_law_344 rfl (lv_at hl 2 rfl) ?_
  refine cm_call (wf := wX1 d2 g2) (rest := [.int r1]) (wr := wX0 d g (w, am, pt, mv, sp)) F (x1_superadditive l D d2 g2 _ w mv2 pt2 am ) (cwV 0 hts (lw_V q184 q185 q186 q9 q187) rfl rfl rfl (by decide +kernel) ⟨Nat.le_of_ble_eq_true rfl, Nat.le_of_ble_eq_true rfl⟩) (ci := 1) rfl rfl rfl hK [5, 6, 7, 8] rfl hP hD hS hA [0, 1, 2, 3, 4] [5, 6, 7, 8, 9, 10] rfl rfl rfl (by decide) (by decide) (by decide) rfl hl.1 rfl (Nat.le_of_ble_eq_true rfl) ⟨Nat.le_of_ble_eq_true rfl, Nat.le_of_ble_eq_true rfl⟩ dL_law_345 (fun r2 u2 H locs hw2 hP hD hS => ?_)
  obtain ⟨hr2, rfl⟩ := hw2
  have hP : va_P D vwCl (wX0 d g (w, am, pt, mv, sp) ++ wX1 d2 g2 (w, mv2, pt2, am)) H := hP
  have hD : va_D A (wX0 d g (w, am, pt, mv, sp) ++ wX1 d2 g2 (w, mv2, pt2, am)) := hD
  refine lv_icmp_eq (tgt := 399) hx hb dL_law_348 (by decide) (fun c_348 => ?_) (fun c_348 => ?_)
  · exact N _ _ _ _ _ _ _ h0 hsm H locs hP hD hS ls (lv_sub hl [0, 1, 2, 3] rfl)
  · exact absurd (yn_eq hr1 hr2 ⟨sa_XM, sa_MX h0⟩) c_348
end
end
section
/-! the law, case 11: alike -/
set_option maxRecDepth 100000
section
variable {p : Program} {l : Launch} {e : Env} {s : State} {m : MethodId} {args : Array Value} {below : List Frame} {meth : Method} {c : Code} {H : Heap} {locs : List Loc} {Q : State → Prop} {A : Nat → Prop}
variable {D : va_G} {d d2 : Nat → ClassId} {g g2 : Nat → Nat} {w am pt mv sp mv2 pt2 : Nat → Int32} {b L i : Nat} {xs : Nat → Int32}
set_option maxHeartbeats 4000000 in
set_option maxRecDepth 100000 in
theorem law_alike (F : CallFix p m c code 4 s args lw_all R_law) (hA : ∀ q : Nat, s.heap.size ≤ q → A q) (hX : va_X b L xs s s.heap) (hbl : b < s.heap.size) (hbA : ¬ A b) (hL : L ≤ 192) (hi : i + 3 ≤ L) (hK : va_K D vwCl (tX0 d ++ tX1 d2) s) (h0 : w 0 = 0) (hsm : small w) (N : ∀ w am pt mv sp mv2 pt2 : Nat → Int32, w 0 = 0 → small w → ∀ (H : Heap) (locs : List Loc), va_P D vwCl (wX0 d g (w, am, pt, mv, sp) ++ wX1 d2 g2 (w, mv2, pt2, am)) H → va_D A (wX0 d g (w, am, pt, mv, sp) ++ wX1 d2 g2 (w, mv2, pt2, am)) → va_S A s.heap H locs → ∀ ls : Array Slot, lv_has ls 4 [(0, .ref b), (1, .ref (g 0)), (2, .ref (g2 0)), (3, .int (nI i))] → W p l e room_1 s m args below meth c H locs 11 243 Q (F0 m 399 ls [])) (hP : va_P D vwCl (wX0 d g (w, am, pt, mv, sp) ++ wX1 d2 g2 (w, mv2, pt2, am)) H) (hD : va_D A (wX0 d g (w, am, pt, mv, sp) ++ wX1 d2 g2 (w, mv2, pt2, am))) (hS : va_S A s.heap H locs) (ls : Array Slot) (hl : lv_has ls 4 [(0, .ref b), (1, .ref (g 0)), (2, .ref (g2 0)), (3, .int (nI i))]) : W p l e room_1 s m args below meth c H locs 11 243 Q (F0 m 353 ls []) := by
  have hx := F.1
  have hb := F.2.1
  have hown := F.2.2.2.1
  have hts := F.2.2.2.2
  refine lv_aload_n hx hb dL_law_353 rfl (lv_at hl 1 rfl) ?_
  refine lv_aload_n hx hb dL_law_354 rfl (lv_at hl 0 rfl) ?_
  refine lv_iload_n hx hb dL_law_355 rfl (lv_at hl 3 rfl) ?_
  refine lv_iconst (v := nI 1) hx hb dL_law_356 (by decide +kernel) ?_
  refine cn_iadd hx hb dL_law_357 ?_
  refine cv_sld hx hb hX hbl hbA hS hL (by omega) dL_law_358 ?_
  refine lv_aload_n hx hb dL_law_359 rfl (lv_at hl 0 rfl) ?_
  refine lv_iload_n hx hb dL_law_360 rfl (lv_at hl 3 rfl) ?_
  refine lv_iconst (v := nI 2) hx hb dL_law_361 (by decide +kernel) ?_
  refine cn_iadd hx hb dL_law_362 ?_
  refine cv_sld hx hb hX hbl hbA hS hL (by omega) dL_law_363 ?_
  refine cm_call (wf := wX0 d g) (rest := []) (wr := wX1 d2 g2 (w, mv2, pt2, am)) F (x0_alike l D d g _ w am pt mv sp (xs (i + 1)) (xs (i + 2))) (cwV 2 hts (lw_V q104 q105 q106 q8 q107) rfl rfl rfl (by decide +kernel) ⟨Nat.le_of_ble_eq_true rfl, Nat.le_of_ble_eq_true rfl⟩) (ci := 0) rfl rfl rfl hK [0, 1, 2, 3, 4] rfl hP hD hS hA [0, 1, 2, 3, 4, 5] [6, 7, 8, 9, 10] rfl rfl rfl (by decide) (by decide) (by decide) rfl hl.1 rfl (Nat.le_of_ble_eq_true rfl) ⟨Nat.le_of_ble_eq_true rfl, Nat.le_of_ble_eq_true rfl⟩ dL_law_364 (fun r1 u1 H locs hw1 hP hD hS => ?_)
  obtain ⟨hr1, rfl⟩ := hw1
  have hP : va_P D vwCl (wX1 d2 g2 (w, mv2, pt2, am) ++ wX0 d g (w, am, pt, mv, sp)) H := hP
  have hD : va_D A (wX1 d2 g2 (w, mv2, pt2, am) ++ wX0 d g (w, am, pt, mv, sp)) := hD
  refine lv_aload_n hx hb dL_law_367 rfl (lv_at hl 2 rfl) ?_
  refine lv_aload_n hx hb dL_law_368 rfl (lv_at hl 0 rfl) ?_
  refine lv_iload_n hx hb dL_law_369 rfl (lv_at hl 3 rfl) ?_
  refine lv_iconst (v := nI 1) hx hb dL_law_370 (by decide +kernel) ?_
  refine cn_iadd hx hb dL_law_371 ?_
  refine cv_sld hx hb hX hbl hbA hS hL (by omega) dL_law_372 ?_
  refine lv_aload_n hx hb dL_law_373 rfl (lv_at hl 0 rfl) ?_
  refine lv_iload_n hx hb dL_law_374 rfl (lv_at hl 3 rfl) ?_
  refine lv_iconst (v := nI 2) hx hb dL_law_375 (by decide +kernel) ?_
  refine cn_iadd hx hb dL_law_376 ?_
  refine cv_sld hx hb hX hbl hbA hS hL (by omega) dL_law_377 ?_
  refine cm_call (wf := wX1 d2 g2) (rest := [.int r1]) (wr := wX0 d g (w, am, pt, mv, sp)) F (x1_alike l D d2 g2 _ w mv2 pt2 am (xs (i + 1)) (xs (i + 2))) (cwV 2 hts (lw_V q188 q189 q190 q9 q191) rfl rfl rfl (by decide +kernel) ⟨Nat.le_of_ble_eq_true rfl, Nat.le_of_ble_eq_true rfl⟩) (ci := 1) rfl rfl rfl hK [5, 6, 7, 8] rfl hP hD hS hA [0, 1, 2, 3, 4] [5, 6, 7, 8, 9, 10] rfl rfl rfl (by decide) (by decide) (by decide) rfl hl.1 rfl (Nat.le_of_ble_eq_true rfl) ⟨Nat.le_of_ble_eq_true rfl, Nat.le_of_ble_eq_true rfl⟩ dL_law_378 (fun r2 u2 H locs hw2 hP hD hS => ?_)
  obtain ⟨hr2, rfl⟩ := hw2
  have hP : va_P D vwCl (wX0 d g (w, am, pt, mv, sp) ++ wX1 d2 g2 (w, mv2, pt2, am)) H := hP
  have hD : va_D A (wX0 d g (w, am, pt, mv, sp) ++ wX1 d2 g2 (w, mv2, pt2, am)) := hD
  refine lv_icmp_eq (tgt := 399) hx hb dL_law_381 (by decide) (fun c_381 => ?_) (fun c_381 => ?_)
  · exact N _ _ _ _ _ _ _ h0 hsm H locs hP hD hS ls (lv_sub hl [0, 1, 2, 3] rfl)
  · exact absurd (alP_eq hr1 hr2) c_381
end
end
section
/-! the law, case 12: bestSplit -/
set_option maxRecDepth 100000
section
variable {p : Program} {l : Launch} {e : Env} {s : State} {m : MethodId} {args : Array Value} {below : List Frame} {meth : Method} {c : Code} {H : Heap} {locs : List Loc} {Q : State → Prop} {A : Nat → Prop}
variable {D : va_G} {d d2 : Nat → ClassId} {g g2 : Nat → Nat} {w am pt mv sp mv2 pt2 : Nat → Int32} {b L i : Nat} {xs : Nat → Int32}
set_option maxHeartbeats 4000000 in
set_option maxRecDepth 100000 in
theorem law_bestSplit (F : CallFix p m c code 4 s args lw_all R_law) (hA : ∀ q : Nat, s.heap.size ≤ q → A q) (hX : va_X b L xs s s.heap) (hbl : b < s.heap.size) (hbA : ¬ A b) (hL : L ≤ 192) (hi : i + 3 ≤ L) (hK : va_K D vwCl (tX0 d ++ tX1 d2) s) (h0 : w 0 = 0) (hsm : small w) (N : ∀ w am pt mv sp mv2 pt2 : Nat → Int32, w 0 = 0 → small w → ∀ (H : Heap) (locs : List Loc), va_P D vwCl (wX0 d g (w, am, pt, mv, sp) ++ wX1 d2 g2 (w, mv2, pt2, am)) H → va_D A (wX0 d g (w, am, pt, mv, sp) ++ wX1 d2 g2 (w, mv2, pt2, am)) → va_S A s.heap H locs → ∀ ls : Array Slot, lv_has ls 4 [(0, .ref b), (1, .ref (g 0)), (2, .ref (g2 0)), (3, .int (nI i))] → W p l e room_1 s m args below meth c H locs 11 243 Q (F0 m 399 ls [])) (hP : va_P D vwCl (wX0 d g (w, am, pt, mv, sp) ++ wX1 d2 g2 (w, mv2, pt2, am)) H) (hD : va_D A (wX0 d g (w, am, pt, mv, sp) ++ wX1 d2 g2 (w, mv2, pt2, am))) (hS : va_S A s.heap H locs) (ls : Array Slot) (hl : lv_has ls 4 [(0, .ref b), (1, .ref (g 0)), (2, .ref (g2 0)), (3, .int (nI i))]) : W p l e room_1 s m args below meth c H locs 11 243 Q (F0 m 386 ls []) := by
  have hx := F.1
  have hb := F.2.1
  have hown := F.2.2.2.1
  have hts := F.2.2.2.2
  refine lv_aload_n hx hb dL_law_386 rfl (lv_at hl 1 rfl) ?_
  refine cm_call (wf := wX0 d g) (rest := []) (wr := wX1 d2 g2 (w, mv2, pt2, am)) F (x0_bestSplit l D d g _ w am pt mv sp ) (cwV 0 hts (lw_V q108 q109 q110 q8 q111) rfl rfl rfl (by decide +kernel) ⟨Nat.le_of_ble_eq_true rfl, Nat.le_of_ble_eq_true rfl⟩) (ci := 0) rfl rfl rfl hK [0, 1, 2, 3, 4] rfl hP hD hS hA [0, 1, 2, 3, 4, 5] [6, 7, 8, 9, 10] rfl rfl rfl (by decide) (by decide) (by decide) rfl hl.1 rfl (Nat.le_of_ble_eq_true rfl) ⟨Nat.le_of_ble_eq_true rfl, Nat.le_of_ble_eq_true rfl⟩ dL_law_387 (fun r1 u1 H locs hw1 hP hD hS => ?_)
  obtain ⟨w9, am9, pt9, mv9, sp9⟩ := u1
  obtain ⟨hr1, e1, e2⟩ := hw1
  have e1 : w9 = w := e1
  have e2 : am9 = am := e2
  have hP : va_P D vwCl (wX1 d2 g2 (w, mv2, pt2, am) ++ wX0 d g (w9, am9, pt9, mv9, sp9)) H := hP
  have hD : va_D A (wX1 d2 g2 (w, mv2, pt2, am) ++ wX0 d g (w9, am9, pt9, mv9, sp9)) := hD
  rw [e1, e2] at hP hD
  have hP : va_P D vwCl (wX1 d2 g2 (w, mv2, pt2, am) ++ wX0 d g (w, am, pt9, mv9, sp9)) H := hP
  have hD : va_D A (wX1 d2 g2 (w, mv2, pt2, am) ++ wX0 d g (w, am, pt9, mv9, sp9)) := hD
  refine lv_aload_n hx hb dL_law_390 rfl (lv_at hl 2 rfl) ?_
  refine cm_call (wf := wX1 d2 g2) (rest := [.int r1]) (wr := wX0 d g (w, am, pt9, mv9, sp9)) F (x1_bestSplit l D d2 g2 _ w mv2 pt2 am ) (cwV 0 hts (lw_V q192 q193 q194 q9 q195) rfl rfl rfl (by decide +kernel) ⟨Nat.le_of_ble_eq_true rfl, Nat.le_of_ble_eq_true rfl⟩) (ci := 1) rfl rfl rfl hK [5, 6, 7, 8] rfl hP hD hS hA [0, 1, 2, 3, 4] [5, 6, 7, 8, 9, 10] rfl rfl rfl (by decide) (by decide) (by decide) rfl hl.1 rfl (Nat.le_of_ble_eq_true rfl) ⟨Nat.le_of_ble_eq_true rfl, Nat.le_of_ble_eq_true rfl⟩ dL_law_391 (fun r2 u2 H locs hw2 hP hD hS => ?_)
  obtain ⟨hr2, rfl⟩ := hw2
  have hP : va_P D vwCl (wX0 d g (w, am, pt9, mv9, sp9) ++ wX1 d2 g2 (w, mv2, pt2, am)) H := hP
  have hD : va_D A (wX0 d g (w, am, pt9, mv9, sp9) ++ wX1 d2 g2 (w, mv2, pt2, am)) := hD
  refine lv_icmp_eq (tgt := 399) hx hb dL_law_394 (by decide) (fun c_394 => ?_) (fun c_394 => ?_)
  · exact N _ _ _ _ _ _ _ h0 hsm H locs hP hD hS ls (lv_sub hl [0, 1, 2, 3] rfl)
  · obtain ⟨sp7, z7, t7, e7⟩ := hr1
    exact absurd (e7.trans ((best_eq hsm h0 z7 t7).trans hr2.symm)) c_394
end
end
section
set_option maxRecDepth 100000
/-! THE CLAIM OUT OF ONE WALK OF THE LAW'S BODY. Your part is whole_start (and what it stands on); all else here is the same for every law, but numbers. -/
def lw_P (b : Addr) (xs : List Int32) (args : Array Value) (s : State) : Prop := args = #[.ref b] ∧ s.IntsAt b xs ∧ xs.length ≤ 192 ∧ (Jvm.Cond.and given_1 narrow_1).before args s = true
def lw_Q (_ : Array Value) (s : State) (o : Outcome) (t : State) : Prop := o = .returned (some (.int 1)) ∧ Framed s o t [] 600000 7290000
def lw_Z (below : List Frame) (a : Array Value) (s : State) : State → Prop := fun t => ∃ o, t.status = .running ∧ Ended t below o ∧ lw_Q a s o t
/-- the law's own end, with 1 on the stack, nothing written that was there before, its room as the claim has it -/
theorem lw_ret {p : Program} {l : Launch} {e : Env} {s : State} {m : MethodId} {below : List Frame} {meth : Method} {c : Code} {b : Nat} (hx : p.tables.exec = Jvm.exec) (hb : c.code = code) (hr : meth.sig.returnType = ret) (hlocks : meth.locks = false) {pc : Nat} {H : Heap} {ls : Array Slot} (hdg : decode code pc = .ok (.ireturn, 1)) : W p l e room_1 s m #[Value.ref b] below meth c H [] 600000 7290000 (lw_Z below #[Value.ref b] s) (F0 m pc ls [.int 1]) := by
  intro T hT X
  obtain ⟨fs, hret, hrun, hended, hW, hframe⟩ := X.leave (v := some (.int 1)) (hlocks := hlocks) (fun h => by rw [hr] at h; cases h)
  have hmeth' : T.vm.method? m = some meth := X.method'
  refine ⟨T.setFrames fs, ?_, .returned (some (.int 1)), hrun, hended, rfl, ⟨_, rfl⟩, hW, hframe⟩
  jvm_step X.here [X.here.top, hx, hb, hdg, hmeth', hr, ret, narrow_b1]
  (try refine ⟨rfl, ?_⟩); (try refine ⟨rfl, ?_⟩)
  first | (intro acts; rw [hret _ acts rfl rfl rfl]) | rw [hret _ _ rfl rfl rfl]
  exact Steps.refl _
/-- what holds at the law's entry: the machine, the code, the tables' words (any of lw_tbl by 'hts w (by decide +kernel)'), the script of L ints xs at the cell b, what the Statement gives of the start (any of its parts by flat_of_before) -/
def lw_At (p : Program) (s : State) (m : MethodId) (meth : Method) (c : Code) (b L : Nat) (xs : Nat → Int32) : Prop :=
  p.tables.exec = Jvm.exec ∧ c.code = code ∧ meth.sig.returnType = ret ∧ c.maxLocals = 4 ∧ s.vm.findClass R_law = some m.cls ∧ (∀ w ∈ lw_tbl, w.before #[Value.ref b] s = true) ∧ va_X b L xs s s.heap ∧ b < s.heap.size ∧ meth.locks = false ∧ (Jvm.Cond.and given_1 narrow_1).before #[Value.ref b] s = true

set_option maxHeartbeats 4000000 in
set_option maxRecDepth 100000 in
theorem law_gt {L i : Nat} (hL : L ≤ 192) (hi : i ≤ 200) (h : ¬ nI L - nI 3 < nI i) : i + 3 ≤ L := by
  rw [Int32.lt_iff_toInt_lt, pk_sub_toInt (by omega) (by omega), nI_toInt (by omega)] at h
  omega
set_option maxHeartbeats 4000000 in
set_option maxRecDepth 100000 in
/-- the law's loop at its head: both objects hold the same worths and amounts -/
theorem law_loop {p : Program} {l : Launch} {e : Env} {s : State} {m : MethodId} {below : List Frame} {meth : Method} {c : Code} {D : va_G} {d d2 : Nat → ClassId} {g g2 : Nat → Nat} {b L : Nat} {xs : Nat → Int32} (hL : L ≤ 192) (C0 : lw_At p s m meth c b L xs) (hK : va_K D vwCl (tX0 d ++ tX1 d2) s) :
    ∀ (n i : Nat), i ≤ L → L + 1 ≤ i + n → ∀ w am pt mv sp mv2 pt2 : Nat → Int32, w 0 = 0 → small w → ∀ (H : Heap) (locs : List Loc), va_P D vwCl (wX0 d g (w, am, pt, mv, sp) ++ wX1 d2 g2 (w, mv2, pt2, am)) H → va_D (fun q : Nat => s.heap.size ≤ q) (wX0 d g (w, am, pt, mv, sp) ++ wX1 d2 g2 (w, mv2, pt2, am)) → va_S (fun q : Nat => s.heap.size ≤ q) s.heap H locs → ∀ ls : Array Slot, lv_has ls 4 [(0, .ref b), (1, .ref (g 0)), (2, .ref (g2 0)), (3, .int (nI i))] → W p l e room_1 s m #[Value.ref b] below meth c H locs 11 243 (lw_Z below #[Value.ref b] s) (F0 m 18 ls []) := by
  obtain ⟨hx, hb, hr, hml, hown, hts0, hX, hbl, hlocks, hgv⟩ := C0
  have hts : ∀ w ∈ lw_all, w.before #[Value.ref b] s = true := fun w h => hts0 w (lw_all_tbl h)
  have F : CallFix p m c code 4 s #[Value.ref b] lw_all R_law := ⟨hx, hb, hml, hown, hts⟩
  have hA : ∀ q : Nat, s.heap.size ≤ q → (fun q : Nat => s.heap.size ≤ q) q := fun _ h => h
  have hbA : ¬ (fun q : Nat => s.heap.size ≤ q) b := Nat.not_le.mpr hbl
  intro n
  induction n with
  | zero =>
    intro i h1 h2
    exact absurd h2 (by omega)
  | succ n ih =>
    intro i hi hin w am pt mv sp mv2 pt2 h0 hsm H locs hP hD hS ls hl
    refine lv_iload_n hx hb dL_law_18 rfl (lv_at hl 3 rfl) ?_
    refine lv_aload_n hx hb dL_law_19 rfl (lv_at hl 0 rfl) ?_
    refine va_slen hx hb hX hbl hbA hS dL_law_20 ?_
    refine lv_iconst (v := nI 3) hx hb dL_law_21 (by decide +kernel) ?_
    refine lv_isub hx hb dL_law_22 ?_
    refine lv_icmp_gt (tgt := 405) hx hb dL_law_23 (by decide) (fun c_23 => ?_) (fun c_23 => ?_)
    · refine lv_iconst (v := 1) hx hb dL_law_405 (by decide +kernel) ?_
      refine va_forget (fun q hq => hS.2.2 q hq) ?_
      refine W.widen (k := 600000) (n := 7290000) (by decide) (by decide) ?_
      exact lw_ret hx hb hr hlocks dL_law_406
    · have hi3 : i + 3 ≤ L := law_gt hL (by omega) c_23
      have N : ∀ w am pt mv sp mv2 pt2 : Nat → Int32, w 0 = 0 → small w → ∀ (H : Heap) (locs : List Loc), va_P D vwCl (wX0 d g (w, am, pt, mv, sp) ++ wX1 d2 g2 (w, mv2, pt2, am)) H → va_D (fun q : Nat => s.heap.size ≤ q) (wX0 d g (w, am, pt, mv, sp) ++ wX1 d2 g2 (w, mv2, pt2, am)) → va_S (fun q : Nat => s.heap.size ≤ q) s.heap H locs → ∀ ls : Array Slot, lv_has ls 4 [(0, .ref b), (1, .ref (g 0)), (2, .ref (g2 0)), (3, .int (nI i))] → W p l e room_1 s m #[Value.ref b] below meth c H locs 11 243 (lw_Z below #[Value.ref b] s) (F0 m 399 ls []) := by
        intro w am pt mv sp mv2 pt2 h0 hsm H locs hP hD hS ls hl
        refine lv_iinc (v := nI (i + 3)) (lv' := [(3, .int (nI (i + 3))), (0, .ref b), (1, .ref (g 0)), (2, .ref (g2 0))]) hx hb dL_law_399 hl (k := 3) rfl (nI_add i 3) (by decide) rfl (fun ls hl => ?_)
        refine lv_goto (tgt := 18) hx hb dL_law_402 (by decide) ?_
        exact ih (i + 3) hi3 (by omega) w am pt mv sp mv2 pt2 h0 hsm H locs hP hD hS ls (lv_sub hl [1, 2, 3, 0] rfl)
      refine lv_aload_n hx hb dL_law_26 rfl (lv_at hl 0 rfl) ?_
      refine lv_iload_n hx hb dL_law_27 rfl (lv_at hl 3 rfl) ?_
      refine cv_sld hx hb hX hbl hbA hS hL (by omega) dL_law_28 ?_
      refine lv_bipush (v := nI 15) hx hb dL_law_29 (by decide +kernel) ?_
      refine lv_iand hx hb dL_law_31 ?_
      obtain ⟨j, hj, ej⟩ := pk_andE (xs i) (m := nI 15) 4 (by decide)
      refine cv_set ej ?_
      have hj : j < 16 := hj
      rcases (show j = 0 ∨ j = 1 ∨ j = 2 ∨ j = 3 ∨ j = 4 ∨ j = 5 ∨ j = 6 ∨ j = 7 ∨ j = 8 ∨ j = 9 ∨ j = 10 ∨ j = 11 ∨ j = 12 ∨ j = 13 ∨ j = 14 ∨ j = 15 by omega) with rfl | rfl | rfl | rfl | rfl | rfl | rfl | rfl | rfl | rfl | rfl | rfl | rfl | rfl | rfl | rfl
      · refine lv_tableIn (tgt := 100) hx hb dL_law_32 (by decide) (by decide) rfl (by decide) ?_
        exact law_worth F hA hX hbl hbA hL hi3 hK h0 hsm N hP hD hS ls hl
      · refine lv_tableIn (tgt := 133) hx hb dL_law_32 (by decide) (by decide) rfl (by decide) ?_
        exact law_pay F hA hX hbl hbA hL hi3 hK h0 hsm N hP hD hS ls hl
      · refine lv_tableIn (tgt := 166) hx hb dL_law_32 (by decide) (by decide) rfl (by decide) ?_
        exact law_weigh F hA hX hbl hbA hL hi3 hK h0 hsm N hP hD hS ls hl
      · refine lv_tableIn (tgt := 199) hx hb dL_law_32 (by decide) (by decide) rfl (by decide) ?_
        exact law_exchange F hA hX hbl hbA hL hi3 hK h0 hsm N hP hD hS ls hl
      · refine lv_tableIn (tgt := 232) hx hb dL_law_32 (by decide) (by decide) rfl (by decide) ?_
        exact law_orderValue F hA hX hbl hbA hL hi3 hK h0 hsm N hP hD hS ls hl
      · refine lv_tableIn (tgt := 255) hx hb dL_law_32 (by decide) (by decide) rfl (by decide) ?_
        exact law_swingValue F hA hX hbl hbA hL hi3 hK h0 hsm N hP hD hS ls hl
      · refine lv_tableIn (tgt := 278) hx hb dL_law_32 (by decide) (by decide) rfl (by decide) ?_
        exact law_own F hA hX hbl hbA hL hi3 hK h0 hsm N hP hD hS ls hl
      · refine lv_tableIn (tgt := 301) hx hb dL_law_32 (by decide) (by decide) rfl (by decide) ?_
        exact law_complaint F hA hX hbl hbA hL hi3 hK h0 hsm N hP hD hS ls hl
      · refine lv_tableIn (tgt := 314) hx hb dL_law_32 (by decide) (by decide) rfl (by decide) ?_
        exact law_inCore F hA hX hbl hbA hL hi3 hK h0 hsm N hP hD hS ls hl
      · refine lv_tableIn (tgt := 327) hx hb dL_law_32 (by decide) (by decide) rfl (by decide) ?_
        exact law_convex F hA hX hbl hbA hL hi3 hK h0 hsm N hP hD hS ls hl
      · refine lv_tableIn (tgt := 340) hx hb dL_law_32 (by decide) (by decide) rfl (by decide) ?_
        exact law_superadditive F hA hX hbl hbA hL hi3 hK h0 hsm N hP hD hS ls hl
      · refine lv_tableIn (tgt := 353) hx hb dL_law_32 (by decide) (by decide) rfl (by decide) ?_
        exact law_alike F hA hX hbl hbA hL hi3 hK h0 hsm N hP hD hS ls hl
      · refine lv_tableIn (tgt := 386) hx hb dL_law_32 (by decide) (by decide) rfl (by decide) ?_
        exact law_bestSplit F hA hX hbl hbA hL hi3 hK h0 hsm N hP hD hS ls hl
      · refine lv_tableOut (tgt := 399) hx hb dL_law_32 (Or.inr (by decide)) (by decide) ?_
        exact N _ _ _ _ _ _ _ h0 hsm H locs hP hD hS ls hl
      · refine lv_tableOut (tgt := 399) hx hb dL_law_32 (Or.inr (by decide)) (by decide) ?_
        exact N _ _ _ _ _ _ _ h0 hsm H locs hP hD hS ls hl
      · refine lv_tableOut (tgt := 399) hx hb dL_law_32 (Or.inr (by decide)) (by decide) ?_
        exact N _ _ _ _ _ _ _ h0 hsm H locs hP hD hS ls hl
set_option maxHeartbeats 4000000 in
set_option maxRecDepth 100000 in
theorem whole_start {p : Program} {e : Env} {s : State} {m : MethodId} {below : List Frame} {meth : Method} {c : Code} (l : Launch) {b L : Nat} {xs : Nat → Int32} (hL : L ≤ 192) (C0 : lw_At p s m meth c b L xs) : W p l e room_1 s m #[Value.ref b] below meth c s.heap [] 0 0 (lw_Z below #[Value.ref b] s) (entryFrame m ([Value.ref b] : List Value).toArray 4) := by
  obtain ⟨hx, hb, hr, hml, hown, hts0, hX, hbl, hlocks, hgv⟩ := id C0
  have hts : ∀ w ∈ lw_all, w.before #[Value.ref b] s = true := fun w h => hts0 w (lw_all_tbl h)
  have hA : ∀ q : Nat, s.heap.size ≤ q → (fun q : Nat => s.heap.size ≤ q) q := fun _ h => h
  obtain ⟨c0, iS0, hKn0⟩ := u_known (C := RX0) (T := TX0) (N := 5) (n := 5) hts in_X0 (hts _ q11)
  obtain ⟨c1, iS1, hKn1⟩ := u_known (C := RX1) (T := TX1) (N := 4) (n := 4) hts in_X1 (hts _ q113)
  obtain ⟨D, hKD⟩ : ∃ D : va_G, ∀ (k : Nat) (q : vw_C), vwCl[k]? = some q → u_Kn s q.1 q.2.1 q.2.2 (D.1 k) (D.2 k) := by
    refine ⟨(fun k => if k = 0 then c0 else c1, fun k => if k = 0 then iS0 else iS1), ?_⟩
    intro k q hq
    match k, hq with
    | 0, hq => cases hq; exact hKn0
    | 1, hq => cases hq; exact hKn1
    | k + 2, hq => simp [vwCl] at hq
  have hS : va_S (fun q : Nat => s.heap.size ≤ q) s.heap s.heap [] := va_S.rf
  have hK : va_K D vwCl [] s := ⟨hKD, fun k q h => by simp at h⟩
  have hP : va_P D vwCl [] s.heap := fun k q h => by simp at h
  have hD : va_D (fun q : Nat => s.heap.size ≤ q) [] := ⟨fun i j p q h => by simp at h, fun k q h => by simp at h⟩
  have hl := lv_entry ([.ref b]) (n := 4) (Nat.le_of_ble_eq_true rfl)
  rw [lg_entry_eq]
  generalize (lg_sl ([.ref b]) ++ List.replicate (4 - (lg_sl ([.ref b])).length) Slot.unset).toArray = ls at hl ⊢
  have hl : lv_has ls 4 [(0, .ref b)] := hl
  refine va_new (ci := 0) (fs := [.null, .null, .null, .null, .null]) (C := RX0) (T := TX0) (N := 5) hx hb hts in_X0 tyX0 tyX0_ok hown (hts _ q10) (hts _ q11) (hts _ q8) hK hP hD hS hA rfl (fun j hj => by rcases (show j = 0 ∨ j = 1 ∨ j = 2 ∨ j = 3 ∨ j = 4 by omega) with rfl | rfl | rfl | rfl | rfl <;> rfl) (Nat.le_of_ble_eq_true rfl) (Nat.le_of_ble_eq_true rfl) dL_law_0 (fun qx H hP hD hS => ?_)
  have hP : va_P D vwCl [(qx, .inr (0, [.null, .null, .null, .null, .null]))] H := hP
  have hD : va_D (fun q : Nat => s.heap.size ≤ q) [(qx, .inr (0, [.null, .null, .null, .null, .null]))] := hD
  refine W.widen (k := 1) (n := 5) (by decide) (by decide) ?_
  refine lv_dup hx hb dL_law_3 rfl ?_
  have hPc := hP.sub (ws' := [(qx, .inr (0, [.null, .null, .null, .null, .null]))]) [0] rfl
  have hDc := hD.sub (ws' := [(qx, .inr (0, [.null, .null, .null, .null, .null]))]) [0] (by decide) rfl
  have hKc := hK.sub (tys' := []) [] rfl
  have hFc := va_free (wc := [(qx, .inr (0, [.null, .null, .null, .null, .null]))]) hD hS hA [0] rfl
  refine va_callv (va_runI (As := []) (rest := [.ref qx]) ⟨hx, hb, hml, hown, hts⟩ (x0_init l D qx H.size) (cwI 0 hts (lw_meth q14) rfl rfl rfl (hts _ q8) (hts _ q12) (hts _ q13) rfl (by decide +kernel) ⟨Nat.le_of_ble_eq_true rfl, Nat.le_of_ble_eq_true rfl⟩) ⟨fun a U g mk q => by obtain ⟨q0, q1, qP, qK, qD⟩ := q; exact ⟨q0, q1, qP, va_K.moved (u := U) (U := U.calling g mk a) (Vm.Alike.refl U.vm) qK, qD⟩, fun U hU hW => ⟨rfl, by rw [hU], by rw [hU]; exact hPc, va_K.moved hW.alike hKc, hDc.weaken (fun _ _ _ _ => trivial)⟩⟩ rfl rfl hl.1 rfl (lv_room (Nat.le_of_ble_eq_true rfl)) dL_law_4 ⟨Nat.le_of_ble_eq_true rfl, Nat.le_of_ble_eq_true rfl⟩) hS (fun q _ h => hFc q h) hFc (fun u t H1 locs ht hvm hw hB hz1 hk1 hS => ?_)
  obtain ⟨d, g⟩ := u
  obtain ⟨hP1, hK1, hD1⟩ := hB
  rw [ht] at hP1
  have hK1 := va_K.moved hvm.symm hK1
  have hw : g 0 = qx := hw
  subst hw
  obtain ⟨hP, hD⟩ := va_join (wr := []) (w1 := wX0 d g (zF, zF, zF, zF, zF)) hP hD [0] [] rfl rfl (by decide) (by decide) hk1 hFc hP1 hD1
  generalize H1 = H at hP hS ⊢
  have hP : va_P D vwCl (wX0 d g (zF, zF, zF, zF, zF)) H := hP
  have hD : va_D (fun q : Nat => s.heap.size ≤ q) (wX0 d g (zF, zF, zF, zF, zF)) := hD
  have hK : va_K D vwCl (tX0 d) s := hK1
  refine W.widen (k := 6) (n := 138) (by decide) (by decide) ?_
  refine lv_astore_n (lv' := [(1, .ref (g 0)), (0, .ref b)]) hx hb dL_law_7 rfl hl (by decide) rfl (fun ls hl => ?_)
  refine va_new (ci := 1) (fs := [.null, .null, .null, .null]) (C := RX1) (T := TX1) (N := 4) hx hb hts in_X1 tyX1 tyX1_ok hown (hts _ q112) (hts _ q113) (hts _ q9) hK hP hD hS hA rfl (fun j hj => by rcases (show j = 0 ∨ j = 1 ∨ j = 2 ∨ j = 3 by omega) with rfl | rfl | rfl | rfl <;> rfl) (Nat.le_of_ble_eq_true rfl) (Nat.le_of_ble_eq_true rfl) dL_law_8 (fun qm H hP hD hS => ?_)
  have hP : va_P D vwCl (wX0 d g (zF, zF, zF, zF, zF) ++ [(qm, .inr (1, [.null, .null, .null, .null]))]) H := hP
  have hD : va_D (fun q : Nat => s.heap.size ≤ q) (wX0 d g (zF, zF, zF, zF, zF) ++ [(qm, .inr (1, [.null, .null, .null, .null]))]) := hD
  refine W.widen (k := 7) (n := 142) (by decide) (by decide) ?_
  refine lv_dup hx hb dL_law_11 rfl ?_
  have hPc := hP.sub (ws' := [(qm, .inr (1, [.null, .null, .null, .null]))]) [6] rfl
  have hDc := hD.sub (ws' := [(qm, .inr (1, [.null, .null, .null, .null]))]) [6] (by decide) rfl
  have hKc := hK.sub (tys' := []) [] rfl
  have hFc := va_free (wc := [(qm, .inr (1, [.null, .null, .null, .null]))]) hD hS hA [6] rfl
  refine va_callv (va_runI (As := []) (rest := [.ref qm]) ⟨hx, hb, hml, hown, hts⟩ (x1_init l D qm H.size) (cwI 0 hts (lw_meth q116) rfl rfl rfl (hts _ q9) (hts _ q114) (hts _ q115) rfl (by decide +kernel) ⟨Nat.le_of_ble_eq_true rfl, Nat.le_of_ble_eq_true rfl⟩) ⟨fun a U g mk q => by obtain ⟨q0, q1, qP, qK, qD⟩ := q; exact ⟨q0, q1, qP, va_K.moved (u := U) (U := U.calling g mk a) (Vm.Alike.refl U.vm) qK, qD⟩, fun U hU hW => ⟨rfl, by rw [hU], by rw [hU]; exact hPc, va_K.moved hW.alike hKc, hDc.weaken (fun _ _ _ _ => trivial)⟩⟩ rfl rfl hl.1 rfl (lv_room (Nat.le_of_ble_eq_true rfl)) dL_law_12 ⟨Nat.le_of_ble_eq_true rfl, Nat.le_of_ble_eq_true rfl⟩) hS (fun q _ h => hFc q h) hFc (fun u t H1 locs ht hvm hw hB hz1 hk1 hS => ?_)
  obtain ⟨d2, g2⟩ := u
  obtain ⟨hP1, hK1, hD1⟩ := hB
  rw [ht] at hP1
  have hK1 := va_K.moved hvm.symm hK1
  have hw : g2 0 = qm := hw
  subst hw
  obtain ⟨hP, hD⟩ := va_join (wr := wX0 d g (zF, zF, zF, zF, zF)) (w1 := wX1 d2 g2 (zF, zF, zF, zF)) hP hD [6] [0, 1, 2, 3, 4, 5] rfl rfl (by decide) (by decide) hk1 hFc hP1 hD1
  generalize H1 = H at hP hS ⊢
  have hK : va_K D vwCl (tX0 d ++ tX1 d2) s := hK.app hK1
  refine W.widen (k := 11) (n := 243) (by decide) (by decide) ?_
  refine lv_astore_n (lv' := [(2, .ref (g2 0)), (1, .ref (g 0)), (0, .ref b)]) hx hb dL_law_15 rfl hl (by decide) rfl (fun ls hl => ?_)
  refine lv_iconst (v := nI 0) hx hb dL_law_16 (by decide +kernel) ?_
  refine lv_istore_n (lv' := [(3, .int (nI 0)), (2, .ref (g2 0)), (1, .ref (g 0)), (0, .ref b)]) hx hb dL_law_17 rfl hl (by decide) rfl (fun ls hl => ?_)
  exact law_loop hL C0 hK (L + 1) 0 (Nat.zero_le L) (by omega) zF zF zF zF zF zF zF rfl (fun j _ => by show -1000 ≤ (0 : Int32).toInt ∧ (0 : Int32).toInt ≤ 1000; decide) H _ hP hD hS ls (lv_sub hl [3, 2, 1, 0] rfl)

-- ===== YOUR PART ENDS =====
set_option maxHeartbeats 4000000 in
theorem lw_walk (l : Launch) (b : Addr) (xs : List Int32) : MetFree l x (headSpec (Jvm.Cond.code x code maxLocals ret :: tables_1) room_1) (lw_P b xs) (fun _ _ _ _ _ => True) lw_Q := by
  refine MetFree.of_bodyS (code := code) (maxLocals := maxLocals) (ret := ret) (by decide) ?_ ?_
  · intro args s m h hn
    obtain ⟨meth, c, h1, h2, h3, h4, h5, h6, -, -⟩ := Cond.code_spec hn (atoms_spec (ws := Jvm.Cond.code x code maxLocals ret :: tables_1) h _ List.mem_cons_self)
    exact ⟨meth, c, h1, h2, h3, h4, h5, h6⟩
  · intro p e s m args below meth c s₁ B hml0 hP _
    obtain ⟨rfl, hx, hbd, hgv⟩ := hP
    obtain ⟨scr, harrAt, hlist, hof, hsmall⟩ := hx
    obtain ⟨hcb, hkn, -, -⟩ := State.arrayAt?_spec harrAt
    have hown : s.vm.findClass R_law = some m.cls := findClass_of_methodNamed B.named
    have hts0 : ∀ c ∈ (Jvm.Cond.code x code maxLocals ret :: tables_1), c.before #[Value.ref b] s = true := atoms_spec (ws := Jvm.Cond.code x code maxLocals ret :: tables_1) B.pre
    have hts : ∀ w ∈ lw_tbl, w.before #[Value.ref b] s = true := k2_hts_sels lw_privs (fun w hw => hts0 w (List.mem_cons_of_mem _ hw)) lw_privs_ok
    have hml : c.maxLocals = 4 := B.maxLocals_eq (hts0 _ List.mem_cons_self)
    have X₀ : Stand p l e room_1 s m #[Value.ref b] below meth c s₁ [] 0 0 := Stand.of_body B
    have hh0 : s₁.heap = s.heap := by rw [B.state]; rfl
    have hsz : scr.slots.size = xs.length := by rw [← Array.length_toList, hlist, List.length_map]
    have hval : ∀ j : Nat, j < xs.length → scr.slots[j]? = some (.int (xs.getD j 0)) := fun j hj => by
      rw [← Array.getElem?_toList, hlist]
      simp [hj]
    have hbl : b < s.heap.size := (Array.getElem?_eq_some_iff.mp hcb).1
    have hX : va_X b xs.length (fun j => xs.getD j 0) s s.heap := ⟨scr, hcb, hof, hkn, hsz, hval⟩
    have K : W p l e room_1 s m #[Value.ref b] below meth c s₁.heap [] 0 0 (lw_Z below #[Value.ref b] s) (entryFrame m ([Value.ref b] : List Value).toArray 4) := by
      rw [hh0]
      exact whole_start l hbd ⟨B.exec, B.bytes, B.returns, hml, hown, hts, hX, hbl, B.notSynchronized, hgv⟩
    obtain ⟨t, a1, o, b1, b2, b3⟩ := K s₁ rfl X₀
    exact ⟨t, o, a1, b1, b2, b3⟩
theorem lw_pre_spec {args : Array Value} {s : State} (h : (Jvm.Cond.and given_1 narrow_1).before args s = true) (hr : rest_1_c.before args s = true) : ∃ (b : Addr) (xs : List Int32), lw_P b xs args s := by
  have hs := flat_of_before _ h
  have hq := flat_of_before _ hr
  have hc : (Cond.count 1).before args s = true := hs _ (by decide +kernel)
  have harr : (Cond.arrayOf (.arg 0) .int).before args s = true := hs _ (by decide +kernel)
  have hle : (Cond.le (.length (.arg 0)) (.int 192)).before args s = true := hs _ (by decide +kernel)
  have hlen : (Cond.isInt (.length (.arg 0))).before args s = true := hq _ (by decide +kernel)
  have hall : (Cond.all (.arg 0) (.isInt (.elem (.arg 0) (.index 0)))).before args s = true := hq _ (by decide +kernel)
  obtain ⟨b, xs, hb, hx⟩ := State.ints_of_pre rfl harr hlen hall
  have hsm : xs.length < 2 ^ 31 := hx.choose_spec.2.2.2
  have hev : (Term.length (.arg 0)).eval args s none [] s = some (.int xs.length.toInt32) := hx.length_eval hb
  have hv := Cond.le_ints hev (show (Term.int 192).eval args s none [] s = some (.int 192) from rfl)
  have hd : xs.length.toInt32 ≤ 192 := by
    simpa [Cond.before, Cond.holds, hv] using hle
  have hN : xs.length ≤ 192 := (Int32.ofNat_le_ofNat hsm (by decide)).mp (show Int32.ofNat xs.length ≤ Int32.ofNat 192 from hd)
  exact ⟨b, xs, Cond.one_arg hc (show args[0]? = some (.ref b) from hb), hx, hN, h⟩
theorem lw_comes (l : Launch) : Comes l x (Jvm.Cond.code x code maxLocals ret :: tables_1) room_1 (fun tb e args s => Calls_1 tb e args s ∧ rest_1 tb e args s ∧ Pre_1 tb e args s)
    (fun _ _ args s o t => lw_Q args s o t) := by
  intro p e ha hc hk s m args below hf hfit hheap happ hpre
  obtain ⟨b, xs, hP⟩ := lw_pre_spec hpre.2.2 hpre.2.1
  obtain ⟨k, o, h1, h2, h3, hQ⟩ := lw_walk l b xs p e ha hc hk s m args below hf ((Spec.applies_iff_loose hf).mp happ).1 hP trivial
  exact ⟨k, o, h1, h2, h3, hQ⟩
theorem lw_frame {s t : State} {o : Outcome} {args : Array Value} (h : Framed s o t [] 600000 7290000) :
    Framed s o t (fieldLocs frame_1_writes args s ++ arrayLocs frame_1_arrays args s ++ staticLocs frame_1_statics s) 600000 7290000 := h
theorem lw_limb (L : Cond) (hL : ∀ (args : Array Value) (s t : State), L.after args s (.returned (some (.int 1))) t = true) :
    ArmFor flags0 classFile x code maxLocals ret World_1 tables_1 room_1 Calls_1 rest_1 Pre_1
      (fun tb e a s o t => postC L tb e a s o t ∧ Framed s o t (fieldLocs frame_1_writes a s ++ arrayLocs frame_1_arrays a s ++ staticLocs frame_1_statics s) 600000 7290000) := by
  intro l _ _ _ p e ha hc hk s m args below hf hfit hheap happ hpre
  obtain ⟨k, o, h1, h2, h3, rfl, hF⟩ := lw_comes l p e ha hc hk s m args below hf hfit hheap happ hpre
  exact ⟨k, _, h1, h2, h3, hL args s _, lw_frame hF⟩
theorem i_vc : Claimed_1_1 ∧ Claimed_1_2 := ⟨lw_limb limb_1_1 (fun args s t => by simp [limb_1_1, Cond.after, Cond.holds, Cond.value]), lw_limb limb_1_2 (fun args s t => Cond.after_iff.mpr (by
  first | (rw [show limb_1_2 = Cond.eq .result (.int 1) from rfl, Cond.eq_ints (x := 1) (y := 1) rfl rfl]; simp; done) | (simp [limb_1_2, Cond.value, Term.eval]; done)))⟩
end
