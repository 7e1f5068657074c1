/-! EXCEPTIONS ARE MADE: 'new X', the constructor's way up to Throwable -/
theorem xa_t : ∀ w ∈ Jvm.Bundle.throwableAtoms, w ∈ lw_tbl := by decide +kernel
theorem xa_9 : ∀ w ∈ Jvm.Bundle.chain0Atoms "java/lang/IllegalArgumentException" ["java/lang/RuntimeException", "java/lang/Exception"], w ∈ lw_tbl := by decide +kernel
theorem xa_10 : ∀ w ∈ Jvm.Bundle.chain0Atoms "java/lang/IllegalStateException" ["java/lang/RuntimeException", "java/lang/Exception"], w ∈ lw_tbl := by decide +kernel
theorem xa_11 : ∀ w ∈ Jvm.Bundle.chain0Atoms "java/lang/IndexOutOfBoundsException" ["java/lang/RuntimeException", "java/lang/Exception"], w ∈ lw_tbl := by decide +kernel
theorem xa_8 : ∀ w ∈ Jvm.Bundle.chain0Atoms "java/lang/RuntimeException" ["java/lang/Exception"], w ∈ lw_tbl := by decide +kernel
def xo (X : String) (n : Nat) : List Cond := [.instantiable X n, .castable X X, .selects X Bundle.tFill0 Bundle.tFill0, .selects X Bundle.tFill Bundle.tFill,
   .lays X Bundle.tN "cause" "Ljava/lang/Throwable;", .lays X Bundle.tN "stackTrace" Bundle.steD, .lays X Bundle.tN "suppressedExceptions" Bundle.listD, .lays X Bundle.tN "detailMessage" "Ljava/lang/String;",
   .fieldLink Bundle.tN 198 Bundle.tN "backtrace" "Ljava/lang/Object;", .lays Bundle.tN Bundle.tN "backtrace" "Ljava/lang/Object;", .lays X Bundle.tN "backtrace" "Ljava/lang/Object;", .initialized X]
theorem xb_9 : ∀ w ∈ xo "java/lang/IllegalArgumentException" 6, w ∈ lw_tbl := by decide +kernel
theorem xb_10 : ∀ w ∈ xo "java/lang/IllegalStateException" 6, w ∈ lw_tbl := by decide +kernel
theorem xb_11 : ∀ w ∈ xo "java/lang/IndexOutOfBoundsException" 6, w ∈ lw_tbl := by decide +kernel
theorem xb_8 : ∀ w ∈ xo "GoodsTree$Failure" 8, w ∈ lw_tbl := by decide +kernel
theorem xa_k : ∀ w ∈ Jvm.Bundle.throwableAtoms, w.keepsCast = true := by decide +kernel
theorem chain_ok {names : List String} : ∀ {X : String}, ∀ w ∈ Jvm.Bundle.chain0Atoms X names, w.onTables = true ∧ w.keepsCast = true := by
  induction names with
  | nil =>
    intro X w hw
    simp only [Bundle.chain0Atoms, Bundle.passAtoms, List.mem_cons, List.not_mem_nil, or_false] at hw
    rcases hw with rfl | rfl | rfl | rfl | rfl <;> exact ⟨rfl, rfl⟩
  | cons Y r ih =>
    intro X w hw
    simp only [Bundle.chain0Atoms, List.mem_append] at hw
    rcases hw with hw | hw
    · simp only [Bundle.passAtoms, List.mem_cons, List.not_mem_nil, or_false] at hw
      rcases hw with rfl | rfl | rfl | rfl | rfl <;> exact ⟨rfl, rfl⟩
    · exact ih w hw
theorem xo_ok {X : String} {n : Nat} : ∀ w ∈ xo X n, w.onTables = true ∧ w.keepsCast = true := by
  intro w hw
  simp only [xo, List.mem_cons, List.not_mem_nil, or_false] at hw
  rcases hw with rfl | rfl | rfl | rfl | rfl | rfl | rfl | rfl | rfl | rfl | rfl | rfl <;> exact ⟨rfl, rfl⟩
theorem wdc {G : gt_T} {s : State} (hG : GF G) (hW : (gs G).WarmedH s.vm) {w : Cond} (hw : w ∈ lw_tbl) (h1 : w.onTables = true) (h2 : w.keepsCast = true) (args : Array Value) : w.before args s = true := by
  have h3 := Cond.before_shiftedCast (State.Shifted.of_warmed hW) w h2 (hG.1 w hw)
  rw [Cond.onTables_vm (A' := args) (U' := s) s.vm w h1] at h3
  exact h3
/-- what the law's start says of Throwable's two constants -/
theorem xs_ {G : gt_T} (hG : GF G) : (Cond.isRef (.static Bundle.tN "UNASSIGNED_STACK" Bundle.steD)).before (ga G) (gs G) = true ∧ (Cond.isRef (.static Bundle.tN "SUPPRESSED_SENTINEL" Bundle.listD)).before (ga G) (gs G) = true := by
  have h := flat_of_before _ hG.2.2.2.2.2.2.2.2
  exact ⟨h _ (by decide +kernel), h _ (by decide +kernel)⟩
