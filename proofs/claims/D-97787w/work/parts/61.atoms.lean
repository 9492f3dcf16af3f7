/-! THROWS: the throw lemmas' words are among ours -/
set_option maxRecDepth 100000
def stW : List Cond := [.laysStatic "java/lang/Throwable" "UNASSIGNED_STACK" "[Ljava/lang/StackTraceElement;", .laysStatic "java/lang/Throwable" "SUPPRESSED_SENTINEL" "Ljava/util/List;", .isRef (.static "java/lang/Throwable" "UNASSIGNED_STACK" "[Ljava/lang/StackTraceElement;"), .isRef (.static "java/lang/Throwable" "SUPPRESSED_SENTINEL" "Ljava/util/List;")]
theorem npe_in : (Bundle.npeArmAtoms 8).all (fun a => decide (a ∈ lw_all) || decide (a ∈ tx_nwl) || decide (a ∈ stW)) = true := by decide +kernel
theorem aio_in : (Bundle.messageArmAtoms "java/lang/ArrayIndexOutOfBoundsException" ["java/lang/IndexOutOfBoundsException", "java/lang/RuntimeException", "java/lang/Exception"]).all (fun a => decide (a ∈ lw_all) || decide (a ∈ tx_nwl) || decide (a ∈ stW)) = true := by decide +kernel
theorem cce_in : (Bundle.messageArmAtoms "java/lang/ClassCastException" ["java/lang/RuntimeException", "java/lang/Exception"]).all (fun a => decide (a ∈ lw_all) || decide (a ∈ tx_nwl) || decide (a ∈ stW)) = true := by decide +kernel
theorem nas_in : (Bundle.messageArmAtoms "java/lang/NegativeArraySizeException" ["java/lang/RuntimeException", "java/lang/Exception"]).all (fun a => decide (a ∈ lw_all) || decide (a ∈ tx_nwl) || decide (a ∈ stW)) = true := by decide +kernel
theorem arm_words {w : WT} {args : Array Value} {s : State} (hts : ∀ x ∈ lw_all, x.before args s = true) (hN : tx_N s) (hB : tx_B w s) {L : List Cond} (h : L.all (fun a => decide (a ∈ lw_all) || decide (a ∈ tx_nwl) || decide (a ∈ stW)) = true) : ∀ a ∈ L, a.before args s = true := by
  intro a ha
  have h1 := List.all_eq_true.mp h a ha
  simp only [Bool.or_eq_true, decide_eq_true_eq] at h1
  rcases h1 with (q | q) | q
  · exact hts a q
  · have h2 := hN a q
    simp only [tx_nwl, List.mem_cons, List.not_mem_nil, or_false] at q
    rcases q with e | e | e | e | e | e | e | e | e | e | e | e | e | e | e | e | e | e | e | e | e | e | e | e | e | e | e <;> subst e <;> exact va_Nw.use rfl h2
  · simp only [stW, List.mem_cons, List.not_mem_nil, or_false] at q
    rcases q with e | e | e | e <;> subst e
    · exact hB.2.2.1.lays args
    · exact hB.2.2.2.1.lays args
    · exact hB.2.2.1.isRef args
    · exact hB.2.2.2.1.isRef args
