/-! words for the making of exceptions -/
theorem at_T (w : Cond) (h1 : w ∈ Bundle.throwableAtoms) (h2 : vx_no w = true) : w ∈ lw_all ∨ (w ∈ lw_tbl ∧ fmNwOk w = true ∧ w.onTables = true) := by
  simp only [Bundle.throwableAtoms, List.mem_cons, List.not_mem_nil, or_false] at h1
  rcases h1 with rfl | rfl | rfl | rfl | rfl | rfl | rfl | rfl | rfl | rfl | rfl | rfl | rfl | rfl | rfl | rfl | rfl | rfl | rfl | rfl | rfl | rfl | rfl | rfl
  · exact Or.inl q90
  · exact Or.inl q442
  · exact Or.inl q451
  · exact Or.inl q462
  · exact Or.inl q465
  · exact Or.inl q467
  · exact Or.inl q443
  · exact Or.inl q444
  · exact Or.inl q134
  · exact Or.inl q135
  · exact Or.inl q445
  · exact Or.inl q450
  · exact Or.inl q463
  · exact Or.inl q480
  · exact Or.inl q432
  · exact Or.inl q481
  · exact Or.inl q434
  · exact Or.inl q482
  · exact Or.inl q436
  · exact Or.inl q446
  · exact absurd h2 (by decide +kernel)
  · exact Or.inl q448
  · exact absurd h2 (by decide +kernel)
  · exact Or.inl q438
theorem at_C_ioobe (w : Cond) (h1 : w ∈ Bundle.chain0Atoms "java/lang/IndexOutOfBoundsException" ["java/lang/RuntimeException", "java/lang/Exception"]) : w ∈ lw_all ∨ (w ∈ lw_tbl ∧ fmNwOk w = true ∧ w.onTables = true) := by
  simp only [Bundle.chain0Atoms, Bundle.passAtoms, List.mem_cons, List.not_mem_nil, or_false, List.mem_append, or_assoc] at h1
  rcases h1 with rfl | rfl | rfl | rfl | rfl | rfl | rfl | rfl | rfl | rfl | rfl | rfl | rfl | rfl | rfl
  · exact Or.inl q644
  · exact Or.inl q645
  · exact Or.inl q646
  · exact Or.inl q472
  · exact Or.inr ⟨q423, rfl, rfl⟩
  · exact Or.inl q472
  · exact Or.inl q473
  · exact Or.inl q474
  · exact Or.inl q475
  · exact Or.inr ⟨q425, rfl, rfl⟩
  · exact Or.inl q475
  · exact Or.inl q476
  · exact Or.inl q477
  · exact Or.inl q443
  · exact Or.inr ⟨q427, rfl, rfl⟩
theorem at_S_ioobe (w : Cond) (hw : w ∈ vx_at0 "FlintMine" 9 "java/lang/IndexOutOfBoundsException" ["java/lang/RuntimeException", "java/lang/Exception"]) : w ∈ lw_all ∨ (w ∈ lw_tbl ∧ fmNwOk w = true ∧ w.onTables = true) := by
  obtain ⟨h1, h2⟩ := List.mem_filter.mp hw
  rcases List.mem_append.mp h1 with h1 | h1
  · exact (List.mem_append.mp h1).elim (fun h => at_T w h h2) (fun h => at_C_ioobe w h)
  · simp only [List.mem_cons, List.not_mem_nil, or_false] at h1
    rcases h1 with rfl | rfl | rfl | rfl | rfl | rfl | rfl | rfl | rfl | rfl | rfl | rfl | rfl | rfl
    · exact Or.inl q643
    · exact Or.inl q635
    · exact Or.inr ⟨q636, rfl, rfl⟩
    · exact Or.inl q637
    · exact Or.inl q459
    · exact Or.inl q638
    · exact Or.inl q639
    · exact Or.inl q640
    · exact Or.inl q641
    · exact absurd h2 (by decide +kernel)
    · exact absurd h2 (by decide +kernel)
    · exact Or.inl q478
    · exact Or.inl q440
    · exact Or.inl q642
theorem at_G_ioobe : ∀ w ∈ Cond.classLink "FlintMine" 7 "java/lang/IndexOutOfBoundsException" :: Cond.initialized "java/lang/IndexOutOfBoundsException" :: vx_at0 "FlintMine" 9 "java/lang/IndexOutOfBoundsException" ["java/lang/RuntimeException", "java/lang/Exception"], vx_ot w = true := by decide +kernel
theorem at_C_iae (w : Cond) (h1 : w ∈ Bundle.chain0Atoms "java/lang/IllegalArgumentException" ["java/lang/RuntimeException", "java/lang/Exception"]) : w ∈ lw_all ∨ (w ∈ lw_tbl ∧ fmNwOk w = true ∧ w.onTables = true) := by
  simp only [Bundle.chain0Atoms, Bundle.passAtoms, List.mem_cons, List.not_mem_nil, or_false, List.mem_append, or_assoc] at h1
  rcases h1 with rfl | rfl | rfl | rfl | rfl | rfl | rfl | rfl | rfl | rfl | rfl | rfl | rfl | rfl | rfl
  · exact Or.inl q676
  · exact Or.inl q677
  · exact Or.inl q678
  · exact Or.inl q472
  · exact Or.inr ⟨q423, rfl, rfl⟩
  · exact Or.inl q472
  · exact Or.inl q473
  · exact Or.inl q474
  · exact Or.inl q475
  · exact Or.inr ⟨q425, rfl, rfl⟩
  · exact Or.inl q475
  · exact Or.inl q476
  · exact Or.inl q477
  · exact Or.inl q443
  · exact Or.inr ⟨q427, rfl, rfl⟩
theorem at_S_iae (w : Cond) (hw : w ∈ vx_at0 "FlintMine" 3 "java/lang/IllegalArgumentException" ["java/lang/RuntimeException", "java/lang/Exception"]) : w ∈ lw_all ∨ (w ∈ lw_tbl ∧ fmNwOk w = true ∧ w.onTables = true) := by
  obtain ⟨h1, h2⟩ := List.mem_filter.mp hw
  rcases List.mem_append.mp h1 with h1 | h1
  · exact (List.mem_append.mp h1).elim (fun h => at_T w h h2) (fun h => at_C_iae w h)
  · simp only [List.mem_cons, List.not_mem_nil, or_false] at h1
    rcases h1 with rfl | rfl | rfl | rfl | rfl | rfl | rfl | rfl | rfl | rfl | rfl | rfl | rfl | rfl
    · exact Or.inl q675
    · exact Or.inl q667
    · exact Or.inr ⟨q668, rfl, rfl⟩
    · exact Or.inl q669
    · exact Or.inl q457
    · exact Or.inl q670
    · exact Or.inl q671
    · exact Or.inl q672
    · exact Or.inl q673
    · exact absurd h2 (by decide +kernel)
    · exact absurd h2 (by decide +kernel)
    · exact Or.inl q478
    · exact Or.inl q440
    · exact Or.inl q674
theorem at_G_iae : ∀ w ∈ Cond.classLink "FlintMine" 1 "java/lang/IllegalArgumentException" :: Cond.initialized "java/lang/IllegalArgumentException" :: vx_at0 "FlintMine" 3 "java/lang/IllegalArgumentException" ["java/lang/RuntimeException", "java/lang/Exception"], vx_ot w = true := by decide +kernel
theorem at_C_ise (w : Cond) (h1 : w ∈ Bundle.chain0Atoms "java/lang/IllegalStateException" ["java/lang/RuntimeException", "java/lang/Exception"]) : w ∈ lw_all ∨ (w ∈ lw_tbl ∧ fmNwOk w = true ∧ w.onTables = true) := by
  simp only [Bundle.chain0Atoms, Bundle.passAtoms, List.mem_cons, List.not_mem_nil, or_false, List.mem_append, or_assoc] at h1
  rcases h1 with rfl | rfl | rfl | rfl | rfl | rfl | rfl | rfl | rfl | rfl | rfl | rfl | rfl | rfl | rfl
  · exact Or.inl q1152
  · exact Or.inl q1153
  · exact Or.inl q1154
  · exact Or.inl q472
  · exact Or.inr ⟨q423, rfl, rfl⟩
  · exact Or.inl q472
  · exact Or.inl q473
  · exact Or.inl q474
  · exact Or.inl q475
  · exact Or.inr ⟨q425, rfl, rfl⟩
  · exact Or.inl q475
  · exact Or.inl q476
  · exact Or.inl q477
  · exact Or.inl q443
  · exact Or.inr ⟨q427, rfl, rfl⟩
theorem at_S_ise (w : Cond) (hw : w ∈ vx_at0 "FlintMine" 12 "java/lang/IllegalStateException" ["java/lang/RuntimeException", "java/lang/Exception"]) : w ∈ lw_all ∨ (w ∈ lw_tbl ∧ fmNwOk w = true ∧ w.onTables = true) := by
  obtain ⟨h1, h2⟩ := List.mem_filter.mp hw
  rcases List.mem_append.mp h1 with h1 | h1
  · exact (List.mem_append.mp h1).elim (fun h => at_T w h h2) (fun h => at_C_ise w h)
  · simp only [List.mem_cons, List.not_mem_nil, or_false] at h1
    rcases h1 with rfl | rfl | rfl | rfl | rfl | rfl | rfl | rfl | rfl | rfl | rfl | rfl | rfl | rfl
    · exact Or.inl q1151
    · exact Or.inl q1020
    · exact Or.inr ⟨q1021, rfl, rfl⟩
    · exact Or.inl q1022
    · exact Or.inl q458
    · exact Or.inl q1023
    · exact Or.inl q1024
    · exact Or.inl q1025
    · exact Or.inl q1026
    · exact absurd h2 (by decide +kernel)
    · exact absurd h2 (by decide +kernel)
    · exact Or.inl q478
    · exact Or.inl q440
    · exact Or.inl q1027
theorem at_G_ise : ∀ w ∈ Cond.classLink "FlintMine" 10 "java/lang/IllegalStateException" :: Cond.initialized "java/lang/IllegalStateException" :: vx_at0 "FlintMine" 12 "java/lang/IllegalStateException" ["java/lang/RuntimeException", "java/lang/Exception"], vx_ot w = true := by decide +kernel
theorem at_C_nse (w : Cond) (h1 : w ∈ Bundle.chain0Atoms "java/util/NoSuchElementException" ["java/lang/RuntimeException", "java/lang/Exception"]) : w ∈ lw_all ∨ (w ∈ lw_tbl ∧ fmNwOk w = true ∧ w.onTables = true) := by
  simp only [Bundle.chain0Atoms, Bundle.passAtoms, List.mem_cons, List.not_mem_nil, or_false, List.mem_append, or_assoc] at h1
  rcases h1 with rfl | rfl | rfl | rfl | rfl | rfl | rfl | rfl | rfl | rfl | rfl | rfl | rfl | rfl | rfl
  · exact Or.inl q469
  · exact Or.inl q470
  · exact Or.inl q471
  · exact Or.inl q472
  · exact Or.inr ⟨q423, rfl, rfl⟩
  · exact Or.inl q472
  · exact Or.inl q473
  · exact Or.inl q474
  · exact Or.inl q475
  · exact Or.inr ⟨q425, rfl, rfl⟩
  · exact Or.inl q475
  · exact Or.inl q476
  · exact Or.inl q477
  · exact Or.inl q443
  · exact Or.inr ⟨q427, rfl, rfl⟩
theorem at_S_nse (w : Cond) (hw : w ∈ vx_at0 "FlintMine" 15 "java/util/NoSuchElementException" ["java/lang/RuntimeException", "java/lang/Exception"]) : w ∈ lw_all ∨ (w ∈ lw_tbl ∧ fmNwOk w = true ∧ w.onTables = true) := by
  obtain ⟨h1, h2⟩ := List.mem_filter.mp hw
  rcases List.mem_append.mp h1 with h1 | h1
  · exact (List.mem_append.mp h1).elim (fun h => at_T w h h2) (fun h => at_C_nse w h)
  · simp only [List.mem_cons, List.not_mem_nil, or_false] at h1
    rcases h1 with rfl | rfl | rfl | rfl | rfl | rfl | rfl | rfl | rfl | rfl | rfl | rfl | rfl | rfl
    · exact Or.inl q1277
    · exact Or.inl q421
    · exact Or.inr ⟨q422, rfl, rfl⟩
    · exact Or.inl q429
    · exact Or.inl q430
    · exact Or.inl q431
    · exact Or.inl q433
    · exact Or.inl q435
    · exact Or.inl q437
    · exact absurd h2 (by decide +kernel)
    · exact absurd h2 (by decide +kernel)
    · exact Or.inl q478
    · exact Or.inl q440
    · exact Or.inl q439
theorem at_G_nse : ∀ w ∈ Cond.classLink "FlintMine" 13 "java/util/NoSuchElementException" :: Cond.initialized "java/util/NoSuchElementException" :: vx_at0 "FlintMine" 15 "java/util/NoSuchElementException" ["java/lang/RuntimeException", "java/lang/Exception"], vx_ot w = true := by decide +kernel
theorem at_C_uoe (w : Cond) (h1 : w ∈ Bundle.chain0Atoms "java/lang/UnsupportedOperationException" ["java/lang/RuntimeException", "java/lang/Exception"]) : w ∈ lw_all ∨ (w ∈ lw_tbl ∧ fmNwOk w = true ∧ w.onTables = true) := by
  simp only [Bundle.chain0Atoms, Bundle.passAtoms, List.mem_cons, List.not_mem_nil, or_false, List.mem_append, or_assoc] at h1
  rcases h1 with rfl | rfl | rfl | rfl | rfl | rfl | rfl | rfl | rfl | rfl | rfl | rfl | rfl | rfl | rfl
  · exact Or.inl q1052
  · exact Or.inl q1053
  · exact Or.inl q1054
  · exact Or.inl q472
  · exact Or.inr ⟨q423, rfl, rfl⟩
  · exact Or.inl q472
  · exact Or.inl q473
  · exact Or.inl q474
  · exact Or.inl q475
  · exact Or.inr ⟨q425, rfl, rfl⟩
  · exact Or.inl q475
  · exact Or.inl q476
  · exact Or.inl q477
  · exact Or.inl q443
  · exact Or.inr ⟨q427, rfl, rfl⟩
theorem at_S_uoe (w : Cond) (hw : w ∈ vx_at0 "FlintMine" 134 "java/lang/UnsupportedOperationException" ["java/lang/RuntimeException", "java/lang/Exception"]) : w ∈ lw_all ∨ (w ∈ lw_tbl ∧ fmNwOk w = true ∧ w.onTables = true) := by
  obtain ⟨h1, h2⟩ := List.mem_filter.mp hw
  rcases List.mem_append.mp h1 with h1 | h1
  · exact (List.mem_append.mp h1).elim (fun h => at_T w h h2) (fun h => at_C_uoe w h)
  · simp only [List.mem_cons, List.not_mem_nil, or_false] at h1
    rcases h1 with rfl | rfl | rfl | rfl | rfl | rfl | rfl | rfl | rfl | rfl | rfl | rfl | rfl | rfl
    · exact Or.inl q1051
    · exact Or.inl q1043
    · exact Or.inr ⟨q1044, rfl, rfl⟩
    · exact Or.inl q1045
    · exact Or.inl q461
    · exact Or.inl q1046
    · exact Or.inl q1047
    · exact Or.inl q1048
    · exact Or.inl q1049
    · exact absurd h2 (by decide +kernel)
    · exact absurd h2 (by decide +kernel)
    · exact Or.inl q478
    · exact Or.inl q440
    · exact Or.inl q1050
theorem at_G_uoe : ∀ w ∈ Cond.classLink "FlintMine" 132 "java/lang/UnsupportedOperationException" :: Cond.initialized "java/lang/UnsupportedOperationException" :: vx_at0 "FlintMine" 134 "java/lang/UnsupportedOperationException" ["java/lang/RuntimeException", "java/lang/Exception"], vx_ot w = true := by decide +kernel
theorem at_C_are (w : Cond) (h1 : w ∈ Bundle.chain0Atoms "java/lang/ArithmeticException" ["java/lang/RuntimeException", "java/lang/Exception"]) : w ∈ lw_all ∨ (w ∈ lw_tbl ∧ fmNwOk w = true ∧ w.onTables = true) := by
  simp only [Bundle.chain0Atoms, Bundle.passAtoms, List.mem_cons, List.not_mem_nil, or_false, List.mem_append, or_assoc] at h1
  rcases h1 with rfl | rfl | rfl | rfl | rfl | rfl | rfl | rfl | rfl | rfl | rfl | rfl | rfl | rfl | rfl
  · exact Or.inl q1382
  · exact Or.inl q1383
  · exact Or.inl q1384
  · exact Or.inl q472
  · exact Or.inr ⟨q423, rfl, rfl⟩
  · exact Or.inl q472
  · exact Or.inl q473
  · exact Or.inl q474
  · exact Or.inl q475
  · exact Or.inr ⟨q425, rfl, rfl⟩
  · exact Or.inl q475
  · exact Or.inl q476
  · exact Or.inl q477
  · exact Or.inl q443
  · exact Or.inr ⟨q427, rfl, rfl⟩
theorem at_S_are (w : Cond) (hw : w ∈ vx_at0 "FlintMine" 323 "java/lang/ArithmeticException" ["java/lang/RuntimeException", "java/lang/Exception"]) : w ∈ lw_all ∨ (w ∈ lw_tbl ∧ fmNwOk w = true ∧ w.onTables = true) := by
  obtain ⟨h1, h2⟩ := List.mem_filter.mp hw
  rcases List.mem_append.mp h1 with h1 | h1
  · exact (List.mem_append.mp h1).elim (fun h => at_T w h h2) (fun h => at_C_are w h)
  · simp only [List.mem_cons, List.not_mem_nil, or_false] at h1
    rcases h1 with rfl | rfl | rfl | rfl | rfl | rfl | rfl | rfl | rfl | rfl | rfl | rfl | rfl | rfl
    · exact Or.inl q1381
    · exact Or.inl q1363
    · exact Or.inr ⟨q1374, rfl, rfl⟩
    · exact Or.inl q1375
    · exact Or.inl q455
    · exact Or.inl q1369
    · exact Or.inl q1370
    · exact Or.inl q1372
    · exact Or.inl q1368
    · exact absurd h2 (by decide +kernel)
    · exact absurd h2 (by decide +kernel)
    · exact Or.inl q478
    · exact Or.inl q440
    · exact Or.inl q1367
theorem at_G_are : ∀ w ∈ Cond.classLink "FlintMine" 321 "java/lang/ArithmeticException" :: Cond.initialized "java/lang/ArithmeticException" :: vx_at0 "FlintMine" 323 "java/lang/ArithmeticException" ["java/lang/RuntimeException", "java/lang/Exception"], vx_ot w = true := by decide +kernel
