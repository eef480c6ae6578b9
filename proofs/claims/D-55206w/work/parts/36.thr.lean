/-! PLAIN EXCEPTIONS: the words that their throwing asks for -/
set_option maxRecDepth 100000
theorem at_WhelkFleet_63 : ∀ w ∈ vx_at0 "WhelkFleet" 63 "java/lang/IndexOutOfBoundsException" ["java/lang/RuntimeException", "java/lang/Exception"], w ∈ lw_all ∨ w ∈ gNw := by
  intro w hw
  obtain ⟨h1, h2⟩ := List.mem_filter.mp hw
  simp only [Bundle.ownAtoms0, Bundle.throwableAtoms, Bundle.chain0Atoms, Bundle.passAtoms, List.cons_append, List.nil_append, List.append_assoc, List.mem_cons, List.not_mem_nil, or_false] at h1
  rcases h1 with h | h | h | h | h | h | h | h | h | h | h | h | h | h | h | h | h | h | h | h | h | h | h | h | h | h | h | h | h | h | h | h | h | h | h | h | h | h | h | h | h | h | h | h | h | h | h | h | h | h | h | h | h
  · rw [h]; exact Or.inl q95
  · rw [h]; exact Or.inl q521
  · rw [h]; exact Or.inl q469
  · rw [h]; exact Or.inl q481
  · rw [h]; exact Or.inl q484
  · rw [h]; exact Or.inl q486
  · rw [h]; exact Or.inl q522
  · rw [h]; exact Or.inl q523
  · rw [h]; exact Or.inl q135
  · rw [h]; exact Or.inl q136
  · rw [h]; exact Or.inl q463
  · rw [h]; exact Or.inl q468
  · rw [h]; exact Or.inl q482
  · rw [h]; exact Or.inl q489
  · rw [h]; exact Or.inl q515
  · rw [h]; exact Or.inl q490
  · rw [h]; exact Or.inl q516
  · rw [h]; exact Or.inl q491
  · rw [h]; exact Or.inl q517
  · rw [h]; exact Or.inl q464
  · rw [h] at h2; exact absurd h2 (by decide)
  · rw [h]; exact Or.inl q466
  · rw [h] at h2; exact absurd h2 (by decide)
  · rw [h]; exact Or.inl q518
  · rw [h]; exact Or.inl q553
  · rw [h]; exact Or.inl q554
  · rw [h]; exact Or.inl q555
  · rw [h]; exact Or.inl q556
  · rw [h]; exact Or.inr (gNw_in q508 rfl)
  · rw [h]; exact Or.inl q556
  · rw [h]; exact Or.inl q557
  · rw [h]; exact Or.inl q558
  · rw [h]; exact Or.inl q559
  · rw [h]; exact Or.inr (gNw_in q510 rfl)
  · rw [h]; exact Or.inl q559
  · rw [h]; exact Or.inl q560
  · rw [h]; exact Or.inl q561
  · rw [h]; exact Or.inl q522
  · rw [h]; exact Or.inr (gNw_in q512 rfl)
  · rw [h]; exact Or.inl q552
  · rw [h]; exact Or.inl q544
  · rw [h]; exact Or.inr (gNw_in q545 rfl)
  · rw [h]; exact Or.inl q546
  · rw [h]; exact Or.inl q477
  · rw [h]; exact Or.inl q547
  · rw [h]; exact Or.inl q548
  · rw [h]; exact Or.inl q549
  · rw [h]; exact Or.inl q550
  · rw [h] at h2; exact absurd h2 (by decide)
  · rw [h] at h2; exact absurd h2 (by decide)
  · rw [h]; exact Or.inl q487
  · rw [h]; exact Or.inl q519
  · rw [h]; exact Or.inl q551
theorem at_WhelkFleet_60 : ∀ w ∈ vx_at0 "WhelkFleet" 60 "java/lang/IllegalArgumentException" ["java/lang/RuntimeException", "java/lang/Exception"], w ∈ lw_all ∨ w ∈ gNw := by
  intro w hw
  obtain ⟨h1, h2⟩ := List.mem_filter.mp hw
  simp only [Bundle.ownAtoms0, Bundle.throwableAtoms, Bundle.chain0Atoms, Bundle.passAtoms, List.cons_append, List.nil_append, List.append_assoc, List.mem_cons, List.not_mem_nil, or_false] at h1
  rcases h1 with h | h | h | h | h | h | h | h | h | h | h | h | h | h | h | h | h | h | h | h | h | h | h | h | h | h | h | h | h | h | h | h | h | h | h | h | h | h | h | h | h | h | h | h | h | h | h | h | h | h | h | h | h
  · rw [h]; exact Or.inl q95
  · rw [h]; exact Or.inl q521
  · rw [h]; exact Or.inl q469
  · rw [h]; exact Or.inl q481
  · rw [h]; exact Or.inl q484
  · rw [h]; exact Or.inl q486
  · rw [h]; exact Or.inl q522
  · rw [h]; exact Or.inl q523
  · rw [h]; exact Or.inl q135
  · rw [h]; exact Or.inl q136
  · rw [h]; exact Or.inl q463
  · rw [h]; exact Or.inl q468
  · rw [h]; exact Or.inl q482
  · rw [h]; exact Or.inl q489
  · rw [h]; exact Or.inl q515
  · rw [h]; exact Or.inl q490
  · rw [h]; exact Or.inl q516
  · rw [h]; exact Or.inl q491
  · rw [h]; exact Or.inl q517
  · rw [h]; exact Or.inl q464
  · rw [h] at h2; exact absurd h2 (by decide)
  · rw [h]; exact Or.inl q466
  · rw [h] at h2; exact absurd h2 (by decide)
  · rw [h]; exact Or.inl q518
  · rw [h]; exact Or.inl q580
  · rw [h]; exact Or.inl q581
  · rw [h]; exact Or.inl q582
  · rw [h]; exact Or.inl q556
  · rw [h]; exact Or.inr (gNw_in q508 rfl)
  · rw [h]; exact Or.inl q556
  · rw [h]; exact Or.inl q557
  · rw [h]; exact Or.inl q558
  · rw [h]; exact Or.inl q559
  · rw [h]; exact Or.inr (gNw_in q510 rfl)
  · rw [h]; exact Or.inl q559
  · rw [h]; exact Or.inl q560
  · rw [h]; exact Or.inl q561
  · rw [h]; exact Or.inl q522
  · rw [h]; exact Or.inr (gNw_in q512 rfl)
  · rw [h]; exact Or.inl q579
  · rw [h]; exact Or.inl q571
  · rw [h]; exact Or.inr (gNw_in q572 rfl)
  · rw [h]; exact Or.inl q573
  · rw [h]; exact Or.inl q475
  · rw [h]; exact Or.inl q574
  · rw [h]; exact Or.inl q575
  · rw [h]; exact Or.inl q576
  · rw [h]; exact Or.inl q577
  · rw [h] at h2; exact absurd h2 (by decide)
  · rw [h] at h2; exact absurd h2 (by decide)
  · rw [h]; exact Or.inl q487
  · rw [h]; exact Or.inl q519
  · rw [h]; exact Or.inl q578
theorem at_WhelkFleet_69 : ∀ w ∈ vx_at0 "WhelkFleet" 69 "java/util/NoSuchElementException" ["java/lang/RuntimeException", "java/lang/Exception"], w ∈ lw_all ∨ w ∈ gNw := by
  intro w hw
  obtain ⟨h1, h2⟩ := List.mem_filter.mp hw
  simp only [Bundle.ownAtoms0, Bundle.throwableAtoms, Bundle.chain0Atoms, Bundle.passAtoms, List.cons_append, List.nil_append, List.append_assoc, List.mem_cons, List.not_mem_nil, or_false] at h1
  rcases h1 with h | h | h | h | h | h | h | h | h | h | h | h | h | h | h | h | h | h | h | h | h | h | h | h | h | h | h | h | h | h | h | h | h | h | h | h | h | h | h | h | h | h | h | h | h | h | h | h | h | h | h | h | h
  · rw [h]; exact Or.inl q95
  · rw [h]; exact Or.inl q521
  · rw [h]; exact Or.inl q469
  · rw [h]; exact Or.inl q481
  · rw [h]; exact Or.inl q484
  · rw [h]; exact Or.inl q486
  · rw [h]; exact Or.inl q522
  · rw [h]; exact Or.inl q523
  · rw [h]; exact Or.inl q135
  · rw [h]; exact Or.inl q136
  · rw [h]; exact Or.inl q463
  · rw [h]; exact Or.inl q468
  · rw [h]; exact Or.inl q482
  · rw [h]; exact Or.inl q489
  · rw [h]; exact Or.inl q515
  · rw [h]; exact Or.inl q490
  · rw [h]; exact Or.inl q516
  · rw [h]; exact Or.inl q491
  · rw [h]; exact Or.inl q517
  · rw [h]; exact Or.inl q464
  · rw [h] at h2; exact absurd h2 (by decide)
  · rw [h]; exact Or.inl q466
  · rw [h] at h2; exact absurd h2 (by decide)
  · rw [h]; exact Or.inl q518
  · rw [h]; exact Or.inl q1104
  · rw [h]; exact Or.inl q1105
  · rw [h]; exact Or.inl q1106
  · rw [h]; exact Or.inl q556
  · rw [h]; exact Or.inr (gNw_in q508 rfl)
  · rw [h]; exact Or.inl q556
  · rw [h]; exact Or.inl q557
  · rw [h]; exact Or.inl q558
  · rw [h]; exact Or.inl q559
  · rw [h]; exact Or.inr (gNw_in q510 rfl)
  · rw [h]; exact Or.inl q559
  · rw [h]; exact Or.inl q560
  · rw [h]; exact Or.inl q561
  · rw [h]; exact Or.inl q522
  · rw [h]; exact Or.inr (gNw_in q512 rfl)
  · rw [h]; exact Or.inl q1953
  · rw [h]; exact Or.inl q1021
  · rw [h]; exact Or.inr (gNw_in q1022 rfl)
  · rw [h]; exact Or.inl q1023
  · rw [h]; exact Or.inl q480
  · rw [h]; exact Or.inl q1024
  · rw [h]; exact Or.inl q1025
  · rw [h]; exact Or.inl q1026
  · rw [h]; exact Or.inl q1027
  · rw [h] at h2; exact absurd h2 (by decide)
  · rw [h] at h2; exact absurd h2 (by decide)
  · rw [h]; exact Or.inl q487
  · rw [h]; exact Or.inl q519
  · rw [h]; exact Or.inl q1028
theorem at_WhelkFleet_66 : ∀ w ∈ vx_at0 "WhelkFleet" 66 "java/lang/IllegalStateException" ["java/lang/RuntimeException", "java/lang/Exception"], w ∈ lw_all ∨ w ∈ gNw := by
  intro w hw
  obtain ⟨h1, h2⟩ := List.mem_filter.mp hw
  simp only [Bundle.ownAtoms0, Bundle.throwableAtoms, Bundle.chain0Atoms, Bundle.passAtoms, List.cons_append, List.nil_append, List.append_assoc, List.mem_cons, List.not_mem_nil, or_false] at h1
  rcases h1 with h | h | h | h | h | h | h | h | h | h | h | h | h | h | h | h | h | h | h | h | h | h | h | h | h | h | h | h | h | h | h | h | h | h | h | h | h | h | h | h | h | h | h | h | h | h | h | h | h | h | h | h | h
  · rw [h]; exact Or.inl q95
  · rw [h]; exact Or.inl q521
  · rw [h]; exact Or.inl q469
  · rw [h]; exact Or.inl q481
  · rw [h]; exact Or.inl q484
  · rw [h]; exact Or.inl q486
  · rw [h]; exact Or.inl q522
  · rw [h]; exact Or.inl q523
  · rw [h]; exact Or.inl q135
  · rw [h]; exact Or.inl q136
  · rw [h]; exact Or.inl q463
  · rw [h]; exact Or.inl q468
  · rw [h]; exact Or.inl q482
  · rw [h]; exact Or.inl q489
  · rw [h]; exact Or.inl q515
  · rw [h]; exact Or.inl q490
  · rw [h]; exact Or.inl q516
  · rw [h]; exact Or.inl q491
  · rw [h]; exact Or.inl q517
  · rw [h]; exact Or.inl q464
  · rw [h] at h2; exact absurd h2 (by decide)
  · rw [h]; exact Or.inl q466
  · rw [h] at h2; exact absurd h2 (by decide)
  · rw [h]; exact Or.inl q518
  · rw [h]; exact Or.inl q2068
  · rw [h]; exact Or.inl q2069
  · rw [h]; exact Or.inl q2070
  · rw [h]; exact Or.inl q556
  · rw [h]; exact Or.inr (gNw_in q508 rfl)
  · rw [h]; exact Or.inl q556
  · rw [h]; exact Or.inl q557
  · rw [h]; exact Or.inl q558
  · rw [h]; exact Or.inl q559
  · rw [h]; exact Or.inr (gNw_in q510 rfl)
  · rw [h]; exact Or.inl q559
  · rw [h]; exact Or.inl q560
  · rw [h]; exact Or.inl q561
  · rw [h]; exact Or.inl q522
  · rw [h]; exact Or.inr (gNw_in q512 rfl)
  · rw [h]; exact Or.inl q2067
  · rw [h]; exact Or.inl q1458
  · rw [h]; exact Or.inr (gNw_in q1459 rfl)
  · rw [h]; exact Or.inl q1460
  · rw [h]; exact Or.inl q476
  · rw [h]; exact Or.inl q1461
  · rw [h]; exact Or.inl q1462
  · rw [h]; exact Or.inl q1463
  · rw [h]; exact Or.inl q1464
  · rw [h] at h2; exact absurd h2 (by decide)
  · rw [h] at h2; exact absurd h2 (by decide)
  · rw [h]; exact Or.inl q487
  · rw [h]; exact Or.inl q519
  · rw [h]; exact Or.inl q1465
theorem at_WhelkFleet_392 : ∀ w ∈ vx_at0 "WhelkFleet" 392 "java/lang/ArithmeticException" ["java/lang/RuntimeException", "java/lang/Exception"], w ∈ lw_all ∨ w ∈ gNw := by
  intro w hw
  obtain ⟨h1, h2⟩ := List.mem_filter.mp hw
  simp only [Bundle.ownAtoms0, Bundle.throwableAtoms, Bundle.chain0Atoms, Bundle.passAtoms, List.cons_append, List.nil_append, List.append_assoc, List.mem_cons, List.not_mem_nil, or_false] at h1
  rcases h1 with h | h | h | h | h | h | h | h | h | h | h | h | h | h | h | h | h | h | h | h | h | h | h | h | h | h | h | h | h | h | h | h | h | h | h | h | h | h | h | h | h | h | h | h | h | h | h | h | h | h | h | h | h
  · rw [h]; exact Or.inl q95
  · rw [h]; exact Or.inl q521
  · rw [h]; exact Or.inl q469
  · rw [h]; exact Or.inl q481
  · rw [h]; exact Or.inl q484
  · rw [h]; exact Or.inl q486
  · rw [h]; exact Or.inl q522
  · rw [h]; exact Or.inl q523
  · rw [h]; exact Or.inl q135
  · rw [h]; exact Or.inl q136
  · rw [h]; exact Or.inl q463
  · rw [h]; exact Or.inl q468
  · rw [h]; exact Or.inl q482
  · rw [h]; exact Or.inl q489
  · rw [h]; exact Or.inl q515
  · rw [h]; exact Or.inl q490
  · rw [h]; exact Or.inl q516
  · rw [h]; exact Or.inl q491
  · rw [h]; exact Or.inl q517
  · rw [h]; exact Or.inl q464
  · rw [h] at h2; exact absurd h2 (by decide)
  · rw [h]; exact Or.inl q466
  · rw [h] at h2; exact absurd h2 (by decide)
  · rw [h]; exact Or.inl q518
  · rw [h]; exact Or.inl q2517
  · rw [h]; exact Or.inl q2518
  · rw [h]; exact Or.inl q2519
  · rw [h]; exact Or.inl q556
  · rw [h]; exact Or.inr (gNw_in q508 rfl)
  · rw [h]; exact Or.inl q556
  · rw [h]; exact Or.inl q557
  · rw [h]; exact Or.inl q558
  · rw [h]; exact Or.inl q559
  · rw [h]; exact Or.inr (gNw_in q510 rfl)
  · rw [h]; exact Or.inl q559
  · rw [h]; exact Or.inl q560
  · rw [h]; exact Or.inl q561
  · rw [h]; exact Or.inl q522
  · rw [h]; exact Or.inr (gNw_in q512 rfl)
  · rw [h]; exact Or.inl q2516
  · rw [h]; exact Or.inl q2498
  · rw [h]; exact Or.inr (gNw_in q2509 rfl)
  · rw [h]; exact Or.inl q2510
  · rw [h]; exact Or.inl q473
  · rw [h]; exact Or.inl q2504
  · rw [h]; exact Or.inl q2505
  · rw [h]; exact Or.inl q2507
  · rw [h]; exact Or.inl q2503
  · rw [h] at h2; exact absurd h2 (by decide)
  · rw [h] at h2; exact absurd h2 (by decide)
  · rw [h]; exact Or.inl q487
  · rw [h]; exact Or.inl q519
  · rw [h]; exact Or.inl q2502
