/-! ===== THE CLASS: checks, lists (written by tools/class2.py) ===== -/
set_option maxRecDepth 100000 in
theorem hat_X1_J19 : ∀ w ∈ vx_at0 RX1 3 "java/lang/IllegalArgumentException" ["java/lang/RuntimeException", "java/lang/Exception"], w ∈ lw_all ∨ (w ∈ lw_tbl ∧ gNk w = true) := by
  intro w hw
  have key : ∀ w ∈ Bundle.ownAtoms0 RX1 3 "java/lang/IllegalArgumentException" ["java/lang/RuntimeException", "java/lang/Exception"], vx_no w = true → (w ∈ lw_all ∨ (w ∈ lw_tbl ∧ gNk w = true)) := by
    refine fa_c rfl (fun _ => .inl q84) ?_
    refine fa_c rfl (fun _ => .inl q443) ?_
    refine fa_c rfl (fun _ => .inl q452) ?_
    refine fa_c rfl (fun _ => .inl q462) ?_
    refine fa_c rfl (fun _ => .inl q465) ?_
    refine fa_c rfl (fun _ => .inl q467) ?_
    refine fa_c rfl (fun _ => .inl q444) ?_
    refine fa_c rfl (fun _ => .inl q445) ?_
    refine fa_c rfl (fun _ => .inl q124) ?_
    refine fa_c rfl (fun _ => .inl q125) ?_
    refine fa_c rfl (fun _ => .inl q446) ?_
    refine fa_c rfl (fun _ => .inl q451) ?_
    refine fa_c rfl (fun _ => .inl q463) ?_
    refine fa_c rfl (fun _ => .inl q480) ?_
    refine fa_c rfl (fun _ => .inl q433) ?_
    refine fa_c rfl (fun _ => .inl q481) ?_
    refine fa_c rfl (fun _ => .inl q435) ?_
    refine fa_c rfl (fun _ => .inl q482) ?_
    refine fa_c rfl (fun _ => .inl q437) ?_
    refine fa_c rfl (fun _ => .inl q447) ?_
    refine fa_c rfl (fun z => absurd z (by decide)) ?_
    refine fa_c rfl (fun _ => .inl q449) ?_
    refine fa_c rfl (fun z => absurd z (by decide)) ?_
    refine fa_c rfl (fun _ => .inl q439) ?_
    refine fa_c rfl (fun _ => .inl q1501) ?_
    refine fa_c rfl (fun _ => .inl q1502) ?_
    refine fa_c rfl (fun _ => .inl q1503) ?_
    refine fa_c rfl (fun _ => .inl q472) ?_
    refine fa_c rfl (fun _ => .inr ⟨q424, rfl⟩) ?_
    refine fa_c rfl (fun _ => .inl q472) ?_
    refine fa_c rfl (fun _ => .inl q473) ?_
    refine fa_c rfl (fun _ => .inl q474) ?_
    refine fa_c rfl (fun _ => .inl q475) ?_
    refine fa_c rfl (fun _ => .inr ⟨q426, rfl⟩) ?_
    refine fa_c rfl (fun _ => .inl q475) ?_
    refine fa_c rfl (fun _ => .inl q476) ?_
    refine fa_c rfl (fun _ => .inl q477) ?_
    refine fa_c rfl (fun _ => .inl q444) ?_
    refine fa_c rfl (fun _ => .inr ⟨q428, rfl⟩) ?_
    refine fa_c rfl (fun _ => .inl q1500) ?_
    refine fa_c rfl (fun _ => .inl q993) ?_
    refine fa_c rfl (fun _ => .inr ⟨q994, rfl⟩) ?_
    refine fa_c rfl (fun _ => .inl q995) ?_
    refine fa_c rfl (fun _ => .inl q458) ?_
    refine fa_c rfl (fun _ => .inl q996) ?_
    refine fa_c rfl (fun _ => .inl q997) ?_
    refine fa_c rfl (fun _ => .inl q998) ?_
    refine fa_c rfl (fun _ => .inl q999) ?_
    refine fa_c rfl (fun z => absurd z (by decide)) ?_
    refine fa_c rfl (fun z => absurd z (by decide)) ?_
    refine fa_c rfl (fun _ => .inl q478) ?_
    refine fa_c rfl (fun _ => .inl q441) ?_
    refine fa_c rfl (fun _ => .inl q1000) ?_
    exact fa_n rfl
  exact key w (List.mem_filter.mp hw).1 (List.mem_filter.mp hw).2
set_option maxRecDepth 100000 in
theorem hat_X1_J21 : ∀ w ∈ vx_at0 RX1 9 "java/lang/IndexOutOfBoundsException" ["java/lang/RuntimeException", "java/lang/Exception"], w ∈ lw_all ∨ (w ∈ lw_tbl ∧ gNk w = true) := by
  intro w hw
  have key : ∀ w ∈ Bundle.ownAtoms0 RX1 9 "java/lang/IndexOutOfBoundsException" ["java/lang/RuntimeException", "java/lang/Exception"], vx_no w = true → (w ∈ lw_all ∨ (w ∈ lw_tbl ∧ gNk w = true)) := by
    refine fa_c rfl (fun _ => .inl q84) ?_
    refine fa_c rfl (fun _ => .inl q443) ?_
    refine fa_c rfl (fun _ => .inl q452) ?_
    refine fa_c rfl (fun _ => .inl q462) ?_
    refine fa_c rfl (fun _ => .inl q465) ?_
    refine fa_c rfl (fun _ => .inl q467) ?_
    refine fa_c rfl (fun _ => .inl q444) ?_
    refine fa_c rfl (fun _ => .inl q445) ?_
    refine fa_c rfl (fun _ => .inl q124) ?_
    refine fa_c rfl (fun _ => .inl q125) ?_
    refine fa_c rfl (fun _ => .inl q446) ?_
    refine fa_c rfl (fun _ => .inl q451) ?_
    refine fa_c rfl (fun _ => .inl q463) ?_
    refine fa_c rfl (fun _ => .inl q480) ?_
    refine fa_c rfl (fun _ => .inl q433) ?_
    refine fa_c rfl (fun _ => .inl q481) ?_
    refine fa_c rfl (fun _ => .inl q435) ?_
    refine fa_c rfl (fun _ => .inl q482) ?_
    refine fa_c rfl (fun _ => .inl q437) ?_
    refine fa_c rfl (fun _ => .inl q447) ?_
    refine fa_c rfl (fun z => absurd z (by decide)) ?_
    refine fa_c rfl (fun _ => .inl q449) ?_
    refine fa_c rfl (fun z => absurd z (by decide)) ?_
    refine fa_c rfl (fun _ => .inl q439) ?_
    refine fa_c rfl (fun _ => .inl q1467) ?_
    refine fa_c rfl (fun _ => .inl q1468) ?_
    refine fa_c rfl (fun _ => .inl q1469) ?_
    refine fa_c rfl (fun _ => .inl q472) ?_
    refine fa_c rfl (fun _ => .inr ⟨q424, rfl⟩) ?_
    refine fa_c rfl (fun _ => .inl q472) ?_
    refine fa_c rfl (fun _ => .inl q473) ?_
    refine fa_c rfl (fun _ => .inl q474) ?_
    refine fa_c rfl (fun _ => .inl q475) ?_
    refine fa_c rfl (fun _ => .inr ⟨q426, rfl⟩) ?_
    refine fa_c rfl (fun _ => .inl q475) ?_
    refine fa_c rfl (fun _ => .inl q476) ?_
    refine fa_c rfl (fun _ => .inl q477) ?_
    refine fa_c rfl (fun _ => .inl q444) ?_
    refine fa_c rfl (fun _ => .inr ⟨q428, rfl⟩) ?_
    refine fa_c rfl (fun _ => .inl q1466) ?_
    refine fa_c rfl (fun _ => .inl q810) ?_
    refine fa_c rfl (fun _ => .inr ⟨q811, rfl⟩) ?_
    refine fa_c rfl (fun _ => .inl q812) ?_
    refine fa_c rfl (fun _ => .inl q460) ?_
    refine fa_c rfl (fun _ => .inl q813) ?_
    refine fa_c rfl (fun _ => .inl q814) ?_
    refine fa_c rfl (fun _ => .inl q815) ?_
    refine fa_c rfl (fun _ => .inl q816) ?_
    refine fa_c rfl (fun z => absurd z (by decide)) ?_
    refine fa_c rfl (fun z => absurd z (by decide)) ?_
    refine fa_c rfl (fun _ => .inl q478) ?_
    refine fa_c rfl (fun _ => .inl q441) ?_
    refine fa_c rfl (fun _ => .inl q817) ?_
    exact fa_n rfl
  exact key w (List.mem_filter.mp hw).1 (List.mem_filter.mp hw).2
set_option maxRecDepth 100000 in
theorem hat_X1_J23 : ∀ w ∈ vx_at0 RX1 12 "java/lang/IllegalStateException" ["java/lang/RuntimeException", "java/lang/Exception"], w ∈ lw_all ∨ (w ∈ lw_tbl ∧ gNk w = true) := by
  intro w hw
  have key : ∀ w ∈ Bundle.ownAtoms0 RX1 12 "java/lang/IllegalStateException" ["java/lang/RuntimeException", "java/lang/Exception"], vx_no w = true → (w ∈ lw_all ∨ (w ∈ lw_tbl ∧ gNk w = true)) := by
    refine fa_c rfl (fun _ => .inl q84) ?_
    refine fa_c rfl (fun _ => .inl q443) ?_
    refine fa_c rfl (fun _ => .inl q452) ?_
    refine fa_c rfl (fun _ => .inl q462) ?_
    refine fa_c rfl (fun _ => .inl q465) ?_
    refine fa_c rfl (fun _ => .inl q467) ?_
    refine fa_c rfl (fun _ => .inl q444) ?_
    refine fa_c rfl (fun _ => .inl q445) ?_
    refine fa_c rfl (fun _ => .inl q124) ?_
    refine fa_c rfl (fun _ => .inl q125) ?_
    refine fa_c rfl (fun _ => .inl q446) ?_
    refine fa_c rfl (fun _ => .inl q451) ?_
    refine fa_c rfl (fun _ => .inl q463) ?_
    refine fa_c rfl (fun _ => .inl q480) ?_
    refine fa_c rfl (fun _ => .inl q433) ?_
    refine fa_c rfl (fun _ => .inl q481) ?_
    refine fa_c rfl (fun _ => .inl q435) ?_
    refine fa_c rfl (fun _ => .inl q482) ?_
    refine fa_c rfl (fun _ => .inl q437) ?_
    refine fa_c rfl (fun _ => .inl q447) ?_
    refine fa_c rfl (fun z => absurd z (by decide)) ?_
    refine fa_c rfl (fun _ => .inl q449) ?_
    refine fa_c rfl (fun z => absurd z (by decide)) ?_
    refine fa_c rfl (fun _ => .inl q439) ?_
    refine fa_c rfl (fun _ => .inl q1555) ?_
    refine fa_c rfl (fun _ => .inl q1556) ?_
    refine fa_c rfl (fun _ => .inl q1557) ?_
    refine fa_c rfl (fun _ => .inl q472) ?_
    refine fa_c rfl (fun _ => .inr ⟨q424, rfl⟩) ?_
    refine fa_c rfl (fun _ => .inl q472) ?_
    refine fa_c rfl (fun _ => .inl q473) ?_
    refine fa_c rfl (fun _ => .inl q474) ?_
    refine fa_c rfl (fun _ => .inl q475) ?_
    refine fa_c rfl (fun _ => .inr ⟨q426, rfl⟩) ?_
    refine fa_c rfl (fun _ => .inl q475) ?_
    refine fa_c rfl (fun _ => .inl q476) ?_
    refine fa_c rfl (fun _ => .inl q477) ?_
    refine fa_c rfl (fun _ => .inl q444) ?_
    refine fa_c rfl (fun _ => .inr ⟨q428, rfl⟩) ?_
    refine fa_c rfl (fun _ => .inl q1554) ?_
    refine fa_c rfl (fun _ => .inl q1546) ?_
    refine fa_c rfl (fun _ => .inr ⟨q1547, rfl⟩) ?_
    refine fa_c rfl (fun _ => .inl q1548) ?_
    refine fa_c rfl (fun _ => .inl q459) ?_
    refine fa_c rfl (fun _ => .inl q1549) ?_
    refine fa_c rfl (fun _ => .inl q1550) ?_
    refine fa_c rfl (fun _ => .inl q1551) ?_
    refine fa_c rfl (fun _ => .inl q1552) ?_
    refine fa_c rfl (fun z => absurd z (by decide)) ?_
    refine fa_c rfl (fun z => absurd z (by decide)) ?_
    refine fa_c rfl (fun _ => .inl q478) ?_
    refine fa_c rfl (fun _ => .inl q441) ?_
    refine fa_c rfl (fun _ => .inl q1553) ?_
    exact fa_n rfl
  exact key w (List.mem_filter.mp hw).1 (List.mem_filter.mp hw).2
set_option maxRecDepth 100000 in
theorem hat_X1_J24 : ∀ w ∈ vx_at0 RX1 100 "java/lang/UnsupportedOperationException" ["java/lang/RuntimeException", "java/lang/Exception"], w ∈ lw_all ∨ (w ∈ lw_tbl ∧ gNk w = true) := by
  intro w hw
  have key : ∀ w ∈ Bundle.ownAtoms0 RX1 100 "java/lang/UnsupportedOperationException" ["java/lang/RuntimeException", "java/lang/Exception"], vx_no w = true → (w ∈ lw_all ∨ (w ∈ lw_tbl ∧ gNk w = true)) := by
    refine fa_c rfl (fun _ => .inl q84) ?_
    refine fa_c rfl (fun _ => .inl q443) ?_
    refine fa_c rfl (fun _ => .inl q452) ?_
    refine fa_c rfl (fun _ => .inl q462) ?_
    refine fa_c rfl (fun _ => .inl q465) ?_
    refine fa_c rfl (fun _ => .inl q467) ?_
    refine fa_c rfl (fun _ => .inl q444) ?_
    refine fa_c rfl (fun _ => .inl q445) ?_
    refine fa_c rfl (fun _ => .inl q124) ?_
    refine fa_c rfl (fun _ => .inl q125) ?_
    refine fa_c rfl (fun _ => .inl q446) ?_
    refine fa_c rfl (fun _ => .inl q451) ?_
    refine fa_c rfl (fun _ => .inl q463) ?_
    refine fa_c rfl (fun _ => .inl q480) ?_
    refine fa_c rfl (fun _ => .inl q433) ?_
    refine fa_c rfl (fun _ => .inl q481) ?_
    refine fa_c rfl (fun _ => .inl q435) ?_
    refine fa_c rfl (fun _ => .inl q482) ?_
    refine fa_c rfl (fun _ => .inl q437) ?_
    refine fa_c rfl (fun _ => .inl q447) ?_
    refine fa_c rfl (fun z => absurd z (by decide)) ?_
    refine fa_c rfl (fun _ => .inl q449) ?_
    refine fa_c rfl (fun z => absurd z (by decide)) ?_
    refine fa_c rfl (fun _ => .inl q439) ?_
    refine fa_c rfl (fun _ => .inl q1601) ?_
    refine fa_c rfl (fun _ => .inl q1602) ?_
    refine fa_c rfl (fun _ => .inl q1603) ?_
    refine fa_c rfl (fun _ => .inl q472) ?_
    refine fa_c rfl (fun _ => .inr ⟨q424, rfl⟩) ?_
    refine fa_c rfl (fun _ => .inl q472) ?_
    refine fa_c rfl (fun _ => .inl q473) ?_
    refine fa_c rfl (fun _ => .inl q474) ?_
    refine fa_c rfl (fun _ => .inl q475) ?_
    refine fa_c rfl (fun _ => .inr ⟨q426, rfl⟩) ?_
    refine fa_c rfl (fun _ => .inl q475) ?_
    refine fa_c rfl (fun _ => .inl q476) ?_
    refine fa_c rfl (fun _ => .inl q477) ?_
    refine fa_c rfl (fun _ => .inl q444) ?_
    refine fa_c rfl (fun _ => .inr ⟨q428, rfl⟩) ?_
    refine fa_c rfl (fun _ => .inl q1600) ?_
    refine fa_c rfl (fun _ => .inl q1592) ?_
    refine fa_c rfl (fun _ => .inr ⟨q1593, rfl⟩) ?_
    refine fa_c rfl (fun _ => .inl q1594) ?_
    refine fa_c rfl (fun _ => .inl q461) ?_
    refine fa_c rfl (fun _ => .inl q1595) ?_
    refine fa_c rfl (fun _ => .inl q1596) ?_
    refine fa_c rfl (fun _ => .inl q1597) ?_
    refine fa_c rfl (fun _ => .inl q1598) ?_
    refine fa_c rfl (fun z => absurd z (by decide)) ?_
    refine fa_c rfl (fun z => absurd z (by decide)) ?_
    refine fa_c rfl (fun _ => .inl q478) ?_
    refine fa_c rfl (fun _ => .inl q441) ?_
    refine fa_c rfl (fun _ => .inl q1599) ?_
    exact fa_n rfl
  exact key w (List.mem_filter.mp hw).1 (List.mem_filter.mp hw).2
set_option maxRecDepth 100000 in
theorem hat_X1_J14 : ∀ w ∈ vx_at0 RX1 15 "java/util/NoSuchElementException" ["java/lang/RuntimeException", "java/lang/Exception"], w ∈ lw_all ∨ (w ∈ lw_tbl ∧ gNk w = true) := by
  intro w hw
  have key : ∀ w ∈ Bundle.ownAtoms0 RX1 15 "java/util/NoSuchElementException" ["java/lang/RuntimeException", "java/lang/Exception"], vx_no w = true → (w ∈ lw_all ∨ (w ∈ lw_tbl ∧ gNk w = true)) := by
    refine fa_c rfl (fun _ => .inl q84) ?_
    refine fa_c rfl (fun _ => .inl q443) ?_
    refine fa_c rfl (fun _ => .inl q452) ?_
    refine fa_c rfl (fun _ => .inl q462) ?_
    refine fa_c rfl (fun _ => .inl q465) ?_
    refine fa_c rfl (fun _ => .inl q467) ?_
    refine fa_c rfl (fun _ => .inl q444) ?_
    refine fa_c rfl (fun _ => .inl q445) ?_
    refine fa_c rfl (fun _ => .inl q124) ?_
    refine fa_c rfl (fun _ => .inl q125) ?_
    refine fa_c rfl (fun _ => .inl q446) ?_
    refine fa_c rfl (fun _ => .inl q451) ?_
    refine fa_c rfl (fun _ => .inl q463) ?_
    refine fa_c rfl (fun _ => .inl q480) ?_
    refine fa_c rfl (fun _ => .inl q433) ?_
    refine fa_c rfl (fun _ => .inl q481) ?_
    refine fa_c rfl (fun _ => .inl q435) ?_
    refine fa_c rfl (fun _ => .inl q482) ?_
    refine fa_c rfl (fun _ => .inl q437) ?_
    refine fa_c rfl (fun _ => .inl q447) ?_
    refine fa_c rfl (fun z => absurd z (by decide)) ?_
    refine fa_c rfl (fun _ => .inl q449) ?_
    refine fa_c rfl (fun z => absurd z (by decide)) ?_
    refine fa_c rfl (fun _ => .inl q439) ?_
    refine fa_c rfl (fun _ => .inl q469) ?_
    refine fa_c rfl (fun _ => .inl q470) ?_
    refine fa_c rfl (fun _ => .inl q471) ?_
    refine fa_c rfl (fun _ => .inl q472) ?_
    refine fa_c rfl (fun _ => .inr ⟨q424, rfl⟩) ?_
    refine fa_c rfl (fun _ => .inl q472) ?_
    refine fa_c rfl (fun _ => .inl q473) ?_
    refine fa_c rfl (fun _ => .inl q474) ?_
    refine fa_c rfl (fun _ => .inl q475) ?_
    refine fa_c rfl (fun _ => .inr ⟨q426, rfl⟩) ?_
    refine fa_c rfl (fun _ => .inl q475) ?_
    refine fa_c rfl (fun _ => .inl q476) ?_
    refine fa_c rfl (fun _ => .inl q477) ?_
    refine fa_c rfl (fun _ => .inl q444) ?_
    refine fa_c rfl (fun _ => .inr ⟨q428, rfl⟩) ?_
    refine fa_c rfl (fun _ => .inl q1737) ?_
    refine fa_c rfl (fun _ => .inl q422) ?_
    refine fa_c rfl (fun _ => .inr ⟨q423, rfl⟩) ?_
    refine fa_c rfl (fun _ => .inl q430) ?_
    refine fa_c rfl (fun _ => .inl q431) ?_
    refine fa_c rfl (fun _ => .inl q432) ?_
    refine fa_c rfl (fun _ => .inl q434) ?_
    refine fa_c rfl (fun _ => .inl q436) ?_
    refine fa_c rfl (fun _ => .inl q438) ?_
    refine fa_c rfl (fun z => absurd z (by decide)) ?_
    refine fa_c rfl (fun z => absurd z (by decide)) ?_
    refine fa_c rfl (fun _ => .inl q478) ?_
    refine fa_c rfl (fun _ => .inl q441) ?_
    refine fa_c rfl (fun _ => .inl q440) ?_
    exact fa_n rfl
  exact key w (List.mem_filter.mp hw).1 (List.mem_filter.mp hw).2
set_option maxRecDepth 100000 in
theorem hat_X1_J26 : ∀ w ∈ vx_at0 RX1 18 "java/lang/ArithmeticException" ["java/lang/RuntimeException", "java/lang/Exception"], w ∈ lw_all ∨ (w ∈ lw_tbl ∧ gNk w = true) := by
  intro w hw
  have key : ∀ w ∈ Bundle.ownAtoms0 RX1 18 "java/lang/ArithmeticException" ["java/lang/RuntimeException", "java/lang/Exception"], vx_no w = true → (w ∈ lw_all ∨ (w ∈ lw_tbl ∧ gNk w = true)) := by
    refine fa_c rfl (fun _ => .inl q84) ?_
    refine fa_c rfl (fun _ => .inl q443) ?_
    refine fa_c rfl (fun _ => .inl q452) ?_
    refine fa_c rfl (fun _ => .inl q462) ?_
    refine fa_c rfl (fun _ => .inl q465) ?_
    refine fa_c rfl (fun _ => .inl q467) ?_
    refine fa_c rfl (fun _ => .inl q444) ?_
    refine fa_c rfl (fun _ => .inl q445) ?_
    refine fa_c rfl (fun _ => .inl q124) ?_
    refine fa_c rfl (fun _ => .inl q125) ?_
    refine fa_c rfl (fun _ => .inl q446) ?_
    refine fa_c rfl (fun _ => .inl q451) ?_
    refine fa_c rfl (fun _ => .inl q463) ?_
    refine fa_c rfl (fun _ => .inl q480) ?_
    refine fa_c rfl (fun _ => .inl q433) ?_
    refine fa_c rfl (fun _ => .inl q481) ?_
    refine fa_c rfl (fun _ => .inl q435) ?_
    refine fa_c rfl (fun _ => .inl q482) ?_
    refine fa_c rfl (fun _ => .inl q437) ?_
    refine fa_c rfl (fun _ => .inl q447) ?_
    refine fa_c rfl (fun z => absurd z (by decide)) ?_
    refine fa_c rfl (fun _ => .inl q449) ?_
    refine fa_c rfl (fun z => absurd z (by decide)) ?_
    refine fa_c rfl (fun _ => .inl q439) ?_
    refine fa_c rfl (fun _ => .inl q2042) ?_
    refine fa_c rfl (fun _ => .inl q2043) ?_
    refine fa_c rfl (fun _ => .inl q2044) ?_
    refine fa_c rfl (fun _ => .inl q472) ?_
    refine fa_c rfl (fun _ => .inr ⟨q424, rfl⟩) ?_
    refine fa_c rfl (fun _ => .inl q472) ?_
    refine fa_c rfl (fun _ => .inl q473) ?_
    refine fa_c rfl (fun _ => .inl q474) ?_
    refine fa_c rfl (fun _ => .inl q475) ?_
    refine fa_c rfl (fun _ => .inr ⟨q426, rfl⟩) ?_
    refine fa_c rfl (fun _ => .inl q475) ?_
    refine fa_c rfl (fun _ => .inl q476) ?_
    refine fa_c rfl (fun _ => .inl q477) ?_
    refine fa_c rfl (fun _ => .inl q444) ?_
    refine fa_c rfl (fun _ => .inr ⟨q428, rfl⟩) ?_
    refine fa_c rfl (fun _ => .inl q2041) ?_
    refine fa_c rfl (fun _ => .inl q2020) ?_
    refine fa_c rfl (fun _ => .inr ⟨q2031, rfl⟩) ?_
    refine fa_c rfl (fun _ => .inl q2032) ?_
    refine fa_c rfl (fun _ => .inl q456) ?_
    refine fa_c rfl (fun _ => .inl q2026) ?_
    refine fa_c rfl (fun _ => .inl q2027) ?_
    refine fa_c rfl (fun _ => .inl q2029) ?_
    refine fa_c rfl (fun _ => .inl q2025) ?_
    refine fa_c rfl (fun z => absurd z (by decide)) ?_
    refine fa_c rfl (fun z => absurd z (by decide)) ?_
    refine fa_c rfl (fun _ => .inl q478) ?_
    refine fa_c rfl (fun _ => .inl q441) ?_
    refine fa_c rfl (fun _ => .inl q2024) ?_
    exact fa_n rfl
  exact key w (List.mem_filter.mp hw).1 (List.mem_filter.mp hw).2
set_option maxHeartbeats 4000000 in
set_option maxRecDepth 100000 in
theorem ct_X1_checkArgument {K : gK} {h : AH} {x : Int32} (hx : x ≠ 0) : gCt K yX1_checkArgument w_X1_checkArgument 0 0 0 0 h [.int x] (pV h) := by
  refine g_meth pf_X1_checkArgument (nle rfl) (fun p e s m args below meth c F hnm htb => ?_)
  have F : gFix K p s m args meth c cX1_checkArgument 1 RX1 none := F
  refine g_eql (lv' := [(0, .int x)]) rfl ?_
  refine g_iload_n F dX1_checkArgument_0 0 rfl rfl ?_
  refine g_if_ne (tgt := 12) F dX1_checkArgument_1 (by decide) (fun c1 => ?_) (fun c1 => absurd c1 (hx))
  exact g_vret F dX1_checkArgument_12 (⟨rfl, rfl⟩)
set_option maxHeartbeats 4000000 in
set_option maxRecDepth 100000 in
theorem cx_X1_checkArgument {K : gK} {h : AH} : gCt K yX1_checkArgument w_X1_checkArgument 6 81 1 6 h [.int 0] (pX (tX h 22 [])) := by
  refine g_meth pf_X1_checkArgument (nle rfl) (fun p e s m args below meth c F hnm htb => ?_)
  have F : gFix K p s m args meth c cX1_checkArgument 1 RX1 none := F
  refine g_eql (lv' := [(0, .int 0)]) rfl ?_
  refine g_iload_n F dX1_checkArgument_0 0 rfl rfl ?_
  refine g_if_ne (tgt := 12) F dX1_checkArgument_1 (by decide) (fun c1 => absurd c1 (by decide)) (fun c1 => ?_)
  refine g_make0 (b := 0) (bs := 0) F (by decide) (by decide) q1499 q97 hat_X1_J19 dX1_checkArgument_4 dX1_checkArgument_7 dX1_checkArgument_8 gc_J19 (nle rfl) (nle rfl) (fun q2 h_3 hn_e4 ho_e4 e4 => ?_)
  have w5 := gE.no gE.rf hn_e4
  have x6 := gE.new1 gE.rf e4 hn_e4
  have f7 := gu_a e4
  refine g_athrow F dX1_checkArgument_11 ?_
  exact gx_out F (fun x hx => (htb x hx).elim) gc_J19 f7 ho_e4 (⟨_, rfl, f7, x6⟩)
set_option maxHeartbeats 4000000 in
set_option maxRecDepth 100000 in
theorem ct_X1_checkIndex {K : gK} {h : AH} {x : Int32} (hx : x ≠ 0) : gCt K yX1_checkIndex w_X1_checkIndex 0 0 0 0 h [.int x] (pV h) := by
  refine g_meth pf_X1_checkIndex (nle rfl) (fun p e s m args below meth c F hnm htb => ?_)
  have F : gFix K p s m args meth c cX1_checkIndex 1 RX1 none := F
  refine g_eql (lv' := [(0, .int x)]) rfl ?_
  refine g_iload_n F dX1_checkIndex_0 0 rfl rfl ?_
  refine g_if_ne (tgt := 12) F dX1_checkIndex_1 (by decide) (fun c1 => ?_) (fun c1 => absurd c1 (hx))
  exact g_vret F dX1_checkIndex_12 (⟨rfl, rfl⟩)
set_option maxHeartbeats 4000000 in
set_option maxRecDepth 100000 in
theorem cx_X1_checkIndex {K : gK} {h : AH} : gCt K yX1_checkIndex w_X1_checkIndex 6 81 1 6 h [.int 0] (pX (tX h 23 [])) := by
  refine g_meth pf_X1_checkIndex (nle rfl) (fun p e s m args below meth c F hnm htb => ?_)
  have F : gFix K p s m args meth c cX1_checkIndex 1 RX1 none := F
  refine g_eql (lv' := [(0, .int 0)]) rfl ?_
  refine g_iload_n F dX1_checkIndex_0 0 rfl rfl ?_
  refine g_if_ne (tgt := 12) F dX1_checkIndex_1 (by decide) (fun c1 => absurd c1 (by decide)) (fun c1 => ?_)
  refine g_make0 (b := 0) (bs := 0) F (by decide) (by decide) q1465 q101 hat_X1_J21 dX1_checkIndex_4 dX1_checkIndex_7 dX1_checkIndex_8 gc_J21 (nle rfl) (nle rfl) (fun q2 h_3 hn_e4 ho_e4 e4 => ?_)
  have w5 := gE.no gE.rf hn_e4
  have x6 := gE.new1 gE.rf e4 hn_e4
  have f7 := gu_a e4
  refine g_athrow F dX1_checkIndex_11 ?_
  exact gx_out F (fun x hx => (htb x hx).elim) gc_J21 f7 ho_e4 (⟨_, rfl, f7, x6⟩)
set_option maxHeartbeats 4000000 in
set_option maxRecDepth 100000 in
theorem ct_X1_checkState {K : gK} {h : AH} {x : Int32} (hx : x ≠ 0) : gCt K yX1_checkState w_X1_checkState 0 0 0 0 h [.int x] (pV h) := by
  refine g_meth pf_X1_checkState (nle rfl) (fun p e s m args below meth c F hnm htb => ?_)
  have F : gFix K p s m args meth c cX1_checkState 1 RX1 none := F
  refine g_eql (lv' := [(0, .int x)]) rfl ?_
  refine g_iload_n F dX1_checkState_0 0 rfl rfl ?_
  refine g_if_ne (tgt := 12) F dX1_checkState_1 (by decide) (fun c1 => ?_) (fun c1 => absurd c1 (hx))
  exact g_vret F dX1_checkState_12 (⟨rfl, rfl⟩)
set_option maxHeartbeats 4000000 in
set_option maxRecDepth 100000 in
theorem cx_X1_checkState {K : gK} {h : AH} : gCt K yX1_checkState w_X1_checkState 6 81 1 6 h [.int 0] (pX (tX h 24 [])) := by
  refine g_meth pf_X1_checkState (nle rfl) (fun p e s m args below meth c F hnm htb => ?_)
  have F : gFix K p s m args meth c cX1_checkState 1 RX1 none := F
  refine g_eql (lv' := [(0, .int 0)]) rfl ?_
  refine g_iload_n F dX1_checkState_0 0 rfl rfl ?_
  refine g_if_ne (tgt := 12) F dX1_checkState_1 (by decide) (fun c1 => absurd c1 (by decide)) (fun c1 => ?_)
  refine g_make0 (b := 0) (bs := 0) F (by decide) (by decide) q1545 q109 hat_X1_J23 dX1_checkState_4 dX1_checkState_7 dX1_checkState_8 gc_J23 (nle rfl) (nle rfl) (fun q2 h_3 hn_e4 ho_e4 e4 => ?_)
  have w5 := gE.no gE.rf hn_e4
  have x6 := gE.new1 gE.rf e4 hn_e4
  have f7 := gu_a e4
  refine g_athrow F dX1_checkState_11 ?_
  exact gx_out F (fun x hx => (htb x hx).elim) gc_J23 f7 ho_e4 (⟨_, rfl, f7, x6⟩)
set_option maxHeartbeats 4000000 in
set_option maxRecDepth 100000 in
theorem ct_X1_checkElement {K : gK} {h : AH} {x : Int32} (hx : x ≠ 0) : gCt K yX1_checkElement w_X1_checkElement 0 0 0 0 h [.int x] (pV h) := by
  refine g_meth pf_X1_checkElement (nle rfl) (fun p e s m args below meth c F hnm htb => ?_)
  have F : gFix K p s m args meth c cX1_checkElement 1 RX1 none := F
  refine g_eql (lv' := [(0, .int x)]) rfl ?_
  refine g_iload_n F dX1_checkElement_0 0 rfl rfl ?_
  refine g_if_ne (tgt := 12) F dX1_checkElement_1 (by decide) (fun c1 => ?_) (fun c1 => absurd c1 (hx))
  exact g_vret F dX1_checkElement_12 (⟨rfl, rfl⟩)
set_option maxHeartbeats 4000000 in
set_option maxRecDepth 100000 in
theorem cx_X1_checkElement {K : gK} {h : AH} : gCt K yX1_checkElement w_X1_checkElement 6 81 1 6 h [.int 0] (pX (tX h 26 [])) := by
  refine g_meth pf_X1_checkElement (nle rfl) (fun p e s m args below meth c F hnm htb => ?_)
  have F : gFix K p s m args meth c cX1_checkElement 1 RX1 none := F
  refine g_eql (lv' := [(0, .int 0)]) rfl ?_
  refine g_iload_n F dX1_checkElement_0 0 rfl rfl ?_
  refine g_if_ne (tgt := 12) F dX1_checkElement_1 (by decide) (fun c1 => absurd c1 (by decide)) (fun c1 => ?_)
  refine g_make0 (b := 0) (bs := 0) F (by decide) (by decide) q1736 q87 hat_X1_J14 dX1_checkElement_4 dX1_checkElement_7 dX1_checkElement_8 gc_J14 (nle rfl) (nle rfl) (fun q2 h_3 hn_e4 ho_e4 e4 => ?_)
  have w5 := gE.no gE.rf hn_e4
  have x6 := gE.new1 gE.rf e4 hn_e4
  have f7 := gu_a e4
  refine g_athrow F dX1_checkElement_11 ?_
  exact gx_out F (fun x hx => (htb x hx).elim) gc_J14 f7 ho_e4 (⟨_, rfl, f7, x6⟩)
set_option maxHeartbeats 4000000 in
set_option maxRecDepth 100000 in
theorem ct_X1_checkNumbers {K : gK} {h : AH} {x : Int32} (hx : x ≠ 0) : gCt K yX1_checkNumbers w_X1_checkNumbers 0 0 0 0 h [.int x] (pV h) := by
  refine g_meth pf_X1_checkNumbers (nle rfl) (fun p e s m args below meth c F hnm htb => ?_)
  have F : gFix K p s m args meth c cX1_checkNumbers 1 RX1 none := F
  refine g_eql (lv' := [(0, .int x)]) rfl ?_
  refine g_iload_n F dX1_checkNumbers_0 0 rfl rfl ?_
  refine g_if_ne (tgt := 12) F dX1_checkNumbers_1 (by decide) (fun c1 => ?_) (fun c1 => absurd c1 (hx))
  exact g_vret F dX1_checkNumbers_12 (⟨rfl, rfl⟩)
set_option maxHeartbeats 4000000 in
set_option maxRecDepth 100000 in
theorem cx_X1_checkNumbers {K : gK} {h : AH} : gCt K yX1_checkNumbers w_X1_checkNumbers 6 81 1 6 h [.int 0] (pX (tX h 27 [])) := by
  refine g_meth pf_X1_checkNumbers (nle rfl) (fun p e s m args below meth c F hnm htb => ?_)
  have F : gFix K p s m args meth c cX1_checkNumbers 1 RX1 none := F
  refine g_eql (lv' := [(0, .int 0)]) rfl ?_
  refine g_iload_n F dX1_checkNumbers_0 0 rfl rfl ?_
  refine g_if_ne (tgt := 12) F dX1_checkNumbers_1 (by decide) (fun c1 => absurd c1 (by decide)) (fun c1 => ?_)
  refine g_make0 (b := 0) (bs := 0) F (by decide) (by decide) q2040 q115 hat_X1_J26 dX1_checkNumbers_4 dX1_checkNumbers_7 dX1_checkNumbers_8 gc_J26 (nle rfl) (nle rfl) (fun q2 h_3 hn_e4 ho_e4 e4 => ?_)
  have w5 := gE.no gE.rf hn_e4
  have x6 := gE.new1 gE.rf e4 hn_e4
  have f7 := gu_a e4
  refine g_athrow F dX1_checkNumbers_11 ?_
  exact gx_out F (fun x hx => (htb x hx).elim) gc_J26 f7 ho_e4 (⟨_, rfl, f7, x6⟩)
