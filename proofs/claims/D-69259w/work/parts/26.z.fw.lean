/-! the fuel of loops that go by the rule of the least number -/
def aw_fw : Nat := 10000000000000000000000000000000000000000
theorem aw_fw_b : 82 ^ 18 + 2 ≤ aw_fw := by decide
