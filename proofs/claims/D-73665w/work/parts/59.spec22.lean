set_option maxRecDepth 100000
/-! THE PURE WORDS, 22: the plain row -/
def plR (f : Int → Int) (j : Int) : Int := if j = 1042 then 8 else if j = 1043 then 16 else if j = 1044 then 20 else if j = 1045 then 6 else if j = 1046 then 4 else if 0 ≤ j ∧ j < 1048 then 0 else f j
