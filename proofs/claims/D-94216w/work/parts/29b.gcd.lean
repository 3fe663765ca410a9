set_option maxRecDepth 100000
def gcdL : Nat → Int64 → Int64 → Int64
  | 0, x, _ => x
  | n + 1, x, y => if y = 0 then x else gcdL n y (x - x / y * y)

