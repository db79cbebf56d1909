set_option maxRecDepth 100000
/-- one of two, by what a call threw -/
def zif {α : Type} (t : Int) (a b : α) : α := if 0 < t then a else b
theorem zif_p {α : Type} {t : Int} {a b : α} (h : 0 < t) : zif t a b = a := if_pos h
theorem zif_n {α : Type} {t : Int} {a b : α} (h : ¬ 0 < t) : zif t a b = b := if_neg h
/-- row k of the past -/
def zrow (pas : Int → Int) (k : Int) : zF := fun j => pas (287 * k + j)
