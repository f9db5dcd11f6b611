section
def tm_at (u : St1) : Int32 := u.1
def tm_kc (u : St1) : Int32 := u.2.1
def tm_kn (u : St1) : Int32 := u.2.2.1
def tm_g1 (u : St1) : Nat → Int32 := u.2.2.2.1
def tm_g2 (u : St1) : Nat → Int32 := u.2.2.2.2.1
def tm_g3 (u : St1) : Nat → Int32 := u.2.2.2.2.2.1
def tm_g4 (u : St1) : Nat → Int32 := u.2.2.2.2.2.2.1
def tm_g5 (u : St1) : Nat → Int32 := u.2.2.2.2.2.2.2.1
def tm_g6 (u : St1) : Nat → Int32 := u.2.2.2.2.2.2.2.2.1
def tm_g7 (u : St1) : Nat → Int32 := u.2.2.2.2.2.2.2.2.2.1
def tm_g8 (u : St1) : Nat → Int32 := u.2.2.2.2.2.2.2.2.2.2.1
def tm_g9 (u : St1) : Nat → Int32 := u.2.2.2.2.2.2.2.2.2.2.2.1
def tm_g10 (u : St1) : Nat → Int32 := u.2.2.2.2.2.2.2.2.2.2.2.2.1
def tm_g11 (u : St1) : Nat → Int32 := u.2.2.2.2.2.2.2.2.2.2.2.2.2.1
def tm_g12 (u : St1) : Nat → Int32 := u.2.2.2.2.2.2.2.2.2.2.2.2.2.2.1
def tm_g13 (u : St1) : Nat → Int32 := u.2.2.2.2.2.2.2.2.2.2.2.2.2.2.2.1
def tm_g14 (u : St1) : Nat → Int32 := u.2.2.2.2.2.2.2.2.2.2.2.2.2.2.2.2.1
def tm_g15 (u : St1) : Nat → Int32 := u.2.2.2.2.2.2.2.2.2.2.2.2.2.2.2.2.2.1
def tm_g16 (u : St1) : Nat → Int32 := u.2.2.2.2.2.2.2.2.2.2.2.2.2.2.2.2.2.2.1
def tm_g17 (u : St1) : Nat → Int32 := u.2.2.2.2.2.2.2.2.2.2.2.2.2.2.2.2.2.2.2.1
def tm_g18 (u : St1) : Nat → Int32 := u.2.2.2.2.2.2.2.2.2.2.2.2.2.2.2.2.2.2.2.2.1
def tm_g19 (u : St1) : Nat → Int32 := u.2.2.2.2.2.2.2.2.2.2.2.2.2.2.2.2.2.2.2.2.2.1
def tm_g20 (u : St1) : Nat → Int32 := u.2.2.2.2.2.2.2.2.2.2.2.2.2.2.2.2.2.2.2.2.2.2.1
def tm_g21 (u : St1) : Nat → Int32 := u.2.2.2.2.2.2.2.2.2.2.2.2.2.2.2.2.2.2.2.2.2.2.2.1
def tm_g22 (u : St1) : Nat → Int32 := u.2.2.2.2.2.2.2.2.2.2.2.2.2.2.2.2.2.2.2.2.2.2.2.2.1
def tm_g23 (u : St1) : Nat → Int32 := u.2.2.2.2.2.2.2.2.2.2.2.2.2.2.2.2.2.2.2.2.2.2.2.2.2.1
def tm_g24 (u : St1) : Nat → Int32 := u.2.2.2.2.2.2.2.2.2.2.2.2.2.2.2.2.2.2.2.2.2.2.2.2.2.2
def tm_sat (u : St1) (x : Int32) : St1 := (x, u.2)
def tm_skc (u : St1) (x : Int32) : St1 := (u.1, x, u.2.2)
def tm_skn (u : St1) (x : Int32) : St1 := (u.1, u.2.1, x, u.2.2.2)
def tm_s1 (u : St1) (x : Nat → Int32) : St1 := (u.1, u.2.1, u.2.2.1, x, u.2.2.2.2)
def tm_s2 (u : St1) (x : Nat → Int32) : St1 := (u.1, u.2.1, u.2.2.1, u.2.2.2.1, x, u.2.2.2.2.2)
def tm_s3 (u : St1) (x : Nat → Int32) : St1 := (u.1, u.2.1, u.2.2.1, u.2.2.2.1, u.2.2.2.2.1, x, u.2.2.2.2.2.2)
def tm_s4 (u : St1) (x : Nat → Int32) : St1 := (u.1, u.2.1, u.2.2.1, u.2.2.2.1, u.2.2.2.2.1, u.2.2.2.2.2.1, x, u.2.2.2.2.2.2.2)
def tm_s5 (u : St1) (x : Nat → Int32) : St1 := (u.1, u.2.1, u.2.2.1, u.2.2.2.1, u.2.2.2.2.1, u.2.2.2.2.2.1, u.2.2.2.2.2.2.1, x, u.2.2.2.2.2.2.2.2)
def tm_s6 (u : St1) (x : Nat → Int32) : St1 := (u.1, u.2.1, u.2.2.1, u.2.2.2.1, u.2.2.2.2.1, u.2.2.2.2.2.1, u.2.2.2.2.2.2.1, u.2.2.2.2.2.2.2.1, x, u.2.2.2.2.2.2.2.2.2)
def tm_s7 (u : St1) (x : Nat → Int32) : St1 := (u.1, u.2.1, u.2.2.1, u.2.2.2.1, u.2.2.2.2.1, u.2.2.2.2.2.1, u.2.2.2.2.2.2.1, u.2.2.2.2.2.2.2.1, u.2.2.2.2.2.2.2.2.1, x, u.2.2.2.2.2.2.2.2.2.2)
def tm_s8 (u : St1) (x : Nat → Int32) : St1 := (u.1, u.2.1, u.2.2.1, u.2.2.2.1, u.2.2.2.2.1, u.2.2.2.2.2.1, u.2.2.2.2.2.2.1, u.2.2.2.2.2.2.2.1, u.2.2.2.2.2.2.2.2.1, u.2.2.2.2.2.2.2.2.2.1, x, u.2.2.2.2.2.2.2.2.2.2.2)
def tm_s9 (u : St1) (x : Nat → Int32) : St1 := (u.1, u.2.1, u.2.2.1, u.2.2.2.1, u.2.2.2.2.1, u.2.2.2.2.2.1, u.2.2.2.2.2.2.1, u.2.2.2.2.2.2.2.1, u.2.2.2.2.2.2.2.2.1, u.2.2.2.2.2.2.2.2.2.1, u.2.2.2.2.2.2.2.2.2.2.1, x, u.2.2.2.2.2.2.2.2.2.2.2.2)
def tm_s10 (u : St1) (x : Nat → Int32) : St1 := (u.1, u.2.1, u.2.2.1, u.2.2.2.1, u.2.2.2.2.1, u.2.2.2.2.2.1, u.2.2.2.2.2.2.1, u.2.2.2.2.2.2.2.1, u.2.2.2.2.2.2.2.2.1, u.2.2.2.2.2.2.2.2.2.1, u.2.2.2.2.2.2.2.2.2.2.1, u.2.2.2.2.2.2.2.2.2.2.2.1, x, u.2.2.2.2.2.2.2.2.2.2.2.2.2)
def tm_s11 (u : St1) (x : Nat → Int32) : St1 := (u.1, u.2.1, u.2.2.1, u.2.2.2.1, u.2.2.2.2.1, u.2.2.2.2.2.1, u.2.2.2.2.2.2.1, u.2.2.2.2.2.2.2.1, u.2.2.2.2.2.2.2.2.1, u.2.2.2.2.2.2.2.2.2.1, u.2.2.2.2.2.2.2.2.2.2.1, u.2.2.2.2.2.2.2.2.2.2.2.1, u.2.2.2.2.2.2.2.2.2.2.2.2.1, x, u.2.2.2.2.2.2.2.2.2.2.2.2.2.2)
def tm_s12 (u : St1) (x : Nat → Int32) : St1 := (u.1, u.2.1, u.2.2.1, u.2.2.2.1, u.2.2.2.2.1, u.2.2.2.2.2.1, u.2.2.2.2.2.2.1, u.2.2.2.2.2.2.2.1, u.2.2.2.2.2.2.2.2.1, u.2.2.2.2.2.2.2.2.2.1, u.2.2.2.2.2.2.2.2.2.2.1, u.2.2.2.2.2.2.2.2.2.2.2.1, u.2.2.2.2.2.2.2.2.2.2.2.2.1, u.2.2.2.2.2.2.2.2.2.2.2.2.2.1, x, u.2.2.2.2.2.2.2.2.2.2.2.2.2.2.2)
def tm_s13 (u : St1) (x : Nat → Int32) : St1 := (u.1, u.2.1, u.2.2.1, u.2.2.2.1, u.2.2.2.2.1, u.2.2.2.2.2.1, u.2.2.2.2.2.2.1, u.2.2.2.2.2.2.2.1, u.2.2.2.2.2.2.2.2.1, u.2.2.2.2.2.2.2.2.2.1, u.2.2.2.2.2.2.2.2.2.2.1, u.2.2.2.2.2.2.2.2.2.2.2.1, u.2.2.2.2.2.2.2.2.2.2.2.2.1, u.2.2.2.2.2.2.2.2.2.2.2.2.2.1, u.2.2.2.2.2.2.2.2.2.2.2.2.2.2.1, x, u.2.2.2.2.2.2.2.2.2.2.2.2.2.2.2.2)
def tm_s14 (u : St1) (x : Nat → Int32) : St1 := (u.1, u.2.1, u.2.2.1, u.2.2.2.1, u.2.2.2.2.1, u.2.2.2.2.2.1, u.2.2.2.2.2.2.1, u.2.2.2.2.2.2.2.1, u.2.2.2.2.2.2.2.2.1, u.2.2.2.2.2.2.2.2.2.1, u.2.2.2.2.2.2.2.2.2.2.1, u.2.2.2.2.2.2.2.2.2.2.2.1, u.2.2.2.2.2.2.2.2.2.2.2.2.1, u.2.2.2.2.2.2.2.2.2.2.2.2.2.1, u.2.2.2.2.2.2.2.2.2.2.2.2.2.2.1, u.2.2.2.2.2.2.2.2.2.2.2.2.2.2.2.1, x, u.2.2.2.2.2.2.2.2.2.2.2.2.2.2.2.2.2)
def tm_s15 (u : St1) (x : Nat → Int32) : St1 := (u.1, u.2.1, u.2.2.1, u.2.2.2.1, u.2.2.2.2.1, u.2.2.2.2.2.1, u.2.2.2.2.2.2.1, u.2.2.2.2.2.2.2.1, u.2.2.2.2.2.2.2.2.1, u.2.2.2.2.2.2.2.2.2.1, u.2.2.2.2.2.2.2.2.2.2.1, u.2.2.2.2.2.2.2.2.2.2.2.1, u.2.2.2.2.2.2.2.2.2.2.2.2.1, u.2.2.2.2.2.2.2.2.2.2.2.2.2.1, u.2.2.2.2.2.2.2.2.2.2.2.2.2.2.1, u.2.2.2.2.2.2.2.2.2.2.2.2.2.2.2.1, u.2.2.2.2.2.2.2.2.2.2.2.2.2.2.2.2.1, x, u.2.2.2.2.2.2.2.2.2.2.2.2.2.2.2.2.2.2)
def tm_s16 (u : St1) (x : Nat → Int32) : St1 := (u.1, u.2.1, u.2.2.1, u.2.2.2.1, u.2.2.2.2.1, u.2.2.2.2.2.1, u.2.2.2.2.2.2.1, u.2.2.2.2.2.2.2.1, u.2.2.2.2.2.2.2.2.1, u.2.2.2.2.2.2.2.2.2.1, u.2.2.2.2.2.2.2.2.2.2.1, u.2.2.2.2.2.2.2.2.2.2.2.1, u.2.2.2.2.2.2.2.2.2.2.2.2.1, u.2.2.2.2.2.2.2.2.2.2.2.2.2.1, u.2.2.2.2.2.2.2.2.2.2.2.2.2.2.1, u.2.2.2.2.2.2.2.2.2.2.2.2.2.2.2.1, u.2.2.2.2.2.2.2.2.2.2.2.2.2.2.2.2.1, u.2.2.2.2.2.2.2.2.2.2.2.2.2.2.2.2.2.1, x, u.2.2.2.2.2.2.2.2.2.2.2.2.2.2.2.2.2.2.2)
def tm_s17 (u : St1) (x : Nat → Int32) : St1 := (u.1, u.2.1, u.2.2.1, u.2.2.2.1, u.2.2.2.2.1, u.2.2.2.2.2.1, u.2.2.2.2.2.2.1, u.2.2.2.2.2.2.2.1, u.2.2.2.2.2.2.2.2.1, u.2.2.2.2.2.2.2.2.2.1, u.2.2.2.2.2.2.2.2.2.2.1, u.2.2.2.2.2.2.2.2.2.2.2.1, u.2.2.2.2.2.2.2.2.2.2.2.2.1, u.2.2.2.2.2.2.2.2.2.2.2.2.2.1, u.2.2.2.2.2.2.2.2.2.2.2.2.2.2.1, u.2.2.2.2.2.2.2.2.2.2.2.2.2.2.2.1, u.2.2.2.2.2.2.2.2.2.2.2.2.2.2.2.2.1, u.2.2.2.2.2.2.2.2.2.2.2.2.2.2.2.2.2.1, u.2.2.2.2.2.2.2.2.2.2.2.2.2.2.2.2.2.2.1, x, u.2.2.2.2.2.2.2.2.2.2.2.2.2.2.2.2.2.2.2.2)
def tm_s18 (u : St1) (x : Nat → Int32) : St1 := (u.1, u.2.1, u.2.2.1, u.2.2.2.1, u.2.2.2.2.1, u.2.2.2.2.2.1, u.2.2.2.2.2.2.1, u.2.2.2.2.2.2.2.1, u.2.2.2.2.2.2.2.2.1, u.2.2.2.2.2.2.2.2.2.1, u.2.2.2.2.2.2.2.2.2.2.1, u.2.2.2.2.2.2.2.2.2.2.2.1, u.2.2.2.2.2.2.2.2.2.2.2.2.1, u.2.2.2.2.2.2.2.2.2.2.2.2.2.1, u.2.2.2.2.2.2.2.2.2.2.2.2.2.2.1, u.2.2.2.2.2.2.2.2.2.2.2.2.2.2.2.1, u.2.2.2.2.2.2.2.2.2.2.2.2.2.2.2.2.1, u.2.2.2.2.2.2.2.2.2.2.2.2.2.2.2.2.2.1, u.2.2.2.2.2.2.2.2.2.2.2.2.2.2.2.2.2.2.1, u.2.2.2.2.2.2.2.2.2.2.2.2.2.2.2.2.2.2.2.1, x, u.2.2.2.2.2.2.2.2.2.2.2.2.2.2.2.2.2.2.2.2.2)
def tm_s19 (u : St1) (x : Nat → Int32) : St1 := (u.1, u.2.1, u.2.2.1, u.2.2.2.1, u.2.2.2.2.1, u.2.2.2.2.2.1, u.2.2.2.2.2.2.1, u.2.2.2.2.2.2.2.1, u.2.2.2.2.2.2.2.2.1, u.2.2.2.2.2.2.2.2.2.1, u.2.2.2.2.2.2.2.2.2.2.1, u.2.2.2.2.2.2.2.2.2.2.2.1, u.2.2.2.2.2.2.2.2.2.2.2.2.1, u.2.2.2.2.2.2.2.2.2.2.2.2.2.1, u.2.2.2.2.2.2.2.2.2.2.2.2.2.2.1, u.2.2.2.2.2.2.2.2.2.2.2.2.2.2.2.1, u.2.2.2.2.2.2.2.2.2.2.2.2.2.2.2.2.1, u.2.2.2.2.2.2.2.2.2.2.2.2.2.2.2.2.2.1, u.2.2.2.2.2.2.2.2.2.2.2.2.2.2.2.2.2.2.1, u.2.2.2.2.2.2.2.2.2.2.2.2.2.2.2.2.2.2.2.1, u.2.2.2.2.2.2.2.2.2.2.2.2.2.2.2.2.2.2.2.2.1, x, u.2.2.2.2.2.2.2.2.2.2.2.2.2.2.2.2.2.2.2.2.2.2)
def tm_s20 (u : St1) (x : Nat → Int32) : St1 := (u.1, u.2.1, u.2.2.1, u.2.2.2.1, u.2.2.2.2.1, u.2.2.2.2.2.1, u.2.2.2.2.2.2.1, u.2.2.2.2.2.2.2.1, u.2.2.2.2.2.2.2.2.1, u.2.2.2.2.2.2.2.2.2.1, u.2.2.2.2.2.2.2.2.2.2.1, u.2.2.2.2.2.2.2.2.2.2.2.1, u.2.2.2.2.2.2.2.2.2.2.2.2.1, u.2.2.2.2.2.2.2.2.2.2.2.2.2.1, u.2.2.2.2.2.2.2.2.2.2.2.2.2.2.1, u.2.2.2.2.2.2.2.2.2.2.2.2.2.2.2.1, u.2.2.2.2.2.2.2.2.2.2.2.2.2.2.2.2.1, u.2.2.2.2.2.2.2.2.2.2.2.2.2.2.2.2.2.1, u.2.2.2.2.2.2.2.2.2.2.2.2.2.2.2.2.2.2.1, u.2.2.2.2.2.2.2.2.2.2.2.2.2.2.2.2.2.2.2.1, u.2.2.2.2.2.2.2.2.2.2.2.2.2.2.2.2.2.2.2.2.1, u.2.2.2.2.2.2.2.2.2.2.2.2.2.2.2.2.2.2.2.2.2.1, x, u.2.2.2.2.2.2.2.2.2.2.2.2.2.2.2.2.2.2.2.2.2.2.2)
def tm_s21 (u : St1) (x : Nat → Int32) : St1 := (u.1, u.2.1, u.2.2.1, u.2.2.2.1, u.2.2.2.2.1, u.2.2.2.2.2.1, u.2.2.2.2.2.2.1, u.2.2.2.2.2.2.2.1, u.2.2.2.2.2.2.2.2.1, u.2.2.2.2.2.2.2.2.2.1, u.2.2.2.2.2.2.2.2.2.2.1, u.2.2.2.2.2.2.2.2.2.2.2.1, u.2.2.2.2.2.2.2.2.2.2.2.2.1, u.2.2.2.2.2.2.2.2.2.2.2.2.2.1, u.2.2.2.2.2.2.2.2.2.2.2.2.2.2.1, u.2.2.2.2.2.2.2.2.2.2.2.2.2.2.2.1, u.2.2.2.2.2.2.2.2.2.2.2.2.2.2.2.2.1, u.2.2.2.2.2.2.2.2.2.2.2.2.2.2.2.2.2.1, u.2.2.2.2.2.2.2.2.2.2.2.2.2.2.2.2.2.2.1, u.2.2.2.2.2.2.2.2.2.2.2.2.2.2.2.2.2.2.2.1, u.2.2.2.2.2.2.2.2.2.2.2.2.2.2.2.2.2.2.2.2.1, u.2.2.2.2.2.2.2.2.2.2.2.2.2.2.2.2.2.2.2.2.2.1, u.2.2.2.2.2.2.2.2.2.2.2.2.2.2.2.2.2.2.2.2.2.2.1, x, u.2.2.2.2.2.2.2.2.2.2.2.2.2.2.2.2.2.2.2.2.2.2.2.2)
def tm_s22 (u : St1) (x : Nat → Int32) : St1 := (u.1, u.2.1, u.2.2.1, u.2.2.2.1, u.2.2.2.2.1, u.2.2.2.2.2.1, u.2.2.2.2.2.2.1, u.2.2.2.2.2.2.2.1, u.2.2.2.2.2.2.2.2.1, u.2.2.2.2.2.2.2.2.2.1, u.2.2.2.2.2.2.2.2.2.2.1, u.2.2.2.2.2.2.2.2.2.2.2.1, u.2.2.2.2.2.2.2.2.2.2.2.2.1, u.2.2.2.2.2.2.2.2.2.2.2.2.2.1, u.2.2.2.2.2.2.2.2.2.2.2.2.2.2.1, u.2.2.2.2.2.2.2.2.2.2.2.2.2.2.2.1, u.2.2.2.2.2.2.2.2.2.2.2.2.2.2.2.2.1, u.2.2.2.2.2.2.2.2.2.2.2.2.2.2.2.2.2.1, u.2.2.2.2.2.2.2.2.2.2.2.2.2.2.2.2.2.2.1, u.2.2.2.2.2.2.2.2.2.2.2.2.2.2.2.2.2.2.2.1, u.2.2.2.2.2.2.2.2.2.2.2.2.2.2.2.2.2.2.2.2.1, u.2.2.2.2.2.2.2.2.2.2.2.2.2.2.2.2.2.2.2.2.2.1, u.2.2.2.2.2.2.2.2.2.2.2.2.2.2.2.2.2.2.2.2.2.2.1, u.2.2.2.2.2.2.2.2.2.2.2.2.2.2.2.2.2.2.2.2.2.2.2.1, x, u.2.2.2.2.2.2.2.2.2.2.2.2.2.2.2.2.2.2.2.2.2.2.2.2.2)
def tm_s23 (u : St1) (x : Nat → Int32) : St1 := (u.1, u.2.1, u.2.2.1, u.2.2.2.1, u.2.2.2.2.1, u.2.2.2.2.2.1, u.2.2.2.2.2.2.1, u.2.2.2.2.2.2.2.1, u.2.2.2.2.2.2.2.2.1, u.2.2.2.2.2.2.2.2.2.1, u.2.2.2.2.2.2.2.2.2.2.1, u.2.2.2.2.2.2.2.2.2.2.2.1, u.2.2.2.2.2.2.2.2.2.2.2.2.1, u.2.2.2.2.2.2.2.2.2.2.2.2.2.1, u.2.2.2.2.2.2.2.2.2.2.2.2.2.2.1, u.2.2.2.2.2.2.2.2.2.2.2.2.2.2.2.1, u.2.2.2.2.2.2.2.2.2.2.2.2.2.2.2.2.1, u.2.2.2.2.2.2.2.2.2.2.2.2.2.2.2.2.2.1, u.2.2.2.2.2.2.2.2.2.2.2.2.2.2.2.2.2.2.1, u.2.2.2.2.2.2.2.2.2.2.2.2.2.2.2.2.2.2.2.1, u.2.2.2.2.2.2.2.2.2.2.2.2.2.2.2.2.2.2.2.2.1, u.2.2.2.2.2.2.2.2.2.2.2.2.2.2.2.2.2.2.2.2.2.1, u.2.2.2.2.2.2.2.2.2.2.2.2.2.2.2.2.2.2.2.2.2.2.1, u.2.2.2.2.2.2.2.2.2.2.2.2.2.2.2.2.2.2.2.2.2.2.2.1, u.2.2.2.2.2.2.2.2.2.2.2.2.2.2.2.2.2.2.2.2.2.2.2.2.1, x, u.2.2.2.2.2.2.2.2.2.2.2.2.2.2.2.2.2.2.2.2.2.2.2.2.2.2)
def tm_s24 (u : St1) (x : Nat → Int32) : St1 := (u.1, u.2.1, u.2.2.1, u.2.2.2.1, u.2.2.2.2.1, u.2.2.2.2.2.1, u.2.2.2.2.2.2.1, u.2.2.2.2.2.2.2.1, u.2.2.2.2.2.2.2.2.1, u.2.2.2.2.2.2.2.2.2.1, u.2.2.2.2.2.2.2.2.2.2.1, u.2.2.2.2.2.2.2.2.2.2.2.1, u.2.2.2.2.2.2.2.2.2.2.2.2.1, u.2.2.2.2.2.2.2.2.2.2.2.2.2.1, u.2.2.2.2.2.2.2.2.2.2.2.2.2.2.1, u.2.2.2.2.2.2.2.2.2.2.2.2.2.2.2.1, u.2.2.2.2.2.2.2.2.2.2.2.2.2.2.2.2.1, u.2.2.2.2.2.2.2.2.2.2.2.2.2.2.2.2.2.1, u.2.2.2.2.2.2.2.2.2.2.2.2.2.2.2.2.2.2.1, u.2.2.2.2.2.2.2.2.2.2.2.2.2.2.2.2.2.2.2.1, u.2.2.2.2.2.2.2.2.2.2.2.2.2.2.2.2.2.2.2.2.1, u.2.2.2.2.2.2.2.2.2.2.2.2.2.2.2.2.2.2.2.2.2.1, u.2.2.2.2.2.2.2.2.2.2.2.2.2.2.2.2.2.2.2.2.2.2.1, u.2.2.2.2.2.2.2.2.2.2.2.2.2.2.2.2.2.2.2.2.2.2.2.1, u.2.2.2.2.2.2.2.2.2.2.2.2.2.2.2.2.2.2.2.2.2.2.2.2.1, u.2.2.2.2.2.2.2.2.2.2.2.2.2.2.2.2.2.2.2.2.2.2.2.2.2.1, x)
/-- a deterministic run: it ends in one a, whatever is asked behind it -/
def tm_R {α : Type} (P : α → Prop) (W : (α → Prop) → Prop) : Prop := ∃ a, P a ∧ ∀ post : α → Prop, post a → W post
theorem tm_ret {α : Type} {P : α → Prop} {a : α} (h : P a) : tm_R P (fun post => post a) := ⟨a, h, fun _ hp => hp⟩
theorem tm_and {α : Type} {P : α → Prop} {g : Prop} {A : (α → Prop) → Prop} (hg : g) (h : tm_R P A) : tm_R P (fun post => g ∧ A post) := by
  obtain ⟨a, ha, hw⟩ := h
  exact ⟨a, ha, fun post hp => ⟨hg, hw post hp⟩⟩
theorem tm_if {α : Type} {P : α → Prop} {c : Prop} {A B : (α → Prop) → Prop} (d : Prop) (e : c ↔ d) (hA : d → tm_R P A) (hB : ¬ d → tm_R P B) : tm_R P (fun post => (c → A post) ∧ (¬ c → B post)) := by
  by_cases h : d
  · obtain ⟨a, ha, hw⟩ := hA h
    exact ⟨a, ha, fun post hp => br_t (e.mpr h) (hw post hp)⟩
  · obtain ⟨a, ha, hw⟩ := hB h
    exact ⟨a, ha, fun post hp => br_f (fun z => h (e.mp z)) (hw post hp)⟩
theorem tm_t {α : Type} {P : α → Prop} {c : Prop} {A B : (α → Prop) → Prop} (h : c) (hA : tm_R P A) : tm_R P (fun post => (c → A post) ∧ (¬ c → B post)) := by
  obtain ⟨a, ha, hw⟩ := hA
  exact ⟨a, ha, fun post hp => br_t h (hw post hp)⟩
theorem tm_f {α : Type} {P : α → Prop} {c : Prop} {A B : (α → Prop) → Prop} (h : ¬ c) (hB : tm_R P B) : tm_R P (fun post => (c → A post) ∧ (¬ c → B post)) := by
  obtain ⟨a, ha, hw⟩ := hB
  exact ⟨a, ha, fun post hp => br_f h (hw post hp)⟩
theorem tm_nm {α β : Type} {P : α → Prop} {e : β} {A : (α → Prop) → β → Prop} (e' : β) (he : e = e') (h : tm_R P (fun post => A post e')) : tm_R P (fun post => ∀ x, x = e → A post x) := by
  obtain ⟨a, ha, hw⟩ := h
  exact ⟨a, ha, fun post hp => nm_r he (hw post hp)⟩
theorem tm_ne {α β : Type} {P : α → Prop} {e : β} {A : (α → Prop) → β → Prop} (h : tm_R P (fun post => A post e)) : tm_R P (fun post => ∀ x, x = e → A post x) := by
  obtain ⟨a, ha, hw⟩ := h
  exact ⟨a, ha, fun post hp => nm_e (hw post hp)⟩
theorem tm_bind {α β : Type} {P : α → Prop} {Q : β → Prop} {V : (β → Prop) → Prop} {K : (α → Prop) → β → Prop} (hV : tm_R Q V) (hK : ∀ b, Q b → tm_R P (fun post => K post b)) : tm_R P (fun post => V (K post)) := by
  obtain ⟨b, hb, hv⟩ := hV
  obtain ⟨a, ha, hw⟩ := hK b hb
  exact ⟨a, ha, fun post hp => hv _ (hw post hp)⟩
theorem tm_fu {α : Type} {P : α → Prop} {W : (α → Prop) → Nat → Prop} (n : Nat) (h : tm_R P (fun post => W post n)) : tm_R P (fun post => ∃ n, W post n) := by
  obtain ⟨a, ha, hw⟩ := h
  exact ⟨a, ha, fun post hp => ⟨n, hw post hp⟩⟩
theorem tm_imp {α : Type} {P Q : α → Prop} {W : (α → Prop) → Prop} (h : tm_R P W) (hq : ∀ a, P a → Q a) : tm_R Q W := by
  obtain ⟨a, ha, hw⟩ := h
  exact ⟨a, hq a ha, hw⟩
theorem tm_le {α : Type} {P : α → Prop} {x y : Int32} {A B : (α → Prop) → Prop} (a b : Nat) (hx : x = nI a) (hy : y = nI b) (hA : a ≤ b → tm_R P A) (hB : b < a → tm_R P B) (ha : a < 2 ^ 31 := by omega) (hb : b < 2 ^ 31 := by omega) : tm_R P (fun post => (x ≤ y → A post) ∧ (¬ x ≤ y → B post)) :=
  tm_if (a ≤ b) (by rw [hx, hy]; exact nI_leI ha hb) hA (fun h => hB (by omega))
theorem tm_lt {α : Type} {P : α → Prop} {x y : Int32} {A B : (α → Prop) → Prop} (a b : Nat) (hx : x = nI a) (hy : y = nI b) (hA : a < b → tm_R P A) (hB : b ≤ a → tm_R P B) (ha : a < 2 ^ 31 := by omega) (hb : b < 2 ^ 31 := by omega) : tm_R P (fun post => (x < y → A post) ∧ (¬ x < y → B post)) :=
  tm_if (a < b) (by rw [hx, hy]; exact nI_ltI ha hb) hA (fun h => hB (by omega))
theorem tm_eq {α : Type} {P : α → Prop} {x y : Int32} {A B : (α → Prop) → Prop} (a b : Nat) (hx : x = nI a) (hy : y = nI b) (hA : a = b → tm_R P A) (hB : a ≠ b → tm_R P B) (ha : a < 2 ^ 31 := by omega) (hb : b < 2 ^ 31 := by omega) : tm_R P (fun post => (x = y → A post) ∧ (¬ x = y → B post)) :=
  tm_if (a = b) (by rw [hx, hy]; exact nI_eq ha hb) hA hB
/-- an index in range, known as a natural -/
theorem tm_in {x : Int32} {n N : Nat} (hx : x = nI n) (h : n < N) (hN : N < 2 ^ 31 := by decide) : vp_in x N := by
  rw [hx]; exact vp_in_nI h hN
theorem tm_cl {x : Int32} {n : Nat} (hx : x = nI n) (h : n < 2 ^ 31 := by omega) : x.toNatClampNeg = n := by
  rw [hx]; exact nI_clamp h
theorem tm_up {f : Nat → Int32} {x v w : Int32} {n : Nat} (hx : x = nI n) (hv : v = w) (h : n < 2 ^ 31 := by omega) : upd f x.toNatClampNeg v = upd f n w := by
  rw [tm_cl hx h, hv]
theorem tm_at_ {f : Nat → Int32} {x w : Int32} {n : Nat} (hx : x = nI n) (hv : f n = w) (h : n < 2 ^ 31 := by omega) : f x.toNatClampNeg = w := by
  rw [tm_cl hx h, hv]
theorem tm_by : ∀ k, k < 128 → (nI k).toInt8.toInt32 = nI k := by decide +kernel
theorem tm_b8 {x : Int32} {k : Nat} (hx : x = nI k) (h : k < 128 := by omega) : x.toInt8.toInt32 = nI k := by
  rw [hx]; exact tm_by k h
theorem tm_nb {x : Int32} {k : Nat} (hx : x = nI k) (h : k < 128 := by omega) : vp_nar .byte x = nI k := by
  rw [vp_nar_byte]; exact tm_b8 hx h
theorem tm_nz : ∀ k, k < 2 → vp_nar .boolean (nI k) = nI k := by decide +kernel
theorem tm_no {x : Int32} {k : Nat} (hx : x = nI k) (h : k < 2 := by omega) : vp_nar .boolean x = nI k := by
  rw [hx]; exact tm_nz k h
def tm_bd (x : Int32) (m : Nat) : Prop := ∃ k : Nat, k ≤ m ∧ x = nI k
def tm_sg (x : Int32) : Prop := ∃ k : Nat, 32 ≤ k ∧ k ≤ 126 ∧ x = nI k
end
section
def tm_TS (t : Nat) (u : St1) : Prop := tm_bd (tm_g4 u t) 5 ∧ tm_bd (tm_g5 u t) 11 ∧ (tm_g6 u t = nI 0 ∨ (tm_g6 u t = nI 1 ∧ tm_g5 u t = nI 11)) ∧ tm_bd (tm_g7 u t) 7 ∧ (∃ p q : Nat, p < q ∧ q ≤ 5 ∧ tm_g8 u t = nI p ∧ tm_g9 u t = nI q) ∧ tm_bd (tm_g10 u t) 1 ∧ tm_bd (tm_g11 u t) 1 ∧ tm_bd (tm_g12 u t) 1 ∧ tm_bd (tm_g13 u t) 5 ∧ tm_bd (tm_g14 u t) 11 ∧ tm_bd (tm_g15 u t) 7 ∧ tm_bd (tm_g16 u t) 5 ∧ tm_bd (tm_g17 u t) 11 ∧ (tm_g12 u t = nI 0 ∨ ∃ p q : Nat, p < q ∧ q ≤ 5 ∧ tm_g18 u t = nI p ∧ tm_g19 u t = nI q) ∧ tm_bd (tm_g20 u t) 3 ∧ tm_bd (tm_g22 u t) 5 ∧ (tm_g20 u t = nI 0 ∨ tm_g20 u t = nI 1 ∨ ¬ tm_g22 u t = nI 0) ∧ ∀ i, i < 4 → tm_bd (tm_g23 u (4 * t + i)) 99
def tm_Cel (t : Nat) (s y : Nat → Int32) : Prop := ∀ i, 144 * t ≤ i → i < 144 * t + 144 → tm_sg (s i) ∧ tm_bd (y i) 7
def tm_Slt (t : Nat) (z : Nat → Int32) : Prop := (∀ i, 12 * t ≤ i → i < 12 * t + 12 → tm_bd (z i) 11) ∧ (∀ b i j, b < 2 → i < 6 → j < 6 → z (12 * t + 6 * b + i) = z (12 * t + 6 * b + j) → i = j)
def tm_TI (t : Nat) (u : St1) : Prop := tm_Cel t (tm_g1 u) (tm_g2 u) ∧ tm_Slt t (tm_g3 u) ∧ tm_TS t u
def tm_G (u : St1) : Prop := tm_bd (tm_kc u) 8 ∧ tm_bd (tm_kn u) 7
/-- the scalars at k -/
def tm_Sk (k : Nat) (u0 u : St1) : Prop := tm_g4 u k = tm_g4 u0 k ∧ tm_g5 u k = tm_g5 u0 k ∧ tm_g6 u k = tm_g6 u0 k ∧ tm_g7 u k = tm_g7 u0 k ∧ tm_g8 u k = tm_g8 u0 k ∧ tm_g9 u k = tm_g9 u0 k ∧ tm_g10 u k = tm_g10 u0 k ∧ tm_g11 u k = tm_g11 u0 k ∧ tm_g12 u k = tm_g12 u0 k ∧ tm_g13 u k = tm_g13 u0 k ∧ tm_g14 u k = tm_g14 u0 k ∧ tm_g15 u k = tm_g15 u0 k ∧ tm_g16 u k = tm_g16 u0 k ∧ tm_g17 u k = tm_g17 u0 k ∧ tm_g18 u k = tm_g18 u0 k ∧ tm_g19 u k = tm_g19 u0 k ∧ tm_g20 u k = tm_g20 u0 k ∧ tm_g21 u k = tm_g21 u0 k ∧ tm_g22 u k = tm_g22 u0 k
/-- what isn't terminal t's is as in u0 -/
def tm_Fr (t : Nat) (u0 u : St1) : Prop := (∀ i, (i < 144 * t ∨ 144 * t + 144 ≤ i) → tm_g1 u i = tm_g1 u0 i ∧ tm_g2 u i = tm_g2 u0 i) ∧ (∀ i, (i < 12 * t ∨ 12 * t + 12 ≤ i) → tm_g3 u i = tm_g3 u0 i) ∧ (∀ k, k ≠ t → tm_Sk k u0 u) ∧ (∀ i, (i < 4 * t ∨ 4 * t + 4 ≤ i) → tm_g23 u i = tm_g23 u0 i)
def tm_Ok (t : Nat) (u0 u : St1) : Prop := tm_at u = nI t ∧ tm_TI t u ∧ tm_G u ∧ tm_Fr t u0 u ∧ tm_kc u0 ≤ tm_kc u
theorem tm_o4 {t : Nat} {u0 u : St1} {x : Int32} (h : tm_Ok t u0 u) (hx : tm_bd x 5) : tm_Ok t u0 (tm_s4 u (upd (tm_g4 u) t x)) := by
  obtain ⟨ha, ⟨hc, hs, h4, h5, h6, h7, h89, h10, h11, h12, h13, h14, h15, h16, h17, hab, h20, h22, hst, h23⟩, hg, ⟨f1, f2, f3, f4⟩, hm⟩ := h
  refine ⟨ha, ⟨hc, hs, ?_, h5, h6, h7, h89, h10, h11, h12, h13, h14, h15, h16, h17, hab, h20, h22, hst, h23⟩, hg, ⟨f1, f2, fun k hk => ?_, f4⟩, hm⟩
  · show tm_bd (upd (tm_g4 u) t x t) 5; rw [pk_us]; exact hx
  · obtain ⟨e4, e5, e6, e7, e8, e9, e10, e11, e12, e13, e14, e15, e16, e17, e18, e19, e20, e21, e22⟩ := f3 k hk
    exact ⟨(pk_un hk).trans e4, e5, e6, e7, e8, e9, e10, e11, e12, e13, e14, e15, e16, e17, e18, e19, e20, e21, e22⟩
theorem tm_o7 {t : Nat} {u0 u : St1} {x : Int32} (h : tm_Ok t u0 u) (hx : tm_bd x 7) : tm_Ok t u0 (tm_s7 u (upd (tm_g7 u) t x)) := by
  obtain ⟨ha, ⟨hc, hs, h4, h5, h6, h7, h89, h10, h11, h12, h13, h14, h15, h16, h17, hab, h20, h22, hst, h23⟩, hg, ⟨f1, f2, f3, f4⟩, hm⟩ := h
  refine ⟨ha, ⟨hc, hs, h4, h5, h6, ?_, h89, h10, h11, h12, h13, h14, h15, h16, h17, hab, h20, h22, hst, h23⟩, hg, ⟨f1, f2, fun k hk => ?_, f4⟩, hm⟩
  · show tm_bd (upd (tm_g7 u) t x t) 7; rw [pk_us]; exact hx
  · obtain ⟨e4, e5, e6, e7, e8, e9, e10, e11, e12, e13, e14, e15, e16, e17, e18, e19, e20, e21, e22⟩ := f3 k hk
    exact ⟨e4, e5, e6, (pk_un hk).trans e7, e8, e9, e10, e11, e12, e13, e14, e15, e16, e17, e18, e19, e20, e21, e22⟩
theorem tm_o10 {t : Nat} {u0 u : St1} {x : Int32} (h : tm_Ok t u0 u) (hx : tm_bd x 1) : tm_Ok t u0 (tm_s10 u (upd (tm_g10 u) t x)) := by
  obtain ⟨ha, ⟨hc, hs, h4, h5, h6, h7, h89, h10, h11, h12, h13, h14, h15, h16, h17, hab, h20, h22, hst, h23⟩, hg, ⟨f1, f2, f3, f4⟩, hm⟩ := h
  refine ⟨ha, ⟨hc, hs, h4, h5, h6, h7, h89, ?_, h11, h12, h13, h14, h15, h16, h17, hab, h20, h22, hst, h23⟩, hg, ⟨f1, f2, fun k hk => ?_, f4⟩, hm⟩
  · show tm_bd (upd (tm_g10 u) t x t) 1; rw [pk_us]; exact hx
  · obtain ⟨e4, e5, e6, e7, e8, e9, e10, e11, e12, e13, e14, e15, e16, e17, e18, e19, e20, e21, e22⟩ := f3 k hk
    exact ⟨e4, e5, e6, e7, e8, e9, (pk_un hk).trans e10, e11, e12, e13, e14, e15, e16, e17, e18, e19, e20, e21, e22⟩
theorem tm_o11 {t : Nat} {u0 u : St1} {x : Int32} (h : tm_Ok t u0 u) (hx : tm_bd x 1) : tm_Ok t u0 (tm_s11 u (upd (tm_g11 u) t x)) := by
  obtain ⟨ha, ⟨hc, hs, h4, h5, h6, h7, h89, h10, h11, h12, h13, h14, h15, h16, h17, hab, h20, h22, hst, h23⟩, hg, ⟨f1, f2, f3, f4⟩, hm⟩ := h
  refine ⟨ha, ⟨hc, hs, h4, h5, h6, h7, h89, h10, ?_, h12, h13, h14, h15, h16, h17, hab, h20, h22, hst, h23⟩, hg, ⟨f1, f2, fun k hk => ?_, f4⟩, hm⟩
  · show tm_bd (upd (tm_g11 u) t x t) 1; rw [pk_us]; exact hx
  · obtain ⟨e4, e5, e6, e7, e8, e9, e10, e11, e12, e13, e14, e15, e16, e17, e18, e19, e20, e21, e22⟩ := f3 k hk
    exact ⟨e4, e5, e6, e7, e8, e9, e10, (pk_un hk).trans e11, e12, e13, e14, e15, e16, e17, e18, e19, e20, e21, e22⟩
theorem tm_o13 {t : Nat} {u0 u : St1} {x : Int32} (h : tm_Ok t u0 u) (hx : tm_bd x 5) : tm_Ok t u0 (tm_s13 u (upd (tm_g13 u) t x)) := by
  obtain ⟨ha, ⟨hc, hs, h4, h5, h6, h7, h89, h10, h11, h12, h13, h14, h15, h16, h17, hab, h20, h22, hst, h23⟩, hg, ⟨f1, f2, f3, f4⟩, hm⟩ := h
  refine ⟨ha, ⟨hc, hs, h4, h5, h6, h7, h89, h10, h11, h12, ?_, h14, h15, h16, h17, hab, h20, h22, hst, h23⟩, hg, ⟨f1, f2, fun k hk => ?_, f4⟩, hm⟩
  · show tm_bd (upd (tm_g13 u) t x t) 5; rw [pk_us]; exact hx
  · obtain ⟨e4, e5, e6, e7, e8, e9, e10, e11, e12, e13, e14, e15, e16, e17, e18, e19, e20, e21, e22⟩ := f3 k hk
    exact ⟨e4, e5, e6, e7, e8, e9, e10, e11, e12, (pk_un hk).trans e13, e14, e15, e16, e17, e18, e19, e20, e21, e22⟩
theorem tm_o14 {t : Nat} {u0 u : St1} {x : Int32} (h : tm_Ok t u0 u) (hx : tm_bd x 11) : tm_Ok t u0 (tm_s14 u (upd (tm_g14 u) t x)) := by
  obtain ⟨ha, ⟨hc, hs, h4, h5, h6, h7, h89, h10, h11, h12, h13, h14, h15, h16, h17, hab, h20, h22, hst, h23⟩, hg, ⟨f1, f2, f3, f4⟩, hm⟩ := h
  refine ⟨ha, ⟨hc, hs, h4, h5, h6, h7, h89, h10, h11, h12, h13, ?_, h15, h16, h17, hab, h20, h22, hst, h23⟩, hg, ⟨f1, f2, fun k hk => ?_, f4⟩, hm⟩
  · show tm_bd (upd (tm_g14 u) t x t) 11; rw [pk_us]; exact hx
  · obtain ⟨e4, e5, e6, e7, e8, e9, e10, e11, e12, e13, e14, e15, e16, e17, e18, e19, e20, e21, e22⟩ := f3 k hk
    exact ⟨e4, e5, e6, e7, e8, e9, e10, e11, e12, e13, (pk_un hk).trans e14, e15, e16, e17, e18, e19, e20, e21, e22⟩
theorem tm_o15 {t : Nat} {u0 u : St1} {x : Int32} (h : tm_Ok t u0 u) (hx : tm_bd x 7) : tm_Ok t u0 (tm_s15 u (upd (tm_g15 u) t x)) := by
  obtain ⟨ha, ⟨hc, hs, h4, h5, h6, h7, h89, h10, h11, h12, h13, h14, h15, h16, h17, hab, h20, h22, hst, h23⟩, hg, ⟨f1, f2, f3, f4⟩, hm⟩ := h
  refine ⟨ha, ⟨hc, hs, h4, h5, h6, h7, h89, h10, h11, h12, h13, h14, ?_, h16, h17, hab, h20, h22, hst, h23⟩, hg, ⟨f1, f2, fun k hk => ?_, f4⟩, hm⟩
  · show tm_bd (upd (tm_g15 u) t x t) 7; rw [pk_us]; exact hx
  · obtain ⟨e4, e5, e6, e7, e8, e9, e10, e11, e12, e13, e14, e15, e16, e17, e18, e19, e20, e21, e22⟩ := f3 k hk
    exact ⟨e4, e5, e6, e7, e8, e9, e10, e11, e12, e13, e14, (pk_un hk).trans e15, e16, e17, e18, e19, e20, e21, e22⟩
theorem tm_o16 {t : Nat} {u0 u : St1} {x : Int32} (h : tm_Ok t u0 u) (hx : tm_bd x 5) : tm_Ok t u0 (tm_s16 u (upd (tm_g16 u) t x)) := by
  obtain ⟨ha, ⟨hc, hs, h4, h5, h6, h7, h89, h10, h11, h12, h13, h14, h15, h16, h17, hab, h20, h22, hst, h23⟩, hg, ⟨f1, f2, f3, f4⟩, hm⟩ := h
  refine ⟨ha, ⟨hc, hs, h4, h5, h6, h7, h89, h10, h11, h12, h13, h14, h15, ?_, h17, hab, h20, h22, hst, h23⟩, hg, ⟨f1, f2, fun k hk => ?_, f4⟩, hm⟩
  · show tm_bd (upd (tm_g16 u) t x t) 5; rw [pk_us]; exact hx
  · obtain ⟨e4, e5, e6, e7, e8, e9, e10, e11, e12, e13, e14, e15, e16, e17, e18, e19, e20, e21, e22⟩ := f3 k hk
    exact ⟨e4, e5, e6, e7, e8, e9, e10, e11, e12, e13, e14, e15, (pk_un hk).trans e16, e17, e18, e19, e20, e21, e22⟩
theorem tm_o17 {t : Nat} {u0 u : St1} {x : Int32} (h : tm_Ok t u0 u) (hx : tm_bd x 11) : tm_Ok t u0 (tm_s17 u (upd (tm_g17 u) t x)) := by
  obtain ⟨ha, ⟨hc, hs, h4, h5, h6, h7, h89, h10, h11, h12, h13, h14, h15, h16, h17, hab, h20, h22, hst, h23⟩, hg, ⟨f1, f2, f3, f4⟩, hm⟩ := h
  refine ⟨ha, ⟨hc, hs, h4, h5, h6, h7, h89, h10, h11, h12, h13, h14, h15, h16, ?_, hab, h20, h22, hst, h23⟩, hg, ⟨f1, f2, fun k hk => ?_, f4⟩, hm⟩
  · show tm_bd (upd (tm_g17 u) t x t) 11; rw [pk_us]; exact hx
  · obtain ⟨e4, e5, e6, e7, e8, e9, e10, e11, e12, e13, e14, e15, e16, e17, e18, e19, e20, e21, e22⟩ := f3 k hk
    exact ⟨e4, e5, e6, e7, e8, e9, e10, e11, e12, e13, e14, e15, e16, (pk_un hk).trans e17, e18, e19, e20, e21, e22⟩
theorem tm_o5 {t : Nat} {u0 u : St1} {x : Int32} (h : tm_Ok t u0 u) (hx : tm_bd x 11) (hw : tm_g6 u t = nI 0 ∨ x = nI 11) : tm_Ok t u0 (tm_s5 u (upd (tm_g5 u) t x)) := by
  obtain ⟨ha, ⟨hc, hs, h4, h5, h6, h7, h89, h10, h11, h12, h13, h14, h15, h16, h17, hab, h20, h22, hst, h23⟩, hg, ⟨f1, f2, f3, f4⟩, hm⟩ := h
  refine ⟨ha, ⟨hc, hs, h4, ?_, ?_, h7, h89, h10, h11, h12, h13, h14, h15, h16, h17, hab, h20, h22, hst, h23⟩, hg, ⟨f1, f2, fun k hk => ?_, f4⟩, hm⟩
  · show tm_bd (upd (tm_g5 u) t x t) 11; rw [pk_us]; exact hx
  · show tm_g6 u t = nI 0 ∨ (tm_g6 u t = nI 1 ∧ upd (tm_g5 u) t x t = nI 11); rw [pk_us]; rcases h6 with z | z; exact Or.inl z; rcases hw with w | w; exact Or.inl w; exact Or.inr ⟨z.1, w⟩
  · obtain ⟨e4, e5, e6, e7, e8, e9, e10, e11, e12, e13, e14, e15, e16, e17, e18, e19, e20, e21, e22⟩ := f3 k hk
    exact ⟨e4, (pk_un hk).trans e5, e6, e7, e8, e9, e10, e11, e12, e13, e14, e15, e16, e17, e18, e19, e20, e21, e22⟩
theorem tm_o6 {t : Nat} {u0 u : St1} {x : Int32} (h : tm_Ok t u0 u) (hx : x = nI 0 ∨ (x = nI 1 ∧ tm_g5 u t = nI 11)) : tm_Ok t u0 (tm_s6 u (upd (tm_g6 u) t x)) := by
  obtain ⟨ha, ⟨hc, hs, h4, h5, h6, h7, h89, h10, h11, h12, h13, h14, h15, h16, h17, hab, h20, h22, hst, h23⟩, hg, ⟨f1, f2, f3, f4⟩, hm⟩ := h
  refine ⟨ha, ⟨hc, hs, h4, h5, ?_, h7, h89, h10, h11, h12, h13, h14, h15, h16, h17, hab, h20, h22, hst, h23⟩, hg, ⟨f1, f2, fun k hk => ?_, f4⟩, hm⟩
  · show upd (tm_g6 u) t x t = nI 0 ∨ (upd (tm_g6 u) t x t = nI 1 ∧ tm_g5 u t = nI 11); rw [pk_us]; exact hx
  · obtain ⟨e4, e5, e6, e7, e8, e9, e10, e11, e12, e13, e14, e15, e16, e17, e18, e19, e20, e21, e22⟩ := f3 k hk
    exact ⟨e4, e5, (pk_un hk).trans e6, e7, e8, e9, e10, e11, e12, e13, e14, e15, e16, e17, e18, e19, e20, e21, e22⟩
theorem tm_o89 {t : Nat} {u0 u : St1} {x : Int32} {y : Int32} (h : tm_Ok t u0 u) (hx : ∃ p q : Nat, p < q ∧ q ≤ 5 ∧ x = nI p ∧ y = nI q) : tm_Ok t u0 (tm_s9 (tm_s8 u (upd (tm_g8 u) t x)) (upd (tm_g9 u) t y)) := by
  obtain ⟨ha, ⟨hc, hs, h4, h5, h6, h7, h89, h10, h11, h12, h13, h14, h15, h16, h17, hab, h20, h22, hst, h23⟩, hg, ⟨f1, f2, f3, f4⟩, hm⟩ := h
  refine ⟨ha, ⟨hc, hs, h4, h5, h6, h7, ?_, h10, h11, h12, h13, h14, h15, h16, h17, hab, h20, h22, hst, h23⟩, hg, ⟨f1, f2, fun k hk => ?_, f4⟩, hm⟩
  · show ∃ p q : Nat, p < q ∧ q ≤ 5 ∧ upd (tm_g8 u) t x t = nI p ∧ upd (tm_g9 u) t y t = nI q; rw [pk_us, pk_us]; exact hx
  · obtain ⟨e4, e5, e6, e7, e8, e9, e10, e11, e12, e13, e14, e15, e16, e17, e18, e19, e20, e21, e22⟩ := f3 k hk
    exact ⟨e4, e5, e6, e7, (pk_un hk).trans e8, (pk_un hk).trans e9, e10, e11, e12, e13, e14, e15, e16, e17, e18, e19, e20, e21, e22⟩
theorem tm_o12z {t : Nat} {u0 u : St1} (h : tm_Ok t u0 u) : tm_Ok t u0 (tm_s12 u (upd (tm_g12 u) t (nI 0))) := by
  obtain ⟨ha, ⟨hc, hs, h4, h5, h6, h7, h89, h10, h11, h12, h13, h14, h15, h16, h17, hab, h20, h22, hst, h23⟩, hg, ⟨f1, f2, f3, f4⟩, hm⟩ := h
  refine ⟨ha, ⟨hc, hs, h4, h5, h6, h7, h89, h10, h11, ?_, h13, h14, h15, h16, h17, ?_, h20, h22, hst, h23⟩, hg, ⟨f1, f2, fun k hk => ?_, f4⟩, hm⟩
  · show tm_bd (upd (tm_g12 u) t (nI 0) t) 1; rw [pk_us]; exact ⟨0, by omega, rfl⟩
  · exact Or.inl (show upd (tm_g12 u) t (nI 0) t = nI 0 from pk_us)
  · obtain ⟨e4, e5, e6, e7, e8, e9, e10, e11, e12, e13, e14, e15, e16, e17, e18, e19, e20, e21, e22⟩ := f3 k hk
    exact ⟨e4, e5, e6, e7, e8, e9, e10, e11, (pk_un hk).trans e12, e13, e14, e15, e16, e17, e18, e19, e20, e21, e22⟩
theorem tm_o12o {t : Nat} {u0 u : St1} (h : tm_Ok t u0 u) (hx : ∃ p q : Nat, p < q ∧ q ≤ 5 ∧ tm_g18 u t = nI p ∧ tm_g19 u t = nI q) : tm_Ok t u0 (tm_s12 u (upd (tm_g12 u) t (nI 1))) := by
  obtain ⟨ha, ⟨hc, hs, h4, h5, h6, h7, h89, h10, h11, h12, h13, h14, h15, h16, h17, hab, h20, h22, hst, h23⟩, hg, ⟨f1, f2, f3, f4⟩, hm⟩ := h
  refine ⟨ha, ⟨hc, hs, h4, h5, h6, h7, h89, h10, h11, ?_, h13, h14, h15, h16, h17, ?_, h20, h22, hst, h23⟩, hg, ⟨f1, f2, fun k hk => ?_, f4⟩, hm⟩
  · show tm_bd (upd (tm_g12 u) t (nI 1) t) 1; rw [pk_us]; exact ⟨1, by omega, rfl⟩
  · exact Or.inr hx
  · obtain ⟨e4, e5, e6, e7, e8, e9, e10, e11, e12, e13, e14, e15, e16, e17, e18, e19, e20, e21, e22⟩ := f3 k hk
    exact ⟨e4, e5, e6, e7, e8, e9, e10, e11, (pk_un hk).trans e12, e13, e14, e15, e16, e17, e18, e19, e20, e21, e22⟩
theorem tm_o18 {t : Nat} {u0 u : St1} {x : Int32} (h : tm_Ok t u0 u) (hz : tm_g12 u t = nI 0) : tm_Ok t u0 (tm_s18 u (upd (tm_g18 u) t x)) := by
  obtain ⟨ha, ⟨hc, hs, h4, h5, h6, h7, h89, h10, h11, h12, h13, h14, h15, h16, h17, hab, h20, h22, hst, h23⟩, hg, ⟨f1, f2, f3, f4⟩, hm⟩ := h
  refine ⟨ha, ⟨hc, hs, h4, h5, h6, h7, h89, h10, h11, h12, h13, h14, h15, h16, h17, ?_, h20, h22, hst, h23⟩, hg, ⟨f1, f2, fun k hk => ?_, f4⟩, hm⟩
  · exact Or.inl hz
  · obtain ⟨e4, e5, e6, e7, e8, e9, e10, e11, e12, e13, e14, e15, e16, e17, e18, e19, e20, e21, e22⟩ := f3 k hk
    exact ⟨e4, e5, e6, e7, e8, e9, e10, e11, e12, e13, e14, e15, e16, e17, (pk_un hk).trans e18, e19, e20, e21, e22⟩
theorem tm_o19 {t : Nat} {u0 u : St1} {x : Int32} (h : tm_Ok t u0 u) (hz : tm_g12 u t = nI 0) : tm_Ok t u0 (tm_s19 u (upd (tm_g19 u) t x)) := by
  obtain ⟨ha, ⟨hc, hs, h4, h5, h6, h7, h89, h10, h11, h12, h13, h14, h15, h16, h17, hab, h20, h22, hst, h23⟩, hg, ⟨f1, f2, f3, f4⟩, hm⟩ := h
  refine ⟨ha, ⟨hc, hs, h4, h5, h6, h7, h89, h10, h11, h12, h13, h14, h15, h16, h17, ?_, h20, h22, hst, h23⟩, hg, ⟨f1, f2, fun k hk => ?_, f4⟩, hm⟩
  · exact Or.inl hz
  · obtain ⟨e4, e5, e6, e7, e8, e9, e10, e11, e12, e13, e14, e15, e16, e17, e18, e19, e20, e21, e22⟩ := f3 k hk
    exact ⟨e4, e5, e6, e7, e8, e9, e10, e11, e12, e13, e14, e15, e16, e17, e18, (pk_un hk).trans e19, e20, e21, e22⟩
theorem tm_o20 {t : Nat} {u0 u : St1} {x : Int32} (h : tm_Ok t u0 u) (hx : tm_bd x 3) (hz : x = nI 0 ∨ x = nI 1 ∨ ¬ tm_g22 u t = nI 0) : tm_Ok t u0 (tm_s20 u (upd (tm_g20 u) t x)) := by
  obtain ⟨ha, ⟨hc, hs, h4, h5, h6, h7, h89, h10, h11, h12, h13, h14, h15, h16, h17, hab, h20, h22, hst, h23⟩, hg, ⟨f1, f2, f3, f4⟩, hm⟩ := h
  refine ⟨ha, ⟨hc, hs, h4, h5, h6, h7, h89, h10, h11, h12, h13, h14, h15, h16, h17, hab, ?_, h22, ?_, h23⟩, hg, ⟨f1, f2, fun k hk => ?_, f4⟩, hm⟩
  · show tm_bd (upd (tm_g20 u) t x t) 3; rw [pk_us]; exact hx
  · show upd (tm_g20 u) t x t = nI 0 ∨ upd (tm_g20 u) t x t = nI 1 ∨ ¬ tm_g22 u t = nI 0; rw [pk_us]; exact hz
  · obtain ⟨e4, e5, e6, e7, e8, e9, e10, e11, e12, e13, e14, e15, e16, e17, e18, e19, e20, e21, e22⟩ := f3 k hk
    exact ⟨e4, e5, e6, e7, e8, e9, e10, e11, e12, e13, e14, e15, e16, e17, e18, e19, (pk_un hk).trans e20, e21, e22⟩
theorem tm_o21 {t : Nat} {u0 u : St1} {x : Int32} (h : tm_Ok t u0 u) : tm_Ok t u0 (tm_s21 u (upd (tm_g21 u) t x)) := by
  obtain ⟨ha, ⟨hc, hs, h4, h5, h6, h7, h89, h10, h11, h12, h13, h14, h15, h16, h17, hab, h20, h22, hst, h23⟩, hg, ⟨f1, f2, f3, f4⟩, hm⟩ := h
  refine ⟨ha, ⟨hc, hs, h4, h5, h6, h7, h89, h10, h11, h12, h13, h14, h15, h16, h17, hab, h20, h22, hst, h23⟩, hg, ⟨f1, f2, fun k hk => ?_, f4⟩, hm⟩
  · obtain ⟨e4, e5, e6, e7, e8, e9, e10, e11, e12, e13, e14, e15, e16, e17, e18, e19, e20, e21, e22⟩ := f3 k hk
    exact ⟨e4, e5, e6, e7, e8, e9, e10, e11, e12, e13, e14, e15, e16, e17, e18, e19, e20, (pk_un hk).trans e21, e22⟩
theorem tm_o22 {t : Nat} {u0 u : St1} {x : Int32} (h : tm_Ok t u0 u) (hx : tm_bd x 5) (hz : ¬ x = nI 0) : tm_Ok t u0 (tm_s22 u (upd (tm_g22 u) t x)) := by
  obtain ⟨ha, ⟨hc, hs, h4, h5, h6, h7, h89, h10, h11, h12, h13, h14, h15, h16, h17, hab, h20, h22, hst, h23⟩, hg, ⟨f1, f2, f3, f4⟩, hm⟩ := h
  refine ⟨ha, ⟨hc, hs, h4, h5, h6, h7, h89, h10, h11, h12, h13, h14, h15, h16, h17, hab, h20, ?_, ?_, h23⟩, hg, ⟨f1, f2, fun k hk => ?_, f4⟩, hm⟩
  · show tm_bd (upd (tm_g22 u) t x t) 5; rw [pk_us]; exact hx
  · show tm_g20 u t = nI 0 ∨ tm_g20 u t = nI 1 ∨ ¬ upd (tm_g22 u) t x t = nI 0; rw [pk_us]; exact Or.inr (Or.inr hz)
  · obtain ⟨e4, e5, e6, e7, e8, e9, e10, e11, e12, e13, e14, e15, e16, e17, e18, e19, e20, e21, e22⟩ := f3 k hk
    exact ⟨e4, e5, e6, e7, e8, e9, e10, e11, e12, e13, e14, e15, e16, e17, e18, e19, e20, e21, (pk_un hk).trans e22⟩
def tm_cs (u : St1) (kc kn : Int32) (s y z k : Nat → Int32) : St1 := (u.1, kc, kn, s, y, z, u.2.2.2.2.2.2.1, u.2.2.2.2.2.2.2.1, u.2.2.2.2.2.2.2.2.1, u.2.2.2.2.2.2.2.2.2.1, u.2.2.2.2.2.2.2.2.2.2.1, u.2.2.2.2.2.2.2.2.2.2.2.1, u.2.2.2.2.2.2.2.2.2.2.2.2.1, u.2.2.2.2.2.2.2.2.2.2.2.2.2.1, u.2.2.2.2.2.2.2.2.2.2.2.2.2.2.1, u.2.2.2.2.2.2.2.2.2.2.2.2.2.2.2.1, u.2.2.2.2.2.2.2.2.2.2.2.2.2.2.2.2.1, u.2.2.2.2.2.2.2.2.2.2.2.2.2.2.2.2.2.1, u.2.2.2.2.2.2.2.2.2.2.2.2.2.2.2.2.2.2.1, u.2.2.2.2.2.2.2.2.2.2.2.2.2.2.2.2.2.2.2.1, u.2.2.2.2.2.2.2.2.2.2.2.2.2.2.2.2.2.2.2.2.1, u.2.2.2.2.2.2.2.2.2.2.2.2.2.2.2.2.2.2.2.2.2.1, u.2.2.2.2.2.2.2.2.2.2.2.2.2.2.2.2.2.2.2.2.2.2.1, u.2.2.2.2.2.2.2.2.2.2.2.2.2.2.2.2.2.2.2.2.2.2.2.1, u.2.2.2.2.2.2.2.2.2.2.2.2.2.2.2.2.2.2.2.2.2.2.2.2.1, u.2.2.2.2.2.2.2.2.2.2.2.2.2.2.2.2.2.2.2.2.2.2.2.2.2.1, k)
/-- only cells, slots and what is kept off the screen have changed -/
def tm_Sc (u u' : St1) : Prop := ∃ kc kn s y z k, u' = tm_cs u kc kn s y z k
theorem tm_Sc0 (u : St1) : tm_Sc u u := ⟨tm_kc u, tm_kn u, tm_g1 u, tm_g2 u, tm_g3 u, tm_g24 u, rfl⟩
theorem tm_Sct {u v w : St1} (h : tm_Sc u v) (h' : tm_Sc v w) : tm_Sc u w := by
  obtain ⟨_, _, _, _, _, _, rfl⟩ := h
  obtain ⟨a, b, c, d, e, f, rfl⟩ := h'
  exact ⟨a, b, c, d, e, f, rfl⟩
theorem tm_oc {t : Nat} {u0 u : St1} {kc kn : Int32} {s y z k : Nat → Int32} (h : tm_Ok t u0 u) (hc : tm_Cel t s y) (hs : tm_Slt t z) (hk : tm_bd kc 8) (hn : tm_bd kn 7) (f1 : ∀ i, (i < 144 * t ∨ 144 * t + 144 ≤ i) → s i = tm_g1 u i ∧ y i = tm_g2 u i) (f2 : ∀ i, (i < 12 * t ∨ 12 * t + 12 ≤ i) → z i = tm_g3 u i) (hm : tm_kc u ≤ kc) : tm_Ok t u0 (tm_cs u kc kn s y z k) := by
  obtain ⟨ha, ⟨_, _, hT⟩, hg, ⟨e1, e2, e3, e4⟩, em⟩ := h
  exact ⟨ha, ⟨hc, hs, hT⟩, ⟨hk, hn⟩, ⟨fun i hi => ⟨(f1 i hi).1.trans (e1 i hi).1, (f1 i hi).2.trans (e1 i hi).2⟩, fun i hi => (f2 i hi).trans (e2 i hi), e3, e4⟩, Int32.le_trans em hm⟩
theorem tm_o23 {t : Nat} {u0 u : St1} {x : Int32} {i : Nat} (h : tm_Ok t u0 u) (hi : i < 4) (hx : tm_bd x 99) : tm_Ok t u0 (tm_s23 u (upd (tm_g23 u) (4 * t + i) x)) := by
  obtain ⟨ha, ⟨hc, hs, h4, h5, h6, h7, h89, h10, h11, h12, h13, h14, h15, h16, h17, hab, h20, h22, hst, h23⟩, hg, ⟨f1, f2, f3, f4⟩, hm⟩ := h
  refine ⟨ha, ⟨hc, hs, h4, h5, h6, h7, h89, h10, h11, h12, h13, h14, h15, h16, h17, hab, h20, h22, hst, fun j hj => ?_⟩, hg, ⟨f1, f2, f3, fun j hj => ?_⟩, hm⟩
  · show tm_bd (upd (tm_g23 u) (4 * t + i) x (4 * t + j)) 99
    by_cases e : j = i
    · rw [e, pk_us]; exact hx
    · rw [pk_un (by omega)]; exact h23 j hj
  · show upd (tm_g23 u) (4 * t + i) x j = tm_g23 u0 j
    rw [pk_un (by omega)]; exact f4 j hj
theorem tm_okc {t : Nat} {u0 u : St1} (h : tm_Ok t u0 u) {r : Nat} (hr : r < 6) (ht : t < 2) : ∃ k s : Nat, k ≤ 1 ∧ s ≤ 11 ∧ tm_g12 u t = nI k ∧ tm_g3 u (12 * t + 6 * k + r) = nI s := by
  obtain ⟨ha, ⟨hc, hs, h4, h5, h6, h7, h89, h10, h11, h12, h13, h14, h15, h16, h17, hab, h20, h22, hst, h23⟩, hg, hF, hm⟩ := h
  obtain ⟨k, hk, ek⟩ := h12
  obtain ⟨s, hs', es⟩ := hs.1 (12 * t + 6 * k + r) (by omega) (by omega)
  exact ⟨k, s, hk, hs', ek, es⟩
end
section
theorem tm_ad {x y : Int32} {a b n : Nat} (hx : x = nI a) (hy : y = nI b) (hn : n = a + b) : x + y = nI n := by rw [hx, hy, hn]; exact nI_add a b
theorem tm_ml {x y : Int32} {a b n : Nat} (hx : x = nI a) (hy : y = nI b) (hn : n = a * b) : x * y = nI n := by rw [hx, hy, hn]; exact pk_mul a b
theorem tm_ma {x y z : Int32} {a b c n : Nat} (hx : x = nI a) (hy : y = nI b) (hz : z = nI c) (hn : n = a * b + c) : x * y + z = nI n := tm_ad (tm_ml hx hy rfl) hz hn
theorem tm_su {x y : Int32} {a b n : Nat} (hx : x = nI a) (hy : y = nI b) (h : b ≤ a) (hn : n = a - b) : x - y = nI n := by rw [hx, hy, hn]; exact pk_sub h
theorem tm_screen {t k : Nat} {u : St1} (ht : t < 2) (ha : tm_at u = nI t) (hk : tm_g12 u t = nI k) : tm_R (fun v => v = nI (2 * t + k)) (fun post => wpX_screen post u) := by
  refine tm_and (tm_in ha ht) ?_
  exact tm_ret (tm_ma (b := 2) ha rfl (tm_at_ ha hk) (by omega))
theorem tm_lineAt {t k r s : Nat} {u : St1} {p : Int32} (ht : t < 2) (ha : tm_at u = nI t) (hk : tm_g12 u t = nI k) (hk1 : k ≤ 1) (hp : p = nI r) (hr : r < 6) (hs : tm_g3 u (12 * t + 6 * k + r) = nI s) : tm_R (fun v => v = nI (144 * t + 12 * s)) (fun post => wpX_lineAt post u p) := by
  unfold wpX_lineAt
  refine tm_bind (tm_screen ht ha hk) (fun v hv => ?_)
  have e : v * 6 + p = nI (12 * t + 6 * k + r) := tm_ma (b := 6) hv rfl hp (by omega)
  refine tm_and (tm_in e (by omega)) ?_
  exact tm_ret (tm_ml (b := 12) (tm_ma (b := 12) ha rfl (tm_at_ e hs) rfl) rfl (by omega))
theorem tm_lineOf {t k r s : Nat} {u : St1} {q p : Int32} (ht : t < 2) (ha : q = nI t) (hk : tm_g12 u t = nI k) (hk1 : k ≤ 1) (hp : p = nI r) (hr : r < 6) (hs : tm_g3 u (12 * t + 6 * k + r) = nI s) : tm_R (fun v => v = nI (144 * t + 12 * s)) (fun post => wpX_lineOf post u q p) := by
  refine tm_and (tm_in ha ht) ?_
  refine tm_nm (nI (2 * t + k)) (tm_ma (b := 2) ha rfl (tm_at_ ha hk) (by omega)) ?_
  have e : nI (2 * t + k) * 6 + p = nI (12 * t + 6 * k + r) := tm_ma (b := 6) rfl rfl hp (by omega)
  refine tm_and (tm_in e (by omega)) ?_
  exact tm_ret (tm_ml (b := 12) (tm_ma (b := 12) ha rfl (tm_at_ e hs) rfl) rfl (by omega))
def tm_fl (f : Nat → Int32) (a b : Nat) (x : Int32) : Nat → Int32 := fun i => if a ≤ i ∧ i < b then x else f i
theorem tm_fl0 {f : Nat → Int32} {a b : Nat} {x : Int32} (h : b ≤ a) : tm_fl f a b x = f := by
  funext i; exact if_neg (by omega)
theorem tm_fl_in {f : Nat → Int32} {a b i : Nat} {x : Int32} (h : a ≤ i) (h' : i < b) : tm_fl f a b x i = x := if_pos ⟨h, h'⟩
theorem tm_fl_out {f : Nat → Int32} {a b i : Nat} {x : Int32} (h : i < a ∨ b ≤ i) : tm_fl f a b x i = f i := if_neg (by omega)
theorem tm_fls {f : Nat → Int32} {a b : Nat} {x : Int32} (h : a < b) : tm_fl (upd f a x) (a + 1) b x = tm_fl f a b x := by
  funext i
  by_cases e : i = a
  · rw [e, tm_fl_out (by omega), pk_us, tm_fl_in (by omega) h]
  · by_cases e1 : a ≤ i ∧ i < b
    · rw [tm_fl_in (by omega) e1.2, tm_fl_in e1.1 e1.2]
    · rw [tm_fl_out (by omega), tm_fl_out (by omega), pk_un e]
theorem tm_ec10 {u : St1} {e L : Nat} (he : e ≤ 12) (hL : L ≤ 276) : ∀ d c, e - c = d → c ≤ 12 → ∀ s y, tm_R (fun u' => u' = tm_s2 (tm_s1 u (tm_fl s (L + c) (L + e) (nI 32))) (tm_fl y (L + c) (L + e) (nI 0))) (fun post => wX_emptyCells_10 post (nI e) (nI L) (tm_at u) (tm_kc u) (tm_kn u) (d + 1) (nI c) s y (tm_g3 u) (tm_g4 u) (tm_g5 u) (tm_g6 u) (tm_g7 u) (tm_g8 u) (tm_g9 u) (tm_g10 u) (tm_g11 u) (tm_g12 u) (tm_g13 u) (tm_g14 u) (tm_g15 u) (tm_g16 u) (tm_g17 u) (tm_g18 u) (tm_g19 u) (tm_g20 u) (tm_g21 u) (tm_g22 u) (tm_g23 u) (tm_g24 u)) := by
  intro d
  induction d with
  | zero =>
    intro c hc hc' s y
    refine tm_le e c rfl rfl (fun h => ?_) (fun h => absurd h (by omega))
    rw [tm_fl0 (by omega), tm_fl0 (by omega)]
    exact tm_ret rfl
  | succ d ih =>
    intro c hc hc' s y
    refine tm_le e c rfl rfl (fun h => absurd h (by omega)) (fun h => ?_)
    refine tm_and (tm_in (tm_ad rfl rfl rfl) (by omega)) ?_
    refine tm_nm (upd s (L + c) (nI 32)) (tm_up (tm_ad rfl rfl rfl) rfl) ?_
    refine tm_and (tm_in (tm_ad rfl rfl rfl) (by omega)) ?_
    refine tm_nm (upd y (L + c) (nI 0)) (tm_up (tm_ad rfl rfl rfl) rfl) ?_
    refine tm_nm (nI (c + 1)) (nI_1 c) ?_
    have g := ih (c + 1) (by omega) (by omega) (upd s (L + c) (nI 32)) (upd y (L + c) (nI 0))
    rw [show L + (c + 1) = (L + c) + 1 by omega, tm_fls (by omega), tm_fls (by omega)] at g
    exact g
theorem tm_emptyCells {t k r s c e : Nat} {u : St1} {p q w : Int32} (ht : t < 2) (ha : tm_at u = nI t) (hk : tm_g12 u t = nI k) (hk1 : k ≤ 1) (hp : p = nI r) (hr : r < 6) (hs : tm_g3 u (12 * t + 6 * k + r) = nI s) (hs1 : s ≤ 11) (hq : q = nI c) (hc : c ≤ 12) (hw : w = nI e) (he : e ≤ 12) :
    tm_R (fun u' => u' = tm_s2 (tm_s1 u (tm_fl (tm_g1 u) (144 * t + 12 * s + c) (144 * t + 12 * s + e) (nI 32))) (tm_fl (tm_g2 u) (144 * t + 12 * s + c) (144 * t + 12 * s + e) (nI 0))) (fun post => wpX_emptyCells post u p q w) := by
  unfold wpX_emptyCells
  refine tm_bind (tm_lineAt ht ha hk hk1 hp hr hs) (fun v hv => ?_)
  rw [hv, hq, hw]
  exact tm_fu (e - c + 1) (tm_ec10 he (by omega) (e - c) c rfl hc (tm_g1 u) (tm_g2 u))
def tm_Er (t k r e : Nat) (u u' : St1) : Prop := ∃ s y, u' = tm_s2 (tm_s1 u s) y ∧ (∀ i, (i < 144 * t ∨ 144 * t + 144 ≤ i) → s i = tm_g1 u i ∧ y i = tm_g2 u i) ∧ (∀ i, (s i = tm_g1 u i ∧ y i = tm_g2 u i) ∨ (s i = nI 32 ∧ y i = nI 0)) ∧ (∀ r' c q, r ≤ r' → r' < e → c < 12 → q ≤ 11 → tm_g3 u (12 * t + 6 * k + r') = nI q → s (144 * t + 12 * q + c) = nI 32 ∧ y (144 * t + 12 * q + c) = nI 0)
theorem tm_er2 {t k e : Nat} (ht : t < 2) (hk1 : k ≤ 1) (he : e ≤ 6) : ∀ d r, e - r = d → r ≤ 6 → ∀ u, tm_at u = nI t → tm_g12 u t = nI k → (∀ r, r < 6 → tm_bd (tm_g3 u (12 * t + 6 * k + r)) 11) → tm_R (tm_Er t k r e u) (fun post => wX_emptyRows_2 post (nI e) (d + 1) (nI r) (tm_at u) (tm_kc u) (tm_kn u) (tm_g1 u) (tm_g2 u) (tm_g3 u) (tm_g4 u) (tm_g5 u) (tm_g6 u) (tm_g7 u) (tm_g8 u) (tm_g9 u) (tm_g10 u) (tm_g11 u) (tm_g12 u) (tm_g13 u) (tm_g14 u) (tm_g15 u) (tm_g16 u) (tm_g17 u) (tm_g18 u) (tm_g19 u) (tm_g20 u) (tm_g21 u) (tm_g22 u) (tm_g23 u) (tm_g24 u)) := by
  intro d
  induction d with
  | zero =>
    intro r hr hr' u ha hk hz
    refine tm_le e r rfl rfl (fun h => ?_) (fun h => absurd h (by omega))
    exact tm_ret ⟨tm_g1 u, tm_g2 u, rfl, fun i _ => ⟨rfl, rfl⟩, fun i => Or.inl ⟨rfl, rfl⟩, fun r' c q h1 h2 => absurd h2 (by omega)⟩
  | succ d ih =>
    intro r hr hr' u ha hk hz
    refine tm_le e r rfl rfl (fun h => absurd h (by omega)) (fun h => ?_)
    obtain ⟨s0, hs0, es0⟩ := hz r (by omega)
    refine tm_bind (tm_emptyCells (c := 0) (e := 12) ht ha hk hk1 rfl (by omega) es0 hs0 rfl (by omega) rfl (by omega)) (fun v hv => ?_)
    refine tm_nm (nI (r + 1)) (nI_1 r) ?_
    subst hv
    refine tm_imp (ih (r + 1) (by omega) (by omega) _ ha hk hz) (fun u' hu' => ?_)
    obtain ⟨s, y, e1, e2, e3, e4⟩ := hu'
    refine ⟨s, y, e1, fun i hi => ?_, fun i => ?_, fun r' c q h1 h2 h3 h4 h5 => ?_⟩
    · have g : s i = tm_fl (tm_g1 u) (144 * t + 12 * s0 + 0) (144 * t + 12 * s0 + 12) (nI 32) i ∧ y i = tm_fl (tm_g2 u) (144 * t + 12 * s0 + 0) (144 * t + 12 * s0 + 12) (nI 0) i := e2 i hi
      rw [tm_fl_out (by omega), tm_fl_out (by omega)] at g
      exact g
    · have g : (s i = tm_fl (tm_g1 u) (144 * t + 12 * s0 + 0) (144 * t + 12 * s0 + 12) (nI 32) i ∧ y i = tm_fl (tm_g2 u) (144 * t + 12 * s0 + 0) (144 * t + 12 * s0 + 12) (nI 0) i) ∨ (s i = nI 32 ∧ y i = nI 0) := e3 i
      rcases g with g | g
      · by_cases z : 144 * t + 12 * s0 + 0 ≤ i ∧ i < 144 * t + 12 * s0 + 12
        · rw [tm_fl_in z.1 z.2, tm_fl_in z.1 z.2] at g
          exact Or.inr g
        · rw [tm_fl_out (by omega), tm_fl_out (by omega)] at g
          exact Or.inl g
      · exact Or.inr g
    · by_cases z : r' = r
      · have eq : q = s0 := by
          rw [z, es0] at h5
          exact ((nI_eq (by omega) (by omega)).mp h5).symm
        have g : (s (144 * t + 12 * q + c) = tm_fl (tm_g1 u) (144 * t + 12 * s0 + 0) (144 * t + 12 * s0 + 12) (nI 32) (144 * t + 12 * q + c) ∧ y (144 * t + 12 * q + c) = tm_fl (tm_g2 u) (144 * t + 12 * s0 + 0) (144 * t + 12 * s0 + 12) (nI 0) (144 * t + 12 * q + c)) ∨ (s (144 * t + 12 * q + c) = nI 32 ∧ y (144 * t + 12 * q + c) = nI 0) := e3 _
        rcases g with g | g
        · rw [tm_fl_in (by omega) (by omega), tm_fl_in (by omega) (by omega)] at g
          exact g
        · exact g
      · exact e4 r' c q (by omega) h2 h3 h4 h5
theorem tm_emptyRows {t k r e : Nat} {u : St1} {p q : Int32} (ht : t < 2) (ha : tm_at u = nI t) (hk : tm_g12 u t = nI k) (hk1 : k ≤ 1) (hz : ∀ r, r < 6 → tm_bd (tm_g3 u (12 * t + 6 * k + r)) 11) (hp : p = nI r) (hr : r ≤ 6) (hq : q = nI e) (he : e ≤ 6) :
    tm_R (tm_Er t k r e u) (fun post => wpX_emptyRows post u p q) := by
  rw [hp, hq]
  exact tm_fu (e - r + 1) (tm_er2 ht hk1 he (e - r) r rfl hr u ha hk hz)
end
section
theorem tm_celF {t a b : Nat} {s y : Nat → Int32} (h : tm_Cel t s y) : tm_Cel t (tm_fl s a b (nI 32)) (tm_fl y a b (nI 0)) := by
  intro i h1 h2
  by_cases z : a ≤ i ∧ i < b
  · rw [tm_fl_in z.1 z.2, tm_fl_in z.1 z.2]
    exact ⟨⟨32, by omega, by omega, rfl⟩, ⟨0, by omega, rfl⟩⟩
  · rw [tm_fl_out (by omega), tm_fl_out (by omega)]
    exact h i h1 h2
theorem tm_sltP {t k : Nat} {z z' : Nat → Int32} (σ : Nat → Nat) (hk : k ≤ 1) (h : tm_Slt t z) (hσ : ∀ i, i < 6 → σ i < 6 ∧ z' (12 * t + 6 * k + i) = z (12 * t + 6 * k + σ i)) (hj : ∀ i j, i < 6 → j < 6 → σ i = σ j → i = j) (ho : ∀ i, (i < 12 * t + 6 * k ∨ 12 * t + 6 * k + 6 ≤ i) → z' i = z i) : tm_Slt t z' := by
  refine ⟨fun i h1 h2 => ?_, fun b i j hb hi hj' he => ?_⟩
  · by_cases c : i < 12 * t + 6 * k ∨ 12 * t + 6 * k + 6 ≤ i
    · rw [ho i c]; exact h.1 i h1 h2
    · obtain ⟨g1, g2⟩ := hσ (i - (12 * t + 6 * k)) (by omega)
      rw [show 12 * t + 6 * k + (i - (12 * t + 6 * k)) = i by omega] at g2
      rw [g2]; exact h.1 _ (by omega) (by omega)
  · by_cases c : b = k
    · rw [c, (hσ i hi).2, (hσ j hj').2] at he
      exact hj i j hi hj' (h.2 k _ _ (by omega) (hσ i hi).1 (hσ j hj').1 he)
    · rw [ho _ (by omega), ho _ (by omega)] at he
      exact h.2 b i j hb hi hj' he
def tm_c3 (u : St1) (z : Nat → Int32) (a b : Nat) : St1 := tm_s2 (tm_s1 (tm_s3 u z) (tm_fl (tm_g1 u) a b (nI 32))) (tm_fl (tm_g2 u) a b (nI 0))
def tm_shu (z : Nat → Int32) (a b : Nat) : Nat → Int32 := fun j => if a ≤ j ∧ j < b then z (j + 1) else z j
def tm_shd (z : Nat → Int32) (a b : Nat) : Nat → Int32 := fun j => if a < j ∧ j ≤ b then z (j - 1) else z j
theorem tm_shu_in {z : Nat → Int32} {a b j : Nat} (h : a ≤ j) (h' : j < b) : tm_shu z a b j = z (j + 1) := if_pos ⟨h, h'⟩
theorem tm_shu_out {z : Nat → Int32} {a b j : Nat} (h : j < a ∨ b ≤ j) : tm_shu z a b j = z j := if_neg (by omega)
theorem tm_shd_in {z : Nat → Int32} {a b j : Nat} (h : a < j) (h' : j ≤ b) : tm_shd z a b j = z (j - 1) := if_pos ⟨h, h'⟩
theorem tm_shd_out {z : Nat → Int32} {a b j : Nat} (h : j ≤ a ∨ b < j) : tm_shd z a b j = z j := if_neg (by omega)
theorem tm_shu0 {z : Nat → Int32} {a b : Nat} (h : b ≤ a) : tm_shu z a b = z := by
  funext i; exact tm_shu_out (by omega)
theorem tm_shd0 {z : Nat → Int32} {a b : Nat} (h : b ≤ a) : tm_shd z a b = z := by
  funext i; exact tm_shd_out (by omega)
theorem tm_shus {z : Nat → Int32} {a b : Nat} (h : a < b) : tm_shu (upd z a (z (a + 1))) (a + 1) b = tm_shu z a b := by
  funext i
  by_cases e : i = a
  · rw [e, tm_shu_out (by omega), pk_us, tm_shu_in (by omega) h]
  · by_cases e1 : a ≤ i ∧ i < b
    · rw [tm_shu_in (by omega) e1.2, tm_shu_in e1.1 e1.2, pk_un (by omega)]
    · rw [tm_shu_out (by omega), tm_shu_out (by omega), pk_un e]
theorem tm_shds {z : Nat → Int32} {a b : Nat} (h : a ≤ b) : tm_shd (upd z (b + 1) (z b)) a b = tm_shd z a (b + 1) := by
  funext i
  by_cases e : i = b + 1
  · rw [e, tm_shd_out (by omega), pk_us, tm_shd_in (by omega) (by omega)]; rfl
  · by_cases e1 : a < i ∧ i ≤ b
    · rw [tm_shd_in e1.1 e1.2, tm_shd_in e1.1 (by omega), pk_un (by omega)]
    · rw [tm_shd_out (by omega), tm_shd_out (by omega), pk_un e]
theorem tm_tu21 {t k g v : Nat} {u : St1} (ht : t < 2) (ha : tm_at u = nI t) (hk : tm_g12 u t = nI k) (hk1 : k ≤ 1) (hg : g ≤ 5) (hv : v ≤ 11) : ∀ d i, g - i = d → i ≤ 5 → ∀ w, (∀ j, j < 6 → tm_bd (w (12 * t + 6 * k + j)) 11) → tm_R (fun u' => u' = tm_c3 u (upd (tm_shu w (12 * t + 6 * k + i) (12 * t + 6 * k + g)) (12 * t + 6 * k + g) (nI v)) (144 * t + 12 * v + 0) (144 * t + 12 * v + 12)) (fun post => wX_turnUp_21 post (nI g) (nI (12 * t + 6 * k)) (nI v) (tm_at u) (tm_kc u) (tm_kn u) (d + 1) (nI i) (tm_g1 u) (tm_g2 u) w (tm_g4 u) (tm_g5 u) (tm_g6 u) (tm_g7 u) (tm_g8 u) (tm_g9 u) (tm_g10 u) (tm_g11 u) (tm_g12 u) (tm_g13 u) (tm_g14 u) (tm_g15 u) (tm_g16 u) (tm_g17 u) (tm_g18 u) (tm_g19 u) (tm_g20 u) (tm_g21 u) (tm_g22 u) (tm_g23 u) (tm_g24 u)) := by
  intro d
  induction d with
  | zero =>
    intro i hi hi' w hw
    refine tm_le g i rfl rfl (fun h => ?_) (fun h => absurd h (by omega))
    rw [tm_shu0 (by omega)]
    refine tm_and (tm_in (tm_ad rfl rfl rfl) (by omega)) ?_
    refine tm_nm (upd w (12 * t + 6 * k + g) (nI v)) (tm_up (tm_ad rfl rfl rfl) (tm_nb rfl)) ?_
    exact tm_emptyCells (u := tm_s3 u (upd w (12 * t + 6 * k + g) (nI v))) ht ha hk hk1 rfl (by omega) pk_us hv rfl (by omega) rfl (by omega)
  | succ d ih =>
    intro i hi hi' w hw
    refine tm_le g i rfl rfl (fun h => absurd h (by omega)) (fun h => ?_)
    obtain ⟨x, hx, ex⟩ := hw (i + 1) (by omega)
    refine tm_and (tm_in (tm_ad (b := 1) (tm_ad rfl rfl rfl) rfl rfl) (by omega)) ?_
    refine tm_and (tm_in (tm_ad rfl rfl rfl) (by omega)) ?_
    refine tm_nm (upd w (12 * t + 6 * k + i) (nI x)) (tm_up (tm_ad rfl rfl rfl) (tm_nb (tm_at_ (tm_ad (b := 1) (tm_ad rfl rfl rfl) rfl rfl) ex))) ?_
    refine tm_nm (nI (i + 1)) (nI_1 i) ?_
    have g1 := ih (i + 1) (by omega) (by omega) (upd w (12 * t + 6 * k + i) (nI x)) (fun j hj => by
      by_cases c : j = i
      · rw [c, pk_us]; exact ⟨x, hx, rfl⟩
      · rw [pk_un (by omega)]; exact hw j hj)
    rw [← ex, show 12 * t + 6 * k + (i + 1) = (12 * t + 6 * k + i) + 1 by omega, tm_shus (by omega)] at g1
    rw [← ex]
    exact g1
theorem tm_turnUp {t k f g v : Nat} {u : St1} {p q : Int32} (ht : t < 2) (ha : tm_at u = nI t) (hk : tm_g12 u t = nI k) (hk1 : k ≤ 1) (hp : p = nI f) (hq : q = nI g) (hf : f ≤ g) (hg : g ≤ 5) (hw : ∀ j, j < 6 → tm_bd (tm_g3 u (12 * t + 6 * k + j)) 11) (hv : tm_g3 u (12 * t + 6 * k + f) = nI v) (hv1 : v ≤ 11) :
    tm_R (fun u' => u' = tm_c3 u (upd (tm_shu (tm_g3 u) (12 * t + 6 * k + f) (12 * t + 6 * k + g)) (12 * t + 6 * k + g) (nI v)) (144 * t + 12 * v + 0) (144 * t + 12 * v + 12)) (fun post => wpX_turnUp post u p q) := by
  unfold wpX_turnUp
  refine tm_bind (tm_screen ht ha hk) (fun x hx => ?_)
  refine tm_nm (nI (12 * t + 6 * k)) (tm_ml (b := 6) hx rfl (by omega)) ?_
  have e : nI (12 * t + 6 * k) + p = nI (12 * t + 6 * k + f) := tm_ad rfl hp rfl
  refine tm_and (tm_in e (by omega)) ?_
  refine tm_nm (nI v) (tm_at_ e hv) ?_
  rw [hp, hq]
  exact tm_fu (g - f + 1) (tm_tu21 ht ha hk hk1 hg hv1 (g - f) f rfl (by omega) (tm_g3 u) hw)
theorem tm_td21 {t k f v : Nat} {u : St1} (ht : t < 2) (ha : tm_at u = nI t) (hk : tm_g12 u t = nI k) (hk1 : k ≤ 1) (hf : f ≤ 5) (hv : v ≤ 11) : ∀ d i, i - f = d → i ≤ 5 → ∀ w, (∀ j, j < 6 → tm_bd (w (12 * t + 6 * k + j)) 11) → tm_R (fun u' => u' = tm_c3 u (upd (tm_shd w (12 * t + 6 * k + f) (12 * t + 6 * k + i)) (12 * t + 6 * k + f) (nI v)) (144 * t + 12 * v + 0) (144 * t + 12 * v + 12)) (fun post => wX_turnDown_21 post (nI f) (nI (12 * t + 6 * k)) (nI v) (tm_at u) (tm_kc u) (tm_kn u) (d + 1) (nI i) (tm_g1 u) (tm_g2 u) w (tm_g4 u) (tm_g5 u) (tm_g6 u) (tm_g7 u) (tm_g8 u) (tm_g9 u) (tm_g10 u) (tm_g11 u) (tm_g12 u) (tm_g13 u) (tm_g14 u) (tm_g15 u) (tm_g16 u) (tm_g17 u) (tm_g18 u) (tm_g19 u) (tm_g20 u) (tm_g21 u) (tm_g22 u) (tm_g23 u) (tm_g24 u)) := by
  intro d
  induction d with
  | zero =>
    intro i hi hi' w hw
    refine tm_le i f rfl rfl (fun h => ?_) (fun h => absurd h (by omega))
    rw [tm_shd0 (by omega)]
    refine tm_and (tm_in (tm_ad rfl rfl rfl) (by omega)) ?_
    refine tm_nm (upd w (12 * t + 6 * k + f) (nI v)) (tm_up (tm_ad rfl rfl rfl) (tm_nb rfl)) ?_
    exact tm_emptyCells (u := tm_s3 u (upd w (12 * t + 6 * k + f) (nI v))) ht ha hk hk1 rfl (by omega) pk_us hv rfl (by omega) rfl (by omega)
  | succ d ih =>
    intro i hi hi' w hw
    obtain ⟨i, rfl⟩ : ∃ j, i = j + 1 := ⟨i - 1, by omega⟩
    refine tm_le (i + 1) f rfl rfl (fun h => absurd h (by omega)) (fun h => ?_)
    obtain ⟨x, hx, ex⟩ := hw i (by omega)
    have e1 : nI (12 * t + 6 * k) + nI (i + 1) - 1 = nI (12 * t + 6 * k + i) := tm_su (b := 1) (tm_ad rfl rfl rfl) rfl (by omega) (by omega)
    refine tm_and (tm_in e1 (by omega)) ?_
    refine tm_and (tm_in (tm_ad rfl rfl rfl) (by omega)) ?_
    refine tm_nm (upd w (12 * t + 6 * k + (i + 1)) (nI x)) (tm_up (tm_ad rfl rfl rfl) (tm_nb (tm_at_ e1 ex))) ?_
    refine tm_nm (nI i) (pk_m1 i) ?_
    have g1 := ih i (by omega) (by omega) (upd w (12 * t + 6 * k + (i + 1)) (nI x)) (fun j hj => by
      by_cases c : j = i + 1
      · rw [c, pk_us]; exact ⟨x, hx, rfl⟩
      · rw [pk_un (by omega)]; exact hw j hj)
    rw [← ex, show 12 * t + 6 * k + (i + 1) = (12 * t + 6 * k + i) + 1 by omega, tm_shds (by omega)] at g1
    rw [← ex]
    exact g1
theorem tm_turnDown {t k f g v : Nat} {u : St1} {p q : Int32} (ht : t < 2) (ha : tm_at u = nI t) (hk : tm_g12 u t = nI k) (hk1 : k ≤ 1) (hp : p = nI f) (hq : q = nI g) (hf : f ≤ g) (hg : g ≤ 5) (hw : ∀ j, j < 6 → tm_bd (tm_g3 u (12 * t + 6 * k + j)) 11) (hv : tm_g3 u (12 * t + 6 * k + g) = nI v) (hv1 : v ≤ 11) :
    tm_R (fun u' => u' = tm_c3 u (upd (tm_shd (tm_g3 u) (12 * t + 6 * k + f) (12 * t + 6 * k + g)) (12 * t + 6 * k + f) (nI v)) (144 * t + 12 * v + 0) (144 * t + 12 * v + 12)) (fun post => wpX_turnDown post u p q) := by
  unfold wpX_turnDown
  refine tm_bind (tm_screen ht ha hk) (fun x hx => ?_)
  refine tm_nm (nI (12 * t + 6 * k)) (tm_ml (b := 6) hx rfl (by omega)) ?_
  have e : nI (12 * t + 6 * k) + q = nI (12 * t + 6 * k + g) := tm_ad rfl hq rfl
  refine tm_and (tm_in e (by omega)) ?_
  refine tm_nm (nI v) (tm_at_ e hv) ?_
  rw [hp, hq]
  exact tm_fu (g - f + 1) (tm_td21 ht ha hk hk1 (by omega) hv1 (g - f) g rfl (by omega) (tm_g3 u) hw)
/-- a fill of one slot and turned slots keep all -/
theorem tm_oc3 {t v : Nat} {u0 u : St1} {z : Nat → Int32} (h : tm_Ok t u0 u) (hv : v ≤ 11) (hz : tm_Slt t z) (f2 : ∀ i, (i < 12 * t ∨ 12 * t + 12 ≤ i) → z i = tm_g3 u i) : tm_Ok t u0 (tm_c3 u z (144 * t + 12 * v + 0) (144 * t + 12 * v + 12)) ∧ tm_Sc u (tm_c3 u z (144 * t + 12 * v + 0) (144 * t + 12 * v + 12)) := by
  refine ⟨?_, tm_kc u, tm_kn u, _, _, z, tm_g24 u, rfl⟩
  have := h
  obtain ⟨ha, ⟨hc, _, _⟩, ⟨hg1, hg2⟩, _, _⟩ := this
  exact tm_oc (u := u) (kc := tm_kc u) (kn := tm_kn u) (z := z) (k := tm_g24 u) h (tm_celF hc) hz hg1 hg2 (fun i hi => ⟨tm_fl_out (by omega), tm_fl_out (by omega)⟩) f2 (Int32.le_refl _)
theorem tm_okw {t : Nat} {u0 u : St1} (h : tm_Ok t u0 u) (ht : t < 2) : ∃ k, k ≤ 1 ∧ tm_g12 u t = nI k ∧ (∀ j, j < 6 → tm_bd (tm_g3 u (12 * t + 6 * k + j)) 11) := by
  obtain ⟨k, s, hk, _, ek, _⟩ := tm_okc h (r := 0) (by omega) ht
  obtain ⟨_, ⟨_, hs, _⟩, _⟩ := h
  exact ⟨k, hk, ek, fun j hj => hs.1 _ (by omega) (by omega)⟩
theorem tm_turnUpO {t f g : Nat} {u0 u : St1} {p q : Int32} (h : tm_Ok t u0 u) (ht : t < 2) (hp : p = nI f) (hq : q = nI g) (hf : f ≤ g) (hg : g ≤ 5) : tm_R (fun u' => tm_Ok t u0 u' ∧ tm_Sc u u') (fun post => wpX_turnUp post u p q) := by
  obtain ⟨k, hk, ek, hw⟩ := tm_okw h ht
  obtain ⟨v, hv, ev⟩ := hw f (by omega)
  refine tm_imp (tm_turnUp ht h.1 ek hk hp hq hf hg hw ev hv) (fun u' e => ?_)
  rw [e]
  refine tm_oc3 h hv (tm_sltP (fun i => if f ≤ i ∧ i < g then i + 1 else if i = g then f else i) hk h.2.1.2.1 (fun i hi => ?_) (fun i j hi hj he => ?_) (fun i hi => ?_)) (fun i hi => ?_)
  · by_cases c : f ≤ i ∧ i < g
    · rw [if_pos c, pk_un (by omega), tm_shu_in (by omega) (by omega)]
      exact ⟨by omega, rfl⟩
    · rw [if_neg c]
      by_cases c2 : i = g
      · rw [if_pos c2, c2, pk_us, ev]
        exact ⟨by omega, rfl⟩
      · rw [if_neg c2, pk_un (by omega), tm_shu_out (by omega)]
        exact ⟨hi, rfl⟩
  · split at he <;> split at he <;> (try split at he) <;> (try split at he) <;> omega
  · rw [pk_un (by omega), tm_shu_out (by omega)]
  · rw [pk_un (by omega), tm_shu_out (by omega)]
theorem tm_turnDownO {t f g : Nat} {u0 u : St1} {p q : Int32} (h : tm_Ok t u0 u) (ht : t < 2) (hp : p = nI f) (hq : q = nI g) (hf : f ≤ g) (hg : g ≤ 5) : tm_R (fun u' => tm_Ok t u0 u' ∧ tm_Sc u u') (fun post => wpX_turnDown post u p q) := by
  obtain ⟨k, hk, ek, hw⟩ := tm_okw h ht
  obtain ⟨v, hv, ev⟩ := hw g (by omega)
  refine tm_imp (tm_turnDown ht h.1 ek hk hp hq hf hg hw ev hv) (fun u' e => ?_)
  rw [e]
  refine tm_oc3 h hv (tm_sltP (fun i => if f < i ∧ i ≤ g then i - 1 else if i = f then g else i) hk h.2.1.2.1 (fun i hi => ?_) (fun i j hi hj he => ?_) (fun i hi => ?_)) (fun i hi => ?_)
  · by_cases c : f < i ∧ i ≤ g
    · rw [if_pos c, pk_un (by omega), tm_shd_in (by omega) (by omega)]
      exact ⟨by omega, by rw [show 12 * t + 6 * k + i - 1 = 12 * t + 6 * k + (i - 1) by omega]⟩
    · rw [if_neg c]
      by_cases c2 : i = f
      · rw [if_pos c2, c2, pk_us, ev]
        exact ⟨by omega, rfl⟩
      · rw [if_neg c2, pk_un (by omega), tm_shd_out (by omega)]
        exact ⟨hi, rfl⟩
  · split at he <;> split at he <;> (try split at he) <;> (try split at he) <;> omega
  · rw [pk_un (by omega), tm_shd_out (by omega)]
  · rw [pk_un (by omega), tm_shd_out (by omega)]
end
section
theorem tm_kr8 {u : St1} {L : Nat} {x : Int32} (hL : L ≤ 276) (hx : x = nI L) (hg : tm_G u) : ∀ d c, 12 - c = d → c ≤ 12 → ∀ w, tm_R (fun u' => ∃ kc kn k, u' = tm_cs u kc kn (tm_g1 u) (tm_g2 u) (tm_g3 u) k ∧ tm_bd kc 8 ∧ tm_bd kn 7 ∧ tm_kc u ≤ kc) (fun post => wX_keepRow_8 post x (tm_at u) (tm_kc u) (tm_kn u) (d + 1) (nI c) (tm_g1 u) (tm_g2 u) (tm_g3 u) (tm_g4 u) (tm_g5 u) (tm_g6 u) (tm_g7 u) (tm_g8 u) (tm_g9 u) (tm_g10 u) (tm_g11 u) (tm_g12 u) (tm_g13 u) (tm_g14 u) (tm_g15 u) (tm_g16 u) (tm_g17 u) (tm_g18 u) (tm_g19 u) (tm_g20 u) (tm_g21 u) (tm_g22 u) (tm_g23 u) w) := by
  obtain ⟨⟨a, ha, ea⟩, ⟨b, hb, eb⟩⟩ := hg
  intro d
  induction d with
  | zero =>
    intro c hc hc' w
    refine tm_le 12 c rfl rfl (fun h => ?_) (fun h => absurd h (by omega))
    refine tm_and (by decide) ?_
    refine tm_nm (nI ((b + 1) % 8)) (by
      have e : tm_kn u + 1 = nI (b + 1) := tm_ad (b := 1) eb rfl rfl
      show tm_kn u + 1 - (tm_kn u + 1) / 8 * 8 = _
      rw [e]; exact pk_rem (d := 8) (by omega) (by omega) (by omega)) ?_
    refine tm_le 8 a rfl ea (fun h => ?_) (fun h => ?_)
    · refine tm_ret ⟨nI 8, _, w, rfl, ⟨8, by omega, rfl⟩, ⟨(b + 1) % 8, by omega, rfl⟩, ?_⟩
      rw [ea]; exact nI_le (by omega) (by omega)
    · refine tm_nm (nI (a + 1)) (tm_ad ea rfl rfl) ?_
      refine tm_ret ⟨_, _, w, rfl, ⟨a + 1, by omega, rfl⟩, ⟨(b + 1) % 8, by omega, rfl⟩, ?_⟩
      rw [ea]; exact nI_le (by omega) (by omega)
  | succ d ih =>
    intro c hc hc' w
    refine tm_le 12 c rfl rfl (fun h => absurd h (by omega)) (fun h => ?_)
    refine tm_and (tm_in (tm_ad hx rfl rfl) (by omega)) ?_
    refine tm_and (tm_in (n := b * 12 + c) (tm_ma (b := 12) eb rfl rfl rfl) (by omega)) ?_
    refine tm_ne ?_
    refine tm_nm (nI (c + 1)) (nI_1 c) ?_
    exact ih (c + 1) (by omega) (by omega) _
theorem tm_keepRow {u0 u : St1} (h : tm_Ok 0 u0 u) : tm_R (fun u' => tm_Ok 0 u0 u' ∧ tm_Sc u u') (fun post => wpX_keepRow post u) := by
  obtain ⟨k, s, hk, hs, ek, es⟩ := tm_okc h (r := 0) (by omega) (by omega)
  unfold wpX_keepRow
  refine tm_bind (tm_lineAt (r := 0) (by omega) h.1 ek hk rfl (by omega) es) (fun x hx => ?_)
  refine tm_imp (tm_fu 13 (tm_kr8 (u := u) (by omega) hx h.2.2.1 12 0 rfl (by omega) (tm_g24 u))) (fun u' hu => ?_)
  obtain ⟨kc, kn, k', e, h1, h2, h3⟩ := hu
  rw [e]
  exact ⟨tm_oc h h.2.1.1 h.2.1.2.1 h1 h2 (fun i _ => ⟨rfl, rfl⟩) (fun i _ => rfl) h3, _, _, _, _, _, _, rfl⟩
theorem tm_okr {t : Nat} {u0 u : St1} (h : tm_Ok t u0 u) : ∃ p q : Nat, p < q ∧ q ≤ 5 ∧ tm_g8 u t = nI p ∧ tm_g9 u t = nI q := by
  obtain ⟨ha, ⟨hc, hs, h4, h5, h6, h7, h89, hT⟩, hg, hF, hm⟩ := h
  exact h89
theorem tm_su2 {t n : Nat} {u0 : St1} (ht : t < 2) (hn : n ≤ 99) : ∀ d i, n - i = d → i ≤ 99 → ∀ u, tm_Ok t u0 u → tm_R (fun u' => tm_Ok t u0 u' ∧ tm_Sc u u') (fun post => wX_scrollUp_2 post (nI n) (d + 1) (nI i) (tm_at u) (tm_kc u) (tm_kn u) (tm_g1 u) (tm_g2 u) (tm_g3 u) (tm_g4 u) (tm_g5 u) (tm_g6 u) (tm_g7 u) (tm_g8 u) (tm_g9 u) (tm_g10 u) (tm_g11 u) (tm_g12 u) (tm_g13 u) (tm_g14 u) (tm_g15 u) (tm_g16 u) (tm_g17 u) (tm_g18 u) (tm_g19 u) (tm_g20 u) (tm_g21 u) (tm_g22 u) (tm_g23 u) (tm_g24 u)) := by
  intro d
  induction d with
  | zero =>
    intro i hi hi' u h
    refine tm_le n i rfl rfl (fun _ => ?_) (fun h => absurd h (by omega))
    exact tm_ret ⟨h, tm_Sc0 u⟩
  | succ d ih =>
    intro i hi hi' u h
    refine tm_le n i rfl rfl (fun h => absurd h (by omega)) (fun _ => ?_)
    have j : ∀ v, tm_Ok t u0 v → tm_Sc u v → tm_R (fun u' => tm_Ok t u0 u' ∧ tm_Sc u u') (fun post => wX_scrollUp_42 post (wX_scrollUp_2 post (nI n) (d + 1)) (nI n) (nI i) (tm_at v) (tm_kc v) (tm_kn v) (tm_g1 v) (tm_g2 v) (tm_g3 v) (tm_g4 v) (tm_g5 v) (tm_g6 v) (tm_g7 v) (tm_g8 v) (tm_g9 v) (tm_g10 v) (tm_g11 v) (tm_g12 v) (tm_g13 v) (tm_g14 v) (tm_g15 v) (tm_g16 v) (tm_g17 v) (tm_g18 v) (tm_g19 v) (tm_g20 v) (tm_g21 v) (tm_g22 v) (tm_g23 v) (tm_g24 v)) := by
      intro v hv hv'
      obtain ⟨p, q, h1, h2, e1, e2⟩ := tm_okr hv
      refine tm_and (tm_in hv.1 ht) ?_
      refine tm_and (tm_in hv.1 ht) ?_
      refine tm_bind (tm_turnUpO hv ht (tm_at_ hv.1 e1) (tm_at_ hv.1 e2) (by omega) h2) (fun w hw => ?_)
      refine tm_nm (nI (i + 1)) (nI_1 i) ?_
      exact tm_imp (ih (i + 1) (by omega) (by omega) w hw.1) (fun u' hu => ⟨hu.1, tm_Sct hv' (tm_Sct hw.2 hu.2)⟩)
    refine tm_eq t 0 h.1 rfl (fun e => ?_) (fun _ => j u h (tm_Sc0 u))
    refine tm_and (tm_in h.1 ht) ?_
    refine tm_if _ Iff.rfl (fun _ => ?_) (fun _ => j u h (tm_Sc0 u))
    refine tm_and (tm_in h.1 ht) ?_
    refine tm_if _ Iff.rfl (fun _ => ?_) (fun _ => j u h (tm_Sc0 u))
    subst e
    exact tm_bind (tm_keepRow h) (fun v hv => j v hv.1 hv.2)
theorem tm_scrollUp {t n : Nat} {u0 u : St1} {x : Int32} (h : tm_Ok t u0 u) (ht : t < 2) (hx : x = nI n) (hn : n ≤ 99) : tm_R (fun u' => tm_Ok t u0 u' ∧ tm_Sc u u') (fun post => wpX_scrollUp post u x) := by
  rw [hx]
  exact tm_fu (n + 1) (tm_su2 ht hn n 0 rfl (by omega) u h)
theorem tm_sd2 {t n : Nat} {u0 : St1} (ht : t < 2) (hn : n ≤ 99) : ∀ d i, n - i = d → i ≤ 99 → ∀ u, tm_Ok t u0 u → tm_R (fun u' => tm_Ok t u0 u' ∧ tm_Sc u u') (fun post => wX_scrollDown_2 post (nI n) (d + 1) (nI i) (tm_at u) (tm_kc u) (tm_kn u) (tm_g1 u) (tm_g2 u) (tm_g3 u) (tm_g4 u) (tm_g5 u) (tm_g6 u) (tm_g7 u) (tm_g8 u) (tm_g9 u) (tm_g10 u) (tm_g11 u) (tm_g12 u) (tm_g13 u) (tm_g14 u) (tm_g15 u) (tm_g16 u) (tm_g17 u) (tm_g18 u) (tm_g19 u) (tm_g20 u) (tm_g21 u) (tm_g22 u) (tm_g23 u) (tm_g24 u)) := by
  intro d
  induction d with
  | zero =>
    intro i hi hi' u h
    refine tm_le n i rfl rfl (fun _ => ?_) (fun h => absurd h (by omega))
    exact tm_ret ⟨h, tm_Sc0 u⟩
  | succ d ih =>
    intro i hi hi' u h
    refine tm_le n i rfl rfl (fun h => absurd h (by omega)) (fun _ => ?_)
    obtain ⟨p, q, h1, h2, e1, e2⟩ := tm_okr h
    refine tm_and (tm_in h.1 ht) ?_
    refine tm_and (tm_in h.1 ht) ?_
    refine tm_bind (tm_turnDownO h ht (tm_at_ h.1 e1) (tm_at_ h.1 e2) (by omega) h2) (fun w hw => ?_)
    refine tm_nm (nI (i + 1)) (nI_1 i) ?_
    exact tm_imp (ih (i + 1) (by omega) (by omega) w hw.1) (fun u' hu => ⟨hu.1, tm_Sct hw.2 hu.2⟩)
theorem tm_scrollDown {t n : Nat} {u0 u : St1} {x : Int32} (h : tm_Ok t u0 u) (ht : t < 2) (hx : x = nI n) (hn : n ≤ 99) : tm_R (fun u' => tm_Ok t u0 u' ∧ tm_Sc u u') (fun post => wpX_scrollDown post u x) := by
  rw [hx]
  exact tm_fu (n + 1) (tm_sd2 ht hn n 0 rfl (by omega) u h)
theorem tm_sr66 {t n r g : Nat} {x : Int32} {u0 : St1} (ht : t < 2) (hn : n ≤ 99) (hr : r ≤ g) (hg : g ≤ 5) : ∀ d i, n - i = d → i ≤ 99 → ∀ u, tm_Ok t u0 u → tm_R (fun u' => tm_Ok t u0 u' ∧ tm_Sc u u') (fun post => wX_shiftRows_66 post x (nI r) (nI g) (nI n) (d + 1) (nI i) (tm_at u) (tm_kc u) (tm_kn u) (tm_g1 u) (tm_g2 u) (tm_g3 u) (tm_g4 u) (tm_g5 u) (tm_g6 u) (tm_g7 u) (tm_g8 u) (tm_g9 u) (tm_g10 u) (tm_g11 u) (tm_g12 u) (tm_g13 u) (tm_g14 u) (tm_g15 u) (tm_g16 u) (tm_g17 u) (tm_g18 u) (tm_g19 u) (tm_g20 u) (tm_g21 u) (tm_g22 u) (tm_g23 u) (tm_g24 u)) := by
  intro d
  induction d with
  | zero =>
    intro i hi hi' u h
    refine tm_le n i rfl rfl (fun _ => ?_) (fun h => absurd h (by omega))
    exact tm_ret ⟨h, tm_Sc0 u⟩
  | succ d ih =>
    intro i hi hi' u h
    refine tm_le n i rfl rfl (fun h => absurd h (by omega)) (fun _ => ?_)
    refine tm_if _ Iff.rfl (fun _ => ?_) (fun _ => ?_)
    · refine tm_bind (tm_turnUpO h ht rfl rfl hr hg) (fun w hw => ?_)
      refine tm_nm (nI (i + 1)) (nI_1 i) ?_
      exact tm_imp (ih (i + 1) (by omega) (by omega) w hw.1) (fun u' hu => ⟨hu.1, tm_Sct hw.2 hu.2⟩)
    · refine tm_bind (tm_turnDownO h ht rfl rfl hr hg) (fun w hw => ?_)
      refine tm_nm (nI (i + 1)) (nI_1 i) ?_
      exact tm_imp (ih (i + 1) (by omega) (by omega) w hw.1) (fun u' hu => ⟨hu.1, tm_Sct hw.2 hu.2⟩)
theorem tm_lesser {a b : Nat} {x y : Int32} (hx : x = nI a) (hy : y = nI b) (ha : a < 2 ^ 31) (hb : b < 2 ^ 31) : tm_R (fun v => v = nI (min a b)) (fun post => wpX_lesser post () x y) := by
  refine tm_le b a hy hx (fun h => tm_ret ?_) (fun h => tm_ret ?_)
  · rw [hy, Nat.min_eq_right h]
  · rw [hx, Nat.min_eq_left (by omega)]
theorem tm_greater {a b : Nat} {x y : Int32} (hx : x = nI a) (hy : y = nI b) (ha : a < 2 ^ 31) (hb : b < 2 ^ 31) : tm_R (fun v => v = nI (max a b)) (fun post => wpX_greater post () x y) := by
  refine tm_le a b hx hy (fun h => tm_ret ?_) (fun h => tm_ret ?_)
  · rw [hy, Nat.max_eq_right h]
  · rw [hx, Nat.max_eq_left (by omega)]
theorem tm_shiftRows {t n : Nat} {u0 u : St1} {x y : Int32} (h : tm_Ok t u0 u) (hw : tm_g6 u t = nI 0) (ht : t < 2) (hy : y = nI n) (hn : n ≤ 99) : tm_R (tm_Ok t u0) (fun post => wpX_shiftRows post u x y) := by
  obtain ⟨p, q, h1, h2, e1, e2⟩ := tm_okr h
  obtain ⟨r, hr, er⟩ := h.2.1.2.2.1
  refine tm_and (tm_in h.1 ht) ?_
  refine tm_nm (nI r) (tm_at_ h.1 er) ?_
  refine tm_and (tm_in h.1 ht) ?_
  refine tm_nm (nI q) (tm_at_ h.1 e2) ?_
  refine tm_and (tm_in h.1 ht) ?_
  refine tm_lt r p rfl (tm_at_ h.1 e1) (fun _ => tm_ret h) (fun hp => ?_)
  refine tm_le r q rfl rfl (fun hq => ?_) (fun _ => tm_ret h)
  refine tm_and (tm_in h.1 ht) ?_
  refine tm_nm (upd (tm_g5 u) t (nI 0)) (tm_up h.1 rfl) ?_
  refine tm_bind (tm_lesser (b := q - r + 1) hy (tm_ad (tm_su rfl rfl hq rfl) rfl rfl) (by omega) (by omega)) (fun v hv => ?_)
  rw [hv]
  have h' : tm_Ok t u0 (tm_s5 u (upd (tm_g5 u) t (nI 0))) := tm_o5 h ⟨0, by omega, rfl⟩ (Or.inl hw)
  exact tm_imp (tm_fu (min n (q - r + 1) + 1) (tm_sr66 (n := min n (q - r + 1)) ht (by omega) hq h2 (min n (q - r + 1)) 0 rfl (by omega) _ h')) (fun u' hu => hu.1)
end
section
/-- only cells of terminal t between a and b have changed, and they are well -/
def tm_Cc (t a b : Nat) (u u' : St1) : Prop := ∃ s y, u' = tm_s2 (tm_s1 u s) y ∧ tm_Cel t s y ∧ ∀ i, (i < a ∨ b ≤ i) → s i = tm_g1 u i ∧ y i = tm_g2 u i
theorem tm_Cc0 {t a b : Nat} {u : St1} (h : tm_Cel t (tm_g1 u) (tm_g2 u)) : tm_Cc t a b u u := ⟨tm_g1 u, tm_g2 u, rfl, h, fun _ _ => ⟨rfl, rfl⟩⟩
theorem tm_Cct {t a b a' b' : Nat} {u v w : St1} (h : tm_Cc t a' b' u v) (h' : tm_Cc t a b v w) (ha : a ≤ a') (hb : b' ≤ b) : tm_Cc t a b u w := by
  obtain ⟨s, y, rfl, hc, hf⟩ := h
  obtain ⟨s', y', rfl, hc', hf'⟩ := h'
  refine ⟨s', y', rfl, hc', fun i hi => ?_⟩
  have g1 := hf' i hi
  have g2 := hf i (by omega)
  exact ⟨g1.1.trans g2.1, g1.2.trans g2.2⟩
theorem tm_CcO {t a b : Nat} {u0 u u' : St1} (h : tm_Ok t u0 u) (hc : tm_Cc t a b u u') (ha : 144 * t ≤ a) (hb : b ≤ 144 * t + 144) : tm_Ok t u0 u' ∧ tm_Sc u u' := by
  obtain ⟨s, y, rfl, hc, hf⟩ := hc
  exact ⟨tm_oc (u := u) (kc := tm_kc u) (kn := tm_kn u) (s := s) (y := y) (z := tm_g3 u) (k := tm_g24 u) h hc h.2.1.2.1 h.2.2.1.1 h.2.2.1.2 (fun i hi => hf i (by omega)) (fun i _ => rfl) (Int32.le_refl _), tm_kc u, tm_kn u, s, y, tm_g3 u, tm_g24 u, rfl⟩
theorem tm_sgb {x : Int32} (h : tm_sg x) : vp_nar .byte x = x := by
  obtain ⟨k, h1, h2, e⟩ := h
  rw [tm_nb e, e]
theorem tm_bdb {x : Int32} (h : tm_bd x 7) : vp_nar .byte x = x := by
  obtain ⟨k, h1, e⟩ := h
  rw [tm_nb e, e]
theorem tm_celU {t j : Nat} {s y : Nat → Int32} {a b : Int32} (h : tm_Cel t s y) (ha : tm_sg a) (hb : tm_bd b 7) : tm_Cel t (upd s j a) (upd y j b) := by
  intro i h1 h2
  by_cases z : i = j
  · rw [z, pk_us, pk_us]; exact ⟨ha, hb⟩
  · rw [pk_un z, pk_un z]; exact h i h1 h2
theorem tm_copyCell {t s a b : Nat} {u : St1} {p q w : Int32} (ht : t < 2) (hc : tm_Cel t (tm_g1 u) (tm_g2 u)) (hs : s ≤ 11) (hp : p = nI (144 * t + 12 * s)) (hq : q = nI a) (hw : w = nI b) (ha : a < 12) (hb : b < 12) : tm_R (tm_Cc t (144 * t + 12 * s + b) (144 * t + 12 * s + b + 1) u) (fun post => wpX_copyCell post u p q w) := by
  have e1 : p + q = nI (144 * t + 12 * s + a) := tm_ad hp hq rfl
  have e2 : p + w = nI (144 * t + 12 * s + b) := tm_ad hp hw rfl
  have g := hc (144 * t + 12 * s + a) (by omega) (by omega)
  refine tm_and (tm_in e1 (by omega)) ?_
  refine tm_and (tm_in e2 (by omega)) ?_
  refine tm_nm (upd (tm_g1 u) (144 * t + 12 * s + b) (tm_g1 u (144 * t + 12 * s + a))) (tm_up e2 ((congrArg (vp_nar .byte) (tm_at_ e1 rfl)).trans (tm_sgb g.1))) ?_
  refine tm_and (tm_in e1 (by omega)) ?_
  refine tm_and (tm_in e2 (by omega)) ?_
  refine tm_nm (upd (tm_g2 u) (144 * t + 12 * s + b) (tm_g2 u (144 * t + 12 * s + a))) (tm_up e2 ((congrArg (vp_nar .byte) (tm_at_ e1 rfl)).trans (tm_bdb g.2))) ?_
  exact tm_ret ⟨_, _, rfl, tm_celU hc g.1 g.2, fun i hi => ⟨pk_un (by omega), pk_un (by omega)⟩⟩
theorem tm_emptyCellsC {t k r s c e : Nat} {u : St1} {p q w : Int32} (ht : t < 2) (ha : tm_at u = nI t) (hk : tm_g12 u t = nI k) (hk1 : k ≤ 1) (hp : p = nI r) (hr : r < 6) (hs : tm_g3 u (12 * t + 6 * k + r) = nI s) (hs1 : s ≤ 11) (hq : q = nI c) (hc : c ≤ 12) (hw : w = nI e) (he : e ≤ 12) (hC : tm_Cel t (tm_g1 u) (tm_g2 u)) :
    tm_R (tm_Cc t (144 * t + 12 * s + c) (144 * t + 12 * s + e) u) (fun post => wpX_emptyCells post u p q w) :=
  tm_imp (tm_emptyCells ht ha hk hk1 hp hr hs hs1 hq hc hw he) (fun u' e => ⟨_, _, e, tm_celF hC, fun i hi => ⟨tm_fl_out hi, tm_fl_out hi⟩⟩)
theorem tm_sc95 {t k r s c m : Nat} (ht : t < 2) (hk1 : k ≤ 1) (hr : r < 6) (hs1 : s ≤ 11) (hm : c + m ≤ 12) : ∀ d i, 12 - m - i = d → c ≤ i → i ≤ 12 → ∀ u, tm_at u = nI t → tm_g12 u t = nI k → tm_g3 u (12 * t + 6 * k + r) = nI s → tm_Cel t (tm_g1 u) (tm_g2 u) → tm_R (tm_Cc t (144 * t + 12 * s + c) (144 * t + 12 * s + 12) u) (fun post => wX_shiftCells_95 post (nI r) (nI (144 * t + 12 * s)) (nI m) (d + 1) (nI i) (tm_at u) (tm_kc u) (tm_kn u) (tm_g1 u) (tm_g2 u) (tm_g3 u) (tm_g4 u) (tm_g5 u) (tm_g6 u) (tm_g7 u) (tm_g8 u) (tm_g9 u) (tm_g10 u) (tm_g11 u) (tm_g12 u) (tm_g13 u) (tm_g14 u) (tm_g15 u) (tm_g16 u) (tm_g17 u) (tm_g18 u) (tm_g19 u) (tm_g20 u) (tm_g21 u) (tm_g22 u) (tm_g23 u) (tm_g24 u)) := by
  intro d
  induction d with
  | zero =>
    intro i hi h1 h2 u ha hk hs hC
    refine tm_le 12 (i + m) rfl (tm_ad rfl rfl rfl) (fun h => ?_) (fun h => absurd h (by omega))
    exact tm_imp (tm_emptyCellsC (c := 12 - m) (e := 12) ht ha hk hk1 rfl hr hs hs1 (tm_su (a := 12) rfl rfl (by omega) rfl) (by omega) rfl (by omega) hC) (fun u' hu => tm_Cct hu (tm_Cc0 (by obtain ⟨s', y', rfl, hc, _⟩ := hu; exact hc)) (by omega) (by omega))
  | succ d ih =>
    intro i hi h1 h2 u ha hk hs hC
    refine tm_le 12 (i + m) rfl (tm_ad rfl rfl rfl) (fun h => absurd h (by omega)) (fun h => ?_)
    refine tm_bind (tm_copyCell (a := i + m) (b := i) ht hC hs1 rfl (tm_ad rfl rfl rfl) rfl (by omega) (by omega)) (fun v hv => ?_)
    refine tm_nm (nI (i + 1)) (nI_1 i) ?_
    have hv' := hv
    obtain ⟨s', y', rfl, hc', hf'⟩ := hv'
    exact tm_imp (ih (i + 1) (by omega) (by omega) (by omega) _ ha hk hs hc') (fun u' hu => tm_Cct hv hu (by omega) (by omega))
theorem tm_sc47 {t k r s c m : Nat} (ht : t < 2) (hk1 : k ≤ 1) (hr : r < 6) (hs1 : s ≤ 11) (hm : c + m ≤ 12) (hm0 : 0 < m) : ∀ d i, i + 1 - (c + m) = d → c + m ≤ i + 1 → i ≤ 11 → ∀ u, tm_at u = nI t → tm_g12 u t = nI k → tm_g3 u (12 * t + 6 * k + r) = nI s → tm_Cel t (tm_g1 u) (tm_g2 u) → tm_R (tm_Cc t (144 * t + 12 * s + c) (144 * t + 12 * s + 12) u) (fun post => wX_shiftCells_47 post (nI r) (nI (144 * t + 12 * s)) (nI c) (nI m) (d + 1) (nI i) (tm_at u) (tm_kc u) (tm_kn u) (tm_g1 u) (tm_g2 u) (tm_g3 u) (tm_g4 u) (tm_g5 u) (tm_g6 u) (tm_g7 u) (tm_g8 u) (tm_g9 u) (tm_g10 u) (tm_g11 u) (tm_g12 u) (tm_g13 u) (tm_g14 u) (tm_g15 u) (tm_g16 u) (tm_g17 u) (tm_g18 u) (tm_g19 u) (tm_g20 u) (tm_g21 u) (tm_g22 u) (tm_g23 u) (tm_g24 u)) := by
  intro d
  induction d with
  | zero =>
    intro i hi h1 h2 u ha hk hs hC
    refine tm_lt i (c + m) rfl (tm_ad rfl rfl rfl) (fun h => ?_) (fun h => absurd h (by omega))
    exact tm_imp (tm_emptyCellsC (c := c) (e := c + m) ht ha hk hk1 rfl hr hs hs1 rfl (by omega) (tm_ad rfl rfl rfl) (by omega) hC) (fun u' hu => tm_Cct hu (tm_Cc0 (by obtain ⟨s', y', rfl, hc, _⟩ := hu; exact hc)) (by omega) (by omega))
  | succ d ih =>
    intro i hi h1 h2 u ha hk hs hC
    obtain ⟨i, rfl⟩ : ∃ j, i = j + 1 := ⟨i - 1, by omega⟩
    refine tm_lt (i + 1) (c + m) rfl (tm_ad rfl rfl rfl) (fun h => absurd h (by omega)) (fun h => ?_)
    refine tm_bind (tm_copyCell (a := i + 1 - m) (b := i + 1) ht hC hs1 rfl (tm_su rfl rfl (by omega) rfl) rfl (by omega) (by omega)) (fun v hv => ?_)
    refine tm_nm (nI i) (pk_m1 i) ?_
    have hv' := hv
    obtain ⟨s', y', rfl, hc', hf'⟩ := hv'
    exact tm_imp (ih i (by omega) (by omega) (by omega) _ ha hk hs hc') (fun u' hu => tm_Cct hv hu (by omega) (by omega))
theorem tm_shiftCells {t k r s c n : Nat} {u : St1} {p q : Int32} (ht : t < 2) (ha : tm_at u = nI t) (hk : tm_g12 u t = nI k) (hk1 : k ≤ 1) (hr : r < 6) (hs : tm_g3 u (12 * t + 6 * k + r) = nI s) (hs1 : s ≤ 11) (er : tm_g4 u t = nI r) (ec : tm_g5 u t = nI c) (hc : c ≤ 11) (hq : q = nI n) (hn : 1 ≤ n) (hn1 : n ≤ 99) (hC : tm_Cel t (tm_g1 u) (tm_g2 u)) :
    tm_R (tm_Cc t (144 * t + 12 * s + c) (144 * t + 12 * s + 12) u) (fun post => wpX_shiftCells post u p q) := by
  refine tm_and (tm_in ha ht) ?_
  refine tm_nm (nI r) (tm_at_ ha er) ?_
  refine tm_bind (tm_lineAt ht ha hk hk1 rfl hr hs) (fun v hv => ?_)
  refine tm_and (tm_in ha ht) ?_
  refine tm_nm (nI c) (tm_at_ ha ec) ?_
  refine tm_bind (tm_lesser (b := 12 - c) hq (tm_su (a := 12) rfl rfl (by omega) rfl) (by omega) (by omega)) (fun w hw => ?_)
  rw [hv, hw]
  refine tm_if _ Iff.rfl (fun _ => ?_) (fun _ => ?_)
  · exact tm_fu _ (tm_sc95 ht hk1 hr hs1 (by omega) _ c rfl (by omega) (by omega) u ha hk hs hC)
  · exact tm_fu _ (tm_sc47 ht hk1 hr hs1 (by omega) (by omega) _ 11 rfl (by omega) (by omega) u ha hk hs hC)
theorem tm_emptyCellsO {t r c e : Nat} {u0 u : St1} {p q w : Int32} (h : tm_Ok t u0 u) (ht : t < 2) (hp : p = nI r) (hr : r < 6) (hq : q = nI c) (hc : c ≤ 12) (hw : w = nI e) (he : e ≤ 12) : tm_R (fun u' => tm_Ok t u0 u' ∧ tm_Sc u u') (fun post => wpX_emptyCells post u p q w) := by
  obtain ⟨k, s, hk, hs, ek, es⟩ := tm_okc h hr ht
  exact tm_imp (tm_emptyCellsC ht h.1 ek hk hp hr es hs hq hc hw he h.2.1.1) (fun u' hu => tm_CcO h (tm_Cct hu (tm_Cc0 (by obtain ⟨s', y', rfl, hc, _⟩ := hu; exact hc)) (a := 144 * t) (b := 144 * t + 144) (by omega) (by omega)) (by omega) (by omega))
theorem tm_ErO {t k r e : Nat} {u0 u u' : St1} (h : tm_Ok t u0 u) (hu : tm_Er t k r e u u') : tm_Ok t u0 u' ∧ tm_Sc u u' := by
  obtain ⟨s, y, e1, e2, e3, _⟩ := hu
  refine tm_CcO h (a := 144 * t) (b := 144 * t + 144) ⟨s, y, e1, fun i h1 h2 => ?_, e2⟩ (by omega) (by omega)
  rcases e3 i with g | g
  · rw [g.1, g.2]; exact h.2.1.1 i h1 h2
  · rw [g.1, g.2]; exact ⟨⟨32, by omega, by omega, rfl⟩, ⟨0, by omega, rfl⟩⟩
theorem tm_emptyRowsO {t r e : Nat} {u0 u : St1} {p q : Int32} (h : tm_Ok t u0 u) (ht : t < 2) (hp : p = nI r) (hr : r ≤ 6) (hq : q = nI e) (he : e ≤ 6) : tm_R (fun u' => tm_Ok t u0 u' ∧ tm_Sc u u') (fun post => wpX_emptyRows post u p q) := by
  obtain ⟨k, hk, ek, hw⟩ := tm_okw h ht
  exact tm_imp (tm_emptyRows ht h.1 ek hk hw hp hr hq he) (fun u' hu => tm_ErO h hu)
theorem tm_bER {α : Type} {P : α → Prop} {Q : St1 → Prop} {u : St1} {p q : Int32} {K : (α → Prop) → St1 → Prop} (hV : tm_R Q (fun post => wpX_emptyRows post u p q)) (hK : ∀ b, Q b → tm_R P (fun post => K post b)) : tm_R P (fun post => wpX_emptyRows (K post) u p q) := tm_bind (V := fun post => wpX_emptyRows post u p q) hV hK
theorem tm_bST {α : Type} {P : α → Prop} {Q : Int32 → Prop} {u : St1} {K : (α → Prop) → Int32 → Prop} (hV : tm_R Q (fun post => wpX_stale post u)) (hK : ∀ b, Q b → tm_R P (fun post => K post b)) : tm_R P (fun post => wpX_stale (K post) u) := tm_bind (V := fun post => wpX_stale post u) hV hK
theorem tm_bRA {α : Type} {P : α → Prop} {Q : Int32 → Prop} {u : St1} {p : Int32} {K : (α → Prop) → Int32 → Prop} (hV : tm_R Q (fun post => wpX_rightAfter post u p)) (hK : ∀ b, Q b → tm_R P (fun post => K post b)) : tm_R P (fun post => wpX_rightAfter (K post) u p) := tm_bind (V := fun post => wpX_rightAfter post u p) hV hK
theorem tm_bCA {α : Type} {P : α → Prop} {Q : St1 → Prop} {u : St1} {K : (α → Prop) → St1 → Prop} (hV : tm_R Q (fun post => wpX_clearAll post u)) (hK : ∀ b, Q b → tm_R P (fun post => K post b)) : tm_R P (fun post => wpX_clearAll (K post) u) := tm_bind (V := fun post => wpX_clearAll post u) hV hK
theorem tm_er115 {t r : Nat} {u0 u : St1} {x1 x2 : Int32} (h : tm_Ok t u0 u) (ht : t < 2) (hr : r ≤ 5) : tm_R (tm_Ok t u0) (fun post => wX_erase_115 post x1 x2 (nI r) (tm_at u) (tm_kc u) (tm_kn u) (tm_g1 u) (tm_g2 u) (tm_g3 u) (tm_g4 u) (tm_g5 u) (tm_g6 u) (tm_g7 u) (tm_g8 u) (tm_g9 u) (tm_g10 u) (tm_g11 u) (tm_g12 u) (tm_g13 u) (tm_g14 u) (tm_g15 u) (tm_g16 u) (tm_g17 u) (tm_g18 u) (tm_g19 u) (tm_g20 u) (tm_g21 u) (tm_g22 u) (tm_g23 u) (tm_g24 u)) := by
  refine tm_if _ Iff.rfl (fun _ => ?_) (fun _ => tm_ret h)
  refine tm_if _ Iff.rfl (fun _ => tm_ret h) (fun _ => ?_)
  exact tm_imp (tm_emptyRowsO h ht (r := 0) rfl (by omega) rfl (by omega)) (fun u' hu => hu.1)
theorem tm_er82 {t r c e : Nat} {u0 u : St1} {x1 x2 q w : Int32} (h : tm_Ok t u0 u) (ht : t < 2) (hr : r ≤ 5) (hq : q = nI c) (hc : c ≤ 12) (hw : w = nI e) (he : e ≤ 12) : tm_R (tm_Ok t u0) (fun post => wX_erase_82 post x1 x2 (nI r) q w (tm_at u) (tm_kc u) (tm_kn u) (tm_g1 u) (tm_g2 u) (tm_g3 u) (tm_g4 u) (tm_g5 u) (tm_g6 u) (tm_g7 u) (tm_g8 u) (tm_g9 u) (tm_g10 u) (tm_g11 u) (tm_g12 u) (tm_g13 u) (tm_g14 u) (tm_g15 u) (tm_g16 u) (tm_g17 u) (tm_g18 u) (tm_g19 u) (tm_g20 u) (tm_g21 u) (tm_g22 u) (tm_g23 u) (tm_g24 u)) := by
  unfold wX_erase_82
  refine tm_bind (tm_emptyCellsO (u := u) h ht (r := r) rfl (by omega) hq hc hw he) (fun v hv => ?_)
  refine tm_if _ Iff.rfl (fun _ => ?_) (fun _ => tm_er115 hv.1 ht hr)
  refine tm_if _ Iff.rfl (fun _ => tm_er115 hv.1 ht hr) (fun _ => ?_)
  refine tm_bER (tm_emptyRowsO (r := r + 1) (e := 6) hv.1 ht (nI_1 r) (by omega) rfl (by omega)) (fun w hw => ?_)
  exact tm_er115 hw.1 ht hr
theorem tm_erase {t n : Nat} {u0 u : St1} {x1 x2 x3 : Int32} (h : tm_Ok t u0 u) (ht : t < 2) (h3 : x3 = nI n) (hn : n ≤ 99) : tm_R (tm_Ok t u0) (fun post => wpX_erase post u x1 x2 x3) := by
  obtain ⟨r, hr, er⟩ := h.2.1.2.2.1
  obtain ⟨c, hc, ec⟩ := h.2.1.2.2.2.1
  refine tm_and (tm_in h.1 ht) ?_
  refine tm_nm (nI r) (tm_at_ h.1 er) ?_
  refine tm_and (tm_in h.1 ht) ?_
  refine tm_nm (nI c) (tm_at_ h.1 ec) ?_
  refine tm_if _ Iff.rfl (fun _ => ?_) (fun _ => ?_)
  · refine tm_bind (tm_lesser (a := c + n) (b := 12) (tm_ad rfl h3 rfl) rfl (by omega) (by omega)) (fun v hv => ?_)
    exact tm_imp (tm_emptyCellsO h ht (r := r) rfl (by omega) (c := c) rfl (by omega) hv (by omega)) (fun u' hu => hu.1)
  · refine tm_if _ Iff.rfl (fun _ => ?_) (fun _ => tm_ret h)
    refine tm_if _ Iff.rfl (fun _ => ?_) (fun _ => ?_)
    · refine tm_if _ Iff.rfl (fun _ => ?_) (fun _ => ?_)
      · exact tm_er82 h ht hr (c := c) rfl (by omega) (nI_1 c) (by omega)
      · exact tm_er82 h ht hr (c := c) rfl (by omega) (e := 12) rfl (by omega)
    · refine tm_if _ Iff.rfl (fun _ => ?_) (fun _ => ?_)
      · exact tm_er82 h ht hr (c := 0) rfl (by omega) (nI_1 c) (by omega)
      · exact tm_er82 h ht hr (c := 0) rfl (by omega) (e := 12) rfl (by omega)
/-- the one erase that a terminal sends: from the cursor to the row's end -/
theorem tm_erase75 {t k r s c : Nat} {u : St1} {x1 x2 x3 : Int32} (ht : t < 2) (ha : tm_at u = nI t) (hk : tm_g12 u t = nI k) (hk1 : k ≤ 1) (hr : r < 6) (hs : tm_g3 u (12 * t + 6 * k + r) = nI s) (hs1 : s ≤ 11) (er : tm_g4 u t = nI r) (ec : tm_g5 u t = nI c) (hc : c ≤ 11) (h1 : x1 = nI 75) (h2 : x2 = nI 0) :
    tm_R (fun u' => u' = tm_s2 (tm_s1 u (tm_fl (tm_g1 u) (144 * t + 12 * s + c) (144 * t + 12 * s + 12) (nI 32))) (tm_fl (tm_g2 u) (144 * t + 12 * s + c) (144 * t + 12 * s + 12) (nI 0))) (fun post => wpX_erase post u x1 x2 x3) := by
  subst h1 h2
  refine tm_and (tm_in ha ht) ?_
  refine tm_nm (nI r) (tm_at_ ha er) ?_
  refine tm_and (tm_in ha ht) ?_
  refine tm_nm (nI c) (tm_at_ ha ec) ?_
  refine tm_f (by decide) ?_
  refine tm_t (by decide) ?_
  refine tm_t (by decide) ?_
  refine tm_f (by decide) ?_
  unfold wX_erase_82
  refine tm_bind (tm_emptyCells (e := 12) ht ha hk hk1 rfl hr hs hs1 rfl (by omega) rfl (by omega)) (fun v hv => ?_)
  refine tm_f (by decide) ?_
  exact tm_f (by decide) (tm_ret hv)
end
section
theorem tm_uu {f : Nat → Int32} {k : Nat} {x y : Int32} : upd (upd f k x) k y = upd f k y := by
  funext j
  by_cases e : j = k
  · rw [e, pk_us, pk_us]
  · rw [pk_un e, pk_un e, pk_un e]
theorem tm_ui {f : Nat → Int32} {k : Nat} {x : Int32} (h : f k = x) : upd f k x = f := by
  funext j
  by_cases e : j = k
  · rw [e, pk_us, h]
  · rw [pk_un e]
theorem tm_moveTo {t : Nat} (ht : t < 2) {u : St1} (ha : tm_at u = nI t) {x y : Int32} {r c : Nat} (hx : x = nI r) (hr : r ≤ 5) (hy : y = nI c) (hc : c ≤ 11) :
    tm_R (fun u' => u' = tm_s5 (tm_s4 u (upd (tm_g4 u) t (nI r))) (upd (tm_g5 u) t (nI c))) (fun post => wpX_moveTo post u x y) := by
  refine tm_and (tm_in ha ht) ?_
  refine tm_nm (upd (tm_g4 u) t (nI r)) (tm_up ha (tm_b8 hx)) ?_
  refine tm_and (tm_in ha ht) ?_
  refine tm_nm (upd (tm_g5 u) t (nI c)) (tm_up ha (tm_b8 hy)) ?_
  exact tm_ret rfl
theorem tm_moveToO {t : Nat} {u0 u : St1} (h : tm_Ok t u0 u) (hw : tm_g6 u t = nI 0) {r c : Nat} (hr : r ≤ 5) (hc : c ≤ 11) : tm_Ok t u0 (tm_s5 (tm_s4 u (upd (tm_g4 u) t (nI r))) (upd (tm_g5 u) t (nI c))) :=
  tm_o5 (tm_o4 h ⟨r, hr, rfl⟩) ⟨c, hc, rfl⟩ (Or.inl hw)
theorem tm_wholeRegion {t : Nat} (ht : t < 2) {u : St1} (ha : tm_at u = nI t) :
    tm_R (fun u' => u' = tm_s9 (tm_s8 u (upd (tm_g8 u) t (nI 0))) (upd (tm_g9 u) t (nI 5))) (fun post => wpX_wholeRegion post u) := by
  refine tm_and (tm_in ha ht) ?_
  refine tm_nm (upd (tm_g8 u) t (nI 0)) (tm_up ha rfl) ?_
  refine tm_and (tm_in ha ht) ?_
  refine tm_nm (upd (tm_g9 u) t (nI 5)) (tm_up ha rfl) ?_
  exact tm_ret rfl
theorem tm_greaterS {a b m : Nat} {x y : Int32} (hx : x = nI a - nI b) (hy : y = nI m) (ha : a < 2 ^ 30) (hb : b < 2 ^ 30) (hm : m < 2 ^ 30) : tm_R (fun v => v = nI (max (a - b) m)) (fun post => wpX_greater post () x y) := by
  by_cases h : b ≤ a
  · exact tm_greater (hx.trans (pk_sub h)) hy (by omega) (by omega)
  · refine tm_t ?_ (tm_ret ?_)
    · rw [hx, hy, Int32.le_iff_toInt_le, pk_sub_toInt ha hb, nI_toInt (by omega)]; omega
    · rw [hy, show a - b = 0 by omega, Nat.zero_max]
theorem tm_number {t i m n : Nat} {u : St1} {p : Int32} (ht : t < 2) (ha : tm_at u = nI t) (hm : tm_g22 u t = nI m) (hm1 : m ≤ 5) (hp : p = nI i) (hi : i < 4) (hn : tm_g23 u (4 * t + i) = nI n) : tm_R (fun v => v = nI (if i < m then n else 0)) (fun post => wpX_number post u p) := by
  refine tm_and (tm_in ha ht) ?_
  refine tm_le m i (tm_at_ ha hm) hp (fun h => ?_) (fun h => ?_)
  · rw [if_neg (by omega)]
    exact tm_ret rfl
  · rw [if_pos h]
    have e : tm_at u * 4 + p = nI (4 * t + i) := tm_ma (b := 4) ha rfl hp (by omega)
    refine tm_and (tm_in e (by omega)) ?_
    exact tm_ret (tm_at_ e hn)
theorem tm_numberO {t i : Nat} {u0 u : St1} {p : Int32} (h : tm_Ok t u0 u) (ht : t < 2) (hp : p = nI i) (hi : i < 4) : tm_R (fun v => ∃ n, n ≤ 99 ∧ v = nI n) (fun post => wpX_number post u p) := by
  obtain ⟨ha, ⟨hc, hs, h4, h5, h6, h7, h89, h10, h11, h12, h13, h14, h15, h16, h17, hab, h20, h22, hst, h23⟩, hg, hF, hm⟩ := h
  obtain ⟨m, hm1, em⟩ := h22
  obtain ⟨n, hn, en⟩ := h23 i hi
  exact tm_imp (tm_number ht ha em hm1 hp hi en) (fun v hv => ⟨_, by split <;> omega, hv⟩)
def tm_Tv (u u' : St1) (t r c : Nat) : Prop := u' = tm_s5 (tm_s4 u (upd (tm_g4 u) t (nI r))) (upd (tm_g5 u) t (nI c))
theorem tm_travel {t b n r c m q : Nat} {u : St1} {x y : Int32} (ht : t < 2) (ha : tm_at u = nI t) (er : tm_g4 u t = nI r) (hr : r ≤ 5) (ec : tm_g5 u t = nI c) (hc : c ≤ 11) (h89 : ∃ p q : Nat, p < q ∧ q ≤ 5 ∧ tm_g8 u t = nI p ∧ tm_g9 u t = nI q) (hm : tm_g22 u t = nI m) (hm1 : m ≤ 5) (hq : tm_g23 u (4 * t + 1) = nI q) (hq1 : q ≤ 99)
    (hx : x = nI b) (hb : b < 128) (hy : y = nI n) (hn : 1 ≤ n) (hn1 : n ≤ 99) :
    tm_R (fun u' => ∃ r' c', r' ≤ 5 ∧ c' ≤ 11 ∧ tm_Tv u u' t r' c' ∧ (b = 67 → r' = r ∧ c' = min (c + n) 11) ∧ (b = 68 → r' = r ∧ c' = c - n) ∧ (b = 72 → r' = min (n - 1) 5 ∧ c' = min ((if 1 < m then q else 0) - 1) 11)) (fun post => wpX_travel post u x y) := by
  have mv : ∀ (r' c' : Nat) (z w : Int32), z = nI r' → w = nI c' → r' ≤ 5 → c' ≤ 11 → tm_R (fun u' => tm_Tv u u' t r' c') (fun post => wX_travel_229 post z w (tm_at u) (tm_kc u) (tm_kn u) (tm_g1 u) (tm_g2 u) (tm_g3 u) (tm_g4 u) (tm_g5 u) (tm_g6 u) (tm_g7 u) (tm_g8 u) (tm_g9 u) (tm_g10 u) (tm_g11 u) (tm_g12 u) (tm_g13 u) (tm_g14 u) (tm_g15 u) (tm_g16 u) (tm_g17 u) (tm_g18 u) (tm_g19 u) (tm_g20 u) (tm_g21 u) (tm_g22 u) (tm_g23 u) (tm_g24 u)) := fun r' c' z w hz hw h1 h2 => by unfold wX_travel_229; exact tm_moveTo ht ha hz h1 hw h2
  obtain ⟨p0, q0, hpq, hq5, e8, e9⟩ := h89
  refine tm_and (tm_in ha ht) ?_
  refine tm_nm (nI r) (tm_at_ ha er) ?_
  refine tm_and (tm_in ha ht) ?_
  refine tm_nm (nI c) (tm_at_ ha ec) ?_
  refine tm_eq b 65 hx rfl (fun e => ?_) (fun n1 => ?_)
  · refine tm_and (tm_in ha ht) ?_
    refine tm_lt r p0 rfl (tm_at_ ha e8) (fun _ => ?_) (fun _ => ?_)
    · refine tm_bind (tm_greaterS (a := r) (b := n) (m := 0) (by rw [hy]) rfl (by omega) (by omega) (by omega)) (fun v hv => ?_)
      exact tm_imp (mv _ c _ _ hv rfl (by omega) hc) (fun u' hu => ⟨_, _, by omega, hc, hu, by omega, by omega, by omega⟩)
    · refine tm_and (tm_in ha ht) ?_
      refine tm_bind (tm_greaterS (a := r) (b := n) (m := p0) (by rw [hy]) (tm_at_ ha e8) (by omega) (by omega) (by omega)) (fun v hv => ?_)
      exact tm_imp (mv _ c _ _ hv rfl (by omega) hc) (fun u' hu => ⟨_, _, by omega, hc, hu, by omega, by omega, by omega⟩)
  refine tm_eq b 66 hx rfl (fun e => ?_) (fun n2 => ?_)
  · refine tm_and (tm_in ha ht) ?_
    refine tm_lt q0 r (tm_at_ ha e9) rfl (fun _ => ?_) (fun _ => ?_)
    · refine tm_bind (tm_lesser (a := r + n) (b := 5) (tm_ad rfl hy rfl) rfl (by omega) (by omega)) (fun v hv => ?_)
      exact tm_imp (mv _ c _ _ hv rfl (by omega) hc) (fun u' hu => ⟨_, _, by omega, hc, hu, by omega, by omega, by omega⟩)
    · refine tm_and (tm_in ha ht) ?_
      refine tm_bind (tm_lesser (a := r + n) (b := q0) (tm_ad rfl hy rfl) (tm_at_ ha e9) (by omega) (by omega)) (fun v hv => ?_)
      exact tm_imp (mv _ c _ _ hv rfl (by omega) hc) (fun u' hu => ⟨_, _, by omega, hc, hu, by omega, by omega, by omega⟩)
  refine tm_eq b 67 hx rfl (fun e => ?_) (fun n3 => ?_)
  · refine tm_bind (tm_lesser (a := c + n) (b := 11) (tm_ad rfl hy rfl) rfl (by omega) (by omega)) (fun v hv => ?_)
    exact tm_imp (mv r _ _ _ rfl hv hr (by omega)) (fun u' hu => ⟨_, _, hr, by omega, hu, fun _ => ⟨rfl, rfl⟩, by omega, by omega⟩)
  refine tm_eq b 68 hx rfl (fun e => ?_) (fun n4 => ?_)
  · refine tm_bind (tm_greaterS (a := c) (b := n) (m := 0) (by rw [hy]) rfl (by omega) (by omega) (by omega)) (fun v hv => ?_)
    exact tm_imp (mv r _ _ _ rfl hv hr (by omega)) (fun u' hu => ⟨_, _, hr, by omega, hu, by omega, fun _ => ⟨rfl, by omega⟩, by omega⟩)
  refine tm_eq b 71 hx rfl (fun e => ?_) (fun n5 => ?_)
  · refine tm_bind (tm_lesser (a := n - 1) (b := 11) (tm_su (b := 1) hy rfl (by omega) rfl) rfl (by omega) (by omega)) (fun v hv => ?_)
    exact tm_imp (mv r _ _ _ rfl hv hr (by omega)) (fun u' hu => ⟨_, _, hr, by omega, hu, by omega, by omega, by omega⟩)
  refine tm_eq b 100 hx rfl (fun e => ?_) (fun n6 => ?_)
  · refine tm_bind (tm_lesser (a := n - 1) (b := 5) (tm_su (b := 1) hy rfl (by omega) rfl) rfl (by omega) (by omega)) (fun v hv => ?_)
    exact tm_imp (mv _ c _ _ hv rfl (by omega) hc) (fun u' hu => ⟨_, _, by omega, hc, hu, by omega, by omega, by omega⟩)
  refine tm_eq b 72 hx rfl (fun e => ?_) (fun n7 => ?_)
  · refine tm_bind (tm_number (i := 1) ht ha hm hm1 rfl (by omega) hq) (fun v hv => ?_)
    refine tm_bind (tm_lesser (a := n - 1) (b := 5) (tm_su (b := 1) hy rfl (by omega) rfl) rfl (by omega) (by omega)) (fun w hw => ?_)
    have hl : (if 1 < m then q else 0) ≤ 99 := by split <;> omega
    refine tm_eq (if 1 < m then q else 0) 0 hv rfl (fun z => ?_) (fun z => ?_)
    · exact tm_imp (mv _ 0 _ _ hw rfl (by omega) (by omega)) (fun u' hu => ⟨_, _, by omega, by omega, hu, by omega, by omega, fun _ => ⟨rfl, by omega⟩⟩)
    · refine tm_bind (tm_lesser (a := (if 1 < m then q else 0) - 1) (b := 11) (tm_su (b := 1) hv rfl (by omega) rfl) rfl (by omega) (by omega)) (fun g hg => ?_)
      exact tm_imp (mv _ _ _ _ hw hg (by omega) (by omega)) (fun u' hu => ⟨_, _, by omega, by omega, hu, by omega, by omega, fun _ => ⟨rfl, rfl⟩⟩)
  · exact tm_imp (mv r c _ _ rfl rfl hr hc) (fun u' hu => ⟨_, _, hr, hc, hu, by omega, by omega, by omega⟩)
theorem tm_travelO {t b n : Nat} {u0 u : St1} {x y : Int32} (h : tm_Ok t u0 u) (hw : tm_g6 u t = nI 0) (ht : t < 2) (hx : x = nI b) (hb : b < 128) (hy : y = nI n) (hn : 1 ≤ n) (hn1 : n ≤ 99) : tm_R (tm_Ok t u0) (fun post => wpX_travel post u x y) := by
  have h' := h
  obtain ⟨ha, ⟨hc, hs, h4, h5, h6, h7, h89, h10, h11, h12, h13, h14, h15, h16, h17, hab, h20, h22, hst, h23⟩, hg, hF, hm⟩ := h'
  obtain ⟨r, hr, er⟩ := h4
  obtain ⟨c, hc, ec⟩ := h5
  obtain ⟨m, hm1, em⟩ := h22
  obtain ⟨q, hq, eq⟩ := h23 1 (by omega)
  refine tm_imp (tm_travel ht ha er hr ec hc h89 em hm1 eq hq hx hb hy hn hn1) (fun u' hu => ?_)
  obtain ⟨r', c', h1, h2, e, _⟩ := hu
  rw [e]
  exact tm_moveToO h hw h1 h2
theorem tm_sr26 {t a b : Nat} {u0 u : St1} {x y : Int32} (h : tm_Ok t u0 u) (hw : tm_g6 u t = nI 0) (ht : t < 2) (hx : x = nI a) (ha1 : 1 ≤ a) (ha : a ≤ 99) (hy : y = nI b) (hb : b ≤ 99) : tm_R (tm_Ok t u0) (fun post => wX_setRegion_26 post x y (tm_at u) (tm_kc u) (tm_kn u) (tm_g1 u) (tm_g2 u) (tm_g3 u) (tm_g4 u) (tm_g5 u) (tm_g6 u) (tm_g7 u) (tm_g8 u) (tm_g9 u) (tm_g10 u) (tm_g11 u) (tm_g12 u) (tm_g13 u) (tm_g14 u) (tm_g15 u) (tm_g16 u) (tm_g17 u) (tm_g18 u) (tm_g19 u) (tm_g20 u) (tm_g21 u) (tm_g22 u) (tm_g23 u) (tm_g24 u)) := by
  refine tm_le b a hy hx (fun _ => tm_ret h) (fun h1 => ?_)
  refine tm_lt 6 b rfl hy (fun _ => tm_ret h) (fun h2 => ?_)
  refine tm_and (tm_in h.1 ht) ?_
  refine tm_nm (upd (tm_g8 u) t (nI (a - 1))) (tm_up h.1 (tm_b8 (tm_su (b := 1) hx rfl ha1 rfl))) ?_
  refine tm_and (tm_in h.1 ht) ?_
  refine tm_nm (upd (tm_g9 u) t (nI (b - 1))) (tm_up h.1 (tm_b8 (tm_su (b := 1) hy rfl (by omega) rfl))) ?_
  have h' : tm_Ok t u0 (tm_s9 (tm_s8 u (upd (tm_g8 u) t (nI (a - 1)))) (upd (tm_g9 u) t (nI (b - 1)))) := tm_o89 h ⟨a - 1, b - 1, by omega, by omega, rfl, rfl⟩
  exact tm_imp (tm_moveTo ht h'.1 (r := 0) rfl (by omega) (c := 0) rfl (by omega)) (fun u' hu => by rw [hu]; exact tm_moveToO h' hw (by omega) (by omega))
theorem tm_setRegion {t a : Nat} {u0 u : St1} {x : Int32} (h : tm_Ok t u0 u) (hw : tm_g6 u t = nI 0) (ht : t < 2) (hx : x = nI a) (ha : a ≤ 99) : tm_R (tm_Ok t u0) (fun post => wpX_setRegion post u x) := by
  have j : ∀ b y, y = nI b → 1 ≤ b → b ≤ 99 → tm_R (tm_Ok t u0) (fun post => wX_setRegion_9 post y (tm_at u) (tm_kc u) (tm_kn u) (tm_g1 u) (tm_g2 u) (tm_g3 u) (tm_g4 u) (tm_g5 u) (tm_g6 u) (tm_g7 u) (tm_g8 u) (tm_g9 u) (tm_g10 u) (tm_g11 u) (tm_g12 u) (tm_g13 u) (tm_g14 u) (tm_g15 u) (tm_g16 u) (tm_g17 u) (tm_g18 u) (tm_g19 u) (tm_g20 u) (tm_g21 u) (tm_g22 u) (tm_g23 u) (tm_g24 u)) := by
    intro b y hy hb1 hb
    unfold wX_setRegion_9
    refine tm_bind (tm_numberO (u := u) h ht (i := 1) rfl (by omega)) (fun v hv => ?_)
    obtain ⟨n, hn, en⟩ := hv
    exact tm_if _ Iff.rfl (fun _ => tm_sr26 h hw ht hy hb1 hb (b := 6) rfl (by omega)) (fun _ => tm_sr26 h hw ht hy hb1 hb en hn)
  exact tm_eq a 0 hx rfl (fun _ => j 1 _ rfl (by omega) (by omega)) (fun h0 => j a _ hx (by omega) ha)
def tm_on (t : Nat) (u : St1) (r c p q : Nat) : St1 := (u.1, u.2.1, u.2.2.1, u.2.2.2.1, u.2.2.2.2.1, u.2.2.2.2.2.1, u.2.2.2.2.2.2.1, u.2.2.2.2.2.2.2.1, upd u.2.2.2.2.2.2.2.2.1 t (nI 0), u.2.2.2.2.2.2.2.2.2.1, u.2.2.2.2.2.2.2.2.2.2.1, u.2.2.2.2.2.2.2.2.2.2.2.1, u.2.2.2.2.2.2.2.2.2.2.2.2.1, u.2.2.2.2.2.2.2.2.2.2.2.2.2.1, upd u.2.2.2.2.2.2.2.2.2.2.2.2.2.2.1 t (nI 1), u.2.2.2.2.2.2.2.2.2.2.2.2.2.2.2.1, u.2.2.2.2.2.2.2.2.2.2.2.2.2.2.2.2.1, u.2.2.2.2.2.2.2.2.2.2.2.2.2.2.2.2.2.1, upd u.2.2.2.2.2.2.2.2.2.2.2.2.2.2.2.2.2.2.1 t (nI r), upd u.2.2.2.2.2.2.2.2.2.2.2.2.2.2.2.2.2.2.2.1 t (nI c), upd u.2.2.2.2.2.2.2.2.2.2.2.2.2.2.2.2.2.2.2.2.1 t (nI p), upd u.2.2.2.2.2.2.2.2.2.2.2.2.2.2.2.2.2.2.2.2.2.1 t (nI q), u.2.2.2.2.2.2.2.2.2.2.2.2.2.2.2.2.2.2.2.2.2.2.1, u.2.2.2.2.2.2.2.2.2.2.2.2.2.2.2.2.2.2.2.2.2.2.2.1, u.2.2.2.2.2.2.2.2.2.2.2.2.2.2.2.2.2.2.2.2.2.2.2.2.1, u.2.2.2.2.2.2.2.2.2.2.2.2.2.2.2.2.2.2.2.2.2.2.2.2.2.1, u.2.2.2.2.2.2.2.2.2.2.2.2.2.2.2.2.2.2.2.2.2.2.2.2.2.2)
theorem tm_switchOther {t b : Nat} {u0 u : St1} {x : Int32} (h : tm_Ok t u0 u) (ht : t < 2) (hx : x = nI b) (hb : b ≤ 1) : tm_R (tm_Ok t u0) (fun post => wpX_switchOther post u x) := by
  have h' := h
  obtain ⟨ha, ⟨hc, hs, h4, h5, h6, h7, h89, h10, h11, h12, h13, h14, h15, h16, h17, hab, h20, h22, hst, h23⟩, hg, hF, hm⟩ := h'
  obtain ⟨k, hk, ek⟩ := h12
  obtain ⟨r, hr, er⟩ := h4
  obtain ⟨c, hc, ec⟩ := h5
  obtain ⟨ar, har, ear⟩ := h16
  obtain ⟨ac, hac, eac⟩ := h17
  obtain ⟨p, q, hpq, hq, e8, e9⟩ := h89
  have o1 : tm_Ok t u0 (tm_s6 u (upd (tm_g6 u) t (nI 0))) := tm_o6 h (Or.inl rfl)
  refine tm_and (tm_in ha ht) ?_
  refine tm_eq k 1 (tm_at_ ha ek) rfl (fun hk1 => ?_) (fun hk1 => ?_)
  · subst hk1
    refine tm_eq b 1 hx rfl (fun _ => tm_ret h) (fun hb1 => ?_)
    refine tm_and (tm_in ha ht) ?_
    refine tm_nm (upd (tm_g6 u) t (nI 0)) (tm_up ha rfl) ?_
    refine tm_t (by rw [hx, show b = 0 by omega]; rfl) ?_
    refine tm_and (tm_in ha ht) ?_
    refine tm_nm (upd (tm_g12 u) t (nI 0)) (tm_up ha rfl) ?_
    have o2 : tm_Ok t u0 (tm_s12 (tm_s6 u (upd (tm_g6 u) t (nI 0))) (upd (tm_g12 u) t (nI 0))) := tm_o12z o1
    refine tm_and (tm_in ha ht) ?_
    refine tm_and (tm_in ha ht) ?_
    refine tm_bind (tm_moveTo ht o2.1 (tm_at_ ha ear) har (tm_at_ ha eac) hac) (fun v hv => ?_)
    have o3 := tm_moveToO o2 (show upd (tm_g6 u) t (nI 0) t = nI 0 from pk_us) har hac
    rw [← hv] at o3
    have hab' : ∃ p q : Nat, p < q ∧ q ≤ 5 ∧ tm_g18 u t = nI p ∧ tm_g19 u t = nI q := by
      rcases hab with z | z
      · rw [ek] at z; exact absurd z (by decide)
      · exact z
    obtain ⟨p', q', hpq', hq', e18, e19⟩ := hab'
    have e18' : tm_g18 v t = nI p' := by rw [hv]; exact e18
    have e19' : tm_g19 v t = nI q' := by rw [hv]; exact e19
    refine tm_and (tm_in o3.1 ht) ?_
    refine tm_and (tm_in o3.1 ht) ?_
    refine tm_nm (upd (tm_g8 v) t (nI p')) (tm_up o3.1 (tm_nb (tm_at_ o3.1 e18'))) ?_
    refine tm_and (tm_in o3.1 ht) ?_
    refine tm_and (tm_in o3.1 ht) ?_
    refine tm_nm (upd (tm_g9 v) t (nI q')) (tm_up o3.1 (tm_nb (tm_at_ o3.1 e19'))) ?_
    exact tm_ret (tm_o89 o3 ⟨p', q', hpq', hq', rfl, rfl⟩)
  · have hk0 : k = 0 := by omega
    subst hk0
    refine tm_eq b 0 hx rfl (fun _ => tm_ret h) (fun hb1 => ?_)
    refine tm_and (tm_in ha ht) ?_
    refine tm_nm (upd (tm_g6 u) t (nI 0)) (tm_up ha rfl) ?_
    refine tm_f (by rw [hx, show b = 1 by omega]; decide) ?_
    refine tm_and (tm_in ha ht) ?_
    refine tm_and (tm_in ha ht) ?_
    refine tm_nm (upd (tm_g16 u) t (nI r)) (tm_up ha (tm_nb (tm_at_ ha er))) ?_
    refine tm_and (tm_in ha ht) ?_
    refine tm_and (tm_in ha ht) ?_
    refine tm_nm (upd (tm_g17 u) t (nI c)) (tm_up ha (tm_nb (tm_at_ ha ec))) ?_
    refine tm_and (tm_in ha ht) ?_
    refine tm_and (tm_in ha ht) ?_
    refine tm_nm (upd (tm_g18 u) t (nI p)) (tm_up ha (tm_nb (tm_at_ ha e8))) ?_
    refine tm_and (tm_in ha ht) ?_
    refine tm_and (tm_in ha ht) ?_
    refine tm_nm (upd (tm_g19 u) t (nI q)) (tm_up ha (tm_nb (tm_at_ ha e9))) ?_
    refine tm_and (tm_in ha ht) ?_
    refine tm_nm (upd (tm_g12 u) t (nI 1)) (tm_up ha rfl) ?_
    have o2 := tm_o19 (x := nI q) (tm_o18 (x := nI p) (tm_o17 (tm_o16 o1 (x := nI r) ⟨r, hr, rfl⟩) (x := nI c) ⟨c, hc, rfl⟩) ek) ek
    have o3 : tm_Ok t u0 (tm_on t u r c p q) := tm_o12o o2 ⟨p, q, hpq, hq, pk_us, pk_us⟩
    refine tm_bER (tm_emptyRowsO (u := tm_on t u r c p q) o3 ht (r := 0) rfl (by omega) (e := 6) rfl (by omega)) (fun v hv => ?_)
    have w0 : tm_g6 v t = nI 0 := by
      obtain ⟨_, _, _, _, _, _, e⟩ := hv.2
      rw [e]; exact pk_us
    refine tm_bind (tm_moveTo ht hv.1.1 (r := 0) rfl (by omega) (c := 0) rfl (by omega)) (fun w hw => ?_)
    have o4 := tm_moveToO hv.1 w0 (r := 0) (c := 0) (by omega) (by omega)
    rw [← hw] at o4
    exact tm_imp (tm_wholeRegion ht o4.1) (fun u' hu => by rw [hu]; exact tm_o89 o4 ⟨0, 5, by omega, by omega, rfl, rfl⟩)
theorem tm_switchMode {t b : Nat} {u0 u : St1} {x : Int32} (h : tm_Ok t u0 u) (ht : t < 2) (hx : x = nI b) (hb : b ≤ 1) : tm_R (tm_Ok t u0) (fun post => wpX_switchMode post u x) := by
  unfold wpX_switchMode
  refine tm_bind (tm_numberO h ht (i := 0) rfl (by omega)) (fun v hv => ?_)
  refine tm_if _ Iff.rfl (fun _ => ?_) (fun _ => ?_)
  · refine tm_and (tm_in h.1 ht) ?_
    refine tm_nm (upd (tm_g11 u) t (nI b)) (tm_up h.1 (tm_no hx)) ?_
    exact tm_ret (tm_o11 h ⟨b, hb, rfl⟩)
  · exact tm_if _ Iff.rfl (fun _ => tm_switchOther h ht hx hb) (fun _ => tm_ret h)
end
section
def tm_pn (p n : Nat) : Nat := if n = 0 then 0 else if n = 1 then p ||| 1 else if n = 4 then p ||| 2 else if n = 7 then p ||| 4 else if n = 22 then p &&& 6 else if n = 24 then p &&& 5 else if n = 27 then p &&& 3 else p
def tm_pw (f : Nat → Nat) : Nat → Nat → Nat → Nat
  | _, 0, p => p
  | i, d + 1, p => tm_pw f (i + 1) d (tm_pn p (f i))
theorem tm_or8 : ∀ p, p < 8 → (p ||| 1) < 8 ∧ (p ||| 2) < 8 ∧ (p ||| 4) < 8 ∧ (p &&& 6) < 8 ∧ (p &&& 5) < 8 ∧ (p &&& 3) < 8 := by decide
theorem tm_pn8 {p n : Nat} (h : p < 8) : tm_pn p n < 8 := by
  have g := tm_or8 p h
  unfold tm_pn
  repeat' split
  all_goals omega
theorem tm_pw8 (f : Nat → Nat) : ∀ d i p, p < 8 → tm_pw f i d p < 8 := by
  intro d
  induction d with
  | zero => intro i p h; exact h
  | succ d ih => intro i p h; exact ih (i + 1) _ (tm_pn8 h)
theorem tm_pq1 : ∀ p, p < 8 → nI p ||| ((1 : Int32) <<< ((nI 1 / 3) &&& 31)) = nI (p ||| 1) := by decide +kernel
theorem tm_pq4 : ∀ p, p < 8 → nI p ||| ((1 : Int32) <<< ((nI 4 / 3) &&& 31)) = nI (p ||| 2) := by decide +kernel
theorem tm_pq7 : ∀ p, p < 8 → nI p ||| ((1 : Int32) <<< ((nI 7 / 3) &&& 31)) = nI (p ||| 4) := by decide +kernel
theorem tm_pq22 : ∀ p, p < 8 → nI p &&& (((1 : Int32) <<< (((nI 22 - 21) / 3) &&& 31)) ^^^ (-1)) = nI (p &&& 6) := by decide +kernel
theorem tm_pq24 : ∀ p, p < 8 → nI p &&& (((1 : Int32) <<< (((nI 24 - 21) / 3) &&& 31)) ^^^ (-1)) = nI (p &&& 5) := by decide +kernel
theorem tm_pq27 : ∀ p, p < 8 → nI p &&& (((1 : Int32) <<< (((nI 27 - 21) / 3) &&& 31)) ^^^ (-1)) = nI (p &&& 3) := by decide +kernel
theorem tm_cp2 {t m : Nat} {f : Nat → Nat} {u : St1} (ht : t < 2) (ha : tm_at u = nI t) (hm : tm_g22 u t = nI m) (hm1 : m ≤ 5) (hf : ∀ i, i < 4 → f i ≤ 99 ∧ tm_g23 u (4 * t + i) = nI (f i)) : ∀ d i p, min m 4 - i = d → i ≤ 4 → p < 8 → tm_R (fun u' => u' = tm_s7 u (upd (tm_g7 u) t (nI (tm_pw f i d p)))) (fun post => wX_changePen_2 post (tm_at u) (tm_kc u) (tm_kn u) (d + 1) (nI i) (tm_g1 u) (tm_g2 u) (tm_g3 u) (tm_g4 u) (tm_g5 u) (tm_g6 u) (upd (tm_g7 u) t (nI p)) (tm_g8 u) (tm_g9 u) (tm_g10 u) (tm_g11 u) (tm_g12 u) (tm_g13 u) (tm_g14 u) (tm_g15 u) (tm_g16 u) (tm_g17 u) (tm_g18 u) (tm_g19 u) (tm_g20 u) (tm_g21 u) (tm_g22 u) (tm_g23 u) (tm_g24 u)) := by
  intro d
  induction d with
  | zero =>
    intro i p hi hi' hp
    refine tm_and (tm_in ha ht) ?_
    refine tm_le m i (tm_at_ ha hm) rfl (fun _ => tm_ret rfl) (fun h1 => ?_)
    exact tm_le 4 i rfl rfl (fun _ => tm_ret rfl) (fun h2 => absurd h2 (by omega))
  | succ d ih =>
    intro i p hi hi' hp
    refine tm_and (tm_in ha ht) ?_
    refine tm_le m i (tm_at_ ha hm) rfl (fun h => absurd h (by omega)) (fun h1 => ?_)
    refine tm_le 4 i rfl rfl (fun h => absurd h (by omega)) (fun h2 => ?_)
    obtain ⟨hf1, hf2⟩ := hf i h2
    have j : ∀ x p', x = nI p' → p' < 8 → tm_pn p (f i) = p' → tm_R (fun u' => u' = tm_s7 u (upd (tm_g7 u) t (nI (tm_pw f i (d + 1) p)))) (fun post => wX_changePen_103 post (wX_changePen_2 post (tm_at u) (tm_kc u) (tm_kn u) (d + 1)) (nI i) x (tm_at u) (tm_kc u) (tm_kn u) (tm_g1 u) (tm_g2 u) (tm_g3 u) (tm_g4 u) (tm_g5 u) (tm_g6 u) (upd (tm_g7 u) t (nI p)) (tm_g8 u) (tm_g9 u) (tm_g10 u) (tm_g11 u) (tm_g12 u) (tm_g13 u) (tm_g14 u) (tm_g15 u) (tm_g16 u) (tm_g17 u) (tm_g18 u) (tm_g19 u) (tm_g20 u) (tm_g21 u) (tm_g22 u) (tm_g23 u) (tm_g24 u)) := by
      intro x p' hx hp' e
      refine tm_and (tm_in ha ht) ?_
      refine tm_nm (upd (tm_g7 u) t (nI p')) ((tm_up ha (tm_b8 hx)).trans tm_uu) ?_
      refine tm_nm (nI (i + 1)) (nI_1 i) ?_
      have g := ih (i + 1) p' (by omega) (by omega) hp'
      rw [← e] at g ⊢
      exact g
    have g8 := tm_or8 p hp
    refine tm_bind (tm_number (u := tm_s7 u (upd (tm_g7 u) t (nI p))) ht ha hm hm1 rfl h2 hf2) (fun v hv => ?_)
    rw [if_pos h1] at hv
    refine tm_and (tm_in ha ht) ?_
    refine tm_nm (nI p) (tm_at_ ha pk_us) ?_
    refine tm_eq (f i) 0 hv rfl (fun e => j _ 0 rfl (by omega) (by unfold tm_pn; rw [if_pos e])) (fun n0 => ?_)
    refine tm_eq (f i) 1 hv rfl (fun e => ?_) (fun n1 => ?_)
    · refine tm_and (by decide) (tm_nm (nI (p ||| 1)) (by rw [hv, e]; exact tm_pq1 p hp) (j _ _ rfl (by omega) (by rw [e]; rfl)))
    refine tm_eq (f i) 4 hv rfl (fun e => ?_) (fun n2 => ?_)
    · refine tm_and (by decide) (tm_nm (nI (p ||| 2)) (by rw [hv, e]; exact tm_pq4 p hp) (j _ _ rfl (by omega) (by rw [e]; rfl)))
    refine tm_eq (f i) 7 hv rfl (fun e => ?_) (fun n3 => ?_)
    · refine tm_and (by decide) (tm_nm (nI (p ||| 4)) (by rw [hv, e]; exact tm_pq7 p hp) (j _ _ rfl (by omega) (by rw [e]; rfl)))
    refine tm_eq (f i) 22 hv rfl (fun e => ?_) (fun n4 => ?_)
    · refine tm_and (by decide) (tm_nm (nI (p &&& 6)) (by rw [hv, e]; exact tm_pq22 p hp) (j _ _ rfl (by omega) (by rw [e]; rfl)))
    refine tm_eq (f i) 24 hv rfl (fun e => ?_) (fun n5 => ?_)
    · refine tm_and (by decide) (tm_nm (nI (p &&& 5)) (by rw [hv, e]; exact tm_pq24 p hp) (j _ _ rfl (by omega) (by rw [e]; rfl)))
    refine tm_eq (f i) 27 hv rfl (fun e => ?_) (fun n6 => ?_)
    · refine tm_and (by decide) (tm_nm (nI (p &&& 3)) (by rw [hv, e]; exact tm_pq27 p hp) (j _ _ rfl (by omega) (by rw [e]; rfl)))
    exact j _ p rfl hp (by unfold tm_pn; rw [if_neg n0, if_neg n1, if_neg n2, if_neg n3, if_neg n4, if_neg n5, if_neg n6])
theorem tm_changePen {t m p : Nat} {f : Nat → Nat} {u : St1} (ht : t < 2) (ha : tm_at u = nI t) (hm : tm_g22 u t = nI m) (hm1 : m ≤ 5) (hf : ∀ i, i < 4 → f i ≤ 99 ∧ tm_g23 u (4 * t + i) = nI (f i)) (hp : tm_g7 u t = nI p) (hp8 : p < 8) : tm_R (fun u' => u' = tm_s7 u (upd (tm_g7 u) t (nI (tm_pw f 0 (min m 4) p)))) (fun post => wpX_changePen post u) := by
  have g := tm_cp2 ht ha hm hm1 hf (min m 4) 0 p rfl (by omega) hp8
  rw [tm_ui hp] at g
  exact tm_fu _ g
theorem tm_changePenO {t : Nat} {u0 u : St1} (h : tm_Ok t u0 u) (ht : t < 2) : tm_R (tm_Ok t u0) (fun post => wpX_changePen post u) := by
  have h' := h
  obtain ⟨ha, ⟨hc, hs, h4, h5, h6, h7, h89, h10, h11, h12, h13, h14, h15, h16, h17, hab, h20, h22, hst, h23⟩, hg, hF, hm⟩ := h'
  obtain ⟨m, hm1, em⟩ := h22
  obtain ⟨p, hp, ep⟩ := h7
  obtain ⟨f0, hf0, ef0⟩ := h23 0 (by omega)
  obtain ⟨f1, hf1, ef1⟩ := h23 1 (by omega)
  obtain ⟨f2, hf2, ef2⟩ := h23 2 (by omega)
  obtain ⟨f3, hf3, ef3⟩ := h23 3 (by omega)
  refine tm_imp (tm_changePen (f := fun i => if i = 0 then f0 else if i = 1 then f1 else if i = 2 then f2 else f3) ht ha em hm1 (fun i hi => ?_) ep (by omega)) (fun u' hu => ?_)
  · have e : i = 0 ∨ i = 1 ∨ i = 2 ∨ i = 3 := by omega
    rcases e with e | e | e | e <;> subst e
    · exact ⟨hf0, ef0⟩
    · exact ⟨hf1, ef1⟩
    · exact ⟨hf2, ef2⟩
    · exact ⟨hf3, ef3⟩
  · rw [hu]
    exact tm_o7 h ⟨_, by have := tm_pw8 (fun i => if i = 0 then f0 else if i = 1 then f1 else if i = 2 then f2 else f3) (min m 4) 0 p (by omega); omega, rfl⟩
def tm_Zi (t n : Nat) (u : St1) (z : Nat → Int32) : Prop := (∀ j, j < n → z (12 * t + j) = nI j) ∧ (∀ i, (i < 12 * t ∨ 12 * t + 12 ≤ i) → z i = tm_g3 u i)
theorem tm_ca9 {t k : Nat} {u : St1} {P : St1 → Prop} {J : (St1 → Prop) → Int32 → (Nat → Int32) → (Nat → Int32) → (Nat → Int32) → (Nat → Int32) → (Nat → Int32) → (Nat → Int32) → (Nat → Int32) → (Nat → Int32) → (Nat → Int32) → (Nat → Int32) → (Nat → Int32) → (Nat → Int32) → (Nat → Int32) → (Nat → Int32) → (Nat → Int32) → (Nat → Int32) → (Nat → Int32) → (Nat → Int32) → (Nat → Int32) → (Nat → Int32) → (Nat → Int32) → (Nat → Int32) → (Nat → Int32) → (Nat → Int32) → Prop} (ht : t < 2) (ha : tm_at u = nI t) (hk : k ≤ 1) (hJ : ∀ z, tm_Zi t (6 * k + 6) u z → tm_R P (fun post => J post (nI (k + 1)) (tm_g1 u) (tm_g2 u) z (tm_g4 u) (tm_g5 u) (tm_g6 u) (tm_g7 u) (tm_g8 u) (tm_g9 u) (tm_g10 u) (tm_g11 u) (tm_g12 u) (tm_g13 u) (tm_g14 u) (tm_g15 u) (tm_g16 u) (tm_g17 u) (tm_g18 u) (tm_g19 u) (tm_g20 u) (tm_g21 u) (tm_g22 u) (tm_g23 u) (tm_g24 u))) : ∀ d c, 6 - c = d → c ≤ 6 → ∀ z, tm_Zi t (6 * k + c) u z → tm_R P (fun post => wX_clearAll_9 post (J post) (nI k) (tm_at u) (tm_kc u) (tm_kn u) (d + 1) (nI c) (tm_g1 u) (tm_g2 u) z (tm_g4 u) (tm_g5 u) (tm_g6 u) (tm_g7 u) (tm_g8 u) (tm_g9 u) (tm_g10 u) (tm_g11 u) (tm_g12 u) (tm_g13 u) (tm_g14 u) (tm_g15 u) (tm_g16 u) (tm_g17 u) (tm_g18 u) (tm_g19 u) (tm_g20 u) (tm_g21 u) (tm_g22 u) (tm_g23 u) (tm_g24 u)) := by
  intro d
  induction d with
  | zero =>
    intro c hc hc' z hz
    refine tm_le 6 c rfl rfl (fun h => ?_) (fun h => absurd h (by omega))
    refine tm_nm (nI (k + 1)) (nI_1 k) ?_
    rw [show c = 6 by omega] at hz
    exact hJ z hz
  | succ d ih =>
    intro c hc hc' z hz
    refine tm_le 6 c rfl rfl (fun h => absurd h (by omega)) (fun h => ?_)
    have e : (tm_at u * 2 + nI k) * 6 + nI c = nI (12 * t + (6 * k + c)) := tm_ma (b := 6) (tm_ma (b := 2) ha rfl rfl rfl) rfl rfl (by omega)
    refine tm_and (tm_in e (by omega)) ?_
    refine tm_nm (upd z (12 * t + (6 * k + c)) (nI (6 * k + c))) (tm_up e (tm_b8 (tm_ma (b := 6) rfl rfl rfl (by omega)))) ?_
    refine tm_nm (nI (c + 1)) (nI_1 c) ?_
    refine ih (c + 1) (by omega) (by omega) _ ⟨fun j hj => ?_, fun i hi => ?_⟩
    · by_cases e1 : j = 6 * k + c
      · rw [e1, pk_us]
      · rw [pk_un (by omega)]; exact hz.1 j (by omega)
    · rw [pk_un (by omega)]; exact hz.2 i hi
/-- what clearAll leaves -/
def tm_Cl (t : Nat) (u u' : St1) : Prop := tm_at u' = nI t ∧ tm_TI t u' ∧ tm_Fr t u u' ∧ (t = 0 → tm_kc u' = nI 0 ∧ tm_kn u' = nI 0) ∧ (t ≠ 0 → tm_kc u' = tm_kc u ∧ tm_kn u' = tm_kn u) ∧ tm_g20 u' t = nI 0 ∧ tm_g10 u' t = nI 0 ∧ tm_g12 u' t = nI 0 ∧ (∀ i, 144 * t ≤ i → i < 144 * t + 144 → tm_g1 u' i = nI 32 ∧ tm_g2 u' i = nI 0)
def tm_fin (t : Nat) (v : St1) (kc kn : Int32) : St1 := (v.1, kc, kn, v.2.2.2.1, v.2.2.2.2.1, v.2.2.2.2.2.1, upd v.2.2.2.2.2.2.1 t (nI 0), upd v.2.2.2.2.2.2.2.1 t (nI 0), upd v.2.2.2.2.2.2.2.2.1 t (nI 0), upd v.2.2.2.2.2.2.2.2.2.1 t (nI 0), upd v.2.2.2.2.2.2.2.2.2.2.1 t (nI 0), upd v.2.2.2.2.2.2.2.2.2.2.2.1 t (nI 5), upd v.2.2.2.2.2.2.2.2.2.2.2.2.1 t (nI 0), upd v.2.2.2.2.2.2.2.2.2.2.2.2.2.1 t (nI 1), v.2.2.2.2.2.2.2.2.2.2.2.2.2.2.1, upd v.2.2.2.2.2.2.2.2.2.2.2.2.2.2.2.1 t (nI 0), upd v.2.2.2.2.2.2.2.2.2.2.2.2.2.2.2.2.1 t (nI 0), upd v.2.2.2.2.2.2.2.2.2.2.2.2.2.2.2.2.2.1 t (nI 0), v.2.2.2.2.2.2.2.2.2.2.2.2.2.2.2.2.2.2.1, v.2.2.2.2.2.2.2.2.2.2.2.2.2.2.2.2.2.2.2.1, v.2.2.2.2.2.2.2.2.2.2.2.2.2.2.2.2.2.2.2.2.1, v.2.2.2.2.2.2.2.2.2.2.2.2.2.2.2.2.2.2.2.2.2.1, upd v.2.2.2.2.2.2.2.2.2.2.2.2.2.2.2.2.2.2.2.2.2.2.1 t (nI 0), v.2.2.2.2.2.2.2.2.2.2.2.2.2.2.2.2.2.2.2.2.2.2.2.1, v.2.2.2.2.2.2.2.2.2.2.2.2.2.2.2.2.2.2.2.2.2.2.2.2.1, v.2.2.2.2.2.2.2.2.2.2.2.2.2.2.2.2.2.2.2.2.2.2.2.2.2.1, v.2.2.2.2.2.2.2.2.2.2.2.2.2.2.2.2.2.2.2.2.2.2.2.2.2.2)
def tm_mid (t : Nat) (u : St1) (s y z : Nat → Int32) (x : Int32) : St1 := (u.1, u.2.1, u.2.2.1, s, y, z, u.2.2.2.2.2.2.1, u.2.2.2.2.2.2.2.1, u.2.2.2.2.2.2.2.2.1, u.2.2.2.2.2.2.2.2.2.1, u.2.2.2.2.2.2.2.2.2.2.1, u.2.2.2.2.2.2.2.2.2.2.2.1, u.2.2.2.2.2.2.2.2.2.2.2.2.1, u.2.2.2.2.2.2.2.2.2.2.2.2.2.1, upd u.2.2.2.2.2.2.2.2.2.2.2.2.2.2.1 t x, u.2.2.2.2.2.2.2.2.2.2.2.2.2.2.2.1, u.2.2.2.2.2.2.2.2.2.2.2.2.2.2.2.2.1, u.2.2.2.2.2.2.2.2.2.2.2.2.2.2.2.2.2.1, u.2.2.2.2.2.2.2.2.2.2.2.2.2.2.2.2.2.2.1, u.2.2.2.2.2.2.2.2.2.2.2.2.2.2.2.2.2.2.2.1, u.2.2.2.2.2.2.2.2.2.2.2.2.2.2.2.2.2.2.2.2.1, u.2.2.2.2.2.2.2.2.2.2.2.2.2.2.2.2.2.2.2.2.2.1, u.2.2.2.2.2.2.2.2.2.2.2.2.2.2.2.2.2.2.2.2.2.2.1, u.2.2.2.2.2.2.2.2.2.2.2.2.2.2.2.2.2.2.2.2.2.2.2.1, u.2.2.2.2.2.2.2.2.2.2.2.2.2.2.2.2.2.2.2.2.2.2.2.2.1, u.2.2.2.2.2.2.2.2.2.2.2.2.2.2.2.2.2.2.2.2.2.2.2.2.2.1, u.2.2.2.2.2.2.2.2.2.2.2.2.2.2.2.2.2.2.2.2.2.2.2.2.2.2)
theorem tm_clF {t : Nat} {u u' : St1} {s y z : Nat → Int32} {kc kn : Int32} (h16 : tm_bd (tm_g16 u t) 5) (h17 : tm_bd (tm_g17 u t) 11) (h22 : tm_bd (tm_g22 u t) 5) (h23 : ∀ i, i < 4 → tm_bd (tm_g23 u (4 * t + i)) 99) (ha : tm_at u = nI t)
    (hz : tm_Zi t 12 u z) (h1 : ∀ i, (i < 144 * t ∨ 144 * t + 144 ≤ i) → s i = tm_g1 u i ∧ y i = tm_g2 u i) (h2 : ∀ i, 144 * t ≤ i → i < 144 * t + 144 → s i = nI 32 ∧ y i = nI 0)
    (k1 : t = 0 → kc = nI 0 ∧ kn = nI 0) (k2 : t ≠ 0 → kc = tm_kc u ∧ kn = tm_kn u) (hu : u' = tm_fin t (tm_mid t u s y z (nI 0)) kc kn) : tm_Cl t u u' := by
  subst hu
  refine ⟨ha, ⟨?_, ?_, ?_⟩, ⟨h1, hz.2, fun k hk => ?_, fun i _ => rfl⟩, k1, k2, pk_us, pk_us, pk_us, h2⟩
  · intro i g1 g2
    show tm_sg (s i) ∧ tm_bd (y i) 7
    rw [(h2 i g1 g2).1, (h2 i g1 g2).2]
    exact ⟨⟨32, by omega, by omega, rfl⟩, ⟨0, by omega, rfl⟩⟩
  · refine ⟨fun i g1 g2 => ?_, fun b i j hb hi hj he => ?_⟩
    · have g := hz.1 (i - 12 * t) (by omega)
      rw [show 12 * t + (i - 12 * t) = i by omega] at g
      exact ⟨i - 12 * t, by omega, g⟩
    · have he' : z (12 * t + 6 * b + i) = z (12 * t + 6 * b + j) := he
      have g1 := hz.1 (6 * b + i) (by omega)
      have g2 := hz.1 (6 * b + j) (by omega)
      rw [show 12 * t + 6 * b + i = 12 * t + (6 * b + i) by omega, show 12 * t + 6 * b + j = 12 * t + (6 * b + j) by omega, g1, g2] at he'
      have := (nI_eq (by omega) (by omega)).mp he'
      omega
  · exact ⟨⟨0, by omega, pk_us⟩, ⟨0, by omega, pk_us⟩, Or.inl pk_us, ⟨0, by omega, pk_us⟩, ⟨0, 5, by omega, by omega, pk_us, pk_us⟩, ⟨0, by omega, pk_us⟩, ⟨1, by omega, pk_us⟩, ⟨0, by omega, pk_us⟩, ⟨0, by omega, pk_us⟩, ⟨0, by omega, pk_us⟩, ⟨0, by omega, pk_us⟩, h16, h17, Or.inl pk_us, ⟨0, by omega, pk_us⟩, h22, Or.inl pk_us, h23⟩
  · exact ⟨pk_un hk, pk_un hk, pk_un hk, pk_un hk, pk_un hk, pk_un hk, pk_un hk, pk_un hk, pk_un hk, pk_un hk, pk_un hk, pk_un hk, rfl, rfl, rfl, rfl, pk_un hk, rfl, rfl⟩
theorem tm_caE {t : Nat} {v : St1} (ht : t < 2) (ha : tm_at v = nI t) : tm_R (fun u' => u' = tm_fin t v (if t = 0 then nI 0 else tm_kc v) (if t = 0 then nI 0 else tm_kn v)) (fun post => wpX_moveTo (fun u => wpX_wholeRegion (fun u => match u with | (f, c, n, a1, a2, a3, a4, a5, a6, a7, a8, a9, a10, a11, a12, a13, a14, a15, a16, a17, a18, a19, a20, a21, a22, a23, a24) => (vp_in f 2 ∧ ∀ b6, b6 = upd a6 f.toNatClampNeg 0 → (vp_in f 2 ∧ ∀ b7, b7 = upd a7 f.toNatClampNeg 0 → (vp_in f 2 ∧ ∀ b10, b10 = upd a10 f.toNatClampNeg 0 → (vp_in f 2 ∧ ∀ b11, b11 = upd a11 f.toNatClampNeg 1 → (vp_in f 2 ∧ ∀ b13, b13 = upd a13 f.toNatClampNeg 0 → (vp_in f 2 ∧ ∀ b14, b14 = upd a14 f.toNatClampNeg 0 → (vp_in f 2 ∧ ∀ b15, b15 = upd a15 f.toNatClampNeg 0 → (vp_in f 2 ∧ ∀ b20, b20 = upd a20 f.toNatClampNeg 0 → ((f = 0 → post (f, 0, 0, a1, a2, a3, a4, a5, b6, b7, a8, a9, b10, b11, a12, b13, b14, b15, a16, a17, a18, a19, b20, a21, a22, a23, a24)) ∧ (¬ f = 0 → post (f, c, n, a1, a2, a3, a4, a5, b6, b7, a8, a9, b10, b11, a12, b13, b14, b15, a16, a17, a18, a19, b20, a21, a22, a23, a24)))))))))))) u) v 0 0) := by
  refine tm_bind (tm_moveTo (u := v) ht ha (r := 0) rfl (by omega) (c := 0) rfl (by omega)) (fun v1 e1 => ?_)
  have a1 : tm_at v1 = nI t := by rw [e1]; exact ha
  refine tm_bind (tm_wholeRegion (u := v1) ht a1) (fun w e2 => ?_)
  have a2 : tm_at w = nI t := by rw [e2]; exact a1
  refine tm_and (tm_in a2 ht) ?_
  refine tm_nm (upd (tm_g6 w) t (nI 0)) (tm_up a2 rfl) ?_
  refine tm_and (tm_in a2 ht) ?_
  refine tm_nm (upd (tm_g7 w) t (nI 0)) (tm_up a2 rfl) ?_
  refine tm_and (tm_in a2 ht) ?_
  refine tm_nm (upd (tm_g10 w) t (nI 0)) (tm_up a2 rfl) ?_
  refine tm_and (tm_in a2 ht) ?_
  refine tm_nm (upd (tm_g11 w) t (nI 1)) (tm_up a2 rfl) ?_
  refine tm_and (tm_in a2 ht) ?_
  refine tm_nm (upd (tm_g13 w) t (nI 0)) (tm_up a2 rfl) ?_
  refine tm_and (tm_in a2 ht) ?_
  refine tm_nm (upd (tm_g14 w) t (nI 0)) (tm_up a2 rfl) ?_
  refine tm_and (tm_in a2 ht) ?_
  refine tm_nm (upd (tm_g15 w) t (nI 0)) (tm_up a2 rfl) ?_
  refine tm_and (tm_in a2 ht) ?_
  refine tm_nm (upd (tm_g20 w) t (nI 0)) (tm_up a2 rfl) ?_
  refine tm_eq t 0 a2 rfl (fun c => tm_ret ?_) (fun c => tm_ret ?_)
  · rw [if_pos c, if_pos c, e2, e1]; rfl
  · rw [if_neg c, if_neg c, e2, e1]; rfl
theorem tm_caR {t : Nat} {u : St1} {z : Nat → Int32} (ht : t < 2) (h16 : tm_bd (tm_g16 u t) 5) (h17 : tm_bd (tm_g17 u t) 11) (h22 : tm_bd (tm_g22 u t) 5) (h23 : ∀ i, i < 4 → tm_bd (tm_g23 u (4 * t + i)) 99) (ha : tm_at u = nI t) (hz : tm_Zi t 12 u z) (n : Nat) : tm_R (tm_Cl t u) (fun post => wX_clearAll_2 post (tm_at u) (tm_kc u) (tm_kn u) (n + 1) (nI 2) (tm_g1 u) (tm_g2 u) z (tm_g4 u) (tm_g5 u) (tm_g6 u) (tm_g7 u) (tm_g8 u) (tm_g9 u) (tm_g10 u) (tm_g11 u) (tm_g12 u) (tm_g13 u) (tm_g14 u) (tm_g15 u) (tm_g16 u) (tm_g17 u) (tm_g18 u) (tm_g19 u) (tm_g20 u) (tm_g21 u) (tm_g22 u) (tm_g23 u) (tm_g24 u)) := by
  refine tm_le 2 2 rfl rfl (fun _ => ?_) (fun h => absurd h (by omega))
  refine tm_and (tm_in ha ht) ?_
  refine tm_nm (upd (tm_g12 u) t (nI 1)) (tm_up ha rfl) ?_
  have z1 : ∀ r, r < 6 → tm_bd (tm_g3 (tm_mid t u (tm_g1 u) (tm_g2 u) z (nI 1)) (12 * t + 6 * 1 + r)) 11 := by
    intro r hr
    have g := hz.1 (6 + r) (by omega)
    rw [show 12 * t + (6 + r) = 12 * t + 6 * 1 + r by omega] at g
    exact ⟨6 + r, by omega, g⟩
  refine tm_bER (tm_emptyRows (k := 1) (r := 0) (e := 6) (u := tm_mid t u (tm_g1 u) (tm_g2 u) z (nI 1)) ht ha pk_us (by omega) z1 rfl (by omega) rfl (by omega)) (fun v hv => ?_)
  obtain ⟨s1, y1, ev, a1, a2, a3⟩ := hv
  have ev' : v = tm_mid t u s1 y1 z (nI 1) := ev
  have av : tm_at v = nI t := by rw [ev']; exact ha
  refine tm_and (tm_in av ht) ?_
  refine tm_nm (upd (tm_g12 u) t (nI 0)) ((tm_up av rfl).trans (by rw [ev']; exact tm_uu)) ?_
  have z0 : ∀ r, r < 6 → tm_bd (tm_g3 (tm_mid t u s1 y1 z (nI 0)) (12 * t + 6 * 0 + r)) 11 := by
    intro r hr
    exact ⟨r, by omega, hz.1 r (by omega)⟩
  subst ev'
  refine tm_bER (tm_emptyRows (k := 0) (r := 0) (e := 6) (u := tm_mid t u s1 y1 z (nI 0)) ht ha pk_us (by omega) z0 rfl (by omega) rfl (by omega)) (fun w hw => ?_)
  obtain ⟨s2, y2, ew, b1, b2, b3⟩ := hw
  have ew' : w = tm_mid t u s2 y2 z (nI 0) := ew
  have aw : tm_at w = nI t := by rw [ew']; exact ha
  have c1 : ∀ i, (i < 144 * t ∨ 144 * t + 144 ≤ i) → s2 i = tm_g1 u i ∧ y2 i = tm_g2 u i := fun i hi => ⟨(b1 i hi).1.trans (a1 i hi).1, (b1 i hi).2.trans (a1 i hi).2⟩
  have c2 : ∀ i, 144 * t ≤ i → i < 144 * t + 144 → s2 i = nI 32 ∧ y2 i = nI 0 := by
    intro i g1 g2
    have hd : 144 * t + 12 * ((i - 144 * t) / 12) + (i - 144 * t) % 12 = i := by omega
    by_cases c : (i - 144 * t) / 12 < 6
    · have g := b3 ((i - 144 * t) / 12) ((i - 144 * t) % 12) ((i - 144 * t) / 12) (by omega) c (by omega) (by omega) (hz.1 _ (by omega))
      rw [hd] at g
      exact g
    · have g := a3 ((i - 144 * t) / 12 - 6) ((i - 144 * t) % 12) ((i - 144 * t) / 12) (by omega) (by omega) (by omega) (by omega) (by
        have := hz.1 ((i - 144 * t) / 12) (by omega)
        rw [show 12 * t + 6 * 1 + ((i - 144 * t) / 12 - 6) = 12 * t + (i - 144 * t) / 12 by omega]
        exact this)
      rw [hd] at g
      rcases b2 i with q | q
      · exact ⟨q.1.trans g.1, q.2.trans g.2⟩
      · exact q
  refine tm_imp (tm_caE (v := w) ht aw) (fun u' hu => ?_)
  rw [ew'] at hu
  exact tm_clF h16 h17 h22 h23 ha hz c1 c2 (fun c => ⟨if_pos c, if_pos c⟩) (fun c => ⟨if_neg c, if_neg c⟩) hu
theorem tm_clearAll {t : Nat} {u : St1} (ht : t < 2) (h16 : tm_bd (tm_g16 u t) 5) (h17 : tm_bd (tm_g17 u t) 11) (h22 : tm_bd (tm_g22 u t) 5) (h23 : ∀ i, i < 4 → tm_bd (tm_g23 u (4 * t + i)) 99) (ha : tm_at u = nI t) : tm_R (tm_Cl t u) (fun post => wpX_clearAll post u) := by
  refine tm_fu 3 ?_
  refine tm_le 2 0 rfl rfl (fun h => absurd h (by omega)) (fun _ => ?_)
  refine tm_fu 7 ?_
  refine tm_ca9 (k := 0) (J := fun post => wX_clearAll_2 post (tm_at u) (tm_kc u) (tm_kn u) 2) ht ha (by omega) (fun z hz => ?_) 6 0 rfl (by omega) (tm_g3 u) ⟨fun j hj => absurd hj (by omega), fun i _ => rfl⟩
  refine tm_le 2 1 rfl rfl (fun h => absurd h (by omega)) (fun _ => ?_)
  refine tm_fu 7 ?_
  refine tm_ca9 (k := 1) (J := fun post => wX_clearAll_2 post (tm_at u) (tm_kc u) (tm_kn u) 1) ht ha (by omega) (fun z hz => ?_) 6 0 rfl (by omega) z hz
  exact tm_caR ht h16 h17 h22 h23 ha hz 0
end
section
theorem tm_lineFeed {t : Nat} {u0 u : St1} (h : tm_Ok t u0 u) (ht : t < 2) : tm_R (fun u' => tm_Ok t u0 u' ∧ tm_g5 u' = tm_g5 u ∧ tm_g6 u' = tm_g6 u) (fun post => wpX_lineFeed post u) := by
  obtain ⟨r, hr, er⟩ := h.2.1.2.2.1
  obtain ⟨p, q, hpq, hq, e8, e9⟩ := tm_okr h
  refine tm_and (tm_in h.1 ht) ?_
  refine tm_and (tm_in h.1 ht) ?_
  refine tm_eq r q (tm_at_ h.1 er) (tm_at_ h.1 e9) (fun _ => ?_) (fun _ => ?_)
  · refine tm_imp (tm_scrollUp (n := 1) h ht rfl (by omega)) (fun u' hu => ?_)
    obtain ⟨_, _, _, _, _, _, e⟩ := hu.2
    exact ⟨hu.1, by rw [e]; rfl, by rw [e]; rfl⟩
  · refine tm_and (tm_in h.1 ht) ?_
    refine tm_le 5 r rfl (tm_at_ h.1 er) (fun _ => tm_ret ⟨h, rfl, rfl⟩) (fun h5 => ?_)
    refine tm_and (tm_in h.1 ht) ?_
    refine tm_and (tm_in h.1 ht) ?_
    refine tm_nm (upd (tm_g4 u) t (nI (r + 1))) (tm_up h.1 (tm_b8 (tm_ad (tm_at_ h.1 er) rfl rfl))) ?_
    exact tm_ret ⟨tm_o4 h ⟨r + 1, by omega, rfl⟩, rfl, rfl⟩
theorem tm_goUp {t : Nat} {u0 u : St1} (h : tm_Ok t u0 u) (ht : t < 2) : tm_R (tm_Ok t u0) (fun post => wpX_goUp post u) := by
  obtain ⟨r, hr, er⟩ := h.2.1.2.2.1
  obtain ⟨p, q, hpq, hq, e8, e9⟩ := tm_okr h
  refine tm_and (tm_in h.1 ht) ?_
  refine tm_and (tm_in h.1 ht) ?_
  refine tm_eq r p (tm_at_ h.1 er) (tm_at_ h.1 e8) (fun _ => ?_) (fun _ => ?_)
  · exact tm_imp (tm_scrollDown (n := 1) h ht rfl (by omega)) (fun u' hu => hu.1)
  · refine tm_and (tm_in h.1 ht) ?_
    refine tm_le r 0 (tm_at_ h.1 er) rfl (fun _ => tm_ret h) (fun h5 => ?_)
    refine tm_and (tm_in h.1 ht) ?_
    refine tm_and (tm_in h.1 ht) ?_
    refine tm_nm (upd (tm_g4 u) t (nI (r - 1))) (tm_up h.1 (tm_b8 (tm_su (tm_at_ h.1 er) rfl h5 rfl))) ?_
    exact tm_ret (tm_o4 h ⟨r - 1, by omega, rfl⟩)
theorem tm_lb280 {t n : Nat} {u0 u : St1} {x1 x4 x5 : Int32} (h : tm_Ok t u0 u) (ht : t < 2) (h5 : x5 = nI n) (hn : n ≤ 99) : tm_R (tm_Ok t u0) (fun post => wX_lastByte_280 post x1 x4 x5 (tm_at u) (tm_kc u) (tm_kn u) (tm_g1 u) (tm_g2 u) (tm_g3 u) (tm_g4 u) (tm_g5 u) (tm_g6 u) (tm_g7 u) (tm_g8 u) (tm_g9 u) (tm_g10 u) (tm_g11 u) (tm_g12 u) (tm_g13 u) (tm_g14 u) (tm_g15 u) (tm_g16 u) (tm_g17 u) (tm_g18 u) (tm_g19 u) (tm_g20 u) (tm_g21 u) (tm_g22 u) (tm_g23 u) (tm_g24 u)) := tm_erase (u := u) h ht h5 hn
theorem tm_shiftCellsO {t n : Nat} {u0 u : St1} {x y : Int32} (h : tm_Ok t u0 u) (ht : t < 2) (hy : y = nI n) (hn : 1 ≤ n) (hn1 : n ≤ 99) : tm_R (tm_Ok t u0) (fun post => wpX_shiftCells post u x y) := by
  obtain ⟨r, hr, er⟩ := h.2.1.2.2.1
  obtain ⟨c, hc, ec⟩ := h.2.1.2.2.2.1
  obtain ⟨k, s, hk, hs, ek, es⟩ := tm_okc h (r := r) (by omega) ht
  exact tm_imp (tm_shiftCells ht h.1 ek hk (by omega) es hs er ec hc hy hn hn1 h.2.1.1) (fun u' hu => (tm_CcO h hu (by omega) (by omega)).1)
theorem tm_lb304 {t n : Nat} {u0 u : St1} {x1 x5 : Int32} (h : tm_Ok t u0 u) (ht : t < 2) (h5 : x5 = nI n) (hn : 1 ≤ n) (hn1 : n ≤ 99) : tm_R (tm_Ok t u0) (fun post => wX_lastByte_304 post x1 x5 (tm_at u) (tm_kc u) (tm_kn u) (tm_g1 u) (tm_g2 u) (tm_g3 u) (tm_g4 u) (tm_g5 u) (tm_g6 u) (tm_g7 u) (tm_g8 u) (tm_g9 u) (tm_g10 u) (tm_g11 u) (tm_g12 u) (tm_g13 u) (tm_g14 u) (tm_g15 u) (tm_g16 u) (tm_g17 u) (tm_g18 u) (tm_g19 u) (tm_g20 u) (tm_g21 u) (tm_g22 u) (tm_g23 u) (tm_g24 u)) :=
  tm_if _ Iff.rfl (fun _ => tm_shiftCellsO (u := u) h ht h5 hn hn1) (fun _ => tm_shiftCellsO (u := u) h ht h5 hn hn1)
theorem tm_lb336 {t n : Nat} {u0 u : St1} {x1 x5 : Int32} (h : tm_Ok t u0 u) (hw : tm_g6 u t = nI 0) (ht : t < 2) (h5 : x5 = nI n) (hn1 : n ≤ 99) : tm_R (tm_Ok t u0) (fun post => wX_lastByte_336 post x1 x5 (tm_at u) (tm_kc u) (tm_kn u) (tm_g1 u) (tm_g2 u) (tm_g3 u) (tm_g4 u) (tm_g5 u) (tm_g6 u) (tm_g7 u) (tm_g8 u) (tm_g9 u) (tm_g10 u) (tm_g11 u) (tm_g12 u) (tm_g13 u) (tm_g14 u) (tm_g15 u) (tm_g16 u) (tm_g17 u) (tm_g18 u) (tm_g19 u) (tm_g20 u) (tm_g21 u) (tm_g22 u) (tm_g23 u) (tm_g24 u)) :=
  tm_if _ Iff.rfl (fun _ => tm_shiftRows (u := u) h hw ht h5 hn1) (fun _ => tm_shiftRows (u := u) h hw ht h5 hn1)
theorem tm_lb252 {t n b : Nat} {u0 u : St1} {x1 x5 : Int32} (h : tm_Ok t u0 u) (hw : tm_g6 u t = nI 0) (ht : t < 2) (h1 : x1 = nI b) (hb : b < 128) (h5 : x5 = nI n) (hn : 1 ≤ n) (hn1 : n ≤ 99) : tm_R (tm_Ok t u0) (fun post => wX_lastByte_252 post x1 x5 (tm_at u) (tm_kc u) (tm_kn u) (tm_g1 u) (tm_g2 u) (tm_g3 u) (tm_g4 u) (tm_g5 u) (tm_g6 u) (tm_g7 u) (tm_g8 u) (tm_g9 u) (tm_g10 u) (tm_g11 u) (tm_g12 u) (tm_g13 u) (tm_g14 u) (tm_g15 u) (tm_g16 u) (tm_g17 u) (tm_g18 u) (tm_g19 u) (tm_g20 u) (tm_g21 u) (tm_g22 u) (tm_g23 u) (tm_g24 u)) := tm_travelO (u := u) h hw ht h1 hb h5 hn hn1
theorem tm_lb246 {t n b a : Nat} {u0 u : St1} {x1 x4 x5 : Int32} (h : tm_Ok t u0 u) (hw : tm_g6 u t = nI 0) (ht : t < 2) (h1 : x1 = nI b) (hb : b < 128) (h4 : x4 = nI a) (ha : a ≤ 99) (h5 : x5 = nI n) (hn : 1 ≤ n) (hn1 : n ≤ 99) : tm_R (tm_Ok t u0) (fun post => wX_lastByte_246 post x1 x4 x5 (tm_at u) (tm_kc u) (tm_kn u) (tm_g1 u) (tm_g2 u) (tm_g3 u) (tm_g4 u) (tm_g5 u) (tm_g6 u) (tm_g7 u) (tm_g8 u) (tm_g9 u) (tm_g10 u) (tm_g11 u) (tm_g12 u) (tm_g13 u) (tm_g14 u) (tm_g15 u) (tm_g16 u) (tm_g17 u) (tm_g18 u) (tm_g19 u) (tm_g20 u) (tm_g21 u) (tm_g22 u) (tm_g23 u) (tm_g24 u)) := by
  refine tm_if _ Iff.rfl (fun _ => tm_lb252 h hw ht h1 hb h5 hn hn1) (fun _ => ?_)
  refine tm_if _ Iff.rfl (fun _ => tm_lb280 h ht h5 hn1) (fun _ => ?_)
  refine tm_if _ Iff.rfl (fun _ => tm_lb280 h ht h5 hn1) (fun _ => ?_)
  refine tm_if _ Iff.rfl (fun _ => tm_lb280 h ht h5 hn1) (fun _ => ?_)
  refine tm_if _ Iff.rfl (fun _ => tm_lb304 h ht h5 hn hn1) (fun _ => ?_)
  refine tm_if _ Iff.rfl (fun _ => tm_lb304 h ht h5 hn hn1) (fun _ => ?_)
  refine tm_if _ Iff.rfl (fun _ => tm_lb336 h hw ht h5 hn1) (fun _ => ?_)
  refine tm_if _ Iff.rfl (fun _ => tm_lb336 h hw ht h5 hn1) (fun _ => ?_)
  refine tm_if _ Iff.rfl (fun _ => tm_imp (tm_scrollUp (u := u) h ht h5 hn1) (fun u' hu => hu.1)) (fun _ => ?_)
  refine tm_if _ Iff.rfl (fun _ => tm_imp (tm_scrollDown (u := u) h ht h5 hn1) (fun u' hu => hu.1)) (fun _ => ?_)
  exact tm_setRegion (u := u) h hw ht h4 ha
theorem tm_lb232 {t n b a : Nat} {u0 u : St1} {x1 x4 x5 : Int32} (h : tm_Ok t u0 u) (hw : tm_g6 u t = nI 0) (ht : t < 2) (h1 : x1 = nI b) (hb : b < 128) (h4 : x4 = nI a) (ha : a ≤ 99) (h5 : x5 = nI n) (hn : 1 ≤ n) (hn1 : n ≤ 99) : tm_R (tm_Ok t u0) (fun post => wX_lastByte_232 post x1 x4 x5 (tm_at u) (tm_kc u) (tm_kn u) (tm_g1 u) (tm_g2 u) (tm_g3 u) (tm_g4 u) (tm_g5 u) (tm_g6 u) (tm_g7 u) (tm_g8 u) (tm_g9 u) (tm_g10 u) (tm_g11 u) (tm_g12 u) (tm_g13 u) (tm_g14 u) (tm_g15 u) (tm_g16 u) (tm_g17 u) (tm_g18 u) (tm_g19 u) (tm_g20 u) (tm_g21 u) (tm_g22 u) (tm_g23 u) (tm_g24 u)) := by
  refine tm_if _ Iff.rfl (fun _ => tm_lb246 h hw ht h1 hb h4 ha h5 hn hn1) (fun _ => ?_)
  exact tm_if _ Iff.rfl (fun _ => tm_lb252 h hw ht h1 hb h5 hn hn1) (fun _ => tm_lb246 h hw ht h1 hb h4 ha h5 hn hn1)
theorem tm_lb198 {t b : Nat} {u0 u : St1} {x1 z : Int32} (h : tm_Ok t u0 u) (ht : t < 2) (h1 : x1 = nI b) (hb : b < 128) : tm_R (tm_Ok t u0) (fun post => wX_lastByte_198 post x1 z (tm_at u) (tm_kc u) (tm_kn u) (tm_g1 u) (tm_g2 u) (tm_g3 u) (tm_g4 u) (tm_g5 u) (tm_g6 u) (tm_g7 u) (tm_g8 u) (tm_g9 u) (tm_g10 u) (tm_g11 u) (tm_g12 u) (tm_g13 u) (tm_g14 u) (tm_g15 u) (tm_g16 u) (tm_g17 u) (tm_g18 u) (tm_g19 u) (tm_g20 u) (tm_g21 u) (tm_g22 u) (tm_g23 u) (tm_g24 u)) := by
  refine tm_if _ Iff.rfl (fun _ => tm_ret h) (fun _ => ?_)
  refine tm_and (tm_in h.1 ht) ?_
  refine tm_nm (upd (tm_g6 u) t (nI 0)) (tm_up h.1 rfl) ?_
  have o1 : tm_Ok t u0 (tm_s6 u (upd (tm_g6 u) t (nI 0))) := tm_o6 h (Or.inl rfl)
  have hw : tm_g6 (tm_s6 u (upd (tm_g6 u) t (nI 0))) t = nI 0 := pk_us
  refine tm_bind (tm_numberO o1 ht (i := 0) rfl (by omega)) (fun v hv => ?_)
  obtain ⟨n, hn, en⟩ := hv
  refine tm_eq n 0 en rfl (fun e => ?_) (fun e => ?_)
  · exact tm_lb232 (u := tm_s6 u (upd (tm_g6 u) t (nI 0))) o1 hw ht h1 hb en hn (n := 1) rfl (by omega) (by omega)
  · exact tm_lb232 (u := tm_s6 u (upd (tm_g6 u) t (nI 0))) o1 hw ht h1 hb en hn en (by omega) hn
theorem tm_lb152 {t b : Nat} {u0 u : St1} {x1 z : Int32} (h : tm_Ok t u0 u) (ht : t < 2) (h1 : x1 = nI b) (hb : b < 128) : tm_R (tm_Ok t u0) (fun post => wX_lastByte_152 post x1 z (tm_at u) (tm_kc u) (tm_kn u) (tm_g1 u) (tm_g2 u) (tm_g3 u) (tm_g4 u) (tm_g5 u) (tm_g6 u) (tm_g7 u) (tm_g8 u) (tm_g9 u) (tm_g10 u) (tm_g11 u) (tm_g12 u) (tm_g13 u) (tm_g14 u) (tm_g15 u) (tm_g16 u) (tm_g17 u) (tm_g18 u) (tm_g19 u) (tm_g20 u) (tm_g21 u) (tm_g22 u) (tm_g23 u) (tm_g24 u)) := by
  have j : ∀ z, tm_R (tm_Ok t u0) (fun post => wX_lastByte_198 post x1 z (tm_at u) (tm_kc u) (tm_kn u) (tm_g1 u) (tm_g2 u) (tm_g3 u) (tm_g4 u) (tm_g5 u) (tm_g6 u) (tm_g7 u) (tm_g8 u) (tm_g9 u) (tm_g10 u) (tm_g11 u) (tm_g12 u) (tm_g13 u) (tm_g14 u) (tm_g15 u) (tm_g16 u) (tm_g17 u) (tm_g18 u) (tm_g19 u) (tm_g20 u) (tm_g21 u) (tm_g22 u) (tm_g23 u) (tm_g24 u)) := fun z => tm_lb198 h ht h1 hb
  refine tm_if _ Iff.rfl (fun _ => ?_) (fun _ => j 1)
  refine tm_if _ Iff.rfl (fun _ => j 1) (fun _ => ?_)
  refine tm_if _ Iff.rfl (fun _ => j 1) (fun _ => ?_)
  refine tm_if _ Iff.rfl (fun _ => j 1) (fun _ => ?_)
  refine tm_if _ Iff.rfl (fun _ => j 1) (fun _ => ?_)
  refine tm_if _ Iff.rfl (fun _ => j 1) (fun _ => ?_)
  exact tm_if _ Iff.rfl (fun _ => j 1) (fun _ => j 0)
theorem tm_lb123 {t b : Nat} {u0 u : St1} {x1 : Int32} (h : tm_Ok t u0 u) (ht : t < 2) (h1 : x1 = nI b) (hb : b < 128) : tm_R (tm_Ok t u0) (fun post => wX_lastByte_123 post x1 (tm_at u) (tm_kc u) (tm_kn u) (tm_g1 u) (tm_g2 u) (tm_g3 u) (tm_g4 u) (tm_g5 u) (tm_g6 u) (tm_g7 u) (tm_g8 u) (tm_g9 u) (tm_g10 u) (tm_g11 u) (tm_g12 u) (tm_g13 u) (tm_g14 u) (tm_g15 u) (tm_g16 u) (tm_g17 u) (tm_g18 u) (tm_g19 u) (tm_g20 u) (tm_g21 u) (tm_g22 u) (tm_g23 u) (tm_g24 u)) := by
  have j : ∀ z, tm_R (tm_Ok t u0) (fun post => wX_lastByte_152 post x1 z (tm_at u) (tm_kc u) (tm_kn u) (tm_g1 u) (tm_g2 u) (tm_g3 u) (tm_g4 u) (tm_g5 u) (tm_g6 u) (tm_g7 u) (tm_g8 u) (tm_g9 u) (tm_g10 u) (tm_g11 u) (tm_g12 u) (tm_g13 u) (tm_g14 u) (tm_g15 u) (tm_g16 u) (tm_g17 u) (tm_g18 u) (tm_g19 u) (tm_g20 u) (tm_g21 u) (tm_g22 u) (tm_g23 u) (tm_g24 u)) := fun z => tm_lb152 h ht h1 hb
  refine tm_if _ Iff.rfl (fun _ => j 1) (fun _ => ?_)
  refine tm_if _ Iff.rfl (fun _ => j 1) (fun _ => ?_)
  refine tm_if _ Iff.rfl (fun _ => j 0) (fun _ => ?_)
  exact tm_if _ Iff.rfl (fun _ => j 0) (fun _ => j 1)
theorem tm_lb63 {t : Nat} {u0 u : St1} {x1 : Int32} (h : tm_Ok t u0 u) (ht : t < 2) : tm_R (tm_Ok t u0) (fun post => wX_lastByte_63 post x1 (tm_at u) (tm_kc u) (tm_kn u) (tm_g1 u) (tm_g2 u) (tm_g3 u) (tm_g4 u) (tm_g5 u) (tm_g6 u) (tm_g7 u) (tm_g8 u) (tm_g9 u) (tm_g10 u) (tm_g11 u) (tm_g12 u) (tm_g13 u) (tm_g14 u) (tm_g15 u) (tm_g16 u) (tm_g17 u) (tm_g18 u) (tm_g19 u) (tm_g20 u) (tm_g21 u) (tm_g22 u) (tm_g23 u) (tm_g24 u)) := by
  obtain ⟨b, hb, eb⟩ := h.2.1.2.2.2.2.2.2.2.1
  refine tm_bind (tm_numberO (u := u) h ht (i := 0) rfl (by omega)) (fun v hv => ?_)
  refine tm_if _ Iff.rfl (fun _ => ?_) (fun _ => ?_)
  · refine tm_if _ Iff.rfl (fun _ => ?_) (fun _ => ?_)
    · refine tm_and (tm_in h.1 ht) ?_
      refine tm_nm (upd (tm_g10 u) t (nI 1)) (tm_up h.1 rfl) ?_
      exact tm_ret (tm_o10 h ⟨1, by omega, rfl⟩)
    · refine tm_and (tm_in h.1 ht) ?_
      refine tm_nm (upd (tm_g10 u) t (nI 0)) (tm_up h.1 rfl) ?_
      exact tm_ret (tm_o10 h ⟨0, by omega, rfl⟩)
  · refine tm_and (tm_in h.1 ht) ?_
    refine tm_and (tm_in h.1 ht) ?_
    refine tm_nm (upd (tm_g10 u) t (nI b)) (tm_up h.1 (tm_no (tm_at_ h.1 eb))) ?_
    exact tm_ret (tm_o10 h ⟨b, hb, rfl⟩)
theorem tm_lastByte {t b : Nat} {u0 u : St1} {x1 : Int32} (h : tm_Ok t u0 u) (ht : t < 2) (h1 : x1 = nI b) (hb : b < 128) : tm_R (tm_Ok t u0) (fun post => wpX_lastByte post u x1) := by
  refine tm_and (tm_in h.1 ht) ?_
  refine tm_if _ Iff.rfl (fun _ => ?_) (fun _ => ?_)
  · refine tm_if _ Iff.rfl (fun _ => tm_changePenO h ht) (fun _ => ?_)
    refine tm_if _ Iff.rfl (fun _ => tm_lb63 h ht) (fun _ => ?_)
    refine tm_if _ Iff.rfl (fun _ => tm_lb63 h ht) (fun _ => ?_)
    refine tm_if _ Iff.rfl (fun _ => tm_lb152 h ht h1 hb) (fun _ => ?_)
    refine tm_if _ Iff.rfl (fun _ => tm_lb123 h ht h1 hb) (fun _ => ?_)
    exact tm_if _ Iff.rfl (fun _ => tm_lb152 h ht h1 hb) (fun _ => tm_lb123 h ht h1 hb)
  · refine tm_if _ Iff.rfl (fun _ => ?_) (fun _ => ?_)
    · exact tm_if _ Iff.rfl (fun _ => tm_switchMode (u := u) h ht (b := 1) rfl (by omega)) (fun _ => tm_switchMode (u := u) h ht (b := 0) rfl (by omega))
    · refine tm_if _ Iff.rfl (fun _ => ?_) (fun _ => tm_ret h)
      exact tm_if _ Iff.rfl (fun _ => tm_switchMode (u := u) h ht (b := 1) rfl (by omega)) (fun _ => tm_switchMode (u := u) h ht (b := 0) rfl (by omega))
theorem tm_nextNumber {t m : Nat} {u : St1} (ht : t < 2) (ha : tm_at u = nI t) (hm : tm_g22 u t = nI m) (hm1 : m ≤ 5) : tm_R (fun u' => u' = tm_s22 (tm_s23 u (if m < 4 then upd (tm_g23 u) (4 * t + m) (nI 0) else tm_g23 u)) (upd (tm_g22 u) t (nI (min (m + 1) 5)))) (fun post => wpX_nextNumber post u) := by
  have j : ∀ D, tm_R (fun u' => u' = tm_s22 (tm_s23 u D) (upd (tm_g22 u) t (nI (min (m + 1) 5)))) (fun post => wX_nextNumber_29 post (nI m) (tm_at u) (tm_kc u) (tm_kn u) (tm_g1 u) (tm_g2 u) (tm_g3 u) (tm_g4 u) (tm_g5 u) (tm_g6 u) (tm_g7 u) (tm_g8 u) (tm_g9 u) (tm_g10 u) (tm_g11 u) (tm_g12 u) (tm_g13 u) (tm_g14 u) (tm_g15 u) (tm_g16 u) (tm_g17 u) (tm_g18 u) (tm_g19 u) (tm_g20 u) (tm_g21 u) (tm_g22 u) D (tm_g24 u)) := by
    intro D
    refine tm_le 5 m rfl rfl (fun h5 => ?_) (fun h5 => ?_)
    · refine tm_and (tm_in ha ht) ?_
      refine tm_nm (upd (tm_g22 u) t (nI (min (m + 1) 5))) (tm_up ha (by rw [show min (m + 1) 5 = 5 by omega]; rfl)) ?_
      exact tm_ret rfl
    · refine tm_and (tm_in ha ht) ?_
      refine tm_nm (upd (tm_g22 u) t (nI (min (m + 1) 5))) (tm_up ha (by rw [show min (m + 1) 5 = m + 1 by omega]; exact tm_b8 (nI_1 m))) ?_
      exact tm_ret rfl
  refine tm_and (tm_in ha ht) ?_
  refine tm_nm (nI m) (tm_at_ ha hm) ?_
  refine tm_le 4 m rfl rfl (fun h4 => ?_) (fun h4 => ?_)
  · rw [if_neg (by omega)]
    exact j _
  · rw [if_pos h4]
    have e : tm_at u * 4 + nI m = nI (4 * t + m) := tm_ma (b := 4) ha rfl rfl (by omega)
    refine tm_and (tm_in e (by omega)) ?_
    refine tm_nm (upd (tm_g23 u) (4 * t + m) (nI 0)) (tm_up e rfl) ?_
    exact j _
theorem tm_addDigit {t m n g : Nat} {u : St1} {x : Int32} (ht : t < 2) (ha : tm_at u = nI t) (hm : tm_g22 u t = nI m) (hm0 : 1 ≤ m) (hm1 : m ≤ 5) (hx : x = nI g) (hg : g ≤ 9) (hn : m ≤ 4 → tm_g23 u (4 * t + (m - 1)) = nI n) (hn1 : n ≤ 99) : tm_R (fun u' => u' = tm_s23 u (if m ≤ 4 then upd (tm_g23 u) (4 * t + (m - 1)) (nI (min (10 * n + g) 99)) else tm_g23 u)) (fun post => wpX_addDigit post u x) := by
  refine tm_and (tm_in ha ht) ?_
  refine tm_nm (nI m) (tm_at_ ha hm) ?_
  refine tm_lt 4 m rfl rfl (fun h => ?_) (fun h => ?_)
  · rw [if_neg (by omega)]
    exact tm_ret rfl
  · rw [if_pos h]
    refine tm_nm (nI (4 * t + (m - 1))) (tm_su (b := 1) (tm_ma (b := 4) ha rfl rfl rfl) rfl (by omega) (by omega)) ?_
    refine tm_and (tm_in rfl (by omega)) ?_
    refine tm_nm (nI (10 * n + g)) (tm_ad (tm_ml rfl (tm_at_ rfl (hn h)) rfl) hx rfl) ?_
    refine tm_le (10 * n + g) 99 rfl rfl (fun h9 => ?_) (fun h9 => ?_)
    · rw [Nat.min_eq_left h9]
      refine tm_and (tm_in rfl (by omega)) ?_
      refine tm_nm (upd (tm_g23 u) (4 * t + (m - 1)) (nI (10 * n + g))) (tm_up rfl (tm_b8 rfl)) ?_
      exact tm_ret rfl
    · rw [Nat.min_eq_right (by omega)]
      refine tm_and (tm_in rfl (by omega)) ?_
      refine tm_nm (upd (tm_g23 u) (4 * t + (m - 1)) (nI 99)) (tm_up rfl rfl) ?_
      exact tm_ret rfl
theorem tm_control {t b : Nat} {u0 u : St1} {x : Int32} (h : tm_Ok t u0 u) (ht : t < 2) (hx : x = nI b) (hb : b < 128) : tm_R (tm_Ok t u0) (fun post => wpX_control post u x) := by
  obtain ⟨c, hc, ec⟩ := h.2.1.2.2.2.1
  refine tm_if _ Iff.rfl (fun _ => tm_ret h) (fun _ => ?_)
  refine tm_if _ Iff.rfl (fun _ => tm_ret h) (fun _ => ?_)
  refine tm_and (tm_in h.1 ht) ?_
  refine tm_nm (upd (tm_g6 u) t (nI 0)) (tm_up h.1 rfl) ?_
  have o1 : tm_Ok t u0 (tm_s6 u (upd (tm_g6 u) t (nI 0))) := tm_o6 h (Or.inl rfl)
  have hw : tm_g6 (tm_s6 u (upd (tm_g6 u) t (nI 0))) t = nI 0 := pk_us
  have mv : ∀ c', c' ≤ 11 → tm_Ok t u0 (tm_s5 (tm_s6 u (upd (tm_g6 u) t (nI 0))) (upd (tm_g5 u) t (nI c'))) := fun c' hc' => tm_o5 o1 ⟨c', hc', rfl⟩ (Or.inl hw)
  refine tm_and (tm_in h.1 ht) ?_
  refine tm_nm (nI c) (tm_at_ h.1 ec) ?_
  refine tm_if _ Iff.rfl (fun _ => ?_) (fun _ => ?_)
  · refine tm_le c 0 rfl rfl (fun h0 => ?_) (fun h0 => ?_)
    · refine tm_and (tm_in h.1 ht) ?_
      refine tm_nm (upd (tm_g5 u) t (nI 0)) (tm_up h.1 rfl) ?_
      exact tm_ret (mv 0 (by omega))
    · refine tm_and (tm_in h.1 ht) ?_
      refine tm_nm (upd (tm_g5 u) t (nI (c - 1))) (tm_up h.1 (tm_b8 (tm_su rfl rfl h0 rfl))) ?_
      exact tm_ret (mv (c - 1) (by omega))
  refine tm_if _ Iff.rfl (fun _ => ?_) (fun _ => ?_)
  · refine tm_and (by decide) ?_
    refine tm_nm (nI ((c / 4 + 1) * 4)) (tm_ml (tm_ad (pk_div (d := 4) (by omega) (by omega) (by omega)) rfl rfl) rfl rfl) ?_
    refine tm_le 12 ((c / 4 + 1) * 4) rfl rfl (fun h0 => ?_) (fun h0 => ?_)
    · refine tm_and (tm_in h.1 ht) ?_
      refine tm_nm (upd (tm_g5 u) t (nI 11)) (tm_up h.1 rfl) ?_
      exact tm_ret (mv 11 (by omega))
    · refine tm_and (tm_in h.1 ht) ?_
      refine tm_nm (upd (tm_g5 u) t (nI ((c / 4 + 1) * 4))) (tm_up h.1 (tm_b8 rfl)) ?_
      exact tm_ret (mv _ (by omega))
  refine tm_if _ Iff.rfl (fun _ => ?_) (fun _ => ?_)
  · exact tm_imp (tm_lineFeed o1 ht) (fun u' hu => hu.1)
  · refine tm_and (tm_in h.1 ht) ?_
    refine tm_nm (upd (tm_g5 u) t (nI 0)) (tm_up h.1 rfl) ?_
    exact tm_ret (mv 0 (by omega))
end
section
/-- behind a byte b: all as it was (the count of kept rows not smaller), or, at byte 99, cleared -/
def tm_Oq (t b : Nat) (u0 u : St1) : Prop := tm_Ok t u0 u ∨ (b = 99 ∧ tm_Ok t (tm_skc u0 (nI 0)) u)
theorem tm_Skt {k : Nat} {u v w : St1} (h : tm_Sk k u v) (h' : tm_Sk k v w) : tm_Sk k u w := by
  obtain ⟨e4, e5, e6, e7, e8, e9, e10, e11, e12, e13, e14, e15, e16, e17, e18, e19, e20, e21, e22⟩ := h
  obtain ⟨d4, d5, d6, d7, d8, d9, d10, d11, d12, d13, d14, d15, d16, d17, d18, d19, d20, d21, d22⟩ := h'
  exact ⟨d4.trans e4, d5.trans e5, d6.trans e6, d7.trans e7, d8.trans e8, d9.trans e9, d10.trans e10, d11.trans e11, d12.trans e12, d13.trans e13, d14.trans e14, d15.trans e15, d16.trans e16, d17.trans e17, d18.trans e18, d19.trans e19, d20.trans e20, d21.trans e21, d22.trans e22⟩
theorem tm_Frt {t : Nat} {u v w : St1} (h : tm_Fr t u v) (h' : tm_Fr t v w) : tm_Fr t u w :=
  ⟨fun i hi => ⟨(h'.1 i hi).1.trans (h.1 i hi).1, (h'.1 i hi).2.trans (h.1 i hi).2⟩, fun i hi => (h'.2.1 i hi).trans (h.2.1 i hi), fun k hk => tm_Skt (h.2.2.1 k hk) (h'.2.2.1 k hk), fun i hi => (h'.2.2.2 i hi).trans (h.2.2.2 i hi)⟩
theorem tm_Sk0 (k : Nat) (u : St1) : tm_Sk k u u := ⟨rfl, rfl, rfl, rfl, rfl, rfl, rfl, rfl, rfl, rfl, rfl, rfl, rfl, rfl, rfl, rfl, rfl, rfl, rfl⟩
theorem tm_Fr0 (t : Nat) (u : St1) : tm_Fr t u u := ⟨fun _ _ => ⟨rfl, rfl⟩, fun _ _ => rfl, fun k _ => tm_Sk0 k u, fun _ _ => rfl⟩
theorem tm_TIf {t k : Nat} {u u' : St1} (h : tm_Fr t u u') (ht : t < 2) (hk : k < 2) (hkt : k ≠ t) (hT : tm_TI k u) : tm_TI k u' := by
  obtain ⟨f1, f2, f3, f4⟩ := h
  obtain ⟨hc, hs, h4, h5, h6, h7, h89, h10, h11, h12, h13, h14, h15, h16, h17, hab, h20, h22, hst, h23⟩ := hT
  obtain ⟨e4, e5, e6, e7, e8, e9, e10, e11, e12, e13, e14, e15, e16, e17, e18, e19, e20, e21, e22⟩ := f3 k hkt
  refine ⟨fun i h1 h2 => ?_, ⟨fun i h1 h2 => ?_, fun b i j hb hi hj he => ?_⟩, ?_⟩
  · rw [(f1 i (by omega)).1, (f1 i (by omega)).2]; exact hc i h1 h2
  · rw [f2 i (by omega)]; exact hs.1 i h1 h2
  · rw [f2 _ (by omega), f2 _ (by omega)] at he; exact hs.2 b i j hb hi hj he
  · unfold tm_TS
    rw [e4, e5, e6, e7, e8, e9, e10, e11, e12, e13, e14, e15, e16, e17, e18, e19, e20, e22]
    exact ⟨h4, h5, h6, h7, h89, h10, h11, h12, h13, h14, h15, h16, h17, hab, h20, h22, hst, fun i hi => by rw [f4 _ (by omega)]; exact h23 i hi⟩
theorem tm_ob {t : Nat} {u : St1} (hT : tm_TI t u) (hG : tm_G u) : tm_Ok t u (tm_sat u (nI t)) := ⟨rfl, hT, hG, tm_Fr0 t u, Int32.le_refl _⟩
theorem tm_ClO {t : Nat} {u0 u u' : St1} (h : tm_Ok t u0 u) (hc : tm_Cl t u u') : tm_Ok t (tm_skc u0 (nI 0)) u' := by
  obtain ⟨ha, hT, hF, k0, k1, _⟩ := hc
  have g : tm_G u' := by
    by_cases c : t = 0
    · exact ⟨⟨0, by omega, (k0 c).1⟩, ⟨0, by omega, (k0 c).2⟩⟩
    · obtain ⟨e1, e2⟩ := k1 c
      unfold tm_G
      rw [e1, e2]; exact h.2.2.1
  refine ⟨ha, hT, g, tm_Frt h.2.2.2.1 hF, ?_⟩
  obtain ⟨k, _, e⟩ := g.1
  rw [e]; exact nI_le (Nat.zero_le k) (by omega)
theorem tm_clearAllO {t : Nat} {u0 u : St1} (h : tm_Ok t u0 u) (ht : t < 2) : tm_R (fun u' => tm_Ok t (tm_skc u0 (nI 0)) u' ∧ tm_Cl t u u') (fun post => wpX_clearAll post u) := by
  have h' := h
  obtain ⟨ha, ⟨hc, hs, h4, h5, h6, h7, h89, h10, h11, h12, h13, h14, h15, h16, h17, hab, h20, h22, hst, h23⟩, hg, hF, hm⟩ := h'
  exact tm_imp (tm_clearAll ht h16 h17 h22 h23 ha) (fun u' hu => ⟨tm_ClO h hu, hu⟩)
theorem tm_ss126 {t b : Nat} {u0 u : St1} {x z : Int32} (h : tm_Ok t u0 u) (ht : t < 2) (hx : x = nI b) (hb : b < 128) (hz : z = nI t) : tm_R (fun u' => tm_Oq t b u0 u' ∧ (b = 99 → ∃ v, tm_Ok t u0 v ∧ tm_Cl t v u')) (fun post => wX_shortSequence_126 post x 0 z (tm_at u) (tm_kc u) (tm_kn u) (tm_g1 u) (tm_g2 u) (tm_g3 u) (tm_g4 u) (tm_g5 u) (tm_g6 u) (tm_g7 u) (tm_g8 u) (tm_g9 u) (tm_g10 u) (tm_g11 u) (tm_g12 u) (tm_g13 u) (tm_g14 u) (tm_g15 u) (tm_g16 u) (tm_g17 u) (tm_g18 u) (tm_g19 u) (tm_g20 u) (tm_g21 u) (tm_g22 u) (tm_g23 u) (tm_g24 u)) := by
  refine tm_and (tm_in hz ht) ?_
  refine tm_nm (upd (tm_g6 u) t (nI 0)) (tm_up hz rfl) ?_
  have o1 : tm_Ok t u0 (tm_s6 u (upd (tm_g6 u) t (nI 0))) := tm_o6 h (Or.inl rfl)
  have hw : tm_g6 (tm_s6 u (upd (tm_g6 u) t (nI 0))) t = nI 0 := pk_us
  have h' := h
  obtain ⟨ha, ⟨hc, hs, h4, h5, h6, h7, h89, h10, h11, h12, h13, h14, h15, h16, h17, hab, h20, h22, hst, h23⟩, hg, hF, hm⟩ := h'
  refine tm_eq b 56 hx rfl (fun e => ?_) (fun n1 => ?_)
  · obtain ⟨r, hr, er⟩ := h13
    obtain ⟨c, hc, ec⟩ := h14
    obtain ⟨p, hp, ep⟩ := h15
    refine tm_and (tm_in ha ht) ?_
    refine tm_and (tm_in ha ht) ?_
    refine tm_bind (tm_moveTo ht o1.1 (tm_at_ ha er) hr (tm_at_ ha ec) hc) (fun v hv => ?_)
    have o2 := tm_moveToO o1 hw hr hc
    rw [← hv] at o2
    have ep' : tm_g15 v t = nI p := by rw [hv]; exact ep
    refine tm_and (tm_in o2.1 ht) ?_
    refine tm_and (tm_in o2.1 ht) ?_
    refine tm_nm (upd (tm_g7 v) t (nI p)) (tm_up o2.1 (tm_nb (tm_at_ o2.1 ep'))) ?_
    exact tm_ret ⟨Or.inl (tm_o7 o2 ⟨p, hp, rfl⟩), by omega⟩
  refine tm_eq b 68 hx rfl (fun e => ?_) (fun n2 => ?_)
  · exact tm_imp (tm_lineFeed o1 ht) (fun u' hu => ⟨Or.inl hu.1, by omega⟩)
  refine tm_eq b 69 hx rfl (fun e => ?_) (fun n3 => ?_)
  · refine tm_and (tm_in ha ht) ?_
    refine tm_nm (upd (tm_g5 u) t (nI 0)) (tm_up ha rfl) ?_
    have o2 : tm_Ok t u0 (tm_s5 (tm_s6 u (upd (tm_g6 u) t (nI 0))) (upd (tm_g5 u) t (nI 0))) := tm_o5 o1 ⟨0, by omega, rfl⟩ (Or.inl hw)
    exact tm_imp (tm_lineFeed o2 ht) (fun u' hu => ⟨Or.inl hu.1, by omega⟩)
  refine tm_eq b 77 hx rfl (fun e => ?_) (fun n4 => ?_)
  · exact tm_imp (tm_goUp o1 ht) (fun u' hu => ⟨Or.inl hu, by omega⟩)
  refine tm_eq b 99 hx rfl (fun e => ?_) (fun n5 => ?_)
  · exact tm_imp (tm_clearAllO o1 ht) (fun u' hu => ⟨Or.inr ⟨e, hu.1⟩, fun _ => ⟨_, o1, hu.2⟩⟩)
  exact tm_ret ⟨Or.inl o1, by omega⟩
theorem tm_ss96 {t b : Nat} {u0 u : St1} {x z : Int32} (h : tm_Ok t u0 u) (ht : t < 2) (hx : x = nI b) (hb : b < 128) (hz : z = 0 → ¬ x = 56 ∧ ¬ x = 68 ∧ ¬ x = 69 ∧ ¬ x = 77 ∧ ¬ x = 99) : tm_R (fun u' => tm_Oq t b u0 u' ∧ (b = 99 → ∃ v, tm_Ok t u0 v ∧ tm_Cl t v u')) (fun post => wX_shortSequence_96 post x z (tm_at u) (tm_kc u) (tm_kn u) (tm_g1 u) (tm_g2 u) (tm_g3 u) (tm_g4 u) (tm_g5 u) (tm_g6 u) (tm_g7 u) (tm_g8 u) (tm_g9 u) (tm_g10 u) (tm_g11 u) (tm_g12 u) (tm_g13 u) (tm_g14 u) (tm_g15 u) (tm_g16 u) (tm_g17 u) (tm_g18 u) (tm_g19 u) (tm_g20 u) (tm_g21 u) (tm_g22 u) (tm_g23 u) (tm_g24 u)) := by
  refine tm_and (tm_in h.1 ht) ?_
  refine tm_if _ Iff.rfl (fun _ => tm_ss126 h ht hx hb h.1) (fun g => ?_)
  refine tm_if _ Iff.rfl (fun z0 => ?_) (fun _ => tm_ss126 h ht hx hb h.1)
  obtain ⟨n1, n2, n3, n4, n5⟩ := hz z0
  have h6 := h.2.1.2.2.2.2.1
  have g' : ¬ tm_g6 u t = nI 0 := fun e => g (tm_at_ h.1 e)
  rcases h6 with e | e
  · exact absurd e g'
  · refine tm_and (tm_in h.1 ht) ?_
    refine tm_nm (upd (tm_g6 u) t (nI 1)) (tm_up h.1 rfl) ?_
    refine tm_f n1 (tm_f n2 (tm_f n3 (tm_f n4 (tm_f n5 (tm_ret ⟨Or.inl (tm_o6 h (Or.inr ⟨rfl, e.2⟩)), fun e99 => ?_⟩)))))
    exact absurd (by rw [hx, e99]; rfl) n5
theorem tm_shortSequence {t b : Nat} {u0 u : St1} {x : Int32} (h : tm_Ok t u0 u) (ht : t < 2) (hx : x = nI b) (hb : b < 128) : tm_R (fun u' => tm_Oq t b u0 u' ∧ (b = 99 → ∃ v, tm_Ok t u0 v ∧ tm_Cl t v u')) (fun post => wpX_shortSequence post u x) := by
  have j : tm_R (fun u' => tm_Oq t b u0 u' ∧ (b = 99 → ∃ v, tm_Ok t u0 v ∧ tm_Cl t v u')) (fun post => wX_shortSequence_96 post x 1 (tm_at u) (tm_kc u) (tm_kn u) (tm_g1 u) (tm_g2 u) (tm_g3 u) (tm_g4 u) (tm_g5 u) (tm_g6 u) (tm_g7 u) (tm_g8 u) (tm_g9 u) (tm_g10 u) (tm_g11 u) (tm_g12 u) (tm_g13 u) (tm_g14 u) (tm_g15 u) (tm_g16 u) (tm_g17 u) (tm_g18 u) (tm_g19 u) (tm_g20 u) (tm_g21 u) (tm_g22 u) (tm_g23 u) (tm_g24 u)) := tm_ss96 h ht hx hb (fun z => absurd z (by decide))
  refine tm_eq b 55 hx rfl (fun e => ?_) (fun n1 => ?_)
  · have h' := h
    obtain ⟨ha, ⟨hc, hs, h4, h5, h6, h7, h89, h10, h11, h12, h13, h14, h15, h16, h17, hab, h20, h22, hst, h23⟩, hg, hF, hm⟩ := h'
    obtain ⟨r, hr, er⟩ := h4
    obtain ⟨c, hc, ec⟩ := h5
    obtain ⟨p, hp, ep⟩ := h7
    refine tm_and (tm_in ha ht) ?_
    refine tm_and (tm_in ha ht) ?_
    refine tm_nm (upd (tm_g13 u) t (nI r)) (tm_up ha (tm_nb (tm_at_ ha er))) ?_
    refine tm_and (tm_in ha ht) ?_
    refine tm_and (tm_in ha ht) ?_
    refine tm_nm (upd (tm_g14 u) t (nI c)) (tm_up ha (tm_nb (tm_at_ ha ec))) ?_
    refine tm_and (tm_in ha ht) ?_
    refine tm_and (tm_in ha ht) ?_
    refine tm_nm (upd (tm_g15 u) t (nI p)) (tm_up ha (tm_nb (tm_at_ ha ep))) ?_
    exact tm_ret ⟨Or.inl (tm_o15 (tm_o14 (tm_o13 h ⟨r, hr, rfl⟩) ⟨c, hc, rfl⟩) ⟨p, hp, rfl⟩), by omega⟩
  refine tm_if _ Iff.rfl (fun _ => j) (fun m1 => ?_)
  refine tm_if _ Iff.rfl (fun _ => j) (fun m2 => ?_)
  refine tm_if _ Iff.rfl (fun _ => j) (fun m3 => ?_)
  refine tm_if _ Iff.rfl (fun _ => j) (fun m4 => ?_)
  refine tm_if _ Iff.rfl (fun _ => j) (fun m5 => ?_)
  exact tm_ss96 h ht hx hb (fun _ => ⟨m1, m2, m3, m4, m5⟩)
def tm_pt (t : Nat) (u : St1) (j c b p w : Nat) : St1 := if 11 ≤ c then tm_s6 (tm_s2 (tm_s1 u (upd (tm_g1 u) j (nI b))) (upd (tm_g2 u) j (nI p))) (upd (tm_g6 u) t (nI w)) else tm_s5 (tm_s2 (tm_s1 u (upd (tm_g1 u) j (nI b))) (upd (tm_g2 u) j (nI p))) (upd (tm_g5 u) t (nI (c + 1)))
theorem tm_ps99 {t s c b p w : Nat} {u : St1} {x y z : Int32} (ht : t < 2) (ha : tm_at u = nI t) (hs : s ≤ 11) (hc : c ≤ 11) (ec : tm_g5 u t = nI c) (ep : tm_g7 u t = nI p) (hp : p ≤ 7) (ew : tm_g11 u t = nI w) (hw : w ≤ 1) (hx : x = nI b) (hb : b < 128) (hy : y = nI (144 * t + 12 * s)) (hz : z = nI c) :
    tm_R (fun u' => u' = tm_pt t u (144 * t + 12 * s + c) c b p w) (fun post => wX_putSign_99 post x y z (tm_at u) (tm_kc u) (tm_kn u) (tm_g1 u) (tm_g2 u) (tm_g3 u) (tm_g4 u) (tm_g5 u) (tm_g6 u) (tm_g7 u) (tm_g8 u) (tm_g9 u) (tm_g10 u) (tm_g11 u) (tm_g12 u) (tm_g13 u) (tm_g14 u) (tm_g15 u) (tm_g16 u) (tm_g17 u) (tm_g18 u) (tm_g19 u) (tm_g20 u) (tm_g21 u) (tm_g22 u) (tm_g23 u) (tm_g24 u)) := by
  have e : y + z = nI (144 * t + 12 * s + c) := tm_ad hy hz rfl
  refine tm_and (tm_in e (by omega)) ?_
  refine tm_nm (upd (tm_g1 u) (144 * t + 12 * s + c) (nI b)) (tm_up e (tm_b8 hx)) ?_
  refine tm_and (tm_in ha ht) ?_
  refine tm_and (tm_in e (by omega)) ?_
  refine tm_nm (upd (tm_g2 u) (144 * t + 12 * s + c) (nI p)) (tm_up e (tm_nb (tm_at_ ha ep))) ?_
  refine tm_le 11 c rfl hz (fun h => ?_) (fun h => ?_)
  · refine tm_and (tm_in ha ht) ?_
    refine tm_and (tm_in ha ht) ?_
    refine tm_nm (upd (tm_g6 u) t (nI w)) (tm_up ha (tm_no (tm_at_ ha ew))) ?_
    exact tm_ret (if_pos h).symm
  · refine tm_and (tm_in ha ht) ?_
    refine tm_and (tm_in ha ht) ?_
    refine tm_nm (upd (tm_g5 u) t (nI (c + 1))) (tm_up ha (tm_b8 (tm_ad (tm_at_ ha ec) rfl rfl))) ?_
    exact tm_ret (if_neg (by omega)).symm
theorem tm_ptO {t s c b p w : Nat} {u0 u : St1} (h : tm_Ok t u0 u) (hs : s ≤ 11) (hc : c ≤ 11) (ec : tm_g5 u t = nI c) (hw0 : tm_g6 u t = nI 0) (hp : p ≤ 7) (hw : w ≤ 1) (hb : 32 ≤ b) (hb1 : b ≤ 126) : tm_Ok t u0 (tm_pt t u (144 * t + 12 * s + c) c b p w) := by
  have o1 : tm_Ok t u0 (tm_s2 (tm_s1 u (upd (tm_g1 u) (144 * t + 12 * s + c) (nI b))) (upd (tm_g2 u) (144 * t + 12 * s + c) (nI p))) :=
    (tm_CcO h (a := 144 * t) (b := 144 * t + 144) ⟨_, _, rfl, tm_celU h.2.1.1 ⟨b, hb, hb1, rfl⟩ ⟨p, hp, rfl⟩, fun i hi => ⟨pk_un (by omega), pk_un (by omega)⟩⟩ (by omega) (by omega)).1
  unfold tm_pt
  split
  · refine tm_o6 o1 ?_
    have e : w = 0 ∨ w = 1 := by omega
    rcases e with e | e
    · exact Or.inl (by rw [e])
    · exact Or.inr ⟨by rw [e], by rw [show (11 : Nat) = c by omega]; exact ec⟩
  · exact tm_o5 o1 ⟨c + 1, by omega, rfl⟩ (Or.inl hw0)
theorem tm_ps76 {t s c b p w : Nat} {u0 : St1} {x : Int32} (ht : t < 2) (hs : s ≤ 11) (hc : c ≤ 11) (hp : p ≤ 7) (hw : w ≤ 1) (hx : x = nI b) (hb : 32 ≤ b) (hb1 : b ≤ 126) : ∀ d i, i - c = d → i ≤ 11 → ∀ u, tm_Ok t u0 u → tm_g5 u t = nI c → tm_g6 u t = nI 0 → tm_g7 u t = nI p → tm_g11 u t = nI w → tm_R (tm_Ok t u0) (fun post => wX_putSign_76 post x (nI (144 * t + 12 * s)) (nI c) (d + 1) (nI i) (tm_at u) (tm_kc u) (tm_kn u) (tm_g1 u) (tm_g2 u) (tm_g3 u) (tm_g4 u) (tm_g5 u) (tm_g6 u) (tm_g7 u) (tm_g8 u) (tm_g9 u) (tm_g10 u) (tm_g11 u) (tm_g12 u) (tm_g13 u) (tm_g14 u) (tm_g15 u) (tm_g16 u) (tm_g17 u) (tm_g18 u) (tm_g19 u) (tm_g20 u) (tm_g21 u) (tm_g22 u) (tm_g23 u) (tm_g24 u)) := by
  intro d
  induction d with
  | zero =>
    intro i hi hi' u h ec e6 ep ew
    refine tm_le i c rfl rfl (fun _ => ?_) (fun h => absurd h (by omega))
    exact tm_imp (tm_ps99 ht h.1 hs hc ec ep hp ew hw hx (by omega) rfl rfl) (fun u' hu => by rw [hu]; exact tm_ptO h hs hc ec e6 hp hw hb hb1)
  | succ d ih =>
    intro i hi hi' u h ec e6 ep ew
    obtain ⟨i, rfl⟩ : ∃ j, i = j + 1 := ⟨i - 1, by omega⟩
    refine tm_le (i + 1) c rfl rfl (fun h => absurd h (by omega)) (fun _ => ?_)
    refine tm_bind (tm_copyCell (a := i) (b := i + 1) ht h.2.1.1 hs rfl (nI_pred i) rfl (by omega) (by omega)) (fun v hv => ?_)
    refine tm_nm (nI i) (pk_m1 i) ?_
    have o := (tm_CcO h hv (by omega) (by omega)).1
    obtain ⟨s', y', rfl, _, _⟩ := hv
    exact ih i (by omega) (by omega) _ o ec e6 ep ew
theorem tm_ps36 {t b : Nat} {u0 u : St1} {x : Int32} (h : tm_Ok t u0 u) (ht : t < 2) (hw0 : tm_g6 u t = nI 0) (hx : x = nI b) (hb : 32 ≤ b) (hb1 : b ≤ 126) : tm_R (tm_Ok t u0) (fun post => wX_putSign_36 post x (tm_at u) (tm_kc u) (tm_kn u) (tm_g1 u) (tm_g2 u) (tm_g3 u) (tm_g4 u) (tm_g5 u) (tm_g6 u) (tm_g7 u) (tm_g8 u) (tm_g9 u) (tm_g10 u) (tm_g11 u) (tm_g12 u) (tm_g13 u) (tm_g14 u) (tm_g15 u) (tm_g16 u) (tm_g17 u) (tm_g18 u) (tm_g19 u) (tm_g20 u) (tm_g21 u) (tm_g22 u) (tm_g23 u) (tm_g24 u)) := by
  have h' := h
  obtain ⟨ha, ⟨hc, hs, h4, h5, h6, h7, h89, h10, h11, h12, h13, h14, h15, h16, h17, hab, h20, h22, hst, h23⟩, hg, hF, hm⟩ := h'
  obtain ⟨r, hr, er⟩ := h4
  obtain ⟨c, hc, ec⟩ := h5
  obtain ⟨p, hp, ep⟩ := h7
  obtain ⟨w, hw, ew⟩ := h11
  obtain ⟨k, s, hk, hs, ek, es⟩ := tm_okc h (r := r) (by omega) ht
  refine tm_and (tm_in ha ht) ?_
  refine tm_bind (tm_lineAt (u := u) ht ha ek hk (tm_at_ ha er) (by omega) es) (fun v hv => ?_)
  refine tm_and (tm_in ha ht) ?_
  refine tm_nm (nI c) (tm_at_ ha ec) ?_
  refine tm_and (tm_in ha ht) ?_
  refine tm_if _ Iff.rfl (fun _ => ?_) (fun _ => ?_)
  · exact tm_imp (tm_ps99 ht ha hs hc ec ep hp ew hw hx (by omega) hv rfl) (fun u' hu => by rw [hu]; exact tm_ptO h hs hc ec hw0 hp hw hb hb1)
  · rw [hv]
    exact tm_fu _ (tm_ps76 ht hs hc hp hw hx hb hb1 _ 11 rfl (by omega) u h ec hw0 ep ew)
theorem tm_putSign {t b : Nat} {u0 u : St1} {x : Int32} (h : tm_Ok t u0 u) (ht : t < 2) (hx : x = nI b) (hb : 32 ≤ b) (hb1 : b ≤ 126) : tm_R (tm_Ok t u0) (fun post => wpX_putSign post u x) := by
  have h6 := h.2.1.2.2.2.2.1
  refine tm_and (tm_in h.1 ht) ?_
  refine tm_if (tm_g6 u t = nI 0) (by constructor; exact fun e => (tm_at_ (f := tm_g6 u) h.1 rfl).symm.trans e; exact fun e => tm_at_ h.1 e) (fun e => tm_ps36 h ht e hx hb hb1) (fun e => ?_)
  refine tm_and (tm_in h.1 ht) ?_
  refine tm_nm (upd (tm_g6 u) t (nI 0)) (tm_up h.1 rfl) ?_
  refine tm_and (tm_in h.1 ht) ?_
  refine tm_nm (upd (tm_g5 u) t (nI 0)) (tm_up h.1 rfl) ?_
  have o1 : tm_Ok t u0 (tm_s6 u (upd (tm_g6 u) t (nI 0))) := tm_o6 h (Or.inl rfl)
  have hw : tm_g6 (tm_s6 u (upd (tm_g6 u) t (nI 0))) t = nI 0 := pk_us
  have o2 : tm_Ok t u0 (tm_s5 (tm_s6 u (upd (tm_g6 u) t (nI 0))) (upd (tm_g5 u) t (nI 0))) := tm_o5 o1 ⟨0, by omega, rfl⟩ (Or.inl hw)
  refine tm_bind (tm_lineFeed o2 ht) (fun v hv => ?_)
  exact tm_ps36 hv.1 ht (by rw [hv.2.2]; exact pk_us) hx hb hb1
def tm_mn (st b : Nat) : Nat := if b = 27 then 3 else if st = 0 then (if b < 32 then (if b < 8 then 0 else if 13 < b then 0 else 2) else if 127 ≤ b then (if b < 8 then 0 else if 13 < b then 0 else 2) else 1) else if st = 1 then (if b = 91 then 4 else 5) else if b < 48 then 10 else if b ≤ 57 then 7 else if b = 59 then 8 else if b < 64 then (if b = 63 then (if st = 2 then 6 else 10) else 10) else if 127 ≤ b then 10 else 9
def tm_ns (m : Nat) : Nat := if m = 3 then 1 else if m = 4 then 2 else if m < 6 then 0 else if 8 < m then 0 else 3
theorem tm_meaning {st b : Nat} {u : St1} {x y : Int32} (hx : x = nI st) (hst : st ≤ 3) (hy : y = nI b) (hb : b < 128) : tm_R (fun v => v = nI (tm_mn st b)) (fun post => wpX_meaning post u x y) := by
  unfold tm_mn
  have j26 : tm_R (fun v => v = nI (if b < 8 then 0 else if 13 < b then 0 else 2)) (fun post => wX_meaning_26 post y (tm_at u) (tm_kc u) (tm_kn u) (tm_g1 u) (tm_g2 u) (tm_g3 u) (tm_g4 u) (tm_g5 u) (tm_g6 u) (tm_g7 u) (tm_g8 u) (tm_g9 u) (tm_g10 u) (tm_g11 u) (tm_g12 u) (tm_g13 u) (tm_g14 u) (tm_g15 u) (tm_g16 u) (tm_g17 u) (tm_g18 u) (tm_g19 u) (tm_g20 u) (tm_g21 u) (tm_g22 u) (tm_g23 u) (tm_g24 u)) := by
    refine tm_lt b 8 hy rfl (fun e => ?_) (fun e => ?_)
    · rw [if_pos e]; exact tm_ret rfl
    rw [if_neg (by omega)]
    refine tm_lt 13 b rfl hy (fun e => ?_) (fun e => ?_)
    · rw [if_pos e]; exact tm_ret rfl
    · rw [if_neg (by omega)]; exact tm_ret rfl
  refine tm_eq b 27 hy rfl (fun e => ?_) (fun n1 => ?_)
  · rw [if_pos e]; exact tm_ret rfl
  rw [if_neg n1]
  refine tm_eq st 0 hx rfl (fun e => ?_) (fun n2 => ?_)
  · rw [if_pos e]
    refine tm_lt b 32 hy rfl (fun e => ?_) (fun e => ?_)
    · rw [if_pos e]; exact j26
    rw [if_neg (by omega)]
    refine tm_le 127 b rfl hy (fun e => ?_) (fun e => ?_)
    · rw [if_pos e]; exact j26
    rw [if_neg (by omega)]; exact tm_ret rfl
  rw [if_neg n2]
  refine tm_eq st 1 hx rfl (fun e => ?_) (fun n3 => ?_)
  · rw [if_pos e]
    refine tm_eq b 91 hy rfl (fun e => ?_) (fun e => ?_)
    · rw [if_pos e]; exact tm_ret rfl
    · rw [if_neg e]; exact tm_ret rfl
  rw [if_neg n3]
  have j100 : tm_R (fun v => v = nI (if b = 63 then (if st = 2 then 6 else 10) else 10)) (fun post => wX_meaning_100 post x y (tm_at u) (tm_kc u) (tm_kn u) (tm_g1 u) (tm_g2 u) (tm_g3 u) (tm_g4 u) (tm_g5 u) (tm_g6 u) (tm_g7 u) (tm_g8 u) (tm_g9 u) (tm_g10 u) (tm_g11 u) (tm_g12 u) (tm_g13 u) (tm_g14 u) (tm_g15 u) (tm_g16 u) (tm_g17 u) (tm_g18 u) (tm_g19 u) (tm_g20 u) (tm_g21 u) (tm_g22 u) (tm_g23 u) (tm_g24 u)) := by
    refine tm_eq b 63 hy rfl (fun e => ?_) (fun e => ?_)
    · rw [if_pos e]
      refine tm_eq st 2 hx rfl (fun e => ?_) (fun e => ?_)
      · rw [if_pos e]; exact tm_ret rfl
      · rw [if_neg e]; exact tm_ret rfl
    · rw [if_neg e]; exact tm_ret rfl
  have j76 : tm_R (fun v => v = nI (if b = 59 then 8 else if b < 64 then (if b = 63 then (if st = 2 then 6 else 10) else 10) else if 127 ≤ b then (if b = 63 then (if st = 2 then 6 else 10) else 10) else 9)) (fun post => wX_meaning_76 post x y (tm_at u) (tm_kc u) (tm_kn u) (tm_g1 u) (tm_g2 u) (tm_g3 u) (tm_g4 u) (tm_g5 u) (tm_g6 u) (tm_g7 u) (tm_g8 u) (tm_g9 u) (tm_g10 u) (tm_g11 u) (tm_g12 u) (tm_g13 u) (tm_g14 u) (tm_g15 u) (tm_g16 u) (tm_g17 u) (tm_g18 u) (tm_g19 u) (tm_g20 u) (tm_g21 u) (tm_g22 u) (tm_g23 u) (tm_g24 u)) := by
    refine tm_eq b 59 hy rfl (fun e => ?_) (fun e => ?_)
    · rw [if_pos e]; exact tm_ret rfl
    rw [if_neg e]
    refine tm_lt b 64 hy rfl (fun e => ?_) (fun e => ?_)
    · rw [if_pos e]; exact j100
    rw [if_neg (by omega)]
    refine tm_le 127 b rfl hy (fun e => ?_) (fun e => ?_)
    · rw [if_pos e]; exact j100
    · rw [if_neg (by omega)]; exact tm_ret rfl
  refine tm_lt b 48 hy rfl (fun e => ?_) (fun e => ?_)
  · rw [if_pos e]
    rw [if_neg (by omega), if_pos (by omega), if_neg (by omega)] at j76
    exact j76
  rw [if_neg (by omega)]
  refine tm_lt 57 b rfl hy (fun e => ?_) (fun e => ?_)
  · rw [if_neg (by omega)]
    by_cases c : 127 ≤ b
    · rw [if_neg (by omega), if_neg (by omega), if_pos c, if_neg (by omega)] at j76
      rw [if_neg (by omega), if_neg (by omega), if_pos c]
      exact j76
    · rw [if_neg c] at j76 ⊢
      exact j76
  · rw [if_pos (by omega)]; exact tm_ret rfl
theorem tm_nextState {m : Nat} {x : Int32} (hx : x = nI m) (hm : m ≤ 10) : tm_R (fun v => v = nI (tm_ns m)) (fun post => wpX_nextState post () x) := by
  unfold tm_ns
  refine tm_eq m 3 hx rfl (fun e => ?_) (fun e => ?_)
  · rw [if_pos e]; exact tm_ret rfl
  rw [if_neg e]
  refine tm_eq m 4 hx rfl (fun e => ?_) (fun e => ?_)
  · rw [if_pos e]; exact tm_ret rfl
  rw [if_neg e]
  refine tm_lt m 6 hx rfl (fun e => ?_) (fun e => ?_)
  · rw [if_pos e]; exact tm_ret rfl
  rw [if_neg (by omega)]
  refine tm_lt 8 m rfl hx (fun e => ?_) (fun e => ?_)
  · rw [if_pos e]; exact tm_ret rfl
  · rw [if_neg (by omega)]; exact tm_ret rfl
theorem tm_mn10 (st b : Nat) : tm_mn st b ≤ 10 := by
  unfold tm_mn
  repeat' split
  all_goals omega
theorem tm_ns3 (m : Nat) : tm_ns m ≤ 3 := by
  unfold tm_ns
  repeat' split
  all_goals omega
def tm_r1 (t n : Nat) (u : St1) : St1 := (nI t, u.2.1, u.2.2.1, u.2.2.2.1, u.2.2.2.2.1, u.2.2.2.2.2.1, u.2.2.2.2.2.2.1, u.2.2.2.2.2.2.2.1, u.2.2.2.2.2.2.2.2.1, u.2.2.2.2.2.2.2.2.2.1, u.2.2.2.2.2.2.2.2.2.2.1, u.2.2.2.2.2.2.2.2.2.2.2.1, u.2.2.2.2.2.2.2.2.2.2.2.2.1, u.2.2.2.2.2.2.2.2.2.2.2.2.2.1, u.2.2.2.2.2.2.2.2.2.2.2.2.2.2.1, u.2.2.2.2.2.2.2.2.2.2.2.2.2.2.2.1, u.2.2.2.2.2.2.2.2.2.2.2.2.2.2.2.2.1, u.2.2.2.2.2.2.2.2.2.2.2.2.2.2.2.2.2.1, u.2.2.2.2.2.2.2.2.2.2.2.2.2.2.2.2.2.2.1, u.2.2.2.2.2.2.2.2.2.2.2.2.2.2.2.2.2.2.2.1, u.2.2.2.2.2.2.2.2.2.2.2.2.2.2.2.2.2.2.2.2.1, u.2.2.2.2.2.2.2.2.2.2.2.2.2.2.2.2.2.2.2.2.2.1, upd u.2.2.2.2.2.2.2.2.2.2.2.2.2.2.2.2.2.2.2.2.2.2.1 t (nI n), u.2.2.2.2.2.2.2.2.2.2.2.2.2.2.2.2.2.2.2.2.2.2.2.1, u.2.2.2.2.2.2.2.2.2.2.2.2.2.2.2.2.2.2.2.2.2.2.2.2.1, u.2.2.2.2.2.2.2.2.2.2.2.2.2.2.2.2.2.2.2.2.2.2.2.2.2.1, u.2.2.2.2.2.2.2.2.2.2.2.2.2.2.2.2.2.2.2.2.2.2.2.2.2.2)
def tm_r4 (t n : Nat) (u : St1) : St1 := (nI t, u.2.1, u.2.2.1, u.2.2.2.1, u.2.2.2.2.1, u.2.2.2.2.2.1, u.2.2.2.2.2.2.1, u.2.2.2.2.2.2.2.1, u.2.2.2.2.2.2.2.2.1, u.2.2.2.2.2.2.2.2.2.1, u.2.2.2.2.2.2.2.2.2.2.1, u.2.2.2.2.2.2.2.2.2.2.2.1, u.2.2.2.2.2.2.2.2.2.2.2.2.1, u.2.2.2.2.2.2.2.2.2.2.2.2.2.1, u.2.2.2.2.2.2.2.2.2.2.2.2.2.2.1, u.2.2.2.2.2.2.2.2.2.2.2.2.2.2.2.1, u.2.2.2.2.2.2.2.2.2.2.2.2.2.2.2.2.1, u.2.2.2.2.2.2.2.2.2.2.2.2.2.2.2.2.2.1, u.2.2.2.2.2.2.2.2.2.2.2.2.2.2.2.2.2.2.1, u.2.2.2.2.2.2.2.2.2.2.2.2.2.2.2.2.2.2.2.1, u.2.2.2.2.2.2.2.2.2.2.2.2.2.2.2.2.2.2.2.2.1, u.2.2.2.2.2.2.2.2.2.2.2.2.2.2.2.2.2.2.2.2.2.1, upd u.2.2.2.2.2.2.2.2.2.2.2.2.2.2.2.2.2.2.2.2.2.2.1 t (nI n), upd u.2.2.2.2.2.2.2.2.2.2.2.2.2.2.2.2.2.2.2.2.2.2.2.1 t (nI 0), upd u.2.2.2.2.2.2.2.2.2.2.2.2.2.2.2.2.2.2.2.2.2.2.2.2.1 t (nI 1), upd u.2.2.2.2.2.2.2.2.2.2.2.2.2.2.2.2.2.2.2.2.2.2.2.2.2.1 (4 * t) (nI 0), u.2.2.2.2.2.2.2.2.2.2.2.2.2.2.2.2.2.2.2.2.2.2.2.2.2.2)
def tm_r6 (t n : Nat) (u : St1) : St1 := (nI t, u.2.1, u.2.2.1, u.2.2.2.1, u.2.2.2.2.1, u.2.2.2.2.2.1, u.2.2.2.2.2.2.1, u.2.2.2.2.2.2.2.1, u.2.2.2.2.2.2.2.2.1, u.2.2.2.2.2.2.2.2.2.1, u.2.2.2.2.2.2.2.2.2.2.1, u.2.2.2.2.2.2.2.2.2.2.2.1, u.2.2.2.2.2.2.2.2.2.2.2.2.1, u.2.2.2.2.2.2.2.2.2.2.2.2.2.1, u.2.2.2.2.2.2.2.2.2.2.2.2.2.2.1, u.2.2.2.2.2.2.2.2.2.2.2.2.2.2.2.1, u.2.2.2.2.2.2.2.2.2.2.2.2.2.2.2.2.1, u.2.2.2.2.2.2.2.2.2.2.2.2.2.2.2.2.2.1, u.2.2.2.2.2.2.2.2.2.2.2.2.2.2.2.2.2.2.1, u.2.2.2.2.2.2.2.2.2.2.2.2.2.2.2.2.2.2.2.1, u.2.2.2.2.2.2.2.2.2.2.2.2.2.2.2.2.2.2.2.2.1, u.2.2.2.2.2.2.2.2.2.2.2.2.2.2.2.2.2.2.2.2.2.1, upd u.2.2.2.2.2.2.2.2.2.2.2.2.2.2.2.2.2.2.2.2.2.2.1 t (nI n), upd u.2.2.2.2.2.2.2.2.2.2.2.2.2.2.2.2.2.2.2.2.2.2.2.1 t (nI 1), u.2.2.2.2.2.2.2.2.2.2.2.2.2.2.2.2.2.2.2.2.2.2.2.2.1, u.2.2.2.2.2.2.2.2.2.2.2.2.2.2.2.2.2.2.2.2.2.2.2.2.2.1, u.2.2.2.2.2.2.2.2.2.2.2.2.2.2.2.2.2.2.2.2.2.2.2.2.2.2)
theorem tm_read {t st b m n : Nat} {u : St1} {x y : Int32} {P : St1 → Prop} (ht : t < 2) (hx : x = nI t) (hs : tm_g20 u t = nI st) (hst : st ≤ 3) (hy : y = nI b) (hb : b < 128) (hm : tm_mn st b = m) (hn : tm_ns m = n)
    (h1 : m = 1 → tm_R P (fun post => wpX_putSign post (tm_r1 t n u) y))
    (h2 : m = 2 → tm_R P (fun post => wpX_control post (tm_r1 t n u) y))
    (h4 : m = 4 → P (tm_r4 t n u))
    (h6 : m = 6 → P (tm_r6 t n u))
    (h7 : m = 7 → tm_R P (fun post => wpX_addDigit post (tm_r1 t n u) (y - 48)))
    (h8 : m = 8 → tm_R P (fun post => wpX_nextNumber post (tm_r1 t n u)))
    (h5 : m = 5 → tm_R P (fun post => wpX_shortSequence post (tm_r1 t n u) y))
    (h9 : m = 9 → tm_R P (fun post => wpX_lastByte post (tm_r1 t n u) y))
    (h0 : m = 0 ∨ m = 3 ∨ m = 10 → P (tm_r1 t n u)) : tm_R P (fun post => wpX_read post u x y) := by
  have m10 := tm_mn10 st b
  rw [hm] at m10
  subst hx
  refine tm_and (tm_in rfl ht) ?_
  refine tm_nm (nI st) (tm_at_ rfl hs) ?_
  refine tm_bind (tm_meaning (u := tm_sat u (nI t)) rfl hst hy hb) (fun v hv => ?_)
  rw [hm] at hv
  refine tm_bind (tm_nextState hv m10) (fun w hw => ?_)
  have := tm_ns3 m
  rw [hn] at hw this
  refine tm_and (tm_in rfl ht) ?_
  refine tm_nm (upd (tm_g20 u) t (nI n)) (tm_up rfl (tm_b8 hw)) ?_
  refine tm_eq m 1 hv rfl h1 (fun n1 => ?_)
  refine tm_eq m 2 hv rfl h2 (fun n2 => ?_)
  refine tm_eq m 4 hv rfl (fun e => ?_) (fun n4 => ?_)
  · refine tm_and (tm_in rfl ht) ?_
    refine tm_nm (upd (tm_g21 u) t (nI 0)) (tm_up rfl rfl) ?_
    refine tm_and (tm_in rfl ht) ?_
    refine tm_nm (upd (tm_g22 u) t (nI 1)) (tm_up rfl rfl) ?_
    have e4 : nI t * 4 = nI (4 * t) := tm_ml (b := 4) rfl rfl (by omega)
    refine tm_and (tm_in e4 (by omega)) ?_
    refine tm_nm (upd (tm_g23 u) (4 * t) (nI 0)) (tm_up e4 rfl) ?_
    exact tm_ret (h4 e)
  refine tm_eq m 6 hv rfl (fun e => ?_) (fun n6 => ?_)
  · refine tm_and (tm_in rfl ht) ?_
    refine tm_nm (upd (tm_g21 u) t (nI 1)) (tm_up rfl rfl) ?_
    exact tm_ret (h6 e)
  refine tm_eq m 7 hv rfl h7 (fun n7 => ?_)
  refine tm_eq m 8 hv rfl h8 (fun n8 => ?_)
  refine tm_eq m 5 hv rfl h5 (fun n5 => ?_)
  refine tm_eq m 9 hv rfl h9 (fun n9 => ?_)
  exact tm_ret (h0 (by omega))
end
section
theorem tm_mf1 : ∀ st, st < 4 → ∀ b, b < 128 → tm_mn st b = 1 → 32 ≤ b ∧ b ≤ 126 := by decide +kernel
theorem tm_mf2 : ∀ st, st < 4 → ∀ b, b < 128 → (tm_mn st b = 6 ∨ tm_mn st b = 7 ∨ tm_mn st b = 8) → 2 ≤ st := by decide +kernel
theorem tm_mf3 : ∀ st, st < 4 → ∀ b, b < 128 → tm_mn st b = 7 → 48 ≤ b ∧ b ≤ 57 := by decide +kernel
theorem tm_mf4 : ∀ st, st < 4 → tm_mn st 27 = 3 := by decide +kernel
theorem tm_or4 {t n : Nat} {u : St1} (hT : tm_TI t u) (hG : tm_G u) (hn : n ≤ 3) : tm_Ok t u (tm_r4 t n u) := by
  obtain ⟨hc, hs, h4, h5, h6, h7, h89, h10, h11, h12, h13, h14, h15, h16, h17, hab, h20, h22, hst, h23⟩ := hT
  refine ⟨rfl, ⟨hc, hs, h4, h5, h6, h7, h89, h10, h11, h12, h13, h14, h15, h16, h17, hab, ⟨n, hn, pk_us⟩, ⟨1, by omega, pk_us⟩, Or.inr (Or.inr ?_), fun i hi => ?_⟩, hG, ⟨fun _ _ => ⟨rfl, rfl⟩, fun _ _ => rfl, fun k hk => ?_, fun i hi => pk_un (by omega)⟩, Int32.le_refl _⟩
  · show ¬ upd (tm_g22 u) t (nI 1) t = nI 0
    rw [pk_us]; decide
  · show tm_bd (upd (tm_g23 u) (4 * t) (nI 0) (4 * t + i)) 99
    by_cases z : i = 0
    · rw [z]; exact ⟨0, by omega, pk_us⟩
    · rw [pk_un (by omega)]; exact h23 i hi
  · exact ⟨rfl, rfl, rfl, rfl, rfl, rfl, rfl, rfl, rfl, rfl, rfl, rfl, rfl, rfl, rfl, rfl, pk_un hk, pk_un hk, pk_un hk⟩
theorem tm_nsC : ∀ m, m < 11 → m ≠ 4 → tm_ns m = 0 ∨ tm_ns m = 1 ∨ (tm_ns m = 3 ∧ (m = 6 ∨ m = 7 ∨ m = 8)) := by decide +kernel
theorem tm_oad {t n a : Nat} {u0 w : St1} (q : tm_Ok t u0 w) (hn : 1 ≤ n) (ha : a ≤ 99) : tm_Ok t u0 (tm_s23 w (if n ≤ 4 then upd (tm_g23 w) (4 * t + (n - 1)) (nI a) else tm_g23 w)) := by
  by_cases c : n ≤ 4
  · rw [if_pos c]
    exact tm_o23 q (by omega) ⟨a, ha, rfl⟩
  · rw [if_neg c]
    exact q
theorem tm_onn {t n : Nat} {u0 w : St1} (q : tm_Ok t u0 w) : tm_Ok t u0 (tm_s22 (tm_s23 w (if n < 4 then upd (tm_g23 w) (4 * t + n) (nI 0) else tm_g23 w)) (upd (tm_g22 w) t (nI (min (n + 1) 5)))) := by
  have nz : ¬ nI (min (n + 1) 5) = nI 0 := fun z => by
    have := (nI_eq (by omega) (by omega)).mp z
    omega
  have q1 : tm_Ok t u0 (tm_s23 w (if n < 4 then upd (tm_g23 w) (4 * t + n) (nI 0) else tm_g23 w)) := by
    by_cases c : n < 4
    · rw [if_pos c]
      exact tm_o23 q c ⟨0, by omega, rfl⟩
    · rw [if_neg c]
      exact q
  exact tm_o22 q1 ⟨_, by omega, rfl⟩ nz
theorem tm_or1 {t m : Nat} {u : St1} (hT : tm_TI t u) (hG : tm_G u) (hm : m < 11) (n4 : m ≠ 4) (hz : (m = 6 ∨ m = 7 ∨ m = 8) → ¬ tm_g22 u t = nI 0) : tm_Ok t u (tm_r1 t (tm_ns m) u) := by
  obtain ⟨hc, hs, h4, h5, h6, h7, h89, h10, h11, h12, h13, h14, h15, h16, h17, hab, h20, h22, hst, h23⟩ := hT
  refine ⟨rfl, ⟨hc, hs, h4, h5, h6, h7, h89, h10, h11, h12, h13, h14, h15, h16, h17, hab, ⟨tm_ns m, tm_ns3 m, pk_us⟩, h22, ?_, h23⟩, hG, ⟨fun _ _ => ⟨rfl, rfl⟩, fun _ _ => rfl, fun k hk => ?_, fun i hi => rfl⟩, Int32.le_refl _⟩
  · show upd (tm_g20 u) t (nI (tm_ns m)) t = nI 0 ∨ upd (tm_g20 u) t (nI (tm_ns m)) t = nI 1 ∨ ¬ tm_g22 u t = nI 0
    rw [pk_us]
    rcases tm_nsC m hm n4 with z | z | z
    · exact Or.inl (by rw [z])
    · exact Or.inr (Or.inl (by rw [z]))
    · exact Or.inr (Or.inr (hz z.2))
  · exact ⟨rfl, rfl, rfl, rfl, rfl, rfl, rfl, rfl, rfl, rfl, rfl, rfl, rfl, rfl, rfl, rfl, pk_un hk, rfl, rfl⟩
theorem tm_or6 {t m : Nat} {u : St1} (q : tm_Ok t u (tm_r1 t (tm_ns m) u)) : tm_Ok t u (tm_r6 t (tm_ns m) u) := by
  have g : tm_r6 t (tm_ns m) u = tm_s21 (tm_r1 t (tm_ns m) u) (upd (tm_g21 (tm_r1 t (tm_ns m) u)) t (nI 1)) := rfl
  rw [g]
  exact tm_o21 q
def tm_Rq (b : Nat) (u u' : St1) : Prop := tm_Oq 0 b u u' ∧ (b = 27 → tm_g20 u' 0 = nI 1) ∧ (b = 99 → tm_g20 u 0 = nI 1 → ∃ v, tm_Cl 0 v u')
theorem tm_Rq1 {b m st : Nat} {u u' : St1} (h : tm_Ok 0 u u') (est : tm_g20 u 0 = nI st) (hst : st ≤ 3) (hM : tm_mn st b = m) (n3 : m ≠ 3) (n5 : m ≠ 5) : tm_Rq b u u' := by
  refine ⟨Or.inl h, fun e => ?_, fun e1 e2 => ?_⟩
  · rw [e, tm_mf4 st (by omega)] at hM
    exact absurd hM.symm n3
  · rw [est] at e2
    have e3 := (nI_eq (by omega) (by omega)).mp e2
    rw [e1, e3] at hM
    exact absurd hM.symm n5
theorem tm_readF {b : Nat} {u : St1} {x y : Int32} (hT : tm_TI 0 u) (hG : tm_G u) (hx : x = nI 0) (hy : y = nI b) (hb : b < 128) : tm_R (tm_Rq b u) (fun post => wpX_read post u x y) := by
  have hT' := hT
  obtain ⟨_, _, _, _, _, _, _, _, _, _, _, _, _, _, _, _, h20, h22, hst, h23⟩ := hT'
  obtain ⟨st, hst3, est⟩ := h20
  obtain ⟨n, hn, en⟩ := h22
  obtain ⟨m, hM⟩ : ∃ m, tm_mn st b = m := ⟨_, rfl⟩
  have m11 : m < 11 := by have := tm_mn10 st b; omega
  have mst : (m = 6 ∨ m = 7 ∨ m = 8) → ¬ tm_g22 u 0 = nI 0 := by
    intro e
    have h2 : 2 ≤ st := tm_mf2 st (by omega) b hb (by rw [hM]; exact e)
    rcases hst with z | z | z
    · rw [est] at z; have := (nI_eq (by omega) (by omega)).mp z; omega
    · rw [est] at z; have := (nI_eq (by omega) (by omega)).mp z; omega
    · exact z
  have o1 : m ≠ 4 → tm_Ok 0 u (tm_r1 0 (tm_ns m) u) := fun n4 => tm_or1 hT hG m11 n4 mst
  have hn0 : (m = 7 ∨ m = 8) → 1 ≤ n := by
    intro e
    have := mst (by omega)
    rw [en] at this
    by_cases c : n = 0
    · rw [c] at this; exact absurd rfl this
    · omega
  clear hst
  refine tm_read (by omega) hx est hst3 hy hb hM rfl (fun e => ?_) (fun e => ?_) (fun e => ?_) (fun e => ?_) (fun e => ?_) (fun e => ?_) (fun e => ?_) (fun e => ?_) (fun e => ?_)
  · have g := tm_mf1 st (by omega) b hb (by rw [hM]; exact e)
    exact tm_imp (tm_putSign (o1 (by omega)) (by omega) hy g.1 g.2) (fun u' hu => tm_Rq1 hu est hst3 hM (by omega) (by omega))
  · exact tm_imp (tm_control (o1 (by omega)) (by omega) hy hb) (fun u' hu => tm_Rq1 hu est hst3 hM (by omega) (by omega))
  · exact tm_Rq1 (tm_or4 hT hG (tm_ns3 m)) est hst3 hM (by omega) (by omega)
  · exact tm_Rq1 (tm_or6 (o1 (by omega))) est hst3 hM (by omega) (by omega)
  · have g := tm_mf3 st (by omega) b hb (by rw [hM]; exact e)
    obtain ⟨d, hd, ed⟩ : tm_bd (tm_g23 u (4 * 0 + (if n ≤ 4 then n - 1 else 0))) 99 := h23 _ (by split <;> omega)
    have q := o1 (by omega)
    have n1 := hn0 (Or.inl e)
    refine tm_imp (tm_addDigit (u := tm_r1 0 (tm_ns m) u) (n := d) (g := b - 48) (m := n) (by omega) q.1 en n1 hn (tm_su (b := 48) hy rfl (by omega) rfl) (by omega) (fun z => by rw [if_pos z] at ed; exact ed) hd) (fun u' hu => tm_Rq1 ?_ est hst3 hM (by omega) (by omega))
    rw [hu]
    exact tm_oad q n1 (by omega)
  · have q := o1 (by omega)
    refine tm_imp (tm_nextNumber (u := tm_r1 0 (tm_ns m) u) (m := n) (by omega) q.1 en hn) (fun u' hu => tm_Rq1 ?_ est hst3 hM (by omega) (by omega))
    rw [hu]
    exact tm_onn q
  · refine tm_imp (tm_shortSequence (o1 (by omega)) (by omega) hy hb) (fun u' hu => ⟨hu.1, fun e1 => ?_, fun e1 e2 => ?_⟩)
    · rw [e1, tm_mf4 st (by omega)] at hM
      omega
    · obtain ⟨v, _, hv⟩ := hu.2 e1
      exact ⟨v, hv⟩
  · exact tm_imp (tm_lastByte (o1 (by omega)) (by omega) hy hb) (fun u' hu => tm_Rq1 hu est hst3 hM (by omega) (by omega))
  · refine ⟨Or.inl (o1 (by omega)), fun e1 => ?_, fun e1 e2 => ?_⟩
    · have m3 : m = 3 := by rw [← hM, e1]; exact tm_mf4 st (by omega)
      rw [m3]
      show upd (tm_g20 u) 0 (nI (tm_ns 3)) 0 = nI 1
      rw [pk_us]; rfl
    · rw [est] at e2
      have e3 := (nI_eq (by omega) (by omega)).mp e2
      rw [e1, e3] at hM
      have : tm_mn 1 99 = 5 := rfl
      omega
end
section
/-- the terminal that shows: well, its parser plain, no insert mode -/
def tm_H (u : St1) : Prop := tm_TI 1 u ∧ tm_G u ∧ tm_g20 u 1 = nI 0 ∧ tm_g10 u 1 = nI 0
def tm_Sh (u u' : St1) : Prop := tm_H u' ∧ tm_Fr 1 u u'
theorem tm_Sht {u v w : St1} (h : tm_Sh u v) (h' : tm_Sh v w) : tm_Sh u w := ⟨h'.1, tm_Frt h.2 h'.2⟩
theorem tm_Sh0 {u : St1} (h : tm_H u) : tm_Sh u u := ⟨h, tm_Fr0 1 u⟩
theorem tm_ShO {u u' : St1} (h : tm_Ok 1 u u') (h1 : tm_g20 u' 1 = nI 0) (h2 : tm_g10 u' 1 = nI 0) : tm_Sh u u' := ⟨⟨h.2.1, h.2.2.1, h1, h2⟩, h.2.2.2.1⟩
def tm_sp (u : St1) (A B C D : Nat → Int32) : St1 := (nI 1, u.2.1, u.2.2.1, u.2.2.2.1, u.2.2.2.2.1, u.2.2.2.2.2.1, u.2.2.2.2.2.2.1, u.2.2.2.2.2.2.2.1, u.2.2.2.2.2.2.2.2.1, u.2.2.2.2.2.2.2.2.2.1, u.2.2.2.2.2.2.2.2.2.2.1, u.2.2.2.2.2.2.2.2.2.2.2.1, u.2.2.2.2.2.2.2.2.2.2.2.2.1, u.2.2.2.2.2.2.2.2.2.2.2.2.2.1, u.2.2.2.2.2.2.2.2.2.2.2.2.2.2.1, u.2.2.2.2.2.2.2.2.2.2.2.2.2.2.2.1, u.2.2.2.2.2.2.2.2.2.2.2.2.2.2.2.2.1, u.2.2.2.2.2.2.2.2.2.2.2.2.2.2.2.2.2.1, u.2.2.2.2.2.2.2.2.2.2.2.2.2.2.2.2.2.2.1, u.2.2.2.2.2.2.2.2.2.2.2.2.2.2.2.2.2.2.2.1, u.2.2.2.2.2.2.2.2.2.2.2.2.2.2.2.2.2.2.2.2.1, u.2.2.2.2.2.2.2.2.2.2.2.2.2.2.2.2.2.2.2.2.2.1, A, B, C, D, u.2.2.2.2.2.2.2.2.2.2.2.2.2.2.2.2.2.2.2.2.2.2.2.2.2.2)
/-- behind ESC [: n numbers f read so far -/
def tm_Ps (u v : St1) (n : Nat) (f : Nat → Nat) : Prop := ∃ A B C D, v = tm_sp u A B C D ∧ (A 1 = nI 2 ∨ A 1 = nI 3) ∧ B 1 = nI 0 ∧ C 1 = nI n ∧ 1 ≤ n ∧ n ≤ 4 ∧ (∀ i, i < 4 → f i ≤ 99 ∧ D (4 + i) = nI (f i)) ∧ (∀ k, k ≠ 1 → A k = tm_g20 u k ∧ B k = tm_g21 u k ∧ C k = tm_g22 u k) ∧ (∀ i, (i < 4 ∨ 8 ≤ i) → D i = tm_g23 u i)
theorem tm_send27 {u : St1} {x : Int32} (hT : tm_TI 1 u) (hx : x = nI 27) : tm_R (fun v => v = tm_r1 1 1 u) (fun post => wpX_send post u x) := by
  obtain ⟨hc, hs, h4, h5, h6, h7, h89, h10, h11, h12, h13, h14, h15, h16, h17, hab, h20, h22, hst, h23⟩ := hT
  obtain ⟨st, hst3, est⟩ := h20
  unfold wpX_send
  exact tm_read (t := 1) (m := 3) (n := 1) (u := u) (by omega) rfl est hst3 hx (by omega) (tm_mf4 st (by omega)) rfl (by omega) (by omega) (by omega) (by omega) (by omega) (by omega) (by omega) (by omega) (fun _ => rfl)
theorem tm_send91 {u v : St1} {x : Int32} (hT : tm_TI 1 u) (hv : v = tm_r1 1 1 u) (hx : x = nI 91) : tm_R (fun w => ∃ f, f 0 = 0 ∧ tm_Ps u w 1 f) (fun post => wpX_send post v x) := by
  subst hv
  obtain ⟨hc, hs, h4, h5, h6, h7, h89, h10, h11, h12, h13, h14, h15, h16, h17, hab, h20, h22, hst, h23⟩ := hT
  unfold wpX_send
  refine tm_read (t := 1) (m := 4) (n := 2) (st := 1) (u := tm_r1 1 1 u) (by omega) rfl rfl (by omega) hx (by omega) rfl rfl (by omega) (by omega) (fun _ => ?_) (by omega) (by omega) (by omega) (by omega) (by omega) (by omega)
  obtain ⟨f1, hf1, ef1⟩ := h23 1 (by omega)
  obtain ⟨f2, hf2, ef2⟩ := h23 2 (by omega)
  obtain ⟨f3, hf3, ef3⟩ := h23 3 (by omega)
  refine ⟨fun i => if i = 0 then 0 else if i = 1 then f1 else if i = 2 then f2 else f3, rfl, upd (upd (tm_g20 u) 1 (nI 1)) 1 (nI 2), upd (tm_g21 u) 1 (nI 0), upd (tm_g22 u) 1 (nI 1), upd (tm_g23 u) 4 (nI 0), rfl, Or.inl pk_us, pk_us, pk_us, by omega, by omega, fun i hi => ?_, fun k hk => ⟨?_, pk_un hk, pk_un hk⟩, fun i hi => pk_un (by omega)⟩
  · have e : i = 0 ∨ i = 1 ∨ i = 2 ∨ i = 3 := by omega
    rcases e with e | e | e | e <;> subst e
    · exact ⟨Nat.zero_le _, pk_us⟩
    · exact ⟨hf1, (pk_un (by omega)).trans ef1⟩
    · exact ⟨hf2, (pk_un (by omega)).trans ef2⟩
    · exact ⟨hf3, (pk_un (by omega)).trans ef3⟩
  · rw [pk_un hk, pk_un hk]
theorem tm_sendDigit {u v : St1} {n d : Nat} {f : Nat → Nat} {x : Int32} (h : tm_Ps u v n f) (hd : d ≤ 9) (hx : x = nI (48 + d)) : tm_R (fun w => tm_Ps u w n (fun i => if i = n - 1 then min (10 * f (n - 1) + d) 99 else f i)) (fun post => wpX_send post v x) := by
  obtain ⟨A, B, C, D, e, hA, hB, hC, hn1, hn4, hf, hk, hD⟩ := h
  subst e
  have main : ∀ st, A 1 = nI st → st ≤ 3 → tm_mn st (48 + d) = 7 → tm_R (fun w => tm_Ps u w n (fun i => if i = n - 1 then min (10 * f (n - 1) + d) 99 else f i)) (fun post => wpX_send post (tm_sp u A B C D) x) := by
    intro st est hst3 hm
    unfold wpX_send
    refine tm_read (t := 1) (m := 7) (n := 3) (u := tm_sp u A B C D) (by omega) rfl est hst3 hx (by omega) hm rfl (by omega) (by omega) (by omega) (by omega) (fun _ => ?_) (by omega) (by omega) (by omega) (by omega)
    refine tm_imp (tm_addDigit (u := tm_r1 1 3 (tm_sp u A B C D)) (t := 1) (m := n) (n := f (n - 1)) (g := d) (by omega) rfl hC hn1 (by omega) (tm_su (b := 48) hx rfl (by omega) (by omega)) hd (fun _ => (hf (n - 1) (by omega)).2) (hf (n - 1) (by omega)).1) (fun w hw => ?_)
    rw [hw, if_pos hn4]
    refine ⟨upd A 1 (nI 3), B, C, upd D (4 * 1 + (n - 1)) (nI (min (10 * f (n - 1) + d) 99)), rfl, Or.inr pk_us, hB, hC, hn1, hn4, fun i hi => ?_, fun k hk' => ⟨(pk_un hk').trans (hk k hk').1, (hk k hk').2⟩, fun i hi => (pk_un (by omega)).trans (hD i hi)⟩
    dsimp only
    by_cases c : i = n - 1
    · rw [if_pos c, c]
      exact ⟨by omega, pk_us⟩
    · rw [if_neg c]
      exact ⟨(hf i hi).1, (pk_un (by omega)).trans (hf i hi).2⟩
  have hd' : d = 0 ∨ d = 1 ∨ d = 2 ∨ d = 3 ∨ d = 4 ∨ d = 5 ∨ d = 6 ∨ d = 7 ∨ d = 8 ∨ d = 9 := by omega
  rcases hA with a | a
  · exact main 2 a (by omega) (by rcases hd' with e | e | e | e | e | e | e | e | e | e <;> subst e <;> rfl)
  · exact main 3 a (by omega) (by rcases hd' with e | e | e | e | e | e | e | e | e | e <;> subst e <;> rfl)
theorem tm_sendNumber {u v : St1} {n m : Nat} {f : Nat → Nat} {x : Int32} (h : tm_Ps u v n f) (h0 : f (n - 1) = 0) (hm : m ≤ 99) (hx : x = nI m) : tm_R (fun w => tm_Ps u w n (fun i => if i = n - 1 then m else f i)) (fun post => wpX_sendNumber post v x) := by
  have e1 : x - x / 10 * 10 = nI (m % 10) := by rw [hx]; exact pk_rem (d := 10) (by omega) (by omega) (by omega)
  have e2 : x / 10 = nI (m / 10) := by rw [hx]; exact pk_div (d := 10) (by omega) (by omega) (by omega)
  refine tm_lt m 10 hx rfl (fun h10 => ?_) (fun h10 => ?_)
  · refine tm_and (by decide) ?_
    have g := tm_sendDigit (x := 48 + (x - x / 10 * 10)) h (d := m % 10) (by omega) (tm_ad (a := 48) rfl e1 rfl)
    rw [h0, show min (10 * 0 + m % 10) 99 = m by omega] at g
    exact g
  · refine tm_and (by decide) ?_
    refine tm_bind (tm_sendDigit h (d := m / 10) (by omega) (tm_ad (a := 48) rfl e2 rfl)) (fun w hw => ?_)
    refine tm_and (by decide) ?_
    have g := tm_sendDigit (x := 48 + (x - x / 10 * 10)) hw (d := m % 10) (by omega) (tm_ad (a := 48) rfl e1 rfl)
    rw [if_pos rfl, h0, show min (10 * min (10 * 0 + m / 10) 99 + m % 10) 99 = m by omega] at g
    refine tm_imp g (fun w' hw' => ?_)
    have ef : (fun i => if i = n - 1 then m else if i = n - 1 then min (10 * 0 + m / 10) 99 else f i) = (fun i => if i = n - 1 then m else f i) := by
      funext i
      by_cases c : i = n - 1
      · rw [if_pos c, if_pos c]
      · rw [if_neg c, if_neg c, if_neg c]
    rw [ef] at hw'
    exact hw'
theorem tm_send59 {u v : St1} {n : Nat} {f : Nat → Nat} {x : Int32} (h : tm_Ps u v n f) (hn : n ≤ 3) (hx : x = nI 59) : tm_R (fun w => tm_Ps u w (n + 1) (fun i => if i = n then 0 else f i)) (fun post => wpX_send post v x) := by
  obtain ⟨A, B, C, D, e, hA, hB, hC, hn1, hn4, hf, hk, hD⟩ := h
  subst e
  have main : ∀ st, A 1 = nI st → st ≤ 3 → tm_mn st 59 = 8 → tm_R (fun w => tm_Ps u w (n + 1) (fun i => if i = n then 0 else f i)) (fun post => wpX_send post (tm_sp u A B C D) x) := by
    intro st est hst3 hm
    unfold wpX_send
    refine tm_read (t := 1) (m := 8) (n := 3) (u := tm_sp u A B C D) (by omega) rfl est hst3 hx (by omega) hm rfl (by omega) (by omega) (by omega) (by omega) (by omega) (fun _ => ?_) (by omega) (by omega) (by omega)
    refine tm_imp (tm_nextNumber (u := tm_r1 1 3 (tm_sp u A B C D)) (t := 1) (m := n) (by omega) rfl hC (by omega)) (fun w hw => ?_)
    rw [hw, if_pos (by omega), show min (n + 1) 5 = n + 1 by omega]
    refine ⟨upd A 1 (nI 3), B, upd C 1 (nI (n + 1)), upd D (4 * 1 + n) (nI 0), rfl, Or.inr pk_us, hB, pk_us, by omega, by omega, fun i hi => ?_, fun k hk' => ⟨(pk_un hk').trans (hk k hk').1, (hk k hk').2.1, (pk_un hk').trans (hk k hk').2.2⟩, fun i hi => (pk_un (by omega)).trans (hD i hi)⟩
    dsimp only
    by_cases c : i = n
    · rw [if_pos c, c]
      exact ⟨by omega, pk_us⟩
    · rw [if_neg c]
      exact ⟨(hf i hi).1, (pk_un (by omega)).trans (hf i hi).2⟩
  rcases hA with a | a
  · exact main 2 a (by omega) rfl
  · exact main 3 a (by omega) rfl
/-- a last byte: the terminal behind the parser, its numbers read -/
def tm_Lw (u w : St1) (n : Nat) (f : Nat → Nat) : Prop := tm_Ok 1 u w ∧ tm_g20 w 1 = nI 0 ∧ tm_g21 w 1 = nI 0 ∧ tm_g22 w 1 = nI n ∧ 1 ≤ n ∧ n ≤ 4 ∧ (∀ i, i < 4 → f i ≤ 99 ∧ tm_g23 w (4 * 1 + i) = nI (f i)) ∧ ∃ A B C D, w = tm_sp u A B C D
theorem tm_sendLast {u v : St1} {n b : Nat} {f : Nat → Nat} {x : Int32} {P : St1 → Prop} (hT : tm_TI 1 u) (hG : tm_G u) (h : tm_Ps u v n f) (hx : x = nI b) (hb : b < 128) (h2 : tm_mn 2 b = 9) (h3 : tm_mn 3 b = 9) (hP : ∀ w, tm_Lw u w n f → tm_R P (fun post => wpX_lastByte post w x)) : tm_R P (fun post => wpX_send post v x) := by
  have o := tm_ob hT hG
  obtain ⟨A, B, C, D, e, hA, hB, hC, hn1, hn4, hf, hk, hD⟩ := h
  subst e
  have main : ∀ st, A 1 = nI st → st ≤ 3 → tm_mn st b = 9 → tm_R P (fun post => wpX_send post (tm_sp u A B C D) x) := by
    intro st est hst3 hm
    unfold wpX_send
    refine tm_read (t := 1) (m := 9) (n := 0) (u := tm_sp u A B C D) (by omega) rfl est hst3 hx hb hm rfl (by omega) (by omega) (by omega) (by omega) (by omega) (by omega) (by omega) (fun _ => ?_) (by omega)
    refine hP _ ⟨?_, rfl, hB, hC, hn1, hn4, hf, upd A 1 (nI 0), B, C, D, rfl⟩
    obtain ⟨ha, ⟨hc, hs, h4, h5, h6, h7, h89, h10, h11, h12, h13, h14, h15, h16, h17, hab, h20, h22, hst, h23⟩, hg, ⟨f1, f2, f3, f4⟩, hm⟩ := o
    refine ⟨rfl, ⟨hc, hs, h4, h5, h6, h7, h89, h10, h11, h12, h13, h14, h15, h16, h17, hab, ⟨0, by omega, rfl⟩, ⟨n, by omega, hC⟩, Or.inl rfl, fun i hi => ⟨f i, (hf i hi).1, (hf i hi).2⟩⟩, hg, ⟨f1, f2, fun k hk' => ?_, fun i hi => hD i (by omega)⟩, hm⟩
    exact ⟨rfl, rfl, rfl, rfl, rfl, rfl, rfl, rfl, rfl, rfl, rfl, rfl, rfl, rfl, rfl, rfl, (pk_un hk').trans (hk k hk').1, (hk k hk').2.1, (hk k hk').2.2⟩
  rcases hA with a | a
  · exact main 2 a (by omega) h2
  · exact main 3 a (by omega) h3
theorem tm_sendOne {u : St1} {n b : Nat} {x y : Int32} {P : St1 → Prop} (hT : tm_TI 1 u) (hG : tm_G u) (hn : 1 ≤ n) (hn1 : n ≤ 99) (hx : x = nI n) (hy : y = nI b) (hb : b < 128) (h2 : tm_mn 2 b = 9) (h3 : tm_mn 3 b = 9) (hP : ∀ w f, f 0 = (if n = 1 then 0 else n) → tm_Lw u w 1 f → tm_R P (fun post => wpX_lastByte post w y)) : tm_R P (fun post => wpX_sendOne post u x y) := by
  unfold wpX_sendOne
  refine tm_bind (tm_send27 hT rfl) (fun v hv => ?_)
  refine tm_bind (tm_send91 hT hv rfl) (fun w hw => ?_)
  obtain ⟨f, hf, hps⟩ := hw
  refine tm_eq n 1 hx rfl (fun e => ?_) (fun e => ?_)
  · unfold wX_sendOne_22
    exact tm_sendLast hT hG hps hy hb h2 h3 (fun w hw => hP w f (by rw [if_pos e]; exact hf) hw)
  · refine tm_bind (tm_sendNumber hps hf hn1 hx) (fun w hw => ?_)
    unfold wX_sendOne_22
    exact tm_sendLast hT hG hw hy hb h2 h3 (fun w hw => hP w _ (by rw [if_neg e]; rfl) hw)
end
section
def tm_Ce (u u' : St1) : Prop := tm_g1 u' = tm_g1 u ∧ tm_g2 u' = tm_g2 u ∧ tm_g3 u' = tm_g3 u ∧ tm_g12 u' = tm_g12 u
def tm_Zs (u u' : St1) : Prop := tm_g3 u' = tm_g3 u ∧ tm_g12 u' = tm_g12 u
theorem tm_lbk {b : Nat} {w : St1} {x : Int32} {P : St1 → Prop} (hx : x = nI b) (hb : b = 64 ∨ b = 67 ∨ b = 68 ∨ b = 72 ∨ b = 75 ∨ b = 80 ∨ b = 83 ∨ b = 84) (ha : tm_at w = nI 1) (h21 : tm_g21 w 1 = nI 0) (h : tm_R P (fun post => wX_lastByte_198 post x 1 (tm_at w) (tm_kc w) (tm_kn w) (tm_g1 w) (tm_g2 w) (tm_g3 w) (tm_g4 w) (tm_g5 w) (tm_g6 w) (tm_g7 w) (tm_g8 w) (tm_g9 w) (tm_g10 w) (tm_g11 w) (tm_g12 w) (tm_g13 w) (tm_g14 w) (tm_g15 w) (tm_g16 w) (tm_g17 w) (tm_g18 w) (tm_g19 w) (tm_g20 w) (tm_g21 w) (tm_g22 w) (tm_g23 w) (tm_g24 w))) : tm_R P (fun post => wpX_lastByte post w x) := by
  subst hx
  refine tm_and (tm_in ha (by omega)) ?_
  refine tm_t (tm_at_ ha h21) ?_
  rcases hb with e | e | e | e | e | e | e | e <;> subst e
  all_goals repeat (first | exact h | refine tm_t (by decide) ?_ | refine tm_f (by decide) ?_)
theorem tm_lbv {u w : St1} {n b : Nat} {f : Nat → Nat} {x : Int32} {P : St1 → Prop} (hl : tm_Lw u w n f) (hx : x = nI b) (hb : b = 64 ∨ b = 67 ∨ b = 68 ∨ b = 72 ∨ b = 75 ∨ b = 80 ∨ b = 83 ∨ b = 84) (h : tm_R P (fun post => wX_lastByte_232 post x (nI (f 0)) (nI (if f 0 = 0 then 1 else f 0)) (tm_at w) (tm_kc w) (tm_kn w) (tm_g1 w) (tm_g2 w) (tm_g3 w) (tm_g4 w) (tm_g5 w) (upd (tm_g6 w) 1 (nI 0)) (tm_g7 w) (tm_g8 w) (tm_g9 w) (tm_g10 w) (tm_g11 w) (tm_g12 w) (tm_g13 w) (tm_g14 w) (tm_g15 w) (tm_g16 w) (tm_g17 w) (tm_g18 w) (tm_g19 w) (tm_g20 w) (tm_g21 w) (tm_g22 w) (tm_g23 w) (tm_g24 w))) : tm_R P (fun post => wpX_lastByte post w x) := by
  obtain ⟨o, l20, l21, l22, ln1, ln4, lf, _⟩ := hl
  refine tm_lbk hx hb o.1 l21 ?_
  refine tm_f (by decide) ?_
  refine tm_and (tm_in o.1 (by omega)) ?_
  refine tm_nm (upd (tm_g6 w) 1 (nI 0)) (tm_up o.1 rfl) ?_
  refine tm_bind (tm_number (t := 1) (i := 0) (u := tm_s6 w (upd (tm_g6 w) 1 (nI 0))) (by omega) o.1 l22 (by omega) rfl (by omega) (lf 0 (by omega)).2) (fun v hv => ?_)
  rw [if_pos (by omega)] at hv
  have := (lf 0 (by omega)).1
  refine tm_eq (f 0) 0 hv rfl (fun e => ?_) (fun e => ?_)
  · rw [if_pos e] at h
    rw [hv]; exact h
  · rw [if_neg e] at h
    rw [hv]; exact h
theorem tm_w6 {u w : St1} {n : Nat} {f : Nat → Nat} (hl : tm_Lw u w n f) : tm_Ok 1 u (tm_s6 w (upd (tm_g6 w) 1 (nI 0))) := tm_o6 hl.1 (Or.inl rfl)
theorem tm_opMove {u w : St1} {n b r c N : Nat} {f : Nat → Nat} {x : Int32} (hH : tm_H u) (hl : tm_Lw u w n f) (er : tm_g4 u 1 = nI r) (hr : r ≤ 5) (ec : tm_g5 u 1 = nI c) (hc : c ≤ 11) (hN : N = if f 0 = 0 then 1 else f 0) (hx : x = nI b) (hb : b = 67 ∨ b = 68 ∨ b = 72) : tm_R (fun u' => tm_Sh u u' ∧ tm_Ce u u' ∧ tm_g7 u' 1 = tm_g7 u 1 ∧ tm_g6 u' 1 = nI 0 ∧ ∃ r' c', tm_g4 u' 1 = nI r' ∧ tm_g5 u' 1 = nI c' ∧ (b = 67 → r' = r ∧ c' = min (c + N) 11) ∧ (b = 68 → r' = r ∧ c' = c - N) ∧ (b = 72 → r' = min (N - 1) 5 ∧ c' = min ((if 1 < n then f 1 else 0) - 1) 11)) (fun post => wpX_lastByte post w x) := by
  refine tm_lbv hl hx (by omega) ?_
  have o6 := tm_w6 hl
  obtain ⟨o, l20, l21, l22, ln1, ln4, lf, A, B, C, D, ew⟩ := hl
  rw [← hN]
  have f99 := (lf 0 (by omega)).1
  have hN1 : 1 ≤ N ∧ N ≤ 99 := by rw [hN]; split <;> omega
  have main : tm_R (fun u' => tm_Sh u u' ∧ tm_Ce u u' ∧ tm_g7 u' 1 = tm_g7 u 1 ∧ tm_g6 u' 1 = nI 0 ∧ ∃ r' c', tm_g4 u' 1 = nI r' ∧ tm_g5 u' 1 = nI c' ∧ (b = 67 → r' = r ∧ c' = min (c + N) 11) ∧ (b = 68 → r' = r ∧ c' = c - N) ∧ (b = 72 → r' = min (N - 1) 5 ∧ c' = min ((if 1 < n then f 1 else 0) - 1) 11)) (fun post => wpX_travel post (tm_s6 w (upd (tm_g6 w) 1 (nI 0))) x (nI N)) := by
    refine tm_imp (tm_travel (t := 1) (b := b) (n := N) (r := r) (c := c) (m := n) (q := f 1) (by omega) o6.1 (by rw [ew]; exact er) hr (by rw [ew]; exact ec) hc (tm_okr o6) l22 (by omega) (lf 1 (by omega)).2 (lf 1 (by omega)).1 hx (by omega) rfl hN1.1 hN1.2) (fun u' hu => ?_)
    obtain ⟨r', c', hr', hc', e, p1, p2, p3⟩ := hu
    have oM := tm_moveToO o6 (show upd (tm_g6 w) 1 (nI 0) 1 = nI 0 from pk_us) hr' hc'
    have e' : u' = tm_s5 (tm_s4 (tm_s6 w (upd (tm_g6 w) 1 (nI 0))) (upd (tm_g4 w) 1 (nI r'))) (upd (tm_g5 w) 1 (nI c')) := e
    subst e'
    refine ⟨tm_ShO oM l20 (by rw [ew]; exact hH.2.2.2), ?_, by rw [ew]; rfl, rfl, r', c', rfl, rfl, p1, p2, p3⟩
    rw [ew]; exact ⟨rfl, rfl, rfl, rfl⟩
  subst hx
  rcases hb with e | e | e <;> subst e
  · exact tm_f (by decide) (tm_t (by decide) main)
  · exact tm_f (by decide) (tm_t (by decide) main)
  · exact tm_f (by decide) (tm_t (by decide) main)
theorem tm_opShift {u w : St1} {n b r c k s : Nat} {f : Nat → Nat} {x : Int32} (hH : tm_H u) (hl : tm_Lw u w n f) (er : tm_g4 u 1 = nI r) (hr : r ≤ 5) (ec : tm_g5 u 1 = nI c) (hc : c ≤ 11) (ek : tm_g12 u 1 = nI k) (hk : k ≤ 1) (es : tm_g3 u (12 * 1 + 6 * k + r) = nI s) (hs : s ≤ 11) (hx : x = nI b) (hb : b = 80 ∨ b = 64) : tm_R (fun u' => tm_Sh u u' ∧ tm_Zs u u' ∧ ∀ i, (i < 144 + 12 * s + c ∨ 144 + 12 * s + 12 ≤ i) → tm_g1 u' i = tm_g1 u i ∧ tm_g2 u' i = tm_g2 u i) (fun post => wpX_lastByte post w x) := by
  refine tm_lbv hl hx (by omega) ?_
  have o6 := tm_w6 hl
  obtain ⟨o, l20, l21, l22, ln1, ln4, lf, A, B, C, D, ew⟩ := hl
  have f99 := (lf 0 (by omega)).1
  have main : ∀ y, tm_R (fun u' => tm_Sh u u' ∧ tm_Zs u u' ∧ ∀ i, (i < 144 + 12 * s + c ∨ 144 + 12 * s + 12 ≤ i) → tm_g1 u' i = tm_g1 u i ∧ tm_g2 u' i = tm_g2 u i) (fun post => wpX_shiftCells post (tm_s6 w (upd (tm_g6 w) 1 (nI 0))) y (nI (if f 0 = 0 then 1 else f 0))) := by
    intro y
    refine tm_imp (tm_shiftCells (t := 1) (r := r) (c := c) (k := k) (s := s) (n := if f 0 = 0 then 1 else f 0) (p := y) (by omega) o6.1 (by rw [ew]; exact ek) hk (by omega) (by rw [ew]; exact es) hs (by rw [ew]; exact er) (by rw [ew]; exact ec) hc rfl (by split <;> omega) (by split <;> omega) o6.2.1.1) (fun u' hu => ?_)
    have oc := (tm_CcO o6 hu (by omega) (by omega)).1
    obtain ⟨s', y', e, _, hf⟩ := hu
    subst e
    refine ⟨tm_ShO oc l20 (by rw [ew]; exact hH.2.2.2), by rw [ew]; exact ⟨rfl, rfl⟩, fun i hi => ?_⟩
    have g := hf i (by omega)
    rw [ew] at g
    exact g
  subst hx
  rcases hb with e | e <;> subst e
  · exact tm_f (by decide) (tm_f (by decide) (tm_f (by decide) (tm_f (by decide) (tm_f (by decide) (tm_f (by decide) (tm_f (by decide) (tm_t (by decide) (tm_f (by decide) (main 0)))))))))
  · exact tm_t (by decide) (tm_f (by decide) (tm_f (by decide) (tm_f (by decide) (tm_f (by decide) (tm_t (by decide) (tm_t (by decide) (main 1)))))))
theorem tm_opErase {u w : St1} {n r c k s : Nat} {f : Nat → Nat} {x : Int32} (hH : tm_H u) (hl : tm_Lw u w n f) (f0 : f 0 = 0) (er : tm_g4 u 1 = nI r) (hr : r ≤ 5) (ec : tm_g5 u 1 = nI c) (hc : c ≤ 11) (ek : tm_g12 u 1 = nI k) (hk : k ≤ 1) (es : tm_g3 u (12 * 1 + 6 * k + r) = nI s) (hs : s ≤ 11) (hx : x = nI 75) : tm_R (fun u' => tm_Sh u u' ∧ tm_Zs u u' ∧ tm_g1 u' = tm_fl (tm_g1 u) (144 + 12 * s + c) (144 + 12 * s + 12) (nI 32) ∧ tm_g2 u' = tm_fl (tm_g2 u) (144 + 12 * s + c) (144 + 12 * s + 12) (nI 0)) (fun post => wpX_lastByte post w x) := by
  refine tm_lbv hl hx (by omega) ?_
  have o6 := tm_w6 hl
  obtain ⟨o, l20, l21, l22, ln1, ln4, lf, A, B, C, D, ew⟩ := hl
  subst hx
  refine tm_f (by decide) (tm_f (by decide) (tm_f (by decide) (tm_f (by decide) (tm_t (by decide) ?_))))
  refine tm_imp (tm_erase75 (t := 1) (r := r) (c := c) (k := k) (s := s) (u := tm_s6 w (upd (tm_g6 w) 1 (nI 0))) (by omega) o6.1 (by rw [ew]; exact ek) hk (by omega) (by rw [ew]; exact es) hs (by rw [ew]; exact er) (by rw [ew]; exact ec) hc rfl (by rw [f0])) (fun u' hu => ?_)
  have oc := (tm_CcO (a := 144 * 1) (b := 144 * 1 + 144) o6 ⟨_, _, hu, tm_celF o6.2.1.1, fun i hi => ⟨tm_fl_out (by omega), tm_fl_out (by omega)⟩⟩ (by omega) (by omega)).1
  subst hu
  refine ⟨tm_ShO oc l20 (by rw [ew]; exact hH.2.2.2), by rw [ew]; exact ⟨rfl, rfl⟩, ?_, ?_⟩
  · rw [ew]; rfl
  · rw [ew]; rfl
theorem tm_opScroll {u w : St1} {n b : Nat} {f : Nat → Nat} {x : Int32} (hH : tm_H u) (hl : tm_Lw u w n f) (hx : x = nI b) (hb : b = 83 ∨ b = 84) : tm_R (tm_Sh u) (fun post => wpX_lastByte post w x) := by
  refine tm_lbv hl hx (by omega) ?_
  have o6 := tm_w6 hl
  obtain ⟨o, l20, l21, l22, ln1, ln4, lf, A, B, C, D, ew⟩ := hl
  have f99 := (lf 0 (by omega)).1
  have fin : ∀ u', tm_Ok 1 u u' ∧ tm_Sc (tm_s6 w (upd (tm_g6 w) 1 (nI 0))) u' → tm_Sh u u' := by
    intro u' hu
    obtain ⟨_, _, _, _, _, _, e⟩ := hu.2
    exact tm_ShO hu.1 (by rw [e]; exact l20) (by rw [e, ew]; exact hH.2.2.2)
  subst hx
  rcases hb with e | e <;> subst e
  · refine tm_f (by decide) (tm_f (by decide) (tm_f (by decide) (tm_f (by decide) (tm_f (by decide) (tm_f (by decide) (tm_f (by decide) (tm_f (by decide) (tm_f (by decide) (tm_f (by decide) (tm_t (by decide) ?_))))))))))
    exact tm_imp (tm_scrollUp (n := if f 0 = 0 then 1 else f 0) o6 (by omega) rfl (by split <;> omega)) fin
  · refine tm_f (by decide) (tm_f (by decide) (tm_f (by decide) (tm_f (by decide) (tm_f (by decide) (tm_f (by decide) (tm_f (by decide) (tm_f (by decide) (tm_f (by decide) (tm_f (by decide) (tm_f (by decide) (tm_t (by decide) ?_)))))))))))
    exact tm_imp (tm_scrollDown (n := if f 0 = 0 then 1 else f 0) o6 (by omega) rfl (by split <;> omega)) fin
theorem tm_opPen {u w : St1} {n p : Nat} {f : Nat → Nat} {x : Int32} (hH : tm_H u) (hl : tm_Lw u w n f) (ep : tm_g7 u 1 = nI p) (hp : p < 8) (hx : x = nI 109) : tm_R (fun u' => tm_Sh u u' ∧ tm_Ce u u' ∧ tm_g4 u' 1 = tm_g4 u 1 ∧ tm_g5 u' 1 = tm_g5 u 1 ∧ tm_g6 u' 1 = tm_g6 u 1 ∧ tm_g7 u' 1 = nI (tm_pw f 0 n p)) (fun post => wpX_lastByte post w x) := by
  obtain ⟨o, l20, l21, l22, ln1, ln4, lf, A, B, C, D, ew⟩ := hl
  subst hx
  refine tm_and (tm_in o.1 (by omega)) ?_
  refine tm_t (tm_at_ o.1 l21) ?_
  refine tm_t (by decide) ?_
  refine tm_imp (tm_changePen (t := 1) (by omega) o.1 l22 (by omega) lf (by rw [ew]; exact ep) hp) (fun u' hu => ?_)
  rw [show min n 4 = n by omega] at hu
  have o7 : tm_Ok 1 u (tm_s7 w (upd (tm_g7 w) 1 (nI (tm_pw f 0 n p)))) := tm_o7 o ⟨_, by have := tm_pw8 f n 0 p hp; omega, rfl⟩
  subst hu
  refine ⟨tm_ShO o7 l20 (by rw [ew]; exact hH.2.2.2), by rw [ew]; exact ⟨rfl, rfl, rfl, rfl⟩, by rw [ew]; rfl, by rw [ew]; rfl, by rw [ew]; rfl, rfl⟩
theorem tm_send13 {u : St1} {x : Int32} (hH : tm_H u) (hx : x = nI 13) : tm_R (fun u' => tm_Sh u u' ∧ tm_Ce u u' ∧ tm_g7 u' 1 = tm_g7 u 1 ∧ tm_g4 u' 1 = tm_g4 u 1 ∧ tm_g5 u' 1 = nI 0 ∧ tm_g6 u' 1 = nI 0) (fun post => wpX_send post u x) := by
  obtain ⟨hT, hG, s20, s10⟩ := hH
  have o := tm_ob hT hG
  have o1 : tm_Ok 1 u (tm_r1 1 0 u) := tm_or1 (m := 0) hT hG (by omega) (by omega) (by omega)
  subst hx
  unfold wpX_send
  refine tm_read (t := 1) (m := 2) (n := 0) (st := 0) (u := u) (by omega) rfl s20 (by omega) rfl (by omega) rfl rfl (by omega) (fun _ => ?_) (by omega) (by omega) (by omega) (by omega) (by omega) (by omega) (by omega)
  refine tm_f (by decide) (tm_f (by decide) ?_)
  refine tm_and (tm_in rfl (by omega)) ?_
  refine tm_nm (upd (tm_g6 u) 1 (nI 0)) (tm_up rfl rfl) ?_
  refine tm_and (tm_in rfl (by omega)) ?_
  refine tm_ne ?_
  refine tm_f (by decide) (tm_f (by decide) (tm_f (by decide) ?_))
  refine tm_and (tm_in rfl (by omega)) ?_
  refine tm_nm (upd (tm_g5 u) 1 (nI 0)) (tm_up rfl rfl) ?_
  have o2 : tm_Ok 1 u (tm_s6 (tm_r1 1 0 u) (upd (tm_g6 u) 1 (nI 0))) := tm_o6 o1 (Or.inl rfl)
  have o3 : tm_Ok 1 u (tm_s5 (tm_s6 (tm_r1 1 0 u) (upd (tm_g6 u) 1 (nI 0))) (upd (tm_g5 u) 1 (nI 0))) := tm_o5 o2 ⟨0, by omega, rfl⟩ (Or.inl rfl)
  exact tm_ret ⟨tm_ShO o3 rfl s10, ⟨rfl, rfl, rfl, rfl⟩, rfl, rfl, rfl, rfl⟩
theorem tm_send8 {u : St1} {c : Nat} {x : Int32} (hH : tm_H u) (ec : tm_g5 u 1 = nI (c + 1)) (hc : c + 1 ≤ 11) (hx : x = nI 8) : tm_R (fun u' => tm_Sh u u' ∧ tm_Ce u u' ∧ tm_g7 u' 1 = tm_g7 u 1 ∧ tm_g4 u' 1 = tm_g4 u 1 ∧ tm_g5 u' 1 = nI c ∧ tm_g6 u' 1 = nI 0) (fun post => wpX_send post u x) := by
  obtain ⟨hT, hG, s20, s10⟩ := hH
  have o := tm_ob hT hG
  have o1 : tm_Ok 1 u (tm_r1 1 0 u) := tm_or1 (m := 0) hT hG (by omega) (by omega) (by omega)
  subst hx
  unfold wpX_send
  refine tm_read (t := 1) (m := 2) (n := 0) (st := 0) (u := u) (by omega) rfl s20 (by omega) rfl (by omega) rfl rfl (by omega) (fun _ => ?_) (by omega) (by omega) (by omega) (by omega) (by omega) (by omega) (by omega)
  refine tm_f (by decide) (tm_f (by decide) ?_)
  refine tm_and (tm_in rfl (by omega)) ?_
  refine tm_nm (upd (tm_g6 u) 1 (nI 0)) (tm_up rfl rfl) ?_
  refine tm_and (tm_in rfl (by omega)) ?_
  refine tm_nm (nI (c + 1)) (tm_at_ rfl ec) ?_
  refine tm_t (by decide) ?_
  refine tm_le (c + 1) 0 rfl rfl (fun z => absurd z (by omega)) (fun _ => ?_)
  refine tm_and (tm_in rfl (by omega)) ?_
  refine tm_nm (upd (tm_g5 u) 1 (nI c)) (tm_up rfl (tm_b8 (nI_pred c))) ?_
  have o2 : tm_Ok 1 u (tm_s6 (tm_r1 1 0 u) (upd (tm_g6 u) 1 (nI 0))) := tm_o6 o1 (Or.inl rfl)
  have o3 : tm_Ok 1 u (tm_s5 (tm_s6 (tm_r1 1 0 u) (upd (tm_g6 u) 1 (nI 0))) (upd (tm_g5 u) 1 (nI c))) := tm_o5 o2 ⟨c, by omega, rfl⟩ (Or.inl rfl)
  exact tm_ret ⟨tm_ShO o3 rfl s10, ⟨rfl, rfl, rfl, rfl⟩, rfl, rfl, rfl, rfl⟩
theorem tm_sendSign {u : St1} {b r c p k s : Nat} {x : Int32} (hH : tm_H u) (er : tm_g4 u 1 = nI r) (hr : r ≤ 5) (ec : tm_g5 u 1 = nI c) (hc : c ≤ 11) (e6 : tm_g6 u 1 = nI 0) (ep : tm_g7 u 1 = nI p) (hp : p ≤ 7) (ek : tm_g12 u 1 = nI k) (hk : k ≤ 1) (es : tm_g3 u (12 * 1 + 6 * k + r) = nI s) (hs : s ≤ 11) (hx : x = nI b) (hb : 32 ≤ b) (hb1 : b ≤ 126) : tm_R (fun u' => tm_Sh u u' ∧ tm_Zs u u' ∧ tm_g1 u' = upd (tm_g1 u) (144 + 12 * s + c) (nI b) ∧ tm_g2 u' = upd (tm_g2 u) (144 + 12 * s + c) (nI p) ∧ tm_g4 u' 1 = nI r ∧ tm_g7 u' 1 = nI p ∧ (c < 11 → tm_g5 u' 1 = nI (c + 1) ∧ tm_g6 u' 1 = nI 0)) (fun post => wpX_send post u x) := by
  obtain ⟨hT, hG, s20, s10⟩ := hH
  have o := tm_ob hT hG
  have o1 : tm_Ok 1 u (tm_r1 1 0 u) := tm_or1 (m := 0) hT hG (by omega) (by omega) (by omega)
  obtain ⟨w, hw, ew⟩ := o1.2.1.2.2.2.2.2.2.2.2.1
  have hm : tm_mn 0 b = 1 := by
    unfold tm_mn
    rw [if_neg (by omega), if_pos rfl, if_neg (by omega), if_neg (by omega)]
  unfold wpX_send
  refine tm_read (t := 1) (m := 1) (n := 0) (st := 0) (u := u) (by omega) rfl s20 (by omega) hx (by omega) hm rfl (fun _ => ?_) (by omega) (by omega) (by omega) (by omega) (by omega) (by omega) (by omega) (by omega)
  refine tm_and (tm_in rfl (by omega)) ?_
  refine tm_t (tm_at_ rfl e6) ?_
  refine tm_and (tm_in rfl (by omega)) ?_
  refine tm_bind (tm_lineAt (t := 1) (u := tm_r1 1 0 u) (by omega) rfl ek hk (tm_at_ rfl er) (by omega) es) (fun v hv => ?_)
  refine tm_and (tm_in rfl (by omega)) ?_
  refine tm_nm (nI c) (tm_at_ rfl ec) ?_
  refine tm_and (tm_in rfl (by omega)) ?_
  refine tm_t (tm_at_ rfl s10) ?_
  refine tm_imp (tm_ps99 (t := 1) (u := tm_r1 1 0 u) (by omega) rfl hs hc ec ep hp ew hw hx (by omega) hv rfl) (fun u' hu => ?_)
  have oc := tm_ptO (b := b) o1 hs hc ec e6 hp hw hb hb1
  rw [← hu] at oc
  unfold tm_pt at hu
  by_cases c11 : 11 ≤ c
  · rw [if_pos c11] at hu
    subst hu
    exact ⟨tm_ShO oc rfl s10, ⟨rfl, rfl⟩, rfl, rfl, er, ep, by omega⟩
  · rw [if_neg c11] at hu
    subst hu
    exact ⟨tm_ShO oc rfl s10, ⟨rfl, rfl⟩, rfl, rfl, er, ep, fun _ => ⟨rfl, e6⟩⟩
end
section
theorem tm_one {n f : Nat} (hn : 1 ≤ n) (hf : f = if n = 1 then 0 else n) : n = if f = 0 then 1 else f := by
  by_cases c : n = 1
  · rw [if_pos c] at hf
    rw [if_pos hf, c]
  · rw [if_neg c] at hf
    rw [if_neg (by omega), hf]
def tm_Mv (u u' : St1) (r c : Nat) : Prop := tm_Sh u u' ∧ tm_Ce u u' ∧ tm_g7 u' 1 = tm_g7 u 1 ∧ tm_g4 u' 1 = nI r ∧ tm_g5 u' 1 = nI c ∧ tm_g6 u' 1 = nI 0
theorem tm_pred {c d : Nat} (hc : c ≤ 99) (hd : d ≤ 99) : (nI c = nI d - 1) ↔ c + 1 = d := by
  constructor
  · intro h
    by_cases z : d = 0
    · rw [z] at h
      have e := congrArg Int32.toInt h
      rw [nI_toInt (by omega), show nI 0 - 1 = -1 from rfl, show (-1 : Int32).toInt = -1 from rfl] at e
      omega
    · obtain ⟨d, rfl⟩ : ∃ j, d = j + 1 := ⟨d - 1, by omega⟩
      rw [nI_pred] at h
      have := (nI_eq (by omega) (by omega)).mp h
      omega
  · intro h
    rw [← h]; exact (nI_pred c).symm
theorem tm_sm105z {u : St1} {r c : Nat} {x y z w : Int32} (hH : tm_H u) (hr : r ≤ 5) (hc : c ≤ 11) (hx : x = nI r) (hy : y = nI c) (hw : w = nI 0) : tm_R (fun u' => tm_Mv u u' r c) (fun post => wX_sendMove_105 post x y z w (tm_at u) (tm_kc u) (tm_kn u) (tm_g1 u) (tm_g2 u) (tm_g3 u) (tm_g4 u) (tm_g5 u) (tm_g6 u) (tm_g7 u) (tm_g8 u) (tm_g9 u) (tm_g10 u) (tm_g11 u) (tm_g12 u) (tm_g13 u) (tm_g14 u) (tm_g15 u) (tm_g16 u) (tm_g17 u) (tm_g18 u) (tm_g19 u) (tm_g20 u) (tm_g21 u) (tm_g22 u) (tm_g23 u) (tm_g24 u)) := by
  have hT := hH.1
  have hG := hH.2.1
  obtain ⟨r0, hr0, er⟩ := hT.2.2.1
  obtain ⟨c0, hc0, ec⟩ := hT.2.2.2.1
  refine tm_t (by rw [hw]; rfl) ?_
  refine tm_bind (tm_send27 (u := u) hT rfl) (fun v hv => ?_)
  refine tm_bind (tm_send91 hT hv rfl) (fun v hv => ?_)
  obtain ⟨f, hf, h1⟩ := hv
  refine tm_bind (tm_sendNumber (m := r + 1) h1 hf (by omega) (tm_ad (b := 1) hx rfl rfl)) (fun v h2 => ?_)
  refine tm_bind (tm_send59 h2 (by omega) rfl) (fun v h3 => ?_)
  refine tm_bind (tm_sendNumber (m := c + 1) h3 rfl (by omega) (tm_ad (b := 1) hy rfl rfl)) (fun v h4 => ?_)
  refine tm_sendLast (b := 72) hT hG h4 rfl (by omega) rfl rfl (fun w hl => ?_)
  refine tm_imp (tm_opMove (N := r + 1) hH hl er hr0 ec hc0 rfl rfl (Or.inr (Or.inr rfl))) (fun u' hu => ?_)
  obtain ⟨p1, p2, p3, p4, r', c', p5, p6, _, _, p7⟩ := hu
  obtain ⟨q1, q2⟩ := p7 rfl
  refine ⟨p1, p2, p3, ?_, ?_, p4⟩
  · rw [p5, q1]; congr 1; omega
  · rw [p6, q2]; congr 1; show min (c + 1 - 1) 11 = c; omega
theorem tm_sm44z {u : St1} {r c : Nat} {x y z w : Int32} (hH : tm_H u) (hr : r ≤ 5) (hc : c ≤ 11) (hx : x = nI r) (hy : y = nI c) (hw : w = nI 0) : tm_R (fun u' => tm_Mv u u' r c) (fun post => wX_sendMove_44 post x y z w (tm_at u) (tm_kc u) (tm_kn u) (tm_g1 u) (tm_g2 u) (tm_g3 u) (tm_g4 u) (tm_g5 u) (tm_g6 u) (tm_g7 u) (tm_g8 u) (tm_g9 u) (tm_g10 u) (tm_g11 u) (tm_g12 u) (tm_g13 u) (tm_g14 u) (tm_g15 u) (tm_g16 u) (tm_g17 u) (tm_g18 u) (tm_g19 u) (tm_g20 u) (tm_g21 u) (tm_g22 u) (tm_g23 u) (tm_g24 u)) := by
  refine tm_t (by rw [hw]; rfl) ?_
  refine tm_t (by rw [hw]; rfl) ?_
  refine tm_t (by rw [hw]; rfl) ?_
  exact tm_sm105z hH hr hc hx hy hw
theorem tm_sendMove {u : St1} {r c : Nat} {x y : Int32} (hH : tm_H u) (hr : r ≤ 5) (hc : c ≤ 11) (hx : x = nI r) (hy : y = nI c) : tm_R (fun u' => tm_Mv u u' r c) (fun post => wpX_sendMove post u x y) := by
  have hT := hH.1
  have hG := hH.2.1
  obtain ⟨r0, hr0, er⟩ := hT.2.2.1
  obtain ⟨c0, hc0, ec⟩ := hT.2.2.2.1
  have j30 : tm_R (fun u' => tm_Mv u u' r c) (fun post => wX_sendMove_30 post x y (nI c0) (tm_at u) (tm_kc u) (tm_kn u) (tm_g1 u) (tm_g2 u) (tm_g3 u) (tm_g4 u) (tm_g5 u) (tm_g6 u) (tm_g7 u) (tm_g8 u) (tm_g9 u) (tm_g10 u) (tm_g11 u) (tm_g12 u) (tm_g13 u) (tm_g14 u) (tm_g15 u) (tm_g16 u) (tm_g17 u) (tm_g18 u) (tm_g19 u) (tm_g20 u) (tm_g21 u) (tm_g22 u) (tm_g23 u) (tm_g24 u)) := tm_t rfl (tm_sm44z hH hr hc hx hy rfl)
  refine tm_nm (nI c0) ec ?_
  refine tm_eq r0 r er hx (fun e => ?_) (fun _ => j30)
  subst e
  refine tm_if (tm_g6 u 1 = nI 0) Iff.rfl (fun e6 => ?_) (fun _ => j30)
  refine tm_f (by decide) ?_
  refine tm_eq c0 c rfl hy (fun e => ?_) (fun ne => ?_)
  · subst e
    exact tm_ret ⟨tm_Sh0 hH, ⟨rfl, rfl, rfl, rfl⟩, rfl, er, ec, e6⟩
  refine tm_f (by decide) ?_
  refine tm_eq c 0 hy rfl (fun e => ?_) (fun c1 => ?_)
  · exact tm_imp (tm_send13 (u := u) hH rfl) (fun u' hu => ⟨hu.1, hu.2.1, hu.2.2.1, hu.2.2.2.1.trans er, by rw [hu.2.2.2.2.1, e], hu.2.2.2.2.2⟩)
  refine tm_f (by decide) ?_
  refine tm_if (c + 1 = c0) (by rw [hy]; exact tm_pred (by omega) (by omega)) (fun e => ?_) (fun c2 => ?_)
  · exact tm_imp (tm_send8 (u := u) (c := c) hH (by rw [e]; exact ec) (by omega) rfl) (fun u' hu => ⟨hu.1, hu.2.1, hu.2.2.1, hu.2.2.2.1.trans er, hu.2.2.2.2.1, hu.2.2.2.2.2⟩)
  refine tm_f (by decide) ?_
  refine tm_le c c0 hy rfl (fun h => ?_) (fun h => ?_)
  · refine tm_f (by decide) ?_
    refine tm_sendOne (u := u) (n := c0 - c) (b := 68) hT hG (by omega) (by omega) (tm_su rfl hy h rfl) rfl (by omega) rfl rfl (fun w f hf hl => ?_)
    refine tm_imp (tm_opMove (N := c0 - c) hH hl er hr0 ec hc0 (tm_one (by omega) hf) rfl (Or.inr (Or.inl rfl))) (fun u' hu => ?_)
    obtain ⟨p1, p2, p3, p4, r', c', p5, p6, _, p7, _⟩ := hu
    obtain ⟨q1, q2⟩ := p7 rfl
    refine ⟨p1, p2, p3, by rw [p5, q1], ?_, p4⟩
    rw [p6, q2]; congr 1; omega
  · refine tm_sendOne (u := u) (n := c - c0) (b := 67) hT hG (by omega) (by omega) (tm_su hy rfl (by omega) rfl) rfl (by omega) rfl rfl (fun w f hf hl => ?_)
    refine tm_imp (tm_opMove (N := c - c0) hH hl er hr0 ec hc0 (tm_one (by omega) hf) rfl (Or.inl rfl)) (fun u' hu => ?_)
    obtain ⟨p1, p2, p3, p4, r', c', p5, p6, p7, _, _⟩ := hu
    obtain ⟨q1, q2⟩ := p7 rfl
    refine ⟨p1, p2, p3, by rw [p5, q1], ?_, p4⟩
    rw [p6, q2]; congr 1; omega
theorem tm_pwS (f : Nat → Nat) : ∀ d i p, tm_pw f i (d + 1) p = tm_pn (tm_pw f i d p) (f (i + d)) := by
  intro d
  induction d with
  | zero => intro i p; rfl
  | succ d ih =>
    intro i p
    have g := ih (i + 1) (tm_pn p (f i))
    rw [show i + 1 + d = i + (d + 1) by omega] at g
    exact g
theorem tm_pwC {f g : Nat → Nat} : ∀ d i p, (∀ j, i ≤ j → j < i + d → f j = g j) → tm_pw f i d p = tm_pw g i d p := by
  intro d
  induction d with
  | zero => intro i p h; rfl
  | succ d ih =>
    intro i p h
    rw [tm_pwS, tm_pwS, ih i p (fun j h1 h2 => h j h1 (by omega)), h (i + d) (by omega) (by omega)]
/-- the bits below i out of p, the others out of h -/
def tm_mx (i h p : Nat) : Nat := h / 2 ^ i * 2 ^ i + p % 2 ^ i
def tm_nq (i p : Nat) : Nat := if p / 2 ^ i % 2 = 0 then (if i = 0 then 22 else if i = 1 then 24 else 27) else 1 + 3 * i
theorem tm_dq1 : ∀ i, i < 3 → ∀ h, h < 8 → ∀ p, p < 8 → (((nI h ^^^ nI p) &&& ((1 : Int32) <<< (nI i &&& 31))) = 0 ↔ h / 2 ^ i % 2 = p / 2 ^ i % 2) := by decide +kernel
theorem tm_dq2 : ∀ i, i < 3 → ∀ p, p < 8 → ((nI p &&& ((1 : Int32) <<< (nI i &&& 31))) = 0 ↔ p / 2 ^ i % 2 = 0) := by decide +kernel
theorem tm_dq3 : ∀ i, i < 3 → ∀ h, h < 8 → ∀ p, p < 8 → h / 2 ^ i % 2 = p / 2 ^ i % 2 → tm_mx (i + 1) h p = tm_mx i h p := by decide +kernel
theorem tm_dq4 : ∀ i, i < 3 → ∀ h, h < 8 → ∀ p, p < 8 → ¬ h / 2 ^ i % 2 = p / 2 ^ i % 2 → tm_pn (tm_mx i h p) (tm_nq i p) = tm_mx (i + 1) h p := by decide +kernel
theorem tm_dq5 : ∀ h, h < 8 → ∀ p, p < 8 → tm_mx 3 h p = p ∧ tm_mx 0 h p = h := by decide +kernel
def tm_Pn (u u' : St1) (p : Nat) : Prop := tm_Sh u u' ∧ tm_Ce u u' ∧ tm_g4 u' 1 = tm_g4 u 1 ∧ tm_g5 u' 1 = tm_g5 u 1 ∧ tm_g6 u' 1 = tm_g6 u 1 ∧ tm_g7 u' 1 = nI p
theorem tm_sp115 {u v : St1} {n h p : Nat} {f : Nat → Nat} (hH : tm_H u) (ep : tm_g7 u 1 = nI h) (hh : h < 8) (hp : tm_Ps u v n f) (e : tm_pw f 0 n h = p) : tm_R (fun u' => tm_Pn u u' p) (fun post => wX_sendPen_115 post (tm_at v) (tm_kc v) (tm_kn v) (tm_g1 v) (tm_g2 v) (tm_g3 v) (tm_g4 v) (tm_g5 v) (tm_g6 v) (tm_g7 v) (tm_g8 v) (tm_g9 v) (tm_g10 v) (tm_g11 v) (tm_g12 v) (tm_g13 v) (tm_g14 v) (tm_g15 v) (tm_g16 v) (tm_g17 v) (tm_g18 v) (tm_g19 v) (tm_g20 v) (tm_g21 v) (tm_g22 v) (tm_g23 v) (tm_g24 v)) := by
  unfold wX_sendPen_115
  refine tm_sendLast (b := 109) (v := v) hH.1 hH.2.1 hp rfl (by omega) rfl rfl (fun w hl => ?_)
  have g := tm_opPen hH hl ep hh (x := 109) rfl
  rw [e] at g
  exact g
theorem tm_sp30 {u : St1} {h p : Nat} (hH : tm_H u) (ep : tm_g7 u 1 = nI h) (hh : h < 8) (hp : p < 8) (hne : h ≠ p) : ∀ d i, 3 - i = d → i ≤ 3 → ∀ v w n f, w ≤ 1 → tm_Ps u v n f → (w = 0 → n = 1 ∧ f 0 = 0 ∧ tm_mx i h p = h) → (w = 1 → n ≤ i ∧ tm_pw f 0 n h = tm_mx i h p) → (p = 0 → i = 0 ∧ w = 0) → tm_R (fun u' => tm_Pn u u' p) (fun post => wX_sendPen_30 post (nI p) (nI h) (d + 1) (nI w) (nI i) (tm_at v) (tm_kc v) (tm_kn v) (tm_g1 v) (tm_g2 v) (tm_g3 v) (tm_g4 v) (tm_g5 v) (tm_g6 v) (tm_g7 v) (tm_g8 v) (tm_g9 v) (tm_g10 v) (tm_g11 v) (tm_g12 v) (tm_g13 v) (tm_g14 v) (tm_g15 v) (tm_g16 v) (tm_g17 v) (tm_g18 v) (tm_g19 v) (tm_g20 v) (tm_g21 v) (tm_g22 v) (tm_g23 v) (tm_g24 v)) := by
  intro d
  induction d with
  | zero =>
    intro i hi hi' v w n f hw hv h0 h1 hz
    refine tm_le 3 i rfl rfl (fun _ => ?_) (fun z => absurd z (by omega))
    have e3 : i = 3 := by omega
    subst e3
    have d5 := tm_dq5 h hh p hp
    by_cases w0 : w = 0
    · have := (h0 w0).2.2
      omega
    · have := (h1 (by omega)).2
      exact tm_sp115 hH ep hh hv (by omega)
  | succ d ih =>
    intro i hi hi' v w n f hw hv h0 h1 hz
    refine tm_le 3 i rfl rfl (fun z => absurd z (by omega)) (fun hi3 => ?_)
    refine tm_eq p 0 rfl rfl (fun e => ?_) (fun np => ?_)
    · obtain ⟨_, w0⟩ := hz e
      obtain ⟨n1, f0, _⟩ := h0 w0
      subst n1
      refine tm_sp115 hH ep hh hv ?_
      show tm_pn h (f 0) = p
      rw [f0, e]; rfl
    refine tm_nm ((1 : Int32) <<< (nI i &&& 31)) rfl ?_
    refine tm_if (h / 2 ^ i % 2 = p / 2 ^ i % 2) (tm_dq1 i hi3 h hh p hp) (fun e => ?_) (fun ne => ?_)
    · refine tm_nm (nI (i + 1)) (nI_1 i) ?_
      have d3 := tm_dq3 i hi3 h hh p hp e
      exact ih (i + 1) (by omega) (by omega) v w n f hw hv (fun z => ⟨(h0 z).1, (h0 z).2.1, by rw [d3]; exact (h0 z).2.2⟩) (fun z => ⟨by have := (h1 z).1; omega, by rw [d3]; exact (h1 z).2⟩) (fun z => absurd z np)
    have d4 := tm_dq4 i hi3 h hh p hp ne
    have j99 : ∀ v m f' q, q = nI (tm_nq i p) → tm_Ps u v m f' → f' (m - 1) = 0 → m ≤ i + 1 → 1 ≤ m → tm_pw f' 0 (m - 1) h = tm_mx i h p → tm_R (fun u' => tm_Pn u u' p) (fun post => wX_sendPen_99 post (wX_sendPen_30 post (nI p) (nI h) (d + 1)) (nI p) (nI h) (nI i) q (tm_at v) (tm_kc v) (tm_kn v) (tm_g1 v) (tm_g2 v) (tm_g3 v) (tm_g4 v) (tm_g5 v) (tm_g6 v) (tm_g7 v) (tm_g8 v) (tm_g9 v) (tm_g10 v) (tm_g11 v) (tm_g12 v) (tm_g13 v) (tm_g14 v) (tm_g15 v) (tm_g16 v) (tm_g17 v) (tm_g18 v) (tm_g19 v) (tm_g20 v) (tm_g21 v) (tm_g22 v) (tm_g23 v) (tm_g24 v)) := by
      intro v m f' q hq hv' hf' hm hm1 hpw
      have hq99 : tm_nq i p ≤ 99 := by
        unfold tm_nq
        repeat' split
        all_goals omega
      unfold wX_sendPen_99
      refine tm_bind (tm_sendNumber (v := v) hv' hf' hq99 hq) (fun v2 hv2 => ?_)
      refine tm_nm (nI (i + 1)) (nI_1 i) ?_
      refine ih (i + 1) (by omega) (by omega) v2 1 m _ (by omega) hv2 (by omega) (fun _ => ⟨hm, ?_⟩) (fun z => absurd z np)
      obtain ⟨m, rfl⟩ : ∃ j, m = j + 1 := ⟨m - 1, by omega⟩
      rw [tm_pwS, tm_pwC (g := f') m 0 h (fun j _ hj => if_neg (by omega)), show 0 + m = m + 1 - 1 by omega, if_pos rfl, ← d4]
      rw [show m + 1 - 1 = m by omega] at hpw
      rw [hpw]
    have j65 : ∀ v m f', tm_Ps u v m f' → f' (m - 1) = 0 → m ≤ i + 1 → 1 ≤ m → tm_pw f' 0 (m - 1) h = tm_mx i h p → tm_R (fun u' => tm_Pn u u' p) (fun post => wX_sendPen_65 post (wX_sendPen_30 post (nI p) (nI h) (d + 1)) (nI p) (nI h) (nI i) ((1 : Int32) <<< (nI i &&& 31)) (tm_at v) (tm_kc v) (tm_kn v) (tm_g1 v) (tm_g2 v) (tm_g3 v) (tm_g4 v) (tm_g5 v) (tm_g6 v) (tm_g7 v) (tm_g8 v) (tm_g9 v) (tm_g10 v) (tm_g11 v) (tm_g12 v) (tm_g13 v) (tm_g14 v) (tm_g15 v) (tm_g16 v) (tm_g17 v) (tm_g18 v) (tm_g19 v) (tm_g20 v) (tm_g21 v) (tm_g22 v) (tm_g23 v) (tm_g24 v)) := by
      intro v m f' hv' hf' hm hm1 hpw
      have en : (1 : Int32) + 3 * nI i = nI (1 + 3 * i) := tm_ad (a := 1) rfl (tm_ml (a := 3) rfl rfl rfl) rfl
      have hpn : tm_R (fun r => r = nI (1 + 3 * i)) (fun post => wpX_penNumber post () (nI i)) := tm_ret en
      refine tm_if (p / 2 ^ i % 2 = 0) (tm_dq2 i hi3 p hp) (fun e => ?_) (fun e => ?_)
      · refine tm_bind hpn (fun r hr => ?_)
        have e21 : 21 + r = nI (22 + 3 * i) := tm_ad (a := 21) rfl hr (by omega)
        refine tm_eq i 0 rfl rfl (fun e0 => ?_) (fun e0 => ?_)
        · refine j99 v m f' _ (tm_su (b := 0) e21 rfl (by omega) ?_) hv' hf' hm hm1 hpw
          unfold tm_nq; rw [if_pos e, if_pos e0, e0]
        · refine j99 v m f' _ (tm_su (b := 1) e21 rfl (by omega) ?_) hv' hf' hm hm1 hpw
          unfold tm_nq; rw [if_pos e, if_neg e0]
          split <;> omega
      · refine tm_bind hpn (fun r hr => ?_)
        refine j99 v m f' _ (hr.trans ?_) hv' hf' hm hm1 hpw
        unfold tm_nq; rw [if_neg e]
    refine tm_eq w 0 rfl rfl (fun w0 => ?_) (fun w0 => ?_)
    · obtain ⟨n1, f0, mx⟩ := h0 w0
      subst n1
      exact j65 v 1 f hv f0 (by omega) (by omega) (by rw [mx]; rfl)
    · obtain ⟨hn, hpw⟩ := h1 (by omega)
      refine tm_bind (tm_send59 (v := v) hv (by omega) rfl) (fun v2 hv2 => ?_)
      refine j65 v2 (n + 1) _ hv2 (if_pos rfl) (by omega) (by omega) ?_
      rw [show n + 1 - 1 = n by omega, tm_pwC (g := f) n 0 h (fun j _ hj => if_neg (by omega))]
      exact hpw
theorem tm_sendPen {u : St1} {p : Nat} {x : Int32} (hH : tm_H u) (hp : p < 8) (hx : x = nI p) : tm_R (fun u' => tm_Pn u u' p) (fun post => wpX_sendPen post u x) := by
  obtain ⟨h, hh, eh⟩ := hH.1.2.2.2.2.2.1
  refine tm_nm (nI h) eh ?_
  refine tm_eq h p rfl hx (fun e => ?_) (fun ne => ?_)
  · subst e
    exact tm_ret ⟨tm_Sh0 hH, ⟨rfl, rfl, rfl, rfl⟩, rfl, rfl, rfl, eh⟩
  refine tm_bind (tm_send27 (u := u) hH.1 rfl) (fun v hv => ?_)
  refine tm_bind (tm_send91 hH.1 hv rfl) (fun v hv => ?_)
  obtain ⟨f, hf, h1⟩ := hv
  rw [hx]
  exact tm_fu 4 (tm_sp30 hH eh (by omega) hp ne 3 0 rfl (by omega) v 0 1 f (by omega) h1 (fun _ => ⟨rfl, hf, (tm_dq5 h (by omega) p hp).2⟩) (by omega) (fun _ => ⟨rfl, rfl⟩))
end
section
def tm_ln (t : Nat) (u : St1) (r : Nat) : Nat := 144 * t + 12 * (tm_g3 u (12 * t + 6 * (tm_g12 u t).toNatClampNeg + r)).toNatClampNeg
theorem tm_lnE {t r : Nat} {u : St1} (ht : t < 2) (hT : tm_TI t u) (hr : r < 6) : ∃ k s : Nat, k ≤ 1 ∧ s ≤ 11 ∧ tm_g12 u t = nI k ∧ tm_g3 u (12 * t + 6 * k + r) = nI s ∧ tm_ln t u r = 144 * t + 12 * s := by
  obtain ⟨hc, hs, h4, h5, h6, h7, h89, h10, h11, h12, h13, h14, h15, h16, h17, hab, h20, h22, hst, h23⟩ := hT
  obtain ⟨k, hk, ek⟩ := h12
  obtain ⟨s, hs', es⟩ := hs.1 (12 * t + 6 * k + r) (by omega) (by omega)
  refine ⟨k, s, hk, hs', ek, es, ?_⟩
  unfold tm_ln
  rw [ek, nI_clamp (by omega), es, nI_clamp (by omega)]
theorem tm_lnb {t r : Nat} {u : St1} (ht : t < 2) (hT : tm_TI t u) (hr : r < 6) : 144 * t ≤ tm_ln t u r ∧ tm_ln t u r + 12 ≤ 144 * t + 144 := by
  obtain ⟨k, s, hk, hs, ek, es, e⟩ := tm_lnE ht hT hr
  rw [e]; omega
theorem tm_lnj {t r q : Nat} {u : St1} (ht : t < 2) (hT : tm_TI t u) (hr : r < 6) (hq : q < 6) (hne : q ≠ r) : tm_ln t u q + 12 ≤ tm_ln t u r ∨ tm_ln t u r + 12 ≤ tm_ln t u q := by
  obtain ⟨k, s, hk, hs, ek, es, e⟩ := tm_lnE ht hT hr
  obtain ⟨k', s', hk', hs', ek', es', e'⟩ := tm_lnE ht hT hq
  have kk : k = k' := by rw [ek] at ek'; exact (nI_eq (by omega) (by omega)).mp ek'
  subst kk
  rw [e, e']
  have : s ≠ s' := fun z => hne (hT.2.1.2 k q r (by omega) hq hr (by rw [es, es', z]))
  omega
theorem tm_lineOfL {t r : Nat} {u : St1} {q p : Int32} (ht : t < 2) (hT : tm_TI t u) (hq : q = nI t) (hp : p = nI r) (hr : r < 6) : tm_R (fun v => v = nI (tm_ln t u r)) (fun post => wpX_lineOf post u q p) := by
  obtain ⟨k, s, hk, hs, ek, es, e⟩ := tm_lnE ht hT hr
  rw [e]
  exact tm_lineOf ht hq ek hk hp hr es
def tm_eqc (u : St1) (a b : Nat) : Prop := tm_g1 u a = tm_g1 u b ∧ tm_g2 u a = tm_g2 u b
theorem tm_sameCells {a b : Nat} {u : St1} {x y : Int32} (hx : x = nI a) (hy : y = nI b) (ha : a < 288) (hb : b < 288) : tm_R (fun v => (v = nI 1 ∧ tm_eqc u a b) ∨ (v = nI 0 ∧ ¬ tm_eqc u a b)) (fun post => wpX_sameCells post u x y) := by
  refine tm_and (tm_in hx ha) ?_
  refine tm_and (tm_in hy hb) ?_
  refine tm_if (tm_g1 u a = tm_g1 u b) (by subst hx hy; rw [nI_clamp (by omega), nI_clamp (by omega)]; exact Iff.rfl) (fun e1 => ?_) (fun n1 => ?_)
  · refine tm_and (tm_in hx ha) ?_
    refine tm_and (tm_in hy hb) ?_
    refine tm_if (tm_g2 u a = tm_g2 u b) (by subst hx hy; rw [nI_clamp (by omega), nI_clamp (by omega)]; exact Iff.rfl) (fun e2 => ?_) (fun n2 => ?_)
    · exact tm_ret (Or.inl ⟨rfl, e1, e2⟩)
    · exact tm_ret (Or.inr ⟨rfl, fun z => n2 z.2⟩)
  · exact tm_ret (Or.inr ⟨rfl, fun z => n1 z.1⟩)
def tm_req (u : St1) (r : Nat) : Prop := ∀ c, c < 12 → tm_eqc u (tm_ln 0 u r + c) (tm_ln 1 u r + c)
theorem tm_si20 {a b : Nat} {u : St1} (ha : a ≤ 276) (hb : b ≤ 276) : ∀ d c, 12 - c = d → c ≤ 12 → ∀ x : Int32, tm_R (fun v => (∀ j, c ≤ j → j < 12 → tm_eqc u (a + j) (b + j)) → v = x) (fun post => wX_staleIn_20 post (nI a) (nI b) (tm_at u) (tm_kc u) (tm_kn u) (tm_g1 u) (tm_g2 u) (tm_g3 u) (tm_g4 u) (tm_g5 u) (tm_g6 u) (tm_g7 u) (tm_g8 u) (tm_g9 u) (tm_g10 u) (tm_g11 u) (tm_g12 u) (tm_g13 u) (tm_g14 u) (tm_g15 u) (tm_g16 u) (tm_g17 u) (tm_g18 u) (tm_g19 u) (tm_g20 u) (tm_g21 u) (tm_g22 u) (tm_g23 u) (tm_g24 u) (d + 1) x (nI c)) := by
  intro d
  induction d with
  | zero =>
    intro c hc hc' x
    refine tm_le 12 c rfl rfl (fun _ => tm_ret (fun _ => rfl)) (fun h => absurd h (by omega))
  | succ d ih =>
    intro c hc hc' x
    refine tm_le 12 c rfl rfl (fun h => absurd h (by omega)) (fun h => ?_)
    refine tm_bind (tm_sameCells (u := u) (a := a + c) (b := b + c) (tm_ad rfl rfl rfl) (tm_ad rfl rfl rfl) (by omega) (by omega)) (fun v hv => ?_)
    rcases hv with hv | hv
    · refine tm_f (by rw [hv.1]; decide) ?_
      refine tm_nm x (Int32.add_zero x) ?_
      refine tm_nm (nI (c + 1)) (nI_1 c) ?_
      exact tm_imp (ih (c + 1) (by omega) (by omega) x) (fun w hw z => hw (fun j h1 h2 => z j (by omega) h2))
    · refine tm_t (by rw [hv.1]; rfl) ?_
      refine tm_ne ?_
      refine tm_nm (nI (c + 1)) (nI_1 c) ?_
      exact tm_imp (ih (c + 1) (by omega) (by omega) _) (fun w hw z => absurd (z c (by omega) (by omega)) hv.2)
theorem tm_staleIn {r : Nat} {u : St1} {x : Int32} (h0 : tm_TI 0 u) (h1 : tm_TI 1 u) (hr : r < 6) (hx : x = nI r) : tm_R (fun v => tm_req u r → v = nI 0) (fun post => wpX_staleIn post u x) := by
  have b0 := tm_lnb (by omega) h0 hr
  have b1 := tm_lnb (by omega) h1 hr
  unfold wpX_staleIn
  refine tm_bind (tm_lineOfL (t := 0) (by omega) h0 rfl hx hr) (fun v hv => ?_)
  refine tm_bind (tm_lineOfL (t := 1) (by omega) h1 rfl hx hr) (fun w hw => ?_)
  rw [hv, hw]
  exact tm_imp (tm_fu 13 (tm_si20 (u := u) (by omega) (by omega) 12 0 rfl (by omega) (nI 0))) (fun w hw z => hw (fun j _ hj => z j hj))
theorem tm_st4 {u : St1} (h0 : tm_TI 0 u) (h1 : tm_TI 1 u) : ∀ d r, 6 - r = d → r ≤ 6 → ∀ x : Int32, tm_R (fun v => (∀ j, r ≤ j → j < 6 → tm_req u j) → v = x) (fun post => wX_stale_4 post (tm_at u) (tm_kc u) (tm_kn u) (tm_g1 u) (tm_g2 u) (tm_g3 u) (tm_g4 u) (tm_g5 u) (tm_g6 u) (tm_g7 u) (tm_g8 u) (tm_g9 u) (tm_g10 u) (tm_g11 u) (tm_g12 u) (tm_g13 u) (tm_g14 u) (tm_g15 u) (tm_g16 u) (tm_g17 u) (tm_g18 u) (tm_g19 u) (tm_g20 u) (tm_g21 u) (tm_g22 u) (tm_g23 u) (tm_g24 u) (d + 1) x (nI r)) := by
  intro d
  induction d with
  | zero =>
    intro r hr hr' x
    refine tm_le 6 r rfl rfl (fun _ => tm_ret (fun _ => rfl)) (fun h => absurd h (by omega))
  | succ d ih =>
    intro r hr hr' x
    refine tm_le 6 r rfl rfl (fun h => absurd h (by omega)) (fun h => ?_)
    refine tm_bind (tm_staleIn (u := u) h0 h1 h rfl) (fun v hv => ?_)
    refine tm_ne ?_
    refine tm_nm (nI (r + 1)) (nI_1 r) ?_
    refine tm_imp (ih (r + 1) (by omega) (by omega) _) (fun w hw z => ?_)
    rw [hw (fun j g1 g2 => z j (by omega) g2), hv (z r (by omega) h)]
    exact Int32.add_zero x
theorem tm_stale {u : St1} (h0 : tm_TI 0 u) (h1 : tm_TI 1 u) : tm_R (fun v => (∀ j, j < 6 → tm_req u j) → v = nI 0) (fun post => wpX_stale post u) :=
  tm_imp (tm_fu 7 (tm_st4 h0 h1 6 0 rfl (by omega) (nI 0))) (fun v hv z => hv (fun j _ hj => z j hj))
theorem tm_fs17 {a b : Nat} {u : St1} (ha : a ≤ 276) (hb : b ≤ 276) : ∀ d c, 12 - c = d → c ≤ 12 → (∀ j, j < c → tm_eqc u (a + j) (b + j)) → tm_R (fun v => ∃ c, c ≤ 12 ∧ v = nI c ∧ ∀ j, j < c → tm_eqc u (a + j) (b + j)) (fun post => wX_firstStale_17 post (nI a) (nI b) (tm_at u) (tm_kc u) (tm_kn u) (tm_g1 u) (tm_g2 u) (tm_g3 u) (tm_g4 u) (tm_g5 u) (tm_g6 u) (tm_g7 u) (tm_g8 u) (tm_g9 u) (tm_g10 u) (tm_g11 u) (tm_g12 u) (tm_g13 u) (tm_g14 u) (tm_g15 u) (tm_g16 u) (tm_g17 u) (tm_g18 u) (tm_g19 u) (tm_g20 u) (tm_g21 u) (tm_g22 u) (tm_g23 u) (tm_g24 u) (d + 1) (nI c)) := by
  intro d
  induction d with
  | zero =>
    intro c hc hc' hj
    exact tm_le 12 c rfl rfl (fun _ => tm_ret ⟨c, hc', rfl, hj⟩) (fun h => absurd h (by omega))
  | succ d ih =>
    intro c hc hc' hj
    refine tm_le 12 c rfl rfl (fun h => absurd h (by omega)) (fun h => ?_)
    refine tm_bind (tm_sameCells (u := u) (a := a + c) (b := b + c) (tm_ad rfl rfl rfl) (tm_ad rfl rfl rfl) (by omega) (by omega)) (fun v hv => ?_)
    rcases hv with hv | hv
    · refine tm_f (by rw [hv.1]; decide) ?_
      refine tm_nm (nI (c + 1)) (nI_1 c) ?_
      refine ih (c + 1) (by omega) (by omega) (fun j g => ?_)
      by_cases z : j = c
      · rw [z]; exact hv.2
      · exact hj j (by omega)
    · exact tm_t (by rw [hv.1]; rfl) (tm_ret ⟨c, hc', rfl, hj⟩)
theorem tm_firstStale {r : Nat} {u : St1} {x : Int32} (h0 : tm_TI 0 u) (h1 : tm_TI 1 u) (hr : r < 6) (hx : x = nI r) : tm_R (fun v => ∃ c, c ≤ 12 ∧ v = nI c ∧ ∀ j, j < c → tm_eqc u (tm_ln 0 u r + j) (tm_ln 1 u r + j)) (fun post => wpX_firstStale post u x) := by
  have b0 := tm_lnb (by omega) h0 hr
  have b1 := tm_lnb (by omega) h1 hr
  unfold wpX_firstStale
  refine tm_bind (tm_lineOfL (t := 0) (by omega) h0 rfl hx hr) (fun v hv => ?_)
  refine tm_bind (tm_lineOfL (t := 1) (by omega) h1 rfl hx hr) (fun w hw => ?_)
  rw [hv, hw]
  exact tm_fu 13 (tm_fs17 (u := u) (by omega) (by omega) 12 0 rfl (by omega) (fun j hj => absurd hj (by omega)))
theorem tm_rc22 {a b f : Nat} {u : St1} {far : Int32} (ha : a ≤ 276) (hb : b ≤ 276) (hf : f ≤ 12) : ∀ d c, 12 - c = d → c ≤ 12 → ∀ x : Int32, tm_R (fun _ => True) (fun post => wX_rightCells_22 post (nI f) far (nI a) (nI b) (tm_at u) (tm_kc u) (tm_kn u) (tm_g1 u) (tm_g2 u) (tm_g3 u) (tm_g4 u) (tm_g5 u) (tm_g6 u) (tm_g7 u) (tm_g8 u) (tm_g9 u) (tm_g10 u) (tm_g11 u) (tm_g12 u) (tm_g13 u) (tm_g14 u) (tm_g15 u) (tm_g16 u) (tm_g17 u) (tm_g18 u) (tm_g19 u) (tm_g20 u) (tm_g21 u) (tm_g22 u) (tm_g23 u) (tm_g24 u) (d + 1) x (nI c)) := by
  intro d
  induction d with
  | zero =>
    intro c hc hc' x
    exact tm_le 12 c rfl rfl (fun _ => tm_ret trivial) (fun h => absurd h (by omega))
  | succ d ih =>
    intro c hc hc' x
    refine tm_le 12 c rfl rfl (fun h => absurd h (by omega)) (fun h => ?_)
    refine tm_ne ?_
    have skip : ∀ x8, tm_R (fun _ => True) (fun post => wX_rightCells_52 post (wX_rightCells_22 post (nI f) far (nI a) (nI b) (tm_at u) (tm_kc u) (tm_kn u) (tm_g1 u) (tm_g2 u) (tm_g3 u) (tm_g4 u) (tm_g5 u) (tm_g6 u) (tm_g7 u) (tm_g8 u) (tm_g9 u) (tm_g10 u) (tm_g11 u) (tm_g12 u) (tm_g13 u) (tm_g14 u) (tm_g15 u) (tm_g16 u) (tm_g17 u) (tm_g18 u) (tm_g19 u) (tm_g20 u) (tm_g21 u) (tm_g22 u) (tm_g23 u) (tm_g24 u) (d + 1)) (nI f) far (nI a) (nI b) x (nI c) x8 (tm_at u) (tm_kc u) (tm_kn u) (tm_g1 u) (tm_g2 u) (tm_g3 u) (tm_g4 u) (tm_g5 u) (tm_g6 u) (tm_g7 u) (tm_g8 u) (tm_g9 u) (tm_g10 u) (tm_g11 u) (tm_g12 u) (tm_g13 u) (tm_g14 u) (tm_g15 u) (tm_g16 u) (tm_g17 u) (tm_g18 u) (tm_g19 u) (tm_g20 u) (tm_g21 u) (tm_g22 u) (tm_g23 u) (tm_g24 u)) := by
      intro x8
      refine tm_t rfl ?_
      refine tm_ne ?_
      refine tm_nm (nI (c + 1)) (nI_1 c) ?_
      exact ih (c + 1) (by omega) (by omega) _
    refine tm_if _ Iff.rfl (fun _ => skip _) (fun g1 => ?_)
    refine tm_if _ Iff.rfl (fun _ => skip _) (fun g2 => ?_)
    refine tm_f (by decide) ?_
    have ex : ∃ j, j < 12 ∧ nI c + far = nI j := by
      rcases pk_ix (nI c + far) (n := 12) (by omega) with z | z | z
      · exact absurd (Int32.lt_of_lt_of_le z (nI_pos' (by omega))) g1
      · exact absurd z g2
      · exact z
    obtain ⟨j, hj, ej⟩ := ex
    refine tm_bind (tm_sameCells (u := u) (a := a + c) (b := b + j) (tm_ad rfl rfl rfl) (tm_ad rfl ej rfl) (by omega) (by omega)) (fun v _ => ?_)
    refine tm_if _ Iff.rfl (fun _ => ?_) (fun _ => ?_)
    · refine tm_ne ?_
      refine tm_nm (nI (c + 1)) (nI_1 c) ?_
      exact ih (c + 1) (by omega) (by omega) _
    · refine tm_ne ?_
      refine tm_nm (nI (c + 1)) (nI_1 c) ?_
      exact ih (c + 1) (by omega) (by omega) _
theorem tm_rightCells {r f : Nat} {u : St1} {x y far : Int32} (h0 : tm_TI 0 u) (h1 : tm_TI 1 u) (hr : r < 6) (hx : x = nI r) (hy : y = nI f) (hf : f ≤ 12) : tm_R (fun _ => True) (fun post => wpX_rightCells post u x y far) := by
  have b0 := tm_lnb (by omega) h0 hr
  have b1 := tm_lnb (by omega) h1 hr
  unfold wpX_rightCells
  refine tm_bind (tm_lineOfL (t := 0) (by omega) h0 rfl hx hr) (fun v hv => ?_)
  refine tm_bind (tm_lineOfL (t := 1) (by omega) h1 rfl hx hr) (fun w hw => ?_)
  rw [hv, hw, hy]
  exact tm_fu _ (tm_rc22 (u := u) (by omega) (by omega) hf _ f rfl hf 0)
theorem tm_ra50 {a b : Nat} {u : St1} {x1 x2 x3 : Int32} {P : Int32 → Prop} {J : (Int32 → Prop) → Int32 → Int32 → Prop} (ha : a ≤ 276) (hb : b ≤ 276) (hJ : ∀ y, tm_R P (fun post => J post y (x3 + 1))) : ∀ d c, 12 - c = d → c ≤ 12 → ∀ x : Int32, tm_R P (fun post => wX_rightAfter_50 post (J post) x1 x2 x3 (nI a) (nI b) (tm_at u) (tm_kc u) (tm_kn u) (tm_g1 u) (tm_g2 u) (tm_g3 u) (tm_g4 u) (tm_g5 u) (tm_g6 u) (tm_g7 u) (tm_g8 u) (tm_g9 u) (tm_g10 u) (tm_g11 u) (tm_g12 u) (tm_g13 u) (tm_g14 u) (tm_g15 u) (tm_g16 u) (tm_g17 u) (tm_g18 u) (tm_g19 u) (tm_g20 u) (tm_g21 u) (tm_g22 u) (tm_g23 u) (tm_g24 u) (d + 1) x (nI c)) := by
  have j84 : ∀ x, tm_R P (fun post => wX_rightAfter_84 post (J post) x1 x2 x3 x (tm_at u) (tm_kc u) (tm_kn u) (tm_g1 u) (tm_g2 u) (tm_g3 u) (tm_g4 u) (tm_g5 u) (tm_g6 u) (tm_g7 u) (tm_g8 u) (tm_g9 u) (tm_g10 u) (tm_g11 u) (tm_g12 u) (tm_g13 u) (tm_g14 u) (tm_g15 u) (tm_g16 u) (tm_g17 u) (tm_g18 u) (tm_g19 u) (tm_g20 u) (tm_g21 u) (tm_g22 u) (tm_g23 u) (tm_g24 u)) := by
    intro x
    exact tm_if _ Iff.rfl (fun _ => tm_ne (tm_ne (hJ _))) (fun _ => tm_ne (tm_ne (hJ _)))
  intro d
  induction d with
  | zero =>
    intro c hc hc' x
    exact tm_le 12 c rfl rfl (fun _ => j84 x) (fun h => absurd h (by omega))
  | succ d ih =>
    intro c hc hc' x
    refine tm_le 12 c rfl rfl (fun h => absurd h (by omega)) (fun h => ?_)
    refine tm_if _ Iff.rfl (fun _ => j84 x) (fun _ => ?_)
    refine tm_bind (tm_sameCells (u := u) (a := a + c) (b := b + c) (tm_ad rfl rfl rfl) (tm_ad rfl rfl rfl) (by omega) (by omega)) (fun v _ => ?_)
    refine tm_nm (nI (c + 1)) (nI_1 c) ?_
    exact ih (c + 1) (by omega) (by omega) _
theorem tm_ra4 {u : St1} {up : Int32} (h0 : tm_TI 0 u) (h1 : tm_TI 1 u) : ∀ d r, 6 - r = d → r ≤ 6 → ∀ x : Int32, tm_R (fun _ => True) (fun post => wX_rightAfter_4 post up (tm_at u) (tm_kc u) (tm_kn u) (tm_g1 u) (tm_g2 u) (tm_g3 u) (tm_g4 u) (tm_g5 u) (tm_g6 u) (tm_g7 u) (tm_g8 u) (tm_g9 u) (tm_g10 u) (tm_g11 u) (tm_g12 u) (tm_g13 u) (tm_g14 u) (tm_g15 u) (tm_g16 u) (tm_g17 u) (tm_g18 u) (tm_g19 u) (tm_g20 u) (tm_g21 u) (tm_g22 u) (tm_g23 u) (tm_g24 u) (d + 1) x (nI r)) := by
  intro d
  induction d with
  | zero =>
    intro r hr hr' x
    exact tm_le 6 r rfl rfl (fun _ => tm_ret trivial) (fun h => absurd h (by omega))
  | succ d ih =>
    intro r hr hr' x
    refine tm_le 6 r rfl rfl (fun h => absurd h (by omega)) (fun h => ?_)
    refine tm_ne ?_
    refine tm_if _ Iff.rfl (fun _ => ?_) (fun g1 => ?_)
    · exact tm_nm (nI (r + 1)) (nI_1 r) (ih (r + 1) (by omega) (by omega) x)
    refine tm_if _ Iff.rfl (fun _ => ?_) (fun g2 => ?_)
    · exact tm_nm (nI (r + 1)) (nI_1 r) (ih (r + 1) (by omega) (by omega) x)
    have ex : ∃ j, j < 6 ∧ nI r + up = nI j := by
      rcases pk_ix (nI r + up) (n := 6) (by omega) with z | z | z
      · exact absurd z g1
      · exact absurd z g2
      · exact z
    obtain ⟨j, hj, ej⟩ := ex
    have b0 := tm_lnb (by omega) h0 h
    have b1 := tm_lnb (by omega) h1 hj
    refine tm_bind (tm_lineOfL (t := 0) (u := u) (by omega) h0 rfl rfl h) (fun v hv => ?_)
    refine tm_bind (tm_lineOfL (t := 1) (u := u) (by omega) h1 rfl ej hj) (fun w hw => ?_)
    rw [hv, hw]
    exact tm_fu 13 (tm_ra50 (J := fun post => wX_rightAfter_4 post up (tm_at u) (tm_kc u) (tm_kn u) (tm_g1 u) (tm_g2 u) (tm_g3 u) (tm_g4 u) (tm_g5 u) (tm_g6 u) (tm_g7 u) (tm_g8 u) (tm_g9 u) (tm_g10 u) (tm_g11 u) (tm_g12 u) (tm_g13 u) (tm_g14 u) (tm_g15 u) (tm_g16 u) (tm_g17 u) (tm_g18 u) (tm_g19 u) (tm_g20 u) (tm_g21 u) (tm_g22 u) (tm_g23 u) (tm_g24 u) (d + 1)) (by omega) (by omega) (fun y => by rw [nI_1]; exact ih (r + 1) (by omega) (by omega) y) 12 0 rfl (by omega) 1)
theorem tm_rightAfter {u : St1} {up : Int32} (h0 : tm_TI 0 u) (h1 : tm_TI 1 u) : tm_R (fun _ => True) (fun post => wpX_rightAfter post u up) :=
  tm_fu 7 (tm_ra4 h0 h1 6 0 rfl (by omega) 0)
end
section
theorem tm_sq1 : ∀ i, i < 12 → ((6 : Int32) ≤ nI i - nI 5 ↔ 11 ≤ i) ∧ (nI i - nI 5) + 1 = nI (i + 1) - nI 5 ∧ (nI i - nI 5 ≤ 0 ↔ i ≤ 5) ∧ (0 ≤ nI i - nI 5 ↔ 5 ≤ i) ∧ (i ≤ 5 → -(nI i - nI 5) = nI (5 - i)) ∧ (5 ≤ i → nI i - nI 5 = nI (i - 5)) := by decide +kernel
theorem tm_sq2 : ∀ i, i < 24 → ((12 : Int32) ≤ nI i - nI 11 ↔ 23 ≤ i) ∧ (nI i - nI 11) + 1 = nI (i + 1) - nI 11 ∧ (nI i - nI 11 ≤ 0 ↔ i ≤ 11) ∧ (nI i - nI 11 = 0 ↔ i = 11) ∧ (i ≤ 11 → -(nI i - nI 11) = nI (11 - i)) ∧ (11 ≤ i → nI i - nI 11 = nI (i - 11)) := by decide +kernel
theorem tm_ss13 {u : St1} (h0 : tm_TI 0 u) (hH : tm_H u) : ∀ d i, 11 - i = d → i ≤ 11 → ∀ (a : Nat) (x : Int32), a ≤ 10 → tm_R (tm_Sh u) (fun post => wX_sendScroll_13 post (tm_at u) (tm_kc u) (tm_kn u) (tm_g1 u) (tm_g2 u) (tm_g3 u) (tm_g4 u) (tm_g5 u) (tm_g6 u) (tm_g7 u) (tm_g8 u) (tm_g9 u) (tm_g10 u) (tm_g11 u) (tm_g12 u) (tm_g13 u) (tm_g14 u) (tm_g15 u) (tm_g16 u) (tm_g17 u) (tm_g18 u) (tm_g19 u) (tm_g20 u) (tm_g21 u) (tm_g22 u) (tm_g23 u) (tm_g24 u) (d + 1) (nI a - nI 5) x (nI i - nI 5)) := by
  have h1 := hH.1
  intro d
  induction d with
  | zero =>
    intro i hi hi' a x ha
    have q := tm_sq1 i (by omega)
    have qa := tm_sq1 a (by omega)
    refine tm_if _ q.1 (fun _ => ?_) (fun h => absurd hi (by omega))
    refine tm_if _ qa.2.2.1 (fun g1 => ?_) (fun g1 => ?_)
    · refine tm_if _ qa.2.2.2.1 (fun g2 => tm_ret (tm_Sh0 hH)) (fun g2 => ?_)
      exact tm_sendOne (u := u) (n := 5 - a) (b := 84) h1 hH.2.1 (by omega) (by omega) (qa.2.2.2.2.1 (by omega)) rfl (by omega) rfl rfl (fun w f hf hl => tm_opScroll hH hl rfl (Or.inr rfl))
    · exact tm_sendOne (u := u) (n := a - 5) (b := 83) h1 hH.2.1 (by omega) (by omega) (qa.2.2.2.2.2 (by omega)) rfl (by omega) rfl rfl (fun w f hf hl => tm_opScroll hH hl rfl (Or.inl rfl))
  | succ d ih =>
    intro i hi hi' a x ha
    have q := tm_sq1 i (by omega)
    refine tm_if _ q.1 (fun h => absurd hi (by omega)) (fun _ => ?_)
    refine tm_bRA (tm_rightAfter (u := u) h0 h1) (fun v _ => ?_)
    refine tm_if _ Iff.rfl (fun _ => ?_) (fun _ => ?_)
    · exact tm_nm _ q.2.1 (ih (i + 1) (by omega) (by omega) a x ha)
    · exact tm_nm _ q.2.1 (ih (i + 1) (by omega) (by omega) i v (by omega))
theorem tm_sendScroll {u : St1} (h0 : tm_TI 0 u) (hH : tm_H u) : tm_R (tm_Sh u) (fun post => wpX_sendScroll post u) := by
  unfold wpX_sendScroll
  refine tm_bRA (tm_rightAfter (u := u) h0 hH.1) (fun v _ => ?_)
  refine tm_ne ?_
  exact tm_fu 12 (tm_ss13 h0 hH 11 0 rfl (by omega) 5 _ (by omega))
/-- a change of the shown row r from column c on, and of nothing else that is shown -/
def tm_Rc (u u' : St1) (r c : Nat) : Prop := tm_Sh u u' ∧ tm_Zs u u' ∧ ∀ i, (i < tm_ln 1 u r + c ∨ tm_ln 1 u r + 12 ≤ i) → tm_g1 u' i = tm_g1 u i ∧ tm_g2 u' i = tm_g2 u i
theorem tm_lnZ {u u' : St1} (h : tm_Zs u u') (r : Nat) : tm_ln 1 u' r = tm_ln 1 u r := by
  unfold tm_ln; rw [h.1, h.2]
theorem tm_lnF {u u' : St1} (hT : tm_TI 0 u) (h : tm_Fr 1 u u') {r : Nat} (hr : r < 6) : tm_ln 0 u' r = tm_ln 0 u r := by
  obtain ⟨k, s, hk, hs, ek, es, e⟩ := tm_lnE (by omega) hT hr
  have e12 : tm_g12 u' 0 = tm_g12 u 0 := (h.2.2.1 0 (by omega)).2.2.2.2.2.2.2.2.1
  unfold tm_ln
  rw [e12, ek, nI_clamp (by omega), h.2.1 _ (by omega)]
theorem tm_CeZ {u u' : St1} (h : tm_Ce u u') : tm_Zs u u' := ⟨h.2.2.1, h.2.2.2⟩
theorem tm_Zst {u v w : St1} (h : tm_Zs u v) (h' : tm_Zs v w) : tm_Zs u w := ⟨h'.1.trans h.1, h'.2.trans h.2⟩
theorem tm_sf17 {u : St1} {r c : Nat} (h0 : tm_TI 0 u) (hH : tm_H u) (hr : r < 6) (hc : c ≤ 11) : ∀ d i, 23 - i = d → i ≤ 23 → ∀ (a : Nat) (x : Int32), a ≤ 22 → tm_R (fun u' => tm_Rc u u' r c) (fun post => wX_sendShift_17 post (nI r) (nI c) (tm_at u) (tm_kc u) (tm_kn u) (tm_g1 u) (tm_g2 u) (tm_g3 u) (tm_g4 u) (tm_g5 u) (tm_g6 u) (tm_g7 u) (tm_g8 u) (tm_g9 u) (tm_g10 u) (tm_g11 u) (tm_g12 u) (tm_g13 u) (tm_g14 u) (tm_g15 u) (tm_g16 u) (tm_g17 u) (tm_g18 u) (tm_g19 u) (tm_g20 u) (tm_g21 u) (tm_g22 u) (tm_g23 u) (tm_g24 u) (d + 1) (nI a - nI 11) x (nI i - nI 11)) := by
  have h1 := hH.1
  intro d
  induction d with
  | zero =>
    intro i hi hi' a x ha
    have q := tm_sq2 i (by omega)
    have qa := tm_sq2 a (by omega)
    refine tm_if _ q.1 (fun _ => ?_) (fun h => absurd hi (by omega))
    refine tm_if _ qa.2.2.2.1 (fun _ => tm_ret ⟨tm_Sh0 hH, ⟨rfl, rfl⟩, fun _ _ => ⟨rfl, rfl⟩⟩) (fun ne => ?_)
    refine tm_bind (tm_sendMove (u := u) hH (by omega) hc rfl rfl) (fun v hv => ?_)
    obtain ⟨p1, p2, p3, p4, p5, p6⟩ := hv
    obtain ⟨k, s, hk, hs, ek, es, el⟩ := tm_lnE (by omega) p1.1.1 hr
    have fin : ∀ b y, (b = 80 ∨ b = 64) → y = nI b → ∀ w f, tm_Lw v w 1 f → tm_R (fun u' => tm_Rc u u' r c) (fun post => wpX_lastByte post w y) := by
      intro b y hb hy w f hl
      refine tm_imp (tm_opShift p1.1 hl p4 (by omega) p5 hc ek hk es hs hy hb) (fun u' hu => ?_)
      obtain ⟨q1, q2, q3⟩ := hu
      refine ⟨tm_Sht p1 q1, tm_Zst (tm_CeZ p2) q2, fun i hi => ?_⟩
      rw [← tm_lnZ (tm_CeZ p2) r, el] at hi
      have g := q3 i (by omega)
      rw [p2.1, p2.2.1] at g
      exact g
    refine tm_if _ qa.2.2.1 (fun g1 => ?_) (fun g1 => ?_)
    · exact tm_sendOne (u := v) (n := 11 - a) (b := 64) p1.1.1 p1.1.2.1 (by omega) (by omega) (qa.2.2.2.2.1 (by omega)) rfl (by omega) rfl rfl (fun w f _ hl => fin 64 _ (Or.inr rfl) rfl w f hl)
    · exact tm_sendOne (u := v) (n := a - 11) (b := 80) p1.1.1 p1.1.2.1 (by omega) (by omega) (qa.2.2.2.2.2 (by omega)) rfl (by omega) rfl rfl (fun w f _ hl => fin 80 _ (Or.inl rfl) rfl w f hl)
  | succ d ih =>
    intro i hi hi' a x ha
    have q := tm_sq2 i (by omega)
    refine tm_if _ q.1 (fun h => absurd hi (by omega)) (fun _ => ?_)
    refine tm_bind (tm_rightCells (u := u) h0 h1 hr rfl rfl (by omega)) (fun v _ => ?_)
    refine tm_if _ Iff.rfl (fun _ => ?_) (fun _ => ?_)
    · exact tm_nm _ q.2.1 (ih (i + 1) (by omega) (by omega) a x ha)
    · exact tm_nm _ q.2.1 (ih (i + 1) (by omega) (by omega) i v (by omega))
theorem tm_sendShift {u : St1} {r c : Nat} {x y : Int32} (h0 : tm_TI 0 u) (hH : tm_H u) (hr : r < 6) (hc : c ≤ 11) (hx : x = nI r) (hy : y = nI c) : tm_R (fun u' => tm_Rc u u' r c) (fun post => wpX_sendShift post u x y) := by
  unfold wpX_sendShift
  refine tm_bind (tm_rightCells (u := u) h0 hH.1 hr hx hy (by omega)) (fun v _ => ?_)
  refine tm_ne ?_
  rw [hx, hy]
  exact tm_fu 24 (tm_sf17 h0 hH hr hc 23 0 rfl (by omega) 11 _ (by omega))
theorem tm_isEmpty {a : Nat} {u : St1} {x : Int32} (hx : x = nI a) (ha : a < 288) : tm_R (fun v => (v = nI 1 ∧ tm_g1 u a = nI 32 ∧ tm_g2 u a = nI 0) ∨ v = nI 0) (fun post => wpX_isEmpty post u x) := by
  refine tm_and (tm_in hx ha) ?_
  refine tm_if (tm_g1 u a = nI 32) (by subst hx; rw [nI_clamp (by omega)]; exact Iff.rfl) (fun e1 => ?_) (fun _ => tm_ret (Or.inr rfl))
  refine tm_and (tm_in hx ha) ?_
  exact tm_if (tm_g2 u a = nI 0) (by subst hx; rw [nI_clamp (by omega)]; exact Iff.rfl) (fun e2 => tm_ret (Or.inl ⟨rfl, e1, e2⟩)) (fun _ => tm_ret (Or.inr rfl))
/-- the row's end from f on is empty in the fed row; the shown row may have been emptied there -/
def tm_Se (u u' : St1) (r : Nat) : Prop := tm_Sh u u' ∧ tm_Zs u u' ∧ ∃ f, f ≤ 12 ∧ (∀ j, f ≤ j → j < 12 → tm_g1 u (tm_ln 0 u r + j) = nI 32 ∧ tm_g2 u (tm_ln 0 u r + j) = nI 0) ∧ ((tm_g1 u' = tm_g1 u ∧ tm_g2 u' = tm_g2 u) ∨ (tm_g1 u' = tm_fl (tm_g1 u) (tm_ln 1 u r + f) (tm_ln 1 u r + 12) (nI 32) ∧ tm_g2 u' = tm_fl (tm_g2 u) (tm_ln 1 u r + f) (tm_ln 1 u r + 12) (nI 0)))
theorem tm_se66 {u : St1} {r f m : Nat} (hH : tm_H u) (hr : r < 6) (hf : f ≤ 12) (hm : m + f ≤ 12) (he : ∀ j, f ≤ j → j < 12 → tm_g1 u (tm_ln 0 u r + j) = nI 32 ∧ tm_g2 u (tm_ln 0 u r + j) = nI 0) : tm_R (fun u' => tm_Se u u' r) (fun post => wX_sendEnd_66 post (nI r) (nI f) (nI m) (tm_at u) (tm_kc u) (tm_kn u) (tm_g1 u) (tm_g2 u) (tm_g3 u) (tm_g4 u) (tm_g5 u) (tm_g6 u) (tm_g7 u) (tm_g8 u) (tm_g9 u) (tm_g10 u) (tm_g11 u) (tm_g12 u) (tm_g13 u) (tm_g14 u) (tm_g15 u) (tm_g16 u) (tm_g17 u) (tm_g18 u) (tm_g19 u) (tm_g20 u) (tm_g21 u) (tm_g22 u) (tm_g23 u) (tm_g24 u)) := by
  refine tm_lt m 3 rfl rfl (fun _ => tm_ret ⟨tm_Sh0 hH, ⟨rfl, rfl⟩, f, hf, he, Or.inl ⟨rfl, rfl⟩⟩) (fun h3 => ?_)
  refine tm_bind (tm_sendMove (u := u) hH (r := r) (c := f) (by omega) (by omega) rfl rfl) (fun v hv => ?_)
  obtain ⟨p1, p2, p3, p4, p5, p6⟩ := hv
  obtain ⟨k, s, hk, hs, ek, es, el⟩ := tm_lnE (by omega) p1.1.1 hr
  refine tm_bind (tm_send27 p1.1.1 rfl) (fun w hw => ?_)
  refine tm_bind (tm_send91 p1.1.1 hw rfl) (fun w hw => ?_)
  obtain ⟨g, hg, hps⟩ := hw
  refine tm_sendLast (b := 75) p1.1.1 p1.1.2.1 hps rfl (by omega) rfl rfl (fun w hl => ?_)
  refine tm_imp (tm_opErase p1.1 hl hg p4 (by omega) p5 (by omega) ek hk es hs rfl) (fun u' hu => ?_)
  obtain ⟨q1, q2, q3, q4⟩ := hu
  refine ⟨tm_Sht p1 q1, tm_Zst (tm_CeZ p2) q2, f, hf, he, Or.inr ⟨?_, ?_⟩⟩
  · rw [q3, p2.1, ← tm_lnZ (tm_CeZ p2) r, el]
  · rw [q4, p2.2.1, ← tm_lnZ (tm_CeZ p2) r, el]
theorem tm_se21 {u : St1} {r : Nat} (h0 : tm_TI 0 u) (hH : tm_H u) (hr : r < 6) : ∀ f m, f ≤ 12 → m + f ≤ 12 → (∀ j, f ≤ j → j < 12 → tm_g1 u (tm_ln 0 u r + j) = nI 32 ∧ tm_g2 u (tm_ln 0 u r + j) = nI 0) → tm_R (fun u' => tm_Se u u' r) (fun post => wX_sendEnd_21 post (nI r) (nI (tm_ln 0 u r)) (nI (tm_ln 1 u r)) (tm_at u) (tm_kc u) (tm_kn u) (tm_g1 u) (tm_g2 u) (tm_g3 u) (tm_g4 u) (tm_g5 u) (tm_g6 u) (tm_g7 u) (tm_g8 u) (tm_g9 u) (tm_g10 u) (tm_g11 u) (tm_g12 u) (tm_g13 u) (tm_g14 u) (tm_g15 u) (tm_g16 u) (tm_g17 u) (tm_g18 u) (tm_g19 u) (tm_g20 u) (tm_g21 u) (tm_g22 u) (tm_g23 u) (tm_g24 u) (f + 1) (nI f) (nI m)) := by
  have b0 := tm_lnb (by omega) h0 hr
  have b1 := tm_lnb (by omega) hH.1 hr
  intro f
  induction f with
  | zero =>
    intro m hf hm he
    exact tm_le 0 0 rfl rfl (fun _ => tm_se66 hH hr hf hm he) (fun h => absurd h (by omega))
  | succ f ih =>
    intro m hf hm he
    refine tm_le (f + 1) 0 rfl rfl (fun h => absurd h (by omega)) (fun _ => ?_)
    refine tm_bind (tm_isEmpty (u := u) (a := tm_ln 0 u r + f) (tm_su (b := 1) (tm_ad rfl rfl rfl) rfl (by omega) (by omega)) (by omega)) (fun v hv => ?_)
    rcases hv with hv | hv
    · refine tm_f (by rw [hv.1]; decide) ?_
      refine tm_nm (nI f) (pk_m1 f) ?_
      have he' : ∀ j, f ≤ j → j < 12 → tm_g1 u (tm_ln 0 u r + j) = nI 32 ∧ tm_g2 u (tm_ln 0 u r + j) = nI 0 := by
        intro j h1 h2
        by_cases z : j = f
        · rw [z]; exact hv.2
        · exact he j (by omega) h2
      refine tm_bind (tm_isEmpty (u := u) (a := tm_ln 1 u r + f) (tm_ad rfl rfl rfl) (by omega)) (fun w hw => ?_)
      refine tm_if _ Iff.rfl (fun _ => ?_) (fun _ => ?_)
      · exact tm_nm (nI (m + 1)) (nI_1 m) (ih (m + 1) (by omega) (by omega) he')
      · exact tm_nm (nI m) (Int32.add_zero _) (ih m (by omega) (by omega) he')
    · exact tm_t (by rw [hv]; rfl) (tm_se66 hH hr hf hm he)
theorem tm_sendEnd {u : St1} {r : Nat} {x : Int32} (h0 : tm_TI 0 u) (hH : tm_H u) (hr : r < 6) (hx : x = nI r) : tm_R (fun u' => tm_Se u u' r) (fun post => wpX_sendEnd post u x) := by
  unfold wpX_sendEnd
  refine tm_bind (tm_lineOfL (t := 0) (u := u) (by omega) h0 rfl hx hr) (fun v hv => ?_)
  refine tm_bind (tm_lineOfL (t := 1) (u := u) (by omega) hH.1 rfl hx hr) (fun w hw => ?_)
  rw [hv, hw, hx]
  exact tm_fu 13 (tm_se21 h0 hH hr 12 0 (by omega) (by omega) (fun j h1 h2 => absurd h1 (by omega)))
/-- shown cells of row r below column m may have become those of the fed row; nothing else that is shown has changed -/
def tm_Br (u u' : St1) (r m : Nat) : Prop := tm_Sh u u' ∧ tm_Zs u u' ∧ ∀ i, (tm_g1 u' i = tm_g1 u i ∧ tm_g2 u' i = tm_g2 u i) ∨ (∃ c, c < m ∧ i = tm_ln 1 u r + c ∧ tm_g1 u' i = tm_g1 u (tm_ln 0 u r + c) ∧ tm_g2 u' i = tm_g2 u (tm_ln 0 u r + c))
theorem tm_sb105 {u : St1} {r m q p : Nat} (h0 : tm_TI 0 u) (hH : tm_H u) (hr : r < 6) (hm : m ≤ 11) (hp : p ≤ 7) : ∀ d c, m - c = d → c ≤ m → ∀ v, tm_Br u v r m → (q = 1 → tm_g4 v 1 = nI r ∧ tm_g5 v 1 = nI c ∧ tm_g6 v 1 = nI 0 ∧ tm_g7 v 1 = nI p ∧ ∀ j, c ≤ j → j < m → tm_g2 u (tm_ln 0 u r + j) = nI p) → q ≤ 1 → tm_R (fun u' => tm_Br u u' r m) (fun post => wX_sendBridge_105 post (nI m) (nI (tm_ln 0 u r)) (nI q) (d + 1) (nI c) (tm_at v) (tm_kc v) (tm_kn v) (tm_g1 v) (tm_g2 v) (tm_g3 v) (tm_g4 v) (tm_g5 v) (tm_g6 v) (tm_g7 v) (tm_g8 v) (tm_g9 v) (tm_g10 v) (tm_g11 v) (tm_g12 v) (tm_g13 v) (tm_g14 v) (tm_g15 v) (tm_g16 v) (tm_g17 v) (tm_g18 v) (tm_g19 v) (tm_g20 v) (tm_g21 v) (tm_g22 v) (tm_g23 v) (tm_g24 v)) := by
  have b0 := tm_lnb (by omega) h0 hr
  intro d
  induction d with
  | zero =>
    intro c hc hc' v hv hq hq1
    exact tm_le m c rfl rfl (fun _ => tm_ret hv) (fun h => absurd h (by omega))
  | succ d ih =>
    intro c hc hc' v hv hq hq1
    refine tm_le m c rfl rfl (fun h => absurd h (by omega)) (fun h => ?_)
    refine tm_eq q 0 rfl rfl (fun _ => tm_ret hv) (fun nq => ?_)
    obtain ⟨e4, e5, e6, e7, e2⟩ := hq (by omega)
    have e : nI (tm_ln 0 u r) + nI c = nI (tm_ln 0 u r + c) := tm_ad rfl rfl rfl
    refine tm_and (tm_in e (by omega)) ?_
    obtain ⟨b, hb, hb1, eb⟩ := (h0.1 (tm_ln 0 u r + c) (by omega) (by omega)).1
    have eb' : tm_g1 v (tm_ln 0 u r + c) = nI b := by rw [(hv.1.2.1 _ (by omega)).1]; exact eb
    obtain ⟨k, s, hk, hs, ek, es, el⟩ := tm_lnE (by omega) hv.1.1.1 hr
    rw [tm_lnZ hv.2.1] at el
    refine tm_bind (tm_sendSign (u := v) (b := b) hv.1.1 e4 (by omega) e5 (by omega) e6 e7 hp ek hk es hs (tm_at_ e eb') hb hb1) (fun w hw => ?_)
    obtain ⟨q1, q2, q3, q4, q5, q6, q7⟩ := hw
    obtain ⟨q8, q9⟩ := q7 (by omega)
    refine tm_nm (nI (c + 1)) (nI_1 c) ?_
    refine ih (c + 1) (by omega) (by omega) w ⟨tm_Sht hv.1 q1, tm_Zst hv.2.1 q2, fun i => ?_⟩ (fun _ => ⟨q5, q8, q9, q6, fun j h1 h2 => e2 j (by omega) h2⟩) hq1
    by_cases z : i = tm_ln 1 u r + c
    · refine Or.inr ⟨c, h, z, ?_, ?_⟩
      · rw [q3, z, el, pk_us, eb]
      · rw [q4, z, el, pk_us, e2 c (by omega) h]
    · rw [q3, q4, pk_un (by rw [← el]; exact z), pk_un (by rw [← el]; exact z)]
      exact hv.2.2 i
theorem tm_sb59 {u : St1} {r m p c0 : Nat} (h0 : tm_TI 0 u) (hH : tm_H u) (hr : r < 6) (hm : m ≤ 11) (hp : p ≤ 7) (e7 : tm_g7 u 1 = nI p) (hc0 : c0 ≤ 11) (e5 : tm_g5 u 1 = nI c0) : ∀ d c q, m - c = d → c ≤ 11 → q ≤ 1 → (q = 1 → c ≤ m ∧ c0 ≤ c ∧ tm_g4 u 1 = nI r ∧ tm_g6 u 1 = nI 0 ∧ ∀ j, c0 ≤ j → j < c → tm_g2 u (tm_ln 0 u r + j) = nI p) → tm_R (fun u' => tm_Br u u' r m) (fun post => wX_sendBridge_59 post (nI m) (nI (tm_ln 0 u r)) (nI c0) (tm_at u) (tm_kc u) (tm_kn u) (tm_g1 u) (tm_g2 u) (tm_g3 u) (tm_g4 u) (tm_g5 u) (tm_g6 u) (tm_g7 u) (tm_g8 u) (tm_g9 u) (tm_g10 u) (tm_g11 u) (tm_g12 u) (tm_g13 u) (tm_g14 u) (tm_g15 u) (tm_g16 u) (tm_g17 u) (tm_g18 u) (tm_g19 u) (tm_g20 u) (tm_g21 u) (tm_g22 u) (tm_g23 u) (tm_g24 u) (d + 1) (nI q) (nI c)) := by
  have b0 := tm_lnb (by omega) h0 hr
  have br0 : tm_Br u u r m := ⟨tm_Sh0 hH, ⟨rfl, rfl⟩, fun i => Or.inl ⟨rfl, rfl⟩⟩
  have z105 : ∀ q, q = 0 → tm_R (fun u' => tm_Br u u' r m) (fun post => ∃ fu, wX_sendBridge_105 post (nI m) (nI (tm_ln 0 u r)) (nI q) fu (nI c0) (tm_at u) (tm_kc u) (tm_kn u) (tm_g1 u) (tm_g2 u) (tm_g3 u) (tm_g4 u) (tm_g5 u) (tm_g6 u) (tm_g7 u) (tm_g8 u) (tm_g9 u) (tm_g10 u) (tm_g11 u) (tm_g12 u) (tm_g13 u) (tm_g14 u) (tm_g15 u) (tm_g16 u) (tm_g17 u) (tm_g18 u) (tm_g19 u) (tm_g20 u) (tm_g21 u) (tm_g22 u) (tm_g23 u) (tm_g24 u)) := by
    intro q hq
    refine tm_fu 1 ?_
    refine tm_if _ Iff.rfl (fun _ => tm_ret br0) (fun _ => ?_)
    exact tm_t (by rw [hq]; rfl) (tm_ret br0)
  intro d
  induction d with
  | zero =>
    intro c q hc hc' hq1 hq
    refine tm_le m c rfl rfl (fun h => ?_) (fun h => absurd h (by omega))
    by_cases z : q = 0
    · exact z105 q z
    · obtain ⟨g1, g2, g3, g4, g5⟩ := hq (by omega)
      exact tm_fu _ (tm_sb105 h0 hH hr hm hp _ c0 rfl (by omega) u br0 (fun _ => ⟨g3, e5, g4, e7, fun j h1 h2 => g5 j h1 (by omega)⟩) hq1)
  | succ d ih =>
    intro c q hc hc' hq1 hq
    refine tm_le m c rfl rfl (fun h => absurd h (by omega)) (fun h => ?_)
    refine tm_eq q 0 rfl rfl (fun z => z105 q z) (fun z => ?_)
    obtain ⟨g1, g2, g3, g4, g5⟩ := hq (by omega)
    have e : nI (tm_ln 0 u r) + nI c = nI (tm_ln 0 u r + c) := tm_ad rfl rfl rfl
    refine tm_and (tm_in e (by omega)) ?_
    refine tm_if (tm_g2 u (tm_ln 0 u r + c) = nI p) (by
      constructor
      · exact fun w => (tm_at_ (f := tm_g2 u) e rfl).symm.trans (w.trans e7)
      · exact fun w => (tm_at_ e w).trans e7.symm) (fun w => ?_) (fun w => ?_)
    · refine tm_nm (nI (c + 1)) (nI_1 c) ?_
      refine ih (c + 1) 1 (by omega) (by omega) (by omega) (fun _ => ⟨by omega, by omega, g3, g4, fun j h1 h2 => ?_⟩)
      by_cases zz : j = c
      · rw [zz]; exact w
      · exact g5 j h1 (by omega)
    · refine tm_nm (nI (c + 1)) (nI_1 c) ?_
      exact ih (c + 1) 0 (by omega) (by omega) (by omega) (fun z => absurd z (by omega))
theorem tm_sendBridge {u : St1} {r m : Nat} {x y : Int32} (h0 : tm_TI 0 u) (hH : tm_H u) (hr : r < 6) (hm : m ≤ 11) (hx : x = nI r) (hy : y = nI m) : tm_R (fun u' => tm_Br u u' r m) (fun post => wpX_sendBridge post u x y) := by
  obtain ⟨r0, hr0, er⟩ := hH.1.2.2.1
  obtain ⟨c0, hc0, ec⟩ := hH.1.2.2.2.1
  obtain ⟨p, hp, ep⟩ := hH.1.2.2.2.2.2.1
  unfold wpX_sendBridge
  refine tm_bind (tm_lineOfL (t := 0) (u := u) (by omega) h0 rfl hx hr) (fun v hv => ?_)
  rw [hv, hy]
  refine tm_nm (nI c0) ec ?_
  have j0 : tm_R (fun u' => tm_Br u u' r m) (fun post => ∃ fu, wX_sendBridge_59 post (nI m) (nI (tm_ln 0 u r)) (nI c0) (tm_at u) (tm_kc u) (tm_kn u) (tm_g1 u) (tm_g2 u) (tm_g3 u) (tm_g4 u) (tm_g5 u) (tm_g6 u) (tm_g7 u) (tm_g8 u) (tm_g9 u) (tm_g10 u) (tm_g11 u) (tm_g12 u) (tm_g13 u) (tm_g14 u) (tm_g15 u) (tm_g16 u) (tm_g17 u) (tm_g18 u) (tm_g19 u) (tm_g20 u) (tm_g21 u) (tm_g22 u) (tm_g23 u) (tm_g24 u) fu 0 (nI c0)) := tm_fu _ (tm_sb59 h0 hH hr hm hp ep hc0 ec _ c0 0 rfl hc0 (by omega) (by omega))
  refine tm_eq r0 r er hx (fun e => ?_) (fun _ => j0)
  refine tm_if (tm_g6 u 1 = nI 0) Iff.rfl (fun e6 => ?_) (fun _ => j0)
  refine tm_le m c0 rfl rfl (fun _ => j0) (fun h => ?_)
  refine tm_if _ Iff.rfl (fun _ => j0) (fun _ => ?_)
  exact tm_fu _ (tm_sb59 h0 hH hr hm hp ep hc0 ec _ c0 1 rfl hc0 (by omega) (fun _ => ⟨by omega, by omega, by rw [er, e], e6, fun j h1 h2 => absurd h1 (by omega)⟩))
end
section
theorem tm_bindP {α β γ : Type} {P : α → Prop} {Q : β × γ → Prop} {V : (β → γ → Prop) → Prop} {K : (α → Prop) → β → γ → Prop} (hV : tm_R Q (fun post => V (fun b c => post (b, c)))) (hK : ∀ b c, Q (b, c) → tm_R P (fun post => K post b c)) : tm_R P (fun post => V (K post)) := by
  obtain ⟨⟨b, c⟩, hb, hv⟩ := hV
  obtain ⟨a, ha, hw⟩ := hK b c hb
  exact ⟨a, ha, fun post hp => hv (fun x => K post x.1 x.2) (hw post hp)⟩
theorem tm_F0 {u v : St1} (h : tm_Fr 1 u v) {i : Nat} (hi : i < 144) : tm_g1 v i = tm_g1 u i ∧ tm_g2 v i = tm_g2 u i := h.1 i (by omega)
def tm_Pr (u v : St1) (r c : Nat) : Prop := ∀ j, j < c → tm_eqc v (tm_ln 0 u r + j) (tm_ln 1 u r + j)
theorem tm_sr34 {u : St1} {r : Nat} (h0 : tm_TI 0 u) (hH : tm_H u) (hr : r < 6) : ∀ d c, 12 - c = d → c ≤ 12 → ∀ v, tm_Rc u v r 0 → tm_Pr u v r c → tm_R (fun u' => tm_Rc u u' r 0 ∧ tm_Pr u u' r 12) (fun post => wX_sendRow_34 post (nI r) (nI (tm_ln 0 u r)) (d + 1) (nI c) (tm_at v) (tm_kc v) (tm_kn v) (tm_g1 v) (tm_g2 v) (tm_g3 v) (tm_g4 v) (tm_g5 v) (tm_g6 v) (tm_g7 v) (tm_g8 v) (tm_g9 v) (tm_g10 v) (tm_g11 v) (tm_g12 v) (tm_g13 v) (tm_g14 v) (tm_g15 v) (tm_g16 v) (tm_g17 v) (tm_g18 v) (tm_g19 v) (tm_g20 v) (tm_g21 v) (tm_g22 v) (tm_g23 v) (tm_g24 v)) := by
  have b0 := tm_lnb (by omega) h0 hr
  have b1 := tm_lnb (by omega) hH.1 hr
  intro d
  induction d with
  | zero =>
    intro c hc hc' v hv hp
    refine tm_le 12 c rfl rfl (fun h => ?_) (fun h => absurd h (by omega))
    exact tm_ret ⟨hv, fun j hj => hp j (by omega)⟩
  | succ d ih =>
    intro c hc hc' v hv hp
    refine tm_le 12 c rfl rfl (fun h => absurd h (by omega)) (fun h => ?_)
    have v0 : tm_TI 0 v := tm_TIf hv.1.2 (by omega) (by omega) (by omega) h0
    have l1 : tm_ln 1 v r = tm_ln 1 u r := tm_lnZ hv.2.1 r
    have l0 : tm_ln 0 v r = tm_ln 0 u r := tm_lnF h0 hv.1.2 hr
    refine tm_bind (tm_lineOfL (t := 1) (u := v) (by omega) hv.1.1.1 rfl rfl hr) (fun x hx => ?_)
    rw [l1] at hx
    refine tm_bind (tm_sameCells (u := v) (a := tm_ln 0 u r + c) (b := tm_ln 1 u r + c) (tm_ad rfl rfl rfl) (tm_ad hx rfl rfl) (by omega) (by omega)) (fun y hy => ?_)
    rcases hy with hy | hy
    · refine tm_f (by rw [hy.1]; decide) ?_
      refine tm_nm (nI (c + 1)) (nI_1 c) ?_
      refine ih (c + 1) (by omega) (by omega) v hv (fun j hj => ?_)
      by_cases z : j = c
      · rw [z]; exact hy.2
      · exact hp j (by omega)
    refine tm_t (by rw [hy.1]; rfl) ?_
    refine tm_bind (tm_sendBridge (u := v) (r := r) (m := c) v0 hv.1.1 hr (by omega) rfl rfl) (fun w1 hw1 => ?_)
    obtain ⟨s1, z1, c1⟩ := hw1
    rw [l0, l1] at c1
    refine tm_bind (tm_sendMove (u := w1) (r := r) (c := c) s1.1 (by omega) (by omega) rfl rfl) (fun w2 hw2 => ?_)
    obtain ⟨s2, e2, _, m4, m5, m6⟩ := hw2
    have z2 := tm_CeZ e2
    have e : nI (tm_ln 0 u r) + nI c = nI (tm_ln 0 u r + c) := tm_ad rfl rfl rfl
    refine tm_and (tm_in e (by omega)) ?_
    have f2 : tm_Sh u w2 := tm_Sht hv.1 (tm_Sht s1 s2)
    obtain ⟨p, hp7, ep⟩ := (h0.1 (tm_ln 0 u r + c) (by omega) (by omega)).2
    have ep2 : tm_g2 w2 (tm_ln 0 u r + c) = nI p := by rw [(tm_F0 f2.2 (by omega)).2]; exact ep
    refine tm_bind (tm_sendPen (u := w2) (p := p) s2.1 (by omega) (tm_at_ e ep2)) (fun w3 hw3 => ?_)
    obtain ⟨s3, e3, n4, n5, n6, n7⟩ := hw3
    have z3 := tm_CeZ e3
    have f3 : tm_Sh u w3 := tm_Sht f2 s3
    refine tm_and (tm_in e (by omega)) ?_
    obtain ⟨b, hb, hb1, eb⟩ := (h0.1 (tm_ln 0 u r + c) (by omega) (by omega)).1
    have eb3 : tm_g1 w3 (tm_ln 0 u r + c) = nI b := by rw [(tm_F0 f3.2 (by omega)).1]; exact eb
    have zz : tm_Zs u w3 := tm_Zst hv.2.1 (tm_Zst z1 (tm_Zst z2 z3))
    obtain ⟨k, s, hk, hs, ek, es, el⟩ := tm_lnE (by omega) s3.1.1 hr
    rw [tm_lnZ zz] at el
    refine tm_bind (tm_sendSign (u := w3) (b := b) (r := r) (c := c) (p := p) s3.1 (n4.trans m4) (by omega) (n5.trans m5) (by omega) (n6.trans m6) n7 hp7 ek hk es hs (tm_at_ e eb3) hb hb1) (fun w4 hw4 => ?_)
    obtain ⟨s4, z4, g1, g2, _⟩ := hw4
    have f4 : tm_Sh u w4 := tm_Sht f3 s4
    refine tm_nm (nI (c + 1)) (nI_1 c) ?_
    have cells : ∀ i, i ≠ tm_ln 1 u r + c → tm_g1 w4 i = tm_g1 w1 i ∧ tm_g2 w4 i = tm_g2 w1 i := by
      intro i hi
      rw [g1, g2, pk_un (by omega), pk_un (by omega), e3.1, e3.2.1, e2.1, e2.2.1]
      exact ⟨rfl, rfl⟩
    refine ih (c + 1) (by omega) (by omega) w4 ⟨f4, tm_Zst zz z4, fun i hi => ?_⟩ (fun j hj => ?_)
    · have q1 := cells i (by omega)
      have q2 := hv.2.2 i hi
      rcases c1 i with q3 | ⟨c', hc', ei, _⟩
      · exact ⟨q1.1.trans (q3.1.trans q2.1), q1.2.trans (q3.2.trans q2.2)⟩
      · omega
    · unfold tm_eqc
      rw [(tm_F0 f4.2 (i := tm_ln 0 u r + j) (by omega)).1, (tm_F0 f4.2 (i := tm_ln 0 u r + j) (by omega)).2]
      by_cases z : j = c
      · subst z
        rw [g1, g2, el, pk_us, pk_us, eb, ep]
        exact ⟨rfl, rfl⟩
      · have q1 := cells (tm_ln 1 u r + j) (by omega)
        have q4 := hp j (by omega)
        unfold tm_eqc at q4
        rw [(tm_F0 hv.1.2 (i := tm_ln 0 u r + j) (by omega)).1, (tm_F0 hv.1.2 (i := tm_ln 0 u r + j) (by omega)).2] at q4
        rcases c1 (tm_ln 1 u r + j) with q3 | ⟨c', hc', ei, q5, q6⟩
        · rw [q1.1, q1.2, q3.1, q3.2]; exact q4
        · have : j = c' := by omega
          subst this
          rw [q1.1, q1.2, q5, q6, (tm_F0 hv.1.2 (i := tm_ln 0 u r + j) (by omega)).1, (tm_F0 hv.1.2 (i := tm_ln 0 u r + j) (by omega)).2]
          exact ⟨rfl, rfl⟩
theorem tm_sendRow {u : St1} {r : Nat} {x : Int32} (h0 : tm_TI 0 u) (hH : tm_H u) (hr : r < 6) (hx : x = nI r) : tm_R (fun u' => tm_Rc u u' r 0 ∧ tm_Pr u u' r 12) (fun post => wpX_sendRow post u x) := by
  have b0 := tm_lnb (by omega) h0 hr
  have b1 := tm_lnb (by omega) hH.1 hr
  unfold wpX_sendRow
  refine tm_bind (tm_firstStale (u := u) h0 hH.1 hr hx) (fun y hy => ?_)
  obtain ⟨c, hc, ec, hp⟩ := hy
  refine tm_eq c 12 ec rfl (fun e => ?_) (fun ne => ?_)
  · subst e
    exact tm_ret ⟨⟨tm_Sh0 hH, ⟨rfl, rfl⟩, fun _ _ => ⟨rfl, rfl⟩⟩, hp⟩
  refine tm_bind (tm_sendShift (u := u) h0 hH hr (by omega) hx ec) (fun v hv => ?_)
  have v0 : tm_TI 0 v := tm_TIf hv.1.2 (by omega) (by omega) (by omega) h0
  have l1 : tm_ln 1 v r = tm_ln 1 u r := tm_lnZ hv.2.1 r
  have l0 : tm_ln 0 v r = tm_ln 0 u r := tm_lnF h0 hv.1.2 hr
  refine tm_bind (tm_sendEnd (u := v) v0 hv.1.1 hr hx) (fun w hw => ?_)
  obtain ⟨s2, z2, f, hf, he, hcell⟩ := hw
  rw [l1] at hcell
  rw [l0] at he
  have sw : tm_Sh u w := tm_Sht hv.1 s2
  have zw : tm_Zs u w := tm_Zst hv.2.1 z2
  have w0 : tm_TI 0 w := tm_TIf sw.2 (by omega) (by omega) (by omega) h0
  refine tm_bind (tm_lineOfL (t := 0) (u := w) (by omega) w0 rfl hx hr) (fun y hy => ?_)
  rw [hy, hx, ec, tm_lnF h0 sw.2 hr]
  refine tm_fu _ (tm_sr34 h0 hH hr _ c rfl hc w ⟨sw, zw, fun i hi => ?_⟩ (fun j hj => ?_))
  · have q1 := hv.2.2 i (by omega)
    rcases hcell with q | q
    · rw [q.1, q.2]; exact q1
    · rw [q.1, q.2, tm_fl_out (by omega), tm_fl_out (by omega)]; exact q1
  · have q1 := hv.2.2 (tm_ln 1 u r + j) (by omega)
    have q2 := hp j hj
    unfold tm_eqc at q2 ⊢
    rw [(tm_F0 sw.2 (i := tm_ln 0 u r + j) (by omega)).1, (tm_F0 sw.2 (i := tm_ln 0 u r + j) (by omega)).2]
    rcases hcell with q | q
    · rw [q.1, q.2, q1.1, q1.2]; exact q2
    · by_cases z : f ≤ j
      · have q3 := he j z (by omega)
        rw [(tm_F0 hv.1.2 (i := tm_ln 0 u r + j) (by omega)).1, (tm_F0 hv.1.2 (i := tm_ln 0 u r + j) (by omega)).2] at q3
        rw [q.1, q.2, tm_fl_in (by omega) (by omega), tm_fl_in (by omega) (by omega)]
        exact q3
      · rw [q.1, q.2, tm_fl_out (by omega), tm_fl_out (by omega), q1.1, q1.2]; exact q2
/-- what refresh leaves -/
def tm_Rf (u u' : St1) : Prop := tm_Sh u u' ∧ ∀ q, q < 6 → tm_req u' q
theorem tm_rf15 {u : St1} {x : Int32} (h0 : tm_TI 0 u) : ∀ d r, 6 - r = d → r ≤ 6 → ∀ v, tm_Sh u v → (∀ q, q < r → tm_req v q) → tm_R (fun y => y.1 = x ∧ tm_Rf u y.2) (fun post => wX_refresh_15 (fun b c => post (b, c)) x (d + 1) (nI r) (tm_at v) (tm_kc v) (tm_kn v) (tm_g1 v) (tm_g2 v) (tm_g3 v) (tm_g4 v) (tm_g5 v) (tm_g6 v) (tm_g7 v) (tm_g8 v) (tm_g9 v) (tm_g10 v) (tm_g11 v) (tm_g12 v) (tm_g13 v) (tm_g14 v) (tm_g15 v) (tm_g16 v) (tm_g17 v) (tm_g18 v) (tm_g19 v) (tm_g20 v) (tm_g21 v) (tm_g22 v) (tm_g23 v) (tm_g24 v)) := by
  intro d
  induction d with
  | zero =>
    intro r hr hr' v hv hq
    refine tm_le 6 r rfl rfl (fun h => ?_) (fun h => absurd h (by omega))
    exact tm_ret (a := (x, tm_sat v (nI 0))) ⟨rfl, hv, fun q hq' => hq q (by omega)⟩
  | succ d ih =>
    intro r hr hr' v hv hq
    refine tm_le 6 r rfl rfl (fun h => absurd h (by omega)) (fun h => ?_)
    have v0 : tm_TI 0 v := tm_TIf hv.2 (by omega) (by omega) (by omega) h0
    refine tm_bind (tm_sendRow (u := v) (r := r) v0 hv.1 h rfl) (fun w hw => ?_)
    obtain ⟨hc, hp⟩ := hw
    refine tm_nm (nI (r + 1)) (nI_1 r) ?_
    refine ih (r + 1) (by omega) (by omega) w (tm_Sht hv hc.1) (fun q hq' => ?_)
    intro c hc12
    have bq := tm_lnb (by omega) v0 (show q < 6 by omega)
    rw [tm_lnZ hc.2.1 q, tm_lnF v0 hc.1.2 (show q < 6 by omega)]
    by_cases z : q = r
    · subst z; exact hp c hc12
    · have g := hq q (by omega) c hc12
      have dj := tm_lnj (by omega) hv.1.1 h (show q < 6 by omega) z
      have g2 := hc.2.2 (tm_ln 1 v q + c) (by omega)
      unfold tm_eqc at g ⊢
      rw [(tm_F0 hc.1.2 (i := tm_ln 0 v q + c) (by omega)).1, (tm_F0 hc.1.2 (i := tm_ln 0 v q + c) (by omega)).2, g2.1, g2.2]
      exact g
theorem tm_refresh {u : St1} {x : Int32} (h0 : tm_TI 0 u) (hH : tm_H u) (hs : ∀ post : Int32 → Prop, post x → wpX_stale post u) : tm_R (fun y => y.1 = x ∧ tm_Rf u y.2) (fun post => wpX_refresh (fun b c => post (b, c)) u) := by
  have hs' : tm_R (fun v => v = x) (fun post => wpX_stale post u) := ⟨x, rfl, hs⟩
  unfold wpX_refresh
  refine tm_bST hs' (fun v hv => ?_)
  subst hv
  refine tm_if _ Iff.rfl (fun _ => ?_) (fun _ => ?_)
  · exact tm_fu 7 (tm_rf15 h0 6 0 rfl (by omega) u (tm_Sh0 hH) (fun q hq => absurd hq (by omega)))
  · refine tm_bind (V := fun post => wpX_sendScroll post u) (tm_sendScroll (u := u) h0 hH) (fun w hw => ?_)
    exact tm_fu 7 (tm_rf15 h0 6 0 rfl (by omega) w hw (fun q hq => absurd hq (by omega)))
end
section
theorem tm_bF {α : Type} {P : α → Prop} {Q : Int32 × St1 → Prop} {u : St1} {x : Int32} {K : (α → Prop) → Int32 → St1 → Prop} (hV : tm_R Q (fun post => wpX_feed (fun b c => post (b, c)) u x)) (hK : ∀ b c, Q (b, c) → tm_R P (fun post => K post b c)) : tm_R P (fun post => wpX_feed (K post) u x) := tm_bindP (V := fun p => wpX_feed p u x) hV hK
theorem tm_bF3 {α : Type} {P : α → Prop} {Q : Int32 × St1 → Prop} {u : St1} {x : Int32} {K : (α → Prop) → Int32 → St1 → Prop} (hV : tm_R Q (fun post => wpX_feedThree (fun b c => post (b, c)) u x)) (hK : ∀ b c, Q (b, c) → tm_R P (fun post => K post b c)) : tm_R P (fun post => wpX_feedThree (K post) u x) := tm_bindP (V := fun p => wpX_feedThree p u x) hV hK
def tm_Iv (u : St1) : Prop := tm_TI 0 u ∧ tm_H u
/-- behind feeds: well, what is shown untouched; c: bytes that may clear were among them -/
def tm_Fd (u u' : St1) (c : Prop) : Prop := tm_Iv u' ∧ tm_Fr 0 u u' ∧ (¬ c → tm_kc u ≤ tm_kc u')
theorem tm_FdQ {b : Nat} {u u' : St1} (hI : tm_Iv u) (h : tm_Oq 0 b u u') : tm_Fd u u' (b = 99) := by
  have hk : ∀ w : St1, tm_Ok 0 w u' → tm_Fr 0 u u' → tm_Iv u' := by
    intro w h hF
    obtain ⟨e4, e5, e6, e7, e8, e9, e10, e11, e12, e13, e14, e15, e16, e17, e18, e19, e20, e21, e22⟩ := hF.2.2.1 1 (by omega)
    exact ⟨h.2.1, tm_TIf hF (by omega) (by omega) (by omega) hI.2.1, h.2.2.1, e20.trans hI.2.2.2.1, e10.trans hI.2.2.2.2⟩
  rcases h with h | h
  · exact ⟨hk u h h.2.2.2.1, h.2.2.2.1, fun _ => h.2.2.2.2⟩
  · exact ⟨hk _ h.2 h.2.2.2.2.1, h.2.2.2.2.1, fun z => absurd h.1 z⟩
theorem tm_Fdt {u v w : St1} {c d e : Prop} (h : tm_Fd u v c) (h' : tm_Fd v w d) (he : c ∨ d → e) : tm_Fd u w e :=
  ⟨h'.1, tm_Frt h.2.1 h'.2.1, fun z => Int32.le_trans (h.2.2 (fun y => z (he (Or.inl y)))) (h'.2.2 (fun y => z (he (Or.inr y))))⟩
theorem tm_Fdi {u v : St1} {c d : Prop} (h : tm_Fd u v c) (hd : c → d) : tm_Fd u v d := ⟨h.1, h.2.1, fun z => h.2.2 (fun y => z (hd y))⟩
theorem tm_feedV {b : Nat} {u v : St1} {x : Int32} (hx : x = nI b) (hb : b < 128) (hw : ∀ post : St1 → Prop, post v → wpX_read post u 0 (nI b)) : tm_R (fun y => y.2 = v) (fun post => wpX_feed (fun b c => post (b, c)) u x) := by
  have hr : tm_R (fun y => y = v) (fun post => wpX_read post u 0 (nI b)) := ⟨v, rfl, hw⟩
  subst hx
  refine tm_f (nI_pos (by omega)) ?_
  refine tm_t (nI_le (b := 127) (by omega) (by omega)) ?_
  refine tm_bind hr (fun y hy => ?_)
  exact tm_ret (a := ((1 : Int32), y)) hy
theorem tm_feed {b : Nat} {u : St1} {x : Int32} (hI : tm_Iv u) (hx : x = nI b) (hb : b < 128) : tm_R (fun y => tm_Rq b u y.2 ∧ tm_Fd u y.2 (b = 99)) (fun post => wpX_feed (fun b c => post (b, c)) u x) := by
  obtain ⟨v, hv, hw⟩ := tm_readF (x := 0) hI.1 hI.2.2.1 rfl (rfl : nI b = nI b) hb
  exact tm_imp (tm_feedV hx hb hw) (fun y hy => by rw [hy]; exact ⟨hv, tm_FdQ hI hv.1⟩)
theorem tm_n3 {N : Nat} (hN : N < 2097152) : (nI N &&& 127 = nI (N % 128)) ∧ ((nI N >>> ((7 : Int32) &&& 31)) &&& 127 = nI (N / 128 % 128)) ∧ (nI N >>> ((14 : Int32) &&& 31) = nI (N / 16384)) := by
  refine ⟨pk_andN (by omega) 7 (by decide), ?_, pk_shrN (by omega) _ 14 (by decide)⟩
  rw [pk_shrN (by omega) _ 7 (by decide)]
  exact pk_andN (by omega) 7 (by decide)
theorem tm_feed3V {N : Nat} {u v1 v2 v3 : St1} {x : Int32} (hx : x = nI N) (hN : N < 2097152) (w1 : ∀ post : St1 → Prop, post v1 → wpX_read post u 0 (nI (N % 128))) (w2 : ∀ post : St1 → Prop, post v2 → wpX_read post v1 0 (nI (N / 128 % 128))) (w3 : ∀ post : St1 → Prop, post v3 → wpX_read post v2 0 (nI (N / 16384))) : tm_R (fun y => y.2 = v3) (fun post => wpX_feedThree (fun b c => post (b, c)) u x) := by
  subst hx
  obtain ⟨n1, n2, n3⟩ := tm_n3 hN
  have r1 : tm_R (fun y => y = v1) (fun post => wpX_read post u 0 (nI N &&& 127)) := by rw [n1]; exact ⟨v1, rfl, w1⟩
  have r2 : tm_R (fun y => y = v2) (fun post => wpX_read post v1 0 ((nI N >>> ((7 : Int32) &&& 31)) &&& 127)) := by rw [n2]; exact ⟨v2, rfl, w2⟩
  have r3 : tm_R (fun y => y = v3) (fun post => wpX_read post v2 0 (nI N >>> ((14 : Int32) &&& 31))) := by rw [n3]; exact ⟨v3, rfl, w3⟩
  refine tm_f (nI_pos (by omega)) ?_
  refine tm_t (nI_le (b := 2097151) (by omega) (by omega)) ?_
  refine tm_bind r1 (fun y hy => ?_)
  subst hy
  refine tm_bind r2 (fun y hy => ?_)
  subst hy
  refine tm_bind r3 (fun y hy => ?_)
  exact tm_ret (a := ((1 : Int32), y)) hy
/-- three bytes read one behind another -/
theorem tm_three {N : Nat} {u : St1} (hI : tm_Iv u) (hN : N < 2097152) : ∃ v1 v2 v3, (∀ post : St1 → Prop, post v1 → wpX_read post u 0 (nI (N % 128))) ∧ (∀ post : St1 → Prop, post v2 → wpX_read post v1 0 (nI (N / 128 % 128))) ∧ (∀ post : St1 → Prop, post v3 → wpX_read post v2 0 (nI (N / 16384))) ∧ tm_Fd u v3 (N % 128 = 99 ∨ N / 128 % 128 = 99 ∨ N / 16384 = 99) := by
  obtain ⟨v1, h1, w1⟩ := tm_readF (x := 0) hI.1 hI.2.2.1 rfl (rfl : nI (N % 128) = nI (N % 128)) (by omega)
  have f1 := tm_FdQ hI h1.1
  obtain ⟨v2, h2, w2⟩ := tm_readF (x := 0) f1.1.1 f1.1.2.2.1 rfl (rfl : nI (N / 128 % 128) = nI (N / 128 % 128)) (by omega)
  have f2 := tm_FdQ f1.1 h2.1
  obtain ⟨v3, h3, w3⟩ := tm_readF (x := 0) f2.1.1 f2.1.2.2.1 rfl (rfl : nI (N / 16384) = nI (N / 16384)) (by omega)
  have f3 := tm_FdQ f2.1 h3.1
  exact ⟨v1, v2, v3, w1, w2, w3, tm_Fdt (tm_Fdt f1 f2 (e := N % 128 = 99 ∨ N / 128 % 128 = 99) id) f3 (fun z => by omega)⟩
theorem tm_feedThree {N : Nat} {u : St1} {x : Int32} (hI : tm_Iv u) (hx : x = nI N) (hN : N < 2097152) : tm_R (fun y => tm_Fd u y.2 (N % 128 = 99 ∨ N / 128 % 128 = 99 ∨ N / 16384 = 99)) (fun post => wpX_feedThree (fun b c => post (b, c)) u x) := by
  obtain ⟨v1, v2, v3, w1, w2, w3, h⟩ := tm_three hI hN
  exact tm_imp (tm_feed3V hx hN w1 w2 w3) (fun y hy => by rw [hy]; exact h)
theorem tm_la226 {u : St1} {q b : Nat} {x z : Int32} (hI : tm_Iv u) (hx : x = nI q) (hq : q < 8) (hz : z = nI b) (hb : b < 128) (hb9 : b ≠ 99) : tm_R (fun u' => tm_Fd u u' False) (fun post => wL_last_226 post x z (tm_at u) (tm_kc u) (tm_kn u) (tm_g1 u) (tm_g2 u) (tm_g3 u) (tm_g4 u) (tm_g5 u) (tm_g6 u) (tm_g7 u) (tm_g8 u) (tm_g9 u) (tm_g10 u) (tm_g11 u) (tm_g12 u) (tm_g13 u) (tm_g14 u) (tm_g15 u) (tm_g16 u) (tm_g17 u) (tm_g18 u) (tm_g19 u) (tm_g20 u) (tm_g21 u) (tm_g22 u) (tm_g23 u) (tm_g24 u)) := by
  unfold wL_last_226
  refine tm_bF3 (u := u) (tm_feedThree (N := 59 + 128 * (48 + q) + 16384 * b) hI (tm_ad (tm_ad (a := 59) rfl (tm_ml (a := 128) rfl (tm_ad (a := 48) rfl hx rfl) rfl) rfl) (tm_ml (a := 16384) rfl hz rfl) rfl) (by omega)) (fun r v hv => ?_)
  exact tm_ret (tm_Fdi hv (fun z => by omega))
theorem tm_la21 {u : St1} {N : Nat} {x z : Int32} (hI : tm_Iv u) (hz : z = nI N) (hN : N < 2097152) (h9 : ¬ (N % 128 = 99 ∨ N / 128 % 128 = 99 ∨ N / 16384 = 99)) : tm_R (fun u' => tm_Fd u u' False) (fun post => wL_last_21 post x z (tm_at u) (tm_kc u) (tm_kn u) (tm_g1 u) (tm_g2 u) (tm_g3 u) (tm_g4 u) (tm_g5 u) (tm_g6 u) (tm_g7 u) (tm_g8 u) (tm_g9 u) (tm_g10 u) (tm_g11 u) (tm_g12 u) (tm_g13 u) (tm_g14 u) (tm_g15 u) (tm_g16 u) (tm_g17 u) (tm_g18 u) (tm_g19 u) (tm_g20 u) (tm_g21 u) (tm_g22 u) (tm_g23 u) (tm_g24 u)) := by
  unfold wL_last_21
  refine tm_bF3 (u := u) (tm_feedThree hI hz hN) (fun r v hv => ?_)
  have hv' : tm_Fd u v (N % 128 = 99 ∨ N / 128 % 128 = 99 ∨ N / 16384 = 99) := hv
  refine tm_if _ Iff.rfl (fun _ => ?_) (fun _ => ?_)
  · unfold wL_last_39
    refine tm_bF (u := v) (tm_feed (b := 108) hv'.1 rfl (by omega)) (fun r w hw => ?_)
    exact tm_ret (tm_Fdt hv' hw.2 (fun z => by omega))
  · unfold wL_last_39
    refine tm_bF (u := v) (tm_feed (b := 32) hv'.1 rfl (by omega)) (fun r w hw => ?_)
    exact tm_ret (tm_Fdt hv' hw.2 (fun z => by omega))
theorem tm_last {u : St1} {q n : Nat} {x1 x2 x3 x4 : Int32} (hI : tm_Iv u) (h3 : x3 = nI q) (hq : q < 8) (h4 : x4 = nI n) (hn : n < 32) : tm_R (fun u' => tm_Fd u u' False) (fun post => wpL_last post u x1 x2 x3 x4) := by
  refine tm_if _ Iff.rfl (fun _ => ?_) (fun _ => ?_)
  · refine tm_if _ Iff.rfl (fun _ => ?_) (fun _ => ?_)
    · exact tm_la21 (N := 13367) hI rfl (by omega) (by omega)
    · exact tm_la21 (N := 1711284) hI rfl (by omega) (by omega)
  refine tm_and (by decide) ?_
  refine tm_nm (nI (n % 22)) (by rw [h4]; exact pk_rem (d := 22) (by omega) (by omega) (by omega)) ?_
  refine tm_le 8 (n % 22) rfl rfl (fun _ => ?_) (fun h8 => tm_la226 hI h3 hq (tm_ad (a := 64) rfl rfl rfl) (by omega) (by omega))
  refine tm_if _ Iff.rfl (fun _ => tm_la226 (b := 72) hI h3 hq rfl (by omega) (by omega)) (fun _ => ?_)
  refine tm_if _ Iff.rfl (fun _ => tm_la226 (b := 74) hI h3 hq rfl (by omega) (by omega)) (fun _ => ?_)
  refine tm_if _ Iff.rfl (fun _ => tm_la226 (b := 75) hI h3 hq rfl (by omega) (by omega)) (fun _ => ?_)
  refine tm_if _ Iff.rfl (fun _ => tm_la226 (b := 76) hI h3 hq rfl (by omega) (by omega)) (fun _ => ?_)
  refine tm_if _ Iff.rfl (fun _ => tm_la226 (b := 77) hI h3 hq rfl (by omega) (by omega)) (fun _ => ?_)
  refine tm_if _ Iff.rfl (fun _ => tm_la226 (b := 80) hI h3 hq rfl (by omega) (by omega)) (fun _ => ?_)
  refine tm_if _ Iff.rfl (fun _ => tm_la226 (b := 83) hI h3 hq rfl (by omega) (by omega)) (fun _ => ?_)
  refine tm_if _ Iff.rfl (fun _ => tm_la226 (b := 84) hI h3 hq rfl (by omega) (by omega)) (fun _ => ?_)
  refine tm_if _ Iff.rfl (fun _ => tm_la226 (b := 88) hI h3 hq rfl (by omega) (by omega)) (fun _ => ?_)
  refine tm_if _ Iff.rfl (fun _ => tm_la226 (b := 100) hI h3 hq rfl (by omega) (by omega)) (fun _ => ?_)
  refine tm_if _ Iff.rfl (fun _ => tm_la226 (b := 114) hI h3 hq rfl (by omega) (by omega)) (fun _ => ?_)
  refine tm_if _ Iff.rfl (fun _ => tm_la226 (b := 109) hI h3 hq rfl (by omega) (by omega)) (fun _ => ?_)
  exact tm_if _ Iff.rfl (fun _ => tm_la226 (b := 104) hI h3 hq rfl (by omega) (by omega)) (fun _ => tm_la226 (b := 108) hI h3 hq rfl (by omega) (by omega))
theorem tm_by223 {u : St1} {q p : Nat} {x1 x2 x3 x4 z0 z1 z2 : Int32} (hI : tm_Iv u) (h4 : x4 = nI q) (hq : q < 8) (h0 : z0 = nI p) (hp : p < 64) (h1 : z1 = nI 16384) (h2 : z2 = nI 11675) : tm_R (fun u' => tm_Fd u u' False) (fun post => wL_bytes_223 post x1 x2 x3 x4 z0 z1 z2 (tm_at u) (tm_kc u) (tm_kn u) (tm_g1 u) (tm_g2 u) (tm_g3 u) (tm_g4 u) (tm_g5 u) (tm_g6 u) (tm_g7 u) (tm_g8 u) (tm_g9 u) (tm_g10 u) (tm_g11 u) (tm_g12 u) (tm_g13 u) (tm_g14 u) (tm_g15 u) (tm_g16 u) (tm_g17 u) (tm_g18 u) (tm_g19 u) (tm_g20 u) (tm_g21 u) (tm_g22 u) (tm_g23 u) (tm_g24 u)) := by
  unfold wL_bytes_223
  refine tm_bF3 (u := u) (tm_feedThree (N := 11675 + 16384 * p) hI (tm_ad h2 (tm_ml h1 h0 rfl) rfl) (by omega)) (fun r v hv => ?_)
  have hv' : tm_Fd u v ((11675 + 16384 * p) % 128 = 99 ∨ (11675 + 16384 * p) / 128 % 128 = 99 ∨ (11675 + 16384 * p) / 16384 = 99) := hv
  obtain ⟨n, hn, en⟩ := pk_andE (x1 >>> ((10 : Int32) &&& 31)) (m := 31) 5 (by decide)
  refine tm_imp (tm_last hv'.1 h4 hq en hn) (fun w hw => tm_Fdt hv' hw (fun z => ?_))
  rcases z with z | z
  · omega
  · exact z
theorem tm_by182 {u : St1} {b : Nat} {z : Int32} (hI : tm_Iv u) (hz : z = nI b) (hb : b < 128) : tm_R (fun u' => tm_Fd u u' (b = 99)) (fun post => wL_bytes_182 post z (tm_at u) (tm_kc u) (tm_kn u) (tm_g1 u) (tm_g2 u) (tm_g3 u) (tm_g4 u) (tm_g5 u) (tm_g6 u) (tm_g7 u) (tm_g8 u) (tm_g9 u) (tm_g10 u) (tm_g11 u) (tm_g12 u) (tm_g13 u) (tm_g14 u) (tm_g15 u) (tm_g16 u) (tm_g17 u) (tm_g18 u) (tm_g19 u) (tm_g20 u) (tm_g21 u) (tm_g22 u) (tm_g23 u) (tm_g24 u)) := by
  unfold wL_bytes_182
  refine tm_bF (u := u) (tm_feed (b := 27) hI rfl (by omega)) (fun r v hv => ?_)
  refine tm_bF (u := v) (tm_feed hv.2.1 hz hb) (fun r w hw => ?_)
  exact tm_ret (tm_Fdt hv.2 hw.2 (fun z => by omega))
theorem tm_by100 {u : St1} {b : Nat} {z : Int32} (hI : tm_Iv u) (hz : z = nI b) (hb : b < 128) (h9 : b ≠ 99) : tm_R (fun u' => tm_Fd u u' False) (fun post => wL_bytes_100 post z (tm_at u) (tm_kc u) (tm_kn u) (tm_g1 u) (tm_g2 u) (tm_g3 u) (tm_g4 u) (tm_g5 u) (tm_g6 u) (tm_g7 u) (tm_g8 u) (tm_g9 u) (tm_g10 u) (tm_g11 u) (tm_g12 u) (tm_g13 u) (tm_g14 u) (tm_g15 u) (tm_g16 u) (tm_g17 u) (tm_g18 u) (tm_g19 u) (tm_g20 u) (tm_g21 u) (tm_g22 u) (tm_g23 u) (tm_g24 u)) := by
  unfold wL_bytes_100
  refine tm_bF (u := u) (tm_feed hI hz hb) (fun r v hv => ?_)
  exact tm_ret (tm_Fdi hv.2 (fun z => by omega))
theorem tm_bytes {u : St1} {X : Int32} {w p : Nat} (hI : tm_Iv u) (ew : X &&& 15 = nI w) (hw : w < 16) (ep : (X >>> ((4 : Int32) &&& 31)) &&& 7 = nI p) (hp : p < 8) : tm_R (fun u' => tm_Fd u u' (6 ≤ w ∧ w < 8 ∧ p = 7)) (fun post => wpL_bytes post u X) := by
  obtain ⟨q, hq, eq⟩ := pk_andE (X >>> ((7 : Int32) &&& 31)) (m := 7) 3 (by decide)
  obtain ⟨s, hs, es⟩ := pk_andE (X >>> ((4 : Int32) &&& 31)) (m := 63) 6 (by decide)
  refine tm_nm (nI w) ew ?_
  refine tm_nm (nI p) ep ?_
  refine tm_nm (nI q) eq ?_
  have j : ∀ {W : (St1 → Prop) → Prop}, tm_R (fun u' => tm_Fd u u' False) W → tm_R (fun u' => tm_Fd u u' (6 ≤ w ∧ w < 8 ∧ p = 7)) W := fun h => tm_imp h (fun _ hu => tm_Fdi hu False.elim)
  have j2 : ∀ {b : Nat} {W : (St1 → Prop) → Prop}, b ≠ 99 → tm_R (fun u' => tm_Fd u u' (b = 99)) W → tm_R (fun u' => tm_Fd u u' (6 ≤ w ∧ w < 8 ∧ p = 7)) W := fun hb h => tm_imp h (fun _ hu => tm_Fdi hu (fun z => absurd z hb))
  refine tm_le 5 w rfl rfl (fun h5 => ?_) (fun h5 => ?_)
  · refine tm_le 6 w rfl rfl (fun h6 => ?_) (fun h6 => ?_)
    · refine tm_le 8 w rfl rfl (fun h8 => ?_) (fun h8 => ?_)
      · refine tm_if _ Iff.rfl (fun _ => ?_) (fun _ => ?_)
        · exact j (tm_by223 (p := 63) hI rfl hq rfl (by omega) rfl rfl)
        · exact j (tm_by223 (p := 48 + p) hI rfl hq (tm_ad (a := 48) rfl rfl rfl) (by omega) rfl rfl)
      · refine tm_le 2 p rfl rfl (fun _ => ?_) (fun _ => j2 (b := 77) (by omega) (tm_by182 hI rfl (by omega)))
        refine tm_le 3 p rfl rfl (fun _ => ?_) (fun _ => j2 (b := 55) (by omega) (tm_by182 hI rfl (by omega)))
        refine tm_le 4 p rfl rfl (fun _ => ?_) (fun _ => j2 (b := 56) (by omega) (tm_by182 hI rfl (by omega)))
        refine tm_le 5 p rfl rfl (fun _ => ?_) (fun _ => j2 (b := 68) (by omega) (tm_by182 hI rfl (by omega)))
        refine tm_le 6 p rfl rfl (fun _ => ?_) (fun _ => j2 (b := 69) (by omega) (tm_by182 hI rfl (by omega)))
        refine tm_le 7 p rfl rfl (fun h7 => ?_) (fun _ => j2 (b := 77) (by omega) (tm_by182 hI rfl (by omega)))
        exact tm_imp (tm_by182 (b := 99) hI rfl (by omega)) (fun _ hu => tm_Fdi hu (fun _ => by omega))
    · refine tm_le 2 p rfl rfl (fun _ => ?_) (fun _ => j (tm_by100 (b := 10) hI rfl (by omega) (by omega)))
      refine tm_le 3 p rfl rfl (fun _ => ?_) (fun _ => j (tm_by100 (b := 8) hI rfl (by omega) (by omega)))
      refine tm_le 4 p rfl rfl (fun _ => ?_) (fun _ => j (tm_by100 (b := 9) hI rfl (by omega) (by omega)))
      exact tm_le 5 p rfl rfl (fun _ => j (tm_by100 (b := 10) hI rfl (by omega) (by omega))) (fun _ => j (tm_by100 (b := 13) hI rfl (by omega) (by omega)))
  · refine tm_bF (u := u) (tm_feed (b := 33 + s) hI (tm_ad (a := 33) rfl es rfl) (by omega)) (fun r v hv => ?_)
    refine tm_bF (u := v) (tm_feed (b := 65 + p) hv.2.1 (tm_ad (a := 65) rfl rfl rfl) (by omega)) (fun r w' hw' => ?_)
    exact tm_ret (tm_Fdt hv.2 hw'.2 (fun z => by omega))
end
section
theorem tm_isCell {r c : Nat} {x y : Int32} (hx : x = nI r) (hy : y = nI c) (hr : r < 6) (hc : c < 12) : tm_R (fun v => v = nI 1) (fun post => wpX_isCell post () x y) := by
  subst hx hy
  refine tm_f (nI_pos (by omega)) ?_
  refine tm_f (nI_ge (b := 6) hr (by omega)) ?_
  refine tm_f (nI_pos (by omega)) ?_
  refine tm_f (nI_ge (b := 12) hc (by omega)) ?_
  exact tm_ret rfl
theorem tm_sign {u : St1} {r c : Nat} {x y : Int32} (h0 : tm_TI 0 u) (hr : r < 6) (hc : c < 12) (hx : x = nI r) (hy : y = nI c) : tm_R (fun v => v = tm_g1 u (tm_ln 0 u r + c)) (fun post => wpX_sign post u x y) := by
  have b0 := tm_lnb (by omega) h0 hr
  unfold wpX_sign
  refine tm_bind (tm_isCell hx hy hr hc) (fun v hv => ?_)
  refine tm_f (by rw [hv]; decide) ?_
  refine tm_bind (tm_lineOfL (t := 0) (u := u) (by omega) h0 rfl hx hr) (fun w hw => ?_)
  have e : w + y = nI (tm_ln 0 u r + c) := tm_ad hw hy rfl
  refine tm_and (tm_in e (by omega)) ?_
  exact tm_ret (tm_at_ e rfl)
theorem tm_style {u : St1} {r c : Nat} {x y : Int32} (h0 : tm_TI 0 u) (hr : r < 6) (hc : c < 12) (hx : x = nI r) (hy : y = nI c) : tm_R (fun v => v = tm_g2 u (tm_ln 0 u r + c)) (fun post => wpX_style post u x y) := by
  have b0 := tm_lnb (by omega) h0 hr
  unfold wpX_style
  refine tm_bind (tm_isCell hx hy hr hc) (fun v hv => ?_)
  refine tm_f (by rw [hv]; decide) ?_
  refine tm_bind (tm_lineOfL (t := 0) (u := u) (by omega) h0 rfl hx hr) (fun w hw => ?_)
  have e : w + y = nI (tm_ln 0 u r + c) := tm_ad hw hy rfl
  refine tm_and (tm_in e (by omega)) ?_
  exact tm_ret (tm_at_ e rfl)
def tm_sv (u : St1) (r c : Nat) : Int32 := tm_g1 u (tm_ln 1 u r + c) + 128 * tm_g2 u (tm_ln 1 u r + c)
theorem tm_shown {u : St1} {r c : Nat} {x y : Int32} (h1 : tm_TI 1 u) (hr : r < 6) (hc : c < 12) (hx : x = nI r) (hy : y = nI c) : tm_R (fun v => v = tm_sv u r c) (fun post => wpX_shown post u x y) := by
  have b0 := tm_lnb (by omega) h1 hr
  unfold wpX_shown
  refine tm_bind (tm_isCell hx hy hr hc) (fun v hv => ?_)
  refine tm_f (by rw [hv]; decide) ?_
  refine tm_bind (tm_lineOfL (t := 1) (u := u) (by omega) h1 rfl hx hr) (fun w hw => ?_)
  have e : w + y = nI (tm_ln 1 u r + c) := tm_ad hw hy rfl
  refine tm_and (tm_in e (by omega)) ?_
  refine tm_and (tm_in e (by omega)) ?_
  refine tm_ret ?_
  show tm_g1 u (w + y).toNatClampNeg + 128 * tm_g2 u (w + y).toNatClampNeg = tm_sv u r c
  rw [tm_cl e]; rfl
theorem tm_k12 {k : Nat} (hk : k < 72) : nI k / 12 = nI (k / 12) ∧ nI k - nI k / 12 * 12 = nI (k % 12) := ⟨pk_div (d := 12) (by omega) (by omega) (by omega), pk_rem (d := 12) (by omega) (by omega) (by omega)⟩
def tm_hs (u : St1) : Nat → Int64
  | 0 => 0
  | k + 1 => tm_hs u k * 1009 + (tm_sv u (k / 12) (k % 12)).toInt64
theorem tm_sh4 {u : St1} (h1 : tm_TI 1 u) : ∀ d k, 72 - k = d → k ≤ 72 → tm_R (fun v => v = tm_hs u 72) (fun post => wL_shown_4 post (tm_at u) (tm_kc u) (tm_kn u) (tm_g1 u) (tm_g2 u) (tm_g3 u) (tm_g4 u) (tm_g5 u) (tm_g6 u) (tm_g7 u) (tm_g8 u) (tm_g9 u) (tm_g10 u) (tm_g11 u) (tm_g12 u) (tm_g13 u) (tm_g14 u) (tm_g15 u) (tm_g16 u) (tm_g17 u) (tm_g18 u) (tm_g19 u) (tm_g20 u) (tm_g21 u) (tm_g22 u) (tm_g23 u) (tm_g24 u) (d + 1) (tm_hs u k) (nI k)) := by
  intro d
  induction d with
  | zero =>
    intro k hk hk'
    refine tm_le 72 k rfl rfl (fun _ => ?_) (fun h => absurd h (by omega))
    rw [show k = 72 by omega]
    exact tm_ret rfl
  | succ d ih =>
    intro k hk hk'
    refine tm_le 72 k rfl rfl (fun h => absurd h (by omega)) (fun h => ?_)
    obtain ⟨e1, e2⟩ := tm_k12 h
    refine tm_and (by decide) (tm_and (by decide) ?_)
    refine tm_bind (tm_shown (u := u) h1 (r := k / 12) (c := k % 12) (by omega) (by omega) e1 e2) (fun v hv => ?_)
    refine tm_nm (tm_hs u (k + 1)) (by rw [hv]; rfl) ?_
    refine tm_nm (nI (k + 1)) (nI_1 k) ?_
    exact ih (k + 1) (by omega) (by omega)
theorem tm_shownL {u : St1} (h1 : tm_TI 1 u) : tm_R (fun v => v = tm_hs u 72) (fun post => wpL_shown post u) :=
  tm_fu 73 (tm_sh4 h1 72 0 rfl (by omega))
theorem tm_svF {u u' : St1} (hT : tm_TI 1 u) (h : tm_Fr 0 u u') {r c : Nat} (hr : r < 6) (hc : c < 12) : tm_sv u' r c = tm_sv u r c := by
  obtain ⟨k, s, hk, hs, ek, es, e⟩ := tm_lnE (by omega) hT hr
  have e12 : tm_g12 u' 1 = tm_g12 u 1 := (h.2.2.1 1 (by omega)).2.2.2.2.2.2.2.2.1
  have el : tm_ln 1 u' r = tm_ln 1 u r := by
    unfold tm_ln
    rw [e12, ek, nI_clamp (by omega), h.2.1 _ (by omega)]
  unfold tm_sv
  rw [el, (h.1 (tm_ln 1 u r + c) (by omega)).1, (h.1 (tm_ln 1 u r + c) (by omega)).2]
theorem tm_hsF {u u' : St1} (hT : tm_TI 1 u) (h : tm_Fr 0 u u') : ∀ k, k ≤ 72 → tm_hs u' k = tm_hs u k := by
  intro k
  induction k with
  | zero => intro _; rfl
  | succ k ih =>
    intro hk
    show tm_hs u' k * 1009 + (tm_sv u' (k / 12) (k % 12)).toInt64 = tm_hs u k * 1009 + (tm_sv u (k / 12) (k % 12)).toInt64
    rw [ih (by omega), tm_svF hT h (by omega) (by omega)]
theorem tm_keptRows {u : St1} : tm_R (fun v => v = tm_kc u) (fun post => wpX_keptRows post u) := by
  unfold wpX_keptRows
  exact tm_ret rfl
theorem tm_bK {α : Type} {P : α → Prop} {u : St1} {K : (α → Prop) → Int32 → Prop} (hK : tm_R P (fun post => K post (tm_kc u))) : tm_R P (fun post => wpX_keptRows (K post) u) :=
  tm_bind (V := fun p => wpX_keptRows p u) tm_keptRows (fun b hb => by rw [hb]; exact hK)
theorem tm_bo86 {u : St1} (h0 : tm_TI 0 u) (hG : tm_G u) : ∀ d k, 72 - k = d → k ≤ 72 → tm_R (fun v => v = nI 1) (fun post => wL_bounds_86 post (tm_at u) (tm_kc u) (tm_kn u) (tm_g1 u) (tm_g2 u) (tm_g3 u) (tm_g4 u) (tm_g5 u) (tm_g6 u) (tm_g7 u) (tm_g8 u) (tm_g9 u) (tm_g10 u) (tm_g11 u) (tm_g12 u) (tm_g13 u) (tm_g14 u) (tm_g15 u) (tm_g16 u) (tm_g17 u) (tm_g18 u) (tm_g19 u) (tm_g20 u) (tm_g21 u) (tm_g22 u) (tm_g23 u) (tm_g24 u) (d + 1) 1 (nI k)) := by
  intro d
  induction d with
  | zero =>
    intro k hk hk'
    obtain ⟨n, hn, en⟩ := hG.1
    refine tm_le 72 k rfl rfl (fun _ => ?_) (fun h => absurd h (by omega))
    refine tm_f (by decide) ?_
    refine tm_bK (u := u) ?_
    refine tm_f (by rw [en]; exact nI_pos (by omega)) ?_
    refine tm_bK (u := u) ?_
    refine tm_f (by rw [en]; exact nI_nlt (a := 8) hn (by omega)) ?_
    exact tm_ret rfl
  | succ d ih =>
    intro k hk hk'
    refine tm_le 72 k rfl rfl (fun h => absurd h (by omega)) (fun h => ?_)
    obtain ⟨e1, e2⟩ := tm_k12 h
    have b0 := tm_lnb (by omega) h0 (show k / 12 < 6 by omega)
    obtain ⟨⟨b, hb, hb1, eb⟩, ⟨p, hp, ep⟩⟩ := h0.1 (tm_ln 0 u (k / 12) + k % 12) (by omega) (by omega)
    refine tm_and (by decide) (tm_and (by decide) ?_)
    refine tm_bind (tm_sign (u := u) h0 (r := k / 12) (c := k % 12) (by omega) (by omega) e1 e2) (fun v hv => ?_)
    refine tm_and (by decide) (tm_and (by decide) ?_)
    refine tm_bind (tm_style (u := u) h0 (r := k / 12) (c := k % 12) (by omega) (by omega) e1 e2) (fun w hw => ?_)
    rw [eb] at hv
    rw [ep] at hw
    refine tm_f (by decide) ?_
    refine tm_lt b 32 hv rfl (fun z => absurd z (by omega)) (fun _ => ?_)
    refine tm_lt 126 b rfl hv (fun z => absurd z (by omega)) (fun _ => ?_)
    refine tm_f (by rw [hw]; exact nI_pos (by omega)) ?_
    refine tm_lt 7 p rfl hw (fun z => absurd z (by omega)) (fun _ => ?_)
    refine tm_nm (nI (k + 1)) (nI_1 k) ?_
    exact ih (k + 1) (by omega) (by omega)
theorem tm_region {u : St1} {p q : Nat} (e8 : tm_g8 u 0 = nI p) (e9 : tm_g9 u 0 = nI q) : tm_R (fun v => v = nI (p + 10 * q)) (fun post => wpX_region post u) := by
  unfold wpX_region
  exact tm_ret (tm_ad e8 (tm_ml (a := 10) rfl e9 rfl) rfl)
theorem tm_bRg {α : Type} {P : α → Prop} {u : St1} {x : Int32} {K : (α → Prop) → Int32 → Prop} (hV : tm_R (fun v => v = x) (fun post => wpX_region post u)) (hK : tm_R P (fun post => K post x)) : tm_R P (fun post => wpX_region (K post) u) :=
  tm_bind (V := fun p => wpX_region p u) hV (fun b hb => by rw [hb]; exact hK)
theorem tm_bRo {α : Type} {P : α → Prop} {u : St1} {x : Int32} {K : (α → Prop) → Int32 → Prop} (e : tm_g4 u 0 = x) (hK : tm_R P (fun post => K post x)) : tm_R P (fun post => wpX_row (K post) u) :=
  tm_bind (V := fun p => wpX_row p u) (Q := fun v => v = x) (by unfold wpX_row; exact tm_ret e) (fun b hb => by rw [hb]; exact hK)
theorem tm_bCo {α : Type} {P : α → Prop} {u : St1} {x : Int32} {K : (α → Prop) → Int32 → Prop} (e : tm_g5 u 0 = x) (hK : tm_R P (fun post => K post x)) : tm_R P (fun post => wpX_column (K post) u) :=
  tm_bind (V := fun p => wpX_column p u) (Q := fun v => v = x) (by unfold wpX_column; exact tm_ret e) (fun b hb => by rw [hb]; exact hK)
theorem tm_bounds {u : St1} (h0 : tm_TI 0 u) (hG : tm_G u) : tm_R (fun v => v = nI 1) (fun post => wpL_bounds post u) := by
  have h0' := h0
  obtain ⟨_, _, ⟨r, hr, er⟩, ⟨c, hc, ec⟩, h6, _, ⟨p, q, hpq, hq, e8, e9⟩, _⟩ := h0'
  have loop : tm_R (fun v => v = nI 1) (fun post => ∃ fu, wL_bounds_86 post (tm_at u) (tm_kc u) (tm_kn u) (tm_g1 u) (tm_g2 u) (tm_g3 u) (tm_g4 u) (tm_g5 u) (tm_g6 u) (tm_g7 u) (tm_g8 u) (tm_g9 u) (tm_g10 u) (tm_g11 u) (tm_g12 u) (tm_g13 u) (tm_g14 u) (tm_g15 u) (tm_g16 u) (tm_g17 u) (tm_g18 u) (tm_g19 u) (tm_g20 u) (tm_g21 u) (tm_g22 u) (tm_g23 u) (tm_g24 u) fu 1 0) := tm_fu 73 (tm_bo86 h0 hG 72 0 rfl (by omega))
  have j63 : tm_R (fun v => v = nI 1) (fun post => wL_bounds_63 post (nI p) (nI q) (tm_at u) (tm_kc u) (tm_kn u) (tm_g1 u) (tm_g2 u) (tm_g3 u) (tm_g4 u) (tm_g5 u) (tm_g6 u) (tm_g7 u) (tm_g8 u) (tm_g9 u) (tm_g10 u) (tm_g11 u) (tm_g12 u) (tm_g13 u) (tm_g14 u) (tm_g15 u) (tm_g16 u) (tm_g17 u) (tm_g18 u) (tm_g19 u) (tm_g20 u) (tm_g21 u) (tm_g22 u) (tm_g23 u) (tm_g24 u)) := by
    refine tm_f (nI_pos (by omega)) ?_
    refine tm_f (nI_ge hpq (by omega)) ?_
    refine tm_f (nI_nlt (a := 5) hq (by omega)) ?_
    exact loop
  unfold wpL_bounds
  refine tm_bRg (u := u) (tm_region e8 e9) ?_
  refine tm_and (by decide) ?_
  refine tm_nm (nI p) ((pk_rem (a := p + 10 * q) (d := 10) (by omega) (by omega) (by omega)).trans (by congr 1; omega)) ?_
  refine tm_bRg (u := u) (tm_region e8 e9) ?_
  refine tm_and (by decide) ?_
  refine tm_nm (nI q) ((pk_div (a := p + 10 * q) (d := 10) (by omega) (by omega) (by omega)).trans (by congr 1; omega)) ?_
  refine tm_bRo (u := u) er ?_
  refine tm_f (nI_pos (by omega)) ?_
  refine tm_bRo (u := u) er ?_
  refine tm_f (nI_nlt (a := 5) hr (by omega)) ?_
  refine tm_bCo (u := u) ec ?_
  refine tm_f (nI_pos (by omega)) ?_
  refine tm_bCo (u := u) ec ?_
  refine tm_f (nI_nlt (a := 11) hc (by omega)) ?_
  rcases h6 with z | z
  · refine tm_bind (V := fun p => wpX_waits p u) (Q := fun v => v = nI 0) ?_ (fun b hb => ?_)
    · unfold wpX_waits
      refine tm_and ?_ (tm_ret z)
      show narrow .boolean (.int (tm_g6 u 0)) = .int (tm_g6 u 0)
      rw [z]; rfl
    · exact tm_t (by rw [hb]; rfl) j63
  · refine tm_bind (V := fun p => wpX_waits p u) (Q := fun v => v = nI 1) ?_ (fun b hb => ?_)
    · unfold wpX_waits
      refine tm_and ?_ (tm_ret z.1)
      show narrow .boolean (.int (tm_g6 u 0)) = .int (tm_g6 u 0)
      rw [z.1]; rfl
    · refine tm_f (by rw [hb]; decide) ?_
      refine tm_bCo (u := u) z.2 ?_
      exact tm_t rfl j63
theorem tm_rf31 {u : St1} (h0 : tm_TI 0 u) (h1 : tm_TI 1 u) (hq : ∀ r, r < 6 → tm_req u r) : ∀ d k, 72 - k = d → k ≤ 72 → tm_R (fun y => y = (nI 1, u)) (fun post => wL_refreshes_31 (fun b c => post (b, c)) (tm_at u) (tm_kc u) (tm_kn u) (tm_g1 u) (tm_g2 u) (tm_g3 u) (tm_g4 u) (tm_g5 u) (tm_g6 u) (tm_g7 u) (tm_g8 u) (tm_g9 u) (tm_g10 u) (tm_g11 u) (tm_g12 u) (tm_g13 u) (tm_g14 u) (tm_g15 u) (tm_g16 u) (tm_g17 u) (tm_g18 u) (tm_g19 u) (tm_g20 u) (tm_g21 u) (tm_g22 u) (tm_g23 u) (tm_g24 u) (d + 1) 1 (nI k)) := by
  intro d
  induction d with
  | zero =>
    intro k hk hk'
    refine tm_le 72 k rfl rfl (fun _ => ?_) (fun h => absurd h (by omega))
    refine tm_and rfl ?_
    exact tm_ret (a := (nI 1, u)) rfl
  | succ d ih =>
    intro k hk hk'
    refine tm_le 72 k rfl rfl (fun h => absurd h (by omega)) (fun h => ?_)
    obtain ⟨e1, e2⟩ := tm_k12 h
    refine tm_f (by decide) ?_
    refine tm_and (by decide) (tm_and (by decide) ?_)
    refine tm_bind (tm_shown (u := u) h1 (r := k / 12) (c := k % 12) (by omega) (by omega) e1 e2) (fun x hx => ?_)
    refine tm_and (by decide) (tm_and (by decide) ?_)
    refine tm_bind (tm_sign (u := u) h0 (r := k / 12) (c := k % 12) (by omega) (by omega) e1 e2) (fun v hv => ?_)
    refine tm_and (by decide) (tm_and (by decide) ?_)
    refine tm_bind (tm_style (u := u) h0 (r := k / 12) (c := k % 12) (by omega) (by omega) e1 e2) (fun w hw => ?_)
    have g := hq (k / 12) (by omega) (k % 12) (by omega)
    refine tm_t (by rw [hx, hv, hw, g.1, g.2]; rfl) ?_
    refine tm_nm (nI (k + 1)) (nI_1 k) ?_
    exact ih (k + 1) (by omega) (by omega)
theorem tm_bRf {α : Type} {P : α → Prop} {u u' : St1} {v : Int32} {K : (α → Prop) → Int32 → St1 → Prop} (hw : ∀ post : Int32 → St1 → Prop, post v u' → wpX_refresh post u) (hK : tm_R P (fun post => K post v u')) : tm_R P (fun post => wpX_refresh (K post) u) := by
  obtain ⟨a, ha, h⟩ := hK
  exact ⟨a, ha, fun post hp => hw _ (h post hp)⟩
theorem tm_refreshes {u u' : St1} {v : Int32} (hs : ∀ post : Int32 → Prop, post v → wpX_stale post u) (hw : ∀ post : Int32 → St1 → Prop, post v u' → wpX_refresh post u) (h0 : tm_TI 0 u') (h1 : tm_TI 1 u') (hq : ∀ r, r < 6 → tm_req u' r) : tm_R (fun y => y = (nI 1, u')) (fun post => wpL_refreshes (fun b c => post (b, c)) u) := by
  have hs' : tm_R (fun x => x = v) (fun post => wpX_stale post u) := ⟨v, rfl, hs⟩
  unfold wpL_refreshes
  refine tm_bST (u := u) hs' (fun r hr => ?_)
  refine tm_bRf (u := u) hw ?_
  refine tm_t hr.symm ?_
  refine tm_bST (u := u') (tm_stale h0 h1) (fun x hx => ?_)
  refine tm_t (hx hq) ?_
  exact tm_fu 73 (tm_rf31 h0 h1 hq 72 0 rfl (by omega))
end
section
theorem tm_tn (x : Int32) : (x.toBitVec.toNat : Int) = x.toInt % 4294967296 := by
  have h := BitVec.toInt_eq_toNat_cond x.toBitVec
  have h2 : x.toBitVec.toNat < 2 ^ 32 := x.toBitVec.isLt
  have h3 : x.toInt = x.toBitVec.toInt := rfl
  rw [h3, h]
  split <;> omega
theorem tm_sr (X s : Int32) (k : Nat) (hs : (s.toBitVec.smod 32).toNat = k) : (X >>> s).toInt = X.toInt / 2 ^ k := by
  rw [pk_shr X s k hs, Int.shiftRight_eq_div_pow]
  norm_cast
/-- the three bytes of a step, cut out of X one by one or at once -/
theorem tm_cut (X : Int32) : ∃ N, N < 2097152 ∧ (X >>> ((5 : Int32) &&& 31)) &&& 2097151 = nI N ∧ (X >>> ((5 : Int32) &&& 31)) &&& 127 = nI (N % 128) ∧ (X >>> ((12 : Int32) &&& 31)) &&& 127 = nI (N / 128 % 128) ∧ (X >>> ((19 : Int32) &&& 31)) &&& 127 = nI (N / 16384) ∧ ((X >>> ((5 : Int32) &&& 31)) >>> ((7 : Int32) &&& 31)) &&& 127 = nI (N / 128 % 128) ∧ ((X >>> ((5 : Int32) &&& 31)) >>> ((14 : Int32) &&& 31)) &&& 127 = nI (N / 16384) := by
  have a5 := tm_sr X ((5 : Int32) &&& 31) 5 (by decide)
  have a12 := tm_sr X ((12 : Int32) &&& 31) 12 (by decide)
  have a19 := tm_sr X ((19 : Int32) &&& 31) 19 (by decide)
  have a57 := tm_sr (X >>> ((5 : Int32) &&& 31)) ((7 : Int32) &&& 31) 7 (by decide)
  have a514 := tm_sr (X >>> ((5 : Int32) &&& 31)) ((14 : Int32) &&& 31) 14 (by decide)
  have t5 := tm_tn (X >>> ((5 : Int32) &&& 31))
  have t12 := tm_tn (X >>> ((12 : Int32) &&& 31))
  have t19 := tm_tn (X >>> ((19 : Int32) &&& 31))
  have t57 := tm_tn ((X >>> ((5 : Int32) &&& 31)) >>> ((7 : Int32) &&& 31))
  have t514 := tm_tn ((X >>> ((5 : Int32) &&& 31)) >>> ((14 : Int32) &&& 31))
  have q21 := pk_and (X >>> ((5 : Int32) &&& 31)) (m := 2097151) 21 (by decide)
  have q5 := pk_and (X >>> ((5 : Int32) &&& 31)) (m := 127) 7 (by decide)
  have q12 := pk_and (X >>> ((12 : Int32) &&& 31)) (m := 127) 7 (by decide)
  have q19 := pk_and (X >>> ((19 : Int32) &&& 31)) (m := 127) 7 (by decide)
  have q57 := pk_and ((X >>> ((5 : Int32) &&& 31)) >>> ((7 : Int32) &&& 31)) (m := 127) 7 (by decide)
  have q514 := pk_and ((X >>> ((5 : Int32) &&& 31)) >>> ((14 : Int32) &&& 31)) (m := 127) 7 (by decide)
  generalize (X >>> ((5 : Int32) &&& 31)).toBitVec.toNat = n5 at *
  generalize (X >>> ((12 : Int32) &&& 31)).toBitVec.toNat = n12 at *
  generalize (X >>> ((19 : Int32) &&& 31)).toBitVec.toNat = n19 at *
  generalize ((X >>> ((5 : Int32) &&& 31)) >>> ((7 : Int32) &&& 31)).toBitVec.toNat = n57 at *
  generalize ((X >>> ((5 : Int32) &&& 31)) >>> ((14 : Int32) &&& 31)).toBitVec.toNat = n514 at *
  rw [a57] at t57
  rw [a514] at t514
  rw [a5] at t5 t57 t514
  rw [a12] at t12
  rw [a19] at t19
  clear a5 a12 a19 a57 a514
  generalize X.toInt = a at *
  refine ⟨n5 % 2 ^ 21, by omega, q21, ?_, ?_, ?_, ?_, ?_⟩
  · rw [q5]; congr 1; omega
  · rw [q12]; congr 1; omega
  · rw [q19]; congr 1; omega
  · rw [q57]; congr 1; omega
  · rw [q514]; congr 1; omega
theorem tm_tw {α : Type} {P : α → Prop} {V : (Int32 → Prop) → Prop} {A B : (α → Prop) → Prop} (hV : tm_R (fun _ => True) V) (hA : tm_R P A) : tm_R P (fun post => V (fun r => V (fun s => (r = s → A post) ∧ (¬ r = s → B post)))) := by
  obtain ⟨v, _, hv⟩ := hV
  obtain ⟨a, ha, hw⟩ := hA
  exact ⟨a, ha, fun post hp => hv _ (hv _ (br_t rfl (hw post hp)))⟩
theorem tm_sequence (u : St1) : tm_R (fun _ => True) (fun post => wpX_sequence post u) := by
  exact tm_if _ Iff.rfl (fun _ => tm_ret trivial) (fun _ => tm_ret trivial)
theorem tm_row (u : St1) : tm_R (fun _ => True) (fun post => wpX_row post u) := by
  unfold wpX_row; exact tm_ret trivial
theorem tm_column (u : St1) : tm_R (fun _ => True) (fun post => wpX_column post u) := by
  unfold wpX_column; exact tm_ret trivial
theorem tm_pen (u : St1) : tm_R (fun _ => True) (fun post => wpX_pen post u) := by
  unfold wpX_pen; exact tm_ret trivial
theorem tm_modes (u : St1) : tm_R (fun _ => True) (fun post => wpX_modes post u) := by
  have j : ∀ z0 z1, tm_R (fun _ => True) (fun post => wX_modes_28 post z0 z1 (tm_at u) (tm_kc u) (tm_kn u) (tm_g1 u) (tm_g2 u) (tm_g3 u) (tm_g4 u) (tm_g5 u) (tm_g6 u) (tm_g7 u) (tm_g8 u) (tm_g9 u) (tm_g10 u) (tm_g11 u) (tm_g12 u) (tm_g13 u) (tm_g14 u) (tm_g15 u) (tm_g16 u) (tm_g17 u) (tm_g18 u) (tm_g19 u) (tm_g20 u) (tm_g21 u) (tm_g22 u) (tm_g23 u) (tm_g24 u)) := fun _ _ => by
    unfold wX_modes_28; exact tm_ret trivial
  refine tm_if _ Iff.rfl (fun _ => ?_) (fun _ => ?_)
  · exact tm_if _ Iff.rfl (fun _ => j _ _) (fun _ => j _ _)
  · exact tm_if _ Iff.rfl (fun _ => j _ _) (fun _ => j _ _)
theorem tm_maybe {X : Int32} {N : Nat} (e1 : X &&& 127 = nI (N % 128)) (e2 : (X >>> ((7 : Int32) &&& 31)) &&& 127 = nI (N / 128 % 128)) (e3 : (X >>> ((14 : Int32) &&& 31)) &&& 127 = nI (N / 16384)) (hN : N < 2097152) (h : N % 128 = 99 ∨ N / 128 % 128 = 99 ∨ N / 16384 = 99) : tm_R (fun v => v = nI 1) (fun post => wpL_maybe post () X) := by
  refine tm_eq (N % 128) 99 e1 rfl (fun _ => tm_ret rfl) (fun n1 => ?_)
  refine tm_eq (N / 128 % 128) 99 e2 rfl (fun _ => tm_ret rfl) (fun n2 => ?_)
  exact tm_eq (N / 16384) 99 e3 rfl (fun _ => tm_ret rfl) (fun n3 => absurd h (by omega))
theorem tm_l265 {L i d : Nat} {xs : Nat → Int32} {kc ks : Nat} {u : St1} (hL : L ≤ 260) (hi : i < L) (hI : tm_Iv u) (hJ : ∀ v, tm_Iv v → tm_R (fun r => r = nI 1) (fun post => wL_law_18 post L xs kc ks (d + 1) (nI (i + 1)) (tm_at v) (tm_kc v) (tm_kn v) (tm_g1 v) (tm_g2 v) (tm_g3 v) (tm_g4 v) (tm_g5 v) (tm_g6 v) (tm_g7 v) (tm_g8 v) (tm_g9 v) (tm_g10 v) (tm_g11 v) (tm_g12 v) (tm_g13 v) (tm_g14 v) (tm_g15 v) (tm_g16 v) (tm_g17 v) (tm_g18 v) (tm_g19 v) (tm_g20 v) (tm_g21 v) (tm_g22 v) (tm_g23 v) (tm_g24 v) (tm_at v) (tm_kc v) (tm_kn v) (tm_g1 v) (tm_g2 v) (tm_g3 v) (tm_g4 v) (tm_g5 v) (tm_g6 v) (tm_g7 v) (tm_g8 v) (tm_g9 v) (tm_g10 v) (tm_g11 v) (tm_g12 v) (tm_g13 v) (tm_g14 v) (tm_g15 v) (tm_g16 v) (tm_g17 v) (tm_g18 v) (tm_g19 v) (tm_g20 v) (tm_g21 v) (tm_g22 v) (tm_g23 v) (tm_g24 v))) : tm_R (fun r => r = nI 1) (fun post => wL_law_265 post L xs (wL_law_18 post L xs kc ks (d + 1)) (nI i) kc ks (tm_at u) (tm_kc u) (tm_kn u) (tm_g1 u) (tm_g2 u) (tm_g3 u) (tm_g4 u) (tm_g5 u) (tm_g6 u) (tm_g7 u) (tm_g8 u) (tm_g9 u) (tm_g10 u) (tm_g11 u) (tm_g12 u) (tm_g13 u) (tm_g14 u) (tm_g15 u) (tm_g16 u) (tm_g17 u) (tm_g18 u) (tm_g19 u) (tm_g20 u) (tm_g21 u) (tm_g22 u) (tm_g23 u) (tm_g24 u) (tm_at u) (tm_kc u) (tm_kn u) (tm_g1 u) (tm_g2 u) (tm_g3 u) (tm_g4 u) (tm_g5 u) (tm_g6 u) (tm_g7 u) (tm_g8 u) (tm_g9 u) (tm_g10 u) (tm_g11 u) (tm_g12 u) (tm_g13 u) (tm_g14 u) (tm_g15 u) (tm_g16 u) (tm_g17 u) (tm_g18 u) (tm_g19 u) (tm_g20 u) (tm_g21 u) (tm_g22 u) (tm_g23 u) (tm_g24 u)) := by
  refine tm_and (tm_in rfl hi (by omega)) ?_
  refine tm_if _ Iff.rfl (fun _ => ?_) (fun _ => ?_)
  · obtain ⟨x, _, hs⟩ := tm_stale hI.1 hI.2.1
    obtain ⟨⟨y, u'⟩, ⟨hy, hR⟩, hw⟩ := tm_refresh hI.1 hI.2 hs
    have hy' : y = x := hy
    subst hy'
    have hR' : tm_Rf u u' := hR
    have h0 : tm_TI 0 u' := tm_TIf hR'.1.2 (by omega) (by omega) (by omega) hI.1
    have hw' : ∀ post : Int32 → St1 → Prop, post y u' → wpX_refresh post u := fun post hp => hw (fun z => post z.1 z.2) hp
    refine tm_bRf (u := u) hw' ?_
    refine tm_bindP (V := fun p => wpL_refreshes p u) (tm_refreshes hs hw' h0 hR'.1.1.1 hR'.2) (fun b c hbc => ?_)
    obtain ⟨rfl, rfl⟩ := Prod.mk.inj hbc
    refine tm_f (by decide) ?_
    exact tm_nm (nI (i + 1)) (nI_1 i) (hJ _ ⟨h0, hR'.1.1⟩)
  · exact tm_nm (nI (i + 1)) (nI_1 i) (hJ u hI)
theorem tm_l215 {L i d z N : Nat} {xs : Nat → Int32} {kc ks : Nat} {u v w : St1} {X : Int32} (hL : L ≤ 260) (hi : i < L) (hI : tm_Iv u) (hv : tm_Fr 0 u v) (hk : z = 0 → tm_kc u ≤ tm_kc v) (hz : z ≤ 1) (hN : N < 2097152) (hw : tm_Fd v w (N % 128 = 99 ∨ N / 128 % 128 = 99 ∨ N / 16384 = 99)) (e1 : (X >>> ((5 : Int32) &&& 31)) &&& 127 = nI (N % 128)) (e2 : ((X >>> ((5 : Int32) &&& 31)) >>> ((7 : Int32) &&& 31)) &&& 127 = nI (N / 128 % 128)) (e3 : ((X >>> ((5 : Int32) &&& 31)) >>> ((14 : Int32) &&& 31)) &&& 127 = nI (N / 16384)) (hJ : ∀ v, tm_Iv v → tm_R (fun r => r = nI 1) (fun post => wL_law_18 post L xs kc ks (d + 1) (nI (i + 1)) (tm_at v) (tm_kc v) (tm_kn v) (tm_g1 v) (tm_g2 v) (tm_g3 v) (tm_g4 v) (tm_g5 v) (tm_g6 v) (tm_g7 v) (tm_g8 v) (tm_g9 v) (tm_g10 v) (tm_g11 v) (tm_g12 v) (tm_g13 v) (tm_g14 v) (tm_g15 v) (tm_g16 v) (tm_g17 v) (tm_g18 v) (tm_g19 v) (tm_g20 v) (tm_g21 v) (tm_g22 v) (tm_g23 v) (tm_g24 v) (tm_at v) (tm_kc v) (tm_kn v) (tm_g1 v) (tm_g2 v) (tm_g3 v) (tm_g4 v) (tm_g5 v) (tm_g6 v) (tm_g7 v) (tm_g8 v) (tm_g9 v) (tm_g10 v) (tm_g11 v) (tm_g12 v) (tm_g13 v) (tm_g14 v) (tm_g15 v) (tm_g16 v) (tm_g17 v) (tm_g18 v) (tm_g19 v) (tm_g20 v) (tm_g21 v) (tm_g22 v) (tm_g23 v) (tm_g24 v))) : tm_R (fun r => r = nI 1) (fun post => wL_law_215 post L xs (wL_law_18 post L xs kc ks (d + 1)) (nI i) X (tm_kc u) (tm_hs u 72) (nI z) 1 kc ks (tm_at w) (tm_kc w) (tm_kn w) (tm_g1 w) (tm_g2 w) (tm_g3 w) (tm_g4 w) (tm_g5 w) (tm_g6 w) (tm_g7 w) (tm_g8 w) (tm_g9 w) (tm_g10 w) (tm_g11 w) (tm_g12 w) (tm_g13 w) (tm_g14 w) (tm_g15 w) (tm_g16 w) (tm_g17 w) (tm_g18 w) (tm_g19 w) (tm_g20 w) (tm_g21 w) (tm_g22 w) (tm_g23 w) (tm_g24 w) (tm_at w) (tm_kc w) (tm_kn w) (tm_g1 w) (tm_g2 w) (tm_g3 w) (tm_g4 w) (tm_g5 w) (tm_g6 w) (tm_g7 w) (tm_g8 w) (tm_g9 w) (tm_g10 w) (tm_g11 w) (tm_g12 w) (tm_g13 w) (tm_g14 w) (tm_g15 w) (tm_g16 w) (tm_g17 w) (tm_g18 w) (tm_g19 w) (tm_g20 w) (tm_g21 w) (tm_g22 w) (tm_g23 w) (tm_g24 w)) := by
  have j265 := tm_l265 (kc := kc) (ks := ks) hL hi hw.1 hJ
  refine tm_f (by decide) ?_
  refine tm_bind (V := fun p => wpL_shown p w) (tm_shownL hw.1.2.1) (fun a ha => ?_)
  refine tm_t (ha.trans (tm_hsF hI.2.1 (tm_Frt hv hw.2.1) 72 (by omega))) ?_
  refine tm_bind (V := fun p => wpL_bounds p w) (tm_bounds hw.1.1 hw.1.2.2.1) (fun a ha => ?_)
  refine tm_f (by rw [ha]; decide) ?_
  refine tm_bK (u := w) ?_
  refine tm_if _ Iff.rfl (fun _ => j265) (fun nk => ?_)
  refine tm_eq z 0 rfl rfl (fun z0 => ?_) (fun _ => j265)
  refine tm_bind (V := fun p => wpL_maybe p () (X >>> ((5 : Int32) &&& 31))) (tm_maybe e1 e2 e3 hN ?_) (fun a ha => ?_)
  · by_cases c : N % 128 = 99 ∨ N / 128 % 128 = 99 ∨ N / 16384 = 99
    · exact c
    · exact absurd (Int32.le_trans (hk z0) (hw.2.2 c)) nk
  · exact tm_f (by rw [ha]; decide) j265
theorem tm_l92 {L i d z : Nat} {xs : Nat → Int32} {kc ks : Nat} {u v : St1} {X : Int32} (hL : L ≤ 260) (hi : i < L) (hI : tm_Iv u) (hIv : tm_Iv v) (hv : tm_Fr 0 u v) (hk : z = 0 → tm_kc u ≤ tm_kc v) (hz : z ≤ 1) (hJ : ∀ v, tm_Iv v → tm_R (fun r => r = nI 1) (fun post => wL_law_18 post L xs kc ks (d + 1) (nI (i + 1)) (tm_at v) (tm_kc v) (tm_kn v) (tm_g1 v) (tm_g2 v) (tm_g3 v) (tm_g4 v) (tm_g5 v) (tm_g6 v) (tm_g7 v) (tm_g8 v) (tm_g9 v) (tm_g10 v) (tm_g11 v) (tm_g12 v) (tm_g13 v) (tm_g14 v) (tm_g15 v) (tm_g16 v) (tm_g17 v) (tm_g18 v) (tm_g19 v) (tm_g20 v) (tm_g21 v) (tm_g22 v) (tm_g23 v) (tm_g24 v) (tm_at v) (tm_kc v) (tm_kn v) (tm_g1 v) (tm_g2 v) (tm_g3 v) (tm_g4 v) (tm_g5 v) (tm_g6 v) (tm_g7 v) (tm_g8 v) (tm_g9 v) (tm_g10 v) (tm_g11 v) (tm_g12 v) (tm_g13 v) (tm_g14 v) (tm_g15 v) (tm_g16 v) (tm_g17 v) (tm_g18 v) (tm_g19 v) (tm_g20 v) (tm_g21 v) (tm_g22 v) (tm_g23 v) (tm_g24 v))) : tm_R (fun r => r = nI 1) (fun post => wL_law_92 post L xs (wL_law_18 post L xs kc ks (d + 1)) (nI i) X (tm_kc u) (tm_hs u 72) (nI z) kc ks (tm_at v) (tm_kc v) (tm_kn v) (tm_g1 v) (tm_g2 v) (tm_g3 v) (tm_g4 v) (tm_g5 v) (tm_g6 v) (tm_g7 v) (tm_g8 v) (tm_g9 v) (tm_g10 v) (tm_g11 v) (tm_g12 v) (tm_g13 v) (tm_g14 v) (tm_g15 v) (tm_g16 v) (tm_g17 v) (tm_g18 v) (tm_g19 v) (tm_g20 v) (tm_g21 v) (tm_g22 v) (tm_g23 v) (tm_g24 v) (tm_at v) (tm_kc v) (tm_kn v) (tm_g1 v) (tm_g2 v) (tm_g3 v) (tm_g4 v) (tm_g5 v) (tm_g6 v) (tm_g7 v) (tm_g8 v) (tm_g9 v) (tm_g10 v) (tm_g11 v) (tm_g12 v) (tm_g13 v) (tm_g14 v) (tm_g15 v) (tm_g16 v) (tm_g17 v) (tm_g18 v) (tm_g19 v) (tm_g20 v) (tm_g21 v) (tm_g22 v) (tm_g23 v) (tm_g24 v)) := by
  obtain ⟨N, hN, eN, f1, f2, f3, g2, g3⟩ := tm_cut X
  obtain ⟨v1, v2, v3, w1, w2, w3, hw⟩ := tm_three hIv hN
  have j215 := tm_l215 (kc := kc) (ks := ks) hL hi hI hv hk hz hN hw f1 g2 g3 hJ
  obtain ⟨st, _, hst⟩ := tm_stale hw.1.1 hw.1.2.1
  unfold wL_law_92
  refine tm_bF3 (u := v) (tm_feed3V eN hN w1 w2 w3) (fun b c hc => ?_)
  have hc' : c = v3 := hc
  subst hc'
  refine tm_bF (u := v) (tm_feedV f1 (by omega) w1) (fun b c hc => ?_)
  have hc' : c = v1 := hc
  subst hc'
  refine tm_bF (u := c) (tm_feedV f2 (by omega) w2) (fun b c' hc => ?_)
  have hc' : c' = v2 := hc
  subst hc'
  refine tm_bF (u := c') (tm_feedV f3 (by omega) w3) (fun b c'' hc => ?_)
  have hc'' : c'' = _ := hc
  subst hc''
  refine tm_tw (V := fun p => wpX_sequence p c'') (tm_sequence _) ?_
  refine tm_tw (V := fun p => wpX_row p c'') (tm_row _) ?_
  refine tm_tw (V := fun p => wpX_column p c'') (tm_column _) ?_
  refine tm_tw (V := fun p => wpX_pen p c'') (tm_pen _) ?_
  refine tm_tw (V := fun p => wpX_stale p c'') ⟨st, trivial, hst⟩ ?_
  refine tm_tw (V := fun p => wpX_modes p c'') (tm_modes _) ?_
  exact j215
end
section
theorem tm_l338 {L : Nat} {xs : Nat → Int32} {kc ks : Nat} {u : St1} (hI : tm_Iv u) (he : ∀ i, i < 144 → tm_g1 u i = nI 32 ∧ tm_g2 u i = nI 0) : ∀ d k, 72 - k = d → k ≤ 72 → tm_R (fun r => r = nI 1) (fun post => wL_law_338 post L xs kc ks (tm_at u) (tm_kc u) (tm_kn u) (tm_g1 u) (tm_g2 u) (tm_g3 u) (tm_g4 u) (tm_g5 u) (tm_g6 u) (tm_g7 u) (tm_g8 u) (tm_g9 u) (tm_g10 u) (tm_g11 u) (tm_g12 u) (tm_g13 u) (tm_g14 u) (tm_g15 u) (tm_g16 u) (tm_g17 u) (tm_g18 u) (tm_g19 u) (tm_g20 u) (tm_g21 u) (tm_g22 u) (tm_g23 u) (tm_g24 u) (d + 1) 1 (nI k)) := by
  intro d
  induction d with
  | zero =>
    intro k hk hk'
    refine tm_le 72 k rfl rfl (fun _ => ?_) (fun h => absurd h (by omega))
    refine tm_f (by decide) ?_
    obtain ⟨x, _, hs⟩ := tm_stale hI.1 hI.2.1
    obtain ⟨⟨y, u'⟩, ⟨hy, hR⟩, hw⟩ := tm_refresh hI.1 hI.2 hs
    have hy' : y = x := hy
    subst hy'
    have hR' : tm_Rf u u' := hR
    have h0 : tm_TI 0 u' := tm_TIf hR'.1.2 (by omega) (by omega) (by omega) hI.1
    have hw' : ∀ post : Int32 → St1 → Prop, post y u' → wpX_refresh post u := fun post hp => hw (fun z => post z.1 z.2) hp
    refine tm_bindP (V := fun p => wpL_refreshes p u) (tm_refreshes hs hw' h0 hR'.1.1.1 hR'.2) (fun b c hbc => ?_)
    obtain ⟨rfl, rfl⟩ := Prod.mk.inj hbc
    exact tm_f (by decide) (tm_ret rfl)
  | succ d ih =>
    intro k hk hk'
    refine tm_le 72 k rfl rfl (fun h => absurd h (by omega)) (fun h => ?_)
    obtain ⟨e1, e2⟩ := tm_k12 h
    have b0 := tm_lnb (by omega) hI.1 (show k / 12 < 6 by omega)
    have g := he (tm_ln 0 u (k / 12) + k % 12) (by omega)
    refine tm_f (by decide) ?_
    refine tm_and (by decide) (tm_and (by decide) ?_)
    refine tm_bind (tm_sign (u := u) hI.1 (r := k / 12) (c := k % 12) (by omega) (by omega) e1 e2) (fun v hv => ?_)
    refine tm_t (hv.trans g.1) ?_
    refine tm_and (by decide) (tm_and (by decide) ?_)
    refine tm_bind (tm_style (u := u) hI.1 (r := k / 12) (c := k % 12) (by omega) (by omega) e1 e2) (fun w hw => ?_)
    refine tm_t (hw.trans g.2) ?_
    refine tm_nm (nI (k + 1)) (nI_1 k) ?_
    exact ih (k + 1) (by omega) (by omega)
theorem tm_l18 {L : Nat} {xs : Nat → Int32} {kc ks : Nat} (hL : L ≤ 260) : ∀ d i, L - i = d → i ≤ L → ∀ u, tm_Iv u → tm_R (fun r => r = nI 1) (fun post => wL_law_18 post L xs kc ks (d + 1) (nI i) (tm_at u) (tm_kc u) (tm_kn u) (tm_g1 u) (tm_g2 u) (tm_g3 u) (tm_g4 u) (tm_g5 u) (tm_g6 u) (tm_g7 u) (tm_g8 u) (tm_g9 u) (tm_g10 u) (tm_g11 u) (tm_g12 u) (tm_g13 u) (tm_g14 u) (tm_g15 u) (tm_g16 u) (tm_g17 u) (tm_g18 u) (tm_g19 u) (tm_g20 u) (tm_g21 u) (tm_g22 u) (tm_g23 u) (tm_g24 u) (tm_at u) (tm_kc u) (tm_kn u) (tm_g1 u) (tm_g2 u) (tm_g3 u) (tm_g4 u) (tm_g5 u) (tm_g6 u) (tm_g7 u) (tm_g8 u) (tm_g9 u) (tm_g10 u) (tm_g11 u) (tm_g12 u) (tm_g13 u) (tm_g14 u) (tm_g15 u) (tm_g16 u) (tm_g17 u) (tm_g18 u) (tm_g19 u) (tm_g20 u) (tm_g21 u) (tm_g22 u) (tm_g23 u) (tm_g24 u)) := by
  intro d
  induction d with
  | zero =>
    intro i hi hi' u hI
    refine tm_le L i rfl rfl (fun _ => ?_) (fun h => absurd h (by omega))
    refine tm_bF (u := u) (tm_feed (b := 127) hI rfl (by omega)) (fun r v1 h1 => ?_)
    refine tm_bF (u := v1) (tm_feed (b := 27) h1.2.1 rfl (by omega)) (fun r v2 h2 => ?_)
    refine tm_bF (u := v2) (tm_feed (b := 99) h2.2.1 rfl (by omega)) (fun r v3 h3 => ?_)
    have g2 : tm_g20 v2 0 = nI 1 := h2.1.2.1 rfl
    obtain ⟨v, hc⟩ := h3.1.2.2 rfl g2
    obtain ⟨ca, cT, cF, ck, _, c20, _, _, cc⟩ := hc
    have hs : tm_R (fun x => x = nI 0) (fun post => wpX_sequence post v3) := tm_t (by show tm_g20 v3 0 ≤ 2; rw [c20]; decide) (tm_ret c20)
    refine tm_bind (V := fun p => wpX_sequence p v3) hs (fun x hx => ?_)
    refine tm_t hx ?_
    refine tm_bK (u := v3) ?_
    refine tm_t (ck rfl).1 ?_
    exact tm_fu 73 (tm_l338 h3.2.1 (fun i hi => cc i (by omega) (by omega)) 72 0 rfl (by omega))
  | succ d ih =>
    intro i hi hi' u hI
    refine tm_le L i rfl rfl (fun h => absurd h (by omega)) (fun h => ?_)
    refine tm_and (tm_in rfl h (by omega)) ?_
    obtain ⟨X, hX⟩ : ∃ X, xs (nI i).toNatClampNeg >>> ((3 : Int32) &&& 31) = X := ⟨_, rfl⟩
    refine tm_nm X hX ?_
    have hJ : ∀ v, tm_Iv v → tm_R (fun r => r = nI 1) (fun post => wL_law_18 post L xs kc ks (d + 1) (nI (i + 1)) (tm_at v) (tm_kc v) (tm_kn v) (tm_g1 v) (tm_g2 v) (tm_g3 v) (tm_g4 v) (tm_g5 v) (tm_g6 v) (tm_g7 v) (tm_g8 v) (tm_g9 v) (tm_g10 v) (tm_g11 v) (tm_g12 v) (tm_g13 v) (tm_g14 v) (tm_g15 v) (tm_g16 v) (tm_g17 v) (tm_g18 v) (tm_g19 v) (tm_g20 v) (tm_g21 v) (tm_g22 v) (tm_g23 v) (tm_g24 v) (tm_at v) (tm_kc v) (tm_kn v) (tm_g1 v) (tm_g2 v) (tm_g3 v) (tm_g4 v) (tm_g5 v) (tm_g6 v) (tm_g7 v) (tm_g8 v) (tm_g9 v) (tm_g10 v) (tm_g11 v) (tm_g12 v) (tm_g13 v) (tm_g14 v) (tm_g15 v) (tm_g16 v) (tm_g17 v) (tm_g18 v) (tm_g19 v) (tm_g20 v) (tm_g21 v) (tm_g22 v) (tm_g23 v) (tm_g24 v)) := fun v hv => ih (i + 1) (by omega) (by omega) v hv
    refine tm_bK (u := u) ?_
    refine tm_bind (V := fun p => wpL_shown p u) (tm_shownL hI.2.1) (fun a ha => ?_)
    rw [ha]
    obtain ⟨w, hw, ew⟩ := pk_andE X (m := 15) 4 (by decide)
    obtain ⟨p, hp, ep⟩ := pk_andE (X >>> ((4 : Int32) &&& 31)) (m := 7) 3 (by decide)
    obtain ⟨v, hv, hb⟩ := tm_bytes hI ew hw ep hp
    have hb' : tm_R (fun x => x = v) (fun post => wpL_bytes post u X) := ⟨v, rfl, hb⟩
    refine tm_bind (V := fun p => wpL_bytes p u X) hb' (fun v' e => ?_)
    subst e
    refine tm_bind (V := fun p => wpL_bytes p u X) hb' (fun v'' e => ?_)
    subst e
    have j91 : ¬ (6 ≤ w ∧ w < 8 ∧ p = 7) → tm_R (fun r => r = nI 1) (fun post => wL_law_91 post L xs (wL_law_18 post L xs kc ks (d + 1)) (nI i) X (tm_kc u) (tm_hs u 72) kc ks (tm_at v'') (tm_kc v'') (tm_kn v'') (tm_g1 v'') (tm_g2 v'') (tm_g3 v'') (tm_g4 v'') (tm_g5 v'') (tm_g6 v'') (tm_g7 v'') (tm_g8 v'') (tm_g9 v'') (tm_g10 v'') (tm_g11 v'') (tm_g12 v'') (tm_g13 v'') (tm_g14 v'') (tm_g15 v'') (tm_g16 v'') (tm_g17 v'') (tm_g18 v'') (tm_g19 v'') (tm_g20 v'') (tm_g21 v'') (tm_g22 v'') (tm_g23 v'') (tm_g24 v'') (tm_at v'') (tm_kc v'') (tm_kn v'') (tm_g1 v'') (tm_g2 v'') (tm_g3 v'') (tm_g4 v'') (tm_g5 v'') (tm_g6 v'') (tm_g7 v'') (tm_g8 v'') (tm_g9 v'') (tm_g10 v'') (tm_g11 v'') (tm_g12 v'') (tm_g13 v'') (tm_g14 v'') (tm_g15 v'') (tm_g16 v'') (tm_g17 v'') (tm_g18 v'') (tm_g19 v'') (tm_g20 v'') (tm_g21 v'') (tm_g22 v'') (tm_g23 v'') (tm_g24 v'')) := fun nz => by
      unfold wL_law_91
      exact tm_l92 (z := 0) hL h hI hv.1 hv.2.1 (fun _ => hv.2.2 nz) (by omega) hJ
    refine tm_lt w 6 ew rfl (fun c => j91 (by omega)) (fun c1 => ?_)
    refine tm_le 8 w rfl ew (fun c => j91 (by omega)) (fun c2 => ?_)
    refine tm_eq p 7 ep rfl (fun c3 => ?_) (fun c3 => j91 (by omega))
    exact tm_l92 (z := 1) hL h hI hv.1 hv.2.1 (fun z => absurd z (by omega)) (by omega) hJ
def tm_z1 (c n : Int32) : St1 := (1, c, n, (fun _ => 0), (fun _ => 0), (fun _ => 0), (fun _ => 0), (fun _ => 0), (fun _ => 0), (fun _ => 0), (fun _ => 0), (fun _ => 0), (fun _ => 0), (fun _ => 0), (fun _ => 0), (fun _ => 0), (fun _ => 0), (fun _ => 0), (fun _ => 0), (fun _ => 0), (fun _ => 0), (fun _ => 0), (fun _ => 0), (fun _ => 0), (fun _ => 0), (fun _ => 0), (fun _ => 0))
theorem tm_init {u : St0} : tm_R tm_Iv (fun post => wpX_init post 24 742 u) := by
  obtain ⟨f, c, n⟩ := u
  unfold wpX_init
  iterate 48 (refine tm_and (by decide) ?_)
  have z0 : ∀ m, tm_bd 0 m := fun m => ⟨0, by omega, rfl⟩
  refine tm_bCA (tm_clearAll (t := 1) (u := tm_z1 c n) (by omega) (z0 5) (z0 11) (z0 5) (fun i _ => z0 99) rfl) (fun v hv => ?_)
  obtain ⟨_, vT, vF, _, _, v20, v10, _, _⟩ := hv
  have s := vF.2.2.1 0 (by omega)
  obtain ⟨e4, e5, e6, e7, e8, e9, e10, e11, e12, e13, e14, e15, e16, e17, e18, e19, e20, e21, e22⟩ := s
  refine tm_imp (tm_clearAll (t := 0) (u := tm_sat v (nI 0)) (by omega) ?_ ?_ ?_ (fun i hi => ?_) rfl) (fun w hw => ?_)
  · show tm_bd (tm_g16 v 0) 5
    rw [e16]; exact z0 5
  · show tm_bd (tm_g17 v 0) 11
    rw [e17]; exact z0 11
  · show tm_bd (tm_g22 v 0) 5
    rw [e22]; exact z0 5
  · show tm_bd (tm_g23 v (4 * 0 + i)) 99
    rw [vF.2.2.2 (4 * 0 + i) (by omega)]; exact z0 99
  · obtain ⟨_, wT, wF, wk, _⟩ := hw
    obtain ⟨d4, d5, d6, d7, d8, d9, d10, d11, d12, d13, d14, d15, d16, d17, d18, d19, d20, d21, d22⟩ := wF.2.2.1 1 (by omega)
    have w1 : tm_TI 1 w := tm_TIf wF (by omega) (by omega) (by omega) vT
    exact ⟨wT, w1, ⟨⟨0, by omega, (wk rfl).1⟩, ⟨0, by omega, (wk rfl).2⟩⟩, d20.trans v20, d10.trans v10⟩
theorem i_vc (xs : Nat → Int32) (L : Nat) (hL : L ≤ 260) : wpL_law (fun r => r = 1) L xs := by
  obtain ⟨u, hI, hu⟩ := tm_init (u := (0, 0, 0))
  obtain ⟨r, hr, hw⟩ := tm_l18 (xs := xs) (kc := 1 + 24 + 1 + 24) (ks := 27 + 742 + 27 + 742) hL L 0 rfl (by omega) u hI
  refine ⟨24, 742, by decide, by decide, hu _ ?_⟩
  refine ⟨by decide, by decide, 24, 742, by decide, by decide, hu _ ?_⟩
  exact ⟨L + 1, hw _ hr⟩
end
