/-! the twin: its object and its sixteen arrays -/
def z_tw (G : zG) (t : Nat) (w0 : Nat → Int32) (w1 : Nat → Int32) (w2 : Nat → Int32) (w3 : Nat → Int32) (w4 : Nat → Int32) (w5 : Nat → Int64) (w6 : Nat → Int64) (w7 : Nat → Int64) (w8 : Nat → Int64) (w9 : Nat → Int64) (w10 : Nat → Int64) (w11 : Nat → Int64) (w12 : Int32) (w13 : Int32) (w14 : Int32) (w15 : Int32) (w16 : Int32) (w17 : Int32) (w18 : Bool) (w19 : Nat → Int32) (w20 : Int32) (w21 : Nat → Int32) (w22 : Nat → Int32) (w23 : Nat → Int32) (w24 : Int32) (w25 : Int32) (w26 : Int32) (w27 : Int32) (w28 : Bool) (h : zH) : zH := fun x => if x = t then some (.inr (2, [.ref (t + 1), .ref (t + 2), .ref (t + 3), .ref (t + 4), .ref (t + 5), .ref (t + 6), .ref (t + 7), .ref (t + 8), .ref (t + 9), .ref (t + 10), .ref (t + 11), .ref (t + 12), .int w12, .int w13, .int w14, .int w15, .int w16, .int w17, .int (z_b w18), .ref (t + 13), .int w20, .ref (t + 14), .ref (t + 15), .ref (t + 16), .int w24, .int w25, .int w26, .int w27, .int (z_b w28)])) else if x = t + 1 then some (z_ai G 272 w0) else if x = t + 2 then some (z_ai G 272 w1) else if x = t + 3 then some (z_ai G 272 w2) else if x = t + 4 then some (z_ai G 2176 w3) else if x = t + 5 then some (z_ai G 8 w4) else if x = t + 6 then some (z_al G 280 w5) else if x = t + 7 then some (z_al G 280 w6) else if x = t + 8 then some (z_al G 280 w7) else if x = t + 9 then some (z_al G 2240 w8) else if x = t + 10 then some (z_al G 280 w9) else if x = t + 11 then some (z_al G 56 w10) else if x = t + 12 then some (z_al G 8 w11) else if x = t + 13 then some (z_ai G 120 w19) else if x = t + 14 then some (z_ai G 60 w21) else if x = t + 15 then some (z_ai G 32 w22) else if x = t + 16 then some (z_ai G 128 w23) else h x
section ZTW
variable {G : zG} {t : Nat} {w0 : Nat → Int32} {w1 : Nat → Int32} {w2 : Nat → Int32} {w3 : Nat → Int32} {w4 : Nat → Int32} {w5 : Nat → Int64} {w6 : Nat → Int64} {w7 : Nat → Int64} {w8 : Nat → Int64} {w9 : Nat → Int64} {w10 : Nat → Int64} {w11 : Nat → Int64} {w12 : Int32} {w13 : Int32} {w14 : Int32} {w15 : Int32} {w16 : Int32} {w17 : Int32} {w18 : Bool} {w19 : Nat → Int32} {w20 : Int32} {w21 : Nat → Int32} {w22 : Nat → Int32} {w23 : Nat → Int32} {w24 : Int32} {w25 : Int32} {w26 : Int32} {w27 : Int32} {w28 : Bool} {h : zH}
theorem z_tw_o : z_tw G t w0 w1 w2 w3 w4 w5 w6 w7 w8 w9 w10 w11 w12 w13 w14 w15 w16 w17 w18 w19 w20 w21 w22 w23 w24 w25 w26 w27 w28 h t = some (.inr (2, [.ref (t + 1), .ref (t + 2), .ref (t + 3), .ref (t + 4), .ref (t + 5), .ref (t + 6), .ref (t + 7), .ref (t + 8), .ref (t + 9), .ref (t + 10), .ref (t + 11), .ref (t + 12), .int w12, .int w13, .int w14, .int w15, .int w16, .int w17, .int (z_b w18), .ref (t + 13), .int w20, .ref (t + 14), .ref (t + 15), .ref (t + 16), .int w24, .int w25, .int w26, .int w27, .int (z_b w28)])) := by simp [z_tw]
theorem z_tw_r0 : z_tw G t w0 w1 w2 w3 w4 w5 w6 w7 w8 w9 w10 w11 w12 w13 w14 w15 w16 w17 w18 w19 w20 w21 w22 w23 w24 w25 w26 w27 w28 h (t + 1) = some (z_ai G 272 w0) := by simp [z_tw]
theorem z_tw_r1 : z_tw G t w0 w1 w2 w3 w4 w5 w6 w7 w8 w9 w10 w11 w12 w13 w14 w15 w16 w17 w18 w19 w20 w21 w22 w23 w24 w25 w26 w27 w28 h (t + 2) = some (z_ai G 272 w1) := by simp [z_tw]
theorem z_tw_r2 : z_tw G t w0 w1 w2 w3 w4 w5 w6 w7 w8 w9 w10 w11 w12 w13 w14 w15 w16 w17 w18 w19 w20 w21 w22 w23 w24 w25 w26 w27 w28 h (t + 3) = some (z_ai G 272 w2) := by simp [z_tw]
theorem z_tw_r3 : z_tw G t w0 w1 w2 w3 w4 w5 w6 w7 w8 w9 w10 w11 w12 w13 w14 w15 w16 w17 w18 w19 w20 w21 w22 w23 w24 w25 w26 w27 w28 h (t + 4) = some (z_ai G 2176 w3) := by simp [z_tw]
theorem z_tw_r4 : z_tw G t w0 w1 w2 w3 w4 w5 w6 w7 w8 w9 w10 w11 w12 w13 w14 w15 w16 w17 w18 w19 w20 w21 w22 w23 w24 w25 w26 w27 w28 h (t + 5) = some (z_ai G 8 w4) := by simp [z_tw]
theorem z_tw_r5 : z_tw G t w0 w1 w2 w3 w4 w5 w6 w7 w8 w9 w10 w11 w12 w13 w14 w15 w16 w17 w18 w19 w20 w21 w22 w23 w24 w25 w26 w27 w28 h (t + 6) = some (z_al G 280 w5) := by simp [z_tw]
theorem z_tw_r6 : z_tw G t w0 w1 w2 w3 w4 w5 w6 w7 w8 w9 w10 w11 w12 w13 w14 w15 w16 w17 w18 w19 w20 w21 w22 w23 w24 w25 w26 w27 w28 h (t + 7) = some (z_al G 280 w6) := by simp [z_tw]
theorem z_tw_r7 : z_tw G t w0 w1 w2 w3 w4 w5 w6 w7 w8 w9 w10 w11 w12 w13 w14 w15 w16 w17 w18 w19 w20 w21 w22 w23 w24 w25 w26 w27 w28 h (t + 8) = some (z_al G 280 w7) := by simp [z_tw]
theorem z_tw_r8 : z_tw G t w0 w1 w2 w3 w4 w5 w6 w7 w8 w9 w10 w11 w12 w13 w14 w15 w16 w17 w18 w19 w20 w21 w22 w23 w24 w25 w26 w27 w28 h (t + 9) = some (z_al G 2240 w8) := by simp [z_tw]
theorem z_tw_r9 : z_tw G t w0 w1 w2 w3 w4 w5 w6 w7 w8 w9 w10 w11 w12 w13 w14 w15 w16 w17 w18 w19 w20 w21 w22 w23 w24 w25 w26 w27 w28 h (t + 10) = some (z_al G 280 w9) := by simp [z_tw]
theorem z_tw_r10 : z_tw G t w0 w1 w2 w3 w4 w5 w6 w7 w8 w9 w10 w11 w12 w13 w14 w15 w16 w17 w18 w19 w20 w21 w22 w23 w24 w25 w26 w27 w28 h (t + 11) = some (z_al G 56 w10) := by simp [z_tw]
theorem z_tw_r11 : z_tw G t w0 w1 w2 w3 w4 w5 w6 w7 w8 w9 w10 w11 w12 w13 w14 w15 w16 w17 w18 w19 w20 w21 w22 w23 w24 w25 w26 w27 w28 h (t + 12) = some (z_al G 8 w11) := by simp [z_tw]
theorem z_tw_r19 : z_tw G t w0 w1 w2 w3 w4 w5 w6 w7 w8 w9 w10 w11 w12 w13 w14 w15 w16 w17 w18 w19 w20 w21 w22 w23 w24 w25 w26 w27 w28 h (t + 13) = some (z_ai G 120 w19) := by simp [z_tw]
theorem z_tw_r21 : z_tw G t w0 w1 w2 w3 w4 w5 w6 w7 w8 w9 w10 w11 w12 w13 w14 w15 w16 w17 w18 w19 w20 w21 w22 w23 w24 w25 w26 w27 w28 h (t + 14) = some (z_ai G 60 w21) := by simp [z_tw]
theorem z_tw_r22 : z_tw G t w0 w1 w2 w3 w4 w5 w6 w7 w8 w9 w10 w11 w12 w13 w14 w15 w16 w17 w18 w19 w20 w21 w22 w23 w24 w25 w26 w27 w28 h (t + 15) = some (z_ai G 32 w22) := by simp [z_tw]
theorem z_tw_r23 : z_tw G t w0 w1 w2 w3 w4 w5 w6 w7 w8 w9 w10 w11 w12 w13 w14 w15 w16 w17 w18 w19 w20 w21 w22 w23 w24 w25 w26 w27 w28 h (t + 16) = some (z_ai G 128 w23) := by simp [z_tw]
theorem z_tw_u0 {f : Nat → Int32} : z_up (z_tw G t w0 w1 w2 w3 w4 w5 w6 w7 w8 w9 w10 w11 w12 w13 w14 w15 w16 w17 w18 w19 w20 w21 w22 w23 w24 w25 w26 w27 w28 h) (t + 1) (z_ai G 272 f) = z_tw G t f w1 w2 w3 w4 w5 w6 w7 w8 w9 w10 w11 w12 w13 w14 w15 w16 w17 w18 w19 w20 w21 w22 w23 w24 w25 w26 w27 w28 h := by
  funext x
  by_cases hx : x = t + 1
  · subst hx
    simp [z_up, z_tw]
  · simp only [z_up, z_tw, hx, if_false]
theorem z_tw_u1 {f : Nat → Int32} : z_up (z_tw G t w0 w1 w2 w3 w4 w5 w6 w7 w8 w9 w10 w11 w12 w13 w14 w15 w16 w17 w18 w19 w20 w21 w22 w23 w24 w25 w26 w27 w28 h) (t + 2) (z_ai G 272 f) = z_tw G t w0 f w2 w3 w4 w5 w6 w7 w8 w9 w10 w11 w12 w13 w14 w15 w16 w17 w18 w19 w20 w21 w22 w23 w24 w25 w26 w27 w28 h := by
  funext x
  by_cases hx : x = t + 2
  · subst hx
    simp [z_up, z_tw]
  · simp only [z_up, z_tw, hx, if_false]
theorem z_tw_u2 {f : Nat → Int32} : z_up (z_tw G t w0 w1 w2 w3 w4 w5 w6 w7 w8 w9 w10 w11 w12 w13 w14 w15 w16 w17 w18 w19 w20 w21 w22 w23 w24 w25 w26 w27 w28 h) (t + 3) (z_ai G 272 f) = z_tw G t w0 w1 f w3 w4 w5 w6 w7 w8 w9 w10 w11 w12 w13 w14 w15 w16 w17 w18 w19 w20 w21 w22 w23 w24 w25 w26 w27 w28 h := by
  funext x
  by_cases hx : x = t + 3
  · subst hx
    simp [z_up, z_tw]
  · simp only [z_up, z_tw, hx, if_false]
theorem z_tw_u3 {f : Nat → Int32} : z_up (z_tw G t w0 w1 w2 w3 w4 w5 w6 w7 w8 w9 w10 w11 w12 w13 w14 w15 w16 w17 w18 w19 w20 w21 w22 w23 w24 w25 w26 w27 w28 h) (t + 4) (z_ai G 2176 f) = z_tw G t w0 w1 w2 f w4 w5 w6 w7 w8 w9 w10 w11 w12 w13 w14 w15 w16 w17 w18 w19 w20 w21 w22 w23 w24 w25 w26 w27 w28 h := by
  funext x
  by_cases hx : x = t + 4
  · subst hx
    simp [z_up, z_tw]
  · simp only [z_up, z_tw, hx, if_false]
theorem z_tw_u4 {f : Nat → Int32} : z_up (z_tw G t w0 w1 w2 w3 w4 w5 w6 w7 w8 w9 w10 w11 w12 w13 w14 w15 w16 w17 w18 w19 w20 w21 w22 w23 w24 w25 w26 w27 w28 h) (t + 5) (z_ai G 8 f) = z_tw G t w0 w1 w2 w3 f w5 w6 w7 w8 w9 w10 w11 w12 w13 w14 w15 w16 w17 w18 w19 w20 w21 w22 w23 w24 w25 w26 w27 w28 h := by
  funext x
  by_cases hx : x = t + 5
  · subst hx
    simp [z_up, z_tw]
  · simp only [z_up, z_tw, hx, if_false]
theorem z_tw_u5 {f : Nat → Int64} : z_up (z_tw G t w0 w1 w2 w3 w4 w5 w6 w7 w8 w9 w10 w11 w12 w13 w14 w15 w16 w17 w18 w19 w20 w21 w22 w23 w24 w25 w26 w27 w28 h) (t + 6) (z_al G 280 f) = z_tw G t w0 w1 w2 w3 w4 f w6 w7 w8 w9 w10 w11 w12 w13 w14 w15 w16 w17 w18 w19 w20 w21 w22 w23 w24 w25 w26 w27 w28 h := by
  funext x
  by_cases hx : x = t + 6
  · subst hx
    simp [z_up, z_tw]
  · simp only [z_up, z_tw, hx, if_false]
theorem z_tw_u6 {f : Nat → Int64} : z_up (z_tw G t w0 w1 w2 w3 w4 w5 w6 w7 w8 w9 w10 w11 w12 w13 w14 w15 w16 w17 w18 w19 w20 w21 w22 w23 w24 w25 w26 w27 w28 h) (t + 7) (z_al G 280 f) = z_tw G t w0 w1 w2 w3 w4 w5 f w7 w8 w9 w10 w11 w12 w13 w14 w15 w16 w17 w18 w19 w20 w21 w22 w23 w24 w25 w26 w27 w28 h := by
  funext x
  by_cases hx : x = t + 7
  · subst hx
    simp [z_up, z_tw]
  · simp only [z_up, z_tw, hx, if_false]
theorem z_tw_u7 {f : Nat → Int64} : z_up (z_tw G t w0 w1 w2 w3 w4 w5 w6 w7 w8 w9 w10 w11 w12 w13 w14 w15 w16 w17 w18 w19 w20 w21 w22 w23 w24 w25 w26 w27 w28 h) (t + 8) (z_al G 280 f) = z_tw G t w0 w1 w2 w3 w4 w5 w6 f w8 w9 w10 w11 w12 w13 w14 w15 w16 w17 w18 w19 w20 w21 w22 w23 w24 w25 w26 w27 w28 h := by
  funext x
  by_cases hx : x = t + 8
  · subst hx
    simp [z_up, z_tw]
  · simp only [z_up, z_tw, hx, if_false]
theorem z_tw_u8 {f : Nat → Int64} : z_up (z_tw G t w0 w1 w2 w3 w4 w5 w6 w7 w8 w9 w10 w11 w12 w13 w14 w15 w16 w17 w18 w19 w20 w21 w22 w23 w24 w25 w26 w27 w28 h) (t + 9) (z_al G 2240 f) = z_tw G t w0 w1 w2 w3 w4 w5 w6 w7 f w9 w10 w11 w12 w13 w14 w15 w16 w17 w18 w19 w20 w21 w22 w23 w24 w25 w26 w27 w28 h := by
  funext x
  by_cases hx : x = t + 9
  · subst hx
    simp [z_up, z_tw]
  · simp only [z_up, z_tw, hx, if_false]
theorem z_tw_u9 {f : Nat → Int64} : z_up (z_tw G t w0 w1 w2 w3 w4 w5 w6 w7 w8 w9 w10 w11 w12 w13 w14 w15 w16 w17 w18 w19 w20 w21 w22 w23 w24 w25 w26 w27 w28 h) (t + 10) (z_al G 280 f) = z_tw G t w0 w1 w2 w3 w4 w5 w6 w7 w8 f w10 w11 w12 w13 w14 w15 w16 w17 w18 w19 w20 w21 w22 w23 w24 w25 w26 w27 w28 h := by
  funext x
  by_cases hx : x = t + 10
  · subst hx
    simp [z_up, z_tw]
  · simp only [z_up, z_tw, hx, if_false]
theorem z_tw_u10 {f : Nat → Int64} : z_up (z_tw G t w0 w1 w2 w3 w4 w5 w6 w7 w8 w9 w10 w11 w12 w13 w14 w15 w16 w17 w18 w19 w20 w21 w22 w23 w24 w25 w26 w27 w28 h) (t + 11) (z_al G 56 f) = z_tw G t w0 w1 w2 w3 w4 w5 w6 w7 w8 w9 f w11 w12 w13 w14 w15 w16 w17 w18 w19 w20 w21 w22 w23 w24 w25 w26 w27 w28 h := by
  funext x
  by_cases hx : x = t + 11
  · subst hx
    simp [z_up, z_tw]
  · simp only [z_up, z_tw, hx, if_false]
theorem z_tw_u11 {f : Nat → Int64} : z_up (z_tw G t w0 w1 w2 w3 w4 w5 w6 w7 w8 w9 w10 w11 w12 w13 w14 w15 w16 w17 w18 w19 w20 w21 w22 w23 w24 w25 w26 w27 w28 h) (t + 12) (z_al G 8 f) = z_tw G t w0 w1 w2 w3 w4 w5 w6 w7 w8 w9 w10 f w12 w13 w14 w15 w16 w17 w18 w19 w20 w21 w22 w23 w24 w25 w26 w27 w28 h := by
  funext x
  by_cases hx : x = t + 12
  · subst hx
    simp [z_up, z_tw]
  · simp only [z_up, z_tw, hx, if_false]
theorem z_tw_u12 {f : Int32} : z_up (z_tw G t w0 w1 w2 w3 w4 w5 w6 w7 w8 w9 w10 w11 w12 w13 w14 w15 w16 w17 w18 w19 w20 w21 w22 w23 w24 w25 w26 w27 w28 h) t (.inr (2, [.ref (t + 1), .ref (t + 2), .ref (t + 3), .ref (t + 4), .ref (t + 5), .ref (t + 6), .ref (t + 7), .ref (t + 8), .ref (t + 9), .ref (t + 10), .ref (t + 11), .ref (t + 12), .int f, .int w13, .int w14, .int w15, .int w16, .int w17, .int (z_b w18), .ref (t + 13), .int w20, .ref (t + 14), .ref (t + 15), .ref (t + 16), .int w24, .int w25, .int w26, .int w27, .int (z_b w28)])) = z_tw G t w0 w1 w2 w3 w4 w5 w6 w7 w8 w9 w10 w11 f w13 w14 w15 w16 w17 w18 w19 w20 w21 w22 w23 w24 w25 w26 w27 w28 h := by
  funext x
  by_cases hx : x = t
  · subst hx
    simp [z_up, z_tw]
  · simp only [z_up, z_tw, hx, if_false]
theorem z_tw_u13 {f : Int32} : z_up (z_tw G t w0 w1 w2 w3 w4 w5 w6 w7 w8 w9 w10 w11 w12 w13 w14 w15 w16 w17 w18 w19 w20 w21 w22 w23 w24 w25 w26 w27 w28 h) t (.inr (2, [.ref (t + 1), .ref (t + 2), .ref (t + 3), .ref (t + 4), .ref (t + 5), .ref (t + 6), .ref (t + 7), .ref (t + 8), .ref (t + 9), .ref (t + 10), .ref (t + 11), .ref (t + 12), .int w12, .int f, .int w14, .int w15, .int w16, .int w17, .int (z_b w18), .ref (t + 13), .int w20, .ref (t + 14), .ref (t + 15), .ref (t + 16), .int w24, .int w25, .int w26, .int w27, .int (z_b w28)])) = z_tw G t w0 w1 w2 w3 w4 w5 w6 w7 w8 w9 w10 w11 w12 f w14 w15 w16 w17 w18 w19 w20 w21 w22 w23 w24 w25 w26 w27 w28 h := by
  funext x
  by_cases hx : x = t
  · subst hx
    simp [z_up, z_tw]
  · simp only [z_up, z_tw, hx, if_false]
theorem z_tw_u14 {f : Int32} : z_up (z_tw G t w0 w1 w2 w3 w4 w5 w6 w7 w8 w9 w10 w11 w12 w13 w14 w15 w16 w17 w18 w19 w20 w21 w22 w23 w24 w25 w26 w27 w28 h) t (.inr (2, [.ref (t + 1), .ref (t + 2), .ref (t + 3), .ref (t + 4), .ref (t + 5), .ref (t + 6), .ref (t + 7), .ref (t + 8), .ref (t + 9), .ref (t + 10), .ref (t + 11), .ref (t + 12), .int w12, .int w13, .int f, .int w15, .int w16, .int w17, .int (z_b w18), .ref (t + 13), .int w20, .ref (t + 14), .ref (t + 15), .ref (t + 16), .int w24, .int w25, .int w26, .int w27, .int (z_b w28)])) = z_tw G t w0 w1 w2 w3 w4 w5 w6 w7 w8 w9 w10 w11 w12 w13 f w15 w16 w17 w18 w19 w20 w21 w22 w23 w24 w25 w26 w27 w28 h := by
  funext x
  by_cases hx : x = t
  · subst hx
    simp [z_up, z_tw]
  · simp only [z_up, z_tw, hx, if_false]
theorem z_tw_u15 {f : Int32} : z_up (z_tw G t w0 w1 w2 w3 w4 w5 w6 w7 w8 w9 w10 w11 w12 w13 w14 w15 w16 w17 w18 w19 w20 w21 w22 w23 w24 w25 w26 w27 w28 h) t (.inr (2, [.ref (t + 1), .ref (t + 2), .ref (t + 3), .ref (t + 4), .ref (t + 5), .ref (t + 6), .ref (t + 7), .ref (t + 8), .ref (t + 9), .ref (t + 10), .ref (t + 11), .ref (t + 12), .int w12, .int w13, .int w14, .int f, .int w16, .int w17, .int (z_b w18), .ref (t + 13), .int w20, .ref (t + 14), .ref (t + 15), .ref (t + 16), .int w24, .int w25, .int w26, .int w27, .int (z_b w28)])) = z_tw G t w0 w1 w2 w3 w4 w5 w6 w7 w8 w9 w10 w11 w12 w13 w14 f w16 w17 w18 w19 w20 w21 w22 w23 w24 w25 w26 w27 w28 h := by
  funext x
  by_cases hx : x = t
  · subst hx
    simp [z_up, z_tw]
  · simp only [z_up, z_tw, hx, if_false]
theorem z_tw_u16 {f : Int32} : z_up (z_tw G t w0 w1 w2 w3 w4 w5 w6 w7 w8 w9 w10 w11 w12 w13 w14 w15 w16 w17 w18 w19 w20 w21 w22 w23 w24 w25 w26 w27 w28 h) t (.inr (2, [.ref (t + 1), .ref (t + 2), .ref (t + 3), .ref (t + 4), .ref (t + 5), .ref (t + 6), .ref (t + 7), .ref (t + 8), .ref (t + 9), .ref (t + 10), .ref (t + 11), .ref (t + 12), .int w12, .int w13, .int w14, .int w15, .int f, .int w17, .int (z_b w18), .ref (t + 13), .int w20, .ref (t + 14), .ref (t + 15), .ref (t + 16), .int w24, .int w25, .int w26, .int w27, .int (z_b w28)])) = z_tw G t w0 w1 w2 w3 w4 w5 w6 w7 w8 w9 w10 w11 w12 w13 w14 w15 f w17 w18 w19 w20 w21 w22 w23 w24 w25 w26 w27 w28 h := by
  funext x
  by_cases hx : x = t
  · subst hx
    simp [z_up, z_tw]
  · simp only [z_up, z_tw, hx, if_false]
theorem z_tw_u17 {f : Int32} : z_up (z_tw G t w0 w1 w2 w3 w4 w5 w6 w7 w8 w9 w10 w11 w12 w13 w14 w15 w16 w17 w18 w19 w20 w21 w22 w23 w24 w25 w26 w27 w28 h) t (.inr (2, [.ref (t + 1), .ref (t + 2), .ref (t + 3), .ref (t + 4), .ref (t + 5), .ref (t + 6), .ref (t + 7), .ref (t + 8), .ref (t + 9), .ref (t + 10), .ref (t + 11), .ref (t + 12), .int w12, .int w13, .int w14, .int w15, .int w16, .int f, .int (z_b w18), .ref (t + 13), .int w20, .ref (t + 14), .ref (t + 15), .ref (t + 16), .int w24, .int w25, .int w26, .int w27, .int (z_b w28)])) = z_tw G t w0 w1 w2 w3 w4 w5 w6 w7 w8 w9 w10 w11 w12 w13 w14 w15 w16 f w18 w19 w20 w21 w22 w23 w24 w25 w26 w27 w28 h := by
  funext x
  by_cases hx : x = t
  · subst hx
    simp [z_up, z_tw]
  · simp only [z_up, z_tw, hx, if_false]
theorem z_tw_u18 {f : Bool} : z_up (z_tw G t w0 w1 w2 w3 w4 w5 w6 w7 w8 w9 w10 w11 w12 w13 w14 w15 w16 w17 w18 w19 w20 w21 w22 w23 w24 w25 w26 w27 w28 h) t (.inr (2, [.ref (t + 1), .ref (t + 2), .ref (t + 3), .ref (t + 4), .ref (t + 5), .ref (t + 6), .ref (t + 7), .ref (t + 8), .ref (t + 9), .ref (t + 10), .ref (t + 11), .ref (t + 12), .int w12, .int w13, .int w14, .int w15, .int w16, .int w17, .int (z_b f), .ref (t + 13), .int w20, .ref (t + 14), .ref (t + 15), .ref (t + 16), .int w24, .int w25, .int w26, .int w27, .int (z_b w28)])) = z_tw G t w0 w1 w2 w3 w4 w5 w6 w7 w8 w9 w10 w11 w12 w13 w14 w15 w16 w17 f w19 w20 w21 w22 w23 w24 w25 w26 w27 w28 h := by
  funext x
  by_cases hx : x = t
  · subst hx
    simp [z_up, z_tw]
  · simp only [z_up, z_tw, hx, if_false]
theorem z_tw_u19 {f : Nat → Int32} : z_up (z_tw G t w0 w1 w2 w3 w4 w5 w6 w7 w8 w9 w10 w11 w12 w13 w14 w15 w16 w17 w18 w19 w20 w21 w22 w23 w24 w25 w26 w27 w28 h) (t + 13) (z_ai G 120 f) = z_tw G t w0 w1 w2 w3 w4 w5 w6 w7 w8 w9 w10 w11 w12 w13 w14 w15 w16 w17 w18 f w20 w21 w22 w23 w24 w25 w26 w27 w28 h := by
  funext x
  by_cases hx : x = t + 13
  · subst hx
    simp [z_up, z_tw]
  · simp only [z_up, z_tw, hx, if_false]
theorem z_tw_u20 {f : Int32} : z_up (z_tw G t w0 w1 w2 w3 w4 w5 w6 w7 w8 w9 w10 w11 w12 w13 w14 w15 w16 w17 w18 w19 w20 w21 w22 w23 w24 w25 w26 w27 w28 h) t (.inr (2, [.ref (t + 1), .ref (t + 2), .ref (t + 3), .ref (t + 4), .ref (t + 5), .ref (t + 6), .ref (t + 7), .ref (t + 8), .ref (t + 9), .ref (t + 10), .ref (t + 11), .ref (t + 12), .int w12, .int w13, .int w14, .int w15, .int w16, .int w17, .int (z_b w18), .ref (t + 13), .int f, .ref (t + 14), .ref (t + 15), .ref (t + 16), .int w24, .int w25, .int w26, .int w27, .int (z_b w28)])) = z_tw G t w0 w1 w2 w3 w4 w5 w6 w7 w8 w9 w10 w11 w12 w13 w14 w15 w16 w17 w18 w19 f w21 w22 w23 w24 w25 w26 w27 w28 h := by
  funext x
  by_cases hx : x = t
  · subst hx
    simp [z_up, z_tw]
  · simp only [z_up, z_tw, hx, if_false]
theorem z_tw_u21 {f : Nat → Int32} : z_up (z_tw G t w0 w1 w2 w3 w4 w5 w6 w7 w8 w9 w10 w11 w12 w13 w14 w15 w16 w17 w18 w19 w20 w21 w22 w23 w24 w25 w26 w27 w28 h) (t + 14) (z_ai G 60 f) = z_tw G t w0 w1 w2 w3 w4 w5 w6 w7 w8 w9 w10 w11 w12 w13 w14 w15 w16 w17 w18 w19 w20 f w22 w23 w24 w25 w26 w27 w28 h := by
  funext x
  by_cases hx : x = t + 14
  · subst hx
    simp [z_up, z_tw]
  · simp only [z_up, z_tw, hx, if_false]
theorem z_tw_u22 {f : Nat → Int32} : z_up (z_tw G t w0 w1 w2 w3 w4 w5 w6 w7 w8 w9 w10 w11 w12 w13 w14 w15 w16 w17 w18 w19 w20 w21 w22 w23 w24 w25 w26 w27 w28 h) (t + 15) (z_ai G 32 f) = z_tw G t w0 w1 w2 w3 w4 w5 w6 w7 w8 w9 w10 w11 w12 w13 w14 w15 w16 w17 w18 w19 w20 w21 f w23 w24 w25 w26 w27 w28 h := by
  funext x
  by_cases hx : x = t + 15
  · subst hx
    simp [z_up, z_tw]
  · simp only [z_up, z_tw, hx, if_false]
theorem z_tw_u23 {f : Nat → Int32} : z_up (z_tw G t w0 w1 w2 w3 w4 w5 w6 w7 w8 w9 w10 w11 w12 w13 w14 w15 w16 w17 w18 w19 w20 w21 w22 w23 w24 w25 w26 w27 w28 h) (t + 16) (z_ai G 128 f) = z_tw G t w0 w1 w2 w3 w4 w5 w6 w7 w8 w9 w10 w11 w12 w13 w14 w15 w16 w17 w18 w19 w20 w21 w22 f w24 w25 w26 w27 w28 h := by
  funext x
  by_cases hx : x = t + 16
  · subst hx
    simp [z_up, z_tw]
  · simp only [z_up, z_tw, hx, if_false]
theorem z_tw_u24 {f : Int32} : z_up (z_tw G t w0 w1 w2 w3 w4 w5 w6 w7 w8 w9 w10 w11 w12 w13 w14 w15 w16 w17 w18 w19 w20 w21 w22 w23 w24 w25 w26 w27 w28 h) t (.inr (2, [.ref (t + 1), .ref (t + 2), .ref (t + 3), .ref (t + 4), .ref (t + 5), .ref (t + 6), .ref (t + 7), .ref (t + 8), .ref (t + 9), .ref (t + 10), .ref (t + 11), .ref (t + 12), .int w12, .int w13, .int w14, .int w15, .int w16, .int w17, .int (z_b w18), .ref (t + 13), .int w20, .ref (t + 14), .ref (t + 15), .ref (t + 16), .int f, .int w25, .int w26, .int w27, .int (z_b w28)])) = z_tw G t w0 w1 w2 w3 w4 w5 w6 w7 w8 w9 w10 w11 w12 w13 w14 w15 w16 w17 w18 w19 w20 w21 w22 w23 f w25 w26 w27 w28 h := by
  funext x
  by_cases hx : x = t
  · subst hx
    simp [z_up, z_tw]
  · simp only [z_up, z_tw, hx, if_false]
theorem z_tw_u25 {f : Int32} : z_up (z_tw G t w0 w1 w2 w3 w4 w5 w6 w7 w8 w9 w10 w11 w12 w13 w14 w15 w16 w17 w18 w19 w20 w21 w22 w23 w24 w25 w26 w27 w28 h) t (.inr (2, [.ref (t + 1), .ref (t + 2), .ref (t + 3), .ref (t + 4), .ref (t + 5), .ref (t + 6), .ref (t + 7), .ref (t + 8), .ref (t + 9), .ref (t + 10), .ref (t + 11), .ref (t + 12), .int w12, .int w13, .int w14, .int w15, .int w16, .int w17, .int (z_b w18), .ref (t + 13), .int w20, .ref (t + 14), .ref (t + 15), .ref (t + 16), .int w24, .int f, .int w26, .int w27, .int (z_b w28)])) = z_tw G t w0 w1 w2 w3 w4 w5 w6 w7 w8 w9 w10 w11 w12 w13 w14 w15 w16 w17 w18 w19 w20 w21 w22 w23 w24 f w26 w27 w28 h := by
  funext x
  by_cases hx : x = t
  · subst hx
    simp [z_up, z_tw]
  · simp only [z_up, z_tw, hx, if_false]
theorem z_tw_u26 {f : Int32} : z_up (z_tw G t w0 w1 w2 w3 w4 w5 w6 w7 w8 w9 w10 w11 w12 w13 w14 w15 w16 w17 w18 w19 w20 w21 w22 w23 w24 w25 w26 w27 w28 h) t (.inr (2, [.ref (t + 1), .ref (t + 2), .ref (t + 3), .ref (t + 4), .ref (t + 5), .ref (t + 6), .ref (t + 7), .ref (t + 8), .ref (t + 9), .ref (t + 10), .ref (t + 11), .ref (t + 12), .int w12, .int w13, .int w14, .int w15, .int w16, .int w17, .int (z_b w18), .ref (t + 13), .int w20, .ref (t + 14), .ref (t + 15), .ref (t + 16), .int w24, .int w25, .int f, .int w27, .int (z_b w28)])) = z_tw G t w0 w1 w2 w3 w4 w5 w6 w7 w8 w9 w10 w11 w12 w13 w14 w15 w16 w17 w18 w19 w20 w21 w22 w23 w24 w25 f w27 w28 h := by
  funext x
  by_cases hx : x = t
  · subst hx
    simp [z_up, z_tw]
  · simp only [z_up, z_tw, hx, if_false]
theorem z_tw_u27 {f : Int32} : z_up (z_tw G t w0 w1 w2 w3 w4 w5 w6 w7 w8 w9 w10 w11 w12 w13 w14 w15 w16 w17 w18 w19 w20 w21 w22 w23 w24 w25 w26 w27 w28 h) t (.inr (2, [.ref (t + 1), .ref (t + 2), .ref (t + 3), .ref (t + 4), .ref (t + 5), .ref (t + 6), .ref (t + 7), .ref (t + 8), .ref (t + 9), .ref (t + 10), .ref (t + 11), .ref (t + 12), .int w12, .int w13, .int w14, .int w15, .int w16, .int w17, .int (z_b w18), .ref (t + 13), .int w20, .ref (t + 14), .ref (t + 15), .ref (t + 16), .int w24, .int w25, .int w26, .int f, .int (z_b w28)])) = z_tw G t w0 w1 w2 w3 w4 w5 w6 w7 w8 w9 w10 w11 w12 w13 w14 w15 w16 w17 w18 w19 w20 w21 w22 w23 w24 w25 w26 f w28 h := by
  funext x
  by_cases hx : x = t
  · subst hx
    simp [z_up, z_tw]
  · simp only [z_up, z_tw, hx, if_false]
theorem z_tw_u28 {f : Bool} : z_up (z_tw G t w0 w1 w2 w3 w4 w5 w6 w7 w8 w9 w10 w11 w12 w13 w14 w15 w16 w17 w18 w19 w20 w21 w22 w23 w24 w25 w26 w27 w28 h) t (.inr (2, [.ref (t + 1), .ref (t + 2), .ref (t + 3), .ref (t + 4), .ref (t + 5), .ref (t + 6), .ref (t + 7), .ref (t + 8), .ref (t + 9), .ref (t + 10), .ref (t + 11), .ref (t + 12), .int w12, .int w13, .int w14, .int w15, .int w16, .int w17, .int (z_b w18), .ref (t + 13), .int w20, .ref (t + 14), .ref (t + 15), .ref (t + 16), .int w24, .int w25, .int w26, .int w27, .int (z_b f)])) = z_tw G t w0 w1 w2 w3 w4 w5 w6 w7 w8 w9 w10 w11 w12 w13 w14 w15 w16 w17 w18 w19 w20 w21 w22 w23 w24 w25 w26 w27 f h := by
  funext x
  by_cases hx : x = t
  · subst hx
    simp [z_up, z_tw]
  · simp only [z_up, z_tw, hx, if_false]
theorem z_tw_out {x : Nat} (hx : x < t ∨ t + 17 ≤ x) : z_tw G t w0 w1 w2 w3 w4 w5 w6 w7 w8 w9 w10 w11 w12 w13 w14 w15 w16 w17 w18 w19 w20 w21 w22 w23 w24 w25 w26 w27 w28 h x = h x := by
  unfold z_tw
  repeat (rw [if_neg (by omega)])
end ZTW

