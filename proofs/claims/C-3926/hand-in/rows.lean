section
/-! part 01: rows pasted from PURE-ROWS (pk_us .. pk_cl), and the index arithmetic of this claim -/
theorem pk_us {f : Nat → Int32} {k : Nat} {x : Int32} : upd f k x k = x := if_pos rfl
theorem pk_un {f : Nat → Int32} {k j : Nat} {x : Int32} (h : j ≠ k) : upd f k x j = f j := if_neg h
theorem pk_sub {a b : Nat} (h : b ≤ a) : nI a - nI b = nI (a - b) := by
  obtain ⟨c, rfl⟩ : ∃ c, a = c + b := ⟨a - b, by omega⟩
  rw [← nI_add, Int32.add_sub_cancel, Nat.add_sub_cancel]
theorem pk_mul (a b : Nat) : nI a * nI b = nI (a * b) := (Int32.ofNat_mul a b).symm
theorem pk_div {a d : Nat} (ha : a < 2 ^ 31) (h0 : 0 < d) (hd : d < 2 ^ 31) : nI a / nI d = nI (a / d) := by
  apply Int32.toInt_inj.mp
  rw [lg_idiv_nonneg (by rw [nI_toInt ha]; omega) (by rw [nI_toInt hd]; omega), nI_toInt ha, nI_toInt hd, nI_toInt (Nat.lt_of_le_of_lt (Nat.div_le_self a d) ha)]
  first | rfl | exact (Int.natCast_ediv _ _).symm
theorem pk_rem {a d : Nat} (ha : a < 2 ^ 31) (h0 : 0 < d) (hd : d < 2 ^ 31) : nI a - nI a / nI d * nI d = nI (a % d) := by
  rw [pk_div ha h0 hd, pk_mul, pk_sub (Nat.div_mul_le_self a d)]
  exact congrArg nI (by have := Nat.div_add_mod' a d; omega)
theorem pk_in {x : Int32} (n N : Nat) (h : n < N) (hx : x = nI n := by rfl) (hN : N < 2 ^ 31 := by omega) : vp_in x N := by
  subst hx
  exact vp_in_nI h hN
theorem pk_cl {x : Int32} (n : Nat) (hx : x = nI n := by rfl) (h : n < 2 ^ 31 := by omega) : x.toNatClampNeg = n := by
  subst hx
  exact nI_clamp h
/-! own rows: literals times, plus, under -/
theorem wg_m2 (a : Nat) : (2 : Int32) * nI a = nI (2 * a) := pk_mul 2 a
theorem wg_m4 (a : Nat) : (4 : Int32) * nI a = nI (4 * a) := pk_mul 4 a
theorem wg_m9 (a : Nat) : (9 : Int32) * nI a = nI (9 * a) := pk_mul 9 a
theorem wg_m10 (a : Nat) : (10 : Int32) * nI a = nI (10 * a) := pk_mul 10 a
theorem wg_m16 (a : Nat) : (16 : Int32) * nI a = nI (16 * a) := pk_mul 16 a
theorem wg_m20 (a : Nat) : (20 : Int32) * nI a = nI (20 * a) := pk_mul 20 a
theorem wg_a2 (a : Nat) : nI a + 2 = nI (a + 2) := nI_add a 2
theorem wg_a3 (a : Nat) : nI a + 3 = nI (a + 3) := nI_add a 3
theorem wg_a6 (a : Nat) : nI a + 6 = nI (a + 6) := nI_add a 6
theorem wg_a8 (a : Nat) : nI a + 8 = nI (a + 8) := nI_add a 8
theorem wg_a10 (a : Nat) : nI a + 10 = nI (a + 10) := nI_add a 10
theorem wg_a11 (a : Nat) : nI a + 11 = nI (a + 11) := nI_add a 11
theorem wg_p4 (a : Nat) : (4 : Int32) + nI a = nI (4 + a) := nI_add 4 a
theorem wg_p8 (a : Nat) : (8 : Int32) + nI a = nI (8 + a) := nI_add 8 a
theorem wg_p12 (a : Nat) : (12 : Int32) + nI a = nI (12 + a) := nI_add 12 a
theorem wg_d3 {a : Nat} (h : a < 1000) : nI a / 3 = nI (a / 3) := pk_div (d := 3) (by omega) (by decide) (by decide)
theorem wg_d4 {a : Nat} (h : a < 1000) : nI a / 4 = nI (a / 4) := pk_div (d := 4) (by omega) (by decide) (by decide)
theorem wg_d5 {a : Nat} (h : a < 1000) : nI a / 5 = nI (a / 5) := pk_div (d := 5) (by omega) (by decide) (by decide)
theorem wg_d10 {a : Nat} (h : a < 1000) : nI a / 10 = nI (a / 10) := pk_div (d := 10) (by omega) (by decide) (by decide)
theorem wg_r3 {a : Nat} (h : a < 1000) : nI a - nI a / 3 * 3 = nI (a % 3) := pk_rem (d := 3) (by omega) (by decide) (by decide)
theorem wg_r4 {a : Nat} (h : a < 1000) : nI a - nI a / 4 * 4 = nI (a % 4) := pk_rem (d := 4) (by omega) (by decide) (by decide)
theorem wg_r5 {a : Nat} (h : a < 1000) : nI a - nI a / 5 * 5 = nI (a % 5) := pk_rem (d := 5) (by omega) (by decide) (by decide)
theorem wg_r10 {a : Nat} (h : a < 1000) : nI a - nI a / 10 * 10 = nI (a % 10) := pk_rem (d := 10) (by omega) (by decide) (by decide)
theorem wg_cl {a : Nat} (h : a < 1000) : (nI a).toNatClampNeg = a := nI_clamp (by omega)
theorem wg_in {a N : Nat} (h : a < N) (hN : N < 1000) : vp_in (nI a) N := vp_in_nI h (by omega)
/-- a coordinate shifted by one -/
theorem wg_sh (x k : Nat) : (nI x - 1) + nI k = nI (x + k) - 1 := by
  rw [← nI_add]; grind
theorem wg_sh' (x k : Nat) : (nI x + nI k) - 1 = nI (x + k) - 1 := by rw [nI_add]
theorem wg_neg : (nI 0 : Int32) - 1 < 0 := by decide
theorem wg_posp {p : Nat} (h : p < 1000) : ¬ nI (p + 1) - 1 < 0 := by rw [nI_pred]; exact nI_pos (by omega)
theorem wg_g10 {p : Nat} (h : 10 ≤ p) (hp : p < 1000) : (10 : Int32) ≤ nI (p + 1) - 1 := by rw [nI_pred]; exact nI_le (a := 10) h (by omega)
theorem wg_l10 {p : Nat} (h : p < 10) : ¬ (10 : Int32) ≤ nI (p + 1) - 1 := by rw [nI_pred]; exact nI_ge (b := 10) h (by decide)
theorem wg_g9 {p : Nat} (h : 10 ≤ p) (hp : p < 1000) : (9 : Int32) < nI (p + 1) - 1 := by rw [nI_pred]; exact nI_lt (a := 9) (by omega) (by omega)
theorem wg_l9 {p : Nat} (h : p < 10) : ¬ (9 : Int32) < nI (p + 1) - 1 := by rw [nI_pred]; exact nI_nlt (b := p) (a := 9) (by omega) (by decide)
/-- bounds -/
def wg_B (x : Int32) (b : Nat) : Prop := x.toInt.natAbs ≤ b
theorem wg_B0 (b : Nat) : wg_B 0 b := by
  show (0 : Int32).toInt.natAbs ≤ b
  rw [show (0 : Int32).toInt = 0 from by decide]; simp
theorem wg_Badd {x y : Int32} {a b c : Nat} (hx : wg_B x a) (hy : wg_B y b) (hc : a + b ≤ c) (h : c < 1000000000) : wg_B (x + y) c := by
  simp only [wg_B] at *
  rw [Jvm.Kit.i32_add (by omega) (by omega)]
  omega
theorem wg_Bmul {x y : Int32} {a b : Nat} (hx : wg_B x a) (hy : wg_B y b) (h : a * b < 1000000000) : wg_B (x * y) (a * b) := by
  simp only [wg_B] at *
  have e : (x.toInt * y.toInt).natAbs ≤ a * b := by
    rw [Int.natAbs_mul]; exact Nat.mul_le_mul hx hy
  rw [Jvm.Kit.i32_mul (by omega) (by omega)]
  exact e
theorem wg_Bmono {x : Int32} {a b : Nat} (hx : wg_B x a) (h : a ≤ b) : wg_B x b := Nat.le_trans hx h
theorem wg_div4 {r : Int32} {b : Nat} (h : wg_B r b) (hb : b < 500000000) : (4 * r) / 4 = r := by
  simp only [wg_B] at h
  have e4 : (4 : Int32).toInt = 4 := by decide
  have e : (4 * r : Int32).toInt = 4 * r.toInt := by
    rw [Jvm.Kit.i32_mul (by rw [e4]; omega) (by rw [e4]; omega), e4]
  apply Int32.toInt_inj.mp
  rw [Int32.toInt_div_of_ne_right _ _ (by decide), e, e4]
  exact Int.mul_tdiv_cancel_left _ (by decide)
theorem wg_byte {x : Int32} {b : Nat} (h : wg_B x b) (hb : b < 128) : x.toInt8.toInt32 = x := by
  simp only [wg_B] at h
  exact lg_i2b_small (by omega) (by omega)
theorem wg_nb {x : Int32} {b : Nat} (h : wg_B x b) (hb : b < 128) : vp_nar .byte x = x := by rw [vp_nar_byte, wg_byte h hb]
theorem wg_nbb {x : Int32} {b : Nat} (h : wg_B x b) (hb : b < 128) : vp_nar .byte x.toInt8.toInt32 = x := by rw [wg_byte h hb, wg_nb h hb]
theorem wg_B99 {x : Int32} (h1 : ¬ x < (-99)) (h2 : x ≤ 99) : wg_B x 99 := by
  rw [Int32.lt_iff_toInt_lt, show (-99 : Int32).toInt = -99 from by decide] at h1
  rw [Int32.le_iff_toInt_le, show (99 : Int32).toInt = 99 from by decide] at h2
  simp only [wg_B]; omega
theorem wg_B9 {x : Int32} (h1 : ¬ x < (-9)) (h2 : x ≤ 9) : wg_B x 9 := by
  rw [Int32.lt_iff_toInt_lt, show (-9 : Int32).toInt = -9 from by decide] at h1
  rw [Int32.le_iff_toInt_le, show (9 : Int32).toInt = 9 from by decide] at h2
  simp only [wg_B]; omega
end
section
/-! part 02: the plain law: padded cells, nine products, the turned forms, and that they agree -/
/-- a cell of the image with a border of zeros; coordinates shifted by one -/
def wg_pd (a : Nat → Int32) (p q : Nat) : Int32 := if p = 0 ∨ 10 < p ∨ q = 0 ∨ 10 < q then 0 else a (10 * (q - 1) + (p - 1))
def wg_tm (w a : Nat → Int32) (f x y k : Nat) : Int32 := w (9 * f + k) * wg_pd a (x + k % 3) (y + k / 3)
def wg_sm (w a : Nat → Int32) (f x y : Nat) : Nat → Int32
  | 0 => 0
  | k + 1 => wg_sm w a f x y k + wg_tm w a f x y k
def wg_cv (w a : Nat → Int32) (f x y : Nat) : Int32 := wg_sm w a f x y 9
def wg_R (w a : Nat → Int32) (f : Nat) : Nat → Int32 := fun c => wg_cv w a f (c % 10) (c / 10)
theorem wg_pd0 {a : Nat → Int32} {p q : Nat} (h : p = 0 ∨ 10 < p ∨ q = 0 ∨ 10 < q) : wg_pd a p q = 0 := if_pos h
theorem wg_pd1 {a : Nat → Int32} {p q : Nat} (hp : p < 10) (hq : q < 10) : wg_pd a (p + 1) (q + 1) = a (10 * q + p) :=
  (if_neg (by omega)).trans rfl
theorem wg_pdc {a b : Nat → Int32} (h : ∀ c, c < 100 → a c = b c) (p q : Nat) : wg_pd a p q = wg_pd b p q := by
  unfold wg_pd
  by_cases z : p = 0 ∨ 10 < p ∨ q = 0 ∨ 10 < q
  · rw [if_pos z, if_pos z]
  · rw [if_neg z, if_neg z]; exact h _ (by omega)
theorem wg_pdB {a : Nat → Int32} {M : Nat} (h : ∀ c, c < 100 → wg_B (a c) M) (p q : Nat) : wg_B (wg_pd a p q) M := by
  unfold wg_pd
  by_cases z : p = 0 ∨ 10 < p ∨ q = 0 ∨ 10 < q
  · rw [if_pos z]; exact wg_B0 M
  · rw [if_neg z]; exact h _ (by omega)
theorem wg_smc {w w' a b : Nat → Int32} {f : Nat} (hw : ∀ j, j < 9 → w (9 * f + j) = w' (9 * f + j)) (h : ∀ c, c < 100 → a c = b c) (x y : Nat) :
    ∀ k, k ≤ 9 → wg_sm w a f x y k = wg_sm w' b f x y k := by
  intro k
  induction k with
  | zero => intro _; rfl
  | succ k ih =>
    intro hk
    show wg_sm w a f x y k + wg_tm w a f x y k = wg_sm w' b f x y k + wg_tm w' b f x y k
    rw [ih (by omega)]
    unfold wg_tm
    rw [hw k (by omega), wg_pdc h]
theorem wg_cvc {w a b : Nat → Int32} {f : Nat} (h : ∀ c, c < 100 → a c = b c) (x y : Nat) : wg_cv w a f x y = wg_cv w b f x y :=
  wg_smc (fun _ _ => rfl) h x y 9 (Nat.le_refl _)
theorem wg_smB {w a : Nat → Int32} {f M : Nat} (hf : f < 2) (hw : ∀ j, j < 18 → wg_B (w j) 9) (h : ∀ c, c < 100 → wg_B (a c) M) (hM : M ≤ 8019) (x y : Nat) :
    ∀ k, k ≤ 9 → wg_B (wg_sm w a f x y k) (k * (9 * M)) := by
  intro k
  induction k with
  | zero => intro _; exact wg_B0 _
  | succ k ih =>
    intro hk
    have h1 := ih (by omega)
    have h2 : wg_B (wg_tm w a f x y k) (9 * M) := wg_Bmul (hw _ (by omega)) (wg_pdB h _ _) (by omega)
    have e : (k + 1) * (9 * M) = k * (9 * M) + 9 * M := Nat.succ_mul _ _
    have h3 : k * (9 * M) ≤ 8 * (9 * M) := Nat.mul_le_mul_right _ (by omega)
    exact wg_Badd h1 h2 (by omega) (by omega)
theorem wg_cvB {w a : Nat → Int32} {f M : Nat} (hf : f < 2) (hw : ∀ j, j < 18 → wg_B (w j) 9) (h : ∀ c, c < 100 → wg_B (a c) M) (hM : M ≤ 8019) (x y : Nat) :
    wg_B (wg_cv w a f x y) (9 * (9 * M)) := wg_smB hf hw h hM x y 9 (Nat.le_refl _)
theorem wg_RB {w a : Nat → Int32} {f M : Nat} (hf : f < 2) (hw : ∀ j, j < 18 → wg_B (w j) 9) (h : ∀ c, c < 100 → wg_B (a c) M) (hM : M ≤ 8019) (c : Nat) :
    wg_B (wg_R w a f c) (9 * (9 * M)) := wg_cvB hf hw h hM _ _
/-- the two maps of the class: three to four, four to four -/
def wg_sp (a b c : Int32) (k : Nat) : Int32 := if k = 0 then 2 * a else if k = 3 then 2 * c else if k = 1 then (a + b) + c else (a - b) + c
def wg_mx (a b c d : Int32) (k : Nat) : Int32 := if k = 0 then a - c else if k = 1 then b + c else if k = 2 then c - b else b - d
theorem wg_sp0 (a b c : Int32) : wg_sp a b c 0 = 2 * a := rfl
theorem wg_sp1 (a b c : Int32) : wg_sp a b c 1 = (a + b) + c := rfl
theorem wg_sp2 (a b c : Int32) : wg_sp a b c 2 = (a - b) + c := rfl
theorem wg_sp3 (a b c : Int32) : wg_sp a b c 3 = 2 * c := rfl
theorem wg_mx0 (a b c d : Int32) : wg_mx a b c d 0 = a - c := rfl
theorem wg_mx1 (a b c d : Int32) : wg_mx a b c d 1 = b + c := rfl
theorem wg_mx2 (a b c d : Int32) : wg_mx a b c d 2 = c - b := rfl
theorem wg_mx3 (a b c d : Int32) : wg_mx a b c d 3 = b - d := rfl
/-- one dimension: both responses of four cells, twice -/
theorem wg_F0 (a b c d0 d1 d2 d3 : Int32) :
    wg_mx d0 d1 d2 d3 0 * wg_sp a b c 0 + wg_mx d0 d1 d2 d3 1 * wg_sp a b c 1 + wg_mx d0 d1 d2 d3 2 * wg_sp a b c 2 = 2 * (d0 * a + d1 * b + d2 * c) := by
  rw [wg_sp0, wg_sp1, wg_sp2, wg_mx0, wg_mx1, wg_mx2]
  grind
theorem wg_F1 (a b c d0 d1 d2 d3 : Int32) :
    wg_mx d0 d1 d2 d3 1 * wg_sp a b c 1 - wg_mx d0 d1 d2 d3 2 * wg_sp a b c 2 - wg_mx d0 d1 d2 d3 3 * wg_sp a b c 3 = 2 * (d1 * a + d2 * b + d3 * c) := by
  rw [wg_sp3, wg_sp1, wg_sp2, wg_mx3, wg_mx1, wg_mx2]
  grind
/-- the filter after its columns, after its rows; the tile likewise -/
def wg_g (w : Nat → Int32) (f r i : Nat) : Int32 := wg_sp (w (9 * f + i)) (w (9 * f + 3 + i)) (w (9 * f + 6 + i)) r
def wg_U (w : Nat → Int32) (f r k : Nat) : Int32 := wg_sp (wg_g w f r 0) (wg_g w f r 1) (wg_g w f r 2) k
def wg_h (t : Nat → Int32) (r j : Nat) : Int32 := wg_mx (t j) (t (4 + j)) (t (8 + j)) (t (12 + j)) r
def wg_V (t : Nat → Int32) (r k : Nat) : Int32 := wg_mx (wg_h t r 0) (wg_h t r 1) (wg_h t r 2) (wg_h t r 3) k
def wg_M (w t : Nat → Int32) (f r k : Nat) : Int32 := wg_V t r k * wg_U w f r k
theorem wg_row0 (w t : Nat → Int32) (f r : Nat) : wg_M w t f r 0 + wg_M w t f r 1 + wg_M w t f r 2 = 2 * (wg_h t r 0 * wg_g w f r 0 + wg_h t r 1 * wg_g w f r 1 + wg_h t r 2 * wg_g w f r 2) :=
  wg_F0 _ _ _ _ _ _ _
theorem wg_row1 (w t : Nat → Int32) (f r : Nat) : wg_M w t f r 1 - wg_M w t f r 2 - wg_M w t f r 3 = 2 * (wg_h t r 1 * wg_g w f r 0 + wg_h t r 2 * wg_g w f r 1 + wg_h t r 3 * wg_g w f r 2) :=
  wg_F1 _ _ _ _ _ _ _
theorem wg_col0 (w t : Nat → Int32) (f i j : Nat) : wg_mx (t j) (t (4 + j)) (t (8 + j)) (t (12 + j)) 0 * wg_g w f 0 i + wg_mx (t j) (t (4 + j)) (t (8 + j)) (t (12 + j)) 1 * wg_g w f 1 i + wg_mx (t j) (t (4 + j)) (t (8 + j)) (t (12 + j)) 2 * wg_g w f 2 i
    = 2 * (t j * w (9 * f + i) + t (4 + j) * w (9 * f + 3 + i) + t (8 + j) * w (9 * f + 6 + i)) := wg_F0 _ _ _ _ _ _ _
theorem wg_col1 (w t : Nat → Int32) (f i j : Nat) : wg_mx (t j) (t (4 + j)) (t (8 + j)) (t (12 + j)) 1 * wg_g w f 1 i - wg_mx (t j) (t (4 + j)) (t (8 + j)) (t (12 + j)) 2 * wg_g w f 2 i - wg_mx (t j) (t (4 + j)) (t (8 + j)) (t (12 + j)) 3 * wg_g w f 3 i
    = 2 * (t (4 + j) * w (9 * f + i) + t (8 + j) * w (9 * f + 3 + i) + t (12 + j) * w (9 * f + 6 + i)) := wg_F1 _ _ _ _ _ _ _
theorem wg_colA (w t : Nat → Int32) (f i j : Nat) : wg_h t 0 j * wg_g w f 0 i + wg_h t 1 j * wg_g w f 1 i + wg_h t 2 j * wg_g w f 2 i
    = 2 * (t j * w (9 * f + i) + t (4 + j) * w (9 * f + 3 + i) + t (8 + j) * w (9 * f + 6 + i)) := wg_col0 w t f i j
theorem wg_colB (w t : Nat → Int32) (f i j : Nat) : wg_h t 1 j * wg_g w f 1 i - wg_h t 2 j * wg_g w f 2 i - wg_h t 3 j * wg_g w f 3 i
    = 2 * (t (4 + j) * w (9 * f + i) + t (8 + j) * w (9 * f + 3 + i) + t (12 + j) * w (9 * f + 6 + i)) := wg_col1 w t f i j
/-- rearranging nine, over plain names -/
theorem wg_re0 {m00 m01 m02 m10 m11 m12 m20 m21 m22 a0 a1 a2 b0 b1 b2 c0 c1 c2 e0 e1 e2 : Int32}
    (h0 : m00 + m01 + m02 = 2 * (a0 + a1 + a2)) (h1 : m10 + m11 + m12 = 2 * (b0 + b1 + b2)) (h2 : m20 + m21 + m22 = 2 * (c0 + c1 + c2))
    (k0 : a0 + b0 + c0 = 2 * e0) (k1 : a1 + b1 + c1 = 2 * e1) (k2 : a2 + b2 + c2 = 2 * e2) :
    ((m00 + m10 + m20) + (m01 + m11 + m21)) + (m02 + m12 + m22) = 4 * (e0 + e1 + e2) := by
  grind
theorem wg_re1 {m01 m02 m03 m11 m12 m13 m21 m22 m23 a0 a1 a2 b0 b1 b2 c0 c1 c2 e0 e1 e2 : Int32}
    (h0 : m01 - m02 - m03 = 2 * (a0 + a1 + a2)) (h1 : m11 - m12 - m13 = 2 * (b0 + b1 + b2)) (h2 : m21 - m22 - m23 = 2 * (c0 + c1 + c2))
    (k0 : a0 + b0 + c0 = 2 * e0) (k1 : a1 + b1 + c1 = 2 * e1) (k2 : a2 + b2 + c2 = 2 * e2) :
    ((m01 + m11 + m21) - (m02 + m12 + m22)) - (m03 + m13 + m23) = 4 * (e0 + e1 + e2) := by
  grind
theorem wg_re2 {m10 m11 m12 m20 m21 m22 m30 m31 m32 a0 a1 a2 b0 b1 b2 c0 c1 c2 e0 e1 e2 : Int32}
    (h0 : m10 + m11 + m12 = 2 * (a0 + a1 + a2)) (h1 : m20 + m21 + m22 = 2 * (b0 + b1 + b2)) (h2 : m30 + m31 + m32 = 2 * (c0 + c1 + c2))
    (k0 : a0 - b0 - c0 = 2 * e0) (k1 : a1 - b1 - c1 = 2 * e1) (k2 : a2 - b2 - c2 = 2 * e2) :
    ((m10 - m20 - m30) + (m11 - m21 - m31)) + (m12 - m22 - m32) = 4 * (e0 + e1 + e2) := by
  grind
theorem wg_re3 {m11 m12 m13 m21 m22 m23 m31 m32 m33 a0 a1 a2 b0 b1 b2 c0 c1 c2 e0 e1 e2 : Int32}
    (h0 : m11 - m12 - m13 = 2 * (a0 + a1 + a2)) (h1 : m21 - m22 - m23 = 2 * (b0 + b1 + b2)) (h2 : m31 - m32 - m33 = 2 * (c0 + c1 + c2))
    (k0 : a0 - b0 - c0 = 2 * e0) (k1 : a1 - b1 - c1 = 2 * e1) (k2 : a2 - b2 - c2 = 2 * e2) :
    ((m11 - m21 - m31) - (m12 - m22 - m32)) - (m13 - m23 - m33) = 4 * (e0 + e1 + e2) := by
  grind
/-- nine products by columns -/
def wg_N (w t : Nat → Int32) (f o : Nat) : Int32 :=
  ((t (o + 0) * w (9 * f + 0) + t (o + 4) * w (9 * f + 3 + 0) + t (o + 8) * w (9 * f + 6 + 0)) + (t (o + 1) * w (9 * f + 1) + t (o + 5) * w (9 * f + 3 + 1) + t (o + 9) * w (9 * f + 6 + 1)))
    + (t (o + 2) * w (9 * f + 2) + t (o + 6) * w (9 * f + 3 + 2) + t (o + 10) * w (9 * f + 6 + 2))
/-- the four responses, as the class gathers them -/
def wg_q0 (m : Nat → Int32) : Int32 := ((m 0 + m 4 + m 8) + (m 1 + m 5 + m 9)) + (m 2 + m 6 + m 10)
def wg_q1 (m : Nat → Int32) : Int32 := ((m 1 + m 5 + m 9) - (m 2 + m 6 + m 10)) - (m 3 + m 7 + m 11)
def wg_q2 (m : Nat → Int32) : Int32 := ((m 4 - m 8 - m 12) + (m 5 - m 9 - m 13)) + (m 6 - m 10 - m 14)
def wg_q3 (m : Nat → Int32) : Int32 := ((m 5 - m 9 - m 13) - (m 6 - m 10 - m 14)) - (m 7 - m 11 - m 15)
section
variable {w t m : Nat → Int32} {f : Nat}
theorem wg_Q0 (hm : ∀ r, r < 4 → ∀ k, k < 4 → m (4 * r + k) = wg_M w t f r k) : wg_q0 m = 4 * wg_N w t f 0 := by
  have e : ∀ r k, r < 4 → k < 4 → m (4 * r + k) = wg_M w t f r k := fun r k a b => hm r a k b
  have z := wg_re0 (wg_row0 w t f 0) (wg_row0 w t f 1) (wg_row0 w t f 2) (wg_colA w t f 0 0) (wg_colA w t f 1 1) (wg_colA w t f 2 2)
  rw [← e 0 0 (by decide) (by decide), ← e 0 1 (by decide) (by decide), ← e 0 2 (by decide) (by decide), ← e 1 0 (by decide) (by decide), ← e 1 1 (by decide) (by decide), ← e 1 2 (by decide) (by decide), ← e 2 0 (by decide) (by decide), ← e 2 1 (by decide) (by decide), ← e 2 2 (by decide) (by decide)] at z
  exact z
theorem wg_Q1 (hm : ∀ r, r < 4 → ∀ k, k < 4 → m (4 * r + k) = wg_M w t f r k) : wg_q1 m = 4 * wg_N w t f 1 := by
  have e : ∀ r k, r < 4 → k < 4 → m (4 * r + k) = wg_M w t f r k := fun r k a b => hm r a k b
  have z := wg_re1 (wg_row1 w t f 0) (wg_row1 w t f 1) (wg_row1 w t f 2) (wg_colA w t f 0 1) (wg_colA w t f 1 2) (wg_colA w t f 2 3)
  rw [← e 0 1 (by decide) (by decide), ← e 0 2 (by decide) (by decide), ← e 0 3 (by decide) (by decide), ← e 1 1 (by decide) (by decide), ← e 1 2 (by decide) (by decide), ← e 1 3 (by decide) (by decide), ← e 2 1 (by decide) (by decide), ← e 2 2 (by decide) (by decide), ← e 2 3 (by decide) (by decide)] at z
  exact z
theorem wg_Q2 (hm : ∀ r, r < 4 → ∀ k, k < 4 → m (4 * r + k) = wg_M w t f r k) : wg_q2 m = 4 * wg_N w t f 4 := by
  have e : ∀ r k, r < 4 → k < 4 → m (4 * r + k) = wg_M w t f r k := fun r k a b => hm r a k b
  have z := wg_re2 (wg_row0 w t f 1) (wg_row0 w t f 2) (wg_row0 w t f 3) (wg_colB w t f 0 0) (wg_colB w t f 1 1) (wg_colB w t f 2 2)
  rw [← e 1 0 (by decide) (by decide), ← e 1 1 (by decide) (by decide), ← e 1 2 (by decide) (by decide), ← e 2 0 (by decide) (by decide), ← e 2 1 (by decide) (by decide), ← e 2 2 (by decide) (by decide), ← e 3 0 (by decide) (by decide), ← e 3 1 (by decide) (by decide), ← e 3 2 (by decide) (by decide)] at z
  exact z
theorem wg_Q3 (hm : ∀ r, r < 4 → ∀ k, k < 4 → m (4 * r + k) = wg_M w t f r k) : wg_q3 m = 4 * wg_N w t f 5 := by
  have e : ∀ r k, r < 4 → k < 4 → m (4 * r + k) = wg_M w t f r k := fun r k a b => hm r a k b
  have z := wg_re3 (wg_row1 w t f 1) (wg_row1 w t f 2) (wg_row1 w t f 3) (wg_colB w t f 0 1) (wg_colB w t f 1 2) (wg_colB w t f 2 3)
  rw [← e 1 1 (by decide) (by decide), ← e 1 2 (by decide) (by decide), ← e 1 3 (by decide) (by decide), ← e 2 1 (by decide) (by decide), ← e 2 2 (by decide) (by decide), ← e 2 3 (by decide) (by decide), ← e 3 1 (by decide) (by decide), ← e 3 2 (by decide) (by decide), ← e 3 3 (by decide) (by decide)] at z
  exact z
end
theorem wg_re9 (s0 s1 s2 s3 s4 s5 s6 s7 s8 p0 p1 p2 p3 p4 p5 p6 p7 p8 : Int32) :
    ((p0 * s0 + p3 * s3 + p6 * s6) + (p1 * s1 + p4 * s4 + p7 * s7)) + (p2 * s2 + p5 * s5 + p8 * s8) = 0 + s0 * p0 + s1 * p1 + s2 * p2 + s3 * p3 + s4 * p4 + s5 * p5 + s6 * p6 + s7 * p7 + s8 * p8 := by
  grind
/-- nine products of a loaded tile at offset (i, j) are the response there -/
theorem wg_Ncv {w t a : Nat → Int32} {f X Y i j : Nat} (ht : ∀ r, r < 4 → ∀ k, k < 4 → t (4 * r + k) = wg_pd a (X + k) (Y + r)) (hi : i < 2) (hj : j < 2) :
    wg_N w t f (4 * j + i) = wg_cv w a f (X + i) (Y + j) := by
  have e : ∀ r k o, r < 3 → k < 3 → o = 4 * r + k → t (4 * j + i + o) = wg_pd a (X + i + k) (Y + j + r) := by
    intro r k o hr hk ho
    rw [show 4 * j + i + o = 4 * (j + r) + (i + k) from by omega, ht _ (by omega) _ (by omega), Nat.add_assoc X, Nat.add_assoc Y]
  unfold wg_N
  rw [e 0 0 0 (by decide) (by decide) rfl, e 1 0 4 (by decide) (by decide) rfl, e 2 0 8 (by decide) (by decide) rfl, e 0 1 1 (by decide) (by decide) rfl, e 1 1 5 (by decide) (by decide) rfl, e 2 1 9 (by decide) (by decide) rfl, e 0 2 2 (by decide) (by decide) rfl, e 1 2 6 (by decide) (by decide) rfl, e 2 2 10 (by decide) (by decide) rfl]
  exact wg_re9 (w (9 * f + 0)) (w (9 * f + 1)) (w (9 * f + 2)) (w (9 * f + 3)) (w (9 * f + 4)) (w (9 * f + 5)) (w (9 * f + 6)) (w (9 * f + 7)) (w (9 * f + 8)) _ _ _ _ _ _ _ _ _
/-- a double loop's writes: cell (i, r) at place p i r -/
def wg_P (p : Nat → Nat → Nat) (G : Nat → Nat → Int32) (N i k : Nat) (a : Nat → Int32) : Prop :=
  ∀ i' r, i' < N → r < 4 → (i' < i ∨ (i' = i ∧ r < k)) → a (p i' r) = G i' r
theorem wg_P0 {p : Nat → Nat → Nat} {G : Nat → Nat → Int32} {N : Nat} {a : Nat → Int32} : wg_P p G N 0 0 a := by
  intro i' r _ _ h; omega
theorem wg_Pn {p : Nat → Nat → Nat} {G : Nat → Nat → Int32} {N i : Nat} {a : Nat → Int32} (h : wg_P p G N i 4 a) : wg_P p G N (i + 1) 0 a := by
  intro i' r h1 h2 h3
  exact h i' r h1 h2 (by omega)
theorem wg_Ps {p : Nat → Nat → Nat} {G : Nat → Nat → Int32} {N i k : Nat} {a : Nat → Int32} (hp : ∀ i r i' r', i < N → r < 4 → i' < N → r' < 4 → p i r = p i' r' → i = i' ∧ r = r')
    (hi : i < N) (hk : k < 4) (h : wg_P p G N i k a) : wg_P p G N i (k + 1) (upd a (p i k) (G i k)) := by
  intro i' r h1 h2 h3
  by_cases e : i' = i ∧ r = k
  · obtain ⟨rfl, rfl⟩ := e; exact pk_us
  · rw [pk_un (fun z => e (hp _ _ _ _ h1 h2 hi hk z))]
    exact h i' r h1 h2 (by omega)
theorem wg_Pe {p : Nat → Nat → Nat} {G : Nat → Nat → Int32} {N : Nat} {a : Nat → Int32} (h : wg_P p G N N 0 a) {i r : Nat} (hi : i < N) (hr : r < 4) : a (p i r) = G i r :=
  h i r hi hr (Or.inl hi)
/-- by columns, by rows, by rows of filter f -/
def wg_pc (i r : Nat) : Nat := 4 * r + i
def wg_pr (i r : Nat) : Nat := 4 * i + r
def wg_pf (f i r : Nat) : Nat := 16 * f + 4 * i + r
theorem wg_pcI {N : Nat} (hN : N ≤ 4) : ∀ i r i' r', i < N → r < 4 → i' < N → r' < 4 → wg_pc i r = wg_pc i' r' → i = i' ∧ r = r' := by
  intro i r i' r' a b c d e
  simp only [wg_pc] at e; omega
theorem wg_prI {N : Nat} (hN : N ≤ 4) : ∀ i r i' r', i < N → r < 4 → i' < N → r' < 4 → wg_pr i r = wg_pr i' r' → i = i' ∧ r = r' := by
  intro i r i' r' a b c d e
  simp only [wg_pr] at e; omega
theorem wg_pfI {N : Nat} (f : Nat) (hN : N ≤ 4) : ∀ i r i' r', i < N → r < 4 → i' < N → r' < 4 → wg_pf f i r = wg_pf f i' r' → i = i' ∧ r = r' := by
  intro i r i' r' a b c d e
  simp only [wg_pf] at e; omega
end
section
/-! part 03: the reference's walk: isFilter, isCell, isPlace, at, respond -/
section
variable {post : Int32 → Prop} {u : SY} {im fi w a : Nat → Int32} {f x y : Nat} {s : Int32}
theorem uy_pl0 {p : Nat} (h : p = 0 ∨ 10 < p) (hp : p < 1000) (H : post 0) : wpY_isPlace post u (nI p - 1) := by
  obtain ⟨a1, a2, a3⟩ := u
  rcases h with rfl | h
  · exact br_t wg_neg H
  · obtain ⟨q, rfl⟩ : ∃ q, p = q + 1 := ⟨p - 1, by omega⟩
    exact br_f (wg_posp (by omega)) (br_t (wg_g9 (by omega) (by omega)) H)
theorem uy_pl1 {q : Nat} (h : q < 10) (H : post 1) : wpY_isPlace post u (nI (q + 1) - 1) := by
  obtain ⟨a1, a2, a3⟩ := u
  exact br_f (wg_posp (by omega)) (br_f (wg_l9 h) H)
theorem uy_x7 {k : Nat} (hk : k < 9) : (nI x + (nI k - nI k / 3 * 3)) - 1 = nI (x + k % 3) - 1 := by
  rw [wg_r3 (by omega), nI_add]
theorem uy_x8 {k : Nat} (hk : k < 9) : (nI y + nI k / 3) - 1 = nI (y + k / 3) - 1 := by
  rw [wg_d3 (by omega), nI_add]
theorem uy_wi {k : Nat} : (9 : Int32) * nI f + nI k = nI (9 * f + k) := by rw [wg_m9, nI_add]
theorem uy_ci {p q : Nat} : (10 : Int32) * (nI (q + 1) - 1) + (nI (p + 1) - 1) = nI (10 * q + p) := by rw [nI_pred, nI_pred, wg_m10, nI_add]
/-- one step of the nine: outside, inside -/
theorem uy_at_o {n k : Nat} {z : Int32} (hk : k < 9) (hx : x < 10) (hy : y < 10) (ho : (x + k % 3 = 0 ∨ 10 < x + k % 3) ∨ (y + k / 3 = 0 ∨ 10 < y + k / 3))
    (H : wY_at_6 post (nI f) (nI x) (nI y) s im fi w n z (nI (k + 1))) : wY_at_6 post (nI f) (nI x) (nI y) s im fi w (n + 1) z (nI k) := by
  refine br_f (nI_ge (b := 9) hk (by decide)) (And.intro (by decide) (nm_r (uy_x7 hk) (And.intro (by decide) (nm_r (uy_x8 hk) ?_))))
  by_cases h1 : x + k % 3 = 0 ∨ 10 < x + k % 3
  · exact uy_pl0 h1 (by omega) (br_t rfl (nm_r (nI_1 k) H))
  · have h2 : y + k / 3 = 0 ∨ 10 < y + k / 3 := by omega
    obtain ⟨p, hp⟩ : ∃ p, x + k % 3 = p + 1 := ⟨x + k % 3 - 1, by omega⟩
    rw [hp]
    refine uy_pl1 (by omega) (br_f (by decide) ?_)
    exact uy_pl0 h2 (by omega) (br_t rfl (nm_r (nI_1 k) H))
theorem uy_at_i {n k p q : Nat} {z : Int32} (hf : f < 2) (hk : k < 9) (hx : x + k % 3 = p + 1) (hy : y + k / 3 = q + 1) (hp : p < 10) (hq : q < 10) (ha : (s = 0 ∧ a = im) ∨ (¬ s = 0 ∧ a = fi))
    (H : wY_at_6 post (nI f) (nI x) (nI y) s im fi w n (z + w (9 * f + k) * a (10 * q + p)) (nI (k + 1))) : wY_at_6 post (nI f) (nI x) (nI y) s im fi w (n + 1) z (nI k) := by
  refine br_f (nI_ge (b := 9) hk (by decide)) (And.intro (by decide) (nm_r (uy_x7 hk) (And.intro (by decide) (nm_r (uy_x8 hk) ?_))))
  rw [hx, hy]
  refine uy_pl1 hp (br_f (by decide) ?_)
  refine uy_pl1 hq (br_f (by decide) ?_)
  refine And.intro (pk_in (9 * f + k) 18 (by omega) uy_wi) ?_
  rcases ha with ⟨hs, rfl⟩ | ⟨hs, rfl⟩
  · refine br_t hs (And.intro (pk_in (10 * q + p) 100 (by omega) uy_ci) (nm_r (e' := z + w (9 * f + k) * a (10 * q + p)) ?_ (nm_r (nI_1 k) H)))
    rw [pk_cl (9 * f + k) uy_wi, pk_cl (10 * q + p) uy_ci]
  · refine br_f hs (And.intro (pk_in (10 * q + p) 100 (by omega) uy_ci) (nm_r (e' := z + w (9 * f + k) * a (10 * q + p)) ?_ (nm_r (nI_1 k) H)))
    rw [pk_cl (9 * f + k) uy_wi, pk_cl (10 * q + p) uy_ci]
theorem uy_at_s {n k : Nat} (hf : f < 2) (hk : k < 9) (hx : x < 10) (hy : y < 10) (ha : (s = 0 ∧ a = im) ∨ (¬ s = 0 ∧ a = fi))
    (H : wY_at_6 post (nI f) (nI x) (nI y) s im fi w n (wg_sm w a f x y (k + 1)) (nI (k + 1))) : wY_at_6 post (nI f) (nI x) (nI y) s im fi w (n + 1) (wg_sm w a f x y k) (nI k) := by
  have e : wg_sm w a f x y (k + 1) = wg_sm w a f x y k + w (9 * f + k) * wg_pd a (x + k % 3) (y + k / 3) := rfl
  rw [e] at H
  by_cases ho : (x + k % 3 = 0 ∨ 10 < x + k % 3) ∨ (y + k / 3 = 0 ∨ 10 < y + k / 3)
  · rw [wg_pd0 (by omega), Int32.mul_zero, Int32.add_zero] at H
    exact uy_at_o hk hx hy ho H
  · obtain ⟨p, hp⟩ : ∃ p, x + k % 3 = p + 1 := ⟨x + k % 3 - 1, by omega⟩
    obtain ⟨q, hq⟩ : ∃ q, y + k / 3 = q + 1 := ⟨y + k / 3 - 1, by omega⟩
    rw [hp, hq, wg_pd1 (by omega) (by omega)] at H
    exact uy_at_i hf hk hp hq (by omega) (by omega) ha H
theorem uy_at_l (hf : f < 2) (hx : x < 10) (hy : y < 10) (ha : (s = 0 ∧ a = im) ∨ (¬ s = 0 ∧ a = fi)) (H : post (wg_cv w a f x y)) :
    ∀ d k, k + d = 9 → wY_at_6 post (nI f) (nI x) (nI y) s im fi w (d + 1) (wg_sm w a f x y k) (nI k) := by
  intro d
  induction d with
  | zero =>
    intro k hk
    obtain rfl : k = 9 := by omega
    exact br_t (nI_le (a := 9) (b := 9) (Nat.le_refl _) (by decide)) H
  | succ d ih =>
    intro k hk
    exact uy_at_s hf (by omega) hx hy ha (ih (k + 1) (by omega))
theorem uy_at (hf : f < 2) (hx : x < 10) (hy : y < 10) (ha : (s = 0 ∧ a = im) ∨ (¬ s = 0 ∧ a = fi)) (H : post (wg_cv w a f x y)) : wpY_at post (im, fi, w) (nI f) (nI x) (nI y) s :=
  ⟨10, uy_at_l hf hx hy ha H 9 0 rfl⟩
end
section
variable {post : SY → Prop} {im fi w : Nat → Int32} {f : Nat}
theorem uy_respond_s {n c : Nat} (hf : f < 2) (hc : c < 100) (H : wY_respond_2 post (nI f) n (nI (c + 1)) im (upd fi c (wg_R w im f c)) w) : wY_respond_2 post (nI f) (n + 1) (nI c) im fi w := by
  refine br_f (nI_ge (b := 100) hc (by decide)) (And.intro (by decide) (And.intro (by decide) ?_))
  rw [wg_r10 (by omega), wg_d10 (by omega)]
  refine uy_at hf (by omega) (by omega) (Or.inl ⟨rfl, rfl⟩) ?_
  refine And.intro (wg_in hc (by decide)) (nm_r (e' := upd fi c (wg_R w im f c)) ?_ (nm_r (nI_1 c) H))
  rw [wg_cl (by omega)]; rfl
theorem uy_respond_l (hf : f < 2) (H : ∀ fi', (∀ c, c < 100 → fi' c = wg_R w im f c) → post (im, fi', w)) :
    ∀ d c fi, c + d = 100 → (∀ c', c' < c → fi c' = wg_R w im f c') → wY_respond_2 post (nI f) (d + 1) (nI c) im fi w := by
  intro d
  induction d with
  | zero =>
    intro c fi hc h
    obtain rfl : c = 100 := by omega
    exact br_t (nI_le (a := 100) (b := 100) (Nat.le_refl _) (by decide)) (H fi h)
  | succ d ih =>
    intro c fi hc h
    refine uy_respond_s hf (by omega) (ih (c + 1) _ (by omega) ?_)
    intro c' h'
    by_cases e : c' = c
    · subst e; exact pk_us
    · rw [pk_un e]; exact h c' (by omega)
theorem uy_respond (hf : f < 2) (H : ∀ fi', (∀ c, c < 100 → fi' c = wg_R w im f c) → post (im, fi', w)) : wpY_respond post (im, fi, w) (nI f) :=
  ⟨101, uy_respond_l hf H 100 0 fi rfl (fun c' h => absurd h (Nat.not_lt_zero _))⟩
end
section
variable {post : Int32 → Prop} {u : SY} {f : Nat} {x : Int32}
theorem uy_isF (hf : f < 2) (H : post 1) : wpY_isFilter post u (nI f) := by
  obtain ⟨a1, a2, a3⟩ := u
  have h : f = 0 ∨ f = 1 := by omega
  rcases h with rfl | rfl
  · exact br_t rfl H
  · exact br_f (by decide) (br_t rfl H)
theorem uy_nF (h0 : ¬ x = 0) (h1 : ¬ x = 1) (H : post 0) : wpY_isFilter post u x := by
  obtain ⟨a1, a2, a3⟩ := u
  exact br_f h0 (br_f h1 H)
theorem uy_isC (hf : f < 100) (H : post 1) : wpY_isCell post u (nI f) := by
  obtain ⟨a1, a2, a3⟩ := u
  exact br_f (nI_pos (by omega)) (br_f (nI_nlt (a := 99) (b := f) (by omega) (by decide)) H)
theorem uy_nC (h : x < 0 ∨ 100 ≤ x) (H : post 0) : wpY_isCell post u x := by
  obtain ⟨a1, a2, a3⟩ := u
  by_cases h0 : x < 0
  · exact br_t h0 H
  · have h1 : (100 : Int32) ≤ x := h.resolve_left h0
    refine br_f h0 (br_t ?_ H)
    rw [Int32.le_iff_toInt_le, show (100 : Int32).toInt = 100 from by decide] at h1
    rw [Int32.lt_iff_toInt_lt, show (99 : Int32).toInt = 99 from by decide]
    omega
theorem uy_isV (h1 : ¬ x < (-99)) (h2 : x ≤ 99) (H : post 1) : wpY_isValue post u x := by
  obtain ⟨a1, a2, a3⟩ := u
  exact br_f h1 (br_f (Int32.not_lt.mpr h2) H)
theorem uy_nV (h : x < (-99) ∨ ¬ x ≤ 99) (H : post 0) : wpY_isValue post u x := by
  obtain ⟨a1, a2, a3⟩ := u
  by_cases h0 : x < (-99)
  · exact br_t h0 H
  · exact br_f h0 (br_t (Int32.not_le.mp (h.resolve_left h0)) H)
end
/-- a filter or none, a cell or none -/
theorem wg_fc (x : Int32) : (¬ x = 0 ∧ ¬ x = 1) ∨ ∃ f : Nat, f < 2 ∧ x = nI f := by
  by_cases h0 : x = 0
  · exact Or.inr ⟨0, by decide, h0⟩
  · by_cases h1 : x = 1
    · exact Or.inr ⟨1, by decide, h1⟩
    · exact Or.inl ⟨h0, h1⟩
theorem wg_cc (x : Int32) : (x < 0 ∨ 100 ≤ x) ∨ ∃ c : Nat, c < 100 ∧ x = nI c := by
  by_cases h0 : x < 0
  · exact Or.inl (Or.inl h0)
  · obtain ⟨j, hj, rfl⟩ := nI_of h0
    by_cases h : j < 100
    · exact Or.inr ⟨j, h, rfl⟩
    · exact Or.inl (Or.inr (nI_le (a := 100) (by omega) hj))
end
section
/-! part 04: the class: isFilter, isCell, spread, mixed, turnFilter -/
section
variable {post : Int32 → Prop} {u : SX} {f k : Nat} {x a b c d : Int32}
theorem ux_isF (hf : f < 2) (H : post 1) : wpX_isFilter post u (nI f) := by
  obtain ⟨a0, a1, a2, a3, a4, a5, a6, a7, a8, a9⟩ := u
  have h : f = 0 ∨ f = 1 := by omega
  rcases h with rfl | rfl
  · exact br_t rfl H
  · exact br_f (by decide) (br_t rfl H)
theorem ux_nF (h0 : ¬ x = 0) (h1 : ¬ x = 1) (H : post 0) : wpX_isFilter post u x := by
  obtain ⟨a0, a1, a2, a3, a4, a5, a6, a7, a8, a9⟩ := u
  exact br_f h0 (br_f h1 H)
theorem ux_isC (hf : f < 100) (H : post 1) : wpX_isCell post u (nI f) := by
  obtain ⟨a0, a1, a2, a3, a4, a5, a6, a7, a8, a9⟩ := u
  exact br_f (nI_pos (by omega)) (br_f (nI_ge (b := 100) hf (by decide)) H)
theorem ux_nC (h : x < 0 ∨ 100 ≤ x) (H : post 0) : wpX_isCell post u x := by
  obtain ⟨a0, a1, a2, a3, a4, a5, a6, a7, a8, a9⟩ := u
  by_cases h0 : x < 0
  · exact br_t h0 H
  · exact br_f h0 (br_t (h.resolve_left h0) H)
theorem ux_spread (hk : k < 4) : wpX_spread post u a b c (nI k) ↔ post (wg_sp a b c k) := by
  obtain ⟨a0, a1, a2, a3, a4, a5, a6, a7, a8, a9⟩ := u
  have h : k = 0 ∨ k = 1 ∨ k = 2 ∨ k = 3 := by omega
  rcases h with rfl | rfl | rfl | rfl
  · exact ⟨fun h => h.1 rfl, fun h => br_t rfl h⟩
  · exact ⟨fun h => ((h.2 (by decide)).2 (by decide)).1 rfl, fun h => br_f (by decide) (br_f (by decide) (br_t rfl h))⟩
  · exact ⟨fun h => ((h.2 (by decide)).2 (by decide)).2 (by decide), fun h => br_f (by decide) (br_f (by decide) (br_f (by decide) h))⟩
  · exact ⟨fun h => (h.2 (by decide)).1 rfl, fun h => br_f (by decide) (br_t rfl h)⟩
theorem ux_mixed (hk : k < 4) : wpX_mixed post u a b c d (nI k) ↔ post (wg_mx a b c d k) := by
  obtain ⟨a0, a1, a2, a3, a4, a5, a6, a7, a8, a9⟩ := u
  have h : k = 0 ∨ k = 1 ∨ k = 2 ∨ k = 3 := by omega
  rcases h with rfl | rfl | rfl | rfl
  · exact ⟨fun h => h.1 rfl, fun h => br_t rfl h⟩
  · exact ⟨fun h => (h.2 (by decide)).1 rfl, fun h => br_f (by decide) (br_t rfl h)⟩
  · exact ⟨fun h => ((h.2 (by decide)).2 (by decide)).1 rfl, fun h => br_f (by decide) (br_f (by decide) (br_t rfl h))⟩
  · exact ⟨fun h => ((h.2 (by decide)).2 (by decide)).2 (by decide), fun h => br_f (by decide) (br_f (by decide) (br_f (by decide) h))⟩
end
/-- the turned filter stands in the table -/
def wg_TO (w tu : Nat → Int32) (f : Nat) : Prop := ∀ r, r < 4 → ∀ k, k < 4 → tu (16 * f + 4 * r + k) = wg_U w f r k
section
variable {post : SX → Prop} {J : Int32 → (Nat → Int32) → (Nat → Int32) → (Nat → Int32) → (Nat → Int32) → (Nat → Int32) → (Nat → Int32) → (Nat → Int32) → (Nat → Int32) → (Nat → Int32) → Prop}
variable {oo : Int32} {im w tk tu inp out ti ha qu : Nat → Int32} {f i k n : Nat}
/-- columns: one cell -/
theorem ux_26s (hf : f < 2) (hi : i < 3) (hk : k < 4) (H : wX_turnFilter_26 post J (nI f) (nI i) oo n (nI (k + 1)) im w tk tu inp out ti (upd ha (wg_pc i k) (wg_g w f k i)) qu) :
    wX_turnFilter_26 post J (nI f) (nI i) oo (n + 1) (nI k) im w tk tu inp out ti ha qu := by
  refine br_f (nI_ge (b := 4) hk (by decide)) ?_
  simp (disch := omega) only [wg_m9, wg_m4, wg_a3, wg_a6, nI_add, nI_1, wg_cl, wg_in, ux_spread, true_and, forall_eq]
  exact H
theorem ux_26 (hf : f < 2) (hi : i < 3) (h0 : wg_P wg_pc (fun i r => wg_g w f r i) 3 i 0 ha)
    (H : ∀ ha', wg_P wg_pc (fun i r => wg_g w f r i) 3 (i + 1) 0 ha' → J (nI (i + 1)) im w tk tu inp out ti ha' qu) :
    ∃ n, wX_turnFilter_26 post J (nI f) (nI i) oo n 0 im w tk tu inp out ti ha qu :=
  loop_0 (fun n k s => wX_turnFilter_26 post J (nI f) (nI i) oo n (nI k) im w tk tu inp out ti s qu) (fun k s => wg_P wg_pc (fun i r => wg_g w f r i) 3 i k s) 4 ha h0
    (fun n s h => br_t (nI_le (a := 4) (b := 4) (Nat.le_refl _) (by decide)) (nm_r (nI_1 i) (H s (wg_Pn h))))
    (fun n k s hk h ih => ux_26s hf hi hk (ih _ (wg_Ps (wg_pcI (by decide)) hi hk h)))
/-- rows: one cell -/
theorem ux_105s (hf : f < 2) (hi : i < 4) (hk : k < 4) (H : wX_turnFilter_105 post J (nI f) (nI i) oo n (nI (k + 1)) im w tk (upd tu (wg_pf f i k) (wg_sp (ha (4 * i)) (ha (4 * i + 1)) (ha (4 * i + 2)) k)) inp out ti ha qu) :
    wX_turnFilter_105 post J (nI f) (nI i) oo (n + 1) (nI k) im w tk tu inp out ti ha qu := by
  refine br_f (nI_ge (b := 4) hk (by decide)) ?_
  simp (disch := omega) only [wg_m16, wg_m4, wg_a2, nI_add, nI_1, wg_cl, wg_in, ux_spread, true_and, forall_eq]
  exact H
/-- the half table after the columns -/
def wg_HF (w ha : Nat → Int32) (f : Nat) : Prop := ∀ i, i < 4 → ∀ k, wg_sp (ha (4 * i)) (ha (4 * i + 1)) (ha (4 * i + 2)) k = wg_U w f i k
def wg_KT (tu tu' : Nat → Int32) (f : Nat) : Prop := ∀ j, (j < 16 * f ∨ 16 * f + 16 ≤ j) → tu' j = tu j
theorem wg_KTs {tu tu' : Nat → Int32} {f i k : Nat} {x : Int32} (hi : i < 4) (hk : k < 4) (h : wg_KT tu tu' f) : wg_KT tu (upd tu' (wg_pf f i k) x) f := by
  intro j hj
  rw [pk_un (by simp only [wg_pf]; omega)]
  exact h j hj
theorem ux_105 {tu0 : Nat → Int32} (hf : f < 2) (hi : i < 4) (hh : wg_HF w ha f) (h0 : wg_P (wg_pf f) (wg_U w f) 4 i 0 tu ∧ wg_KT tu0 tu f)
    (H : ∀ tu', wg_P (wg_pf f) (wg_U w f) 4 (i + 1) 0 tu' ∧ wg_KT tu0 tu' f → J (nI (i + 1)) im w tk tu' inp out ti ha qu) :
    ∃ n, wX_turnFilter_105 post J (nI f) (nI i) oo n 0 im w tk tu inp out ti ha qu :=
  loop_0 (fun n k s => wX_turnFilter_105 post J (nI f) (nI i) oo n (nI k) im w tk s inp out ti ha qu) (fun k s => wg_P (wg_pf f) (wg_U w f) 4 i k s ∧ wg_KT tu0 s f) 4 tu h0
    (fun n s h => br_t (nI_le (a := 4) (b := 4) (Nat.le_refl _) (by decide)) (nm_r (nI_1 i) (H s ⟨wg_Pn h.1, h.2⟩)))
    (fun n k s hk h ih => ux_105s hf hi hk (ih _ (by
      rw [hh i hi k]
      exact ⟨wg_Ps (wg_pfI f (by decide)) hi hk h.1, wg_KTs hi hk h.2⟩)))
theorem ux_98 {tu0 : Nat → Int32} (hf : f < 2) (hh : wg_HF w ha f) (h0 : wg_KT tu0 tu f)
    (H : ∀ tu', wg_TO w tu' f → wg_KT tu0 tu' f → post (oo, im, w, tk, tu', inp, out, ti, ha, qu)) :
    ∃ n, wX_turnFilter_98 post (nI f) oo n 0 im w tk tu inp out ti ha qu :=
  loop_0 (fun n i s => wX_turnFilter_98 post (nI f) oo n (nI i) im w tk s inp out ti ha qu) (fun i s => wg_P (wg_pf f) (wg_U w f) 4 i 0 s ∧ wg_KT tu0 s f) 4 tu ⟨wg_P0, h0⟩
    (fun n s h => br_t (nI_le (a := 4) (b := 4) (Nat.le_refl _) (by decide)) (H s (fun r hr k hk => wg_Pe h.1 hr hk) h.2))
    (fun n i s hi h ih => br_f (nI_ge (b := 4) hi (by decide)) (ux_105 hf hi hh h (fun s' h' => ih s' h')))
theorem wg_HFof {ha : Nat → Int32} (h : wg_P wg_pc (fun i r => wg_g w f r i) 3 3 0 ha) : wg_HF w ha f := by
  intro i hi k
  have e0 : ha (4 * i) = wg_g w f i 0 := wg_Pe h (i := 0) (by decide) hi
  have e1 : ha (4 * i + 1) = wg_g w f i 1 := wg_Pe h (i := 1) (by decide) hi
  have e2 : ha (4 * i + 2) = wg_g w f i 2 := wg_Pe h (i := 2) (by decide) hi
  rw [e0, e1, e2]; rfl
theorem ux_19 {tu0 : Nat → Int32} (hf : f < 2) (h0 : wg_KT tu0 tu f)
    (H : ∀ tu' ha', wg_TO w tu' f → wg_KT tu0 tu' f → post (oo, im, w, tk, tu', inp, out, ti, ha', qu)) :
    ∃ n, wX_turnFilter_19 post (nI f) oo n 0 im w tk tu inp out ti ha qu :=
  loop_0 (fun n i s => wX_turnFilter_19 post (nI f) oo n (nI i) im w tk tu inp out ti s qu) (fun i s => wg_P wg_pc (fun i r => wg_g w f r i) 3 i 0 s) 3 ha wg_P0
    (fun n s h => br_t (nI_le (a := 3) (b := 3) (Nat.le_refl _) (by decide)) (ux_98 hf (wg_HFof h) h0 (fun tu' a b => H tu' s a b)))
    (fun n i s hi h ih => br_f (nI_ge (b := 3) hi (by decide)) (ux_26 hf hi h (fun s' h' => ih s' h')))
theorem ux_turnFilter (hf : f < 2) (hT : ¬ tk f = 0 → wg_TO w tu f)
    (H : ∀ tk' tu' ha', wg_TO w tu' f → wg_KT tu tu' f → (∀ g, g ≠ f → tk' g = tk g) → post (oo, im, w, tk', tu', inp, out, ti, ha', qu)) :
    wpX_turnFilter post (oo, im, w, tk, tu, inp, out, ti, ha, qu) (nI f) := by
  have hin : vp_in (nI f) 2 := wg_in hf (by decide)
  refine And.intro hin ?_
  have ec : (nI f).toNatClampNeg = f := wg_cl (by omega)
  rw [ec]
  refine br_c (fun z => And.intro hin (nm_e ?_)) (fun z => H tk tu ha (hT z) (fun _ _ => rfl) (fun _ _ => rfl))
  exact ux_19 hf (fun _ _ => rfl) (fun tu' ha' a b => H _ tu' ha' a b (fun g hg => pk_un hg))
end
end
section
/-! part 05: the class: loadTile, turnTile, gatherTile -/
section
variable {post : SX → Prop} {J : Int32 → (Nat → Int32) → (Nat → Int32) → (Nat → Int32) → (Nat → Int32) → (Nat → Int32) → (Nat → Int32) → (Nat → Int32) → (Nat → Int32) → (Nat → Int32) → Prop}
variable {oo : Int32} {im w tk tu inp out ti ha qu : Nat → Int32} {f i k n X Y : Nat} {x1 x2 x4 x5 : Int32}
theorem ux_l51o (hk : k < 16) (H : J (nI (k + 1)) im w tk tu inp out (upd ti k 0) ha qu) : wX_loadTile_51 post J x1 x2 (nI k) x4 x5 0 oo im w tk tu inp out ti ha qu := by
  refine br_t rfl (And.intro (wg_in hk (by decide)) (nm_r (e' := upd ti k 0) ?_ (nm_r (nI_1 k) H)))
  rw [wg_cl (by omega)]
theorem ux_l50 (hk : k < 16) (H : J (nI (k + 1)) im w tk tu inp out (upd ti k 0) ha qu) : wX_loadTile_50 post J x1 x2 (nI k) x4 x5 oo im w tk tu inp out ti ha qu := by
  unfold wX_loadTile_50
  exact ux_l51o hk H
theorem ux_l51i {p q : Nat} (hk : k < 16) (hp : p < 10) (hq : q < 10) (H : J (nI (k + 1)) im w tk tu inp out (upd ti k (inp (10 * q + p))) ha qu) :
    wX_loadTile_51 post J x1 x2 (nI k) (nI (p + 1) - 1) (nI (q + 1) - 1) 1 oo im w tk tu inp out ti ha qu := by
  refine br_f (by decide) (And.intro (pk_in (10 * q + p) 100 (by omega) uy_ci) (And.intro (wg_in hk (by decide)) (nm_r (e' := upd ti k (inp (10 * q + p))) ?_ (nm_r (nI_1 k) H))))
  rw [wg_cl (by omega), pk_cl (10 * q + p) uy_ci]
theorem ux_lx (hk : k < 16) : (nI X - 1) + (nI k - nI k / 4 * 4) = nI (X + k % 4) - 1 := by rw [wg_r4 (by omega), wg_sh]
theorem ux_ly (hk : k < 16) : (nI Y - 1) + nI k / 4 = nI (Y + k / 4) - 1 := by rw [wg_d4 (by omega), wg_sh]
theorem ux_l2s (hk : k < 16) (hX : X < 10) (hY : Y < 10) (H : wX_loadTile_2 post (nI X - 1) (nI Y - 1) oo n (nI (k + 1)) im w tk tu inp out (upd ti k (wg_pd inp (X + k % 4) (Y + k / 4))) ha qu) :
    wX_loadTile_2 post (nI X - 1) (nI Y - 1) oo (n + 1) (nI k) im w tk tu inp out ti ha qu := by
  refine br_f (nI_ge (b := 16) hk (by decide)) (And.intro (by decide) (nm_r (ux_lx hk) (And.intro (by decide) (nm_r (ux_ly hk) ?_))))
  by_cases h0 : X + k % 4 = 0
  · rw [wg_pd0 (by omega)] at H
    rw [h0]
    exact br_t wg_neg (ux_l50 hk H)
  obtain ⟨p, hp⟩ : ∃ p, X + k % 4 = p + 1 := ⟨X + k % 4 - 1, by omega⟩
  rw [hp] at H ⊢
  refine br_f (wg_posp (by omega)) ?_
  by_cases h1 : 10 ≤ p
  · rw [wg_pd0 (by omega)] at H
    exact br_t (wg_g10 h1 (by omega)) (ux_l50 hk H)
  refine br_f (wg_l10 (by omega)) ?_
  by_cases h2 : Y + k / 4 = 0
  · rw [wg_pd0 (by omega)] at H
    rw [h2]
    exact br_t wg_neg (ux_l50 hk H)
  obtain ⟨q, hq⟩ : ∃ q, Y + k / 4 = q + 1 := ⟨Y + k / 4 - 1, by omega⟩
  rw [hq] at H ⊢
  refine br_f (wg_posp (by omega)) ?_
  by_cases h3 : 10 ≤ q
  · rw [wg_pd0 (by omega)] at H
    exact br_t (wg_g10 h3 (by omega)) (ux_l50 hk H)
  rw [wg_pd1 (by omega) (by omega)] at H
  exact br_f (wg_l10 (by omega)) (ux_l51i hk (by omega) (by omega) H)
theorem ux_loadTile (hX : X < 10) (hY : Y < 10) (H : ∀ ti', (∀ k, k < 16 → ti' k = wg_pd inp (X + k % 4) (Y + k / 4)) → post (oo, im, w, tk, tu, inp, out, ti', ha, qu)) :
    wpX_loadTile post (oo, im, w, tk, tu, inp, out, ti, ha, qu) (nI X - 1) (nI Y - 1) :=
  loop_0 (fun n k s => wX_loadTile_2 post (nI X - 1) (nI Y - 1) oo n (nI k) im w tk tu inp out s ha qu) (fun k s => ∀ j, j < k → s j = wg_pd inp (X + j % 4) (Y + j / 4)) 16 ti (fun j h => absurd h (Nat.not_lt_zero _))
    (fun n s h => br_t (nI_le (a := 16) (b := 16) (Nat.le_refl _) (by decide)) (H s h))
    (fun n k s hk h ih => ux_l2s hk hX hY (ih _ (by
      intro j hj
      by_cases e : j = k
      · subst e; exact pk_us
      · rw [pk_un e]; exact h j (by omega))))
/-- turnTile, columns -/
theorem ux_9s (hi : i < 4) (hk : k < 4) (H : wX_turnTile_9 post J (nI i) oo n (nI (k + 1)) im w tk tu inp out ti (upd ha (wg_pc i k) (wg_h ti k i)) qu) :
    wX_turnTile_9 post J (nI i) oo (n + 1) (nI k) im w tk tu inp out ti ha qu := by
  refine br_f (nI_ge (b := 4) hk (by decide)) ?_
  simp (disch := omega) only [wg_m4, wg_p4, wg_p8, wg_p12, nI_add, nI_1, wg_cl, wg_in, ux_mixed, true_and, forall_eq]
  exact H
theorem ux_9 (hi : i < 4) (h0 : wg_P wg_pc (fun i r => wg_h ti r i) 4 i 0 ha)
    (H : ∀ ha', wg_P wg_pc (fun i r => wg_h ti r i) 4 (i + 1) 0 ha' → J (nI (i + 1)) im w tk tu inp out ti ha' qu) :
    ∃ n, wX_turnTile_9 post J (nI i) oo n 0 im w tk tu inp out ti ha qu :=
  loop_0 (fun n k s => wX_turnTile_9 post J (nI i) oo n (nI k) im w tk tu inp out ti s qu) (fun k s => wg_P wg_pc (fun i r => wg_h ti r i) 4 i k s) 4 ha h0
    (fun n s h => br_t (nI_le (a := 4) (b := 4) (Nat.le_refl _) (by decide)) (nm_r (nI_1 i) (H s (wg_Pn h))))
    (fun n k s hk h ih => ux_9s hi hk (ih _ (wg_Ps (wg_pcI (by decide)) hi hk h)))
/-- turnTile, rows -/
theorem ux_82s (hi : i < 4) (hk : k < 4) (H : wX_turnTile_82 post J (nI i) oo n (nI (k + 1)) im w tk tu inp out (upd ti (wg_pr i k) (wg_mx (ha (4 * i)) (ha (4 * i + 1)) (ha (4 * i + 2)) (ha (4 * i + 3)) k)) ha qu) :
    wX_turnTile_82 post J (nI i) oo (n + 1) (nI k) im w tk tu inp out ti ha qu := by
  refine br_f (nI_ge (b := 4) hk (by decide)) ?_
  simp (disch := omega) only [wg_m4, wg_a2, wg_a3, nI_add, nI_1, wg_cl, wg_in, ux_mixed, true_and, forall_eq]
  exact H
def wg_HT (t ha : Nat → Int32) : Prop := ∀ i, i < 4 → ∀ k, wg_mx (ha (4 * i)) (ha (4 * i + 1)) (ha (4 * i + 2)) (ha (4 * i + 3)) k = wg_V t i k
theorem ux_82 {t0 : Nat → Int32} (hi : i < 4) (hh : wg_HT t0 ha) (h0 : wg_P wg_pr (wg_V t0) 4 i 0 ti)
    (H : ∀ ti', wg_P wg_pr (wg_V t0) 4 (i + 1) 0 ti' → J (nI (i + 1)) im w tk tu inp out ti' ha qu) :
    ∃ n, wX_turnTile_82 post J (nI i) oo n 0 im w tk tu inp out ti ha qu :=
  loop_0 (fun n k s => wX_turnTile_82 post J (nI i) oo n (nI k) im w tk tu inp out s ha qu) (fun k s => wg_P wg_pr (wg_V t0) 4 i k s) 4 ti h0
    (fun n s h => br_t (nI_le (a := 4) (b := 4) (Nat.le_refl _) (by decide)) (nm_r (nI_1 i) (H s (wg_Pn h))))
    (fun n k s hk h ih => ux_82s hi hk (ih _ (by
      rw [hh i hi k]
      exact wg_Ps (wg_prI (by decide)) hi hk h)))
theorem ux_75 {t0 : Nat → Int32} (hh : wg_HT t0 ha)
    (H : ∀ ti', (∀ r, r < 4 → ∀ k, k < 4 → ti' (4 * r + k) = wg_V t0 r k) → post (oo, im, w, tk, tu, inp, out, ti', ha, qu)) :
    ∃ n, wX_turnTile_75 post oo n 0 im w tk tu inp out ti ha qu :=
  loop_0 (fun n i s => wX_turnTile_75 post oo n (nI i) im w tk tu inp out s ha qu) (fun i s => wg_P wg_pr (wg_V t0) 4 i 0 s) 4 ti wg_P0
    (fun n s h => br_t (nI_le (a := 4) (b := 4) (Nat.le_refl _) (by decide)) (H s (fun r hr k hk => wg_Pe h hr hk)))
    (fun n i s hi h ih => br_f (nI_ge (b := 4) hi (by decide)) (ux_82 hi hh h (fun s' h' => ih s' h')))
theorem wg_HTof {t : Nat → Int32} (h : wg_P wg_pc (fun i r => wg_h t r i) 4 4 0 ha) : wg_HT t ha := by
  intro i hi k
  have e0 : ha (4 * i) = wg_h t i 0 := wg_Pe h (i := 0) (by decide) hi
  have e1 : ha (4 * i + 1) = wg_h t i 1 := wg_Pe h (i := 1) (by decide) hi
  have e2 : ha (4 * i + 2) = wg_h t i 2 := wg_Pe h (i := 2) (by decide) hi
  have e3 : ha (4 * i + 3) = wg_h t i 3 := wg_Pe h (i := 3) (by decide) hi
  rw [e0, e1, e2, e3]; rfl
theorem ux_turnTile (H : ∀ ti' ha', (∀ r, r < 4 → ∀ k, k < 4 → ti' (4 * r + k) = wg_V ti r k) → post (oo, im, w, tk, tu, inp, out, ti', ha', qu)) :
    wpX_turnTile post (oo, im, w, tk, tu, inp, out, ti, ha, qu) :=
  loop_0 (fun n i s => wX_turnTile_2 post oo n (nI i) im w tk tu inp out ti s qu) (fun i s => wg_P wg_pc (fun i r => wg_h ti r i) 4 i 0 s) 4 ha wg_P0
    (fun n s h => br_t (nI_le (a := 4) (b := 4) (Nat.le_refl _) (by decide)) (ux_75 (wg_HTof h) (fun ti' a => H ti' s a)))
    (fun n i s hi h ih => br_f (nI_ge (b := 4) hi (by decide)) (ux_9 hi h (fun s' h' => ih s' h')))
/-- gatherTile -/
theorem ux_g2s (hi : i < 4) (H : wX_gatherTile_2 post oo n (nI (i + 1)) im w tk tu inp out ti (upd (upd ha i (ti i + ti (4 + i) + ti (8 + i))) (4 + i) (ti (4 + i) - ti (8 + i) - ti (12 + i))) qu) :
    wX_gatherTile_2 post oo (n + 1) (nI i) im w tk tu inp out ti ha qu := by
  refine br_f (nI_ge (b := 4) hi (by decide)) ?_
  simp (disch := omega) only [wg_p4, wg_p8, wg_p12, nI_1, wg_cl, wg_in, true_and, forall_eq]
  exact H
theorem ux_g82s (hi : i < 2) (H : wX_gatherTile_82 post oo n (nI (i + 1)) im w tk tu inp out ti ha (upd (upd qu (2 * i) (ha (4 * i) + ha (4 * i + 1) + ha (4 * i + 2))) (2 * i + 1) (ha (4 * i + 1) - ha (4 * i + 2) - ha (4 * i + 3)))) :
    wX_gatherTile_82 post oo (n + 1) (nI i) im w tk tu inp out ti ha qu := by
  refine br_f (nI_ge (b := 2) hi (by decide)) ?_
  simp (disch := omega) only [wg_m2, wg_m4, wg_a2, wg_a3, nI_1, wg_cl, wg_in, true_and, forall_eq]
  exact H
def wg_GH (t : Nat → Int32) (i : Nat) (ha : Nat → Int32) : Prop := ∀ c, c < i → ha c = t c + t (4 + c) + t (8 + c) ∧ ha (4 + c) = t (4 + c) - t (8 + c) - t (12 + c)
theorem wg_GHs {t : Nat → Int32} (hi : i < 4) (h : wg_GH t i ha) : wg_GH t (i + 1) (upd (upd ha i (t i + t (4 + i) + t (8 + i))) (4 + i) (t (4 + i) - t (8 + i) - t (12 + i))) := by
  intro c hc
  by_cases e : c = i
  · subst e
    exact ⟨by rw [pk_un (by omega), pk_us], pk_us⟩
  · have hh := h c (by omega)
    exact ⟨by rw [pk_un (by omega), pk_un e]; exact hh.1, by rw [pk_un (by omega), pk_un (by omega)]; exact hh.2⟩
def wg_GQ (ha : Nat → Int32) (i : Nat) (qu : Nat → Int32) : Prop := ∀ r, r < i → qu (2 * r) = ha (4 * r) + ha (4 * r + 1) + ha (4 * r + 2) ∧ qu (2 * r + 1) = ha (4 * r + 1) - ha (4 * r + 2) - ha (4 * r + 3)
theorem wg_GQs (h : wg_GQ ha i qu) : wg_GQ ha (i + 1) (upd (upd qu (2 * i) (ha (4 * i) + ha (4 * i + 1) + ha (4 * i + 2))) (2 * i + 1) (ha (4 * i + 1) - ha (4 * i + 2) - ha (4 * i + 3))) := by
  intro c hc
  by_cases e : c = i
  · subst e
    exact ⟨by rw [pk_un (by omega), pk_us], pk_us⟩
  · have hh := h c (by omega)
    exact ⟨by rw [pk_un (by omega), pk_un (by omega)]; exact hh.1, by rw [pk_un (by omega), pk_un (by omega)]; exact hh.2⟩
theorem ux_g82 (H : ∀ qu', wg_GQ ha 2 qu' → post (oo, im, w, tk, tu, inp, out, ti, ha, qu')) : ∃ n, wX_gatherTile_82 post oo n 0 im w tk tu inp out ti ha qu :=
  loop_0 (fun n i s => wX_gatherTile_82 post oo n (nI i) im w tk tu inp out ti ha s) (fun i s => wg_GQ ha i s) 2 qu (fun r hr => absurd hr (Nat.not_lt_zero _))
    (fun n s h => br_t (nI_le (a := 2) (b := 2) (Nat.le_refl _) (by decide)) (H s h))
    (fun n i s hi h ih => ux_g82s hi (ih _ (wg_GQs h)))
theorem ux_gatherTile (H : ∀ ha' qu', qu' 0 = wg_q0 ti → qu' 1 = wg_q1 ti → qu' 2 = wg_q2 ti → qu' 3 = wg_q3 ti → post (oo, im, w, tk, tu, inp, out, ti, ha', qu')) :
    wpX_gatherTile post (oo, im, w, tk, tu, inp, out, ti, ha, qu) :=
  loop_0 (fun n i s => wX_gatherTile_2 post oo n (nI i) im w tk tu inp out ti s qu) (fun i s => wg_GH ti i s) 4 ha (fun r hr => absurd hr (Nat.not_lt_zero _))
    (fun n s h => br_t (nI_le (a := 4) (b := 4) (Nat.le_refl _) (by decide)) (ux_g82 (by
      intro qu' hq
      have a0 := h 0 (by decide)
      have a1 := h 1 (by decide)
      have a2 := h 2 (by decide)
      have a3 := h 3 (by decide)
      have b0 := hq 0 (by decide)
      have b1 := hq 1 (by decide)
      refine H s qu' ?_ ?_ ?_ ?_
      · refine b0.1.trans ?_
        show s 0 + s 1 + s 2 = _
        rw [a0.1, a1.1, a2.1]; rfl
      · refine b0.2.trans ?_
        show s 1 - s 2 - s 3 = _
        rw [a1.1, a2.1, a3.1]; rfl
      · refine b1.1.trans ?_
        show s (4 + 0) + s (4 + 1) + s (4 + 2) = _
        rw [a0.2, a1.2, a2.2]; rfl
      · refine b1.2.trans ?_
        show s (4 + 1) - s (4 + 2) - s (4 + 3) = _
        rw [a1.2, a2.2, a3.2]; rfl)))
    (fun n i s hi h ih => ux_g2s hi (ih _ (wg_GHs hi h)))
end
end
section
/-! part 06: the class: convolve, respond -/
def wg_blk (c : Nat) : Nat := 5 * (c / 20) + c % 10 / 2
def wg_W4 (out : Nat → Int32) (X Y : Nat) (v0 v1 v2 v3 : Int32) : Nat → Int32 :=
  upd (upd (upd (upd out (10 * Y + X) v0) (10 * Y + X + 1) v1) (10 * Y + 10 + X) v2) (10 * Y + 10 + X + 1) v3
theorem wg_Rat {w a : Nat → Int32} {f X Y c : Nat} (hx : c % 10 = X) (hy : c / 10 = Y) : wg_R w a f c = wg_cv w a f X Y := by
  subst hx hy; rfl
theorem wg_W4s {w a out : Nat → Int32} {f b X Y : Nat} (hb : b < 25) (hX : X = 2 * (b % 5)) (hY : Y = 2 * (b / 5)) (h : ∀ c, c < 100 → wg_blk c < b → out c = wg_R w a f c) :
    ∀ c, c < 100 → wg_blk c < b + 1 → wg_W4 out X Y (wg_cv w a f X Y) (wg_cv w a f (X + 1) Y) (wg_cv w a f X (Y + 1)) (wg_cv w a f (X + 1) (Y + 1)) c = wg_R w a f c := by
  intro c hc hk
  unfold wg_W4
  by_cases e3 : c = 10 * Y + 10 + X + 1
  · rw [wg_Rat (X := X + 1) (Y := Y + 1) (by omega) (by omega), e3]; exact pk_us
  rw [pk_un e3]
  by_cases e2 : c = 10 * Y + 10 + X
  · rw [wg_Rat (X := X) (Y := Y + 1) (by omega) (by omega), e2]; exact pk_us
  rw [pk_un e2]
  by_cases e1 : c = 10 * Y + X + 1
  · rw [wg_Rat (X := X + 1) (Y := Y) (by omega) (by omega), e1]; exact pk_us
  rw [pk_un e1]
  by_cases e0 : c = 10 * Y + X
  · rw [wg_Rat (X := X) (Y := Y) (by omega) (by omega), e0]; exact pk_us
  rw [pk_un e0]
  refine h c hc ?_
  simp only [wg_blk] at hk ⊢
  have e : ¬ (c % 10 / 2 = b % 5 ∧ c / 20 = b / 5) := by
    intro z
    omega
  omega
section
variable {post : SX → Prop} {J : Int32 → Int32 → (Nat → Int32) → (Nat → Int32) → (Nat → Int32) → (Nat → Int32) → (Nat → Int32) → (Nat → Int32) → (Nat → Int32) → (Nat → Int32) → (Nat → Int32) → Prop}
variable {oo : Int32} {im w tk tu inp out ti ha qu : Nat → Int32} {f b k n X Y : Nat}
theorem ux_44s (hf : f < 2) (hk : k < 16) {x2 x3 x4 : Int32} (H : wX_convolve_44 post J (nI f) x2 x3 x4 oo n (nI (k + 1)) im w tk tu inp out (upd ti k (ti k * tu (16 * f + k))) ha qu) :
    wX_convolve_44 post J (nI f) x2 x3 x4 oo (n + 1) (nI k) im w tk tu inp out ti ha qu := by
  refine br_f (nI_ge (b := 16) hk (by decide)) ?_
  simp (disch := omega) only [wg_m16, nI_add, nI_1, wg_cl, wg_in, true_and, forall_eq]
  exact H
theorem ux_44e (hX : X ≤ 8) (hY : Y ≤ 8) {x1 : Int32} (H : ∀ ha' qu', J (nI (b + 1)) oo im w tk tu inp (wg_W4 out X Y (wg_q0 ti / 4) (wg_q1 ti / 4) (wg_q2 ti / 4) (wg_q3 ti / 4)) ti ha' qu') :
    wX_convolve_44 post J x1 (nI b) (nI X) (nI Y) oo (n + 1) (nI 16) im w tk tu inp out ti ha qu := by
  refine br_t (nI_le (a := 16) (b := 16) (Nat.le_refl _) (by decide)) (ux_gatherTile (fun ha' qu' q0 q1 q2 q3 => ?_))
  have h4 : ¬ (4 : Int32) = 0 := by decide
  simp (disch := omega) only [h4, not_false_eq_true, wg_m10, wg_a10, nI_add, nI_1, wg_cl, wg_in, true_and, forall_eq, q0, q1, q2, q3]
  exact H ha' qu'
theorem ux_44 (hf : f < 2) (hX : X ≤ 8) (hY : Y ≤ 8)
    (H : ∀ m ha' qu', (∀ j, j < 16 → m j = ti j * tu (16 * f + j)) → J (nI (b + 1)) oo im w tk tu inp (wg_W4 out X Y (wg_q0 m / 4) (wg_q1 m / 4) (wg_q2 m / 4) (wg_q3 m / 4)) m ha' qu') :
    ∃ n, wX_convolve_44 post J (nI f) (nI b) (nI X) (nI Y) oo n 0 im w tk tu inp out ti ha qu :=
  loop_0 (fun n k s => wX_convolve_44 post J (nI f) (nI b) (nI X) (nI Y) oo n (nI k) im w tk tu inp out s ha qu)
    (fun k s => (∀ j, j < k → s j = ti j * tu (16 * f + j)) ∧ (∀ j, k ≤ j → s j = ti j)) 16 ti ⟨fun j h => absurd h (Nat.not_lt_zero _), fun _ _ => rfl⟩
    (fun n s h => ux_44e hX hY (fun ha' qu' => H s ha' qu' h.1))
    (fun n k s hk h ih => ux_44s hf hk (ih _ (by
      refine ⟨?_, ?_⟩
      · intro j hj
        by_cases e : j = k
        · subst e; rw [pk_us, h.2 j (Nat.le_refl _)]
        · rw [pk_un e]; exact h.1 j (by omega)
      · intro j hj
        rw [pk_un (by omega)]; exact h.2 j (by omega))))
end
/-- what is asked of the filters and of what they are applied to -/
def wg_OK (w a : Nat → Int32) : Prop := (∀ j, j < 18 → wg_B (w j) 9) ∧ (∀ c, c < 100 → wg_B (a c) 8019)
theorem wg_four {w a t m tu t2 : Nat → Int32} {f X Y : Nat} (hf : f < 2) (hO : wg_OK w a) (hT : wg_TO w tu f)
    (ht : ∀ k, k < 16 → t k = wg_pd a (X + k % 4) (Y + k / 4)) (h2 : ∀ r, r < 4 → ∀ k, k < 4 → t2 (4 * r + k) = wg_V t r k) (hm : ∀ j, j < 16 → m j = t2 j * tu (16 * f + j)) :
    wg_q0 m / 4 = wg_cv w a f X Y ∧ wg_q1 m / 4 = wg_cv w a f (X + 1) Y ∧ wg_q2 m / 4 = wg_cv w a f X (Y + 1) ∧ wg_q3 m / 4 = wg_cv w a f (X + 1) (Y + 1) := by
  have hM : ∀ r, r < 4 → ∀ k, k < 4 → m (4 * r + k) = wg_M w t f r k := by
    intro r hr k hk
    rw [hm _ (by omega), h2 r hr k hk, ← Nat.add_assoc, hT r hr k hk]; rfl
  have hL : ∀ r, r < 4 → ∀ k, k < 4 → t (4 * r + k) = wg_pd a (X + k) (Y + r) := by
    intro r hr k hk
    rw [ht _ (by omega), show (4 * r + k) % 4 = k from by omega, show (4 * r + k) / 4 = r from by omega]
  have hB : ∀ x y, wg_B (wg_cv w a f x y) (9 * (9 * 8019)) := fun x y => wg_cvB hf hO.1 hO.2 (Nat.le_refl _) x y
  refine ⟨?_, ?_, ?_, ?_⟩
  · rw [wg_Q0 hM, wg_Ncv (i := 0) (j := 0) hL (by decide) (by decide)]; exact wg_div4 (hB _ _) (by decide)
  · rw [wg_Q1 hM, wg_Ncv (i := 1) (j := 0) hL (by decide) (by decide)]; exact wg_div4 (hB _ _) (by decide)
  · rw [wg_Q2 hM, wg_Ncv (i := 0) (j := 1) hL (by decide) (by decide)]; exact wg_div4 (hB _ _) (by decide)
  · rw [wg_Q3 hM, wg_Ncv (i := 1) (j := 1) hL (by decide) (by decide)]; exact wg_div4 (hB _ _) (by decide)
section
variable {post : SX → Prop} {oo : Int32} {im w tk tu inp out ti ha qu : Nat → Int32} {f b n : Nat}
theorem ux_7x (hb : b < 25) : (2 : Int32) * (nI b - nI b / 5 * 5) = nI (2 * (b % 5)) := by rw [wg_r5 (by omega), wg_m2]
theorem ux_7y (hb : b < 25) : (2 : Int32) * (nI b / 5) = nI (2 * (b / 5)) := by rw [wg_d5 (by omega), wg_m2]
theorem ux_7s (hf : f < 2) (hb : b < 25) (hO : wg_OK w inp) (hT : wg_TO w tu f)
    (H : ∀ ti' ha' qu', wX_convolve_7 post (nI f) n (nI (b + 1)) oo im w tk tu inp (wg_W4 out (2 * (b % 5)) (2 * (b / 5)) (wg_cv w inp f (2 * (b % 5)) (2 * (b / 5))) (wg_cv w inp f (2 * (b % 5) + 1) (2 * (b / 5))) (wg_cv w inp f (2 * (b % 5)) (2 * (b / 5) + 1)) (wg_cv w inp f (2 * (b % 5) + 1) (2 * (b / 5) + 1))) ti' ha' qu') :
    wX_convolve_7 post (nI f) (n + 1) (nI b) oo im w tk tu inp out ti ha qu := by
  refine br_f (nI_ge (b := 25) hb (by decide)) (And.intro (by decide) (nm_r (ux_7x hb) (And.intro (by decide) (nm_r (ux_7y hb) ?_))))
  refine ux_loadTile (by omega) (by omega) (fun ti1 h1 => ?_)
  refine ux_turnTile (fun ti2 ha2 h2 => ?_)
  refine ux_44 hf (by omega) (by omega) (fun m ha' qu' hm => ?_)
  obtain ⟨e0, e1, e2, e3⟩ := wg_four hf hO hT h1 h2 hm
  rw [e0, e1, e2, e3]
  exact H m ha' qu'
theorem ux_7 (hf : f < 2) (hO : wg_OK w inp) (hT : wg_TO w tu f) (H : ∀ out' ti' ha' qu', (∀ c, c < 100 → out' c = wg_R w inp f c) → post (oo, im, w, tk, tu, inp, out', ti', ha', qu')) :
    ∀ d b out ti ha qu, b + d = 25 → (∀ c, c < 100 → wg_blk c < b → out c = wg_R w inp f c) → wX_convolve_7 post (nI f) (d + 1) (nI b) oo im w tk tu inp out ti ha qu := by
  intro d
  induction d with
  | zero =>
    intro b out ti ha qu hb h
    obtain rfl : b = 25 := by omega
    exact br_t (nI_le (a := 25) (b := 25) (Nat.le_refl _) (by decide)) (H out ti ha qu (fun c hc => h c hc (by simp only [wg_blk]; omega)))
  | succ d ih =>
    intro b out ti ha qu hb h
    exact ux_7s hf (by omega) hO hT (fun ti' ha' qu' => ih (b + 1) _ ti' ha' qu' (by omega) (wg_W4s (by omega) rfl rfl h))
theorem ux_convolve (hf : f < 2) (hO : wg_OK w inp) (hT : ¬ tk f = 0 → wg_TO w tu f)
    (H : ∀ tk' tu' out' ti' ha' qu', wg_TO w tu' f → wg_KT tu tu' f → (∀ g, g ≠ f → tk' g = tk g) → (∀ c, c < 100 → out' c = wg_R w inp f c) → post (oo, im, w, tk', tu', inp, out', ti', ha', qu')) :
    wpX_convolve post (oo, im, w, tk, tu, inp, out, ti, ha, qu) (nI f) := by
  unfold wpX_convolve
  refine ux_turnFilter hf hT (fun tk' tu' ha' a1 a2 a3 => ?_)
  exact ⟨26, ux_7 hf hO a1 (fun out' ti' ha'' qu' h => H tk' tu' out' ti' ha'' qu' a1 a2 a3 h) 25 0 out ti ha' qu rfl (fun c _ h => absurd h (Nat.not_lt_zero _))⟩
end
end
section
/-! part 07: the invariant; respond, second on both sides -/
def wg_I (oo : Int32) (im w tk tu out : Nat → Int32) : Prop :=
  (∀ c, c < 100 → wg_B (im c) 99) ∧ (∀ j, j < 18 → wg_B (w j) 9) ∧ (∀ f, f < 2 → ¬ tk f = 0 → wg_TO w tu f)
    ∧ (∀ f, f < 2 → oo = nI f → ∀ c, c < 100 → out c = wg_R w im f c) ∧ (oo = 2 → ∀ c, c < 100 → out c = wg_R w (wg_R w im 0) 1 c)
theorem wg_m1n {f : Nat} (hf : f < 2) : ¬ (-1 : Int32) = nI f := by
  have h : f = 0 ∨ f = 1 := by omega
  rcases h with rfl | rfl <;> decide
theorem wg_2n {f : Nat} (hf : f < 2) : ¬ nI f = (2 : Int32) := by
  have h : f = 0 ∨ f = 1 := by omega
  rcases h with rfl | rfl <;> decide
theorem wg_Rc {w a b : Nat → Int32} {f : Nat} (h : ∀ c, c < 100 → a c = b c) (c : Nat) : wg_R w a f c = wg_R w b f c := wg_cvc h _ _
/-- forgotten responses -/
theorem wg_Im1 {im w tk tu out : Nat → Int32} (h1 : ∀ c, c < 100 → wg_B (im c) 99) (h2 : ∀ j, j < 18 → wg_B (w j) 9) (h3 : ∀ f, f < 2 → ¬ tk f = 0 → wg_TO w tu f) : wg_I (-1) im w tk tu out :=
  ⟨h1, h2, h3, fun f hf e => absurd e (wg_m1n hf), fun e => absurd e (by decide)⟩
theorem wg_TOall {w tk tk' tu tu' : Nat → Int32} {f : Nat} (hf : f < 2) (h : ∀ f, f < 2 → ¬ tk f = 0 → wg_TO w tu f) (a1 : wg_TO w tu' f) (a2 : wg_KT tu tu' f) (a3 : ∀ g, g ≠ f → tk' g = tk g) :
    ∀ f, f < 2 → ¬ tk' f = 0 → wg_TO w tu' f := by
  intro g hg z
  by_cases e : g = f
  · subst e; exact a1
  · rw [a3 g e] at z
    intro r hr k hk
    rw [a2 _ (by omega)]
    exact h g hg z r hr k hk
section
variable {post : SX → Prop} {oo : Int32} {im w tk tu inp out ti ha qu : Nat → Int32} {f c n : Nat}
theorem ux_11s (hc : c < 100) (H : wX_respond_11 post (nI f) oo n (nI (c + 1)) im w tk tu (upd inp c (im c)) out ti ha qu) :
    wX_respond_11 post (nI f) oo (n + 1) (nI c) im w tk tu inp out ti ha qu := by
  refine br_f (nI_ge (b := 100) hc (by decide)) ?_
  simp (disch := omega) only [nI_1, wg_cl, wg_in, true_and, forall_eq]
  exact H
theorem ux_11e (hf : f < 2) (hI : wg_I oo im w tk tu out) (hc : ∀ c, c < 100 → inp c = im c)
    (H : ∀ tk' tu' inp' out' ti' ha' qu', wg_I (nI f) im w tk' tu' out' → post (nI f, im, w, tk', tu', inp', out', ti', ha', qu')) :
    wX_respond_11 post (nI f) oo (n + 1) (nI 100) im w tk tu inp out ti ha qu := by
  refine br_t (nI_le (a := 100) (b := 100) (Nat.le_refl _) (by decide)) ?_
  refine ux_convolve hf ⟨hI.2.1, fun c h => by rw [hc c h]; exact wg_Bmono (hI.1 c h) (by decide)⟩ (hI.2.2.1 f hf) (fun tk' tu' out' ti' ha' qu' a1 a2 a3 a4 => ?_)
  refine H tk' tu' inp out' ti' ha' qu' ⟨hI.1, hI.2.1, wg_TOall hf hI.2.2.1 a1 a2 a3, ?_, fun e => absurd e (wg_2n hf)⟩
  intro g hg e c h
  have e' : f = g := (nI_eq (by omega) (by omega)).mp e
  subst e'
  rw [a4 c h]; exact wg_Rc hc c
theorem ux_respond (hf : f < 2) (hI : wg_I oo im w tk tu out)
    (H : ∀ tk' tu' inp' out' ti' ha' qu', wg_I (nI f) im w tk' tu' out' → post (nI f, im, w, tk', tu', inp', out', ti', ha', qu')) :
    wpX_respond post (oo, im, w, tk, tu, inp, out, ti, ha, qu) (nI f) := by
  refine br_c (fun e => ?_) (fun _ => ?_)
  · subst e; exact H tk tu inp out ti ha qu hI
  · exact loop_0 (fun n c s => wX_respond_11 post (nI f) oo n (nI c) im w tk tu s out ti ha qu) (fun c s => ∀ j, j < c → s j = im j) 100 inp (fun j h => absurd h (Nat.not_lt_zero _))
      (fun n s h => ux_11e hf hI h H)
      (fun n c s hc h ih => ux_11s hc (ih _ (by
        intro j hj
        by_cases e : j = c
        · subst e; exact pk_us
        · rw [pk_un e]; exact h j (by omega))))
end
section
variable {post : Int32 → SX → Prop} {oo x1 : Int32} {im w tk tu inp out ti ha qu : Nat → Int32} {f c n p : Nat}
theorem ux_s26s (hc : c < 100) (H : wX_second_26 post x1 oo n (nI (c + 1)) im w tk tu (upd inp c (out c)) out ti ha qu) :
    wX_second_26 post x1 oo (n + 1) (nI c) im w tk tu inp out ti ha qu := by
  refine br_f (nI_ge (b := 100) hc (by decide)) ?_
  simp (disch := omega) only [nI_1, wg_cl, wg_in, true_and, forall_eq]
  exact H
theorem ux_s26e (hp : p < 100) (hI : wg_I 0 im w tk tu out) (hc : ∀ c, c < 100 → inp c = out c)
    (H : ∀ oo' tk' tu' inp' out' ti' ha' qu', wg_I oo' im w tk' tu' out' → post (wg_R w (wg_R w im 0) 1 p) (oo', im, w, tk', tu', inp', out', ti', ha', qu')) :
    wX_second_26 post (nI p) oo (n + 1) (nI 100) im w tk tu inp out ti ha qu := by
  have ho : ∀ c, c < 100 → inp c = wg_R w im 0 c := fun c h => (hc c h).trans (hI.2.2.2.1 0 (by decide) rfl c h)
  refine br_t (nI_le (a := 100) (b := 100) (Nat.le_refl _) (by decide)) ?_
  refine ux_convolve (f := 1) (by decide) ⟨hI.2.1, fun c h => by rw [ho c h]; exact wg_RB (by decide) hI.2.1 hI.1 (by decide) c⟩ (hI.2.2.1 1 (by decide)) (fun tk' tu' out' ti' ha' qu' a1 a2 a3 a4 => ?_)
  have h4 : ∀ c, c < 100 → out' c = wg_R w (wg_R w im 0) 1 c := fun c h => (a4 c h).trans (wg_Rc ho c)
  have hi : wg_I 2 im w tk' tu' out' := ⟨hI.1, hI.2.1, wg_TOall (by decide) hI.2.2.1 a1 a2 a3, fun g hg e => absurd e.symm (wg_2n hg), fun _ => h4⟩
  have z := H 2 tk' tu' inp out' ti' ha' qu' hi
  rw [← h4 p hp] at z
  refine And.intro (wg_in hp (by decide)) ?_
  rw [wg_cl (by omega)]
  exact z
theorem ux_second (hp : p < 100) (hI : wg_I oo im w tk tu out)
    (H : ∀ oo' tk' tu' inp' out' ti' ha' qu', wg_I oo' im w tk' tu' out' → post (wg_R w (wg_R w im 0) 1 p) (oo', im, w, tk', tu', inp', out', ti', ha', qu')) :
    wpX_second post (oo, im, w, tk, tu, inp, out, ti, ha, qu) (nI p) := by
  unfold wpX_second
  refine ux_isC hp (br_f (by decide) (br_c (fun e => ?_) (fun _ => ?_)))
  · refine And.intro (wg_in hp (by decide)) ?_
    rw [wg_cl (by omega), hI.2.2.2.2 e p hp]
    exact H oo tk tu inp out ti ha qu hI
  · refine ux_respond (f := 0) (by decide) hI (fun tk1 tu1 inp1 out1 ti1 ha1 qu1 hI1 => ?_)
    exact loop_0 (fun n c s => wX_second_26 post (nI p) (nI 0) n (nI c) im w tk1 tu1 s out1 ti1 ha1 qu1) (fun c s => ∀ j, j < c → s j = out1 j) 100 inp1 (fun j h => absurd h (Nat.not_lt_zero _))
      (fun n s h => ux_s26e hp hI1 h H)
      (fun n c s hc h ih => ux_s26s hc (ih _ (by
        intro j hj
        by_cases e : j = c
        · subst e; exact pk_us
        · rw [pk_un e]; exact h j (by omega))))
theorem ux_response (hf : f < 2) (hp : p < 100) (hI : wg_I oo im w tk tu out)
    (H : ∀ oo' tk' tu' inp' out' ti' ha' qu', wg_I oo' im w tk' tu' out' → post (wg_R w im f p) (oo', im, w, tk', tu', inp', out', ti', ha', qu')) :
    wpX_response post (oo, im, w, tk, tu, inp, out, ti, ha, qu) (nI f) (nI p) := by
  unfold wpX_response
  refine ux_isF hf (br_f (by decide) ?_)
  refine ux_isC hp (br_f (by decide) ?_)
  refine ux_respond hf hI (fun tk1 tu1 inp1 out1 ti1 ha1 qu1 hI1 => ?_)
  refine And.intro (wg_in hp (by decide)) ?_
  rw [wg_cl (by omega), hI1.2.2.2.1 f hf rfl p hp]
  exact H _ tk1 tu1 inp1 out1 ti1 ha1 qu1 hI1
end
section
variable {im fi w : Nat → Int32} {f p : Nat}
theorem uy_response {post : Int32 → Prop} (hf : f < 2) (hp : p < 100) (H : post (wg_R w im f p)) : wpY_response post (im, fi, w) (nI f) (nI p) := by
  unfold wpY_response
  refine uy_isF hf (br_f (by decide) ?_)
  refine uy_isC hp (br_f (by decide) ?_)
  refine And.intro (by decide) (And.intro (by decide) ?_)
  rw [wg_r10 (by omega), wg_d10 (by omega)]
  exact uy_at hf (by omega) (by omega) (Or.inl ⟨rfl, rfl⟩) H
theorem uy_second {post : Int32 → SY → Prop} (hp : p < 100) (H : ∀ fi', post (wg_R w (wg_R w im 0) 1 p) (im, fi', w)) : wpY_second post (im, fi, w) (nI p) := by
  unfold wpY_second
  refine uy_isC hp (br_f (by decide) ?_)
  refine uy_respond (f := 0) (by decide) (fun fi' h => ?_)
  refine And.intro (by decide) (And.intro (by decide) ?_)
  rw [wg_r10 (by omega), wg_d10 (by omega)]
  refine uy_at (f := 1) (a := fi') (by decide) (by omega) (by omega) (Or.inr ⟨by decide, rfl⟩) ?_
  rw [wg_cvc h]
  exact H fi'
end
end
section
/-! part 08: where, greatest, total, pooled, apply on both sides -/
def wg_bs (a : Nat → Int32) : Nat → Nat
  | 0 => 0
  | c + 1 => if a (c + 1) ≤ a (wg_bs a c) then wg_bs a c else c + 1
theorem wg_bs_le (a : Nat → Int32) : ∀ c, wg_bs a c ≤ c := by
  intro c
  induction c with
  | zero => exact Nat.le_refl _
  | succ c ih =>
    unfold wg_bs
    by_cases h : a (c + 1) ≤ a (wg_bs a c)
    · rw [if_pos h]; omega
    · rw [if_neg h]; omega
def wg_ts (a : Nat → Int32) : Nat → Int32
  | 0 => 0
  | c + 1 => wg_ts a c + a c
def wg_mm (x y : Int32) : Int32 := if y ≤ x then x else y
def wg_po (a : Nat → Int32) (c : Nat) : Int32 := wg_mm (wg_mm (wg_mm (a c) (a (c + 1))) (a (c + 10))) (a (c + 11))
theorem wg_br {P : Int32 → Prop} {V : Prop} {x y : Int32} (hV : V) (H : P (wg_mm x y)) : (y ≤ x → P x) ∧ (¬ y ≤ x → (V ∧ ∀ z : Int32, z = y → P z)) := by
  unfold wg_mm at H
  by_cases h : y ≤ x
  · rw [if_pos h] at H; exact br_t h H
  · rw [if_neg h] at H; exact br_f h ⟨hV, nm_e H⟩
theorem wg_br' {P : Int32 → Prop} {V : Prop} {x y : Int32} (hV : V) (H : P (wg_mm x y)) : (y ≤ x → P x) ∧ (¬ y ≤ x → (V ∧ P y)) := by
  unfold wg_mm at H
  by_cases h : y ≤ x
  · rw [if_pos h] at H; exact br_t h H
  · rw [if_neg h] at H; exact br_f h ⟨hV, H⟩
section
variable {post : Int32 → SX → Prop} {oo : Int32} {im w tk tu inp out ti ha qu a : Nat → Int32} {f c n p : Nat}
theorem ux_w20 (ho : ∀ c, c < 100 → out c = a c) (H : post (nI (wg_bs a 99)) (oo, im, w, tk, tu, inp, out, ti, ha, qu)) :
    ∀ d c, c + d = 99 → wX_where_20 post oo im w tk tu inp out ti ha qu (d + 1) (nI (wg_bs a c)) (nI (c + 1)) := by
  intro d
  induction d with
  | zero =>
    intro c hc
    obtain rfl : c = 99 := by omega
    exact br_t (nI_le (a := 100) (b := 100) (Nat.le_refl _) (by decide)) H
  | succ d ih =>
    intro c hc
    have hb := wg_bs_le a c
    refine br_f (nI_ge (b := 100) (by omega) (by decide)) (And.intro (wg_in (by omega) (by decide)) (And.intro (wg_in (by omega) (by decide)) ?_))
    rw [wg_cl (by omega), wg_cl (by omega), ho _ (by omega), ho _ (by omega)]
    have z := ih (c + 1) (by omega)
    unfold wg_bs at z
    by_cases h : a (c + 1) ≤ a (wg_bs a c)
    · rw [if_pos h] at z
      exact br_t h (nm_r (nI_1 (c + 1)) z)
    · rw [if_neg h] at z
      exact br_f h (nm_r (nI_1 (c + 1)) z)
theorem ux_where (hf : f < 2) (hI : wg_I oo im w tk tu out)
    (H : ∀ oo' tk' tu' inp' out' ti' ha' qu', wg_I oo' im w tk' tu' out' → (∀ c, c < 100 → out' c = wg_R w im f c) → post (nI (wg_bs (wg_R w im f) 99)) (oo', im, w, tk', tu', inp', out', ti', ha', qu')) :
    wpX_where post (oo, im, w, tk, tu, inp, out, ti, ha, qu) (nI f) := by
  unfold wpX_where
  refine ux_isF hf (br_f (by decide) ?_)
  refine ux_respond hf hI (fun tk1 tu1 inp1 out1 ti1 ha1 qu1 hI1 => ?_)
  have ho := hI1.2.2.2.1 f hf rfl
  exact ⟨100, ux_w20 (a := wg_R w im f) ho (H _ tk1 tu1 inp1 out1 ti1 ha1 qu1 hI1 ho) 99 0 rfl⟩
theorem ux_greatest (hf : f < 2) (hI : wg_I oo im w tk tu out)
    (H : ∀ oo' tk' tu' inp' out' ti' ha' qu', wg_I oo' im w tk' tu' out' → post (wg_R w im f (wg_bs (wg_R w im f) 99)) (oo', im, w, tk', tu', inp', out', ti', ha', qu')) :
    wpX_greatest post (oo, im, w, tk, tu, inp, out, ti, ha, qu) (nI f) := by
  unfold wpX_greatest
  refine ux_isF hf (br_f (by decide) ?_)
  refine ux_where hf hI (fun oo1 tk1 tu1 inp1 out1 ti1 ha1 qu1 hI1 ho => ?_)
  have hb := wg_bs_le (wg_R w im f) 99
  refine And.intro (wg_in (by omega) (by decide)) ?_
  rw [wg_cl (by omega), ho _ (by omega)]
  exact H oo1 tk1 tu1 inp1 out1 ti1 ha1 qu1 hI1
theorem ux_t20 (ho : ∀ c, c < 100 → out c = a c) (H : post (wg_ts a 100) (oo, im, w, tk, tu, inp, out, ti, ha, qu)) :
    ∀ d c, c + d = 100 → wX_total_20 post oo im w tk tu inp out ti ha qu (d + 1) (wg_ts a c) (nI c) := by
  intro d
  induction d with
  | zero =>
    intro c hc
    obtain rfl : c = 100 := by omega
    exact br_t (nI_le (a := 100) (b := 100) (Nat.le_refl _) (by decide)) H
  | succ d ih =>
    intro c hc
    refine br_f (nI_ge (b := 100) (by omega) (by decide)) (And.intro (wg_in (by omega) (by decide)) ?_)
    rw [wg_cl (by omega), ho _ (by omega)]
    exact nm_e (nm_r (nI_1 c) (ih (c + 1) (by omega)))
theorem ux_total (hf : f < 2) (hI : wg_I oo im w tk tu out)
    (H : ∀ oo' tk' tu' inp' out' ti' ha' qu', wg_I oo' im w tk' tu' out' → post (wg_ts (wg_R w im f) 100) (oo', im, w, tk', tu', inp', out', ti', ha', qu')) :
    wpX_total post (oo, im, w, tk, tu, inp, out, ti, ha, qu) (nI f) := by
  unfold wpX_total
  refine ux_isF hf (br_f (by decide) ?_)
  refine ux_respond hf hI (fun tk1 tu1 inp1 out1 ti1 ha1 qu1 hI1 => ?_)
  exact ⟨101, ux_t20 (a := wg_R w im f) (hI1.2.2.2.1 f hf rfl) (H _ tk1 tu1 inp1 out1 ti1 ha1 qu1 hI1) 100 0 rfl⟩
theorem ux_p95 {x4 : Int32} (ho : ∀ c, c < 100 → out c = a c) (hc : c < 89) (H : post (wg_mm x4 (a (c + 11))) (oo, im, w, tk, tu, inp, out, ti, ha, qu)) :
    wX_pooled_95 post (nI c) x4 oo im w tk tu inp out ti ha qu := by
  have e : (nI c + 10) + 1 = nI (c + 11) := by rw [wg_a10, nI_1]
  have hi : vp_in ((nI c + 10) + 1) 100 := pk_in (c + 11) 100 (by omega) e
  refine And.intro hi ?_
  rw [pk_cl (c + 11) e, ho _ (by omega)]
  exact wg_br (P := fun z => post z (oo, im, w, tk, tu, inp, out, ti, ha, qu)) hi H
theorem ux_p70 {x4 : Int32} (ho : ∀ c, c < 100 → out c = a c) (hc : c < 89) (H : post (wg_mm (wg_mm x4 (a (c + 10))) (a (c + 11))) (oo, im, w, tk, tu, inp, out, ti, ha, qu)) :
    wX_pooled_70 post (nI c) x4 oo im w tk tu inp out ti ha qu := by
  have e : nI c + 10 = nI (c + 10) := wg_a10 c
  have hi : vp_in (nI c + 10) 100 := pk_in (c + 10) 100 (by omega) e
  refine And.intro hi ?_
  rw [pk_cl (c + 10) e, ho _ (by omega)]
  exact wg_br (P := fun z => wX_pooled_95 post (nI c) z oo im w tk tu inp out ti ha qu) hi (ux_p95 ho hc H)
theorem wg_cor {g : Nat} (hg : g < 25) : (20 : Int32) * (nI g / 5) + 2 * (nI g - nI g / 5 * 5) = nI (20 * (g / 5) + 2 * (g % 5)) := by
  rw [wg_r5 (by omega), wg_d5 (by omega), wg_m20, wg_m2, nI_add]
theorem ux_pooled {g : Nat} (hf : f < 2) (hg : g < 25) (hI : wg_I oo im w tk tu out)
    (H : ∀ oo' tk' tu' inp' out' ti' ha' qu', wg_I oo' im w tk' tu' out' → post (wg_po (wg_R w im f) (20 * (g / 5) + 2 * (g % 5))) (oo', im, w, tk', tu', inp', out', ti', ha', qu')) :
    wpX_pooled post (oo, im, w, tk, tu, inp, out, ti, ha, qu) (nI f) (nI g) := by
  unfold wpX_pooled
  refine ux_isF hf (br_f (by decide) ?_)
  refine br_f (nI_pos (by omega)) (br_t (nI_le (b := 24) (by omega) (by decide)) ?_)
  refine ux_respond hf hI (fun tk1 tu1 inp1 out1 ti1 ha1 qu1 hI1 => ?_)
  have ho := hI1.2.2.2.1 f hf rfl
  have hH := H _ tk1 tu1 inp1 out1 ti1 ha1 qu1 hI1
  have hc : 20 * (g / 5) + 2 * (g % 5) < 89 := by omega
  refine And.intro (by decide) (And.intro (by decide) (nm_r (wg_cor hg) ?_))
  generalize 20 * (g / 5) + 2 * (g % 5) = c at hc hH ⊢
  have hi : vp_in (nI c + 1) 100 := pk_in (c + 1) 100 (by omega) (nI_1 c)
  refine And.intro (wg_in (by omega) (by decide)) (nm_r (e' := wg_R w im f c) (by rw [wg_cl (by omega)]; exact ho c (by omega)) (And.intro hi ?_))
  rw [pk_cl (c + 1) (nI_1 c), ho _ (by omega)]
  exact wg_br (P := fun z => wX_pooled_70 post (nI c) z (nI f) im w tk1 tu1 inp1 out1 ti1 ha1 qu1) hi (ux_p70 ho hc hH)
end
section
variable {post : Int32 → SY → Prop} {im fi w a : Nat → Int32} {f c g : Nat}
theorem uy_b4 {post : Int32 → Prop} (ho : ∀ c, c < 100 → fi c = a c) (H : post (nI (wg_bs a 99))) :
    ∀ d c, c + d = 99 → wY_best_4 post im fi w (d + 1) (nI (wg_bs a c)) (nI (c + 1)) := by
  intro d
  induction d with
  | zero =>
    intro c hc
    obtain rfl : c = 99 := by omega
    exact br_t (nI_le (a := 100) (b := 100) (Nat.le_refl _) (by decide)) H
  | succ d ih =>
    intro c hc
    have hb := wg_bs_le a c
    refine br_f (nI_ge (b := 100) (by omega) (by decide)) (And.intro (wg_in (by omega) (by decide)) (And.intro (wg_in (by omega) (by decide)) ?_))
    rw [wg_cl (by omega), wg_cl (by omega), ho _ (by omega), ho _ (by omega)]
    have z := ih (c + 1) (by omega)
    unfold wg_bs at z
    by_cases h : a (c + 1) ≤ a (wg_bs a c)
    · rw [if_pos h] at z
      exact br_t h (nm_r (nI_1 (c + 1)) z)
    · rw [if_neg h] at z
      exact br_f h (nm_r (nI_1 (c + 1)) z)
theorem uy_best {post : Int32 → Prop} (ho : ∀ c, c < 100 → fi c = a c) (H : post (nI (wg_bs a 99))) : wpY_best post (im, fi, w) :=
  ⟨100, uy_b4 ho H 99 0 rfl⟩
theorem uy_where (hf : f < 2) (H : ∀ fi', post (nI (wg_bs (wg_R w im f) 99)) (im, fi', w)) : wpY_where post (im, fi, w) (nI f) := by
  unfold wpY_where
  refine uy_isF hf (br_f (by decide) ?_)
  refine uy_respond hf (fun fi' h => ?_)
  exact uy_best h (H fi')
theorem uy_greatest (hf : f < 2) (H : ∀ fi', post (wg_R w im f (wg_bs (wg_R w im f) 99)) (im, fi', w)) : wpY_greatest post (im, fi, w) (nI f) := by
  unfold wpY_greatest
  refine uy_isF hf (br_f (by decide) ?_)
  refine uy_respond hf (fun fi' h => ?_)
  refine uy_best h ?_
  have hb := wg_bs_le (wg_R w im f) 99
  refine And.intro (wg_in (by omega) (by decide)) ?_
  rw [wg_cl (by omega), h _ (by omega)]
  exact H fi'
theorem uy_t20 (ho : ∀ c, c < 100 → fi c = a c) (H : post (wg_ts a 100) (im, fi, w)) :
    ∀ d c, c + d = 100 → wY_total_20 post im fi w (d + 1) (wg_ts a c) (nI c) := by
  intro d
  induction d with
  | zero =>
    intro c hc
    obtain rfl : c = 100 := by omega
    exact br_t (nI_le (a := 100) (b := 100) (Nat.le_refl _) (by decide)) H
  | succ d ih =>
    intro c hc
    refine br_f (nI_ge (b := 100) (by omega) (by decide)) (And.intro (wg_in (by omega) (by decide)) ?_)
    rw [wg_cl (by omega), ho _ (by omega)]
    exact nm_e (nm_r (nI_1 c) (ih (c + 1) (by omega)))
theorem uy_total (hf : f < 2) (H : ∀ fi', post (wg_ts (wg_R w im f) 100) (im, fi', w)) : wpY_total post (im, fi, w) (nI f) := by
  unfold wpY_total
  refine uy_isF hf (br_f (by decide) ?_)
  refine uy_respond hf (fun fi' h => ?_)
  exact ⟨101, uy_t20 h (H fi') 100 0 rfl⟩
theorem uy_p95 {x4 : Int32} (ho : ∀ c, c < 100 → fi c = a c) (hc : c < 89) (H : post (wg_mm x4 (a (c + 11))) (im, fi, w)) : wY_pooled_95 post (nI c) x4 im fi w := by
  have hi : vp_in (nI c + 11) 100 := pk_in (c + 11) 100 (by omega) (wg_a11 c)
  refine And.intro hi ?_
  rw [pk_cl (c + 11) (wg_a11 c), ho _ (by omega)]
  exact wg_br' (P := fun z => post z (im, fi, w)) hi H
theorem uy_p70 {x4 : Int32} (ho : ∀ c, c < 100 → fi c = a c) (hc : c < 89) (H : post (wg_mm (wg_mm x4 (a (c + 10))) (a (c + 11))) (im, fi, w)) : wY_pooled_70 post (nI c) x4 im fi w := by
  have hi : vp_in (nI c + 10) 100 := pk_in (c + 10) 100 (by omega) (wg_a10 c)
  refine And.intro hi ?_
  rw [pk_cl (c + 10) (wg_a10 c), ho _ (by omega)]
  exact wg_br (P := fun z => wY_pooled_95 post (nI c) z im fi w) hi (uy_p95 ho hc H)
theorem uy_pooled (hf : f < 2) (hg : g < 25) (H : ∀ fi', post (wg_po (wg_R w im f) (20 * (g / 5) + 2 * (g % 5))) (im, fi', w)) : wpY_pooled post (im, fi, w) (nI f) (nI g) := by
  unfold wpY_pooled
  refine uy_isF hf (br_f (by decide) ?_)
  refine br_f (nI_pos (by omega)) (br_t (nI_le (b := 24) (by omega) (by decide)) ?_)
  refine uy_respond hf (fun fi' ho => ?_)
  have hH := H fi'
  have hc : 20 * (g / 5) + 2 * (g % 5) < 89 := by omega
  refine And.intro (by decide) (And.intro (by decide) (nm_r (wg_cor hg) ?_))
  generalize 20 * (g / 5) + 2 * (g % 5) = c at hc hH ⊢
  have hi : vp_in (nI c + 1) 100 := pk_in (c + 1) 100 (by omega) (nI_1 c)
  refine And.intro (wg_in (by omega) (by decide)) (nm_r (e' := wg_R w im f c) (by rw [wg_cl (by omega)]; exact ho c (by omega)) (And.intro hi ?_))
  rw [pk_cl (c + 1) (nI_1 c), ho _ (by omega)]
  exact wg_br (P := fun z => wY_pooled_70 post (nI c) z im fi' w) hi (uy_p70 ho hc hH)
end
end
section
/-! part 09: apply, set, stripe, weight, turn on both sides -/
def wg_ap (v : Int32) : Int32 := if (-99) ≤ v then (if v ≤ 99 then v else 99) else (-99)
def wg_ai (a im : Nat → Int32) : Nat → (Nat → Int32)
  | 0 => im
  | c + 1 => upd (wg_ai a im c) c (wg_ap (a c))
def wg_ac (a : Nat → Int32) : Nat → Int32
  | 0 => 0
  | c + 1 => if (-99) ≤ a c then (if a c ≤ 99 then wg_ac a c else wg_ac a c + 1) else wg_ac a c + 1
theorem wg_ap1 {v : Int32} (h : ¬ (-99) ≤ v) : wg_ap v = (-99) := if_neg h
theorem wg_ap2 {v : Int32} (h : (-99) ≤ v) (h' : v ≤ 99) : wg_ap v = v := (if_pos h).trans (if_pos h')
theorem wg_ap3 {v : Int32} (h : (-99) ≤ v) (h' : ¬ v ≤ 99) : wg_ap v = 99 := (if_pos h).trans (if_neg h')
theorem wg_ac1 {a : Nat → Int32} {c : Nat} (h : ¬ (-99) ≤ a c) : wg_ac a (c + 1) = wg_ac a c + 1 := if_neg h
theorem wg_ac2 {a : Nat → Int32} {c : Nat} (h : (-99) ≤ a c) (h' : a c ≤ 99) : wg_ac a (c + 1) = wg_ac a c := (if_pos h).trans (if_pos h')
theorem wg_ac3 {a : Nat → Int32} {c : Nat} (h : (-99) ≤ a c) (h' : ¬ a c ≤ 99) : wg_ac a (c + 1) = wg_ac a c + 1 := (if_pos h).trans (if_neg h')
theorem wg_Bm99 : wg_B (-99) 99 := by
  show (-99 : Int32).toInt.natAbs ≤ 99
  decide
theorem wg_Bp99 : wg_B 99 99 := by
  show (99 : Int32).toInt.natAbs ≤ 99
  decide
theorem wg_apB (v : Int32) : wg_B (wg_ap v) 99 := by
  by_cases h : (-99) ≤ v
  · by_cases h' : v ≤ 99
    · rw [wg_ap2 h h']; exact wg_B99 (Int32.not_lt.mpr h) h'
    · rw [wg_ap3 h h']; exact wg_Bp99
  · rw [wg_ap1 h]; exact wg_Bm99
theorem wg_updB {im : Nat → Int32} {b c N : Nat} {v : Int32} (h : ∀ c, c < N → wg_B (im c) b) (hv : wg_B v b) : ∀ j, j < N → wg_B (upd im c v j) b := by
  intro j hj
  by_cases e : j = c
  · subst e; rw [pk_us]; exact hv
  · rw [pk_un e]; exact h j hj
theorem wg_aiB {a im : Nat → Int32} (h : ∀ c, c < 100 → wg_B (im c) 99) : ∀ n, ∀ c, c < 100 → wg_B (wg_ai a im n c) 99 := by
  intro n
  induction n with
  | zero => exact h
  | succ n ih => exact wg_updB ih (wg_apB _)
section
variable {post : Int32 → SX → Prop} {J : Int32 → Int32 → (Nat → Int32) → (Nat → Int32) → (Nat → Int32) → (Nat → Int32) → (Nat → Int32) → (Nat → Int32) → (Nat → Int32) → (Nat → Int32) → (Nat → Int32) → Prop}
variable {oo x2 x4 : Int32} {im w tk tu inp out ti ha qu a : Nat → Int32} {f c n p : Nat}
theorem ux_a51 (hc : c < 100) (H : J x2 (nI (c + 1)) (upd im c (wg_ap x4)) w tk tu inp out ti ha qu) : wX_apply_51 post J x2 (nI c) x4 oo im w tk tu inp out ti ha qu := by
  have hi : vp_in (nI c) 100 := wg_in hc (by decide)
  by_cases h : (-99) ≤ x4
  · by_cases h' : x4 ≤ 99
    · rw [wg_ap2 h h'] at H
      exact br_t h (br_t h' (And.intro hi (nm_r (e' := upd im c x4) (by rw [wg_cl (by omega), wg_nbb (wg_B99 (Int32.not_lt.mpr h) h') (by decide)]) (nm_r (nI_1 c) H))))
    · rw [wg_ap3 h h'] at H
      exact br_t h (br_f h' (And.intro hi (nm_r (e' := upd im c 99) (by rw [wg_cl (by omega), wg_nbb wg_Bp99 (by decide)]) (nm_r (nI_1 c) H))))
  · rw [wg_ap1 h] at H
    exact br_f h (And.intro hi (nm_r (e' := upd im c (-99)) (by rw [wg_cl (by omega), wg_nbb wg_Bm99 (by decide)]) (nm_r (nI_1 c) H)))
theorem ux_a48 (hc : c < 100) (H : J (x2 + 1) (nI (c + 1)) (upd im c (wg_ap x4)) w tk tu inp out ti ha qu) : wX_apply_48 post J x2 (nI c) x4 oo im w tk tu inp out ti ha qu := by
  unfold wX_apply_48
  exact nm_e (ux_a51 hc H)
theorem ux_a20 {im0 : Nat → Int32} (ho : ∀ c, c < 100 → out c = a c) (H : post (wg_ac a 100) ((-1), wg_ai a im0 100, w, tk, tu, inp, out, ti, ha, qu)) :
    ∀ d c, c + d = 100 → wX_apply_20 post oo (d + 1) (wg_ac a c) (nI c) (wg_ai a im0 c) w tk tu inp out ti ha qu := by
  intro d
  induction d with
  | zero =>
    intro c hc
    obtain rfl : c = 100 := by omega
    exact br_t (nI_le (a := 100) (b := 100) (Nat.le_refl _) (by decide)) H
  | succ d ih =>
    intro c hc
    have z := ih (c + 1) (by omega)
    refine br_f (nI_ge (b := 100) (by omega) (by decide)) (And.intro (wg_in (by omega) (by decide)) (nm_r (e' := a c) (by rw [wg_cl (by omega)]; exact ho c (by omega)) ?_))
    by_cases h : (-99) ≤ a c
    · by_cases h' : a c ≤ 99
      · rw [wg_ac2 h h'] at z
        exact br_f (Int32.not_lt.mpr h) (br_t h' (ux_a51 (by omega) z))
      · rw [wg_ac3 h h'] at z
        exact br_f (Int32.not_lt.mpr h) (br_f h' (ux_a48 (by omega) z))
    · rw [wg_ac1 h] at z
      exact br_t (Int32.not_le.mp h) (ux_a48 (by omega) z)
theorem ux_apply (hf : f < 2) (hI : wg_I oo im w tk tu out)
    (H : ∀ oo' tk' tu' inp' out' ti' ha' qu', wg_I oo' (wg_ai (wg_R w im f) im 100) w tk' tu' out' → post (wg_ac (wg_R w im f) 100) (oo', wg_ai (wg_R w im f) im 100, w, tk', tu', inp', out', ti', ha', qu')) :
    wpX_apply post (oo, im, w, tk, tu, inp, out, ti, ha, qu) (nI f) := by
  unfold wpX_apply
  refine ux_isF hf (br_f (by decide) ?_)
  refine ux_respond hf hI (fun tk1 tu1 inp1 out1 ti1 ha1 qu1 hI1 => ?_)
  exact ⟨101, ux_a20 (a := wg_R w im f) (im0 := im) (hI1.2.2.2.1 f hf rfl) (H (-1) tk1 tu1 inp1 out1 ti1 ha1 qu1 (wg_Im1 (wg_aiB hI1.1 100) hI1.2.1 hI1.2.2.1)) 100 0 rfl⟩
theorem ux_set {v : Int32} (hc : c < 100) (h1 : ¬ v < (-99)) (h2 : v ≤ 99) (H : post 1 ((-1), upd im c v, w, tk, tu, inp, out, ti, ha, qu)) :
    wpX_set post (oo, im, w, tk, tu, inp, out, ti, ha, qu) (nI c) v := by
  unfold wpX_set
  refine ux_isC hc (br_f (by decide) (br_f h1 (br_t h2 (And.intro (wg_in hc (by decide)) (nm_r (e' := upd im c v) ?_ H)))))
  rw [wg_cl (by omega), wg_nbb (wg_B99 h1 h2) (by decide)]
end
section
variable {post : Int32 → SY → Prop} {J : Int32 → Int32 → (Nat → Int32) → (Nat → Int32) → (Nat → Int32) → Prop}
variable {x2 v : Int32} {im fi w a : Nat → Int32} {f c n : Nat}
theorem uy_a69e (hc : c < 100) (e : v = fi c) (H : J x2 (nI (c + 1)) (upd im c v) fi w) : wY_apply_69 post J x2 (nI c) v (nI c) im fi w := by
  have hi : vp_in (nI c) 100 := wg_in hc (by decide)
  have ec : (nI c).toNatClampNeg = c := wg_cl (by omega)
  unfold wY_apply_69
  rw [ec]
  exact And.intro hi (nm_e (And.intro hi (And.intro hi (br_t (by rw [pk_us]; exact e) (nm_r (nI_1 c) H)))))
theorem uy_a69n (hc : c < 100) (e : ¬ v = fi c) (H : J (x2 + 1) (nI (c + 1)) (upd im c v) fi w) : wY_apply_69 post J x2 (nI c) v (nI c) im fi w := by
  have hi : vp_in (nI c) 100 := wg_in hc (by decide)
  have ec : (nI c).toNatClampNeg = c := wg_cl (by omega)
  unfold wY_apply_69
  rw [ec]
  exact And.intro hi (nm_e (And.intro hi (And.intro hi (br_f (by rw [pk_us]; exact e) (nm_e (nm_r (nI_1 c) H))))))
theorem uy_a20 {im0 : Nat → Int32} (ho : ∀ c, c < 100 → fi c = a c) (H : post (wg_ac a 100) (wg_ai a im0 100, fi, w)) :
    ∀ d c, c + d = 100 → wY_apply_20 post (d + 1) (wg_ac a c) (nI c) (wg_ai a im0 c) fi w := by
  intro d
  induction d with
  | zero =>
    intro c hc
    obtain rfl : c = 100 := by omega
    exact br_t (nI_le (a := 100) (b := 100) (Nat.le_refl _) (by decide)) H
  | succ d ih =>
    intro c hc
    have z := ih (c + 1) (by omega)
    have hi : vp_in (nI c) 100 := wg_in (by omega) (by decide)
    have hl : c < 100 := by omega
    have ea := ho c hl
    have zi : wg_ai a im0 (c + 1) = upd (wg_ai a im0 c) c (wg_ap (a c)) := rfl
    rw [zi] at z
    refine br_f (nI_ge (b := 100) (by omega) (by decide)) (And.intro hi ?_)
    rw [wg_cl (by omega), ea]
    by_cases h : (-99) ≤ a c
    · by_cases h' : a c ≤ 99
      · rw [wg_ac2 h h', wg_ap2 h h'] at z
        exact br_t h (And.intro hi (br_t h' (And.intro hi (uy_a69e hl ea.symm z))))
      · rw [wg_ac3 h h', wg_ap3 h h'] at z
        exact br_t h (And.intro hi (br_f h' (uy_a69n hl (fun e => h' (by rw [← ea, ← e]; exact Int32.le_refl _)) z)))
    · rw [wg_ac1 h, wg_ap1 h] at z
      exact br_f h (uy_a69n hl (fun e => h (by rw [← ea, ← e]; exact Int32.le_refl _)) z)
theorem uy_apply (hf : f < 2) (H : ∀ fi', post (wg_ac (wg_R w im f) 100) (wg_ai (wg_R w im f) im 100, fi', w)) : wpY_apply post (im, fi, w) (nI f) := by
  unfold wpY_apply
  refine uy_isF hf (br_f (by decide) ?_)
  refine uy_respond hf (fun fi' h => ?_)
  exact ⟨101, uy_a20 (a := wg_R w im f) (im0 := im) h (H fi') 100 0 rfl⟩
theorem uy_set (hc : c < 100) (h1 : ¬ v < (-99)) (h2 : v ≤ 99) (H : post 1 (upd im c v, fi, w)) : wpY_set post (im, fi, w) (nI c) v := by
  unfold wpY_set
  refine uy_isC hc (br_f (by decide) ?_)
  refine uy_isV h1 h2 (br_f (by decide) (And.intro (wg_in hc (by decide)) (nm_r (e' := upd im c v) ?_ H)))
  rw [wg_cl (by omega)]
end
end
section
/-! part 10: stripe, weight, turn on both sides; the refusals -/
def wg_ix (l p : Nat) : Nat := if l < 10 then 10 * l + p else 10 * p + l - 10
theorem wg_ix1 {l p : Nat} (h : l < 10) : wg_ix l p = 10 * l + p := if_pos h
theorem wg_ix2 {l p : Nat} (h : ¬ l < 10) : wg_ix l p = 10 * p + l - 10 := if_neg h
theorem wg_ixl {l p : Nat} (hl : l < 20) (hp : p < 10) : wg_ix l p < 100 := by
  by_cases h : l < 10
  · rw [wg_ix1 h]; omega
  · rw [wg_ix2 h]; omega
theorem wg_ixe1 {l p : Nat} (h : l < 10) : (10 : Int32) * nI l + nI p = nI (wg_ix l p) := by rw [wg_ix1 h, wg_m10, nI_add]
theorem wg_ixe2 {l p : Nat} (h : ¬ l < 10) : ((10 : Int32) * nI p + nI l) - 10 = nI (wg_ix l p) := by
  rw [wg_ix2 h, wg_m10, nI_add]
  exact pk_sub (b := 10) (by omega)
def wg_st (l : Nat) (v : Int32) : Nat → Nat → (Nat → Int32) → (Nat → Int32)
  | 0, _, im => im
  | d + 1, p, im => wg_st l v d (p + 1) (upd im (wg_ix l p) v)
def wg_tw (f : Nat) (w : Nat → Int32) : Nat → (Nat → Int32)
  | 0 => w
  | k + 1 => upd (upd (wg_tw f w k) (9 * f + k) (wg_tw f w k (9 * f + 8 - k))) (9 * f + 8 - k) (wg_tw f w k (9 * f + k))
theorem wg_twB {f : Nat} {w : Nat → Int32} (hf : f < 2) (h : ∀ j, j < 18 → wg_B (w j) 9) : ∀ k, k ≤ 4 → ∀ j, j < 18 → wg_B (wg_tw f w k j) 9 := by
  intro k
  induction k with
  | zero => intro _; exact h
  | succ k ih =>
    intro hk
    have z := ih (by omega)
    exact wg_updB (wg_updB z (z _ (by omega))) (z _ (by omega))
theorem wg_twK {f : Nat} {w : Nat → Int32} : ∀ k, k ≤ 4 → ∀ j, (j < 9 * f ∨ 9 * f + 9 ≤ j) → wg_tw f w k j = w j := by
  intro k
  induction k with
  | zero => intro _ j _; rfl
  | succ k ih =>
    intro hk j hj
    show upd (upd (wg_tw f w k) (9 * f + k) (wg_tw f w k (9 * f + 8 - k))) (9 * f + 8 - k) (wg_tw f w k (9 * f + k)) j = w j
    rw [pk_un (by omega), pk_un (by omega)]
    exact ih (by omega) j hj
/-- the other filter's table stands when one filter changes -/
theorem wg_TOw {w w' tu : Nat → Int32} {g : Nat} (h : ∀ j, j < 9 → w' (9 * g + j) = w (9 * g + j)) (ht : wg_TO w tu g) : wg_TO w' tu g := by
  have e : ∀ r i, i < 3 → wg_g w' g r i = wg_g w g r i := by
    intro r i hi
    unfold wg_g
    rw [h i (by omega), Nat.add_assoc (9 * g) 3 i, h (3 + i) (by omega), Nat.add_assoc (9 * g) 6 i, h (6 + i) (by omega)]
  intro r hr k hk
  rw [ht r hr k hk]
  unfold wg_U
  rw [e r 0 (by decide), e r 1 (by decide), e r 2 (by decide)]
theorem wg_Ifg {oo : Int32} {im w w' tk tu out : Nat → Int32} {f : Nat} (hI : wg_I oo im w tk tu out) (hf : f < 2) (hw : ∀ j, j < 18 → wg_B (w' j) 9) (hk : ∀ j, (j < 9 * f ∨ 9 * f + 9 ≤ j) → w' j = w j) :
    wg_I (-1) im w' (upd tk f 0) tu out := by
  refine wg_Im1 hI.1 hw ?_
  intro g hg z
  by_cases e : g = f
  · subst e; rw [pk_us] at z; exact absurd rfl z
  · rw [pk_un e] at z
    exact wg_TOw (fun j hj => hk _ (by omega)) (hI.2.2.1 g hg z)
section
variable {post : Int32 → SX → Prop} {J : Int32 → Int32 → Int32 → (Nat → Int32) → (Nat → Int32) → (Nat → Int32) → (Nat → Int32) → (Nat → Int32) → (Nat → Int32) → (Nat → Int32) → (Nat → Int32) → (Nat → Int32) → Prop}
variable {oo x1 x3 x v v1 v2 v3 v4 : Int32} {im w tk tu inp out ti ha qu : Nat → Int32} {f c n p l b j : Nat}
theorem ux_s86 (hc : c < 100) (h1 : ¬ v < (-99)) (h2 : v ≤ 99) (H : J (nI (n + 1)) (nI (p + 1)) (-1) (upd im c v) w tk tu inp out ti ha qu) :
    wX_stripe_86 post J x1 x3 v (nI n) (nI p) (nI c) oo im w tk tu inp out ti ha qu := by
  unfold wX_stripe_86
  exact ux_set hc h1 h2 (nm_r (nI_1 n) (nm_r (nI_1 p) H))
theorem ux_s53 (hl : l < 20) (hb : b < 10) (h1 : ¬ v < (-99)) (h2 : v ≤ 99) :
    ∀ d p n oo im, d = b + 1 - p → p ≤ 10 → n + d < 1000 → wg_I oo im w tk tu out → (∀ oo', wg_I oo' (wg_st l v d p im) w tk tu out → post (nI (n + d)) (oo', wg_st l v d p im, w, tk, tu, inp, out, ti, ha, qu)) →
      wX_stripe_53 post (nI l) (nI b) v (d + 1) (nI n) (nI p) oo im w tk tu inp out ti ha qu := by
  intro d
  induction d with
  | zero =>
    intro p n oo im hd hp hn hI H
    exact br_t (nI_lt (by omega) (by omega)) (H oo hI)
  | succ d ih =>
    intro p n oo im hd hp hn hI H
    have hx : wg_ix l p < 100 := wg_ixl hl (by omega)
    have z := ih (p + 1) (n + 1) (-1) (upd im (wg_ix l p) v) (by omega) (by omega) (by omega)
      (wg_Im1 (wg_updB hI.1 (wg_B99 h1 h2)) hI.2.1 hI.2.2.1)
      (fun oo' hi => by
        rw [show n + 1 + d = n + (d + 1) from by omega]
        exact H oo' hi)
    refine br_f (nI_nlt (by omega) (by omega)) ?_
    by_cases h10 : l < 10
    · refine br_f (nI_ge (b := 10) h10 (by decide)) ?_
      rw [wg_ixe1 h10]
      exact ux_s86 hx h1 h2 z
    · refine br_t (nI_le (a := 10) (by omega) (by omega)) ?_
      rw [wg_ixe2 h10]
      exact ux_s86 hx h1 h2 z
theorem ux_stripe (hl : l < 20) (hp : p < 10) (hb : b < 10) (h1 : ¬ v < (-99)) (h2 : v ≤ 99) (hI : wg_I oo im w tk tu out)
    (H : ∀ oo', wg_I oo' (wg_st l v (b + 1 - p) p im) w tk tu out → post (nI (b + 1 - p)) (oo', wg_st l v (b + 1 - p) p im, w, tk, tu, inp, out, ti, ha, qu)) :
    wpX_stripe post (oo, im, w, tk, tu, inp, out, ti, ha, qu) (nI l) (nI p) (nI b) v := by
  refine br_f (nI_pos (by omega)) (br_f (nI_nlt (a := 19) (b := l) (by omega) (by decide)) (br_f (nI_pos (by omega)) (br_f (nI_nlt (a := 9) (b := p) (by omega) (by decide)) (br_f (nI_pos (by omega)) (br_f (nI_nlt (a := 9) (b := b) (by omega) (by decide)) (br_f h1 (br_t h2 ⟨b + 1 - p + 1, ?_⟩)))))))
  exact ux_s53 hl hb h1 h2 (b + 1 - p) p 0 oo im rfl (by omega) (by omega) hI (by rw [Nat.zero_add]; exact H)
theorem ux_forget {post : SX → Prop} (hf : f < 2) (H : post ((-1), im, w, upd tk f 0, tu, inp, out, ti, ha, qu)) : wpX_forget post (oo, im, w, tk, tu, inp, out, ti, ha, qu) (nI f) := by
  refine And.intro (wg_in hf (by decide)) (nm_r (e' := upd tk f 0) ?_ H)
  rw [wg_cl (by omega)]; rfl
theorem ux_weight (hf : f < 2) (hj : j < 9) (h1 : ¬ v < (-9)) (h2 : v ≤ 9) (hI : wg_I oo im w tk tu out)
    (H : ∀ oo' tk', wg_I oo' im (upd w (9 * f + j) v) tk' tu out → post 1 (oo', im, upd w (9 * f + j) v, tk', tu, inp, out, ti, ha, qu)) :
    wpX_weight post (oo, im, w, tk, tu, inp, out, ti, ha, qu) (nI f) (nI j) v := by
  unfold wpX_weight
  refine ux_isF hf (br_f (by decide) ?_)
  have hB := wg_B9 h1 h2
  refine br_f (nI_pos (by omega)) (br_f (nI_nlt (a := 8) (b := j) (by omega) (by decide)) (br_f h1 (br_t h2 (And.intro (pk_in (9 * f + j) 18 (by omega) uy_wi) (nm_r (e' := upd w (9 * f + j) v) ?_ ?_)))))
  · rw [pk_cl (9 * f + j) uy_wi, wg_nbb hB (by decide)]
  · exact ux_forget hf (H _ _ (wg_Ifg hI hf (wg_updB hI.2.1 hB) (fun i hi => pk_un (by omega))))
theorem ux_t8 {k : Nat} (hk : k < 9) : ((9 : Int32) * nI f + 8) - nI k = nI (9 * f + 8 - k) := by
  rw [wg_m9, wg_a8]; exact pk_sub (by omega)
theorem ux_t12 (hf : f < 2) (hw : ∀ j, j < 18 → wg_B (w j) 9) (H : post 1 ((-1), im, wg_tw f w 4, upd tk f 0, tu, inp, out, ti, ha, qu)) :
    ∀ d k, k + d = 4 → wX_turn_12 post (nI f) oo (d + 1) (nI k) im (wg_tw f w k) tk tu inp out ti ha qu := by
  intro d
  induction d with
  | zero =>
    intro k hk
    obtain rfl : k = 4 := by omega
    exact br_t (nI_le (a := 4) (b := 4) (Nat.le_refl _) (by decide)) (ux_forget hf H)
  | succ d ih =>
    intro k hk
    have z := ih (k + 1) (by omega)
    have hB := wg_twB hf hw k (by omega)
    have i1 : vp_in ((9 : Int32) * nI f + nI k) 18 := pk_in (9 * f + k) 18 (by omega) uy_wi
    have c1 : ((9 : Int32) * nI f + nI k).toNatClampNeg = 9 * f + k := pk_cl (9 * f + k) uy_wi
    have i2 : vp_in (((9 : Int32) * nI f + 8) - nI k) 18 := pk_in (9 * f + 8 - k) 18 (by omega) (ux_t8 (by omega))
    have c2 : (((9 : Int32) * nI f + 8) - nI k).toNatClampNeg = 9 * f + 8 - k := pk_cl (9 * f + 8 - k) (ux_t8 (by omega))
    refine br_f (nI_ge (b := 4) (by omega) (by decide)) ?_
    rw [c1, c2]
    refine And.intro i1 (nm_e (And.intro i2 (And.intro i1 (nm_r (e' := upd (wg_tw f w k) (9 * f + k) (wg_tw f w k (9 * f + 8 - k))) ?_ (And.intro i2 (nm_r (e' := wg_tw f w (k + 1)) ?_ (nm_r (nI_1 k) z)))))))
    · rw [wg_nb (hB _ (by omega)) (by decide)]
    · rw [wg_nb (hB _ (by omega)) (by decide)]; rfl
theorem ux_turn (hf : f < 2) (hI : wg_I oo im w tk tu out) (H : ∀ oo' tk', wg_I oo' im (wg_tw f w 4) tk' tu out → post 1 (oo', im, wg_tw f w 4, tk', tu, inp, out, ti, ha, qu)) :
    wpX_turn post (oo, im, w, tk, tu, inp, out, ti, ha, qu) (nI f) := by
  unfold wpX_turn
  refine ux_isF hf (br_f (by decide) ?_)
  exact ⟨5, ux_t12 hf hI.2.1 (H _ _ (wg_Ifg hI hf (wg_twB hf hI.2.1 4 (by decide)) (wg_twK 4 (by decide)))) 4 0 rfl⟩
end
section
variable {post : Int32 → SY → Prop} {x v : Int32} {im fi w : Nat → Int32} {f c n p l b j : Nat}
theorem uy_s44 (hl : l < 20) (hb : b < 10) :
    ∀ d p n im, d = b + 1 - p → p ≤ 10 → n + d < 1000 → post (nI (n + d)) (wg_st l v d p im, fi, w) → wY_stripe_44 post (nI l) (nI b) v (d + 1) (nI n) (nI p) im fi w := by
  intro d
  induction d with
  | zero =>
    intro p n im hd hp hn H
    exact br_t (nI_lt (by omega) (by omega)) H
  | succ d ih =>
    intro p n im hd hp hn H
    have hx : wg_ix l p < 100 := wg_ixl hl (by omega)
    have z := ih (p + 1) (n + 1) (upd im (wg_ix l p) v) (by omega) (by omega) (by omega) (by
        rw [show n + 1 + d = n + (d + 1) from by omega]
        exact H)
    refine br_f (nI_nlt (by omega) (by omega)) ?_
    by_cases h10 : l < 10
    · refine br_f (nI_ge (b := 10) h10 (by decide)) (And.intro (pk_in (wg_ix l p) 100 hx (wg_ixe1 h10)) (nm_r (e' := upd im (wg_ix l p) v) ?_ (nm_r (nI_1 n) (nm_r (nI_1 p) z))))
      rw [pk_cl (wg_ix l p) (wg_ixe1 h10)]
    · refine br_t (nI_le (a := 10) (by omega) (by omega)) (And.intro (pk_in (wg_ix l p) 100 hx (wg_ixe2 h10)) (nm_r (e' := upd im (wg_ix l p) v) ?_ (nm_r (nI_1 n) (nm_r (nI_1 p) z))))
      rw [pk_cl (wg_ix l p) (wg_ixe2 h10)]
theorem uy_isP {post : Int32 → Prop} {u : SY} (h : p < 10) (H : post 1) : wpY_isPlace post u (nI p) := by
  obtain ⟨a1, a2, a3⟩ := u
  exact br_f (nI_pos (by omega)) (br_f (nI_nlt (a := 9) (b := p) (by omega) (by decide)) H)
theorem uy_nP {post : Int32 → Prop} {u : SY} (h : x < 0 ∨ 9 < x) (H : post 0) : wpY_isPlace post u x := by
  obtain ⟨a1, a2, a3⟩ := u
  by_cases h0 : x < 0
  · exact br_t h0 H
  · exact br_f h0 (br_t (h.resolve_left h0) H)
theorem uy_stripe (hl : l < 20) (hp : p < 10) (hb : b < 10) (h1 : ¬ v < (-99)) (h2 : v ≤ 99) (H : post (nI (b + 1 - p)) (wg_st l v (b + 1 - p) p im, fi, w)) :
    wpY_stripe post (im, fi, w) (nI l) (nI p) (nI b) v := by
  refine br_f (nI_pos (by omega)) (br_f (nI_nlt (a := 19) (b := l) (by omega) (by decide)) ?_)
  refine uy_isP hp (br_f (by decide) ?_)
  refine uy_isP hb (br_f (by decide) ?_)
  refine uy_isV h1 h2 (br_f (by decide) ?_)
  exact ⟨b + 1 - p + 1, uy_s44 hl hb (b + 1 - p) p 0 im rfl (by omega) (by omega) (by rw [Nat.zero_add]; exact H)⟩
theorem uy_weight (hf : f < 2) (hj : j < 9) (h1 : ¬ v < (-9)) (h2 : v ≤ 9) (H : post 1 (im, fi, upd w (9 * f + j) v)) : wpY_weight post (im, fi, w) (nI f) (nI j) v := by
  unfold wpY_weight
  refine uy_isF hf (br_f (by decide) ?_)
  refine br_f (nI_pos (by omega)) (br_f (nI_nlt (a := 8) (b := j) (by omega) (by decide)) (br_f h1 (br_t h2 (And.intro (pk_in (9 * f + j) 18 (by omega) uy_wi) (nm_r (e' := upd w (9 * f + j) v) ?_ H)))))
  rw [pk_cl (9 * f + j) uy_wi]
theorem uy_t12 (hf : f < 2) (H : post 1 (im, fi, wg_tw f w 4)) : ∀ d k, k + d = 4 → wY_turn_12 post (nI f) (d + 1) (nI k) im fi (wg_tw f w k) := by
  intro d
  induction d with
  | zero =>
    intro k hk
    obtain rfl : k = 4 := by omega
    exact br_t (nI_le (a := 4) (b := 4) (Nat.le_refl _) (by decide)) H
  | succ d ih =>
    intro k hk
    have z := ih (k + 1) (by omega)
    have i1 : vp_in ((9 : Int32) * nI f + nI k) 18 := pk_in (9 * f + k) 18 (by omega) uy_wi
    have c1 : ((9 : Int32) * nI f + nI k).toNatClampNeg = 9 * f + k := pk_cl (9 * f + k) uy_wi
    have i2 : vp_in (((9 : Int32) * nI f + 8) - nI k) 18 := pk_in (9 * f + 8 - k) 18 (by omega) (ux_t8 (by omega))
    have c2 : (((9 : Int32) * nI f + 8) - nI k).toNatClampNeg = 9 * f + 8 - k := pk_cl (9 * f + 8 - k) (ux_t8 (by omega))
    refine br_f (nI_ge (b := 4) (by omega) (by decide)) ?_
    rw [c1, c2]
    exact And.intro i1 (nm_e (And.intro i2 (And.intro i1 (nm_e (And.intro i2 (nm_r (e' := wg_tw f w (k + 1)) rfl (nm_r (nI_1 k) z)))))))
theorem uy_turn (hf : f < 2) (H : post 1 (im, fi, wg_tw f w 4)) : wpY_turn post (im, fi, w) (nI f) := by
  unfold wpY_turn
  refine uy_isF hf (br_f (by decide) ?_)
  exact ⟨5, uy_t12 hf H 4 0 rfl⟩
end
end
section
/-! part 11: the refusals on both sides -/
section
variable {post : Int32 → SX → Prop} {oo x y z t v : Int32} {im w tk tu inp out ti ha qu : Nat → Int32} {f c : Nat}
theorem ux_set_c (hc : x < 0 ∨ 100 ≤ x) (H : post 0 (oo, im, w, tk, tu, inp, out, ti, ha, qu)) : wpX_set post (oo, im, w, tk, tu, inp, out, ti, ha, qu) x v := by
  unfold wpX_set
  exact ux_nC hc (br_t rfl H)
theorem ux_set_v (hc : c < 100) (hv : v < (-99) ∨ ¬ v ≤ 99) (H : post 0 (oo, im, w, tk, tu, inp, out, ti, ha, qu)) : wpX_set post (oo, im, w, tk, tu, inp, out, ti, ha, qu) (nI c) v := by
  unfold wpX_set
  refine ux_isC hc (br_f (by decide) ?_)
  by_cases a : v < (-99)
  · exact br_t a H
  · exact br_f a (br_f (hv.resolve_left a) H)
theorem ux_stripe_n (h : x < 0 ∨ 19 < x ∨ y < 0 ∨ 9 < y ∨ z < 0 ∨ 9 < z ∨ v < (-99) ∨ ¬ v ≤ 99) (H : post (-1000000000) (oo, im, w, tk, tu, inp, out, ti, ha, qu)) :
    wpX_stripe post (oo, im, w, tk, tu, inp, out, ti, ha, qu) x y z v := by
  by_cases a1 : x < 0
  · exact br_t a1 H
  refine br_f a1 ?_
  by_cases a2 : 19 < x
  · exact br_t a2 H
  refine br_f a2 ?_
  by_cases a3 : y < 0
  · exact br_t a3 H
  refine br_f a3 ?_
  by_cases a4 : 9 < y
  · exact br_t a4 H
  refine br_f a4 ?_
  by_cases a5 : z < 0
  · exact br_t a5 H
  refine br_f a5 ?_
  by_cases a6 : 9 < z
  · exact br_t a6 H
  refine br_f a6 ?_
  by_cases a7 : v < (-99)
  · exact br_t a7 H
  refine br_f a7 (br_f ?_ H)
  exact ((((((h.resolve_left a1).resolve_left a2).resolve_left a3).resolve_left a4).resolve_left a5).resolve_left a6).resolve_left a7
theorem ux_weight_f (h0 : ¬ x = 0) (h1 : ¬ x = 1) (H : post 0 (oo, im, w, tk, tu, inp, out, ti, ha, qu)) : wpX_weight post (oo, im, w, tk, tu, inp, out, ti, ha, qu) x y v := by
  unfold wpX_weight
  exact ux_nF h0 h1 (br_t rfl H)
theorem ux_weight_n (hf : f < 2) (h : y < 0 ∨ 8 < y ∨ v < (-9) ∨ ¬ v ≤ 9) (H : post 0 (oo, im, w, tk, tu, inp, out, ti, ha, qu)) : wpX_weight post (oo, im, w, tk, tu, inp, out, ti, ha, qu) (nI f) y v := by
  unfold wpX_weight
  refine ux_isF hf (br_f (by decide) ?_)
  by_cases a1 : y < 0
  · exact br_t a1 H
  refine br_f a1 ?_
  by_cases a2 : 8 < y
  · exact br_t a2 H
  refine br_f a2 ?_
  by_cases a3 : v < (-9)
  · exact br_t a3 H
  exact br_f a3 (br_f (((h.resolve_left a1).resolve_left a2).resolve_left a3) H)
theorem ux_response_f (h0 : ¬ x = 0) (h1 : ¬ x = 1) (H : post (-1000000000) (oo, im, w, tk, tu, inp, out, ti, ha, qu)) : wpX_response post (oo, im, w, tk, tu, inp, out, ti, ha, qu) x y := by
  unfold wpX_response
  exact ux_nF h0 h1 (br_t rfl H)
theorem ux_response_c (hf : f < 2) (hc : y < 0 ∨ 100 ≤ y) (H : post (-1000000000) (oo, im, w, tk, tu, inp, out, ti, ha, qu)) : wpX_response post (oo, im, w, tk, tu, inp, out, ti, ha, qu) (nI f) y := by
  unfold wpX_response
  refine ux_isF hf (br_f (by decide) ?_)
  exact ux_nC hc (br_t rfl H)
theorem ux_second_c (hc : x < 0 ∨ 100 ≤ x) (H : post (-1000000000) (oo, im, w, tk, tu, inp, out, ti, ha, qu)) : wpX_second post (oo, im, w, tk, tu, inp, out, ti, ha, qu) x := by
  unfold wpX_second
  exact ux_nC hc (br_t rfl H)
theorem ux_greatest_f (h0 : ¬ x = 0) (h1 : ¬ x = 1) (H : post (-1000000000) (oo, im, w, tk, tu, inp, out, ti, ha, qu)) : wpX_greatest post (oo, im, w, tk, tu, inp, out, ti, ha, qu) x := by
  unfold wpX_greatest
  exact ux_nF h0 h1 (br_t rfl H)
theorem ux_where_f (h0 : ¬ x = 0) (h1 : ¬ x = 1) (H : post (-1000000000) (oo, im, w, tk, tu, inp, out, ti, ha, qu)) : wpX_where post (oo, im, w, tk, tu, inp, out, ti, ha, qu) x := by
  unfold wpX_where
  exact ux_nF h0 h1 (br_t rfl H)
theorem ux_total_f (h0 : ¬ x = 0) (h1 : ¬ x = 1) (H : post (-1000000000) (oo, im, w, tk, tu, inp, out, ti, ha, qu)) : wpX_total post (oo, im, w, tk, tu, inp, out, ti, ha, qu) x := by
  unfold wpX_total
  exact ux_nF h0 h1 (br_t rfl H)
theorem ux_apply_f (h0 : ¬ x = 0) (h1 : ¬ x = 1) (H : post (-1000000000) (oo, im, w, tk, tu, inp, out, ti, ha, qu)) : wpX_apply post (oo, im, w, tk, tu, inp, out, ti, ha, qu) x := by
  unfold wpX_apply
  exact ux_nF h0 h1 (br_t rfl H)
theorem ux_turn_f (h0 : ¬ x = 0) (h1 : ¬ x = 1) (H : post 0 (oo, im, w, tk, tu, inp, out, ti, ha, qu)) : wpX_turn post (oo, im, w, tk, tu, inp, out, ti, ha, qu) x := by
  unfold wpX_turn
  exact ux_nF h0 h1 (br_t rfl H)
theorem ux_pooled_f (h0 : ¬ x = 0) (h1 : ¬ x = 1) (H : post (-1000000000) (oo, im, w, tk, tu, inp, out, ti, ha, qu)) : wpX_pooled post (oo, im, w, tk, tu, inp, out, ti, ha, qu) x y := by
  unfold wpX_pooled
  exact ux_nF h0 h1 (br_t rfl H)
theorem ux_pooled_n (hf : f < 2) (h : y < 0 ∨ ¬ y ≤ 24) (H : post (-1000000000) (oo, im, w, tk, tu, inp, out, ti, ha, qu)) : wpX_pooled post (oo, im, w, tk, tu, inp, out, ti, ha, qu) (nI f) y := by
  unfold wpX_pooled
  refine ux_isF hf (br_f (by decide) ?_)
  by_cases a1 : y < 0
  · exact br_t a1 H
  exact br_f a1 (br_f (h.resolve_left a1) H)
end
section
variable {post : Int32 → SY → Prop} {x y z t v : Int32} {im fi w : Nat → Int32} {f c : Nat}
theorem uy_set_c (hc : x < 0 ∨ 100 ≤ x) (H : post 0 (im, fi, w)) : wpY_set post (im, fi, w) x v := by
  unfold wpY_set
  exact uy_nC hc (br_t rfl H)
theorem uy_set_v (hc : c < 100) (hv : v < (-99) ∨ ¬ v ≤ 99) (H : post 0 (im, fi, w)) : wpY_set post (im, fi, w) (nI c) v := by
  unfold wpY_set
  refine uy_isC hc (br_f (by decide) ?_)
  exact uy_nV hv (br_t rfl H)
theorem uy_isPx {post : Int32 → Prop} {u : SY} (h0 : ¬ x < 0) (h9 : ¬ 9 < x) (H : post 1) : wpY_isPlace post u x := by
  obtain ⟨a1, a2, a3⟩ := u
  exact br_f h0 (br_f h9 H)
theorem uy_stripe_n (h : x < 0 ∨ 19 < x ∨ y < 0 ∨ 9 < y ∨ z < 0 ∨ 9 < z ∨ v < (-99) ∨ ¬ v ≤ 99) (H : post (-1000000000) (im, fi, w)) : wpY_stripe post (im, fi, w) x y z v := by
  by_cases a1 : x < 0
  · exact br_t a1 H
  refine br_f a1 ?_
  by_cases a2 : 19 < x
  · exact br_t a2 H
  refine br_f a2 ?_
  by_cases a3 : y < 0
  · exact uy_nP (Or.inl a3) (br_t rfl H)
  by_cases a4 : 9 < y
  · exact uy_nP (Or.inr a4) (br_t rfl H)
  refine uy_isPx a3 a4 (br_f (by decide) ?_)
  by_cases a5 : z < 0
  · exact uy_nP (Or.inl a5) (br_t rfl H)
  by_cases a6 : 9 < z
  · exact uy_nP (Or.inr a6) (br_t rfl H)
  refine uy_isPx a5 a6 (br_f (by decide) ?_)
  exact uy_nV ((((((h.resolve_left a1).resolve_left a2).resolve_left a3).resolve_left a4).resolve_left a5).resolve_left a6) (br_t rfl H)
theorem uy_weight_f (h0 : ¬ x = 0) (h1 : ¬ x = 1) (H : post 0 (im, fi, w)) : wpY_weight post (im, fi, w) x y v := by
  unfold wpY_weight
  exact uy_nF h0 h1 (br_t rfl H)
theorem uy_weight_n (hf : f < 2) (h : y < 0 ∨ 8 < y ∨ v < (-9) ∨ ¬ v ≤ 9) (H : post 0 (im, fi, w)) : wpY_weight post (im, fi, w) (nI f) y v := by
  unfold wpY_weight
  refine uy_isF hf (br_f (by decide) ?_)
  by_cases a1 : y < 0
  · exact br_t a1 H
  refine br_f a1 ?_
  by_cases a2 : 8 < y
  · exact br_t a2 H
  refine br_f a2 ?_
  by_cases a3 : v < (-9)
  · exact br_t a3 H
  exact br_f a3 (br_f (((h.resolve_left a1).resolve_left a2).resolve_left a3) H)
theorem uy_response_f {post : Int32 → Prop} (h0 : ¬ x = 0) (h1 : ¬ x = 1) (H : post (-1000000000)) : wpY_response post (im, fi, w) x y := by
  unfold wpY_response
  exact uy_nF h0 h1 (br_t rfl H)
theorem uy_response_c {post : Int32 → Prop} (hf : f < 2) (hc : y < 0 ∨ 100 ≤ y) (H : post (-1000000000)) : wpY_response post (im, fi, w) (nI f) y := by
  unfold wpY_response
  refine uy_isF hf (br_f (by decide) ?_)
  exact uy_nC hc (br_t rfl H)
theorem uy_second_c (hc : x < 0 ∨ 100 ≤ x) (H : post (-1000000000) (im, fi, w)) : wpY_second post (im, fi, w) x := by
  unfold wpY_second
  exact uy_nC hc (br_t rfl H)
theorem uy_greatest_f (h0 : ¬ x = 0) (h1 : ¬ x = 1) (H : post (-1000000000) (im, fi, w)) : wpY_greatest post (im, fi, w) x := by
  unfold wpY_greatest
  exact uy_nF h0 h1 (br_t rfl H)
theorem uy_where_f (h0 : ¬ x = 0) (h1 : ¬ x = 1) (H : post (-1000000000) (im, fi, w)) : wpY_where post (im, fi, w) x := by
  unfold wpY_where
  exact uy_nF h0 h1 (br_t rfl H)
theorem uy_total_f (h0 : ¬ x = 0) (h1 : ¬ x = 1) (H : post (-1000000000) (im, fi, w)) : wpY_total post (im, fi, w) x := by
  unfold wpY_total
  exact uy_nF h0 h1 (br_t rfl H)
theorem uy_apply_f (h0 : ¬ x = 0) (h1 : ¬ x = 1) (H : post (-1000000000) (im, fi, w)) : wpY_apply post (im, fi, w) x := by
  unfold wpY_apply
  exact uy_nF h0 h1 (br_t rfl H)
theorem uy_turn_f (h0 : ¬ x = 0) (h1 : ¬ x = 1) (H : post 0 (im, fi, w)) : wpY_turn post (im, fi, w) x := by
  unfold wpY_turn
  exact uy_nF h0 h1 (br_t rfl H)
theorem uy_pooled_f (h0 : ¬ x = 0) (h1 : ¬ x = 1) (H : post (-1000000000) (im, fi, w)) : wpY_pooled post (im, fi, w) x y := by
  unfold wpY_pooled
  exact uy_nF h0 h1 (br_t rfl H)
theorem uy_pooled_n (hf : f < 2) (h : y < 0 ∨ ¬ y ≤ 24) (H : post (-1000000000) (im, fi, w)) : wpY_pooled post (im, fi, w) (nI f) y := by
  unfold wpY_pooled
  refine uy_isF hf (br_f (by decide) ?_)
  by_cases a1 : y < 0
  · exact br_t a1 H
  exact br_f a1 (br_f (h.resolve_left a1) H)
end
end
section
/-! part 12: what is owed -/
/-- one image, the same filters; what the class remembers is what it would reckon -/
def i_Rel (k : Nat) (u : SX) (v : SY) : Prop := ∃ (oo : Int32) (im w tk tu inp out ti ha qu fi : Nat → Int32), u = (oo, im, w, tk, tu, inp, out, ti, ha, qu) ∧ v = (im, fi, w) ∧ wg_I oo im w tk tu out
theorem wg_rel {k : Nat} {oo : Int32} {im w tk tu inp out ti ha qu fi : Nat → Int32} (h : wg_I oo im w tk tu out) : i_Rel k (oo, im, w, tk, tu, inp, out, ti, ha, qu) (im, fi, w) :=
  ⟨oo, im, w, tk, tu, inp, out, ti, ha, qu, fi, rfl, rfl, h⟩
theorem wg_el {k : Nat} {P : SX → SY → Prop} {u : SX} {v : SY} (I : i_Rel k u v)
    (h : ∀ oo im w tk tu inp out ti ha qu fi, wg_I oo im w tk tu out → P (oo, im, w, tk, tu, inp, out, ti, ha, qu) (im, fi, w)) : P u v := by
  obtain ⟨oo, im, w, tk, tu, inp, out, ti, ha, qu, fi, rfl, rfl, hI⟩ := I
  exact h _ _ _ _ _ _ _ _ _ _ _ hI
theorem i_up {k : Nat} {u : SX} {v : SY} (h : i_Rel k u v) : i_Rel (k + 5) u v := h
theorem i_vc0 : wpX_init (fun u => wpY_init (fun v => i_Rel 0 u v)) := by
  unfold wpX_init wpY_init
  exact wg_rel (wg_Im1 (fun _ _ => wg_B0 _) (fun _ _ => wg_B0 _) (fun _ _ z => absurd rfl z))
theorem i_vc_set {k : Nat} {u : SX} {v : SY} (I : i_Rel k u v) (hk : k + 5 ≤ 2560) (v1 : Int32) (v2 : Int32) : wpX_set (fun r u' => wpY_set (fun r' v' => r' = r ∧ i_Rel (k + 5) u' v') v v1 v2) u v1 v2 := by
  refine wg_el (P := fun u v => wpX_set (fun r u' => wpY_set (fun r' v' => r' = r ∧ i_Rel (k + 5) u' v') v v1 v2) u v1 v2) I ?_
  intro oo im w tk tu inp out ti ha qu fi hI
  rcases wg_cc v1 with hc | ⟨c, hc, rfl⟩
  · exact ux_set_c hc (uy_set_c hc ⟨rfl, wg_rel hI⟩)
  · by_cases h : v2 < (-99) ∨ ¬ v2 ≤ 99
    · exact ux_set_v hc h (uy_set_v hc h ⟨rfl, wg_rel hI⟩)
    · simp only [not_or] at h
      have h2 := Decidable.not_not.mp h.2
      exact ux_set hc h.1 h2 (uy_set hc h.1 h2 ⟨rfl, wg_rel (wg_Im1 (wg_updB hI.1 (wg_B99 h.1 h2)) hI.2.1 hI.2.2.1)⟩)
theorem i_vc_stripe {k : Nat} {u : SX} {v : SY} (I : i_Rel k u v) (hk : k + 5 ≤ 2560) (v1 : Int32) (v2 : Int32) (v3 : Int32) (v4 : Int32) : wpX_stripe (fun r u' => wpY_stripe (fun r' v' => r' = r ∧ i_Rel (k + 5) u' v') v v1 v2 v3 v4) u v1 v2 v3 v4 := by
  refine wg_el (P := fun u v => wpX_stripe (fun r u' => wpY_stripe (fun r' v' => r' = r ∧ i_Rel (k + 5) u' v') v v1 v2 v3 v4) u v1 v2 v3 v4) I ?_
  intro oo im w tk tu inp out ti ha qu fi hI
  by_cases h : v1 < 0 ∨ 19 < v1 ∨ v2 < 0 ∨ 9 < v2 ∨ v3 < 0 ∨ 9 < v3 ∨ v4 < (-99) ∨ ¬ v4 ≤ 99
  · exact ux_stripe_n h (uy_stripe_n h ⟨rfl, wg_rel hI⟩)
  · simp only [not_or] at h
    obtain ⟨a1, a2, a3, a4, a5, a6, a7, a8⟩ := h
    have a8 := Decidable.not_not.mp a8
    obtain ⟨l, hl, rfl⟩ := nI_of2 (M := 19) (n := 19) (by decide) a1 (Int32.not_lt.mp a2)
    obtain ⟨p, hp, rfl⟩ := nI_of2 (M := 9) (n := 9) (by decide) a3 (Int32.not_lt.mp a4)
    obtain ⟨b, hb, rfl⟩ := nI_of2 (M := 9) (n := 9) (by decide) a5 (Int32.not_lt.mp a6)
    exact ux_stripe (by omega) (by omega) (by omega) a7 a8 hI (fun oo' hi => uy_stripe (by omega) (by omega) (by omega) a7 a8 ⟨rfl, wg_rel hi⟩)
theorem i_vc_weight {k : Nat} {u : SX} {v : SY} (I : i_Rel k u v) (hk : k + 5 ≤ 2560) (v1 : Int32) (v2 : Int32) (v3 : Int32) : wpX_weight (fun r u' => wpY_weight (fun r' v' => r' = r ∧ i_Rel (k + 5) u' v') v v1 v2 v3) u v1 v2 v3 := by
  refine wg_el (P := fun u v => wpX_weight (fun r u' => wpY_weight (fun r' v' => r' = r ∧ i_Rel (k + 5) u' v') v v1 v2 v3) u v1 v2 v3) I ?_
  intro oo im w tk tu inp out ti ha qu fi hI
  rcases wg_fc v1 with ⟨h0, h1⟩ | ⟨f, hf, rfl⟩
  · exact ux_weight_f h0 h1 (uy_weight_f h0 h1 ⟨rfl, wg_rel hI⟩)
  by_cases h : v2 < 0 ∨ 8 < v2 ∨ v3 < (-9) ∨ ¬ v3 ≤ 9
  · exact ux_weight_n hf h (uy_weight_n hf h ⟨rfl, wg_rel hI⟩)
  · simp only [not_or] at h
    obtain ⟨a1, a2, a3, a4⟩ := h
    have a4 := Decidable.not_not.mp a4
    obtain ⟨j, hj, rfl⟩ := nI_of2 (M := 8) (n := 8) (by decide) a1 (Int32.not_lt.mp a2)
    exact ux_weight hf (by omega) a3 a4 hI (fun oo' tk' hi => uy_weight hf (by omega) a3 a4 ⟨rfl, wg_rel hi⟩)
theorem i_vc_response {k : Nat} {u : SX} {v : SY} (I : i_Rel k u v) (hk : k + 5 ≤ 2560) (v1 : Int32) (v2 : Int32) : wpX_response (fun r u' => wpY_response (fun r' => r' = r ∧ i_Rel (k + 5) u' v) v v1 v2) u v1 v2 := by
  refine wg_el (P := fun u v => wpX_response (fun r u' => wpY_response (fun r' => r' = r ∧ i_Rel (k + 5) u' v) v v1 v2) u v1 v2) I ?_
  intro oo im w tk tu inp out ti ha qu fi hI
  rcases wg_fc v1 with ⟨h0, h1⟩ | ⟨f, hf, rfl⟩
  · exact ux_response_f h0 h1 (uy_response_f h0 h1 ⟨rfl, wg_rel hI⟩)
  rcases wg_cc v2 with hc | ⟨c, hc, rfl⟩
  · exact ux_response_c hf hc (uy_response_c hf hc ⟨rfl, wg_rel hI⟩)
  · exact ux_response hf hc hI (fun oo' tk' tu' inp' out' ti' ha' qu' hi => uy_response hf hc ⟨rfl, wg_rel hi⟩)
theorem i_vc_second {k : Nat} {u : SX} {v : SY} (I : i_Rel k u v) (hk : k + 5 ≤ 2560) (v1 : Int32) : wpX_second (fun r u' => wpY_second (fun r' v' => r' = r ∧ i_Rel (k + 5) u' v') v v1) u v1 := by
  refine wg_el (P := fun u v => wpX_second (fun r u' => wpY_second (fun r' v' => r' = r ∧ i_Rel (k + 5) u' v') v v1) u v1) I ?_
  intro oo im w tk tu inp out ti ha qu fi hI
  rcases wg_cc v1 with hc | ⟨c, hc, rfl⟩
  · exact ux_second_c hc (uy_second_c hc ⟨rfl, wg_rel hI⟩)
  · exact ux_second hc hI (fun oo' tk' tu' inp' out' ti' ha' qu' hi => uy_second hc (fun fi' => ⟨rfl, wg_rel hi⟩))
theorem i_vc_greatest {k : Nat} {u : SX} {v : SY} (I : i_Rel k u v) (hk : k + 5 ≤ 2560) (v1 : Int32) : wpX_greatest (fun r u' => wpY_greatest (fun r' v' => r' = r ∧ i_Rel (k + 5) u' v') v v1) u v1 := by
  refine wg_el (P := fun u v => wpX_greatest (fun r u' => wpY_greatest (fun r' v' => r' = r ∧ i_Rel (k + 5) u' v') v v1) u v1) I ?_
  intro oo im w tk tu inp out ti ha qu fi hI
  rcases wg_fc v1 with ⟨h0, h1⟩ | ⟨f, hf, rfl⟩
  · exact ux_greatest_f h0 h1 (uy_greatest_f h0 h1 ⟨rfl, wg_rel hI⟩)
  · exact ux_greatest hf hI (fun oo' tk' tu' inp' out' ti' ha' qu' hi => uy_greatest hf (fun fi' => ⟨rfl, wg_rel hi⟩))
theorem i_vc_where {k : Nat} {u : SX} {v : SY} (I : i_Rel k u v) (hk : k + 5 ≤ 2560) (v1 : Int32) : wpX_where (fun r u' => wpY_where (fun r' v' => r' = r ∧ i_Rel (k + 5) u' v') v v1) u v1 := by
  refine wg_el (P := fun u v => wpX_where (fun r u' => wpY_where (fun r' v' => r' = r ∧ i_Rel (k + 5) u' v') v v1) u v1) I ?_
  intro oo im w tk tu inp out ti ha qu fi hI
  rcases wg_fc v1 with ⟨h0, h1⟩ | ⟨f, hf, rfl⟩
  · exact ux_where_f h0 h1 (uy_where_f h0 h1 ⟨rfl, wg_rel hI⟩)
  · exact ux_where hf hI (fun oo' tk' tu' inp' out' ti' ha' qu' hi _ => uy_where hf (fun fi' => ⟨rfl, wg_rel hi⟩))
theorem i_vc_total {k : Nat} {u : SX} {v : SY} (I : i_Rel k u v) (hk : k + 5 ≤ 2560) (v1 : Int32) : wpX_total (fun r u' => wpY_total (fun r' v' => r' = r ∧ i_Rel (k + 5) u' v') v v1) u v1 := by
  refine wg_el (P := fun u v => wpX_total (fun r u' => wpY_total (fun r' v' => r' = r ∧ i_Rel (k + 5) u' v') v v1) u v1) I ?_
  intro oo im w tk tu inp out ti ha qu fi hI
  rcases wg_fc v1 with ⟨h0, h1⟩ | ⟨f, hf, rfl⟩
  · exact ux_total_f h0 h1 (uy_total_f h0 h1 ⟨rfl, wg_rel hI⟩)
  · exact ux_total hf hI (fun oo' tk' tu' inp' out' ti' ha' qu' hi => uy_total hf (fun fi' => ⟨rfl, wg_rel hi⟩))
theorem i_vc_pooled {k : Nat} {u : SX} {v : SY} (I : i_Rel k u v) (hk : k + 5 ≤ 2560) (v1 : Int32) (v2 : Int32) : wpX_pooled (fun r u' => wpY_pooled (fun r' v' => r' = r ∧ i_Rel (k + 5) u' v') v v1 v2) u v1 v2 := by
  refine wg_el (P := fun u v => wpX_pooled (fun r u' => wpY_pooled (fun r' v' => r' = r ∧ i_Rel (k + 5) u' v') v v1 v2) u v1 v2) I ?_
  intro oo im w tk tu inp out ti ha qu fi hI
  rcases wg_fc v1 with ⟨h0, h1⟩ | ⟨f, hf, rfl⟩
  · exact ux_pooled_f h0 h1 (uy_pooled_f h0 h1 ⟨rfl, wg_rel hI⟩)
  by_cases h : v2 < 0 ∨ ¬ v2 ≤ 24
  · exact ux_pooled_n hf h (uy_pooled_n hf h ⟨rfl, wg_rel hI⟩)
  · simp only [not_or] at h
    obtain ⟨a1, a2⟩ := h
    obtain ⟨g, hg, rfl⟩ := nI_of2 (M := 24) (n := 24) (by decide) a1 (Decidable.not_not.mp a2)
    exact ux_pooled hf (by omega) hI (fun oo' tk' tu' inp' out' ti' ha' qu' hi => uy_pooled hf (by omega) (fun fi' => ⟨rfl, wg_rel hi⟩))
theorem i_vc_apply {k : Nat} {u : SX} {v : SY} (I : i_Rel k u v) (hk : k + 5 ≤ 2560) (v1 : Int32) : wpX_apply (fun r u' => wpY_apply (fun r' v' => r' = r ∧ i_Rel (k + 5) u' v') v v1) u v1 := by
  refine wg_el (P := fun u v => wpX_apply (fun r u' => wpY_apply (fun r' v' => r' = r ∧ i_Rel (k + 5) u' v') v v1) u v1) I ?_
  intro oo im w tk tu inp out ti ha qu fi hI
  rcases wg_fc v1 with ⟨h0, h1⟩ | ⟨f, hf, rfl⟩
  · exact ux_apply_f h0 h1 (uy_apply_f h0 h1 ⟨rfl, wg_rel hI⟩)
  · exact ux_apply hf hI (fun oo' tk' tu' inp' out' ti' ha' qu' hi => uy_apply hf (fun fi' => ⟨rfl, wg_rel hi⟩))
theorem i_vc_turn {k : Nat} {u : SX} {v : SY} (I : i_Rel k u v) (hk : k + 5 ≤ 2560) (v1 : Int32) : wpX_turn (fun r u' => wpY_turn (fun r' v' => r' = r ∧ i_Rel (k + 5) u' v') v v1) u v1 := by
  refine wg_el (P := fun u v => wpX_turn (fun r u' => wpY_turn (fun r' v' => r' = r ∧ i_Rel (k + 5) u' v') v v1) u v1) I ?_
  intro oo im w tk tu inp out ti ha qu fi hI
  rcases wg_fc v1 with ⟨h0, h1⟩ | ⟨f, hf, rfl⟩
  · exact ux_turn_f h0 h1 (uy_turn_f h0 h1 ⟨rfl, wg_rel hI⟩)
  · exact ux_turn hf hI (fun oo' tk' hi => uy_turn hf ⟨rfl, wg_rel hi⟩)
end
