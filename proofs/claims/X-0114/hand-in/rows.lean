section
/-! 01: ints of any sign as Int32 -/
def iI (z : Int) : Int32 := Int32.ofInt z
theorem zi_n (n : Nat) : nI n = iI (n : Int) := (Int32.ofInt_eq_ofNat).symm
theorem zi_t (x : Int32) : iI x.toInt = x := Int32.ofInt_toInt x
theorem zi_i {z : Int} (h1 : -2147483648 ≤ z := by omega) (h2 : z < 2147483648 := by omega) : (iI z).toInt = z := Int32.toInt_ofInt_of_le h1 h2
theorem zi_add (a b : Int) : iI a + iI b = iI (a + b) := (Int32.ofInt_add a b).symm
theorem zi_sub (a b : Int) : iI a - iI b = iI (a - b) := (Int32.ofInt_sub a b).symm
theorem zi_mul (a b : Int) : iI a * iI b = iI (a * b) := (Int32.ofInt_mul a b).symm
theorem zA {x y : Int32} {a b : Int} (hx : x = iI a) (hy : y = iI b) : x + y = iI (a + b) := by rw [hx, hy, zi_add]
theorem zS {x y : Int32} {a b : Int} (hx : x = iI a) (hy : y = iI b) : x - y = iI (a - b) := by rw [hx, hy, zi_sub]
theorem zM {x y : Int32} {a b : Int} (hx : x = iI a) (hy : y = iI b) : x * y = iI (a * b) := by rw [hx, hy, zi_mul]
theorem zi_le {a b : Int} (h1 : -2147483648 ≤ a := by omega) (h2 : a < 2147483648 := by omega) (h3 : -2147483648 ≤ b := by omega) (h4 : b < 2147483648 := by omega) : iI a ≤ iI b ↔ a ≤ b := by
  rw [Int32.le_iff_toInt_le, zi_i h1 h2, zi_i h3 h4]
theorem zi_lt {a b : Int} (h1 : -2147483648 ≤ a := by omega) (h2 : a < 2147483648 := by omega) (h3 : -2147483648 ≤ b := by omega) (h4 : b < 2147483648 := by omega) : iI a < iI b ↔ a < b := by
  rw [Int32.lt_iff_toInt_lt, zi_i h1 h2, zi_i h3 h4]
theorem zi_eq {a b : Int} (h1 : -2147483648 ≤ a := by omega) (h2 : a < 2147483648 := by omega) (h3 : -2147483648 ≤ b := by omega) (h4 : b < 2147483648 := by omega) : iI a = iI b ↔ a = b := by
  rw [← Int32.toInt_inj, zi_i h1 h2, zi_i h3 h4]
theorem zb_le {x y : Int32} {A B : Prop} (a b : Int) (f : a ≤ b → A) (g : b < a → B) (hx : x = iI a := by rfl) (hy : y = iI b := by rfl) (h1 : -2147483648 ≤ a := by omega) (h2 : a < 2147483648 := by omega) (h3 : -2147483648 ≤ b := by omega) (h4 : b < 2147483648 := by omega) : (x ≤ y → A) ∧ (¬ x ≤ y → B) := by
  subst hx; subst hy
  rw [zi_le h1 h2 h3 h4]
  exact ⟨f, fun h => g (by omega)⟩
theorem zb_lt {x y : Int32} {A B : Prop} (a b : Int) (f : a < b → A) (g : b ≤ a → B) (hx : x = iI a := by rfl) (hy : y = iI b := by rfl) (h1 : -2147483648 ≤ a := by omega) (h2 : a < 2147483648 := by omega) (h3 : -2147483648 ≤ b := by omega) (h4 : b < 2147483648 := by omega) : (x < y → A) ∧ (¬ x < y → B) := by
  subst hx; subst hy
  rw [zi_lt h1 h2 h3 h4]
  exact ⟨f, fun h => g (by omega)⟩
theorem zb_eq {x y : Int32} {A B : Prop} (a b : Int) (f : a = b → A) (g : a ≠ b → B) (hx : x = iI a := by rfl) (hy : y = iI b := by rfl) (h1 : -2147483648 ≤ a := by omega) (h2 : a < 2147483648 := by omega) (h3 : -2147483648 ≤ b := by omega) (h4 : b < 2147483648 := by omega) : (x = y → A) ∧ (¬ x = y → B) := by
  subst hx; subst hy
  rw [zi_eq h1 h2 h3 h4]
  exact ⟨f, g⟩
theorem zD {x y : Int32} {a d : Int} (hx : x = iI a) (hy : y = iI d) (h0 : 0 ≤ a) (h1 : a < 2147483648) (hd : 0 < d) (hd1 : d < 2147483648) : x / y = iI (a / d) := by
  subst hx; subst hy
  have hdiv : a / d ≤ a := Int.ediv_le_self _ h0
  have hnn : 0 ≤ a / d := Int.ediv_nonneg h0 (by omega)
  apply Int32.toInt_inj.mp
  have hne : iI d ≠ -1 := by
    intro h
    have := congrArg Int32.toInt h
    rw [zi_i] at this
    have e : (-1 : Int32).toInt = -1 := by decide
    omega
  rw [Int32.toInt_div_of_ne_right _ _ hne, zi_i, zi_i, zi_i, Int.tdiv_eq_ediv_of_nonneg h0]
theorem zR {x y : Int32} {a d : Int} (hx : x = iI a) (hy : y = iI d) (h0 : 0 ≤ a) (h1 : a < 2147483648) (hd : 0 < d) (hd1 : d < 2147483648) : x - x / y * y = iI (a % d) := by
  rw [zS hx (zM (zD hx hy h0 h1 hd hd1) hy), Int.emod_def, Int.mul_comm]
theorem zi_in {z : Int} {N : Nat} (h0 : 0 ≤ z) (h1 : z < N) (hN : N < 2147483648) : vp_in (iI z) N := by
  rw [vp_in_iff, zi_i]; omega
theorem zi_cl {z : Int} (h0 : 0 ≤ z) (h1 : z < 2147483648) : (iI z).toNatClampNeg = z.toNat := by
  obtain ⟨n, rfl⟩ := Int.eq_ofNat_of_zero_le h0
  rw [← zi_n, nI_clamp (by omega)]; rfl
theorem zi_nn {z : Int} (h0 : 0 ≤ z) : iI z = nI z.toNat := by
  rw [zi_n]; congr 1; omega
theorem zi_in' {n N : Nat} (hN : N < 2147483648) (hn : n < 2147483648) : vp_in (nI n) N ↔ n < N := by
  rw [vp_in_iff, nI_toInt (by omega)]; omega
theorem zn_mul (a b : Nat) : nI a * nI b = nI (a * b) := (Int32.ofNat_mul a b).symm
theorem z11 {c : Int32} (r k : Nat) (hc : c = nI k := by rfl) : nI r * 11 + c = nI (r * 11 + k) := by
  rw [hc, show (11 : Int32) = nI 11 from rfl, zn_mul, nI_add]
theorem z10 {c : Int32} (r k : Nat) (hc : c = nI k := by rfl) : nI r * 10 + c = nI (r * 10 + k) := by
  rw [hc, show (10 : Int32) = nI 10 from rfl, zn_mul, nI_add]
theorem z_us {f : Nat → Int32} {k : Nat} {x : Int32} : upd f k x k = x := if_pos rfl
theorem z_un {f : Nat → Int32} {k j : Nat} {x : Int32} (h : j ≠ k) : upd f k x j = f j := if_neg h
theorem zn_s {n : Nat} (h : 0 < n) : nI n - 1 = nI (n - 1) := by
  obtain ⟨m, rfl⟩ : ∃ m, n = m + 1 := ⟨n - 1, by omega⟩
  exact nI_pred m
theorem zn_m {n : Nat} (h : 0 < n) : nI n + (-1) = nI (n - 1) := by
  obtain ⟨m, rfl⟩ : ∃ m, n = m + 1 := ⟨n - 1, by omega⟩
  rw [← nI_1, Int32.add_assoc, show (1 : Int32) + (-1) = 0 from rfl, Int32.add_zero]; rfl
theorem zt99 : (99 : Int32).toInt = 99 := by decide
theorem zl_test : (3506400 : Int32) = iI 3506400 := rfl
theorem zl_test2 : (-1001 : Int32) = iI (-1001) := rfl
theorem zk_eq {x y : Int32} {A B : Prop} (a b : Nat) (f : a = b → A) (g : a ≠ b → B) (hx : x = nI a := by rfl) (hy : y = nI b := by rfl) (ha : a < 2147483648 := by omega) (hb : b < 2147483648 := by omega) : (x = y → A) ∧ (¬ x = y → B) := by
  subst hx; subst hy
  rw [nI_eq ha hb]
  exact ⟨f, g⟩
theorem zk_le {x y : Int32} {A B : Prop} (a b : Nat) (f : a ≤ b → A) (g : b < a → B) (hx : x = nI a := by rfl) (hy : y = nI b := by rfl) (ha : a < 2147483648 := by omega) (hb : b < 2147483648 := by omega) : (x ≤ y → A) ∧ (¬ x ≤ y → B) := by
  subst hx; subst hy
  rw [nI_leI ha hb]
  exact ⟨f, fun h => g (by omega)⟩
theorem zk_lt {x y : Int32} {A B : Prop} (a b : Nat) (f : a < b → A) (g : b ≤ a → B) (hx : x = nI a := by rfl) (hy : y = nI b := by rfl) (ha : a < 2147483648 := by omega) (hb : b < 2147483648 := by omega) : (x < y → A) ∧ (¬ x < y → B) := by
  subst hx; subst hy
  rw [nI_ltI ha hb]
  exact ⟨f, fun h => g (by omega)⟩
theorem z_and {A B : Prop} (a : A) (b : A → B) : A ∧ B := ⟨a, b a⟩
theorem zi_inj {a b : Int} (h : iI a = iI b) (h1 : -2147483648 ≤ a := by omega) (h2 : a < 2147483648 := by omega) (h3 : -2147483648 ≤ b := by omega) (h4 : b < 2147483648 := by omega) : a = b := (zi_eq h1 h2 h3 h4).mp h
theorem zn_in {n N : Nat} (h : n < N) (hN : N < 2147483648) : vp_in (nI n) N := (zi_in' hN (by omega)).mpr h
theorem zv {P : Int32 → Prop} {x y : Int32} (h : P y) (e : x = y) : P x := by rw [e]; exact h
theorem zn_div {a d : Nat} (ha : a < 2147483648) (h0 : 0 < d) (hd : d < 2147483648) : nI a / nI d = nI (a / d) := by
  rw [zi_n, zi_n, zi_n, zD rfl rfl (by omega) (by omega) (by omega) (by omega)]; rfl
theorem zn_rem {a d : Nat} (ha : a < 2147483648) (h0 : 0 < d) (hd : d < 2147483648) : nI a - nI a / nI d * nI d = nI (a % d) := by
  rw [zi_n, zi_n, zi_n, zR rfl rfl (by omega) (by omega) (by omega) (by omega)]; rfl
theorem zi_neg1 : (-1 : Int32) = iI (-1) := rfl
end
section
/-! 02: the calendar, pure -/
def zc_mlen (y m : Int) : Int := if m = 2 then (if y % 4 = 0 then 29 else 28) else if m = 4 ∨ m = 6 ∨ m = 9 ∨ m = 11 then 30 else 31
def zc_mst (y : Int) : Nat → Int
  | 0 => 0
  | k + 1 => zc_mst y k + zc_mlen y (k + 1 : Nat)
def zc_yd (y : Int) : Int := 365 * y + (y + 3) / 4
def zc_n0 (h : Nat → Int) (y : Int) : Int := zc_yd y + zc_mst y (h 0 - 1).toNat + (if h 1 = 1 then zc_mlen y (h 0) else h 3) - 1
def zc_nn (fo wd n : Int) : Int := if fo = 2 then n + (wd - (n + 6) % 7 + 7) % 7 else if fo = 0 then n else n - ((n + 6) % 7 - wd + 7) % 7
def zc_rd (h : Nat → Int) (y : Int) : Int := zc_nn (h 1) (h 2) (zc_n0 h y) * 96 + h 4
/-- a row's yearly moment is well formed -/
def zc_day (h : Nat → Int) : Prop := (1 ≤ h 0 ∧ h 0 ≤ 12) ∧ (0 ≤ h 1 ∧ h 1 ≤ 3) ∧ (0 ≤ h 2 ∧ h 2 ≤ 6) ∧ (1 ≤ h 3 ∧ h 3 ≤ 31) ∧ (0 ≤ h 4 ∧ h 4 ≤ 96) ∧ (0 ≤ h 5 ∧ h 5 ≤ 2)
theorem zc_ml (y m : Int) : zc_mlen 1 m ≤ zc_mlen y m ∧ zc_mlen y m ≤ zc_mlen 1 m + 1 := by
  unfold zc_mlen
  by_cases h : m = 2
  · simp only [if_pos h]
    rw [if_neg (by decide : ¬ (1 : Int) % 4 = 0)]
    split <;> omega
  · simp only [if_neg h]; omega
theorem zc_mlb (y m : Int) : 28 ≤ zc_mlen y m ∧ zc_mlen y m ≤ 31 := by
  unfold zc_mlen
  split
  · split <;> omega
  · split <;> omega
theorem zc_mlf (y y' m : Int) (h : m ≠ 2) : zc_mlen y m = zc_mlen y' m := by
  unfold zc_mlen; rw [if_neg h, if_neg h]
theorem zc_ms : ∀ (k : Nat) (y : Int), k ≤ 11 → zc_mst 1 k ≤ zc_mst y k ∧ zc_mst y k ≤ zc_mst 1 k + (if 2 ≤ k then 1 else 0) := by
  intro k y
  induction k with
  | zero => intro _; simp [zc_mst]
  | succ k ih =>
    intro hk
    have h1 := ih (by omega)
    simp only [zc_mst]
    by_cases h2 : k = 1
    · subst h2
      have h3 := zc_ml y (1 + 1 : Nat)
      rw [if_neg (by omega)] at h1
      rw [if_pos (by omega)]
      omega
    · have h3 := zc_mlf y 1 (k + 1 : Nat) (by omega)
      rw [h3]
      by_cases h4 : 2 ≤ k
      · rw [if_pos h4] at h1; rw [if_pos (by omega)]; omega
      · rw [if_neg h4] at h1; rw [if_neg (by omega)]; omega
theorem zc_m1 : ∀ k, k < 12 → 0 ≤ zc_mst 1 k ∧ zc_mst 1 k + zc_mlen 1 (k + 1 : Nat) ≤ 365 ∧ zc_mst 1 k ≤ 334 := by decide
def zc_c (h : Nat → Int) : Int := zc_mst 1 (h 0 - 1).toNat + (if h 1 = 1 then zc_mlen 1 (h 0) else h 3) - 1
theorem zc_cb {h : Nat → Int} (D : zc_day h) : 0 ≤ zc_c h ∧ zc_c h ≤ 364 := by
  obtain ⟨⟨a1, a2⟩, _, _, ⟨b1, b2⟩, _, _⟩ := D
  have h1 := zc_m1 (h 0 - 1).toNat (by omega)
  have h2 : (((h 0 - 1).toNat + 1 : Nat) : Int) = h 0 := by omega
  rw [h2] at h1
  have h3 := zc_mlb 1 (h 0)
  unfold zc_c
  split <;> omega
theorem zc_n0b {h : Nat → Int} (D : zc_day h) (y : Int) : zc_yd y + zc_c h ≤ zc_n0 h y ∧ zc_n0 h y ≤ zc_yd y + zc_c h + 2 := by
  obtain ⟨⟨a1, a2⟩, _, _, ⟨b1, b2⟩, _, _⟩ := D
  have h1 := zc_ms (h 0 - 1).toNat y (by omega)
  have h2 := zc_ml y (h 0)
  unfold zc_n0 zc_c
  split at h1
  · split <;> omega
  · split <;> omega
theorem zc_nnb (fo wd n : Int) : n - 6 ≤ zc_nn fo wd n ∧ zc_nn fo wd n ≤ n + 6 := by
  unfold zc_nn
  split
  · omega
  · split <;> omega
theorem zc_b {h : Nat → Int} (D : zc_day h) (y : Int) : (zc_yd y + zc_c h - 6) * 96 ≤ zc_rd h y ∧ zc_rd h y ≤ (zc_yd y + zc_c h + 8) * 96 + 96 := by
  have h1 := zc_n0b D y
  have h2 := zc_nnb (h 1) (h 2) (zc_n0 h y)
  obtain ⟨_, _, _, _, ⟨b1, b2⟩, _⟩ := D
  unfold zc_rd
  omega
theorem zc_ydm {y y' : Int} (h : y < y') : zc_yd y + 365 ≤ zc_yd y' := by unfold zc_yd; omega
theorem zc_mono {h : Nat → Int} (D : zc_day h) {y y' : Int} (l : y < y') : zc_rd h y < zc_rd h y' := by
  have h1 := zc_b D y
  have h2 := zc_b D y'
  have h3 := zc_ydm l
  omega
theorem zc_two {h h' : Nat → Int} (D : zc_day h) (D' : zc_day h') {y y' : Int} (l : y + 2 ≤ y') : zc_rd h y < zc_rd h' y' := by
  have h1 := zc_b D y
  have h2 := zc_b D' y'
  have h3 : zc_yd y + 730 ≤ zc_yd y' := by unfold zc_yd; omega
  have h4 := zc_cb D
  have h5 := zc_cb D'
  omega
theorem zc_lo {h : Nat → Int} (D : zc_day h) {y : Int} (h0 : 0 ≤ y) : 35040 * y - 576 ≤ zc_rd h y := by
  have h1 := zc_b D y
  have h4 := zc_cb D
  unfold zc_yd at h1
  omega
theorem zc_hi {h : Nat → Int} (D : zc_day h) {y : Int} : zc_rd h y ≤ 35040 * y + 96 * ((y + 3) / 4) + 35808 := by
  have h1 := zc_b D y
  have h4 := zc_cb D
  unfold zc_yd at h1
  omega
/-- in the int range, coarsely -/
theorem zc_r {h : Nat → Int} (D : zc_day h) {y : Int} (h0 : 0 ≤ y) (h9 : y ≤ 99) : -576 ≤ zc_rd h y ∧ zc_rd h y < 3600000 := by
  have h1 := zc_lo D h0
  have h2 := zc_hi D (y := y)
  omega
end
section
/-! 03: the walks of the calendar -/
section
variable {xl xm xr xe xa xs xc : Int32} {dD dR dE dF dA dU sS sV sO sB : Nat → Int32} {yl ym yr ye yc : Int32} {ys yA yP yT : Nat → Int32}
theorem zx_ml {post : Int32 → Prop} {y : Int} (m : Nat) (h0 : 0 ≤ y) (h9 : y ≤ 99) (h1 : 1 ≤ m) (h12 : m ≤ 12) (h : post (iI (zc_mlen y m))) : wpX_monthLength post (xl, xm, xr, xe, xa, xs, xc, dD, dR, dE, dF, dA, dU, sS, sV, sO, sB) (iI y) (nI m) := by
  unfold wpX_monthLength
  dsimp only
  refine zk_eq m 2 (fun e => ⟨by decide, ?_⟩) (fun e => ⟨by decide, by decide, ?_⟩) rfl rfl (by omega) (by omega)
  · subst e
    unfold zc_mlen at h
    rw [if_pos (show ((2 : Nat) : Int) = 2 from rfl)] at h
    refine zb_eq (y % 4) 0 (fun e => ?_) (fun e => ?_) (zR rfl rfl (by omega) (by omega) (by omega) (by omega)) rfl
    · rw [if_pos e] at h; exact h
    · rw [if_neg e] at h; exact h
  · have e1 : m = 1 ∨ m = 3 ∨ m = 4 ∨ m = 5 ∨ m = 6 ∨ m = 7 ∨ m = 8 ∨ m = 9 ∨ m = 10 ∨ m = 11 ∨ m = 12 := by omega
    unfold zc_mlen at h
    rcases e1 with rfl | rfl | rfl | rfl | rfl | rfl | rfl | rfl | rfl | rfl | rfl <;> exact h
theorem zy_ml {post : Int32 → Prop} {y : Int} (m : Nat) (h0 : 0 ≤ y) (h9 : y ≤ 99) (h1 : 1 ≤ m) (h12 : m ≤ 12) (h : post (iI (zc_mlen y m))) : wpY_length post (yl, ym, yr, ye, yc, ys, yA, yP, yT) (iI y) (nI m) := by
  unfold wpY_length
  dsimp only
  refine zk_eq m 2 (fun e => ⟨by decide, ?_⟩) (fun e => ?_) rfl rfl (by omega) (by omega)
  · subst e
    unfold zc_mlen at h
    rw [if_pos (show ((2 : Nat) : Int) = 2 from rfl)] at h
    refine zb_eq (y % 4) 0 (fun e => ?_) (fun e => ?_) (zR rfl rfl (by omega) (by omega) (by omega) (by omega)) rfl
    · rw [if_pos e] at h; exact h
    · rw [if_neg e] at h; exact h
  · unfold zc_mlen at h
    rw [if_neg (show ¬ ((m : Nat) : Int) = 2 by omega)] at h
    refine zk_eq m 4 (fun e => ?_) (fun e4 => zk_eq m 6 (fun e => ?_) (fun e6 => zk_eq m 9 (fun e => ?_) (fun e9 => zk_eq m 11 (fun e => ?_) (fun e11 => ?_) rfl rfl (by omega) (by omega)) rfl rfl (by omega) (by omega)) rfl rfl (by omega) (by omega)) rfl rfl (by omega) (by omega)
    · rw [if_pos (by omega)] at h; exact h
    · rw [if_pos (by omega)] at h; exact h
    · rw [if_pos (by omega)] at h; exact h
    · rw [if_pos (by omega)] at h; exact h
    · rw [if_neg (by omega)] at h; exact h
theorem zx_fom {post : Int32 → Prop} {y : Int} (h0 : 0 ≤ y) (h9 : y ≤ 99) : ∀ (d j n : Nat), j + d ≤ 11 → d < n → post (iI (zc_yd y + zc_mst y (j + d))) → wX_firstOfMonth_15 post (iI y) (nI (j + d + 1)) xl xm xr xe xa xs xc dD dR dE dF dA dU sS sV sO sB n (iI (zc_yd y + zc_mst y j)) (nI (j + 1)) := by
  intro d
  induction d with
  | zero =>
    intro j n hj hn h
    obtain ⟨n, rfl⟩ : ∃ m, n = m + 1 := ⟨n - 1, by omega⟩
    exact zk_le (j + 0 + 1) (j + 1) (fun _ => h) (fun e => absurd e (by omega)) rfl rfl (by omega) (by omega)
  | succ d ih =>
    intro j n hj hn h
    obtain ⟨n, rfl⟩ : ∃ m, n = m + 1 := ⟨n - 1, by omega⟩
    refine zk_le (j + (d + 1) + 1) (j + 1) (fun e => absurd e (by omega)) (fun _ => ?_) rfl rfl (by omega) (by omega)
    refine zx_ml (j + 1) h0 h9 (by omega) (by omega) ?_
    refine nm_r (zA rfl rfl) (nm_r (nI_1 _) ?_)
    have := ih (j + 1) n (by omega) (by omega) (by rw [show j + 1 + d = j + (d + 1) by omega]; exact h)
    rw [show j + 1 + d + 1 = j + (d + 1) + 1 by omega] at this
    rw [Int.add_assoc]
    exact this
theorem zx_first {post : Int32 → Prop} {y : Int} (h0 : 0 ≤ y) (h9 : y ≤ 99) (k : Nat) (hk : k ≤ 11) (h : post (iI (zc_yd y + zc_mst y k))) : wpX_firstOfMonth post (xl, xm, xr, xe, xa, xs, xc, dD, dR, dE, dF, dA, dU, sS, sV, sO, sB) (iI y) (nI (k + 1)) := by
  unfold wpX_firstOfMonth
  dsimp only
  refine ⟨by decide, nm_r (e' := iI (zc_yd y)) (zA (zM rfl rfl) (zD (zA rfl rfl) rfl (by omega) (by omega) (by omega) (by omega))) ⟨k + 1, ?_⟩⟩
  have := zx_fom (xl := xl) (xm := xm) (xr := xr) (xe := xe) (xa := xa) (xs := xs) (xc := xc) (dD := dD) (dR := dR) (dE := dE) (dF := dF) (dA := dA) (dU := dU) (sS := sS) (sV := sV) (sO := sO) (sB := sB) (post := post) h0 h9 k 0 (k + 1) (by omega) (by omega) (by rw [Nat.zero_add]; exact h)
  rw [Nat.zero_add] at this
  rw [show zc_yd y = zc_yd y + zc_mst y 0 by simp [zc_mst]]
  exact this
theorem zx_read36 {post : Int32 → Prop} {fo wd ti n : Int} (hn : 0 ≤ n) (hn1 : n < 100000) (w0 : 0 ≤ wd) (w6 : wd ≤ 6) (f0 : 0 ≤ fo) (f3 : fo ≤ 3) (h : post (iI (zc_nn fo wd n * 96 + ti))) : wX_reading_36 post (iI fo) (iI wd) (iI ti) (iI n) xl xm xr xe xa xs xc dD dR dE dF dA dU sS sV sO sB := by
  unfold wX_reading_36
  refine ⟨by decide, nm_r (e' := iI ((n + 6) % 7)) (zR (zA rfl rfl) rfl (by omega) (by omega) (by omega) (by omega)) ?_⟩
  unfold zc_nn at h
  refine zb_eq fo 2 (fun e => ⟨by decide, ?_⟩) (fun e => ?_) rfl rfl
  · rw [if_pos e] at h
    refine nm_r (e' := iI (n + (wd - (n + 6) % 7 + 7) % 7)) (zA rfl (zR (zA (zS rfl rfl) rfl) rfl (by omega) (by omega) (by omega) (by omega))) ?_
    exact zv h (zA (zM rfl rfl) rfl)
  · rw [if_neg e] at h
    refine zb_eq fo 0 (fun e => ?_) (fun e => ⟨by decide, ?_⟩) rfl rfl
    · rw [if_pos e] at h
      exact zv h (zA (zM rfl rfl) rfl)
    · rw [if_neg e] at h
      refine nm_r (e' := iI (n - ((n + 6) % 7 - wd + 7) % 7)) (zS rfl (zR (zA (zS rfl rfl) rfl) rfl (by omega) (by omega) (by omega) (by omega))) ?_
      exact zv h (zA (zM rfl rfl) rfl)
theorem zx_reading {post : Int32 → Prop} {h : Nat → Int} (D : zc_day h) {y : Int} (h0 : 0 ≤ y) (h9 : y ≤ 99) (hp : post (iI (zc_rd h y))) : wpX_reading post (xl, xm, xr, xe, xa, xs, xc, dD, dR, dE, dF, dA, dU, sS, sV, sO, sB) (iI y) (iI (h 0)) (iI (h 1)) (iI (h 2)) (iI (h 3)) (iI (h 4)) := by
  have hb := zc_n0b D y
  have hc := zc_cb D
  have hyd : 0 ≤ zc_yd y ∧ zc_yd y < 50000 := by unfold zc_yd; omega
  obtain ⟨⟨a1, a2⟩, ⟨f0, f3⟩, ⟨w0, w6⟩, ⟨b1, b2⟩, _, _⟩ := D
  unfold wpX_reading
  dsimp only
  have e0 : iI (h 0) = nI ((h 0 - 1).toNat + 1) := by rw [zi_n]; congr 1; omega
  rw [e0]
  refine zx_first h0 h9 _ (by omega) ?_
  refine nm_r (e' := iI (zc_yd y + zc_mst y (h 0 - 1).toNat - 1)) (zS rfl rfl) ?_
  unfold zc_rd at hp
  refine zb_eq (h 1) 1 (fun e => ?_) (fun e => ?_) rfl rfl
  · refine zx_ml _ h0 h9 (by omega) (by omega) ?_
    refine nm_r (e' := iI (zc_n0 h y)) ?_ (zx_read36 (by omega) (by omega) w0 w6 f0 f3 hp)
    rw [zi_add]
    congr 1
    unfold zc_n0
    rw [if_pos e, show (((h 0 - 1).toNat + 1 : Nat) : Int) = h 0 by omega]
    omega
  · refine nm_r (e' := iI (zc_n0 h y)) ?_ (zx_read36 (by omega) (by omega) w0 w6 f0 f3 hp)
    rw [zi_add]
    congr 1
    unfold zc_n0
    rw [if_neg e]
    omega
theorem zy_at {post : Int32 → Prop} {p0 p1 : Int32} (row k : Nat) (h : post (ys (row * 11 + k))) (hb : row * 11 + k < 187 := by omega) (e0 : p0 = nI row := by rfl) (e1 : p1 = nI k := by rfl) : wpY_at post (yl, ym, yr, ye, yc, ys, yA, yP, yT) p0 p1 := by
  subst e0; subst e1
  unfold wpY_at
  dsimp only
  rw [z11 row k rfl]
  exact ⟨zn_in hb (by omega), by rw [nI_clamp (by omega)]; exact h⟩
theorem zy_rd145 {post : Int32 → Prop} {h : Nat → Int} {row : Nat} {n : Int} (hr : row ≤ 16) (hS : ∀ k, k < 5 → ys (row * 11 + k) = iI (h k)) (hp : post (iI (n * 96 + h 4))) : wY_reading_145 post (nI row) (iI n) yl ym yr ye yc ys yA yP yT := by
  unfold wY_reading_145
  refine zy_at row 4 ?_
  rw [hS 4 (by omega)]
  exact zv hp (zA (zM rfl rfl) rfl)
/-- the search for the weekday, pure -/
def zc_sr (s wd : Int) : Nat → Int → Int
  | 0, n => n
  | d + 1, n => if (n + 6) % 7 = wd then n else zc_sr s wd d (n + s)
theorem zc_sr0 (wd : Int) : ∀ (d : Nat) (n : Int), zc_sr 0 wd d n = n := by
  intro d
  induction d with
  | zero => intro n; rfl
  | succ d ih => intro n; simp only [zc_sr]; rw [Int.add_zero, ih]; split <;> rfl
theorem zc_sr1 (wd n : Int) (w0 : 0 ≤ wd) (w6 : wd ≤ 6) : zc_sr 1 wd 6 n = n + (wd - (n + 6) % 7 + 7) % 7 := by
  simp only [zc_sr]
  repeat' split
  all_goals omega
theorem zc_sr2 (wd n : Int) (w0 : 0 ≤ wd) (w6 : wd ≤ 6) : zc_sr (-1) wd 6 n = n - ((n + 6) % 7 - wd + 7) % 7 := by
  simp only [zc_sr]
  repeat' split
  all_goals omega
theorem zy_rd108 {post : Int32 → Prop} {h : Nat → Int} {row : Nat} {s : Int} (hr : row ≤ 16) (hS : ∀ k, k < 5 → ys (row * 11 + k) = iI (h k)) (w0 : 0 ≤ h 2) (w6 : h 2 ≤ 6) (s0 : -1 ≤ s) (s1 : s ≤ 1) : ∀ (d k f : Nat) (n : Int), d < f → k + d = 6 → -(k : Int) ≤ n → n < 100000 + k → post (iI (zc_sr s (h 2) d n * 96 + h 4)) → wY_reading_108 post (nI row) (iI s) yl ym yr ye yc ys yA yP yT f (iI n) (nI k) := by
  intro d
  induction d with
  | zero =>
    intro k f n hf hk hn hn1 hp
    obtain ⟨f, rfl⟩ : ∃ m, f = m + 1 := ⟨f - 1, by omega⟩
    exact zk_le 6 k (fun e => zy_rd145 hr hS hp) (fun e => absurd e (by omega)) rfl rfl (by omega) (by omega)
  | succ d ih =>
    intro k f n hf hk hn hn1 hp
    obtain ⟨f, rfl⟩ : ∃ m, f = m + 1 := ⟨f - 1, by omega⟩
    refine zk_le 6 k (fun e => absurd e (by omega)) (fun e => ⟨by decide, ?_⟩) rfl rfl (by omega) (by omega)
    refine zy_at row 2 ?_
    rw [hS 2 (by omega)]
    rw [zc_sr] at hp
    refine zb_eq ((n + 6) % 7) (h 2) (fun e => ?_) (fun e => ?_) (zR (zA rfl rfl) rfl (by omega) (by omega) (by omega) (by omega)) rfl
    · rw [if_pos e] at hp
      exact zy_rd145 hr hS hp
    · rw [if_neg e] at hp
      exact nm_r (zA rfl rfl) (nm_r (nI_1 k) (ih (k + 1) f (n + s) (by omega) (by omega) (by omega) (by omega) hp))
theorem zy_rd78 {post : Int32 → Prop} {h : Nat → Int} {row : Nat} {z0 z1 : Int} (hr : row ≤ 16) (hS : ∀ k, k < 5 → ys (row * 11 + k) = iI (h k)) (D : zc_day h) (hn : 0 ≤ z1 + (z0 - 1)) (hn1 : z1 + (z0 - 1) < 100000) (hp : post (iI (zc_nn (h 1) (h 2) (z1 + (z0 - 1)) * 96 + h 4))) : wY_reading_78 post (nI row) (iI (h 1)) (iI z0) (iI z1) yl ym yr ye yc ys yA yP yT := by
  obtain ⟨⟨a1, a2⟩, ⟨f0, f3⟩, ⟨w0, w6⟩, ⟨b1, b2⟩, _, _⟩ := D
  unfold wY_reading_78
  refine nm_r (e' := iI (z1 + (z0 - 1))) (zA rfl (zS rfl rfl)) ?_
  unfold zc_nn at hp
  refine zb_eq (h 1) 0 (fun e => ⟨7, ?_⟩) (fun e => zb_eq (h 1) 2 (fun e2 => ⟨7, ?_⟩) (fun e2 => ⟨7, ?_⟩) rfl rfl) rfl rfl
  · rw [if_neg (by omega), if_pos e] at hp
    exact zy_rd108 (s := 0) hr hS w0 w6 (by omega) (by omega) 6 0 7 _ (by omega) (by omega) (by omega) (by omega) (by rw [zc_sr0]; exact hp)
  · rw [if_pos e2] at hp
    exact zy_rd108 (s := 1) hr hS w0 w6 (by omega) (by omega) 6 0 7 _ (by omega) (by omega) (by omega) (by omega) (by rw [zc_sr1 _ _ w0 w6]; exact hp)
  · rw [if_neg e2, if_neg e] at hp
    rw [show (-1 : Int32) = iI (-1) from rfl]
    exact zy_rd108 (s := -1) hr hS w0 w6 (by omega) (by omega) 6 0 7 _ (by omega) (by omega) (by omega) (by omega) (by rw [zc_sr2 _ _ w0 w6]; exact hp)
theorem zy_rd31 {post : Int32 → Prop} {h : Nat → Int} {row : Nat} {y : Int} (hr : row ≤ 16) (hS : ∀ k, k < 5 → ys (row * 11 + k) = iI (h k)) (D : zc_day h) (h0 : 0 ≤ y) (h9 : y ≤ 99) (hp : post (iI (zc_rd h y))) : ∀ (d j n : Nat), h 0 = j + d + 1 → d < n → wY_reading_31 post (nI row) (iI y) (iI (h 0)) (iI (h 1)) yl ym yr ye yc ys yA yP yT n (iI (zc_yd y + zc_mst y j)) (nI (j + 1)) := by
  have hb := zc_n0b D y
  have hc := zc_cb D
  have hyd : 0 ≤ zc_yd y ∧ zc_yd y < 50000 := by unfold zc_yd; omega
  have D' := D
  obtain ⟨⟨a1, a2⟩, ⟨f0, f3⟩, ⟨w0, w6⟩, ⟨b1, b2⟩, _, _⟩ := D'
  intro d
  induction d with
  | zero =>
    intro j n hj hn
    obtain ⟨n, rfl⟩ : ∃ m, n = m + 1 := ⟨n - 1, by omega⟩
    have ej : (h 0 - 1).toNat = j := by omega
    have ej' : h 0 = ((j + 1 : Nat) : Int) := by omega
    refine zb_le (h 0) (j + 1 : Nat) (fun _ => ?_) (fun e => absurd e (by omega)) rfl (zi_n _)
    unfold zc_n0 at hb
    unfold zc_rd zc_n0 at hp
    rw [ej] at hb hp
    refine zb_eq (h 1) 1 (fun e => ?_) (fun e => ?_) rfl rfl
    · rw [if_pos e] at hb hp
      rw [ej', ← zi_n]
      refine zy_ml _ h0 h9 (by omega) (by omega) ?_
      rw [ej'] at hb hp
      exact zy_rd78 hr hS D (by omega) (by omega) (by rw [show zc_yd y + zc_mst y j + (zc_mlen y (j + 1 : Nat) - 1) = zc_yd y + zc_mst y j + zc_mlen y (j + 1 : Nat) - 1 by omega]; exact hp)
    · rw [if_neg e] at hb hp
      refine zy_at row 3 ?_
      rw [hS 3 (by omega)]
      exact zy_rd78 hr hS D (by omega) (by omega) (by rw [show zc_yd y + zc_mst y j + (h 3 - 1) = zc_yd y + zc_mst y j + h 3 - 1 by omega]; exact hp)
  | succ d ih =>
    intro j n hj hn
    obtain ⟨n, rfl⟩ : ∃ m, n = m + 1 := ⟨n - 1, by omega⟩
    refine zb_le (h 0) (j + 1 : Nat) (fun e => absurd e (by omega)) (fun _ => ?_) rfl (zi_n _)
    refine zy_ml (j + 1) h0 h9 (by omega) (by omega) ?_
    refine nm_r (zA rfl rfl) (nm_r (nI_1 _) ?_)
    rw [Int.add_assoc]
    exact ih (j + 1) n (by omega) (by omega)
theorem zy_reading {post : Int32 → Prop} {h : Nat → Int} {p0 : Int32} (row : Nat) {y : Int} (hS : ∀ k, k < 5 → ys (row * 11 + k) = iI (h k)) (D : zc_day h) (h0 : 0 ≤ y) (h9 : y ≤ 99) (hp : post (iI (zc_rd h y))) (hr : row ≤ 16 := by omega) (e0 : p0 = nI row := by rfl) : wpY_reading post (yl, ym, yr, ye, yc, ys, yA, yP, yT) p0 (iI y) := by
  subst e0
  have D' := D
  obtain ⟨⟨a1, a2⟩, _, _, _, _, _⟩ := D'
  unfold wpY_reading
  dsimp only
  refine zy_at row 0 ?_
  refine zy_at row 1 ?_
  rw [hS 0 (by omega), hS 1 (by omega)]
  refine ⟨by decide, nm_r (e' := iI (zc_yd y)) (zA (zM rfl rfl) (zD (zA rfl rfl) rfl (by omega) (by omega) (by omega) (by omega))) ⟨13, ?_⟩⟩
  have := zy_rd31 (yl := yl) (ym := ym) (yr := yr) (ye := ye) (yc := yc) (ys := ys) (yA := yA) (yP := yP) (yT := yT) hr hS D h0 h9 hp (h 0 - 1).toNat 0 13 (by omega) (by omega)
  rw [show zc_yd y + zc_mst y 0 = zc_yd y by simp [zc_mst]] at this
  exact this
end
end
section
/-! 04: the order of activations, the greatest of a set of them -/
def zq_day (g : Nat → Nat → Int) (r : Nat) : Prop := zc_day (g (1 + r)) ∧ 0 ≤ g (1 + r) 6 ∧ g (1 + r) 6 ≤ 19 ∧ g (1 + r) 6 ≤ g (1 + r) 7 ∧ (g (1 + r) 7 = 99 ∨ g (1 + r) 7 ≤ 19) ∧ (0 ≤ g (1 + r) 8 ∧ g (1 + r) 8 ≤ 3) ∧ (0 ≤ g (1 + r) 9 ∧ g (1 + r) 9 ≤ 8) ∧ (0 ≤ g (1 + r) 10 ∧ g (1 + r) 10 ≤ 7)
def zq_era (h : Nat → Int) : Prop := zc_day h ∧ (-48 ≤ h 6 ∧ h 6 ≤ 56) ∧ ((0 ≤ h 7 ∧ h 7 ≤ 3) ∨ (16 ≤ h 7 ∧ h 7 ≤ 24)) ∧ (0 ≤ h 8 ∧ h 8 ≤ 7) ∧ (h 9 = 99 ∨ (0 ≤ h 9 ∧ h 9 ≤ 19))
/-- the source is well formed: the rules, the eras, and only the last era may be endless -/
def zq_wf (g : Nat → Nat → Int) (rc ec : Nat) : Prop := rc ≤ 8 ∧ ec ≤ 8 ∧ (∀ r, r < rc → zq_day g r) ∧ (∀ e, e < ec → zq_era (g (9 + e))) ∧ (∀ e, e + 1 < ec → g (9 + e) 9 ≠ 99)
section
variable (g : Nat → Nat → Int) (rc : Nat)
def zq_ac (a : Nat) : Int := zc_rd (g (1 + a / 100)) (a % 100 : Nat)
def zq_V (s : Int) (a : Nat) : Prop := a / 100 < rc ∧ g (1 + a / 100) 8 = s ∧ g (1 + a / 100) 6 ≤ (a % 100 : Nat) ∧ ((a % 100 : Nat) : Int) ≤ g (1 + a / 100) 7
def zq_lt (a b : Nat) : Prop := zq_ac g a < zq_ac g b ∨ (zq_ac g a = zq_ac g b ∧ a < b)
def zq_Sp (P : Nat → Prop) : Option Nat → Prop
  | none => ∀ a, ¬ P a
  | some b => P b ∧ ∀ c, P c → c = b ∨ zq_lt g c b
noncomputable def zq_top (P : Nat → Prop) : Option Nat := Classical.epsilon (zq_Sp g P)
def zq_sv (o : Option Nat) (k : Nat) : Int := match o with
  | none => 0
  | some b => g (1 + b / 100) k
def zq_ps (a b : Nat) : Prop := zq_V g rc (g (1 + a / 100) 8) b ∧ zq_lt g b a
noncomputable def zq_pr (a : Nat) : Int := zq_sv g (zq_top g (zq_ps g rc a)) 9
noncomputable def zq_mo (o : Int) (a : Nat) : Int := zq_ac g a - (if g (1 + a / 100) 5 = 2 then 0 else o) - (if g (1 + a / 100) 5 = 0 then zq_pr g rc a else 0)
def zq_Q (e : Nat) (t : Int) (a : Nat) : Prop := zq_V g rc (g (9 + e) 7) a ∧ zq_mo g rc (g (9 + e) 6) a ≤ t
noncomputable def zq_f (e : Nat) (t : Int) : Option Nat := zq_top g (zq_Q g rc e t)
noncomputable def zq_s (e : Nat) (t : Int) : Int := if g (9 + e) 7 < 16 then zq_sv g (zq_f g rc e t) 9 else g (9 + e) 7 - 16
def zq_mx (a b : Int) : Int := if a ≤ b then b else a
noncomputable def zq_wall (e : Nat) (til : Int) : Nat → Int → Int
  | 0, t => t
  | k + 1, t => if t + zq_mx (zq_s g rc e (t - 1)) (zq_s g rc e t) < til then zq_wall e til k (t + 1) else t
def zq_end (e : Nat) : Int := zc_rd (g (9 + e)) (g (9 + e) 9)
noncomputable def zq_nx (e : Nat) (s : Int) : Int :=
  if g (9 + e) 5 = 2 then zq_mx s (zq_end g e) else if g (9 + e) 5 = 1 then zq_mx s (zq_end g e - g (9 + e) 6)
  else zq_wall g rc e (zq_end g e - g (9 + e) 6) 8 (zq_mx s (zq_end g e - g (9 + e) 6 - 8))
noncomputable def zq_st : Nat → Int
  | 0 => 0
  | e + 1 => zq_nx g rc e (zq_st e)
noncomputable def zq_er (t : Int) : Nat → Nat
  | 0 => 0
  | i + 1 => if t < zq_st g rc (i + 1) then zq_er t i else i + 1
noncomputable def zq_of (e : Nat) (t : Int) : Int := g (9 + e) 6 + zq_s g rc e t
noncomputable def zq_ab (e : Nat) (t : Int) : Int := 8 * g (9 + e) 8 + zq_sv g (zq_f g rc e t) 10
noncomputable def zq_val (e : Nat) (t : Int) : Int := (zq_of g rc e t + 100) * 1024 + zq_s g rc e t * 64 + 8 * g (9 + e) 8 + zq_sv g (zq_f g rc e t) 10
end
section
variable {g : Nat → Nat → Int} {rc ec : Nat}
theorem zq_irr {a : Nat} (h : zq_lt g a a) : False := by unfold zq_lt at h; omega
theorem zq_asy {a b : Nat} (h : zq_lt g a b) (h' : zq_lt g b a) : False := by unfold zq_lt at h h'; omega
theorem zq_tr {a b c : Nat} (h : zq_lt g a b) (h' : zq_lt g b c) : zq_lt g a c := by unfold zq_lt at *; omega
theorem zq_tri (a b : Nat) : a = b ∨ zq_lt g a b ∨ zq_lt g b a := by unfold zq_lt; omega
theorem zq_spu {P : Nat → Prop} {o o' : Option Nat} (h : zq_Sp g P o) (h' : zq_Sp g P o') : o = o' := by
  cases o with
  | none => cases o' with
    | none => rfl
    | some b => exact absurd h'.1 (h b)
  | some a => cases o' with
    | none => exact absurd h.1 (h' a)
    | some b =>
      rcases h.2 b h'.1 with e | e
      · rw [e]
      · rcases h'.2 a h.1 with e' | e'
        · rw [e']
        · exact (zq_asy e e').elim
theorem zq_ex (P : Nat → Prop) : ∀ n : Nat, (∀ a, P a → a < n) → ∃ o, zq_Sp g P o := by
  intro n
  suffices H : ∀ n : Nat, ∃ o, zq_Sp g (fun a => a < n ∧ P a) o by
    intro hn
    obtain ⟨o, ho⟩ := H n
    have e : (fun a => a < n ∧ P a) = P := by
      funext a; exact propext ⟨fun h => h.2, fun h => ⟨hn a h, h⟩⟩
    rw [e] at ho
    exact ⟨o, ho⟩
  intro n
  induction n with
  | zero => exact ⟨none, fun a h => by omega⟩
  | succ n ih =>
    obtain ⟨o, ho⟩ := ih
    by_cases hp : P n
    · cases o with
      | none =>
        refine ⟨some n, ⟨by omega, hp⟩, fun c hc => Or.inl ?_⟩
        by_cases hcn : c < n
        · exact absurd ⟨hcn, hc.2⟩ (ho c)
        · omega
      | some b =>
        by_cases hl : zq_lt g b n
        · refine ⟨some n, ⟨by omega, hp⟩, fun c hc => ?_⟩
          by_cases hcn : c < n
          · rcases ho.2 c ⟨hcn, hc.2⟩ with e | e
            · rw [e]; exact Or.inr hl
            · exact Or.inr (zq_tr e hl)
          · exact Or.inl (by omega)
        · have hbn : b < n := ho.1.1
          refine ⟨some b, ⟨by omega, ho.1.2⟩, fun c hc => ?_⟩
          by_cases hcn : c < n
          · exact ho.2 c ⟨hcn, hc.2⟩
          · have : c = n := by omega
            subst this
            rcases zq_tri (g := g) b c with e | e | e
            · omega
            · exact absurd e hl
            · exact Or.inr e
    · refine ⟨o, ?_⟩
      have e : (fun a => a < n + 1 ∧ P a) = (fun a => a < n ∧ P a) := by
        funext a
        refine propext ⟨fun h => ⟨?_, h.2⟩, fun h => ⟨by omega, h.2⟩⟩
        by_cases ha : a = n
        · subst ha; exact absurd h.2 hp
        · omega
      rw [e]; exact ho
theorem zq_topE {P : Nat → Prop} {o : Option Nat} (h : zq_Sp g P o) : zq_top g P = o :=
  zq_spu (Classical.epsilon_spec (p := zq_Sp g P) ⟨o, h⟩) h
theorem zq_topS {P : Nat → Prop} (n : Nat) (h : ∀ a, P a → a < n) : zq_Sp g P (zq_top g P) :=
  Classical.epsilon_spec (p := zq_Sp g P) (zq_ex P n h)
theorem zq_Vlt {s : Int} {a : Nat} (h : zq_V g rc s a) : a < rc * 100 := by have := h.1; omega
theorem zq_acm {a b : Nat} (D : zc_day (g (1 + a / 100))) (e : a / 100 = b / 100) (h : a < b) : zq_ac g a < zq_ac g b := by
  unfold zq_ac
  rw [← e]
  exact zc_mono D (by omega)
theorem zq_svb {o : Option Nat} (w : zq_wf g rc ec) (h : ∀ b, o = some b → b / 100 < rc) : (0 ≤ zq_sv g o 9 ∧ zq_sv g o 9 ≤ 8) ∧ (0 ≤ zq_sv g o 10 ∧ zq_sv g o 10 ≤ 7) := by
  cases o with
  | none => simp [zq_sv]
  | some b => exact ⟨(w.2.2.1 _ (h b rfl)).2.2.2.2.2.2.1, (w.2.2.1 _ (h b rfl)).2.2.2.2.2.2.2⟩
theorem zq_topr {P : Nat → Prop} (h : ∀ a, P a → a / 100 < rc) : ∀ b, zq_top g P = some b → P b := by
  intro b hb
  have := zq_topS (g := g) (P := P) (rc * 100) (fun a ha => by have := h a ha; omega)
  rw [hb] at this
  exact this.1
end
end
section
/-! 05: bounds; the eras' starts -/
section
variable {g : Nat → Nat → Int} {rc ec : Nat}
theorem zq_acb (w : zq_wf g rc ec) {a : Nat} (ha : a / 100 < rc) : (-576 ≤ zq_ac g a ∧ zq_ac g a < 3600000) ∧ 35040 * ((a % 100 : Nat) : Int) - 576 ≤ zq_ac g a := by
  have D := (w.2.2.1 _ ha).1
  exact ⟨zc_r D (y := (a % 100 : Nat)) (by omega) (by omega), zc_lo D (by omega)⟩
theorem zq_prb (w : zq_wf g rc ec) (a : Nat) : 0 ≤ zq_pr g rc a ∧ zq_pr g rc a ≤ 8 :=
  (zq_svb w (fun b hb => (zq_topr (rc := rc) (P := zq_ps g rc a) (fun c hc => hc.1.1) b hb).1.1)).1
theorem zq_mob (w : zq_wf g rc ec) {a : Nat} (ha : a / 100 < rc) {o : Int} (o1 : -48 ≤ o) (o2 : o ≤ 56) : zq_ac g a - 64 ≤ zq_mo g rc o a ∧ zq_mo g rc o a ≤ zq_ac g a + 48 := by
  have := zq_prb w a
  unfold zq_mo
  split <;> split <;> omega
theorem zq_fS (e : Nat) (t : Int) : zq_Sp g (zq_Q g rc e t) (zq_f g rc e t) := zq_topS (rc * 100) (fun _ h => zq_Vlt h.1)
theorem zq_fQ {e : Nat} {t : Int} {b : Nat} (h : zq_f g rc e t = some b) : zq_Q g rc e t b := by
  have := zq_fS (g := g) (rc := rc) e t
  rw [h] at this
  exact this.1
theorem zq_fb (w : zq_wf g rc ec) (e : Nat) (t : Int) : (0 ≤ zq_sv g (zq_f g rc e t) 9 ∧ zq_sv g (zq_f g rc e t) 9 ≤ 8) ∧ (0 ≤ zq_sv g (zq_f g rc e t) 10 ∧ zq_sv g (zq_f g rc e t) 10 ≤ 7) :=
  zq_svb w (fun _ hb => (zq_fQ hb).1.1)
theorem zq_sb (w : zq_wf g rc ec) {e : Nat} (he : e < ec) (t : Int) : 0 ≤ zq_s g rc e t ∧ zq_s g rc e t ≤ 8 := by
  have h1 := (zq_fb w e t).1
  have h2 := (w.2.2.2.1 e he).2.2.1
  unfold zq_s
  split <;> omega
theorem zq_fn (w : zq_wf g rc ec) {e : Nat} (h : 16 ≤ g (9 + e) 7) (t : Int) : zq_f g rc e t = none := by
  apply zq_topE
  intro a ha
  have h1 := (w.2.2.1 _ ha.1.1).2.2.2.2.2.1
  have h2 := ha.1.2.1
  omega
theorem zq_mxb {a b : Int} : a ≤ zq_mx a b ∧ b ≤ zq_mx a b ∧ (zq_mx a b = a ∨ zq_mx a b = b) := by
  unfold zq_mx; split <;> omega
theorem zq_wls (w : zq_wf g rc ec) {e : Nat} (he : e < ec) {til t : Int} (h : til ≤ t) : ∀ k, zq_wall g rc e til k t = t := by
  intro k
  cases k with
  | zero => rfl
  | succ k =>
    have h1 := zq_sb w he t
    have h2 := zq_mxb (a := zq_s g rc e (t - 1)) (b := zq_s g rc e t)
    rw [zq_wall, if_neg (by omega)]
theorem zq_wlb (w : zq_wf g rc ec) {e : Nat} (he : e < ec) {til : Int} : ∀ (k : Nat) (t : Int), t ≤ zq_wall g rc e til k t ∧ zq_wall g rc e til k t ≤ zq_mx t til := by
  intro k
  induction k with
  | zero => intro t; have := zq_mxb (a := t) (b := til); rw [zq_wall]; omega
  | succ k ih =>
    intro t
    rw [zq_wall]
    split
    · rename_i h
      have h1 := zq_sb w he t
      have h2 := zq_mxb (a := zq_s g rc e (t - 1)) (b := zq_s g rc e t)
      have h3 := ih (t + 1)
      have h4 : zq_mx (t + 1) til = til := by unfold zq_mx; rw [if_pos (by omega)]
      have h5 := zq_mxb (a := t) (b := til)
      omega
    · have := zq_mxb (a := t) (b := til); omega
/-- enough fuel is enough -/
theorem zq_wlk (w : zq_wf g rc ec) {e : Nat} (he : e < ec) {til : Int} : ∀ (k k' : Nat) (t : Int), til - t ≤ k → til - t ≤ k' → zq_wall g rc e til k t = zq_wall g rc e til k' t := by
  intro k
  induction k with
  | zero => intro k' t h h'; rw [zq_wls w he (by omega), zq_wls w he (by omega)]
  | succ k ih =>
    intro k' t h h'
    cases k' with
    | zero => rw [zq_wls w he (by omega), zq_wls w he (by omega)]
    | succ k' =>
      rw [zq_wall, zq_wall]
      rw [ih k' (t + 1) (by omega) (by omega)]
theorem zq_endb (w : zq_wf g rc ec) {e : Nat} (he : e + 1 < ec) : -576 ≤ zq_end g e ∧ zq_end g e ≤ 702048 := by
  have h1 := w.2.2.2.1 e (by omega)
  have h2 := w.2.2.2.2 e he
  have h3 := h1.2.2.2.2
  have h4 := zc_lo h1.1 (y := g (9 + e) 9) (by omega)
  have h5 := zc_hi h1.1 (y := g (9 + e) 9)
  unfold zq_end
  omega
theorem zq_nxb (w : zq_wf g rc ec) {e : Nat} (he : e + 1 < ec) {s : Int} (hs : s ≤ 702096) : s ≤ zq_nx g rc e s ∧ zq_nx g rc e s ≤ 702096 := by
  have h1 := zq_endb w he
  have h2 := (w.2.2.2.1 e (by omega)).2.1
  unfold zq_nx
  split
  · have := zq_mxb (a := s) (b := zq_end g e); omega
  · split
    · have := zq_mxb (a := s) (b := zq_end g e - g (9 + e) 6); omega
    · have h3 := zq_mxb (a := s) (b := zq_end g e - g (9 + e) 6 - 8)
      have h4 := zq_wlb w (e := e) (by omega) (til := zq_end g e - g (9 + e) 6) 8 (zq_mx s (zq_end g e - g (9 + e) 6 - 8))
      have h5 := zq_mxb (a := zq_mx s (zq_end g e - g (9 + e) 6 - 8)) (b := zq_end g e - g (9 + e) 6)
      omega
theorem zq_stb (w : zq_wf g rc ec) : ∀ e, e < ec → 0 ≤ zq_st g rc e ∧ zq_st g rc e ≤ 702096 := by
  intro e
  induction e with
  | zero => intro _; simp [zq_st]
  | succ e ih =>
    intro h
    have h1 := ih (by omega)
    have h2 := zq_nxb w h h1.2
    rw [zq_st]
    omega
theorem zq_stm (w : zq_wf g rc ec) {e : Nat} (h : e + 1 < ec) : zq_st g rc e ≤ zq_st g rc (e + 1) := by
  have h1 := zq_stb w e (by omega)
  have h2 := zq_nxb w h h1.2
  rw [zq_st]
  omega
theorem zq_stmm (w : zq_wf g rc ec) : ∀ (d e : Nat), e + d < ec → zq_st g rc e ≤ zq_st g rc (e + d) := by
  intro d
  induction d with
  | zero => intro e _; exact Int.le_refl _
  | succ d ih =>
    intro e h
    have h1 := ih e (by omega)
    have h2 := zq_stm w (e := e + d) h
    have h3 : e + (d + 1) = e + d + 1 := by omega
    rw [h3]
    omega
theorem zq_erb {t : Int} (ht : 0 ≤ t) : ∀ m : Nat, zq_er g rc t m ≤ m ∧ zq_st g rc (zq_er g rc t m) ≤ t ∧ ∀ i, i ≤ m → zq_er g rc t m < i → t < zq_st g rc i := by
  intro m
  induction m with
  | zero => exact ⟨Nat.le_refl _, by rw [zq_er, zq_st]; exact ht, fun i h1 h2 => by omega⟩
  | succ m ih =>
    rw [zq_er]
    split
    · rename_i h
      refine ⟨by omega, ih.2.1, fun i h1 h2 => ?_⟩
      by_cases hi : i = m + 1
      · rw [hi]; exact h
      · exact ih.2.2 i (by omega) h2
    · exact ⟨Nat.le_refl _, by omega, fun i h1 h2 => by omega⟩
theorem zq_erE (w : zq_wf g rc ec) {t : Int} {e : Nat} (he : e < ec) (h1 : zq_st g rc e ≤ t) (h2 : e + 1 < ec → t < zq_st g rc (e + 1)) : zq_er g rc t (ec - 1) = e := by
  have h0 := zq_stb w e he
  have h3 := zq_erb (g := g) (rc := rc) (t := t) (by omega) (ec - 1)
  rcases Nat.lt_trichotomy (zq_er g rc t (ec - 1)) e with h | h | h
  · have := h3.2.2 e (by omega) h; omega
  · exact h
  · have h4 := h2 (by omega)
    have h5 := zq_stmm w (zq_er g rc t (ec - 1) - (e + 1)) (e + 1) (by omega)
    rw [show e + 1 + (zq_er g rc t (ec - 1) - (e + 1)) = zq_er g rc t (ec - 1) by omega] at h5
    omega
end
end
section
/-! 06: the reference's searches: priorSaving, moment, inForce, saving -/
def zy_o (o : Option Nat) : Int32 := match o with
  | none => -1
  | some b => nI b
def zy_r (o : Option Nat) : Int32 := match o with
  | none => -1
  | some b => nI (b / 100)
def zq_cb (g : Nat → Nat → Int) (o f : Option Nat) : Option Nat := match f with
  | none => o
  | some b => match o with
    | none => some b
    | some c => if zq_ac g b < zq_ac g c then some c else some b
def zy_in (g : Nat → Nat → Int) (ys : Nat → Int32) : Prop := ∀ row k, 1 ≤ row → row ≤ 16 → k ≤ 10 → ys (row * 11 + k) = iI (g row k)
def zy_ac (g : Nat → Nat → Int) (rc : Nat) (yA : Nat → Int32) : Prop := ∀ a, a < rc * 100 → yA a = iI (zq_ac g a)
def zy_pr (g : Nat → Nat → Int) (rc : Nat) (yP : Nat → Int32) : Prop := ∀ a, a < rc * 100 → yP a = iI (zq_pr g rc a)
section
variable {g : Nat → Nat → Int} {rc ec : Nat}
theorem zq_cbS {P1 P2 P : Nat → Prop} {o f : Option Nat} (h1 : zq_Sp g P1 o) (h2 : zq_Sp g P2 f) (hl : ∀ a b, P1 a → P2 b → a < b) (hP : ∀ a, P a ↔ P1 a ∨ P2 a) : zq_Sp g P (zq_cb g o f) := by
  cases f with
  | none =>
    have e : P = P1 := by
      funext a; exact propext ⟨fun h => ((hP a).mp h).elim id (fun h' => absurd h' (h2 a)), fun h => (hP a).mpr (Or.inl h)⟩
    rw [e]; exact h1
  | some b =>
    cases o with
    | none =>
      have e : P = P2 := by
        funext a; exact propext ⟨fun h => ((hP a).mp h).elim (fun h' => absurd h' (h1 a)) id, fun h => (hP a).mpr (Or.inr h)⟩
      rw [e]; exact h2
    | some c =>
      have hcb := hl c b h1.1 h2.1
      show zq_Sp g P (if zq_ac g b < zq_ac g c then some c else some b)
      split
      · rename_i h
        have hbc : zq_lt g b c := Or.inl h
        refine ⟨(hP c).mpr (Or.inl h1.1), fun d hd => ?_⟩
        rcases (hP d).mp hd with h' | h'
        · exact h1.2 d h'
        · rcases h2.2 d h' with e | e
          · rw [e]; exact Or.inr hbc
          · exact Or.inr (zq_tr e hbc)
      · rename_i h
        have hbc : zq_lt g c b := by unfold zq_lt; omega
        refine ⟨(hP b).mpr (Or.inr h2.1), fun d hd => ?_⟩
        rcases (hP d).mp hd with h' | h'
        · rcases h1.2 d h' with e | e
          · rw [e]; exact Or.inr hbc
          · exact Or.inr (zq_tr e hbc)
        · exact h2.2 d h'
theorem zq_dnS {P : Nat → Prop} {r b : Nat} (D : zc_day (g (1 + r))) (hb : b / 100 = r) (hp : P b) (hc : ∀ c, c / 100 = r → P c → c % 100 ≤ b % 100) : zq_Sp g (fun c => c / 100 = r ∧ P c) (some b) := by
  refine ⟨⟨hb, hp⟩, fun c h => ?_⟩
  have h1 := hc c h.1 h.2
  by_cases e : c = b
  · exact Or.inl e
  · exact Or.inr (Or.inl (zq_acm (by rw [h.1]; exact D) (h.1.trans hb.symm) (by omega)))
variable {yl ym yr ye yc : Int32} {ys yA yP yT : Nat → Int32}
theorem zy_atg {post : Int32 → Prop} {p0 p1 : Int32} (hS : zy_in g ys) (row k : Nat) (h : post (iI (g row k))) (hr : row ≤ 16 := by omega) (hk : k ≤ 10 := by omega) (e0 : p0 = nI row := by rfl) (e1 : p1 = nI k := by rfl) (h1 : 1 ≤ row := by omega) : wpY_at post (yl, ym, yr, ye, yc, ys, yA, yP, yT) p0 p1 :=
  zy_at row k (by rw [hS row k h1 hr hk]; exact h) (by omega) e0 e1
theorem zy_p168 {post : Int32 → Prop} {J : Int32 → Int32 → Prop} {x1 x2 : Int32} {r : Nat} {o f : Option Nat} (hrc : rc ≤ 8) (hA : zy_ac g rc yA) (ho : ∀ c, o = some c → c < rc * 100) (hf : ∀ c, f = some c → c < rc * 100) (h : J (zy_o (zq_cb g o f)) (nI (r + 1))) (w : zq_wf g rc ec) : wY_priorSaving_168 post J x1 x2 (zy_o o) (nI r) (zy_o f) yl ym yr ye yc ys yA yP yT := by
  unfold wY_priorSaving_168
  cases f with
  | none => exact br_t (by decide) (nm_r (nI_1 r) h)
  | some b =>
    have hb := hf b rfl
    refine br_f (nI_pos (by omega)) ?_
    cases o with
    | none => exact br_t (by decide) (nm_r (nI_1 r) h)
    | some c =>
      have hc := ho c rfl
      have b1 := (zq_acb w (a := b) (by omega)).1
      have b2 := (zq_acb w (a := c) (by omega)).1
      refine br_f (nI_pos (by omega)) ⟨zn_in (by omega) (by omega), zn_in (by omega) (by omega), ?_⟩
      show (yA (nI b).toNatClampNeg < yA (nI c).toNatClampNeg → _) ∧ (¬ yA (nI b).toNatClampNeg < yA (nI c).toNatClampNeg → _)
      rw [nI_clamp (by omega), nI_clamp (by omega)]
      refine zb_lt (zq_ac g b) (zq_ac g c) (fun e => ?_) (fun e => ?_) (hA b hb) (hA c hc)
      · refine nm_r (nI_1 r) ?_
        rw [show zq_cb g (some c) (some b) = some c from if_pos e] at h
        exact h
      · refine nm_r (nI_1 r) ?_
        rw [show zq_cb g (some c) (some b) = some b from if_neg (by omega)] at h
        exact h
theorem zy_i141 {post : Int32 → Prop} {J : Int32 → Int32 → Prop} {x1 x2 : Int32} {r : Nat} {o f : Option Nat} (hrc : rc ≤ 8) (hA : zy_ac g rc yA) (ho : ∀ c, o = some c → c < rc * 100) (hf : ∀ c, f = some c → c < rc * 100) (h : J (zy_o (zq_cb g o f)) (nI (r + 1))) (w : zq_wf g rc ec) : wY_inForce_141 post J x1 x2 (zy_o o) (nI r) (zy_o f) yl ym yr ye yc ys yA yP yT :=
  zy_p168 (yl := yl) (ym := ym) (yr := yr) (ye := ye) (yc := yc) (ys := ys) (yA := yA) (yP := yP) (yT := yT) (post := post) (x1 := x1) (x2 := x2) hrc hA ho hf h w
/-- the years of one rule, from the last one tried downward -/
theorem zy_p98 {post : Int32 → Prop} {J : Int32 → Int32 → Prop} {x2 : Int32} {a r : Nat} {o : Option Nat} (w : zq_wf g rc ec) (hA : zy_ac g rc yA) (ha : a < rc * 100) (hr : r < rc) (hs : g (1 + r) 8 = g (1 + a / 100) 8) (ho : ∀ c, o = some c → c < rc * 100) (h : ∀ f, zq_Sp g (fun c => c / 100 = r ∧ zq_ps g rc a c) f → J (zy_o (zq_cb g o f)) (nI (r + 1))) : ∀ (d n : Nat) (y : Int), y < g (1 + r) 6 + d → d + 1 < n → -1000 ≤ y → y ≤ g (1 + r) 7 → (∀ c, c / 100 = r → zq_ps g rc a c → ((c % 100 : Nat) : Int) ≤ y) → wY_priorSaving_98 post J (nI a) x2 (zy_o o) (nI r) (iI (g (1 + r) 6)) yl ym yr ye yc ys yA yP yT n (-1) (iI y) := by
  have hrc : rc ≤ 8 := w.1
  have D := w.2.2.1 r hr
  have D1 := D.1
  have D2 := D.2.1
  have D3 := D.2.2.1
  have D4 := D.2.2.2.1
  have D5 := D.2.2.2.2.1
  have fin : ∀ (n : Nat) (b : Nat) (y : Int), 0 < n → b / 100 = r → zq_ps g rc a b → (∀ c, c / 100 = r → zq_ps g rc a c → c % 100 ≤ b % 100) → -1000 ≤ y → y ≤ 99 → wY_priorSaving_98 post J (nI a) x2 (zy_o o) (nI r) (iI (g (1 + r) 6)) yl ym yr ye yc ys yA yP yT n (nI b) (iI y) := by
    intro n b y hn hb hp hc hy0 hy1
    obtain ⟨n, rfl⟩ : ∃ m, n = m + 1 := ⟨n - 1, by omega⟩
    have S := zq_dnS D1 hb hp hc
    have z := zy_p168 (yl := yl) (ym := ym) (yr := yr) (ye := ye) (yc := yc) (ys := ys) (yA := yA) (yP := yP) (yT := yT) (post := post) (x1 := nI a) (x2 := x2) (r := r) hrc hA ho (f := some b) (fun c e => by cases e; omega) (h _ S) w
    exact zb_lt y (g (1 + r) 6) (fun _ => z) (fun _ => br_t (nI_pos' (by omega)) z) rfl rfl
  intro d
  induction d with
  | zero =>
    intro n y hy hn hy0 hy1 hc
    obtain ⟨n, rfl⟩ : ∃ m, n = m + 1 := ⟨n - 1, by omega⟩
    refine zb_lt y (g (1 + r) 6) (fun _ => ?_) (fun e => absurd e (by omega)) rfl rfl
    refine zy_p168 hrc hA ho (f := none) (fun c e => nomatch e) (h _ ?_) w
    intro c hcc
    have h1 := hc c hcc.1 hcc.2
    have h2 := hcc.2.1.2.2.1
    rw [hcc.1] at h2
    omega
  | succ d ih =>
    intro n y hy hn hy0 hy1 hc
    obtain ⟨n, rfl⟩ : ∃ m, n = m + 1 := ⟨n - 1, by omega⟩
    refine zb_lt y (g (1 + r) 6) (fun e => ?_) (fun e => ?_) rfl rfl
    · refine zy_p168 hrc hA ho (f := none) (fun c e => nomatch e) (h _ ?_) w
      intro c hcc
      have h1 := hc c hcc.1 hcc.2
      have h2 := hcc.2.1.2.2.1
      rw [hcc.1] at h2
      omega
    · refine br_f (by decide) ?_
      have e1 : (r * 100 + y.toNat) / 100 = r := by omega
      have e2 : (r * 100 + y.toNat) % 100 = y.toNat := by omega
      have eb : nI r * 100 + iI y = nI (r * 100 + y.toNat) := by
        rw [zi_nn (z := y) (by omega), show (100 : Int32) = nI 100 from rfl, zn_mul, nI_add]
      refine nm_r eb ?_
      have i1 : vp_in (nI (r * 100 + y.toNat)) 800 := zn_in (by omega) (by omega)
      have i2 : vp_in (nI a) 800 := zn_in (by omega) (by omega)
      have b1 := (zq_acb w (a := r * 100 + y.toNat) (by omega)).1
      have b2 := (zq_acb w (a := a) (by omega)).1
      have vb : zq_V g rc (g (1 + a / 100) 8) (r * 100 + y.toNat) := by
        refine ⟨by omega, ?_, ?_, ?_⟩
        · rw [e1]; exact hs
        · rw [e1, e2]; omega
        · rw [e1, e2]; omega
      have hcn : ∀ c, c / 100 = r → zq_ps g rc a c → c % 100 ≤ (r * 100 + y.toNat) % 100 := by
        intro c h1 h2
        have := hc c h1 h2
        omega
      have hgo : (¬ zq_lt g (r * 100 + y.toNat) a) → wY_priorSaving_98 post J (nI a) x2 (zy_o o) (nI r) (iI (g (1 + r) 6)) yl ym yr ye yc ys yA yP yT n (-1) (iI (y - 1)) := by
        intro hnl
        refine ih n (y - 1) (by omega) (by omega) (by omega) (by omega) ?_
        intro c h1 h2
        have h3 := hc c h1 h2
        by_cases e : c = r * 100 + y.toNat
        · rw [e] at h2; exact absurd h2.2 hnl
        · omega
      have em : iI y + (-1) = iI (y - 1) := by rw [zi_neg1, zi_add]; congr 1
      refine ⟨i1, i2, ?_⟩
      simp only [nI_clamp (show r * 100 + y.toNat < 2 ^ 31 by omega), nI_clamp (show a < 2 ^ 31 by omega)]
      refine zb_lt (zq_ac g (r * 100 + y.toNat)) (zq_ac g a) (fun e => ?_) (fun e => ⟨i1, i2, ?_⟩) (hA _ (by omega)) (hA _ ha)
      · exact nm_r em (fin n _ (y - 1) (by omega) e1 ⟨vb, Or.inl e⟩ hcn (by omega) (by omega))
      · refine zb_eq (zq_ac g (r * 100 + y.toNat)) (zq_ac g a) (fun e' => ?_) (fun e' => ?_) (hA _ (by omega)) (hA _ ha)
        · refine zk_le a (r * 100 + y.toNat) (fun l => ?_) (fun l => ?_) rfl rfl (by omega) (by omega)
          · exact nm_r em (hgo (by unfold zq_lt; omega))
          · exact nm_r em (fin n _ (y - 1) (by omega) e1 ⟨vb, Or.inr ⟨e', l⟩⟩ hcn (by omega) (by omega))
        · exact nm_r em (hgo (by unfold zq_lt; omega))
end
end
section
/-! 07: priorSaving whole, moment, inForce, saving -/
section
variable {g : Nat → Nat → Int} {rc ec : Nat} {yl ym yr ye yc : Int32} {ys yA yP yT : Nat → Int32}
theorem zy_p18 {post : Int32 → Prop} {a : Nat} (w : zq_wf g rc ec) (hS : zy_in g ys) (hA : zy_ac g rc yA) (ha : a < rc * 100) (hyr : yr = nI rc) (hp : post (iI (zq_pr g rc a))) : ∀ (d r n : Nat) (o : Option Nat), r + d = rc → d < n → zq_Sp g (fun c => c / 100 < r ∧ zq_ps g rc a c) o → wY_priorSaving_18 post (nI a) (iI (g (1 + a / 100) 8)) yl ym yr ye yc ys yA yP yT n (zy_o o) (nI r) := by
  have hrc : rc ≤ 8 := w.1
  have wa := w.2.2.1 (a / 100) (by omega)
  have wa8 := wa.2.2.2.2.2.1
  intro d
  induction d with
  | zero =>
    intro r n o hr hn S
    obtain ⟨n, rfl⟩ : ∃ m, n = m + 1 := ⟨n - 1, by omega⟩
    rw [hyr]
    refine zk_le rc r (fun _ => ?_) (fun e => absurd e (by omega)) rfl rfl (by omega) (by omega)
    have e : (fun c => c / 100 < r ∧ zq_ps g rc a c) = zq_ps g rc a := by
      funext c; exact propext ⟨fun h => h.2, fun h => ⟨by have := h.1.1; omega, h⟩⟩
    rw [e] at S
    have et := zq_topE S
    unfold zq_pr at hp
    rw [et] at hp
    cases o with
    | none => exact br_f (by decide) hp
    | some b =>
      have hb : b / 100 < rc := S.1.1.1
      refine br_t (nI_pos' (by omega)) ⟨by decide, ?_⟩
      refine zy_atg hS (1 + b / 100) 9 hp (by omega) (by omega) ?_ rfl
      show 1 + nI b / 100 = _
      rw [show (100 : Int32) = nI 100 from rfl, zn_div (by omega) (by omega) (by omega)]
      exact nI_add 1 _
  | succ d ih =>
    intro r n o hr hn S
    obtain ⟨n, rfl⟩ : ∃ m, n = m + 1 := ⟨n - 1, by omega⟩
    have D := w.2.2.1 r (by omega)
    have D1 := D.1
    have D2 := D.2.1
    have D3 := D.2.2.1
    have D4 := D.2.2.2.1
    have D5 := D.2.2.2.2.1
    have D6 := D.2.2.2.2.2.1
    have ho : ∀ c, o = some c → c < rc * 100 := by
      intro c e; subst e; exact zq_Vlt S.1.2.1
    rw [hyr]
    refine zk_le rc r (fun e => absurd e (by omega)) (fun _ => ?_) rfl rfl (by omega) (by omega)
    refine zy_atg hS (1 + r) 8 ?_ (by omega) (by omega) (nI_add 1 r) rfl
    refine zb_eq (g (1 + r) 8) (g (1 + a / 100) 8) (fun e => ?_) (fun e => ?_) rfl rfl
    · refine zy_atg hS (1 + r) 6 ⟨by decide, ?_⟩ (by omega) (by omega) (nI_add 1 r) rfl
      refine nm_r (e' := iI ((a % 100 : Nat) + 1)) ?_ ?_
      · rw [show (100 : Int32) = nI 100 from rfl, zn_rem (by omega) (by omega) (by omega), zi_n]
        exact zA rfl rfl
      have H : ∀ f, zq_Sp g (fun c => c / 100 = r ∧ zq_ps g rc a c) f → wY_priorSaving_18 post (nI a) (iI (g (1 + a / 100) 8)) yl ym (nI rc) ye yc ys yA yP yT n (zy_o (zq_cb g o f)) (nI (r + 1)) := by
        intro f Sf
        have := ih (r + 1) n (zq_cb g o f) (by omega) (by omega) (zq_cbS S Sf (fun x y hx hy => by have := hx.1; have := hy.1; omega) (fun x => ⟨fun h => by
          by_cases hx : x / 100 = r
          · exact Or.inr ⟨hx, h.2⟩
          · exact Or.inl ⟨by have := h.1; omega, h.2⟩, fun h => by
          rcases h with h | h
          · exact ⟨by have := h.1; omega, h.2⟩
          · exact ⟨by have := h.1; omega, h.2⟩⟩))
        rw [hyr] at this
        exact this
      refine zy_atg hS (1 + r) 7 ?_ (by omega) (by omega) (nI_add 1 r) rfl
      refine zb_le ((a % 100 : Nat) + 1) (g (1 + r) 7) (fun l => ⟨(a % 100 + 1 + 1) + 2, ?_⟩) (fun l => ?_) rfl rfl
      · refine zy_p98 w hA ha (by omega) e ho H (a % 100 + 1 + 1) _ _ (by omega) (by omega) (by omega) (by omega) ?_
        intro c h1 h2
        by_cases hc : ((c % 100 : Nat) : Int) ≤ (a % 100 : Nat) + 1
        · exact hc
        · exfalso
          have t : zq_ac g a < zq_ac g c := by
            unfold zq_ac
            exact zc_two wa.1 (by rw [h1]; exact D1) (by omega)
          have l := h2.2
          unfold zq_lt at l
          omega
      · refine zy_atg hS (1 + r) 7 ⟨102, ?_⟩ (by omega) (by omega) (nI_add 1 r) rfl
        refine zy_p98 w hA ha (by omega) e ho H 100 _ _ (by omega) (by omega) (by omega) (by omega) ?_
        intro c h1 h2
        have := h2.1.2.2.2
        rw [h1] at this
        exact this
    · refine nm_r (nI_1 r) ?_
      have := ih (r + 1) n o (by omega) (by omega) (by
        have e' : (fun c => c / 100 < r + 1 ∧ zq_ps g rc a c) = (fun c => c / 100 < r ∧ zq_ps g rc a c) := by
          funext c
          refine propext ⟨fun h => ⟨?_, h.2⟩, fun h => ⟨by have := h.1; omega, h.2⟩⟩
          by_cases hc : c / 100 = r
          · have := h.2.1.2.1
            rw [hc] at this
            exact absurd this e
          · have := h.1; omega
        rw [e']; exact S)
      rw [hyr] at this
      exact this
theorem zy_prior {post : Int32 → Prop} {a : Nat} (w : zq_wf g rc ec) (hS : zy_in g ys) (hA : zy_ac g rc yA) (ha : a < rc * 100) (hyr : yr = nI rc) (hp : post (iI (zq_pr g rc a))) : wpY_priorSaving post (yl, ym, yr, ye, yc, ys, yA, yP, yT) (nI a) := by
  have hrc : rc ≤ 8 := w.1
  unfold wpY_priorSaving
  dsimp only
  refine ⟨by decide, ?_⟩
  refine zy_atg hS (1 + a / 100) 8 ⟨rc + 1, ?_⟩ (by omega) (by omega) ?_ rfl
  · exact zy_p18 w hS hA ha hyr hp rc 0 (rc + 1) none (by omega) (by omega) (fun c h => by have := h.1; omega)
  · rw [show (100 : Int32) = nI 100 from rfl, zn_div (by omega) (by omega) (by omega)]
    exact nI_add 1 _
theorem zy_moment {post : Int32 → Prop} {a e : Nat} (w : zq_wf g rc ec) (hS : zy_in g ys) (hA : zy_ac g rc yA) (hP : zy_pr g rc yP) (ha : a < rc * 100) (he : e < ec) (hp : post (iI (zq_mo g rc (g (9 + e) 6) a))) : wpY_moment post (yl, ym, yr, ye, yc, ys, yA, yP, yT) (nI e) (nI a) := by
  have hrc : rc ≤ 8 := w.1
  have hec : ec ≤ 8 := w.2.1
  have D := (w.2.2.1 (a / 100) (by omega)).1.2.2.2.2.2
  unfold wpY_moment
  dsimp only
  refine ⟨by decide, ?_⟩
  refine zy_atg hS (1 + a / 100) 5 ⟨zn_in (by omega) (by omega), ?_⟩ (by omega) (by omega) ?_ rfl
  · rw [nI_clamp (by omega), hA a ha]
    unfold zq_mo at hp
    have K : ∀ z : Int, post (iI (zq_ac g a - z - (if g (1 + a / 100) 5 = 0 then zq_pr g rc a else 0))) → wY_moment_37 post (nI a) (iI (g (1 + a / 100) 5)) (iI z) (iI (zq_ac g a)) yl ym yr ye yc ys yA yP yT := by
      intro z hz
      unfold wY_moment_37
      refine zb_eq (g (1 + a / 100) 5) 0 (fun c => ⟨zn_in (by omega) (by omega), ?_⟩) (fun c => ?_) rfl rfl
      · rw [if_pos c] at hz
        rw [nI_clamp (by omega), hP a ha, zi_sub, zi_sub]
        exact hz
      · rw [if_neg c] at hz
        exact zv hz (zS (zS rfl rfl) rfl)
    refine zb_eq (g (1 + a / 100) 5) 2 (fun c => ?_) (fun c => ?_) rfl rfl
    · rw [if_pos c] at hp
      exact K 0 hp
    · rw [if_neg c] at hp
      exact zy_atg hS (9 + e) 6 (K _ hp) (by omega) (by omega) (nI_add 9 e) rfl
  · rw [show (100 : Int32) = nI 100 from rfl, zn_div (by omega) (by omega) (by omega)]
    exact nI_add 1 _
/-- the years of one rule for inForce -/
theorem zy_i96 {post : Int32 → Prop} {J : Int32 → Int32 → Prop} {t : Int} {e r : Nat} {o : Option Nat} (w : zq_wf g rc ec) (hS : zy_in g ys) (hA : zy_ac g rc yA) (hP : zy_pr g rc yP) (he : e < ec) (hr : r < rc) (hs : g (1 + r) 8 = g (9 + e) 7) (t0 : -1 ≤ t) (t1 : t < 4000000) (ho : ∀ c, o = some c → c < rc * 100) (h : ∀ f, zq_Sp g (fun c => c / 100 = r ∧ zq_Q g rc e t c) f → J (zy_o (zq_cb g o f)) (nI (r + 1))) : ∀ (d n : Nat) (y : Int), y < g (1 + r) 6 + d → d + 1 < n → -1000 ≤ y → y ≤ g (1 + r) 7 → (∀ c, c / 100 = r → zq_Q g rc e t c → ((c % 100 : Nat) : Int) ≤ y) → wY_inForce_96 post J (nI e) (iI t) (zy_o o) (nI r) (iI (g (1 + r) 6)) yl ym yr ye yc ys yA yP yT n (-1) (iI y) := by
  have hrc : rc ≤ 8 := w.1
  have D := w.2.2.1 r hr
  have D1 := D.1
  have D2 := D.2.1
  have D3 := D.2.2.1
  have D4 := D.2.2.2.1
  have D5 := D.2.2.2.2.1
  have E6 := (w.2.2.2.1 e he).2.1
  have non : ∀ y : Int, y < g (1 + r) 6 → (∀ c, c / 100 = r → zq_Q g rc e t c → ((c % 100 : Nat) : Int) ≤ y) → wY_inForce_141 post J (nI e) (iI t) (zy_o o) (nI r) (-1) yl ym yr ye yc ys yA yP yT := by
    intro y hy hc
    refine zy_i141 hrc hA ho (f := none) (fun c e => nomatch e) (h _ ?_) w
    intro c hcc
    have h1 := hc c hcc.1 hcc.2
    have h2 := hcc.2.1.2.2.1
    rw [hcc.1] at h2
    omega
  intro d
  induction d with
  | zero =>
    intro n y hy hn hy0 hy1 hc
    obtain ⟨n, rfl⟩ : ∃ m, n = m + 1 := ⟨n - 1, by omega⟩
    exact zb_lt y (g (1 + r) 6) (fun _ => non y (by omega) hc) (fun e => absurd e (by omega)) rfl rfl
  | succ d ih =>
    intro n y hy hn hy0 hy1 hc
    obtain ⟨n, rfl⟩ : ∃ m, n = m + 1 := ⟨n - 1, by omega⟩
    refine zb_lt y (g (1 + r) 6) (fun l => non y l hc) (fun ly => ?_) rfl rfl
    refine br_f (by decide) ?_
    have e1 : (r * 100 + y.toNat) / 100 = r := by omega
    have e2 : (r * 100 + y.toNat) % 100 = y.toNat := by omega
    have eb : nI r * 100 + iI y = nI (r * 100 + y.toNat) := by
      rw [zi_nn (z := y) (by omega), show (100 : Int32) = nI 100 from rfl, zn_mul, nI_add]
    have b1 := (zq_acb w (a := r * 100 + y.toNat) (by omega)).1
    have b2 := zq_mob w (a := r * 100 + y.toNat) (by omega) E6.1 E6.2
    have vb : zq_V g rc (g (9 + e) 7) (r * 100 + y.toNat) := by
      refine ⟨by omega, ?_, ?_, ?_⟩
      · rw [e1]; exact hs
      · rw [e1, e2]; omega
      · rw [e1, e2]; omega
    have em : iI y + (-1) = iI (y - 1) := by rw [zi_neg1, zi_add]; congr 1
    rw [eb]
    refine zy_moment w hS hA hP (by omega) he ?_
    refine zb_lt t (zq_mo g rc (g (9 + e) 6) (r * 100 + y.toNat)) (fun l => ?_) (fun l => ?_) rfl rfl
    · refine nm_r em (ih n (y - 1) (by omega) (by omega) (by omega) (by omega) ?_)
      intro c h1 h2
      have h3 := hc c h1 h2
      by_cases e : c = r * 100 + y.toNat
      · rw [e] at h2
        have := h2.2
        omega
      · omega
    · refine nm_r rfl (nm_r em ?_)
      obtain ⟨n, rfl⟩ : ∃ m, n = m + 1 := ⟨n - 1, by omega⟩
      have S := zq_dnS (P := zq_Q g rc e t) D1 e1 ⟨vb, l⟩ (fun c h1 h2 => by have := hc c h1 h2; omega)
      have z := zy_i141 (yl := yl) (ym := ym) (yr := yr) (ye := ye) (yc := yc) (ys := ys) (yA := yA) (yP := yP) (yT := yT) (post := post) (x1 := nI e) (x2 := iI t) (r := r) hrc hA ho (f := some (r * 100 + y.toNat)) (fun c e => by cases e; omega) (h _ S) w
      exact zb_lt (y - 1) (g (1 + r) 6) (fun _ => z) (fun _ => br_t (nI_pos' (by omega)) z) rfl rfl
theorem zy_i5 {post : Int32 → Prop} {t : Int} {e : Nat} (w : zq_wf g rc ec) (hS : zy_in g ys) (hA : zy_ac g rc yA) (hP : zy_pr g rc yP) (he : e < ec) (hyr : yr = nI rc) (t0 : -1 ≤ t) (t1 : t < 4000000) (hp : post (zy_r (zq_f g rc e t))) : ∀ (d r n : Nat) (o : Option Nat), r + d = rc → d < n → zq_Sp g (fun c => c / 100 < r ∧ zq_Q g rc e t c) o → wY_inForce_5 post (nI e) (iI t) yl ym yr ye yc ys yA yP yT n (zy_o o) (nI r) := by
  have hrc : rc ≤ 8 := w.1
  have hec : ec ≤ 8 := w.2.1
  have E6 := (w.2.2.2.1 e he).2.1
  have E7 := (w.2.2.2.1 e he).2.2.1
  intro d
  induction d with
  | zero =>
    intro r n o hr hn S
    obtain ⟨n, rfl⟩ : ∃ m, n = m + 1 := ⟨n - 1, by omega⟩
    rw [hyr]
    refine zk_le rc r (fun _ => ?_) (fun e => absurd e (by omega)) rfl rfl (by omega) (by omega)
    have ee : (fun c => c / 100 < r ∧ zq_Q g rc e t c) = zq_Q g rc e t := by
      funext c; exact propext ⟨fun h => h.2, fun h => ⟨by have := h.1.1; omega, h⟩⟩
    rw [ee] at S
    have et := zq_topE S
    unfold zq_f at hp
    rw [et] at hp
    cases o with
    | none => exact br_f (by decide) hp
    | some b =>
      have hb : b / 100 < rc := S.1.1.1
      refine br_t (nI_pos' (by omega)) ⟨by decide, ?_⟩
      show post (nI b / 100)
      rw [show (100 : Int32) = nI 100 from rfl, zn_div (by omega) (by omega) (by omega)]
      exact hp
  | succ d ih =>
    intro r n o hr hn S
    obtain ⟨n, rfl⟩ : ∃ m, n = m + 1 := ⟨n - 1, by omega⟩
    have D := w.2.2.1 r (by omega)
    have D1 := D.1
    have D2 := D.2.1
    have D3 := D.2.2.1
    have D4 := D.2.2.2.1
    have D5 := D.2.2.2.2.1
    have D6 := D.2.2.2.2.2.1
    have ho : ∀ c, o = some c → c < rc * 100 := by
      intro c e; subst e; exact zq_Vlt S.1.2.1
    rw [hyr]
    refine zk_le rc r (fun e => absurd e (by omega)) (fun _ => ?_) rfl rfl (by omega) (by omega)
    refine zy_atg hS (1 + r) 8 ?_ (by omega) (by omega) (nI_add 1 r) rfl
    refine zy_atg hS (9 + e) 7 ?_ (by omega) (by omega) (nI_add 9 e) rfl
    refine zb_eq (g (1 + r) 8) (g (9 + e) 7) (fun es => ?_) (fun es => ?_) rfl rfl
    · refine zy_atg hS (1 + r) 6 ⟨by decide, ?_⟩ (by omega) (by omega) (nI_add 1 r) rfl
      refine nm_r (e' := iI ((t + 1000) / 35040)) (zD (zA rfl rfl) rfl (by omega) (by omega) (by omega) (by omega)) ?_
      have H : ∀ f, zq_Sp g (fun c => c / 100 = r ∧ zq_Q g rc e t c) f → wY_inForce_5 post (nI e) (iI t) yl ym (nI rc) ye yc ys yA yP yT n (zy_o (zq_cb g o f)) (nI (r + 1)) := by
        intro f Sf
        have := ih (r + 1) n (zq_cb g o f) (by omega) (by omega) (zq_cbS S Sf (fun x y hx hy => by have := hx.1; have := hy.1; omega) (fun x => ⟨fun h => by
          by_cases hx : x / 100 = r
          · exact Or.inr ⟨hx, h.2⟩
          · exact Or.inl ⟨by have := h.1; omega, h.2⟩, fun h => by
          rcases h with h | h
          · exact ⟨by have := h.1; omega, h.2⟩
          · exact ⟨by have := h.1; omega, h.2⟩⟩))
        rw [hyr] at this
        exact this
      refine zy_atg hS (1 + r) 7 ?_ (by omega) (by omega) (nI_add 1 r) rfl
      refine zb_le ((t + 1000) / 35040) (g (1 + r) 7) (fun l => ⟨102, ?_⟩) (fun l => ?_) rfl rfl
      · refine zy_i96 w hS hA hP he (by omega) es t0 t1 ho H 100 _ _ (by omega) (by omega) (by omega) (by omega) ?_
        intro c h1 h2
        have b1 := (zq_acb w h2.1.1).2
        have b2 := zq_mob w h2.1.1 E6.1 E6.2
        have b3 := h2.2
        omega
      · refine zy_atg hS (1 + r) 7 ⟨102, ?_⟩ (by omega) (by omega) (nI_add 1 r) rfl
        refine zy_i96 w hS hA hP he (by omega) es t0 t1 ho H 100 _ _ (by omega) (by omega) (by omega) (by omega) ?_
        intro c h1 h2
        have := h2.1.2.2.2
        rw [h1] at this
        exact this
    · refine nm_r (nI_1 r) ?_
      have := ih (r + 1) n o (by omega) (by omega) (by
        have e' : (fun c => c / 100 < r + 1 ∧ zq_Q g rc e t c) = (fun c => c / 100 < r ∧ zq_Q g rc e t c) := by
          funext c
          refine propext ⟨fun h => ⟨?_, h.2⟩, fun h => ⟨by have := h.1; omega, h.2⟩⟩
          by_cases hc : c / 100 = r
          · have := h.2.1.2.1
            rw [hc] at this
            exact absurd this es
          · have := h.1; omega
        rw [e']; exact S)
      rw [hyr] at this
      exact this
theorem zy_force {post : Int32 → Prop} {t : Int} {e : Nat} (w : zq_wf g rc ec) (hS : zy_in g ys) (hA : zy_ac g rc yA) (hP : zy_pr g rc yP) (he : e < ec) (hyr : yr = nI rc) (t0 : -1 ≤ t) (t1 : t < 4000000) (hp : post (zy_r (zq_f g rc e t))) : wpY_inForce post (yl, ym, yr, ye, yc, ys, yA, yP, yT) (nI e) (iI t) := by
  unfold wpY_inForce
  exact ⟨rc + 1, zy_i5 w hS hA hP he hyr t0 t1 hp rc 0 (rc + 1) none (by omega) (by omega) (fun c h => by have := h.1; omega)⟩
theorem zy_rr {o : Option Nat} {A B : Prop} (h : ∀ b, o = some b → b / 100 < 8) (f : ∀ b, o = some b → zy_r o = nI (b / 100) → A) (k : o = none → B) : (0 ≤ zy_r o → A) ∧ (¬ 0 ≤ zy_r o → B) := by
  cases o with
  | none => exact br_f (by decide) (k rfl)
  | some b => exact br_t (nI_pos' (by have := h b rfl; omega)) (f b rfl rfl)
theorem zy_saving {post : Int32 → Prop} {t : Int} {e : Nat} (w : zq_wf g rc ec) (hS : zy_in g ys) (hA : zy_ac g rc yA) (hP : zy_pr g rc yP) (he : e < ec) (hyr : yr = nI rc) (t0 : -1 ≤ t) (t1 : t < 4000000) (hp : post (iI (zq_s g rc e t))) : wpY_saving post (yl, ym, yr, ye, yc, ys, yA, yP, yT) (nI e) (iI t) := by
  have hrc : rc ≤ 8 := w.1
  have hec : ec ≤ 8 := w.2.1
  have E7 := (w.2.2.2.1 e he).2.2.1
  unfold wpY_saving
  dsimp only
  unfold zq_s at hp
  refine zy_atg hS (9 + e) 7 ?_ (by omega) (by omega) (nI_add 9 e) rfl
  refine zb_lt (g (9 + e) 7) 16 (fun l => ?_) (fun l => ?_) rfl rfl
  · rw [if_pos l] at hp
    refine zy_force w hS hA hP he hyr t0 t1 ?_
    refine zy_rr (fun b hb => by have := (zq_fQ hb).1.1; omega) (fun b hb hr => ?_) (fun hn => ?_)
    · rw [hb] at hp
      have hl := (zq_fQ hb).1.1
      exact zy_atg hS (1 + b / 100) 9 hp (by omega) (by omega) (by rw [hr]; exact nI_add 1 _) rfl
    · rw [hn] at hp; exact hp
  · rw [if_neg (by omega)] at hp
    exact zv hp (zS rfl rfl)
end
end
section
/-! 08: the reference's compile and valuesAt -/
section
variable {g : Nat → Nat → Int} {rc ec : Nat} {yl ym yr ye yc : Int32} {ys yA yP yT : Nat → Int32}
theorem zy_w104 {post : Int32 → Prop} {e : Nat} {til : Int} (w : zq_wf g rc ec) (hS : zy_in g ys) (hA : zy_ac g rc yA) (hP : zy_pr g rc yP) (he : e < ec) (hyr : yr = nI rc) (b1 : -1000 ≤ til) (b2 : til < 1000000) : ∀ (d k n : Nat) (t : Int), k + d = 8 → d < n → 0 ≤ t → t + d < 1000000 → post (iI (zq_wall g rc e til d t)) → wY_startAfter_104 post (nI e) 0 (iI (g (9 + e) 6)) (iI (til + g (9 + e) 6)) yl ym yr ye yc ys yA yP yT n (iI t) (nI k) := by
  have E6 := (w.2.2.2.1 e he).2.1
  intro d
  induction d with
  | zero =>
    intro k n t hk hn t0 t1 hp
    obtain ⟨n, rfl⟩ : ∃ m, n = m + 1 := ⟨n - 1, by omega⟩
    exact zk_le 8 k (fun _ => hp) (fun l => absurd l (by omega)) rfl rfl (by omega) (by omega)
  | succ d ih =>
    intro k n t hk hn t0 t1 hp
    obtain ⟨n, rfl⟩ : ∃ m, n = m + 1 := ⟨n - 1, by omega⟩
    refine zk_le 8 k (fun l => absurd l (by omega)) (fun _ => ?_) rfl rfl (by omega) (by omega)
    refine br_t rfl ?_
    have s1 := zq_sb w he (t - 1)
    have s2 := zq_sb w he t
    rw [show iI t - 1 = iI (t - 1) from zS rfl rfl]
    refine zy_saving w hS hA hP he hyr (by omega) (by omega) ?_
    refine zy_saving w hS hA hP he hyr (by omega) (by omega) ?_
    rw [zq_wall] at hp
    have K : ∀ z : Int, z = zq_mx (zq_s g rc e (t - 1)) (zq_s g rc e t) → wY_startAfter_146 post (wY_startAfter_104 post (nI e) 0 (iI (g (9 + e) 6)) (iI (til + g (9 + e) 6)) yl ym yr ye yc ys yA yP yT n) (nI e) 0 (iI (g (9 + e) 6)) (iI (til + g (9 + e) 6)) (iI t) (nI k) (iI z) yl ym yr ye yc ys yA yP yT := by
      intro z hz
      have m := zq_mxb (a := zq_s g rc e (t - 1)) (b := zq_s g rc e t)
      unfold wY_startAfter_146
      refine zb_lt (t + g (9 + e) 6 + z) (til + g (9 + e) 6) (fun l => ?_) (fun l => ?_) (zA (zA rfl rfl) rfl) rfl
      · rw [if_pos (by omega)] at hp
        exact nm_r (e' := iI (t + 1)) (zA rfl rfl) (nm_r (nI_1 k) (ih (k + 1) n (t + 1) (by omega) (by omega) (by omega) (by omega) hp))
      · rw [if_neg (by omega)] at hp
        exact hp
    refine zb_le (zq_s g rc e t) (zq_s g rc e (t - 1)) (fun l => K _ ?_) (fun l => K _ ?_) rfl rfl
    · unfold zq_mx; split <;> omega
    · unfold zq_mx; rw [if_pos (by omega)]
theorem zy_s75 {post : Int32 → Prop} {e : Nat} {z s : Int} {x3 x4 x5 : Int32} (he : e < 8) (hT : yT e = iI s) (s0 : 0 ≤ s) (s1 : s < 1000000) (z0 : -10000 ≤ z) (z1 : z < 1000000) (h : ∃ n, wY_startAfter_104 post (nI e) x3 x4 x5 yl ym yr ye yc ys yA yP yT n (iI (zq_mx s z)) 0) : wY_startAfter_75 post (nI e) x3 x4 x5 (iI z) yl ym yr ye yc ys yA yP yT := by
  unfold wY_startAfter_75
  refine ⟨zn_in he (by omega), ?_⟩
  rw [nI_clamp (by omega), hT]
  unfold zq_mx at h
  refine zb_le s z (fun l => ?_) (fun l => ⟨zn_in he (by omega), nm_e ?_⟩) rfl rfl
  · rw [if_pos l] at h; exact h
  · rw [if_neg (by omega)] at h; exact h
theorem zy_startAfter {post : Int32 → Prop} {e : Nat} {s : Int} (w : zq_wf g rc ec) (hS : zy_in g ys) (hA : zy_ac g rc yA) (hP : zy_pr g rc yP) (he : e + 1 < ec) (hyr : yr = nI rc) (hT : yT e = iI s) (s0 : 0 ≤ s) (s1 : s ≤ 702096) (hp : post (iI (zq_nx g rc e s))) : wpY_startAfter post (yl, ym, yr, ye, yc, ys, yA, yP, yT) (nI e) := by
  have hec : ec ≤ 8 := w.2.1
  have E := w.2.2.2.1 e (by omega)
  have E1 := E.1
  have E5 := E1.2.2.2.2.2
  have E6 := E.2.1
  have E9 := E.2.2.2.2
  have En := w.2.2.2.2 e he
  have Eb := zq_endb w he
  have m := zq_mxb (a := s) (b := zq_end g e - g (9 + e) 6 - 8)
  unfold wpY_startAfter
  dsimp only
  refine zy_atg hS (9 + e) 9 ?_ (by omega) (by omega) (nI_add 9 e) rfl
  refine zy_atg hS (9 + e) 5 ?_ (by omega) (by omega) (nI_add 9 e) rfl
  refine zy_atg hS (9 + e) 6 ?_ (by omega) (by omega) (nI_add 9 e) rfl
  refine zy_reading (h := g (9 + e)) (9 + e) (fun k hk => hS _ _ (by omega) (by omega) (by omega)) E1 (by omega) (by omega) ?_ (by omega) (nI_add 9 e)
  show (iI (g (9 + e) 5) = 2 → wY_startAfter_75 post (nI e) (iI (g (9 + e) 5)) (iI (g (9 + e) 6)) (iI (zq_end g e)) (iI (zq_end g e)) yl ym yr ye yc ys yA yP yT) ∧ _
  unfold zq_nx at hp
  have nz : ∀ (t : Int), ¬ g (9 + e) 5 = 0 → post (iI t) → wY_startAfter_104 post (nI e) (iI (g (9 + e) 5)) (iI (g (9 + e) 6)) (iI (zq_end g e)) yl ym yr ye yc ys yA yP yT 1 (iI t) 0 := by
    intro t hz ht
    refine zk_le 8 0 (fun l => absurd l (by omega)) (fun _ => ?_) rfl rfl (by omega) (by omega)
    exact zb_eq (g (9 + e) 5) 0 (fun l => absurd l hz) (fun _ => ht) rfl rfl
  refine zb_eq (g (9 + e) 5) 2 (fun c => ?_) (fun c => zb_eq (g (9 + e) 5) 1 (fun c1 => ?_) (fun c1 => ?_) rfl rfl) rfl rfl
  · rw [if_pos c] at hp
    exact zy_s75 (by omega) hT s0 (by omega) (by omega) (by omega) ⟨1, nz _ (by omega) hp⟩
  · rw [if_neg c, if_pos c1] at hp
    have z := zy_s75 (yl := yl) (ym := ym) (yr := yr) (ye := ye) (yc := yc) (ys := ys) (yA := yA) (yP := yP) (yT := yT) (post := post) (x3 := iI (g (9 + e) 5)) (x4 := iI (g (9 + e) 6)) (x5 := iI (zq_end g e)) (z := zq_end g e - g (9 + e) 6) (e := e) (by omega) hT s0 (by omega) (by omega) (by omega) ⟨1, nz _ (by omega) hp⟩
    rw [← zi_sub] at z
    exact z
  · rw [if_neg c, if_neg c1] at hp
    have c0 : g (9 + e) 5 = 0 := by omega
    have W := zy_w104 (yl := yl) (ym := ym) (yr := yr) (ye := ye) (yc := yc) (ys := ys) (yA := yA) (yP := yP) (yT := yT) (post := post) (e := e) (til := zq_end g e - g (9 + e) 6) w hS hA hP (by omega) hyr (by omega) (by omega) 8 0 9 _ (by omega) (by omega) (by omega) (by omega) hp
    rw [show zq_end g e - g (9 + e) 6 + g (9 + e) 6 = zq_end g e by omega] at W
    have z := zy_s75 (yl := yl) (ym := ym) (yr := yr) (ye := ye) (yc := yc) (ys := ys) (yA := yA) (yP := yP) (yT := yT) (post := post) (x3 := 0) (x4 := iI (g (9 + e) 6)) (x5 := iI (zq_end g e)) (z := zq_end g e - g (9 + e) 6 - 8) (e := e) (by omega) hT s0 (by omega) (by omega) (by omega) ⟨9, W⟩
    rw [c0]
    rw [← zi_sub, ← zi_sub] at z
    exact z
theorem zy_c118 {post : Int32 → SY → Prop} (w : zq_wf g rc ec) (hS : zy_in g ys) (hA : zy_ac g rc yA) (hP : zy_pr g rc yP) (hyr : yr = nI rc) (hye : ye = nI ec) (h1 : 1 ≤ ec) (hp : ∀ yT', (∀ e, e < ec → yT' e = iI (zq_st g rc e)) → post 0 (yl, ym, yr, ye, 1, ys, yA, yP, yT')) : ∀ (d e n : Nat) (yT : Nat → Int32), e + d + 1 = ec → d < n → (∀ i, i ≤ e → yT i = iI (zq_st g rc i)) → wY_compile_118 post yl ym yr ye yc n (nI e) ys yA yP yT := by
  have hec : ec ≤ 8 := w.2.1
  have e1 : nI ec - 1 = nI (ec - 1) := zn_s (by omega)
  intro d
  induction d with
  | zero =>
    intro e n yT he hn hT
    obtain ⟨n, rfl⟩ : ∃ m, n = m + 1 := ⟨n - 1, by omega⟩
    rw [hye]
    refine zk_le (ec - 1) e (fun _ => ?_) (fun l => absurd l (by omega)) e1 rfl (by omega) (by omega)
    rw [← hye]
    exact hp yT (fun i hi => hT i (by omega))
  | succ d ih =>
    intro e n yT he hn hT
    obtain ⟨n, rfl⟩ : ∃ m, n = m + 1 := ⟨n - 1, by omega⟩
    rw [hye]
    refine zk_le (ec - 1) e (fun l => absurd l (by omega)) (fun _ => ?_) e1 rfl (by omega) (by omega)
    have sb := zq_stb w e (by omega)
    refine zy_startAfter w hS hA hP (by omega) hyr (hT e (by omega)) sb.1 sb.2 ?_
    rw [nI_1, nI_clamp (by omega)]
    refine ⟨zn_in (by omega) (by omega), nm_e (nm_e ?_)⟩
    rw [← hye]
    refine ih (e + 1) n _ (by omega) (by omega) ?_
    intro i hi
    by_cases hh : i = e + 1
    · subst hh; rw [z_us, zq_st]
    · rw [z_un hh]; exact hT i (by omega)
theorem zy_c81 {post : Int32 → SY → Prop} (w : zq_wf g rc ec) (hS : zy_in g ys) (hA : zy_ac g rc yA) (hyr : yr = nI rc) (hye : ye = nI ec) (h1 : 1 ≤ ec) (hp : ∀ yP' yT', zy_pr g rc yP' → (∀ e, e < ec → yT' e = iI (zq_st g rc e)) → post 0 (yl, ym, yr, ye, 1, ys, yA, yP', yT')) : ∀ (d a n : Nat) (yP : Nat → Int32), a + d = rc * 100 → d < n → (∀ i, i < a → yP i = iI (zq_pr g rc i)) → wY_compile_81 post yl ym yr ye yc n (nI a) ys yA yP yT := by
  have hrc : rc ≤ 8 := w.1
  have e1 : nI rc * 100 = nI (rc * 100) := zn_mul rc 100
  intro d
  induction d with
  | zero =>
    intro a n yP ha hn hP
    obtain ⟨n, rfl⟩ : ∃ m, n = m + 1 := ⟨n - 1, by omega⟩
    rw [hyr]
    refine zk_le (rc * 100) a (fun _ => ?_) (fun l => absurd l (by omega)) e1 rfl (by omega) (by omega)
    have ea : a = rc * 100 := by omega
    rw [ea] at hP
    rw [← hyr]
    refine nm_e ⟨ec + 1, zy_c118 w hS hA hP hyr hye h1 (fun yT' h => hp yP yT' hP h) (ec - 1) 0 (ec + 1) _ (by omega) (by omega) ?_⟩
    intro i hi
    have : i = 0 := by omega
    subst this
    rw [z_us, zq_st]; rfl
  | succ d ih =>
    intro a n yP ha hn hP
    obtain ⟨n, rfl⟩ : ∃ m, n = m + 1 := ⟨n - 1, by omega⟩
    rw [hyr]
    refine zk_le (rc * 100) a (fun l => absurd l (by omega)) (fun _ => ?_) e1 rfl (by omega) (by omega)
    rw [← hyr]
    refine zy_prior w hS hA (by omega) hyr ?_
    rw [nI_clamp (by omega)]
    refine ⟨zn_in (by omega) (by omega), nm_e (nm_r (nI_1 a) ?_)⟩
    refine ih (a + 1) n _ (by omega) (by omega) ?_
    intro i hi
    by_cases hh : i = a
    · subst hh; rw [z_us]
    · rw [z_un hh]; exact hP i (by omega)
theorem zy_c42 {post : Int32 → SY → Prop} (w : zq_wf g rc ec) (hS : zy_in g ys) (hyr : yr = nI rc) (hye : ye = nI ec) (h1 : 1 ≤ ec) (hp : ∀ yA' yP' yT', zy_ac g rc yA' → zy_pr g rc yP' → (∀ e, e < ec → yT' e = iI (zq_st g rc e)) → post 0 (yl, ym, yr, ye, 1, ys, yA', yP', yT')) : ∀ (d a n : Nat) (yA : Nat → Int32), a + d = rc * 100 → d < n → (∀ i, i < a → yA i = iI (zq_ac g i)) → wY_compile_42 post yl ym yr ye yc n (nI a) ys yA yP yT := by
  have hrc : rc ≤ 8 := w.1
  have e1 : nI rc * 100 = nI (rc * 100) := zn_mul rc 100
  intro d
  induction d with
  | zero =>
    intro a n yA ha hn hA
    obtain ⟨n, rfl⟩ : ∃ m, n = m + 1 := ⟨n - 1, by omega⟩
    rw [hyr]
    refine zk_le (rc * 100) a (fun _ => ?_) (fun l => absurd l (by omega)) e1 rfl (by omega) (by omega)
    have ea : a = rc * 100 := by omega
    rw [ea] at hA
    rw [← hyr]
    exact ⟨rc * 100 + 1, zy_c81 w hS hA hyr hye h1 (fun yP' yT' h h' => hp yA yP' yT' hA h h') (rc * 100) 0 _ _ (by omega) (by omega) (fun i hi => by omega)⟩
  | succ d ih =>
    intro a n yA ha hn hA
    obtain ⟨n, rfl⟩ : ∃ m, n = m + 1 := ⟨n - 1, by omega⟩
    rw [hyr]
    refine zk_le (rc * 100) a (fun l => absurd l (by omega)) (fun _ => ⟨by decide, by decide, ?_⟩) e1 rfl (by omega) (by omega)
    rw [← hyr]
    have D := (w.2.2.1 (a / 100) (by omega)).1
    rw [show nI a - nI a / 100 * 100 = iI ((a % 100 : Nat) : Int) by rw [show (100 : Int32) = nI 100 from rfl, zn_rem (by omega) (by omega) (by omega), zi_n]]
    refine zy_reading (h := g (1 + a / 100)) (1 + a / 100) (fun k hk => hS _ _ (by omega) (by omega) (by omega)) D (by omega) (by omega) ?_ (by omega) ?_
    · rw [nI_clamp (by omega)]
      refine ⟨zn_in (by omega) (by omega), nm_e (nm_r (nI_1 a) ?_)⟩
      refine ih (a + 1) n _ (by omega) (by omega) ?_
      intro i hi
      by_cases hh : i = a
      · subst hh; rw [z_us]; rfl
      · rw [z_un hh]; exact hA i (by omega)
    · rw [show (100 : Int32) = nI 100 from rfl, zn_div (by omega) (by omega) (by omega)]
      exact nI_add 1 _
/-- valuesAt -/
theorem zy_v127 {post : Int32 → Prop} {e : Nat} {s l : Int} (hS : zy_in g ys) (he : e < 8) (hp : post (iI ((g (9 + e) 6 + s + 100) * 1024 + s * 64 + 8 * g (9 + e) 8 + l))) : wY_valuesAt_127 post (nI e) (iI s) (iI l) yl ym yr ye yc ys yA yP yT := by
  unfold wY_valuesAt_127
  refine zy_atg hS (9 + e) 6 ?_ (by omega) (by omega) (nI_add 9 e) rfl
  refine zy_atg hS (9 + e) 8 ?_ (by omega) (by omega) (nI_add 9 e) rfl
  exact zv hp (zA (zA (zA (zM (zA (zA rfl rfl) rfl) rfl) (zM rfl rfl)) (zM rfl rfl)) rfl)
theorem zy_v106 {post : Int32 → Prop} {e : Nat} {s : Int} {o : Option Nat} (hS : zy_in g ys) (he : e < 8) (hb : ∀ b, o = some b → b / 100 < 8) (hp : post (iI ((g (9 + e) 6 + s + 100) * 1024 + s * 64 + 8 * g (9 + e) 8 + zq_sv g o 10))) : wY_valuesAt_106 post (nI e) (zy_r o) (iI s) yl ym yr ye yc ys yA yP yT := by
  unfold wY_valuesAt_106
  refine zy_rr hb (fun b ho hr => ?_) (fun hn => ?_)
  · have := hb b ho
    rw [ho] at hp
    exact zy_atg hS (1 + b / 100) 10 (zy_v127 hS he hp) (by omega) (by omega) (by rw [hr]; exact nI_add 1 _) rfl
  · rw [hn] at hp
    exact zy_v127 (l := 0) hS he hp
theorem zy_v29 {post : Int32 → Prop} {t : Int} (w : zq_wf g rc ec) (hS : zy_in g ys) (hA : zy_ac g rc yA) (hP : zy_pr g rc yP) (hyr : yr = nI rc) (hye : ye = nI ec) (h1 : 1 ≤ ec) (hT : ∀ e, e < ec → yT e = iI (zq_st g rc e)) (t0 : 0 ≤ t) (t1 : t < 4000000) (hp : post (iI (zq_val g rc (zq_er g rc t (ec - 1)) t))) : ∀ (d i n : Nat), i + 1 + d = ec → d < n → wY_valuesAt_29 post (iI t) yl ym yr ye yc ys yA yP yT n (nI (zq_er g rc t i)) (nI (i + 1)) := by
  have hec : ec ≤ 8 := w.2.1
  have hrc : rc ≤ 8 := w.1
  intro d
  induction d with
  | zero =>
    intro i n hi hn
    obtain ⟨n, rfl⟩ : ∃ m, n = m + 1 := ⟨n - 1, by omega⟩
    have ei : ec - 1 = i := by omega
    rw [ei] at hp
    have eb := (zq_erb (g := g) (rc := rc) t0 i).1
    generalize zq_er g rc t i = e at hp eb
    have E7 := (w.2.2.2.1 e (by omega)).2.2.1
    rw [hye]
    refine zk_le ec (i + 1) (fun _ => ?_) (fun l => absurd l (by omega)) rfl rfl (by omega) (by omega)
    rw [← hye]
    refine zy_atg hS (9 + e) 7 ?_ (by omega) (by omega) (nI_add 9 e) rfl
    refine zy_force w hS hA hP (by omega) hyr (by omega) t1 ?_
    have fb : ∀ b, zq_f g rc e t = some b → b / 100 < 8 := fun b hb => by have := (zq_fQ hb).1.1; omega
    unfold zq_val zq_of zq_s at hp
    refine zb_lt (g (9 + e) 7) 16 (fun l => ?_) (fun l => ?_) rfl rfl
    · simp only [if_pos l] at hp
      refine zy_rr fb (fun b hb hr => ?_) (fun hn => ?_)
      · have := fb b hb
        refine zy_atg hS (1 + b / 100) 9 (zy_v106 hS (by omega) fb ?_) (by omega) (by omega) (by rw [hr]; exact nI_add 1 _) rfl
        rw [hb] at hp ⊢
        exact hp
      · refine zy_v106 (s := 0) hS (by omega) fb ?_
        rw [hn] at hp ⊢
        exact hp
    · simp only [if_neg (show ¬ g (9 + e) 7 < 16 by omega)] at hp
      have z := zy_v106 (yl := yl) (ym := ym) (yr := yr) (ye := ye) (yc := yc) (ys := ys) (yA := yA) (yP := yP) (yT := yT) (post := post) (e := e) (s := g (9 + e) 7 - 16) (o := zq_f g rc e t) hS (by omega) fb hp
      rw [← zi_sub] at z
      exact z
  | succ d ih =>
    intro i n hi hn
    obtain ⟨n, rfl⟩ : ∃ m, n = m + 1 := ⟨n - 1, by omega⟩
    rw [hye]
    refine zk_le ec (i + 1) (fun l => absurd l (by omega)) (fun _ => ⟨zn_in (by omega) (by omega), ?_⟩) rfl rfl (by omega) (by omega)
    rw [← hye, nI_clamp (by omega), hT (i + 1) (by omega)]
    have sb := zq_stb w (i + 1) (by omega)
    have z := ih (i + 1) n (by omega) (by omega)
    rw [zq_er] at z
    refine zb_lt t (zq_st g rc (i + 1)) (fun l => nm_r (nI_1 _) ?_) (fun l => nm_r (nI_1 _) ?_) rfl rfl
    · rw [if_pos l] at z; exact z
    · rw [if_neg (by omega)] at z; exact z
theorem zy_values {post : Int32 → Prop} {t : Int} (w : zq_wf g rc ec) (hS : zy_in g ys) (hA : zy_ac g rc yA) (hP : zy_pr g rc yP) (hyr : yr = nI rc) (hye : ye = nI ec) (hyc : yc = 1) (h1 : 1 ≤ ec) (hT : ∀ e, e < ec → yT e = iI (zq_st g rc e)) (t0 : -2147483648 ≤ t) (t1 : t < 2147483648) (hp : 0 ≤ t → t < 3506400 → post (iI (zq_val g rc (zq_er g rc t (ec - 1)) t))) (hq : (t < 0 ∨ 3506400 ≤ t) → post (-1009)) : wpY_valuesAt post (yl, ym, yr, ye, yc, ys, yA, yP, yT) (iI t) := by
  unfold wpY_valuesAt
  dsimp only
  refine br_f (by rw [hyc]; decide) (zb_lt t 0 (fun l => hq (Or.inl l)) (fun l => zb_lt t 3506400 (fun l' => ⟨ec, ?_⟩) (fun l' => hq (Or.inr l')) rfl rfl) rfl rfl)
  exact zy_v29 w hS hA hP hyr hye h1 hT l (by omega) (hp l l') (ec - 1) 0 ec (by omega) (by omega)
end
end
section
/-! 09: the component's activations -/
noncomputable def zx_cn (P : Nat → Prop) : Nat → Nat
  | 0 => 0
  | n + 1 => zx_cn P n + @ite Nat (P n) (Classical.propDecidable _) 1 0
theorem zx_cn_le (P : Nat → Prop) : ∀ n, zx_cn P n ≤ n := by
  intro n
  induction n with
  | zero => exact Nat.le_refl _
  | succ n ih => rw [zx_cn]; split <;> omega
theorem zx_cn_mono {P Q : Nat → Prop} : ∀ n, (∀ a, a < n → P a → Q a) → zx_cn P n ≤ zx_cn Q n := by
  intro n
  induction n with
  | zero => intro _; exact Nat.le_refl _
  | succ n ih =>
    intro h
    have h1 := ih (fun a ha => h a (by omega))
    rw [zx_cn, zx_cn]
    by_cases hp : P n
    · rw [if_pos hp, if_pos (h n (by omega) hp)]; omega
    · rw [if_neg hp]; omega
theorem zx_cn_add {P : Nat → Prop} {a : Nat} (hp : ¬ P a) : ∀ n, a < n → zx_cn (fun b => P b ∨ b = a) n = zx_cn P n + 1 := by
  intro n
  induction n with
  | zero => intro h; omega
  | succ n ih =>
    intro h
    rw [zx_cn, zx_cn]
    by_cases e : n = a
    · subst e
      rw [if_pos (Or.inr rfl), if_neg hp]
      have h1 : zx_cn (fun b => P b ∨ b = n) n ≤ zx_cn P n := zx_cn_mono n (fun b hb h' => h'.elim id (fun e => by omega))
      have h2 : zx_cn P n ≤ zx_cn (fun b => P b ∨ b = n) n := zx_cn_mono n (fun b hb h' => Or.inl h')
      omega
    · rw [ih (by omega)]
      by_cases hn : P n
      · rw [if_pos (Or.inl hn), if_pos hn]
      · rw [if_neg (fun h' => h'.elim hn e), if_neg hn]
def zx_R (g : Nat → Nat → Int) (rc : Nat) (dR : Nat → Int32) : Prop := ∀ r k, r < rc → k ≤ 10 → dR (r * 11 + k) = iI (g (1 + r) k)
def zx_E (g : Nat → Nat → Int) (ec : Nat) (dE : Nat → Int32) : Prop := ∀ e k, e < ec → k ≤ 9 → dE (e * 10 + k) = iI (g (9 + e) k)
def zx_Gr (g : Nat → Nat → Int) (P : Nat → Prop) (L : Nat → Nat) (lo hi : Nat) : Prop := lo ≤ hi ∧ (∀ p, lo ≤ p → p < hi → P (L p)) ∧ (∀ p q, lo ≤ p → p < q → q < hi → zq_lt g (L p) (L q)) ∧ (∀ a, P a → ∃ p, lo ≤ p ∧ p < hi ∧ L p = a)
def zx_ins (L : Nat → Nat) (p a : Nat) : Nat → Nat := fun q => if q < p then L q else if q = p then a else L (q - 1)
def zx_Ar (g : Nat → Nat → Int) (L : Nat → Nat) (m : Nat) (dA dU : Nat → Int32) : Prop := ∀ p, p < m → dA p = iI (zq_ac g (L p)) ∧ dU p = nI (L p / 100)
def zx_Is (g : Nat → Nat → Int) (rc s cur a : Nat) : Prop := zq_V g rc (g (1 + a / 100) 8) a ∧ (g (1 + a / 100) 8 < (s : Int) ∨ (g (1 + a / 100) 8 = (s : Int) ∧ a < cur))
def zx_AI (g : Nat → Nat → Int) (rc s cur : Nat) (L G : Nat → Nat) (m : Nat) (dF dA dU : Nat → Int32) : Prop :=
  zx_Ar g L m dA dU ∧ (∀ s', s' < s → zx_Gr g (zq_V g rc (s' : Nat)) L (G s') (G (s' + 1)) ∧ G (s' + 1) ≤ G s) ∧
  zx_Gr g (fun a => zq_V g rc (s : Nat) a ∧ a < cur) L (G s) m ∧ (∀ s', s' ≤ s → dF s' = nI (G s')) ∧ m ≤ zx_cn (zx_Is g rc s cur) 800
def zx_Acts (g : Nat → Nat → Int) (rc : Nat) (L G : Nat → Nat) (dF dA dU : Nat → Int32) : Prop :=
  zx_Ar g L (G 4) dA dU ∧ (∀ s, s < 4 → zx_Gr g (zq_V g rc (s : Nat)) L (G s) (G (s + 1)) ∧ G (s + 1) ≤ G 4) ∧ (∀ s, s ≤ 4 → dF s = nI (G s)) ∧ G 4 ≤ 800
section
variable {g : Nat → Nat → Int} {rc ec : Nat}
theorem zx_Gr_c {P Q : Nat → Prop} {L : Nat → Nat} {lo hi : Nat} (h : zx_Gr g P L lo hi) (e : ∀ a, P a ↔ Q a) : zx_Gr g Q L lo hi := by
  have : P = Q := funext fun a => propext (e a)
  rw [← this]; exact h
theorem zx_Gr_lo {P : Nat → Prop} {L L' : Nat → Nat} {lo hi : Nat} (h : zx_Gr g P L lo hi) (e : ∀ p, p < hi → L' p = L p) : zx_Gr g P L' lo hi := by
  refine ⟨h.1, fun p h1 h2 => by rw [e p h2]; exact h.2.1 p h1 h2, fun p q h1 h2 h3 => ?_, fun a ha => ?_⟩
  · rw [e p (by omega), e q h3]; exact h.2.2.1 p q h1 h2 h3
  · obtain ⟨p, h1, h2, h3⟩ := h.2.2.2 a ha
    exact ⟨p, h1, h2, by rw [e p h2]; exact h3⟩
theorem zx_in1 {L : Nat → Nat} {p a q : Nat} (h : q < p) : zx_ins L p a q = L q := if_pos h
theorem zx_in2 {L : Nat → Nat} {p a : Nat} : zx_ins L p a p = a := by unfold zx_ins; rw [if_neg (by omega), if_pos rfl]
theorem zx_in3 {L : Nat → Nat} {p a q : Nat} (h : p ≤ q) : zx_ins L p a (q + 1) = L q := by
  unfold zx_ins; rw [if_neg (by omega), if_neg (by omega)]; rfl
theorem zx_Gr_ins {P Q : Nat → Prop} {L : Nat → Nat} {lo m p a : Nat} (h : zx_Gr g P L lo m) (hQ : ∀ b, Q b ↔ P b ∨ b = a) (hlt : ∀ b, P b → b < a) (h1 : lo ≤ p) (h2 : p ≤ m) (hi : ∀ q, p ≤ q → q < m → zq_ac g a < zq_ac g (L q)) (hl : lo < p → zq_ac g (L (p - 1)) ≤ zq_ac g a) : zx_Gr g Q (zx_ins L p a) lo (m + 1) := by
  have low : ∀ q, lo ≤ q → q < p → zq_lt g (L q) a := by
    intro q hq hq'
    have l1 := hl (by omega)
    have l2 := hlt _ (h.2.1 q hq (by omega))
    by_cases e : q = p - 1
    · subst e; unfold zq_lt; omega
    · have l3 := h.2.2.1 q (p - 1) hq (by omega) (by omega)
      unfold zq_lt at l3 ⊢; omega
  have hgh : ∀ q, p ≤ q → q < m → zq_lt g a (L q) := fun q h3 h4 => Or.inl (hi q h3 h4)
  refine ⟨by omega, fun q h3 h4 => ?_, fun q r h3 h4 h5 => ?_, fun b hb => ?_⟩
  · rw [hQ]
    rcases Nat.lt_trichotomy q p with e | e | e
    · rw [zx_in1 e]; exact Or.inl (h.2.1 q h3 (by omega))
    · subst e; rw [zx_in2]; exact Or.inr rfl
    · obtain ⟨q', rfl⟩ : ∃ q', q = q' + 1 := ⟨q - 1, by omega⟩
      rw [zx_in3 (by omega)]; exact Or.inl (h.2.1 q' (by omega) (by omega))
  · rcases Nat.lt_trichotomy q p with e | e | e
    · rw [zx_in1 e]
      rcases Nat.lt_trichotomy r p with e' | e' | e'
      · rw [zx_in1 e']; exact h.2.2.1 q r h3 h4 (by omega)
      · subst e'; rw [zx_in2]; exact low q h3 e
      · obtain ⟨r', rfl⟩ : ∃ r', r = r' + 1 := ⟨r - 1, by omega⟩
        rw [zx_in3 (by omega)]; exact h.2.2.1 q r' h3 (by omega) (by omega)
    · subst e
      obtain ⟨r', rfl⟩ : ∃ r', r = r' + 1 := ⟨r - 1, by omega⟩
      rw [zx_in2, zx_in3 (by omega)]; exact hgh r' (by omega) (by omega)
    · obtain ⟨q', rfl⟩ : ∃ q', q = q' + 1 := ⟨q - 1, by omega⟩
      obtain ⟨r', rfl⟩ : ∃ r', r = r' + 1 := ⟨r - 1, by omega⟩
      rw [zx_in3 (by omega), zx_in3 (by omega)]; exact h.2.2.1 q' r' (by omega) (by omega) (by omega)
  · rcases (hQ b).mp hb with e | e
    · obtain ⟨q, h3, h4, h5⟩ := h.2.2.2 b e
      by_cases hq : q < p
      · exact ⟨q, h3, by omega, by rw [zx_in1 hq]; exact h5⟩
      · exact ⟨q + 1, by omega, by omega, by rw [zx_in3 (by omega)]; exact h5⟩
    · exact ⟨p, h1, by omega, by rw [zx_in2]; exact e.symm⟩
/-- one activation more -/
theorem zx_AI_ins {s a : Nat} {L G : Nat → Nat} {m p : Nat} {dF dA dU dA' dU' : Nat → Int32} (h : zx_AI g rc s a L G m dF dA dU) (hv : zq_V g rc (s : Nat) a) (ha : a < 800) (h1 : G s ≤ p) (h2 : p ≤ m) (hi : ∀ q, p ≤ q → q < m → zq_ac g a < zq_ac g (L q)) (hl : G s < p → zq_ac g (L (p - 1)) ≤ zq_ac g a) (hA : zx_Ar g (zx_ins L p a) (m + 1) dA' dU') : zx_AI g rc s (a + 1) (zx_ins L p a) G (m + 1) dF dA' dU' := by
  have e8 : g (1 + a / 100) 8 = (s : Int) := hv.2.1
  refine ⟨hA, fun s' hs' => ⟨zx_Gr_lo (h.2.1 s' hs').1 (fun q hq => zx_in1 ?_), (h.2.1 s' hs').2⟩, ?_, h.2.2.2.1, ?_⟩
  · have := (h.2.1 s' hs').2; omega
  · refine zx_Gr_ins h.2.2.1 (fun b => ?_) (fun b hb => hb.2) h1 h2 hi hl
    constructor
    · intro hb
      by_cases e : b = a
      · exact Or.inr e
      · exact Or.inl ⟨hb.1, by have := hb.2; omega⟩
    · rintro (hb | hb)
      · exact ⟨hb.1, by have := hb.2; omega⟩
      · subst hb; exact ⟨hv, by omega⟩
  · have c1 := zx_cn_add (P := zx_Is g rc s a) (a := a) (fun h' => by have := h'.2; omega) 800 ha
    have c2 := zx_cn_mono (P := fun b => zx_Is g rc s a b ∨ b = a) (Q := zx_Is g rc s (a + 1)) 800 (fun b _ hb => by
      rcases hb with hb | hb
      · exact ⟨hb.1, hb.2.elim Or.inl (fun h' => Or.inr ⟨h'.1, by omega⟩)⟩
      · subst hb; exact ⟨by rw [e8]; exact hv, Or.inr ⟨e8, by omega⟩⟩)
    have := h.2.2.2.2
    omega
theorem zx_AI_skip {s a b : Nat} {L G : Nat → Nat} {m : Nat} {dF dA dU : Nat → Int32} (h : zx_AI g rc s a L G m dF dA dU) (hab : a ≤ b) (hn : ∀ c, a ≤ c → c < b → ¬ zq_V g rc (s : Nat) c) : zx_AI g rc s b L G m dF dA dU := by
  refine ⟨h.1, h.2.1, zx_Gr_c h.2.2.1 (fun c => ⟨fun h' => ⟨h'.1, by have := h'.2; omega⟩, fun h' => ⟨h'.1, ?_⟩⟩), h.2.2.2.1, ?_⟩
  · by_cases hc : c < a
    · exact hc
    · exact absurd h'.1 (hn c (by omega) h'.2)
  · have := zx_cn_mono (P := zx_Is g rc s a) (Q := zx_Is g rc s b) 800 (fun c _ hc => ⟨hc.1, hc.2.elim Or.inl (fun h' => Or.inr ⟨h'.1, by omega⟩)⟩)
    have := h.2.2.2.2
    omega
theorem zx_AI_next {s : Nat} {L G : Nat → Nat} {m : Nat} {dF dA dU : Nat → Int32} (h : zx_AI g rc s (rc * 100) L G m dF dA dU) : zx_AI g rc (s + 1) 0 L (fun i => if i = s + 1 then m else G i) m (upd dF (s + 1) (nI m)) dA dU := by
  refine ⟨h.1, fun s' hs' => ?_, ?_, fun s' hs' => ?_, ?_⟩
  · dsimp only
    rw [if_neg (show ¬ s' = s + 1 by omega), if_pos (rfl : s + 1 = s + 1)]
    by_cases e : s' = s
    · subst e
      rw [if_pos rfl]
      exact ⟨zx_Gr_c h.2.2.1 (fun a => ⟨fun h' => h'.1, fun h' => ⟨h', zq_Vlt h'⟩⟩), Nat.le_refl _⟩
    · rw [if_neg (by omega)]
      have h1 := h.2.1 s' (by omega)
      have h2 := h.2.2.1.1
      exact ⟨h1.1, by have := h1.2; omega⟩
  · dsimp only
    rw [if_pos rfl]
    exact ⟨Nat.le_refl _, fun p h1 h2 => by omega, fun p q h1 h2 h3 => by omega, fun a ha => by have := ha.2; omega⟩
  · dsimp only
    by_cases e : s' = s + 1
    · subst e; rw [if_pos rfl, z_us]
    · rw [if_neg e, z_un e]; exact h.2.2.2.1 s' (by omega)
  · have := zx_cn_mono (P := zx_Is g rc s (rc * 100)) (Q := zx_Is g rc (s + 1) 0) 800 (fun c _ hc => ⟨hc.1, Or.inl (by have := hc.2; omega)⟩)
    have := h.2.2.2.2
    omega
end
end
section
/-! 10: the walks that build the activations -/
section
variable {g : Nat → Nat → Int} {rc ec : Nat} {xl xm xr xe xa xs xc : Int32} {dD dR dE dF dA dU sS sV sO sB : Nat → Int32}
theorem zx_i76 {post : SX → Prop} {L : Nat → Nat} {m p a : Nat} (hm : m < 800) (hp : p ≤ m) (lo : ∀ q, q < p → dA q = iI (zq_ac g (L q)) ∧ dU q = nI (L q / 100)) (hi : ∀ q, p ≤ q → q < m → dA (q + 1) = iI (zq_ac g (L q)) ∧ dU (q + 1) = nI (L q / 100)) (h : ∀ dA' dU', zx_Ar g (zx_ins L p a) (m + 1) dA' dU' → post (xl, xm, xr, xe, nI (m + 1), xs, xc, dD, dR, dE, dF, dA', dU', sS, sV, sO, sB)) : wX_insertActivation_76 post (nI (a / 100)) (iI (zq_ac g a)) (nI p) xl xm xr xe (nI m) xs xc dD dR dE dF dA dU sS sV sO sB := by
  unfold wX_insertActivation_76
  rw [nI_clamp (by omega)]
  refine ⟨zn_in (by omega) (by omega), nm_e ⟨zn_in (by omega) (by omega), nm_e (nm_r (nI_1 m) (h _ _ ?_))⟩⟩
  intro q hq
  rcases Nat.lt_trichotomy q p with e | e | e
  · rw [zx_in1 e, z_un (by omega), z_un (by omega)]; exact lo q e
  · subst e; rw [zx_in2, z_us, z_us]; exact ⟨rfl, rfl⟩
  · obtain ⟨q', rfl⟩ : ∃ q', q = q' + 1 := ⟨q - 1, by omega⟩
    rw [zx_in3 (by omega), z_un (by omega), z_un (by omega)]; exact hi q' (by omega) (by omega)
theorem zx_i19 {post : SX → Prop} {L : Nat → Nat} {m a F : Nat} (w : zq_wf g rc ec) (hL : ∀ q, F ≤ q → q < m → L q / 100 < rc) (ha : a / 100 < rc) (hm : m < 800) (hF : F ≤ m) (h : ∀ p dA' dU', F ≤ p → p ≤ m → (∀ q, p ≤ q → q < m → zq_ac g a < zq_ac g (L q)) → (F < p → zq_ac g (L (p - 1)) ≤ zq_ac g a) → zx_Ar g (zx_ins L p a) (m + 1) dA' dU' → post (xl, xm, xr, xe, nI (m + 1), xs, xc, dD, dR, dE, dF, dA', dU', sS, sV, sO, sB)) : ∀ (d p n : Nat) (dA dU : Nat → Int32), p = F + d → d < n → p ≤ m → (∀ q, q < p → dA q = iI (zq_ac g (L q)) ∧ dU q = nI (L q / 100)) → (∀ q, p ≤ q → q < m → dA (q + 1) = iI (zq_ac g (L q)) ∧ dU (q + 1) = nI (L q / 100)) → (∀ q, p ≤ q → q < m → zq_ac g a < zq_ac g (L q)) → wX_insertActivation_19 post (nI (a / 100)) (iI (zq_ac g a)) (nI F) xl xm xr xe (nI m) xs xc n (nI p) dD dR dE dF dA dU sS sV sO sB := by
  have b0 := (zq_acb w ha).1
  intro d
  induction d with
  | zero =>
    intro p n dA dU hp hn hpm lo hi hgt
    obtain ⟨n, rfl⟩ : ∃ k, n = k + 1 := ⟨n - 1, by omega⟩
    refine zk_le p F (fun _ => ?_) (fun l => absurd l (by omega)) rfl rfl (by omega) (by omega)
    exact zx_i76 hm hpm lo hi (fun dA' dU' hA => h p dA' dU' (by omega) hpm hgt (fun l => by omega) hA)
  | succ d ih =>
    intro p n dA dU hp hn hpm lo hi hgt
    obtain ⟨n, rfl⟩ : ∃ k, n = k + 1 := ⟨n - 1, by omega⟩
    refine zk_le p F (fun l => absurd l (by omega)) (fun _ => ?_) rfl rfl (by omega) (by omega)
    rw [zn_s (by omega), nI_clamp (by omega), nI_clamp (by omega)]
    have i1 : vp_in (nI (p - 1)) 800 := zn_in (by omega) (by omega)
    have i2 : vp_in (nI p) 800 := zn_in (by omega) (by omega)
    have b1 := (zq_acb w (hL (p - 1) (by omega) (by omega))).1
    have l1 := lo (p - 1) (by omega)
    refine ⟨i1, zb_le (zq_ac g (L (p - 1))) (zq_ac g a) (fun l => ?_) (fun l => ?_) l1.1 rfl⟩
    · exact zx_i76 hm hpm lo hi (fun dA' dU' hA => h p dA' dU' (by omega) hpm hgt (fun _ => l) hA)
    · refine ⟨i1, i2, nm_e ⟨i1, i2, nm_e (nm_r (zn_m (by omega)) ?_)⟩⟩
      refine ih (p - 1) n _ _ (by omega) (by omega) (by omega) ?_ ?_ ?_
      · intro q hq
        rw [z_un (by omega), z_un (by omega)]; exact lo q (by omega)
      · intro q h1 h2
        by_cases e : q = p - 1
        · subst e
          rw [show p - 1 + 1 = p by omega, z_us, z_us]; exact l1
        · rw [z_un (by omega), z_un (by omega)]; exact hi q (by omega) h2
      · intro q h1 h2
        by_cases e : q = p - 1
        · subst e; exact l
        · exact hgt q (by omega) h2
theorem zx_insert {post : SX → Prop} {L : Nat → Nat} {m a F : Nat} (w : zq_wf g rc ec) (hL : ∀ q, F ≤ q → q < m → L q / 100 < rc) (ha : a / 100 < rc) (hm : m < 800) (hF : F ≤ m) (hA : zx_Ar g L m dA dU) {p0 p1 : Int32} (e0 : p0 = nI (a / 100)) (e1 : p1 = iI (zq_ac g a)) (h : ∀ p dA' dU', F ≤ p → p ≤ m → (∀ q, p ≤ q → q < m → zq_ac g a < zq_ac g (L q)) → (F < p → zq_ac g (L (p - 1)) ≤ zq_ac g a) → zx_Ar g (zx_ins L p a) (m + 1) dA' dU' → post (xl, xm, xr, xe, nI (m + 1), xs, xc, dD, dR, dE, dF, dA', dU', sS, sV, sO, sB)) : wpX_insertActivation post (xl, xm, xr, xe, nI m, xs, xc, dD, dR, dE, dF, dA, dU, sS, sV, sO, sB) p0 p1 (nI F) := by
  subst e0; subst e1
  unfold wpX_insertActivation
  dsimp only
  refine br_t (nI_lt (a := m) (b := 800) hm (by omega)) ⟨m - F + 1, ?_⟩
  exact zx_i19 w hL ha hm hF h (m - F) m (m - F + 1) dA dU (by omega) (by omega) (by omega) (fun q hq => hA q hq) (fun q h1 h2 => by omega) (fun q h1 h2 => by omega)
theorem zx_ruleReading {post : Int32 → Prop} {r : Nat} {y : Int} (hR : zx_R g rc dR) (hr : r < rc) (hrc : rc ≤ 8) (D : zc_day (g (1 + r))) (h0 : 0 ≤ y) (h9 : y ≤ 99) {p1 : Int32} (e1 : p1 = iI y) (hp : post (iI (zc_rd (g (1 + r)) y))) : wpX_ruleReading post (xl, xm, xr, xe, xa, xs, xc, dD, dR, dE, dF, dA, dU, sS, sV, sO, sB) (nI r) p1 := by
  subst e1
  unfold wpX_ruleReading
  dsimp only
  refine nm_r (e' := nI (r * 11)) (zn_mul r 11) ?_
  rw [show nI (r * 11) + 1 = nI (r * 11 + 1) from nI_add _ 1, show nI (r * 11) + 2 = nI (r * 11 + 2) from nI_add _ 2, show nI (r * 11) + 3 = nI (r * 11 + 3) from nI_add _ 3, show nI (r * 11) + 4 = nI (r * 11 + 4) from nI_add _ 4]
  refine ⟨zn_in (by omega) (by omega), zn_in (by omega) (by omega), zn_in (by omega) (by omega), zn_in (by omega) (by omega), zn_in (by omega) (by omega), ?_⟩
  rw [nI_clamp (by omega), nI_clamp (by omega), nI_clamp (by omega), nI_clamp (by omega), nI_clamp (by omega), show dR (r * 11) = _ from hR r 0 hr (by omega), hR r 1 hr (by omega), hR r 2 hr (by omega), hR r 3 hr (by omega), hR r 4 hr (by omega)]
  exact zx_reading D h0 h9 hp
theorem zx_a27 {post : SX → Prop} {r s : Nat} {G : Nat → Nat} (w : zq_wf g rc ec) (hR : zx_R g rc dR) (hr : r < rc) (hs : g (1 + r) 8 = (s : Int)) (h : ∀ L' m' dA' dU', zx_AI g rc s (r * 100 + (g (1 + r) 7).toNat + 1) L' G m' dF dA' dU' → post (xl, xm, xr, xe, nI m', xs, xc, dD, dR, dE, dF, dA', dU', sS, sV, sO, sB)) : ∀ (d y n : Nat) (L : Nat → Nat) (m : Nat) (dA dU : Nat → Int32), (y : Int) + d = g (1 + r) 7 + 1 → g (1 + r) 6 ≤ y → d < n → zx_AI g rc s (r * 100 + y) L G m dF dA dU → wX_addActivations_27 post (nI r) (nI (G s)) (iI (g (1 + r) 7)) n (nI y) xl xm xr xe (nI m) xs xc dD dR dE dF dA dU sS sV sO sB := by
  have hrc : rc ≤ 8 := w.1
  have D := w.2.2.1 r hr
  have D1 := D.1
  have D2 := D.2.1
  have D3 := D.2.2.1
  have D4 := D.2.2.2.1
  have D5 := D.2.2.2.2.1
  intro d
  induction d with
  | zero =>
    intro y n L m dA dU hy h6 hn I
    obtain ⟨n, rfl⟩ : ∃ k, n = k + 1 := ⟨n - 1, by omega⟩
    refine zb_lt (g (1 + r) 7) y (fun _ => ?_) (fun l => absurd l (by omega)) rfl (zi_n y)
    refine h L m dA dU ?_
    rw [show r * 100 + (g (1 + r) 7).toNat + 1 = r * 100 + y by omega]
    exact I
  | succ d ih =>
    intro y n L m dA dU hy h6 hn I
    obtain ⟨n, rfl⟩ : ∃ k, n = k + 1 := ⟨n - 1, by omega⟩
    refine zb_lt (g (1 + r) 7) y (fun l => absurd l (by omega)) (fun _ => ?_) rfl (zi_n y)
    have e1 : (r * 100 + y) / 100 = r := by omega
    have e2 : (r * 100 + y) % 100 = y := by omega
    have ea : zq_ac g (r * 100 + y) = zc_rd (g (1 + r)) (y : Int) := by unfold zq_ac; rw [e1, e2]
    have hv : zq_V g rc (s : Nat) (r * 100 + y) := by
      refine ⟨by omega, ?_, ?_, ?_⟩
      · rw [e1]; exact hs
      · rw [e1, e2]; omega
      · rw [e1, e2]; omega
    have c1 := zx_cn_add (P := zx_Is g rc s (r * 100 + y)) (a := r * 100 + y) (fun h' => by have := h'.2; rw [e1] at this; omega) 800 (by omega)
    have c2 := zx_cn_le (fun b => zx_Is g rc s (r * 100 + y) b ∨ b = r * 100 + y) 800
    have c3 := I.2.2.2.2
    have c4 := I.2.2.1.1
    refine zx_ruleReading hR hr hrc D1 (y := y) (by omega) (by omega) (zi_n y) ?_
    refine zx_insert (L := L) (a := r * 100 + y) w (fun q h1 h2 => (I.2.2.1.2.1 q h1 h2).1.1) (by omega) (by omega) c4 I.1 (by rw [e1]) (by rw [ea]) ?_
    intro p dA' dU' h1 h2 h3 h4 h5
    refine nm_r (nI_1 y) ?_
    exact ih (y + 1) n _ (m + 1) dA' dU' (by omega) (by omega) (by omega) (zx_AI_ins (a := r * 100 + y) I hv (by omega) h1 h2 h3 h4 h5)
theorem zx_addAct {post : SX → Prop} {r s m : Nat} {L G : Nat → Nat} (w : zq_wf g rc ec) (hR : zx_R g rc dR) (hr : r < rc) (hs : g (1 + r) 8 = (s : Int)) (I : zx_AI g rc s (r * 100) L G m dF dA dU) (h : ∀ L' m' dA' dU', zx_AI g rc s ((r + 1) * 100) L' G m' dF dA' dU' → post (xl, xm, xr, xe, nI m', xs, xc, dD, dR, dE, dF, dA', dU', sS, sV, sO, sB)) : wpX_addActivations post (xl, xm, xr, xe, nI m, xs, xc, dD, dR, dE, dF, dA, dU, sS, sV, sO, sB) (nI r) (nI (G s)) := by
  have hrc : rc ≤ 8 := w.1
  have D := w.2.2.1 r hr
  have D1 := D.1
  have D2 := D.2.1
  have D3 := D.2.2.1
  have D4 := D.2.2.2.1
  have D5 := D.2.2.2.2.1
  unfold wpX_addActivations
  dsimp only
  rw [z11 (c := 7) r 7 rfl, z11 (c := 6) r 6 rfl, nI_clamp (by omega), nI_clamp (by omega)]
  refine ⟨zn_in (by omega) (by omega), nm_r (hR r 7 hr (by omega)) ⟨zn_in (by omega) (by omega), nm_r (hR r 6 hr (by omega)) ⟨102, ?_⟩⟩⟩
  rw [zi_nn D2]
  refine zx_a27 w hR hr hs ?_ (g (1 + r) 7 + 1 - g (1 + r) 6).toNat (g (1 + r) 6).toNat 102 L m dA dU (by omega) (by omega) (by omega) ?_
  · intro L' m' dA' dU' I'
    refine h L' m' dA' dU' (zx_AI_skip I' (by omega) ?_)
    intro c h1 h2 hv
    have h3 := hv.2.2.2
    rw [show c / 100 = r by omega] at h3
    omega
  · refine zx_AI_skip I (by omega) ?_
    intro c h1 h2 hv
    have h3 := hv.2.2.1
    rw [show c / 100 = r by omega] at h3
    omega
theorem zx_s2 {post : SX → Prop} {s : Nat} {G : Nat → Nat} (w : zq_wf g rc ec) (hR : zx_R g rc dR) (hs : s < 4) (hxr : xr = nI rc) (h : ∀ L' m' dA' dU', zx_AI g rc s (rc * 100) L' G m' dF dA' dU' → post (xl, xm, xr, xe, nI m', xs, xc, dD, dR, dE, dF, dA', dU', sS, sV, sO, sB)) : ∀ (d r n : Nat) (L : Nat → Nat) (m : Nat) (dA dU : Nat → Int32), r + d = rc → d < n → zx_AI g rc s (r * 100) L G m dF dA dU → wX_addSet_2 post (nI s) n (nI r) xl xm xr xe (nI m) xs xc dD dR dE dF dA dU sS sV sO sB := by
  have hrc : rc ≤ 8 := w.1
  intro d
  induction d with
  | zero =>
    intro r n L m dA dU hr hn I
    obtain ⟨n, rfl⟩ : ∃ k, n = k + 1 := ⟨n - 1, by omega⟩
    rw [hxr]
    refine zk_le rc r (fun _ => ?_) (fun l => absurd l (by omega)) rfl rfl (by omega) (by omega)
    rw [← hxr]
    exact h L m dA dU (by rw [show rc * 100 = r * 100 by omega]; exact I)
  | succ d ih =>
    intro r n L m dA dU hr hn I
    obtain ⟨n, rfl⟩ : ∃ k, n = k + 1 := ⟨n - 1, by omega⟩
    have D := w.2.2.1 r (by omega)
    have D8 := D.2.2.2.2.2.1
    rw [hxr]
    refine zk_le rc r (fun l => absurd l (by omega)) (fun _ => ?_) rfl rfl (by omega) (by omega)
    rw [← hxr, z11 (c := 8) r 8 rfl, nI_clamp (by omega), nI_clamp (by omega)]
    refine ⟨zn_in (by omega) (by omega), zb_eq (g (1 + r) 8) s (fun e => ⟨zn_in (by omega) (by omega), ?_⟩) (fun e => nm_r (nI_1 r) ?_) (hR r 8 (by omega) (by omega)) (zi_n s)⟩
    · rw [I.2.2.2.1 s (Nat.le_refl _)]
      refine zx_addAct w hR (by omega) e I ?_
      intro L' m' dA' dU' I'
      exact nm_r (nI_1 r) (ih (r + 1) n L' m' dA' dU' (by omega) (by omega) I')
    · refine ih (r + 1) n L m dA dU (by omega) (by omega) (zx_AI_skip I (by omega) ?_)
      intro c h1 h2 hv
      have h3 := hv.2.1
      rw [show c / 100 = r by omega] at h3
      exact e h3
theorem zx_b7 {post : SX → Prop} (w : zq_wf g rc ec) (hR : zx_R g rc dR) (hxr : xr = nI rc) (h : ∀ L' G' xa' dF' dA' dU', zx_Acts g rc L' G' dF' dA' dU' → post (xl, xm, xr, xe, xa', xs, xc, dD, dR, dE, dF', dA', dU', sS, sV, sO, sB)) : ∀ (d s n : Nat) (L G : Nat → Nat) (m : Nat) (dF dA dU : Nat → Int32), s + d = 4 → d < n → G s = m → (zx_AI g rc s 0 L G m (upd dF s (nI m)) dA dU) → wX_buildActivations_7 post n (nI s) xl xm xr xe (nI m) xs xc dD dR dE dF dA dU sS sV sO sB := by
  intro d
  induction d with
  | zero =>
    intro s n L G m dF dA dU hs hn hG I
    obtain ⟨n, rfl⟩ : ∃ k, n = k + 1 := ⟨n - 1, by omega⟩
    have e4 : s = 4 := by omega
    subst e4
    refine zk_le 4 4 (fun _ => nm_e ?_) (fun l => absurd l (by omega)) rfl rfl (by omega) (by omega)
    refine h L G _ _ dA dU ⟨by rw [hG]; exact I.1, fun s' hs' => ⟨(I.2.1 s' hs').1, (I.2.1 s' hs').2⟩, fun s' hs' => I.2.2.2.1 s' hs', ?_⟩
    rw [hG]
    exact Nat.le_trans I.2.2.2.2 (zx_cn_le _ 800)
  | succ d ih =>
    intro s n L G m dF dA dU hs hn hG I
    obtain ⟨n, rfl⟩ : ∃ k, n = k + 1 := ⟨n - 1, by omega⟩
    refine zk_le 4 s (fun l => absurd l (by omega)) (fun _ => ?_) rfl rfl (by omega) (by omega)
    rw [nI_clamp (by omega)]
    refine ⟨zn_in (by omega) (by omega), nm_e ?_⟩
    unfold wpX_addSet
    dsimp only
    refine ⟨rc + 1, zx_s2 w hR (by omega) hxr ?_ rc 0 (rc + 1) L m dA dU (by omega) (by omega) (by rw [Nat.zero_mul]; exact I)⟩
    intro L' m' dA' dU' I'
    refine nm_r (nI_1 s) ?_
    exact ih (s + 1) n L' (fun i => if i = s + 1 then m' else G i) m' _ dA' dU' (by omega) (by omega) (if_pos rfl) (zx_AI_next I')
theorem zx_build {post : SX → Prop} (w : zq_wf g rc ec) (hR : zx_R g rc dR) (hxr : xr = nI rc) (h : ∀ L' G' xa' dF' dA' dU', zx_Acts g rc L' G' dF' dA' dU' → post (xl, xm, xr, xe, xa', xs, xc, dD, dR, dE, dF', dA', dU', sS, sV, sO, sB)) : wpX_buildActivations post (xl, xm, xr, xe, xa, xs, xc, dD, dR, dE, dF, dA, dU, sS, sV, sO, sB) := by
  unfold wpX_buildActivations
  dsimp only
  refine ⟨5, zx_b7 w hR hxr h 4 0 5 (fun _ => 0) (fun _ => 0) 0 dF dA dU (by omega) (by omega) rfl ?_⟩
  refine ⟨fun p hp => by omega, fun s' hs' => by omega, ⟨Nat.le_refl _, fun p h1 h2 => by omega, fun p q h1 h2 h3 => by omega, fun a ha => by have := ha.2; omega⟩, fun s' hs' => ?_, Nat.zero_le _⟩
  rw [show s' = 0 by omega, z_us]
end
end
section
/-! 11: the component's moments, savings, ends of eras -/
section
variable {g : Nat → Nat → Int} {rc ec : Nat} {L G : Nat → Nat} {xl xm xr xe xa xs xc : Int32} {dD dR dE dF dA dU sS sV sO sB : Nat → Int32}
theorem zx_prE {s p : Nat} (hG : zx_Gr g (zq_V g rc (s : Nat)) L (G s) (G (s + 1))) (h1 : G s ≤ p) (h2 : p < G (s + 1)) : zq_pr g rc (L p) = if G s < p then g (1 + L (p - 1) / 100) 9 else 0 := by
  have e8 : g (1 + L p / 100) 8 = (s : Int) := (hG.2.1 p h1 h2).2.1
  unfold zq_pr
  split
  · rename_i h
    have S : zq_Sp g (zq_ps g rc (L p)) (some (L (p - 1))) := by
      refine ⟨⟨by rw [e8]; exact hG.2.1 (p - 1) (by omega) (by omega), hG.2.2.1 _ _ (by omega) (by omega) h2⟩, fun c hc => ?_⟩
      have hv := hc.1
      rw [e8] at hv
      obtain ⟨q, q1, q2, rfl⟩ := hG.2.2.2 c hv
      rcases Nat.lt_trichotomy q (p - 1) with e | e | e
      · exact Or.inr (hG.2.2.1 q (p - 1) q1 e (by omega))
      · exact Or.inl (by rw [e])
      · exfalso
        by_cases e' : q = p
        · subst e'; exact zq_irr hc.2
        · exact zq_asy hc.2 (hG.2.2.1 p q h1 (by omega) q2)
    rw [zq_topE S]; rfl
  · rename_i h
    have S : zq_Sp g (zq_ps g rc (L p)) none := by
      intro c hc
      have hv := hc.1
      rw [e8] at hv
      obtain ⟨q, q1, q2, rfl⟩ := hG.2.2.2 c hv
      by_cases e' : q = p
      · subst e'; exact zq_irr hc.2
      · exact zq_asy hc.2 (hG.2.2.1 p q h1 (by omega) q2)
    rw [zq_topE S]; rfl
theorem zx_moment {post : Int32 → Prop} {s p : Nat} {o : Int} (w : zq_wf g rc ec) (A : zx_Acts g rc L G dF dA dU) (hR : zx_R g rc dR) (hs : s < 4) (h1 : G s ≤ p) (h2 : p < G (s + 1)) (hp : post (iI (zq_mo g rc o (L p)))) : wpX_momentOf post (xl, xm, xr, xe, xa, xs, xc, dD, dR, dE, dF, dA, dU, sS, sV, sO, sB) (nI p) (nI (G s)) (iI o) := by
  have hrc : rc ≤ 8 := w.1
  have hG := (A.2.1 s hs).1
  have g4 := (A.2.1 s hs).2
  have g8 := A.2.2.2
  have V := hG.2.1 p h1 h2
  have a1 := A.1 p (by omega)
  have D5 := (w.2.2.1 _ V.1).1.2.2.2.2.2
  have l1 := V.1
  have pe := zx_prE hG h1 h2
  unfold zq_mo at hp
  rw [pe] at hp
  unfold wpX_momentOf
  dsimp only
  rw [nI_clamp (by omega), a1.1, a1.2, z11 (c := 5) _ 5 rfl, nI_clamp (by omega), hR _ 5 V.1 (by omega)]
  refine ⟨zn_in (by omega) (by omega), nm_e ⟨zn_in (by omega) (by omega), zn_in (by omega) (by omega), nm_e ?_⟩⟩
  have K : ∀ z : Int, post (iI (z - (if g (1 + L p / 100) 5 = 0 then (if G s < p then g (1 + L (p - 1) / 100) 9 else 0) else 0))) → wX_momentOf_38 post (nI p) (nI (G s)) (iI z) (iI (g (1 + L p / 100) 5)) xl xm xr xe xa xs xc dD dR dE dF dA dU sS sV sO sB := by
    intro z hz
    unfold wX_momentOf_38
    refine zb_eq (g (1 + L p / 100) 5) 0 (fun c => ?_) (fun c => ?_) rfl rfl
    · rw [if_pos c] at hz
      refine zk_le p (G s) (fun l => ?_) (fun l => ?_) rfl rfl (by omega) (by omega)
      · rw [if_neg (by omega)] at hz
        rw [show z = z - 0 by omega]; exact hz
      · rw [if_pos l] at hz
        have V' := hG.2.1 (p - 1) (by omega) (by omega)
        have l2 := V'.1
        rw [zn_s (by omega), nI_clamp (by omega), (A.1 (p - 1) (by omega)).2, z11 (c := 9) _ 9 rfl, nI_clamp (by omega), hR _ 9 V'.1 (by omega)]
        exact ⟨zn_in (by omega) (by omega), zn_in (by omega) (by omega), nm_r (zi_sub _ _) hz⟩
    · rw [if_neg c] at hz
      rw [show z = z - 0 by omega]; exact hz
  refine zb_eq (g (1 + L p / 100) 5) 2 (fun c => ?_) (fun c => ?_) rfl rfl
  · rw [if_pos c] at hp
    exact K _ (by rw [show zq_ac g (L p) - 0 = zq_ac g (L p) by omega] at hp; exact hp)
  · rw [if_neg c] at hp
    exact nm_r (zi_sub _ _) (K _ hp)
theorem zx_fE {s e p : Nat} {t : Int} (hG : zx_Gr g (zq_V g rc (s : Nat)) L (G s) (G (s + 1))) (hs : g (9 + e) 7 = (s : Int)) (h1 : G s ≤ p) (h2 : p ≤ G (s + 1)) (hn : ∀ q, p ≤ q → q < G (s + 1) → t < zq_mo g rc (g (9 + e) 6) (L q)) : (p = G s → zq_f g rc e t = none) ∧ (G s < p → zq_mo g rc (g (9 + e) 6) (L (p - 1)) ≤ t → zq_f g rc e t = some (L (p - 1))) := by
  constructor
  · intro h
    apply zq_topE
    intro c hc
    have hv := hc.1
    rw [hs] at hv
    obtain ⟨q, q1, q2, rfl⟩ := hG.2.2.2 c hv
    have := hn q (by omega) q2
    have := hc.2
    omega
  · intro h hm
    apply zq_topE
    refine ⟨⟨by rw [hs]; exact hG.2.1 (p - 1) (by omega) (by omega), hm⟩, fun c hc => ?_⟩
    have hv := hc.1
    rw [hs] at hv
    obtain ⟨q, q1, q2, rfl⟩ := hG.2.2.2 c hv
    rcases Nat.lt_trichotomy q (p - 1) with l | l | l
    · exact Or.inr (hG.2.2.1 q (p - 1) q1 l (by omega))
    · exact Or.inl (by rw [l])
    · have := hn q (by omega) q2
      have := hc.2
      omega
theorem zx_s44 {post : Int32 → Prop} {s e : Nat} {t : Int} (w : zq_wf g rc ec) (A : zx_Acts g rc L G dF dA dU) (hR : zx_R g rc dR) (hE : zx_E g ec dE) (he : e < ec) (hs4 : s < 4) (hs : g (9 + e) 7 = (s : Int)) (t0 : -4000000 ≤ t) (t1 : t < 4000000) (hp : post (iI (zq_sv g (zq_f g rc e t) 9))) : ∀ (d n : Nat), G s + d ≤ G (s + 1) → d < n → (∀ q, G s + d ≤ q → q < G (s + 1) → t < zq_mo g rc (g (9 + e) 6) (L q)) → wX_savingIn_44 post (nI e) (iI t) (nI (G s)) xl xm xr xe xa xs xc dD dR dE dF dA dU sS sV sO sB n (iI ((G s + d : Nat) - 1)) := by
  have hec : ec ≤ 8 := w.2.1
  have hrc : rc ≤ 8 := w.1
  have hG := (A.2.1 s hs4).1
  have g4 := (A.2.1 s hs4).2
  have g8 := A.2.2.2
  have E6 := (w.2.2.2.1 e he).2.1
  intro d
  induction d with
  | zero =>
    intro n hd hn hq
    obtain ⟨n, rfl⟩ : ∃ k, n = k + 1 := ⟨n - 1, by omega⟩
    have F := (zx_fE hG hs (by omega) hd hq).1 rfl
    rw [F] at hp
    exact zb_lt _ (G s) (fun _ => hp) (fun l => absurd l (by omega)) rfl (zi_n _)
  | succ d ih =>
    intro n hd hn hq
    obtain ⟨n, rfl⟩ : ∃ k, n = k + 1 := ⟨n - 1, by omega⟩
    refine zb_lt _ (G s) (fun l => absurd l (by omega)) (fun _ => ?_) rfl (zi_n _)
    rw [show (((G s + (d + 1) : Nat) : Int) - 1) = ((G s + d : Nat) : Int) by omega, ← zi_n, z10 (c := 6) _ 6 rfl, nI_clamp (n := e * 10 + 6) (by omega), hE e 6 he (by omega)]
    refine ⟨zn_in (by omega) (by omega), ?_⟩
    refine zx_moment w A hR hs4 (by omega) (by omega) ?_
    have V := hG.2.1 (G s + d) (by omega) (by omega)
    have l1 := V.1
    have b1 := (zq_acb w V.1).1
    have b2 := zq_mob w V.1 E6.1 E6.2
    refine zb_lt t (zq_mo g rc (g (9 + e) 6) (L (G s + d))) (fun l => ?_) (fun l => ?_) rfl rfl
    · refine nm_r (e' := iI ((G s + d : Nat) - 1)) ?_ (ih n (by omega) (by omega) ?_)
      · rw [zi_n, zi_neg1, zi_add]; rfl
      · intro q q1 q2
        by_cases e' : q = G s + d
        · subst e'; exact l
        · exact hq q (by omega) q2
    · have F := (zx_fE hG hs (p := G s + (d + 1)) (by omega) hd hq).2 (by omega) l
      rw [F] at hp
      rw [nI_clamp (by omega), (A.1 (G s + d) (by omega)).2, z11 (c := 9) _ 9 rfl, nI_clamp (by omega), hR _ 9 V.1 (by omega)]
      exact ⟨zn_in (by omega) (by omega), zn_in (by omega) (by omega), hp⟩
theorem zx_saving {post : Int32 → Prop} {e : Nat} {t : Int} (w : zq_wf g rc ec) (A : zx_Acts g rc L G dF dA dU) (hR : zx_R g rc dR) (hE : zx_E g ec dE) (he : e < ec) (t0 : -4000000 ≤ t) (t1 : t < 4000000) (hp : post (iI (zq_s g rc e t))) : wpX_savingIn post (xl, xm, xr, xe, xa, xs, xc, dD, dR, dE, dF, dA, dU, sS, sV, sO, sB) (nI e) (iI t) := by
  have hec : ec ≤ 8 := w.2.1
  have E7 := (w.2.2.2.1 e he).2.2.1
  have g8 := A.2.2.2
  unfold wpX_savingIn
  dsimp only
  rw [z10 (c := 7) _ 7 rfl, nI_clamp (by omega), hE e 7 he (by omega)]
  refine ⟨zn_in (by omega) (by omega), nm_e ?_⟩
  unfold zq_s at hp
  refine zb_lt (g (9 + e) 7) 16 (fun l => ?_) (fun l => ?_) rfl rfl
  · rw [if_pos l] at hp
    obtain ⟨s, hs⟩ : ∃ s : Nat, g (9 + e) 7 = (s : Int) := ⟨(g (9 + e) 7).toNat, by omega⟩
    have g1 := (A.2.1 s (by omega)).2
    have g2 := (A.2.1 s (by omega)).1.1
    rw [hs, ← zi_n, nI_1, nI_clamp (by omega), nI_clamp (by omega), A.2.2.1 s (by omega), A.2.2.1 (s + 1) (by omega)]
    refine ⟨zn_in (by omega) (by omega), nm_e ⟨zn_in (by omega) (by omega), nm_r (e' := iI ((G s + (G (s + 1) - G s) : Nat) - 1)) ?_ ⟨G (s + 1) - G s + 1, ?_⟩⟩⟩
    · rw [show G s + (G (s + 1) - G s) = G (s + 1) by omega, zi_n]; exact zS rfl rfl
    · exact zx_s44 w A hR hE he (by omega) hs t0 t1 hp _ _ (by omega) (by omega) (fun q q1 q2 => by omega)
  · rw [if_neg (by omega)] at hp
    exact zv hp (zS rfl rfl)
theorem zx_w18 {post : Int32 → Prop} {e : Nat} {til : Int} (w : zq_wf g rc ec) (A : zx_Acts g rc L G dF dA dU) (hR : zx_R g rc dR) (hE : zx_E g ec dE) (he : e < ec) (b1 : -1000 ≤ til) (b2 : til < 1000000) : ∀ (d n : Nat) (t : Int), til - t ≤ d → d < n → -100 ≤ t → t < 1000000 → post (iI (zq_wall g rc e til d t)) → wX_wallEnd_18 post (nI e) (iI til) xl xm xr xe xa xs xc dD dR dE dF dA dU sS sV sO sB n (iI t) := by
  intro d
  induction d with
  | zero =>
    intro n t hd hn t0 t1 hp
    obtain ⟨n, rfl⟩ : ∃ k, n = k + 1 := ⟨n - 1, by omega⟩
    exact zb_le til t (fun _ => hp) (fun l => absurd l (by omega)) rfl rfl
  | succ d ih =>
    intro n t hd hn t0 t1 hp
    obtain ⟨n, rfl⟩ : ∃ k, n = k + 1 := ⟨n - 1, by omega⟩
    refine zb_le til t (fun l => ?_) (fun l => ?_) rfl rfl
    · rw [zq_wls w he l] at hp; exact hp
    · have s1 := zq_sb w he (t - 1)
      have s2 := zq_sb w he t
      rw [show iI t - 1 = iI (t - 1) from zS rfl rfl]
      refine zx_saving w A hR hE he (by omega) (by omega) ?_
      refine zx_saving w A hR hE he (by omega) (by omega) ?_
      rw [zq_wall] at hp
      have K : ∀ z : Int, z = zq_mx (zq_s g rc e (t - 1)) (zq_s g rc e t) → wX_wallEnd_58 post (wX_wallEnd_18 post (nI e) (iI til) xl xm xr xe xa xs xc dD dR dE dF dA dU sS sV sO sB n) (nI e) (iI til) (iI t) (iI z) xl xm xr xe xa xs xc dD dR dE dF dA dU sS sV sO sB := by
        intro z hz
        have m := zq_mxb (a := zq_s g rc e (t - 1)) (b := zq_s g rc e t)
        unfold wX_wallEnd_58
        refine zb_lt (t + z) til (fun l => ?_) (fun l => ?_) (zA rfl rfl) rfl
        · rw [if_pos (by omega)] at hp
          exact nm_r (e' := iI (t + 1)) (zA rfl rfl) (ih n (t + 1) (by omega) (by omega) (by omega) (by omega) hp)
        · rw [if_neg (by omega)] at hp
          exact hp
      refine zb_le (zq_s g rc e (t - 1)) (zq_s g rc e t) (fun l => K _ ?_) (fun l => K _ ?_) rfl rfl
      · unfold zq_mx; rw [if_pos l]
      · unfold zq_mx; rw [if_neg (by omega)]
theorem zx_endReading {post : Int32 → Prop} {e : Nat} (w : zq_wf g rc ec) (hE : zx_E g ec dE) (he : e < ec) (h9 : 0 ≤ g (9 + e) 9 ∧ g (9 + e) 9 ≤ 99) (hp : post (iI (zq_end g e))) : wpX_eraEndReading post (xl, xm, xr, xe, xa, xs, xc, dD, dR, dE, dF, dA, dU, sS, sV, sO, sB) (nI e) := by
  have hec : ec ≤ 8 := w.2.1
  have E := w.2.2.2.1 e he
  unfold wpX_eraEndReading
  dsimp only
  refine nm_r (e' := nI (e * 10)) (zn_mul e 10) ?_
  rw [show nI (e * 10) + 1 = nI (e * 10 + 1) from nI_add _ 1, show nI (e * 10) + 2 = nI (e * 10 + 2) from nI_add _ 2, show nI (e * 10) + 3 = nI (e * 10 + 3) from nI_add _ 3, show nI (e * 10) + 4 = nI (e * 10 + 4) from nI_add _ 4, show nI (e * 10) + 9 = nI (e * 10 + 9) from nI_add _ 9]
  refine ⟨zn_in (by omega) (by omega), zn_in (by omega) (by omega), zn_in (by omega) (by omega), zn_in (by omega) (by omega), zn_in (by omega) (by omega), zn_in (by omega) (by omega), ?_⟩
  rw [nI_clamp (by omega), nI_clamp (by omega), nI_clamp (by omega), nI_clamp (by omega), nI_clamp (by omega), nI_clamp (by omega), show dE (e * 10) = _ from hE e 0 he (by omega), hE e 1 he (by omega), hE e 2 he (by omega), hE e 3 he (by omega), hE e 4 he (by omega), hE e 9 he (by omega)]
  exact zx_reading E.1 h9.1 h9.2 hp
theorem zx_eraEnd {post : Int32 → Prop} {e : Nat} {s : Int} (w : zq_wf g rc ec) (A : zx_Acts g rc L G dF dA dU) (hR : zx_R g rc dR) (hE : zx_E g ec dE) (he : e < ec) (s0 : 0 ≤ s) (s1 : s ≤ 702096) (hp : e + 1 < ec → post (iI (zq_nx g rc e s))) (hq : e + 1 = ec → post (iI 3506400)) (hl : g (9 + (ec - 1)) 9 = 99) : wpX_eraEnd post (xl, xm, xr, xe, xa, xs, xc, dD, dR, dE, dF, dA, dU, sS, sV, sO, sB) (nI e) (iI s) := by
  have hec : ec ≤ 8 := w.2.1
  have E := w.2.2.2.1 e he
  have E1 := E.1
  have E5 := E1.2.2.2.2.2
  have E6 := E.2.1
  have E9 := E.2.2.2.2
  unfold wpX_eraEnd
  dsimp only
  rw [z10 (c := 9) _ 9 rfl, z10 (c := 5) _ 5 rfl, z10 (c := 6) _ 6 rfl, nI_clamp (by omega), nI_clamp (by omega), nI_clamp (by omega), hE e 9 he (by omega), hE e 5 he (by omega), hE e 6 he (by omega)]
  refine ⟨zn_in (by omega) (by omega), zb_eq (g (9 + e) 9) 99 (fun c => ?_) (fun c => ?_) rfl rfl⟩
  · refine hq ?_
    by_cases h : e + 1 < ec
    · exact absurd c (w.2.2.2.2 e h)
    · omega
  · have hlt : e + 1 < ec := by
      by_cases h : e + 1 < ec
      · exact h
      · exfalso; apply c; rw [← hl]; congr 2; omega
    have Eb := zq_endb w hlt
    have m := zq_mxb (a := s) (b := zq_end g e - g (9 + e) 6 - 8)
    have hp := hp hlt
    unfold zq_nx at hp
    refine zx_endReading w hE he (by omega) ⟨zn_in (by omega) (by omega), nm_e ?_⟩
    have nz : ∀ z : Int, ¬ g (9 + e) 5 = 0 → -10000 ≤ z → z < 1000000 → post (iI (zq_mx s z)) → wX_eraEnd_60 post (nI e) (iI s) (iI z) (iI (g (9 + e) 5)) xl xm xr xe xa xs xc dD dR dE dF dA dU sS sV sO sB := by
      intro z hz z0 z1 h
      unfold wX_eraEnd_60
      refine zb_eq (g (9 + e) 5) 0 (fun c => absurd c hz) (fun _ => ?_) rfl rfl
      unfold zq_mx at h
      refine zb_le z s (fun l => ?_) (fun l => ?_) rfl rfl
      · split at h
        · rw [show s = z by omega]; exact h
        · exact h
      · rw [if_pos (by omega)] at h; exact h
    refine zb_eq (g (9 + e) 5) 2 (fun c2 => ?_) (fun c2 => ⟨zn_in (by omega) (by omega), nm_r (zi_sub _ _) ?_⟩) rfl rfl
    · rw [if_pos c2] at hp
      exact nz _ (by omega) (by omega) (by omega) hp
    · rw [if_neg c2] at hp
      by_cases c1 : g (9 + e) 5 = 1
      · rw [if_pos c1] at hp
        exact nz _ (by omega) (by omega) (by omega) hp
      · rw [if_neg c1] at hp
        unfold wX_eraEnd_60
        refine zb_eq (g (9 + e) 5) 0 (fun _ => ?_) (fun c0 => absurd c0 (by omega)) rfl rfl
        unfold wpX_wallEnd
        dsimp only
        rw [show iI (zq_end g e - g (9 + e) 6) - 8 = iI (zq_end g e - g (9 + e) 6 - 8) from zS rfl rfl]
        have W := fun t h1 h2 h3 h4 => zx_w18 (xl := xl) (xm := xm) (xr := xr) (xe := xe) (xa := xa) (xs := xs) (xc := xc) (dD := dD) (dR := dR) (dE := dE) (dF := dF) (dA := dA) (dU := dU) (sS := sS) (sV := sV) (sO := sO) (sB := sB) (post := post) (e := e) (til := zq_end g e - g (9 + e) 6) w A hR hE he (by omega) (by omega) 8 9 t h1 (by omega) h2 h3 h4
        refine zb_le (zq_end g e - g (9 + e) 6 - 8) s (fun l => ⟨9, ?_⟩) (fun l => nm_e ⟨9, ?_⟩) rfl rfl
        · refine W s (by omega) (by omega) (by omega) ?_
          have em : zq_mx s (zq_end g e - g (9 + e) 6 - 8) = s := by unfold zq_mx; split <;> omega
          rw [em] at hp; exact hp
        · refine W _ (by omega) (by omega) (by omega) ?_
          have em : zq_mx s (zq_end g e - g (9 + e) 6 - 8) = zq_end g e - g (9 + e) 6 - 8 := by unfold zq_mx; rw [if_pos (by omega)]
          rw [em] at hp; exact hp
end
end
section
/-! 12: segments, pure -/
def zx_Kb (k : Nat → Int) : Prop := (0 ≤ k 0 ∧ k 0 < 3506400) ∧ (0 ≤ k 1 ∧ k 1 ≤ 8) ∧ (-48 ≤ k 2 ∧ k 2 ≤ 64) ∧ (0 ≤ k 3 ∧ k 3 ≤ 63)
def zx_Sg (K : Nat → Nat → Int) (n : Nat) (sS sV sO sB : Nat → Int32) : Prop := ∀ i, i < n → zx_Kb (K i) ∧ sS i = iI (K i 0) ∧ sV i = iI (K i 1) ∧ sO i = iI (K i 2) ∧ sB i = iI (K i 3)
def zx_k (st sv of ab : Int) : Nat → Int := fun j => if j = 0 then st else if j = 1 then sv else if j = 2 then of else ab
def zx_put (K : Nat → Nat → Int) (n : Nat) (k : Nat → Int) : Nat → Nat → Int := fun i => if i = n then k else K i
theorem zx_pt1 {K : Nat → Nat → Int} {n : Nat} {k : Nat → Int} : zx_put K n k n = k := if_pos rfl
theorem zx_pt2 {K : Nat → Nat → Int} {n i : Nat} {k : Nat → Int} (h : i ≠ n) : zx_put K n k i = K i := if_neg h
def zx_Cov (K : Nat → Nat → Int) (lo hi : Nat) (lim : Int) (v : Int → Nat → Int) : Prop :=
  (∀ i, lo ≤ i → i < hi → K i 0 < lim) ∧ (∀ i, lo ≤ i → i + 1 < hi → K i 0 < K (i + 1) 0) ∧
  (∀ i t, lo ≤ i → i < hi → K i 0 ≤ t → t < lim → (i + 1 < hi → t < K (i + 1) 0) → ∀ k, 1 ≤ k → k ≤ 3 → K i k = v t k)
section
variable (g : Nat → Nat → Int) (rc : Nat)
/-- the last of the first d positions whose moment is not after t -/
noncomputable def zx_fp (L : Nat → Nat) (o : Int) (lo : Nat) : Nat → Int → Option Nat
  | 0, _ => none
  | d + 1, t => if zq_mo g rc o (L (lo + d)) ≤ t then some (L (lo + d)) else zx_fp L o lo d t
noncomputable def zx_vo (e : Nat) (o : Option Nat) : Nat → Int := zx_k 0 (zq_sv g o 9) (g (9 + e) 6 + zq_sv g o 9) (8 * g (9 + e) 8 + zq_sv g o 10)
noncomputable def zx_ve (e : Nat) (t : Int) : Nat → Int := zx_k 0 (zq_s g rc e t) (zq_of g rc e t) (zq_ab g rc e t)
noncomputable def zx_vt (ec : Nat) (t : Int) : Nat → Int := zx_ve g rc (zq_er g rc t (ec - 1)) t
noncomputable def zx_ct (L : Nat → Nat) (o : Int) (lo : Nat) (lim : Int) : Nat → Nat
  | 0 => 0
  | d + 1 => zx_ct L o lo lim d + if zq_mo g rc o (L (lo + d)) < lim then 1 else 0
end
section
variable {g : Nat → Nat → Int} {rc ec : Nat} {L G : Nat → Nat}
theorem zx_fpE {s e : Nat} {t : Int} (hG : zx_Gr g (zq_V g rc (s : Nat)) L (G s) (G (s + 1))) (hs : g (9 + e) 7 = (s : Int)) : ∀ d, G s + d ≤ G (s + 1) → (∀ q, G s + d ≤ q → q < G (s + 1) → t < zq_mo g rc (g (9 + e) 6) (L q)) → zx_fp g rc L (g (9 + e) 6) (G s) d t = zq_f g rc e t := by
  intro d
  induction d with
  | zero => intro h1 h2; rw [zx_fp]; exact ((zx_fE hG hs (by omega) h1 h2).1 rfl).symm
  | succ d ih =>
    intro h1 h2
    rw [zx_fp]
    split
    · rename_i h
      exact ((zx_fE hG hs (p := G s + (d + 1)) (by omega) h1 h2).2 (by omega) h).symm
    · rename_i h
      refine ih (by omega) (fun q q1 q2 => ?_)
      by_cases e' : q = G s + d
      · subst e'; omega
      · exact h2 q (by omega) q2
theorem zx_ctd {o : Int} {lo : Nat} {lim : Int} : ∀ d, zx_ct g rc L o lo lim d ≤ d := by
  intro d
  induction d with
  | zero => exact Nat.le_refl _
  | succ d ih => rw [zx_ct]; split <;> omega
theorem zx_c21 : ∀ n, zx_cn (fun a => a % 100 ≤ 20) n = n / 100 * 21 + (if n % 100 ≤ 21 then n % 100 else 21) := by
  intro n
  induction n with
  | zero => rfl
  | succ n ih =>
    rw [zx_cn, ih]
    by_cases h : n % 100 ≤ 20
    · rw [if_pos h, if_pos (by omega), if_pos (by omega)]; omega
    · rw [if_neg h]
      by_cases h1 : n % 100 = 99
      · rw [if_neg (by omega), if_pos (by omega)]; omega
      · rw [if_neg (show ¬ (n + 1) % 100 ≤ 21 by omega)]
        split <;> omega
theorem zx_ctb {s e : Nat} {lim : Int} (w : zq_wf g rc ec) (he : e < ec) (hG : zx_Gr g (zq_V g rc (s : Nat)) L (G s) (G (s + 1))) (hl : lim ≤ 702096) : ∀ d, G s + d ≤ G (s + 1) → zx_ct g rc L (g (9 + e) 6) (G s) lim d ≤ zx_cn (fun a => a % 100 ≤ 20 ∧ ∃ q, q < d ∧ L (G s + q) = a) 800 := by
  have hrc : rc ≤ 8 := w.1
  have E6 := (w.2.2.2.1 e he).2.1
  intro d
  induction d with
  | zero => intro _; exact Nat.zero_le _
  | succ d ih =>
    intro h
    have h1 := ih (by omega)
    rw [zx_ct]
    have V := hG.2.1 (G s + d) (by omega) (by omega)
    have l1 := V.1
    split
    · rename_i hm
      have b1 := (zq_acb w V.1).2
      have b2 := zq_mob w V.1 E6.1 E6.2
      have c1 := zx_cn_add (P := fun a => a % 100 ≤ 20 ∧ ∃ q, q < d ∧ L (G s + q) = a) (a := L (G s + d)) (fun h' => by
        obtain ⟨_, q, q1, q2⟩ := h'
        have l := hG.2.2.1 (G s + q) (G s + d) (by omega) (by omega) (by omega)
        rw [q2] at l
        exact zq_irr l) 800 (by omega)
      have c2 := zx_cn_mono (P := fun b => (b % 100 ≤ 20 ∧ ∃ q, q < d ∧ L (G s + q) = b) ∨ b = L (G s + d)) (Q := fun a => a % 100 ≤ 20 ∧ ∃ q, q < d + 1 ∧ L (G s + q) = a) 800 (fun b _ hb => by
        rcases hb with hb | hb
        · obtain ⟨h2, q, q1, q2⟩ := hb
          exact ⟨h2, q, by omega, q2⟩
        · subst hb
          exact ⟨by omega, d, by omega, rfl⟩)
      omega
    · have c2 := zx_cn_mono (P := fun a => a % 100 ≤ 20 ∧ ∃ q, q < d ∧ L (G s + q) = a) (Q := fun a => a % 100 ≤ 20 ∧ ∃ q, q < d + 1 ∧ L (G s + q) = a) 800 (fun b _ hb => by
        obtain ⟨h2, q, q1, q2⟩ := hb
        exact ⟨h2, q, by omega, q2⟩)
      omega
theorem zx_ct168 {s e : Nat} {lim : Int} (w : zq_wf g rc ec) (he : e < ec) (hG : zx_Gr g (zq_V g rc (s : Nat)) L (G s) (G (s + 1))) (hl : lim ≤ 702096) {d : Nat} (hd : G s + d ≤ G (s + 1)) : zx_ct g rc L (g (9 + e) 6) (G s) lim d ≤ 168 := by
  have h1 := zx_ctb w he hG hl d hd
  have h2 := zx_cn_mono (P := fun a => a % 100 ≤ 20 ∧ ∃ q, q < d ∧ L (G s + q) = a) (Q := fun a => a % 100 ≤ 20) 800 (fun b _ hb => hb.1)
  have h3 := zx_c21 800
  rw [if_pos (by omega)] at h3
  omega
theorem zx_Covc {K : Nat → Nat → Int} {lo hi : Nat} {lim : Int} {v v' : Int → Nat → Int} (h : zx_Cov K lo hi lim v) (e : ∀ i t, lo ≤ i → i < hi → K i 0 ≤ t → t < lim → v t = v' t) : zx_Cov K lo hi lim v' := by
  refine ⟨h.1, h.2.1, fun i t h1 h2 h3 h4 h5 k k1 k2 => ?_⟩
  rw [← e i t h1 h2 h3 h4]
  exact h.2.2 i t h1 h2 h3 h4 h5 k k1 k2
/-- starts rise -/
theorem zx_Covs {K : Nat → Nat → Int} {lo hi : Nat} {lim : Int} {v : Int → Nat → Int} (h : zx_Cov K lo hi lim v) : ∀ (d i : Nat), lo ≤ i → i + d < hi → K i 0 + d ≤ K (i + d) 0 := by
  intro d
  induction d with
  | zero => intro i _ _; simp
  | succ d ih =>
    intro i h1 h2
    have := ih i h1 (by omega)
    have := h.2.1 (i + d) (by omega) (by omega)
    rw [show i + (d + 1) = i + d + 1 by omega]
    omega
/-- drop down to n', push (fr, values of v' from fr on) -/
theorem zx_Covp {K : Nat → Nat → Int} {b n n' : Nat} {lim fr : Int} {v v' : Int → Nat → Int} {k : Nat → Int} (h : zx_Cov K b n lim v) (h1 : b ≤ n') (h2 : n' ≤ n) (hd : ∀ i, n' ≤ i → i < n → fr ≤ K i 0) (hk : b < n' → K (n' - 1) 0 < fr) (hf : fr < lim) (k0 : k 0 = fr) (hv : ∀ t, fr ≤ t → t < lim → ∀ j, 1 ≤ j → j ≤ 3 → k j = v' t j) (hv' : ∀ i t, b ≤ i → i < n' → K i 0 ≤ t → t < fr → v t = v' t) : zx_Cov (zx_put K n' k) b (n' + 1) lim v' := by
  refine ⟨fun i i1 i2 => ?_, fun i i1 i2 => ?_, fun i t i1 i2 i3 i4 i5 j j1 j2 => ?_⟩
  · by_cases e : i = n'
    · subst e; rw [zx_pt1, k0]; exact hf
    · rw [zx_pt2 e]; exact h.1 i i1 (by omega)
  · rw [zx_pt2 (i := i) (by omega)]
    by_cases e : i + 1 = n'
    · rw [e, zx_pt1, k0]
      have := hk (by omega)
      rw [show n' - 1 = i by omega] at this
      exact this
    · rw [zx_pt2 e]; exact h.2.1 i i1 (by omega)
  · by_cases e : i = n'
    · subst e
      rw [zx_pt1] at i3 ⊢
      rw [k0] at i3
      exact hv t i3 i4 j j1 j2
    · rw [zx_pt2 e] at i3 ⊢
      have i5' := i5 (by omega)
      have tf : t < fr := by
        by_cases e' : i + 1 = n'
        · rw [e', zx_pt1, k0] at i5'; exact i5'
        · rw [zx_pt2 e'] at i5'
          have q := zx_Covs h (n' - 1 - (i + 1)) (i + 1) (by omega) (by omega)
          have q2 := hk (by omega)
          rw [show i + 1 + (n' - 1 - (i + 1)) = n' - 1 by omega] at q
          omega
      rw [← hv' i t i1 (by omega) i3 tf]
      refine h.2.2 i t i1 (by omega) i3 i4 (fun i6 => ?_) j j1 j2
      by_cases e' : i + 1 = n'
      · have := hd (i + 1) (by omega) i6; omega
      · rw [zx_pt2 e'] at i5'; exact i5'
/-- an era's segments behind the earlier ones -/
theorem zx_Covj {K : Nat → Nat → Int} {b n : Nat} {st lim : Int} {v : Int → Nat → Int} (h : zx_Cov K 0 b st v) (h' : zx_Cov K b n lim v) (hb : b < n) (hs : K b 0 = st) (hl : st ≤ lim) : zx_Cov K 0 n lim v := by
  refine ⟨fun i i1 i2 => ?_, fun i i1 i2 => ?_, fun i t i1 i2 i3 i4 i5 j j1 j2 => ?_⟩
  · by_cases e : i < b
    · have := h.1 i i1 e; omega
    · exact h'.1 i (by omega) i2
  · by_cases e : i + 1 < b
    · exact h.2.1 i i1 e
    · by_cases e' : i + 1 = b
      · rw [e', hs]; exact h.1 i i1 (by omega)
      · exact h'.2.1 i (by omega) i2
  · by_cases e : i < b
    · have i5' := i5 (by omega)
      have tl : t < st := by
        by_cases e' : i + 1 = b
        · rw [e', hs] at i5'; exact i5'
        · have := h.1 (i + 1) (by omega) (by omega); omega
      exact h.2.2 i t i1 e i3 tl (fun _ => i5') j j1 j2
    · exact h'.2.2 i t (by omega) i2 i3 i4 i5 j j1 j2
theorem zx_Covk {K K' : Nat → Nat → Int} {lo hi : Nat} {lim : Int} {v : Int → Nat → Int} (h : zx_Cov K lo hi lim v) (e : ∀ i, i < hi → K' i = K i) : zx_Cov K' lo hi lim v := by
  refine ⟨fun i i1 i2 => ?_, fun i i1 i2 => ?_, fun i t i1 i2 i3 i4 i5 j j1 j2 => ?_⟩
  · rw [e i i2]; exact h.1 i i1 i2
  · rw [e i (by omega), e (i + 1) i2]; exact h.2.1 i i1 i2
  · rw [e i i2] at i3 ⊢
    exact h.2.2 i t i1 i2 i3 i4 (fun i6 => by rw [← e (i + 1) i6]; exact i5 i6) j j1 j2
theorem zx_kj {a b c d a' b' c' d' : Int} (h1 : b = b') (h2 : c = c') (h3 : d = d') : ∀ j, 1 ≤ j → j ≤ 3 → zx_k a b c d j = zx_k a' b' c' d' j := by
  intro j j1 j2
  unfold zx_k
  rw [if_neg (show ¬ j = 0 by omega), if_neg (show ¬ j = 0 by omega), h1, h2, h3]
end
end
section
/-! 13: the walks that build the segments -/
section
variable {g : Nat → Nat → Int} {rc ec : Nat} {L G : Nat → Nat} {xl xm xr xe xa xs xc : Int32} {dD dR dE dF dA dU sS sV sO sB : Nat → Int32}
theorem zx_push {post : SX → Prop} {K : Nat → Nat → Int} {n e : Nat} {st sv lt : Int} (w : zq_wf g rc ec) (hE : zx_E g ec dE) (he : e < ec) (hn : n < 2600) (hS : zx_Sg K n sS sV sO sB) (b0 : 0 ≤ st ∧ st < 3506400) (b1 : 0 ≤ sv ∧ sv ≤ 8) (b2 : 0 ≤ lt ∧ lt ≤ 7) {p1 p2 p3 : Int32} (e1 : p1 = iI st) (e2 : p2 = iI sv) (e3 : p3 = iI lt) (h : ∀ sS' sV' sO' sB', zx_Sg (zx_put K n (zx_k st sv (g (9 + e) 6 + sv) (8 * g (9 + e) 8 + lt))) (n + 1) sS' sV' sO' sB' → post (xl, xm, xr, xe, xa, nI (n + 1), xc, dD, dR, dE, dF, dA, dU, sS', sV', sO', sB')) : wpX_pushSegment post (xl, xm, xr, xe, xa, nI n, xc, dD, dR, dE, dF, dA, dU, sS, sV, sO, sB) (nI e) p1 p2 p3 := by
  subst e1; subst e2; subst e3
  have hec : ec ≤ 8 := w.2.1
  have E6 := (w.2.2.2.1 e he).2.1
  have E8 := (w.2.2.2.1 e he).2.2.2.1
  unfold wpX_pushSegment
  dsimp only
  refine br_t (nI_lt (a := n) (b := 2600) hn (by omega)) ?_
  have i1 : vp_in (nI n) 2600 := zn_in hn (by omega)
  rw [nI_clamp (n := n) (by omega), z10 (c := 6) _ 6 rfl, z10 (c := 8) _ 8 rfl, nI_clamp (n := e * 10 + 6) (by omega), nI_clamp (n := e * 10 + 8) (by omega), hE e 6 he (by omega), hE e 8 he (by omega)]
  refine ⟨i1, nm_e ⟨i1, nm_e ⟨zn_in (by omega) (by omega), i1, nm_e ⟨zn_in (by omega) (by omega), i1, nm_e (nm_r (nI_1 n) (h _ _ _ _ ?_))⟩⟩⟩⟩
  intro i hi
  by_cases c : i = n
  · subst c
    rw [zx_pt1, z_us, z_us, z_us, z_us]
    refine ⟨⟨b0, b1, ?_, ?_⟩, rfl, rfl, zA rfl rfl, zA (zM rfl rfl) rfl⟩
    · show -48 ≤ g (9 + e) 6 + sv ∧ g (9 + e) 6 + sv ≤ 64
      omega
    · show 0 ≤ 8 * g (9 + e) 8 + lt ∧ 8 * g (9 + e) 8 + lt ≤ 63
      omega
  · rw [zx_pt2 c, z_un c, z_un c, z_un c, z_un c]
    exact hS i (by omega)
theorem zx_d0 {post : SX → Prop} {K : Nat → Nat → Int} {b n : Nat} {fr : Int} (f0 : 0 ≤ fr ∧ fr < 3506400) (hS : zx_Sg K n sS sV sO sB) (hn : n ≤ 2600) (h : ∀ n', b ≤ n' → n' ≤ n → (∀ i, n' ≤ i → i < n → fr ≤ K i 0) → (b < n' → K (n' - 1) 0 < fr) → post (xl, xm, xr, xe, xa, nI n', xc, dD, dR, dE, dF, dA, dU, sS, sV, sO, sB)) : ∀ (d f m : Nat), m = b + d → d < f → m ≤ n → (∀ i, m ≤ i → i < n → fr ≤ K i 0) → wX_dropSegments_0 post (nI b) (iI fr) xl xm xr xe xa xc dD dR dE dF dA dU sS sV sO sB f (nI m) := by
  intro d
  induction d with
  | zero =>
    intro f m hm hf hmn hd
    obtain ⟨f, rfl⟩ : ∃ k, f = k + 1 := ⟨f - 1, by omega⟩
    exact zk_le m b (fun _ => h m (by omega) hmn hd (fun l => by omega)) (fun l => absurd l (by omega)) rfl rfl (by omega) (by omega)
  | succ d ih =>
    intro f m hm hf hmn hd
    obtain ⟨f, rfl⟩ : ∃ k, f = k + 1 := ⟨f - 1, by omega⟩
    refine zk_le m b (fun l => absurd l (by omega)) (fun _ => ?_) rfl rfl (by omega) (by omega)
    have s1 := hS (m - 1) (by omega)
    have s2 := s1.1.1
    rw [zn_s (by omega), nI_clamp (by omega), s1.2.1]
    refine ⟨zn_in (by omega) (by omega), zb_lt (K (m - 1) 0) fr (fun l => h m (by omega) hmn hd (fun _ => l)) (fun l => nm_e ?_) rfl rfl⟩
    refine ih f (m - 1) (by omega) (by omega) (by omega) (fun i i1 i2 => ?_)
    by_cases c : i = m - 1
    · subst c; exact l
    · exact hd i (by omega) i2
theorem zx_drop {post : SX → Prop} {K : Nat → Nat → Int} {b n : Nat} {fr : Int} (f0 : 0 ≤ fr ∧ fr < 3506400) (hS : zx_Sg K n sS sV sO sB) (hn : n ≤ 2600) (hb : b ≤ n) (h : ∀ n', b ≤ n' → n' ≤ n → (∀ i, n' ≤ i → i < n → fr ≤ K i 0) → (b < n' → K (n' - 1) 0 < fr) → post (xl, xm, xr, xe, xa, nI n', xc, dD, dR, dE, dF, dA, dU, sS, sV, sO, sB)) : wpX_dropSegments post (xl, xm, xr, xe, xa, nI n, xc, dD, dR, dE, dF, dA, dU, sS, sV, sO, sB) (nI b) (iI fr) := by
  unfold wpX_dropSegments
  dsimp only
  exact ⟨n - b + 1, zx_d0 f0 hS hn h (n - b) (n - b + 1) n (by omega) (by omega) (by omega) (fun i i1 i2 => by omega)⟩
/-- one era, its activations one by one -/
theorem zx_e61 {post : SX → Prop} {s e b : Nat} {st en : Int} (w : zq_wf g rc ec) (A : zx_Acts g rc L G dF dA dU) (hR : zx_R g rc dR) (hE : zx_E g ec dE) (he : e < ec) (hs4 : s < 4) (hs : g (9 + e) 7 = (s : Int)) (s0 : 0 ≤ st) (s1 : st < en) (s2 : en ≤ 3506400) (hb : b ≤ 1183) (K0 : Nat → Nat → Int) (h : ∀ n K sS' sV' sO' sB', b < n → n ≤ b + 1 + zx_ct g rc L (g (9 + e) 6) (G s) en (G (s + 1) - G s) → zx_Sg K n sS' sV' sO' sB' → (∀ i, i < b → K i = K0 i) → K b 0 = st → zx_Cov K b n en (zx_ve g rc e) → post (xl, xm, xr, xe, xa, nI n, xc, dD, dR, dE, dF, dA, dU, sS', sV', sO', sB')) : ∀ (r d f n : Nat) (K : Nat → Nat → Int) (sS sV sO sB : Nat → Int32), G s + d + r = G (s + 1) → r < f → b < n → n ≤ b + 1 + zx_ct g rc L (g (9 + e) 6) (G s) en d → zx_Sg K n sS sV sO sB → (∀ i, i < b → K i = K0 i) → K b 0 = st → zx_Cov K b n en (fun t => zx_vo g e (zx_fp g rc L (g (9 + e) 6) (G s) d t)) → wX_addEraSegments_61 post (nI e) (iI st) (iI en) (nI s) (nI b) (nI (G s)) f (nI (G s + d)) xl xm xr xe xa (nI n) xc dD dR dE dF dA dU sS sV sO sB := by
  have hec : ec ≤ 8 := w.2.1
  have hrc : rc ≤ 8 := w.1
  have hG := (A.2.1 s hs4).1
  have g4 := (A.2.1 s hs4).2
  have g8 := A.2.2.2
  have E6 := (w.2.2.2.1 e he).2.1
  intro r
  induction r with
  | zero =>
    intro d f n K sS sV sO sB hd hf hbn hn hS hK hKb hC
    obtain ⟨f, rfl⟩ : ∃ k, f = k + 1 := ⟨f - 1, by omega⟩
    unfold wX_addEraSegments_61
    rw [nI_1 s, nI_clamp (n := s + 1) (by omega), A.2.2.1 (s + 1) (by omega)]
    refine ⟨zn_in (by omega) (by omega), zk_le (G (s + 1)) (G s + d) (fun _ => ?_) (fun l => absurd l (by omega)) rfl rfl (by omega) (by omega)⟩
    refine h n K sS sV sO sB hbn (by rw [show G (s + 1) - G s = d by omega]; exact hn) hS hK hKb ?_
    refine zx_Covc hC (fun i t _ _ _ _ => ?_)
    rw [zx_fpE hG hs d (by omega) (fun q q1 q2 => by omega)]
    unfold zx_vo zx_ve zq_of zq_ab zq_s
    rw [if_pos (by omega)]
  | succ r ih =>
    intro d f n K sS sV sO sB hd hf hbn hn hS hK hKb hC
    obtain ⟨f, rfl⟩ : ∃ k, f = k + 1 := ⟨f - 1, by omega⟩
    have cd := zx_ctd (g := g) (rc := rc) (L := L) (o := g (9 + e) 6) (lo := G s) (lim := en) d
    unfold wX_addEraSegments_61
    rw [nI_1 s, nI_clamp (n := s + 1) (by omega), A.2.2.1 (s + 1) (by omega), z10 (c := 6) _ 6 rfl, nI_clamp (n := e * 10 + 6) (by omega), hE e 6 he (by omega)]
    refine ⟨zn_in (by omega) (by omega), zk_le (G (s + 1)) (G s + d) (fun l => absurd l (by omega)) (fun _ => ⟨zn_in (by omega) (by omega), ?_⟩) rfl rfl (by omega) (by omega)⟩
    refine zx_moment w A hR hs4 (by omega) (by omega) ?_
    have V := hG.2.1 (G s + d) (by omega) (by omega)
    have l1 := V.1
    have b1 := (zq_acb w V.1).1
    have b2 := zq_mob w V.1 E6.1 E6.2
    have ef : ∀ t, zx_fp g rc L (g (9 + e) 6) (G s) (d + 1) t = if zq_mo g rc (g (9 + e) 6) (L (G s + d)) ≤ t then some (L (G s + d)) else zx_fp g rc L (g (9 + e) 6) (G s) d t := fun t => rfl
    have ec' : zx_ct g rc L (g (9 + e) 6) (G s) en (d + 1) = zx_ct g rc L (g (9 + e) 6) (G s) en d + if zq_mo g rc (g (9 + e) 6) (L (G s + d)) < en then 1 else 0 := rfl
    refine zb_le en (zq_mo g rc (g (9 + e) 6) (L (G s + d))) (fun l => nm_r (nI_1 _) ?_) (fun l => ?_) rfl rfl
    · refine ih (d + 1) f n K sS sV sO sB (by omega) (by omega) hbn (by rw [ec']; omega) hS hK hKb (zx_Covc hC (fun i t _ _ _ lt => ?_))
      rw [ef t, if_neg (by omega)]
    · rw [if_pos l] at ec'
      have W : ∀ fr : Int, (fr = zq_mo g rc (g (9 + e) 6) (L (G s + d)) ∨ fr = st) → zq_mo g rc (g (9 + e) 6) (L (G s + d)) ≤ fr → st ≤ fr → fr < en → wX_addEraSegments_115 post (wX_addEraSegments_61 post (nI e) (iI st) (iI en) (nI s) (nI b) (nI (G s)) f) (nI e) (iI st) (iI en) (nI s) (nI b) (nI (G s)) (nI (G s + d)) (iI fr) xl xm xr xe xa (nI n) xc dD dR dE dF dA dU sS sV sO sB := by
        intro fr f1 f2 f3 f4
        unfold wX_addEraSegments_115
        refine zx_drop (K := K) (by omega) hS (by omega) (by omega) ?_
        intro n' n1 n2 n3 n4
        dsimp only
        rw [nI_clamp (n := G s + d) (by omega), (A.1 (G s + d) (by omega)).2]
        refine ⟨zn_in (by omega) (by omega), nm_r (e' := nI (L (G s + d) / 100 * 11)) (zn_mul _ 11) ?_⟩
        rw [show nI (L (G s + d) / 100 * 11) + 9 = nI (L (G s + d) / 100 * 11 + 9) from nI_add _ 9, show nI (L (G s + d) / 100 * 11) + 10 = nI (L (G s + d) / 100 * 11 + 10) from nI_add _ 10, nI_clamp (by omega), nI_clamp (by omega)]
        refine ⟨zn_in (by omega) (by omega), zn_in (by omega) (by omega), ?_⟩
        have D := w.2.2.1 _ V.1
        have D9 := D.2.2.2.2.2.2.1
        have D10 := D.2.2.2.2.2.2.2
        refine zx_push (K := K) (n := n') w hE he (by omega) (fun i hi => hS i (by omega)) (by omega) D9 D10 rfl (hR _ 9 V.1 (by omega)) (hR _ 10 V.1 (by omega)) ?_
        intro sS' sV' sO' sB' hS'
        refine nm_r (nI_1 _) ?_
        have Kge : ∀ i, b ≤ i → i < n → st ≤ K i 0 := by
          intro i i1 i2
          have q := zx_Covs hC (i - b) b (by omega) (by omega)
          rw [show b + (i - b) = i by omega, hKb] at q
          omega
        refine ih (d + 1) f (n' + 1) _ sS' sV' sO' sB' (by omega) (by omega) (by omega) (by omega) hS' ?_ ?_ ?_
        · intro i hi
          rw [zx_pt2 (by omega)]; exact hK i hi
        · by_cases c : b = n'
          · rw [← c, zx_pt1]
            show fr = st
            have q := n3 b (by omega) hbn
            omega
          · rw [zx_pt2 c]; exact hKb
        · refine zx_Covp hC n1 n2 n3 n4 f4 rfl (fun t t1 t2 j j1 j2 => ?_) (fun i t i1 i2 i3 t2 => ?_)
          · rw [ef t, if_pos (by omega)]
            exact zx_kj rfl rfl rfl j j1 j2
          · have q := Kge i i1 (by omega)
            rw [ef t, if_neg (by omega)]
      refine zb_le (zq_mo g rc (g (9 + e) 6) (L (G s + d))) st (fun l' => W st (Or.inr rfl) l' (by omega) s1) (fun l' => W _ (Or.inl rfl) (by omega) (by omega) l) rfl rfl
theorem zx_addEra {post : SX → Prop} {e b : Nat} {st en : Int} {K0 : Nat → Nat → Int} (w : zq_wf g rc ec) (A : zx_Acts g rc L G dF dA dU) (hR : zx_R g rc dR) (hE : zx_E g ec dE) (he : e < ec) (s0 : 0 ≤ st) (s1 : st < en) (s2 : en ≤ 3506400) (hb : b ≤ 1183) (hS : zx_Sg K0 b sS sV sO sB) (h : ∀ n K sS' sV' sO' sB', b < n → n ≤ b + 801 → (en ≤ 702096 → n ≤ b + 169) → zx_Sg K n sS' sV' sO' sB' → (∀ i, i < b → K i = K0 i) → K b 0 = st → zx_Cov K b n en (zx_ve g rc e) → post (xl, xm, xr, xe, xa, nI n, xc, dD, dR, dE, dF, dA, dU, sS', sV', sO', sB')) : wpX_addEraSegments post (xl, xm, xr, xe, xa, nI b, xc, dD, dR, dE, dF, dA, dU, sS, sV, sO, sB) (nI e) (iI st) (iI en) := by
  have hec : ec ≤ 8 := w.2.1
  have E6 := (w.2.2.2.1 e he).2.1
  have E7 := (w.2.2.2.1 e he).2.2.1
  have g8 := A.2.2.2
  unfold wpX_addEraSegments
  dsimp only
  rw [z10 (c := 7) _ 7 rfl, nI_clamp (by omega), hE e 7 he (by omega)]
  refine ⟨zn_in (by omega) (by omega), nm_e ?_⟩
  have K1 : ∀ (k : Nat → Int) (v : Int → Nat → Int), k 0 = st → (∀ t, ∀ j, 1 ≤ j → j ≤ 3 → k j = v t j) → zx_Cov (zx_put K0 b k) b (b + 1) en v := by
    intro k v k0 kv
    refine ⟨fun i i1 i2 => ?_, fun i i1 i2 => by omega, fun i t i1 i2 i3 i4 i5 j j1 j2 => ?_⟩
    · rw [show i = b by omega, zx_pt1, k0]; exact s1
    · rw [show i = b by omega, zx_pt1]; exact kv t j j1 j2
  refine zb_lt (g (9 + e) 7) 16 (fun l => ?_) (fun l => ?_) rfl rfl
  · obtain ⟨s, hs⟩ : ∃ s : Nat, g (9 + e) 7 = (s : Int) := ⟨(g (9 + e) 7).toNat, by omega⟩
    have g1 := (A.2.1 s (by omega)).2
    have hG := (A.2.1 s (by omega)).1
    have g2 := hG.1
    rw [hs, ← zi_n, nI_clamp (n := s) (by omega), A.2.2.1 s (by omega)]
    refine ⟨zn_in (by omega) (by omega), nm_e ?_⟩
    refine zx_push (K := K0) (st := st) (sv := 0) (lt := 0) w hE he (by omega) hS (by omega) (by omega) (by omega) rfl rfl rfl ?_
    intro sS' sV' sO' sB' hS'
    refine ⟨G (s + 1) - G s + 1, ?_⟩
    refine zx_e61 w A hR hE he (by omega) hs s0 s1 s2 hb K0 ?_ (G (s + 1) - G s) 0 _ (b + 1) _ sS' sV' sO' sB' (by omega) (by omega) (by omega) (by rw [zx_ct]; omega) hS' (fun i hi => zx_pt2 (by omega)) (by rw [zx_pt1]; rfl) (K1 _ _ rfl (fun t j j1 j2 => zx_kj rfl (by simp [zq_sv, zx_fp]) (by simp [zq_sv, zx_fp]) j j1 j2))
    intro n K sS' sV' sO' sB' n1 n2 n3 n4 n5 n6
    have cd := zx_ctd (g := g) (rc := rc) (L := L) (o := g (9 + e) 6) (lo := G s) (lim := en) (G (s + 1) - G s)
    refine h n K sS' sV' sO' sB' n1 (by omega) (fun hl => ?_) n3 n4 n5 n6
    have := zx_ct168 w he hG hl (d := G (s + 1) - G s) (by omega)
    omega
  · rw [show iI (g (9 + e) 7) - 16 = iI (g (9 + e) 7 - 16) from zS rfl rfl]
    refine zx_push (K := K0) (st := st) (sv := g (9 + e) 7 - 16) (lt := 0) w hE he (by omega) hS (by omega) (by omega) (by omega) rfl rfl rfl ?_
    intro sS' sV' sO' sB' hS'
    refine h (b + 1) _ sS' sV' sO' sB' (by omega) (by omega) (fun _ => by omega) hS' (fun i hi => zx_pt2 (by omega)) (by rw [zx_pt1]; rfl) (K1 _ _ rfl (fun t j j1 j2 => ?_))
    unfold zx_ve zq_of zq_ab zq_s
    rw [if_neg (by omega), zq_fn w (by omega)]
    exact zx_kj rfl rfl rfl j j1 j2
end
end
section
/-! 14: buildSegments, mergeSegments, the component's compile -/
def zx_df (a b : Nat → Int) : Prop := ∃ j, 1 ≤ j ∧ j ≤ 3 ∧ a j ≠ b j
theorem zx_dfn {a b : Nat → Int} (h : ¬ zx_df a b) : ∀ j, 1 ≤ j → j ≤ 3 → a j = b j := by
  intro j j1 j2
  by_cases e : a j = b j
  · exact e
  · exact absurd ⟨j, j1, j2, e⟩ h
def zx_Cmp (g : Nat → Nat → Int) (rc ec : Nat) (K : Nat → Nat → Int) (n : Nat) (sS sV sO sB : Nat → Int32) : Prop :=
  0 < n ∧ n ≤ 2600 ∧ zx_Sg K n sS sV sO sB ∧ zx_Cov K 0 n 3506400 (zx_vt g rc ec) ∧ K 0 0 = 0 ∧ ∀ i, i + 1 < n → zx_df (K i) (K (i + 1))
def zx_SI (g : Nat → Nat → Int) (rc ec : Nat) (K : Nat → Nat → Int) (n : Nat) (lim : Int) : Prop := zx_Cov K 0 n lim (zx_vt g rc ec) ∧ (0 < lim → 0 < n) ∧ (0 < n → K 0 0 = 0)
section
variable {g : Nat → Nat → Int} {rc ec : Nat} {L G : Nat → Nat} {xl xm xr xe xa xs xc : Int32} {dD dR dE dF dA dU sS sV sO sB : Nat → Int32}
theorem zx_bs9 {post : SX → Prop} (w : zq_wf g rc ec) (A : zx_Acts g rc L G dF dA dU) (hR : zx_R g rc dR) (hE : zx_E g ec dE) (hxe : xe = nI ec) (hl : g (9 + (ec - 1)) 9 = 99) (h : ∀ n K sS' sV' sO' sB', n ≤ 2600 → zx_Sg K n sS' sV' sO' sB' → zx_SI g rc ec K n 3506400 → post (xl, xm, xr, xe, xa, nI n, xc, dD, dR, dE, dF, dA, dU, sS', sV', sO', sB')) : ∀ (d e f n : Nat) (K : Nat → Nat → Int) (sS sV sO sB : Nat → Int32), e + d + 1 = ec → d + 1 < f → n ≤ 169 * e → zx_Sg K n sS sV sO sB → zx_SI g rc ec K n (zq_st g rc e) → wX_buildSegments_9 post f (iI (zq_st g rc e)) (nI e) xl xm xr xe xa (nI n) xc dD dR dE dF dA dU sS sV sO sB := by
  have hec : ec ≤ 8 := w.2.1
  intro d
  induction d with
  | zero =>
    intro e f n K sS sV sO sB hd hf hn hS I
    obtain ⟨f, rfl⟩ : ∃ k, f = k + 1 := ⟨f - 1, by omega⟩
    have sb := zq_stb w e (by omega)
    rw [hxe]
    refine zk_le ec e (fun l => absurd l (by omega)) (fun _ => ?_) rfl rfl (by omega) (by omega)
    rw [← hxe]
    refine zx_eraEnd w A hR hE (by omega) sb.1 sb.2 (fun l => absurd l (by omega)) (fun _ => ?_) hl
    refine zb_le 3506400 (zq_st g rc e) (fun l => absurd l (by omega)) (fun _ => ?_) rfl rfl
    refine zx_addEra w A hR hE (by omega) sb.1 (by omega) (by omega) (by omega) hS ?_
    intro n' K' sS' sV' sO' sB' n1 n2 n3 n4 n5 n6 n7
    refine nm_r (nI_1 e) ?_
    obtain ⟨f, rfl⟩ : ∃ k, f = k + 1 := ⟨f - 1, by omega⟩
    rw [hxe]
    refine zk_le ec (e + 1) (fun _ => ?_) (fun l => absurd l (by omega)) rfl rfl (by omega) (by omega)
    rw [← hxe]
    refine h n' K' sS' sV' sO' sB' (by omega) n4 ⟨zx_Covj (zx_Covk I.1 n5) (zx_Covc n7 (fun i t i1 i2 i3 i4 => ?_)) n1 n6 (by omega), fun _ => by omega, fun _ => ?_⟩
    · have q := zx_Covs n7 (i - n) n (by omega) (by omega)
      rw [show n + (i - n) = i by omega, n6] at q
      unfold zx_vt
      rw [zq_erE w (e := e) (by omega) (by omega) (fun l => absurd l (by omega))]
    · by_cases c : 0 < n
      · rw [n5 0 c]; exact I.2.2 c
      · have : n = 0 := by omega
        subst this
        rw [n6]
        by_cases c' : 0 < zq_st g rc e
        · exact absurd (I.2.1 c') (by omega)
        · omega
  | succ d ih =>
    intro e f n K sS sV sO sB hd hf hn hS I
    obtain ⟨f, rfl⟩ : ∃ k, f = k + 1 := ⟨f - 1, by omega⟩
    have sb := zq_stb w e (by omega)
    have sb' := zq_stb w (e + 1) (by omega)
    have sm := zq_stm w (e := e) (by omega)
    rw [hxe]
    refine zk_le ec e (fun l => absurd l (by omega)) (fun _ => ?_) rfl rfl (by omega) (by omega)
    rw [← hxe]
    refine zx_eraEnd w A hR hE (by omega) sb.1 sb.2 (fun _ => ?_) (fun l => absurd l (by omega)) hl
    show (iI (zq_st g rc (e + 1)) ≤ _ → _) ∧ _
    refine zb_le (zq_st g rc (e + 1)) (zq_st g rc e) (fun l => nm_r (nI_1 e) ?_) (fun l => ?_) rfl rfl
    · refine ih (e + 1) f n K sS sV sO sB (by omega) (by omega) (by omega) hS ?_
      rw [show zq_st g rc (e + 1) = zq_st g rc e by omega]
      exact I
    · refine zx_addEra (en := zq_st g rc (e + 1)) w A hR hE (by omega) sb.1 (by omega) (by omega) (by omega) hS ?_
      intro n' K' sS' sV' sO' sB' n1 n2 n3 n4 n5 n6 n7
      refine nm_r (nI_1 e) ?_
      have n3' := n3 (by omega)
      refine ih (e + 1) f n' K' sS' sV' sO' sB' (by omega) (by omega) (by omega) n4 ⟨zx_Covj (zx_Covk I.1 n5) (zx_Covc n7 (fun i t i1 i2 i3 i4 => ?_)) n1 n6 (by omega), fun _ => by omega, fun _ => ?_⟩
      · have q := zx_Covs n7 (i - n) n (by omega) (by omega)
        rw [show n + (i - n) = i by omega, n6] at q
        unfold zx_vt
        rw [zq_erE w (e := e) (by omega) (by omega) (fun _ => i4)]
      · by_cases c : 0 < n
        · rw [n5 0 c]; exact I.2.2 c
        · have : n = 0 := by omega
          subst this
          rw [n6]
          by_cases c' : 0 < zq_st g rc e
          · exact absurd (I.2.1 c') (by omega)
          · omega
theorem zx_bseg {post : SX → Prop} (w : zq_wf g rc ec) (A : zx_Acts g rc L G dF dA dU) (hR : zx_R g rc dR) (hE : zx_E g ec dE) (hxe : xe = nI ec) (h1 : 0 < ec) (hl : g (9 + (ec - 1)) 9 = 99) (h : ∀ n K sS' sV' sO' sB', n ≤ 2600 → zx_Sg K n sS' sV' sO' sB' → zx_SI g rc ec K n 3506400 → post (xl, xm, xr, xe, xa, nI n, xc, dD, dR, dE, dF, dA, dU, sS', sV', sO', sB')) : wpX_buildSegments post (xl, xm, xr, xe, xa, xs, xc, dD, dR, dE, dF, dA, dU, sS, sV, sO, sB) := by
  unfold wpX_buildSegments
  dsimp only
  refine ⟨ec + 1, zx_bs9 w A hR hE hxe hl h (ec - 1) 0 (ec + 1) 0 (fun _ _ => 0) sS sV sO sB (by omega) (by omega) (by omega) (fun i hi => by omega) ⟨⟨fun i _ hi => by omega, fun i _ hi => by omega, fun i t _ hi => by omega⟩, fun hi => ?_, fun hi => by omega⟩⟩
  rw [zq_st] at hi; omega
theorem zx_differ {post : Int32 → Prop} {p q : Nat} {a b : Nat → Int} (hp : p < 2600) (hq : q < 2600) (Ka : zx_Kb a) (Kb : zx_Kb b) (a1 : sV p = iI (a 1)) (a2 : sO p = iI (a 2)) (a3 : sB p = iI (a 3)) (b1 : sV q = iI (b 1)) (b2 : sO q = iI (b 2)) (b3 : sB q = iI (b 3)) (h0 : ¬ zx_df a b → post 0) (h1 : zx_df a b → post 1) : wpX_differ post (xl, xm, xr, xe, xa, xs, xc, dD, dR, dE, dF, dA, dU, sS, sV, sO, sB) (nI p) (nI q) := by
  obtain ⟨_, ⟨p1, p2⟩, ⟨p3, p4⟩, ⟨p5, p6⟩⟩ := Ka
  obtain ⟨_, ⟨q1, q2⟩, ⟨q3, q4⟩, ⟨q5, q6⟩⟩ := Kb
  have i1 : vp_in (nI p) 2600 := zn_in hp (by omega)
  have i2 : vp_in (nI q) 2600 := zn_in hq (by omega)
  unfold wpX_differ
  dsimp only
  rw [nI_clamp (n := p) (by omega), nI_clamp (n := q) (by omega)]
  refine ⟨i1, i2, zb_eq (a 1) (b 1) (fun e1 => ⟨i1, i2, zb_eq (a 2) (b 2) (fun e2 => ⟨i1, i2, zb_eq (a 3) (b 3) (fun e3 => h0 ?_) (fun e => h1 ⟨3, by omega, by omega, e⟩) a3 b3⟩) (fun e => h1 ⟨2, by omega, by omega, e⟩) a2 b2⟩) (fun e => h1 ⟨1, by omega, by omega, e⟩) a1 b1⟩
  rintro ⟨j, j1, j2, j3⟩
  have : j = 1 ∨ j = 2 ∨ j = 3 := by omega
  rcases this with rfl | rfl | rfl
  · exact j3 e1
  · exact j3 e2
  · exact j3 e3
/-- where segment m begins; behind the last one the end -/
def zx_lm (K : Nat → Nat → Int) (n m : Nat) : Int := if m < n then K m 0 else 3506400
def zx_MI (g : Nat → Nat → Int) (rc ec : Nat) (K : Nat → Nat → Int) (n k m : Nat) (K' : Nat → Nat → Int) (sS sV sO sB : Nat → Int32) : Prop :=
  k ≤ m ∧ (0 < m → 0 < k) ∧ zx_Sg K' k sS sV sO sB ∧ (∀ i, m ≤ i → i < n → sS i = iI (K i 0) ∧ sV i = iI (K i 1) ∧ sO i = iI (K i 2) ∧ sB i = iI (K i 3)) ∧
  zx_Cov K' 0 k (zx_lm K n m) (zx_vt g rc ec) ∧ (0 < k → K' 0 0 = 0) ∧ ∀ i, i + 1 < k → zx_df (K' i) (K' (i + 1))
theorem zx_lmm {K : Nat → Nat → Int} {n m : Nat} {v : Int → Nat → Int} (h : zx_Cov K 0 n 3506400 v) (hm : m < n) : zx_lm K n m = K m 0 ∧ K m 0 < zx_lm K n (m + 1) ∧ zx_lm K n (m + 1) ≤ 3506400 := by
  unfold zx_lm
  rw [if_pos hm]
  refine ⟨rfl, ?_⟩
  split
  · have := h.1 (m + 1) (by omega) (by assumption)
    exact ⟨h.2.1 m (by omega) (by assumption), by omega⟩
  · exact ⟨h.1 m (by omega) hm, by omega⟩
theorem zx_lmv {K : Nat → Nat → Int} {n m : Nat} {v : Int → Nat → Int} (h : zx_Cov K 0 n 3506400 v) (hm : m < n) {t : Int} (t0 : K m 0 ≤ t) (t1 : t < zx_lm K n (m + 1)) : ∀ j, 1 ≤ j → j ≤ 3 → K m j = v t j := by
  have q := zx_lmm h hm
  refine h.2.2 m t (by omega) hm t0 (by omega) (fun l => ?_)
  unfold zx_lm at t1
  rw [if_pos l] at t1
  exact t1
theorem zx_MIput {K K' : Nat → Nat → Int} {n k m : Nat} {sS sV sO sB sS' sV' sO' sB' : Nat → Int32} (hC : zx_SI g rc ec K n 3506400) (hm : m < n) (I : zx_MI g rc ec K n k m K' sS sV sO sB) (hb : zx_Kb (K m)) (hd : 0 < k → zx_df (K' (k - 1)) (K m)) (e1 : sS' = upd sS k (sS m)) (e2 : sV' = upd sV k (sV m)) (e3 : sO' = upd sO k (sO m)) (e4 : sB' = upd sB k (sB m)) : zx_MI g rc ec K n (k + 1) (m + 1) (zx_put K' k (K m)) sS' sV' sO' sB' := by
  subst e1; subst e2; subst e3; subst e4
  obtain ⟨i1, i2, i3, i4, i5, i6, i7⟩ := I
  have q := zx_lmm hC.1 hm
  have am := i4 m (by omega) hm
  refine ⟨by omega, fun _ => by omega, fun i hi => ?_, fun i h1 h2 => ?_, ?_, fun _ => ?_, fun i hi => ?_⟩
  · by_cases c : i = k
    · subst c
      rw [zx_pt1, z_us, z_us, z_us, z_us]
      exact ⟨hb, am⟩
    · rw [zx_pt2 c, z_un c, z_un c, z_un c, z_un c]
      exact i3 i (by omega)
  · have c : i ≠ k := by omega
    rw [z_un c, z_un c, z_un c, z_un c]
    exact i4 i (by omega) h2
  · refine zx_Covj (b := k) (st := K m 0) (zx_Covk (K := K') ?_ (fun i hi => zx_pt2 (by omega))) ?_ (by omega) (by rw [zx_pt1]) (by omega)
    · rw [← q.1]; exact i5
    · refine ⟨fun i h1 h2 => ?_, fun i h1 h2 => by omega, fun i t h1 h2 h3 h4 h5 j j1 j2 => ?_⟩
      · rw [show i = k by omega, zx_pt1]; exact q.2.1
      · rw [show i = k by omega, zx_pt1] at h3 ⊢
        exact zx_lmv hC.1 hm h3 h4 j j1 j2
  · by_cases c : k = 0
    · subst c
      rw [zx_pt1, show m = 0 by omega]
      exact hC.2.2 (by omega)
    · rw [zx_pt2 (by omega)]; exact i6 (by omega)
  · rw [zx_pt2 (i := i) (by omega)]
    by_cases c : i + 1 = k
    · rw [c, zx_pt1]
      have := hd (by omega)
      rw [show k - 1 = i by omega] at this
      exact this
    · rw [zx_pt2 c]; exact i7 i (by omega)
theorem zx_MIskip {K K' : Nat → Nat → Int} {n k m : Nat} {sS sV sO sB : Nat → Int32} (hC : zx_SI g rc ec K n 3506400) (hm : m < n) (I : zx_MI g rc ec K n k m K' sS sV sO sB) (hk : 0 < k) (hd : ¬ zx_df (K' (k - 1)) (K m)) : zx_MI g rc ec K n k (m + 1) K' sS sV sO sB := by
  obtain ⟨i1, i2, i3, i4, i5, i6, i7⟩ := I
  have q := zx_lmm hC.1 hm
  refine ⟨by omega, fun _ => hk, i3, fun i h1 h2 => i4 i (by omega) h2, ⟨fun i h1 h2 => ?_, i5.2.1, fun i t h1 h2 h3 h4 h5 j j1 j2 => ?_⟩, i6, i7⟩
  · have := i5.1 i h1 h2; omega
  · by_cases c : t < zx_lm K n m
    · exact i5.2.2 i t h1 h2 h3 c h5 j j1 j2
    · have ci : i = k - 1 := by
        by_cases c' : i + 1 < k
        · have := h5 c'
          have := i5.1 (i + 1) (by omega) c'
          omega
        · omega
      subst ci
      rw [zx_dfn hd j j1 j2]
      exact zx_lmv hC.1 hm (by omega) h4 j j1 j2
theorem zx_m4 {post : SX → Prop} {K : Nat → Nat → Int} {n : Nat} (hn : n ≤ 2600) (hC : zx_SI g rc ec K n 3506400) (hK : ∀ i, i < n → zx_Kb (K i)) (h : ∀ k K' sS' sV' sO' sB', zx_Cmp g rc ec K' k sS' sV' sO' sB' → post (xl, xm, xr, xe, xa, nI k, xc, dD, dR, dE, dF, dA, dU, sS', sV', sO', sB')) : ∀ (d m f k : Nat) (K' : Nat → Nat → Int) (sS sV sO sB : Nat → Int32), m + d = n → d < f → zx_MI g rc ec K n k m K' sS sV sO sB → wX_mergeSegments_4 post xl xm xr xe xa (nI n) xc f (nI k) (nI m) dD dR dE dF dA dU sS sV sO sB := by
  have n0 : 0 < n := hC.2.1 (by omega)
  intro d
  induction d with
  | zero =>
    intro m f k K' sS sV sO sB hd hf I
    obtain ⟨f, rfl⟩ : ∃ k, f = k + 1 := ⟨f - 1, by omega⟩
    refine zk_le n m (fun _ => ?_) (fun l => absurd l (by omega)) rfl rfl (by omega) (by omega)
    obtain ⟨i1, i2, i3, i4, i5, i6, i7⟩ := I
    have k0 := i2 (by omega)
    have el : zx_lm K n m = 3506400 := if_neg (by omega)
    rw [el] at i5
    exact h k K' sS sV sO sB ⟨k0, by omega, i3, i5, i6 k0, i7⟩
  | succ d ih =>
    intro m f k K' sS sV sO sB hd hf I
    obtain ⟨f, rfl⟩ : ∃ k, f = k + 1 := ⟨f - 1, by omega⟩
    have I' := I
    obtain ⟨i1, i2, i3, i4, i5, i6, i7⟩ := I'
    have am := i4 m (by omega) (by omega)
    refine zk_le n m (fun l => absurd l (by omega)) (fun _ => ?_) rfl rfl (by omega) (by omega)
    have W : (0 < k → zx_df (K' (k - 1)) (K m)) → wX_mergeSegments_27 post (wX_mergeSegments_4 post xl xm xr xe xa (nI n) xc f) (nI k) (nI m) xl xm xr xe xa (nI n) xc dD dR dE dF dA dU sS sV sO sB := by
      intro hdf
      have v1 : vp_in (nI m) 2600 := zn_in (by omega) (by omega)
      have v2 : vp_in (nI k) 2600 := zn_in (by omega) (by omega)
      unfold wX_mergeSegments_27
      rw [nI_clamp (n := m) (by omega), nI_clamp (n := k) (by omega)]
      refine ⟨v1, v2, nm_e ⟨v1, v2, nm_e ⟨v1, v2, nm_e ⟨v1, v2, nm_e (nm_r (nI_1 k) (nm_r (nI_1 m) ?_))⟩⟩⟩⟩
      exact ih (m + 1) f (k + 1) _ _ _ _ _ (by omega) (by omega) (zx_MIput hC (by omega) I (hK m (by omega)) hdf rfl rfl rfl rfl)
    refine zk_eq k 0 (fun e => W (fun l => absurd l (by omega))) (fun e => ?_) rfl rfl (by omega) (by omega)
    rw [zn_s (by omega)]
    have ak := i3 (k - 1) (by omega)
    refine zx_differ (a := K' (k - 1)) (b := K m) (by omega) (by omega) ak.1 (hK m (by omega)) ak.2.2.1 ak.2.2.2.1 ak.2.2.2.2 am.2.1 am.2.2.1 am.2.2.2 (fun hn' => ?_) (fun hy => ?_)
    · exact br_t rfl (nm_r (nI_1 m) (ih (m + 1) f k K' _ _ _ _ (by omega) (by omega) (zx_MIskip hC (by omega) I (by omega) hn')))
    · exact br_f (by decide) (W (fun _ => hy))
theorem zx_merge {post : SX → Prop} {K : Nat → Nat → Int} {n : Nat} (hn : n ≤ 2600) (hC : zx_SI g rc ec K n 3506400) (hS : zx_Sg K n sS sV sO sB) (h : ∀ k K' sS' sV' sO' sB', zx_Cmp g rc ec K' k sS' sV' sO' sB' → post (xl, xm, xr, xe, xa, nI k, xc, dD, dR, dE, dF, dA, dU, sS', sV', sO', sB')) : wpX_mergeSegments post (xl, xm, xr, xe, xa, nI n, xc, dD, dR, dE, dF, dA, dU, sS, sV, sO, sB) := by
  unfold wpX_mergeSegments
  dsimp only
  refine ⟨n + 1, zx_m4 hn hC (fun i hi => (hS i hi).1) h n 0 (n + 1) 0 (fun _ _ => 0) sS sV sO sB (by omega) (by omega) ⟨by omega, fun l => by omega, fun i hi => by omega, fun i _ hi => (hS i hi).2, ⟨fun i _ hi => by omega, fun i _ hi => by omega, fun i t _ hi => by omega⟩, fun l => by omega, fun i hi => by omega⟩⟩
theorem zx_last {post : Int32 → Prop} (hE : zx_E g ec dE) (hec : ec ≤ 8) (hxe : xe = nI ec) (w9 : ∀ e, e < ec → 0 ≤ g (9 + e) 9 ∧ g (9 + e) 9 ≤ 99) (h0 : (ec = 0 ∨ (0 < ec ∧ g (9 + (ec - 1)) 9 ≠ 99)) → post 0) (h1 : 0 < ec → g (9 + (ec - 1)) 9 = 99 → post 1) : wpX_lastEraEndless post (xl, xm, xr, xe, xa, xs, xc, dD, dR, dE, dF, dA, dU, sS, sV, sO, sB) := by
  unfold wpX_lastEraEndless
  dsimp only
  rw [hxe]
  refine zk_le ec 0 (fun l => h0 (Or.inl (by omega))) (fun l => ?_) rfl rfl (by omega) (by omega)
  have q := w9 (ec - 1) (by omega)
  rw [zn_s l, z10 (c := 9) _ 9 rfl, nI_clamp (by omega), hE (ec - 1) 9 (by omega) (by omega)]
  exact ⟨zn_in (by omega) (by omega), zb_eq (g (9 + (ec - 1)) 9) 99 (fun c => h1 l c) (fun c => h0 (Or.inr ⟨l, c⟩)) rfl rfl⟩
theorem zx_compile {post : Int32 → SX → Prop} (w : zq_wf g rc ec) (hR : zx_R g rc dR) (hE : zx_E g ec dE) (hxr : xr = nI rc) (hxe : xe = nI ec) (hxc : xc = 0) (h0 : (ec = 0 ∨ (0 < ec ∧ g (9 + (ec - 1)) 9 ≠ 99)) → post (-1007) (xl, xm, xr, xe, xa, xs, xc, dD, dR, dE, dF, dA, dU, sS, sV, sO, sB)) (h1 : 0 < ec → g (9 + (ec - 1)) 9 = 99 → ∀ k K xa' dF' dA' dU' sS' sV' sO' sB', zx_Cmp g rc ec K k sS' sV' sO' sB' → post 0 (xl, xm, xr, xe, xa', nI k, 1, dD, dR, dE, dF', dA', dU', sS', sV', sO', sB')) : wpX_compile post (xl, xm, xr, xe, xa, xs, xc, dD, dR, dE, dF, dA, dU, sS, sV, sO, sB) := by
  unfold wpX_compile
  dsimp only
  refine br_t hxc ?_
  refine zx_last hE w.2.1 hxe (fun e he => by have := (w.2.2.2.1 e he).2.2.2.2; omega) (fun c => br_t rfl (h0 c)) (fun l c => br_f (by decide) ?_)
  refine zx_build w hR hxr ?_
  intro L' G' xa' dF' dA' dU' A
  refine zx_bseg w A hR hE hxe l c ?_
  intro n K sS' sV' sO' sB' n1 n2 n3
  refine zx_merge n1 n3 n2 ?_
  intro k K' sS' sV' sO' sB' C
  exact h1 l c k K' _ _ _ _ _ _ _ _ C
end
end
section
/-! 15: the relation; drafts, count, field, clear -/
theorem zi_ex (x : Int32) : ∃ a : Int, -2147483648 ≤ a ∧ a < 2147483648 ∧ x = iI a := ⟨x.toInt, x.le_toInt, x.toInt_lt, (zi_t x).symm⟩
def zr_yrs (h : Nat → Int) : Prop := 0 ≤ h 6 ∧ h 6 ≤ 19 ∧ h 6 ≤ h 7 ∧ (h 7 = 99 ∨ h 7 ≤ 19)
def zr_N (rl el rc ec : Nat) (xl xm xr xe yl ym yr ye : Int32) : Prop := (1 ≤ rl ∧ rl ≤ 8) ∧ (1 ≤ el ∧ el ≤ 8) ∧ rc ≤ rl ∧ ec ≤ el ∧ xl = nI rl ∧ yl = nI rl ∧ xm = nI el ∧ ym = nI el ∧ xr = nI rc ∧ yr = nI rc ∧ xe = nI ec ∧ ye = nI ec
def zr_D (h : Nat → Int) (dD ys : Nat → Int32) : Prop := (∀ k, k < 8 → dD k = iI (h k) ∧ ys k = iI (h k)) ∧ zc_day h ∧ zr_yrs h
def zr_S (g : Nat → Nat → Int) (rc ec : Nat) (dR dE ys : Nat → Int32) : Prop := zy_in g ys ∧ zx_R g rc dR ∧ zx_E g ec dE ∧ zq_wf g rc ec
def zr_K (g : Nat → Nat → Int) (rc ec : Nat) (xs : Int32) (sS sV sO sB yA yP yT : Nat → Int32) : Prop := 0 < ec ∧ zy_ac g rc yA ∧ zy_pr g rc yP ∧ (∀ e, e < ec → yT e = iI (zq_st g rc e)) ∧ ∃ n K, xs = nI n ∧ zx_Cmp g rc ec K n sS sV sO sB
def zr_C (g : Nat → Nat → Int) (rc ec : Nat) (xs xc yc : Int32) (sS sV sO sB yA yP yT : Nat → Int32) : Prop := (xc = 0 ∧ yc = 0) ∨ (xc = 1 ∧ yc = 1 ∧ zr_K g rc ec xs sS sV sO sB yA yP yT)
/-- the relation: same source, and once compiled both tables speak of it -/
def i_Rel (k : Nat) (u : SX) (v : SY) : Prop := match u, v with
  | (xl, xm, xr, xe, xa, xs, xc, dD, dR, dE, dF, dA, dU, sS, sV, sO, sB), (yl, ym, yr, ye, yc, ys, yA, yP, yT) => ∃ (g : Nat → Nat → Int) (h : Nat → Int) (rl el rc ec : Nat), zr_N rl el rc ec xl xm xr xe yl ym yr ye ∧ zr_D h dD ys ∧ zr_S g rc ec dR dE ys ∧ zr_C g rc ec xs xc yc sS sV sO sB yA yP yT
theorem i_up {k : Nat} {u : SX} {v : SY} (h : i_Rel k u v) : i_Rel (k + 5) u v := h
section
variable {xl xm xr xe xa xs xc : Int32} {dD dR dE dF dA dU sS sV sO sB : Nat → Int32} {yl ym yr ye yc : Int32} {ys yA yP yT : Nat → Int32}
theorem zr_mk {k : Nat} (g : Nat → Nat → Int) (h : Nat → Int) (rl el rc ec : Nat) (hN : zr_N rl el rc ec xl xm xr xe yl ym yr ye) (hD : zr_D h dD ys) (hS : zr_S g rc ec dR dE ys) (hC : zr_C g rc ec xs xc yc sS sV sO sB yA yP yT) : i_Rel k (xl, xm, xr, xe, xa, xs, xc, dD, dR, dE, dF, dA, dU, sS, sV, sO, sB) (yl, ym, yr, ye, yc, ys, yA, yP, yT) := ⟨g, h, rl, el, rc, ec, hN, hD, hS, hC⟩
end
theorem zr_el {k : Nat} {u : SX} {v : SY} {P : SX → SY → Prop} (I : i_Rel k u v) (H : ∀ {xl xm xr xe xa xs xc : Int32} {dD dR dE dF dA dU sS sV sO sB : Nat → Int32} {yl ym yr ye yc : Int32} {ys yA yP yT : Nat → Int32} (g : Nat → Nat → Int) (h : Nat → Int) (rl el rc ec : Nat), zr_N rl el rc ec xl xm xr xe yl ym yr ye → zr_D h dD ys → zr_S g rc ec dR dE ys → zr_C g rc ec xs xc yc sS sV sO sB yA yP yT → P (xl, xm, xr, xe, xa, xs, xc, dD, dR, dE, dF, dA, dU, sS, sV, sO, sB) (yl, ym, yr, ye, yc, ys, yA, yP, yT)) : P u v := by
  match u, v, I with
  | (xl, xm, xr, xe, xa, xs, xc, dD, dR, dE, dF, dA, dU, sS, sV, sO, sB), (yl, ym, yr, ye, yc, ys, yA, yP, yT), ⟨g, h, rl, el, rc, ec, hN, hD, hS, hC⟩ => exact H g h rl el rc ec hN hD hS hC
section
variable {xl xm xr xe xa xs xc : Int32} {dD dR dE dF dA dU sS sV sO sB : Nat → Int32} {yl ym yr ye yc : Int32} {ys yA yP yT : Nat → Int32}
theorem zx_within {post : Int32 → Prop} {p0 p1 p2 : Int32} (a lo hi : Int) (h1 : lo ≤ a → a ≤ hi → post 1) (h0 : a < lo ∨ hi < a → post 0) (e0 : p0 = iI a := by rfl) (e1 : p1 = iI lo := by rfl) (e2 : p2 = iI hi := by rfl) (b1 : -2147483648 ≤ a := by omega) (b2 : a < 2147483648 := by omega) (b3 : -2147483648 ≤ lo := by omega) (b4 : lo < 2147483648 := by omega) (b5 : -2147483648 ≤ hi := by omega) (b6 : hi < 2147483648 := by omega) : wpX_within post (xl, xm, xr, xe, xa, xs, xc, dD, dR, dE, dF, dA, dU, sS, sV, sO, sB) p0 p1 p2 := by
  unfold wpX_within
  dsimp only
  exact zb_lt a lo (fun l => h0 (Or.inl l)) (fun l => zb_lt hi a (fun l' => h0 (Or.inr l')) (fun l' => h1 l l') e2 e0) e0 e1
theorem zx_draftDay {post : Int32 → SX → Prop} {a b c d : Int} (a1 : -2147483648 ≤ a) (a2 : a < 2147483648) (b1 : -2147483648 ≤ b) (b2 : b < 2147483648) (c1 : -2147483648 ≤ c) (c2 : c < 2147483648) (d1 : -2147483648 ≤ d) (d2 : d < 2147483648) (hb : ¬ ((1 ≤ a ∧ a ≤ 12) ∧ (0 ≤ b ∧ b ≤ 3) ∧ (0 ≤ c ∧ c ≤ 6) ∧ (1 ≤ d ∧ d ≤ 31)) → post (-1001) (xl, xm, xr, xe, xa, xs, xc, dD, dR, dE, dF, dA, dU, sS, sV, sO, sB)) (hk : ((1 ≤ a ∧ a ≤ 12) ∧ (0 ≤ b ∧ b ≤ 3) ∧ (0 ≤ c ∧ c ≤ 6) ∧ (1 ≤ d ∧ d ≤ 31)) → post 0 (xl, xm, xr, xe, xa, xs, xc, upd (upd (upd (upd dD 0 (iI a)) 1 (iI b)) 2 (iI c)) 3 (iI d), dR, dE, dF, dA, dU, sS, sV, sO, sB)) : wpX_draftDay post (xl, xm, xr, xe, xa, xs, xc, dD, dR, dE, dF, dA, dU, sS, sV, sO, sB) (iI a) (iI b) (iI c) (iI d) := by
  unfold wpX_draftDay
  dsimp only
  refine zx_within a 1 12 (fun l1 l2 => br_f (by decide) ?_) (fun l => br_t rfl (hb (by omega)))
  refine zx_within b 0 3 (fun l1 l2 => br_f (by decide) ?_) (fun l => br_t rfl (hb (by omega)))
  refine zx_within c 0 6 (fun l1 l2 => br_f (by decide) ?_) (fun l => br_t rfl (hb (by omega)))
  refine zx_within d 1 31 (fun l1 l2 => br_f (by decide) ?_) (fun l => br_t rfl (hb (by omega)))
  exact nm_e (nm_e (nm_e (nm_e (hk (by omega)))))
theorem zy_draftDay {post : Int32 → SY → Prop} {a b c d : Int} (a1 : -2147483648 ≤ a) (a2 : a < 2147483648) (b1 : -2147483648 ≤ b) (b2 : b < 2147483648) (c1 : -2147483648 ≤ c) (c2 : c < 2147483648) (d1 : -2147483648 ≤ d) (d2 : d < 2147483648) (hb : ¬ ((1 ≤ a ∧ a ≤ 12) ∧ (0 ≤ b ∧ b ≤ 3) ∧ (0 ≤ c ∧ c ≤ 6) ∧ (1 ≤ d ∧ d ≤ 31)) → post (-1001) (yl, ym, yr, ye, yc, ys, yA, yP, yT)) (hk : ((1 ≤ a ∧ a ≤ 12) ∧ (0 ≤ b ∧ b ≤ 3) ∧ (0 ≤ c ∧ c ≤ 6) ∧ (1 ≤ d ∧ d ≤ 31)) → post 0 (yl, ym, yr, ye, yc, upd (upd (upd (upd ys 0 (iI a)) 1 (iI b)) 2 (iI c)) 3 (iI d), yA, yP, yT)) : wpY_draftDay post (yl, ym, yr, ye, yc, ys, yA, yP, yT) (iI a) (iI b) (iI c) (iI d) := by
  unfold wpY_draftDay
  dsimp only
  refine zb_lt a 1 (fun l => hb (by omega)) (fun l1 => zb_lt 12 a (fun l => hb (by omega)) (fun l2 => ?_) rfl rfl) rfl rfl
  refine zb_lt b 0 (fun l => hb (by omega)) (fun l3 => zb_le b 3 (fun l4 => ?_) (fun l => hb (by omega)) rfl rfl) rfl rfl
  refine zb_lt c 0 (fun l => hb (by omega)) (fun l5 => zb_lt 6 c (fun l => hb (by omega)) (fun l6 => ?_) rfl rfl) rfl rfl
  refine zb_lt d 1 (fun l => hb (by omega)) (fun l7 => zb_le d 31 (fun l8 => ?_) (fun l => hb (by omega)) rfl rfl) rfl rfl
  exact nm_e (nm_e (nm_e (nm_e (hk (by omega)))))
theorem zx_draftTime {post : Int32 → SX → Prop} {a b : Int} (a1 : -2147483648 ≤ a) (a2 : a < 2147483648) (b1 : -2147483648 ≤ b) (b2 : b < 2147483648) (hb : ¬ ((0 ≤ a ∧ a ≤ 96) ∧ (0 ≤ b ∧ b ≤ 2)) → post (-1001) (xl, xm, xr, xe, xa, xs, xc, dD, dR, dE, dF, dA, dU, sS, sV, sO, sB)) (hk : ((0 ≤ a ∧ a ≤ 96) ∧ (0 ≤ b ∧ b ≤ 2)) → post 0 (xl, xm, xr, xe, xa, xs, xc, upd (upd dD 4 (iI a)) 5 (iI b), dR, dE, dF, dA, dU, sS, sV, sO, sB)) : wpX_draftTime post (xl, xm, xr, xe, xa, xs, xc, dD, dR, dE, dF, dA, dU, sS, sV, sO, sB) (iI a) (iI b) := by
  unfold wpX_draftTime
  dsimp only
  refine zx_within a 0 96 (fun l1 l2 => br_f (by decide) ?_) (fun l => br_t rfl (hb (by omega)))
  refine zx_within b 0 2 (fun l1 l2 => br_f (by decide) ?_) (fun l => br_t rfl (hb (by omega)))
  exact nm_e (nm_e (hk (by omega)))
theorem zy_draftTime {post : Int32 → SY → Prop} {a b : Int} (a1 : -2147483648 ≤ a) (a2 : a < 2147483648) (b1 : -2147483648 ≤ b) (b2 : b < 2147483648) (hb : ¬ ((0 ≤ a ∧ a ≤ 96) ∧ (0 ≤ b ∧ b ≤ 2)) → post (-1001) (yl, ym, yr, ye, yc, ys, yA, yP, yT)) (hk : ((0 ≤ a ∧ a ≤ 96) ∧ (0 ≤ b ∧ b ≤ 2)) → post 0 (yl, ym, yr, ye, yc, upd (upd ys 4 (iI a)) 5 (iI b), yA, yP, yT)) : wpY_draftTime post (yl, ym, yr, ye, yc, ys, yA, yP, yT) (iI a) (iI b) := by
  unfold wpY_draftTime
  dsimp only
  refine zb_lt a 0 (fun l => hb (by omega)) (fun l1 => zb_lt 96 a (fun l => hb (by omega)) (fun l2 => ?_) rfl rfl) rfl rfl
  refine zb_lt b 0 (fun l => hb (by omega)) (fun l3 => zb_le b 2 (fun l4 => ?_) (fun l => hb (by omega)) rfl rfl) rfl rfl
  exact nm_e (nm_e (hk (by omega)))
theorem zx_draftYears {post : Int32 → SX → Prop} {a b : Int} (a1 : -2147483648 ≤ a) (a2 : a < 2147483648) (b1 : -2147483648 ≤ b) (b2 : b < 2147483648) (hb : ¬ ((0 ≤ a ∧ a ≤ 19) ∧ (b = 99 ∨ (a ≤ b ∧ b ≤ 19))) → post (-1001) (xl, xm, xr, xe, xa, xs, xc, dD, dR, dE, dF, dA, dU, sS, sV, sO, sB)) (hk : ((0 ≤ a ∧ a ≤ 19) ∧ (b = 99 ∨ (a ≤ b ∧ b ≤ 19))) → post 0 (xl, xm, xr, xe, xa, xs, xc, upd (upd dD 6 (iI a)) 7 (iI b), dR, dE, dF, dA, dU, sS, sV, sO, sB)) : wpX_draftYears post (xl, xm, xr, xe, xa, xs, xc, dD, dR, dE, dF, dA, dU, sS, sV, sO, sB) (iI a) (iI b) := by
  unfold wpX_draftYears wX_draftYears_36
  dsimp only
  refine zx_within a 0 19 (fun l1 l2 => br_f (by decide) ?_) (fun l => br_t rfl (hb (by omega)))
  refine zb_eq b 99 (fun l => nm_e (nm_e (hk (by omega)))) (fun l => ?_) rfl rfl
  exact zx_within b a 19 (fun l1 l2 => br_f (by decide) (nm_e (nm_e (hk (by omega))))) (fun l => br_t rfl (hb (by omega)))
theorem zy_draftYears {post : Int32 → SY → Prop} {a b : Int} (a1 : -2147483648 ≤ a) (a2 : a < 2147483648) (b1 : -2147483648 ≤ b) (b2 : b < 2147483648) (hb : ¬ ((0 ≤ a ∧ a ≤ 19) ∧ (b = 99 ∨ (a ≤ b ∧ b ≤ 19))) → post (-1001) (yl, ym, yr, ye, yc, ys, yA, yP, yT)) (hk : ((0 ≤ a ∧ a ≤ 19) ∧ (b = 99 ∨ (a ≤ b ∧ b ≤ 19))) → post 0 (yl, ym, yr, ye, yc, upd (upd ys 6 (iI a)) 7 (iI b), yA, yP, yT)) : wpY_draftYears post (yl, ym, yr, ye, yc, ys, yA, yP, yT) (iI a) (iI b) := by
  unfold wpY_draftYears wY_draftYears_31
  dsimp only
  refine zb_lt a 0 (fun l => hb (by omega)) (fun l1 => zb_lt 19 a (fun l => hb (by omega)) (fun l2 => ?_) rfl rfl) rfl rfl
  refine zb_eq b 99 (fun l => nm_e (nm_e (hk (by omega)))) (fun l => ?_) rfl rfl
  exact zb_lt b a (fun l => hb (by omega)) (fun l3 => zb_le b 19 (fun l4 => nm_e (nm_e (hk (by omega)))) (fun l => hb (by omega)) rfl rfl) rfl rfl
end
/-- one draft cell stored on both sides -/
theorem zr_Du {h : Nat → Int} {dD ys : Nat → Int32} {j : Nat} {a : Int} (D : ∀ k, k < 8 → dD k = iI (h k) ∧ ys k = iI (h k)) : ∀ k, k < 8 → upd dD j (iI a) k = iI ((fun i => if i = j then a else h i) k) ∧ upd ys j (iI a) k = iI ((fun i => if i = j then a else h i) k) := by
  intro k hk
  by_cases e : k = j
  · subst e; dsimp only; rw [if_pos rfl, z_us, z_us]; exact ⟨rfl, rfl⟩
  · dsimp only; rw [if_neg e, z_un e, z_un e]; exact D k hk
theorem zr_Su {g : Nat → Nat → Int} {rc ec : Nat} {dR dE ys : Nat → Int32} {j : Nat} {x : Int32} (S : zr_S g rc ec dR dE ys) (hj : j < 8) : zr_S g rc ec dR dE (upd ys j x) :=
  ⟨fun row k h1 h2 h3 => by rw [z_un (by omega)]; exact S.1 row k h1 h2 h3, S.2⟩
theorem i_vc_draftDay {k : Nat} {u : SX} {v : SY} (I : i_Rel k u v) (hk : k + 5 ≤ 2562) (v1 : Int32) (v2 : Int32) (v3 : Int32) (v4 : Int32) : wpX_draftDay (fun r u' => wpY_draftDay (fun r' v' => r' = r ∧ i_Rel (k + 5) u' v') v v1 v2 v3 v4) u v1 v2 v3 v4 := by
  obtain ⟨a, a1, a2, rfl⟩ := zi_ex v1
  obtain ⟨b, b1, b2, rfl⟩ := zi_ex v2
  obtain ⟨c, c1, c2, rfl⟩ := zi_ex v3
  obtain ⟨d, d1, d2, rfl⟩ := zi_ex v4
  refine zr_el (P := fun u v => wpX_draftDay (fun r u' => wpY_draftDay (fun r' v' => r' = r ∧ i_Rel (k + 5) u' v') v (iI a) (iI b) (iI c) (iI d)) u (iI a) (iI b) (iI c) (iI d)) I ?_
  intro xl xm xr xe xa xs xc dD dR dE dF dA dU sS sV sO sB yl ym yr ye yc ys yA yP yT g h rl el rc ec hN hD hS hC
  refine zx_draftDay a1 a2 b1 b2 c1 c2 d1 d2 (fun l => zy_draftDay a1 a2 b1 b2 c1 c2 d1 d2 (fun _ => ⟨rfl, zr_mk g h rl el rc ec hN hD hS hC⟩) (fun l' => absurd l' l)) (fun l => zy_draftDay a1 a2 b1 b2 c1 c2 d1 d2 (fun l' => absurd l l') (fun _ => ⟨rfl, ?_⟩))
  refine zr_mk g _ rl el rc ec hN ⟨zr_Du (zr_Du (zr_Du (zr_Du hD.1))), ?_, ?_⟩ (zr_Su (zr_Su (zr_Su (zr_Su hS (by omega)) (by omega)) (by omega)) (by omega)) hC
  · exact ⟨l.1, l.2.1, l.2.2.1, l.2.2.2, hD.2.1.2.2.2.2.1, hD.2.1.2.2.2.2.2⟩
  · exact hD.2.2
theorem i_vc_draftTime {k : Nat} {u : SX} {v : SY} (I : i_Rel k u v) (hk : k + 5 ≤ 2562) (v1 : Int32) (v2 : Int32) : wpX_draftTime (fun r u' => wpY_draftTime (fun r' v' => r' = r ∧ i_Rel (k + 5) u' v') v v1 v2) u v1 v2 := by
  obtain ⟨a, a1, a2, rfl⟩ := zi_ex v1
  obtain ⟨b, b1, b2, rfl⟩ := zi_ex v2
  refine zr_el (P := fun u v => wpX_draftTime (fun r u' => wpY_draftTime (fun r' v' => r' = r ∧ i_Rel (k + 5) u' v') v (iI a) (iI b)) u (iI a) (iI b)) I ?_
  intro xl xm xr xe xa xs xc dD dR dE dF dA dU sS sV sO sB yl ym yr ye yc ys yA yP yT g h rl el rc ec hN hD hS hC
  refine zx_draftTime a1 a2 b1 b2 (fun l => zy_draftTime a1 a2 b1 b2 (fun _ => ⟨rfl, zr_mk g h rl el rc ec hN hD hS hC⟩) (fun l' => absurd l' l)) (fun l => zy_draftTime a1 a2 b1 b2 (fun l' => absurd l l') (fun _ => ⟨rfl, ?_⟩))
  refine zr_mk g _ rl el rc ec hN ⟨zr_Du (zr_Du hD.1), ?_, ?_⟩ (zr_Su (zr_Su hS (by omega)) (by omega)) hC
  · exact ⟨hD.2.1.1, hD.2.1.2.1, hD.2.1.2.2.1, hD.2.1.2.2.2.1, l.1, l.2⟩
  · exact hD.2.2
theorem i_vc_draftYears {k : Nat} {u : SX} {v : SY} (I : i_Rel k u v) (hk : k + 5 ≤ 2562) (v1 : Int32) (v2 : Int32) : wpX_draftYears (fun r u' => wpY_draftYears (fun r' v' => r' = r ∧ i_Rel (k + 5) u' v') v v1 v2) u v1 v2 := by
  obtain ⟨a, a1, a2, rfl⟩ := zi_ex v1
  obtain ⟨b, b1, b2, rfl⟩ := zi_ex v2
  refine zr_el (P := fun u v => wpX_draftYears (fun r u' => wpY_draftYears (fun r' v' => r' = r ∧ i_Rel (k + 5) u' v') v (iI a) (iI b)) u (iI a) (iI b)) I ?_
  intro xl xm xr xe xa xs xc dD dR dE dF dA dU sS sV sO sB yl ym yr ye yc ys yA yP yT g h rl el rc ec hN hD hS hC
  refine zx_draftYears a1 a2 b1 b2 (fun l => zy_draftYears a1 a2 b1 b2 (fun _ => ⟨rfl, zr_mk g h rl el rc ec hN hD hS hC⟩) (fun l' => absurd l' l)) (fun l => zy_draftYears a1 a2 b1 b2 (fun l' => absurd l l') (fun _ => ⟨rfl, ?_⟩))
  refine zr_mk g _ rl el rc ec hN ⟨zr_Du (zr_Du hD.1), ?_, ?_⟩ (zr_Su (zr_Su hS (by omega)) (by omega)) hC
  · exact hD.2.1
  · show 0 ≤ a ∧ a ≤ 19 ∧ a ≤ b ∧ (b = 99 ∨ b ≤ 19)
    omega
end
section
/-! 16: count, field, clear, the constructors, draftReading -/
section
variable {xl xm xr xe xa xs xc : Int32} {dD dR dE dF dA dU sS sV sO sB : Nat → Int32} {yl ym yr ye yc : Int32} {ys yA yP yT : Nat → Int32}
theorem zr_cc {g : Nat → Nat → Int} {rc ec : Nat} (hC : zr_C g rc ec xs xc yc sS sV sO sB yA yP yT) : xc = yc := by
  rcases hC with hC | hC
  · rw [hC.1, hC.2]
  · rw [hC.1, hC.2.1]
theorem zx_count {post : Int32 → Prop} {a : Int} (a1 : -2147483648 ≤ a) (a2 : a < 2147483648) (h0 : a = 0 → (xc = 0 → post 0) ∧ (¬ xc = 0 → post 1)) (h1 : a = 1 → post xr) (h2 : a = 2 → post xe) (h3 : a = 3 → post xl) (h4 : a = 4 → post xm) (hb : ¬ (0 ≤ a ∧ a ≤ 4) → post (-1001)) : wpX_count post (xl, xm, xr, xe, xa, xs, xc, dD, dR, dE, dF, dA, dU, sS, sV, sO, sB) (iI a) := by
  unfold wpX_count
  dsimp only
  refine zb_lt a 0 (fun l => hb (by omega)) (fun l => zb_lt 4 a (fun l => hb (by omega)) (fun l' => ?_) rfl rfl) rfl rfl
  refine zb_eq a 0 h0 (fun e0 => zb_eq a 1 h1 (fun e1 => zb_eq a 2 h2 (fun e2 => zb_eq a 3 h3 (fun e3 => zb_eq a 4 h4 (fun e4 => trivial) rfl rfl) rfl rfl) rfl rfl) rfl rfl) rfl rfl
theorem zy_count {post : Int32 → Prop} {a : Int} (a1 : -2147483648 ≤ a) (a2 : a < 2147483648) (h0 : a = 0 → (yc = 0 → post 0) ∧ (¬ yc = 0 → post 1)) (h1 : a = 1 → post yr) (h2 : a = 2 → post ye) (h3 : a = 3 → post yl) (h4 : a = 4 → post ym) (hb : ¬ (0 ≤ a ∧ a ≤ 4) → post (-1001)) : wpY_count post (yl, ym, yr, ye, yc, ys, yA, yP, yT) (iI a) := by
  unfold wpY_count
  dsimp only
  refine zb_eq a 0 h0 (fun e0 => zb_eq a 1 h1 (fun e1 => zb_eq a 2 h2 (fun e2 => zb_eq a 3 h3 (fun e3 => zb_eq a 4 h4 (fun e4 => hb (by omega)) rfl rfl) rfl rfl) rfl rfl) rfl rfl) rfl rfl
theorem zx_field {post : Int32 → Prop} {a b c : Int} {rc ec : Nat} (hrc : rc ≤ 8) (hec : ec ≤ 8) (a1 : -2147483648 ≤ a) (a2 : a < 2147483648) (b1 : -2147483648 ≤ b) (b2 : b < 2147483648) (c1 : -2147483648 ≤ c) (c2 : c < 2147483648) (hxr : xr = nI rc) (hxe : xe = nI ec) (h0 : a = 0 → b = 0 → 0 ≤ c → c < 8 → post (dD c.toNat)) (h1 : a = 1 → 0 ≤ b → b < rc → 0 ≤ c → c < 11 → post (dR (b.toNat * 11 + c.toNat))) (h2 : a = 2 → 0 ≤ b → b < ec → 0 ≤ c → c < 10 → post (dE (b.toNat * 10 + c.toNat))) (hb : ¬ (a = 0 ∧ b = 0 ∧ 0 ≤ c ∧ c < 8) → ¬ (a = 1 ∧ 0 ≤ b ∧ b < rc ∧ 0 ≤ c ∧ c < 11) → ¬ (a = 2 ∧ 0 ≤ b ∧ b < ec ∧ 0 ≤ c ∧ c < 10) → post (-1001)) : wpX_field post (xl, xm, xr, xe, xa, xs, xc, dD, dR, dE, dF, dA, dU, sS, sV, sO, sB) (iI a) (iI b) (iI c) := by
  unfold wpX_field
  dsimp only
  refine zb_lt b 0 (fun l => hb (by omega) (by omega) (by omega)) (fun lb => zb_le 0 c (fun lc => ?_) (fun l => hb (by omega) (by omega) (by omega)) rfl rfl) rfl rfl
  have H64 : ¬ (a = 0 ∧ b = 0 ∧ 0 ≤ c ∧ c < 8) → ¬ (a = 1 ∧ 0 ≤ b ∧ b < rc ∧ 0 ≤ c ∧ c < 11) → wX_field_64 post (iI a) (iI b) (iI c) xl xm xr xe xa xs xc dD dR dE dF dA dU sS sV sO sB := by
    intro n0 n1
    unfold wX_field_64
    rw [hxe]
    refine zb_eq a 2 (fun e => zb_le ec b (fun l => hb (by omega) (by omega) (by omega)) (fun l => zb_le 10 c (fun l => hb (by omega) (by omega) (by omega)) (fun l' => ?_) rfl rfl) (zi_n ec) rfl) (fun e => hb (by omega) (by omega) (by omega)) rfl rfl
    rw [zi_nn (z := b) (by omega), zi_nn (z := c) (by omega), z10 _ _ rfl, nI_clamp (by omega)]
    exact ⟨zn_in (by omega) (by omega), h2 e lb (by omega) lc (by omega)⟩
  have H33 : ¬ (a = 0 ∧ b = 0 ∧ 0 ≤ c ∧ c < 8) → wX_field_33 post (iI a) (iI b) (iI c) xl xm xr xe xa xs xc dD dR dE dF dA dU sS sV sO sB := by
    intro n0
    unfold wX_field_33
    rw [hxr]
    rw [hxr] at H64
    refine zb_eq a 1 (fun e => zb_le rc b (fun l => H64 n0 (by omega)) (fun l => zb_le 11 c (fun l => H64 n0 (by omega)) (fun l' => ?_) rfl rfl) (zi_n rc) rfl) (fun e => H64 n0 (by omega)) rfl rfl
    rw [zi_nn (z := b) (by omega), zi_nn (z := c) (by omega), z11 _ _ rfl, nI_clamp (by omega)]
    exact ⟨zn_in (by omega) (by omega), h1 e lb (by omega) lc (by omega)⟩
  refine zb_eq a 0 (fun e => zb_eq b 0 (fun e' => zb_le 8 c (fun l => H33 (by omega)) (fun l => ?_) rfl rfl) (fun e' => H33 (by omega)) rfl rfl) (fun e => H33 (by omega)) rfl rfl
  rw [zi_cl lc c2]
  exact ⟨zi_in lc (by omega) (by omega), h0 e e' lc (by omega)⟩
theorem zy_field {post : Int32 → Prop} {a b c : Int} {rc ec : Nat} (hrc : rc ≤ 8) (hec : ec ≤ 8) (a1 : -2147483648 ≤ a) (a2 : a < 2147483648) (b1 : -2147483648 ≤ b) (b2 : b < 2147483648) (c1 : -2147483648 ≤ c) (c2 : c < 2147483648) (hxr : yr = nI rc) (hxe : ye = nI ec) (h0 : a = 0 → b = 0 → 0 ≤ c → c < 8 → post (ys c.toNat)) (h1 : a = 1 → 0 ≤ b → b < rc → 0 ≤ c → c < 11 → post (ys ((1 + b.toNat) * 11 + c.toNat))) (h2 : a = 2 → 0 ≤ b → b < ec → 0 ≤ c → c < 10 → post (ys ((9 + b.toNat) * 11 + c.toNat))) (hb : ¬ (a = 0 ∧ b = 0 ∧ 0 ≤ c ∧ c < 8) → ¬ (a = 1 ∧ 0 ≤ b ∧ b < rc ∧ 0 ≤ c ∧ c < 11) → ¬ (a = 2 ∧ 0 ≤ b ∧ b < ec ∧ 0 ≤ c ∧ c < 10) → post (-1001)) : wpY_field post (yl, ym, yr, ye, yc, ys, yA, yP, yT) (iI a) (iI b) (iI c) := by
  unfold wpY_field
  dsimp only
  have H56 : ∀ (th nu : Int), 0 ≤ th → th ≤ 8 → 0 ≤ nu → nu ≤ 11 → ((a = 0 → th = 1 ∧ nu = 8) ∧ (a = 1 → th = rc ∧ nu = 11) ∧ (a = 2 → th = ec ∧ nu = 10) ∧ (a ≠ 0 → a ≠ 1 → a ≠ 2 → th = 0)) → wY_field_56 post (iI a) (iI b) (iI c) (iI th) (iI nu) yl ym yr ye yc ys yA yP yT := by
    intro th nu t0 t8 u0 u11 ht
    obtain ⟨q0, q1, q2, q3⟩ := ht
    unfold wY_field_56 wY_field_102
    have bad : (b < 0 ∨ th ≤ b ∨ c < 0 ∨ nu ≤ c) → post (-1001) := by
      intro l
      refine hb ?_ ?_ ?_
      · rintro ⟨e, x1, x2, x3⟩; have := q0 e; omega
      · rintro ⟨e, x1, x2, x3⟩; have := q1 e; omega
      · rintro ⟨e, x1, x2, x3⟩; have := q2 e; omega
    refine zb_lt b 0 (fun l => bad (by omega)) (fun lb => zb_le th b (fun l => bad (by omega)) (fun lt => zb_lt c 0 (fun l => bad (by omega)) (fun lc => zb_lt c nu (fun lu => ?_) (fun l => bad (by omega)) rfl rfl) rfl rfl) rfl rfl) rfl rfl
    refine zb_eq a 0 (fun e => ?_) (fun e => zb_eq a 1 (fun e1 => ?_) (fun e1 => ?_) rfl rfl) rfl rfl
    · have := q0 e
      have eb : b = 0 := by omega
      refine zy_at 0 c.toNat ?_ (by omega) (by rw [eb]; rfl) (zi_nn lc)
      have z := h0 e eb lc (by omega)
      rw [show 0 * 11 + c.toNat = c.toNat by omega]; exact z
    · have := q1 e1
      exact zy_at (1 + b.toNat) c.toNat (h1 e1 lb (by omega) lc (by omega)) (by omega) (by rw [zi_nn lb]; exact nI_add 1 _) (zi_nn lc)
    · have e2 : a = 2 := by
        by_cases h : a = 2
        · exact h
        · have := q3 e e1 h; omega
      have := q2 e2
      exact zy_at (9 + b.toNat) c.toNat (h2 e2 lb (by omega) lc (by omega)) (by omega) (by rw [zi_nn lb]; exact nI_add 9 _) (zi_nn lc)
  unfold wY_field_33
  rw [hxr, hxe]
  rw [hxr, hxe] at H56
  refine zb_eq a 0 (fun e => ?_) (fun e => zb_eq a 1 (fun e1 => ?_) (fun e1 => zb_eq a 2 (fun e2 => ?_) (fun e2 => ?_) rfl rfl) rfl rfl) rfl rfl
  · exact zb_eq a 0 (fun _ => H56 1 8 (by omega) (by omega) (by omega) (by omega) (by omega)) (fun e' => absurd e e') rfl rfl
  · rw [zi_n rc, zi_n ec] at *
    exact zb_eq a 0 (fun e' => absurd e' e) (fun _ => zb_eq a 1 (fun _ => H56 rc 11 (by omega) (by omega) (by omega) (by omega) (by omega)) (fun e' => absurd e1 e') rfl rfl) rfl rfl
  · rw [zi_n rc, zi_n ec] at *
    exact zb_eq a 0 (fun e' => absurd e' e) (fun _ => zb_eq a 1 (fun e' => absurd e' e1) (fun e' => H56 ec 10 (by omega) (by omega) (by omega) (by omega) (by omega)) rfl rfl) rfl rfl
  · exact zb_eq a 0 (fun e' => absurd e' e) (fun _ => zb_eq a 1 (fun e' => absurd e' e1) (fun e' => H56 0 10 (by omega) (by omega) (by omega) (by omega) (by omega)) rfl rfl) rfl rfl
end
theorem i_vc_count {k : Nat} {u : SX} {v : SY} (I : i_Rel k u v) (hk : k + 5 ≤ 2562) (v1 : Int32) : wpX_count (fun r => wpY_count (fun r' => r' = r ∧ i_Rel (k + 5) u v) v v1) u v1 := by
  obtain ⟨a, a1, a2, rfl⟩ := zi_ex v1
  refine zr_el (P := fun u v => wpX_count (fun r => wpY_count (fun r' => r' = r ∧ i_Rel (k + 5) u v) v (iI a)) u (iI a)) I ?_
  intro xl xm xr xe xa xs xc dD dR dE dF dA dU sS sV sO sB yl ym yr ye yc ys yA yP yT g h rl el rc ec hN hD hS hC
  have J : i_Rel (k + 5) (xl, xm, xr, xe, xa, xs, xc, dD, dR, dE, dF, dA, dU, sS, sV, sO, sB) (yl, ym, yr, ye, yc, ys, yA, yP, yT) := zr_mk g h rl el rc ec hN hD hS hC
  have hc := zr_cc hC
  obtain ⟨_, _, _, _, e1, e2, e3, e4, e5, e6, e7, e8⟩ := hN
  refine zx_count a1 a2 (fun e => ⟨fun c => ?_, fun c => ?_⟩) (fun e => ?_) (fun e => ?_) (fun e => ?_) (fun e => ?_) (fun e => ?_)
  · exact zy_count a1 a2 (fun _ => ⟨fun _ => ⟨rfl, J⟩, fun c' => absurd (hc.symm.trans c) c'⟩) (fun e' => by omega) (fun e' => by omega) (fun e' => by omega) (fun e' => by omega) (fun e' => by omega)
  · exact zy_count a1 a2 (fun _ => ⟨fun c' => absurd (hc.trans c') c, fun _ => ⟨rfl, J⟩⟩) (fun e' => by omega) (fun e' => by omega) (fun e' => by omega) (fun e' => by omega) (fun e' => by omega)
  · exact zy_count a1 a2 (fun e' => by omega) (fun e' => ⟨by rw [e5, e6], J⟩) (fun e' => by omega) (fun e' => by omega) (fun e' => by omega) (fun e' => by omega)
  · exact zy_count a1 a2 (fun e' => by omega) (fun e' => by omega) (fun e' => ⟨by rw [e7, e8], J⟩) (fun e' => by omega) (fun e' => by omega) (fun e' => by omega)
  · exact zy_count a1 a2 (fun e' => by omega) (fun e' => by omega) (fun e' => by omega) (fun e' => ⟨by rw [e1, e2], J⟩) (fun e' => by omega) (fun e' => by omega)
  · exact zy_count a1 a2 (fun e' => by omega) (fun e' => by omega) (fun e' => by omega) (fun e' => by omega) (fun e' => ⟨by rw [e3, e4], J⟩) (fun e' => by omega)
  · exact zy_count a1 a2 (fun e' => by omega) (fun e' => by omega) (fun e' => by omega) (fun e' => by omega) (fun e' => by omega) (fun e' => ⟨rfl, J⟩)
theorem i_vc_field {k : Nat} {u : SX} {v : SY} (I : i_Rel k u v) (hk : k + 5 ≤ 2562) (v1 : Int32) (v2 : Int32) (v3 : Int32) : wpX_field (fun r => wpY_field (fun r' => r' = r ∧ i_Rel (k + 5) u v) v v1 v2 v3) u v1 v2 v3 := by
  obtain ⟨a, a1, a2, rfl⟩ := zi_ex v1
  obtain ⟨b, b1, b2, rfl⟩ := zi_ex v2
  obtain ⟨c, c1, c2, rfl⟩ := zi_ex v3
  refine zr_el (P := fun u v => wpX_field (fun r => wpY_field (fun r' => r' = r ∧ i_Rel (k + 5) u v) v (iI a) (iI b) (iI c)) u (iI a) (iI b) (iI c)) I ?_
  intro xl xm xr xe xa xs xc dD dR dE dF dA dU sS sV sO sB yl ym yr ye yc ys yA yP yT g h rl el rc ec hN hD hS hC
  have J : i_Rel (k + 5) (xl, xm, xr, xe, xa, xs, xc, dD, dR, dE, dF, dA, dU, sS, sV, sO, sB) (yl, ym, yr, ye, yc, ys, yA, yP, yT) := zr_mk g h rl el rc ec hN hD hS hC
  obtain ⟨n1, n2, n3, n4, e1, e2, e3, e4, e5, e6, e7, e8⟩ := hN
  obtain ⟨S1, S2, S3, S4⟩ := hS
  refine zx_field (rc := rc) (ec := ec) (by omega) (by omega) a1 a2 b1 b2 c1 c2 e5 e7 (fun q1 q2 q3 q4 => ?_) (fun q1 q2 q3 q4 q5 => ?_) (fun q1 q2 q3 q4 q5 => ?_) (fun q1 q2 q3 => ?_)
  · exact zy_field (rc := rc) (ec := ec) (by omega) (by omega) a1 a2 b1 b2 c1 c2 e6 e8 (fun _ _ _ _ => ⟨by rw [(hD.1 c.toNat (by omega)).1, (hD.1 c.toNat (by omega)).2], J⟩) (fun e' => by omega) (fun e' => by omega) (fun f => absurd ⟨q1, q2, q3, q4⟩ f)
  · exact zy_field (rc := rc) (ec := ec) (by omega) (by omega) a1 a2 b1 b2 c1 c2 e6 e8 (fun e' => by omega) (fun _ _ _ _ _ => ⟨by rw [S1 (1 + b.toNat) c.toNat (by omega) (by omega) (by omega), S2 b.toNat c.toNat (by omega) (by omega)], J⟩) (fun e' => by omega) (fun _ f => absurd ⟨q1, q2, q3, q4, q5⟩ f)
  · exact zy_field (rc := rc) (ec := ec) (by omega) (by omega) a1 a2 b1 b2 c1 c2 e6 e8 (fun e' => by omega) (fun e' => by omega) (fun _ _ _ _ _ => ⟨by rw [S1 (9 + b.toNat) c.toNat (by omega) (by omega) (by omega), S3 b.toNat c.toNat (by omega) (by omega)], J⟩) (fun _ _ f => absurd ⟨q1, q2, q3, q4, q5⟩ f)
  · exact zy_field (rc := rc) (ec := ec) (by omega) (by omega) a1 a2 b1 b2 c1 c2 e6 e8 (fun x1 x2 x3 x4 => absurd ⟨x1, x2, x3, x4⟩ q1) (fun x1 x2 x3 x4 x5 => absurd ⟨x1, x2, x3, x4, x5⟩ q2) (fun x1 x2 x3 x4 x5 => absurd ⟨x1, x2, x3, x4, x5⟩ q3) (fun _ _ _ => ⟨rfl, J⟩)
theorem i_vc_draftReading {k : Nat} {u : SX} {v : SY} (I : i_Rel k u v) (hk : k + 5 ≤ 2562) (v1 : Int32) : wpX_draftReading (fun r => wpY_draftReading (fun r' => r' = r ∧ i_Rel (k + 5) u v) v v1) u v1 := by
  obtain ⟨a, a1, a2, rfl⟩ := zi_ex v1
  refine zr_el (P := fun u v => wpX_draftReading (fun r => wpY_draftReading (fun r' => r' = r ∧ i_Rel (k + 5) u v) v (iI a)) u (iI a)) I ?_
  intro xl xm xr xe xa xs xc dD dR dE dF dA dU sS sV sO sB yl ym yr ye yc ys yA yP yT g h rl el rc ec hN hD hS hC
  have J : i_Rel (k + 5) (xl, xm, xr, xe, xa, xs, xc, dD, dR, dE, dF, dA, dU, sS, sV, sO, sB) (yl, ym, yr, ye, yc, ys, yA, yP, yT) := zr_mk g h rl el rc ec hN hD hS hC
  unfold wpX_draftReading wpY_draftReading
  dsimp only
  have d := fun j hj => (hD.1 j hj)
  refine zx_within a 0 99 (fun l1 l2 => br_f (by decide) ?_) (fun l => br_t rfl ?_)
  · rw [(d 0 (by omega)).1, (d 1 (by omega)).1, (d 2 (by omega)).1, (d 3 (by omega)).1, (d 4 (by omega)).1]
    refine zx_reading hD.2.1 l1 l2 ?_
    refine zb_lt a 0 (fun l => absurd l (by omega)) (fun _ => zb_le a 99 (fun _ => ?_) (fun l => absurd l (by omega)) rfl rfl) rfl rfl
    exact zy_reading (h := h) 0 (fun j hj => by rw [show 0 * 11 + j = j by omega]; exact (d j (by omega)).2) hD.2.1 l1 l2 ⟨rfl, J⟩ (by omega) rfl
  · exact zb_lt a 0 (fun l => ⟨rfl, J⟩) (fun _ => zb_le a 99 (fun _ => absurd l (by omega)) (fun l => ⟨rfl, J⟩) rfl rfl) rfl rfl
end
section
/-! 17: clear, the constructors -/
def zr_h0 : Nat → Int := fun k => if k = 0 then 1 else if k = 3 then 1 else if k = 7 then 99 else 0
theorem zr_h0d : zc_day zr_h0 ∧ zr_yrs zr_h0 := by
  unfold zc_day zr_yrs zr_h0; decide
theorem zr_h0u {f : Nat → Int32} {N : Nat} (hN : 8 ≤ N) (h : ∀ j, j < N → f j = 0) : ∀ j, j < 8 → upd (upd (upd f 0 1) 3 1) 7 99 j = iI (zr_h0 j) := by
  intro j hj
  unfold zr_h0
  by_cases e7 : j = 7
  · subst e7; rw [z_us]; rfl
  · rw [z_un e7]
    by_cases e3 : j = 3
    · subst e3; rw [z_us]; rfl
    · rw [z_un e3]
      by_cases e0 : j = 0
      · subst e0; rw [z_us]; rfl
      · rw [z_un e0, if_neg e0, if_neg e3, if_neg e7, h j (by omega)]; rfl
section
variable {xl xm xr xe xa xs xc : Int32} {dD dR dE dF dA dU sS sV sO sB : Nat → Int32} {yl ym yr ye yc : Int32} {ys yA yP yT : Nat → Int32}
theorem zx_clear2 {post : SX → Prop} (h : ∀ dD', (∀ j, j < 8 → dD' j = iI (zr_h0 j)) → post (xl, xm, 0, 0, 0, 0, 0, dD', dR, dE, dF, dA, dU, sS, sV, sO, sB)) : ∀ (d i n : Nat) (dD : Nat → Int32), i + d = 8 → d < n → (∀ j, j < i → dD j = 0) → wX_clear_2 post xl xm xr xe xa xs xc n (nI i) dD dR dE dF dA dU sS sV sO sB := by
  intro d
  induction d with
  | zero =>
    intro i n dD hi hn hd
    obtain ⟨n, rfl⟩ : ∃ k, n = k + 1 := ⟨n - 1, by omega⟩
    refine zk_le 8 i (fun _ => nm_e (nm_e (nm_e (h _ ?_)))) (fun l => absurd l (by omega)) rfl rfl (by omega) (by omega)
    exact zr_h0u (N := i) (by omega) hd
  | succ d ih =>
    intro i n dD hi hn hd
    obtain ⟨n, rfl⟩ : ∃ k, n = k + 1 := ⟨n - 1, by omega⟩
    refine zk_le 8 i (fun l => absurd l (by omega)) (fun _ => ?_) rfl rfl (by omega) (by omega)
    rw [nI_clamp (by omega)]
    refine ⟨zn_in (by omega) (by omega), nm_e (nm_r (nI_1 i) (ih (i + 1) n _ (by omega) (by omega) ?_))⟩
    intro j hj
    by_cases e : j = i
    · subst e; rw [z_us]
    · rw [z_un e]; exact hd j (by omega)
theorem zx_clear {post : SX → Prop} (h : ∀ dD', (∀ j, j < 8 → dD' j = iI (zr_h0 j)) → post (xl, xm, 0, 0, 0, 0, 0, dD', dR, dE, dF, dA, dU, sS, sV, sO, sB)) : wpX_clear post (xl, xm, xr, xe, xa, xs, xc, dD, dR, dE, dF, dA, dU, sS, sV, sO, sB) := by
  unfold wpX_clear
  dsimp only
  exact ⟨9, zx_clear2 h 8 0 9 dD (by omega) (by omega) (fun j hj => by omega)⟩
theorem zy_clear2 {post : SY → Prop} (h : ∀ ys', (∀ j, j < 8 → ys' j = iI (zr_h0 j)) → (∀ j, 8 ≤ j → j < 187 → ys' j = 0) → post (yl, ym, 0, 0, 0, ys', yA, yP, yT)) : ∀ (d i n : Nat) (ys : Nat → Int32), i + d = 187 → d < n → (∀ j, j < i → ys j = 0) → wY_clear_2 post yl ym yr ye yc n (nI i) ys yA yP yT := by
  intro d
  induction d with
  | zero =>
    intro i n ys hi hn hd
    obtain ⟨n, rfl⟩ : ∃ k, n = k + 1 := ⟨n - 1, by omega⟩
    refine zk_le 187 i (fun _ => nm_e (nm_e (nm_e (h _ ?_ ?_)))) (fun l => absurd l (by omega)) rfl rfl (by omega) (by omega)
    · exact zr_h0u (N := i) (by omega) hd
    · intro j j1 j2
      rw [z_un (by omega), z_un (by omega), z_un (by omega)]; exact hd j (by omega)
  | succ d ih =>
    intro i n ys hi hn hd
    obtain ⟨n, rfl⟩ : ∃ k, n = k + 1 := ⟨n - 1, by omega⟩
    refine zk_le 187 i (fun l => absurd l (by omega)) (fun _ => ?_) rfl rfl (by omega) (by omega)
    rw [nI_clamp (by omega)]
    refine ⟨zn_in (by omega) (by omega), nm_e (nm_r (nI_1 i) (ih (i + 1) n _ (by omega) (by omega) ?_))⟩
    intro j hj
    by_cases e : j = i
    · subst e; rw [z_us]
    · rw [z_un e]; exact hd j (by omega)
theorem zy_clear {post : SY → Prop} (h : ∀ ys', (∀ j, j < 8 → ys' j = iI (zr_h0 j)) → (∀ j, 8 ≤ j → j < 187 → ys' j = 0) → post (yl, ym, 0, 0, 0, ys', yA, yP, yT)) : wpY_clear post (yl, ym, yr, ye, yc, ys, yA, yP, yT) := by
  unfold wpY_clear
  dsimp only
  exact ⟨188, zy_clear2 h 187 0 188 ys (by omega) (by omega) (fun j hj => by omega)⟩
theorem zr_new {k rl el : Nat} (r1 : 1 ≤ rl ∧ rl ≤ 8) (r2 : 1 ≤ el ∧ el ≤ 8) (e1 : xl = nI rl) (e2 : yl = nI rl) (e3 : xm = nI el) (e4 : ym = nI el) (hx : ∀ j, j < 8 → dD j = iI (zr_h0 j)) (hy : ∀ j, j < 8 → ys j = iI (zr_h0 j)) (hz : ∀ j, 8 ≤ j → j < 187 → ys j = 0) : i_Rel k (xl, xm, 0, 0, 0, 0, 0, dD, dR, dE, dF, dA, dU, sS, sV, sO, sB) (yl, ym, 0, 0, 0, ys, yA, yP, yT) := by
  refine zr_mk (fun _ _ => 0) zr_h0 rl el 0 0 ⟨r1, r2, by omega, by omega, e1, e2, e3, e4, rfl, rfl, rfl, rfl⟩ ⟨fun j hj => ⟨hx j hj, hy j hj⟩, zr_h0d⟩ ⟨fun row k' h1 h2 h3 => ?_, fun r k' h1 => by omega, fun r k' h1 => by omega, by omega, by omega, fun r h1 => by omega, fun r h1 => by omega, fun r h1 => by omega⟩ (Or.inl ⟨rfl, rfl⟩)
  rw [hz _ (by omega) (by omega)]; rfl
end
theorem i_vc_clear {k : Nat} {u : SX} {v : SY} (I : i_Rel k u v) (hk : k + 5 ≤ 2562) : wpX_clear (fun u' => wpY_clear (fun v' => i_Rel (k + 5) u' v') v) u := by
  refine zr_el (P := fun u v => wpX_clear (fun u' => wpY_clear (fun v' => i_Rel (k + 5) u' v') v) u) I ?_
  intro xl xm xr xe xa xs xc dD dR dE dF dA dU sS sV sO sB yl ym yr ye yc ys yA yP yT g h rl el rc ec hN hD hS hC
  refine zx_clear (fun dD' hx => zy_clear (fun ys' hy hz => ?_))
  exact zr_new hN.1 hN.2.1 hN.2.2.2.2.1 hN.2.2.2.2.2.1 hN.2.2.2.2.2.2.1 hN.2.2.2.2.2.2.2.1 hx hy hz
def zr_cl (a : Int) : Nat := if 1 ≤ a then (if a ≤ 8 then a.toNat else 8) else 1
theorem zr_clb (a : Int) : 1 ≤ zr_cl a ∧ zr_cl a ≤ 8 := by
  unfold zr_cl
  split
  · split <;> omega
  · omega
section
variable {xl xm xr xe xa xs xc : Int32} {dD dR dE dF dA dU sS sV sO sB : Nat → Int32} {yl ym yr ye yc : Int32} {ys yA yP yT : Nat → Int32}
theorem zx_clamp {post : Int32 → Prop} {a : Int} (a1 : -2147483648 ≤ a) (a2 : a < 2147483648) (h : post (nI (zr_cl a))) : wpX_clampLimit post (xl, xm, xr, xe, xa, xs, xc, dD, dR, dE, dF, dA, dU, sS, sV, sO, sB) (iI a) := by
  unfold wpX_clampLimit
  dsimp only
  unfold zr_cl at h
  refine zb_le 1 a (fun l => ?_) (fun l => ?_) rfl rfl
  · rw [if_pos l] at h
    refine zb_le a 8 (fun l' => ?_) (fun l' => ?_) rfl rfl
    · rw [if_pos l'] at h; rw [zi_nn (by omega)]; exact h
    · rw [if_neg (by omega)] at h; exact h
  · rw [if_neg (by omega)] at h; exact h
theorem zy_init61 {post : SY → Prop} {a : Int} {z : Int32} (a1 : -2147483648 ≤ a) (a2 : a < 2147483648) (h : wY_init_86 post (nI (zr_cl a)) z ym yr ye yc ys yA yP yT) : wY_init_61 post (iI a) z yl ym yr ye yc ys yA yP yT := by
  unfold wY_init_61
  unfold zr_cl at h
  refine zb_le 1 a (fun l => ?_) (fun l => ?_) rfl rfl
  · rw [if_pos l] at h
    refine zb_le a 8 (fun l' => ?_) (fun l' => ?_) rfl rfl
    · rw [if_pos l'] at h; rw [zi_nn (by omega)]; exact h
    · rw [if_neg (by omega)] at h; exact h
  · rw [if_neg (by omega)] at h; exact h
end
theorem i_vc0 (k0 : Int32) (k1 : Int32) : wpX_init (fun u => wpY_init (fun v => i_Rel 2 u v) k0 k1) k0 k1 := by
  obtain ⟨a, a1, a2, rfl⟩ := zi_ex k0
  obtain ⟨b, b1, b2, rfl⟩ := zi_ex k1
  unfold wpX_init
  refine zx_clamp a1 a2 ?_
  refine zx_clamp b1 b2 ?_
  refine zx_clear ?_
  intro dD' hx
  dsimp only
  have F : wY_init_61 (fun v => i_Rel 2 (nI (zr_cl a), nI (zr_cl b), 0, 0, 0, 0, 0, dD', (fun _ => 0), (fun _ => 0), (fun _ => 0), (fun _ => 0), (fun _ => 0), (fun _ => 0), (fun _ => 0), (fun _ => 0), (fun _ => 0)) v) (iI b) (nI (zr_cl a)) 0 0 0 0 0 (fun _ => 0) (fun _ => 0) (fun _ => 0) (fun _ => 0) := by
    refine zy_init61 b1 b2 ?_
    unfold wY_init_86
    refine zy_clear ?_
    intro ys' hy hz
    exact zr_new (zr_clb a) (zr_clb b) rfl rfl rfl rfl hx hy hz
  have ea : ∀ A B C : Prop, (1 ≤ a → a ≤ 8 → A) → (8 < a → B) → (a < 1 → C) → ((1 : Int32) ≤ iI a → (iI a ≤ 8 → A) ∧ (¬ iI a ≤ 8 → B)) ∧ (¬ (1 : Int32) ≤ iI a → C) := by
    intro A B C hA hB hC
    exact zb_le 1 a (fun l => zb_le a 8 (fun l' => hA l l') (fun l' => hB l') rfl rfl) (fun l => hC l) rfl rfl
  refine ea _ _ _ (fun l1 l2 => ?_) (fun l => ?_) (fun l => ?_)
  · rw [show nI (zr_cl a) = iI a by unfold zr_cl; rw [if_pos l1, if_pos l2, ← zi_nn (by omega)]] at F
    rw [show nI (zr_cl a) = iI a by unfold zr_cl; rw [if_pos l1, if_pos l2, ← zi_nn (by omega)]]
    exact F
  · rw [show zr_cl a = 8 by unfold zr_cl; rw [if_pos (by omega), if_neg (by omega)]] at F ⊢
    exact F
  · rw [show zr_cl a = 1 by unfold zr_cl; rw [if_neg (by omega)]] at F ⊢
    exact F
end
section
/-! 18: addRule -/
def zr_en (g : Nat → Nat → Int) (s : Int) : Nat → Nat
  | 0 => 0
  | r + 1 => zr_en g s r + if g (1 + r) 8 = s ∧ g (1 + r) 7 = 99 then 1 else 0
theorem zr_enb {g : Nat → Nat → Int} {s : Int} : ∀ r, zr_en g s r ≤ r := by
  intro r
  induction r with
  | zero => exact Nat.le_refl _
  | succ r ih => rw [zr_en]; split <;> omega
def zr_rok (s v l : Int) : Prop := (0 ≤ s ∧ s ≤ 3) ∧ (0 ≤ v ∧ v ≤ 8) ∧ (0 ≤ l ∧ l ≤ 7)
/-- the component's stores of one rule -/
def zr_xr (rc : Nat) (dD dR dR' : Nat → Int32) (s v l : Int) : Prop := (∀ k, k < 8 → dR' (rc * 11 + k) = dD k) ∧ dR' (rc * 11 + 8) = iI s ∧ dR' (rc * 11 + 9) = iI v ∧ dR' (rc * 11 + 10) = iI l ∧ ∀ j, j < rc * 11 → dR' j = dR j
def zr_yr (rc : Nat) (ys ys' : Nat → Int32) (s v l : Int) : Prop := (∀ k, k < 8 → ys' ((1 + rc) * 11 + k) = ys k) ∧ ys' ((1 + rc) * 11 + 8) = iI s ∧ ys' ((1 + rc) * 11 + 9) = iI v ∧ ys' ((1 + rc) * 11 + 10) = iI l ∧ ∀ j, (j < (1 + rc) * 11 ∨ (2 + rc) * 11 ≤ j) → ys' j = ys j
section
variable {g : Nat → Nat → Int} {h : Nat → Int} {rl el rc ec : Nat} {xl xm xr xe xa xs xc : Int32} {dD dR dE dF dA dU sS sV sO sB : Nat → Int32} {yl ym yr ye yc : Int32} {ys yA yP yT : Nat → Int32}
theorem zx_en4 {post : Int32 → Prop} {s : Int} (hrc : rc ≤ 8) (w : ∀ r, r < rc → zq_day g r) (hR : zx_R g rc dR) (hxr : xr = nI rc) (s1 : 0 ≤ s) (s2 : s ≤ 3) (hp : post (nI (zr_en g s rc))) : ∀ (d r n : Nat), r + d = rc → d < n → wX_endlessRules_4 post (iI s) xl xm xr xe xa xs xc dD dR dE dF dA dU sS sV sO sB n (nI (zr_en g s r)) (nI r) := by
  intro d
  induction d with
  | zero =>
    intro r n hr hn
    obtain ⟨n, rfl⟩ : ∃ k, n = k + 1 := ⟨n - 1, by omega⟩
    rw [hxr]
    refine zk_le rc r (fun _ => ?_) (fun l => absurd l (by omega)) rfl rfl (by omega) (by omega)
    rw [show r = rc by omega]; exact hp
  | succ d ih =>
    intro r n hr hn
    obtain ⟨n, rfl⟩ : ∃ k, n = k + 1 := ⟨n - 1, by omega⟩
    have D := w r (by omega)
    have D7 := D.2.2.2.2.1
    have D4 := D.2.2.2.1
    have D2 := D.2.1
    have D8 := D.2.2.2.2.2.1
    have Z := ih (r + 1) n (by omega) (by omega)
    rw [zr_en] at Z
    rw [hxr]
    rw [hxr] at Z
    refine zk_le rc r (fun l => absurd l (by omega)) (fun _ => ?_) rfl rfl (by omega) (by omega)
    rw [z11 (c := 8) r 8 rfl, z11 (c := 7) r 7 rfl, nI_clamp (n := r * 11 + 8) (by omega), nI_clamp (n := r * 11 + 7) (by omega)]
    refine ⟨zn_in (by omega) (by omega), zb_eq (g (1 + r) 8) s (fun e => ⟨zn_in (by omega) (by omega), zb_eq (g (1 + r) 7) 99 (fun e' => ?_) (fun e' => ?_) (hR r 7 (by omega) (by omega)) rfl⟩) (fun e => ?_) (hR r 8 (by omega) (by omega)) rfl⟩
    · rw [if_pos ⟨e, e'⟩] at Z
      exact nm_r (nI_1 _) (nm_r (nI_1 _) Z)
    · rw [if_neg (fun c => e' c.2)] at Z
      exact nm_r (nI_1 _) Z
    · rw [if_neg (fun c => e c.1)] at Z
      exact nm_r (nI_1 _) Z
theorem zx_r99 {post : Int32 → SX → Prop} {s v l : Int} {dR0 : Nat → Int32} (hrc : rc < 8) (hxr : xr = nI rc) (hp : ∀ dR', zr_xr rc dD dR0 dR' s v l → post (nI rc) (xl, xm, nI (rc + 1), xe, xa, xs, xc, dD, dR', dE, dF, dA, dU, sS, sV, sO, sB)) : ∀ (d i n : Nat) (dR : Nat → Int32), i + d = 8 → d < n → (∀ k, k < i → dR (rc * 11 + k) = dD k) → (∀ j, j < rc * 11 → dR j = dR0 j) → wX_addRule_99 post (iI s) (iI v) (iI l) (nI (rc * 11)) xl xm xr xe xa xs xc n (nI i) dD dR dE dF dA dU sS sV sO sB := by
  intro d
  induction d with
  | zero =>
    intro i n dR hi hn h1 h2
    obtain ⟨n, rfl⟩ : ∃ k, n = k + 1 := ⟨n - 1, by omega⟩
    rw [hxr]
    refine zk_le 8 i (fun _ => ?_) (fun l => absurd l (by omega)) rfl rfl (by omega) (by omega)
    rw [show nI (rc * 11) + 8 = nI (rc * 11 + 8) from nI_add _ 8, show nI (rc * 11) + 9 = nI (rc * 11 + 9) from nI_add _ 9, show nI (rc * 11) + 10 = nI (rc * 11 + 10) from nI_add _ 10, nI_clamp (by omega), nI_clamp (by omega), nI_clamp (by omega)]
    refine ⟨zn_in (by omega) (by omega), nm_e ⟨zn_in (by omega) (by omega), nm_e ⟨zn_in (by omega) (by omega), nm_e (nm_r (nI_1 rc) ?_)⟩⟩⟩
    rw [nI_pred]
    refine hp _ ⟨fun k hk => ?_, ?_, ?_, ?_, fun j hj => ?_⟩
    · rw [z_un (by omega), z_un (by omega), z_un (by omega)]; exact h1 k (by omega)
    · rw [z_un (by omega), z_un (by omega), z_us]
    · rw [z_un (by omega), z_us]
    · rw [z_us]
    · rw [z_un (by omega), z_un (by omega), z_un (by omega)]; exact h2 j hj
  | succ d ih =>
    intro i n dR hi hn h1 h2
    obtain ⟨n, rfl⟩ : ∃ k, n = k + 1 := ⟨n - 1, by omega⟩
    refine zk_le 8 i (fun l => absurd l (by omega)) (fun _ => ?_) rfl rfl (by omega) (by omega)
    rw [nI_add, nI_clamp (n := i) (by omega), nI_clamp (n := rc * 11 + i) (by omega)]
    refine ⟨zn_in (by omega) (by omega), zn_in (by omega) (by omega), nm_e (nm_r (nI_1 i) (ih (i + 1) n _ (by omega) (by omega) (fun k hk => ?_) (fun j hj => ?_)))⟩
    · by_cases e : k = i
      · subst e; rw [z_us]
      · rw [z_un (by omega)]; exact h1 k (by omega)
    · rw [z_un (by omega)]; exact h2 j hj
theorem zx_addRule {post : Int32 → SX → Prop} {s v l : Int} (s1 : -2147483648 ≤ s) (s2 : s < 2147483648) (v1 : -2147483648 ≤ v) (v2 : v < 2147483648) (l1 : -2147483648 ≤ l) (l2 : l < 2147483648) (hrl : rl ≤ 8) (hrc : rc ≤ rl) (w : ∀ r, r < rc → zq_day g r) (hR : zx_R g rc dR) (hxr : xr = nI rc) (hxl : xl = nI rl) (h7 : dD 7 = iI (h 7)) (b7 : 0 ≤ h 7 ∧ h 7 ≤ 99) (hc : ¬ xc = 0 → post (-1004) (xl, xm, xr, xe, xa, xs, xc, dD, dR, dE, dF, dA, dU, sS, sV, sO, sB)) (hb : xc = 0 → ¬ zr_rok s v l → post (-1001) (xl, xm, xr, xe, xa, xs, xc, dD, dR, dE, dF, dA, dU, sS, sV, sO, sB)) (hf : xc = 0 → zr_rok s v l → rl ≤ rc → post (-1002) (xl, xm, xr, xe, xa, xs, xc, dD, dR, dE, dF, dA, dU, sS, sV, sO, sB)) (hg : xc = 0 → zr_rok s v l → rc < rl → h 7 = 99 → 2 ≤ zr_en g s rc → post (-1003) (xl, xm, xr, xe, xa, xs, xc, dD, dR, dE, dF, dA, dU, sS, sV, sO, sB)) (hk : xc = 0 → zr_rok s v l → rc < rl → ¬ (h 7 = 99 ∧ 2 ≤ zr_en g s rc) → ∀ dR', zr_xr rc dD dR dR' s v l → post (nI rc) (xl, xm, nI (rc + 1), xe, xa, xs, xc, dD, dR', dE, dF, dA, dU, sS, sV, sO, sB)) : wpX_addRule post (xl, xm, xr, xe, xa, xs, xc, dD, dR, dE, dF, dA, dU, sS, sV, sO, sB) (iI s) (iI v) (iI l) := by
  unfold wpX_addRule
  dsimp only
  refine br_c (fun c0 => ?_) hc
  unfold zr_rok at *
  refine zx_within s 0 3 (fun a1 a2 => br_f (by decide) ?_) (fun q => br_t rfl (hb c0 (by omega)))
  refine zx_within v 0 8 (fun a3 a4 => br_f (by decide) ?_) (fun q => br_t rfl (hb c0 (by omega)))
  refine zx_within l 0 7 (fun a5 a6 => br_f (by decide) ?_) (fun q => br_t rfl (hb c0 (by omega)))
  have eb := zr_enb (g := g) (s := s) rc
  have W : rc < rl → ¬ (h 7 = 99 ∧ 2 ≤ zr_en g s rc) → wX_addRule_99 post (iI s) (iI v) (iI l) (nI (rc * 11)) xl xm xr xe xa xs xc 9 (nI 0) dD dR dE dF dA dU sS sV sO sB :=
    fun q1 q2 => zx_r99 (by omega) hxr (hk c0 (by omega) q1 q2) 8 0 9 dR (by omega) (by omega) (fun k hk => by omega) (fun j hj => rfl)
  rw [hxr, hxl]
  rw [hxr, hxl] at W hf hg
  refine zk_lt rc rl (fun q => ?_) (fun q => hf c0 (by omega) q) rfl rfl (by omega) (by omega)
  refine zb_eq (h 7) 99 (fun q7 => ?_) (fun q7 => nm_r (zn_mul rc 11) ⟨9, W q (fun c => q7 c.1)⟩) h7 rfl
  unfold wpX_endlessRules
  dsimp only
  refine ⟨rc + 1, zx_en4 (rc := rc) (by omega) w hR rfl a1 a2 ?_ rc 0 (rc + 1) (by omega) (by omega)⟩
  exact zk_lt (zr_en g s rc) 2 (fun q2 => nm_r (zn_mul rc 11) ⟨9, W q (fun c => by omega)⟩) (fun q2 => hg c0 (by omega) q q7 q2) rfl rfl (by omega) (by omega)
theorem zy_r148 {post : Int32 → SY → Prop} {s v l : Int} {ys0 : Nat → Int32} (hrc : rc < 8) (hyr : yr = nI rc) (hp : ∀ ys', zr_yr rc ys0 ys' s v l → post (nI rc) (yl, ym, nI (rc + 1), ye, yc, ys', yA, yP, yT)) : ∀ (d i n : Nat) (ys : Nat → Int32), i + d = 8 → d < n → (∀ k, k < i → ys ((1 + rc) * 11 + k) = ys0 k) → (∀ j, (j < (1 + rc) * 11 ∨ (1 + rc) * 11 + i ≤ j) → ys j = ys0 j) → wY_addRule_148 post (iI s) (iI v) (iI l) (nI ((1 + rc) * 11)) yl ym yr ye yc n (nI i) ys yA yP yT := by
  intro d
  induction d with
  | zero =>
    intro i n ys hi hn h1 h2
    obtain ⟨n, rfl⟩ : ∃ k, n = k + 1 := ⟨n - 1, by omega⟩
    rw [hyr]
    refine zk_le 8 i (fun _ => ?_) (fun l => absurd l (by omega)) rfl rfl (by omega) (by omega)
    rw [show nI ((1 + rc) * 11) + 8 = nI ((1 + rc) * 11 + 8) from nI_add _ 8, show nI ((1 + rc) * 11) + 9 = nI ((1 + rc) * 11 + 9) from nI_add _ 9, show nI ((1 + rc) * 11) + 10 = nI ((1 + rc) * 11 + 10) from nI_add _ 10, nI_clamp (by omega), nI_clamp (by omega), nI_clamp (by omega)]
    refine ⟨zn_in (by omega) (by omega), nm_e ⟨zn_in (by omega) (by omega), nm_e ⟨zn_in (by omega) (by omega), nm_e (nm_r (nI_1 rc) ?_)⟩⟩⟩
    rw [nI_pred]
    refine hp _ ⟨fun k hk => ?_, ?_, ?_, ?_, fun j hj => ?_⟩
    · rw [z_un (by omega), z_un (by omega), z_un (by omega)]; exact h1 k (by omega)
    · rw [z_un (by omega), z_un (by omega), z_us]
    · rw [z_un (by omega), z_us]
    · rw [z_us]
    · rw [z_un (by omega), z_un (by omega), z_un (by omega)]; exact h2 j (by omega)
  | succ d ih =>
    intro i n ys hi hn h1 h2
    obtain ⟨n, rfl⟩ : ∃ k, n = k + 1 := ⟨n - 1, by omega⟩
    refine zk_le 8 i (fun l => absurd l (by omega)) (fun _ => ?_) rfl rfl (by omega) (by omega)
    rw [nI_add, nI_clamp (n := i) (by omega), nI_clamp (n := (1 + rc) * 11 + i) (by omega)]
    refine ⟨zn_in (by omega) (by omega), zn_in (by omega) (by omega), nm_e (nm_r (nI_1 i) (ih (i + 1) n _ (by omega) (by omega) (fun k hk => ?_) (fun j hj => ?_)))⟩
    · by_cases e : k = i
      · subst e; rw [z_us]; exact h2 k (by omega)
      · rw [z_un (by omega)]; exact h1 k (by omega)
    · rw [z_un (by omega)]; exact h2 j (by omega)
theorem zy_addRule {post : Int32 → SY → Prop} {s v l : Int} (s1 : -2147483648 ≤ s) (s2 : s < 2147483648) (v1 : -2147483648 ≤ v) (v2 : v < 2147483648) (l1 : -2147483648 ≤ l) (l2 : l < 2147483648) (hrl : rl ≤ 8) (hrc : rc ≤ rl) (w : ∀ r, r < rc → zq_day g r) (hS : zy_in g ys) (hyr : yr = nI rc) (hyl : yl = nI rl) (h7 : ys 7 = iI (h 7)) (b7 : 0 ≤ h 7 ∧ h 7 ≤ 99) (hc : ¬ yc = 0 → post (-1004) (yl, ym, yr, ye, yc, ys, yA, yP, yT)) (hb : yc = 0 → ¬ zr_rok s v l → post (-1001) (yl, ym, yr, ye, yc, ys, yA, yP, yT)) (hf : yc = 0 → zr_rok s v l → rl ≤ rc → post (-1002) (yl, ym, yr, ye, yc, ys, yA, yP, yT)) (hg : yc = 0 → zr_rok s v l → rc < rl → h 7 = 99 → 2 ≤ zr_en g s rc → post (-1003) (yl, ym, yr, ye, yc, ys, yA, yP, yT)) (hk : yc = 0 → zr_rok s v l → rc < rl → ¬ (h 7 = 99 ∧ 2 ≤ zr_en g s rc) → ∀ ys', zr_yr rc ys ys' s v l → post (nI rc) (yl, ym, nI (rc + 1), ye, yc, ys', yA, yP, yT)) : wpY_addRule post (yl, ym, yr, ye, yc, ys, yA, yP, yT) (iI s) (iI v) (iI l) := by
  unfold wpY_addRule
  dsimp only
  refine br_c (fun c0 => ?_) hc
  unfold zr_rok at *
  refine zb_lt s 0 (fun q => hb c0 (by omega)) (fun a1 => zb_lt 3 s (fun q => hb c0 (by omega)) (fun a2 => ?_) rfl rfl) rfl rfl
  refine zb_lt v 0 (fun q => hb c0 (by omega)) (fun a3 => zb_lt 8 v (fun q => hb c0 (by omega)) (fun a4 => ?_) rfl rfl) rfl rfl
  refine zb_lt l 0 (fun q => hb c0 (by omega)) (fun a5 => zb_le l 7 (fun a6 => ?_) (fun q => hb c0 (by omega)) rfl rfl) rfl rfl
  have eb := zr_enb (g := g) (s := s) rc
  have W : rc < rl → ¬ (h 7 = 99 ∧ 2 ≤ zr_en g s rc) → wY_addRule_134 post (iI s) (iI v) (iI l) yl ym yr ye yc ys yA yP yT := by
    intro q1 q2
    unfold wY_addRule_134
    rw [hyr]
    refine nm_r (e' := nI ((1 + rc) * 11)) ?_ ⟨9, zy_r148 (by omega) rfl (hk c0 (by omega) q1 q2) 8 0 9 ys (by omega) (by omega) (fun k hk => by omega) (fun j hj => rfl)⟩
    rw [show 1 + nI rc = nI (1 + rc) from nI_add 1 rc]; exact zn_mul _ 11
  rw [hyr, hyl]
  rw [hyr, hyl] at W hf hg
  refine zk_lt rc rl (fun q => ⟨rc + 1, ?_⟩) (fun q => hf c0 (by omega) q) rfl rfl (by omega) (by omega)
  have Lp : ∀ (d r n : Nat), r + d = rc → d < n → wY_addRule_65 post (iI s) (iI v) (iI l) (nI rl) ym (nI rc) ye yc ys yA yP yT n (nI (zr_en g s r)) (nI r) := by
    intro d
    induction d with
    | zero =>
      intro r n hr hn
      obtain ⟨n, rfl⟩ : ∃ k, n = k + 1 := ⟨n - 1, by omega⟩
      refine zk_le rc r (fun _ => ?_) (fun l => absurd l (by omega)) rfl rfl (by omega) (by omega)
      rw [show r = rc by omega]
      refine zb_eq (h 7) 99 (fun q7 => ?_) (fun q7 => W q (fun c => q7 c.1)) h7 rfl
      exact zk_lt (zr_en g s rc) 2 (fun q2 => W q (fun c => by omega)) (fun q2 => hg c0 (by omega) q q7 q2) rfl rfl (by omega) (by omega)
    | succ d ih =>
      intro r n hr hn
      obtain ⟨n, rfl⟩ : ∃ k, n = k + 1 := ⟨n - 1, by omega⟩
      have D := w r (by omega)
      have D7 := D.2.2.2.2.1
      have D4 := D.2.2.2.1
      have D2 := D.2.1
      have D8 := D.2.2.2.2.2.1
      have Z := ih (r + 1) n (by omega) (by omega)
      rw [zr_en] at Z
      refine zk_le rc r (fun l => absurd l (by omega)) (fun _ => ?_) rfl rfl (by omega) (by omega)
      refine zy_atg hS (1 + r) 8 ?_ (by omega) (by omega) (nI_add 1 r) rfl
      refine zb_eq (g (1 + r) 8) s (fun e => ?_) (fun e => ?_) rfl rfl
      · refine zy_atg hS (1 + r) 7 ?_ (by omega) (by omega) (nI_add 1 r) rfl
        refine zb_eq (g (1 + r) 7) 99 (fun e' => ?_) (fun e' => ?_) rfl rfl
        · rw [if_pos ⟨e, e'⟩] at Z
          exact nm_r (nI_1 _) (nm_r (nI_1 _) Z)
        · rw [if_neg (fun c => e' c.2)] at Z
          exact nm_r (nI_1 _) Z
      · rw [if_neg (fun c => e c.1)] at Z
        exact nm_r (nI_1 _) Z
  exact Lp rc 0 (rc + 1) (by omega) (by omega)
/-- the new rule's row -/
def zr_nr (h : Nat → Int) (s v l : Int) : Nat → Int := fun k => if k < 8 then h k else if k = 8 then s else if k = 9 then v else l
theorem zr_Sr {s v l : Int} {dR' ys' : Nat → Int32} (hD : zr_D h dD ys) (hS : zr_S g rc ec dR dE ys) (hrc : rc < 8) (ok : zr_rok s v l) (hx : zr_xr rc dD dR dR' s v l) (hy : zr_yr rc ys ys' s v l) : zr_S (fun row => if row = 1 + rc then zr_nr h s v l else g row) (rc + 1) ec dR' dE ys' := by
  obtain ⟨S1, S2, S3, w1, w2, w3, w4, w5⟩ := hS
  obtain ⟨x1, x2, x3, x4, x5⟩ := hx
  obtain ⟨y1, y2, y3, y4, y5⟩ := hy
  have kc : ∀ k, k ≤ 10 → k < 8 ∨ k = 8 ∨ k = 9 ∨ k = 10 := by omega
  refine ⟨fun row k h1 h2 h3 => ?_, fun r k h1 h2 => ?_, fun e k h1 h2 => ?_, by omega, w2, fun r hr => ?_, fun e he => ?_, fun e he => ?_⟩
  · dsimp only
    by_cases c : row = 1 + rc
    · subst c
      rw [if_pos rfl]
      rcases kc k h3 with q | q | q | q
      · rw [y1 k q, (hD.1 k q).2]; unfold zr_nr; rw [if_pos q]
      · subst q; exact y2
      · subst q; exact y3
      · subst q; exact y4
    · rw [if_neg c, y5 _ (by omega)]; exact S1 row k h1 h2 h3
  · dsimp only
    by_cases c : r = rc
    · subst c
      rw [if_pos rfl]
      rcases kc k h2 with q | q | q | q
      · rw [x1 k q, (hD.1 k q).1]; unfold zr_nr; rw [if_pos q]
      · subst q; exact x2
      · subst q; exact x3
      · subst q; exact x4
    · rw [if_neg (by omega), x5 _ (by omega)]; exact S2 r k (by omega) h2
  · dsimp only
    rw [if_neg (by omega)]; exact S3 e k h1 h2
  · by_cases c : r = rc
    · subst c
      unfold zq_day
      dsimp only
      rw [if_pos rfl]
      exact ⟨hD.2.1, hD.2.2.1, hD.2.2.2.1, hD.2.2.2.2.1, hD.2.2.2.2.2, ok.1, ok.2.1, ok.2.2⟩
    · have q := w3 r (by omega)
      unfold zq_day at q ⊢
      dsimp only
      rw [if_neg (by omega)]
      exact q
  · dsimp only
    rw [if_neg (by omega)]; exact w4 e he
  · dsimp only
    rw [if_neg (by omega)]; exact w5 e he
end
theorem i_vc_addRule {k : Nat} {u : SX} {v : SY} (I : i_Rel k u v) (hk : k + 5 ≤ 2562) (v1 : Int32) (v2 : Int32) (v3 : Int32) : wpX_addRule (fun r u' => wpY_addRule (fun r' v' => r' = r ∧ i_Rel (k + 5) u' v') v v1 v2 v3) u v1 v2 v3 := by
  obtain ⟨a, a1, a2, rfl⟩ := zi_ex v1
  obtain ⟨b, b1, b2, rfl⟩ := zi_ex v2
  obtain ⟨c, c1, c2, rfl⟩ := zi_ex v3
  refine zr_el (P := fun u v => wpX_addRule (fun r u' => wpY_addRule (fun r' v' => r' = r ∧ i_Rel (k + 5) u' v') v (iI a) (iI b) (iI c)) u (iI a) (iI b) (iI c)) I ?_
  intro xl xm xr xe xa xs xc dD dR dE dF dA dU sS sV sO sB yl ym yr ye yc ys yA yP yT g h rl el rc ec hN hD hS hC
  have J : i_Rel (k + 5) (xl, xm, xr, xe, xa, xs, xc, dD, dR, dE, dF, dA, dU, sS, sV, sO, sB) (yl, ym, yr, ye, yc, ys, yA, yP, yT) := zr_mk g h rl el rc ec hN hD hS hC
  have hc := zr_cc hC
  obtain ⟨n1, n2, n3, n4, e1, e2, e3, e4, e5, e6, e7, e8⟩ := hN
  obtain ⟨S1, S2, S3, S4⟩ := hS
  have b7 : 0 ≤ h 7 ∧ h 7 ≤ 99 := by have := hD.2.2; unfold zr_yrs at this; omega
  have Yl := fun (post : Int32 → SY → Prop) => zy_addRule (yl := yl) (ym := ym) (yr := yr) (ye := ye) (yc := yc) (ys := ys) (yA := yA) (yP := yP) (yT := yT) (post := post) (g := g) (h := h) (rl := rl) (rc := rc) a1 a2 b1 b2 c1 c2 n1.2 n3 S4.2.2.1 S1 e6 e2 (hD.1 7 (by omega)).2 b7
  refine zx_addRule (g := g) (h := h) (rl := rl) (rc := rc) a1 a2 b1 b2 c1 c2 n1.2 n3 S4.2.2.1 S2 e5 e1 (hD.1 7 (by omega)).1 b7 (fun q => ?_) (fun q q1 => ?_) (fun q q1 q2 => ?_) (fun q q1 q2 q3 q4 => ?_) (fun q q1 q2 q3 dR' hx => ?_)
  · exact Yl _ (fun _ => ⟨rfl, J⟩) (fun p => absurd (hc.trans p) q) (fun p => absurd (hc.trans p) q) (fun p => absurd (hc.trans p) q) (fun p => absurd (hc.trans p) q)
  · exact Yl _ (fun p => absurd (hc.symm.trans q) p) (fun _ _ => ⟨rfl, J⟩) (fun _ p => absurd p q1) (fun _ p => absurd p q1) (fun _ p => absurd p q1)
  · exact Yl _ (fun p => absurd (hc.symm.trans q) p) (fun _ p => absurd q1 p) (fun _ _ _ => ⟨rfl, J⟩) (fun _ _ p => absurd p (by omega)) (fun _ _ p => absurd p (by omega))
  · exact Yl _ (fun p => absurd (hc.symm.trans q) p) (fun _ p => absurd q1 p) (fun _ _ p => absurd p (by omega)) (fun _ _ _ _ _ => ⟨rfl, J⟩) (fun _ _ _ p => absurd ⟨q3, q4⟩ p)
  · refine Yl _ (fun p => absurd (hc.symm.trans q) p) (fun _ p => absurd q1 p) (fun _ _ p => absurd p (by omega)) (fun _ _ _ p p' => absurd ⟨p, p'⟩ q3) (fun p0 _ _ _ ys' hy => ⟨rfl, ?_⟩)
    refine zr_mk _ h rl el (rc + 1) ec ⟨n1, n2, by omega, n4, e1, e2, e3, e4, rfl, rfl, e7, e8⟩ ⟨fun j hj => ⟨(hD.1 j hj).1, ?_⟩, hD.2⟩ (zr_Sr hD ⟨S1, S2, S3, S4⟩ (by omega) q1 hx hy) (Or.inl ⟨q, p0⟩)
    rw [hy.2.2.2.2 j (by omega)]; exact (hD.1 j hj).2
end
section
/-! 19: addEra -/
def zr_eok (a b c d : Int) : Prop := (-48 ≤ a ∧ a ≤ 56) ∧ ((0 ≤ b ∧ b ≤ 3) ∨ (16 ≤ b ∧ b ≤ 24)) ∧ (0 ≤ c ∧ c ≤ 7) ∧ (d = 99 ∨ (0 ≤ d ∧ d ≤ 19))
def zr_xe (ec : Nat) (dD dE dE' : Nat → Int32) (a b c d : Int) : Prop := (∀ k, k < 6 → dE' (ec * 10 + k) = dD k) ∧ dE' (ec * 10 + 6) = iI a ∧ dE' (ec * 10 + 7) = iI b ∧ dE' (ec * 10 + 8) = iI c ∧ dE' (ec * 10 + 9) = iI d ∧ ∀ j, j < ec * 10 → dE' j = dE j
def zr_ye (ec : Nat) (ys ys' : Nat → Int32) (a b c d : Int) : Prop := (∀ k, k < 6 → ys' ((9 + ec) * 11 + k) = ys k) ∧ ys' ((9 + ec) * 11 + 6) = iI a ∧ ys' ((9 + ec) * 11 + 7) = iI b ∧ ys' ((9 + ec) * 11 + 8) = iI c ∧ ys' ((9 + ec) * 11 + 9) = iI d ∧ ∀ j, (j < (9 + ec) * 11 ∨ (9 + ec) * 11 + 10 ≤ j) → ys' j = ys j
/-- the last era has no end -/
def zr_cl9 (g : Nat → Nat → Int) (ec : Nat) : Prop := 0 < ec ∧ g (9 + (ec - 1)) 9 = 99
/-- the end asked for is not later -/
def zr_nl (g : Nat → Nat → Int) (h : Nat → Int) (ec : Nat) (d : Int) : Prop := d ≠ 99 ∧ 0 < ec ∧ zc_rd h d ≤ zq_end g (ec - 1)
section
variable {g : Nat → Nat → Int} {h : Nat → Int} {rl el rc ec : Nat} {xl xm xr xe xa xs xc : Int32} {dD dR dE dF dA dU sS sV sO sB : Nat → Int32} {yl ym yr ye yc : Int32} {ys yA yP yT : Nat → Int32}
theorem zx_fit {post : Int32 → Prop} {a b c d : Int} (a1 : -2147483648 ≤ a) (a2 : a < 2147483648) (b1 : -2147483648 ≤ b) (b2 : b < 2147483648) (c1 : -2147483648 ≤ c) (c2 : c < 2147483648) (d1 : -2147483648 ≤ d) (d2 : d < 2147483648) (h0 : ¬ zr_eok a b c d → post 0) (h1 : zr_eok a b c d → post 1) : wpX_eraArgumentsFit post (xl, xm, xr, xe, xa, xs, xc, dD, dR, dE, dF, dA, dU, sS, sV, sO, sB) (iI a) (iI b) (iI c) (iI d) := by
  unfold zr_eok at *
  unfold wpX_eraArgumentsFit
  dsimp only
  refine zx_within a (-48) 56 (fun p1 p2 => br_f (by decide) ?_) (fun q => br_t rfl (h0 (by omega)))
  refine zx_within c 0 7 (fun p3 p4 => br_f (by decide) ?_) (fun q => br_t rfl (h0 (by omega)))
  have W : ((0 ≤ b ∧ b ≤ 3) ∨ (16 ≤ b ∧ b ≤ 24)) → wX_eraArgumentsFit_49 post (iI d) xl xm xr xe xa xs xc dD dR dE dF dA dU sS sV sO sB := by
    intro hb
    unfold wX_eraArgumentsFit_49
    refine zb_eq d 99 (fun q => h1 (by omega)) (fun q => ?_) rfl rfl
    exact zx_within d 0 19 (fun p5 p6 => br_f (by decide) (h1 (by omega))) (fun q => br_t rfl (h0 (by omega)))
  refine zx_within b 0 3 (fun p5 p6 => br_f (by decide) (W (by omega))) (fun q => br_t rfl ?_)
  exact zx_within b 16 24 (fun p5 p6 => br_f (by decide) (W (by omega))) (fun q => br_t rfl (h0 (by omega)))
theorem zx_e85 {post : Int32 → SX → Prop} {a b c d : Int} {dE0 : Nat → Int32} (hec : ec < 8) (hxe : xe = nI ec) (hp : ∀ dE', zr_xe ec dD dE0 dE' a b c d → post (nI ec) (xl, xm, xr, nI (ec + 1), xa, xs, xc, dD, dR, dE', dF, dA, dU, sS, sV, sO, sB)) : ∀ (r i n : Nat) (dE : Nat → Int32), i + r = 6 → r < n → (∀ k, k < i → dE (ec * 10 + k) = dD k) → (∀ j, j < ec * 10 → dE j = dE0 j) → wX_addEra_85 post (iI a) (iI b) (iI c) (iI d) (nI (ec * 10)) xl xm xr xe xa xs xc n (nI i) dD dR dE dF dA dU sS sV sO sB := by
  intro r
  induction r with
  | zero =>
    intro i n dE hi hn h1 h2
    obtain ⟨n, rfl⟩ : ∃ k, n = k + 1 := ⟨n - 1, by omega⟩
    rw [hxe]
    refine zk_le 6 i (fun _ => ?_) (fun l => absurd l (by omega)) rfl rfl (by omega) (by omega)
    rw [show nI (ec * 10) + 6 = nI (ec * 10 + 6) from nI_add _ 6, show nI (ec * 10) + 7 = nI (ec * 10 + 7) from nI_add _ 7, show nI (ec * 10) + 8 = nI (ec * 10 + 8) from nI_add _ 8, show nI (ec * 10) + 9 = nI (ec * 10 + 9) from nI_add _ 9, nI_clamp (by omega), nI_clamp (by omega), nI_clamp (by omega), nI_clamp (by omega)]
    refine ⟨zn_in (by omega) (by omega), nm_e ⟨zn_in (by omega) (by omega), nm_e ⟨zn_in (by omega) (by omega), nm_e ⟨zn_in (by omega) (by omega), nm_e (nm_r (nI_1 ec) ?_)⟩⟩⟩⟩
    rw [nI_pred]
    refine hp _ ⟨fun k hk => ?_, ?_, ?_, ?_, ?_, fun j hj => ?_⟩
    · rw [z_un (by omega), z_un (by omega), z_un (by omega), z_un (by omega)]; exact h1 k (by omega)
    · rw [z_un (by omega), z_un (by omega), z_un (by omega), z_us]
    · rw [z_un (by omega), z_un (by omega), z_us]
    · rw [z_un (by omega), z_us]
    · rw [z_us]
    · rw [z_un (by omega), z_un (by omega), z_un (by omega), z_un (by omega)]; exact h2 j hj
  | succ r ih =>
    intro i n dE hi hn h1 h2
    obtain ⟨n, rfl⟩ : ∃ k, n = k + 1 := ⟨n - 1, by omega⟩
    refine zk_le 6 i (fun l => absurd l (by omega)) (fun _ => ?_) rfl rfl (by omega) (by omega)
    rw [nI_add, nI_clamp (n := i) (by omega), nI_clamp (n := ec * 10 + i) (by omega)]
    refine ⟨zn_in (by omega) (by omega), zn_in (by omega) (by omega), nm_e (nm_r (nI_1 i) (ih (i + 1) n _ (by omega) (by omega) (fun k hk => ?_) (fun j hj => ?_)))⟩
    · by_cases e : k = i
      · subst e; rw [z_us]
      · rw [z_un (by omega)]; exact h1 k (by omega)
    · rw [z_un (by omega)]; exact h2 j hj
theorem zx_addEraM {post : Int32 → SX → Prop} {a b c d : Int} (a1 : -2147483648 ≤ a) (a2 : a < 2147483648) (b1 : -2147483648 ≤ b) (b2 : b < 2147483648) (c1 : -2147483648 ≤ c) (c2 : c < 2147483648) (d1 : -2147483648 ≤ d) (d2 : d < 2147483648) (hel : el ≤ 8) (hec : ec ≤ el) (w : zq_wf g rc ec) (hE : zx_E g ec dE) (hxe : xe = nI ec) (hxm : xm = nI el) (hD : ∀ k, k < 8 → dD k = iI (h k)) (hd : zc_day h) (hc : ¬ xc = 0 → post (-1004) (xl, xm, xr, xe, xa, xs, xc, dD, dR, dE, dF, dA, dU, sS, sV, sO, sB)) (hb : xc = 0 → ¬ zr_eok a b c d → post (-1001) (xl, xm, xr, xe, xa, xs, xc, dD, dR, dE, dF, dA, dU, sS, sV, sO, sB)) (hcl : xc = 0 → zr_eok a b c d → zr_cl9 g ec → post (-1005) (xl, xm, xr, xe, xa, xs, xc, dD, dR, dE, dF, dA, dU, sS, sV, sO, sB)) (hf : xc = 0 → zr_eok a b c d → ¬ zr_cl9 g ec → el ≤ ec → post (-1002) (xl, xm, xr, xe, xa, xs, xc, dD, dR, dE, dF, dA, dU, sS, sV, sO, sB)) (hnl : xc = 0 → zr_eok a b c d → ¬ zr_cl9 g ec → ec < el → zr_nl g h ec d → post (-1006) (xl, xm, xr, xe, xa, xs, xc, dD, dR, dE, dF, dA, dU, sS, sV, sO, sB)) (hk : xc = 0 → zr_eok a b c d → ¬ zr_cl9 g ec → ec < el → ¬ zr_nl g h ec d → ∀ dE', zr_xe ec dD dE dE' a b c d → post (nI ec) (xl, xm, xr, nI (ec + 1), xa, xs, xc, dD, dR, dE', dF, dA, dU, sS, sV, sO, sB)) : wpX_addEra post (xl, xm, xr, xe, xa, xs, xc, dD, dR, dE, dF, dA, dU, sS, sV, sO, sB) (iI a) (iI b) (iI c) (iI d) := by
  have w9 : ∀ e, e < ec → 0 ≤ g (9 + e) 9 ∧ g (9 + e) 9 ≤ 99 := fun e he => by have := (w.2.2.2.1 e he).2.2.2.2; omega
  unfold wpX_addEra
  dsimp only
  refine br_c (fun c0 => ?_) hc
  refine zx_fit a1 a2 b1 b2 c1 c2 d1 d2 (fun q => br_t rfl (hb c0 q)) (fun ok => br_f (by decide) ?_)
  refine zx_last hE (by omega) hxe w9 (fun q => br_t rfl ?_) (fun q1 q2 => br_f (by decide) (hcl c0 ok ⟨q1, q2⟩))
  have ncl : ¬ zr_cl9 g ec := by
    intro c
    rcases q with q | q
    · have := c.1; omega
    · exact q.2 c.2
  have W : ec < el → ¬ zr_nl g h ec d → wX_addEra_85 post (iI a) (iI b) (iI c) (iI d) (nI (ec * 10)) xl xm xr xe xa xs xc 7 (nI 0) dD dR dE dF dA dU sS sV sO sB :=
    fun q1 q2 => zx_e85 (by omega) hxe (hk c0 ok ncl q1 q2) 6 0 7 dE (by omega) (by omega) (fun k hk => by omega) (fun j hj => rfl)
  have fl := fun q => hf c0 ok ncl q
  have nl := fun q q' => hnl c0 ok ncl q q'
  rw [hxe, hxm]
  rw [hxe, hxm] at W fl nl
  refine zk_lt ec el (fun q1 => ?_) (fun q1 => fl q1) rfl rfl (by omega) (by omega)
  refine zb_eq d 99 (fun q2 => nm_r (zn_mul ec 10) ⟨7, W q1 (fun c => c.1 q2)⟩) (fun q2 => ?_) rfl rfl
  have d9 : 0 ≤ d ∧ d ≤ 19 := by have := ok.2.2.2; omega
  unfold wpX_endsLater
  dsimp only
  refine zk_eq ec 0 (fun q3 => br_f (by decide) (nm_r (zn_mul ec 10) ⟨7, W q1 (fun c => by have := c.2.1; omega)⟩)) (fun q3 => ?_) rfl rfl (by omega) (by omega)
  unfold wpX_draftReading
  dsimp only
  refine zx_within d 0 99 (fun l1 l2 => br_f (by decide) ?_) (fun l => absurd l (by omega))
  rw [hD 0 (by omega), hD 1 (by omega), hD 2 (by omega), hD 3 (by omega), hD 4 (by omega)]
  refine zx_reading hd l1 l2 ?_
  rw [zn_s (by omega)]
  have q9 := w9 (ec - 1) (by omega)
  have n99 : g (9 + (ec - 1)) 9 ≠ 99 := fun c => ncl ⟨by omega, c⟩
  refine zx_endReading w hE (by omega) q9 ?_
  have r1 := zc_r hd (y := d) (by omega) (by omega)
  have r2 : -576 ≤ zq_end g (ec - 1) ∧ zq_end g (ec - 1) < 3600000 := zc_r (w.2.2.2.1 (ec - 1) (by omega)).1 q9.1 q9.2
  refine zb_le (zc_rd h d) (zq_end g (ec - 1)) (fun q4 => br_t rfl (nl q1 ⟨q2, by omega, q4⟩)) (fun q4 => br_f (by decide) ?_) rfl rfl
  exact nm_r (zn_mul ec 10) ⟨7, W q1 (fun c => by have := c.2.2; omega)⟩
theorem zy_e196 {post : Int32 → SY → Prop} {a b c d : Int} {ys0 : Nat → Int32} (hec : ec < 8) (hye : ye = nI ec) (hp : ∀ ys', zr_ye ec ys0 ys' a b c d → post (nI ec) (yl, ym, yr, nI (ec + 1), yc, ys', yA, yP, yT)) : ∀ (r i n : Nat) (ys : Nat → Int32), i + r = 6 → r < n → (∀ k, k < i → ys ((9 + ec) * 11 + k) = ys0 k) → (∀ j, (j < (9 + ec) * 11 ∨ (9 + ec) * 11 + i ≤ j) → ys j = ys0 j) → wY_addEra_196 post (iI a) (iI b) (iI c) (iI d) (nI ((9 + ec) * 11)) yl ym yr ye yc n (nI i) ys yA yP yT := by
  intro r
  induction r with
  | zero =>
    intro i n ys hi hn h1 h2
    obtain ⟨n, rfl⟩ : ∃ k, n = k + 1 := ⟨n - 1, by omega⟩
    rw [hye]
    refine zk_le 6 i (fun _ => ?_) (fun l => absurd l (by omega)) rfl rfl (by omega) (by omega)
    rw [show nI ((9 + ec) * 11) + 6 = nI ((9 + ec) * 11 + 6) from nI_add _ 6, show nI ((9 + ec) * 11) + 7 = nI ((9 + ec) * 11 + 7) from nI_add _ 7, show nI ((9 + ec) * 11) + 8 = nI ((9 + ec) * 11 + 8) from nI_add _ 8, show nI ((9 + ec) * 11) + 9 = nI ((9 + ec) * 11 + 9) from nI_add _ 9, nI_clamp (by omega), nI_clamp (by omega), nI_clamp (by omega), nI_clamp (by omega)]
    refine ⟨zn_in (by omega) (by omega), nm_e ⟨zn_in (by omega) (by omega), nm_e ⟨zn_in (by omega) (by omega), nm_e ⟨zn_in (by omega) (by omega), nm_e (nm_r (nI_1 ec) ?_)⟩⟩⟩⟩
    rw [nI_pred]
    refine hp _ ⟨fun k hk => ?_, ?_, ?_, ?_, ?_, fun j hj => ?_⟩
    · rw [z_un (by omega), z_un (by omega), z_un (by omega), z_un (by omega)]; exact h1 k (by omega)
    · rw [z_un (by omega), z_un (by omega), z_un (by omega), z_us]
    · rw [z_un (by omega), z_un (by omega), z_us]
    · rw [z_un (by omega), z_us]
    · rw [z_us]
    · rw [z_un (by omega), z_un (by omega), z_un (by omega), z_un (by omega)]; exact h2 j (by omega)
  | succ r ih =>
    intro i n ys hi hn h1 h2
    obtain ⟨n, rfl⟩ : ∃ k, n = k + 1 := ⟨n - 1, by omega⟩
    refine zk_le 6 i (fun l => absurd l (by omega)) (fun _ => ?_) rfl rfl (by omega) (by omega)
    rw [nI_add, nI_clamp (n := i) (by omega), nI_clamp (n := (9 + ec) * 11 + i) (by omega)]
    refine ⟨zn_in (by omega) (by omega), zn_in (by omega) (by omega), nm_e (nm_r (nI_1 i) (ih (i + 1) n _ (by omega) (by omega) (fun k hk => ?_) (fun j hj => ?_)))⟩
    · by_cases e : k = i
      · subst e; rw [z_us]; exact h2 k (by omega)
      · rw [z_un (by omega)]; exact h1 k (by omega)
    · rw [z_un (by omega)]; exact h2 j (by omega)
theorem zy_addEraM {post : Int32 → SY → Prop} {a b c d : Int} (a1 : -2147483648 ≤ a) (a2 : a < 2147483648) (b1 : -2147483648 ≤ b) (b2 : b < 2147483648) (c1 : -2147483648 ≤ c) (c2 : c < 2147483648) (d1 : -2147483648 ≤ d) (d2 : d < 2147483648) (hel : el ≤ 8) (hec : ec ≤ el) (w : zq_wf g rc ec) (hS : zy_in g ys) (hye : ye = nI ec) (hym : ym = nI el) (hD : ∀ k, k < 8 → ys k = iI (h k)) (hd : zc_day h) (hc : ¬ yc = 0 → post (-1004) (yl, ym, yr, ye, yc, ys, yA, yP, yT)) (hb : yc = 0 → ¬ zr_eok a b c d → post (-1001) (yl, ym, yr, ye, yc, ys, yA, yP, yT)) (hcl : yc = 0 → zr_eok a b c d → zr_cl9 g ec → post (-1005) (yl, ym, yr, ye, yc, ys, yA, yP, yT)) (hf : yc = 0 → zr_eok a b c d → ¬ zr_cl9 g ec → el ≤ ec → post (-1002) (yl, ym, yr, ye, yc, ys, yA, yP, yT)) (hnl : yc = 0 → zr_eok a b c d → ¬ zr_cl9 g ec → ec < el → zr_nl g h ec d → post (-1006) (yl, ym, yr, ye, yc, ys, yA, yP, yT)) (hk : yc = 0 → zr_eok a b c d → ¬ zr_cl9 g ec → ec < el → ¬ zr_nl g h ec d → ∀ ys', zr_ye ec ys ys' a b c d → post (nI ec) (yl, ym, yr, nI (ec + 1), yc, ys', yA, yP, yT)) : wpY_addEra post (yl, ym, yr, ye, yc, ys, yA, yP, yT) (iI a) (iI b) (iI c) (iI d) := by
  have w9 : ∀ e, e < ec → 0 ≤ g (9 + e) 9 ∧ g (9 + e) 9 ≤ 99 := fun e he => by have := (w.2.2.2.1 e he).2.2.2.2; omega
  unfold wpY_addEra
  dsimp only
  refine br_c (fun c0 => ?_) hc
  have W : zr_eok a b c d → ¬ zr_cl9 g ec → ec < el → ¬ zr_nl g h ec d → wY_addEra_181 post (iI a) (iI b) (iI c) (iI d) yl ym yr ye yc ys yA yP yT := by
    intro ok ncl q1 q2
    unfold wY_addEra_181
    rw [hye]
    refine nm_r (e' := nI ((9 + ec) * 11)) ?_ ⟨7, zy_e196 (by omega) rfl (hk c0 ok ncl q1 q2) 6 0 7 ys (by omega) (by omega) (fun k hk => by omega) (fun j hj => rfl)⟩
    rw [show 9 + nI ec = nI (9 + ec) from nI_add 9 ec]; exact zn_mul _ 11
  have e8 : 0 < ec → 8 + nI ec = nI (9 + (ec - 1)) := by
    intro q
    rw [show 9 + (ec - 1) = 8 + ec by omega]; exact nI_add 8 ec
  have H110 : zr_eok a b c d → ¬ zr_cl9 g ec → wY_addEra_110 post (iI a) (iI b) (iI c) (iI d) yl ym yr ye yc ys yA yP yT := by
    intro ok ncl
    have V := W ok ncl
    have fl := fun q => hf c0 ok ncl q
    have nl := fun q q' => hnl c0 ok ncl q q'
    unfold wY_addEra_110
    rw [hye, hym]
    rw [hye, hym] at V fl nl
    refine zk_lt ec el (fun q1 => ?_) (fun q1 => fl q1) rfl rfl (by omega) (by omega)
    refine zb_eq d 99 (fun q2 => V q1 (fun c => c.1 q2)) (fun q2 => ?_) rfl rfl
    have d9 : 0 ≤ d ∧ d ≤ 19 := by have := ok.2.2.2; omega
    refine zk_le ec 0 (fun q3 => V q1 (fun c => by have := c.2.1; omega)) (fun q3 => ?_) rfl rfl (by omega) (by omega)
    have q9 := w9 (ec - 1) (by omega)
    have r1 := zc_r hd (y := d) (by omega) (by omega)
    have r2 : -576 ≤ zq_end g (ec - 1) ∧ zq_end g (ec - 1) < 3600000 := zc_r (w.2.2.2.1 (ec - 1) (by omega)).1 q9.1 q9.2
    refine zy_atg hS (9 + (ec - 1)) 9 ?_ (by omega) (by omega) (e8 q3) rfl
    refine zy_reading (h := h) 0 (fun j hj => by rw [show 0 * 11 + j = j by omega]; exact hD j (by omega)) hd (by omega) (by omega) ?_ (by omega) rfl
    refine zy_reading (h := g (9 + (ec - 1))) (9 + (ec - 1)) (fun k hk => hS _ _ (by omega) (by omega) (by omega)) (w.2.2.2.1 (ec - 1) (by omega)).1 q9.1 q9.2 ?_ (by omega) (e8 q3)
    exact zb_lt (zq_end g (ec - 1)) (zc_rd h d) (fun q4 => V q1 (fun c => by have := c.2.2; omega)) (fun q4 => nl q1 ⟨q2, q3, q4⟩) rfl rfl
  have H81 : zr_eok a b c d → wY_addEra_81 post (iI a) (iI b) (iI c) (iI d) yl ym yr ye yc ys yA yP yT := by
    intro ok
    have V := H110 ok
    have cl := fun q => hcl c0 ok q
    unfold wY_addEra_81
    rw [hye]
    rw [hye] at V cl
    refine zk_le ec 0 (fun q => V (fun c => by have := c.1; omega)) (fun q => ?_) rfl rfl (by omega) (by omega)
    have q9 := w9 (ec - 1) (by omega)
    refine zy_atg hS (9 + (ec - 1)) 9 ?_ (by omega) (by omega) (e8 q) rfl
    exact zb_eq (g (9 + (ec - 1)) 9) 99 (fun q2 => cl ⟨q, q2⟩) (fun q2 => V (fun c => q2 c.2)) rfl rfl
  have hb' : ¬ zr_eok a b c d → post (-1001) (yl, ym, yr, ye, yc, ys, yA, yP, yT) := hb c0
  unfold zr_eok at hb' H81
  have H38 : (-48 ≤ a ∧ a ≤ 56) → (0 ≤ b ∧ (b ≤ 3 ∨ 16 ≤ b)) → wY_addEra_38 post (iI a) (iI b) (iI c) (iI d) yl ym yr ye yc ys yA yP yT := by
    intro qa qb
    unfold wY_addEra_38
    refine zb_le b 24 (fun p1 => ?_) (fun p1 => hb' (by omega)) rfl rfl
    refine zb_lt c 0 (fun q => hb' (by omega)) (fun p2 => zb_lt 7 c (fun q => hb' (by omega)) (fun p3 => ?_) rfl rfl) rfl rfl
    refine zb_lt d 0 (fun q => hb' (by omega)) (fun p4 => zb_le d 19 (fun q => H81 (by omega)) (fun p5 => zb_eq d 99 (fun p6 => H81 (by omega)) (fun p6 => hb' (by omega)) rfl rfl) rfl rfl) rfl rfl
  refine zb_lt a (-48) (fun q => hb' (by omega)) (fun p1 => zb_lt 56 a (fun q => hb' (by omega)) (fun p2 => ?_) rfl rfl) rfl rfl
  refine zb_lt b 0 (fun q => hb' (by omega)) (fun p3 => zb_le b 3 (fun p4 => H38 (by omega) (by omega)) (fun p4 => zb_lt b 16 (fun q => hb' (by omega)) (fun p5 => H38 (by omega) (by omega)) rfl rfl) rfl rfl) rfl rfl
def zr_ne (h o : Nat → Int) (a b c d : Int) : Nat → Int := fun k => if k < 6 then h k else if k = 6 then a else if k = 7 then b else if k = 8 then c else if k = 9 then d else o k
theorem zr_Se {a b c d : Int} {dE' ys' : Nat → Int32} (hD : zr_D h dD ys) (hS : zr_S g rc ec dR dE ys) (hec : ec < 8) (ok : zr_eok a b c d) (ncl : ¬ zr_cl9 g ec) (hx : zr_xe ec dD dE dE' a b c d) (hy : zr_ye ec ys ys' a b c d) : zr_S (fun row => if row = 9 + ec then zr_ne h (g (9 + ec)) a b c d else g row) rc (ec + 1) dR dE' ys' := by
  obtain ⟨S1, S2, S3, w1, w2, w3, w4, w5⟩ := hS
  obtain ⟨x1, x2, x3, x4, x5, x6⟩ := hx
  obtain ⟨y1, y2, y3, y4, y5, y6⟩ := hy
  refine ⟨fun row k h1 h2 h3 => ?_, fun r k h1 h2 => ?_, fun e k h1 h2 => ?_, w1, by omega, fun r hr => ?_, fun e he => ?_, fun e he => ?_⟩
  · dsimp only
    by_cases c : row = 9 + ec
    · subst c
      rw [if_pos rfl]
      have kc : k < 6 ∨ k = 6 ∨ k = 7 ∨ k = 8 ∨ k = 9 ∨ k = 10 := by omega
      rcases kc with q | q | q | q | q | q
      · rw [y1 k q, (hD.1 k (by omega)).2]; unfold zr_ne; rw [if_pos q]
      · subst q; exact y2
      · subst q; exact y3
      · subst q; exact y4
      · subst q; exact y5
      · subst q; rw [y6 _ (by omega)]; exact S1 (9 + ec) 10 h1 h2 h3
    · rw [if_neg c, y6 _ (by omega)]; exact S1 row k h1 h2 h3
  · dsimp only
    rw [if_neg (by omega)]; exact S2 r k h1 h2
  · dsimp only
    by_cases c : e = ec
    · subst c
      rw [if_pos rfl]
      have kc : k < 6 ∨ k = 6 ∨ k = 7 ∨ k = 8 ∨ k = 9 := by omega
      rcases kc with q | q | q | q | q
      · rw [x1 k q, (hD.1 k (by omega)).1]; unfold zr_ne; rw [if_pos q]
      · subst q; exact x2
      · subst q; exact x3
      · subst q; exact x4
      · subst q; exact x5
    · rw [if_neg (by omega), x6 _ (by omega)]; exact S3 e k (by omega) h2
  · have q := w3 r hr
    unfold zq_day at q ⊢
    dsimp only
    rw [if_neg (by omega)]
    exact q
  · dsimp only
    by_cases c : e = ec
    · subst c
      rw [if_pos rfl]
      exact ⟨hD.2.1, ok.1, ok.2.1, ok.2.2.1, ok.2.2.2⟩
    · rw [if_neg (by omega)]; exact w4 e (by omega)
  · dsimp only
    rw [if_neg (by omega)]
    by_cases c : e + 1 = ec
    · intro c'
      exact ncl ⟨by omega, by rw [show ec - 1 = e by omega]; exact c'⟩
    · exact w5 e (by omega)
end
theorem i_vc_addEra {k : Nat} {u : SX} {v : SY} (I : i_Rel k u v) (hk : k + 5 ≤ 2562) (v1 : Int32) (v2 : Int32) (v3 : Int32) (v4 : Int32) : wpX_addEra (fun r u' => wpY_addEra (fun r' v' => r' = r ∧ i_Rel (k + 5) u' v') v v1 v2 v3 v4) u v1 v2 v3 v4 := by
  obtain ⟨a, a1, a2, rfl⟩ := zi_ex v1
  obtain ⟨b, b1, b2, rfl⟩ := zi_ex v2
  obtain ⟨c, c1, c2, rfl⟩ := zi_ex v3
  obtain ⟨d, d1, d2, rfl⟩ := zi_ex v4
  refine zr_el (P := fun u v => wpX_addEra (fun r u' => wpY_addEra (fun r' v' => r' = r ∧ i_Rel (k + 5) u' v') v (iI a) (iI b) (iI c) (iI d)) u (iI a) (iI b) (iI c) (iI d)) I ?_
  intro xl xm xr xe xa xs xc dD dR dE dF dA dU sS sV sO sB yl ym yr ye yc ys yA yP yT g h rl el rc ec hN hD hS hC
  have J : i_Rel (k + 5) (xl, xm, xr, xe, xa, xs, xc, dD, dR, dE, dF, dA, dU, sS, sV, sO, sB) (yl, ym, yr, ye, yc, ys, yA, yP, yT) := zr_mk g h rl el rc ec hN hD hS hC
  have hc := zr_cc hC
  obtain ⟨n1, n2, n3, n4, e1, e2, e3, e4, e5, e6, e7, e8⟩ := hN
  obtain ⟨S1, S2, S3, S4⟩ := hS
  have Yl := fun (post : Int32 → SY → Prop) => zy_addEraM (yl := yl) (ym := ym) (yr := yr) (ye := ye) (yc := yc) (ys := ys) (yA := yA) (yP := yP) (yT := yT) (post := post) (g := g) (h := h) (el := el) (rc := rc) (ec := ec) a1 a2 b1 b2 c1 c2 d1 d2 n2.2 n4 S4 S1 e8 e4 (fun j hj => (hD.1 j hj).2) hD.2.1
  refine zx_addEraM (g := g) (h := h) (el := el) (rc := rc) (ec := ec) a1 a2 b1 b2 c1 c2 d1 d2 n2.2 n4 S4 S3 e7 e3 (fun j hj => (hD.1 j hj).1) hD.2.1 (fun q => ?_) (fun q q1 => ?_) (fun q q1 q2 => ?_) (fun q q1 q2 q3 => ?_) (fun q q1 q2 q3 q4 => ?_) (fun q q1 q2 q3 q4 dE' hx => ?_)
  · exact Yl _ (fun _ => ⟨rfl, J⟩) (fun p => absurd (hc.trans p) q) (fun p => absurd (hc.trans p) q) (fun p => absurd (hc.trans p) q) (fun p => absurd (hc.trans p) q) (fun p => absurd (hc.trans p) q)
  · exact Yl _ (fun p => absurd (hc.symm.trans q) p) (fun _ _ => ⟨rfl, J⟩) (fun _ p => absurd p q1) (fun _ p => absurd p q1) (fun _ p => absurd p q1) (fun _ p => absurd p q1)
  · exact Yl _ (fun p => absurd (hc.symm.trans q) p) (fun _ p => absurd q1 p) (fun _ _ _ => ⟨rfl, J⟩) (fun _ _ p => absurd q2 p) (fun _ _ p => absurd q2 p) (fun _ _ p => absurd q2 p)
  · exact Yl _ (fun p => absurd (hc.symm.trans q) p) (fun _ p => absurd q1 p) (fun _ _ p => absurd p q2) (fun _ _ _ _ => ⟨rfl, J⟩) (fun _ _ _ p => absurd p (by omega)) (fun _ _ _ p => absurd p (by omega))
  · exact Yl _ (fun p => absurd (hc.symm.trans q) p) (fun _ p => absurd q1 p) (fun _ _ p => absurd p q2) (fun _ _ _ p => absurd p (by omega)) (fun _ _ _ _ _ => ⟨rfl, J⟩) (fun _ _ _ _ p => absurd q4 p)
  · refine Yl _ (fun p => absurd (hc.symm.trans q) p) (fun _ p => absurd q1 p) (fun _ _ p => absurd p q2) (fun _ _ _ p => absurd p (by omega)) (fun _ _ _ _ p => absurd p q4) (fun p0 _ _ _ _ ys' hy => ⟨rfl, ?_⟩)
    refine zr_mk _ h rl el rc (ec + 1) ⟨n1, n2, n3, by omega, e1, e2, e3, e4, e5, e6, rfl, rfl⟩ ⟨fun j hj => ⟨(hD.1 j hj).1, ?_⟩, hD.2⟩ (zr_Se hD ⟨S1, S2, S3, S4⟩ (by omega) q1 q2 hx hy) (Or.inl ⟨q, p0⟩)
    rw [hy.2.2.2.2.2 j (by omega)]; exact (hD.1 j hj).2
end
section
/-! 20: compile; offsetAt, savingAt, abbreviationAt -/
def zy_M (g : Nat → Nat → Int) (rc ec : Nat) (yr ye yc : Int32) (ys yA yP yT : Nat → Int32) : Prop := zq_wf g rc ec ∧ zy_in g ys ∧ zy_ac g rc yA ∧ zy_pr g rc yP ∧ yr = nI rc ∧ ye = nI ec ∧ yc = 1 ∧ 1 ≤ ec ∧ ∀ e, e < ec → yT e = iI (zq_st g rc e)
section
variable {g : Nat → Nat → Int} {h : Nat → Int} {rl el rc ec : Nat} {xl xm xr xe xa xs xc : Int32} {dD dR dE dF dA dU sS sV sO sB : Nat → Int32} {yl ym yr ye yc : Int32} {ys yA yP yT : Nat → Int32}
theorem zy_Mk (hN : zr_N rl el rc ec xl xm xr xe yl ym yr ye) (hS : zr_S g rc ec dR dE ys) (hy : yc = 1) (hK : zr_K g rc ec xs sS sV sO sB yA yP yT) : zy_M g rc ec yr ye yc ys yA yP yT :=
  ⟨hS.2.2.2, hS.1, hK.2.1, hK.2.2.1, hN.2.2.2.2.2.2.2.2.2.1, hN.2.2.2.2.2.2.2.2.2.2.2, hy, hK.1, hK.2.2.2.1⟩
theorem zy_compile {post : Int32 → SY → Prop} (w : zq_wf g rc ec) (hS : zy_in g ys) (hyr : yr = nI rc) (hye : ye = nI ec) (hyc : yc = 0) (h0 : (ec = 0 ∨ (0 < ec ∧ g (9 + (ec - 1)) 9 ≠ 99)) → post (-1007) (yl, ym, yr, ye, yc, ys, yA, yP, yT)) (h1 : 0 < ec → g (9 + (ec - 1)) 9 = 99 → ∀ yA' yP' yT', zy_ac g rc yA' → zy_pr g rc yP' → (∀ e, e < ec → yT' e = iI (zq_st g rc e)) → post 0 (yl, ym, yr, ye, 1, ys, yA', yP', yT')) : wpY_compile post (yl, ym, yr, ye, yc, ys, yA, yP, yT) := by
  have hec : ec ≤ 8 := w.2.1
  unfold wpY_compile
  dsimp only
  refine br_t hyc ?_
  have H := fun (a : 0 < ec) (b : g (9 + (ec - 1)) 9 = 99) => zy_c42 (yl := yl) (ym := ym) (yr := yr) (ye := ye) (yc := yc) (ys := ys) (yP := yP) (yT := yT) (post := post) w hS hyr hye a (h1 a b) (rc * 100) 0 (rc * 100 + 1) yA (by omega) (by omega) (fun i hi => by omega)
  rw [hye]
  rw [hye] at H h0
  refine zk_eq ec 0 (fun q => h0 (Or.inl q)) (fun q => ?_) rfl rfl (by omega) (by omega)
  have w9 := (w.2.2.2.1 (ec - 1) (by omega)).2.2.2.2
  refine zy_atg hS (9 + (ec - 1)) 9 ?_ (by omega) (by omega) (by rw [show 9 + (ec - 1) = 8 + ec by omega]; exact nI_add 8 ec) rfl
  exact zb_eq (g (9 + (ec - 1)) 9) 99 (fun q2 => ⟨_, H (by omega) q2⟩) (fun q2 => h0 (Or.inr ⟨by omega, q2⟩)) rfl rfl
/-- the values packed and unpacked -/
theorem zq_vb (w : zq_wf g rc ec) {e : Nat} (he : e < ec) (t : Int) : (-48 ≤ zq_of g rc e t ∧ zq_of g rc e t ≤ 64) ∧ (0 ≤ zq_s g rc e t ∧ zq_s g rc e t ≤ 8) ∧ (0 ≤ zq_ab g rc e t ∧ zq_ab g rc e t ≤ 63) ∧ zq_val g rc e t = (zq_of g rc e t + 100) * 1024 + zq_s g rc e t * 64 + zq_ab g rc e t := by
  have h1 := zq_sb w he t
  have h2 := (zq_fb w e t).2
  have E := w.2.2.2.1 e he
  have E6 := E.2.1
  have E8 := E.2.2.2.1
  unfold zq_of zq_ab zq_val
  unfold zq_of
  omega
theorem zq_vu {o s b v : Int} (o1 : -48 ≤ o ∧ o ≤ 64) (s1 : 0 ≤ s ∧ s ≤ 8) (b1 : 0 ≤ b ∧ b ≤ 63) (hv : v = (o + 100) * 1024 + s * 64 + b) : (0 ≤ v ∧ v < 1000000) ∧ v / 1024 - 100 = o ∧ v / 64 % 16 = s ∧ v % 64 = b := by omega
theorem zq_erl (h1 : 1 ≤ ec) {t : Int} (ht : 0 ≤ t) : zq_er g rc t (ec - 1) < ec := by
  have := (zq_erb (g := g) (rc := rc) ht (ec - 1)).1
  omega
theorem zy_val {post : Int32 → Prop} {t : Int} (M : zy_M g rc ec yr ye yc ys yA yP yT) (t0 : -2147483648 ≤ t) (t1 : t < 2147483648) (hp : 0 ≤ t → t < 3506400 → post (iI (zq_val g rc (zq_er g rc t (ec - 1)) t))) (hq : (t < 0 ∨ 3506400 ≤ t) → post (-1009)) : wpY_valuesAt post (yl, ym, yr, ye, yc, ys, yA, yP, yT) (iI t) :=
  zy_values M.1 M.2.1 M.2.2.1 M.2.2.2.1 M.2.2.2.2.1 M.2.2.2.2.2.1 M.2.2.2.2.2.2.1 M.2.2.2.2.2.2.2.1 M.2.2.2.2.2.2.2.2 t0 t1 hp hq
theorem zy_val0 {post : Int32 → Prop} {x : Int32} (hy : yc = 0) (hp : post (-1008)) : wpY_valuesAt post (yl, ym, yr, ye, yc, ys, yA, yP, yT) x := by
  unfold wpY_valuesAt
  exact br_t hy hp
theorem zy_offset {post : Int32 → Prop} {t : Int} (M : zy_M g rc ec yr ye yc ys yA yP yT) (t0 : -2147483648 ≤ t) (t1 : t < 2147483648) (hp : 0 ≤ t → t < 3506400 → post (iI (zq_of g rc (zq_er g rc t (ec - 1)) t))) (hq : (t < 0 ∨ 3506400 ≤ t) → post (-1009)) : wpY_offsetAt post (yl, ym, yr, ye, yc, ys, yA, yP, yT) (iI t) := by
  unfold wpY_offsetAt
  dsimp only
  refine zy_val M t0 t1 (fun l1 l2 => ?_) (fun l => br_f (by decide) (hq l))
  have b := zq_vb M.1 (zq_erl (g := g) (rc := rc) M.2.2.2.2.2.2.2.1 l1) t
  have u := zq_vu b.1 b.2.1 b.2.2.1 b.2.2.2
  refine zb_le 0 _ (fun _ => ⟨by decide, ?_⟩) (fun l => absurd l (by omega)) rfl rfl
  exact zv (hp l1 l2) (by rw [← u.2.1]; exact zS (zD rfl rfl (by omega) (by omega) (by omega) (by omega)) rfl)
theorem zy_savAt {post : Int32 → Prop} {t : Int} (M : zy_M g rc ec yr ye yc ys yA yP yT) (t0 : -2147483648 ≤ t) (t1 : t < 2147483648) (hp : 0 ≤ t → t < 3506400 → post (iI (zq_s g rc (zq_er g rc t (ec - 1)) t))) (hq : (t < 0 ∨ 3506400 ≤ t) → post (-1009)) : wpY_savingAt post (yl, ym, yr, ye, yc, ys, yA, yP, yT) (iI t) := by
  unfold wpY_savingAt
  dsimp only
  refine zy_val M t0 t1 (fun l1 l2 => ?_) (fun l => br_f (by decide) (hq l))
  have b := zq_vb M.1 (zq_erl (g := g) (rc := rc) M.2.2.2.2.2.2.2.1 l1) t
  have u := zq_vu b.1 b.2.1 b.2.2.1 b.2.2.2
  refine zb_le 0 _ (fun _ => ⟨by decide, by decide, ?_⟩) (fun l => absurd l (by omega)) rfl rfl
  exact zv (hp l1 l2) (by rw [← u.2.2.1]; exact zR (zD rfl rfl (by omega) (by omega) (by omega) (by omega)) rfl (by omega) (by omega) (by omega) (by omega))
theorem zy_abbAt {post : Int32 → Prop} {t : Int} (M : zy_M g rc ec yr ye yc ys yA yP yT) (t0 : -2147483648 ≤ t) (t1 : t < 2147483648) (hp : 0 ≤ t → t < 3506400 → post (iI (zq_ab g rc (zq_er g rc t (ec - 1)) t))) (hq : (t < 0 ∨ 3506400 ≤ t) → post (-1009)) : wpY_abbreviationAt post (yl, ym, yr, ye, yc, ys, yA, yP, yT) (iI t) := by
  unfold wpY_abbreviationAt
  dsimp only
  refine zy_val M t0 t1 (fun l1 l2 => ?_) (fun l => br_f (by decide) (hq l))
  have b := zq_vb M.1 (zq_erl (g := g) (rc := rc) M.2.2.2.2.2.2.2.1 l1) t
  have u := zq_vu b.1 b.2.1 b.2.2.1 b.2.2.2
  refine zb_le 0 _ (fun _ => ⟨by decide, ?_⟩) (fun l => absurd l (by omega)) rfl rfl
  exact zv (hp l1 l2) (by rw [← u.2.2.2]; exact zR rfl rfl (by omega) (by omega) (by omega) (by omega))
/-- the binary search -/
theorem zx_sa9 {post : Int32 → Prop} {K : Nat → Nat → Int} {n : Nat} {t : Int} (hn : n ≤ 2600) (hS : zx_Sg K n sS sV sO sB) (t0 : -10000 ≤ t) (t1 : t < 4000000) (h : ∀ i, i < n → K i 0 ≤ t → (i + 1 < n → t < K (i + 1) 0) → post (nI i)) : ∀ (d f lo hi : Nat), hi - lo ≤ d → d < f → lo ≤ hi → hi < n → K lo 0 ≤ t → (hi + 1 < n → t < K (hi + 1) 0) → wX_segmentAt_9 post (iI t) xl xm xr xe xa xs xc dD dR dE dF dA dU sS sV sO sB f (nI lo) (nI hi) := by
  intro d
  induction d with
  | zero =>
    intro f lo hi hd hf h1 h2 h3 h4
    obtain ⟨f, rfl⟩ : ∃ k, f = k + 1 := ⟨f - 1, by omega⟩
    have e : lo = hi := by omega
    subst e
    exact zk_le lo lo (fun _ => h lo h2 h3 h4) (fun l => absurd l (by omega)) rfl rfl (by omega) (by omega)
  | succ d ih =>
    intro f lo hi hd hf h1 h2 h3 h4
    obtain ⟨f, rfl⟩ : ∃ k, f = k + 1 := ⟨f - 1, by omega⟩
    refine zk_le hi lo (fun l => ?_) (fun l => ⟨by decide, ?_⟩) rfl rfl (by omega) (by omega)
    · have e : lo = hi := by omega
      subst e
      exact h lo h2 h3 h4
    · refine nm_r (e' := nI ((lo + hi + 1) / 2)) ?_ ?_
      · rw [nI_add, nI_1, show (2 : Int32) = nI 2 from rfl, zn_div (by omega) (by omega) (by omega)]
      · have s1 := hS ((lo + hi + 1) / 2) (by omega)
        have s2 := s1.1.1
        rw [nI_clamp (by omega), s1.2.1]
        refine ⟨zn_in (by omega) (by omega), zb_lt t (K ((lo + hi + 1) / 2) 0) (fun q => nm_r (zn_s (by omega)) ?_) (fun q => ?_) rfl rfl⟩
        · exact ih f lo ((lo + hi + 1) / 2 - 1) (by omega) (by omega) (by omega) (by omega) h3 (fun q2 => by rw [show (lo + hi + 1) / 2 - 1 + 1 = (lo + hi + 1) / 2 by omega]; exact q)
        · exact ih f ((lo + hi + 1) / 2) hi (by omega) (by omega) (by omega) h2 q h4
theorem zx_segAt {post : Int32 → Prop} {K : Nat → Nat → Int} {n : Nat} {t : Int} (C : zx_Cmp g rc ec K n sS sV sO sB) (t0 : 0 ≤ t) (t1 : t < 3506400) (h : ∀ i, i < n → K i 0 ≤ t → (i + 1 < n → t < K (i + 1) 0) → post (nI i)) : wpX_segmentAt post (xl, xm, xr, xe, xa, nI n, xc, dD, dR, dE, dF, dA, dU, sS, sV, sO, sB) (iI t) := by
  obtain ⟨c1, c2, c3, c4, c5, c6⟩ := C
  unfold wpX_segmentAt
  dsimp only
  refine nm_r (zn_s c1) ⟨n, zx_sa9 c2 c3 (by omega) (by omega) h (n - 1) n 0 (n - 1) (by omega) (by omega) (by omega) (by omega) (by omega) (fun q => by omega)⟩
theorem zx_chk0 {post : Int32 → Prop} {x : Int32} (hx : xc = 0) (hp : post (-1008)) : wpX_checkInstant post (xl, xm, xr, xe, xa, xs, xc, dD, dR, dE, dF, dA, dU, sS, sV, sO, sB) x := by
  unfold wpX_checkInstant
  exact br_t hx hp
theorem zx_chk1 {post : Int32 → Prop} {t : Int} (hx : xc = 1) (t0 : -2147483648 ≤ t) (t1 : t < 2147483648) (hp : 0 ≤ t → t < 3506400 → post 0) (hq : (t < 0 ∨ 3506400 ≤ t) → post (-1009)) : wpX_checkInstant post (xl, xm, xr, xe, xa, xs, xc, dD, dR, dE, dF, dA, dU, sS, sV, sO, sB) (iI t) := by
  unfold wpX_checkInstant
  dsimp only
  exact br_f (by rw [hx]; decide) (zb_lt t 0 (fun l => hq (Or.inl l)) (fun l => zb_le 3506400 t (fun l' => hq (Or.inr l')) (fun l' => hp l l') rfl rfl) rfl rfl)
theorem zx_Ci {K : Nat → Nat → Int} {n i : Nat} {t : Int} (C : zx_Cmp g rc ec K n sS sV sO sB) (i1 : i < n) (i2 : K i 0 ≤ t) (t1 : t < 3506400) (i3 : i + 1 < n → t < K (i + 1) 0) (j : Nat) (j1 : 1 ≤ j) (j2 : j ≤ 3) : K i j = zx_vt g rc ec t j :=
  C.2.2.2.1.2.2 i t (by omega) i1 i2 t1 i3 j j1 j2
end
theorem i_vc_compile {k : Nat} {u : SX} {v : SY} (I : i_Rel k u v) (hk : k + 5 ≤ 2562) : wpX_compile (fun r u' => wpY_compile (fun r' v' => r' = r ∧ i_Rel (k + 5) u' v') v) u := by
  refine zr_el (P := fun u v => wpX_compile (fun r u' => wpY_compile (fun r' v' => r' = r ∧ i_Rel (k + 5) u' v') v) u) I ?_
  intro xl xm xr xe xa xs xc dD dR dE dF dA dU sS sV sO sB yl ym yr ye yc ys yA yP yT g h rl el rc ec hN hD hS hC
  have J : i_Rel (k + 5) (xl, xm, xr, xe, xa, xs, xc, dD, dR, dE, dF, dA, dU, sS, sV, sO, sB) (yl, ym, yr, ye, yc, ys, yA, yP, yT) := zr_mk g h rl el rc ec hN hD hS hC
  have N5 := hN.2.2.2.2.2.2.2.2.1
  have N6 := hN.2.2.2.2.2.2.2.2.2.1
  have N7 := hN.2.2.2.2.2.2.2.2.2.2.1
  have N8 := hN.2.2.2.2.2.2.2.2.2.2.2
  have hS' := hS
  obtain ⟨S1, S2, S3, S4⟩ := hS'
  rcases hC with ⟨hx, hy⟩ | ⟨hx, hy, hK⟩
  · have Yl := fun (post : Int32 → SY → Prop) => zy_compile (yl := yl) (ym := ym) (yr := yr) (ye := ye) (yc := yc) (ys := ys) (yA := yA) (yP := yP) (yT := yT) (post := post) S4 S1 N6 N8 hy
    refine zx_compile S4 S2 S3 N5 N7 hx (fun q => ?_) (fun q1 q2 n K xa' dF' dA' dU' sS' sV' sO' sB' C => ?_)
    · refine Yl _ (fun _ => ⟨rfl, J⟩) (fun p1 p2 => ?_)
      rcases q with q | q
      · omega
      · exact absurd p2 q.2
    · refine Yl _ (fun q => ?_) (fun _ _ yA' yP' yT' hA hP hT => ⟨rfl, ?_⟩)
      · rcases q with q | q
        · omega
        · exact absurd q2 q.2
      · exact zr_mk g h rl el rc ec hN hD hS (Or.inr ⟨rfl, rfl, q1, hA, hP, hT, n, K, rfl, C⟩)
  · unfold wpX_compile wpY_compile
    exact br_f (by rw [hx]; decide) (br_f (by rw [hy]; decide) ⟨rfl, J⟩)
theorem i_vc_offsetAt {k : Nat} {u : SX} {v : SY} (I : i_Rel k u v) (hk : k + 5 ≤ 2562) (v1 : Int32) : wpX_offsetAt (fun r => wpY_offsetAt (fun r' => r' = r ∧ i_Rel (k + 5) u v) v v1) u v1 := by
  obtain ⟨t, t1, t2, rfl⟩ := zi_ex v1
  refine zr_el (P := fun u v => wpX_offsetAt (fun r => wpY_offsetAt (fun r' => r' = r ∧ i_Rel (k + 5) u v) v (iI t)) u (iI t)) I ?_
  intro xl xm xr xe xa xs xc dD dR dE dF dA dU sS sV sO sB yl ym yr ye yc ys yA yP yT g h rl el rc ec hN hD hS hC
  have J : i_Rel (k + 5) (xl, xm, xr, xe, xa, xs, xc, dD, dR, dE, dF, dA, dU, sS, sV, sO, sB) (yl, ym, yr, ye, yc, ys, yA, yP, yT) := zr_mk g h rl el rc ec hN hD hS hC
  unfold wpX_offsetAt
  dsimp only
  rcases hC with ⟨hx, hy⟩ | ⟨hx, hy, hK⟩
  · refine zx_chk0 hx (br_f (by decide) ?_)
    unfold wpY_offsetAt
    dsimp only
    exact zy_val0 hy (br_f (by decide) ⟨rfl, J⟩)
  · have M := zy_Mk hN hS hy hK
    obtain ⟨h1, _, _, _, n, K, rfl, C⟩ := hK
    refine zx_chk1 hx t1 t2 (fun l1 l2 => br_t rfl ?_) (fun l => br_f (by decide) ?_)
    · refine zx_segAt C l1 l2 (fun i i1 i2 i3 => ?_)
      rw [nI_clamp (by have := C.2.1; omega), (C.2.2.1 i i1).2.2.2.1]
      refine ⟨zn_in (by have := C.2.1; omega) (by omega), zy_offset M t1 t2 (fun _ _ => ⟨?_, J⟩) (fun l => absurd l (by omega))⟩
      rw [zx_Ci C i1 i2 l2 i3 2 (by omega) (by omega)]
      rfl
    · exact zy_offset M t1 t2 (fun l1 l2 => absurd l (by omega)) (fun _ => ⟨rfl, J⟩)
theorem i_vc_savingAt {k : Nat} {u : SX} {v : SY} (I : i_Rel k u v) (hk : k + 5 ≤ 2562) (v1 : Int32) : wpX_savingAt (fun r => wpY_savingAt (fun r' => r' = r ∧ i_Rel (k + 5) u v) v v1) u v1 := by
  obtain ⟨t, t1, t2, rfl⟩ := zi_ex v1
  refine zr_el (P := fun u v => wpX_savingAt (fun r => wpY_savingAt (fun r' => r' = r ∧ i_Rel (k + 5) u v) v (iI t)) u (iI t)) I ?_
  intro xl xm xr xe xa xs xc dD dR dE dF dA dU sS sV sO sB yl ym yr ye yc ys yA yP yT g h rl el rc ec hN hD hS hC
  have J : i_Rel (k + 5) (xl, xm, xr, xe, xa, xs, xc, dD, dR, dE, dF, dA, dU, sS, sV, sO, sB) (yl, ym, yr, ye, yc, ys, yA, yP, yT) := zr_mk g h rl el rc ec hN hD hS hC
  unfold wpX_savingAt
  dsimp only
  rcases hC with ⟨hx, hy⟩ | ⟨hx, hy, hK⟩
  · refine zx_chk0 hx (br_f (by decide) ?_)
    unfold wpY_savingAt
    dsimp only
    exact zy_val0 hy (br_f (by decide) ⟨rfl, J⟩)
  · have M := zy_Mk hN hS hy hK
    obtain ⟨h1, _, _, _, n, K, rfl, C⟩ := hK
    refine zx_chk1 hx t1 t2 (fun l1 l2 => br_t rfl ?_) (fun l => br_f (by decide) ?_)
    · refine zx_segAt C l1 l2 (fun i i1 i2 i3 => ?_)
      rw [nI_clamp (by have := C.2.1; omega), (C.2.2.1 i i1).2.2.1]
      refine ⟨zn_in (by have := C.2.1; omega) (by omega), zy_savAt M t1 t2 (fun _ _ => ⟨?_, J⟩) (fun l => absurd l (by omega))⟩
      rw [zx_Ci C i1 i2 l2 i3 1 (by omega) (by omega)]
      rfl
    · exact zy_savAt M t1 t2 (fun l1 l2 => absurd l (by omega)) (fun _ => ⟨rfl, J⟩)
theorem i_vc_abbreviationAt {k : Nat} {u : SX} {v : SY} (I : i_Rel k u v) (hk : k + 5 ≤ 2562) (v1 : Int32) : wpX_abbreviationAt (fun r => wpY_abbreviationAt (fun r' => r' = r ∧ i_Rel (k + 5) u v) v v1) u v1 := by
  obtain ⟨t, t1, t2, rfl⟩ := zi_ex v1
  refine zr_el (P := fun u v => wpX_abbreviationAt (fun r => wpY_abbreviationAt (fun r' => r' = r ∧ i_Rel (k + 5) u v) v (iI t)) u (iI t)) I ?_
  intro xl xm xr xe xa xs xc dD dR dE dF dA dU sS sV sO sB yl ym yr ye yc ys yA yP yT g h rl el rc ec hN hD hS hC
  have J : i_Rel (k + 5) (xl, xm, xr, xe, xa, xs, xc, dD, dR, dE, dF, dA, dU, sS, sV, sO, sB) (yl, ym, yr, ye, yc, ys, yA, yP, yT) := zr_mk g h rl el rc ec hN hD hS hC
  unfold wpX_abbreviationAt
  dsimp only
  rcases hC with ⟨hx, hy⟩ | ⟨hx, hy, hK⟩
  · refine zx_chk0 hx (br_f (by decide) ?_)
    unfold wpY_abbreviationAt
    dsimp only
    exact zy_val0 hy (br_f (by decide) ⟨rfl, J⟩)
  · have M := zy_Mk hN hS hy hK
    obtain ⟨h1, _, _, _, n, K, rfl, C⟩ := hK
    refine zx_chk1 hx t1 t2 (fun l1 l2 => br_t rfl ?_) (fun l => br_f (by decide) ?_)
    · refine zx_segAt C l1 l2 (fun i i1 i2 i3 => ?_)
      rw [nI_clamp (by have := C.2.1; omega), (C.2.2.1 i i1).2.2.2.2]
      refine ⟨zn_in (by have := C.2.1; omega) (by omega), zy_abbAt M t1 t2 (fun _ _ => ⟨?_, J⟩) (fun l => absurd l (by omega))⟩
      rw [zx_Ci C i1 i2 l2 i3 3 (by omega) (by omega)]
      rfl
    · exact zy_abbAt M t1 t2 (fun l1 l2 => absurd l (by omega)) (fun _ => ⟨rfl, J⟩)
end
section
/-! 21: nextChange -/
noncomputable def zq_vl (g : Nat → Nat → Int) (rc ec : Nat) (u : Int) : Int := zq_val g rc (zq_er g rc u (ec - 1)) u
def zq_ch (g : Nat → Nat → Int) (rc ec : Nat) (u : Int) : Prop := zq_vl g rc ec u ≠ zq_vl g rc ec (u - 1)
def zy_nv (B last : Int) (D : Prop) (best : Int) : Prop := B ≤ best ∧ best ≤ last + 1 ∧ (D → best = B)
section
variable {g : Nat → Nat → Int} {rc ec : Nat}
theorem zq_vlt (w : zq_wf g rc ec) (h1 : 1 ≤ ec) {u u' : Int} (hu : 0 ≤ u) (hu' : 0 ≤ u') : (zq_vl g rc ec u = zq_vl g rc ec u' ↔ ∀ j, 1 ≤ j → j ≤ 3 → zx_vt g rc ec u j = zx_vt g rc ec u' j) := by
  have b := zq_vb w (zq_erl (g := g) (rc := rc) h1 hu) u
  have c := zq_vu b.1 b.2.1 b.2.2.1 b.2.2.2
  have b' := zq_vb w (zq_erl (g := g) (rc := rc) h1 hu') u'
  have c' := zq_vu b'.1 b'.2.1 b'.2.2.1 b'.2.2.2
  unfold zq_vl
  constructor
  · intro e
    rw [e] at c
    exact zx_kj (by omega) (by omega) (by omega)
  · intro e
    have e1 : zq_s g rc (zq_er g rc u (ec - 1)) u = zq_s g rc (zq_er g rc u' (ec - 1)) u' := e 1 (by omega) (by omega)
    have e2 : zq_of g rc (zq_er g rc u (ec - 1)) u = zq_of g rc (zq_er g rc u' (ec - 1)) u' := e 2 (by omega) (by omega)
    have e3 : zq_ab g rc (zq_er g rc u (ec - 1)) u = zq_ab g rc (zq_er g rc u' (ec - 1)) u' := e 3 (by omega) (by omega)
    rw [b.2.2.2, b'.2.2.2, e1, e2, e3]
theorem zq_vlb (w : zq_wf g rc ec) (h1 : 1 ≤ ec) {u : Int} (hu : 0 ≤ u) : 0 ≤ zq_vl g rc ec u ∧ zq_vl g rc ec u < 1000000 := by
  have b := zq_vb w (zq_erl (g := g) (rc := rc) h1 hu) u
  exact (zq_vu b.1 b.2.1 b.2.2.1 b.2.2.2).1
/-- where values change: an era's start or a moment of its set -/
theorem zq_cand (w : zq_wf g rc ec) (h1 : 1 ≤ ec) {B : Int} (hB : 1 ≤ B) (ch : zq_ch g rc ec B) : ∃ e, e < ec ∧ zq_st g rc e ≤ B ∧ (e + 1 < ec → B < zq_st g rc (e + 1)) ∧ (B = zq_st g rc e ∨ ∃ b, zq_V g rc (g (9 + e) 7) b ∧ zq_mo g rc (g (9 + e) 6) b = B) := by
  have eb := zq_erb (g := g) (rc := rc) (t := B) (by omega) (ec - 1)
  refine ⟨zq_er g rc B (ec - 1), by omega, eb.2.1, fun l => eb.2.2 _ (by omega) (by omega), ?_⟩
  by_cases c : B = zq_st g rc (zq_er g rc B (ec - 1))
  · exact Or.inl c
  · right
    have e1 : zq_er g rc (B - 1) (ec - 1) = zq_er g rc B (ec - 1) :=
      zq_erE w (by omega) (by omega) (fun l => by have := eb.2.2 (zq_er g rc B (ec - 1) + 1) (by omega) (by omega); omega)
    unfold zq_ch zq_vl at ch
    rw [e1] at ch
    generalize zq_er g rc B (ec - 1) = e at ch
    have S := zq_fS (g := g) (rc := rc) e B
    have ne : zq_f g rc e B ≠ zq_f g rc e (B - 1) := by
      intro he
      apply ch
      unfold zq_val zq_of zq_s
      rw [he]
    cases hf : zq_f g rc e B with
    | none =>
      exfalso
      apply ne
      rw [hf] at S
      rw [hf]
      symm
      apply zq_topE
      intro a ha
      exact S a ⟨ha.1, by have := ha.2; omega⟩
    | some b =>
      rw [hf] at S
      refine ⟨b, S.1.1, ?_⟩
      have m1 := S.1.2
      by_cases m2 : zq_mo g rc (g (9 + e) 6) b ≤ B - 1
      · exfalso
        apply ne
        rw [hf]
        symm
        apply zq_topE
        exact ⟨⟨S.1.1, m2⟩, fun c hc => S.2 c ⟨hc.1, by have := hc.2; omega⟩⟩
      · omega
variable {xl xm xr xe xa xs xc : Int32} {dD dR dE dF dA dU sS sV sO sB : Nat → Int32} {yl ym yr ye yc : Int32} {ys yA yP yT : Nat → Int32}
theorem zy_changes {post : Int32 → Prop} {u : Int} (M : zy_M g rc ec yr ye yc ys yA yP yT) (u1 : 1 ≤ u) (u2 : u < 3506400) (h0 : ¬ zq_ch g rc ec u → post 0) (h1 : zq_ch g rc ec u → post 1) : wpY_changes post (yl, ym, yr, ye, yc, ys, yA, yP, yT) (iI u) := by
  have e1 : 1 ≤ ec := M.2.2.2.2.2.2.2.1
  have v1 := zq_vlb M.1 e1 (u := u) (by omega)
  have v2 := zq_vlb M.1 e1 (u := u - 1) (by omega)
  unfold wpY_changes
  dsimp only
  rw [show iI u - 1 = iI (u - 1) from zS rfl rfl]
  refine zy_val M (by omega) (by omega) (fun _ _ => ?_) (fun l => absurd l (by omega))
  refine zy_val M (by omega) (by omega) (fun _ _ => ?_) (fun l => absurd l (by omega))
  exact zb_eq (zq_vl g rc ec u) (zq_vl g rc ec (u - 1)) (fun q => h0 (fun c => c q)) (fun q => h1 q) rfl rfl
theorem zy_n160 {post : Int32 → Prop} {J : Int32 → Int32 → Prop} {e : Nat} {t last B : Int} {D : Prop} (M : zy_M g rc ec yr ye yc ys yA yP yT) (he : e < ec) (t0 : 0 ≤ t) (l1 : last < 3506400) (b1 : t < B) (nb : ∀ u, t < u → u < B → ¬ zq_ch g rc ec u) (cb : B ≤ last → zq_ch g rc ec B) (h : ∀ best, zy_nv B last (D ∨ ∃ b, zq_V g rc (g (9 + e) 7) b ∧ zq_mo g rc (g (9 + e) 6) b = B) best → J (iI best) (nI (e + 1))) : ∀ (d a f : Nat) (best : Int), a + d = rc * 100 → d < f → zy_nv B last (D ∨ ∃ b, b < a ∧ zq_V g rc (g (9 + e) 7) b ∧ zq_mo g rc (g (9 + e) 6) b = B) best → wY_nextChange_160 post J (iI t) (iI last) (nI e) (iI (g (9 + e) 7)) yl ym yr ye yc ys yA yP yT f (iI best) (nI a) := by
  obtain ⟨w, hS, hA, hP, hyr, hye, hyc, e1, hT⟩ := M
  have M : zy_M g rc ec yr ye yc ys yA yP yT := ⟨w, hS, hA, hP, hyr, hye, hyc, e1, hT⟩
  have hrc : rc ≤ 8 := w.1
  have hec : ec ≤ 8 := w.2.1
  have E6 := (w.2.2.2.1 e he).2.1
  have E7 := (w.2.2.2.1 e he).2.2.1
  have em : nI rc * 100 = nI (rc * 100) := zn_mul rc 100
  intro d
  induction d with
  | zero =>
    intro a f best hd hf I
    obtain ⟨f, rfl⟩ : ∃ k, f = k + 1 := ⟨f - 1, by omega⟩
    rw [hyr]
    refine zk_le (rc * 100) a (fun _ => nm_r (nI_1 e) (h best ⟨I.1, I.2.1, fun q => I.2.2 ?_⟩)) (fun l => absurd l (by omega)) em rfl (by omega) (by omega)
    rcases q with q | ⟨b, q1, q2⟩
    · exact Or.inl q
    · exact Or.inr ⟨b, by have := zq_Vlt q1; omega, q1, q2⟩
  | succ d ih =>
    intro a f best hd hf I
    obtain ⟨f, rfl⟩ : ∃ k, f = k + 1 := ⟨f - 1, by omega⟩
    have R := w.2.2.1 (a / 100) (by omega)
    have R2 := R.2.1
    have R3 := R.2.2.1
    have R4 := R.2.2.2.1
    have R5 := R.2.2.2.2.1
    have R8 := R.2.2.2.2.2.1
    have go : ∀ best', zy_nv B last (D ∨ ∃ b, b < a + 1 ∧ zq_V g rc (g (9 + e) 7) b ∧ zq_mo g rc (g (9 + e) 6) b = B) best' → wY_nextChange_160 post J (iI t) (iI last) (nI e) (iI (g (9 + e) 7)) yl ym (nI rc) ye yc ys yA yP yT f (iI best') (nI (a + 1)) := by
      intro best' I'
      have := ih (a + 1) f best' (by omega) (by omega) I'
      rw [hyr] at this
      exact this
    have same : (zq_V g rc (g (9 + e) 7) a → zq_mo g rc (g (9 + e) 6) a = B → best = B) → zy_nv B last (D ∨ ∃ b, b < a + 1 ∧ zq_V g rc (g (9 + e) 7) b ∧ zq_mo g rc (g (9 + e) 6) b = B) best := by
      intro hn
      refine ⟨I.1, I.2.1, fun q => ?_⟩
      rcases q with q | ⟨b, q0, q1, q2⟩
      · exact I.2.2 (Or.inl q)
      · by_cases c : b = a
        · subst c; exact hn q1 q2
        · exact I.2.2 (Or.inr ⟨b, by omega, q1, q2⟩)
    rw [hyr]
    refine zk_le (rc * 100) a (fun l => absurd l (by omega)) (fun _ => ⟨by decide, ?_⟩) em rfl (by omega) (by omega)
    have ea : 1 + nI a / 100 = nI (1 + a / 100) := by
      rw [show (100 : Int32) = nI 100 from rfl, zn_div (by omega) (by omega) (by omega)]; exact nI_add 1 _
    have ey : nI a - nI a / 100 * 100 = iI ((a % 100 : Nat) : Int) := by
      rw [show (100 : Int32) = nI 100 from rfl, zn_rem (by omega) (by omega) (by omega), zi_n]
    refine nm_r ea ?_
    refine zy_atg hS (1 + a / 100) 8 ?_ (by omega) (by omega) rfl rfl
    refine zb_eq (g (1 + a / 100) 8) (g (9 + e) 7) (fun c8 => ⟨by decide, ?_⟩) (fun c8 => nm_r (nI_1 a) (go best (same (fun q => absurd q.2.1 c8)))) rfl rfl
    refine zy_atg hS (1 + a / 100) 6 ?_ (by omega) (by omega) rfl rfl
    rw [ey]
    refine zb_lt (a % 100 : Nat) (g (1 + a / 100) 6) (fun c6 => nm_r (nI_1 a) (go best (same (fun q => by have := q.2.2.1; omega)))) (fun c6 => ⟨by decide, ?_⟩) rfl rfl
    refine zy_atg hS (1 + a / 100) 7 ?_ (by omega) (by omega) rfl rfl
    refine zb_le (a % 100 : Nat) (g (1 + a / 100) 7) (fun c7 => ?_) (fun c7 => nm_r (nI_1 a) (go best (same (fun q => by have := q.2.2.2; omega)))) rfl rfl
    have V : zq_V g rc (g (9 + e) 7) a := ⟨by omega, c8, c6, c7⟩
    have ab := (zq_acb w V.1).1
    have mb := zq_mob w V.1 E6.1 E6.2
    refine zy_moment w hS hA hP (by omega) he ?_
    have bb := I.1
    have bb' := I.2.1
    refine zb_le (zq_mo g rc (g (9 + e) 6) a) t (fun q => nm_r (nI_1 a) (go best (same (fun _ _ => by omega)))) (fun q => ?_) rfl rfl
    refine zb_le best (zq_mo g rc (g (9 + e) 6) a) (fun q' => nm_r (nI_1 a) (go best (same (fun _ _ => by omega)))) (fun q' => ?_) rfl rfl
    rw [← hyr]
    refine zy_changes M (by omega) (by omega) (fun nc => ?_) (fun c => ?_)
    · rw [hyr]
      refine br_t rfl (nm_r (nI_1 a) (go best (same (fun _ eB => ?_))))
      rw [eB] at nc
      exact absurd (cb (by omega)) nc
    · rw [hyr]
      have cB : B ≤ zq_mo g rc (g (9 + e) 6) a := by
        by_cases l : zq_mo g rc (g (9 + e) 6) a < B
        · exact absurd c (nb _ q l)
        · omega
      refine br_f (by decide) (nm_r (nI_1 a) (go _ ⟨cB, by omega, fun q2 => ?_⟩))
      rcases q2 with q2 | ⟨b, q3, q4, q5⟩
      · have := I.2.2 (Or.inl q2); omega
      · by_cases c2 : b = a
        · subst c2; exact q5
        · have := I.2.2 (Or.inr ⟨b, by omega, q4, q5⟩); omega
/-- the target lies in era e -/
def zy_tg (g : Nat → Nat → Int) (rc ec : Nat) (t last B : Int) (e : Nat) : Prop := (e + 1 < ec → t < zq_st g rc (e + 1)) ∧ zq_st g rc e ≤ last ∧ (B = zq_st g rc e ∨ ∃ b, zq_V g rc (g (9 + e) 7) b ∧ zq_mo g rc (g (9 + e) 6) b = B)
theorem zy_n39 {post : Int32 → Prop} {t last B : Int} (M : zy_M g rc ec yr ye yc ys yA yP yT) (t0 : 0 ≤ t) (l0 : t ≤ last) (l1 : last < 3506400) (b1 : t < B) (b2 : B ≤ last + 1) (nb : ∀ u, t < u → u < B → ¬ zq_ch g rc ec u) (cb : B ≤ last → zq_ch g rc ec B) (hp : B ≤ last → post (iI B)) (hq : last < B → post (-1010)) : ∀ (d e f : Nat) (best : Int), e + d = ec → d < f → zy_nv B last (∃ e', e' < e ∧ zy_tg g rc ec t last B e') best → wY_nextChange_39 post (iI t) (iI last) yl ym yr ye yc ys yA yP yT f (iI best) (nI e) := by
  obtain ⟨w, hS, hA, hP, hyr, hye, hyc, e1, hT⟩ := M
  have M : zy_M g rc ec yr ye yc ys yA yP yT := ⟨w, hS, hA, hP, hyr, hye, hyc, e1, hT⟩
  have hrc : rc ≤ 8 := w.1
  have hec : ec ≤ 8 := w.2.1
  intro d
  induction d with
  | zero =>
    intro e f best hd hf I
    obtain ⟨f, rfl⟩ : ∃ k, f = k + 1 := ⟨f - 1, by omega⟩
    have bb := I.1
    have bb' := I.2.1
    have eB : best = B := by
      by_cases l : B ≤ last
      · obtain ⟨e', q1, q2, q3, q4⟩ := zq_cand w e1 (B := B) (by omega) (cb l)
        exact I.2.2 ⟨e', by omega, fun l2 => by have := q3 l2; omega, by omega, q4⟩
      · omega
    subst eB
    rw [hye]
    refine zk_le ec e (fun _ => ?_) (fun l => absurd l (by omega)) rfl rfl (by omega) (by omega)
    exact zb_le best last hp hq rfl rfl
  | succ d ih =>
    intro e f best hd hf I
    obtain ⟨f, rfl⟩ : ∃ k, f = k + 1 := ⟨f - 1, by omega⟩
    have bb := I.1
    have bb' := I.2.1
    have sb := zq_stb w e (by omega)
    have Te := hT e (by omega)
    have E7 := (w.2.2.2.1 e (by omega)).2.2.1
    have go : ∀ best', zy_nv B last (∃ e', e' < e + 1 ∧ zy_tg g rc ec t last B e') best' → wY_nextChange_39 post (iI t) (iI last) yl ym yr ye yc ys yA yP yT f (iI best') (nI (e + 1)) := fun best' I' => ih (e + 1) f best' (by omega) (by omega) I'
    have skip : ¬ zy_tg g rc ec t last B e → wY_nextChange_39 post (iI t) (iI last) yl ym yr ye yc ys yA yP yT f (iI best) (nI (e + 1)) := by
      intro nt
      refine go best ⟨I.1, I.2.1, fun q => ?_⟩
      obtain ⟨e', q1, q2⟩ := q
      by_cases c : e' = e
      · subst c; exact absurd q2 nt
      · exact I.2.2 ⟨e', by omega, q2⟩
    have iT : vp_in (nI e) 8 := zn_in (by omega) (by omega)
    have H144 : ∀ best', zy_nv B last ((∃ e', e' < e ∧ zy_tg g rc ec t last B e') ∨ B = zq_st g rc e) best' → wY_nextChange_144 post (wY_nextChange_39 post (iI t) (iI last) yl ym yr ye yc ys yA yP yT f) (iI t) (iI last) (iI best') (nI e) yl ym yr ye yc ys yA yP yT := by
      intro best' I'
      unfold wY_nextChange_144
      refine zy_atg hS (9 + e) 7 ⟨rc * 100 + 1, ?_⟩ (by omega) (by omega) (nI_add 9 e) rfl
      refine zy_n160 (D := (∃ e', e' < e ∧ zy_tg g rc ec t last B e') ∨ B = zq_st g rc e) M (by omega) t0 l1 b1 nb cb ?_ (rc * 100) 0 (rc * 100 + 1) best' (by omega) (by omega) ⟨I'.1, I'.2.1, fun q => ?_⟩
      · intro best2 I2
        refine go best2 ⟨I2.1, I2.2.1, fun q => I2.2.2 ?_⟩
        obtain ⟨e', q1, q2⟩ := q
        by_cases c : e' = e
        · subst c
          rcases q2.2.2 with q3 | q3
          · exact Or.inl (Or.inr q3)
          · exact Or.inr q3
        · exact Or.inl (Or.inl ⟨e', by omega, q2⟩)
      · rcases q with q | ⟨b, q1, _⟩
        · exact I'.2.2 q
        · omega
    have H77 : wY_nextChange_77 post (wY_nextChange_39 post (iI t) (iI last) yl ym yr ye yc ys yA yP yT f) (iI t) (iI last) (iI best) (nI e) 0 yl ym yr ye yc ys yA yP yT := by
      unfold wY_nextChange_77
      rw [nI_clamp (by omega), Te]
      refine br_t rfl ⟨iT, zb_le (zq_st g rc e) last (fun q1 => ⟨iT, ?_⟩) (fun q1 => nm_r (nI_1 e) (skip (fun c => by have := c.2.1; omega))) rfl rfl⟩
      have keep : (B = zq_st g rc e → best = B) → zy_nv B last ((∃ e', e' < e ∧ zy_tg g rc ec t last B e') ∨ B = zq_st g rc e) best :=
        fun k => ⟨I.1, I.2.1, fun q => q.elim I.2.2 k⟩
      refine zb_le (zq_st g rc e) t (fun q2 => H144 best (keep (fun c => by omega))) (fun q2 => ⟨iT, ?_⟩) rfl rfl
      refine zb_le best (zq_st g rc e) (fun q3 => H144 best (keep (fun c => by omega))) (fun q3 => ⟨iT, ?_⟩) rfl rfl
      refine zy_changes M (by omega) (by omega) (fun nc => br_t rfl (H144 best (keep (fun c => ?_)))) (fun c => br_f (by decide) ⟨iT, nm_e ?_⟩)
      · rw [← c] at nc
        exact absurd (cb (by omega)) nc
      · have cB : B ≤ zq_st g rc e := by
          by_cases l : zq_st g rc e < B
          · exact absurd c (nb _ q2 l)
          · omega
        refine H144 _ ⟨cB, by omega, fun q => ?_⟩
        rcases q with q | q
        · have := I.2.2 q; omega
        · exact q.symm
    rw [show wY_nextChange_39 post (iI t) (iI last) yl ym yr ye yc ys yA yP yT (f + 1) (iI best) (nI e) = ((ye ≤ nI e → ((iI best ≤ iI last → post (iI best)) ∧ (¬ iI best ≤ iI last → post (-1010)))) ∧ (¬ ye ≤ nI e → ((ye ≤ (nI e + 1) → wY_nextChange_76 post (wY_nextChange_39 post (iI t) (iI last) yl ym yr ye yc ys yA yP yT f) (iI t) (iI last) (iI best) (nI e) yl ym yr ye yc ys yA yP yT) ∧ (¬ ye ≤ (nI e + 1) → (vp_in (nI e + 1) 8 ∧ ((iI t < (yT (nI e + 1).toNatClampNeg) → wY_nextChange_76 post (wY_nextChange_39 post (iI t) (iI last) yl ym yr ye yc ys yA yP yT f) (iI t) (iI last) (iI best) (nI e) yl ym yr ye yc ys yA yP yT) ∧ (¬ iI t < (yT (nI e + 1).toNatClampNeg) → wY_nextChange_77 post (wY_nextChange_39 post (iI t) (iI last) yl ym yr ye yc ys yA yP yT f) (iI t) (iI last) (iI best) (nI e) 1 yl ym yr ye yc ys yA yP yT))))))) from rfl]
    refine zk_le ec e (fun l => absurd l (by omega)) (fun _ => ?_) hye rfl (by omega) (by omega)
    rw [nI_1 e, nI_clamp (by omega)]
    refine zk_le ec (e + 1) (fun _ => H77) (fun q => ⟨zn_in (by omega) (by omega), ?_⟩) hye rfl (by omega) (by omega)
    have sb' := zq_stb w (e + 1) (by omega)
    refine zb_lt t (zq_st g rc (e + 1)) (fun _ => H77) (fun q2 => ?_) rfl (hT (e + 1) (by omega))
    unfold wY_nextChange_77
    exact br_f (by decide) (nm_r (nI_1 e) (skip (fun c => by have := c.1 q; omega)))
theorem zy_next {post : Int32 → Prop} {t B : Int} (M : zy_M g rc ec yr ye yc ys yA yP yT) (t0 : 0 ≤ t) (t1 : t < 3506400) (b1 : t < B) (b3 : B ≤ 3506400) (nb : ∀ u, t < u → u < B → ¬ zq_ch g rc ec u) (cb : B < 3506400 → zq_ch g rc ec B) (hp : B < 3506400 → B ≤ t + 38400 → post (iI B)) (hq : (3506400 ≤ B ∨ t + 38400 < B) → post (-1010)) : wpY_nextChange post (yl, ym, yr, ye, yc, ys, yA, yP, yT) (iI t) := by
  have e1 : 1 ≤ ec := M.2.2.2.2.2.2.2.1
  have vb := zq_vlb M.1 e1 (u := t) t0
  have K : ∀ last : Int, t ≤ last → last < 3506400 → (last = 3506399 ∨ last = t + 38400) → last ≤ t + 38400 → ∃ f, wY_nextChange_39 post (iI t) (iI last) yl ym yr ye yc ys yA yP yT f (iI (last + 1)) (nI 0) := by
    intro last l0 l1 l2 l3
    by_cases c : B ≤ last
    · exact ⟨ec + 1, zy_n39 (B := B) M t0 l0 l1 b1 (by omega) nb (fun q => cb (by omega)) (fun q => hp (by omega) (by omega)) (fun q => absurd q (by omega)) ec 0 (ec + 1) _ (by omega) (by omega) ⟨by omega, by omega, fun q => by obtain ⟨e', q1, _⟩ := q; omega⟩⟩
    · exact ⟨ec + 1, zy_n39 (B := last + 1) M t0 l0 l1 (by omega) (by omega) (fun u u1 u2 => nb u u1 (by omega)) (fun q => absurd q (by omega)) (fun q => absurd q (by omega)) (fun q => hq (by omega)) ec 0 (ec + 1) _ (by omega) (by omega) ⟨by omega, by omega, fun q => by obtain ⟨e', q1, _⟩ := q; omega⟩⟩
  unfold wpY_nextChange
  dsimp only
  refine zy_val M (by omega) (by omega) (fun _ _ => ?_) (fun l => absurd l (by omega))
  refine zb_le 0 (zq_vl g rc ec t) (fun _ => ?_) (fun l => absurd l (by omega)) rfl rfl
  refine zb_le 3506400 (t + 38400) (fun q => nm_r (e' := iI (3506399 + 1)) rfl (K 3506399 (by omega) (by omega) (Or.inl rfl) (by omega))) (fun q => ?_) rfl (zA rfl rfl)
  exact nm_r (e' := iI (t + 38400)) (zA rfl rfl) (nm_r (e' := iI (t + 38400 + 1)) (zA rfl rfl) (K (t + 38400) (by omega) (by omega) (Or.inr rfl) (by omega)))
end
theorem i_vc_nextChange {k : Nat} {u : SX} {v : SY} (I : i_Rel k u v) (hk : k + 5 ≤ 2562) (v1 : Int32) : wpX_nextChange (fun r => wpY_nextChange (fun r' => r' = r ∧ i_Rel (k + 5) u v) v v1) u v1 := by
  obtain ⟨t, t1, t2, rfl⟩ := zi_ex v1
  refine zr_el (P := fun u v => wpX_nextChange (fun r => wpY_nextChange (fun r' => r' = r ∧ i_Rel (k + 5) u v) v (iI t)) u (iI t)) I ?_
  intro xl xm xr xe xa xs xc dD dR dE dF dA dU sS sV sO sB yl ym yr ye yc ys yA yP yT g h rl el rc ec hN hD hS hC
  have J : i_Rel (k + 5) (xl, xm, xr, xe, xa, xs, xc, dD, dR, dE, dF, dA, dU, sS, sV, sO, sB) (yl, ym, yr, ye, yc, ys, yA, yP, yT) := zr_mk g h rl el rc ec hN hD hS hC
  unfold wpX_nextChange
  dsimp only
  rcases hC with ⟨hx, hy⟩ | ⟨hx, hy, hK⟩
  · refine zx_chk0 hx (br_f (by decide) ?_)
    unfold wpY_nextChange
    dsimp only
    exact zy_val0 hy (br_f (by decide) ⟨rfl, J⟩)
  · have M := zy_Mk hN hS hy hK
    obtain ⟨h1, _, _, _, n, K, rfl, C⟩ := hK
    have w := M.1
    have n26 := C.2.1
    refine zx_chk1 hx t1 t2 (fun l1 l2 => br_t rfl ?_) (fun l => br_f (by decide) ?_)
    · refine zx_segAt C l1 l2 (fun i i1 i2 i3 => nm_r (nI_1 i) ?_)
      have quiet : ∀ lim : Int, lim ≤ 3506400 → (i + 1 < n → lim ≤ K (i + 1) 0) → ∀ u, t < u → u < lim → ¬ zq_ch g rc ec u := by
        intro lim q1 q2 u u1 u2 ch
        apply ch
        rw [zq_vlt w h1 (by omega) (by omega)]
        intro j j1 j2
        rw [← zx_Ci C i1 (by omega) (by omega) (fun l => by have := q2 l; omega) j j1 j2, ← zx_Ci C i1 (by omega) (by omega) (fun l => by have := q2 l; omega) j j1 j2]
      refine zk_le n (i + 1) (fun q => ?_) (fun q => ?_) rfl rfl (by omega) (by omega)
      · exact zy_next (B := 3506400) M l1 l2 l2 (by omega) (quiet _ (by omega) (fun l => by omega)) (fun l => absurd l (by omega)) (fun l => absurd l (by omega)) (fun _ => ⟨rfl, J⟩)
      · have s1 := C.2.2.1 (i + 1) q
        have s2 := s1.1.1
        have i3' := i3 q
        have ch : zq_ch g rc ec (K (i + 1) 0) := by
          intro e
          rw [zq_vlt w h1 (by omega) (by omega)] at e
          obtain ⟨j, j1, j2, j3⟩ := C.2.2.2.2.2 i q
          apply j3
          have i0 := C.2.2.1 i i1
          rw [zx_Ci C i1 (t := K (i + 1) 0 - 1) (by omega) (by omega) (fun _ => by omega) j j1 j2, zx_Ci C q (t := K (i + 1) 0) (by omega) (by omega) (fun l => C.2.2.2.1.2.1 (i + 1) (by omega) l) j j1 j2]
          exact (e j j1 j2).symm
        rw [nI_clamp (by omega), s1.2.1]
        refine ⟨zn_in (by omega) (by omega), zb_le (K (i + 1) 0 - t) 38400 (fun q2 => ⟨zn_in (by omega) (by omega), ?_⟩) (fun q2 => ?_) (zi_sub _ _) rfl⟩
        · exact zy_next (B := K (i + 1) 0) M l1 l2 i3' (by omega) (quiet _ (by omega) (fun l => by omega)) (fun _ => ch) (fun _ _ => ⟨rfl, J⟩) (fun l => absurd l (by omega))
        · exact zy_next (B := K (i + 1) 0) M l1 l2 i3' (by omega) (quiet _ (by omega) (fun l => by omega)) (fun _ => ch) (fun _ l => absurd l (by omega)) (fun _ => ⟨rfl, J⟩)
    · unfold wpY_nextChange
      dsimp only
      exact zy_val M t1 t2 (fun l1 l2 => absurd l (by omega)) (fun _ => br_f (by decide) ⟨rfl, J⟩)
end
section
/-! 22: localCount, localInstant -/
/-- the m-th instant tried, the reading less 64 and m, shows the reading -/
def zl_P (g : Nat → Nat → Int) (rc ec : Nat) (lc : Int) (m : Nat) : Prop := 0 ≤ lc - 64 + m ∧ lc - 64 + m < 3506400 ∧ zx_vt g rc ec (lc - 64 + m) 2 = 64 - (m : Int)
def zl_q (lo x : Int) : Nat := if x - lo ≤ 113 then (x - lo).toNat else 113
/-- the answer of localInstant -/
def zl_A (P : Nat → Prop) (lc k : Int) (r : Int32) : Prop := (∃ m, m < 113 ∧ P m ∧ (zx_cn P m : Int) = k ∧ r = iI (lc - 64 + m)) ∨ ((∀ m, m < 113 → P m → (zx_cn P m : Int) ≠ k) ∧ r = -1010)
theorem zl_s {P : Nat → Prop} {m : Nat} (h : P m) : zx_cn P (m + 1) = zx_cn P m + 1 := by rw [zx_cn, if_pos h]
theorem zl_n {P : Nat → Prop} {m : Nat} (h : ¬ P m) : zx_cn P (m + 1) = zx_cn P m := by rw [zx_cn, if_neg h]; rfl
theorem zl_up {P : Nat → Prop} : ∀ (d a : Nat), zx_cn P a ≤ zx_cn P (a + d) := by
  intro d
  induction d with
  | zero => intro a; exact Nat.le_refl _
  | succ d ih =>
    intro a
    have h := ih a
    rw [show a + (d + 1) = a + d + 1 by omega, zx_cn]
    omega
theorem zl_none {P : Nat → Prop} : ∀ (d a : Nat), (∀ m, a ≤ m → m < a + d → ¬ P m) → zx_cn P (a + d) = zx_cn P a := by
  intro d
  induction d with
  | zero => intro a _; rfl
  | succ d ih =>
    intro a h
    rw [show a + (d + 1) = a + d + 1 by omega, zl_n (h (a + d) (by omega) (by omega))]
    exact ih a (fun m h1 h2 => h m h1 (by omega))
theorem zl_none' {P : Nat → Prop} {a b : Nat} (hab : a ≤ b) (h : ∀ m, a ≤ m → m < b → ¬ P m) : zx_cn P b = zx_cn P a := by
  have := zl_none (P := P) (b - a) a (fun m h1 h2 => h m h1 (by omega))
  rw [show a + (b - a) = b by omega] at this
  exact this
theorem zl_Au {P : Nat → Prop} {lc k : Int} {r r' : Int32} (h : zl_A P lc k r) (h' : zl_A P lc k r') : r = r' := by
  rcases h with ⟨m, m1, m2, m3, m4⟩ | ⟨m1, m2⟩
  · rcases h' with ⟨n, n1, n2, n3, n4⟩ | ⟨n1, n2⟩
    · have e : m = n := by
        rcases Nat.lt_trichotomy m n with l | l | l
        · have a := zl_s m2
          have b := zl_up (P := P) (n - (m + 1)) (m + 1)
          rw [show m + 1 + (n - (m + 1)) = n by omega] at b
          omega
        · exact l
        · have a := zl_s n2
          have b := zl_up (P := P) (m - (n + 1)) (n + 1)
          rw [show n + 1 + (m - (n + 1)) = m by omega] at b
          omega
      rw [m4, n4, e]
    · exact absurd m3 (n1 m m1 m2)
  · rcases h' with ⟨n, n1, n2, n3, n4⟩ | ⟨n1, n2⟩
    · exact absurd n3 (m1 n n1 n2)
    · rw [m2, n2]
theorem zi_wrap (t : Int) : iI (t - 4294967296) = iI t := by
  rw [← zi_sub, show iI 4294967296 = 0 from rfl, Int32.sub_zero]
section
variable {g : Nat → Nat → Int} {rc ec : Nat} {xl xm xr xe xa xs xc : Int32} {dD dR dE dF dA dU sS sV sO sB : Nat → Int32} {yl ym yr ye yc : Int32} {ys yA yP yT : Nat → Int32}
theorem zy_ofw {post : Int32 → Prop} {t : Int} (M : zy_M g rc ec yr ye yc ys yA yP yT) (t0 : -4000000000 ≤ t) (t1 : t < 4000000000) (hp : 0 ≤ t → t < 3506400 → post (iI (zq_of g rc (zq_er g rc t (ec - 1)) t))) (hq : (t < 0 ∨ 3506400 ≤ t) → post (-1009)) : wpY_offsetAt post (yl, ym, yr, ye, yc, ys, yA, yP, yT) (iI t) := by
  by_cases c1 : t < -2147483648
  · rw [show t = t + 4294967296 - 4294967296 by omega, zi_wrap]
    exact zy_offset M (by omega) (by omega) (fun _ l => absurd l (by omega)) (fun _ => hq (by omega))
  · by_cases c2 : 2147483648 ≤ t
    · rw [← zi_wrap]
      exact zy_offset M (by omega) (by omega) (fun l _ => absurd l (by omega)) (fun _ => hq (by omega))
    · exact zy_offset M (by omega) (by omega) hp hq
theorem zy_ofm {post : Int32 → Prop} {lc : Int} {m : Nat} {x : Int32} (M : zy_M g rc ec yr ye yc ys yA yP yT) (l0 : -2147483648 ≤ lc) (l1 : lc < 2147483648) (hm : m < 113) (ex : x = iI (lc - 64 + m)) (h1 : zl_P g rc ec lc m → post (iI (64 - (m : Int)))) (h0 : ¬ zl_P g rc ec lc m → ∀ r, ¬ r = iI (64 - (m : Int)) → post r) : wpY_offsetAt post (yl, ym, yr, ye, yc, ys, yA, yP, yT) x := by
  subst ex
  refine zy_ofw M (by omega) (by omega) (fun a b => ?_) (fun a => ?_)
  · have vb := (zq_vb M.1 (zq_erl (g := g) (rc := rc) M.2.2.2.2.2.2.2.1 a) (lc - 64 + m)).1
    by_cases c : zq_of g rc (zq_er g rc (lc - 64 + m) (ec - 1)) (lc - 64 + m) = 64 - (m : Int)
    · rw [c]; exact h1 ⟨a, b, c⟩
    · refine h0 (fun p => c p.2.2) _ (fun e => c (zi_inj e))
  · refine h0 (fun p => ?_) _ (fun e => ?_)
    · have := p.1; have := p.2.1; omega
    · have : (-1009 : Int) = 64 - (m : Int) := zi_inj (a := -1009) e
      omega
/-- the reference's count -/
theorem zy_c16 {post : Int32 → Prop} {lc : Int} (M : zy_M g rc ec yr ye yc ys yA yP yT) (l0 : -2147483648 ≤ lc) (l1 : lc < 2147483648) (hp : post (nI (zx_cn (zl_P g rc ec lc) 113))) : ∀ (j f : Nat), j ≤ 113 → j < f → wY_localCount_16 post (iI lc) yl ym yr ye yc ys yA yP yT f (nI (zx_cn (zl_P g rc ec lc) 113 - zx_cn (zl_P g rc ec lc) j)) (iI (65 - (j : Int))) := by
  intro j
  induction j with
  | zero =>
    intro f hj hf
    obtain ⟨f, rfl⟩ : ∃ k, f = k + 1 := ⟨f - 1, by omega⟩
    exact zb_lt 64 (65 - ((0 : Nat) : Int)) (fun _ => hp) (fun l => absurd l (by omega)) rfl rfl
  | succ j ih =>
    intro f hj hf
    obtain ⟨f, rfl⟩ : ∃ k, f = k + 1 := ⟨f - 1, by omega⟩
    have Z := ih f (by omega) (by omega)
    have e1 : 65 - ((j + 1 : Nat) : Int) = 64 - (j : Int) := by omega
    have up := zl_up (P := zl_P g rc ec lc) (113 - (j + 1)) (j + 1)
    rw [show j + 1 + (113 - (j + 1)) = 113 by omega] at up
    rw [e1]
    refine zb_lt 64 (64 - (j : Int)) (fun l => absurd l (by omega)) (fun _ => ?_) rfl rfl
    have e2 : iI (64 - (j : Int)) + 1 = iI (65 - (j : Int)) := by
      rw [show (1 : Int32) = iI 1 from rfl, zi_add]; congr 1; omega
    refine zy_ofm (m := j) M l0 l1 (by omega) (by rw [zi_sub]; congr 1; omega) (fun p => br_t rfl (nm_r (nI_1 _) (nm_r e2 ?_))) (fun p r hr => br_f hr (nm_r e2 ?_))
    · have s := zl_s p
      rw [show zx_cn (zl_P g rc ec lc) 113 - zx_cn (zl_P g rc ec lc) (j + 1) + 1 = zx_cn (zl_P g rc ec lc) 113 - zx_cn (zl_P g rc ec lc) j by omega]
      exact Z
    · rw [zl_n p]; exact Z
theorem zy_i17 {post : Int32 → Prop} {lc k : Int} (M : zy_M g rc ec yr ye yc ys yA yP yT) (l0 : -2147483648 ≤ lc) (l1 : lc < 2147483648) (k0 : -2147483648 ≤ k) (k1 : k < 2147483648) (hp : ∀ r, zl_A (zl_P g rc ec lc) lc k r → post r) : ∀ (d m f : Nat), m + d = 113 → d < f → (∀ m', m' < m → zl_P g rc ec lc m' → (zx_cn (zl_P g rc ec lc) m' : Int) ≠ k) → wY_localInstant_17 post (iI lc) (iI k) yl ym yr ye yc ys yA yP yT f (nI (zx_cn (zl_P g rc ec lc) m)) (iI (64 - (m : Int))) := by
  intro d
  induction d with
  | zero =>
    intro m f hm hf hn
    obtain ⟨f, rfl⟩ : ∃ k, f = k + 1 := ⟨f - 1, by omega⟩
    refine zb_lt (64 - (m : Int)) (-48) (fun _ => hp _ (Or.inr ⟨fun m' h1 h2 => hn m' (by omega) h2, rfl⟩)) (fun l => absurd l (by omega)) rfl rfl
  | succ d ih =>
    intro m f hm hf hn
    obtain ⟨f, rfl⟩ : ∃ k, f = k + 1 := ⟨f - 1, by omega⟩
    refine zb_lt (64 - (m : Int)) (-48) (fun l => absurd l (by omega)) (fun _ => ?_) rfl rfl
    have cb := zx_cn_le (zl_P g rc ec lc) m
    have e2 : iI (64 - (m : Int)) + (-1) = iI (64 - ((m + 1 : Nat) : Int)) := by
      rw [zi_neg1, zi_add]; congr 1; omega
    have ex : iI lc - iI (64 - (m : Int)) = iI (lc - 64 + m) := by rw [zi_sub]; congr 1; omega
    refine zy_ofm (m := m) M l0 l1 (by omega) ex (fun p => br_t rfl ?_) (fun p r hr => br_f hr (nm_r e2 ?_))
    · refine zb_eq (zx_cn (zl_P g rc ec lc) m : Nat) k (fun e => hp _ (Or.inl ⟨m, by omega, p, e, ex⟩)) (fun e => nm_r (nI_1 _) (nm_r e2 ?_)) (zi_n _) rfl
      rw [← zl_s p]
      refine ih (m + 1) f (by omega) (by omega) (fun m' h1 h2 => ?_)
      by_cases c : m' = m
      · subst c; exact e
      · exact hn m' (by omega) h2
    · rw [← zl_n p]
      refine ih (m + 1) f (by omega) (by omega) (fun m' h1 h2 => ?_)
      by_cases c : m' = m
      · subst c; exact absurd h2 p
      · exact hn m' (by omega) h2
/-- one segment's share -/
theorem zl_seg {K : Nat → Nat → Int} {n i : Nat} {lc : Int} (C : zx_Cmp g rc ec K n sS sV sO sB) (hi : i < n) : ((K i 0 ≤ lc - K i 2 ∧ lc - K i 2 < zx_lm K n (i + 1)) → ∃ m, m < 113 ∧ zl_P g rc ec lc m ∧ lc - K i 2 = lc - 64 + m ∧ zx_cn (zl_P g rc ec lc) m = zx_cn (zl_P g rc ec lc) (zl_q (lc - 64) (K i 0)) ∧ zx_cn (zl_P g rc ec lc) (zl_q (lc - 64) (zx_lm K n (i + 1))) = zx_cn (zl_P g rc ec lc) m + 1 ∧ ∀ m', zl_q (lc - 64) (K i 0) ≤ m' → m' < zl_q (lc - 64) (zx_lm K n (i + 1)) → zl_P g rc ec lc m' → m' = m) ∧ (¬ (K i 0 ≤ lc - K i 2 ∧ lc - K i 2 < zx_lm K n (i + 1)) → zx_cn (zl_P g rc ec lc) (zl_q (lc - 64) (zx_lm K n (i + 1))) = zx_cn (zl_P g rc ec lc) (zl_q (lc - 64) (K i 0)) ∧ ∀ m', zl_q (lc - 64) (K i 0) ≤ m' → m' < zl_q (lc - 64) (zx_lm K n (i + 1)) → ¬ zl_P g rc ec lc m') := by
  have cov := C.2.2.2.1
  have b := (C.2.2.1 i hi).1
  have b0 := b.1
  have b2 := b.2.2.1
  have q := zx_lmm cov hi
  have inside : ∀ m', zl_q (lc - 64) (K i 0) ≤ m' → m' < zl_q (lc - 64) (zx_lm K n (i + 1)) → K i 0 ≤ lc - 64 + m' ∧ lc - 64 + m' < zx_lm K n (i + 1) := by
    intro m' h1 h2
    unfold zl_q at h1 h2
    split at h1 <;> split at h2 <;> omega
  have only : ∀ m', zl_q (lc - 64) (K i 0) ≤ m' → m' < zl_q (lc - 64) (zx_lm K n (i + 1)) → zl_P g rc ec lc m' → lc - 64 + (m' : Int) = lc - K i 2 := by
    intro m' h1 h2 p
    have h3 := inside m' h1 h2
    have h4 := zx_lmv cov hi h3.1 h3.2 2 (by omega) (by omega)
    have h5 := p.2.2
    omega
  have qq : zl_q (lc - 64) (K i 0) ≤ zl_q (lc - 64) (zx_lm K n (i + 1)) := by
    unfold zl_q
    split <;> split <;> omega
  constructor
  · intro sh
    have m1 : ((64 - K i 2).toNat : Int) = 64 - K i 2 := by omega
    have et : lc - 64 + ((64 - K i 2).toNat : Int) = lc - K i 2 := by omega
    have p : zl_P g rc ec lc (64 - K i 2).toNat := by
      have h4 := zx_lmv cov hi sh.1 sh.2 2 (by omega) (by omega)
      refine ⟨by omega, by omega, ?_⟩
      rw [et, ← h4]; omega
    have a1 : zl_q (lc - 64) (K i 0) ≤ (64 - K i 2).toNat := by
      unfold zl_q; split <;> omega
    have a2 : (64 - K i 2).toNat < zl_q (lc - 64) (zx_lm K n (i + 1)) := by
      unfold zl_q; split <;> omega
    have un : ∀ m', zl_q (lc - 64) (K i 0) ≤ m' → m' < zl_q (lc - 64) (zx_lm K n (i + 1)) → zl_P g rc ec lc m' → m' = (64 - K i 2).toNat := by
      intro m' h1 h2 h3
      have := only m' h1 h2 h3
      omega
    refine ⟨(64 - K i 2).toNat, by omega, p, et.symm, ?_, ?_, un⟩
    · exact zl_none' a1 (fun m' h1 h2 h3 => by have := un m' h1 (by omega) h3; omega)
    · rw [← zl_s p]
      exact zl_none' (by omega) (fun m' h1 h2 h3 => by have := un m' (by omega) h2 h3; omega)
  · intro ns
    have no : ∀ m', zl_q (lc - 64) (K i 0) ≤ m' → m' < zl_q (lc - 64) (zx_lm K n (i + 1)) → ¬ zl_P g rc ec lc m' := by
      intro m' h1 h2 h3
      have h4 := only m' h1 h2 h3
      have h5 := inside m' h1 h2
      exact ns ⟨by omega, by omega⟩
    exact ⟨zl_none' qq no, no⟩
theorem zx_shows {post : Int32 → Prop} {K : Nat → Nat → Int} {n i : Nat} {lc : Int} (C : zx_Cmp g rc ec K n sS sV sO sB) (hi : i < n) (l0 : -100000 ≤ lc) (l1 : lc < 10000000) (h1 : (K i 0 ≤ lc - K i 2 ∧ lc - K i 2 < zx_lm K n (i + 1)) → post 1) (h0 : ¬ (K i 0 ≤ lc - K i 2 ∧ lc - K i 2 < zx_lm K n (i + 1)) → post 0) : wpX_shows post (xl, xm, xr, xe, xa, nI n, xc, dD, dR, dE, dF, dA, dU, sS, sV, sO, sB) (nI i) (iI lc) := by
  have n26 := C.2.1
  have s1 := C.2.2.1 i hi
  have b0 := s1.1.1
  have b2 := s1.1.2.2.1
  have iv : vp_in (nI i) 2600 := zn_in (by omega) (by omega)
  unfold wpX_shows
  dsimp only
  rw [nI_clamp (n := i) (by omega), s1.2.2.2.1]
  refine ⟨iv, nm_r (zi_sub _ _) ?_⟩
  have W : ∀ z : Int, z = zx_lm K n (i + 1) → 0 ≤ z → z ≤ 3506400 → wX_shows_32 post (nI i) (iI (lc - K i 2)) (iI z) xl xm xr xe xa (nI n) xc dD dR dE dF dA dU sS sV sO sB := by
    intro z hz z0 z1
    unfold wX_shows_32
    rw [nI_clamp (n := i) (by omega), s1.2.1]
    exact ⟨iv, zb_lt (lc - K i 2) (K i 0) (fun q => h0 (fun c => by omega)) (fun q => zb_le z (lc - K i 2) (fun q2 => h0 (fun c => by omega)) (fun q2 => h1 ⟨q, by omega⟩) rfl rfl) rfl rfl⟩
  rw [nI_1 i]
  refine zk_le n (i + 1) (fun q => W 3506400 (by unfold zx_lm; rw [if_neg (by omega)]) (by omega) (by omega)) (fun q => ?_) rfl rfl (by omega) (by omega)
  have s2 := C.2.2.1 (i + 1) q
  have b3 := s2.1.1
  rw [nI_clamp (by omega), s2.2.1]
  exact ⟨zn_in (by omega) (by omega), W _ (by unfold zx_lm; rw [if_pos q]) (by omega) (by omega)⟩
/-- all is counted once a start lies beyond -/
theorem zl_end {K : Nat → Nat → Int} {n i : Nat} {lc : Int} (h : n ≤ i ∨ (i < n ∧ lc + 48 < K i 0)) : zx_cn (zl_P g rc ec lc) 113 = zx_cn (zl_P g rc ec lc) (zl_q (lc - 64) (zx_lm K n i)) ∧ ∀ m', zl_q (lc - 64) (zx_lm K n i) ≤ m' → m' < 113 → ¬ zl_P g rc ec lc m' := by
  have no : ∀ m', zl_q (lc - 64) (zx_lm K n i) ≤ m' → m' < 113 → ¬ zl_P g rc ec lc m' := by
    intro m' h1 h2 p
    have p2 := p.2.1
    unfold zl_q zx_lm at h1
    rcases h with h | h
    · rw [if_neg (show ¬ i < n by omega)] at h1
      split at h1 <;> omega
    · rw [if_pos h.1] at h1
      split at h1 <;> omega
  refine ⟨zl_none' ?_ no, no⟩
  unfold zl_q
  split <;> omega
theorem zl_lm {K : Nat → Nat → Int} {n i : Nat} (h : i < n) : zx_lm K n i = K i 0 := if_pos h
theorem zx_c32 {post : Int32 → Prop} {K : Nat → Nat → Int} {n : Nat} {lc : Int} (C : zx_Cmp g rc ec K n sS sV sO sB) (l0 : -100000 ≤ lc) (l1 : lc < 10000000) (hp : post (nI (zx_cn (zl_P g rc ec lc) 113))) : ∀ (d i f : Nat), i + d = n → d < f → wX_localCount_32 post (iI lc) xl xm xr xe xa (nI n) xc dD dR dE dF dA dU sS sV sO sB f (nI (zx_cn (zl_P g rc ec lc) (zl_q (lc - 64) (zx_lm K n i)))) (nI i) := by
  have n26 := C.2.1
  intro d
  induction d with
  | zero =>
    intro i f hi hf
    obtain ⟨f, rfl⟩ : ∃ k, f = k + 1 := ⟨f - 1, by omega⟩
    refine zk_le n i (fun _ => ?_) (fun l => absurd l (by omega)) rfl rfl (by omega) (by omega)
    rw [← (zl_end (K := K) (n := n) (i := i) (lc := lc) (Or.inl (by omega))).1]
    exact hp
  | succ d ih =>
    intro i f hi hf
    obtain ⟨f, rfl⟩ : ∃ k, f = k + 1 := ⟨f - 1, by omega⟩
    have s1 := C.2.2.1 i (by omega)
    have b0 := s1.1.1
    have Z := ih (i + 1) f (by omega) (by omega)
    have sg := zl_seg (lc := lc) C (i := i) (by omega)
    refine zk_le n i (fun l => absurd l (by omega)) (fun _ => ⟨zn_in (by omega) (by omega), ?_⟩) rfl rfl (by omega) (by omega)
    rw [nI_clamp (n := i) (by omega)]
    refine zb_lt (lc + 48) (K i 0) (fun q => ?_) (fun q => ?_) (zA rfl rfl) s1.2.1
    · rw [← (zl_end (K := K) (n := n) (i := i) (lc := lc) (Or.inr ⟨by omega, q⟩)).1]
      exact hp
    · rw [zl_lm (K := K) (n := n) (i := i) (by omega)]
      refine zx_shows C (by omega) l0 l1 (fun sh => br_f (by decide) (nm_r (nI_1 _) (nm_r (nI_1 _) ?_))) (fun ns => br_t rfl (nm_r (nI_1 _) ?_))
      · obtain ⟨m, m1, m2, m3, m4, m5, m6⟩ := sg.1 sh
        rw [← m4, ← m5]; exact Z
      · rw [← (sg.2 ns).1]; exact Z
theorem zx_i40 {post : Int32 → Prop} {K : Nat → Nat → Int} {n : Nat} {lc k : Int} (C : zx_Cmp g rc ec K n sS sV sO sB) (l0 : -100000 ≤ lc) (l1 : lc < 10000000) (k0 : -2147483648 ≤ k) (k1 : k < 2147483648) (hp : ∀ r, zl_A (zl_P g rc ec lc) lc k r → post r) : ∀ (d i f : Nat), i + d = n → d < f → (∀ m', m' < zl_q (lc - 64) (zx_lm K n i) → zl_P g rc ec lc m' → (zx_cn (zl_P g rc ec lc) m' : Int) ≠ k) → wX_localInstant_40 post (iI lc) (iI k) xl xm xr xe xa (nI n) xc dD dR dE dF dA dU sS sV sO sB f (nI (zx_cn (zl_P g rc ec lc) (zl_q (lc - 64) (zx_lm K n i)))) (nI i) := by
  have n26 := C.2.1
  intro d
  induction d with
  | zero =>
    intro i f hi hf hn
    obtain ⟨f, rfl⟩ : ∃ k, f = k + 1 := ⟨f - 1, by omega⟩
    refine zk_le n i (fun _ => hp _ (Or.inr ⟨fun m' h1 h2 => ?_, rfl⟩)) (fun l => absurd l (by omega)) rfl rfl (by omega) (by omega)
    by_cases c : m' < zl_q (lc - 64) (zx_lm K n i)
    · exact hn m' c h2
    · exact absurd h2 ((zl_end (K := K) (n := n) (i := i) (lc := lc) (Or.inl (by omega))).2 m' (by omega) h1)
  | succ d ih =>
    intro i f hi hf hn
    obtain ⟨f, rfl⟩ : ∃ k, f = k + 1 := ⟨f - 1, by omega⟩
    have s1 := C.2.2.1 i (by omega)
    have b0 := s1.1.1
    have b2 := s1.1.2.2.1
    have Z := ih (i + 1) f (by omega) (by omega)
    have sg := zl_seg (lc := lc) C (i := i) (by omega)
    have iv : vp_in (nI i) 2600 := zn_in (by omega) (by omega)
    refine zk_le n i (fun l => absurd l (by omega)) (fun _ => ⟨iv, ?_⟩) rfl rfl (by omega) (by omega)
    rw [nI_clamp (n := i) (by omega)]
    refine zb_lt (lc + 48) (K i 0) (fun q => hp _ (Or.inr ⟨fun m' h1 h2 => ?_, rfl⟩)) (fun q => ?_) (zA rfl rfl) s1.2.1
    · by_cases c : m' < zl_q (lc - 64) (zx_lm K n i)
      · exact hn m' c h2
      · exact absurd h2 ((zl_end (K := K) (n := n) (i := i) (lc := lc) (Or.inr ⟨by omega, q⟩)).2 m' (by omega) h1)
    · rw [zl_lm (K := K) (n := n) (i := i) (by omega)] at hn ⊢
      refine zx_shows C (by omega) l0 l1 (fun sh => br_f (by decide) ?_) (fun ns => br_t rfl (nm_r (nI_1 _) ?_))
      · obtain ⟨m, m1, m2, m3, m4, m5, m6⟩ := sg.1 sh
        have cb := zx_cn_le (zl_P g rc ec lc) m
        rw [← m4]
        refine zb_eq (zx_cn (zl_P g rc ec lc) m : Nat) k (fun e => ⟨iv, ?_⟩) (fun e => nm_r (nI_1 _) (nm_r (nI_1 _) ?_)) (zi_n _) rfl
        · rw [s1.2.2.2.1, zi_sub]
          exact hp _ (Or.inl ⟨m, m1, m2, e, by rw [m3]⟩)
        · rw [← m5]
          refine Z (fun m' h1 h2 => ?_)
          by_cases c : m' < zl_q (lc - 64) (K i 0)
          · exact hn m' c h2
          · rw [m6 m' (by omega) h1 h2]; exact e
      · rw [← (sg.2 ns).1]
        refine Z (fun m' h1 h2 => ?_)
        by_cases c : m' < zl_q (lc - 64) (K i 0)
        · exact hn m' c h2
        · exact absurd h2 ((sg.2 ns).2 m' (by omega) h1)
theorem zx_firstSeg {post : Int32 → Prop} {K : Nat → Nat → Int} {n : Nat} {lc : Int} (C : zx_Cmp g rc ec K n sS sV sO sB) (l0 : -48 ≤ lc) (l1 : lc ≤ 3506463) (h : ∀ i, i < n → (∀ m', m' < zl_q (lc - 64) (K i 0) → ¬ zl_P g rc ec lc m') → post (nI i)) : wpX_firstSegmentFor post (xl, xm, xr, xe, xa, nI n, xc, dD, dR, dE, dF, dA, dU, sS, sV, sO, sB) (iI lc) := by
  unfold wpX_firstSegmentFor wX_firstSegmentFor_14
  dsimp only
  refine zb_le lc 64 (fun q => ?_) (fun q => ?_) rfl rfl
  · refine zx_segAt (t := 0) C (by omega) (by omega) (fun i i1 i2 i3 => h i i1 (fun m' h1 p => ?_))
    have p1 := p.1
    unfold zl_q at h1
    split at h1 <;> omega
  · rw [show iI lc - 64 = iI (lc - 64) from zS rfl rfl]
    refine zx_segAt (t := lc - 64) C (by omega) (by omega) (fun i i1 i2 i3 => h i i1 (fun m' h1 p => ?_))
    unfold zl_q at h1
    split at h1 <;> omega
theorem zl_out {lc : Int} (h : lc < -48 ∨ 3506463 < lc) : ∀ m, m < 113 → ¬ zl_P g rc ec lc m := by
  intro m hm p
  have p1 := p.1
  have p2 := p.2.1
  omega
theorem zx_read {post : Int32 → Prop} {lc : Int} (l0 : -2147483648 ≤ lc) (l1 : lc < 2147483648) (h1 : -48 ≤ lc → lc ≤ 3506463 → post 1) (h0 : (lc < -48 ∨ 3506463 < lc) → post 0) : wpX_readable post (xl, xm, xr, xe, xa, xs, xc, dD, dR, dE, dF, dA, dU, sS, sV, sO, sB) (iI lc) := by
  unfold wpX_readable
  dsimp only
  exact zb_lt lc (-48) (fun l => h0 (Or.inl l)) (fun l => zb_lt 3506463 lc (fun l' => h0 (Or.inr l')) (fun l' => h1 l l') rfl rfl) rfl rfl
end
theorem i_vc_localCount {k : Nat} {u : SX} {v : SY} (I : i_Rel k u v) (hk : k + 5 ≤ 2562) (v1 : Int32) : wpX_localCount (fun r => wpY_localCount (fun r' => r' = r ∧ i_Rel (k + 5) u v) v v1) u v1 := by
  obtain ⟨lc, t1, t2, rfl⟩ := zi_ex v1
  refine zr_el (P := fun u v => wpX_localCount (fun r => wpY_localCount (fun r' => r' = r ∧ i_Rel (k + 5) u v) v (iI lc)) u (iI lc)) I ?_
  intro xl xm xr xe xa xs xc dD dR dE dF dA dU sS sV sO sB yl ym yr ye yc ys yA yP yT g h rl el rc ec hN hD hS hC
  have J : i_Rel (k + 5) (xl, xm, xr, xe, xa, xs, xc, dD, dR, dE, dF, dA, dU, sS, sV, sO, sB) (yl, ym, yr, ye, yc, ys, yA, yP, yT) := zr_mk g h rl el rc ec hN hD hS hC
  unfold wpX_localCount wpY_localCount
  dsimp only
  rcases hC with ⟨hx, hy⟩ | ⟨hx, hy, hK⟩
  · exact br_t hx (br_t hy ⟨rfl, J⟩)
  · have M := zy_Mk hN hS hy hK
    obtain ⟨h1, _, _, _, n, K, rfl, C⟩ := hK
    refine br_f (by rw [hx]; decide) ?_
    have Yl : ∀ x : Int32, x = nI (zx_cn (zl_P g rc ec lc) 113) → (yc = 0 → (-1008 : Int32) = x ∧ i_Rel (k + 5) (xl, xm, xr, xe, xa, nI n, xc, dD, dR, dE, dF, dA, dU, sS, sV, sO, sB) (yl, ym, yr, ye, yc, ys, yA, yP, yT)) ∧ (¬ yc = 0 → ∃ n16 : Nat, wY_localCount_16 (fun r' => r' = x ∧ i_Rel (k + 5) (xl, xm, xr, xe, xa, nI n, xc, dD, dR, dE, dF, dA, dU, sS, sV, sO, sB) (yl, ym, yr, ye, yc, ys, yA, yP, yT)) (iI lc) yl ym yr ye yc ys yA yP yT n16 0 (-48)) := by
      intro x hx'
      refine br_f (by rw [hy]; decide) ⟨114, ?_⟩
      have z := zy_c16 (yl := yl) (ym := ym) (yr := yr) (ye := ye) (yc := yc) (ys := ys) (yA := yA) (yP := yP) (yT := yT) (post := fun r' => r' = x ∧ i_Rel (k + 5) (xl, xm, xr, xe, xa, nI n, xc, dD, dR, dE, dF, dA, dU, sS, sV, sO, sB) (yl, ym, yr, ye, yc, ys, yA, yP, yT)) M t1 t2 ⟨hx'.symm, J⟩ 113 114 (by omega) (by omega)
      rw [Nat.sub_self] at z
      exact z
    refine zx_read t1 t2 (fun a b => br_f (by decide) ?_) (fun a => br_t rfl (Yl 0 ?_))
    · refine zx_firstSeg C a b (fun i i1 no => ⟨n + 1, ?_⟩)
      have z := zx_c32 (xl := xl) (xm := xm) (xr := xr) (xe := xe) (xa := xa) (xc := xc) (dD := dD) (dR := dR) (dE := dE) (dF := dF) (dA := dA) (dU := dU) (post := fun r => (yc = 0 → (-1008 : Int32) = r ∧ i_Rel (k + 5) (xl, xm, xr, xe, xa, nI n, xc, dD, dR, dE, dF, dA, dU, sS, sV, sO, sB) (yl, ym, yr, ye, yc, ys, yA, yP, yT)) ∧ (¬ yc = 0 → ∃ n16 : Nat, wY_localCount_16 (fun r' => r' = r ∧ i_Rel (k + 5) (xl, xm, xr, xe, xa, nI n, xc, dD, dR, dE, dF, dA, dU, sS, sV, sO, sB) (yl, ym, yr, ye, yc, ys, yA, yP, yT)) (iI lc) yl ym yr ye yc ys yA yP yT n16 0 (-48))) (lc := lc) C (by omega) (by omega) (Yl _ rfl) (n - i) i (n + 1) (by omega) (by omega)
      rw [zl_lm i1, zl_none' (a := 0) (by omega) (fun m _ hm => no m hm)] at z
      exact z
    · have e := zl_none' (P := zl_P g rc ec lc) (a := 0) (b := 113) (by omega) (fun m _ hm => zl_out a m hm)
      rw [e]; rfl
theorem i_vc_localInstant {k : Nat} {u : SX} {v : SY} (I : i_Rel k u v) (hk : k + 5 ≤ 2562) (v1 : Int32) (v2 : Int32) : wpX_localInstant (fun r => wpY_localInstant (fun r' => r' = r ∧ i_Rel (k + 5) u v) v v1 v2) u v1 v2 := by
  obtain ⟨lc, t1, t2, rfl⟩ := zi_ex v1
  obtain ⟨q, q1, q2, rfl⟩ := zi_ex v2
  refine zr_el (P := fun u v => wpX_localInstant (fun r => wpY_localInstant (fun r' => r' = r ∧ i_Rel (k + 5) u v) v (iI lc) (iI q)) u (iI lc) (iI q)) I ?_
  intro xl xm xr xe xa xs xc dD dR dE dF dA dU sS sV sO sB yl ym yr ye yc ys yA yP yT g h rl el rc ec hN hD hS hC
  have J : i_Rel (k + 5) (xl, xm, xr, xe, xa, xs, xc, dD, dR, dE, dF, dA, dU, sS, sV, sO, sB) (yl, ym, yr, ye, yc, ys, yA, yP, yT) := zr_mk g h rl el rc ec hN hD hS hC
  unfold wpX_localInstant wpY_localInstant
  dsimp only
  rcases hC with ⟨hx, hy⟩ | ⟨hx, hy, hK⟩
  · exact br_t hx (br_t hy ⟨rfl, J⟩)
  · have M := zy_Mk hN hS hy hK
    obtain ⟨h1, _, _, _, n, K, rfl, C⟩ := hK
    refine br_f (by rw [hx]; decide) ?_
    have Yl : ∀ x : Int32, zl_A (zl_P g rc ec lc) lc q x → (yc = 0 → (-1008 : Int32) = x ∧ i_Rel (k + 5) (xl, xm, xr, xe, xa, nI n, xc, dD, dR, dE, dF, dA, dU, sS, sV, sO, sB) (yl, ym, yr, ye, yc, ys, yA, yP, yT)) ∧ (¬ yc = 0 → ∃ n17 : Nat, wY_localInstant_17 (fun r' => r' = x ∧ i_Rel (k + 5) (xl, xm, xr, xe, xa, nI n, xc, dD, dR, dE, dF, dA, dU, sS, sV, sO, sB) (yl, ym, yr, ye, yc, ys, yA, yP, yT)) (iI lc) (iI q) yl ym yr ye yc ys yA yP yT n17 0 64) := by
      intro x hx'
      refine br_f (by rw [hy]; decide) ⟨114, ?_⟩
      exact zy_i17 (yl := yl) (ym := ym) (yr := yr) (ye := ye) (yc := yc) (ys := ys) (yA := yA) (yP := yP) (yT := yT) (post := fun r' => r' = x ∧ i_Rel (k + 5) (xl, xm, xr, xe, xa, nI n, xc, dD, dR, dE, dF, dA, dU, sS, sV, sO, sB) (yl, ym, yr, ye, yc, ys, yA, yP, yT)) M t1 t2 q1 q2 (fun r hr => ⟨zl_Au hr hx', J⟩) 113 0 114 (by omega) (by omega) (fun m' hm => by omega)
    refine zb_lt q 0 (fun a => Yl _ (Or.inr ⟨fun m _ _ => by omega, rfl⟩)) (fun a => ?_) rfl rfl
    refine zx_read t1 t2 (fun a b => br_f (by decide) ?_) (fun a => br_t rfl (Yl _ (Or.inr ⟨fun m hm p => absurd p (zl_out a m hm), rfl⟩)))
    refine zx_firstSeg C a b (fun i i1 no => ⟨n + 1, ?_⟩)
    have z := zx_i40 (xl := xl) (xm := xm) (xr := xr) (xe := xe) (xa := xa) (xc := xc) (dD := dD) (dR := dR) (dE := dE) (dF := dF) (dA := dA) (dU := dU) (post := fun r => (yc = 0 → (-1008 : Int32) = r ∧ i_Rel (k + 5) (xl, xm, xr, xe, xa, nI n, xc, dD, dR, dE, dF, dA, dU, sS, sV, sO, sB) (yl, ym, yr, ye, yc, ys, yA, yP, yT)) ∧ (¬ yc = 0 → ∃ n17 : Nat, wY_localInstant_17 (fun r' => r' = r ∧ i_Rel (k + 5) (xl, xm, xr, xe, xa, nI n, xc, dD, dR, dE, dF, dA, dU, sS, sV, sO, sB) (yl, ym, yr, ye, yc, ys, yA, yP, yT)) (iI lc) (iI q) yl ym yr ye yc ys yA yP yT n17 0 64)) (lc := lc) C (by omega) (by omega) q1 q2 Yl (n - i) i (n + 1) (by omega) (by omega) (fun m' h2 p => by rw [zl_lm i1] at h2; exact absurd p (no m' h2))
    rw [zl_lm i1, zl_none' (a := 0) (by omega) (fun m _ hm => no m hm)] at z
    exact z
end
