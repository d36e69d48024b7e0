section
/-! ===== Int32 by its bits (out of laws/BITS.to-paste) ===== -/
def bt (x : Int32) (i : Nat) : Bool := x.toBitVec.getLsbD i
theorem b_ext {x y : Int32} (h : ∀ i, i < 32 → bt x i = bt y i) : x = y := Int32.toBitVec_inj.mp (BitVec.eq_of_getLsbD_eq (fun i hi => h i hi))
theorem b_or (x y : Int32) (i : Nat) : bt (x ||| y) i = (bt x i || bt y i) := by unfold bt; rw [Int32.toBitVec_or, BitVec.getLsbD_or]
theorem b_and (x y : Int32) (i : Nat) : bt (x &&& y) i = (bt x i && bt y i) := by unfold bt; rw [Int32.toBitVec_and, BitVec.getLsbD_and]
theorem b_0 (i : Nat) : bt 0 i = false := BitVec.getLsbD_zero
theorem s_l : ∀ n, n < 32 → ((nI n &&& 31).toBitVec.smod 32).toNat = n := by decide +kernel
theorem s_u : ∀ n, n < 32 → (((nI n).toUInt32 &&& Int32.toUInt32 31).toBitVec % 32).toNat = n := by decide +kernel
theorem b_ushr (n : Nat) (hn : n < 32) (x : Int32) (i : Nat) : bt ((x.toUInt32 >>> ((nI n).toUInt32 &&& Int32.toUInt32 31)).toInt32) i = bt x (n + i) := by
  show (x.toUInt32 >>> ((nI n).toUInt32 &&& Int32.toUInt32 31)).toBitVec.getLsbD i = x.toUInt32.toBitVec.getLsbD (n + i)
  rw [UInt32.toBitVec_shiftRight]
  show (x.toUInt32.toBitVec >>> (((nI n).toUInt32 &&& Int32.toUInt32 31).toBitVec % 32).toNat).getLsbD i = _
  rw [s_u n hn, BitVec.getLsbD_ushiftRight]
theorem b_sshr (n : Nat) (hn : n < 32) (x : Int32) {i : Nat} (hi : i < 32) : bt (x >>> (nI n &&& 31)) i = if n + i < 32 then bt x (n + i) else bt x 31 := by
  unfold bt
  rw [Int32.toBitVec_shiftRight]
  show (x.toBitVec.sshiftRight ((nI n &&& 31).toBitVec.smod 32).toNat).getLsbD i = _
  rw [s_l n hn, BitVec.getLsbD_sshiftRight, BitVec.msb_eq_getLsbD_last]
  simp [hi]
/-! ===== an int as an Int32 ===== -/
def rb_i (z : Int) : Int32 := Int32.ofInt z
theorem rb_add (a b : Int) : rb_i a + rb_i b = rb_i (a + b) := (Int32.ofInt_add a b).symm
theorem rb_sub (a b : Int) : rb_i a - rb_i b = rb_i (a - b) := (Int32.ofInt_sub a b).symm
theorem rb_mul (a b : Int) : rb_i a * rb_i b = rb_i (a * b) := (Int32.ofInt_mul a b).symm
theorem rb_neg (a : Int) : -rb_i a = rb_i (-a) := Int32.neg_ofInt
theorem rb_n (n : Nat) : nI n = rb_i (n : Int) := Int32.ofInt_eq_ofNat.symm
theorem rb_self (x : Int32) : x = rb_i x.toInt := (Int32.ofInt_toInt x).symm
theorem rb_t {z : Int} (h1 : -2147483648 ≤ z) (h2 : z < 2147483648) : (rb_i z).toInt = z := Int32.toInt_ofInt_of_le (by omega) (by omega)
theorem rb_leI {a b : Int} (ha : -1000000000 ≤ a ∧ a ≤ 1000000000) (hb : -1000000000 ≤ b ∧ b ≤ 1000000000) : rb_i a ≤ rb_i b ↔ a ≤ b := by
  rw [Int32.le_iff_toInt_le, rb_t (by omega) (by omega), rb_t (by omega) (by omega)]
theorem rb_ltI {a b : Int} (ha : -1000000000 ≤ a ∧ a ≤ 1000000000) (hb : -1000000000 ≤ b ∧ b ≤ 1000000000) : rb_i a < rb_i b ↔ a < b := by
  rw [Int32.lt_iff_toInt_lt, rb_t (by omega) (by omega), rb_t (by omega) (by omega)]
theorem rb_eqI {a b : Int} (ha : -1000000000 ≤ a ∧ a ≤ 1000000000) (hb : -1000000000 ≤ b ∧ b ≤ 1000000000) : rb_i a = rb_i b ↔ a = b := by
  constructor
  · intro h
    have h2 : (rb_i a).toInt = (rb_i b).toInt := by rw [h]
    rwa [rb_t (by omega) (by omega), rb_t (by omega) (by omega)] at h2
  · intro h
    rw [h]
theorem rb_ble {A B : Prop} {x y : Int32} (a b : Int) (f : a ≤ b → A) (g : b < a → B) (hx : x = rb_i a := by rfl) (hy : y = rb_i b := by rfl)
    (ha : -1000000000 ≤ a ∧ a ≤ 1000000000 := by omega) (hb : -1000000000 ≤ b ∧ b ≤ 1000000000 := by omega) : (x ≤ y → A) ∧ (¬ x ≤ y → B) := by
  subst hx hy
  rw [rb_leI ha hb]
  exact ⟨f, fun z => g (by omega)⟩
theorem rb_blt {A B : Prop} {x y : Int32} (a b : Int) (f : a < b → A) (g : b ≤ a → B) (hx : x = rb_i a := by rfl) (hy : y = rb_i b := by rfl)
    (ha : -1000000000 ≤ a ∧ a ≤ 1000000000 := by omega) (hb : -1000000000 ≤ b ∧ b ≤ 1000000000 := by omega) : (x < y → A) ∧ (¬ x < y → B) := by
  subst hx hy
  rw [rb_ltI ha hb]
  exact ⟨f, fun z => g (by omega)⟩
theorem rb_beq {A B : Prop} {x y : Int32} (a b : Int) (f : a = b → A) (g : ¬ a = b → B) (hx : x = rb_i a := by rfl) (hy : y = rb_i b := by rfl)
    (ha : -1000000000 ≤ a ∧ a ≤ 1000000000 := by omega) (hb : -1000000000 ≤ b ∧ b ≤ 1000000000 := by omega) : (x = y → A) ∧ (¬ x = y → B) := by
  subst hx hy
  rw [rb_eqI ha hb]
  exact ⟨f, g⟩
theorem rb_0 : rb_i 0 = 0 := rfl
theorem rb_add0 (x : Int32) : x + 0 = x := by
  rw [rb_self x, ← rb_0, rb_add, Int.add_zero]
theorem rb_upd_self (f : Nat → Int32) (k : Nat) : upd f k (f k) = f := by
  funext j
  by_cases e : j = k
  · rw [e, pk_us]
  · rw [pk_un e]
theorem rb_uu (f : Nat → Int32) (k : Nat) (x y : Int32) : upd (upd f k x) k y = upd f k y := by
  funext j
  by_cases e : j = k
  · rw [e, pk_us, pk_us]
  · rw [pk_un e, pk_un e, pk_un e]
theorem rb_mb {a b A B : Int} (ha : -A ≤ a ∧ a ≤ A) (hb : -B ≤ b ∧ b ≤ B) : -(A * B) ≤ a * b ∧ a * b ≤ A * B := by
  have h1 := Int.mul_nonneg (show 0 ≤ A - a by omega) (show 0 ≤ B + b by omega)
  have h2 := Int.mul_nonneg (show 0 ≤ A + a by omega) (show 0 ≤ B - b by omega)
  have h3 := Int.mul_nonneg (show 0 ≤ A - a by omega) (show 0 ≤ B - b by omega)
  have h4 := Int.mul_nonneg (show 0 ≤ A + a by omega) (show 0 ≤ B + b by omega)
  rw [Int.sub_mul, Int.mul_add, Int.mul_add] at h1
  rw [Int.add_mul, Int.mul_sub, Int.mul_sub] at h2
  rw [Int.sub_mul, Int.mul_sub, Int.mul_sub] at h3
  rw [Int.add_mul, Int.mul_add, Int.mul_add] at h4
  generalize A * B = u1 at *
  generalize a * b = u2 at *
  generalize A * b = u3 at *
  generalize a * B = u4 at *
  omega
theorem rb_mono {a x y : Int} (ha : 0 ≤ a) (h : x ≤ y) : a * x ≤ a * y := Int.mul_le_mul_of_nonneg_left h ha
theorem rb_anti {a x y : Int} (ha : a ≤ 0) (h : x ≤ y) : a * y ≤ a * x := by
  have h1 := Int.mul_nonneg (show 0 ≤ -a by omega) (show 0 ≤ y - x by omega)
  rw [Int.neg_mul, Int.mul_sub] at h1
  generalize a * x = u1 at *
  generalize a * y = u2 at *
  omega
end
section
/-! ===== the pure picture ===== -/
def rb_r (z : Int) : Int := if z ≤ 0 then 0 else z
def rb_h (N : Nat → Int) (k : Nat) (x y : Int) : Int := N (2 * k) * x + N (2 * k + 1) * y + N (6 + k)
def rb_gp (N : Nat → Int) (k : Nat) (x y : Int) : Nat → Int
  | 0 => N (15 + k)
  | i + 1 => rb_gp N k x y i + N (9 + 3 * k + i) * rb_r (rb_h N i x y)
def rb_g (N : Nat → Int) (k : Nat) (x y : Int) : Int := rb_gp N k x y 3
def rb_op (N : Nat → Int) (x y : Int) : Nat → Int
  | 0 => N 19
  | i + 1 => rb_op N x y i + N (17 + i) * rb_r (rb_g N i x y)
def rb_o (N : Nat → Int) (x y : Int) : Int := rb_op N x y 2
def rb_V (N : Nat → Int) (t : Nat) (x y : Int) : Int := if t < 3 then rb_h N t x y else if t < 5 then rb_g N (t - 3) x y else rb_o N x y
def rb_N (N : Nat → Int) : Prop := ∀ j, j < 20 → -8 ≤ N j ∧ N j ≤ 8
def rb_A (N : Nat → Int) (a1 : Nat → Int32) : Prop := ∀ j, j < 20 → a1 j = rb_i (N j)
def rb_I (x : Int) : Prop := -16 ≤ x ∧ x ≤ 15
theorem rb_r_le {z : Int} (h : z ≤ 0) : rb_r z = 0 := if_pos h
theorem rb_r_gt {z : Int} (h : 0 < z) : rb_r z = z := if_neg (by omega)
theorem rb_r_b {z B : Int} (h : -B ≤ z ∧ z ≤ B) : -B ≤ rb_r z ∧ rb_r z ≤ B := by
  rcases Int.lt_or_le 0 z with c | c
  · rw [rb_r_gt c]; exact h
  · rw [rb_r_le c]; omega
theorem rb_V0 {N : Nat → Int} {t : Nat} (h : t < 3) {x y : Int} : rb_V N t x y = rb_h N t x y := if_pos h
theorem rb_V3 {N : Nat → Int} {k : Nat} (h : k < 2) {x y : Int} : rb_V N (3 + k) x y = rb_g N k x y := by
  unfold rb_V
  rw [if_neg (by omega), if_pos (by omega), show 3 + k - 3 = k by omega]
theorem rb_V5 {N : Nat → Int} {x y : Int} : rb_V N 5 x y = rb_o N x y := rfl
theorem rb_h_b {N : Nat → Int} (hN : rb_N N) {k : Nat} (hk : k < 3) {x y : Int} (hx : rb_I x) (hy : rb_I y) : -264 ≤ rb_h N k x y ∧ rb_h N k x y ≤ 264 := by
  have h1 := rb_mb (A := 8) (B := 16) (hN (2 * k) (by omega)) (b := x) ⟨by unfold rb_I at hx; omega, by unfold rb_I at hx; omega⟩
  have h2 := rb_mb (A := 8) (B := 16) (hN (2 * k + 1) (by omega)) (b := y) ⟨by unfold rb_I at hy; omega, by unfold rb_I at hy; omega⟩
  have h3 := hN (6 + k) (by omega)
  unfold rb_h
  omega
theorem rb_gp_b {N : Nat → Int} (hN : rb_N N) {k : Nat} (hk : k < 2) {x y : Int} (hx : rb_I x) (hy : rb_I y) (i : Nat) (hi : i ≤ 3) : -(8 + 2112 * (i : Int)) ≤ rb_gp N k x y i ∧ rb_gp N k x y i ≤ 8 + 2112 * (i : Int) := by
  induction i with
  | zero =>
    have h3 := hN (15 + k) (by omega)
    unfold rb_gp
    omega
  | succ i ih =>
    have h0 := ih (by omega)
    have h1 := rb_mb (A := 8) (B := 264) (hN (9 + 3 * k + i) (by omega)) (rb_r_b (rb_h_b hN (k := i) (by omega) hx hy))
    unfold rb_gp
    omega
theorem rb_g_b {N : Nat → Int} (hN : rb_N N) {k : Nat} (hk : k < 2) {x y : Int} (hx : rb_I x) (hy : rb_I y) : -6344 ≤ rb_g N k x y ∧ rb_g N k x y ≤ 6344 := by
  have h := rb_gp_b hN hk hx hy 3 (by omega)
  unfold rb_g
  omega
theorem rb_op_b {N : Nat → Int} (hN : rb_N N) {x y : Int} (hx : rb_I x) (hy : rb_I y) (i : Nat) (hi : i ≤ 2) : -(8 + 50752 * (i : Int)) ≤ rb_op N x y i ∧ rb_op N x y i ≤ 8 + 50752 * (i : Int) := by
  induction i with
  | zero =>
    have h3 := hN 19 (by omega)
    unfold rb_op
    omega
  | succ i ih =>
    have h0 := ih (by omega)
    have h1 := rb_mb (A := 8) (B := 6344) (hN (17 + i) (by omega)) (rb_r_b (rb_g_b hN (k := i) (by omega) hx hy))
    unfold rb_op
    omega
theorem rb_o_b {N : Nat → Int} (hN : rb_N N) {x y : Int} (hx : rb_I x) (hy : rb_I y) : -101512 ≤ rb_o N x y ∧ rb_o N x y ≤ 101512 := by
  have h := rb_op_b hN hx hy 2 (by omega)
  unfold rb_o
  omega
theorem rb_V_b {N : Nat → Int} (hN : rb_N N) {t : Nat} {x y : Int} (hx : rb_I x) (hy : rb_I y) : -101512 ≤ rb_V N t x y ∧ rb_V N t x y ≤ 101512 := by
  unfold rb_V
  split
  · next h =>
    have := rb_h_b hN h hx hy
    omega
  · split
    · next h =>
      have := rb_g_b hN (k := t - 3) (by omega) hx hy
      omega
    · exact rb_o_b hN hx hy
end
section
/-! ===== work ===== -/
section
variable {post : St2 → Prop} {w b : Int32} {a1 a2 a3 a4 a5 a6 a7 a8 a9 a10 a11 a12 : Nat → Int32} {N : Nat → Int} {x y : Int}
theorem rb_w153 (hN : rb_N N) (hA : rb_A N a1) (hx : rb_I x) (hy : rb_I y) (hu : ∀ t, t < 2 → a2 (3 + t) = rb_i (rb_g N t x y))
    (H : post (w, b, a1, upd a2 5 (rb_i (rb_o N x y)), a3, a4, a5, a6, a7, a8, a9, a10, a11, a12)) : ∃ n, wX_work_153 post w b a1 a2 a3 a4 a5 a6 a7 a8 a9 a10 a11 a12 n (a1 19) 0 := by
  refine pk_loop (fun n i s => wX_work_153 post w b a1 a2 a3 a4 a5 a6 a7 a8 a9 a10 a11 a12 n s (nI i)) (fun i s => s = rb_i (rb_op N x y i)) 2 0 (a1 19) (by omega) (hA 19 (by omega)) ?_ ?_
  · intro n s h
    refine pk_le 2 2 (fun _ => nm_e ?_) (fun z => absurd z (by omega))
    rw [h]
    exact H
  · intro n i s hi h hw
    refine pk_le 2 i (fun z => absurd z (by omega)) (fun _ => ⟨pk_in (3 + i) 6 (by omega) (nI_add 3 i), ?_⟩)
    have e3 : (3 : Int32) + nI i = nI (3 + i) := nI_add 3 i
    have e17 : (17 : Int32) + nI i = nI (17 + i) := nI_add 17 i
    rw [pk_cl (3 + i) e3, pk_cl (17 + i) e17]
    have hb := rb_g_b hN hi hx hy
    refine rb_ble (rb_g N i x y) 0 (fun z => ?_) (fun z => ⟨pk_in (17 + i) 20 (by omega) (nI_add 17 i), pk_in (3 + i) 6 (by omega) (nI_add 3 i), ?_⟩) (hu i hi) rfl
    · refine nm_r ?_ (nm_r (nI_1 i) (hw _ rfl))
      rw [rb_add0, h]
      show _ = rb_i (rb_op N x y i + N (17 + i) * rb_r (rb_g N i x y))
      rw [rb_r_le z, Int.mul_zero, Int.add_zero]
    · refine nm_r ?_ (nm_r (nI_1 i) (hw _ rfl))
      rw [h, hu i hi, hA (17 + i) (by omega), rb_mul, rb_add]
      show _ = rb_i (rb_op N x y i + N (17 + i) * rb_r (rb_g N i x y))
      rw [rb_r_gt z]
theorem rb_w73 {J : Int32 → (Nat → Int32) → (Nat → Int32) → (Nat → Int32) → (Nat → Int32) → (Nat → Int32) → (Nat → Int32) → (Nat → Int32) → (Nat → Int32) → (Nat → Int32) → (Nat → Int32) → (Nat → Int32) → (Nat → Int32) → Prop}
    (hN : rb_N N) (hA : rb_A N a1) (hx : rb_I x) (hy : rb_I y) {k : Nat} (hk : k < 2) (hu : ∀ t, t < 3 → a2 t = rb_i (rb_h N t x y))
    (H : J (nI (k + 1)) a1 (upd a2 (3 + k) (rb_i (rb_g N k x y))) a3 a4 a5 a6 a7 a8 a9 a10 a11 a12) : ∃ n, wX_work_73 post J (nI k) w b a1 a2 a3 a4 a5 a6 a7 a8 a9 a10 a11 a12 n (a1 (15 + k)) 0 := by
  have e9 : ∀ i, (9 + (3 * nI k)) + nI i = nI (9 + 3 * k + i) := by
    intro i
    rw [show (3 : Int32) * nI k = nI (3 * k) from pk_mul 3 k, show (9 : Int32) + nI (3 * k) = nI (9 + 3 * k) from nI_add 9 (3 * k), nI_add]
  refine pk_loop (fun n i s => wX_work_73 post J (nI k) w b a1 a2 a3 a4 a5 a6 a7 a8 a9 a10 a11 a12 n s (nI i)) (fun i s => s = rb_i (rb_gp N k x y i)) 3 0 (a1 (15 + k)) (by omega) (hA (15 + k) (by omega)) ?_ ?_
  · intro n s h
    refine pk_le 3 3 (fun _ => ⟨pk_in (3 + k) 6 (by omega) (nI_add 3 k), nm_r ?_ (nm_r (nI_1 k) H)⟩) (fun z => absurd z (by omega))
    rw [pk_cl (3 + k) (show (3 : Int32) + nI k = nI (3 + k) from nI_add 3 k), h]
    rfl
  · intro n i s hi h hw
    refine pk_le 3 i (fun z => absurd z (by omega)) (fun _ => ⟨pk_in i 6 (by omega), ?_⟩)
    rw [pk_cl (9 + 3 * k + i) (e9 i), nI_clamp (show i < 2 ^ 31 by omega)]
    have hb := rb_h_b hN hi hx hy
    refine rb_ble (rb_h N i x y) 0 (fun z => ?_) (fun z => ⟨pk_in (9 + 3 * k + i) 20 (by omega) (e9 i), pk_in i 6 (by omega), ?_⟩) (hu i hi) rfl
    · refine nm_r ?_ (nm_r (nI_1 i) (hw _ rfl))
      rw [rb_add0, h]
      show _ = rb_i (rb_gp N k x y i + N (9 + 3 * k + i) * rb_r (rb_h N i x y))
      rw [rb_r_le z, Int.mul_zero, Int.add_zero]
    · refine nm_r ?_ (nm_r (nI_1 i) (hw _ rfl))
      rw [h, hu i hi, hA (9 + 3 * k + i) (by omega), rb_mul, rb_add]
      show _ = rb_i (rb_gp N k x y i + N (9 + 3 * k + i) * rb_r (rb_h N i x y))
      rw [rb_r_gt z]
theorem rb_w54 (hN : rb_N N) (hA : rb_A N a1) (hx : rb_I x) (hy : rb_I y) (hu : ∀ t, t < 3 → a2 t = rb_i (rb_h N t x y))
    (H : ∀ c2, (∀ t, t < 6 → c2 t = rb_i (rb_V N t x y)) → post (w, b, a1, c2, a3, a4, a5, a6, a7, a8, a9, a10, a11, a12)) : ∃ n, wX_work_54 post w b n 0 a1 a2 a3 a4 a5 a6 a7 a8 a9 a10 a11 a12 := by
  refine pk_loop (fun n i s => wX_work_54 post w b n (nI i) a1 s a3 a4 a5 a6 a7 a8 a9 a10 a11 a12) (fun i s => (∀ t, t < 3 → s t = rb_i (rb_h N t x y)) ∧ ∀ t, t < i → s (3 + t) = rb_i (rb_g N t x y)) 2 0 a2 (by omega) ⟨hu, fun t ht => absurd ht (by omega)⟩ ?_ ?_
  · intro n s h
    refine pk_le 2 2 (fun _ => nm_e (rb_w153 hN hA hx hy h.2 (H _ ?_))) (fun z => absurd z (by omega))
    intro t ht
    by_cases e : t = 5
    · rw [e, pk_us, rb_V5]
    · rw [pk_un e]
      rcases Nat.lt_or_ge t 3 with c | c
      · rw [h.1 t c, rb_V0 c]
      · have e3 := h.2 (t - 3) (by omega)
        have e4 := rb_V3 (N := N) (k := t - 3) (by omega) (x := x) (y := y)
        rw [show 3 + (t - 3) = t by omega] at e3 e4
        rw [e3, e4]
  · intro n i s hi h hw
    refine pk_le 2 i (fun z => absurd z (by omega)) (fun _ => ⟨pk_in (15 + i) 20 (by omega) (nI_add 15 i), nm_r (by rw [pk_cl (15 + i) (show (15 : Int32) + nI i = nI (15 + i) from nI_add 15 i)]) (rb_w73 hN hA hx hy hi h.1 (hw _ ⟨?_, ?_⟩))⟩)
    · intro t ht
      rw [pk_un (by omega)]
      exact h.1 t ht
    · intro t ht
      by_cases e : t = i
      · rw [e, pk_us]
      · rw [pk_un (by omega)]
        exact h.2 t (by omega)
theorem rb_work (hN : rb_N N) (hA : rb_A N a1) (hx : rb_I x) (hy : rb_I y) {p0 p1 : Int32} (e0 : p0 = rb_i x) (e1 : p1 = rb_i y)
    (H : ∀ c2, (∀ t, t < 6 → c2 t = rb_i (rb_V N t x y)) → post (w, b, a1, c2, a3, a4, a5, a6, a7, a8, a9, a10, a11, a12)) : wpX_work post (w, b, a1, a2, a3, a4, a5, a6, a7, a8, a9, a10, a11, a12) p0 p1 := by
  subst e0 e1
  show ∃ n, wX_work_2 post (rb_i x) (rb_i y) w b n 0 a1 a2 a3 a4 a5 a6 a7 a8 a9 a10 a11 a12
  refine pk_loop (fun n i s => wX_work_2 post (rb_i x) (rb_i y) w b n (nI i) a1 s a3 a4 a5 a6 a7 a8 a9 a10 a11 a12) (fun i s => ∀ t, t < i → s t = rb_i (rb_h N t x y)) 3 0 a2 (by omega) (fun t ht => absurd ht (by omega)) ?_ ?_
  · intro n s h
    exact pk_le 3 3 (fun _ => rb_w54 hN hA hx hy h H) (fun z => absurd z (by omega))
  · intro n i s hi h hw
    have e2 : 2 * nI i = nI (2 * i) := pk_mul 2 i
    have e21 : 2 * nI i + 1 = nI (2 * i + 1) := by rw [e2, nI_1]
    have e6 : 6 + nI i = nI (6 + i) := nI_add 6 i
    refine pk_le 3 i (fun z => absurd z (by omega)) (fun _ => ⟨pk_in (2 * i) 20 (by omega) e2, pk_in (2 * i + 1) 20 (by omega) e21, pk_in (6 + i) 20 (by omega) e6, pk_in i 6 (by omega), ?_⟩)
    rw [pk_cl (2 * i + 1) e21, pk_cl (2 * i) e2, pk_cl (6 + i) e6, nI_clamp (show i < 2 ^ 31 by omega)]
    refine nm_r (e' := upd s i (rb_i (rb_h N i x y))) ?_ (nm_r (nI_1 i) (hw _ ?_))
    · rw [hA (2 * i) (by omega), hA (2 * i + 1) (by omega), hA (6 + i) (by omega), rb_mul, rb_mul, rb_add, rb_add]
      rfl
    · intro t ht
      by_cases e : t = i
      · rw [e, pk_us]
      · rw [pk_un e]
        exact h t (by omega)
end
end
section
/-! ===== what range knows of one sum on a box ===== -/
def rb_in (l0 h0 l1 h1 x y : Int) : Prop := l0 ≤ x ∧ x ≤ h0 ∧ l1 ≤ y ∧ y ≤ h1
def rb_bd (m z : Int) : Prop := -m ≤ z ∧ z ≤ m
/-- finished: the sum V lies in [L, H] on the box; where c8 is set it is linear and both ends are met; on a single pair c8 is set -/
def rb_F (m q : Int) (V : Int → Int → Int) (l0 h0 l1 h1 : Int) (c3 c4 c5 c6 c7 c8 : Int32) : Prop :=
  ∃ A B C L H : Int, c5 = rb_i A ∧ c6 = rb_i B ∧ c7 = rb_i C ∧ c3 = rb_i L ∧ c4 = rb_i H ∧ rb_bd m A ∧ rb_bd m B ∧ rb_bd m C ∧ rb_bd q L ∧ rb_bd q H ∧
  (∀ x y, rb_in l0 h0 l1 h1 x y → L ≤ V x y ∧ V x y ≤ H) ∧
  (¬ c8 = 0 → (∀ x y, rb_in l0 h0 l1 h1 x y → V x y = A * x + B * y + C) ∧ (∃ x y, rb_in l0 h0 l1 h1 x y ∧ V x y = H) ∧ (∃ x y, rb_in l0 h0 l1 h1 x y ∧ V x y = L)) ∧
  (l0 = h0 → l1 = h1 → ¬ c8 = 0)
/-- under way: the sum S is a linear part and what mixed units bring, in [L, H] -/
def rb_P (m q : Int) (S : Int → Int → Int) (l0 h0 l1 h1 : Int) (c3 c4 c5 c6 c7 c8 : Int32) : Prop :=
  ∃ A B C L H : Int, c5 = rb_i A ∧ c6 = rb_i B ∧ c7 = rb_i C ∧ c3 = rb_i L ∧ c4 = rb_i H ∧ rb_bd m A ∧ rb_bd m B ∧ rb_bd m C ∧ rb_bd q L ∧ rb_bd q H ∧
  (∀ x y, rb_in l0 h0 l1 h1 x y → L ≤ S x y - (A * x + B * y + C) ∧ S x y - (A * x + B * y + C) ≤ H) ∧
  (¬ c8 = 0 → L = 0 ∧ H = 0) ∧ (l0 = h0 → l1 = h1 → ¬ c8 = 0)
def rb_lo (A B C l0 h0 l1 h1 : Int) : Int := C + (if A ≤ 0 then A * h0 else A * l0) + (if B ≤ 0 then B * h1 else B * l1)
def rb_hi (A B C l0 h0 l1 h1 : Int) : Int := C + (if A ≤ 0 then A * l0 else A * h0) + (if B ≤ 0 then B * l1 else B * h1)
/-- a good box -/
def rb_W (l0 h0 l1 h1 : Int) : Prop := -16 ≤ l0 ∧ l0 ≤ h0 ∧ h0 ≤ 15 ∧ -16 ≤ l1 ∧ l1 ≤ h1 ∧ h1 ≤ 15
theorem rb_one {A l h x : Int} (hl : l ≤ x) (hh : x ≤ h) : (if A ≤ 0 then A * h else A * l) ≤ A * x ∧ A * x ≤ (if A ≤ 0 then A * l else A * h) := by
  by_cases c : A ≤ 0
  · rw [if_pos c, if_pos c]
    exact ⟨rb_anti c hh, rb_anti c hl⟩
  · rw [if_neg c, if_neg c]
    exact ⟨rb_mono (by omega) hl, rb_mono (by omega) hh⟩
theorem rb_pick {A l h : Int} (hlh : l ≤ h) : (∃ x, l ≤ x ∧ x ≤ h ∧ (if A ≤ 0 then A * h else A * l) = A * x) ∧ (∃ x, l ≤ x ∧ x ≤ h ∧ (if A ≤ 0 then A * l else A * h) = A * x) := by
  by_cases c : A ≤ 0
  · rw [if_pos c, if_pos c]
    exact ⟨⟨h, hlh, Int.le_refl h, rfl⟩, ⟨l, Int.le_refl l, hlh, rfl⟩⟩
  · rw [if_neg c, if_neg c]
    exact ⟨⟨l, Int.le_refl l, hlh, rfl⟩, ⟨h, hlh, Int.le_refl h, rfl⟩⟩
theorem rb_oneb {m A x : Int} (hA : rb_bd m A) (hx : -16 ≤ x ∧ x ≤ 15) : -(m * 16) ≤ A * x ∧ A * x ≤ m * 16 := rb_mb hA ⟨by omega, by omega⟩
theorem rb_lohi {A B C l0 h0 l1 h1 x y : Int} (h : rb_in l0 h0 l1 h1 x y) : rb_lo A B C l0 h0 l1 h1 ≤ A * x + B * y + C ∧ A * x + B * y + C ≤ rb_hi A B C l0 h0 l1 h1 := by
  obtain ⟨z1, z2, z3, z4⟩ := h
  have h1 := rb_one (A := A) z1 z2
  have h2 := rb_one (A := B) z3 z4
  unfold rb_lo rb_hi
  omega
theorem rb_lo_at {A B C l0 h0 l1 h1 : Int} (h : rb_W l0 h0 l1 h1) : ∃ x y, rb_in l0 h0 l1 h1 x y ∧ A * x + B * y + C = rb_lo A B C l0 h0 l1 h1 := by
  obtain ⟨_, z1, _, _, z2, _⟩ := h
  obtain ⟨x, x1, x2, x3⟩ := (rb_pick (A := A) z1).1
  obtain ⟨y, y1, y2, y3⟩ := (rb_pick (A := B) z2).1
  refine ⟨x, y, ⟨x1, x2, y1, y2⟩, ?_⟩
  unfold rb_lo
  rw [x3, y3]
  omega
theorem rb_hi_at {A B C l0 h0 l1 h1 : Int} (h : rb_W l0 h0 l1 h1) : ∃ x y, rb_in l0 h0 l1 h1 x y ∧ A * x + B * y + C = rb_hi A B C l0 h0 l1 h1 := by
  obtain ⟨_, z1, _, _, z2, _⟩ := h
  obtain ⟨x, x1, x2, x3⟩ := (rb_pick (A := A) z1).2
  obtain ⟨y, y1, y2, y3⟩ := (rb_pick (A := B) z2).2
  refine ⟨x, y, ⟨x1, x2, y1, y2⟩, ?_⟩
  unfold rb_hi
  rw [x3, y3]
  omega
theorem rb_linb {m A B C x y : Int} (hA : rb_bd m A) (hB : rb_bd m B) (hC : rb_bd m C) (hx : -16 ≤ x ∧ x ≤ 15) (hy : -16 ≤ y ∧ y ≤ 15) : rb_bd (33 * m) (A * x + B * y + C) := by
  have h1 := rb_oneb hA hx
  have h2 := rb_oneb hB hy
  unfold rb_bd at *
  omega
/-- finish: the pure step -/
theorem rb_fin {m q : Int} {S : Int → Int → Int} {l0 h0 l1 h1 A B C L H : Int} {c8 : Int32} (hW : rb_W l0 h0 l1 h1) (hA : rb_bd m A) (hB : rb_bd m B) (hC : rb_bd m C) (hL : rb_bd q L) (hH : rb_bd q H)
    (hS : ∀ x y, rb_in l0 h0 l1 h1 x y → L ≤ S x y - (A * x + B * y + C) ∧ S x y - (A * x + B * y + C) ≤ H) (h8 : ¬ c8 = 0 → L = 0 ∧ H = 0) (hp : l0 = h0 → l1 = h1 → ¬ c8 = 0) :
    rb_F m (q + 33 * m) S l0 h0 l1 h1 (rb_i (rb_lo A B C l0 h0 l1 h1 + L)) (rb_i (rb_hi A B C l0 h0 l1 h1 + H)) (rb_i A) (rb_i B) (rb_i C) c8 := by
  obtain ⟨x, y, xy, e1⟩ := rb_lo_at (A := A) (B := B) (C := C) hW
  obtain ⟨x', y', xy', e2⟩ := rb_hi_at (A := A) (B := B) (C := C) hW
  have b1 := rb_linb (x := x) (y := y) hA hB hC ⟨by unfold rb_in rb_W at *; omega, by unfold rb_in rb_W at *; omega⟩ ⟨by unfold rb_in rb_W at *; omega, by unfold rb_in rb_W at *; omega⟩
  have b2 := rb_linb (x := x') (y := y') hA hB hC ⟨by unfold rb_in rb_W at *; omega, by unfold rb_in rb_W at *; omega⟩ ⟨by unfold rb_in rb_W at *; omega, by unfold rb_in rb_W at *; omega⟩
  rw [e1] at b1
  rw [e2] at b2
  refine ⟨A, B, C, _, _, rfl, rfl, rfl, rfl, rfl, hA, hB, hC, ?_, ?_, ?_, ?_, hp⟩
  · unfold rb_bd at *
    omega
  · unfold rb_bd at *
    omega
  · intro u v huv
    have k1 := hS u v huv
    have k2 := rb_lohi (A := A) (B := B) (C := C) huv
    omega
  · intro hc
    obtain ⟨eL, eH⟩ := h8 hc
    subst eL eH
    have lin : ∀ u v, rb_in l0 h0 l1 h1 u v → S u v = A * u + B * v + C := by
      intro u v huv
      have k1 := hS u v huv
      omega
    refine ⟨lin, ⟨x', y', xy', ?_⟩, ⟨x, y, xy, ?_⟩⟩
    · rw [lin x' y' xy', e2, Int.add_zero]
    · rw [lin x y xy, e1, Int.add_zero]
/-- a unit off, or a factor 0: the sum stays -/
theorem rb_bring0 {m q m' q' : Int} {S V : Int → Int → Int} {f : Int} {l0 h0 l1 h1 : Int} {c3 c4 c5 c6 c7 c8 : Int32} (hm : 0 ≤ m') (hq : 0 ≤ q')
    (hP : rb_P m q S l0 h0 l1 h1 c3 c4 c5 c6 c7 c8) (h0' : ∀ x y, rb_in l0 h0 l1 h1 x y → f * rb_r (V x y) = 0) : rb_P (m + 8 * m') (q + 8 * q') (fun x y => S x y + f * rb_r (V x y)) l0 h0 l1 h1 c3 c4 c5 c6 c7 c8 := by
  obtain ⟨A, B, C, L, H, e5, e6, e7, e3, e4, bA, bB, bC, bL, bH, hS, h8, hp⟩ := hP
  refine ⟨A, B, C, L, H, e5, e6, e7, e3, e4, ?_, ?_, ?_, ?_, ?_, ?_, h8, hp⟩
  iterate 5 (unfold rb_bd at *; omega)
  intro x y hxy
  have k := hS x y hxy
  have k0 := h0' x y hxy
  show _ ≤ S x y + f * rb_r (V x y) - _ ∧ S x y + f * rb_r (V x y) - _ ≤ _
  rw [k0, Int.add_zero]
  exact k
/-- a unit on and linear -/
theorem rb_bring1 {m q m' q' : Int} {S V : Int → Int → Int} {f : Int} {l0 h0 l1 h1 A B C L H A' B' C' : Int} {c8 : Int32} (hq : 0 ≤ q') (hf : rb_bd 8 f) (bA : rb_bd m A) (bB : rb_bd m B) (bC : rb_bd m C) (bL : rb_bd q L) (bH : rb_bd q H)
    (hS : ∀ x y, rb_in l0 h0 l1 h1 x y → L ≤ S x y - (A * x + B * y + C) ∧ S x y - (A * x + B * y + C) ≤ H) (h8 : ¬ c8 = 0 → L = 0 ∧ H = 0) (hp : l0 = h0 → l1 = h1 → ¬ c8 = 0)
    (bA' : rb_bd m' A') (bB' : rb_bd m' B') (bC' : rb_bd m' C') (hV : ∀ x y, rb_in l0 h0 l1 h1 x y → rb_r (V x y) = A' * x + B' * y + C') :
    rb_P (m + 8 * m') (q + 8 * q') (fun x y => S x y + f * rb_r (V x y)) l0 h0 l1 h1 (rb_i L) (rb_i H) (rb_i (A + f * A')) (rb_i (B + f * B')) (rb_i (C + f * C')) c8 := by
  have k1 := rb_mb hf bA'
  have k2 := rb_mb hf bB'
  have k3 := rb_mb hf bC'
  refine ⟨A + f * A', B + f * B', C + f * C', L, H, rfl, rfl, rfl, rfl, rfl, ?_, ?_, ?_, ?_, ?_, ?_, h8, hp⟩
  iterate 5 (unfold rb_bd at *; omega)
  intro x y hxy
  have k := hS x y hxy
  have e : S x y + f * rb_r (V x y) - ((A + f * A') * x + (B + f * B') * y + (C + f * C')) = S x y - (A * x + B * y + C) := by
    rw [hV x y hxy, Int.mul_add, Int.mul_add, Int.add_mul, Int.add_mul, Int.mul_assoc, Int.mul_assoc]
    generalize f * (A' * x) = u1
    generalize f * (B' * y) = u2
    generalize f * C' = u3
    generalize A * x = u4
    generalize B * y = u5
    omega
  show _ ≤ S x y + f * rb_r (V x y) - _ ∧ S x y + f * rb_r (V x y) - _ ≤ _
  rw [e]
  exact k
/-- a mixed unit: its range enters -/
theorem rb_bring2 {m q m' q' : Int} {S V : Int → Int → Int} {f : Int} {l0 h0 l1 h1 A B C L H lo hi : Int} (hm : 0 ≤ m') (hf : rb_bd 8 f) (bA : rb_bd m A) (bB : rb_bd m B) (bC : rb_bd m C) (bL : rb_bd q L) (bH : rb_bd q H)
    (hS : ∀ x y, rb_in l0 h0 l1 h1 x y → L ≤ S x y - (A * x + B * y + C) ∧ S x y - (A * x + B * y + C) ≤ H) (hnp : ¬ (l0 = h0 ∧ l1 = h1))
    (blo : rb_bd q' lo) (bhi : rb_bd q' hi) (hV : ∀ x y, rb_in l0 h0 l1 h1 x y → lo ≤ rb_r (V x y) ∧ rb_r (V x y) ≤ hi) :
    rb_P (m + 8 * m') (q + 8 * q') (fun x y => S x y + f * rb_r (V x y)) l0 h0 l1 h1 (rb_i (L + (if f ≤ 0 then f * hi else f * lo))) (rb_i (H + (if f ≤ 0 then f * lo else f * hi))) (rb_i A) (rb_i B) (rb_i C) 0 := by
  have k1 := rb_mb hf blo
  have k2 := rb_mb hf bhi
  have k3 : rb_bd (8 * q') (if f ≤ 0 then f * hi else f * lo) := by
    split
    · exact k2
    · exact k1
  have k4 : rb_bd (8 * q') (if f ≤ 0 then f * lo else f * hi) := by
    split
    · exact k1
    · exact k2
  refine ⟨A, B, C, _, _, rfl, rfl, rfl, rfl, rfl, ?_, ?_, ?_, ?_, ?_, ?_, fun h => absurd rfl h, fun h h' => absurd ⟨h, h'⟩ hnp⟩
  iterate 5 (unfold rb_bd at *; omega)
  intro x y hxy
  have k := hS x y hxy
  have kv := hV x y hxy
  have ko := rb_one (A := f) kv.1 kv.2
  show _ ≤ S x y + f * rb_r (V x y) - _ ∧ S x y + f * rb_r (V x y) - _ ≤ _
  omega
theorem rb_F_mono {m q m' q' : Int} {V V' : Int → Int → Int} {l0 h0 l1 h1 : Int} {c3 c4 c5 c6 c7 c8 : Int32} (hm : m ≤ m') (hq : q ≤ q') (hV : ∀ x y, V x y = V' x y) (h : rb_F m q V l0 h0 l1 h1 c3 c4 c5 c6 c7 c8) : rb_F m' q' V' l0 h0 l1 h1 c3 c4 c5 c6 c7 c8 := by
  obtain ⟨A, B, C, L, H, e5, e6, e7, e3, e4, bA, bB, bC, bL, bH, hS, h8, hp⟩ := h
  have e : V = V' := funext fun x => funext fun y => hV x y
  subst e
  refine ⟨A, B, C, L, H, e5, e6, e7, e3, e4, ?_, ?_, ?_, ?_, ?_, hS, h8, hp⟩
  iterate 5 (unfold rb_bd at *; omega)
end
section
/-! ===== begin, exact, bring, finish, range ===== -/
section
variable {post : St2 → Prop} {w b : Int32} {a1 a2 a3 a4 a5 a6 a7 a8 a9 a10 a11 a12 : Nat → Int32} {N : Nat → Int} {l0 h0 l1 h1 : Int}
theorem rb_begin {k : Nat} (hk : k < 6) {c : Int32} (H : post (w, b, a1, a2, upd a3 k 0, upd a4 k 0, upd a5 k 0, upd a6 k 0, upd a7 k c, upd a8 k 1, a9, a10, a11, a12)) : wpX_begin post (w, b, a1, a2, a3, a4, a5, a6, a7, a8, a9, a10, a11, a12) (nI k) c := by
  have hi : vp_in (nI k) 6 := pk_in k 6 hk
  unfold wpX_begin
  dsimp only
  rw [nI_clamp (show k < 2 ^ 31 by omega)]
  exact ⟨hi, nm_e ⟨hi, nm_e ⟨hi, nm_e ⟨hi, nm_e ⟨hi, nm_e ⟨hi, nm_e H⟩⟩⟩⟩⟩⟩
theorem rb_x91 {k : Nat} (hk : k < 6) {B z : Int} (hB : rb_bd 100000 B) {z0 z1 : Int32} (hz : z1 + z0 = rb_i z)
    (H : post (w, b, a1, a2, a3, upd a4 k (rb_i (z + (if B ≤ 0 then B * l1 else B * h1))), a5, a6, a7, a8, a9, a10, a11, a12)) : wX_exact_91 post (rb_i l1) (rb_i h1) (rb_i B) z0 z1 (nI k) w b a1 a2 a3 a4 a5 a6 a7 a8 a9 a10 a11 a12 := by
  have hi : vp_in (nI k) 6 := pk_in k 6 hk
  unfold rb_bd at hB
  unfold wX_exact_91
  rw [nI_clamp (show k < 2 ^ 31 by omega)]
  refine rb_ble B 0 (fun c => ⟨hi, nm_r ?_ H⟩) (fun c => ⟨hi, nm_r ?_ H⟩) rfl rfl
  · rw [hz, rb_mul, rb_add, if_pos c]
  · rw [hz, rb_mul, rb_add, if_neg (by omega)]
theorem rb_x62 {k : Nat} (hk : k < 6) {A B C z : Int} (hA : rb_bd 100000 A) (hB : rb_bd 100000 B) (e7 : a7 k = rb_i C) {z0 z1 : Int32} (hz : z1 + z0 = rb_i z)
    (H : post (w, b, a1, a2, upd a3 k (rb_i z), upd a4 k (rb_i (rb_hi A B C l0 h0 l1 h1)), a5, a6, a7, a8, a9, a10, a11, a12)) : wX_exact_62 post (nI k) (rb_i l0) (rb_i h0) (rb_i l1) (rb_i h1) (rb_i A) (rb_i B) z0 z1 (nI k) w b a1 a2 a3 a4 a5 a6 a7 a8 a9 a10 a11 a12 := by
  have hi : vp_in (nI k) 6 := pk_in k 6 hk
  have hA' := hA
  unfold rb_bd at hA'
  unfold wX_exact_62
  rw [nI_clamp (show k < 2 ^ 31 by omega), e7, hz]
  unfold rb_hi at H
  refine ⟨hi, nm_e ⟨hi, rb_ble A 0 (fun c => ?_) (fun c => ?_) rfl rfl⟩⟩
  · rw [if_pos c] at H
    exact rb_x91 hk hB (by rw [rb_mul, rb_add]) H
  · rw [if_neg (show ¬ A ≤ 0 by omega)] at H
    exact rb_x91 hk hB (by rw [rb_mul, rb_add]) H
theorem rb_x43 {k : Nat} (hk : k < 6) {A B C z : Int} (hA : rb_bd 100000 A) (hB : rb_bd 100000 B) (e7 : a7 k = rb_i C) {z0 z1 : Int32} (hz : z1 + z0 = rb_i z)
    (H : post (w, b, a1, a2, upd a3 k (rb_i (z + (if B ≤ 0 then B * h1 else B * l1))), upd a4 k (rb_i (rb_hi A B C l0 h0 l1 h1)), a5, a6, a7, a8, a9, a10, a11, a12)) : wX_exact_43 post (nI k) (rb_i l0) (rb_i h0) (rb_i l1) (rb_i h1) (rb_i A) (rb_i B) z0 z1 (nI k) w b a1 a2 a3 a4 a5 a6 a7 a8 a9 a10 a11 a12 := by
  have hB' := hB
  unfold rb_bd at hB'
  refine rb_ble B 0 (fun c => ?_) (fun c => ?_) rfl rfl
  · rw [if_pos c] at H
    exact rb_x62 hk hA hB e7 (by rw [hz, rb_mul, rb_add]) H
  · rw [if_neg (show ¬ B ≤ 0 by omega)] at H
    exact rb_x62 hk hA hB e7 (by rw [hz, rb_mul, rb_add]) H
theorem rb_exact {k : Nat} (hk : k < 6) {A B C : Int} (hA : rb_bd 100000 A) (hB : rb_bd 100000 B) (e5 : a5 k = rb_i A) (e6 : a6 k = rb_i B) (e7 : a7 k = rb_i C)
    (H : post (w, b, a1, a2, upd a3 k (rb_i (rb_lo A B C l0 h0 l1 h1)), upd a4 k (rb_i (rb_hi A B C l0 h0 l1 h1)), a5, a6, a7, a8, a9, a10, a11, a12)) : wpX_exact post (w, b, a1, a2, a3, a4, a5, a6, a7, a8, a9, a10, a11, a12) (nI k) (rb_i l0) (rb_i h0) (rb_i l1) (rb_i h1) := by
  have hi : vp_in (nI k) 6 := pk_in k 6 hk
  have hA' := hA
  unfold rb_bd at hA'
  unfold wpX_exact
  dsimp only
  rw [nI_clamp (show k < 2 ^ 31 by omega), e5, e6, e7]
  unfold rb_lo at H
  refine ⟨hi, nm_e ⟨hi, nm_e ⟨hi, rb_ble A 0 (fun c => ?_) (fun c => ?_) rfl rfl⟩⟩⟩
  · rw [if_pos c] at H
    exact rb_x43 hk hA hB e7 (by rw [rb_mul, rb_add]) H
  · rw [if_neg (show ¬ A ≤ 0 by omega)] at H
    exact rb_x43 hk hA hB e7 (by rw [rb_mul, rb_add]) H
/-- the six arrays at one index -/
theorem rb_finish {m q : Int} {S : Int → Int → Int} {k : Nat} (hk : k < 6) (hm : m ≤ 100000) (hW : rb_W l0 h0 l1 h1) (hP : rb_P m q S l0 h0 l1 h1 (a3 k) (a4 k) (a5 k) (a6 k) (a7 k) (a8 k))
    (H : ∀ c3 c4, rb_F m (q + 33 * m) S l0 h0 l1 h1 c3 c4 (a5 k) (a6 k) (a7 k) (a8 k) → post (w, b, a1, a2, upd a3 k c3, upd a4 k c4, a5, a6, a7, a8, a9, a10, a11, a12)) : wpX_finish post (w, b, a1, a2, a3, a4, a5, a6, a7, a8, a9, a10, a11, a12) (nI k) (rb_i l0) (rb_i h0) (rb_i l1) (rb_i h1) := by
  have hi : vp_in (nI k) 6 := pk_in k 6 hk
  obtain ⟨A, B, C, L, M, e5, e6, e7, e3, e4, bA, bB, bC, bL, bM, hS, h8, hp⟩ := hP
  have hF := rb_fin hW bA bB bC bL bM hS h8 hp
  rw [← e5, ← e6, ← e7] at hF
  have H' := H _ _ hF
  unfold wpX_finish
  dsimp only
  rw [nI_clamp (show k < 2 ^ 31 by omega), e3, e4]
  refine ⟨hi, nm_e ⟨hi, nm_e (rb_exact hk (by unfold rb_bd at *; omega) (by unfold rb_bd at *; omega) e5 e6 e7 ?_)⟩⟩
  dsimp only
  refine ⟨hi, hi, nm_r ?_ ⟨hi, hi, nm_r ?_ H'⟩⟩
  · rw [pk_us, rb_add]
    exact rb_uu _ _ _ _
  · rw [pk_us, rb_add]
    exact rb_uu _ _ _ _
theorem rb_b159 {k : Nat} (hk : k < 6) {z0 z1 : Int32} (H : post (w, b, a1, a2, a3, upd a4 k (z1 + z0), a5, a6, a7, upd a8 k 0, a9, a10, a11, a12)) : wX_bring_159 post (nI k) z0 z1 (nI k) w b a1 a2 a3 a4 a5 a6 a7 a8 a9 a10 a11 a12 := by
  have hi : vp_in (nI k) 6 := pk_in k 6 hk
  unfold wX_bring_159
  rw [nI_clamp (show k < 2 ^ 31 by omega)]
  exact ⟨hi, nm_e ⟨hi, nm_e H⟩⟩
theorem rb_b135 {k : Nat} (hk : k < 6) {f lo hi H0 : Int} (hf : rb_bd 8 f) (e4 : a4 k = rb_i H0) {z0 z1 : Int32} (H : post (w, b, a1, a2, upd a3 k (z1 + z0), upd a4 k (rb_i (H0 + (if f ≤ 0 then f * lo else f * hi))), a5, a6, a7, upd a8 k 0, a9, a10, a11, a12)) :
    wX_bring_135 post (nI k) (rb_i f) (rb_i lo) (rb_i hi) z0 z1 (nI k) w b a1 a2 a3 a4 a5 a6 a7 a8 a9 a10 a11 a12 := by
  have hi' : vp_in (nI k) 6 := pk_in k 6 hk
  unfold rb_bd at hf
  unfold wX_bring_135
  rw [nI_clamp (show k < 2 ^ 31 by omega), e4]
  refine ⟨hi', nm_e ⟨hi', rb_ble f 0 (fun c => rb_b159 hk ?_) (fun c => rb_b159 hk ?_) rfl rfl⟩⟩
  · rw [if_pos c] at H
    rw [rb_mul, rb_add]
    exact H
  · rw [if_neg (show ¬ f ≤ 0 by omega)] at H
    rw [rb_mul, rb_add]
    exact H
theorem rb_b103 {k i : Nat} (hk : k < 6) (hi : i < 6) {f lo hi' L0 H0 : Int} (hf : rb_bd 8 f) (e3 : a3 k = rb_i L0) (e4 : a4 k = rb_i H0) (e4' : a4 i = rb_i hi')
    (H : post (w, b, a1, a2, upd a3 k (rb_i (L0 + (if f ≤ 0 then f * hi' else f * lo))), upd a4 k (rb_i (H0 + (if f ≤ 0 then f * lo else f * hi'))), a5, a6, a7, upd a8 k 0, a9, a10, a11, a12)) :
    wX_bring_103 post (nI k) (nI i) (rb_i f) (rb_i lo) w b a1 a2 a3 a4 a5 a6 a7 a8 a9 a10 a11 a12 := by
  have hik : vp_in (nI k) 6 := pk_in k 6 hk
  have hii : vp_in (nI i) 6 := pk_in i 6 hi
  have hf' := hf
  unfold rb_bd at hf'
  unfold wX_bring_103
  rw [nI_clamp (show k < 2 ^ 31 by omega), nI_clamp (show i < 2 ^ 31 by omega), e4', e3]
  refine ⟨hii, nm_e ⟨hik, rb_ble f 0 (fun c => rb_b135 hk hf e4 ?_) (fun c => rb_b135 hk hf e4 ?_) rfl rfl⟩⟩
  · rw [if_pos c, if_pos c] at H
    rw [rb_mul, rb_add, if_pos c]
    exact H
  · rw [if_neg (show ¬ f ≤ 0 by omega), if_neg (show ¬ f ≤ 0 by omega)] at H
    rw [rb_mul, rb_add, if_neg (show ¬ f ≤ 0 by omega)]
    exact H
theorem rb_b84 {k i : Nat} (hk : k < 6) (hi : i < 6) {f L0 H0 L' H' : Int} (hf : rb_bd 8 f) (hL' : rb_bd 100000000 L') (e3 : a3 k = rb_i L0) (e4 : a4 k = rb_i H0) (e3' : a3 i = rb_i L') (e4' : a4 i = rb_i H')
    (H : post (w, b, a1, a2, upd a3 k (rb_i (L0 + (if f ≤ 0 then f * H' else f * rb_r L'))), upd a4 k (rb_i (H0 + (if f ≤ 0 then f * rb_r L' else f * H'))), a5, a6, a7, upd a8 k 0, a9, a10, a11, a12)) :
    wX_bring_84 post (nI k) (nI i) (rb_i f) w b a1 a2 a3 a4 a5 a6 a7 a8 a9 a10 a11 a12 := by
  have hii : vp_in (nI i) 6 := pk_in i 6 hi
  unfold rb_bd at hL'
  unfold wX_bring_84
  rw [nI_clamp (show i < 2 ^ 31 by omega), e3']
  refine ⟨hii, rb_ble L' 0 (fun c => ?_) (fun c => ⟨hii, ?_⟩) rfl rfl⟩
  · rw [rb_r_le c] at H
    show wX_bring_103 post (nI k) (nI i) (rb_i f) (rb_i 0) w b a1 a2 a3 a4 a5 a6 a7 a8 a9 a10 a11 a12
    exact rb_b103 (lo := 0) hk hi hf e3 e4 e4' H
  · rw [rb_r_gt c] at H
    exact rb_b103 (lo := L') hk hi hf e3 e4 e4' H
theorem rb_bring {m q m' q' : Int} {S V : Int → Int → Int} {k i : Nat} (hk : k < 6) (hi : i < 6) {f : Int} (hf : rb_bd 8 f) (hm : 0 ≤ m') (hq : 0 ≤ q') (hq' : q' ≤ 100000000) (hW : rb_W l0 h0 l1 h1)
    (hP : rb_P m q S l0 h0 l1 h1 (a3 k) (a4 k) (a5 k) (a6 k) (a7 k) (a8 k)) (hF : rb_F m' q' V l0 h0 l1 h1 (a3 i) (a4 i) (a5 i) (a6 i) (a7 i) (a8 i))
    (H : ∀ c3 c4 c5 c6 c7 c8, rb_P (m + 8 * m') (q + 8 * q') (fun x y => S x y + f * rb_r (V x y)) l0 h0 l1 h1 c3 c4 c5 c6 c7 c8 → post (w, b, a1, a2, upd a3 k c3, upd a4 k c4, upd a5 k c5, upd a6 k c6, upd a7 k c7, upd a8 k c8, a9, a10, a11, a12)) :
    wpX_bring post (w, b, a1, a2, a3, a4, a5, a6, a7, a8, a9, a10, a11, a12) (nI k) (nI i) (rb_i f) := by
  have hik : vp_in (nI k) 6 := pk_in k 6 hk
  have hii : vp_in (nI i) 6 := pk_in i 6 hi
  have same : (∀ x y, rb_in l0 h0 l1 h1 x y → f * rb_r (V x y) = 0) → post (w, b, a1, a2, a3, a4, a5, a6, a7, a8, a9, a10, a11, a12) := by
    intro h0'
    have h := H _ _ _ _ _ _ (rb_bring0 hm hq hP h0')
    rw [rb_upd_self, rb_upd_self, rb_upd_self, rb_upd_self, rb_upd_self, rb_upd_self] at h
    exact h
  obtain ⟨A, B, C, L, M, e5, e6, e7, e3, e4, bA, bB, bC, bL, bM, hS, h8, hp⟩ := hP
  obtain ⟨A', B', C', L', M', e5', e6', e7', e3', e4', bA', bB', bC', bL', bM', hV, h8', hp'⟩ := hF
  have mixed : (a8 i = 0 ∨ L' < 0) → 0 < M' → wX_bring_84 post (nI k) (nI i) (rb_i f) w b a1 a2 a3 a4 a5 a6 a7 a8 a9 a10 a11 a12 := by
    intro hmix hM
    refine rb_b84 hk hi hf (by unfold rb_bd at *; omega) e3 e4 e3' e4' ?_
    have hnp : ¬ (l0 = h0 ∧ l1 = h1) := by
      intro hpt
      have n8 := hp' hpt.1 hpt.2
      obtain ⟨_, ⟨x, y, xy, ex⟩, ⟨x', y', xy', ex'⟩⟩ := h8' n8
      have ee : x = x' ∧ y = y' := by unfold rb_in at *; omega
      rw [ee.1, ee.2, ex'] at ex
      rcases hmix with z | z
      · exact n8 z
      · omega
    have h := H _ _ _ _ _ _ (rb_bring2 (m' := m') (q' := q') hm hf bA bB bC bL bM hS hnp (rb_r_b bL') bM' (fun x y hxy => ?_))
    · rw [← e5, ← e6, ← e7, rb_upd_self, rb_upd_self, rb_upd_self] at h
      exact h
    · have k1 := hV x y hxy
      rcases Int.lt_or_le 0 (V x y) with c | c
      · rw [rb_r_gt c]
        refine ⟨?_, k1.2⟩
        rcases Int.lt_or_le 0 L' with d | d
        · rw [rb_r_gt d]; exact k1.1
        · rw [rb_r_le d]; omega
      · rw [rb_r_le c, rb_r_le (by omega)]
        omega
  unfold wpX_bring
  dsimp only
  rw [nI_clamp (show k < 2 ^ 31 by omega), nI_clamp (show i < 2 ^ 31 by omega)]
  have hf' := hf
  unfold rb_bd at hf'
  refine rb_beq f 0 (fun c => same (fun x y _ => by rw [c, Int.zero_mul])) (fun c => ⟨hii, ?_⟩) rfl rfl
  have bM2 := bM'
  have bL2 := bL'
  unfold rb_bd at bM2 bL2
  refine rb_blt 0 M' (fun d => ⟨hii, ?_⟩) (fun d => same (fun x y hxy => ?_)) rfl e4'
  · refine br_c (fun e => mixed (Or.inl e) d) (fun e => ⟨hii, ?_⟩)
    refine rb_blt L' 0 (fun g => mixed (Or.inr g) d) (fun g => ?_) e3' rfl
    have h := H _ _ _ _ _ _ (rb_bring1 (m' := m') (q' := q') (V := V) hq hf bA bB bC bL bM hS h8 hp bA' bB' bC' (fun x y hxy => ?_))
    · rw [← e3, ← e4, rb_upd_self, rb_upd_self, rb_upd_self] at h
      refine ⟨hik, hii, hik, nm_r ?_ ⟨hik, hii, hik, nm_r ?_ ⟨hik, hii, hik, nm_r ?_ h⟩⟩⟩
      · rw [e5, e5', rb_mul, rb_add]
      · rw [e6, e6', rb_mul, rb_add]
      · rw [e7, e7', rb_mul, rb_add]
    · have k1 := hV x y hxy
      rw [← (h8' e).1 x y hxy]
      rcases Int.lt_or_le 0 (V x y) with c' | c'
      · rw [rb_r_gt c']
      · rw [rb_r_le c']; omega
  · have k1 := hV x y hxy
    rw [rb_r_le (by omega), Int.mul_zero]
end
end
section
/-! ===== range ===== -/
theorem rb_P_mono {m q m' q' : Int} {V V' : Int → Int → Int} {l0 h0 l1 h1 : Int} {c3 c4 c5 c6 c7 c8 : Int32} (hm : m ≤ m') (hq : q ≤ q') (hV : ∀ x y, V x y = V' x y) (h : rb_P m q V l0 h0 l1 h1 c3 c4 c5 c6 c7 c8) : rb_P m' q' V' l0 h0 l1 h1 c3 c4 c5 c6 c7 c8 := by
  obtain ⟨A, B, C, L, H, e5, e6, e7, e3, e4, bA, bB, bC, bL, bH, hS, h8, hp⟩ := h
  have e : V = V' := funext fun x => funext fun y => hV x y
  subst e
  refine ⟨A, B, C, L, H, e5, e6, e7, e3, e4, ?_, ?_, ?_, ?_, ?_, hS, h8, hp⟩
  iterate 5 (unfold rb_bd at *; omega)
section
variable {a3 a4 a5 a6 a7 a8 : Nat → Int32} {l0 h0 l1 h1 m q : Int} {S : Int → Int → Int} {k t : Nat} {c3 c4 c5 c6 c7 c8 : Int32}
theorem rb_F_un (e : t ≠ k) (h : rb_F m q S l0 h0 l1 h1 (a3 t) (a4 t) (a5 t) (a6 t) (a7 t) (a8 t)) :
    rb_F m q S l0 h0 l1 h1 (upd a3 k c3 t) (upd a4 k c4 t) (upd a5 k c5 t) (upd a6 k c6 t) (upd a7 k c7 t) (upd a8 k c8 t) := by
  rw [pk_un e, pk_un e, pk_un e, pk_un e, pk_un e, pk_un e]
  exact h
theorem rb_F_un2 (e : t ≠ k) (h : rb_F m q S l0 h0 l1 h1 (a3 t) (a4 t) (a5 t) (a6 t) (a7 t) (a8 t)) :
    rb_F m q S l0 h0 l1 h1 (upd a3 k c3 t) (upd a4 k c4 t) (a5 t) (a6 t) (a7 t) (a8 t) := by
  rw [pk_un e, pk_un e]
  exact h
theorem rb_F_us2 (h : rb_F m q S l0 h0 l1 h1 c3 c4 (a5 k) (a6 k) (a7 k) (a8 k)) :
    rb_F m q S l0 h0 l1 h1 (upd a3 k c3 k) (upd a4 k c4 k) (a5 k) (a6 k) (a7 k) (a8 k) := by
  rw [pk_us, pk_us]
  exact h
theorem rb_P_us (h : rb_P m q S l0 h0 l1 h1 c3 c4 c5 c6 c7 c8) :
    rb_P m q S l0 h0 l1 h1 (upd a3 k c3 k) (upd a4 k c4 k) (upd a5 k c5 k) (upd a6 k c6 k) (upd a7 k c7 k) (upd a8 k c8 k) := by
  rw [pk_us, pk_us, pk_us, pk_us, pk_us, pk_us]
  exact h
end
/-- what begin leaves -/
theorem rb_P0 {l0 h0 l1 h1 C : Int} {S : Int → Int → Int} (hC : rb_bd 8 C) (hS : ∀ x y, S x y = C) : rb_P 8 0 S l0 h0 l1 h1 0 0 0 0 (rb_i C) 1 := by
  refine ⟨0, 0, C, 0, 0, rfl, rfl, rfl, rfl, rfl, ?_, ?_, hC, ?_, ?_, ?_, fun _ => ⟨rfl, rfl⟩, fun _ _ => by decide⟩
  iterate 4 (unfold rb_bd; omega)
  intro x y _
  rw [hS x y]
  omega
section
variable {post : St2 → Prop} {w b : Int32} {a1 a2 a3 a4 a5 a6 a7 a8 a9 a10 a11 a12 : Nat → Int32} {N : Nat → Int} {l0 h0 l1 h1 : Int}
theorem rb_r182 (hN : rb_N N) (hA : rb_A N a1) (hW : rb_W l0 h0 l1 h1)
    (H : ∀ c3 c4 c5 c6 c7 c8 : Nat → Int32, (∀ t, t < 6 → rb_F 10000 1000000 (rb_V N t) l0 h0 l1 h1 (c3 t) (c4 t) (c5 t) (c6 t) (c7 t) (c8 t)) → post (w, b, a1, a2, c3, c4, c5, c6, c7, c8, a9, a10, a11, a12))
    (n : Nat) : ∀ (j : Nat) (a3 a4 a5 a6 a7 a8 : Nat → Int32), j ≤ 2 → 2 - j < n → (∀ t, t < 5 → rb_F 200 12936 (rb_V N t) l0 h0 l1 h1 (a3 t) (a4 t) (a5 t) (a6 t) (a7 t) (a8 t)) →
    rb_P (8 + 1600 * (j : Int)) (103488 * (j : Int)) (fun x y => rb_op N x y j) l0 h0 l1 h1 (a3 5) (a4 5) (a5 5) (a6 5) (a7 5) (a8 5) →
    wX_range_182 post (rb_i l0) (rb_i h0) (rb_i l1) (rb_i h1) n (nI (3 + j)) w b a1 a2 a3 a4 a5 a6 a7 a8 a9 a10 a11 a12 := by
  induction n with
  | zero => intro j _ _ _ _ _ _ _ h; omega
  | succ n ih =>
    intro j a3 a4 a5 a6 a7 a8 hj hn hF hP
    refine pk_le 5 (3 + j) (fun z => ?_) (fun z => ?_)
    · have ej : j = 2 := by omega
      subst ej
      refine rb_finish (k := 5) (by omega) (by omega) hW hP (fun c3 c4 hF5 => ?_)
      refine H _ _ _ _ _ _ (fun t ht => ?_)
      by_cases e : t = 5
      · subst e
        exact rb_F_mono (by omega) (by omega) (fun _ _ => rfl) (rb_F_us2 hF5)
      · exact rb_F_mono (by omega) (by omega) (fun _ _ => rfl) (rb_F_un2 e (hF t (by omega)))
    · have e14 : (14 : Int32) + nI (3 + j) = nI (17 + j) := by
        rw [show (14 : Int32) = nI 14 from rfl, nI_add]
        exact congrArg nI (by omega)
      refine ⟨pk_in (17 + j) 20 (by omega) e14, ?_⟩
      rw [pk_cl (17 + j) e14, hA (17 + j) (by omega)]
      refine rb_bring (k := 5) (i := 3 + j) (by omega) (by omega) (hN (17 + j) (by omega)) (by omega) (by omega) (by omega) hW hP (hF (3 + j) (by omega)) (fun c3 c4 c5 c6 c7 c8 hP' => nm_r (nI_1 (3 + j)) ?_)
      refine ih (j + 1) _ _ _ _ _ _ (by omega) (by omega) (fun t ht => rb_F_un (by omega) (hF t ht)) (rb_P_us (rb_P_mono (by omega) (by omega) (fun x y => ?_) hP'))
      show rb_op N x y j + N (17 + j) * rb_r (rb_V N (3 + j) x y) = rb_op N x y j + N (17 + j) * rb_r (rb_g N j x y)
      rw [rb_V3 (by omega)]
theorem rb_r113 {J : Int32 → Int32 → Int32 → (Nat → Int32) → (Nat → Int32) → (Nat → Int32) → (Nat → Int32) → (Nat → Int32) → (Nat → Int32) → (Nat → Int32) → (Nat → Int32) → (Nat → Int32) → (Nat → Int32) → (Nat → Int32) → (Nat → Int32) → Prop}
    (hN : rb_N N) (hA : rb_A N a1) (hW : rb_W l0 h0 l1 h1) {k : Nat} (hk : k < 2)
    (H : ∀ c3 c4 c5 c6 c7 c8 : Nat → Int32, (∀ t, t < 3 + (k + 1) → rb_F 200 12936 (rb_V N t) l0 h0 l1 h1 (c3 t) (c4 t) (c5 t) (c6 t) (c7 t) (c8 t)) → (∀ t, t < 3 → rb_F 8 264 (rb_V N t) l0 h0 l1 h1 (c3 t) (c4 t) (c5 t) (c6 t) (c7 t) (c8 t)) → J (nI (3 + (k + 1))) w b a1 a2 c3 c4 c5 c6 c7 c8 a9 a10 a11 a12)
    (n : Nat) : ∀ (i : Nat) (a3 a4 a5 a6 a7 a8 : Nat → Int32), i ≤ 3 → 3 - i < n → (∀ t, t < 3 + k → rb_F 200 12936 (rb_V N t) l0 h0 l1 h1 (a3 t) (a4 t) (a5 t) (a6 t) (a7 t) (a8 t)) → (∀ t, t < 3 → rb_F 8 264 (rb_V N t) l0 h0 l1 h1 (a3 t) (a4 t) (a5 t) (a6 t) (a7 t) (a8 t)) →
    rb_P (8 + 64 * (i : Int)) (2112 * (i : Int)) (fun x y => rb_gp N k x y i) l0 h0 l1 h1 (a3 (3 + k)) (a4 (3 + k)) (a5 (3 + k)) (a6 (3 + k)) (a7 (3 + k)) (a8 (3 + k)) →
    wX_range_113 post J (rb_i l0) (rb_i h0) (rb_i l1) (rb_i h1) (nI (3 + k)) n (nI i) w b a1 a2 a3 a4 a5 a6 a7 a8 a9 a10 a11 a12 := by
  induction n with
  | zero => intro i _ _ _ _ _ _ _ h; omega
  | succ n ih =>
    intro i a3 a4 a5 a6 a7 a8 hi hn hF hF0 hP
    refine pk_le 3 i (fun z => ?_) (fun z => ?_)
    · have ei : i = 3 := by omega
      subst ei
      refine rb_finish (k := 3 + k) (by omega) (by omega) hW hP (fun c3 c4 hF5 => nm_r (nI_1 (3 + k)) (H _ _ _ _ _ _ (fun t ht => ?_) (fun t ht => rb_F_un2 (by omega) (hF0 t ht))))
      by_cases e : t = 3 + k
      · subst e
        refine rb_F_mono (by omega) (by omega) (fun x y => ?_) (rb_F_us2 hF5)
        rw [rb_V3 hk]
        rfl
      · exact rb_F_un2 e (hF t (by omega))
    · have e9 : (9 + (3 * (nI (3 + k) - 3))) + nI i = nI (9 + 3 * k + i) := by
        rw [show nI (3 + k) - 3 = nI k from (pk_sub (a := 3 + k) (b := 3) (by omega)).trans (congrArg nI (by omega)), show (3 : Int32) * nI k = nI (3 * k) from pk_mul 3 k, show (9 : Int32) + nI (3 * k) = nI (9 + 3 * k) from nI_add 9 (3 * k), nI_add]
      refine ⟨pk_in (9 + 3 * k + i) 20 (by omega) e9, ?_⟩
      rw [pk_cl (9 + 3 * k + i) e9, hA (9 + 3 * k + i) (by omega)]
      refine rb_bring (k := 3 + k) (i := i) (by omega) (by omega) (hN (9 + 3 * k + i) (by omega)) (by omega) (by omega) (by omega) hW hP (hF0 i (by omega)) (fun c3 c4 c5 c6 c7 c8 hP' => nm_r (nI_1 i) ?_)
      refine ih (i + 1) _ _ _ _ _ _ (by omega) (by omega) (fun t ht => rb_F_un (by omega) (hF t ht)) (fun t ht => rb_F_un (by omega) (hF0 t ht)) (rb_P_us (rb_P_mono (by omega) (by omega) (fun x y => ?_) hP'))
      show rb_gp N k x y i + N (9 + 3 * k + i) * rb_r (rb_V N i x y) = rb_gp N k x y i + N (9 + 3 * k + i) * rb_r (rb_h N i x y)
      rw [rb_V0 (by omega)]
theorem rb_r88 (hN : rb_N N) (hA : rb_A N a1) (hW : rb_W l0 h0 l1 h1)
    (H : ∀ c3 c4 c5 c6 c7 c8 : Nat → Int32, (∀ t, t < 6 → rb_F 10000 1000000 (rb_V N t) l0 h0 l1 h1 (c3 t) (c4 t) (c5 t) (c6 t) (c7 t) (c8 t)) → post (w, b, a1, a2, c3, c4, c5, c6, c7, c8, a9, a10, a11, a12))
    (n : Nat) : ∀ (k : Nat) (a3 a4 a5 a6 a7 a8 : Nat → Int32), k ≤ 2 → 2 - k < n → (∀ t, t < 3 + k → rb_F 200 12936 (rb_V N t) l0 h0 l1 h1 (a3 t) (a4 t) (a5 t) (a6 t) (a7 t) (a8 t)) → (∀ t, t < 3 → rb_F 8 264 (rb_V N t) l0 h0 l1 h1 (a3 t) (a4 t) (a5 t) (a6 t) (a7 t) (a8 t)) →
    wX_range_88 post (rb_i l0) (rb_i h0) (rb_i l1) (rb_i h1) n (nI (3 + k)) w b a1 a2 a3 a4 a5 a6 a7 a8 a9 a10 a11 a12 := by
  induction n with
  | zero => intro k _ _ _ _ _ _ _ h; omega
  | succ n ih =>
    intro k a3 a4 a5 a6 a7 a8 hk hn hF hF0
    refine pk_le 5 (3 + k) (fun z => ?_) (fun z => ?_)
    · have ek : k = 2 := by omega
      subst ek
      rw [hA 19 (by omega)]
      refine rb_begin (k := 5) (by omega) ⟨3, ?_⟩
      refine rb_r182 hN hA hW H 3 0 _ _ _ _ _ _ (by omega) (by omega) (fun t ht => rb_F_un (by omega) (hF t (by omega))) (rb_P_us (rb_P_mono (by omega) (by omega) (fun _ _ => rfl) (rb_P0 (S := fun x y => rb_op N x y 0) (hN 19 (by omega)) (fun _ _ => rfl))))
    · have e12 : (12 : Int32) + nI (3 + k) = nI (15 + k) := by
        rw [show (12 : Int32) = nI 12 from rfl, nI_add]
        exact congrArg nI (by omega)
      refine ⟨pk_in (15 + k) 20 (by omega) e12, ?_⟩
      rw [pk_cl (15 + k) e12, hA (15 + k) (by omega)]
      refine rb_begin (k := 3 + k) (by omega) ⟨4, ?_⟩
      refine rb_r113 hN hA hW (k := k) (by omega) (fun c3 c4 c5 c6 c7 c8 g1 g2 => ih (k + 1) _ _ _ _ _ _ (by omega) (by omega) g1 g2) 4 0 _ _ _ _ _ _ (by omega) (by omega) (fun t ht => rb_F_un (by omega) (hF t ht)) (fun t ht => rb_F_un (by omega) (hF0 t ht)) (rb_P_us (rb_P_mono (by omega) (by omega) (fun _ _ => rfl) (rb_P0 (S := fun x y => rb_gp N k x y 0) (hN (15 + k) (by omega)) (fun _ _ => rfl))))
theorem rb_r3 (hN : rb_N N) (hA : rb_A N a1) (hW : rb_W l0 h0 l1 h1)
    (H : ∀ c3 c4 c5 c6 c7 c8 : Nat → Int32, (∀ t, t < 6 → rb_F 10000 1000000 (rb_V N t) l0 h0 l1 h1 (c3 t) (c4 t) (c5 t) (c6 t) (c7 t) (c8 t)) → post (w, b, a1, a2, c3, c4, c5, c6, c7, c8, a9, a10, a11, a12))
    (n : Nat) : ∀ (i : Nat) (a3 a4 a5 a6 a7 a8 : Nat → Int32), i ≤ 3 → 3 - i < n → (∀ t, t < i → rb_F 8 264 (rb_V N t) l0 h0 l1 h1 (a3 t) (a4 t) (a5 t) (a6 t) (a7 t) (a8 t)) →
    wX_range_3 post (rb_i l0) (rb_i h0) (rb_i l1) (rb_i h1) n (nI i) w b a1 a2 a3 a4 a5 a6 a7 a8 a9 a10 a11 a12 := by
  induction n with
  | zero => intro i _ _ _ _ _ _ _ h; omega
  | succ n ih =>
    intro i a3 a4 a5 a6 a7 a8 hi hn hF
    refine pk_le 3 i (fun z => ⟨3, ?_⟩) (fun z => ?_)
    · have ei : i = 3 := by omega
      subst ei
      exact rb_r88 hN hA hW H 3 0 _ _ _ _ _ _ (by omega) (by omega) (fun t ht => rb_F_mono (by omega) (by omega) (fun _ _ => rfl) (hF t ht)) hF
    · have e2 : 2 * nI i = nI (2 * i) := pk_mul 2 i
      have e21 : 2 * nI i + 1 = nI (2 * i + 1) := by rw [e2, nI_1]
      have e6 : 6 + nI i = nI (6 + i) := nI_add 6 i
      have hii : vp_in (nI i) 6 := pk_in i 6 (by omega)
      rw [pk_cl (2 * i + 1) e21, pk_cl (2 * i) e2, pk_cl (6 + i) e6, nI_clamp (show i < 2 ^ 31 by omega), hA (2 * i) (by omega), hA (2 * i + 1) (by omega), hA (6 + i) (by omega)]
      refine ⟨pk_in (2 * i) 20 (by omega) e2, hii, nm_e ⟨pk_in (2 * i + 1) 20 (by omega) e21, hii, nm_e ⟨pk_in (6 + i) 20 (by omega) e6, hii, nm_e ⟨hii, nm_e ?_⟩⟩⟩⟩
      have b0 := hN (2 * i) (by omega)
      have b1 := hN (2 * i + 1) (by omega)
      have b2 := hN (6 + i) (by omega)
      refine rb_exact (k := i) (by omega) (A := N (2 * i)) (B := N (2 * i + 1)) (C := N (6 + i)) (by unfold rb_bd; omega) (by unfold rb_bd; omega) pk_us pk_us pk_us (nm_r (nI_1 i) (ih (i + 1) _ _ _ _ _ _ (by omega) (by omega) (fun t ht => ?_)))
      by_cases e : t = i
      · subst e
        rw [pk_us, pk_us, pk_us, pk_us, pk_us, pk_us]
        have hf := rb_fin (m := 8) (q := 0) (S := rb_V N t) (L := 0) (H := 0) (c8 := 1) hW b0 b1 b2 (by unfold rb_bd; omega) (by unfold rb_bd; omega) (fun x y _ => ?_) (fun _ => ⟨rfl, rfl⟩) (fun _ _ => by decide)
        · rw [Int.add_zero, Int.add_zero] at hf
          exact rb_F_mono (by omega) (by omega) (fun _ _ => rfl) hf
        · rw [rb_V0 (by omega)]
          unfold rb_h
          omega
      · exact rb_F_un e (hF t (by omega))
theorem rb_range (hN : rb_N N) (hA : rb_A N a1) (hW : rb_W l0 h0 l1 h1) {p0 p1 p2 p3 : Int32} (e0 : p0 = rb_i l0) (e1 : p1 = rb_i h0) (e2 : p2 = rb_i l1) (e3 : p3 = rb_i h1)
    (H : ∀ c3 c4 c5 c6 c7 c8 : Nat → Int32, (∀ t, t < 6 → rb_F 10000 1000000 (rb_V N t) l0 h0 l1 h1 (c3 t) (c4 t) (c5 t) (c6 t) (c7 t) (c8 t)) → post (w, b, a1, a2, c3, c4, c5, c6, c7, c8, a9, a10, a11, a12)) :
    wpX_range post (w, b, a1, a2, a3, a4, a5, a6, a7, a8, a9, a10, a11, a12) p0 p1 p2 p3 := by
  subst e0 e1 e2 e3
  exact ⟨4, rb_r3 hN hA hW H 4 0 _ _ _ _ _ _ (by omega) (by omega) (fun t ht => absurd ht (by omega))⟩
end
end
section
/-! ===== the stack of boxes: a list, its top first; p and q bound the cuts that are left ===== -/
abbrev rb_X : Type := Int × Int × Int × Int × Nat × Nat
def rb_pw : Nat → Int
  | 0 => 1
  | n + 1 => 2 * rb_pw n
def rb_pt : Nat → Nat
  | 0 => 1
  | n + 1 => 2 * rb_pt n + 1
def rb_pot : List rb_X → Nat
  | [] => 0
  | (_, _, _, _, p, q) :: r => rb_pt (p + q) + rb_pot r
def rb_mem (x y : Int) : List rb_X → Prop
  | [] => False
  | (l0, h0, l1, h1, _, _) :: r => rb_in l0 h0 l1 h1 x y ∨ rb_mem x y r
def rb_lx (x y x' y' : Int) : Prop := x < x' ∨ (x = x' ∧ y < y')
def rb_srt : List rb_X → Prop
  | [] => True
  | (l0, h0, l1, h1, _, _) :: r => (∀ x y x' y', rb_in l0 h0 l1 h1 x y → rb_mem x' y' r → rb_lx x y x' y') ∧ rb_srt r
def rb_K (a9 a10 a11 a12 : Nat → Int32) : List rb_X → Prop
  | [] => True
  | (l0, h0, l1, h1, p, q) :: r => a9 r.length = rb_i l0 ∧ a10 r.length = rb_i h0 ∧ a11 r.length = rb_i l1 ∧ a12 r.length = rb_i h1 ∧ rb_W l0 h0 l1 h1 ∧ h0 - l0 < rb_pw p ∧ h1 - l1 < rb_pw q ∧ p + q + r.length ≤ 10 ∧ rb_K a9 a10 a11 a12 r
theorem rb_K_cons {a9 a10 a11 a12 : Nat → Int32} {l0 h0 l1 h1 : Int} {p q : Nat} {r : List rb_X} (h : a9 r.length = rb_i l0 ∧ a10 r.length = rb_i h0 ∧ a11 r.length = rb_i l1 ∧ a12 r.length = rb_i h1 ∧ rb_W l0 h0 l1 h1 ∧ h0 - l0 < rb_pw p ∧ h1 - l1 < rb_pw q ∧ p + q + r.length ≤ 10 ∧ rb_K a9 a10 a11 a12 r) :
    rb_K a9 a10 a11 a12 ((l0, h0, l1, h1, p, q) :: r) := h
theorem rb_K_un {a9 a10 a11 a12 : Nat → Int32} {l0 h0 l1 h1 : Int} {p q : Nat} {r : List rb_X} (h : rb_K a9 a10 a11 a12 ((l0, h0, l1, h1, p, q) :: r)) :
    a9 r.length = rb_i l0 ∧ a10 r.length = rb_i h0 ∧ a11 r.length = rb_i l1 ∧ a12 r.length = rb_i h1 ∧ rb_W l0 h0 l1 h1 ∧ h0 - l0 < rb_pw p ∧ h1 - l1 < rb_pw q ∧ p + q + r.length ≤ 10 ∧ rb_K a9 a10 a11 a12 r := h
theorem rb_K_keep {a9 a10 a11 a12 c9 c10 c11 c12 : Nat → Int32} : ∀ (st : List rb_X), (∀ j, j < st.length → c9 j = a9 j ∧ c10 j = a10 j ∧ c11 j = a11 j ∧ c12 j = a12 j) → rb_K a9 a10 a11 a12 st → rb_K c9 c10 c11 c12 st
  | [], _, _ => trivial
  | (l0, h0, l1, h1, p, q) :: r, hj, h => by
    obtain ⟨e9, e10, e11, e12, h5, h6, h7, h8, h9⟩ := rb_K_un h
    obtain ⟨k9, k10, k11, k12⟩ := hj r.length (Nat.lt_succ_self _)
    exact rb_K_cons ⟨by rw [k9, e9], by rw [k10, e10], by rw [k11, e11], by rw [k12, e12], h5, h6, h7, h8, rb_K_keep r (fun j z => hj j (Nat.lt_succ_of_lt z)) h9⟩
theorem rb_K_len {a9 a10 a11 a12 : Nat → Int32} {l0 h0 l1 h1 : Int} {p q : Nat} {r : List rb_X} (h : rb_K a9 a10 a11 a12 ((l0, h0, l1, h1, p, q) :: r)) : r.length ≤ 10 := by
  obtain ⟨_, _, _, _, _, _, _, h8, _⟩ := rb_K_un h
  omega
theorem rb_half {a b : Int} (h : -1000 ≤ a + b ∧ a + b ≤ 1000) : (rb_i a + rb_i b) >>> ((1 : Int32) &&& 31) = rb_i ((a + b) / 2) := by
  apply Int32.toInt_inj.mp
  rw [rb_add, pk_shr _ _ 1 (by decide), rb_t (by omega) (by omega), rb_t (by omega) (by omega), Int.shiftRight_eq_div_pow]
  rfl
theorem rb_code {l h : Int} (hl : -16 ≤ l ∧ l ≤ 15) (hh : -16 ≤ h ∧ h ≤ 15) : (rb_i (32 * (l + 16) + h + 16) >>> ((5 : Int32) &&& 31)) - 16 = rb_i l ∧ (rb_i (32 * (l + 16) + h + 16) &&& 31) - 16 = rb_i h := by
  obtain ⟨n, hn⟩ : ∃ n : Nat, l = (n : Int) - 16 := ⟨(l + 16).toNat, by omega⟩
  obtain ⟨m, hm⟩ : ∃ m : Nat, h = (m : Int) - 16 := ⟨(h + 16).toNat, by omega⟩
  have e : rb_i (32 * (l + 16) + h + 16) = nI (32 * n + m) := by
    rw [rb_n]
    exact congrArg rb_i (by omega)
  have e16 : (16 : Int32) = rb_i 16 := rfl
  constructor
  · rw [e, pk_shrN (by omega) _ 5 (by decide), rb_n, e16, rb_sub]
    exact congrArg rb_i (by omega)
  · rw [e, pk_andN (by omega) 5 (by decide), rb_n, e16, rb_sub]
    exact congrArg rb_i (by omega)
section
variable {post : St2 → Prop} {w b : Int32} {a1 a2 a3 a4 a5 a6 a7 a8 a9 a10 a11 a12 : Nat → Int32} {l0 h0 l1 h1 : Int}
theorem rb_open (hW : rb_W l0 h0 l1 h1) {p0 p1 : Int32} (e0 : p0 = rb_i (32 * (l0 + 16) + h0 + 16)) (e1 : p1 = rb_i (32 * (l1 + 16) + h1 + 16))
    (H : ∀ c9 c10 c11 c12, rb_K c9 c10 c11 c12 [(l0, h0, l1, h1, 5, 5)] → post (1, b, a1, a2, a3, a4, a5, a6, a7, a8, c9, c10, c11, c12)) : wpX_open post (w, b, a1, a2, a3, a4, a5, a6, a7, a8, a9, a10, a11, a12) p0 p1 := by
  subst e0 e1
  have hW' := hW
  unfold rb_W at hW'
  obtain ⟨k1, k2⟩ := rb_code (l := l0) (h := h0) (by omega) (by omega)
  obtain ⟨k3, k4⟩ := rb_code (l := l1) (h := h1) (by omega) (by omega)
  unfold wpX_open
  dsimp only
  rw [k1, k2, k3, k4]
  refine nm_e (nm_e (nm_e (nm_e (H _ _ _ _ (rb_K_cons ⟨pk_us, pk_us, pk_us, pk_us, hW, ?_, ?_, ?_, trivial⟩)))))
  · show h0 - l0 < 32
    omega
  · show h1 - l1 < 32
    omega
  · show 5 + 5 + 0 ≤ 10
    omega
theorem rb_isPoint {post : Int32 → Prop} {k : Nat} (hk : k < 16) (hW : rb_W l0 h0 l1 h1) (e9 : a9 k = rb_i l0) (e10 : a10 k = rb_i h0) (e11 : a11 k = rb_i l1) (e12 : a12 k = rb_i h1)
    (H1 : l0 = h0 → l1 = h1 → post 1) (H0 : ¬ (l0 = h0 ∧ l1 = h1) → post 0) : wpX_isPoint post (w, b, a1, a2, a3, a4, a5, a6, a7, a8, a9, a10, a11, a12) (nI k) := by
  have hi : vp_in (nI k) 16 := pk_in k 16 hk
  unfold rb_W at hW
  unfold wpX_isPoint
  dsimp only
  rw [nI_clamp (show k < 2 ^ 31 by omega), e9, e10, e11, e12]
  exact ⟨hi, hi, rb_beq l0 h0 (fun z => ⟨hi, hi, rb_beq l1 h1 (fun z' => H1 z z') (fun z' => H0 (fun t => z' t.2)) rfl rfl⟩) (fun z => H0 (fun t => z t.1)) rfl rfl⟩
theorem rb_cut1 {k : Nat} (hk : k + 1 < 16) {m : Int} (e9 : a9 k = rb_i l0) (e10 : a10 k = rb_i h0) (e11 : a11 k = rb_i l1) (e12 : a12 k = rb_i h1) (em : (rb_i l0 + rb_i h0) >>> ((1 : Int32) &&& 31) = rb_i m)
    (H : post (nI (k + 2), b, a1, a2, a3, a4, a5, a6, a7, a8, upd (upd a9 (k + 1) (rb_i l0)) k (rb_i (m + 1)), upd a10 (k + 1) (rb_i m), upd (upd a11 (k + 1) (rb_i l1)) k (rb_i l1), upd a12 (k + 1) (rb_i h1))) : wX_cut_41 post (nI k) 1 w b a1 a2 a3 a4 a5 a6 a7 a8 a9 a10 a11 a12 := by
  have hi : vp_in (nI k) 16 := pk_in k 16 (by omega)
  have hi1 : vp_in (nI k + 1) 16 := pk_in (k + 1) 16 hk (nI_1 k)
  have c0 : (nI k).toNatClampNeg = k := nI_clamp (by omega)
  have c1 : (nI k + 1).toNatClampNeg = k + 1 := pk_cl (k + 1) (nI_1 k)
  have h1 : ¬ (1 : Int32) = 0 := by decide
  have em1 : rb_i m + 1 = rb_i (m + 1) := rb_add m 1
  unfold wX_cut_41
  refine br_f h1 ⟨hi, ?_⟩
  unfold wX_cut_60
  refine br_f h1 ⟨hi, ?_⟩
  unfold wX_cut_80
  rw [c0, c1, e9, e10, em]
  refine nm_e ⟨hi, hi1, nm_e (br_f h1 ?_)⟩
  unfold wX_cut_126
  rw [c0, c1, e11, e12]
  refine ⟨hi1, nm_e ⟨hi, hi1, nm_e (br_f h1 ⟨hi, ?_⟩)⟩⟩
  unfold wX_cut_163
  rw [c1, em1]
  refine ⟨hi1, nm_e (br_f h1 ?_)⟩
  unfold wX_cut_186
  rw [c0]
  refine ⟨hi, nm_e (br_f h1 ⟨hi, hi, nm_r ?_ (nm_r (nI_add k 2) H)⟩)⟩
  rw [pk_un (show k ≠ k + 1 by omega), e11]
theorem rb_cut2 {k : Nat} (hk : k + 1 < 16) {m : Int} (e9 : a9 k = rb_i l0) (e10 : a10 k = rb_i h0) (e11 : a11 k = rb_i l1) (e12 : a12 k = rb_i h1) (em : (rb_i l1 + rb_i h1) >>> ((1 : Int32) &&& 31) = rb_i m)
    (H : post (nI (k + 2), b, a1, a2, a3, a4, a5, a6, a7, a8, upd (upd a9 (k + 1) (rb_i l0)) k (rb_i l0), upd a10 (k + 1) (rb_i h0), upd (upd a11 (k + 1) (rb_i l1)) k (rb_i (m + 1)), upd a12 (k + 1) (rb_i m))) : wX_cut_41 post (nI k) 0 w b a1 a2 a3 a4 a5 a6 a7 a8 a9 a10 a11 a12 := by
  have hi : vp_in (nI k) 16 := pk_in k 16 (by omega)
  have hi1 : vp_in (nI k + 1) 16 := pk_in (k + 1) 16 hk (nI_1 k)
  have c0 : (nI k).toNatClampNeg = k := nI_clamp (by omega)
  have c1 : (nI k + 1).toNatClampNeg = k + 1 := pk_cl (k + 1) (nI_1 k)
  have h1 : (0 : Int32) = 0 := rfl
  have em1 : rb_i m + 1 = rb_i (m + 1) := rb_add m 1
  unfold wX_cut_41
  refine br_t h1 ⟨hi, ?_⟩
  unfold wX_cut_60
  refine br_t h1 ⟨hi, ?_⟩
  unfold wX_cut_80
  rw [c0, c1, e11, e12, em, e9, e10]
  refine nm_e ⟨hi, hi1, nm_e (br_t h1 ⟨hi, ?_⟩)⟩
  unfold wX_cut_126
  rw [c0, c1, e11]
  refine ⟨hi1, nm_e ⟨hi, hi1, nm_e (br_t h1 ?_)⟩⟩
  unfold wX_cut_163
  rw [c0, c1, pk_un (show k ≠ k + 1 by omega), e9]
  refine ⟨hi1, nm_e (br_t h1 ⟨hi, ?_⟩)⟩
  unfold wX_cut_186
  rw [c0, em1]
  exact ⟨hi, nm_e (br_t h1 ⟨hi, nm_e (nm_r (nI_add k 2) H)⟩)⟩
theorem rb_cut {p q : Nat} {r : List rb_X} (hK : rb_K a9 a10 a11 a12 ((l0, h0, l1, h1, p, q) :: r)) (hnp : ¬ (l0 = h0 ∧ l1 = h1))
    (H : ∀ (st : List rb_X) (c9 c10 c11 c12 : Nat → Int32), rb_K c9 c10 c11 c12 st → (∀ x y, rb_mem x y st ↔ rb_mem x y ((l0, h0, l1, h1, p, q) :: r)) → (rb_srt ((l0, h0, l1, h1, p, q) :: r) → rb_srt st) → rb_pot st + 1 ≤ rb_pot ((l0, h0, l1, h1, p, q) :: r) → post (nI st.length, b, a1, a2, a3, a4, a5, a6, a7, a8, c9, c10, c11, c12)) :
    wpX_cut post (w, b, a1, a2, a3, a4, a5, a6, a7, a8, a9, a10, a11, a12) (nI r.length) := by
  obtain ⟨e9, e10, e11, e12, hW, hp, hq, hd, hr⟩ := rb_K_un hK
  have hW' := hW
  unfold rb_W at hW'
  have hi : vp_in (nI r.length) 16 := pk_in r.length 16 (by omega)
  unfold wpX_cut
  dsimp only
  rw [nI_clamp (show r.length < 2 ^ 31 by omega)]
  refine ⟨hi, hi, rb_ble h0 l0 (fun z => ?_) (fun z => ?_) e10 e9⟩
  · have hl : l0 = h0 := by omega
    have hl1 : ¬ l1 = h1 := fun t => hnp ⟨hl, t⟩
    unfold wX_cut_20
    rw [nI_clamp (show r.length < 2 ^ 31 by omega)]
    refine br_t rfl ⟨hi, hi, rb_beq l1 h1 (fun t => absurd t hl1) (fun _ => ?_) e11 e12⟩
    obtain ⟨q', rfl⟩ : ∃ q', q = q' + 1 := by
      cases q with
      | zero =>
        have : h1 - l1 < 1 := hq
        omega
      | succ q' => exact ⟨q', rfl⟩
    have hq2 : h1 - l1 < 2 * rb_pw q' := hq
    have hpt : rb_pt (p + (q' + 1)) = 2 * rb_pt (p + q') + 1 := rfl
    refine rb_cut2 (by omega) e9 e10 e11 e12 (rb_half (by omega)) (H ((l0, h0, l1, (l1 + h1) / 2, p, q') :: (l0, h0, (l1 + h1) / 2 + 1, h1, p, q') :: r) _ _ _ _ ?_ ?_ ?_ ?_)
    · refine rb_K_cons ⟨?_, ?_, ?_, ?_, ?_, hp, ?_, ?_, rb_K_cons ⟨?_, ?_, ?_, ?_, ?_, hp, ?_, ?_, rb_K_keep r (fun j hj => ⟨?_, ?_, ?_, ?_⟩) hr⟩⟩
      · exact (pk_un (show r.length + 1 ≠ r.length by omega)).trans pk_us
      · exact pk_us
      · exact (pk_un (show r.length + 1 ≠ r.length by omega)).trans pk_us
      · exact pk_us
      · unfold rb_W; omega
      · omega
      · show p + q' + (r.length + 1) ≤ 10
        omega
      · exact pk_us
      · exact (pk_un (show r.length ≠ r.length + 1 by omega)).trans e10
      · exact pk_us
      · exact (pk_un (show r.length ≠ r.length + 1 by omega)).trans e12
      · unfold rb_W; omega
      · omega
      · omega
      · exact (pk_un (show j ≠ r.length by omega)).trans (pk_un (by omega))
      · exact pk_un (by omega)
      · exact (pk_un (show j ≠ r.length by omega)).trans (pk_un (by omega))
      · exact pk_un (by omega)
    · intro x y
      show (rb_in _ _ _ _ x y ∨ rb_in _ _ _ _ x y ∨ rb_mem x y r) ↔ (rb_in _ _ _ _ x y ∨ rb_mem x y r)
      unfold rb_in
      generalize rb_mem x y r = P
      constructor
      · rintro (c | c | c)
        · exact Or.inl (by omega)
        · exact Or.inl (by omega)
        · exact Or.inr c
      · rintro (c | c)
        · rcases Int.lt_or_le ((l1 + h1) / 2) y with d | d
          · exact Or.inr (Or.inl (by omega))
          · exact Or.inl (by omega)
        · exact Or.inr (Or.inr c)
    · rintro ⟨s1, s2⟩
      refine And.intro ?_ (And.intro ?_ s2)
      · rintro x y x' y' k1 (k2 | k2)
        · unfold rb_in at k1 k2
          unfold rb_lx
          omega
        · exact s1 x y x' y' (by unfold rb_in at *; omega) k2
      · intro x y x' y' k1 k2
        exact s1 x y x' y' (by unfold rb_in at *; omega) k2
    · show rb_pt (p + q') + (rb_pt (p + q') + rb_pot r) + 1 ≤ rb_pt (p + (q' + 1)) + rb_pot r
      omega
  · unfold wX_cut_20
    refine br_f (by decide) ?_
    obtain ⟨p', rfl⟩ : ∃ p', p = p' + 1 := by
      cases p with
      | zero =>
        have : h0 - l0 < 1 := hp
        omega
      | succ p' => exact ⟨p', rfl⟩
    have hp2 : h0 - l0 < 2 * rb_pw p' := hp
    have hpt : rb_pt (p' + 1 + q) = 2 * rb_pt (p' + q) + 1 := by
      rw [show p' + 1 + q = (p' + q) + 1 by omega]
      rfl
    refine rb_cut1 (by omega) e9 e10 e11 e12 (rb_half (by omega)) (H ((l0, (l0 + h0) / 2, l1, h1, p', q) :: ((l0 + h0) / 2 + 1, h0, l1, h1, p', q) :: r) _ _ _ _ ?_ ?_ ?_ ?_)
    · refine rb_K_cons ⟨?_, ?_, ?_, ?_, ?_, ?_, hq, ?_, rb_K_cons ⟨?_, ?_, ?_, ?_, ?_, ?_, hq, ?_, rb_K_keep r (fun j hj => ⟨?_, ?_, ?_, ?_⟩) hr⟩⟩
      · exact (pk_un (show r.length + 1 ≠ r.length by omega)).trans pk_us
      · exact pk_us
      · exact (pk_un (show r.length + 1 ≠ r.length by omega)).trans pk_us
      · exact pk_us
      · unfold rb_W; omega
      · omega
      · show p' + q + (r.length + 1) ≤ 10
        omega
      · exact pk_us
      · exact (pk_un (show r.length ≠ r.length + 1 by omega)).trans e10
      · exact pk_us
      · exact (pk_un (show r.length ≠ r.length + 1 by omega)).trans e12
      · unfold rb_W; omega
      · omega
      · omega
      · exact (pk_un (show j ≠ r.length by omega)).trans (pk_un (by omega))
      · exact pk_un (by omega)
      · exact (pk_un (show j ≠ r.length by omega)).trans (pk_un (by omega))
      · exact pk_un (by omega)
    · intro x y
      show (rb_in _ _ _ _ x y ∨ rb_in _ _ _ _ x y ∨ rb_mem x y r) ↔ (rb_in _ _ _ _ x y ∨ rb_mem x y r)
      unfold rb_in
      generalize rb_mem x y r = P
      constructor
      · rintro (c | c | c)
        · exact Or.inl (by omega)
        · exact Or.inl (by omega)
        · exact Or.inr c
      · rintro (c | c)
        · rcases Int.lt_or_le ((l0 + h0) / 2) x with d | d
          · exact Or.inr (Or.inl (by omega))
          · exact Or.inl (by omega)
        · exact Or.inr (Or.inr c)
    · rintro ⟨s1, s2⟩
      refine And.intro ?_ (And.intro ?_ s2)
      · rintro x y x' y' k1 (k2 | k2)
        · unfold rb_in at k1 k2
          unfold rb_lx
          omega
        · exact s1 x y x' y' (by unfold rb_in at *; omega) k2
      · intro x y x' y' k1 k2
        exact s1 x y x' y' (by unfold rb_in at *; omega) k2
    · show rb_pt (p' + q) + (rb_pt (p' + q) + rb_pot r) + 1 ≤ rb_pt (p' + 1 + q) + rb_pot r
      omega
end
end
section
/-! ===== extreme ===== -/
theorem rb_pt1 (n : Nat) : 1 ≤ rb_pt n := by
  cases n with
  | zero => exact Nat.le_refl 1
  | succ n =>
    show 1 ≤ 2 * rb_pt n + 1
    omega
theorem rb_in_I {l0 h0 l1 h1 x y : Int} (hW : rb_W l0 h0 l1 h1) (h : rb_in l0 h0 l1 h1 x y) : rb_I x ∧ rb_I y := by
  unfold rb_W rb_in rb_I at *
  omega
section
variable {post : Int32 → St2 → Prop} {w b : Int32} {a1 a2 a3 a4 a5 a6 a7 a8 a9 a10 a11 a12 : Nat → Int32} {N : Nat → Int} {L0 H0 L1 H1 : Int}
theorem rb_ext122 {J : Int32 → Int32 → Int32 → (Nat → Int32) → (Nat → Int32) → (Nat → Int32) → (Nat → Int32) → (Nat → Int32) → (Nat → Int32) → (Nat → Int32) → (Nat → Int32) → (Nat → Int32) → (Nat → Int32) → (Nat → Int32) → (Nat → Int32) → Prop}
    {t step p q : Nat} (ht : t < 6) {l0 h0 l1 h1 β bd : Int} {r : List rb_X} {x4 z0 : Int32} (hK : rb_K a9 a10 a11 a12 ((l0, h0, l1, h1, p, q) :: r)) (hβ : rb_bd 1000000 β) (hbd : rb_bd 1000000 bd) (ez : z0 = rb_i bd) (h8 : l0 = h0 → l1 = h1 → ¬ a8 t = 0)
    (G1 : bd ≤ β → J (nI (step + 1)) (nI r.length) (rb_i β) a1 a2 a3 a4 a5 a6 a7 a8 a9 a10 a11 a12)
    (G2 : β < bd → ¬ a8 t = 0 → J (nI (step + 1)) (nI r.length) (rb_i bd) a1 a2 a3 a4 a5 a6 a7 a8 a9 a10 a11 a12)
    (G3 : ∀ (st : List rb_X) (c9 c10 c11 c12 : Nat → Int32), rb_K c9 c10 c11 c12 st → (∀ x y, rb_mem x y st ↔ rb_mem x y ((l0, h0, l1, h1, p, q) :: r)) → rb_pot st + 1 ≤ rb_pot ((l0, h0, l1, h1, p, q) :: r) → J (nI (step + 1)) (nI st.length) (rb_i β) a1 a2 a3 a4 a5 a6 a7 a8 c9 c10 c11 c12) :
    wX_extreme_122 post J (nI t) x4 (nI step) (nI r.length) z0 (nI r.length) (rb_i β) a1 a2 a3 a4 a5 a6 a7 a8 a9 a10 a11 a12 := by
  subst ez
  unfold rb_bd at hβ hbd
  have hl := rb_K_len hK
  obtain ⟨e9, e10, e11, e12, hW, _, _, _, _⟩ := rb_K_un hK
  have hti : vp_in (nI t) 6 := pk_in t 6 ht
  unfold wX_extreme_122
  rw [nI_clamp (show t < 2 ^ 31 by omega)]
  refine rb_ble bd β (fun z => nm_r (nI_1 step) (G1 z)) (fun z => ⟨hti, br_c (fun e => ?_) (fun e => nm_r (nI_1 step) (G2 z e))⟩) rfl rfl
  refine rb_isPoint (by omega) hW e9 e10 e11 e12 (fun k1 k2 => absurd e (h8 k1 k2)) (fun hnp => br_t rfl ?_)
  exact rb_cut hK hnp (fun st c9 c10 c11 c12 k1 k2 _ k4 => nm_r (nI_1 step) (G3 st c9 c10 c11 c12 k1 k2 k4))
theorem rb_ext38 (hN : rb_N N) (hA : rb_A N a1) (hWW : rb_W L0 H0 L1 H1) {t : Nat} (ht : t < 6) {sg : Int} (hsg : sg = 1 ∨ sg = -1)
    (H : ∀ β, (∃ x y, rb_in L0 H0 L1 H1 x y ∧ sg * rb_V N t x y = β) → (∀ x y, rb_in L0 H0 L1 H1 x y → sg * rb_V N t x y ≤ β) → ∀ (wc bc : Int32) (c2 c3 c4 c5 c6 c7 c8 c9 c10 c11 c12 : Nat → Int32), post (rb_i β) (wc, bc, a1, c2, c3, c4, c5, c6, c7, c8, c9, c10, c11, c12))
    (n : Nat) : ∀ (step : Nat) (st : List rb_X) (β : Int) (a2 a3 a4 a5 a6 a7 a8 a9 a10 a11 a12 : Nat → Int32), step + rb_pot st ≤ 2047 → 2048 - step < n → rb_K a9 a10 a11 a12 st → (∀ x y, rb_mem x y st → rb_in L0 H0 L1 H1 x y) →
    (∃ x y, rb_in L0 H0 L1 H1 x y ∧ sg * rb_V N t x y = β) → (∀ x y, rb_in L0 H0 L1 H1 x y → sg * rb_V N t x y ≤ β ∨ rb_mem x y st) →
    wX_extreme_38 post (nI t) (rb_i sg) n (nI step) (nI st.length) (rb_i β) a1 a2 a3 a4 a5 a6 a7 a8 a9 a10 a11 a12 := by
  induction n with
  | zero => intro step st β _ _ _ _ _ _ _ _ _ _ _ _ h; omega
  | succ n ih =>
    intro step st β a2 a3 a4 a5 a6 a7 a8 a9 a10 a11 a12 hs hn hK hsub hex hcov
    refine pk_le 2048 step (fun z => absurd z (by omega)) (fun _ => ?_)
    have hβ : rb_bd 1000000 β := by
      obtain ⟨x, y, hxy, e⟩ := hex
      have k := rb_in_I hWW hxy
      have k2 := rb_V_b hN (t := t) k.1 k.2
      unfold rb_bd
      rcases hsg with rfl | rfl <;> omega
    cases st with
    | nil => exact pk_le 0 0 (fun _ => H β hex (fun x y hxy => (hcov x y hxy).elim id False.elim) _ _ _ _ _ _ _ _ _ _ _ _ _) (fun z => absurd z (by omega))
    | cons bx r =>
      obtain ⟨l0, h0, l1, h1, p, q⟩ := bx
      have hl := rb_K_len hK
      obtain ⟨e9, e10, e11, e12, hW, _, _, _, hr⟩ := rb_K_un hK
      have hi : vp_in (nI r.length) 16 := pk_in r.length 16 (by omega)
      have c0 : (nI r.length).toNatClampNeg = r.length := nI_clamp (by omega)
      have hti : vp_in (nI t) 6 := pk_in t 6 ht
      refine pk_le (r.length + 1) 0 (fun z => absurd z (by omega)) (fun _ => nm_r (nI_pred r.length) ⟨hi, hi, hi, hi, ?_⟩)
      refine rb_range hN hA hW (by rw [c0]; exact e9) (by rw [c0]; exact e10) (by rw [c0]; exact e11) (by rw [c0]; exact e12) (fun c3 c4 c5 c6 c7 c8 hF => ?_)
      obtain ⟨A, B, C, L, M, _, _, _, f3, f4, _, _, _, bL, bM, hV, h8, hp⟩ := hF t ht
      have hpot : step + (rb_pt (p + q) + rb_pot r) ≤ 2047 := hs
      have hpt := rb_pt1 (p + q)
      have main : ∀ (bd : Int) (z0 : Int32), z0 = rb_i bd → rb_bd 1000000 bd → (∀ x y, rb_in l0 h0 l1 h1 x y → sg * rb_V N t x y ≤ bd) → (¬ c8 t = 0 → ∃ x y, rb_in l0 h0 l1 h1 x y ∧ sg * rb_V N t x y = bd) →
          wX_extreme_122 post (wX_extreme_38 post (nI t) (rb_i sg) n) (nI t) (rb_i sg) (nI step) (nI r.length) z0 (nI r.length) (rb_i β) a1 a2 c3 c4 c5 c6 c7 c8 a9 a10 a11 a12 := by
        intro bd z0 ez hbd hle hat
        refine rb_ext122 ht hK hβ hbd ez hp (fun g => ?_) (fun g e => ?_) (fun st c9 c10 c11 c12 k1 k2 k3 => ?_)
        · refine ih (step + 1) r β _ _ _ _ _ _ _ _ _ _ _ (by omega) (by omega) hr (fun x y h => hsub x y (Or.inr h)) hex (fun x y hxy => ?_)
          rcases hcov x y hxy with k | k | k
          · exact Or.inl k
          · exact Or.inl (Int.le_trans (hle x y k) g)
          · exact Or.inr k
        · refine ih (step + 1) r bd _ _ _ _ _ _ _ _ _ _ _ (by omega) (by omega) hr (fun x y h => hsub x y (Or.inr h)) ?_ (fun x y hxy => ?_)
          · obtain ⟨x, y, hxy, e'⟩ := hat e
            exact ⟨x, y, hsub x y (Or.inl hxy), e'⟩
          · rcases hcov x y hxy with k | k | k
            · exact Or.inl (by omega)
            · exact Or.inl (hle x y k)
            · exact Or.inr k
        · have k3' : rb_pot st + 1 ≤ rb_pt (p + q) + rb_pot r := k3
          refine ih (step + 1) st β _ _ _ _ _ _ _ _ _ _ _ (by omega) (by omega) k1 (fun x y h => hsub x y ((k2 x y).mp h)) hex (fun x y hxy => ?_)
          rcases hcov x y hxy with k | k
          · exact Or.inl k
          · exact Or.inr ((k2 x y).mpr k)
      have ct : (nI t).toNatClampNeg = t := nI_clamp (by omega)
      refine rb_ble sg 0 (fun z => ⟨hti, ?_⟩) (fun z => ⟨hti, ?_⟩) rfl rfl (by omega) (by omega)
      · have es : sg = -1 := by omega
        refine main (-L) _ (by rw [ct, f3, rb_neg]) (by unfold rb_bd at *; omega) (fun x y hxy => ?_) (fun e => ?_)
        · have k := hV x y hxy
          rw [es]
          omega
        · obtain ⟨_, _, x, y, hxy, ex⟩ := h8 e
          exact ⟨x, y, hxy, by rw [es, ex]; omega⟩
      · have es : sg = 1 := by omega
        refine main M _ (by rw [ct, f4]) bM (fun x y hxy => ?_) (fun e => ?_)
        · have k := hV x y hxy
          rw [es]
          omega
        · obtain ⟨_, ⟨x, y, hxy, ex⟩, _⟩ := h8 e
          exact ⟨x, y, hxy, by rw [es, ex]; omega⟩
theorem rb_extreme (hN : rb_N N) (hA : rb_A N a1) (hWW : rb_W L0 H0 L1 H1) {t : Nat} (ht : t < 6) {sg : Int} (hsg : sg = 1 ∨ sg = -1) {p0 p1 p2 p3 : Int32}
    (e0 : p0 = rb_i (32 * (L0 + 16) + H0 + 16)) (e1 : p1 = rb_i (32 * (L1 + 16) + H1 + 16)) (e2 : p2 = nI t) (e3 : p3 = rb_i sg)
    (H : ∀ β, (∃ x y, rb_in L0 H0 L1 H1 x y ∧ sg * rb_V N t x y = β) → (∀ x y, rb_in L0 H0 L1 H1 x y → sg * rb_V N t x y ≤ β) → ∀ (wc bc : Int32) (c2 c3 c4 c5 c6 c7 c8 c9 c10 c11 c12 : Nat → Int32), post (rb_i β) (wc, bc, a1, c2, c3, c4, c5, c6, c7, c8, c9, c10, c11, c12)) :
    wpX_extreme post (w, b, a1, a2, a3, a4, a5, a6, a7, a8, a9, a10, a11, a12) p0 p1 p2 p3 := by
  subst e2 e3
  have hti : vp_in (nI t) 6 := pk_in t 6 ht
  have hWW' := hWW
  unfold rb_W at hWW'
  have hin : rb_in L0 H0 L1 H1 L0 L1 := by unfold rb_in; omega
  have hI := rb_in_I hWW hin
  unfold wpX_extreme
  dsimp only
  refine rb_open hWW e0 e1 (fun c9 c10 c11 c12 hK => ?_)
  obtain ⟨e9, e10, e11, e12, _⟩ := rb_K_un hK
  dsimp only
  refine rb_work hN hA hI.1 hI.2 e9 e11 (fun c2 hc2 => ?_)
  dsimp only
  refine ⟨hti, nm_r (e' := rb_i (sg * rb_V N t L0 L1)) ?_ ⟨2049, ?_⟩⟩
  · rw [nI_clamp (show t < 2 ^ 31 by omega), hc2 t ht, rb_mul]
  · refine rb_ext38 hN hA hWW ht hsg H 2049 0 [(L0, H0, L1, H1, 5, 5)] _ _ _ _ _ _ _ _ _ _ _ _ ?_ (by omega) hK ?_ ⟨L0, L1, hin, rfl⟩ (fun x y hxy => Or.inr (Or.inl hxy))
    · show 0 + (rb_pt 10 + 0) ≤ 2047
      decide
    · rintro x y (h | h)
      · exact h
      · exact h.elim
end
end
section
/-! ===== firstAbove ===== -/
def rb_FA (N : Nat → Int) (L0 H0 L1 H1 lim : Int) (r : Int32) : Prop :=
  (r = rb_i (-2) ∧ ∀ x y, rb_in L0 H0 L1 H1 x y → rb_V N 5 x y ≤ lim) ∨
  ∃ x y, rb_in L0 H0 L1 H1 x y ∧ r = rb_i (32 * (x + 16) + y + 16) ∧ lim < rb_V N 5 x y ∧ ∀ x' y', rb_in L0 H0 L1 H1 x' y' → rb_lx x' y' x y → rb_V N 5 x' y' ≤ lim
section
variable {post : Int32 → St2 → Prop} {w b : Int32} {a1 a2 a3 a4 a5 a6 a7 a8 a9 a10 a11 a12 : Nat → Int32} {N : Nat → Int} {L0 H0 L1 H1 : Int}
theorem rb_fa9 (hN : rb_N N) (hA : rb_A N a1) {lim : Int} (hlim : -1000000 ≤ lim ∧ lim ≤ 1000000)
    (H : ∀ r, rb_FA N L0 H0 L1 H1 lim r → ∀ (wc bc : Int32) (c2 c3 c4 c5 c6 c7 c8 c9 c10 c11 c12 : Nat → Int32), post r (wc, bc, a1, c2, c3, c4, c5, c6, c7, c8, c9, c10, c11, c12))
    (n : Nat) : ∀ (step : Nat) (st : List rb_X) (a2 a3 a4 a5 a6 a7 a8 a9 a10 a11 a12 : Nat → Int32), step + rb_pot st ≤ 2047 → 2048 - step < n → rb_K a9 a10 a11 a12 st → rb_srt st → (∀ x y, rb_mem x y st → rb_in L0 H0 L1 H1 x y) →
    (∀ x y, rb_in L0 H0 L1 H1 x y → rb_V N 5 x y ≤ lim ∨ rb_mem x y st) →
    wX_firstAbove_9 post (rb_i lim) n (nI step) (nI st.length) b a1 a2 a3 a4 a5 a6 a7 a8 a9 a10 a11 a12 := by
  induction n with
  | zero => intro step st _ _ _ _ _ _ _ _ _ _ _ _ h; omega
  | succ n ih =>
    intro step st a2 a3 a4 a5 a6 a7 a8 a9 a10 a11 a12 hs hn hK hsrt hsub hcov
    refine pk_le 2048 step (fun z => absurd z (by omega)) (fun _ => ?_)
    cases st with
    | nil => exact pk_le 0 0 (fun _ => H _ (Or.inl ⟨rfl, fun x y hxy => (hcov x y hxy).elim id False.elim⟩) _ _ _ _ _ _ _ _ _ _ _ _ _) (fun z => absurd z (by omega))
    | cons bx r =>
      obtain ⟨l0, h0, l1, h1, p, q⟩ := bx
      have hl := rb_K_len hK
      obtain ⟨e9, e10, e11, e12, hW, _, _, _, hr⟩ := rb_K_un hK
      have hi : vp_in (nI r.length) 16 := pk_in r.length 16 (by omega)
      have c0 : (nI r.length).toNatClampNeg = r.length := nI_clamp (by omega)
      refine pk_le (r.length + 1) 0 (fun z => absurd z (by omega)) (fun _ => nm_r (nI_pred r.length) ⟨hi, hi, hi, hi, ?_⟩)
      refine rb_range hN hA hW (by rw [c0]; exact e9) (by rw [c0]; exact e10) (by rw [c0]; exact e11) (by rw [c0]; exact e12) (fun c3 c4 c5 c6 c7 c8 hF => ?_)
      obtain ⟨A, B, C, L, M, _, _, _, f3, f4, _, _, _, bL, bM, hV, h8, hp⟩ := hF 5 (by omega)
      have hpot : step + (rb_pt (p + q) + rb_pot r) ≤ 2047 := hs
      have hpt := rb_pt1 (p + q)
      unfold rb_bd at bM
      obtain ⟨s1, s2⟩ := hsrt
      refine rb_ble M lim (fun z => nm_r (nI_1 step) ?_) (fun z => ?_) f4 rfl (by omega) (by omega)
      · refine ih (step + 1) r _ _ _ _ _ _ _ _ _ _ _ (by omega) (by omega) hr s2 (fun x y h => hsub x y (Or.inr h)) (fun x y hxy => ?_)
        rcases hcov x y hxy with k | k | k
        · exact Or.inl k
        · exact Or.inl (Int.le_trans (hV x y k).2 z)
        · exact Or.inr k
      · refine rb_isPoint (k := r.length) (by omega) hW e9 e10 e11 e12 (fun k1 k2 => br_f (by decide) ⟨hi, hi, ?_⟩) (fun hnp => br_t rfl ?_)
        · subst k1 k2
          rw [c0, e9, e11]
          have hin : rb_in l0 l0 l1 l1 l0 l1 := ⟨Int.le_refl _, Int.le_refl _, Int.le_refl _, Int.le_refl _⟩
          have ev : rb_V N 5 l0 l1 = M := by
            obtain ⟨_, ⟨x, y, hxy, ex⟩, _⟩ := h8 (hp rfl rfl)
            have ee : x = l0 ∧ y = l1 := by unfold rb_in at hxy; omega
            rw [ee.1, ee.2] at ex
            exact ex
          refine H _ (Or.inr ⟨l0, l1, hsub l0 l1 (Or.inl hin), ?_, by omega, fun x' y' hxy hlx => ?_⟩) _ _ _ _ _ _ _ _ _ _ _ _ _
          · show ((rb_i 32 * (rb_i l0 + rb_i 16)) + rb_i l1) + rb_i 16 = _
            rw [rb_add, rb_mul, rb_add, rb_add]
          · rcases hcov x' y' hxy with k | k | k
            · exact k
            · unfold rb_in at k
              unfold rb_lx at hlx
              omega
            · have k' := s1 l0 l1 x' y' hin k
              unfold rb_lx at hlx k'
              omega
        · refine rb_cut hK hnp (fun st c9 c10 c11 c12 k1 k2 k3 k4 => nm_r (nI_1 step) ?_)
          have k4' : rb_pot st + 1 ≤ rb_pt (p + q) + rb_pot r := k4
          refine ih (step + 1) st _ _ _ _ _ _ _ _ _ _ _ (by omega) (by omega) k1 (k3 ⟨s1, s2⟩) (fun x y h => hsub x y ((k2 x y).mp h)) (fun x y hxy => ?_)
          rcases hcov x y hxy with k | k
          · exact Or.inl k
          · exact Or.inr ((k2 x y).mpr k)
theorem rb_firstAbove (hN : rb_N N) (hA : rb_A N a1) (hWW : rb_W L0 H0 L1 H1) {lim : Int} (hlim : -1000000 ≤ lim ∧ lim ≤ 1000000) {p0 p1 p2 : Int32}
    (e0 : p0 = rb_i (32 * (L0 + 16) + H0 + 16)) (e1 : p1 = rb_i (32 * (L1 + 16) + H1 + 16)) (e2 : p2 = rb_i lim)
    (H : ∀ r, rb_FA N L0 H0 L1 H1 lim r → ∀ (wc bc : Int32) (c2 c3 c4 c5 c6 c7 c8 c9 c10 c11 c12 : Nat → Int32), post r (wc, bc, a1, c2, c3, c4, c5, c6, c7, c8, c9, c10, c11, c12)) : wpX_firstAbove post (w, b, a1, a2, a3, a4, a5, a6, a7, a8, a9, a10, a11, a12) p0 p1 p2 := by
  subst e2
  unfold wpX_firstAbove
  dsimp only
  refine rb_open hWW e0 e1 (fun c9 c10 c11 c12 hK => ⟨2049, ?_⟩)
  refine rb_fa9 hN hA hlim H 2049 0 [(L0, H0, L1, H1, 5, 5)] _ _ _ _ _ _ _ _ _ _ _ ?_ (by omega) hK ⟨fun _ _ _ _ _ h => h.elim, trivial⟩ ?_ (fun x y hxy => Or.inr (Or.inl hxy))
  · show 0 + (rb_pt 10 + 0) ≤ 2047
    decide
  · rintro x y (h | h)
    · exact h
    · exact h.elim
end
theorem rb_lx_tri {x y x' y' : Int} : rb_lx x y x' y' ∨ rb_lx x' y' x y ∨ (x = x' ∧ y = y') := by
  unfold rb_lx
  omega
theorem rb_FA_uniq {N : Nat → Int} {L0 H0 L1 H1 lim : Int} {r r' : Int32} (h : rb_FA N L0 H0 L1 H1 lim r) (h' : rb_FA N L0 H0 L1 H1 lim r') : r = r' := by
  rcases h with ⟨e, k⟩ | ⟨x, y, hxy, e, g, k⟩
  · rcases h' with ⟨e', k'⟩ | ⟨x', y', hxy', e', g', k'⟩
    · rw [e, e']
    · have := k x' y' hxy'
      omega
  · rcases h' with ⟨e', k'⟩ | ⟨x', y', hxy', e', g', k'⟩
    · have := k' x y hxy
      omega
    · rcases rb_lx_tri (x := x) (y := y) (x' := x') (y' := y') with z | z | z
      · have := k' x y hxy z
        omega
      · have := k x' y' hxy' z
        omega
      · rw [e, e', z.1, z.2]
end
section
/-! ===== patterns ===== -/
def rb_mk (N : Nat → Int) (x y : Int) : Nat → Nat
  | 0 => 0
  | u + 1 => rb_mk N x y u + (if 0 < rb_V N u x y then 2 ^ u else 0)
theorem rb_mk_lt (N : Nat → Int) (x y : Int) (u : Nat) : rb_mk N x y u < 2 ^ u := by
  induction u with
  | zero => exact Nat.one_pos
  | succ u ih =>
    show rb_mk N x y u + (if 0 < rb_V N u x y then 2 ^ u else 0) < 2 ^ (u + 1)
    rw [Nat.pow_succ]
    split <;> omega
theorem rb_orb : ∀ k, k < 5 → ∀ m, m < 2 ^ k → nI m ||| ((1 : Int32) <<< (nI k &&& 31)) = nI (m + 2 ^ k) := by decide +kernel
theorem rb_b1 : ∀ m, m < 32 → ∀ i, i < 32 → bt ((1 : Int32) <<< (nI m &&& 31)) i = decide (i = m) := by decide +kernel
theorem rb_bt1 : ∀ i, i < 32 → bt 1 i = decide (i = 0) := by decide +kernel
/-- the number of bits below n -/
def rb_pc (s : Int32) : Nat → Int32
  | 0 => 0
  | n + 1 => rb_pc s n + ((s >>> (nI n &&& 31)) &&& 1)
theorem rb_ush1 (s : Int32) (n : Nat) (hn : n < 32) : ((s.toUInt32 >>> ((nI n).toUInt32 &&& Int32.toUInt32 31)).toInt32) &&& 1 = (s >>> (nI n &&& 31)) &&& 1 := by
  refine b_ext (fun i hi => ?_)
  rw [b_and, b_and, rb_bt1 i hi, b_ushr n hn, b_sshr n hn s hi]
  by_cases e : i = 0
  · rw [e, if_pos (by omega)]
  · rw [decide_eq_false e, Bool.and_false, Bool.and_false]
/-- seen holds exactly the patterns of the box -/
def rb_seen (N : Nat → Int) (L0 H0 L1 H1 : Int) (s : Int32) : Prop := ∀ m, m < 32 → (bt s m = true ↔ ∃ x y, rb_in L0 H0 L1 H1 x y ∧ rb_mk N x y 5 = m)
theorem rb_seen_uniq {N : Nat → Int} {L0 H0 L1 H1 : Int} {s s' : Int32} (h : rb_seen N L0 H0 L1 H1 s) (h' : rb_seen N L0 H0 L1 H1 s') : s = s' := by
  refine b_ext (fun i hi => ?_)
  rw [Bool.eq_iff_iff, h i hi, h' i hi]
section
variable {w b : Int32} {a1 a2 a3 a4 a5 a6 a7 a8 a9 a10 a11 a12 : Nat → Int32} {N : Nat → Int} {l0 h0 l1 h1 : Int}
theorem rb_po4 {post : Int32 → Prop} (hF : ∀ t, t < 6 → rb_F 10000 1000000 (rb_V N t) l0 h0 l1 h1 (a3 t) (a4 t) (a5 t) (a6 t) (a7 t) (a8 t))
    (G1 : ¬ (l0 = h0 ∧ l1 = h1) → post (-1)) (G2 : ∀ m, m < 32 → (∀ x y, rb_in l0 h0 l1 h1 x y → rb_mk N x y 5 = m) → post (nI m))
    (n : Nat) : ∀ (k m : Nat), k ≤ 5 → 5 - k < n → m < 2 ^ k → (∀ x y, rb_in l0 h0 l1 h1 x y → rb_mk N x y k = m) → wX_patternOf_4 post w b a1 a2 a3 a4 a5 a6 a7 a8 a9 a10 a11 a12 n (nI m) (nI k) := by
  induction n with
  | zero => intro k m _ h; omega
  | succ n ih =>
    intro k m hk hn hm hmk
    refine pk_le 5 k (fun z => ?_) (fun z => ⟨pk_in k 6 (by omega), ?_⟩)
    · have ek : k = 5 := by omega
      subst ek
      exact G2 m hm hmk
    · rw [nI_clamp (show k < 2 ^ 31 by omega)]
      obtain ⟨A, B, C, L, M, _, _, _, f3, f4, _, _, _, bL, bM, hV, h8, hp⟩ := hF k (by omega)
      unfold rb_bd at bL bM
      have hpw : 2 ^ (k + 1) = 2 * 2 ^ k := by rw [Nat.pow_succ, Nat.mul_comm]
      refine rb_ble L 0 (fun g => ⟨pk_in k 6 (by omega), rb_ble M 0 (fun g' => nm_r (nI_1 k) (ih (k + 1) m (by omega) (by omega) (by omega) (fun x y hxy => ?_))) (fun g' => G1 (fun hpt => ?_)) f4 rfl (by omega) (by omega)⟩) (fun g => ?_) f3 rfl (by omega) (by omega)
      · show rb_mk N x y k + (if 0 < rb_V N k x y then 2 ^ k else 0) = m
        have k1 := hV x y hxy
        rw [hmk x y hxy, if_neg (by omega), Nat.add_zero]
      · obtain ⟨_, ⟨x, y, hxy, ex⟩, ⟨x', y', hxy', ex'⟩⟩ := h8 (hp hpt.1 hpt.2)
        have ee : x = x' ∧ y = y' := by unfold rb_in at *; omega
        rw [ee.1, ee.2, ex'] at ex
        omega
      · refine nm_r (rb_orb k (by omega) m hm) (nm_r (nI_1 k) (ih (k + 1) _ (by omega) (by omega) (by omega) (fun x y hxy => ?_)))
        show rb_mk N x y k + (if 0 < rb_V N k x y then 2 ^ k else 0) = _
        have k1 := hV x y hxy
        rw [hmk x y hxy, if_pos (by omega)]
theorem rb_patternOf {post : Int32 → Prop} (hF : ∀ t, t < 6 → rb_F 10000 1000000 (rb_V N t) l0 h0 l1 h1 (a3 t) (a4 t) (a5 t) (a6 t) (a7 t) (a8 t))
    (G1 : ¬ (l0 = h0 ∧ l1 = h1) → post (-1)) (G2 : ∀ m, m < 32 → (∀ x y, rb_in l0 h0 l1 h1 x y → rb_mk N x y 5 = m) → post (nI m)) : wpX_patternOf post (w, b, a1, a2, a3, a4, a5, a6, a7, a8, a9, a10, a11, a12) :=
  ⟨6, rb_po4 hF G1 G2 6 0 0 (by omega) (by omega) (by omega) (fun _ _ _ => rfl)⟩
end
section
variable {post : Int32 → St2 → Prop} {w b : Int32} {a1 a2 a3 a4 a5 a6 a7 a8 a9 a10 a11 a12 : Nat → Int32} {N : Nat → Int} {L0 H0 L1 H1 : Int}
theorem rb_p129 {s : Int32} (H : post (rb_pc s 32) (w, b, a1, a2, a3, a4, a5, a6, a7, a8, a9, a10, a11, a12)) : ∃ n, wX_patterns_129 post s w b a1 a2 a3 a4 a5 a6 a7 a8 a9 a10 a11 a12 n 0 0 := by
  refine pk_loop (fun n i x => wX_patterns_129 post s w b a1 a2 a3 a4 a5 a6 a7 a8 a9 a10 a11 a12 n x (nI i)) (fun i x => x = rb_pc s i) 32 0 0 (by omega) rfl ?_ ?_
  · intro n x h
    refine pk_le 32 32 (fun _ => ?_) (fun z => absurd z (by omega))
    rw [h]
    exact H
  · intro n i x hi h hw
    refine pk_le 32 i (fun z => absurd z (by omega)) (fun _ => nm_r ?_ (nm_r (nI_1 i) (hw _ rfl)))
    rw [rb_ush1 s i hi, h]
    rfl
theorem rb_p27 (hN : rb_N N) (hA : rb_A N a1) (hWW : rb_W L0 H0 L1 H1) (H : ∀ s, rb_seen N L0 H0 L1 H1 s → ∀ (wc bc : Int32) (c2 c3 c4 c5 c6 c7 c8 c9 c10 c11 c12 : Nat → Int32), post (rb_pc s 32) (wc, bc, a1, c2, c3, c4, c5, c6, c7, c8, c9, c10, c11, c12))
    (n : Nat) : ∀ (step : Nat) (st : List rb_X) (s : Int32) (b : Int32) (a2 a3 a4 a5 a6 a7 a8 a9 a10 a11 a12 : Nat → Int32), step + rb_pot st ≤ 2047 → 2048 - step < n → rb_K a9 a10 a11 a12 st → (∀ x y, rb_mem x y st → rb_in L0 H0 L1 H1 x y) →
    (∀ m, m < 32 → bt s m = true → ∃ x y, rb_in L0 H0 L1 H1 x y ∧ rb_mk N x y 5 = m) → (∀ x y, rb_in L0 H0 L1 H1 x y → bt s (rb_mk N x y 5) = true ∨ rb_mem x y st) →
    wX_patterns_27 post n s (nI step) (nI st.length) b a1 a2 a3 a4 a5 a6 a7 a8 a9 a10 a11 a12 := by
  induction n with
  | zero => intro step st s b _ _ _ _ _ _ _ _ _ _ _ _ h; omega
  | succ n ih =>
    intro step st s b a2 a3 a4 a5 a6 a7 a8 a9 a10 a11 a12 hs hn hK hsub hex hcov
    refine pk_le 2048 step (fun z => absurd z (by omega)) (fun _ => ?_)
    cases st with
    | nil =>
      refine pk_le 0 0 (fun _ => rb_p129 (H s (fun m hm => ⟨hex m hm, ?_⟩) _ _ _ _ _ _ _ _ _ _ _ _ _)) (fun z => absurd z (by omega))
      rintro ⟨x, y, hxy, rfl⟩
      exact (hcov x y hxy).elim id False.elim
    | cons bx r =>
      obtain ⟨l0, h0, l1, h1, p, q⟩ := bx
      have hl := rb_K_len hK
      obtain ⟨e9, e10, e11, e12, hW, _, _, _, hr⟩ := rb_K_un hK
      have hi : vp_in (nI r.length) 16 := pk_in r.length 16 (by omega)
      have c0 : (nI r.length).toNatClampNeg = r.length := nI_clamp (by omega)
      refine pk_le (r.length + 1) 0 (fun z => absurd z (by omega)) (fun _ => nm_r (nI_pred r.length) ⟨hi, hi, hi, hi, ?_⟩)
      refine rb_range hN hA hW (by rw [c0]; exact e9) (by rw [c0]; exact e10) (by rw [c0]; exact e11) (by rw [c0]; exact e12) (fun c3 c4 c5 c6 c7 c8 hF => ?_)
      have hpot : step + (rb_pt (p + q) + rb_pot r) ≤ 2047 := hs
      have hpt := rb_pt1 (p + q)
      refine rb_patternOf hF (fun hnp => br_t (by decide) ?_) (fun m hm hmk => br_f (nI_pos (by omega)) (nm_e (nm_r (nI_1 step) ?_)))
      · refine rb_cut hK hnp (fun st c9 c10 c11 c12 k1 k2 _ k4 => nm_r (nI_1 step) ?_)
        have k4' : rb_pot st + 1 ≤ rb_pt (p + q) + rb_pot r := k4
        refine ih (step + 1) st s b _ _ _ _ _ _ _ _ _ _ _ (by omega) (by omega) k1 (fun x y h => hsub x y ((k2 x y).mp h)) hex (fun x y hxy => ?_)
        rcases hcov x y hxy with k | k
        · exact Or.inl k
        · exact Or.inr ((k2 x y).mpr k)
      · have hin : rb_in l0 h0 l1 h1 l0 l1 := by unfold rb_in rb_W at *; omega
        refine ih (step + 1) r _ b _ _ _ _ _ _ _ _ _ _ _ (by omega) (by omega) hr (fun x y h => hsub x y (Or.inr h)) (fun i hi' hb => ?_) (fun x y hxy => ?_)
        · rw [b_or, rb_b1 m hm i hi', Bool.or_eq_true, decide_eq_true_iff] at hb
          rcases hb with hb | hb
          · exact hex i hi' hb
          · exact ⟨l0, l1, hsub l0 l1 (Or.inl hin), by rw [hmk l0 l1 hin, hb]⟩
        · have hlt : rb_mk N x y 5 < 32 := rb_mk_lt N x y 5
          rw [b_or, rb_b1 m hm _ hlt, Bool.or_eq_true, decide_eq_true_iff]
          rcases hcov x y hxy with k | k | k
          · exact Or.inl (Or.inl k)
          · exact Or.inl (Or.inr (hmk x y k))
          · exact Or.inr k
end
end
section
/-! ===== the public methods ===== -/
section
variable {post : Int32 → Prop}
theorem rb_isIv {l h : Int} (hl : -16 ≤ l ∧ l ≤ h ∧ h ≤ 15) {p : Int32} (e : p = rb_i (32 * (l + 16) + h + 16)) (H : post 1) : wpX_isInterval post () p := by
  obtain ⟨n, hn⟩ : ∃ n : Nat, l = (n : Int) - 16 := ⟨(l + 16).toNat, by omega⟩
  obtain ⟨m, hm⟩ : ∃ m : Nat, h = (m : Int) - 16 := ⟨(h + 16).toNat, by omega⟩
  have e' : p = nI (32 * n + m) := by
    rw [e, rb_n]
    exact congrArg rb_i (by omega)
  subst e'
  refine br_f (nI_pos (by omega)) (pk_lt 1023 (32 * n + m) (fun z => absurd z (by omega)) (fun _ => ?_))
  rw [pk_shrN (by omega) _ 5 (by decide), pk_andN (by omega) 5 (by decide)]
  exact pk_lt ((32 * n + m) % 2 ^ 5) ((32 * n + m) / 2 ^ 5) (fun z => absurd z (by omega)) (fun _ => H)
theorem rb_isIn {x : Int} (hx : rb_I x) {p : Int32} (e : p = rb_i x) (H : post 1) : wpX_isInput post () p := by
  unfold rb_I at hx
  exact rb_blt x (-16) (fun z => absurd z (by omega)) (fun _ => rb_ble 16 x (fun z => absurd z (by omega)) (fun _ => H) rfl e) e rfl
theorem rb_around {x : Int} (hx : rb_I x) {r : Nat} (hr : r ≤ 32) (H : ∀ l h : Int, -16 ≤ l ∧ l ≤ h ∧ h ≤ 15 → post (rb_i (32 * (l + 16) + h + 16))) : wpX_around post () (rb_i x) (nI r) := by
  unfold rb_I at hx
  have e32 : (32 : Int32) = rb_i 32 := rfl
  have e16 : (16 : Int32) = rb_i 16 := rfl
  have e15 : (15 : Int32) = rb_i 15 := rfl
  have em : (-16 : Int32) = rb_i (-16) := by decide
  have k33 : ∀ l h : Int, -16 ≤ l → l ≤ h → h ≤ 15 → wX_around_33 post (rb_i l) (rb_i h) := by
    intro l h h1 h2 h3
    unfold wX_around_33
    rw [e32, e16, rb_add, rb_mul, rb_add, rb_add]
    exact H l h ⟨h1, h2, h3⟩
  have k16 : ∀ l : Int, -16 ≤ l → l ≤ x → wX_around_16 post (rb_i x) (nI r) (rb_i l) := by
    intro l h1 h2
    unfold wX_around_16
    rw [rb_n, rb_add, e15]
    exact rb_blt (x + r) 16 (fun z => k33 _ _ h1 (by omega) (by omega)) (fun z => k33 _ _ h1 (by omega) (by omega)) rfl rfl
  have e : rb_i x - nI r = rb_i (x - r) := by rw [rb_n, rb_sub]
  unfold wpX_around
  rw [e, em]
  exact rb_ble (-16) (x - r) (fun z => k16 (x - r) z (by omega)) (fun z => k16 (-16) (by omega) (by omega)) rfl rfl
theorem rb_isOff {j : Nat} (hj : j < 20) (H1 : post 1) (H0 : (j < 6 ∨ 8 < j) → j ≠ 15 → j ≠ 16 → j ≠ 19 → post 0) : wpX_isOffset post () (nI j) := by
  have k12 : (j < 6 ∨ 8 < j) → wX_isOffset_12 post (nI j) := fun h =>
    pk_eq j 15 (fun _ => H1) (fun k1 => pk_eq j 16 (fun _ => H1) (fun k2 => pk_eq j 19 (fun _ => H1) (fun k3 => H0 h k1 k2 k3)))
  exact pk_lt j 6 (fun z => k12 (Or.inl z)) (fun _ => pk_le j 8 (fun _ => H1) (fun z => k12 (Or.inr z)))
end
section
variable {post : Int32 → St2 → Prop} {w b : Int32} {a1 a2 a3 a4 a5 a6 a7 a8 a9 a10 a11 a12 : Nat → Int32} {N : Nat → Int} {L0 H0 L1 H1 : Int}
theorem rb_set {j : Nat} (hj : j < 20) {v : Int} (hv : -8 ≤ v ∧ v ≤ 8) (hv5 : (j < 6 ∨ 8 < j) → j ≠ 15 → j ≠ 16 → j ≠ 19 → -5 ≤ v ∧ v ≤ 5) {p0 p1 : Int32} (e0 : p0 = nI j) (e1 : p1 = rb_i v) (h0 : a1 j = rb_i 0)
    (G0 : v = 0 → post 0 (w, b, upd a1 j (rb_i v), a2, a3, a4, a5, a6, a7, a8, a9, a10, a11, a12)) (G1 : ¬ v = 0 → post 1 (w, b, upd a1 j (rb_i v), a2, a3, a4, a5, a6, a7, a8, a9, a10, a11, a12)) : wpX_set post (w, b, a1, a2, a3, a4, a5, a6, a7, a8, a9, a10, a11, a12) p0 p1 := by
  subst e0 e1
  have hji : vp_in (nI j) 20 := pk_in j 20 hj
  have k55 : ∀ z : Int32, post z (w, b, upd a1 j (rb_i v), a2, a3, a4, a5, a6, a7, a8, a9, a10, a11, a12) → wX_set_55 post (nI j) (rb_i v) z w b a1 a2 a3 a4 a5 a6 a7 a8 a9 a10 a11 a12 := by
    intro z hz
    unfold wX_set_55
    rw [nI_clamp (show j < 2 ^ 31 by omega)]
    exact ⟨hji, nm_e hz⟩
  have k25 : ∀ z : Int, 5 ≤ z → z ≤ 50 → -z ≤ v → v ≤ z → wX_set_25 post (nI j) (rb_i v) (rb_i z) w b a1 a2 a3 a4 a5 a6 a7 a8 a9 a10 a11 a12 := by
    intro z z1 z2 z3 z4
    unfold wX_set_25
    rw [nI_clamp (show j < 2 ^ 31 by omega), rb_neg]
    exact rb_blt v (-z) (fun c => absurd c (by omega)) (fun _ => rb_ble v z (fun _ => ⟨hji, rb_beq 0 v (fun c => k55 0 (G0 c.symm)) (fun c => k55 1 (G1 (fun c' => c c'.symm))) h0 rfl⟩) (fun c => absurd c (by omega)) rfl rfl) rfl rfl
  unfold wpX_set
  dsimp only
  refine br_f (nI_pos (by omega)) (pk_le j 19 (fun _ => ?_) (fun z => absurd z (by omega)))
  refine rb_isOff hj (br_f (by decide) (k25 50 (by omega) (by omega) (by omega) (by omega))) (fun k1 k2 k3 k4 => br_t rfl ?_)
  have k5 := hv5 k1 k2 k3 k4
  exact k25 5 (by omega) (by omega) (by omega) (by omega)
theorem rb_result (hN : rb_N N) (hA : rb_A N a1) {x y : Int} (hx : rb_I x) (hy : rb_I y) {p0 p1 : Int32} (e0 : p0 = rb_i x) (e1 : p1 = rb_i y)
    (H : ∀ (wc bc : Int32) (c2 c3 c4 c5 c6 c7 c8 c9 c10 c11 c12 : Nat → Int32), post (rb_i (rb_V N 5 x y)) (wc, bc, a1, c2, c3, c4, c5, c6, c7, c8, c9, c10, c11, c12)) : wpX_result post (w, b, a1, a2, a3, a4, a5, a6, a7, a8, a9, a10, a11, a12) p0 p1 := by
  unfold wpX_result
  dsimp only
  refine rb_isIn hx e0 (br_f (by decide) (rb_isIn hy e1 (br_f (by decide) (rb_work hN hA hx hy e0 e1 (fun c2 hc => ?_)))))
  dsimp only
  rw [hc 5 (by omega)]
  exact H _ _ _ _ _ _ _ _ _ _ _ _ _
theorem rb_unit (hN : rb_N N) (hA : rb_A N a1) {u : Nat} (hu : u < 5) {x y : Int} (hx : rb_I x) (hy : rb_I y) {p0 p1 p2 : Int32} (e0 : p0 = nI u) (e1 : p1 = rb_i x) (e2 : p2 = rb_i y)
    (H : ∀ (wc bc : Int32) (c2 c3 c4 c5 c6 c7 c8 c9 c10 c11 c12 : Nat → Int32), post (rb_i (rb_r (rb_V N u x y))) (wc, bc, a1, c2, c3, c4, c5, c6, c7, c8, c9, c10, c11, c12)) : wpX_unit post (w, b, a1, a2, a3, a4, a5, a6, a7, a8, a9, a10, a11, a12) p0 p1 p2 := by
  subst e0
  have hui : vp_in (nI u) 6 := pk_in u 6 (by omega)
  have hb := rb_V_b hN (t := u) hx hy
  unfold wpX_unit
  dsimp only
  refine br_f (nI_pos (by omega)) (pk_le u 4 (fun _ => ?_) (fun z => absurd z (by omega)))
  refine rb_isIn hx e1 (br_f (by decide) (rb_isIn hy e2 (br_f (by decide) (rb_work hN hA hx hy e1 e2 (fun c2 hc => ?_)))))
  dsimp only
  rw [nI_clamp (show u < 2 ^ 31 by omega), hc u (by omega)]
  refine ⟨hui, ?_⟩
  refine rb_ble (rb_V N u x y) 0 (fun z => ?_) (fun z => ⟨hui, ?_⟩) rfl rfl
  · rw [rb_r_le z] at H
    exact H _ _ _ _ _ _ _ _ _ _ _ _ _
  · rw [rb_r_gt z] at H
    exact H _ _ _ _ _ _ _ _ _ _ _ _ _
theorem rb_most (hN : rb_N N) (hA : rb_A N a1) (hW : rb_W L0 H0 L1 H1) {p0 p1 : Int32} (e0 : p0 = rb_i (32 * (L0 + 16) + H0 + 16)) (e1 : p1 = rb_i (32 * (L1 + 16) + H1 + 16))
    (H : ∀ β, (∃ x y, rb_in L0 H0 L1 H1 x y ∧ rb_V N 5 x y = β) → (∀ x y, rb_in L0 H0 L1 H1 x y → rb_V N 5 x y ≤ β) → ∀ (wc bc : Int32) (c2 c3 c4 c5 c6 c7 c8 c9 c10 c11 c12 : Nat → Int32), post (rb_i β) (wc, bc, a1, c2, c3, c4, c5, c6, c7, c8, c9, c10, c11, c12)) : wpX_most post (w, b, a1, a2, a3, a4, a5, a6, a7, a8, a9, a10, a11, a12) p0 p1 := by
  have hW' := hW
  unfold rb_W at hW'
  unfold wpX_most
  dsimp only
  refine rb_isIv (by omega) e0 (br_f (by decide) (rb_isIv (by omega) e1 (br_f (by decide) (rb_extreme (t := 5) (sg := 1) hN hA hW (by omega) (Or.inl rfl) e0 e1 rfl rfl (fun β h1 h2 wc bc c2 c3 c4 c5 c6 c7 c8 c9 c10 c11 c12 => ?_)))))
  refine H β ?_ (fun x y hxy => ?_) wc bc c2 c3 c4 c5 c6 c7 c8 c9 c10 c11 c12
  · obtain ⟨x, y, hxy, e⟩ := h1
    exact ⟨x, y, hxy, by omega⟩
  · have := h2 x y hxy
    omega
theorem rb_least (hN : rb_N N) (hA : rb_A N a1) (hW : rb_W L0 H0 L1 H1) {p0 p1 : Int32} (e0 : p0 = rb_i (32 * (L0 + 16) + H0 + 16)) (e1 : p1 = rb_i (32 * (L1 + 16) + H1 + 16))
    (H : ∀ β, (∃ x y, rb_in L0 H0 L1 H1 x y ∧ rb_V N 5 x y = β) → (∀ x y, rb_in L0 H0 L1 H1 x y → β ≤ rb_V N 5 x y) → ∀ (wc bc : Int32) (c2 c3 c4 c5 c6 c7 c8 c9 c10 c11 c12 : Nat → Int32), post (rb_i β) (wc, bc, a1, c2, c3, c4, c5, c6, c7, c8, c9, c10, c11, c12)) : wpX_least post (w, b, a1, a2, a3, a4, a5, a6, a7, a8, a9, a10, a11, a12) p0 p1 := by
  have hW' := hW
  unfold rb_W at hW'
  unfold wpX_least
  dsimp only
  refine rb_isIv (by omega) e0 (br_f (by decide) (rb_isIv (by omega) e1 (br_f (by decide) (rb_extreme (t := 5) (sg := -1) hN hA hW (by omega) (Or.inr rfl) e0 e1 rfl rfl (fun β h1 h2 wc bc c2 c3 c4 c5 c6 c7 c8 c9 c10 c11 c12 => ?_)))))
  dsimp only
  rw [rb_neg]
  refine H (-β) ?_ (fun x y hxy => ?_) wc bc c2 c3 c4 c5 c6 c7 c8 c9 c10 c11 c12
  · obtain ⟨x, y, hxy, e⟩ := h1
    exact ⟨x, y, hxy, by omega⟩
  · have := h2 x y hxy
    omega
theorem rb_mostAt (hN : rb_N N) (hA : rb_A N a1) (hW : rb_W L0 H0 L1 H1) {p0 p1 : Int32} (e0 : p0 = rb_i (32 * (L0 + 16) + H0 + 16)) (e1 : p1 = rb_i (32 * (L1 + 16) + H1 + 16))
    (H : ∀ β r, (∃ x y, rb_in L0 H0 L1 H1 x y ∧ rb_V N 5 x y = β) → (∀ x y, rb_in L0 H0 L1 H1 x y → rb_V N 5 x y ≤ β) → rb_FA N L0 H0 L1 H1 (β - 1) r → ∀ (wc bc : Int32) (c2 c3 c4 c5 c6 c7 c8 c9 c10 c11 c12 : Nat → Int32), post r (wc, bc, a1, c2, c3, c4, c5, c6, c7, c8, c9, c10, c11, c12)) : wpX_mostAt post (w, b, a1, a2, a3, a4, a5, a6, a7, a8, a9, a10, a11, a12) p0 p1 := by
  have hW' := hW
  unfold rb_W at hW'
  unfold wpX_mostAt
  dsimp only
  refine rb_isIv (by omega) e0 (br_f (by decide) (rb_isIv (by omega) e1 (br_f (by decide) (rb_extreme (t := 5) (sg := 1) hN hA hW (by omega) (Or.inl rfl) e0 e1 rfl rfl (fun β h1 h2 wc bc c2 c3 c4 c5 c6 c7 c8 c9 c10 c11 c12 => ?_)))))
  have h1' : ∃ x y, rb_in L0 H0 L1 H1 x y ∧ rb_V N 5 x y = β := by
    obtain ⟨x, y, hxy, e⟩ := h1
    exact ⟨x, y, hxy, by omega⟩
  have hb : -101512 ≤ β ∧ β ≤ 101512 := by
    obtain ⟨x, y, hxy, e⟩ := h1'
    have k := rb_in_I hW hxy
    have k2 := rb_V_b hN (t := 5) k.1 k.2
    omega
  refine rb_firstAbove (lim := β - 1) hN hA hW (by omega) e0 e1 (rb_sub β 1) (fun r hr wd bd d2 d3 d4 d5 d6 d7 d8 d9 d10 d11 d12 => ?_)
  exact H β r h1' (fun x y hxy => by have := h2 x y hxy; omega) hr wd bd d2 d3 d4 d5 d6 d7 d8 d9 d10 d11 d12
theorem rb_breach (hN : rb_N N) (hA : rb_A N a1) (hW : rb_W L0 H0 L1 H1) {lim : Int} (hlim : -1000000 ≤ lim ∧ lim ≤ 1000000) {p0 p1 p2 : Int32} (e0 : p0 = rb_i (32 * (L0 + 16) + H0 + 16)) (e1 : p1 = rb_i (32 * (L1 + 16) + H1 + 16)) (e2 : p2 = rb_i lim)
    (H : ∀ r, rb_FA N L0 H0 L1 H1 lim r → ∀ (wc bc : Int32) (c2 c3 c4 c5 c6 c7 c8 c9 c10 c11 c12 : Nat → Int32), post r (wc, bc, a1, c2, c3, c4, c5, c6, c7, c8, c9, c10, c11, c12)) : wpX_breach post (w, b, a1, a2, a3, a4, a5, a6, a7, a8, a9, a10, a11, a12) p0 p1 p2 := by
  have hW' := hW
  unfold rb_W at hW'
  unfold wpX_breach
  dsimp only
  exact rb_isIv (by omega) e0 (br_f (by decide) (rb_isIv (by omega) e1 (br_f (by decide) (rb_firstAbove hN hA hW hlim e0 e1 e2 (fun r hr wc bc c2 c3 c4 c5 c6 c7 c8 c9 c10 c11 c12 => H r hr wc bc c2 c3 c4 c5 c6 c7 c8 c9 c10 c11 c12)))))
theorem rb_safe (hN : rb_N N) (hA : rb_A N a1) (hW : rb_W L0 H0 L1 H1) {lim : Int} (hlim : -1000000 ≤ lim ∧ lim ≤ 1000000) {p0 p1 p2 : Int32} (e0 : p0 = rb_i (32 * (L0 + 16) + H0 + 16)) (e1 : p1 = rb_i (32 * (L1 + 16) + H1 + 16)) (e2 : p2 = rb_i lim)
    (G1 : rb_FA N L0 H0 L1 H1 lim (-2) → ∀ (wc bc : Int32) (c2 c3 c4 c5 c6 c7 c8 c9 c10 c11 c12 : Nat → Int32), post 1 (wc, bc, a1, c2, c3, c4, c5, c6, c7, c8, c9, c10, c11, c12)) (G0 : ∀ r, rb_FA N L0 H0 L1 H1 lim r → ¬ r = -2 → ∀ (wc bc : Int32) (c2 c3 c4 c5 c6 c7 c8 c9 c10 c11 c12 : Nat → Int32), post 0 (wc, bc, a1, c2, c3, c4, c5, c6, c7, c8, c9, c10, c11, c12)) : wpX_safe post (w, b, a1, a2, a3, a4, a5, a6, a7, a8, a9, a10, a11, a12) p0 p1 p2 := by
  have hW' := hW
  unfold rb_W at hW'
  unfold wpX_safe
  dsimp only
  exact rb_isIv (by omega) e0 (br_f (by decide) (rb_isIv (by omega) e1 (br_f (by decide) (rb_firstAbove hN hA hW hlim e0 e1 e2 (fun r hr wc bc c2 c3 c4 c5 c6 c7 c8 c9 c10 c11 c12 => br_c (fun z => G1 (z ▸ hr) wc bc c2 c3 c4 c5 c6 c7 c8 c9 c10 c11 c12) (fun z => G0 r hr z wc bc c2 c3 c4 c5 c6 c7 c8 c9 c10 c11 c12))))))
theorem rb_fixed (hN : rb_N N) (hA : rb_A N a1) (hW : rb_W L0 H0 L1 H1) {u : Nat} (hu : u < 5) {p0 p1 p2 : Int32} (eu : p0 = nI u) (e0 : p1 = rb_i (32 * (L0 + 16) + H0 + 16)) (e1 : p2 = rb_i (32 * (L1 + 16) + H1 + 16))
    (G1 : (∀ x y, rb_in L0 H0 L1 H1 x y → rb_V N u x y ≤ 0) → ∀ (wc bc : Int32) (c2 c3 c4 c5 c6 c7 c8 c9 c10 c11 c12 : Nat → Int32), post 1 (wc, bc, a1, c2, c3, c4, c5, c6, c7, c8, c9, c10, c11, c12))
    (G2 : (∀ x y, rb_in L0 H0 L1 H1 x y → 0 < rb_V N u x y) → ∀ (wc bc : Int32) (c2 c3 c4 c5 c6 c7 c8 c9 c10 c11 c12 : Nat → Int32), post 2 (wc, bc, a1, c2, c3, c4, c5, c6, c7, c8, c9, c10, c11, c12))
    (G0 : (∃ x y, rb_in L0 H0 L1 H1 x y ∧ 0 < rb_V N u x y) → (∃ x y, rb_in L0 H0 L1 H1 x y ∧ rb_V N u x y ≤ 0) → ∀ (wc bc : Int32) (c2 c3 c4 c5 c6 c7 c8 c9 c10 c11 c12 : Nat → Int32), post 0 (wc, bc, a1, c2, c3, c4, c5, c6, c7, c8, c9, c10, c11, c12)) : wpX_fixed post (w, b, a1, a2, a3, a4, a5, a6, a7, a8, a9, a10, a11, a12) p0 p1 p2 := by
  subst eu
  have hW' := hW
  unfold rb_W at hW'
  have hbd : ∀ {sg β : Int}, (sg = 1 ∨ sg = -1) → (∃ x y, rb_in L0 H0 L1 H1 x y ∧ sg * rb_V N u x y = β) → -101512 ≤ β ∧ β ≤ 101512 := by
    rintro sg β hsg ⟨x, y, hxy, e⟩
    have k := rb_in_I hW hxy
    have k2 := rb_V_b hN (t := u) k.1 k.2
    rcases hsg with rfl | rfl <;> omega
  unfold wpX_fixed
  dsimp only
  refine br_f (nI_pos (by omega)) (pk_le u 4 (fun _ => ?_) (fun z => absurd z (by omega)))
  refine rb_isIv (by omega) e0 (br_f (by decide) (rb_isIv (by omega) e1 (br_f (by decide) (rb_extreme (t := u) (sg := 1) hN hA hW (by omega) (Or.inl rfl) e0 e1 rfl rfl (fun β h1 h2 wc bc c2 c3 c4 c5 c6 c7 c8 c9 c10 c11 c12 => ?_)))))
  have kb := hbd (Or.inl rfl) h1
  refine rb_blt 0 β (fun z => ?_) (fun z => ?_) rfl rfl (by omega) (by omega)
  · refine rb_extreme (t := u) (sg := -1) hN hA hW (by omega) (Or.inr rfl) e0 e1 rfl rfl (fun γ g1 g2 wd bd d2 d3 d4 d5 d6 d7 d8 d9 d10 d11 d12 => nm_r (rb_neg γ) ?_)
    have kg := hbd (Or.inr rfl) g1
    refine rb_ble (-γ) 0 (fun z' => ?_) (fun z' => ?_) rfl rfl (by omega) (by omega)
    · refine G0 ?_ ?_ wd bd d2 d3 d4 d5 d6 d7 d8 d9 d10 d11 d12
      · obtain ⟨x, y, hxy, e⟩ := h1
        exact ⟨x, y, hxy, by omega⟩
      · obtain ⟨x, y, hxy, e⟩ := g1
        exact ⟨x, y, hxy, by omega⟩
    · refine G2 (fun x y hxy => ?_) wd bd d2 d3 d4 d5 d6 d7 d8 d9 d10 d11 d12
      have := g2 x y hxy
      omega
  · refine G1 (fun x y hxy => ?_) wc bc c2 c3 c4 c5 c6 c7 c8 c9 c10 c11 c12
    have := h2 x y hxy
    omega
theorem rb_fixed5 {p1 p2 : Int32} (H : post (-1) (w, b, a1, a2, a3, a4, a5, a6, a7, a8, a9, a10, a11, a12)) : wpX_fixed post (w, b, a1, a2, a3, a4, a5, a6, a7, a8, a9, a10, a11, a12) 5 p1 p2 := by
  unfold wpX_fixed
  dsimp only
  exact br_f (by decide) (br_f (by decide) H)
theorem rb_patterns (hN : rb_N N) (hA : rb_A N a1) (hW : rb_W L0 H0 L1 H1) {p0 p1 : Int32} (e0 : p0 = rb_i (32 * (L0 + 16) + H0 + 16)) (e1 : p1 = rb_i (32 * (L1 + 16) + H1 + 16))
    (H : ∀ s, rb_seen N L0 H0 L1 H1 s → ∀ (wc bc : Int32) (c2 c3 c4 c5 c6 c7 c8 c9 c10 c11 c12 : Nat → Int32), post (rb_pc s 32) (wc, bc, a1, c2, c3, c4, c5, c6, c7, c8, c9, c10, c11, c12)) : wpX_patterns post (w, b, a1, a2, a3, a4, a5, a6, a7, a8, a9, a10, a11, a12) p0 p1 := by
  have hW' := hW
  unfold rb_W at hW'
  unfold wpX_patterns
  dsimp only
  refine rb_isIv (by omega) e0 (br_f (by decide) (rb_isIv (by omega) e1 (br_f (by decide) (rb_open hW e0 e1 (fun c9 c10 c11 c12 hK => ⟨2049, ?_⟩)))))
  refine rb_p27 hN hA hW H 2049 0 [(L0, H0, L1, H1, 5, 5)] 0 _ _ _ _ _ _ _ _ _ _ _ _ ?_ (by omega) hK ?_ ?_ (fun x y hxy => Or.inr (Or.inl hxy))
  · show 0 + (rb_pt 10 + 0) ≤ 2047
    decide
  · rintro x y (h | h)
    · exact h
    · exact h.elim
  · intro m _ hb
    rw [b_0] at hb
    exact absurd hb (by decide)
theorem rb_patterns32 {p1 : Int32} (H : post (-1) (w, b, a1, a2, a3, a4, a5, a6, a7, a8, a9, a10, a11, a12)) : wpX_patterns post (w, b, a1, a2, a3, a4, a5, a6, a7, a8, a9, a10, a11, a12) 32 p1 := by
  unfold wpX_patterns
  dsimp only
  exact br_f (by decide) (br_f (by decide) (br_t (by decide) (br_t rfl H)))
theorem rb_radius16 {p1 p2 : Int32} (H : post (-1) (w, b, a1, a2, a3, a4, a5, a6, a7, a8, a9, a10, a11, a12)) : wpX_radius post (w, b, a1, a2, a3, a4, a5, a6, a7, a8, a9, a10, a11, a12) 16 p1 p2 := by
  unfold wpX_radius
  dsimp only
  exact br_f (by decide) (br_t (by decide) (br_t rfl H))
theorem rb_rad45 (hN : rb_N N) (hA : rb_A N a1) {x y lim : Int} (hx : rb_I x) (hy : rb_I y) (hlim : -1000000 ≤ lim ∧ lim ≤ 1000000) (H : ∀ g : Nat, g ≤ 32 → ∀ (wc bc : Int32) (c2 c3 c4 c5 c6 c7 c8 c9 c10 c11 c12 : Nat → Int32), post (nI g) (wc, bc, a1, c2, c3, c4, c5, c6, c7, c8, c9, c10, c11, c12))
    (n : Nat) : ∀ (k g d : Nat) (w b : Int32) (a2 a3 a4 a5 a6 a7 a8 a9 a10 a11 a12 : Nat → Int32), k ≤ 6 → 6 - k < n → g ≤ d → d ≤ 32 → wX_radius_45 post (rb_i x) (rb_i y) (rb_i lim) n (nI g) (nI d) (nI k) w b a1 a2 a3 a4 a5 a6 a7 a8 a9 a10 a11 a12 := by
  induction n with
  | zero => intro k g d _ _ _ _ _ _ _ _ _ _ _ _ _ _ h; omega
  | succ n ih =>
    intro k g d w b a2 a3 a4 a5 a6 a7 a8 a9 a10 a11 a12 hk hn hg hd
    have e1 : nI d - nI g = nI (d - g) := pk_sub hg
    refine pk_le 6 k (fun _ => H g (by omega) _ _ _ _ _ _ _ _ _ _ _ _ _) (fun _ => pk_le (d - g) 1 (fun _ => H g (by omega) _ _ _ _ _ _ _ _ _ _ _ _ _) (fun _ => nm_r (e' := nI ((g + d) / 2)) ?_ ?_) e1 rfl)
    · rw [nI_add, pk_shrN (by omega) _ 1 (by decide)]
    · refine rb_around hx (by omega) (fun l0 h0 hl0 => rb_around hy (by omega) (fun l1 h1 hl1 => ?_))
      refine rb_firstAbove (L0 := l0) (H0 := h0) (L1 := l1) (H1 := h1) hN hA (by unfold rb_W; omega) hlim rfl rfl rfl (fun r _ wc bc c2 c3 c4 c5 c6 c7 c8 c9 c10 c11 c12 => br_c (fun _ => nm_r (nI_1 k) ?_) (fun _ => nm_r (nI_1 k) ?_))
      · exact ih (k + 1) _ _ _ _ _ _ _ _ _ _ _ _ _ _ _ (by omega) (by omega) (by omega) (by omega)
      · exact ih (k + 1) _ _ _ _ _ _ _ _ _ _ _ _ _ _ _ (by omega) (by omega) (by omega) (by omega)
theorem rb_radius (hN : rb_N N) (hA : rb_A N a1) {x y lim : Int} (hx : rb_I x) (hy : rb_I y) (hlim : -1000000 ≤ lim ∧ lim ≤ 1000000) {p0 p1 p2 : Int32} (e0 : p0 = rb_i x) (e1 : p1 = rb_i y) (e2 : p2 = rb_i lim)
    (G1 : lim < rb_V N 5 x y → ∀ (wc bc : Int32) (c2 c3 c4 c5 c6 c7 c8 c9 c10 c11 c12 : Nat → Int32), post (-2) (wc, bc, a1, c2, c3, c4, c5, c6, c7, c8, c9, c10, c11, c12)) (G0 : rb_V N 5 x y ≤ lim → ∀ g : Nat, g ≤ 32 → ∀ (wc bc : Int32) (c2 c3 c4 c5 c6 c7 c8 c9 c10 c11 c12 : Nat → Int32), post (nI g) (wc, bc, a1, c2, c3, c4, c5, c6, c7, c8, c9, c10, c11, c12)) : wpX_radius post (w, b, a1, a2, a3, a4, a5, a6, a7, a8, a9, a10, a11, a12) p0 p1 p2 := by
  subst e0 e1 e2
  have hb := rb_V_b hN (t := 5) hx hy
  unfold wpX_radius
  dsimp only
  refine rb_isIn hx rfl (br_f (by decide) (rb_isIn hy rfl (br_f (by decide) (rb_work hN hA hx hy rfl rfl (fun c2 hc => ?_)))))
  refine rb_ble (rb_V N 5 x y) lim (fun z => ⟨7, ?_⟩) (fun z => ?_) (hc 5 (by omega)) rfl (by omega) (by omega)
  · exact rb_rad45 hN hA hx hy hlim (G0 z) 7 0 0 32 _ _ _ _ _ _ _ _ _ _ _ _ _ (by omega) (by omega) (by omega) (by omega)
  · exact G1 z _ _ _ _ _ _ _ _ _ _ _ _ _
end
end
section
/-! ===== the law's own number, unit and result ===== -/
def rb_num (p q r : Int32) (j : Nat) : Int32 :=
  if 6 ≤ j then
    if 9 ≤ j then
      if 15 ≤ j then
        if 17 ≤ j then
          if 19 ≤ j then ((r >>> ((6 : Int32) &&& 31)) &&& 15) - 8 else ((r >>> (((3 * nI j) - 51) &&& 31)) &&& 7) - 3
        else ((q >>> ((18 + (4 * (nI j - 15))) &&& 31)) &&& 15) - 8
      else ((q >>> (((3 * nI j) - 27) &&& 31)) &&& 7) - 3
    else ((p >>> ((18 + (4 * (nI j - 6))) &&& 31)) &&& 15) - 8
  else ((p >>> ((3 * nI j) &&& 31)) &&& 7) - 3
def rb_NN (p q r : Int32) (j : Nat) : Int := (rb_num p q r j).toInt
theorem rb_m7 (x : Int32) : -3 ≤ ((x &&& 7) - 3).toInt ∧ ((x &&& 7) - 3).toInt ≤ 4 := by
  obtain ⟨j, hj, e⟩ := pk_andE x (m := 7) 3 (by decide)
  have e3 : (3 : Int32) = rb_i 3 := rfl
  rw [e, rb_n, e3, rb_sub, rb_t (by omega) (by omega)]
  omega
theorem rb_m15 (x : Int32) : -8 ≤ ((x &&& 15) - 8).toInt ∧ ((x &&& 15) - 8).toInt ≤ 7 := by
  obtain ⟨j, hj, e⟩ := pk_andE x (m := 15) 4 (by decide)
  have e8 : (8 : Int32) = rb_i 8 := rfl
  rw [e, rb_n, e8, rb_sub, rb_t (by omega) (by omega)]
  omega
theorem rb_NN_b (p q r : Int32) (j : Nat) : -8 ≤ rb_NN p q r j ∧ rb_NN p q r j ≤ 8 := by
  have k7 : ∀ x : Int32, -8 ≤ ((x &&& 7) - 3).toInt ∧ ((x &&& 7) - 3).toInt ≤ 8 := fun x => by have := rb_m7 x; omega
  have k15 : ∀ x : Int32, -8 ≤ ((x &&& 15) - 8).toInt ∧ ((x &&& 15) - 8).toInt ≤ 8 := fun x => by have := rb_m15 x; omega
  unfold rb_NN rb_num
  by_cases h6 : 6 ≤ j
  · rw [if_pos h6]
    by_cases h9 : 9 ≤ j
    · rw [if_pos h9]
      by_cases h15 : 15 ≤ j
      · rw [if_pos h15]
        by_cases h17 : 17 ≤ j
        · rw [if_pos h17]
          by_cases h19 : 19 ≤ j
          · rw [if_pos h19]; exact k15 _
          · rw [if_neg h19]; exact k7 _
        · rw [if_neg h17]; exact k15 _
      · rw [if_neg h15]; exact k7 _
    · rw [if_neg h9]; exact k15 _
  · rw [if_neg h6]; exact k7 _
theorem rb_NN_5 (p q r : Int32) (j : Nat) (hj : j < 20) (h1 : j < 6 ∨ 8 < j) (h2 : j ≠ 15) (h3 : j ≠ 16) (h4 : j ≠ 19) : -5 ≤ rb_NN p q r j ∧ rb_NN p q r j ≤ 5 := by
  have k7 : ∀ x : Int32, -5 ≤ ((x &&& 7) - 3).toInt ∧ ((x &&& 7) - 3).toInt ≤ 5 := fun x => by have := rb_m7 x; omega
  unfold rb_NN rb_num
  by_cases h6 : 6 ≤ j
  · rw [if_pos h6, if_pos (show 9 ≤ j by omega)]
    by_cases h15 : 15 ≤ j
    · rw [if_pos h15, if_pos (show 17 ≤ j by omega), if_neg (show ¬ 19 ≤ j by omega)]
      exact k7 _
    · rw [if_neg h15]; exact k7 _
  · rw [if_neg h6]; exact k7 _
theorem rb_NN_N (p q r : Int32) : rb_N (rb_NN p q r) := fun j _ => rb_NN_b p q r j
section
variable {post : Int32 → Prop} {p q r : Int32} {x y : Int}
theorem rb_number {j : Nat} (hj : j < 20) {p3 : Int32} (e : p3 = nI j) (H : post (rb_i (rb_NN p q r j))) : wpL_number post () p q r p3 := by
  subst e
  unfold rb_NN at H
  rw [← rb_self] at H
  unfold rb_num at H
  refine pk_le 6 j (fun h6 => ?_) (fun h6 => ?_)
  · rw [if_pos h6] at H
    refine pk_le 9 j (fun h9 => ?_) (fun h9 => ?_)
    · rw [if_pos h9] at H
      refine pk_le 15 j (fun h15 => ?_) (fun h15 => ?_)
      · rw [if_pos h15] at H
        refine pk_le 17 j (fun h17 => ?_) (fun h17 => ?_)
        · rw [if_pos h17] at H
          refine pk_le 19 j (fun h19 => ?_) (fun h19 => ?_)
          · rw [if_pos h19] at H
            exact H
          · rw [if_neg (by omega)] at H
            exact H
        · rw [if_neg (by omega)] at H
          exact H
      · rw [if_neg (by omega)] at H
        exact H
    · rw [if_neg (by omega)] at H
      exact H
  · rw [if_neg (by omega)] at H
    exact H
theorem rb_u148 {v : Int} (hv : -1000000 ≤ v ∧ v ≤ 1000000) (H : post (rb_i (rb_r v))) : wL_unit_148 post (rb_i v) := by
  refine rb_ble v 0 (fun z => ?_) (fun z => ?_) rfl rfl
  · rw [rb_r_le z] at H
    exact H
  · rw [rb_r_gt z] at H
    exact H
theorem rb_u68 {k : Nat} (hk : k < 2) (hx : rb_I x) (hy : rb_I y) (H : post (rb_i (rb_r (rb_g (rb_NN p q r) k x y)))) : ∃ n, wL_unit_68 post p q r (nI (3 + k)) (rb_i x) (rb_i y) n (rb_i (rb_NN p q r (15 + k))) 0 := by
  have hN := rb_NN_N p q r
  refine pk_loop (fun n i s => wL_unit_68 post p q r (nI (3 + k)) (rb_i x) (rb_i y) n s (nI i)) (fun i s => s = rb_i (rb_gp (rb_NN p q r) k x y i)) 3 0 _ (by omega) rfl ?_ ?_
  · intro n s h
    have hb := rb_g_b hN hk hx hy
    refine pk_le 3 3 (fun _ => ?_) (fun z => absurd z (by omega))
    rw [h]
    exact rb_u148 (by unfold rb_g at hb; omega) H
  · intro n i s hi h hw
    have e2 : 2 * nI i = nI (2 * i) := pk_mul 2 i
    have e21 : 2 * nI i + 1 = nI (2 * i + 1) := by rw [e2, nI_1]
    have e6 : 6 + nI i = nI (6 + i) := nI_add 6 i
    have e9 : (3 * nI (3 + k)) + nI i = nI (9 + 3 * k + i) := by
      rw [show (3 : Int32) * nI (3 + k) = nI (3 * (3 + k)) from pk_mul 3 (3 + k), nI_add]
      exact congrArg nI (by omega)
    have hb := rb_h_b hN hi hx hy
    refine pk_le 3 i (fun z => absurd z (by omega)) (fun _ => rb_number (by omega) e2 (rb_number (by omega) e21 (rb_number (by omega) e6 (nm_r (e' := rb_i (rb_h (rb_NN p q r) i x y)) ?_ ?_))))
    · rw [rb_mul, rb_mul, rb_add, rb_add]
      rfl
    · refine rb_ble (rb_h (rb_NN p q r) i x y) 0 (fun z => nm_r (nI_1 i) (hw _ ?_)) (fun z => rb_number (by omega) e9 (nm_r ?_ (nm_r (nI_1 i) (hw _ rfl)))) rfl rfl
      · rw [h]
        show _ = rb_i (rb_gp (rb_NN p q r) k x y i + rb_NN p q r (9 + 3 * k + i) * rb_r (rb_h (rb_NN p q r) i x y))
        rw [rb_r_le z, Int.mul_zero, Int.add_zero]
      · rw [h, rb_mul, rb_add]
        show _ = rb_i (rb_gp (rb_NN p q r) k x y i + rb_NN p q r (9 + 3 * k + i) * rb_r (rb_h (rb_NN p q r) i x y))
        rw [rb_r_gt z]
theorem rb_lunit {u : Nat} (hu : u < 5) (hx : rb_I x) (hy : rb_I y) {p3 : Int32} (e : p3 = nI u) (H : post (rb_i (rb_r (rb_V (rb_NN p q r) u x y)))) : wpL_unit post () p q r p3 (rb_i x) (rb_i y) := by
  subst e
  have hN := rb_NN_N p q r
  refine pk_le 3 u (fun z => ?_) (fun z => ?_)
  · obtain ⟨k, rfl⟩ : ∃ k, u = 3 + k := ⟨u - 3, by omega⟩
    rw [rb_V3 (by omega)] at H
    have e12 : 12 + nI (3 + k) = nI (15 + k) := by
      rw [show (12 : Int32) = nI 12 from rfl, nI_add]
      exact congrArg nI (by omega)
    exact pk_le (3 + k) 2 (fun z' => absurd z' (by omega)) (fun _ => rb_number (by omega) e12 (rb_u68 (by omega) hx hy H))
  · rw [rb_V0 z] at H
    have e2 : 2 * nI u = nI (2 * u) := pk_mul 2 u
    have e21 : 2 * nI u + 1 = nI (2 * u + 1) := by rw [e2, nI_1]
    have e6 : 6 + nI u = nI (6 + u) := nI_add 6 u
    have hb := rb_h_b hN z hx hy
    refine rb_number (by omega) e2 (rb_number (by omega) e21 (rb_number (by omega) e6 (nm_r (e' := rb_i (rb_h (rb_NN p q r) u x y)) ?_ (pk_le u 2 (fun _ => rb_u148 (by omega) H) (fun z' => absurd z' (by omega))))))
    rw [rb_mul, rb_mul, rb_add, rb_add]
    rfl
theorem rb_lresult (hx : rb_I x) (hy : rb_I y) (H : post (rb_i (rb_V (rb_NN p q r) 5 x y))) : wpL_result post () p q r (rb_i x) (rb_i y) := by
  refine rb_lunit (u := 3) (by omega) hx hy rfl (rb_lunit (u := 4) (by omega) hx hy rfl (rb_number (j := 17) (by omega) rfl (rb_number (j := 18) (by omega) rfl (rb_number (j := 19) (by omega) rfl ?_))))
  rw [rb_mul, rb_mul, rb_add, rb_add]
  have e : rb_NN p q r 17 * rb_r (rb_V (rb_NN p q r) 3 x y) + rb_NN p q r 18 * rb_r (rb_V (rb_NN p q r) 4 x y) + rb_NN p q r 19 = rb_V (rb_NN p q r) 5 x y := by
    show rb_NN p q r 17 * rb_r (rb_g (rb_NN p q r) 0 x y) + rb_NN p q r 18 * rb_r (rb_g (rb_NN p q r) 1 x y) + rb_NN p q r 19 = rb_NN p q r 19 + rb_NN p q r 17 * rb_r (rb_g (rb_NN p q r) 0 x y) + rb_NN p q r 18 * rb_r (rb_g (rb_NN p q r) 1 x y)
    generalize rb_NN p q r 17 * rb_r (rb_g (rb_NN p q r) 0 x y) = u1
    generalize rb_NN p q r 18 * rb_r (rb_g (rb_NN p q r) 1 x y) = u2
    omega
  rw [e]
  exact H
end
end
section
/-! ===== what the law gathers over the pairs D that it has seen ===== -/
def rb_cd (x y : Int) : Int32 := rb_i (32 * (x + 16) + y + 16)
def rb_aM (N : Nat → Int) (D : Int → Int → Prop) (mo : Int) (at' : Int32) : Prop := rb_bd 1000000 mo ∧ (∀ x y, D x y → rb_V N 5 x y ≤ mo) ∧
  (mo = -1000000 ∨ ∃ x y, D x y ∧ rb_V N 5 x y = mo ∧ at' = rb_cd x y ∧ ∀ x' y', D x' y' → rb_lx x' y' x y → rb_V N 5 x' y' < mo)
def rb_aL (N : Nat → Int) (D : Int → Int → Prop) (le : Int) : Prop := rb_bd 1000000 le ∧ (∀ x y, D x y → le ≤ rb_V N 5 x y) ∧ (le = 1000000 ∨ ∃ x y, D x y ∧ rb_V N 5 x y = le)
def rb_aB (N : Nat → Int) (lim : Int) (D : Int → Int → Prop) (br : Int32) : Prop :=
  (br = rb_i (-2) ∧ ∀ x y, D x y → rb_V N 5 x y ≤ lim) ∨ ∃ x y, D x y ∧ rb_I x ∧ rb_I y ∧ br = rb_cd x y ∧ lim < rb_V N 5 x y ∧ ∀ x' y', D x' y' → rb_lx x' y' x y → rb_V N 5 x' y' ≤ lim
def rb_aS (N : Nat → Int) (D : Int → Int → Prop) (s : Int32) : Prop := ∀ m, m < 32 → (bt s m = true ↔ ∃ x y, D x y ∧ rb_mk N x y 5 = m)
def rb_aO (N : Nat → Int) (D : Int → Int → Prop) (s : Int32) : Prop := ∀ u, u < 5 → (bt s u = true ↔ ∃ x y, D x y ∧ 0 < rb_V N u x y)
def rb_aF (N : Nat → Int) (D : Int → Int → Prop) (s : Int32) : Prop := ∀ u, u < 5 → (bt s u = true ↔ ∃ x y, D x y ∧ rb_V N u x y ≤ 0)
def rb_acc (N : Nat → Int) (lim : Int) (D : Int → Int → Prop) (mo le : Int) (at' br se on off : Int32) : Prop := rb_aM N D mo at' ∧ rb_aL N D le ∧ rb_aB N lim D br ∧ rb_aS N D se ∧ rb_aO N D on ∧ rb_aF N D off
def rb_plus (D : Int → Int → Prop) (x y : Int) (x' y' : Int) : Prop := D x' y' ∨ (x' = x ∧ y' = y)
theorem rb_acc_congr {N : Nat → Int} {lim : Int} {D D' : Int → Int → Prop} {mo le : Int} {at' br se on off : Int32} (h : ∀ x y, D x y ↔ D' x y) (k : rb_acc N lim D mo le at' br se on off) : rb_acc N lim D' mo le at' br se on off := by
  have e : D = D' := funext fun x => funext fun y => propext (h x y)
  rw [← e]
  exact k
theorem rb_acc0 {N : Nat → Int} {lim : Int} {D : Int → Int → Prop} (h : ∀ x y, ¬ D x y) : rb_acc N lim D (-1000000) 1000000 (-1) (-2) 0 0 0 := by
  refine ⟨⟨by unfold rb_bd; omega, fun x y d => absurd d (h x y), Or.inl rfl⟩, ⟨by unfold rb_bd; omega, fun x y d => absurd d (h x y), Or.inl rfl⟩, Or.inl ⟨by decide, fun x y d => absurd d (h x y)⟩, ?_, ?_, ?_⟩
  · intro m _
    rw [b_0]
    exact ⟨fun z => absurd z (by decide), fun ⟨x, y, d, _⟩ => absurd d (h x y)⟩
  · intro m _
    rw [b_0]
    exact ⟨fun z => absurd z (by decide), fun ⟨x, y, d, _⟩ => absurd d (h x y)⟩
  · intro m _
    rw [b_0]
    exact ⟨fun z => absurd z (by decide), fun ⟨x, y, d, _⟩ => absurd d (h x y)⟩
section
variable {N : Nat → Int} {D : Int → Int → Prop} {x y : Int}
theorem rb_aM1 {mo : Int} {at' : Int32} (hD : ∀ x' y', D x' y' → rb_lx x' y' x y) (h : rb_aM N D mo at') (hv : rb_V N 5 x y ≤ mo) (hb : -101512 ≤ rb_V N 5 x y) : rb_aM N (rb_plus D x y) mo at' := by
  obtain ⟨h1, h2, h3⟩ := h
  refine ⟨h1, ?_, ?_⟩
  · rintro x' y' (d | ⟨rfl, rfl⟩)
    · exact h2 x' y' d
    · exact hv
  · rcases h3 with z | ⟨x', y', d, e, c, k⟩
    · omega
    · refine Or.inr ⟨x', y', Or.inl d, e, c, ?_⟩
      rintro u v (d' | ⟨rfl, rfl⟩) hl
      · exact k u v d' hl
      · have := hD x' y' d
        unfold rb_lx at *
        omega
theorem rb_aM2 {mo : Int} {at' : Int32} (h : rb_aM N D mo at') (hv : mo < rb_V N 5 x y) (hb : rb_bd 1000000 (rb_V N 5 x y)) : rb_aM N (rb_plus D x y) (rb_V N 5 x y) (rb_cd x y) := by
  obtain ⟨h1, h2, h3⟩ := h
  refine ⟨hb, ?_, Or.inr ⟨x, y, Or.inr ⟨rfl, rfl⟩, rfl, rfl, ?_⟩⟩
  · rintro x' y' (d | ⟨rfl, rfl⟩)
    · have := h2 x' y' d
      omega
    · exact Int.le_refl _
  · rintro u v (d' | ⟨rfl, rfl⟩) hl
    · have := h2 u v d'
      omega
    · unfold rb_lx at hl
      omega
theorem rb_aL1 {le : Int} (h : rb_aL N D le) (hv : le ≤ rb_V N 5 x y) (hb : rb_V N 5 x y ≤ 101512) : rb_aL N (rb_plus D x y) le := by
  obtain ⟨h1, h2, h3⟩ := h
  refine ⟨h1, ?_, ?_⟩
  · rintro x' y' (d | ⟨rfl, rfl⟩)
    · exact h2 x' y' d
    · exact hv
  · rcases h3 with z | ⟨x', y', d, e⟩
    · omega
    · exact Or.inr ⟨x', y', Or.inl d, e⟩
theorem rb_aL2 {le : Int} (h : rb_aL N D le) (hv : rb_V N 5 x y < le) (hb : rb_bd 1000000 (rb_V N 5 x y)) : rb_aL N (rb_plus D x y) (rb_V N 5 x y) := by
  obtain ⟨h1, h2, h3⟩ := h
  refine ⟨hb, ?_, Or.inr ⟨x, y, Or.inr ⟨rfl, rfl⟩, rfl⟩⟩
  rintro x' y' (d | ⟨rfl, rfl⟩)
  · have := h2 x' y' d
    omega
  · exact Int.le_refl _
theorem rb_cd_nat {x y : Int} (hx : rb_I x) (hy : rb_I y) : ∃ n : Nat, n < 1024 ∧ rb_cd x y = nI n := by
  unfold rb_I at hx hy
  refine ⟨(32 * (x + 16) + y + 16).toNat, by omega, ?_⟩
  rw [rb_n]
  exact congrArg rb_i (by omega)
/-- not above: the first breach stays -/
theorem rb_aB1 {lim : Int} {br : Int32} (hD : ∀ x' y', D x' y' → rb_lx x' y' x y) (h : rb_aB N lim D br) (hv : rb_V N 5 x y ≤ lim) : rb_aB N lim (rb_plus D x y) br := by
  rcases h with ⟨e, k⟩ | ⟨x', y', d, i1, i2, e, g, k⟩
  · refine Or.inl ⟨e, ?_⟩
    rintro x' y' (d | ⟨rfl, rfl⟩)
    · exact k x' y' d
    · exact hv
  · refine Or.inr ⟨x', y', Or.inl d, i1, i2, e, g, ?_⟩
    rintro u v (d' | ⟨rfl, rfl⟩) hl
    · exact k u v d' hl
    · exact hv
/-- above, and there was a breach -/
theorem rb_aB2 {lim : Int} {br : Int32} (hD : ∀ x' y', D x' y' → rb_lx x' y' x y) (h : rb_aB N lim D br) (h0 : 0 ≤ br) : rb_aB N lim (rb_plus D x y) br := by
  rcases h with ⟨e, k⟩ | ⟨x', y', d, i1, i2, e, g, k⟩
  · rw [e] at h0
    exact absurd h0 (by decide)
  · refine Or.inr ⟨x', y', Or.inl d, i1, i2, e, g, ?_⟩
    rintro u v (d' | ⟨rfl, rfl⟩) hl
    · exact k u v d' hl
    · have := hD x' y' d
      unfold rb_lx at *
      omega
/-- above, the first one -/
theorem rb_aB3 {lim : Int} {br : Int32} (hx : rb_I x) (hy : rb_I y) (h : rb_aB N lim D br) (h0 : ¬ 0 ≤ br) (hv : lim < rb_V N 5 x y) : rb_aB N lim (rb_plus D x y) (rb_cd x y) := by
  rcases h with ⟨e, k⟩ | ⟨x', y', d, i1, i2, e, g, k⟩
  · refine Or.inr ⟨x, y, Or.inr ⟨rfl, rfl⟩, hx, hy, rfl, hv, ?_⟩
    rintro u v (d' | ⟨rfl, rfl⟩) hl
    · exact k u v d'
    · unfold rb_lx at hl
      omega
  · obtain ⟨n, hn, en⟩ := rb_cd_nat i1 i2
    rw [e, en] at h0
    exact absurd (nI_pos' (by omega)) h0
theorem rb_aS1 {s : Int32} (h : rb_aS N D s) : rb_aS N (rb_plus D x y) (s ||| ((1 : Int32) <<< (nI (rb_mk N x y 5) &&& 31))) := by
  intro m hm
  have hlt : rb_mk N x y 5 < 32 := rb_mk_lt N x y 5
  rw [b_or, rb_b1 _ hlt m hm, Bool.or_eq_true, decide_eq_true_iff, h m hm]
  constructor
  · rintro (⟨x', y', d, e⟩ | e)
    · exact ⟨x', y', Or.inl d, e⟩
    · exact ⟨x, y, Or.inr ⟨rfl, rfl⟩, e.symm⟩
  · rintro ⟨x', y', d | ⟨rfl, rfl⟩, e⟩
    · exact Or.inl ⟨x', y', d, e⟩
    · exact Or.inr e.symm
theorem rb_mk_bit (N : Nat → Int) (x y : Int) (k : Nat) : ∀ u, u < k → (rb_mk N x y k).testBit u = decide (0 < rb_V N u x y) := by
  induction k with
  | zero => intro u hu; omega
  | succ k ih =>
    intro u hu
    have hlt := rb_mk_lt N x y k
    show (rb_mk N x y k + (if 0 < rb_V N k x y then 2 ^ k else 0)).testBit u = _
    by_cases h : 0 < rb_V N k x y
    · rw [if_pos h, Nat.add_comm]
      by_cases e : u = k
      · subst e
        rw [Nat.testBit_two_pow_add_eq, Nat.testBit_lt_two_pow hlt, decide_eq_true h]
        rfl
      · rw [Nat.testBit_two_pow_add_gt (by omega), ih u (by omega)]
    · rw [if_neg h, Nat.add_zero]
      by_cases e : u = k
      · subst e
        rw [Nat.testBit_lt_two_pow hlt, decide_eq_false h]
      · exact ih u (by omega)
theorem rb_mk_bt (N : Nat → Int) (x y : Int) {u : Nat} (hu : u < 5) : bt (nI (rb_mk N x y 5)) u = decide (0 < rb_V N u x y) := by
  rw [← rb_mk_bit N x y 5 u hu]
  show (BitVec.ofNat 32 (rb_mk N x y 5)).getLsbD u = _
  rw [BitVec.getLsbD_ofNat, decide_eq_true (by omega), Bool.true_and]
theorem rb_b31 : ∀ m, m < 32 → ∀ u, u < 5 → bt (31 - nI m) u = !bt (nI m) u := by decide +kernel
theorem rb_aO1 {s : Int32} (h : rb_aO N D s) : rb_aO N (rb_plus D x y) (s ||| nI (rb_mk N x y 5)) := by
  intro u hu
  rw [b_or, rb_mk_bt N x y hu, Bool.or_eq_true, decide_eq_true_iff, h u hu]
  constructor
  · rintro (⟨x', y', d, e⟩ | e)
    · exact ⟨x', y', Or.inl d, e⟩
    · exact ⟨x, y, Or.inr ⟨rfl, rfl⟩, e⟩
  · rintro ⟨x', y', d | ⟨rfl, rfl⟩, e⟩
    · exact Or.inl ⟨x', y', d, e⟩
    · exact Or.inr e
theorem rb_aF1 {s : Int32} (h : rb_aF N D s) : rb_aF N (rb_plus D x y) (s ||| (31 - nI (rb_mk N x y 5))) := by
  intro u hu
  have hlt : rb_mk N x y 5 < 32 := rb_mk_lt N x y 5
  rw [b_or, rb_b31 _ hlt u hu, rb_mk_bt N x y hu, Bool.or_eq_true, Bool.not_eq_true', decide_eq_false_iff_not, h u hu]
  constructor
  · rintro (⟨x', y', d, e⟩ | e)
    · exact ⟨x', y', Or.inl d, e⟩
    · exact ⟨x, y, Or.inr ⟨rfl, rfl⟩, by omega⟩
  · rintro ⟨x', y', d | ⟨rfl, rfl⟩, e⟩
    · exact Or.inl ⟨x', y', d, e⟩
    · exact Or.inr (by omega)
end
end
section
/-! ===== the law's main loop ===== -/
abbrev rb_AT : Type := Nat → Int32
abbrev rb_J10 : Type := Int32 → Int32 → Int32 → Int32 → Int32 → Int32 → Int32 → Int32 → Int32 → Int32 → rb_AT → rb_AT → rb_AT → rb_AT → rb_AT → rb_AT → rb_AT → rb_AT → rb_AT → rb_AT → rb_AT → rb_AT → Prop
section
variable {post : Int32 → St0 → Prop} {mc ms kc ks : Nat} {J234 J244 : rb_J10} {x0 x1 x2 x6 x7 x10 x11 x12 x13 x14 x15 x16 x17 x18 x19 x20 x21 x22 x27 : Int32} {w b : Int32} {a1 a2 a3 a4 a5 a6 a7 a8 a9 a10 a11 a12 : Nat → Int32} {N : Nat → Int} {D : Int → Int → Prop} {lim x y mo le : Int} {at' br se on off : Int32} {j : Nat}
theorem rb_l444 (H : J244 x15 x16 x17 x18 (x19 ||| ((1 : Int32) <<< (x27 &&& 31))) (x20 ||| x27) (x21 ||| (31 - x27)) (nI (j + 1)) w b a1 a2 a3 a4 a5 a6 a7 a8 a9 a10 a11 a12) :
    wL_lawOf_444 post mc ms J234 J244 x0 x1 x2 x6 x7 x10 x11 x12 x13 x14 x15 x16 x17 x18 x19 x20 x21 x22 (nI j) x27 kc ks w b a1 a2 a3 a4 a5 a6 a7 a8 a9 a10 a11 a12 :=
  nm_e (nm_e (nm_e (nm_r (nI_1 j) H)))
theorem rb_l416 (hN : rb_N N) (hx : rb_I x) (hy : rb_I y) (hlim : -1000000 ≤ lim ∧ lim ≤ 1000000) (hD : ∀ x' y', D x' y' → rb_lx x' y' x y) (aM : rb_aM N (rb_plus D x y) mo at') (aL : rb_aL N (rb_plus D x y) le) (aB : rb_aB N lim D br) (aS : rb_aS N D se) (aO : rb_aO N D on) (aF : rb_aF N D off)
    (H : ∀ (mo' le' : Int) (at'' br' se' on' off' : Int32), rb_acc N lim (rb_plus D x y) mo' le' at'' br' se' on' off' → J244 (rb_i mo') (rb_i le') at'' br' se' on' off' (nI (j + 1)) w b a1 a2 a3 a4 a5 a6 a7 a8 a9 a10 a11 a12) :
    wL_lawOf_416 post mc ms J234 J244 x0 x1 x2 x6 x7 x10 x11 x12 x13 (rb_i lim) (rb_i mo) (rb_i le) at' br se on off x22 (nI j) (rb_i x) (rb_i y) (rb_i (rb_V N 5 x y)) (nI (rb_mk N x y 5)) kc ks w b a1 a2 a3 a4 a5 a6 a7 a8 a9 a10 a11 a12 := by
  have hb := rb_V_b hN (t := 5) hx hy
  refine rb_ble (rb_V N 5 x y) lim (fun z => rb_l444 (H _ _ _ _ _ _ _ ⟨aM, aL, rb_aB1 hD aB z, rb_aS1 aS, rb_aO1 aO, rb_aF1 aF⟩)) (fun z => br_c (fun g => rb_l444 (H _ _ _ _ _ _ _ ⟨aM, aL, rb_aB2 hD aB g, rb_aS1 aS, rb_aO1 aO, rb_aF1 aF⟩)) (fun g => nm_r ?_ (rb_l444 (H _ _ _ _ _ _ _ ⟨aM, aL, rb_aB3 hx hy aB g z, rb_aS1 aS, rb_aO1 aO, rb_aF1 aF⟩)))) rfl rfl
  have e32 : (32 : Int32) = rb_i 32 := rfl
  have e16 : (16 : Int32) = rb_i 16 := rfl
  rw [e32, e16, rb_add, rb_mul, rb_add, rb_add]
  rfl
theorem rb_l405 (hN : rb_N N) (hx : rb_I x) (hy : rb_I y) (hlim : -1000000 ≤ lim ∧ lim ≤ 1000000) (hD : ∀ x' y', D x' y' → rb_lx x' y' x y) (aM : rb_aM N (rb_plus D x y) mo at') (aL : rb_aL N D le) (aB : rb_aB N lim D br) (aS : rb_aS N D se) (aO : rb_aO N D on) (aF : rb_aF N D off)
    (H : ∀ (mo' le' : Int) (at'' br' se' on' off' : Int32), rb_acc N lim (rb_plus D x y) mo' le' at'' br' se' on' off' → J244 (rb_i mo') (rb_i le') at'' br' se' on' off' (nI (j + 1)) w b a1 a2 a3 a4 a5 a6 a7 a8 a9 a10 a11 a12) :
    wL_lawOf_405 post mc ms J234 J244 x0 x1 x2 x6 x7 x10 x11 x12 x13 (rb_i lim) (rb_i mo) (rb_i le) at' br se on off x22 (nI j) (rb_i x) (rb_i y) (rb_i (rb_V N 5 x y)) (nI (rb_mk N x y 5)) kc ks w b a1 a2 a3 a4 a5 a6 a7 a8 a9 a10 a11 a12 := by
  have hb := rb_V_b hN (t := 5) hx hy
  have hl := aL.1
  unfold rb_bd at hl
  exact rb_ble le (rb_V N 5 x y) (fun z => rb_l416 hN hx hy hlim hD aM (rb_aL1 aL z (by omega)) aB aS aO aF H) (fun z => rb_l416 hN hx hy hlim hD aM (rb_aL2 aL z (by unfold rb_bd; omega)) aB aS aO aF H) rfl rfl
theorem rb_l394a (hN : rb_N N) (hx : rb_I x) (hy : rb_I y) (hlim : -1000000 ≤ lim ∧ lim ≤ 1000000) (hD : ∀ x' y', D x' y' → rb_lx x' y' x y) (hv : rb_V N 5 x y ≤ mo) (h : rb_acc N lim D mo le at' br se on off)
    (H : ∀ (mo' le' : Int) (at'' br' se' on' off' : Int32), rb_acc N lim (rb_plus D x y) mo' le' at'' br' se' on' off' → J244 (rb_i mo') (rb_i le') at'' br' se' on' off' (nI (j + 1)) w b a1 a2 a3 a4 a5 a6 a7 a8 a9 a10 a11 a12) :
    wL_lawOf_394 post mc ms J234 J244 x0 x1 x2 x6 x7 x10 x11 x12 x13 (rb_i lim) (rb_i mo) (rb_i le) at' br se on off x22 (nI j) (rb_i x) (rb_i y) (rb_i (rb_V N 5 x y)) (nI (rb_mk N x y 5)) kc ks w b a1 a2 a3 a4 a5 a6 a7 a8 a9 a10 a11 a12 := by
  obtain ⟨aM, aL, aB, aS, aO, aF⟩ := h
  have hb := rb_V_b hN (t := 5) hx hy
  have hl := aM.1
  unfold rb_bd at hl
  exact rb_ble (rb_V N 5 x y) mo (fun z => rb_l405 hN hx hy hlim hD (rb_aM1 hD aM hv (by omega)) aL aB aS aO aF H) (fun z => absurd z (by omega)) rfl rfl
theorem rb_l394b (hN : rb_N N) (hx : rb_I x) (hy : rb_I y) (hlim : -1000000 ≤ lim ∧ lim ≤ 1000000) (hD : ∀ x' y', D x' y' → rb_lx x' y' x y) (hv : mo < rb_V N 5 x y) (h : rb_acc N lim D mo le at' br se on off)
    (H : ∀ (mo' le' : Int) (at'' br' se' on' off' : Int32), rb_acc N lim (rb_plus D x y) mo' le' at'' br' se' on' off' → J244 (rb_i mo') (rb_i le') at'' br' se' on' off' (nI (j + 1)) w b a1 a2 a3 a4 a5 a6 a7 a8 a9 a10 a11 a12) :
    wL_lawOf_394 post mc ms J234 J244 x0 x1 x2 x6 x7 x10 x11 x12 x13 (rb_i lim) (rb_i mo) (rb_i le) (rb_cd x y) br se on off x22 (nI j) (rb_i x) (rb_i y) (rb_i (rb_V N 5 x y)) (nI (rb_mk N x y 5)) kc ks w b a1 a2 a3 a4 a5 a6 a7 a8 a9 a10 a11 a12 := by
  obtain ⟨aM, aL, aB, aS, aO, aF⟩ := h
  have hb := rb_V_b hN (t := 5) hx hy
  have hl := aM.1
  unfold rb_bd at hl
  exact rb_ble (rb_V N 5 x y) mo (fun z => absurd z (by omega)) (fun z => rb_l405 hN hx hy hlim hD (rb_aM2 aM hv (by unfold rb_bd; omega)) aL aB aS aO aF H) rfl rfl
end
section
variable {post : Int32 → St0 → Prop} {mc ms kc ks : Nat} {J234 J244 : rb_J10} {p q r x6 x7 x10 x11 x12 x13 x22 : Int32} {a1 : Nat → Int32} {D : Int → Int → Prop} {lim x y mo le : Int} {at' br se on off : Int32} {j : Nat}
theorem rb_l297 (hA : rb_A (rb_NN p q r) a1) (hx : rb_I x) (hy : rb_I y) (hlim : -1000000 ≤ lim ∧ lim ≤ 1000000) (hD : ∀ x' y', D x' y' → rb_lx x' y' x y) (h : rb_acc (rb_NN p q r) lim D mo le at' br se on off)
    (H : ∀ (mo' le' : Int) (at'' br' se' on' off' : Int32), rb_acc (rb_NN p q r) lim (rb_plus D x y) mo' le' at'' br' se' on' off' → ∀ (wc bc : Int32) (c2 c3 c4 c5 c6 c7 c8 c9 c10 c11 c12 : Nat → Int32), J244 (rb_i mo') (rb_i le') at'' br' se' on' off' (nI (j + 1)) wc bc a1 c2 c3 c4 c5 c6 c7 c8 c9 c10 c11 c12)
    (n : Nat) : ∀ (k : Nat) (w b : Int32) (a2 a3 a4 a5 a6 a7 a8 a9 a10 a11 a12 : Nat → Int32), k ≤ 5 → 5 - k < n →
    wL_lawOf_297 post mc ms J234 J244 p q r x6 x7 x10 x11 x12 x13 (rb_i lim) (rb_i mo) (rb_i le) at' br se on off x22 (nI j) (rb_i x) (rb_i y) (rb_i (rb_V (rb_NN p q r) 5 x y)) kc ks n (nI (rb_mk (rb_NN p q r) x y k)) (nI k) w b a1 a2 a3 a4 a5 a6 a7 a8 a9 a10 a11 a12 := by
  have hN := rb_NN_N p q r
  induction n with
  | zero => intro k _ _ _ _ _ _ _ _ _ _ _ _ _ _ h; omega
  | succ n ih =>
    intro k w b a2 a3 a4 a5 a6 a7 a8 a9 a10 a11 a12 hk hn
    refine pk_le 5 k (fun z => ?_) (fun z => ?_)
    · have ek : k = 5 := by omega
      subst ek
      have hb := rb_V_b hN (t := 5) hx hy
      have hl := h.1.1
      unfold rb_bd at hl
      refine rb_result hN hA hx hy rfl rfl (fun wc bc c2 c3 c4 c5 c6 c7 c8 c9 c10 c11 c12 => br_t rfl (rb_ble (rb_V (rb_NN p q r) 5 x y) mo (fun z => ?_) (fun z => nm_r (e' := rb_cd x y) ?_ ?_) rfl rfl (by omega) (by omega)))
      · exact rb_l394a hN hx hy hlim hD z h (fun mo' le' at'' br' se' on' off' hh => H mo' le' at'' br' se' on' off' hh wc bc c2 c3 c4 c5 c6 c7 c8 c9 c10 c11 c12)
      · have e32 : (32 : Int32) = rb_i 32 := rfl
        have e16 : (16 : Int32) = rb_i 16 := rfl
        rw [e32, e16, rb_add, rb_mul, rb_add, rb_add]
        rfl
      · exact rb_l394b hN hx hy hlim hD z h (fun mo' le' at'' br' se' on' off' hh => H mo' le' at'' br' se' on' off' hh wc bc c2 c3 c4 c5 c6 c7 c8 c9 c10 c11 c12)
    · have hb := rb_V_b hN (t := k) hx hy
      have hrb := rb_r_b (B := 101512) hb
      refine rb_lunit z hx hy rfl (rb_unit hN hA z hx hy rfl rfl rfl (fun wc bc c2 c3 c4 c5 c6 c7 c8 c9 c10 c11 c12 => br_t rfl ?_))
      refine rb_ble (rb_r (rb_V (rb_NN p q r) k x y)) 0 (fun g => nm_r (nI_1 k) ?_) (fun g => nm_r ?_ (nm_r (nI_1 k) (ih (k + 1) wc bc c2 c3 c4 c5 c6 c7 c8 c9 c10 c11 c12 (by omega) (by omega)))) rfl rfl (by omega) (by omega)
      · have hv : ¬ 0 < rb_V (rb_NN p q r) k x y := fun t => by
          rw [rb_r_gt t] at g
          omega
        have t := ih (k + 1) wc bc c2 c3 c4 c5 c6 c7 c8 c9 c10 c11 c12 (by omega) (by omega)
        have e : rb_mk (rb_NN p q r) x y (k + 1) = rb_mk (rb_NN p q r) x y k := by
          show rb_mk (rb_NN p q r) x y k + (if 0 < rb_V (rb_NN p q r) k x y then 2 ^ k else 0) = _
          rw [if_neg hv, Nat.add_zero]
        rw [e] at t
        exact t
      · have hv : 0 < rb_V (rb_NN p q r) k x y := by
          rcases Int.lt_or_le 0 (rb_V (rb_NN p q r) k x y) with t | t
          · exact t
          · rw [rb_r_le t] at g
            omega
        rw [rb_orb k (by omega) _ (rb_mk_lt _ _ _ _)]
        show _ = nI (rb_mk (rb_NN p q r) x y k + (if 0 < rb_V (rb_NN p q r) k x y then 2 ^ k else 0))
        rw [if_pos hv]
end
def rb_D (l0 h0 l1 h1 : Int) (i j : Nat) (x y : Int) : Prop := rb_in l0 h0 l1 h1 x y ∧ (x < l0 + i ∨ (x = l0 + i ∧ y < l1 + j))
section
variable {post : Int32 → St0 → Prop} {mc ms kc ks : Nat} {J234 : rb_J10} {p q r x12 x13 : Int32} {a1 : Nat → Int32} {l0 h0 l1 h1 lim : Int}
theorem rb_l244 (hA : rb_A (rb_NN p q r) a1) (hlim : -1000000 ≤ lim ∧ lim ≤ 1000000) (hW : rb_W l0 h0 l1 h1) (hw1 : h1 ≤ l1 + 7) {i : Nat} (hi : i < 8)
    (H : ∀ (mo le : Int) (at' br se on off : Int32), rb_acc (rb_NN p q r) lim (rb_D l0 h0 l1 h1 (i + 1) 0) mo le at' br se on off → ∀ (wc bc : Int32) (c2 c3 c4 c5 c6 c7 c8 c9 c10 c11 c12 : Nat → Int32), J234 (rb_i mo) (rb_i le) at' br se on off (nI (i + 1)) wc bc a1 c2 c3 c4 c5 c6 c7 c8 c9 c10 c11 c12)
    (n : Nat) : ∀ (j : Nat) (mo le : Int) (at' br se on off : Int32) (w b : Int32) (a2 a3 a4 a5 a6 a7 a8 a9 a10 a11 a12 : Nat → Int32), j ≤ 8 → 8 - j < n → rb_acc (rb_NN p q r) lim (rb_D l0 h0 l1 h1 i j) mo le at' br se on off →
    wL_lawOf_244 post mc ms J234 p q r (rb_i l0) (rb_i l1) (rb_i h0) (rb_i h1) x12 x13 (rb_i lim) (nI i) kc ks n (rb_i mo) (rb_i le) at' br se on off (nI j) w b a1 a2 a3 a4 a5 a6 a7 a8 a9 a10 a11 a12 := by
  have hN := rb_NN_N p q r
  have hW' := hW
  unfold rb_W at hW'
  induction n with
  | zero => intro j mo le at' br se on off _ _ _ _ _ _ _ _ _ _ _ _ _ _ h; omega
  | succ n ih =>
    intro j mo le at' br se on off w b a2 a3 a4 a5 a6 a7 a8 a9 a10 a11 a12 hj hn h
    refine pk_le 8 j (fun z => nm_r (nI_1 i) (H _ _ _ _ _ _ _ (rb_acc_congr (fun x y => ?_) h) _ _ _ _ _ _ _ _ _ _ _ _ _)) (fun z => ?_)
    · have ej : j = 8 := by omega
      subst ej
      unfold rb_D rb_in
      omega
    · have e0 : rb_i l0 + nI i = rb_i (l0 + i) := by rw [rb_n, rb_add]
      have e1 : rb_i l1 + nI j = rb_i (l1 + j) := by rw [rb_n, rb_add]
      refine nm_r e0 (nm_r e1 (rb_blt h0 (l0 + i) (fun g => nm_r (nI_1 j) (ih (j + 1) _ _ _ _ _ _ _ _ _ _ _ _ _ _ _ _ _ _ _ _ (by omega) (by omega) (rb_acc_congr (fun x y => ?_) h))) (fun g => rb_blt h1 (l1 + j) (fun g' => nm_r (nI_1 j) (ih (j + 1) _ _ _ _ _ _ _ _ _ _ _ _ _ _ _ _ _ _ _ _ (by omega) (by omega) (rb_acc_congr (fun x y => ?_) h))) (fun g' => ?_) rfl rfl) rfl rfl))
      · unfold rb_D rb_in
        omega
      · unfold rb_D rb_in
        omega
      · have hx : rb_I (l0 + i) := by unfold rb_I; omega
        have hy : rb_I (l1 + j) := by unfold rb_I; omega
        refine rb_lresult hx hy ⟨6, ?_⟩
        refine rb_l297 hA hx hy hlim (D := rb_D l0 h0 l1 h1 i j) (fun x' y' d => ?_) h (fun mo' le' at'' br' se' on' off' hh wc bc c2 c3 c4 c5 c6 c7 c8 c9 c10 c11 c12 => ih (j + 1) _ _ _ _ _ _ _ wc bc c2 c3 c4 c5 c6 c7 c8 c9 c10 c11 c12 (by omega) (by omega) (rb_acc_congr (fun x y => ?_) hh)) 6 0 w b a2 a3 a4 a5 a6 a7 a8 a9 a10 a11 a12 (by omega) (by omega)
        · unfold rb_D rb_in at d
          unfold rb_lx
          omega
        · unfold rb_plus rb_D rb_in
          omega
theorem rb_l234 (hA : rb_A (rb_NN p q r) a1) (hlim : -1000000 ≤ lim ∧ lim ≤ 1000000) (hW : rb_W l0 h0 l1 h1) (hw0 : h0 ≤ l0 + 7) (hw1 : h1 ≤ l1 + 7)
    (H : ∀ (mo le : Int) (at' br se on off : Int32), rb_acc (rb_NN p q r) lim (rb_in l0 h0 l1 h1) mo le at' br se on off → ∀ (wc bc : Int32) (c2 c3 c4 c5 c6 c7 c8 c9 c10 c11 c12 : Nat → Int32), ∃ n, wL_lawOf_488 post mc ms p q r (rb_i l0) (rb_i l1) x12 x13 (rb_i lim) (rb_i mo) (rb_i le) at' br se on off kc ks wc bc a1 c2 c3 c4 c5 c6 c7 c8 c9 c10 c11 c12 n 0 0)
    (n : Nat) : ∀ (i : Nat) (mo le : Int) (at' br se on off : Int32) (w b : Int32) (a2 a3 a4 a5 a6 a7 a8 a9 a10 a11 a12 : Nat → Int32), i ≤ 8 → 8 - i < n → rb_acc (rb_NN p q r) lim (rb_D l0 h0 l1 h1 i 0) mo le at' br se on off →
    wL_lawOf_234 post mc ms p q r (rb_i l0) (rb_i l1) (rb_i h0) (rb_i h1) x12 x13 (rb_i lim) kc ks n (rb_i mo) (rb_i le) at' br se on off (nI i) w b a1 a2 a3 a4 a5 a6 a7 a8 a9 a10 a11 a12 := by
  induction n with
  | zero => intro j mo le at' br se on off _ _ _ _ _ _ _ _ _ _ _ _ _ _ h; omega
  | succ n ih =>
    intro i mo le at' br se on off w b a2 a3 a4 a5 a6 a7 a8 a9 a10 a11 a12 hi hn h
    refine pk_le 8 i (fun z => H _ _ _ _ _ _ _ (rb_acc_congr (fun x y => ?_) h) _ _ _ _ _ _ _ _ _ _ _ _ _) (fun z => ⟨9, ?_⟩)
    · have ei : i = 8 := by omega
      subst ei
      unfold rb_D rb_in
      omega
    · exact rb_l244 hA hlim hW hw1 z (fun mo' le' at'' br' se' on' off' hh wc bc c2 c3 c4 c5 c6 c7 c8 c9 c10 c11 c12 => ih (i + 1) _ _ _ _ _ _ _ wc bc c2 c3 c4 c5 c6 c7 c8 c9 c10 c11 c12 (by omega) (by omega) hh) 9 0 _ _ _ _ _ _ _ _ _ _ _ _ _ _ _ _ _ _ _ _ (by omega) (by omega) h
end
end
section
/-! ===== the law's checks ===== -/
abbrev rb_J3 : Type := Int32 → Int32 → Int32 → rb_AT → rb_AT → rb_AT → rb_AT → rb_AT → rb_AT → rb_AT → rb_AT → rb_AT → rb_AT → rb_AT → rb_AT → Prop
theorem rb_bit0 (s : Int32) {u : Nat} (hu : u < 32) : ((s >>> (nI u &&& 31)) &&& 1) = 0 ↔ bt s u = false := by
  have k : ∀ i, i < 32 → bt ((s >>> (nI u &&& 31)) &&& 1) i = (decide (i = 0) && bt s u) := by
    intro i hi
    rw [b_and, rb_bt1 i hi, b_sshr u hu s hi]
    by_cases e : i = 0
    · rw [e, if_pos (by omega), decide_eq_true rfl, Bool.and_true, Bool.true_and]
      rfl
    · rw [decide_eq_false e, Bool.and_false, Bool.false_and]
  constructor
  · intro h
    have k0 := k 0 (by omega)
    rw [h, b_0, decide_eq_true rfl, Bool.true_and] at k0
    exact k0.symm
  · intro h
    refine b_ext (fun i hi => ?_)
    rw [k i hi, h, Bool.and_false, b_0]
section
variable {post : Int32 → St0 → Prop} {mc ms kc ks : Nat} {p q r x0 x1 x2 x6 x7 x12 x13 x14 x20 x21 : Int32} {w b : Int32} {a1 a2 a3 a4 a5 a6 a7 a8 a9 a10 a11 a12 : Nat → Int32} {N : Nat → Int} {l0 h0 l1 h1 lim mo le : Int} {at' br se on off : Int32}
theorem rb_l749 (H : post 1 ()) {z : Int32} : wL_lawOf_749 post mc ms x12 x13 z z kc ks w b a1 a2 a3 a4 a5 a6 a7 a8 a9 a10 a11 a12 :=
  br_t rfl (rb_fixed5 (br_t rfl (rb_patterns32 (br_t rfl (rb_radius16 (br_t rfl H))))))
theorem rb_l674 {J : rb_J3} (hN : rb_N N) (hA : rb_A N a1) (hW : rb_W l0 h0 l1 h1) (e12 : x12 = rb_i (32 * (l0 + 16) + h0 + 16)) (e13 : x13 = rb_i (32 * (l1 + 16) + h1 + 16)) {u : Nat} (hu : u < 5) {z0 : Int32}
    (K1 : (∀ x y, rb_in l0 h0 l1 h1 x y → rb_V N u x y ≤ 0) → 1 = z0) (K2 : (∀ x y, rb_in l0 h0 l1 h1 x y → 0 < rb_V N u x y) → 2 = z0)
    (K0 : (∃ x y, rb_in l0 h0 l1 h1 x y ∧ 0 < rb_V N u x y) → (∃ x y, rb_in l0 h0 l1 h1 x y ∧ rb_V N u x y ≤ 0) → 0 = z0)
    (H : ∀ (wc bc : Int32) (c2 c3 c4 c5 c6 c7 c8 c9 c10 c11 c12 : Nat → Int32), J (nI (u + 1)) wc bc a1 c2 c3 c4 c5 c6 c7 c8 c9 c10 c11 c12) : wL_lawOf_674 post mc ms J x0 x1 x2 x6 x7 x12 x13 x14 x20 x21 (nI u) z0 kc ks w b a1 a2 a3 a4 a5 a6 a7 a8 a9 a10 a11 a12 := by
  unfold wL_lawOf_674
  exact rb_fixed hN hA hW hu rfl e12 e13 (fun g wc bc c2 c3 c4 c5 c6 c7 c8 c9 c10 c11 c12 => br_t (K1 g) (nm_r (nI_1 u) (H wc bc c2 c3 c4 c5 c6 c7 c8 c9 c10 c11 c12))) (fun g wc bc c2 c3 c4 c5 c6 c7 c8 c9 c10 c11 c12 => br_t (K2 g) (nm_r (nI_1 u) (H wc bc c2 c3 c4 c5 c6 c7 c8 c9 c10 c11 c12))) (fun g g' wc bc c2 c3 c4 c5 c6 c7 c8 c9 c10 c11 c12 => br_t (K0 g g') (nm_r (nI_1 u) (H wc bc c2 c3 c4 c5 c6 c7 c8 c9 c10 c11 c12)))
end
section
variable {post : Int32 → St0 → Prop} {mc ms kc ks : Nat} {p q r x12 x13 : Int32} {a1 : Nat → Int32} {l0 h0 l1 h1 lim mo le : Int} {at' br se on off : Int32}
theorem rb_l639 (hA : rb_A (rb_NN p q r) a1) (hlim : -1000000 ≤ lim ∧ lim ≤ 1000000) (hW : rb_W l0 h0 l1 h1) (e12 : x12 = rb_i (32 * (l0 + 16) + h0 + 16)) (e13 : x13 = rb_i (32 * (l1 + 16) + h1 + 16))
    (aO : rb_aO (rb_NN p q r) (rb_in l0 h0 l1 h1) on) (aF : rb_aF (rb_NN p q r) (rb_in l0 h0 l1 h1) off) (H : post 1 ())
    (n : Nat) : ∀ (u : Nat) (w b : Int32) (a2 a3 a4 a5 a6 a7 a8 a9 a10 a11 a12 : Nat → Int32), u ≤ 5 → 5 - u < n →
    wL_lawOf_639 post mc ms p q r (rb_i l0) (rb_i l1) x12 x13 (rb_i lim) on off kc ks n (nI u) w b a1 a2 a3 a4 a5 a6 a7 a8 a9 a10 a11 a12 := by
  have hN := rb_NN_N p q r
  have hin : rb_in l0 h0 l1 h1 l0 l1 := by unfold rb_in rb_W at *; omega
  have hI := rb_in_I hW hin
  induction n with
  | zero => intro u _ _ _ _ _ _ _ _ _ _ _ _ _ _ h; omega
  | succ n ih =>
    intro u w b a2 a3 a4 a5 a6 a7 a8 a9 a10 a11 a12 hu hn
    refine pk_le 5 u (fun z => ?_) (fun z => ?_)
    · have hb := rb_V_b hN (t := 5) hI.1 hI.2
      refine rb_lresult hI.1 hI.2 (rb_radius hN hA hI.1 hI.2 hlim rfl rfl rfl (fun g wc bc c2 c3 c4 c5 c6 c7 c8 c9 c10 c11 c12 => br_t rfl ?_) (fun g k hk wc bc c2 c3 c4 c5 c6 c7 c8 c9 c10 c11 c12 => br_f ?_ ?_))
      · exact rb_ble (rb_V (rb_NN p q r) 5 l0 l1) lim (fun z => absurd z (by omega)) (fun _ => rb_l749 H) rfl rfl (by omega) (by omega)
      · intro e
        exact nI_pos (n := k) (by omega) (by rw [e]; decide)
      · exact rb_ble (rb_V (rb_NN p q r) 5 l0 l1) lim (fun _ => rb_l749 H) (fun z => absurd z (by omega)) rfl rfl (by omega) (by omega)
    · refine br_c (fun g => ?_) (fun g => br_c (fun g' => ?_) (fun g' => ?_))
      · rw [rb_bit0 on (by omega)] at g
        have hno : ∀ x y, rb_in l0 h0 l1 h1 x y → ¬ 0 < rb_V (rb_NN p q r) u x y := fun x y hxy t => by
          have := (aO u z).mpr ⟨x, y, hxy, t⟩
          rw [g] at this
          exact absurd this (by decide)
        refine rb_l674 hN hA hW e12 e13 z (fun _ => rfl) (fun k => absurd (k l0 l1 hin) (hno l0 l1 hin)) (fun k _ => ?_) (fun wc bc c2 c3 c4 c5 c6 c7 c8 c9 c10 c11 c12 => ih (u + 1) wc bc c2 c3 c4 c5 c6 c7 c8 c9 c10 c11 c12 (by omega) (by omega))
        obtain ⟨x, y, hxy, t⟩ := k
        exact absurd t (hno x y hxy)
      · rw [rb_bit0 on (by omega), Bool.not_eq_false, aO u z] at g
        rw [rb_bit0 off (by omega)] at g'
        have hno : ∀ x y, rb_in l0 h0 l1 h1 x y → ¬ rb_V (rb_NN p q r) u x y ≤ 0 := fun x y hxy t => by
          have := (aF u z).mpr ⟨x, y, hxy, t⟩
          rw [g'] at this
          exact absurd this (by decide)
        refine rb_l674 hN hA hW e12 e13 z (fun k => absurd (k l0 l1 hin) (hno l0 l1 hin)) (fun _ => rfl) (fun _ k => ?_) (fun wc bc c2 c3 c4 c5 c6 c7 c8 c9 c10 c11 c12 => ih (u + 1) wc bc c2 c3 c4 c5 c6 c7 c8 c9 c10 c11 c12 (by omega) (by omega))
        obtain ⟨x, y, hxy, t⟩ := k
        exact absurd t (hno x y hxy)
      · rw [rb_bit0 on (by omega), Bool.not_eq_false, aO u z] at g
        rw [rb_bit0 off (by omega), Bool.not_eq_false, aF u z] at g'
        obtain ⟨x, y, hxy, t⟩ := g
        obtain ⟨x', y', hxy', t'⟩ := g'
        refine rb_l674 hN hA hW e12 e13 z (fun k => ?_) (fun k => ?_) (fun _ _ => rfl) (fun wc bc c2 c3 c4 c5 c6 c7 c8 c9 c10 c11 c12 => ih (u + 1) wc bc c2 c3 c4 c5 c6 c7 c8 c9 c10 c11 c12 (by omega) (by omega))
        · have := k x y hxy
          omega
        · have := k x' y' hxy'
          omega
theorem rb_l615 (hA : rb_A (rb_NN p q r) a1) (hlim : -1000000 ≤ lim ∧ lim ≤ 1000000) (hW : rb_W l0 h0 l1 h1) (e12 : x12 = rb_i (32 * (l0 + 16) + h0 + 16)) (e13 : x13 = rb_i (32 * (l1 + 16) + h1 + 16))
    (aS : rb_aS (rb_NN p q r) (rb_in l0 h0 l1 h1) se) (aO : rb_aO (rb_NN p q r) (rb_in l0 h0 l1 h1) on) (aF : rb_aF (rb_NN p q r) (rb_in l0 h0 l1 h1) off) (H : post 1 ()) {z : Int32} {w b : Int32} {a2 a3 a4 a5 a6 a7 a8 a9 a10 a11 a12 : Nat → Int32} :
    wL_lawOf_615 post mc ms p q r (rb_i l0) (rb_i l1) x12 x13 (rb_i lim) on off (rb_pc se 32) z z kc ks w b a1 a2 a3 a4 a5 a6 a7 a8 a9 a10 a11 a12 := by
  have hN := rb_NN_N p q r
  refine br_t rfl (rb_patterns hN hA hW e12 e13 (fun s hs wc bc c2 c3 c4 c5 c6 c7 c8 c9 c10 c11 c12 => br_t ?_ ⟨6, rb_l639 hA hlim hW e12 e13 aO aF H 6 0 wc bc c2 c3 c4 c5 c6 c7 c8 c9 c10 c11 c12 (by omega) (by omega)⟩))
  rw [rb_seen_uniq hs aS]
theorem rb_l488e (hA : rb_A (rb_NN p q r) a1) (hlim : -1000000 ≤ lim ∧ lim ≤ 1000000) (hW : rb_W l0 h0 l1 h1) (e12 : x12 = rb_i (32 * (l0 + 16) + h0 + 16)) (e13 : x13 = rb_i (32 * (l1 + 16) + h1 + 16))
    (h : rb_acc (rb_NN p q r) lim (rb_in l0 h0 l1 h1) mo le at' br se on off) (H : post 1 ()) {w b : Int32} {a2 a3 a4 a5 a6 a7 a8 a9 a10 a11 a12 : Nat → Int32} (n : Nat) :
    wL_lawOf_488 post mc ms p q r (rb_i l0) (rb_i l1) x12 x13 (rb_i lim) (rb_i mo) (rb_i le) at' br se on off kc ks w b a1 a2 a3 a4 a5 a6 a7 a8 a9 a10 a11 a12 (n + 1) (rb_pc se 32) 4 := by
  have hN := rb_NN_N p q r
  have hin : rb_in l0 h0 l1 h1 l0 l1 := by unfold rb_in rb_W at *; omega
  have hI := rb_in_I hW hin
  have hb := rb_V_b hN (t := 5) hI.1 hI.2
  obtain ⟨⟨_, m1, m2⟩, ⟨_, k1, k2⟩, aB, aS, aO, aF⟩ := h
  have t1 := m1 l0 l1 hin
  have t2 := k1 l0 l1 hin
  have m3 : ∃ x y, rb_in l0 h0 l1 h1 x y ∧ rb_V (rb_NN p q r) 5 x y = mo ∧ at' = rb_cd x y ∧ ∀ x' y', rb_in l0 h0 l1 h1 x' y' → rb_lx x' y' x y → rb_V (rb_NN p q r) 5 x' y' < mo := by
    rcases m2 with z | z
    · omega
    · exact z
  have k3 : ∃ x y, rb_in l0 h0 l1 h1 x y ∧ rb_V (rb_NN p q r) 5 x y = le := by
    rcases k2 with z | z
    · omega
    · exact z
  have fB : rb_FA (rb_NN p q r) l0 h0 l1 h1 lim br := by
    rcases aB with ⟨e, k⟩ | ⟨x, y, hxy, _, _, e, g, k⟩
    · exact Or.inl ⟨e, k⟩
    · exact Or.inr ⟨x, y, hxy, e, g, k⟩
  have emax : ∀ β, (∃ x y, rb_in l0 h0 l1 h1 x y ∧ rb_V (rb_NN p q r) 5 x y = β) → (∀ x y, rb_in l0 h0 l1 h1 x y → rb_V (rb_NN p q r) 5 x y ≤ β) → β = mo := by
    rintro β ⟨x, y, hxy, e⟩ hle
    obtain ⟨x', y', hxy', e', _⟩ := m3
    have s1 := hle x' y' hxy'
    have s2 := m1 x y hxy
    omega
  refine pk_le 4 4 (fun _ => ?_) (fun z => absurd z (by omega))
  refine rb_most hN hA hW e12 e13 (fun β g1 g2 wc bc c2 c3 c4 c5 c6 c7 c8 c9 c10 c11 c12 => br_t (by rw [emax β g1 g2]) ?_)
  refine rb_least hN hA hW e12 e13 (fun γ g1 g2 wd bd d2 d3 d4 d5 d6 d7 d8 d9 d10 d11 d12 => br_t ?_ ?_)
  · obtain ⟨x, y, hxy, e⟩ := g1
    obtain ⟨x', y', hxy', e'⟩ := k3
    have s1 := g2 x' y' hxy'
    have s2 := k1 x y hxy
    exact congrArg rb_i (by omega)
  refine rb_mostAt hN hA hW e12 e13 (fun β s g1 g2 g3 wu bu u2 u3 u4 u5 u6 u7 u8 u9 u10 u11 u12 => br_t ?_ ?_)
  · rw [emax β g1 g2] at g3
    refine rb_FA_uniq g3 ?_
    obtain ⟨x, y, hxy, e, ec, k⟩ := m3
    exact Or.inr ⟨x, y, hxy, ec, by omega, fun x' y' d l => by have := k x' y' d l; omega⟩
  refine rb_breach hN hA hW hlim e12 e13 rfl (fun s g wv bv v2 v3 v4 v5 v6 v7 v8 v9 v10 v11 v12 => br_t (rb_FA_uniq g fB) ?_)
  have fin : ∀ (z : Int32) (ws bs : Int32) (s2 s3 s4 s5 s6 s7 s8 s9 s10 s11 s12 : Nat → Int32), wL_lawOf_615 post mc ms p q r (rb_i l0) (rb_i l1) x12 x13 (rb_i lim) on off (rb_pc se 32) z z kc ks ws bs a1 s2 s3 s4 s5 s6 s7 s8 s9 s10 s11 s12 := fun z ws bs s2 s3 s4 s5 s6 s7 s8 s9 s10 s11 s12 => rb_l615 hA hlim hW e12 e13 aS aO aF H
  refine rb_safe hN hA hW hlim e12 e13 rfl (fun g wt bt t2 t3 t4 t5 t6 t7 t8 t9 t10 t11 t12 => br_f ?_ (fin 1 wt bt t2 t3 t4 t5 t6 t7 t8 t9 t10 t11 t12)) (fun s g gs wt bt t2 t3 t4 t5 t6 t7 t8 t9 t10 t11 t12 => br_t ?_ (fin 0 wt bt t2 t3 t4 t5 t6 t7 t8 t9 t10 t11 t12))
  · rw [← rb_FA_uniq g fB]
    decide
  · rcases aB with ⟨e, _⟩ | ⟨x, y, hxy, i1, i2, e, _, _⟩
    · have : s = -2 := (rb_FA_uniq g fB).trans e
      exact absurd this gs
    · obtain ⟨n', hn', en⟩ := rb_cd_nat i1 i2
      rw [e, en]
      exact nI_pos' (by omega)
theorem rb_l497 {J : Int32 → Int32 → Prop} {x0 x1 x2 x6 x7 x14 x15 x16 x17 x18 x20 x21 w b : Int32} {a2 a3 a4 a5 a6 a7 a8 a9 a10 a11 a12 : Nat → Int32} {i : Nat} (hi : i < 4) (H : J (rb_pc se (8 * (i + 1))) (nI (i + 1))) :
    ∃ n, wL_lawOf_497 post mc ms J x0 x1 x2 x6 x7 x12 x13 x14 x15 x16 x17 x18 se x20 x21 (nI i) kc ks w b a1 a2 a3 a4 a5 a6 a7 a8 a9 a10 a11 a12 n (rb_pc se (8 * i)) 0 := by
  refine pk_loop (fun n j s => wL_lawOf_497 post mc ms J x0 x1 x2 x6 x7 x12 x13 x14 x15 x16 x17 x18 se x20 x21 (nI i) kc ks w b a1 a2 a3 a4 a5 a6 a7 a8 a9 a10 a11 a12 n s (nI j)) (fun j s => s = rb_pc se (8 * i + j)) 8 0 _ (by omega) rfl ?_ ?_
  · intro n s h
    refine pk_le 8 8 (fun _ => nm_r (nI_1 i) ?_) (fun z => absurd z (by omega))
    rw [h, show 8 * i + 8 = 8 * (i + 1) by omega]
    exact H
  · intro n j s hj h hw
    have e8 : (8 * nI i) + nI j = nI (8 * i + j) := by
      rw [show (8 : Int32) * nI i = nI (8 * i) from pk_mul 8 i, nI_add]
    refine pk_le 8 j (fun z => absurd z (by omega)) (fun _ => nm_r ?_ (nm_r (nI_1 j) (hw _ rfl)))
    rw [e8, h]
    rfl
theorem rb_l488 (hA : rb_A (rb_NN p q r) a1) (hlim : -1000000 ≤ lim ∧ lim ≤ 1000000) (hW : rb_W l0 h0 l1 h1) (e12 : x12 = rb_i (32 * (l0 + 16) + h0 + 16)) (e13 : x13 = rb_i (32 * (l1 + 16) + h1 + 16))
    (h : rb_acc (rb_NN p q r) lim (rb_in l0 h0 l1 h1) mo le at' br se on off) (H : post 1 ()) {w b : Int32} {a2 a3 a4 a5 a6 a7 a8 a9 a10 a11 a12 : Nat → Int32} (n : Nat) : ∀ i : Nat, i ≤ 4 → 4 - i < n →
    wL_lawOf_488 post mc ms p q r (rb_i l0) (rb_i l1) x12 x13 (rb_i lim) (rb_i mo) (rb_i le) at' br se on off kc ks w b a1 a2 a3 a4 a5 a6 a7 a8 a9 a10 a11 a12 n (rb_pc se (8 * i)) (nI i) := by
  induction n with
  | zero => intro i _ h; omega
  | succ n ih =>
    intro i hi hn
    by_cases e : i = 4
    · subst e
      exact rb_l488e hA hlim hW e12 e13 h H n
    · exact pk_le 4 i (fun z => absurd z (by omega)) (fun z => rb_l497 z (ih (i + 1) (by omega) (by omega)))
end
end
section
/-! ===== the law from its start ===== -/
def rb_fil (N : Nat → Int) (c : Nat) (a1 : Nat → Int32) : Prop := (∀ t, t < c → t < 20 → a1 t = rb_i (N t)) ∧ ∀ t, c ≤ t → t < 20 → a1 t = rb_i 0
section
variable {post : Int32 → St0 → Prop} {mc ms kc ks : Nat} {p q r x3 x4 w b : Int32} {a2 a3 a4 a5 a6 a7 a8 a9 a10 a11 a12 : Nat → Int32}
theorem rb_l21 {J : rb_J3} {i : Nat} (hi : i < 5) (H : ∀ a1, rb_fil (rb_NN p q r) (4 * (i + 1)) a1 → J (nI (i + 1)) w b a1 a2 a3 a4 a5 a6 a7 a8 a9 a10 a11 a12)
    (n : Nat) : ∀ (j : Nat) (a1 : Nat → Int32), j ≤ 4 → 4 - j < n → rb_fil (rb_NN p q r) (4 * i + j) a1 → wL_lawOf_21 post mc ms J p q r x3 x4 (nI i) kc ks n (nI j) w b a1 a2 a3 a4 a5 a6 a7 a8 a9 a10 a11 a12 := by
  induction n with
  | zero => intro j _ _ h; omega
  | succ n ih =>
    intro j a1 hj hn h
    have e4 : (4 * nI i) + nI j = nI (4 * i + j) := by
      rw [show (4 : Int32) * nI i = nI (4 * i) from pk_mul 4 i, nI_add]
    refine pk_le 4 j (fun z => nm_r (nI_1 i) (H _ ?_)) (fun z => rb_number (by omega) e4 ?_)
    · rw [show 4 * (i + 1) = 4 * i + j by omega]
      exact h
    · have hb := rb_NN_b p q r (4 * i + j)
      have fil : rb_fil (rb_NN p q r) (4 * i + (j + 1)) (upd a1 (4 * i + j) (rb_i (rb_NN p q r (4 * i + j)))) := by
        refine ⟨fun t h1 h2 => ?_, fun t h1 h2 => ?_⟩
        · by_cases e : t = 4 * i + j
          · rw [e, pk_us]
          · rw [pk_un e]
            exact h.1 t (by omega) h2
        · rw [pk_un (by omega)]
          exact h.2 t (by omega) h2
      have nx := ih (j + 1) _ (by omega) (by omega) fil
      refine rb_set (j := 4 * i + j) (v := rb_NN p q r (4 * i + j)) (by omega) hb (fun k1 k2 k3 k4 => rb_NN_5 p q r _ (by omega) k1 k2 k3 k4) e4 rfl (h.2 _ (by omega) (by omega)) (fun g => br_t ?_ (br_t rfl (nm_r (nI_1 j) nx))) (fun g => br_f ?_ (br_t rfl (nm_r (nI_1 j) nx)))
      · rw [g]
        rfl
      · intro e
        exact g ((rb_eqI (b := 0) (by omega) (by omega)).mp e)
theorem rb_l163 {a1 : Nat → Int32} {l0 h0 l1 h1 : Int} (hA : rb_A (rb_NN p q r) a1) (hW : rb_W l0 h0 l1 h1) (hw0 : h0 ≤ l0 + 7) (hw1 : h1 ≤ l1 + 7) (H : post 1 ()) :
    wL_lawOf_163 post mc ms p q r x4 (rb_i l0) (rb_i l1) (rb_i h0) (rb_i h1) kc ks w b a1 a2 a3 a4 a5 a6 a7 a8 a9 a10 a11 a12 := by
  have e32 : (32 : Int32) = rb_i 32 := rfl
  have e16 : (16 : Int32) = rb_i 16 := rfl
  have e60 : (60 : Int32) = rb_i 60 := rfl
  have em : (-1000000 : Int32) = rb_i (-1000000) := by decide
  have el : (1000000 : Int32) = rb_i 1000000 := by decide
  have cd : ∀ l h : Int, ((32 * (rb_i l + 16)) + rb_i h) + 16 = rb_i (32 * (l + 16) + h + 16) := by
    intro l h
    rw [e32, e16, rb_add, rb_mul, rb_add, rb_add]
  obtain ⟨d, hd, ed⟩ := pk_andE x4 (m := 127) 7 (by decide)
  have e14 : (x4 &&& 127) - 60 = rb_i ((d : Int) - 60) := by rw [ed, rb_n, e60, rb_sub]
  unfold wL_lawOf_163
  refine nm_r (cd l0 h0) (nm_r (cd l1 h1) (nm_r e14 ⟨9, ?_⟩))
  rw [em, el]
  refine rb_l234 (x12 := rb_i (32 * (l0 + 16) + h0 + 16)) (x13 := rb_i (32 * (l1 + 16) + h1 + 16)) (lim := (d : Int) - 60) hA (by omega) hW hw0 hw1 (fun mo le at' br se on off h wc bc c2 c3 c4 c5 c6 c7 c8 c9 c10 c11 c12 => ⟨5, rb_l488 hA (by omega) hW rfl rfl h H 5 0 (by omega) (by omega)⟩) 9 0 (-1000000) 1000000 (-1) (-2) 0 0 0 _ _ _ _ _ _ _ _ _ _ _ _ _ (by omega) (by omega) (rb_acc0 (fun x y k => ?_))
  unfold rb_D rb_in at k
  omega
theorem rb_l141 {a1 : Nat → Int32} {l0 h0 l1 : Int} {d : Nat} (hA : rb_A (rb_NN p q r) a1) (hl0 : -16 ≤ l0 ∧ l0 ≤ h0 ∧ h0 ≤ 15) (hw0 : h0 ≤ l0 + 7) (hl1 : -16 ≤ l1 ∧ l1 ≤ 15) (hd : d < 8) (H : post 1 ()) :
    wL_lawOf_141 post mc ms p q r x4 (rb_i l0) (rb_i l1) (nI d) (rb_i h0) kc ks w b a1 a2 a3 a4 a5 a6 a7 a8 a9 a10 a11 a12 := by
  have e : rb_i l1 + nI d = rb_i (l1 + d) := by rw [rb_n, rb_add]
  have e15 : (15 : Int32) = rb_i 15 := rfl
  unfold wL_lawOf_141
  rw [e, e15]
  exact rb_ble (l1 + d) 15 (fun z => rb_l163 hA (by unfold rb_W; omega) hw0 (by omega) H) (fun z => rb_l163 hA (by unfold rb_W; omega) hw0 (by omega) H) rfl rfl
theorem rb_l12 (H : post 1 ()) (n : Nat) : ∀ (i : Nat) (a1 : Nat → Int32), i ≤ 5 → 5 - i < n → rb_fil (rb_NN p q r) (4 * i) a1 → wL_lawOf_12 post mc ms p q r x3 x4 kc ks n (nI i) w b a1 a2 a3 a4 a5 a6 a7 a8 a9 a10 a11 a12 := by
  induction n with
  | zero => intro i _ _ h; omega
  | succ n ih =>
    intro i a1 hi hn h
    refine pk_le 5 i (fun z => ?_) (fun z => ⟨5, rb_l21 z (fun a1 hf => ih (i + 1) a1 (by omega) (by omega) hf) 5 0 a1 (by omega) (by omega) h⟩)
    have hA : rb_A (rb_NN p q r) a1 := fun j hj => h.1 j (by omega) hj
    obtain ⟨d0, hd0, ed0⟩ := pk_andE x3 (m := 31) 5 (by decide)
    obtain ⟨d1, hd1, ed1⟩ := pk_andE (x3 >>> ((5 : Int32) &&& 31)) (m := 31) 5 (by decide)
    obtain ⟨d2, hd2, ed2⟩ := pk_andE (x3 >>> ((10 : Int32) &&& 31)) (m := 7) 3 (by decide)
    obtain ⟨d3, hd3, ed3⟩ := pk_andE (x3 >>> ((13 : Int32) &&& 31)) (m := 7) 3 (by decide)
    have e16 : (16 : Int32) = rb_i 16 := rfl
    have k0 : (x3 &&& 31) - 16 = rb_i ((d0 : Int) - 16) := by rw [ed0, rb_n, e16, rb_sub]
    have k1 : ((x3 >>> ((5 : Int32) &&& 31)) &&& 31) - 16 = rb_i ((d1 : Int) - 16) := by rw [ed1, rb_n, e16, rb_sub]
    have e : rb_i ((d0 : Int) - 16) + nI d2 = rb_i ((d0 : Int) - 16 + d2) := by rw [rb_n, rb_add]
    refine nm_r k0 (nm_r k1 (nm_r ed2 (nm_r ed3 ?_)))
    rw [e, show (15 : Int32) = rb_i 15 from rfl]
    exact rb_ble ((d0 : Int) - 16 + d2) 15 (fun z' => rb_l141 hA (by omega) (by omega) (by omega) (by omega) H) (fun z' => rb_l141 hA (by omega) (by omega) (by omega) (by omega) H) rfl rfl
end
theorem rb_lawOf {post : Int32 → St0 → Prop} {p q r x3 x4 : Int32} (H : post 1 ()) : wpL_lawOf post 13 140 () p q r x3 x4 := by
  unfold wpL_lawOf
  refine ⟨by omega, by omega, 12, 126, by omega, by omega, ?_⟩
  unfold wpX_init
  dsimp only
  refine ⟨?_, ?_, ?_, ?_, ?_, ?_, ?_, ?_, ?_, ?_, ?_, ?_, ?_, ?_, ?_, ?_, ?_, ?_, ?_, ?_, ?_, ?_, ?_, ?_, ?_⟩
  iterate 24 omega
  exact ⟨6, rb_l12 H 6 0 _ (by omega) (by omega) ⟨fun t h => absurd h (by omega), fun t _ _ => rfl⟩⟩
theorem rb_cell {post : Int32 → Prop} {L : Nat} {xs : Nat → Int32} (hL : L ≤ 5) {k : Nat} (hk : k < 5) {p : Int32} (e : p = nI k) (H : ∀ v, post v) : wpL_cellAt post L xs () p :=
  pk_le L k (fun _ => H 0) (fun z => ⟨pk_in k L z e, H _⟩) rfl e
end
section
theorem i_vc (xs : Nat → Int32) (L : Nat) (hL : L ≤ 5) : wpL_law (fun r => r = 1) L xs := by
  refine rb_cell hL (k := 0) (by omega) rfl (fun v1 => rb_cell hL (k := 1) (by omega) rfl (fun v2 => rb_cell hL (k := 2) (by omega) rfl (fun v3 => rb_cell hL (k := 3) (by omega) rfl (fun v4 => rb_cell hL (k := 4) (by omega) rfl (fun v5 => ?_)))))
  exact ⟨13, 140, by omega, by omega, rb_lawOf rfl⟩
end
