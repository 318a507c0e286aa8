section
/-! bytes packed in a natural; a choice and a forced value, for the kernel -/
noncomputable def es_i (c t e : Bool) : Bool := @Bool.rec (fun _ => Bool) e t c
noncomputable def es_f (n : Nat) (k : Nat → Bool) : Bool := @Nat.rec (fun _ => Bool) (k 0) (fun m _ => k (Nat.succ m)) n
def es_rd (N i : Nat) : Nat := Nat.mod (Nat.shiftRight N (Nat.mul 8 i)) 256
def es_wr (N i v : Nat) : Nat := Nat.xor N (Nat.shiftLeft (Nat.xor (Nat.mod (Nat.shiftRight N (Nat.mul 8 i)) 256) v) (Nat.mul 8 i))
/-- m bytes from place i on -/
def es_ck (N i m : Nat) : Nat := Nat.mod (Nat.shiftRight N (Nat.mul 8 i)) (Nat.pow 2 (Nat.mul 8 m))
def es_wc (N i m v : Nat) : Nat := Nat.xor N (Nat.shiftLeft (Nat.xor (Nat.mod (Nat.shiftRight N (Nat.mul 8 i)) (Nat.pow 2 (Nat.mul 8 m))) v) (Nat.mul 8 i))
theorem es_fe {n : Nat} {k : Nat → Bool} (h : es_f n k = true) : k n = true := by
  cases n with
  | zero => exact h
  | succ m => exact h
theorem es_fe2 {n : Nat} {m : Nat → Nat} {k : Nat → Nat → Bool} (h : es_f n (fun x => es_f (m x) (k x)) = true) : k n (m n) = true := by
  have h2 : es_f (m n) (k n) = true := @es_fe n (fun x => es_f (m x) (k x)) h
  exact @es_fe (m n) (k n) h2
theorem es_iT {c t e : Bool} (h : es_i c t e = true) : (c = true ∧ t = true) ∨ (c = false ∧ e = true) := by
  cases c with
  | true => exact Or.inl ⟨rfl, h⟩
  | false => exact Or.inr ⟨rfl, h⟩
theorem es_gT {c t : Bool} (h : es_i c t false = true) : c = true ∧ t = true := by
  cases c with
  | true => exact ⟨rfl, h⟩
  | false => exact absurd (show false = true from h) (by decide)
theorem es_gF {c e : Bool} (h : es_i c false e = true) : c = false ∧ e = true := by
  cases c with
  | true => exact absurd (show false = true from h) (by decide)
  | false => exact ⟨rfl, h⟩
theorem es_bleT {x y : Nat} (h : Nat.ble x y = true) : x ≤ y := Nat.le_of_ble_eq_true h
theorem es_bleF {x y : Nat} (h : Nat.ble x y = false) : y < x := by
  rcases Nat.lt_or_ge y x with z | z
  · exact z
  · rw [Nat.ble_eq_true_of_le z] at h
    exact absurd h (by decide)
theorem es_beqT {x y : Nat} (h : Nat.beq x y = true) : x = y := Nat.eq_of_beq_eq_true h
theorem es_beqF {x y : Nat} (h : Nat.beq x y = false) : x ≠ y := Nat.ne_of_beq_eq_false h
/-- guards: x ≤ y, y < x, x = y, x ≠ y or the checker fails -/
theorem es_gle {x y : Nat} {t : Bool} (h : es_i (Nat.ble x y) t false = true) : x ≤ y ∧ t = true := ⟨es_bleT (es_gT h).1, (es_gT h).2⟩
theorem es_ggt {x y : Nat} {t : Bool} (h : es_i (Nat.ble x y) false t = true) : y < x ∧ t = true := ⟨es_bleF (es_gF h).1, (es_gF h).2⟩
theorem es_geq {x y : Nat} {t : Bool} (h : es_i (Nat.beq x y) t false = true) : x = y ∧ t = true := ⟨es_beqT (es_gT h).1, (es_gT h).2⟩
theorem es_gne {x y : Nat} {t : Bool} (h : es_i (Nat.beq x y) false t = true) : x ≠ y ∧ t = true := ⟨es_beqF (es_gF h).1, (es_gF h).2⟩
theorem es_cle {x y : Nat} {t e : Bool} (h : es_i (Nat.ble x y) t e = true) : (x ≤ y ∧ t = true) ∨ (y < x ∧ e = true) := by
  rcases es_iT h with z | z
  · exact Or.inl ⟨es_bleT z.1, z.2⟩
  · exact Or.inr ⟨es_bleF z.1, z.2⟩
theorem es_ceq {x y : Nat} {t e : Bool} (h : es_i (Nat.beq x y) t e = true) : (x = y ∧ t = true) ∨ (x ≠ y ∧ e = true) := by
  rcases es_iT h with z | z
  · exact Or.inl ⟨es_beqT z.1, z.2⟩
  · exact Or.inr ⟨es_beqF z.1, z.2⟩
theorem es_rd_def (N i : Nat) : es_rd N i = (N >>> (8 * i)) % 2 ^ 8 := rfl
theorem es_ck_def (N i m : Nat) : es_ck N i m = (N >>> (8 * i)) % 2 ^ (8 * m) := rfl
theorem es_wc_def (N i m v : Nat) : es_wc N i m v = N ^^^ (((N >>> (8 * i)) % 2 ^ (8 * m) ^^^ v) <<< (8 * i)) := rfl
theorem es_wr_wc (N i v : Nat) : es_wr N i v = es_wc N i 1 v := rfl
theorem es_rd_lt (N i : Nat) : es_rd N i < 256 := Nat.mod_lt _ (by decide)
theorem es_rd_bit (N i b : Nat) : (es_rd N i).testBit b = (decide (b < 8) && N.testBit (8 * i + b)) := by
  rw [es_rd_def, Nat.testBit_mod_two_pow, Nat.testBit_shiftRight]
theorem es_rd_small {v : Nat} (h : v < 256) : es_rd v 0 = v := by
  rw [es_rd_def]
  show (v >>> 0) % 2 ^ 8 = v
  rw [Nat.shiftRight_zero]
  exact Nat.mod_eq_of_lt h
theorem es_ext {a b : Nat} (ha : a < 256) (hb : b < 256) (h : ∀ i, i < 8 → a.testBit i = b.testBit i) : a = b := by
  apply Nat.eq_of_testBit_eq
  intro i
  rcases Nat.lt_or_ge i 8 with z | z
  · exact h i z
  · have p : 2 ^ 8 ≤ 2 ^ i := Nat.pow_le_pow_right (by decide) z
    rw [Nat.testBit_lt_two_pow (Nat.lt_of_lt_of_le ha p), Nat.testBit_lt_two_pow (Nat.lt_of_lt_of_le hb p)]
theorem es_rd_wc {N i m v : Nat} (hv : v < 2 ^ (8 * m)) (j : Nat) : es_rd (es_wc N i m v) j = if i ≤ j ∧ j < i + m then es_rd v (j - i) else es_rd N j := by
  apply es_ext (es_rd_lt _ _)
  · split <;> exact es_rd_lt _ _
  intro b hb
  rw [es_rd_bit, es_wc_def, Nat.testBit_xor, Nat.testBit_shiftLeft, Nat.testBit_xor, Nat.testBit_mod_two_pow, Nat.testBit_shiftRight]
  split
  case isTrue hc =>
    rw [es_rd_bit]
    have e1 : 8 * i + (8 * j + b - 8 * i) = 8 * j + b := by omega
    have e2 : 8 * j + b - 8 * i = 8 * (j - i) + b := by omega
    rw [e1, e2]
    have d1 : decide (8 * j + b ≥ 8 * i) = true := decide_eq_true (by omega)
    have d2 : decide (8 * (j - i) + b < 8 * m) = true := decide_eq_true (by omega)
    rw [d1, d2]
    cases N.testBit (8 * j + b) <;> cases v.testBit (8 * (j - i) + b) <;> rfl
  case isFalse hc =>
    rw [es_rd_bit]
    rcases Nat.lt_or_ge j i with z | z
    · have d1 : decide (8 * j + b ≥ 8 * i) = false := decide_eq_false (by omega)
      rw [d1]
      cases N.testBit (8 * j + b) <;> rfl
    · have d2 : decide (8 * j + b - 8 * i < 8 * m) = false := decide_eq_false (by omega)
      have d3 : v.testBit (8 * j + b - 8 * i) = false := Nat.testBit_lt_two_pow (Nat.lt_of_lt_of_le hv (Nat.pow_le_pow_right (by decide) (by omega)))
      rw [d2, d3]
      cases N.testBit (8 * j + b) <;> cases decide (8 * j + b ≥ 8 * i) <;> rfl
theorem es_rd_wr {N i v : Nat} (hv : v < 256) (j : Nat) : es_rd (es_wr N i v) j = if j = i then v else es_rd N j := by
  rw [es_wr_wc, es_rd_wc hv]
  by_cases h : j = i
  · rw [if_pos h, if_pos ⟨by omega, by omega⟩, h, Nat.sub_self]
    exact es_rd_small hv
  · rw [if_neg h, if_neg (by omega)]
theorem es_rd_wr_eq {N i v : Nat} (hv : v < 256) : es_rd (es_wr N i v) i = v := by rw [es_rd_wr hv, if_pos rfl]
theorem es_rd_wr_ne {N i v j : Nat} (hv : v < 256) (h : j ≠ i) : es_rd (es_wr N i v) j = es_rd N j := by rw [es_rd_wr hv, if_neg h]
theorem es_rd_ck {N i m j : Nat} (hj : j < m) : es_rd (es_ck N i m) j = es_rd N (i + j) := by
  apply es_ext (es_rd_lt _ _) (es_rd_lt _ _)
  intro b hb
  rw [es_rd_bit, es_rd_bit, es_ck_def, Nat.testBit_mod_two_pow, Nat.testBit_shiftRight]
  have d : decide (8 * j + b < 8 * m) = true := decide_eq_true (by omega)
  rw [d, show 8 * i + (8 * j + b) = 8 * (i + j) + b by omega]
  rfl
theorem es_ck_lt (N i m : Nat) : es_ck N i m < 2 ^ (8 * m) := Nat.mod_lt _ (Nat.pow_pos (by decide))
theorem es_rd_0 (i : Nat) : es_rd 0 i = 0 := by
  rw [es_rd_def, Nat.zero_shiftRight]
/-- a byte in front -/
theorem es_rd_cons0 {b r : Nat} (hb : b < 256) : es_rd (b + 256 * r) 0 = b := by
  show (b + 256 * r) >>> 0 % 256 = b
  rw [Nat.shiftRight_zero]
  omega
theorem es_rd_cons {b r : Nat} (hb : b < 256) (i : Nat) : es_rd (b + 256 * r) (i + 1) = es_rd r i := by
  rw [es_rd_def, es_rd_def, Nat.shiftRight_eq_div_pow, Nat.shiftRight_eq_div_pow, show 8 * (i + 1) = 8 + 8 * i by omega, Nat.pow_add, ← Nat.div_div_eq_div_mul]
  have e : (b + 256 * r) / 2 ^ 8 = r := by
    show (b + 256 * r) / 256 = r
    omega
  rw [e]
/-- equal chunks, equal bytes -/
theorem es_ck_eq {N i i' m : Nat} (h : es_ck N i m = es_ck N i' m) : ∀ j, j < m → es_rd N (i + j) = es_rd N (i' + j) := by
  intro j hj
  rw [← es_rd_ck hj, ← es_rd_ck hj, h]
/-- the eight bytes of a message's head have no high bit -/
theorem es_low {M : Nat} (h : Nat.beq (Nat.land M 9259542123273814144) 0 = true) : ∀ j, j < 8 → es_rd M j < 128 := by
  intro j hj
  have h0 : M &&& 9259542123273814144 = 0 := es_beqT h
  rcases Nat.lt_or_ge (es_rd M j) 128 with z | z
  · exact z
  · exfalso
    have t : (es_rd M j).testBit 7 = true := by
      have l := es_rd_lt M j
      rw [Nat.testBit_eq_decide_div_mod_eq]
      exact decide_eq_true (by show es_rd M j / 128 % 2 = 1; omega)
    rw [es_rd_bit] at t
    have q : (M &&& 9259542123273814144).testBit (8 * j + 7) = true := by
      rw [Nat.testBit_and]
      have m8 : ∀ j, j < 8 → Nat.testBit 9259542123273814144 (8 * j + 7) = true := by decide +kernel
      rw [m8 j hj]
      simpa using t
    rw [h0, Nat.zero_testBit] at q
    exact absurd q (by decide)
/-! numbers of the program: e is nI v, and v < B -/
def es_V (e : Int32) (v B : Nat) : Prop := e = nI v ∧ v < B
theorem es_vn {v B : Nat} (h : v < B) : es_V (nI v) v B := ⟨rfl, h⟩
theorem es_vl (e : Int32) (v : Nat) (h : e = nI v := by rfl) : es_V e v (v + 1) := ⟨h, Nat.lt_succ_self v⟩
theorem es_vw {e : Int32} {v B : Nat} (h : es_V e v B) {C : Nat} (hc : B ≤ C := by decide) : es_V e v C := ⟨h.1, Nat.lt_of_lt_of_le h.2 hc⟩
theorem es_vb {e : Int32} {v B : Nat} (h : es_V e v B) {C : Nat} (hc : v < C) : es_V e v C := ⟨h.1, hc⟩
theorem es_vq {e e' : Int32} {v B : Nat} (q : e' = e) (h : es_V e v B) : es_V e' v B := ⟨q.trans h.1, h.2⟩
theorem es_vr {e : Int32} {v w B : Nat} (h : es_V e v B) (q : v = w) : es_V e w B := q ▸ h
theorem es_va {a b : Int32} {x y B C : Nat} (ha : es_V a x B) (hb : es_V b y C) : es_V (a + b) (x + y) (B + C) := ⟨by rw [ha.1, hb.1, nI_add], Nat.add_lt_add ha.2 hb.2⟩
theorem es_vs {a b : Int32} {x y B C : Nat} (ha : es_V a x B) (hb : es_V b y C) (h : y ≤ x) : es_V (a - b) (x - y) B := ⟨by rw [ha.1, hb.1, pk_sub h], Nat.lt_of_le_of_lt (Nat.sub_le _ _) ha.2⟩
theorem es_vm {a b : Int32} {x y B C : Nat} (ha : es_V a x B) (hb : es_V b y C) : es_V (a * b) (x * y) (B * C) :=
  ⟨by rw [ha.1, hb.1, pk_mul], Nat.mul_lt_mul'' ha.2 hb.2⟩
theorem es_v1 {a : Int32} {x B : Nat} (ha : es_V a x B) : es_V (a + 1) (x + 1) (B + 1) := ⟨by rw [ha.1, nI_1], Nat.succ_lt_succ ha.2⟩
theorem es_vm1 {a : Int32} {x B : Nat} (ha : es_V a x B) (h : 1 ≤ x) : es_V (a + (-1)) (x - 1) B := ⟨by rw [ha.1, sb_m1 h], Nat.lt_of_le_of_lt (Nat.sub_le _ _) ha.2⟩
theorem es_in {e : Int32} {v B n : Nat} (h : es_V e v B) (hv : v < n) (hn : n < 2147483648 := by decide) : vp_in e n := by
  rw [h.1]
  exact vp_in_nI hv hn
theorem es_clamp {e : Int32} {v B : Nat} (h : es_V e v B) (hB : B ≤ 2147483648 := by decide) : e.toNatClampNeg = v := by
  rw [h.1]
  exact nI_clamp (Nat.lt_of_lt_of_le h.2 hB)
/-! branches -/
theorem es_le {a b : Int32} {x y B C : Nat} {t e : Bool} {P Q : Prop} (ha : es_V a x B) (hb : es_V b y C) (h : es_i (Nat.ble x y) t e = true) (f : x ≤ y → t = true → P) (g : y < x → e = true → Q) (hB : B ≤ 2147483648 := by decide) (hC : C ≤ 2147483648 := by decide) : (a ≤ b → P) ∧ (¬ a ≤ b → Q) := by
  have l : a ≤ b ↔ x ≤ y := by
    rw [ha.1, hb.1]
    exact nI_leI (Nat.lt_of_lt_of_le ha.2 hB) (Nat.lt_of_lt_of_le hb.2 hC)
  rcases es_cle h with z | z
  · exact br_t (l.mpr z.1) (f z.1 z.2)
  · exact br_f (fun q => absurd (l.mp q) (by omega)) (g z.1 z.2)
theorem es_lt {a b : Int32} {x y B C : Nat} {t e : Bool} {P Q : Prop} (ha : es_V a x B) (hb : es_V b y C) (h : es_i (Nat.ble y x) e t = true) (f : x < y → t = true → P) (g : y ≤ x → e = true → Q) (hB : B ≤ 2147483648 := by decide) (hC : C ≤ 2147483648 := by decide) : (a < b → P) ∧ (¬ a < b → Q) := by
  have l : a < b ↔ x < y := by
    rw [ha.1, hb.1]
    exact nI_ltI (Nat.lt_of_lt_of_le ha.2 hB) (Nat.lt_of_lt_of_le hb.2 hC)
  rcases es_cle h with z | z
  · exact br_f (fun q => absurd (l.mp q) (by omega)) (g z.1 z.2)
  · exact br_t (l.mpr z.1) (f z.1 z.2)
theorem es_eq {a b : Int32} {x y B C : Nat} {t e : Bool} {P Q : Prop} (ha : es_V a x B) (hb : es_V b y C) (h : es_i (Nat.beq x y) t e = true) (f : x = y → t = true → P) (g : x ≠ y → e = true → Q) (hB : B ≤ 2147483648 := by decide) (hC : C ≤ 2147483648 := by decide) : (a = b → P) ∧ (¬ a = b → Q) := by
  have l : a = b ↔ x = y := by
    rw [ha.1, hb.1]
    exact nI_eq (Nat.lt_of_lt_of_le ha.2 hB) (Nat.lt_of_lt_of_le hb.2 hC)
  rcases es_ceq h with z | z
  · exact br_t (l.mpr z.1) (f z.1 z.2)
  · exact br_f (fun q => z.1 (l.mp q)) (g z.1 z.2)
/-- branches already decided -/
theorem es_leT {a b : Int32} {x y B C : Nat} {P Q : Prop} (ha : es_V a x B) (hb : es_V b y C) (h : x ≤ y) (p : P) (hB : B ≤ 2147483648 := by decide) (hC : C ≤ 2147483648 := by decide) : (a ≤ b → P) ∧ (¬ a ≤ b → Q) :=
  br_t (by rw [ha.1, hb.1]; exact (nI_leI (Nat.lt_of_lt_of_le ha.2 hB) (Nat.lt_of_lt_of_le hb.2 hC)).mpr h) p
theorem es_leF {a b : Int32} {x y B C : Nat} {P Q : Prop} (ha : es_V a x B) (hb : es_V b y C) (h : y < x) (p : Q) (hB : B ≤ 2147483648 := by decide) (hC : C ≤ 2147483648 := by decide) : (a ≤ b → P) ∧ (¬ a ≤ b → Q) :=
  br_f (by rw [ha.1, hb.1]; exact fun q => absurd ((nI_leI (Nat.lt_of_lt_of_le ha.2 hB) (Nat.lt_of_lt_of_le hb.2 hC)).mp q) (by omega)) p
theorem es_ltT {a b : Int32} {x y B C : Nat} {P Q : Prop} (ha : es_V a x B) (hb : es_V b y C) (h : x < y) (p : P) (hB : B ≤ 2147483648 := by decide) (hC : C ≤ 2147483648 := by decide) : (a < b → P) ∧ (¬ a < b → Q) :=
  br_t (by rw [ha.1, hb.1]; exact (nI_ltI (Nat.lt_of_lt_of_le ha.2 hB) (Nat.lt_of_lt_of_le hb.2 hC)).mpr h) p
theorem es_ltF {a b : Int32} {x y B C : Nat} {P Q : Prop} (ha : es_V a x B) (hb : es_V b y C) (h : y ≤ x) (p : Q) (hB : B ≤ 2147483648 := by decide) (hC : C ≤ 2147483648 := by decide) : (a < b → P) ∧ (¬ a < b → Q) :=
  br_f (by rw [ha.1, hb.1]; exact fun q => absurd ((nI_ltI (Nat.lt_of_lt_of_le ha.2 hB) (Nat.lt_of_lt_of_le hb.2 hC)).mp q) (by omega)) p
theorem es_eqT {a b : Int32} {x y B C : Nat} {P Q : Prop} (ha : es_V a x B) (hb : es_V b y C) (h : x = y) (p : P) : (a = b → P) ∧ (¬ a = b → Q) :=
  br_t (by rw [ha.1, hb.1, h]) p
theorem es_eqF {a b : Int32} {x y B C : Nat} {P Q : Prop} (ha : es_V a x B) (hb : es_V b y C) (h : x ≠ y) (p : Q) (hB : B ≤ 2147483648 := by decide) (hC : C ≤ 2147483648 := by decide) : (a = b → P) ∧ (¬ a = b → Q) :=
  br_f (by rw [ha.1, hb.1]; exact fun q => h ((nI_eq (Nat.lt_of_lt_of_le ha.2 hB) (Nat.lt_of_lt_of_le hb.2 hC)).mp q)) p
/-! bits of sets of five -/
theorem es_bit1 : ∀ v, v < 32 → ∀ n, n < 5 → (nI v >>> (nI n &&& 31)) &&& 1 = nI (Nat.mod (Nat.shiftRight v n) 2) := by decide +kernel
theorem es_sh1 : ∀ n, n < 5 → (1 : Int32) <<< (nI n &&& 31) = nI (Nat.shiftLeft 1 n) ∧ Nat.shiftLeft 1 n < 32 := by decide +kernel
theorem es_or1 : ∀ v, v < 32 → ∀ w, w < 32 → nI v ||| nI w = nI (Nat.lor v w) ∧ Nat.lor v w < 32 := by decide +kernel
theorem es_an1 : ∀ v, v < 32 → ∀ w, w < 32 → nI v &&& nI w = nI (Nat.land v w) ∧ Nat.land v w < 32 := by decide +kernel
theorem es_cl1 : ∀ v, v < 32 → ∀ w, w < 32 → nI v &&& (nI w ^^^ (-1)) = nI (Nat.xor v (Nat.land v w)) ∧ Nat.xor v (Nat.land v w) < 32 := by decide +kernel
theorem es_vbit {r x : Int32} {v n : Nat} (hr : es_V r v 32) (hx : es_V x n 5) : es_V ((r >>> (x &&& 31)) &&& 1) (Nat.mod (Nat.shiftRight v n) 2) 2 := by
  rw [hr.1, hx.1]
  exact ⟨es_bit1 v hr.2 n hx.2, Nat.mod_lt _ (by decide)⟩
theorem es_vsh {x : Int32} {n : Nat} (hx : es_V x n 5) : es_V ((1 : Int32) <<< (x &&& 31)) (Nat.shiftLeft 1 n) 32 := by
  rw [hx.1]
  exact es_sh1 n hx.2
theorem es_vor {r x : Int32} {v n : Nat} (hr : es_V r v 32) (hx : es_V x n 32) : es_V (r ||| x) (Nat.lor v n) 32 := by
  rw [hr.1, hx.1]
  exact es_or1 v hr.2 n hx.2
theorem es_van {r x : Int32} {v n : Nat} (hr : es_V r v 32) (hx : es_V x n 32) : es_V (r &&& x) (Nat.land v n) 32 := by
  rw [hr.1, hx.1]
  exact es_an1 v hr.2 n hx.2
theorem es_vcl {r x : Int32} {v n : Nat} (hr : es_V r v 32) (hx : es_V x n 32) : es_V (r &&& (x ^^^ (-1))) (Nat.xor v (Nat.land v n)) 32 := by
  rw [hr.1, hx.1]
  exact es_cl1 v hr.2 n hx.2
theorem es_vdiv {a b : Int32} {x y B : Nat} (ha : es_V a x B) (hb : b = nI y) (h0 : 0 < y) (hy : y < 2147483648) (hB : B ≤ 2147483648) : es_V (a / b) (x / y) B :=
  ⟨by rw [ha.1, hb, pk_div (Nat.lt_of_lt_of_le ha.2 hB) h0 hy], Nat.lt_of_le_of_lt (Nat.div_le_self _ _) ha.2⟩
theorem es_vrem {a b : Int32} {x y B : Nat} (ha : es_V a x B) (hb : b = nI y) (h0 : 0 < y) (hy : y < 2147483648) (hB : B ≤ 2147483648) : es_V (a - a / b * b) (x % y) y :=
  ⟨by rw [ha.1, hb, pk_rem (Nat.lt_of_lt_of_le ha.2 hB) h0 hy], Nat.mod_lt _ h0⟩
/-- an optional node: 0 is none (-1), n + 1 is node n -/
def es_o (v : Nat) : Int32 := nI v - 1
theorem es_o0 : es_o 0 = -1 := by decide
theorem es_oS (n : Nat) : es_o (n + 1) = nI n := nI_pred n
end
section
/-! the relation of a state with four naturals -/
def es_ad (c a : Nat) : Nat := if Nat.beq (Nat.add (Nat.mul c 256) a) 128 then 128 else if Nat.beq (Nat.add (Nat.mul c 256) a) 32897 then 130 else if Nat.beq (Nat.add (Nat.mul c 256) a) 33281 then 131 else 255
/-- how cells read: small numbers, data, key and session -/
def es_E (g : Nat → Int32) (key s : Nat) : Prop := (∀ c, c < 128 → g c = nI c) ∧ g 132 = nI key ∧ g 133 = nI s ∧ key < 6 ∧ s < 4 ∧ (∀ c a, c < 256 → a < 256 → es_ad c a ≤ 131 → g c + g a = g (es_ad c a))
def es_A (N o n : Nat) (a : Nat → Int32) : Prop := ∀ j, j < n → a j = nI (es_rd N (Nat.add o j))
def es_B (N o n : Nat) (a : Nat → Int32) : Prop := ∀ j, j < n → a j = es_o (es_rd N (Nat.add o j))
def es_G (g : Nat → Int32) (L n : Nat) (a : Nat → Int32) : Prop := ∀ j, j < n → a j = g (es_rd L j)
def es_P (g : Nat → Int32) (key s N : Nat) (a : Nat → Int32) : Prop := ∀ n, n < 5 →
  a (15 * n + key) = g (es_rd N (Nat.add 100 (Nat.mul 4 n))) ∧ a (15 * n + 6 + s) = g (es_rd N (Nat.add 101 (Nat.mul 4 n))) ∧
  a (15 * n + 10 + s) = g (es_rd N (Nat.add 102 (Nat.mul 4 n))) ∧ a (15 * n + 14) = nI (es_rd N (Nat.add 103 (Nat.mul 4 n))) ∧
  ∀ j, j < 14 → j ≠ key → j ≠ 6 + s → j ≠ 10 + s → a (15 * n + j) = 0
def es_R (g : Nat → Int32) (key s : Nat) (f1 f2 f3 f4 : Int32) (a1 a2 a3 a4 a5 a6 a7 a8 a9 a10 a11 a12 a13 a14 a15 a16 a17 : Nat → Int32) (N L Q M : Nat) : Prop :=
  es_E g key s ∧ f1 = nI (es_rd N 120) ∧ f2 = nI (es_rd N 121) ∧ f3 = es_o (es_rd N 122) ∧ f4 = 0 ∧ es_A N 0 5 a1 ∧ es_A N 5 5 a2 ∧ es_A N 10 5 a3 ∧ es_A N 15 5 a4 ∧ es_B N 20 5 a5 ∧ es_A N 25 5 a6 ∧ es_A N 30 5 a7 ∧ es_A N 35 5 a8 ∧ es_A N 40 5 a9 ∧ es_G g L 560 a10 ∧ es_A N 45 5 a11 ∧ es_P g key s N a12 ∧ es_A N 50 25 a14 ∧ es_A N 75 25 a15 ∧ es_G g Q 1024 a16 ∧ (es_A M 0 8 a17 ∧ es_G g M 16 a17)
section
variable {g : Nat → Int32} {key s : Nat} {f1 f2 f3 f4 : Int32} {a1 a2 a3 a4 a5 a6 a7 a8 a9 a10 a11 a12 a13 a14 a15 a16 a17 : Nat → Int32} {N L Q M : Nat}
theorem es_pE (R : es_R g key s f1 f2 f3 f4 a1 a2 a3 a4 a5 a6 a7 a8 a9 a10 a11 a12 a13 a14 a15 a16 a17 N L Q M) : es_E g key s := R.1
theorem es_pf1 (R : es_R g key s f1 f2 f3 f4 a1 a2 a3 a4 a5 a6 a7 a8 a9 a10 a11 a12 a13 a14 a15 a16 a17 N L Q M) : f1 = nI (es_rd N 120) := R.2.1
theorem es_pf2 (R : es_R g key s f1 f2 f3 f4 a1 a2 a3 a4 a5 a6 a7 a8 a9 a10 a11 a12 a13 a14 a15 a16 a17 N L Q M) : f2 = nI (es_rd N 121) := R.2.2.1
theorem es_pf3 (R : es_R g key s f1 f2 f3 f4 a1 a2 a3 a4 a5 a6 a7 a8 a9 a10 a11 a12 a13 a14 a15 a16 a17 N L Q M) : f3 = es_o (es_rd N 122) := R.2.2.2.1
theorem es_pf4 (R : es_R g key s f1 f2 f3 f4 a1 a2 a3 a4 a5 a6 a7 a8 a9 a10 a11 a12 a13 a14 a15 a16 a17 N L Q M) : f4 = 0 := R.2.2.2.2.1
theorem es_pa1 (R : es_R g key s f1 f2 f3 f4 a1 a2 a3 a4 a5 a6 a7 a8 a9 a10 a11 a12 a13 a14 a15 a16 a17 N L Q M) : es_A N 0 5 a1 := R.2.2.2.2.2.1
theorem es_pa2 (R : es_R g key s f1 f2 f3 f4 a1 a2 a3 a4 a5 a6 a7 a8 a9 a10 a11 a12 a13 a14 a15 a16 a17 N L Q M) : es_A N 5 5 a2 := R.2.2.2.2.2.2.1
theorem es_pa3 (R : es_R g key s f1 f2 f3 f4 a1 a2 a3 a4 a5 a6 a7 a8 a9 a10 a11 a12 a13 a14 a15 a16 a17 N L Q M) : es_A N 10 5 a3 := R.2.2.2.2.2.2.2.1
theorem es_pa4 (R : es_R g key s f1 f2 f3 f4 a1 a2 a3 a4 a5 a6 a7 a8 a9 a10 a11 a12 a13 a14 a15 a16 a17 N L Q M) : es_A N 15 5 a4 := R.2.2.2.2.2.2.2.2.1
theorem es_pa5 (R : es_R g key s f1 f2 f3 f4 a1 a2 a3 a4 a5 a6 a7 a8 a9 a10 a11 a12 a13 a14 a15 a16 a17 N L Q M) : es_B N 20 5 a5 := R.2.2.2.2.2.2.2.2.2.1
theorem es_pa6 (R : es_R g key s f1 f2 f3 f4 a1 a2 a3 a4 a5 a6 a7 a8 a9 a10 a11 a12 a13 a14 a15 a16 a17 N L Q M) : es_A N 25 5 a6 := R.2.2.2.2.2.2.2.2.2.2.1
theorem es_pa7 (R : es_R g key s f1 f2 f3 f4 a1 a2 a3 a4 a5 a6 a7 a8 a9 a10 a11 a12 a13 a14 a15 a16 a17 N L Q M) : es_A N 30 5 a7 := R.2.2.2.2.2.2.2.2.2.2.2.1
theorem es_pa8 (R : es_R g key s f1 f2 f3 f4 a1 a2 a3 a4 a5 a6 a7 a8 a9 a10 a11 a12 a13 a14 a15 a16 a17 N L Q M) : es_A N 35 5 a8 := R.2.2.2.2.2.2.2.2.2.2.2.2.1
theorem es_pa9 (R : es_R g key s f1 f2 f3 f4 a1 a2 a3 a4 a5 a6 a7 a8 a9 a10 a11 a12 a13 a14 a15 a16 a17 N L Q M) : es_A N 40 5 a9 := R.2.2.2.2.2.2.2.2.2.2.2.2.2.1
theorem es_pa10 (R : es_R g key s f1 f2 f3 f4 a1 a2 a3 a4 a5 a6 a7 a8 a9 a10 a11 a12 a13 a14 a15 a16 a17 N L Q M) : es_G g L 560 a10 := R.2.2.2.2.2.2.2.2.2.2.2.2.2.2.1
theorem es_pa11 (R : es_R g key s f1 f2 f3 f4 a1 a2 a3 a4 a5 a6 a7 a8 a9 a10 a11 a12 a13 a14 a15 a16 a17 N L Q M) : es_A N 45 5 a11 := R.2.2.2.2.2.2.2.2.2.2.2.2.2.2.2.1
theorem es_pa12 (R : es_R g key s f1 f2 f3 f4 a1 a2 a3 a4 a5 a6 a7 a8 a9 a10 a11 a12 a13 a14 a15 a16 a17 N L Q M) : es_P g key s N a12 := R.2.2.2.2.2.2.2.2.2.2.2.2.2.2.2.2.1
theorem es_pa14 (R : es_R g key s f1 f2 f3 f4 a1 a2 a3 a4 a5 a6 a7 a8 a9 a10 a11 a12 a13 a14 a15 a16 a17 N L Q M) : es_A N 50 25 a14 := R.2.2.2.2.2.2.2.2.2.2.2.2.2.2.2.2.2.1
theorem es_pa15 (R : es_R g key s f1 f2 f3 f4 a1 a2 a3 a4 a5 a6 a7 a8 a9 a10 a11 a12 a13 a14 a15 a16 a17 N L Q M) : es_A N 75 25 a15 := R.2.2.2.2.2.2.2.2.2.2.2.2.2.2.2.2.2.2.1
theorem es_pa16 (R : es_R g key s f1 f2 f3 f4 a1 a2 a3 a4 a5 a6 a7 a8 a9 a10 a11 a12 a13 a14 a15 a16 a17 N L Q M) : es_G g Q 1024 a16 := R.2.2.2.2.2.2.2.2.2.2.2.2.2.2.2.2.2.2.2.1
theorem es_pa17 (R : es_R g key s f1 f2 f3 f4 a1 a2 a3 a4 a5 a6 a7 a8 a9 a10 a11 a12 a13 a14 a15 a16 a17 N L Q M) : es_A M 0 8 a17 ∧ es_G g M 16 a17 := R.2.2.2.2.2.2.2.2.2.2.2.2.2.2.2.2.2.2.2.2
/-- outside of lo .. hi nothing changes -/
def es_F (N N' lo hi : Nat) : Prop := ∀ j, j < lo ∨ hi ≤ j → es_rd N' j = es_rd N j
theorem es_F_wr {c v lo hi : Nat} (hv : v < 256) (h1 : lo ≤ c) (h2 : c < hi) : es_F N (es_wr N c v) lo hi := fun j hj => es_rd_wr_ne hv (by omega)
theorem es_F_wc {c m v lo hi : Nat} (hv : v < 2 ^ (8 * m)) (h1 : lo ≤ c) (h2 : c + m ≤ hi) : es_F N (es_wc N c m v) lo hi := fun j hj => by
  rw [es_rd_wc hv, if_neg (by omega)]
theorem es_F_tr {N1 N2 lo hi : Nat} (h : es_F N N1 lo hi) (h2 : es_F N1 N2 lo hi) : es_F N N2 lo hi := fun j hj => (h2 j hj).trans (h j hj)
theorem es_Ff {N' lo hi c : Nat} {x : Int32} (F : es_F N N' lo hi) (h : x = nI (es_rd N c)) (hc : c < lo ∨ hi ≤ c) : x = nI (es_rd N' c) := h.trans (congrArg nI (F c hc).symm)
theorem es_Fo {N' lo hi c : Nat} {x : Int32} (F : es_F N N' lo hi) (h : x = es_o (es_rd N c)) (hc : c < lo ∨ hi ≤ c) : x = es_o (es_rd N' c) := h.trans (congrArg es_o (F c hc).symm)
theorem es_FA {N' lo hi o n : Nat} {a : Nat → Int32} (F : es_F N N' lo hi) (h : es_A N o n a) (hc : o + n ≤ lo ∨ hi ≤ o) : es_A N' o n a := fun j hj => (h j hj).trans (congrArg nI (F (o + j) (by omega)).symm)
theorem es_FB {N' lo hi o n : Nat} {a : Nat → Int32} (F : es_F N N' lo hi) (h : es_B N o n a) (hc : o + n ≤ lo ∨ hi ≤ o) : es_B N' o n a := fun j hj => (h j hj).trans (congrArg es_o (F (o + j) (by omega)).symm)
theorem es_FP {N' lo hi : Nat} {a : Nat → Int32} (F : es_F N N' lo hi) (h : es_P g key s N a) (hc : 120 ≤ lo ∨ hi ≤ 100) : es_P g key s N' a := fun n hn =>
  ⟨(h n hn).1.trans (congrArg g (F (100 + 4 * n) (by omega)).symm), (h n hn).2.1.trans (congrArg g (F (101 + 4 * n) (by omega)).symm), (h n hn).2.2.1.trans (congrArg g (F (102 + 4 * n) (by omega)).symm), (h n hn).2.2.2.1.trans (congrArg nI (F (103 + 4 * n) (by omega)).symm), (h n hn).2.2.2.2⟩
theorem es_mf1 (R : es_R g key s f1 f2 f3 f4 a1 a2 a3 a4 a5 a6 a7 a8 a9 a10 a11 a12 a13 a14 a15 a16 a17 N L Q M) {N' : Nat} {x' : Int32} (F : es_F N N' 120 121) (A : x' = nI (es_rd N' 120)) : es_R g key s x' f2 f3 f4 a1 a2 a3 a4 a5 a6 a7 a8 a9 a10 a11 a12 a13 a14 a15 a16 a17 N' L Q M :=
  ⟨R.1, A, (es_Ff F R.2.2.1 (by decide)), (es_Fo F R.2.2.2.1 (by decide)), R.2.2.2.2.1, (es_FA F R.2.2.2.2.2.1 (by decide)), (es_FA F R.2.2.2.2.2.2.1 (by decide)), (es_FA F R.2.2.2.2.2.2.2.1 (by decide)), (es_FA F R.2.2.2.2.2.2.2.2.1 (by decide)), (es_FB F R.2.2.2.2.2.2.2.2.2.1 (by decide)), (es_FA F R.2.2.2.2.2.2.2.2.2.2.1 (by decide)), (es_FA F R.2.2.2.2.2.2.2.2.2.2.2.1 (by decide)), (es_FA F R.2.2.2.2.2.2.2.2.2.2.2.2.1 (by decide)), (es_FA F R.2.2.2.2.2.2.2.2.2.2.2.2.2.1 (by decide)), R.2.2.2.2.2.2.2.2.2.2.2.2.2.2.1, (es_FA F R.2.2.2.2.2.2.2.2.2.2.2.2.2.2.2.1 (by decide)), (es_FP F R.2.2.2.2.2.2.2.2.2.2.2.2.2.2.2.2.1 (by decide)), (es_FA F R.2.2.2.2.2.2.2.2.2.2.2.2.2.2.2.2.2.1 (by decide)), (es_FA F R.2.2.2.2.2.2.2.2.2.2.2.2.2.2.2.2.2.2.1 (by decide)), R.2.2.2.2.2.2.2.2.2.2.2.2.2.2.2.2.2.2.2.1, R.2.2.2.2.2.2.2.2.2.2.2.2.2.2.2.2.2.2.2.2⟩
theorem es_mf2 (R : es_R g key s f1 f2 f3 f4 a1 a2 a3 a4 a5 a6 a7 a8 a9 a10 a11 a12 a13 a14 a15 a16 a17 N L Q M) {N' : Nat} {x' : Int32} (F : es_F N N' 121 122) (A : x' = nI (es_rd N' 121)) : es_R g key s f1 x' f3 f4 a1 a2 a3 a4 a5 a6 a7 a8 a9 a10 a11 a12 a13 a14 a15 a16 a17 N' L Q M :=
  ⟨R.1, (es_Ff F R.2.1 (by decide)), A, (es_Fo F R.2.2.2.1 (by decide)), R.2.2.2.2.1, (es_FA F R.2.2.2.2.2.1 (by decide)), (es_FA F R.2.2.2.2.2.2.1 (by decide)), (es_FA F R.2.2.2.2.2.2.2.1 (by decide)), (es_FA F R.2.2.2.2.2.2.2.2.1 (by decide)), (es_FB F R.2.2.2.2.2.2.2.2.2.1 (by decide)), (es_FA F R.2.2.2.2.2.2.2.2.2.2.1 (by decide)), (es_FA F R.2.2.2.2.2.2.2.2.2.2.2.1 (by decide)), (es_FA F R.2.2.2.2.2.2.2.2.2.2.2.2.1 (by decide)), (es_FA F R.2.2.2.2.2.2.2.2.2.2.2.2.2.1 (by decide)), R.2.2.2.2.2.2.2.2.2.2.2.2.2.2.1, (es_FA F R.2.2.2.2.2.2.2.2.2.2.2.2.2.2.2.1 (by decide)), (es_FP F R.2.2.2.2.2.2.2.2.2.2.2.2.2.2.2.2.1 (by decide)), (es_FA F R.2.2.2.2.2.2.2.2.2.2.2.2.2.2.2.2.2.1 (by decide)), (es_FA F R.2.2.2.2.2.2.2.2.2.2.2.2.2.2.2.2.2.2.1 (by decide)), R.2.2.2.2.2.2.2.2.2.2.2.2.2.2.2.2.2.2.2.1, R.2.2.2.2.2.2.2.2.2.2.2.2.2.2.2.2.2.2.2.2⟩
theorem es_mf3 (R : es_R g key s f1 f2 f3 f4 a1 a2 a3 a4 a5 a6 a7 a8 a9 a10 a11 a12 a13 a14 a15 a16 a17 N L Q M) {N' : Nat} {x' : Int32} (F : es_F N N' 122 123) (A : x' = es_o (es_rd N' 122)) : es_R g key s f1 f2 x' f4 a1 a2 a3 a4 a5 a6 a7 a8 a9 a10 a11 a12 a13 a14 a15 a16 a17 N' L Q M :=
  ⟨R.1, (es_Ff F R.2.1 (by decide)), (es_Ff F R.2.2.1 (by decide)), A, R.2.2.2.2.1, (es_FA F R.2.2.2.2.2.1 (by decide)), (es_FA F R.2.2.2.2.2.2.1 (by decide)), (es_FA F R.2.2.2.2.2.2.2.1 (by decide)), (es_FA F R.2.2.2.2.2.2.2.2.1 (by decide)), (es_FB F R.2.2.2.2.2.2.2.2.2.1 (by decide)), (es_FA F R.2.2.2.2.2.2.2.2.2.2.1 (by decide)), (es_FA F R.2.2.2.2.2.2.2.2.2.2.2.1 (by decide)), (es_FA F R.2.2.2.2.2.2.2.2.2.2.2.2.1 (by decide)), (es_FA F R.2.2.2.2.2.2.2.2.2.2.2.2.2.1 (by decide)), R.2.2.2.2.2.2.2.2.2.2.2.2.2.2.1, (es_FA F R.2.2.2.2.2.2.2.2.2.2.2.2.2.2.2.1 (by decide)), (es_FP F R.2.2.2.2.2.2.2.2.2.2.2.2.2.2.2.2.1 (by decide)), (es_FA F R.2.2.2.2.2.2.2.2.2.2.2.2.2.2.2.2.2.1 (by decide)), (es_FA F R.2.2.2.2.2.2.2.2.2.2.2.2.2.2.2.2.2.2.1 (by decide)), R.2.2.2.2.2.2.2.2.2.2.2.2.2.2.2.2.2.2.2.1, R.2.2.2.2.2.2.2.2.2.2.2.2.2.2.2.2.2.2.2.2⟩
theorem es_ma1 (R : es_R g key s f1 f2 f3 f4 a1 a2 a3 a4 a5 a6 a7 a8 a9 a10 a11 a12 a13 a14 a15 a16 a17 N L Q M) {N' : Nat} {x' : Nat → Int32} (F : es_F N N' 0 5) (A : es_A N' 0 5 x') : es_R g key s f1 f2 f3 f4 x' a2 a3 a4 a5 a6 a7 a8 a9 a10 a11 a12 a13 a14 a15 a16 a17 N' L Q M :=
  ⟨R.1, (es_Ff F R.2.1 (by decide)), (es_Ff F R.2.2.1 (by decide)), (es_Fo F R.2.2.2.1 (by decide)), R.2.2.2.2.1, A, (es_FA F R.2.2.2.2.2.2.1 (by decide)), (es_FA F R.2.2.2.2.2.2.2.1 (by decide)), (es_FA F R.2.2.2.2.2.2.2.2.1 (by decide)), (es_FB F R.2.2.2.2.2.2.2.2.2.1 (by decide)), (es_FA F R.2.2.2.2.2.2.2.2.2.2.1 (by decide)), (es_FA F R.2.2.2.2.2.2.2.2.2.2.2.1 (by decide)), (es_FA F R.2.2.2.2.2.2.2.2.2.2.2.2.1 (by decide)), (es_FA F R.2.2.2.2.2.2.2.2.2.2.2.2.2.1 (by decide)), R.2.2.2.2.2.2.2.2.2.2.2.2.2.2.1, (es_FA F R.2.2.2.2.2.2.2.2.2.2.2.2.2.2.2.1 (by decide)), (es_FP F R.2.2.2.2.2.2.2.2.2.2.2.2.2.2.2.2.1 (by decide)), (es_FA F R.2.2.2.2.2.2.2.2.2.2.2.2.2.2.2.2.2.1 (by decide)), (es_FA F R.2.2.2.2.2.2.2.2.2.2.2.2.2.2.2.2.2.2.1 (by decide)), R.2.2.2.2.2.2.2.2.2.2.2.2.2.2.2.2.2.2.2.1, R.2.2.2.2.2.2.2.2.2.2.2.2.2.2.2.2.2.2.2.2⟩
theorem es_ma2 (R : es_R g key s f1 f2 f3 f4 a1 a2 a3 a4 a5 a6 a7 a8 a9 a10 a11 a12 a13 a14 a15 a16 a17 N L Q M) {N' : Nat} {x' : Nat → Int32} (F : es_F N N' 5 10) (A : es_A N' 5 5 x') : es_R g key s f1 f2 f3 f4 a1 x' a3 a4 a5 a6 a7 a8 a9 a10 a11 a12 a13 a14 a15 a16 a17 N' L Q M :=
  ⟨R.1, (es_Ff F R.2.1 (by decide)), (es_Ff F R.2.2.1 (by decide)), (es_Fo F R.2.2.2.1 (by decide)), R.2.2.2.2.1, (es_FA F R.2.2.2.2.2.1 (by decide)), A, (es_FA F R.2.2.2.2.2.2.2.1 (by decide)), (es_FA F R.2.2.2.2.2.2.2.2.1 (by decide)), (es_FB F R.2.2.2.2.2.2.2.2.2.1 (by decide)), (es_FA F R.2.2.2.2.2.2.2.2.2.2.1 (by decide)), (es_FA F R.2.2.2.2.2.2.2.2.2.2.2.1 (by decide)), (es_FA F R.2.2.2.2.2.2.2.2.2.2.2.2.1 (by decide)), (es_FA F R.2.2.2.2.2.2.2.2.2.2.2.2.2.1 (by decide)), R.2.2.2.2.2.2.2.2.2.2.2.2.2.2.1, (es_FA F R.2.2.2.2.2.2.2.2.2.2.2.2.2.2.2.1 (by decide)), (es_FP F R.2.2.2.2.2.2.2.2.2.2.2.2.2.2.2.2.1 (by decide)), (es_FA F R.2.2.2.2.2.2.2.2.2.2.2.2.2.2.2.2.2.1 (by decide)), (es_FA F R.2.2.2.2.2.2.2.2.2.2.2.2.2.2.2.2.2.2.1 (by decide)), R.2.2.2.2.2.2.2.2.2.2.2.2.2.2.2.2.2.2.2.1, R.2.2.2.2.2.2.2.2.2.2.2.2.2.2.2.2.2.2.2.2⟩
theorem es_ma3 (R : es_R g key s f1 f2 f3 f4 a1 a2 a3 a4 a5 a6 a7 a8 a9 a10 a11 a12 a13 a14 a15 a16 a17 N L Q M) {N' : Nat} {x' : Nat → Int32} (F : es_F N N' 10 15) (A : es_A N' 10 5 x') : es_R g key s f1 f2 f3 f4 a1 a2 x' a4 a5 a6 a7 a8 a9 a10 a11 a12 a13 a14 a15 a16 a17 N' L Q M :=
  ⟨R.1, (es_Ff F R.2.1 (by decide)), (es_Ff F R.2.2.1 (by decide)), (es_Fo F R.2.2.2.1 (by decide)), R.2.2.2.2.1, (es_FA F R.2.2.2.2.2.1 (by decide)), (es_FA F R.2.2.2.2.2.2.1 (by decide)), A, (es_FA F R.2.2.2.2.2.2.2.2.1 (by decide)), (es_FB F R.2.2.2.2.2.2.2.2.2.1 (by decide)), (es_FA F R.2.2.2.2.2.2.2.2.2.2.1 (by decide)), (es_FA F R.2.2.2.2.2.2.2.2.2.2.2.1 (by decide)), (es_FA F R.2.2.2.2.2.2.2.2.2.2.2.2.1 (by decide)), (es_FA F R.2.2.2.2.2.2.2.2.2.2.2.2.2.1 (by decide)), R.2.2.2.2.2.2.2.2.2.2.2.2.2.2.1, (es_FA F R.2.2.2.2.2.2.2.2.2.2.2.2.2.2.2.1 (by decide)), (es_FP F R.2.2.2.2.2.2.2.2.2.2.2.2.2.2.2.2.1 (by decide)), (es_FA F R.2.2.2.2.2.2.2.2.2.2.2.2.2.2.2.2.2.1 (by decide)), (es_FA F R.2.2.2.2.2.2.2.2.2.2.2.2.2.2.2.2.2.2.1 (by decide)), R.2.2.2.2.2.2.2.2.2.2.2.2.2.2.2.2.2.2.2.1, R.2.2.2.2.2.2.2.2.2.2.2.2.2.2.2.2.2.2.2.2⟩
theorem es_ma4 (R : es_R g key s f1 f2 f3 f4 a1 a2 a3 a4 a5 a6 a7 a8 a9 a10 a11 a12 a13 a14 a15 a16 a17 N L Q M) {N' : Nat} {x' : Nat → Int32} (F : es_F N N' 15 20) (A : es_A N' 15 5 x') : es_R g key s f1 f2 f3 f4 a1 a2 a3 x' a5 a6 a7 a8 a9 a10 a11 a12 a13 a14 a15 a16 a17 N' L Q M :=
  ⟨R.1, (es_Ff F R.2.1 (by decide)), (es_Ff F R.2.2.1 (by decide)), (es_Fo F R.2.2.2.1 (by decide)), R.2.2.2.2.1, (es_FA F R.2.2.2.2.2.1 (by decide)), (es_FA F R.2.2.2.2.2.2.1 (by decide)), (es_FA F R.2.2.2.2.2.2.2.1 (by decide)), A, (es_FB F R.2.2.2.2.2.2.2.2.2.1 (by decide)), (es_FA F R.2.2.2.2.2.2.2.2.2.2.1 (by decide)), (es_FA F R.2.2.2.2.2.2.2.2.2.2.2.1 (by decide)), (es_FA F R.2.2.2.2.2.2.2.2.2.2.2.2.1 (by decide)), (es_FA F R.2.2.2.2.2.2.2.2.2.2.2.2.2.1 (by decide)), R.2.2.2.2.2.2.2.2.2.2.2.2.2.2.1, (es_FA F R.2.2.2.2.2.2.2.2.2.2.2.2.2.2.2.1 (by decide)), (es_FP F R.2.2.2.2.2.2.2.2.2.2.2.2.2.2.2.2.1 (by decide)), (es_FA F R.2.2.2.2.2.2.2.2.2.2.2.2.2.2.2.2.2.1 (by decide)), (es_FA F R.2.2.2.2.2.2.2.2.2.2.2.2.2.2.2.2.2.2.1 (by decide)), R.2.2.2.2.2.2.2.2.2.2.2.2.2.2.2.2.2.2.2.1, R.2.2.2.2.2.2.2.2.2.2.2.2.2.2.2.2.2.2.2.2⟩
theorem es_ma5 (R : es_R g key s f1 f2 f3 f4 a1 a2 a3 a4 a5 a6 a7 a8 a9 a10 a11 a12 a13 a14 a15 a16 a17 N L Q M) {N' : Nat} {x' : Nat → Int32} (F : es_F N N' 20 25) (A : es_B N' 20 5 x') : es_R g key s f1 f2 f3 f4 a1 a2 a3 a4 x' a6 a7 a8 a9 a10 a11 a12 a13 a14 a15 a16 a17 N' L Q M :=
  ⟨R.1, (es_Ff F R.2.1 (by decide)), (es_Ff F R.2.2.1 (by decide)), (es_Fo F R.2.2.2.1 (by decide)), R.2.2.2.2.1, (es_FA F R.2.2.2.2.2.1 (by decide)), (es_FA F R.2.2.2.2.2.2.1 (by decide)), (es_FA F R.2.2.2.2.2.2.2.1 (by decide)), (es_FA F R.2.2.2.2.2.2.2.2.1 (by decide)), A, (es_FA F R.2.2.2.2.2.2.2.2.2.2.1 (by decide)), (es_FA F R.2.2.2.2.2.2.2.2.2.2.2.1 (by decide)), (es_FA F R.2.2.2.2.2.2.2.2.2.2.2.2.1 (by decide)), (es_FA F R.2.2.2.2.2.2.2.2.2.2.2.2.2.1 (by decide)), R.2.2.2.2.2.2.2.2.2.2.2.2.2.2.1, (es_FA F R.2.2.2.2.2.2.2.2.2.2.2.2.2.2.2.1 (by decide)), (es_FP F R.2.2.2.2.2.2.2.2.2.2.2.2.2.2.2.2.1 (by decide)), (es_FA F R.2.2.2.2.2.2.2.2.2.2.2.2.2.2.2.2.2.1 (by decide)), (es_FA F R.2.2.2.2.2.2.2.2.2.2.2.2.2.2.2.2.2.2.1 (by decide)), R.2.2.2.2.2.2.2.2.2.2.2.2.2.2.2.2.2.2.2.1, R.2.2.2.2.2.2.2.2.2.2.2.2.2.2.2.2.2.2.2.2⟩
theorem es_ma6 (R : es_R g key s f1 f2 f3 f4 a1 a2 a3 a4 a5 a6 a7 a8 a9 a10 a11 a12 a13 a14 a15 a16 a17 N L Q M) {N' : Nat} {x' : Nat → Int32} (F : es_F N N' 25 30) (A : es_A N' 25 5 x') : es_R g key s f1 f2 f3 f4 a1 a2 a3 a4 a5 x' a7 a8 a9 a10 a11 a12 a13 a14 a15 a16 a17 N' L Q M :=
  ⟨R.1, (es_Ff F R.2.1 (by decide)), (es_Ff F R.2.2.1 (by decide)), (es_Fo F R.2.2.2.1 (by decide)), R.2.2.2.2.1, (es_FA F R.2.2.2.2.2.1 (by decide)), (es_FA F R.2.2.2.2.2.2.1 (by decide)), (es_FA F R.2.2.2.2.2.2.2.1 (by decide)), (es_FA F R.2.2.2.2.2.2.2.2.1 (by decide)), (es_FB F R.2.2.2.2.2.2.2.2.2.1 (by decide)), A, (es_FA F R.2.2.2.2.2.2.2.2.2.2.2.1 (by decide)), (es_FA F R.2.2.2.2.2.2.2.2.2.2.2.2.1 (by decide)), (es_FA F R.2.2.2.2.2.2.2.2.2.2.2.2.2.1 (by decide)), R.2.2.2.2.2.2.2.2.2.2.2.2.2.2.1, (es_FA F R.2.2.2.2.2.2.2.2.2.2.2.2.2.2.2.1 (by decide)), (es_FP F R.2.2.2.2.2.2.2.2.2.2.2.2.2.2.2.2.1 (by decide)), (es_FA F R.2.2.2.2.2.2.2.2.2.2.2.2.2.2.2.2.2.1 (by decide)), (es_FA F R.2.2.2.2.2.2.2.2.2.2.2.2.2.2.2.2.2.2.1 (by decide)), R.2.2.2.2.2.2.2.2.2.2.2.2.2.2.2.2.2.2.2.1, R.2.2.2.2.2.2.2.2.2.2.2.2.2.2.2.2.2.2.2.2⟩
theorem es_ma7 (R : es_R g key s f1 f2 f3 f4 a1 a2 a3 a4 a5 a6 a7 a8 a9 a10 a11 a12 a13 a14 a15 a16 a17 N L Q M) {N' : Nat} {x' : Nat → Int32} (F : es_F N N' 30 35) (A : es_A N' 30 5 x') : es_R g key s f1 f2 f3 f4 a1 a2 a3 a4 a5 a6 x' a8 a9 a10 a11 a12 a13 a14 a15 a16 a17 N' L Q M :=
  ⟨R.1, (es_Ff F R.2.1 (by decide)), (es_Ff F R.2.2.1 (by decide)), (es_Fo F R.2.2.2.1 (by decide)), R.2.2.2.2.1, (es_FA F R.2.2.2.2.2.1 (by decide)), (es_FA F R.2.2.2.2.2.2.1 (by decide)), (es_FA F R.2.2.2.2.2.2.2.1 (by decide)), (es_FA F R.2.2.2.2.2.2.2.2.1 (by decide)), (es_FB F R.2.2.2.2.2.2.2.2.2.1 (by decide)), (es_FA F R.2.2.2.2.2.2.2.2.2.2.1 (by decide)), A, (es_FA F R.2.2.2.2.2.2.2.2.2.2.2.2.1 (by decide)), (es_FA F R.2.2.2.2.2.2.2.2.2.2.2.2.2.1 (by decide)), R.2.2.2.2.2.2.2.2.2.2.2.2.2.2.1, (es_FA F R.2.2.2.2.2.2.2.2.2.2.2.2.2.2.2.1 (by decide)), (es_FP F R.2.2.2.2.2.2.2.2.2.2.2.2.2.2.2.2.1 (by decide)), (es_FA F R.2.2.2.2.2.2.2.2.2.2.2.2.2.2.2.2.2.1 (by decide)), (es_FA F R.2.2.2.2.2.2.2.2.2.2.2.2.2.2.2.2.2.2.1 (by decide)), R.2.2.2.2.2.2.2.2.2.2.2.2.2.2.2.2.2.2.2.1, R.2.2.2.2.2.2.2.2.2.2.2.2.2.2.2.2.2.2.2.2⟩
theorem es_ma8 (R : es_R g key s f1 f2 f3 f4 a1 a2 a3 a4 a5 a6 a7 a8 a9 a10 a11 a12 a13 a14 a15 a16 a17 N L Q M) {N' : Nat} {x' : Nat → Int32} (F : es_F N N' 35 40) (A : es_A N' 35 5 x') : es_R g key s f1 f2 f3 f4 a1 a2 a3 a4 a5 a6 a7 x' a9 a10 a11 a12 a13 a14 a15 a16 a17 N' L Q M :=
  ⟨R.1, (es_Ff F R.2.1 (by decide)), (es_Ff F R.2.2.1 (by decide)), (es_Fo F R.2.2.2.1 (by decide)), R.2.2.2.2.1, (es_FA F R.2.2.2.2.2.1 (by decide)), (es_FA F R.2.2.2.2.2.2.1 (by decide)), (es_FA F R.2.2.2.2.2.2.2.1 (by decide)), (es_FA F R.2.2.2.2.2.2.2.2.1 (by decide)), (es_FB F R.2.2.2.2.2.2.2.2.2.1 (by decide)), (es_FA F R.2.2.2.2.2.2.2.2.2.2.1 (by decide)), (es_FA F R.2.2.2.2.2.2.2.2.2.2.2.1 (by decide)), A, (es_FA F R.2.2.2.2.2.2.2.2.2.2.2.2.2.1 (by decide)), R.2.2.2.2.2.2.2.2.2.2.2.2.2.2.1, (es_FA F R.2.2.2.2.2.2.2.2.2.2.2.2.2.2.2.1 (by decide)), (es_FP F R.2.2.2.2.2.2.2.2.2.2.2.2.2.2.2.2.1 (by decide)), (es_FA F R.2.2.2.2.2.2.2.2.2.2.2.2.2.2.2.2.2.1 (by decide)), (es_FA F R.2.2.2.2.2.2.2.2.2.2.2.2.2.2.2.2.2.2.1 (by decide)), R.2.2.2.2.2.2.2.2.2.2.2.2.2.2.2.2.2.2.2.1, R.2.2.2.2.2.2.2.2.2.2.2.2.2.2.2.2.2.2.2.2⟩
theorem es_ma9 (R : es_R g key s f1 f2 f3 f4 a1 a2 a3 a4 a5 a6 a7 a8 a9 a10 a11 a12 a13 a14 a15 a16 a17 N L Q M) {N' : Nat} {x' : Nat → Int32} (F : es_F N N' 40 45) (A : es_A N' 40 5 x') : es_R g key s f1 f2 f3 f4 a1 a2 a3 a4 a5 a6 a7 a8 x' a10 a11 a12 a13 a14 a15 a16 a17 N' L Q M :=
  ⟨R.1, (es_Ff F R.2.1 (by decide)), (es_Ff F R.2.2.1 (by decide)), (es_Fo F R.2.2.2.1 (by decide)), R.2.2.2.2.1, (es_FA F R.2.2.2.2.2.1 (by decide)), (es_FA F R.2.2.2.2.2.2.1 (by decide)), (es_FA F R.2.2.2.2.2.2.2.1 (by decide)), (es_FA F R.2.2.2.2.2.2.2.2.1 (by decide)), (es_FB F R.2.2.2.2.2.2.2.2.2.1 (by decide)), (es_FA F R.2.2.2.2.2.2.2.2.2.2.1 (by decide)), (es_FA F R.2.2.2.2.2.2.2.2.2.2.2.1 (by decide)), (es_FA F R.2.2.2.2.2.2.2.2.2.2.2.2.1 (by decide)), A, R.2.2.2.2.2.2.2.2.2.2.2.2.2.2.1, (es_FA F R.2.2.2.2.2.2.2.2.2.2.2.2.2.2.2.1 (by decide)), (es_FP F R.2.2.2.2.2.2.2.2.2.2.2.2.2.2.2.2.1 (by decide)), (es_FA F R.2.2.2.2.2.2.2.2.2.2.2.2.2.2.2.2.2.1 (by decide)), (es_FA F R.2.2.2.2.2.2.2.2.2.2.2.2.2.2.2.2.2.2.1 (by decide)), R.2.2.2.2.2.2.2.2.2.2.2.2.2.2.2.2.2.2.2.1, R.2.2.2.2.2.2.2.2.2.2.2.2.2.2.2.2.2.2.2.2⟩
theorem es_ma10 (R : es_R g key s f1 f2 f3 f4 a1 a2 a3 a4 a5 a6 a7 a8 a9 a10 a11 a12 a13 a14 a15 a16 a17 N L Q M) {X' : Nat} {x' : Nat → Int32} (A : es_G g X' 560 x') : es_R g key s f1 f2 f3 f4 a1 a2 a3 a4 a5 a6 a7 a8 a9 x' a11 a12 a13 a14 a15 a16 a17 N X' Q M :=
  ⟨R.1, R.2.1, R.2.2.1, R.2.2.2.1, R.2.2.2.2.1, R.2.2.2.2.2.1, R.2.2.2.2.2.2.1, R.2.2.2.2.2.2.2.1, R.2.2.2.2.2.2.2.2.1, R.2.2.2.2.2.2.2.2.2.1, R.2.2.2.2.2.2.2.2.2.2.1, R.2.2.2.2.2.2.2.2.2.2.2.1, R.2.2.2.2.2.2.2.2.2.2.2.2.1, R.2.2.2.2.2.2.2.2.2.2.2.2.2.1, A, R.2.2.2.2.2.2.2.2.2.2.2.2.2.2.2.1, R.2.2.2.2.2.2.2.2.2.2.2.2.2.2.2.2.1, R.2.2.2.2.2.2.2.2.2.2.2.2.2.2.2.2.2.1, R.2.2.2.2.2.2.2.2.2.2.2.2.2.2.2.2.2.2.1, R.2.2.2.2.2.2.2.2.2.2.2.2.2.2.2.2.2.2.2.1, R.2.2.2.2.2.2.2.2.2.2.2.2.2.2.2.2.2.2.2.2⟩
theorem es_ma11 (R : es_R g key s f1 f2 f3 f4 a1 a2 a3 a4 a5 a6 a7 a8 a9 a10 a11 a12 a13 a14 a15 a16 a17 N L Q M) {N' : Nat} {x' : Nat → Int32} (F : es_F N N' 45 50) (A : es_A N' 45 5 x') : es_R g key s f1 f2 f3 f4 a1 a2 a3 a4 a5 a6 a7 a8 a9 a10 x' a12 a13 a14 a15 a16 a17 N' L Q M :=
  ⟨R.1, (es_Ff F R.2.1 (by decide)), (es_Ff F R.2.2.1 (by decide)), (es_Fo F R.2.2.2.1 (by decide)), R.2.2.2.2.1, (es_FA F R.2.2.2.2.2.1 (by decide)), (es_FA F R.2.2.2.2.2.2.1 (by decide)), (es_FA F R.2.2.2.2.2.2.2.1 (by decide)), (es_FA F R.2.2.2.2.2.2.2.2.1 (by decide)), (es_FB F R.2.2.2.2.2.2.2.2.2.1 (by decide)), (es_FA F R.2.2.2.2.2.2.2.2.2.2.1 (by decide)), (es_FA F R.2.2.2.2.2.2.2.2.2.2.2.1 (by decide)), (es_FA F R.2.2.2.2.2.2.2.2.2.2.2.2.1 (by decide)), (es_FA F R.2.2.2.2.2.2.2.2.2.2.2.2.2.1 (by decide)), R.2.2.2.2.2.2.2.2.2.2.2.2.2.2.1, A, (es_FP F R.2.2.2.2.2.2.2.2.2.2.2.2.2.2.2.2.1 (by decide)), (es_FA F R.2.2.2.2.2.2.2.2.2.2.2.2.2.2.2.2.2.1 (by decide)), (es_FA F R.2.2.2.2.2.2.2.2.2.2.2.2.2.2.2.2.2.2.1 (by decide)), R.2.2.2.2.2.2.2.2.2.2.2.2.2.2.2.2.2.2.2.1, R.2.2.2.2.2.2.2.2.2.2.2.2.2.2.2.2.2.2.2.2⟩
theorem es_ma12 (R : es_R g key s f1 f2 f3 f4 a1 a2 a3 a4 a5 a6 a7 a8 a9 a10 a11 a12 a13 a14 a15 a16 a17 N L Q M) {N' : Nat} {x' : Nat → Int32} (F : es_F N N' 100 120) (A : es_P g key s N' x') : es_R g key s f1 f2 f3 f4 a1 a2 a3 a4 a5 a6 a7 a8 a9 a10 a11 x' a13 a14 a15 a16 a17 N' L Q M :=
  ⟨R.1, (es_Ff F R.2.1 (by decide)), (es_Ff F R.2.2.1 (by decide)), (es_Fo F R.2.2.2.1 (by decide)), R.2.2.2.2.1, (es_FA F R.2.2.2.2.2.1 (by decide)), (es_FA F R.2.2.2.2.2.2.1 (by decide)), (es_FA F R.2.2.2.2.2.2.2.1 (by decide)), (es_FA F R.2.2.2.2.2.2.2.2.1 (by decide)), (es_FB F R.2.2.2.2.2.2.2.2.2.1 (by decide)), (es_FA F R.2.2.2.2.2.2.2.2.2.2.1 (by decide)), (es_FA F R.2.2.2.2.2.2.2.2.2.2.2.1 (by decide)), (es_FA F R.2.2.2.2.2.2.2.2.2.2.2.2.1 (by decide)), (es_FA F R.2.2.2.2.2.2.2.2.2.2.2.2.2.1 (by decide)), R.2.2.2.2.2.2.2.2.2.2.2.2.2.2.1, (es_FA F R.2.2.2.2.2.2.2.2.2.2.2.2.2.2.2.1 (by decide)), A, (es_FA F R.2.2.2.2.2.2.2.2.2.2.2.2.2.2.2.2.2.1 (by decide)), (es_FA F R.2.2.2.2.2.2.2.2.2.2.2.2.2.2.2.2.2.2.1 (by decide)), R.2.2.2.2.2.2.2.2.2.2.2.2.2.2.2.2.2.2.2.1, R.2.2.2.2.2.2.2.2.2.2.2.2.2.2.2.2.2.2.2.2⟩
theorem es_ma14 (R : es_R g key s f1 f2 f3 f4 a1 a2 a3 a4 a5 a6 a7 a8 a9 a10 a11 a12 a13 a14 a15 a16 a17 N L Q M) {N' : Nat} {x' : Nat → Int32} (F : es_F N N' 50 75) (A : es_A N' 50 25 x') : es_R g key s f1 f2 f3 f4 a1 a2 a3 a4 a5 a6 a7 a8 a9 a10 a11 a12 a13 x' a15 a16 a17 N' L Q M :=
  ⟨R.1, (es_Ff F R.2.1 (by decide)), (es_Ff F R.2.2.1 (by decide)), (es_Fo F R.2.2.2.1 (by decide)), R.2.2.2.2.1, (es_FA F R.2.2.2.2.2.1 (by decide)), (es_FA F R.2.2.2.2.2.2.1 (by decide)), (es_FA F R.2.2.2.2.2.2.2.1 (by decide)), (es_FA F R.2.2.2.2.2.2.2.2.1 (by decide)), (es_FB F R.2.2.2.2.2.2.2.2.2.1 (by decide)), (es_FA F R.2.2.2.2.2.2.2.2.2.2.1 (by decide)), (es_FA F R.2.2.2.2.2.2.2.2.2.2.2.1 (by decide)), (es_FA F R.2.2.2.2.2.2.2.2.2.2.2.2.1 (by decide)), (es_FA F R.2.2.2.2.2.2.2.2.2.2.2.2.2.1 (by decide)), R.2.2.2.2.2.2.2.2.2.2.2.2.2.2.1, (es_FA F R.2.2.2.2.2.2.2.2.2.2.2.2.2.2.2.1 (by decide)), (es_FP F R.2.2.2.2.2.2.2.2.2.2.2.2.2.2.2.2.1 (by decide)), A, (es_FA F R.2.2.2.2.2.2.2.2.2.2.2.2.2.2.2.2.2.2.1 (by decide)), R.2.2.2.2.2.2.2.2.2.2.2.2.2.2.2.2.2.2.2.1, R.2.2.2.2.2.2.2.2.2.2.2.2.2.2.2.2.2.2.2.2⟩
theorem es_ma15 (R : es_R g key s f1 f2 f3 f4 a1 a2 a3 a4 a5 a6 a7 a8 a9 a10 a11 a12 a13 a14 a15 a16 a17 N L Q M) {N' : Nat} {x' : Nat → Int32} (F : es_F N N' 75 100) (A : es_A N' 75 25 x') : es_R g key s f1 f2 f3 f4 a1 a2 a3 a4 a5 a6 a7 a8 a9 a10 a11 a12 a13 a14 x' a16 a17 N' L Q M :=
  ⟨R.1, (es_Ff F R.2.1 (by decide)), (es_Ff F R.2.2.1 (by decide)), (es_Fo F R.2.2.2.1 (by decide)), R.2.2.2.2.1, (es_FA F R.2.2.2.2.2.1 (by decide)), (es_FA F R.2.2.2.2.2.2.1 (by decide)), (es_FA F R.2.2.2.2.2.2.2.1 (by decide)), (es_FA F R.2.2.2.2.2.2.2.2.1 (by decide)), (es_FB F R.2.2.2.2.2.2.2.2.2.1 (by decide)), (es_FA F R.2.2.2.2.2.2.2.2.2.2.1 (by decide)), (es_FA F R.2.2.2.2.2.2.2.2.2.2.2.1 (by decide)), (es_FA F R.2.2.2.2.2.2.2.2.2.2.2.2.1 (by decide)), (es_FA F R.2.2.2.2.2.2.2.2.2.2.2.2.2.1 (by decide)), R.2.2.2.2.2.2.2.2.2.2.2.2.2.2.1, (es_FA F R.2.2.2.2.2.2.2.2.2.2.2.2.2.2.2.1 (by decide)), (es_FP F R.2.2.2.2.2.2.2.2.2.2.2.2.2.2.2.2.1 (by decide)), (es_FA F R.2.2.2.2.2.2.2.2.2.2.2.2.2.2.2.2.2.1 (by decide)), A, R.2.2.2.2.2.2.2.2.2.2.2.2.2.2.2.2.2.2.2.1, R.2.2.2.2.2.2.2.2.2.2.2.2.2.2.2.2.2.2.2.2⟩
theorem es_ma16 (R : es_R g key s f1 f2 f3 f4 a1 a2 a3 a4 a5 a6 a7 a8 a9 a10 a11 a12 a13 a14 a15 a16 a17 N L Q M) {X' : Nat} {x' : Nat → Int32} (A : es_G g X' 1024 x') : es_R g key s f1 f2 f3 f4 a1 a2 a3 a4 a5 a6 a7 a8 a9 a10 a11 a12 a13 a14 a15 x' a17 N L X' M :=
  ⟨R.1, R.2.1, R.2.2.1, R.2.2.2.1, R.2.2.2.2.1, R.2.2.2.2.2.1, R.2.2.2.2.2.2.1, R.2.2.2.2.2.2.2.1, R.2.2.2.2.2.2.2.2.1, R.2.2.2.2.2.2.2.2.2.1, R.2.2.2.2.2.2.2.2.2.2.1, R.2.2.2.2.2.2.2.2.2.2.2.1, R.2.2.2.2.2.2.2.2.2.2.2.2.1, R.2.2.2.2.2.2.2.2.2.2.2.2.2.1, R.2.2.2.2.2.2.2.2.2.2.2.2.2.2.1, R.2.2.2.2.2.2.2.2.2.2.2.2.2.2.2.1, R.2.2.2.2.2.2.2.2.2.2.2.2.2.2.2.2.1, R.2.2.2.2.2.2.2.2.2.2.2.2.2.2.2.2.2.1, R.2.2.2.2.2.2.2.2.2.2.2.2.2.2.2.2.2.2.1, A, R.2.2.2.2.2.2.2.2.2.2.2.2.2.2.2.2.2.2.2.2⟩
theorem es_ma17 (R : es_R g key s f1 f2 f3 f4 a1 a2 a3 a4 a5 a6 a7 a8 a9 a10 a11 a12 a13 a14 a15 a16 a17 N L Q M) {X' : Nat} {x' : Nat → Int32} (A : es_A X' 0 8 x' ∧ es_G g X' 16 x') : es_R g key s f1 f2 f3 f4 a1 a2 a3 a4 a5 a6 a7 a8 a9 a10 a11 a12 a13 a14 a15 a16 x' N L Q X' :=
  ⟨R.1, R.2.1, R.2.2.1, R.2.2.2.1, R.2.2.2.2.1, R.2.2.2.2.2.1, R.2.2.2.2.2.2.1, R.2.2.2.2.2.2.2.1, R.2.2.2.2.2.2.2.2.1, R.2.2.2.2.2.2.2.2.2.1, R.2.2.2.2.2.2.2.2.2.2.1, R.2.2.2.2.2.2.2.2.2.2.2.1, R.2.2.2.2.2.2.2.2.2.2.2.2.1, R.2.2.2.2.2.2.2.2.2.2.2.2.2.1, R.2.2.2.2.2.2.2.2.2.2.2.2.2.2.1, R.2.2.2.2.2.2.2.2.2.2.2.2.2.2.2.1, R.2.2.2.2.2.2.2.2.2.2.2.2.2.2.2.2.1, R.2.2.2.2.2.2.2.2.2.2.2.2.2.2.2.2.2.1, R.2.2.2.2.2.2.2.2.2.2.2.2.2.2.2.2.2.2.1, R.2.2.2.2.2.2.2.2.2.2.2.2.2.2.2.2.2.2.2.1, A⟩
theorem es_r1 (R : es_R g key s f1 f2 f3 f4 a1 a2 a3 a4 a5 a6 a7 a8 a9 a10 a11 a12 a13 a14 a15 a16 a17 N L Q M) {i : Int32} {x : Nat} (Vi : es_V i x 5) : es_V (a1 i.toNatClampNeg) (es_rd N x) 256 := ⟨by rw [es_clamp Vi]; exact (es_pa1 R x Vi.2).trans (congrArg (fun q => nI (es_rd N q)) (Nat.zero_add x)), es_rd_lt _ _⟩
theorem es_r2 (R : es_R g key s f1 f2 f3 f4 a1 a2 a3 a4 a5 a6 a7 a8 a9 a10 a11 a12 a13 a14 a15 a16 a17 N L Q M) {i : Int32} {x : Nat} (Vi : es_V i x 5) : es_V (a2 i.toNatClampNeg) (es_rd N (Nat.add 5 x)) 256 := ⟨by rw [es_clamp Vi]; exact es_pa2 R x Vi.2, es_rd_lt _ _⟩
theorem es_r3 (R : es_R g key s f1 f2 f3 f4 a1 a2 a3 a4 a5 a6 a7 a8 a9 a10 a11 a12 a13 a14 a15 a16 a17 N L Q M) {i : Int32} {x : Nat} (Vi : es_V i x 5) : es_V (a3 i.toNatClampNeg) (es_rd N (Nat.add 10 x)) 256 := ⟨by rw [es_clamp Vi]; exact es_pa3 R x Vi.2, es_rd_lt _ _⟩
theorem es_r4 (R : es_R g key s f1 f2 f3 f4 a1 a2 a3 a4 a5 a6 a7 a8 a9 a10 a11 a12 a13 a14 a15 a16 a17 N L Q M) {i : Int32} {x : Nat} (Vi : es_V i x 5) : es_V (a4 i.toNatClampNeg) (es_rd N (Nat.add 15 x)) 256 := ⟨by rw [es_clamp Vi]; exact es_pa4 R x Vi.2, es_rd_lt _ _⟩
theorem es_r6 (R : es_R g key s f1 f2 f3 f4 a1 a2 a3 a4 a5 a6 a7 a8 a9 a10 a11 a12 a13 a14 a15 a16 a17 N L Q M) {i : Int32} {x : Nat} (Vi : es_V i x 5) : es_V (a6 i.toNatClampNeg) (es_rd N (Nat.add 25 x)) 256 := ⟨by rw [es_clamp Vi]; exact es_pa6 R x Vi.2, es_rd_lt _ _⟩
theorem es_r7 (R : es_R g key s f1 f2 f3 f4 a1 a2 a3 a4 a5 a6 a7 a8 a9 a10 a11 a12 a13 a14 a15 a16 a17 N L Q M) {i : Int32} {x : Nat} (Vi : es_V i x 5) : es_V (a7 i.toNatClampNeg) (es_rd N (Nat.add 30 x)) 256 := ⟨by rw [es_clamp Vi]; exact es_pa7 R x Vi.2, es_rd_lt _ _⟩
theorem es_r8 (R : es_R g key s f1 f2 f3 f4 a1 a2 a3 a4 a5 a6 a7 a8 a9 a10 a11 a12 a13 a14 a15 a16 a17 N L Q M) {i : Int32} {x : Nat} (Vi : es_V i x 5) : es_V (a8 i.toNatClampNeg) (es_rd N (Nat.add 35 x)) 256 := ⟨by rw [es_clamp Vi]; exact es_pa8 R x Vi.2, es_rd_lt _ _⟩
theorem es_r9 (R : es_R g key s f1 f2 f3 f4 a1 a2 a3 a4 a5 a6 a7 a8 a9 a10 a11 a12 a13 a14 a15 a16 a17 N L Q M) {i : Int32} {x : Nat} (Vi : es_V i x 5) : es_V (a9 i.toNatClampNeg) (es_rd N (Nat.add 40 x)) 256 := ⟨by rw [es_clamp Vi]; exact es_pa9 R x Vi.2, es_rd_lt _ _⟩
theorem es_r11 (R : es_R g key s f1 f2 f3 f4 a1 a2 a3 a4 a5 a6 a7 a8 a9 a10 a11 a12 a13 a14 a15 a16 a17 N L Q M) {i : Int32} {x : Nat} (Vi : es_V i x 5) : es_V (a11 i.toNatClampNeg) (es_rd N (Nat.add 45 x)) 256 := ⟨by rw [es_clamp Vi]; exact es_pa11 R x Vi.2, es_rd_lt _ _⟩
theorem es_r14 (R : es_R g key s f1 f2 f3 f4 a1 a2 a3 a4 a5 a6 a7 a8 a9 a10 a11 a12 a13 a14 a15 a16 a17 N L Q M) {i : Int32} {x : Nat} (Vi : es_V i x 25) : es_V (a14 i.toNatClampNeg) (es_rd N (Nat.add 50 x)) 256 := ⟨by rw [es_clamp Vi]; exact es_pa14 R x Vi.2, es_rd_lt _ _⟩
theorem es_r15 (R : es_R g key s f1 f2 f3 f4 a1 a2 a3 a4 a5 a6 a7 a8 a9 a10 a11 a12 a13 a14 a15 a16 a17 N L Q M) {i : Int32} {x : Nat} (Vi : es_V i x 25) : es_V (a15 i.toNatClampNeg) (es_rd N (Nat.add 75 x)) 256 := ⟨by rw [es_clamp Vi]; exact es_pa15 R x Vi.2, es_rd_lt _ _⟩
theorem es_r5 (R : es_R g key s f1 f2 f3 f4 a1 a2 a3 a4 a5 a6 a7 a8 a9 a10 a11 a12 a13 a14 a15 a16 a17 N L Q M) {i : Int32} {x : Nat} (Vi : es_V i x 5) : a5 i.toNatClampNeg = es_o (es_rd N (Nat.add 20 x)) := by rw [es_clamp Vi]; exact es_pa5 R x Vi.2
theorem es_r10 (R : es_R g key s f1 f2 f3 f4 a1 a2 a3 a4 a5 a6 a7 a8 a9 a10 a11 a12 a13 a14 a15 a16 a17 N L Q M) {i : Int32} {x : Nat} (Vi : es_V i x 560) : a10 i.toNatClampNeg = g (es_rd L x) := by rw [es_clamp Vi]; exact es_pa10 R x Vi.2
theorem es_r16 (R : es_R g key s f1 f2 f3 f4 a1 a2 a3 a4 a5 a6 a7 a8 a9 a10 a11 a12 a13 a14 a15 a16 a17 N L Q M) {i : Int32} {x : Nat} (Vi : es_V i x 1024) : a16 i.toNatClampNeg = g (es_rd Q x) := by rw [es_clamp Vi]; exact es_pa16 R x Vi.2
theorem es_r17 (R : es_R g key s f1 f2 f3 f4 a1 a2 a3 a4 a5 a6 a7 a8 a9 a10 a11 a12 a13 a14 a15 a16 a17 N L Q M) (j : Nat) (hj : j < 8 := by decide) : es_V (a17 j) (es_rd M j) 256 := ⟨((es_pa17 R).1 j hj).trans (by rw [show Nat.add 0 j = j from Nat.zero_add j]), es_rd_lt _ _⟩
theorem es_rg (R : es_R g key s f1 f2 f3 f4 a1 a2 a3 a4 a5 a6 a7 a8 a9 a10 a11 a12 a13 a14 a15 a16 a17 N L Q M) {i : Int32} {x v : Nat} (Vi : es_V i x 560) (hv : es_rd L x = v) (h : v < 128) : es_V (a10 i.toNatClampNeg) v 128 := ⟨by rw [es_r10 R Vi, hv]; exact (es_pE R).1 v h, h⟩
theorem es_rf1 (R : es_R g key s f1 f2 f3 f4 a1 a2 a3 a4 a5 a6 a7 a8 a9 a10 a11 a12 a13 a14 a15 a16 a17 N L Q M) : es_V f1 (es_rd N 120) 256 := ⟨es_pf1 R, es_rd_lt _ _⟩
theorem es_rf2 (R : es_R g key s f1 f2 f3 f4 a1 a2 a3 a4 a5 a6 a7 a8 a9 a10 a11 a12 a13 a14 a15 a16 a17 N L Q M) : es_V f2 (es_rd N 121) 256 := ⟨es_pf2 R, es_rd_lt _ _⟩
theorem es_As {o n : Nat} {a a' : Nat → Int32} {i e : Int32} {x v B : Nat} (h : es_A N o n a) (Vi : es_V i x n) (Ve : es_V e v B) (hv : v < 256) (hn : n ≤ 2147483648) (ea : a' = upd a i.toNatClampNeg e) : es_A (es_wr N (Nat.add o x) v) o n a' := by
  intro j hj
  rw [ea, es_clamp Vi hn, Ve.1]
  by_cases q : j = x
  · rw [q, pk_us]
    exact congrArg nI (es_rd_wr_eq hv).symm
  · rw [pk_un q]
    exact (h j hj).trans (congrArg nI (es_rd_wr_ne hv (show o + j ≠ o + x by omega)).symm)
theorem es_Bs {o n : Nat} {a a' : Nat → Int32} {i e : Int32} {x v : Nat} (h : es_B N o n a) (Vi : es_V i x n) (Ve : e = es_o v) (hv : v < 256) (hn : n ≤ 2147483648) (ea : a' = upd a i.toNatClampNeg e) : es_B (es_wr N (Nat.add o x) v) o n a' := by
  intro j hj
  rw [ea, es_clamp Vi hn, Ve]
  by_cases q : j = x
  · rw [q, pk_us]
    exact congrArg es_o (es_rd_wr_eq hv).symm
  · rw [pk_un q]
    exact (h j hj).trans (congrArg es_o (es_rd_wr_ne hv (show o + j ≠ o + x by omega)).symm)
theorem es_t1 (R : es_R g key s f1 f2 f3 f4 a1 a2 a3 a4 a5 a6 a7 a8 a9 a10 a11 a12 a13 a14 a15 a16 a17 N L Q M) {i e : Int32} {x v B : Nat} (Vi : es_V i x 5) (Ve : es_V e v B) (hv : v < 256) {a' : Nat → Int32} (ea : a' = upd a1 i.toNatClampNeg e) : es_R g key s f1 f2 f3 f4 a' a2 a3 a4 a5 a6 a7 a8 a9 a10 a11 a12 a13 a14 a15 a16 a17 (es_wr N x v) L Q M :=
  es_ma1 R (es_F_wr hv (Nat.zero_le _) Vi.2) (by have t := es_As (es_pa1 R) Vi Ve hv (by decide) ea; rw [show Nat.add 0 x = x from Nat.zero_add x] at t; exact t)
theorem es_t2 (R : es_R g key s f1 f2 f3 f4 a1 a2 a3 a4 a5 a6 a7 a8 a9 a10 a11 a12 a13 a14 a15 a16 a17 N L Q M) {i e : Int32} {x v B : Nat} (Vi : es_V i x 5) (Ve : es_V e v B) (hv : v < 256) {a' : Nat → Int32} (ea : a' = upd a2 i.toNatClampNeg e) : es_R g key s f1 f2 f3 f4 a1 a' a3 a4 a5 a6 a7 a8 a9 a10 a11 a12 a13 a14 a15 a16 a17 (es_wr N (Nat.add 5 x) v) L Q M :=
  es_ma2 R (es_F_wr hv (show 5 ≤ 5 + x by omega) (show 5 + x < 10 by have := Vi.2; omega)) (es_As (es_pa2 R) Vi Ve hv (by decide) ea)
theorem es_t3 (R : es_R g key s f1 f2 f3 f4 a1 a2 a3 a4 a5 a6 a7 a8 a9 a10 a11 a12 a13 a14 a15 a16 a17 N L Q M) {i e : Int32} {x v B : Nat} (Vi : es_V i x 5) (Ve : es_V e v B) (hv : v < 256) {a' : Nat → Int32} (ea : a' = upd a3 i.toNatClampNeg e) : es_R g key s f1 f2 f3 f4 a1 a2 a' a4 a5 a6 a7 a8 a9 a10 a11 a12 a13 a14 a15 a16 a17 (es_wr N (Nat.add 10 x) v) L Q M :=
  es_ma3 R (es_F_wr hv (show 10 ≤ 10 + x by omega) (show 10 + x < 15 by have := Vi.2; omega)) (es_As (es_pa3 R) Vi Ve hv (by decide) ea)
theorem es_t4 (R : es_R g key s f1 f2 f3 f4 a1 a2 a3 a4 a5 a6 a7 a8 a9 a10 a11 a12 a13 a14 a15 a16 a17 N L Q M) {i e : Int32} {x v B : Nat} (Vi : es_V i x 5) (Ve : es_V e v B) (hv : v < 256) {a' : Nat → Int32} (ea : a' = upd a4 i.toNatClampNeg e) : es_R g key s f1 f2 f3 f4 a1 a2 a3 a' a5 a6 a7 a8 a9 a10 a11 a12 a13 a14 a15 a16 a17 (es_wr N (Nat.add 15 x) v) L Q M :=
  es_ma4 R (es_F_wr hv (show 15 ≤ 15 + x by omega) (show 15 + x < 20 by have := Vi.2; omega)) (es_As (es_pa4 R) Vi Ve hv (by decide) ea)
theorem es_t6 (R : es_R g key s f1 f2 f3 f4 a1 a2 a3 a4 a5 a6 a7 a8 a9 a10 a11 a12 a13 a14 a15 a16 a17 N L Q M) {i e : Int32} {x v B : Nat} (Vi : es_V i x 5) (Ve : es_V e v B) (hv : v < 256) {a' : Nat → Int32} (ea : a' = upd a6 i.toNatClampNeg e) : es_R g key s f1 f2 f3 f4 a1 a2 a3 a4 a5 a' a7 a8 a9 a10 a11 a12 a13 a14 a15 a16 a17 (es_wr N (Nat.add 25 x) v) L Q M :=
  es_ma6 R (es_F_wr hv (show 25 ≤ 25 + x by omega) (show 25 + x < 30 by have := Vi.2; omega)) (es_As (es_pa6 R) Vi Ve hv (by decide) ea)
theorem es_t7 (R : es_R g key s f1 f2 f3 f4 a1 a2 a3 a4 a5 a6 a7 a8 a9 a10 a11 a12 a13 a14 a15 a16 a17 N L Q M) {i e : Int32} {x v B : Nat} (Vi : es_V i x 5) (Ve : es_V e v B) (hv : v < 256) {a' : Nat → Int32} (ea : a' = upd a7 i.toNatClampNeg e) : es_R g key s f1 f2 f3 f4 a1 a2 a3 a4 a5 a6 a' a8 a9 a10 a11 a12 a13 a14 a15 a16 a17 (es_wr N (Nat.add 30 x) v) L Q M :=
  es_ma7 R (es_F_wr hv (show 30 ≤ 30 + x by omega) (show 30 + x < 35 by have := Vi.2; omega)) (es_As (es_pa7 R) Vi Ve hv (by decide) ea)
theorem es_t8 (R : es_R g key s f1 f2 f3 f4 a1 a2 a3 a4 a5 a6 a7 a8 a9 a10 a11 a12 a13 a14 a15 a16 a17 N L Q M) {i e : Int32} {x v B : Nat} (Vi : es_V i x 5) (Ve : es_V e v B) (hv : v < 256) {a' : Nat → Int32} (ea : a' = upd a8 i.toNatClampNeg e) : es_R g key s f1 f2 f3 f4 a1 a2 a3 a4 a5 a6 a7 a' a9 a10 a11 a12 a13 a14 a15 a16 a17 (es_wr N (Nat.add 35 x) v) L Q M :=
  es_ma8 R (es_F_wr hv (show 35 ≤ 35 + x by omega) (show 35 + x < 40 by have := Vi.2; omega)) (es_As (es_pa8 R) Vi Ve hv (by decide) ea)
theorem es_t9 (R : es_R g key s f1 f2 f3 f4 a1 a2 a3 a4 a5 a6 a7 a8 a9 a10 a11 a12 a13 a14 a15 a16 a17 N L Q M) {i e : Int32} {x v B : Nat} (Vi : es_V i x 5) (Ve : es_V e v B) (hv : v < 256) {a' : Nat → Int32} (ea : a' = upd a9 i.toNatClampNeg e) : es_R g key s f1 f2 f3 f4 a1 a2 a3 a4 a5 a6 a7 a8 a' a10 a11 a12 a13 a14 a15 a16 a17 (es_wr N (Nat.add 40 x) v) L Q M :=
  es_ma9 R (es_F_wr hv (show 40 ≤ 40 + x by omega) (show 40 + x < 45 by have := Vi.2; omega)) (es_As (es_pa9 R) Vi Ve hv (by decide) ea)
theorem es_t11 (R : es_R g key s f1 f2 f3 f4 a1 a2 a3 a4 a5 a6 a7 a8 a9 a10 a11 a12 a13 a14 a15 a16 a17 N L Q M) {i e : Int32} {x v B : Nat} (Vi : es_V i x 5) (Ve : es_V e v B) (hv : v < 256) {a' : Nat → Int32} (ea : a' = upd a11 i.toNatClampNeg e) : es_R g key s f1 f2 f3 f4 a1 a2 a3 a4 a5 a6 a7 a8 a9 a10 a' a12 a13 a14 a15 a16 a17 (es_wr N (Nat.add 45 x) v) L Q M :=
  es_ma11 R (es_F_wr hv (show 45 ≤ 45 + x by omega) (show 45 + x < 50 by have := Vi.2; omega)) (es_As (es_pa11 R) Vi Ve hv (by decide) ea)
theorem es_t14 (R : es_R g key s f1 f2 f3 f4 a1 a2 a3 a4 a5 a6 a7 a8 a9 a10 a11 a12 a13 a14 a15 a16 a17 N L Q M) {i e : Int32} {x v B : Nat} (Vi : es_V i x 25) (Ve : es_V e v B) (hv : v < 256) {a' : Nat → Int32} (ea : a' = upd a14 i.toNatClampNeg e) : es_R g key s f1 f2 f3 f4 a1 a2 a3 a4 a5 a6 a7 a8 a9 a10 a11 a12 a13 a' a15 a16 a17 (es_wr N (Nat.add 50 x) v) L Q M :=
  es_ma14 R (es_F_wr hv (show 50 ≤ 50 + x by omega) (show 50 + x < 75 by have := Vi.2; omega)) (es_As (es_pa14 R) Vi Ve hv (by decide) ea)
theorem es_t15 (R : es_R g key s f1 f2 f3 f4 a1 a2 a3 a4 a5 a6 a7 a8 a9 a10 a11 a12 a13 a14 a15 a16 a17 N L Q M) {i e : Int32} {x v B : Nat} (Vi : es_V i x 25) (Ve : es_V e v B) (hv : v < 256) {a' : Nat → Int32} (ea : a' = upd a15 i.toNatClampNeg e) : es_R g key s f1 f2 f3 f4 a1 a2 a3 a4 a5 a6 a7 a8 a9 a10 a11 a12 a13 a14 a' a16 a17 (es_wr N (Nat.add 75 x) v) L Q M :=
  es_ma15 R (es_F_wr hv (show 75 ≤ 75 + x by omega) (show 75 + x < 100 by have := Vi.2; omega)) (es_As (es_pa15 R) Vi Ve hv (by decide) ea)
theorem es_t5 (R : es_R g key s f1 f2 f3 f4 a1 a2 a3 a4 a5 a6 a7 a8 a9 a10 a11 a12 a13 a14 a15 a16 a17 N L Q M) {i e : Int32} {x v : Nat} (Vi : es_V i x 5) (Ve : e = es_o v) (hv : v < 256) {a' : Nat → Int32} (ea : a' = upd a5 i.toNatClampNeg e) : es_R g key s f1 f2 f3 f4 a1 a2 a3 a4 a' a6 a7 a8 a9 a10 a11 a12 a13 a14 a15 a16 a17 (es_wr N (Nat.add 20 x) v) L Q M :=
  es_ma5 R (es_F_wr hv (show 20 ≤ 20 + x by omega) (show 20 + x < 25 by have := Vi.2; omega)) (es_Bs (es_pa5 R) Vi Ve hv (by decide) ea)
theorem es_tf1 (R : es_R g key s f1 f2 f3 f4 a1 a2 a3 a4 a5 a6 a7 a8 a9 a10 a11 a12 a13 a14 a15 a16 a17 N L Q M) {e : Int32} {v B : Nat} (Ve : es_V e v B) (hv : v < 256) : es_R g key s e f2 f3 f4 a1 a2 a3 a4 a5 a6 a7 a8 a9 a10 a11 a12 a13 a14 a15 a16 a17 (es_wr N 120 v) L Q M := es_mf1 R (es_F_wr hv (by decide) (by decide)) (Ve.1.trans (congrArg nI (es_rd_wr_eq hv).symm))
theorem es_tf2 (R : es_R g key s f1 f2 f3 f4 a1 a2 a3 a4 a5 a6 a7 a8 a9 a10 a11 a12 a13 a14 a15 a16 a17 N L Q M) {e : Int32} {v B : Nat} (Ve : es_V e v B) (hv : v < 256) : es_R g key s f1 e f3 f4 a1 a2 a3 a4 a5 a6 a7 a8 a9 a10 a11 a12 a13 a14 a15 a16 a17 (es_wr N 121 v) L Q M := es_mf2 R (es_F_wr hv (by decide) (by decide)) (Ve.1.trans (congrArg nI (es_rd_wr_eq hv).symm))
theorem es_tf3 (R : es_R g key s f1 f2 f3 f4 a1 a2 a3 a4 a5 a6 a7 a8 a9 a10 a11 a12 a13 a14 a15 a16 a17 N L Q M) {e : Int32} {v : Nat} (Ve : e = es_o v) (hv : v < 256) : es_R g key s f1 f2 e f4 a1 a2 a3 a4 a5 a6 a7 a8 a9 a10 a11 a12 a13 a14 a15 a16 a17 (es_wr N 122 v) L Q M := es_mf3 R (es_F_wr hv (by decide) (by decide)) (Ve.trans (congrArg es_o (es_rd_wr_eq hv).symm))
/-- a chunk of m bytes stored at p -/
theorem es_Gc {n p m v : Nat} {a a' : Nat → Int32} (h : es_G g L n a) (hv : v < 2 ^ (8 * m)) (h1 : ∀ k, k < m → a' (p + k) = g (es_rd v k)) (h2 : ∀ j, j < n → j < p ∨ p + m ≤ j → a' j = a j) : es_G g (es_wc L p m v) n a' := by
  intro j hj
  rw [es_rd_wc hv]
  by_cases q : p ≤ j ∧ j < p + m
  · rw [if_pos q]
    have := h1 (j - p) (by omega)
    rw [show p + (j - p) = j by omega] at this
    exact this
  · rw [if_neg q, h2 j hj (by omega)]
    exact h j hj
theorem es_Gs {n : Nat} {a a' : Nat → Int32} {i e : Int32} {x v B : Nat} (h : es_G g L n a) (Vi : es_V i x B) (Ve : e = g v) (hv : v < 256) (ea : a' = upd a i.toNatClampNeg e) (hB : B ≤ 2147483648 := by decide) : es_G g (es_wr L x v) n a' := by
  intro j hj
  rw [ea, es_clamp Vi hB, Ve]
  by_cases q : j = x
  · rw [q, pk_us, es_rd_wr_eq hv]
  · rw [pk_un q, es_rd_wr_ne hv q]
    exact h j hj
end
end
section
/-! methods that only look -/
theorem es_ff {P : Prop} (h : false = true) : P := absurd h (by decide)
noncomputable def es_la (N n : Nat) : Nat := Nat.add (es_rd N (Nat.add 30 n)) (es_rd N (Nat.add 40 n))
noncomputable def es_cell (k : Nat → Bool) (N n i : Nat) : Bool := es_f (es_rd N (Nat.add 30 n)) (fun b => es_i (Nat.ble i b) false (es_i (Nat.ble i (Nat.add b 16)) (es_f (Nat.mul 7 (Nat.sub (Nat.sub (Nat.add (Nat.mul 16 n) i) b) 1)) k) false))
noncomputable def es_tm (k : Nat → Bool) (N L n i : Nat) : Bool := es_i (Nat.beq i (es_rd N (Nat.add 30 n))) (es_f (es_rd N (Nat.add 35 n)) k) (es_cell (fun c => es_f (es_rd L c) (fun t => es_i (Nat.ble t 127) (k t) false)) N n i)
noncomputable def es_ch (k : Nat → Bool) (N L n i v : Nat) : Bool := es_cell (fun c => es_f (es_rd L (Nat.add c 1)) (fun d => es_i (Nat.ble d 127) (es_i (Nat.beq d 4) (es_f (es_rd L (Nat.add c 3)) (fun q => es_i (Nat.ble q 4) (es_f (Nat.lor v (Nat.shiftLeft 1 q)) k) false)) (es_i (Nat.beq d 5) (es_f (es_rd L (Nat.add c 3)) (fun q => es_i (Nat.ble q 4) (es_f (Nat.xor v (Nat.land v (Nat.shiftLeft 1 q))) k) false)) (k v))) false)) N n i
noncomputable def es_mm (k : Nat → Bool) (N L n : Nat) (f : Nat) : Nat → Nat → Bool := @Nat.rec (fun _ => Nat → Nat → Bool) (fun _ _ => false) (fun _ ih v i => es_i (Nat.ble i (es_la N n)) (es_ch (fun w => es_f (Nat.add i 1) (ih w)) N L n i v) (k v)) f
noncomputable def es_mem (k : Nat → Bool) (N L n : Nat) : Bool := es_f (es_rd N (Nat.add 103 (Nat.mul 4 n))) (fun v => es_i (Nat.ble v 31) (es_f (Nat.add (es_rd N (Nat.add 45 n)) 1) (fun i => es_mm k N L n 20 v i)) false)
noncomputable def es_jn (N a b : Nat) : Bool := es_i (Nat.beq (es_rd N a) 0) false (es_i (Nat.beq (es_rd N b) 0) false (Nat.beq (es_rd N (Nat.add 5 a)) (es_rd N (Nat.add 5 b))))
noncomputable def es_n (c : Bool) (v : Nat) : Nat := @Bool.rec (fun _ => Nat) 0 v c
noncomputable def es_rb (N n : Nat) : Nat := Nat.lor (Nat.lor (Nat.lor (Nat.lor (Nat.lor 0 (es_n (es_jn N n 0) 1)) (es_n (es_jn N n 1) 2)) (es_n (es_jn N n 2) 4)) (es_n (es_jn N n 3) 8)) (es_n (es_jn N n 4) 16)
def es_pop (v : Nat) : Nat := Nat.mod (Nat.shiftRight 112004398439102515831086157106144944400 (Nat.mul 4 v)) 16
def es_mo (a b : Nat) : Bool := Nat.ble (Nat.mul 2 (es_pop (Nat.land a b))) (es_pop b)
noncomputable def es_ld (kn : Bool) (ks : Nat → Bool) (N : Nat) : Bool := es_i (Nat.beq (es_rd N 10) 1) (ks 0) (es_i (Nat.beq (es_rd N 11) 1) (ks 1) (es_i (Nat.beq (es_rd N 12) 1) (ks 2) (es_i (Nat.beq (es_rd N 13) 1) (ks 3) (es_i (Nat.beq (es_rd N 14) 1) (ks 4) kn))))
noncomputable def es_ut (N L M n : Nat) (t e : Bool) : Bool := es_f (es_la N n) (fun la => es_tm (fun own => es_i (Nat.ble (es_rd M 5) own) (es_i (Nat.beq (es_rd M 5) own) (es_i (Nat.ble la (es_rd M 4)) t e) e) t) N L n la)
section
variable {g : Nat → Int32} {key s : Nat} {f1 f2 f3 f4 : Int32} {a1 a2 a3 a4 a5 a6 a7 a8 a9 a10 a11 a12 a13 a14 a15 a16 a17 : Nat → Int32} {N L Q M : Nat}
theorem es_c1 {r : Int32} {c : Nat} (Vr : es_V r c 560) (hc : c + 6 < 560) : es_V (r + 1) (c + 1) 560 := es_vb (es_va Vr (es_vl 1 1)) (by omega)
theorem es_c2 {r : Int32} {c : Nat} (Vr : es_V r c 560) (hc : c + 6 < 560) : es_V (r + 2) (c + 2) 560 := es_vb (es_va Vr (es_vl 2 2)) (by omega)
theorem es_c3 {r : Int32} {c : Nat} (Vr : es_V r c 560) (hc : c + 6 < 560) : es_V (r + 3) (c + 3) 560 := es_vb (es_va Vr (es_vl 3 3)) (by omega)
theorem es_c4 {r : Int32} {c : Nat} (Vr : es_V r c 560) (hc : c + 6 < 560) : es_V (r + 4) (c + 4) 560 := es_vb (es_va Vr (es_vl 4 4)) (by omega)
theorem es_c5 {r : Int32} {c : Nat} (Vr : es_V r c 560) (hc : c + 6 < 560) : es_V (r + 5) (c + 5) 560 := es_vb (es_va Vr (es_vl 5 5)) (by omega)
theorem es_c6 {r : Int32} {c : Nat} (Vr : es_V r c 560) (hc : c + 6 < 560) : es_V (r + 6) (c + 6) 560 := es_vb (es_va Vr (es_vl 6 6)) (by omega)
theorem es_s_lastOf {post : Int32 → Prop} (R : es_R g key s f1 f2 f3 f4 a1 a2 a3 a4 a5 a6 a7 a8 a9 a10 a11 a12 a13 a14 a15 a16 a17 N L Q M) {p0 : Int32} {n : Nat} (V0 : es_V p0 n 5) (hp : ∀ r, es_V r (es_la N n) 512 → post r) : wpX_lastOf post (f1, f2, f3, f4, a1, a2, a3, a4, a5, a6, a7, a8, a9, a10, a11, a12, a13, a14, a15, a16, a17) p0 :=
  ⟨es_in V0 V0.2, es_in V0 V0.2, hp _ (es_vw (es_va (es_r7 R V0) (es_r9 R V0)))⟩
theorem es_s_cellOf {post : Int32 → Prop} {k : Nat → Bool} (R : es_R g key s f1 f2 f3 f4 a1 a2 a3 a4 a5 a6 a7 a8 a9 a10 a11 a12 a13 a14 a15 a16 a17 N L Q M) {p0 p1 : Int32} {n i : Nat} (V0 : es_V p0 n 5) (V1 : es_V p1 i 1024) (h : es_cell k N n i = true) (hp : ∀ r c, es_V r c 560 → c + 6 < 560 → k c = true → post r) : wpX_cellOf post (f1, f2, f3, f4, a1, a2, a3, a4, a5, a6, a7, a8, a9, a10, a11, a12, a13, a14, a15, a16, a17) p0 p1 := by
  have h1 := es_fe h
  have h2 := es_ggt h1
  have h3 := es_gle h2.2
  have h4 := es_fe h3.2
  have hn := V0.2
  have b1 : es_rd N (30 + n) < i := h2.1
  have b2 : i ≤ es_rd N (30 + n) + 16 := h3.1
  have b3 : 7 * (16 * n + i - es_rd N (30 + n) - 1) + 6 < 560 := by omega
  exact ⟨es_in V0 V0.2, hp _ _ (es_vb (es_vm (es_vl 7 7) (es_vs (es_vs (es_va (es_vm (es_vl 16 16) V0) V1) (es_r7 R V0) (show es_rd N (30 + n) ≤ 16 * n + i by omega)) (es_vl 1 1) (show 1 ≤ 16 * n + i - es_rd N (30 + n) by omega))) (show 7 * (16 * n + i - es_rd N (30 + n) - 1) < 560 by omega)) b3 h4⟩
theorem es_s_termAt {post : Int32 → Prop} {k : Nat → Bool} (R : es_R g key s f1 f2 f3 f4 a1 a2 a3 a4 a5 a6 a7 a8 a9 a10 a11 a12 a13 a14 a15 a16 a17 N L Q M) {p0 p1 : Int32} {n i : Nat} (V0 : es_V p0 n 5) (V1 : es_V p1 i 1024) (h : es_tm k N L n i = true) (hp : ∀ r t, es_V r t 256 → k t = true → post r) : wpX_termAt post (f1, f2, f3, f4, a1, a2, a3, a4, a5, a6, a7, a8, a9, a10, a11, a12, a13, a14, a15, a16, a17) p0 p1 :=
  ⟨es_in V0 V0.2, es_eq V1 (es_r7 R V0) h (fun _ h => ⟨es_in V0 V0.2, hp _ _ (es_r8 R V0) (es_fe h)⟩)
    (fun _ h => es_s_cellOf R V0 V1 h (fun r c Vr hc h => ⟨es_in Vr Vr.2, hp _ _ (es_vw (es_rg R Vr rfl (Nat.lt_succ_of_le (es_gle (es_fe h)).1))) (es_gle (es_fe h)).2⟩))⟩
theorem es_s_changedBy {post : Int32 → Prop} {k : Nat → Bool} (R : es_R g key s f1 f2 f3 f4 a1 a2 a3 a4 a5 a6 a7 a8 a9 a10 a11 a12 a13 a14 a15 a16 a17 N L Q M) {p0 p1 p2 : Int32} {n i v : Nat} (V0 : es_V p0 n 5) (V1 : es_V p1 i 1024) (V2 : es_V p2 v 32) (h : es_ch k N L n i v = true) (hp : ∀ r w, es_V r w 32 → k w = true → post r) : wpX_changedBy post (f1, f2, f3, f4, a1, a2, a3, a4, a5, a6, a7, a8, a9, a10, a11, a12, a13, a14, a15, a16, a17) p0 p1 p2 := by
  unfold wpX_changedBy
  refine es_s_cellOf R V0 V1 h (fun r c Vr hc h => ?_)
  have h1 := es_gle (es_fe h)
  have Vd : es_V (a10 (r + 1).toNatClampNeg) (es_rd L (c + 1)) 128 := es_rg R (es_c1 Vr hc) rfl (Nat.lt_succ_of_le h1.1)
  have V3 := es_c3 Vr hc
  have Vq : es_rd L (c + 3) ≤ 4 → es_V (a10 (r + 3).toNatClampNeg) (es_rd L (c + 3)) 5 := fun q => es_vb (es_rg R V3 rfl (by omega)) (by omega)
  exact ⟨es_in (es_c1 Vr hc) (es_c1 Vr hc).2, es_eq Vd (es_vl 4 4) h1.2
    (fun _ h => ⟨es_in V3 V3.2, hp _ _ (es_vor V2 (es_vsh (Vq (es_gle (es_fe h)).1))) (es_fe (es_gle (es_fe h)).2)⟩)
    (fun _ h => ⟨es_in (es_c1 Vr hc) (es_c1 Vr hc).2, es_eq Vd (es_vl 5 5) h
      (fun _ h => ⟨es_in V3 V3.2, hp _ _ (es_vcl V2 (es_vsh (Vq (es_gle (es_fe h)).1))) (es_fe (es_gle (es_fe h)).2)⟩)
      (fun _ h => hp _ _ V2 h)⟩)⟩
theorem es_s_mm {post : Int32 → Prop} {k : Nat → Bool} (R : es_R g key s f1 f2 f3 f4 a1 a2 a3 a4 a5 a6 a7 a8 a9 a10 a11 a12 a13 a14 a15 a16 a17 N L Q M) {x1 : Int32} {n : Nat} (V1 : es_V x1 n 5) (hp : ∀ r w, es_V r w 32 → k w = true → post r) : ∀ (f : Nat) {x2 x3 : Int32} {v i : Nat}, es_V x2 v 32 → es_V x3 i 1024 → es_mm k N L n f v i = true → wX_membersFor_22 post x1 f1 f2 f3 f4 a1 a2 a3 a4 a5 a6 a7 a8 a9 a10 a11 a12 a13 a14 a15 a16 a17 f x2 x3 := by
  intro f
  induction f with
  | zero => intro x2 x3 v i V2 V3 h; exact es_ff h
  | succ f ih =>
    intro x2 x3 v i V2 V3 h
    unfold wX_membersFor_22
    exact es_s_lastOf R V1 (fun r Vr => es_lt Vr V3 h (fun _ h => hp _ _ V2 h) (fun hle h => es_s_changedBy R V1 V3 V2 h (fun r' w Vw h => fun y ey => ih Vw (es_vb (es_vq ey (es_v1 V3)) (Nat.lt_of_le_of_lt (Nat.succ_le_succ hle) (Nat.lt_of_lt_of_le (Nat.succ_lt_succ Vr.2) (by decide)))) (es_fe h))))
theorem es_r12m (R : es_R g key s f1 f2 f3 f4 a1 a2 a3 a4 a5 a6 a7 a8 a9 a10 a11 a12 a13 a14 a15 a16 a17 N L Q M) {p0 : Int32} {n : Nat} (V0 : es_V p0 n 5) : es_V ((15 * p0) + 14) (15 * n + 14) 75 ∧ es_V (a12 ((15 * p0) + 14).toNatClampNeg) (es_rd N (Nat.add 103 (Nat.mul 4 n))) 256 := by
  have hn := V0.2
  have Vx : es_V ((15 * p0) + 14) (15 * n + 14) 75 := es_vb (es_va (es_vm (es_vl 15 15) V0) (es_vl 14 14)) (by omega)
  exact ⟨Vx, by rw [es_clamp Vx]; exact (es_pa12 R n hn).2.2.2.1, es_rd_lt _ _⟩
theorem es_s_mem {post : Int32 → Prop} {k : Nat → Bool} (R : es_R g key s f1 f2 f3 f4 a1 a2 a3 a4 a5 a6 a7 a8 a9 a10 a11 a12 a13 a14 a15 a16 a17 N L Q M) {p0 : Int32} {n : Nat} (V0 : es_V p0 n 5) (h : es_mem k N L n = true) (hp : ∀ r w, es_V r w 32 → k w = true → post r) : wpX_membersFor post (f1, f2, f3, f4, a1, a2, a3, a4, a5, a6, a7, a8, a9, a10, a11, a12, a13, a14, a15, a16, a17) p0 := by
  have h1 := es_gle (es_fe h)
  have h2 := es_fe h1.2
  exact ⟨es_in (es_r12m R V0).1 (es_r12m R V0).1.2, fun x2 e2 => ⟨es_in V0 V0.2, fun x3 e3 => ⟨20, es_s_mm R V0 hp 20 (es_vb (es_vq e2 (es_r12m R V0).2) (Nat.lt_succ_of_le h1.1)) (es_vw (es_vq e3 (es_v1 (es_r11 R V0)))) h2⟩⟩⟩
theorem es_s_areJoined {post : Int32 → Prop} {t e : Bool} (R : es_R g key s f1 f2 f3 f4 a1 a2 a3 a4 a5 a6 a7 a8 a9 a10 a11 a12 a13 a14 a15 a16 a17 N L Q M) {p0 p1 : Int32} {n q : Nat} (V0 : es_V p0 n 5) (V1 : es_V p1 q 5) (h : es_i (es_jn N n q) t e = true) (f : t = true → post 1) (g' : e = true → post 0) : wpX_areJoined post (f1, f2, f3, f4, a1, a2, a3, a4, a5, a6, a7, a8, a9, a10, a11, a12, a13, a14, a15, a16, a17) p0 p1 := by
  refine ⟨es_in V0 V0.2, ?_⟩
  have E0 : ∀ x, x ≠ 0 → Nat.beq x 0 = false := fun x hx => by cases x with
    | zero => exact absurd rfl hx
    | succ x => rfl
  by_cases z0 : es_rd N n = 0
  · have j : es_jn N n q = false := by rw [es_jn, z0]; rfl
    rw [j] at h
    exact es_eqT (es_r1 R V0) (es_vl 0 0) z0 (g' h)
  refine es_eqF (es_r1 R V0) (es_vl 0 0) z0 ⟨es_in V1 V1.2, ?_⟩
  by_cases z1 : es_rd N q = 0
  · have j : es_jn N n q = false := by rw [es_jn, E0 _ z0, z1]; rfl
    rw [j] at h
    exact es_eqT (es_r1 R V1) (es_vl 0 0) z1 (g' h)
  refine es_eqF (es_r1 R V1) (es_vl 0 0) z1 ⟨es_in V0 V0.2, es_in V1 V1.2, ?_⟩
  have j : es_jn N n q = Nat.beq (es_rd N (Nat.add 5 n)) (es_rd N (Nat.add 5 q)) := by rw [es_jn, E0 _ z0, E0 _ z1]; rfl
  rw [j] at h
  exact es_eq (es_r2 R V0) (es_r2 R V1) h (fun _ h => f h) (fun _ h => g' h)
theorem es_rbs {post : Int32 → Prop} (R : es_R g key s f1 f2 f3 f4 a1 a2 a3 a4 a5 a6 a7 a8 a9 a10 a11 a12 a13 a14 a15 a16 a17 N L Q M) {x1 x2 x3 : Int32} {n v i f : Nat} (V1 : es_V x1 n 5) (V2 : es_V x2 v 32) (V3 : es_V x3 i 5) (hn : ∀ y2 y3, es_V y2 (Nat.lor v (es_n (es_jn N n i) (Nat.shiftLeft 1 i))) 32 → es_V y3 (i + 1) 6 → wX_reachedBy_4 post x1 f1 f2 f3 f4 a1 a2 a3 a4 a5 a6 a7 a8 a9 a10 a11 a12 a13 a14 a15 a16 a17 f y2 y3) : wX_reachedBy_4 post x1 f1 f2 f3 f4 a1 a2 a3 a4 a5 a6 a7 a8 a9 a10 a11 a12 a13 a14 a15 a16 a17 (f + 1) x2 x3 := by
  refine es_leF (es_vl 5 5) V3 V3.2 ?_
  cases j : es_jn N n i with
  | false =>
    rw [j] at hn
    exact es_s_areJoined (t := false) (e := true) R V1 V3 (by rw [j]; rfl) (fun h => es_ff h) (fun _ => br_t rfl (fun y2 e2 y3 e3 => hn _ _ (es_vq e2 (es_vor V2 (es_vw (es_vl 0 0)))) (es_vq e3 (es_v1 V3))))
  | true =>
    rw [j] at hn
    exact es_s_areJoined (t := true) (e := false) R V1 V3 (by rw [j]; rfl) (fun _ => br_f (by decide) (fun y2 e2 y3 e3 => hn _ _ (es_vq e2 (es_vor V2 (es_vsh V3))) (es_vq e3 (es_v1 V3)))) (fun h => es_ff h)
theorem es_s_reachedBy {post : Int32 → Prop} (R : es_R g key s f1 f2 f3 f4 a1 a2 a3 a4 a5 a6 a7 a8 a9 a10 a11 a12 a13 a14 a15 a16 a17 N L Q M) {p0 : Int32} {n : Nat} (V0 : es_V p0 n 5) (hp : ∀ r, es_V r (es_rb N n) 32 → post r) : wpX_reachedBy post (f1, f2, f3, f4, a1, a2, a3, a4, a5, a6, a7, a8, a9, a10, a11, a12, a13, a14, a15, a16, a17) p0 :=
  ⟨6, es_rbs (i := 0) R V0 (es_vw (es_vl 0 0)) (es_vw (es_vl 0 0)) (fun y2 y3 W2 W3 => es_rbs (i := 1) R V0 W2 (es_vb W3 (by decide)) (fun y2 y3 W2 W3 => es_rbs (i := 2) R V0 W2 (es_vb W3 (by decide)) (fun y2 y3 W2 W3 => es_rbs (i := 3) R V0 W2 (es_vb W3 (by decide)) (fun y2 y3 W2 W3 => es_rbs (i := 4) R V0 W2 (es_vb W3 (by decide)) (fun y2 y3 W2 W3 => es_leT (es_vl 5 5) W3 (by decide) (hp _ W2))))))⟩
theorem es_pop1 : ∀ v, v < 32 → (((((0 : Int32) + ((nI v >>> ((0 : Int32) &&& 31)) &&& 1)) + ((nI v >>> (((0 : Int32) + 1) &&& 31)) &&& 1)) + ((nI v >>> ((((0 : Int32) + 1) + 1) &&& 31)) &&& 1)) + ((nI v >>> (((((0 : Int32) + 1) + 1) + 1) &&& 31)) &&& 1)) + ((nI v >>> ((((((0 : Int32) + 1) + 1) + 1) + 1) &&& 31)) &&& 1) = nI (es_pop v) ∧ es_pop v < 6 := by decide +kernel
theorem es_s_ones {post : Int32 → Prop} {p0 : Int32} {v : Nat} (V0 : es_V p0 v 32) (hp : ∀ r, es_V r (es_pop v) 6 → post r) : wpX_ones post () p0 := by
  have e := V0.1
  subst e
  exact ⟨6, br_f (by decide) (nm_e (nm_e (br_f (by decide) (nm_e (nm_e (br_f (by decide) (nm_e (nm_e (br_f (by decide) (nm_e (nm_e (br_f (by decide) (nm_e (nm_e (br_t (by decide) (hp _ (es_pop1 v V0.2)))))))))))))))))⟩
theorem es_s_isMost {post : Int32 → Prop} {t e : Bool} {p0 p1 : Int32} {a b : Nat} (V0 : es_V p0 a 32) (V1 : es_V p1 b 32) (h : es_i (es_mo a b) e t = true) (f : t = true → post 1) (g' : e = true → post 0) : wpX_isMost post () p0 p1 := by
  unfold wpX_isMost
  exact es_s_ones (es_van V0 V1) (fun r W1 => es_s_ones V1 (fun r' W2 => es_le (es_vm (es_vl 2 2) W1) W2 h (fun _ h => g' h) (fun _ h => f h)))
theorem es_lds {post : Int32 → Prop} {ks : Nat → Bool} {e : Bool} (R : es_R g key s f1 f2 f3 f4 a1 a2 a3 a4 a5 a6 a7 a8 a9 a10 a11 a12 a13 a14 a15 a16 a17 N L Q M) {x : Int32} {i f : Nat} (V : es_V x i 5) (h : es_i (Nat.beq (es_rd N (Nat.add 10 i)) 1) (ks i) e = true) (hs : ∀ r n, es_V r n 5 → ks n = true → post r) (hn : e = true → ∀ y, es_V y (i + 1) 6 → wX_leaderNow_2 post f1 f2 f3 f4 a1 a2 a3 a4 a5 a6 a7 a8 a9 a10 a11 a12 a13 a14 a15 a16 a17 f y) : wX_leaderNow_2 post f1 f2 f3 f4 a1 a2 a3 a4 a5 a6 a7 a8 a9 a10 a11 a12 a13 a14 a15 a16 a17 (f + 1) x :=
  es_leF (es_vl 5 5) V V.2 ⟨es_in V V.2, es_eq (es_r3 R V) (es_vl 1 1) h (fun _ h => hs _ _ V h) (fun _ h => fun y ey => hn h y (es_vq ey (es_v1 V)))⟩
theorem es_s_leaderNow {post : Int32 → Prop} {kn : Bool} {ks : Nat → Bool} (R : es_R g key s f1 f2 f3 f4 a1 a2 a3 a4 a5 a6 a7 a8 a9 a10 a11 a12 a13 a14 a15 a16 a17 N L Q M) (h : es_ld kn ks N = true) (hn : kn = true → post (-1)) (hs : ∀ r n, es_V r n 5 → ks n = true → post r) : wpX_leaderNow post (f1, f2, f3, f4, a1, a2, a3, a4, a5, a6, a7, a8, a9, a10, a11, a12, a13, a14, a15, a16, a17) :=
  ⟨6, es_lds (i := 0) R (es_vw (es_vl 0 0)) h hs (fun h y W => es_lds (i := 1) R (es_vb W (by decide)) h hs (fun h y W => es_lds (i := 2) R (es_vb W (by decide)) h hs (fun h y W => es_lds (i := 3) R (es_vb W (by decide)) h hs (fun h y W => es_lds (i := 4) R (es_vb W (by decide)) h hs (fun h y W => es_leT (es_vl 5 5) W (by decide) (hn h))))))⟩
theorem es_s_isUpToDate {post : Int32 → Prop} {t e : Bool} (R : es_R g key s f1 f2 f3 f4 a1 a2 a3 a4 a5 a6 a7 a8 a9 a10 a11 a12 a13 a14 a15 a16 a17 N L Q M) {p0 : Int32} {n : Nat} (V0 : es_V p0 n 5) (h : es_ut N L M n t e = true) (f : t = true → post 1) (g' : e = true → post 0) : wpX_isUpToDate post (f1, f2, f3, f4, a1, a2, a3, a4, a5, a6, a7, a8, a9, a10, a11, a12, a13, a14, a15, a16, a17) p0 := by
  unfold wpX_isUpToDate
  have h := es_fe h
  exact es_s_lastOf R V0 (fun r W1 => es_s_termAt R V0 (es_vw W1) h (fun r2 own W2 h => es_lt W2 (es_r17 R 5) h (fun _ h => f h)
    (fun _ h => es_eq (es_r17 R 5) W2 h (fun _ h => es_s_lastOf R V0 (fun r5 W5 => es_lt (es_r17 R 4) W5 h (fun _ h => g' h) (fun _ h => f h))) (fun _ h => g' h))))
end
end
section
/-! enterTerm, giveUp, carryOut, countTo, countMost -/
noncomputable def es_et (k : Nat → Bool) (N n t : Nat) : Bool := es_i (Nat.ble t (es_rd N (Nat.add 15 n))) (k N) (es_f (es_wr (es_wr (es_wr N (Nat.add 15 n) t) (Nat.add 20 n) 0) (Nat.add 10 n) 0) k)
noncomputable def es_gz (k : Nat → Bool) (N n : Nat) : Bool := es_f (es_wr N (Nat.add 10 n) 0) k
noncomputable def es_gl (k : Nat → Bool) (N L n : Nat) : Bool := es_mem (fun all => es_i (Nat.beq (es_rd N n) 0) (es_gz k N n) (es_i (Nat.beq (Nat.mod (Nat.shiftRight all n) 2) 1) (es_f (es_rb N n) (fun r => es_i (es_mo r all) (es_gz k N n) (k N))) (es_gz k N n))) N L n
noncomputable def es_g1 (k : Nat → Bool) (N L n : Nat) : Bool := es_i (Nat.beq (es_rd N (Nat.add 10 n)) 0) (es_i (Nat.ble (es_rd N (Nat.add 40 n)) 16) (es_i (Nat.ble (es_rd N (Nat.add 30 n)) (es_rd N (Nat.add 45 n))) (k N) false) false) (es_gl k N L n)
noncomputable def es_gu (k : Nat → Bool) (N L : Nat) : Bool := es_g1 (fun N => es_g1 (fun N => es_g1 (fun N => es_g1 (fun N => es_g1 k N L 4) N L 3) N L 2) N L 1) N L 0
noncomputable def es_cm (k : Nat → Bool) (N L n c : Nat) : Bool := es_i (Nat.beq (es_rd L (Nat.add c 2)) 133) (es_i (Nat.beq (es_rd L (Nat.add c 3)) 132) (es_f (es_rd N (Nat.add 100 (Nat.mul 4 n))) (fun x => es_f (es_ad x (es_rd L (Nat.add c 5))) (fun w => es_i (Nat.ble w 131) (es_f (es_wr (es_wr (es_wr N (Nat.add 100 (Nat.mul 4 n)) w) (Nat.add 101 (Nat.mul 4 n)) (es_rd L (Nat.add c 4))) (Nat.add 102 (Nat.mul 4 n)) x) k) false))) false) false
noncomputable def es_mj (k : Nat → Bool) (N L n c : Nat) (fn : Nat → Nat → Nat) : Bool := es_f (es_rd L (Nat.add c 3)) (fun q => es_i (Nat.ble q 4) (es_f (es_rd N (Nat.add 103 (Nat.mul 4 n))) (fun v => es_i (Nat.ble v 31) (es_f (es_wr N (Nat.add 103 (Nat.mul 4 n)) (fn v (Nat.shiftLeft 1 q))) k) false)) false)
noncomputable def es_co (k : Nat → Bool) (N L n c : Nat) : Bool := es_f (es_rd L (Nat.add c 1)) (fun d => es_i (Nat.beq d 3) (k N) (es_i (Nat.beq d 1) (es_cm k N L n c) (es_i (Nat.beq d 4) (es_mj k N L n c Nat.lor) (es_i (Nat.beq d 5) (es_mj k N L n c (fun v w => Nat.xor v (Nat.land v w))) false))))
noncomputable def es_ctb (k ih : Nat → Bool) (L n x N : Nat) : Bool := es_f (es_rd N (Nat.add 45 n)) (fun c => es_i (Nat.ble x c) (k N) (es_i (Nat.ble (es_la N n) c) (k N) (es_i (Nat.ble c 126) (es_f (es_wr N (Nat.add 45 n) (Nat.add c 1)) (fun N' => es_cell (fun cc => es_co ih N' L n cc) N' n (Nat.add c 1))) false)))
noncomputable def es_ct (k : Nat → Bool) (L n x : Nat) (f : Nat) : Nat → Bool := @Nat.rec (fun _ => Nat → Bool) (fun _ => false) (fun _ ih N => es_ctb k ih L n x N) f
noncomputable def es_hv (N n i : Nat) : Nat := Nat.lor (Nat.lor (Nat.lor (Nat.lor (Nat.lor 0 (es_n (Nat.ble i (es_rd N (Nat.add 75 (Nat.add (Nat.mul 5 n) 0)))) 1)) (es_n (Nat.ble i (es_rd N (Nat.add 75 (Nat.add (Nat.mul 5 n) 1)))) 2)) (es_n (Nat.ble i (es_rd N (Nat.add 75 (Nat.add (Nat.mul 5 n) 2)))) 4)) (es_n (Nat.ble i (es_rd N (Nat.add 75 (Nat.add (Nat.mul 5 n) 3)))) 8)) (es_n (Nat.ble i (es_rd N (Nat.add 75 (Nat.add (Nat.mul 5 n) 4)))) 16)
noncomputable def es_cl (k : Nat → Bool) (L n all : Nat) (f : Nat) : Nat → Nat → Bool := @Nat.rec (fun _ => Nat → Nat → Bool) (fun _ _ => false) (fun _ ih N i => es_i (Nat.ble i (es_rd N (Nat.add 45 n))) (k N) (es_tm (fun t => es_i (Nat.beq t (es_rd N (Nat.add 15 n))) (es_f (es_hv N n i) (fun v => es_i (es_mo v all) (es_f (Nat.sub i 1) (ih N)) (es_ct (fun N' => es_f (Nat.sub i 1) (ih N')) L n i 20 N))) (es_f (Nat.sub i 1) (ih N))) N L n i)) f
noncomputable def es_cmo (k : Nat → Bool) (N L n : Nat) : Bool := es_mem (fun all => es_f (es_la N n) (fun i => es_cl k L n all 20 N i)) N L n
section
variable {g : Nat → Int32} {key s : Nat} {f1 f2 f3 f4 : Int32} {a1 a2 a3 a4 a5 a6 a7 a8 a9 a10 a11 a12 a13 a14 a15 a16 a17 : Nat → Int32} {N L Q M : Nat}
theorem es_s_enterTerm {post : St2 → Prop} {k : Nat → Bool} (R : es_R g key s f1 f2 f3 f4 a1 a2 a3 a4 a5 a6 a7 a8 a9 a10 a11 a12 a13 a14 a15 a16 a17 N L Q M) {p0 p1 : Int32} {n t : Nat} (V0 : es_V p0 n 5) (V1 : es_V p1 t 256) (h : es_et k N n t = true) (hk : ∀ f1 f2 f3 f4 a1 a2 a3 a4 a5 a6 a7 a8 a9 a10 a11 a12 a13 a14 a15 a16 a17 N, es_R g key s f1 f2 f3 f4 a1 a2 a3 a4 a5 a6 a7 a8 a9 a10 a11 a12 a13 a14 a15 a16 a17 N L Q M → k N = true → post (f1, f2, f3, f4, a1, a2, a3, a4, a5, a6, a7, a8, a9, a10, a11, a12, a13, a14, a15, a16, a17)) : wpX_enterTerm post (f1, f2, f3, f4, a1, a2, a3, a4, a5, a6, a7, a8, a9, a10, a11, a12, a13, a14, a15, a16, a17) p0 p1 :=
  ⟨es_in V0 V0.2, es_le V1 (es_r4 R V0) h (fun _ h => hk _ _ _ _ _ _ _ _ _ _ _ _ _ _ _ _ _ _ _ _ _ _ R h) (fun _ h => ⟨es_in V0 V0.2, fun b1 e1 => ⟨es_in V0 V0.2, fun b2 e2 => ⟨es_in V0 V0.2, fun b3 e3 => hk _ _ _ _ _ _ _ _ _ _ _ _ _ _ _ _ _ _ _ _ _ _ (es_t3 (es_t5 (es_t4 R V0 V1 V1.2 e1) V0 es_o0.symm (by decide) e2) V0 (es_vl 0 0) (by decide) e3) (es_fe h)⟩⟩⟩)⟩
/-! giveUp -/
theorem es_cellok {n i : Nat} (h1 : es_rd N (30 + n) < i) (h2 : i ≤ es_rd N (30 + n) + 16) : es_cell (fun _ => true) N n i = true := by
  have e : ∀ (v : Nat) (k : Nat → Bool), k v = true → es_f v k = true := fun v k h => by
    cases v with
    | zero => exact h
    | succ v => exact h
  refine e _ _ ?_
  have b1 : Nat.ble i (es_rd N (Nat.add 30 n)) = false := by
    cases q : Nat.ble i (es_rd N (Nat.add 30 n)) with
    | false => rfl
    | true => exact absurd (es_bleT q) (Nat.not_le_of_lt h1)
  have b2 : Nat.ble i (Nat.add (es_rd N (Nat.add 30 n)) 16) = true := Nat.ble_eq_true_of_le h2
  rw [b1, b2]
  exact e _ (fun _ => true) rfl
theorem es_w_mm {post : Int32 → Prop} (R : es_R g key s f1 f2 f3 f4 a1 a2 a3 a4 a5 a6 a7 a8 a9 a10 a11 a12 a13 a14 a15 a16 a17 N L Q M) {x1 : Int32} {n : Nat} (V1 : es_V x1 n 5) (he : es_rd N (40 + n) ≤ 16) (hp : ∀ r, post r) : ∀ (f : Nat) {x2 x3 : Int32} {i : Nat}, es_V x3 i 1024 → es_rd N (30 + n) < i → es_la N n + 1 - i < f → wX_membersFor_22 post x1 f1 f2 f3 f4 a1 a2 a3 a4 a5 a6 a7 a8 a9 a10 a11 a12 a13 a14 a15 a16 a17 f x2 x3 := by
  intro f
  have hl : es_la N n = es_rd N (30 + n) + es_rd N (40 + n) := rfl
  induction f with
  | zero => intro x2 x3 i V3 h1 h2; exact absurd h2 (by omega)
  | succ f ih =>
    intro x2 x3 i V3 h1 h2
    unfold wX_membersFor_22
    refine es_s_lastOf R V1 (fun r Vr => ?_)
    rcases Nat.lt_or_ge (es_la N n) i with z | z
    · exact es_ltT Vr V3 z (hp _)
    · refine es_ltF Vr V3 z ?_
      have nx : ∀ y2 : Int32, ∀ x, x = x3 + 1 → wX_membersFor_22 post x1 f1 f2 f3 f4 a1 a2 a3 a4 a5 a6 a7 a8 a9 a10 a11 a12 a13 a14 a15 a16 a17 f y2 x := fun y2 x ex => ih (es_vb (es_vq ex (es_v1 V3)) (by have := Vr.2; omega)) (by omega) (by omega)
      unfold wpX_changedBy
      exact es_s_cellOf R V1 V3 (es_cellok h1 (by omega)) (fun r c Wr hc _ => ⟨es_in (es_c1 Wr hc) (es_c1 Wr hc).2, br_c (fun _ => ⟨es_in (es_c3 Wr hc) (es_c3 Wr hc).2, nx _⟩) (fun _ => ⟨es_in (es_c1 Wr hc) (es_c1 Wr hc).2, br_c (fun _ => ⟨es_in (es_c3 Wr hc) (es_c3 Wr hc).2, nx _⟩) (fun _ => nx _)⟩)⟩)
theorem es_w_mem {post : Int32 → Prop} (R : es_R g key s f1 f2 f3 f4 a1 a2 a3 a4 a5 a6 a7 a8 a9 a10 a11 a12 a13 a14 a15 a16 a17 N L Q M) {p0 : Int32} {n : Nat} (V0 : es_V p0 n 5) (he : es_rd N (40 + n) ≤ 16) (hb : es_rd N (30 + n) ≤ es_rd N (45 + n)) (hp : ∀ r, post r) : wpX_membersFor post (f1, f2, f3, f4, a1, a2, a3, a4, a5, a6, a7, a8, a9, a10, a11, a12, a13, a14, a15, a16, a17) p0 :=
  ⟨es_in (es_r12m R V0).1 (es_r12m R V0).1.2, fun x2 e2 => ⟨es_in V0 V0.2, fun x3 e3 => ⟨es_la N n + 2, es_w_mm R V0 he hp (es_la N n + 2) (es_vw (es_vq e3 (es_v1 (es_r11 R V0)))) (Nat.lt_succ_of_le hb) (by omega)⟩⟩⟩
theorem es_w_ones {post : Int32 → Prop} {p0 : Int32} (hp : ∀ r, post r) : wpX_ones post () p0 :=
  ⟨6, br_f (by decide) (nm_e (nm_e (br_f (by decide) (nm_e (nm_e (br_f (by decide) (nm_e (nm_e (br_f (by decide) (nm_e (nm_e (br_f (by decide) (nm_e (nm_e (br_t (by decide) (hp _))))))))))))))))⟩
theorem es_w_isMost {post : Int32 → Prop} {p0 p1 : Int32} (h1 : post 1) (h0 : post 0) : wpX_isMost post () p0 p1 := by
  unfold wpX_isMost
  exact es_w_ones (fun r => es_w_ones (fun r' => br_c (fun _ => h0) (fun _ => h1)))
/-- a place of role stored as it is -/
theorem es_t3k (R : es_R g key s f1 f2 f3 f4 a1 a2 a3 a4 a5 a6 a7 a8 a9 a10 a11 a12 a13 a14 a15 a16 a17 N L Q M) {i e : Int32} {x : Nat} (Vi : es_V i x 5) (he : e = a3 i.toNatClampNeg) {a' : Nat → Int32} (ea : a' = upd a3 i.toNatClampNeg e) : es_R g key s f1 f2 f3 f4 a1 a2 a' a4 a5 a6 a7 a8 a9 a10 a11 a12 a13 a14 a15 a16 a17 N L Q M := by
  have q : a' = a3 := by
    rw [ea, he]
    funext j
    by_cases z : j = i.toNatClampNeg
    · rw [z, pk_us]
    · rw [pk_un z]
  rw [q]
  exact R
theorem es_g50 {post : St2 → Prop} {J : Int32 → (Nat → Int32) → (Nat → Int32) → (Nat → Int32) → (Nat → Int32) → (Nat → Int32) → (Nat → Int32) → (Nat → Int32) → (Nat → Int32) → (Nat → Int32) → (Nat → Int32) → (Nat → Int32) → (Nat → Int32) → (Nat → Int32) → (Nat → Int32) → (Nat → Int32) → (Nat → Int32) → (Nat → Int32) → Prop} {x : Int32} {n : Nat} (V : es_V x n 5)
    (hj : ∀ a' y, a' = upd a3 x.toNatClampNeg 0 → es_V y (n + 1) 6 → J y a1 a2 a' a4 a5 a6 a7 a8 a9 a10 a11 a12 a13 a14 a15 a16 a17) : wX_giveUp_49 post J x f1 f2 f3 f4 a1 a2 a3 a4 a5 a6 a7 a8 a9 a10 a11 a12 a13 a14 a15 a16 a17 :=
  br_t rfl ⟨es_in V V.2, fun b e y ey => hj b y e (es_vq ey (es_v1 V))⟩
theorem es_g51 {post : St2 → Prop} {J : Int32 → (Nat → Int32) → (Nat → Int32) → (Nat → Int32) → (Nat → Int32) → (Nat → Int32) → (Nat → Int32) → (Nat → Int32) → (Nat → Int32) → (Nat → Int32) → (Nat → Int32) → (Nat → Int32) → (Nat → Int32) → (Nat → Int32) → (Nat → Int32) → (Nat → Int32) → (Nat → Int32) → (Nat → Int32) → Prop} {x : Int32} {n : Nat} (V : es_V x n 5)
    (hj : ∀ a' y, a' = upd a3 x.toNatClampNeg (a3 x.toNatClampNeg) → es_V y (n + 1) 6 → J y a1 a2 a' a4 a5 a6 a7 a8 a9 a10 a11 a12 a13 a14 a15 a16 a17) : wX_giveUp_50 post J x 1 f1 f2 f3 f4 a1 a2 a3 a4 a5 a6 a7 a8 a9 a10 a11 a12 a13 a14 a15 a16 a17 :=
  br_f (by decide) ⟨es_in V V.2, es_in V V.2, fun b e y ey => hj b y e (es_vq ey (es_v1 V))⟩
theorem es_gus {post : St2 → Prop} {k : Nat → Bool} {f : Nat} (R : es_R g key s f1 f2 f3 f4 a1 a2 a3 a4 a5 a6 a7 a8 a9 a10 a11 a12 a13 a14 a15 a16 a17 N L Q M) {x : Int32} {n : Nat} (V : es_V x n 5) (h : es_g1 k N L n = true) (hn : ∀ y a' N', es_V y (n + 1) 6 → es_R g key s f1 f2 f3 f4 a1 a2 a' a4 a5 a6 a7 a8 a9 a10 a11 a12 a13 a14 a15 a16 a17 N' L Q M → k N' = true → wX_giveUp_2 post f1 f2 f3 f4 f y a1 a2 a' a4 a5 a6 a7 a8 a9 a10 a11 a12 a13 a14 a15 a16 a17) : wX_giveUp_2 post f1 f2 f3 f4 (f + 1) x a1 a2 a3 a4 a5 a6 a7 a8 a9 a10 a11 a12 a13 a14 a15 a16 a17 := by
  refine es_leF (es_vl 5 5) V V.2 ?_
  rcases es_ceq h with ⟨hz, h⟩ | ⟨hz, h⟩
  · have h1 := es_gle h
    have h2 := es_gle h1.2
    have r0 : a3 x.toNatClampNeg = 0 := (es_r3 R V).1.trans (by rw [hz]; rfl)
    have n0 : ∀ a' y, a' = upd a3 x.toNatClampNeg 0 → es_V y (n + 1) 6 → wX_giveUp_2 post f1 f2 f3 f4 f y a1 a2 a' a4 a5 a6 a7 a8 a9 a10 a11 a12 a13 a14 a15 a16 a17 := fun a' y e W => hn y a' N W (es_t3k R V r0.symm e) h2.2
    have n1 : ∀ a' y, a' = upd a3 x.toNatClampNeg (a3 x.toNatClampNeg) → es_V y (n + 1) 6 → wX_giveUp_2 post f1 f2 f3 f4 f y a1 a2 a' a4 a5 a6 a7 a8 a9 a10 a11 a12 a13 a14 a15 a16 a17 := fun a' y e W => hn y a' N W (es_t3k R V rfl e) h2.2
    exact es_w_mem R V h1.1 h2.1 (fun r => es_s_reachedBy R V (fun r' _ => ⟨es_in V V.2, br_c (fun _ => es_g50 V n0) (fun _ => br_c (fun _ => es_w_isMost (br_f (by decide) (es_g51 V n1)) (br_t rfl (es_g50 V n0))) (fun _ => es_g50 V n0))⟩))
  · refine es_s_mem R V h (fun r all Wr h => es_s_reachedBy R V (fun r' W' => ⟨es_in V V.2, ?_⟩))
    have n0 : es_gz k N n = true → ∀ a' y, a' = upd a3 x.toNatClampNeg 0 → es_V y (n + 1) 6 → wX_giveUp_2 post f1 f2 f3 f4 f y a1 a2 a' a4 a5 a6 a7 a8 a9 a10 a11 a12 a13 a14 a15 a16 a17 := fun h a' y e W => hn y a' _ W (es_t3 R V (es_vl 0 0) (by decide) e) (es_fe h)
    exact es_eq (es_r1 R V) (es_vl 0 0) h (fun _ h => es_g50 V (n0 h)) (fun _ h => es_eq (es_vbit Wr V) (es_vl 1 1) h (fun _ h => es_s_isMost W' Wr (es_fe h) (fun h => br_f (by decide) (es_g51 V (fun a' y e W => hn y a' N W (es_t3k R V rfl e) h))) (fun h => br_t rfl (es_g50 V (n0 h)))) (fun _ h => es_g50 V (n0 h)))
theorem es_s_giveUp {post : St2 → Prop} {k : Nat → Bool} (R : es_R g key s f1 f2 f3 f4 a1 a2 a3 a4 a5 a6 a7 a8 a9 a10 a11 a12 a13 a14 a15 a16 a17 N L Q M) (h : es_gu k N L = true) (hk : ∀ f1 f2 f3 f4 a1 a2 a3 a4 a5 a6 a7 a8 a9 a10 a11 a12 a13 a14 a15 a16 a17 N, es_R g key s f1 f2 f3 f4 a1 a2 a3 a4 a5 a6 a7 a8 a9 a10 a11 a12 a13 a14 a15 a16 a17 N L Q M → k N = true → post (f1, f2, f3, f4, a1, a2, a3, a4, a5, a6, a7, a8, a9, a10, a11, a12, a13, a14, a15, a16, a17)) : wpX_giveUp post (f1, f2, f3, f4, a1, a2, a3, a4, a5, a6, a7, a8, a9, a10, a11, a12, a13, a14, a15, a16, a17) :=
  ⟨6, es_gus (n := 0) R (es_vw (es_vl 0 0)) h (fun y a3 N W R h => es_gus (n := 1) R (es_vb W (by decide)) h (fun y a3 N W R h => es_gus (n := 2) R (es_vb W (by decide)) h (fun y a3 N W R h => es_gus (n := 3) R (es_vb W (by decide)) h (fun y a3 N W R h => es_gus (n := 4) R (es_vb W (by decide)) h (fun y a3 N W R h => es_leT (es_vl 5 5) W (by decide) (hk _ _ _ _ _ _ _ _ _ _ _ _ _ _ _ _ _ _ _ _ _ _ R h))))))⟩
end
end
section
/-! carryOut, countTo, countMost -/
section
variable {g : Nat → Int32} {key s : Nat} {f1 f2 f3 f4 : Int32} {a1 a2 a3 a4 a5 a6 a7 a8 a9 a10 a11 a12 a13 a14 a15 a16 a17 : Nat → Int32} {N L Q M : Nat}
theorem es_w3a {c0 c1 c2 w m x : Nat} (hw : w < 256) (hm : m < 256) (hx : x < 256) (h1 : c0 ≠ c1) (h2 : c0 ≠ c2) : es_rd (es_wr (es_wr (es_wr N c0 w) c1 m) c2 x) c0 = w := (es_rd_wr_ne hx h2).trans ((es_rd_wr_ne hm h1).trans (es_rd_wr_eq hw))
theorem es_w3b {c0 c1 c2 w m x : Nat} (hm : m < 256) (hx : x < 256) (h2 : c1 ≠ c2) : es_rd (es_wr (es_wr (es_wr N c0 w) c1 m) c2 x) c1 = m := (es_rd_wr_ne hx h2).trans (es_rd_wr_eq hm)
theorem es_w3o {c0 c1 c2 w m x c : Nat} (hw : w < 256) (hm : m < 256) (hx : x < 256) (h0 : c ≠ c0) (h1 : c ≠ c1) (h2 : c ≠ c2) : es_rd (es_wr (es_wr (es_wr N c0 w) c1 m) c2 x) c = es_rd N c := (es_rd_wr_ne hx h2).trans ((es_rd_wr_ne hm h1).trans (es_rd_wr_ne hw h0))
theorem es_t12c (R : es_R g key s f1 f2 f3 f4 a1 a2 a3 a4 a5 a6 a7 a8 a9 a10 a11 a12 a13 a14 a15 a16 a17 N L Q M) {n w m x : Nat} (hn : n < 5) (hw : w < 256) (hm : m < 256) (hx : x < 256) {i1 i2 i3 e1 e2 e3 : Int32} (V1 : es_V i1 (15 * n + key) 75) (V2 : es_V i2 (15 * n + 6 + s) 75) (V3 : es_V i3 (15 * n + 10 + s) 75) (h1 : e1 = g w) (h2 : e2 = g m) (h3 : e3 = g x) {b1 b2 b3 : Nat → Int32} (q1 : b1 = upd a12 i1.toNatClampNeg e1) (q2 : b2 = upd b1 i2.toNatClampNeg e2) (q3 : b3 = upd b2 i3.toNatClampNeg e3) : es_R g key s f1 f2 f3 f4 a1 a2 a3 a4 a5 a6 a7 a8 a9 a10 a11 b3 a13 a14 a15 a16 a17 (es_wr (es_wr (es_wr N (Nat.add 100 (Nat.mul 4 n)) w) (Nat.add 101 (Nat.mul 4 n)) m) (Nat.add 102 (Nat.mul 4 n)) x) L Q M := by
  have hk6 : key < 6 := (es_pE R).2.2.2.1
  have hs4 : s < 4 := (es_pE R).2.2.2.2.1
  refine es_ma12 R (es_F_tr (es_F_tr (es_F_wr hw (show 100 ≤ 100 + 4 * n by omega) (show 100 + 4 * n < 120 by omega)) (es_F_wr hm (show 100 ≤ 101 + 4 * n by omega) (show 101 + 4 * n < 120 by omega))) (es_F_wr hx (show 100 ≤ 102 + 4 * n by omega) (show 102 + 4 * n < 120 by omega))) ?_
  rw [es_clamp V1] at q1
  rw [es_clamp V2] at q2
  rw [es_clamp V3] at q3
  subst q1 q2 q3 h1 h2 h3
  intro n' hn'
  have P := es_pa12 R n' hn'
  by_cases e : n' = n
  · subst e
    refine ⟨?_, ?_, ?_, ?_, ?_⟩
    · rw [pk_un (by omega), pk_un (by omega), pk_us]
      exact congrArg g (es_w3a hw hm hx (show 100 + 4 * n' ≠ 101 + 4 * n' by omega) (show 100 + 4 * n' ≠ 102 + 4 * n' by omega)).symm
    · rw [pk_un (by omega), pk_us]
      exact congrArg g (es_w3b hm hx (show 101 + 4 * n' ≠ 102 + 4 * n' by omega)).symm
    · rw [pk_us]
      exact congrArg g (es_rd_wr_eq hx).symm
    · rw [pk_un (by omega), pk_un (by omega), pk_un (by omega)]
      exact P.2.2.2.1.trans (congrArg nI (es_w3o hw hm hx (show 103 + 4 * n' ≠ 100 + 4 * n' by omega) (show 103 + 4 * n' ≠ 101 + 4 * n' by omega) (show 103 + 4 * n' ≠ 102 + 4 * n' by omega)).symm)
    · intro j h0 h1 h2 h3
      rw [pk_un (by omega), pk_un (by omega), pk_un (by omega)]
      exact P.2.2.2.2 j h0 h1 h2 h3
  · refine ⟨?_, ?_, ?_, ?_, ?_⟩
    · rw [pk_un (by omega), pk_un (by omega), pk_un (by omega)]
      exact P.1.trans (congrArg g (es_w3o hw hm hx (show 100 + 4 * n' ≠ 100 + 4 * n by omega) (show 100 + 4 * n' ≠ 101 + 4 * n by omega) (show 100 + 4 * n' ≠ 102 + 4 * n by omega)).symm)
    · rw [pk_un (by omega), pk_un (by omega), pk_un (by omega)]
      exact P.2.1.trans (congrArg g (es_w3o hw hm hx (show 101 + 4 * n' ≠ 100 + 4 * n by omega) (show 101 + 4 * n' ≠ 101 + 4 * n by omega) (show 101 + 4 * n' ≠ 102 + 4 * n by omega)).symm)
    · rw [pk_un (by omega), pk_un (by omega), pk_un (by omega)]
      exact P.2.2.1.trans (congrArg g (es_w3o hw hm hx (show 102 + 4 * n' ≠ 100 + 4 * n by omega) (show 102 + 4 * n' ≠ 101 + 4 * n by omega) (show 102 + 4 * n' ≠ 102 + 4 * n by omega)).symm)
    · rw [pk_un (by omega), pk_un (by omega), pk_un (by omega)]
      exact P.2.2.2.1.trans (congrArg nI (es_w3o hw hm hx (show 103 + 4 * n' ≠ 100 + 4 * n by omega) (show 103 + 4 * n' ≠ 101 + 4 * n by omega) (show 103 + 4 * n' ≠ 102 + 4 * n by omega)).symm)
    · intro j h0 h1 h2 h3
      rw [pk_un (by omega), pk_un (by omega), pk_un (by omega)]
      exact P.2.2.2.2 j h0 h1 h2 h3
theorem es_t12m (R : es_R g key s f1 f2 f3 f4 a1 a2 a3 a4 a5 a6 a7 a8 a9 a10 a11 a12 a13 a14 a15 a16 a17 N L Q M) {n v B : Nat} {i e : Int32} (hn : n < 5) (Vi : es_V i (15 * n + 14) 75) (Ve : es_V e v B) (hv : v < 256) {b : Nat → Int32} (q : b = upd a12 i.toNatClampNeg e) : es_R g key s f1 f2 f3 f4 a1 a2 a3 a4 a5 a6 a7 a8 a9 a10 a11 b a13 a14 a15 a16 a17 (es_wr N (Nat.add 103 (Nat.mul 4 n)) v) L Q M := by
  have hk6 : key < 6 := (es_pE R).2.2.2.1
  have hs4 : s < 4 := (es_pE R).2.2.2.2.1
  refine es_ma12 R (es_F_wr hv (show 100 ≤ 103 + 4 * n by omega) (show 103 + 4 * n < 120 by omega)) ?_
  rw [es_clamp Vi, Ve.1] at q
  subst q
  intro n' hn'
  have P := es_pa12 R n' hn'
  refine ⟨?_, ?_, ?_, ?_, ?_⟩
  · rw [pk_un (by omega)]
    exact P.1.trans (congrArg g (es_rd_wr_ne hv (show 100 + 4 * n' ≠ 103 + 4 * n by omega)).symm)
  · rw [pk_un (by omega)]
    exact P.2.1.trans (congrArg g (es_rd_wr_ne hv (show 101 + 4 * n' ≠ 103 + 4 * n by omega)).symm)
  · rw [pk_un (by omega)]
    exact P.2.2.1.trans (congrArg g (es_rd_wr_ne hv (show 102 + 4 * n' ≠ 103 + 4 * n by omega)).symm)
  · by_cases e : n' = n
    · subst e
      rw [pk_us]
      exact congrArg nI (es_rd_wr_eq hv).symm
    · rw [pk_un (by omega)]
      exact P.2.2.2.1.trans (congrArg nI (es_rd_wr_ne hv (show 103 + 4 * n' ≠ 103 + 4 * n by omega)).symm)
  · intro j h0 h1 h2 h3
    rw [pk_un (by omega)]
    exact P.2.2.2.2 j h0 h1 h2 h3
theorem es_s_co25 {post : St2 → Prop} {k : Nat → Bool} (R : es_R g key s f1 f2 f3 f4 a1 a2 a3 a4 a5 a6 a7 a8 a9 a10 a11 a12 a13 a14 a15 a16 a17 N L Q M) {x2 x3 x4 : Int32} {n c d : Nat} (hn : n < 5) (V2 : es_V x2 c 560) (hc : c + 6 < 560) (V3 : es_V x3 d 128) (V4 : es_V x4 (15 * n) 80) (hd : (d = 4 ∧ es_mj k N L n c Nat.lor = true) ∨ (d = 5 ∧ es_mj k N L n c (fun v w => Nat.xor v (Nat.land v w)) = true)) (hk : ∀ f1 f2 f3 f4 a1 a2 a3 a4 a5 a6 a7 a8 a9 a10 a11 a12 a13 a14 a15 a16 a17 N, es_R g key s f1 f2 f3 f4 a1 a2 a3 a4 a5 a6 a7 a8 a9 a10 a11 a12 a13 a14 a15 a16 a17 N L Q M → k N = true → post (f1, f2, f3, f4, a1, a2, a3, a4, a5, a6, a7, a8, a9, a10, a11, a12, a13, a14, a15, a16, a17)) : wX_carryOut_25 post x2 x3 x4 f1 f2 f3 f4 a1 a2 a3 a4 a5 a6 a7 a8 a9 a10 a11 a12 a13 a14 a15 a16 a17 := by
  have Vx : es_V (x4 + 14) (15 * n + 14) 75 := es_vb (es_va V4 (es_vl 14 14)) (by omega)
  refine ⟨es_in (es_c3 V2 hc) (es_c3 V2 hc).2, fun x5 e5 => ?_⟩
  have G : ∀ fn, es_mj k N L n c fn = true → es_V x5 (Nat.shiftLeft 1 (es_rd L (c + 3))) 32 ∧ es_V (a12 (x4 + 14).toNatClampNeg) (es_rd N (Nat.add 103 (Nat.mul 4 n))) 32 ∧ k (es_wr N (Nat.add 103 (Nat.mul 4 n)) (fn (es_rd N (Nat.add 103 (Nat.mul 4 n))) (Nat.shiftLeft 1 (es_rd L (c + 3))))) = true := by
    intro fn h
    have h1 := es_gle (es_fe h :)
    have h2 := es_gle (es_fe h1.2 :)
    have q4 : es_rd L (c + 3) ≤ 4 := h1.1
    exact ⟨es_vq e5 (es_vsh (es_vb (es_rg R (es_c3 V2 hc) rfl (by omega)) (by omega))), ⟨by rw [es_clamp Vx]; exact (es_pa12 R n hn).2.2.2.1, Nat.lt_succ_of_le h2.1⟩, es_fe h2.2⟩
  rcases hd with ⟨hd, h⟩ | ⟨hd, h⟩
  · have q := G _ h
    exact es_eqT V3 (es_vl 4 4) hd ⟨es_in Vx Vx.2, es_in Vx Vx.2, fun b e => hk _ _ _ _ _ _ _ _ _ _ _ _ _ _ _ _ _ _ _ _ _ _ (es_t12m R hn Vx (es_vor q.2.1 q.1) (Nat.lt_of_lt_of_le (es_vor q.2.1 q.1).2 (by decide)) e) q.2.2⟩
  · have q := G _ h
    exact es_eqF V3 (es_vl 4 4) (by omega) ⟨es_in Vx Vx.2, es_in Vx Vx.2, fun b e => hk _ _ _ _ _ _ _ _ _ _ _ _ _ _ _ _ _ _ _ _ _ _ (es_t12m R hn Vx (es_vcl q.2.1 q.1) (Nat.lt_of_lt_of_le (es_vcl q.2.1 q.1).2 (by decide)) e) q.2.2⟩
theorem es_s_carryOut {post : St2 → Prop} {k : Nat → Bool} (R : es_R g key s f1 f2 f3 f4 a1 a2 a3 a4 a5 a6 a7 a8 a9 a10 a11 a12 a13 a14 a15 a16 a17 N L Q M) {p0 p1 : Int32} {n c : Nat} (V0 : es_V p0 n 5) (V1 : es_V p1 c 560) (hc : c + 6 < 560) (h : es_co k N L n c = true) (hk : ∀ f1 f2 f3 f4 a1 a2 a3 a4 a5 a6 a7 a8 a9 a10 a11 a12 a13 a14 a15 a16 a17 N, es_R g key s f1 f2 f3 f4 a1 a2 a3 a4 a5 a6 a7 a8 a9 a10 a11 a12 a13 a14 a15 a16 a17 N L Q M → k N = true → post (f1, f2, f3, f4, a1, a2, a3, a4, a5, a6, a7, a8, a9, a10, a11, a12, a13, a14, a15, a16, a17)) : wpX_carryOut post (f1, f2, f3, f4, a1, a2, a3, a4, a5, a6, a7, a8, a9, a10, a11, a12, a13, a14, a15, a16, a17) p0 p1 := by
  have hn := V0.2
  have h1 := es_fe h
  refine ⟨es_in (es_c1 V1 hc) (es_c1 V1 hc).2, fun x3 e3 x4 e4 => ?_⟩
  have V4 : es_V x4 (15 * n) 80 := es_vq e4 (es_vm (es_vl 15 15) V0)
  have V3 : ∀ d, es_rd L (c + 1) = d → d < 128 → es_V x3 d 128 := fun d hd h => es_vq e3 (es_rg R (es_c1 V1 hc) hd h)
  rcases es_ceq h1 with ⟨d, h⟩ | ⟨_, h⟩
  · have W := V3 3 d (by decide)
    exact es_eqF W (es_vl 4 4) (by decide) (es_eqF W (es_vl 5 5) (by decide) (es_eqT W (es_vl 3 3) rfl (hk _ _ _ _ _ _ _ _ _ _ _ _ _ _ _ _ _ _ _ _ _ _ R h)))
  rcases es_ceq h with ⟨d, h⟩ | ⟨_, h⟩
  · have W := V3 1 d (by decide)
    refine es_eqF W (es_vl 4 4) (by decide) (es_eqF W (es_vl 5 5) (by decide) (es_eqF W (es_vl 3 3) (by decide) ⟨es_in (es_c2 V1 hc) (es_c2 V1 hc).2, fun x5 e5 => ⟨es_in (es_c3 V1 hc) (es_c3 V1 hc).2, fun x6 e6 => ?_⟩⟩))
    have q1 := es_geq h
    have q2 := es_geq q1.2
    have q3 := es_fe2 q2.2
    have q4 := es_gle q3
    have hk6 : key < 6 := (es_pE R).2.2.2.1
    have hs4 : s < 4 := (es_pE R).2.2.2.2.1
    have c2 : es_rd L (c + 2) = 133 := q1.1
    have c3 : es_rd L (c + 3) = 132 := q2.1
    have V5 : es_V x5 s 4 := ⟨e5.trans ((es_r10 R (es_c2 V1 hc)).trans (by rw [c2]; exact (es_pE R).2.2.1)), hs4⟩
    have Vk : es_V (a10 (p1 + 3).toNatClampNeg) key 6 := ⟨(es_r10 R (es_c3 V1 hc)).trans (by rw [c3]; exact (es_pE R).2.1), hk6⟩
    have V6 : es_V x6 (15 * n + key) 75 := es_vb (es_vq e6 (es_va V4 Vk)) (by omega)
    refine ⟨es_in V6 V6.2, fun x7 e7 => ⟨es_in (es_c5 V1 hc) (es_c5 V1 hc).2, fun x8 e8 => ?_⟩⟩
    have g7 : x7 = g (es_rd N (100 + 4 * n)) := e7.trans (by rw [es_clamp V6]; exact (es_pa12 R n hn).1)
    have g8 : x8 = g (es_rd L (c + 5)) := e8.trans (es_r10 R (es_c5 V1 hc))
    have Vs : es_V ((x4 + 6) + x5) (15 * n + 6 + s) 75 := es_vb (es_va (es_va V4 (es_vl 6 6)) V5) (by omega)
    have Vt : es_V ((x4 + 10) + x5) (15 * n + 10 + s) 75 := es_vb (es_va (es_va V4 (es_vl 10 10)) V5) (by omega)
    have l131 : es_ad (es_rd N (100 + 4 * n)) (es_rd L (c + 5)) ≤ 131 := q4.1
    refine es_eqF W (es_vl 0 0) (by decide) (es_eqT W (es_vl 1 1) rfl ⟨es_in V6 V6.2, fun b1 i1 => ⟨es_in (es_c4 V1 hc) (es_c4 V1 hc).2, es_in Vs Vs.2, fun b2 i2 => ⟨es_in Vt Vt.2, fun b3 i3 => ?_⟩⟩⟩)
    exact hk _ _ _ _ _ _ _ _ _ _ _ _ _ _ _ _ _ _ _ _ _ _ (es_t12c R hn (Nat.lt_of_le_of_lt l131 (by decide)) (es_rd_lt _ _) (es_rd_lt _ _) V6 Vs Vt (by rw [g7, g8]; exact (es_pE R).2.2.2.2.2 _ _ (es_rd_lt _ _) (es_rd_lt _ _) l131) (es_r10 R (es_c4 V1 hc)) g7 i1 i2 i3) (es_fe q4.2 :)
  rcases es_ceq h with ⟨d, h⟩ | ⟨_, h⟩
  · have W := V3 4 d (by decide)
    exact es_eqT W (es_vl 4 4) rfl (es_s_co25 R hn V1 hc W V4 (Or.inl ⟨rfl, h⟩) hk)
  · have h5 := es_geq h
    have W := V3 5 h5.1 (by decide)
    exact es_eqF W (es_vl 4 4) (by decide) (es_eqT W (es_vl 5 5) rfl (es_s_co25 R hn V1 hc W V4 (Or.inr ⟨rfl, h5.2⟩) hk))
theorem es_s_ct {post : St2 → Prop} {k : Nat → Bool} {x1 x2 : Int32} {n x : Nat} (V1 : es_V x1 n 5) (V2 : es_V x2 x 1024) (hk : ∀ f1 f2 f3 f4 a1 a2 a3 a4 a5 a6 a7 a8 a9 a10 a11 a12 a13 a14 a15 a16 a17 N, es_R g key s f1 f2 f3 f4 a1 a2 a3 a4 a5 a6 a7 a8 a9 a10 a11 a12 a13 a14 a15 a16 a17 N L Q M → k N = true → post (f1, f2, f3, f4, a1, a2, a3, a4, a5, a6, a7, a8, a9, a10, a11, a12, a13, a14, a15, a16, a17)) : ∀ (f : Nat) (f1 f2 f3 f4 : Int32) (a1 a2 a3 a4 a5 a6 a7 a8 a9 a10 a11 a12 a13 a14 a15 a16 a17 : Nat → Int32) (N : Nat), es_R g key s f1 f2 f3 f4 a1 a2 a3 a4 a5 a6 a7 a8 a9 a10 a11 a12 a13 a14 a15 a16 a17 N L Q M → es_ct k L n x f N = true → wX_countTo_0 post x1 x2 f f1 f2 f3 f4 a1 a2 a3 a4 a5 a6 a7 a8 a9 a10 a11 a12 a13 a14 a15 a16 a17 := by
  intro f
  induction f with
  | zero => intro f1 f2 f3 f4 a1 a2 a3 a4 a5 a6 a7 a8 a9 a10 a11 a12 a13 a14 a15 a16 a17 N R h; exact es_ff h
  | succ f ih =>
    intro f1 f2 f3 f4 a1 a2 a3 a4 a5 a6 a7 a8 a9 a10 a11 a12 a13 a14 a15 a16 a17 N R h
    have h0 : es_ctb k (es_ct k L n x f) L n x N = true := h
    have h1 := es_fe h0
    refine ⟨es_in V1 V1.2, es_le V2 (es_r11 R V1) h1 (fun _ h => hk _ _ _ _ _ _ _ _ _ _ _ _ _ _ _ _ _ _ _ _ _ _ R h) (fun hx h => ⟨es_in V1 V1.2, es_s_lastOf R V1 (fun r Wr => es_le Wr (es_r11 R V1) h (fun _ h => hk _ _ _ _ _ _ _ _ _ _ _ _ _ _ _ _ _ _ _ _ _ _ R h) (fun hl h => ?_))⟩)⟩
    have h2 := es_gle h
    have hv : es_rd N (45 + n) + 1 < 256 := by
      have : es_rd N (45 + n) ≤ 126 := h2.1
      omega
    refine ⟨es_in V1 V1.2, es_in V1 V1.2, fun b e => ⟨es_in V1 V1.2, ?_⟩⟩
    have R' := es_t11 R V1 (es_v1 (es_r11 R V1)) hv e
    exact es_s_cellOf R' V1 (es_vw (es_vr (es_r11 R' V1) (es_rd_wr_eq hv))) (es_fe h2.2 :) (fun r c Wr hc h => es_s_carryOut R' V1 Wr hc h (fun f1 f2 f3 f4 a1 a2 a3 a4 a5 a6 a7 a8 a9 a10 a11 a12 a13 a14 a15 a16 a17 N R h => ih f1 f2 f3 f4 a1 a2 a3 a4 a5 a6 a7 a8 a9 a10 a11 a12 a13 a14 a15 a16 a17 N R h))
theorem es_s_countTo {post : St2 → Prop} {k : Nat → Bool} (R : es_R g key s f1 f2 f3 f4 a1 a2 a3 a4 a5 a6 a7 a8 a9 a10 a11 a12 a13 a14 a15 a16 a17 N L Q M) {p0 p1 : Int32} {n x : Nat} (V0 : es_V p0 n 5) (V1 : es_V p1 x 1024) (h : es_ct k L n x 20 N = true) (hk : ∀ f1 f2 f3 f4 a1 a2 a3 a4 a5 a6 a7 a8 a9 a10 a11 a12 a13 a14 a15 a16 a17 N, es_R g key s f1 f2 f3 f4 a1 a2 a3 a4 a5 a6 a7 a8 a9 a10 a11 a12 a13 a14 a15 a16 a17 N L Q M → k N = true → post (f1, f2, f3, f4, a1, a2, a3, a4, a5, a6, a7, a8, a9, a10, a11, a12, a13, a14, a15, a16, a17)) : wpX_countTo post (f1, f2, f3, f4, a1, a2, a3, a4, a5, a6, a7, a8, a9, a10, a11, a12, a13, a14, a15, a16, a17) p0 p1 := ⟨20, es_s_ct V0 V1 hk 20 f1 f2 f3 f4 a1 a2 a3 a4 a5 a6 a7 a8 a9 a10 a11 a12 a13 a14 a15 a16 a17 N R h⟩
theorem es_28s {post : St2 → Prop} {J : Int32 → Int32 → Int32 → Int32 → Int32 → (Nat → Int32) → (Nat → Int32) → (Nat → Int32) → (Nat → Int32) → (Nat → Int32) → (Nat → Int32) → (Nat → Int32) → (Nat → Int32) → (Nat → Int32) → (Nat → Int32) → (Nat → Int32) → (Nat → Int32) → (Nat → Int32) → (Nat → Int32) → (Nat → Int32) → (Nat → Int32) → (Nat → Int32) → Prop} (R : es_R g key s f1 f2 f3 f4 a1 a2 a3 a4 a5 a6 a7 a8 a9 a10 a11 a12 a13 a14 a15 a16 a17 N L Q M) {x1 x2 x3 x4 x5 : Int32} {n i v o f : Nat} (V1 : es_V x1 n 5) (V3 : es_V x3 i 1024) (V4 : es_V x4 v 32) (V5 : es_V x5 o 5)
    (hn : ∀ y4 y5, es_V y4 (Nat.lor v (es_n (Nat.ble i (es_rd N (Nat.add 75 (Nat.add (Nat.mul 5 n) o)))) (Nat.shiftLeft 1 o))) 32 → es_V y5 (o + 1) 6 → wX_countMost_28 post J x1 x2 x3 f1 f2 f3 f4 a1 a2 a3 a4 a5 a6 a7 a8 a9 a10 a11 a12 a13 a14 a15 a16 a17 f y4 y5) : wX_countMost_28 post J x1 x2 x3 f1 f2 f3 f4 a1 a2 a3 a4 a5 a6 a7 a8 a9 a10 a11 a12 a13 a14 a15 a16 a17 (f + 1) x4 x5 := by
  have hn5 := V1.2
  have ho := V5.2
  have Vi : es_V ((5 * x1) + x5) (5 * n + o) 25 := es_vb (es_va (es_vm (es_vl 5 5) V1) V5) (by omega)
  refine es_leF (es_vl 5 5) V5 V5.2 ⟨es_in Vi Vi.2, ?_⟩
  cases j : Nat.ble i (es_rd N (Nat.add 75 (Nat.add (Nat.mul 5 n) o))) with
  | false =>
    rw [j] at hn
    exact es_ltT (es_r15 R Vi) V3 (es_bleF j) (fun y4 e4 y5 e5 => hn _ _ (es_vq e4 (es_vor V4 (es_vw (es_vl 0 0)))) (es_vq e5 (es_v1 V5)))
  | true =>
    rw [j] at hn
    exact es_ltF (es_r15 R Vi) V3 (es_bleT j) (fun y4 e4 y5 e5 => hn _ _ (es_vq e4 (es_vor V4 (es_vsh V5))) (es_vq e5 (es_v1 V5)))
theorem es_s_cl {post : St2 → Prop} {k : Nat → Bool} {x1 x2 : Int32} {n all : Nat} (V1 : es_V x1 n 5) (V2 : es_V x2 all 32) (hk : ∀ f1 f2 f3 f4 a1 a2 a3 a4 a5 a6 a7 a8 a9 a10 a11 a12 a13 a14 a15 a16 a17 N, es_R g key s f1 f2 f3 f4 a1 a2 a3 a4 a5 a6 a7 a8 a9 a10 a11 a12 a13 a14 a15 a16 a17 N L Q M → k N = true → post (f1, f2, f3, f4, a1, a2, a3, a4, a5, a6, a7, a8, a9, a10, a11, a12, a13, a14, a15, a16, a17)) : ∀ (f : Nat) (x3 : Int32) (i : Nat) (f1 f2 f3 f4 : Int32) (a1 a2 a3 a4 a5 a6 a7 a8 a9 a10 a11 a12 a13 a14 a15 a16 a17 : Nat → Int32) (N : Nat), es_V x3 i 1024 → es_R g key s f1 f2 f3 f4 a1 a2 a3 a4 a5 a6 a7 a8 a9 a10 a11 a12 a13 a14 a15 a16 a17 N L Q M → es_cl k L n all f N i = true → wX_countMost_12 post x1 x2 f x3 f1 f2 f3 f4 a1 a2 a3 a4 a5 a6 a7 a8 a9 a10 a11 a12 a13 a14 a15 a16 a17 := by
  intro f
  induction f with
  | zero => intro x3 i f1 f2 f3 f4 a1 a2 a3 a4 a5 a6 a7 a8 a9 a10 a11 a12 a13 a14 a15 a16 a17 N V3 R h; exact es_ff h
  | succ f ih =>
    intro x3 i f1 f2 f3 f4 a1 a2 a3 a4 a5 a6 a7 a8 a9 a10 a11 a12 a13 a14 a15 a16 a17 N V3 R h
    refine ⟨es_in V1 V1.2, es_le V3 (es_r11 R V1) h (fun _ h => hk _ _ _ _ _ _ _ _ _ _ _ _ _ _ _ _ _ _ _ _ _ _ R h) (fun hi h => ⟨6, ?_⟩)⟩
    have d1 : ∀ y, y = x3 + (-1) → es_V y (i - 1) 1024 := fun y ey => es_vq ey (es_vm1 V3 (by omega))
    refine es_28s (o := 0) R V1 V3 (es_vw (es_vl 0 0)) (es_vw (es_vl 0 0)) (fun y4 y5 W4 W5 => es_28s (o := 1) R V1 V3 W4 (es_vb W5 (by decide)) (fun y4 y5 W4 W5 => es_28s (o := 2) R V1 V3 W4 (es_vb W5 (by decide)) (fun y4 y5 W4 W5 => es_28s (o := 3) R V1 V3 W4 (es_vb W5 (by decide)) (fun y4 y5 W4 W5 => es_28s (o := 4) R V1 V3 W4 (es_vb W5 (by decide)) (fun y4 y5 W4 W5 => es_leT (es_vl 5 5) W5 (by decide) ?_)))))
    exact es_s_termAt R V1 V3 h (fun r t Wr h => ⟨es_in V1 V1.2, es_eq Wr (es_r4 R V1) h
      (fun _ h => es_s_isMost W4 V2 (es_fe h :) (fun h => br_f (by decide) (es_s_countTo R V1 V3 h (fun f1 f2 f3 f4 a1 a2 a3 a4 a5 a6 a7 a8 a9 a10 a11 a12 a13 a14 a15 a16 a17 N R h => fun y ey => ih y _ f1 f2 f3 f4 a1 a2 a3 a4 a5 a6 a7 a8 a9 a10 a11 a12 a13 a14 a15 a16 a17 N (d1 y ey) R (es_fe h :)))) (fun h => br_t rfl (fun y ey => ih y _ f1 f2 f3 f4 a1 a2 a3 a4 a5 a6 a7 a8 a9 a10 a11 a12 a13 a14 a15 a16 a17 N (d1 y ey) R (es_fe h :))))
      (fun _ h => fun y ey => ih y _ f1 f2 f3 f4 a1 a2 a3 a4 a5 a6 a7 a8 a9 a10 a11 a12 a13 a14 a15 a16 a17 N (d1 y ey) R (es_fe h :))⟩)
theorem es_s_countMost {post : St2 → Prop} {k : Nat → Bool} (R : es_R g key s f1 f2 f3 f4 a1 a2 a3 a4 a5 a6 a7 a8 a9 a10 a11 a12 a13 a14 a15 a16 a17 N L Q M) {p0 : Int32} {n : Nat} (V0 : es_V p0 n 5) (h : es_cmo k N L n = true) (hk : ∀ f1 f2 f3 f4 a1 a2 a3 a4 a5 a6 a7 a8 a9 a10 a11 a12 a13 a14 a15 a16 a17 N, es_R g key s f1 f2 f3 f4 a1 a2 a3 a4 a5 a6 a7 a8 a9 a10 a11 a12 a13 a14 a15 a16 a17 N L Q M → k N = true → post (f1, f2, f3, f4, a1, a2, a3, a4, a5, a6, a7, a8, a9, a10, a11, a12, a13, a14, a15, a16, a17)) : wpX_countMost post (f1, f2, f3, f4, a1, a2, a3, a4, a5, a6, a7, a8, a9, a10, a11, a12, a13, a14, a15, a16, a17) p0 := by
  unfold wpX_countMost
  exact es_s_mem R V0 h (fun r all Wr h => es_s_lastOf R V0 (fun r2 W2 => ⟨20, es_s_cl V0 Wr hk 20 _ _ f1 f2 f3 f4 a1 a2 a3 a4 a5 a6 a7 a8 a9 a10 a11 a12 a13 a14 a15 a16 a17 N (es_vw W2) R (es_fe h :)⟩))
end
end
section
/-! post, sendTo, sendAll, hear -/
def es_pk (b0 b1 b2 b3 b4 b5 b6 : Nat) : Nat := Nat.add b0 (Nat.mul 256 (Nat.add b1 (Nat.mul 256 (Nat.add b2 (Nat.mul 256 (Nat.add b3 (Nat.mul 256 (Nat.add b4 (Nat.mul 256 (Nat.add b5 (Nat.mul 256 b6)))))))))))
noncomputable def es_po (k : Nat → Nat → Nat → Bool) (N Q b0 b1 b2 b4 b5 b6 : Nat) : Bool := es_f (es_rd N 121) (fun w => es_i (Nat.ble w 63) (es_f (Nat.mul 16 (Nat.mod (Nat.add (es_rd N 120) w) 64)) (fun p => es_f (es_pk b0 b1 b2 (es_rd N (Nat.add 15 b1)) b4 b5 b6) (fun ch => es_i (Nat.beq (Nat.land ch 9259542123273814144) 0) (es_f (es_wr N 121 (Nat.add w 1)) (fun N' => es_f (es_wc Q p 8 ch) (fun Q' => k p N' Q'))) false))) false)
noncomputable def es_st (k : Nat → Nat → Bool) (N L Q n o : Nat) : Bool := es_f (es_rd N (Nat.add 50 (Nat.add (Nat.mul 5 n) o))) (fun ix => es_i (Nat.ble ix (es_rd N (Nat.add 30 n))) false (es_tm (fun b => es_po (fun p N' Q' => es_i (Nat.ble ix (es_la N' n)) (es_cell (fun c => es_f (es_wc Q' (Nat.add p 7) 8 (Nat.add 1 (Nat.mul 256 (es_ck L c 7)))) (fun Q'' => k N' Q'')) N' n ix) (k N' Q')) N Q 5 n o (Nat.sub ix 1) b (es_rd N (Nat.add 45 n))) N L n (Nat.sub ix 1)))
noncomputable def es_sa1 (k : Nat → Nat → Bool) (L n set o N Q : Nat) : Bool := es_i (Nat.beq o n) (k N Q) (es_i (Nat.beq (Nat.mod (Nat.shiftRight set o) 2) 1) (es_st k N L Q n o) (k N Q))
noncomputable def es_sa (k : Nat → Nat → Bool) (N L Q n : Nat) : Bool := es_mem (fun set => es_sa1 (es_sa1 (es_sa1 (es_sa1 (es_sa1 k L n set 4) L n set 3) L n set 2) L n set 1) L n set 0 N Q) N L n
noncomputable def es_h84 (k : Nat → Nat → Bool) (N L Q n o z : Nat) : Bool := es_i (Nat.ble z 126) (es_f (es_wr (es_wr N (Nat.add 75 (Nat.add (Nat.mul 5 n) o)) z) (Nat.add 50 (Nat.add (Nat.mul 5 n) o)) (Nat.add z 1)) (fun N2 => es_cmo (fun N3 => es_i (Nat.ble (es_rd N3 (Nat.add 50 (Nat.add (Nat.mul 5 n) o))) (es_la N3 n)) (es_st k N3 L Q n o) (k N3 Q)) N2 L n)) false
noncomputable def es_he (k : Nat → Nat → Bool) (N L Q M st o n : Nat) : Bool := es_i (Nat.beq (es_rd N (Nat.add 10 n)) 1) (es_i (Nat.beq st 7) (es_i (Nat.ble (es_rd M 4) 126) (es_f (es_wr N (Nat.add 50 (Nat.add (Nat.mul 5 n) o)) (Nat.add (es_rd M 4) 1)) (fun N' => es_st k N' L Q n o)) false) (es_f (es_rd N (Nat.add 75 (Nat.add (Nat.mul 5 n) o))) (fun z => es_i (Nat.ble (es_rd M 4) z) (es_h84 k N L Q n o z) (es_f (es_rd M 4) (fun z => es_h84 k N L Q n o z))))) (k N Q)
section
variable {g : Nat → Int32} {key s : Nat} {f1 f2 f3 f4 : Int32} {a1 a2 a3 a4 a5 a6 a7 a8 a9 a10 a11 a12 a13 a14 a15 a16 a17 : Nat → Int32} {N L Q M : Nat}
theorem es_rd_hi {v : Nat} (h : v < 256) (i : Nat) : es_rd v (i + 1) = 0 := by
  have e := es_rd_cons (r := 0) h i
  rw [es_rd_0] at e
  exact e
theorem es_pk_b {b0 b1 b2 b3 b4 b5 b6 ch : Nat} (e : ch = es_pk b0 b1 b2 b3 b4 b5 b6) (h0 : b0 < 256) (h1 : b1 < 256) (h2 : b2 < 256) (h3 : b3 < 256) (h4 : b4 < 256) (h5 : b5 < 256) (h6 : b6 < 256) : es_rd ch 0 = b0 ∧ es_rd ch 1 = b1 ∧ es_rd ch 2 = b2 ∧ es_rd ch 3 = b3 ∧ es_rd ch 4 = b4 ∧ es_rd ch 5 = b5 ∧ es_rd ch 6 = b6 ∧ es_rd ch 7 = 0 ∧ ch < 2 ^ (8 * 8) := by
  have q : ch = b0 + 256 * (b1 + 256 * (b2 + 256 * (b3 + 256 * (b4 + 256 * (b5 + 256 * (b6)))))) := e
  subst q
  refine ⟨?_, ?_, ?_, ?_, ?_, ?_, ?_, ?_, ?_⟩
  · exact es_rd_cons0 h0
  · exact (es_rd_cons h0 0).trans (es_rd_cons0 h1)
  · exact (es_rd_cons h0 1).trans ((es_rd_cons h1 0).trans (es_rd_cons0 h2))
  · exact (es_rd_cons h0 2).trans ((es_rd_cons h1 1).trans ((es_rd_cons h2 0).trans (es_rd_cons0 h3)))
  · exact (es_rd_cons h0 3).trans ((es_rd_cons h1 2).trans ((es_rd_cons h2 1).trans ((es_rd_cons h3 0).trans (es_rd_cons0 h4))))
  · exact (es_rd_cons h0 4).trans ((es_rd_cons h1 3).trans ((es_rd_cons h2 2).trans ((es_rd_cons h3 1).trans ((es_rd_cons h4 0).trans (es_rd_cons0 h5)))))
  · exact (es_rd_cons h0 5).trans ((es_rd_cons h1 4).trans ((es_rd_cons h2 3).trans ((es_rd_cons h3 2).trans ((es_rd_cons h4 1).trans ((es_rd_cons h5 0).trans (es_rd_small h6))))))
  · exact (es_rd_cons h0 6).trans ((es_rd_cons h1 5).trans ((es_rd_cons h2 4).trans ((es_rd_cons h3 3).trans ((es_rd_cons h4 2).trans ((es_rd_cons h5 1).trans (es_rd_hi h6 0))))))
  · show b0 + 256 * (b1 + 256 * (b2 + 256 * (b3 + 256 * (b4 + 256 * (b5 + 256 * (b6)))))) < 18446744073709551616
    omega
theorem es_q0 {r : Int32} {p : Nat} (Vr : es_V r p 1024) (hp : p + 16 ≤ 1024) (e : Int32) (k : Nat) (he : e = nI k) (hk : k < 16) : es_V (r + e) (p + k) 1024 := es_vb (es_va Vr (es_vl e k he)) (by omega)
theorem es_s_p36 {post : Int32 → St2 → Prop} (R : es_R g key s f1 f2 f3 f4 a1 a2 a3 a4 a5 a6 a7 a8 a9 a10 a11 a12 a13 a14 a15 a16 a17 N L Q M) {x1 x2 x3 x4 x5 x6 x7 : Int32} {b0 b1 b2 b3 b4 b5 b6 p ch : Nat} (V1 : es_V x1 b0 256) (V2 : es_V x2 b1 5) (V3 : es_V x3 b2 5) (V3' : es_V (a4 x2.toNatClampNeg) b3 256) (V4 : es_V x4 b4 256) (V5 : es_V x5 b5 256) (V6 : es_V x6 b6 256) (V7 : es_V x7 p 1024) (hp : p + 16 ≤ 1024) (hch : ch = es_pk b0 b1 b2 b3 b4 b5 b6) (hl : Nat.beq (Nat.land ch 9259542123273814144) 0 = true)
    (hk : ∀ a', es_R g key s f1 f2 f3 f4 a1 a2 a3 a4 a5 a6 a7 a8 a9 a10 a11 a12 a13 a14 a15 a' a17 N L (es_wc Q p 8 ch) M → post x7 (f1, f2, f3, f4, a1, a2, a3, a4, a5, a6, a7, a8, a9, a10, a11, a12, a13, a14, a15, a', a17)) : wX_post_36 post x1 x2 x3 x4 x5 x6 x7 f1 f2 f3 f4 a1 a2 a3 a4 a5 a6 a7 a8 a9 a10 a11 a12 a13 a14 a15 a16 a17 := by
  have hb1 := V2.2
  have hb2 := V3.2
  have B := es_pk_b hch V1.2 (by omega) (by omega) V3'.2 V4.2 V5.2 V6.2
  have G : ∀ j, j < 8 → g (es_rd ch j) = nI (es_rd ch j) := fun j hj => (es_pE R).1 _ (es_low hl j hj)
  have W1 := es_q0 V7 hp 1 1 rfl (by decide)
  have W2 := es_q0 V7 hp 2 2 rfl (by decide)
  have W3 := es_q0 V7 hp 3 3 rfl (by decide)
  have W4 := es_q0 V7 hp 4 4 rfl (by decide)
  have W5 := es_q0 V7 hp 5 5 rfl (by decide)
  have W6 := es_q0 V7 hp 6 6 rfl (by decide)
  have W7 := es_q0 V7 hp 7 7 rfl (by decide)
  refine ⟨es_in V7 V7.2, fun c1 e1 => ⟨es_in W1 W1.2, fun c2 e2 => ⟨es_in W2 W2.2, fun c3 e3 => ⟨es_in V2 V2.2, es_in W3 W3.2, fun c4 e4 => ⟨es_in W4 W4.2, fun c5 e5 => ⟨es_in W5 W5.2, fun c6 e6 => ⟨es_in W6 W6.2, fun c7 e7 => ⟨es_in W7 W7.2, fun c8 e8 => hk c8 (es_ma16 R (es_Gc (es_pa16 R) B.2.2.2.2.2.2.2.2 ?_ ?_))⟩⟩⟩⟩⟩⟩⟩⟩
  all_goals
    rw [es_clamp V7] at e1
    rw [es_clamp W1] at e2
    rw [es_clamp W2] at e3
    rw [es_clamp W3] at e4
    rw [es_clamp W4] at e5
    rw [es_clamp W5] at e6
    rw [es_clamp W6] at e7
    rw [es_clamp W7] at e8
    subst e1 e2 e3 e4 e5 e6 e7 e8
  · intro k hk
    have K : k = 0 ∨ k = 1 ∨ k = 2 ∨ k = 3 ∨ k = 4 ∨ k = 5 ∨ k = 6 ∨ k = 7 := by omega
    rcases K with q | q | q | q | q | q | q | q <;> subst q
    · rw [pk_un (by omega), pk_un (by omega), pk_un (by omega), pk_un (by omega), pk_un (by omega), pk_un (by omega), pk_un (by omega), show p + 0 = p from rfl, pk_us, G 0 (by decide), B.1]
      exact V1.1
    · rw [pk_un (by omega), pk_un (by omega), pk_un (by omega), pk_un (by omega), pk_un (by omega), pk_un (by omega), pk_us, G 1 (by decide), B.2.1]
      exact V2.1
    · rw [pk_un (by omega), pk_un (by omega), pk_un (by omega), pk_un (by omega), pk_un (by omega), pk_us, G 2 (by decide), B.2.2.1]
      exact V3.1
    · rw [pk_un (by omega), pk_un (by omega), pk_un (by omega), pk_un (by omega), pk_us, G 3 (by decide), B.2.2.2.1]
      exact V3'.1
    · rw [pk_un (by omega), pk_un (by omega), pk_un (by omega), pk_us, G 4 (by decide), B.2.2.2.2.1]
      exact V4.1
    · rw [pk_un (by omega), pk_un (by omega), pk_us, G 5 (by decide), B.2.2.2.2.2.1]
      exact V5.1
    · rw [pk_un (by omega), pk_us, G 6 (by decide), B.2.2.2.2.2.2.1]
      exact V6.1
    · rw [pk_us, G 7 (by decide), B.2.2.2.2.2.2.2.1]
      exact rfl
  · intro j hj ho
    rw [pk_un (by omega), pk_un (by omega), pk_un (by omega), pk_un (by omega), pk_un (by omega), pk_un (by omega), pk_un (by omega), pk_un (by omega)]
theorem es_s_post {post : Int32 → St2 → Prop} {k : Nat → Nat → Nat → Bool} (R : es_R g key s f1 f2 f3 f4 a1 a2 a3 a4 a5 a6 a7 a8 a9 a10 a11 a12 a13 a14 a15 a16 a17 N L Q M) {p0 p1 p2 p3 p4 p5 : Int32} {b0 b1 b2 b4 b5 b6 : Nat} (V0 : es_V p0 b0 256) (V1 : es_V p1 b1 5) (V2 : es_V p2 b2 5) (V3 : es_V p3 b4 256) (V4 : es_V p4 b5 256) (V5 : es_V p5 b6 256) (h : es_po k N Q b0 b1 b2 b4 b5 b6 = true)
    (hk : ∀ r p f1 f2 f3 f4 a1 a2 a3 a4 a5 a6 a7 a8 a9 a10 a11 a12 a13 a14 a15 a16 a17 N Q, es_V r p 1024 → p + 16 ≤ 1024 → es_R g key s f1 f2 f3 f4 a1 a2 a3 a4 a5 a6 a7 a8 a9 a10 a11 a12 a13 a14 a15 a16 a17 N L Q M → k p N Q = true → post r (f1, f2, f3, f4, a1, a2, a3, a4, a5, a6, a7, a8, a9, a10, a11, a12, a13, a14, a15, a16, a17)) : wpX_post post (f1, f2, f3, f4, a1, a2, a3, a4, a5, a6, a7, a8, a9, a10, a11, a12, a13, a14, a15, a16, a17) p0 p1 p2 p3 p4 p5 := by
  have h1 := es_gle (es_fe h :)
  have h2 := es_gT (es_fe (es_fe h1.2 :) :)
  have h3 := es_fe (es_fe h2.2 :)
  have hw : es_rd N 121 ≤ 63 := h1.1
  refine ⟨by decide, fun x7 e7 => ?_⟩
  have m64 : (es_rd N 120 + es_rd N 121) % 64 < 64 := Nat.mod_lt _ (by decide)
  have V7 : es_V x7 (16 * ((es_rd N 120 + es_rd N 121) % 64)) 1024 := es_vb (es_vq e7 (es_vm (es_vl 16 16) (es_vrem (es_va (es_rf1 R) (es_rf2 R)) (show (64 : Int32) = nI 64 from rfl) (by decide) (by decide) (by decide)))) (by omega)
  have hv : es_rd N 121 + 1 < 256 := by omega
  refine es_leF (es_vl 64 64) (es_rf2 R) (by omega) (fun f e => ?_)
  have R1 := es_tf2 R (es_vq e (es_v1 (es_rf2 R))) hv
  have hb1 := V1.2
  have V3' := es_vr (es_r4 R1 V1) (es_rd_wr_ne hv (show 15 + b1 ≠ 121 by omega))
  exact es_s_p36 R1 V0 V1 V2 V3' V3 V4 V5 V7 (by omega) rfl h2.1 (fun a' R' => hk _ _ _ _ _ _ _ _ _ _ _ _ _ _ _ _ _ _ _ _ _ _ _ _ _ V7 (by omega) R' h3)
theorem es_s_105 {post : St2 → Prop} {x5 x6 : Int32} {p c : Nat} (V5 : es_V x5 p 1024) (hp : p + 16 ≤ 1024) (V6 : es_V x6 c 560) (hc : c + 6 < 560) (a0 : Nat → Int32) (hk : ∀ a', (∀ j, a' j = if p + 8 ≤ j ∧ j < p + 15 then a10 (c + (j - (p + 8))) else a0 j) → post (f1, f2, f3, f4, a1, a2, a3, a4, a5, a6, a7, a8, a9, a10, a11, a12, a13, a14, a15, a', a17)) :
    ∀ (d i : Nat) (x7 : Int32) (a' : Nat → Int32), i + d = 7 → es_V x7 i 8 → (∀ j, a' j = if p + 8 ≤ j ∧ j < p + 8 + i then a10 (c + (j - (p + 8))) else a0 j) → wX_sendTo_105 post x5 x6 f1 f2 f3 f4 (d + 1) x7 a1 a2 a3 a4 a5 a6 a7 a8 a9 a10 a11 a12 a13 a14 a15 a' a17 := by
  intro d
  induction d with
  | zero =>
    intro i x7 a' hi V7 H
    have e : i = 7 := by omega
    subst e
    exact es_leT (es_vl 7 7) V7 (by decide) (hk a' H)
  | succ d ih =>
    intro i x7 a' hi V7 H
    have Wr : es_V (x6 + x7) (c + i) 560 := es_vb (es_va V6 V7) (by omega)
    have Ww : es_V ((x5 + 8) + x7) (p + 8 + i) 1024 := es_vb (es_va (es_va V5 (es_vl 8 8)) V7) (by omega)
    refine es_leF (es_vl 7 7) V7 (by omega) ⟨es_in Wr Wr.2, es_in Ww Ww.2, fun b e y ey => ih (i + 1) y b (by omega) (es_vb (es_vq ey (es_v1 V7)) (by omega)) (fun j => ?_)⟩
    rw [e, es_clamp Ww, es_clamp Wr]
    by_cases q : j = p + 8 + i
    · rw [q, pk_us, if_pos (by omega), show p + 8 + i - (p + 8) = i by omega]
    · rw [pk_un q, H j]
      by_cases z : p + 8 ≤ j ∧ j < p + 8 + i
      · rw [if_pos z, if_pos (by omega)]
      · rw [if_neg z, if_neg (by omega)]
theorem es_s_sendTo {post : St2 → Prop} {k : Nat → Nat → Bool} (R : es_R g key s f1 f2 f3 f4 a1 a2 a3 a4 a5 a6 a7 a8 a9 a10 a11 a12 a13 a14 a15 a16 a17 N L Q M) {p0 p1 : Int32} {n o : Nat} (V0 : es_V p0 n 5) (V1 : es_V p1 o 5) (h : es_st k N L Q n o = true) (hk : ∀ f1 f2 f3 f4 a1 a2 a3 a4 a5 a6 a7 a8 a9 a10 a11 a12 a13 a14 a15 a16 a17 N Q, es_R g key s f1 f2 f3 f4 a1 a2 a3 a4 a5 a6 a7 a8 a9 a10 a11 a12 a13 a14 a15 a16 a17 N L Q M → k N Q = true → post (f1, f2, f3, f4, a1, a2, a3, a4, a5, a6, a7, a8, a9, a10, a11, a12, a13, a14, a15, a16, a17)) : wpX_sendTo post (f1, f2, f3, f4, a1, a2, a3, a4, a5, a6, a7, a8, a9, a10, a11, a12, a13, a14, a15, a16, a17) p0 p1 := by
  have hn := V0.2
  have ho := V1.2
  have Vi : es_V ((5 * p0) + p1) (5 * n + o) 25 := es_vb (es_va (es_vm (es_vl 5 5) V0) V1) (by omega)
  have h1 := es_ggt (es_fe h :)
  refine ⟨es_in Vi Vi.2, fun x3 e3 => ⟨es_in V0 V0.2, ?_⟩⟩
  have V3 := es_vq e3 (es_r14 R Vi)
  have hix : es_rd N (Nat.add 30 n) < es_rd N (Nat.add 50 (5 * n + o)) := h1.1
  have Vm : es_V (x3 - 1) (es_rd N (Nat.add 50 (5 * n + o)) - 1) 256 := es_vs V3 (es_vl 1 1) (by omega)
  refine es_ltT (es_r7 R V0) V3 hix (es_s_termAt R V0 (es_vw Vm) h1.2 (fun r b Wr h => ⟨es_in V0 V0.2, es_s_post R (es_vw (es_vl 5 5)) V0 V1 Vm Wr (es_r11 R V0) h (fun r7 p f1 f2 f3 f4 a1 a2 a3 a4 a5 a6 a7 a8 a9 a10 a11 a12 a13 a14 a15 a16 a17 N Q W7 hp R h => es_s_lastOf R V0 (fun r63 W63 => es_lt W63 V3 h (fun _ h => hk _ _ _ _ _ _ _ _ _ _ _ _ _ _ _ _ _ _ _ _ _ _ _ R h) (fun _ h => es_s_cellOf R V0 (es_vw V3) h (fun r65 c W65 hc h => ⟨es_in (es_q0 W7 hp 7 7 rfl (by decide)) (es_q0 W7 hp 7 7 rfl (by decide)).2, fun b e => ⟨8, es_s_105 W7 hp W65 hc b (fun a' H => hk _ _ _ _ _ _ _ _ _ _ _ _ _ _ _ _ _ _ _ _ _ _ _ (es_ma16 R (es_Gc (es_pa16 R) (v := 1 + 256 * es_ck L c 7) ?_ ?_ ?_)) (es_fe h :)) 7 0 0 b rfl (es_vw (es_vl 0 0)) (fun j => by rw [if_neg (by omega)])⟩⟩))))⟩))
  · have := es_ck_lt L c 7
    show 1 + 256 * es_ck L c 7 < 18446744073709551616
    have t : es_ck L c 7 < 72057594037927936 := this
    omega
  · intro k hk8
    rw [es_clamp (es_q0 W7 hp 7 7 rfl (by decide))] at e
    have E := (es_pE R).1 1 (by decide)
    show a' (p + 7 + k) = _
    rw [H]
    cases k with
    | zero =>
      rw [if_neg (by omega), e, show p + 7 + 0 = p + 7 from rfl, pk_us, es_rd_cons0 (by decide), E]
      rfl
    | succ k =>
      rw [if_pos (by omega), es_rd_cons (by decide), es_rd_ck (by omega), show p + 7 + (k + 1) - (p + 8) = k by omega]
      exact es_pa10 R (c + k) (by omega)
  · intro j hj hout
    rw [es_clamp (es_q0 W7 hp 7 7 rfl (by decide))] at e
    have hout' : j < p + 7 ∨ p + 7 + 8 ≤ j := hout
    rw [H, if_neg (by omega), e, pk_un (by omega)]
theorem es_sas {post : St2 → Prop} {k : Nat → Nat → Bool} {x1 x2 x3 : Int32} {n set o f : Nat} (V1 : es_V x1 n 5) (V2 : es_V x2 set 32) (V3 : es_V x3 o 5) (R : es_R g key s f1 f2 f3 f4 a1 a2 a3 a4 a5 a6 a7 a8 a9 a10 a11 a12 a13 a14 a15 a16 a17 N L Q M) (h : es_sa1 k L n set o N Q = true) (hn : ∀ y f1 f2 f3 f4 a1 a2 a3 a4 a5 a6 a7 a8 a9 a10 a11 a12 a13 a14 a15 a16 a17 N Q, es_V y (o + 1) 6 → es_R g key s f1 f2 f3 f4 a1 a2 a3 a4 a5 a6 a7 a8 a9 a10 a11 a12 a13 a14 a15 a16 a17 N L Q M → k N Q = true → wX_sendAll_8 post x1 x2 f y f1 f2 f3 f4 a1 a2 a3 a4 a5 a6 a7 a8 a9 a10 a11 a12 a13 a14 a15 a16 a17) : wX_sendAll_8 post x1 x2 (f + 1) x3 f1 f2 f3 f4 a1 a2 a3 a4 a5 a6 a7 a8 a9 a10 a11 a12 a13 a14 a15 a16 a17 :=
  es_leF (es_vl 5 5) V3 V3.2 (es_eq V3 V1 h (fun _ h => fun y ey => hn y _ _ _ _ _ _ _ _ _ _ _ _ _ _ _ _ _ _ _ _ _ _ _ (es_vq ey (es_v1 V3)) R h)
    (fun _ h => es_eq (es_vbit V2 V3) (es_vl 1 1) h (fun _ h => es_s_sendTo R V1 V3 h (fun f1 f2 f3 f4 a1 a2 a3 a4 a5 a6 a7 a8 a9 a10 a11 a12 a13 a14 a15 a16 a17 N Q R h => fun y ey => hn y _ _ _ _ _ _ _ _ _ _ _ _ _ _ _ _ _ _ _ _ _ _ _ (es_vq ey (es_v1 V3)) R h)) (fun _ h => fun y ey => hn y _ _ _ _ _ _ _ _ _ _ _ _ _ _ _ _ _ _ _ _ _ _ _ (es_vq ey (es_v1 V3)) R h)))
theorem es_s_sendAll {post : St2 → Prop} {k : Nat → Nat → Bool} (R : es_R g key s f1 f2 f3 f4 a1 a2 a3 a4 a5 a6 a7 a8 a9 a10 a11 a12 a13 a14 a15 a16 a17 N L Q M) {p0 : Int32} {n : Nat} (V0 : es_V p0 n 5) (h : es_sa k N L Q n = true) (hk : ∀ f1 f2 f3 f4 a1 a2 a3 a4 a5 a6 a7 a8 a9 a10 a11 a12 a13 a14 a15 a16 a17 N Q, es_R g key s f1 f2 f3 f4 a1 a2 a3 a4 a5 a6 a7 a8 a9 a10 a11 a12 a13 a14 a15 a16 a17 N L Q M → k N Q = true → post (f1, f2, f3, f4, a1, a2, a3, a4, a5, a6, a7, a8, a9, a10, a11, a12, a13, a14, a15, a16, a17)) : wpX_sendAll post (f1, f2, f3, f4, a1, a2, a3, a4, a5, a6, a7, a8, a9, a10, a11, a12, a13, a14, a15, a16, a17) p0 := by
  unfold wpX_sendAll
  exact es_s_mem R V0 h (fun r set W2 h => ⟨6, es_sas (o := 0) V0 W2 (es_vw (es_vl 0 0)) R h (fun y f1 f2 f3 f4 a1 a2 a3 a4 a5 a6 a7 a8 a9 a10 a11 a12 a13 a14 a15 a16 a17 N Q W R h => es_sas (o := 1) V0 W2 (es_vb W (by decide)) R h (fun y f1 f2 f3 f4 a1 a2 a3 a4 a5 a6 a7 a8 a9 a10 a11 a12 a13 a14 a15 a16 a17 N Q W R h => es_sas (o := 2) V0 W2 (es_vb W (by decide)) R h (fun y f1 f2 f3 f4 a1 a2 a3 a4 a5 a6 a7 a8 a9 a10 a11 a12 a13 a14 a15 a16 a17 N Q W R h => es_sas (o := 3) V0 W2 (es_vb W (by decide)) R h (fun y f1 f2 f3 f4 a1 a2 a3 a4 a5 a6 a7 a8 a9 a10 a11 a12 a13 a14 a15 a16 a17 N Q W R h => es_sas (o := 4) V0 W2 (es_vb W (by decide)) R h (fun y f1 f2 f3 f4 a1 a2 a3 a4 a5 a6 a7 a8 a9 a10 a11 a12 a13 a14 a15 a16 a17 N Q W R h => es_leT (es_vl 5 5) W (by decide) (hk _ _ _ _ _ _ _ _ _ _ _ _ _ _ _ _ _ _ _ _ _ _ _ R h))))))⟩)
theorem es_s_h84 {post : St2 → Prop} {k : Nat → Nat → Bool} (R : es_R g key s f1 f2 f3 f4 a1 a2 a3 a4 a5 a6 a7 a8 a9 a10 a11 a12 a13 a14 a15 a16 a17 N L Q M) {x2 x3 x4 z0 : Int32} {n o z : Nat} (V2 : es_V x2 o 5) (V3 : es_V x3 n 5) (V4 : es_V x4 (5 * n + o) 25) (Vz : es_V z0 z 256) (h : es_h84 k N L Q n o z = true) (hk : ∀ f1 f2 f3 f4 a1 a2 a3 a4 a5 a6 a7 a8 a9 a10 a11 a12 a13 a14 a15 a16 a17 N Q, es_R g key s f1 f2 f3 f4 a1 a2 a3 a4 a5 a6 a7 a8 a9 a10 a11 a12 a13 a14 a15 a16 a17 N L Q M → k N Q = true → post (f1, f2, f3, f4, a1, a2, a3, a4, a5, a6, a7, a8, a9, a10, a11, a12, a13, a14, a15, a16, a17)) : wX_hear_84 post x2 x3 x4 z0 x4 f1 f2 f3 f4 a1 a2 a3 a4 a5 a6 a7 a8 a9 a10 a11 a12 a13 a14 a15 a16 a17 := by
  have h1 := es_gle h
  have hz : z ≤ 126 := h1.1
  refine ⟨es_in V4 V4.2, fun b e => ⟨es_in V4 V4.2, es_in V4 V4.2, fun c i => ?_⟩⟩
  have R1 := es_t15 R V4 Vz Vz.2 e
  have R2 := es_t14 R1 V4 (es_vr (es_v1 (es_r15 R1 V4)) (congrArg Nat.succ (es_rd_wr_eq Vz.2))) (show z + 1 < 256 by omega) i
  exact es_s_countMost R2 V3 (es_fe h1.2 :) (fun f1 f2 f3 f4 a1 a2 a3 a4 a5 a6 a7 a8 a9 a10 a11 a12 a13 a14 a15 a16 a17 N R h => ⟨es_in V4 V4.2, es_s_lastOf R V3 (fun r Wr => es_lt Wr (es_r14 R V4) h (fun _ h => hk _ _ _ _ _ _ _ _ _ _ _ _ _ _ _ _ _ _ _ _ _ _ _ R h) (fun _ h => es_s_sendTo R V3 V2 h (fun f1 f2 f3 f4 a1 a2 a3 a4 a5 a6 a7 a8 a9 a10 a11 a12 a13 a14 a15 a16 a17 N Q R h => hk _ _ _ _ _ _ _ _ _ _ _ _ _ _ _ _ _ _ _ _ _ _ _ R h)))⟩)
theorem es_s_hear {post : St2 → Prop} {k : Nat → Nat → Bool} (R : es_R g key s f1 f2 f3 f4 a1 a2 a3 a4 a5 a6 a7 a8 a9 a10 a11 a12 a13 a14 a15 a16 a17 N L Q M) {p0 p1 p2 : Int32} {st o n : Nat} (V0 : es_V p0 st 256) (V1 : es_V p1 o 5) (V2 : es_V p2 n 5) (h : es_he k N L Q M st o n = true) (hk : ∀ f1 f2 f3 f4 a1 a2 a3 a4 a5 a6 a7 a8 a9 a10 a11 a12 a13 a14 a15 a16 a17 N Q, es_R g key s f1 f2 f3 f4 a1 a2 a3 a4 a5 a6 a7 a8 a9 a10 a11 a12 a13 a14 a15 a16 a17 N L Q M → k N Q = true → post (f1, f2, f3, f4, a1, a2, a3, a4, a5, a6, a7, a8, a9, a10, a11, a12, a13, a14, a15, a16, a17)) : wpX_hear post (f1, f2, f3, f4, a1, a2, a3, a4, a5, a6, a7, a8, a9, a10, a11, a12, a13, a14, a15, a16, a17) p0 p1 p2 := by
  have hn := V2.2
  have ho := V1.2
  refine ⟨es_in V2 V2.2, es_eq (es_r3 R V2) (es_vl 1 1) h (fun _ h => fun x4 e4 => ?_) (fun _ h => hk _ _ _ _ _ _ _ _ _ _ _ _ _ _ _ _ _ _ _ _ _ _ _ R h)⟩
  have V4 : es_V x4 (5 * n + o) 25 := es_vb (es_vq e4 (es_va (es_vm (es_vl 5 5) V2) V1)) (by omega)
  refine es_eq V0 (es_vl 7 7) h (fun _ h => ⟨es_in V4 V4.2, fun b e => ?_⟩) (fun _ h => ⟨es_in V4 V4.2, ?_⟩)
  · have h1 := es_gle h
    have hm : es_rd M 4 ≤ 126 := h1.1
    exact es_s_sendTo (es_t14 R V4 (es_v1 (es_r17 R 4)) (show es_rd M 4 + 1 < 256 by omega) e) V2 V1 (es_fe h1.2 :) (fun f1 f2 f3 f4 a1 a2 a3 a4 a5 a6 a7 a8 a9 a10 a11 a12 a13 a14 a15 a16 a17 N Q R h => hk _ _ _ _ _ _ _ _ _ _ _ _ _ _ _ _ _ _ _ _ _ _ _ R h)
  · exact es_le (es_r17 R 4) (es_r15 R V4) (es_fe h :) (fun _ h => ⟨es_in V4 V4.2, es_s_h84 R V1 V2 V4 (es_r15 R V4) h hk⟩) (fun _ h => es_s_h84 R V1 V2 V4 (es_r17 R 4) (es_fe h :) hk)
end
end
section
/-! fold, newEntry, takeEntry -/
noncomputable def es_f41 (k : Nat → Nat → Bool) (N n d : Nat) (f : Nat) : Nat → Nat → Bool := @Nat.rec (fun _ => Nat → Nat → Bool) (fun _ _ => false) (fun _ ih L i => es_i (Nat.ble (Nat.mul 7 (Nat.sub (Nat.add (Nat.mul 16 n) (es_rd N (Nat.add 40 n))) d)) i) (es_f (es_wr N (Nat.add 40 n) (Nat.sub (es_rd N (Nat.add 40 n)) d)) (fun N2 => es_f (es_wr N2 (Nat.add 30 n) (es_rd N2 (Nat.add 45 n))) (fun N3 => k N3 L))) (es_i (Nat.ble (Nat.add i (Nat.mul 7 d)) 559) (es_f (es_wr L i (es_rd L (Nat.add i (Nat.mul 7 d)))) (fun L' => es_f (Nat.add i 1) (ih L'))) false)) f
noncomputable def es_fo (k : Nat → Nat → Bool) (N L n : Nat) : Bool := es_f (es_rd N (Nat.add 45 n)) (fun c => es_f (es_rd N (Nat.add 30 n)) (fun b => es_i (Nat.ble b c) (es_f (Nat.sub c b) (fun d => es_i (Nat.beq d 0) (k N L) (es_i (Nat.ble d (es_rd N (Nat.add 40 n))) (es_tm (fun t => es_f (es_wr N (Nat.add 35 n) t) (fun N1 => es_f41 k N1 n d 120 L (Nat.mul 112 n))) N L n c) false))) false))
noncomputable def es_n16 (k : Nat → Nat → Bool) (N n : Nat) : Bool := es_f (es_rd N (Nat.add 40 n)) (fun e => es_i (Nat.ble e 126) (es_f (es_wr N (Nat.add 40 n) (Nat.add e 1)) (fun N' => es_f (es_la N' n) (fun la => es_cell (fun c => k c N') N' n la))) false)
noncomputable def es_ne (k : Nat → Nat → Nat → Bool) (N L n : Nat) : Bool := es_i (Nat.beq (es_rd N (Nat.add 40 n)) 16) (es_fo (fun N L => es_n16 (fun c N' => k c N' L) N n) N L n) (es_n16 (fun c N' => k c N' L) N n)
noncomputable def es_t26 (k : Nat → Nat → Bool) (N L M n i : Nat) : Bool := es_f (es_rd N (Nat.add 30 n)) (fun b => es_i (Nat.ble i b) false (es_f (es_wr N (Nat.add 40 n) (Nat.sub (Nat.sub i 1) b)) (fun N1 => es_ne (fun c N2 L2 => es_f (es_wc L2 c 7 (es_ck M 8 7)) (fun L3 => k N2 L3)) N1 L n)))
noncomputable def es_te (k : Nat → Nat → Bool) (N L M n i : Nat) : Bool := es_i (Nat.ble i (es_la N n)) (es_f (es_rd M 8) (fun m => es_i (Nat.ble m 127) (es_tm (fun t => es_i (Nat.beq t m) (k N L) (es_t26 k N L M n i)) N L n i) false)) (es_t26 k N L M n i)
section
variable {g : Nat → Int32} {key s : Nat} {f1 f2 f3 f4 : Int32} {a1 a2 a3 a4 a5 a6 a7 a8 a9 a10 a11 a12 a13 a14 a15 a16 a17 : Nat → Int32} {N L Q M : Nat}
theorem es_m13 (R : es_R g key s f1 f2 f3 f4 a1 a2 a3 a4 a5 a6 a7 a8 a9 a10 a11 a12 a13 a14 a15 a16 a17 N L Q M) {a' : Nat → Int32} : es_R g key s f1 f2 f3 f4 a1 a2 a3 a4 a5 a6 a7 a8 a9 a10 a11 a12 a' a14 a15 a16 a17 N L Q M := R
theorem es_s_108 {post : St2 → Prop} {x1 : Int32} {n : Nat} (V1 : es_V x1 n 5) (hk : ∀ a', post (f1, f2, f3, f4, a1, a2, a3, a4, a5, a6, a7, a8, a9, a10, a11, a12, a', a14, a15, a16, a17)) : ∀ (d i : Nat) (x3 : Int32) (a' : Nat → Int32), i + d = 15 → es_V x3 i 16 → wX_fold_108 post x1 f1 f2 f3 f4 (d + 1) x3 a1 a2 a3 a4 a5 a6 a7 a8 a9 a10 a11 a12 a' a14 a15 a16 a17 := by
  have hn := V1.2
  intro d
  induction d with
  | zero =>
    intro i x3 a' hi V3
    exact es_leT (es_vl 15 15) V3 (by omega) (hk a')
  | succ d ih =>
    intro i x3 a' hi V3
    have W : es_V ((15 * x1) + x3) (15 * n + i) 75 := es_vb (es_va (es_vm (es_vl 15 15) V1) V3) (by omega)
    exact es_leF (es_vl 15 15) V3 (by omega) ⟨es_in W W.2, es_in W W.2, fun b e y ey => ih (i + 1) y b (by omega) (es_vb (es_vq ey (es_v1 V3)) (by omega))⟩
theorem es_s_41 {post : St2 → Prop} {k : Nat → Nat → Bool} {x1 x2 : Int32} {n d : Nat} (V1 : es_V x1 n 5) (V2 : es_V x2 d 256) (hd : d ≤ es_rd N (40 + n)) (hk : ∀ f1 f2 f3 f4 a1 a2 a3 a4 a5 a6 a7 a8 a9 a10 a11 a12 a13 a14 a15 a16 a17 N L, es_R g key s f1 f2 f3 f4 a1 a2 a3 a4 a5 a6 a7 a8 a9 a10 a11 a12 a13 a14 a15 a16 a17 N L Q M → k N L = true → post (f1, f2, f3, f4, a1, a2, a3, a4, a5, a6, a7, a8, a9, a10, a11, a12, a13, a14, a15, a16, a17)) : ∀ (f : Nat) (x3 : Int32) (i : Nat) (b : Nat → Int32) (L : Nat), es_V x3 i 1024 → es_R g key s f1 f2 f3 f4 a1 a2 a3 a4 a5 a6 a7 a8 a9 b a11 a12 a13 a14 a15 a16 a17 N L Q M → es_f41 k N n d f L i = true → wX_fold_41 post x1 x2 f1 f2 f3 f4 f x3 a1 a2 a3 a4 a5 a6 a7 a8 a9 b a11 a12 a13 a14 a15 a16 a17 := by
  have hn := V1.2
  intro f
  induction f with
  | zero => intro x3 i b L V3 R h; exact es_ff h
  | succ f ih =>
    intro x3 i b L V3 R h
    have Vl := es_vm (es_vl 7 7) (es_vs (es_va (es_vm (es_vl 16 16) V1) (es_r9 R V1)) V2 (show d ≤ 16 * n + es_rd N (40 + n) by omega))
    refine ⟨es_in V1 V1.2, es_le Vl V3 h (fun _ h => ?_) (fun _ h => ?_)⟩
    · have hv : es_rd N (40 + n) - d < 256 := Nat.lt_of_le_of_lt (Nat.sub_le _ _) (es_rd_lt _ _)
      refine ⟨es_in V1 V1.2, es_in V1 V1.2, fun c9 e9 => ⟨es_in V1 V1.2, es_in V1 V1.2, fun c7 e7 => ?_⟩⟩
      have R2 := es_t9 R V1 (es_vs (es_r9 R V1) V2 hd) hv e9
      have R3 := es_t7 R2 V1 (es_r11 R2 V1) (es_rd_lt _ _) e7
      exact ⟨16, es_s_108 V1 (fun a' => hk _ _ _ _ _ _ _ _ _ _ _ _ _ _ _ _ _ _ _ _ _ _ _ (es_m13 R3) (es_fe (es_fe h :) :)) 15 0 0 a13 rfl (es_vw (es_vl 0 0))⟩
    · have h1 := es_gle h
      have hi : i + 7 * d ≤ 559 := h1.1
      have Wr : es_V (x3 + (7 * x2)) (i + 7 * d) 560 := es_vb (es_va V3 (es_vm (es_vl 7 7) V2)) (by omega)
      have Wi : es_V x3 i 560 := es_vb V3 (by omega)
      exact ⟨es_in Wr Wr.2, es_in Wi Wi.2, fun c e y ey => ih y (i + 1) c _ (es_vb (es_vq ey (es_v1 V3)) (by omega)) (es_ma10 R (es_Gs (es_pa10 R) Wi (es_r10 R Wr) (es_rd_lt _ _) e)) (es_fe (es_fe h1.2 :) :)⟩
theorem es_s_fold {post : St2 → Prop} {k : Nat → Nat → Bool} (R : es_R g key s f1 f2 f3 f4 a1 a2 a3 a4 a5 a6 a7 a8 a9 a10 a11 a12 a13 a14 a15 a16 a17 N L Q M) {p0 : Int32} {n : Nat} (V0 : es_V p0 n 5) (h : es_fo k N L n = true) (hk : ∀ f1 f2 f3 f4 a1 a2 a3 a4 a5 a6 a7 a8 a9 a10 a11 a12 a13 a14 a15 a16 a17 N L, es_R g key s f1 f2 f3 f4 a1 a2 a3 a4 a5 a6 a7 a8 a9 a10 a11 a12 a13 a14 a15 a16 a17 N L Q M → k N L = true → post (f1, f2, f3, f4, a1, a2, a3, a4, a5, a6, a7, a8, a9, a10, a11, a12, a13, a14, a15, a16, a17)) : wpX_fold post (f1, f2, f3, f4, a1, a2, a3, a4, a5, a6, a7, a8, a9, a10, a11, a12, a13, a14, a15, a16, a17) p0 := by
  have hn := V0.2
  have h1 := es_gle (es_fe (es_fe h :) :)
  refine ⟨es_in V0 V0.2, es_in V0 V0.2, fun x2 e2 => ?_⟩
  have V2 := es_vq e2 (es_vs (es_r11 R V0) (es_r7 R V0) h1.1)
  refine es_eq V2 (es_vl 0 0) (es_fe h1.2 :) (fun _ h => hk _ _ _ _ _ _ _ _ _ _ _ _ _ _ _ _ _ _ _ _ _ _ _ R h) (fun _ h => ⟨es_in V0 V0.2, ?_⟩)
  have h2 := es_gle h
  refine es_s_termAt R V0 (es_vw (es_r11 R V0)) h2.2 (fun r t Wr h => ⟨es_in V0 V0.2, fun b e x3 e3 => ⟨120, ?_⟩⟩)
  have R1 := es_t8 R V0 Wr Wr.2 e
  exact es_s_41 V0 V2 (Nat.le_trans h2.1 (Nat.le_of_eq (es_rd_wr_ne Wr.2 (show 40 + n ≠ 35 + n by omega)).symm)) hk 120 x3 (112 * n) a10 L (es_vb (es_vq e3 (es_vm (es_vl 112 112) V0)) (by omega)) R1 (es_fe h :)
theorem es_s_n16 {post : Int32 → St2 → Prop} {k : Nat → Nat → Bool} (R : es_R g key s f1 f2 f3 f4 a1 a2 a3 a4 a5 a6 a7 a8 a9 a10 a11 a12 a13 a14 a15 a16 a17 N L Q M) {x1 : Int32} {n : Nat} (V1 : es_V x1 n 5) (h : es_n16 k N n = true) (hk : ∀ r c f1 f2 f3 f4 a1 a2 a3 a4 a5 a6 a7 a8 a9 a10 a11 a12 a13 a14 a15 a16 a17 N, es_V r c 560 → c + 6 < 560 → es_R g key s f1 f2 f3 f4 a1 a2 a3 a4 a5 a6 a7 a8 a9 a10 a11 a12 a13 a14 a15 a16 a17 N L Q M → k c N = true → post r (f1, f2, f3, f4, a1, a2, a3, a4, a5, a6, a7, a8, a9, a10, a11, a12, a13, a14, a15, a16, a17)) : wX_newEntry_16 post x1 f1 f2 f3 f4 a1 a2 a3 a4 a5 a6 a7 a8 a9 a10 a11 a12 a13 a14 a15 a16 a17 := by
  have h1 := es_gle (es_fe h :)
  have hv : es_rd N (40 + n) + 1 < 256 := by
    have : es_rd N (40 + n) ≤ 126 := h1.1
    omega
  refine ⟨es_in V1 V1.2, es_in V1 V1.2, fun b e => ?_⟩
  have R1 := es_t9 R V1 (es_v1 (es_r9 R V1)) hv e
  exact es_s_lastOf R1 V1 (fun r W => es_s_cellOf R1 V1 (es_vw W) (es_fe (es_fe h1.2 :) :) (fun r c Wr hc h => hk _ _ _ _ _ _ _ _ _ _ _ _ _ _ _ _ _ _ _ _ _ _ _ _ Wr hc R1 h))
theorem es_s_newEntry {post : Int32 → St2 → Prop} {k : Nat → Nat → Nat → Bool} (R : es_R g key s f1 f2 f3 f4 a1 a2 a3 a4 a5 a6 a7 a8 a9 a10 a11 a12 a13 a14 a15 a16 a17 N L Q M) {p0 : Int32} {n : Nat} (V0 : es_V p0 n 5) (h : es_ne k N L n = true) (hk : ∀ r c f1 f2 f3 f4 a1 a2 a3 a4 a5 a6 a7 a8 a9 a10 a11 a12 a13 a14 a15 a16 a17 N L, es_V r c 560 → c + 6 < 560 → es_R g key s f1 f2 f3 f4 a1 a2 a3 a4 a5 a6 a7 a8 a9 a10 a11 a12 a13 a14 a15 a16 a17 N L Q M → k c N L = true → post r (f1, f2, f3, f4, a1, a2, a3, a4, a5, a6, a7, a8, a9, a10, a11, a12, a13, a14, a15, a16, a17)) : wpX_newEntry post (f1, f2, f3, f4, a1, a2, a3, a4, a5, a6, a7, a8, a9, a10, a11, a12, a13, a14, a15, a16, a17) p0 :=
  ⟨es_in V0 V0.2, es_eq (es_r9 R V0) (es_vl 16 16) h (fun _ h => es_s_fold R V0 h (fun f1 f2 f3 f4 a1 a2 a3 a4 a5 a6 a7 a8 a9 a10 a11 a12 a13 a14 a15 a16 a17 N L R h => es_s_n16 R V0 h (fun r c f1 f2 f3 f4 a1 a2 a3 a4 a5 a6 a7 a8 a9 a10 a11 a12 a13 a14 a15 a16 a17 N W hc R h => hk r c f1 f2 f3 f4 a1 a2 a3 a4 a5 a6 a7 a8 a9 a10 a11 a12 a13 a14 a15 a16 a17 N _ W hc R h))) (fun _ h => es_s_n16 R V0 h (fun r c f1 f2 f3 f4 a1 a2 a3 a4 a5 a6 a7 a8 a9 a10 a11 a12 a13 a14 a15 a16 a17 N W hc R h => hk r c f1 f2 f3 f4 a1 a2 a3 a4 a5 a6 a7 a8 a9 a10 a11 a12 a13 a14 a15 a16 a17 N _ W hc R h))⟩
/-- seven cells copied -/
theorem es_s_51 {post : St2 → Prop} {x3 : Int32} {c : Nat} (V3 : es_V x3 c 560) (hc : c + 6 < 560) (a0 : Nat → Int32) (hk : ∀ a', (∀ j, a' j = if c ≤ j ∧ j < c + 7 then a17 (8 + (j - c)) else a0 j) → post (f1, f2, f3, f4, a1, a2, a3, a4, a5, a6, a7, a8, a9, a', a11, a12, a13, a14, a15, a16, a17)) :
    ∀ (d i : Nat) (x4 : Int32) (a' : Nat → Int32), i + d = 7 → es_V x4 i 8 → (∀ j, a' j = if c ≤ j ∧ j < c + i then a17 (8 + (j - c)) else a0 j) → wX_takeEntry_51 post x3 f1 f2 f3 f4 (d + 1) x4 a1 a2 a3 a4 a5 a6 a7 a8 a9 a' a11 a12 a13 a14 a15 a16 a17 := by
  intro d
  induction d with
  | zero =>
    intro i x4 a' hi V4 H
    have e : i = 7 := by omega
    subst e
    exact es_leT (es_vl 7 7) V4 (by decide) (hk a' H)
  | succ d ih =>
    intro i x4 a' hi V4 H
    have Wr : es_V (8 + x4) (8 + i) 16 := es_vb (es_va (es_vl 8 8) V4) (by omega)
    have Ww : es_V (x3 + x4) (c + i) 560 := es_vb (es_va V3 V4) (by omega)
    refine es_leF (es_vl 7 7) V4 (by omega) ⟨es_in Wr Wr.2, es_in Ww Ww.2, fun b e y ey => ih (i + 1) y b (by omega) (es_vb (es_vq ey (es_v1 V4)) (by omega)) (fun j => ?_)⟩
    rw [e, es_clamp Ww, es_clamp Wr]
    by_cases q : j = c + i
    · rw [q, pk_us, if_pos (by omega), show c + i - c = i by omega]
    · rw [pk_un q, H j]
      by_cases z : c ≤ j ∧ j < c + i
      · rw [if_pos z, if_pos (by omega)]
      · rw [if_neg z, if_neg (by omega)]
theorem es_s_t26 {post : St2 → Prop} {k : Nat → Nat → Bool} (R : es_R g key s f1 f2 f3 f4 a1 a2 a3 a4 a5 a6 a7 a8 a9 a10 a11 a12 a13 a14 a15 a16 a17 N L Q M) {x1 x2 : Int32} {n i : Nat} (V1 : es_V x1 n 5) (V2 : es_V x2 i 257) (h : es_t26 k N L M n i = true) (hk : ∀ f1 f2 f3 f4 a1 a2 a3 a4 a5 a6 a7 a8 a9 a10 a11 a12 a13 a14 a15 a16 a17 N L, es_R g key s f1 f2 f3 f4 a1 a2 a3 a4 a5 a6 a7 a8 a9 a10 a11 a12 a13 a14 a15 a16 a17 N L Q M → k N L = true → post (f1, f2, f3, f4, a1, a2, a3, a4, a5, a6, a7, a8, a9, a10, a11, a12, a13, a14, a15, a16, a17)) : wX_takeEntry_26 post x1 x2 f1 f2 f3 f4 a1 a2 a3 a4 a5 a6 a7 a8 a9 a10 a11 a12 a13 a14 a15 a16 a17 := by
  have h1 := es_ggt (es_fe h :)
  have hb : es_rd N (30 + n) < i := h1.1
  have hi := V2.2
  refine ⟨es_in V1 V1.2, es_in V1 V1.2, fun b e => ?_⟩
  have R1 := es_t9 R V1 (es_vs (es_vs V2 (es_vl 1 1) (by omega)) (es_r7 R V1) (show es_rd N (30 + n) ≤ i - 1 by omega)) (show i - 1 - es_rd N (30 + n) < 256 by omega) e
  refine es_s_newEntry R1 V1 (es_fe h1.2 :) (fun r c f1 f2 f3 f4 a1 a2 a3 a4 a5 a6 a7 a8 a9 a10 a11 a12 a13 a14 a15 a16 a17 N L W hc R h => ⟨8, es_s_51 W hc a10 (fun a' H => hk _ _ _ _ _ _ _ _ _ _ _ _ _ _ _ _ _ _ _ _ _ _ _ (es_ma10 R (es_Gc (es_pa10 R) (es_ck_lt M 8 7) ?_ ?_)) (es_fe h :)) 7 0 0 a10 rfl (es_vw (es_vl 0 0)) (fun j => by rw [if_neg (by omega)])⟩)
  · intro k hk
    rw [H, if_pos (by omega), es_rd_ck hk, show c + k - c = k by omega]
    exact (es_pa17 R).2 (8 + k) (by omega)
  · intro j hj hout
    rw [H, if_neg (by omega)]
theorem es_s_takeEntry {post : St2 → Prop} {k : Nat → Nat → Bool} (R : es_R g key s f1 f2 f3 f4 a1 a2 a3 a4 a5 a6 a7 a8 a9 a10 a11 a12 a13 a14 a15 a16 a17 N L Q M) {p0 p1 : Int32} {n i : Nat} (V0 : es_V p0 n 5) (V1 : es_V p1 i 257) (h : es_te k N L M n i = true) (hk : ∀ f1 f2 f3 f4 a1 a2 a3 a4 a5 a6 a7 a8 a9 a10 a11 a12 a13 a14 a15 a16 a17 N L, es_R g key s f1 f2 f3 f4 a1 a2 a3 a4 a5 a6 a7 a8 a9 a10 a11 a12 a13 a14 a15 a16 a17 N L Q M → k N L = true → post (f1, f2, f3, f4, a1, a2, a3, a4, a5, a6, a7, a8, a9, a10, a11, a12, a13, a14, a15, a16, a17)) : wpX_takeEntry post (f1, f2, f3, f4, a1, a2, a3, a4, a5, a6, a7, a8, a9, a10, a11, a12, a13, a14, a15, a16, a17) p0 p1 := by
  unfold wpX_takeEntry
  exact es_s_lastOf R V0 (fun r W => es_lt W V1 h (fun _ h => es_s_t26 R V0 V1 h hk) (fun _ h => es_s_termAt R V0 (es_vw V1) (es_gle (es_fe h :)).2 (fun r t Wr h' => es_eq Wr (show es_V (a17 8) (es_rd M 8) 128 from ⟨((es_pa17 R).2 8 (by decide)).trans ((es_pE R).1 _ (Nat.lt_succ_of_le (es_gle (es_fe h :)).1)), Nat.lt_succ_of_le (es_gle (es_fe h :)).1⟩) h' (fun _ h => hk _ _ _ _ _ _ _ _ _ _ _ _ _ _ _ _ _ _ _ _ _ _ _ R h) (fun _ h => es_s_t26 R V0 V1 h hk))))
end
end
section
/-! append, elect, deliver, deliverAll, spread -/
noncomputable def es_115 (k : Nat → Nat → Nat → Bool) (N L Q o n z : Nat) : Bool := es_po (fun _ N Q => k N L Q) N Q 7 n o z 0 0
noncomputable def es_93 (k : Nat → Nat → Nat → Bool) (N L Q o n i : Nat) : Bool := es_i (Nat.ble 1 i) (es_f (es_la N n) (fun la => es_i (Nat.ble la (Nat.sub i 1)) (es_115 k N L Q o n la) (es_115 k N L Q o n (Nat.sub i 1)))) false
noncomputable def es_183 (k : Nat → Nat → Nat → Bool) (N L Q o n i z : Nat) : Bool := es_i (Nat.ble i 255) (es_ct (fun N => es_po (fun _ N Q => k N L Q) N Q 6 n o i 0 0) L n z 20 N) false
noncomputable def es_157 (k : Nat → Nat → Nat → Bool) (N L Q M o n i : Nat) : Bool := es_i (Nat.ble i (es_rd M 6)) (es_183 k N L Q o n i i) (es_f (es_rd M 6) (fun z => es_183 k N L Q o n i z))
noncomputable def es_ap2 (k : Nat → Nat → Nat → Bool) (N L Q M o n i : Nat) : Bool := es_i (Nat.ble (es_rd N (Nat.add 30 n)) i) (es_i (Nat.ble i (es_la N n)) (es_tm (fun t => es_i (Nat.beq t (es_rd M 5)) (es_i (Nat.beq (es_rd M 7) 1) (es_f (Nat.add i 1) (fun j => es_te (fun N L => es_157 k N L Q M o n j) N L M n j)) (es_157 k N L Q M o n i)) (es_93 k N L Q o n i)) N L n i) (es_93 k N L Q o n i)) false
noncomputable def es_ap (k : Nat → Nat → Nat → Bool) (N L Q M o n : Nat) : Bool := es_i (Nat.ble (es_rd N (Nat.add 15 n)) (es_rd M 3)) (es_et (fun N => es_f (es_wr N (Nat.add 10 n) 0) (fun N => es_f (es_rd M 4) (fun i => es_ap2 k N L Q M o n i))) N n (es_rd M 3)) (k N L Q)
noncomputable def es_e35 (k : Nat → Nat → Bool) (N L Q M o n : Nat) : Bool := es_i (Nat.beq (es_rd M 3) (es_rd N (Nat.add 15 n))) (es_ut N L M n (es_f (es_wr N (Nat.add 20 n) (Nat.add o 1)) (fun N' => es_po (fun _ N Q => k N Q) N' Q 4 n o 0 0 0)) (k N Q)) (k N Q)
noncomputable def es_el (k : Nat → Nat → Bool) (N L Q M o n : Nat) : Bool := es_et (fun N => es_f (es_rd N (Nat.add 20 n)) (fun v => es_i (Nat.beq v 0) (es_e35 k N L Q M o n) (es_i (Nat.beq v (Nat.add o 1)) (es_e35 k N L Q M o n) (k N Q)))) N n (es_rd M 3)
noncomputable def es_d37 (k : Nat → Bool) (N o n : Nat) : Bool := es_f (es_rd N (Nat.add 25 n)) (fun v => es_i (Nat.ble v 31) (es_f (es_wr N (Nat.add 25 n) (Nat.lor v (Nat.shiftLeft 1 o))) k) false)
noncomputable def es_dl (k : Nat → Nat → Nat → Bool) (N L Q M st o n : Nat) : Bool := es_i (Nat.beq st 1) (es_ut N L M n (es_po (fun _ N Q => k N L Q) N Q 2 n o 0 0 0) (k N L Q)) (es_i (Nat.beq st 2) (es_d37 (fun N => k N L Q) N o n) (es_i (Nat.beq st 4) (es_d37 (fun N => k N L Q) N o n) (es_i (Nat.beq st 3) (es_el (fun N Q => k N L Q) N L Q M o n) (es_i (Nat.beq st 5) (es_ap k N L Q M o n) (es_i (Nat.beq st 8) false (es_he (fun N Q => k N L Q) N L Q M st o n))))))
noncomputable def es_dab (k ih : Nat → Nat → Nat → Nat → Bool) (N L Q M : Nat) : Bool := es_f (es_rd N 121) (fun w => es_i (Nat.beq w 0) (k N L Q M) (es_f (es_rd N 120) (fun p => es_i (Nat.ble p 63) (es_f (es_ck Q (Nat.mul 16 p) 16) (fun M' => es_i (Nat.beq (Nat.land M' 9259542123273814144) 0) (es_f (es_wr (es_wr N 120 (Nat.mod (Nat.add p 1) 64)) 121 (Nat.sub w 1)) (fun N' => es_f (es_rd M' 1) (fun o => es_i (Nat.ble o 4) (es_f (es_rd M' 2) (fun n => es_i (Nat.ble n 4) (es_i (es_jn N' o n) (es_dl (fun N L Q => ih N L Q M') N' L Q M' (es_rd M' 0) o n) (ih N' L Q M')) false)) false))) false)) false)))
noncomputable def es_da (k : Nat → Nat → Nat → Nat → Bool) (f : Nat) : Nat → Nat → Nat → Nat → Bool := @Nat.rec (fun _ => Nat → Nat → Nat → Nat → Bool) (fun _ _ _ _ => false) (fun _ ih N L Q M => es_dab k ih N L Q M) f
noncomputable def es_sp (k : Nat → Nat → Nat → Nat → Bool) (N L Q M n : Nat) : Bool := es_cmo (fun N => es_sa (fun N Q => es_da k 200 N L Q M) N L Q n) N L n
section
variable {g : Nat → Int32} {key s : Nat} {f1 f2 f3 f4 : Int32} {a1 a2 a3 a4 a5 a6 a7 a8 a9 a10 a11 a12 a13 a14 a15 a16 a17 : Nat → Int32} {N L Q M : Nat}
theorem es_s_115 {post : St2 → Prop} {k : Nat → Nat → Nat → Bool} (R : es_R g key s f1 f2 f3 f4 a1 a2 a3 a4 a5 a6 a7 a8 a9 a10 a11 a12 a13 a14 a15 a16 a17 N L Q M) {x1 x2 z0 : Int32} {o n z : Nat} (V1 : es_V x1 o 5) (V2 : es_V x2 n 5) (Vz : es_V z0 z 256) (h : es_115 k N L Q o n z = true) (hk : ∀ f1 f2 f3 f4 a1 a2 a3 a4 a5 a6 a7 a8 a9 a10 a11 a12 a13 a14 a15 a16 a17 N L Q, es_R g key s f1 f2 f3 f4 a1 a2 a3 a4 a5 a6 a7 a8 a9 a10 a11 a12 a13 a14 a15 a16 a17 N L Q M → k N L Q = true → post (f1, f2, f3, f4, a1, a2, a3, a4, a5, a6, a7, a8, a9, a10, a11, a12, a13, a14, a15, a16, a17)) : wX_append_115 post x1 x2 z0 f1 f2 f3 f4 a1 a2 a3 a4 a5 a6 a7 a8 a9 a10 a11 a12 a13 a14 a15 a16 a17 := by
  unfold wX_append_115
  exact es_s_post R (es_vw (es_vl 7 7)) V2 V1 Vz (es_vw (es_vl 0 0)) (es_vw (es_vl 0 0)) h (fun r p f1 f2 f3 f4 a1 a2 a3 a4 a5 a6 a7 a8 a9 a10 a11 a12 a13 a14 a15 a16 a17 N Q W hp R h => hk _ _ _ _ _ _ _ _ _ _ _ _ _ _ _ _ _ _ _ _ _ _ _ _ R h)
theorem es_s_93 {post : St2 → Prop} {k : Nat → Nat → Nat → Bool} (R : es_R g key s f1 f2 f3 f4 a1 a2 a3 a4 a5 a6 a7 a8 a9 a10 a11 a12 a13 a14 a15 a16 a17 N L Q M) {x1 x2 x3 : Int32} {o n i : Nat} (V1 : es_V x1 o 5) (V2 : es_V x2 n 5) (V3 : es_V x3 i 256) (h : es_93 k N L Q o n i = true) (hk : ∀ f1 f2 f3 f4 a1 a2 a3 a4 a5 a6 a7 a8 a9 a10 a11 a12 a13 a14 a15 a16 a17 N L Q, es_R g key s f1 f2 f3 f4 a1 a2 a3 a4 a5 a6 a7 a8 a9 a10 a11 a12 a13 a14 a15 a16 a17 N L Q M → k N L Q = true → post (f1, f2, f3, f4, a1, a2, a3, a4, a5, a6, a7, a8, a9, a10, a11, a12, a13, a14, a15, a16, a17)) : wX_append_93 post x1 x2 x3 f1 f2 f3 f4 a1 a2 a3 a4 a5 a6 a7 a8 a9 a10 a11 a12 a13 a14 a15 a16 a17 := by
  have h1 := es_gle h
  have Vm : es_V (x3 - 1) (i - 1) 256 := es_vs V3 (es_vl 1 1) h1.1
  have h2 := es_fe h1.2
  unfold wX_append_93
  exact es_s_lastOf R V2 (fun r W => es_le W Vm h2 (fun hl h => es_s_lastOf R V2 (fun r' W' => es_s_115 R V1 V2 (es_vb W' (Nat.lt_of_le_of_lt hl Vm.2)) h hk)) (fun _ h => es_s_115 R V1 V2 Vm h hk))
theorem es_s_183 {post : St2 → Prop} {k : Nat → Nat → Nat → Bool} (R : es_R g key s f1 f2 f3 f4 a1 a2 a3 a4 a5 a6 a7 a8 a9 a10 a11 a12 a13 a14 a15 a16 a17 N L Q M) {x1 x2 x4 z0 : Int32} {o n i z : Nat} (V1 : es_V x1 o 5) (V2 : es_V x2 n 5) (V4 : es_V x4 i 257) (Vz : es_V z0 z 257) (h : es_183 k N L Q o n i z = true) (hk : ∀ f1 f2 f3 f4 a1 a2 a3 a4 a5 a6 a7 a8 a9 a10 a11 a12 a13 a14 a15 a16 a17 N L Q, es_R g key s f1 f2 f3 f4 a1 a2 a3 a4 a5 a6 a7 a8 a9 a10 a11 a12 a13 a14 a15 a16 a17 N L Q M → k N L Q = true → post (f1, f2, f3, f4, a1, a2, a3, a4, a5, a6, a7, a8, a9, a10, a11, a12, a13, a14, a15, a16, a17)) : wX_append_183 post x1 x2 x4 z0 x2 f1 f2 f3 f4 a1 a2 a3 a4 a5 a6 a7 a8 a9 a10 a11 a12 a13 a14 a15 a16 a17 := by
  unfold wX_append_183
  exact es_s_countTo R V2 (es_vw Vz) (es_gle h).2 (fun f1 f2 f3 f4 a1 a2 a3 a4 a5 a6 a7 a8 a9 a10 a11 a12 a13 a14 a15 a16 a17 N R h' => es_s_post R (es_vw (es_vl 6 6)) V2 V1 (es_vb V4 (Nat.lt_succ_of_le (es_gle h).1)) (es_vw (es_vl 0 0)) (es_vw (es_vl 0 0)) h' (fun r p f1 f2 f3 f4 a1 a2 a3 a4 a5 a6 a7 a8 a9 a10 a11 a12 a13 a14 a15 a16 a17 N Q W hp R h => hk _ _ _ _ _ _ _ _ _ _ _ _ _ _ _ _ _ _ _ _ _ _ _ _ R h))
theorem es_s_157 {post : St2 → Prop} {k : Nat → Nat → Nat → Bool} (R : es_R g key s f1 f2 f3 f4 a1 a2 a3 a4 a5 a6 a7 a8 a9 a10 a11 a12 a13 a14 a15 a16 a17 N L Q M) {x1 x2 x4 : Int32} {o n i : Nat} (V1 : es_V x1 o 5) (V2 : es_V x2 n 5) (V4 : es_V x4 i 257) (h : es_157 k N L Q M o n i = true) (hk : ∀ f1 f2 f3 f4 a1 a2 a3 a4 a5 a6 a7 a8 a9 a10 a11 a12 a13 a14 a15 a16 a17 N L Q, es_R g key s f1 f2 f3 f4 a1 a2 a3 a4 a5 a6 a7 a8 a9 a10 a11 a12 a13 a14 a15 a16 a17 N L Q M → k N L Q = true → post (f1, f2, f3, f4, a1, a2, a3, a4, a5, a6, a7, a8, a9, a10, a11, a12, a13, a14, a15, a16, a17)) : wX_append_157 post x1 x2 x4 f1 f2 f3 f4 a1 a2 a3 a4 a5 a6 a7 a8 a9 a10 a11 a12 a13 a14 a15 a16 a17 :=
  es_le V4 (es_r17 R 6) h (fun _ h => es_s_183 R V1 V2 V4 V4 h hk) (fun _ h => es_s_183 R V1 V2 V4 (es_vw (es_r17 R 6)) (es_fe h :) hk)
theorem es_s_append {post : St2 → Prop} {k : Nat → Nat → Nat → Bool} (R : es_R g key s f1 f2 f3 f4 a1 a2 a3 a4 a5 a6 a7 a8 a9 a10 a11 a12 a13 a14 a15 a16 a17 N L Q M) {p0 p1 : Int32} {o n : Nat} (V0 : es_V p0 o 5) (V1 : es_V p1 n 5) (h : es_ap k N L Q M o n = true) (hk : ∀ f1 f2 f3 f4 a1 a2 a3 a4 a5 a6 a7 a8 a9 a10 a11 a12 a13 a14 a15 a16 a17 N L Q, es_R g key s f1 f2 f3 f4 a1 a2 a3 a4 a5 a6 a7 a8 a9 a10 a11 a12 a13 a14 a15 a16 a17 N L Q M → k N L Q = true → post (f1, f2, f3, f4, a1, a2, a3, a4, a5, a6, a7, a8, a9, a10, a11, a12, a13, a14, a15, a16, a17)) : wpX_append post (f1, f2, f3, f4, a1, a2, a3, a4, a5, a6, a7, a8, a9, a10, a11, a12, a13, a14, a15, a16, a17) p0 p1 := by
  refine ⟨es_in V1 V1.2, es_le (es_r4 R V1) (es_r17 R 3) h (fun _ h => es_s_enterTerm R V1 (es_r17 R 3) h (fun f1 f2 f3 f4 a1 a2 a3 a4 a5 a6 a7 a8 a9 a10 a11 a12 a13 a14 a15 a16 a17 N R h => ⟨es_in V1 V1.2, fun b e x3 e3 => ⟨es_in V1 V1.2, ?_⟩⟩)) (fun _ h => hk _ _ _ _ _ _ _ _ _ _ _ _ _ _ _ _ _ _ _ _ _ _ _ _ R h)⟩
  have R1 := es_t3 R V1 (es_vl 0 0) (by decide) e
  have V3 := es_vq e3 (es_r17 R 4)
  have h1 := es_gle (es_fe (es_fe h :) :)
  refine es_leT (es_r7 R1 V1) V3 h1.1 (es_s_lastOf R1 V1 (fun r W => es_lt W V3 h1.2 (fun _ h => es_s_93 R1 V0 V1 V3 h hk) (fun _ h => es_s_termAt R1 V1 (es_vw V3) h (fun r t Wt h => es_eq Wt (es_r17 R1 5) h (fun _ h => es_eq (es_r17 R1 7) (es_vl 1 1) h (fun _ h => fun x4 e4 => ?_) (fun _ h => es_s_157 R1 V0 V1 (es_vw V3) h hk)) (fun _ h => es_s_93 R1 V0 V1 V3 h hk)))))
  have V4 : es_V x4 (es_rd M 4 + 1) 257 := es_vq e4 (es_v1 V3)
  exact es_s_takeEntry R1 V1 V4 (es_fe h :) (fun f1 f2 f3 f4 a1 a2 a3 a4 a5 a6 a7 a8 a9 a10 a11 a12 a13 a14 a15 a16 a17 N L R h => es_s_157 R V0 V1 V4 h hk)
theorem es_s_e35 {post : St2 → Prop} {k : Nat → Nat → Bool} (R : es_R g key s f1 f2 f3 f4 a1 a2 a3 a4 a5 a6 a7 a8 a9 a10 a11 a12 a13 a14 a15 a16 a17 N L Q M) {x1 x2 : Int32} {o n : Nat} (V1 : es_V x1 o 5) (V2 : es_V x2 n 5) (h : es_e35 k N L Q M o n = true) (hk : ∀ f1 f2 f3 f4 a1 a2 a3 a4 a5 a6 a7 a8 a9 a10 a11 a12 a13 a14 a15 a16 a17 N Q, es_R g key s f1 f2 f3 f4 a1 a2 a3 a4 a5 a6 a7 a8 a9 a10 a11 a12 a13 a14 a15 a16 a17 N L Q M → k N Q = true → post (f1, f2, f3, f4, a1, a2, a3, a4, a5, a6, a7, a8, a9, a10, a11, a12, a13, a14, a15, a16, a17)) : wX_elect_30 post x1 x2 f1 f2 f3 f4 a1 a2 a3 a4 a5 a6 a7 a8 a9 a10 a11 a12 a13 a14 a15 a16 a17 := by
  have ho := V1.2
  exact ⟨es_in V2 V2.2, es_eq (es_r17 R 3) (es_r4 R V2) h (fun _ h => br_f (by decide) (es_s_isUpToDate R V2 h (fun h => br_f (by decide) ⟨es_in V2 V2.2, fun b e => es_s_post (es_t5 R V2 (V1.1.trans (es_oS o).symm) (by omega) e) (es_vw (es_vl 4 4)) V2 V1 (es_vw (es_vl 0 0)) (es_vw (es_vl 0 0)) (es_vw (es_vl 0 0)) (es_fe h :) (fun r p f1 f2 f3 f4 a1 a2 a3 a4 a5 a6 a7 a8 a9 a10 a11 a12 a13 a14 a15 a16 a17 N Q W hp R h => hk _ _ _ _ _ _ _ _ _ _ _ _ _ _ _ _ _ _ _ _ _ _ _ R h)⟩) (fun h => br_t rfl (hk _ _ _ _ _ _ _ _ _ _ _ _ _ _ _ _ _ _ _ _ _ _ _ R h)))) (fun _ h => hk _ _ _ _ _ _ _ _ _ _ _ _ _ _ _ _ _ _ _ _ _ _ _ R h)⟩
theorem es_s_e0 {post : St2 → Prop} {x1 x2 : Int32} {n : Nat} (V2 : es_V x2 n 5) (hk : post (f1, f2, f3, f4, a1, a2, a3, a4, a5, a6, a7, a8, a9, a10, a11, a12, a13, a14, a15, a16, a17)) : wX_elect_35 post x1 x2 0 f1 f2 f3 f4 a1 a2 a3 a4 a5 a6 a7 a8 a9 a10 a11 a12 a13 a14 a15 a16 a17 :=
  ⟨es_in V2 V2.2, br_c (fun _ => br_t rfl hk) (fun _ => hk)⟩
theorem es_s_elect {post : St2 → Prop} {k : Nat → Nat → Bool} (R : es_R g key s f1 f2 f3 f4 a1 a2 a3 a4 a5 a6 a7 a8 a9 a10 a11 a12 a13 a14 a15 a16 a17 N L Q M) {p0 p1 : Int32} {o n : Nat} (V0 : es_V p0 o 5) (V1 : es_V p1 n 5) (h : es_el k N L Q M o n = true) (hk : ∀ f1 f2 f3 f4 a1 a2 a3 a4 a5 a6 a7 a8 a9 a10 a11 a12 a13 a14 a15 a16 a17 N Q, es_R g key s f1 f2 f3 f4 a1 a2 a3 a4 a5 a6 a7 a8 a9 a10 a11 a12 a13 a14 a15 a16 a17 N L Q M → k N Q = true → post (f1, f2, f3, f4, a1, a2, a3, a4, a5, a6, a7, a8, a9, a10, a11, a12, a13, a14, a15, a16, a17)) : wpX_elect post (f1, f2, f3, f4, a1, a2, a3, a4, a5, a6, a7, a8, a9, a10, a11, a12, a13, a14, a15, a16, a17) p0 p1 := by
  have ho := V0.2
  unfold wpX_elect
  refine es_s_enterTerm R V1 (es_r17 R 3) h (fun f1 f2 f3 f4 a1 a2 a3 a4 a5 a6 a7 a8 a9 a10 a11 a12 a13 a14 a15 a16 a17 N R h => ⟨es_in V1 V1.2, ?_⟩)
  have h1 := es_fe h
  have q := es_r5 R V1
  have l := es_rd_lt N (Nat.add 20 n)
  rcases es_ceq h1 with ⟨z, h⟩ | ⟨z, h⟩
  · refine br_t ?_ (es_s_e35 R V0 V1 h hk)
    rw [q, z, es_o0]
    decide
  · have ⟨v, hv⟩ : ∃ v, es_rd N (Nat.add 20 n) = v + 1 := ⟨es_rd N (Nat.add 20 n) - 1, by omega⟩
    have Vq : es_V (a5 p1.toNatClampNeg) v 256 := ⟨q.trans (by rw [hv, es_oS]), by omega⟩
    refine br_f ?_ ⟨es_in V1 V1.2, ?_⟩
    · rw [Vq.1]
      exact nI_pos (by omega)
    · rcases es_ceq h with ⟨y, h⟩ | ⟨y, h⟩
      · have y' : es_rd N (Nat.add 20 n) = o + 1 := y
        exact es_eqT Vq V0 (by omega) (es_s_e35 R V0 V1 h hk)
      · have y' : es_rd N (Nat.add 20 n) ≠ o + 1 := y
        exact es_eqF Vq V0 (by omega) (es_s_e0 V1 (hk _ _ _ _ _ _ _ _ _ _ _ _ _ _ _ _ _ _ _ _ _ _ _ R h))
theorem es_s_d37 {post : St2 → Prop} {k : Nat → Bool} (R : es_R g key s f1 f2 f3 f4 a1 a2 a3 a4 a5 a6 a7 a8 a9 a10 a11 a12 a13 a14 a15 a16 a17 N L Q M) {x2 x3 : Int32} {o n : Nat} (V2 : es_V x2 o 5) (V3 : es_V x3 n 5) (h : es_d37 k N o n = true) (hk : ∀ f1 f2 f3 f4 a1 a2 a3 a4 a5 a6 a7 a8 a9 a10 a11 a12 a13 a14 a15 a16 a17 N, es_R g key s f1 f2 f3 f4 a1 a2 a3 a4 a5 a6 a7 a8 a9 a10 a11 a12 a13 a14 a15 a16 a17 N L Q M → k N = true → post (f1, f2, f3, f4, a1, a2, a3, a4, a5, a6, a7, a8, a9, a10, a11, a12, a13, a14, a15, a16, a17)) : wX_deliver_37 post x2 x3 f1 f2 f3 f4 a1 a2 a3 a4 a5 a6 a7 a8 a9 a10 a11 a12 a13 a14 a15 a16 a17 := by
  have h1 := es_gle (es_fe h :)
  have W := es_vor (es_vb (es_r6 R V3) (Nat.lt_succ_of_le h1.1)) (es_vsh V2)
  exact ⟨es_in V3 V3.2, es_in V3 V3.2, fun b e => hk _ _ _ _ _ _ _ _ _ _ _ _ _ _ _ _ _ _ _ _ _ _ (es_t6 R V3 W (Nat.lt_of_lt_of_le W.2 (by decide)) e) (es_fe h1.2 :)⟩
theorem es_s_deliver {post : St2 → Prop} {k : Nat → Nat → Nat → Bool} (R : es_R g key s f1 f2 f3 f4 a1 a2 a3 a4 a5 a6 a7 a8 a9 a10 a11 a12 a13 a14 a15 a16 a17 N L Q M) {p0 p1 p2 : Int32} {st o n : Nat} (V0 : es_V p0 st 256) (V1 : es_V p1 o 5) (V2 : es_V p2 n 5) (h : es_dl k N L Q M st o n = true) (hk : ∀ f1 f2 f3 f4 a1 a2 a3 a4 a5 a6 a7 a8 a9 a10 a11 a12 a13 a14 a15 a16 a17 N L Q, es_R g key s f1 f2 f3 f4 a1 a2 a3 a4 a5 a6 a7 a8 a9 a10 a11 a12 a13 a14 a15 a16 a17 N L Q M → k N L Q = true → post (f1, f2, f3, f4, a1, a2, a3, a4, a5, a6, a7, a8, a9, a10, a11, a12, a13, a14, a15, a16, a17)) : wpX_deliver post (f1, f2, f3, f4, a1, a2, a3, a4, a5, a6, a7, a8, a9, a10, a11, a12, a13, a14, a15, a16, a17) p0 p1 p2 :=
  es_eq V0 (es_vl 1 1) h (fun _ h => es_s_isUpToDate R V2 h (fun h => br_f (by decide) (es_s_post R (es_vw (es_vl 2 2)) V2 V1 (es_vw (es_vl 0 0)) (es_vw (es_vl 0 0)) (es_vw (es_vl 0 0)) h (fun r p f1 f2 f3 f4 a1 a2 a3 a4 a5 a6 a7 a8 a9 a10 a11 a12 a13 a14 a15 a16 a17 N Q W hp R h => hk _ _ _ _ _ _ _ _ _ _ _ _ _ _ _ _ _ _ _ _ _ _ _ _ R h))) (fun h => br_t rfl (hk _ _ _ _ _ _ _ _ _ _ _ _ _ _ _ _ _ _ _ _ _ _ _ _ R h)))
  (fun _ h => es_eq V0 (es_vl 2 2) h (fun _ h => es_s_d37 R V1 V2 h (fun f1 f2 f3 f4 a1 a2 a3 a4 a5 a6 a7 a8 a9 a10 a11 a12 a13 a14 a15 a16 a17 N R h => hk _ _ _ _ _ _ _ _ _ _ _ _ _ _ _ _ _ _ _ _ _ _ _ _ R h))
  (fun _ h => es_eq V0 (es_vl 4 4) h (fun _ h => es_s_d37 R V1 V2 h (fun f1 f2 f3 f4 a1 a2 a3 a4 a5 a6 a7 a8 a9 a10 a11 a12 a13 a14 a15 a16 a17 N R h => hk _ _ _ _ _ _ _ _ _ _ _ _ _ _ _ _ _ _ _ _ _ _ _ _ R h))
  (fun _ h => es_eq V0 (es_vl 3 3) h (fun _ h => es_s_elect R V1 V2 h (fun f1 f2 f3 f4 a1 a2 a3 a4 a5 a6 a7 a8 a9 a10 a11 a12 a13 a14 a15 a16 a17 N Q R h => hk _ _ _ _ _ _ _ _ _ _ _ _ _ _ _ _ _ _ _ _ _ _ _ _ R h))
  (fun _ h => es_eq V0 (es_vl 5 5) h (fun _ h => es_s_append R V1 V2 h (fun f1 f2 f3 f4 a1 a2 a3 a4 a5 a6 a7 a8 a9 a10 a11 a12 a13 a14 a15 a16 a17 N L Q R h => hk _ _ _ _ _ _ _ _ _ _ _ _ _ _ _ _ _ _ _ _ _ _ _ _ R h))
  (fun _ h => es_eq V0 (es_vl 8 8) h (fun _ h => es_ff h)
  (fun _ h => es_s_hear R V0 V1 V2 h (fun f1 f2 f3 f4 a1 a2 a3 a4 a5 a6 a7 a8 a9 a10 a11 a12 a13 a14 a15 a16 a17 N Q R h => hk _ _ _ _ _ _ _ _ _ _ _ _ _ _ _ _ _ _ _ _ _ _ _ _ R h)))))))
/-- sixteen cells copied -/
theorem es_s_18 {post : St2 → Prop} {J : Int32 → Int32 → Int32 → Int32 → Int32 → (Nat → Int32) → (Nat → Int32) → (Nat → Int32) → (Nat → Int32) → (Nat → Int32) → (Nat → Int32) → (Nat → Int32) → (Nat → Int32) → (Nat → Int32) → (Nat → Int32) → (Nat → Int32) → (Nat → Int32) → (Nat → Int32) → (Nat → Int32) → (Nat → Int32) → (Nat → Int32) → (Nat → Int32) → Prop} {x1 : Int32} {p : Nat} (Vp : es_V f1 p 64) (hk : ∀ y2 a', es_V y2 16 17 → (∀ j, a' j = if j < 16 then a16 (16 * p + j) else a17 j) → ∀ f, wX_deliverAll_18 post J x1 f1 f2 f3 f4 (f + 1) y2 a1 a2 a3 a4 a5 a6 a7 a8 a9 a10 a11 a12 a13 a14 a15 a16 a') :
    ∀ (d i : Nat) (x2 : Int32) (a' : Nat → Int32), i + d = 16 → es_V x2 i 17 → (∀ j, a' j = if j < i then a16 (16 * p + j) else a17 j) → wX_deliverAll_18 post J x1 f1 f2 f3 f4 (d + 1) x2 a1 a2 a3 a4 a5 a6 a7 a8 a9 a10 a11 a12 a13 a14 a15 a16 a' := by
  have hp := Vp.2
  intro d
  induction d with
  | zero =>
    intro i x2 a' hi V2 H
    have e : i = 16 := by omega
    subst e
    exact hk x2 a' V2 H 0
  | succ d ih =>
    intro i x2 a' hi V2 H
    have Wr : es_V ((16 * f1) + x2) (16 * p + i) 1024 := es_vb (es_va (es_vm (es_vl 16 16) Vp) V2) (by omega)
    have Ww : es_V x2 i 16 := es_vb V2 (by omega)
    refine es_leF (es_vl 16 16) V2 (by omega) ⟨es_in Wr Wr.2, es_in Ww Ww.2, fun b e y ey => ih (i + 1) y b (by omega) (es_vb (es_vq ey (es_v1 V2)) (by omega)) (fun j => ?_)⟩
    rw [e, es_clamp Ww, es_clamp Wr]
    by_cases q : j = i
    · rw [q, pk_us, if_pos (by omega)]
    · rw [pk_un q, H j]
      by_cases z : j < i
      · rw [if_pos z, if_pos (by omega)]
      · rw [if_neg z, if_neg (by omega)]
theorem es_s_da {post : St2 → Prop} {k : Nat → Nat → Nat → Nat → Bool} (hk : ∀ f1 f2 f3 f4 a1 a2 a3 a4 a5 a6 a7 a8 a9 a10 a11 a12 a13 a14 a15 a16 a17 N L Q M, es_R g key s f1 f2 f3 f4 a1 a2 a3 a4 a5 a6 a7 a8 a9 a10 a11 a12 a13 a14 a15 a16 a17 N L Q M → k N L Q M = true → post (f1, f2, f3, f4, a1, a2, a3, a4, a5, a6, a7, a8, a9, a10, a11, a12, a13, a14, a15, a16, a17)) : ∀ (f : Nat) (x1 : Int32) (x : Nat) (f1 f2 f3 f4 : Int32) (a1 a2 a3 a4 a5 a6 a7 a8 a9 a10 a11 a12 a13 a14 a15 a16 a17 : Nat → Int32) (N L Q M : Nat), es_V x1 x 5001 → x + f ≤ 5000 → es_R g key s f1 f2 f3 f4 a1 a2 a3 a4 a5 a6 a7 a8 a9 a10 a11 a12 a13 a14 a15 a16 a17 N L Q M → es_da k f N L Q M = true → wX_deliverAll_2 post f x1 f1 f2 f3 f4 a1 a2 a3 a4 a5 a6 a7 a8 a9 a10 a11 a12 a13 a14 a15 a16 a17 := by
  intro f
  induction f with
  | zero => intro x1 x f1 f2 f3 f4 a1 a2 a3 a4 a5 a6 a7 a8 a9 a10 a11 a12 a13 a14 a15 a16 a17 N L Q M V1 hx R h; exact es_ff h
  | succ f ih =>
    intro x1 x f1 f2 f3 f4 a1 a2 a3 a4 a5 a6 a7 a8 a9 a10 a11 a12 a13 a14 a15 a16 a17 N L Q M V1 hx R h
    refine es_leF (es_vl 5000 5000) V1 (by omega) ?_
    have h0 : es_dab k (es_da k f) N L Q M = true := h
    rcases es_ceq (es_fe h0 :) with ⟨z, h⟩ | ⟨z, h⟩
    · exact es_leT (es_rf2 R) (es_vl 0 0) (by omega) (hk _ _ _ _ _ _ _ _ _ _ _ _ _ _ _ _ _ _ _ _ _ _ _ _ _ R h)
    refine es_leF (es_rf2 R) (es_vl 0 0) (by omega) ⟨17, ?_⟩
    have h1 := es_gle (es_fe h :)
    have h2 := es_gT (es_fe h1.2 :)
    have hp : es_rd N 120 ≤ 63 := h1.1
    have Vp : es_V f1 (es_rd N 120) 64 := es_vb (es_rf1 R) (by omega)
    refine es_s_18 Vp (fun y2 a' W2 H f' => es_leT (es_vl 16 16) W2 (by decide) ⟨by decide, fun g5 e5 g6 e6 => ?_⟩) 16 0 0 a17 rfl (es_vw (es_vl 0 0)) (fun j => by rw [if_neg (by omega)])
    have lw := es_rd_lt N 121
    have hv : (es_rd N 120 + 1) % 64 < 256 := Nat.lt_of_lt_of_le (Nat.mod_lt _ (by decide)) (by decide)
    have RM : es_R g key s f1 f2 f3 f4 a1 a2 a3 a4 a5 a6 a7 a8 a9 a10 a11 a12 a13 a14 a15 a16 a' N L Q (es_ck Q (16 * es_rd N 120) 16) := by
      have c : ∀ j, j < 16 → a' j = g (es_rd (es_ck Q (16 * es_rd N 120) 16) j) := fun j hj => by
        rw [H j, if_pos hj, es_rd_ck hj]
        exact es_pa16 R _ (by omega)
      refine es_ma17 R ⟨fun j hj => ?_, c⟩
      rw [show Nat.add 0 j = j from Nat.zero_add j, c j (by omega)]
      exact (es_pE R).1 _ (es_low h2.1 j hj)
    have R1 := es_tf1 RM (es_vq e5 (es_vrem (es_v1 (es_rf1 RM)) (show (64 : Int32) = nI 64 from rfl) (by decide) (by decide) (by decide))) hv
    have R2 := es_tf2 R1 (es_vr (es_vq e6 (es_vs (es_rf2 RM) (es_vl 1 1) (by omega))) rfl) (show es_rd N 121 - 1 < 256 by omega)
    have h3 := es_gle (es_fe (es_fe h2.2 :) :)
    have h4 := es_gle (es_fe h3.2 :)
    have U1 : es_V (a' 1) (es_rd (es_ck Q (16 * es_rd N 120) 16) 1) 5 := es_vb (es_r17 R2 1) (Nat.lt_succ_of_le h3.1)
    have U2 : es_V (a' 2) (es_rd (es_ck Q (16 * es_rd N 120) 16) 2) 5 := es_vb (es_r17 R2 2) (Nat.lt_succ_of_le h4.1)
    have nx : ∀ y, y = x1 + 1 → es_V y (x + 1) 5001 := fun y ey => es_vb (es_vq ey (es_v1 V1)) (by omega)
    exact es_s_areJoined R2 U1 U2 h4.2 (fun h => br_f (by decide) (es_s_deliver R2 (es_r17 R2 0) U1 U2 h (fun f1 f2 f3 f4 a1 a2 a3 a4 a5 a6 a7 a8 a9 a10 a11 a12 a13 a14 a15 a16 a17 N L Q R h => fun y ey => ih y (x + 1) f1 f2 f3 f4 a1 a2 a3 a4 a5 a6 a7 a8 a9 a10 a11 a12 a13 a14 a15 a16 a17 N L Q _ (nx y ey) (by omega) R h))) (fun h => br_t rfl (fun y ey => ih y (x + 1) _ _ _ _ _ _ _ _ _ _ _ _ _ _ _ _ _ _ _ _ _ _ _ _ _ (nx y ey) (by omega) R2 h))
theorem es_s_deliverAll {post : St2 → Prop} {k : Nat → Nat → Nat → Nat → Bool} (R : es_R g key s f1 f2 f3 f4 a1 a2 a3 a4 a5 a6 a7 a8 a9 a10 a11 a12 a13 a14 a15 a16 a17 N L Q M) (h : es_da k 200 N L Q M = true) (hk : ∀ f1 f2 f3 f4 a1 a2 a3 a4 a5 a6 a7 a8 a9 a10 a11 a12 a13 a14 a15 a16 a17 N L Q M, es_R g key s f1 f2 f3 f4 a1 a2 a3 a4 a5 a6 a7 a8 a9 a10 a11 a12 a13 a14 a15 a16 a17 N L Q M → k N L Q M = true → post (f1, f2, f3, f4, a1, a2, a3, a4, a5, a6, a7, a8, a9, a10, a11, a12, a13, a14, a15, a16, a17)) : wpX_deliverAll post (f1, f2, f3, f4, a1, a2, a3, a4, a5, a6, a7, a8, a9, a10, a11, a12, a13, a14, a15, a16, a17) := ⟨200, es_s_da hk 200 0 0 f1 f2 f3 f4 a1 a2 a3 a4 a5 a6 a7 a8 a9 a10 a11 a12 a13 a14 a15 a16 a17 N L Q M (es_vw (es_vl 0 0)) (by decide) R h⟩
theorem es_s_spread {post : St2 → Prop} {k : Nat → Nat → Nat → Nat → Bool} (R : es_R g key s f1 f2 f3 f4 a1 a2 a3 a4 a5 a6 a7 a8 a9 a10 a11 a12 a13 a14 a15 a16 a17 N L Q M) {p0 : Int32} {n : Nat} (V0 : es_V p0 n 5) (h : es_sp k N L Q M n = true) (hk : ∀ f1 f2 f3 f4 a1 a2 a3 a4 a5 a6 a7 a8 a9 a10 a11 a12 a13 a14 a15 a16 a17 N L Q M, es_R g key s f1 f2 f3 f4 a1 a2 a3 a4 a5 a6 a7 a8 a9 a10 a11 a12 a13 a14 a15 a16 a17 N L Q M → k N L Q M = true → post (f1, f2, f3, f4, a1, a2, a3, a4, a5, a6, a7, a8, a9, a10, a11, a12, a13, a14, a15, a16, a17)) : wpX_spread post (f1, f2, f3, f4, a1, a2, a3, a4, a5, a6, a7, a8, a9, a10, a11, a12, a13, a14, a15, a16, a17) p0 := by
  unfold wpX_spread
  exact es_s_countMost R V0 h (fun f1 f2 f3 f4 a1 a2 a3 a4 a5 a6 a7 a8 a9 a10 a11 a12 a13 a14 a15 a16 a17 N R h => es_s_sendAll R V0 h (fun f1 f2 f3 f4 a1 a2 a3 a4 a5 a6 a7 a8 a9 a10 a11 a12 a13 a14 a15 a16 a17 N Q R h => es_s_deliverAll R h (fun f1 f2 f3 f4 a1 a2 a3 a4 a5 a6 a7 a8 a9 a10 a11 a12 a13 a14 a15 a16 a17 N L Q M R h => hk f1 f2 f3 f4 a1 a2 a3 a4 a5 a6 a7 a8 a9 a10 a11 a12 a13 a14 a15 a16 a17 N L Q M R h)))
end
end
section
/-! asks, write, lead, stands, hold, settle -/
noncomputable def es_as1 (k : Nat → Nat → Bool) (L n set st o N Q : Nat) : Bool := es_i (Nat.beq o n) (k N Q) (es_i (Nat.beq (Nat.mod (Nat.shiftRight set o) 2) 1) (es_f (es_la N n) (fun la => es_i (Nat.ble la 255) (es_tm (fun b => es_po (fun _ N Q => k N Q) N Q st n o la b 0) N L n la) false)) (k N Q))
noncomputable def es_as2 (t e : Nat → Nat → Nat → Nat → Bool) (n set N L Q M : Nat) : Bool := es_f (es_rd N (Nat.add 25 n)) (fun v => es_i (Nat.ble v 31) (es_i (es_mo v set) (e N L Q M) (t N L Q M)) false)
noncomputable def es_as (t e : Nat → Nat → Nat → Nat → Bool) (N L Q M n st : Nat) : Bool := es_mem (fun set => es_f (es_wr N (Nat.add 25 n) (Nat.shiftLeft 1 n)) (fun N => es_as1 (es_as1 (es_as1 (es_as1 (es_as1 (fun N Q => es_da (es_as2 t e n set) 200 N L Q M) L n set st 4) L n set st 3) L n set st 2) L n set st 1) L n set st 0 N Q)) N L n
noncomputable def es_wt (k : Nat → Nat → Bool) (N L n b1 b2 b3 : Nat) : Bool := es_ne (fun c N L => es_f (es_rd N (Nat.add 15 n)) (fun t => es_i (Nat.ble t 127) (es_f (es_wc L c 7 (es_pk t b1 b2 b3 0 0 0)) (fun L' => es_f (es_la N n) (fun la => es_i (Nat.ble la 255) (es_f (es_wr N (Nat.add 75 (Nat.add (Nat.mul 5 n) n)) la) (fun N' => k N' L')) false))) false)) N L n
noncomputable def es_lx (k : Nat → Bool) (n o N : Nat) : Bool := es_f (es_la N n) (fun la => es_i (Nat.ble la 254) (es_f (es_wr (es_wr N (Nat.add 50 (Nat.add (Nat.mul 5 n) o)) (Nat.add la 1)) (Nat.add 75 (Nat.add (Nat.mul 5 n) o)) 0) k) false)
noncomputable def es_lead (k : Nat → Nat → Bool) (N L n : Nat) : Bool := es_f (es_wr (es_wr N (Nat.add 10 n) 1) 122 0) (fun N => es_lx (es_lx (es_lx (es_lx (es_lx (fun N => es_wt k N L n 3 0 0) n 4) n 3) n 2) n 1) n 0 N)
noncomputable def es_sd (kt ke : Nat → Nat → Nat → Nat → Bool) (N L Q M n : Nat) : Bool := es_i (Nat.beq (es_rd N n) 0) (ke N L Q M) (es_mem (fun set => es_i (Nat.beq (Nat.mod (Nat.shiftRight set n) 2) 0) (ke N L Q M) (es_as (fun N L Q M => es_f (es_rd N (Nat.add 15 n)) (fun t => es_i (Nat.ble t 126) (es_f (es_wr (es_wr N (Nat.add 15 n) (Nat.add t 1)) (Nat.add 20 n) (Nat.add n 1)) (fun N => es_as (fun N L Q M => es_lead (fun N L => kt N L Q M) N L n) ke N L Q M n 3)) false)) ke N L Q M n 1)) N L n)
noncomputable def es_hA (k nx : Nat → Nat → Nat → Nat → Bool) (n N L Q M : Nat) : Bool := es_i (Nat.ble (es_la N n) (es_rd N (Nat.add 45 n))) (es_sd k nx N L Q M n) (nx N L Q M)
noncomputable def es_hB (k nx : Nat → Nat → Nat → Nat → Bool) (n N L Q M : Nat) : Bool := es_i (Nat.ble (es_la N n) (es_rd N (Nat.add 45 n))) (nx N L Q M) (es_sd k nx N L Q M n)
noncomputable def es_ho (k : Nat → Nat → Nat → Nat → Bool) (N L Q M : Nat) : Bool := es_hA k (es_hA k (es_hA k (es_hA k (es_hA k (es_hB k (es_hB k (es_hB k (es_hB k (es_hB k k 4) 3) 2) 1) 0) 4) 3) 2) 1) 0 N L Q M
noncomputable def es_22 (k : Nat → Nat → Nat → Nat → Bool) (N L Q M : Nat) : Bool := es_ld (k N L Q M) (fun n => es_sp (fun N L Q M => es_sp (fun N L Q M => es_gu (fun N => k N L Q M) N L) N L Q M n) N L Q M n) N
noncomputable def es_s1 (k : Nat → Nat → Nat → Nat → Bool) (N L Q M : Nat) : Bool := es_ld (es_ho (es_22 k) N L Q M) (fun _ => es_22 k N L Q M) N
noncomputable def es_se (k : Nat → Nat → Nat → Nat → Bool) (N L Q M : Nat) : Bool := es_gu (fun N => es_s1 (es_s1 (es_s1 k)) N L Q M) N L
section
variable {g : Nat → Int32} {key s : Nat} {f1 f2 f3 f4 : Int32} {a1 a2 a3 a4 a5 a6 a7 a8 a9 a10 a11 a12 a13 a14 a15 a16 a17 : Nat → Int32} {N L Q M : Nat}
theorem es_ass {post : Int32 → St2 → Prop} {k : Nat → Nat → Bool} {x1 x2 x3 x4 : Int32} {n set st o f : Nat} (V1 : es_V x1 n 5) (V2 : es_V x2 st 256) (V3 : es_V x3 set 32) (V4 : es_V x4 o 5) (R : es_R g key s f1 f2 f3 f4 a1 a2 a3 a4 a5 a6 a7 a8 a9 a10 a11 a12 a13 a14 a15 a16 a17 N L Q M) (h : es_as1 k L n set st o N Q = true) (hn : ∀ y f1 f2 f3 f4 a1 a2 a3 a4 a5 a6 a7 a8 a9 a10 a11 a12 a13 a14 a15 a16 a17 N Q, es_V y (o + 1) 6 → es_R g key s f1 f2 f3 f4 a1 a2 a3 a4 a5 a6 a7 a8 a9 a10 a11 a12 a13 a14 a15 a16 a17 N L Q M → k N Q = true → wX_asks_18 post x1 x2 x3 f y f1 f2 f3 f4 a1 a2 a3 a4 a5 a6 a7 a8 a9 a10 a11 a12 a13 a14 a15 a16 a17) : wX_asks_18 post x1 x2 x3 (f + 1) x4 f1 f2 f3 f4 a1 a2 a3 a4 a5 a6 a7 a8 a9 a10 a11 a12 a13 a14 a15 a16 a17 :=
  es_leF (es_vl 5 5) V4 V4.2 (es_eq V4 V1 h (fun _ h => fun y ey => hn y _ _ _ _ _ _ _ _ _ _ _ _ _ _ _ _ _ _ _ _ _ _ _ (es_vq ey (es_v1 V4)) R h)
    (fun _ h => es_eq (es_vbit V3 V4) (es_vl 1 1) h (fun _ h => es_s_lastOf R V1 (fun r W => es_s_termAt R V1 (es_vw W) (es_gle (es_fe h :)).2 (fun r' b Wb h' => es_s_post R V2 V1 V4 (es_vb W (Nat.lt_succ_of_le (es_gle (es_fe h :)).1)) Wb (es_vw (es_vl 0 0)) h' (fun r p f1 f2 f3 f4 a1 a2 a3 a4 a5 a6 a7 a8 a9 a10 a11 a12 a13 a14 a15 a16 a17 N Q Wp hp R h => fun y ey => hn y _ _ _ _ _ _ _ _ _ _ _ _ _ _ _ _ _ _ _ _ _ _ _ (es_vq ey (es_v1 V4)) R h)))) (fun _ h => fun y ey => hn y _ _ _ _ _ _ _ _ _ _ _ _ _ _ _ _ _ _ _ _ _ _ _ (es_vq ey (es_v1 V4)) R h)))
theorem es_s_asks {post : Int32 → St2 → Prop} {t e : Nat → Nat → Nat → Nat → Bool} (R : es_R g key s f1 f2 f3 f4 a1 a2 a3 a4 a5 a6 a7 a8 a9 a10 a11 a12 a13 a14 a15 a16 a17 N L Q M) {p0 p1 : Int32} {n st : Nat} (V0 : es_V p0 n 5) (V1 : es_V p1 st 256) (h : es_as t e N L Q M n st = true) (ht : ∀ f1 f2 f3 f4 a1 a2 a3 a4 a5 a6 a7 a8 a9 a10 a11 a12 a13 a14 a15 a16 a17 N L Q M, es_R g key s f1 f2 f3 f4 a1 a2 a3 a4 a5 a6 a7 a8 a9 a10 a11 a12 a13 a14 a15 a16 a17 N L Q M → t N L Q M = true → post 1 (f1, f2, f3, f4, a1, a2, a3, a4, a5, a6, a7, a8, a9, a10, a11, a12, a13, a14, a15, a16, a17)) (he : ∀ f1 f2 f3 f4 a1 a2 a3 a4 a5 a6 a7 a8 a9 a10 a11 a12 a13 a14 a15 a16 a17 N L Q M, es_R g key s f1 f2 f3 f4 a1 a2 a3 a4 a5 a6 a7 a8 a9 a10 a11 a12 a13 a14 a15 a16 a17 N L Q M → e N L Q M = true → post 0 (f1, f2, f3, f4, a1, a2, a3, a4, a5, a6, a7, a8, a9, a10, a11, a12, a13, a14, a15, a16, a17)) : wpX_asks post (f1, f2, f3, f4, a1, a2, a3, a4, a5, a6, a7, a8, a9, a10, a11, a12, a13, a14, a15, a16, a17) p0 p1 := by
  unfold wpX_asks
  exact es_s_mem R V0 h (fun r set W2 h => ⟨es_in V0 V0.2, fun b eb => ⟨6, es_ass (o := 0) V0 V1 W2 (es_vw (es_vl 0 0)) (es_t6 R V0 (es_vsh V0) (Nat.lt_of_lt_of_le (es_vsh V0).2 (by decide)) eb) (es_fe h :) (fun y f1 f2 f3 f4 a1 a2 a3 a4 a5 a6 a7 a8 a9 a10 a11 a12 a13 a14 a15 a16 a17 N Q W R h => es_ass (o := 1) V0 V1 W2 (es_vb W (by decide)) R h (fun y f1 f2 f3 f4 a1 a2 a3 a4 a5 a6 a7 a8 a9 a10 a11 a12 a13 a14 a15 a16 a17 N Q W R h => es_ass (o := 2) V0 V1 W2 (es_vb W (by decide)) R h (fun y f1 f2 f3 f4 a1 a2 a3 a4 a5 a6 a7 a8 a9 a10 a11 a12 a13 a14 a15 a16 a17 N Q W R h => es_ass (o := 3) V0 V1 W2 (es_vb W (by decide)) R h (fun y f1 f2 f3 f4 a1 a2 a3 a4 a5 a6 a7 a8 a9 a10 a11 a12 a13 a14 a15 a16 a17 N Q W R h => es_ass (o := 4) V0 V1 W2 (es_vb W (by decide)) R h (fun y f1 f2 f3 f4 a1 a2 a3 a4 a5 a6 a7 a8 a9 a10 a11 a12 a13 a14 a15 a16 a17 N Q W R h => es_leT (es_vl 5 5) W (by decide) (es_s_deliverAll R h (fun f1 f2 f3 f4 a1 a2 a3 a4 a5 a6 a7 a8 a9 a10 a11 a12 a13 a14 a15 a16 a17 N L Q M R h => ⟨es_in V0 V0.2, es_s_isMost (es_vb (es_r6 R V0) (Nat.lt_succ_of_le (es_gle (es_fe h :)).1)) W2 (es_gle (es_fe h :)).2 (fun h => ⟨rfl, ht f1 f2 f3 f4 a1 a2 a3 a4 a5 a6 a7 a8 a9 a10 a11 a12 a13 a14 a15 a16 a17 N L Q M R h⟩) (fun h => ⟨rfl, he f1 f2 f3 f4 a1 a2 a3 a4 a5 a6 a7 a8 a9 a10 a11 a12 a13 a14 a15 a16 a17 N L Q M R h⟩)⟩)))))))⟩⟩)
theorem es_s_write {post : St2 → Prop} {k : Nat → Nat → Bool} (R : es_R g key s f1 f2 f3 f4 a1 a2 a3 a4 a5 a6 a7 a8 a9 a10 a11 a12 a13 a14 a15 a16 a17 N L Q M) {p0 p1 p2 p3 : Int32} {n b1 b2 b3 : Nat} (V0 : es_V p0 n 5) (h1 : p1 = g b1) (l1 : b1 < 256) (h2 : p2 = g b2) (l2 : b2 < 256) (h3 : p3 = g b3) (l3 : b3 < 256) (h : es_wt k N L n b1 b2 b3 = true) (hk : ∀ f1 f2 f3 f4 a1 a2 a3 a4 a5 a6 a7 a8 a9 a10 a11 a12 a13 a14 a15 a16 a17 N L, es_R g key s f1 f2 f3 f4 a1 a2 a3 a4 a5 a6 a7 a8 a9 a10 a11 a12 a13 a14 a15 a16 a17 N L Q M → k N L = true → post (f1, f2, f3, f4, a1, a2, a3, a4, a5, a6, a7, a8, a9, a10, a11, a12, a13, a14, a15, a16, a17)) : wpX_write post (f1, f2, f3, f4, a1, a2, a3, a4, a5, a6, a7, a8, a9, a10, a11, a12, a13, a14, a15, a16, a17) p0 p1 p2 p3 := by
  have hn := V0.2
  unfold wpX_write
  refine es_s_newEntry R V0 h (fun r c f1 f2 f3 f4 a1 a2 a3 a4 a5 a6 a7 a8 a9 a10 a11 a12 a13 a14 a15 a16 a17 N L W hc R h => ⟨es_in V0 V0.2, es_in W W.2, fun d1 e1 => ⟨es_in (es_c1 W hc) (es_c1 W hc).2, fun d2 e2 => ⟨es_in (es_c2 W hc) (es_c2 W hc).2, fun d3 e3 => ⟨es_in (es_c3 W hc) (es_c3 W hc).2, fun d4 e4 => ⟨es_in (es_c4 W hc) (es_c4 W hc).2, fun d5 e5 => ⟨es_in (es_c5 W hc) (es_c5 W hc).2, fun d6 e6 => ⟨es_in (es_c6 W hc) (es_c6 W hc).2, fun d7 e7 => ?_⟩⟩⟩⟩⟩⟩⟩)
  have g1 := es_gle (es_fe h :)
  have g2 := es_gle (es_fe (es_fe g1.2 :) :)
  have lt : es_rd N (Nat.add 15 n) < 128 := Nat.lt_succ_of_le g1.1
  have B := es_pk_b (ch := es_pk (es_rd N (Nat.add 15 n)) b1 b2 b3 0 0 0) rfl (es_rd_lt _ _) l1 l2 l3 (by decide) (by decide) (by decide)
  have z0 : (0 : Int32) = g 0 := ((es_pE R).1 0 (by decide)).symm
  have v0 : a4 p0.toNatClampNeg = g (es_rd N (Nat.add 15 n)) := (es_r4 R V0).1.trans ((es_pE R).1 _ lt).symm
  have R1 : es_R g key s f1 f2 f3 f4 a1 a2 a3 a4 a5 a6 a7 a8 a9 d7 a11 a12 a13 a14 a15 a16 a17 N (es_wc L c 7 (es_pk (es_rd N (Nat.add 15 n)) b1 b2 b3 0 0 0)) Q M := by
    refine es_ma10 R (es_Gc (es_pa10 R) ?_ ?_ ?_)
    rotate_left 1
    all_goals
      try rw [es_clamp W] at e1
      try rw [es_clamp (es_c1 W hc)] at e2
      try rw [es_clamp (es_c2 W hc)] at e3
      try rw [es_clamp (es_c3 W hc)] at e4
      try rw [es_clamp (es_c4 W hc)] at e5
      try rw [es_clamp (es_c5 W hc)] at e6
      try rw [es_clamp (es_c6 W hc)] at e7
      try subst e1 e2 e3 e4 e5 e6 e7
    · intro k hk
      have K : k = 0 ∨ k = 1 ∨ k = 2 ∨ k = 3 ∨ k = 4 ∨ k = 5 ∨ k = 6 := by omega
      rcases K with q | q | q | q | q | q | q <;> subst q
      · rw [pk_un (by omega), pk_un (by omega), pk_un (by omega), pk_un (by omega), pk_un (by omega), pk_un (by omega), show c + 0 = c from rfl, pk_us, B.1]
        exact v0
      · rw [pk_un (by omega), pk_un (by omega), pk_un (by omega), pk_un (by omega), pk_un (by omega), pk_us, B.2.1]
        exact h1
      · rw [pk_un (by omega), pk_un (by omega), pk_un (by omega), pk_un (by omega), pk_us, B.2.2.1]
        exact h2
      · rw [pk_un (by omega), pk_un (by omega), pk_un (by omega), pk_us, B.2.2.2.1]
        exact h3
      · rw [pk_un (by omega), pk_un (by omega), pk_us, B.2.2.2.2.1]
        exact z0
      · rw [pk_un (by omega), pk_us, B.2.2.2.2.2.1]
        exact z0
      · rw [pk_us, B.2.2.2.2.2.2.1]
        exact z0
    · intro j hj ho
      rw [pk_un (by omega), pk_un (by omega), pk_un (by omega), pk_un (by omega), pk_un (by omega), pk_un (by omega), pk_un (by omega)]
    · have t : es_pk (es_rd N (Nat.add 15 n)) b1 b2 b3 0 0 0 = es_rd N (Nat.add 15 n) + 256 * (b1 + 256 * (b2 + 256 * (b3 + 256 * (0 + 256 * (0 + 256 * 0))))) := rfl
      rw [t]
      show _ < 72057594037927936
      omega
  have Vm : es_V ((5 * p0) + p0) (5 * n + n) 25 := es_vb (es_va (es_vm (es_vl 5 5) V0) V0) (by omega)
  exact es_s_lastOf R1 V0 (fun r W => ⟨es_in Vm Vm.2, fun b e => hk _ _ _ _ _ _ _ _ _ _ _ _ _ _ _ _ _ _ _ _ _ _ _ (es_t15 R1 Vm W (Nat.lt_succ_of_le g2.1) e) (es_fe g2.2 :)⟩)
theorem es_lxs {post : St2 → Prop} {k : Nat → Bool} {x1 x2 : Int32} {n o f : Nat} (V1 : es_V x1 n 5) (V2 : es_V x2 o 5) (R : es_R g key s f1 f2 f3 f4 a1 a2 a3 a4 a5 a6 a7 a8 a9 a10 a11 a12 a13 a14 a15 a16 a17 N L Q M) (h : es_lx k n o N = true) (hn : ∀ y c14 c15 N, es_V y (o + 1) 6 → es_R g key s f1 f2 f3 f4 a1 a2 a3 a4 a5 a6 a7 a8 a9 a10 a11 a12 a13 c14 c15 a16 a17 N L Q M → k N = true → wX_lead_14 post x1 f1 f2 f3 f4 f y a1 a2 a3 a4 a5 a6 a7 a8 a9 a10 a11 a12 a13 c14 c15 a16 a17) : wX_lead_14 post x1 f1 f2 f3 f4 (f + 1) x2 a1 a2 a3 a4 a5 a6 a7 a8 a9 a10 a11 a12 a13 a14 a15 a16 a17 := by
  have h5 := V1.2
  have ho := V2.2
  have Vi : es_V ((5 * x1) + x2) (5 * n + o) 25 := es_vb (es_va (es_vm (es_vl 5 5) V1) V2) (by omega)
  have g1 := es_gle (es_fe h :)
  have hv : es_la N n + 1 < 256 := by
    have : es_la N n ≤ 254 := g1.1
    omega
  exact es_leF (es_vl 5 5) V2 V2.2 (es_s_lastOf R V1 (fun r W => ⟨es_in Vi Vi.2, fun b e => ⟨es_in Vi Vi.2, fun c i y ey => hn y b c _ (es_vq ey (es_v1 V2)) (es_t15 (es_t14 R Vi (es_v1 W) hv e) Vi (es_vl 0 0) (by decide) i) (es_fe g1.2 :)⟩⟩))
theorem es_s_lead {post : St2 → Prop} {k : Nat → Nat → Bool} (R : es_R g key s f1 f2 f3 f4 a1 a2 a3 a4 a5 a6 a7 a8 a9 a10 a11 a12 a13 a14 a15 a16 a17 N L Q M) {p0 : Int32} {n : Nat} (V0 : es_V p0 n 5) (h : es_lead k N L n = true) (hk : ∀ f1 f2 f3 f4 a1 a2 a3 a4 a5 a6 a7 a8 a9 a10 a11 a12 a13 a14 a15 a16 a17 N L, es_R g key s f1 f2 f3 f4 a1 a2 a3 a4 a5 a6 a7 a8 a9 a10 a11 a12 a13 a14 a15 a16 a17 N L Q M → k N L = true → post (f1, f2, f3, f4, a1, a2, a3, a4, a5, a6, a7, a8, a9, a10, a11, a12, a13, a14, a15, a16, a17)) : wpX_lead post (f1, f2, f3, f4, a1, a2, a3, a4, a5, a6, a7, a8, a9, a10, a11, a12, a13, a14, a15, a16, a17) p0 :=
  ⟨es_in V0 V0.2, fun b e => ⟨6, es_lxs (o := 0) V0 (es_vw (es_vl 0 0)) (es_tf3 (es_t3 R V0 (es_vl 1 1) (by decide) e) es_o0.symm (by decide)) (es_fe h :) (fun y a14 a15 N W R h => es_lxs (o := 1) V0 (es_vb W (by decide)) R h (fun y a14 a15 N W R h => es_lxs (o := 2) V0 (es_vb W (by decide)) R h (fun y a14 a15 N W R h => es_lxs (o := 3) V0 (es_vb W (by decide)) R h (fun y a14 a15 N W R h => es_lxs (o := 4) V0 (es_vb W (by decide)) R h (fun y a14 a15 N W R h => es_leT (es_vl 5 5) W (by decide) (es_s_write R V0 ((es_pE R).1 3 (by decide)).symm (by decide) ((es_pE R).1 0 (by decide)).symm (by decide) ((es_pE R).1 0 (by decide)).symm (by decide) h (fun f1 f2 f3 f4 a1 a2 a3 a4 a5 a6 a7 a8 a9 a10 a11 a12 a13 a14 a15 a16 a17 N L R h => hk f1 f2 f3 f4 a1 a2 a3 a4 a5 a6 a7 a8 a9 a10 a11 a12 a13 a14 a15 a16 a17 N L R h)))))))⟩⟩
theorem es_s_stands {post : Int32 → St2 → Prop} {kt ke : Nat → Nat → Nat → Nat → Bool} (R : es_R g key s f1 f2 f3 f4 a1 a2 a3 a4 a5 a6 a7 a8 a9 a10 a11 a12 a13 a14 a15 a16 a17 N L Q M) {p0 : Int32} {n : Nat} (V0 : es_V p0 n 5) (h : es_sd kt ke N L Q M n = true) (ht : ∀ f1 f2 f3 f4 a1 a2 a3 a4 a5 a6 a7 a8 a9 a10 a11 a12 a13 a14 a15 a16 a17 N L Q M, es_R g key s f1 f2 f3 f4 a1 a2 a3 a4 a5 a6 a7 a8 a9 a10 a11 a12 a13 a14 a15 a16 a17 N L Q M → kt N L Q M = true → post 1 (f1, f2, f3, f4, a1, a2, a3, a4, a5, a6, a7, a8, a9, a10, a11, a12, a13, a14, a15, a16, a17)) (he : ∀ f1 f2 f3 f4 a1 a2 a3 a4 a5 a6 a7 a8 a9 a10 a11 a12 a13 a14 a15 a16 a17 N L Q M, es_R g key s f1 f2 f3 f4 a1 a2 a3 a4 a5 a6 a7 a8 a9 a10 a11 a12 a13 a14 a15 a16 a17 N L Q M → ke N L Q M = true → post 0 (f1, f2, f3, f4, a1, a2, a3, a4, a5, a6, a7, a8, a9, a10, a11, a12, a13, a14, a15, a16, a17)) : wpX_stands post (f1, f2, f3, f4, a1, a2, a3, a4, a5, a6, a7, a8, a9, a10, a11, a12, a13, a14, a15, a16, a17) p0 := by
  have hn := V0.2
  refine ⟨es_in V0 V0.2, es_eq (es_r1 R V0) (es_vl 0 0) h (fun _ h => he _ _ _ _ _ _ _ _ _ _ _ _ _ _ _ _ _ _ _ _ _ _ _ _ _ R h) (fun _ h => es_s_mem R V0 h (fun r set W h => es_eq (es_vbit W V0) (es_vl 0 0) h (fun _ h => he _ _ _ _ _ _ _ _ _ _ _ _ _ _ _ _ _ _ _ _ _ _ _ _ _ R h) (fun _ h => es_s_asks R V0 (es_vw (es_vl 1 1)) h (fun f1 f2 f3 f4 a1 a2 a3 a4 a5 a6 a7 a8 a9 a10 a11 a12 a13 a14 a15 a16 a17 N L Q M R h => br_f (by decide) ⟨es_in V0 V0.2, es_in V0 V0.2, fun b e => ⟨es_in V0 V0.2, fun c i => ?_⟩⟩) (fun f1 f2 f3 f4 a1 a2 a3 a4 a5 a6 a7 a8 a9 a10 a11 a12 a13 a14 a15 a16 a17 N L Q M R h => br_t rfl (he f1 f2 f3 f4 a1 a2 a3 a4 a5 a6 a7 a8 a9 a10 a11 a12 a13 a14 a15 a16 a17 N L Q M R h)))))⟩
  have g1 := es_gle (es_fe h :)
  have hv : es_rd N (15 + n) + 1 < 256 := by
    have : es_rd N (15 + n) ≤ 126 := g1.1
    omega
  have R1 := es_t5 (es_t4 R V0 (es_v1 (es_r4 R V0)) hv e) V0 (V0.1.trans (es_oS n).symm) (by omega) i
  exact es_s_asks R1 V0 (es_vw (es_vl 3 3)) (es_fe g1.2 :) (fun f1 f2 f3 f4 a1 a2 a3 a4 a5 a6 a7 a8 a9 a10 a11 a12 a13 a14 a15 a16 a17 N L Q M R h => br_f (by decide) (es_s_lead R V0 h (fun f1 f2 f3 f4 a1 a2 a3 a4 a5 a6 a7 a8 a9 a10 a11 a12 a13 a14 a15 a16 a17 N L R h => ht f1 f2 f3 f4 a1 a2 a3 a4 a5 a6 a7 a8 a9 a10 a11 a12 a13 a14 a15 a16 a17 N L Q M R h))) (fun f1 f2 f3 f4 a1 a2 a3 a4 a5 a6 a7 a8 a9 a10 a11 a12 a13 a14 a15 a16 a17 N L Q M R h => br_t rfl (he f1 f2 f3 f4 a1 a2 a3 a4 a5 a6 a7 a8 a9 a10 a11 a12 a13 a14 a15 a16 a17 N L Q M R h))
theorem es_hoA {post : St2 → Prop} {k nx : Nat → Nat → Nat → Nat → Bool} {x1 : Int32} {x f : Nat} (V1 : es_V x1 x 5) (R : es_R g key s f1 f2 f3 f4 a1 a2 a3 a4 a5 a6 a7 a8 a9 a10 a11 a12 a13 a14 a15 a16 a17 N L Q M) (h : es_hA k nx x N L Q M = true) (hk : ∀ f1 f2 f3 f4 a1 a2 a3 a4 a5 a6 a7 a8 a9 a10 a11 a12 a13 a14 a15 a16 a17 N L Q M, es_R g key s f1 f2 f3 f4 a1 a2 a3 a4 a5 a6 a7 a8 a9 a10 a11 a12 a13 a14 a15 a16 a17 N L Q M → k N L Q M = true → post (f1, f2, f3, f4, a1, a2, a3, a4, a5, a6, a7, a8, a9, a10, a11, a12, a13, a14, a15, a16, a17)) (hn : ∀ y f1 f2 f3 f4 a1 a2 a3 a4 a5 a6 a7 a8 a9 a10 a11 a12 a13 a14 a15 a16 a17 N L Q M, es_V y (x + 1) 11 → es_R g key s f1 f2 f3 f4 a1 a2 a3 a4 a5 a6 a7 a8 a9 a10 a11 a12 a13 a14 a15 a16 a17 N L Q M → nx N L Q M = true → wX_hold_2 post f y f1 f2 f3 f4 a1 a2 a3 a4 a5 a6 a7 a8 a9 a10 a11 a12 a13 a14 a15 a16 a17) : wX_hold_2 post (f + 1) x1 f1 f2 f3 f4 a1 a2 a3 a4 a5 a6 a7 a8 a9 a10 a11 a12 a13 a14 a15 a16 a17 := by
  have hx := V1.2
  refine es_leF (es_vl 10 10) V1 (by omega) ⟨by decide, fun x2 e2 => ?_⟩
  have V2 : es_V x2 x 5 := es_vr (es_vq e2 (es_vrem V1 (show (5 : Int32) = nI 5 from rfl) (by decide) (by decide) (by decide))) (Nat.mod_eq_of_lt hx)
  have nxt : ∀ y, y = x1 + 1 → es_V y (x + 1) 11 := fun y ey => es_vb (es_vq ey (es_v1 V1)) (by omega)
  exact ⟨es_in V2 V2.2, es_s_lastOf R V2 (fun r W => es_le W (es_r11 R V2) h
    (fun _ h => es_ltT V1 (es_vl 5 5) hx (br_t rfl (es_s_stands R V2 h (fun f1 f2 f3 f4 a1 a2 a3 a4 a5 a6 a7 a8 a9 a10 a11 a12 a13 a14 a15 a16 a17 N L Q M R h => br_f (by decide) (hk f1 f2 f3 f4 a1 a2 a3 a4 a5 a6 a7 a8 a9 a10 a11 a12 a13 a14 a15 a16 a17 N L Q M R h)) (fun f1 f2 f3 f4 a1 a2 a3 a4 a5 a6 a7 a8 a9 a10 a11 a12 a13 a14 a15 a16 a17 N L Q M R h => br_t rfl (fun y ey => hn y f1 f2 f3 f4 a1 a2 a3 a4 a5 a6 a7 a8 a9 a10 a11 a12 a13 a14 a15 a16 a17 N L Q M (nxt y ey) R h)))))
    (fun _ h => es_ltT V1 (es_vl 5 5) hx (br_f (by decide) (fun y ey => hn y _ _ _ _ _ _ _ _ _ _ _ _ _ _ _ _ _ _ _ _ _ _ _ _ _ (nxt y ey) R h))))⟩
theorem es_hoB {post : St2 → Prop} {k nx : Nat → Nat → Nat → Nat → Bool} {x1 : Int32} {x f n : Nat} (V1 : es_V x1 x 11) (hx : x = n + 5) (h5 : n < 5) (R : es_R g key s f1 f2 f3 f4 a1 a2 a3 a4 a5 a6 a7 a8 a9 a10 a11 a12 a13 a14 a15 a16 a17 N L Q M) (h : es_hB k nx n N L Q M = true) (hk : ∀ f1 f2 f3 f4 a1 a2 a3 a4 a5 a6 a7 a8 a9 a10 a11 a12 a13 a14 a15 a16 a17 N L Q M, es_R g key s f1 f2 f3 f4 a1 a2 a3 a4 a5 a6 a7 a8 a9 a10 a11 a12 a13 a14 a15 a16 a17 N L Q M → k N L Q M = true → post (f1, f2, f3, f4, a1, a2, a3, a4, a5, a6, a7, a8, a9, a10, a11, a12, a13, a14, a15, a16, a17)) (hn : ∀ y f1 f2 f3 f4 a1 a2 a3 a4 a5 a6 a7 a8 a9 a10 a11 a12 a13 a14 a15 a16 a17 N L Q M, es_V y (x + 1) 11 → es_R g key s f1 f2 f3 f4 a1 a2 a3 a4 a5 a6 a7 a8 a9 a10 a11 a12 a13 a14 a15 a16 a17 N L Q M → nx N L Q M = true → wX_hold_2 post f y f1 f2 f3 f4 a1 a2 a3 a4 a5 a6 a7 a8 a9 a10 a11 a12 a13 a14 a15 a16 a17) : wX_hold_2 post (f + 1) x1 f1 f2 f3 f4 a1 a2 a3 a4 a5 a6 a7 a8 a9 a10 a11 a12 a13 a14 a15 a16 a17 := by
  refine es_leF (es_vl 10 10) V1 (by omega) ⟨by decide, fun x2 e2 => ?_⟩
  have V2 : es_V x2 n 5 := es_vr (es_vq e2 (es_vrem V1 (show (5 : Int32) = nI 5 from rfl) (by decide) (by decide) (by decide))) (by omega)
  have nxt : ∀ y, y = x1 + 1 → es_V y (x + 1) 11 := fun y ey => es_vb (es_vq ey (es_v1 V1)) (by omega)
  exact ⟨es_in V2 V2.2, es_s_lastOf R V2 (fun r W => es_le W (es_r11 R V2) h
    (fun _ h => es_ltF V1 (es_vl 5 5) (by omega) (br_f (by decide) (fun y ey => hn y _ _ _ _ _ _ _ _ _ _ _ _ _ _ _ _ _ _ _ _ _ _ _ _ _ (nxt y ey) R h)))
    (fun _ h => es_ltF V1 (es_vl 5 5) (by omega) (br_t rfl (es_s_stands R V2 h (fun f1 f2 f3 f4 a1 a2 a3 a4 a5 a6 a7 a8 a9 a10 a11 a12 a13 a14 a15 a16 a17 N L Q M R h => br_f (by decide) (hk f1 f2 f3 f4 a1 a2 a3 a4 a5 a6 a7 a8 a9 a10 a11 a12 a13 a14 a15 a16 a17 N L Q M R h)) (fun f1 f2 f3 f4 a1 a2 a3 a4 a5 a6 a7 a8 a9 a10 a11 a12 a13 a14 a15 a16 a17 N L Q M R h => br_t rfl (fun y ey => hn y f1 f2 f3 f4 a1 a2 a3 a4 a5 a6 a7 a8 a9 a10 a11 a12 a13 a14 a15 a16 a17 N L Q M (nxt y ey) R h))))))⟩
theorem es_s_hold {post : St2 → Prop} {k : Nat → Nat → Nat → Nat → Bool} (R : es_R g key s f1 f2 f3 f4 a1 a2 a3 a4 a5 a6 a7 a8 a9 a10 a11 a12 a13 a14 a15 a16 a17 N L Q M) (h : es_ho k N L Q M = true) (hk : ∀ f1 f2 f3 f4 a1 a2 a3 a4 a5 a6 a7 a8 a9 a10 a11 a12 a13 a14 a15 a16 a17 N L Q M, es_R g key s f1 f2 f3 f4 a1 a2 a3 a4 a5 a6 a7 a8 a9 a10 a11 a12 a13 a14 a15 a16 a17 N L Q M → k N L Q M = true → post (f1, f2, f3, f4, a1, a2, a3, a4, a5, a6, a7, a8, a9, a10, a11, a12, a13, a14, a15, a16, a17)) : wpX_hold post (f1, f2, f3, f4, a1, a2, a3, a4, a5, a6, a7, a8, a9, a10, a11, a12, a13, a14, a15, a16, a17) :=
  ⟨11, es_hoA (x := 0) (es_vw (es_vl 0 0)) R h hk (fun y f1 f2 f3 f4 a1 a2 a3 a4 a5 a6 a7 a8 a9 a10 a11 a12 a13 a14 a15 a16 a17 N L Q M W R h => es_hoA (x := 1) (es_vb W (by decide)) R h hk (fun y f1 f2 f3 f4 a1 a2 a3 a4 a5 a6 a7 a8 a9 a10 a11 a12 a13 a14 a15 a16 a17 N L Q M W R h => es_hoA (x := 2) (es_vb W (by decide)) R h hk (fun y f1 f2 f3 f4 a1 a2 a3 a4 a5 a6 a7 a8 a9 a10 a11 a12 a13 a14 a15 a16 a17 N L Q M W R h => es_hoA (x := 3) (es_vb W (by decide)) R h hk (fun y f1 f2 f3 f4 a1 a2 a3 a4 a5 a6 a7 a8 a9 a10 a11 a12 a13 a14 a15 a16 a17 N L Q M W R h => es_hoA (x := 4) (es_vb W (by decide)) R h hk (fun y f1 f2 f3 f4 a1 a2 a3 a4 a5 a6 a7 a8 a9 a10 a11 a12 a13 a14 a15 a16 a17 N L Q M W R h => es_hoB (n := 0) W rfl (by decide) R h hk (fun y f1 f2 f3 f4 a1 a2 a3 a4 a5 a6 a7 a8 a9 a10 a11 a12 a13 a14 a15 a16 a17 N L Q M W R h => es_hoB (n := 1) W rfl (by decide) R h hk (fun y f1 f2 f3 f4 a1 a2 a3 a4 a5 a6 a7 a8 a9 a10 a11 a12 a13 a14 a15 a16 a17 N L Q M W R h => es_hoB (n := 2) W rfl (by decide) R h hk (fun y f1 f2 f3 f4 a1 a2 a3 a4 a5 a6 a7 a8 a9 a10 a11 a12 a13 a14 a15 a16 a17 N L Q M W R h => es_hoB (n := 3) W rfl (by decide) R h hk (fun y f1 f2 f3 f4 a1 a2 a3 a4 a5 a6 a7 a8 a9 a10 a11 a12 a13 a14 a15 a16 a17 N L Q M W R h => es_hoB (n := 4) W rfl (by decide) R h hk (fun y f1 f2 f3 f4 a1 a2 a3 a4 a5 a6 a7 a8 a9 a10 a11 a12 a13 a14 a15 a16 a17 N L Q M W R h => es_leT (es_vl 10 10) W (by decide) (hk f1 f2 f3 f4 a1 a2 a3 a4 a5 a6 a7 a8 a9 a10 a11 a12 a13 a14 a15 a16 a17 N L Q M R h)))))))))))⟩
theorem es_s_22 {post : St2 → Prop} {J : Int32 → Int32 → Int32 → Int32 → Int32 → (Nat → Int32) → (Nat → Int32) → (Nat → Int32) → (Nat → Int32) → (Nat → Int32) → (Nat → Int32) → (Nat → Int32) → (Nat → Int32) → (Nat → Int32) → (Nat → Int32) → (Nat → Int32) → (Nat → Int32) → (Nat → Int32) → (Nat → Int32) → (Nat → Int32) → (Nat → Int32) → (Nat → Int32) → Prop} {k : Nat → Nat → Nat → Nat → Bool} {x1 : Int32} {x : Nat} (V1 : es_V x1 x 3) (R : es_R g key s f1 f2 f3 f4 a1 a2 a3 a4 a5 a6 a7 a8 a9 a10 a11 a12 a13 a14 a15 a16 a17 N L Q M) (h : es_22 k N L Q M = true) (hj : ∀ y f1 f2 f3 f4 a1 a2 a3 a4 a5 a6 a7 a8 a9 a10 a11 a12 a13 a14 a15 a16 a17 N L Q M, es_V y (x + 1) 4 → es_R g key s f1 f2 f3 f4 a1 a2 a3 a4 a5 a6 a7 a8 a9 a10 a11 a12 a13 a14 a15 a16 a17 N L Q M → k N L Q M = true → J y f1 f2 f3 f4 a1 a2 a3 a4 a5 a6 a7 a8 a9 a10 a11 a12 a13 a14 a15 a16 a17) : wX_settle_22 post J x1 f1 f2 f3 f4 a1 a2 a3 a4 a5 a6 a7 a8 a9 a10 a11 a12 a13 a14 a15 a16 a17 := by
  unfold wX_settle_22
  exact es_s_leaderNow R h (fun h => br_t (by decide) (fun y ey => hj y _ _ _ _ _ _ _ _ _ _ _ _ _ _ _ _ _ _ _ _ _ _ _ _ _ (es_vq ey (es_v1 V1)) R h)) (fun r n W h => es_ltF W (es_vl 0 0) (Nat.zero_le _) (es_s_spread R W h (fun f1 f2 f3 f4 a1 a2 a3 a4 a5 a6 a7 a8 a9 a10 a11 a12 a13 a14 a15 a16 a17 N L Q M R h => es_s_spread R W h (fun f1 f2 f3 f4 a1 a2 a3 a4 a5 a6 a7 a8 a9 a10 a11 a12 a13 a14 a15 a16 a17 N L Q M R h => es_s_giveUp R h (fun f1 f2 f3 f4 a1 a2 a3 a4 a5 a6 a7 a8 a9 a10 a11 a12 a13 a14 a15 a16 a17 N R h => fun y ey => hj y _ _ _ _ _ _ _ _ _ _ _ _ _ _ _ _ _ _ _ _ _ _ _ _ _ (es_vq ey (es_v1 V1)) R h)))))
theorem es_s1s {post : St2 → Prop} {k : Nat → Nat → Nat → Nat → Bool} {x1 : Int32} {x f : Nat} (V1 : es_V x1 x 3) (R : es_R g key s f1 f2 f3 f4 a1 a2 a3 a4 a5 a6 a7 a8 a9 a10 a11 a12 a13 a14 a15 a16 a17 N L Q M) (h : es_s1 k N L Q M = true) (hn : ∀ y f1 f2 f3 f4 a1 a2 a3 a4 a5 a6 a7 a8 a9 a10 a11 a12 a13 a14 a15 a16 a17 N L Q M, es_V y (x + 1) 4 → es_R g key s f1 f2 f3 f4 a1 a2 a3 a4 a5 a6 a7 a8 a9 a10 a11 a12 a13 a14 a15 a16 a17 N L Q M → k N L Q M = true → wX_settle_6 post f y f1 f2 f3 f4 a1 a2 a3 a4 a5 a6 a7 a8 a9 a10 a11 a12 a13 a14 a15 a16 a17) : wX_settle_6 post (f + 1) x1 f1 f2 f3 f4 a1 a2 a3 a4 a5 a6 a7 a8 a9 a10 a11 a12 a13 a14 a15 a16 a17 :=
  es_leF (es_vl 3 3) V1 V1.2 (es_s_leaderNow R h (fun h => br_f (by decide) (es_s_hold R h (fun f1 f2 f3 f4 a1 a2 a3 a4 a5 a6 a7 a8 a9 a10 a11 a12 a13 a14 a15 a16 a17 N L Q M R h => es_s_22 V1 R h hn))) (fun r n W h => es_leT (es_vl 0 0) W (Nat.zero_le _) (es_s_22 V1 R h hn)))
theorem es_s_settle {post : St2 → Prop} {k : Nat → Nat → Nat → Nat → Bool} (R : es_R g key s f1 f2 f3 f4 a1 a2 a3 a4 a5 a6 a7 a8 a9 a10 a11 a12 a13 a14 a15 a16 a17 N L Q M) (h : es_se k N L Q M = true) (hk : ∀ f1 f2 f3 f4 a1 a2 a3 a4 a5 a6 a7 a8 a9 a10 a11 a12 a13 a14 a15 a16 a17 N L Q M, es_R g key s f1 f2 f3 f4 a1 a2 a3 a4 a5 a6 a7 a8 a9 a10 a11 a12 a13 a14 a15 a16 a17 N L Q M → k N L Q M = true → post (f1, f2, f3, f4, a1, a2, a3, a4, a5, a6, a7, a8, a9, a10, a11, a12, a13, a14, a15, a16, a17)) : wpX_settle post (f1, f2, f3, f4, a1, a2, a3, a4, a5, a6, a7, a8, a9, a10, a11, a12, a13, a14, a15, a16, a17) := by
  unfold wpX_settle
  exact es_s_giveUp R h (fun f1 f2 f3 f4 a1 a2 a3 a4 a5 a6 a7 a8 a9 a10 a11 a12 a13 a14 a15 a16 a17 N R h => ⟨4, es_s1s (x := 0) (es_vw (es_vl 0 0)) R h (fun y f1 f2 f3 f4 a1 a2 a3 a4 a5 a6 a7 a8 a9 a10 a11 a12 a13 a14 a15 a16 a17 N L Q M W R h => es_s1s (x := 1) (es_vb W (by decide)) R h (fun y f1 f2 f3 f4 a1 a2 a3 a4 a5 a6 a7 a8 a9 a10 a11 a12 a13 a14 a15 a16 a17 N L Q M W R h => es_s1s (x := 2) (es_vb W (by decide)) R h (fun y f1 f2 f3 f4 a1 a2 a3 a4 a5 a6 a7 a8 a9 a10 a11 a12 a13 a14 a15 a16 a17 N L Q M W R h => es_leT (es_vl 3 3) W (by decide) (hk f1 f2 f3 f4 a1 a2 a3 a4 a5 a6 a7 a8 a9 a10 a11 a12 a13 a14 a15 a16 a17 N L Q M R h))))⟩)
end
end
section
/-! what the law calls -/
noncomputable def es_so (k0 k1 kn : Bool) (N m : Nat) : Bool := es_ld kn (fun n => es_f (es_rd N (Nat.add 101 (Nat.mul 4 n))) (fun v => es_i (Nat.ble v m) (es_i (Nat.beq m v) k1 k0) false)) N
noncomputable def es_wm (k : Nat → Nat → Bool) (N L n m a b : Nat) : Bool := es_wt (fun N L => es_f (es_la N n) (fun la => es_cell (fun c => es_f (es_wc L (Nat.add c 4) 3 (Nat.add m (Nat.mul 256 (Nat.add a (Nat.mul 256 b))))) (fun L' => k N L')) N n la)) N L n 1 133 132
noncomputable def es_su (k0 k1 kn : Nat → Nat → Nat → Nat → Bool) (N L Q M m a b : Nat) : Bool := es_so (es_ld false (fun n => es_wm (fun N L => es_sp (es_se k0) N L Q M n) N L n m a b) N) (k1 N L Q M) (kn N L Q M) N m
noncomputable def es_ss (k3 k2 k1 kn : Nat → Nat → Nat → Nat → Bool) (N L Q M m a b : Nat) : Bool := es_so (es_ld false (fun n => es_wm (fun N L => es_f (es_wr (es_wr (es_wr N n 0) (Nat.add 10 n) 0) 122 (Nat.add n 1)) (fun N => es_se (fun N L Q M => es_i (Nat.beq (es_rd N 122) 0) (k3 N L Q M) (k2 N L Q M)) N L Q M)) N L n m a b) N) (k1 N L Q M) (kn N L Q M) N m
noncomputable def es_gt (k : Nat → Bool) (N : Nat) : Bool := es_ld false (fun n => es_f (es_rd N (Nat.add 100 (Nat.mul 4 n))) k) N
noncomputable def es_sr (k1 k0 : Nat → Nat → Nat → Nat → Bool) (N L Q M n : Nat) : Bool := es_i (Nat.beq (es_rd N n) 0) (es_f (es_wr N n 1) (fun N => es_se k1 N L Q M)) (es_f (es_wr N n 1) (fun N => es_se k0 N L Q M))
noncomputable def es_sx (k0 k1 : Nat → Nat → Nat → Nat → Bool) (N L Q M n : Nat) : Bool := es_i (Nat.beq (es_rd N n) 0) (es_f (es_wr (es_wr N n 0) (Nat.add 10 n) 0) (fun N => es_se k0 N L Q M)) (es_f (es_wr (es_wr N n 0) (Nat.add 10 n) 0) (fun N => es_se k1 N L Q M))
noncomputable def es_mv (k : Nat → Nat → Nat → Nat → Nat → Bool) (N L Q M n q : Nat) : Bool := es_f (es_rd N (Nat.add 5 n)) (fun r => es_f (es_wr N (Nat.add 5 n) q) (fun N => es_se (k r) N L Q M))
noncomputable def es_m57 (k : Nat → Nat → Nat → Nat → Bool) (N L Q M n p z : Nat) : Bool := es_f (es_wr N (Nat.add 75 (Nat.add (Nat.mul 5 n) p)) z) (fun N => es_sp (fun N L Q M => es_sp (es_se k) N L Q M n) N L Q M n)
noncomputable def es_m14 (k : Nat → Nat → Nat → Nat → Bool) (N L Q M n p kd : Nat) : Bool := es_wt (fun N L => es_f (es_la N n) (fun la => es_i (Nat.ble la 255) (es_f (es_wr N (Nat.add 50 (Nat.add (Nat.mul 5 n) p)) la) (fun N => es_i (Nat.beq p n) (es_m57 k N L Q M n p la) (es_m57 k N L Q M n p 0))) false)) N L n kd 0 p
noncomputable def es_m81 (k1 k5 : Nat → Nat → Nat → Nat → Bool) (N L Q M n p fl w : Nat) : Bool := es_i (es_mo (es_rb N n) w) (k5 N L Q M) (es_i (Nat.beq fl 0) (es_m14 k1 N L Q M n p 5) (es_m14 k1 N L Q M n p 4))
noncomputable def es_m46 (k1 k0 k4 k5 : Nat → Nat → Nat → Nat → Bool) (N L Q M n p fl all z : Nat) : Bool := es_i (Nat.beq z fl) (k0 N L Q M) (es_i (Nat.beq all (Nat.shiftLeft 1 p)) (k4 N L Q M) (es_i (Nat.beq fl 0) (es_m81 k1 k5 N L Q M n p fl (Nat.xor all (Nat.land all (Nat.shiftLeft 1 p)))) (es_m81 k1 k5 N L Q M n p fl (Nat.lor all (Nat.shiftLeft 1 p)))))
noncomputable def es_me (k1 k0 k2 k4 k5 : Nat → Nat → Nat → Nat → Bool) (N L Q M p fl : Nat) : Bool := es_ld (k2 N L Q M) (fun n => es_mem (fun all => es_i (Nat.beq (Nat.land all (Nat.shiftLeft 1 p)) 0) (es_m46 k1 k0 k4 k5 N L Q M n p fl all 0) (es_m46 k1 k0 k4 k5 N L Q M n p fl all 1)) N L n) N
noncomputable def es_im1 (k : Nat → Bool) (N x b : Nat) : Bool := es_i (Nat.ble (es_rd N (Nat.add 45 x)) (es_rd N (Nat.add 45 b))) (k b) (k x)
noncomputable def es_im (k : Nat → Bool) (N p : Nat) : Bool := es_im1 (es_im1 (es_im1 (es_im1 (fun b => es_f (es_rd N (Nat.add 103 (Nat.mul 4 b))) (fun v => es_i (Nat.ble v 31) (es_f (Nat.mod (Nat.shiftRight v p) 2) k) false)) N 4) N 3) N 2) N 1 0
section
variable {g : Nat → Int32} {key s : Nat} {f1 f2 f3 f4 : Int32} {a1 a2 a3 a4 a5 a6 a7 a8 a9 a10 a11 a12 a13 a14 a15 a16 a17 : Nat → Int32} {N L Q M : Nat}
theorem es_Er (R : es_R g key s f1 f2 f3 f4 a1 a2 a3 a4 a5 a6 a7 a8 a9 a10 a11 a12 a13 a14 a15 a16 a17 N L Q M) : key < 6 ∧ s < 4 := ⟨(es_pE R).2.2.2.1, (es_pE R).2.2.2.2.1⟩
theorem es_ra (R : es_R g key s f1 f2 f3 f4 a1 a2 a3 a4 a5 a6 a7 a8 a9 a10 a11 a12 a13 a14 a15 a16 a17 N L Q M) {p0 p1 : Int32} {n : Nat} (V0 : es_V p0 n 5) (V1 : es_V p1 key 6) : es_V ((15 * p0) + p1) (15 * n + key) 75 ∧ a12 ((15 * p0) + p1).toNatClampNeg = g (es_rd N (Nat.add 100 (Nat.mul 4 n))) := by
  have hn := V0.2
  have hk := V1.2
  have W : es_V ((15 * p0) + p1) (15 * n + key) 75 := es_vb (es_va (es_vm (es_vl 15 15) V0) V1) (by omega)
  exact ⟨W, by rw [es_clamp W]; exact (es_pa12 R n hn).1⟩
theorem es_rn (R : es_R g key s f1 f2 f3 f4 a1 a2 a3 a4 a5 a6 a7 a8 a9 a10 a11 a12 a13 a14 a15 a16 a17 N L Q M) {p0 p1 : Int32} {n : Nat} (V0 : es_V p0 n 5) (V1 : es_V p1 s 4) : es_V (((15 * p0) + 6) + p1) (15 * n + 6 + s) 75 ∧ a12 (((15 * p0) + 6) + p1).toNatClampNeg = g (es_rd N (Nat.add 101 (Nat.mul 4 n))) := by
  have hn := V0.2
  have hk := V1.2
  have W : es_V (((15 * p0) + 6) + p1) (15 * n + 6 + s) 75 := es_vb (es_va (es_va (es_vm (es_vl 15 15) V0) (es_vl 6 6)) V1) (by omega)
  exact ⟨W, by rw [es_clamp W]; exact (es_pa12 R n hn).2.1⟩
theorem es_rw (R : es_R g key s f1 f2 f3 f4 a1 a2 a3 a4 a5 a6 a7 a8 a9 a10 a11 a12 a13 a14 a15 a16 a17 N L Q M) {p0 p1 : Int32} {n : Nat} (V0 : es_V p0 n 5) (V1 : es_V p1 s 4) : es_V (((15 * p0) + 10) + p1) (15 * n + 10 + s) 75 ∧ a12 (((15 * p0) + 10) + p1).toNatClampNeg = g (es_rd N (Nat.add 102 (Nat.mul 4 n))) := by
  have hn := V0.2
  have hk := V1.2
  have W : es_V (((15 * p0) + 10) + p1) (15 * n + 10 + s) 75 := es_vb (es_va (es_va (es_vm (es_vl 15 15) V0) (es_vl 10 10)) V1) (by omega)
  exact ⟨W, by rw [es_clamp W]; exact (es_pa12 R n hn).2.2.1⟩
/-- a code's parts -/
theorem es_vc6 (R : es_R g key s f1 f2 f3 f4 a1 a2 a3 a4 a5 a6 a7 a8 a9 a10 a11 a12 a13 a14 a15 a16 a17 N L Q M) {p : Int32} (V : es_V p (6 * (4 + s) + key) 48) : es_V (p / 24) 1 48 ∧ es_V ((p / 6) - (p / 6) / 4 * 4) s 4 ∧ es_V (p - p / 6 * 6) key 6 := by
  have hr := es_Er R
  refine ⟨es_vr (es_vdiv V (show (24 : Int32) = nI 24 from rfl) (by decide) (by decide) (by decide)) (by omega), es_vr (es_vrem (es_vdiv V (show (6 : Int32) = nI 6 from rfl) (by decide) (by decide) (by decide)) (show (4 : Int32) = nI 4 from rfl) (by decide) (by decide) (by decide)) (by omega), es_vr (es_vrem V (show (6 : Int32) = nI 6 from rfl) (by decide) (by decide) (by decide)) (by omega)⟩
theorem es_s_standingOf {post : Int32 → Prop} {k0 k1 kn : Bool} (R : es_R g key s f1 f2 f3 f4 a1 a2 a3 a4 a5 a6 a7 a8 a9 a10 a11 a12 a13 a14 a15 a16 a17 N L Q M) {p0 p1 : Int32} {m : Nat} (V0 : es_V p0 (6 * (4 + s) + key) 48) (V1 : es_V p1 m 128) (hm : 1 ≤ m) (h : es_so k0 k1 kn N m = true) (h0 : k0 = true → post 0) (h1 : k1 = true → post 1) (hn : kn = true → post (-2)) : wpX_standingOf post (f1, f2, f3, f4, a1, a2, a3, a4, a5, a6, a7, a8, a9, a10, a11, a12, a13, a14, a15, a16, a17) p0 p1 := by
  have l0 := V0.2
  have l1 := V1.2
  refine es_ltF V0 (es_vl 0 0) (Nat.zero_le _) (es_leF (es_vl 72 72) V0 (by omega) (es_leT (es_vl 1 1) V1 hm (es_s_leaderNow R h (fun h => br_f (by decide) (hn h)) (fun r n W h => es_leT (es_vl 0 0) W (Nat.zero_le _) ⟨by decide, by decide, es_in (es_rn R W (es_vc6 R V0).2.1).1 (es_rn R W (es_vc6 R V0).2.1).1.2, fun x4 e4 => ?_⟩))))
  have g1 := es_gle (es_fe h :)
  have lv : es_rd N (Nat.add 101 (Nat.mul 4 n)) < 128 := Nat.lt_of_le_of_lt g1.1 l1
  have V4 : es_V x4 (es_rd N (Nat.add 101 (Nat.mul 4 n))) 128 := ⟨e4.trans ((es_rn R W (es_vc6 R V0).2.1).2.trans ((es_pE R).1 _ lv)), lv⟩
  exact es_leT V4 V1 g1.1 (es_eq V1 V4 g1.2 (fun _ h => h1 h) (fun _ h => h0 h))
theorem es_s_writeCommand {post : St2 → Prop} {k : Nat → Nat → Bool} (R : es_R g key s f1 f2 f3 f4 a1 a2 a3 a4 a5 a6 a7 a8 a9 a10 a11 a12 a13 a14 a15 a16 a17 N L Q M) {p0 p1 p2 p3 p4 : Int32} {n m a b : Nat} (V0 : es_V p0 n 5) (V1 : es_V p1 (6 * (4 + s) + key) 48) (h2 : p2 = g m) (l2 : m < 256) (h3 : p3 = g a) (l3 : a < 256) (h4 : p4 = g b) (l4 : b < 256) (h : es_wm k N L n m a b = true) (hk : ∀ f1 f2 f3 f4 a1 a2 a3 a4 a5 a6 a7 a8 a9 a10 a11 a12 a13 a14 a15 a16 a17 N L, es_R g key s f1 f2 f3 f4 a1 a2 a3 a4 a5 a6 a7 a8 a9 a10 a11 a12 a13 a14 a15 a16 a17 N L Q M → k N L = true → post (f1, f2, f3, f4, a1, a2, a3, a4, a5, a6, a7, a8, a9, a10, a11, a12, a13, a14, a15, a16, a17)) : wpX_writeCommand post (f1, f2, f3, f4, a1, a2, a3, a4, a5, a6, a7, a8, a9, a10, a11, a12, a13, a14, a15, a16, a17) p0 p1 p2 p3 p4 := by
  have C := es_vc6 R V1
  refine ⟨by decide, by decide, by decide, by decide, es_s_write R V0 (b1 := 1) (b2 := 133) (b3 := 132) (C.1.1.trans ((es_pE R).1 1 (by decide)).symm) (by decide) (C.2.1.1.trans (es_pE R).2.2.1.symm) (by decide) (C.2.2.1.trans (es_pE R).2.1.symm) (by decide) h (fun f1 f2 f3 f4 a1 a2 a3 a4 a5 a6 a7 a8 a9 a10 a11 a12 a13 a14 a15 a16 a17 N L R h => es_s_lastOf R V0 (fun r W => es_s_cellOf R V0 (es_vw W) (es_fe h :) (fun r c W hc h => ⟨es_in (es_c4 W hc) (es_c4 W hc).2, fun d1 e1 => ⟨es_in (es_c5 W hc) (es_c5 W hc).2, fun d2 e2 => ⟨es_in (es_c6 W hc) (es_c6 W hc).2, fun d3 e3 => hk _ _ _ _ _ _ _ _ _ _ _ _ _ _ _ _ _ _ _ _ _ _ _ (es_ma10 R (es_Gc (es_pa10 R) (v := m + 256 * (a + 256 * b)) ?_ ?_ ?_)) (es_fe h :)⟩⟩⟩)))⟩
  · show m + 256 * (a + 256 * b) < 16777216
    omega
  · rw [es_clamp (es_c4 W hc)] at e1
    rw [es_clamp (es_c5 W hc)] at e2
    rw [es_clamp (es_c6 W hc)] at e3
    subst e1 e2 e3
    intro k hk
    show upd _ _ _ (c + 4 + k) = _
    have K : k = 0 ∨ k = 1 ∨ k = 2 := by omega
    rcases K with q | q | q <;> subst q
    · rw [pk_un (by omega), pk_un (by omega), show c + 4 + 0 = c + 4 from rfl, pk_us, es_rd_cons0 l2]
      exact h2
    · rw [pk_un (by omega), show c + 4 + 1 = c + 5 by omega, pk_us, es_rd_cons l2 0, es_rd_cons0 l3]
      exact h3
    · rw [show c + 4 + 2 = c + 6 by omega, pk_us, es_rd_cons l2 1, es_rd_cons l3 0, es_rd_small l4]
      exact h4
  · rw [es_clamp (es_c4 W hc)] at e1
    rw [es_clamp (es_c5 W hc)] at e2
    rw [es_clamp (es_c6 W hc)] at e3
    subst e1 e2 e3
    intro j hj ho
    have ho' : j < c + 4 ∨ c + 4 + 3 ≤ j := ho
    rw [pk_un (by omega), pk_un (by omega), pk_un (by omega)]
theorem es_s_submit {post : Int32 → St2 → Prop} {k0 k1 kn : Nat → Nat → Nat → Nat → Bool} (R : es_R g key s f1 f2 f3 f4 a1 a2 a3 a4 a5 a6 a7 a8 a9 a10 a11 a12 a13 a14 a15 a16 a17 N L Q M) {p0 p1 p2 p3 : Int32} {m a b : Nat} (V0 : es_V p0 (6 * (4 + s) + key) 48) (V1 : es_V p1 m 128) (hm : 1 ≤ m) (h2 : p2 = g a) (l2 : a < 256) (h3 : p3 = g b) (l3 : b < 256) (h : es_su k0 k1 kn N L Q M m a b = true) (h0 : ∀ f1 f2 f3 f4 a1 a2 a3 a4 a5 a6 a7 a8 a9 a10 a11 a12 a13 a14 a15 a16 a17 N L Q M, es_R g key s f1 f2 f3 f4 a1 a2 a3 a4 a5 a6 a7 a8 a9 a10 a11 a12 a13 a14 a15 a16 a17 N L Q M → k0 N L Q M = true → post 0 (f1, f2, f3, f4, a1, a2, a3, a4, a5, a6, a7, a8, a9, a10, a11, a12, a13, a14, a15, a16, a17)) (h1 : ∀ f1 f2 f3 f4 a1 a2 a3 a4 a5 a6 a7 a8 a9 a10 a11 a12 a13 a14 a15 a16 a17 N L Q M, es_R g key s f1 f2 f3 f4 a1 a2 a3 a4 a5 a6 a7 a8 a9 a10 a11 a12 a13 a14 a15 a16 a17 N L Q M → k1 N L Q M = true → post 1 (f1, f2, f3, f4, a1, a2, a3, a4, a5, a6, a7, a8, a9, a10, a11, a12, a13, a14, a15, a16, a17)) (hn : ∀ f1 f2 f3 f4 a1 a2 a3 a4 a5 a6 a7 a8 a9 a10 a11 a12 a13 a14 a15 a16 a17 N L Q M, es_R g key s f1 f2 f3 f4 a1 a2 a3 a4 a5 a6 a7 a8 a9 a10 a11 a12 a13 a14 a15 a16 a17 N L Q M → kn N L Q M = true → post (-2) (f1, f2, f3, f4, a1, a2, a3, a4, a5, a6, a7, a8, a9, a10, a11, a12, a13, a14, a15, a16, a17)) : wpX_submit post (f1, f2, f3, f4, a1, a2, a3, a4, a5, a6, a7, a8, a9, a10, a11, a12, a13, a14, a15, a16, a17) p0 p1 p2 p3 := by
  have l1 := V1.2
  unfold wpX_submit
  exact es_s_standingOf R V0 V1 hm h (fun h => br_t rfl (es_s_leaderNow R h (fun h => es_ff h) (fun r n W h => es_s_writeCommand R W V0 (V1.1.trans ((es_pE R).1 m l1).symm) (by omega) h2 l2 h3 l3 h (fun f1 f2 f3 f4 a1 a2 a3 a4 a5 a6 a7 a8 a9 a10 a11 a12 a13 a14 a15 a16 a17 N L R h => es_s_spread R W h (fun f1 f2 f3 f4 a1 a2 a3 a4 a5 a6 a7 a8 a9 a10 a11 a12 a13 a14 a15 a16 a17 N L Q M R h => es_s_settle R h (fun f1 f2 f3 f4 a1 a2 a3 a4 a5 a6 a7 a8 a9 a10 a11 a12 a13 a14 a15 a16 a17 N L Q M R h => h0 f1 f2 f3 f4 a1 a2 a3 a4 a5 a6 a7 a8 a9 a10 a11 a12 a13 a14 a15 a16 a17 N L Q M R h)))))) (fun h => br_f (by decide) (h1 _ _ _ _ _ _ _ _ _ _ _ _ _ _ _ _ _ _ _ _ _ _ _ _ _ R h)) (fun h => br_f (by decide) (hn _ _ _ _ _ _ _ _ _ _ _ _ _ _ _ _ _ _ _ _ _ _ _ _ _ R h))
theorem es_s_submitAndStop {post : Int32 → St2 → Prop} {k3 k2 k1 kn : Nat → Nat → Nat → Nat → Bool} (R : es_R g key s f1 f2 f3 f4 a1 a2 a3 a4 a5 a6 a7 a8 a9 a10 a11 a12 a13 a14 a15 a16 a17 N L Q M) {p0 p1 p2 p3 : Int32} {m a b : Nat} (V0 : es_V p0 (6 * (4 + s) + key) 48) (V1 : es_V p1 m 128) (hm : 1 ≤ m) (h2 : p2 = g a) (l2 : a < 256) (h3 : p3 = g b) (l3 : b < 256) (h : es_ss k3 k2 k1 kn N L Q M m a b = true) (i3 : ∀ f1 f2 f3 f4 a1 a2 a3 a4 a5 a6 a7 a8 a9 a10 a11 a12 a13 a14 a15 a16 a17 N L Q M, es_R g key s f1 f2 f3 f4 a1 a2 a3 a4 a5 a6 a7 a8 a9 a10 a11 a12 a13 a14 a15 a16 a17 N L Q M → k3 N L Q M = true → post 3 (f1, f2, f3, f4, a1, a2, a3, a4, a5, a6, a7, a8, a9, a10, a11, a12, a13, a14, a15, a16, a17)) (i2 : ∀ f1 f2 f3 f4 a1 a2 a3 a4 a5 a6 a7 a8 a9 a10 a11 a12 a13 a14 a15 a16 a17 N L Q M, es_R g key s f1 f2 f3 f4 a1 a2 a3 a4 a5 a6 a7 a8 a9 a10 a11 a12 a13 a14 a15 a16 a17 N L Q M → k2 N L Q M = true → post 2 (f1, f2, f3, f4, a1, a2, a3, a4, a5, a6, a7, a8, a9, a10, a11, a12, a13, a14, a15, a16, a17)) (i1 : ∀ f1 f2 f3 f4 a1 a2 a3 a4 a5 a6 a7 a8 a9 a10 a11 a12 a13 a14 a15 a16 a17 N L Q M, es_R g key s f1 f2 f3 f4 a1 a2 a3 a4 a5 a6 a7 a8 a9 a10 a11 a12 a13 a14 a15 a16 a17 N L Q M → k1 N L Q M = true → post 1 (f1, f2, f3, f4, a1, a2, a3, a4, a5, a6, a7, a8, a9, a10, a11, a12, a13, a14, a15, a16, a17)) (hn : ∀ f1 f2 f3 f4 a1 a2 a3 a4 a5 a6 a7 a8 a9 a10 a11 a12 a13 a14 a15 a16 a17 N L Q M, es_R g key s f1 f2 f3 f4 a1 a2 a3 a4 a5 a6 a7 a8 a9 a10 a11 a12 a13 a14 a15 a16 a17 N L Q M → kn N L Q M = true → post (-2) (f1, f2, f3, f4, a1, a2, a3, a4, a5, a6, a7, a8, a9, a10, a11, a12, a13, a14, a15, a16, a17)) : wpX_submitAndStop post (f1, f2, f3, f4, a1, a2, a3, a4, a5, a6, a7, a8, a9, a10, a11, a12, a13, a14, a15, a16, a17) p0 p1 p2 p3 := by
  have l1 := V1.2
  unfold wpX_submitAndStop
  refine es_s_standingOf R V0 V1 hm h (fun h => br_t rfl (es_s_leaderNow R h (fun h => es_ff h) (fun r n W h => es_s_writeCommand R W V0 (V1.1.trans ((es_pE R).1 m l1).symm) (by omega) h2 l2 h3 l3 h (fun f1 f2 f3 f4 a1 a2 a3 a4 a5 a6 a7 a8 a9 a10 a11 a12 a13 a14 a15 a16 a17 N L R h => ⟨es_in W W.2, fun b1 e1 => ⟨es_in W W.2, fun b3 e3 => es_s_settle (es_tf3 (es_t3 (es_t1 R W (es_vl 0 0) (by decide) e1) W (es_vl 0 0) (by decide) e3) (W.1.trans (es_oS n).symm) (Nat.lt_of_lt_of_le (Nat.succ_lt_succ W.2) (by decide))) (es_fe h :) (fun f1 f2 f3 f4 a1 a2 a3 a4 a5 a6 a7 a8 a9 a10 a11 a12 a13 a14 a15 a16 a17 N L Q M R h => ?_)⟩⟩)))) (fun h => br_f (by decide) (i1 _ _ _ _ _ _ _ _ _ _ _ _ _ _ _ _ _ _ _ _ _ _ _ _ _ R h)) (fun h => br_f (by decide) (hn _ _ _ _ _ _ _ _ _ _ _ _ _ _ _ _ _ _ _ _ _ _ _ _ _ R h))
  have q := es_pf3 R
  have l := es_rd_lt N 122
  rcases es_ceq h with ⟨z, h⟩ | ⟨z, h⟩
  · refine br_t ?_ (i3 f1 f2 f3 f4 a1 a2 a3 a4 a5 a6 a7 a8 a9 a10 a11 a12 a13 a14 a15 a16 a17 N L Q M R h)
    rw [q, z, es_o0]
    decide
  · have ⟨v, hv⟩ : ∃ v, es_rd N 122 = v + 1 := ⟨es_rd N 122 - 1, by omega⟩
    refine br_f ?_ (i2 f1 f2 f3 f4 a1 a2 a3 a4 a5 a6 a7 a8 a9 a10 a11 a12 a13 a14 a15 a16 a17 N L Q M R h)
    rw [q, hv, es_oS]
    exact nI_pos (by omega)
theorem es_s_pending {post : Int32 → Prop} {k0 k1 : Bool} (R : es_R g key s f1 f2 f3 f4 a1 a2 a3 a4 a5 a6 a7 a8 a9 a10 a11 a12 a13 a14 a15 a16 a17 N L Q M) (h : es_i (Nat.beq (es_rd N 122) 0) k0 k1 = true) (h0 : k0 = true → post 0) (h1 : k1 = true → post 1) : wpX_pending post (f1, f2, f3, f4, a1, a2, a3, a4, a5, a6, a7, a8, a9, a10, a11, a12, a13, a14, a15, a16, a17) := by
  have q := es_pf3 R
  have l := es_rd_lt N 122
  rcases es_ceq h with ⟨z, h⟩ | ⟨z, h⟩
  · refine br_t ?_ (h0 h)
    rw [q, z, es_o0]
    decide
  · have ⟨v, hv⟩ : ∃ v, es_rd N 122 = v + 1 := ⟨es_rd N 122 - 1, by omega⟩
    refine br_f ?_ (h1 h)
    rw [q, hv, es_oS]
    exact nI_pos (by omega)
theorem es_s_isNode {post : Int32 → Prop} {p0 : Int32} {n : Nat} (V0 : es_V p0 n 5) (h : post 1) : wpX_isNode post () p0 := es_ltF V0 (es_vl 0 0) (Nat.zero_le _) (es_leF (es_vl 5 5) V0 V0.2 h)
theorem es_s_isKey {post : Int32 → Prop} {p0 : Int32} {n : Nat} (V0 : es_V p0 n 6) (h : post 1) : wpX_isKey post () p0 := es_ltF V0 (es_vl 0 0) (Nat.zero_le _) (es_leF (es_vl 6 6) V0 V0.2 h)
theorem es_s_isSession {post : Int32 → Prop} {p0 : Int32} {n : Nat} (V0 : es_V p0 n 4) (h : post 1) : wpX_isSession post () p0 := es_ltF V0 (es_vl 0 0) (Nat.zero_le _) (es_leF (es_vl 4 4) V0 V0.2 h)
theorem es_s_isUp {post : Int32 → Prop} {k0 k1 : Bool} (R : es_R g key s f1 f2 f3 f4 a1 a2 a3 a4 a5 a6 a7 a8 a9 a10 a11 a12 a13 a14 a15 a16 a17 N L Q M) {p0 : Int32} {n : Nat} (V0 : es_V p0 n 5) (h : es_i (Nat.beq (es_rd N n) 0) k0 k1 = true) (h0 : k0 = true → post 0) (h1 : k1 = true → post 1) : wpX_isUp post (f1, f2, f3, f4, a1, a2, a3, a4, a5, a6, a7, a8, a9, a10, a11, a12, a13, a14, a15, a16, a17) p0 := by
  unfold wpX_isUp
  exact es_s_isNode V0 (br_f (by decide) ⟨es_in V0 V0.2, es_eq (es_r1 R V0) (es_vl 0 0) h (fun _ h => h0 h) (fun _ h => h1 h)⟩)
theorem es_s_leader {post : Int32 → Prop} {kn : Bool} {ks : Nat → Bool} (R : es_R g key s f1 f2 f3 f4 a1 a2 a3 a4 a5 a6 a7 a8 a9 a10 a11 a12 a13 a14 a15 a16 a17 N L Q M) (h : es_ld kn ks N = true) (hn : kn = true → post (-2)) (hs : ∀ r n, es_V r n 5 → ks n = true → post r) : wpX_leader post (f1, f2, f3, f4, a1, a2, a3, a4, a5, a6, a7, a8, a9, a10, a11, a12, a13, a14, a15, a16, a17) := by
  unfold wpX_leader
  exact es_s_leaderNow R h (fun h => br_f (by decide) (hn h)) (fun r n W h => es_leT (es_vl 0 0) W (Nat.zero_le _) (hs r n W h))
theorem es_s_get {post : Int32 → Prop} {k : Nat → Bool} (R : es_R g key s f1 f2 f3 f4 a1 a2 a3 a4 a5 a6 a7 a8 a9 a10 a11 a12 a13 a14 a15 a16 a17 N L Q M) {p0 : Int32} (V0 : es_V p0 key 6) (h : es_gt k N = true) (hk : ∀ r c, r = g c → k c = true → post r) : wpX_get post (f1, f2, f3, f4, a1, a2, a3, a4, a5, a6, a7, a8, a9, a10, a11, a12, a13, a14, a15, a16, a17) p0 := by
  unfold wpX_get
  exact es_s_leaderNow R h (fun h => es_ff h) (fun r n W h => es_s_isKey V0 (br_f (by decide) (es_ltF W (es_vl 0 0) (Nat.zero_le _) ⟨es_in (es_ra R W V0).1 (es_ra R W V0).1.2, hk _ _ (es_ra R W V0).2 (es_fe h :)⟩)))
theorem es_s_start {post : Int32 → St2 → Prop} {k1 k0 : Nat → Nat → Nat → Nat → Bool} (R : es_R g key s f1 f2 f3 f4 a1 a2 a3 a4 a5 a6 a7 a8 a9 a10 a11 a12 a13 a14 a15 a16 a17 N L Q M) {p0 : Int32} {n : Nat} (V0 : es_V p0 n 5) (h : es_sr k1 k0 N L Q M n = true) (h1 : ∀ f1 f2 f3 f4 a1 a2 a3 a4 a5 a6 a7 a8 a9 a10 a11 a12 a13 a14 a15 a16 a17 N L Q M, es_R g key s f1 f2 f3 f4 a1 a2 a3 a4 a5 a6 a7 a8 a9 a10 a11 a12 a13 a14 a15 a16 a17 N L Q M → k1 N L Q M = true → post 1 (f1, f2, f3, f4, a1, a2, a3, a4, a5, a6, a7, a8, a9, a10, a11, a12, a13, a14, a15, a16, a17)) (h0 : ∀ f1 f2 f3 f4 a1 a2 a3 a4 a5 a6 a7 a8 a9 a10 a11 a12 a13 a14 a15 a16 a17 N L Q M, es_R g key s f1 f2 f3 f4 a1 a2 a3 a4 a5 a6 a7 a8 a9 a10 a11 a12 a13 a14 a15 a16 a17 N L Q M → k0 N L Q M = true → post 0 (f1, f2, f3, f4, a1, a2, a3, a4, a5, a6, a7, a8, a9, a10, a11, a12, a13, a14, a15, a16, a17)) : wpX_start post (f1, f2, f3, f4, a1, a2, a3, a4, a5, a6, a7, a8, a9, a10, a11, a12, a13, a14, a15, a16, a17) p0 := by
  unfold wpX_start
  exact es_s_isNode V0 (br_f (by decide) ⟨es_in V0 V0.2, es_eq (es_r1 R V0) (es_vl 0 0) h (fun _ h => ⟨es_in V0 V0.2, fun b e => es_s_settle (es_t1 R V0 (es_vl 1 1) (by decide) e) (es_fe h :) (fun f1 f2 f3 f4 a1 a2 a3 a4 a5 a6 a7 a8 a9 a10 a11 a12 a13 a14 a15 a16 a17 N L Q M R h => h1 f1 f2 f3 f4 a1 a2 a3 a4 a5 a6 a7 a8 a9 a10 a11 a12 a13 a14 a15 a16 a17 N L Q M R h)⟩) (fun _ h => ⟨es_in V0 V0.2, fun b e => es_s_settle (es_t1 R V0 (es_vl 1 1) (by decide) e) (es_fe h :) (fun f1 f2 f3 f4 a1 a2 a3 a4 a5 a6 a7 a8 a9 a10 a11 a12 a13 a14 a15 a16 a17 N L Q M R h => h0 f1 f2 f3 f4 a1 a2 a3 a4 a5 a6 a7 a8 a9 a10 a11 a12 a13 a14 a15 a16 a17 N L Q M R h)⟩)⟩)
theorem es_s_stop {post : Int32 → St2 → Prop} {k0 k1 : Nat → Nat → Nat → Nat → Bool} (R : es_R g key s f1 f2 f3 f4 a1 a2 a3 a4 a5 a6 a7 a8 a9 a10 a11 a12 a13 a14 a15 a16 a17 N L Q M) {p0 : Int32} {n : Nat} (V0 : es_V p0 n 5) (h : es_sx k0 k1 N L Q M n = true) (h1 : ∀ f1 f2 f3 f4 a1 a2 a3 a4 a5 a6 a7 a8 a9 a10 a11 a12 a13 a14 a15 a16 a17 N L Q M, es_R g key s f1 f2 f3 f4 a1 a2 a3 a4 a5 a6 a7 a8 a9 a10 a11 a12 a13 a14 a15 a16 a17 N L Q M → k1 N L Q M = true → post 1 (f1, f2, f3, f4, a1, a2, a3, a4, a5, a6, a7, a8, a9, a10, a11, a12, a13, a14, a15, a16, a17)) (h0 : ∀ f1 f2 f3 f4 a1 a2 a3 a4 a5 a6 a7 a8 a9 a10 a11 a12 a13 a14 a15 a16 a17 N L Q M, es_R g key s f1 f2 f3 f4 a1 a2 a3 a4 a5 a6 a7 a8 a9 a10 a11 a12 a13 a14 a15 a16 a17 N L Q M → k0 N L Q M = true → post 0 (f1, f2, f3, f4, a1, a2, a3, a4, a5, a6, a7, a8, a9, a10, a11, a12, a13, a14, a15, a16, a17)) : wpX_stop post (f1, f2, f3, f4, a1, a2, a3, a4, a5, a6, a7, a8, a9, a10, a11, a12, a13, a14, a15, a16, a17) p0 := by
  unfold wpX_stop
  exact es_s_isNode V0 (br_f (by decide) ⟨es_in V0 V0.2, es_eq (es_r1 R V0) (es_vl 0 0) h (fun _ h => ⟨es_in V0 V0.2, fun b e => ⟨es_in V0 V0.2, fun c i => es_s_settle (es_t3 (es_t1 R V0 (es_vl 0 0) (by decide) e) V0 (es_vl 0 0) (by decide) i) (es_fe h :) (fun f1 f2 f3 f4 a1 a2 a3 a4 a5 a6 a7 a8 a9 a10 a11 a12 a13 a14 a15 a16 a17 N L Q M R h => h0 f1 f2 f3 f4 a1 a2 a3 a4 a5 a6 a7 a8 a9 a10 a11 a12 a13 a14 a15 a16 a17 N L Q M R h)⟩⟩) (fun _ h => ⟨es_in V0 V0.2, fun b e => ⟨es_in V0 V0.2, fun c i => es_s_settle (es_t3 (es_t1 R V0 (es_vl 0 0) (by decide) e) V0 (es_vl 0 0) (by decide) i) (es_fe h :) (fun f1 f2 f3 f4 a1 a2 a3 a4 a5 a6 a7 a8 a9 a10 a11 a12 a13 a14 a15 a16 a17 N L Q M R h => h1 f1 f2 f3 f4 a1 a2 a3 a4 a5 a6 a7 a8 a9 a10 a11 a12 a13 a14 a15 a16 a17 N L Q M R h)⟩⟩)⟩)
theorem es_s_move {post : Int32 → St2 → Prop} {k : Nat → Nat → Nat → Nat → Nat → Bool} (R : es_R g key s f1 f2 f3 f4 a1 a2 a3 a4 a5 a6 a7 a8 a9 a10 a11 a12 a13 a14 a15 a16 a17 N L Q M) {p0 p1 : Int32} {n q : Nat} (V0 : es_V p0 n 5) (V1 : es_V p1 q 3) (h : es_mv k N L Q M n q = true) (hk : ∀ r c f1 f2 f3 f4 a1 a2 a3 a4 a5 a6 a7 a8 a9 a10 a11 a12 a13 a14 a15 a16 a17 N L Q M, es_V r c 256 → es_R g key s f1 f2 f3 f4 a1 a2 a3 a4 a5 a6 a7 a8 a9 a10 a11 a12 a13 a14 a15 a16 a17 N L Q M → k c N L Q M = true → post r (f1, f2, f3, f4, a1, a2, a3, a4, a5, a6, a7, a8, a9, a10, a11, a12, a13, a14, a15, a16, a17)) : wpX_move post (f1, f2, f3, f4, a1, a2, a3, a4, a5, a6, a7, a8, a9, a10, a11, a12, a13, a14, a15, a16, a17) p0 p1 := by
  have hq := V1.2
  unfold wpX_move
  exact es_s_isNode V0 (br_f (by decide) (es_ltF V1 (es_vl 0 0) (Nat.zero_le _) (es_leT V1 (es_vl 2 2) (by omega) ⟨es_in V0 V0.2, fun x3 e3 => ⟨es_in V0 V0.2, fun b e => es_s_settle (es_t2 R V0 V1 (by omega) e) (es_fe (es_fe h :) :) (fun f1 f2 f3 f4 a1 a2 a3 a4 a5 a6 a7 a8 a9 a10 a11 a12 a13 a14 a15 a16 a17 N L Q M R' h => hk _ _ f1 f2 f3 f4 a1 a2 a3 a4 a5 a6 a7 a8 a9 a10 a11 a12 a13 a14 a15 a16 a17 N L Q M (es_vq e3 (es_r2 R V0)) R' h)⟩⟩)))
theorem es_s_lastNumber {post : Int32 → Prop} (R : es_R g key s f1 f2 f3 f4 a1 a2 a3 a4 a5 a6 a7 a8 a9 a10 a11 a12 a13 a14 a15 a16 a17 N L Q M) {p0 p1 : Int32} {n : Nat} (V0 : es_V p0 n 5) (V1 : es_V p1 s 4) (hk : ∀ r, r = g (es_rd N (Nat.add 101 (Nat.mul 4 n))) → post r) : wpX_lastNumber post (f1, f2, f3, f4, a1, a2, a3, a4, a5, a6, a7, a8, a9, a10, a11, a12, a13, a14, a15, a16, a17) p0 p1 := by
  unfold wpX_lastNumber
  exact es_s_isNode V0 (br_f (by decide) (es_s_isSession V1 (br_f (by decide) ⟨es_in (es_rn R V0 V1).1 (es_rn R V0 V1).1.2, hk _ (es_rn R V0 V1).2⟩)))
theorem es_s_loc {post : Int32 → Prop} (R : es_R g key s f1 f2 f3 f4 a1 a2 a3 a4 a5 a6 a7 a8 a9 a10 a11 a12 a13 a14 a15 a16 a17 N L Q M) {p0 p1 : Int32} {n : Nat} (V0 : es_V p0 n 5) (V1 : es_V p1 key 6) (hk : ∀ r, r = g (es_rd N (Nat.add 100 (Nat.mul 4 n))) → post r) : wpX_local post (f1, f2, f3, f4, a1, a2, a3, a4, a5, a6, a7, a8, a9, a10, a11, a12, a13, a14, a15, a16, a17) p0 p1 := by
  unfold wpX_local
  exact es_s_isNode V0 (br_f (by decide) (es_s_isKey V1 (br_f (by decide) ⟨es_in (es_ra R V0 V1).1 (es_ra R V0 V1).1.2, hk _ (es_ra R V0 V1).2⟩)))
theorem es_s_answer {post : Int32 → Prop} (R : es_R g key s f1 f2 f3 f4 a1 a2 a3 a4 a5 a6 a7 a8 a9 a10 a11 a12 a13 a14 a15 a16 a17 N L Q M) {p0 p1 : Int32} {n : Nat} (V0 : es_V p0 n 5) (V1 : es_V p1 s 4) (hk : ∀ r, r = g (es_rd N (Nat.add 102 (Nat.mul 4 n))) → post r) : wpX_answer post (f1, f2, f3, f4, a1, a2, a3, a4, a5, a6, a7, a8, a9, a10, a11, a12, a13, a14, a15, a16, a17) p0 p1 := by
  unfold wpX_answer
  exact es_s_isNode V0 (br_f (by decide) (es_s_isSession V1 (br_f (by decide) ⟨es_in (es_rw R V0 V1).1 (es_rw R V0 V1).1.2, hk _ (es_rw R V0 V1).2⟩)))
/-! rows of two nodes -/
theorem es_row (R : es_R g key s f1 f2 f3 f4 a1 a2 a3 a4 a5 a6 a7 a8 a9 a10 a11 a12 a13 a14 a15 a16 a17 N L Q M) {n m : Nat} (hn : n < 5) (hm : m < 5) (h : es_ck N (100 + 4 * n) 3 = es_ck N (100 + 4 * m) 3) : ∀ j, j < 14 → a12 (15 * n + j) = a12 (15 * m + j) := by
  intro j hj
  have A := es_pa12 R n hn
  have B := es_pa12 R m hm
  have C : ∀ i, i < 3 → es_rd N (100 + 4 * n + i) = es_rd N (100 + 4 * m + i) := fun i hi => by
    rw [← es_rd_ck hi, h, es_rd_ck hi]
  by_cases k1 : j = key
  · rw [k1]
    exact A.1.trans ((congrArg g (C 0 (by decide))).trans B.1.symm)
  by_cases k2 : j = 6 + s
  · rw [k2, ← Nat.add_assoc, ← Nat.add_assoc]
    refine A.2.1.trans ((congrArg g ?_).trans B.2.1.symm)
    have c := C 1 (by decide)
    rw [show 100 + 4 * n + 1 = 101 + 4 * n by omega, show 100 + 4 * m + 1 = 101 + 4 * m by omega] at c
    exact c
  by_cases k3 : j = 10 + s
  · rw [k3, ← Nat.add_assoc, ← Nat.add_assoc]
    refine A.2.2.1.trans ((congrArg g ?_).trans B.2.2.1.symm)
    have c := C 2 (by decide)
    rw [show 100 + 4 * n + 2 = 102 + 4 * n by omega, show 100 + 4 * m + 2 = 102 + 4 * m by omega] at c
    exact c
  · rw [A.2.2.2.2 j hj k1 k2 k3, B.2.2.2.2 j hj k1 k2 k3]
theorem es_s_sm {post : Int32 → Prop} {x1 x2 : Int32} {n m : Nat} (V1 : es_V x1 n 5) (V2 : es_V x2 m 5) (H : ∀ j, j < 14 → a12 (15 * n + j) = a12 (15 * m + j)) (hp : post 1) : ∀ (d i : Nat) (x3 : Int32), i + d = 14 → es_V x3 i 15 → wX_areSame_2 post x1 x2 f1 f2 f3 f4 a1 a2 a3 a4 a5 a6 a7 a8 a9 a10 a11 a12 a13 a14 a15 a16 a17 (d + 1) x3 := by
  have hn := V1.2
  have hm := V2.2
  intro d
  induction d with
  | zero =>
    intro i x3 hi V3
    exact es_leT (es_vl 14 14) V3 (by omega) hp
  | succ d ih =>
    intro i x3 hi V3
    have W1 : es_V ((15 * x1) + x3) (15 * n + i) 75 := es_vb (es_va (es_vm (es_vl 15 15) V1) V3) (by omega)
    have W2 : es_V ((15 * x2) + x3) (15 * m + i) 75 := es_vb (es_va (es_vm (es_vl 15 15) V2) V3) (by omega)
    exact es_leF (es_vl 14 14) V3 (by omega) ⟨es_in W1 W1.2, es_in W2 W2.2, br_t (by rw [es_clamp W1, es_clamp W2]; exact H i (by omega)) (fun y ey => ih (i + 1) y (by omega) (es_vb (es_vq ey (es_v1 V3)) (by omega)))⟩
theorem es_s_areSame {post : Int32 → Prop} (R : es_R g key s f1 f2 f3 f4 a1 a2 a3 a4 a5 a6 a7 a8 a9 a10 a11 a12 a13 a14 a15 a16 a17 N L Q M) {p0 p1 : Int32} {n m : Nat} (V0 : es_V p0 n 5) (V1 : es_V p1 m 5) (h : es_ck N (100 + 4 * n) 3 = es_ck N (100 + 4 * m) 3) (hp : post 1) : wpX_areSame post (f1, f2, f3, f4, a1, a2, a3, a4, a5, a6, a7, a8, a9, a10, a11, a12, a13, a14, a15, a16, a17) p0 p1 := ⟨15, es_s_sm V0 V1 (es_row R V0.2 V1.2 h) hp 14 0 0 rfl (es_vw (es_vl 0 0))⟩
theorem es_s_same {post : Int32 → Prop} (R : es_R g key s f1 f2 f3 f4 a1 a2 a3 a4 a5 a6 a7 a8 a9 a10 a11 a12 a13 a14 a15 a16 a17 N L Q M) {p0 p1 : Int32} {n m : Nat} (V0 : es_V p0 n 5) (V1 : es_V p1 m 5) (h : es_ck N (100 + 4 * n) 3 = es_ck N (100 + 4 * m) 3) (hp : post 1) : wpX_same post (f1, f2, f3, f4, a1, a2, a3, a4, a5, a6, a7, a8, a9, a10, a11, a12, a13, a14, a15, a16, a17) p0 p1 := by
  unfold wpX_same
  exact es_s_isNode V0 (br_f (by decide) (es_s_isNode V1 (br_f (by decide) (es_s_areSame R V0 V1 h (br_f (by decide) hp)))))
/-! member -/
theorem es_s_m57 {post : Int32 → St2 → Prop} {k : Nat → Nat → Nat → Nat → Bool} (R : es_R g key s f1 f2 f3 f4 a1 a2 a3 a4 a5 a6 a7 a8 a9 a10 a11 a12 a13 a14 a15 a16 a17 N L Q M) {x3 z0 z1 : Int32} {n p z : Nat} (V3 : es_V x3 n 5) (Vz : es_V z0 z 256) (Vi : es_V z1 (5 * n + p) 25) (h : es_m57 k N L Q M n p z = true) (hk : ∀ f1 f2 f3 f4 a1 a2 a3 a4 a5 a6 a7 a8 a9 a10 a11 a12 a13 a14 a15 a16 a17 N L Q M, es_R g key s f1 f2 f3 f4 a1 a2 a3 a4 a5 a6 a7 a8 a9 a10 a11 a12 a13 a14 a15 a16 a17 N L Q M → k N L Q M = true → post 1 (f1, f2, f3, f4, a1, a2, a3, a4, a5, a6, a7, a8, a9, a10, a11, a12, a13, a14, a15, a16, a17)) : wX_member_157 post x3 z0 z1 f1 f2 f3 f4 a1 a2 a3 a4 a5 a6 a7 a8 a9 a10 a11 a12 a13 a14 a15 a16 a17 :=
  ⟨es_in Vi Vi.2, fun b e => es_s_spread (es_t15 R Vi Vz Vz.2 e) V3 (es_fe h :) (fun f1 f2 f3 f4 a1 a2 a3 a4 a5 a6 a7 a8 a9 a10 a11 a12 a13 a14 a15 a16 a17 N L Q M R h => es_s_spread R V3 h (fun f1 f2 f3 f4 a1 a2 a3 a4 a5 a6 a7 a8 a9 a10 a11 a12 a13 a14 a15 a16 a17 N L Q M R h => es_s_settle R h (fun f1 f2 f3 f4 a1 a2 a3 a4 a5 a6 a7 a8 a9 a10 a11 a12 a13 a14 a15 a16 a17 N L Q M R h => hk f1 f2 f3 f4 a1 a2 a3 a4 a5 a6 a7 a8 a9 a10 a11 a12 a13 a14 a15 a16 a17 N L Q M R h)))⟩
theorem es_s_m14 {post : Int32 → St2 → Prop} {k : Nat → Nat → Nat → Nat → Bool} (R : es_R g key s f1 f2 f3 f4 a1 a2 a3 a4 a5 a6 a7 a8 a9 a10 a11 a12 a13 a14 a15 a16 a17 N L Q M) {x1 x3 z0 : Int32} {n p kd : Nat} (V1 : es_V x1 p 5) (V3 : es_V x3 n 5) (Vk : es_V z0 kd 128) (h : es_m14 k N L Q M n p kd = true) (hk : ∀ f1 f2 f3 f4 a1 a2 a3 a4 a5 a6 a7 a8 a9 a10 a11 a12 a13 a14 a15 a16 a17 N L Q M, es_R g key s f1 f2 f3 f4 a1 a2 a3 a4 a5 a6 a7 a8 a9 a10 a11 a12 a13 a14 a15 a16 a17 N L Q M → k N L Q M = true → post 1 (f1, f2, f3, f4, a1, a2, a3, a4, a5, a6, a7, a8, a9, a10, a11, a12, a13, a14, a15, a16, a17)) : wX_member_114 post x1 x3 z0 x3 f1 f2 f3 f4 a1 a2 a3 a4 a5 a6 a7 a8 a9 a10 a11 a12 a13 a14 a15 a16 a17 := by
  have hn := V3.2
  have hp := V1.2
  have hd := Vk.2
  have Vi : es_V ((5 * x3) + x1) (5 * n + p) 25 := es_vb (es_va (es_vm (es_vl 5 5) V3) V1) (by omega)
  unfold wX_member_114
  refine es_s_write R V3 (Vk.1.trans ((es_pE R).1 kd hd).symm) (by omega) ((es_pE R).1 0 (by decide)).symm (by decide) (V1.1.trans ((es_pE R).1 p (by omega)).symm) (by omega) h (fun f1 f2 f3 f4 a1 a2 a3 a4 a5 a6 a7 a8 a9 a10 a11 a12 a13 a14 a15 a16 a17 N L R h => es_s_lastOf R V3 (fun r W => ⟨es_in Vi Vi.2, fun b e => ?_⟩))
  have g1 := es_gle (es_fe h :)
  have lv : es_la N n < 256 := Nat.lt_succ_of_le g1.1
  have R1 := es_t14 R Vi W lv e
  have e1 : es_la (es_wr N (Nat.add 50 (5 * n + p)) (es_la N n)) n = es_la N n := by
    show es_rd _ (30 + n) + es_rd _ (40 + n) = es_rd N (30 + n) + es_rd N (40 + n)
    have A1 : es_rd (es_wr N (Nat.add 50 (5 * n + p)) (es_la N n)) (30 + n) = es_rd N (30 + n) := es_rd_wr_ne lv (show 30 + n ≠ 50 + (5 * n + p) by omega)
    have A2 : es_rd (es_wr N (Nat.add 50 (5 * n + p)) (es_la N n)) (40 + n) = es_rd N (40 + n) := es_rd_wr_ne lv (show 40 + n ≠ 50 + (5 * n + p) by omega)
    rw [A1, A2]
  exact es_eq V1 V3 (es_fe g1.2 :) (fun _ h => es_s_lastOf R1 V3 (fun r W' => es_s_m57 R1 V3 (es_vb (es_vr W' e1) lv) Vi h hk)) (fun _ h => es_s_m57 R1 V3 (es_vw (es_vl 0 0)) Vi h hk)
theorem es_s_m81 {post : Int32 → St2 → Prop} {k1 k5 : Nat → Nat → Nat → Nat → Bool} (R : es_R g key s f1 f2 f3 f4 a1 a2 a3 a4 a5 a6 a7 a8 a9 a10 a11 a12 a13 a14 a15 a16 a17 N L Q M) {x1 x2 x3 z0 : Int32} {n p fl w : Nat} (V1 : es_V x1 p 5) (V2 : es_V x2 fl 2) (V3 : es_V x3 n 5) (Vw : es_V z0 w 32) (h : es_m81 k1 k5 N L Q M n p fl w = true) (hk : ∀ f1 f2 f3 f4 a1 a2 a3 a4 a5 a6 a7 a8 a9 a10 a11 a12 a13 a14 a15 a16 a17 N L Q M, es_R g key s f1 f2 f3 f4 a1 a2 a3 a4 a5 a6 a7 a8 a9 a10 a11 a12 a13 a14 a15 a16 a17 N L Q M → k1 N L Q M = true → post 1 (f1, f2, f3, f4, a1, a2, a3, a4, a5, a6, a7, a8, a9, a10, a11, a12, a13, a14, a15, a16, a17)) (h5 : ∀ f1 f2 f3 f4 a1 a2 a3 a4 a5 a6 a7 a8 a9 a10 a11 a12 a13 a14 a15 a16 a17 N L Q M, es_R g key s f1 f2 f3 f4 a1 a2 a3 a4 a5 a6 a7 a8 a9 a10 a11 a12 a13 a14 a15 a16 a17 N L Q M → k5 N L Q M = true → post (-5) (f1, f2, f3, f4, a1, a2, a3, a4, a5, a6, a7, a8, a9, a10, a11, a12, a13, a14, a15, a16, a17)) : wX_member_81 post x1 x2 x3 z0 f1 f2 f3 f4 a1 a2 a3 a4 a5 a6 a7 a8 a9 a10 a11 a12 a13 a14 a15 a16 a17 := by
  unfold wX_member_81
  exact es_s_reachedBy R V3 (fun r W => es_s_isMost W Vw h (fun h => br_f (by decide) (es_eq V2 (es_vl 0 0) h (fun _ h => es_s_m14 R V1 V3 (es_vw (es_vl 5 5)) h hk) (fun _ h => es_s_m14 R V1 V3 (es_vw (es_vl 4 4)) h hk))) (fun h => br_t rfl (h5 _ _ _ _ _ _ _ _ _ _ _ _ _ _ _ _ _ _ _ _ _ _ _ _ _ R h)))
theorem es_s_m46 {post : Int32 → St2 → Prop} {k1 k0 k4 k5 : Nat → Nat → Nat → Nat → Bool} (R : es_R g key s f1 f2 f3 f4 a1 a2 a3 a4 a5 a6 a7 a8 a9 a10 a11 a12 a13 a14 a15 a16 a17 N L Q M) {x1 x2 x3 x4 x5 z0 : Int32} {n p fl all z : Nat} (V1 : es_V x1 p 5) (V2 : es_V x2 fl 2) (V3 : es_V x3 n 5) (V4 : es_V x4 all 32) (V5 : es_V x5 (Nat.shiftLeft 1 p) 32) (Vz : es_V z0 z 2) (h : es_m46 k1 k0 k4 k5 N L Q M n p fl all z = true) (hk : ∀ f1 f2 f3 f4 a1 a2 a3 a4 a5 a6 a7 a8 a9 a10 a11 a12 a13 a14 a15 a16 a17 N L Q M, es_R g key s f1 f2 f3 f4 a1 a2 a3 a4 a5 a6 a7 a8 a9 a10 a11 a12 a13 a14 a15 a16 a17 N L Q M → k1 N L Q M = true → post 1 (f1, f2, f3, f4, a1, a2, a3, a4, a5, a6, a7, a8, a9, a10, a11, a12, a13, a14, a15, a16, a17)) (h0 : ∀ f1 f2 f3 f4 a1 a2 a3 a4 a5 a6 a7 a8 a9 a10 a11 a12 a13 a14 a15 a16 a17 N L Q M, es_R g key s f1 f2 f3 f4 a1 a2 a3 a4 a5 a6 a7 a8 a9 a10 a11 a12 a13 a14 a15 a16 a17 N L Q M → k0 N L Q M = true → post 0 (f1, f2, f3, f4, a1, a2, a3, a4, a5, a6, a7, a8, a9, a10, a11, a12, a13, a14, a15, a16, a17)) (h4 : ∀ f1 f2 f3 f4 a1 a2 a3 a4 a5 a6 a7 a8 a9 a10 a11 a12 a13 a14 a15 a16 a17 N L Q M, es_R g key s f1 f2 f3 f4 a1 a2 a3 a4 a5 a6 a7 a8 a9 a10 a11 a12 a13 a14 a15 a16 a17 N L Q M → k4 N L Q M = true → post (-4) (f1, f2, f3, f4, a1, a2, a3, a4, a5, a6, a7, a8, a9, a10, a11, a12, a13, a14, a15, a16, a17)) (h5 : ∀ f1 f2 f3 f4 a1 a2 a3 a4 a5 a6 a7 a8 a9 a10 a11 a12 a13 a14 a15 a16 a17 N L Q M, es_R g key s f1 f2 f3 f4 a1 a2 a3 a4 a5 a6 a7 a8 a9 a10 a11 a12 a13 a14 a15 a16 a17 N L Q M → k5 N L Q M = true → post (-5) (f1, f2, f3, f4, a1, a2, a3, a4, a5, a6, a7, a8, a9, a10, a11, a12, a13, a14, a15, a16, a17)) : wX_member_46 post x1 x2 x3 x4 x5 z0 f1 f2 f3 f4 a1 a2 a3 a4 a5 a6 a7 a8 a9 a10 a11 a12 a13 a14 a15 a16 a17 :=
  es_eq Vz V2 h (fun _ h => h0 _ _ _ _ _ _ _ _ _ _ _ _ _ _ _ _ _ _ _ _ _ _ _ _ _ R h) (fun _ h => es_eq V4 V5 h (fun _ h => h4 _ _ _ _ _ _ _ _ _ _ _ _ _ _ _ _ _ _ _ _ _ _ _ _ _ R h) (fun _ h => es_eq V2 (es_vl 0 0) h (fun _ h => es_s_m81 R V1 V2 V3 (es_vcl V4 V5) h hk h5) (fun _ h => es_s_m81 R V1 V2 V3 (es_vor V4 V5) h hk h5)))
theorem es_s_member {post : Int32 → St2 → Prop} {k1 k0 k2 k4 k5 : Nat → Nat → Nat → Nat → Bool} (R : es_R g key s f1 f2 f3 f4 a1 a2 a3 a4 a5 a6 a7 a8 a9 a10 a11 a12 a13 a14 a15 a16 a17 N L Q M) {p0 p1 : Int32} {p fl : Nat} (V0 : es_V p0 p 5) (V1 : es_V p1 fl 2) (h : es_me k1 k0 k2 k4 k5 N L Q M p fl = true) (hk : ∀ f1 f2 f3 f4 a1 a2 a3 a4 a5 a6 a7 a8 a9 a10 a11 a12 a13 a14 a15 a16 a17 N L Q M, es_R g key s f1 f2 f3 f4 a1 a2 a3 a4 a5 a6 a7 a8 a9 a10 a11 a12 a13 a14 a15 a16 a17 N L Q M → k1 N L Q M = true → post 1 (f1, f2, f3, f4, a1, a2, a3, a4, a5, a6, a7, a8, a9, a10, a11, a12, a13, a14, a15, a16, a17)) (h0 : ∀ f1 f2 f3 f4 a1 a2 a3 a4 a5 a6 a7 a8 a9 a10 a11 a12 a13 a14 a15 a16 a17 N L Q M, es_R g key s f1 f2 f3 f4 a1 a2 a3 a4 a5 a6 a7 a8 a9 a10 a11 a12 a13 a14 a15 a16 a17 N L Q M → k0 N L Q M = true → post 0 (f1, f2, f3, f4, a1, a2, a3, a4, a5, a6, a7, a8, a9, a10, a11, a12, a13, a14, a15, a16, a17)) (h2 : ∀ f1 f2 f3 f4 a1 a2 a3 a4 a5 a6 a7 a8 a9 a10 a11 a12 a13 a14 a15 a16 a17 N L Q M, es_R g key s f1 f2 f3 f4 a1 a2 a3 a4 a5 a6 a7 a8 a9 a10 a11 a12 a13 a14 a15 a16 a17 N L Q M → k2 N L Q M = true → post (-2) (f1, f2, f3, f4, a1, a2, a3, a4, a5, a6, a7, a8, a9, a10, a11, a12, a13, a14, a15, a16, a17)) (h4 : ∀ f1 f2 f3 f4 a1 a2 a3 a4 a5 a6 a7 a8 a9 a10 a11 a12 a13 a14 a15 a16 a17 N L Q M, es_R g key s f1 f2 f3 f4 a1 a2 a3 a4 a5 a6 a7 a8 a9 a10 a11 a12 a13 a14 a15 a16 a17 N L Q M → k4 N L Q M = true → post (-4) (f1, f2, f3, f4, a1, a2, a3, a4, a5, a6, a7, a8, a9, a10, a11, a12, a13, a14, a15, a16, a17)) (h5 : ∀ f1 f2 f3 f4 a1 a2 a3 a4 a5 a6 a7 a8 a9 a10 a11 a12 a13 a14 a15 a16 a17 N L Q M, es_R g key s f1 f2 f3 f4 a1 a2 a3 a4 a5 a6 a7 a8 a9 a10 a11 a12 a13 a14 a15 a16 a17 N L Q M → k5 N L Q M = true → post (-5) (f1, f2, f3, f4, a1, a2, a3, a4, a5, a6, a7, a8, a9, a10, a11, a12, a13, a14, a15, a16, a17)) : wpX_member post (f1, f2, f3, f4, a1, a2, a3, a4, a5, a6, a7, a8, a9, a10, a11, a12, a13, a14, a15, a16, a17) p0 p1 := by
  unfold wpX_member
  exact es_s_isNode V0 (br_f (by decide) (es_s_leaderNow R h (fun h => br_f (by decide) (h2 _ _ _ _ _ _ _ _ _ _ _ _ _ _ _ _ _ _ _ _ _ _ _ _ _ R h)) (fun r n W h => es_leT (es_vl 0 0) W (Nat.zero_le _) (es_s_mem R W h (fun r' all Wa h => fun x5 e5 => es_eq (es_van Wa (es_vq e5 (es_vsh V0))) (es_vl 0 0) h (fun _ h => es_s_m46 R V0 V1 W Wa (es_vq e5 (es_vsh V0)) (es_vw (es_vl 0 0)) h hk h0 h4 h5) (fun _ h => es_s_m46 R V0 V1 W Wa (es_vq e5 (es_vsh V0)) (es_vl 1 1) h hk h0 h4 h5))))))
/-! isMember -/
theorem es_ims {post : Int32 → Prop} {k : Nat → Bool} (R : es_R g key s f1 f2 f3 f4 a1 a2 a3 a4 a5 a6 a7 a8 a9 a10 a11 a12 a13 a14 a15 a16 a17 N L Q M) {x1 x2 x3 : Int32} {b x f : Nat} (V2 : es_V x2 b 5) (V3 : es_V x3 x 5) (h : es_im1 k N x b = true) (hn : ∀ y2 y3 c, es_V y2 c 5 → es_V y3 (x + 1) 6 → k c = true → wX_isMember_13 post x1 f1 f2 f3 f4 a1 a2 a3 a4 a5 a6 a7 a8 a9 a10 a11 a12 a13 a14 a15 a16 a17 f y2 y3) : wX_isMember_13 post x1 f1 f2 f3 f4 a1 a2 a3 a4 a5 a6 a7 a8 a9 a10 a11 a12 a13 a14 a15 a16 a17 (f + 1) x2 x3 :=
  es_leF (es_vl 5 5) V3 V3.2 ⟨es_in V3 V3.2, es_in V2 V2.2, es_le (es_r11 R V3) (es_r11 R V2) h (fun _ h => fun y ey => hn _ _ _ V2 (es_vq ey (es_v1 V3)) h) (fun _ h => fun y ey => hn _ _ _ V3 (es_vq ey (es_v1 V3)) h)⟩
theorem es_s_isMember {post : Int32 → Prop} {k : Nat → Bool} (R : es_R g key s f1 f2 f3 f4 a1 a2 a3 a4 a5 a6 a7 a8 a9 a10 a11 a12 a13 a14 a15 a16 a17 N L Q M) {p0 : Int32} {p : Nat} (V0 : es_V p0 p 5) (h : es_im k N p = true) (hk : ∀ r c, es_V r c 2 → k c = true → post r) : wpX_isMember post (f1, f2, f3, f4, a1, a2, a3, a4, a5, a6, a7, a8, a9, a10, a11, a12, a13, a14, a15, a16, a17) p0 := by
  unfold wpX_isMember
  exact es_s_isNode V0 (br_f (by decide) ⟨5, es_ims (x := 1) R (es_vw (es_vl 0 0)) (es_vw (es_vl 1 1)) h (fun y2 y3 c W2 W3 h => es_ims (x := 2) R W2 (es_vb W3 (by decide)) h (fun y2 y3 c W2 W3 h => es_ims (x := 3) R W2 (es_vb W3 (by decide)) h (fun y2 y3 c W2 W3 h => es_ims (x := 4) R W2 (es_vb W3 (by decide)) h (fun y2 y3 c W2 W3 h => es_leT (es_vl 5 5) W3 (by decide) ⟨es_in (es_r12m R W2).1 (es_r12m R W2).1.2, hk _ _ (es_vbit (es_vb (es_r12m R W2).2 (Nat.lt_succ_of_le (es_gle (es_fe h :)).1)) V0) (es_fe (es_gle (es_fe h :)).2 :)⟩))))⟩)
end
end
section
/-! faults: no fault is found, nothing is stored but wrong, which stays 0 -/
noncomputable def es_f79 (k : Bool) (N L n : Nat) (f : Nat) : Nat → Bool := @Nat.rec (fun _ => Nat → Bool) (fun _ => false) (fun _ ih i => es_i (Nat.ble i (es_la N n)) (es_tm (fun t => es_tm (fun t' => es_i (Nat.ble t' t) (es_tm (fun t2 => es_i (Nat.ble t2 (es_rd N (Nat.add 15 n))) (es_f (Nat.add i 1) ih) false) N L n i) false) N L n (Nat.sub i 1)) N L n i) k) f
noncomputable def es_fn (k : Nat → Bool) (N L n c : Nat) : Bool := es_f (Nat.add c (es_n (Nat.beq (es_rd N (Nat.add 10 n)) 1) 1)) (fun c' => es_i (Nat.ble (es_rd N (Nat.add 30 n)) (es_rd N (Nat.add 45 n))) (es_i (Nat.ble (es_rd N (Nat.add 45 n)) (es_la N n)) (es_f (Nat.add (es_rd N (Nat.add 30 n)) 1) (es_f79 (k c') N L n 20)) false) false)
noncomputable def es_c64 (k : Bool) (N L n o to : Nat) (f : Nat) : Nat → Bool := @Nat.rec (fun _ => Nat → Bool) (fun _ => false) (fun _ ih i => es_i (Nat.ble i to) (es_tm (fun t => es_tm (fun t' => es_i (Nat.beq t t') (es_cell (fun c => es_cell (fun c' => es_i (Nat.beq (es_ck L c 7) (es_ck L c' 7)) (es_f (Nat.add i 1) ih) false) N o i) N n i) (es_i (Nat.ble i (es_rd N (Nat.add 45 n))) (es_i (Nat.ble i (es_rd N (Nat.add 45 o))) false (es_f (Nat.add i 1) ih)) (es_f (Nat.add i 1) ih))) N L o i) N L n i) (es_i (Nat.beq (es_rd N (Nat.add 45 n)) (es_rd N (Nat.add 45 o))) (es_i (Nat.beq (es_ck N (Nat.add 100 (Nat.mul 4 n)) 3) (es_ck N (Nat.add 100 (Nat.mul 4 o)) 3)) k false) k)) f
noncomputable def es_c30 (k : Bool) (N L n o b : Nat) : Bool := es_i (Nat.ble (es_la N o) (es_la N n)) (es_f (es_la N o) (fun to => es_f (Nat.add b 1) (es_c64 k N L n o to 20))) (es_f (es_la N n) (fun to => es_f (Nat.add b 1) (es_c64 k N L n o to 20)))
noncomputable def es_fc (k : Bool) (N L n o : Nat) : Bool := es_i (Nat.ble (es_rd N (Nat.add 30 n)) (es_rd N (Nat.add 30 o))) (es_f (es_rd N (Nat.add 30 o)) (es_c30 k N L n o)) (es_f (es_rd N (Nat.add 30 n)) (es_c30 k N L n o))
noncomputable def es_fl (k : Bool) (N L : Nat) (f : Nat) : Nat → Bool := @Nat.rec (fun _ => Nat → Bool) (fun _ => false) (fun _ ih x => es_i (Nat.ble 25 x) k (es_f (Nat.div x 5) (fun n => es_f (Nat.mod x 5) (fun o => es_fc (es_f (Nat.add x 1) ih) N L n o)))) f
noncomputable def es_fa (k : Bool) (N L : Nat) : Bool := es_fn (es_fn (es_fn (es_fn (es_fn (fun c => es_i (Nat.ble 2 c) false (es_i (Nat.beq (es_rd N 121) 0) (es_fl k N L 26 0) false)) N L 4) N L 3) N L 2) N L 1) N L 0 0
section
variable {g : Nat → Int32} {key s : Nat} {f1 f2 f3 f4 : Int32} {a1 a2 a3 a4 a5 a6 a7 a8 a9 a10 a11 a12 a13 a14 a15 a16 a17 : Nat → Int32} {N L Q M : Nat}
theorem es_m4 (R : es_R g key s f1 f2 f3 f4 a1 a2 a3 a4 a5 a6 a7 a8 a9 a10 a11 a12 a13 a14 a15 a16 a17 N L Q M) {x' : Int32} (e : x' = 0) : es_R g key s f1 f2 f3 x' a1 a2 a3 a4 a5 a6 a7 a8 a9 a10 a11 a12 a13 a14 a15 a16 a17 N L Q M := ⟨R.1, R.2.1, R.2.2.1, R.2.2.2.1, e, R.2.2.2.2.2⟩
theorem es_s_expect {post : St2 → Prop} (R : es_R g key s f1 f2 f3 f4 a1 a2 a3 a4 a5 a6 a7 a8 a9 a10 a11 a12 a13 a14 a15 a16 a17 N L Q M) (hk : ∀ f4, es_R g key s f1 f2 f3 f4 a1 a2 a3 a4 a5 a6 a7 a8 a9 a10 a11 a12 a13 a14 a15 a16 a17 N L Q M → post (f1, f2, f3, f4, a1, a2, a3, a4, a5, a6, a7, a8, a9, a10, a11, a12, a13, a14, a15, a16, a17)) : wpX_expect post (f1, f2, f3, f4, a1, a2, a3, a4, a5, a6, a7, a8, a9, a10, a11, a12, a13, a14, a15, a16, a17) 1 :=
  br_f (by decide) (fun f e => hk f (es_m4 R (e.trans (by rw [es_pf4 R]; rfl))))
theorem es_s_f79 {post : Int32 → St2 → Prop} {J : Int32 → Int32 → Int32 → Int32 → Int32 → Int32 → (Nat → Int32) → (Nat → Int32) → (Nat → Int32) → (Nat → Int32) → (Nat → Int32) → (Nat → Int32) → (Nat → Int32) → (Nat → Int32) → (Nat → Int32) → (Nat → Int32) → (Nat → Int32) → (Nat → Int32) → (Nat → Int32) → (Nat → Int32) → (Nat → Int32) → (Nat → Int32) → (Nat → Int32) → Prop} {x1 x2 : Int32} {n : Nat} {k : Bool} (V2 : es_V x2 n 5) (hj : ∀ f4 y, es_R g key s f1 f2 f3 f4 a1 a2 a3 a4 a5 a6 a7 a8 a9 a10 a11 a12 a13 a14 a15 a16 a17 N L Q M → es_V y (n + 1) 6 → k = true → J x1 y f1 f2 f3 f4 a1 a2 a3 a4 a5 a6 a7 a8 a9 a10 a11 a12 a13 a14 a15 a16 a17) : ∀ (f : Nat) (x3 : Int32) (i : Nat) (f4 : Int32), es_V x3 i 1024 → 1 ≤ i → es_R g key s f1 f2 f3 f4 a1 a2 a3 a4 a5 a6 a7 a8 a9 a10 a11 a12 a13 a14 a15 a16 a17 N L Q M → es_f79 k N L n f i = true → wX_faults_79 post J x1 x2 f x3 f1 f2 f3 f4 a1 a2 a3 a4 a5 a6 a7 a8 a9 a10 a11 a12 a13 a14 a15 a16 a17 := by
  intro f
  induction f with
  | zero => intro x3 i f4 V3 h1 R h; exact es_ff h
  | succ f ih =>
    intro x3 i f4 V3 h1 R h
    unfold wX_faults_79
    refine es_s_lastOf R V2 (fun r W => es_lt W V3 h (fun _ h => fun y ey => hj f4 y R (es_vq ey (es_v1 V2)) h) (fun hl h => es_s_termAt R V2 V3 h (fun r1 t W1 h => es_s_termAt R V2 (es_vs V3 (es_vl 1 1) h1) h (fun r2 t' W2 h => es_lt W1 W2 h (fun _ h => es_ff h) (fun _ h => es_s_termAt R V2 V3 h (fun r3 t2 W3 h => ⟨es_in V2 V2.2, es_lt (es_r4 R V2) W3 h (fun _ h => es_ff h) (fun _ h => ?_)⟩))))))
    unfold wX_faults_126
    exact es_s_expect R (fun f4 R y ey => ih y (i + 1) f4 (es_vb (es_vq ey (es_v1 V3)) (by have := W.2; omega)) (by omega) R (es_fe h :))
theorem es_s_f30 {post : Int32 → St2 → Prop} {J : Int32 → Int32 → Int32 → Int32 → Int32 → Int32 → (Nat → Int32) → (Nat → Int32) → (Nat → Int32) → (Nat → Int32) → (Nat → Int32) → (Nat → Int32) → (Nat → Int32) → (Nat → Int32) → (Nat → Int32) → (Nat → Int32) → (Nat → Int32) → (Nat → Int32) → (Nat → Int32) → (Nat → Int32) → (Nat → Int32) → (Nat → Int32) → (Nat → Int32) → Prop} (R : es_R g key s f1 f2 f3 f4 a1 a2 a3 a4 a5 a6 a7 a8 a9 a10 a11 a12 a13 a14 a15 a16 a17 N L Q M) {x2 z0 z1 : Int32} {n c d : Nat} {k : Nat → Bool} (V2 : es_V x2 n 5) (V0 : es_V z0 d 2) (V1 : es_V z1 c 8) (h : es_i (Nat.ble (es_rd N (Nat.add 30 n)) (es_rd N (Nat.add 45 n))) (es_i (Nat.ble (es_rd N (Nat.add 45 n)) (es_la N n)) (es_f (Nat.add (es_rd N (Nat.add 30 n)) 1) (es_f79 (k (c + d)) N L n 20)) false) false = true) (hj : ∀ f4 y1 y, es_R g key s f1 f2 f3 f4 a1 a2 a3 a4 a5 a6 a7 a8 a9 a10 a11 a12 a13 a14 a15 a16 a17 N L Q M → es_V y1 (c + d) 10 → es_V y (n + 1) 6 → k (c + d) = true → J y1 y f1 f2 f3 f4 a1 a2 a3 a4 a5 a6 a7 a8 a9 a10 a11 a12 a13 a14 a15 a16 a17) : wX_faults_30 post J x2 z0 z1 f1 f2 f3 f4 a1 a2 a3 a4 a5 a6 a7 a8 a9 a10 a11 a12 a13 a14 a15 a16 a17 := by
  intro x1 e1
  have g1 := es_gle h
  have g2 := es_gle g1.2
  refine ⟨es_in V2 V2.2, es_in V2 V2.2, es_ltF (es_r11 R V2) (es_r7 R V2) g1.1 ⟨es_in V2 V2.2, es_s_lastOf R V2 (fun r W => es_ltF W (es_r11 R V2) g2.1 ?_)⟩⟩
  unfold wX_faults_67
  exact es_s_expect R (fun f4 R => ⟨es_in V2 V2.2, fun x3 e3 => ⟨20, es_s_f79 V2 (fun f4 y R W hk => hj f4 x1 y R (es_vq e1 (es_va V1 V0)) W hk) 20 x3 _ f4 (es_vw (es_vq e3 (es_v1 (es_r7 R V2)))) (Nat.succ_le_succ (Nat.zero_le _)) R (es_fe g2.2 :)⟩⟩)
theorem es_fns {post : Int32 → St2 → Prop} {k : Nat → Bool} (R : es_R g key s f1 f2 f3 f4 a1 a2 a3 a4 a5 a6 a7 a8 a9 a10 a11 a12 a13 a14 a15 a16 a17 N L Q M) {x1 x2 : Int32} {n c f : Nat} (V1 : es_V x1 c 8) (V2 : es_V x2 n 5) (h : es_fn k N L n c = true) (hn : ∀ f4 y1 y c', es_R g key s f1 f2 f3 f4 a1 a2 a3 a4 a5 a6 a7 a8 a9 a10 a11 a12 a13 a14 a15 a16 a17 N L Q M → es_V y1 c' 10 → c' ≤ c + 1 → es_V y (n + 1) 6 → k c' = true → wX_faults_9 post f y1 y f1 f2 f3 f4 a1 a2 a3 a4 a5 a6 a7 a8 a9 a10 a11 a12 a13 a14 a15 a16 a17) : wX_faults_9 post (f + 1) x1 x2 f1 f2 f3 f4 a1 a2 a3 a4 a5 a6 a7 a8 a9 a10 a11 a12 a13 a14 a15 a16 a17 := by
  refine es_leF (es_vl 5 5) V2 V2.2 ⟨es_in V2 V2.2, ?_⟩
  have h1 := es_fe h
  cases j : Nat.beq (es_rd N (Nat.add 10 n)) 1 with
  | true =>
    rw [j] at h1
    exact es_eqT (es_r3 R V2) (es_vl 1 1) (es_beqT j) (es_s_f30 (d := 1) R V2 (es_vl 1 1) V1 h1 (fun f4 y1 y R W1 W hk => hn f4 y1 y _ R W1 (by omega) W hk))
  | false =>
    rw [j] at h1
    exact es_eqF (es_r3 R V2) (es_vl 1 1) (es_beqF j) (es_s_f30 (d := 0) R V2 (es_vw (es_vl 0 0)) V1 h1 (fun f4 y1 y R W1 W hk => hn f4 y1 y _ R W1 (by omega) W hk))
theorem es_s_19 {post : Int32 → Prop} {x4 x5 : Int32} {c d : Nat} (V4 : es_V x4 c 560) (hc : c + 6 < 560) (V5 : es_V x5 d 560) (hd : d + 6 < 560) (H : ∀ j, j < 7 → a10 (c + j) = a10 (d + j)) (hp : post 1) : ∀ (e i : Nat) (x6 : Int32), i + e = 7 → es_V x6 i 8 → wX_isSameEntry_19 post x4 x5 f1 f2 f3 f4 a1 a2 a3 a4 a5 a6 a7 a8 a9 a10 a11 a12 a13 a14 a15 a16 a17 (e + 1) x6 := by
  intro e
  induction e with
  | zero =>
    intro i x6 hi V6
    exact es_leT (es_vl 7 7) V6 (by omega) hp
  | succ e ih =>
    intro i x6 hi V6
    have W1 : es_V (x4 + x6) (c + i) 560 := es_vb (es_va V4 V6) (by omega)
    have W2 : es_V (x5 + x6) (d + i) 560 := es_vb (es_va V5 V6) (by omega)
    exact es_leF (es_vl 7 7) V6 (by omega) ⟨es_in W1 W1.2, es_in W2 W2.2, br_t (by rw [es_clamp W1, es_clamp W2]; exact H i (by omega)) (fun y ey => ih (i + 1) y (by omega) (es_vb (es_vq ey (es_v1 V6)) (by omega)))⟩
theorem es_s_sameEntry {post : Int32 → Prop} {t : Bool} (R : es_R g key s f1 f2 f3 f4 a1 a2 a3 a4 a5 a6 a7 a8 a9 a10 a11 a12 a13 a14 a15 a16 a17 N L Q M) {p0 p1 p2 : Int32} {n o i : Nat} (V0 : es_V p0 n 5) (V1 : es_V p1 o 5) (V2 : es_V p2 i 1024) (h : es_cell (fun c => es_cell (fun c' => es_i (Nat.beq (es_ck L c 7) (es_ck L c' 7)) t false) N o i) N n i = true) (hp : t = true → post 1) : wpX_isSameEntry post (f1, f2, f3, f4, a1, a2, a3, a4, a5, a6, a7, a8, a9, a10, a11, a12, a13, a14, a15, a16, a17) p0 p1 p2 := by
  unfold wpX_isSameEntry
  exact es_s_cellOf R V0 V2 h (fun r c W hc h => es_s_cellOf R V1 V2 h (fun r' d W' hd h => ⟨8, es_s_19 W hc W' hd (fun j hj => by
    rw [es_pa10 R (c + j) (by omega), es_pa10 R (d + j) (by omega), es_ck_eq (es_geq h).1 j hj]) (hp (es_geq h).2) 7 0 0 rfl (es_vw (es_vl 0 0))⟩))
theorem es_s_160 {post : St2 → Prop} {J : Int32 → Int32 → Int32 → Int32 → Int32 → (Nat → Int32) → (Nat → Int32) → (Nat → Int32) → (Nat → Int32) → (Nat → Int32) → (Nat → Int32) → (Nat → Int32) → (Nat → Int32) → (Nat → Int32) → (Nat → Int32) → (Nat → Int32) → (Nat → Int32) → (Nat → Int32) → (Nat → Int32) → (Nat → Int32) → (Nat → Int32) → (Nat → Int32) → Prop} (R : es_R g key s f1 f2 f3 f4 a1 a2 a3 a4 a5 a6 a7 a8 a9 a10 a11 a12 a13 a14 a15 a16 a17 N L Q M) {x1 x2 x4 x5 : Int32} (hj : ∀ f4 y, es_R g key s f1 f2 f3 f4 a1 a2 a3 a4 a5 a6 a7 a8 a9 a10 a11 a12 a13 a14 a15 a16 a17 N L Q M → y = x5 + 1 → J y f1 f2 f3 f4 a1 a2 a3 a4 a5 a6 a7 a8 a9 a10 a11 a12 a13 a14 a15 a16 a17) : wX_compare_160 post J x1 x2 x4 x5 f1 f2 f3 f4 a1 a2 a3 a4 a5 a6 a7 a8 a9 a10 a11 a12 a13 a14 a15 a16 a17 := by
  unfold wX_compare_160 wX_compare_165
  exact es_s_expect R (fun f4 R y ey => hj f4 y R ey)
theorem es_s_93a {post : St2 → Prop} {J : Int32 → Int32 → Int32 → Int32 → Int32 → (Nat → Int32) → (Nat → Int32) → (Nat → Int32) → (Nat → Int32) → (Nat → Int32) → (Nat → Int32) → (Nat → Int32) → (Nat → Int32) → (Nat → Int32) → (Nat → Int32) → (Nat → Int32) → (Nat → Int32) → (Nat → Int32) → (Nat → Int32) → (Nat → Int32) → (Nat → Int32) → (Nat → Int32) → Prop} {t : Bool} (R : es_R g key s f1 f2 f3 f4 a1 a2 a3 a4 a5 a6 a7 a8 a9 a10 a11 a12 a13 a14 a15 a16 a17 N L Q M) {x1 x2 x4 x5 : Int32} {n o i : Nat} (V1 : es_V x1 n 5) (V2 : es_V x2 o 5) (V5 : es_V x5 i 1024) (h : es_cell (fun c => es_cell (fun c' => es_i (Nat.beq (es_ck L c 7) (es_ck L c' 7)) t false) N o i) N n i = true) (hj : ∀ f4 y, es_R g key s f1 f2 f3 f4 a1 a2 a3 a4 a5 a6 a7 a8 a9 a10 a11 a12 a13 a14 a15 a16 a17 N L Q M → y = x5 + 1 → t = true → J y f1 f2 f3 f4 a1 a2 a3 a4 a5 a6 a7 a8 a9 a10 a11 a12 a13 a14 a15 a16 a17) : wX_compare_93 post J x1 x2 x4 x5 1 f1 f2 f3 f4 a1 a2 a3 a4 a5 a6 a7 a8 a9 a10 a11 a12 a13 a14 a15 a16 a17 := by
  have Y : wX_compare_135 post J x1 x2 x4 x5 1 f1 f2 f3 f4 a1 a2 a3 a4 a5 a6 a7 a8 a9 a10 a11 a12 a13 a14 a15 a16 a17 := by
    unfold wX_compare_135 wX_compare_140
    exact es_s_expect R (fun f4 R => br_f (by decide) (es_s_sameEntry R V1 V2 V5 h (fun ht => br_f (by decide) (es_s_160 R (fun f4 y R ey => hj f4 y R ey ht)))))
  exact ⟨es_in V1 V1.2, br_c (fun _ => br_f (by decide) Y) (fun _ => ⟨es_in V2 V2.2, br_c (fun _ => br_f (by decide) Y) (fun _ => br_f (by decide) Y)⟩)⟩
theorem es_s_93b {post : St2 → Prop} {J : Int32 → Int32 → Int32 → Int32 → Int32 → (Nat → Int32) → (Nat → Int32) → (Nat → Int32) → (Nat → Int32) → (Nat → Int32) → (Nat → Int32) → (Nat → Int32) → (Nat → Int32) → (Nat → Int32) → (Nat → Int32) → (Nat → Int32) → (Nat → Int32) → (Nat → Int32) → (Nat → Int32) → (Nat → Int32) → (Nat → Int32) → (Nat → Int32) → Prop} {t : Bool} (R : es_R g key s f1 f2 f3 f4 a1 a2 a3 a4 a5 a6 a7 a8 a9 a10 a11 a12 a13 a14 a15 a16 a17 N L Q M) {x1 x2 x4 x5 : Int32} {n o i : Nat} (V1 : es_V x1 n 5) (V2 : es_V x2 o 5) (V5 : es_V x5 i 1024) (h : es_i (Nat.ble i (es_rd N (Nat.add 45 n))) (es_i (Nat.ble i (es_rd N (Nat.add 45 o))) false t) t = true) (hj : ∀ f4 y, es_R g key s f1 f2 f3 f4 a1 a2 a3 a4 a5 a6 a7 a8 a9 a10 a11 a12 a13 a14 a15 a16 a17 N L Q M → y = x5 + 1 → t = true → J y f1 f2 f3 f4 a1 a2 a3 a4 a5 a6 a7 a8 a9 a10 a11 a12 a13 a14 a15 a16 a17) : wX_compare_93 post J x1 x2 x4 x5 0 f1 f2 f3 f4 a1 a2 a3 a4 a5 a6 a7 a8 a9 a10 a11 a12 a13 a14 a15 a16 a17 := by
  have Y : t = true → wX_compare_121 post J x1 x2 x4 x5 0 f1 f2 f3 f4 a1 a2 a3 a4 a5 a6 a7 a8 a9 a10 a11 a12 a13 a14 a15 a16 a17 := fun ht => br_t rfl (br_t rfl (by
    unfold wX_compare_135 wX_compare_140
    exact es_s_expect R (fun f4 R => br_t rfl (es_s_160 R (fun f4 y R ey => hj f4 y R ey ht)))))
  exact ⟨es_in V1 V1.2, es_lt (es_r11 R V1) V5 h (fun _ h => Y h) (fun _ h => ⟨es_in V2 V2.2, es_lt (es_r11 R V2) V5 h (fun _ h => Y h) (fun _ h => es_ff h)⟩)⟩
theorem es_s_199 {post : St2 → Prop} (R : es_R g key s f1 f2 f3 f4 a1 a2 a3 a4 a5 a6 a7 a8 a9 a10 a11 a12 a13 a14 a15 a16 a17 N L Q M) (hk : ∀ f4, es_R g key s f1 f2 f3 f4 a1 a2 a3 a4 a5 a6 a7 a8 a9 a10 a11 a12 a13 a14 a15 a16 a17 N L Q M → post (f1, f2, f3, f4, a1, a2, a3, a4, a5, a6, a7, a8, a9, a10, a11, a12, a13, a14, a15, a16, a17)) : wX_compare_199 post f1 f2 f3 f4 a1 a2 a3 a4 a5 a6 a7 a8 a9 a10 a11 a12 a13 a14 a15 a16 a17 := by
  unfold wX_compare_199 wX_compare_204
  exact es_s_expect R hk
theorem es_s_c64 {post : St2 → Prop} {k : Bool} {x1 x2 x4 : Int32} {n o to : Nat} (V1 : es_V x1 n 5) (V2 : es_V x2 o 5) (V4 : es_V x4 to 512) (hk : ∀ f4, es_R g key s f1 f2 f3 f4 a1 a2 a3 a4 a5 a6 a7 a8 a9 a10 a11 a12 a13 a14 a15 a16 a17 N L Q M → k = true → post (f1, f2, f3, f4, a1, a2, a3, a4, a5, a6, a7, a8, a9, a10, a11, a12, a13, a14, a15, a16, a17)) : ∀ (f : Nat) (x5 : Int32) (i : Nat) (f4 : Int32), es_V x5 i 1024 → es_R g key s f1 f2 f3 f4 a1 a2 a3 a4 a5 a6 a7 a8 a9 a10 a11 a12 a13 a14 a15 a16 a17 N L Q M → es_c64 k N L n o to f i = true → wX_compare_64 post x1 x2 x4 f x5 f1 f2 f3 f4 a1 a2 a3 a4 a5 a6 a7 a8 a9 a10 a11 a12 a13 a14 a15 a16 a17 := by
  intro f
  induction f with
  | zero => intro x5 i f4 V5 R h; exact es_ff h
  | succ f ih =>
    intro x5 i f4 V5 R h
    refine es_lt V4 V5 h (fun _ h => ⟨es_in V1 V1.2, es_in V2 V2.2, es_eq (es_r11 R V1) (es_r11 R V2) h (fun _ h => es_s_areSame R V1 V2 (es_geq h).1 (br_f (by decide) (es_s_199 R (fun f4 R => hk f4 R (es_geq h).2)))) (fun _ h => es_s_199 R (fun f4 R => hk f4 R h))⟩) (fun hl h => ?_)
    have nx : ∀ f4 y, es_R g key s f1 f2 f3 f4 a1 a2 a3 a4 a5 a6 a7 a8 a9 a10 a11 a12 a13 a14 a15 a16 a17 N L Q M → y = x5 + 1 → es_f (Nat.add i 1) (es_c64 k N L n o to f) = true → wX_compare_64 post x1 x2 x4 f y f1 f2 f3 f4 a1 a2 a3 a4 a5 a6 a7 a8 a9 a10 a11 a12 a13 a14 a15 a16 a17 := fun f4 y R ey h => ih y (i + 1) f4 (es_vb (es_vq ey (es_v1 V5)) (by have := V4.2; omega)) R (es_fe h :)
    exact es_s_termAt R V1 V5 h (fun r t W h => es_s_termAt R V2 V5 h (fun r' t' W' h => es_eq W W' h (fun _ h => es_s_93a R V1 V2 V5 h nx) (fun _ h => es_s_93b R V1 V2 V5 h nx)))
theorem es_s_c30 {post : St2 → Prop} {k : Bool} (R : es_R g key s f1 f2 f3 f4 a1 a2 a3 a4 a5 a6 a7 a8 a9 a10 a11 a12 a13 a14 a15 a16 a17 N L Q M) {x1 x2 z0 : Int32} {n o b : Nat} (V1 : es_V x1 n 5) (V2 : es_V x2 o 5) (V0 : es_V z0 b 256) (h : es_c30 k N L n o b = true) (hk : ∀ f4, es_R g key s f1 f2 f3 f4 a1 a2 a3 a4 a5 a6 a7 a8 a9 a10 a11 a12 a13 a14 a15 a16 a17 N L Q M → k = true → post (f1, f2, f3, f4, a1, a2, a3, a4, a5, a6, a7, a8, a9, a10, a11, a12, a13, a14, a15, a16, a17)) : wX_compare_30 post x1 x2 z0 f1 f2 f3 f4 a1 a2 a3 a4 a5 a6 a7 a8 a9 a10 a11 a12 a13 a14 a15 a16 a17 := by
  unfold wX_compare_30
  exact es_s_lastOf R V1 (fun r W => es_s_lastOf R V2 (fun r' W' => es_le W' W h (fun _ h => es_s_lastOf R V2 (fun r8 W8 => fun x5 e5 => ⟨20, es_s_c64 V1 V2 W8 hk 20 x5 _ f4 (es_vw (es_vq e5 (es_v1 V0))) R (es_fe (es_fe h :) :)⟩)) (fun _ h => es_s_lastOf R V1 (fun r8 W8 => fun x5 e5 => ⟨20, es_s_c64 V1 V2 W8 hk 20 x5 _ f4 (es_vw (es_vq e5 (es_v1 V0))) R (es_fe (es_fe h :) :)⟩))))
theorem es_s_compare {post : St2 → Prop} {k : Bool} (R : es_R g key s f1 f2 f3 f4 a1 a2 a3 a4 a5 a6 a7 a8 a9 a10 a11 a12 a13 a14 a15 a16 a17 N L Q M) {p0 p1 : Int32} {n o : Nat} (V0 : es_V p0 n 5) (V1 : es_V p1 o 5) (h : es_fc k N L n o = true) (hk : ∀ f4, es_R g key s f1 f2 f3 f4 a1 a2 a3 a4 a5 a6 a7 a8 a9 a10 a11 a12 a13 a14 a15 a16 a17 N L Q M → k = true → post (f1, f2, f3, f4, a1, a2, a3, a4, a5, a6, a7, a8, a9, a10, a11, a12, a13, a14, a15, a16, a17)) : wpX_compare post (f1, f2, f3, f4, a1, a2, a3, a4, a5, a6, a7, a8, a9, a10, a11, a12, a13, a14, a15, a16, a17) p0 p1 :=
  ⟨es_in V0 V0.2, es_in V1 V1.2, es_le (es_r7 R V0) (es_r7 R V1) h (fun _ h => ⟨es_in V1 V1.2, es_s_c30 R V0 V1 (es_r7 R V1) (es_fe h :) hk⟩) (fun _ h => ⟨es_in V0 V0.2, es_s_c30 R V0 V1 (es_r7 R V0) (es_fe h :) hk⟩)⟩
theorem es_s_fl {post : Int32 → St2 → Prop} {k : Bool} (hk : ∀ f4, es_R g key s f1 f2 f3 f4 a1 a2 a3 a4 a5 a6 a7 a8 a9 a10 a11 a12 a13 a14 a15 a16 a17 N L Q M → k = true → post f4 (f1, f2, f3, f4, a1, a2, a3, a4, a5, a6, a7, a8, a9, a10, a11, a12, a13, a14, a15, a16, a17)) : ∀ (f : Nat) (x2 : Int32) (x : Nat) (f4 : Int32), es_V x2 x 26 → es_R g key s f1 f2 f3 f4 a1 a2 a3 a4 a5 a6 a7 a8 a9 a10 a11 a12 a13 a14 a15 a16 a17 N L Q M → es_fl k N L f x = true → wX_faults_164 post f x2 f1 f2 f3 f4 a1 a2 a3 a4 a5 a6 a7 a8 a9 a10 a11 a12 a13 a14 a15 a16 a17 := by
  intro f
  induction f with
  | zero => intro x2 x f4 V2 R h; exact es_ff h
  | succ f ih =>
    intro x2 x f4 V2 R h
    refine es_le (es_vl 25 25) V2 h (fun _ h => hk f4 R h) (fun hl h => ⟨by decide, by decide, ?_⟩)
    have Vd : es_V (x2 / 5) (x / 5) 5 := es_vb (es_vdiv V2 (show (5 : Int32) = nI 5 from rfl) (by decide) (by decide) (by decide)) (by omega)
    have Vr : es_V (x2 - x2 / 5 * 5) (x % 5) 5 := es_vrem V2 (show (5 : Int32) = nI 5 from rfl) (by decide) (by decide) (by decide)
    exact es_s_compare R Vd Vr (es_fe (es_fe h :) :) (fun f4 R h => fun y ey => ih y (x + 1) f4 (es_vb (es_vq ey (es_v1 V2)) (by omega)) R (es_fe h :))
theorem es_s_faults {post : Int32 → St2 → Prop} {k : Bool} (R : es_R g key s f1 f2 f3 f4 a1 a2 a3 a4 a5 a6 a7 a8 a9 a10 a11 a12 a13 a14 a15 a16 a17 N L Q M) (h : es_fa k N L = true) (hk : ∀ f4, es_R g key s f1 f2 f3 f4 a1 a2 a3 a4 a5 a6 a7 a8 a9 a10 a11 a12 a13 a14 a15 a16 a17 N L Q M → k = true → post f4 (f1, f2, f3, f4, a1, a2, a3, a4, a5, a6, a7, a8, a9, a10, a11, a12, a13, a14, a15, a16, a17)) : wpX_faults post (f1, f2, f3, f4, a1, a2, a3, a4, a5, a6, a7, a8, a9, a10, a11, a12, a13, a14, a15, a16, a17) := by
  refine ⟨6, es_fns (n := 0) (c := 0) (es_m4 R rfl) (es_vw (es_vl 0 0)) (es_vw (es_vl 0 0)) h (fun f4 y1 y c R W1 hc W h => es_fns (n := 1) R (es_vb W1 (by omega)) (es_vb W (by decide)) h (fun f4 y1 y c R W1 hc W h => es_fns (n := 2) R (es_vb W1 (by omega)) (es_vb W (by decide)) h (fun f4 y1 y c R W1 hc W h => es_fns (n := 3) R (es_vb W1 (by omega)) (es_vb W (by decide)) h (fun f4 y1 y c R W1 hc W h => es_fns (n := 4) R (es_vb W1 (by omega)) (es_vb W (by decide)) h (fun f4 y1 y c R W1 hc W h => es_leT (es_vl 5 5) W (by decide) (es_le (es_vl 2 2) W1 h (fun _ h => es_ff h) (fun _ h => es_eq (es_rf2 R) (es_vl 0 0) h (fun _ h => ?_) (fun _ h => es_ff h))))))))⟩
  unfold wX_faults_159
  exact es_s_expect R (fun f4 R => ⟨26, es_s_fl hk 26 0 0 f4 (es_vw (es_vl 0 0)) R h⟩)
end
end
section
/-! the maker, and the law as a checker -/
noncomputable def es_no : Nat → Nat → Nat → Nat → Bool := fun _ _ _ _ => false
noncomputable def es_in1 (k : Nat → Bool) (N n : Nat) : Bool := es_f (es_wr (es_wr (es_wr N n 1) (Nat.add 20 n) 0) (Nat.add 103 (Nat.mul 4 n)) 31) k
noncomputable def es_in5 (k : Nat → Nat → Nat → Nat → Bool) (N : Nat) : Bool := es_in1 (fun N => es_in1 (fun N => es_in1 (fun N => es_in1 (fun N => es_in1 (fun N => es_se k N 0 0 0) N 4) N 3) N 2) N 1) N 0
def es_N0 : Nat := 6301717820617759897665220350678270265448967493188772167680
theorem es_h7 {A B P : Prop} (a : A) (b : B) (f : A → B → P) : P := f a b
theorem es_h2 {t : Bool} {P : Prop} (h : t = true) (f : t = true → P) : P := f h
noncomputable def es_q1158 (N L Q M a l : Nat) : Bool := es_gt (fun c => es_i (Nat.beq c 131) (es_me (fun N L Q M => es_sx es_no (fun N L Q M => es_ld (es_fa (true) N L) (fun _ => false) N) N L Q M a) es_no es_no es_no es_no N L Q M l 0) false) N
noncomputable def es_qE2 (N L Q M a b l : Nat) : Bool := es_i (Nat.beq (es_rd N (Nat.add 100 (Nat.mul 4 a))) 131) (es_me es_no (fun N L Q M => es_ld false (fun n => es_i (Nat.beq n l) (es_me (fun N L Q M => es_i (Nat.beq (es_rd N (Nat.add 100 (Nat.mul 4 b))) 130) (es_sr (fun N L Q M => es_i (Nat.beq (es_rd N (Nat.add 100 (Nat.mul 4 b))) 131) (es_sx es_no (fun N L Q M => es_ld false (fun n => es_i (Nat.ble b a) (es_i (Nat.beq n b) (es_q1158 N L Q M a l) false) (es_i (Nat.beq n a) (es_q1158 N L Q M a l) false)) N) N L Q M l) false) es_no N L Q M b) false) es_no es_no es_no es_no N L Q M b 1) false) N) es_no es_no es_no N L Q M a 1) false
noncomputable def es_qE1 (N L Q M a b l : Nat) : Bool := es_im (fun c => es_i (Nat.beq c 1) (es_ld false (fun n => es_i (Nat.beq n l) (es_me es_no es_no es_no (fun N L Q M => es_ss es_no (fun N L Q M => es_sr es_no (fun N L Q M => es_i (Nat.beq (es_rd N 122) 0) false (es_ld (es_me es_no es_no (fun N L Q M => es_sr (fun N L Q M => es_i (Nat.beq (es_rd N 122) 0) (es_ld false (fun n => es_i (Nat.beq n l) (es_gt (fun c => es_i (Nat.beq c 131) (es_i (Nat.beq (es_rd N (Nat.add 100 (Nat.mul 4 a))) 130) (es_sx es_no (fun N L Q M => es_me es_no es_no es_no es_no (fun N L Q M => es_im (fun c => es_i (Nat.beq c 0) (es_me (fun N L Q M => es_qE2 N L Q M a b l) es_no es_no es_no es_no N L Q M a 1) false) N b) N L Q M b 1) N L Q M b) false) false) N) false) N) false) es_no N L Q M l) es_no es_no N L Q M a 1) (fun _ => false) N)) N L Q M a) es_no es_no N L Q M 3 1 0) es_no N L Q M l 0) false) N) false) N l
noncomputable def es_qlp (k : Nat → Nat → Nat → Nat → Bool) (l i N L Q M : Nat) : Bool := es_f (Nat.mod (Nat.add l i) 5) (fun p => es_me (fun N L Q M => es_ld false (fun _ => k N L Q M) N) es_no es_no es_no es_no N L Q M p 0)
noncomputable def es_qL (N L Q M a b l : Nat) : Bool := es_qlp (es_qlp (es_qlp (es_qlp (fun N L Q M => es_qE1 N L Q M a b l) l 1) l 2) l 3) l 4 N L Q M
noncomputable def es_qD2 (N L Q M a b l : Nat) : Bool := es_gt (fun c => es_i (Nat.beq c 130) (es_i (Nat.beq (es_ck N (Nat.add 100 (Nat.mul 4 a)) 3) (es_ck N (Nat.add 100 (Nat.mul 4 l)) 3)) (es_i (Nat.beq (es_ck N (Nat.add 100 (Nat.mul 4 b)) 3) (es_ck N (Nat.add 100 (Nat.mul 4 a)) 3)) (es_fa (es_qL N L Q M a b l) N L) false) false) false) N
noncomputable def es_qD (N L Q M a b l : Nat) : Bool := es_mv (fun _ N L Q M => es_mv (fun _ N L Q M => es_mv (fun _ N L Q M => es_sr es_no (fun N L Q M => es_sr (fun N L Q M => es_qD2 N L Q M a b l) (fun N L Q M => es_qD2 N L Q M a b l) N L Q M b) N L Q M a) N L Q M b 0) N L Q M a 0) N L Q M l 0
noncomputable def es_qC0 (N L Q M a b l : Nat) : Bool := es_sr (fun N L Q M => es_ld false (fun n => es_i (Nat.beq n l) (es_i (Nat.beq (es_rd N 122) 0) (es_gt (fun c => es_i (Nat.beq c 130) (es_i (Nat.beq (es_rd N (Nat.add 101 (Nat.mul 4 l))) 2) (es_i (Nat.beq (es_rd N (Nat.add 102 (Nat.mul 4 l))) 128) (es_su es_no (fun N L Q M => es_i (Nat.beq (es_rd N (Nat.add 100 (Nat.mul 4 a))) 128) (es_sr (fun N L Q M => es_i (Nat.beq (es_rd N (Nat.add 100 (Nat.mul 4 a))) 130) (es_ld false (fun n => es_i (Nat.beq n l) (es_qD N L Q M a b l) false) N) false) es_no N L Q M a) false) es_no N L Q M 2 129 0) false) false) false) N) false) false) N) es_no N L Q M l
noncomputable def es_qC1 (N L Q M a b l : Nat) : Bool := es_sr (fun N L Q M => es_i (Nat.beq (es_rd N 122) 0) (es_ld false (fun _ => es_ld false (fun n => es_i (Nat.beq n l) false (es_gt (fun c => es_i (Nat.beq c 128) (es_sr (fun N L Q M => es_gt (fun c => es_i (Nat.beq c 128) (es_i (Nat.beq (es_rd N (Nat.add 101 (Nat.mul 4 l))) 1) (es_ld false (fun n => es_i (Nat.beq n l) false (es_su (fun N L Q M => es_gt (fun c => es_i (Nat.beq c 130) (es_i (Nat.beq (es_rd N (Nat.add 100 (Nat.mul 4 l))) 130) (es_qD N L Q M a b l) false) false) N) es_no es_no N L Q M 2 129 0)) N) false) false) N) es_no N L Q M l) false) N)) N) N) false) es_no N L Q M a
noncomputable def es_qC2 (N L Q M a b l : Nat) : Bool := es_mv (fun _ N L Q M => es_sr (fun N L Q M => es_i (Nat.beq (es_rd N 122) 0) false (es_ld (es_mv (fun r N L Q M => es_i (Nat.beq r 0) (es_mv (fun r N L Q M => es_i (Nat.beq r 0) (es_sr (fun N L Q M => es_i (Nat.beq (es_rd N 122) 0) false (es_sr (fun N L Q M => es_i (Nat.beq (es_rd N 122) 0) (es_ld false (fun n => es_i (Nat.beq n l) (es_gt (fun c => es_i (Nat.beq c 130) (es_i (Nat.beq (es_rd N (Nat.add 100 (Nat.mul 4 a))) 130) (es_i (Nat.beq (es_rd N (Nat.add 102 (Nat.mul 4 b))) 128) (es_qD N L Q M a b l) false) false) false) N) false) N) false) es_no N L Q M b)) es_no N L Q M a) false) N L Q M b 1) false) N L Q M a 1) (fun _ => false) N)) es_no N L Q M l) N L Q M l 1
noncomputable def es_qC (how N L Q M a b l : Nat) : Bool := es_i (Nat.beq how 0) (es_qC0 N L Q M a b l) (es_i (Nat.beq how 1) (es_qC1 N L Q M a b l) (es_qC2 N L Q M a b l))
noncomputable def es_ql1 (k : Bool) (N i : Nat) : Bool := es_i (Nat.beq (es_rd N (Nat.add 100 (Nat.mul 4 i))) 128) (es_i (Nat.beq (es_rd N (Nat.add 101 (Nat.mul 4 i))) 1) k false) false
noncomputable def es_qI (how N L Q M a b l : Nat) : Bool := es_ql1 (es_ql1 (es_ql1 (es_ql1 (es_ql1 (es_qC how N L Q M a b l) N 4) N 3) N 2) N 1) N 0
noncomputable def es_qB2 (how N L Q M a b l : Nat) : Bool := es_ss es_no es_no (fun N L Q M => es_ss es_no (fun N L Q M => es_i (Nat.beq (es_rd N 122) 0) false (es_ld (es_i (Nat.beq (es_rd N l) 0) (es_su es_no es_no (fun N L Q M => es_ss es_no es_no es_no (fun N L Q M => es_qI how N L Q M a b l) N L Q M 3 129 0) N L Q M 2 129 0) false) (fun _ => false) N)) es_no es_no N L Q M 2 129 0) es_no N L Q M 1 5 5
noncomputable def es_qB (how N L Q M a b : Nat) : Bool := es_sx es_no (fun N L Q M => es_sx es_no (fun N L Q M => es_ld false (fun l => es_i (Nat.beq l a) false (es_i (Nat.beq l b) false (es_qB2 how N L Q M a b l))) N) N L Q M b) N L Q M a
noncomputable def es_qA (how N L Q M a b : Nat) : Bool := es_su (fun N L Q M => es_ss (fun N L Q M => es_i (Nat.beq (es_rd N 122) 0) (es_i (Nat.beq (es_rd N 0) 0) (es_ld false (fun n => es_i (Nat.beq n 1) (es_gt (fun c => es_i (Nat.beq c 128) (es_sr (fun N L Q M => es_ld false (fun n => es_i (Nat.beq n 1) (es_i (Nat.beq (es_rd N (Nat.add 101 (Nat.mul 4 0))) 1) (es_i (Nat.beq (es_rd N (Nat.add 100 (Nat.mul 4 0))) 128) (es_qB how N L Q M a b) false) false) false) N) es_no N L Q M 0) false) N) false) N) false) false) es_no es_no es_no N L Q M 2 100 0) es_no es_no N L Q M 1 128 0
noncomputable def es_law (how a b : Nat) : Bool := es_in5 (fun N L Q M => es_qA how N L Q M a b) es_N0
section
variable {g : Nat → Int32} {key s : Nat} {f1 f2 f3 f4 : Int32} {a1 a2 a3 a4 a5 a6 a7 a8 a9 a10 a11 a12 a13 a14 a15 a16 a17 : Nat → Int32} {N L Q M : Nat}
theorem es_T1158 {post : Int32 → St0 → Prop} {mc ms kc ks : Nat} (hpost : post 1 ()) (R : es_R g key s f1 f2 f3 f4 a1 a2 a3 a4 a5 a6 a7 a8 a9 a10 a11 a12 a13 a14 a15 a16 a17 N L Q M) {x4 x7 x9 x11 z0 z1 : Int32} {a l n : Nat} (Vk : es_V x4 key 6) (Va : es_V x7 a 5) (Vl : es_V x9 l 5) (Vz1 : es_V z1 n 5) (Vz0 : es_V z0 n 5) (H131 : g 131 = x11 + 1) (h : es_q1158 N L Q M a l = true) : wL_lawOf_1158 post mc ms x4 x7 x9 x11 z0 z1 kc ks f1 f2 f3 f4 a1 a2 a3 a4 a5 a6 a7 a8 a9 a10 a11 a12 a13 a14 a15 a16 a17 :=
  es_eqT Vz1 Vz0 rfl (es_s_get R Vk h (fun r c e h => br_t (e.trans ((congrArg g (es_geq h).1).trans H131)) (es_h2 (es_geq h).2 (fun h => es_s_member R Vl (es_vw (es_vl 0 0)) h (fun f1 f2 f3 f4 a1 a2 a3 a4 a5 a6 a7 a8 a9 a10 a11 a12 a13 a14 a15 a16 a17 N L Q M R h => br_t rfl (es_s_stop R Va h (fun f1 f2 f3 f4 a1 a2 a3 a4 a5 a6 a7 a8 a9 a10 a11 a12 a13 a14 a15 a16 a17 N L Q M R h => br_t rfl (es_s_leader R h (fun h => br_t rfl (es_s_faults R h (fun f4 R h => br_t (es_pf4 R) (hpost)))) (fun r n W h => es_ff h))) (fun f1 f2 f3 f4 a1 a2 a3 a4 a5 a6 a7 a8 a9 a10 a11 a12 a13 a14 a15 a16 a17 N L Q M R h => es_ff h))) (fun f1 f2 f3 f4 a1 a2 a3 a4 a5 a6 a7 a8 a9 a10 a11 a12 a13 a14 a15 a16 a17 N L Q M R h => es_ff h) (fun f1 f2 f3 f4 a1 a2 a3 a4 a5 a6 a7 a8 a9 a10 a11 a12 a13 a14 a15 a16 a17 N L Q M R h => es_ff h) (fun f1 f2 f3 f4 a1 a2 a3 a4 a5 a6 a7 a8 a9 a10 a11 a12 a13 a14 a15 a16 a17 N L Q M R h => es_ff h) (fun f1 f2 f3 f4 a1 a2 a3 a4 a5 a6 a7 a8 a9 a10 a11 a12 a13 a14 a15 a16 a17 N L Q M R h => es_ff h)))))
theorem es_T830e {post : Int32 → St0 → Prop} {mc ms kc ks : Nat} (hpost : post 1 ()) (R : es_R g key s f1 f2 f3 f4 a1 a2 a3 a4 a5 a6 a7 a8 a9 a10 a11 a12 a13 a14 a15 a16 a17 N L Q M) {x4 x6 x7 x8 x9 x11 x12 : Int32} {a b l f : Nat} (Vk : es_V x4 key 6) (Vc : es_V x6 (6 * (4 + s) + key) 48) (Va : es_V x7 a 5) (Vb : es_V x8 b 5) (Vl : es_V x9 l 5) (V12 : es_V x12 0 5) (H130 : g 130 = x11) (H131 : g 131 = x11 + 1) (h : es_qE1 N L Q M a b l = true) : wL_lawOf_830 post mc ms x4 x6 x7 x8 x9 x11 kc ks (f + 1) x12 f1 f2 f3 f4 a1 a2 a3 a4 a5 a6 a7 a8 a9 a10 a11 a12 a13 a14 a15 a16 a17 :=
  es_leT V12 (es_vl 0 0) (Nat.le_refl _) (es_s_isMember R Vl h (fun r c W h => es_eq W (es_vl 1 1) h (fun _ h => es_s_leader R h (fun h => es_ff h) (fun r n W h => es_eq W Vl h (fun _ h => es_s_member R Vl (es_vw (es_vl 0 0)) h (fun f1 f2 f3 f4 a1 a2 a3 a4 a5 a6 a7 a8 a9 a10 a11 a12 a13 a14 a15 a16 a17 N L Q M R h => es_ff h) (fun f1 f2 f3 f4 a1 a2 a3 a4 a5 a6 a7 a8 a9 a10 a11 a12 a13 a14 a15 a16 a17 N L Q M R h => es_ff h) (fun f1 f2 f3 f4 a1 a2 a3 a4 a5 a6 a7 a8 a9 a10 a11 a12 a13 a14 a15 a16 a17 N L Q M R h => es_ff h) (fun f1 f2 f3 f4 a1 a2 a3 a4 a5 a6 a7 a8 a9 a10 a11 a12 a13 a14 a15 a16 a17 N L Q M R h => br_t rfl (es_s_submitAndStop R Vc (es_vw (es_vl 3 3)) (by decide) (((es_pE R).1 1 (by decide)).symm) (by decide) (((es_pE R).1 0 (by decide)).symm) (by decide) h (fun f1 f2 f3 f4 a1 a2 a3 a4 a5 a6 a7 a8 a9 a10 a11 a12 a13 a14 a15 a16 a17 N L Q M R h => es_ff h) (fun f1 f2 f3 f4 a1 a2 a3 a4 a5 a6 a7 a8 a9 a10 a11 a12 a13 a14 a15 a16 a17 N L Q M R h => br_t rfl (es_s_start R Va h (fun f1 f2 f3 f4 a1 a2 a3 a4 a5 a6 a7 a8 a9 a10 a11 a12 a13 a14 a15 a16 a17 N L Q M R h => es_ff h) (fun f1 f2 f3 f4 a1 a2 a3 a4 a5 a6 a7 a8 a9 a10 a11 a12 a13 a14 a15 a16 a17 N L Q M R h => br_t rfl (es_s_pending R h (fun h => es_ff h) (fun h => br_t rfl (es_s_leader R h (fun h => br_t rfl (es_s_member R Va (es_vl 1 1) h (fun f1 f2 f3 f4 a1 a2 a3 a4 a5 a6 a7 a8 a9 a10 a11 a12 a13 a14 a15 a16 a17 N L Q M R h => es_ff h) (fun f1 f2 f3 f4 a1 a2 a3 a4 a5 a6 a7 a8 a9 a10 a11 a12 a13 a14 a15 a16 a17 N L Q M R h => es_ff h) (fun f1 f2 f3 f4 a1 a2 a3 a4 a5 a6 a7 a8 a9 a10 a11 a12 a13 a14 a15 a16 a17 N L Q M R h => br_t rfl (es_s_start R Vl h (fun f1 f2 f3 f4 a1 a2 a3 a4 a5 a6 a7 a8 a9 a10 a11 a12 a13 a14 a15 a16 a17 N L Q M R h => br_t rfl (es_s_pending R h (fun h => br_t rfl (es_s_leader R h (fun h => es_ff h) (fun r n W h => es_eq W Vl h (fun _ h => es_s_get R Vk h (fun r c e h => br_t (e.trans ((congrArg g (es_geq h).1).trans H131)) (es_h2 (es_geq h).2 (fun h => es_s_loc R Va Vk (fun r e => br_t (e.trans ((congrArg g (es_geq h).1).trans H130)) (es_h2 (es_geq h).2 (fun h => es_s_stop R Vb h (fun f1 f2 f3 f4 a1 a2 a3 a4 a5 a6 a7 a8 a9 a10 a11 a12 a13 a14 a15 a16 a17 N L Q M R h => es_s_member R Vb (es_vl 1 1) h (fun f1 f2 f3 f4 a1 a2 a3 a4 a5 a6 a7 a8 a9 a10 a11 a12 a13 a14 a15 a16 a17 N L Q M R h => es_ff h) (fun f1 f2 f3 f4 a1 a2 a3 a4 a5 a6 a7 a8 a9 a10 a11 a12 a13 a14 a15 a16 a17 N L Q M R h => es_ff h) (fun f1 f2 f3 f4 a1 a2 a3 a4 a5 a6 a7 a8 a9 a10 a11 a12 a13 a14 a15 a16 a17 N L Q M R h => es_ff h) (fun f1 f2 f3 f4 a1 a2 a3 a4 a5 a6 a7 a8 a9 a10 a11 a12 a13 a14 a15 a16 a17 N L Q M R h => es_ff h) (fun f1 f2 f3 f4 a1 a2 a3 a4 a5 a6 a7 a8 a9 a10 a11 a12 a13 a14 a15 a16 a17 N L Q M R h => br_t rfl (es_s_isMember R Vb h (fun r c W h => es_eq W (es_vl 0 0) h (fun _ h => es_s_member R Va (es_vl 1 1) h (fun f1 f2 f3 f4 a1 a2 a3 a4 a5 a6 a7 a8 a9 a10 a11 a12 a13 a14 a15 a16 a17 N L Q M R h => br_t rfl (es_s_loc R Va Vk (fun r e => br_t (e.trans ((congrArg g (es_geq h).1).trans H131)) (es_h2 (es_geq h).2 (fun h => es_s_member R Va (es_vl 1 1) h (fun f1 f2 f3 f4 a1 a2 a3 a4 a5 a6 a7 a8 a9 a10 a11 a12 a13 a14 a15 a16 a17 N L Q M R h => es_ff h) (fun f1 f2 f3 f4 a1 a2 a3 a4 a5 a6 a7 a8 a9 a10 a11 a12 a13 a14 a15 a16 a17 N L Q M R h => br_t rfl (es_s_leader R h (fun h => es_ff h) (fun r n W h => es_eq W Vl h (fun _ h => es_s_member R Vb (es_vl 1 1) h (fun f1 f2 f3 f4 a1 a2 a3 a4 a5 a6 a7 a8 a9 a10 a11 a12 a13 a14 a15 a16 a17 N L Q M R h => br_t rfl (es_s_loc R Vb Vk (fun r e => br_t (e.trans ((congrArg g (es_geq h).1).trans H130)) (es_h2 (es_geq h).2 (fun h => es_s_start R Vb h (fun f1 f2 f3 f4 a1 a2 a3 a4 a5 a6 a7 a8 a9 a10 a11 a12 a13 a14 a15 a16 a17 N L Q M R h => br_t rfl (es_s_loc R Vb Vk (fun r e => br_t (e.trans ((congrArg g (es_geq h).1).trans H131)) (es_h2 (es_geq h).2 (fun h => es_s_stop R Vl h (fun f1 f2 f3 f4 a1 a2 a3 a4 a5 a6 a7 a8 a9 a10 a11 a12 a13 a14 a15 a16 a17 N L Q M R h => br_t rfl (es_s_leader R h (fun h => es_ff h) (fun r n W h => es_le Vb Va h (fun _ h => es_T1158 hpost R Vk Va Vl W (es_vr Vb (es_geq h).1.symm) H131 (es_geq h).2) (fun _ h => es_T1158 hpost R Vk Va Vl W (es_vr Va (es_geq h).1.symm) H131 (es_geq h).2)))) (fun f1 f2 f3 f4 a1 a2 a3 a4 a5 a6 a7 a8 a9 a10 a11 a12 a13 a14 a15 a16 a17 N L Q M R h => es_ff h)))))) (fun f1 f2 f3 f4 a1 a2 a3 a4 a5 a6 a7 a8 a9 a10 a11 a12 a13 a14 a15 a16 a17 N L Q M R h => es_ff h)))))) (fun f1 f2 f3 f4 a1 a2 a3 a4 a5 a6 a7 a8 a9 a10 a11 a12 a13 a14 a15 a16 a17 N L Q M R h => es_ff h) (fun f1 f2 f3 f4 a1 a2 a3 a4 a5 a6 a7 a8 a9 a10 a11 a12 a13 a14 a15 a16 a17 N L Q M R h => es_ff h) (fun f1 f2 f3 f4 a1 a2 a3 a4 a5 a6 a7 a8 a9 a10 a11 a12 a13 a14 a15 a16 a17 N L Q M R h => es_ff h) (fun f1 f2 f3 f4 a1 a2 a3 a4 a5 a6 a7 a8 a9 a10 a11 a12 a13 a14 a15 a16 a17 N L Q M R h => es_ff h)) (fun _ h => es_ff h)))) (fun f1 f2 f3 f4 a1 a2 a3 a4 a5 a6 a7 a8 a9 a10 a11 a12 a13 a14 a15 a16 a17 N L Q M R h => es_ff h) (fun f1 f2 f3 f4 a1 a2 a3 a4 a5 a6 a7 a8 a9 a10 a11 a12 a13 a14 a15 a16 a17 N L Q M R h => es_ff h) (fun f1 f2 f3 f4 a1 a2 a3 a4 a5 a6 a7 a8 a9 a10 a11 a12 a13 a14 a15 a16 a17 N L Q M R h => es_ff h)))))) (fun f1 f2 f3 f4 a1 a2 a3 a4 a5 a6 a7 a8 a9 a10 a11 a12 a13 a14 a15 a16 a17 N L Q M R h => es_ff h) (fun f1 f2 f3 f4 a1 a2 a3 a4 a5 a6 a7 a8 a9 a10 a11 a12 a13 a14 a15 a16 a17 N L Q M R h => es_ff h) (fun f1 f2 f3 f4 a1 a2 a3 a4 a5 a6 a7 a8 a9 a10 a11 a12 a13 a14 a15 a16 a17 N L Q M R h => es_ff h) (fun f1 f2 f3 f4 a1 a2 a3 a4 a5 a6 a7 a8 a9 a10 a11 a12 a13 a14 a15 a16 a17 N L Q M R h => es_ff h)) (fun _ h => es_ff h))))) (fun f1 f2 f3 f4 a1 a2 a3 a4 a5 a6 a7 a8 a9 a10 a11 a12 a13 a14 a15 a16 a17 N L Q M R h => es_ff h)))))))) (fun _ h => es_ff h)))) (fun h => es_ff h))) (fun f1 f2 f3 f4 a1 a2 a3 a4 a5 a6 a7 a8 a9 a10 a11 a12 a13 a14 a15 a16 a17 N L Q M R h => es_ff h))) (fun f1 f2 f3 f4 a1 a2 a3 a4 a5 a6 a7 a8 a9 a10 a11 a12 a13 a14 a15 a16 a17 N L Q M R h => es_ff h) (fun f1 f2 f3 f4 a1 a2 a3 a4 a5 a6 a7 a8 a9 a10 a11 a12 a13 a14 a15 a16 a17 N L Q M R h => es_ff h))) (fun r n W h => es_ff h))))))) (fun f1 f2 f3 f4 a1 a2 a3 a4 a5 a6 a7 a8 a9 a10 a11 a12 a13 a14 a15 a16 a17 N L Q M R h => es_ff h) (fun f1 f2 f3 f4 a1 a2 a3 a4 a5 a6 a7 a8 a9 a10 a11 a12 a13 a14 a15 a16 a17 N L Q M R h => es_ff h))) (fun f1 f2 f3 f4 a1 a2 a3 a4 a5 a6 a7 a8 a9 a10 a11 a12 a13 a14 a15 a16 a17 N L Q M R h => es_ff h)) (fun _ h => es_ff h))) (fun _ h => es_ff h)))
theorem es_T830s {post : Int32 → St0 → Prop} {mc ms kc ks : Nat} {k : Nat → Nat → Nat → Nat → Bool} (R : es_R g key s f1 f2 f3 f4 a1 a2 a3 a4 a5 a6 a7 a8 a9 a10 a11 a12 a13 a14 a15 a16 a17 N L Q M) {x4 x6 x7 x8 x9 x11 x12 : Int32} {l i f : Nat} (Vl : es_V x9 l 5) (V12 : es_V x12 i 5) (hi : 1 ≤ i) (h : es_qlp k l i N L Q M = true) (hn : ∀ y f1 f2 f3 f4 a1 a2 a3 a4 a5 a6 a7 a8 a9 a10 a11 a12 a13 a14 a15 a16 a17 N L Q M, es_V y (i - 1) 5 → es_R g key s f1 f2 f3 f4 a1 a2 a3 a4 a5 a6 a7 a8 a9 a10 a11 a12 a13 a14 a15 a16 a17 N L Q M → k N L Q M = true → wL_lawOf_830 post mc ms x4 x6 x7 x8 x9 x11 kc ks f y f1 f2 f3 f4 a1 a2 a3 a4 a5 a6 a7 a8 a9 a10 a11 a12 a13 a14 a15 a16 a17) : wL_lawOf_830 post mc ms x4 x6 x7 x8 x9 x11 kc ks (f + 1) x12 f1 f2 f3 f4 a1 a2 a3 a4 a5 a6 a7 a8 a9 a10 a11 a12 a13 a14 a15 a16 a17 :=
  es_leF V12 (es_vl 0 0) hi ⟨by decide, fun x13 e13 => es_s_member R (es_vq e13 (es_vrem (es_va Vl V12) (show (5 : Int32) = nI 5 from rfl) (by decide) (by decide) (by decide))) (es_vw (es_vl 0 0)) (es_fe h :) (fun f1 f2 f3 f4 a1 a2 a3 a4 a5 a6 a7 a8 a9 a10 a11 a12 a13 a14 a15 a16 a17 N L Q M R h => br_t rfl (es_s_leader R h (fun h => es_ff h) (fun r n W h => es_leT (es_vl 0 0) W (Nat.zero_le _) (fun y ey => hn y f1 f2 f3 f4 a1 a2 a3 a4 a5 a6 a7 a8 a9 a10 a11 a12 a13 a14 a15 a16 a17 N L Q M (es_vq ey (es_vm1 V12 hi)) R h)))) (fun f1 f2 f3 f4 a1 a2 a3 a4 a5 a6 a7 a8 a9 a10 a11 a12 a13 a14 a15 a16 a17 N L Q M R h => es_ff h) (fun f1 f2 f3 f4 a1 a2 a3 a4 a5 a6 a7 a8 a9 a10 a11 a12 a13 a14 a15 a16 a17 N L Q M R h => es_ff h) (fun f1 f2 f3 f4 a1 a2 a3 a4 a5 a6 a7 a8 a9 a10 a11 a12 a13 a14 a15 a16 a17 N L Q M R h => es_ff h) (fun f1 f2 f3 f4 a1 a2 a3 a4 a5 a6 a7 a8 a9 a10 a11 a12 a13 a14 a15 a16 a17 N L Q M R h => es_ff h)⟩
theorem es_T830 {post : Int32 → St0 → Prop} {mc ms kc ks : Nat} (hpost : post 1 ()) (R : es_R g key s f1 f2 f3 f4 a1 a2 a3 a4 a5 a6 a7 a8 a9 a10 a11 a12 a13 a14 a15 a16 a17 N L Q M) {x4 x6 x7 x8 x9 x11 : Int32} {a b l : Nat} (Vk : es_V x4 key 6) (Vc : es_V x6 (6 * (4 + s) + key) 48) (Va : es_V x7 a 5) (Vb : es_V x8 b 5) (Vl : es_V x9 l 5) (H130 : g 130 = x11) (H131 : g 131 = x11 + 1) (h : es_qL N L Q M a b l = true) : ∃ fu, wL_lawOf_830 post mc ms x4 x6 x7 x8 x9 x11 kc ks fu 4 f1 f2 f3 f4 a1 a2 a3 a4 a5 a6 a7 a8 a9 a10 a11 a12 a13 a14 a15 a16 a17 :=
  ⟨5, es_T830s (i := 4) R Vl (es_vl 4 4) (by decide) h (fun y f1 f2 f3 f4 a1 a2 a3 a4 a5 a6 a7 a8 a9 a10 a11 a12 a13 a14 a15 a16 a17 N L Q M W R h => es_T830s (i := 3) R Vl W (by decide) h (fun y f1 f2 f3 f4 a1 a2 a3 a4 a5 a6 a7 a8 a9 a10 a11 a12 a13 a14 a15 a16 a17 N L Q M W R h => es_T830s (i := 2) R Vl W (by decide) h (fun y f1 f2 f3 f4 a1 a2 a3 a4 a5 a6 a7 a8 a9 a10 a11 a12 a13 a14 a15 a16 a17 N L Q M W R h => es_T830s (i := 1) R Vl W (by decide) h (fun y f1 f2 f3 f4 a1 a2 a3 a4 a5 a6 a7 a8 a9 a10 a11 a12 a13 a14 a15 a16 a17 N L Q M W R h => es_T830e hpost R Vk Vc Va Vb Vl W H130 H131 h))))⟩
theorem es_T740 {post : Int32 → St0 → Prop} {mc ms kc ks : Nat} (hpost : post 1 ()) (R : es_R g key s f1 f2 f3 f4 a1 a2 a3 a4 a5 a6 a7 a8 a9 a10 a11 a12 a13 a14 a15 a16 a17 N L Q M) {x0 x1 x4 x6 x7 x8 x9 : Int32} {a b l : Nat} (Vk : es_V x4 key 6) (Vc : es_V x6 (6 * (4 + s) + key) 48) (Va : es_V x7 a 5) (Vb : es_V x8 b 5) (Vl : es_V x9 l 5) (G130 : g 130 = x1 + x0) (G131 : g 131 = x1 + x0 + 1) (h : es_qD N L Q M a b l = true) : wL_lawOf_740 post mc ms x0 x1 x4 x6 x7 x8 x9 kc ks f1 f2 f3 f4 a1 a2 a3 a4 a5 a6 a7 a8 a9 a10 a11 a12 a13 a14 a15 a16 a17 := by
  intro x11 e11
  have H130 : g 130 = x11 := G130.trans e11.symm
  have H131 : g 131 = x11 + 1 := by rw [e11]; exact G131
  exact es_s_move R Vl (es_vw (es_vl 0 0)) h (fun r c f1 f2 f3 f4 a1 a2 a3 a4 a5 a6 a7 a8 a9 a10 a11 a12 a13 a14 a15 a16 a17 N L Q M W R h => es_s_move R Va (es_vw (es_vl 0 0)) h (fun r c f1 f2 f3 f4 a1 a2 a3 a4 a5 a6 a7 a8 a9 a10 a11 a12 a13 a14 a15 a16 a17 N L Q M W R h => es_s_move R Vb (es_vw (es_vl 0 0)) h (fun r c f1 f2 f3 f4 a1 a2 a3 a4 a5 a6 a7 a8 a9 a10 a11 a12 a13 a14 a15 a16 a17 N L Q M W R h => es_s_start R Va h (fun f1 f2 f3 f4 a1 a2 a3 a4 a5 a6 a7 a8 a9 a10 a11 a12 a13 a14 a15 a16 a17 N L Q M R h => es_ff h) (fun f1 f2 f3 f4 a1 a2 a3 a4 a5 a6 a7 a8 a9 a10 a11 a12 a13 a14 a15 a16 a17 N L Q M R h => es_s_start R Vb h (fun f1 f2 f3 f4 a1 a2 a3 a4 a5 a6 a7 a8 a9 a10 a11 a12 a13 a14 a15 a16 a17 N L Q M R h => es_s_get R Vk h (fun r c e h => br_t (e.trans ((congrArg g (es_geq h).1).trans H130)) (es_h2 (es_geq h).2 (fun h => es_s_same R Va Vl (es_geq h).1 (br_t rfl (es_h2 (es_geq h).2 (fun h => es_s_same R Vb Va (es_geq h).1 (br_t rfl (es_h2 (es_geq h).2 (fun h => es_s_faults R h (fun f4 R h => br_t (es_pf4 R) (es_T830 hpost R Vk Vc Va Vb Vl H130 H131 h)))))))))))) (fun f1 f2 f3 f4 a1 a2 a3 a4 a5 a6 a7 a8 a9 a10 a11 a12 a13 a14 a15 a16 a17 N L Q M R h => es_s_get R Vk h (fun r c e h => br_t (e.trans ((congrArg g (es_geq h).1).trans H130)) (es_h2 (es_geq h).2 (fun h => es_s_same R Va Vl (es_geq h).1 (br_t rfl (es_h2 (es_geq h).2 (fun h => es_s_same R Vb Va (es_geq h).1 (br_t rfl (es_h2 (es_geq h).2 (fun h => es_s_faults R h (fun f4 R h => br_t (es_pf4 R) (es_T830 hpost R Vk Vc Va Vb Vl H130 H131 h))))))))))))))))
theorem es_T294e {post : Int32 → St0 → Prop} {mc ms kc ks : Nat} (hpost : post 1 ()) (R : es_R g key s f1 f2 f3 f4 a1 a2 a3 a4 a5 a6 a7 a8 a9 a10 a11 a12 a13 a14 a15 a16 a17 N L Q M) {x0 x1 x2 x4 x5 x6 x7 x8 x9 : Int32} {a b l how : Nat} (Vk : es_V x4 key 6) (Vs : es_V x5 s 4) (Vc : es_V x6 (6 * (4 + s) + key) 48) (Va : es_V x7 a 5) (Vb : es_V x8 b 5) (Vl : es_V x9 l 5) (Vh : es_V (((x2 >>> ((10 : Int32) &&& 31)) &&& 255) - ((x2 >>> ((10 : Int32) &&& 31)) &&& 255) / 3 * 3) how 3) (H128 : g 128 = x1) (H129 : g 129 = x0) (H130 : g 130 = x1 + x0) (H131 : g 131 = x1 + x0 + 1) {x10 : Int32} {f : Nat} (V10 : es_V x10 5 6) (h : es_qC how N L Q M a b l = true) : wL_lawOf_294 post mc ms x0 x1 x2 x4 x5 x6 x7 x8 x9 kc ks f1 f2 f3 f4 a1 a2 a3 a4 a5 a6 a7 a8 a9 a10 a11 a12 a13 a14 a15 a16 a17 (f + 1) x10 :=
  es_leT (es_vl 5 5) V10 (Nat.le_refl _) ⟨by decide, fun y ey => es_eq (es_vq ey Vh) (es_vl 0 0) h (fun _ h => es_s_start R Vl h (fun f1 f2 f3 f4 a1 a2 a3 a4 a5 a6 a7 a8 a9 a10 a11 a12 a13 a14 a15 a16 a17 N L Q M R h => br_t rfl (es_s_leader R h (fun h => es_ff h) (fun r n W h => es_eq W Vl h (fun _ h => es_s_pending R h (fun h => br_t rfl (es_s_get R Vk h (fun r c e h => br_t (e.trans ((congrArg g (es_geq h).1).trans H130)) (es_h2 (es_geq h).2 (fun h => es_s_lastNumber R Vl Vs (fun r e => br_t (e.trans ((congrArg g (es_geq h).1).trans ((es_pE R).1 2 (by decide)))) (es_h2 (es_geq h).2 (fun h => es_s_answer R Vl Vs (fun r e => br_t (e.trans ((congrArg g (es_geq h).1).trans H128)) (es_h2 (es_geq h).2 (fun h => es_s_submit R Vc (es_vw (es_vl 2 2)) (by decide) (H129.symm) (by decide) (((es_pE R).1 0 (by decide)).symm) (by decide) h (fun f1 f2 f3 f4 a1 a2 a3 a4 a5 a6 a7 a8 a9 a10 a11 a12 a13 a14 a15 a16 a17 N L Q M R h => es_ff h) (fun f1 f2 f3 f4 a1 a2 a3 a4 a5 a6 a7 a8 a9 a10 a11 a12 a13 a14 a15 a16 a17 N L Q M R h => br_t rfl (es_s_loc R Va Vk (fun r e => br_t (e.trans ((congrArg g (es_geq h).1).trans H128)) (es_h2 (es_geq h).2 (fun h => es_s_start R Va h (fun f1 f2 f3 f4 a1 a2 a3 a4 a5 a6 a7 a8 a9 a10 a11 a12 a13 a14 a15 a16 a17 N L Q M R h => br_t rfl (es_s_loc R Va Vk (fun r e => br_t (e.trans ((congrArg g (es_geq h).1).trans H130)) (es_h2 (es_geq h).2 (fun h => es_s_leader R h (fun h => es_ff h) (fun r n W h => es_eq W Vl h (fun _ h => es_T740 hpost R Vk Vc Va Vb Vl H130 H131 h) (fun _ h => es_ff h))))))) (fun f1 f2 f3 f4 a1 a2 a3 a4 a5 a6 a7 a8 a9 a10 a11 a12 a13 a14 a15 a16 a17 N L Q M R h => es_ff h)))))) (fun f1 f2 f3 f4 a1 a2 a3 a4 a5 a6 a7 a8 a9 a10 a11 a12 a13 a14 a15 a16 a17 N L Q M R h => es_ff h)))))))))))) (fun h => es_ff h)) (fun _ h => es_ff h)))) (fun f1 f2 f3 f4 a1 a2 a3 a4 a5 a6 a7 a8 a9 a10 a11 a12 a13 a14 a15 a16 a17 N L Q M R h => es_ff h)) (fun _ h => es_eq (es_vq ey Vh) (es_vl 1 1) h (fun _ h => es_s_start R Va h (fun f1 f2 f3 f4 a1 a2 a3 a4 a5 a6 a7 a8 a9 a10 a11 a12 a13 a14 a15 a16 a17 N L Q M R h => br_t rfl (es_s_pending R h (fun h => br_t rfl (es_s_leader R h (fun h => es_ff h) (fun r n W h => es_ltF W (es_vl 0 0) (Nat.zero_le _) (es_s_leader R h (fun h => es_ff h) (fun r n W h => es_eq W Vl h (fun _ h => es_ff h) (fun _ h => es_s_get R Vk h (fun r c e h => br_t (e.trans ((congrArg g (es_geq h).1).trans H128)) (es_h2 (es_geq h).2 (fun h => es_s_start R Vl h (fun f1 f2 f3 f4 a1 a2 a3 a4 a5 a6 a7 a8 a9 a10 a11 a12 a13 a14 a15 a16 a17 N L Q M R h => br_t rfl (es_s_get R Vk h (fun r c e h => br_t (e.trans ((congrArg g (es_geq h).1).trans H128)) (es_h2 (es_geq h).2 (fun h => es_s_lastNumber R Vl Vs (fun r e => br_t (e.trans ((congrArg g (es_geq h).1).trans ((es_pE R).1 1 (by decide)))) (es_h2 (es_geq h).2 (fun h => es_s_leader R h (fun h => es_ff h) (fun r n W h => es_eq W Vl h (fun _ h => es_ff h) (fun _ h => es_s_submit R Vc (es_vw (es_vl 2 2)) (by decide) (H129.symm) (by decide) (((es_pE R).1 0 (by decide)).symm) (by decide) h (fun f1 f2 f3 f4 a1 a2 a3 a4 a5 a6 a7 a8 a9 a10 a11 a12 a13 a14 a15 a16 a17 N L Q M R h => br_t rfl (es_s_get R Vk h (fun r c e h => br_t (e.trans ((congrArg g (es_geq h).1).trans H130)) (es_h2 (es_geq h).2 (fun h => es_s_loc R Vl Vk (fun r e => br_t (e.trans ((congrArg g (es_geq h).1).trans H130)) (es_h2 (es_geq h).2 (fun h => es_T740 hpost R Vk Vc Va Vb Vl H130 H131 h)))))))) (fun f1 f2 f3 f4 a1 a2 a3 a4 a5 a6 a7 a8 a9 a10 a11 a12 a13 a14 a15 a16 a17 N L Q M R h => es_ff h) (fun f1 f2 f3 f4 a1 a2 a3 a4 a5 a6 a7 a8 a9 a10 a11 a12 a13 a14 a15 a16 a17 N L Q M R h => es_ff h))))))))))) (fun f1 f2 f3 f4 a1 a2 a3 a4 a5 a6 a7 a8 a9 a10 a11 a12 a13 a14 a15 a16 a17 N L Q M R h => es_ff h)))))))))) (fun h => es_ff h))) (fun f1 f2 f3 f4 a1 a2 a3 a4 a5 a6 a7 a8 a9 a10 a11 a12 a13 a14 a15 a16 a17 N L Q M R h => es_ff h)) (fun _ h => es_s_move R Vl (es_vw (es_vl 1 1)) h (fun r c f1 f2 f3 f4 a1 a2 a3 a4 a5 a6 a7 a8 a9 a10 a11 a12 a13 a14 a15 a16 a17 N L Q M W R h => es_s_start R Vl h (fun f1 f2 f3 f4 a1 a2 a3 a4 a5 a6 a7 a8 a9 a10 a11 a12 a13 a14 a15 a16 a17 N L Q M R h => br_t rfl (es_s_pending R h (fun h => es_ff h) (fun h => br_t rfl (es_s_leader R h (fun h => br_t rfl (es_s_move R Va (es_vw (es_vl 1 1)) h (fun r c f1 f2 f3 f4 a1 a2 a3 a4 a5 a6 a7 a8 a9 a10 a11 a12 a13 a14 a15 a16 a17 N L Q M W R h => es_eq W (es_vl 0 0) h (fun _ h => es_s_move R Vb (es_vw (es_vl 1 1)) h (fun r c f1 f2 f3 f4 a1 a2 a3 a4 a5 a6 a7 a8 a9 a10 a11 a12 a13 a14 a15 a16 a17 N L Q M W R h => es_eq W (es_vl 0 0) h (fun _ h => es_s_start R Va h (fun f1 f2 f3 f4 a1 a2 a3 a4 a5 a6 a7 a8 a9 a10 a11 a12 a13 a14 a15 a16 a17 N L Q M R h => br_t rfl (es_s_pending R h (fun h => es_ff h) (fun h => br_t rfl (es_s_start R Vb h (fun f1 f2 f3 f4 a1 a2 a3 a4 a5 a6 a7 a8 a9 a10 a11 a12 a13 a14 a15 a16 a17 N L Q M R h => br_t rfl (es_s_pending R h (fun h => br_t rfl (es_s_leader R h (fun h => es_ff h) (fun r n W h => es_eq W Vl h (fun _ h => es_s_get R Vk h (fun r c e h => br_t (e.trans ((congrArg g (es_geq h).1).trans H130)) (es_h2 (es_geq h).2 (fun h => es_s_loc R Va Vk (fun r e => br_t (e.trans ((congrArg g (es_geq h).1).trans H130)) (es_h2 (es_geq h).2 (fun h => es_s_answer R Vb Vs (fun r e => br_t (e.trans ((congrArg g (es_geq h).1).trans H128)) (es_h2 (es_geq h).2 (fun h => es_T740 hpost R Vk Vc Va Vb Vl H130 H131 h)))))))))) (fun _ h => es_ff h)))) (fun h => es_ff h))) (fun f1 f2 f3 f4 a1 a2 a3 a4 a5 a6 a7 a8 a9 a10 a11 a12 a13 a14 a15 a16 a17 N L Q M R h => es_ff h))))) (fun f1 f2 f3 f4 a1 a2 a3 a4 a5 a6 a7 a8 a9 a10 a11 a12 a13 a14 a15 a16 a17 N L Q M R h => es_ff h)) (fun _ h => es_ff h))) (fun _ h => es_ff h)))) (fun r n W h => es_ff h))))) (fun f1 f2 f3 f4 a1 a2 a3 a4 a5 a6 a7 a8 a9 a10 a11 a12 a13 a14 a15 a16 a17 N L Q M R h => es_ff h))))⟩
theorem es_T294s {post : Int32 → St0 → Prop} {mc ms kc ks : Nat} {k : Bool} (R : es_R g key s f1 f2 f3 f4 a1 a2 a3 a4 a5 a6 a7 a8 a9 a10 a11 a12 a13 a14 a15 a16 a17 N L Q M) {x0 x1 x2 x4 x5 x6 x7 x8 x9 x10 : Int32} {i f : Nat} (Vk : es_V x4 key 6) (Vs : es_V x5 s 4) (V10 : es_V x10 i 5) (H128 : g 128 = x1) (h : es_ql1 k N i = true) (hn : ∀ y, es_V y (i + 1) 6 → k = true → wL_lawOf_294 post mc ms x0 x1 x2 x4 x5 x6 x7 x8 x9 kc ks f1 f2 f3 f4 a1 a2 a3 a4 a5 a6 a7 a8 a9 a10 a11 a12 a13 a14 a15 a16 a17 f y) : wL_lawOf_294 post mc ms x0 x1 x2 x4 x5 x6 x7 x8 x9 kc ks f1 f2 f3 f4 a1 a2 a3 a4 a5 a6 a7 a8 a9 a10 a11 a12 a13 a14 a15 a16 a17 (f + 1) x10 :=
  es_leF (es_vl 5 5) V10 V10.2 (es_s_loc R V10 Vk (fun r e => br_t (e.trans ((congrArg g (es_geq h).1).trans H128)) (es_h2 (es_geq h).2 (fun h => es_s_lastNumber R V10 Vs (fun r e => br_t (e.trans ((congrArg g (es_geq h).1).trans ((es_pE R).1 1 (by decide)))) (fun y ey => hn y (es_vq ey (es_v1 V10)) (es_geq h).2))))))
theorem es_T294 {post : Int32 → St0 → Prop} {mc ms kc ks : Nat} (hpost : post 1 ()) (R : es_R g key s f1 f2 f3 f4 a1 a2 a3 a4 a5 a6 a7 a8 a9 a10 a11 a12 a13 a14 a15 a16 a17 N L Q M) {x0 x1 x2 x4 x5 x6 x7 x8 x9 : Int32} {a b l how : Nat} (Vk : es_V x4 key 6) (Vs : es_V x5 s 4) (Vc : es_V x6 (6 * (4 + s) + key) 48) (Va : es_V x7 a 5) (Vb : es_V x8 b 5) (Vl : es_V x9 l 5) (Vh : es_V (((x2 >>> ((10 : Int32) &&& 31)) &&& 255) - ((x2 >>> ((10 : Int32) &&& 31)) &&& 255) / 3 * 3) how 3) (H128 : g 128 = x1) (H129 : g 129 = x0) (H130 : g 130 = x1 + x0) (H131 : g 131 = x1 + x0 + 1) (h : es_qI how N L Q M a b l = true) : ∃ fu, wL_lawOf_294 post mc ms x0 x1 x2 x4 x5 x6 x7 x8 x9 kc ks f1 f2 f3 f4 a1 a2 a3 a4 a5 a6 a7 a8 a9 a10 a11 a12 a13 a14 a15 a16 a17 fu 0 :=
  ⟨6, es_T294s (i := 0) R Vk Vs (es_vw (es_vl 0 0)) H128 h (fun y W h => es_T294s (i := 1) R Vk Vs (es_vb W (by decide)) H128 h (fun y W h => es_T294s (i := 2) R Vk Vs (es_vb W (by decide)) H128 h (fun y W h => es_T294s (i := 3) R Vk Vs (es_vb W (by decide)) H128 h (fun y W h => es_T294s (i := 4) R Vk Vs (es_vb W (by decide)) H128 h (fun y W h => es_T294e hpost R Vk Vs Vc Va Vb Vl Vh H128 H129 H130 H131 W h)))))⟩
theorem es_ins {post : St2 → Prop} {mc ms kc ks : Nat} {k : Nat → Bool} (R : es_R g key s f1 f2 f3 f4 a1 a2 a3 a4 a5 a6 a7 a8 a9 a10 a11 a12 a13 a14 a15 a16 a17 N L Q M) {x1 : Int32} {n f : Nat} (V1 : es_V x1 n 5) (h : es_in1 k N n = true) (hn : ∀ y b1 b5 b12 b13 N, es_V y (n + 1) 6 → es_R g key s f1 f2 f3 f4 b1 a2 a3 a4 b5 a6 a7 a8 a9 a10 a11 b12 b13 a14 a15 a16 a17 N L Q M → k N = true → wX_init_139 post mc ms kc ks f1 f2 f3 f4 f y b1 a2 a3 a4 b5 a6 a7 a8 a9 a10 a11 b12 b13 a14 a15 a16 a17) : wX_init_139 post mc ms kc ks f1 f2 f3 f4 (f + 1) x1 a1 a2 a3 a4 a5 a6 a7 a8 a9 a10 a11 a12 a13 a14 a15 a16 a17 := by
  have hn5 := V1.2
  have Vx : es_V ((15 * x1) + 14) (15 * n + 14) 75 := es_vb (es_va (es_vm (es_vl 15 15) V1) (es_vl 14 14)) (by omega)
  exact es_leF (es_vl 5 5) V1 V1.2 ⟨es_in V1 V1.2, fun b1 e1 => ⟨es_in V1 V1.2, fun b5 e5 => ⟨es_in Vx Vx.2, fun b12 e12 => ⟨es_in Vx Vx.2, fun b13 e13 y ey => hn y b1 b5 b12 b13 _ (es_vq ey (es_v1 V1)) (es_m13 (es_t12m (es_t5 (es_t1 R V1 (es_vl 1 1) (by decide) e1) V1 es_o0.symm (by decide) e5) V1.2 Vx (es_vl 31 31) (by decide) e12)) (es_fe h :)⟩⟩⟩⟩
theorem es_s_init139 {post : St2 → Prop} {mc ms kc ks : Nat} {k : Nat → Nat → Nat → Nat → Bool} (R : es_R g key s f1 f2 f3 f4 a1 a2 a3 a4 a5 a6 a7 a8 a9 a10 a11 a12 a13 a14 a15 a16 a17 N 0 0 0) (h : es_in5 k N = true) (hk : ∀ f1 f2 f3 f4 a1 a2 a3 a4 a5 a6 a7 a8 a9 a10 a11 a12 a13 a14 a15 a16 a17 N L Q M, es_R g key s f1 f2 f3 f4 a1 a2 a3 a4 a5 a6 a7 a8 a9 a10 a11 a12 a13 a14 a15 a16 a17 N L Q M → k N L Q M = true → post (f1, f2, f3, f4, a1, a2, a3, a4, a5, a6, a7, a8, a9, a10, a11, a12, a13, a14, a15, a16, a17)) : ∃ fu, wX_init_139 post mc ms kc ks f1 f2 f3 f4 fu 0 a1 a2 a3 a4 a5 a6 a7 a8 a9 a10 a11 a12 a13 a14 a15 a16 a17 :=
  ⟨6, es_ins (n := 0) R (es_vw (es_vl 0 0)) h (fun y a1 a5 a12 a13 N W R h => es_ins (n := 1) R (es_vb W (by decide)) h (fun y a1 a5 a12 a13 N W R h => es_ins (n := 2) R (es_vb W (by decide)) h (fun y a1 a5 a12 a13 N W R h => es_ins (n := 3) R (es_vb W (by decide)) h (fun y a1 a5 a12 a13 N W R h => es_ins (n := 4) R (es_vb W (by decide)) h (fun y a1 a5 a12 a13 N W R h => es_leT (es_vl 5 5) W (by decide) (es_s_settle R h (fun f1 f2 f3 f4 a1 a2 a3 a4 a5 a6 a7 a8 a9 a10 a11 a12 a13 a14 a15 a16 a17 N L Q M R h => hk f1 f2 f3 f4 a1 a2 a3 a4 a5 a6 a7 a8 a9 a10 a11 a12 a13 a14 a15 a16 a17 N L Q M R h)))))))⟩
theorem es_TA {post : Int32 → St0 → Prop} (hpost : post 1 ()) {p0 p1 p2 : Int32} {a b how : Nat} (R : es_R g key s 0 0 (-1) 0 (fun _ => 0) (fun _ => 0) (fun _ => 0) (fun _ => 0) (fun _ => 0) (fun _ => 0) (fun _ => 0) (fun _ => 0) (fun _ => 0) (fun _ => 0) (fun _ => 0) (fun _ => 0) (fun _ => 0) (fun _ => 0) (fun _ => 0) (fun _ => 0) (fun _ => 0) es_N0 0 0 0) (h : es_law how a b = true) (Vh : es_V (((p2 >>> ((10 : Int32) &&& 31)) &&& 255) - ((p2 >>> ((10 : Int32) &&& 31)) &&& 255) / 3 * 3) how 3) (HV4 : ∀ x, x = (p0 &&& 255) - (p0 &&& 255) / 6 * 6 → es_V x key 6) (HV5 : ∀ x, x = (p0 >>> ((8 : Int32) &&& 31)) &&& 3 → es_V x s 4) (HV7 : ∀ x, x = (p2 &&& 255) - (p2 &&& 255) / 5 * 5 → es_V x a 5) (HV8 : ∀ x7 x8, x7 = (p2 &&& 255) - (p2 &&& 255) / 5 * 5 → x8 = ((x7 + 1) + ((p2 >>> ((8 : Int32) &&& 31)) &&& 3)) - ((x7 + 1) + ((p2 >>> ((8 : Int32) &&& 31)) &&& 3)) / 5 * 5 → es_V x8 b 5) (H128 : g 128 = p1) (H129 : g 129 = p0) (H130 : g 130 = p1 + p0) (H131 : g 131 = p1 + p0 + 1) : wpL_lawOf post 100 5000 () p0 p1 p2 := by
  refine ⟨by decide, by decide, 17, 1850, by decide, by decide, ?_⟩
  refine ⟨by decide, by decide, by decide, by decide, by decide, by decide, by decide, by decide, by decide, by decide, by decide, by decide, by decide, by decide, by decide, by decide, by decide, by decide, by decide, by decide, by decide, by decide, by decide, by decide, by decide, by decide, by decide, by decide, by decide, by decide, by decide, by decide, by decide, by decide, ?_⟩
  refine es_s_init139 R h (fun f1 f2 f3 f4 a1 a2 a3 a4 a5 a6 a7 a8 a9 a10 a11 a12 a13 a14 a15 a16 a17 N L Q M R h => ⟨by decide, fun x4 e4 x5 e5 x6 e6 => ?_⟩)
  have Vk := HV4 x4 e4
  have Vs := HV5 x5 e5
  have hk6 := Vk.2
  have hs4 := Vs.2
  have Vc : es_V x6 (6 * (4 + s) + key) 48 := es_vb (es_vq e6 (es_va (es_vm (es_vl 6 6) (es_va (es_vl 4 4) Vs)) Vk)) (by omega)
  exact es_s_submit R Vc (es_vw (es_vl 1 1)) (by decide) (H128.symm) (by decide) (((es_pE R).1 0 (by decide)).symm) (by decide) h (fun f1 f2 f3 f4 a1 a2 a3 a4 a5 a6 a7 a8 a9 a10 a11 a12 a13 a14 a15 a16 a17 N L Q M R h => br_t rfl (es_s_submitAndStop R Vc (es_vw (es_vl 2 2)) (by decide) (((es_pE R).1 100 (by decide)).symm) (by decide) (((es_pE R).1 0 (by decide)).symm) (by decide) h (fun f1 f2 f3 f4 a1 a2 a3 a4 a5 a6 a7 a8 a9 a10 a11 a12 a13 a14 a15 a16 a17 N L Q M R h => br_t rfl (es_s_pending R h (fun h => br_t rfl (es_s_isUp R (es_vw (es_vl 0 0)) h (fun h => br_t rfl (es_s_leader R h (fun h => es_ff h) (fun r n W h => es_eq W (es_vl 1 1) h (fun _ h => es_s_get R Vk h (fun r c e h => br_t (e.trans ((congrArg g (es_geq h).1).trans H128)) (es_h2 (es_geq h).2 (fun h => es_s_start R (es_vw (es_vl 0 0)) h (fun f1 f2 f3 f4 a1 a2 a3 a4 a5 a6 a7 a8 a9 a10 a11 a12 a13 a14 a15 a16 a17 N L Q M R h => br_t rfl (es_s_leader R h (fun h => es_ff h) (fun r n W h => es_eq W (es_vl 1 1) h (fun _ h => es_s_lastNumber R (es_vw (es_vl 0 0)) Vs (fun r e => br_t (e.trans ((congrArg g (es_geq h).1).trans ((es_pE R).1 1 (by decide)))) (es_h2 (es_geq h).2 (fun h => es_s_loc R (es_vw (es_vl 0 0)) Vk (fun r e => br_t (e.trans ((congrArg g (es_geq h).1).trans H128)) (es_h2 (es_geq h).2 (fun h => ⟨by decide, fun x7 e7 => ⟨by decide, fun x8 e8 => es_h7 (HV7 x7 e7) (HV8 x7 x8 e7 e8) (fun Va Vb => es_s_stop R Va h (fun f1 f2 f3 f4 a1 a2 a3 a4 a5 a6 a7 a8 a9 a10 a11 a12 a13 a14 a15 a16 a17 N L Q M R h => br_t rfl (es_s_stop R Vb h (fun f1 f2 f3 f4 a1 a2 a3 a4 a5 a6 a7 a8 a9 a10 a11 a12 a13 a14 a15 a16 a17 N L Q M R h => br_t rfl (es_s_leader R h (fun h => es_ff h) (fun r l Vl h => es_ltF Vl (es_vl 0 0) (Nat.zero_le _) (es_eq Vl Va h (fun _ h => es_ff h) (fun _ h => es_eq Vl Vb h (fun _ h => es_ff h) (fun _ h => es_s_submitAndStop R Vc (es_vw (es_vl 1 1)) (by decide) (((es_pE R).1 5 (by decide)).symm) (by decide) (((es_pE R).1 5 (by decide)).symm) (by decide) h (fun f1 f2 f3 f4 a1 a2 a3 a4 a5 a6 a7 a8 a9 a10 a11 a12 a13 a14 a15 a16 a17 N L Q M R h => es_ff h) (fun f1 f2 f3 f4 a1 a2 a3 a4 a5 a6 a7 a8 a9 a10 a11 a12 a13 a14 a15 a16 a17 N L Q M R h => es_ff h) (fun f1 f2 f3 f4 a1 a2 a3 a4 a5 a6 a7 a8 a9 a10 a11 a12 a13 a14 a15 a16 a17 N L Q M R h => br_t rfl (es_s_submitAndStop R Vc (es_vw (es_vl 2 2)) (by decide) (H129.symm) (by decide) (((es_pE R).1 0 (by decide)).symm) (by decide) h (fun f1 f2 f3 f4 a1 a2 a3 a4 a5 a6 a7 a8 a9 a10 a11 a12 a13 a14 a15 a16 a17 N L Q M R h => es_ff h) (fun f1 f2 f3 f4 a1 a2 a3 a4 a5 a6 a7 a8 a9 a10 a11 a12 a13 a14 a15 a16 a17 N L Q M R h => br_t rfl (es_s_pending R h (fun h => es_ff h) (fun h => br_t rfl (es_s_leader R h (fun h => br_t rfl (es_s_isUp R Vl h (fun h => br_t rfl (es_s_submit R Vc (es_vw (es_vl 2 2)) (by decide) (H129.symm) (by decide) (((es_pE R).1 0 (by decide)).symm) (by decide) h (fun f1 f2 f3 f4 a1 a2 a3 a4 a5 a6 a7 a8 a9 a10 a11 a12 a13 a14 a15 a16 a17 N L Q M R h => es_ff h) (fun f1 f2 f3 f4 a1 a2 a3 a4 a5 a6 a7 a8 a9 a10 a11 a12 a13 a14 a15 a16 a17 N L Q M R h => es_ff h) (fun f1 f2 f3 f4 a1 a2 a3 a4 a5 a6 a7 a8 a9 a10 a11 a12 a13 a14 a15 a16 a17 N L Q M R h => br_t rfl (es_s_submitAndStop R Vc (es_vw (es_vl 3 3)) (by decide) (H129.symm) (by decide) (((es_pE R).1 0 (by decide)).symm) (by decide) h (fun f1 f2 f3 f4 a1 a2 a3 a4 a5 a6 a7 a8 a9 a10 a11 a12 a13 a14 a15 a16 a17 N L Q M R h => es_ff h) (fun f1 f2 f3 f4 a1 a2 a3 a4 a5 a6 a7 a8 a9 a10 a11 a12 a13 a14 a15 a16 a17 N L Q M R h => es_ff h) (fun f1 f2 f3 f4 a1 a2 a3 a4 a5 a6 a7 a8 a9 a10 a11 a12 a13 a14 a15 a16 a17 N L Q M R h => es_ff h) (fun f1 f2 f3 f4 a1 a2 a3 a4 a5 a6 a7 a8 a9 a10 a11 a12 a13 a14 a15 a16 a17 N L Q M R h => br_t rfl (es_T294 hpost R Vk Vs Vc Va Vb Vl Vh H128 H129 H130 H131 h)))))) (fun h => es_ff h))) (fun r n W h => es_ff h))))) (fun f1 f2 f3 f4 a1 a2 a3 a4 a5 a6 a7 a8 a9 a10 a11 a12 a13 a14 a15 a16 a17 N L Q M R h => es_ff h) (fun f1 f2 f3 f4 a1 a2 a3 a4 a5 a6 a7 a8 a9 a10 a11 a12 a13 a14 a15 a16 a17 N L Q M R h => es_ff h))) (fun f1 f2 f3 f4 a1 a2 a3 a4 a5 a6 a7 a8 a9 a10 a11 a12 a13 a14 a15 a16 a17 N L Q M R h => es_ff h))))))) (fun f1 f2 f3 f4 a1 a2 a3 a4 a5 a6 a7 a8 a9 a10 a11 a12 a13 a14 a15 a16 a17 N L Q M R h => es_ff h))) (fun f1 f2 f3 f4 a1 a2 a3 a4 a5 a6 a7 a8 a9 a10 a11 a12 a13 a14 a15 a16 a17 N L Q M R h => es_ff h))⟩⟩))))))) (fun _ h => es_ff h)))) (fun f1 f2 f3 f4 a1 a2 a3 a4 a5 a6 a7 a8 a9 a10 a11 a12 a13 a14 a15 a16 a17 N L Q M R h => es_ff h))))) (fun _ h => es_ff h)))) (fun h => es_ff h))) (fun h => es_ff h))) (fun f1 f2 f3 f4 a1 a2 a3 a4 a5 a6 a7 a8 a9 a10 a11 a12 a13 a14 a15 a16 a17 N L Q M R h => es_ff h) (fun f1 f2 f3 f4 a1 a2 a3 a4 a5 a6 a7 a8 a9 a10 a11 a12 a13 a14 a15 a16 a17 N L Q M R h => es_ff h) (fun f1 f2 f3 f4 a1 a2 a3 a4 a5 a6 a7 a8 a9 a10 a11 a12 a13 a14 a15 a16 a17 N L Q M R h => es_ff h))) (fun f1 f2 f3 f4 a1 a2 a3 a4 a5 a6 a7 a8 a9 a10 a11 a12 a13 a14 a15 a16 a17 N L Q M R h => es_ff h) (fun f1 f2 f3 f4 a1 a2 a3 a4 a5 a6 a7 a8 a9 a10 a11 a12 a13 a14 a15 a16 a17 N L Q M R h => es_ff h)
end
end
section
/-! the law checked by the kernel, a = 0 -/
set_option maxHeartbeats 0 in
theorem es_ev001 : es_law 0 0 1 = true := by decide +kernel
set_option maxHeartbeats 0 in
theorem es_ev101 : es_law 1 0 1 = true := by decide +kernel
set_option maxHeartbeats 0 in
theorem es_ev201 : es_law 2 0 1 = true := by decide +kernel
set_option maxHeartbeats 0 in
theorem es_ev002 : es_law 0 0 2 = true := by decide +kernel
set_option maxHeartbeats 0 in
theorem es_ev102 : es_law 1 0 2 = true := by decide +kernel
set_option maxHeartbeats 0 in
theorem es_ev202 : es_law 2 0 2 = true := by decide +kernel
set_option maxHeartbeats 0 in
theorem es_ev003 : es_law 0 0 3 = true := by decide +kernel
set_option maxHeartbeats 0 in
theorem es_ev103 : es_law 1 0 3 = true := by decide +kernel
set_option maxHeartbeats 0 in
theorem es_ev203 : es_law 2 0 3 = true := by decide +kernel
set_option maxHeartbeats 0 in
theorem es_ev004 : es_law 0 0 4 = true := by decide +kernel
set_option maxHeartbeats 0 in
theorem es_ev104 : es_law 1 0 4 = true := by decide +kernel
set_option maxHeartbeats 0 in
theorem es_ev204 : es_law 2 0 4 = true := by decide +kernel
end
section
/-! the law checked by the kernel, a = 1 -/
set_option maxHeartbeats 0 in
theorem es_ev012 : es_law 0 1 2 = true := by decide +kernel
set_option maxHeartbeats 0 in
theorem es_ev112 : es_law 1 1 2 = true := by decide +kernel
set_option maxHeartbeats 0 in
theorem es_ev212 : es_law 2 1 2 = true := by decide +kernel
set_option maxHeartbeats 0 in
theorem es_ev013 : es_law 0 1 3 = true := by decide +kernel
set_option maxHeartbeats 0 in
theorem es_ev113 : es_law 1 1 3 = true := by decide +kernel
set_option maxHeartbeats 0 in
theorem es_ev213 : es_law 2 1 3 = true := by decide +kernel
set_option maxHeartbeats 0 in
theorem es_ev014 : es_law 0 1 4 = true := by decide +kernel
set_option maxHeartbeats 0 in
theorem es_ev114 : es_law 1 1 4 = true := by decide +kernel
set_option maxHeartbeats 0 in
theorem es_ev214 : es_law 2 1 4 = true := by decide +kernel
set_option maxHeartbeats 0 in
theorem es_ev010 : es_law 0 1 0 = true := by decide +kernel
set_option maxHeartbeats 0 in
theorem es_ev110 : es_law 1 1 0 = true := by decide +kernel
set_option maxHeartbeats 0 in
theorem es_ev210 : es_law 2 1 0 = true := by decide +kernel
end
section
/-! the law checked by the kernel, a = 2 -/
set_option maxHeartbeats 0 in
theorem es_ev023 : es_law 0 2 3 = true := by decide +kernel
set_option maxHeartbeats 0 in
theorem es_ev123 : es_law 1 2 3 = true := by decide +kernel
set_option maxHeartbeats 0 in
theorem es_ev223 : es_law 2 2 3 = true := by decide +kernel
set_option maxHeartbeats 0 in
theorem es_ev024 : es_law 0 2 4 = true := by decide +kernel
set_option maxHeartbeats 0 in
theorem es_ev124 : es_law 1 2 4 = true := by decide +kernel
set_option maxHeartbeats 0 in
theorem es_ev224 : es_law 2 2 4 = true := by decide +kernel
set_option maxHeartbeats 0 in
theorem es_ev020 : es_law 0 2 0 = true := by decide +kernel
set_option maxHeartbeats 0 in
theorem es_ev120 : es_law 1 2 0 = true := by decide +kernel
set_option maxHeartbeats 0 in
theorem es_ev220 : es_law 2 2 0 = true := by decide +kernel
set_option maxHeartbeats 0 in
theorem es_ev021 : es_law 0 2 1 = true := by decide +kernel
set_option maxHeartbeats 0 in
theorem es_ev121 : es_law 1 2 1 = true := by decide +kernel
set_option maxHeartbeats 0 in
theorem es_ev221 : es_law 2 2 1 = true := by decide +kernel
end
section
/-! the law checked by the kernel, a = 3 -/
set_option maxHeartbeats 0 in
theorem es_ev034 : es_law 0 3 4 = true := by decide +kernel
set_option maxHeartbeats 0 in
theorem es_ev134 : es_law 1 3 4 = true := by decide +kernel
set_option maxHeartbeats 0 in
theorem es_ev234 : es_law 2 3 4 = true := by decide +kernel
set_option maxHeartbeats 0 in
theorem es_ev030 : es_law 0 3 0 = true := by decide +kernel
set_option maxHeartbeats 0 in
theorem es_ev130 : es_law 1 3 0 = true := by decide +kernel
set_option maxHeartbeats 0 in
theorem es_ev230 : es_law 2 3 0 = true := by decide +kernel
set_option maxHeartbeats 0 in
theorem es_ev031 : es_law 0 3 1 = true := by decide +kernel
set_option maxHeartbeats 0 in
theorem es_ev131 : es_law 1 3 1 = true := by decide +kernel
set_option maxHeartbeats 0 in
theorem es_ev231 : es_law 2 3 1 = true := by decide +kernel
set_option maxHeartbeats 0 in
theorem es_ev032 : es_law 0 3 2 = true := by decide +kernel
set_option maxHeartbeats 0 in
theorem es_ev132 : es_law 1 3 2 = true := by decide +kernel
set_option maxHeartbeats 0 in
theorem es_ev232 : es_law 2 3 2 = true := by decide +kernel
end
section
/-! the law checked by the kernel, a = 4 -/
set_option maxHeartbeats 0 in
theorem es_ev040 : es_law 0 4 0 = true := by decide +kernel
set_option maxHeartbeats 0 in
theorem es_ev140 : es_law 1 4 0 = true := by decide +kernel
set_option maxHeartbeats 0 in
theorem es_ev240 : es_law 2 4 0 = true := by decide +kernel
set_option maxHeartbeats 0 in
theorem es_ev041 : es_law 0 4 1 = true := by decide +kernel
set_option maxHeartbeats 0 in
theorem es_ev141 : es_law 1 4 1 = true := by decide +kernel
set_option maxHeartbeats 0 in
theorem es_ev241 : es_law 2 4 1 = true := by decide +kernel
set_option maxHeartbeats 0 in
theorem es_ev042 : es_law 0 4 2 = true := by decide +kernel
set_option maxHeartbeats 0 in
theorem es_ev142 : es_law 1 4 2 = true := by decide +kernel
set_option maxHeartbeats 0 in
theorem es_ev242 : es_law 2 4 2 = true := by decide +kernel
set_option maxHeartbeats 0 in
theorem es_ev043 : es_law 0 4 3 = true := by decide +kernel
set_option maxHeartbeats 0 in
theorem es_ev143 : es_law 1 4 3 = true := by decide +kernel
set_option maxHeartbeats 0 in
theorem es_ev243 : es_law 2 4 3 = true := by decide +kernel
end
section
/-! the top: what cells read, the first state, the roads, i_vc -/
def es_gg (p0 p1 : Int32) (key s c : Nat) : Int32 := if c < 128 then nI c else if c = 128 then p1 else if c = 129 then p0 else if c = 130 then p1 + p0 else if c = 131 then p1 + p0 + 1 else if c = 132 then nI key else nI s
theorem es_adc {c a : Nat} (h : es_ad c a ≤ 131) : (c * 256 + a = 128 ∧ es_ad c a = 128) ∨ (c * 256 + a = 32897 ∧ es_ad c a = 130) ∨ (c * 256 + a = 33281 ∧ es_ad c a = 131) := by
  unfold es_ad at h ⊢
  by_cases h1 : Nat.beq (Nat.add (Nat.mul c 256) a) 128 = true
  · rw [if_pos h1] at h ⊢
    exact Or.inl ⟨es_beqT h1, rfl⟩
  rw [if_neg h1] at h ⊢
  by_cases h2 : Nat.beq (Nat.add (Nat.mul c 256) a) 32897 = true
  · rw [if_pos h2] at h ⊢
    exact Or.inr (Or.inl ⟨es_beqT h2, rfl⟩)
  rw [if_neg h2] at h ⊢
  by_cases h3 : Nat.beq (Nat.add (Nat.mul c 256) a) 33281 = true
  · rw [if_pos h3] at h ⊢
    exact Or.inr (Or.inr ⟨es_beqT h3, rfl⟩)
  rw [if_neg h3] at h
  exact absurd h (by decide)
theorem es_ggE {p0 p1 : Int32} {key s : Nat} (hk : key < 6) (hs : s < 4) : es_E (es_gg p0 p1 key s) key s := by
  refine ⟨fun c hc => if_pos hc, rfl, rfl, hk, hs, fun c a hc ha h => ?_⟩
  rcases es_adc h with ⟨q, e⟩ | ⟨q, e⟩ | ⟨q, e⟩
  · have c0 : c = 0 := by omega
    have a0 : a = 128 := by omega
    rw [e, c0, a0]
    show nI 0 + p1 = p1
    rw [nI_0, Int32.zero_add]
  · have c0 : c = 128 := by omega
    have a0 : a = 129 := by omega
    rw [e, c0, a0]
    rfl
  · have c0 : c = 130 := by omega
    have a0 : a = 1 := by omega
    rw [e, c0, a0]
    rfl
theorem es_A0 {o n : Nat} (h : ∀ j, j < n → es_rd es_N0 (Nat.add o j) = 0) : es_A es_N0 o n (fun _ => 0) := fun j hj => by
  rw [h j hj]
  rfl
theorem es_G0 {g : Nat → Int32} {key s n : Nat} (E : es_E g key s) : es_G g 0 n (fun _ => 0) := fun j hj => by
  rw [es_rd_0, E.1 0 (by decide)]
  rfl
theorem es_R0 {g : Nat → Int32} {key s : Nat} (E : es_E g key s) : es_R g key s 0 0 (-1) 0 (fun _ => 0) (fun _ => 0) (fun _ => 0) (fun _ => 0) (fun _ => 0) (fun _ => 0) (fun _ => 0) (fun _ => 0) (fun _ => 0) (fun _ => 0) (fun _ => 0) (fun _ => 0) (fun _ => 0) (fun _ => 0) (fun _ => 0) (fun _ => 0) (fun _ => 0) es_N0 0 0 0 := by
  have z : ∀ c, es_rd es_N0 c = 0 → (0 : Int32) = g (es_rd es_N0 c) := fun c h => by
    rw [h, E.1 0 (by decide)]
    rfl
  have r0 : ∀ n, n < 5 → es_rd es_N0 (Nat.add 100 (Nat.mul 4 n)) = 0 ∧ es_rd es_N0 (Nat.add 101 (Nat.mul 4 n)) = 0 ∧ es_rd es_N0 (Nat.add 102 (Nat.mul 4 n)) = 0 ∧ es_rd es_N0 (Nat.add 103 (Nat.mul 4 n)) = 0 := by decide +kernel
  have b0 : ∀ j, j < 5 → es_rd es_N0 (Nat.add 20 j) = 1 := by decide +kernel
  refine ⟨E, by decide +kernel, by decide +kernel, by decide +kernel, rfl, es_A0 (by decide +kernel), es_A0 (by decide +kernel), es_A0 (by decide +kernel), es_A0 (by decide +kernel), fun j hj => ?_, es_A0 (by decide +kernel), es_A0 (by decide +kernel), es_A0 (by decide +kernel), es_A0 (by decide +kernel), es_G0 E, es_A0 (by decide +kernel), fun n hn => ?_, es_A0 (by decide +kernel), es_A0 (by decide +kernel), es_G0 E, fun j hj => ?_, es_G0 E⟩
  · rw [b0 j hj]
    show (0 : Int32) = es_o 1
    decide
  · have r := r0 n hn
    refine ⟨z _ r.1, z _ r.2.1, z _ r.2.2.1, ?_, fun _ _ _ _ _ => rfl⟩
    rw [r.2.2.2]
    rfl
  · rw [es_rd_0]
    rfl
theorem es_evs : ∀ a, a < 5 → ∀ t, t < 4 → ∀ h, h < 3 → es_law h a ((a + 1 + t) % 5) = true := by
  intro a ha t ht h hh
  have A : a = 0 ∨ a = 1 ∨ a = 2 ∨ a = 3 ∨ a = 4 := by omega
  have T : t = 0 ∨ t = 1 ∨ t = 2 ∨ t = 3 := by omega
  have H : h = 0 ∨ h = 1 ∨ h = 2 := by omega
  rcases A with A | A | A | A | A <;> rcases T with T | T | T | T <;> rcases H with H | H | H <;> subst A T H
  · exact es_ev001
  · exact es_ev101
  · exact es_ev201
  · exact es_ev002
  · exact es_ev102
  · exact es_ev202
  · exact es_ev003
  · exact es_ev103
  · exact es_ev203
  · exact es_ev004
  · exact es_ev104
  · exact es_ev204
  · exact es_ev012
  · exact es_ev112
  · exact es_ev212
  · exact es_ev013
  · exact es_ev113
  · exact es_ev213
  · exact es_ev014
  · exact es_ev114
  · exact es_ev214
  · exact es_ev010
  · exact es_ev110
  · exact es_ev210
  · exact es_ev023
  · exact es_ev123
  · exact es_ev223
  · exact es_ev024
  · exact es_ev124
  · exact es_ev224
  · exact es_ev020
  · exact es_ev120
  · exact es_ev220
  · exact es_ev021
  · exact es_ev121
  · exact es_ev221
  · exact es_ev034
  · exact es_ev134
  · exact es_ev234
  · exact es_ev030
  · exact es_ev130
  · exact es_ev230
  · exact es_ev031
  · exact es_ev131
  · exact es_ev231
  · exact es_ev032
  · exact es_ev132
  · exact es_ev232
  · exact es_ev040
  · exact es_ev140
  · exact es_ev240
  · exact es_ev041
  · exact es_ev141
  · exact es_ev241
  · exact es_ev042
  · exact es_ev142
  · exact es_ev242
  · exact es_ev043
  · exact es_ev143
  · exact es_ev243
theorem es_top (p0 p1 p2 : Int32) : wpL_lawOf (fun r _ => r = 1) 100 5000 () p0 p1 p2 := by
  obtain ⟨j0, h0, e0⟩ := pk_andE p0 (m := 255) 8 (by decide)
  obtain ⟨s, hs, es⟩ := pk_andE (p0 >>> ((8 : Int32) &&& 31)) (m := 3) 2 (by decide)
  obtain ⟨j2, h2, e2⟩ := pk_andE p2 (m := 255) 8 (by decide)
  obtain ⟨t, ht, et⟩ := pk_andE (p2 >>> ((8 : Int32) &&& 31)) (m := 3) 2 (by decide)
  obtain ⟨j3, h3, e3⟩ := pk_andE (p2 >>> ((10 : Int32) &&& 31)) (m := 255) 8 (by decide)
  have W0 : es_V (p0 &&& 255) j0 256 := ⟨e0, h0⟩
  have W2 : es_V (p2 &&& 255) j2 256 := ⟨e2, h2⟩
  have W3 : es_V ((p2 >>> ((10 : Int32) &&& 31)) &&& 255) j3 256 := ⟨e3, h3⟩
  have Wt : es_V ((p2 >>> ((8 : Int32) &&& 31)) &&& 3) t 4 := ⟨et, ht⟩
  have hk : j0 % 6 < 6 := Nat.mod_lt _ (by decide)
  have E : es_E (es_gg p0 p1 (j0 % 6) s) (j0 % 6) s := es_ggE hk hs
  have V7 : ∀ x, x = (p2 &&& 255) - (p2 &&& 255) / 5 * 5 → es_V x (j2 % 5) 5 := fun x ex => es_vq ex (es_vrem W2 (show (5 : Int32) = nI 5 from rfl) (by decide) (by decide) (by decide))
  exact es_TA rfl (es_R0 E) (es_evs (j2 % 5) (Nat.mod_lt _ (by decide)) t ht (j3 % 3) (Nat.mod_lt _ (by decide)))
    (es_vrem W3 (show (3 : Int32) = nI 3 from rfl) (by decide) (by decide) (by decide))
    (fun x ex => es_vq ex (es_vrem W0 (show (6 : Int32) = nI 6 from rfl) (by decide) (by decide) (by decide)))
    (fun x ex => es_vq ex ⟨es, hs⟩) V7
    (fun x7 x8 e7 e8 => es_vq e8 (es_vrem (es_va (es_v1 (V7 x7 e7)) Wt) (show (5 : Int32) = nI 5 from rfl) (by decide) (by decide) (by decide)))
    rfl rfl rfl rfl
theorem es_s_cellAt {post : Int32 → Prop} {L : Nat} {xs : Nat → Int32} (hL : L ≤ 3) {p1 : Int32} {i : Nat} (V : es_V p1 i 3) (hp : ∀ r, post r) : wpL_cellAt post L xs () p1 :=
  br_c (fun _ => hp _) (fun h => ⟨es_in V (Nat.lt_of_not_le (fun hle => h (by
    have q : nI L ≤ nI i := nI_le hle (by have := V.2; omega)
    rw [V.1]
    exact q))) (by omega), hp _⟩)
theorem i_vc (xs : Nat → Int32) (L : Nat) (hL : L ≤ 3) : wpL_law (fun r => r = 1) L xs := by
  unfold wpL_law
  exact es_s_cellAt hL (es_vw (es_vl 0 0)) (fun r1 => es_s_cellAt hL (es_vw (es_vl 1 1)) (fun r2 => es_s_cellAt hL (es_vl 2 2) (fun r3 => ⟨100, 5000, by decide, by decide, es_top r1 r2 r3⟩)))
end
