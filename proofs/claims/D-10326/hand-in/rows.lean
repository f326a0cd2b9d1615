section
/-! bits of a mask (turned from the kit's rows to paste), signed values, sums -/
def ds_bt (x : Int32) (i : Nat) : Bool := x.toBitVec.getLsbD i
theorem ds_ext {x y : Int32} (h : ∀ i, i < 32 → ds_bt x i = ds_bt y i) : x = y := Int32.toBitVec_inj.mp (BitVec.eq_of_getLsbD_eq (fun i hi => h i hi))
theorem ds_bor (x y : Int32) (i : Nat) : ds_bt (x ||| y) i = (ds_bt x i || ds_bt y i) := by unfold ds_bt; rw [Int32.toBitVec_or, BitVec.getLsbD_or]
theorem ds_band (x y : Int32) (i : Nat) : ds_bt (x &&& y) i = (ds_bt x i && ds_bt y i) := by unfold ds_bt; rw [Int32.toBitVec_and, BitVec.getLsbD_and]
theorem ds_bxor (x y : Int32) (i : Nat) : ds_bt (x ^^^ y) i = (ds_bt x i ^^ ds_bt y i) := by unfold ds_bt; rw [Int32.toBitVec_xor, BitVec.getLsbD_xor]
theorem ds_big {x : Int32} {i : Nat} (h : 32 ≤ i) : ds_bt x i = false := BitVec.getLsbD_of_ge _ _ h
theorem ds_bt0 (i : Nat) : ds_bt 0 i = false := BitVec.getLsbD_zero
theorem ds_sl : ∀ n, n < 32 → ((nI n &&& 31).toBitVec.smod 32).toNat = n := by decide +kernel
theorem ds_shl (n : Nat) (hn : n < 32) (x : Int32) {i : Nat} (hi : i < 32) : ds_bt (x <<< (nI n &&& 31)) i = (decide (n ≤ i) && ds_bt x (i - n)) := by
  unfold ds_bt
  rw [Int32.toBitVec_shiftLeft]
  show (x.toBitVec <<< ((nI n &&& 31).toBitVec.smod 32).toNat).getLsbD i = _
  rw [ds_sl n hn, BitVec.getLsbD_shiftLeft]
  rcases Nat.lt_or_ge i n with h | h
  · simp [h, Nat.not_le.mpr h]
  · simp [hi, h, Nat.not_lt.mpr h]
theorem ds_sshr (n : Nat) (hn : n < 32) (x : Int32) {i : Nat} (hi : i < 32) : ds_bt (x >>> (nI n &&& 31)) i = if n + i < 32 then ds_bt x (n + i) else ds_bt x 31 := by
  unfold ds_bt
  rw [Int32.toBitVec_shiftRight]
  show (x.toBitVec.sshiftRight ((nI n &&& 31).toBitVec.smod 32).toNat).getLsbD i = _
  rw [ds_sl n hn, BitVec.getLsbD_sshiftRight, BitVec.msb_eq_getLsbD_last]
  simp [hi]
theorem ds_bt1 (i : Nat) : ds_bt 1 i = decide (i = 0) := by
  rcases Nat.lt_or_ge i 32 with h | h
  · exact (by decide +kernel : ∀ i, i < 32 → ds_bt 1 i = decide (i = 0)) i h
  · rw [ds_big h, decide_eq_false (by omega)]
theorem ds_sh1 {v : Nat} (hv : v < 32) (i : Nat) : ds_bt ((1 : Int32) <<< (nI v &&& 31)) i = decide (i = v) := by
  rcases Nat.lt_or_ge i 32 with h | h
  · rw [ds_shl v hv 1 h, ds_bt1]
    rcases Nat.lt_trichotomy i v with g | g | g
    · rw [decide_eq_false (by omega : ¬ v ≤ i), decide_eq_false (by omega : ¬ i = v)]; rfl
    · subst g; simp
    · rw [decide_eq_true (by omega : v ≤ i), decide_eq_false (by omega : ¬ i - v = 0), decide_eq_false (by omega : ¬ i = v)]; rfl
  · rw [ds_big h, decide_eq_false (by omega)]
theorem ds_bit (x : Int32) {u : Nat} (hu : u < 32) : (x >>> (nI u &&& 31)) &&& 1 = if ds_bt x u = true then 1 else 0 := by
  apply ds_ext
  intro i hi
  rw [ds_band, ds_bt1, ds_sshr u hu x hi]
  by_cases h0 : i = 0
  · subst h0
    rw [if_pos (by omega), Nat.add_zero]
    cases h : ds_bt x u <;> simp [ds_bt0, ds_bt1]
  · rw [decide_eq_false h0, Bool.and_false]
    cases h : ds_bt x u <;> simp [ds_bt0, ds_bt1, h0]
theorem ds_bit1 (x : Int32) {u : Nat} (hu : u < 32) : ((x >>> (nI u &&& 31)) &&& 1) = 1 ↔ ds_bt x u = true := by
  rw [ds_bit x hu]
  cases ds_bt x u <;> simp
theorem ds_bitz (x : Int32) {u : Nat} (hu : u < 32) : ((x >>> (nI u &&& 31)) &&& 1) = 0 ↔ ds_bt x u = false := by
  rw [ds_bit x hu]
  cases ds_bt x u <;> simp
/-! signed values -/
def ds_i (z : Int) : Int32 := Int32.ofInt z
theorem ds_iN (n : Nat) : nI n = ds_i n := Int32.ofInt_eq_ofNat.symm
theorem ds_iadd (a b : Int) : ds_i a + ds_i b = ds_i (a + b) := (Int32.ofInt_add a b).symm
theorem ds_isub (a b : Int) : ds_i a - ds_i b = ds_i (a - b) := (Int32.ofInt_sub a b).symm
theorem ds_imul (a b : Int) : ds_i a * ds_i b = ds_i (a * b) := (Int32.ofInt_mul a b).symm
theorem ds_ineg (a : Int) : -ds_i a = ds_i (-a) := (Int32.ofInt_neg a).symm
theorem ds_toI (x : Int32) : x = ds_i x.toInt := (Int32.ofInt_toInt x).symm
def ds_rg (z : Int) : Prop := -2147483648 ≤ z ∧ z < 2147483648
theorem ds_iT {z : Int} (h : ds_rg z) : (ds_i z).toInt = z := by
  have h1 := h.1
  have h2 := h.2
  exact Int32.toInt_ofInt_of_le (by omega) (by omega)
theorem ds_ile {a b : Int} (ha : ds_rg a) (hb : ds_rg b) : ds_i a ≤ ds_i b ↔ a ≤ b := by
  rw [Int32.le_iff_toInt_le, ds_iT ha, ds_iT hb]
theorem ds_ilt {a b : Int} (ha : ds_rg a) (hb : ds_rg b) : ds_i a < ds_i b ↔ a < b := by
  rw [Int32.lt_iff_toInt_lt, ds_iT ha, ds_iT hb]
theorem ds_ieq {a b : Int} (ha : ds_rg a) (hb : ds_rg b) : ds_i a = ds_i b ↔ a = b := by
  rw [← Int32.toInt_inj, ds_iT ha, ds_iT hb]
theorem ds_ble {x y : Int32} {A B : Prop} (a b : Int) (hx : x = ds_i a) (hy : y = ds_i b) (ha : ds_rg a) (hb : ds_rg b) (f : a ≤ b → A) (g : b < a → B) : (x ≤ y → A) ∧ (¬ x ≤ y → B) := by
  subst hx hy
  rw [ds_ile ha hb]
  exact ⟨f, fun h => g (by omega)⟩
theorem ds_blt {x y : Int32} {A B : Prop} (a b : Int) (hx : x = ds_i a) (hy : y = ds_i b) (ha : ds_rg a) (hb : ds_rg b) (f : a < b → A) (g : b ≤ a → B) : (x < y → A) ∧ (¬ x < y → B) := by
  subst hx hy
  rw [ds_ilt ha hb]
  exact ⟨f, fun h => g (by omega)⟩
theorem ds_beq {x y : Int32} {A B : Prop} (a b : Int) (hx : x = ds_i a) (hy : y = ds_i b) (ha : ds_rg a) (hb : ds_rg b) (f : a = b → A) (g : a ≠ b → B) : (x = y → A) ∧ (¬ x = y → B) := by
  subst hx hy
  rw [ds_ieq ha hb]
  exact ⟨f, g⟩
/-- a condition by what it means -/
theorem ds_if {c d A B : Prop} (e : c ↔ d) (f : d → A) (g : ¬ d → B) : (c → A) ∧ (¬ c → B) := ⟨fun h => f (e.mp h), fun h => g (fun z => h (e.mpr z))⟩
theorem ds_i0 : (0 : Int32) = ds_i 0 := by decide
theorem ds_ip {z : Int} (h : 0 ≤ z) : ds_i z = nI z.toNat := by
  rw [ds_iN, Int.toNat_of_nonneg h]
theorem ds_ix (a b c : Nat) (hc : c < 2 ^ 31) : nI a * nI c + nI b = nI (a * c + b) := by
  rw [pk_mul, nI_add]
/-! sums -/
def ds_sm (f : Nat → Int) : Nat → Int
  | 0 => 0
  | n + 1 => ds_sm f n + f n
theorem ds_sm_s (f : Nat → Int) (n : Nat) : ds_sm f (n + 1) = ds_sm f n + f n := rfl
theorem ds_sm_congr {f g : Nat → Int} {n : Nat} (h : ∀ i, i < n → f i = g i) : ds_sm f n = ds_sm g n := by
  induction n with
  | zero => rfl
  | succ n ih => rw [ds_sm_s, ds_sm_s, ih (fun i hi => h i (by omega)), h n (by omega)]
theorem ds_sm_le {f g : Nat → Int} {n : Nat} (h : ∀ i, i < n → f i ≤ g i) : ds_sm f n ≤ ds_sm g n := by
  induction n with
  | zero => exact Int.le_refl _
  | succ n ih =>
    have h1 := ih (fun i hi => h i (by omega))
    have h2 := h n (by omega)
    rw [ds_sm_s, ds_sm_s]
    omega
theorem ds_sm_lt1 {f g : Nat → Int} {n k : Nat} (hk : k < n) (h : ∀ i, i < n → f i ≤ g i) (h1 : f k + 1 ≤ g k) : ds_sm f n + 1 ≤ ds_sm g n := by
  induction n with
  | zero => omega
  | succ n ih =>
    rw [ds_sm_s, ds_sm_s]
    have h2 := h n (by omega)
    by_cases e : k = n
    · subst e
      have h3 : ds_sm f k ≤ ds_sm g k := ds_sm_le (fun i hi => h i (by omega))
      omega
    · have h3 := ih (by omega) (fun i hi => h i (by omega))
      omega
theorem ds_sm_upd {f g : Nat → Int} {n k : Nat} {d : Int} (hk : k < n) (h : ∀ i, i < n → i ≠ k → g i = f i) (h1 : g k = f k + d) : ds_sm g n = ds_sm f n + d := by
  induction n with
  | zero => omega
  | succ n ih =>
    rw [ds_sm_s, ds_sm_s]
    by_cases e : k = n
    · subst e
      have h3 : ds_sm g k = ds_sm f k := ds_sm_congr (fun i hi => h i (by omega) (by omega))
      omega
    · have h3 := ih (by omega) (fun i hi he => h i (by omega) he)
      have h2 := h n (by omega) (fun z => e z.symm)
      omega
theorem ds_sm_c (c : Int) (n : Nat) : ds_sm (fun _ => c) n = c * n := by
  induction n with
  | zero => simp [ds_sm]
  | succ n ih =>
    rw [ds_sm_s, ih, Int.natCast_add, Int.mul_add]
    simp
theorem ds_sm_0 {f : Nat → Int} {n : Nat} (h : ∀ i, i < n → f i = 0) : ds_sm f n = 0 := by
  rw [ds_sm_congr (g := fun _ => 0) h, ds_sm_c, Int.zero_mul]
theorem ds_sm_nn {f : Nat → Int} {n : Nat} (h : ∀ i, i < n → 0 ≤ f i) : 0 ≤ ds_sm f n := by
  have h1 : ds_sm (fun _ => 0) n ≤ ds_sm f n := ds_sm_le h
  rw [ds_sm_c, Int.zero_mul] at h1
  exact h1
theorem ds_sm_cb {f : Nat → Int} {n : Nat} {c : Int} (h : ∀ i, i < n → f i ≤ c) : ds_sm f n ≤ c * n := by
  have h1 : ds_sm f n ≤ ds_sm (fun _ => c) n := ds_sm_le h
  rw [ds_sm_c] at h1
  exact h1
theorem ds_sm_z {f : Nat → Int} {n : Nat} (h : ∀ i, i < n → 0 ≤ f i) (h0 : ds_sm f n = 0) : ∀ i, i < n → f i = 0 := by
  induction n with
  | zero => intro i hi; omega
  | succ n ih =>
    rw [ds_sm_s] at h0
    have h1 := h n (by omega)
    have h2 : 0 ≤ ds_sm f n := ds_sm_nn (fun i hi => h i (by omega))
    intro i hi
    by_cases e : i = n
    · subst e; omega
    · exact ih (fun i hi => h i (by omega)) (by omega) i (by omega)
theorem ds_sm_one {f : Nat → Int} {n k : Nat} (hk : k < n) (h : ∀ i, i < n → 0 ≤ f i) : f k ≤ ds_sm f n := by
  induction n with
  | zero => omega
  | succ n ih =>
    rw [ds_sm_s]
    have h1 := h n (by omega)
    have h2 : 0 ≤ ds_sm f n := ds_sm_nn (fun i hi => h i (by omega))
    by_cases e : k = n
    · subst e; omega
    · have := ih (by omega) (fun i hi => h i (by omega)); omega
theorem ds_sm_add (f g : Nat → Int) (n : Nat) : ds_sm (fun i => f i + g i) n = ds_sm f n + ds_sm g n := by
  induction n with
  | zero => rfl
  | succ n ih => rw [ds_sm_s, ds_sm_s, ds_sm_s, ih]; omega
theorem ds_sm_sub (f g : Nat → Int) (n : Nat) : ds_sm (fun i => f i - g i) n = ds_sm f n - ds_sm g n := by
  induction n with
  | zero => rfl
  | succ n ih => rw [ds_sm_s, ds_sm_s, ds_sm_s, ih]; omega
theorem ds_sm_mul (c : Int) (f : Nat → Int) (n : Nat) : ds_sm (fun i => c * f i) n = c * ds_sm f n := by
  induction n with
  | zero => simp [ds_sm]
  | succ n ih => rw [ds_sm_s, ds_sm_s, ih, Int.mul_add]
theorem ds_sm_swap (f : Nat → Nat → Int) (n m : Nat) : ds_sm (fun x => ds_sm (fun y => f x y) m) n = ds_sm (fun y => ds_sm (fun x => f x y) n) m := by
  induction n with
  | zero => exact (ds_sm_0 (fun i _ => rfl)).symm
  | succ n ih =>
    rw [ds_sm_s, ih, ← ds_sm_add]
    exact ds_sm_congr (fun i _ => rfl)
/-- a sum over 12 places by its parts: below n, the rest up to 10, place 10, place 11 -/
theorem ds_sm_cut {f : Nat → Int} {n m : Nat} (hn : n ≤ m) (h : ∀ i, n ≤ i → i < m → f i = 0) : ds_sm f m = ds_sm f n := by
  induction m with
  | zero =>
    have : n = 0 := by omega
    subst this
    rfl
  | succ m ih =>
    by_cases e : n = m + 1
    · subst e; rfl
    · rw [ds_sm_s, ih (by omega) (fun i h1 h2 => h i h1 (by omega)), h m (by omega) (by omega), Int.add_zero]
theorem ds_sm_12 {f : Nat → Int} {n : Nat} (hn : n ≤ 10) (h : ∀ i, n ≤ i → i < 10 → f i = 0) : ds_sm f 12 = ds_sm f n + f 10 + f 11 := by
  rw [ds_sm_s, ds_sm_s, ds_sm_cut hn h]
/-! double sums over 12 by 12 -/
def ds_s2 (f : Nat → Nat → Int) : Int := ds_sm (fun x => ds_sm (f x) 12) 12
theorem ds_s2_congr {f g : Nat → Nat → Int} (h : ∀ x y, x < 12 → y < 12 → f x y = g x y) : ds_s2 f = ds_s2 g :=
  ds_sm_congr (fun x hx => ds_sm_congr (fun y hy => h x y hx hy))
theorem ds_s2_upd {f g : Nat → Nat → Int} {a b : Nat} {d : Int} (ha : a < 12) (hb : b < 12) (h : ∀ x y, x < 12 → y < 12 → ¬ (x = a ∧ y = b) → g x y = f x y) (h1 : g a b = f a b + d) : ds_s2 g = ds_s2 f + d :=
  ds_sm_upd ha (fun x hx e => ds_sm_congr (fun y hy => h x y hx hy (fun z => e z.1))) (ds_sm_upd hb (fun y hy e => h a y ha hy (fun z => e z.2)) h1)
theorem ds_s2_lt1 {f g : Nat → Nat → Int} {a b : Nat} (ha : a < 12) (hb : b < 12) (h : ∀ x y, x < 12 → y < 12 → f x y ≤ g x y) (h1 : f a b + 1 ≤ g a b) : ds_s2 f + 1 ≤ ds_s2 g :=
  ds_sm_lt1 ha (fun x hx => ds_sm_le (fun y hy => h x y hx hy)) (ds_sm_lt1 hb (fun y hy => h a y ha hy) h1)
theorem ds_s2_nn {f : Nat → Nat → Int} (h : ∀ x y, x < 12 → y < 12 → 0 ≤ f x y) : 0 ≤ ds_s2 f :=
  ds_sm_nn (fun x hx => ds_sm_nn (fun y hy => h x y hx hy))
theorem ds_s2_z {f : Nat → Nat → Int} (h : ∀ x y, x < 12 → y < 12 → 0 ≤ f x y) (h0 : ds_s2 f = 0) : ∀ x y, x < 12 → y < 12 → f x y = 0 :=
  fun x y hx hy => ds_sm_z (fun y hy => h x y hx hy) (ds_sm_z (fun x hx => ds_sm_nn (fun y hy => h x y hx hy)) h0 x hx) y hy
theorem ds_s2_0 {f : Nat → Nat → Int} (h : ∀ x y, x < 12 → y < 12 → f x y = 0) : ds_s2 f = 0 :=
  ds_sm_0 (fun x hx => ds_sm_0 (fun y hy => h x y hx hy))
theorem ds_s2_b {f : Nat → Nat → Int} (h : ∀ x y, x < 12 → y < 12 → f x y ≤ 1) : ds_s2 f ≤ 144 := by
  have h1 : ds_s2 f ≤ (12 : Int) * (12 : Nat) := ds_sm_cb (fun x hx => by
    have := ds_sm_cb (f := f x) (n := 12) (c := 1) (fun y hy => h x y hx hy)
    omega)
  omega
end
section
/-! the network without the program: cuts, pushes along a way, levels, the potential -/
abbrev ds_nd (n x : Nat) : Prop := x < n ∨ 10 ≤ x
def ds_cv (n : Nat) (S : Nat → Bool) (R : Nat → Nat → Int) : Int := ds_s2 (fun x y => if S x = true ∧ S y = false ∧ ds_nd n y then R x y else 0)
def ds_ch (S : Nat → Bool) (x : Nat) : Int := if S x = true then 1 else 0
def ds_pu (R : Nat → Nat → Int) (x y : Nat) (d : Int) : Nat → Nat → Int := fun a b => if a = x ∧ b = y then R a b - d else if a = y ∧ b = x then R a b + d else R a b
theorem ds_pu_1 {R : Nat → Nat → Int} {x y : Nat} {d : Int} : ds_pu R x y d x y = R x y - d := by
  unfold ds_pu
  rw [if_pos ⟨rfl, rfl⟩]
theorem ds_pu_2 {R : Nat → Nat → Int} {x y : Nat} {d : Int} (h : x ≠ y) : ds_pu R x y d y x = R y x + d := by
  unfold ds_pu
  rw [if_neg (fun z => h z.1.symm), if_pos ⟨rfl, rfl⟩]
theorem ds_pu_3 {R : Nat → Nat → Int} {x y a b : Nat} {d : Int} (h1 : ¬ (a = x ∧ b = y)) (h2 : ¬ (a = y ∧ b = x)) : ds_pu R x y d a b = R a b := by
  unfold ds_pu
  rw [if_neg h1, if_neg h2]
theorem ds_pu_sum {R : Nat → Nat → Int} {x y : Nat} {d : Int} (h : x ≠ y) (a b : Nat) : ds_pu R x y d a b + ds_pu R x y d b a = R a b + R b a := by
  by_cases h1 : a = x ∧ b = y
  · obtain ⟨e1, e2⟩ := h1
    rw [e1, e2, ds_pu_1, ds_pu_2 h]
    omega
  · by_cases h2 : a = y ∧ b = x
    · obtain ⟨e1, e2⟩ := h2
      rw [e1, e2, ds_pu_2 h, ds_pu_1]
      omega
    · rw [ds_pu_3 h1 h2, ds_pu_3 (fun z => h2 ⟨z.2, z.1⟩) (fun z => h1 ⟨z.2, z.1⟩)]
theorem ds_cv_pu {n x y : Nat} {S : Nat → Bool} {R : Nat → Nat → Int} {d : Int} (hx : x < 12) (hy : y < 12) (nx : ds_nd n x) (ny : ds_nd n y) (h : x ≠ y) :
    ds_cv n S (ds_pu R x y d) = ds_cv n S R - d * (ds_ch S x - ds_ch S y) := by
  cases sx : S x <;> cases sy : S y
  · have e : ds_cv n S (ds_pu R x y d) = ds_cv n S R := ds_s2_congr (fun a b _ _ => by
      show (if S a = true ∧ S b = false ∧ ds_nd n b then ds_pu R x y d a b else 0) = (if S a = true ∧ S b = false ∧ ds_nd n b then R a b else 0)
      by_cases c : S a = true ∧ S b = false ∧ ds_nd n b
      · rw [if_pos c, if_pos c, ds_pu_3 (fun z => by have := c.1; rw [z.1, sx] at this; exact absurd this (by decide)) (fun z => by have := c.1; rw [z.1, sy] at this; exact absurd this (by decide))]
      · rw [if_neg c, if_neg c])
    rw [e]
    unfold ds_ch
    rw [sx, sy]
    simp
  · have e : ds_cv n S (ds_pu R x y d) = ds_cv n S R + d := ds_s2_upd hy hx (fun a b _ _ hne => by
      show (if S a = true ∧ S b = false ∧ ds_nd n b then ds_pu R x y d a b else 0) = (if S a = true ∧ S b = false ∧ ds_nd n b then R a b else 0)
      by_cases c : S a = true ∧ S b = false ∧ ds_nd n b
      · rw [if_pos c, if_pos c, ds_pu_3 (fun z => by have := c.1; rw [z.1, sx] at this; exact absurd this (by decide)) hne]
      · rw [if_neg c, if_neg c]) (by
      show (if S y = true ∧ S x = false ∧ ds_nd n x then ds_pu R x y d y x else 0) = (if S y = true ∧ S x = false ∧ ds_nd n x then R y x else 0) + d
      rw [if_pos ⟨sy, sx, nx⟩, if_pos ⟨sy, sx, nx⟩, ds_pu_2 h])
    rw [e]
    unfold ds_ch
    rw [sx, sy]
    simp
  · have e : ds_cv n S (ds_pu R x y d) = ds_cv n S R + (-d) := ds_s2_upd hx hy (fun a b _ _ hne => by
      show (if S a = true ∧ S b = false ∧ ds_nd n b then ds_pu R x y d a b else 0) = (if S a = true ∧ S b = false ∧ ds_nd n b then R a b else 0)
      by_cases c : S a = true ∧ S b = false ∧ ds_nd n b
      · rw [if_pos c, if_pos c, ds_pu_3 hne (fun z => by have := c.1; rw [z.1, sy] at this; exact absurd this (by decide))]
      · rw [if_neg c, if_neg c]) (by
      show (if S x = true ∧ S y = false ∧ ds_nd n y then ds_pu R x y d x y else 0) = (if S x = true ∧ S y = false ∧ ds_nd n y then R x y else 0) + (-d)
      rw [if_pos ⟨sx, sy, ny⟩, if_pos ⟨sx, sy, ny⟩, ds_pu_1]
      omega)
    rw [e]
    unfold ds_ch
    rw [sx, sy]
    simp
    omega
  · have e : ds_cv n S (ds_pu R x y d) = ds_cv n S R := ds_s2_congr (fun a b _ _ => by
      show (if S a = true ∧ S b = false ∧ ds_nd n b then ds_pu R x y d a b else 0) = (if S a = true ∧ S b = false ∧ ds_nd n b then R a b else 0)
      by_cases c : S a = true ∧ S b = false ∧ ds_nd n b
      · rw [if_pos c, if_pos c, ds_pu_3 (fun z => by have := c.2.1; rw [z.2, sy] at this; exact absurd this (by decide)) (fun z => by have := c.2.1; rw [z.2, sx] at this; exact absurd this (by decide))]
      · rw [if_neg c, if_neg c])
    rw [e]
    unfold ds_ch
    rw [sx, sy]
    simp
/-- pushed along the first j edges of the way p (from the sink back to the source) -/
def ds_pp (R : Nat → Nat → Int) (p : Nat → Nat) (d : Int) : Nat → Nat → Nat → Int
  | 0 => R
  | j + 1 => ds_pu (ds_pp R p d j) (p (j + 1)) (p j) d
theorem ds_pp_s (R : Nat → Nat → Int) (p : Nat → Nat) (d : Int) (j : Nat) : ds_pp R p d (j + 1) = ds_pu (ds_pp R p d j) (p (j + 1)) (p j) d := rfl
/-- a way from 10 to 11 with room -/
def ds_wy (n : Nat) (R : Nat → Nat → Int) (L : Nat) (p : Nat → Nat) : Prop :=
  p 0 = 11 ∧ p L = 10 ∧ L ≤ 11 ∧ (∀ j, j ≤ L → p j < 12 ∧ ds_nd n (p j)) ∧ (∀ j, j < L → 0 < R (p (j + 1)) (p j))
def ds_lv (h : Nat → Nat) (L : Nat) (p : Nat → Nat) : Prop := ∀ j, j ≤ L → h (p j) + j = L
theorem ds_lv_inj {h : Nat → Nat} {L : Nat} {p : Nat → Nat} (lv : ds_lv h L p) {i j : Nat} (hi : i ≤ L) (hj : j ≤ L) (e : p i = p j) : i = j := by
  have h1 := lv i hi
  have h2 := lv j hj
  rw [e] at h1
  omega
theorem ds_pp_cv {n L : Nat} {S : Nat → Bool} {R : Nat → Nat → Int} {p : Nat → Nat} {h : Nat → Nat} (d : Int) (wy : ds_wy n R L p) (lv : ds_lv h L p) :
    ∀ j, j ≤ L → ds_cv n S (ds_pp R p d j) = ds_cv n S R - d * (ds_ch S (p j) - ds_ch S (p 0)) := by
  intro j
  induction j with
  | zero =>
    intro _
    rw [Int.sub_self, Int.mul_zero, Int.sub_zero]
    rfl
  | succ j ih =>
    intro hj
    obtain ⟨_, _, _, nod, _⟩ := wy
    rw [ds_pp_s, ds_cv_pu (nod (j + 1) hj).1 (nod j (by omega)).1 (nod (j + 1) hj).2 (nod j (by omega)).2 (fun e => by have := ds_lv_inj lv hj (by omega) e; omega), ih (by omega)]
    simp only [Int.mul_sub]
    omega
theorem ds_pp_sum {L : Nat} {R : Nat → Nat → Int} {p : Nat → Nat} {h : Nat → Nat} (d : Int) (lv : ds_lv h L p) (a b : Nat) :
    ∀ j, j ≤ L → ds_pp R p d j a b + ds_pp R p d j b a = R a b + R b a := by
  intro j
  induction j with
  | zero => intro _; rfl
  | succ j ih =>
    intro hj
    rw [ds_pp_s, ds_pu_sum (fun e => by have := ds_lv_inj lv hj (by omega) e; omega), ih (by omega)]
theorem ds_pp_tri {L : Nat} {R : Nat → Nat → Int} {p : Nat → Nat} {h : Nat → Nat} (d : Int) (lv : ds_lv h L p) (a b : Nat) :
    ∀ j, j ≤ L → (∃ i, i < j ∧ a = p (i + 1) ∧ b = p i ∧ ds_pp R p d j a b = R a b - d) ∨ (∃ i, i < j ∧ a = p i ∧ b = p (i + 1) ∧ ds_pp R p d j a b = R a b + d) ∨ ((∀ i, i < j → ¬ (a = p (i + 1) ∧ b = p i)) ∧ ds_pp R p d j a b = R a b) := by
  intro j
  induction j with
  | zero => intro _; exact Or.inr (Or.inr ⟨fun i hi => absurd hi (by omega), rfl⟩)
  | succ j ih =>
    intro hj
    have tri := ih (by omega)
    have ne : p (j + 1) ≠ p j := fun e => by have := ds_lv_inj lv hj (by omega) e; omega
    by_cases h1 : a = p (j + 1) ∧ b = p j
    · refine Or.inl ⟨j, by omega, h1.1, h1.2, ?_⟩
      have e : ds_pp R p d j a b = R a b := by
        rcases tri with ⟨i, hi, ea, eb, _⟩ | ⟨i, hi, ea, eb, _⟩ | ⟨_, e⟩
        · have := ds_lv_inj lv (by omega) (by omega) (ea.symm.trans h1.1); omega
        · have := ds_lv_inj lv (by omega) (by omega) (ea.symm.trans h1.1); omega
        · exact e
      rw [ds_pp_s, h1.1, h1.2, ds_pu_1, ← h1.1, ← h1.2, e]
    · by_cases h2 : a = p j ∧ b = p (j + 1)
      · refine Or.inr (Or.inl ⟨j, by omega, h2.1, h2.2, ?_⟩)
        have e : ds_pp R p d j a b = R a b := by
          rcases tri with ⟨i, hi, ea, eb, _⟩ | ⟨i, hi, ea, eb, _⟩ | ⟨_, e⟩
          · have := ds_lv_inj lv (by omega) (by omega) (eb.symm.trans h2.2); omega
          · have := ds_lv_inj lv (by omega) (by omega) (ea.symm.trans h2.1); omega
          · exact e
        rw [ds_pp_s, h2.1, h2.2, ds_pu_2 ne, ← h2.1, ← h2.2, e]
      · have v : ds_pp R p d (j + 1) a b = ds_pp R p d j a b := by rw [ds_pp_s, ds_pu_3 h1 h2]
        rw [v]
        rcases tri with ⟨i, hi, ea, eb, e⟩ | ⟨i, hi, ea, eb, e⟩ | ⟨q, e⟩
        · exact Or.inl ⟨i, by omega, ea, eb, e⟩
        · exact Or.inr (Or.inl ⟨i, by omega, ea, eb, e⟩)
        · refine Or.inr (Or.inr ⟨fun i hi => ?_, e⟩)
          by_cases c : i = j
          · rw [c]; exact h1
          · exact q i (by omega)
/-- bounds of the residual capacities -/
def ds_bd (R : Nat → Nat → Int) : Prop := ∀ x y, x < 12 → y < 12 → 0 ≤ R x y ∧ R x y + R y x ≤ 1500000
theorem ds_bd_1 {R : Nat → Nat → Int} (b : ds_bd R) {x y : Nat} (hx : x < 12) (hy : y < 12) : 0 ≤ R x y ∧ R x y ≤ 1500000 := by
  have h1 := b x y hx hy
  have h2 := b y x hy hx
  omega
/-- each residual edge goes up by one level at most -/
def ds_va (n : Nat) (h : Nat → Nat) (R : Nat → Nat → Int) : Prop := ∀ x y, x < 12 → y < 12 → ds_nd n y → 0 < R x y → h y ≤ h x + 1
def ds_ti (h : Nat → Nat) (R : Nat → Nat → Int) : Int := ds_s2 (fun x y => if h y = h x + 1 ∧ 0 < R x y then 1 else 0)
theorem ds_ti_nn (h : Nat → Nat) (R : Nat → Nat → Int) : 0 ≤ ds_ti h R := ds_s2_nn (fun x y _ _ => by
  show 0 ≤ (if h y = h x + 1 ∧ 0 < R x y then (1 : Int) else 0)
  split <;> omega)
theorem ds_ti_b (h : Nat → Nat) (R : Nat → Nat → Int) : ds_ti h R ≤ 144 := ds_s2_b (fun x y _ _ => by
  show (if h y = h x + 1 ∧ 0 < R x y then (1 : Int) else 0) ≤ 1
  split <;> omega)
/-- R' is R with d pushed along a way of the levels h -/
def ds_au (n : Nat) (h : Nat → Nat) (R R' : Nat → Nat → Int) : Prop :=
  ds_bd R' ∧ (∀ a b, a < 12 → b < 12 → 0 < R' a b → 0 < R a b ∨ h a = h b + 1) ∧ (∃ a b, a < 12 ∧ b < 12 ∧ h b = h a + 1 ∧ 0 < R a b ∧ R' a b = 0) ∧
  ∃ d : Int, ∀ S : Nat → Bool, S 10 = true → S 11 = false → ds_cv n S R' = ds_cv n S R - d
theorem ds_aug {n L : Nat} {R : Nat → Nat → Int} {p : Nat → Nat} {h : Nat → Nat} {d : Int} (wy : ds_wy n R L p) (lv : ds_lv h L p) (b : ds_bd R) (hd : 0 < d)
    (hm : ∀ j, j < L → d ≤ R (p (j + 1)) (p j)) (hk : ∃ k, k < L ∧ d = R (p (k + 1)) (p k)) : ds_au n h R (ds_pp R p d L) := by
  have wy' := wy
  obtain ⟨p0, pL, hL, nod, pos⟩ := wy'
  refine ⟨?_, ?_, ?_, d, ?_⟩
  · intro x y hx hy
    have hb := b x y hx hy
    refine ⟨?_, by rw [ds_pp_sum d lv x y L (Nat.le_refl L)]; exact hb.2⟩
    rcases ds_pp_tri (R := R) d lv x y L (Nat.le_refl L) with ⟨i, hi, ea, eb, e⟩ | ⟨i, hi, ea, eb, e⟩ | ⟨_, e⟩
    · have := hm i hi
      rw [← ea, ← eb] at this
      omega
    · omega
    · omega
  · intro x y hx hy hp
    have hb := b x y hx hy
    rcases ds_pp_tri (R := R) d lv x y L (Nat.le_refl L) with ⟨i, hi, ea, eb, e⟩ | ⟨i, hi, ea, eb, e⟩ | ⟨_, e⟩
    · exact Or.inl (by omega)
    · refine Or.inr ?_
      have h1 := lv i (by omega)
      have h2 := lv (i + 1) (by omega)
      rw [← ea] at h1
      rw [← eb] at h2
      omega
    · exact Or.inl (by omega)
  · obtain ⟨k, hk, ek⟩ := hk
    refine ⟨p (k + 1), p k, (nod (k + 1) (by omega)).1, (nod k (by omega)).1, ?_, pos k hk, ?_⟩
    · have h1 := lv k (by omega)
      have h2 := lv (k + 1) (by omega)
      omega
    · rcases ds_pp_tri (R := R) d lv (p (k + 1)) (p k) L (Nat.le_refl L) with ⟨i, hi, ea, eb, e⟩ | ⟨i, hi, ea, eb, e⟩ | ⟨q, e⟩
      · omega
      · have h1 := ds_lv_inj lv (by omega) (by omega) ea
        have h2 := ds_lv_inj lv (by omega) (by omega) eb
        omega
      · exact absurd ⟨rfl, rfl⟩ (q k hk)
  · intro S s10 s11
    rw [ds_pp_cv d wy lv L (Nat.le_refl L), p0, pL]
    unfold ds_ch
    rw [if_pos s10, s11]
    simp
theorem ds_va_au {n : Nat} {h : Nat → Nat} {R R' : Nat → Nat → Int} (va : ds_va n h R) (au : ds_au n h R R') : ds_va n h R' := by
  intro x y hx hy ny hp
  rcases au.2.1 x y hx hy hp with g | g
  · exact va x y hx hy ny g
  · omega
theorem ds_ti_dec {n : Nat} {h : Nat → Nat} {R R' : Nat → Nat → Int} (au : ds_au n h R R') : ds_ti h R' + 1 ≤ ds_ti h R := by
  obtain ⟨_, h3, ⟨a, b, ha, hb, hab, hp, hz⟩, _⟩ := au
  refine ds_s2_lt1 ha hb (fun x y hx hy => ?_) ?_
  · show (if h y = h x + 1 ∧ 0 < R' x y then (1 : Int) else 0) ≤ (if h y = h x + 1 ∧ 0 < R x y then (1 : Int) else 0)
    by_cases c : h y = h x + 1 ∧ 0 < R' x y
    · have g : 0 < R x y := by
        rcases h3 x y hx hy c.2 with g | g
        · exact g
        · omega
      rw [if_pos c, if_pos ⟨c.1, g⟩]
      omega
    · rw [if_neg c]
      split <;> omega
  · show (if h b = h a + 1 ∧ 0 < R' a b then (1 : Int) else 0) + 1 ≤ (if h b = h a + 1 ∧ 0 < R a b then (1 : Int) else 0)
    rw [if_neg (by omega), if_pos ⟨hab, hp⟩]
    omega
theorem ds_wy_le {n L : Nat} {R : Nat → Nat → Int} {p : Nat → Nat} {h : Nat → Nat} (va : ds_va n h R) (h10 : h 10 = 0) (wy : ds_wy n R L p) : h 11 ≤ L ∧ (h 11 = L → ds_lv h L p) := by
  obtain ⟨p0, pL, hL, nod, pos⟩ := wy
  have st : ∀ j, j < L → h (p j) ≤ h (p (j + 1)) + 1 := fun j hj => va _ _ (nod (j + 1) (by omega)).1 (nod j (by omega)).1 (nod j (by omega)).2 (pos j hj)
  have up : ∀ m, m ≤ L → h (p (L - m)) ≤ m := by
    intro m
    induction m with
    | zero => intro _; rw [Nat.sub_zero, pL, h10]; omega
    | succ m ih =>
      intro hm
      have h1 := st (L - (m + 1)) (by omega)
      rw [show L - (m + 1) + 1 = L - m by omega] at h1
      have h2 := ih (by omega)
      omega
  refine ⟨?_, fun e => ?_⟩
  · have := up L (Nat.le_refl L)
    rw [Nat.sub_self, p0] at this
    exact this
  · have lo : ∀ j, j ≤ L → L ≤ h (p j) + j := by
      intro j
      induction j with
      | zero => intro _; rw [p0]; omega
      | succ j ih =>
        intro hj
        have h1 := ih (by omega)
        have h2 := st j (by omega)
        omega
    intro j hj
    have h1 := lo j hj
    have h2 := up (L - j) (by omega)
    rw [show L - (L - j) = j by omega] at h2
    omega
/-- the way at hand goes by the levels h, and there are fewer than B ways to come -/
def ds_go (n : Nat) (R : Nat → Nat → Int) (L : Nat) (p h : Nat → Nat) (B : Int) : Prop :=
  ds_va n h R ∧ h 10 = 0 ∧ ds_wy n R L p ∧ ds_lv h L p ∧ (12 - (h 11 : Int)) * 144 + ds_ti h R ≤ B
theorem ds_go_11 {n L : Nat} {R : Nat → Nat → Int} {p h : Nat → Nat} (wy : ds_wy n R L p) (lv : ds_lv h L p) : h 11 = L := by
  have := lv 0 (by omega)
  rw [wy.1] at this
  omega
theorem ds_go_0 {n L : Nat} {R : Nat → Nat → Int} {p h : Nat → Nat} {B : Int} (va : ds_va n h R) (h10 : h 10 = 0) (wy : ds_wy n R L p) (lv : ds_lv h L p) (hB : 1872 ≤ B) : ds_go n R L p h B := by
  refine ⟨va, h10, wy, lv, ?_⟩
  have h1 := ds_ti_b h R
  omega
theorem ds_go_B {n L : Nat} {R : Nat → Nat → Int} {p h : Nat → Nat} {B : Int} (g : ds_go n R L p h B) : 0 < B := by
  obtain ⟨va, h10, wy, lv, hB⟩ := g
  have h1 := ds_ti_nn h R
  have h2 := ds_go_11 wy lv
  have h3 := wy.2.2.1
  omega
theorem ds_go_s {n L L' : Nat} {R R' : Nat → Nat → Int} {p h p' h' : Nat → Nat} {B : Int} (g : ds_go n R L p h B) (au : ds_au n h R R') (va' : ds_va n h' R') (h10' : h' 10 = 0) (wy' : ds_wy n R' L' p') (lv' : ds_lv h' L' p') :
    ∃ h'', ds_go n R' L' p' h'' (B - 1) := by
  obtain ⟨va, h10, wy, lv, hB⟩ := g
  have va1 := ds_va_au va au
  have td := ds_ti_dec au
  have t0 := ds_ti_nn h R'
  have t1 := ds_ti_b h' R'
  obtain ⟨l1, l2⟩ := ds_wy_le va1 h10 wy'
  by_cases e : h 11 = L'
  · refine ⟨h, va1, h10, wy', l2 e, ?_⟩
    omega
  · refine ⟨h', va', h10', wy', lv', ?_⟩
    have e2 := ds_go_11 wy' lv'
    rw [e2]
    omega
/-- the set behind the last search is the largest cheapest cut -/
theorem ds_minc {n : Nat} {R C : Nat → Nat → Int} {D : Int} {T V : Nat → Bool} (b : ds_bd R) (hD : ∀ S : Nat → Bool, S 10 = true → S 11 = false → ds_cv n S R = ds_cv n S C - D)
    (t11 : T 11 = true) (tc : ∀ x y, x < 12 → y < 12 → T y = true → ds_nd n x → 0 < R x y → T x = true)
    (tm : ∀ U : Nat → Bool, U 11 = true → (∀ x y, x < 12 → y < 12 → ds_nd n y → U y = true → ds_nd n x → 0 < R x y → U x = true) → ∀ x, x < 12 → T x = true → U x = true)
    (v10 : V 10 = true) (v11 : V 11 = false) (vc : ∀ x y, x < 12 → y < 12 → V x = true → ds_nd n y → 0 < R x y → V y = true)
    (Z : Nat → Bool) (hZ : ∀ x, x < 12 → (Z x = true ↔ (ds_nd n x ∧ T x = false))) :
    Z 10 = true ∧ Z 11 = false ∧ ∀ S : Nat → Bool, S 10 = true → S 11 = false → ds_cv n Z C ≤ ds_cv n S C ∧ (ds_cv n S C = ds_cv n Z C → ∀ x, x < 12 → ds_nd n x → S x = true → Z x = true) := by
  have t10 : T 10 = false := by
    cases e : T 10
    · rfl
    · have := tm (fun y => !V y) (by show (!V 11) = true; rw [v11]; rfl) (fun x y hx hy ny uy nx hp => by
        show (!V x) = true
        cases ex : V x
        · rfl
        · have h1 := vc x y hx hy ex ny hp
          have h2 : (!V y) = true := uy
          rw [h1] at h2
          exact absurd h2 (by decide)) 10 (by omega) e
      have h2 : (!V 10) = true := this
      rw [v10] at h2
      exact absurd h2 (by decide)
  have z10 : Z 10 = true := (hZ 10 (by omega)).mpr ⟨Or.inr (by omega), t10⟩
  have z11 : Z 11 = false := by
    cases e : Z 11
    · rfl
    · have := ((hZ 11 (by omega)).mp e).2
      rw [t11] at this
      exact absurd this (by decide)
  have cz : ds_cv n Z R = 0 := ds_s2_0 (fun x y hx hy => by
    show (if Z x = true ∧ Z y = false ∧ ds_nd n y then R x y else 0) = 0
    by_cases c : Z x = true ∧ Z y = false ∧ ds_nd n y
    · rw [if_pos c]
      have ty : T y = true := by
        cases e : T y
        · have := (hZ y hy).mpr ⟨c.2.2, e⟩
          rw [c.2.1] at this
          exact absurd this (by decide)
        · rfl
      have hx2 := (hZ x hx).mp c.1
      have hb := (b x y hx hy).1
      by_cases hp : 0 < R x y
      · have := tc x y hx hy ty hx2.1 hp
        rw [hx2.2] at this
        exact absurd this (by decide)
      · omega
    · rw [if_neg c])
  have eZ := hD Z z10 z11
  refine ⟨z10, z11, fun S s10 s11 => ?_⟩
  have nn : ∀ x y, x < 12 → y < 12 → 0 ≤ (if S x = true ∧ S y = false ∧ ds_nd n y then R x y else 0) := fun x y hx hy => by
    split
    · exact (b x y hx hy).1
    · exact Int.le_refl 0
  have hS : 0 ≤ ds_cv n S R := ds_s2_nn nn
  have eS := hD S s10 s11
  refine ⟨by omega, fun e x hx nx sx => ?_⟩
  have s0 : ds_cv n S R = 0 := by omega
  have zz := ds_s2_z nn s0
  refine (hZ x hx).mpr ⟨nx, ?_⟩
  cases tx : T x
  · rfl
  · have := tm (fun y => !S y) (by show (!S 11) = true; rw [s11]; rfl) (fun a c ha hc nc uc na hp => by
      show (!S a) = true
      cases ea : S a
      · rfl
      · have h2 : (!S c) = true := uc
        have h3 : S c = false := by
          cases ec : S c
          · rfl
          · rw [ec] at h2; exact absurd h2 (by decide)
        have h4 := zz a c ha hc
        rw [if_pos ⟨ea, h3, nc⟩] at h4
        omega) x hx tx
    have h2 : (!S x) = true := this
    rw [sx] at h2
    exact absurd h2 (by decide)
end
section
/-! the search from the source: its invariant, then the walk of findWay -/
def ds_ar (a4 : Nat → Int32) (R : Nat → Nat → Int) : Prop := ∀ x y, x < 12 → y < 12 → a4 (x * 12 + y) = ds_i (R x y)
def ds_bf (n : Nat) (R : Nat → Nat → Int) (i y e : Nat) (a5 a6 : Nat → Int32) (h q : Nat → Nat) : Prop :=
  (e ≤ 12 ∧ i ≤ e ∧ (e : Int) = ds_sm (fun x => if 0 ≤ a5 x then 1 else 0) 12) ∧
  (∀ j, j < e → q j < 12 ∧ ds_nd n (q j) ∧ 0 ≤ a5 (q j) ∧ a6 j = nI (q j) ∧ h (q j) ≤ j) ∧
  (∀ x, x < 12 → 0 ≤ a5 x → ∃ j, j < e ∧ q j = x) ∧
  (∀ z, z < 12 → 0 ≤ a5 z → z ≠ 10 → ∃ x, x < 12 ∧ a5 z = nI x ∧ 0 ≤ a5 x ∧ ds_nd n x ∧ h z = h x + 1 ∧ 0 < R x z) ∧
  (h 10 = 0 ∧ 0 ≤ a5 10) ∧
  (∀ j k, j ≤ k → k < e → h (q j) ≤ h (q k)) ∧
  (i < e → ∀ j, j < e → h (q j) ≤ h (q i) + 1) ∧
  (∀ j, j < i → ∀ z, z < 12 → ds_nd n z → 0 < R (q j) z → 0 ≤ a5 z ∧ h z ≤ h (q j) + 1) ∧
  (∀ z, z < y → ds_nd n z → 0 < R (q i) z → 0 ≤ a5 z ∧ h z ≤ h (q i) + 1)
theorem ds_bf_skip {n i y e : Nat} {R : Nat → Nat → Int} {a5 a6 : Nat → Int32} {h q : Nat → Nat} (hb : ds_bf n R i y e a5 a6 h q) (hi : i < e) (hy : y < 12) (hs : ds_nd n y → 0 < R (q i) y → 0 ≤ a5 y) :
    ds_bf n R i (y + 1) e a5 a6 h q := by
  obtain ⟨b1, b2, b3, b5, b6, b7, b8, b9, b10⟩ := hb
  refine ⟨b1, b2, b3, b5, b6, b7, b8, b9, fun z hz nz hp => ?_⟩
  by_cases c : z = y
  · subst c
    have hv := hs nz hp
    obtain ⟨j, hj, ej⟩ := b3 z hy hv
    have := b8 hi j hj
    rw [ej] at this
    exact ⟨hv, this⟩
  · exact b10 z (by omega) nz hp
theorem ds_bf_room {n i y e : Nat} {R : Nat → Nat → Int} {a5 a6 : Nat → Int32} {h q : Nat → Nat} (hb : ds_bf n R i y e a5 a6 h q) (hy : y < 12) (hv : ¬ 0 ≤ a5 y) : e < 12 := by
  have h1 := hb.1.2.2
  have h2 : ds_sm (fun x => if 0 ≤ a5 x then (1 : Int) else 0) 12 + 1 ≤ ds_sm (fun _ => 1) 12 := ds_sm_lt1 hy (fun x _ => by
    show (if 0 ≤ a5 x then (1 : Int) else 0) ≤ 1
    split <;> omega) (by
    show (if 0 ≤ a5 y then (1 : Int) else 0) + 1 ≤ 1
    rw [if_neg hv]
    omega)
  rw [ds_sm_c] at h2
  omega
theorem ds_bf_add {n i y e : Nat} {R : Nat → Nat → Int} {a5 a6 : Nat → Int32} {h q : Nat → Nat} (hb : ds_bf n R i y e a5 a6 h q) (hi : i < e) (hy : y < 12) (ny : ds_nd n y) (hv : ¬ 0 ≤ a5 y) (hp : 0 < R (q i) y) :
    ∃ h' q' : Nat → Nat, q' i = q i ∧ ds_bf n R i (y + 1) (e + 1) (upd a5 y (nI (q i))) (upd a6 e (nI y)) h' q' := by
  have he := ds_bf_room hb hy hv
  obtain ⟨b1, b2, b3, b5, b6, b7, b8, b9, b10⟩ := hb
  have qi := b2 i hi
  have hV1 : ∀ z, 0 ≤ a5 z → z ≠ y := fun z hz e => hv (e ▸ hz)
  have hV2 : ∀ z, 0 ≤ a5 z → 0 ≤ upd a5 y (nI (q i)) z := fun z hz => by
    rw [pk_un (hV1 z hz)]
    exact hz
  have hV3 : ∀ z, z ≠ y → 0 ≤ upd a5 y (nI (q i)) z → 0 ≤ a5 z := fun z hz g => by
    rw [pk_un hz] at g
    exact g
  have hVy : 0 ≤ upd a5 y (nI (q i)) y := by
    rw [pk_us]
    exact nI_pos' (by omega)
  have hq : ∀ j, j < e → (if j = e then y else q j) = q j := fun j hj => if_neg (by omega)
  have hqe : (if e = e then y else q e) = y := if_pos rfl
  have hh : ∀ z, 0 ≤ a5 z → (if z = y then h (q i) + 1 else h z) = h z := fun z hz => if_neg (hV1 z hz)
  have hhy : (if y = y then h (q i) + 1 else h y) = h (q i) + 1 := if_pos rfl
  refine ⟨fun z => if z = y then h (q i) + 1 else h z, fun j => if j = e then y else q j, hq i hi, ?_⟩
  refine ⟨⟨by omega, by omega, ?_⟩, ?_, ?_, ?_, ?_, ?_, ?_, ?_, ?_⟩
  · rw [ds_sm_upd (f := fun x => if 0 ≤ a5 x then (1 : Int) else 0) (g := fun x => if 0 ≤ upd a5 y (nI (q i)) x then (1 : Int) else 0) (d := 1) hy (fun z _ hz => by
      show (if 0 ≤ upd a5 y (nI (q i)) z then (1 : Int) else 0) = (if 0 ≤ a5 z then (1 : Int) else 0)
      rw [pk_un hz]) (by
      show (if 0 ≤ upd a5 y (nI (q i)) y then (1 : Int) else 0) = (if 0 ≤ a5 y then (1 : Int) else 0) + 1
      rw [if_pos hVy, if_neg hv]
      omega), ← b1.2.2]
    omega
  · intro j hj
    by_cases c : j = e
    · subst c
      dsimp only
      rw [hqe, hhy]
      exact ⟨hy, ny, hVy, pk_us, by omega⟩
    · have hje : j < e := by omega
      have g := b2 j hje
      dsimp only
      rw [hq j hje, hh _ g.2.2.1, pk_un c]
      exact ⟨g.1, g.2.1, hV2 _ g.2.2.1, g.2.2.2.1, g.2.2.2.2⟩
  · intro x hx gx
    by_cases c : x = y
    · exact ⟨e, by omega, by dsimp only; rw [hqe, c]⟩
    · obtain ⟨j, hj, ej⟩ := b3 x hx (hV3 x c gx)
      exact ⟨j, by omega, by dsimp only; rw [hq j hj, ej]⟩
  · intro z hz gz z10
    by_cases c : z = y
    · subst c
      refine ⟨q i, qi.1, pk_us, hV2 _ qi.2.2.1, qi.2.1, ?_, hp⟩
      dsimp only
      rw [hhy, hh _ qi.2.2.1]
    · obtain ⟨x, x1, x2, x3, x4, x5, x6⟩ := b5 z hz (hV3 z c gz) z10
      refine ⟨x, x1, by rw [pk_un c]; exact x2, hV2 _ x3, x4, ?_, x6⟩
      dsimp only
      rw [hh z (hV3 z c gz), hh x x3]
      exact x5
  · refine ⟨?_, hV2 _ b6.2⟩
    dsimp only
    rw [hh 10 b6.2]
    exact b6.1
  · intro j k hjk hk
    dsimp only
    by_cases c : k = e
    · by_cases c2 : j = e
      · rw [c, c2]
        exact Nat.le_refl _
      · have g := b2 j (by omega)
        rw [c, hqe, hhy, hq j (by omega), hh _ g.2.2.1]
        exact b8 hi j (by omega)
    · rw [hq j (by omega), hq k (by omega), hh _ (b2 j (by omega)).2.2.1, hh _ (b2 k (by omega)).2.2.1]
      exact b7 j k hjk (by omega)
  · intro _ j hj
    dsimp only
    rw [hq i hi, hh _ qi.2.2.1]
    by_cases c : j = e
    · rw [c, hqe, hhy]
      exact Nat.le_refl _
    · rw [hq j (by omega), hh _ (b2 j (by omega)).2.2.1]
      exact b8 hi j (by omega)
  · intro j hj z hz nz
    dsimp only
    rw [hq j (by omega), hh _ (b2 j (by omega)).2.2.1]
    intro g
    have r := b9 j hj z hz nz g
    rw [hh z r.1]
    exact ⟨hV2 _ r.1, r.2⟩
  · intro z hz nz
    dsimp only
    rw [hq i hi, hh _ qi.2.2.1]
    intro g
    by_cases c : z = y
    · rw [c, hhy]
      exact ⟨hVy, Nat.le_refl _⟩
    · have r := b10 z (by omega) nz g
      rw [hh z r.1]
      exact ⟨hV2 _ r.1, r.2⟩
theorem ds_bf_next {n i e : Nat} {R : Nat → Nat → Int} {a5 a6 : Nat → Int32} {h q : Nat → Nat} (hb : ds_bf n R i 12 e a5 a6 h q) (hi : i < e) : ds_bf n R (i + 1) 0 e a5 a6 h q := by
  obtain ⟨b1, b2, b3, b5, b6, b7, b8, b9, b10⟩ := hb
  refine ⟨⟨b1.1, by omega, b1.2.2⟩, b2, b3, b5, b6, b7, fun h1 j hj => ?_, fun j hj z hz nz hp => ?_, fun z hz => absurd hz (by omega)⟩
  · have g1 := b8 hi j hj
    have g2 := b7 i (i + 1) (by omega) h1
    omega
  · by_cases c : j = i
    · subst c
      exact b10 z hz nz hp
    · exact b9 j (by omega) z hz nz hp
theorem ds_bf_init (n : Nat) (R : Nat → Nat → Int) {a5 a6 : Nat → Int32} (h10 : a5 10 = 10) (hm : ∀ x, x < 12 → x ≠ 10 → a5 x = -1) (h6 : a6 0 = 10) : ds_bf n R 0 0 1 a5 a6 (fun _ => 0) (fun _ => 10) := by
  have v10 : 0 ≤ a5 10 := by rw [h10]; decide
  have vo : ∀ x, x < 12 → 0 ≤ a5 x → x = 10 := fun x hx g => by
    by_cases c : x = 10
    · exact c
    · rw [hm x hx c] at g
      exact absurd g (by decide)
  refine ⟨⟨by omega, by omega, ?_⟩, ?_, ?_, ?_, ⟨rfl, v10⟩, ?_, ?_, ?_, ?_⟩
  · rw [ds_sm_congr (g := fun x => if x = 10 then (1 : Int) else 0) (fun x hx => by
      show (if 0 ≤ a5 x then (1 : Int) else 0) = (if x = 10 then (1 : Int) else 0)
      by_cases c : x = 10
      · rw [if_pos c, c, if_pos v10]
      · rw [if_neg c, if_neg (fun g => c (vo x hx g))])]
    rfl
  · intro j hj
    have : j = 0 := by omega
    subst this
    exact ⟨by show 10 < 12; omega, Or.inr (by show 10 ≤ 10; omega), v10, h6, Nat.le_refl 0⟩
  · intro x hx g
    exact ⟨0, by omega, (vo x hx g).symm⟩
  · intro z hz g hne
    exact absurd (vo z hz g) hne
  · intro j k _ _
    exact Nat.le_refl _
  · intro _ j _
    exact Nat.le_succ _
  · intro j hj
    exact absurd hj (by omega)
  · intro z hz
    exact absurd hz (by omega)
theorem ds_bf_cl {n y e : Nat} {R : Nat → Nat → Int} {a5 a6 : Nat → Int32} {h q : Nat → Nat} (hb : ds_bf n R e y e a5 a6 h q) : ∀ x z, x < 12 → z < 12 → 0 ≤ a5 x → ds_nd n z → 0 < R x z → 0 ≤ a5 z ∧ h z ≤ h x + 1 := by
  obtain ⟨b1, b2, b3, b5, b6, b7, b8, b9, b10⟩ := hb
  intro x z hx hz vx nz hp
  obtain ⟨j, hj, ej⟩ := b3 x hx vx
  subst ej
  exact b9 j hj z hz nz hp
def ds_it (a5 : Nat → Int32) : Nat → Nat
  | 0 => 11
  | j + 1 => (a5 (ds_it a5 j)).toNatClampNeg
theorem ds_bf_way {n y e : Nat} {R : Nat → Nat → Int} {a5 a6 : Nat → Int32} {h q : Nat → Nat} (hb : ds_bf n R e y e a5 a6 h q) (v11 : 0 ≤ a5 11) :
    ∃ (h' : Nat → Nat) (L : Nat) (p : Nat → Nat), ds_va n h' R ∧ h' 10 = 0 ∧ ds_wy n R L p ∧ ds_lv h' L p ∧ ∀ j, j < L → a5 (p j) = nI (p (j + 1)) := by
  have cl := ds_bf_cl hb
  obtain ⟨b1, b2, b3, b5, b6, b7, b8, b9, b10⟩ := hb
  have hle : ∀ x, x < 12 → 0 ≤ a5 x → h x ≤ 11 := fun x hx g => by
    obtain ⟨j, hj, ej⟩ := b3 x hx g
    have := (b2 j hj).2.2.2.2
    rw [ej] at this
    omega
  have nod : ∀ x, x < 12 → 0 ≤ a5 x → ds_nd n x := fun x hx g => by
    obtain ⟨j, hj, ej⟩ := b3 x hx g
    have := (b2 j hj).2.1
    rw [ej] at this
    exact this
  have hh : ∀ x, 0 ≤ a5 x → (if 0 ≤ a5 x then h x else 12) = h x := fun x g => if_pos g
  have key : ∀ j, j ≤ h 11 → ds_it a5 j < 12 ∧ 0 ≤ a5 (ds_it a5 j) ∧ h (ds_it a5 j) + j = h 11 := by
    intro j
    induction j with
    | zero => intro _; exact ⟨by show 11 < 12; omega, v11, rfl⟩
    | succ j ih =>
      intro hj
      obtain ⟨k1, k2, k3⟩ := ih (by omega)
      have ne : ds_it a5 j ≠ 10 := fun e10 => by
        rw [e10, b6.1] at k3
        omega
      obtain ⟨x, x1, x2, x3, x4, x5, x6⟩ := b5 _ k1 k2 ne
      have ex : ds_it a5 (j + 1) = x := by
        show (a5 (ds_it a5 j)).toNatClampNeg = x
        rw [x2, nI_clamp (by omega)]
      rw [ex]
      exact ⟨x1, x3, by omega⟩
  have step : ∀ j, j < h 11 → a5 (ds_it a5 j) = nI (ds_it a5 (j + 1)) ∧ 0 < R (ds_it a5 (j + 1)) (ds_it a5 j) := by
    intro j hj
    obtain ⟨k1, k2, k3⟩ := key j (by omega)
    have ne : ds_it a5 j ≠ 10 := fun e10 => by
      rw [e10, b6.1] at k3
      omega
    obtain ⟨x, x1, x2, x3, x4, x5, x6⟩ := b5 _ k1 k2 ne
    have ex : ds_it a5 (j + 1) = x := by
      show (a5 (ds_it a5 j)).toNatClampNeg = x
      rw [x2, nI_clamp (by omega)]
    rw [ex]
    exact ⟨x2, x6⟩
  have last : ds_it a5 (h 11) = 10 := by
    obtain ⟨k1, k2, k3⟩ := key (h 11) (Nat.le_refl _)
    by_cases c : ds_it a5 (h 11) = 10
    · exact c
    · obtain ⟨x, x1, x2, x3, x4, x5, x6⟩ := b5 _ k1 k2 c
      omega
  refine ⟨fun x => if 0 ≤ a5 x then h x else 12, h 11, ds_it a5, ?_, ?_, ⟨rfl, last, hle 11 (by omega) v11, fun j hj => ⟨(key j hj).1, nod _ (key j hj).1 (key j hj).2.1⟩, fun j hj => (step j hj).2⟩, ?_, fun j hj => (step j hj).1⟩
  · intro x z hx hz nz hp
    dsimp only
    by_cases c : 0 ≤ a5 x
    · have g := cl x z hx hz c nz hp
      rw [if_pos c, if_pos g.1]
      exact g.2
    · rw [if_neg c]
      by_cases c2 : 0 ≤ a5 z
      · rw [if_pos c2]
        have := hle z hz c2
        omega
      · rw [if_neg c2]
        omega
  · dsimp only
    rw [hh 10 b6.2]
    exact b6.1
  · intro j hj
    dsimp only
    rw [hh _ (key j hj).2.1]
    exact (key j hj).2.2
/-! the walk -/
theorem ds_ix12 (x y : Nat) : nI x * 12 + nI y = nI (x * 12 + y) := ds_ix x y 12 (by omega)
theorem ds_cl12 (x y : Nat) (hx : x < 12) (hy : y < 12) : (nI x * 12 + nI y).toNatClampNeg = x * 12 + y := by
  rw [ds_ix12, nI_clamp (by omega)]
theorem ds_in12 (x y : Nat) (hx : x < 12) (hy : y < 12) : vp_in (nI x * 12 + nI y) 144 := pk_in (x * 12 + y) 144 (by omega) (ds_ix12 x y)
theorem ds_bd_r {R : Nat → Nat → Int} (bd : ds_bd R) {x y : Nat} (hx : x < 12) (hy : y < 12) : ds_rg (R x y) := by
  have := ds_bd_1 bd hx hy
  exact ⟨by omega, by omega⟩
theorem ds_rg0 : ds_rg 0 := ⟨by omega, by omega⟩
theorem ds_node1 {post : Int32 → Prop} {n y : Nat} {c t b s : Int32} {a1 a2 a3 a4 a5 a6 a7 : Nat → Int32} (hn : n ≤ 10) (hy : y < 12) (ny : ds_nd n y) (H : post 1) : wpX_isNode post (nI n, c, t, b, s, a1, a2, a3, a4, a5, a6, a7) (nI y) :=
  pk_lt y n (fun _ => H) (fun z => pk_lt y 10 (fun z2 => absurd ny (by omega)) (fun _ => H))
theorem ds_node0 {post : Int32 → Prop} {n y : Nat} {c t b s : Int32} {a1 a2 a3 a4 a5 a6 a7 : Nat → Int32} (hn : n ≤ 10) (hy : y < 12) (ny : ¬ ds_nd n y) (H : post 0) : wpX_isNode post (nI n, c, t, b, s, a1, a2, a3, a4, a5, a6, a7) (nI y) :=
  pk_lt y n (fun z => absurd (Or.inl z) ny) (fun z => pk_lt y 10 (fun _ => H) (fun z2 => absurd (Or.inr z2) ny))
theorem ds_fw63 {post : Int32 → St2 → Prop} {J : Int32 → Int32 → (Nat → Int32) → (Nat → Int32) → (Nat → Int32) → (Nat → Int32) → (Nat → Int32) → (Nat → Int32) → (Nat → Int32) → Prop}
    {n i x e : Nat} {c t b s : Int32} {a1 a2 a3 a4 a5 a6 a7 : Nat → Int32} {R : Nat → Nat → Int} {h q : Nat → Nat} (hn : n ≤ 10) (ar : ds_ar a4 R) (bd : ds_bd R)
    (hb : ds_bf n R i 0 e a5 a6 h q) (hi : i < e) (hx : q i = x)
    (H : ∀ e' a5' a6' h' q', ds_bf n R i 12 e' a5' a6' h' q' → i < e' → J (nI e') (nI (i + 1)) a1 a2 a3 a4 a5' a6' a7) :
    ∃ fu, wX_findWay_63 post J (nI i) (nI x) (nI n) c t b s fu (nI e) 0 a1 a2 a3 a4 a5 a6 a7 := by
  have hx12 : x < 12 := by rw [← hx]; exact (hb.2.1 i hi).1
  refine pk_loop (σ := Nat × (Nat → Int32) × (Nat → Int32)) (fun m y s' => wX_findWay_63 post J (nI i) (nI x) (nI n) c t b s m (nI s'.1) (nI y) a1 a2 a3 a4 s'.2.1 s'.2.2 a7)
    (fun y s' => i < s'.1 ∧ ∃ h q : Nat → Nat, q i = x ∧ ds_bf n R i y s'.1 s'.2.1 s'.2.2 h q) 12 0 (e, a5, a6) (by omega) ⟨hi, h, q, hx, hb⟩ ?_ ?_
  · intro m s' hI
    obtain ⟨hi', h', q', _, hb'⟩ := hI
    exact pk_le 12 12 (fun _ => nm_r (nI_1 i) (H _ _ _ _ _ hb' hi')) (fun z => absurd z (by omega))
  · intro m y s' hy hI hw
    obtain ⟨e', a5', a6'⟩ := s'
    obtain ⟨hi', h', q', hx', hb'⟩ := hI
    have hi2 : i < e' := hi'
    have hb2 : ds_bf n R i y e' a5' a6' h' q' := hb'
    have skip : (ds_nd n y → 0 < R x y → 0 ≤ a5' y) → wX_findWay_63 post J (nI i) (nI x) (nI n) c t b s m (nI e') (nI (y + 1)) a1 a2 a3 a4 a5' a6' a7 :=
      fun g => hw (e', a5', a6') ⟨hi2, h', q', hx', ds_bf_skip hb2 hi2 hy (by rw [hx']; exact g)⟩
    refine pk_le 12 y (fun z => absurd z (by omega)) (fun _ => ?_)
    by_cases ny : ds_nd n y
    rotate_left
    · exact ds_node0 hn hy ny (br_t rfl (nm_r (nI_1 y) (skip (fun nd => absurd nd ny))))
    refine ds_node1 hn hy ny (br_f (by decide) ?_)
    refine ⟨pk_in y 12 hy, ?_⟩
    rw [nI_clamp (show y < 2 ^ 31 by omega), ds_cl12 x y hx12 hy]
    refine br_c (fun g => nm_r (nI_1 y) (skip (fun _ _ => g))) (fun g => ⟨ds_in12 x y hx12 hy, ?_⟩)
    refine ds_ble (R x y) 0 (ar x y hx12 hy) ds_i0 (ds_bd_r bd hx12 hy) ds_rg0 (fun z => nm_r (nI_1 y) (skip (fun _ hp => absurd hp (by omega)))) (fun z => ?_)
    have he := ds_bf_room hb2 hy g
    refine ⟨pk_in y 12 hy, nm_e ⟨pk_in e' 12 he, nm_r (by rw [nI_clamp (show e' < 2 ^ 31 by omega)]) (nm_r (nI_1 e') (nm_r (nI_1 y) ?_))⟩⟩
    obtain ⟨h2, q2, hq2, hb3⟩ := ds_bf_add hb2 hi2 hy ny g (by rw [hx']; exact z)
    rw [hx'] at hb3
    exact hw (e' + 1, upd a5' y (nI x), upd a6' e' (nI y)) ⟨by show i < e' + 1; omega, h2, q2, by rw [hq2, hx'], hb3⟩
theorem ds_findWay {post : Int32 → St2 → Prop} {n : Nat} {c t b s : Int32} {a1 a2 a3 a4 a5 a6 a7 : Nat → Int32} {R : Nat → Nat → Int} (hn : n ≤ 10) (ar : ds_ar a4 R) (bd : ds_bd R)
    (H0 : ∀ a5' a6', (∃ V : Nat → Bool, V 10 = true ∧ V 11 = false ∧ ∀ x y, x < 12 → y < 12 → V x = true → ds_nd n y → 0 < R x y → V y = true) → post 0 (nI n, c, t, b, s, a1, a2, a3, a4, a5', a6', a7))
    (H1 : ∀ a5' a6', (∃ (h : Nat → Nat) (L : Nat) (p : Nat → Nat), ds_va n h R ∧ h 10 = 0 ∧ ds_wy n R L p ∧ ds_lv h L p ∧ ∀ j, j < L → a5' (p j) = nI (p (j + 1))) → post 1 (nI n, c, t, b, s, a1, a2, a3, a4, a5', a6', a7)) :
    wpX_findWay post (nI n, c, t, b, s, a1, a2, a3, a4, a5, a6, a7) := by
  have ex : ∀ e a5' a6' h q, ds_bf n R e 0 e a5' a6' h q → wX_findWay_135 post (nI n) c t b s a1 a2 a3 a4 a5' a6' a7 := by
    intro e a5' a6' h q hb
    refine br_c (fun g => H0 _ _ ⟨fun x => decide (0 ≤ a5' x), decide_eq_true hb.2.2.2.2.1.2, decide_eq_false (Int32.not_le.mpr g), fun x y hx hy vx ny hp => ?_⟩) (fun g => H1 _ _ (ds_bf_way hb (Int32.not_lt.mp g)))
    exact decide_eq_true (ds_bf_cl hb x y hx hy (of_decide_eq_true vx) ny hp).1
  have lo : ∀ a5' a6' h q, ds_bf n R 0 0 1 a5' a6' h q → ∃ fu, wX_findWay_42 post (nI n) c t b s fu 1 0 a1 a2 a3 a4 a5' a6' a7 := by
    intro a5' a6' h q hb
    refine loop_m (σ := Nat × Nat × (Nat → Int32) × (Nat → Int32)) (fun m s' => wX_findWay_42 post (nI n) c t b s m (nI s'.1) (nI s'.2.1) a1 a2 a3 a4 s'.2.2.1 s'.2.2.2 a7)
      (fun s' => ∃ h q : Nat → Nat, ds_bf n R s'.2.1 0 s'.1 s'.2.2.1 s'.2.2.2 h q) (fun s' => 12 - s'.2.1) ?_ (1, 0, a5', a6') ⟨h, q, hb⟩
    intro m s' hI hw
    obtain ⟨e, i, b5, b6⟩ := s'
    obtain ⟨h', q', hb'⟩ := hI
    have hb2 : ds_bf n R i 0 e b5 b6 h' q' := hb'
    have he : e ≤ 12 := hb2.1.1
    have hie : i ≤ e := hb2.1.2.1
    refine pk_le e i (fun z => ?_) (fun z => pk_le 12 i (fun z2 => absurd z2 (by omega)) (fun z2 => ⟨pk_in i 12 z2, ?_⟩))
    · have ei : i = e := by omega
      rw [ei] at hb2
      exact ex e b5 b6 h' q' hb2
    · refine nm_r (e' := nI (q' i)) (by rw [nI_clamp (show i < 2 ^ 31 by omega)]; exact (hb2.2.1 i z).2.2.2.1) ?_
      exact ds_fw63 hn ar bd hb2 z rfl (fun e' c5 c6 h3 q3 hb3 hi3 => hw (e', i + 1, c5, c6) ⟨h3, q3, ds_bf_next hb3 hi3⟩ (by show 12 - (i + 1) < 12 - i; omega))
  refine pk_loop (fun m i s' => wX_findWay_2 post (nI n) c t b s m (nI i) a1 a2 a3 a4 s' a6 a7) (fun i s' => ∀ j, j < i → s' j = -1) 12 0 a5 (by omega) (fun j hj => absurd hj (by omega)) ?_ ?_
  · intro m s' hI
    refine pk_le 12 12 (fun _ => nm_e (nm_e ?_)) (fun z => absurd z (by omega))
    exact lo _ _ _ _ (ds_bf_init n R pk_us (fun x hx hne => by rw [pk_un hne]; exact hI x hx) pk_us)
  · intro m i s' hi hI hw
    refine pk_le 12 i (fun z => absurd z (by omega)) (fun _ => ⟨pk_in i 12 hi, nm_r (by rw [nI_clamp (show i < 2 ^ 31 by omega)]) (nm_r (nI_1 i) (hw _ (fun j hj => ?_)))⟩)
    by_cases g : j = i
    · rw [g, pk_us]
    · rw [pk_un g]
      exact hI j (by omega)
end
section
/-! sendAlong: the narrowest room of the way is pushed along it -/
theorem ds_ar_pu {a : Nat → Int32} {R : Nat → Nat → Int} {x y : Nat} {d : Int} (ar : ds_ar a R) (hx : x < 12) (hy : y < 12) (hne : x ≠ y) :
    ds_ar (upd (upd a (x * 12 + y) (a (x * 12 + y) - ds_i d)) (y * 12 + x) ((upd a (x * 12 + y) (a (x * 12 + y) - ds_i d)) (y * 12 + x) + ds_i d)) (ds_pu R x y d) := by
  intro u v hu hv
  have k12 : y * 12 + x ≠ x * 12 + y := by omega
  by_cases h1 : u = x ∧ v = y
  · obtain ⟨e1, e2⟩ := h1
    rw [e1, e2, pk_un (Ne.symm k12), pk_us, ar x y hx hy, ds_isub, ds_pu_1]
  · by_cases h2 : u = y ∧ v = x
    · obtain ⟨e1, e2⟩ := h2
      rw [e1, e2, pk_us, pk_un k12, ar y x hy hx, ds_iadd, ds_pu_2 hne]
    · rw [pk_un (by omega), pk_un (by omega), ar u v hu hv, ds_pu_3 h1 h2]
theorem ds_send71 {post : St2 → Prop} {n L : Nat} {f c t b s : Int32} {a1 a2 a3 a4 a5 a6 a7 : Nat → Int32} {R : Nat → Nat → Int} {p h : Nat → Nat} {d : Int} (ar : ds_ar a4 R) (wy : ds_wy n R L p) (lv : ds_lv h L p)
    (h5 : ∀ j, j < L → a5 (p j) = nI (p (j + 1)))
    (H : ∀ a4', ds_ar a4' (ds_pp R p d L) → post (f, c, t, b, s, a1, a2, a3, a4', a5, a6, a7)) :
    ∃ fu, wX_sendAlong_71 post (ds_i d) f c t b s fu 11 0 a1 a2 a3 a4 a5 a6 a7 := by
  obtain ⟨p0, pL, hL, nod, pos⟩ := wy
  refine pk_loop (σ := Nat × (Nat → Int32)) (fun m i s' => wX_sendAlong_71 post (ds_i d) f c t b s m (nI s'.1) (nI i) a1 a2 a3 s'.2 a5 a6 a7)
    (fun i s' => s'.1 = p i ∧ ds_ar s'.2 (ds_pp R p d i)) L 0 (11, a4) (by omega) ⟨p0.symm, ar⟩ ?_ ?_
  · intro m s' hI
    obtain ⟨y, a⟩ := s'
    obtain ⟨h1, h2⟩ := hI
    have e : y = p L := h1
    rw [pL] at e
    exact pk_le 12 L (fun z => absurd z (by omega)) (fun _ => pk_eq y 10 (fun _ => H a h2) (fun z => absurd e z))
  · intro m i s' hi hI hw
    obtain ⟨y, a⟩ := s'
    obtain ⟨h1, h2⟩ := hI
    have e : y = p i := h1
    have hy : y < 12 := by rw [e]; exact (nod i (by omega)).1
    have hx : p (i + 1) < 12 := (nod (i + 1) (by omega)).1
    have hne : p (i + 1) ≠ y := fun g => by
      rw [e] at g
      have := ds_lv_inj lv (by omega) (by omega) g
      omega
    have y10 : y ≠ 10 := fun g => by
      rw [e, ← pL] at g
      have := ds_lv_inj lv (by omega) (by omega) g
      omega
    refine pk_le 12 i (fun z => absurd z (by omega)) (fun _ => pk_eq y 10 (fun z => absurd z y10) (fun _ => ⟨pk_in y 12 hy, nm_r (e' := nI (p (i + 1))) (by rw [nI_clamp (show y < 2 ^ 31 by omega), e]; exact h5 i hi) ?_⟩))
    rw [ds_cl12 _ _ hx hy, ds_cl12 _ _ hy hx]
    refine ⟨ds_in12 _ _ hx hy, ds_in12 _ _ hx hy, nm_e ⟨ds_in12 _ _ hy hx, ds_in12 _ _ hy hx, nm_e (nm_r (nI_1 i) (hw (p (i + 1), _) ⟨rfl, ?_⟩))⟩⟩
    show ds_ar _ (ds_pp R p d (i + 1))
    rw [ds_pp_s, ← e]
    exact ds_ar_pu h2 hx hy hne
theorem ds_send {post : St2 → Prop} {n L : Nat} {f c t b s : Int32} {a1 a2 a3 a4 a5 a6 a7 : Nat → Int32} {R : Nat → Nat → Int} {p h : Nat → Nat} (ar : ds_ar a4 R) (bd : ds_bd R) (wy : ds_wy n R L p) (lv : ds_lv h L p)
    (h5 : ∀ j, j < L → a5 (p j) = nI (p (j + 1)))
    (H : ∀ a4' R', ds_ar a4' R' → ds_au n h R R' → post (f, c, t, b, s, a1, a2, a3, a4', a5, a6, a7)) :
    wpX_sendAlong post (f, c, t, b, s, a1, a2, a3, a4, a5, a6, a7) := by
  have wy' := wy
  obtain ⟨p0, pL, hL, nod, pos⟩ := wy'
  have L0 : 0 < L := by
    rcases Nat.eq_zero_or_pos L with g | g
    · rw [g, p0] at pL
      omega
    · exact g
  refine pk_loop (σ := Nat × Int32) (fun m i s' => wX_sendAlong_8 post f c t b s a1 a2 a3 a4 a5 a6 a7 m s'.2 (nI s'.1) (nI i))
    (fun i s' => s'.1 = p i ∧ ∃ d : Int, s'.2 = ds_i d ∧ 0 < d ∧ d ≤ 2000000 ∧ (∀ j, j < i → d ≤ R (p (j + 1)) (p j)) ∧ (i = 0 → d = 2000000) ∧ (0 < i → ∃ k, k < i ∧ d = R (p (k + 1)) (p k))) L 0 (11, 2000000) (by omega)
    ⟨p0.symm, 2000000, by decide, by omega, by omega, fun j hj => absurd hj (by omega), fun _ => rfl, fun g => absurd g (by omega)⟩ ?_ ?_
  · intro m s' hI
    obtain ⟨y, x1⟩ := s'
    obtain ⟨h1, d, h2, h3, h4, h6, h7, h8⟩ := hI
    have e : y = p L := h1
    rw [pL] at e
    have ex : x1 = ds_i d := h2
    subst ex
    exact pk_le 12 L (fun z => absurd z (by omega)) (fun _ => pk_eq y 10 (fun _ => ds_send71 ar wy lv h5 (fun a4' ar' => H a4' _ ar' (ds_aug wy lv bd h3 h6 (h8 L0)))) (fun z => absurd e z))
  · intro m i s' hi hI hw
    obtain ⟨y, x1⟩ := s'
    obtain ⟨h1, d, h2, h3, h4, h6, h7, h8⟩ := hI
    have e : y = p i := h1
    have ex : x1 = ds_i d := h2
    have hy : y < 12 := by rw [e]; exact (nod i (by omega)).1
    have hx : p (i + 1) < 12 := (nod (i + 1) (by omega)).1
    have y10 : y ≠ 10 := fun g => by
      rw [e, ← pL] at g
      have := ds_lv_inj lv (by omega) (by omega) g
      omega
    have hp := pos i hi
    have hb := ds_bd_1 bd hx (nod i (by omega)).1
    refine pk_le 12 i (fun z => absurd z (by omega)) (fun _ => pk_eq y 10 (fun z => absurd z y10) (fun _ => ⟨pk_in y 12 hy, nm_r (e' := nI (p (i + 1))) (by rw [nI_clamp (show y < 2 ^ 31 by omega), e]; exact h5 i hi) ⟨ds_in12 _ _ hx hy, ?_⟩⟩))
    rw [ds_cl12 _ _ hx hy, ar _ _ hx hy, e]
    refine ds_ble d (R (p (i + 1)) (p i)) ex rfl ⟨by omega, by omega⟩ ⟨by omega, by omega⟩ (fun z => nm_r (nI_1 i) (hw (p (i + 1), x1) ⟨rfl, d, ex, h3, h4, ?_, fun g => absurd g (by omega), fun _ => ?_⟩)) (fun z => ⟨by rw [← e]; exact ds_in12 _ _ hx hy, nm_e (nm_r (nI_1 i) (hw (p (i + 1), ds_i (R (p (i + 1)) (p i))) ⟨rfl, _, rfl, hp, by omega, ?_, fun g => absurd g (by omega), fun _ => ⟨i, by omega, rfl⟩⟩))⟩)
    · intro j hj
      by_cases g : j = i
      · rw [g]; exact z
      · exact h6 j (by omega)
    · rcases Nat.eq_zero_or_pos i with g | g
      · have := h7 g
        omega
      · obtain ⟨k, hk, ek⟩ := h8 g
        exact ⟨k, by omega, ek⟩
    · intro j hj
      by_cases g : j = i
      · rw [g]; exact Int.le_refl _
      · have := h6 j (by omega)
        omega
end
section
/-! the graph, its network, and the walk of buildNetwork -/
def ds_gr (n : Nat) (a1 a2 a3 : Nat → Int32) : Prop :=
  (1 ≤ n ∧ n ≤ 10) ∧ (∀ k, k < 100 → 0 ≤ (a1 k).toInt ∧ (a1 k).toInt ≤ 20) ∧ (∀ k, k < 10 → 0 ≤ (a2 k).toInt ∧ (a2 k).toInt ≤ 20) ∧ (∀ k, k < 10 → a3 k = 0 ∨ a3 k = 2) ∧
  (∀ u v, u < 10 → v < 10 → a1 (u * 10 + v) = a1 (v * 10 + u)) ∧ (∀ u, u < 10 → a1 (u * 10 + u) = 0)
def ds_P (a1 : Nat → Int32) (u v : Nat) : Int := (a1 (u * 10 + v)).toInt
def ds_E (a2 : Nat → Int32) (u : Nat) : Int := (a2 u).toInt
def ds_am (n : Nat) (a1 a2 : Nat → Int32) (g p : Int) (u : Nat) : Int := 2 * g * ds_E a2 u - 2 * p + ds_sm (fun v => g * ds_P a1 u v) n
def ds_C (n : Nat) (a1 a2 a3 : Nat → Int32) (g p : Int) (x y : Nat) : Int :=
  if x < n then (if y < n then g * ds_P a1 x y else if y = 11 then (if a3 x = 2 then 1000000 else if ds_am n a1 a2 g p x ≤ 0 then -ds_am n a1 a2 g p x else 0) else 0)
  else if x = 10 then (if y < n then (if ds_am n a1 a2 g p y ≤ 0 then 0 else ds_am n a1 a2 g p y) else 0) else 0
def ds_K (n : Nat) (a1 a2 a3 : Nat → Int32) (g p : Int) (u x y : Nat) : Int := if x < u ∨ (x = 10 ∧ y < u) then ds_C n a1 a2 a3 g p x y else 0
def ds_M (n : Nat) (a1 a2 a3 : Nat → Int32) (g p : Int) (u v x y : Nat) : Int := if x = u ∧ y < v then g * ds_P a1 u y else ds_K n a1 a2 a3 g p u x y
theorem ds_P_b {n : Nat} {a1 a2 a3 : Nat → Int32} (gr : ds_gr n a1 a2 a3) {u v : Nat} (hu : u < 10) (hv : v < 10) : 0 ≤ ds_P a1 u v ∧ ds_P a1 u v ≤ 20 := gr.2.1 (u * 10 + v) (by omega)
theorem ds_E_b {n : Nat} {a1 a2 a3 : Nat → Int32} (gr : ds_gr n a1 a2 a3) {u : Nat} (hu : u < 10) : 0 ≤ ds_E a2 u ∧ ds_E a2 u ≤ 20 := gr.2.2.1 u hu
theorem ds_P_sy {n : Nat} {a1 a2 a3 : Nat → Int32} (gr : ds_gr n a1 a2 a3) {u v : Nat} (hu : u < 10) (hv : v < 10) : ds_P a1 u v = ds_P a1 v u := by
  unfold ds_P
  rw [gr.2.2.2.2.1 u v hu hv]
theorem ds_P_dg {n : Nat} {a1 a2 a3 : Nat → Int32} (gr : ds_gr n a1 a2 a3) {u : Nat} (hu : u < 10) : ds_P a1 u u = 0 := by
  unfold ds_P
  rw [gr.2.2.2.2.2 u hu]
  decide
/-- a product of two bounded numbers -/
theorem ds_mb {g x : Int} (g0 : 0 ≤ g) (g1 : g ≤ 20) (x0 : 0 ≤ x) (x1 : x ≤ 20) : 0 ≤ g * x ∧ g * x ≤ 400 := by
  refine ⟨Int.mul_nonneg g0 x0, ?_⟩
  have h : g * x ≤ 20 * 20 := Int.mul_le_mul g1 x1 x0 (by omega)
  omega
theorem ds_sp_b {n : Nat} {a1 a2 a3 : Nat → Int32} {g : Int} (gr : ds_gr n a1 a2 a3) (g0 : 0 ≤ g) (g1 : g ≤ 20) {u v : Nat} (hu : u < 10) (hv : v ≤ 10) :
    0 ≤ ds_sm (fun w => g * ds_P a1 u w) v ∧ ds_sm (fun w => g * ds_P a1 u w) v ≤ 4000 := by
  have h : ∀ w, w < v → 0 ≤ g * ds_P a1 u w ∧ g * ds_P a1 u w ≤ 400 := fun w hw => by
    have := ds_P_b gr hu (show w < 10 by omega)
    exact ds_mb g0 g1 this.1 this.2
  refine ⟨ds_sm_nn (fun w hw => (h w hw).1), ?_⟩
  have h2 := ds_sm_cb (f := fun w => g * ds_P a1 u w) (n := v) (c := 400) (fun w hw => (h w hw).2)
  omega
theorem ds_2ge {g e : Int} (g0 : 0 ≤ g) (g1 : g ≤ 20) (e0 : 0 ≤ e) (e1 : e ≤ 20) : 0 ≤ 2 * g * e ∧ 2 * g * e ≤ 800 := by
  have := ds_mb g0 g1 e0 e1
  rw [Int.mul_assoc]
  omega
theorem ds_am_b {n : Nat} {a1 a2 a3 : Nat → Int32} {g p : Int} (gr : ds_gr n a1 a2 a3) (g0 : 0 ≤ g) (g1 : g ≤ 20) (p0 : 0 ≤ p) (p1 : p ≤ 2000) {u : Nat} (hu : u < 10) :
    -4000 ≤ ds_am n a1 a2 g p u ∧ ds_am n a1 a2 g p u ≤ 4800 := by
  have h1 := ds_sp_b (v := n) gr g0 g1 hu gr.1.2
  have h2 := ds_E_b gr hu
  have h3 := ds_2ge g0 g1 h2.1 h2.2
  unfold ds_am
  omega
theorem ds_C_b {n : Nat} {a1 a2 a3 : Nat → Int32} {g p : Int} (gr : ds_gr n a1 a2 a3) (g0 : 0 ≤ g) (g1 : g ≤ 20) (p0 : 0 ≤ p) (p1 : p ≤ 2000) (x y : Nat) :
    0 ≤ ds_C n a1 a2 a3 g p x y ∧ ds_C n a1 a2 a3 g p x y ≤ 1000000 ∧ (y ≠ 11 → ds_C n a1 a2 a3 g p x y ≤ 5000) ∧ (x = 11 → ds_C n a1 a2 a3 g p x y = 0) := by
  have hn := gr.1.2
  unfold ds_C
  by_cases hx : x < n
  · rw [if_pos hx]
    by_cases hy : y < n
    · rw [if_pos hy]
      have h1 := ds_P_b gr (show x < 10 by omega) (show y < 10 by omega)
      have h2 := ds_mb g0 g1 h1.1 h1.2
      exact ⟨by omega, by omega, fun _ => by omega, fun _ => by omega⟩
    · rw [if_neg hy]
      by_cases h11 : y = 11
      · rw [if_pos h11]
        have h1 := ds_am_b gr g0 g1 p0 p1 (show x < 10 by omega)
        by_cases h3 : a3 x = 2
        · rw [if_pos h3]
          exact ⟨by omega, by omega, fun z => absurd h11 z, fun _ => by omega⟩
        · rw [if_neg h3]
          by_cases h4 : ds_am n a1 a2 g p x ≤ 0
          · rw [if_pos h4]
            exact ⟨by omega, by omega, fun z => absurd h11 z, fun _ => by omega⟩
          · rw [if_neg h4]
            exact ⟨by omega, by omega, fun z => absurd h11 z, fun _ => by omega⟩
      · rw [if_neg h11]
        exact ⟨by omega, by omega, fun _ => by omega, fun _ => by omega⟩
  · rw [if_neg hx]
    by_cases h10 : x = 10
    · rw [if_pos h10]
      by_cases hy : y < n
      · rw [if_pos hy]
        have h1 := ds_am_b gr g0 g1 p0 p1 (show y < 10 by omega)
        by_cases h4 : ds_am n a1 a2 g p y ≤ 0
        · rw [if_pos h4]
          exact ⟨by omega, by omega, fun _ => by omega, fun _ => by omega⟩
        · rw [if_neg h4]
          exact ⟨by omega, by omega, fun _ => by omega, fun _ => by omega⟩
      · rw [if_neg hy]
        exact ⟨by omega, by omega, fun _ => by omega, fun _ => by omega⟩
    · rw [if_neg h10]
      exact ⟨by omega, by omega, fun _ => by omega, fun _ => by omega⟩
theorem ds_C_bd {n : Nat} {a1 a2 a3 : Nat → Int32} {g p : Int} (gr : ds_gr n a1 a2 a3) (g0 : 0 ≤ g) (g1 : g ≤ 20) (p0 : 0 ≤ p) (p1 : p ≤ 2000) : ds_bd (ds_C n a1 a2 a3 g p) := by
  intro x y _ _
  obtain ⟨c1, c2, c3, c4⟩ := ds_C_b gr g0 g1 p0 p1 x y
  obtain ⟨d1, d2, d3, d4⟩ := ds_C_b gr g0 g1 p0 p1 y x
  refine ⟨c1, ?_⟩
  by_cases h : y = 11
  · have := d4 h
    omega
  · have := c3 h
    omega
/-! arrays under one store -/
theorem ds_ar_up {a : Nat → Int32} {R R' : Nat → Nat → Int} {x y : Nat} {z : Int} (ar : ds_ar a R) (hx : x < 12) (hy : y < 12) (h1 : R' x y = z) (h2 : ∀ u v, u < 12 → v < 12 → ¬ (u = x ∧ v = y) → R' u v = R u v) :
    ds_ar (upd a (x * 12 + y) (ds_i z)) R' := by
  intro u v hu hv
  by_cases c : u = x ∧ v = y
  · obtain ⟨e1, e2⟩ := c
    rw [e1, e2, pk_us, h1]
  · rw [pk_un (by omega), ar u v hu hv, h2 u v hu hv c]
theorem ds_ar_c {a : Nat → Int32} {R R' : Nat → Nat → Int} (ar : ds_ar a R) (h : ∀ u v, u < 12 → v < 12 → R' u v = R u v) : ds_ar a R' := by
  intro u v hu hv
  rw [ar u v hu hv, h u v hu hv]
theorem ds_K0 {n : Nat} {a1 a2 a3 : Nat → Int32} {g p : Int} {x y : Nat} : ds_K n a1 a2 a3 g p 0 x y = 0 := if_neg (by omega)
theorem ds_Kn {n : Nat} {a1 a2 a3 : Nat → Int32} {g p : Int} {x y : Nat} (hn : n ≤ 10) : ds_K n a1 a2 a3 g p n x y = ds_C n a1 a2 a3 g p x y := by
  unfold ds_K
  by_cases c : x < n ∨ (x = 10 ∧ y < n)
  · rw [if_pos c]
  · rw [if_neg c]
    unfold ds_C
    rw [if_neg (by omega)]
    by_cases h : x = 10
    · rw [if_pos h, if_neg (by omega)]
    · rw [if_neg h]
/-- what the row's stores leave is the next row's state -/
theorem ds_Ks {n : Nat} {a1 a2 a3 : Nat → Int32} {g p : Int} {u x y : Nat} (hn : n ≤ 10) (hu : u < n) (h1 : ¬ (x = u ∧ y = 11)) (h2 : ¬ (x = 10 ∧ y = u)) : ds_K n a1 a2 a3 g p (u + 1) x y = ds_M n a1 a2 a3 g p u n x y := by
  unfold ds_M ds_K
  by_cases e : x = u
  · rw [if_pos (by omega)]
    by_cases hy : y < n
    · rw [if_pos ⟨e, hy⟩]
      unfold ds_C
      rw [if_pos (by omega), if_pos hy, e]
    · rw [if_neg (by omega), if_neg (by omega)]
      unfold ds_C
      rw [if_pos (by omega), if_neg hy, if_neg (by omega)]
  · rw [if_neg (show ¬ (x = u ∧ y < n) from fun z => e z.1)]
    by_cases c : x < u ∨ (x = 10 ∧ y < u)
    · rw [if_pos c, if_pos (by omega)]
    · rw [if_neg c, if_neg (by omega)]
theorem ds_K_11 {n : Nat} {a1 a2 a3 : Nat → Int32} {g p : Int} {u : Nat} (hn : n ≤ 10) (hu : u < n) : ds_K n a1 a2 a3 g p (u + 1) u 11 = if a3 u = 2 then 1000000 else if ds_am n a1 a2 g p u ≤ 0 then -ds_am n a1 a2 g p u else 0 := by
  unfold ds_K ds_C
  rw [if_pos (by omega), if_pos hu, if_neg (by omega), if_pos rfl]
theorem ds_K_10 {n : Nat} {a1 a2 a3 : Nat → Int32} {g p : Int} {u : Nat} (hn : n ≤ 10) (hu : u < n) : ds_K n a1 a2 a3 g p (u + 1) 10 u = if ds_am n a1 a2 g p u ≤ 0 then 0 else ds_am n a1 a2 g p u := by
  unfold ds_K ds_C
  rw [if_pos (by omega), if_neg (by omega), if_pos rfl, if_pos hu]
theorem ds_M_11 {n : Nat} {a1 a2 a3 : Nat → Int32} {g p : Int} {u : Nat} (hn : n ≤ 10) (hu : u < n) : ds_M n a1 a2 a3 g p u n u 11 = 0 := by
  unfold ds_M ds_K
  rw [if_neg (by omega), if_neg (by omega)]
theorem ds_M_10 {n : Nat} {a1 a2 a3 : Nat → Int32} {g p : Int} {u : Nat} (hn : n ≤ 10) (hu : u < n) : ds_M n a1 a2 a3 g p u n 10 u = 0 := by
  unfold ds_M ds_K
  rw [if_neg (by omega), if_neg (by omega)]
/-! signed words -/
theorem ds_gmul (g : Int) (e : Int32) : ds_i g * e = ds_i (g * e.toInt) := by
  rw [← ds_imul, ← ds_toI]
theorem ds_amt (g p : Int) (e : Int32) : ((2 * ds_i g) * e) - (2 * ds_i p) = ds_i (2 * g * e.toInt - 2 * p) := by
  rw [← ds_isub, ← ds_imul (2 * g), ← ds_imul 2 g, ← ds_imul 2 p, ← ds_toI]
  rfl
theorem ds_ix10 (x y : Nat) : nI x * 10 + nI y = nI (x * 10 + y) := ds_ix x y 10 (by omega)
theorem ds_cl10 (x y : Nat) (hx : x < 10) (hy : y < 10) : (nI x * 10 + nI y).toNatClampNeg = x * 10 + y := by
  rw [ds_ix10, nI_clamp (by omega)]
theorem ds_in10 (x y : Nat) (hx : x < 10) (hy : y < 10) : vp_in (nI x * 10 + nI y) 100 := pk_in (x * 10 + y) 100 (by omega) (ds_ix10 x y)
theorem ds_ix11 (x : Nat) : nI x * 12 + 11 = nI (x * 12 + 11) := ds_ix x 11 12 (by omega)
theorem ds_ix120 (x : Nat) : 120 + nI x = nI (10 * 12 + x) := nI_add 120 x
/-- behind the row: the modes -/
theorem ds_bn145 {post : St2 → Prop} {J : Int32 → (Nat → Int32) → (Nat → Int32) → (Nat → Int32) → (Nat → Int32) → (Nat → Int32) → (Nat → Int32) → (Nat → Int32) → Prop} {n u : Nat} {x1 x2 f c t b s : Int32} {a1 a2 a3 a4 a5 a6 a7 : Nat → Int32} {g p : Int} {R : Nat → Nat → Int}
    (gr : ds_gr n a1 a2 a3) (hu : u < n) (ar : ds_ar a4 R) (h10 : R 10 u = ds_K n a1 a2 a3 g p (u + 1) 10 u) (h11 : a3 u ≠ 2 → R u 11 = ds_K n a1 a2 a3 g p (u + 1) u 11)
    (ho : ∀ x y, x < 12 → y < 12 → ¬ (x = u ∧ y = 11) → ¬ (x = 10 ∧ y = u) → R x y = ds_M n a1 a2 a3 g p u n x y)
    (H : ∀ a4', ds_ar a4' (ds_K n a1 a2 a3 g p (u + 1)) → J (nI (u + 1)) a1 a2 a3 a4' a5 a6 a7) :
    wX_buildNetwork_145 post J x1 x2 (nI u) f c t b s a1 a2 a3 a4 a5 a6 a7 := by
  have hn := gr.1.2
  unfold wX_buildNetwork_145
  refine ⟨pk_in u 10 (by omega), br_f ?_ ?_⟩
  · rw [nI_clamp (show u < 2 ^ 31 by omega)]
    rcases gr.2.2.2.1 u (by omega) with h | h <;> rw [h] <;> decide
  · unfold wX_buildNetwork_166
    rw [nI_clamp (show u < 2 ^ 31 by omega)]
    refine ⟨pk_in u 10 (by omega), br_c (fun g2 => ⟨pk_in (u * 12 + 11) 144 (by omega) (ds_ix11 u), nm_r (e' := upd a4 (u * 12 + 11) (ds_i 1000000)) (by rw [ds_ix11, nI_clamp (by omega)]; rfl) (nm_r (nI_1 u) (H _ ?_))⟩) (fun g2 => nm_r (nI_1 u) (H _ ?_))⟩
    · refine ds_ar_up (R := R) (z := 1000000) ar (by omega) (by omega) (by rw [ds_K_11 hn hu, if_pos g2]) (fun x y hx hy hne => ?_)
      by_cases e : x = 10 ∧ y = u
      · rw [e.1, e.2, h10]
      · rw [ds_Ks hn hu hne e, ho x y hx hy hne e]
    · refine ds_ar_c ar (fun x y hx hy => ?_)
      by_cases e : x = 10 ∧ y = u
      · rw [e.1, e.2, h10]
      · by_cases e2 : x = u ∧ y = 11
        · rw [e2.1, e2.2, h11 g2]
        · rw [ds_Ks hn hu e2 e, ho x y hx hy e2 e]
theorem ds_bn51 {post : St2 → Prop} {J : Int32 → (Nat → Int32) → (Nat → Int32) → (Nat → Int32) → (Nat → Int32) → (Nat → Int32) → (Nat → Int32) → (Nat → Int32) → Prop} {n u : Nat} {x2 c t b s : Int32} {a1 a2 a3 a4 a5 a6 a7 : Nat → Int32} {g p : Int}
    (gr : ds_gr n a1 a2 a3) (g0 : 0 ≤ g) (g1 : g ≤ 20) (p0 : 0 ≤ p) (p1 : p ≤ 2000) (hu : u < n) (ar : ds_ar a4 (ds_K n a1 a2 a3 g p u))
    (H : ∀ a4', ds_ar a4' (ds_K n a1 a2 a3 g p (u + 1)) → J (nI (u + 1)) a1 a2 a3 a4' a5 a6 a7) :
    ∃ fu, wX_buildNetwork_51 post J (ds_i g) x2 (nI u) (nI n) c t b s fu (ds_i (2 * g * ds_E a2 u - 2 * p)) 0 a1 a2 a3 a4 a5 a6 a7 := by
  have hn := gr.1.2
  have hu10 : u < 10 := by omega
  refine pk_loop (σ := Int32 × (Nat → Int32)) (fun m v s' => wX_buildNetwork_51 post J (ds_i g) x2 (nI u) (nI n) c t b s m s'.1 (nI v) a1 a2 a3 s'.2 a5 a6 a7)
    (fun v s' => s'.1 = ds_i (2 * g * ds_E a2 u - 2 * p + ds_sm (fun w => g * ds_P a1 u w) v) ∧ ds_ar s'.2 (ds_M n a1 a2 a3 g p u v)) n 0 (ds_i (2 * g * ds_E a2 u - 2 * p), a4) (by omega) ⟨by rw [show ds_sm (fun w => g * ds_P a1 u w) 0 = 0 from rfl, Int.add_zero], ds_ar_c ar (fun x y _ _ => if_neg (by omega))⟩ ?_ ?_
  · intro m s' hI
    obtain ⟨x4, a⟩ := s'
    obtain ⟨h1, h2⟩ := hI
    have e : x4 = ds_i (ds_am n a1 a2 g p u) := h1
    have ar' : ds_ar a (ds_M n a1 a2 a3 g p u n) := h2
    have hb := ds_am_b gr g0 g1 p0 p1 hu10
    refine pk_le n n (fun _ => ?_) (fun z => absurd z (by omega))
    refine ds_ble (ds_am n a1 a2 g p u) 0 e ds_i0 ⟨by omega, by omega⟩ ds_rg0 (fun z => ⟨pk_in (u * 12 + 11) 144 (by omega) (ds_ix11 u), nm_r (e' := upd a (u * 12 + 11) (ds_i (-ds_am n a1 a2 g p u))) (by rw [ds_ix11, nI_clamp (by omega), e, ds_ineg]) ?_⟩) (fun z => ⟨pk_in (10 * 12 + u) 144 (by omega) (ds_ix120 u), nm_r (e' := upd a (10 * 12 + u) (ds_i (ds_am n a1 a2 g p u))) (by rw [ds_ix120, nI_clamp (by omega), e]) ?_⟩)
    · refine ds_bn145 (g := g) (p := p) (R := fun x y => if x = u ∧ y = 11 then -ds_am n a1 a2 g p u else ds_M n a1 a2 a3 g p u n x y) gr hu (ds_ar_up ar' (by omega) (by omega) (if_pos ⟨rfl, rfl⟩) (fun x y _ _ hne => if_neg hne)) ?_ ?_ ?_ H
      · rw [if_neg (by omega), ds_M_10 hn hu, ds_K_10 hn hu, if_pos z]
      · intro h3
        rw [if_pos ⟨rfl, rfl⟩, ds_K_11 hn hu, if_neg h3, if_pos z]
      · intro x y _ _ hne _
        exact if_neg hne
    · refine ds_bn145 (g := g) (p := p) (R := fun x y => if x = 10 ∧ y = u then ds_am n a1 a2 g p u else ds_M n a1 a2 a3 g p u n x y) gr hu (ds_ar_up ar' (by omega) (by omega) (if_pos ⟨rfl, rfl⟩) (fun x y _ _ hne => if_neg hne)) ?_ ?_ ?_ H
      · rw [if_pos ⟨rfl, rfl⟩, ds_K_10 hn hu, if_neg (by omega)]
      · intro h3
        rw [if_neg (by omega), ds_M_11 hn hu, ds_K_11 hn hu, if_neg h3, if_neg (by omega)]
      · intro x y _ _ _ hne
        exact if_neg hne
  · intro m v s' hv hI hw
    obtain ⟨x4, a⟩ := s'
    obtain ⟨h1, h2⟩ := hI
    have e : x4 = ds_i (2 * g * ds_E a2 u - 2 * p + ds_sm (fun w => g * ds_P a1 u w) v) := h1
    have ar' : ds_ar a (ds_M n a1 a2 a3 g p u v) := h2
    have hv10 : v < 10 := by omega
    refine pk_le n v (fun z => absurd z (by omega)) (fun _ => ⟨ds_in10 u v hu10 hv10, ?_⟩)
    rw [ds_cl10 u v hu10 hv10, ds_cl12 u v (by omega) (by omega), ds_gmul]
    refine nm_r (e' := ds_i (2 * g * ds_E a2 u - 2 * p + ds_sm (fun w => g * ds_P a1 u w) (v + 1))) ?_ ⟨ds_in10 u v hu10 hv10, ds_in12 u v (by omega) (by omega), nm_e (nm_r (nI_1 v) (hw (_, _) ⟨rfl, ?_⟩))⟩
    · rw [e, ds_iadd, ds_sm_s, Int.add_assoc]
      rfl
    · show ds_ar (upd a (u * 12 + v) (ds_i (g * (a1 (u * 10 + v)).toInt))) (ds_M n a1 a2 a3 g p u (v + 1))
      refine ds_ar_up ar' (by omega) (by omega) (if_pos ⟨rfl, by omega⟩) (fun x y _ _ hne => ?_)
      unfold ds_M
      by_cases k : x = u ∧ y < v
      · rw [if_pos k, if_pos (by omega)]
      · rw [if_neg k, if_neg (by omega)]
theorem ds_build {post : St2 → Prop} {n : Nat} {c t b s : Int32} {a1 a2 a3 a4 a5 a6 a7 : Nat → Int32} {g p : Int} (gr : ds_gr n a1 a2 a3) (g0 : 0 ≤ g) (g1 : g ≤ 20) (p0 : 0 ≤ p) (p1 : p ≤ 2000)
    (H : ∀ a4', ds_ar a4' (ds_C n a1 a2 a3 g p) → post (nI n, c, t, b, s, a1, a2, a3, a4', a5, a6, a7)) :
    wpX_buildNetwork post (nI n, c, t, b, s, a1, a2, a3, a4, a5, a6, a7) (ds_i g) (ds_i p) := by
  have hn := gr.1.2
  have lo : ∀ a4', ds_ar a4' (ds_K n a1 a2 a3 g p 0) → ∃ fu, wX_buildNetwork_24 post (ds_i g) (ds_i p) (nI n) c t b s fu 0 a1 a2 a3 a4' a5 a6 a7 := by
    intro a4' ar
    refine pk_loop (fun m u s' => wX_buildNetwork_24 post (ds_i g) (ds_i p) (nI n) c t b s m (nI u) a1 a2 a3 s' a5 a6 a7) (fun u s' => ds_ar s' (ds_K n a1 a2 a3 g p u)) n 0 a4' (by omega) ar ?_ ?_
    · intro m s' hI
      exact pk_le n n (fun _ => H _ (ds_ar_c hI (fun x y _ _ => (ds_Kn hn).symm))) (fun z => absurd z (by omega))
    · intro m u s' hu hI hw
      refine pk_le n u (fun z => absurd z (by omega)) (fun _ => ⟨pk_in u 10 (by omega), nm_r (e' := ds_i (2 * g * ds_E a2 u - 2 * p)) (by rw [nI_clamp (show u < 2 ^ 31 by omega)]; exact ds_amt g p (a2 u)) ?_⟩)
      exact ds_bn51 gr g0 g1 p0 p1 hu hI (fun a' ar' => hw a' ar')
  refine pk_loop (fun m i s' => wX_buildNetwork_2 post (ds_i g) (ds_i p) (nI n) c t b s m (nI i) a1 a2 a3 s' a5 a6 a7) (fun i s' => ∀ j, j < i → s' j = 0) 144 0 a4 (by omega) (fun j hj => absurd hj (by omega)) ?_ ?_
  · intro m s' hI
    refine pk_le 144 144 (fun _ => lo s' (fun x y hx hy => ?_)) (fun z => absurd z (by omega))
    rw [ds_K0, hI _ (by omega)]
    exact ds_i0
  · intro m i s' hi hI hw
    refine pk_le 144 i (fun z => absurd z (by omega)) (fun _ => ⟨pk_in i 144 hi, nm_r (by rw [nI_clamp (show i < 2 ^ 31 by omega)]) (nm_r (nI_1 i) (hw _ (fun j hj => ?_)))⟩)
    by_cases k : j = i
    · rw [k, pk_us]
    · rw [pk_un k]
      exact hI j (by omega)
end
section
/-! the search back from the sink, and the set of the cut -/
def ds_cb (n : Nat) (R : Nat → Nat → Int) (U : Nat → Bool) : Prop := ∀ x y, x < 12 → y < 12 → ds_nd n y → U y = true → ds_nd n x → 0 < R x y → U x = true
def ds_rf (n : Nat) (R : Nat → Nat → Int) (i y e : Nat) (a6 a7 : Nat → Int32) (q : Nat → Nat) : Prop :=
  (e ≤ 12 ∧ i ≤ e ∧ (e : Int) = ds_sm (fun x => if a7 x = 0 then 0 else 1) 12) ∧
  (∀ j, j < e → q j < 12 ∧ ds_nd n (q j) ∧ ¬ a7 (q j) = 0 ∧ a6 j = nI (q j)) ∧
  (∀ x, x < 12 → ¬ a7 x = 0 → ∃ j, j < e ∧ q j = x) ∧
  (¬ a7 11 = 0) ∧
  (∀ j, j < i → ∀ z, z < 12 → ds_nd n z → 0 < R z (q j) → ¬ a7 z = 0) ∧
  (∀ z, z < y → ds_nd n z → 0 < R z (q i) → ¬ a7 z = 0) ∧
  (∀ U : Nat → Bool, U 11 = true → ds_cb n R U → ∀ x, x < 12 → ¬ a7 x = 0 → U x = true)
theorem ds_rf_skip {n i y e : Nat} {R : Nat → Nat → Int} {a6 a7 : Nat → Int32} {q : Nat → Nat} (hb : ds_rf n R i y e a6 a7 q) (hs : ds_nd n y → 0 < R y (q i) → ¬ a7 y = 0) : ds_rf n R i (y + 1) e a6 a7 q := by
  obtain ⟨b1, b2, b3, b4, b5, b6, b7⟩ := hb
  refine ⟨b1, b2, b3, b4, b5, fun z hz nz hp => ?_, b7⟩
  by_cases c : z = y
  · rw [c] at nz hp ⊢
    exact hs nz hp
  · exact b6 z (by omega) nz hp
theorem ds_rf_room {n i y e : Nat} {R : Nat → Nat → Int} {a6 a7 : Nat → Int32} {q : Nat → Nat} (hb : ds_rf n R i y e a6 a7 q) (hy : y < 12) (hv : a7 y = 0) : e < 12 := by
  have h1 := hb.1.2.2
  have h2 : ds_sm (fun x => if a7 x = 0 then (0 : Int) else 1) 12 + 1 ≤ ds_sm (fun _ => 1) 12 := ds_sm_lt1 hy (fun x _ => by
    show (if a7 x = 0 then (0 : Int) else 1) ≤ 1
    split <;> omega) (by
    show (if a7 y = 0 then (0 : Int) else 1) + 1 ≤ 1
    rw [if_pos hv]
    omega)
  rw [ds_sm_c] at h2
  omega
theorem ds_rf_add {n i y e : Nat} {R : Nat → Nat → Int} {a6 a7 : Nat → Int32} {q : Nat → Nat} (hb : ds_rf n R i y e a6 a7 q) (hi : i < e) (hy : y < 12) (ny : ds_nd n y) (hv : a7 y = 0) (hp : 0 < R y (q i)) :
    ∃ q' : Nat → Nat, q' i = q i ∧ ds_rf n R i (y + 1) (e + 1) (upd a6 e (nI y)) (upd a7 y 1) q' := by
  have he := ds_rf_room hb hy hv
  obtain ⟨b1, b2, b3, b4, b5, b6, b7⟩ := hb
  have qi := b2 i hi
  have hV1 : ∀ z, ¬ a7 z = 0 → z ≠ y := fun z hz e => hz (by rw [e]; exact hv)
  have hVy : ¬ upd a7 y 1 y = 0 := by
    rw [pk_us]
    decide
  have hV2 : ∀ z, ¬ a7 z = 0 → ¬ upd a7 y 1 z = 0 := fun z hz => by
    rw [pk_un (hV1 z hz)]
    exact hz
  have hV3 : ∀ z, z ≠ y → ¬ upd a7 y 1 z = 0 → ¬ a7 z = 0 := fun z hz g => by
    rw [pk_un hz] at g
    exact g
  have hq : ∀ j, j < e → (if j = e then y else q j) = q j := fun j hj => if_neg (by omega)
  have hqe : (if e = e then y else q e) = y := if_pos rfl
  refine ⟨fun j => if j = e then y else q j, hq i hi, ⟨by omega, by omega, ?_⟩, ?_, ?_, hV2 _ b4, ?_, ?_, ?_⟩
  · rw [ds_sm_upd (f := fun x => if a7 x = 0 then (0 : Int) else 1) (g := fun x => if upd a7 y 1 x = 0 then (0 : Int) else 1) (d := 1) hy (fun z _ hz => by
      show (if upd a7 y 1 z = 0 then (0 : Int) else 1) = (if a7 z = 0 then (0 : Int) else 1)
      rw [pk_un hz]) (by
      show (if upd a7 y 1 y = 0 then (0 : Int) else 1) = (if a7 y = 0 then (0 : Int) else 1) + 1
      rw [if_neg hVy, if_pos hv]
      omega), ← b1.2.2]
    omega
  · intro j hj
    by_cases c : j = e
    · subst c
      dsimp only
      rw [hqe]
      exact ⟨hy, ny, hVy, pk_us⟩
    · have hje : j < e := by omega
      have g := b2 j hje
      dsimp only
      rw [hq j hje, pk_un c]
      exact ⟨g.1, g.2.1, hV2 _ g.2.2.1, g.2.2.2⟩
  · intro x hx gx
    by_cases c : x = y
    · exact ⟨e, by omega, by dsimp only; rw [hqe, c]⟩
    · obtain ⟨j, hj, ej⟩ := b3 x hx (hV3 x c gx)
      exact ⟨j, by omega, by dsimp only; rw [hq j hj, ej]⟩
  · intro j hj z hz nz
    dsimp only
    rw [hq j (by omega)]
    intro g
    exact hV2 _ (b5 j hj z hz nz g)
  · intro z hz nz
    dsimp only
    rw [hq i hi]
    intro g
    by_cases c : z = y
    · rw [c]
      exact hVy
    · exact hV2 _ (b6 z (by omega) nz g)
  · intro U u11 uc x hx gx
    by_cases c : x = y
    · rw [c]
      exact uc y (q i) hy qi.1 qi.2.1 (b7 U u11 uc (q i) qi.1 qi.2.2.1) ny hp
    · exact b7 U u11 uc x hx (hV3 x c gx)
theorem ds_rf_next {n i e : Nat} {R : Nat → Nat → Int} {a6 a7 : Nat → Int32} {q : Nat → Nat} (hb : ds_rf n R i 12 e a6 a7 q) (hi : i < e) : ds_rf n R (i + 1) 0 e a6 a7 q := by
  obtain ⟨b1, b2, b3, b4, b5, b6, b7⟩ := hb
  refine ⟨⟨b1.1, by omega, b1.2.2⟩, b2, b3, b4, fun j hj z hz nz hp => ?_, fun z hz => absurd hz (by omega), b7⟩
  by_cases c : j = i
  · rw [c] at hp
    exact b6 z hz nz hp
  · exact b5 j (by omega) z hz nz hp
theorem ds_rf_init (n : Nat) (R : Nat → Nat → Int) {a6 a7 : Nat → Int32} (h11 : a7 11 = 1) (hm : ∀ x, x < 12 → x ≠ 11 → a7 x = 0) (h6 : a6 0 = 11) : ds_rf n R 0 0 1 a6 a7 (fun _ => 11) := by
  have v11 : ¬ a7 11 = 0 := by rw [h11]; decide
  have vo : ∀ x, x < 12 → ¬ a7 x = 0 → x = 11 := fun x hx g => by
    by_cases c : x = 11
    · exact c
    · exact absurd (hm x hx c) g
  refine ⟨⟨by omega, by omega, ?_⟩, ?_, ?_, v11, ?_, ?_, ?_⟩
  · rw [ds_sm_congr (g := fun x => if x = 11 then (1 : Int) else 0) (fun x hx => by
      show (if a7 x = 0 then (0 : Int) else 1) = (if x = 11 then (1 : Int) else 0)
      by_cases c : x = 11
      · rw [if_pos c, c, if_neg v11]
      · rw [if_neg c, if_pos (hm x hx c)])]
    rfl
  · intro j hj
    have : j = 0 := by omega
    subst this
    exact ⟨by show 11 < 12; omega, Or.inr (by show 10 ≤ 11; omega), v11, h6⟩
  · intro x hx g
    exact ⟨0, by omega, (vo x hx g).symm⟩
  · intro j hj
    exact absurd hj (by omega)
  · intro z hz
    exact absurd hz (by omega)
  · intro U u11 _ x hx g
    rw [vo x hx g]
    exact u11
theorem ds_rf_cl {n y e : Nat} {R : Nat → Nat → Int} {a6 a7 : Nat → Int32} {q : Nat → Nat} (hb : ds_rf n R e y e a6 a7 q) : ∀ x z, x < 12 → z < 12 → ¬ a7 z = 0 → ds_nd n x → 0 < R x z → ¬ a7 x = 0 := by
  obtain ⟨b1, b2, b3, b4, b5, b6, b7⟩ := hb
  intro x z hx hz vz nx hp
  obtain ⟨j, hj, ej⟩ := b3 z hz vz
  rw [← ej] at hp
  exact b5 j hj x hx nx hp
/-! the walk -/
theorem ds_c116 {post : St2 → Prop} {J : Int32 → Int32 → (Nat → Int32) → (Nat → Int32) → (Nat → Int32) → (Nat → Int32) → (Nat → Int32) → (Nat → Int32) → (Nat → Int32) → Prop}
    {n i x e : Nat} {c t b s : Int32} {a1 a2 a3 a4 a5 a6 a7 : Nat → Int32} {R : Nat → Nat → Int} {q : Nat → Nat} (hn : n ≤ 10) (ar : ds_ar a4 R) (bd : ds_bd R)
    (hb : ds_rf n R i 0 e a6 a7 q) (hi : i < e) (hx : q i = x)
    (H : ∀ e' a6' a7' q', ds_rf n R i 12 e' a6' a7' q' → i < e' → J (nI e') (nI (i + 1)) a1 a2 a3 a4 a5 a6' a7') :
    ∃ fu, wX_cut_116 post J (nI i) (nI x) (nI n) c t b s fu (nI e) 0 a1 a2 a3 a4 a5 a6 a7 := by
  have hx12 : x < 12 := by rw [← hx]; exact (hb.2.1 i hi).1
  refine pk_loop (σ := Nat × (Nat → Int32) × (Nat → Int32)) (fun m y s' => wX_cut_116 post J (nI i) (nI x) (nI n) c t b s m (nI s'.1) (nI y) a1 a2 a3 a4 a5 s'.2.1 s'.2.2)
    (fun y s' => i < s'.1 ∧ ∃ q : Nat → Nat, q i = x ∧ ds_rf n R i y s'.1 s'.2.1 s'.2.2 q) 12 0 (e, a6, a7) (by omega) ⟨hi, q, hx, hb⟩ ?_ ?_
  · intro m s' hI
    obtain ⟨hi', q', _, hb'⟩ := hI
    exact pk_le 12 12 (fun _ => nm_r (nI_1 i) (H _ _ _ _ hb' hi')) (fun z => absurd z (by omega))
  · intro m y s' hy hI hw
    obtain ⟨e', a6', a7'⟩ := s'
    obtain ⟨hi', q', hx', hb'⟩ := hI
    have hi2 : i < e' := hi'
    have hb2 : ds_rf n R i y e' a6' a7' q' := hb'
    have skip : (ds_nd n y → 0 < R y x → ¬ a7' y = 0) → wX_cut_116 post J (nI i) (nI x) (nI n) c t b s m (nI e') (nI (y + 1)) a1 a2 a3 a4 a5 a6' a7' :=
      fun g => hw (e', a6', a7') ⟨hi2, q', hx', ds_rf_skip hb2 (by rw [hx']; exact g)⟩
    refine pk_le 12 y (fun z => absurd z (by omega)) (fun _ => ?_)
    by_cases ny : ds_nd n y
    rotate_left
    · exact ds_node0 hn hy ny (br_t rfl (nm_r (nI_1 y) (skip (fun nd => absurd nd ny))))
    refine ds_node1 hn hy ny (br_f (by decide) ?_)
    refine ⟨pk_in y 12 hy, ?_⟩
    rw [nI_clamp (show y < 2 ^ 31 by omega), ds_cl12 y x hy hx12]
    refine br_c (fun g => ⟨ds_in12 y x hy hx12, ?_⟩) (fun g => nm_r (nI_1 y) (skip (fun _ _ => g)))
    refine ds_ble (R y x) 0 (ar y x hy hx12) ds_i0 (ds_bd_r bd hy hx12) ds_rg0 (fun z => nm_r (nI_1 y) (skip (fun _ hp => absurd hp (by omega)))) (fun z => ?_)
    have he := ds_rf_room hb2 hy g
    refine ⟨pk_in y 12 hy, nm_e ⟨pk_in e' 12 he, nm_r (by rw [nI_clamp (show e' < 2 ^ 31 by omega)]) (nm_r (nI_1 e') (nm_r (nI_1 y) ?_))⟩⟩
    obtain ⟨q2, hq2, hb3⟩ := ds_rf_add hb2 hi2 hy ny g (by rw [hx']; exact z)
    exact hw (e' + 1, upd a6' e' (nI y), upd a7' y 1) ⟨by show i < e' + 1; omega, q2, by rw [hq2, hx'], hb3⟩
theorem ds_c198 {post : St2 → Prop} {n : Nat} {t b s : Int32} {a1 a2 a3 a4 a5 a6 a7 : Nat → Int32} (hn : n ≤ 10)
    (H : ∀ m, (∀ i, ds_bt m i = true ↔ (i < n ∧ a7 i = 0)) → post (nI n, m, t, b, s, a1, a2, a3, a4, a5, a6, a7)) :
    ∃ fu, wX_cut_198 post (nI n) t b s a1 a2 a3 a4 a5 a6 a7 fu 0 0 := by
  refine pk_loop (fun m v s' => wX_cut_198 post (nI n) t b s a1 a2 a3 a4 a5 a6 a7 m (nI v) s') (fun v s' => ∀ i, ds_bt s' i = true ↔ (i < v ∧ a7 i = 0)) n 0 0 (by omega) (fun i => by rw [ds_bt0]; exact ⟨fun z => absurd z (by decide), fun z => absurd z.1 (by omega)⟩) ?_ ?_
  · intro m s' hI
    exact pk_le n n (fun _ => H s' hI) (fun z => absurd z (by omega))
  · intro m v s' hv hI hw
    refine pk_le n v (fun z => absurd z (by omega)) (fun _ => ⟨pk_in v 12 (by omega), ?_⟩)
    rw [nI_clamp (show v < 2 ^ 31 by omega)]
    refine br_c (fun g => nm_e (nm_r (nI_1 v) (hw _ (fun i => ?_)))) (fun g => nm_r (nI_1 v) (hw _ (fun i => ?_)))
    · rw [ds_bor, ds_sh1 (show v < 32 by omega), Bool.or_eq_true, hI i, decide_eq_true_eq]
      constructor
      · intro h
        rcases h with h | h
        · exact ⟨by omega, h.2⟩
        · rw [h]
          exact ⟨by omega, g⟩
      · intro h
        by_cases k : i = v
        · exact Or.inr k
        · exact Or.inl ⟨by omega, h.2⟩
    · rw [hI i]
      constructor
      · intro h
        exact ⟨by omega, h.2⟩
      · intro h
        refine ⟨?_, h.2⟩
        by_cases k : i = v
        · rw [k] at h
          exact absurd h.2 g
        · omega
theorem ds_c44 {post : St2 → Prop} {n : Nat} {c t b s : Int32} {a1 a2 a3 a4 a5 a6 a7 : Nat → Int32} {R : Nat → Nat → Int} (hn : n ≤ 10) (ar : ds_ar a4 R) (bd : ds_bd R)
    (H : ∀ m a6' a7', ¬ a7' 11 = 0 → (∀ x z, x < 12 → z < 12 → ¬ a7' z = 0 → ds_nd n x → 0 < R x z → ¬ a7' x = 0) → (∀ U : Nat → Bool, U 11 = true → ds_cb n R U → ∀ x, x < 12 → ¬ a7' x = 0 → U x = true) →
      (∀ i, ds_bt m i = true ↔ (i < n ∧ a7' i = 0)) → post (nI n, m, t, b, s, a1, a2, a3, a4, a5, a6', a7')) :
    ∃ fu, wX_cut_44 post (nI n) c t b s fu 0 a1 a2 a3 a4 a5 a6 a7 := by
  have ex : ∀ e a6' a7' q, ds_rf n R e 0 e a6' a7' q → ∃ fu, wX_cut_198 post (nI n) t b s a1 a2 a3 a4 a5 a6' a7' fu 0 0 :=
    fun e a6' a7' q hb => ds_c198 hn (fun m hm => H m a6' a7' hb.2.2.2.1 (ds_rf_cl hb) hb.2.2.2.2.2.2 hm)
  have lo : ∀ a6' a7' q, ds_rf n R 0 0 1 a6' a7' q → ∃ fu, wX_cut_90 post (nI n) c t b s fu 1 0 a1 a2 a3 a4 a5 a6' a7' := by
    intro a6' a7' q hb
    refine loop_m (σ := Nat × Nat × (Nat → Int32) × (Nat → Int32)) (fun m s' => wX_cut_90 post (nI n) c t b s m (nI s'.1) (nI s'.2.1) a1 a2 a3 a4 a5 s'.2.2.1 s'.2.2.2)
      (fun s' => ∃ q : Nat → Nat, ds_rf n R s'.2.1 0 s'.1 s'.2.2.1 s'.2.2.2 q) (fun s' => 12 - s'.2.1) ?_ (1, 0, a6', a7') ⟨q, hb⟩
    intro m s' hI hw
    obtain ⟨e, i, b6, b7⟩ := s'
    obtain ⟨q', hb'⟩ := hI
    have hb2 : ds_rf n R i 0 e b6 b7 q' := hb'
    have he : e ≤ 12 := hb2.1.1
    have hie : i ≤ e := hb2.1.2.1
    refine pk_le e i (fun z => ?_) (fun z => pk_le 12 i (fun z2 => absurd z2 (by omega)) (fun z2 => ⟨pk_in i 12 z2, ?_⟩))
    · have ei : i = e := by omega
      rw [ei] at hb2
      exact ex e b6 b7 q' hb2
    · refine nm_r (e' := nI (q' i)) (by rw [nI_clamp (show i < 2 ^ 31 by omega)]; exact (hb2.2.1 i z).2.2.2) ?_
      exact ds_c116 hn ar bd hb2 z rfl (fun e' c6 c7 q3 hb3 hi3 => hw (e', i + 1, c6, c7) ⟨q3, ds_rf_next hb3 hi3⟩ (by show 12 - (i + 1) < 12 - i; omega))
  refine pk_loop (fun m i s' => wX_cut_44 post (nI n) c t b s m (nI i) a1 a2 a3 a4 a5 a6 s') (fun i s' => ∀ j, j < i → s' j = if j = 11 then 1 else 0) 12 0 a7 (by omega) (fun j hj => absurd hj (by omega)) ?_ ?_
  · intro m s' hI
    refine pk_le 12 12 (fun _ => nm_e ?_) (fun z => absurd z (by omega))
    exact lo _ _ _ (ds_rf_init n R (by rw [hI 11 (by omega)]; rfl) (fun x hx hne => by rw [hI x hx, if_neg hne]) pk_us)
  · intro m i s' hi hI hw
    have fl : ∀ x : Int32, (x = if i = 11 then 1 else 0) → ∀ j, j < i + 1 → upd s' i x j = if j = 11 then 1 else 0 := by
      intro x hx j hj
      by_cases g : j = i
      · rw [g, pk_us]
        exact hx
      · rw [pk_un g]
        exact hI j (by omega)
    refine pk_le 12 i (fun z => absurd z (by omega)) (fun _ => pk_eq i 11 (fun z => ⟨pk_in i 12 hi, nm_r (by rw [nI_clamp (show i < 2 ^ 31 by omega)]) (nm_r (nI_1 i) (hw _ (fl 1 (by rw [if_pos z]))))⟩) (fun z => ⟨pk_in i 12 hi, nm_r (by rw [nI_clamp (show i < 2 ^ 31 by omega)]) (nm_r (nI_1 i) (hw _ (fl 0 (by rw [if_neg z]))))⟩))
end
section
/-! the plain law of the network: the cheapest cut is the set of greatest value -/
def ds_w (n : Nat) (a1 a2 : Nat → Int32) (S : Nat → Bool) : Int := ds_sm (fun u => if S u = true then ds_E a2 u + ds_sm (fun v => if u < v ∧ S v = true then ds_P a1 u v else 0) n else 0) n
def ds_k (S : Nat → Bool) : Int := ds_sm (fun v => if S v = true then 1 else 0) 10
def ds_v (n : Nat) (a1 a2 : Nat → Int32) (g p : Int) (S : Nat → Bool) : Int := g * ds_w n a1 a2 S - p * ds_k S
def ds_al (n : Nat) (a3 : Nat → Int32) (S : Nat → Bool) : Prop := ∀ u, S u = true → u < n ∧ ¬ a3 u = 2
def ds_op (n : Nat) (a1 a2 a3 : Nat → Int32) (g p : Int) (S : Nat → Bool) : Prop :=
  ds_al n a3 S ∧ ∀ T, ds_al n a3 T → ds_v n a1 a2 g p T ≤ ds_v n a1 a2 g p S ∧ (ds_v n a1 a2 g p T = ds_v n a1 a2 g p S → ∀ u, T u = true → S u = true)
def ds_xt (n : Nat) (S : Nat → Bool) : Nat → Bool := fun x => if x < n then S x else decide (x = 10)
theorem ds_nt {x : Bool} (h : ¬ x = true) : x = false := by
  cases x
  · rfl
  · exact absurd rfl h
theorem ds_nf {x : Bool} (h : x = false) : ¬ x = true := by rw [h]; decide
/-- a symmetric double sum is twice its upper half -/
theorem ds_dd {n : Nat} {f : Nat → Nat → Int} (sy : ∀ x y, x < n → y < n → f x y = f y x) (dg : ∀ x, x < n → f x x = 0) :
    ds_sm (fun x => ds_sm (fun y => f x y) n) n = 2 * ds_sm (fun x => ds_sm (fun y => if x < y then f x y else 0) n) n := by
  have h1 : ds_sm (fun x => ds_sm (fun y => f x y) n) n = ds_sm (fun x => ds_sm (fun y => if x < y then f x y else 0) n + ds_sm (fun y => if y < x then f x y else 0) n) n :=
    ds_sm_congr (fun x hx => by
      try dsimp only
      rw [← ds_sm_add]
      refine ds_sm_congr (fun y hy => ?_)
      try dsimp only
      rcases Nat.lt_trichotomy x y with h | h | h
      · rw [if_pos h, if_neg (by omega), Int.add_zero]
      · rw [if_neg (by omega), if_neg (by omega), h, dg y hy]
        rfl
      · rw [if_neg (by omega), if_pos h, Int.zero_add])
  have h2 : ds_sm (fun x => ds_sm (fun y => if y < x then f x y else 0) n) n = ds_sm (fun x => ds_sm (fun y => if x < y then f x y else 0) n) n := by
    rw [ds_sm_swap]
    refine ds_sm_congr (fun x hx => ds_sm_congr (fun y hy => ?_))
    try dsimp only
    by_cases c : x < y
    · rw [if_pos c, if_pos c, sy y x hy hx]
    · rw [if_neg c, if_neg c]
  rw [h1, ds_sm_add, h2]
  omega
theorem ds_C_in {n : Nat} {a1 a2 a3 : Nat → Int32} {g p : Int} {x y : Nat} (hx : x < n) (hy : y < n) : ds_C n a1 a2 a3 g p x y = g * ds_P a1 x y := by
  unfold ds_C
  rw [if_pos hx, if_pos hy]
theorem ds_C_10 {n : Nat} {a1 a2 a3 : Nat → Int32} {g p : Int} {y : Nat} (hn : n ≤ 10) (hy : y < n) : ds_C n a1 a2 a3 g p 10 y = if ds_am n a1 a2 g p y ≤ 0 then 0 else ds_am n a1 a2 g p y := by
  unfold ds_C
  rw [if_neg (by omega), if_pos rfl, if_pos hy]
theorem ds_C_11 {n : Nat} {a1 a2 a3 : Nat → Int32} {g p : Int} {x : Nat} (hn : n ≤ 10) (hx : x < n) : ds_C n a1 a2 a3 g p x 11 = if a3 x = 2 then 1000000 else if ds_am n a1 a2 g p x ≤ 0 then -ds_am n a1 a2 g p x else 0 := by
  unfold ds_C
  rw [if_pos hx, if_neg (by omega), if_pos rfl]
theorem ds_C_1011 {n : Nat} {a1 a2 a3 : Nat → Int32} {g p : Int} (hn : n ≤ 10) : ds_C n a1 a2 a3 g p 10 11 = 0 := by
  unfold ds_C
  rw [if_neg (by omega), if_pos rfl, if_neg (by omega)]
theorem ds_cv_C {n : Nat} {a1 a2 a3 : Nat → Int32} {g p : Int} (hn : n ≤ 10) {Z : Nat → Bool} (z10 : Z 10 = true) (z11 : Z 11 = false) (zo : ∀ x, n ≤ x → x < 10 → Z x = false) :
    ds_cv n Z (ds_C n a1 a2 a3 g p) = ds_sm (fun x => if Z x = true then ds_sm (fun y => if Z y = false then g * ds_P a1 x y else 0) n + ds_C n a1 a2 a3 g p x 11 else ds_C n a1 a2 a3 g p 10 x) n := by
  have rowx : ∀ x, x < n → ds_sm (fun y => if Z x = true ∧ Z y = false ∧ ds_nd n y then ds_C n a1 a2 a3 g p x y else 0) 12 = if Z x = true then ds_sm (fun y => if Z y = false then g * ds_P a1 x y else 0) n + ds_C n a1 a2 a3 g p x 11 else 0 := by
    intro x hx
    by_cases c : Z x = true
    · rw [if_pos c, ds_sm_12 hn (fun y h1 h2 => if_neg (fun z => absurd z.2.2 (by omega)))]
      have e1 : ds_sm (fun y => if Z x = true ∧ Z y = false ∧ ds_nd n y then ds_C n a1 a2 a3 g p x y else 0) n = ds_sm (fun y => if Z y = false then g * ds_P a1 x y else 0) n := ds_sm_congr (fun y hy => by
        try dsimp only
        by_cases k : Z y = false
        · rw [if_pos ⟨c, k, Or.inl hy⟩, if_pos k, ds_C_in hx hy]
        · rw [if_neg (fun z => k z.2.1), if_neg k])
      have e2 : (if Z x = true ∧ Z 10 = false ∧ ds_nd n 10 then ds_C n a1 a2 a3 g p x 10 else 0) = 0 := if_neg (fun z => by have := z.2.1; rw [z10] at this; exact absurd this (by decide))
      have e3 : (if Z x = true ∧ Z 11 = false ∧ ds_nd n 11 then ds_C n a1 a2 a3 g p x 11 else 0) = ds_C n a1 a2 a3 g p x 11 := if_pos ⟨c, z11, Or.inr (by omega)⟩
      rw [e1, e2, e3, Int.add_zero]
    · rw [if_neg c]
      exact ds_sm_0 (fun y _ => if_neg (fun z => c z.1))
  have row10 : ds_sm (fun y => if Z 10 = true ∧ Z y = false ∧ ds_nd n y then ds_C n a1 a2 a3 g p 10 y else 0) 12 = ds_sm (fun y => if Z y = false then ds_C n a1 a2 a3 g p 10 y else 0) n := by
    rw [ds_sm_12 hn (fun y h1 h2 => if_neg (fun z => absurd z.2.2 (by omega)))]
    have e1 : ds_sm (fun y => if Z 10 = true ∧ Z y = false ∧ ds_nd n y then ds_C n a1 a2 a3 g p 10 y else 0) n = ds_sm (fun y => if Z y = false then ds_C n a1 a2 a3 g p 10 y else 0) n := ds_sm_congr (fun y hy => by
      try dsimp only
      by_cases k : Z y = false
      · rw [if_pos ⟨z10, k, Or.inl hy⟩, if_pos k]
      · rw [if_neg (fun z => k z.2.1), if_neg k])
    have e2 : (if Z 10 = true ∧ Z 10 = false ∧ ds_nd n 10 then ds_C n a1 a2 a3 g p 10 10 else 0) = 0 := if_neg (fun z => by have := z.2.1; rw [z10] at this; exact absurd this (by decide))
    have e3 : (if Z 10 = true ∧ Z 11 = false ∧ ds_nd n 11 then ds_C n a1 a2 a3 g p 10 11 else 0) = 0 := by
      rw [ds_C_1011 hn]
      split <;> rfl
    rw [e1, e2, e3, Int.add_zero, Int.add_zero]
  have row11 : ds_sm (fun y => if Z 11 = true ∧ Z y = false ∧ ds_nd n y then ds_C n a1 a2 a3 g p 11 y else 0) 12 = 0 := ds_sm_0 (fun y _ => if_neg (fun z => by have := z.1; rw [z11] at this; exact absurd this (by decide)))
  unfold ds_cv ds_s2
  rw [ds_sm_12 hn (fun x h1 h2 => ds_sm_0 (fun y _ => if_neg (fun z => by have := z.1; rw [zo x h1 h2] at this; exact absurd this (by decide))))]
  rw [row10, row11, ds_sm_congr rowx, Int.add_zero, ← ds_sm_add]
  refine ds_sm_congr (fun x hx => ?_)
  try dsimp only
  by_cases c : Z x = true
  · rw [if_pos c, if_pos c, if_neg (fun z => by rw [c] at z; exact absurd z (by decide)), Int.add_zero]
  · rw [if_neg c, if_neg c, if_pos (ds_nt c), Int.zero_add]
theorem ds_xt_in {n : Nat} {S : Nat → Bool} {x : Nat} (hx : x < n) : ds_xt n S x = S x := if_pos hx
theorem ds_xt_10 {n : Nat} {S : Nat → Bool} (hn : n ≤ 10) : ds_xt n S 10 = true := by
  unfold ds_xt
  rw [if_neg (by omega)]
  rfl
theorem ds_xt_11 {n : Nat} {S : Nat → Bool} (hn : n ≤ 10) : ds_xt n S 11 = false := by
  unfold ds_xt
  rw [if_neg (by omega)]
  rfl
theorem ds_xt_o {n : Nat} {S : Nat → Bool} {x : Nat} (h1 : n ≤ x) (h2 : x < 10) : ds_xt n S x = false := by
  unfold ds_xt
  rw [if_neg (by omega)]
  exact decide_eq_false (by omega)
theorem ds_kn {n : Nat} {a3 : Nat → Int32} {S : Nat → Bool} (hn : n ≤ 10) (al : ds_al n a3 S) : ds_sm (fun v => if S v = true then 1 else 0) n = ds_k S :=
  (ds_sm_cut hn (fun i h1 _ => if_neg (fun z => by have := (al i z).1; omega))).symm
/-- twice the value, vertex by vertex -/
theorem ds_v2 {n : Nat} {a1 a2 a3 : Nat → Int32} {g p : Int} {S : Nat → Bool} (gr : ds_gr n a1 a2 a3) (al : ds_al n a3 S) :
    ds_sm (fun x => if S x = true then 2 * g * ds_E a2 x - 2 * p + ds_sm (fun y => if S y = true then g * ds_P a1 x y else 0) n else 0) n = 2 * ds_v n a1 a2 g p S := by
  have hn := gr.1.2
  have eB : ds_sm (fun x => if S x = true then 2 * g * ds_E a2 x - 2 * p + ds_sm (fun y => if S y = true then g * ds_P a1 x y else 0) n else 0) n
      = ds_sm (fun x => (2 * g * (if S x = true then ds_E a2 x else 0) - 2 * p * (if S x = true then 1 else 0)) + g * ds_sm (fun y => if S x = true ∧ S y = true then ds_P a1 x y else 0) n) n :=
    ds_sm_congr (fun x hx => by
      try dsimp only
      rw [← ds_sm_mul]
      by_cases c : S x = true
      · rw [if_pos c, if_pos c, if_pos c, Int.mul_one]
        have : ds_sm (fun y => if S y = true then g * ds_P a1 x y else 0) n = ds_sm (fun i => g * (if S x = true ∧ S i = true then ds_P a1 x i else 0)) n := ds_sm_congr (fun y hy => by
          try dsimp only
          by_cases k : S y = true
          · rw [if_pos k, if_pos ⟨c, k⟩]
          · rw [if_neg k, if_neg (fun z => k z.2), Int.mul_zero])
        rw [this]
      · rw [if_neg c, if_neg c, if_neg c, Int.mul_zero, Int.mul_zero, Int.sub_zero, Int.zero_add]
        exact (ds_sm_0 (fun y _ => by
          try dsimp only
          rw [if_neg (fun z => c z.1), Int.mul_zero])).symm)
  have eW : ds_w n a1 a2 S = ds_sm (fun x => if S x = true then ds_E a2 x else 0) n + ds_sm (fun x => ds_sm (fun y => if x < y then (if S x = true ∧ S y = true then ds_P a1 x y else 0) else 0) n) n := by
    unfold ds_w
    rw [← ds_sm_add]
    refine ds_sm_congr (fun x hx => ?_)
    try dsimp only
    by_cases c : S x = true
    · rw [if_pos c, if_pos c]
      have : ds_sm (fun v => if x < v ∧ S v = true then ds_P a1 x v else 0) n = ds_sm (fun y => if x < y then (if S x = true ∧ S y = true then ds_P a1 x y else 0) else 0) n := ds_sm_congr (fun y hy => by
        try dsimp only
        by_cases k : x < y
        · rw [if_pos k]
          by_cases k2 : S y = true
          · rw [if_pos ⟨k, k2⟩, if_pos ⟨c, k2⟩]
          · rw [if_neg (fun z => k2 z.2), if_neg (fun z => k2 z.2)]
        · rw [if_neg k, if_neg (fun z => k z.1)])
      rw [this]
    · rw [if_neg c, if_neg c, Int.zero_add]
      exact (ds_sm_0 (fun y _ => by
        try dsimp only
        by_cases k : x < y
        · rw [if_pos k, if_neg (fun z => c z.1)]
        · rw [if_neg k])).symm
  have eD : ds_sm (fun x => ds_sm (fun y => if S x = true ∧ S y = true then ds_P a1 x y else 0) n) n = 2 * ds_sm (fun x => ds_sm (fun y => if x < y then (if S x = true ∧ S y = true then ds_P a1 x y else 0) else 0) n) n := by
    refine ds_dd (f := fun x y => if S x = true ∧ S y = true then ds_P a1 x y else 0) (fun x y hx hy => ?_) (fun x hx => ?_)
    · try dsimp only
      by_cases c : S x = true ∧ S y = true
      · rw [if_pos c, if_pos ⟨c.2, c.1⟩, ds_P_sy gr (by omega) (by omega)]
      · rw [if_neg c, if_neg (fun z => c ⟨z.2, z.1⟩)]
    · try dsimp only
      rw [ds_P_dg gr (by omega)]
      split <;> rfl
  rw [eB, ds_sm_add, ds_sm_sub, ds_sm_mul, ds_sm_mul, ds_sm_mul, ds_kn hn al, eD]
  unfold ds_v
  rw [eW]
  generalize ds_sm (fun x => if S x = true then ds_E a2 x else 0) n = A
  generalize ds_sm (fun x => ds_sm (fun y => if x < y then (if S x = true ∧ S y = true then ds_P a1 x y else 0) else 0) n) n = B
  generalize ds_k S = K
  rw [Int.mul_add, Int.mul_assoc 2 g A, Int.mul_assoc 2 p K, ← Int.mul_assoc g 2 B, Int.mul_comm g 2, Int.mul_assoc 2 g B]
  omega
theorem ds_cv_al {n : Nat} {a1 a2 a3 : Nat → Int32} {g p : Int} {S : Nat → Bool} (gr : ds_gr n a1 a2 a3) (al : ds_al n a3 S) :
    ds_cv n (ds_xt n S) (ds_C n a1 a2 a3 g p) = ds_sm (fun x => ds_C n a1 a2 a3 g p 10 x) n - 2 * ds_v n a1 a2 g p S := by
  have hn := gr.1.2
  rw [ds_cv_C hn (ds_xt_10 hn) (ds_xt_11 hn) (fun x h1 h2 => ds_xt_o h1 h2), ← ds_v2 gr al, ← ds_sm_sub]
  refine ds_sm_congr (fun x hx => ?_)
  try dsimp only
  rw [ds_xt_in hx]
  by_cases c : S x = true
  · rw [if_pos c, if_pos c, ds_C_11 hn hx, if_neg (al x c).2, ds_C_10 hn hx]
    have e1 : ds_sm (fun y => g * ds_P a1 x y) n = ds_sm (fun y => if ds_xt n S y = false then g * ds_P a1 x y else 0) n + ds_sm (fun y => if S y = true then g * ds_P a1 x y else 0) n := by
      rw [← ds_sm_add]
      refine ds_sm_congr (fun y hy => ?_)
      try dsimp only
      rw [ds_xt_in hy]
      by_cases k : S y = true
      · rw [if_neg (fun z => by rw [k] at z; exact absurd z (by decide)), if_pos k, Int.zero_add]
      · rw [if_pos (ds_nt k), if_neg k, Int.add_zero]
    have e2 : ds_am n a1 a2 g p x = 2 * g * ds_E a2 x - 2 * p + ds_sm (fun v => g * ds_P a1 x v) n := rfl
    rw [e1] at e2
    by_cases k : ds_am n a1 a2 g p x ≤ 0
    · rw [if_pos k, if_pos k]
      omega
    · rw [if_neg k, if_neg k]
      omega
  · rw [if_neg c, if_neg c, Int.sub_zero]
theorem ds_cv_cg {n : Nat} {S T : Nat → Bool} {R : Nat → Nat → Int} (h : ∀ x, x < 12 → S x = T x) : ds_cv n S R = ds_cv n T R :=
  ds_s2_congr (fun x y hx hy => by
    try dsimp only
    rw [h x hx, h y hy])
/-- what the cut finds -/
theorem ds_cut_op {n : Nat} {a1 a2 a3 : Nat → Int32} {g p : Int} (gr : ds_gr n a1 a2 a3) (g0 : 0 ≤ g) (g1 : g ≤ 20) (p0 : 0 ≤ p) (p1 : p ≤ 2000) {Z : Nat → Bool} (z10 : Z 10 = true) (z11 : Z 11 = false) (zo : ∀ x, n ≤ x → x < 10 → Z x = false)
    (hZ : ∀ S : Nat → Bool, S 10 = true → S 11 = false → ds_cv n Z (ds_C n a1 a2 a3 g p) ≤ ds_cv n S (ds_C n a1 a2 a3 g p) ∧ (ds_cv n S (ds_C n a1 a2 a3 g p) = ds_cv n Z (ds_C n a1 a2 a3 g p) → ∀ x, x < 12 → ds_nd n x → S x = true → Z x = true))
    {M : Nat → Bool} (hM : ∀ i, M i = true ↔ (i < n ∧ Z i = true)) : ds_op n a1 a2 a3 g p M := by
  have hn := gr.1.2
  have al : ds_al n a3 M := by
    intro u hu
    have hz := (hM u).mp hu
    refine ⟨hz.1, fun h3 => ?_⟩
    have e0 := (hZ (ds_xt n (fun _ => false)) (ds_xt_10 hn) (ds_xt_11 hn)).1
    have l0 : ds_cv n (ds_xt n (fun _ => false)) (ds_C n a1 a2 a3 g p) ≤ 5000 * (n : Int) := by
      rw [ds_cv_C hn (ds_xt_10 hn) (ds_xt_11 hn) (fun x h1 h2 => ds_xt_o h1 h2)]
      refine ds_sm_cb (fun x hx => ?_)
      try dsimp only
      rw [ds_xt_in hx, if_neg (by decide)]
      exact (ds_C_b gr g0 g1 p0 p1 10 x).2.2.1 (by omega)
    rw [ds_cv_C hn z10 z11 zo] at e0
    have nn : ∀ x, x < n → 0 ≤ (if Z x = true then ds_sm (fun y => if Z y = false then g * ds_P a1 x y else 0) n + ds_C n a1 a2 a3 g p x 11 else ds_C n a1 a2 a3 g p 10 x) := by
      intro x hx
      by_cases c : Z x = true
      · rw [if_pos c]
        have h1 : 0 ≤ ds_sm (fun y => if Z y = false then g * ds_P a1 x y else 0) n := ds_sm_nn (fun y hy => by
          try dsimp only
          by_cases k : Z y = false
          · rw [if_pos k]
            exact Int.mul_nonneg g0 (ds_P_b gr (by omega) (by omega)).1
          · rw [if_neg k]
            exact Int.le_refl 0)
        have h2 := (ds_C_b gr g0 g1 p0 p1 x 11).1
        omega
      · rw [if_neg c]
        exact (ds_C_b gr g0 g1 p0 p1 10 x).1
    have one := ds_sm_one hz.1 nn
    try dsimp only at one
    rw [if_pos hz.2, ds_C_11 hn hz.1, if_pos h3] at one
    have h1 : 0 ≤ ds_sm (fun y => if Z y = false then g * ds_P a1 u y else 0) n := ds_sm_nn (fun y hy => by
      try dsimp only
      by_cases k : Z y = false
      · rw [if_pos k]
        exact Int.mul_nonneg g0 (ds_P_b gr (by omega) (by omega)).1
      · rw [if_neg k]
        exact Int.le_refl 0)
    omega
  have eq : ∀ x, x < 12 → ds_xt n M x = Z x := by
    intro x hx
    by_cases c : x < n
    · rw [ds_xt_in c]
      cases h : Z x
      · exact ds_nt (fun z => by have := ((hM x).mp z).2; rw [h] at this; exact absurd this (by decide))
      · exact (hM x).mpr ⟨c, h⟩
    · by_cases h10 : x < 10
      · rw [ds_xt_o (by omega) h10, zo x (by omega) h10]
      · by_cases e : x = 10
        · rw [e, ds_xt_10 hn, z10]
        · have : x = 11 := by omega
          rw [this, ds_xt_11 hn, z11]
  have eM : ds_cv n Z (ds_C n a1 a2 a3 g p) = ds_sm (fun x => ds_C n a1 a2 a3 g p 10 x) n - 2 * ds_v n a1 a2 g p M := by
    rw [← ds_cv_cg eq, ds_cv_al gr al]
  refine ⟨al, fun T aT => ?_⟩
  have eT := ds_cv_al (g := g) (p := p) gr aT
  obtain ⟨q1, q2⟩ := hZ (ds_xt n T) (ds_xt_10 hn) (ds_xt_11 hn)
  refine ⟨by omega, fun e u hu => ?_⟩
  have hun := (aT u hu).1
  exact (hM u).mpr ⟨hun, q2 (by omega) u (by omega) (Or.inl hun) (by rw [ds_xt_in hun]; exact hu)⟩
end
section
/-! the walk of cut -/
def ds_vs (n : Nat) (R : Nat → Nat → Int) (V : Nat → Bool) : Prop := V 10 = true ∧ V 11 = false ∧ ∀ x y, x < 12 → y < 12 → V x = true → ds_nd n y → 0 < R x y → V y = true
def ds_cI (n : Nat) (C : Nat → Nat → Int) (x3 : Int32) (i : Nat) (a4 a5 : Nat → Int32) : Prop :=
  ∃ R : Nat → Nat → Int, ds_ar a4 R ∧ ds_bd R ∧ (∃ D : Int, ∀ S : Nat → Bool, S 10 = true → S 11 = false → ds_cv n S R = ds_cv n S C - D) ∧
    ((x3 = 0 ∧ ∃ V, ds_vs n R V) ∨ (x3 = 1 ∧ ∃ (L : Nat) (p h : Nat → Nat), ds_go n R L p h (1872 - (i : Int)) ∧ ∀ j, j < L → a5 (p j) = nI (p (j + 1))))
theorem ds_c14 {post : St2 → Prop} {n : Nat} {c t b s x3 : Int32} {a1 a2 a3 a4 a5 a6 a7 : Nat → Int32} {C : Nat → Nat → Int} (hn : n ≤ 10) (hI0 : ds_cI n C x3 0 a4 a5)
    (H : ∀ (R : Nat → Nat → Int) (D : Int) (V : Nat → Bool) (a4' a5' a6' : Nat → Int32), ds_ar a4' R → ds_bd R → (∀ S : Nat → Bool, S 10 = true → S 11 = false → ds_cv n S R = ds_cv n S C - D) → ds_vs n R V → ∃ fu, wX_cut_44 post (nI n) c t b s fu 0 a1 a2 a3 a4' a5' a6' a7) :
    ∃ fu, wX_cut_14 post fu x3 0 (nI n) c t b s a1 a2 a3 a4 a5 a6 a7 := by
  refine loop_m (σ := Int32 × Nat × (Nat → Int32) × (Nat → Int32) × (Nat → Int32)) (fun m s' => wX_cut_14 post m s'.1 (nI s'.2.1) (nI n) c t b s a1 a2 a3 s'.2.2.1 s'.2.2.2.1 s'.2.2.2.2 a7)
    (fun s' => s'.2.1 ≤ 1872 ∧ ds_cI n C s'.1 s'.2.1 s'.2.2.1 s'.2.2.2.1) (fun s' => 1872 - s'.2.1) ?_ (x3, 0, a4, a5, a6) ⟨by show 0 ≤ 1872; omega, hI0⟩
  intro m s' hI hw
  obtain ⟨y3, i, b4, b5, b6⟩ := s'
  obtain ⟨hi', hc⟩ := hI
  have hi : i ≤ 1872 := hi'
  obtain ⟨R, ar, bd, ⟨D, hD⟩, hx⟩ := hc
  have ar2 : ds_ar b4 R := ar
  rcases hx with ⟨hx, V, hV⟩ | ⟨hx, L, p, h, go, h5⟩
  · have e3 : y3 = 0 := hx
    subst e3
    exact pk_le 4000 i (fun _ => H R D V b4 b5 b6 ar2 bd hD hV) (fun _ => br_t rfl (H R D V b4 b5 b6 ar2 bd hD hV))
  · have e3 : y3 = 1 := hx
    subst e3
    have hB := ds_go_B go
    have i2 : i < 1872 := by
      have : (0 : Int) < 1872 - (i : Int) := hB
      omega
    have go2 : ds_go n R L p h (1872 - (i : Int)) := go
    have h52 : ∀ j, j < L → b5 (p j) = nI (p (j + 1)) := h5
    refine pk_le 4000 i (fun z => absurd z (by omega)) (fun _ => br_f (show ¬ (1 : Int32) = 0 by decide) ?_)
    refine ds_send ar2 bd go2.2.2.1 go2.2.2.2.1 h52 (fun a4' R' ar' au => ?_)
    have hD' : ∃ D : Int, ∀ S : Nat → Bool, S 10 = true → S 11 = false → ds_cv n S R' = ds_cv n S C - D := by
      obtain ⟨d, hd⟩ := au.2.2.2
      refine ⟨D + d, fun S s1 s2 => ?_⟩
      have e1 := hd S s1 s2
      have e2 := hD S s1 s2
      omega
    refine ds_findWay hn ar' au.1 (fun a5' a6' hV => ?_) (fun a5' a6' hw2 => ?_)
    · exact nm_r (nI_1 i) (hw (0, i + 1, a4', a5', a6') ⟨by show i + 1 ≤ 1872; omega, R', ar', au.1, hD', Or.inl ⟨rfl, hV⟩⟩ (by show 1872 - (i + 1) < 1872 - i; omega))
    · obtain ⟨h', L', p', va', h10', wy', lv', h5'⟩ := hw2
      obtain ⟨h2, go'⟩ := ds_go_s go2 au va' h10' wy' lv'
      have eB : (1872 - (i : Int)) - 1 = 1872 - ((i + 1 : Nat) : Int) := by omega
      rw [eB] at go'
      exact nm_r (nI_1 i) (hw (1, i + 1, a4', a5', a6') ⟨by show i + 1 ≤ 1872; omega, R', ar', au.1, hD', Or.inr ⟨rfl, L', p', h2, go', h5'⟩⟩ (by show 1872 - (i + 1) < 1872 - i; omega))
theorem ds_cut {post : St2 → Prop} {n : Nat} {c t b s : Int32} {a1 a2 a3 a4 a5 a6 a7 : Nat → Int32} {g p : Int} (gr : ds_gr n a1 a2 a3) (g0 : 0 ≤ g) (g1 : g ≤ 20) (p0 : 0 ≤ p) (p1 : p ≤ 2000)
    (H : ∀ m a4' a5' a6' a7', ds_op n a1 a2 a3 g p (ds_bt m) → post (nI n, m, t, b, s, a1, a2, a3, a4', a5', a6', a7')) :
    wpX_cut post (nI n, c, t, b, s, a1, a2, a3, a4, a5, a6, a7) (ds_i g) (ds_i p) := by
  have hn := gr.1.2
  have fin : ∀ (R : Nat → Nat → Int) (D : Int) (V : Nat → Bool) (a4' a5' a6' : Nat → Int32), ds_ar a4' R → ds_bd R → (∀ S : Nat → Bool, S 10 = true → S 11 = false → ds_cv n S R = ds_cv n S (ds_C n a1 a2 a3 g p) - D) → ds_vs n R V → ∃ fu, wX_cut_44 post (nI n) c t b s fu 0 a1 a2 a3 a4' a5' a6' a7 := by
    intro R D V a4' a5' a6' ar bd hD hV
    refine ds_c44 hn ar bd (fun m b6 b7 h11 hc hm hb => H m a4' a5' b6 b7 ?_)
    obtain ⟨v10, v11, vc⟩ := hV
    have tr : ∀ x, decide (¬ b7 x = 0) = true ↔ ¬ b7 x = 0 := fun x => decide_eq_true_iff
    obtain ⟨q1, q2, q3⟩ := ds_minc (n := n) (T := fun x => decide (¬ b7 x = 0)) (V := V) bd hD ((tr 11).mpr h11)
      (fun x y hx hy ty nx hp => (tr x).mpr (hc x y hx hy ((tr y).mp ty) nx hp))
      (fun U u11 uc x hx tx => hm U u11 uc x hx ((tr x).mp tx)) v10 v11 vc (fun x => decide (ds_nd n x ∧ b7 x = 0))
      (fun x hx => by
        rw [decide_eq_true_iff]
        constructor
        · intro z
          exact ⟨z.1, decide_eq_false (fun k => k z.2)⟩
        · intro z
          refine ⟨z.1, ?_⟩
          have := of_decide_eq_false z.2
          exact Decidable.of_not_not this)
    refine ds_cut_op gr g0 g1 p0 p1 q1 q2 (fun x h1 h2 => decide_eq_false (fun z => absurd z.1 (by omega))) q3 (fun i => ?_)
    rw [hb i]
    constructor
    · intro z
      exact ⟨z.1, decide_eq_true ⟨Or.inl z.1, z.2⟩⟩
    · intro z
      exact ⟨z.1, (of_decide_eq_true z.2).2⟩
  unfold wpX_cut
  refine ds_build gr g0 g1 p0 p1 (fun a4' ar => ?_)
  have bd := ds_C_bd gr g0 g1 p0 p1
  have hD : ∃ D : Int, ∀ S : Nat → Bool, S 10 = true → S 11 = false → ds_cv n S (ds_C n a1 a2 a3 g p) = ds_cv n S (ds_C n a1 a2 a3 g p) - D := ⟨0, fun S _ _ => by omega⟩
  refine ds_findWay hn ar bd (fun a5' a6' hV => ?_) (fun a5' a6' hw2 => ?_)
  · exact ds_c14 hn ⟨_, ar, bd, hD, Or.inl ⟨rfl, hV⟩⟩ fin
  · obtain ⟨h', L', p', va', h10', wy', lv', h5'⟩ := hw2
    exact ds_c14 hn ⟨_, ar, bd, hD, Or.inr ⟨rfl, L', p', h', ds_go_0 va' h10' wy' lv' (by omega), h5'⟩⟩ fin
end
section
/-! weight, members, gcd, takeDensity, valueOf -/
theorem ds_addt (z : Int) (e : Int32) : ds_i z + e = ds_i (z + e.toInt) := by
  rw [← ds_iadd, ← ds_toI]
theorem ds_sm_m {f : Nat → Int} {n m : Nat} (hn : n ≤ m) (h : ∀ i, i < m → 0 ≤ f i) : ds_sm f n ≤ ds_sm f m := by
  induction m with
  | zero =>
    have : n = 0 := by omega
    subst this
    exact Int.le_refl _
  | succ m ih =>
    by_cases e : n = m + 1
    · subst e; exact Int.le_refl _
    · rw [ds_sm_s]
      have h1 := ih (by omega) (fun i hi => h i (by omega))
      have h2 := h m (by omega)
      omega
theorem ds_w_b {n : Nat} {a1 a2 a3 : Nat → Int32} (gr : ds_gr n a1 a2 a3) (S : Nat → Bool) : 0 ≤ ds_w n a1 a2 S ∧ ds_w n a1 a2 S ≤ 1100 := by
  have hn := gr.1.2
  have inn : ∀ u, u < n → 0 ≤ ds_sm (fun v => if u < v ∧ S v = true then ds_P a1 u v else 0) n ∧ ds_sm (fun v => if u < v ∧ S v = true then ds_P a1 u v else 0) n ≤ ds_sm (fun v => if u < v then 20 else 0) n := by
    intro u hu
    refine ⟨ds_sm_nn (fun v hv => ?_), ds_sm_le (fun v hv => ?_)⟩
    · try dsimp only
      by_cases c : u < v ∧ S v = true
      · rw [if_pos c]
        exact (ds_P_b gr (by omega) (by omega)).1
      · rw [if_neg c]
        exact Int.le_refl 0
    · try dsimp only
      by_cases c : u < v ∧ S v = true
      · rw [if_pos c, if_pos c.1]
        exact (ds_P_b gr (by omega) (by omega)).2
      · rw [if_neg c]
        split <;> omega
  have i10 : ∀ u, ds_sm (fun v => if u < v then (20 : Int) else 0) n ≤ ds_sm (fun v => if u < v then (20 : Int) else 0) 10 := fun u => ds_sm_m hn (fun v _ => by
    try dsimp only
    split <;> omega)
  have n10 : ∀ u, 0 ≤ ds_sm (fun v => if u < v then (20 : Int) else 0) 10 := fun u => ds_sm_nn (fun v _ => by
    try dsimp only
    split <;> omega)
  constructor
  · refine ds_sm_nn (fun u hu => ?_)
    try dsimp only
    have h1 := (inn u hu).1
    have h2 := (ds_E_b gr (show u < 10 by omega)).1
    split <;> omega
  · have h1 : ds_w n a1 a2 S ≤ ds_sm (fun u => 20 + ds_sm (fun v => if u < v then (20 : Int) else 0) 10) n := ds_sm_le (fun u hu => by
      try dsimp only
      have h1 := (inn u hu).2
      have h2 := (ds_E_b gr (show u < 10 by omega)).2
      have h3 := i10 u
      have h4 := n10 u
      split <;> omega)
    have h2 : ds_sm (fun u => 20 + ds_sm (fun v => if u < v then (20 : Int) else 0) 10) n ≤ ds_sm (fun u => 20 + ds_sm (fun v => if u < v then (20 : Int) else 0) 10) 10 := ds_sm_m hn (fun u _ => by
      try dsimp only
      have := n10 u
      omega)
    have h3 : ds_sm (fun u => 20 + ds_sm (fun v => if u < v then (20 : Int) else 0) 10) 10 = 1100 := by decide +kernel
    omega
theorem ds_k_b (S : Nat → Bool) : 0 ≤ ds_k S ∧ ds_k S ≤ 10 := by
  constructor
  · refine ds_sm_nn (fun v _ => ?_)
    try dsimp only
    split <;> omega
  · have h := ds_sm_cb (f := fun v => if S v = true then (1 : Int) else 0) (n := 10) (c := 1) (fun v _ => by
      try dsimp only
      split <;> omega)
    unfold ds_k
    omega
theorem ds_wt37 {post : Int32 → Prop} {J : Int32 → Int32 → Prop} {n u : Nat} {x c t b s : Int32} {a1 a2 a3 a4 a5 a6 a7 : Nat → Int32} {z : Int} (hn : n ≤ 10) (hu : u < n)
    (H : J (ds_i (z + ds_sm (fun v => if u < v ∧ ds_bt x v = true then ds_P a1 u v else 0) n)) (nI (u + 1))) :
    ∃ fu, wX_weight_37 post J x (nI u) (nI n) c t b s a1 a2 a3 a4 a5 a6 a7 fu (ds_i z) (nI (u + 1)) := by
  refine pk_loop (fun m v s' => wX_weight_37 post J x (nI u) (nI n) c t b s a1 a2 a3 a4 a5 a6 a7 m s' (nI v))
    (fun v s' => u < v ∧ s' = ds_i (z + ds_sm (fun v => if u < v ∧ ds_bt x v = true then ds_P a1 u v else 0) v)) n (u + 1) (ds_i z) (by omega) ⟨by omega, by rw [ds_sm_0 (fun v hv => if_neg (fun k => absurd k.1 (by omega))), Int.add_zero]⟩ ?_ ?_
  · intro m s' hI
    refine pk_le n n (fun _ => nm_r (nI_1 u) ?_) (fun z => absurd z (by omega))
    rw [hI.2]
    exact H
  · intro m v s' hv hI hw
    obtain ⟨k, hI⟩ := hI
    refine pk_le n v (fun z => absurd z (by omega)) (fun _ => ?_)
    refine ds_if (ds_bit1 x (show v < 32 by omega)) (fun hb => ⟨ds_in10 u v (by omega) (by omega), ?_⟩) (fun hb => nm_r (nI_1 v) (hw _ ⟨by omega, ?_⟩))
    · rw [ds_cl10 u v (by omega) (by omega), hI, ds_addt]
      refine nm_e (nm_r (nI_1 v) (hw _ ⟨by omega, ?_⟩))
      rw [ds_sm_s, ← Int.add_assoc, if_pos ⟨k, hb⟩]
      rfl
    · rw [hI, ds_sm_s, if_neg (fun k => hb k.2), Int.add_zero]
theorem ds_weight {post : Int32 → Prop} {n : Nat} {x c t b s : Int32} {a1 a2 a3 a4 a5 a6 a7 : Nat → Int32} (hn : n ≤ 10) (H : post (ds_i (ds_w n a1 a2 (ds_bt x)))) :
    wpX_weight post (nI n, c, t, b, s, a1, a2, a3, a4, a5, a6, a7) x := by
  refine pk_loop (fun m u s' => wX_weight_4 post x (nI n) c t b s a1 a2 a3 a4 a5 a6 a7 m s' (nI u))
    (fun u s' => s' = ds_i (ds_sm (fun u => if ds_bt x u = true then ds_E a2 u + ds_sm (fun v => if u < v ∧ ds_bt x v = true then ds_P a1 u v else 0) n else 0) u)) n 0 0 (by omega) ds_i0 ?_ ?_
  · intro m s' hI
    refine pk_le n n (fun _ => ?_) (fun z => absurd z (by omega))
    rw [hI]
    exact H
  · intro m u s' hu hI hw
    refine pk_le n u (fun z => absurd z (by omega)) (fun _ => ?_)
    refine ds_if (ds_bitz x (show u < 32 by omega)) (fun hb => nm_r (nI_1 u) (hw _ ?_)) (fun hb => ⟨pk_in u 10 (by omega), ?_⟩)
    · rw [hI, ds_sm_s, if_neg (ds_nf hb), Int.add_zero]
    · have hb' : ds_bt x u = true := by
        cases h : ds_bt x u
        · exact absurd h hb
        · rfl
      rw [nI_clamp (show u < 2 ^ 31 by omega), hI, ds_addt]
      refine nm_e (nm_r (nI_1 u) (ds_wt37 hn hu (hw _ ?_)))
      rw [ds_sm_s, if_pos hb', ← Int.add_assoc]
      rfl
theorem ds_bitI (x : Int32) {v : Nat} (hv : v < 32) (z : Int) : ds_i z + ((x >>> (nI v &&& 31)) &&& 1) = ds_i (z + if ds_bt x v = true then 1 else 0) := by
  rw [ds_bit x hv, ← ds_iadd]
  cases ds_bt x v
  · rw [if_neg (by decide), if_neg (by decide), ds_i0]
  · rw [if_pos rfl, if_pos rfl]
    rfl
theorem ds_members {post : Int32 → Prop} {x : Int32} (H : post (ds_i (ds_k (ds_bt x)))) : wpX_members post () x := by
  refine pk_loop (fun m v s' => wX_members_4 post x m s' (nI v)) (fun v s' => s' = ds_i (ds_sm (fun v => if ds_bt x v = true then 1 else 0) v)) 10 0 0 (by omega) ds_i0 ?_ ?_
  · intro m s' hI
    refine pk_le 10 10 (fun _ => ?_) (fun z => absurd z (by omega))
    rw [hI]
    exact H
  · intro m v s' hv hI hw
    refine pk_le 10 v (fun z => absurd z (by omega)) (fun _ => nm_r (by rw [hI]; exact ds_bitI x (by omega) _) (nm_r (nI_1 v) (hw (ds_i (ds_sm (fun v => if ds_bt x v = true then 1 else 0) (v + 1))) rfl)))
theorem ds_size {post : Int32 → Prop} {x : Int32} (H : post (ds_i (ds_k (ds_bt x)))) : wpL_size post () x := by
  refine pk_loop (fun m v s' => wL_size_4 post x m s' (nI v)) (fun v s' => s' = ds_i (ds_sm (fun v => if ds_bt x v = true then 1 else 0) v)) 10 0 0 (by omega) ds_i0 ?_ ?_
  · intro m s' hI
    refine pk_le 10 10 (fun _ => ?_) (fun z => absurd z (by omega))
    rw [hI]
    exact H
  · intro m v s' hv hI hw
    refine pk_le 10 v (fun z => absurd z (by omega)) (fun _ => nm_r (by rw [hI]; exact ds_bitI x (by omega) _) (nm_r (nI_1 v) (hw (ds_i (ds_sm (fun v => if ds_bt x v = true then 1 else 0) (v + 1))) rfl)))
theorem ds_gcd {post : Int32 → Prop} {a k : Nat} (ha : a < 2 ^ 31) (hk : k ≤ 40) (H : post (nI (Nat.gcd a k))) : wpX_gcd post () (nI a) (nI k) := by
  refine loop_m (σ := Nat × Nat × Nat) (fun m s' => wX_gcd_7 post m (nI s'.1) (nI s'.2.1) (nI s'.2.2)) (fun s' => s'.1 < 2 ^ 31 ∧ s'.2.1 + s'.2.2 ≤ 40 ∧ Nat.gcd s'.1 s'.2.1 = Nat.gcd a k) (fun s' => s'.2.1) ?_ (a, k, 0) ⟨ha, hk, rfl⟩
  intro m s' hI hw
  obtain ⟨x, y, i⟩ := s'
  obtain ⟨h1, h2, h3⟩ := hI
  have h1' : x < 2 ^ 31 := h1
  have h2' : y + i ≤ 40 := h2
  have h3' : Nat.gcd x y = Nat.gcd a k := h3
  have done : y = 0 → post (nI x) := fun e => by
    rw [e, Nat.gcd_zero_right] at h3'
    rw [h3']
    exact H
  refine pk_le 40 i (fun z => done (by omega)) (fun z => pk_le y 0 (fun z2 => done (by omega)) (fun z2 => ⟨nI_ne0 z2 (by omega), nm_r (pk_rem h1' z2 (by omega)) (nm_r (nI_1 i) (hw (y, x % y, i + 1) ⟨?_, ?_, ?_⟩ ?_))⟩))
  · show y < 2 ^ 31
    omega
  · show x % y + (i + 1) ≤ 40
    have := Nat.mod_lt x z2
    omega
  · show Nat.gcd y (x % y) = Nat.gcd a k
    rw [Nat.gcd_comm, ← Nat.gcd_rec, Nat.gcd_comm]
    exact h3'
  · show x % y < y
    exact Nat.mod_lt x z2
theorem ds_take {post : St2 → Prop} {n : Nat} {x c t b s : Int32} {a1 a2 a3 a4 a5 a6 a7 : Nat → Int32} (gr : ds_gr n a1 a2 a3) (hk : 0 < ds_k (ds_bt x))
    (H : ∀ tt bb : Nat, Nat.Coprime tt bb → 1 ≤ bb → bb ≤ 10 → tt ≤ 2000 → (bb : Int) * ds_w n a1 a2 (ds_bt x) = (tt : Int) * ds_k (ds_bt x) → post (nI n, c, ds_i tt, ds_i bb, x, a1, a2, a3, a4, a5, a6, a7)) :
    wpX_takeDensity post (nI n, c, t, b, s, a1, a2, a3, a4, a5, a6, a7) x := by
  have wb := ds_w_b gr (ds_bt x)
  have kb := ds_k_b (ds_bt x)
  obtain ⟨W, hW⟩ : ∃ W : Nat, ds_w n a1 a2 (ds_bt x) = (W : Int) := ⟨_, (Int.toNat_of_nonneg wb.1).symm⟩
  obtain ⟨K, hK⟩ : ∃ K : Nat, ds_k (ds_bt x) = (K : Int) := ⟨_, (Int.toNat_of_nonneg kb.1).symm⟩
  rw [hW] at wb
  rw [hK] at kb hk
  rw [hW, hK] at H
  have W1 : W ≤ 1100 := by omega
  have K0 : 0 < K := by omega
  have K1 : K ≤ 10 := by omega
  have G0 : 0 < Nat.gcd W K := Nat.gcd_pos_of_pos_right W K0
  have GK : Nat.gcd W K ≤ K := Nat.le_of_dvd K0 (Nat.gcd_dvd_right W K)
  unfold wpX_takeDensity
  refine ds_weight gr.1.2 ?_
  rw [hW, ← ds_iN]
  refine ds_members ?_
  rw [hK, ← ds_iN]
  refine ds_gcd (by omega) (by omega) ?_
  refine pk_le (Nat.gcd W K) 1 (fun z => ?_) (fun z => ⟨nI_ne0 G0 (by omega), nm_r (pk_div (by omega) G0 (by omega)) ⟨nI_ne0 G0 (by omega), nm_r (pk_div (by omega) G0 (by omega)) ?_⟩⟩)
  · have h := H W K (by show Nat.gcd W K = 1; omega) K0 K1 (by omega) (Int.mul_comm _ _)
    rw [ds_iN W, ds_iN K]
    exact h
  · have e1 : W / Nat.gcd W K * Nat.gcd W K = W := Nat.div_mul_cancel (Nat.gcd_dvd_left W K)
    have e2 : K / Nat.gcd W K * Nat.gcd W K = K := Nat.div_mul_cancel (Nat.gcd_dvd_right W K)
    have b0 : 0 < K / Nat.gcd W K := Nat.div_pos GK G0
    have b1 : K / Nat.gcd W K ≤ K := Nat.div_le_self _ _
    have w1 : W / Nat.gcd W K ≤ W := Nat.div_le_self _ _
    have h := H (W / Nat.gcd W K) (K / Nat.gcd W K) (Nat.coprime_div_gcd_div_gcd G0) b0 (by omega) (by omega) (by
      have : K / Nat.gcd W K * W = W / Nat.gcd W K * K := by
        conv => lhs; rhs; rw [← e1]
        conv => rhs; rhs; rw [← e2]
        rw [Nat.mul_left_comm]
      exact_mod_cast this)
    rw [ds_iN (W / Nat.gcd W K), ds_iN (K / Nat.gcd W K)]
    exact h
theorem ds_value {post : Int32 → Prop} {n : Nat} {x c t b s : Int32} {a1 a2 a3 a4 a5 a6 a7 : Nat → Int32} {g p : Int} (hn : n ≤ 10) (H : post (ds_i (ds_v n a1 a2 g p (ds_bt x)))) :
    wpX_valueOf post (nI n, c, t, b, s, a1, a2, a3, a4, a5, a6, a7) x (ds_i g) (ds_i p) := by
  unfold wpX_valueOf
  refine ds_weight hn (ds_members ?_)
  rw [ds_imul, ds_imul, ds_isub]
  exact H
theorem ds_v_b {n : Nat} {a1 a2 a3 : Nat → Int32} {g p : Int} (gr : ds_gr n a1 a2 a3) (g0 : 0 ≤ g) (g1 : g ≤ 20) (p0 : 0 ≤ p) (p1 : p ≤ 2000) (S : Nat → Bool) : ds_rg (ds_v n a1 a2 g p S) := by
  have wb := ds_w_b gr S
  have kb := ds_k_b S
  have h1 : g * ds_w n a1 a2 S ≤ 20 * 1100 := Int.mul_le_mul g1 wb.2 wb.1 (by omega)
  have h2 : 0 ≤ g * ds_w n a1 a2 S := Int.mul_nonneg g0 wb.1
  have h3 : p * ds_k S ≤ 2000 * 10 := Int.mul_le_mul p1 kb.2 kb.1 (by omega)
  have h4 : 0 ≤ p * ds_k S := Int.mul_nonneg p0 kb.1
  unfold ds_v
  exact ⟨by omega, by omega⟩
end
section
/-! solve: the price rises from cut to cut -/
theorem ds_dk {b t b' t' wT kT wS kS : Int} (hb : 0 < b) (hb' : 0 < b') (kS0 : 0 < kS) (e' : b' * wS = t' * kS) (pos : 0 < b * wS - t * kS) (le : b * wT - t * kT ≤ b * wS - t * kS) (pT : 0 < b' * wT - t' * kT) : kT < kS := by
  have s1 : b' * (b * wS - t * kS) = (b * t' - t * b') * kS := by grind
  have s2 : 0 < b' * (b * wS - t * kS) := Int.mul_pos hb' pos
  have s3 : b' * (b * wT - t * kT) ≤ b' * (b * wS - t * kS) := Int.mul_le_mul_of_nonneg_left le (by omega)
  have s4 : b' * (b * wT - t * kT) = (b * t' - t * b') * kT + b * (b' * wT - t' * kT) := by grind
  have s5 : 0 < b * (b' * wT - t' * kT) := Int.mul_pos hb pT
  have d0 : 0 < b * t' - t * b' := by
    rcases Int.lt_or_le 0 (b * t' - t * b') with h | h
    · exact h
    · have := Int.mul_le_mul_of_nonneg_right h (show 0 ≤ kS by omega)
      rw [Int.zero_mul] at this
      omega
  rcases Int.lt_or_le kT kS with h | h
  · exact h
  · have := Int.mul_le_mul_of_nonneg_left h (show 0 ≤ b * t' - t * b' by omega)
    omega
theorem ds_k_ex {S : Nat → Bool} (h : 0 < ds_k S) : ∃ u, u < 10 ∧ S u = true := by
  refine Classical.byContradiction (fun g => ?_)
  have : ds_k S = 0 := ds_sm_0 (fun u hu => if_neg (fun z => g ⟨u, hu, z⟩))
  omega
theorem ds_k_0 {S : Nat → Bool} (h : ¬ 0 < ds_k S) : ∀ u, u < 10 → S u = false := by
  have kb := ds_k_b S
  have z : ds_k S = 0 := by omega
  intro u hu
  have := ds_sm_z (f := fun v => if S v = true then (1 : Int) else 0) (n := 10) (fun v _ => by
    try dsimp only
    split <;> omega) z u hu
  try dsimp only at this
  cases e : S u
  · rfl
  · rw [if_pos e] at this
    omega
theorem ds_w_cg {n : Nat} {a1 a2 : Nat → Int32} {S T : Nat → Bool} (h : ∀ u, u < n → S u = T u) : ds_w n a1 a2 S = ds_w n a1 a2 T := by
  refine ds_sm_congr (fun u hu => ?_)
  try dsimp only
  rw [h u hu, ds_sm_congr (g := fun v => if u < v ∧ T v = true then ds_P a1 u v else 0) (fun v hv => by
    try dsimp only
    rw [h v hv])]
theorem ds_k_cg {S T : Nat → Bool} (h : ∀ u, u < 10 → S u = T u) : ds_k S = ds_k T := ds_sm_congr (fun u hu => by
  try dsimp only
  rw [h u hu])
theorem ds_v_0 {n : Nat} {a1 a2 : Nat → Int32} {g p : Int} (hn : n ≤ 10) {S : Nat → Bool} (h : ∀ u, u < 10 → S u = false) : ds_v n a1 a2 g p S = 0 := by
  unfold ds_v
  rw [ds_w_cg (T := fun _ => false) (fun u hu => h u (by omega)), ds_k_cg (T := fun _ => false) h]
  have e1 : ds_w n a1 a2 (fun _ => false) = 0 := ds_sm_0 (fun u hu => if_neg Bool.false_ne_true)
  have e2 : ds_k (fun _ => false) = 0 := ds_sm_0 (fun u hu => if_neg Bool.false_ne_true)
  rw [e1, e2]
  omega
/-- a smaller set, or the same one -/
theorem ds_k_lt {S T : Nat → Bool} (h : ∀ u, T u = true → S u = true) : ds_k T < ds_k S ∨ ∀ u, u < 10 → T u = S u := by
  by_cases c : ∃ u, u < 10 ∧ S u = true ∧ T u = false
  · obtain ⟨u, hu, su, tu⟩ := c
    refine Or.inl ?_
    have := ds_sm_lt1 (f := fun v => if T v = true then (1 : Int) else 0) (g := fun v => if S v = true then (1 : Int) else 0) hu (fun v _ => by
      try dsimp only
      by_cases k : T v = true
      · rw [if_pos k, if_pos (h v k)]
        omega
      · rw [if_neg k]
        split <;> omega) (by
      try dsimp only
      rw [if_neg (ds_nf tu), if_pos su]
      omega)
    unfold ds_k
    omega
  · refine Or.inr (fun u hu => ?_)
    cases e : T u
    · cases e2 : S u
      · rfl
      · exact absurd ⟨u, hu, e2, e⟩ c
    · exact (h u e).symm
/-- what solve leaves: the greatest density in lowest terms, and the largest set of that density -/
def ds_ds (n : Nat) (a1 a2 a3 : Nat → Int32) (tt bb : Nat) (m : Int32) : Prop :=
  Nat.Coprime tt bb ∧ (1 ≤ bb ∧ bb ≤ 10 ∧ tt ≤ 2000) ∧ ds_op n a1 a2 a3 bb tt (ds_bt m) ∧ ds_v n a1 a2 bb tt (ds_bt m) = 0 ∧ 0 < ds_k (ds_bt m)
def ds_sI (n : Nat) (a1 a2 a3 : Nat → Int32) (x2 : Int32) (i tt bb : Nat) (s : Int32) : Prop :=
  Nat.Coprime tt bb ∧ (1 ≤ bb ∧ bb ≤ 10 ∧ tt ≤ 2000) ∧ ((x2 = 0 ∧ ds_ds n a1 a2 a3 tt bb s) ∨ (x2 = 1 ∧ ∃ S : Nat → Bool, ds_al n a3 S ∧ 0 < ds_k S ∧ (bb : Int) * ds_w n a1 a2 S = (tt : Int) * ds_k S ∧ (∀ T, ds_al n a3 T → 0 < ds_v n a1 a2 bb tt T → ds_k T < ds_k S) ∧ ds_k S + (i : Int) ≤ 10))
theorem ds_s49 {post : Int32 → St2 → Prop} {n tt bb : Nat} {c s : Int32} {a1 a2 a3 a4 a5 a6 a7 : Nat → Int32} (gr : ds_gr n a1 a2 a3)
    (H1 : ∀ (c' : Int32) (tt bb : Nat) (m : Int32) (a4' a5' a6' a7' : Nat → Int32), ds_ds n a1 a2 a3 tt bb m → post 1 (nI n, c', ds_i tt, ds_i bb, m, a1, a2, a3, a4', a5', a6', a7'))
    (hI0 : ds_sI n a1 a2 a3 1 0 tt bb s) : ∃ fu, wX_solve_49 post fu 1 0 (nI n) c (ds_i tt) (ds_i bb) s a1 a2 a3 a4 a5 a6 a7 := by
  have hn := gr.1.2
  refine loop_m (σ := Int32 × Nat × Int32 × Nat × Nat × Int32 × (Nat → Int32) × (Nat → Int32) × (Nat → Int32) × (Nat → Int32))
    (fun m s' => wX_solve_49 post m s'.1 (nI s'.2.1) (nI n) s'.2.2.1 (ds_i s'.2.2.2.1) (ds_i s'.2.2.2.2.1) s'.2.2.2.2.2.1 a1 a2 a3 s'.2.2.2.2.2.2.1 s'.2.2.2.2.2.2.2.1 s'.2.2.2.2.2.2.2.2.1 s'.2.2.2.2.2.2.2.2.2)
    (fun s' => s'.2.1 ≤ 10 ∧ ds_sI n a1 a2 a3 s'.1 s'.2.1 s'.2.2.2.1 s'.2.2.2.2.1 s'.2.2.2.2.2.1) (fun s' => 11 - s'.2.1) ?_ (1, 0, c, tt, bb, s, a4, a5, a6, a7) ⟨by show 0 ≤ 10; omega, hI0⟩
  intro m s' hI hw
  obtain ⟨y2, i, d, u, v, r, b4, b5, b6, b7⟩ := s'
  obtain ⟨hi', hc⟩ := hI
  have hi : i ≤ 10 := hi'
  have hc2 : ds_sI n a1 a2 a3 y2 i u v r := hc
  obtain ⟨co, bnd, hx⟩ := hc2
  rcases hx with ⟨e2, dd⟩ | ⟨e2, S, al, k0, den, smaller, ki⟩
  · subst e2
    exact pk_le 64 i (fun z => absurd z (by omega)) (fun _ => br_t rfl (H1 d u v r b4 b5 b6 b7 dd))
  · subst e2
    have v0 : (0 : Int) ≤ (v : Int) := by omega
    have v1 : (v : Int) ≤ 20 := by omega
    have u0 : (0 : Int) ≤ (u : Int) := by omega
    have u1 : (u : Int) ≤ 2000 := by omega
    have vS : ds_v n a1 a2 v u S = 0 := by
      unfold ds_v
      omega
    refine pk_le 64 i (fun z => absurd z (by omega)) (fun _ => br_f (show ¬ (1 : Int32) = 0 by decide) ?_)
    refine ds_cut (g := (v : Int)) (p := (u : Int)) gr v0 v1 u0 u1 (fun q c4 c5 c6 c7 op => ?_)
    have op : ds_op n a1 a2 a3 v u (ds_bt q) := op
    refine ds_value (g := (v : Int)) (p := (u : Int)) hn ?_
    refine ds_ble (ds_v n a1 a2 v u (ds_bt q)) 0 rfl ds_i0 (ds_v_b gr v0 v1 u0 u1 _) ds_rg0 (fun z => ?_) (fun z => ?_)
    · have up := op.2 S al
      have vq : ds_v n a1 a2 v u (ds_bt q) = 0 := by omega
      have kq : 0 < ds_k (ds_bt q) := by
        obtain ⟨w, w10, sw⟩ := ds_k_ex k0
        have bw := up.2 (by omega) w sw
        rcases Int.lt_or_le 0 (ds_k (ds_bt q)) with g | g
        · exact g
        · have := ds_k_0 (S := ds_bt q) (by omega) w w10
          rw [bw] at this
          exact absurd this (by decide)
      have dd : ds_ds n a1 a2 a3 u v q := ⟨co, bnd, op, vq, kq⟩
      exact br_t rfl (nm_r (nI_1 i) (hw (0, i + 1, q, u, v, q, c4, c5, c6, c7) ⟨by show i + 1 ≤ 10; omega, co, bnd, Or.inl ⟨rfl, dd⟩⟩ (by show 11 - (i + 1) < 11 - i; omega)))
    · have kq : 0 < ds_k (ds_bt q) := by
        rcases Int.lt_or_le 0 (ds_k (ds_bt q)) with g | g
        · exact g
        · have := ds_v_0 (a1 := a1) (a2 := a2) (g := (v : Int)) (p := (u : Int)) hn (ds_k_0 (S := ds_bt q) (by omega))
          omega
      have kl := smaller _ op.1 z
      refine br_f (show ¬ (1 : Int32) = 0 by decide) (ds_take gr kq (fun u' v' co' b1 b2 b3 den' => ?_))
      have sm : ∀ T, ds_al n a3 T → 0 < ds_v n a1 a2 v' u' T → ds_k T < ds_k (ds_bt q) := by
        intro T aT pT
        exact ds_dk (b := (v : Int)) (t := (u : Int)) (b' := (v' : Int)) (t' := (u' : Int)) (wT := ds_w n a1 a2 T) (wS := ds_w n a1 a2 (ds_bt q)) (by omega) (by omega) kq den' z (op.2 T aT).1 pT
      exact nm_r (nI_1 i) (hw (1, i + 1, q, u', v', q, c4, c5, c6, c7) ⟨by show i + 1 ≤ 10; omega, co', ⟨b1, b2, b3⟩, Or.inr ⟨rfl, ds_bt q, op.1, kq, den', sm, by show ds_k (ds_bt q) + ((i + 1 : Nat) : Int) ≤ 10; omega⟩⟩ (by show 11 - (i + 1) < 11 - i; omega))
theorem ds_solve {post : Int32 → St2 → Prop} {n : Nat} {c t b s : Int32} {a1 a2 a3 a4 a5 a6 a7 : Nat → Int32} (gr : ds_gr n a1 a2 a3)
    (H0 : (∀ u, u < n → a3 u = 2) → post 0 (nI n, c, t, b, s, a1, a2, a3, a4, a5, a6, a7))
    (H1 : ∀ (c' : Int32) (tt bb : Nat) (m : Int32) (a4' a5' a6' a7' : Nat → Int32), ds_ds n a1 a2 a3 tt bb m → post 1 (nI n, c', ds_i tt, ds_i bb, m, a1, a2, a3, a4', a5', a6', a7')) :
    wpX_solve post (nI n, c, t, b, s, a1, a2, a3, a4, a5, a6, a7) := by
  have hn := gr.1.2
  refine pk_loop (fun m v s' => wX_solve_4 post (nI n) c t b s a1 a2 a3 a4 a5 a6 a7 m s' (nI v)) (fun v s' => ∀ i, ds_bt s' i = true ↔ (i < v ∧ ¬ a3 i = 2)) n 0 0 (by omega) (fun i => by rw [ds_bt0]; exact ⟨fun z => absurd z (by decide), fun z => absurd z.1 (by omega)⟩) ?_ ?_
  · intro m s' hI
    refine pk_le n n (fun _ => br_c (fun e => H0 (fun u hu => ?_)) (fun e => ?_)) (fun z => absurd z (by omega))
    · have h := hI u
      rw [e, ds_bt0] at h
      refine Decidable.of_not_not (fun g => ?_)
      exact absurd (h.mpr ⟨hu, g⟩) (by decide)
    · have k0 : 0 < ds_k (ds_bt s') := by
        rcases Int.lt_or_le 0 (ds_k (ds_bt s')) with g | g
        · exact g
        · have z := ds_k_0 (S := ds_bt s') (by omega)
          refine absurd (ds_ext (fun i _ => ?_)) e
          rw [ds_bt0]
          by_cases h10 : i < 10
          · exact z i h10
          · exact ds_nt (fun k => absurd ((hI i).mp k).1 (by omega))
      have al : ds_al n a3 (ds_bt s') := fun u hu => (hI u).mp hu
      refine ds_take gr k0 (fun tt bb co b1 b2 b3 den => ds_s49 gr H1 ⟨co, ⟨b1, b2, b3⟩, Or.inr ⟨rfl, ds_bt s', al, k0, den, fun T aT pT => ?_, ?_⟩⟩)
      · rcases ds_k_lt (S := ds_bt s') (T := T) (fun u hu => (hI u).mpr (aT u hu)) with g | g
        · exact g
        · have ew := ds_w_cg (n := n) (a1 := a1) (a2 := a2) (S := T) (T := ds_bt s') (fun u hu => g u (by omega))
          have ek := ds_k_cg g
          unfold ds_v at pT
          rw [ew, ek] at pT
          omega
      · have := (ds_k_b (ds_bt s')).2
        show ds_k (ds_bt s') + ((0 : Nat) : Int) ≤ 10
        omega
  · intro m v s' hv hI hw
    refine pk_le n v (fun z => absurd z (by omega)) (fun _ => ⟨pk_in v 10 (by omega), ?_⟩)
    rw [nI_clamp (show v < 2 ^ 31 by omega)]
    refine br_c (fun g => nm_r (nI_1 v) (hw _ (fun i => ?_))) (fun g => nm_e (nm_r (nI_1 v) (hw _ (fun i => ?_))))
    · rw [hI i]
      constructor
      · intro h
        exact ⟨by omega, h.2⟩
      · intro h
        refine ⟨?_, h.2⟩
        by_cases k : i = v
        · rw [k] at h
          exact absurd g h.2
        · omega
    · rw [ds_bor, ds_sh1 (show v < 32 by omega), Bool.or_eq_true, hI i, decide_eq_true_eq]
      constructor
      · intro h
        rcases h with h | h
        · exact ⟨by omega, h.2⟩
        · rw [h]
          exact ⟨by omega, g⟩
      · intro h
        by_cases k : i = v
        · exact Or.inr k
        · exact Or.inl ⟨by omega, h.2⟩
end
section
/-! what the public methods answer -/
theorem ds_dtop {post : Int32 → St2 → Prop} {n : Nat} {c t b s : Int32} {a1 a2 a3 a4 a5 a6 a7 : Nat → Int32} (gr : ds_gr n a1 a2 a3)
    (H0 : (∀ u, u < n → a3 u = 2) → post (-5) (nI n, c, t, b, s, a1, a2, a3, a4, a5, a6, a7))
    (H1 : ∀ (c' : Int32) (tt bb : Nat) (m : Int32) (a4' a5' a6' a7' : Nat → Int32), ds_ds n a1 a2 a3 tt bb m → post (ds_i tt) (nI n, c', ds_i tt, ds_i bb, m, a1, a2, a3, a4', a5', a6', a7')) :
    wpX_densityTop post (nI n, c, t, b, s, a1, a2, a3, a4, a5, a6, a7) := by
  unfold wpX_densityTop
  exact ds_solve gr (fun h => br_t rfl (H0 h)) (fun c' tt bb m b4 b5 b6 b7 h => br_f (by decide) (H1 c' tt bb m b4 b5 b6 b7 h))
theorem ds_dbot {post : Int32 → St2 → Prop} {n : Nat} {c t b s : Int32} {a1 a2 a3 a4 a5 a6 a7 : Nat → Int32} (gr : ds_gr n a1 a2 a3)
    (H0 : (∀ u, u < n → a3 u = 2) → post (-5) (nI n, c, t, b, s, a1, a2, a3, a4, a5, a6, a7))
    (H1 : ∀ (c' : Int32) (tt bb : Nat) (m : Int32) (a4' a5' a6' a7' : Nat → Int32), ds_ds n a1 a2 a3 tt bb m → post (ds_i bb) (nI n, c', ds_i tt, ds_i bb, m, a1, a2, a3, a4', a5', a6', a7')) :
    wpX_densityBottom post (nI n, c, t, b, s, a1, a2, a3, a4, a5, a6, a7) := by
  unfold wpX_densityBottom
  exact ds_solve gr (fun h => br_t rfl (H0 h)) (fun c' tt bb m b4 b5 b6 b7 h => br_f (by decide) (H1 c' tt bb m b4 b5 b6 b7 h))
theorem ds_dset {post : Int32 → St2 → Prop} {n : Nat} {c t b s : Int32} {a1 a2 a3 a4 a5 a6 a7 : Nat → Int32} (gr : ds_gr n a1 a2 a3)
    (H0 : (∀ u, u < n → a3 u = 2) → post 0 (nI n, c, t, b, s, a1, a2, a3, a4, a5, a6, a7))
    (H1 : ∀ (c' : Int32) (tt bb : Nat) (m : Int32) (a4' a5' a6' a7' : Nat → Int32), ds_ds n a1 a2 a3 tt bb m → post m (nI n, c', ds_i tt, ds_i bb, m, a1, a2, a3, a4', a5', a6', a7')) :
    wpX_densest post (nI n, c, t, b, s, a1, a2, a3, a4, a5, a6, a7) := by
  unfold wpX_densest
  exact ds_solve gr (fun h => br_t rfl (H0 h)) (fun c' tt bb m b4 b5 b6 b7 h => br_f (by decide) (H1 c' tt bb m b4 b5 b6 b7 h))
theorem ds_price {post : Int32 → Prop} {g p : Int} (g0 : 1 ≤ g) (g1 : g ≤ 20) (p0 : 0 ≤ p) (p1 : p ≤ 2000) (H : post 0) : wpX_badPrice post () (ds_i g) (ds_i p) := by
  refine ds_blt g 1 rfl (by decide) ⟨by omega, by omega⟩ ⟨by omega, by omega⟩ (fun z => absurd z (by omega)) (fun _ => ?_)
  refine ds_blt 20 g (by decide) rfl ⟨by omega, by omega⟩ ⟨by omega, by omega⟩ (fun z => absurd z (by omega)) (fun _ => ?_)
  refine ds_blt p 0 rfl (by decide) ⟨by omega, by omega⟩ ⟨by omega, by omega⟩ (fun z => absurd z (by omega)) (fun _ => ?_)
  exact ds_ble p 2000 rfl (by decide) ⟨by omega, by omega⟩ ⟨by omega, by omega⟩ (fun _ => H) (fun z => absurd z (by omega))
theorem ds_excess {post : Int32 → St2 → Prop} {n : Nat} {c t b s : Int32} {a1 a2 a3 a4 a5 a6 a7 : Nat → Int32} {g p : Int} (gr : ds_gr n a1 a2 a3) (g0 : 1 ≤ g) (g1 : g ≤ 20) (p0 : 0 ≤ p) (p1 : p ≤ 2000)
    (H : ∀ m a4' a5' a6' a7', ds_op n a1 a2 a3 g p (ds_bt m) → post (ds_i (ds_v n a1 a2 g p (ds_bt m))) (nI n, m, t, b, s, a1, a2, a3, a4', a5', a6', a7')) :
    wpX_excess post (nI n, c, t, b, s, a1, a2, a3, a4, a5, a6, a7) (ds_i g) (ds_i p) := by
  unfold wpX_excess
  refine ds_price g0 g1 p0 p1 (br_t rfl ?_)
  refine ds_cut gr (by omega) g1 p0 p1 (fun m b4 b5 b6 b7 op => ?_)
  exact ds_value gr.1.2 (H m b4 b5 b6 b7 op)
theorem ds_excSet {post : Int32 → St2 → Prop} {n : Nat} {c t b s : Int32} {a1 a2 a3 a4 a5 a6 a7 : Nat → Int32} {g p : Int} (gr : ds_gr n a1 a2 a3) (g0 : 1 ≤ g) (g1 : g ≤ 20) (p0 : 0 ≤ p) (p1 : p ≤ 2000)
    (H : ∀ m a4' a5' a6' a7', ds_op n a1 a2 a3 g p (ds_bt m) → post m (nI n, m, t, b, s, a1, a2, a3, a4', a5', a6', a7')) :
    wpX_excessSet post (nI n, c, t, b, s, a1, a2, a3, a4, a5, a6, a7) (ds_i g) (ds_i p) := by
  unfold wpX_excessSet
  refine ds_price g0 g1 p0 p1 (br_t rfl ?_)
  exact ds_cut gr (by omega) g1 p0 p1 (fun m b4 b5 b6 b7 op => H m b4 b5 b6 b7 op)
/-! the answers are the only ones -/
theorem ds_op_u {n : Nat} {a1 a2 a3 : Nat → Int32} {g p : Int} {S T : Nat → Bool} (h1 : ds_op n a1 a2 a3 g p S) (h2 : ds_op n a1 a2 a3 g p T) : ds_v n a1 a2 g p S = ds_v n a1 a2 g p T ∧ ∀ u, S u = T u := by
  have k1 := h1.2 T h2.1
  have k2 := h2.2 S h1.1
  have e : ds_v n a1 a2 g p S = ds_v n a1 a2 g p T := by omega
  refine ⟨e, fun u => ?_⟩
  cases s : S u
  · cases t : T u
    · rfl
    · rw [k1.2 e.symm u t] at s
      exact s.symm
  · exact (k2.2 e u s).symm
theorem ds_cross {b t b' t' w k : Int} (hb : 0 < b) (k0 : 0 < k) (e : b * w - t * k = 0) (le : b' * w - t' * k ≤ 0) : b' * t ≤ b * t' := by
  have s1 : b * (b' * w - t' * k) = (b' * t - b * t') * k := by grind
  have s2 : b * (b' * w - t' * k) ≤ b * 0 := Int.mul_le_mul_of_nonneg_left le (by omega)
  rw [Int.mul_zero, s1] at s2
  rcases Int.lt_or_le (b * t') (b' * t) with h | h
  · have := Int.mul_pos (show 0 < b' * t - b * t' by omega) k0
    omega
  · exact h
theorem ds_ds_u {n tt bb tt' bb' : Nat} {a1 a2 a3 : Nat → Int32} {m m' : Int32} (h : ds_ds n a1 a2 a3 tt bb m) (h' : ds_ds n a1 a2 a3 tt' bb' m') : tt = tt' ∧ bb = bb' ∧ m = m' := by
  obtain ⟨co, ⟨b1, b2, b3⟩, op, v0, k0⟩ := h
  obtain ⟨co', ⟨b1', b2', b3'⟩, op', v0', k0'⟩ := h'
  have l1 : (bb' : Int) * tt ≤ bb * tt' := by
    have := (op'.2 _ op.1).1
    rw [v0'] at this
    exact ds_cross (by omega) k0 v0 this
  have l2 : (bb : Int) * tt' ≤ bb' * tt := by
    have := (op.2 _ op'.1).1
    rw [v0] at this
    exact ds_cross (by omega) k0' v0' this
  have e : bb' * tt = bb * tt' := by
    have : (bb' : Int) * tt = bb * tt' := by omega
    exact_mod_cast this
  have d1 : bb ∣ bb' := Nat.Coprime.dvd_of_dvd_mul_right (Nat.Coprime.symm co) ⟨tt', e⟩
  have d2 : bb' ∣ bb := Nat.Coprime.dvd_of_dvd_mul_right (Nat.Coprime.symm co') ⟨tt, e.symm⟩
  have eb : bb = bb' := Nat.dvd_antisymm d1 d2
  have et : tt = tt' := by
    rw [← eb] at e
    exact Nat.eq_of_mul_eq_mul_left (by omega) e
  refine ⟨et, eb, ?_⟩
  rw [← eb, ← et] at op'
  exact ds_ext (fun i _ => (ds_op_u op op').2 i)
/-! masks -/
theorem ds_full : ∀ n, n < 11 → ∀ i, i < 32 → ds_bt (((1 : Int32) <<< (nI n &&& 31)) - 1) i = decide (i < n) := by decide +kernel
theorem ds_fullB {n : Nat} (hn : n ≤ 10) (i : Nat) : ds_bt (((1 : Int32) <<< (nI n &&& 31)) - 1) i = decide (i < n) := by
  by_cases h : i < 32
  · exact ds_full n (by omega) i h
  · rw [ds_big (by omega), decide_eq_false (by omega)]
theorem ds_pw : ∀ n, n < 11 → ((1 : Int32) <<< (nI n &&& 31)) = nI (2 ^ n) := by decide +kernel
theorem ds_small {m : Int32} {n : Nat} (hn : n ≤ 10) (h : ∀ i, ds_bt m i = true → i < n) : m < ((1 : Int32) <<< (nI n &&& 31)) := by
  have h1 : m.toBitVec.toNat < 2 ^ n := Nat.lt_pow_two_of_testBit _ (fun i hi => ds_nt (fun z => absurd (h i z) (by omega)))
  have h2 : 2 ^ n ≤ 2 ^ 10 := Nat.pow_le_pow_right (by omega) hn
  have h3 : m = nI m.toBitVec.toNat := by
    apply Int32.toBitVec_inj.mp
    show m.toBitVec = BitVec.ofNat 32 m.toBitVec.toNat
    simp
  rw [ds_pw n (by omega), h3]
  exact nI_lt h1 (by omega)
end
section
/-! the law -/
theorem ds_cell {post : Int32 → Prop} {L : Nat} {xs : Nat → Int32} (hL : L ≤ 260) (k : Nat) (hk : k < 10) (H : ∀ r, post r) : wpL_cell post L xs () (nI k) :=
  pk_le L k (fun _ => H 0) (fun z => ⟨pk_in k L z, H _⟩)
theorem ds_bad {post : Int32 → Prop} {n u : Nat} {c t b s : Int32} {a1 a2 a3 a4 a5 a6 a7 : Nat → Int32} (hn : n ≤ 10) (hu : u < n) (H : post 0) : wpX_bad post (nI n, c, t, b, s, a1, a2, a3, a4, a5, a6, a7) (nI u) :=
  pk_lt u 0 (fun z => absurd z (by omega)) (fun _ => pk_lt u n (fun _ => H) (fun z => absurd z (by omega)))
theorem ds_mode {post : Int32 → St2 → Prop} {n u : Nat} {c t b s : Int32} {a1 a2 a3 a4 a5 a6 a7 : Nat → Int32} (hn : n ≤ 10) (hu : u < n) (H : ∀ r, post r (nI n, c, t, b, s, a1, a2, upd a3 u 2, a4, a5, a6, a7)) :
    wpX_mode post (nI n, c, t, b, s, a1, a2, a3, a4, a5, a6, a7) (nI u) 2 := by
  unfold wpX_mode
  refine ds_bad hn hu (br_t rfl (br_f (by decide) (br_t (by decide) ⟨pk_in u 10 (by omega), nm_e ⟨pk_in u 10 (by omega), nm_r (by rw [nI_clamp (show u < 2 ^ 31 by omega)]) (H _)⟩⟩)))
theorem ds_bonus {post : Int32 → St2 → Prop} {n u w : Nat} {c t b s : Int32} {a1 a2 a3 a4 a5 a6 a7 : Nat → Int32} (hn : n ≤ 10) (hu : u < n) (hw : w ≤ 20) (H : ∀ r, post r (nI n, c, t, b, s, a1, upd a2 u (nI w), a3, a4, a5, a6, a7)) :
    wpX_bonus post (nI n, c, t, b, s, a1, a2, a3, a4, a5, a6, a7) (nI u) (nI w) := by
  unfold wpX_bonus
  refine ds_bad hn hu (br_t rfl (pk_lt w 0 (fun z => absurd z (by omega)) (fun _ => pk_le w 20 (fun _ => ⟨pk_in u 10 (by omega), nm_e ⟨pk_in u 10 (by omega), nm_r (by rw [nI_clamp (show u < 2 ^ 31 by omega)]) (H _)⟩⟩) (fun z => absurd z (by omega)))))
theorem ds_edge {post : Int32 → St2 → Prop} {n u v w : Nat} {c t b s : Int32} {a1 a2 a3 a4 a5 a6 a7 : Nat → Int32} (hn : n ≤ 10) (hu : u < n) (hv : v < n) (hne : u ≠ v) (hw : w ≤ 20)
    (H : ∀ r, post r (nI n, c, t, b, s, upd (upd a1 (u * 10 + v) (nI w)) (v * 10 + u) (nI w), a2, a3, a4, a5, a6, a7)) :
    wpX_edge post (nI n, c, t, b, s, a1, a2, a3, a4, a5, a6, a7) (nI u) (nI v) (nI w) := by
  unfold wpX_edge
  refine ds_bad hn hu (br_t rfl (ds_bad hn hv (br_t rfl (pk_eq u v (fun z => absurd z hne) (fun _ => pk_lt w 0 (fun z => absurd z (by omega)) (fun _ => pk_le w 20 (fun _ => ?_) (fun z => absurd z (by omega))))))))
  rw [ds_cl10 u v (by omega) (by omega), ds_cl10 v u (by omega) (by omega)]
  exact ⟨ds_in10 u v (by omega) (by omega), nm_e ⟨ds_in10 u v (by omega) (by omega), nm_e ⟨ds_in10 v u (by omega) (by omega), nm_e (H _)⟩⟩⟩
theorem ds_rm (x : Int32) {d : Nat} (d0 : 0 < d) (hd : d < 2 ^ 31) : ∃ j, j < d ∧ (x &&& 2147483647) - (x &&& 2147483647) / nI d * nI d = nI j := by
  obtain ⟨j, hj, e⟩ := pk_andE x (m := 2147483647) 31 (by decide)
  rw [e]
  exact ⟨j % d, Nat.mod_lt _ d0, pk_rem hj d0 hd⟩
theorem ds_gr_b {n u w : Nat} {a1 a2 a3 : Nat → Int32} (gr : ds_gr n a1 a2 a3) (hw : w ≤ 20) : ds_gr n a1 (upd a2 u (nI w)) a3 := by
  obtain ⟨h1, h2, h3, h4, h5, h6⟩ := gr
  refine ⟨h1, h2, fun k hk => ?_, h4, h5, h6⟩
  by_cases e : k = u
  · rw [e, pk_us, nI_toInt (by omega)]
    omega
  · rw [pk_un e]
    exact h3 k hk
theorem ds_gr_e {n u v w : Nat} {a1 a2 a3 : Nat → Int32} (gr : ds_gr n a1 a2 a3) (hu : u < n) (hv : v < n) (hne : u ≠ v) (hw : w ≤ 20) : ds_gr n (upd (upd a1 (u * 10 + v) (nI w)) (v * 10 + u) (nI w)) a2 a3 := by
  obtain ⟨h1, h2, h3, h4, h5, h6⟩ := gr
  have val : ∀ k, (k = u * 10 + v ∨ k = v * 10 + u) → upd (upd a1 (u * 10 + v) (nI w)) (v * 10 + u) (nI w) k = nI w := by
    intro k hk
    by_cases e : k = v * 10 + u
    · rw [e, pk_us]
    · rw [pk_un e]
      rcases hk with g | g
      · rw [g, pk_us]
      · exact absurd g e
  have old : ∀ k, ¬ (k = u * 10 + v ∨ k = v * 10 + u) → upd (upd a1 (u * 10 + v) (nI w)) (v * 10 + u) (nI w) k = a1 k := by
    intro k hk
    rw [pk_un (fun e => hk (Or.inr e)), pk_un (fun e => hk (Or.inl e))]
  refine ⟨h1, fun k hk => ?_, h3, h4, fun p q hp hq => ?_, fun p hp => ?_⟩
  · by_cases e : k = u * 10 + v ∨ k = v * 10 + u
    · rw [val k e, nI_toInt (by omega)]
      omega
    · rw [old k e]
      exact h2 k hk
  · by_cases e : p * 10 + q = u * 10 + v ∨ p * 10 + q = v * 10 + u
    · rw [val _ e, val _ (by omega)]
    · rw [old _ e, old _ (by omega)]
      exact h5 p q hp hq
  · rw [old _ (by omega)]
    exact h6 p hp
theorem ds_l289 {L : Nat} {xs : Nat → Int32} {n tt bb kc ks : Nat} {x3 m c t b s : Int32} {a1 a2 a3 a4 a5 a6 a7 : Nat → Int32} (gr : ds_gr n a1 a2 a3) (dd : ds_ds n a1 a2 a3 tt bb m) (hb : ∀ i, ds_bt x3 i = true ↔ (i < n ∧ a3 i = 2)) :
    ∃ fu, wL_law_289 (fun r => r = 1) L xs (nI n) x3 (ds_i tt) (ds_i bb) m kc ks (nI n) c t b s a1 a2 a3 a4 a5 a6 a7 fu 0 := by
  have hn := gr.1.2
  obtain ⟨co, ⟨b1, b2, b3⟩, op, v0, k0⟩ := dd
  refine pk_loop (σ := Unit) (fun f v _ => wL_law_289 (fun r => r = 1) L xs (nI n) x3 (ds_i tt) (ds_i bb) m kc ks (nI n) c t b s a1 a2 a3 a4 a5 a6 a7 f (nI v)) (fun _ _ => True) n 0 () (by omega) trivial ?_ ?_
  · intro f _ _
    exact pk_le n n (fun _ => rfl) (fun z => absurd z (by omega))
  · intro f v _ hv _ hw
    refine pk_le n v (fun z => absurd z (by omega)) (fun _ => nm_e ?_)
    refine ds_if (ds_bitz x3 (show v < 32 by omega)) (fun h0 => br_c (fun e => nm_r (nI_1 v) (hw () trivial)) (fun e => ds_size (ds_weight hn ?_))) (fun h1 => nm_r (nI_1 v) (hw () trivial))
    have al : ds_al n a3 (ds_bt (m ^^^ ((1 : Int32) <<< (nI v &&& 31)))) := by
      intro u hu
      rw [ds_bxor, ds_sh1 (show v < 32 by omega)] at hu
      by_cases e : u = v
      · rw [e]
        refine ⟨hv, fun h3 => ?_⟩
        have := (hb v).mpr ⟨hv, h3⟩
        rw [h0] at this
        exact absurd this (by decide)
      · rw [decide_eq_false e, Bool.xor_false] at hu
        exact op.1 u hu
    have le := (op.2 _ al).1
    rw [v0] at le
    have wb := ds_w_b gr (ds_bt (m ^^^ ((1 : Int32) <<< (nI v &&& 31))))
    have kb := ds_k_b (ds_bt (m ^^^ ((1 : Int32) <<< (nI v &&& 31))))
    unfold ds_v at le
    rw [ds_imul, ds_imul]
    generalize ds_w n a1 a2 (ds_bt (m ^^^ ((1 : Int32) <<< (nI v &&& 31)))) = w at *
    generalize ds_k (ds_bt (m ^^^ ((1 : Int32) <<< (nI v &&& 31)))) = k at *
    have m1 : w * (bb : Int) ≤ 1100 * 20 := Int.mul_le_mul wb.2 (by omega) (by omega) (by omega)
    have m2 : 0 ≤ w * (bb : Int) := Int.mul_nonneg wb.1 (by omega)
    have m3 : k * (tt : Int) ≤ 10 * 2000 := Int.mul_le_mul kb.2 (by omega) (by omega) (by omega)
    have m4 : 0 ≤ k * (tt : Int) := Int.mul_nonneg kb.1 (by omega)
    have c1 := Int.mul_comm w (bb : Int)
    have c2 := Int.mul_comm k (tt : Int)
    exact ds_ble (w * (bb : Int)) (k * (tt : Int)) rfl rfl ⟨by omega, by omega⟩ ⟨by omega, by omega⟩ (fun _ => nm_r (nI_1 v) (hw () trivial)) (fun z => absurd z (by omega))
theorem ds_l78 {L : Nat} {xs : Nat → Int32} {n kc ks : Nat} {x3 c t b s : Int32} {a1 a2 a3 a4 a5 a6 a7 : Nat → Int32} (hL : L ≤ 260) (gr0 : ds_gr n a1 a2 a3) (hb : ∀ i, ds_bt x3 i = true ↔ (i < n ∧ a3 i = 2)) :
    ∃ fu, wL_law_78 (fun r => r = 1) L xs (nI n) x3 kc ks fu 3 (nI n) c t b s a1 a2 a3 a4 a5 a6 a7 := by
  have hn1 := gr0.1.1
  have hn := gr0.1.2
  refine loop_m (σ := Nat × (Nat → Int32) × (Nat → Int32)) (fun f s' => wL_law_78 (fun r => r = 1) L xs (nI n) x3 kc ks f (nI s'.1) (nI n) c t b s s'.2.1 s'.2.2 a3 a4 a5 a6 a7)
    (fun s' => s'.1 ≤ L + 3 ∧ ds_gr n s'.2.1 s'.2.2 a3) (fun s' => L + 3 - s'.1) ?_ (3, a1, a2) ⟨by show 3 ≤ L + 3; omega, gr0⟩
  intro f s' hI hw
  obtain ⟨k, e1, e2⟩ := s'
  obtain ⟨hk', gr'⟩ := hI
  have hk : k ≤ L + 3 := hk'
  have gr : ds_gr n e1 e2 a3 := gr'
  refine pk_le L (k + 2) (fun _ => ?_) (fun z => ?_) rfl (nI_add k 2)
  · have none : (∀ u, u < n → a3 u = 2) → ∀ tt bb m, ds_ds n e1 e2 a3 tt bb m → False := by
      intro hall tt bb m dd
      obtain ⟨u, _, hu⟩ := ds_k_ex dd.2.2.2.2
      have := dd.2.2.1.1 u hu
      exact this.2 (hall u this.1)
    by_cases hall : ∀ u, u < n → a3 u = 2
    · have em : x3 = (((1 : Int32) <<< (nI n &&& 31)) - 1) := ds_ext (fun i _ => by
        rw [ds_fullB hn]
        by_cases h : i < n
        · rw [decide_eq_true h]
          exact (hb i).mpr ⟨h, hall i h⟩
        · rw [decide_eq_false h]
          exact ds_nt (fun q => h ((hb i).mp q).1))
      refine ds_dtop gr (fun _ => ?_) (fun c' tt bb m _ _ _ _ dd => absurd dd (fun q => none hall tt bb m q))
      refine ds_dbot gr (fun _ => ?_) (fun c' tt bb m _ _ _ _ dd => absurd dd (fun q => none hall tt bb m q))
      refine ds_dset gr (fun _ => ?_) (fun c' tt bb m _ _ _ _ dd => absurd dd (fun q => none hall tt bb m q))
      exact br_t em (br_t rfl (br_t rfl (br_t rfl rfl)))
    · have nm : ¬ x3 = (((1 : Int32) <<< (nI n &&& 31)) - 1) := fun em => hall (fun u hu => by
        have : ds_bt x3 u = true := by
          rw [em, ds_fullB hn]
          exact decide_eq_true hu
        exact ((hb u).mp this).2)
      refine ds_dtop gr (fun h => absurd h hall) (fun c1 t1 b1 m1 _ _ _ _ d1 => ?_)
      refine ds_dbot gr (fun h => absurd h hall) (fun c2 t2 b2 m2 _ _ _ _ d2 => ?_)
      refine ds_dset gr (fun h => absurd h hall) (fun c3 t3 b3 m3 _ _ _ _ d3 => ?_)
      obtain ⟨q1, q2, q3⟩ := ds_ds_u d1 d3
      obtain ⟨r1, r2, r3⟩ := ds_ds_u d2 d3
      subst q1
      subst r2
      have dd := d3
      obtain ⟨co, ⟨bn1, bn2, bn3⟩, op, v0, k0⟩ := d3
      have m0 : ¬ m3 = 0 := fun e => by
        obtain ⟨u, _, hu⟩ := ds_k_ex k0
        rw [e, ds_bt0] at hu
        exact absurd hu (by decide)
      have mb : m3 &&& x3 = 0 := ds_ext (fun i _ => by
        rw [ds_band, ds_bt0]
        cases h : ds_bt m3 i
        · rfl
        · have h2 := op.1 i h
          have h3 : ds_bt x3 i = false := ds_nt (fun q => h2.2 ((hb i).mp q).2)
          rw [h3]
          rfl)
      refine br_f nm (br_f m0 (br_t mb (br_t (ds_small hn (fun i h => (op.1 i h).1)) (ds_weight hn (ds_size (br_t ?_ ?_))))))
      · have v1 : (b2 : Int) * ds_w n e1 e2 (ds_bt m3) - (t1 : Int) * ds_k (ds_bt m3) = 0 := v0
        have v2 : (b2 : Int) * ds_w n e1 e2 (ds_bt m3) = (t1 : Int) * ds_k (ds_bt m3) := Int.eq_of_sub_eq_zero v1
        rw [ds_imul, ds_imul, Int.mul_comm (ds_w n e1 e2 (ds_bt m3)), v2, Int.mul_comm (t1 : Int)]
      · refine ds_excess gr (by omega) (by omega) (by omega) (by omega) (fun m4 _ _ _ _ op4 => br_t ?_ ?_)
        · rw [(ds_op_u op4 op).1, v0]
          exact ds_i0.symm
        · refine ds_excSet gr (by omega) (by omega) (by omega) (by omega) (fun m5 _ _ _ _ op5 => br_t ?_ ?_)
          · exact ds_ext (fun i _ => (ds_op_u op5 op).2 i)
          · exact ds_l289 gr dd hb
  · obtain ⟨u, hu, eu⟩ := ds_rm (xs (nI k).toNatClampNeg) (d := n) (by omega) (by omega)
    obtain ⟨v, hv, ev⟩ := ds_rm (xs (nI k + 1).toNatClampNeg) (d := n) (by omega) (by omega)
    obtain ⟨w, hw', ew⟩ := ds_rm (xs (nI k + 2).toNatClampNeg) (d := 21) (by omega) (by omega)
    refine ⟨pk_in k L (by omega), nI_ne0 (by omega) (by omega), nm_r eu ⟨pk_in (k + 1) L (by omega) (nI_1 k), nI_ne0 (by omega) (by omega), nm_r ev ⟨pk_in (k + 2) L (by omega) (nI_add k 2), by decide, nm_r ew ?_⟩⟩⟩
    refine pk_eq u v (fun e => ?_) (fun ne => ?_)
    · exact ds_bonus hn hu (by omega) (fun r => nm_r (nI_add k 3) (hw (k + 3, e1, upd e2 u (nI w)) ⟨by show k + 3 ≤ L + 3; omega, ds_gr_b gr (by omega)⟩ (by show L + 3 - (k + 3) < L + 3 - k; omega)))
    · exact ds_edge hn hu hv ne (by omega) (fun r => nm_r (nI_add k 3) (hw (k + 3, upd (upd e1 (u * 10 + v) (nI w)) (v * 10 + u) (nI w), e2) ⟨by show k + 3 ≤ L + 3; omega, ds_gr_e gr hu hv ne (by omega)⟩ (by show L + 3 - (k + 3) < L + 3 - k; omega)))
theorem ds_l44 {L : Nat} {xs : Nat → Int32} {n kc ks : Nat} {x3 c t b s : Int32} {a1 a2 a3 a4 a5 a6 a7 : Nat → Int32} (hn : n ≤ 10) (h0 : ∀ k, k < 10 → a3 k = 0) (hx : ∀ i, ds_bt x3 i = true → i < n)
    (H : ∀ a3', (∀ k, k < 10 → a3' k = if ds_bt x3 k = true then 2 else 0) → ∃ fu, wL_law_78 (fun r => r = 1) L xs (nI n) x3 kc ks fu 3 (nI n) c t b s a1 a2 a3' a4 a5 a6 a7) :
    ∃ fu, wL_law_44 (fun r => r = 1) L xs (nI n) x3 kc ks fu 0 (nI n) c t b s a1 a2 a3 a4 a5 a6 a7 := by
  refine pk_loop (fun f v s' => wL_law_44 (fun r => r = 1) L xs (nI n) x3 kc ks f (nI v) (nI n) c t b s a1 a2 s' a4 a5 a6 a7) (fun v s' => ∀ k, k < 10 → s' k = if k < v ∧ ds_bt x3 k = true then 2 else 0) 10 0 a3 (by omega) (fun k hk => by rw [if_neg (by omega)]; exact h0 k hk) ?_ ?_
  · intro f s' hI
    refine pk_le 10 10 (fun _ => H s' (fun k hk => ?_)) (fun z => absurd z (by omega))
    rw [hI k hk]
    by_cases q : ds_bt x3 k = true
    · rw [if_pos ⟨hk, q⟩, if_pos q]
    · rw [if_neg (fun z => q z.2), if_neg q]
  · intro f v s' hv hI hw
    refine pk_le 10 v (fun z => absurd z (by omega)) (fun _ => ds_if (ds_bit1 x3 (show v < 32 by omega)) (fun q => ds_mode hn (hx v q) (fun r => nm_r (nI_1 v) (hw _ (fun k hk => ?_)))) (fun q => nm_r (nI_1 v) (hw _ (fun k hk => ?_))))
    · by_cases e : k = v
      · rw [e, pk_us, if_pos ⟨by omega, q⟩]
      · rw [pk_un e, hI k hk]
        by_cases g : k < v ∧ ds_bt x3 k = true
        · rw [if_pos g, if_pos ⟨by omega, g.2⟩]
        · rw [if_neg g, if_neg (fun z => g ⟨by omega, z.2⟩)]
    · rw [hI k hk]
      by_cases g : k < v ∧ ds_bt x3 k = true
      · rw [if_pos g, if_pos ⟨by omega, g.2⟩]
      · rw [if_neg g, if_neg (fun z => g ⟨by
          by_cases e : k = v
          · rw [e] at z
            exact absurd z.2 q
          · omega, z.2⟩)]
theorem i_vc (xs : Nat → Int32) (L : Nat) (hL : L ≤ 260) : wpL_law (fun r => r = 1) L xs := by
  unfold wpL_law
  refine ds_cell hL 0 (by omega) (fun r => ⟨by decide, ?_⟩)
  obtain ⟨j, hj, e⟩ := ds_rm r (d := 10) (by omega) (by omega)
  refine nm_r (e' := nI (1 + j)) (by rw [← nI_add]; exact congrArg (fun q => (1 : Int32) + q) e) ⟨7, 300, by omega, by omega, ?_⟩
  refine ⟨by omega, by omega, by omega, by omega, by omega, by omega, by omega, by omega, by omega, by omega, by omega, by omega, by omega, by omega, pk_le 1 (1 + j) (fun _ => ?_) (fun z => absurd z (by omega))⟩
  refine pk_le (1 + j) 10 (fun _ => ?_) (fun z => absurd z (by omega))
  refine ds_cell hL 1 (by omega) (fun r1 => ds_cell hL 2 (by omega) (fun r2 => nm_e ?_))
  have hx : ∀ i, ds_bt ((r1 &&& r2) &&& (((1 : Int32) <<< (nI (1 + j) &&& 31)) - 1)) i = true → i < 1 + j := by
    intro i hi
    rw [ds_band, ds_fullB (by omega), Bool.and_eq_true, decide_eq_true_eq] at hi
    exact hi.2
  refine ds_l44 (by omega) (fun _ _ => rfl) hx (fun a3 h3 => ds_l78 hL ?_ (fun i => ?_))
  · have z20 : 0 ≤ (0 : Int32).toInt ∧ (0 : Int32).toInt ≤ 20 := by decide
    refine ⟨⟨by omega, by omega⟩, fun _ _ => z20, fun _ _ => z20, fun k hk => ?_, fun _ _ _ _ => rfl, fun _ _ => rfl⟩
    rw [h3 k hk]
    split
    · exact Or.inr rfl
    · exact Or.inl rfl
  · constructor
    · intro q
      have hi := hx i q
      refine ⟨hi, ?_⟩
      rw [h3 i (by omega), if_pos q]
    · intro q
      have h := h3 i (by omega)
      rw [q.2] at h
      by_cases g : ds_bt ((r1 &&& r2) &&& (((1 : Int32) <<< (nI (1 + j) &&& 31)) - 1)) i = true
      · exact g
      · rw [if_neg g] at h
        exact absurd h (by decide)
end
