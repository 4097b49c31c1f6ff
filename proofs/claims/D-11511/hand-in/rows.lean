section
/-! ===== ints out of integers: iw_ (32 bits), jl_ (64 bits) ===== -/
def iw_ (i : Int) : Int32 := Int32.ofInt i
def jl_ (i : Int) : Int64 := Int64.ofInt i
theorem jl_add (a b : Int) : jl_ a + jl_ b = jl_ (a + b) := (Int64.ofInt_add a b).symm
theorem jl_sub (a b : Int) : jl_ a - jl_ b = jl_ (a - b) := (Int64.ofInt_sub a b).symm
theorem jl_mul (a b : Int) : jl_ a * jl_ b = jl_ (a * b) := (Int64.ofInt_mul a b).symm
theorem jl_neg (a : Int) : - jl_ a = jl_ (-a) := (Int64.ofInt_neg a).symm
theorem iw_add (a b : Int) : iw_ a + iw_ b = iw_ (a + b) := (Int32.ofInt_add a b).symm
theorem iw_sub (a b : Int) : iw_ a - iw_ b = iw_ (a - b) := (Int32.ofInt_sub a b).symm
theorem iw_mul (a b : Int) : iw_ a * iw_ b = iw_ (a * b) := (Int32.ofInt_mul a b).symm
theorem iw_nI (n : Nat) : nI n = iw_ (n : Int) := (Int32.ofInt_eq_ofNat (n := n)).symm
theorem jl_lN (n : Nat) : lN n = jl_ (n : Int) := (Int64.ofInt_eq_ofNat (n := n)).symm
/-- small enough for everything here -/
def sm_ (a : Int) : Prop := -1000000000000 ≤ a ∧ a ≤ 1000000000000
def sm_i (a : Int) : Prop := -1000000000 ≤ a ∧ a ≤ 1000000000
theorem jl_toInt {a : Int} (h : sm_ a) : (jl_ a).toInt = a := Int64.toInt_ofInt_of_le (by have := h.1; omega) (by have := h.2; omega)
theorem iw_toInt {a : Int} (h : sm_i a) : (iw_ a).toInt = a := Int32.toInt_ofInt_of_le (by have := h.1; omega) (by have := h.2; omega)
theorem jl_le {a b : Int} (ha : sm_ a) (hb : sm_ b) : jl_ a ≤ jl_ b ↔ a ≤ b := by rw [Int64.le_iff_toInt_le, jl_toInt ha, jl_toInt hb]
theorem jl_lt {a b : Int} (ha : sm_ a) (hb : sm_ b) : jl_ a < jl_ b ↔ a < b := by rw [Int64.lt_iff_toInt_lt, jl_toInt ha, jl_toInt hb]
theorem jl_eq {a b : Int} (ha : sm_ a) (hb : sm_ b) : jl_ a = jl_ b ↔ a = b := by rw [← Int64.toInt_inj, jl_toInt ha, jl_toInt hb]
theorem iw_le {a b : Int} (ha : sm_i a) (hb : sm_i b) : iw_ a ≤ iw_ b ↔ a ≤ b := by rw [Int32.le_iff_toInt_le, iw_toInt ha, iw_toInt hb]
theorem iw_lt {a b : Int} (ha : sm_i a) (hb : sm_i b) : iw_ a < iw_ b ↔ a < b := by rw [Int32.lt_iff_toInt_lt, iw_toInt ha, iw_toInt hb]
theorem iw_eq {a b : Int} (ha : sm_i a) (hb : sm_i b) : iw_ a = iw_ b ↔ a = b := by rw [← Int32.toInt_inj, iw_toInt ha, iw_toInt hb]
theorem iw_l {a : Int} (h : sm_i a) : (iw_ a).toInt64 = jl_ a := Int64.toInt_inj.1 (by rw [Int32.toInt_toInt64, iw_toInt h, jl_toInt ⟨by have := h.1; omega, by have := h.2; omega⟩])
theorem jl_i (a : Int) : (jl_ a).toInt32 = iw_ a := Int64.toInt32_ofInt
theorem jl_div {a b : Int} (ha : sm_ a) (hb : sm_ b) (h1 : b ≠ -1) : jl_ a / jl_ b = jl_ (a.tdiv b) := by
  have hm1 : jl_ b ≠ -1 := by
    intro e
    have e' : jl_ b = jl_ (-1) := e
    exact h1 ((jl_eq hb ⟨by omega, by omega⟩).mp e')
  apply Int64.toInt_inj.1
  rw [Int64.toInt_div_of_ne_right _ _ hm1, jl_toInt ha, jl_toInt hb]
  have hq : (a.tdiv b).natAbs ≤ a.natAbs := Int.natAbs_tdiv_le_natAbs a b
  rw [jl_toInt]
  have h1 := ha.1
  have h2 := ha.2
  constructor <;> omega
theorem iw_byte : ∀ k : Nat, k < 41 → (iw_ ((k : Int) - 20)).toInt8.toInt32 = iw_ ((k : Int) - 20) := by decide +kernel
theorem iw_b {a : Int} (h1 : -20 ≤ a) (h2 : a ≤ 20) : (iw_ a).toInt8.toInt32 = iw_ a := by
  have h := iw_byte (a + 20).toNat (by omega)
  have e : (((a + 20).toNat : Nat) : Int) - 20 = a := by omega
  rw [e] at h
  exact h
/-! ===== fractions ===== -/
theorem fr_tr {a b c d e f : Int} (hb : 0 < b) (hd : 0 < d) (hf : 0 < f) (h1 : a * d ≤ c * b) (h2 : c * f ≤ e * d) : a * f ≤ e * b := by
  have g1 : a * d * f ≤ c * b * f := Int.mul_le_mul_of_nonneg_right h1 (by omega)
  have g2 : c * f * b ≤ e * d * b := Int.mul_le_mul_of_nonneg_right h2 (by omega)
  have g3 : d * (a * f) ≤ d * (e * b) := by
    have x1 : a * d * f = d * (a * f) := by grind
    have x2 : c * b * f = c * f * b := by grind
    have x3 : e * d * b = d * (e * b) := by grind
    omega
  exact Int.le_of_mul_le_mul_left g3 hd
theorem fr_lt {a b c d e f : Int} (hb : 0 < b) (hd : 0 < d) (hf : 0 < f) (h1 : a * d < c * b) (h2 : c * f ≤ e * d) : a * f < e * b := by
  have g1 : a * d * f < c * b * f := Int.mul_lt_mul_of_pos_right h1 hf
  have g2 : c * f * b ≤ e * d * b := Int.mul_le_mul_of_nonneg_right h2 (by omega)
  have g3 : d * (a * f) < d * (e * b) := by
    have x1 : a * d * f = d * (a * f) := by grind
    have x2 : c * b * f = c * f * b := by grind
    have x3 : e * d * b = d * (e * b) := by grind
    omega
  exact Int.lt_of_mul_lt_mul_left g3 (by omega)
theorem fr_eq {a b c d e f : Int} (hb : 0 < b) (hd : 0 < d) (hf : 0 < f) (h1 : a * d = c * b) (h2 : c * f = e * d) : a * f = e * b :=
  Int.le_antisymm (fr_tr (c := c) hb hd hf (Int.le_of_eq h1) (Int.le_of_eq h2)) (fr_tr (a := e) (b := f) (c := c) (d := d) (e := a) (f := b) hf hd hb (Int.le_of_eq h2.symm) (Int.le_of_eq h1.symm))
/-! ===== five among four ===== -/
theorem pg_5 {a b c d e : Nat} (ha : a < 4) (hb : b < 4) (hc : c < 4) (hd : d < 4) (he : e < 4) :
    a = b ∨ a = c ∨ a = d ∨ a = e ∨ b = c ∨ b = d ∨ b = e ∨ c = d ∨ c = e ∨ d = e := by
  have h := (by decide +kernel : ∀ a : Fin 4, ∀ b : Fin 4, ∀ c : Fin 4, ∀ d : Fin 4, ∀ e : Fin 4, a = b ∨ a = c ∨ a = d ∨ a = e ∨ b = c ∨ b = d ∨ b = e ∨ c = d ∨ c = e ∨ d = e) ⟨a, ha⟩ ⟨b, hb⟩ ⟨c, hc⟩ ⟨d, hd⟩ ⟨e, he⟩
  simpa only [Fin.mk.injEq] using h
/-! ===== Int32 by its bits (the family of BITS.to-paste) ===== -/
def bt_ (x : Int32) (i : Nat) : Bool := x.toBitVec.getLsbD i
theorem bt_ext {x y : Int32} (h : ∀ i, i < 32 → bt_ x i = bt_ y i) : x = y := Int32.toBitVec_inj.mp (BitVec.eq_of_getLsbD_eq (fun i hi => h i hi))
theorem bt_or (x y : Int32) (i : Nat) : bt_ (x ||| y) i = (bt_ x i || bt_ y i) := by unfold bt_; rw [Int32.toBitVec_or, BitVec.getLsbD_or]
theorem bt_and (x y : Int32) (i : Nat) : bt_ (x &&& y) i = (bt_ x i && bt_ y i) := by unfold bt_; rw [Int32.toBitVec_and, BitVec.getLsbD_and]
theorem bt_0 (i : Nat) : bt_ 0 i = false := BitVec.getLsbD_zero
theorem bt_sl : ∀ n, n < 32 → ((nI n &&& 31).toBitVec.smod 32).toNat = n := by decide +kernel
theorem bt_sshr (n : Nat) (hn : n < 32) (x : Int32) {i : Nat} (hi : i < 32) : bt_ (x >>> (nI n &&& 31)) i = if n + i < 32 then bt_ x (n + i) else bt_ x 31 := by
  unfold bt_
  rw [Int32.toBitVec_shiftRight]
  show (x.toBitVec.sshiftRight ((nI n &&& 31).toBitVec.smod 32).toNat).getLsbD i = _
  rw [bt_sl n hn, BitVec.getLsbD_sshiftRight, BitVec.msb_eq_getLsbD_last]
  simp [hi]
theorem bt_sh1 : ∀ l, l < 32 → ∀ i, i < 32 → bt_ ((1 : Int32) <<< (nI l &&& 31)) i = decide (i = l) := by decide +kernel
theorem bt_1 : ∀ i, i < 32 → bt_ 1 i = decide (i = 0) := by decide +kernel
/-- one bit asked -/
theorem bt_ask (x : Int32) {n : Nat} (hn : n < 32) : ((x >>> (nI n &&& 31)) &&& 1) = if bt_ x n then 1 else 0 := by
  apply bt_ext
  intro i hi
  rw [bt_and, bt_sshr n hn x hi, bt_1 i hi]
  by_cases e : i = 0
  · subst e
    cases hb : bt_ x n
    · simp [hn, hb, bt_0]
    · simp [hn, hb, bt_1]
  · cases hb : bt_ x n
    · simp [e, bt_0]
    · simp [e, bt_1 i hi]
theorem bt_ask0 (x : Int32) {n : Nat} (hn : n < 32) : ((x >>> (nI n &&& 31)) &&& 1) = 0 ↔ bt_ x n = false := by
  rw [bt_ask x hn]
  cases bt_ x n <;> simp
theorem bt_ask1 (x : Int32) {n : Nat} (hn : n < 32) : ((x >>> (nI n &&& 31)) &&& 1) = 1 ↔ bt_ x n = true := by
  rw [bt_ask x hn]
  cases bt_ x n <;> simp
theorem bt_set (x : Int32) {l i : Nat} (hl : l < 32) (hi : i < 32) : bt_ (x ||| ((1 : Int32) <<< (nI l &&& 31))) i = (bt_ x i || decide (i = l)) := by
  rw [bt_or, bt_sh1 l hl i hi]
theorem ts_nf {x : Bool} (h : ¬ x = false) : x = true := by cases x; exact absurd rfl h; rfl
theorem ts_nt {x : Bool} (h : ¬ x = true) : x = false := by cases x; rfl; exact absurd rfl h
end
section
/-! ===== closed walks, potentials, simple cycles over four points ===== -/
section
variable {E : Nat → Nat → Prop} {f g z : Nat → Nat → Int}
/-- the arcs lie between the points 0 .. 3 -/
def er_ (E : Nat → Nat → Prop) : Prop := ∀ u v, E u v → u < 4 ∧ v < 4
/-- weights less the ratio A / B, times B -/
def zz_ (f g : Nat → Nat → Int) (A B : Int) : Nat → Nat → Int := fun u v => f u v * B - A * g u v
/-- a closed walk of at most four arcs and its two sums -/
def cw_ (E : Nat → Nat → Prop) (f g : Nat → Nat → Int) (W T : Int) : Prop :=
  (∃ a, E a a ∧ W = f a a ∧ T = g a a) ∨
  (∃ a b, E a b ∧ E b a ∧ W = f a b + f b a ∧ T = g a b + g b a) ∨
  (∃ a b c, E a b ∧ E b c ∧ E c a ∧ W = f a b + f b c + f c a ∧ T = g a b + g b c + g c a) ∨
  (∃ a b c d, E a b ∧ E b c ∧ E c d ∧ E d a ∧ W = f a b + f b c + f c d + f d a ∧ T = g a b + g b c + g c d + g d a)
/-- a simple cycle with the arc p q and its two sums -/
def ca_ (E : Nat → Nat → Prop) (f g : Nat → Nat → Int) (p q : Nat) (W T : Int) : Prop :=
  (p = q ∧ E p p ∧ W = f p p ∧ T = g p p) ∨
  (p ≠ q ∧ E p q ∧ E q p ∧ W = f p q + f q p ∧ T = g p q + g q p) ∨
  (∃ c, p ≠ q ∧ p ≠ c ∧ q ≠ c ∧ E p q ∧ E q c ∧ E c p ∧ W = f p q + f q c + f c p ∧ T = g p q + g q c + g c p) ∨
  (∃ c d, p ≠ q ∧ p ≠ c ∧ p ≠ d ∧ q ≠ c ∧ q ≠ d ∧ c ≠ d ∧ E p q ∧ E q c ∧ E c d ∧ E d p ∧ W = f p q + f q c + f c d + f d p ∧ T = g p q + g q c + g c d + g d p)
/-- no closed walk of at most four arcs falls below 0 -/
def nn_ (E : Nat → Nat → Prop) (z : Nat → Nat → Int) : Prop :=
  (∀ a, E a a → 0 ≤ z a a) ∧
  (∀ a b, E a b → E b a → 0 ≤ z a b + z b a) ∧
  (∀ a b c, E a b → E b c → E c a → 0 ≤ z a b + z b c + z c a) ∧
  (∀ a b c d, E a b → E b c → E c d → E d a → 0 ≤ z a b + z b c + z c d + z d a)
def pt_ (E : Nat → Nat → Prop) (z : Nat → Nat → Int) (d : Nat → Int) : Prop := ∀ u v, E u v → d v ≤ d u + z u v
/-- the tight arcs -/
def te_ (E : Nat → Nat → Prop) (z : Nat → Nat → Int) (d : Nat → Int) : Nat → Nat → Prop := fun u v => E u v ∧ d u + z u v = d v
theorem cw_ca {p q : Nat} {W T : Int} (h : ca_ E f g p q W T) : cw_ E f g W T := by
  rcases h with ⟨e, h1, h2, h3⟩ | ⟨e, h1, h2, h3, h4⟩ | ⟨c, e1, e2, e3, h1, h2, h3, h4, h5⟩ | ⟨c, d, e1, e2, e3, e4, e5, e6, h1, h2, h3, h4, h5, h6⟩
  · exact Or.inl ⟨p, h1, h2, h3⟩
  · exact Or.inr (Or.inl ⟨p, q, h1, h2, h3, h4⟩)
  · exact Or.inr (Or.inr (Or.inl ⟨p, q, c, h1, h2, h3, h4, h5⟩))
  · exact Or.inr (Or.inr (Or.inr ⟨p, q, c, d, h1, h2, h3, h4, h5, h6⟩))
theorem nn_ca {A B : Int} (h : ∀ p q W T, ca_ E f g p q W T → A * T ≤ W * B) : nn_ E (zz_ f g A B) := by
  have C1 : ∀ a, E a a → 0 ≤ zz_ f g A B a a := by
    intro a ha
    have := h a a _ _ (Or.inl ⟨rfl, ha, rfl, rfl⟩)
    unfold zz_
    omega
  have C2 : ∀ a b, E a b → E b a → 0 ≤ zz_ f g A B a b + zz_ f g A B b a := by
    intro a b h1 h2
    by_cases e : a = b
    · subst e
      have := C1 a h1
      omega
    · have := h a b _ _ (Or.inr (Or.inl ⟨e, h1, h2, rfl, rfl⟩))
      rw [Int.add_mul, Int.mul_add] at this
      unfold zz_
      omega
  have C3 : ∀ a b c, E a b → E b c → E c a → 0 ≤ zz_ f g A B a b + zz_ f g A B b c + zz_ f g A B c a := by
    intro a b c h1 h2 h3
    by_cases e1 : a = b
    · subst e1
      have := C1 a h1
      have := C2 a c h2 h3
      omega
    by_cases e2 : b = c
    · subst e2
      have := C1 b h2
      have := C2 a b h1 h3
      omega
    by_cases e3 : a = c
    · subst e3
      have := C1 a h3
      have := C2 a b h1 h2
      omega
    · have := h a b _ _ (Or.inr (Or.inr (Or.inl ⟨c, e1, e3, e2, h1, h2, h3, rfl, rfl⟩)))
      rw [Int.add_mul, Int.add_mul, Int.mul_add, Int.mul_add] at this
      unfold zz_
      omega
  refine ⟨C1, C2, C3, ?_⟩
  intro a b c d h1 h2 h3 h4
  by_cases e1 : a = b
  · subst e1
    have := C1 a h1
    have := C3 a c d h2 h3 h4
    omega
  by_cases e2 : b = c
  · subst e2
    have := C1 b h2
    have := C3 a b d h1 h3 h4
    omega
  by_cases e3 : c = d
  · subst e3
    have := C1 c h3
    have := C3 a b c h1 h2 h4
    omega
  by_cases e4 : a = d
  · subst e4
    have := C1 a h4
    have := C3 a b c h1 h2 h3
    omega
  by_cases e5 : a = c
  · subst e5
    have := C2 a b h1 h2
    have := C2 a d h3 h4
    omega
  by_cases e6 : b = d
  · subst e6
    have := C2 a b h1 h4
    have := C2 b c h2 h3
    omega
  · have := h a b _ _ (Or.inr (Or.inr (Or.inr ⟨c, d, e1, e5, e4, e2, e6, e3, h1, h2, h3, h4, rfl, rfl⟩)))
    rw [Int.add_mul, Int.add_mul, Int.add_mul, Int.mul_add, Int.mul_add, Int.mul_add] at this
    unfold zz_
    omega
/-- a closed walk's sum of z -/
theorem cw_z {A B W T : Int} (h : cw_ E f g W T) (hn : nn_ E (zz_ f g A B)) : A * T ≤ W * B := by
  rcases h with ⟨a, h1, rfl, rfl⟩ | ⟨a, b, h1, h2, rfl, rfl⟩ | ⟨a, b, c, h1, h2, h3, rfl, rfl⟩ | ⟨a, b, c, d, h1, h2, h3, h4, rfl, rfl⟩
  · have := hn.1 a h1
    unfold zz_ at this
    omega
  · have := hn.2.1 a b h1 h2
    unfold zz_ at this
    rw [Int.add_mul, Int.mul_add]
    omega
  · have := hn.2.2.1 a b c h1 h2 h3
    unfold zz_ at this
    rw [Int.add_mul, Int.add_mul, Int.mul_add, Int.mul_add]
    omega
  · have := hn.2.2.2 a b c d h1 h2 h3 h4
    unfold zz_ at this
    rw [Int.add_mul, Int.add_mul, Int.add_mul, Int.mul_add, Int.mul_add, Int.mul_add]
    omega
theorem nn_pt {d : Nat → Int} (h : pt_ E z d) : nn_ E z := by
  refine ⟨fun a h1 => ?_, fun a b h1 h2 => ?_, fun a b c h1 h2 h3 => ?_, fun a b c d' h1 h2 h3 h4 => ?_⟩
  · have := h _ _ h1
    omega
  · have := h _ _ h1
    have := h _ _ h2
    omega
  · have := h _ _ h1
    have := h _ _ h2
    have := h _ _ h3
    omega
  · have := h _ _ h1
    have := h _ _ h2
    have := h _ _ h3
    have := h _ _ h4
    omega
theorem cw_pt {A B W T : Int} {d : Nat → Int} (h : cw_ E f g W T) (hd : pt_ E (zz_ f g A B) d) : A * T ≤ W * B := cw_z h (nn_pt hd)
/-- bounds of a closed walk's sums -/
theorem cw_bd {W T : Int} (h : cw_ E f g W T) (hf : ∀ u v, E u v → -20 ≤ f u v ∧ f u v ≤ 20) (hg : ∀ u v, E u v → 1 ≤ g u v ∧ g u v ≤ 5) : -80 ≤ W ∧ W ≤ 80 ∧ 1 ≤ T ∧ T ≤ 20 ∧ W ≤ 20 * T := by
  rcases h with ⟨a, h1, rfl, rfl⟩ | ⟨a, b, h1, h2, rfl, rfl⟩ | ⟨a, b, c, h1, h2, h3, rfl, rfl⟩ | ⟨a, b, c, d, h1, h2, h3, h4, rfl, rfl⟩
  · have x1 := hf _ _ h1
    have y1 := hg _ _ h1
    omega
  · have x1 := hf _ _ h1
    have y1 := hg _ _ h1
    have x2 := hf _ _ h2
    have y2 := hg _ _ h2
    omega
  · have x1 := hf _ _ h1
    have y1 := hg _ _ h1
    have x2 := hf _ _ h2
    have y2 := hg _ _ h2
    have x3 := hf _ _ h3
    have y3 := hg _ _ h3
    omega
  · have x1 := hf _ _ h1
    have y1 := hg _ _ h1
    have x2 := hf _ _ h2
    have y2 := hg _ _ h2
    have x3 := hf _ _ h3
    have y3 := hg _ _ h3
    have x4 := hf _ _ h4
    have y4 := hg _ _ h4
    omega
/-! walks -/
def wl_ (E : Nat → Nat → Prop) : Nat → Nat → Nat → Prop
  | 0, u, v => u = v
  | n + 1, u, v => ∃ a, E u a ∧ wl_ E n a v
theorem wl_app : ∀ (n : Nat) {m u v x : Nat}, wl_ E n u v → wl_ E m v x → wl_ E (n + m) u x := by
  intro n
  induction n with
  | zero =>
    intro m u v x h1 h2
    have e : u = v := h1
    rw [Nat.zero_add, e]
    exact h2
  | succ n ih =>
    intro m u v x h1 h2
    obtain ⟨a, ha, h1⟩ := h1
    rw [show n + 1 + m = (n + m) + 1 by omega]
    exact ⟨a, ha, ih h1 h2⟩
theorem wl_1 {u v : Nat} (h : E u v) : wl_ E 1 u v := ⟨v, h, rfl⟩
/-- a simple path -/
def sp_ (E : Nat → Nat → Prop) (q p : Nat) : Prop :=
  E q p ∨ (∃ a, a ≠ q ∧ a ≠ p ∧ E q a ∧ E a p) ∨ (∃ a b, a ≠ q ∧ a ≠ p ∧ b ≠ q ∧ b ≠ p ∧ a ≠ b ∧ E q a ∧ E a b ∧ E b p)
theorem sp_of (hE : er_ E) : ∀ (n : Nat) {q p : Nat}, q ≠ p → wl_ E n q p → sp_ E q p := by
  intro n
  induction n with
  | zero => intro q p hn h; exact absurd h hn
  | succ n ih =>
    intro q p hn h
    obtain ⟨a, ha, h⟩ := h
    by_cases e : a = p
    · exact Or.inl (e ▸ ha)
    have hs := ih e h
    by_cases e2 : a = q
    · rw [e2] at hs
      exact hs
    rcases hs with h1 | ⟨b, b1, b2, h1, h2⟩ | ⟨b, c, b1, b2, c1, c2, bc, h1, h2, h3⟩
    · exact Or.inr (Or.inl ⟨a, e2, e, ha, h1⟩)
    · by_cases e3 : b = q
      · exact Or.inl (e3 ▸ h2)
      · exact Or.inr (Or.inr ⟨a, b, e2, e, e3, b2, fun z => b1 z.symm, ha, h1, h2⟩)
    · by_cases e3 : b = q
      · exact Or.inr (Or.inl ⟨c, fun z => bc (e3.trans z.symm), c2, e3 ▸ h2, h3⟩)
      by_cases e4 : c = q
      · exact Or.inl (e4 ▸ h3)
      exfalso
      have k1 := hE _ _ ha
      have k2 := hE _ _ h2
      have k3 := hE _ _ h3
      rcases pg_5 k1.1 k1.2 k2.1 k2.2 k3.2 with x | x | x | x | x | x | x | x | x | x
      · exact e2 x.symm
      · exact e3 x.symm
      · exact e4 x.symm
      · exact hn x
      · exact b1 x.symm
      · exact c1 x.symm
      · exact e x
      · exact bc x
      · exact b2 x
      · exact c2 x
theorem ca_of (hE : er_ E) {p q : Nat} (h : E p q) (hw : p = q ∨ ∃ n, wl_ E n q p) (f g : Nat → Nat → Int) : ∃ W T, ca_ E f g p q W T := by
  by_cases e : p = q
  · subst e
    exact ⟨_, _, Or.inl ⟨rfl, h, rfl, rfl⟩⟩
  · rcases hw with hw | ⟨n, hw⟩
    · exact absurd hw e
    rcases sp_of hE n (fun z => e z.symm) hw with h1 | ⟨b, b1, b2, h1, h2⟩ | ⟨b, c, b1, b2, c1, c2, bc, h1, h2, h3⟩
    · exact ⟨_, _, Or.inr (Or.inl ⟨e, h, h1, rfl, rfl⟩)⟩
    · exact ⟨_, _, Or.inr (Or.inr (Or.inl ⟨b, e, fun z => b2 z.symm, fun z => b1 z.symm, h, h1, h2, rfl, rfl⟩))⟩
    · exact ⟨_, _, Or.inr (Or.inr (Or.inr ⟨b, c, e, fun z => b2 z.symm, fun z => c2 z.symm, fun z => b1 z.symm, fun z => c1 z.symm, bc, h, h1, h2, h3, rfl, rfl⟩))⟩
theorem ca_wl {p q : Nat} {W T : Int} (h : ca_ E f g p q W T) : E p q ∧ ∃ n, wl_ E n q p := by
  rcases h with ⟨e, h1, h2, h3⟩ | ⟨e, h1, h2, h3, h4⟩ | ⟨c, e1, e2, e3, h1, h2, h3, h4, h5⟩ | ⟨c, d, e1, e2, e3, e4, e5, e6, h1, h2, h3, h4, h5, h6⟩
  · exact ⟨e ▸ h1, 0, e.symm⟩
  · exact ⟨h1, 1, wl_1 h2⟩
  · exact ⟨h1, 2, c, h2, wl_1 h3⟩
  · exact ⟨h1, 3, c, h2, d, h3, wl_1 h4⟩
theorem te_er {d : Nat → Int} (hE : er_ E) : er_ (te_ E z d) := fun u v h => hE u v h.1
/-- tight cycles are those of the least ratio -/
theorem te_ca {A B W T : Int} {p q : Nat} {d : Nat → Int} (h : ca_ (te_ E (zz_ f g A B) d) f g p q W T) : ca_ E f g p q W T ∧ W * B = A * T := by
  rcases h with ⟨e, h1, rfl, rfl⟩ | ⟨e, h1, h2, rfl, rfl⟩ | ⟨c, e1, e2, e3, h1, h2, h3, rfl, rfl⟩ | ⟨c, d', e1, e2, e3, e4, e5, e6, h1, h2, h3, h4, rfl, rfl⟩
  · have x := h1.2
    unfold zz_ at x
    exact ⟨Or.inl ⟨e, h1.1, rfl, rfl⟩, by omega⟩
  · have x := h1.2
    have y := h2.2
    unfold zz_ at x y
    refine ⟨Or.inr (Or.inl ⟨e, h1.1, h2.1, rfl, rfl⟩), ?_⟩
    rw [Int.add_mul, Int.mul_add]
    omega
  · have x := h1.2
    have y := h2.2
    have v := h3.2
    unfold zz_ at x y v
    refine ⟨Or.inr (Or.inr (Or.inl ⟨c, e1, e2, e3, h1.1, h2.1, h3.1, rfl, rfl⟩)), ?_⟩
    rw [Int.add_mul, Int.add_mul, Int.mul_add, Int.mul_add]
    omega
  · have x := h1.2
    have y := h2.2
    have v := h3.2
    have w := h4.2
    unfold zz_ at x y v w
    refine ⟨Or.inr (Or.inr (Or.inr ⟨c, d', e1, e2, e3, e4, e5, e6, h1.1, h2.1, h3.1, h4.1, rfl, rfl⟩)), ?_⟩
    rw [Int.add_mul, Int.add_mul, Int.add_mul, Int.mul_add, Int.mul_add, Int.mul_add]
    omega
theorem ca_te {A B W T : Int} {p q : Nat} {d : Nat → Int} (hd : pt_ E (zz_ f g A B) d) (h : ca_ E f g p q W T) (hz : W * B = A * T) : ca_ (te_ E (zz_ f g A B) d) f g p q W T := by
  rcases h with ⟨e, h1, rfl, rfl⟩ | ⟨e, h1, h2, rfl, rfl⟩ | ⟨c, e1, e2, e3, h1, h2, h3, rfl, rfl⟩ | ⟨c, d', e1, e2, e3, e4, e5, e6, h1, h2, h3, h4, rfl, rfl⟩
  · exact Or.inl ⟨e, ⟨h1, by unfold zz_; omega⟩, rfl, rfl⟩
  · have x := hd _ _ h1
    have y := hd _ _ h2
    unfold zz_ at x y
    rw [Int.add_mul, Int.mul_add] at hz
    exact Or.inr (Or.inl ⟨e, ⟨h1, by unfold zz_; omega⟩, ⟨h2, by unfold zz_; omega⟩, rfl, rfl⟩)
  · have x := hd _ _ h1
    have y := hd _ _ h2
    have v := hd _ _ h3
    unfold zz_ at x y v
    rw [Int.add_mul, Int.add_mul, Int.mul_add, Int.mul_add] at hz
    exact Or.inr (Or.inr (Or.inl ⟨c, e1, e2, e3, ⟨h1, by unfold zz_; omega⟩, ⟨h2, by unfold zz_; omega⟩, ⟨h3, by unfold zz_; omega⟩, rfl, rfl⟩))
  · have x := hd _ _ h1
    have y := hd _ _ h2
    have v := hd _ _ h3
    have w := hd _ _ h4
    unfold zz_ at x y v w
    rw [Int.add_mul, Int.add_mul, Int.add_mul, Int.mul_add, Int.mul_add, Int.mul_add] at hz
    exact Or.inr (Or.inr (Or.inr ⟨c, d', e1, e2, e3, e4, e5, e6, ⟨h1, by unfold zz_; omega⟩, ⟨h2, by unfold zz_; omega⟩, ⟨h3, by unfold zz_; omega⟩, ⟨h4, by unfold zz_; omega⟩, rfl, rfl⟩))
/-- the arc p q lies on a simple cycle of the ratio A / B iff it is tight and p can be come to from q by tight arcs -/
theorem te_iff {A B : Int} {p q : Nat} {d : Nat → Int} (hE : er_ E) (hd : pt_ E (zz_ f g A B) d) :
    (∃ W T, ca_ E f g p q W T ∧ W * B = A * T) ↔ te_ E (zz_ f g A B) d p q ∧ (∃ n, wl_ (te_ E (zz_ f g A B) d) n q p) := by
  constructor
  · rintro ⟨W, T, h, hz⟩
    exact ca_wl (ca_te hd h hz)
  · rintro ⟨h, hw⟩
    obtain ⟨W, T, hc⟩ := ca_of (te_er hE) h (Or.inr hw) f g
    exact ⟨W, T, te_ca hc⟩
theorem ca_iff {p q : Nat} (hE : er_ E) : (∃ W T, ca_ E f g p q W T) ↔ E p q ∧ (∃ n, wl_ E n q p) := by
  constructor
  · rintro ⟨W, T, h⟩
    exact ca_wl h
  · rintro ⟨h, hw⟩
    exact ca_of hE h (Or.inr hw) f g
end
end
section
/-! ===== the smallest mean out of least walks ===== -/
section
variable {E : Nat → Nat → Prop} {f : Nat → Nat → Int} {D : Nat → Nat → Int}
def on_ (_ _ : Nat) : Int := 1
/-- D k v: the least weight of walks of k arcs that end at v; 1000000000 where there is none -/
def dk_ (E : Nat → Nat → Prop) (f : Nat → Nat → Int) (D : Nat → Nat → Int) : Prop :=
  (∀ v, v < 4 → D 0 v = 0) ∧
  (∀ k u v, k < 4 → E u v → D k u < 1000000000 → D (k + 1) v ≤ D k u + f u v) ∧
  (∀ k v, k < 4 → v < 4 → D (k + 1) v = 1000000000 ∨ ∃ u, E u v ∧ D k u < 1000000000 ∧ D (k + 1) v = D k u + f u v)
theorem dk_bd (hE : er_ E) (hf : ∀ u v, E u v → -20 ≤ f u v ∧ f u v ≤ 20) (h : dk_ E f D) : ∀ k v, k ≤ 4 → v < 4 → D k v = 1000000000 ∨ (-20 * (k : Int) ≤ D k v ∧ D k v ≤ 20 * (k : Int)) := by
  intro k
  induction k with
  | zero =>
    intro v _ hv
    have := h.1 v hv
    right
    omega
  | succ k ih =>
    intro v hk hv
    rcases h.2.2 k v (by omega) hv with e | ⟨u, hu, h1, h2⟩
    · exact Or.inl e
    · right
      have := hf u v hu
      rcases ih u (by omega) (hE u v hu).1 with e | e
      · omega
      · omega
/-- a walk of k arcs to v that costs at most x, less k A, times B -/
def dq_ (D : Nat → Nat → Int) (A B : Int) (k v : Nat) (x : Int) : Prop := D k v < 1000000000 ∧ B * D k v - (k : Int) * A ≤ x
theorem dq_ext {A B x : Int} {k u v : Nat} (hB : 0 < B) (hE : er_ E) (hf : ∀ u v, E u v → -20 ≤ f u v ∧ f u v ≤ 20) (h : dk_ E f D) (hq : dq_ D A B k u x) (hk : k < 4) (hu : E u v) : dq_ D A B (k + 1) v (x + zz_ f on_ A B u v) := by
  obtain ⟨h1, h2⟩ := hq
  have h3 := h.2.1 k u v hk hu h1
  have h4 := hf u v hu
  have h5 := dk_bd hE hf h k u (by omega) (hE u v hu).1
  refine ⟨by omega, ?_⟩
  have h6 : B * D (k + 1) v ≤ B * (D k u + f u v) := Int.mul_le_mul_of_nonneg_left h3 (by omega)
  rw [Int.mul_add] at h6
  unfold zz_ on_
  have e1 : ((k + 1 : Nat) : Int) * A = (k : Int) * A + A := by
    rw [show ((k + 1 : Nat) : Int) = (k : Int) + 1 by omega, Int.add_mul, Int.one_mul]
  have e2 : f u v * B = B * f u v := Int.mul_comm _ _
  rw [e1]
  omega
/-- a walk of four arcs falls apart -/
theorem dk_4 {v : Nat} (h : dk_ E f D) (hv : v < 4) (hf : D 4 v < 1000000000) (hE : er_ E) :
    ∃ p0 p1 p2 p3, E p0 p1 ∧ E p1 p2 ∧ E p2 p3 ∧ E p3 v ∧ D 0 p0 = 0 ∧ D 1 p1 = f p0 p1 ∧ D 2 p2 = D 1 p1 + f p1 p2 ∧ D 3 p3 = D 2 p2 + f p2 p3 ∧ D 4 v = D 3 p3 + f p3 v ∧ D 1 p1 < 1000000000 ∧ D 2 p2 < 1000000000 ∧ D 3 p3 < 1000000000 := by
  rcases h.2.2 3 v (by omega) hv with e | ⟨p3, a3, b3, c3⟩
  · exact absurd hf (by rw [show (4 : Nat) = 3 + 1 from rfl, e]; omega)
  rcases h.2.2 2 p3 (by omega) (hE _ _ a3).1 with e | ⟨p2, a2, b2, c2⟩
  · exact absurd b3 (by rw [show (3 : Nat) = 2 + 1 from rfl, e]; omega)
  rcases h.2.2 1 p2 (by omega) (hE _ _ a2).1 with e | ⟨p1, a1, b1, c1⟩
  · exact absurd b2 (by rw [show (2 : Nat) = 1 + 1 from rfl, e]; omega)
  rcases h.2.2 0 p1 (by omega) (hE _ _ a1).1 with e | ⟨p0, a0, b0, c0⟩
  · exact absurd b1 (by rw [show (1 : Nat) = 0 + 1 from rfl, e]; omega)
  have e0 := h.1 p0 (hE _ _ a0).1
  refine ⟨p0, p1, p2, p3, a0, a1, a2, a3, e0, ?_, c1, c2, c3, b1, b2, b3⟩
  have c0' : D 1 p1 = D 0 p0 + f p0 p1 := c0
  omega
/-- no closed walk: no walk of four arcs -/
theorem dk_none (hE : er_ E) (h : dk_ E f D) (hn : ∀ W T, ¬ cw_ E f on_ W T) : ∀ v, v < 4 → ¬ D 4 v < 1000000000 := by
  intro v hv hf
  obtain ⟨p0, p1, p2, p3, a0, a1, a2, a3, -⟩ := dk_4 h hv hf hE
  have N1 : ∀ a, ¬ E a a := fun a x => hn _ _ (Or.inl ⟨a, x, rfl, rfl⟩)
  have N2 : ∀ a b, E a b → ¬ E b a := fun a b x y => hn _ _ (Or.inr (Or.inl ⟨a, b, x, y, rfl, rfl⟩))
  have N3 : ∀ a b c, E a b → E b c → ¬ E c a := fun a b c x y t => hn _ _ (Or.inr (Or.inr (Or.inl ⟨a, b, c, x, y, t, rfl, rfl⟩)))
  have N4 : ∀ a b c d, E a b → E b c → E c d → ¬ E d a := fun a b c d x y t s => hn _ _ (Or.inr (Or.inr (Or.inr ⟨a, b, c, d, x, y, t, s, rfl, rfl⟩)))
  rcases pg_5 (hE _ _ a0).1 (hE _ _ a1).1 (hE _ _ a2).1 (hE _ _ a3).1 hv with x | x | x | x | x | x | x | x | x | x
  · subst x; exact N1 _ a0
  · subst x; exact N2 _ _ a0 a1
  · subst x; exact N3 _ _ _ a0 a1 a2
  · subst x; exact N4 _ _ _ _ a0 a1 a2 a3
  · subst x; exact N1 _ a1
  · subst x; exact N2 _ _ a1 a2
  · subst x; exact N3 _ _ _ a1 a2 a3
  · subst x; exact N1 _ a2
  · subst x; exact N2 _ _ a2 a3
  · subst x; exact N1 _ a3
/-- a walk of four arcs is no cheaper than some shorter one -/
theorem dk_short {A B : Int} (hB : 0 < B) (hE : er_ E) (hf : ∀ u v, E u v → -20 ≤ f u v ∧ f u v ≤ 20) (h : dk_ E f D) (hn : nn_ E (zz_ f on_ A B)) {v : Nat} (hv : v < 4) (h4 : D 4 v < 1000000000) :
    ∃ k, k < 4 ∧ dq_ D A B k v (B * D 4 v - 4 * A) := by
  obtain ⟨p0, p1, p2, p3, a0, a1, a2, a3, e0, e1, e2, e3, e4, f1, f2, f3⟩ := dk_4 h hv h4 hE
  have q0 : dq_ D A B 0 p0 0 := ⟨by omega, by rw [e0]; simp⟩
  have X : ∀ {k u w x}, dq_ D A B k u x → k < 4 → E u w → dq_ D A B (k + 1) w (x + zz_ f on_ A B u w) := fun hq hk hu => dq_ext hB hE hf h hq hk hu
  have W : ∀ {k u x y}, dq_ D A B k u x → x ≤ y → dq_ D A B k u y := fun hq hxy => ⟨hq.1, Int.le_trans hq.2 hxy⟩
  have tot : B * D 4 v - 4 * A = zz_ f on_ A B p0 p1 + zz_ f on_ A B p1 p2 + zz_ f on_ A B p2 p3 + zz_ f on_ A B p3 v := by
    rw [e4, e3, e2, e1]
    unfold zz_ on_
    rw [Int.mul_add, Int.mul_add, Int.mul_add, Int.mul_comm B (f p0 p1), Int.mul_comm B (f p1 p2), Int.mul_comm B (f p2 p3), Int.mul_comm B (f p3 v)]
    omega
  rw [tot]
  have q1 := X q0 (by omega) a0
  have q2 := X q1 (by omega) a1
  have q3 := X q2 (by omega) a2
  rcases pg_5 (hE _ _ a0).1 (hE _ _ a1).1 (hE _ _ a2).1 (hE _ _ a3).1 hv with x | x | x | x | x | x | x | x | x | x
  · subst x
    have := hn.1 _ a0
    exact ⟨3, by omega, W (X (X (X q0 (by omega) a1) (by omega) a2) (by omega) a3) (by omega)⟩
  · subst x
    have := hn.2.1 _ _ a0 a1
    exact ⟨2, by omega, W (X (X q0 (by omega) a2) (by omega) a3) (by omega)⟩
  · subst x
    have := hn.2.2.1 _ _ _ a0 a1 a2
    exact ⟨1, by omega, W (X q0 (by omega) a3) (by omega)⟩
  · subst x
    have := hn.2.2.2 _ _ _ _ a0 a1 a2 a3
    exact ⟨0, by omega, W q0 (by omega)⟩
  · subst x
    have := hn.1 _ a1
    exact ⟨3, by omega, W (X (X q1 (by omega) a2) (by omega) a3) (by omega)⟩
  · subst x
    have := hn.2.1 _ _ a1 a2
    exact ⟨2, by omega, W (X q1 (by omega) a3) (by omega)⟩
  · subst x
    have := hn.2.2.1 _ _ _ a1 a2 a3
    exact ⟨1, by omega, W q1 (by omega)⟩
  · subst x
    have := hn.1 _ a2
    exact ⟨3, by omega, W (X q2 (by omega) a3) (by omega)⟩
  · subst x
    have := hn.2.1 _ _ a2 a3
    exact ⟨2, by omega, W q2 (by omega)⟩
  · subst x
    have := hn.1 _ a3
    exact ⟨3, by omega, W q3 (by omega)⟩
/-- potentials: the least over the walks of fewer than four arcs -/
theorem dk_pot {A B : Int} (hB : 0 < B) (hE : er_ E) (hf : ∀ u v, E u v → -20 ≤ f u v ∧ f u v ≤ 20) (h : dk_ E f D) (hn : nn_ E (zz_ f on_ A B)) :
    ∃ π : Nat → Int, pt_ E (zz_ f on_ A B) π ∧ (∀ v, v < 4 → ∃ k, k < 4 ∧ dq_ D A B k v (π v)) ∧ (∀ v k, v < 4 → k < 4 → D k v < 1000000000 → π v ≤ B * D k v - (k : Int) * A) := by
  have M : ∀ v, v < 4 → ∃ x : Int, (∃ k, k < 4 ∧ dq_ D A B k v x) ∧ (∀ k, k < 4 → D k v < 1000000000 → x ≤ B * D k v - (k : Int) * A) := by
    intro v hv
    have key : ∀ n, n ≤ 3 → ∃ x : Int, (∃ k, k < n + 1 ∧ dq_ D A B k v x) ∧ (∀ k, k < n + 1 → D k v < 1000000000 → x ≤ B * D k v - (k : Int) * A) := by
      intro n
      induction n with
      | zero =>
        intro _
        have e := h.1 v hv
        refine ⟨B * D 0 v - ((0 : Nat) : Int) * A, ⟨0, by omega, by omega, by omega⟩, ?_⟩
        intro k hk _
        have : k = 0 := by omega
        subst this
        omega
      | succ n ih =>
        intro hn'
        obtain ⟨x, ⟨k, hk, hq⟩, hx⟩ := ih (by omega)
        by_cases c : D (n + 1) v < 1000000000 ∧ B * D (n + 1) v - ((n + 1 : Nat) : Int) * A < x
        · refine ⟨B * D (n + 1) v - ((n + 1 : Nat) : Int) * A, ⟨n + 1, by omega, c.1, by omega⟩, ?_⟩
          intro k' hk' hf'
          by_cases e : k' = n + 1
          · subst e
            omega
          · have := hx k' (by omega) hf'
            omega
        · refine ⟨x, ⟨k, by omega, hq⟩, ?_⟩
          intro k' hk' hf'
          by_cases e : k' = n + 1
          · subst e
            by_cases c2 : B * D (n + 1) v - ((n + 1 : Nat) : Int) * A < x
            · exact absurd ⟨hf', c2⟩ c
            · omega
          · exact hx k' (by omega) hf'
    exact key 3 (by omega)
  refine ⟨fun v => if hv : v < 4 then (M v hv).choose else 0, ?_, ?_, ?_⟩
  · intro u v huv
    have hu := (hE _ _ huv).1
    have hv := (hE _ _ huv).2
    simp only [hu, hv, dite_true]
    obtain ⟨⟨k, hk, hq⟩, -⟩ := (M u hu).choose_spec
    obtain ⟨-, hx⟩ := (M v hv).choose_spec
    have q' := dq_ext hB hE hf h hq hk huv
    by_cases c : k + 1 < 4
    · exact Int.le_trans (hx (k + 1) c q'.1) q'.2
    · have e : k + 1 = 4 := by omega
      rw [e] at q'
      obtain ⟨k2, hk2, hq2⟩ := dk_short hB hE hf h hn hv q'.1
      have s1 := hx k2 hk2 hq2.1
      have s2 := hq2.2
      have s3 := q'.2
      have e4 : ((4 : Nat) : Int) = 4 := rfl
      rw [e4] at s3
      omega
  · intro v hv
    simp only [hv, dite_true]
    exact (M v hv).choose_spec.1
  · intro v k hv hk hf'
    simp only [hv, dite_true]
    exact (M v hv).choose_spec.2 k hk hf'
/-- a point whose full walk is as cheap as its potential -/
theorem dk_full {A B W T : Int} (hB : 0 < B) (hE : er_ E) (hf : ∀ u v, E u v → -20 ≤ f u v ∧ f u v ≤ 20) (h : dk_ E f D) (hn : nn_ E (zz_ f on_ A B)) (hc : cw_ E f on_ W T) (hz : W * B = A * T) :
    ∃ v, v < 4 ∧ D 4 v < 1000000000 ∧ ∀ k, k < 4 → D k v < 1000000000 → (D 4 v - D k v) * B ≤ A * (4 - (k : Int)) := by
  obtain ⟨π, hp, h1, h2⟩ := dk_pot hB hE hf h hn
  have S : ∃ S : Nat → Prop, (∃ v, S v) ∧ ∀ v, S v → v < 4 ∧ ∃ v', S v' ∧ E v v' ∧ π v + zz_ f on_ A B v v' = π v' := by
    rcases hc with ⟨a, x1, rfl, rfl⟩ | ⟨a, b, x1, x2, rfl, rfl⟩ | ⟨a, b, c, x1, x2, x3, rfl, rfl⟩ | ⟨a, b, c, d, x1, x2, x3, x4, rfl, rfl⟩
    · refine ⟨fun v => v = a, ⟨a, rfl⟩, ?_⟩
      intro v hv
      subst hv
      exact ⟨(hE _ _ x1).1, v, rfl, x1, by unfold zz_; omega⟩
    · have y1 := hp _ _ x1
      have y2 := hp _ _ x2
      unfold zz_ at y1 y2
      rw [Int.add_mul, Int.mul_add] at hz
      refine ⟨fun v => v = a ∨ v = b, ⟨a, Or.inl rfl⟩, ?_⟩
      intro v hv
      rcases hv with hv | hv
      · subst hv
        exact ⟨(hE _ _ x1).1, b, Or.inr rfl, x1, by unfold zz_; omega⟩
      · subst hv
        exact ⟨(hE _ _ x2).1, a, Or.inl rfl, x2, by unfold zz_; omega⟩
    · have y1 := hp _ _ x1
      have y2 := hp _ _ x2
      have y3 := hp _ _ x3
      unfold zz_ at y1 y2 y3
      rw [Int.add_mul, Int.add_mul, Int.mul_add, Int.mul_add] at hz
      refine ⟨fun v => v = a ∨ v = b ∨ v = c, ⟨a, Or.inl rfl⟩, ?_⟩
      intro v hv
      rcases hv with hv | hv | hv
      · subst hv
        exact ⟨(hE _ _ x1).1, b, Or.inr (Or.inl rfl), x1, by unfold zz_; omega⟩
      · subst hv
        exact ⟨(hE _ _ x2).1, c, Or.inr (Or.inr rfl), x2, by unfold zz_; omega⟩
      · subst hv
        exact ⟨(hE _ _ x3).1, a, Or.inl rfl, x3, by unfold zz_; omega⟩
    · have y1 := hp _ _ x1
      have y2 := hp _ _ x2
      have y3 := hp _ _ x3
      have y4 := hp _ _ x4
      unfold zz_ at y1 y2 y3 y4
      rw [Int.add_mul, Int.add_mul, Int.add_mul, Int.mul_add, Int.mul_add, Int.mul_add] at hz
      refine ⟨fun v => v = a ∨ v = b ∨ v = c ∨ v = d, ⟨a, Or.inl rfl⟩, ?_⟩
      intro v hv
      rcases hv with hv | hv | hv | hv
      · subst hv
        exact ⟨(hE _ _ x1).1, b, Or.inr (Or.inl rfl), x1, by unfold zz_; omega⟩
      · subst hv
        exact ⟨(hE _ _ x2).1, c, Or.inr (Or.inr (Or.inl rfl)), x2, by unfold zz_; omega⟩
      · subst hv
        exact ⟨(hE _ _ x3).1, d, Or.inr (Or.inr (Or.inr rfl)), x3, by unfold zz_; omega⟩
      · subst hv
        exact ⟨(hE _ _ x4).1, a, Or.inl rfl, x4, by unfold zz_; omega⟩
  obtain ⟨S, ⟨v0, s0⟩, hS⟩ := S
  obtain ⟨k0, hk0, q0⟩ := h1 v0 (hS v0 s0).1
  have step : ∀ j, k0 + j ≤ 4 → ∃ v, S v ∧ dq_ D A B (k0 + j) v (π v) := by
    intro j
    induction j with
    | zero => intro _; exact ⟨v0, s0, q0⟩
    | succ j ih =>
      intro hj
      obtain ⟨v, sv, qv⟩ := ih (by omega)
      obtain ⟨hv, v', sv', ev, tv⟩ := hS v sv
      have q' := dq_ext hB hE hf h qv (by omega) ev
      rw [tv] at q'
      exact ⟨v', sv', q'⟩
  obtain ⟨v, sv, qv⟩ := step (4 - k0) (by omega)
  rw [show k0 + (4 - k0) = 4 by omega] at qv
  refine ⟨v, (hS v sv).1, qv.1, ?_⟩
  intro k hk hfin
  have g1 := h2 v k (hS v sv).1 hk hfin
  have g2 := qv.2
  have e4 : ((4 : Nat) : Int) = 4 := rfl
  rw [e4] at g2
  rw [Int.sub_mul, Int.mul_sub, Int.mul_comm (D 4 v) B, Int.mul_comm (D k v) B, Int.mul_comm A (k : Int)]
  omega
/-- what offerMean finds for v -/
def of_ (D : Nat → Nat → Int) (v : Nat) (t b : Int) : Prop :=
  (∃ k, k < 4 ∧ D k v < 1000000000 ∧ t = D 4 v - D k v ∧ b = 4 - (k : Int)) ∧ (∀ k, k < 4 → D k v < 1000000000 → (D 4 v - D k v) * b ≤ t * (4 - (k : Int)))
/-- what findMean finds: the least of them -/
def fm_ (D : Nat → Nat → Int) (t b : Int) : Prop :=
  (∃ v, v < 4 ∧ D 4 v < 1000000000 ∧ of_ D v t b) ∧ (∀ v, v < 4 → D 4 v < 1000000000 → ∃ t' b', of_ D v t' b' ∧ t * b' ≤ t' * b)
theorem fm_eq {A B W T t b : Int} (hB : 0 < B) (hE : er_ E) (hf : ∀ u v, E u v → -20 ≤ f u v ∧ f u v ≤ 20) (h : dk_ E f D) (hn : nn_ E (zz_ f on_ A B)) (hc : cw_ E f on_ W T) (hz : W * B = A * T) (hm : fm_ D t b) : t * B = A * b := by
  obtain ⟨⟨v, hv, h4, ⟨k, hk, hkf, et, eb⟩, hmax⟩, hmin⟩ := hm
  apply Int.le_antisymm
  · obtain ⟨v', hv', h4', hall⟩ := dk_full hB hE hf h hn hc hz
    obtain ⟨t', b', ⟨⟨k', hk', hkf', et', eb'⟩, -⟩, hle⟩ := hmin v' hv' h4'
    have g := hall k' hk' hkf'
    rw [← et', ← eb'] at g
    exact fr_tr (b := b) (d := b') (by omega) (by omega) hB hle g
  · obtain ⟨k', hk', hq⟩ := dk_short hB hE hf h hn hv h4
    have g := hmax k' hk' hq.1
    have g2 := hq.2
    have g3 : A * (4 - (k' : Int)) ≤ (D 4 v - D k' v) * B := by
      rw [Int.sub_mul, Int.mul_sub, Int.mul_comm (D 4 v) B, Int.mul_comm (D k' v) B, Int.mul_comm A (k' : Int)]
      omega
    exact fr_tr (a := A) (b := B) (c := D 4 v - D k' v) (d := 4 - (k' : Int)) (e := t) (f := b) hB (by omega) (by omega) g3 g
theorem fm_bd {t b : Int} (hE : er_ E) (hf : ∀ u v, E u v → -20 ≤ f u v ∧ f u v ≤ 20) (h : dk_ E f D) (hm : fm_ D t b) : -200 ≤ t ∧ t ≤ 200 ∧ 1 ≤ b ∧ b ≤ 4 := by
  obtain ⟨⟨v, hv, h4, ⟨k, hk, hkf, et, eb⟩, hmax⟩, hmin⟩ := hm
  have b1 := dk_bd hE hf h 4 v (by omega) hv
  have b2 := dk_bd hE hf h k v (by omega) hv
  omega
end
end
section
/-! ===== least distances: rounds over the arcs ===== -/
def fu_ {α : Type} (d : Nat → α) (k : Nat) (x : α) : Nat → α := fun j => if j = k then x else d j
theorem fu_s {α : Type} {d : Nat → α} {k : Nat} {x : α} : fu_ d k x k = x := if_pos rfl
theorem fu_n {α : Type} {d : Nat → α} {k j : Nat} {x : α} (h : j ≠ k) : fu_ d k x j = d j := if_neg h
section
variable {E : Nat → Nat → Prop} {z : Nat → Nat → Int} {d : Nat → Int} {P L : Nat → Nat}
/-- circles of cameFrom have a weight below 0 -/
def ng_ (z : Nat → Nat → Int) (P L : Nat → Nat) : Prop :=
  (∀ a, a < 4 → 1 ≤ L a → P a = a → z a a < 0) ∧
  (∀ a b, a < 4 → b < 4 → 1 ≤ L a → 1 ≤ L b → P a = b → P b = a → z b a + z a b < 0) ∧
  (∀ a b c, a < 4 → b < 4 → c < 4 → 1 ≤ L a → 1 ≤ L b → 1 ≤ L c → P a = b → P b = c → P c = a → z b a + z c b + z a c < 0) ∧
  (∀ a b c e, a < 4 → b < 4 → c < 4 → e < 4 → 1 ≤ L a → 1 ≤ L b → 1 ≤ L c → 1 ≤ L e → P a = b → P b = c → P c = e → P e = a → z b a + z c b + z e c + z a e < 0)
theorem ng_step {P' L' : Nat → Nat} {v0 : Nat}
    (K : ∀ x, x < 4 → 1 ≤ L' x → d (P' x) + z (P' x) x ≤ d x ∧ (x = v0 → d (P' x) + z (P' x) x < d x) ∧ (x ≠ v0 → P' x = P x ∧ L' x = L x)) (h : ng_ z P L) : ng_ z P' L' := by
  refine ⟨?_, ?_, ?_, ?_⟩
  · intro a ha la pa
    obtain ⟨a1, a2, a3⟩ := K a ha la
    rw [pa] at a1 a2 a3
    by_cases ea : a = v0
    · have := a2 ea
      omega
    · obtain ⟨x1, x2⟩ := a3 ea
      exact h.1 a ha (by omega) (by omega)
  · intro a b ha hb la lb pa pb
    obtain ⟨a1, a2, a3⟩ := K a ha la
    obtain ⟨b1, b2, b3⟩ := K b hb lb
    rw [pa] at a1 a2 a3
    rw [pb] at b1 b2 b3
    by_cases ea : a = v0
    · have := a2 ea
      omega
    by_cases eb : b = v0
    · have := b2 eb
      omega
    obtain ⟨x1, x2⟩ := a3 ea
    obtain ⟨y1, y2⟩ := b3 eb
    exact h.2.1 a b ha hb (by omega) (by omega) (by omega) (by omega)
  · intro a b c ha hb hc la lb lc pa pb pc
    obtain ⟨a1, a2, a3⟩ := K a ha la
    obtain ⟨b1, b2, b3⟩ := K b hb lb
    obtain ⟨c1, c2, c3⟩ := K c hc lc
    rw [pa] at a1 a2 a3
    rw [pb] at b1 b2 b3
    rw [pc] at c1 c2 c3
    by_cases ea : a = v0
    · have := a2 ea
      omega
    by_cases eb : b = v0
    · have := b2 eb
      omega
    by_cases ec : c = v0
    · have := c2 ec
      omega
    obtain ⟨x1, x2⟩ := a3 ea
    obtain ⟨y1, y2⟩ := b3 eb
    obtain ⟨t1, t2⟩ := c3 ec
    exact h.2.2.1 a b c ha hb hc (by omega) (by omega) (by omega) (by omega) (by omega) (by omega)
  · intro a b c e ha hb hc he la lb lc le pa pb pc pe
    obtain ⟨a1, a2, a3⟩ := K a ha la
    obtain ⟨b1, b2, b3⟩ := K b hb lb
    obtain ⟨c1, c2, c3⟩ := K c hc lc
    obtain ⟨e1, e2, e3⟩ := K e he le
    rw [pa] at a1 a2 a3
    rw [pb] at b1 b2 b3
    rw [pc] at c1 c2 c3
    rw [pe] at e1 e2 e3
    by_cases ea : a = v0
    · have := a2 ea
      omega
    by_cases eb : b = v0
    · have := b2 eb
      omega
    by_cases ec : c = v0
    · have := c2 ec
      omega
    by_cases ee : e = v0
    · have := e2 ee
      omega
    obtain ⟨x1, x2⟩ := a3 ea
    obtain ⟨y1, y2⟩ := b3 eb
    obtain ⟨t1, t2⟩ := c3 ec
    obtain ⟨s1, s2⟩ := e3 ee
    exact h.2.2.2 a b c e ha hb hc he (by omega) (by omega) (by omega) (by omega) (by omega) (by omega) (by omega) (by omega)
/-- in round R, the arcs below c done; L v: one more than the round in which v was last bettered, 0 if never -/
def bf_ (E : Nat → Nat → Prop) (z : Nat → Nat → Int) (R c : Nat) (d : Nat → Int) (P L : Nat → Nat) : Prop :=
  (∀ v, v < 4 → L v ≤ R + 1) ∧
  (∀ v, v < 4 → 1 ≤ L v → P v < 4 ∧ E (P v) v ∧ d (P v) + z (P v) v ≤ d v) ∧
  (∀ v, v < 4 → 2 ≤ L v → L v ≤ L (P v) + 1) ∧
  (∀ u v, E u v → 6 * u + v < c → d v ≤ d u + z u v ∨ L u = R + 1) ∧
  (∀ u v, E u v → c ≤ 6 * u + v → 1 ≤ R → d v ≤ d u + z u v ∨ R ≤ L u) ∧
  ng_ z P L
theorem bf_0 (hL : ∀ v, v < 4 → L v = 0) : bf_ E z 0 0 d P L := by
  have N : ∀ v n, v < 4 → 1 ≤ n → ¬ n ≤ L v := fun v n hv hn h => by have := hL v hv; omega
  refine ⟨fun v hv => by have := hL v hv; omega, fun v hv h => absurd h (N v 1 hv (by omega)), fun v hv h => absurd h (N v 2 hv (by omega)), fun u v _ h => absurd h (by omega), fun u v _ _ h => absurd h (by omega), ?_⟩
  exact ⟨fun a ha h => absurd h (N a 1 ha (by omega)), fun a b ha _ h => absurd h (N a 1 ha (by omega)), fun a b c ha _ _ h => absurd h (N a 1 ha (by omega)), fun a b c e ha _ _ _ h => absurd h (N a 1 ha (by omega))⟩
theorem bf_round {R : Nat} (hE : er_ E) (h : bf_ E z R 36 d P L) : bf_ E z (R + 1) 0 d P L := by
  obtain ⟨h1, h2, h3, h4, h5, h6⟩ := h
  refine ⟨fun v hv => ?_, h2, h3, fun u v _ hc => absurd hc (by omega), ?_, h6⟩
  · have := h1 v hv
    omega
  · intro u v huv _ _
    have k := hE u v huv
    rcases h4 u v huv (by omega) with x | x
    · exact Or.inl x
    · exact Or.inr (by omega)
theorem bf_skip {R c : Nat} (h : bf_ E z R c d P L) (hs : ∀ u v, E u v → 6 * u + v = c → d v ≤ d u + z u v) : bf_ E z R (c + 1) d P L := by
  obtain ⟨h1, h2, h3, h4, h5, h6⟩ := h
  refine ⟨h1, h2, h3, ?_, ?_, h6⟩
  · intro u v huv hc
    by_cases e : 6 * u + v = c
    · exact Or.inl (hs u v huv e)
    · exact h4 u v huv (by omega)
  · intro u v huv hc hR
    exact h5 u v huv (by omega) hR
theorem bf_put {R c u0 v0 : Nat} (hE : er_ E) (h : bf_ E z R c d P L) (huv : E u0 v0) (hc : 6 * u0 + v0 = c) (hlt : d u0 + z u0 v0 < d v0) :
    bf_ E z R (c + 1) (fu_ d v0 (d u0 + z u0 v0)) (fu_ P v0 u0) (fu_ L v0 (R + 1)) := by
  obtain ⟨h1, h2, h3, h4, h5, h6⟩ := h
  have hu0 := (hE _ _ huv).1
  have hv0 := (hE _ _ huv).2
  have dle : ∀ x, fu_ d v0 (d u0 + z u0 v0) x ≤ d x := by
    intro x
    by_cases e : x = v0
    · rw [e, fu_s]; omega
    · rw [fu_n e]; omega
  have Lle : ∀ x, x < 4 → L x ≤ fu_ L v0 (R + 1) x := by
    intro x hx
    by_cases e : x = v0
    · rw [e, fu_s]; exact h1 v0 hv0
    · rw [fu_n e]; omega
  refine ⟨?_, ?_, ?_, ?_, ?_, ?_⟩
  · intro v hv
    by_cases e : v = v0
    · rw [e, fu_s]; omega
    · rw [fu_n e]; exact h1 v hv
  · intro v hv hl
    by_cases e : v = v0
    · subst e
      rw [fu_s, fu_s]
      have := dle u0
      exact ⟨hu0, huv, by omega⟩
    · rw [fu_n e] at hl
      obtain ⟨x1, x2, x3⟩ := h2 v hv hl
      rw [fu_n e, fu_n (d := d) e]
      have := dle (P v)
      exact ⟨x1, x2, by omega⟩
  · intro v hv hl
    by_cases e : v = v0
    · subst e
      rw [fu_s] at hl
      rw [fu_s, fu_s]
      have k := Lle u0 hu0
      rcases h5 u0 v huv (by omega) (by omega) with x | x
      · omega
      · omega
    · rw [fu_n e] at hl
      have x := h3 v hv hl
      have y := (h2 v hv (by omega)).1
      rw [fu_n (d := P) e, fu_n (d := L) e]
      have := Lle (P v) y
      omega
  · intro u v hu hcc
    by_cases eu : u = v0
    · right
      rw [eu, fu_s]
    · rw [fu_n (d := L) eu, fu_n (d := d) eu]
      by_cases e : 6 * u + v = c
      · have k1 := hE _ _ hu
        have ev : v = v0 := by omega
        have eu' : u = u0 := by omega
        subst ev
        subst eu'
        left
        rw [fu_s]
        omega
      · have := dle v
        rcases h4 u v hu (by omega) with x | x
        · left; omega
        · right; exact x
  · intro u v hu hcc hR
    by_cases eu : u = v0
    · right
      rw [eu, fu_s]
      omega
    · rw [fu_n (d := L) eu, fu_n (d := d) eu]
      have := dle v
      rcases h5 u v hu (by omega) hR with x | x
      · left; omega
      · right; exact x
  · refine ng_step (d := d) (v0 := v0) (P := P) (L := L) ?_ h6
    intro x hx hl
    by_cases e : x = v0
    · subst e
      rw [fu_s]
      exact ⟨by omega, fun _ => hlt, fun n => absurd rfl n⟩
    · rw [fu_n e] at hl
      rw [fu_n e, fu_n (d := L) e]
      exact ⟨(h2 x hx hl).2.2, fun n => absurd n e, fun _ => ⟨rfl, rfl⟩⟩
/-- what a relax that answers p leaves -/
def cd_ (E : Nat → Nat → Prop) (z : Nat → Nat → Int) (P L : Nat → Nat) (p : Nat) : Prop :=
  p < 4 ∧ 5 ≤ L p ∧ (∀ v, v < 4 → 1 ≤ L v → P v < 4 ∧ E (P v) v) ∧ (∀ v, v < 4 → 2 ≤ L v → L v ≤ L (P v) + 1) ∧ ng_ z P L
theorem bf_cd {p : Nat} (h : bf_ E z 4 36 d P L) (hp : p < 4) (hl : L p = 5) : cd_ E z P L p := by
  obtain ⟨h1, h2, h3, h4, h5, h6⟩ := h
  exact ⟨hp, by omega, fun v hv hl => ⟨(h2 v hv hl).1, (h2 v hv hl).2.1⟩, h3, h6⟩
theorem bf_pt (hE : er_ E) (h : bf_ E z 4 36 d P L) (hl : ∀ v, v < 4 → L v ≤ 4) : pt_ E z d := by
  obtain ⟨h1, h2, h3, h4, h5, h6⟩ := h
  intro u v huv
  have k := hE _ _ huv
  rcases h4 u v huv (by omega) with x | x
  · exact x
  · have := hl u k.1
    omega
/-- four steps back from p -/
theorem cd_back {p : Nat} (h : cd_ E z P L p) : ∃ q1 q2 q3 q4, P p = q1 ∧ P q1 = q2 ∧ P q2 = q3 ∧ P q3 = q4 ∧ q1 < 4 ∧ q2 < 4 ∧ q3 < 4 ∧ q4 < 4 ∧ 1 ≤ L p ∧ 1 ≤ L q1 ∧ 1 ≤ L q2 ∧ 1 ≤ L q3 ∧ 1 ≤ L q4 := by
  obtain ⟨hp, hl, h1, h2, h3⟩ := h
  have a1 := h1 p hp (by omega)
  have b1 := h2 p hp (by omega)
  have a2 := h1 (P p) a1.1 (by omega)
  have b2 := h2 (P p) a1.1 (by omega)
  have a3 := h1 (P (P p)) a2.1 (by omega)
  have b3 := h2 (P (P p)) a2.1 (by omega)
  have a4 := h1 (P (P (P p))) a3.1 (by omega)
  have b4 := h2 (P (P (P p))) a3.1 (by omega)
  exact ⟨_, _, _, _, rfl, rfl, rfl, rfl, a1.1, a2.1, a3.1, a4.1, by omega, by omega, by omega, by omega, by omega⟩
/-- the circle that is found from on -/
def ci_ (P L : Nat → Nat) (o : Nat) : Prop :=
  P o = o ∨ (P (P o) = o ∧ 1 ≤ L (P o)) ∨ (P (P (P o)) = o ∧ 1 ≤ L (P o) ∧ 1 ≤ L (P (P o))) ∨ (P (P (P (P o))) = o ∧ 1 ≤ L (P o) ∧ 1 ≤ L (P (P o)) ∧ 1 ≤ L (P (P (P o))))
theorem cd_ci {p : Nat} (h : cd_ E z P L p) : ∃ q1 q2 q3 q4, P p = q1 ∧ P q1 = q2 ∧ P q2 = q3 ∧ P q3 = q4 ∧ q1 < 4 ∧ q2 < 4 ∧ q3 < 4 ∧ q4 < 4 ∧ 1 ≤ L p ∧ 1 ≤ L q1 ∧ 1 ≤ L q2 ∧ 1 ≤ L q3 ∧ 1 ≤ L q4 ∧ ci_ P L q4 := by
  obtain ⟨q1, q2, q3, q4, e1, e2, e3, e4, k1, k2, k3, k4, l0, l1, l2, l3, l4⟩ := cd_back h
  refine ⟨q1, q2, q3, q4, e1, e2, e3, e4, k1, k2, k3, k4, l0, l1, l2, l3, l4, ?_⟩
  unfold ci_
  rcases pg_5 h.1 k1 k2 k3 k4 with x | x | x | x | x | x | x | x | x | x
  · left; grind
  · right; left; grind
  · right; right; left; grind
  · right; right; right; grind
  · left; grind
  · right; left; grind
  · right; right; left; grind
  · left; grind
  · right; left; grind
  · left; grind
theorem cd_nn {p : Nat} (h : cd_ E z P L p) (hn : nn_ E z) : False := by
  obtain ⟨q1, q2, q3, q4, e1, e2, e3, e4, k1, k2, k3, k4, l0, l1, l2, l3, l4, hc⟩ := cd_ci h
  obtain ⟨-, -, h1, h2, n1, n2, n3, n4⟩ := h
  have g := h1 q4 k4 l4
  rcases hc with x | ⟨x, y⟩ | ⟨x, y1, y2⟩ | ⟨x, y1, y2, y3⟩
  · have a := n1 q4 k4 l4 x
    rw [x] at g
    have b := hn.1 q4 g.2
    omega
  · have g2 := h1 (P q4) g.1 y
    have a := n2 q4 (P q4) k4 g.1 l4 y rfl x
    rw [x] at g2
    have b := hn.2.1 _ _ g.2 g2.2
    omega
  · have g2 := h1 (P q4) g.1 y1
    have g3 := h1 (P (P q4)) g2.1 y2
    have a := n3 q4 (P q4) (P (P q4)) k4 g.1 g2.1 l4 y1 y2 rfl rfl x
    rw [x] at g3
    have b := hn.2.2.1 _ _ _ g3.2 g2.2 g.2
    omega
  · have g2 := h1 (P q4) g.1 y1
    have g3 := h1 (P (P q4)) g2.1 y2
    have g4 := h1 (P (P (P q4))) g3.1 y3
    have a := n4 q4 (P q4) (P (P q4)) (P (P (P q4))) k4 g.1 g2.1 g3.1 l4 y1 y2 y3 rfl rfl rfl x
    rw [x] at g4
    have b := hn.2.2.2 _ _ _ _ g4.2 g3.2 g2.2 g.2
    omega
end
end
section
/-! ===== the law's codes of cycles ===== -/
section
variable {E : Nat → Nat → Prop} {f g : Nat → Nat → Int}
def cu_ (c k : Nat) : Nat := c / 4 ^ (k + 1) % 4
def cn_ (c : Nat) : Nat := 1 + c % 4
def cv_ (c k : Nat) : Nat := cu_ c ((k + 1) % cn_ c)
def vl_ (E : Nat → Nat → Prop) (c : Nat) : Prop :=
  (∀ k, k < cn_ c → (∀ j, j < k → cu_ c j ≠ cu_ c k) ∧ cu_ c 0 ≤ cu_ c k ∧ E (cu_ c k) (cv_ c k)) ∧ c / 4 ^ (cn_ c + 1) = 0
def cs_ (f : Nat → Nat → Int) (c : Nat) : Nat → Int
  | 0 => 0
  | n + 1 => cs_ f c n + f (cu_ c n) (cv_ c n)
theorem cu_lt (c k : Nat) : cu_ c k < 4 := Nat.mod_lt _ (by omega)
theorem cv_lt (c k : Nat) : cv_ c k < 4 := cu_lt _ _
theorem cn_cases (c : Nat) : cn_ c = 1 ∨ cn_ c = 2 ∨ cn_ c = 3 ∨ cn_ c = 4 := by
  unfold cn_
  omega
theorem cv_of {c n : Nat} (k : Nat) (hn : cn_ c = n) : cv_ c k = cu_ c ((k + 1) % n) := by
  unfold cv_
  rw [hn]
theorem ca_vl {c k : Nat} (h : vl_ E c) (hk : k < cn_ c) (f g : Nat → Nat → Int) : ca_ E f g (cu_ c k) (cv_ c k) (cs_ f c (cn_ c)) (cs_ g c (cn_ c)) := by
  obtain ⟨h, -⟩ := h
  rcases cn_cases c with hn | hn | hn | hn
  · have v0 : cv_ c 0 = cu_ c 0 := cv_of 0 hn
    rw [hn] at h hk ⊢
    have a0 := h 0 (by omega)
    rw [v0] at a0
    have ek : k = 0 := by omega
    subst ek
    simp only [cs_, v0]
    exact Or.inl ⟨rfl, a0.2.2, by omega, by omega⟩
  · have v0 : cv_ c 0 = cu_ c 1 := cv_of 0 hn
    have v1 : cv_ c 1 = cu_ c 0 := cv_of 1 hn
    rw [hn] at h hk ⊢
    have a0 := h 0 (by omega)
    have a1 := h 1 (by omega)
    rw [v0] at a0
    rw [v1] at a1
    have d01 := a1.1 0 (by omega)
    simp only [cs_, v0, v1]
    rcases (show k = 0 ∨ k = 1 by omega) with e | e
    · subst e
      rw [v0]
      exact Or.inr (Or.inl ⟨d01, a0.2.2, a1.2.2, by omega, by omega⟩)
    · subst e
      rw [v1]
      exact Or.inr (Or.inl ⟨d01.symm, a1.2.2, a0.2.2, by omega, by omega⟩)
  · have v0 : cv_ c 0 = cu_ c 1 := cv_of 0 hn
    have v1 : cv_ c 1 = cu_ c 2 := cv_of 1 hn
    have v2 : cv_ c 2 = cu_ c 0 := cv_of 2 hn
    rw [hn] at h hk ⊢
    have a0 := h 0 (by omega)
    have a1 := h 1 (by omega)
    have a2 := h 2 (by omega)
    rw [v0] at a0
    rw [v1] at a1
    rw [v2] at a2
    have d01 := a1.1 0 (by omega)
    have d02 := a2.1 0 (by omega)
    have d12 := a2.1 1 (by omega)
    simp only [cs_, v0, v1, v2]
    rcases (show k = 0 ∨ k = 1 ∨ k = 2 by omega) with e | e | e
    · subst e
      rw [v0]
      exact Or.inr (Or.inr (Or.inl ⟨_, d01, d02, d12, a0.2.2, a1.2.2, a2.2.2, by omega, by omega⟩))
    · subst e
      rw [v1]
      exact Or.inr (Or.inr (Or.inl ⟨_, d12, d01.symm, d02.symm, a1.2.2, a2.2.2, a0.2.2, by omega, by omega⟩))
    · subst e
      rw [v2]
      exact Or.inr (Or.inr (Or.inl ⟨_, d02.symm, d12.symm, d01, a2.2.2, a0.2.2, a1.2.2, by omega, by omega⟩))
  · have v0 : cv_ c 0 = cu_ c 1 := cv_of 0 hn
    have v1 : cv_ c 1 = cu_ c 2 := cv_of 1 hn
    have v2 : cv_ c 2 = cu_ c 3 := cv_of 2 hn
    have v3 : cv_ c 3 = cu_ c 0 := cv_of 3 hn
    rw [hn] at h hk ⊢
    have a0 := h 0 (by omega)
    have a1 := h 1 (by omega)
    have a2 := h 2 (by omega)
    have a3 := h 3 (by omega)
    rw [v0] at a0
    rw [v1] at a1
    rw [v2] at a2
    rw [v3] at a3
    have d01 := a1.1 0 (by omega)
    have d02 := a2.1 0 (by omega)
    have d12 := a2.1 1 (by omega)
    have d03 := a3.1 0 (by omega)
    have d13 := a3.1 1 (by omega)
    have d23 := a3.1 2 (by omega)
    simp only [cs_, v0, v1, v2, v3]
    rcases (show k = 0 ∨ k = 1 ∨ k = 2 ∨ k = 3 by omega) with e | e | e | e
    · subst e
      rw [v0]
      exact Or.inr (Or.inr (Or.inr ⟨_, _, d01, d02, d03, d12, d13, d23, a0.2.2, a1.2.2, a2.2.2, a3.2.2, by omega, by omega⟩))
    · subst e
      rw [v1]
      exact Or.inr (Or.inr (Or.inr ⟨_, _, d12, d13, d01.symm, d23, d02.symm, d03.symm, a1.2.2, a2.2.2, a3.2.2, a0.2.2, by omega, by omega⟩))
    · subst e
      rw [v2]
      exact Or.inr (Or.inr (Or.inr ⟨_, _, d23, d02.symm, d12.symm, d03.symm, d13.symm, d01, a2.2.2, a3.2.2, a0.2.2, a1.2.2, by omega, by omega⟩))
    · subst e
      rw [v3]
      exact Or.inr (Or.inr (Or.inr ⟨_, _, d03.symm, d13.symm, d23.symm, d01, d02, d12, a3.2.2, a0.2.2, a1.2.2, a2.2.2, by omega, by omega⟩))
/-- a code with its cycle's arcs -/
def cx_ (E : Nat → Nat → Prop) (p q x : Nat) : Prop := x < 1024 ∧ vl_ E x ∧ ∃ k, k < cn_ x ∧ cu_ x k = p ∧ cv_ x k = q
theorem cx_1 {a : Nat} (ha : a < 4) (h : E a a) : ∃ x, cx_ E a a x ∧ ∀ f : Nat → Nat → Int, cs_ f x (cn_ x) = f a a := by
  have n : cn_ (4 * a) = 1 := by unfold cn_; omega
  have u0 : cu_ (4 * a) 0 = a := by show 4 * a / 4 % 4 = a; omega
  have v0 : cv_ (4 * a) 0 = a := (cv_of 0 n).trans u0
  refine ⟨4 * a, ⟨by omega, ⟨?_, ?_⟩, 0, by omega, u0, v0⟩, ?_⟩
  · intro k hk
    rw [n] at hk
    have e : k = 0 := by omega
    subst e
    rw [u0, v0]
    exact ⟨fun j hj => absurd hj (by omega), by omega, h⟩
  · rw [n]
    show 4 * a / 16 = 0
    omega
  · intro f
    rw [n]
    simp only [cs_, u0, v0]
    omega
theorem cx_2 {a b : Nat} (ha : a < 4) (hb : b < 4) (ab : a < b) (h1 : E a b) (h2 : E b a) :
    ∃ x, cx_ E a b x ∧ cx_ E b a x ∧ ∀ f : Nat → Nat → Int, cs_ f x (cn_ x) = f a b + f b a := by
  have n : cn_ (1 + 4 * a + 16 * b) = 2 := by unfold cn_; omega
  have u0 : cu_ (1 + 4 * a + 16 * b) 0 = a := by show (1 + 4 * a + 16 * b) / 4 % 4 = a; omega
  have u1 : cu_ (1 + 4 * a + 16 * b) 1 = b := by show (1 + 4 * a + 16 * b) / 16 % 4 = b; omega
  have v0 : cv_ (1 + 4 * a + 16 * b) 0 = b := (cv_of 0 n).trans u1
  have v1 : cv_ (1 + 4 * a + 16 * b) 1 = a := (cv_of 1 n).trans u0
  have V : vl_ E (1 + 4 * a + 16 * b) := by
    refine ⟨?_, ?_⟩
    · intro k hk
      rw [n] at hk
      rcases (show k = 0 ∨ k = 1 by omega) with e | e
      · subst e
        rw [u0, v0]
        exact ⟨fun j hj => absurd hj (by omega), by omega, h1⟩
      · subst e
        rw [u0, u1, v1]
        refine ⟨fun j hj => ?_, by omega, h2⟩
        have e : j = 0 := by omega
        subst e
        rw [u0]
        omega
    · rw [n]
      show (1 + 4 * a + 16 * b) / 64 = 0
      omega
  refine ⟨1 + 4 * a + 16 * b, ⟨by omega, V, 0, by omega, u0, v0⟩, ⟨by omega, V, 1, by omega, u1, v1⟩, ?_⟩
  intro f
  rw [n]
  simp only [cs_, u0, v0, u1, v1]
  omega
theorem cx_3 {a b c : Nat} (ha : a < 4) (hb : b < 4) (hc : c < 4) (ab : a < b) (ac : a < c) (bc : b ≠ c) (h1 : E a b) (h2 : E b c) (h3 : E c a) :
    ∃ x, cx_ E a b x ∧ cx_ E b c x ∧ cx_ E c a x ∧ ∀ f : Nat → Nat → Int, cs_ f x (cn_ x) = f a b + f b c + f c a := by
  have n : cn_ (2 + 4 * a + 16 * b + 64 * c) = 3 := by unfold cn_; omega
  have u0 : cu_ (2 + 4 * a + 16 * b + 64 * c) 0 = a := by show (2 + 4 * a + 16 * b + 64 * c) / 4 % 4 = a; omega
  have u1 : cu_ (2 + 4 * a + 16 * b + 64 * c) 1 = b := by show (2 + 4 * a + 16 * b + 64 * c) / 16 % 4 = b; omega
  have u2 : cu_ (2 + 4 * a + 16 * b + 64 * c) 2 = c := by show (2 + 4 * a + 16 * b + 64 * c) / 64 % 4 = c; omega
  have v0 : cv_ (2 + 4 * a + 16 * b + 64 * c) 0 = b := (cv_of 0 n).trans u1
  have v1 : cv_ (2 + 4 * a + 16 * b + 64 * c) 1 = c := (cv_of 1 n).trans u2
  have v2 : cv_ (2 + 4 * a + 16 * b + 64 * c) 2 = a := (cv_of 2 n).trans u0
  have V : vl_ E (2 + 4 * a + 16 * b + 64 * c) := by
    refine ⟨?_, ?_⟩
    · intro k hk
      rw [n] at hk
      rcases (show k = 0 ∨ k = 1 ∨ k = 2 by omega) with e | e | e
      · subst e
        rw [u0, v0]
        exact ⟨fun j hj => absurd hj (by omega), by omega, h1⟩
      · subst e
        rw [u0, u1, v1]
        refine ⟨fun j hj => ?_, by omega, h2⟩
        have e : j = 0 := by omega
        subst e
        rw [u0]
        omega
      · subst e
        rw [u0, u2, v2]
        refine ⟨fun j hj => ?_, by omega, h3⟩
        rcases (show j = 0 ∨ j = 1 by omega) with e | e
        · subst e
          rw [u0]
          omega
        · subst e
          rw [u1]
          omega
    · rw [n]
      show (2 + 4 * a + 16 * b + 64 * c) / 256 = 0
      omega
  refine ⟨2 + 4 * a + 16 * b + 64 * c, ⟨by omega, V, 0, by omega, u0, v0⟩, ⟨by omega, V, 1, by omega, u1, v1⟩, ⟨by omega, V, 2, by omega, u2, v2⟩, ?_⟩
  intro f
  rw [n]
  simp only [cs_, u0, v0, u1, v1, u2, v2]
  omega
theorem cx_4 {a b c d : Nat} (ha : a < 4) (hb : b < 4) (hc : c < 4) (hd : d < 4) (ab : a < b) (ac : a < c) (ad : a < d) (bc : b ≠ c) (bd : b ≠ d) (cd : c ≠ d) (h1 : E a b) (h2 : E b c) (h3 : E c d) (h4 : E d a) :
    ∃ x, cx_ E a b x ∧ cx_ E b c x ∧ cx_ E c d x ∧ cx_ E d a x ∧ ∀ f : Nat → Nat → Int, cs_ f x (cn_ x) = f a b + f b c + f c d + f d a := by
  have n : cn_ (3 + 4 * a + 16 * b + 64 * c + 256 * d) = 4 := by unfold cn_; omega
  have u0 : cu_ (3 + 4 * a + 16 * b + 64 * c + 256 * d) 0 = a := by show (3 + 4 * a + 16 * b + 64 * c + 256 * d) / 4 % 4 = a; omega
  have u1 : cu_ (3 + 4 * a + 16 * b + 64 * c + 256 * d) 1 = b := by show (3 + 4 * a + 16 * b + 64 * c + 256 * d) / 16 % 4 = b; omega
  have u2 : cu_ (3 + 4 * a + 16 * b + 64 * c + 256 * d) 2 = c := by show (3 + 4 * a + 16 * b + 64 * c + 256 * d) / 64 % 4 = c; omega
  have u3 : cu_ (3 + 4 * a + 16 * b + 64 * c + 256 * d) 3 = d := by show (3 + 4 * a + 16 * b + 64 * c + 256 * d) / 256 % 4 = d; omega
  have v0 : cv_ (3 + 4 * a + 16 * b + 64 * c + 256 * d) 0 = b := (cv_of 0 n).trans u1
  have v1 : cv_ (3 + 4 * a + 16 * b + 64 * c + 256 * d) 1 = c := (cv_of 1 n).trans u2
  have v2 : cv_ (3 + 4 * a + 16 * b + 64 * c + 256 * d) 2 = d := (cv_of 2 n).trans u3
  have v3 : cv_ (3 + 4 * a + 16 * b + 64 * c + 256 * d) 3 = a := (cv_of 3 n).trans u0
  have V : vl_ E (3 + 4 * a + 16 * b + 64 * c + 256 * d) := by
    refine ⟨?_, ?_⟩
    · intro k hk
      rw [n] at hk
      rcases (show k = 0 ∨ k = 1 ∨ k = 2 ∨ k = 3 by omega) with e | e | e | e
      · subst e
        rw [u0, v0]
        exact ⟨fun j hj => absurd hj (by omega), by omega, h1⟩
      · subst e
        rw [u0, u1, v1]
        refine ⟨fun j hj => ?_, by omega, h2⟩
        have e : j = 0 := by omega
        subst e
        rw [u0]
        omega
      · subst e
        rw [u0, u2, v2]
        refine ⟨fun j hj => ?_, by omega, h3⟩
        rcases (show j = 0 ∨ j = 1 by omega) with e | e
        · subst e
          rw [u0]
          omega
        · subst e
          rw [u1]
          omega
      · subst e
        rw [u0, u3, v3]
        refine ⟨fun j hj => ?_, by omega, h4⟩
        rcases (show j = 0 ∨ j = 1 ∨ j = 2 by omega) with e | e | e
        · subst e
          rw [u0]
          omega
        · subst e
          rw [u1]
          omega
        · subst e
          rw [u2]
          omega
    · rw [n]
      show (3 + 4 * a + 16 * b + 64 * c + 256 * d) / 1024 = 0
      omega
  refine ⟨3 + 4 * a + 16 * b + 64 * c + 256 * d, ⟨by omega, V, 0, by omega, u0, v0⟩, ⟨by omega, V, 1, by omega, u1, v1⟩, ⟨by omega, V, 2, by omega, u2, v2⟩, ⟨by omega, V, 3, by omega, u3, v3⟩, ?_⟩
  intro f
  rw [n]
  simp only [cs_, u0, v0, u1, v1, u2, v2, u3, v3]
  omega
theorem vl_ca {p q : Nat} {W T : Int} (hE : er_ E) (h : ca_ E f g p q W T) : ∃ x, cx_ E p q x ∧ W = cs_ f x (cn_ x) ∧ T = cs_ g x (cn_ x) := by
  rcases h with ⟨e, h1, rfl, rfl⟩ | ⟨e, h1, h2, rfl, rfl⟩ | ⟨c, e1, e2, e3, h1, h2, h3, rfl, rfl⟩ | ⟨c, d, e1, e2, e3, e4, e5, e6, h1, h2, h3, h4, rfl, rfl⟩
  · subst e
    obtain ⟨x, hx, hs⟩ := cx_1 (hE _ _ h1).1 h1
    exact ⟨x, hx, (hs f).symm, (hs g).symm⟩
  · have k := hE _ _ h1
    rcases (show p < q ∨ q < p by omega) with o | o
    · obtain ⟨x, x1, x2, hs⟩ := cx_2 k.1 k.2 o h1 h2
      exact ⟨x, x1, by rw [hs f], by rw [hs g]⟩
    · obtain ⟨x, x1, x2, hs⟩ := cx_2 k.2 k.1 o h2 h1
      exact ⟨x, x2, by rw [hs f]; omega, by rw [hs g]; omega⟩
  · have k := hE _ _ h1
    have k2 := hE _ _ h2
    rcases (show (p < q ∧ p < c) ∨ (q < c ∧ q < p) ∨ (c < p ∧ c < q) by omega) with ⟨o1, o2⟩ | ⟨o1, o2⟩ | ⟨o1, o2⟩
    · obtain ⟨x, x1, x2, x3, hs⟩ := cx_3 k.1 k.2 k2.2 o1 o2 e3 h1 h2 h3
      exact ⟨x, x1, by rw [hs f], by rw [hs g]⟩
    · obtain ⟨x, x1, x2, x3, hs⟩ := cx_3 k.2 k2.2 k.1 o1 o2 e2.symm h2 h3 h1
      exact ⟨x, x3, by rw [hs f]; omega, by rw [hs g]; omega⟩
    · obtain ⟨x, x1, x2, x3, hs⟩ := cx_3 k2.2 k.1 k.2 o1 o2 e1 h3 h1 h2
      exact ⟨x, x2, by rw [hs f]; omega, by rw [hs g]; omega⟩
  · have k := hE _ _ h1
    have k2 := hE _ _ h3
    rcases (show (p < q ∧ p < c ∧ p < d) ∨ (q < c ∧ q < d ∧ q < p) ∨ (c < d ∧ c < p ∧ c < q) ∨ (d < p ∧ d < q ∧ d < c) by omega) with ⟨o1, o2, o3⟩ | ⟨o1, o2, o3⟩ | ⟨o1, o2, o3⟩ | ⟨o1, o2, o3⟩
    · obtain ⟨x, x1, x2, x3, x4, hs⟩ := cx_4 k.1 k.2 k2.1 k2.2 o1 o2 o3 e4 e5 e6 h1 h2 h3 h4
      exact ⟨x, x1, by rw [hs f], by rw [hs g]⟩
    · obtain ⟨x, x1, x2, x3, x4, hs⟩ := cx_4 k.2 k2.1 k2.2 k.1 o1 o2 o3 e6 e2.symm e3.symm h2 h3 h4 h1
      exact ⟨x, x4, by rw [hs f]; omega, by rw [hs g]; omega⟩
    · obtain ⟨x, x1, x2, x3, x4, hs⟩ := cx_4 k2.1 k2.2 k.1 k.2 o1 o2 o3 e3.symm e5.symm e1 h3 h4 h1 h2
      exact ⟨x, x3, by rw [hs f]; omega, by rw [hs g]; omega⟩
    · obtain ⟨x, x1, x2, x3, x4, hs⟩ := cx_4 k2.2 k.1 k.2 k2.1 o1 o2 o3 e1 e2 e4 h4 h1 h2 h3
      exact ⟨x, x2, by rw [hs f]; omega, by rw [hs g]; omega⟩
/-- sums of a code: bounds -/
theorem cs_bd {c : Nat} (h : vl_ E c) (hf : ∀ u v, E u v → -20 ≤ f u v ∧ f u v ≤ 20) (hg : ∀ u v, E u v → 1 ≤ g u v ∧ g u v ≤ 5) :
    -80 ≤ cs_ f c (cn_ c) ∧ cs_ f c (cn_ c) ≤ 80 ∧ 1 ≤ cs_ g c (cn_ c) ∧ cs_ g c (cn_ c) ≤ 20 ∧ cs_ f c (cn_ c) ≤ 20 * cs_ g c (cn_ c) :=
  cw_bd (cw_ca (ca_vl (k := 0) h (by have := cn_cases c; omega) f g)) hf hg
theorem cs_one (c : Nat) : ∀ n, cs_ on_ c n = (n : Int) := by
  intro n
  induction n with
  | zero => rfl
  | succ n ih => simp only [cs_, ih, on_]; omega
end
end
section
/-! ===== closeReach, onTightCircle, onCircle ===== -/
def wr_ (m : Nat) (r : Nat → Int32) (u : Nat) : Int32 := if bt_ (r u) m = true then r u ||| r m else r u
theorem wr_self (m : Nat) (r : Nat → Int32) : wr_ m r m = r m := by
  unfold wr_
  by_cases h : bt_ (r m) m = true
  · rw [if_pos h, Int32.or_self]
  · rw [if_neg h]
theorem wr_bt (m : Nat) (r : Nat → Int32) (u v : Nat) : bt_ (wr_ m r u) v = true ↔ bt_ (r u) v = true ∨ (bt_ (r u) m = true ∧ bt_ (r m) v = true) := by
  unfold wr_
  by_cases h : bt_ (r u) m = true
  · rw [if_pos h, bt_or, Bool.or_eq_true]
    constructor
    · rintro (x | x)
      · exact Or.inl x
      · exact Or.inr ⟨h, x⟩
    · rintro (x | ⟨_, x⟩)
      · exact Or.inl x
      · exact Or.inr x
  · rw [if_neg h]
    constructor
    · exact Or.inl
    · rintro (x | ⟨x, _⟩)
      · exact x
      · exact absurd x h
section
variable {T B : Int64} {pc : Int32} {a1 a2 a3 a6 : Nat → Int32} {a4 a5 : Nat → Int64}
theorem cr_in {post : St2 → Prop} {J : Int32 → (Nat → Int32) → (Nat → Int32) → (Nat → Int32) → (Nat → Int64) → (Nat → Int64) → (Nat → Int32) → (Nat → Int32) → Prop} {r : Nat → Int32} {m : Nat} (hm : m < 6)
    (H : ∀ s, (∀ u, u < 6 → s u = wr_ m r u) → J (nI (m + 1)) a1 a2 a3 a4 a5 a6 s) : ∃ n, wX_closeReach_10 post J (nI m) pc T B n 0 a1 a2 a3 a4 a5 a6 r := by
  refine pk_loop (fun n i s => wX_closeReach_10 post J (nI m) pc T B n (nI i) a1 a2 a3 a4 a5 a6 s) (fun i s => ∀ u, u < 6 → s u = if u < i then wr_ m r u else r u) 6 0 r (by omega) (fun u _ => by simp) ?_ ?_
  · intro n s h
    exact pk_le 6 6 (fun _ => nm_r (nI_1 m) (H s (fun u hu => by rw [h u hu, if_pos hu]))) (fun z => absurd z (by omega))
  · intro n i s hi h hw
    have si : s i = r i := by rw [h i hi, if_neg (by omega)]
    have sm : s m = r m := by
      rw [h m hm, wr_self]
      by_cases c : m < i
      · rw [if_pos c]
      · rw [if_neg c]
    refine pk_le 6 i (fun z => absurd z (by omega)) (fun _ => ⟨pk_in i 6 hi, ?_⟩)
    rw [nI_clamp (show i < 2 ^ 31 by omega), nI_clamp (show m < 2 ^ 31 by omega)]
    refine ek_if (bt_ask0 (s i) (show m < 32 by omega)) (fun hb => nm_r (nI_1 i) (hw s ?_)) (fun hb => ⟨pk_in i 6 hi, pk_in m 6 hm, pk_in i 6 hi, nm_e (nm_r (nI_1 i) (hw _ ?_))⟩)
    · intro u hu
      by_cases e : u = i
      · rw [e, if_pos (by omega), si]
        rw [si] at hb
        unfold wr_
        rw [if_neg (by rw [hb]; decide)]
      · rw [h u hu]
        by_cases c : u < i
        · rw [if_pos c, if_pos (by omega)]
        · rw [if_neg c, if_neg (by omega)]
    · intro u hu
      by_cases e : u = i
      · rw [e, pk_us, if_pos (by omega), si, sm]
        rw [si] at hb
        unfold wr_
        rw [if_pos (ts_nf hb)]
      · rw [pk_un e, h u hu]
        by_cases c : u < i
        · rw [if_pos c, if_pos (by omega)]
        · rw [if_neg c, if_neg (by omega)]
/-- the relation that the rows hold -/
def b6_ (r : Nat → Int32) : Nat → Nat → Prop := fun u v => u < 6 ∧ v < 6 ∧ bt_ (r u) v = true
/-- s: what can be come to by one step of r or more -/
def tc_ (r s : Nat → Int32) : Prop := ∀ u v, u < 6 → v < 6 → (bt_ (s u) v = true ↔ ∃ n, wl_ (b6_ r) (n + 1) u v)
def ti_ (r : Nat → Int32) (m : Nat) (s : Nat → Int32) : Prop :=
  (∀ u v, u < 6 → v < 6 → bt_ (r u) v = true → bt_ (s u) v = true) ∧
  (∀ u v, u < 6 → v < 6 → bt_ (s u) v = true → ∃ n, wl_ (b6_ r) (n + 1) u v) ∧
  (∀ k u v, k < m → k < 6 → u < 6 → v < 6 → bt_ (s u) k = true → bt_ (s k) v = true → bt_ (s u) v = true)
theorem ti_0 (r : Nat → Int32) : ti_ r 0 r :=
  ⟨fun _ _ _ _ h => h, fun u v hu hv h => ⟨0, wl_1 ⟨hu, hv, h⟩⟩, fun k u v hk => absurd hk (by omega)⟩
theorem ti_step {r s s' : Nat → Int32} {m : Nat} (hm : m < 6) (h : ti_ r m s) (hs : ∀ u, u < 6 → s' u = wr_ m s u) : ti_ r (m + 1) s' := by
  obtain ⟨h1, h2, h3⟩ := h
  have b : ∀ u v, u < 6 → (bt_ (s' u) v = true ↔ bt_ (s u) v = true ∨ (bt_ (s u) m = true ∧ bt_ (s m) v = true)) := fun u v hu => by rw [hs u hu]; exact wr_bt m s u v
  refine ⟨?_, ?_, ?_⟩
  · intro u v hu hv x
    exact (b u v hu).mpr (Or.inl (h1 u v hu hv x))
  · intro u v hu hv x
    rcases (b u v hu).mp x with y | ⟨y1, y2⟩
    · exact h2 u v hu hv y
    · obtain ⟨n1, w1⟩ := h2 u m hu hm y1
      obtain ⟨n2, w2⟩ := h2 m v hm hv y2
      exact ⟨n1 + 1 + n2, wl_app (n1 + 1) w1 w2⟩
  · intro k u v hk hk6 hu hv x y
    rw [b u k hu] at x
    rw [b k v hk6] at y
    rw [b u v hu]
    by_cases e : k = m
    · subst e
      have x' : bt_ (s u) k = true := by
        rcases x with x | ⟨x, _⟩
        · exact x
        · exact x
      have y' : bt_ (s k) v = true := by
        rcases y with y | ⟨_, y⟩
        · exact y
        · exact y
      exact Or.inr ⟨x', y'⟩
    · have hk' : k < m := by omega
      rcases x with x | ⟨x1, x2⟩
      · rcases y with y | ⟨y1, y2⟩
        · exact Or.inl (h3 k u v hk' hk6 hu hv x y)
        · exact Or.inr ⟨h3 k u m hk' hk6 hu hm x y1, y2⟩
      · rcases y with y | ⟨y1, y2⟩
        · exact Or.inr ⟨x1, h3 k m v hk' hk6 hm hv x2 y⟩
        · exact Or.inr ⟨x1, y2⟩
theorem ti_end {r s : Nat → Int32} (h : ti_ r 6 s) : tc_ r s := by
  obtain ⟨h1, h2, h3⟩ := h
  intro u v hu hv
  refine ⟨h2 u v hu hv, ?_⟩
  rintro ⟨n, hn⟩
  have key : ∀ n u, u < 6 → wl_ (b6_ r) (n + 1) u v → bt_ (s u) v = true := by
    intro n
    induction n with
    | zero =>
      intro u hu hw
      obtain ⟨a, ha, e⟩ := hw
      have e' : a = v := e
      subst e'
      exact h1 u a ha.1 ha.2.1 ha.2.2
    | succ n ih =>
      intro u hu hw
      obtain ⟨a, ha, hw⟩ := hw
      exact h3 a u v ha.2.1 ha.2.1 hu hv (h1 u a ha.1 ha.2.1 ha.2.2) (ih a ha.2.1 hw)
  exact key n u hu hn
theorem cr_wp {post : St2 → Prop} {r : Nat → Int32} (H : ∀ s, tc_ r s → post (pc, T, B, a1, a2, a3, a4, a5, a6, s)) : wpX_closeReach post (pc, T, B, a1, a2, a3, a4, a5, a6, r) := by
  unfold wpX_closeReach
  refine pk_loop (fun n i s => wX_closeReach_2 post pc T B n (nI i) a1 a2 a3 a4 a5 a6 s) (fun i s => ti_ r i s) 6 0 r (by omega) (ti_0 r) ?_ ?_
  · intro n s h
    exact pk_le 6 6 (fun _ => H s (ti_end h)) (fun z => absurd z (by omega))
  · intro n i s hi h hw
    exact pk_le 6 i (fun z => absurd z (by omega)) (fun _ => cr_in hi (fun s' hs => hw s' (ti_step hi h hs)))
/-- the set of the points u below 4 with X u -/
def st_ (X : Nat → Prop) (r : Int32) : Prop := ∀ i, i < 32 → (bt_ r i = true ↔ i < 4 ∧ X i)
theorem st_eq {X Y : Nat → Prop} {r s : Int32} (hr : st_ X r) (hs : st_ Y s) (h : ∀ i, i < 4 → (X i ↔ Y i)) : r = s := by
  apply bt_ext
  intro i hi
  have e : bt_ r i = true ↔ bt_ s i = true := by
    rw [hr i hi, hs i hi]
    constructor
    · rintro ⟨a, b⟩
      exact ⟨a, (h i a).mp b⟩
    · rintro ⟨a, b⟩
      exact ⟨a, (h i a).mpr b⟩
  cases h1 : bt_ r i
  · cases h2 : bt_ s i
    · rfl
    · exact absurd (e.mpr h2) (by rw [h1]; decide)
  · exact (e.mp h1).symm
theorem st_0 {X : Nat → Prop} {r : Int32} (hr : st_ X r) (h : ∀ i, i < 4 → ¬ X i) : r = 0 :=
  st_eq hr (Y := fun _ => False) (fun i _ => by rw [bt_0]; simp) (fun i hi => ⟨h i hi, False.elim⟩)
theorem ot_wp {post : Int32 → Prop} {r : Nat → Int32} (H : ∀ x, st_ (fun i => bt_ (r i) i = true) x → post x) : wpX_onTightCircle post (4, T, B, a1, a2, a3, a4, a5, a6, r) := by
  unfold wpX_onTightCircle
  refine pk_loop (fun n i s => wX_onTightCircle_4 post 4 T B a1 a2 a3 a4 a5 a6 r n s (nI i)) (fun i s => ∀ j, j < 32 → (bt_ s j = true ↔ j < i ∧ bt_ (r j) j = true)) 4 0 0 (by omega) (fun j _ => by rw [bt_0]; simp) ?_ ?_
  · intro n s h
    exact pk_le 4 4 (fun _ => H s h) (fun z => absurd z (by omega))
  · intro n i s hi h hw
    refine pk_le 4 i (fun z => absurd z (by omega)) (fun _ => ⟨pk_in i 6 (by omega), ?_⟩)
    rw [nI_clamp (show i < 2 ^ 31 by omega)]
    refine ek_if (bt_ask0 (r i) (show i < 32 by omega)) (fun hb => nm_r (nI_1 i) (hw s ?_)) (fun hb => nm_e (nm_r (nI_1 i) (hw _ ?_)))
    · intro j hj
      rw [h j hj]
      constructor
      · rintro ⟨x, y⟩
        exact ⟨by omega, y⟩
      · rintro ⟨x, y⟩
        refine ⟨?_, y⟩
        rcases (show j < i ∨ j = i by omega) with e | e
        · exact e
        · rw [e, hb] at y
          exact absurd y (by decide)
    · intro j hj
      rw [bt_set s (show i < 32 by omega) hj, Bool.or_eq_true, h j hj, decide_eq_true_iff]
      constructor
      · rintro (⟨x, y⟩ | x)
        · exact ⟨by omega, y⟩
        · rw [x]
          exact ⟨by omega, ts_nf hb⟩
      · rintro ⟨x, y⟩
        by_cases e : j = i
        · exact Or.inr e
        · exact Or.inl ⟨by omega, y⟩
/-- row u is filled by the places v with X v, as far as i -/
def rf_ (X : Nat → Prop) (i : Nat) (x : Int32) : Prop := ∀ j, j < 32 → (bt_ x j = true ↔ j < i ∧ X j)
theorem rf_0 (X : Nat → Prop) : rf_ X 0 0 := fun j _ => by rw [bt_0]; simp
theorem rf_no {X : Nat → Prop} {i : Nat} {x : Int32} (h : rf_ X i x) (hx : ¬ X i) : rf_ X (i + 1) x := by
  intro j hj
  rw [h j hj]
  constructor
  · rintro ⟨a, b⟩
    exact ⟨by omega, b⟩
  · rintro ⟨a, b⟩
    refine ⟨?_, b⟩
    rcases (show j < i ∨ j = i by omega) with e | e
    · exact e
    · exact absurd (e ▸ b) hx
theorem rf_yes {X : Nat → Prop} {i : Nat} {x : Int32} (hi : i < 32) (h : rf_ X i x) (hx : X i) : rf_ X (i + 1) (x ||| ((1 : Int32) <<< (nI i &&& 31))) := by
  intro j hj
  rw [bt_set x hi hj, Bool.or_eq_true, h j hj, decide_eq_true_iff]
  constructor
  · rintro (⟨a, b⟩ | a)
    · exact ⟨by omega, b⟩
    · exact ⟨by omega, a ▸ hx⟩
  · rintro ⟨a, b⟩
    by_cases e : j = i
    · exact Or.inr e
    · exact Or.inl ⟨by omega, b⟩
theorem ix_ (u v : Nat) : (6 : Int32) * nI u + nI v = nI (6 * u + v) := by
  rw [show (6 : Int32) = nI 6 from rfl, pk_mul, nI_add]
theorem oc_in {post : Int32 → St2 → Prop} {J : Int32 → (Nat → Int32) → (Nat → Int32) → (Nat → Int32) → (Nat → Int64) → (Nat → Int64) → (Nat → Int32) → (Nat → Int32) → Prop} {r : Nat → Int32} {u : Nat} (hu : u < 6)
    (h0 : r u = 0) (H : ∀ s, rf_ (fun v => ¬ a1 (6 * u + v) = 0) 6 (s u) → (∀ j, j ≠ u → s j = r j) → J (nI (u + 1)) a1 a2 a3 a4 a5 a6 s) : ∃ n, wX_onCircle_17 post J (nI u) pc T B n 0 a1 a2 a3 a4 a5 a6 r := by
  refine pk_loop (fun n i s => wX_onCircle_17 post J (nI u) pc T B n (nI i) a1 a2 a3 a4 a5 a6 s) (fun i s => rf_ (fun v => ¬ a1 (6 * u + v) = 0) i (s u) ∧ (∀ j, j ≠ u → s j = r j)) 6 0 r (by omega) ⟨by rw [h0]; exact rf_0 _, fun _ _ => rfl⟩ ?_ ?_
  · intro n s h
    exact pk_le 6 6 (fun _ => nm_r (nI_1 u) (H s h.1 h.2)) (fun z => absurd z (by omega))
  · intro n i s hi h hw
    refine pk_le 6 i (fun z => absurd z (by omega)) (fun _ => ?_)
    rw [ix_ u i, nI_clamp (show 6 * u + i < 2 ^ 31 by omega), nI_clamp (show u < 2 ^ 31 by omega)]
    refine ⟨pk_in (6 * u + i) 36 (by omega), br_c (fun hb => nm_r (nI_1 i) (hw s ⟨rf_no h.1 (fun x => x hb), h.2⟩)) (fun hb => ⟨pk_in u 6 hu, pk_in u 6 hu, nm_e (nm_r (nI_1 i) (hw _ ⟨?_, ?_⟩))⟩)⟩
    · rw [pk_us]
      exact rf_yes (by omega) h.1 hb
    · intro j hj
      rw [pk_un hj]
      exact h.2 j hj
theorem oc_wp {post : Int32 → St2 → Prop} {r : Nat → Int32} {E : Nat → Nat → Prop} (hE : er_ E) (hA : ∀ u v, u < 6 → v < 6 → (¬ a1 (6 * u + v) = 0 ↔ E u v))
    (H : ∀ x s, st_ (fun i => ∃ n, wl_ E (n + 1) i i) x → post x (4, T, B, a1, a2, a3, a4, a5, a6, s)) : wpX_onCircle post (4, T, B, a1, a2, a3, a4, a5, a6, r) := by
  unfold wpX_onCircle
  refine pk_loop (fun n i s => wX_onCircle_2 post 4 T B n (nI i) a1 a2 a3 a4 a5 a6 s) (fun i s => ∀ u, u < i → rf_ (fun v => ¬ a1 (6 * u + v) = 0) 6 (s u)) 6 0 r (by omega) (fun u hu => absurd hu (by omega)) ?_ ?_
  · intro n s h
    refine pk_le 6 6 (fun _ => cr_wp (fun s' hs => ot_wp (fun x hx => H x s' ?_))) (fun z => absurd z (by omega))
    have eb : b6_ s = E := by
      funext u v
      apply propext
      constructor
      · rintro ⟨p, q, b⟩
        exact (hA u v p q).mp ((h u p v (by omega)).mp b).2
      · intro huv
        have k := hE u v huv
        exact ⟨by omega, by omega, (h u (by omega) v (by omega)).mpr ⟨by omega, (hA u v (by omega) (by omega)).mpr huv⟩⟩
    intro i hi
    rw [hx i hi]
    constructor
    · rintro ⟨p, q⟩
      have := (hs i i (by omega) (by omega)).mp q
      rw [eb] at this
      exact ⟨p, this⟩
    · rintro ⟨p, q⟩
      refine ⟨p, (hs i i (by omega) (by omega)).mpr ?_⟩
      rw [eb]
      exact q
  · intro n i s hi h hw
    refine pk_le 6 i (fun z => absurd z (by omega)) (fun _ => ⟨pk_in i 6 hi, nm_r (by rw [nI_clamp (show i < 2 ^ 31 by omega)]) ?_⟩)
    refine oc_in (r := upd s i 0) hi pk_us (fun s' h1 h2 => hw s' ?_)
    intro u hu
    by_cases e : u = i
    · rw [e]
      exact h1
    · rw [h2 u e, pk_un e]
      exact h u (by omega)
end
end
section
/-! ===== lowest, extendWalk, offerMean, findMean ===== -/
theorem jl_0 : (0 : Int64) = jl_ 0 := rfl
theorem jl_1 : (1 : Int64) = jl_ 1 := rfl
theorem jl_far : (1000000000 : Int64) = jl_ 1000000000 := rfl
section
variable {T B : Int64} {pc : Int32} {a1 a2 a3 a6 a7 : Nat → Int32} {a4 a5 : Nat → Int64}
theorem lo_in {post : St2 → Prop} {W D : Int} (hD : 1 ≤ D) (hD2 : D ≤ 1000000) (hW : -1000000 ≤ W) (hW2 : W ≤ 1000000)
    (H : ∀ W' D' g : Int, 1 ≤ g → W = W' * g → D = D' * g → Int.gcd W' D' = 1 → post (pc, jl_ W', jl_ D', a1, a2, a3, a4, a5, a6, a7)) :
    ∃ n, wX_lowest_27 post pc (jl_ W) (jl_ D) a1 a2 a3 a4 a5 a6 a7 n (lN W.natAbs) (lN D.natAbs) := by
  refine loop_m (fun n (s : Nat × Nat) => wX_lowest_27 post pc (jl_ W) (jl_ D) a1 a2 a3 a4 a5 a6 a7 n (lN s.1) (lN s.2)) (fun s => s.1 < 2 ^ 31 ∧ s.2 < 2 ^ 31 ∧ Nat.gcd s.1 s.2 = Nat.gcd W.natAbs D.natAbs) (fun s => s.1) ?_ (W.natAbs, D.natAbs) ⟨by show W.natAbs < _; omega, by show D.natAbs < _; omega, rfl⟩
  rintro n ⟨p, q⟩ ⟨hp, hq, hg⟩ hw
  dsimp only at hp hq hg hw
  have gpos : 0 < Nat.gcd W.natAbs D.natAbs := Nat.gcd_pos_of_pos_right _ (by omega)
  show wX_lowest_27 post pc (jl_ W) (jl_ D) a1 a2 a3 a4 a5 a6 a7 (n + 1) (lN p) (lN q)
  refine ek_if (d := p = 0) (by rw [show (0 : Int64) = lN 0 from rfl]; exact pk_lEQ (by omega) (by omega)) (fun hz => ?_) (fun hz => ?_)
  · subst hz
    rw [Nat.gcd_zero_left] at hg
    have hq0 : ¬ lN q = 0 := by
      rw [show (0 : Int64) = lN 0 from rfl, pk_lEQ (by omega) (by omega)]
      omega
    obtain ⟨W', hW'⟩ : ((q : Nat) : Int) ∣ W := Int.ofNat_dvd_left.mpr (by rw [hg]; exact Nat.gcd_dvd_left _ _)
    obtain ⟨D', hD'⟩ : ((q : Nat) : Int) ∣ D := Int.ofNat_dvd_left.mpr (by rw [hg]; exact Nat.gcd_dvd_right _ _)
    have q1 : (1 : Int) ≤ (q : Int) := by omega
    have eW : jl_ W / lN q = jl_ W' := by
      rw [jl_lN, jl_div ⟨by omega, by omega⟩ ⟨by omega, by omega⟩ (by omega), hW', Int.mul_tdiv_cancel_left _ (by omega)]
    have eD : jl_ D / lN q = jl_ D' := by
      rw [jl_lN, jl_div ⟨by omega, by omega⟩ ⟨by omega, by omega⟩ (by omega), hD', Int.mul_tdiv_cancel_left _ (by omega)]
    have hgc : Int.gcd W' D' = 1 := by
      have x : Int.gcd W D = (q : Int).natAbs * Int.gcd W' D' := by
        rw [hW', hD']
        exact Int.gcd_mul_left _ _ _
      have y : Int.gcd W D = q := hg.symm
      rw [y] at x
      have x' : q * 1 = q * Int.gcd W' D' := by
        rw [Nat.mul_one]
        exact x
      exact (Nat.eq_of_mul_eq_mul_left (by omega) x').symm
    exact ⟨hq0, nm_r eW ⟨hq0, nm_r eD (H W' D' q q1 (by rw [hW', Int.mul_comm]) (by rw [hD', Int.mul_comm]) hgc)⟩⟩
  · have hp0 : ¬ lN p = 0 := by
      rw [show (0 : Int64) = lN 0 from rfl, pk_lEQ (by omega) (by omega)]
      exact hz
    have ml := Nat.mod_lt q (show 0 < p by omega)
    refine ⟨hp0, nm_r (pk_lRem (show q < 2 ^ 63 by omega) (by omega) (by omega)) (hw (q % p, p) ⟨by show q % p < _; omega, hp, ?_⟩ ml)⟩
    show Nat.gcd (q % p) p = _
    rw [← Nat.gcd_rec]
    exact hg
theorem lo_wp {post : St2 → Prop} {W D : Int} (hD : 1 ≤ D) (hD2 : D ≤ 1000000) (hW : -1000000 ≤ W) (hW2 : W ≤ 1000000)
    (H : ∀ W' D' g : Int, 1 ≤ g → W = W' * g → D = D' * g → Int.gcd W' D' = 1 → post (pc, jl_ W', jl_ D', a1, a2, a3, a4, a5, a6, a7)) :
    wpX_lowest post (pc, jl_ W, jl_ D, a1, a2, a3, a4, a5, a6, a7) := by
  have h := lo_in hD hD2 hW hW2 H
  have eD : lN D.natAbs = jl_ D := by
    rw [jl_lN]
    exact congrArg jl_ (by omega)
  rw [eD] at h
  unfold wpX_lowest
  refine ek_if (d := 0 ≤ W) (by rw [jl_0]; exact jl_le ⟨by omega, by omega⟩ ⟨by omega, by omega⟩) (fun hz => ?_) (fun hz => ?_)
  · have eW : lN W.natAbs = jl_ W := by
      rw [jl_lN]
      exact congrArg jl_ (by omega)
    rw [eW] at h
    exact h
  · have eW : lN W.natAbs = jl_ (-W) := by
      rw [jl_lN]
      exact congrArg jl_ (by omega)
    rw [eW] at h
    exact nm_r (jl_neg W) h
/-- the table of walks -/
def tb_ (s : Nat → Int64) (D : Nat → Nat → Int) : Prop := (∀ k v, k < 7 → v < 6 → s (6 * k + v) = jl_ (D k v)) ∧ (∀ k v, k < 7 → v < 6 → D k v = 1000000000 ∨ (-20 * (k : Int) ≤ D k v ∧ D k v ≤ 20 * (k : Int)))
theorem tb_sm {s : Nat → Int64} {D : Nat → Nat → Int} (h : tb_ s D) {k v : Nat} (hk : k < 7) (hv : v < 6) : -1000000000 ≤ D k v ∧ D k v ≤ 1000000000 := by
  have := h.2 k v hk hv
  omega
def d2_ (D : Nat → Nat → Int) (m v : Nat) (x : Int) : Nat → Nat → Int := fun k j => if k = m ∧ j = v then x else D k j
theorem d2_s {D : Nat → Nat → Int} {m v : Nat} {x : Int} : d2_ D m v x m v = x := if_pos ⟨rfl, rfl⟩
theorem d2_n {D : Nat → Nat → Int} {m v k j : Nat} {x : Int} (h : ¬ (k = m ∧ j = v)) : d2_ D m v x k j = D k j := if_neg h
theorem tb_put {s : Nat → Int64} {D : Nat → Nat → Int} {m v : Nat} {x : Int} (h : tb_ s D) (hm : m < 7) (hv : v < 6) (hx : -20 * (m : Int) ≤ x ∧ x ≤ 20 * (m : Int)) : tb_ (vp_updL s (6 * m + v) (jl_ x)) (d2_ D m v x) := by
  refine ⟨?_, ?_⟩
  · intro k j hk hj
    by_cases e : k = m ∧ j = v
    · obtain ⟨e1, e2⟩ := e
      subst e1
      subst e2
      rw [pk_uLs, d2_s]
    · rw [d2_n e, pk_uLn (by omega)]
      exact h.1 k j hk hj
  · intro k j hk hj
    by_cases e : k = m ∧ j = v
    · obtain ⟨e1, e2⟩ := e
      subst e1
      subst e2
      rw [d2_s]
      exact Or.inr hx
    · rw [d2_n e]
      exact h.2 k j hk hj
theorem ew_wp {post : St2 → Prop} {s : Nat → Int64} {D : Nat → Nat → Int} {m u v : Nat} {w : Int} (h : tb_ s D) (hm : m < 6) (hu : u < 6) (hv : v < 6) (hw : -20 ≤ w ∧ w ≤ 20)
    (H0 : ¬ D m u < 1000000000 ∨ D (m + 1) v ≤ D m u + w → post (pc, T, B, a1, a2, a3, s, a5, a6, a7))
    (H1 : D m u < 1000000000 → D m u + w < D (m + 1) v → post (pc, T, B, a1, a2, a3, vp_updL s (6 * (m + 1) + v) (jl_ (D m u + w)), a5, a6, a7)) :
    wpX_extendWalk post (pc, T, B, a1, a2, a3, s, a5, a6, a7) (nI (m + 1)) (nI u) (nI v) (iw_ w) := by
  unfold wpX_extendWalk
  have i1 : (6 : Int32) * nI (m + 1) - 6 + nI u = nI (6 * m + u) := by
    rw [show (6 : Int32) = nI 6 from rfl, pk_mul, pk_sub (by omega), nI_add]
    exact congrArg nI (by omega)
  have i2 : (6 : Int32) * nI (m + 1) + nI v = nI (6 * (m + 1) + v) := ix_ (m + 1) v
  dsimp only
  rw [i1, i2, nI_clamp (show 6 * m + u < 2 ^ 31 by omega), nI_clamp (show 6 * (m + 1) + v < 2 ^ 31 by omega)]
  have b1 := tb_sm h (k := m) (v := u) (by omega) hu
  have b2 := tb_sm h (k := m + 1) (v := v) (by omega) hv
  refine ⟨pk_in (6 * m + u) 42 (by omega), nm_r (h.1 m u (by omega) hu) ?_⟩
  refine ek_if (d := 1000000000 ≤ D m u) (by rw [jl_far]; exact jl_le ⟨by omega, by omega⟩ ⟨by omega, by omega⟩) (fun c => H0 (Or.inl (by omega))) (fun c => ⟨pk_in (6 * (m + 1) + v) 42 (by omega), ?_⟩)
  rw [iw_l ⟨by omega, by omega⟩, jl_add, h.1 (m + 1) v (by omega) hv]
  refine ek_if (d := D (m + 1) v ≤ D m u + w) (jl_le ⟨by omega, by omega⟩ ⟨by omega, by omega⟩) (fun c2 => H0 (Or.inr c2)) (fun c2 => ⟨pk_in (6 * (m + 1) + v) 42 (by omega), nm_e (H1 (by omega) (by omega))⟩)
/-! offerMean -/
def oi_ (D : Nat → Nat → Int) (v i : Nat) (t b : Int) : Prop :=
  (∃ k, k < i ∧ k < 4 ∧ D k v < 1000000000 ∧ t = D 4 v - D k v ∧ b = 4 - (k : Int)) ∧ (∀ k, k < i → D k v < 1000000000 → (D 4 v - D k v) * b ≤ t * (4 - (k : Int)))
theorem oi_skip {D : Nat → Nat → Int} {v i : Nat} {t b : Int} (h : oi_ D v i t b) (hs : D i v < 1000000000 → (D 4 v - D i v) * b ≤ t * (4 - (i : Int))) : oi_ D v (i + 1) t b := by
  obtain ⟨⟨k, h1, h2⟩, h3⟩ := h
  refine ⟨⟨k, by omega, h2⟩, ?_⟩
  intro j hj hf
  by_cases e : j = i
  · subst e
    exact hs hf
  · exact h3 j (by omega) hf
theorem oi_take {D : Nat → Nat → Int} {v i : Nat} {t b : Int} (hi : i < 4) (h : oi_ D v i t b) (hf : D i v < 1000000000) (hs : t * (4 - (i : Int)) < (D 4 v - D i v) * b) : oi_ D v (i + 1) (D 4 v - D i v) (4 - (i : Int)) := by
  obtain ⟨⟨k, h1, h4, hkf, et, eb⟩, h3⟩ := h
  refine ⟨⟨i, by omega, hi, hf, rfl, rfl⟩, ?_⟩
  intro j hj hjf
  by_cases e : j = i
  · subst e
    omega
  · exact fr_tr (b := 4 - (j : Int)) (c := t) (d := b) (by omega) (by omega) (by omega) (h3 j (by omega) hjf) (by omega)
theorem oi_first {D : Nat → Nat → Int} {v : Nat} (hf : D 0 v < 1000000000) : oi_ D v 1 (D 4 v - D 0 v) (4 - ((0 : Nat) : Int)) := by
  refine ⟨⟨0, by omega, by omega, hf, rfl, rfl⟩, ?_⟩
  intro j hj hjf
  have e : j = 0 := by omega
  subst e
  omega
theorem oi_of {D : Nat → Nat → Int} {v : Nat} {t b : Int} (h : oi_ D v 4 t b) : of_ D v t b := by
  obtain ⟨⟨k, h1, h2⟩, h3⟩ := h
  exact ⟨⟨k, h2⟩, h3⟩
theorem oi_bd {D : Nat → Nat → Int} {s : Nat → Int64} {v i : Nat} {t b : Int} (h : oi_ D v i t b) (ht : tb_ s D) (hv : v < 6) (h4 : D 4 v < 1000000000) : -200 ≤ t ∧ t ≤ 200 ∧ 1 ≤ b ∧ b ≤ 4 := by
  obtain ⟨⟨k, h1, h4', hkf, et, eb⟩, h3⟩ := h
  have x1 := ht.2 4 v (by omega) hv
  have x2 := ht.2 k v (by omega) hv
  omega
theorem mul_bd {a b M N : Int} (ha : -M ≤ a ∧ a ≤ M) (hb : 0 ≤ b ∧ b ≤ N) (hM : 0 ≤ M) : -(M * N) ≤ a * b ∧ a * b ≤ M * N := by
  have h1 : a * b ≤ M * b := Int.mul_le_mul_of_nonneg_right ha.2 hb.1
  have h2 : M * b ≤ M * N := Int.mul_le_mul_of_nonneg_left hb.2 hM
  have h3 : (-M) * b ≤ a * b := Int.mul_le_mul_of_nonneg_right ha.1 hb.1
  have h4 : (-M) * b = -(M * b) := Int.neg_mul M b
  constructor <;> omega
theorem om_wp {post : St2 → Prop} {s : Nat → Int64} {D : Nat → Nat → Int} {v : Nat} {x2 : Int32} (h : tb_ s D) (hv : v < 6) (h0 : D 0 v = 0) (h4 : D 4 v < 1000000000)
    (H0 : x2 = 0 → ∀ t b, of_ D v t b → -200 ≤ t ∧ t ≤ 200 ∧ 1 ≤ b ∧ b ≤ 4 → post (4, jl_ t, jl_ b, a1, a2, a3, s, a5, a6, a7))
    (H1 : ¬ x2 = 0 → ∃ T0 B0, T = jl_ T0 ∧ B = jl_ B0 ∧ -200 ≤ T0 ∧ T0 ≤ 200 ∧ 1 ≤ B0 ∧ B0 ≤ 4 ∧ ∀ t b, of_ D v t b → -200 ≤ t ∧ t ≤ 200 ∧ 1 ≤ b ∧ b ≤ 4 → (t * B0 < T0 * b → post (4, jl_ t, jl_ b, a1, a2, a3, s, a5, a6, a7)) ∧ (¬ t * B0 < T0 * b → post (4, jl_ T0, jl_ B0, a1, a2, a3, s, a5, a6, a7))) :
    wpX_offerMean post (4, T, B, a1, a2, a3, s, a5, a6, a7) (nI v) x2 := by
  unfold wpX_offerMean
  dsimp only
  have i1 : (6 : Int32) * 4 + nI v = nI (6 * 4 + v) := ix_ 4 v
  rw [i1, nI_clamp (show 6 * 4 + v < 2 ^ 31 by omega)]
  refine ⟨pk_in (6 * 4 + v) 42 (by omega), nm_r (h.1 4 v (by omega) hv) ?_⟩
  refine pk_loop (fun n i (q : Int × Int) => wX_offerMean_24 post (nI v) x2 (jl_ (D 4 v)) 4 T B a1 a2 a3 s a5 a6 a7 n (jl_ q.1) (jl_ q.2) (nI i)) (fun i q => (i = 0 ∧ q.1 = 0 ∧ q.2 = 0) ∨ (1 ≤ i ∧ oi_ D v i q.1 q.2)) 4 0 (0, 0) (by omega) (Or.inl ⟨rfl, rfl, rfl⟩) ?_ ?_
  · rintro n ⟨t, b⟩ hI
    dsimp only at hI
    rcases hI with ⟨e, -⟩ | ⟨-, hI⟩
    · exact absurd e (by omega)
    have bd := oi_bd hI h hv h4
    have ho := oi_of hI
    refine pk_le 4 4 (fun _ => br_c (fun c => H0 c t b ho bd) (fun c => ?_)) (fun z => absurd z (by omega))
    obtain ⟨T0, B0, eT, eB, t1, t2, b1, b2, HH⟩ := H1 c
    dsimp only
    rw [eT, eB, jl_mul, jl_mul]
    have m1 := mul_bd (a := t) (b := B0) (M := 200) (N := 4) ⟨by omega, by omega⟩ ⟨by omega, by omega⟩ (by omega)
    have m2 := mul_bd (a := T0) (b := b) (M := 200) (N := 4) ⟨by omega, by omega⟩ ⟨by omega, by omega⟩ (by omega)
    exact ek_if (jl_lt ⟨by omega, by omega⟩ ⟨by omega, by omega⟩) (HH t b ho bd).1 (HH t b ho bd).2
  · rintro n i ⟨t, b⟩ hi hI hw
    dsimp only at hI
    refine pk_le 4 i (fun z => absurd z (by omega)) (fun _ => ?_)
    have i2 : (6 : Int32) * nI i + nI v = nI (6 * i + v) := ix_ i v
    dsimp only
    rw [i2, nI_clamp (show 6 * i + v < 2 ^ 31 by omega)]
    refine ⟨pk_in (6 * i + v) 42 (by omega), nm_r (h.1 i v (by omega) hv) ?_⟩
    have bi := tb_sm h (k := i) (v := v) (by omega) hv
    have b4 := h.2 4 v (by omega) hv
    have bi2 := h.2 i v (by omega) hv
    refine ek_if (d := D i v < 1000000000) (by rw [jl_far]; exact jl_lt ⟨by omega, by omega⟩ ⟨by omega, by omega⟩) (fun hf => ?_) (fun hf => ?_)
    · refine nm_r (jl_sub _ _) (nm_r (e' := jl_ (4 - (i : Int))) ?_ ?_)
      · rw [show (4 : Int32) = nI 4 from rfl, iw_nI, iw_nI, iw_sub, iw_l ⟨by omega, by omega⟩]
        rfl
      rcases hI with ⟨e1, e2, e3⟩ | ⟨e1, hI⟩
      · subst e1
        subst e2
        subst e3
        exact br_t rfl (nm_r (nI_1 0) (hw (D 4 v - D 0 v, 4 - ((0 : Nat) : Int)) (Or.inr ⟨by omega, oi_first hf⟩)))
      · have bd := oi_bd hI h hv h4
        refine br_f ?_ ?_
        · rw [jl_0, jl_eq ⟨by omega, by omega⟩ ⟨by omega, by omega⟩]
          omega
        rw [jl_mul, jl_mul]
        have m1 := mul_bd (a := t) (b := 4 - (i : Int)) (M := 200) (N := 4) ⟨by omega, by omega⟩ ⟨by omega, by omega⟩ (by omega)
        have m2 := mul_bd (a := D 4 v - D i v) (b := b) (M := 200) (N := 4) ⟨by omega, by omega⟩ ⟨by omega, by omega⟩ (by omega)
        refine ek_if (jl_lt ⟨by omega, by omega⟩ ⟨by omega, by omega⟩) (fun c => nm_r (nI_1 i) (hw (D 4 v - D i v, 4 - (i : Int)) (Or.inr ⟨by omega, oi_take hi hI hf c⟩))) (fun c => nm_r (nI_1 i) (hw (t, b) (Or.inr ⟨by omega, oi_skip hI (fun _ => Int.not_lt.mp c)⟩)))
    · rcases hI with ⟨e1, e2, e3⟩ | ⟨e1, hI⟩
      · subst e1
        exact absurd (show D 0 v < 1000000000 by omega) hf
      · exact nm_r (nI_1 i) (hw (t, b) (Or.inr ⟨by omega, oi_skip hI (fun c => absurd c hf)⟩))
end
end
section
/-! ===== findMean ===== -/
/-- the object's arcs: E, weights w, times t -/
def gp_ (E : Nat → Nat → Prop) (w t : Nat → Nat → Int) (a1 a2 a3 : Nat → Int32) : Prop :=
  er_ E ∧ (∀ u v, E u v → -20 ≤ w u v ∧ w u v ≤ 20) ∧ (∀ u v, E u v → 1 ≤ t u v ∧ t u v ≤ 5) ∧
  (∀ u v, u < 6 → v < 6 → (¬ a1 (6 * u + v) = 0 ↔ E u v)) ∧ (∀ u v, E u v → a2 (6 * u + v) = iw_ (w u v) ∧ a3 (6 * u + v) = iw_ (t u v))
theorem red_bd {W W' g M : Int} (hM : 0 ≤ M) (hg : 1 ≤ g) (e : W = W' * g) (h1 : -M ≤ W) (h2 : W ≤ M) : -M ≤ W' ∧ W' ≤ M := by
  rcases Int.le_total 0 W' with h | h
  · have : W' * 1 ≤ W' * g := Int.mul_le_mul_of_nonneg_left hg h
    omega
  · have : (-W') * 1 ≤ (-W') * g := Int.mul_le_mul_of_nonneg_left hg (by omega)
    have e2 : (-W') * g = -(W' * g) := Int.neg_mul W' g
    omega
theorem red_pos {D D' g : Int} (hg : 1 ≤ g) (e : D = D' * g) (h : 1 ≤ D) : 1 ≤ D' := by
  rcases Int.lt_or_le 0 D' with x | x
  · omega
  · have : (-D') * 1 ≤ (-D') * g := Int.mul_le_mul_of_nonneg_left hg (by omega)
    have e2 : (-D') * g = -(D' * g) := Int.neg_mul D' g
    omega
theorem red_eq {W W' D D' g A B : Int} (hg : 1 ≤ g) (e1 : W = W' * g) (e2 : D = D' * g) (h : W * B = A * D) : W' * B = A * D' := by
  have h2 : (W' * B) * g = (A * D') * g := by
    rw [e1, e2] at h
    grind
  exact Int.eq_of_mul_eq_mul_right (by omega) h2
section
variable {E : Nat → Nat → Prop} {w t : Nat → Nat → Int} {D : Nat → Nat → Int}
def dp_ (E : Nat → Nat → Prop) (f : Nat → Nat → Int) (D : Nat → Nat → Int) (m c : Nat) : Prop :=
  (∀ v, v < 6 → D 0 v = 0) ∧
  (∀ k u v, k < m → E u v → D k u < 1000000000 → D (k + 1) v ≤ D k u + f u v) ∧
  (∀ u v, E u v → 6 * u + v < c → D m u < 1000000000 → D (m + 1) v ≤ D m u + f u v) ∧
  (∀ k v, k ≤ m → v < 6 → D (k + 1) v = 1000000000 ∨ ∃ u, E u v ∧ D k u < 1000000000 ∧ D (k + 1) v = D k u + f u v) ∧
  (∀ k v, m + 1 < k → v < 6 → D k v = 1000000000)
theorem dp_0 (h0 : ∀ v, v < 6 → D 0 v = 0) (h1 : ∀ k v, 0 < k → v < 6 → D k v = 1000000000) : dp_ E w D 0 0 :=
  ⟨h0, fun k u v hk => absurd hk (by omega), fun u v _ hc => absurd hc (by omega), fun k v _ hv => Or.inl (h1 (k + 1) v (by omega) hv), fun k v hk hv => h1 k v (by omega) hv⟩
theorem dp_next {m : Nat} (hE : er_ E) (h : dp_ E w D m 36) : dp_ E w D (m + 1) 0 := by
  obtain ⟨h1, h2, h3, h4, h5⟩ := h
  refine ⟨h1, ?_, fun u v _ hc => absurd hc (by omega), ?_, fun k v hk hv => h5 k v (by omega) hv⟩
  · intro k u v hk huv hf
    by_cases e : k = m
    · subst e
      have := hE _ _ huv
      exact h3 u v huv (by omega) hf
    · exact h2 k u v (by omega) huv hf
  · intro k v hk hv
    by_cases e : k = m + 1
    · subst e
      exact Or.inl (h5 _ v (by omega) hv)
    · exact h4 k v (by omega) hv
theorem dp_skip {m c : Nat} (h : dp_ E w D m c) (hs : ∀ u v, E u v → 6 * u + v = c → D m u < 1000000000 → D (m + 1) v ≤ D m u + w u v) : dp_ E w D m (c + 1) := by
  obtain ⟨h1, h2, h3, h4, h5⟩ := h
  refine ⟨h1, h2, ?_, h4, h5⟩
  intro u v huv hc hf
  by_cases e : 6 * u + v = c
  · exact hs u v huv e hf
  · exact h3 u v huv (by omega) hf
theorem dp_put {m c u0 v0 : Nat} (hE : er_ E) (h : dp_ E w D m c) (huv : E u0 v0) (hc : 6 * u0 + v0 = c) (hf0 : D m u0 < 1000000000) (hlt : D m u0 + w u0 v0 < D (m + 1) v0) :
    dp_ E w (d2_ D (m + 1) v0 (D m u0 + w u0 v0)) m (c + 1) := by
  obtain ⟨h1, h2, h3, h4, h5⟩ := h
  have r0 : ∀ k j, k ≠ m + 1 → d2_ D (m + 1) v0 (D m u0 + w u0 v0) k j = D k j := fun k j hk => d2_n (fun z => hk z.1)
  refine ⟨?_, ?_, ?_, ?_, ?_⟩
  · intro v hv
    rw [r0 0 v (by omega)]
    exact h1 v hv
  · intro k u v hk hu hf
    rw [r0 k u (by omega)] at hf
    rw [r0 (k + 1) v (by omega), r0 k u (by omega)]
    exact h2 k u v hk hu hf
  · intro u v hu hcc hf
    rw [r0 m u (by omega)] at hf
    rw [r0 m u (by omega)]
    have k1 := hE _ _ hu
    have k2 := hE _ _ huv
    by_cases ev : v = v0
    · subst ev
      rw [d2_s]
      by_cases e : 6 * u + v = c
      · have eu : u = u0 := by omega
        subst eu
        omega
      · have := h3 u v hu (by omega) hf
        omega
    · rw [d2_n (fun z => ev z.2)]
      exact h3 u v hu (by omega) hf
  · intro k v hk hv
    by_cases e : k + 1 = m + 1 ∧ v = v0
    · obtain ⟨e1, e2⟩ := e
      have e1 : k = m := by omega
      subst e1
      subst e2
      right
      rw [d2_s]
      exact ⟨u0, huv, by rw [r0 k u0 (by omega)]; exact hf0, by rw [r0 k u0 (by omega)]⟩
    · rw [d2_n e]
      rcases h4 k v hk hv with x | ⟨u, x1, x2, x3⟩
      · exact Or.inl x
      · exact Or.inr ⟨u, x1, by rw [r0 k u (by omega)]; exact x2, by rw [r0 k u (by omega)]; exact x3⟩
  · intro k v hk hv
    rw [r0 k v (by omega)]
    exact h5 k v hk hv
theorem dp_dk (h : dp_ E w D 4 0) : dk_ E w D := by
  obtain ⟨h1, h2, h3, h4, h5⟩ := h
  exact ⟨fun v hv => h1 v (by omega), fun k u v hk huv hf => h2 k u v hk huv hf, fun k v hk hv => h4 k v (by omega) (by omega)⟩
/-! the least over the points below i -/
def fi_ (D : Nat → Nat → Int) (i : Nat) (t b : Int) : Prop :=
  (∃ v, v < i ∧ D 4 v < 1000000000 ∧ of_ D v t b) ∧ (∀ v, v < i → D 4 v < 1000000000 → ∃ t' b', of_ D v t' b' ∧ t * b' ≤ t' * b)
theorem fi_skip {i : Nat} {t b : Int} (h : fi_ D i t b) (hn : ¬ D 4 i < 1000000000) : fi_ D (i + 1) t b := by
  obtain ⟨⟨v, h1, h2⟩, h3⟩ := h
  refine ⟨⟨v, by omega, h2⟩, ?_⟩
  intro j hj hf
  by_cases e : j = i
  · subst e
    exact absurd hf hn
  · exact h3 j (by omega) hf
theorem fi_first {i : Nat} {t b : Int} (hn : ∀ v, v < i → ¬ D 4 v < 1000000000) (hf : D 4 i < 1000000000) (ho : of_ D i t b) : fi_ D (i + 1) t b := by
  refine ⟨⟨i, by omega, hf, ho⟩, ?_⟩
  intro j hj hjf
  by_cases e : j = i
  · subst e
    exact ⟨t, b, ho, Int.le_refl _⟩
  · exact absurd hjf (hn j (by omega))
theorem of_pos {v : Nat} {t b : Int} (h : of_ D v t b) : 0 < b := by
  obtain ⟨⟨k, hk, _, _, e⟩, _⟩ := h
  omega
theorem fi_less {i : Nat} {t b T0 B0 : Int} (h : fi_ D i T0 B0) (hf : D 4 i < 1000000000) (ho : of_ D i t b) (hB : 0 < B0) (hlt : t * B0 < T0 * b) : fi_ D (i + 1) t b := by
  obtain ⟨-, h3⟩ := h
  refine ⟨⟨i, by omega, hf, ho⟩, ?_⟩
  intro j hj hjf
  by_cases e : j = i
  · subst e
    exact ⟨t, b, ho, Int.le_refl _⟩
  · obtain ⟨t', b', ho', hle⟩ := h3 j (by omega) hjf
    exact ⟨t', b', ho', fr_tr (b := b) (c := T0) (d := B0) (of_pos ho) hB (of_pos ho') (Int.le_of_lt hlt) hle⟩
theorem fi_keep {i : Nat} {t b T0 B0 : Int} (h : fi_ D i T0 B0) (ho : of_ D i t b) (hge : ¬ t * B0 < T0 * b) : fi_ D (i + 1) T0 B0 := by
  obtain ⟨⟨v, h1, h2⟩, h3⟩ := h
  refine ⟨⟨v, by omega, h2⟩, ?_⟩
  intro j hj hf
  by_cases e : j = i
  · subst e
    exact ⟨t, b, ho, Int.not_lt.mp hge⟩
  · exact h3 j (by omega) hf
end
section
variable {E : Nat → Nat → Prop} {w t : Nat → Nat → Int}
variable {T B : Int64} {a1 a2 a3 a6 a7 : Nat → Int32} {a4 a5 : Nat → Int64}
theorem fm_45 {post : Int32 → St2 → Prop} {J : Int32 → Int32 → Int64 → Int64 → (Nat → Int32) → (Nat → Int32) → (Nat → Int32) → (Nat → Int64) → (Nat → Int64) → (Nat → Int32) → (Nat → Int32) → Prop} {s : Nat → Int64} {D : Nat → Nat → Int} {m : Nat} (hm : m < 4)
    (G : gp_ E w t a1 a2 a3) (h1 : tb_ s D) (h2 : dp_ E w D m 0) (H : ∀ s' D', tb_ s' D' → dp_ E w D' m 36 → J (nI (m + 2)) 4 T B a1 a2 a3 s' a5 a6 a7) :
    ∃ n, wX_findMean_45 post J (nI (m + 1)) n 0 4 T B a1 a2 a3 s a5 a6 a7 := by
  obtain ⟨hE, hw, -, hA, hV⟩ := G
  refine pk_loop (fun n i s => wX_findMean_45 post J (nI (m + 1)) n (nI i) 4 T B a1 a2 a3 s a5 a6 a7) (fun i s => ∃ D, tb_ s D ∧ dp_ E w D m i) 36 0 s (by omega) ⟨D, h1, h2⟩ ?_ ?_
  · rintro n s ⟨D, x1, x2⟩
    exact pk_le 36 36 (fun _ => nm_r (nI_1 (m + 1)) (H s D x1 x2)) (fun z => absurd z (by omega))
  · rintro n c s hc ⟨D, x1, x2⟩ hk
    have ec : 6 * (c / 6) + c % 6 = c := by omega
    refine pk_le 36 c (fun z => absurd z (by omega)) (fun _ => ⟨pk_in c 36 hc, ?_⟩)
    have e1 : nI c / 6 = nI (c / 6) := pk_div (d := 6) (by omega) (by omega) (by omega)
    have e2 : nI c - nI (c / 6) * 6 = nI (c % 6) := by
      rw [← e1]
      exact pk_rem (d := 6) (by omega) (by omega) (by omega)
    rw [nI_clamp (show c < 2 ^ 31 by omega), e1, e2]
    have hA' := hA (c / 6) (c % 6) (by omega) (by omega)
    rw [ec] at hA'
    refine br_c (fun hz => nm_r (nI_1 c) (hk s ⟨D, x1, dp_skip x2 ?_⟩)) (fun hz => ⟨by decide, by decide, pk_in c 36 hc, ?_⟩)
    · intro u v huv e hf
      have k := hE _ _ huv
      have e3 : c / 6 = u := by omega
      have e4 : c % 6 = v := by omega
      rw [e3, e4] at hA'
      exact absurd hz (hA'.mpr huv)
    · have huv := hA'.mp hz
      have hV' := (hV _ _ huv).1
      rw [ec] at hV'
      rw [hV']
      refine ew_wp x1 (by omega) (by omega) (by omega) (hw _ _ huv) (fun c0 => ?_) (fun c0 c1 => ?_)
      · refine nm_r (nI_1 c) (hk s ⟨D, x1, dp_skip x2 ?_⟩)
        intro u v huv' e hf
        have k := hE _ _ huv'
        have e3 : c / 6 = u := by omega
        have e4 : c % 6 = v := by omega
        rw [e3, e4] at c0
        rcases c0 with c0 | c0
        · exact absurd hf c0
        · exact c0
      · refine nm_r (nI_1 c) (hk _ ⟨_, tb_put x1 (by omega) (by omega) ?_, dp_put hE x2 huv ec c0 c1⟩)
        have := hw _ _ huv
        have := x1.2 m (c / 6) (by omega) (by omega)
        omega
theorem fm_95 {post : Int32 → St2 → Prop} {s : Nat → Int64} {D : Nat → Nat → Int} (h1 : tb_ s D) (h0 : ∀ v, v < 6 → D 0 v = 0)
    (H0 : (∀ v, v < 4 → ¬ D 4 v < 1000000000) → ∀ T' B', post 0 (4, T', B', a1, a2, a3, s, a5, a6, a7))
    (H1 : ∀ x y x' y' g : Int, fm_ D x y → -200 ≤ x ∧ x ≤ 200 ∧ 1 ≤ y ∧ y ≤ 4 → 1 ≤ g → x = x' * g → y = y' * g → Int.gcd x' y' = 1 → post 1 (4, jl_ x', jl_ y', a1, a2, a3, s, a5, a6, a7)) :
    ∃ n, wX_findMean_95 post n 0 0 4 T B a1 a2 a3 s a5 a6 a7 := by
  refine pk_loop (fun n i (q : Int32 × Int64 × Int64) => wX_findMean_95 post n q.1 (nI i) 4 q.2.1 q.2.2 a1 a2 a3 s a5 a6 a7)
    (fun i q => (q.1 = 0 ∧ ∀ v, v < i → ¬ D 4 v < 1000000000) ∨ (q.1 = 1 ∧ ∃ x y, q.2.1 = jl_ x ∧ q.2.2 = jl_ y ∧ (-200 ≤ x ∧ x ≤ 200 ∧ 1 ≤ y ∧ y ≤ 4) ∧ fi_ D i x y)) 4 0 (0, T, B) (by omega) (Or.inl ⟨rfl, fun v hv => absurd hv (by omega)⟩) ?_ ?_
  · rintro n ⟨f, T', B'⟩ hI
    dsimp only at hI
    rcases hI with ⟨e, hn⟩ | ⟨e, x, y, e1, e2, bd, hf⟩
    · subst e
      exact pk_le 4 4 (fun _ => br_t rfl ⟨narrow_b0, H0 hn T' B'⟩) (fun z => absurd z (by omega))
    · subst e
      subst e1
      subst e2
      refine pk_le 4 4 (fun _ => br_f (show ¬ (1 : Int32) = 0 by decide) (lo_wp (by omega) (by omega) (by omega) (by omega) (fun x' y' g hg ex ey hc => ⟨narrow_b1, H1 x y x' y' g hf bd hg ex ey hc⟩))) (fun z => absurd z (by omega))
  · rintro n i ⟨f, T', B'⟩ hi hI hk
    dsimp only at hI
    refine pk_le 4 i (fun z => absurd z (by omega)) (fun _ => ?_)
    have i1 : (6 : Int32) * 4 + nI i = nI (6 * 4 + i) := ix_ 4 i
    dsimp only
    rw [i1, nI_clamp (show 6 * 4 + i < 2 ^ 31 by omega), h1.1 4 i (by omega) (by omega)]
    have b4 := tb_sm h1 (k := 4) (v := i) (by omega) (by omega)
    refine ⟨pk_in (6 * 4 + i) 42 (by omega), ek_if (d := D 4 i < 1000000000) (by rw [jl_far]; exact jl_lt ⟨by omega, by omega⟩ ⟨by omega, by omega⟩) (fun hf => ?_) (fun hf => nm_r (nI_1 i) (hk (f, T', B') ?_))⟩
    · refine om_wp h1 (by omega) (h0 i (by omega)) hf (fun ez x y ho bd => ?_) (fun ez => ?_)
      · subst ez
        rcases hI with ⟨-, hn⟩ | ⟨e, -⟩
        · exact nm_r (nI_1 i) (hk (1, jl_ x, jl_ y) (Or.inr ⟨rfl, x, y, rfl, rfl, bd, fi_first hn hf ho⟩))
        · exact absurd e (by decide)
      · rcases hI with ⟨e, -⟩ | ⟨e, x0, y0, e1, e2, bd0, hi0⟩
        · exact absurd e ez
        refine ⟨x0, y0, e1, e2, bd0.1, bd0.2.1, bd0.2.2.1, bd0.2.2.2, fun x y ho bd => ⟨fun c => ?_, fun c => ?_⟩⟩
        · exact nm_r (nI_1 i) (hk (1, jl_ x, jl_ y) (Or.inr ⟨rfl, x, y, rfl, rfl, bd, fi_less hi0 hf ho (by omega) c⟩))
        · exact nm_r (nI_1 i) (hk (1, jl_ x0, jl_ y0) (Or.inr ⟨rfl, x0, y0, rfl, rfl, bd0, fi_keep hi0 ho c⟩))
    · rcases hI with ⟨e, hn⟩ | ⟨e, x, y, e1, e2, bd, hi0⟩
      · refine Or.inl ⟨e, ?_⟩
        intro v hv
        by_cases ev : v = i
        · rw [ev]
          exact hf
        · exact hn v (by omega)
      · exact Or.inr ⟨e, x, y, e1, e2, bd, fi_skip hi0 hf⟩
theorem fm_wp {post : Int32 → St2 → Prop} (G : gp_ E w t a1 a2 a3)
    (H0 : ∀ D, dk_ E w D → (∀ v, v < 4 → ¬ D 4 v < 1000000000) → ∀ T' B' s, post 0 (4, T', B', a1, a2, a3, s, a5, a6, a7))
    (H1 : ∀ D, dk_ E w D → ∀ x y x' y' g : Int, fm_ D x y → -200 ≤ x ∧ x ≤ 200 ∧ 1 ≤ y ∧ y ≤ 4 → 1 ≤ g → x = x' * g → y = y' * g → Int.gcd x' y' = 1 → ∀ s, post 1 (4, jl_ x', jl_ y', a1, a2, a3, s, a5, a6, a7)) :
    wpX_findMean post (4, T, B, a1, a2, a3, a4, a5, a6, a7) := by
  unfold wpX_findMean
  refine pk_loop (fun n i s => wX_findMean_2 post 4 T B n (nI i) a1 a2 a3 s a5 a6 a7) (fun i s => ∀ c, c < i → s c = jl_ (if c < 6 then 0 else 1000000000)) 42 0 a4 (by omega) (fun c hc => absurd hc (by omega)) ?_ ?_
  · intro n s hs
    refine pk_le 42 42 (fun _ => ?_) (fun z => absurd z (by omega))
    refine pk_loop (fun n i s => wX_findMean_35 post n (nI (i + 1)) 4 T B a1 a2 a3 s a5 a6 a7) (fun i s => ∃ D, tb_ s D ∧ dp_ E w D i 0) 4 0 s (by omega) ?_ ?_ ?_
    · refine ⟨fun k _ => if k = 0 then 0 else 1000000000, ⟨?_, ?_⟩, dp_0 (fun v _ => by simp) (fun k v hk _ => by simp; omega)⟩
      · intro k v hk hv
        rw [hs (6 * k + v) (by omega)]
        apply congrArg jl_
        dsimp only
        by_cases e : k = 0
        · rw [if_pos (by omega), if_pos e]
        · rw [if_neg (by omega), if_neg e]
      · intro k v hk hv
        by_cases e : k = 0
        · right
          simp [e]
        · left
          simp [e]
    · rintro n s ⟨D, x1, x2⟩
      refine pk_lt 4 5 (fun _ => fm_95 x1 x2.1 (fun hn T' B' => H0 D (dp_dk x2) hn T' B' s) (fun x y x' y' g hf bd hg ex ey hc => H1 D (dp_dk x2) x y x' y' g hf bd hg ex ey hc s)) (fun z => absurd z (by omega))
    · rintro n m s hi ⟨D, x1, x2⟩ hk
      refine pk_lt 4 (m + 1) (fun z => absurd z (by omega)) (fun _ => fm_45 (by omega) G x1 x2 (fun s' D' y1 y2 => hk s' ⟨D', y1, ?_⟩))
      exact dp_next G.1 y2
  · intro n i s hi hs hk
    refine pk_le 42 i (fun z => absurd z (by omega)) (fun _ => ?_)
    rw [nI_clamp (show i < 2 ^ 31 by omega)]
    refine pk_le 6 i (fun z => ⟨pk_in i 42 hi, nm_e (nm_r (nI_1 i) (hk _ ?_))⟩) (fun z => ⟨pk_in i 42 hi, nm_e (nm_r (nI_1 i) (hk _ ?_))⟩)
    · intro c hc
      by_cases e : c = i
      · rw [e, pk_uLs, if_neg (by omega)]
        rfl
      · rw [pk_uLn e]
        exact hs c (by omega)
    · intro c hc
      by_cases e : c = i
      · rw [e, pk_uLs, if_pos (by omega)]
        rfl
      · rw [pk_uLn e]
        exact hs c (by omega)
end
end
section
/-! ===== reducedWeight, relax ===== -/
theorem nI_b8 : ∀ u : Nat, u < 6 → (nI u).toInt8.toInt32 = nI u := by decide +kernel
/-- by time or by number of arcs -/
def by_ (p : Int32) (t g : Nat → Nat → Int) : Prop := (p = 0 ∧ g = on_) ∨ (p = 1 ∧ g = t)
section
variable {E : Nat → Nat → Prop} {w t g : Nat → Nat → Int} {A B : Int}
variable {pc p0 : Int32} {a1 a2 a3 a6 a7 : Nat → Int32} {a4 a5 : Nat → Int64}
theorem zz_bd (G : gp_ E w t a1 a2 a3) (hg : by_ p0 t g) (hA : -200 ≤ A ∧ A ≤ 200) (hB : 1 ≤ B ∧ B ≤ 100) {u v : Nat} (huv : E u v) : -10000 ≤ zz_ w g A B u v ∧ zz_ w g A B u v ≤ 10000 := by
  have h1 := G.2.1 u v huv
  have h2 := G.2.2.1 u v huv
  have m1 := mul_bd (a := w u v) (b := B) (M := 20) (N := 100) ⟨by omega, by omega⟩ ⟨by omega, by omega⟩ (by omega)
  have hg' : 0 ≤ g u v ∧ g u v ≤ 5 := by
    rcases hg with ⟨-, e⟩ | ⟨-, e⟩
    · rw [e]
      unfold on_
      omega
    · rw [e]
      omega
  have m2 := mul_bd (a := A) (b := g u v) (M := 200) (N := 5) ⟨by omega, by omega⟩ hg' (by omega)
  unfold zz_
  omega
theorem rw_wp {post : Int64 → Prop} (G : gp_ E w t a1 a2 a3) (hg : by_ p0 t g) {u v c : Nat} (huv : E u v) (hc : 6 * u + v = c) (H : post (jl_ (zz_ w g A B u v))) :
    wpX_reducedWeight post (pc, jl_ A, jl_ B, a1, a2, a3, a4, a5, a6, a7) (nI c) p0 := by
  have k := G.1 u v huv
  have h1 := G.2.1 u v huv
  have h2 := G.2.2.1 u v huv
  have hV := G.2.2.2.2 u v huv
  rw [hc] at hV
  unfold wpX_reducedWeight
  dsimp only
  rw [nI_clamp (show c < 2 ^ 31 by omega), hV.1, hV.2, iw_l (a := w u v) ⟨by omega, by omega⟩, iw_l (a := t u v) ⟨by omega, by omega⟩, jl_mul]
  refine ⟨pk_in c 36 (by omega), ?_⟩
  rcases hg with ⟨e1, e2⟩ | ⟨e1, e2⟩
  · subst e1
    subst e2
    refine br_t rfl ?_
    rw [show (1 : Int32).toInt64 = jl_ 1 from rfl, jl_mul, jl_sub]
    exact H
  · subst e1
    subst e2
    refine br_f (by decide) ⟨pk_in c 36 (by omega), ?_⟩
    rw [jl_mul, jl_sub]
    exact H
/-- the state in round R, the arcs below c done -/
def rx_ (E : Nat → Nat → Prop) (z : Nat → Nat → Int) (R c : Nat) (x : Int32) (s5 : Nat → Int64) (s6 : Nat → Int32) : Prop :=
  ∃ (d : Nat → Int) (P L : Nat → Nat), bf_ E z R c d P L ∧ (∀ v, v < 4 → s5 v = jl_ (d v)) ∧ (∀ v, v < 4 → 1 ≤ L v → s6 v = nI (P v)) ∧
    (∀ v, v < 4 → -(10000 * ((36 * R + c : Nat) : Int)) ≤ d v ∧ d v ≤ 0) ∧ ((x = -1 ∧ ∀ v, v < 4 → L v ≤ R) ∨ (∃ p, p < 4 ∧ x = nI p ∧ L p = R + 1))
theorem rx_next {z : Nat → Nat → Int} {R : Nat} {x : Int32} {s5 : Nat → Int64} {s6 : Nat → Int32} (hE : er_ E) (h : rx_ E z R 36 x s5 s6) : rx_ E z (R + 1) 0 (-1) s5 s6 := by
  obtain ⟨d, P, L, h1, h2, h3, h4, h5⟩ := h
  refine ⟨d, P, L, bf_round hE h1, h2, h3, ?_, Or.inl ⟨rfl, h1.1⟩⟩
  intro v hv
  have := h4 v hv
  rw [show 36 * (R + 1) + 0 = 36 * R + 36 by omega]
  exact this
theorem rx_skip {z : Nat → Nat → Int} {R c : Nat} {x : Int32} {s5 : Nat → Int64} {s6 : Nat → Int32} (h : rx_ E z R c x s5 s6) (hs : ∀ u v, E u v → 6 * u + v = c → ∀ d : Nat → Int, (∀ v, v < 4 → s5 v = jl_ (d v)) → (∀ v, v < 4 → -10000000 ≤ d v ∧ d v ≤ 0) → d v ≤ d u + z u v) (hR : R ≤ 4) (hc : c < 36) : rx_ E z R (c + 1) x s5 s6 := by
  obtain ⟨d, P, L, h1, h2, h3, h4, h5⟩ := h
  refine ⟨d, P, L, bf_skip h1 (fun u v huv e => hs u v huv e d h2 (fun v hv => ?_)), h2, h3, ?_, h5⟩
  · have := h4 v hv
    omega
  · intro v hv
    have := h4 v hv
    omega
theorem rl_45 {post : Int32 → St2 → Prop} {J : Int32 → Int32 → (Nat → Int32) → (Nat → Int32) → (Nat → Int32) → (Nat → Int64) → (Nat → Int64) → (Nat → Int32) → (Nat → Int32) → Prop} {s5 : Nat → Int64} {s6 : Nat → Int32} {R : Nat} (hR : R ≤ 4)
    (G : gp_ E w t a1 a2 a3) (hg : by_ p0 t g) (hA : -200 ≤ A ∧ A ≤ 200) (hB : 1 ≤ B ∧ B ≤ 100) (h1 : rx_ E (zz_ w g A B) R 0 (-1) s5 s6)
    (H : ∀ x s5' s6', rx_ E (zz_ w g A B) R 36 x s5' s6' → J x (nI (R + 1)) a1 a2 a3 a4 s5' s6' a7) :
    ∃ n, wX_relax_45 post J p0 (nI R) 4 (jl_ A) (jl_ B) n (-1) 0 a1 a2 a3 a4 s5 s6 a7 := by
  have hE := G.1
  have hAr := G.2.2.2.1
  refine pk_loop (fun n i (q : Int32 × (Nat → Int64) × (Nat → Int32)) => wX_relax_45 post J p0 (nI R) 4 (jl_ A) (jl_ B) n q.1 (nI i) a1 a2 a3 a4 q.2.1 q.2.2 a7) (fun i q => rx_ E (zz_ w g A B) R i q.1 q.2.1 q.2.2) 36 0 (-1, s5, s6) (by omega) h1 ?_ ?_
  · rintro n ⟨x, s5, s6⟩ hI
    exact pk_le 36 36 (fun _ => nm_r (nI_1 R) (H x s5 s6 hI)) (fun z => absurd z (by omega))
  · rintro n c ⟨x, s5, s6⟩ hc hI hk
    dsimp only at hI
    have ec : 6 * (c / 6) + c % 6 = c := by omega
    refine pk_le 36 c (fun z => absurd z (by omega)) (fun _ => ⟨pk_in c 36 hc, ?_⟩)
    have e1 : nI c / 6 = nI (c / 6) := pk_div (d := 6) (by omega) (by omega) (by omega)
    have e2 : nI c - nI (c / 6) * 6 = nI (c % 6) := by
      rw [← e1]
      exact pk_rem (d := 6) (by omega) (by omega) (by omega)
    dsimp only
    rw [nI_clamp (show c < 2 ^ 31 by omega), e1, e2, nI_clamp (show c / 6 < 2 ^ 31 by omega)]
    have hA' := hAr (c / 6) (c % 6) (by omega) (by omega)
    rw [ec] at hA'
    refine br_c (fun hz => nm_r (nI_1 c) (hk (x, s5, s6) (rx_skip hI ?_ hR hc))) (fun hz => ⟨by decide, nm_e ⟨by decide, pk_in (c / 6) 6 (by omega), ?_⟩⟩)
    · intro u v huv e
      have k := hE _ _ huv
      have e3 : c / 6 = u := by omega
      have e4 : c % 6 = v := by omega
      rw [e3, e4] at hA'
      exact absurd hz (hA'.mpr huv)
    · have huv := hA'.mp hz
      have kuv := hE _ _ huv
      have zb := zz_bd G hg hA hB huv
      refine rw_wp G hg huv ec ?_
      obtain ⟨d, P, L, x1, x2, x3, x4, x5⟩ := hI
      have bu := x4 (c / 6) kuv.1
      have bv := x4 (c % 6) kuv.2
      rw [nI_clamp (show c % 6 < 2 ^ 31 by omega), x2 (c / 6) kuv.1]
      refine nm_r (jl_add _ _) ⟨pk_in (c % 6) 6 (by omega), ?_⟩
      rw [x2 (c % 6) kuv.2]
      refine ek_if (d := d (c / 6) + zz_ w g A B (c / 6) (c % 6) < d (c % 6)) (jl_lt ⟨by omega, by omega⟩ ⟨by omega, by omega⟩) (fun hlt => ⟨pk_in (c % 6) 6 (by omega), nm_e ⟨by decide, pk_in (c % 6) 6 (by omega), nm_e (nm_r (nI_1 c) ?_)⟩⟩) (fun hlt => nm_r (nI_1 c) (hk (x, s5, s6) ?_))
      · rw [nI_b8 (c / 6) (by omega)]
        refine hk (nI (c % 6), vp_updL s5 (c % 6) (jl_ (d (c / 6) + zz_ w g A B (c / 6) (c % 6))), upd s6 (c % 6) (nI (c / 6))) ⟨fu_ d (c % 6) (d (c / 6) + zz_ w g A B (c / 6) (c % 6)), fu_ P (c % 6) (c / 6), fu_ L (c % 6) (R + 1), bf_put hE x1 huv ec hlt, ?_, ?_, ?_, ?_⟩
        · intro v hv
          dsimp only
          by_cases e : v = c % 6
          · rw [e, pk_uLs, fu_s]
          · rw [pk_uLn e, fu_n e]
            exact x2 v hv
        · intro v hv hl
          dsimp only
          by_cases e : v = c % 6
          · rw [e, pk_us, fu_s]
          · rw [fu_n e] at hl
            rw [pk_un e, fu_n e]
            exact x3 v hv hl
        · intro v hv
          have bb := x4 v hv
          by_cases e : v = c % 6
          · rw [e, fu_s]
            omega
          · rw [fu_n e]
            omega
        · exact Or.inr ⟨c % 6, kuv.2, rfl, fu_s⟩
      · refine ⟨d, P, L, bf_skip x1 ?_, x2, x3, ?_, x5⟩
        · intro u v huv' e
          have k := hE _ _ huv'
          have e3 : c / 6 = u := by omega
          have e4 : c % 6 = v := by omega
          rw [e3, e4] at hlt
          exact Int.not_lt.mp hlt
        · intro v hv
          have := x4 v hv
          omega
theorem rl_32 {post : Int32 → St2 → Prop} {s5 : Nat → Int64} {s6 : Nat → Int32}
    (G : gp_ E w t a1 a2 a3) (hg : by_ p0 t g) (hA : -200 ≤ A ∧ A ≤ 200) (hB : 1 ≤ B ∧ B ≤ 100) (h1 : rx_ E (zz_ w g A B) 0 0 (-1) s5 s6)
    (H : ∀ x s5' s6', rx_ E (zz_ w g A B) 4 36 x s5' s6' → post x (4, jl_ A, jl_ B, a1, a2, a3, a4, s5', s6', a7)) :
    ∃ n, wX_relax_32 post p0 4 (jl_ A) (jl_ B) n (-1) 0 a1 a2 a3 a4 s5 s6 a7 := by
  refine pk_loop (fun n i (q : Int32 × (Nat → Int64) × (Nat → Int32)) => wX_relax_32 post p0 4 (jl_ A) (jl_ B) n q.1 (nI i) a1 a2 a3 a4 q.2.1 q.2.2 a7)
    (fun i q => (i ≤ 4 → rx_ E (zz_ w g A B) i 0 (-1) q.2.1 q.2.2) ∧ (i = 5 → rx_ E (zz_ w g A B) 4 36 q.1 q.2.1 q.2.2)) 5 0 (-1, s5, s6) (by omega) ⟨fun _ => h1, fun e => absurd e (by omega)⟩ ?_ ?_
  · rintro n ⟨x, s5, s6⟩ hI
    exact pk_lt 4 5 (fun _ => H x s5 s6 (hI.2 rfl)) (fun z => absurd z (by omega))
  · rintro n R ⟨x, s5, s6⟩ hR hI hk
    refine pk_lt 4 R (fun z => absurd z (by omega)) (fun _ => rl_45 (by omega) G hg hA hB (hI.1 (by omega)) (fun x' s5' s6' hx => hk (x', s5', s6') ⟨fun _ => rx_next G.1 hx, fun e => ?_⟩))
    have e4 : R = 4 := by omega
    rw [e4] at hx
    exact hx
theorem rl_wp {post : Int32 → St2 → Prop}
    (G : gp_ E w t a1 a2 a3) (hg : by_ p0 t g) (hA : -200 ≤ A ∧ A ≤ 200) (hB : 1 ≤ B ∧ B ≤ 100)
    (H0 : ∀ d s5 s6, pt_ E (zz_ w g A B) d → (∀ v, v < 4 → s5 v = jl_ (d v)) → (∀ v, v < 4 → -10000000 ≤ d v ∧ d v ≤ 0) → post (-1) (4, jl_ A, jl_ B, a1, a2, a3, a4, s5, s6, a7))
    (H1 : ∀ p P L s5 s6, cd_ E (zz_ w g A B) P L p → (∀ v, v < 4 → 1 ≤ L v → s6 v = nI (P v)) → post (nI p) (4, jl_ A, jl_ B, a1, a2, a3, a4, s5, s6, a7)) :
    wpX_relax post (4, jl_ A, jl_ B, a1, a2, a3, a4, a5, a6, a7) p0 := by
  unfold wpX_relax
  refine pk_loop (fun n i (q : (Nat → Int64) × (Nat → Int32)) => wX_relax_2 post p0 4 (jl_ A) (jl_ B) n (nI i) a1 a2 a3 a4 q.1 q.2 a7) (fun i q => ∀ v, v < i → q.1 v = 0) 6 0 (a5, a6) (by omega) (fun v hv => absurd hv (by omega)) ?_ ?_
  · rintro n ⟨s5, s6⟩ hI
    dsimp only at hI
    refine pk_le 6 6 (fun _ => rl_32 G hg hA hB ⟨fun _ => 0, fun _ => 0, fun _ => 0, bf_0 (fun _ _ => rfl), fun v hv => hI v (by omega), fun v _ hl => absurd hl (show ¬ 1 ≤ (0 : Nat) by decide), fun v _ => by dsimp only; omega, Or.inl ⟨rfl, fun _ _ => Nat.le_refl 0⟩⟩ ?_) (fun z => absurd z (by omega))
    rintro x s5' s6' ⟨d, P, L, x1, x2, x3, x4, x5⟩
    rcases x5 with ⟨e, hl⟩ | ⟨p, hp, e, hl⟩
    · subst e
      exact H0 d s5' s6' (bf_pt G.1 x1 hl) x2 (fun v hv => by have := x4 v hv; omega)
    · subst e
      exact H1 p P L s5' s6' (bf_cd x1 hp hl) x3
  · rintro n i ⟨s5, s6⟩ hi hI hk
    dsimp only at hI
    refine pk_le 6 i (fun z => absurd z (by omega)) (fun _ => ?_)
    dsimp only
    rw [nI_clamp (show i < 2 ^ 31 by omega)]
    refine ⟨pk_in i 6 hi, nm_e ⟨pk_in i 6 hi, nm_e (nm_r (nI_1 i) (hk (vp_updL s5 i 0, upd s6 i (-1)) ?_))⟩⟩
    intro v hv
    dsimp only
    by_cases e : v = i
    · rw [e, pk_uLs]
    · rw [pk_uLn e]
      exact hI v (by omega)
end
end
section
/-! ===== takeCircle, findRatio ===== -/
section
variable {E : Nat → Nat → Prop} {w t : Nat → Nat → Int} {A B : Int}
variable {a1 a2 a3 a6 a7 : Nat → Int32} {a4 a5 : Nat → Int64} {T0 B0 : Int64}
theorem tk_47 {post : St2 → Prop} {J : Int64 → Int64 → Int32 → Int32 → Prop} {x2 : Int32} {W T : Int} {u v k : Nat} (G : gp_ E w t a1 a2 a3) (huv : E u v) (hl : a6 v = nI u)
    (H : J (jl_ (W + w u v)) (jl_ (T + t u v)) (nI u) (nI (k + 1))) : wX_takeCircle_47 post J x2 (jl_ W) (jl_ T) (nI v) (nI k) 4 T0 B0 a1 a2 a3 a4 a5 a6 a7 := by
  have kk := G.1 u v huv
  have h1 := G.2.1 u v huv
  have h2 := G.2.2.1 u v huv
  have hV := G.2.2.2.2 u v huv
  unfold wX_takeCircle_47
  rw [nI_clamp (show v < 2 ^ 31 by omega), hl]
  refine ⟨pk_in v 6 (by omega), nm_e ?_⟩
  rw [ix_ u v, nI_clamp (show 6 * u + v < 2 ^ 31 by omega), hV.1, hV.2, iw_l (a := w u v) ⟨by omega, by omega⟩, iw_l (a := t u v) ⟨by omega, by omega⟩]
  exact ⟨pk_in (6 * u + v) 36 (by omega), nm_r (jl_add _ _) ⟨pk_in (6 * u + v) 36 (by omega), nm_r (jl_add _ _) (nm_r (nI_1 k) H)⟩⟩
theorem tk_step {post : St2 → Prop} {W T : Int} {u v k o n : Nat} (G : gp_ E w t a1 a2 a3) (ho : o < 4) (hk : k < 100) (hc : k = 0 ∨ v ≠ o) (huv : E u v) (hl : a6 v = nI u)
    (H : wX_takeCircle_36 post (nI o) 4 T0 B0 a1 a2 a3 a4 a5 a6 a7 n (jl_ (W + w u v)) (jl_ (T + t u v)) (nI u) (nI (k + 1))) :
    wX_takeCircle_36 post (nI o) 4 T0 B0 a1 a2 a3 a4 a5 a6 a7 (n + 1) (jl_ W) (jl_ T) (nI v) (nI k) := by
  have kk := G.1 u v huv
  refine pk_eq k 0 (fun _ => tk_47 G huv hl H) (fun hk => pk_eq v o (fun e => ?_) (fun _ => tk_47 G huv hl H))
  rcases hc with hc | hc
  · exact absurd hc hk
  · exact absurd e hc
theorem tk_end {post : St2 → Prop} {W T : Int} {k o n : Nat} (ho : o < 4) (hk : 0 < k) (hk2 : k < 100) (hW : -80 ≤ W ∧ W ≤ 80) (hT : 1 ≤ T ∧ T ≤ 20)
    (H : ∀ W' D' g : Int, 1 ≤ g → W = W' * g → T = D' * g → Int.gcd W' D' = 1 → post (4, jl_ W', jl_ D', a1, a2, a3, a4, a5, a6, a7)) :
    wX_takeCircle_36 post (nI o) 4 T0 B0 a1 a2 a3 a4 a5 a6 a7 (n + 1) (jl_ W) (jl_ T) (nI o) (nI k) :=
  pk_eq k 0 (fun e => absurd e (by omega)) (fun _ => pk_eq o o (fun _ => lo_wp (by omega) (by omega) (by omega) (by omega) H) (fun e => absurd rfl e))
theorem tc_wp {post : St2 → Prop} {P L : Nat → Nat} {p : Nat} (G : gp_ E w t a1 a2 a3) (hc : cd_ E (zz_ w t A B) P L p) (hs : ∀ v, v < 4 → 1 ≤ L v → a6 v = nI (P v))
    (H : ∀ W T W' T' g : Int, cw_ E w t W T → W * B < A * T → 1 ≤ g → W = W' * g → T = T' * g → Int.gcd W' T' = 1 → post (4, jl_ W', jl_ T', a1, a2, a3, a4, a5, a6, a7)) :
    wpX_takeCircle post (4, T0, B0, a1, a2, a3, a4, a5, a6, a7) (nI p) := by
  obtain ⟨q1, q2, q3, q4, e1, e2, e3, e4, k1, k2, k3, k4, l0, l1, l2, l3, l4, hci⟩ := cd_ci hc
  obtain ⟨hp, -, hP, -, n1, n2, n3, n4⟩ := hc
  unfold wpX_takeCircle
  dsimp only
  refine ⟨5, ?_⟩
  have S : ∀ {n v v' k : Nat}, v < 4 → v' < 4 → k < 4 → a6 v = nI v' → wX_takeCircle_4 post 4 T0 B0 a1 a2 a3 a4 a5 a6 a7 n (nI v') (nI (k + 1)) → wX_takeCircle_4 post 4 T0 B0 a1 a2 a3 a4 a5 a6 a7 (n + 1) (nI v) (nI k) := by
    intro n v v' k hv hv' hk he hh
    refine pk_le 4 k (fun z => absurd z (by omega)) (fun _ => ⟨pk_in v 6 (by omega), nm_r ?_ (nm_r (nI_1 k) hh)⟩)
    rw [nI_clamp (show v < 2 ^ 31 by omega)]
    exact he
  refine S (k := 0) hp k1 (by omega) (by rw [hs p hp l0, e1]) (S k1 k2 (by omega) (by rw [hs q1 k1 l1, e2]) (S k2 k3 (by omega) (by rw [hs q2 k2 l2, e3]) (S k3 k4 (by omega) (by rw [hs q3 k3 l3, e4]) ?_)))
  refine pk_le 4 4 (fun _ => ?_) (fun z => absurd z (by omega))
  have F : ∀ {W T : Int} {k n : Nat}, 0 < k → k < 100 → cw_ E w t W T → W * B < A * T → wX_takeCircle_36 post (nI q4) 4 T0 B0 a1 a2 a3 a4 a5 a6 a7 (n + 1) (jl_ W) (jl_ T) (nI q4) (nI k) := by
    intro W T k n hk hk2 hcw hlt
    have bd := cw_bd hcw G.2.1 G.2.2.1
    exact tk_end k4 hk hk2 ⟨bd.1, bd.2.1⟩ ⟨bd.2.2.1, bd.2.2.2.1⟩ (fun W' D' g hg ew et hc => H W T W' D' g hcw hlt hg ew et hc)
  have g0 := hP q4 k4 l4
  refine ⟨5, ?_⟩
  refine tk_step (k := 0) (W := 0) (T := 0) G k4 (by omega) (Or.inl rfl) g0.2 (hs q4 k4 l4) ?_
  by_cases c1 : P q4 = q4
  · have x := n1 q4 k4 l4 c1
    rw [c1] at g0 ⊢
    unfold zz_ at x
    exact F (by omega) (by omega) (Or.inl ⟨q4, g0.2, by omega, by omega⟩) (by rw [Int.zero_add, Int.zero_add]; omega)
  have l5 : 1 ≤ L (P q4) := by
    rcases hci with y | ⟨_, y⟩ | ⟨_, y, _⟩ | ⟨_, y, _⟩
    · exact absurd y c1
    · exact y
    · exact y
    · exact y
  have g1 := hP (P q4) g0.1 l5
  refine tk_step (k := 1) G k4 (by omega) (Or.inr c1) g1.2 (hs _ g0.1 l5) ?_
  by_cases c2 : P (P q4) = q4
  · have x := n2 q4 (P q4) k4 g0.1 l4 l5 rfl c2
    rw [c2] at g1 ⊢
    unfold zz_ at x
    exact F (by omega) (by omega) (Or.inr (Or.inl ⟨_, _, g0.2, g1.2, by omega, by omega⟩)) (by rw [Int.zero_add, Int.zero_add, Int.add_mul, Int.mul_add]; omega)
  have l6 : 1 ≤ L (P (P q4)) := by
    rcases hci with y | ⟨y, _⟩ | ⟨_, _, y⟩ | ⟨_, _, y, _⟩
    · exact absurd y c1
    · exact absurd y c2
    · exact y
    · exact y
  have g2 := hP (P (P q4)) g1.1 l6
  refine tk_step (k := 2) G k4 (by omega) (Or.inr c2) g2.2 (hs _ g1.1 l6) ?_
  by_cases c3 : P (P (P q4)) = q4
  · have x := n3 q4 (P q4) (P (P q4)) k4 g0.1 g1.1 l4 l5 l6 rfl rfl c3
    rw [c3] at g2 ⊢
    unfold zz_ at x
    exact F (by omega) (by omega) (Or.inr (Or.inr (Or.inl ⟨_, _, _, g2.2, g1.2, g0.2, by omega, by omega⟩))) (by rw [Int.zero_add, Int.zero_add, Int.add_mul, Int.mul_add, Int.add_mul, Int.mul_add]; omega)
  have h7 : P (P (P (P q4))) = q4 ∧ 1 ≤ L (P (P (P q4))) := by
    rcases hci with y | ⟨y, _⟩ | ⟨y, _⟩ | ⟨y, _, _, y'⟩
    · exact absurd y c1
    · exact absurd y c2
    · exact absurd y c3
    · exact ⟨y, y'⟩
  have g3 := hP (P (P (P q4))) g2.1 h7.2
  refine tk_step (k := 3) G k4 (by omega) (Or.inr c3) g3.2 (hs _ g2.1 h7.2) ?_
  have x := n4 q4 (P q4) (P (P q4)) (P (P (P q4))) k4 g0.1 g1.1 g2.1 l4 l5 l6 h7.2 rfl rfl rfl h7.1
  rw [h7.1] at g3 ⊢
  unfold zz_ at x
  exact F (by omega) (by omega) (Or.inr (Or.inr (Or.inr ⟨_, _, _, _, g3.2, g2.2, g1.2, g0.2, by omega, by omega⟩))) (by rw [Int.zero_add, Int.zero_add, Int.add_mul, Int.mul_add, Int.add_mul, Int.mul_add, Int.add_mul, Int.mul_add]; omega)
/-! the ratio falls from circle to circle -/
def mr_ (A B : Int) : Nat := (A * (232792560 / B) + 50000000000).toNat
theorem mr_dv : ∀ b : Nat, b < 21 → 1 ≤ b → (b : Int) * (232792560 / (b : Int)) = 232792560 := by decide +kernel
theorem mr_lt {A B A' B' : Int} (hB : 1 ≤ B ∧ B ≤ 20) (hB' : 1 ≤ B' ∧ B' ≤ 20) (hA : -200 ≤ A ∧ A ≤ 200) (hA' : -200 ≤ A' ∧ A' ≤ 200) (h : A' * B < A * B') : mr_ A' B' < mr_ A B := by
  have d1 := mr_dv B.toNat (by omega) (by omega)
  have d2 := mr_dv B'.toNat (by omega) (by omega)
  rw [show ((B.toNat : Nat) : Int) = B by omega] at d1
  rw [show ((B'.toNat : Nat) : Int) = B' by omega] at d2
  unfold mr_
  generalize 232792560 / B = c at d1 ⊢
  generalize 232792560 / B' = c' at d2 ⊢
  have c0 : 0 < c := by
    rcases Int.lt_or_le 0 c with x | x
    · exact x
    · have : B * c ≤ 0 := Int.mul_nonpos_of_nonneg_of_nonpos (by omega) x
      omega
  have c0' : 0 < c' := by
    rcases Int.lt_or_le 0 c' with x | x
    · exact x
    · have : B' * c' ≤ 0 := Int.mul_nonpos_of_nonneg_of_nonpos (by omega) x
      omega
  have h1 : A' * B * (c * c') < A * B' * (c * c') := Int.mul_lt_mul_of_pos_right h (Int.mul_pos c0 c0')
  have h2 : 232792560 * (A' * c') < 232792560 * (A * c) := by
    have y1 : A' * B * (c * c') = (B * c) * (A' * c') := by grind
    have y2 : A * B' * (c * c') = (B' * c') * (A * c) := by grind
    rw [y1, y2, d1, d2] at h1
    exact h1
  have cb : c ≤ 232792560 := by
    have : 1 * c ≤ B * c := Int.mul_le_mul_of_nonneg_right hB.1 (by omega)
    omega
  have cb' : c' ≤ 232792560 := by
    have : 1 * c' ≤ B' * c' := Int.mul_le_mul_of_nonneg_right hB'.1 (by omega)
    omega
  have m1 := mul_bd (a := A) (b := c) (M := 200) (N := 232792560) ⟨by omega, by omega⟩ ⟨by omega, cb⟩ (by omega)
  have m2 := mul_bd (a := A') (b := c') (M := 200) (N := 232792560) ⟨by omega, by omega⟩ ⟨by omega, cb'⟩ (by omega)
  omega
/-- what holds each time the loop of findRatio is come to -/
def fr_i (E : Nat → Nat → Prop) (w t : Nat → Nat → Int) (A B : Int) (x p : Int32) (s5 : Nat → Int64) (s6 : Nat → Int32) : Prop :=
  (1 ≤ B ∧ B ≤ 20) ∧ (-200 ≤ A ∧ A ≤ 200) ∧ ((x = 0 ∧ A = 21 ∧ B = 1) ∨ (x = 1 ∧ Int.gcd A B = 1 ∧ ∃ W T, cw_ E w t W T ∧ W * B = A * T)) ∧
  ((p = -1 ∧ ∃ d, pt_ E (zz_ w t A B) d) ∨ (∃ q P L, p = nI q ∧ cd_ E (zz_ w t A B) P L q ∧ ∀ v, v < 4 → 1 ≤ L v → s6 v = nI (P v)))
theorem fr_wp {post : Int32 → St2 → Prop} (G : gp_ E w t a1 a2 a3)
    (H0 : ∀ d s5 s6, pt_ E (zz_ w t 21 1) d → ∀ T' B', post 0 (4, T', B', a1, a2, a3, a4, s5, s6, a7))
    (H1 : ∀ A B W T d s5 s6, 1 ≤ B ∧ B ≤ 20 → -200 ≤ A ∧ A ≤ 200 → cw_ E w t W T → W * B = A * T → Int.gcd A B = 1 → pt_ E (zz_ w t A B) d → post 1 (4, jl_ A, jl_ B, a1, a2, a3, a4, s5, s6, a7)) :
    wpX_findRatio post (4, T0, B0, a1, a2, a3, a4, a5, a6, a7) := by
  have main : ∀ A B x p s5 s6, fr_i E w t A B x p s5 s6 → ∃ n, wX_findRatio_20 post n x p 4 (jl_ A) (jl_ B) a1 a2 a3 a4 s5 s6 a7 := by
    intro A B x p s5 s6 hI
    refine loop_m (fun n (q : Int × Int × Int32 × Int32 × (Nat → Int64) × (Nat → Int32)) => wX_findRatio_20 post n q.2.2.1 q.2.2.2.1 4 (jl_ q.1) (jl_ q.2.1) a1 a2 a3 a4 q.2.2.2.2.1 q.2.2.2.2.2 a7) (fun q => fr_i E w t q.1 q.2.1 q.2.2.1 q.2.2.2.1 q.2.2.2.2.1 q.2.2.2.2.2) (fun q => mr_ q.1 q.2.1) ?_ (A, B, x, p, s5, s6) hI
    clear hI A B x p s5 s6
    rintro n ⟨A, B, x, p, s5, s6⟩ ⟨hB, hA, hx, hp⟩ hk
    dsimp only at hB hA hx hp hk
    show wX_findRatio_20 post (n + 1) x p 4 (jl_ A) (jl_ B) a1 a2 a3 a4 s5 s6 a7
    rcases hp with ⟨e, d, hd⟩ | ⟨q, P, L, e, hc, hs⟩
    · subst e
      refine br_t (by decide) ?_
      rcases hx with ⟨e, eA, eB⟩ | ⟨e, hgc, W, T, hw, hz⟩
      · subst e
        rw [eA, eB] at hd
        exact ⟨narrow_b0, H0 d s5 s6 hd _ _⟩
      · subst e
        exact ⟨narrow_b1, H1 A B W T d s5 s6 hB hA hw hz hgc hd⟩
    · subst e
      refine br_f (nI_pos (by have := hc.1; omega)) (tc_wp G hc hs (fun W T W' T' g hcw hlt hg ew et hgc => ?_))
      have bd := cw_bd hcw G.2.1 G.2.2.1
      have b1 := red_bd (M := 80) (by omega) hg ew (by omega) (by omega)
      have b2 := red_bd (M := 20) (by omega) hg et (by omega) (by omega)
      have b3 := red_pos hg et (by omega)
      have hfall : W' * B < A * T' := by
        have y : (W' * B) * g < (A * T') * g := by
          rw [ew, et] at hlt
          have y1 : W' * g * B = W' * B * g := by grind
          have y2 : A * (T' * g) = A * T' * g := by grind
          omega
        exact Int.lt_of_mul_lt_mul_right y (by omega)
      have hm := mr_lt hB ⟨b3, b2.2⟩ hA ⟨by omega, by omega⟩ hfall
      have hcz : W * T' = W' * T := by
        rw [ew, et]
        grind
      refine rl_wp G (Or.inr ⟨rfl, rfl⟩) ⟨by omega, by omega⟩ ⟨b3, by omega⟩ (fun d s5' s6' hd _ _ => hk (W', T', 1, -1, s5', s6') ⟨⟨b3, b2.2⟩, ⟨by omega, by omega⟩, Or.inr ⟨rfl, hgc, W, T, hcw, hcz⟩, Or.inl ⟨rfl, d, hd⟩⟩ hm) (fun p' P' L' s5' s6' hc' hs' => hk (W', T', 1, nI p', s5', s6') ⟨⟨b3, b2.2⟩, ⟨by omega, by omega⟩, Or.inr ⟨rfl, hgc, W, T, hcw, hcz⟩, Or.inr ⟨p', P', L', rfl, hc', hs'⟩⟩ hm)
  unfold wpX_findRatio
  dsimp only
  refine rl_wp (A := 21) (B := 1) G (Or.inr ⟨rfl, rfl⟩) ⟨by omega, by omega⟩ ⟨by omega, by omega⟩ (fun d s5' s6' hd _ _ => main 21 1 0 (-1) s5' s6' ⟨⟨by omega, by omega⟩, ⟨by omega, by omega⟩, Or.inl ⟨rfl, rfl, rfl⟩, Or.inl ⟨rfl, d, hd⟩⟩) (fun p' P' L' s5' s6' hc' hs' => main 21 1 0 (nI p') s5' s6' ⟨⟨by omega, by omega⟩, ⟨by omega, by omega⟩, Or.inl ⟨rfl, rfl, rfl⟩, Or.inr ⟨p', P', L', rfl, hc', hs'⟩⟩)
end
end
section
/-! ===== isTight, findTight, closes; the least ratio ===== -/
section
variable {E : Nat → Nat → Prop} {w t g f : Nat → Nat → Int} {A B : Int}
variable {p0 : Int32} {a1 a2 a3 a6 a7 : Nat → Int32} {a4 a5 : Nat → Int64} {T0 B0 : Int64}
theorem it_wp {post : Int32 → Prop} {d : Nat → Int} (G : gp_ E w t a1 a2 a3) (hg : by_ p0 t g) (hA : -200 ≤ A ∧ A ≤ 200) (hB : 1 ≤ B ∧ B ≤ 100) (hd : ∀ v, v < 4 → a5 v = jl_ (d v)) (hb : ∀ v, v < 4 → -10000000 ≤ d v ∧ d v ≤ 0) {u v : Nat} (hu : u < 6) (hv : v < 6)
    (H1 : te_ E (zz_ w g A B) d u v → post 1) (H0 : ¬ te_ E (zz_ w g A B) d u v → post 0) : wpX_isTight post (4, jl_ A, jl_ B, a1, a2, a3, a4, a5, a6, a7) (nI u) (nI v) p0 := by
  have hA' := G.2.2.2.1 u v hu hv
  unfold wpX_isTight
  dsimp only
  refine nm_r (ix_ u v) ⟨pk_in (6 * u + v) 36 (by omega), ?_⟩
  rw [nI_clamp (show 6 * u + v < 2 ^ 31 by omega)]
  refine br_c (fun hz => H0 (fun ht => hA'.mpr ht.1 hz)) (fun hz => ⟨pk_in u 6 hu, ?_⟩)
  have huv := hA'.mp hz
  have k := G.1 u v huv
  have zb := zz_bd G hg hA hB huv
  have b1 := hb u k.1
  have b2 := hb v k.2
  refine rw_wp G hg huv rfl ?_
  rw [nI_clamp (show u < 2 ^ 31 by omega), nI_clamp (show v < 2 ^ 31 by omega), hd u k.1, hd v k.2]
  exact nm_r (jl_add _ _) ⟨pk_in v 6 hv, ek_if (jl_eq ⟨by omega, by omega⟩ ⟨by omega, by omega⟩) (fun e => H1 ⟨huv, e⟩) (fun e => H0 (fun ht => e ht.2))⟩
theorem ft_in {post : St2 → Prop} {J : Int32 → (Nat → Int32) → (Nat → Int32) → (Nat → Int32) → (Nat → Int64) → (Nat → Int64) → (Nat → Int32) → (Nat → Int32) → Prop} {r : Nat → Int32} {d : Nat → Int} {u : Nat} (hu : u < 6)
    (G : gp_ E w t a1 a2 a3) (hg : by_ p0 t g) (hA : -200 ≤ A ∧ A ≤ 200) (hB : 1 ≤ B ∧ B ≤ 100) (hd : ∀ v, v < 4 → a5 v = jl_ (d v)) (hb : ∀ v, v < 4 → -10000000 ≤ d v ∧ d v ≤ 0)
    (h0 : r u = 0) (H : ∀ s, rf_ (fun v => te_ E (zz_ w g A B) d u v) 6 (s u) → (∀ j, j ≠ u → s j = r j) → J (nI (u + 1)) a1 a2 a3 a4 a5 a6 s) :
    ∃ n, wX_findTight_23 post J p0 (nI u) 4 (jl_ A) (jl_ B) n 0 a1 a2 a3 a4 a5 a6 r := by
  refine pk_loop (fun n i s => wX_findTight_23 post J p0 (nI u) 4 (jl_ A) (jl_ B) n (nI i) a1 a2 a3 a4 a5 a6 s) (fun i s => rf_ (fun v => te_ E (zz_ w g A B) d u v) i (s u) ∧ (∀ j, j ≠ u → s j = r j)) 6 0 r (by omega) ⟨by rw [h0]; exact rf_0 _, fun _ _ => rfl⟩ ?_ ?_
  · intro n s h
    exact pk_le 6 6 (fun _ => nm_r (nI_1 u) (H s h.1 h.2)) (fun z => absurd z (by omega))
  · intro n i s hi h hk
    refine pk_le 6 i (fun z => absurd z (by omega)) (fun _ => it_wp G hg hA hB hd hb hu hi (fun ht => ?_) (fun ht => ?_))
    · refine br_f (by decide) ⟨pk_in u 6 hu, pk_in u 6 hu, ?_⟩
      rw [nI_clamp (show u < 2 ^ 31 by omega)]
      refine nm_e (nm_r (nI_1 i) (hk _ ⟨?_, ?_⟩))
      · rw [pk_us]
        exact rf_yes (by omega) h.1 ht
      · intro j hj
        rw [pk_un hj]
        exact h.2 j hj
    · exact br_t rfl (nm_r (nI_1 i) (hk s ⟨rf_no h.1 ht, h.2⟩))
theorem ft_8 {post : St2 → Prop} {d : Nat → Int}
    (G : gp_ E w t a1 a2 a3) (hg : by_ p0 t g) (hA : -200 ≤ A ∧ A ≤ 200) (hB : 1 ≤ B ∧ B ≤ 100) (hd : ∀ v, v < 4 → a5 v = jl_ (d v)) (hb : ∀ v, v < 4 → -10000000 ≤ d v ∧ d v ≤ 0)
    (H : ∀ s, (∀ u v, u < 6 → v < 6 → (bt_ (s u) v = true ↔ ∃ n, wl_ (te_ E (zz_ w g A B) d) (n + 1) u v)) → post (4, jl_ A, jl_ B, a1, a2, a3, a4, a5, a6, s)) :
    ∃ n, wX_findTight_8 post p0 4 (jl_ A) (jl_ B) n 0 a1 a2 a3 a4 a5 a6 a7 := by
  refine pk_loop (fun n i s => wX_findTight_8 post p0 4 (jl_ A) (jl_ B) n (nI i) a1 a2 a3 a4 a5 a6 s) (fun i s => ∀ u, u < i → rf_ (fun v => te_ E (zz_ w g A B) d u v) 6 (s u)) 6 0 a7 (by omega) (fun u hu => absurd hu (by omega)) ?_ ?_
  · intro n s h
    refine pk_le 6 6 (fun _ => cr_wp (fun s' hs => H s' ?_)) (fun z => absurd z (by omega))
    have eb : b6_ s = te_ E (zz_ w g A B) d := by
      funext u v
      apply propext
      constructor
      · rintro ⟨p, q, b⟩
        exact ((h u p v (by omega)).mp b).2
      · intro huv
        have k := G.1 u v huv.1
        exact ⟨by omega, by omega, (h u (by omega) v (by omega)).mpr ⟨by omega, huv⟩⟩
    intro u v hu hv
    have x := hs u v hu hv
    rw [eb] at x
    exact x
  · intro n i s hi h hk
    refine pk_le 6 i (fun z => absurd z (by omega)) (fun _ => ⟨pk_in i 6 hi, nm_r (by rw [nI_clamp (show i < 2 ^ 31 by omega)]) ?_⟩)
    refine ft_in (r := upd s i 0) hi G hg hA hB hd hb pk_us (fun s' h1 h2 => hk s' ?_)
    intro u hu
    by_cases e : u = i
    · rw [e]
      exact h1
    · rw [h2 u e, pk_un e]
      exact h u (by omega)
theorem ft_wp {post : St2 → Prop} (G : gp_ E w t a1 a2 a3) (hg : by_ p0 t g) (hA : -200 ≤ A ∧ A ≤ 200) (hB : 1 ≤ B ∧ B ≤ 100) (hn : nn_ E (zz_ w g A B))
    (H : ∀ d s5 s6 s7, pt_ E (zz_ w g A B) d → (∀ v, v < 4 → s5 v = jl_ (d v)) → (∀ v, v < 4 → -10000000 ≤ d v ∧ d v ≤ 0) →
      (∀ u v, u < 6 → v < 6 → (bt_ (s7 u) v = true ↔ ∃ n, wl_ (te_ E (zz_ w g A B) d) (n + 1) u v)) → post (4, jl_ A, jl_ B, a1, a2, a3, a4, s5, s6, s7)) :
    wpX_findTight post (4, jl_ A, jl_ B, a1, a2, a3, a4, a5, a6, a7) p0 := by
  unfold wpX_findTight
  dsimp only
  exact rl_wp G hg hA hB (fun d s5 s6 hd h5 hb => ft_8 G hg hA hB h5 hb (fun s hs => H d s5 s6 s hd h5 hb hs)) (fun p P L s5 s6 hc _ => (cd_nn hc hn).elim)
theorem cl_wp {post : Int32 → Prop} {pc : Int32} {p q : Nat} (hp : p < 4) (hq : q < 4) (H1 : (p = q ∨ bt_ (a7 q) p = true) → post 1) (H0 : ¬ (p = q ∨ bt_ (a7 q) p = true) → post 0) :
    wpX_closes post (pc, T0, B0, a1, a2, a3, a4, a5, a6, a7) (nI p) (nI q) := by
  unfold wpX_closes
  dsimp only
  rw [nI_clamp (show q < 2 ^ 31 by omega)]
  refine pk_eq p q (fun e => H1 (Or.inl e)) (fun ne => ⟨pk_in q 6 (by omega), ek_if (bt_ask0 (a7 q) (show p < 32 by omega)) (fun h => H0 ?_) (fun h => H1 (Or.inr (ts_nf h)))⟩)
  rintro (x | x)
  · exact ne x
  · rw [h] at x
    exact absurd x (by decide)
theorem ip_wp {post : Int32 → Prop} {p : Nat} (hp : p < 4) (H : post 1) : wpX_isPoint post (4, T0, B0, a1, a2, a3, a4, a5, a6, a7) (nI p) := by
  unfold wpX_isPoint
  dsimp only
  exact br_f (nI_pos (by omega)) (pk_le 4 p (fun z => absurd z (by omega)) (fun _ => H))
/-! the least ratio A / B -/
def mn_ (E : Nat → Nat → Prop) (f g : Nat → Nat → Int) (A B : Int) : Prop := 0 < B ∧ nn_ E (zz_ f g A B) ∧ ∃ W T, cw_ E f g W T ∧ 0 < T ∧ W * B = A * T
theorem mn_uni {A' B' : Int} (h : mn_ E f g A B) (h' : mn_ E f g A' B') : A * B' = A' * B := by
  obtain ⟨b1, n1, W, T, c1, t1, z1⟩ := h
  obtain ⟨b2, n2, W', T', c2, t2, z2⟩ := h'
  apply Int.le_antisymm
  · exact fr_tr (c := W') (d := T') b1 t2 b2 (cw_z c2 n1) (Int.le_of_eq z2)
  · exact fr_tr (c := W) (d := T) b2 t1 b1 (cw_z c1 n2) (Int.le_of_eq z1)
theorem fr_uni {x y x' y' : Int} (hy : 0 < y) (hy' : 0 < y') (h : x * y' = x' * y) (h1 : Int.gcd x y = 1) (h2 : Int.gcd x' y' = 1) : x = x' ∧ y = y' := by
  have e1 : Int.gcd y y' = y.natAbs := by
    have a := Int.gcd_mul_right_right_of_gcd_eq_one (n := y) (m := x) (k := y') (by rw [Int.gcd_comm]; exact h1)
    rw [h, Int.gcd_mul_left_right] at a
    exact a.symm
  have e2 : Int.gcd y' y = y'.natAbs := by
    have a := Int.gcd_mul_right_right_of_gcd_eq_one (n := y') (m := x') (k := y) (by rw [Int.gcd_comm]; exact h2)
    rw [← h, Int.gcd_mul_left_right] at a
    exact a.symm
  rw [Int.gcd_comm, e1] at e2
  have e3 : y = y' := by omega
  subst e3
  exact ⟨Int.eq_of_mul_eq_mul_right (by omega) h, rfl⟩
theorem cw_pos {W T : Int} (h : cw_ E f g W T) (hg : ∀ u v, E u v → 1 ≤ g u v) : 1 ≤ T := by
  rcases h with ⟨a, h1, rfl, rfl⟩ | ⟨a, b, h1, h2, rfl, rfl⟩ | ⟨a, b, c, h1, h2, h3, rfl, rfl⟩ | ⟨a, b, c, d, h1, h2, h3, h4, rfl, rfl⟩
  · exact hg _ _ h1
  · have y1 := hg _ _ h1
    have y2 := hg _ _ h2
    omega
  · have y1 := hg _ _ h1
    have y2 := hg _ _ h2
    have y3 := hg _ _ h3
    omega
  · have y1 := hg _ _ h1
    have y2 := hg _ _ h2
    have y3 := hg _ _ h3
    have y4 := hg _ _ h4
    omega
/-- the same ratio otherwise written -/
theorem mn_sc {x y : Int} (hg : ∀ u v, E u v → 1 ≤ g u v) (h : mn_ E f g A B) (hy : 0 < y) (e : x * B = A * y) : mn_ E f g x y := by
  obtain ⟨b1, n1, W, T, c1, t1, z1⟩ := h
  refine ⟨hy, nn_ca (fun p q W' T' hc => ?_), W, T, c1, t1, ?_⟩
  · have tp := cw_pos (cw_ca hc) hg
    exact fr_tr (b := y) (c := A) (d := B) hy b1 (by omega) (Int.le_of_eq e) (cw_z (cw_ca hc) n1)
  · exact fr_eq (b := T) (c := A) (d := B) t1 b1 hy z1 e.symm
theorem mn_red (hg : ∀ u v, E u v → 1 ≤ g u v) (h : mn_ E f g A B) : ∃ x y, mn_ E f g x y ∧ Int.gcd x y = 1 ∧ x * B = A * y := by
  have b1 := h.1
  have gp : 0 < Int.gcd A B := Nat.gcd_pos_of_pos_right _ (by omega)
  obtain ⟨x, hx⟩ := Int.gcd_dvd_left A B
  obtain ⟨y, hy⟩ := Int.gcd_dvd_right A B
  generalize hG : Int.gcd A B = G at hx hy gp
  have hyp : 0 < y := by
    have := red_pos (D := B) (D' := y) (g := (G : Int)) (by omega) (by rw [Int.mul_comm]; exact hy) (by omega)
    omega
  have e : x * B = A * y := by
    rw [hx, hy]
    grind
  refine ⟨x, y, mn_sc hg h hyp e, ?_, e⟩
  have k : Int.gcd A B = (G : Int).natAbs * Int.gcd x y := by
    rw [hx, hy]
    exact Int.gcd_mul_left _ _ _
  rw [hG] at k
  have k' : G * 1 = G * Int.gcd x y := by
    rw [Nat.mul_one]
    exact k
  exact (Nat.eq_of_mul_eq_mul_left gp k').symm
/-- which cycles have it -/
theorem mn_iff {x y W T : Int} (hT : 0 < T) (hy : 0 < y) (hB : 0 < B) (e : x * B = A * y) : W * y = x * T ↔ W * B = A * T :=
  ⟨fun h => fr_eq (b := T) (c := x) (d := y) hT hy hB h e, fun h => fr_eq (b := T) (c := A) (d := B) hT hB hy h e.symm⟩
theorem on_1 : ∀ u v, E u v → 1 ≤ on_ u v := fun _ _ _ => Int.le_refl 1
/-! findMean and findRatio at the least ratio x / y in lowest terms -/
theorem fa_wp {post : Int32 → St2 → Prop} {x y : Int} (G : gp_ E w t a1 a2 a3) (M : mn_ E w on_ x y) (hc : Int.gcd x y = 1)
    (H : 1 ≤ y ∧ y ≤ 20 → -200 ≤ x ∧ x ≤ 200 → ∀ s, post 1 (4, jl_ x, jl_ y, a1, a2, a3, s, a5, a6, a7)) : wpX_findMean post (4, T0, B0, a1, a2, a3, a4, a5, a6, a7) := by
  obtain ⟨b1, n1, W, T, c1, t1, z1⟩ := M
  refine fm_wp G (fun D hD hn => ?_) (fun D hD p q p' q' g hm bd hg ep eq hgc s => ?_)
  · obtain ⟨v, hv, h4, -⟩ := dk_full b1 G.1 G.2.1 hD n1 c1 z1
    exact absurd h4 (hn v hv)
  · have e := fm_eq b1 G.1 G.2.1 hD n1 c1 z1 hm
    have e' := red_eq hg ep eq e
    have bp := red_bd (M := 200) (by omega) hg ep (by omega) (by omega)
    have bq := red_bd (M := 4) (by omega) hg eq (by omega) (by omega)
    have bq' := red_pos hg eq (by omega)
    obtain ⟨e1, e2⟩ := fr_uni (by omega) b1 e' hgc hc
    subst e1
    subst e2
    exact H ⟨bq', by omega⟩ bp s
theorem fa_0 {post : Int32 → St2 → Prop} (G : gp_ E w t a1 a2 a3) (N : ∀ W T, ¬ cw_ E w on_ W T)
    (H : ∀ T' B' s, post 0 (4, T', B', a1, a2, a3, s, a5, a6, a7)) : wpX_findMean post (4, T0, B0, a1, a2, a3, a4, a5, a6, a7) := by
  refine fm_wp G (fun D hD hn T' B' s => H T' B' s) (fun D hD p q p' q' g hm bd hg ep eq hgc s => ?_)
  obtain ⟨⟨v, hv, h4, -⟩, -⟩ := hm
  exact absurd h4 (dk_none G.1 hD N v hv)
theorem fq_wp {post : Int32 → St2 → Prop} {x y : Int} (G : gp_ E w t a1 a2 a3) (M : mn_ E w t x y) (hc : Int.gcd x y = 1)
    (H : 1 ≤ y ∧ y ≤ 20 → -200 ≤ x ∧ x ≤ 200 → ∀ s5 s6, post 1 (4, jl_ x, jl_ y, a1, a2, a3, a4, s5, s6, a7)) : wpX_findRatio post (4, T0, B0, a1, a2, a3, a4, a5, a6, a7) := by
  refine fr_wp G (fun d s5 s6 hd T' B' => ?_) (fun A B W T d s5 s6 hB hA hw hz hgc hd => ?_)
  · obtain ⟨b1, n1, W, T, c1, t1, z1⟩ := M
    have k := cw_pt c1 hd
    have bd := cw_bd c1 G.2.1 G.2.2.1
    omega
  · have tp := cw_pos hw (fun u v h => (G.2.2.1 u v h).1)
    have M' : mn_ E w t A B := ⟨by omega, nn_pt hd, W, T, hw, by omega, hz⟩
    obtain ⟨e1, e2⟩ := fr_uni (by omega) M.1 (mn_uni M' M) hgc hc
    subst e1
    subst e2
    exact H hB hA s5 s6
theorem fq_0 {post : Int32 → St2 → Prop} (G : gp_ E w t a1 a2 a3) (N : ∀ W T, ¬ cw_ E w t W T)
    (H : ∀ T' B' s5 s6, post 0 (4, T', B', a1, a2, a3, a4, s5, s6, a7)) : wpX_findRatio post (4, T0, B0, a1, a2, a3, a4, a5, a6, a7) :=
  fr_wp G (fun d s5 s6 hd T' B' => H T' B' s5 s6) (fun A B W T d s5 s6 hB hA hw hz hgc hd => absurd hw (N W T))
end
end
section
/-! ===== the public methods ===== -/
section
variable {E : Nat → Nat → Prop} {w t : Nat → Nat → Int} {x y : Int}
variable {a1 a2 a3 a6 a7 : Nat → Int32} {a4 a5 : Nat → Int64} {T0 B0 : Int64}
theorem wl_split {X : Nat → Nat → Prop} {p q : Nat} : (∃ n, wl_ X n q p) ↔ (p = q ∨ ∃ n, wl_ X (n + 1) q p) := by
  constructor
  · rintro ⟨n, h⟩
    cases n with
    | zero => exact Or.inl (Eq.symm h)
    | succ n => exact Or.inr ⟨n, h⟩
  · rintro (h | ⟨n, h⟩)
    · exact ⟨0, h.symm⟩
    · exact ⟨n + 1, h⟩
theorem wl_first {X : Nat → Nat → Prop} {p : Nat} : (∃ n, wl_ X (n + 1) p p) ↔ (∃ q, X p q ∧ ∃ n, wl_ X n q p) := by
  constructor
  · rintro ⟨n, q, h1, h2⟩
    exact ⟨q, h1, n, h2⟩
  · rintro ⟨q, h1, n, h2⟩
    exact ⟨n, q, h1, h2⟩
theorem st_cg {X Y : Nat → Prop} {r : Int32} (h : st_ X r) (e : ∀ i, i < 4 → (X i ↔ Y i)) : st_ Y r := by
  intro i hi
  rw [h i hi]
  constructor
  · rintro ⟨a, b⟩
    exact ⟨a, (e i a).mp b⟩
  · rintro ⟨a, b⟩
    exact ⟨a, (e i a).mpr b⟩
theorem mt_wp {post : Int32 → St2 → Prop} (G : gp_ E w t a1 a2 a3) (M : mn_ E w on_ x y) (hc : Int.gcd x y = 1)
    (H : 1 ≤ y ∧ y ≤ 20 → -200 ≤ x ∧ x ≤ 200 → ∀ T' B' s4 s5 s6 s7, post (iw_ x) (4, T', B', a1, a2, a3, s4, s5, s6, s7)) : wpX_meanTop post (4, T0, B0, a1, a2, a3, a4, a5, a6, a7) := by
  unfold wpX_meanTop
  dsimp only
  exact fa_wp G M hc (fun hy hx s => br_f (by decide) (by rw [jl_i]; exact H hy hx _ _ _ _ _ _))
theorem mb_wp {post : Int32 → St2 → Prop} (G : gp_ E w t a1 a2 a3) (M : mn_ E w on_ x y) (hc : Int.gcd x y = 1)
    (H : 1 ≤ y ∧ y ≤ 20 → -200 ≤ x ∧ x ≤ 200 → ∀ T' B' s4 s5 s6 s7, post (iw_ y) (4, T', B', a1, a2, a3, s4, s5, s6, s7)) : wpX_meanBottom post (4, T0, B0, a1, a2, a3, a4, a5, a6, a7) := by
  unfold wpX_meanBottom
  dsimp only
  exact fa_wp G M hc (fun hy hx s => br_f (by decide) (by rw [jl_i]; exact H hy hx _ _ _ _ _ _))
theorem rt_wp {post : Int32 → St2 → Prop} (G : gp_ E w t a1 a2 a3) (M : mn_ E w t x y) (hc : Int.gcd x y = 1)
    (H : 1 ≤ y ∧ y ≤ 20 → -200 ≤ x ∧ x ≤ 200 → ∀ T' B' s4 s5 s6 s7, post (iw_ x) (4, T', B', a1, a2, a3, s4, s5, s6, s7)) : wpX_ratioTop post (4, T0, B0, a1, a2, a3, a4, a5, a6, a7) := by
  unfold wpX_ratioTop
  dsimp only
  exact fq_wp G M hc (fun hy hx s5 s6 => br_f (by decide) (by rw [jl_i]; exact H hy hx _ _ _ _ _ _))
theorem rb_wp {post : Int32 → St2 → Prop} (G : gp_ E w t a1 a2 a3) (M : mn_ E w t x y) (hc : Int.gcd x y = 1)
    (H : 1 ≤ y ∧ y ≤ 20 → -200 ≤ x ∧ x ≤ 200 → ∀ T' B' s4 s5 s6 s7, post (iw_ y) (4, T', B', a1, a2, a3, s4, s5, s6, s7)) : wpX_ratioBottom post (4, T0, B0, a1, a2, a3, a4, a5, a6, a7) := by
  unfold wpX_ratioBottom
  dsimp only
  exact fq_wp G M hc (fun hy hx s5 s6 => br_f (by decide) (by rw [jl_i]; exact H hy hx _ _ _ _ _ _))
theorem mt_0 {post : Int32 → St2 → Prop} (G : gp_ E w t a1 a2 a3) (N : ∀ W T, ¬ cw_ E w on_ W T)
    (H : ∀ T' B' s4 s5 s6 s7, post (-1000) (4, T', B', a1, a2, a3, s4, s5, s6, s7)) : wpX_meanTop post (4, T0, B0, a1, a2, a3, a4, a5, a6, a7) := by
  unfold wpX_meanTop
  dsimp only
  exact fa_0 G N (fun T' B' s => br_t rfl (H _ _ _ _ _ _))
theorem rb_0 {post : Int32 → St2 → Prop} (G : gp_ E w t a1 a2 a3) (N : ∀ W T, ¬ cw_ E w t W T)
    (H : ∀ T' B' s4 s5 s6 s7, post (-1000) (4, T', B', a1, a2, a3, s4, s5, s6, s7)) : wpX_ratioBottom post (4, T0, B0, a1, a2, a3, a4, a5, a6, a7) := by
  unfold wpX_ratioBottom
  dsimp only
  exact fq_0 G N (fun T' B' s5 s6 => br_t rfl (H _ _ _ _ _ _))
theorem mp_0 {post : Int32 → St2 → Prop} (G : gp_ E w t a1 a2 a3) (N : ∀ W T, ¬ cw_ E w on_ W T)
    (H : ∀ T' B' s4 s5 s6 s7, post 0 (4, T', B', a1, a2, a3, s4, s5, s6, s7)) : wpX_meanPoints post (4, T0, B0, a1, a2, a3, a4, a5, a6, a7) := by
  unfold wpX_meanPoints
  dsimp only
  exact fa_0 G N (fun T' B' s => br_t rfl (H _ _ _ _ _ _))
theorem mp_wp {post : Int32 → St2 → Prop} (G : gp_ E w t a1 a2 a3) (M : mn_ E w on_ x y) (hc : Int.gcd x y = 1)
    (H : ∀ r, st_ (fun i => ∃ q W T, ca_ E w on_ i q W T ∧ W * y = x * T) r → ∀ T' B' s4 s5 s6 s7, post r (4, T', B', a1, a2, a3, s4, s5, s6, s7)) : wpX_meanPoints post (4, T0, B0, a1, a2, a3, a4, a5, a6, a7) := by
  unfold wpX_meanPoints
  dsimp only
  refine fa_wp G M hc (fun hy hx s => br_f (by decide) (ft_wp G (Or.inl ⟨rfl, rfl⟩) hx ⟨hy.1, by omega⟩ M.2.1 (fun d s5 s6 s7 hd h5 hb h7 => ot_wp (fun r hr => H r (st_cg hr ?_) _ _ _ _ _ _))))
  intro i hi
  rw [h7 i i (by omega) (by omega), wl_first]
  constructor
  · rintro ⟨q, h⟩
    exact ⟨q, (te_iff G.1 hd).mpr h⟩
  · rintro ⟨q, h⟩
    exact ⟨q, (te_iff G.1 hd).mp h⟩
theorem ma_wp {post : Int32 → St2 → Prop} {p q : Nat} (hp : p < 4) (hq : q < 4) (G : gp_ E w t a1 a2 a3) (M : mn_ E w on_ x y) (hc : Int.gcd x y = 1)
    (H1 : (∃ W T, ca_ E w on_ p q W T ∧ W * y = x * T) → ∀ T' B' s4 s5 s6 s7, post 1 (4, T', B', a1, a2, a3, s4, s5, s6, s7))
    (H0 : ¬ (∃ W T, ca_ E w on_ p q W T ∧ W * y = x * T) → ∀ T' B' s4 s5 s6 s7, post 0 (4, T', B', a1, a2, a3, s4, s5, s6, s7)) : wpX_meanArc post (4, T0, B0, a1, a2, a3, a4, a5, a6, a7) (nI p) (nI q) := by
  unfold wpX_meanArc
  dsimp only
  refine ip_wp hp (br_f (by decide) (ip_wp hq (br_f (by decide) ?_)))
  rw [ix_ p q, nI_clamp (show 6 * p + q < 2 ^ 31 by omega)]
  refine ⟨pk_in (6 * p + q) 36 (by omega), br_c (fun hz => ?_) (fun hz => ?_)⟩
  · refine H0 ?_ _ _ _ _ _ _
    rintro ⟨W, T, h, -⟩
    exact (G.2.2.2.1 p q (by omega) (by omega)).mpr (ca_wl h).1 hz
  · refine fa_wp G M hc (fun hy hx s => br_f (by decide) (ft_wp G (Or.inl ⟨rfl, rfl⟩) hx ⟨hy.1, by omega⟩ M.2.1 (fun d s5 s6 s7 hd h5 hb h7 => ?_)))
    have iff1 := te_iff (f := w) (g := on_) (A := x) (B := y) (p := p) (q := q) G.1 hd
    have iff2 := wl_split (X := te_ E (zz_ w on_ x y) d) (p := p) (q := q)
    have iff3 := h7 q p (by omega) (by omega)
    refine it_wp G (Or.inl ⟨rfl, rfl⟩) hx ⟨hy.1, by omega⟩ h5 hb (by omega) (by omega) (fun ht => br_f (by decide) (cl_wp hp hq (fun hcl => br_f (by decide) (H1 ?_ _ _ _ _ _ _)) (fun hcl => br_t rfl (H0 ?_ _ _ _ _ _ _)))) (fun ht => br_t rfl (H0 ?_ _ _ _ _ _ _))
    · rw [iff3, ← iff2] at hcl
      exact iff1.mpr ⟨ht, hcl⟩
    · rw [iff3, ← iff2] at hcl
      exact fun h => hcl (iff1.mp h).2
    · exact fun h => ht (iff1.mp h).1
theorem ra_wp {post : Int32 → St2 → Prop} {p q : Nat} (hp : p < 4) (hq : q < 4) (G : gp_ E w t a1 a2 a3) (M : mn_ E w t x y) (hc : Int.gcd x y = 1)
    (H1 : (∃ W T, ca_ E w t p q W T ∧ W * y = x * T) → ∀ T' B' s4 s5 s6 s7, post 1 (4, T', B', a1, a2, a3, s4, s5, s6, s7))
    (H0 : ¬ (∃ W T, ca_ E w t p q W T ∧ W * y = x * T) → ∀ T' B' s4 s5 s6 s7, post 0 (4, T', B', a1, a2, a3, s4, s5, s6, s7)) : wpX_ratioArc post (4, T0, B0, a1, a2, a3, a4, a5, a6, a7) (nI p) (nI q) := by
  unfold wpX_ratioArc
  dsimp only
  refine ip_wp hp (br_f (by decide) (ip_wp hq (br_f (by decide) ?_)))
  rw [ix_ p q, nI_clamp (show 6 * p + q < 2 ^ 31 by omega)]
  refine ⟨pk_in (6 * p + q) 36 (by omega), br_c (fun hz => ?_) (fun hz => ?_)⟩
  · refine H0 ?_ _ _ _ _ _ _
    rintro ⟨W, T, h, -⟩
    exact (G.2.2.2.1 p q (by omega) (by omega)).mpr (ca_wl h).1 hz
  · refine fq_wp G M hc (fun hy hx s5 s6 => br_f (by decide) (ft_wp G (Or.inr ⟨rfl, rfl⟩) hx ⟨hy.1, by omega⟩ M.2.1 (fun d s5 s6 s7 hd h5 hb h7 => ?_)))
    have iff1 := te_iff (f := w) (g := t) (A := x) (B := y) (p := p) (q := q) G.1 hd
    have iff2 := wl_split (X := te_ E (zz_ w t x y) d) (p := p) (q := q)
    have iff3 := h7 q p (by omega) (by omega)
    refine it_wp G (Or.inr ⟨rfl, rfl⟩) hx ⟨hy.1, by omega⟩ h5 hb (by omega) (by omega) (fun ht => br_f (by decide) (cl_wp hp hq (fun hcl => br_f (by decide) (H1 ?_ _ _ _ _ _ _)) (fun hcl => br_t rfl (H0 ?_ _ _ _ _ _ _)))) (fun ht => br_t rfl (H0 ?_ _ _ _ _ _ _))
    · rw [iff3, ← iff2] at hcl
      exact iff1.mpr ⟨ht, hcl⟩
    · rw [iff3, ← iff2] at hcl
      exact fun h => hcl (iff1.mp h).2
    · exact fun h => ht (iff1.mp h).1
theorem sd_wp {post : Int32 → St2 → Prop} {l : Int} (h1 : -100 ≤ l) (h2 : l ≤ 100) (G : gp_ E w t a1 a2 a3)
    (H1 : nn_ E (zz_ w t l 1) → ∀ T' B' s4 s5 s6 s7, post 1 (4, T', B', a1, a2, a3, s4, s5, s6, s7))
    (H0 : ¬ nn_ E (zz_ w t l 1) → ∀ T' B' s4 s5 s6 s7, post 0 (4, T', B', a1, a2, a3, s4, s5, s6, s7)) : wpX_steady post (4, T0, B0, a1, a2, a3, a4, a5, a6, a7) (iw_ l) := by
  unfold wpX_steady
  dsimp only
  refine br_f ?_ (br_t ?_ ?_)
  · rw [show (-100 : Int32) = iw_ (-100) from rfl, iw_lt ⟨by omega, by omega⟩ ⟨by omega, by omega⟩]
    omega
  · rw [show (100 : Int32) = iw_ 100 from rfl, iw_le ⟨by omega, by omega⟩ ⟨by omega, by omega⟩]
    omega
  · rw [iw_l ⟨by omega, by omega⟩]
    refine rl_wp (B := 1) G (Or.inr ⟨rfl, rfl⟩) ⟨by omega, by omega⟩ ⟨by omega, by omega⟩ (fun d s5 s6 hd _ _ => br_f (by decide) (H1 (nn_pt hd) _ _ _ _ _ _)) (fun p P L s5 s6 hc _ => br_t (nI_pos' (by have := hc.1; omega)) (H0 (fun hn => cd_nn hc hn) _ _ _ _ _ _))
theorem sd_101 {post : Int32 → St2 → Prop} (H : post 0 (4, T0, B0, a1, a2, a3, a4, a5, a6, a7)) : wpX_steady post (4, T0, B0, a1, a2, a3, a4, a5, a6, a7) 101 := by
  unfold wpX_steady
  dsimp only
  exact br_f (by decide) (br_f (by decide) H)
theorem ma_40 {post : Int32 → St2 → Prop} (H : post 0 (4, T0, B0, a1, a2, a3, a4, a5, a6, a7)) : wpX_meanArc post (4, T0, B0, a1, a2, a3, a4, a5, a6, a7) 4 0 := by
  unfold wpX_meanArc
  dsimp only
  unfold wpX_isPoint
  dsimp only
  exact br_f (by decide) (br_t (by decide) (br_t rfl H))
theorem ar_21 {post : Int32 → St2 → Prop} (H : post 0 (4, T0, B0, a1, a2, a3, a4, a5, a6, a7)) : wpX_arc post (4, T0, B0, a1, a2, a3, a4, a5, a6, a7) 0 0 21 1 := by
  unfold wpX_arc
  dsimp only
  exact ip_wp (p := 0) (by omega) (br_f (by decide) (ip_wp (p := 0) (by omega) (br_f (by decide) (br_f (by decide) (br_t (by decide) H)))))
theorem ar_6 {post : Int32 → St2 → Prop} (H : post 0 (4, T0, B0, a1, a2, a3, a4, a5, a6, a7)) : wpX_arc post (4, T0, B0, a1, a2, a3, a4, a5, a6, a7) 0 0 1 6 := by
  unfold wpX_arc
  dsimp only
  exact ip_wp (p := 0) (by omega) (br_f (by decide) (ip_wp (p := 0) (by omega) (br_f (by decide) (br_f (by decide) (br_f (by decide) (br_f (by decide) (br_f (by decide) H)))))))
theorem ar_wp {post : Int32 → St2 → Prop} {u v : Nat} {x y : Int} (hu : u < 4) (hv : v < 4) (hx : -20 ≤ x ∧ x ≤ 20) (hy : 1 ≤ y ∧ y ≤ 5)
    (H : post 1 (4, T0, B0, upd a1 (6 * u + v) 1, upd a2 (6 * u + v) (iw_ x), upd a3 (6 * u + v) (iw_ y), a4, a5, a6, a7)) : wpX_arc post (4, T0, B0, a1, a2, a3, a4, a5, a6, a7) (nI u) (nI v) (iw_ x) (iw_ y) := by
  unfold wpX_arc
  dsimp only
  refine ip_wp hu (br_f (by decide) (ip_wp hv (br_f (by decide) ?_)))
  rw [ix_ u v, nI_clamp (show 6 * u + v < 2 ^ 31 by omega), iw_b hx.1 hx.2, iw_b (a := y) (by omega) (by omega)]
  refine br_f ?_ (br_f ?_ (br_f ?_ (br_t ?_ ⟨pk_in (6 * u + v) 36 (by omega), nm_e ⟨pk_in (6 * u + v) 36 (by omega), nm_e ⟨pk_in (6 * u + v) 36 (by omega), nm_e H⟩⟩⟩)))
  · rw [show (-20 : Int32) = iw_ (-20) from rfl, iw_lt ⟨by omega, by omega⟩ ⟨by omega, by omega⟩]
    omega
  · rw [show (20 : Int32) = iw_ 20 from rfl, iw_lt ⟨by omega, by omega⟩ ⟨by omega, by omega⟩]
    omega
  · rw [show (1 : Int32) = iw_ 1 from rfl, iw_lt ⟨by omega, by omega⟩ ⟨by omega, by omega⟩]
    omega
  · rw [show (5 : Int32) = iw_ 5 from rfl, iw_le ⟨by omega, by omega⟩ ⟨by omega, by omega⟩]
    omega
end
end
section
/-! ===== the law's own functions: weight, time, length, sum ===== -/
def wt_ (first : Int32) (u v : Nat) : Int := ((((7 * u + 5 * v + first.toBitVec.toNat % 2 ^ 8) * (1 + (first >>> ((8 : Int32) &&& 31)).toBitVec.toNat % 2 ^ 4)) % 41 : Nat) : Int) - 20
def tm_ (second : Int32) (u v : Nat) : Int := (((u + 3 * v + second.toBitVec.toNat % 2 ^ 8) % 5 + 1 : Nat) : Int)
theorem wt_bd (first : Int32) (u v : Nat) : -20 ≤ wt_ first u v ∧ wt_ first u v ≤ 20 := by
  unfold wt_
  generalize (7 * u + 5 * v + first.toBitVec.toNat % 2 ^ 8) * (1 + (first >>> ((8 : Int32) &&& 31)).toBitVec.toNat % 2 ^ 4) = z
  omega
theorem tm_bd (second : Int32) (u v : Nat) : 1 ≤ tm_ second u v ∧ tm_ second u v ≤ 5 := by
  unfold tm_
  omega
theorem we_wp {post : Int32 → Prop} {first : Int32} {u v : Nat} (hu : u < 4) (hv : v < 4) (H : post (iw_ (wt_ first u v))) : wpL_weight post () (nI u) (nI v) first := by
  unfold wpL_weight
  refine ⟨by decide, ?_⟩
  rw [pk_and first (m := 255) 8 (by decide), pk_and (first >>> ((8 : Int32) &&& 31)) (m := 15) 4 (by decide)]
  have hb : (first >>> ((8 : Int32) &&& 31)).toBitVec.toNat % 2 ^ 4 < 16 := Nat.mod_lt _ (by omega)
  have ha : first.toBitVec.toNat % 2 ^ 8 < 256 := Nat.mod_lt _ (by omega)
  unfold wt_ at H
  generalize (first >>> ((8 : Int32) &&& 31)).toBitVec.toNat % 2 ^ 4 = b at hb H ⊢
  generalize first.toBitVec.toNat % 2 ^ 8 = a at ha H ⊢
  rw [show (7 : Int32) = nI 7 from rfl, show (5 : Int32) = nI 5 from rfl, show (1 : Int32) = nI 1 from rfl, pk_mul, pk_mul, nI_add, nI_add, nI_add, pk_mul]
  have hz : (7 * u + 5 * v + a) * (1 + b) < 2 ^ 31 := by
    have h1 : 7 * u + 5 * v + a ≤ 400 := by omega
    have h2 : 1 + b ≤ 16 := by omega
    have := Nat.mul_le_mul h1 h2
    omega
  generalize (7 * u + 5 * v + a) * (1 + b) = z at hz H ⊢
  rw [show (41 : Int32) = nI 41 from rfl, pk_rem hz (by omega) (by omega), show (20 : Int32) = iw_ 20 from rfl, iw_nI, iw_sub]
  exact H
theorem tw_wp {post : Int32 → Prop} {second : Int32} {u v : Nat} (hu : u < 4) (hv : v < 4) (H : post (iw_ (tm_ second u v))) : wpL_time post () (nI u) (nI v) second := by
  unfold wpL_time
  refine ⟨by decide, ?_⟩
  rw [pk_and second (m := 255) 8 (by decide)]
  have ha : second.toBitVec.toNat % 2 ^ 8 < 256 := Nat.mod_lt _ (by omega)
  unfold tm_ at H
  generalize second.toBitVec.toNat % 2 ^ 8 = a at ha H ⊢
  rw [show (3 : Int32) = nI 3 from rfl, pk_mul, nI_add, nI_add, show (5 : Int32) = nI 5 from rfl, pk_rem (by omega) (by omega) (by omega), show (1 : Int32) = nI 1 from rfl, nI_add, iw_nI]
  exact H
/-- the k-th point of a code -/
theorem sh_div {c k : Nat} (hc : c < 1024) (hk : k < 10) : nI c >>> ((2 + 2 * nI k) &&& 31) = nI (c / 4 ^ (k + 1)) := by
  have e : (2 : Int32) + 2 * nI k = nI (2 * (k + 1)) := by
    rw [show (2 : Int32) = nI 2 from rfl, pk_mul, nI_add]
    exact congrArg nI (by omega)
  rw [e, pk_shrN (by omega) _ (2 * (k + 1)) (bt_sl (2 * (k + 1)) (by omega)), Nat.pow_mul]
theorem sh_cu {c k : Nat} (hc : c < 1024) (hk : k < 10) : (nI c >>> ((2 + 2 * nI k) &&& 31)) &&& 3 = nI (cu_ c k) := by
  rw [sh_div hc hk, pk_andN (Nat.lt_of_le_of_lt (Nat.div_le_self _ _) (by omega)) 2 (by decide)]
  rfl
theorem sh_c0 {c : Nat} (hc : c < 1024) : (nI c >>> ((2 : Int32) &&& 31)) &&& 3 = nI (cu_ c 0) := by
  rw [pk_shrN (by omega) ((2 : Int32) &&& 31) 2 (by decide), pk_andN (Nat.lt_of_le_of_lt (Nat.div_le_self _ _) (by omega)) 2 (by decide)]
  rfl
theorem sh_cv {c k n : Nat} (hc : c < 1024) (hk : k < 9) (hn : cn_ c = n) : (nI c >>> ((2 + 2 * ((nI k + 1) - (nI k + 1) / nI n * nI n)) &&& 31)) &&& 3 = nI (cv_ c k) := by
  have hn1 : 0 < n ∧ n ≤ 4 := by
    have := cn_cases c
    omega
  rw [nI_1, pk_rem (by omega) hn1.1 (by omega), sh_cu hc (by have := Nat.mod_lt (k + 1) hn1.1; omega), cv_of k hn]
theorem sh_cn {c : Nat} (hc : c < 1024) : (1 : Int32) + (nI c &&& 3) = nI (cn_ c) := by
  rw [pk_andN (show c < 2 ^ 32 by omega) 2 (by decide), show (1 : Int32) = nI 1 from rfl, nI_add]
  rfl
/-- the arcs that the law's first int gives -/
def ae_ (arcs : Int32) (u v : Nat) : Prop := u < 4 ∧ v < 4 ∧ bt_ arcs (4 * u + v) = true
theorem ae_er (arcs : Int32) : er_ (ae_ arcs) := fun u v h => ⟨h.1, h.2.1⟩
theorem le_wp {post : Int32 → Prop} {arcs : Int32} {c : Nat} (hc : c < 1024) (H1 : vl_ (ae_ arcs) c → post (nI (cn_ c))) (H0 : ¬ vl_ (ae_ arcs) c → post 0) : wpL_length post () arcs (nI c) := by
  unfold wpL_length
  refine nm_r (sh_cn hc) ?_
  have hn1 : 0 < cn_ c ∧ cn_ c ≤ 4 := by
    have := cn_cases c
    omega
  refine pk_loop (fun n i s => wL_length_11 post arcs (nI c) (nI (cn_ c)) n s (nI i)) (fun i s => (∀ k, k < i → (∀ j, j < k → cu_ c j ≠ cu_ c k) ∧ cu_ c 0 ≤ cu_ c k ∧ ae_ arcs (cu_ c k) (cv_ c k)) ∧ (∀ b, b < 32 → (bt_ s b = true ↔ ∃ j, j < i ∧ cu_ c j = b))) (cn_ c) 0 0 (by omega) ⟨fun k hk => absurd hk (by omega), fun b _ => ?_⟩ ?_ ?_
  · rw [bt_0]
    constructor
    · intro x
      exact absurd x (by decide)
    · rintro ⟨j, hj, -⟩
      exact absurd hj (by omega)
  · intro n s h
    refine pk_le (cn_ c) (cn_ c) (fun _ => ?_) (fun z => absurd z (by omega))
    rw [sh_div hc (by omega)]
    have hd : c / 4 ^ (cn_ c + 1) ≤ c := Nat.div_le_self _ _
    exact pk_eq (c / 4 ^ (cn_ c + 1)) 0 (fun e => H1 ⟨h.1, e⟩) (fun e => H0 (fun hv => e hv.2))
  · intro n i s hi h hk
    have l0 := cu_lt c i
    have l1 := cv_lt c i
    refine pk_le (cn_ c) i (fun z => absurd z (by omega)) (fun _ => nm_r (sh_cu hc (by omega)) ⟨nI_ne0 hn1.1 (by omega), nm_r (sh_cv hc (by omega) rfl) ?_⟩)
    rw [sh_c0 hc]
    refine ek_if (bt_ask1 s (show cu_ c i < 32 by omega)) (fun hb => H0 (fun hv => ?_)) (fun hb => ?_)
    · obtain ⟨j, hj, e⟩ := (h.2 (cu_ c i) (by omega)).mp hb
      exact (hv.1 i hi).1 j hj e
    refine pk_lt (cu_ c i) (cu_ c 0) (fun hlt => H0 (fun hv => ?_)) (fun hge => ?_) rfl rfl (by omega) (by have := cu_lt c 0; omega)
    · have := (hv.1 i hi).2.1
      omega
    have e4 : (4 : Int32) * nI (cu_ c i) + nI (cv_ c i) = nI (4 * cu_ c i + cv_ c i) := by
      rw [show (4 : Int32) = nI 4 from rfl, pk_mul, nI_add]
    rw [e4]
    refine ek_if (bt_ask0 arcs (show 4 * cu_ c i + cv_ c i < 32 by omega)) (fun hb2 => H0 (fun hv => ?_)) (fun hb2 => nm_e (nm_r (nI_1 i) (hk _ ⟨?_, ?_⟩)))
    · have := (hv.1 i hi).2.2.2.2
      rw [hb2] at this
      exact absurd this (by decide)
    · intro k hk'
      by_cases e : k = i
      · subst e
        refine ⟨fun j hj ej => hb ((h.2 (cu_ c k) (by omega)).mpr ⟨j, hj, ej⟩), hge, l0, l1, ts_nf hb2⟩
      · exact h.1 k (by omega)
    · intro b hb'
      rw [bt_set s (show cu_ c i < 32 by omega) hb', Bool.or_eq_true, h.2 b hb', decide_eq_true_iff]
      constructor
      · rintro (⟨j, hj, e⟩ | e)
        · exact ⟨j, by omega, e⟩
        · exact ⟨i, by omega, e.symm⟩
      · rintro ⟨j, hj, e⟩
        by_cases ej : j = i
        · right
          rw [← e, ej]
        · exact Or.inl ⟨j, by omega, e⟩
theorem sw_w {post : Int32 → Prop} {first : Int32} {c : Nat} (hc : c < 1024) (H : post (iw_ (cs_ (wt_ first) c (cn_ c)))) : wpL_sum post () (nI c) (nI (cn_ c)) first 0 := by
  unfold wpL_sum
  have hn1 : 0 < cn_ c ∧ cn_ c ≤ 4 := by
    have := cn_cases c
    omega
  refine pk_loop (fun n i s => wL_sum_6 post (nI c) (nI (cn_ c)) first 0 n s (nI i)) (fun i s => s = iw_ (cs_ (wt_ first) c i)) (cn_ c) 0 0 (by omega) rfl ?_ ?_
  · intro n s h
    subst h
    exact pk_le (cn_ c) (cn_ c) (fun _ => H) (fun z => absurd z (by omega))
  · intro n i s hi h hk
    subst h
    have l0 := cu_lt c i
    have l1 := cv_lt c i
    exact pk_le (cn_ c) i (fun z => absurd z (by omega)) (fun _ => nm_r (sh_cu hc (by omega)) ⟨nI_ne0 hn1.1 (by omega), nm_r (sh_cv hc (by omega) rfl) (br_t rfl (we_wp l0 l1 (nm_r (iw_add _ _) (nm_r (nI_1 i) (hk _ rfl)))))⟩)
theorem sw_t {post : Int32 → Prop} {second : Int32} {c : Nat} (hc : c < 1024) (H : post (iw_ (cs_ (tm_ second) c (cn_ c)))) : wpL_sum post () (nI c) (nI (cn_ c)) second 1 := by
  unfold wpL_sum
  have hn1 : 0 < cn_ c ∧ cn_ c ≤ 4 := by
    have := cn_cases c
    omega
  refine pk_loop (fun n i s => wL_sum_6 post (nI c) (nI (cn_ c)) second 1 n s (nI i)) (fun i s => s = iw_ (cs_ (tm_ second) c i)) (cn_ c) 0 0 (by omega) rfl ?_ ?_
  · intro n s h
    subst h
    exact pk_le (cn_ c) (cn_ c) (fun _ => H) (fun z => absurd z (by omega))
  · intro n i s hi h hk
    subst h
    have l0 := cu_lt c i
    have l1 := cv_lt c i
    exact pk_le (cn_ c) i (fun z => absurd z (by omega)) (fun _ => nm_r (sh_cu hc (by omega)) ⟨nI_ne0 hn1.1 (by omega), nm_r (sh_cv hc (by omega) rfl) (br_f (by decide) (tw_wp l0 l1 (nm_r (iw_add _ _) (nm_r (nI_1 i) (hk _ rfl)))))⟩)
end
section
/-! ===== what the law's loops gather ===== -/
section
variable {E : Nat → Nat → Prop} {f g : Nat → Nat → Int} {A B : Int} {c : Nat}
/-- A / B is the least ratio of the codes below c -/
def bs_ (E : Nat → Nat → Prop) (f g : Nat → Nat → Int) (c : Nat) (A B : Int) : Prop :=
  (∃ x, x < c ∧ vl_ E x ∧ A = cs_ f x (cn_ x) ∧ B = cs_ g x (cn_ x)) ∧ (∀ x, x < c → vl_ E x → A * cs_ g x (cn_ x) ≤ cs_ f x (cn_ x) * B)
theorem bs_no (h : bs_ E f g c A B) (hn : ¬ vl_ E c) : bs_ E f g (c + 1) A B := by
  obtain ⟨⟨x, h1, h2⟩, h3⟩ := h
  refine ⟨⟨x, by omega, h2⟩, ?_⟩
  intro z hz hv
  by_cases e : z = c
  · subst e
    exact absurd hv hn
  · exact h3 z (by omega) hv
theorem bs_first (hn : ∀ x, x < c → ¬ vl_ E x) (hv : vl_ E c) : bs_ E f g (c + 1) (cs_ f c (cn_ c)) (cs_ g c (cn_ c)) := by
  refine ⟨⟨c, by omega, hv, rfl, rfl⟩, ?_⟩
  intro z hz hv
  by_cases e : z = c
  · subst e
    exact Int.le_refl _
  · exact absurd hv (hn z (by omega))
theorem bs_keep (h : bs_ E f g c A B) (hle : A * cs_ g c (cn_ c) ≤ cs_ f c (cn_ c) * B) : bs_ E f g (c + 1) A B := by
  obtain ⟨⟨x, h1, h2⟩, h3⟩ := h
  refine ⟨⟨x, by omega, h2⟩, ?_⟩
  intro z hz hv
  by_cases e : z = c
  · subst e
    exact hle
  · exact h3 z (by omega) hv
theorem bs_take (h : bs_ E f g c A B) (hv : vl_ E c) (hp : ∀ x, vl_ E x → 1 ≤ cs_ g x (cn_ x)) (hlt : ¬ A * cs_ g c (cn_ c) ≤ cs_ f c (cn_ c) * B) : bs_ E f g (c + 1) (cs_ f c (cn_ c)) (cs_ g c (cn_ c)) := by
  obtain ⟨⟨x, h1, h2, eA, eB⟩, h3⟩ := h
  have hB := hp x h2
  refine ⟨⟨c, by omega, hv, rfl, rfl⟩, ?_⟩
  intro z hz hvz
  by_cases e : z = c
  · subst e
    exact Int.le_refl _
  · have k1 := hp c hv
    have k2 := hp z hvz
    exact fr_tr (b := cs_ g c (cn_ c)) (c := A) (d := B) (by omega) (by omega) (by omega) (by omega) (h3 z (by omega) hvz)
/-- the pair of ints that the law keeps -/
def bb_ (E : Nat → Nat → Prop) (f g : Nat → Nat → Int) (c : Nat) (a b : Int32) : Prop :=
  (a = 0 ∧ b = 0 ∧ ∀ x, x < c → ¬ vl_ E x) ∨ (∃ A B, a = iw_ A ∧ b = iw_ B ∧ bs_ E f g c A B)
/-- sums of codes are small -/
def cb_ (E : Nat → Nat → Prop) (f g : Nat → Nat → Int) : Prop := ∀ x, vl_ E x → (-80 ≤ cs_ f x (cn_ x) ∧ cs_ f x (cn_ x) ≤ 80) ∧ (1 ≤ cs_ g x (cn_ x) ∧ cs_ g x (cn_ x) ≤ 20)
theorem bs_bd (K : cb_ E f g) (h : bs_ E f g c A B) : (-80 ≤ A ∧ A ≤ 80) ∧ (1 ≤ B ∧ B ≤ 20) := by
  obtain ⟨⟨x, h1, h2, eA, eB⟩, h3⟩ := h
  have := K x h2
  omega
theorem bb_no {a b : Int32} (h : bb_ E f g c a b) (hn : ¬ vl_ E c) : bb_ E f g (c + 1) a b := by
  rcases h with ⟨h1, h2, h3⟩ | ⟨A, B, h1, h2, h3⟩
  · refine Or.inl ⟨h1, h2, ?_⟩
    intro x hx
    by_cases e : x = c
    · subst e
      exact hn
    · exact h3 x (by omega)
  · exact Or.inr ⟨A, B, h1, h2, bs_no h3 hn⟩
theorem bb_br {X : Int32 → Int32 → Prop} {a b : Int32} (K : cb_ E f g) (h : bb_ E f g c a b) (hv : vl_ E c) (H : ∀ a' b', bb_ E f g (c + 1) a' b' → X a' b') :
    (b = 0 → X (iw_ (cs_ f c (cn_ c))) (iw_ (cs_ g c (cn_ c)))) ∧ (¬ b = 0 → ((a * iw_ (cs_ g c (cn_ c)) ≤ iw_ (cs_ f c (cn_ c)) * b → X a b) ∧ (¬ a * iw_ (cs_ g c (cn_ c)) ≤ iw_ (cs_ f c (cn_ c)) * b → X (iw_ (cs_ f c (cn_ c))) (iw_ (cs_ g c (cn_ c)))))) := by
  have kc := K c hv
  rcases h with ⟨h1, h2, h3⟩ | ⟨A, B, h1, h2, h3⟩
  · exact br_t h2 (H _ _ (Or.inr ⟨_, _, rfl, rfl, bs_first h3 hv⟩))
  · have bd := bs_bd K h3
    subst h1
    subst h2
    refine br_f ?_ ?_
    · rw [show (0 : Int32) = iw_ 0 from rfl, iw_eq ⟨by omega, by omega⟩ ⟨by omega, by omega⟩]
      omega
    · rw [iw_mul, iw_mul]
      have m1 := mul_bd (a := A) (b := cs_ g c (cn_ c)) (M := 80) (N := 20) ⟨by omega, by omega⟩ ⟨by omega, by omega⟩ (by omega)
      have m2 := mul_bd (a := cs_ f c (cn_ c)) (b := B) (M := 80) (N := 20) ⟨by omega, by omega⟩ ⟨by omega, by omega⟩ (by omega)
      refine ek_if (iw_le ⟨by omega, by omega⟩ ⟨by omega, by omega⟩) (fun hle => H _ _ (Or.inr ⟨A, B, rfl, rfl, bs_keep h3 hle⟩)) (fun hlt => H _ _ (Or.inr ⟨_, _, rfl, rfl, bs_take h3 hv (fun x hx => (K x hx).2.1) hlt⟩))
/-- the points on the codes below c -/
def od_ (E : Nat → Nat → Prop) (c : Nat) (r : Int32) : Prop := ∀ i, i < 32 → (bt_ r i = true ↔ ∃ x, x < c ∧ vl_ E x ∧ ∃ j, j < cn_ x ∧ cu_ x j = i)
theorem od_no {r : Int32} (h : od_ E c r) (hn : ¬ vl_ E c) : od_ E (c + 1) r := by
  intro i hi
  rw [h i hi]
  constructor
  · rintro ⟨x, h1, h2⟩
    exact ⟨x, by omega, h2⟩
  · rintro ⟨x, h1, h2, h3⟩
    by_cases e : x = c
    · subst e
      exact absurd h2 hn
    · exact ⟨x, by omega, h2, h3⟩
theorem od_0 : od_ E 0 0 := by
  intro i hi
  rw [bt_0]
  constructor
  · intro x
    exact absurd x (by decide)
  · rintro ⟨x, h, -⟩
    exact absurd h (by omega)
/-- a flag -/
def fl_ (X : Prop) (r : Int32) : Prop := (r = 1 ∧ X) ∨ (r = 0 ∧ ¬ X)
theorem fl_cg {X Y : Prop} {r : Int32} (h : fl_ X r) (e : X ↔ Y) : fl_ Y r := by
  rcases h with ⟨a, b⟩ | ⟨a, b⟩
  · exact Or.inl ⟨a, e.mp b⟩
  · exact Or.inr ⟨a, fun z => b (e.mpr z)⟩
theorem fl_eq {X : Prop} {r s : Int32} (h : fl_ X r) (h' : fl_ X s) : r = s := by
  rcases h with ⟨a, b⟩ | ⟨a, b⟩
  · rcases h' with ⟨a', b'⟩ | ⟨a', b'⟩
    · rw [a, a']
    · exact absurd b b'
  · rcases h' with ⟨a', b'⟩ | ⟨a', b'⟩
    · exact absurd b' b
    · rw [a, a']
/-- a code below c of the ratio A / B with the arc p q -/
def mx_ (E : Nat → Nat → Prop) (f g : Nat → Nat → Int) (A B : Int) (p q c : Nat) : Prop :=
  ∃ x, x < c ∧ vl_ E x ∧ cs_ f x (cn_ x) * B = A * cs_ g x (cn_ x) ∧ ∃ k, k < cn_ x ∧ cu_ x k = p ∧ cv_ x k = q
/-- and so for the code c as far as k -/
def mk_ (E : Nat → Nat → Prop) (f g : Nat → Nat → Int) (A B : Int) (p q c k : Nat) : Prop :=
  mx_ E f g A B p q c ∨ (cs_ f c (cn_ c) * B = A * cs_ g c (cn_ c) ∧ ∃ j, j < k ∧ cu_ c j = p ∧ cv_ c j = q)
theorem mk_0 {p q : Nat} : mx_ E f g A B p q c ↔ mk_ E f g A B p q c 0 := by
  constructor
  · exact Or.inl
  · rintro (h | ⟨-, j, hj, -⟩)
    · exact h
    · exact absurd hj (by omega)
theorem mk_end {p q : Nat} (hv : vl_ E c) : mk_ E f g A B p q c (cn_ c) ↔ mx_ E f g A B p q (c + 1) := by
  constructor
  · rintro (⟨x, h1, h2⟩ | ⟨h1, h2⟩)
    · exact ⟨x, by omega, h2⟩
    · exact ⟨c, by omega, hv, h1, h2⟩
  · rintro ⟨x, h1, h2, h3, h4⟩
    by_cases e : x = c
    · subst e
      exact Or.inr ⟨h3, h4⟩
    · exact Or.inl ⟨x, by omega, h2, h3, h4⟩
theorem mx_no {p q : Nat} (hn : ¬ vl_ E c) : mx_ E f g A B p q c ↔ mx_ E f g A B p q (c + 1) := by
  constructor
  · rintro ⟨x, h1, h2⟩
    exact ⟨x, by omega, h2⟩
  · rintro ⟨x, h1, h2, h3⟩
    by_cases e : x = c
    · subst e
      exact absurd h2 hn
    · exact ⟨x, by omega, h2, h3⟩
theorem mk_yes {p q k : Nat} (hz : cs_ f c (cn_ c) * B = A * cs_ g c (cn_ c)) (hp : cu_ c k = p) (hq : cv_ c k = q) : mk_ E f g A B p q c (k + 1) :=
  Or.inr ⟨hz, k, by omega, hp, hq⟩
theorem mk_no {p q k : Nat} (hn : ¬ (cs_ f c (cn_ c) * B = A * cs_ g c (cn_ c) ∧ cu_ c k = p ∧ cv_ c k = q)) : mk_ E f g A B p q c k ↔ mk_ E f g A B p q c (k + 1) := by
  constructor
  · rintro (h | ⟨h1, j, h2, h3⟩)
    · exact Or.inl h
    · exact Or.inr ⟨h1, j, by omega, h3⟩
  · rintro (h | ⟨h1, j, h2, h3⟩)
    · exact Or.inl h
    · by_cases e : j = k
      · subst e
        exact absurd ⟨h1, h3⟩ hn
      · exact Or.inr ⟨h1, j, by omega, h3⟩
/-- the points on the codes of the ratio A / B, as far as the k-th of c -/
def pq_p (E : Nat → Nat → Prop) (f g : Nat → Nat → Int) (A B : Int) (c k : Nat) (r : Int32) : Prop := ∀ i, i < 32 → (bt_ r i = true ↔ ∃ q, mk_ E f g A B i q c k)
theorem pq_0 : pq_p E f g A B 0 0 0 := by
  intro i hi
  rw [bt_0]
  constructor
  · intro x
    exact absurd x (by decide)
  · rintro ⟨q, ⟨x, h, -⟩ | ⟨-, j, hj, -⟩⟩
    · exact absurd h (by omega)
    · exact absurd hj (by omega)
theorem pq_end {r : Int32} (hv : vl_ E c) (h : pq_p E f g A B c (cn_ c) r) : pq_p E f g A B (c + 1) 0 r := by
  intro i hi
  rw [h i hi]
  constructor
  · rintro ⟨q, h⟩
    exact ⟨q, mk_0.mp ((mk_end hv).mp h)⟩
  · rintro ⟨q, h⟩
    exact ⟨q, (mk_end hv).mpr (mk_0.mpr h)⟩
theorem pq_no {r : Int32} (hn : ¬ vl_ E c) (h : pq_p E f g A B c 0 r) : pq_p E f g A B (c + 1) 0 r := by
  intro i hi
  rw [h i hi]
  constructor
  · rintro ⟨q, h⟩
    exact ⟨q, mk_0.mp ((mx_no hn).mp (mk_0.mpr h))⟩
  · rintro ⟨q, h⟩
    exact ⟨q, mk_0.mp ((mx_no hn).mpr (mk_0.mpr h))⟩
theorem pq_skip {r : Int32} {k : Nat} (hz : ¬ cs_ f c (cn_ c) * B = A * cs_ g c (cn_ c)) (h : pq_p E f g A B c k r) : pq_p E f g A B c (k + 1) r := by
  intro i hi
  rw [h i hi]
  constructor
  · rintro ⟨q, h⟩
    exact ⟨q, (mk_no (fun z => hz z.1)).mp h⟩
  · rintro ⟨q, h⟩
    exact ⟨q, (mk_no (fun z => hz z.1)).mpr h⟩
theorem pq_put {r : Int32} {k : Nat} (hz : cs_ f c (cn_ c) * B = A * cs_ g c (cn_ c)) (h : pq_p E f g A B c k r) : pq_p E f g A B c (k + 1) (r ||| ((1 : Int32) <<< (nI (cu_ c k) &&& 31))) := by
  intro i hi
  have l := cu_lt c k
  rw [bt_set r (show cu_ c k < 32 by omega) hi, Bool.or_eq_true, h i hi, decide_eq_true_iff]
  constructor
  · rintro (⟨q, h | ⟨h1, j, h2, h3⟩⟩ | e)
    · exact ⟨q, Or.inl h⟩
    · exact ⟨q, Or.inr ⟨h1, j, by omega, h3⟩⟩
    · exact ⟨cv_ c k, mk_yes hz e.symm rfl⟩
  · rintro ⟨q, h | ⟨h1, j, h2, h3⟩⟩
    · exact Or.inl ⟨q, Or.inl h⟩
    · by_cases e : j = k
      · right
        rw [← e]
        exact h3.1.symm
      · exact Or.inl ⟨q, Or.inr ⟨h1, j, by omega, h3⟩⟩
/-! codes and cycles -/
theorem cw_cyc {W T : Int} (h : cw_ E f g W T) : ∃ p q, E p q ∧ ∃ n, wl_ E n q p := by
  rcases h with ⟨a, h1, -⟩ | ⟨a, b, h1, h2, -⟩ | ⟨a, b, c, h1, h2, h3, -⟩ | ⟨a, b, c, d, h1, h2, h3, h4, -⟩
  · exact ⟨a, a, h1, 0, rfl⟩
  · exact ⟨a, b, h1, 1, wl_1 h2⟩
  · exact ⟨a, b, h1, 2, c, h2, wl_1 h3⟩
  · exact ⟨a, b, h1, 3, c, h2, d, h3, wl_1 h4⟩
theorem no_cw (hE : er_ E) (hn : ∀ x, x < 1024 → ¬ vl_ E x) (f g : Nat → Nat → Int) : ∀ W T, ¬ cw_ E f g W T := by
  intro W T h
  obtain ⟨p, q, h1, h2⟩ := cw_cyc h
  obtain ⟨W', T', hc⟩ := ca_of hE h1 (Or.inr h2) f g
  obtain ⟨x, ⟨hx, hv, -⟩, -⟩ := vl_ca hE hc
  exact hn x hx hv
theorem bs_mn (hE : er_ E) (K : cb_ E f g) (h : bs_ E f g 1024 A B) : mn_ E f g A B := by
  have bd := bs_bd K h
  obtain ⟨⟨x, h1, h2, eA, eB⟩, h3⟩ := h
  refine ⟨by omega, nn_ca (fun p q W T hc => ?_), A, B, ?_, by omega, rfl⟩
  · obtain ⟨x', ⟨hx, hv, -⟩, e1, e2⟩ := vl_ca hE hc
    rw [e1, e2]
    exact h3 x' hx hv
  · rw [eA, eB]
    exact cw_ca (ca_vl (k := 0) h2 (by have := cn_cases x; omega) f g)
theorem mx_ca {p q : Nat} (hE : er_ E) : mx_ E f g A B p q 1024 ↔ ∃ W T, ca_ E f g p q W T ∧ W * B = A * T := by
  constructor
  · rintro ⟨x, h1, h2, h3, k, h4, h5, h6⟩
    have := ca_vl h2 h4 f g
    rw [h5, h6] at this
    exact ⟨_, _, this, h3⟩
  · rintro ⟨W, T, h, hz⟩
    obtain ⟨x, ⟨hx, hv, hk⟩, e1, e2⟩ := vl_ca hE h
    rw [e1, e2] at hz
    exact ⟨x, hx, hv, hz, hk⟩
/-- the same arc on a cycle of the ratio x / y in lowest terms -/
theorem mx_red {p q : Nat} {x y : Int} (hE : er_ E) (hg : ∀ u v, E u v → 1 ≤ g u v) (hB : 0 < B) (hy : 0 < y) (e : x * B = A * y) :
    (∃ W T, ca_ E f g p q W T ∧ W * y = x * T) ↔ mx_ E f g A B p q 1024 := by
  rw [mx_ca hE]
  constructor
  · rintro ⟨W, T, h, hz⟩
    have tp := cw_pos (cw_ca h) hg
    exact ⟨W, T, h, (mn_iff (by omega) hy hB e).mp hz⟩
  · rintro ⟨W, T, h, hz⟩
    have tp := cw_pos (cw_ca h) hg
    exact ⟨W, T, h, (mn_iff (by omega) hy hB e).mpr hz⟩
theorem pq_st {x y : Int} {r s : Int32} (hE : er_ E) (hg : ∀ u v, E u v → 1 ≤ g u v) (hB : 0 < B) (hy : 0 < y) (e : x * B = A * y)
    (hr : st_ (fun i => ∃ q W T, ca_ E f g i q W T ∧ W * y = x * T) r) (hs : pq_p E f g A B 1024 0 s) : r = s := by
  have hs' : st_ (fun i => ∃ q, mx_ E f g A B i q 1024) s := by
    intro i hi
    rw [hs i hi]
    constructor
    · rintro ⟨q, h⟩
      have h' := mk_0.mpr h
      refine ⟨?_, q, h'⟩
      obtain ⟨W, T, hc, -⟩ := (mx_ca hE).mp h'
      exact (hE _ _ (ca_wl hc).1).1
    · rintro ⟨-, q, h⟩
      exact ⟨q, mk_0.mp h⟩
  refine st_eq hr hs' (fun i hi => ?_)
  constructor
  · rintro ⟨q, h⟩
    exact ⟨q, (mx_red hE hg hB hy e).mp h⟩
  · rintro ⟨q, h⟩
    exact ⟨q, (mx_red hE hg hB hy e).mpr h⟩
theorem od_st {r s : Int32} (hE : er_ E) (hr : st_ (fun i => ∃ n, wl_ E (n + 1) i i) r) (hs : od_ E 1024 s) : r = s := by
  have hs' : st_ (fun i => ∃ x, x < 1024 ∧ vl_ E x ∧ ∃ j, j < cn_ x ∧ cu_ x j = i) s := by
    intro i hi
    rw [hs i hi]
    constructor
    · intro h
      refine ⟨?_, h⟩
      obtain ⟨x, -, -, j, -, e⟩ := h
      rw [← e]
      exact cu_lt x j
    · exact fun h => h.2
  refine st_eq hr hs' (fun i hi => ?_)
  rw [wl_first]
  constructor
  · rintro ⟨q, h1, h2⟩
    obtain ⟨W, T, hc⟩ := ca_of hE h1 (Or.inr h2) on_ on_
    obtain ⟨x, ⟨hx, hv, k, hk, ek, -⟩, -⟩ := vl_ca hE hc
    exact ⟨x, hx, hv, k, hk, ek⟩
  · rintro ⟨x, hx, hv, j, hj, e⟩
    have := ca_vl hv hj on_ on_
    rw [e] at this
    exact ⟨_, ca_wl this⟩
/-- steady at l -/
theorem sd_iff {l : Int} (hg : ∀ u v, E u v → 1 ≤ g u v) (M : mn_ E f g A B) : nn_ E (zz_ f g l 1) ↔ l * B ≤ A := by
  obtain ⟨b1, n1, W, T, c1, t1, z1⟩ := M
  constructor
  · intro h
    have := fr_tr (a := l) (b := 1) (c := W) (d := T) (e := A) (f := B) (by omega) t1 b1 (cw_z c1 h) (Int.le_of_eq z1)
    omega
  · intro h
    refine nn_ca (fun p q W' T' hc => ?_)
    have tp := cw_pos (cw_ca hc) hg
    exact fr_tr (a := l) (b := 1) (c := A) (d := B) (e := W') (f := T') (by omega) b1 (by omega) (by omega) (cw_z (cw_ca hc) n1)
theorem no_nn {l : Int} (hn : ∀ W T, ¬ cw_ E f g W T) : nn_ E (zz_ f g l 1) := nn_ca (fun p q W T hc => absurd (cw_ca hc) (hn W T))
end
end
section
/-! ===== the law's second loop and its end ===== -/
section
variable {post : Int32 → St0 → Prop} {mc ms kc ks : Nat} {x0 x1 x2 x3 x4 : Int32}
variable {a1 a2 a3 a6 a7 : Nat → Int32} {a4 a5 : Nat → Int64} {T0 B0 : Int64}
theorem ma_f {E : Nat → Nat → Prop} {w t : Nat → Nat → Int} {x y : Int} {pst : Int32 → St2 → Prop} {p q : Nat} (hp : p < 4) (hq : q < 4) (G : gp_ E w t a1 a2 a3) (M : mn_ E w on_ x y) (hc : Int.gcd x y = 1)
    (H : ∀ r, fl_ (∃ W T, ca_ E w on_ p q W T ∧ W * y = x * T) r → ∀ T' B' s4 s5 s6 s7, pst r (4, T', B', a1, a2, a3, s4, s5, s6, s7)) : wpX_meanArc pst (4, T0, B0, a1, a2, a3, a4, a5, a6, a7) (nI p) (nI q) :=
  ma_wp hp hq G M hc (fun h => H 1 (Or.inl ⟨rfl, h⟩)) (fun h => H 0 (Or.inr ⟨rfl, h⟩))
theorem ra_f {E : Nat → Nat → Prop} {w t : Nat → Nat → Int} {x y : Int} {pst : Int32 → St2 → Prop} {p q : Nat} (hp : p < 4) (hq : q < 4) (G : gp_ E w t a1 a2 a3) (M : mn_ E w t x y) (hc : Int.gcd x y = 1)
    (H : ∀ r, fl_ (∃ W T, ca_ E w t p q W T ∧ W * y = x * T) r → ∀ T' B' s4 s5 s6 s7, pst r (4, T', B', a1, a2, a3, s4, s5, s6, s7)) : wpX_ratioArc pst (4, T0, B0, a1, a2, a3, a4, a5, a6, a7) (nI p) (nI q) :=
  ra_wp hp hq G M hc (fun h => H 1 (Or.inl ⟨rfl, h⟩)) (fun h => H 0 (Or.inr ⟨rfl, h⟩))
theorem sd_f {E : Nat → Nat → Prop} {w t : Nat → Nat → Int} {pst : Int32 → St2 → Prop} {l : Int} (h1 : -100 ≤ l) (h2 : l ≤ 100) (G : gp_ E w t a1 a2 a3)
    (H : ∀ r, fl_ (nn_ E (zz_ w t l 1)) r → ∀ T' B' s4 s5 s6 s7, pst r (4, T', B', a1, a2, a3, s4, s5, s6, s7)) : wpX_steady pst (4, T0, B0, a1, a2, a3, a4, a5, a6, a7) (iw_ l) :=
  sd_wp h1 h2 G (fun h => H 1 (Or.inl ⟨rfl, h⟩)) (fun h => H 0 (Or.inr ⟨rfl, h⟩))
theorem la_642 {z : Int32} (hpost : post 1 ()) : wL_lawOf_642 post mc ms z z kc ks 4 T0 B0 a1 a2 a3 a4 a5 a6 a7 := by
  unfold wL_lawOf_642
  exact br_t rfl (sd_101 (br_t rfl (ma_40 (br_t rfl (ar_21 (br_t rfl (ar_6 (br_t rfl hpost))))))))
theorem la_522 {J J2 : Int32 → Int32 → Int32 → Int32 → Prop} {x6 x7 x8 x9 x13 x14 x15 x16 x17 x18 x19 : Int32} {p q u v k : Nat} {Z : Prop} (hp : p < 4) (hq : q < 4) (hu : u < 4) (hv : v < 4) (hz : x18 * x9 = x8 * x19 ↔ Z)
    (H1 : Z → u = p → v = q → J2 x13 1 x15 (nI (k + 1))) (H0 : ¬ (Z ∧ u = p ∧ v = q) → J2 x13 x14 x15 (nI (k + 1))) :
    wL_lawOf_522 post mc ms J J2 x0 x1 x2 x3 x6 x7 x8 x9 (nI p) (nI q) x13 x14 x15 x16 x17 x18 x19 (nI k) (nI u) (nI v) kc ks 4 T0 B0 a1 a2 a3 a4 a5 a6 a7 := by
  unfold wL_lawOf_522
  exact ek_if hz (fun z => pk_eq u p (fun e1 => pk_eq v q (fun e2 => nm_r (nI_1 k) (H1 z e1 e2)) (fun e2 => nm_r (nI_1 k) (H0 (fun h => e2 h.2.2)))) (fun e1 => nm_r (nI_1 k) (H0 (fun h => e1 h.2.1)))) (fun z => nm_r (nI_1 k) (H0 (fun h => z h.1)))
theorem la_492 {J J2 : Int32 → Int32 → Int32 → Int32 → Prop} {x6 x7 x8 x9 x13 x14 x15 x16 x17 x18 x19 : Int32} {p q u v k : Nat} {Z : Prop} (hp : p < 4) (hq : q < 4) (hu : u < 4) (hv : v < 4) (hz : x18 * x7 = x6 * x17 ↔ Z)
    (H1 : Z → u = p → v = q → wL_lawOf_522 post mc ms J J2 x0 x1 x2 x3 x6 x7 x8 x9 (nI p) (nI q) 1 x14 x15 x16 x17 x18 x19 (nI k) (nI u) (nI v) kc ks 4 T0 B0 a1 a2 a3 a4 a5 a6 a7)
    (H0 : ¬ (Z ∧ u = p ∧ v = q) → wL_lawOf_522 post mc ms J J2 x0 x1 x2 x3 x6 x7 x8 x9 (nI p) (nI q) x13 x14 x15 x16 x17 x18 x19 (nI k) (nI u) (nI v) kc ks 4 T0 B0 a1 a2 a3 a4 a5 a6 a7) :
    wL_lawOf_492 post mc ms J J2 x0 x1 x2 x3 x6 x7 x8 x9 (nI p) (nI q) x13 x14 x15 x16 x17 x18 x19 (nI k) (nI u) (nI v) kc ks 4 T0 B0 a1 a2 a3 a4 a5 a6 a7 := by
  unfold wL_lawOf_492
  exact ek_if hz (fun z => pk_eq u p (fun e1 => pk_eq v q (fun e2 => H1 z e1 e2) (fun e2 => H0 (fun h => e2 h.2.2))) (fun e1 => H0 (fun h => e1 h.2.1))) (fun z => H0 (fun h => z h.1))
theorem cn_iw (c : Nat) : nI (cn_ c) = iw_ (cs_ on_ c (cn_ c)) := by
  rw [cs_one, iw_nI]
theorem iw_cross {a b d e : Int} (ha : -80 ≤ a ∧ a ≤ 80) (hb : 1 ≤ b ∧ b ≤ 20) (hd : -80 ≤ d ∧ d ≤ 80) (he : 1 ≤ e ∧ e ≤ 20) : iw_ a * iw_ b = iw_ d * iw_ e ↔ a * b = d * e := by
  rw [iw_mul, iw_mul]
  have m1 := mul_bd (a := a) (b := b) (M := 80) (N := 20) ⟨by omega, by omega⟩ ⟨by omega, by omega⟩ (by omega)
  have m2 := mul_bd (a := d) (b := e) (M := 80) (N := 20) ⟨by omega, by omega⟩ ⟨by omega, by omega⟩ (by omega)
  exact iw_eq ⟨by omega, by omega⟩ ⟨by omega, by omega⟩
theorem la_432 {J : Int32 → Int32 → Int32 → Int32 → Prop} {A B A' B' : Int} {p q c : Nat} {r13 r14 r15 : Int32} (hp : p < 4) (hq : q < 4) (hc : c < 1024) (hv : vl_ (ae_ x0) c)
    (K1 : cb_ (ae_ x0) (wt_ x1) on_) (K2 : cb_ (ae_ x0) (wt_ x1) (tm_ x2)) (hA : (-80 ≤ A ∧ A ≤ 80) ∧ (1 ≤ B ∧ B ≤ 20)) (hA' : (-80 ≤ A' ∧ A' ≤ 80) ∧ (1 ≤ B' ∧ B' ≤ 20))
    (h13 : fl_ (mx_ (ae_ x0) (wt_ x1) on_ A B p q c) r13) (h14 : fl_ (mx_ (ae_ x0) (wt_ x1) (tm_ x2) A' B' p q c) r14) (h15 : pq_p (ae_ x0) (wt_ x1) on_ A B c 0 r15)
    (H : ∀ s13 s14 s15, fl_ (mx_ (ae_ x0) (wt_ x1) on_ A B p q (c + 1)) s13 → fl_ (mx_ (ae_ x0) (wt_ x1) (tm_ x2) A' B' p q (c + 1)) s14 → pq_p (ae_ x0) (wt_ x1) on_ A B (c + 1) 0 s15 → J s13 s14 s15 (nI (c + 1))) :
    ∃ n, wL_lawOf_432 post mc ms J x0 x1 x2 x3 (iw_ A) (iw_ B) (iw_ A') (iw_ B') (nI p) (nI q) (nI c) (nI (cn_ c)) (iw_ (cs_ (wt_ x1) c (cn_ c))) (iw_ (cs_ (tm_ x2) c (cn_ c))) kc ks 4 T0 B0 a1 a2 a3 a4 a5 a6 a7 n r13 r14 r15 0 := by
  have hn1 : 0 < cn_ c ∧ cn_ c ≤ 4 := by
    have := cn_cases c
    omega
  have k1 := K1 c hv
  have k2 := K2 c hv
  have z1 : iw_ (cs_ (wt_ x1) c (cn_ c)) * iw_ B = iw_ A * nI (cn_ c) ↔ cs_ (wt_ x1) c (cn_ c) * B = A * cs_ on_ c (cn_ c) := by
    rw [cn_iw c]
    exact iw_cross k1.1 hA.2 hA.1 k1.2
  have z2 : iw_ (cs_ (wt_ x1) c (cn_ c)) * iw_ B' = iw_ A' * iw_ (cs_ (tm_ x2) c (cn_ c)) ↔ cs_ (wt_ x1) c (cn_ c) * B' = A' * cs_ (tm_ x2) c (cn_ c) := iw_cross k2.1 hA'.2 hA'.1 k2.2
  refine pk_loop (fun n i (s : Int32 × Int32 × Int32) => wL_lawOf_432 post mc ms J x0 x1 x2 x3 (iw_ A) (iw_ B) (iw_ A') (iw_ B') (nI p) (nI q) (nI c) (nI (cn_ c)) (iw_ (cs_ (wt_ x1) c (cn_ c))) (iw_ (cs_ (tm_ x2) c (cn_ c))) kc ks 4 T0 B0 a1 a2 a3 a4 a5 a6 a7 n s.1 s.2.1 s.2.2 (nI i))
    (fun i s => fl_ (mk_ (ae_ x0) (wt_ x1) on_ A B p q c i) s.1 ∧ fl_ (mk_ (ae_ x0) (wt_ x1) (tm_ x2) A' B' p q c i) s.2.1 ∧ pq_p (ae_ x0) (wt_ x1) on_ A B c i s.2.2) (cn_ c) 0 (r13, r14, r15) (by omega) ⟨fl_cg h13 mk_0, fl_cg h14 mk_0, h15⟩ ?_ ?_
  · rintro n ⟨s13, s14, s15⟩ ⟨g13, g14, g15⟩
    exact pk_le (cn_ c) (cn_ c) (fun _ => nm_r (nI_1 c) (H s13 s14 s15 (fl_cg g13 (mk_end hv)) (fl_cg g14 (mk_end hv)) (pq_end hv g15))) (fun z => absurd z (by omega))
  · rintro n i ⟨s13, s14, s15⟩ hi ⟨g13, g14, g15⟩ hk
    dsimp only at g13 g14 g15
    have l0 := cu_lt c i
    have l1 := cv_lt c i
    refine pk_le (cn_ c) i (fun z => absurd z (by omega)) (fun _ => nm_r (sh_cu hc (by omega)) ⟨nI_ne0 hn1.1 (by omega), nm_r (sh_cv hc (by omega) rfl) ?_⟩)
    have common : ∀ s15', pq_p (ae_ x0) (wt_ x1) on_ A B c (i + 1) s15' → wL_lawOf_492 post mc ms J (wL_lawOf_432 post mc ms J x0 x1 x2 x3 (iw_ A) (iw_ B) (iw_ A') (iw_ B') (nI p) (nI q) (nI c) (nI (cn_ c)) (iw_ (cs_ (wt_ x1) c (cn_ c))) (iw_ (cs_ (tm_ x2) c (cn_ c))) kc ks 4 T0 B0 a1 a2 a3 a4 a5 a6 a7 n) x0 x1 x2 x3 (iw_ A) (iw_ B) (iw_ A') (iw_ B') (nI p) (nI q) s13 s14 s15' (nI c) (nI (cn_ c)) (iw_ (cs_ (wt_ x1) c (cn_ c))) (iw_ (cs_ (tm_ x2) c (cn_ c))) (nI i) (nI (cu_ c i)) (nI (cv_ c i)) kc ks 4 T0 B0 a1 a2 a3 a4 a5 a6 a7 := by
      intro s15' g15'
      refine la_492 hp hq l0 l1 z1 (fun y1 e1 e2 => la_522 hp hq l0 l1 z2 (fun y2 e3 e4 => ?_) (fun y2 => ?_)) (fun y1 => la_522 hp hq l0 l1 z2 (fun y2 e3 e4 => ?_) (fun y2 => ?_))
      · exact hk (1, 1, s15') ⟨Or.inl ⟨rfl, mk_yes y1 e1 e2⟩, Or.inl ⟨rfl, mk_yes y2 e3 e4⟩, g15'⟩
      · exact hk (1, s14, s15') ⟨Or.inl ⟨rfl, mk_yes y1 e1 e2⟩, fl_cg g14 (mk_no y2), g15'⟩
      · exact hk (s13, 1, s15') ⟨fl_cg g13 (mk_no y1), Or.inl ⟨rfl, mk_yes y2 e3 e4⟩, g15'⟩
      · exact hk (s13, s14, s15') ⟨fl_cg g13 (mk_no y1), fl_cg g14 (mk_no y2), g15'⟩
    exact ek_if z1 (fun y => nm_e (common _ (pq_put y g15))) (fun y => common _ (pq_skip y g15))
/-- the level -/
def vv_l (x3 : Int32) : Int := (((x3 >>> ((8 : Int32) &&& 31)).toBitVec.toNat % 2 ^ 8 % 41 : Nat) : Int) - 20
theorem vv_eq (x3 : Int32) : ((x3 >>> ((8 : Int32) &&& 31)) &&& 255) - ((x3 >>> ((8 : Int32) &&& 31)) &&& 255) / 41 * 41 - 20 = iw_ (vv_l x3) := by
  rw [pk_and (x3 >>> ((8 : Int32) &&& 31)) (m := 255) 8 (by decide)]
  have ha : (x3 >>> ((8 : Int32) &&& 31)).toBitVec.toNat % 2 ^ 8 < 256 := Nat.mod_lt _ (by omega)
  unfold vv_l
  generalize (x3 >>> ((8 : Int32) &&& 31)).toBitVec.toNat % 2 ^ 8 = a at ha ⊢
  rw [show (41 : Int32) = nI 41 from rfl, pk_rem (by omega) (by omega) (by omega), show (20 : Int32) = iw_ 20 from rfl, iw_nI, iw_sub]
theorem la_373 {A B A' B' x y x' y' : Int} {p q : Nat} (hpost : post 1 ()) (hp : p < 4) (hq : q < 4) (G : gp_ (ae_ x0) (wt_ x1) (tm_ x2) a1 a2 a3)
    (K1 : cb_ (ae_ x0) (wt_ x1) on_) (K2 : cb_ (ae_ x0) (wt_ x1) (tm_ x2)) (hA : (-80 ≤ A ∧ A ≤ 80) ∧ (1 ≤ B ∧ B ≤ 20)) (hA' : (-80 ≤ A' ∧ A' ≤ 80) ∧ (1 ≤ B' ∧ B' ≤ 20))
    (M : mn_ (ae_ x0) (wt_ x1) on_ x y) (hc : Int.gcd x y = 1) (e : x * B = A * y)
    (M2 : mn_ (ae_ x0) (wt_ x1) (tm_ x2) A' B') (M' : mn_ (ae_ x0) (wt_ x1) (tm_ x2) x' y') (hc' : Int.gcd x' y' = 1) (e' : x' * B' = A' * y') :
    ∃ n, wL_lawOf_373 post mc ms x0 x1 x2 x3 (iw_ A) (iw_ B) (iw_ A') (iw_ B') (nI p) (nI q) kc ks 4 T0 B0 a1 a2 a3 a4 a5 a6 a7 n 0 0 0 0 := by
  have hE := ae_er x0
  have hg1 : ∀ u v, ae_ x0 u v → 1 ≤ tm_ x2 u v := fun u v _ => (tm_bd x2 u v).1
  refine pk_loop (fun n i (s : Int32 × Int32 × Int32) => wL_lawOf_373 post mc ms x0 x1 x2 x3 (iw_ A) (iw_ B) (iw_ A') (iw_ B') (nI p) (nI q) kc ks 4 T0 B0 a1 a2 a3 a4 a5 a6 a7 n s.1 s.2.1 s.2.2 (nI i))
    (fun i s => fl_ (mx_ (ae_ x0) (wt_ x1) on_ A B p q i) s.1 ∧ fl_ (mx_ (ae_ x0) (wt_ x1) (tm_ x2) A' B' p q i) s.2.1 ∧ pq_p (ae_ x0) (wt_ x1) on_ A B i 0 s.2.2) 1024 0 (0, 0, 0) (by omega) ⟨Or.inr ⟨rfl, ?_⟩, Or.inr ⟨rfl, ?_⟩, pq_0⟩ ?_ ?_
  · rintro ⟨z, h, -⟩
    exact absurd h (by omega)
  · rintro ⟨z, h, -⟩
    exact absurd h (by omega)
  · rintro n ⟨s13, s14, s15⟩ ⟨g13, g14, g15⟩
    dsimp only at g13 g14 g15
    refine pk_le 1024 1024 (fun _ => ?_) (fun z => absurd z (by omega))
    refine ma_f hp hq G M hc (fun r hr T1 B1 s4 s5 s6 s7 => br_t (fl_eq (fl_cg hr (mx_red hE on_1 (by omega) M.1 e)) g13) ?_)
    refine ra_f hp hq G M' hc' (fun r hr T1 B1 s4 s5 s6 s7 => br_t (fl_eq (fl_cg hr (mx_red hE hg1 (by omega) M'.1 e')) g14) ?_)
    refine mp_wp G M hc (fun r hr T1 B1 s4 s5 s6 s7 => br_t (pq_st hE on_1 (by omega) M.1 e hr g15) ⟨by decide, nm_r (vv_eq x3) ?_⟩)
    have lb : -20 ≤ vv_l x3 ∧ vv_l x3 ≤ 20 := by
      unfold vv_l
      omega
    refine sd_f (by omega) (by omega) G (fun r hr T1 B1 s4 s5 s6 s7 => ?_)
    have hr' := fl_cg hr (sd_iff hg1 M2)
    dsimp only
    rw [iw_mul]
    have m1 := mul_bd (a := vv_l x3) (b := B') (M := 20) (N := 20) ⟨by omega, by omega⟩ ⟨by omega, by omega⟩ (by omega)
    refine ek_if (iw_lt ⟨by omega, by omega⟩ ⟨by omega, by omega⟩) (fun hlt => ?_) (fun hlt => ?_)
    · rcases hr' with ⟨_, k⟩ | ⟨k, _⟩
      · omega
      · rw [k]
        exact la_642 hpost
    · rcases hr' with ⟨k, _⟩ | ⟨_, k⟩
      · rw [k]
        exact la_642 hpost
      · omega
  · rintro n c ⟨s13, s14, s15⟩ hi ⟨g13, g14, g15⟩ hk
    dsimp only at g13 g14 g15
    have hn1 : 0 < cn_ c ∧ cn_ c ≤ 4 := by
      have := cn_cases c
      omega
    refine pk_le 1024 c (fun z => absurd z (by omega)) (fun _ => le_wp hi (fun hv => br_f (nI_ne0 hn1.1 (by omega)) (sw_w hi ?_)) (fun hn => br_t rfl ?_))
    · unfold wL_lawOf_407
      refine br_f (nI_ne0 hn1.1 (by omega)) (sw_t hi (la_432 hp hq hi hv K1 K2 hA hA' g13 g14 g15 (fun t13 t14 t15 y13 y14 y15 => hk (t13, t14, t15) ⟨y13, y14, y15⟩)))
    · unfold wL_lawOf_407
      exact br_t rfl ⟨1, pk_le 0 0 (fun _ => nm_r (nI_1 c) (hk (s13, s14, s15) ⟨fl_cg g13 (mx_no hn), fl_cg g14 (mx_no hn), pq_no hn g15⟩)) (fun z => absurd z (by omega))⟩
end
end
section
/-! ===== the law's first loop over the codes ===== -/
section
variable {post : Int32 → St0 → Prop} {mc ms kc ks : Nat} {x0 x1 x2 x3 x4 : Int32}
variable {a1 a2 a3 a6 a7 : Nat → Int32} {a4 a5 : Nat → Int64} {T0 B0 : Int64}
theorem la_202 {E : Nat → Nat → Prop} {J : Int32 → Int32 → Int32 → Int32 → Int32 → Int32 → Prop} {x6 x7 x8 x9 r : Int32} {c : Nat} (hc : c < 1024) (hv : vl_ E c) (h : od_ E c r)
    (H : ∀ r', od_ E (c + 1) r' → J x6 x7 x8 x9 r' (nI (c + 1))) :
    ∃ n, wL_lawOf_202 post mc ms J x0 x1 x2 x3 x4 x6 x7 x8 x9 (nI c) (nI (cn_ c)) kc ks 4 T0 B0 a1 a2 a3 a4 a5 a6 a7 n r 0 := by
  have hn1 : 0 < cn_ c ∧ cn_ c ≤ 4 := by
    have := cn_cases c
    omega
  refine pk_loop (fun n i s => wL_lawOf_202 post mc ms J x0 x1 x2 x3 x4 x6 x7 x8 x9 (nI c) (nI (cn_ c)) kc ks 4 T0 B0 a1 a2 a3 a4 a5 a6 a7 n s (nI i)) (fun i s => ∀ b, b < 32 → (bt_ s b = true ↔ (∃ x, x < c ∧ vl_ E x ∧ ∃ j, j < cn_ x ∧ cu_ x j = b) ∨ ∃ j, j < i ∧ cu_ c j = b)) (cn_ c) 0 r (by omega) ?_ ?_ ?_
  · intro b hb
    rw [h b hb]
    constructor
    · exact Or.inl
    · rintro (k | ⟨j, hj, -⟩)
      · exact k
      · exact absurd hj (by omega)
  · intro n s hs
    refine pk_le (cn_ c) (cn_ c) (fun _ => nm_r (nI_1 c) (H s ?_)) (fun z => absurd z (by omega))
    intro b hb
    rw [hs b hb]
    constructor
    · rintro (⟨x, k1, k2⟩ | k)
      · exact ⟨x, by omega, k2⟩
      · exact ⟨c, by omega, hv, k⟩
    · rintro ⟨x, k1, k2, k3⟩
      by_cases e : x = c
      · subst e
        exact Or.inr k3
      · exact Or.inl ⟨x, by omega, k2, k3⟩
  · intro n i s hi hs hk
    have l0 := cu_lt c i
    refine pk_le (cn_ c) i (fun z => absurd z (by omega)) (fun _ => ?_)
    rw [sh_cu hc (by omega)]
    refine nm_e (nm_r (nI_1 i) (hk _ ?_))
    intro b hb
    rw [bt_set s (show cu_ c i < 32 by omega) hb, Bool.or_eq_true, hs b hb, decide_eq_true_iff]
    constructor
    · rintro ((k | ⟨j, hj, e⟩) | e)
      · exact Or.inl k
      · exact Or.inr ⟨j, by omega, e⟩
      · exact Or.inr ⟨i, by omega, e.symm⟩
    · rintro (k | ⟨j, hj, e⟩)
      · exact Or.inl (Or.inl k)
      · by_cases ej : j = i
        · right
          rw [← e, ej]
        · exact Or.inl (Or.inr ⟨j, by omega, e⟩)
theorem la_173 {E : Nat → Nat → Prop} {w t : Nat → Nat → Int} {J : Int32 → Int32 → Int32 → Int32 → Int32 → Int32 → Prop} {x6 x7 x8 x9 r : Int32} {c : Nat} (hc : c < 1024) (hv : vl_ E c) (K2 : cb_ E w t) (h : od_ E c r) (hb : bb_ E w t c x8 x9)
    (H : ∀ x8' x9' r', bb_ E w t (c + 1) x8' x9' → od_ E (c + 1) r' → J x6 x7 x8' x9' r' (nI (c + 1))) :
    wL_lawOf_173 post mc ms J x0 x1 x2 x3 x4 x6 x7 x8 x9 r (nI c) (nI (cn_ c)) (iw_ (cs_ w c (cn_ c))) (iw_ (cs_ t c (cn_ c))) kc ks 4 T0 B0 a1 a2 a3 a4 a5 a6 a7 := by
  unfold wL_lawOf_173
  exact bb_br (X := fun a b => ∃ fu202 : Nat, wL_lawOf_202 post mc ms J x0 x1 x2 x3 x4 x6 x7 a b (nI c) (nI (cn_ c)) kc ks 4 T0 B0 a1 a2 a3 a4 a5 a6 a7 fu202 r 0) K2 hb hv (fun a' b' hb' => la_202 hc hv h (fun r' hr' => H a' b' r' hb' hr'))
theorem pq_eq (z : Int32) : (z &&& 255) - (z &&& 255) / 4 * 4 = nI (z.toBitVec.toNat % 2 ^ 8 % 4) := by
  rw [pk_and z (m := 255) 8 (by decide)]
  have ha : z.toBitVec.toNat % 2 ^ 8 < 256 := Nat.mod_lt _ (by omega)
  exact pk_rem (d := 4) (by omega) (by omega) (by omega)
theorem la_104 (hpost : post 1 ()) (G : gp_ (ae_ x0) (wt_ x1) (tm_ x2) a1 a2 a3) : ∃ n, wL_lawOf_104 post mc ms x0 x1 x2 x3 x4 kc ks 4 T0 B0 a1 a2 a3 a4 a5 a6 a7 n 0 0 0 0 0 0 := by
  have hE := ae_er x0
  have hg1 : ∀ u v, ae_ x0 u v → 1 ≤ tm_ x2 u v := fun u v _ => (tm_bd x2 u v).1
  have K2 : cb_ (ae_ x0) (wt_ x1) (tm_ x2) := fun z hz => by
    have k := cs_bd (f := wt_ x1) (g := tm_ x2) hz (fun u v _ => wt_bd x1 u v) (fun u v _ => tm_bd x2 u v)
    omega
  have K1 : cb_ (ae_ x0) (wt_ x1) on_ := fun z hz => by
    have k := cs_bd (f := wt_ x1) (g := on_) hz (fun u v _ => wt_bd x1 u v) (fun u v _ => ⟨Int.le_refl 1, by unfold on_; omega⟩)
    omega
  refine pk_loop (fun n i (s : Int32 × Int32 × Int32 × Int32 × Int32) => wL_lawOf_104 post mc ms x0 x1 x2 x3 x4 kc ks 4 T0 B0 a1 a2 a3 a4 a5 a6 a7 n s.1 s.2.1 s.2.2.1 s.2.2.2.1 s.2.2.2.2 (nI i))
    (fun i s => bb_ (ae_ x0) (wt_ x1) on_ i s.1 s.2.1 ∧ bb_ (ae_ x0) (wt_ x1) (tm_ x2) i s.2.2.1 s.2.2.2.1 ∧ od_ (ae_ x0) i s.2.2.2.2) 1024 0 (0, 0, 0, 0, 0) (by omega)
    ⟨Or.inl ⟨rfl, rfl, fun x hx => absurd hx (by omega)⟩, Or.inl ⟨rfl, rfl, fun x hx => absurd hx (by omega)⟩, od_0⟩ ?_ ?_
  · rintro n ⟨s6, s7, s8, s9, s10⟩ ⟨g1, g2, g3⟩
    dsimp only at g1 g2 g3
    refine pk_le 1024 1024 (fun _ => ?_) (fun z => absurd z (by omega))
    refine oc_wp hE G.2.2.2.1 (fun r s hr => br_t (od_st hE hr g3) ?_)
    rcases g1 with ⟨e6, e7, hn⟩ | ⟨A, B, e6, e7, hb⟩
    · have N1 := no_cw hE hn (wt_ x1) on_
      have N2 := no_cw hE hn (wt_ x1) (tm_ x2)
      refine br_t e7 ?_
      refine mt_0 G N1 (fun T1 B1 s4 s5 s6 s7 => br_t rfl ?_)
      refine rb_0 G N2 (fun T1 B1 s4 s5 s6 s7 => br_t rfl ?_)
      refine sd_wp (l := 100) (by omega) (by omega) G (fun hnn T1 B1 s4 s5 s6 s7 => br_f (by decide) ?_) (fun hnn => absurd (no_nn N2) hnn)
      exact mp_0 G N1 (fun T1 B1 s4 s5 s6 s7 => br_t rfl hpost)
    · have bd := bs_bd K1 hb
      rcases g2 with ⟨e8, e9, hn⟩ | ⟨A', B', e8, e9, hb'⟩
      · obtain ⟨⟨x, h1, h2, -⟩, -⟩ := hb
        exact absurd h2 (hn x h1)
      have bd' := bs_bd K2 hb'
      have M := bs_mn hE K1 hb
      have M2 := bs_mn hE K2 hb'
      obtain ⟨x, y, Mx, hc, e⟩ := mn_red on_1 M
      obtain ⟨x', y', Mx', hc', e'⟩ := mn_red hg1 M2
      subst e6
      subst e7
      subst e8
      subst e9
      refine br_f ?_ ?_
      · show ¬ iw_ B = 0
        rw [show (0 : Int32) = iw_ 0 from rfl, iw_eq ⟨by omega, by omega⟩ ⟨by omega, by omega⟩]
        omega
      refine mt_wp G Mx hc (fun _ _ T1 B1 s4 s5 s6 s7 => ?_)
      refine mb_wp G Mx hc (fun _ _ T1 B1 s4 s5 s6 s7 => br_t (by dsimp only; rw [iw_mul, iw_mul, e]) ?_)
      refine rt_wp G Mx' hc' (fun _ _ T1 B1 s4 s5 s6 s7 => ?_)
      refine rb_wp G Mx' hc' (fun _ _ T1 B1 s4 s5 s6 s7 => br_t (by dsimp only; rw [iw_mul, iw_mul, e']) ⟨by decide, nm_r (pq_eq x3) ⟨by decide, nm_r (pq_eq x4) ?_⟩⟩)
      exact la_373 hpost (Nat.mod_lt _ (by omega)) (Nat.mod_lt _ (by omega)) G K1 K2 bd bd' Mx hc e M2 Mx' hc' e'
  · rintro n c ⟨s6, s7, s8, s9, s10⟩ hi ⟨g1, g2, g3⟩ hk
    dsimp only at g1 g2 g3
    have hn1 : 0 < cn_ c ∧ cn_ c ≤ 4 := by
      have := cn_cases c
      omega
    refine pk_le 1024 c (fun z => absurd z (by omega)) (fun _ => le_wp hi (fun hv => br_f (nI_nle hn1.1 (by omega)) (sw_w hi (sw_t hi ?_))) (fun hn => br_t (by decide) (nm_r (nI_1 c) (hk (s6, s7, s8, s9, s10) ⟨bb_no g1 hn, bb_no g2 hn, od_no g3 hn⟩))))
    have key := bb_br (X := fun a b => wL_lawOf_173 post mc ms (wL_lawOf_104 post mc ms x0 x1 x2 x3 x4 kc ks 4 T0 B0 a1 a2 a3 a4 a5 a6 a7 n) x0 x1 x2 x3 x4 a b s8 s9 s10 (nI c) (nI (cn_ c)) (iw_ (cs_ (wt_ x1) c (cn_ c))) (iw_ (cs_ (tm_ x2) c (cn_ c))) kc ks 4 T0 B0 a1 a2 a3 a4 a5 a6 a7) K1 g1 hv
      (fun a' b' hb' => la_173 hi hv K2 g3 g2 (fun x8' x9' r' hb2 hr => hk (a', b', x8', x9', r') ⟨hb', hb2, hr⟩))
    rw [← cn_iw c] at key
    exact key
end
/-! ===== the arcs, and the whole ===== -/
def ak_ (arcs : Int32) (k u v : Nat) : Prop := u < 4 ∧ v < 4 ∧ 4 * u + v < k ∧ bt_ arcs (4 * u + v) = true
theorem ak_0 (arcs first second : Int32) : gp_ (ak_ arcs 0) (wt_ first) (tm_ second) (fun _ => 0) (fun _ => 0) (fun _ => 0) :=
  ⟨fun u v h => ⟨h.1, h.2.1⟩, fun u v _ => wt_bd first u v, fun u v _ => tm_bd second u v, fun u v _ _ => ⟨fun h => absurd rfl h, fun h => absurd h.2.2.1 (by omega)⟩, fun u v h => absurd h.2.2.1 (by omega)⟩
theorem ak_16 (arcs : Int32) : ak_ arcs 16 = ae_ arcs := by
  funext u v
  apply propext
  constructor
  · exact fun h => ⟨h.1, h.2.1, h.2.2.2⟩
  · exact fun h => ⟨h.1, h.2.1, by have := h.1; have := h.2.1; omega, h.2.2⟩
theorem ak_no {arcs : Int32} {k : Nat} (h : ¬ bt_ arcs k = true) : ak_ arcs k = ak_ arcs (k + 1) := by
  funext u v
  apply propext
  constructor
  · exact fun g => ⟨g.1, g.2.1, by have := g.2.2.1; omega, g.2.2.2⟩
  · rintro ⟨g1, g2, g3, g4⟩
    refine ⟨g1, g2, ?_, g4⟩
    by_cases e : 4 * u + v = k
    · rw [e] at g4
      exact absurd g4 h
    · omega
theorem ak_yes {arcs first second : Int32} {k : Nat} {a1 a2 a3 : Nat → Int32} (hk : k < 16) (h : bt_ arcs k = true) (G : gp_ (ak_ arcs k) (wt_ first) (tm_ second) a1 a2 a3) :
    gp_ (ak_ arcs (k + 1)) (wt_ first) (tm_ second) (upd a1 (6 * (k / 4) + k % 4) 1) (upd a2 (6 * (k / 4) + k % 4) (iw_ (wt_ first (k / 4) (k % 4)))) (upd a3 (6 * (k / 4) + k % 4) (iw_ (tm_ second (k / 4) (k % 4)))) := by
  obtain ⟨h1, h2, h3, h4, h5⟩ := G
  refine ⟨fun u v h => ⟨h.1, h.2.1⟩, fun u v _ => wt_bd first u v, fun u v _ => tm_bd second u v, ?_, ?_⟩
  · intro u v hu hv
    by_cases e : u = k / 4 ∧ v = k % 4
    · rw [e.1, e.2, pk_us]
      constructor
      · intro _
        refine ⟨by omega, by omega, by omega, ?_⟩
        rw [show 4 * (k / 4) + k % 4 = k by omega]
        exact h
      · intro _
        decide
    · rw [pk_un (by omega), h4 u v hu hv]
      constructor
      · exact fun g => ⟨g.1, g.2.1, by have := g.2.2.1; omega, g.2.2.2⟩
      · rintro ⟨g1, g2, g3, g4⟩
        exact ⟨g1, g2, by omega, g4⟩
  · rintro u v ⟨g1, g2, g3, g4⟩
    by_cases e : u = k / 4 ∧ v = k % 4
    · rw [e.1, e.2, pk_us, pk_us]
      exact ⟨rfl, rfl⟩
    · rw [pk_un (by omega), pk_un (by omega)]
      exact h5 u v ⟨g1, g2, by omega, g4⟩
theorem la_13 {post : Int32 → St0 → Prop} {mc ms kc ks : Nat} {x0 x1 x2 x3 x4 : Int32} {T0 B0 : Int64} {a4 a5 : Nat → Int64} {a6 a7 : Nat → Int32} (hpost : post 1 ()) :
    ∃ n, wL_lawOf_13 post mc ms x0 x1 x2 x3 x4 kc ks n 0 4 T0 B0 (fun _ => 0) (fun _ => 0) (fun _ => 0) a4 a5 a6 a7 := by
  refine pk_loop (fun n i (s : (Nat → Int32) × (Nat → Int32) × (Nat → Int32)) => wL_lawOf_13 post mc ms x0 x1 x2 x3 x4 kc ks n (nI i) 4 T0 B0 s.1 s.2.1 s.2.2 a4 a5 a6 a7) (fun i s => gp_ (ak_ x0 i) (wt_ x1) (tm_ x2) s.1 s.2.1 s.2.2) 16 0 (fun _ => 0, fun _ => 0, fun _ => 0) (by omega) (ak_0 x0 x1 x2) ?_ ?_
  · rintro n ⟨s1, s2, s3⟩ hI
    dsimp only at hI
    rw [ak_16] at hI
    exact pk_le 16 16 (fun _ => la_104 hpost hI) (fun z => absurd z (by omega))
  · rintro n k ⟨s1, s2, s3⟩ hk hI hw
    dsimp only at hI
    refine pk_le 16 k (fun z => absurd z (by omega)) (fun _ => ?_)
    rw [pk_shrN (show k < 2 ^ 31 by omega) ((2 : Int32) &&& 31) 2 (by decide), pk_andN (show k < 2 ^ 32 by omega) (m := 3) 2 (by decide)]
    have l1 : k / 2 ^ 2 < 4 := by omega
    have l2 : k % 2 ^ 2 < 4 := by omega
    refine we_wp l1 l2 (tw_wp l1 l2 (ek_if (bt_ask1 x0 (show k < 32 by omega)) (fun hb => ?_) (fun hb => nm_r (nI_1 k) (hw (s1, s2, s3) ?_))))
    · exact ar_wp l1 l2 (wt_bd _ _ _) (tm_bd _ _ _) (br_f (by decide) (nm_r (nI_1 k) (hw (_, _, _) (ak_yes hk hb hI))))
    · dsimp only
      rw [← ak_no hb]
      exact hI
theorem la_of {post : Int32 → St0 → Prop} {x0 x1 x2 x3 x4 : Int32} (hpost : post 1 ()) : wpL_lawOf post 8 178 () x0 x1 x2 x3 x4 := by
  unfold wpL_lawOf
  refine ⟨by omega, by omega, 7, 168, by omega, by omega, ?_⟩
  unfold wpX_init
  exact ⟨by omega, by omega, by omega, by omega, by omega, by omega, by omega, by omega, by omega, by omega, by omega, by omega, by omega, by omega, br_t (by decide) (br_t (by decide) (la_13 hpost))⟩
theorem la_cell {post : Int32 → Prop} {L : Nat} {xs : Nat → Int32} (hL : L ≤ 5) (i : Nat) (hi : i < 10) (H : ∀ r, post r) : wpL_cellAt post L xs () (nI i) := by
  unfold wpL_cellAt
  exact pk_le L i (fun _ => H 0) (fun h => ⟨pk_in i L h, H _⟩)
theorem i_vc (xs : Nat → Int32) (L : Nat) (hL : L ≤ 5) : wpL_law (fun r => r = 1) L xs := by
  unfold wpL_law
  refine la_cell hL 0 (by omega) (fun r1 => la_cell hL 1 (by omega) (fun r2 => la_cell hL 2 (by omega) (fun r3 => la_cell hL 3 (by omega) (fun r4 => la_cell hL 4 (by omega) (fun r5 => ⟨8, 178, by omega, by omega, la_of rfl⟩)))))
end
