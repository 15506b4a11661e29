section
/-! rows of kit/rows (starting texts) -/
theorem pk_us {f : Nat → Int32} {k : Nat} {x : Int32} : upd f k x k = x := if_pos rfl
theorem pk_un {f : Nat → Int32} {k j : Nat} {x : Int32} (h : j ≠ k) : upd f k x j = f j := if_neg h
theorem pk_uLs {f : Nat → Int64} {k : Nat} {x : Int64} : vp_updL f k x k = x := if_pos rfl
theorem pk_uLn {f : Nat → Int64} {k j : Nat} {x : Int64} (h : j ≠ k) : vp_updL f k x j = f j := if_neg h
theorem pk_sub {a b : Nat} (h : b ≤ a) : nI a - nI b = nI (a - b) := by
  obtain ⟨c, rfl⟩ : ∃ c, a = c + b := ⟨a - b, by omega⟩
  rw [← nI_add, Int32.add_sub_cancel, Nat.add_sub_cancel]
theorem pk_m1 (n : Nat) : nI (n + 1) + (-1) = nI n := by
  rw [← nI_1, Int32.add_assoc, show (1 : Int32) + (-1) = 0 from rfl, Int32.add_zero]
theorem pk_mul (a b : Nat) : nI a * nI b = nI (a * b) := (Int32.ofNat_mul a b).symm
theorem pk_div {a d : Nat} (ha : a < 2 ^ 31) (h0 : 0 < d) (hd : d < 2 ^ 31) : nI a / nI d = nI (a / d) := by
  apply Int32.toInt_inj.mp
  rw [lg_idiv_nonneg (by rw [nI_toInt ha]; omega) (by rw [nI_toInt hd]; omega), nI_toInt ha, nI_toInt hd, nI_toInt (Nat.lt_of_le_of_lt (Nat.div_le_self a d) ha)]
  first | rfl | exact (Int.natCast_ediv _ _).symm
theorem pk_rem {a d : Nat} (ha : a < 2 ^ 31) (h0 : 0 < d) (hd : d < 2 ^ 31) : nI a - nI a / nI d * nI d = nI (a % d) := by
  rw [pk_div ha h0 hd, pk_mul, pk_sub (Nat.div_mul_le_self a d)]
  exact congrArg nI (by have := Nat.div_add_mod' a d; omega)
theorem pk_sub_toInt {a b : Nat} (ha : a < 2 ^ 30) (hb : b < 2 ^ 30) : (nI a - nI b).toInt = (a : Int) - b := by
  rw [Int32.toInt_sub, nI_toInt (by omega), nI_toInt (by omega)]
  exact Int.bmod_eq_of_le (by omega) (by omega)
theorem pk_sneg {a b : Nat} (hb : b < 2 ^ 30) (h : a < b) : nI a - nI b < 0 := by
  rw [Int32.lt_iff_toInt_lt, pk_sub_toInt (by omega) hb, show (0 : Int32).toInt = 0 from by decide]
  omega
theorem pk_ix (x : Int32) {n : Nat} (hn : n < 2 ^ 31) : x < 0 ∨ nI n ≤ x ∨ ∃ j : Nat, j < n ∧ x = nI j := by
  by_cases h : x < 0
  · exact Or.inl h
  · obtain ⟨j, hj, rfl⟩ := nI_of h
    by_cases h2 : j < n
    · exact Or.inr (Or.inr ⟨j, h2, rfl⟩)
    · exact Or.inr (Or.inl (nI_le (by omega) hj))
theorem pk_le {x y : Int32} {A B : Prop} (a b : Nat) (f : a ≤ b → A) (g : b < a → B) (hx : x = nI a := by rfl) (hy : y = nI b := by rfl) (ha : a < 2 ^ 31 := by omega) (hb : b < 2 ^ 31 := by omega) : (x ≤ y → A) ∧ (¬ x ≤ y → B) := by
  subst hx hy
  rw [nI_leI ha hb]
  exact ⟨f, fun z => g (by omega)⟩
theorem pk_lt {x y : Int32} {A B : Prop} (a b : Nat) (f : a < b → A) (g : b ≤ a → B) (hx : x = nI a := by rfl) (hy : y = nI b := by rfl) (ha : a < 2 ^ 31 := by omega) (hb : b < 2 ^ 31 := by omega) : (x < y → A) ∧ (¬ x < y → B) := by
  subst hx hy
  rw [nI_ltI ha hb]
  exact ⟨f, fun z => g (by omega)⟩
theorem pk_eq {x y : Int32} {A B : Prop} (a b : Nat) (f : a = b → A) (g : a ≠ b → B) (hx : x = nI a := by rfl) (hy : y = nI b := by rfl) (ha : a < 2 ^ 31 := by omega) (hb : b < 2 ^ 31 := by omega) : (x = y → A) ∧ (¬ x = y → B) := by
  subst hx hy
  rw [nI_eq ha hb]
  exact ⟨f, g⟩
theorem pk_in {x : Int32} (n N : Nat) (h : n < N) (hx : x = nI n := by rfl) (hN : N < 2 ^ 31 := by omega) : vp_in x N := by
  subst hx
  exact vp_in_nI h hN
theorem pk_cl {x : Int32} (n : Nat) (hx : x = nI n := by rfl) (h : n < 2 ^ 31 := by omega) : x.toNatClampNeg = n := by
  subst hx
  exact nI_clamp h
theorem pk_tn {n : Nat} (h : n < 2 ^ 32) : (nI n).toBitVec.toNat = n := Nat.mod_eq_of_lt h
theorem pk_and (x : Int32) {m : Int32} (k : Nat) (hm : m.toBitVec.toNat = 2 ^ k - 1) : x &&& m = nI (x.toBitVec.toNat % 2 ^ k) := by
  apply Int32.toBitVec_inj.mp
  apply BitVec.eq_of_toNat_eq
  rw [Int32.toBitVec_and, BitVec.toNat_and, hm, Nat.and_two_pow_sub_one_eq_mod]
  show _ = (BitVec.ofNat 32 _).toNat
  rw [BitVec.toNat_ofNat]
  exact (Nat.mod_eq_of_lt (Nat.lt_of_le_of_lt (Nat.mod_le _ _) x.toBitVec.isLt)).symm
theorem pk_andN {n : Nat} (h : n < 2 ^ 32) {m : Int32} (k : Nat) (hm : m.toBitVec.toNat = 2 ^ k - 1) : nI n &&& m = nI (n % 2 ^ k) := by
  rw [pk_and _ k hm, pk_tn h]
theorem pk_vb (z : Int32) : vp_nar .byte z.toInt8.toInt32 = z.toInt8.toInt32 := by rw [vp_nar_byte]; simp
theorem ts_nf {x : Bool} (h : ¬ x = false) : x = true := by cases x <;> first | rfl | exact absurd rfl h
theorem ts_nt {x : Bool} (h : ¬ x = true) : x = false := by cases x <;> first | rfl | exact absurd rfl h
theorem ts_bit {w : Int64} {s : UInt64} {j : Nat} (hj : j < 64) (hs : s.toNat = j) : ((w.toUInt64 >>> s).toInt64 &&& 1) = 0 ↔ w.toBitVec.getLsbD j = false := by
  have e : (w.toUInt64 >>> s).toInt64.toBitVec = w.toBitVec >>> j := by
    apply BitVec.eq_of_toNat_eq
    show (w.toUInt64 >>> s).toNat = _
    rw [UInt64.toNat_shiftRight, hs, Nat.mod_eq_of_lt hj, BitVec.toNat_ushiftRight]
    rfl
  rw [← Int64.toBitVec_inj, Int64.toBitVec_and, e]
  show w.toBitVec >>> j &&& 1#64 = 0#64 ↔ _
  constructor
  · intro h
    have t := congrArg (fun x => x.getLsbD 0) h
    simpa using t
  · intro h
    apply BitVec.eq_of_getLsbD_eq
    intro i hi
    cases i with
    | zero => simp [h]
    | succ i => simp
theorem wb_c : ∀ k, k < 64 → ((nI k).toInt64 &&& 63) = lN k := by decide +kernel
theorem wb_cu : ∀ k, k < 64 → ((nI k).toInt64.toUInt64 &&& Int64.toUInt64 63) = UInt64.ofNat k := by decide +kernel
theorem u_tn {n : Nat} (h : n < 2 ^ 64) : (UInt64.ofNat n).toNat = n := Nat.mod_eq_of_lt h
end
section
/-! the abstract state and numbers -/
def zn_b : Bool → Int32
  | true => 1
  | false => 0
theorem zn_b0 (x : Bool) : zn_b x = 0 ↔ x = false := by cases x <;> decide
theorem zn_bt : zn_b true = 1 := rfl
theorem zn_bf : zn_b false = 0 := rfl
theorem zn_bn (x : Bool) : narrow .boolean (.int (zn_b x)) = .int (zn_b x) := by cases x <;> rfl
theorem zn_br {x : Bool} {A B : Prop} (f : x = false → A) (g : x = true → B) : (zn_b x = 0 → A) ∧ (¬ zn_b x = 0 → B) := by
  rw [zn_b0]
  exact ⟨f, fun z => g (ts_nf z)⟩
/-- present bits, kinds, first numbers, second numbers, sizes, conditions -/
abbrev zc_C : Type := Nat × (Nat → Nat) × (Nat → Nat) × (Nat → Nat) × (Nat → Nat) × (Nat → Nat)
def zc_p (c : zc_C) : Nat := c.1
def zc_k (c : zc_C) : Nat → Nat := c.2.1
def zc_a (c : zc_C) : Nat → Nat := c.2.2.1
def zc_b (c : zc_C) : Nat → Nat := c.2.2.2.1
def zc_z (c : zc_C) : Nat → Nat := c.2.2.2.2.1
def zc_w (c : zc_C) : Nat → Nat := c.2.2.2.2.2
def zc_t (c : zc_C) (f : Nat) : Bool := (zc_p c).testBit f
def zc_ok (c : zc_C) : Prop := zc_p c < 128 ∧ (∀ f, zc_k c f < 4) ∧ (∀ f, zc_a c f < 4) ∧ (∀ f, zc_b c f < 4) ∧ (∀ r, zc_z c r ≤ 3) ∧ (∀ i, zc_w c i < 512)
def zf_P (c : zc_C) : Int32 := nI (zc_p c)
def zf_K (c : zc_C) : Nat → Int32 := fun f => nI (zc_k c f)
def zf_A (c : zc_C) : Nat → Int32 := fun f => nI (zc_a c f)
def zf_B (c : zc_C) : Nat → Int32 := fun f => nI (zc_b c f)
def zf_Z (c : zc_C) : Nat → Int32 := fun r => nI (zc_z c r)
def zf_WK (c : zc_C) : Nat → Int32 := fun i => nI (zc_w c i % 4)
def zf_WA (c : zc_C) : Nat → Int32 := fun i => nI (zc_w c i / 4 % 8)
def zf_WB (c : zc_C) : Nat → Int32 := fun i => nI (zc_w c i / 32 % 8)
def zf_N (c : zc_C) : Nat → Int32 := fun i => zn_b (decide (256 ≤ zc_w c i))
def zf_T (c : zc_C) : Nat → Int32 := fun f => zn_b (zc_t c f)
def zf_W (c : zc_C) : Nat → Int32 := fun i => nI (zc_w c i)
theorem zn_has : ∀ p, p < 128 → ∀ f, f < 7 → ((nI p >>> (nI f &&& 31)) &&& 1) = zn_b (p.testBit f) := by decide +kernel
theorem zn_set : ∀ p, p < 128 → ∀ f, f < 7 → (nI p ||| ((1 : Int32) <<< (nI f &&& 31))) = nI (p ||| 2 ^ f) := by decide +kernel
theorem zn_clr : ∀ p, p < 128 → ∀ f, f < 7 → p.testBit f = true → (nI p &&& (((1 : Int32) <<< (nI f &&& 31)) ^^^ (-1))) = nI (p ^^^ 2 ^ f) := by decide +kernel
theorem zn_set128 : ∀ p, p < 128 → ∀ f, f < 7 → p ||| 2 ^ f < 128 := by decide +kernel
theorem zn_clr128 : ∀ p, p < 128 → ∀ f, f < 7 → p ^^^ 2 ^ f < 128 := by decide +kernel
theorem zn_codes : ∀ l, l < 4 → ((1 : Int32) <<< ((3 * nI l) &&& 31)) = nI (8 ^ l) := by decide +kernel
theorem zn_dig : ∀ x, x < 512 → ∀ i, i < 3 → ((nI x >>> ((3 * nI i) &&& 31)) &&& 7) = nI (x / 8 ^ i % 8) := by decide +kernel
theorem zn_next : ∀ l, l < 3 → ∀ x, x < 8 ^ l → ∀ g, g < 8 → (nI x ||| (nI g <<< ((3 * nI l) &&& 31))) = nI (x + g * 8 ^ l) := by decide +kernel
theorem zn_miss : ∀ l, l < 4 → ((511 : Int32) &&& ((nI (8 ^ l) - 1) ^^^ (-1))) = nI (512 - 8 ^ l) := by decide +kernel
theorem zn_orm : ∀ l, l < 4 → ∀ x, x < 8 ^ l → (nI x ||| nI (512 - 8 ^ l)) = nI (512 - 8 ^ l + x) := by decide +kernel
theorem zn_six : ∀ x, x < 512 → (nI x >>> ((6 : Int32) &&& 31)) = nI (x / 64) := by decide +kernel
theorem zn_three : ∀ x, x < 512 → ((nI x >>> ((3 : Int32) &&& 31)) &&& 7) = nI (x / 8 % 8) := by decide +kernel
theorem zn_seven : ∀ x, x < 512 → (nI x &&& 7) = nI (x % 8) := by decide +kernel
theorem zn_63 : ∀ x, x < 512 → (nI x &&& 63) = nI (x % 64) := by decide +kernel
theorem zn_w3 : ∀ x, x < 512 → (nI x &&& 3) = nI (x % 4) := by decide +kernel
theorem zn_wa : ∀ x, x < 512 → ((nI x >>> ((2 : Int32) &&& 31)) &&& 7) = nI (x / 4 % 8) := by decide +kernel
theorem zn_wb : ∀ x, x < 512 → ((nI x >>> ((5 : Int32) &&& 31)) &&& 7) = nI (x / 32 % 8) := by decide +kernel
theorem zn_nar0 : ∀ v, v < 8 → (nI v).toInt8.toInt32 = nI v := by decide +kernel
theorem zn_nar {v : Nat} (h : v < 8) : vp_nar .byte (nI v) = nI v := by rw [vp_nar_byte, zn_nar0 v h]
theorem zn_nar2 {v : Nat} (h : v < 8) : vp_nar .byte (nI v).toInt8.toInt32 = nI v := by rw [pk_vb, zn_nar0 v h]
theorem zn_facts1 : ∀ p, p < 128 → ∀ j, j < 7 → p.testBit j = true → (nI (p % 2 ^ j) ||| ((1 : Int32) <<< (nI j &&& 31))) = nI (p % 2 ^ (j + 1)) := by decide +kernel
theorem zn_facts0 : ∀ p, p < 128 → ∀ j, j < 7 → p.testBit j = false → p % 2 ^ j = p % 2 ^ (j + 1) := by decide +kernel
theorem zn_full : ∀ p, p < 128 → (∀ j, j < 7 → p.testBit j = true) → p = 127 := by decide +kernel
theorem zn_127 : ∀ j, j < 7 → (127 : Nat).testBit j = true := by decide +kernel
theorem zn_tb7 {p j : Nat} (h : p < 128) (hj : 7 ≤ j) : p.testBit j = false := by
  apply Nat.testBit_lt_two_pow
  exact Nat.lt_of_lt_of_le h (Nat.pow_le_pow_right (by decide) hj : 2 ^ 7 ≤ 2 ^ j)
theorem zn_8 {l : Nat} (h : l ≤ 3) : 1 ≤ 8 ^ l ∧ 8 ^ l ≤ 512 := by
  match l, h with
  | 0, _ => decide
  | 1, _ => decide
  | 2, _ => decide
  | 3, _ => decide
theorem zn_x512 {l x : Nat} (hl : l ≤ 3) (hx : x < 8 ^ l) : x < 512 := Nat.lt_of_lt_of_le hx (zn_8 hl).2
/-! words as sets -/
def zw_i (wd : Nat → Int64) (r l x : Nat) : Bool := (wd (r * 11 + l + x / 64)).toBitVec.getLsbD (x % 64)
def zw_LV (wd : Nat → Int64) (r : Nat) (F : Nat → Nat → Bool) : Prop := ∀ l, l ≤ 3 → ∀ x, x < 8 ^ l → zw_i wd r l x = F l x
def zw_FR (wd wd0 : Nat → Int64) (r : Nat) : Prop := ∀ j, (j < r * 11 ∨ r * 11 + 11 ≤ j) → wd j = wd0 j
theorem zw_ix {l x : Nat} (hl : l ≤ 3) (hx : x < 8 ^ l) : l + x / 64 ≤ 10 := by
  match l, hl with
  | 0, _ => have : x < 1 := hx; omega
  | 1, _ => have : x < 8 := hx; omega
  | 2, _ => have : x < 64 := hx; omega
  | 3, _ => have : x < 512 := hx; omega
theorem zw_inj {l x l' x' : Nat} (hl : l ≤ 3) (hx : x < 8 ^ l) (hl' : l' ≤ 3) (hx' : x' < 8 ^ l') (h1 : l + x / 64 = l' + x' / 64) (h2 : x % 64 = x' % 64) : l = l' ∧ x = x' := by
  have h3 : l ≤ 2 → x < 64 := by
    intro h
    match l, h with
    | 0, _ => have : x < 1 := hx; omega
    | 1, _ => have : x < 8 := hx; omega
    | 2, _ => exact hx
  have h3' : l' ≤ 2 → x' < 64 := by
    intro h
    match l', h with
    | 0, _ => have : x' < 1 := hx'; omega
    | 1, _ => have : x' < 8 := hx'; omega
    | 2, _ => exact hx'
  omega
theorem zw_LVc {wd : Nat → Int64} {r : Nat} {F G : Nat → Nat → Bool} (h : zw_LV wd r F) (e : ∀ l, l ≤ 3 → ∀ x, x < 8 ^ l → F l x = G l x) : zw_LV wd r G := fun l hl x hx => (h l hl x hx).trans (e l hl x hx)
theorem zw_FRi {wd wd0 : Nat → Int64} {r : Nat} (h : zw_FR wd wd0 r) {q : Nat} (hq : q ≠ r) {l x : Nat} (hl : l ≤ 3) (hx : x < 8 ^ l) : zw_i wd q l x = zw_i wd0 q l x := by
  have h1 := zw_ix hl hx
  unfold zw_i
  rw [h (q * 11 + l + x / 64) (by omega)]
end
section
/-! bindings: 4 is unbound -/
def zm_mt (d v : Nat) (t : Nat → Nat) : Bool := if d = 7 then true else if d < 4 then decide (d = v) else if t (d - 4) = 4 then true else decide (t (d - 4) = v)
def zm_mb (d v : Nat) (t : Nat → Nat) : Nat → Nat := if 4 ≤ d ∧ d ≠ 7 ∧ t (d - 4) = 4 then (fun x => if x = d - 4 then v else t x) else t
def zm_F (c : zc_C) (i f : Nat) (t : Nat → Nat) : Bool := decide (zc_k c f = zc_w c i % 4) && (zm_mt (zc_w c i / 4 % 8) (zc_a c f) t && zm_mt (zc_w c i / 32 % 8) (zc_b c f) (zm_mb (zc_w c i / 4 % 8) (zc_a c f) t))
def zm_G (c : zc_C) (i f : Nat) (t : Nat → Nat) : Nat → Nat := zm_mb (zc_w c i / 32 % 8) (zc_b c f) (zm_mb (zc_w c i / 4 % 8) (zc_a c f) t)
def zm_g (x i : Nat) : Nat := x / 8 ^ i % 8
def zm_bd (c : zc_C) (r x : Nat) : Nat → Nat → Nat
  | 0 => fun _ => 4
  | i + 1 => if zm_g x i = 7 then zm_bd c r x i else if zm_F c (3 * r + i) (zm_g x i) (zm_bd c r x i) = true then zm_G c (3 * r + i) (zm_g x i) (zm_bd c r x i) else zm_bd c r x i
def zm_an (c : zc_C) (i : Nat) (t : Nat → Nat) : Nat → Bool
  | 0 => false
  | g + 1 => zm_an c i t g || (zc_t c g && zm_F c i g t)
def zm_st (c : zc_C) (i : Nat) (t : Nat → Nat) (g : Nat) : Bool := if 256 ≤ zc_w c i then decide (g = 7) && !(zm_an c i t 7) else decide (g ≠ 7) && (zc_t c g && zm_F c i g t)
def zm_M (c : zc_C) (r x : Nat) : Nat → Bool
  | 0 => true
  | i + 1 => zm_M c r x i && zm_st c (3 * r + i) (zm_bd c r x i) (zm_g x i)
def zm_W (c : zc_C) (wd : Nat → Int64) : Prop := ∀ r, r < 3 → ∀ l, l ≤ zc_z c r → ∀ x, x < 8 ^ l → zw_i wd r l x = zm_M c r x l
theorem zm_g8 (x i : Nat) : zm_g x i < 8 := Nat.mod_lt _ (by decide)
theorem zm_bdc {c : zc_C} {r x y : Nat} : ∀ l, (∀ i, i < l → zm_g x i = zm_g y i) → zm_bd c r x l = zm_bd c r y l := by
  intro l
  induction l with
  | zero => intro _; rfl
  | succ l ih =>
    intro h
    have e := ih (fun i hi => h i (by omega))
    have e2 := h l (by omega)
    simp only [zm_bd, e, e2]
theorem zm_Mc {c : zc_C} {r x y : Nat} : ∀ l, (∀ i, i < l → zm_g x i = zm_g y i) → zm_M c r x l = zm_M c r y l := by
  intro l
  induction l with
  | zero => intro _; rfl
  | succ l ih =>
    intro h
    have e := ih (fun i hi => h i (by omega))
    have e2 := h l (by omega)
    have e3 := zm_bdc (c := c) (r := r) l (fun i hi => h i (by omega))
    simp only [zm_M, e, e2, e3]
theorem zm_gl {l x g i : Nat} (hl : l < 3) (hi : i < l) : zm_g (x + g * 8 ^ l) i = zm_g x i := by
  unfold zm_g
  match l, i, hl, hi with
  | 1, 0, _, _ => show (x + g * 8) / 1 % 8 = x / 1 % 8; omega
  | 2, 0, _, _ => show (x + g * 64) / 1 % 8 = x / 1 % 8; omega
  | 2, 1, _, _ => show (x + g * 64) / 8 % 8 = x / 8 % 8; omega
theorem zm_gt {l x g : Nat} (hl : l < 3) (hx : x < 8 ^ l) (hg : g < 8) : zm_g (x + g * 8 ^ l) l = g := by
  unfold zm_g
  match l, hl with
  | 0, _ => have : x < 1 := hx; show (x + g * 1) / 1 % 8 = g; omega
  | 1, _ => have : x < 8 := hx; show (x + g * 8) / 8 % 8 = g; omega
  | 2, _ => have : x < 64 := hx; show (x + g * 64) / 64 % 8 = g; omega
theorem zm_sp {l y : Nat} (hl : l < 3) (hy : y < 8 ^ (l + 1)) : y % 8 ^ l < 8 ^ l ∧ y / 8 ^ l < 8 ∧ y = y % 8 ^ l + y / 8 ^ l * 8 ^ l := by
  match l, hl with
  | 0, _ => have : y < 8 := hy; show y % 1 < 1 ∧ y / 1 < 8 ∧ y = y % 1 + y / 1 * 1; omega
  | 1, _ => have : y < 64 := hy; show y % 8 < 8 ∧ y / 8 < 8 ∧ y = y % 8 + y / 8 * 8; omega
  | 2, _ => have : y < 512 := hy; show y % 64 < 64 ∧ y / 64 < 8 ∧ y = y % 64 + y / 64 * 64; omega
theorem zm_sq {l x g : Nat} (hl : l < 3) (hx : x < 8 ^ l) (hg : g < 8) : x + g * 8 ^ l < 8 ^ (l + 1) ∧ (x + g * 8 ^ l) % 8 ^ l = x ∧ (x + g * 8 ^ l) / 8 ^ l = g := by
  match l, hl with
  | 0, _ => have : x < 1 := hx; show x + g * 1 < 8 ∧ (x + g * 1) % 1 = x ∧ (x + g * 1) / 1 = g; omega
  | 1, _ => have : x < 8 := hx; show x + g * 8 < 64 ∧ (x + g * 8) % 8 = x ∧ (x + g * 8) / 8 = g; omega
  | 2, _ => have : x < 64 := hx; show x + g * 64 < 512 ∧ (x + g * 64) % 64 = x ∧ (x + g * 64) / 64 = g; omega
/-- one level on: a code is its lower part and a slot -/
theorem zm_Ms {c : zc_C} {r l y : Nat} (hl : l < 3) (hy : y < 8 ^ (l + 1)) : zm_M c r y (l + 1) = (zm_M c r (y % 8 ^ l) l && zm_st c (3 * r + l) (zm_bd c r (y % 8 ^ l) l) (y / 8 ^ l)) := by
  obtain ⟨h1, h2, h3⟩ := zm_sp hl hy
  have e : ∀ i, i < l → zm_g y i = zm_g (y % 8 ^ l) i := by
    intro i hi
    have := zm_gl (x := y % 8 ^ l) (g := y / 8 ^ l) hl hi
    rw [← h3] at this
    exact this
  have e2 : zm_g y l = y / 8 ^ l := by
    have := zm_gt (x := y % 8 ^ l) (g := y / 8 ^ l) hl h1 h2
    rw [← h3] at this
    exact this
  rw [zm_M, zm_Mc l e, zm_bdc l e, e2]
theorem zm_an_t {c : zc_C} {i : Nat} {t : Nat → Nat} : ∀ n, zm_an c i t n = true ↔ ∃ g, g < n ∧ zc_t c g = true ∧ zm_F c i g t = true := by
  intro n
  induction n with
  | zero => exact ⟨(fun h => nomatch h), fun ⟨g, h, _⟩ => absurd h (Nat.not_lt_zero g)⟩
  | succ n ih =>
    rw [zm_an, Bool.or_eq_true, ih, Bool.and_eq_true]
    constructor
    · intro h
      rcases h with ⟨g, h1, h2⟩ | h
      · exact ⟨g, by omega, h2⟩
      · exact ⟨n, by omega, h⟩
    · intro ⟨g, h1, h2⟩
      rcases Nat.lt_or_ge g n with h | h
      · exact Or.inl ⟨g, h, h2⟩
      · obtain rfl : g = n := by omega
        exact Or.inr h2
theorem zm_an_mono {c : zc_C} {i : Nat} {t : Nat → Nat} {m n : Nat} (h : m ≤ n) (ht : zm_an c i t m = true) : zm_an c i t n = true := by
  rw [zm_an_t] at ht ⊢
  obtain ⟨g, h1, h2⟩ := ht
  exact ⟨g, by omega, h2⟩
theorem zm_an_c {c d : zc_C} {i j : Nat} {t : Nat → Nat} : ∀ n, (∀ g, g < n → (zc_t c g && zm_F c i g t) = (zc_t d g && zm_F d j g t)) → zm_an c i t n = zm_an d j t n := by
  intro n
  induction n with
  | zero => intro _; rfl
  | succ n ih =>
    intro h
    rw [zm_an, zm_an, ih (fun g hg => h g (by omega)), h n (by omega)]
/-! one fact changes: from c to d, at f -/
def zm_ON (c d : zc_C) (f : Nat) (ad : Bool) : Prop := zc_w d = zc_w c ∧ zc_z d = zc_z c ∧ (∀ g, g ≠ f → zc_k d g = zc_k c g ∧ zc_a d g = zc_a c g ∧ zc_b d g = zc_b c g ∧ zc_t d g = zc_t c g) ∧ (ad = true → zc_t c f = false ∧ zc_t d f = true) ∧ (ad = false → zc_t d f = false ∧ zc_k d f = zc_k c f ∧ zc_a d f = zc_a c f ∧ zc_b d f = zc_b c f)
theorem zm_Fc {c d : zc_C} {i g : Nat} {t : Nat → Nat} (hw : zc_w d = zc_w c) (h : zc_k d g = zc_k c g ∧ zc_a d g = zc_a c g ∧ zc_b d g = zc_b c g) : zm_F d i g t = zm_F c i g t ∧ zm_G d i g t = zm_G c i g t := by
  obtain ⟨h1, h2, h3⟩ := h
  unfold zm_F zm_G
  rw [hw, h1, h2, h3]
  exact ⟨rfl, rfl⟩
/-- a fact that stood in the old state has kept its numbers -/
theorem zm_ONs {c d : zc_C} {f : Nat} {ad : Bool} (H : zm_ON c d f ad) {g : Nat} (hg : zc_t c g = true) : zc_k d g = zc_k c g ∧ zc_a d g = zc_a c g ∧ zc_b d g = zc_b c g := by
  obtain ⟨_, _, h1, h2, h3⟩ := H
  by_cases e : g = f
  · subst e
    cases ad with
    | true =>
      have := (h2 rfl).1
      rw [this] at hg
      exact nomatch hg
    | false => exact (h3 rfl).2
  · have := h1 g e
    exact ⟨this.1, this.2.1, this.2.2.1⟩
theorem zm_st7 {c : zc_C} {i : Nat} {t : Nat → Nat} {g : Nat} (h : zm_st c i t g = true) (hg : g ≠ 7) : ¬ 256 ≤ zc_w c i ∧ zc_t c g = true ∧ zm_F c i g t = true := by
  unfold zm_st at h
  by_cases hw : 256 ≤ zc_w c i
  · rw [if_pos hw, decide_eq_false hg, Bool.false_and] at h
    exact nomatch h
  · rw [if_neg hw, Bool.and_eq_true, Bool.and_eq_true] at h
    exact ⟨hw, h.2⟩
theorem zm_bdON {c d : zc_C} {f : Nat} {ad : Bool} (H : zm_ON c d f ad) {r x : Nat} : ∀ l, zm_M c r x l = true → zm_bd d r x l = zm_bd c r x l := by
  intro l
  induction l with
  | zero => intro _; rfl
  | succ l ih =>
    intro h
    rw [zm_M, Bool.and_eq_true] at h
    have e := ih h.1
    rw [zm_bd, zm_bd, e]
    by_cases h7 : zm_g x l = 7
    · rw [if_pos h7, if_pos h7]
    · have h8 := zm_st7 h.2 h7
      have h9 := zm_Fc (i := 3 * r + l) (t := zm_bd c r x l) H.1 (zm_ONs H h8.2.1)
      rw [if_neg h7, if_neg h7, h9.1, h9.2]
/-- what the old sets S tell of an old partial match x, for the next level -/
def zm_H (c : zc_C) (r l x : Nat) (S : Nat → Nat → Bool) (f : Nat) (ad : Bool) : Prop :=
  (¬ 256 ≤ zc_w c (3 * r + l) → ∀ g, g < 7 → g ≠ f → S (l + 1) (x + g * 8 ^ l) = zm_st c (3 * r + l) (zm_bd c r x l) g) ∧
  (256 ≤ zc_w c (3 * r + l) → (zm_F c (3 * r + l) f (zm_bd c r x l) = false → S (l + 1) (x + 7 * 8 ^ l) = zm_st c (3 * r + l) (zm_bd c r x l) 7) ∧ (zm_F c (3 * r + l) f (zm_bd c r x l) = true → ad = true → zm_st c (3 * r + l) (zm_bd c r x l) 7 = false))
theorem zm_Hof {c d : zc_C} {f : Nat} {ad : Bool} (H : zm_ON c d f ad) (hf : f < 7) {r l x : Nat} {S : Nat → Nat → Bool} (hl : l < 3) (hx : x < 8 ^ l) (hS : ∀ y, y < 8 ^ (l + 1) → S (l + 1) y = zm_M c r y (l + 1)) (hM : zm_M c r x l = true) : zm_H d r l x S f ad := by
  have eb := zm_bdON H l hM
  have hS' : ∀ g, g < 8 → S (l + 1) (x + g * 8 ^ l) = zm_st c (3 * r + l) (zm_bd c r x l) g := by
    intro g hg
    obtain ⟨a1, a2, a3⟩ := zm_sq hl hx hg
    rw [hS _ a1, zm_Ms hl a1, a2, a3, hM, Bool.true_and]
  obtain ⟨hw, hz, hd, ha, hr⟩ := H
  unfold zm_H
  rw [eb, hw]
  refine ⟨fun hn g hg hgf => ?_, fun hn => ⟨fun hF => ?_, fun hF hat => ?_⟩⟩
  · rw [hS' g (by omega)]
    have e := hd g hgf
    have e2 := zm_Fc (i := 3 * r + l) (t := zm_bd c r x l) hw ⟨e.1, e.2.1, e.2.2.1⟩
    unfold zm_st
    rw [hw, if_neg hn, if_neg hn, e2.1, e.2.2.2]
  · rw [hS' 7 (by omega)]
    unfold zm_st
    rw [hw, if_pos hn, if_pos hn]
    have ea : zm_an c (3 * r + l) (zm_bd c r x l) 7 = zm_an d (3 * r + l) (zm_bd c r x l) 7 := by
      apply zm_an_c
      intro g hg
      by_cases egf : g = f
      · subst egf
        rw [hF, Bool.and_false]
        cases ad with
        | true => rw [(ha rfl).1, Bool.false_and]
        | false => rw [← (zm_Fc (i := 3 * r + l) (t := zm_bd c r x l) hw (hr rfl).2).1, hF, Bool.and_false]
      · have e := hd g egf
        have e2 := zm_Fc (i := 3 * r + l) (t := zm_bd c r x l) hw ⟨e.1, e.2.1, e.2.2.1⟩
        rw [e2.1, e.2.2.2]
    rw [ea]
  · unfold zm_st
    rw [hw, if_pos hn]
    have ea : zm_an d (3 * r + l) (zm_bd c r x l) 7 = true := zm_an_t 7 |>.mpr ⟨f, hf, (ha hat).2, hF⟩
    rw [ea]
    rfl
end
section
/-! X: the sets' reads and writes -/
section
variable {c : zc_C} {wd bf : Nat → Int64} {bo te : Nat → Int32}
theorem zn_sh : ∀ k, k < 64 → ((1 : Int64) <<< ((nI k).toInt64 &&& 63)).toBitVec = BitVec.twoPow 64 k := by decide +kernel
theorem zx_word {r l x : Nat} (hl : l ≤ 3) (hx : x < 8 ^ l) : nI r * 11 + nI l + (nI x >>> ((6 : Int32) &&& 31)) = nI (r * 11 + l + x / 64) := by
  rw [zn_six x (zn_x512 hl hx), show nI r * 11 = nI (r * 11) from pk_mul r 11, nI_add, nI_add]
theorem zx_isIn {post : Int32 → Prop} {r l x : Nat} (hr : r < 3) (hl : l ≤ 3) (hx : x < 8 ^ l) (h : post (zn_b (zw_i wd r l x))) : wpX_isIn post (zf_P c, zf_K c, zf_A c, zf_B c, zf_Z c, zf_WK c, zf_WA c, zf_WB c, zf_N c, wd, bf, bo, te) (nI r) (nI l) (nI x) := by
  have hw := zw_ix hl hx
  unfold wpX_isIn wpX_wordOf
  dsimp only
  rw [zx_word hl hx, zn_63 x (zn_x512 hl hx), wb_cu (x % 64) (by omega), nI_clamp (by omega)]
  refine ⟨vp_in_nI (by omega) (by omega), ?_⟩
  have e := ts_bit (w := wd (r * 11 + l + x / 64)) (s := UInt64.ofNat (x % 64)) (j := x % 64) (by omega) (u_tn (by omega))
  cases hb : zw_i wd r l x with
  | false => rw [hb] at h; exact br_t (e.mpr hb) h
  | true => rw [hb] at h; exact br_f (fun z => Bool.noConfusion ((e.mp z).symm.trans hb)) h
theorem zx_wasIn {post : Int32 → Prop} {r l x : Nat} (hr : r < 3) (hl : l ≤ 3) (hx : x < 8 ^ l) (h : post (zn_b (zw_i bf r l x))) : wpX_wasIn post (zf_P c, zf_K c, zf_A c, zf_B c, zf_Z c, zf_WK c, zf_WA c, zf_WB c, zf_N c, wd, bf, bo, te) (nI r) (nI l) (nI x) := by
  have hw := zw_ix hl hx
  unfold wpX_wasIn wpX_wordOf
  dsimp only
  rw [zx_word hl hx, zn_63 x (zn_x512 hl hx), wb_cu (x % 64) (by omega), nI_clamp (by omega)]
  refine ⟨vp_in_nI (by omega) (by omega), ?_⟩
  have e := ts_bit (w := bf (r * 11 + l + x / 64)) (s := UInt64.ofNat (x % 64)) (j := x % 64) (by omega) (u_tn (by omega))
  cases hb : zw_i bf r l x with
  | false => rw [hb] at h; exact br_t (e.mpr hb) h
  | true => rw [hb] at h; exact br_f (fun z => Bool.noConfusion ((e.mp z).symm.trans hb)) h
theorem zx_putw {r l x : Nat} {F : Nat → Nat → Bool} (hl : l ≤ 3) (hx : x < 8 ^ l) (hV : zw_LV wd r F) : zw_LV (vp_updL wd (r * 11 + l + x / 64) (wd (r * 11 + l + x / 64) ||| ((1 : Int64) <<< ((nI (x % 64)).toInt64 &&& 63)))) r (fun l' y => F l' y || (decide (l' = l) && decide (y = x))) := by
  intro l' hl' y hy
  have hv := hV l' hl' y hy
  show zw_i _ r l' y = (F l' y || (decide (l' = l) && decide (y = x)))
  unfold zw_i at hv ⊢
  unfold vp_updL
  by_cases e : r * 11 + l' + y / 64 = r * 11 + l + x / 64
  · rw [if_pos e, Int64.toBitVec_or, BitVec.getLsbD_or, zn_sh (x % 64) (by omega), BitVec.getLsbD_twoPow, ← e, hv]
    by_cases e2 : x % 64 = y % 64
    · have e3 := zw_inj hl' hy hl hx (by omega) e2.symm
      have e4 : x % 64 < 64 := by omega
      rw [decide_eq_true e2, decide_eq_true e3.1, decide_eq_true e3.2, decide_eq_true e4]
    · have e4 : ¬ (y = x) := fun z => e2 (by rw [z])
      rw [decide_eq_false e2, decide_eq_false e4, Bool.and_false, Bool.and_false]
  · rw [if_neg e, hv]
    by_cases e4 : l' = l
    · by_cases e5 : y = x
      · subst e4 e5
        exact absurd rfl e
      · rw [decide_eq_false e5, Bool.and_false, Bool.or_false]
    · rw [decide_eq_false e4, Bool.false_and, Bool.or_false]
theorem zx_put {post : SX → Prop} {r l x : Nat} {F : Nat → Nat → Bool} {w0 : Nat → Int64} (hr : r < 3) (hl : l ≤ 3) (hx : x < 8 ^ l) (hV : zw_LV wd r F) (hR : zw_FR wd w0 r) (h : ∀ wd', zw_LV wd' r (fun l' y => F l' y || (decide (l' = l) && decide (y = x))) → zw_FR wd' w0 r → post (zf_P c, zf_K c, zf_A c, zf_B c, zf_Z c, zf_WK c, zf_WA c, zf_WB c, zf_N c, wd', bf, bo, te)) : wpX_put post (zf_P c, zf_K c, zf_A c, zf_B c, zf_Z c, zf_WK c, zf_WA c, zf_WB c, zf_N c, wd, bf, bo, te) (nI r) (nI l) (nI x) := by
  have hw := zw_ix hl hx
  unfold wpX_put wpX_wordOf
  dsimp only
  rw [zx_word hl hx, zn_63 x (zn_x512 hl hx), nI_clamp (by omega)]
  refine ⟨vp_in_nI (by omega) (by omega), vp_in_nI (by omega) (by omega), fun w ew => ?_⟩
  subst ew
  refine h _ (zx_putw hl hx hV) ?_
  intro j hj
  unfold vp_updL
  rw [if_neg (by omega)]
  exact hR j hj
theorem zx_codes {post : Int32 → Prop} {l : Nat} (hl : l ≤ 3) (h : post (nI (8 ^ l))) : wpX_codes post (nI l) := by
  unfold wpX_codes
  rw [zn_codes l (by omega)]
  exact h
theorem zx_has {post : Int32 → Prop} (ok : zc_ok c) {f : Nat} (hf : f < 7) (h : post (zn_b (zc_t c f))) : wpX_has post (zf_P c, zf_K c, zf_A c, zf_B c, zf_Z c, zf_WK c, zf_WA c, zf_WB c, zf_N c, wd, bf, bo, te) (nI f) := by
  unfold wpX_has
  dsimp only
  refine br_f (nI_pos (by omega)) (br_f (nI_ge (b := 7) hf (by decide)) ?_)
  have e1 : ((zf_P c >>> (nI f &&& 31)) &&& 1) = zn_b (zc_t c f) := zn_has (zc_p c) ok.1 f hf
  rw [e1]
  exact zn_br (fun e => by rw [e] at h; exact h) (fun e => by rw [e] at h; exact h)
/-! X: one demand, one fact -/
def zm_eq (te : Nat → Int32) (t : Nat → Nat) : Prop := ∀ x, x < 3 → t x ≤ 4 ∧ te x = nI (t x)
theorem zx_meets {post : Int32 → SX → Prop} {d v : Nat} {t : Nat → Nat} (hd : d < 8) (hv : v < 4) (ht : zm_eq te t) (h : ∀ te', zm_eq te' (zm_mb d v t) → post (zn_b (zm_mt d v t)) (zf_P c, zf_K c, zf_A c, zf_B c, zf_Z c, zf_WK c, zf_WA c, zf_WB c, zf_N c, wd, bf, bo, te')) : wpX_meets post (zf_P c, zf_K c, zf_A c, zf_B c, zf_Z c, zf_WK c, zf_WA c, zf_WB c, zf_N c, wd, bf, bo, te) (nI d) (nI v) := by
  unfold wpX_meets wX_meets_11
  dsimp only
  by_cases h7 : d = 7
  · subst h7
    have e1 : zm_mt 7 v t = true := rfl
    have e2 : zm_mb 7 v t = t := if_neg (fun z => z.2.1 rfl)
    rw [e1, e2] at h
    exact br_f (by decide) (br_t rfl (br_t rfl (h te ht)))
  · have h7' : ¬ nI d = 7 := fun z => h7 ((nI_eq (b := 7) (by omega) (by decide)).mp z)
    by_cases h4 : d < 4
    · have e2 : zm_mb d v t = t := if_neg (fun z => by omega)
      have e1 : zm_mt d v t = decide (d = v) := by unfold zm_mt; rw [if_neg h7, if_pos h4]
      rw [e1, e2] at h
      refine br_t (nI_lt (b := 4) h4 (by decide)) (br_f h7' (pk_eq d v (fun e => ?_) (fun e => ?_)))
      · have h' := h te ht
        rw [decide_eq_true e] at h'
        exact h'
      · have h' := h te ht
        rw [decide_eq_false e] at h'
        exact h'
    · refine br_f (nI_nlt (b := 4) (by omega) (by omega)) (br_f h7' (nm_r (e' := nI (d - 4)) (pk_sub (b := 4) (by omega)) ?_))
      rw [nI_clamp (by omega)]
      have hx := ht (d - 4) (by omega)
      refine ⟨vp_in_nI (by omega) (by decide), pk_eq (t (d - 4)) 4 (fun e => ?_) (fun e => ?_) hx.2 rfl (by omega)⟩
      · refine ⟨vp_in_nI (by omega) (by decide), fun w ew => ?_⟩
        subst ew
        have e1 : zm_mt d v t = true := by unfold zm_mt; rw [if_neg h7, if_neg h4, if_pos e]
        have e2 : zm_mb d v t = fun x => if x = d - 4 then v else t x := if_pos ⟨by omega, h7, e⟩
        rw [e1] at h
        refine h _ ?_
        rw [e2, zn_nar2 (by omega)]
        intro x hx3
        unfold upd
        by_cases ex : x = d - 4
        · simp only [if_pos ex]
          exact ⟨by omega, trivial⟩
        · simp only [if_neg ex]
          exact ht x hx3
      · refine ⟨vp_in_nI (by omega) (by decide), ?_⟩
        have e1 : zm_mt d v t = decide (t (d - 4) = v) := by unfold zm_mt; rw [if_neg h7, if_neg h4, if_neg e]
        have e2 : zm_mb d v t = t := if_neg (fun z => e z.2.2)
        rw [e1, e2] at h
        have h' := h te ht
        refine pk_eq (t (d - 4)) v (fun e => ?_) (fun e => ?_) hx.2 rfl (by omega)
        · rw [decide_eq_true e] at h'
          exact h'
        · rw [decide_eq_false e] at h'
          exact h'
theorem zx_f94_s {post : Int32 → SX → Prop} {n j : Nat} (hj : j < 3) (h : wX_fits_94 post 1 1 (zf_P c) n (nI (j + 1)) (zf_K c) (zf_A c) (zf_B c) (zf_Z c) (zf_WK c) (zf_WA c) (zf_WB c) (zf_N c) wd bf (upd bo j (vp_nar .byte (te j))) te) : wX_fits_94 post 1 1 (zf_P c) (n + 1) (nI j) (zf_K c) (zf_A c) (zf_B c) (zf_Z c) (zf_WK c) (zf_WA c) (zf_WB c) (zf_N c) wd bf bo te := by
  unfold wX_fits_94
  refine br_f (nI_ge (b := 3) hj (by decide)) (br_f (by decide) (br_f (by decide) ⟨vp_in_nI hj (by decide), vp_in_nI hj (by decide), ?_⟩))
  rw [nI_clamp (by omega)]
  exact nm_e (nm_r (nI_1 j) h)
theorem zx_f94_1 {post : Int32 → SX → Prop} {t : Nat → Nat} (ht : zm_eq te t) (h : ∀ bo', zm_eq bo' t → post 1 (zf_P c, zf_K c, zf_A c, zf_B c, zf_Z c, zf_WK c, zf_WA c, zf_WB c, zf_N c, wd, bf, bo', te)) : ∃ n, wX_fits_94 post 1 1 (zf_P c) n 0 (zf_K c) (zf_A c) (zf_B c) (zf_Z c) (zf_WK c) (zf_WA c) (zf_WB c) (zf_N c) wd bf bo te := by
  refine ⟨4, zx_f94_s (j := 0) (by decide) (zx_f94_s (j := 1) (by decide) (zx_f94_s (j := 2) (by decide) ?_))⟩
  unfold wX_fits_94
  refine br_t (nI_le (a := 3) (by decide) (by decide)) ⟨narrow_b1, h _ ?_⟩
  have n0 := ht 0 (by decide)
  have n1 := ht 1 (by decide)
  have n2 := ht 2 (by decide)
  intro x hx
  rw [n0.2, n1.2, n2.2, zn_nar (by omega), zn_nar (by omega), zn_nar (by omega)]
  match x, hx with
  | 0, _ => exact ⟨n0.1, rfl⟩
  | 1, _ => exact ⟨n1.1, rfl⟩
  | 2, _ => exact ⟨n2.1, rfl⟩
theorem zx_f94 {post : Int32 → SX → Prop} {t t' : Nat → Nat} (ke g : Bool) (ht : zm_eq te t') (hb : zm_eq bo t) (h : ∀ bo', zm_eq bo' (if (ke && g) = true then t' else t) → post (zn_b g) (zf_P c, zf_K c, zf_A c, zf_B c, zf_Z c, zf_WK c, zf_WA c, zf_WB c, zf_N c, wd, bf, bo', te)) : ∃ n, wX_fits_94 post (zn_b ke) (zn_b g) (zf_P c) n 0 (zf_K c) (zf_A c) (zf_B c) (zf_Z c) (zf_WK c) (zf_WA c) (zf_WB c) (zf_N c) wd bf bo te := by
  cases g with
  | false =>
    refine ⟨1, ?_⟩
    unfold wX_fits_94
    rw [Bool.and_false] at h
    exact br_f (by decide) (br_t rfl ⟨narrow_b0, h bo hb⟩)
  | true =>
    cases ke with
    | false =>
      refine ⟨1, ?_⟩
      unfold wX_fits_94
      exact br_f (by decide) (br_f (by decide) (br_t rfl ⟨narrow_b1, h bo hb⟩))
    | true => exact zx_f94_1 ht h
theorem zx_f20_s {post : Int32 → SX → Prop} {x1 x2 x3 : Int32} {n j : Nat} (hj : j < 3) (h : wX_fits_20 post x1 x2 x3 (zf_P c) n (nI (j + 1)) (zf_K c) (zf_A c) (zf_B c) (zf_Z c) (zf_WK c) (zf_WA c) (zf_WB c) (zf_N c) wd bf bo (upd te j (vp_nar .byte (bo j)))) : wX_fits_20 post x1 x2 x3 (zf_P c) (n + 1) (nI j) (zf_K c) (zf_A c) (zf_B c) (zf_Z c) (zf_WK c) (zf_WA c) (zf_WB c) (zf_N c) wd bf bo te := by
  unfold wX_fits_20
  refine br_f (nI_ge (b := 3) hj (by decide)) ⟨vp_in_nI hj (by decide), vp_in_nI hj (by decide), ?_⟩
  rw [nI_clamp (by omega)]
  exact nm_e (nm_r (nI_1 j) h)
theorem zx_f20_e {post : Int32 → SX → Prop} {n i f : Nat} {t : Nat → Nat} (ke : Bool) (ok : zc_ok c) (hi : i < 9) (hf : f < 7) (ek : zc_k c f = zc_w c i % 4) (ht : zm_eq te t) (hb : zm_eq bo t) (h : ∀ bo' te', zm_eq bo' (if (ke && zm_F c i f t) = true then zm_G c i f t else t) → post (zn_b (zm_F c i f t)) (zf_P c, zf_K c, zf_A c, zf_B c, zf_Z c, zf_WK c, zf_WA c, zf_WB c, zf_N c, wd, bf, bo', te')) : wX_fits_20 post (nI i) (nI f) (zn_b ke) (zf_P c) (n + 1) (nI 3) (zf_K c) (zf_A c) (zf_B c) (zf_Z c) (zf_WK c) (zf_WA c) (zf_WB c) (zf_N c) wd bf bo te := by
  have hF : zm_F c i f t = (zm_mt (zc_w c i / 4 % 8) (zc_a c f) t && zm_mt (zc_w c i / 32 % 8) (zc_b c f) (zm_mb (zc_w c i / 4 % 8) (zc_a c f) t)) := by
    unfold zm_F
    rw [decide_eq_true ek, Bool.true_and]
  unfold wX_fits_20
  refine br_t (nI_le (a := 3) (by decide) (by decide)) ⟨vp_in_nI hi (by decide), vp_in_nI hf (by decide), ?_⟩
  rw [nI_clamp (by omega), nI_clamp (by omega)]
  refine zx_meets (d := zc_w c i / 4 % 8) (v := zc_a c f) (t := t) (by omega) (ok.2.2.1 f) ht ?_
  intro te1 ht1
  dsimp only
  refine zn_br (fun e => ?_) (fun e => ?_)
  · have hF' : zm_F c i f t = false := by rw [hF, e, Bool.false_and]
    rw [hF'] at h
    exact zx_f94 ke false ht1 hb (fun bo' hb' => h bo' te1 (by rw [Bool.and_false] at hb' ⊢; exact hb'))
  · refine ⟨vp_in_nI hi (by decide), vp_in_nI hf (by decide), ?_⟩
    refine zx_meets (d := zc_w c i / 32 % 8) (v := zc_b c f) (t := zm_mb (zc_w c i / 4 % 8) (zc_a c f) t) (by omega) (ok.2.2.2.1 f) ht1 ?_
    intro te2 ht2
    dsimp only
    rw [e, Bool.true_and] at hF
    refine zn_br (fun e2 => ?_) (fun e2 => ?_)
    · rw [hF, e2] at h
      exact zx_f94 ke false ht2 hb (fun bo' hb' => h bo' te2 hb')
    · rw [hF, e2] at h
      exact zx_f94 ke true ht2 hb (fun bo' hb' => h bo' te2 hb')
theorem zx_fits {post : Int32 → SX → Prop} {i f : Nat} {t : Nat → Nat} (ke : Bool) (ok : zc_ok c) (hi : i < 9) (hf : f < 7) (hb : zm_eq bo t) (h : ∀ bo' te', zm_eq bo' (if (ke && zm_F c i f t) = true then zm_G c i f t else t) → post (zn_b (zm_F c i f t)) (zf_P c, zf_K c, zf_A c, zf_B c, zf_Z c, zf_WK c, zf_WA c, zf_WB c, zf_N c, wd, bf, bo', te')) : wpX_fits post (zf_P c, zf_K c, zf_A c, zf_B c, zf_Z c, zf_WK c, zf_WA c, zf_WB c, zf_N c, wd, bf, bo, te) (nI i) (nI f) (zn_b ke) := by
  unfold wpX_fits
  dsimp only
  refine ⟨vp_in_nI hf (by decide), vp_in_nI hi (by decide), ?_⟩
  rw [nI_clamp (by omega), nI_clamp (by omega)]
  have hk := ok.2.1 f
  refine pk_eq (zc_k c f) (zc_w c i % 4) (fun e => ?_) (fun e => ?_) rfl rfl (by omega) (by omega)
  · refine ⟨4, zx_f20_s (j := 0) (by decide) (zx_f20_s (j := 1) (by decide) (zx_f20_s (j := 2) (by decide) ?_))⟩
    refine zx_f20_e (t := t) ke ok hi hf e ?_ hb h
    have n0 := hb 0 (by decide)
    have n1 := hb 1 (by decide)
    have n2 := hb 2 (by decide)
    intro x hx
    rw [n0.2, n1.2, n2.2, zn_nar (by omega), zn_nar (by omega), zn_nar (by omega)]
    match x, hx with
    | 0, _ => exact ⟨n0.1, rfl⟩
    | 1, _ => exact ⟨n1.1, rfl⟩
    | 2, _ => exact ⟨n2.1, rfl⟩
  · have hF : zm_F c i f t = false := by
      unfold zm_F
      rw [decide_eq_false e, Bool.false_and]
    rw [hF, Bool.and_false] at h
    exact h bo te hb
end
end
section
/-! X: bindings along a code, any fact, one partial match extended -/
section
variable {c : zc_C} {wd bf : Nat → Int64} {bo te : Nat → Int32}
theorem zx_fits0 {post : Int32 → SX → Prop} {i f : Nat} {t : Nat → Nat} (ok : zc_ok c) (hi : i < 9) (hf : f < 7) (hb : zm_eq bo t) (h : ∀ bo' te', zm_eq bo' t → post (zn_b (zm_F c i f t)) (zf_P c, zf_K c, zf_A c, zf_B c, zf_Z c, zf_WK c, zf_WA c, zf_WB c, zf_N c, wd, bf, bo', te')) : wpX_fits post (zf_P c, zf_K c, zf_A c, zf_B c, zf_Z c, zf_WK c, zf_WA c, zf_WB c, zf_N c, wd, bf, bo, te) (nI i) (nI f) 0 :=
  zx_fits false ok hi hf hb (fun bo' te' hb' => h bo' te' hb')
theorem zx_fits1 {post : Int32 → SX → Prop} {i f : Nat} {t : Nat → Nat} (ok : zc_ok c) (hi : i < 9) (hf : f < 7) (hb : zm_eq bo t) (h : ∀ bo' te', zm_eq bo' (if zm_F c i f t = true then zm_G c i f t else t) → post (zn_b (zm_F c i f t)) (zf_P c, zf_K c, zf_A c, zf_B c, zf_Z c, zf_WK c, zf_WA c, zf_WB c, zf_N c, wd, bf, bo', te')) : wpX_fits post (zf_P c, zf_K c, zf_A c, zf_B c, zf_Z c, zf_WK c, zf_WA c, zf_WB c, zf_N c, wd, bf, bo, te) (nI i) (nI f) 1 :=
  zx_fits true ok hi hf hb (fun bo' te' hb' => h bo' te' (by rw [Bool.true_and] at hb'; exact hb'))
theorem zx_cell (r i : Nat) : nI r * 3 + nI i = nI (3 * r + i) := by
  rw [show nI r * 3 = nI (r * 3) from pk_mul r 3, nI_add, Nat.mul_comm r 3]
theorem zx_b26 {post : SX → Prop} {r l x : Nat} (ok : zc_ok c) (hr : r < 3) (hl : l ≤ 3) (hx : x < 512) (h : ∀ bo' te', zm_eq bo' (zm_bd c r x l) → post (zf_P c, zf_K c, zf_A c, zf_B c, zf_Z c, zf_WK c, zf_WA c, zf_WB c, zf_N c, wd, bf, bo', te')) : ∀ d i n bo te, i + d = l → d < n → zm_eq bo (zm_bd c r x i) → wX_bindAlong_26 post (nI r) (nI l) (nI x) n (nI i) (zf_P c) (zf_K c) (zf_A c) (zf_B c) (zf_Z c) (zf_WK c) (zf_WA c) (zf_WB c) (zf_N c) wd bf bo te := by
  intro d
  induction d with
  | zero =>
    intro i n bo te hi hn hb
    obtain ⟨m, rfl⟩ : ∃ m, n = m + 1 := ⟨n - 1, by omega⟩
    obtain rfl : i = l := by omega
    unfold wX_bindAlong_26
    exact br_t (nI_le (by omega) (by omega)) (h bo te hb)
  | succ d ih =>
    intro i n bo te hi hn hb
    obtain ⟨m, rfl⟩ : ∃ m, n = m + 1 := ⟨n - 1, by omega⟩
    have hg := zm_g8 x i
    unfold wX_bindAlong_26
    refine br_f (nI_ge (by omega) (by omega)) (nm_r (e' := nI (zm_g x i)) (zn_dig x hx i (by omega)) ?_)
    refine pk_eq (zm_g x i) 7 (fun e => ?_) (fun e => ?_) rfl rfl (by omega)
    · exact nm_r (nI_1 i) (ih (i + 1) m bo te (by omega) (by omega) (by rw [zm_bd, if_pos e]; exact hb))
    · rw [zx_cell]
      refine zx_fits1 (t := zm_bd c r x i) ok (by omega) (by omega) hb ?_
      intro bo' te' hb'
      dsimp only
      exact nm_r (nI_1 i) (ih (i + 1) m bo' te' (by omega) (by omega) (by rw [zm_bd, if_neg e]; exact hb'))
theorem zx_b3_s {post : SX → Prop} {x1 x2 x3 : Int32} {n j : Nat} (hj : j < 3) (h : wX_bindAlong_3 post x1 x2 x3 (zf_P c) n (nI (j + 1)) (zf_K c) (zf_A c) (zf_B c) (zf_Z c) (zf_WK c) (zf_WA c) (zf_WB c) (zf_N c) wd bf (upd bo j 4) te) : wX_bindAlong_3 post x1 x2 x3 (zf_P c) (n + 1) (nI j) (zf_K c) (zf_A c) (zf_B c) (zf_Z c) (zf_WK c) (zf_WA c) (zf_WB c) (zf_N c) wd bf bo te := by
  unfold wX_bindAlong_3
  refine br_f (nI_ge (b := 3) hj (by decide)) ⟨vp_in_nI hj (by decide), ?_⟩
  rw [nI_clamp (by omega), show vp_nar .byte 4 = 4 from zn_nar (v := 4) (by decide)]
  exact nm_e (nm_r (nI_1 j) h)
theorem zx_bind {post : SX → Prop} {r l x : Nat} (ok : zc_ok c) (hr : r < 3) (hl : l ≤ 3) (hx : x < 512) (h : ∀ bo' te', zm_eq bo' (zm_bd c r x l) → post (zf_P c, zf_K c, zf_A c, zf_B c, zf_Z c, zf_WK c, zf_WA c, zf_WB c, zf_N c, wd, bf, bo', te')) : wpX_bindAlong post (zf_P c, zf_K c, zf_A c, zf_B c, zf_Z c, zf_WK c, zf_WA c, zf_WB c, zf_N c, wd, bf, bo, te) (nI r) (nI l) (nI x) := by
  unfold wpX_bindAlong
  dsimp only
  refine ⟨4, zx_b3_s (j := 0) (by decide) (zx_b3_s (j := 1) (by decide) (zx_b3_s (j := 2) (by decide) ?_))⟩
  unfold wX_bindAlong_3
  refine br_t (nI_le (a := 3) (by decide) (by decide)) ⟨l + 1, zx_b26 ok hr hl hx h l 0 (l + 1) _ te (by omega) (by omega) ?_⟩
  intro x hx
  match x, hx with
  | 0, _ => exact ⟨Nat.le_refl 4, rfl⟩
  | 1, _ => exact ⟨Nat.le_refl 4, rfl⟩
  | 2, _ => exact ⟨Nat.le_refl 4, rfl⟩
theorem zx_any2 {post : Int32 → SX → Prop} {i : Nat} {t : Nat → Nat} (ok : zc_ok c) (hi : i < 9) (h : ∀ bo' te', zm_eq bo' t → post (zn_b (zm_an c i t 7)) (zf_P c, zf_K c, zf_A c, zf_B c, zf_Z c, zf_WK c, zf_WA c, zf_WB c, zf_N c, wd, bf, bo', te')) : ∀ d g n bo te, g + d = 7 → d < n → zm_eq bo t → zm_an c i t g = false → wX_anyFits_2 post (nI i) n (nI g) (zf_P c) (zf_K c) (zf_A c) (zf_B c) (zf_Z c) (zf_WK c) (zf_WA c) (zf_WB c) (zf_N c) wd bf bo te := by
  intro d
  induction d with
  | zero =>
    intro g n bo te hg hn hb hz
    obtain ⟨m, rfl⟩ : ∃ m, n = m + 1 := ⟨n - 1, by omega⟩
    obtain rfl : g = 7 := by omega
    unfold wX_anyFits_2
    rw [hz] at h
    exact br_t (nI_le (a := 7) (by omega) (by omega)) (h bo te hb)
  | succ d ih =>
    intro g n bo te hg hn hb hz
    obtain ⟨m, rfl⟩ : ∃ m, n = m + 1 := ⟨n - 1, by omega⟩
    unfold wX_anyFits_2
    refine br_f (nI_ge (b := 7) (by omega) (by omega)) (zx_has ok (by omega) ?_)
    refine zn_br (fun e => ?_) (fun e => ?_)
    · exact nm_r (nI_1 g) (ih (g + 1) m bo te (by omega) (by omega) hb (by rw [zm_an, hz, e]; rfl))
    · refine zx_fits0 (t := t) ok hi (by omega) hb ?_
      intro bo' te' hb'
      dsimp only
      refine zn_br (fun e2 => ?_) (fun e2 => ?_)
      · exact nm_r (nI_1 g) (ih (g + 1) m bo' te' (by omega) (by omega) hb' (by rw [zm_an, hz, e2, Bool.and_false]; rfl))
      · have e3 : zm_an c i t 7 = true := zm_an_mono (m := g + 1) (by omega) (by rw [zm_an, e, e2, Bool.true_and, Bool.or_true])
        rw [e3] at h
        exact h bo' te' hb'
theorem zx_any {post : Int32 → SX → Prop} {i : Nat} {t : Nat → Nat} (ok : zc_ok c) (hi : i < 9) (hb : zm_eq bo t) (h : ∀ bo' te', zm_eq bo' t → post (zn_b (zm_an c i t 7)) (zf_P c, zf_K c, zf_A c, zf_B c, zf_Z c, zf_WK c, zf_WA c, zf_WB c, zf_N c, wd, bf, bo', te')) : wpX_anyFits post (zf_P c, zf_K c, zf_A c, zf_B c, zf_Z c, zf_WK c, zf_WA c, zf_WB c, zf_N c, wd, bf, bo, te) (nI i) := by
  unfold wpX_anyFits
  dsimp only
  exact ⟨8, zx_any2 ok hi h 7 0 8 bo te (by omega) (by omega) hb rfl⟩
end
/-! X: a negated condition -/
section
variable {c : zc_C} {wd bf w0 : Nat → Int64} {bo te : Nat → Int32} {F : Nat → Nat → Bool} {r l x : Nat} {t : Nat → Nat} {post : SX → Prop}
theorem zx_en95 (o : Bool) (hr : r < 3) (hl : l < 3) (hx : x < 8 ^ l) (hV : zw_LV wd r F) (hR : zw_FR wd w0 r) (h : ∀ wd' bo' te', zw_LV wd' r (fun l' y => F l' y || (decide (l' = l + 1) && (decide (y = x + 7 * 8 ^ l) && o))) → zw_FR wd' w0 r → post (zf_P c, zf_K c, zf_A c, zf_B c, zf_Z c, zf_WK c, zf_WA c, zf_WB c, zf_N c, wd', bf, bo', te')) : wX_extendNegated_95 post (nI l) (nI r) (nI (x + 7 * 8 ^ l)) (zn_b o) (zf_P c) (zf_K c) (zf_A c) (zf_B c) (zf_Z c) (zf_WK c) (zf_WA c) (zf_WB c) (zf_N c) wd bf bo te := by
  unfold wX_extendNegated_95
  cases o with
  | false => exact br_t rfl (h wd bo te (zw_LVc hV (fun l' _ y _ => by rw [Bool.and_false, Bool.and_false, Bool.or_false])) hR)
  | true =>
    refine br_f (by decide) ?_
    rw [nI_1 l]
    refine zx_put hr (by omega) (zm_sq hl hx (by decide)).1 hV hR ?_
    intro wd' hV' hR'
    exact h wd' bo te (zw_LVc hV' (fun l' _ y _ => by rw [Bool.and_true])) hR'
theorem zx_en80 (ok : zc_ok c) (hr : r < 3) (hl : l < 3) (hx : x < 8 ^ l) (hb : zm_eq bo t) (hV : zw_LV wd r F) (hR : zw_FR wd w0 r) (h : ∀ wd' bo' te', zw_LV wd' r (fun l' y => F l' y || (decide (l' = l + 1) && (decide (y = x + 7 * 8 ^ l) && !(zm_an c (3 * r + l) t 7)))) → zw_FR wd' w0 r → post (zf_P c, zf_K c, zf_A c, zf_B c, zf_Z c, zf_WK c, zf_WA c, zf_WB c, zf_N c, wd', bf, bo', te')) : wX_extendNegated_80 post (nI (3 * r + l)) (nI l) (nI r) (nI (x + 7 * 8 ^ l)) (zf_P c) (zf_K c) (zf_A c) (zf_B c) (zf_Z c) (zf_WK c) (zf_WA c) (zf_WB c) (zf_N c) wd bf bo te := by
  unfold wX_extendNegated_80 wX_extendNegated_93
  refine zx_any (t := t) ok (by omega) hb ?_
  intro bo' te' hb'
  dsimp only
  refine zn_br (fun e => ?_) (fun e => ?_)
  · rw [e] at h
    exact zx_en95 true hr hl hx hV hR h
  · rw [e] at h
    exact zx_en95 false hr hl hx hV hR h
theorem zx_en39 {f : Nat} (we ad : Bool) (ok : zc_ok c) (hr : r < 3) (hl : l < 3) (hx : x < 8 ^ l) (hf : f < 7) (hb : zm_eq bo t) (hV : zw_LV wd r F) (hR : zw_FR wd w0 r) (h1 : zm_F c (3 * r + l) f t = false → we = !(zm_an c (3 * r + l) t 7)) (h2 : zm_F c (3 * r + l) f t = true → ad = true → false = !(zm_an c (3 * r + l) t 7)) (h : ∀ wd' bo' te', zw_LV wd' r (fun l' y => F l' y || (decide (l' = l + 1) && (decide (y = x + 7 * 8 ^ l) && !(zm_an c (3 * r + l) t 7)))) → zw_FR wd' w0 r → post (zf_P c, zf_K c, zf_A c, zf_B c, zf_Z c, zf_WK c, zf_WA c, zf_WB c, zf_N c, wd', bf, bo', te')) : wX_extendNegated_39 post (nI (3 * r + l)) (nI l) 1 (nI f) (zn_b ad) (nI r) (nI (x + 7 * 8 ^ l)) (zn_b we) (zf_P c) (zf_K c) (zf_A c) (zf_B c) (zf_Z c) (zf_WK c) (zf_WA c) (zf_WB c) (zf_N c) wd bf bo te := by
  unfold wX_extendNegated_39
  refine br_f (by decide) (zx_fits0 (t := t) ok (by omega) hf hb ?_)
  intro bo' te' hb'
  dsimp only
  refine zn_br (fun e => ?_) (fun e => ?_)
  · rw [← h1 e] at h
    exact zx_en95 we hr hl hx hV hR h
  · unfold wX_extendNegated_64
    refine br_f (by decide) ?_
    cases ad with
    | false => exact br_t rfl (zx_en80 ok hr hl hx hb' hV hR h)
    | true =>
      rw [← h2 e rfl] at h
      exact br_f (by decide) (zx_en95 false hr hl hx hV hR h)
theorem zx_extNeg {fI : Int32} (od ad : Bool) (ok : zc_ok c) (hr : r < 3) (hl : l < 3) (hx : x < 8 ^ l) (hb : zm_eq bo t) (hV : zw_LV wd r F) (hR : zw_FR wd w0 r) (hH : od = true → ∃ f, f < 7 ∧ fI = nI f ∧ (zm_F c (3 * r + l) f t = false → zw_i bf r (l + 1) (x + 7 * 8 ^ l) = !(zm_an c (3 * r + l) t 7)) ∧ (zm_F c (3 * r + l) f t = true → ad = true → false = !(zm_an c (3 * r + l) t 7))) (h : ∀ wd' bo' te', zw_LV wd' r (fun l' y => F l' y || (decide (l' = l + 1) && (decide (y = x + 7 * 8 ^ l) && !(zm_an c (3 * r + l) t 7)))) → zw_FR wd' w0 r → post (zf_P c, zf_K c, zf_A c, zf_B c, zf_Z c, zf_WK c, zf_WA c, zf_WB c, zf_N c, wd', bf, bo', te')) : wpX_extendNegated post (zf_P c, zf_K c, zf_A c, zf_B c, zf_Z c, zf_WK c, zf_WA c, zf_WB c, zf_N c, wd, bf, bo, te) (nI (3 * r + l)) (nI x) (nI l) (zn_b od) fI (zn_b ad) := by
  unfold wpX_extendNegated
  dsimp only
  have e3 : nI (3 * r + l) / 3 = nI r := by
    rw [show nI (3 * r + l) / 3 = nI ((3 * r + l) / 3) from pk_div (d := 3) (by omega) (by decide) (by decide)]
    exact congrArg nI (by omega)
  refine ⟨by decide, nm_r e3 (nm_r (zn_next l hl x hx 7 (by decide)) ?_)⟩
  cases od with
  | false =>
    refine br_t rfl ?_
    unfold wX_extendNegated_38 wX_extendNegated_39 wX_extendNegated_64
    exact br_t rfl (br_t rfl (zx_en80 ok hr hl hx hb hV hR h))
  | true =>
    obtain ⟨f, hf, rfl, h1, h2⟩ := hH rfl
    refine br_f (by decide) ?_
    rw [nI_1 l]
    refine zx_wasIn hr (by omega) (zm_sq hl hx (by decide)).1 ?_
    refine zn_br (fun e => ?_) (fun e => ?_)
    · unfold wX_extendNegated_38
      rw [e] at h1
      exact zx_en39 false ad ok hr hl hx hf hb hV hR h1 h2 h
    · rw [e] at h1
      exact zx_en39 true ad ok hr hl hx hf hb hV hR h1 h2 h
end
end
section
/-! X: a plain condition, and extend -/
section
variable {c : zc_C} {wd bf w0 : Nat → Int64} {bo te : Nat → Int32} {F : Nat → Nat → Bool} {r l x : Nat} {t : Nat → Nat} {post : SX → Prop} {g : Nat} {fI x7 : Int32} {J : Int32 → Int32 → (Nat → Int32) → (Nat → Int32) → (Nat → Int32) → (Nat → Int32) → (Nat → Int32) → (Nat → Int32) → (Nat → Int32) → (Nat → Int32) → (Nat → Int64) → (Nat → Int64) → (Nat → Int32) → (Nat → Int32) → Prop}
theorem zx_e150 (hr : r < 3) (hl : l < 3) (hx : x < 8 ^ l) (hg : g < 7) (hb : zm_eq bo t) (hV : zw_LV wd r F) (hR : zw_FR wd w0 r) (h : ∀ wd' bo' te', zw_LV wd' r (fun l' y => F l' y || (decide (l' = l + 1) && (decide (y = x + g * 8 ^ l) && true))) → zw_FR wd' w0 r → zm_eq bo' t → J (nI (g + 1)) (zf_P c) (zf_K c) (zf_A c) (zf_B c) (zf_Z c) (zf_WK c) (zf_WA c) (zf_WB c) (zf_N c) wd' bf bo' te') : wX_extend_150 post J (nI r) (nI l) (nI x) fI (nI (3 * r + l)) x7 (nI g) (nI (x + g * 8 ^ l)) (zf_P c) (zf_K c) (zf_A c) (zf_B c) (zf_Z c) (zf_WK c) (zf_WA c) (zf_WB c) (zf_N c) wd bf bo te := by
  unfold wX_extend_150
  rw [nI_1 l]
  refine zx_put hr (by omega) (zm_sq hl hx (by omega)).1 hV hR ?_
  intro wd' hV' hR'
  dsimp only
  exact nm_r (nI_1 g) (h wd' bo te (zw_LVc hV' (fun l' _ y _ => by rw [Bool.and_true])) hR' hb)
theorem zx_e126 (ke lk : Bool) (ok : zc_ok c) (hr : r < 3) (hl : l < 3) (hx : x < 8 ^ l) (hg : g < 7) (hb : zm_eq bo t) (hV : zw_LV wd r F) (hR : zw_FR wd w0 r) (h : ∀ wd' bo' te', zw_LV wd' r (fun l' y => F l' y || (decide (l' = l + 1) && (decide (y = x + g * 8 ^ l) && (ke || (lk && zm_F c (3 * r + l) g t))))) → zw_FR wd' w0 r → zm_eq bo' t → J (nI (g + 1)) (zf_P c) (zf_K c) (zf_A c) (zf_B c) (zf_Z c) (zf_WK c) (zf_WA c) (zf_WB c) (zf_N c) wd' bf bo' te') : wX_extend_126 post J (nI r) (nI l) (nI x) fI (nI (3 * r + l)) x7 (nI g) (nI (x + g * 8 ^ l)) (zn_b ke) (zn_b lk) (zf_P c) (zf_K c) (zf_A c) (zf_B c) (zf_Z c) (zf_WK c) (zf_WA c) (zf_WB c) (zf_N c) wd bf bo te := by
  unfold wX_extend_126
  cases ke with
  | true =>
    rw [Bool.true_or] at h
    exact br_f (by decide) (zx_e150 hr hl hx hg hb hV hR h)
  | false =>
    rw [Bool.false_or] at h
    refine br_t rfl ?_
    cases lk with
    | false =>
      rw [Bool.false_and] at h
      exact br_t rfl (nm_r (nI_1 g) (h wd bo te (zw_LVc hV (fun l' _ y _ => by rw [Bool.and_false, Bool.and_false, Bool.or_false])) hR hb))
    | true =>
      rw [Bool.true_and] at h
      refine br_f (by decide) (zx_fits0 (t := t) ok (by omega) hg hb ?_)
      intro bo' te' hb'
      dsimp only
      refine zn_br (fun e => ?_) (fun e => ?_)
      · rw [e] at h
        exact nm_r (nI_1 g) (h wd bo' te' (zw_LVc hV (fun l' _ y _ => by rw [Bool.and_false, Bool.and_false, Bool.or_false])) hR hb')
      · rw [e] at h
        exact zx_e150 hr hl hx hg hb' hV hR h
theorem zx_e98 (od ke lk : Bool) (ok : zc_ok c) (hr : r < 3) (hl : l < 3) (hx : x < 8 ^ l) (hg : g < 7) (hb : zm_eq bo t) (hV : zw_LV wd r F) (hR : zw_FR wd w0 r) (h0 : od = false → lk = true) (h1 : od = true → ∃ f, f < 7 ∧ fI = nI f ∧ lk = decide (g = f)) (h : ∀ wd' bo' te', zw_LV wd' r (fun l' y => F l' y || (decide (l' = l + 1) && (decide (y = x + g * 8 ^ l) && (ke || ((zc_t c g && lk) && zm_F c (3 * r + l) g t))))) → zw_FR wd' w0 r → zm_eq bo' t → J (nI (g + 1)) (zf_P c) (zf_K c) (zf_A c) (zf_B c) (zf_Z c) (zf_WK c) (zf_WA c) (zf_WB c) (zf_N c) wd' bf bo' te') : wX_extend_98 post J (nI r) (nI l) (nI x) fI (nI (3 * r + l)) (zn_b od) (nI g) (nI (x + g * 8 ^ l)) (zn_b ke) (zf_P c) (zf_K c) (zf_A c) (zf_B c) (zf_Z c) (zf_WK c) (zf_WA c) (zf_WB c) (zf_N c) wd bf bo te := by
  unfold wX_extend_98 wX_extend_125 wX_extend_121
  refine zx_has ok hg ?_
  refine zn_br (fun e => ?_) (fun e => ?_)
  · rw [e, Bool.false_and] at h
    exact zx_e126 ke false ok hr hl hx hg hb hV hR h
  · rw [e, Bool.true_and] at h
    cases od with
    | false =>
      rw [h0 rfl] at h
      exact br_t rfl (zx_e126 ke true ok hr hl hx hg hb hV hR h)
    | true =>
      obtain ⟨f, hf, rfl, e2⟩ := h1 rfl
      refine br_f (by decide) (pk_eq g f (fun e3 => ?_) (fun e3 => ?_))
      · rw [e2, decide_eq_true e3] at h
        exact zx_e126 ke true ok hr hl hx hg hb hV hR h
      · rw [e2, decide_eq_false e3] at h
        exact zx_e126 ke false ok hr hl hx hg hb hV hR h
end
/-- the sets while the slots of one partial match are gone through -/
def zm_Fg (c : zc_C) (r l x : Nat) (t : Nat → Nat) (F : Nat → Nat → Bool) (g : Nat) : Nat → Nat → Bool := fun l' y => F l' y || (decide (l' = l + 1) && (decide (y % 8 ^ l = x) && (decide (y / 8 ^ l < g) && zm_st c (3 * r + l) t (y / 8 ^ l))))
theorem zm_Fg0 {c : zc_C} {r l x : Nat} {t : Nat → Nat} {F : Nat → Nat → Bool} (l' y : Nat) : F l' y = zm_Fg c r l x t F 0 l' y := by
  unfold zm_Fg
  rw [decide_eq_false (Nat.not_lt_zero _), Bool.false_and, Bool.and_false, Bool.and_false, Bool.or_false]
theorem zm_Fgs {c : zc_C} {r l x : Nat} {t : Nat → Nat} {F : Nat → Nat → Bool} {g : Nat} (hl : l < 3) (hx : x < 8 ^ l) (hg : g < 8) {l' y : Nat} (hy : y < 8 ^ l') : (zm_Fg c r l x t F g l' y || (decide (l' = l + 1) && (decide (y = x + g * 8 ^ l) && zm_st c (3 * r + l) t g))) = zm_Fg c r l x t F (g + 1) l' y := by
  unfold zm_Fg
  by_cases e : l' = l + 1
  · subst e
    obtain ⟨h1, h2, h3⟩ := zm_sp hl hy
    obtain ⟨h4, h5, h6⟩ := zm_sq hl hx hg
    by_cases ex : y % 8 ^ l = x
    · rw [decide_eq_true ex]
      by_cases eg : y / 8 ^ l = g
      · have ey : y = x + g * 8 ^ l := by rw [← ex, ← eg]; exact h3
        rw [decide_eq_true ey, eg, decide_eq_false (Nat.lt_irrefl g), decide_eq_true (Nat.lt_succ_self g)]
        simp
      · have ey : ¬ y = x + g * 8 ^ l := fun z => eg (by rw [z]; exact h6)
        rw [decide_eq_false ey]
        by_cases e2 : y / 8 ^ l < g
        · rw [decide_eq_true e2, decide_eq_true (show y / 8 ^ l < g + 1 by omega)]
          simp
        · rw [decide_eq_false e2, decide_eq_false (show ¬ y / 8 ^ l < g + 1 by omega)]
          simp
    · have ey : ¬ y = x + g * 8 ^ l := fun z => ex (by rw [z]; exact h5)
      rw [decide_eq_false ex, decide_eq_false ey]
      simp
  · rw [decide_eq_false e]
    simp
/-- the sets behind one partial match -/
def zm_Fe (c : zc_C) (r l x : Nat) (F : Nat → Nat → Bool) : Nat → Nat → Bool := fun l' y => F l' y || (decide (l' = l + 1) && (decide (y % 8 ^ l = x) && zm_st c (3 * r + l) (zm_bd c r x l) (y / 8 ^ l)))
section
variable {c : zc_C} {wd bf w0 : Nat → Int64} {bo te : Nat → Int32} {F : Nat → Nat → Bool} {r l x : Nat} {post : SX → Prop} {fI : Int32}
theorem zx_e51 {t : Nat → Nat} (od ad : Bool) (ok : zc_ok c) (hr : r < 3) (hl : l < 3) (hx : x < 8 ^ l) (hw : ¬ 256 ≤ zc_w c (3 * r + l)) (hH : od = true → ∃ f, f < 7 ∧ fI = nI f ∧ ∀ g, g < 7 → g ≠ f → zw_i bf r (l + 1) (x + g * 8 ^ l) = zm_st c (3 * r + l) t g) (h : ∀ wd' bo' te', zw_LV wd' r (zm_Fg c r l x t F 7) → zw_FR wd' w0 r → post (zf_P c, zf_K c, zf_A c, zf_B c, zf_Z c, zf_WK c, zf_WA c, zf_WB c, zf_N c, wd', bf, bo', te')) : ∀ d g n wd bo te, g + d = 7 → d < n → zm_eq bo t → zw_LV wd r (zm_Fg c r l x t F g) → zw_FR wd w0 r → wX_extend_51 post (nI r) (nI l) (nI x) fI (nI (3 * r + l)) (zn_b od) n (nI g) (zf_P c) (zf_K c) (zf_A c) (zf_B c) (zf_Z c) (zf_WK c) (zf_WA c) (zf_WB c) (zf_N c) wd bf bo te := by
  intro d
  induction d with
  | zero =>
    intro g n wd bo te hg hn hb hV hR
    obtain ⟨m, rfl⟩ : ∃ m, n = m + 1 := ⟨n - 1, by omega⟩
    obtain rfl : g = 7 := by omega
    unfold wX_extend_51
    exact br_t (nI_le (a := 7) (by omega) (by omega)) (h wd bo te hV hR)
  | succ d ih =>
    intro g n wd bo te hg hn hb hV hR
    obtain ⟨m, rfl⟩ : ∃ m, n = m + 1 := ⟨n - 1, by omega⟩
    have hst : zm_st c (3 * r + l) t g = (zc_t c g && zm_F c (3 * r + l) g t) := by
      unfold zm_st
      rw [if_neg hw, decide_eq_true (show g ≠ 7 by omega), Bool.true_and]
    have K : ∀ (o : Bool), o = zm_st c (3 * r + l) t g → ∀ wd' bo' te', zw_LV wd' r (fun l' y => zm_Fg c r l x t F g l' y || (decide (l' = l + 1) && (decide (y = x + g * 8 ^ l) && o))) → zw_FR wd' w0 r → zm_eq bo' t → wX_extend_51 post (nI r) (nI l) (nI x) fI (nI (3 * r + l)) (zn_b od) m (nI (g + 1)) (zf_P c) (zf_K c) (zf_A c) (zf_B c) (zf_Z c) (zf_WK c) (zf_WA c) (zf_WB c) (zf_N c) wd' bf bo' te' := by
      intro o ho wd' bo' te' hV' hR' hb'
      subst ho
      exact ih (g + 1) m wd' bo' te' (by omega) (by omega) hb' (zw_LVc hV' (fun l' _ y hy => zm_Fgs hl hx (by omega) hy)) hR'
    unfold wX_extend_51
    refine br_f (nI_ge (b := 7) (by omega) (by omega)) (nm_r (zn_next l hl x hx g (by omega)) ?_)
    cases od with
    | false =>
      refine br_t rfl ?_
      unfold wX_extend_97
      exact zx_e98 false false true ok hr hl hx (by omega) hb hV hR (fun _ => rfl) (fun z => nomatch z) (K _ (by rw [hst, Bool.false_or, Bool.and_true]))
    | true =>
      obtain ⟨f, hf, rfl, h1⟩ := hH rfl
      refine br_f (by decide) (pk_eq g f (fun e => ?_) (fun e => ?_))
      · unfold wX_extend_97
        exact zx_e98 true false true ok hr hl hx (by omega) hb hV hR (fun _ => rfl) (fun _ => ⟨f, hf, rfl, (decide_eq_true e).symm⟩) (K _ (by rw [hst, Bool.false_or, Bool.and_true]))
      · rw [nI_1 l]
        refine zx_wasIn hr (by omega) (zm_sq hl hx (by omega)).1 ?_
        have h2 := h1 g (by omega) e
        refine zn_br (fun e2 => ?_) (fun e2 => ?_)
        · unfold wX_extend_97
          exact zx_e98 true false false ok hr hl hx (by omega) hb hV hR (fun z => nomatch z) (fun _ => ⟨f, hf, rfl, (decide_eq_false e).symm⟩) (K _ (by rw [← h2, e2, Bool.and_false, Bool.false_and, Bool.or_false]))
        · exact zx_e98 true true false ok hr hl hx (by omega) hb hV hR (fun z => nomatch z) (fun _ => ⟨f, hf, rfl, (decide_eq_false e).symm⟩) (K _ (by rw [← h2, e2, Bool.true_or]))
theorem zx_extend (ad : Bool) (ok : zc_ok c) (hr : r < 3) (hl : l < 3) (hx : x < 8 ^ l) (hV : zw_LV wd r F) (hR : zw_FR wd w0 r) (hH : zw_i bf r l x = true → ∃ f, f < 7 ∧ fI = nI f ∧ zm_H c r l x (zw_i bf r) f ad) (h : ∀ wd' bo' te', zw_LV wd' r (zm_Fe c r l x F) → zw_FR wd' w0 r → post (zf_P c, zf_K c, zf_A c, zf_B c, zf_Z c, zf_WK c, zf_WA c, zf_WB c, zf_N c, wd', bf, bo', te')) : wpX_extend post (zf_P c, zf_K c, zf_A c, zf_B c, zf_Z c, zf_WK c, zf_WA c, zf_WB c, zf_N c, wd, bf, bo, te) (nI r) (nI l) (nI x) fI (zn_b ad) := by
  have hx5 : x < 512 := zn_x512 (l := l) (by omega) hx
  unfold wpX_extend
  dsimp only
  refine nm_r (zx_cell r l) ?_
  refine zx_wasIn hr (by omega) hx ?_
  refine zx_bind ok hr (by omega) hx5 ?_
  intro bo1 te1 hb1
  dsimp only
  refine ⟨vp_in_nI (by omega) (by decide), ?_⟩
  rw [nI_clamp (by omega)]
  refine zn_br (fun e => ?_) (fun e => ?_)
  · have hw : ¬ 256 ≤ zc_w c (3 * r + l) := of_decide_eq_false e
    refine ⟨8, zx_e51 (t := zm_bd c r x l) (F := F) (w0 := w0) (zw_i bf r l x) ad ok hr hl hx hw ?_ ?_ 7 0 8 wd bo1 te1 (by omega) (by omega) hb1 (zw_LVc hV (fun l' _ y _ => zm_Fg0 l' y)) hR⟩
    · intro e1
      obtain ⟨f, hf, ef, h1, _⟩ := hH e1
      exact ⟨f, hf, ef, h1 hw⟩
    · intro wd' bo' te' hV' hR'
      refine h wd' bo' te' (zw_LVc hV' (fun l' _ y hy => ?_)) hR'
      unfold zm_Fg zm_Fe
      by_cases el : l' = l + 1
      · subst el
        obtain ⟨h1, h2, h3⟩ := zm_sp hl hy
        by_cases e7 : y / 8 ^ l = 7
        · have es : zm_st c (3 * r + l) (zm_bd c r x l) 7 = false := by
            unfold zm_st
            rw [if_neg hw]
            rfl
          rw [e7, es, Bool.and_false]
        · rw [decide_eq_true (show y / 8 ^ l < 7 by omega), Bool.true_and]
      · rw [decide_eq_false el, Bool.false_and, Bool.false_and]
  · have hw : 256 ≤ zc_w c (3 * r + l) := of_decide_eq_true e
    have e7 : zm_st c (3 * r + l) (zm_bd c r x l) 7 = !(zm_an c (3 * r + l) (zm_bd c r x l) 7) := by
      unfold zm_st
      rw [if_pos hw]
      rfl
    refine zx_extNeg (t := zm_bd c r x l) (F := F) (w0 := w0) (zw_i bf r l x) ad ok hr hl hx hb1 hV hR ?_ ?_
    · intro e1
      obtain ⟨f, hf, ef, _, h1⟩ := hH e1
      have h2 := h1 hw
      rw [e7] at h2
      exact ⟨f, hf, ef, h2.1, fun a b => (h2.2 a b).symm⟩
    · intro wd' bo' te' hV' hR'
      refine h wd' bo' te' (zw_LVc hV' (fun l' _ y hy => ?_)) hR'
      unfold zm_Fe
      by_cases el : l' = l + 1
      · subst el
        obtain ⟨h1, h2, h3⟩ := zm_sp hl hy
        obtain ⟨h4, h5, h6⟩ := zm_sq hl hx (show 7 < 8 by decide)
        by_cases ey : y = x + 7 * 8 ^ l
        · rw [decide_eq_true ey, ey, h5, h6, e7, decide_eq_true (rfl : x = x)]
        · rw [decide_eq_false ey, Bool.false_and, Bool.and_false]
          by_cases ex : y % 8 ^ l = x
          · have es : zm_st c (3 * r + l) (zm_bd c r x l) (y / 8 ^ l) = false := by
              unfold zm_st
              rw [if_pos hw, decide_eq_false (show ¬ y / 8 ^ l = 7 from fun z => ey (by rw [← ex, ← z]; exact h3)), Bool.false_and]
            rw [es, Bool.and_false, Bool.and_false]
          · rw [decide_eq_false ex, Bool.false_and, Bool.and_false]
      · rw [decide_eq_false el, Bool.false_and, Bool.false_and]
end
end
section
/-! X: a rule brought up to date -/
def zm_Fv (c : zc_C) (r l : Nat) : Nat → Nat → Bool := fun l' y => if l' ≤ l then zm_M c r y l' else false
def zm_Fu (c : zc_C) (r l x : Nat) : Nat → Nat → Bool := fun l' y => if l' ≤ l then zm_M c r y l' else if l' = l + 1 then decide (y % 8 ^ l < x) && zm_M c r y (l + 1) else false
theorem zm_Fu0 {c : zc_C} {r l : Nat} (l' y : Nat) : zm_Fv c r l l' y = zm_Fu c r l 0 l' y := by
  unfold zm_Fv zm_Fu
  by_cases h : l' ≤ l
  · rw [if_pos h, if_pos h]
  · rw [if_neg h, if_neg h, decide_eq_false (Nat.not_lt_zero _), Bool.false_and, ite_self]
theorem zm_Fue {c : zc_C} {r l : Nat} (hl : l < 3) (l' y : Nat) : zm_Fu c r l (8 ^ l) l' y = zm_Fv c r (l + 1) l' y := by
  unfold zm_Fv zm_Fu
  by_cases h : l' ≤ l
  · rw [if_pos h, if_pos (show l' ≤ l + 1 by omega)]
  · rw [if_neg h]
    by_cases h2 : l' = l + 1
    · subst h2
      have h8 := (zn_8 (l := l) (by omega)).1
      rw [if_pos rfl, if_pos (Nat.le_refl _), decide_eq_true (Nat.mod_lt y h8), Bool.true_and]
    · rw [if_neg h2, if_neg (show ¬ l' ≤ l + 1 by omega)]
theorem zm_Fus0 {c : zc_C} {r l x : Nat} (hl : l < 3) (hM : zm_M c r x l = false) {l' y : Nat} (hy : y < 8 ^ l') : zm_Fu c r l x l' y = zm_Fu c r l (x + 1) l' y := by
  unfold zm_Fu
  by_cases h : l' ≤ l
  · rw [if_pos h, if_pos h]
  · rw [if_neg h, if_neg h]
    by_cases h2 : l' = l + 1
    · subst h2
      rw [if_pos rfl, if_pos rfl, zm_Ms hl hy]
      by_cases e : y % 8 ^ l = x
      · rw [e, hM, Bool.false_and, Bool.and_false, Bool.and_false]
      · by_cases e2 : y % 8 ^ l < x
        · rw [decide_eq_true e2, decide_eq_true (show y % 8 ^ l < x + 1 by omega)]
        · rw [decide_eq_false e2, decide_eq_false (show ¬ y % 8 ^ l < x + 1 by omega)]
    · rw [if_neg h2, if_neg h2]
theorem zm_Fus1 {c : zc_C} {r l x : Nat} (hl : l < 3) (hM : zm_M c r x l = true) {l' y : Nat} (hy : y < 8 ^ l') : zm_Fe c r l x (zm_Fu c r l x) l' y = zm_Fu c r l (x + 1) l' y := by
  unfold zm_Fe zm_Fu
  by_cases h2 : l' = l + 1
  · subst h2
    rw [if_neg (show ¬ l + 1 ≤ l by omega), if_neg (show ¬ l + 1 ≤ l by omega), if_pos rfl, if_pos rfl, zm_Ms hl hy, decide_eq_true (rfl : l + 1 = l + 1), Bool.true_and]
    by_cases e : y % 8 ^ l = x
    · rw [e, hM, decide_eq_false (Nat.lt_irrefl x), decide_eq_true (rfl : x = x), decide_eq_true (Nat.lt_succ_self x)]
      simp
    · rw [decide_eq_false e, Bool.false_and, Bool.or_false]
      by_cases e2 : y % 8 ^ l < x
      · rw [decide_eq_true e2, decide_eq_true (show y % 8 ^ l < x + 1 by omega)]
      · rw [decide_eq_false e2, decide_eq_false (show ¬ y % 8 ^ l < x + 1 by omega)]
  · rw [decide_eq_false h2, Bool.false_and, Bool.or_false, if_neg h2, if_neg h2]
section
variable {c : zc_C} {bf w0 : Nat → Int64} {r : Nat} {post : SX → Prop} {fI : Int32} {J : Int32 → Int32 → (Nat → Int32) → (Nat → Int32) → (Nat → Int32) → (Nat → Int32) → (Nat → Int32) → (Nat → Int32) → (Nat → Int32) → (Nat → Int32) → (Nat → Int64) → (Nat → Int64) → (Nat → Int32) → (Nat → Int32) → Prop}
theorem zx_u106 {l : Nat} (ad : Bool) (ok : zc_ok c) (hr : r < 3) (hl : l < 3) (hH : ∀ x, x < 8 ^ l → zm_M c r x l = true → zw_i bf r l x = true → ∃ f, f < 7 ∧ fI = nI f ∧ zm_H c r l x (zw_i bf r) f ad) (h : ∀ wd' bo' te', zw_LV wd' r (zm_Fv c r (l + 1)) → zw_FR wd' w0 r → J (nI (l + 1)) (zf_P c) (zf_K c) (zf_A c) (zf_B c) (zf_Z c) (zf_WK c) (zf_WA c) (zf_WB c) (zf_N c) wd' bf bo' te') : ∀ d x n wd bo te, x + d = 8 ^ l → d < n → zw_LV wd r (zm_Fu c r l x) → zw_FR wd w0 r → wX_update_106 post J (nI r) fI (zn_b ad) (nI l) n (nI x) (zf_P c) (zf_K c) (zf_A c) (zf_B c) (zf_Z c) (zf_WK c) (zf_WA c) (zf_WB c) (zf_N c) wd bf bo te := by
  have h8 := zn_8 (l := l) (by omega)
  intro d
  induction d with
  | zero =>
    intro x n wd bo te hx hn hV hR
    obtain ⟨m, rfl⟩ : ∃ m, n = m + 1 := ⟨n - 1, by omega⟩
    obtain rfl : x = 8 ^ l := by omega
    unfold wX_update_106
    refine zx_codes (by omega) ?_
    exact br_t (nI_le (Nat.le_refl _) (by omega)) (nm_r (nI_1 l) (h wd bo te (zw_LVc hV (fun l' _ y _ => zm_Fue hl l' y)) hR))
  | succ d ih =>
    intro x n wd bo te hx hn hV hR
    obtain ⟨m, rfl⟩ : ∃ m, n = m + 1 := ⟨n - 1, by omega⟩
    have hx8 : x < 8 ^ l := by omega
    have hM : zw_i wd r l x = zm_M c r x l := by
      rw [hV l (by omega) x hx8]
      exact if_pos (Nat.le_refl l)
    unfold wX_update_106
    refine zx_codes (by omega) ?_
    refine br_f (nI_ge hx8 (by omega)) ?_
    refine zx_isIn hr (by omega) hx8 ?_
    refine zn_br (fun e => ?_) (fun e => ?_)
    · rw [hM] at e
      exact nm_r (nI_1 x) (ih (x + 1) m wd bo te (by omega) (by omega) (zw_LVc hV (fun l' _ y hy => zm_Fus0 hl e hy)) hR)
    · rw [hM] at e
      refine zx_extend (F := zm_Fu c r l x) (w0 := w0) ad ok hr hl hx8 hV hR (hH x hx8 e) ?_
      intro wd' bo' te' hV' hR'
      dsimp only
      exact nm_r (nI_1 x) (ih (x + 1) m wd' bo' te' (by omega) (by omega) (zw_LVc hV' (fun l' _ y hy => zm_Fus1 hl e hy)) hR')
theorem zx_u92 (ad : Bool) (ok : zc_ok c) (hr : r < 3) (hH : ∀ l, l < zc_z c r → ∀ x, x < 8 ^ l → zm_M c r x l = true → zw_i bf r l x = true → ∃ f, f < 7 ∧ fI = nI f ∧ zm_H c r l x (zw_i bf r) f ad) (h : ∀ wd' bo' te', zw_LV wd' r (zm_Fv c r (zc_z c r)) → zw_FR wd' w0 r → post (zf_P c, zf_K c, zf_A c, zf_B c, zf_Z c, zf_WK c, zf_WA c, zf_WB c, zf_N c, wd', bf, bo', te')) : ∀ d l n wd bo te, l + d = zc_z c r → d < n → zw_LV wd r (zm_Fv c r l) → zw_FR wd w0 r → wX_update_92 post (nI r) fI (zn_b ad) n (nI l) (zf_P c) (zf_K c) (zf_A c) (zf_B c) (zf_Z c) (zf_WK c) (zf_WA c) (zf_WB c) (zf_N c) wd bf bo te := by
  have hz := ok.2.2.2.2.1 r
  intro d
  induction d with
  | zero =>
    intro l n wd bo te hx hn hV hR
    obtain ⟨m, rfl⟩ : ∃ m, n = m + 1 := ⟨n - 1, by omega⟩
    obtain rfl : l = zc_z c r := by omega
    unfold wX_update_92
    rw [nI_clamp (by omega)]
    exact ⟨vp_in_nI hr (by decide), br_t (show nI (zc_z c r) ≤ nI (zc_z c r) from nI_le (Nat.le_refl _) (by omega)) (h wd bo te hV hR)⟩
  | succ d ih =>
    intro l n wd bo te hx hn hV hR
    obtain ⟨m, rfl⟩ : ∃ m, n = m + 1 := ⟨n - 1, by omega⟩
    unfold wX_update_92
    rw [nI_clamp (by omega)]
    refine ⟨vp_in_nI hr (by decide), br_f (show ¬ nI (zc_z c r) ≤ nI l from nI_ge (by omega) (by omega)) ?_⟩
    refine ⟨8 ^ l + 1, zx_u106 ad ok hr (by omega) (hH l (by omega)) ?_ (8 ^ l) 0 (8 ^ l + 1) wd bo te (by omega) (by omega) (zw_LVc hV (fun l' _ y _ => zm_Fu0 l' y)) hR⟩
    intro wd' bo' te' hV' hR'
    exact ih (l + 1) m wd' bo' te' (by omega) (by omega) hV' hR'
end
theorem zw_b1 : (1 : Int64).toBitVec.getLsbD 0 = true := by decide
theorem zw_b0 (k : Nat) : (0 : Int64).toBitVec.getLsbD k = false := by
  show (0#64).getLsbD k = false
  exact BitVec.getLsbD_zero
/-- the copy of the words at w cells of rule r -/
def zm_U3 (ke : Bool) (r w : Nat) (wd0 wd bf : Nat → Int64) : Prop := (∀ j, r * 11 ≤ j → j < r * 11 + w → bf j = (if ke = true then wd0 j else 0) ∧ wd j = 0) ∧ (∀ j, (j < r * 11 ∨ r * 11 + w ≤ j) → wd j = wd0 j)
section
variable {c : zc_C} {r : Nat} {post : SX → Prop} {fI x3 : Int32} {wd0 : Nat → Int64} {bo te : Nat → Int32}
theorem zx_11 (r w : Nat) : nI r * 11 + nI w = nI (r * 11 + w) := by
  rw [show nI r * 11 = nI (r * 11) from pk_mul r 11, nI_add]
theorem zm_U3s {ke : Bool} {w : Nat} {wd bf : Nat → Int64} {v : Int64} (hU : zm_U3 ke r w wd0 wd bf) (hv : v = if ke = true then wd (r * 11 + w) else 0) : zm_U3 ke r (w + 1) wd0 (vp_updL wd (r * 11 + w) 0) (vp_updL bf (r * 11 + w) v) := by
  obtain ⟨h1, h2⟩ := hU
  constructor
  · intro j hj hj2
    by_cases e : j = r * 11 + w
    · subst e
      rw [pk_uLs, pk_uLs, hv, h2 _ (by omega)]
      exact ⟨rfl, rfl⟩
    · rw [pk_uLn e, pk_uLn e]
      exact h1 j hj (by omega)
  · intro j hj
    rw [pk_uLn (by omega)]
    exact h2 j (by omega)
theorem zm_U3e {ke : Bool} {wd bf : Nat → Int64} {v : Int64} (hU : zm_U3 ke r 11 wd0 wd bf) (hv : v = if ke = true then 1 else 0) : zw_LV (vp_updL wd (r * 11) 1) r (zm_Fv c r 0) ∧ zw_FR (vp_updL wd (r * 11) 1) wd0 r ∧ zw_LV (vp_updL bf (r * 11) v) r (fun l x => if ke = true then (if l = 0 then true else zw_i wd0 r l x) else false) := by
  obtain ⟨h1, h2⟩ := hU
  refine ⟨?_, ?_, ?_⟩
  · intro l hl x hx
    have hix := zw_ix hl hx
    unfold zw_i zm_Fv
    by_cases e : l = 0
    · subst e
      have e0 : x = 0 := by have : x < 1 := hx; omega
      subst e0
      rw [show r * 11 + 0 + 0 / 64 = r * 11 from rfl, pk_uLs]
      exact zw_b1
    · rw [pk_uLn (by omega), (h1 (r * 11 + l + x / 64) (by omega) (by omega)).2, if_neg (by omega)]
      exact zw_b0 _
  · intro j hj
    rw [pk_uLn (by omega)]
    exact h2 j hj
  · intro l hl x hx
    have hix := zw_ix hl hx
    unfold zw_i
    by_cases e : l = 0
    · subst e
      have e0 : x = 0 := by have : x < 1 := hx; omega
      subst e0
      rw [show r * 11 + 0 + 0 / 64 = r * 11 from rfl, pk_uLs, hv]
      cases ke with
      | true => exact zw_b1
      | false => exact zw_b0 _
    · rw [pk_uLn (by omega), (h1 (r * 11 + l + x / 64) (by omega) (by omega)).1]
      cases ke with
      | true =>
        show _ = if l = 0 then true else _
        rw [if_neg e]
        rfl
      | false => exact zw_b0 _
theorem zx_u3 (ke : Bool) (hr : r < 3) (hk : 0 ≤ fI ↔ ke = true) (h : ∀ wd' bf', zw_LV wd' r (zm_Fv c r 0) → zw_FR wd' wd0 r → zw_LV bf' r (fun l x => if ke = true then (if l = 0 then true else zw_i wd0 r l x) else false) → ∃ n, wX_update_92 post (nI r) fI x3 n 0 (zf_P c) (zf_K c) (zf_A c) (zf_B c) (zf_Z c) (zf_WK c) (zf_WA c) (zf_WB c) (zf_N c) wd' bf' bo te) : ∀ d w n wd bf, w + d = 11 → d < n → zm_U3 ke r w wd0 wd bf → wX_update_3 post (nI r) fI x3 (zf_P c) n (nI w) (zf_K c) (zf_A c) (zf_B c) (zf_Z c) (zf_WK c) (zf_WA c) (zf_WB c) (zf_N c) wd bf bo te := by
  have e11 : nI r * 11 = nI (r * 11) := pk_mul r 11
  intro d
  induction d with
  | zero =>
    intro w n wd bf hw hn hU
    obtain ⟨m, rfl⟩ : ∃ m, n = m + 1 := ⟨n - 1, by omega⟩
    obtain rfl : w = 11 := by omega
    unfold wX_update_3
    rw [e11, nI_clamp (by omega)]
    refine br_t (nI_le (a := 11) (by omega) (by omega)) ⟨vp_in_nI (by omega) (by decide), nm_e ?_⟩
    cases ke with
    | true =>
      have he := zm_U3e (c := c) (v := 1) hU rfl
      exact br_t (hk.mpr rfl) ⟨vp_in_nI (by omega) (by decide), nm_e (h _ _ he.1 he.2.1 he.2.2)⟩
    | false =>
      have he := zm_U3e (c := c) (v := 0) hU rfl
      exact br_f (fun z => Bool.noConfusion (hk.mp z)) ⟨vp_in_nI (by omega) (by decide), nm_e (h _ _ he.1 he.2.1 he.2.2)⟩
  | succ d ih =>
    intro w n wd bf hw hn hU
    obtain ⟨m, rfl⟩ : ∃ m, n = m + 1 := ⟨n - 1, by omega⟩
    unfold wX_update_3 wX_update_41
    rw [zx_11, nI_clamp (by omega)]
    refine br_f (nI_ge (b := 11) (by omega) (by omega)) ?_
    cases ke with
    | true =>
      refine br_t (hk.mpr rfl) ⟨vp_in_nI (by omega) (by decide), vp_in_nI (by omega) (by decide), nm_e ⟨vp_in_nI (by omega) (by decide), nm_e (nm_r (nI_1 w) ?_)⟩⟩
      exact ih (w + 1) m _ _ (by omega) (by omega) (zm_U3s hU rfl)
    | false =>
      refine br_f (fun z => Bool.noConfusion (hk.mp z)) ⟨vp_in_nI (by omega) (by decide), nm_e ⟨vp_in_nI (by omega) (by decide), nm_e (nm_r (nI_1 w) ?_)⟩⟩
      exact ih (w + 1) m _ _ (by omega) (by omega) (zm_U3s hU rfl)
end
section
variable {c : zc_C} {wd bf : Nat → Int64} {bo te : Nat → Int32} {r : Nat} {post : SX → Prop}
theorem zx_updG (ke : Bool) {fI : Int32} (ad : Bool) (ok : zc_ok c) (hr : r < 3) (hk : 0 ≤ fI ↔ ke = true) (hH : ∀ bf', zw_LV bf' r (fun l x => if ke = true then (if l = 0 then true else zw_i wd r l x) else false) → ∀ l, l < zc_z c r → ∀ x, x < 8 ^ l → zm_M c r x l = true → zw_i bf' r l x = true → ∃ f, f < 7 ∧ fI = nI f ∧ zm_H c r l x (zw_i bf' r) f ad) (h : ∀ wd' bf' bo' te', (∀ l, l ≤ zc_z c r → ∀ x, x < 8 ^ l → zw_i wd' r l x = zm_M c r x l) → zw_FR wd' wd r → post (zf_P c, zf_K c, zf_A c, zf_B c, zf_Z c, zf_WK c, zf_WA c, zf_WB c, zf_N c, wd', bf', bo', te')) : wpX_update post (zf_P c, zf_K c, zf_A c, zf_B c, zf_Z c, zf_WK c, zf_WA c, zf_WB c, zf_N c, wd, bf, bo, te) (nI r) fI (zn_b ad) := by
  have hz := ok.2.2.2.2.1 r
  unfold wpX_update
  dsimp only
  refine ⟨12, zx_u3 (wd0 := wd) ke hr hk ?_ 11 0 12 wd bf (by omega) (by omega) ⟨fun j h1 h2 => by omega, fun j _ => rfl⟩⟩
  intro wd' bf' hV hR hB
  refine ⟨zc_z c r + 1, zx_u92 (w0 := wd) ad ok hr (hH bf' hB) ?_ (zc_z c r) 0 _ wd' bo te (by omega) (by omega) hV hR⟩
  intro wd2 bo2 te2 hV2 hR2
  refine h wd2 bf' bo2 te2 (fun l hl x hx => ?_) hR2
  rw [hV2 l (by omega) x hx]
  exact if_pos hl
theorem zx_updA (ad : Bool) (ok : zc_ok c) (hr : r < 3) (h : ∀ wd' bf' bo' te', (∀ l, l ≤ zc_z c r → ∀ x, x < 8 ^ l → zw_i wd' r l x = zm_M c r x l) → zw_FR wd' wd r → post (zf_P c, zf_K c, zf_A c, zf_B c, zf_Z c, zf_WK c, zf_WA c, zf_WB c, zf_N c, wd', bf', bo', te')) : wpX_update post (zf_P c, zf_K c, zf_A c, zf_B c, zf_Z c, zf_WK c, zf_WA c, zf_WB c, zf_N c, wd, bf, bo, te) (nI r) (-1) (zn_b ad) := by
  have hz := ok.2.2.2.2.1 r
  refine zx_updG false ad ok hr ⟨fun z => absurd z (by decide), fun z => nomatch z⟩ ?_ h
  intro bf' hB l hl x hx _ hi
  rw [hB l (by omega) x hx] at hi
  exact nomatch hi
theorem zm_Hc {l x f : Nat} {ad : Bool} {S S' : Nat → Nat → Bool} (hl : l < 3) (hx : x < 8 ^ l) (e : ∀ y, y < 8 ^ (l + 1) → S' (l + 1) y = S (l + 1) y) (h : zm_H c r l x S f ad) : zm_H c r l x S' f ad := by
  refine ⟨fun hn g hg hgf => ?_, fun hn => ⟨fun hF => ?_, (h.2 hn).2⟩⟩
  · rw [e _ (zm_sq hl hx (by omega)).1]
    exact h.1 hn g hg hgf
  · rw [e _ (zm_sq hl hx (by omega)).1]
    exact (h.2 hn).1 hF
theorem zx_updB {f : Nat} (ad : Bool) (ok : zc_ok c) (hr : r < 3) (hf : f < 7) (h0 : zw_i wd r 0 0 = true) (hH : ∀ l, l < zc_z c r → ∀ x, x < 8 ^ l → zm_M c r x l = true → zw_i wd r l x = true → zm_H c r l x (zw_i wd r) f ad) (h : ∀ wd' bf' bo' te', (∀ l, l ≤ zc_z c r → ∀ x, x < 8 ^ l → zw_i wd' r l x = zm_M c r x l) → zw_FR wd' wd r → post (zf_P c, zf_K c, zf_A c, zf_B c, zf_Z c, zf_WK c, zf_WA c, zf_WB c, zf_N c, wd', bf', bo', te')) : wpX_update post (zf_P c, zf_K c, zf_A c, zf_B c, zf_Z c, zf_WK c, zf_WA c, zf_WB c, zf_N c, wd, bf, bo, te) (nI r) (nI f) (zn_b ad) := by
  have hz := ok.2.2.2.2.1 r
  refine zx_updG true ad ok hr ⟨fun _ => rfl, fun _ => nI_pos' (by omega)⟩ ?_ h
  intro bf' hB l hl x hx hM hi
  have hB' : ∀ l, l ≤ 3 → ∀ x, x < 8 ^ l → zw_i bf' r l x = zw_i wd r l x := by
    intro l hl x hx
    rw [hB l hl x hx]
    show (if l = 0 then true else zw_i wd r l x) = zw_i wd r l x
    by_cases e : l = 0
    · subst e
      have e0 : x = 0 := by have : x < 1 := hx; omega
      subst e0
      rw [if_pos rfl, h0]
    · rw [if_neg e]
  rw [hB' l (by omega) x hx] at hi
  exact ⟨f, hf, rfl, zm_Hc (by omega) hx (fun y hy => hB' (l + 1) (by omega) y hy) (hH l hl x hx hM hi)⟩
end
end
section
/-! counts and scans -/
def zk_n (q : Nat → Bool) : Nat → Nat
  | 0 => 0
  | n + 1 => zk_n q n + (if q n = true then 1 else 0)
theorem zk_le (q : Nat → Bool) (n : Nat) : zk_n q n ≤ n := by
  induction n with
  | zero => exact Nat.le_refl 0
  | succ n ih =>
    rw [zk_n]
    split <;> omega
theorem zk_t {q : Nat → Bool} {n : Nat} (h : q n = true) : zk_n q (n + 1) = zk_n q n + 1 := by rw [zk_n, if_pos h]
theorem zk_f {q : Nat → Bool} {n : Nat} (h : q n = false) : zk_n q (n + 1) = zk_n q n := by rw [zk_n, h]; rfl
theorem zk_c {q q' : Nat → Bool} : ∀ n, (∀ i, i < n → q i = q' i) → zk_n q n = zk_n q' n := by
  intro n
  induction n with
  | zero => intro _; rfl
  | succ n ih =>
    intro h
    rw [zk_n, zk_n, ih (fun i hi => h i (by omega)), h n (by omega)]
theorem zk_add (q : Nat → Bool) (a : Nat) : ∀ b, zk_n q (a + b) = zk_n q a + zk_n (fun i => q (a + i)) b := by
  intro b
  induction b with
  | zero => rfl
  | succ b ih =>
    rw [← Nat.add_assoc, zk_n, zk_n, ih]
    omega
theorem zk_z {q : Nat → Bool} : ∀ n, (∀ i, i < n → q i = false) → zk_n q n = 0 := by
  intro n
  induction n with
  | zero => intro _; rfl
  | succ n ih =>
    intro h
    rw [zk_f (h n (by omega)), ih (fun i hi => h i (by omega))]
/-- a count over 512 codes that begin at 512 - 8 ^ n -/
theorem zk_hi {q q' : Nat → Bool} {n : Nat} (hn : n ≤ 3) (h0 : ∀ i, i < 512 - 8 ^ n → q i = false) (h1 : ∀ y, y < 8 ^ n → q (512 - 8 ^ n + y) = q' y) : zk_n q 512 = zk_n q' (8 ^ n) := by
  have h8 := zn_8 hn
  have e : (512 : Nat) = (512 - 8 ^ n) + 8 ^ n := by omega
  have e2 := zk_add q (512 - 8 ^ n) (8 ^ n)
  rw [← e, zk_z _ h0, Nat.zero_add] at e2
  rw [e2]
  exact zk_c _ h1
def zk_s (q : Nat → Bool) (e : Nat → Int32) (k : Int32) : Nat → Nat → Nat → Int32
  | 0, _, _ => -1
  | d + 1, j, n => if q j = true then (if nI n = k then e j else zk_s q e k d (j + 1) (n + 1)) else zk_s q e k d (j + 1) n
theorem zk_slo {q : Nat → Bool} {e : Nat → Int32} {k : Int32} {b n : Nat} : ∀ a j, (∀ i, i < j + a → q i = false) → zk_s q e k (a + b) j n = zk_s q e k b (j + a) n := by
  intro a
  induction a with
  | zero => intro j _; rw [Nat.zero_add, Nat.add_zero]
  | succ a ih =>
    intro j h
    have e1 : a + 1 + b = (a + b) + 1 := by omega
    have e2 : j + (a + 1) = (j + 1) + a := by omega
    rw [e1, e2, zk_s, h j (by omega), if_neg (by decide)]
    exact ih (j + 1) (fun i hi => h i (by omega))
theorem zk_ssh {q q' : Nat → Bool} {e e' : Nat → Int32} {k : Int32} {s : Nat} : ∀ d j n, (∀ i, i < j + d → q (s + i) = q' i ∧ e (s + i) = e' i) → zk_s q e k d (s + j) n = zk_s q' e' k d j n := by
  intro d
  induction d with
  | zero => intro j n _; rfl
  | succ d ih =>
    intro j n h
    have h1 := h j (by omega)
    have h2 : ∀ m, zk_s q e k d (s + j + 1) m = zk_s q' e' k d (j + 1) m := fun m => ih (j + 1) m (fun i hi => h i (by omega))
    rw [zk_s, zk_s, h1.1, h1.2, h2, h2]
theorem zk_shi {q q' : Nat → Bool} {e e' : Nat → Int32} {k : Int32} {n : Nat} (hn : n ≤ 3) (h0 : ∀ i, i < 512 - 8 ^ n → q i = false) (h1 : ∀ y, y < 8 ^ n → q (512 - 8 ^ n + y) = q' y ∧ e (512 - 8 ^ n + y) = e' y) : zk_s q e k 512 0 0 = zk_s q' e' k (8 ^ n) 0 0 := by
  have h8 := zn_8 hn
  have e1 : (512 : Nat) = (512 - 8 ^ n) + 8 ^ n := by omega
  have e2 := zk_slo (q := q) (e := e) (k := k) (b := 8 ^ n) (n := 0) (512 - 8 ^ n) 0 (fun i hi => h0 i (by omega))
  rw [← e1, Nat.zero_add] at e2
  rw [e2]
  exact zk_ssh (s := 512 - 8 ^ n) (8 ^ n) 0 0 (fun y hy => h1 y (by omega))
/-! Y's matches are X's -/
def zy_M (c : zc_C) (r n x : Nat) : Nat → Bool
  | 0 => true
  | i + 1 => zy_M c r n x i && (if i < n then zm_st c (3 * r + i) (zm_bd c r x i) (zm_g x i) else decide (zm_g x i = 7))
theorem zy_M1 {c : zc_C} {r n x : Nat} : ∀ i, i ≤ n → zy_M c r n x i = zm_M c r x i := by
  intro i
  induction i with
  | zero => intro _; rfl
  | succ i ih =>
    intro h
    rw [zy_M, zm_M, ih (by omega), if_pos (by omega)]
theorem zy_Mlo {c : zc_C} {r n x : Nat} (hn : n ≤ 3) (hx : x < 512 - 8 ^ n) : zy_M c r n x 3 = false := by
  have e : ∀ i, n ≤ i → zy_M c r n x (i + 1) = (zy_M c r n x i && decide (zm_g x i = 7)) := by
    intro i hi
    rw [zy_M, if_neg (by omega)]
  match n, hn with
  | 0, _ =>
    have hx' : x < 511 := hx
    rw [e 2 (by omega), e 1 (by omega), e 0 (by omega)]
    by_cases h0 : zm_g x 0 = 7
    · by_cases h1 : zm_g x 1 = 7
      · have h2 : ¬ zm_g x 2 = 7 := by
          intro h2
          have a0 : x / 1 % 8 = 7 := h0
          have a1 : x / 8 % 8 = 7 := h1
          have a2 : x / 64 % 8 = 7 := h2
          omega
        rw [decide_eq_false h2, Bool.and_false]
      · rw [decide_eq_false h1, Bool.and_false, Bool.false_and]
    · rw [decide_eq_false h0, Bool.and_false, Bool.false_and, Bool.false_and]
  | 1, _ =>
    have hx' : x < 504 := hx
    rw [e 2 (by omega), e 1 (by omega)]
    by_cases h1 : zm_g x 1 = 7
    · have h2 : ¬ zm_g x 2 = 7 := by
        intro h2
        have a1 : x / 8 % 8 = 7 := h1
        have a2 : x / 64 % 8 = 7 := h2
        omega
      rw [decide_eq_false h2, Bool.and_false]
    · rw [decide_eq_false h1, Bool.and_false, Bool.false_and]
  | 2, _ =>
    have hx' : x < 448 := hx
    rw [e 2 (by omega)]
    have h2 : ¬ zm_g x 2 = 7 := by
      intro h2
      have a2 : x / 64 % 8 = 7 := h2
      omega
    rw [decide_eq_false h2, Bool.and_false]
  | 3, _ => exact absurd hx (Nat.not_lt_zero x)
theorem zy_ghi {n y i : Nat} (hn : n ≤ 3) (hi : i < n) : zm_g (512 - 8 ^ n + y) i = zm_g y i := by
  unfold zm_g
  match n, i, hn, hi with
  | 1, 0, _, _ => show (504 + y) / 1 % 8 = y / 1 % 8; omega
  | 2, 0, _, _ => show (448 + y) / 1 % 8 = y / 1 % 8; omega
  | 2, 1, _, _ => show (448 + y) / 8 % 8 = y / 8 % 8; omega
  | 3, 0, _, _ => show (0 + y) / 1 % 8 = y / 1 % 8; omega
  | 3, 1, _, _ => show (0 + y) / 8 % 8 = y / 8 % 8; omega
  | 3, 2, _, _ => show (0 + y) / 64 % 8 = y / 64 % 8; omega
theorem zy_g7 {n y i : Nat} (hy : y < 8 ^ n) (hi : n ≤ i) (h3 : i < 3) : zm_g (512 - 8 ^ n + y) i = 7 := by
  unfold zm_g
  match n, i, hi, h3 with
  | 0, 0, _, _ => have : y < 1 := hy; show (511 + y) / 1 % 8 = 7; omega
  | 0, 1, _, _ => have : y < 1 := hy; show (511 + y) / 8 % 8 = 7; omega
  | 0, 2, _, _ => have : y < 1 := hy; show (511 + y) / 64 % 8 = 7; omega
  | 1, 1, _, _ => have : y < 8 := hy; show (504 + y) / 8 % 8 = 7; omega
  | 1, 2, _, _ => have : y < 8 := hy; show (504 + y) / 64 % 8 = 7; omega
  | 2, 2, _, _ => have : y < 64 := hy; show (448 + y) / 64 % 8 = 7; omega
  | n + 3, i, hi, h3 => exact absurd h3 (by omega)
theorem zy_Mhi {c : zc_C} {r n y : Nat} (hn : n ≤ 3) (hy : y < 8 ^ n) : zy_M c r n (512 - 8 ^ n + y) 3 = zm_M c r y n := by
  have e : ∀ i, i + n ≤ 3 → zy_M c r n (512 - 8 ^ n + y) (n + i) = zm_M c r y n := by
    intro i
    induction i with
    | zero =>
      intro _
      rw [Nat.add_zero, zy_M1 n (Nat.le_refl n)]
      exact zm_Mc n (fun i hi => zy_ghi hn hi)
    | succ i ih =>
      intro hi
      rw [← Nat.add_assoc, zy_M, ih (by omega), if_neg (by omega), zy_g7 hy (by omega) (by omega)]
      exact Bool.and_true _
  have e2 := e (3 - n) (by omega)
  rw [show n + (3 - n) = 3 by omega] at e2
  exact e2
/-- the count of the matches of the first n conditions -/
def zk_M (c : zc_C) (r n : Nat) : Nat := zk_n (fun y => zm_M c r y n) (8 ^ n)
theorem zk_YM {c : zc_C} {r n : Nat} (hn : n ≤ 3) : zk_n (fun x => zy_M c r n x 3) 512 = zk_M c r n :=
  zk_hi hn (fun _ hi => zy_Mlo hn hi) (fun _ hy => zy_Mhi hn hy)
theorem zk_M512 {c : zc_C} {r n : Nat} (hn : n ≤ 3) : zk_M c r n ≤ 512 := Nat.le_trans (zk_le _ _) (zn_8 hn).2
/-! a fact in a code -/
def zk_h (y f : Nat) : Nat → Bool
  | 0 => false
  | l + 1 => zk_h y f l || decide (zm_g y l = f)
def zk_yh (x f : Nat) : Bool := decide (x % 8 = f) || (decide (x / 8 % 8 = f) || decide (x / 64 = f))
theorem zk_yhh {n y f : Nat} (hn : n ≤ 3) (hy : y < 8 ^ n) (hf : f < 7) : zk_yh (512 - 8 ^ n + y) f = zk_h y f n := by
  unfold zk_yh
  match n, hn with
  | 0, _ =>
    have hy' : y < 1 := hy
    show (decide ((511 + y) % 8 = f) || (decide ((511 + y) / 8 % 8 = f) || decide ((511 + y) / 64 = f))) = false
    rw [decide_eq_false (by omega), decide_eq_false (by omega), decide_eq_false (by omega)]
    rfl
  | 1, _ =>
    have hy' : y < 8 := hy
    show (decide ((504 + y) % 8 = f) || (decide ((504 + y) / 8 % 8 = f) || decide ((504 + y) / 64 = f))) = (false || decide (y / 1 % 8 = f))
    rw [decide_eq_false (show ¬ (504 + y) / 8 % 8 = f by omega), decide_eq_false (show ¬ (504 + y) / 64 = f by omega), show (504 + y) % 8 = y / 1 % 8 by omega]
    simp
  | 2, _ =>
    have hy' : y < 64 := hy
    show (decide ((448 + y) % 8 = f) || (decide ((448 + y) / 8 % 8 = f) || decide ((448 + y) / 64 = f))) = ((false || decide (y / 1 % 8 = f)) || decide (y / 8 % 8 = f))
    rw [decide_eq_false (show ¬ (448 + y) / 64 = f by omega), show (448 + y) % 8 = y / 1 % 8 by omega, show (448 + y) / 8 % 8 = y / 8 % 8 by omega]
    simp
  | 3, _ =>
    have hy' : y < 512 := hy
    show (decide ((0 + y) % 8 = f) || (decide ((0 + y) / 8 % 8 = f) || decide ((0 + y) / 64 = f))) = (((false || decide (y / 1 % 8 = f)) || decide (y / 8 % 8 = f)) || decide (y / 64 % 8 = f))
    rw [show (0 + y) % 8 = y / 1 % 8 by omega, show (0 + y) / 8 % 8 = y / 8 % 8 by omega, show (0 + y) / 64 = y / 64 % 8 by omega, Bool.false_or, Bool.or_assoc]
/-- the uses of fact f in rule r -/
def zk_u (c : zc_C) (r f : Nat) : Nat := zk_n (fun y => zm_M c r y (zc_z c r) && zk_h y f (zc_z c r)) (8 ^ zc_z c r)
def zk_Y (c : zc_C) (f x : Nat) : Bool := zk_yh (x % 512) f && zy_M c (x / 512) (zc_z c (x / 512)) (x % 512) 3
theorem zk_yu1 {c : zc_C} {r f : Nat} (ok : zc_ok c) (hf : f < 7) : zk_n (fun x => zk_yh x f && zy_M c r (zc_z c r) x 3) 512 = zk_u c r f := by
  have hz := ok.2.2.2.2.1 r
  refine zk_hi hz (fun i hi => ?_) (fun y hy => ?_)
  · rw [zy_Mlo hz hi, Bool.and_false]
  · rw [zy_Mhi hz hy, zk_yhh hz hy hf, Bool.and_comm]
theorem zk_yu {c : zc_C} {f : Nat} (ok : zc_ok c) (hf : f < 7) : zk_n (zk_Y c f) 1536 = zk_u c 0 f + zk_u c 1 f + zk_u c 2 f := by
  have e := zk_add (zk_Y c f) 512 1024
  have e2 := zk_add (fun i => zk_Y c f (512 + i)) 512 512
  have a0 : zk_n (zk_Y c f) 512 = zk_u c 0 f := by
    rw [← zk_yu1 ok hf]
    refine zk_c _ (fun i hi => ?_)
    unfold zk_Y
    rw [show i % 512 = i by omega, show i / 512 = 0 by omega]
  have a1 : zk_n (fun i => zk_Y c f (512 + i)) 512 = zk_u c 1 f := by
    rw [← zk_yu1 ok hf]
    refine zk_c _ (fun i hi => ?_)
    unfold zk_Y
    rw [show (512 + i) % 512 = i by omega, show (512 + i) / 512 = 1 by omega]
  have a2 : zk_n (fun i => zk_Y c f (512 + (512 + i))) 512 = zk_u c 2 f := by
    rw [← zk_yu1 ok hf]
    refine zk_c _ (fun i hi => ?_)
    unfold zk_Y
    rw [show (512 + (512 + i)) % 512 = i by omega, show (512 + (512 + i)) / 512 = 2 by omega]
  rw [show (512 : Nat) + 1024 = 1536 from rfl] at e
  rw [show (512 : Nat) + 512 = 1024 from rfl] at e2
  rw [e, e2, a0, a1, a2, Nat.add_assoc]
/-! the steps of the abstract state -/
def zc_add (c : zc_C) (f k a b : Nat) : zc_C := (zc_p c ||| 2 ^ f, (fun g => if g = f then k else zc_k c g), (fun g => if g = f then a else zc_a c g), (fun g => if g = f then b else zc_b c g), zc_z c, zc_w c)
def zc_rem (c : zc_C) (f : Nat) : zc_C := (zc_p c ^^^ 2 ^ f, zc_k c, zc_a c, zc_b c, zc_z c, zc_w c)
def zc_con (c : zc_C) (r w : Nat) : zc_C := (zc_p c, zc_k c, zc_a c, zc_b c, (fun q => if q = r then zc_z c r + 1 else zc_z c q), (fun i => if i = 3 * r + zc_z c r then w else zc_w c i))
def zc_dro (c : zc_C) (r : Nat) : zc_C := (zc_p c, zc_k c, zc_a c, zc_b c, (fun q => if q = r then zc_z c r - 1 else zc_z c q), zc_w c)
theorem zc_addok {c : zc_C} {f k a b : Nat} (ok : zc_ok c) (hf : f < 7) (hk : k < 3) (ha : a < 4) (hb : b < 4) : zc_ok (zc_add c f k a b) := by
  refine ⟨zn_set128 _ ok.1 f hf, fun g => ?_, fun g => ?_, fun g => ?_, ok.2.2.2.2.1, ok.2.2.2.2.2⟩
  · show (if g = f then k else zc_k c g) < 4
    split
    · omega
    · exact ok.2.1 g
  · show (if g = f then a else zc_a c g) < 4
    split
    · exact ha
    · exact ok.2.2.1 g
  · show (if g = f then b else zc_b c g) < 4
    split
    · exact hb
    · exact ok.2.2.2.1 g
theorem zc_remok {c : zc_C} {f : Nat} (ok : zc_ok c) (hf : f < 7) : zc_ok (zc_rem c f) := ⟨zn_clr128 _ ok.1 f hf, ok.2⟩
theorem zc_conok {c : zc_C} {r w : Nat} (ok : zc_ok c) (hz : zc_z c r < 3) (hw : w < 512) : zc_ok (zc_con c r w) := by
  refine ⟨ok.1, ok.2.1, ok.2.2.1, ok.2.2.2.1, fun q => ?_, fun i => ?_⟩
  · show (if q = r then zc_z c r + 1 else zc_z c q) ≤ 3
    split
    · omega
    · exact ok.2.2.2.2.1 q
  · show (if i = 3 * r + zc_z c r then w else zc_w c i) < 512
    split
    · exact hw
    · exact ok.2.2.2.2.2 i
theorem zc_drook {c : zc_C} {r : Nat} (ok : zc_ok c) : zc_ok (zc_dro c r) := by
  refine ⟨ok.1, ok.2.1, ok.2.2.1, ok.2.2.2.1, fun q => ?_, ok.2.2.2.2.2⟩
  show (if q = r then zc_z c r - 1 else zc_z c q) ≤ 3
  have h1 := ok.2.2.2.2.1 r
  have h2 := ok.2.2.2.2.1 q
  split <;> omega
theorem zc_addt (c : zc_C) (f k a b g : Nat) : zc_t (zc_add c f k a b) g = (zc_t c g || decide (f = g)) := by
  show (zc_p c ||| 2 ^ f).testBit g = _
  rw [Nat.testBit_or, Nat.testBit_two_pow]
  rfl
theorem zc_remt (c : zc_C) (f g : Nat) : zc_t (zc_rem c f) g = (zc_t c g ^^ decide (f = g)) := by
  show (zc_p c ^^^ 2 ^ f).testBit g = _
  rw [Nat.testBit_xor, Nat.testBit_two_pow]
  rfl
theorem zc_addON {c : zc_C} {f k a b : Nat} (h : zc_t c f = false) : zm_ON c (zc_add c f k a b) f true := by
  refine ⟨rfl, rfl, fun g hg => ⟨if_neg hg, if_neg hg, if_neg hg, ?_⟩, fun _ => ⟨h, ?_⟩, fun z => nomatch z⟩
  · rw [zc_addt, decide_eq_false (fun z => hg z.symm), Bool.or_false]
  · rw [zc_addt, decide_eq_true rfl, Bool.or_true]
theorem zc_remON {c : zc_C} {f : Nat} (h : zc_t c f = true) : zm_ON c (zc_rem c f) f false := by
  refine ⟨rfl, rfl, fun g hg => ⟨rfl, rfl, rfl, ?_⟩, (fun z => nomatch z), fun _ => ⟨?_, rfl, rfl, rfl⟩⟩
  · rw [zc_remt, decide_eq_false (fun z => hg z.symm), Bool.xor_false]
  · rw [zc_remt, decide_eq_true rfl, h]
    rfl
/-! the matches of a rule see its own conditions alone -/
theorem zm_anw {c d : zc_C} {i : Nat} {t : Nat → Nat} (hp : zc_p d = zc_p c) (hk : zc_k d = zc_k c) (ha : zc_a d = zc_a c) (hb : zc_b d = zc_b c) (hw : zc_w d i = zc_w c i) (n : Nat) : zm_an d i t n = zm_an c i t n := by
  refine zm_an_c n (fun g _ => ?_)
  unfold zc_t zm_F
  rw [hp, hk, ha, hb, hw]
theorem zm_Mw {c d : zc_C} {q x : Nat} (hp : zc_p d = zc_p c) (hk : zc_k d = zc_k c) (ha : zc_a d = zc_a c) (hb : zc_b d = zc_b c) : ∀ l, (∀ i, i < l → zc_w d (3 * q + i) = zc_w c (3 * q + i)) → zm_bd d q x l = zm_bd c q x l ∧ zm_M d q x l = zm_M c q x l := by
  intro l
  induction l with
  | zero => intro _; exact ⟨rfl, rfl⟩
  | succ l ih =>
    intro h
    obtain ⟨e1, e2⟩ := ih (fun i hi => h i (by omega))
    have e3 := h l (by omega)
    constructor
    · rw [zm_bd, zm_bd, e1]
      unfold zm_F zm_G
      rw [hk, ha, hb, e3]
    · rw [zm_M, zm_M, e1, e2]
      unfold zm_st
      rw [zm_anw hp hk ha hb e3]
      unfold zc_t zm_F
      rw [hp, hk, ha, hb, e3]
end
section
/-! X: the methods that only read -/
theorem zx_rule_no {post : Int32 → Prop} {v : Int32} (h : v < 0 ∨ nI 3 ≤ v) (hp : post 0) : wpX_isRule post v := by
  unfold wpX_isRule
  by_cases h0 : v < 0
  · exact br_t h0 hp
  · exact br_f h0 (br_t (h.resolve_left h0) hp)
theorem zx_rule_yes {post : Int32 → Prop} {r : Nat} (hr : r < 3) (hp : post 1) : wpX_isRule post (nI r) := by
  unfold wpX_isRule
  exact br_f (nI_pos (by omega)) (br_f (nI_ge (b := 3) hr (by decide)) hp)
section
variable {c : zc_C} {wd bf : Nat → Int64} {bo te : Nat → Int32} {r l : Nat} {q : Nat → Bool}
theorem zx_has_no {post : Int32 → Prop} {v : Int32} (h : v < 0 ∨ nI 7 ≤ v) (hp : post 0) : wpX_has post (zf_P c, zf_K c, zf_A c, zf_B c, zf_Z c, zf_WK c, zf_WA c, zf_WB c, zf_N c, wd, bf, bo, te) v := by
  unfold wpX_has
  dsimp only
  by_cases h0 : v < 0
  · exact br_t h0 hp
  · exact br_f h0 (br_t (h.resolve_left h0) hp)
theorem zx_cnt5 {post : Int32 → Prop} (hr : r < 3) (hl : l ≤ 3) (hq : ∀ x, x < 8 ^ l → zw_i wd r l x = q x) (h : post (nI (zk_n q (8 ^ l)))) : ∀ d x n, x + d = 8 ^ l → d < n → wX_countAt_5 post (nI r) (nI l) (zf_P c) (zf_K c) (zf_A c) (zf_B c) (zf_Z c) (zf_WK c) (zf_WA c) (zf_WB c) (zf_N c) wd bf bo te n (nI (zk_n q x)) (nI x) := by
  have h8 := zn_8 hl
  intro d
  induction d with
  | zero =>
    intro x n hx hn
    obtain ⟨m, rfl⟩ : ∃ m, n = m + 1 := ⟨n - 1, by omega⟩
    obtain rfl : x = 8 ^ l := by omega
    unfold wX_countAt_5
    exact zx_codes hl (br_t (nI_le (Nat.le_refl _) (by omega)) h)
  | succ d ih =>
    intro x n hx hn
    obtain ⟨m, rfl⟩ : ∃ m, n = m + 1 := ⟨n - 1, by omega⟩
    have hi := ih (x + 1) m (by omega) (by omega)
    unfold wX_countAt_5
    refine zx_codes hl (br_f (nI_ge (by omega) (by omega)) (zx_isIn hr hl (by omega) ?_))
    rw [hq x (by omega)]
    refine zn_br (fun e => ?_) (fun e => ?_)
    · rw [zk_f e] at hi
      exact nm_r (Int32.add_zero _) (nm_r (nI_1 x) hi)
    · rw [zk_t e] at hi
      exact nm_r (nI_1 _) (nm_r (nI_1 x) hi)
theorem zx_count {post : Int32 → Prop} (ok : zc_ok c) (hr : r < 3) (hl : l ≤ zc_z c r) (hW : zm_W c wd) (h : post (nI (zk_M c r l))) : wpX_countAt post (zf_P c, zf_K c, zf_A c, zf_B c, zf_Z c, zf_WK c, zf_WA c, zf_WB c, zf_N c, wd, bf, bo, te) (nI r) (nI l) := by
  have hz := ok.2.2.2.2.1 r
  unfold wpX_countAt
  dsimp only
  exact ⟨8 ^ l + 1, zx_cnt5 (q := fun y => zm_M c r y l) hr (by omega) (hW r hr l hl) h (8 ^ l) 0 _ (by omega) (by omega)⟩
theorem zx_matches {post : Int32 → Prop} (ok : zc_ok c) (hr : r < 3) (hW : zm_W c wd) (h : post (nI (zk_M c r (zc_z c r)))) : wpX_matches post (zf_P c, zf_K c, zf_A c, zf_B c, zf_Z c, zf_WK c, zf_WA c, zf_WB c, zf_N c, wd, bf, bo, te) (nI r) := by
  unfold wpX_matches
  dsimp only
  refine zx_rule_yes hr (br_f (by decide) ⟨vp_in_nI hr (by decide), ?_⟩)
  rw [nI_clamp (by omega)]
  exact zx_count ok hr (Nat.le_refl _) hW h
theorem zx_m36 {post : Int32 → Prop} {k : Int32} (hr : r < 3) (hl : l ≤ 3) (hq : ∀ x, x < 8 ^ l → zw_i wd r l x = q x) : ∀ d x m n, x + d = 8 ^ l → d < n → post (zk_s q (fun y => nI (512 - 8 ^ l + y)) k d x m) → wX_match_36 post (nI r) k (nI l) (nI (512 - 8 ^ l)) (zf_P c) (zf_K c) (zf_A c) (zf_B c) (zf_Z c) (zf_WK c) (zf_WA c) (zf_WB c) (zf_N c) wd bf bo te n (nI m) (nI x) := by
  have h8 := zn_8 hl
  intro d
  induction d with
  | zero =>
    intro x j n hx hn h
    obtain ⟨m, rfl⟩ : ∃ m, n = m + 1 := ⟨n - 1, by omega⟩
    obtain rfl : x = 8 ^ l := by omega
    unfold wX_match_36
    exact zx_codes hl (br_t (nI_le (Nat.le_refl _) (by omega)) h)
  | succ d ih =>
    intro x j n hx hn h
    obtain ⟨m, rfl⟩ : ∃ m, n = m + 1 := ⟨n - 1, by omega⟩
    unfold wX_match_36
    refine zx_codes hl (br_f (nI_ge (by omega) (by omega)) (zx_isIn hr hl (by omega) ?_))
    rw [hq x (by omega)]
    rw [zk_s] at h
    refine zn_br (fun e => ?_) (fun e => ?_)
    · rw [e, if_neg (by decide)] at h
      exact nm_r (nI_1 x) (ih (x + 1) j m (by omega) (by omega) h)
    · rw [if_pos e] at h
      refine br_c (fun e2 => ?_) (fun e2 => ?_)
      · rw [if_pos e2] at h
        rw [zn_orm l (by omega) x (by omega)]
        exact h
      · rw [if_neg e2] at h
        exact nm_r (nI_1 j) (nm_r (nI_1 x) (ih (x + 1) (j + 1) m (by omega) (by omega) h))
/-- what match answers -/
def zk_mt (c : zc_C) (r : Nat) (k : Int32) : Int32 := zk_s (fun y => zm_M c r y (zc_z c r)) (fun y => nI (512 - 8 ^ zc_z c r + y)) k (8 ^ zc_z c r) 0 0
theorem zx_match {post : Int32 → Prop} {k : Int32} (ok : zc_ok c) (hr : r < 3) (hW : zm_W c wd) (h : post (zk_mt c r k)) : wpX_match post (zf_P c, zf_K c, zf_A c, zf_B c, zf_Z c, zf_WK c, zf_WA c, zf_WB c, zf_N c, wd, bf, bo, te) (nI r) k := by
  have hz := ok.2.2.2.2.1 r
  unfold wpX_match
  dsimp only
  refine zx_rule_yes hr (br_f (by decide) ⟨vp_in_nI hr (by decide), ?_⟩)
  rw [nI_clamp (by omega)]
  refine nm_r (e' := nI (zc_z c r)) rfl (zx_codes hz (nm_r (zn_miss _ (by omega)) ?_))
  exact ⟨8 ^ zc_z c r + 1, zx_m36 (q := fun y => zm_M c r y (zc_z c r)) hr hz (hW r hr _ (Nat.le_refl _)) (8 ^ zc_z c r) 0 0 _ (by omega) (by omega) h⟩
/-- what ready answers -/
def zk_rd (c : zc_C) : Nat → Int32
  | 0 => 0
  | r + 1 => if zk_M c r (zc_z c r) = 0 then zk_rd c r else zk_rd c r ||| ((1 : Int32) <<< (nI r &&& 31))
theorem zx_ready4 {post : Int32 → Prop} (ok : zc_ok c) (hW : zm_W c wd) (h : post (zk_rd c 3)) : ∀ d r n, r + d = 3 → d < n → wX_ready_4 post (zf_P c) (zf_K c) (zf_A c) (zf_B c) (zf_Z c) (zf_WK c) (zf_WA c) (zf_WB c) (zf_N c) wd bf bo te n (zk_rd c r) (nI r) := by
  intro d
  induction d with
  | zero =>
    intro r n hr hn
    obtain ⟨m, rfl⟩ : ∃ m, n = m + 1 := ⟨n - 1, by omega⟩
    obtain rfl : r = 3 := by omega
    unfold wX_ready_4
    exact br_t (nI_le (a := 3) (by decide) (by decide)) h
  | succ d ih =>
    intro r n hr hn
    obtain ⟨m, rfl⟩ : ∃ m, n = m + 1 := ⟨n - 1, by omega⟩
    have hi := ih (r + 1) m (by omega) (by omega)
    have hM := zk_M512 (c := c) (r := r) (ok.2.2.2.2.1 r)
    rw [zk_rd] at hi
    unfold wX_ready_4
    refine br_f (nI_ge (b := 3) (by omega) (by decide)) (zx_matches ok (by omega) hW ?_)
    refine pk_le (zk_M c r (zc_z c r)) 0 (fun e => ?_) (fun e => ?_)
    · rw [if_pos (by omega)] at hi
      exact nm_r (Int32.or_zero) (nm_r (nI_1 r) hi)
    · rw [if_neg (by omega)] at hi
      exact nm_e (nm_r (nI_1 r) hi)
theorem zx_ready {post : Int32 → Prop} (ok : zc_ok c) (hW : zm_W c wd) (h : post (zk_rd c 3)) : wpX_ready post (zf_P c, zf_K c, zf_A c, zf_B c, zf_Z c, zf_WK c, zf_WA c, zf_WB c, zf_N c, wd, bf, bo, te) := by
  unfold wpX_ready
  dsimp only
  exact ⟨4, zx_ready4 ok hW h 3 0 4 (by omega) (by omega)⟩
theorem zx_holds2 {post : Int32 → Prop} {y f : Nat} (hl : l ≤ 3) (hy : y < 512) (hf : f < 7) (h : post (zn_b (zk_h y f l))) : ∀ d i n, i + d = l → d < n → zk_h y f i = false → wX_holds_2 post (nI y) (nI l) (nI f) n (nI i) := by
  have mono : ∀ j, j ≤ l → ∀ i, i ≤ j → zk_h y f i = true → zk_h y f j = true := by
    intro j
    induction j with
    | zero =>
      intro _ i hi ht
      obtain rfl : i = 0 := by omega
      exact ht
    | succ j ihj =>
      intro hj i hi ht
      rcases Nat.lt_or_ge i (j + 1) with h1 | h1
      · rw [zk_h, ihj (by omega) i (by omega) ht, Bool.true_or]
      · obtain rfl : i = j + 1 := by omega
        exact ht
  intro d
  induction d with
  | zero =>
    intro i n hi hn hz
    obtain ⟨m, rfl⟩ : ∃ m, n = m + 1 := ⟨n - 1, by omega⟩
    obtain rfl : i = l := by omega
    unfold wX_holds_2
    rw [hz] at h
    exact br_t (nI_le (Nat.le_refl _) (by omega)) h
  | succ d ih =>
    intro i n hi hn hz
    obtain ⟨m, rfl⟩ : ∃ m, n = m + 1 := ⟨n - 1, by omega⟩
    unfold wX_holds_2
    rw [zn_dig y hy i (by omega)]
    refine br_f (nI_ge (by omega) (by omega)) ?_
    have hg := zm_g8 y i
    refine pk_eq (zm_g y i) f (fun e => ?_) (fun e => ?_) rfl rfl (by omega)
    · have e2 : zk_h y f (i + 1) = true := by rw [zk_h, decide_eq_true e, Bool.or_true]
      rw [mono l (Nat.le_refl l) (i + 1) (by omega) e2] at h
      exact h
    · exact nm_r (nI_1 i) (ih (i + 1) m (by omega) (by omega) (by rw [zk_h, hz, decide_eq_false e]; rfl))
theorem zx_holds {post : Int32 → Prop} {y f : Nat} (hl : l ≤ 3) (hy : y < 512) (hf : f < 7) (h : post (zn_b (zk_h y f l))) : wpX_holds post (nI y) (nI l) (nI f) := by
  unfold wpX_holds
  exact ⟨l + 1, zx_holds2 hl hy hf h l 0 _ (by omega) (by omega) rfl⟩
theorem zx_uses30 {post : Int32 → Prop} {J : Int32 → Int32 → Prop} {f b : Nat} {M : Nat → Bool} (hr : r < 3) (hl : l ≤ 3) (hf : f < 7) (hq : ∀ x, x < 8 ^ l → zw_i wd r l x = M x) (h : J (nI (b + zk_n (fun y => M y && zk_h y f l) (8 ^ l))) (nI (r + 1))) : ∀ d x n, x + d = 8 ^ l → d < n → wX_uses_30 post J (nI f) (nI r) (nI l) (zf_P c) (zf_K c) (zf_A c) (zf_B c) (zf_Z c) (zf_WK c) (zf_WA c) (zf_WB c) (zf_N c) wd bf bo te n (nI (b + zk_n (fun y => M y && zk_h y f l) x)) (nI x) := by
  have h8 := zn_8 hl
  intro d
  induction d with
  | zero =>
    intro x n hx hn
    obtain ⟨m, rfl⟩ : ∃ m, n = m + 1 := ⟨n - 1, by omega⟩
    obtain rfl : x = 8 ^ l := by omega
    unfold wX_uses_30
    exact zx_codes hl (br_t (nI_le (Nat.le_refl _) (by omega)) (nm_r (nI_1 r) h))
  | succ d ih =>
    intro x n hx hn
    obtain ⟨m, rfl⟩ : ∃ m, n = m + 1 := ⟨n - 1, by omega⟩
    have hi := ih (x + 1) m (by omega) (by omega)
    unfold wX_uses_30
    refine zx_codes hl (br_f (nI_ge (by omega) (by omega)) (zx_isIn hr hl (by omega) ?_))
    rw [hq x (by omega)]
    refine zn_br (fun e => ?_) (fun e => ?_)
    · rw [zk_f (by rw [e, Bool.false_and])] at hi
      exact nm_r (Int32.add_zero _) (nm_r (nI_1 x) hi)
    · refine zx_holds hl (by omega) hf ?_
      refine zn_br (fun e2 => ?_) (fun e2 => ?_)
      · rw [zk_f (by rw [e2, Bool.and_false])] at hi
        exact nm_r (Int32.add_zero _) (nm_r (nI_1 x) hi)
      · rw [zk_t (by rw [e, e2]; rfl), ← Nat.add_assoc] at hi
        exact nm_r (nI_1 _) (nm_r (nI_1 x) hi)
/-- the uses in the first rules -/
def zk_us (c : zc_C) (f : Nat) : Nat → Nat
  | 0 => 0
  | r + 1 => zk_us c f r + zk_u c r f
theorem zx_uses14 {post : Int32 → Prop} {f : Nat} (ok : zc_ok c) (hW : zm_W c wd) (hf : f < 7) (h : post (nI (zk_us c f 3))) : ∀ d r n, r + d = 3 → d < n → wX_uses_14 post (nI f) (zf_P c) (zf_K c) (zf_A c) (zf_B c) (zf_Z c) (zf_WK c) (zf_WA c) (zf_WB c) (zf_N c) wd bf bo te n (nI (zk_us c f r)) (nI r) := by
  intro d
  induction d with
  | zero =>
    intro r n hr hn
    obtain ⟨m, rfl⟩ : ∃ m, n = m + 1 := ⟨n - 1, by omega⟩
    obtain rfl : r = 3 := by omega
    unfold wX_uses_14
    exact br_t (nI_le (a := 3) (by decide) (by decide)) h
  | succ d ih =>
    intro r n hr hn
    obtain ⟨m, rfl⟩ : ∃ m, n = m + 1 := ⟨n - 1, by omega⟩
    have hz := ok.2.2.2.2.1 r
    unfold wX_uses_14
    refine br_f (nI_ge (b := 3) (by omega) (by decide)) ⟨vp_in_nI (by omega) (by decide), ?_⟩
    rw [nI_clamp (by omega)]
    refine nm_r (e' := nI (zc_z c r)) rfl ⟨8 ^ zc_z c r + 1, ?_⟩
    exact zx_uses30 (b := zk_us c f r) (M := fun y => zm_M c r y (zc_z c r)) (by omega) hz hf (hW r (by omega) _ (Nat.le_refl _)) (ih (r + 1) m (by omega) (by omega)) (8 ^ zc_z c r) 0 _ (by omega) (by omega)
theorem zx_uses {post : Int32 → Prop} {f : Nat} (ok : zc_ok c) (hW : zm_W c wd) (hf : f < 7) (ht : zc_t c f = true) (h : post (nI (zk_us c f 3))) : wpX_uses post (zf_P c, zf_K c, zf_A c, zf_B c, zf_Z c, zf_WK c, zf_WA c, zf_WB c, zf_N c, wd, bf, bo, te) (nI f) := by
  unfold wpX_uses
  dsimp only
  refine zx_has ok hf ?_
  rw [ht]
  exact br_f (by decide) ⟨4, zx_uses14 ok hW hf h 3 0 4 (by omega) (by omega)⟩
/-- whether a fact looks right for a condition -/
def zk_lr (c : zc_C) (i f : Nat) : Bool := decide (zc_k c f = zc_w c i % 4) && ((decide (4 ≤ zc_w c i / 4 % 8) || decide (zc_w c i / 4 % 8 = zc_a c f)) && (decide (4 ≤ zc_w c i / 32 % 8) || decide (zc_w c i / 32 % 8 = zc_b c f)))
theorem zx_constant {post : Int32 → Prop} {d v : Nat} (hd : d < 8) (hv : v < 4) (h : post (zn_b (decide (4 ≤ d) || decide (d = v)))) : wpX_constant post (nI d) (nI v) := by
  unfold wpX_constant
  refine pk_le 4 d (fun e => ?_) (fun e => ?_)
  · rw [decide_eq_true e] at h
    exact h
  · rw [decide_eq_false (by omega), Bool.false_or] at h
    refine pk_eq d v (fun e => ?_) (fun e => ?_)
    · rw [decide_eq_true e] at h
      exact h
    · rw [decide_eq_false e] at h
      exact h
theorem zx_looks {post : Int32 → Prop} {i f : Nat} (ok : zc_ok c) (hi : i < 9) (hf : f < 7) (h : post (zn_b (zk_lr c i f))) : wpX_looksRight post (zf_P c, zf_K c, zf_A c, zf_B c, zf_Z c, zf_WK c, zf_WA c, zf_WB c, zf_N c, wd, bf, bo, te) (nI i) (nI f) := by
  have hk := ok.2.1 f
  unfold wpX_looksRight
  dsimp only
  rw [nI_clamp (by omega), nI_clamp (by omega)]
  refine ⟨vp_in_nI hf (by decide), vp_in_nI hi (by decide), pk_eq (zc_k c f) (zc_w c i % 4) (fun e => ?_) (fun e => ?_) rfl rfl (by omega) (by omega)⟩
  · unfold zk_lr at h
    rw [decide_eq_true e, Bool.true_and] at h
    refine ⟨vp_in_nI hi (by decide), vp_in_nI hf (by decide), ?_⟩
    refine zx_constant (d := zc_w c i / 4 % 8) (v := zc_a c f) (by omega) (ok.2.2.1 f) ?_
    refine zn_br (fun e1 => ?_) (fun e1 => ?_)
    · rw [e1, Bool.false_and] at h
      exact h
    · rw [e1, Bool.true_and] at h
      refine ⟨vp_in_nI hi (by decide), vp_in_nI hf (by decide), ?_⟩
      refine zx_constant (d := zc_w c i / 32 % 8) (v := zc_b c f) (by omega) (ok.2.2.2.1 f) ?_
      refine zn_br (fun e2 => ?_) (fun e2 => ?_)
      · rw [e2] at h
        exact h
      · rw [e2] at h
        exact h
  · unfold zk_lr at h
    rw [decide_eq_false e, Bool.false_and] at h
    exact h
def zk_ft (c : zc_C) (i : Nat) : Nat → Nat := zk_n (fun f => zc_t c f && zk_lr c i f)
theorem zx_fit28 {post : Int32 → Prop} {i : Nat} (ok : zc_ok c) (hr : r < 3) (hi : i < 3) (h : post (nI (zk_ft c (3 * r + i) 7))) : ∀ d f n, f + d = 7 → d < n → wX_fitting_28 post (nI r) (nI i) (zf_P c) (zf_K c) (zf_A c) (zf_B c) (zf_Z c) (zf_WK c) (zf_WA c) (zf_WB c) (zf_N c) wd bf bo te n (nI (zk_ft c (3 * r + i) f)) (nI f) := by
  intro d
  induction d with
  | zero =>
    intro f n hf hn
    obtain ⟨m, rfl⟩ : ∃ m, n = m + 1 := ⟨n - 1, by omega⟩
    obtain rfl : f = 7 := by omega
    unfold wX_fitting_28
    exact br_t (nI_le (a := 7) (by decide) (by decide)) h
  | succ d ih =>
    intro f n hf hn
    obtain ⟨m, rfl⟩ : ∃ m, n = m + 1 := ⟨n - 1, by omega⟩
    have hi' := ih (f + 1) m (by omega) (by omega)
    unfold zk_ft at hi' ⊢
    unfold wX_fitting_28
    refine br_f (nI_ge (b := 7) (by omega) (by decide)) (zx_has ok (by omega) ?_)
    refine zn_br (fun e => ?_) (fun e => ?_)
    · rw [zk_f (by rw [e, Bool.false_and])] at hi'
      exact nm_r (Int32.add_zero _) (nm_r (nI_1 f) hi')
    · rw [zx_cell]
      refine zx_looks ok (by omega) (by omega) ?_
      refine zn_br (fun e2 => ?_) (fun e2 => ?_)
      · rw [zk_f (by rw [e2, Bool.and_false])] at hi'
        exact nm_r (Int32.add_zero _) (nm_r (nI_1 f) hi')
      · rw [zk_t (by rw [e, e2]; rfl)] at hi'
        exact nm_r (nI_1 _) (nm_r (nI_1 f) hi')
end
end
section
/-! X: the methods that write -/
/-- the words while rules are brought up to date one by one -/
def zm_Wp (c d : zc_C) (m : Nat) (wd : Nat → Int64) : Prop := ∀ q, q < 3 → ∀ l, l ≤ zc_z d q → ∀ x, x < 8 ^ l → zw_i wd q l x = if q < m then zm_M d q x l else zm_M c q x l
section
variable {c d : zc_C} {wd bf : Nat → Int64} {bo te : Nat → Int32} {f : Nat}
theorem zx_updON {post : SX → Prop} {m : Nat} (ad : Bool) (H : zm_ON c d f ad) (ok : zc_ok d) (hf : f < 7) (hm : m < 3) (hW : zm_Wp c d m wd) (h : ∀ wd' bf' bo' te', zm_Wp c d (m + 1) wd' → post (zf_P d, zf_K d, zf_A d, zf_B d, zf_Z d, zf_WK d, zf_WA d, zf_WB d, zf_N d, wd', bf', bo', te')) : wpX_update post (zf_P d, zf_K d, zf_A d, zf_B d, zf_Z d, zf_WK d, zf_WA d, zf_WB d, zf_N d, wd, bf, bo, te) (nI m) (nI f) (zn_b ad) := by
  have hz := ok.2.2.2.2.1 m
  have hm0 : ∀ l, l ≤ zc_z d m → ∀ x, x < 8 ^ l → zw_i wd m l x = zm_M c m x l := by
    intro l hl x hx
    rw [hW m hm l hl x hx, if_neg (Nat.lt_irrefl m)]
  refine zx_updB (c := d) ad ok hm hf (hm0 0 (by omega) 0 (by decide)) ?_ ?_
  · intro l hl x hx _ hi
    rw [hm0 l (by omega) x hx] at hi
    exact zm_Hof H hf (by omega) hx (fun y hy => hm0 (l + 1) (by omega) y hy) hi
  · intro wd' bf' bo' te' hN hR
    refine h wd' bf' bo' te' ?_
    intro q hq l hl x hx
    have hzq := ok.2.2.2.2.1 q
    by_cases e : q = m
    · subst e
      rw [hN l hl x hx, if_pos (Nat.lt_succ_self q)]
    · rw [zw_FRi hR e (by omega) hx, hW q hq l hl x hx]
      by_cases e2 : q < m
      · rw [if_pos e2, if_pos (by omega)]
      · rw [if_neg e2, if_neg (by omega)]
theorem zm_Wp0 (H : zm_ON c d f true ∨ zm_ON c d f false) (hW : zm_W c wd) : zm_Wp c d 0 wd := by
  intro q hq l hl x hx
  have hz : zc_z d = zc_z c := by
    rcases H with H | H
    · exact H.2.1
    · exact H.2.1
  rw [hz] at hl
  rw [if_neg (Nat.not_lt_zero q)]
  exact hW q hq l hl x hx
theorem zm_Wp3 (hW : zm_Wp c d 3 wd) : zm_W d wd := by
  intro q hq l hl x hx
  rw [hW q hq l hl x hx, if_pos hq]
theorem zx_add73 {post : Int32 → SX → Prop} (H : zm_ON c d f true) (ok : zc_ok d) (hf : f < 7) (h : ∀ wd' bf' bo' te', zm_W d wd' → post (nI f) (zf_P d, zf_K d, zf_A d, zf_B d, zf_Z d, zf_WK d, zf_WA d, zf_WB d, zf_N d, wd', bf', bo', te')) : ∀ e r n wd bf bo te, r + e = 3 → e < n → zm_Wp c d r wd → wX_add_73 post (nI f) n (nI r) (zf_P d) (zf_K d) (zf_A d) (zf_B d) (zf_Z d) (zf_WK d) (zf_WA d) (zf_WB d) (zf_N d) wd bf bo te := by
  intro e
  induction e with
  | zero =>
    intro r n wd bf bo te hr hn hW
    obtain ⟨m, rfl⟩ : ∃ m, n = m + 1 := ⟨n - 1, by omega⟩
    obtain rfl : r = 3 := by omega
    unfold wX_add_73
    exact br_t (nI_le (a := 3) (by decide) (by decide)) (h wd bf bo te (zm_Wp3 hW))
  | succ e ih =>
    intro r n wd bf bo te hr hn hW
    obtain ⟨m, rfl⟩ : ∃ m, n = m + 1 := ⟨n - 1, by omega⟩
    unfold wX_add_73
    refine br_f (nI_ge (b := 3) (by omega) (by decide)) (zx_updON true H ok hf (by omega) hW ?_)
    intro wd' bf' bo' te' hW'
    dsimp only
    exact nm_r (nI_1 r) (ih (r + 1) m wd' bf' bo' te' (by omega) (by omega) hW')
theorem zx_rem26 {post : Int32 → SX → Prop} (H : zm_ON c d f false) (ok : zc_ok d) (hf : f < 7) (h : ∀ wd' bf' bo' te', zm_W d wd' → post 1 (zf_P d, zf_K d, zf_A d, zf_B d, zf_Z d, zf_WK d, zf_WA d, zf_WB d, zf_N d, wd', bf', bo', te')) : ∀ e r n wd bf bo te, r + e = 3 → e < n → zm_Wp c d r wd → wX_remove_26 post (nI f) n (nI r) (zf_P d) (zf_K d) (zf_A d) (zf_B d) (zf_Z d) (zf_WK d) (zf_WA d) (zf_WB d) (zf_N d) wd bf bo te := by
  intro e
  induction e with
  | zero =>
    intro r n wd bf bo te hr hn hW
    obtain ⟨m, rfl⟩ : ∃ m, n = m + 1 := ⟨n - 1, by omega⟩
    obtain rfl : r = 3 := by omega
    unfold wX_remove_26
    exact br_t (nI_le (a := 3) (by decide) (by decide)) (h wd bf bo te (zm_Wp3 hW))
  | succ e ih =>
    intro r n wd bf bo te hr hn hW
    obtain ⟨m, rfl⟩ : ∃ m, n = m + 1 := ⟨n - 1, by omega⟩
    unfold wX_remove_26
    refine br_f (nI_ge (b := 3) (by omega) (by decide)) (zx_updON false H ok hf (by omega) hW ?_)
    intro wd' bf' bo' te' hW'
    dsimp only
    exact nm_r (nI_1 r) (ih (r + 1) m wd' bf' bo' te' (by omega) (by omega) hW')
end
theorem zf_addK (c : zc_C) (f k a b : Nat) : upd (zf_K c) f (nI k) = zf_K (zc_add c f k a b) := by
  funext g
  show (if g = f then nI k else nI (zc_k c g)) = nI (if g = f then k else zc_k c g)
  split <;> rfl
theorem zf_addA (c : zc_C) (f k a b : Nat) : upd (zf_A c) f (nI a) = zf_A (zc_add c f k a b) := by
  funext g
  show (if g = f then nI a else nI (zc_a c g)) = nI (if g = f then a else zc_a c g)
  split <;> rfl
theorem zf_addB (c : zc_C) (f k a b : Nat) : upd (zf_B c) f (nI b) = zf_B (zc_add c f k a b) := by
  funext g
  show (if g = f then nI b else nI (zc_b c g)) = nI (if g = f then b else zc_b c g)
  split <;> rfl
theorem zf_conZ (c : zc_C) (r w : Nat) : upd (zf_Z c) r (nI (zc_z c r + 1)) = zf_Z (zc_con c r w) := by
  funext g
  show (if g = r then nI (zc_z c r + 1) else nI (zc_z c g)) = nI (if g = r then zc_z c r + 1 else zc_z c g)
  split <;> rfl
theorem zf_droZ (c : zc_C) (r : Nat) : upd (zf_Z c) r (nI (zc_z c r - 1)) = zf_Z (zc_dro c r) := by
  funext g
  show (if g = r then nI (zc_z c r - 1) else nI (zc_z c g)) = nI (if g = r then zc_z c r - 1 else zc_z c g)
  split <;> rfl
theorem zf_conK (c : zc_C) (r w : Nat) : upd (zf_WK c) (3 * r + zc_z c r) (nI (w % 4)) = zf_WK (zc_con c r w) := by
  funext g
  show (if g = 3 * r + zc_z c r then nI (w % 4) else nI (zc_w c g % 4)) = nI ((if g = 3 * r + zc_z c r then w else zc_w c g) % 4)
  split <;> rfl
theorem zf_conA (c : zc_C) (r w : Nat) : upd (zf_WA c) (3 * r + zc_z c r) (nI (w / 4 % 8)) = zf_WA (zc_con c r w) := by
  funext g
  show (if g = 3 * r + zc_z c r then nI (w / 4 % 8) else nI (zc_w c g / 4 % 8)) = nI ((if g = 3 * r + zc_z c r then w else zc_w c g) / 4 % 8)
  split <;> rfl
theorem zf_conB (c : zc_C) (r w : Nat) : upd (zf_WB c) (3 * r + zc_z c r) (nI (w / 32 % 8)) = zf_WB (zc_con c r w) := by
  funext g
  show (if g = 3 * r + zc_z c r then nI (w / 32 % 8) else nI (zc_w c g / 32 % 8)) = nI ((if g = 3 * r + zc_z c r then w else zc_w c g) / 32 % 8)
  split <;> rfl
theorem zf_conN (c : zc_C) (r w : Nat) : upd (zf_N c) (3 * r + zc_z c r) (zn_b (decide (256 ≤ w))) = zf_N (zc_con c r w) := by
  funext g
  show (if g = 3 * r + zc_z c r then zn_b (decide (256 ≤ w)) else zn_b (decide (256 ≤ zc_w c g))) = zn_b (decide (256 ≤ (if g = 3 * r + zc_z c r then w else zc_w c g)))
  split <;> rfl
theorem zf_conW (c : zc_C) (r w : Nat) : upd (zf_W c) (3 * r + zc_z c r) (nI w) = zf_W (zc_con c r w) := by
  funext g
  show (if g = 3 * r + zc_z c r then nI w else nI (zc_w c g)) = nI (if g = 3 * r + zc_z c r then w else zc_w c g)
  split <;> rfl
section
variable {c : zc_C} {wd bf : Nat → Int64} {bo te : Nat → Int32} {f k a b r : Nat}
theorem zx_factOk {post : Int32 → Prop} (hk : k < 3) (ha : a < 4) (hb : b < 4) (h : post 1) : wpX_factOk post (nI k) (nI a) (nI b) := by
  unfold wpX_factOk
  exact br_f (nI_pos (by omega)) (br_f (nI_nlt (a := 2) (by omega) (by omega)) (br_f (nI_pos (by omega)) (br_f (nI_nlt (a := 3) (by omega) (by omega)) (br_f (nI_pos (by omega)) (br_f (nI_nlt (a := 3) (by omega) (by omega)) h)))))
theorem zx_add14 {post : Int32 → SX → Prop} (ok : zc_ok c) (hW : zm_W c wd) (hk : k < 3) (ha : a < 4) (hb : b < 4) (hf : zc_p c = 127 → post (-2) (zf_P c, zf_K c, zf_A c, zf_B c, zf_Z c, zf_WK c, zf_WA c, zf_WB c, zf_N c, wd, bf, bo, te)) (h : ∀ f, f < 7 → zc_t c f = false → (∀ g, g < f → zc_t c g = true) → ∀ wd' bf' bo' te', zm_W (zc_add c f k a b) wd' → post (nI f) (zf_P (zc_add c f k a b), zf_K (zc_add c f k a b), zf_A (zc_add c f k a b), zf_B (zc_add c f k a b), zf_Z (zc_add c f k a b), zf_WK (zc_add c f k a b), zf_WA (zc_add c f k a b), zf_WB (zc_add c f k a b), zf_N (zc_add c f k a b), wd', bf', bo', te')) : ∀ e f n, f + e = 7 → e < n → (∀ g, g < f → zc_t c g = true) → wX_add_14 post (nI k) (nI a) (nI b) (zf_P c) (zf_K c) (zf_A c) (zf_B c) (zf_Z c) (zf_WK c) (zf_WA c) (zf_WB c) (zf_N c) wd bf bo te n (nI f) := by
  intro e
  induction e with
  | zero =>
    intro f n hf7 hn hg
    obtain ⟨m, rfl⟩ : ∃ m, n = m + 1 := ⟨n - 1, by omega⟩
    obtain rfl : f = 7 := by omega
    unfold wX_add_14
    exact br_t (nI_le (a := 7) (by decide) (by decide)) (hf (zn_full _ ok.1 hg))
  | succ e ih =>
    intro f n hf7 hn hg
    obtain ⟨m, rfl⟩ : ∃ m, n = m + 1 := ⟨n - 1, by omega⟩
    have hf : f < 7 := by omega
    unfold wX_add_14
    refine br_f (nI_ge (b := 7) hf (by decide)) (zx_has ok hf ?_)
    refine zn_br (fun e1 => ?_) (fun e1 => ?_)
    · rw [nI_clamp (by omega), zn_nar2 (by omega), zn_nar2 (by omega), zn_nar2 (by omega)]
      refine nm_r (e' := zf_P (zc_add c f k a b)) (zn_set _ ok.1 f hf) ?_
      refine ⟨vp_in_nI hf (by decide), nm_r (zf_addK c f k a b) ⟨vp_in_nI hf (by decide), nm_r (zf_addA c f k a b) ⟨vp_in_nI hf (by decide), nm_r (zf_addB c f k a b) ?_⟩⟩⟩
      have H := zc_addON (k := k) (a := a) (b := b) e1
      exact ⟨4, zx_add73 H (zc_addok ok hf hk ha hb) hf (h f hf e1 hg) 3 0 4 wd bf bo te (by omega) (by omega) (zm_Wp0 (Or.inl H) hW)⟩
    · exact nm_r (nI_1 f) (ih (f + 1) m (by omega) (by omega) (lt_s hg e1))
theorem zx_add {post : Int32 → SX → Prop} (ok : zc_ok c) (hW : zm_W c wd) (hk : k < 3) (ha : a < 4) (hb : b < 4) (hf : zc_p c = 127 → post (-2) (zf_P c, zf_K c, zf_A c, zf_B c, zf_Z c, zf_WK c, zf_WA c, zf_WB c, zf_N c, wd, bf, bo, te)) (h : ∀ f, f < 7 → zc_t c f = false → (∀ g, g < f → zc_t c g = true) → ∀ wd' bf' bo' te', zm_W (zc_add c f k a b) wd' → post (nI f) (zf_P (zc_add c f k a b), zf_K (zc_add c f k a b), zf_A (zc_add c f k a b), zf_B (zc_add c f k a b), zf_Z (zc_add c f k a b), zf_WK (zc_add c f k a b), zf_WA (zc_add c f k a b), zf_WB (zc_add c f k a b), zf_N (zc_add c f k a b), wd', bf', bo', te')) : wpX_add post (zf_P c, zf_K c, zf_A c, zf_B c, zf_Z c, zf_WK c, zf_WA c, zf_WB c, zf_N c, wd, bf, bo, te) (nI k) (nI a) (nI b) := by
  unfold wpX_add
  dsimp only
  refine zx_factOk hk ha hb (br_f (by decide) ⟨8, ?_⟩)
  exact zx_add14 ok hW hk ha hb hf h 7 0 8 (by omega) (by omega) (fun g hg => absurd hg (Nat.not_lt_zero g))
theorem zx_remove {post : Int32 → SX → Prop} (ok : zc_ok c) (hW : zm_W c wd) (hf : f < 7) (ht : zc_t c f = true) (h : ∀ wd' bf' bo' te', zm_W (zc_rem c f) wd' → post 1 (zf_P (zc_rem c f), zf_K (zc_rem c f), zf_A (zc_rem c f), zf_B (zc_rem c f), zf_Z (zc_rem c f), zf_WK (zc_rem c f), zf_WA (zc_rem c f), zf_WB (zc_rem c f), zf_N (zc_rem c f), wd', bf', bo', te')) : wpX_remove post (zf_P c, zf_K c, zf_A c, zf_B c, zf_Z c, zf_WK c, zf_WA c, zf_WB c, zf_N c, wd, bf, bo, te) (nI f) := by
  unfold wpX_remove
  dsimp only
  refine zx_has ok hf ?_
  rw [ht]
  refine br_f (by decide) (nm_r (e' := zf_P (zc_rem c f)) (zn_clr _ ok.1 f hf ht) ?_)
  have H := zc_remON ht
  exact ⟨4, zx_rem26 H (zc_remok ok hf) hf h 3 0 4 wd bf bo te (by omega) (by omega) (zm_Wp0 (Or.inr H) hW)⟩
/-- words of a state with rule r made anew -/
theorem zm_Wnew {d : zc_C} {wd' : Nat → Int64} (okd : zc_ok d) (hW : zm_W c wd) (hz : ∀ q, q ≠ r → zc_z d q = zc_z c q) (hM : ∀ q, q ≠ r → ∀ l, l ≤ 3 → ∀ x, zm_M d q x l = zm_M c q x l) (h1 : ∀ l, l ≤ zc_z d r → ∀ x, x < 8 ^ l → zw_i wd' r l x = zm_M d r x l) (hR : zw_FR wd' wd r) : zm_W d wd' := by
  intro q hq l hl x hx
  have hzq := okd.2.2.2.2.1 q
  by_cases e : q = r
  · subst e
    exact h1 l hl x hx
  · rw [zw_FRi hR e (by omega) hx, hM q e l (by omega) x]
    rw [hz q e] at hl
    exact hW q hq l hl x hx
theorem zx_cond {post : Int32 → SX → Prop} {w : Nat} (ok : zc_ok c) (hW : zm_W c wd) (hr : r < 3) (hw : w < 512) (hw3 : w % 4 < 3) (hz : zc_z c r < 3) (h : ∀ wd' bf' bo' te', zm_W (zc_con c r w) wd' → post (nI (zc_z c r + 1)) (zf_P (zc_con c r w), zf_K (zc_con c r w), zf_A (zc_con c r w), zf_B (zc_con c r w), zf_Z (zc_con c r w), zf_WK (zc_con c r w), zf_WA (zc_con c r w), zf_WB (zc_con c r w), zf_N (zc_con c r w), wd', bf', bo', te')) : wpX_condition post (zf_P c, zf_K c, zf_A c, zf_B c, zf_Z c, zf_WK c, zf_WA c, zf_WB c, zf_N c, wd, bf, bo, te) (nI r) (nI w) := by
  have okd : zc_ok (zc_con c r w) := zc_conok ok hz hw
  have key : wX_condition_104 post (nI r) (zn_b (decide (256 ≤ w))) (nI (3 * r + zc_z c r)) (zf_P c) (zf_K c) (zf_A c) (zf_B c) (zf_Z c) (zf_WK (zc_con c r w)) (zf_WA (zc_con c r w)) (zf_WB (zc_con c r w)) (zf_N c) wd bf bo te := by
    unfold wX_condition_104
    rw [nI_clamp (by omega), nI_clamp (by omega)]
    refine ⟨vp_in_nI (by omega) (by decide), nm_r (e' := zf_N (zc_con c r w)) ?_ ⟨vp_in_nI hr (by decide), vp_in_nI hr (by decide), nm_r (e' := zf_Z (zc_con c r w)) ?_ ?_⟩⟩
    · rw [← zf_conN]
      cases decide (256 ≤ w) <;> rfl
    · rw [← zf_conZ c r w]
      show upd (zf_Z c) r (vp_nar .byte ((nI (zc_z c r) + 1).toInt8.toInt32)) = _
      rw [nI_1, zn_nar2 (by omega)]
    · refine zx_updA (c := zc_con c r w) true okd hr ?_
      intro wd' bf' bo' te' h1 hR
      dsimp only
      refine ⟨vp_in_nI hr (by decide), ?_⟩
      have e2 : zf_Z (zc_con c r w) r = nI (zc_z c r + 1) := by
        show nI (if r = r then zc_z c r + 1 else zc_z c r) = _
        rw [if_pos rfl]
      rw [e2]
      refine h wd' bf' bo' te' (zm_Wnew okd hW (fun q hq => if_neg hq) (fun q hq l hl x => ?_) h1 hR)
      refine (zm_Mw (c := c) (d := zc_con c r w) rfl rfl rfl rfl l (fun i hi => ?_)).2
      exact if_neg (by omega)
  unfold wpX_condition
  dsimp only
  refine zx_rule_yes hr (br_f (by decide) (br_f (nI_pos (by omega)) (br_f (nI_nlt (a := 511) (by omega) (by omega)) ?_)))
  rw [zn_w3 w hw, zn_wa w hw, zn_wb w hw, zn_nar2 (by omega), zn_nar2 (by omega), zn_nar2 (by omega), nI_clamp (by omega)]
  refine br_t (nI_le (b := 2) (by omega) (by decide)) ⟨vp_in_nI hr (by decide), br_t (show nI (zc_z c r) < 3 from nI_lt (b := 3) hz (by decide)) ⟨vp_in_nI hr (by decide), nm_r (e' := nI (3 * r + zc_z c r)) (zx_cell r (zc_z c r)) ?_⟩⟩
  rw [nI_clamp (by omega)]
  refine ⟨vp_in_nI (by omega) (by decide), nm_r (zf_conK c r w) ⟨vp_in_nI (by omega) (by decide), nm_r (zf_conA c r w) ⟨vp_in_nI (by omega) (by decide), nm_r (zf_conB c r w) ?_⟩⟩⟩
  refine pk_lt w 256 (fun e => ?_) (fun e => ?_)
  · rw [decide_eq_false (by omega)] at key
    exact key
  · rw [decide_eq_true e] at key
    exact key
theorem zx_drop {post : Int32 → SX → Prop} (ok : zc_ok c) (hW : zm_W c wd) (hr : r < 3) (hz : zc_z c r ≠ 0) (h : ∀ wd' bf' bo' te', zm_W (zc_dro c r) wd' → post (nI (zc_z c r - 1)) (zf_P (zc_dro c r), zf_K (zc_dro c r), zf_A (zc_dro c r), zf_B (zc_dro c r), zf_Z (zc_dro c r), zf_WK (zc_dro c r), zf_WA (zc_dro c r), zf_WB (zc_dro c r), zf_N (zc_dro c r), wd', bf', bo', te')) : wpX_drop post (zf_P c, zf_K c, zf_A c, zf_B c, zf_Z c, zf_WK c, zf_WA c, zf_WB c, zf_N c, wd, bf, bo, te) (nI r) := by
  have okd : zc_ok (zc_dro c r) := zc_drook ok
  have hz3 := ok.2.2.2.2.1 r
  unfold wpX_drop
  dsimp only
  rw [nI_clamp (by omega)]
  refine zx_rule_yes hr (br_f (by decide) ⟨vp_in_nI hr (by decide), br_f (show ¬ nI (zc_z c r) = 0 from nI_ne0 (by omega) (by omega)) ⟨vp_in_nI hr (by decide), vp_in_nI hr (by decide), nm_r (e' := zf_Z (zc_dro c r)) ?_ ?_⟩⟩)
  · rw [← zf_droZ c r]
    show upd (zf_Z c) r (vp_nar .byte ((nI (zc_z c r) - 1).toInt8.toInt32)) = _
    rw [show nI (zc_z c r) - 1 = nI (zc_z c r - 1) from pk_sub (b := 1) (by omega), zn_nar2 (by omega)]
  · refine zx_updA (c := zc_dro c r) true okd hr ?_
    intro wd' bf' bo' te' h1 hR
    dsimp only
    refine ⟨vp_in_nI hr (by decide), ?_⟩
    have e2 : zf_Z (zc_dro c r) r = nI (zc_z c r - 1) := by
      show nI (if r = r then zc_z c r - 1 else zc_z c r) = _
      rw [if_pos rfl]
    rw [e2]
    refine h wd' bf' bo' te' (zm_Wnew okd hW (fun q hq => if_neg hq) (fun q hq l hl x => ?_) h1 hR)
    exact (zm_Mw (c := c) (d := zc_dro c r) rfl rfl rfl rfl l (fun i hi => rfl)).2
end
end
section
/-! Y: one demand, one fact, no fact, one code -/
def zy_eq (yb : Nat → Int32) (t : Nat → Nat) : Prop := ∀ x, x < 3 → t x ≤ 4 ∧ yb x = nI ((t x + 1) % 5)
section
variable {c : zc_C} {yb : Nat → Int32} {t : Nat → Nat}
theorem zy_fits {post : Int32 → SY → Prop} {d v : Nat} (hd : d < 8) (hv : v < 4) (ht : zy_eq yb t) (h : ∀ yb', zy_eq yb' (zm_mb d v t) → post (zn_b (zm_mt d v t)) (zf_T c, zf_K c, zf_A c, zf_B c, zf_Z c, zf_W c, yb')) : wpY_fits post (zf_T c, zf_K c, zf_A c, zf_B c, zf_Z c, zf_W c, yb) (nI d) (nI v) := by
  unfold wpY_fits wY_fits_46
  dsimp only
  by_cases h4 : d < 4
  · have h7 : ¬ d = 7 := by omega
    have e2 : zm_mb d v t = t := if_neg (fun z => by omega)
    have e1 : zm_mt d v t = decide (d = v) := by unfold zm_mt; rw [if_neg h7, if_pos h4]
    rw [e1, e2] at h
    have h' := h yb ht
    refine br_f (nI_nlt (a := 3) (by omega) (by omega)) (pk_eq v d (fun e => ?_) (fun e => ?_))
    · rw [decide_eq_true e.symm] at h'
      exact h'
    · rw [decide_eq_false (fun z => e z.symm)] at h'
      exact h'
  · refine br_t (nI_lt (a := 3) (by omega) (by omega)) ?_
    by_cases h7 : d = 7
    · subst h7
      have e1 : zm_mt 7 v t = true := rfl
      have e2 : zm_mb 7 v t = t := if_neg (fun z => z.2.1 rfl)
      rw [e1, e2] at h
      exact br_t rfl (h yb ht)
    · have h7' : ¬ nI d = 7 := fun z => h7 ((nI_eq (b := 7) (by omega) (by decide)).mp z)
      refine br_f h7' (nm_r (e' := nI (d - 4)) (pk_sub (b := 4) (by omega)) ?_)
      rw [nI_clamp (by omega)]
      have hx := ht (d - 4) (by omega)
      refine ⟨vp_in_nI (by omega) (by decide), pk_eq ((t (d - 4) + 1) % 5) 0 (fun e => ?_) (fun e => ?_) hx.2 rfl (by omega)⟩
      · have e4 : t (d - 4) = 4 := by omega
        have e1 : zm_mt d v t = true := by unfold zm_mt; rw [if_neg h7, if_neg h4, if_pos e4]
        have e2 : zm_mb d v t = fun x => if x = d - 4 then v else t x := if_pos ⟨by omega, h7, e4⟩
        rw [e1] at h
        refine ⟨vp_in_nI (by omega) (by decide), nm_e ⟨vp_in_nI (by omega) (by decide), br_t pk_us (h _ ?_)⟩⟩
        rw [e2, nI_1]
        intro x hx3
        unfold upd
        by_cases ex : x = d - 4
        · simp only [if_pos ex]
          exact ⟨by omega, congrArg nI (by omega)⟩
        · simp only [if_neg ex]
          exact ht x hx3
      · have e4 : ¬ t (d - 4) = 4 := by omega
        have e1 : zm_mt d v t = decide (t (d - 4) = v) := by unfold zm_mt; rw [if_neg h7, if_neg h4, if_neg e4]
        have e2 : zm_mb d v t = t := if_neg (fun z => e4 z.2.2)
        rw [e1, e2] at h
        have h' := h yb ht
        refine ⟨vp_in_nI (by omega) (by decide), pk_eq ((t (d - 4) + 1) % 5) (v + 1) (fun e5 => ?_) (fun e5 => ?_) hx.2 (nI_1 v) (by omega)⟩
        · rw [decide_eq_true (by omega)] at h'
          exact h'
        · rw [decide_eq_false (by omega)] at h'
          exact h'
theorem zy_takes {post : Int32 → SY → Prop} {i f : Nat} (ok : zc_ok c) (hf : f < 7) (ht : zy_eq yb t) (h : ∀ yb', ((zc_t c f && zm_F c i f t) = true → zy_eq yb' (zm_G c i f t)) → post (zn_b (zc_t c f && zm_F c i f t)) (zf_T c, zf_K c, zf_A c, zf_B c, zf_Z c, zf_W c, yb')) : wpY_takes post (zf_T c, zf_K c, zf_A c, zf_B c, zf_Z c, zf_W c, yb) (nI (zc_w c i)) (nI f) := by
  have hw := ok.2.2.2.2.2 i
  have hk := ok.2.1 f
  unfold wpY_takes
  dsimp only
  rw [nI_clamp (by omega), zn_w3 _ hw, zn_wa _ hw, zn_wb _ hw]
  refine ⟨vp_in_nI hf (by decide), zn_br (x := zc_t c f) (fun e0 => ?_) (fun e0 => ?_)⟩
  · rw [e0, Bool.false_and] at h
    exact h yb (fun z => nomatch z)
  · rw [e0, Bool.true_and] at h
    refine ⟨vp_in_nI hf (by decide), pk_eq (zc_k c f) (zc_w c i % 4) (fun e => ?_) (fun e => ?_) rfl rfl (by omega) (by omega)⟩
    · have hF : zm_F c i f t = (zm_mt (zc_w c i / 4 % 8) (zc_a c f) t && zm_mt (zc_w c i / 32 % 8) (zc_b c f) (zm_mb (zc_w c i / 4 % 8) (zc_a c f) t)) := by
        unfold zm_F
        rw [decide_eq_true e, Bool.true_and]
      refine ⟨vp_in_nI hf (by decide), ?_⟩
      refine zy_fits (d := zc_w c i / 4 % 8) (v := zc_a c f) (t := t) (by omega) (ok.2.2.1 f) ht ?_
      intro yb1 ht1
      dsimp only
      refine zn_br (fun e1 => ?_) (fun e1 => ?_)
      · rw [hF, e1, Bool.false_and] at h
        exact h yb1 (fun z => nomatch z)
      · rw [hF, e1, Bool.true_and] at h
        refine ⟨vp_in_nI hf (by decide), ?_⟩
        refine zy_fits (d := zc_w c i / 32 % 8) (v := zc_b c f) (t := zm_mb (zc_w c i / 4 % 8) (zc_a c f) t) (by omega) (ok.2.2.2.1 f) ht1 ?_
        intro yb2 ht2
        dsimp only
        refine zn_br (fun e2 => ?_) (fun e2 => ?_)
        · rw [e2] at h
          exact h yb2 (fun z => nomatch z)
        · rw [e2] at h
          exact h yb2 (fun _ => ht2)
    · have hF : zm_F c i f t = false := by
        unfold zm_F
        rw [decide_eq_false e, Bool.false_and]
      rw [hF] at h
      exact h yb (fun z => nomatch z)
theorem zy_n52 {post : Int32 → SY → Prop} {J : Int32 → Int32 → (Nat → Int32) → (Nat → Int32) → (Nat → Int32) → (Nat → Int32) → (Nat → Int32) → (Nat → Int32) → (Nat → Int32) → Prop} {x1 : Int32} {f : Nat} {yb' : Nat → Int32} (o : Bool) (ht : zy_eq yb t) (h : ∀ yb2, zy_eq yb2 t → J (zn_b o) (nI (f + 1)) (zf_T c) (zf_K c) (zf_A c) (zf_B c) (zf_Z c) (zf_W c) yb2) : wY_none_52 post J x1 (nI f) (yb 0) (yb 1) (yb 2) (zn_b o) (zf_T c) (zf_K c) (zf_A c) (zf_B c) (zf_Z c) (zf_W c) yb' := by
  unfold wY_none_52
  refine nm_e (nm_e (nm_e (nm_r (nI_1 f) (h _ ?_))))
  intro x hx
  match x, hx with
  | 0, _ => exact ht 0 (by decide)
  | 1, _ => exact ht 1 (by decide)
  | 2, _ => exact ht 2 (by decide)
theorem zy_none4 {post : Int32 → SY → Prop} {i : Nat} (ok : zc_ok c) (h : ∀ yb', zy_eq yb' t → post (zn_b (!(zm_an c i t 7))) (zf_T c, zf_K c, zf_A c, zf_B c, zf_Z c, zf_W c, yb')) : ∀ d f n yb, f + d = 7 → d < n → zy_eq yb t → wY_none_4 post (nI (zc_w c i)) n (zn_b (zm_an c i t f)) (nI f) (zf_T c) (zf_K c) (zf_A c) (zf_B c) (zf_Z c) (zf_W c) yb := by
  intro d
  induction d with
  | zero =>
    intro f n yb hf hn ht
    obtain ⟨m, rfl⟩ : ∃ m, n = m + 1 := ⟨n - 1, by omega⟩
    obtain rfl : f = 7 := by omega
    unfold wY_none_4
    refine br_t (nI_le (a := 7) (by decide) (by decide)) (zn_br (fun e => ?_) (fun e => ?_))
    · rw [e] at h
      exact h yb ht
    · rw [e] at h
      exact h yb ht
  | succ d ih =>
    intro f n yb hf hn ht
    obtain ⟨m, rfl⟩ : ∃ m, n = m + 1 := ⟨n - 1, by omega⟩
    have K := fun yb2 (h2 : zy_eq yb2 t) => ih (f + 1) m yb2 (by omega) (by omega) h2
    rw [zm_an] at K
    unfold wY_none_4 wY_none_47
    refine br_f (nI_ge (b := 7) (by omega) (by decide)) (nm_e (nm_e (nm_e (zy_takes (t := t) ok (by omega) ht ?_))))
    intro yb1 _
    dsimp only
    refine zn_br (fun e => ?_) (fun e => ?_)
    · rw [e, Bool.or_false] at K
      refine zn_br (fun e2 => ?_) (fun e2 => ?_)
      · rw [e2] at K
        exact zy_n52 false ht K
      · rw [e2] at K
        exact zy_n52 true ht K
    · rw [e, Bool.or_true] at K
      exact zy_n52 true ht K
theorem zy_none {post : Int32 → SY → Prop} {i : Nat} (ok : zc_ok c) (ht : zy_eq yb t) (h : ∀ yb', zy_eq yb' t → post (zn_b (!(zm_an c i t 7))) (zf_T c, zf_K c, zf_A c, zf_B c, zf_Z c, zf_W c, yb')) : wpY_none post (zf_T c, zf_K c, zf_A c, zf_B c, zf_Z c, zf_W c, yb) (nI (zc_w c i)) := by
  unfold wpY_none
  dsimp only
  exact ⟨8, zy_none4 ok h 7 0 8 yb (by omega) (by omega) ht⟩
theorem zy_cell (r i : Nat) : 3 * nI r + nI i = nI (3 * r + i) := by
  rw [show 3 * nI r = nI (3 * r) from pk_mul 3 r, nI_add]
theorem zy_i29 {post : Int32 → SY → Prop} {r n x : Nat} (ok : zc_ok c) (hr : r < 3) (hn3 : n ≤ 3) (hx : x < 512) (h : ∀ yb', post (zn_b (zy_M c r n x 3)) (zf_T c, zf_K c, zf_A c, zf_B c, zf_Z c, zf_W c, yb')) : ∀ d i fu yb, i + d = 3 → d < fu → (zy_M c r n x i = true → zy_eq yb (zm_bd c r x i)) → wY_isMatch_29 post (nI r) (nI n) (nI x) fu (zn_b (zy_M c r n x i)) (nI i) (zf_T c) (zf_K c) (zf_A c) (zf_B c) (zf_Z c) (zf_W c) yb := by
  have mono : ∀ j i, i + j = 3 → zy_M c r n x i = false → zy_M c r n x 3 = false := by
    intro j
    induction j with
    | zero => intro i hi hf; obtain rfl : i = 3 := by omega
              exact hf
    | succ j ihj =>
      intro i hi hf
      exact ihj (i + 1) (by omega) (by rw [zy_M, hf, Bool.false_and])
  intro d
  induction d with
  | zero =>
    intro i fu yb hi hfu hyb
    obtain ⟨m, rfl⟩ : ∃ m, fu = m + 1 := ⟨fu - 1, by omega⟩
    obtain rfl : i = 3 := by omega
    unfold wY_isMatch_29
    exact br_t (nI_le (a := 3) (by decide) (by decide)) ⟨zn_bn _, h yb⟩
  | succ d ih =>
    intro i fu yb hi hfu hyb
    obtain ⟨m, rfl⟩ : ∃ m, fu = m + 1 := ⟨fu - 1, by omega⟩
    unfold wY_isMatch_29
    refine br_f (nI_ge (b := 3) (by omega) (by decide)) ?_
    cases hM : zy_M c r n x i with
    | false =>
      rw [mono (3 - i) i (by omega) hM] at h
      exact br_t rfl ⟨narrow_b0, h yb⟩
    | true =>
      have ht := hyb hM
      have hg := zm_g8 x i
      have hw := ok.2.2.2.2.2 (3 * r + i)
      have K : ∀ (o : Bool) yb', o = (if i < n then zm_st c (3 * r + i) (zm_bd c r x i) (zm_g x i) else decide (zm_g x i = 7)) → (o = true → zy_eq yb' (zm_bd c r x (i + 1))) → wY_isMatch_29 post (nI r) (nI n) (nI x) m (zn_b o) (nI (i + 1)) (zf_T c) (zf_K c) (zf_A c) (zf_B c) (zf_Z c) (zf_W c) yb' := by
        intro o yb' ho hyb'
        have e : zy_M c r n x (i + 1) = o := by rw [zy_M, hM, Bool.true_and, ho]
        have hh := ih (i + 1) m yb' (by omega) (by omega) (by rw [e]; exact hyb')
        rw [e] at hh
        exact hh
      refine br_f (by decide) (nm_r (e' := nI (zm_g x i)) (zn_dig x hx i (by omega)) ?_)
      rw [zy_cell, nI_clamp (by omega)]
      refine ⟨vp_in_nI (by omega) (by decide), nm_r (e' := nI (zc_w c (3 * r + i))) rfl ?_⟩
      unfold wY_isMatch_78 wY_isMatch_83 wY_isMatch_97
      refine pk_le n i (fun e => ?_) (fun e => ?_)
      · have e' : ¬ i < n := by omega
        rw [if_neg e'] at K
        refine br_f (by decide) (br_f (by decide) (pk_eq (zm_g x i) 7 (fun e7 => ?_) (fun e7 => ?_)))
        · refine br_t (nI_le e (by omega)) (nm_r (nI_1 i) (K true yb (decide_eq_true e7).symm (fun _ => ?_)))
          rw [zm_bd, if_pos e7]
          exact ht
        · exact nm_r (nI_1 i) (K false yb (decide_eq_false e7).symm (fun z => nomatch z))
      · rw [if_pos e] at K
        unfold zm_st at K
        refine pk_lt (zc_w c (3 * r + i)) 256 (fun ew => ?_) (fun ew => ?_)
        · rw [if_neg (by omega)] at K
          refine br_t rfl (pk_eq (zm_g x i) 7 (fun e7 => ?_) (fun e7 => ?_))
          · refine br_t rfl (nm_r (nI_1 i) (K false yb ?_ (fun z => nomatch z)))
            rw [decide_eq_false (fun z => z e7), Bool.false_and]
          · rw [decide_eq_true e7, Bool.true_and] at K
            refine zy_takes (t := zm_bd c r x i) ok (by omega) ht ?_
            intro yb1 hyb1
            dsimp only
            refine nm_r (nI_1 i) (K _ yb1 rfl (fun z => ?_))
            have z2 := z
            rw [Bool.and_eq_true] at z2
            rw [zm_bd, if_neg e7, if_pos z2.2]
            exact hyb1 z
        · rw [if_pos ew] at K
          refine br_f (by decide) (br_f (by decide) (pk_eq (zm_g x i) 7 (fun e7 => ?_) (fun e7 => ?_)))
          · rw [decide_eq_true e7, Bool.true_and] at K
            refine br_f (nI_ge e (by omega)) (zy_none (t := zm_bd c r x i) ok ht ?_)
            intro yb1 ht1
            dsimp only
            have ht2 : zy_eq yb1 (zm_bd c r x (i + 1)) := by
              rw [zm_bd, if_pos e7]
              exact ht1
            refine zn_br (fun e1 => ?_) (fun e1 => ?_)
            · exact nm_r (nI_1 i) (K false yb1 e1.symm (fun _ => ht2))
            · exact nm_r (nI_1 i) (K true yb1 e1.symm (fun _ => ht2))
          · exact nm_r (nI_1 i) (K false yb (by rw [decide_eq_false e7, Bool.false_and]) (fun z => nomatch z))
theorem zy_i3_s {post : Int32 → SY → Prop} {x1 x2 x3 : Int32} {n j : Nat} (hj : j < 3) (h : wY_isMatch_3 post x1 x2 x3 n (nI (j + 1)) (zf_T c) (zf_K c) (zf_A c) (zf_B c) (zf_Z c) (zf_W c) (upd yb j 0)) : wY_isMatch_3 post x1 x2 x3 (n + 1) (nI j) (zf_T c) (zf_K c) (zf_A c) (zf_B c) (zf_Z c) (zf_W c) yb := by
  unfold wY_isMatch_3
  refine br_f (nI_ge (b := 3) hj (by decide)) ⟨vp_in_nI hj (by decide), ?_⟩
  rw [nI_clamp (by omega)]
  exact nm_e (nm_r (nI_1 j) h)
theorem zy_isM {post : Int32 → SY → Prop} {r n x : Nat} (ok : zc_ok c) (hr : r < 3) (hn3 : n ≤ 3) (hx : x < 512) (h : ∀ yb', post (zn_b (zy_M c r n x 3)) (zf_T c, zf_K c, zf_A c, zf_B c, zf_Z c, zf_W c, yb')) : wpY_isMatch post (zf_T c, zf_K c, zf_A c, zf_B c, zf_Z c, zf_W c, yb) (nI r) (nI n) (nI x) := by
  unfold wpY_isMatch
  dsimp only
  refine ⟨4, zy_i3_s (j := 0) (by decide) (zy_i3_s (j := 1) (by decide) (zy_i3_s (j := 2) (by decide) ?_))⟩
  unfold wY_isMatch_3
  refine br_t (nI_le (a := 3) (by decide) (by decide)) ⟨4, zy_i29 ok hr hn3 hx h 3 0 4 _ (by omega) (by omega) (fun _ => ?_)⟩
  intro x hx
  match x, hx with
  | 0, _ => exact ⟨Nat.le_refl 4, show _ = nI ((4 + 1) % 5) from rfl⟩
  | 1, _ => exact ⟨Nat.le_refl 4, show _ = nI ((4 + 1) % 5) from rfl⟩
  | 2, _ => exact ⟨Nat.le_refl 4, show _ = nI ((4 + 1) % 5) from rfl⟩
end
end
section
/-! Y: the methods -/
theorem zy_32 {v : Int32} (h : nI 3 ≤ v) : (2 : Int32) < v := by
  rw [Int32.le_iff_toInt_le, nI_toInt (by decide)] at h
  rw [Int32.lt_iff_toInt_lt, show (2 : Int32).toInt = 2 from by decide]
  omega
theorem zy_76 {v : Int32} (h : nI 7 ≤ v) : (6 : Int32) < v := by
  rw [Int32.le_iff_toInt_le, nI_toInt (by decide)] at h
  rw [Int32.lt_iff_toInt_lt, show (6 : Int32).toInt = 6 from by decide]
  omega
section
variable {c : zc_C} {yb : Nat → Int32} {r f k a b : Nat}
theorem zy_rule_no {post : Int32 → Prop} {v : Int32} (h : v < 0 ∨ nI 3 ≤ v) (hp : post 0) : wpY_rule post (zf_T c, zf_K c, zf_A c, zf_B c, zf_Z c, zf_W c, yb) v := by
  unfold wpY_rule
  dsimp only
  by_cases h0 : v < 0
  · exact br_t h0 hp
  · exact br_f h0 (br_t (zy_32 (h.resolve_left h0)) hp)
theorem zy_rule_yes {post : Int32 → Prop} (hr : r < 3) (hp : post 1) : wpY_rule post (zf_T c, zf_K c, zf_A c, zf_B c, zf_Z c, zf_W c, yb) (nI r) := by
  unfold wpY_rule
  dsimp only
  exact br_f (nI_pos (by omega)) (br_f (nI_nlt (a := 2) (by omega) (by omega)) hp)
theorem zy_cnt5 {post : Int32 → SY → Prop} {n : Nat} (ok : zc_ok c) (hr : r < 3) (hn3 : n ≤ 3) (h : ∀ yb', post (nI (zk_n (fun x => zy_M c r n x 3) 512)) (zf_T c, zf_K c, zf_A c, zf_B c, zf_Z c, zf_W c, yb')) : ∀ d x fu yb, x + d = 512 → d < fu → wY_count_5 post (nI r) (nI n) fu (nI (zk_n (fun x => zy_M c r n x 3) x)) (nI x) (zf_T c) (zf_K c) (zf_A c) (zf_B c) (zf_Z c) (zf_W c) yb := by
  intro d
  induction d with
  | zero =>
    intro x fu yb hx hfu
    obtain ⟨m, rfl⟩ : ∃ m, fu = m + 1 := ⟨fu - 1, by omega⟩
    obtain rfl : x = 512 := by omega
    unfold wY_count_5
    exact br_t (nI_le (a := 512) (by decide) (by decide)) (h yb)
  | succ d ih =>
    intro x fu yb hx hfu
    obtain ⟨m, rfl⟩ : ∃ m, fu = m + 1 := ⟨fu - 1, by omega⟩
    unfold wY_count_5
    refine br_f (nI_ge (b := 512) (by omega) (by decide)) (zy_isM ok hr hn3 (by omega) ?_)
    intro yb1
    have hi := ih (x + 1) m yb1 (by omega) (by omega)
    dsimp only
    refine zn_br (fun e => ?_) (fun e => ?_)
    · rw [zk_f (q := fun x => zy_M c r n x 3) e] at hi
      exact nm_r (nI_1 x) hi
    · rw [zk_t (q := fun x => zy_M c r n x 3) e] at hi
      exact nm_r (nI_1 _) (nm_r (nI_1 x) hi)
theorem zy_count {post : Int32 → SY → Prop} {n : Nat} (ok : zc_ok c) (hr : r < 3) (hn3 : n ≤ 3) (h : ∀ yb', post (nI (zk_M c r n)) (zf_T c, zf_K c, zf_A c, zf_B c, zf_Z c, zf_W c, yb')) : wpY_count post (zf_T c, zf_K c, zf_A c, zf_B c, zf_Z c, zf_W c, yb) (nI r) (nI n) := by
  unfold wpY_count
  dsimp only
  rw [← zk_YM hn3] at h
  exact ⟨513, zy_cnt5 ok hr hn3 h 512 0 513 yb (by omega) (by omega)⟩
theorem zy_matches {post : Int32 → SY → Prop} (ok : zc_ok c) (hr : r < 3) (h : ∀ yb', post (nI (zk_M c r (zc_z c r))) (zf_T c, zf_K c, zf_A c, zf_B c, zf_Z c, zf_W c, yb')) : wpY_matches post (zf_T c, zf_K c, zf_A c, zf_B c, zf_Z c, zf_W c, yb) (nI r) := by
  unfold wpY_matches
  dsimp only
  refine zy_rule_yes hr (br_f (by decide) ⟨vp_in_nI hr (by decide), ?_⟩)
  rw [nI_clamp (by omega)]
  exact zy_count (n := zc_z c r) ok hr (ok.2.2.2.2.1 r) h
theorem zy_m5 {post : Int32 → SY → Prop} {kk : Int32} (ok : zc_ok c) (hr : r < 3) : ∀ d x j fu yb, x + d = 512 → d < fu → (∀ yb', post (zk_s (fun x => zy_M c r (zc_z c r) x 3) nI kk d x j) (zf_T c, zf_K c, zf_A c, zf_B c, zf_Z c, zf_W c, yb')) → wY_match_5 post (nI r) kk fu (nI j) (nI x) (zf_T c) (zf_K c) (zf_A c) (zf_B c) (zf_Z c) (zf_W c) yb := by
  intro d
  induction d with
  | zero =>
    intro x j fu yb hx hfu h
    obtain ⟨m, rfl⟩ : ∃ m, fu = m + 1 := ⟨fu - 1, by omega⟩
    obtain rfl : x = 512 := by omega
    unfold wY_match_5
    exact br_t (nI_le (a := 512) (by decide) (by decide)) (h yb)
  | succ d ih =>
    intro x j fu yb hx hfu h
    obtain ⟨m, rfl⟩ : ∃ m, fu = m + 1 := ⟨fu - 1, by omega⟩
    unfold wY_match_5
    refine br_f (nI_ge (b := 512) (by omega) (by decide)) (zy_rule_yes hr (br_f (by decide) ⟨vp_in_nI hr (by decide), ?_⟩))
    rw [nI_clamp (by omega)]
    refine zy_isM (n := zc_z c r) ok hr (ok.2.2.2.2.1 r) (by omega) ?_
    intro yb1
    dsimp only
    rw [zk_s] at h
    refine zn_br (fun e => ?_) (fun e => ?_)
    · rw [e, if_neg (by decide)] at h
      exact nm_r (nI_1 x) (ih (x + 1) j m yb1 (by omega) (by omega) h)
    · rw [if_pos e] at h
      refine br_c (fun e2 => ?_) (fun e2 => ?_)
      · rw [if_pos e2] at h
        exact h yb1
      · rw [if_neg e2] at h
        exact nm_r (nI_1 j) (nm_r (nI_1 x) (ih (x + 1) (j + 1) m yb1 (by omega) (by omega) h))
theorem zy_match {post : Int32 → SY → Prop} {kk : Int32} (ok : zc_ok c) (hr : r < 3) (h : ∀ yb', post (zk_mt c r kk) (zf_T c, zf_K c, zf_A c, zf_B c, zf_Z c, zf_W c, yb')) : wpY_match post (zf_T c, zf_K c, zf_A c, zf_B c, zf_Z c, zf_W c, yb) (nI r) kk := by
  have hz := ok.2.2.2.2.1 r
  have e : zk_s (fun x => zy_M c r (zc_z c r) x 3) nI kk 512 0 0 = zk_mt c r kk := zk_shi hz (fun i hi => zy_Mlo hz hi) (fun y hy => ⟨zy_Mhi hz hy, rfl⟩)
  unfold wpY_match
  dsimp only
  exact ⟨513, zy_m5 ok hr 512 0 0 513 yb (by omega) (by omega) (by rw [e]; exact h)⟩
theorem zy_match_no {post : Int32 → SY → Prop} {v kk : Int32} (hv : v < 0 ∨ nI 3 ≤ v) (h : post (-1) (zf_T c, zf_K c, zf_A c, zf_B c, zf_Z c, zf_W c, yb)) : wpY_match post (zf_T c, zf_K c, zf_A c, zf_B c, zf_Z c, zf_W c, yb) v kk := by
  unfold wpY_match
  dsimp only
  refine ⟨1, ?_⟩
  unfold wY_match_5
  exact br_f (by decide) (zy_rule_no hv (br_t rfl h))
theorem zy_ready4 {post : Int32 → SY → Prop} (ok : zc_ok c) (h : ∀ yb', post (zk_rd c 3) (zf_T c, zf_K c, zf_A c, zf_B c, zf_Z c, zf_W c, yb')) : ∀ d r n yb, r + d = 3 → d < n → wY_ready_4 post n (zk_rd c r) (nI r) (zf_T c) (zf_K c) (zf_A c) (zf_B c) (zf_Z c) (zf_W c) yb := by
  intro d
  induction d with
  | zero =>
    intro r n yb hr hn
    obtain ⟨m, rfl⟩ : ∃ m, n = m + 1 := ⟨n - 1, by omega⟩
    obtain rfl : r = 3 := by omega
    unfold wY_ready_4
    exact br_t (nI_le (a := 3) (by decide) (by decide)) (h yb)
  | succ d ih =>
    intro r n yb hr hn
    obtain ⟨m, rfl⟩ : ∃ m, n = m + 1 := ⟨n - 1, by omega⟩
    have hM := zk_M512 (c := c) (r := r) (ok.2.2.2.2.1 r)
    unfold wY_ready_4
    refine br_f (nI_ge (b := 3) (by omega) (by decide)) (zy_matches ok (by omega) ?_)
    intro yb1
    have hi := ih (r + 1) m yb1 (by omega) (by omega)
    rw [zk_rd] at hi
    dsimp only
    refine pk_le (zk_M c r (zc_z c r)) 0 (fun e => ?_) (fun e => ?_)
    · rw [if_pos (by omega)] at hi
      exact nm_r (nI_1 r) hi
    · rw [if_neg (by omega)] at hi
      exact nm_e (nm_r (nI_1 r) hi)
theorem zy_ready {post : Int32 → SY → Prop} (ok : zc_ok c) (h : ∀ yb', post (zk_rd c 3) (zf_T c, zf_K c, zf_A c, zf_B c, zf_Z c, zf_W c, yb')) : wpY_ready post (zf_T c, zf_K c, zf_A c, zf_B c, zf_Z c, zf_W c, yb) := by
  unfold wpY_ready
  dsimp only
  exact ⟨4, zy_ready4 ok h 3 0 4 yb (by omega) (by omega)⟩
theorem zy_u73 {post : Int32 → SY → Prop} {J : Int32 → Int32 → (Nat → Int32) → (Nat → Int32) → (Nat → Int32) → (Nat → Int32) → (Nat → Int32) → (Nat → Int32) → (Nat → Int32) → Prop} {x1 : Int32} {n x : Nat} (o : Bool) (ok : zc_ok c) (hx : x < 1536) (h : ∀ yb', J (nI (n + (if (o && zy_M c (x / 512) (zc_z c (x / 512)) (x % 512) 3) = true then 1 else 0))) (nI (x + 1)) (zf_T c) (zf_K c) (zf_A c) (zf_B c) (zf_Z c) (zf_W c) yb') : wY_uses_73 post J x1 (nI n) (nI x) (nI (x % 512)) (zn_b o) (zf_T c) (zf_K c) (zf_A c) (zf_B c) (zf_Z c) (zf_W c) yb := by
  unfold wY_uses_73
  cases o with
  | false =>
    rw [Bool.false_and, if_neg (by decide)] at h
    exact br_t rfl (nm_r (nI_1 x) (h yb))
  | true =>
    rw [Bool.true_and] at h
    rw [show nI x / 512 = nI (x / 512) from pk_div (d := 512) (by omega) (by decide) (by decide), nI_clamp (by omega)]
    refine br_f (by decide) ⟨by decide, by decide, vp_in_nI (by omega) (by decide), ?_⟩
    refine zy_isM (n := zc_z c (x / 512)) ok (by omega) (ok.2.2.2.2.1 _) (by omega) ?_
    intro yb1
    have h1 := h yb1
    dsimp only
    refine zn_br (fun e => ?_) (fun e => ?_)
    · rw [e, if_neg (by decide)] at h1
      exact nm_r (nI_1 x) h1
    · rw [if_pos e] at h1
      exact nm_r (nI_1 n) (nm_r (nI_1 x) h1)
theorem zy_u25 {post : Int32 → SY → Prop} (ok : zc_ok c) (hf : f < 7) (h : ∀ yb', post (nI (zk_n (zk_Y c f) 1536)) (zf_T c, zf_K c, zf_A c, zf_B c, zf_Z c, zf_W c, yb')) : ∀ d x n yb, x + d = 1536 → d < n → wY_uses_25 post (nI f) n (nI (zk_n (zk_Y c f) x)) (nI x) (zf_T c) (zf_K c) (zf_A c) (zf_B c) (zf_Z c) (zf_W c) yb := by
  intro d
  induction d with
  | zero =>
    intro x n yb hx hn
    obtain ⟨m, rfl⟩ : ∃ m, n = m + 1 := ⟨n - 1, by omega⟩
    obtain rfl : x = 1536 := by omega
    unfold wY_uses_25
    exact br_t (nI_le (a := 1536) (by decide) (by decide)) (h yb)
  | succ d ih =>
    intro x n yb hx hn
    obtain ⟨m, rfl⟩ : ∃ m, n = m + 1 := ⟨n - 1, by omega⟩
    have hi := fun yb' => ih (x + 1) m yb' (by omega) (by omega)
    have hx5 : x % 512 < 512 := by omega
    rw [zk_n] at hi
    unfold zk_Y at hi
    unfold wY_uses_25 wY_uses_68
    refine br_f (nI_ge (b := 1536) (by omega) (by decide)) ⟨by decide, nm_r (e' := nI (x % 512)) (pk_rem (d := 512) (by omega) (by decide) (by decide)) ?_⟩
    rw [zn_seven _ hx5, zn_three _ hx5, zn_six _ hx5]
    have K : ∀ o, o = zk_yh (x % 512) f → wY_uses_73 post (wY_uses_25 post (nI f) m) (nI f) (nI (zk_n (zk_Y c f) x)) (nI x) (nI (x % 512)) (zn_b o) (zf_T c) (zf_K c) (zf_A c) (zf_B c) (zf_Z c) (zf_W c) yb := by
      intro o ho
      subst ho
      exact zy_u73 _ ok (by omega) hi
    unfold zk_yh at K
    refine pk_eq (x % 512 % 8) f (fun e => ?_) (fun e => ?_)
    · exact K true (by rw [decide_eq_true e, Bool.true_or])
    · refine pk_eq (x % 512 / 8 % 8) f (fun e2 => ?_) (fun e2 => ?_)
      · exact K true (by rw [decide_eq_true e2, Bool.true_or, Bool.or_true])
      · refine pk_eq (x % 512 / 64) f (fun e3 => ?_) (fun e3 => ?_)
        · exact K true (by rw [decide_eq_true e3, Bool.or_true, Bool.or_true])
        · exact K false (by rw [decide_eq_false e, decide_eq_false e2, decide_eq_false e3]; rfl)
theorem zy_uses {post : Int32 → SY → Prop} (ok : zc_ok c) (hf : f < 7) (ht : zc_t c f = true) (h : ∀ yb', post (nI (zk_us c f 3)) (zf_T c, zf_K c, zf_A c, zf_B c, zf_Z c, zf_W c, yb')) : wpY_uses post (zf_T c, zf_K c, zf_A c, zf_B c, zf_Z c, zf_W c, yb) (nI f) := by
  have e : zk_n (zk_Y c f) 1536 = zk_us c f 3 := by
    rw [zk_yu ok hf]
    show _ = 0 + zk_u c 0 f + zk_u c 1 f + zk_u c 2 f
    omega
  rw [← e] at h
  unfold wpY_uses
  dsimp only
  rw [nI_clamp (by omega)]
  refine br_f (nI_pos (by omega)) (br_f (nI_nlt (a := 6) (by omega) (by omega)) ⟨vp_in_nI hf (by decide), br_f ?_ ⟨1537, zy_u25 ok hf h 1536 0 1537 yb (by omega) (by omega)⟩⟩)
  show ¬ zn_b (zc_t c f) = 0
  rw [ht]
  decide
theorem zy_fit128 {post : Int32 → Prop} {J : Int32 → Int32 → Prop} {x3 x4 x5 : Int32} {n g : Nat} (o : Bool) (h : J (nI (n + (if o = true then 1 else 0))) (nI (g + 1))) : wY_fitting_128 post J x3 x4 x5 (nI n) (nI g) (zn_b o) (zf_T c) (zf_K c) (zf_A c) (zf_B c) (zf_Z c) (zf_W c) yb := by
  unfold wY_fitting_128
  cases o with
  | false => exact br_t rfl (nm_r (nI_1 g) h)
  | true => exact br_f (by decide) (nm_r (nI_1 n) (nm_r (nI_1 g) h))
theorem zy_fit57 {post : Int32 → Prop} {i : Nat} (ok : zc_ok c) (h : post (nI (zk_ft c i 7))) : ∀ d g n, g + d = 7 → d < n → wY_fitting_57 post (nI (zc_w c i)) (nI (zc_w c i / 4 % 8)) (nI (zc_w c i / 32 % 8)) (zf_T c) (zf_K c) (zf_A c) (zf_B c) (zf_Z c) (zf_W c) yb n (nI (zk_ft c i g)) (nI g) := by
  have hw := ok.2.2.2.2.2 i
  intro d
  induction d with
  | zero =>
    intro g n hg hn
    obtain ⟨m, rfl⟩ : ∃ m, n = m + 1 := ⟨n - 1, by omega⟩
    obtain rfl : g = 7 := by omega
    unfold wY_fitting_57
    exact br_t (nI_le (a := 7) (by decide) (by decide)) h
  | succ d ih =>
    intro g n hg hn
    obtain ⟨m, rfl⟩ : ∃ m, n = m + 1 := ⟨n - 1, by omega⟩
    have hk := ok.2.1 g
    have ha := ok.2.2.1 g
    have hb := ok.2.2.2.1 g
    have hi := ih (g + 1) m (by omega) (by omega)
    unfold zk_ft at hi ⊢
    rw [zk_n] at hi
    have K : ∀ o, o = (zc_t c g && zk_lr c i g) → wY_fitting_128 post (wY_fitting_57 post (nI (zc_w c i)) (nI (zc_w c i / 4 % 8)) (nI (zc_w c i / 32 % 8)) (zf_T c) (zf_K c) (zf_A c) (zf_B c) (zf_Z c) (zf_W c) yb m) (nI (zc_w c i)) (nI (zc_w c i / 4 % 8)) (nI (zc_w c i / 32 % 8)) (nI (zk_n (fun f => zc_t c f && zk_lr c i f) g)) (nI g) (zn_b o) (zf_T c) (zf_K c) (zf_A c) (zf_B c) (zf_Z c) (zf_W c) yb := by
      intro o ho
      subst ho
      exact zy_fit128 _ hi
    unfold zk_lr at K
    unfold wY_fitting_57
    rw [nI_clamp (by omega), zn_w3 _ hw]
    refine br_f (nI_ge (b := 7) (by omega) (by decide)) ⟨vp_in_nI (by omega) (by decide), zn_br (x := zc_t c g) (fun e0 => ?_) (fun e0 => ?_)⟩
    · unfold wY_fitting_127
      exact K false (by rw [e0, Bool.false_and])
    · rw [e0, Bool.true_and] at K
      refine ⟨vp_in_nI (by omega) (by decide), pk_eq (zc_k c g) (zc_w c i % 4) (fun e1 => ?_) (fun e1 => ?_) rfl rfl (by omega) (by omega)⟩
      · rw [decide_eq_true e1, Bool.true_and] at K
        have K2 : ((decide (4 ≤ zc_w c i / 4 % 8) || decide (zc_w c i / 4 % 8 = zc_a c g)) = true) → wY_fitting_105 post (wY_fitting_57 post (nI (zc_w c i)) (nI (zc_w c i / 4 % 8)) (nI (zc_w c i / 32 % 8)) (zf_T c) (zf_K c) (zf_A c) (zf_B c) (zf_Z c) (zf_W c) yb m) (nI (zc_w c i)) (nI (zc_w c i / 4 % 8)) (nI (zc_w c i / 32 % 8)) (nI (zk_n (fun f => zc_t c f && zk_lr c i f) g)) (nI g) (zf_T c) (zf_K c) (zf_A c) (zf_B c) (zf_Z c) (zf_W c) yb := by
          intro e2
          rw [e2, Bool.true_and] at K
          unfold wY_fitting_105 wY_fitting_123 wY_fitting_127
          rw [nI_clamp (by omega)]
          refine pk_lt 3 (zc_w c i / 32 % 8) (fun e3 => ?_) (fun e3 => ?_)
          · exact K true (by rw [decide_eq_true (show 4 ≤ zc_w c i / 32 % 8 by omega), Bool.true_or])
          · refine ⟨vp_in_nI (by omega) (by decide), pk_eq (zc_w c i / 32 % 8) (zc_b c g) (fun e4 => ?_) (fun e4 => ?_) rfl rfl (by omega) (by omega)⟩
            · exact K true (by rw [decide_eq_true e4, Bool.or_true])
            · exact K false (by rw [decide_eq_false e4, decide_eq_false (show ¬ 4 ≤ zc_w c i / 32 % 8 by omega)]; rfl)
        refine pk_lt 3 (zc_w c i / 4 % 8) (fun e3 => ?_) (fun e3 => ?_)
        · exact K2 (by rw [decide_eq_true (show 4 ≤ zc_w c i / 4 % 8 by omega), Bool.true_or])
        · refine ⟨vp_in_nI (by omega) (by decide), pk_eq (zc_w c i / 4 % 8) (zc_a c g) (fun e4 => ?_) (fun e4 => ?_) rfl rfl (by omega) (by omega)⟩
          · exact K2 (by rw [decide_eq_true e4, Bool.or_true])
          · unfold wY_fitting_127
            exact K false (by rw [decide_eq_false e4, decide_eq_false (show ¬ 4 ≤ zc_w c i / 4 % 8 by omega)]; rfl)
      · unfold wY_fitting_127
        exact K false (by rw [decide_eq_false e1, Bool.false_and])
theorem zy_facts4 {post : Int32 → Prop} (ok : zc_ok c) (h : post (zf_P c)) : ∀ d j n, j + d = 7 → d < n → wY_facts_4 post (zf_T c) (zf_K c) (zf_A c) (zf_B c) (zf_Z c) (zf_W c) yb n (nI (zc_p c % 2 ^ j)) (nI j) := by
  intro d
  induction d with
  | zero =>
    intro j n hj hn
    obtain ⟨m, rfl⟩ : ∃ m, n = m + 1 := ⟨n - 1, by omega⟩
    obtain rfl : j = 7 := by omega
    unfold wY_facts_4
    rw [show zc_p c % 2 ^ 7 = zc_p c from Nat.mod_eq_of_lt ok.1]
    exact br_t (nI_le (a := 7) (by decide) (by decide)) h
  | succ d ih =>
    intro j n hj hn
    obtain ⟨m, rfl⟩ : ∃ m, n = m + 1 := ⟨n - 1, by omega⟩
    have hi := ih (j + 1) m (by omega) (by omega)
    unfold wY_facts_4
    rw [nI_clamp (by omega)]
    refine br_f (nI_ge (b := 7) (by omega) (by decide)) ⟨vp_in_nI (by omega) (by decide), zn_br (x := zc_t c j) (fun e => ?_) (fun e => ?_)⟩
    · rw [← zn_facts0 _ ok.1 j (by omega) e] at hi
      exact nm_r (nI_1 j) hi
    · exact nm_r (zn_facts1 _ ok.1 j (by omega) e) (nm_r (nI_1 j) hi)
theorem zy_facts {post : Int32 → Prop} (ok : zc_ok c) (h : post (zf_P c)) : wpY_facts post (zf_T c, zf_K c, zf_A c, zf_B c, zf_Z c, zf_W c, yb) := by
  unfold wpY_facts
  dsimp only
  refine ⟨8, ?_⟩
  have e := zy_facts4 (yb := yb) ok h 7 0 8 (by omega) (by omega)
  rw [show zc_p c % 2 ^ 0 = 0 from Nat.mod_one _] at e
  exact e
theorem zy_fact {post : Int32 → Prop} (hk : k < 3) (ha : a < 4) (hb : b < 4) (h : post 1) : wpY_fact post (zf_T c, zf_K c, zf_A c, zf_B c, zf_Z c, zf_W c, yb) (nI k) (nI a) (nI b) := by
  unfold wpY_fact
  dsimp only
  exact br_f (nI_pos (by omega)) (br_f (nI_nlt (a := 2) (by omega) (by omega)) (br_f (nI_pos (by omega)) (br_f (nI_nlt (a := 3) (by omega) (by omega)) (br_f (nI_pos (by omega)) (br_f (nI_nlt (a := 3) (by omega) (by omega)) h)))))
theorem zf_addT (c : zc_C) (f k a b : Nat) : upd (zf_T c) f (vp_nar .boolean 1) = zf_T (zc_add c f k a b) := by
  funext g
  show (if g = f then 1 else zn_b (zc_t c g)) = zn_b (zc_t (zc_add c f k a b) g)
  rw [zc_addt]
  by_cases e : g = f
  · subst e
    rw [if_pos rfl, decide_eq_true rfl, Bool.or_true]
    rfl
  · rw [if_neg e, decide_eq_false (fun z => e z.symm), Bool.or_false]
theorem zf_remT {c : zc_C} {f : Nat} (h : zc_t c f = true) : upd (zf_T c) f (vp_nar .boolean 0) = zf_T (zc_rem c f) := by
  funext g
  show (if g = f then 0 else zn_b (zc_t c g)) = zn_b (zc_t (zc_rem c f) g)
  rw [zc_remt]
  by_cases e : g = f
  · subst e
    rw [if_pos rfl, decide_eq_true rfl, h]
    rfl
  · rw [if_neg e, decide_eq_false (fun z => e z.symm), Bool.xor_false]
theorem zy_add15 {post : Int32 → SY → Prop} (ok : zc_ok c) (hf : zc_p c = 127 → post (-2) (zf_T c, zf_K c, zf_A c, zf_B c, zf_Z c, zf_W c, yb)) (h : ∀ f, f < 7 → zc_t c f = false → (∀ g, g < f → zc_t c g = true) → post (nI f) (zf_T (zc_add c f k a b), zf_K (zc_add c f k a b), zf_A (zc_add c f k a b), zf_B (zc_add c f k a b), zf_Z (zc_add c f k a b), zf_W (zc_add c f k a b), yb)) : ∀ e f n, f + e = 7 → e < n → (∀ g, g < f → zc_t c g = true) → wY_add_15 post (nI k) (nI a) (nI b) (zf_T c) (zf_K c) (zf_A c) (zf_B c) (zf_Z c) (zf_W c) yb n (nI f) := by
  intro e
  induction e with
  | zero =>
    intro f n hf7 hn hg
    obtain ⟨m, rfl⟩ : ∃ m, n = m + 1 := ⟨n - 1, by omega⟩
    obtain rfl : f = 7 := by omega
    unfold wY_add_15
    exact br_t (nI_le (a := 7) (by decide) (by decide)) (hf (zn_full _ ok.1 hg))
  | succ e ih =>
    intro f n hf7 hn hg
    obtain ⟨m, rfl⟩ : ∃ m, n = m + 1 := ⟨n - 1, by omega⟩
    have hf : f < 7 := by omega
    unfold wY_add_15
    rw [nI_clamp (by omega)]
    refine br_f (nI_ge (b := 7) hf (by decide)) ⟨vp_in_nI hf (by decide), zn_br (x := zc_t c f) (fun e1 => ?_) (fun e1 => ?_)⟩
    · exact ⟨vp_in_nI hf (by decide), nm_r (zf_addT c f k a b) ⟨vp_in_nI hf (by decide), nm_r (zf_addK c f k a b) ⟨vp_in_nI hf (by decide), nm_r (zf_addA c f k a b) ⟨vp_in_nI hf (by decide), nm_r (zf_addB c f k a b) (h f hf e1 hg)⟩⟩⟩⟩
    · exact nm_r (nI_1 f) (ih (f + 1) m (by omega) (by omega) (lt_s hg e1))
theorem zy_add {post : Int32 → SY → Prop} (ok : zc_ok c) (hk : k < 3) (ha : a < 4) (hb : b < 4) (hf : zc_p c = 127 → post (-2) (zf_T c, zf_K c, zf_A c, zf_B c, zf_Z c, zf_W c, yb)) (h : ∀ f, f < 7 → zc_t c f = false → (∀ g, g < f → zc_t c g = true) → post (nI f) (zf_T (zc_add c f k a b), zf_K (zc_add c f k a b), zf_A (zc_add c f k a b), zf_B (zc_add c f k a b), zf_Z (zc_add c f k a b), zf_W (zc_add c f k a b), yb)) : wpY_add post (zf_T c, zf_K c, zf_A c, zf_B c, zf_Z c, zf_W c, yb) (nI k) (nI a) (nI b) := by
  unfold wpY_add
  dsimp only
  refine zy_fact hk ha hb (br_f (by decide) ⟨8, ?_⟩)
  exact zy_add15 ok hf h 7 0 8 (by omega) (by omega) (fun g hg => absurd hg (Nat.not_lt_zero g))
theorem zy_remove {post : Int32 → SY → Prop} (hf : f < 7) (ht : zc_t c f = true) (h : post 1 (zf_T (zc_rem c f), zf_K (zc_rem c f), zf_A (zc_rem c f), zf_B (zc_rem c f), zf_Z (zc_rem c f), zf_W (zc_rem c f), yb)) : wpY_remove post (zf_T c, zf_K c, zf_A c, zf_B c, zf_Z c, zf_W c, yb) (nI f) := by
  unfold wpY_remove
  dsimp only
  rw [nI_clamp (by omega)]
  refine br_f (nI_pos (by omega)) (br_f (nI_nlt (a := 6) (by omega) (by omega)) ⟨vp_in_nI hf (by decide), br_f ?_ ⟨vp_in_nI hf (by decide), nm_r (zf_remT ht) h⟩⟩)
  show ¬ zn_b (zc_t c f) = 0
  rw [ht]
  decide
theorem zy_cond {post : Int32 → SY → Prop} {w : Nat} (hr : r < 3) (hw : w < 512) (hw3 : w % 4 < 3) (hz : zc_z c r < 3) (h : post (nI (zc_z c r + 1)) (zf_T (zc_con c r w), zf_K (zc_con c r w), zf_A (zc_con c r w), zf_B (zc_con c r w), zf_Z (zc_con c r w), zf_W (zc_con c r w), yb)) : wpY_condition post (zf_T c, zf_K c, zf_A c, zf_B c, zf_Z c, zf_W c, yb) (nI r) (nI w) := by
  have e2 : zf_Z (zc_con c r w) r = nI (zc_z c r + 1) := by
    show nI (if r = r then zc_z c r + 1 else zc_z c r) = _
    rw [if_pos rfl]
  have e3 : 3 * nI r + zf_Z c r = nI (3 * r + zc_z c r) := zy_cell r (zc_z c r)
  unfold wpY_condition
  dsimp only
  refine zy_rule_yes hr (br_f (by decide) (br_f (nI_pos (by omega)) (br_f (nI_nlt (a := 511) (by omega) (by omega)) ?_)))
  rw [zn_w3 w hw, nI_clamp (by omega), e3, nI_clamp (by omega)]
  refine br_f (fun z => ?_) ⟨vp_in_nI hr (by decide), br_t (show nI (zc_z c r) < 3 from nI_lt (b := 3) hz (by decide)) ⟨vp_in_nI hr (by decide), vp_in_nI (by omega) (by decide), nm_r (zf_conW c r w) ⟨vp_in_nI hr (by decide), vp_in_nI hr (by decide), nm_r (e' := zf_Z (zc_con c r w)) ?_ ⟨vp_in_nI hr (by decide), ?_⟩⟩⟩⟩
  · have := (nI_eq (b := 3) (by omega) (by decide)).mp z
    omega
  · rw [← zf_conZ c r w]
    show upd (zf_Z c) r (nI (zc_z c r) + 1) = _
    rw [nI_1]
  · rw [e2]
    exact h
theorem zy_drop {post : Int32 → SY → Prop} (ok : zc_ok c) (hr : r < 3) (hz : zc_z c r ≠ 0) (h : post (nI (zc_z c r - 1)) (zf_T (zc_dro c r), zf_K (zc_dro c r), zf_A (zc_dro c r), zf_B (zc_dro c r), zf_Z (zc_dro c r), zf_W (zc_dro c r), yb)) : wpY_drop post (zf_T c, zf_K c, zf_A c, zf_B c, zf_Z c, zf_W c, yb) (nI r) := by
  have hz3 := ok.2.2.2.2.1 r
  have e2 : zf_Z (zc_dro c r) r = nI (zc_z c r - 1) := by
    show nI (if r = r then zc_z c r - 1 else zc_z c r) = _
    rw [if_pos rfl]
  unfold wpY_drop
  dsimp only
  rw [nI_clamp (by omega)]
  refine zy_rule_yes hr (br_f (by decide) ⟨vp_in_nI hr (by decide), br_f (show ¬ nI (zc_z c r) = 0 from nI_ne0 (by omega) (by omega)) ⟨vp_in_nI hr (by decide), vp_in_nI hr (by decide), nm_r (e' := zf_Z (zc_dro c r)) ?_ ⟨vp_in_nI hr (by decide), ?_⟩⟩⟩)
  · rw [← zf_droZ c r]
    show upd (zf_Z c) r (nI (zc_z c r) - 1) = _
    rw [show nI (zc_z c r) - 1 = nI (zc_z c r - 1) from pk_sub (b := 1) (by omega)]
  · rw [e2]
    exact h
end
end
section
/-! what is owed -/
def i_Rel (k : Nat) (u : SX) (v : SY) : Prop := ∃ (c : zc_C) (wd bf : Nat → Int64) (bo te yb : Nat → Int32), zc_ok c ∧ zm_W c wd ∧ u = (zf_P c, zf_K c, zf_A c, zf_B c, zf_Z c, zf_WK c, zf_WA c, zf_WB c, zf_N c, wd, bf, bo, te) ∧ v = (zf_T c, zf_K c, zf_A c, zf_B c, zf_Z c, zf_W c, yb)
theorem i_up {k : Nat} {u : SX} {v : SY} (h : i_Rel k u v) : i_Rel (k + 5) u v := h
theorem zq_rel {c : zc_C} {wd bf : Nat → Int64} {bo te yb : Nat → Int32} (k : Nat) (ok : zc_ok c) (hW : zm_W c wd) : i_Rel k (zf_P c, zf_K c, zf_A c, zf_B c, zf_Z c, zf_WK c, zf_WA c, zf_WB c, zf_N c, wd, bf, bo, te) (zf_T c, zf_K c, zf_A c, zf_B c, zf_Z c, zf_W c, yb) := ⟨c, wd, bf, bo, te, yb, ok, hW, rfl, rfl⟩
def zq_c0 : zc_C := (0, (fun _ => 0), (fun _ => 0), (fun _ => 0), (fun _ => 0), (fun _ => 0))
theorem zq_T0 : zf_T zq_c0 = fun _ => 0 := by
  funext f
  show zn_b ((0 : Nat).testBit f) = 0
  rw [Nat.zero_testBit]
  rfl
theorem zq_N0 : zf_N zq_c0 = fun _ => 0 := by
  funext f
  rfl
theorem zq_A0 : zf_P zq_c0 = 0 ∧ zf_K zq_c0 = (fun _ => 0) ∧ zf_A zq_c0 = (fun _ => 0) ∧ zf_B zq_c0 = (fun _ => 0) ∧ zf_Z zq_c0 = (fun _ => 0) ∧ zf_W zq_c0 = (fun _ => 0) := ⟨rfl, funext fun _ => rfl, funext fun _ => rfl, funext fun _ => rfl, funext fun _ => rfl, funext fun _ => rfl⟩
theorem zq_B0 : zf_WK zq_c0 = (fun _ => 0) ∧ zf_WA zq_c0 = (fun _ => 0) ∧ zf_WB zq_c0 = (fun _ => 0) := ⟨funext fun _ => show nI (0 % 4) = 0 from rfl, funext fun _ => show nI (0 / 4 % 8) = 0 from rfl, funext fun _ => show nI (0 / 32 % 8) = 0 from rfl⟩
theorem zq_W0 : zm_W zq_c0 (vp_updL (vp_updL (vp_updL (fun _ => 0) 0 1) 11 1) 22 1) := by
  intro r hr l hl x hx
  obtain rfl : l = 0 := Nat.le_zero.mp hl
  have e0 : x = 0 := by have : x < 1 := hx; omega
  subst e0
  match r, hr with
  | 0, _ => exact zw_b1
  | 1, _ => exact zw_b1
  | 2, _ => exact zw_b1
theorem zq_init {post : SX → Prop} {K A B Z WK WA WB N bo te : Nat → Int32} {P : Int32} {wd bf : Nat → Int64} {n j : Nat} (hj : j < 3) (h : wX_init_99 post P n (nI (j + 1)) K A B Z WK WA WB N (vp_updL wd (j * 11) 1) bf bo te) : wX_init_99 post P (n + 1) (nI j) K A B Z WK WA WB N wd bf bo te := by
  unfold wX_init_99
  rw [show nI j * 11 = nI (j * 11) from pk_mul j 11, nI_clamp (by omega)]
  exact br_f (nI_ge (b := 3) hj (by decide)) ⟨vp_in_nI (by omega) (by decide), nm_e (nm_r (nI_1 j) h)⟩
theorem i_vc0 : wpX_init (fun u => wpY_init (fun v => i_Rel 0 u v)) := by
  unfold wpX_init
  refine ⟨4, zq_init (j := 0) (by decide) (zq_init (j := 1) (by decide) (zq_init (j := 2) (by decide) ?_))⟩
  unfold wX_init_99
  refine br_t (nI_le (a := 3) (by decide) (by decide)) ?_
  have ok0 : zc_ok zq_c0 := ⟨by decide, fun _ => (by decide : (0 : Nat) < 4), fun _ => (by decide : (0 : Nat) < 4), fun _ => (by decide : (0 : Nat) < 4), fun _ => (by decide : (0 : Nat) ≤ 3), fun _ => (by decide : (0 : Nat) < 512)⟩
  have R := zq_rel (bf := fun _ => 0) (bo := fun _ => 0) (te := fun _ => 0) (yb := fun _ => 0) 0 ok0 zq_W0
  obtain ⟨a1, a2, a3, a4, a5, a6⟩ := zq_A0
  obtain ⟨b1, b2, b3⟩ := zq_B0
  rw [zq_N0, zq_T0, a1, a2, a3, a4, a5, a6, b1, b2, b3] at R
  exact R
section
variable {c : zc_C} {wd bf : Nat → Int64} {bo te yb : Nat → Int32}
/-- the first free place is one -/
theorem zq_uniq {f g : Nat} (h1 : zc_t c f = false) (h2 : ∀ j, j < f → zc_t c j = true) (h3 : zc_t c g = false) (h4 : ∀ j, j < g → zc_t c j = true) : g = f := by
  rcases Nat.lt_trichotomy g f with h | h | h
  · exact Bool.noConfusion (h3.symm.trans (h2 g h))
  · exact h
  · exact Bool.noConfusion (h1.symm.trans (h4 f h))
theorem zq_nf {f : Nat} (hf : f < 7) (h1 : zc_t c f = false) : zc_p c ≠ 127 := by
  intro e
  unfold zc_t at h1
  rw [e, zn_127 f hf] at h1
  exact nomatch h1
theorem zq_fact (v2 v3 v4 : Int32) : (∃ k a b, k < 3 ∧ a < 4 ∧ b < 4 ∧ v2 = nI k ∧ v3 = nI a ∧ v4 = nI b) ∨ ((∀ post : Int32 → Prop, post 0 → wpX_factOk post v2 v3 v4) ∧ (∀ (post : Int32 → Prop), post 0 → wpY_fact post (zf_T c, zf_K c, zf_A c, zf_B c, zf_Z c, zf_W c, yb) v2 v3 v4)) := by
  unfold wpX_factOk wpY_fact
  dsimp only
  by_cases h1 : v2 < 0
  · exact Or.inr ⟨fun _ hp => br_t h1 hp, fun _ hp => br_t h1 hp⟩
  by_cases h2 : 2 < v2
  · exact Or.inr ⟨fun _ hp => br_f h1 (br_t h2 hp), fun _ hp => br_f h1 (br_t h2 hp)⟩
  by_cases h3 : v3 < 0
  · exact Or.inr ⟨fun _ hp => br_f h1 (br_f h2 (br_t h3 hp)), fun _ hp => br_f h1 (br_f h2 (br_t h3 hp))⟩
  by_cases h4 : 3 < v3
  · exact Or.inr ⟨fun _ hp => br_f h1 (br_f h2 (br_f h3 (br_t h4 hp))), fun _ hp => br_f h1 (br_f h2 (br_f h3 (br_t h4 hp)))⟩
  by_cases h5 : v4 < 0
  · exact Or.inr ⟨fun _ hp => br_f h1 (br_f h2 (br_f h3 (br_f h4 (br_t h5 hp)))), fun _ hp => br_f h1 (br_f h2 (br_f h3 (br_f h4 (br_t h5 hp))))⟩
  by_cases h6 : 3 < v4
  · exact Or.inr ⟨fun _ hp => br_f h1 (br_f h2 (br_f h3 (br_f h4 (br_f h5 (br_t h6 hp))))), fun _ hp => br_f h1 (br_f h2 (br_f h3 (br_f h4 (br_f h5 (br_t h6 hp)))))⟩
  obtain ⟨k, hk, e1⟩ := nI_of2 (M := 2) (n := 2) (by decide) h1 (Int32.not_lt.mp h2)
  obtain ⟨a, ha, e2⟩ := nI_of2 (M := 3) (n := 3) (by decide) h3 (Int32.not_lt.mp h4)
  obtain ⟨b, hb, e3⟩ := nI_of2 (M := 3) (n := 3) (by decide) h5 (Int32.not_lt.mp h6)
  exact Or.inl ⟨k, a, b, by omega, by omega, by omega, e1, e2, e3⟩
theorem zq_ix (v : Int32) {n : Nat} (hn : n < 2 ^ 31) : (v < 0 ∨ nI n ≤ v) ∨ ∃ j : Nat, j < n ∧ v = nI j := by
  rcases pk_ix v hn with h | h | h
  · exact Or.inl (Or.inl h)
  · exact Or.inl (Or.inr h)
  · exact Or.inr h
theorem zq_condY {post : Int32 → SY → Prop} {v1 v2 : Int32} (h : v1 < 0 ∨ nI 3 ≤ v1) (hp : post (-1) (zf_T c, zf_K c, zf_A c, zf_B c, zf_Z c, zf_W c, yb)) : wpY_condition post (zf_T c, zf_K c, zf_A c, zf_B c, zf_Z c, zf_W c, yb) v1 v2 := by
  unfold wpY_condition
  dsimp only
  exact zy_rule_no h (br_t rfl hp)
end
theorem i_vc_condition {k : Nat} {u : SX} {v : SY} (I : i_Rel k u v) (hk : k + 5 ≤ 2560) (v1 : Int32) (v2 : Int32) : wpX_condition (fun r u' => wpY_condition (fun r' v' => r' = r ∧ i_Rel (k + 5) u' v') v v1 v2) u v1 v2 := by
  obtain ⟨c, wd, bf, bo, te, yb, ok, hW, rfl, rfl⟩ := I
  have R : i_Rel (k + 5) (zf_P c, zf_K c, zf_A c, zf_B c, zf_Z c, zf_WK c, zf_WA c, zf_WB c, zf_N c, wd, bf, bo, te) (zf_T c, zf_K c, zf_A c, zf_B c, zf_Z c, zf_W c, yb) := zq_rel (k + 5) ok hW
  rcases zq_ix v1 (n := 3) (by decide) with h | ⟨r, hr, rfl⟩
  · unfold wpX_condition
    dsimp only
    exact zx_rule_no h (br_t rfl (zq_condY h ⟨rfl, R⟩))
  by_cases h0 : v2 < 0
  · unfold wpX_condition
    dsimp only
    refine zx_rule_yes hr (br_f (by decide) (br_t h0 ?_))
    unfold wpY_condition
    dsimp only
    exact zy_rule_yes hr (br_f (by decide) (br_t h0 ⟨rfl, R⟩))
  by_cases h5 : 511 < v2
  · unfold wpX_condition
    dsimp only
    refine zx_rule_yes hr (br_f (by decide) (br_f h0 (br_t h5 ?_)))
    unfold wpY_condition
    dsimp only
    exact zy_rule_yes hr (br_f (by decide) (br_f h0 (br_t h5 ⟨rfl, R⟩)))
  obtain ⟨w, hw, rfl⟩ := nI_of2 (M := 511) (n := 511) (by decide) h0 (Int32.not_lt.mp h5)
  have hw5 : w < 512 := by omega
  have hz3 := ok.2.2.2.2.1 r
  by_cases h3 : w % 4 = 3
  · unfold wpX_condition
    dsimp only
    rw [zn_w3 w hw5, h3]
    refine zx_rule_yes hr (br_f (by decide) (br_f h0 (br_f h5 (br_f (by decide) ?_))))
    unfold wpY_condition
    dsimp only
    rw [zn_w3 w hw5, h3]
    exact zy_rule_yes hr (br_f (by decide) (br_f h0 (br_f h5 (br_t rfl ⟨rfl, R⟩))))
  by_cases hz : zc_z c r < 3
  · refine zx_cond ok hW hr hw5 (by omega) hz ?_
    intro wd' bf' bo' te' hW'
    exact zy_cond hr hw5 (by omega) hz ⟨rfl, zq_rel (k + 5) (zc_conok ok hz hw5) hW'⟩
  · have e3 : ¬ zf_Z c r < 3 := nI_nlt (b := 3) (by omega) (by omega)
    unfold wpX_condition
    dsimp only
    rw [zn_w3 w hw5, nI_clamp (by omega)]
    refine zx_rule_yes hr (br_f (by decide) (br_f h0 (br_f h5 (br_t (nI_le (b := 2) (by omega) (by decide)) ⟨vp_in_nI hr (by decide), br_f e3 ?_⟩))))
    unfold wpY_condition
    dsimp only
    rw [zn_w3 w hw5, nI_clamp (by omega)]
    refine zy_rule_yes hr (br_f (by decide) (br_f h0 (br_f h5 (br_f (fun z => ?_) ⟨vp_in_nI hr (by decide), br_f e3 ⟨rfl, R⟩⟩))))
    exact h3 ((nI_eq (b := 3) (by omega) (by decide)).mp z)
theorem i_vc_drop {k : Nat} {u : SX} {v : SY} (I : i_Rel k u v) (hk : k + 5 ≤ 2560) (v1 : Int32) : wpX_drop (fun r u' => wpY_drop (fun r' v' => r' = r ∧ i_Rel (k + 5) u' v') v v1) u v1 := by
  obtain ⟨c, wd, bf, bo, te, yb, ok, hW, rfl, rfl⟩ := I
  have R : i_Rel (k + 5) (zf_P c, zf_K c, zf_A c, zf_B c, zf_Z c, zf_WK c, zf_WA c, zf_WB c, zf_N c, wd, bf, bo, te) (zf_T c, zf_K c, zf_A c, zf_B c, zf_Z c, zf_W c, yb) := zq_rel (k + 5) ok hW
  rcases zq_ix v1 (n := 3) (by decide) with h | ⟨r, hr, rfl⟩
  · unfold wpX_drop
    dsimp only
    refine zx_rule_no h (br_t rfl ?_)
    unfold wpY_drop
    dsimp only
    exact zy_rule_no h (br_t rfl ⟨rfl, R⟩)
  by_cases hz : zc_z c r = 0
  · have e0 : zf_Z c r = 0 := by
      show nI (zc_z c r) = 0
      rw [hz]
      rfl
    unfold wpX_drop
    dsimp only
    rw [nI_clamp (by omega)]
    refine zx_rule_yes hr (br_f (by decide) ⟨vp_in_nI hr (by decide), br_t e0 ?_⟩)
    unfold wpY_drop
    dsimp only
    rw [nI_clamp (by omega)]
    exact zy_rule_yes hr (br_f (by decide) ⟨vp_in_nI hr (by decide), br_t e0 ⟨rfl, R⟩⟩)
  · refine zx_drop ok hW hr hz ?_
    intro wd' bf' bo' te' hW'
    exact zy_drop ok hr hz ⟨rfl, zq_rel (k + 5) (zc_drook ok) hW'⟩
theorem i_vc_add {k : Nat} {u : SX} {v : SY} (I : i_Rel k u v) (hk : k + 5 ≤ 2560) (v1 : Int32) (v2 : Int32) (v3 : Int32) : wpX_add (fun r u' => wpY_add (fun r' v' => r' = r ∧ i_Rel (k + 5) u' v') v v1 v2 v3) u v1 v2 v3 := by
  obtain ⟨c, wd, bf, bo, te, yb, ok, hW, rfl, rfl⟩ := I
  have R : i_Rel (k + 5) (zf_P c, zf_K c, zf_A c, zf_B c, zf_Z c, zf_WK c, zf_WA c, zf_WB c, zf_N c, wd, bf, bo, te) (zf_T c, zf_K c, zf_A c, zf_B c, zf_Z c, zf_W c, yb) := zq_rel (k + 5) ok hW
  rcases zq_fact (c := c) (yb := yb) v1 v2 v3 with ⟨kd, a, b, hkd, ha, hb, rfl, rfl, rfl⟩ | ⟨hX, hY⟩
  · refine zx_add ok hW hkd ha hb (fun hp => ?_) (fun f hf h1 h2 wd' bf' bo' te' hW' => ?_)
    · exact zy_add ok hkd ha hb (fun _ => ⟨rfl, R⟩) (fun f hf h1 _ => absurd hp (zq_nf hf h1))
    · refine zy_add ok hkd ha hb (fun hp => absurd hp (zq_nf hf h1)) (fun g hg h3 h4 => ?_)
      obtain rfl : g = f := zq_uniq h1 h2 h3 h4
      exact ⟨rfl, zq_rel (k + 5) (zc_addok ok hf hkd ha hb) hW'⟩
  · unfold wpX_add
    dsimp only
    refine hX _ (br_t rfl ?_)
    unfold wpY_add
    dsimp only
    exact hY _ (br_t rfl ⟨rfl, R⟩)
theorem i_vc_remove {k : Nat} {u : SX} {v : SY} (I : i_Rel k u v) (hk : k + 5 ≤ 2560) (v1 : Int32) : wpX_remove (fun r u' => wpY_remove (fun r' v' => r' = r ∧ i_Rel (k + 5) u' v') v v1) u v1 := by
  obtain ⟨c, wd, bf, bo, te, yb, ok, hW, rfl, rfl⟩ := I
  have R : i_Rel (k + 5) (zf_P c, zf_K c, zf_A c, zf_B c, zf_Z c, zf_WK c, zf_WA c, zf_WB c, zf_N c, wd, bf, bo, te) (zf_T c, zf_K c, zf_A c, zf_B c, zf_Z c, zf_W c, yb) := zq_rel (k + 5) ok hW
  rcases zq_ix v1 (n := 7) (by decide) with h | ⟨f, hf, rfl⟩
  · unfold wpX_remove
    dsimp only
    refine zx_has_no h (br_t rfl ?_)
    unfold wpY_remove
    dsimp only
    by_cases h0 : v1 < 0
    · exact br_t h0 ⟨rfl, R⟩
    · exact br_f h0 (br_t (zy_76 (h.resolve_left h0)) ⟨rfl, R⟩)
  cases ht : zc_t c f with
  | true =>
    refine zx_remove ok hW hf ht ?_
    intro wd' bf' bo' te' hW'
    exact zy_remove hf ht ⟨rfl, zq_rel (k + 5) (zc_remok ok hf) hW'⟩
  | false =>
    have e0 : zf_T c f = 0 := by
      show zn_b (zc_t c f) = 0
      rw [ht]
      rfl
    unfold wpX_remove
    dsimp only
    refine zx_has ok hf ?_
    rw [ht]
    refine br_t rfl ?_
    unfold wpY_remove
    dsimp only
    rw [nI_clamp (by omega)]
    exact br_f (nI_pos (by omega)) (br_f (nI_nlt (a := 6) (by omega) (by omega)) ⟨vp_in_nI hf (by decide), br_t e0 ⟨rfl, R⟩⟩)
theorem i_vc_facts {k : Nat} {u : SX} {v : SY} (I : i_Rel k u v) (hk : k + 5 ≤ 2560) : wpX_facts (fun r => wpY_facts (fun r' => r' = r ∧ i_Rel (k + 5) u v) v) u := by
  obtain ⟨c, wd, bf, bo, te, yb, ok, hW, rfl, rfl⟩ := I
  unfold wpX_facts
  dsimp only
  exact zy_facts ok ⟨rfl, zq_rel (k + 5) ok hW⟩
theorem i_vc_matches {k : Nat} {u : SX} {v : SY} (I : i_Rel k u v) (hk : k + 5 ≤ 2560) (v1 : Int32) : wpX_matches (fun r => wpY_matches (fun r' v' => r' = r ∧ i_Rel (k + 5) u v') v v1) u v1 := by
  obtain ⟨c, wd, bf, bo, te, yb, ok, hW, rfl, rfl⟩ := I
  rcases zq_ix v1 (n := 3) (by decide) with h | ⟨r, hr, rfl⟩
  · unfold wpX_matches
    dsimp only
    refine zx_rule_no h (br_t rfl ?_)
    unfold wpY_matches
    dsimp only
    exact zy_rule_no h (br_t rfl ⟨rfl, zq_rel (k + 5) ok hW⟩)
  · exact zx_matches ok hr hW (zy_matches ok hr (fun yb' => ⟨rfl, zq_rel (k + 5) ok hW⟩))
theorem i_vc_match {k : Nat} {u : SX} {v : SY} (I : i_Rel k u v) (hk : k + 5 ≤ 2560) (v1 : Int32) (v2 : Int32) : wpX_match (fun r => wpY_match (fun r' v' => r' = r ∧ i_Rel (k + 5) u v') v v1 v2) u v1 v2 := by
  obtain ⟨c, wd, bf, bo, te, yb, ok, hW, rfl, rfl⟩ := I
  rcases zq_ix v1 (n := 3) (by decide) with h | ⟨r, hr, rfl⟩
  · unfold wpX_match
    dsimp only
    exact zx_rule_no h (br_t rfl (zy_match_no h ⟨rfl, zq_rel (k + 5) ok hW⟩))
  · exact zx_match ok hr hW (zy_match ok hr (fun yb' => ⟨rfl, zq_rel (k + 5) ok hW⟩))
theorem i_vc_ready {k : Nat} {u : SX} {v : SY} (I : i_Rel k u v) (hk : k + 5 ≤ 2560) : wpX_ready (fun r => wpY_ready (fun r' v' => r' = r ∧ i_Rel (k + 5) u v') v) u := by
  obtain ⟨c, wd, bf, bo, te, yb, ok, hW, rfl, rfl⟩ := I
  exact zx_ready ok hW (zy_ready ok (fun yb' => ⟨rfl, zq_rel (k + 5) ok hW⟩))
theorem i_vc_uses {k : Nat} {u : SX} {v : SY} (I : i_Rel k u v) (hk : k + 5 ≤ 2560) (v1 : Int32) : wpX_uses (fun r => wpY_uses (fun r' v' => r' = r ∧ i_Rel (k + 5) u v') v v1) u v1 := by
  obtain ⟨c, wd, bf, bo, te, yb, ok, hW, rfl, rfl⟩ := I
  have R : i_Rel (k + 5) (zf_P c, zf_K c, zf_A c, zf_B c, zf_Z c, zf_WK c, zf_WA c, zf_WB c, zf_N c, wd, bf, bo, te) (zf_T c, zf_K c, zf_A c, zf_B c, zf_Z c, zf_W c, yb) := zq_rel (k + 5) ok hW
  rcases zq_ix v1 (n := 7) (by decide) with h | ⟨f, hf, rfl⟩
  · unfold wpX_uses
    dsimp only
    refine zx_has_no h (br_t rfl ?_)
    unfold wpY_uses
    dsimp only
    by_cases h0 : v1 < 0
    · exact br_t h0 ⟨rfl, R⟩
    · exact br_f h0 (br_t (zy_76 (h.resolve_left h0)) ⟨rfl, R⟩)
  cases ht : zc_t c f with
  | true => exact zx_uses ok hW hf ht (zy_uses ok hf ht (fun yb' => ⟨rfl, zq_rel (k + 5) ok hW⟩))
  | false =>
    have e0 : zf_T c f = 0 := by
      show zn_b (zc_t c f) = 0
      rw [ht]
      rfl
    unfold wpX_uses
    dsimp only
    refine zx_has ok hf ?_
    rw [ht]
    refine br_t rfl ?_
    unfold wpY_uses
    dsimp only
    rw [nI_clamp (by omega)]
    exact br_f (nI_pos (by omega)) (br_f (nI_nlt (a := 6) (by omega) (by omega)) ⟨vp_in_nI hf (by decide), br_t e0 ⟨rfl, R⟩⟩)
theorem i_vc_fitting {k : Nat} {u : SX} {v : SY} (I : i_Rel k u v) (hk : k + 5 ≤ 2560) (v1 : Int32) (v2 : Int32) : wpX_fitting (fun r => wpY_fitting (fun r' => r' = r ∧ i_Rel (k + 5) u v) v v1 v2) u v1 v2 := by
  obtain ⟨c, wd, bf, bo, te, yb, ok, hW, rfl, rfl⟩ := I
  have R : i_Rel (k + 5) (zf_P c, zf_K c, zf_A c, zf_B c, zf_Z c, zf_WK c, zf_WA c, zf_WB c, zf_N c, wd, bf, bo, te) (zf_T c, zf_K c, zf_A c, zf_B c, zf_Z c, zf_W c, yb) := zq_rel (k + 5) ok hW
  rcases zq_ix v1 (n := 3) (by decide) with h | ⟨r, hr, rfl⟩
  · unfold wpX_fitting
    dsimp only
    refine zx_rule_no h (br_t rfl ?_)
    unfold wpY_fitting
    dsimp only
    exact zy_rule_no h (br_t rfl ⟨rfl, R⟩)
  have hz3 := ok.2.2.2.2.1 r
  by_cases h0 : v2 < 0
  · unfold wpX_fitting
    dsimp only
    refine zx_rule_yes hr (br_f (by decide) (br_t h0 ?_))
    unfold wpY_fitting
    dsimp only
    exact zy_rule_yes hr (br_f (by decide) (br_t h0 ⟨rfl, R⟩))
  obtain ⟨i, hi, rfl⟩ := nI_of h0
  unfold wpX_fitting
  dsimp only
  rw [nI_clamp (by omega)]
  refine zx_rule_yes hr (br_f (by decide) (br_f h0 ⟨vp_in_nI hr (by decide), pk_lt i (zc_z c r) (fun e => ?_) (fun e => ?_)⟩))
  · refine ⟨8, zx_fit28 ok hr (by omega) ?_ 7 0 8 (by omega) (by omega)⟩
    have hw := ok.2.2.2.2.2 (3 * r + i)
    unfold wpY_fitting
    dsimp only
    rw [nI_clamp (by omega), zy_cell, nI_clamp (by omega)]
    refine zy_rule_yes hr (br_f (by decide) (br_f h0 ⟨vp_in_nI hr (by decide), br_t (show nI i < nI (zc_z c r) from nI_lt e (by omega)) ⟨vp_in_nI (by omega) (by decide), nm_r (e' := nI (zc_w c (3 * r + i))) rfl (nm_r (zn_wa _ hw) (nm_r (zn_wb _ hw) ⟨8, zy_fit57 ok ⟨rfl, R⟩ 7 0 8 (by omega) (by omega)⟩))⟩⟩))
  · unfold wpY_fitting
    dsimp only
    rw [nI_clamp (by omega)]
    exact zy_rule_yes hr (br_f (by decide) (br_f h0 ⟨vp_in_nI hr (by decide), br_f (show ¬ nI i < nI (zc_z c r) from nI_nlt e (by omega)) ⟨rfl, R⟩⟩))
theorem i_vc_partial {k : Nat} {u : SX} {v : SY} (I : i_Rel k u v) (hk : k + 5 ≤ 2560) (v1 : Int32) (v2 : Int32) : wpX_partial (fun r => wpY_partial (fun r' v' => r' = r ∧ i_Rel (k + 5) u v') v v1 v2) u v1 v2 := by
  obtain ⟨c, wd, bf, bo, te, yb, ok, hW, rfl, rfl⟩ := I
  have R : i_Rel (k + 5) (zf_P c, zf_K c, zf_A c, zf_B c, zf_Z c, zf_WK c, zf_WA c, zf_WB c, zf_N c, wd, bf, bo, te) (zf_T c, zf_K c, zf_A c, zf_B c, zf_Z c, zf_W c, yb) := zq_rel (k + 5) ok hW
  rcases zq_ix v1 (n := 3) (by decide) with h | ⟨r, hr, rfl⟩
  · unfold wpX_partial
    dsimp only
    refine zx_rule_no h (br_t rfl ?_)
    unfold wpY_partial
    dsimp only
    exact zy_rule_no h (br_t rfl ⟨rfl, R⟩)
  have hz3 := ok.2.2.2.2.1 r
  by_cases h0 : v2 < 0
  · unfold wpX_partial
    dsimp only
    refine zx_rule_yes hr (br_f (by decide) (br_t h0 ?_))
    unfold wpY_partial
    dsimp only
    exact zy_rule_yes hr (br_f (by decide) (br_t h0 ⟨rfl, R⟩))
  obtain ⟨i, hi, rfl⟩ := nI_of h0
  unfold wpX_partial
  dsimp only
  rw [nI_clamp (by omega)]
  refine zx_rule_yes hr (br_f (by decide) (br_f h0 ⟨vp_in_nI hr (by decide), pk_lt (zc_z c r) i (fun e => ?_) (fun e => ?_)⟩))
  · unfold wpY_partial
    dsimp only
    rw [nI_clamp (by omega)]
    exact zy_rule_yes hr (br_f (by decide) (br_f h0 ⟨vp_in_nI hr (by decide), br_t (show nI (zc_z c r) < nI i from nI_lt e hi) ⟨rfl, R⟩⟩))
  · refine zx_count ok hr e hW ?_
    unfold wpY_partial
    dsimp only
    rw [nI_clamp (by omega)]
    refine zy_rule_yes hr (br_f (by decide) (br_f h0 ⟨vp_in_nI hr (by decide), br_f (show ¬ nI (zc_z c r) < nI i from nI_nlt e (by omega)) ?_⟩))
    exact zy_count ok hr (by omega) (fun yb' => ⟨rfl, zq_rel (k + 5) ok hW⟩)
theorem i_vc_effect {k : Nat} {u : SX} {v : SY} (I : i_Rel k u v) (hk : k + 5 ≤ 2560) (v1 : Int32) (v2 : Int32) (v3 : Int32) (v4 : Int32) : wpX_effect (fun r u' => wpY_effect (fun r' v' => r' = r ∧ i_Rel (k + 5) u' v') v v1 v2 v3 v4) u v1 v2 v3 v4 := by
  obtain ⟨c, wd, bf, bo, te, yb, ok, hW, rfl, rfl⟩ := I
  have R : i_Rel (k + 5) (zf_P c, zf_K c, zf_A c, zf_B c, zf_Z c, zf_WK c, zf_WA c, zf_WB c, zf_N c, wd, bf, bo, te) (zf_T c, zf_K c, zf_A c, zf_B c, zf_Z c, zf_W c, yb) := zq_rel (k + 5) ok hW
  rcases zq_ix v1 (n := 3) (by decide) with h | ⟨r, hr, rfl⟩
  · unfold wpX_effect
    dsimp only
    refine zx_rule_no h (br_t rfl ?_)
    unfold wpY_effect
    dsimp only
    exact zy_rule_no h (br_t rfl ⟨rfl, R⟩)
  rcases zq_fact (c := c) (yb := yb) v2 v3 v4 with ⟨kd, a, b, hkd, ha, hb, rfl, rfl, rfl⟩ | ⟨hX, hY⟩
  · by_cases hp : zc_p c = 127
    · have e7 : zf_P c = 127 := by
        show nI (zc_p c) = 127
        rw [hp]
        rfl
      unfold wpX_effect
      dsimp only
      refine zx_rule_yes hr (br_f (by decide) (zx_factOk hkd ha hb (br_f (by decide) (br_t e7 ?_))))
      unfold wpY_effect
      dsimp only
      exact zy_rule_yes hr (br_f (by decide) (zy_fact hkd ha hb (br_f (by decide) (zy_facts ok (br_t e7 ⟨rfl, R⟩)))))
    · have hp1 := ok.1
      have e7 : ¬ zf_P c = 127 := fun z => hp ((nI_eq (b := 127) (by omega) (by decide)).mp z)
      unfold wpX_effect
      dsimp only
      refine zx_rule_yes hr (br_f (by decide) (zx_factOk hkd ha hb (br_f (by decide) (br_f e7 (zx_matches ok hr hW ?_)))))
      refine zx_add ok hW hkd ha hb (fun z => absurd z hp) (fun f hf h1 h2 wd1 bf1 bo1 te1 hW1 => ?_)
      dsimp only
      have ok1 := zc_addok ok hf hkd ha hb
      have ht1 : zc_t (zc_add c f kd a b) f = true := by rw [zc_addt, decide_eq_true rfl, Bool.or_true]
      refine zx_matches ok1 hr hW1 (zx_remove ok1 hW1 hf ht1 (fun wd2 bf2 bo2 te2 hW2 => ?_))
      dsimp only
      unfold wpY_effect
      dsimp only
      refine zy_rule_yes hr (br_f (by decide) (zy_fact hkd ha hb (br_f (by decide) (zy_facts ok (br_f e7 (zy_matches ok hr (fun yb1 => ?_)))))))
      dsimp only
      refine zy_add ok hkd ha hb (fun z => absurd z hp) (fun g hg h3 h4 => ?_)
      obtain rfl : g = f := zq_uniq h1 h2 h3 h4
      dsimp only
      refine zy_matches ok1 hr (fun yb2 => ?_)
      dsimp only
      refine zy_remove hf ht1 ?_
      dsimp only
      exact ⟨rfl, zq_rel (k + 5) (zc_remok ok1 hf) hW2⟩
  · unfold wpX_effect
    dsimp only
    refine zx_rule_yes hr (br_f (by decide) (hX _ (br_t rfl ?_)))
    unfold wpY_effect
    dsimp only
    exact zy_rule_yes hr (br_f (by decide) (hY _ (br_t rfl ⟨rfl, R⟩)))
end
