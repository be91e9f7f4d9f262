section
theorem pk_us {f : Nat → Int32} {k : Nat} {x : Int32} : upd f k x k = x := if_pos rfl
theorem pk_un {f : Nat → Int32} {k j : Nat} {x : Int32} (h : j ≠ k) : upd f k x j = f j := if_neg h
theorem pk_sub {a b : Nat} (h : b ≤ a) : nI a - nI b = nI (a - b) := by
  obtain ⟨c, rfl⟩ : ∃ c, a = c + b := ⟨a - b, by omega⟩
  rw [← nI_add, Int32.add_sub_cancel, Nat.add_sub_cancel]
theorem pk_m1 (n : Nat) : nI (n + 1) + (-1) = nI n := by
  rw [← nI_1, Int32.add_assoc, show (1 : Int32) + (-1) = 0 from rfl, Int32.add_zero]
theorem pk_mul (a b : Nat) : nI a * nI b = nI (a * b) := (Int32.ofNat_mul a b).symm
theorem pk_div {a d : Nat} (ha : a < 2 ^ 31) (h0 : 0 < d) (hd : d < 2 ^ 31) : nI a / nI d = nI (a / d) := by
  apply Int32.toInt_inj.mp
  rw [lg_idiv_nonneg (by rw [nI_toInt ha]; omega) (by rw [nI_toInt hd]; omega), nI_toInt ha, nI_toInt hd, nI_toInt (Nat.lt_of_le_of_lt (Nat.div_le_self a d) ha)]
  first | rfl | exact (Int.natCast_ediv _ _).symm
theorem pk_rem {a d : Nat} (ha : a < 2 ^ 31) (h0 : 0 < d) (hd : d < 2 ^ 31) : nI a - nI a / nI d * nI d = nI (a % d) := by
  rw [pk_div ha h0 hd, pk_mul, pk_sub (Nat.div_mul_le_self a d)]
  exact congrArg nI (by have := Nat.div_add_mod' a d; omega)
theorem pk_sub_toInt {a b : Nat} (ha : a < 2 ^ 30) (hb : b < 2 ^ 30) : (nI a - nI b).toInt = (a : Int) - b := by
  rw [Int32.toInt_sub, nI_toInt (by omega), nI_toInt (by omega)]
  exact Int.bmod_eq_of_le (by omega) (by omega)
theorem pk_tn {n : Nat} (h : n < 2 ^ 32) : (nI n).toBitVec.toNat = n := Nat.mod_eq_of_lt h
theorem pk_and (x : Int32) {m : Int32} (k : Nat) (hm : m.toBitVec.toNat = 2 ^ k - 1) : x &&& m = nI (x.toBitVec.toNat % 2 ^ k) := by
  apply Int32.toBitVec_inj.mp
  apply BitVec.eq_of_toNat_eq
  rw [Int32.toBitVec_and, BitVec.toNat_and, hm, Nat.and_two_pow_sub_one_eq_mod]
  show _ = (BitVec.ofNat 32 _).toNat
  rw [BitVec.toNat_ofNat]
  exact (Nat.mod_eq_of_lt (Nat.lt_of_le_of_lt (Nat.mod_le _ _) x.toBitVec.isLt)).symm
theorem pk_andE (x : Int32) {m : Int32} (k : Nat) (hm : m.toBitVec.toNat = 2 ^ k - 1) : ∃ j : Nat, j < 2 ^ k ∧ x &&& m = nI j := ⟨_, Nat.mod_lt _ (Nat.two_pow_pos k), pk_and x k hm⟩
theorem pk_andIn (x : Int32) {m : Int32} (k : Nat) (hm : m.toBitVec.toNat = 2 ^ k - 1) (hk : k ≤ 30) : vp_in (x &&& m) (2 ^ k) := by
  obtain ⟨j, hj, e⟩ := pk_andE x k hm
  rw [e]
  exact vp_in_nI hj (Nat.lt_of_le_of_lt (Nat.pow_le_pow_right (by decide) hk) (by decide))
def bt (x : Int32) (i : Nat) : Bool := x.toBitVec.getLsbD i
theorem b_ext {x y : Int32} (h : ∀ i, i < 32 → bt x i = bt y i) : x = y := Int32.toBitVec_inj.mp (BitVec.eq_of_getLsbD_eq (fun i hi => h i hi))
theorem b_and (x y : Int32) (i : Nat) : bt (x &&& y) i = (bt x i && bt y i) := by unfold bt; rw [Int32.toBitVec_and, BitVec.getLsbD_and]
theorem b_0 (i : Nat) : bt 0 i = false := BitVec.getLsbD_zero
theorem b_big {x : Int32} {i : Nat} (h : 32 ≤ i) : bt x i = false := BitVec.getLsbD_of_ge _ _ h
theorem b_65535 (i : Nat) : bt 65535 i = decide (i < 16) := by
  rcases Nat.lt_or_ge i 32 with h | h
  · exact (by decide +kernel : ∀ i, i < 32 → bt 65535 i = decide (i < 16)) i h
  · rw [b_big h, decide_eq_false (by omega)]
theorem s_u : ∀ n, n < 32 → (((nI n).toUInt32 &&& Int32.toUInt32 31).toBitVec % 32).toNat = n := by decide +kernel
theorem b_ushr (n : Nat) (hn : n < 32) (x : Int32) (i : Nat) : bt ((x.toUInt32 >>> ((nI n).toUInt32 &&& Int32.toUInt32 31)).toInt32) i = bt x (n + i) := by
  show (x.toUInt32 >>> ((nI n).toUInt32 &&& Int32.toUInt32 31)).toBitVec.getLsbD i = x.toUInt32.toBitVec.getLsbD (n + i)
  rw [UInt32.toBitVec_shiftRight]
  show (x.toUInt32.toBitVec >>> (((nI n).toUInt32 &&& Int32.toUInt32 31).toBitVec % 32).toNat).getLsbD i = _
  rw [s_u n hn, BitVec.getLsbD_ushiftRight]
/-! ===== own rows: a bit as an int, the bit memory as registers, the loop that fills 32 places ===== -/
def bs_i (b : Bool) : Int32 := if b = true then 1 else 0
theorem bs_i_t : bs_i true = 1 := rfl
theorem bs_i_f : bs_i false = 0 := rfl
theorem bs_i_ne : ¬ bs_i true = 0 := by decide
theorem bs_nar (b : Bool) : vp_nar .boolean (bs_i b) = bs_i b := by cases b <;> rfl
theorem bs_nrw (b : Bool) : narrow .boolean (.int (bs_i b)) = .int (bs_i b) := by cases b <;> rfl
theorem bs_fit (b : Bool) : fits .boolean (.int (bs_i b)) = true := by cases b <;> rfl
def bs_up (R : Nat → BitVec 32) (r : Nat) (x : BitVec 32) : Nat → BitVec 32 := fun s => if s = r then x else R s
theorem bs_up_s {R : Nat → BitVec 32} {r : Nat} {x : BitVec 32} : bs_up R r x r = x := if_pos rfl
theorem bs_up_n {R : Nat → BitVec 32} {r s : Nat} {x : BitVec 32} (h : s ≠ r) : bs_up R r x s = R s := if_neg h
/-- the bit memory that holds the registers R -/
def bs_B (R : Nat → BitVec 32) : Nat → Int32 := fun j => bs_i ((R (j / 32)).getLsbD (j % 32))
def bs_fill (a g : Nat → Int32) (p i : Nat) : Nat → Int32 := fun j => if p ≤ j ∧ j < p + i then g (j - p) else a j
theorem bs_fill_0 (a g : Nat → Int32) (p : Nat) : bs_fill a g p 0 = a := funext fun j => if_neg (by omega)
theorem bs_fill_s (a g : Nat → Int32) (p i : Nat) : upd (bs_fill a g p i) (p + i) (g i) = bs_fill a g p (i + 1) := by
  funext j
  by_cases h : j = p + i
  · subst h
    rw [pk_us]
    unfold bs_fill
    rw [if_pos (by omega), Nat.add_sub_cancel_left]
  · rw [pk_un h]
    unfold bs_fill
    by_cases h2 : p ≤ j ∧ j < p + i
    · rw [if_pos h2, if_pos (by omega)]
    · rw [if_neg h2, if_neg (by omega)]
theorem bs_fill_at {a g : Nat → Int32} {i j : Nat} (h : j < i) : bs_fill a g 0 i j = g j := by
  unfold bs_fill
  rw [if_pos (by omega)]
  rfl
theorem bs_fill_B (R : Nat → BitVec 32) (g : Nat → Int32) (r : Nat) (x : BitVec 32) (hg : ∀ i, i < 32 → g i = bs_i (x.getLsbD i)) : bs_fill (bs_B R) g (32 * r) 32 = bs_B (bs_up R r x) := by
  funext j
  unfold bs_fill
  by_cases h : 32 * r ≤ j ∧ j < 32 * r + 32
  · have e1 : j / 32 = r := by omega
    have e2 : j % 32 = j - 32 * r := by omega
    rw [if_pos h, hg _ (by omega)]
    unfold bs_B
    rw [e1, bs_up_s, e2]
  · have e1 : j / 32 ≠ r := by omega
    rw [if_neg h]
    unfold bs_B
    rw [bs_up_n e1]
theorem bs_loop (W : Nat → Nat → (Nat → Int32) → Prop) (g : Nat → Int32) (p : Nat) (K : (Nat → Int32) → Prop) (hx : ∀ n f, K f → W (n + 1) 32 f) (hs : ∀ n i f, i < 32 → W n (i + 1) (upd f (p + i) (g i)) → W (n + 1) i f) (f : Nat → Int32) (hK : K (bs_fill f g p 32)) : ∃ n, W n 0 f := by
  have H : ∀ d i, i + d = 32 → W (d + 1) i (bs_fill f g p i) := by
    intro d
    induction d with
    | zero =>
      intro i hi
      obtain rfl : i = 32 := by omega
      exact hx _ _ hK
    | succ d ih =>
      intro i hi
      refine hs _ _ _ (by omega) ?_
      rw [bs_fill_s]
      exact ih (i + 1) (by omega)
  refine ⟨33, ?_⟩
  have h := H 32 0 rfl
  rw [bs_fill_0] at h
  exact h
theorem bs_ix (r i : Nat) : (32 * nI r) + nI i = nI (32 * r + i) := by
  show nI 32 * nI r + nI i = _
  rw [pk_mul, nI_add]
theorem bs_in {r i : Nat} (hr : r < 14) (hi : i < 32) : vp_in ((32 * nI r) + nI i) 448 := by
  rw [bs_ix]
  exact vp_in_nI (by omega) (by decide)
theorem bs_cl {r i : Nat} (hr : r < 14) (hi : i < 32) : ((32 * nI r) + nI i).toNatClampNeg = 32 * r + i := by
  rw [bs_ix]
  exact nI_clamp (by omega)
theorem bs_B_at {R : Nat → BitVec 32} {r i : Nat} (hi : i < 32) : bs_B R (32 * r + i) = bs_i ((R r).getLsbD i) := by
  unfold bs_B
  rw [show (32 * r + i) / 32 = r by omega, show (32 * r + i) % 32 = i by omega]
theorem bs_rd {R : Nat → BitVec 32} {r i : Nat} (hr : r < 14) (hi : i < 32) : bs_B R ((32 * nI r) + nI i).toNatClampNeg = bs_i ((R r).getLsbD i) := by
  rw [bs_cl hr hi, bs_B_at hi]
theorem bs_le32 : (32 : Int32) ≤ nI 32 := nI_le (a := 32) (b := 32) (Nat.le_refl _) (by decide)
theorem bs_nle32 {i : Nat} (h : i < 32) : ¬ (32 : Int32) ≤ nI i := nI_ge (b := 32) h (by decide)
theorem bs_in32 {i : Nat} (h : i < 32) : vp_in (nI i) 32 := vp_in_nI h (by decide)
theorem bs_ue {f : Nat → Int32} {x : Int32} {p i : Nat} {y z : Int32} (hx : x.toNatClampNeg = p + i) (hy : y = z) : upd f x.toNatClampNeg y = upd f (p + i) z := by rw [hx, hy]
theorem bs_ci {i : Nat} (h : i < 32) : (nI i).toNatClampNeg = 0 + i := by rw [Nat.zero_add]; exact nI_clamp (by omega)
/-- one bit of an int, as loadConstant reads it -/
theorem bs_bit0 (v : Int32) {i : Nat} (hi : i < 32) : ((v.toUInt32 >>> ((nI i).toUInt32 &&& Int32.toUInt32 31)).toInt32 &&& 1) = 0 ↔ v.toBitVec.getLsbD i = false := by
  have h1 : ∀ j, bt (1 : Int32) j = decide (j = 0) := by
    intro j
    rcases Nat.lt_or_ge j 32 with h | h
    · exact (by decide +kernel : ∀ j, j < 32 → bt 1 j = decide (j = 0)) j h
    · rw [b_big h, decide_eq_false (by omega)]
  constructor
  · intro h
    have e := congrArg (fun z => bt z 0) h
    rw [b_and, b_ushr i hi, h1, b_0] at e
    simpa [bt] using e
  · intro h
    apply b_ext
    intro j _
    rw [b_and, b_ushr i hi, h1, b_0]
    by_cases hj : j = 0
    · subst hj
      have e : bt v (i + 0) = false := h
      rw [e]
      rfl
    · rw [decide_eq_false hj, Bool.and_false]
/-! ===== the register functions ===== -/
def bs_wd (x : BitVec 32) : BitVec 32 := (x.setWidth 16).signExtend 32
theorem bs_wd_lo {x : BitVec 32} {i : Nat} (h : i < 16) : (bs_wd x).getLsbD i = x.getLsbD i := by
  unfold bs_wd
  rw [BitVec.getLsbD_signExtend, if_pos h, BitVec.getLsbD_setWidth, decide_eq_true h, decide_eq_true (show i < 32 by omega), Bool.true_and, Bool.true_and]
theorem bs_wd_hi {x : BitVec 32} {i : Nat} (h : 16 ≤ i) (h2 : i < 32) : (bs_wd x).getLsbD i = x.getLsbD 15 := by
  unfold bs_wd
  rw [BitVec.getLsbD_signExtend, if_neg (by omega), BitVec.msb_eq_getLsbD_last, BitVec.getLsbD_setWidth, decide_eq_true h2, Bool.true_and]
  rfl
def bs_lo (x : BitVec 32) : BitVec 32 := (x.setWidth 16).setWidth 32
theorem bs_lo_lo {x : BitVec 32} {i : Nat} (h : i < 16) : (bs_lo x).getLsbD i = x.getLsbD i := by
  unfold bs_lo
  rw [BitVec.getLsbD_setWidth, BitVec.getLsbD_setWidth, decide_eq_true h, decide_eq_true (show i < 32 by omega), Bool.true_and, Bool.true_and]
theorem bs_lo_hi {x : BitVec 32} {i : Nat} (h : 16 ≤ i) : (bs_lo x).getLsbD i = false := by
  unfold bs_lo
  rw [BitVec.getLsbD_setWidth, BitVec.getLsbD_setWidth, decide_eq_false (show ¬ i < 16 by omega), Bool.false_and, Bool.and_false]
def bs_sh (x : BitVec 32) (o : Int32) : BitVec 32 := if 0 ≤ o.toInt then x <<< o.toInt.toNat else x >>> (-o.toInt).toNat
theorem bs_sh_neg {x : BitVec 32} {o : Int32} {i : Nat} (h : (i : Int) - o.toInt < 0) : (bs_sh x o).getLsbD i = false := by
  unfold bs_sh
  rw [if_pos (by omega), BitVec.getLsbD_shiftLeft, decide_eq_true (show i < o.toInt.toNat by omega), Bool.not_true, Bool.and_false, Bool.false_and]
theorem bs_sh_big {x : BitVec 32} {o : Int32} {i : Nat} (hi : i < 32) (h : 32 ≤ (i : Int) - o.toInt) : (bs_sh x o).getLsbD i = false := by
  unfold bs_sh
  rw [if_neg (by omega), BitVec.getLsbD_ushiftRight]
  exact BitVec.getLsbD_of_ge _ _ (by omega)
theorem bs_sh_mid {x : BitVec 32} {o : Int32} {i j : Nat} (hi : i < 32) (h : (i : Int) - o.toInt = j) : (bs_sh x o).getLsbD i = x.getLsbD j := by
  unfold bs_sh
  by_cases h0 : 0 ≤ o.toInt
  · rw [if_pos h0, BitVec.getLsbD_shiftLeft, decide_eq_true hi, decide_eq_false (show ¬ i < o.toInt.toNat by omega), show i - o.toInt.toNat = j by omega]
    rfl
  · rw [if_neg h0, BitVec.getLsbD_ushiftRight, show (-o.toInt).toNat + i = j by omega]
def bs_iv (y : BitVec 32) (v : Bool) : BitVec 32 := if v = true then ~~~y else y
theorem bs_iv_bit {y : BitVec 32} {v : Bool} {i : Nat} (hi : i < 32) : (bs_iv y v).getLsbD i = (y.getLsbD i != v) := by
  cases v
  · show y.getLsbD i = _
    rw [Bool.bne_false]
  · show (~~~y).getLsbD i = _
    rw [BitVec.getLsbD_not, decide_eq_true hi, Bool.true_and, Bool.bne_true]
def bs_ad (x y : BitVec 32) (v : Bool) : BitVec 32 := x + bs_iv y v + BitVec.setWidth 32 (BitVec.ofBool v)
def bs_ca (x y : BitVec 32) (v : Bool) (i : Nat) : Bool := BitVec.carry i x (bs_iv y v) v
theorem bs_ad_bit {x y : BitVec 32} {v : Bool} {i : Nat} (hi : i < 32) : (bs_ad x y v).getLsbD i = ((x.getLsbD i != (y.getLsbD i != v)) != bs_ca x y v i) := by
  unfold bs_ad bs_ca
  rw [BitVec.getLsbD_add_add_bool hi, bs_iv_bit hi]
  cases x.getLsbD i <;> cases (y.getLsbD i != v) <;> cases BitVec.carry i x (bs_iv y v) v <;> rfl
theorem bs_ca_s {x y : BitVec 32} {v : Bool} {i : Nat} (hi : i < 32) : bs_ca x y v (i + 1) = (x.getLsbD i && (y.getLsbD i != v) || (x.getLsbD i != (y.getLsbD i != v)) && bs_ca x y v i) := by
  unfold bs_ca
  rw [BitVec.carry_succ, bs_iv_bit hi]
  cases x.getLsbD i <;> cases (y.getLsbD i != v) <;> cases BitVec.carry i x (bs_iv y v) v <;> rfl
theorem bs_ca_0 {x y : BitVec 32} {v : Bool} : bs_ca x y v 0 = v := BitVec.carry_zero
theorem bs_ad_f (x y : BitVec 32) : bs_ad x y false = x + y := by
  unfold bs_ad
  show x + y + 0#32 = _
  rw [BitVec.add_zero]
theorem bs_ad_t (x y : BitVec 32) : bs_ad x y true = x - y := by
  unfold bs_ad
  show x + ~~~y + 1#32 = _
  rw [BitVec.sub_eq_add_neg, BitVec.neg_eq_not_add, BitVec.add_assoc]
theorem bs_ca_t (x y : BitVec 32) : bs_ca x y true 32 = decide (y.toNat ≤ x.toNat) := by
  unfold bs_ca
  show BitVec.carry 32 x (~~~y) true = _
  rw [← BitVec.ule_eq_carry]
  rfl
def bs_cb (k : Nat) (x y : BitVec 32) : BitVec 32 := if k = 3 then x &&& y else if k = 4 then x ||| y else x ^^^ y
end
section
/-! ===== the unit's methods, each once, over a general post ===== -/
section
variable {ln nx la st : Int32} {op ds lf rt bi fr ki tt ff oo ss : Nat → Int32}
theorem bs_keep {post : SX → Prop} (r : Nat) (hr : r < 14) (R : Nat → BitVec 32) (x : BitVec 32) (hf : ∀ i, i < 32 → fr i = bs_i (x.getLsbD i)) (h : post (ln, nx, la, st, op, ds, lf, rt, bs_B (bs_up R r x), fr, ki, tt, ff, oo, ss)) : wpX_keepFresh post (ln, nx, la, st, op, ds, lf, rt, bs_B R, fr, ki, tt, ff, oo, ss) (nI r) := by
  have e : bs_fill (bs_B R) fr (32 * r) 32 = bs_B (bs_up R r x) := bs_fill_B R fr r x hf
  refine bs_loop (fun n i a => wX_keepFresh_2 post (nI r) ln nx la st n (nI i) op ds lf rt a fr ki tt ff oo ss) fr (32 * r) (fun a => post (ln, nx, la, st, op, ds, lf, rt, a, fr, ki, tt, ff, oo, ss)) ?_ ?_ _ ?_
  · intro n f hk
    exact br_t bs_le32 hk
  · intro n i f hi hw
    refine br_f (bs_nle32 hi) ⟨bs_in32 hi, bs_in hr hi, ?_⟩
    refine nm_r (bs_ue (bs_cl hr hi) ?_) (nm_r (nI_1 i) hw)
    rw [nI_clamp (by omega), hf i hi, bs_nar]
  · show post (ln, nx, la, st, op, ds, lf, rt, bs_fill (bs_B R) fr (32 * r) 32, fr, ki, tt, ff, oo, ss)
    rw [e]
    exact h
theorem bs_load {post : SX → Prop} (r : Nat) (hr : r < 14) (R : Nat → BitVec 32) (v : Int32) (h : post (ln, nx, la, st, op, ds, lf, rt, bs_B (bs_up R r v.toBitVec), fr, ki, tt, ff, oo, ss)) : wpX_loadConstant post (ln, nx, la, st, op, ds, lf, rt, bs_B R, fr, ki, tt, ff, oo, ss) (nI r) v := by
  have e : bs_fill (bs_B R) (fun i => bs_i (v.toBitVec.getLsbD i)) (32 * r) 32 = bs_B (bs_up R r v.toBitVec) := bs_fill_B R _ r _ (fun _ _ => rfl)
  refine bs_loop (fun n i a => wX_loadConstant_2 post (nI r) v ln nx la st n (nI i) op ds lf rt a fr ki tt ff oo ss) (fun i => bs_i (v.toBitVec.getLsbD i)) (32 * r) (fun a => post (ln, nx, la, st, op, ds, lf, rt, a, fr, ki, tt, ff, oo, ss)) ?_ ?_ _ ?_
  · intro n f hk
    exact br_t bs_le32 hk
  · intro n i f hi hw
    refine br_f (bs_nle32 hi) (br_c (fun hz => ⟨bs_in hr hi, ?_⟩) (fun hz => ⟨bs_in hr hi, ?_⟩))
    · rw [bs_bit0 v hi] at hz
      rw [hz] at hw
      exact nm_r (bs_ue (bs_cl hr hi) (bs_nar false)) (nm_r (nI_1 i) hw)
    · rw [bs_bit0 v hi, Bool.not_eq_false] at hz
      rw [hz] at hw
      exact nm_r (bs_ue (bs_cl hr hi) (bs_nar true)) (nm_r (nI_1 i) hw)
  · show post (ln, nx, la, st, op, ds, lf, rt, bs_fill (bs_B R) (fun i => bs_i (v.toBitVec.getLsbD i)) (32 * r) 32, fr, ki, tt, ff, oo, ss)
    rw [e]
    exact h
theorem bs_widen {post : SX → Prop} (r s : Nat) (hr : r < 14) (hs : s < 14) (R : Nat → BitVec 32) (h : ∀ f, post (ln, nx, la, st, op, ds, lf, rt, bs_B (bs_up R r (bs_wd (R s))), f, ki, tt, ff, oo, ss)) : wpX_widen post (ln, nx, la, st, op, ds, lf, rt, bs_B R, fr, ki, tt, ff, oo, ss) (nI r) (nI s) := by
  refine bs_loop (fun n i f => wX_widen_2 post (nI r) (nI s) ln nx la st n (nI i) op ds lf rt (bs_B R) f ki tt ff oo ss) (fun i => bs_i ((bs_wd (R s)).getLsbD i)) 0 (fun f => ∀ i, i < 32 → f i = bs_i ((bs_wd (R s)).getLsbD i)) ?_ ?_ _ (fun i hi => bs_fill_at hi)
  · intro n f hf
    exact br_t bs_le32 (bs_keep r hr R _ hf (h f))
  · intro n i f hi hw
    refine br_f (bs_nle32 hi) ?_
    by_cases h16 : 16 ≤ i
    · refine br_t (nI_le (a := 16) h16 (by omega)) ⟨bs_in (i := 15) hs (by decide), bs_in32 hi, ?_⟩
      rw [bs_wd_hi h16 hi] at hw
      have e : bs_B R ((32 * nI s) + 15).toNatClampNeg = bs_i ((R s).getLsbD 15) := bs_rd (i := 15) hs (by decide)
      refine nm_r (bs_ue (bs_ci hi) ?_) (nm_r (nI_1 i) hw)
      rw [e, bs_nar]
    · refine br_f (nI_ge (b := 16) (by omega) (by decide)) ⟨bs_in hs hi, bs_in32 hi, ?_⟩
      rw [bs_wd_lo (by omega)] at hw
      refine nm_r (bs_ue (bs_ci hi) ?_) (nm_r (nI_1 i) hw)
      rw [bs_rd hs hi, bs_nar]
theorem bs_low {post : SX → Prop} (r s : Nat) (hr : r < 14) (hs : s < 14) (R : Nat → BitVec 32) (h : ∀ f, post (ln, nx, la, st, op, ds, lf, rt, bs_B (bs_up R r (bs_lo (R s))), f, ki, tt, ff, oo, ss)) : wpX_lowHalf post (ln, nx, la, st, op, ds, lf, rt, bs_B R, fr, ki, tt, ff, oo, ss) (nI r) (nI s) := by
  refine bs_loop (fun n i f => wX_lowHalf_2 post (nI r) (nI s) ln nx la st n (nI i) op ds lf rt (bs_B R) f ki tt ff oo ss) (fun i => bs_i ((bs_lo (R s)).getLsbD i)) 0 (fun f => ∀ i, i < 32 → f i = bs_i ((bs_lo (R s)).getLsbD i)) ?_ ?_ _ (fun i hi => bs_fill_at hi)
  · intro n f hf
    exact br_t bs_le32 (bs_keep r hr R _ hf (h f))
  · intro n i f hi hw
    refine br_f (bs_nle32 hi) ?_
    by_cases h16 : 16 ≤ i
    · rw [bs_lo_hi h16] at hw
      exact br_t (nI_le (a := 16) h16 (by omega)) ⟨bs_in32 hi, nm_r (bs_ue (bs_ci hi) (bs_nar false)) (nm_r (nI_1 i) hw)⟩
    · rw [bs_lo_lo (by omega)] at hw
      refine br_f (nI_ge (b := 16) (by omega) (by decide)) ⟨bs_in hs hi, ?_⟩
      rw [bs_rd hs hi]
      cases hb : (R s).getLsbD i
      · rw [hb] at hw
        exact br_t rfl ⟨bs_in32 hi, nm_r (bs_ue (bs_ci hi) (bs_nar false)) (nm_r (nI_1 i) hw)⟩
      · rw [hb] at hw
        exact br_f bs_i_ne ⟨bs_in32 hi, nm_r (bs_ue (bs_ci hi) (bs_nar true)) (nm_r (nI_1 i) hw)⟩
theorem bs_shift {post : SX → Prop} (r s : Nat) (o : Int32) (hr : r < 14) (hs : s < 14) (ho : -32 ≤ o.toInt ∧ o.toInt ≤ 32) (R : Nat → BitVec 32) (h : ∀ f, post (ln, nx, la, st, op, ds, lf, rt, bs_B (bs_up R r (bs_sh (R s) o)), f, ki, tt, ff, oo, ss)) : wpX_shift post (ln, nx, la, st, op, ds, lf, rt, bs_B R, fr, ki, tt, ff, oo, ss) (nI r) (nI s) o := by
  refine bs_loop (fun n i f => wX_shift_3 post (nI r) (nI s) o ln nx la st n (nI i) op ds lf rt (bs_B R) f ki tt ff oo ss) (fun i => bs_i ((bs_sh (R s) o).getLsbD i)) 0 (fun f => ∀ i, i < 32 → f i = bs_i ((bs_sh (R s) o).getLsbD i)) ?_ ?_ _ (fun i hi => bs_fill_at hi)
  · intro n f hf
    exact br_t bs_le32 (bs_keep r hr R _ hf (h f))
  · intro n i f hi hw
    refine br_f (bs_nle32 hi) (fun x5 e5 => ?_)
    have t5 : x5.toInt = (i : Int) - o.toInt := by
      rw [e5, Int32.toInt_sub, nI_toInt (by omega)]
      exact Int.bmod_eq_of_le (by omega) (by omega)
    by_cases h0 : x5 < 0
    · have h0' : (i : Int) - o.toInt < 0 := by
        rw [Int32.lt_iff_toInt_lt, t5, Int32.toInt_zero] at h0
        exact h0
      rw [bs_sh_neg h0'] at hw
      exact br_t h0 ⟨bs_in32 hi, nm_r (bs_ue (bs_ci hi) (bs_nar false)) (nm_r (nI_1 i) hw)⟩
    · refine br_f h0 ?_
      rw [Int32.lt_iff_toInt_lt, t5, Int32.toInt_zero] at h0
      by_cases h3 : (32 : Int32) ≤ x5
      · have h3' : 32 ≤ (i : Int) - o.toInt := by
          rw [Int32.le_iff_toInt_le, t5] at h3
          exact h3
        rw [bs_sh_big hi h3'] at hw
        exact br_t h3 ⟨bs_in32 hi, nm_r (bs_ue (bs_ci hi) (bs_nar false)) (nm_r (nI_1 i) hw)⟩
      · refine br_f h3 ?_
        have h3' : ¬ 32 ≤ (i : Int) - o.toInt := by
          rw [Int32.le_iff_toInt_le, t5] at h3
          exact h3
        obtain ⟨j, hj⟩ : ∃ j : Nat, (i : Int) - o.toInt = j := ⟨((i : Int) - o.toInt).toNat, by omega⟩
        have hj32 : j < 32 := by omega
        have e : x5 = nI j := by
          apply Int32.toInt_inj.mp
          rw [t5, hj, nI_toInt (by omega)]
        subst e
        rw [bs_sh_mid hi hj] at hw
        refine ⟨bs_in hs hj32, ?_⟩
        rw [bs_rd hs hj32]
        cases hb : (R s).getLsbD j
        · rw [hb] at hw
          exact br_t rfl ⟨bs_in32 hi, nm_r (bs_ue (bs_ci hi) (bs_nar false)) (nm_r (nI_1 i) hw)⟩
        · rw [hb] at hw
          exact br_f bs_i_ne ⟨bs_in32 hi, nm_r (bs_ue (bs_ci hi) (bs_nar true)) (nm_r (nI_1 i) hw)⟩
theorem bs_cb3 {x y : BitVec 32} {i : Nat} : (bs_cb 3 x y).getLsbD i = (x.getLsbD i && y.getLsbD i) := BitVec.getLsbD_and
theorem bs_cb4 {x y : BitVec 32} {i : Nat} : (bs_cb 4 x y).getLsbD i = (x.getLsbD i || y.getLsbD i) := BitVec.getLsbD_or
theorem bs_cb5 {x y : BitVec 32} {i : Nat} : (bs_cb 5 x y).getLsbD i = (x.getLsbD i ^^ y.getLsbD i) := BitVec.getLsbD_xor
theorem bs_comb {post : SX → Prop} (k r x y : Nat) (hk : k = 3 ∨ k = 4 ∨ k = 5) (hr : r < 14) (hx : x < 14) (hy : y < 14) (R : Nat → BitVec 32) (h : ∀ f, post (ln, nx, la, st, op, ds, lf, rt, bs_B (bs_up R r (bs_cb k (R x) (R y))), f, ki, tt, ff, oo, ss)) : wpX_combine post (ln, nx, la, st, op, ds, lf, rt, bs_B R, fr, ki, tt, ff, oo, ss) (nI k) (nI r) (nI x) (nI y) := by
  refine bs_loop (fun n i f => wX_combine_3 post (nI k) (nI r) (nI x) (nI y) ln nx la st n (nI i) op ds lf rt (bs_B R) f ki tt ff oo ss) (fun i => bs_i ((bs_cb k (R x) (R y)).getLsbD i)) 0 (fun f => ∀ i, i < 32 → f i = bs_i ((bs_cb k (R x) (R y)).getLsbD i)) ?_ ?_ _ (fun i hi => bs_fill_at hi)
  · intro n f hf
    exact br_t bs_le32 (bs_keep r hr R _ hf (h f))
  · intro n i f hi hw
    refine br_f (bs_nle32 hi) ⟨bs_in hx hi, nm_r (bs_rd hx hi) ⟨bs_in hy hi, nm_r (bs_rd hy hi) ?_⟩⟩
    rcases hk with rfl | rfl | rfl
    · rw [bs_cb3] at hw
      refine br_t rfl ?_
      revert hw
      cases (R x).getLsbD i <;> cases (R y).getLsbD i <;> intro hw
      · exact br_t rfl ⟨bs_in32 hi, nm_r (bs_ue (bs_ci hi) (bs_nar false)) (nm_r (nI_1 i) hw)⟩
      · exact br_t rfl ⟨bs_in32 hi, nm_r (bs_ue (bs_ci hi) (bs_nar false)) (nm_r (nI_1 i) hw)⟩
      · exact br_f bs_i_ne (br_t rfl ⟨bs_in32 hi, nm_r (bs_ue (bs_ci hi) (bs_nar false)) (nm_r (nI_1 i) hw)⟩)
      · exact br_f bs_i_ne (br_f bs_i_ne ⟨bs_in32 hi, nm_r (bs_ue (bs_ci hi) (bs_nar true)) (nm_r (nI_1 i) hw)⟩)
    · rw [bs_cb4] at hw
      refine br_f (by decide) (br_t rfl ?_)
      revert hw
      cases (R x).getLsbD i <;> cases (R y).getLsbD i <;> intro hw
      · exact br_t rfl (br_t rfl ⟨bs_in32 hi, nm_r (bs_ue (bs_ci hi) (bs_nar false)) (nm_r (nI_1 i) hw)⟩)
      · exact br_t rfl (br_f bs_i_ne ⟨bs_in32 hi, nm_r (bs_ue (bs_ci hi) (bs_nar true)) (nm_r (nI_1 i) hw)⟩)
      · exact br_f bs_i_ne ⟨bs_in32 hi, nm_r (bs_ue (bs_ci hi) (bs_nar true)) (nm_r (nI_1 i) hw)⟩
      · exact br_f bs_i_ne ⟨bs_in32 hi, nm_r (bs_ue (bs_ci hi) (bs_nar true)) (nm_r (nI_1 i) hw)⟩
    · rw [bs_cb5] at hw
      refine br_f (by decide) (br_f (by decide) ?_)
      revert hw
      cases (R x).getLsbD i <;> cases (R y).getLsbD i <;> intro hw
      · exact br_t rfl ⟨bs_in32 hi, nm_r (bs_ue (bs_ci hi) (bs_nar false)) (nm_r (nI_1 i) hw)⟩
      · exact br_f (by decide) ⟨bs_in32 hi, nm_r (bs_ue (bs_ci hi) (bs_nar true)) (nm_r (nI_1 i) hw)⟩
      · exact br_f (by decide) ⟨bs_in32 hi, nm_r (bs_ue (bs_ci hi) (bs_nar true)) (nm_r (nI_1 i) hw)⟩
      · exact br_t rfl ⟨bs_in32 hi, nm_r (bs_ue (bs_ci hi) (bs_nar false)) (nm_r (nI_1 i) hw)⟩
end
/-! the serial adder -/
section
variable {ln nx la st : Int32} {op ds lf rt bi fr ki tt ff oo ss : Nat → Int32}
variable {post : SX → Prop} {J : Int32 → Int32 → (Nat → Int32) → (Nat → Int32) → (Nat → Int32) → (Nat → Int32) → (Nat → Int32) → (Nat → Int32) → (Nat → Int32) → (Nat → Int32) → (Nat → Int32) → (Nat → Int32) → (Nat → Int32) → Prop} {x1 x2 x3 x4 : Int32}
theorem bs_a95 (i : Nat) (h c : Bool) (k : J (bs_i (h && c)) (nI (i + 1)) op ds lf rt bi fr ki tt ff oo ss) : wX_addSerially_95 post J x1 x2 x3 x4 (bs_i c) (nI i) (bs_i h) ln nx la st op ds lf rt bi fr ki tt ff oo ss := by
  cases h
  · exact br_t rfl (nm_r (nI_1 i) k)
  · cases c
    · exact br_f bs_i_ne (br_t rfl (nm_r (nI_1 i) k))
    · exact br_f bs_i_ne (br_f bs_i_ne (nm_r (nI_1 i) k))
theorem bs_a84 (i : Nat) (hi : i < 32) (p q h c z : Bool) (k : J (bs_i (p && q || h && c)) (nI (i + 1)) op ds lf rt bi (upd fr (0 + i) (bs_i z)) ki tt ff oo ss) : wX_addSerially_84 post J x1 x2 x3 x4 (bs_i c) (nI i) (bs_i p) (bs_i q) (bs_i h) (bs_i z) (nI i) ln nx la st op ds lf rt bi fr ki tt ff oo ss := by
  refine ⟨bs_in32 hi, nm_r (bs_ue (bs_ci hi) (bs_nar z)) ?_⟩
  cases p
  · exact br_t rfl (bs_a95 i h c k)
  · cases q
    · exact br_f bs_i_ne (br_t rfl (bs_a95 i h c k))
    · exact br_f bs_i_ne (br_f bs_i_ne (nm_r (nI_1 i) k))
theorem bs_a64 (i : Nat) (hi : i < 32) (p q h c : Bool) (k : J (bs_i (p && q || h && c)) (nI (i + 1)) op ds lf rt bi (upd fr (0 + i) (bs_i (h != c))) ki tt ff oo ss) : wX_addSerially_64 post J x1 x2 x3 x4 (bs_i c) (nI i) (bs_i p) (bs_i q) (bs_i h) ln nx la st op ds lf rt bi fr ki tt ff oo ss := by
  cases h <;> cases c
  · exact br_t rfl (bs_a84 i hi p q false false false k)
  · exact br_f (by decide) (bs_a84 i hi p q false true true k)
  · exact br_f (by decide) (bs_a84 i hi p q true false true k)
  · exact br_t rfl (bs_a84 i hi p q true true false k)
theorem bs_a50 (i : Nat) (hi : i < 32) (p q c : Bool) (k : J (bs_i (p && q || (p != q) && c)) (nI (i + 1)) op ds lf rt bi (upd fr (0 + i) (bs_i ((p != q) != c))) ki tt ff oo ss) : wX_addSerially_50 post J x1 x2 x3 x4 (bs_i c) (nI i) (bs_i p) (bs_i q) ln nx la st op ds lf rt bi fr ki tt ff oo ss := by
  cases p <;> cases q
  · exact br_t rfl (bs_a64 i hi false false false c k)
  · exact br_f (by decide) (bs_a64 i hi false true true c k)
  · exact br_f (by decide) (bs_a64 i hi true false true c k)
  · exact br_t rfl (bs_a64 i hi true true false c k)
theorem bs_addS (r x y : Nat) (v : Bool) (hr : r < 14) (hx : x < 14) (hy : y < 14) (R : Nat → BitVec 32) (h : ∀ f, post (ln, nx, bs_i (bs_ca (R x) (R y) v 32), st, op, ds, lf, rt, bs_B (bs_up R r (bs_ad (R x) (R y) v)), f, ki, tt, ff, oo, ss)) : wpX_addSerially post (ln, nx, la, st, op, ds, lf, rt, bs_B R, fr, ki, tt, ff, oo, ss) (nI r) (nI x) (nI y) (bs_i v) := by
  have L := bs_loop (fun n i f => wX_addSerially_7 post (nI r) (nI x) (nI y) (bs_i v) ln nx la st n (bs_i (bs_ca (R x) (R y) v i)) (nI i) op ds lf rt (bs_B R) f ki tt ff oo ss) (fun i => bs_i ((bs_ad (R x) (R y) v).getLsbD i)) 0 (fun f => ∀ i, i < 32 → f i = bs_i ((bs_ad (R x) (R y) v).getLsbD i)) ?_ ?_ fr (fun i hi => bs_fill_at hi)
  · rw [bs_ca_0] at L
    exact L
  · intro n f hf
    exact br_t bs_le32 ⟨bs_nrw _, bs_fit _, bs_keep r hr R _ hf (h f)⟩
  · intro n i f hi hw
    rw [bs_ca_s hi, bs_ad_bit hi] at hw
    refine br_f (bs_nle32 hi) ⟨bs_in hx hi, nm_r (bs_rd hx hi) ⟨bs_in hy hi, ?_⟩⟩
    rw [bs_rd hy hi]
    revert hw
    cases v <;> cases (R y).getLsbD i <;> intro hw
    · exact br_t rfl (bs_a50 i hi _ false _ hw)
    · exact br_f (by decide) (bs_a50 i hi _ true _ hw)
    · exact br_f (by decide) (bs_a50 i hi _ true _ hw)
    · exact br_t rfl (bs_a50 i hi _ false _ hw)
end
/-! the two readers -/
section
variable {ln nx la st : Int32} {op ds lf rt bi fr ki tt ff oo ss : Nat → Int32}
theorem bs_isz {post : Int32 → Prop} (r : Nat) (hr : r < 14) (R : Nat → BitVec 32) (h : post (bs_i (decide (R r = 0)))) : wpX_isZero post (ln, nx, la, st, op, ds, lf, rt, bs_B R, fr, ki, tt, ff, oo, ss) (nI r) := by
  have H : ∀ d i, i + d = 32 → (∀ j, j < i → (R r).getLsbD j = false) → wX_isZero_2 post (nI r) ln nx la st op ds lf rt (bs_B R) fr ki tt ff oo ss (d + 1) (nI i) := by
    intro d
    induction d with
    | zero =>
      intro i hi hj
      obtain rfl : i = 32 := by omega
      have e : R r = 0 := BitVec.eq_of_getLsbD_eq (fun j hj' => by rw [hj j hj']; exact BitVec.getLsbD_zero.symm)
      rw [decide_eq_true e] at h
      exact br_t bs_le32 h
    | succ d ih =>
      intro i hi hj
      have hi' : i < 32 := by omega
      refine br_f (bs_nle32 hi') ⟨bs_in hr hi', ?_⟩
      rw [bs_rd hr hi']
      cases hb : (R r).getLsbD i
      · refine br_t rfl (nm_r (nI_1 i) (ih (i + 1) (by omega) ?_))
        intro j hj'
        rcases Nat.lt_or_ge j i with h1 | h1
        · exact hj j h1
        · obtain rfl : j = i := by omega
          exact hb
      · have e : ¬ R r = 0 := by
          intro e
          rw [e] at hb
          rw [show (0 : BitVec 32).getLsbD i = false from BitVec.getLsbD_zero] at hb
          exact absurd hb (by decide)
        rw [decide_eq_false e] at h
        exact br_f bs_i_ne h
  exact ⟨33, H 32 0 rfl (fun j hj => absurd hj (Nat.not_lt_zero j))⟩
theorem bs_halve (u d : Nat) : u / 2 ^ d = 2 * (u / 2 ^ (d + 1)) + u / 2 ^ d % 2 := by
  rw [Nat.pow_succ, ← Nat.div_div_eq_div_mul]
  omega
theorem bs_low16 (x : BitVec 32) {d : Nat} (hd : d < 16) : x.getLsbD d = decide (x.toNat % 65536 / 2 ^ d % 2 = 1) := by
  have e : (x.toNat % 2 ^ 16).testBit d = x.getLsbD d := by
    rw [Nat.testBit_mod_two_pow, decide_eq_true hd, Bool.true_and]
    rfl
  rw [← e, Nat.testBit_eq_decide_div_mod_eq]
theorem bs_uns {post : Int32 → Prop} (r : Nat) (hr : r < 14) (R : Nat → BitVec 32) (h : post (nI ((R r).toNat % 65536))) : wpX_unsigned post (ln, nx, la, st, op, ds, lf, rt, bs_B R, fr, ki, tt, ff, oo, ss) (nI r) := by
  have H : ∀ d, d ≤ 16 → wX_unsigned_5 post (nI r) ln nx la st op ds lf rt (bs_B R) fr ki tt ff oo ss (d + 1) (nI ((R r).toNat % 65536 / 2 ^ d)) (nI d + (-1)) := by
    intro d
    induction d with
    | zero =>
      intro _
      rw [Nat.pow_zero, Nat.div_one]
      exact br_t (by decide) h
    | succ d ih =>
      intro hd
      have hd' : d < 16 := by omega
      have g := ih (by omega)
      rw [pk_m1]
      refine br_f (nI_pos (by omega)) ⟨bs_in hr (by omega), ?_⟩
      rw [bs_rd hr (by omega), bs_low16 (R r) hd']
      have e := bs_halve ((R r).toNat % 65536) d
      have e2 : ∀ a b : Nat, 2 * nI a + nI b = nI (2 * a + b) := by
        intro a b
        show nI 2 * nI a + nI b = _
        rw [pk_mul, nI_add]
      by_cases hb : (R r).toNat % 65536 / 2 ^ d % 2 = 1
      · rw [decide_eq_true hb]
        rw [hb] at e
        rw [e, ← e2] at g
        exact br_f bs_i_ne (nm_e (nm_e g))
      · rw [decide_eq_false hb]
        rw [show (R r).toNat % 65536 / 2 ^ d % 2 = 0 by omega] at e
        rw [e, ← e2] at g
        exact br_t rfl (nm_e (nm_e g))
  have h16 := H 16 (Nat.le_refl _)
  rw [show (R r).toNat % 65536 / 2 ^ 16 = 0 by omega] at h16
  exact ⟨17, h16⟩
end
end
section
/-! ===== micro-steps: (kind, to, from, other, skip); the pure step, the pure run of a list, and performAll ===== -/
abbrev bs_C : Type := Nat × Nat × Nat × Int32 × Nat
abbrev bs_S : Type := (Nat → BitVec 32) × Bool
def bs_pf : bs_C → bs_S → Bool × bs_S
  | (0, t, f, o, _), (R, l) => (true, bs_up R t (bs_sh (R f) o), l)
  | (1, t, f, o, _), (R, _) => (true, bs_up R t (R f + R o.toNatClampNeg), bs_ca (R f) (R o.toNatClampNeg) false 32)
  | (2, t, f, o, _), (R, _) => (true, bs_up R t (R f - R o.toNatClampNeg), decide ((R o.toNatClampNeg).toNat ≤ (R f).toNat))
  | (3, t, f, o, _), (R, l) => (true, bs_up R t (R f &&& R o.toNatClampNeg), l)
  | (4, t, f, o, _), (R, l) => (true, bs_up R t (R f ||| R o.toNatClampNeg), l)
  | (5, t, f, o, _), (R, l) => (true, bs_up R t (R f ^^^ R o.toNatClampNeg), l)
  | (6, t, f, _, _), (R, l) => (true, bs_up R t (bs_wd (R f)), l)
  | (7, t, f, _, _), (R, l) => (true, bs_up R t (bs_lo (R f)), l)
  | (8, _, f, o, _), (R, l) => ((R f).getLsbD o.toNatClampNeg, R, l)
  | (9, _, _, _, _), (R, l) => (l, R, l)
  | (10, t, _, o, _), (R, l) => (true, bs_up R t (R t ||| BitVec.twoPow 32 o.toNatClampNeg), l)
  | (11, t, _, o, _), (R, l) => (true, bs_up R t o.toBitVec, l)
  | (12, _, f, _, _), (R, l) => (decide (R f = 0), R, l)
  | _, (R, l) => (true, R, l)
def bs_okk : bs_C → Prop
  | (0, t, f, o, _) => t < 14 ∧ f < 14 ∧ -32 ≤ o.toInt ∧ o.toInt ≤ 32
  | (1, t, f, o, _) => t < 14 ∧ f < 14 ∧ ∃ y, y < 14 ∧ o = nI y
  | (2, t, f, o, _) => t < 14 ∧ f < 14 ∧ ∃ y, y < 14 ∧ o = nI y
  | (3, t, f, o, _) => t < 14 ∧ f < 14 ∧ ∃ y, y < 14 ∧ o = nI y
  | (4, t, f, o, _) => t < 14 ∧ f < 14 ∧ ∃ y, y < 14 ∧ o = nI y
  | (5, t, f, o, _) => t < 14 ∧ f < 14 ∧ ∃ y, y < 14 ∧ o = nI y
  | (6, t, f, _, _) => t < 14 ∧ f < 14
  | (7, t, f, _, _) => t < 14 ∧ f < 14
  | (8, _, f, o, _) => f < 14 ∧ ∃ i, i < 32 ∧ o = nI i
  | (9, _, _, _, _) => True
  | (10, t, _, o, _) => t < 14 ∧ ∃ i, i < 32 ∧ o = nI i
  | (11, t, _, _, _) => t < 14
  | (12, _, f, _, _) => f < 14
  | _ => False
def bs_ok (c : bs_C) : Prop := c.2.2.2.2 ≤ 2 ∧ bs_okk c
/-- the pure run; the first argument counts the steps that are still left out -/
def bs_ex : Nat → List bs_C → bs_S → bs_S
  | _, [], z => z
  | n + 1, _ :: l, z => bs_ex n l z
  | 0, c :: l, z => bs_ex (if (bs_pf c z).1 = true then 0 else c.2.2.2.2) l (bs_pf c z).2
theorem bs_ex_nil (n : Nat) (z : bs_S) : bs_ex n [] z = z := by cases n <;> rfl
theorem bs_ex_drop (z : bs_S) : ∀ (n : Nat) (l : List bs_C), bs_ex n l z = bs_ex 0 (l.drop n) z
  | 0, _ => rfl
  | n + 1, [] => rfl
  | n + 1, _ :: l => bs_ex_drop z n l
/-- the five arrays hold the list -/
def bs_H (L : List bs_C) (ki tt ff oo ss : Nat → Int32) : Prop := ∀ i c, L[i]? = some c → ki i = nI c.1 ∧ tt i = nI c.2.1 ∧ ff i = nI c.2.2.1 ∧ oo i = c.2.2.2.1 ∧ ss i = nI c.2.2.2.2
theorem bs_setB (R : Nat → BitVec 32) (t i : Nat) (hi : i < 32) : upd (bs_B R) (32 * t + i) (bs_i true) = bs_B (bs_up R t (R t ||| BitVec.twoPow 32 i)) := by
  funext j
  by_cases h : j = 32 * t + i
  · subst h
    rw [pk_us, bs_B_at hi, bs_up_s, BitVec.getLsbD_or, BitVec.getLsbD_twoPow, decide_eq_true hi, decide_eq_true rfl, Bool.and_true, Bool.or_true]
  · rw [pk_un h]
    unfold bs_B
    by_cases h2 : j / 32 = t
    · rw [h2, bs_up_s, BitVec.getLsbD_or, BitVec.getLsbD_twoPow, decide_eq_false (show ¬ i = j % 32 by omega), Bool.and_false, Bool.or_false]
    · rw [bs_up_n h2]
section
variable {ln nx la st : Int32} {op ds lf rt bi fr ki tt ff oo ss : Nat → Int32}
theorem bs_perf {post : Int32 → SX → Prop} (c : bs_C) (hc : bs_okk c) (a : Nat) (ha : a < 160) (R : Nat → BitVec 32) (l : Bool) (e1 : ki (nI a).toNatClampNeg = nI c.1) (e2 : tt (nI a).toNatClampNeg = nI c.2.1) (e3 : ff (nI a).toNatClampNeg = nI c.2.2.1) (e4 : oo (nI a).toNatClampNeg = c.2.2.2.1) (h : ∀ f, post (bs_i (bs_pf c (R, l)).1) (ln, nx, bs_i (bs_pf c (R, l)).2.2, st, op, ds, lf, rt, bs_B (bs_pf c (R, l)).2.1, f, ki, tt, ff, oo, ss)) : wpX_perform post (ln, nx, bs_i l, st, op, ds, lf, rt, bs_B R, fr, ki, tt, ff, oo, ss) (nI a) := by
  have hin : vp_in (nI a) 160 := vp_in_nI ha (by decide)
  obtain ⟨k, t, f, o, s⟩ := c
  dsimp only at e1 e2 e3 e4
  refine ⟨hin, nm_r e1 ?_⟩
  clear e1
  match k, hc, h with
  | 0, hc, h =>
    obtain ⟨ht, hf, ho⟩ := hc
    refine br_f (by decide) (br_f (by decide) (br_f (by decide) (br_f (by decide) (br_f (by decide) (br_t rfl ⟨hin, hin, hin, ?_⟩)))))
    rw [e2, e3, e4]
    exact bs_shift t f o ht hf ho R h
  | 1, hc, h =>
    obtain ⟨ht, hf, y, hy, rfl⟩ := hc
    refine br_f (by decide) (br_f (by decide) (br_f (by decide) (br_f (by decide) (br_f (by decide) (br_f (by decide) (br_f (by decide) (br_f (by decide) (br_t rfl ?_))))))))
    unfold wX_perform_208
    refine ⟨hin, hin, hin, br_f (by decide) ?_⟩
    rw [e2, e3, e4]
    refine bs_addS t f y false ht hf hy R (fun f' => ?_)
    have q := h f'
    simp only [bs_pf, nI_clamp (show y < 2 ^ 31 by omega)] at q
    rw [bs_ad_f]
    exact q
  | 2, hc, h =>
    obtain ⟨ht, hf, y, hy, rfl⟩ := hc
    refine br_f (by decide) (br_f (by decide) (br_f (by decide) (br_f (by decide) (br_f (by decide) (br_f (by decide) (br_f (by decide) (br_f (by decide) (br_f (by decide) (br_t rfl ?_)))))))))
    unfold wX_perform_208
    refine ⟨hin, hin, hin, br_t rfl ?_⟩
    rw [e2, e3, e4]
    refine bs_addS t f y true ht hf hy R (fun f' => ?_)
    have q := h f'
    simp only [bs_pf, nI_clamp (show y < 2 ^ 31 by omega)] at q
    rw [bs_ad_t, bs_ca_t]
    exact q
  | 3, hc, h =>
    obtain ⟨ht, hf, y, hy, rfl⟩ := hc
    refine br_f (by decide) (br_f (by decide) (br_f (by decide) (br_f (by decide) (br_f (by decide) (br_f (by decide) (br_f (by decide) (br_f (by decide) (br_f (by decide) (br_f (by decide) ⟨hin, hin, hin, ?_⟩)))))))))
    rw [e2, e3, e4]
    refine bs_comb 3 t f y (by decide) ht hf hy R (fun f' => ?_)
    have q := h f'
    simp only [bs_pf, nI_clamp (show y < 2 ^ 31 by omega)] at q
    exact q
  | 4, hc, h =>
    obtain ⟨ht, hf, y, hy, rfl⟩ := hc
    refine br_f (by decide) (br_f (by decide) (br_f (by decide) (br_f (by decide) (br_f (by decide) (br_f (by decide) (br_f (by decide) (br_f (by decide) (br_f (by decide) (br_f (by decide) ⟨hin, hin, hin, ?_⟩)))))))))
    rw [e2, e3, e4]
    refine bs_comb 4 t f y (by decide) ht hf hy R (fun f' => ?_)
    have q := h f'
    simp only [bs_pf, nI_clamp (show y < 2 ^ 31 by omega)] at q
    exact q
  | 5, hc, h =>
    obtain ⟨ht, hf, y, hy, rfl⟩ := hc
    refine br_f (by decide) (br_f (by decide) (br_f (by decide) (br_f (by decide) (br_f (by decide) (br_f (by decide) (br_f (by decide) (br_f (by decide) (br_f (by decide) (br_f (by decide) ⟨hin, hin, hin, ?_⟩)))))))))
    rw [e2, e3, e4]
    refine bs_comb 5 t f y (by decide) ht hf hy R (fun f' => ?_)
    have q := h f'
    simp only [bs_pf, nI_clamp (show y < 2 ^ 31 by omega)] at q
    exact q
  | 6, hc, h =>
    obtain ⟨ht, hf⟩ := hc
    refine br_f (by decide) (br_f (by decide) (br_f (by decide) (br_f (by decide) (br_f (by decide) (br_f (by decide) (br_t rfl ⟨hin, hin, ?_⟩))))))
    rw [e2, e3]
    exact bs_widen t f ht hf R h
  | 7, hc, h =>
    obtain ⟨ht, hf⟩ := hc
    refine br_f (by decide) (br_f (by decide) (br_f (by decide) (br_f (by decide) (br_f (by decide) (br_f (by decide) (br_f (by decide) (br_t rfl ⟨hin, hin, ?_⟩)))))))
    rw [e2, e3]
    exact bs_low t f ht hf R h
  | 8, hc, h =>
    obtain ⟨hf, i, hi, rfl⟩ := hc
    refine br_t rfl ⟨hin, hin, ?_⟩
    rw [e3, e4, bs_rd hf hi]
    have q := h fr
    simp only [bs_pf, nI_clamp (show i < 2 ^ 31 by omega)] at q
    exact ⟨bs_in hf hi, bs_nrw _, q⟩
  | 9, hc, h =>
    exact br_f (by decide) (br_t rfl ⟨bs_nrw _, h fr⟩)
  | 10, hc, h =>
    obtain ⟨ht, i, hi, rfl⟩ := hc
    refine br_f (by decide) (br_f (by decide) (br_f (by decide) (br_t rfl ⟨hin, hin, ?_⟩)))
    rw [e2, e4, bs_cl ht hi]
    have q := h fr
    simp only [bs_pf, nI_clamp (show i < 2 ^ 31 by omega)] at q
    exact ⟨bs_in ht hi, nm_r (bs_setB R t i hi) q⟩
  | 11, hc, h =>
    refine br_f (by decide) (br_f (by decide) (br_f (by decide) (br_f (by decide) (br_t rfl ⟨hin, hin, ?_⟩))))
    rw [e2, e4]
    exact bs_load t hc R o (h fr)
  | 12, hc, h =>
    refine br_f (by decide) (br_f (by decide) (br_t rfl ⟨hin, ?_⟩))
    rw [e3]
    exact bs_isz f hc R ⟨bs_nrw _, h fr⟩
theorem bs_all {post : SX → Prop} (L : List bs_C) (hL : L.length ≤ 160) (hok : ∀ c, c ∈ L → bs_ok c) (hH : bs_H L ki tt ff oo ss) : ∀ (m a : Nat) (R : Nat → BitVec 32) (l : Bool) (fr : Nat → Int32) (k n : Nat), L.length ≤ a + m → a ≤ 170 → k ≤ a → k ≤ 160 → 160 < n + k → (∀ f, post (ln, nx, bs_i (bs_ex 0 (L.drop a) (R, l)).2, nI L.length, op, ds, lf, rt, bs_B (bs_ex 0 (L.drop a) (R, l)).1, f, ki, tt, ff, oo, ss)) → wX_performAll_4 post n (nI a) (nI k) ln nx (bs_i l) (nI L.length) op ds lf rt (bs_B R) fr ki tt ff oo ss := by
  have hend : ∀ (a : Nat) (R : Nat → BitVec 32) (l : Bool) (fr : Nat → Int32) (k n : Nat), L.length ≤ a → a ≤ 170 → k ≤ 160 → 160 < n + k → (∀ f, post (ln, nx, bs_i (bs_ex 0 (L.drop a) (R, l)).2, nI L.length, op, ds, lf, rt, bs_B (bs_ex 0 (L.drop a) (R, l)).1, f, ki, tt, ff, oo, ss)) → wX_performAll_4 post n (nI a) (nI k) ln nx (bs_i l) (nI L.length) op ds lf rt (bs_B R) fr ki tt ff oo ss := by
    intro a R l fr k n h1 h2 h3 h4 h
    rw [List.drop_eq_nil_of_le h1] at h
    obtain ⟨n', rfl⟩ : ∃ n', n = n' + 1 := ⟨n - 1, by omega⟩
    exact br_c (fun _ => h fr) (fun _ => br_t (nI_le h1 (by omega)) (h fr))
  intro m
  induction m with
  | zero =>
    intro a R l fr k n h1 h2 _ h3 h4 h
    exact hend a R l fr k n h1 h2 h3 h4 h
  | succ m ih =>
    intro a R l fr k n h1 h2 hka h3 h4 h
    by_cases hlt : L.length ≤ a
    · exact hend a R l fr k n hlt h2 h3 h4 h
    · have hlt' : a < L.length := by omega
      obtain ⟨n', rfl⟩ : ∃ n', n = n' + 1 := ⟨n - 1, by omega⟩
      have hg : L[a]? = some L[a] := List.getElem?_eq_getElem hlt'
      have hc := hok L[a] (List.getElem_mem hlt')
      have hd : L.drop a = L[a] :: L.drop (a + 1) := List.drop_eq_getElem_cons hlt'
      obtain ⟨e1, e2, e3, e4, e5⟩ := hH a _ hg
      rw [hd] at h
      revert hc e1 e2 e3 e4 e5 h
      generalize L[a] = c
      intro h hc e1 e2 e3 e4 e5
      have ca : (nI a).toNatClampNeg = a := nI_clamp (by omega)
      refine br_f (nI_ge (b := 160) (by omega) (by decide)) (br_f (nI_ge (by omega) (by omega)) ?_)
      refine bs_perf c hc.2 a (by omega) R l (by rw [ca]; exact e1) (by rw [ca]; exact e2) (by rw [ca]; exact e3) (by rw [ca]; exact e4) (fun f' => ?_)
      have hs := hc.1
      cases hp : (bs_pf c (R, l)).1
      · refine br_t rfl ⟨vp_in_nI (by omega) (by decide), nm_r (e' := nI (a + 1 + c.2.2.2.2)) ?_ (nm_r (nI_1 k) (ih (a + 1 + c.2.2.2.2) _ _ f' (k + 1) n' (by omega) (by omega) (by omega) (by omega) (by omega) ?_))⟩
        · rw [ca, e5]
          show nI a + (nI 1 + nI _) = _
          rw [nI_add, nI_add, Nat.add_assoc]
        · intro f
          have q := h f
          rw [bs_ex, hp, if_neg (by decide), bs_ex_drop, List.drop_drop] at q
          exact q
      · refine br_f bs_i_ne (nm_r (nI_1 a) (nm_r (nI_1 k) (ih (a + 1) _ _ f' (k + 1) n' (by omega) (by omega) (by omega) (by omega) (by omega) ?_)))
        intro f
        have q := h f
        rw [bs_ex, hp, if_pos rfl] at q
        exact q
theorem bs_pall {post : SX → Prop} (L : List bs_C) (hL : L.length ≤ 160) (hok : ∀ c, c ∈ L → bs_ok c) (hH : bs_H L ki tt ff oo ss) (R : Nat → BitVec 32) (l : Bool) (h : ∀ f, post (ln, nx, bs_i (bs_ex 0 L (R, l)).2, nI L.length, op, ds, lf, rt, bs_B (bs_ex 0 L (R, l)).1, f, ki, tt, ff, oo, ss)) : wpX_performAll post (ln, nx, bs_i l, nI L.length, op, ds, lf, rt, bs_B R, fr, ki, tt, ff, oo, ss) :=
  ⟨161, bs_all L hL hok hH L.length 0 R l fr 0 161 (by omega) (by omega) (by omega) (by omega) (by omega) h⟩
end
end
section
/-! ===== translate: the list of micro-steps of a line ===== -/
theorem bs_H_nil (ki tt ff oo ss : Nat → Int32) : bs_H [] ki tt ff oo ss := fun i c h => by simp at h
theorem bs_H_app {L : List bs_C} {ki tt ff oo ss : Nat → Int32} (c : bs_C) (h : bs_H L ki tt ff oo ss) : bs_H (L ++ [c]) (upd ki L.length (nI c.1)) (upd tt L.length (nI c.2.1)) (upd ff L.length (nI c.2.2.1)) (upd oo L.length c.2.2.2.1) (upd ss L.length (nI c.2.2.2.2)) := by
  intro i d hd
  rcases Nat.lt_trichotomy i L.length with hi | hi | hi
  · rw [List.getElem?_append_left hi] at hd
    have hn : i ≠ L.length := by omega
    rw [pk_un hn, pk_un hn, pk_un hn, pk_un hn, pk_un hn]
    exact h i d hd
  · subst hi
    rw [List.getElem?_append_right (Nat.le_refl _), Nat.sub_self] at hd
    have e : c = d := by simpa using hd
    subst e
    rw [pk_us, pk_us, pk_us, pk_us, pk_us]
    exact ⟨rfl, rfl, rfl, rfl, rfl⟩
  · rw [List.getElem?_eq_none (by simp; omega)] at hd
    exact absurd hd (by simp)
section
variable {ln nx la st : Int32} {op ds lf rt bi fr ki tt ff oo ss : Nat → Int32}
theorem bs_step {post : SX → Prop} {L : List bs_C} (c : bs_C) (hL : L.length < 160) (hH : bs_H L ki tt ff oo ss) (h : ∀ ki tt ff oo ss, bs_H (L ++ [c]) ki tt ff oo ss → post (ln, nx, la, nI (L ++ [c]).length, op, ds, lf, rt, bi, fr, ki, tt, ff, oo, ss)) : wpX_step post (ln, nx, la, nI L.length, op, ds, lf, rt, bi, fr, ki, tt, ff, oo, ss) (nI c.1) (nI c.2.1) (nI c.2.2.1) c.2.2.2.1 (nI c.2.2.2.2) := by
  have hin : vp_in (nI L.length) 160 := vp_in_nI hL (by decide)
  have ec : (nI L.length).toNatClampNeg = L.length := nI_clamp (by omega)
  have el : nI L.length + 1 = nI (L ++ [c]).length := by rw [nI_1, List.length_append]; rfl
  have q := bs_H_app c hH
  rw [← ec] at q
  refine ⟨hin, nm_e ⟨hin, nm_e ⟨hin, nm_e ⟨hin, nm_e ⟨hin, nm_e (nm_r el (h _ _ _ _ _ ?_))⟩⟩⟩⟩⟩
  rw [ec] at q ⊢
  exact q
end
def bs_asc (b : Nat → List bs_C) : Nat → Nat → List bs_C
  | 0, _ => []
  | d + 1, i => b i ++ bs_asc b d (i + 1)
def bs_dsc (b : Nat → List bs_C) : Nat → List bs_C
  | 0 => []
  | d + 1 => b d ++ bs_dsc b d
def bs_pb (i : Nat) : List bs_C := [(8, 0, 9, nI i, 1), (1, 10, 10, 8, 0), (0, 8, 8, 1, 0)]
def bs_prod (x y : Nat) : List bs_C := [(0, 8, x, 0, 0), (0, 9, y, 0, 0), (11, 10, 0, 0, 0)] ++ bs_asc bs_pb 32 0
def bs_amt (t x : Nat) : List bs_C := [(0, t, x, 0, 0), (8, 0, x, 31, 1), (2, t, 13, nI x, 0)]
def bs_qb (i : Nat) : List bs_C := [(0, 10, 10, 1, 0), (8, 0, 8, nI i, 1), (10, 10, 0, 0, 0), (2, 12, 10, 9, 0), (9, 0, 0, 0, 2), (0, 10, 12, 0, 0), (10, 11, 0, nI i, 0)]
def bs_quot (x y : Nat) : List bs_C := [(11, 13, 0, 0, 0)] ++ bs_amt 8 x ++ bs_amt 9 y ++ [(11, 10, 0, 0, 0), (11, 11, 0, 0, 0)] ++ bs_dsc bs_qb 16
def bs_f6 (d x y : Nat) : List bs_C := [(12, 0, 9, 0, 1), (11, 11, 0, 0, 0), (5, 12, x, nI y, 0), (8, 0, 12, 31, 1), (2, 11, 13, 11, 0), (6, d, 11, 0, 0)]
def bs_f7 (d x : Nat) : List bs_C := [(8, 0, x, 31, 1), (2, 10, 13, 10, 0), (6, d, 10, 0, 0)]
def bs_rb (i : Nat) : List bs_C := [(0, 9, 9, 2, 0), (8, 0, 8, nI (2 * i + 1), 1), (10, 9, 0, 1, 0), (8, 0, 8, nI (2 * i), 1), (10, 9, 0, 0, 0), (0, 11, 10, 2, 0), (10, 11, 0, 0, 0), (0, 10, 10, 1, 0), (2, 12, 9, 11, 0), (9, 0, 0, 0, 2), (0, 9, 12, 0, 0), (10, 10, 0, 0, 0)]
def bs_root (x : Nat) : List bs_C := [(7, 8, x, 0, 0), (11, 9, 0, 0, 0), (11, 10, 0, 0, 0)] ++ bs_dsc bs_rb 8
def bs_cob (x i : Nat) : List bs_C := [(8, 0, x, nI i, 1), (1, 8, 8, 9, 0)]
def bs_ones (x : Nat) : List bs_C := [(11, 8, 0, 0, 0), (11, 9, 0, 1, 0)] ++ bs_asc (bs_cob x) 16 0
def bs_cmp13 (d x y : Nat) : List bs_C := [(11, 9, 0, 0, 0), (2, 8, x, nI y, 0), (8, 0, 8, 31, 1), (10, 9, 0, 0, 0), (6, d, 9, 0, 0)]
def bs_cmp14 (d x y : Nat) : List bs_C := [(11, 9, 0, 0, 0), (5, 8, x, nI y, 0), (12, 0, 8, 0, 1), (10, 9, 0, 0, 0), (6, d, 9, 0, 0)]
def bs_prog (o d x y w : Nat) (a : Int32) : List bs_C := match o with
  | 0 => [(11, 8, 0, a, 0), (6, d, 8, 0, 0)]
  | 1 => [(6, d, x, 0, 0)]
  | 2 => [(1, 8, x, nI y, 0), (6, d, 8, 0, 0)]
  | 3 => [(2, 8, x, nI y, 0), (6, d, 8, 0, 0)]
  | 4 => bs_prod x y ++ [(0, 10, 10, 0, 0), (6, d, 10, 0, 0)]
  | 5 => bs_prod x y ++ [(0, 10, 10, -16, 0), (6, d, 10, 0, 0)]
  | 6 => bs_quot x y ++ bs_f6 d x y
  | 7 => bs_quot x y ++ bs_f7 d x
  | 8 => [(3, 8, x, nI y, 0), (6, d, 8, 0, 0)]
  | 9 => [(4, 8, x, nI y, 0), (6, d, 8, 0, 0)]
  | 10 => [(5, 8, x, nI y, 0), (6, d, 8, 0, 0)]
  | 11 => [(0, 8, x, nI w, 0), (6, d, 8, 0, 0)]
  | 12 => [(0, 8, x, -nI w, 0), (6, d, 8, 0, 0)]
  | 13 => bs_cmp13 d x y
  | 14 => bs_cmp14 d x y
  | 15 => bs_root x ++ [(6, d, 10, 0, 0)]
  | _ => bs_ones x ++ [(6, d, 8, 0, 0)]
theorem bs_len_asc (b : Nat → List bs_C) (q : Nat) (hb : ∀ i, (b i).length = q) : ∀ d i, (bs_asc b d i).length = q * d := by
  intro d
  induction d with
  | zero => intro i; rfl
  | succ d ih => intro i; rw [bs_asc, List.length_append, hb, ih, Nat.mul_succ]; omega
theorem bs_len_dsc (b : Nat → List bs_C) (q : Nat) (hb : ∀ i, (b i).length = q) : ∀ d, (bs_dsc b d).length = q * d := by
  intro d
  induction d with
  | zero => rfl
  | succ d ih => rw [bs_dsc, List.length_append, hb, ih, Nat.mul_succ]; omega
theorem bs_len_prod (x y : Nat) : (bs_prod x y).length = 99 := by rw [bs_prod, List.length_append, bs_len_asc bs_pb 3 (fun _ => rfl)]; rfl
theorem bs_len_quot (x y : Nat) : (bs_quot x y).length = 121 := by rw [bs_quot, List.length_append, bs_len_dsc bs_qb 7 (fun _ => rfl)]; rfl
theorem bs_len_root (x : Nat) : (bs_root x).length = 99 := by rw [bs_root, List.length_append, bs_len_dsc bs_rb 12 (fun _ => rfl)]; rfl
theorem bs_len_ones (x : Nat) : (bs_ones x).length = 34 := by rw [bs_ones, List.length_append, bs_len_asc (bs_cob x) 2 (fun _ => rfl)]; rfl
section
variable {ln nx la st : Int32} {op ds lf rt bi fr ki tt ff oo ss : Nat → Int32}
theorem bs_prodL {post : SX → Prop} : ∀ (d i n : Nat) (L : List bs_C) (ki tt ff oo ss : Nat → Int32), i + d = 32 → L.length + 3 * d ≤ 160 → d < n → bs_H L ki tt ff oo ss → (∀ ki tt ff oo ss, bs_H (L ++ bs_asc bs_pb d i) ki tt ff oo ss → post (ln, nx, la, nI (L ++ bs_asc bs_pb d i).length, op, ds, lf, rt, bi, fr, ki, tt, ff, oo, ss)) → wX_product_33 post n (nI i) ln nx la (nI L.length) op ds lf rt bi fr ki tt ff oo ss := by
  intro d
  induction d with
  | zero =>
    intro i n L ki tt ff oo ss hi hl hn hH h
    obtain rfl : i = 32 := by omega
    obtain ⟨n', rfl⟩ : ∃ n', n = n' + 1 := ⟨n - 1, by omega⟩
    rw [bs_asc, List.append_nil] at h
    exact br_t bs_le32 (h _ _ _ _ _ hH)
  | succ d ih =>
    intro i n L ki tt ff oo ss hi hl hn hH h
    obtain ⟨n', rfl⟩ : ∃ n', n = n' + 1 := ⟨n - 1, by omega⟩
    have e : L ++ bs_asc bs_pb (d + 1) i = L ++ [(8, 0, 9, nI i, 1)] ++ [(1, 10, 10, 8, 0)] ++ [(0, 8, 8, 1, 0)] ++ bs_asc bs_pb d (i + 1) := by
      rw [bs_asc, bs_pb]
      simp only [List.append_assoc, List.cons_append, List.nil_append]
    rw [e] at h
    refine br_f (bs_nle32 (by omega)) ?_
    refine bs_step (8, 0, 9, nI i, 1) (by omega) hH (fun ki tt ff oo ss hH => ?_)
    refine bs_step (1, 10, 10, 8, 0) (by simp only [List.length_append, List.length_cons, List.length_nil]; omega) hH (fun ki tt ff oo ss hH => ?_)
    refine bs_step (0, 8, 8, 1, 0) (by simp only [List.length_append, List.length_cons, List.length_nil]; omega) hH (fun ki tt ff oo ss hH => ?_)
    exact nm_r (nI_1 i) (ih (i + 1) n' _ _ _ _ _ _ (by omega) (by simp only [List.length_append, List.length_cons, List.length_nil]; omega) (by omega) hH h)
theorem bs_product {post : SX → Prop} {L : List bs_C} (x y : Nat) (hL : L.length + 99 ≤ 160) (hH : bs_H L ki tt ff oo ss) (h : ∀ ki tt ff oo ss, bs_H (L ++ bs_prod x y) ki tt ff oo ss → post (ln, nx, la, nI (L ++ bs_prod x y).length, op, ds, lf, rt, bi, fr, ki, tt, ff, oo, ss)) : wpX_product post (ln, nx, la, nI L.length, op, ds, lf, rt, bi, fr, ki, tt, ff, oo, ss) (nI x) (nI y) := by
  have e : L ++ bs_prod x y = L ++ [(0, 8, x, 0, 0)] ++ [(0, 9, y, 0, 0)] ++ [(11, 10, 0, 0, 0)] ++ bs_asc bs_pb 32 0 := by
    rw [bs_prod]
    simp only [List.append_assoc, List.cons_append, List.nil_append]
  rw [e] at h
  unfold wpX_product
  refine bs_step (0, 8, x, 0, 0) (by omega) hH (fun ki tt ff oo ss hH => ?_)
  refine bs_step (0, 9, y, 0, 0) (by simp only [List.length_append, List.length_cons, List.length_nil]; omega) hH (fun ki tt ff oo ss hH => ?_)
  refine bs_step (11, 10, 0, 0, 0) (by simp only [List.length_append, List.length_cons, List.length_nil]; omega) hH (fun ki tt ff oo ss hH => ?_)
  exact ⟨33, bs_prodL 32 0 33 _ _ _ _ _ _ rfl (by simp only [List.length_append, List.length_cons, List.length_nil]; omega) (by omega) hH h⟩
theorem bs_amount {post : SX → Prop} {L : List bs_C} (t x : Nat) (hL : L.length + 3 ≤ 160) (hH : bs_H L ki tt ff oo ss) (h : ∀ ki tt ff oo ss, bs_H (L ++ bs_amt t x) ki tt ff oo ss → post (ln, nx, la, nI (L ++ bs_amt t x).length, op, ds, lf, rt, bi, fr, ki, tt, ff, oo, ss)) : wpX_amount post (ln, nx, la, nI L.length, op, ds, lf, rt, bi, fr, ki, tt, ff, oo, ss) (nI t) (nI x) := by
  have e : L ++ bs_amt t x = L ++ [(0, t, x, 0, 0)] ++ [(8, 0, x, 31, 1)] ++ [(2, t, 13, nI x, 0)] := by
    rw [bs_amt]
    simp only [List.append_assoc, List.cons_append, List.nil_append]
  rw [e] at h
  unfold wpX_amount
  refine bs_step (0, t, x, 0, 0) (by omega) hH (fun ki tt ff oo ss hH => ?_)
  refine bs_step (8, 0, x, 31, 1) (by simp only [List.length_append, List.length_cons, List.length_nil]; omega) hH (fun ki tt ff oo ss hH => ?_)
  exact bs_step (2, t, 13, nI x, 0) (by simp only [List.length_append, List.length_cons, List.length_nil]; omega) hH h
end
end
section
/-! ===== translate: quotient, root, ones ===== -/
section
variable {ln nx la st : Int32} {op ds lf rt bi fr ki tt ff oo ss : Nat → Int32}
theorem bs_quotL {post : SX → Prop} : ∀ (d n : Nat) (L : List bs_C) (ki tt ff oo ss : Nat → Int32), d ≤ 100 → L.length + 7 * d ≤ 160 → d < n → bs_H L ki tt ff oo ss → (∀ ki tt ff oo ss, bs_H (L ++ bs_dsc bs_qb d) ki tt ff oo ss → post (ln, nx, la, nI (L ++ bs_dsc bs_qb d).length, op, ds, lf, rt, bi, fr, ki, tt, ff, oo, ss)) → wX_quotient_50 post n (nI d + (-1)) ln nx la (nI L.length) op ds lf rt bi fr ki tt ff oo ss := by
  intro d
  induction d with
  | zero =>
    intro n L ki tt ff oo ss hd hl hn hH h
    obtain ⟨n', rfl⟩ : ∃ n', n = n' + 1 := ⟨n - 1, by omega⟩
    rw [bs_dsc, List.append_nil] at h
    exact br_t (by decide) (h _ _ _ _ _ hH)
  | succ d ih =>
    intro n L ki tt ff oo ss hd hl hn hH h
    obtain ⟨n', rfl⟩ : ∃ n', n = n' + 1 := ⟨n - 1, by omega⟩
    have e : L ++ bs_dsc bs_qb (d + 1) = L ++ [(0, 10, 10, 1, 0)] ++ [(8, 0, 8, nI d, 1)] ++ [(10, 10, 0, 0, 0)] ++ [(2, 12, 10, 9, 0)] ++ [(9, 0, 0, 0, 2)] ++ [(0, 10, 12, 0, 0)] ++ [(10, 11, 0, nI d, 0)] ++ bs_dsc bs_qb d := by
      rw [bs_dsc, bs_qb]
      simp only [List.append_assoc, List.cons_append, List.nil_append]
    rw [e] at h
    rw [pk_m1]
    refine br_f (nI_pos (by omega)) ?_
    refine bs_step (0, 10, 10, 1, 0) (by (try simp only [List.length_append, List.length_cons, List.length_nil]); omega) hH (fun ki tt ff oo ss hH => ?_)
    refine bs_step (8, 0, 8, nI d, 1) (by (try simp only [List.length_append, List.length_cons, List.length_nil]); omega) hH (fun ki tt ff oo ss hH => ?_)
    refine bs_step (10, 10, 0, 0, 0) (by (try simp only [List.length_append, List.length_cons, List.length_nil]); omega) hH (fun ki tt ff oo ss hH => ?_)
    refine bs_step (2, 12, 10, 9, 0) (by (try simp only [List.length_append, List.length_cons, List.length_nil]); omega) hH (fun ki tt ff oo ss hH => ?_)
    refine bs_step (9, 0, 0, 0, 2) (by (try simp only [List.length_append, List.length_cons, List.length_nil]); omega) hH (fun ki tt ff oo ss hH => ?_)
    refine bs_step (0, 10, 12, 0, 0) (by (try simp only [List.length_append, List.length_cons, List.length_nil]); omega) hH (fun ki tt ff oo ss hH => ?_)
    refine bs_step (10, 11, 0, nI d, 0) (by (try simp only [List.length_append, List.length_cons, List.length_nil]); omega) hH (fun ki tt ff oo ss hH => ?_)
    exact nm_e (ih n' _ _ _ _ _ _ (by omega) (by simp only [List.length_append, List.length_cons, List.length_nil]; omega) (by omega) hH h)
theorem bs_quotient {post : SX → Prop} {L : List bs_C} (x y : Nat) (hL : L.length + 121 ≤ 160) (hH : bs_H L ki tt ff oo ss) (h : ∀ ki tt ff oo ss, bs_H (L ++ bs_quot x y) ki tt ff oo ss → post (ln, nx, la, nI (L ++ bs_quot x y).length, op, ds, lf, rt, bi, fr, ki, tt, ff, oo, ss)) : wpX_quotient post (ln, nx, la, nI L.length, op, ds, lf, rt, bi, fr, ki, tt, ff, oo, ss) (nI x) (nI y) := by
  have e : L ++ bs_quot x y = L ++ [(11, 13, 0, 0, 0)] ++ bs_amt 8 x ++ bs_amt 9 y ++ [(11, 10, 0, 0, 0)] ++ [(11, 11, 0, 0, 0)] ++ bs_dsc bs_qb 16 := by
    rw [bs_quot]
    simp only [List.append_assoc, List.cons_append, List.nil_append]
  have ea : ∀ t x : Nat, (bs_amt t x).length = 3 := fun _ _ => rfl
  rw [e] at h
  unfold wpX_quotient
  refine bs_step (11, 13, 0, 0, 0) (by omega) hH (fun ki tt ff oo ss hH => ?_)
  refine bs_amount 8 x (by simp only [List.length_append, List.length_cons, List.length_nil]; omega) hH (fun ki tt ff oo ss hH => ?_)
  refine bs_amount 9 y (by simp only [List.length_append, List.length_cons, List.length_nil, ea]; omega) hH (fun ki tt ff oo ss hH => ?_)
  refine bs_step (11, 10, 0, 0, 0) (by simp only [List.length_append, List.length_cons, List.length_nil, ea]; omega) hH (fun ki tt ff oo ss hH => ?_)
  refine bs_step (11, 11, 0, 0, 0) (by simp only [List.length_append, List.length_cons, List.length_nil, ea]; omega) hH (fun ki tt ff oo ss hH => ?_)
  refine ⟨17, ?_⟩
  rw [show (15 : Int32) = nI 16 + (-1) from by decide]
  exact bs_quotL 16 17 _ _ _ _ _ _ (by omega) (by simp only [List.length_append, List.length_cons, List.length_nil, ea]; omega) (by omega) hH h
theorem bs_fin6 {post : SX → Prop} {L : List bs_C} (d x y : Nat) (hL : L.length + 6 ≤ 160) (hH : bs_H L ki tt ff oo ss) (h : ∀ ki tt ff oo ss, bs_H (L ++ bs_f6 d x y) ki tt ff oo ss → post (ln, nx, la, nI (L ++ bs_f6 d x y).length, op, ds, lf, rt, bi, fr, ki, tt, ff, oo, ss)) : wpX_finishQuotient post (ln, nx, la, nI L.length, op, ds, lf, rt, bi, fr, ki, tt, ff, oo, ss) 6 (nI d) (nI x) (nI y) := by
  have e : L ++ bs_f6 d x y = L ++ [(12, 0, 9, 0, 1)] ++ [(11, 11, 0, 0, 0)] ++ [(5, 12, x, nI y, 0)] ++ [(8, 0, 12, 31, 1)] ++ [(2, 11, 13, 11, 0)] ++ [(6, d, 11, 0, 0)] := by
    rw [bs_f6]
    simp only [List.append_assoc, List.cons_append, List.nil_append]
  rw [e] at h
  refine br_t rfl ?_
  refine bs_step (12, 0, 9, 0, 1) (by (try simp only [List.length_append, List.length_cons, List.length_nil]); omega) hH (fun ki tt ff oo ss hH => ?_)
  refine bs_step (11, 11, 0, 0, 0) (by (try simp only [List.length_append, List.length_cons, List.length_nil]); omega) hH (fun ki tt ff oo ss hH => ?_)
  refine bs_step (5, 12, x, nI y, 0) (by (try simp only [List.length_append, List.length_cons, List.length_nil]); omega) hH (fun ki tt ff oo ss hH => ?_)
  refine bs_step (8, 0, 12, 31, 1) (by (try simp only [List.length_append, List.length_cons, List.length_nil]); omega) hH (fun ki tt ff oo ss hH => ?_)
  refine bs_step (2, 11, 13, 11, 0) (by (try simp only [List.length_append, List.length_cons, List.length_nil]); omega) hH (fun ki tt ff oo ss hH => ?_)
  refine bs_step (6, d, 11, 0, 0) (by (try simp only [List.length_append, List.length_cons, List.length_nil]); omega) hH (fun ki tt ff oo ss hH => ?_)
  exact h _ _ _ _ _ hH
theorem bs_fin7 {post : SX → Prop} {L : List bs_C} (d x y : Nat) (hL : L.length + 3 ≤ 160) (hH : bs_H L ki tt ff oo ss) (h : ∀ ki tt ff oo ss, bs_H (L ++ bs_f7 d x) ki tt ff oo ss → post (ln, nx, la, nI (L ++ bs_f7 d x).length, op, ds, lf, rt, bi, fr, ki, tt, ff, oo, ss)) : wpX_finishQuotient post (ln, nx, la, nI L.length, op, ds, lf, rt, bi, fr, ki, tt, ff, oo, ss) 7 (nI d) (nI x) (nI y) := by
  have e : L ++ bs_f7 d x = L ++ [(8, 0, x, 31, 1)] ++ [(2, 10, 13, 10, 0)] ++ [(6, d, 10, 0, 0)] := by
    rw [bs_f7]
    simp only [List.append_assoc, List.cons_append, List.nil_append]
  rw [e] at h
  refine br_f (by decide) ?_
  refine bs_step (8, 0, x, 31, 1) (by (try simp only [List.length_append, List.length_cons, List.length_nil]); omega) hH (fun ki tt ff oo ss hH => ?_)
  refine bs_step (2, 10, 13, 10, 0) (by (try simp only [List.length_append, List.length_cons, List.length_nil]); omega) hH (fun ki tt ff oo ss hH => ?_)
  refine bs_step (6, d, 10, 0, 0) (by (try simp only [List.length_append, List.length_cons, List.length_nil]); omega) hH (fun ki tt ff oo ss hH => ?_)
  exact h _ _ _ _ _ hH
theorem bs_rootL {post : SX → Prop} : ∀ (d n : Nat) (L : List bs_C) (ki tt ff oo ss : Nat → Int32), d ≤ 100 → L.length + 12 * d ≤ 160 → d < n → bs_H L ki tt ff oo ss → (∀ ki tt ff oo ss, bs_H (L ++ bs_dsc bs_rb d) ki tt ff oo ss → post (ln, nx, la, nI (L ++ bs_dsc bs_rb d).length, op, ds, lf, rt, bi, fr, ki, tt, ff, oo, ss)) → wX_root_36 post n (nI d + (-1)) ln nx la (nI L.length) op ds lf rt bi fr ki tt ff oo ss := by
  intro d
  induction d with
  | zero =>
    intro n L ki tt ff oo ss hd hl hn hH h
    obtain ⟨n', rfl⟩ : ∃ n', n = n' + 1 := ⟨n - 1, by omega⟩
    rw [bs_dsc, List.append_nil] at h
    exact br_t (by decide) (h _ _ _ _ _ hH)
  | succ d ih =>
    intro n L ki tt ff oo ss hd hl hn hH h
    obtain ⟨n', rfl⟩ : ∃ n', n = n' + 1 := ⟨n - 1, by omega⟩
    have e : L ++ bs_dsc bs_rb (d + 1) = L ++ [(0, 9, 9, 2, 0)] ++ [(8, 0, 8, nI (2 * d + 1), 1)] ++ [(10, 9, 0, 1, 0)] ++ [(8, 0, 8, nI (2 * d), 1)] ++ [(10, 9, 0, 0, 0)] ++ [(0, 11, 10, 2, 0)] ++ [(10, 11, 0, 0, 0)] ++ [(0, 10, 10, 1, 0)] ++ [(2, 12, 9, 11, 0)] ++ [(9, 0, 0, 0, 2)] ++ [(0, 9, 12, 0, 0)] ++ [(10, 10, 0, 0, 0)] ++ bs_dsc bs_rb d := by
      rw [bs_dsc, bs_rb]
      simp only [List.append_assoc, List.cons_append, List.nil_append]
    rw [e] at h
    rw [pk_m1]
    refine br_f (nI_pos (by omega)) ?_
    rw [show (2 : Int32) * nI d = nI (2 * d) from pk_mul 2 d, nI_1 (2 * d)]
    refine bs_step (0, 9, 9, 2, 0) (by (try simp only [List.length_append, List.length_cons, List.length_nil]); omega) hH (fun ki tt ff oo ss hH => ?_)
    refine bs_step (8, 0, 8, nI (2 * d + 1), 1) (by (try simp only [List.length_append, List.length_cons, List.length_nil]); omega) hH (fun ki tt ff oo ss hH => ?_)
    refine bs_step (10, 9, 0, 1, 0) (by (try simp only [List.length_append, List.length_cons, List.length_nil]); omega) hH (fun ki tt ff oo ss hH => ?_)
    refine bs_step (8, 0, 8, nI (2 * d), 1) (by (try simp only [List.length_append, List.length_cons, List.length_nil]); omega) hH (fun ki tt ff oo ss hH => ?_)
    refine bs_step (10, 9, 0, 0, 0) (by (try simp only [List.length_append, List.length_cons, List.length_nil]); omega) hH (fun ki tt ff oo ss hH => ?_)
    refine bs_step (0, 11, 10, 2, 0) (by (try simp only [List.length_append, List.length_cons, List.length_nil]); omega) hH (fun ki tt ff oo ss hH => ?_)
    refine bs_step (10, 11, 0, 0, 0) (by (try simp only [List.length_append, List.length_cons, List.length_nil]); omega) hH (fun ki tt ff oo ss hH => ?_)
    refine bs_step (0, 10, 10, 1, 0) (by (try simp only [List.length_append, List.length_cons, List.length_nil]); omega) hH (fun ki tt ff oo ss hH => ?_)
    refine bs_step (2, 12, 9, 11, 0) (by (try simp only [List.length_append, List.length_cons, List.length_nil]); omega) hH (fun ki tt ff oo ss hH => ?_)
    refine bs_step (9, 0, 0, 0, 2) (by (try simp only [List.length_append, List.length_cons, List.length_nil]); omega) hH (fun ki tt ff oo ss hH => ?_)
    refine bs_step (0, 9, 12, 0, 0) (by (try simp only [List.length_append, List.length_cons, List.length_nil]); omega) hH (fun ki tt ff oo ss hH => ?_)
    refine bs_step (10, 10, 0, 0, 0) (by (try simp only [List.length_append, List.length_cons, List.length_nil]); omega) hH (fun ki tt ff oo ss hH => ?_)
    exact nm_e (ih n' _ _ _ _ _ _ (by omega) (by simp only [List.length_append, List.length_cons, List.length_nil]; omega) (by omega) hH h)
theorem bs_rooted {post : SX → Prop} {L : List bs_C} (x : Nat) (hL : L.length + 99 ≤ 160) (hH : bs_H L ki tt ff oo ss) (h : ∀ ki tt ff oo ss, bs_H (L ++ bs_root x) ki tt ff oo ss → post (ln, nx, la, nI (L ++ bs_root x).length, op, ds, lf, rt, bi, fr, ki, tt, ff, oo, ss)) : wpX_root post (ln, nx, la, nI L.length, op, ds, lf, rt, bi, fr, ki, tt, ff, oo, ss) (nI x) := by
  have e : L ++ bs_root x = L ++ [(7, 8, x, 0, 0)] ++ [(11, 9, 0, 0, 0)] ++ [(11, 10, 0, 0, 0)] ++ bs_dsc bs_rb 8 := by
    rw [bs_root]
    simp only [List.append_assoc, List.cons_append, List.nil_append]
  rw [e] at h
  unfold wpX_root
  refine bs_step (7, 8, x, 0, 0) (by (try simp only [List.length_append, List.length_cons, List.length_nil]); omega) hH (fun ki tt ff oo ss hH => ?_)
  refine bs_step (11, 9, 0, 0, 0) (by (try simp only [List.length_append, List.length_cons, List.length_nil]); omega) hH (fun ki tt ff oo ss hH => ?_)
  refine bs_step (11, 10, 0, 0, 0) (by (try simp only [List.length_append, List.length_cons, List.length_nil]); omega) hH (fun ki tt ff oo ss hH => ?_)
  refine ⟨9, ?_⟩
  rw [show (7 : Int32) = nI 8 + (-1) from by decide]
  exact bs_rootL 8 9 _ _ _ _ _ _ (by omega) (by simp only [List.length_append, List.length_cons, List.length_nil]; omega) (by omega) hH h
theorem bs_onesL {post : SX → Prop} (x : Nat) : ∀ (d i n : Nat) (L : List bs_C) (ki tt ff oo ss : Nat → Int32), i + d = 16 → L.length + 2 * d ≤ 160 → d < n → bs_H L ki tt ff oo ss → (∀ ki tt ff oo ss, bs_H (L ++ bs_asc (bs_cob x) d i) ki tt ff oo ss → post (ln, nx, la, nI (L ++ bs_asc (bs_cob x) d i).length, op, ds, lf, rt, bi, fr, ki, tt, ff, oo, ss)) → wX_countOnes_24 post (nI x) n (nI i) ln nx la (nI L.length) op ds lf rt bi fr ki tt ff oo ss := by
  intro d
  induction d with
  | zero =>
    intro i n L ki tt ff oo ss hi hl hn hH h
    obtain rfl : i = 16 := by omega
    obtain ⟨n', rfl⟩ : ∃ n', n = n' + 1 := ⟨n - 1, by omega⟩
    rw [bs_asc, List.append_nil] at h
    exact br_t (nI_le (a := 16) (b := 16) (Nat.le_refl _) (by decide)) (h _ _ _ _ _ hH)
  | succ d ih =>
    intro i n L ki tt ff oo ss hi hl hn hH h
    obtain ⟨n', rfl⟩ : ∃ n', n = n' + 1 := ⟨n - 1, by omega⟩
    have e : L ++ bs_asc (bs_cob x) (d + 1) i = L ++ [(8, 0, x, nI i, 1)] ++ [(1, 8, 8, 9, 0)] ++ bs_asc (bs_cob x) d (i + 1) := by
      rw [bs_asc, bs_cob]
      simp only [List.append_assoc, List.cons_append, List.nil_append]
    rw [e] at h
    refine br_f (nI_ge (b := 16) (by omega) (by decide)) ?_
    refine bs_step (8, 0, x, nI i, 1) (by (try simp only [List.length_append, List.length_cons, List.length_nil]); omega) hH (fun ki tt ff oo ss hH => ?_)
    refine bs_step (1, 8, 8, 9, 0) (by (try simp only [List.length_append, List.length_cons, List.length_nil]); omega) hH (fun ki tt ff oo ss hH => ?_)
    exact nm_r (nI_1 i) (ih (i + 1) n' _ _ _ _ _ _ (by omega) (by simp only [List.length_append, List.length_cons, List.length_nil]; omega) (by omega) hH h)
theorem bs_counted {post : SX → Prop} {L : List bs_C} (x : Nat) (hL : L.length + 34 ≤ 160) (hH : bs_H L ki tt ff oo ss) (h : ∀ ki tt ff oo ss, bs_H (L ++ bs_ones x) ki tt ff oo ss → post (ln, nx, la, nI (L ++ bs_ones x).length, op, ds, lf, rt, bi, fr, ki, tt, ff, oo, ss)) : wpX_countOnes post (ln, nx, la, nI L.length, op, ds, lf, rt, bi, fr, ki, tt, ff, oo, ss) (nI x) := by
  have e : L ++ bs_ones x = L ++ [(11, 8, 0, 0, 0)] ++ [(11, 9, 0, 1, 0)] ++ bs_asc (bs_cob x) 16 0 := by
    rw [bs_ones]
    simp only [List.append_assoc, List.cons_append, List.nil_append]
  rw [e] at h
  unfold wpX_countOnes
  refine bs_step (11, 8, 0, 0, 0) (by (try simp only [List.length_append, List.length_cons, List.length_nil]); omega) hH (fun ki tt ff oo ss hH => ?_)
  refine bs_step (11, 9, 0, 1, 0) (by (try simp only [List.length_append, List.length_cons, List.length_nil]); omega) hH (fun ki tt ff oo ss hH => ?_)
  exact ⟨17, bs_onesL x 16 0 17 _ _ _ _ _ _ rfl (by simp only [List.length_append, List.length_cons, List.length_nil]; omega) (by omega) hH h⟩
end
end
section
/-! ===== translate, by the kind of line ===== -/
section
variable {ln nx la st : Int32} {op ds lf rt bi fr ki tt ff oo ss : Nat → Int32}
theorem bs_trans {post : SX → Prop} (p o d x y w : Nat) (a : Int32) (hp : p < 32) (ho : o ≤ 16) (eo : op (nI p).toNatClampNeg = nI o) (ed : ds (nI p).toNatClampNeg = nI d) (ea : lf (nI p).toNatClampNeg = a) (ex : lf (nI p).toNatClampNeg &&& 7 = nI x) (ey : rt (nI p).toNatClampNeg &&& 7 = nI y) (ew : rt (nI p).toNatClampNeg &&& 15 = nI w) (h : ∀ ki tt ff oo ss, bs_H (bs_prog o d x y w a) ki tt ff oo ss → post (ln, nx, la, nI (bs_prog o d x y w a).length, op, ds, lf, rt, bi, fr, ki, tt, ff, oo, ss)) : wpX_translate post (ln, nx, la, st, op, ds, lf, rt, bi, fr, ki, tt, ff, oo, ss) (nI p) := by
  have hin : vp_in (nI p) 32 := bs_in32 hp
  have hH : bs_H [] ki tt ff oo ss := bs_H_nil ki tt ff oo ss
  refine ⟨hin, nm_r eo ⟨hin, nm_r ed ⟨hin, nm_r ex ⟨hin, nm_r ey ⟨hin, nm_r ew ?_⟩⟩⟩⟩⟩
  clear eo ed ex ey ew
  match o, ho, h with
  | 0, ho, h =>
    refine br_t rfl ⟨hin, ?_⟩
    rw [ea]
    show wpX_step _ (ln, nx, la, nI ([] : List bs_C).length, op, ds, lf, rt, bi, fr, ki, tt, ff, oo, ss) _ _ _ _ _
    refine bs_step (11, 8, 0, a, 0) (by (try simp only [List.length_append, List.length_cons, List.length_nil]); omega) hH (fun ki tt ff oo ss hH => ?_)
    refine bs_step (6, d, 8, 0, 0) (by (try simp only [List.length_append, List.length_cons, List.length_nil]); omega) hH (fun ki tt ff oo ss hH => ?_)
    exact h _ _ _ _ _ hH
  | 1, ho, h =>
    refine br_f (by decide) (br_t rfl ?_)
    show wpX_step _ (ln, nx, la, nI ([] : List bs_C).length, op, ds, lf, rt, bi, fr, ki, tt, ff, oo, ss) _ _ _ _ _
    refine bs_step (6, d, x, 0, 0) (by (try simp only [List.length_append, List.length_cons, List.length_nil]); omega) hH (fun ki tt ff oo ss hH => ?_)
    exact h _ _ _ _ _ hH
  | 2, ho, h =>
    refine br_f (by decide) (br_f (by decide) (br_t rfl ?_))
    refine br_t rfl ?_
    show wpX_step _ (ln, nx, la, nI ([] : List bs_C).length, op, ds, lf, rt, bi, fr, ki, tt, ff, oo, ss) _ _ _ _ _
    refine bs_step (1, 8, x, nI y, 0) (by (try simp only [List.length_append, List.length_cons, List.length_nil]); omega) hH (fun ki tt ff oo ss hH => ?_)
    refine bs_step (6, d, 8, 0, 0) (by (try simp only [List.length_append, List.length_cons, List.length_nil]); omega) hH (fun ki tt ff oo ss hH => ?_)
    exact h _ _ _ _ _ hH
  | 3, ho, h =>
    refine br_f (by decide) (br_f (by decide) (br_f (by decide) (br_t rfl ?_)))
    refine br_f (by decide) ?_
    show wpX_step _ (ln, nx, la, nI ([] : List bs_C).length, op, ds, lf, rt, bi, fr, ki, tt, ff, oo, ss) _ _ _ _ _
    refine bs_step (2, 8, x, nI y, 0) (by (try simp only [List.length_append, List.length_cons, List.length_nil]); omega) hH (fun ki tt ff oo ss hH => ?_)
    refine bs_step (6, d, 8, 0, 0) (by (try simp only [List.length_append, List.length_cons, List.length_nil]); omega) hH (fun ki tt ff oo ss hH => ?_)
    exact h _ _ _ _ _ hH
  | 4, ho, h =>
    refine br_f (by decide) (br_f (by decide) (br_f (by decide) (br_f (by decide) (br_t rfl ?_))))
    show wpX_product _ (ln, nx, la, nI ([] : List bs_C).length, op, ds, lf, rt, bi, fr, ki, tt, ff, oo, ss) _ _
    refine bs_product x y (by decide) hH (fun ki tt ff oo ss hH => ?_)
    refine br_t rfl ?_
    show wpX_step _ (ln, nx, la, nI ([] ++ bs_prod x y).length, op, ds, lf, rt, bi, fr, ki, tt, ff, oo, ss) _ _ _ _ _
    refine bs_step (0, 10, 10, 0, 0) (by simp only [List.length_append, List.length_cons, List.length_nil, bs_len_prod, bs_len_quot, bs_len_root, bs_len_ones]; omega) hH (fun ki tt ff oo ss hH => ?_)
    refine bs_step (6, d, 10, 0, 0) (by simp only [List.length_append, List.length_cons, List.length_nil, bs_len_prod, bs_len_quot, bs_len_root, bs_len_ones]; omega) hH (fun ki tt ff oo ss hH => ?_)
    refine h ki tt ff oo ss ?_
    simpa only [bs_prog, List.append_assoc, List.cons_append, List.nil_append] using hH
  | 5, ho, h =>
    refine br_f (by decide) (br_f (by decide) (br_f (by decide) (br_f (by decide) (br_f (by decide) (br_t rfl ?_)))))
    show wpX_product _ (ln, nx, la, nI ([] : List bs_C).length, op, ds, lf, rt, bi, fr, ki, tt, ff, oo, ss) _ _
    refine bs_product x y (by decide) hH (fun ki tt ff oo ss hH => ?_)
    refine br_f (by decide) ?_
    show wpX_step _ (ln, nx, la, nI ([] ++ bs_prod x y).length, op, ds, lf, rt, bi, fr, ki, tt, ff, oo, ss) _ _ _ _ _
    refine bs_step (0, 10, 10, -16, 0) (by simp only [List.length_append, List.length_cons, List.length_nil, bs_len_prod, bs_len_quot, bs_len_root, bs_len_ones]; omega) hH (fun ki tt ff oo ss hH => ?_)
    refine bs_step (6, d, 10, 0, 0) (by simp only [List.length_append, List.length_cons, List.length_nil, bs_len_prod, bs_len_quot, bs_len_root, bs_len_ones]; omega) hH (fun ki tt ff oo ss hH => ?_)
    refine h ki tt ff oo ss ?_
    simpa only [bs_prog, List.append_assoc, List.cons_append, List.nil_append] using hH
  | 6, ho, h =>
    refine br_f (by decide) (br_f (by decide) (br_f (by decide) (br_f (by decide) (br_f (by decide) (br_f (by decide) (br_t rfl ?_))))))
    show wpX_quotient _ (ln, nx, la, nI ([] : List bs_C).length, op, ds, lf, rt, bi, fr, ki, tt, ff, oo, ss) _ _
    refine bs_quotient x y (by decide) hH (fun ki tt ff oo ss hH => ?_)
    exact bs_fin6 d x y (by simp only [List.length_append, List.length_cons, List.length_nil, bs_len_prod, bs_len_quot, bs_len_root, bs_len_ones]; omega) hH h
  | 7, ho, h =>
    refine br_f (by decide) (br_f (by decide) (br_f (by decide) (br_f (by decide) (br_f (by decide) (br_f (by decide) (br_f (by decide) (br_t rfl ?_)))))))
    show wpX_quotient _ (ln, nx, la, nI ([] : List bs_C).length, op, ds, lf, rt, bi, fr, ki, tt, ff, oo, ss) _ _
    refine bs_quotient x y (by decide) hH (fun ki tt ff oo ss hH => ?_)
    exact bs_fin7 d x y (by simp only [List.length_append, List.length_cons, List.length_nil, bs_len_prod, bs_len_quot, bs_len_root, bs_len_ones]; omega) hH h
  | 8, ho, h =>
    refine br_f (by decide) (br_f (by decide) (br_f (by decide) (br_f (by decide) (br_f (by decide) (br_f (by decide) (br_f (by decide) (br_f (by decide) (br_f (by decide) (br_t rfl ?_)))))))))
    show wpX_step _ (ln, nx, la, nI ([] : List bs_C).length, op, ds, lf, rt, bi, fr, ki, tt, ff, oo, ss) _ _ _ _ _
    refine bs_step (3, 8, x, nI y, 0) (by (try simp only [List.length_append, List.length_cons, List.length_nil]); omega) hH (fun ki tt ff oo ss hH => ?_)
    refine bs_step (6, d, 8, 0, 0) (by (try simp only [List.length_append, List.length_cons, List.length_nil]); omega) hH (fun ki tt ff oo ss hH => ?_)
    exact h _ _ _ _ _ hH
  | 9, ho, h =>
    refine br_f (by decide) (br_f (by decide) (br_f (by decide) (br_f (by decide) (br_f (by decide) (br_f (by decide) (br_f (by decide) (br_f (by decide) (br_f (by decide) (br_f (by decide) (br_t rfl ?_))))))))))
    show wpX_step _ (ln, nx, la, nI ([] : List bs_C).length, op, ds, lf, rt, bi, fr, ki, tt, ff, oo, ss) _ _ _ _ _
    refine bs_step (4, 8, x, nI y, 0) (by (try simp only [List.length_append, List.length_cons, List.length_nil]); omega) hH (fun ki tt ff oo ss hH => ?_)
    refine bs_step (6, d, 8, 0, 0) (by (try simp only [List.length_append, List.length_cons, List.length_nil]); omega) hH (fun ki tt ff oo ss hH => ?_)
    exact h _ _ _ _ _ hH
  | 10, ho, h =>
    refine br_f (by decide) (br_f (by decide) (br_f (by decide) (br_f (by decide) (br_f (by decide) (br_f (by decide) (br_f (by decide) (br_f (by decide) (br_f (by decide) (br_f (by decide) (br_f (by decide) ?_))))))))))
    show wpX_step _ (ln, nx, la, nI ([] : List bs_C).length, op, ds, lf, rt, bi, fr, ki, tt, ff, oo, ss) _ _ _ _ _
    refine bs_step (5, 8, x, nI y, 0) (by (try simp only [List.length_append, List.length_cons, List.length_nil]); omega) hH (fun ki tt ff oo ss hH => ?_)
    refine bs_step (6, d, 8, 0, 0) (by (try simp only [List.length_append, List.length_cons, List.length_nil]); omega) hH (fun ki tt ff oo ss hH => ?_)
    exact h _ _ _ _ _ hH
  | 11, ho, h =>
    refine br_f (by decide) (br_f (by decide) (br_f (by decide) (br_f (by decide) (br_f (by decide) (br_f (by decide) (br_f (by decide) (br_f (by decide) (br_t (by decide) (br_f (by decide) (br_t rfl ?_))))))))))
    show wpX_step _ (ln, nx, la, nI ([] : List bs_C).length, op, ds, lf, rt, bi, fr, ki, tt, ff, oo, ss) _ _ _ _ _
    refine bs_step (0, 8, x, nI w, 0) (by (try simp only [List.length_append, List.length_cons, List.length_nil]); omega) hH (fun ki tt ff oo ss hH => ?_)
    refine bs_step (6, d, 8, 0, 0) (by (try simp only [List.length_append, List.length_cons, List.length_nil]); omega) hH (fun ki tt ff oo ss hH => ?_)
    exact h _ _ _ _ _ hH
  | 12, ho, h =>
    refine br_f (by decide) (br_f (by decide) (br_f (by decide) (br_f (by decide) (br_f (by decide) (br_f (by decide) (br_f (by decide) (br_f (by decide) (br_t (by decide) (br_f (by decide) (br_f (by decide) ?_))))))))))
    show wpX_step _ (ln, nx, la, nI ([] : List bs_C).length, op, ds, lf, rt, bi, fr, ki, tt, ff, oo, ss) _ _ _ _ _
    refine bs_step (0, 8, x, -nI w, 0) (by (try simp only [List.length_append, List.length_cons, List.length_nil]); omega) hH (fun ki tt ff oo ss hH => ?_)
    refine bs_step (6, d, 8, 0, 0) (by (try simp only [List.length_append, List.length_cons, List.length_nil]); omega) hH (fun ki tt ff oo ss hH => ?_)
    exact h _ _ _ _ _ hH
  | 13, ho, h =>
    refine br_f (by decide) (br_f (by decide) (br_f (by decide) (br_f (by decide) (br_f (by decide) (br_f (by decide) (br_f (by decide) (br_f (by decide) (br_t (by decide) (br_t (by decide) (br_f (by decide) ?_))))))))))
    show wpX_comparison _ (ln, nx, la, nI ([] : List bs_C).length, op, ds, lf, rt, bi, fr, ki, tt, ff, oo, ss) _ _ _ _
    unfold wpX_comparison
    refine bs_step (11, 9, 0, 0, 0) (by (try simp only [List.length_append, List.length_cons, List.length_nil]); omega) hH (fun ki tt ff oo ss hH => ?_)
    refine br_t rfl ?_
    refine bs_step (2, 8, x, nI y, 0) (by (try simp only [List.length_append, List.length_cons, List.length_nil]); omega) hH (fun ki tt ff oo ss hH => ?_)
    refine bs_step (8, 0, 8, 31, 1) (by (try simp only [List.length_append, List.length_cons, List.length_nil]); omega) hH (fun ki tt ff oo ss hH => ?_)
    refine bs_step (10, 9, 0, 0, 0) (by (try simp only [List.length_append, List.length_cons, List.length_nil]); omega) hH (fun ki tt ff oo ss hH => ?_)
    refine bs_step (6, d, 9, 0, 0) (by (try simp only [List.length_append, List.length_cons, List.length_nil]); omega) hH (fun ki tt ff oo ss hH => ?_)
    exact h _ _ _ _ _ hH
  | 14, ho, h =>
    refine br_f (by decide) (br_f (by decide) (br_f (by decide) (br_f (by decide) (br_f (by decide) (br_f (by decide) (br_f (by decide) (br_f (by decide) (br_t (by decide) (br_t (by decide) (br_f (by decide) ?_))))))))))
    show wpX_comparison _ (ln, nx, la, nI ([] : List bs_C).length, op, ds, lf, rt, bi, fr, ki, tt, ff, oo, ss) _ _ _ _
    unfold wpX_comparison
    refine bs_step (11, 9, 0, 0, 0) (by (try simp only [List.length_append, List.length_cons, List.length_nil]); omega) hH (fun ki tt ff oo ss hH => ?_)
    refine br_f (by decide) ?_
    refine bs_step (5, 8, x, nI y, 0) (by (try simp only [List.length_append, List.length_cons, List.length_nil]); omega) hH (fun ki tt ff oo ss hH => ?_)
    refine bs_step (12, 0, 8, 0, 1) (by (try simp only [List.length_append, List.length_cons, List.length_nil]); omega) hH (fun ki tt ff oo ss hH => ?_)
    refine bs_step (10, 9, 0, 0, 0) (by (try simp only [List.length_append, List.length_cons, List.length_nil]); omega) hH (fun ki tt ff oo ss hH => ?_)
    refine bs_step (6, d, 9, 0, 0) (by (try simp only [List.length_append, List.length_cons, List.length_nil]); omega) hH (fun ki tt ff oo ss hH => ?_)
    exact h _ _ _ _ _ hH
  | 15, ho, h =>
    refine br_f (by decide) (br_f (by decide) (br_f (by decide) (br_f (by decide) (br_f (by decide) (br_f (by decide) (br_f (by decide) (br_f (by decide) (br_t (by decide) (br_t (by decide) (br_t (by decide) (br_t rfl ?_)))))))))))
    show wpX_root _ (ln, nx, la, nI ([] : List bs_C).length, op, ds, lf, rt, bi, fr, ki, tt, ff, oo, ss) _
    refine bs_rooted x (by decide) hH (fun ki tt ff oo ss hH => ?_)
    exact bs_step (6, d, 10, 0, 0) (by simp only [List.length_append, List.length_cons, List.length_nil, bs_len_prod, bs_len_quot, bs_len_root, bs_len_ones]; omega) hH h
  | 16, ho, h =>
    refine br_f (by decide) (br_f (by decide) (br_f (by decide) (br_f (by decide) (br_f (by decide) (br_f (by decide) (br_f (by decide) (br_f (by decide) (br_t (by decide) (br_t (by decide) (br_t (by decide) (br_f (by decide) ?_)))))))))))
    show wpX_countOnes _ (ln, nx, la, nI ([] : List bs_C).length, op, ds, lf, rt, bi, fr, ki, tt, ff, oo, ss) _
    refine bs_counted x (by decide) hH (fun ki tt ff oo ss hH => ?_)
    exact bs_step (6, d, 8, 0, 0) (by simp only [List.length_append, List.length_cons, List.length_nil, bs_len_prod, bs_len_quot, bs_len_root, bs_len_ones]; omega) hH h
  | n + 17, ho, h => exact absurd ho (by omega)
end
end
section
/-! ===== the pure run, step by step, over registers with named scratch ===== -/
section
variable {R : Nat → BitVec 32} {la : Bool} {t f s : Nat} {o : Int32} {l : List bs_C} {c c2 : bs_C}
theorem bs_x0 : bs_ex 0 ((0, t, f, o, s) :: l) (R, la) = bs_ex 0 l (bs_up R t (bs_sh (R f) o), la) := rfl
theorem bs_x1 : bs_ex 0 ((1, t, f, o, s) :: l) (R, la) = bs_ex 0 l (bs_up R t (R f + R o.toNatClampNeg), bs_ca (R f) (R o.toNatClampNeg) false 32) := rfl
theorem bs_x2 : bs_ex 0 ((2, t, f, o, s) :: l) (R, la) = bs_ex 0 l (bs_up R t (R f - R o.toNatClampNeg), decide ((R o.toNatClampNeg).toNat ≤ (R f).toNat)) := rfl
theorem bs_x3 : bs_ex 0 ((3, t, f, o, s) :: l) (R, la) = bs_ex 0 l (bs_up R t (R f &&& R o.toNatClampNeg), la) := rfl
theorem bs_x4 : bs_ex 0 ((4, t, f, o, s) :: l) (R, la) = bs_ex 0 l (bs_up R t (R f ||| R o.toNatClampNeg), la) := rfl
theorem bs_x5 : bs_ex 0 ((5, t, f, o, s) :: l) (R, la) = bs_ex 0 l (bs_up R t (R f ^^^ R o.toNatClampNeg), la) := rfl
theorem bs_x6 : bs_ex 0 ((6, t, f, o, s) :: l) (R, la) = bs_ex 0 l (bs_up R t (bs_wd (R f)), la) := rfl
theorem bs_x7 : bs_ex 0 ((7, t, f, o, s) :: l) (R, la) = bs_ex 0 l (bs_up R t (bs_lo (R f)), la) := rfl
theorem bs_x10 : bs_ex 0 ((10, t, f, o, s) :: l) (R, la) = bs_ex 0 l (bs_up R t (R t ||| BitVec.twoPow 32 o.toNatClampNeg), la) := rfl
theorem bs_x11 : bs_ex 0 ((11, t, f, o, s) :: l) (R, la) = bs_ex 0 l (bs_up R t o.toBitVec, la) := rfl
theorem bs_x8t (h : (R f).getLsbD o.toNatClampNeg = true) : bs_ex 0 ((8, t, f, o, s) :: l) (R, la) = bs_ex 0 l (R, la) := by
  rw [bs_ex, show (bs_pf (8, t, f, o, s) (R, la)).1 = true from h, if_pos rfl]
  rfl
theorem bs_x8f (h : (R f).getLsbD o.toNatClampNeg = false) : bs_ex 0 ((8, t, f, o, 1) :: c :: l) (R, la) = bs_ex 0 l (R, la) := by
  rw [bs_ex, show (bs_pf (8, t, f, o, 1) (R, la)).1 = false from h, if_neg (by decide)]
  rfl
theorem bs_x9t : bs_ex 0 ((9, t, f, o, s) :: l) (R, true) = bs_ex 0 l (R, true) := rfl
theorem bs_x9f : bs_ex 0 ((9, t, f, o, 2) :: c :: c2 :: l) (R, false) = bs_ex 0 l (R, false) := rfl
theorem bs_x12t (h : R f = 0) : bs_ex 0 ((12, t, f, o, s) :: l) (R, la) = bs_ex 0 l (R, la) := by
  rw [bs_ex, show (bs_pf (12, t, f, o, s) (R, la)).1 = true from decide_eq_true h, if_pos rfl]
  rfl
theorem bs_x12f (h : ¬ R f = 0) : bs_ex 0 ((12, t, f, o, 1) :: c :: l) (R, la) = bs_ex 0 l (R, la) := by
  rw [bs_ex, show (bs_pf (12, t, f, o, 1) (R, la)).1 = false from decide_eq_false h, if_neg (by decide)]
  rfl
theorem bs_xnil {z : bs_S} : bs_ex 0 [] z = z := rfl
end
def bs_R (R : Nat → BitVec 32) (t0 t1 t2 t3 t4 t5 : BitVec 32) : Nat → BitVec 32 := fun j => if j = 8 then t0 else if j = 9 then t1 else if j = 10 then t2 else if j = 11 then t3 else if j = 12 then t4 else if j = 13 then t5 else R j
section
variable {R : Nat → BitVec 32} {t0 t1 t2 t3 t4 t5 z : BitVec 32}
theorem bs_R_8 : bs_R R t0 t1 t2 t3 t4 t5 8 = t0 := rfl
theorem bs_R_9 : bs_R R t0 t1 t2 t3 t4 t5 9 = t1 := rfl
theorem bs_R_10 : bs_R R t0 t1 t2 t3 t4 t5 10 = t2 := rfl
theorem bs_R_11 : bs_R R t0 t1 t2 t3 t4 t5 11 = t3 := rfl
theorem bs_R_12 : bs_R R t0 t1 t2 t3 t4 t5 12 = t4 := rfl
theorem bs_R_13 : bs_R R t0 t1 t2 t3 t4 t5 13 = t5 := rfl
theorem bs_R_lo {v : Nat} (h : v < 8) : bs_R R t0 t1 t2 t3 t4 t5 v = R v := by
  unfold bs_R
  rw [if_neg (by omega), if_neg (by omega), if_neg (by omega), if_neg (by omega), if_neg (by omega), if_neg (by omega)]
theorem bs_R_eta (R : Nat → BitVec 32) : bs_R R (R 8) (R 9) (R 10) (R 11) (R 12) (R 13) = R := by
  funext j
  unfold bs_R
  by_cases h8 : j = 8
  · rw [if_pos h8, h8]
  by_cases h9 : j = 9
  · rw [if_neg h8, if_pos h9, h9]
  by_cases h10 : j = 10
  · rw [if_neg h8, if_neg h9, if_pos h10, h10]
  by_cases h11 : j = 11
  · rw [if_neg h8, if_neg h9, if_neg h10, if_pos h11, h11]
  by_cases h12 : j = 12
  · rw [if_neg h8, if_neg h9, if_neg h10, if_neg h11, if_pos h12, h12]
  by_cases h13 : j = 13
  · rw [if_neg h8, if_neg h9, if_neg h10, if_neg h11, if_neg h12, if_pos h13, h13]
  rw [if_neg h8, if_neg h9, if_neg h10, if_neg h11, if_neg h12, if_neg h13]
theorem bs_u8 : bs_up (bs_R R t0 t1 t2 t3 t4 t5) 8 z = bs_R R z t1 t2 t3 t4 t5 := by
  funext j
  unfold bs_up bs_R
  by_cases h : j = 8
  · rw [if_pos h, if_pos h]
  · rw [if_neg h, if_neg h, if_neg h]
theorem bs_u9 : bs_up (bs_R R t0 t1 t2 t3 t4 t5) 9 z = bs_R R t0 z t2 t3 t4 t5 := by
  funext j
  unfold bs_up bs_R
  by_cases h : j = 9
  · subst h; rfl
  · simp only [if_neg h]
theorem bs_u10 : bs_up (bs_R R t0 t1 t2 t3 t4 t5) 10 z = bs_R R t0 t1 z t3 t4 t5 := by
  funext j
  unfold bs_up bs_R
  by_cases h : j = 10
  · subst h; rfl
  · simp only [if_neg h]
theorem bs_u11 : bs_up (bs_R R t0 t1 t2 t3 t4 t5) 11 z = bs_R R t0 t1 t2 z t4 t5 := by
  funext j
  unfold bs_up bs_R
  by_cases h : j = 11
  · subst h; rfl
  · simp only [if_neg h]
theorem bs_u12 : bs_up (bs_R R t0 t1 t2 t3 t4 t5) 12 z = bs_R R t0 t1 t2 t3 z t5 := by
  funext j
  unfold bs_up bs_R
  by_cases h : j = 12
  · subst h; rfl
  · simp only [if_neg h]
theorem bs_u13 : bs_up (bs_R R t0 t1 t2 t3 t4 t5) 13 z = bs_R R t0 t1 t2 t3 t4 z := by
  funext j
  unfold bs_up bs_R
  by_cases h : j = 13
  · subst h; rfl
  · simp only [if_neg h]
end
theorem bs_sh0 (x : BitVec 32) : bs_sh x 0 = x := by
  unfold bs_sh
  rw [show (0 : Int32).toInt = 0 from by decide, if_pos (by omega)]
  exact BitVec.shiftLeft_zero x
theorem bs_sh1 (x : BitVec 32) : bs_sh x 1 = x <<< 1 := by
  unfold bs_sh
  rw [show (1 : Int32).toInt = 1 from by decide, if_pos (by omega)]
  rfl
theorem bs_sh2 (x : BitVec 32) : bs_sh x 2 = x <<< 2 := by
  unfold bs_sh
  rw [show (2 : Int32).toInt = 2 from by decide, if_pos (by omega)]
  rfl
theorem bs_shm16 (x : BitVec 32) : bs_sh x (-16) = x >>> 16 := by
  unfold bs_sh
  rw [show (-16 : Int32).toInt = -16 from by decide, if_neg (by omega)]
  rfl
theorem bs_shw (x : BitVec 32) {w : Nat} (hw : w < 32) : bs_sh x (nI w) = x <<< w := by
  unfold bs_sh
  rw [nI_toInt (by omega), if_pos (by omega)]
  rfl
theorem bs_negT {w : Nat} (hw : w < 32) : (-nI w).toInt = -(w : Int) := by
  rw [Int32.toInt_neg, nI_toInt (by omega)]
  exact Int.bmod_eq_of_le (by omega) (by omega)
theorem bs_shmw (x : BitVec 32) {w : Nat} (hw : w < 32) : bs_sh x (-nI w) = x >>> w := by
  unfold bs_sh
  rw [bs_negT hw]
  by_cases h0 : w = 0
  · subst h0
    rw [if_pos (by omega), BitVec.ushiftRight_zero]
    exact BitVec.shiftLeft_zero x
  · rw [if_neg (by omega), show (- -(w : Int)).toNat = w by omega]
theorem bs_cl0 : (0 : Int32).toNatClampNeg = 0 := by decide
theorem bs_cl1 : (1 : Int32).toNatClampNeg = 1 := by decide
theorem bs_cl8 : (8 : Int32).toNatClampNeg = 8 := by decide
theorem bs_cl9 : (9 : Int32).toNatClampNeg = 9 := by decide
theorem bs_cl10 : (10 : Int32).toNatClampNeg = 10 := by decide
theorem bs_cl11 : (11 : Int32).toNatClampNeg = 11 := by decide
theorem bs_cl31 : (31 : Int32).toNatClampNeg = 31 := by decide
/-! the product -/
section
variable {R : Nat → BitVec 32} {t1 t3 t4 t5 : BitVec 32} {rest : List bs_C}
theorem bs_pbx (i : Nat) (hi : i < 32) (t0 t2 : BitVec 32) (l : Bool) : ∃ l', bs_ex 0 (bs_pb i ++ rest) (bs_R R t0 t1 t2 t3 t4 t5, l) = bs_ex 0 rest (bs_R R (t0 <<< 1) t1 (if t1.getLsbD i = true then t2 + t0 else t2) t3 t4 t5, l') := by
  have ci : (nI i).toNatClampNeg = i := nI_clamp (by omega)
  simp only [bs_pb, List.cons_append, List.nil_append]
  cases hb : t1.getLsbD i
  · refine ⟨l, ?_⟩
    rw [bs_x8f (by rw [ci, bs_R_9, hb]), bs_x0, bs_R_8, bs_sh1, bs_u8, if_neg (by decide)]
  · refine ⟨bs_ca t2 t0 false 32, ?_⟩
    rw [bs_x8t (by rw [ci, bs_R_9, hb]), bs_x1, bs_x0, bs_cl8, bs_R_8, bs_R_10, bs_u10, bs_R_8, bs_sh1, bs_u8, if_pos rfl]
theorem bs_bitsplit (x : BitVec 32) (i : Nat) : x >>> i = (if x.getLsbD i = true then 1#32 else 0#32) + 2#32 * (x >>> (i + 1)) := by
  apply BitVec.eq_of_toNat_eq
  have e : x.getLsbD i = decide (x.toNat / 2 ^ i % 2 = 1) := Nat.testBit_eq_decide_div_mod_eq
  have h := bs_halve x.toNat i
  have hl : x.toNat / 2 ^ i ≤ x.toNat := Nat.div_le_self _ _
  have hx := x.isLt
  rw [e, BitVec.toNat_add, BitVec.toNat_mul, BitVec.toNat_ushiftRight, BitVec.toNat_ushiftRight, Nat.shiftRight_eq_div_pow, Nat.shiftRight_eq_div_pow]
  revert h hl
  generalize x.toNat / 2 ^ i = a
  generalize x.toNat / 2 ^ (i + 1) = b
  intro h hl
  by_cases hb : a % 2 = 1
  · rw [if_pos (decide_eq_true hb)]
    show a = (1 + 2 * b % 2 ^ 32) % 2 ^ 32
    omega
  · rw [if_neg (by simpa using hb)]
    show a = (0 + 2 * b % 2 ^ 32) % 2 ^ 32
    omega
theorem bs_mulx : ∀ (d i : Nat) (t0 t2 : BitVec 32) (l : Bool), i + d = 32 → ∃ t0' l', bs_ex 0 (bs_asc bs_pb d i ++ rest) (bs_R R t0 t1 t2 t3 t4 t5, l) = bs_ex 0 rest (bs_R R t0' t1 (t2 + t0 * (t1 >>> i)) t3 t4 t5, l') := by
  intro d
  induction d with
  | zero =>
    intro i t0 t2 l hi
    obtain rfl : i = 32 := by omega
    refine ⟨t0, l, ?_⟩
    have e : t1 >>> 32 = 0#32 := by
      apply BitVec.eq_of_toNat_eq
      rw [BitVec.toNat_ushiftRight, Nat.shiftRight_eq_div_pow, Nat.div_eq_of_lt t1.isLt]
      rfl
    rw [e, BitVec.mul_zero, BitVec.add_zero]
    rfl
  | succ d ih =>
    intro i t0 t2 l hi
    obtain ⟨l1, h1⟩ := bs_pbx (R := R) (t1 := t1) (t3 := t3) (t4 := t4) (t5 := t5) (rest := bs_asc bs_pb d (i + 1) ++ rest) i (by omega) t0 t2 l
    obtain ⟨t0', l2, h2⟩ := ih (i + 1) (t0 <<< 1) (if t1.getLsbD i = true then t2 + t0 else t2) l1 (by omega)
    refine ⟨t0', l2, ?_⟩
    rw [bs_asc, List.append_assoc, h1, h2]
    have e : (if t1.getLsbD i = true then t2 + t0 else t2) + t0 <<< 1 * t1 >>> (i + 1) = t2 + t0 * t1 >>> i := by
      have e2 : t0 <<< 1 = t0 * 2#32 := (BitVec.mul_twoPow_eq_shiftLeft t0 1).symm
      rw [bs_bitsplit t1 i, e2]
      cases t1.getLsbD i
      · simp only [if_neg Bool.false_ne_true, BitVec.zero_add, BitVec.mul_assoc]
      · simp only [if_pos, BitVec.mul_add, BitVec.mul_one, BitVec.mul_assoc, BitVec.add_assoc]
    rw [e]
theorem bs_prodx (x y : Nat) (hx : x < 8) (hy : y < 8) (t0 t1 t2 : BitVec 32) (l : Bool) : ∃ t0' t1' l', bs_ex 0 (bs_prod x y ++ rest) (bs_R R t0 t1 t2 t3 t4 t5, l) = bs_ex 0 rest (bs_R R t0' t1' (R x * R y) t3 t4 t5, l') := by
  obtain ⟨t0', l', h⟩ := bs_mulx (R := R) (t1 := R y) (t3 := t3) (t4 := t4) (t5 := t5) (rest := rest) 32 0 (R x) 0#32 l rfl
  refine ⟨t0', R y, l', ?_⟩
  rw [BitVec.ushiftRight_zero, BitVec.zero_add] at h
  rw [← h]
  simp only [bs_prod, List.append_assoc, List.cons_append, List.nil_append]
  rw [bs_x0, bs_R_lo hx, bs_sh0, bs_u8, bs_x0, bs_R_lo hy, bs_sh0, bs_u9, bs_x11, bs_u10]
  rfl
end
end
section
/-! ===== the pure run of the quotient, the root and the count ===== -/
theorem bs_or (a d : Nat) : (a * 2 ^ (d + 1)) ||| 2 ^ d = a * 2 ^ (d + 1) + 2 ^ d := by
  have h : 2 ^ d < 2 ^ (d + 1) := Nat.pow_lt_pow_right (by decide) (by omega)
  rw [Nat.mul_comm a]
  exact (Nat.two_pow_add_eq_or_of_lt h a).symm
theorem bs_setbit {t : BitVec 32} {a d : Nat} (hd : d < 32) (h : t.toNat = a * 2 ^ (d + 1)) : (t ||| BitVec.twoPow 32 d).toNat = a * 2 ^ (d + 1) + 2 ^ d := by
  rw [BitVec.toNat_or, BitVec.toNat_twoPow_of_lt hd, h, bs_or]
def bs_b2 (t : BitVec 32) (b : Bool) : BitVec 32 := if b = true then t <<< 1 ||| BitVec.twoPow 32 0 else t <<< 1
theorem bs_shl1_nat {t : BitVec 32} (h : t.toNat < 2 ^ 31) : (t <<< 1).toNat = t.toNat * 2 ^ 1 := by
  rw [BitVec.toNat_shiftLeft, Nat.shiftLeft_eq]
  exact Nat.mod_eq_of_lt (by omega)
theorem bs_shl2_nat {t : BitVec 32} (h : t.toNat < 2 ^ 30) : (t <<< 2).toNat = t.toNat * 2 ^ 2 := by
  rw [BitVec.toNat_shiftLeft, Nat.shiftLeft_eq]
  exact Nat.mod_eq_of_lt (by omega)
theorem bs_b2_nat {t : BitVec 32} {b : Bool} (h : t.toNat < 2 ^ 31) : (bs_b2 t b).toNat = 2 * t.toNat + b.toNat := by
  cases b
  · show (t <<< 1).toNat = _
    rw [bs_shl1_nat h]
    show _ = 2 * t.toNat + 0
    omega
  · show (t <<< 1 ||| BitVec.twoPow 32 0).toNat = _
    rw [bs_setbit (by decide) (bs_shl1_nat h)]
    show _ = 2 * t.toNat + 1
    omega
section
variable {R : Nat → BitVec 32} {t0 t1 t5 : BitVec 32} {rest : List bs_C}
theorem bs_qbx (i : Nat) (hi : i < 16) (t2 t3 t4 : BitVec 32) (l : Bool) : bs_ex 0 (bs_qb i ++ rest) (bs_R R t0 t1 t2 t3 t4 t5, l) = bs_ex 0 rest (bs_R R t0 t1 (if t1.toNat ≤ (bs_b2 t2 (t0.getLsbD i)).toNat then bs_b2 t2 (t0.getLsbD i) - t1 else bs_b2 t2 (t0.getLsbD i)) (if t1.toNat ≤ (bs_b2 t2 (t0.getLsbD i)).toNat then t3 ||| BitVec.twoPow 32 i else t3) (bs_b2 t2 (t0.getLsbD i) - t1) t5, decide (t1.toNat ≤ (bs_b2 t2 (t0.getLsbD i)).toNat)) := by
  have ci : (nI i).toNatClampNeg = i := nI_clamp (by omega)
  have h1 : ∀ l1 : List bs_C, bs_ex 0 ((0, 10, 10, 1, 0) :: (8, 0, 8, nI i, 1) :: (10, 10, 0, 0, 0) :: l1) (bs_R R t0 t1 t2 t3 t4 t5, l) = bs_ex 0 l1 (bs_R R t0 t1 (bs_b2 t2 (t0.getLsbD i)) t3 t4 t5, l) := by
    intro l1
    rw [bs_x0, bs_R_10, bs_sh1, bs_u10]
    cases hb : t0.getLsbD i
    · rw [bs_x8f (by rw [ci, bs_R_8, hb])]
      rfl
    · rw [bs_x8t (by rw [ci, bs_R_8, hb]), bs_x10, bs_R_10, bs_cl0, bs_u10]
      rfl
  simp only [bs_qb, List.cons_append, List.nil_append]
  rw [h1]
  generalize bs_b2 t2 (t0.getLsbD i) = b
  rw [bs_x2, bs_cl9, bs_R_10, bs_R_9, bs_u12]
  by_cases hg : t1.toNat ≤ b.toNat
  · rw [decide_eq_true hg, if_pos hg, if_pos hg, bs_x9t, bs_x0, bs_R_12, bs_sh0, bs_u10, bs_x10, bs_R_11, ci, bs_u11]
  · rw [decide_eq_false hg, if_neg hg, if_neg hg, bs_x9f]
theorem bs_dstep (m b dd : Nat) (hb : b < 2) : (dd ≤ 2 * (m % dd) + b → (2 * m + b) % dd = 2 * (m % dd) + b - dd ∧ (0 < dd → (2 * m + b) / dd = 2 * (m / dd) + 1)) ∧ (¬ dd ≤ 2 * (m % dd) + b → (2 * m + b) % dd = 2 * (m % dd) + b ∧ (0 < dd → (2 * m + b) / dd = 2 * (m / dd))) := by
  rcases Nat.eq_zero_or_pos dd with h0 | h0
  · subst h0
    simp only [Nat.mod_zero]
    exact ⟨fun _ => ⟨by omega, fun h => absurd h (by omega)⟩, fun h => absurd h (by omega)⟩
  · have e := Nat.div_add_mod m dd
    have hr := Nat.mod_lt m h0
    revert e hr
    generalize m / dd = q
    generalize m % dd = r
    intro e hr
    have e1 : dd * (2 * q + 1) = 2 * (dd * q) + dd := by rw [Nat.mul_add, Nat.mul_one, Nat.mul_left_comm]
    have e2 : dd * (2 * q) = 2 * (dd * q) := Nat.mul_left_comm _ _ _
    constructor
    · intro h
      have u := (Nat.div_mod_unique (a := 2 * m + b) (d := 2 * q + 1) (c := 2 * r + b - dd) h0).mpr ⟨by omega, by omega⟩
      exact ⟨u.2, fun _ => u.1⟩
    · intro h
      have u := (Nat.div_mod_unique (a := 2 * m + b) (d := 2 * q) (c := 2 * r + b) h0).mpr ⟨by omega, by omega⟩
      exact ⟨u.2, fun _ => u.1⟩
theorem bs_bitn {t : BitVec 32} {n d : Nat} (h : t.toNat = n) : (t.getLsbD d).toNat = n / 2 ^ d % 2 := by
  have e : t.getLsbD d = decide (t.toNat / 2 ^ d % 2 = 1) := Nat.testBit_eq_decide_div_mod_eq
  rw [e, h]
  by_cases hb : n / 2 ^ d % 2 = 1
  · rw [decide_eq_true hb, hb]
    rfl
  · rw [decide_eq_false hb]
    show 0 = _
    omega
theorem bs_divx (n dd : Nat) (h0 : t0.toNat = n) (hn : n < 65536) (h1 : t1.toNat = dd) : ∀ (d : Nat) (t2 t3 t4 : BitVec 32) (l : Bool), d ≤ 16 → t2.toNat = n / 2 ^ d % dd → (0 < dd → t3.toNat = n / 2 ^ d / dd * 2 ^ d) → ∃ t2' t3' t4' l', bs_ex 0 (bs_dsc bs_qb d ++ rest) (bs_R R t0 t1 t2 t3 t4 t5, l) = bs_ex 0 rest (bs_R R t0 t1 t2' t3' t4' t5, l') ∧ t2'.toNat = n % dd ∧ (0 < dd → t3'.toNat = n / dd) := by
  intro d
  induction d with
  | zero =>
    intro t2 t3 t4 l _ h2 h3
    rw [Nat.pow_zero, Nat.div_one] at h2 h3
    rw [Nat.mul_one] at h3
    exact ⟨t2, t3, t4, l, rfl, h2, h3⟩
  | succ d ih =>
    intro t2 t3 t4 l hd h2 h3
    have hm : n / 2 ^ (d + 1) ≤ n := Nat.div_le_self _ _
    have hr : n / 2 ^ (d + 1) % dd ≤ n / 2 ^ (d + 1) := Nat.mod_le _ _
    have hh := bs_halve n d
    have hb2 : n / 2 ^ d % 2 < 2 := Nat.mod_lt _ (by decide)
    have hB : (bs_b2 t2 (t0.getLsbD d)).toNat = 2 * t2.toNat + n / 2 ^ d % 2 := by rw [bs_b2_nat (by omega), bs_bitn h0]
    have hs := bs_dstep (n / 2 ^ (d + 1)) (n / 2 ^ d % 2) dd hb2
    rw [← hh, ← h2, ← hB] at hs
    rw [bs_dsc, List.append_assoc, bs_qbx d (by omega)]
    revert hB hs
    generalize bs_b2 t2 (t0.getLsbD d) = B
    intro hB hs
    by_cases hg : t1.toNat ≤ B.toNat
    · rw [if_pos hg, if_pos hg]
      obtain ⟨s1, s2⟩ := hs.1 (by omega)
      refine ih _ _ _ _ (by omega) ?_ ?_
      · rw [BitVec.toNat_sub_of_le hg, h1, s1]
      · intro hp
        rw [bs_setbit (by omega) (h3 hp), s2 hp, Nat.add_mul, Nat.one_mul, Nat.pow_succ, Nat.mul_comm 2 (n / (2 ^ d * 2) / dd), Nat.mul_assoc, Nat.mul_comm 2 (2 ^ d)]
    · rw [if_neg hg, if_neg hg]
      obtain ⟨s1, s2⟩ := hs.2 (by omega)
      refine ih _ _ _ _ (by omega) s1.symm ?_
      intro hp
      rw [h3 hp, s2 hp, Nat.pow_succ, Nat.mul_comm 2 (n / (2 ^ d * 2) / dd), Nat.mul_assoc, Nat.mul_comm 2 (2 ^ d)]
end
def bs_ab (x : BitVec 32) : BitVec 32 := if x.getLsbD 31 = true then 0#32 - x else x
section
variable {R : Nat → BitVec 32} {rest : List bs_C}
theorem bs_amtx8 (x : Nat) (hx : x < 8) (t0 t1 t2 t3 t4 : BitVec 32) (l : Bool) : ∃ l', bs_ex 0 (bs_amt 8 x ++ rest) (bs_R R t0 t1 t2 t3 t4 0#32, l) = bs_ex 0 rest (bs_R R (bs_ab (R x)) t1 t2 t3 t4 0#32, l') := by
  have cx : (nI x).toNatClampNeg = x := nI_clamp (by omega)
  simp only [bs_amt, List.cons_append, List.nil_append]
  rw [bs_x0, bs_R_lo hx, bs_sh0, bs_u8]
  unfold bs_ab
  cases hb : (R x).getLsbD 31
  · refine ⟨l, ?_⟩
    rw [bs_x8f (by rw [bs_cl31, bs_R_lo hx, hb])]
    rfl
  · refine ⟨decide ((R x).toNat ≤ (0#32).toNat), ?_⟩
    rw [bs_x8t (by rw [bs_cl31, bs_R_lo hx, hb]), bs_x2, cx, bs_R_13, bs_R_lo hx, bs_u8]
    rfl
theorem bs_amtx9 (x : Nat) (hx : x < 8) (t0 t1 t2 t3 t4 : BitVec 32) (l : Bool) : ∃ l', bs_ex 0 (bs_amt 9 x ++ rest) (bs_R R t0 t1 t2 t3 t4 0#32, l) = bs_ex 0 rest (bs_R R t0 (bs_ab (R x)) t2 t3 t4 0#32, l') := by
  have cx : (nI x).toNatClampNeg = x := nI_clamp (by omega)
  simp only [bs_amt, List.cons_append, List.nil_append]
  rw [bs_x0, bs_R_lo hx, bs_sh0, bs_u9]
  unfold bs_ab
  cases hb : (R x).getLsbD 31
  · refine ⟨l, ?_⟩
    rw [bs_x8f (by rw [bs_cl31, bs_R_lo hx, hb])]
    rfl
  · refine ⟨decide ((R x).toNat ≤ (0#32).toNat), ?_⟩
    rw [bs_x8t (by rw [bs_cl31, bs_R_lo hx, hb]), bs_x2, cx, bs_R_13, bs_R_lo hx, bs_u9]
    rfl
theorem bs_quotx (x y : Nat) (hx : x < 8) (hy : y < 8) (hn : (bs_ab (R x)).toNat < 65536) (t0 t1 t2 t3 t4 t5 : BitVec 32) (l : Bool) : ∃ t2' t3' t4' l', bs_ex 0 (bs_quot x y ++ rest) (bs_R R t0 t1 t2 t3 t4 t5, l) = bs_ex 0 rest (bs_R R (bs_ab (R x)) (bs_ab (R y)) t2' t3' t4' 0#32, l') ∧ t2'.toNat = (bs_ab (R x)).toNat % (bs_ab (R y)).toNat ∧ (0 < (bs_ab (R y)).toNat → t3'.toNat = (bs_ab (R x)).toNat / (bs_ab (R y)).toNat) := by
  have e : bs_quot x y ++ rest = (11, 13, 0, 0, 0) :: (bs_amt 8 x ++ (bs_amt 9 y ++ ((11, 10, 0, 0, 0) :: (11, 11, 0, 0, 0) :: (bs_dsc bs_qb 16 ++ rest)))) := by
    simp only [bs_quot, List.append_assoc, List.cons_append, List.nil_append]
  obtain ⟨l1, h1⟩ := bs_amtx8 (R := R) (rest := bs_amt 9 y ++ ((11, 10, 0, 0, 0) :: (11, 11, 0, 0, 0) :: (bs_dsc bs_qb 16 ++ rest))) x hx t0 t1 t2 t3 t4 l
  obtain ⟨l2, h2⟩ := bs_amtx9 (R := R) (rest := (11, 10, 0, 0, 0) :: (11, 11, 0, 0, 0) :: (bs_dsc bs_qb 16 ++ rest)) y hy (bs_ab (R x)) t1 t2 t3 t4 l1
  have hz : (bs_ab (R x)).toNat / 2 ^ 16 = 0 := by omega
  obtain ⟨t2', t3', t4', l', h3, h4, h5⟩ := bs_divx (R := R) (t0 := bs_ab (R x)) (t1 := bs_ab (R y)) (t5 := 0#32) (rest := rest) _ _ rfl hn rfl 16 0#32 0#32 t4 l2 (by omega) (by rw [hz, Nat.zero_mod]; rfl) (by intro _; rw [hz, Nat.zero_div, Nat.zero_mul]; rfl)
  refine ⟨t2', t3', t4', l', ?_, h4, h5⟩
  rw [e, bs_x11, bs_u13]
  show bs_ex 0 _ (bs_R R t0 t1 t2 t3 t4 0#32, l) = _
  rw [h1, h2, bs_x11, bs_u10, bs_x11, bs_u11]
  exact h3
end
/-! the root -/
def bs_q4 (t : BitVec 32) (b1 b0 : Bool) : BitVec 32 := if b0 = true then (if b1 = true then t <<< 2 ||| BitVec.twoPow 32 1 else t <<< 2) ||| BitVec.twoPow 32 0 else (if b1 = true then t <<< 2 ||| BitVec.twoPow 32 1 else t <<< 2)
theorem bs_q4_nat {t : BitVec 32} {b1 b0 : Bool} (h : t.toNat < 2 ^ 30) : (bs_q4 t b1 b0).toNat = 4 * t.toNat + 2 * b1.toNat + b0.toNat := by
  have e : (if b1 = true then t <<< 2 ||| BitVec.twoPow 32 1 else t <<< 2).toNat = (2 * t.toNat + b1.toNat) * 2 ^ (0 + 1) := by
    cases b1
    · show (t <<< 2).toNat = (2 * t.toNat + 0) * 2 ^ (0 + 1)
      rw [bs_shl2_nat h]
      omega
    · show (t <<< 2 ||| BitVec.twoPow 32 1).toNat = (2 * t.toNat + 1) * 2 ^ (0 + 1)
      rw [bs_setbit (by decide) (bs_shl2_nat h)]
      omega
  cases b0
  · show (if b1 = true then t <<< 2 ||| BitVec.twoPow 32 1 else t <<< 2).toNat = 4 * t.toNat + 2 * b1.toNat + 0
    rw [e]
    omega
  · show ((if b1 = true then t <<< 2 ||| BitVec.twoPow 32 1 else t <<< 2) ||| BitVec.twoPow 32 0).toNat = 4 * t.toNat + 2 * b1.toNat + 1
    rw [bs_setbit (by decide) e]
    omega
def bs_o4 (t : BitVec 32) : BitVec 32 := t <<< 2 ||| BitVec.twoPow 32 0
theorem bs_o4_nat {t : BitVec 32} (h : t.toNat < 2 ^ 30) : (bs_o4 t).toNat = 4 * t.toNat + 1 := by
  have e : (t <<< 2).toNat = (2 * t.toNat) * 2 ^ (0 + 1) := by rw [bs_shl2_nat h]; omega
  unfold bs_o4
  rw [bs_setbit (by decide) e]
  omega
section
variable {R : Nat → BitVec 32} {t0 t5 : BitVec 32} {rest : List bs_C}
theorem bs_rbx (i : Nat) (hi : i < 8) (t1 t2 t3 t4 : BitVec 32) (l : Bool) : bs_ex 0 (bs_rb i ++ rest) (bs_R R t0 t1 t2 t3 t4 t5, l) = bs_ex 0 rest (bs_R R t0 (if (bs_o4 t2).toNat ≤ (bs_q4 t1 (t0.getLsbD (2 * i + 1)) (t0.getLsbD (2 * i))).toNat then bs_q4 t1 (t0.getLsbD (2 * i + 1)) (t0.getLsbD (2 * i)) - bs_o4 t2 else bs_q4 t1 (t0.getLsbD (2 * i + 1)) (t0.getLsbD (2 * i))) (bs_b2 t2 (decide ((bs_o4 t2).toNat ≤ (bs_q4 t1 (t0.getLsbD (2 * i + 1)) (t0.getLsbD (2 * i))).toNat))) (bs_o4 t2) (bs_q4 t1 (t0.getLsbD (2 * i + 1)) (t0.getLsbD (2 * i)) - bs_o4 t2) t5, decide ((bs_o4 t2).toNat ≤ (bs_q4 t1 (t0.getLsbD (2 * i + 1)) (t0.getLsbD (2 * i))).toNat)) := by
  have c1 : (nI (2 * i + 1)).toNatClampNeg = 2 * i + 1 := nI_clamp (by omega)
  have c0 : (nI (2 * i)).toNatClampNeg = 2 * i := nI_clamp (by omega)
  have h1 : ∀ l1 : List bs_C, bs_ex 0 ((0, 9, 9, 2, 0) :: (8, 0, 8, nI (2 * i + 1), 1) :: (10, 9, 0, 1, 0) :: (8, 0, 8, nI (2 * i), 1) :: (10, 9, 0, 0, 0) :: l1) (bs_R R t0 t1 t2 t3 t4 t5, l) = bs_ex 0 l1 (bs_R R t0 (bs_q4 t1 (t0.getLsbD (2 * i + 1)) (t0.getLsbD (2 * i))) t2 t3 t4 t5, l) := by
    intro l1
    rw [bs_x0, bs_R_9, bs_sh2, bs_u9]
    cases hb : t0.getLsbD (2 * i + 1) <;> cases hc : t0.getLsbD (2 * i)
    · rw [bs_x8f (by rw [c1, bs_R_8, hb]), bs_x8f (by rw [c0, bs_R_8, hc])]
      rfl
    · rw [bs_x8f (by rw [c1, bs_R_8, hb]), bs_x8t (by rw [c0, bs_R_8, hc]), bs_x10, bs_R_9, bs_cl0, bs_u9]
      rfl
    · rw [bs_x8t (by rw [c1, bs_R_8, hb]), bs_x10, bs_R_9, bs_cl1, bs_u9, bs_x8f (by rw [c0, bs_R_8, hc])]
      rfl
    · rw [bs_x8t (by rw [c1, bs_R_8, hb]), bs_x10, bs_R_9, bs_cl1, bs_u9, bs_x8t (by rw [c0, bs_R_8, hc]), bs_x10, bs_R_9, bs_cl0, bs_u9]
      rfl
  simp only [bs_rb, List.cons_append, List.nil_append]
  rw [h1]
  generalize bs_q4 t1 (t0.getLsbD (2 * i + 1)) (t0.getLsbD (2 * i)) = q
  rw [bs_x0, bs_R_10, bs_sh2, bs_u11, bs_x10, bs_R_11, bs_cl0, bs_u11, bs_x0, bs_R_10, bs_sh1, bs_u10, bs_x2, bs_cl11, bs_R_9, bs_R_11, bs_u12]
  show bs_ex 0 _ (bs_R R t0 q (t2 <<< 1) (bs_o4 t2) (q - bs_o4 t2) t5, decide ((bs_o4 t2).toNat ≤ q.toNat)) = _
  by_cases hg : (bs_o4 t2).toNat ≤ q.toNat
  · rw [decide_eq_true hg, if_pos hg, bs_x9t, bs_x0, bs_R_12, bs_sh0, bs_u9, bs_x10, bs_R_10, bs_cl0, bs_u10]
    rfl
  · rw [decide_eq_false hg, if_neg hg, bs_x9f]
    rfl
theorem bs_sq1 (r : Nat) : (2 * r + 1) * (2 * r + 1) = 4 * (r * r) + 4 * r + 1 := by grind
theorem bs_sq0 (r : Nat) : (2 * r) * (2 * r) = 4 * (r * r) := by grind
theorem bs_rootx (u : Nat) (h0 : t0.toNat = u) (hu : u < 65536) : ∀ (d : Nat) (t1 t2 t3 t4 : BitVec 32) (l : Bool), d ≤ 8 → t2.toNat * t2.toNat + t1.toNat = u / 2 ^ (2 * d) → t1.toNat ≤ 2 * t2.toNat → ∃ t1' t2' t3' t4' l', bs_ex 0 (bs_dsc bs_rb d ++ rest) (bs_R R t0 t1 t2 t3 t4 t5, l) = bs_ex 0 rest (bs_R R t0 t1' t2' t3' t4' t5, l') ∧ t2'.toNat * t2'.toNat + t1'.toNat = u ∧ t1'.toNat ≤ 2 * t2'.toNat := by
  intro d
  induction d with
  | zero =>
    intro t1 t2 t3 t4 l _ h1 h2
    rw [Nat.mul_zero, Nat.pow_zero, Nat.div_one] at h1
    exact ⟨t1, t2, t3, t4, l, rfl, h1, h2⟩
  | succ d ih =>
    intro t1 t2 t3 t4 l hd h1 h2
    have hm : u / 2 ^ (2 * (d + 1)) ≤ u := Nat.div_le_self _ _
    have hh := bs_halve u (2 * d)
    have hh2 := bs_halve u (2 * d + 1)
    have hr : t2.toNat < 256 := by
      rcases Nat.lt_or_ge t2.toNat 256 with h | h
      · exact h
      · have := Nat.mul_le_mul h h
        omega
    have ho := bs_o4_nat (t := t2) (by omega)
    have hq : (bs_q4 t1 (t0.getLsbD (2 * d + 1)) (t0.getLsbD (2 * d))).toNat = 4 * t1.toNat + 2 * (u / 2 ^ (2 * d + 1) % 2) + u / 2 ^ (2 * d) % 2 := by rw [bs_q4_nat (by omega), bs_bitn h0, bs_bitn h0]
    rw [bs_dsc, List.append_assoc, bs_rbx d (by omega)]
    revert hq
    generalize bs_q4 t1 (t0.getLsbD (2 * d + 1)) (t0.getLsbD (2 * d)) = q
    revert ho
    generalize bs_o4 t2 = o
    intro ho hq
    rw [show 2 * (d + 1) = 2 * d + 1 + 1 by omega] at h1
    have hb1 : u / 2 ^ (2 * d + 1) % 2 < 2 := Nat.mod_lt _ (by decide)
    have hb0 : u / 2 ^ (2 * d) % 2 < 2 := Nat.mod_lt _ (by decide)
    by_cases hg : o.toNat ≤ q.toNat
    · rw [if_pos hg, decide_eq_true hg]
      have e2 : (bs_b2 t2 true).toNat = 2 * t2.toNat + 1 := bs_b2_nat (by omega)
      have e1 : (q - o).toNat = q.toNat - o.toNat := BitVec.toNat_sub_of_le hg
      refine ih _ _ _ _ _ (by omega) ?_ ?_
      · rw [e2, e1, bs_sq1]
        omega
      · rw [e2, e1]
        omega
    · rw [if_neg hg, decide_eq_false hg]
      have e2 : (bs_b2 t2 false).toNat = 2 * t2.toNat := by rw [bs_b2_nat (by omega)]; rfl
      refine ih _ _ _ _ _ (by omega) ?_ ?_
      · rw [e2, bs_sq0]
        omega
      · rw [e2]
        omega
end
/-! the count of ones -/
def bs_cnt (u : Nat) : Nat → Nat → Nat
  | 0, _ => 0
  | d + 1, i => u / 2 ^ i % 2 + bs_cnt u d (i + 1)
section
variable {R : Nat → BitVec 32} {t2 t3 t4 t5 : BitVec 32} {rest : List bs_C}
theorem bs_onesx (x : Nat) (hx : x < 8) : ∀ (d i : Nat) (t0 : BitVec 32) (l : Bool), i + d = 16 → ∃ l', bs_ex 0 (bs_asc (bs_cob x) d i ++ rest) (bs_R R t0 1#32 t2 t3 t4 t5, l) = bs_ex 0 rest (bs_R R (t0 + BitVec.ofNat 32 (bs_cnt ((R x).toNat % 65536) d i)) 1#32 t2 t3 t4 t5, l') := by
  intro d
  induction d with
  | zero =>
    intro i t0 l _
    refine ⟨l, ?_⟩
    rw [bs_cnt, BitVec.add_zero]
    rfl
  | succ d ih =>
    intro i t0 l hi
    have ci : (nI i).toNatClampNeg = i := nI_clamp (by omega)
    have hb := bs_low16 (R x) (d := i) (by omega)
    simp only [bs_asc, bs_cob, List.cons_append, List.nil_append]
    rw [bs_cnt]
    by_cases h : (R x).toNat % 65536 / 2 ^ i % 2 = 1
    · rw [decide_eq_true h] at hb
      rw [bs_x8t (by rw [ci, bs_R_lo hx, hb]), bs_x1, bs_cl9, bs_R_8, bs_R_9, bs_u8]
      obtain ⟨l', e⟩ := ih (i + 1) (t0 + 1#32) (bs_ca t0 1#32 false 32) (by omega)
      refine ⟨l', ?_⟩
      rw [e, h, BitVec.ofNat_add, BitVec.add_assoc]
    · rw [decide_eq_false h] at hb
      rw [bs_x8f (by rw [ci, bs_R_lo hx, hb])]
      obtain ⟨l', e⟩ := ih (i + 1) t0 l (by omega)
      refine ⟨l', ?_⟩
      rw [e, show (R x).toNat % 65536 / 2 ^ i % 2 = 0 by omega, Nat.zero_add]
end
end
section
/-! ===== every list of micro-steps is in order ===== -/
def bs_okL (L : List bs_C) : Prop := ∀ c, c ∈ L → bs_ok c
theorem bs_okn : bs_okL [] := fun c h => absurd h (List.not_mem_nil)
theorem bs_okc {c : bs_C} {L : List bs_C} (h : bs_ok c) (hl : bs_okL L) : bs_okL (c :: L) := by
  intro e he
  rcases List.mem_cons.mp he with h1 | h1
  · rw [h1]
    exact h
  · exact hl e h1
theorem bs_oka {L M : List bs_C} (h : bs_okL L) (hm : bs_okL M) : bs_okL (L ++ M) := by
  intro e he
  rcases List.mem_append.mp he with h1 | h1
  · exact h e h1
  · exact hm e h1
theorem bs_ok_asc {b : Nat → List bs_C} {e : Nat} (h : ∀ i, i < e → bs_okL (b i)) : ∀ d i, i + d ≤ e → bs_okL (bs_asc b d i) := by
  intro d
  induction d with
  | zero => intro i _; exact bs_okn
  | succ d ih => intro i hi; exact bs_oka (h i (by omega)) (ih (i + 1) (by omega))
theorem bs_ok_dsc {b : Nat → List bs_C} : ∀ d, (∀ i, i < d → bs_okL (b i)) → bs_okL (bs_dsc b d) := by
  intro d
  induction d with
  | zero => intro _; exact bs_okn
  | succ d ih => intro h; exact bs_oka (h d (by omega)) (ih (fun i hi => h i (by omega)))
theorem bs_ok_pb (i : Nat) (hi : i < 32) : bs_okL (bs_pb i) := (bs_okc ⟨(by decide : 1 ≤ 2), by omega, i, by omega, rfl⟩ (bs_okc ⟨(by decide : 0 ≤ 2), by omega, by omega, 8, by omega, rfl⟩ (bs_okc ⟨(by decide : 0 ≤ 2), by omega, by omega, by decide, by decide⟩ bs_okn)))
theorem bs_ok_qb (i : Nat) (hi : i < 16) : bs_okL (bs_qb i) := (bs_okc ⟨(by decide : 0 ≤ 2), by omega, by omega, by decide, by decide⟩ (bs_okc ⟨(by decide : 1 ≤ 2), by omega, i, by omega, rfl⟩ (bs_okc ⟨(by decide : 0 ≤ 2), by omega, 0, by omega, rfl⟩ (bs_okc ⟨(by decide : 0 ≤ 2), by omega, by omega, 9, by omega, rfl⟩ (bs_okc ⟨(by decide : 2 ≤ 2), trivial⟩ (bs_okc ⟨(by decide : 0 ≤ 2), by omega, by omega, by decide, by decide⟩ (bs_okc ⟨(by decide : 0 ≤ 2), by omega, i, by omega, rfl⟩ bs_okn)))))))
theorem bs_ok_rb (i : Nat) (hi : i < 8) : bs_okL (bs_rb i) := (bs_okc ⟨(by decide : 0 ≤ 2), by omega, by omega, by decide, by decide⟩ (bs_okc ⟨(by decide : 1 ≤ 2), by omega, 2 * i + 1, by omega, rfl⟩ (bs_okc ⟨(by decide : 0 ≤ 2), by omega, 1, by omega, rfl⟩ (bs_okc ⟨(by decide : 1 ≤ 2), by omega, 2 * i, by omega, rfl⟩ (bs_okc ⟨(by decide : 0 ≤ 2), by omega, 0, by omega, rfl⟩ (bs_okc ⟨(by decide : 0 ≤ 2), by omega, by omega, by decide, by decide⟩ (bs_okc ⟨(by decide : 0 ≤ 2), by omega, 0, by omega, rfl⟩ (bs_okc ⟨(by decide : 0 ≤ 2), by omega, by omega, by decide, by decide⟩ (bs_okc ⟨(by decide : 0 ≤ 2), by omega, by omega, 11, by omega, rfl⟩ (bs_okc ⟨(by decide : 2 ≤ 2), trivial⟩ (bs_okc ⟨(by decide : 0 ≤ 2), by omega, by omega, by decide, by decide⟩ (bs_okc ⟨(by decide : 0 ≤ 2), by omega, 0, by omega, rfl⟩ bs_okn))))))))))))
theorem bs_ok_cob (x : Nat) (hx : x < 8) (i : Nat) (hi : i < 16) : bs_okL (bs_cob x i) := (bs_okc ⟨(by decide : 1 ≤ 2), by omega, i, by omega, rfl⟩ (bs_okc ⟨(by decide : 0 ≤ 2), by omega, by omega, 9, by omega, rfl⟩ bs_okn))
theorem bs_ok_amt (t x : Nat) (ht : t < 14) (hx : x < 8) : bs_okL (bs_amt t x) := (bs_okc ⟨(by decide : 0 ≤ 2), by omega, by omega, by decide, by decide⟩ (bs_okc ⟨(by decide : 1 ≤ 2), by omega, 31, by omega, rfl⟩ (bs_okc ⟨(by decide : 0 ≤ 2), by omega, by omega, x, by omega, rfl⟩ bs_okn)))
theorem bs_ok_prod (x y : Nat) (hx : x < 8) (hy : y < 8) : bs_okL (bs_prod x y) := bs_oka (bs_okc ⟨(by decide : 0 ≤ 2), by omega, by omega, by decide, by decide⟩ (bs_okc ⟨(by decide : 0 ≤ 2), by omega, by omega, by decide, by decide⟩ (bs_okc ⟨(by decide : 0 ≤ 2), (by omega : 10 < 14)⟩ bs_okn))) (bs_ok_asc bs_ok_pb 32 0 (by decide))
theorem bs_ok_quot (x y : Nat) (hx : x < 8) (hy : y < 8) : bs_okL (bs_quot x y) := bs_oka (bs_oka (bs_oka (bs_oka (bs_okc ⟨(by decide : 0 ≤ 2), (by omega : 13 < 14)⟩ bs_okn) (bs_ok_amt 8 x (by decide) hx)) (bs_ok_amt 9 y (by decide) hy)) (bs_okc ⟨(by decide : 0 ≤ 2), (by omega : 10 < 14)⟩ (bs_okc ⟨(by decide : 0 ≤ 2), (by omega : 11 < 14)⟩ bs_okn))) (bs_ok_dsc 16 bs_ok_qb)
theorem bs_ok_root (x : Nat) (hx : x < 8) : bs_okL (bs_root x) := bs_oka (bs_okc ⟨(by decide : 0 ≤ 2), by omega, by omega⟩ (bs_okc ⟨(by decide : 0 ≤ 2), (by omega : 9 < 14)⟩ (bs_okc ⟨(by decide : 0 ≤ 2), (by omega : 10 < 14)⟩ bs_okn))) (bs_ok_dsc 8 bs_ok_rb)
theorem bs_ok_ones (x : Nat) (hx : x < 8) : bs_okL (bs_ones x) := bs_oka (bs_okc ⟨(by decide : 0 ≤ 2), (by omega : 8 < 14)⟩ (bs_okc ⟨(by decide : 0 ≤ 2), (by omega : 9 < 14)⟩ bs_okn)) (bs_ok_asc (bs_ok_cob x hx) 16 0 (by decide))
theorem bs_ok_prog (o d x y w : Nat) (a : Int32) (hd : d < 8) (hx : x < 8) (hy : y < 8) (hw : w < 16) : bs_okL (bs_prog o d x y w a) := by
  match o with
  | 0 => exact (bs_okc ⟨(by decide : 0 ≤ 2), (by omega : 8 < 14)⟩ (bs_okc ⟨(by decide : 0 ≤ 2), by omega, by omega⟩ bs_okn))
  | 1 => exact (bs_okc ⟨(by decide : 0 ≤ 2), by omega, by omega⟩ bs_okn)
  | 2 => exact (bs_okc ⟨(by decide : 0 ≤ 2), by omega, by omega, y, by omega, rfl⟩ (bs_okc ⟨(by decide : 0 ≤ 2), by omega, by omega⟩ bs_okn))
  | 3 => exact (bs_okc ⟨(by decide : 0 ≤ 2), by omega, by omega, y, by omega, rfl⟩ (bs_okc ⟨(by decide : 0 ≤ 2), by omega, by omega⟩ bs_okn))
  | 4 => exact bs_oka (bs_ok_prod x y hx hy) (bs_okc ⟨(by decide : 0 ≤ 2), by omega, by omega, by decide, by decide⟩ (bs_okc ⟨(by decide : 0 ≤ 2), by omega, by omega⟩ bs_okn))
  | 5 => exact bs_oka (bs_ok_prod x y hx hy) (bs_okc ⟨(by decide : 0 ≤ 2), by omega, by omega, by decide, by decide⟩ (bs_okc ⟨(by decide : 0 ≤ 2), by omega, by omega⟩ bs_okn))
  | 6 => exact bs_oka (bs_ok_quot x y hx hy) (bs_okc ⟨(by decide : 1 ≤ 2), (by omega : 9 < 14)⟩ (bs_okc ⟨(by decide : 0 ≤ 2), (by omega : 11 < 14)⟩ (bs_okc ⟨(by decide : 0 ≤ 2), by omega, by omega, y, by omega, rfl⟩ (bs_okc ⟨(by decide : 1 ≤ 2), by omega, 31, by omega, rfl⟩ (bs_okc ⟨(by decide : 0 ≤ 2), by omega, by omega, 11, by omega, rfl⟩ (bs_okc ⟨(by decide : 0 ≤ 2), by omega, by omega⟩ bs_okn))))))
  | 7 => exact bs_oka (bs_ok_quot x y hx hy) (bs_okc ⟨(by decide : 1 ≤ 2), by omega, 31, by omega, rfl⟩ (bs_okc ⟨(by decide : 0 ≤ 2), by omega, by omega, 10, by omega, rfl⟩ (bs_okc ⟨(by decide : 0 ≤ 2), by omega, by omega⟩ bs_okn)))
  | 8 => exact (bs_okc ⟨(by decide : 0 ≤ 2), by omega, by omega, y, by omega, rfl⟩ (bs_okc ⟨(by decide : 0 ≤ 2), by omega, by omega⟩ bs_okn))
  | 9 => exact (bs_okc ⟨(by decide : 0 ≤ 2), by omega, by omega, y, by omega, rfl⟩ (bs_okc ⟨(by decide : 0 ≤ 2), by omega, by omega⟩ bs_okn))
  | 10 => exact (bs_okc ⟨(by decide : 0 ≤ 2), by omega, by omega, y, by omega, rfl⟩ (bs_okc ⟨(by decide : 0 ≤ 2), by omega, by omega⟩ bs_okn))
  | 11 => exact (bs_okc ⟨(by decide : 0 ≤ 2), by omega, by omega, by rw [nI_toInt (by omega)]; omega, by rw [nI_toInt (by omega)]; omega⟩ (bs_okc ⟨(by decide : 0 ≤ 2), by omega, by omega⟩ bs_okn))
  | 12 => exact (bs_okc ⟨(by decide : 0 ≤ 2), by omega, by omega, by rw [bs_negT (by omega)]; omega, by rw [bs_negT (by omega)]; omega⟩ (bs_okc ⟨(by decide : 0 ≤ 2), by omega, by omega⟩ bs_okn))
  | 13 => exact (bs_okc ⟨(by decide : 0 ≤ 2), (by omega : 9 < 14)⟩ (bs_okc ⟨(by decide : 0 ≤ 2), by omega, by omega, y, by omega, rfl⟩ (bs_okc ⟨(by decide : 1 ≤ 2), by omega, 31, by omega, rfl⟩ (bs_okc ⟨(by decide : 0 ≤ 2), by omega, 0, by omega, rfl⟩ (bs_okc ⟨(by decide : 0 ≤ 2), by omega, by omega⟩ bs_okn)))))
  | 14 => exact (bs_okc ⟨(by decide : 0 ≤ 2), (by omega : 9 < 14)⟩ (bs_okc ⟨(by decide : 0 ≤ 2), by omega, by omega, y, by omega, rfl⟩ (bs_okc ⟨(by decide : 1 ≤ 2), (by omega : 8 < 14)⟩ (bs_okc ⟨(by decide : 0 ≤ 2), by omega, 0, by omega, rfl⟩ (bs_okc ⟨(by decide : 0 ≤ 2), by omega, by omega⟩ bs_okn)))))
  | 15 => exact bs_oka (bs_ok_root x hx) (bs_okc ⟨(by decide : 0 ≤ 2), by omega, by omega⟩ bs_okn)
  | n + 16 => exact bs_oka (bs_ok_ones x hx) (bs_okc ⟨(by decide : 0 ≤ 2), by omega, by omega⟩ bs_okn)
theorem bs_len_prog (o d x y w : Nat) (a : Int32) : (bs_prog o d x y w a).length ≤ 160 := by
  match o with
  | 0 => exact (by decide : 2 ≤ 160)
  | 1 => exact (by decide : 1 ≤ 160)
  | 2 => exact (by decide : 2 ≤ 160)
  | 3 => exact (by decide : 2 ≤ 160)
  | 4 =>
    rw [bs_prog, List.length_append, bs_len_prod]
    exact (by decide : 101 ≤ 160)
  | 5 =>
    rw [bs_prog, List.length_append, bs_len_prod]
    exact (by decide : 101 ≤ 160)
  | 6 =>
    rw [bs_prog, List.length_append, bs_len_quot]
    exact (by decide : 127 ≤ 160)
  | 7 =>
    rw [bs_prog, List.length_append, bs_len_quot]
    exact (by decide : 124 ≤ 160)
  | 8 => exact (by decide : 2 ≤ 160)
  | 9 => exact (by decide : 2 ≤ 160)
  | 10 => exact (by decide : 2 ≤ 160)
  | 11 => exact (by decide : 2 ≤ 160)
  | 12 => exact (by decide : 2 ≤ 160)
  | 13 => exact (by decide : 5 ≤ 160)
  | 14 => exact (by decide : 5 ≤ 160)
  | 15 =>
    rw [bs_prog, List.length_append, bs_len_root]
    exact (by decide : 100 ≤ 160)
  | n + 16 =>
    show (bs_ones x ++ [(6, d, 8, 0, 0)]).length ≤ 160
    rw [List.length_append, bs_len_ones]
    exact (by decide : 35 ≤ 160)
end
section
/-! ===== what a line computes, and that the micro-steps compute it ===== -/
theorem bs_wd_ext {x y : BitVec 32} (h : ∀ i, i < 16 → x.getLsbD i = y.getLsbD i) : bs_wd x = bs_wd y := by
  apply BitVec.eq_of_getLsbD_eq
  intro i hi
  rcases Nat.lt_or_ge i 16 with h1 | h1
  · rw [bs_wd_lo h1, bs_wd_lo h1, h i h1]
  · rw [bs_wd_hi h1 hi, bs_wd_hi h1 hi, h 15 (by decide)]
theorem bs_wd_wd (x : BitVec 32) : bs_wd (bs_wd x) = bs_wd x := bs_wd_ext fun i hi => bs_wd_lo hi
theorem bs_wd_int (x : BitVec 32) : (bs_wd x).toInt = Int.bmod x.toNat 65536 := by
  unfold bs_wd
  rw [BitVec.toInt_signExtend_of_le (by decide), BitVec.toInt_setWidth]
theorem bs_rng {x : BitVec 32} (h : bs_wd x = x) : -32768 ≤ x.toInt ∧ x.toInt < 32768 := by
  have e := bs_wd_int x
  rw [h] at e
  rw [e]
  constructor
  · have := Int.le_bmod (x := x.toNat) (m := 65536) (by decide)
    omega
  · have := Int.bmod_lt (x := x.toNat) (m := 65536) (by decide)
    omega
theorem bs_int (x : BitVec 32) : x.toInt = if x.getLsbD 31 = true then (x.toNat : Int) - 4294967296 else x.toNat := by
  have e : x.msb = x.getLsbD 31 := BitVec.msb_eq_getLsbD_last x
  rw [BitVec.toInt_eq_msb_cond, e]
  rfl
theorem bs_ab_lt {x : BitVec 32} (h : bs_wd x = x) : (bs_ab x).toNat < 65536 := by
  have r := bs_rng h
  have e := bs_int x
  have hl := x.isLt
  unfold bs_ab
  by_cases hb : x.getLsbD 31 = true
  · rw [if_pos hb] at e ⊢
    rw [BitVec.toNat_sub]
    show (2 ^ 32 - x.toNat + 0) % 2 ^ 32 < 65536
    omega
  · rw [if_neg hb] at e ⊢
    omega
theorem bs_sdiv (x y : BitVec 32) : x.sdiv y = if (x ^^^ y).getLsbD 31 = true then 0#32 - bs_ab x / bs_ab y else bs_ab x / bs_ab y := by
  have ex : x.msb = x.getLsbD 31 := BitVec.msb_eq_getLsbD_last x
  have ey : y.msb = y.getLsbD 31 := BitVec.msb_eq_getLsbD_last y
  rw [BitVec.sdiv_eq, ex, ey, BitVec.getLsbD_xor]
  unfold bs_ab
  cases x.getLsbD 31 <;> cases y.getLsbD 31
  · rfl
  · simp only [BitVec.zero_sub]; rfl
  · simp only [BitVec.zero_sub]; rfl
  · simp only [BitVec.zero_sub]; rfl
theorem bs_srem (x y : BitVec 32) : x.srem y = if x.getLsbD 31 = true then 0#32 - bs_ab x % bs_ab y else bs_ab x % bs_ab y := by
  have ex : x.msb = x.getLsbD 31 := BitVec.msb_eq_getLsbD_last x
  have ey : y.msb = y.getLsbD 31 := BitVec.msb_eq_getLsbD_last y
  rw [BitVec.srem_eq, ex, ey]
  unfold bs_ab
  cases x.getLsbD 31 <;> cases y.getLsbD 31
  · rfl
  · simp only [BitVec.zero_sub]; rfl
  · simp only [BitVec.zero_sub]; rfl
  · simp only [BitVec.zero_sub]; rfl
theorem bs_wd_shr (z : BitVec 32) {k : Nat} (hk : k ≤ 16) : bs_wd (z >>> k) = bs_wd (z.sshiftRight k) := by
  apply bs_wd_ext
  intro i hi
  rw [BitVec.getLsbD_ushiftRight, BitVec.getLsbD_sshiftRight, if_pos (by omega), decide_eq_false (show ¬ 32 ≤ i by omega)]
  rfl
theorem bs_lt_bit {x y : BitVec 32} (hx : bs_wd x = x) (hy : bs_wd y = y) : (x - y).getLsbD 31 = decide (x.toInt < y.toInt) := by
  have rx := bs_rng hx
  have ry := bs_rng hy
  have e : (x - y).toInt = x.toInt - y.toInt := by
    rw [BitVec.toInt_sub]
    exact Int.bmod_eq_of_le (by omega) (by omega)
  have e2 := bs_int (x - y)
  have hl := (x - y).isLt
  cases hb : (x - y).getLsbD 31
  · rw [hb, if_neg (by decide)] at e2
    rw [decide_eq_false (by omega)]
  · rw [hb, if_pos rfl] at e2
    rw [decide_eq_true (by omega)]
/-- the root, as the reference seeks it -/
def bs_sq (u : Nat) : Nat → Nat
  | 0 => 0
  | n + 1 => if (bs_sq u n + 1) * (bs_sq u n + 1) ≤ u then bs_sq u n + 1 else bs_sq u n
theorem bs_sq_le (u : Nat) : ∀ n, bs_sq u n * bs_sq u n ≤ u := by
  intro n
  induction n with
  | zero => exact Nat.zero_le _
  | succ n ih =>
    rw [bs_sq]
    by_cases h : (bs_sq u n + 1) * (bs_sq u n + 1) ≤ u
    · rw [if_pos h]
      exact h
    · rw [if_neg h]
      exact ih
theorem bs_sq_or (u : Nat) : ∀ n, bs_sq u n = n ∨ u < (bs_sq u n + 1) * (bs_sq u n + 1) := by
  intro n
  induction n with
  | zero => exact Or.inl rfl
  | succ n ih =>
    rw [bs_sq]
    by_cases h : (bs_sq u n + 1) * (bs_sq u n + 1) ≤ u
    · rw [if_pos h]
      rcases ih with h1 | h1
      · exact Or.inl (by omega)
      · omega
    · rw [if_neg h]
      exact Or.inr (by omega)
theorem bs_sq_eq {u r m : Nat} (hu : u < 65536) (h : r * r + m = u) (hm : m ≤ 2 * r) : bs_sq u 256 = r := by
  have h1 := bs_sq_le u 256
  have h2 : u < (bs_sq u 256 + 1) * (bs_sq u 256 + 1) := by
    rcases bs_sq_or u 256 with e | e
    · rw [e] at h1
      omega
    · exact e
  revert h1 h2
  generalize bs_sq u 256 = s
  intro h1 h2
  have e : (r + 1) * (r + 1) = r * r + 2 * r + 1 := by grind
  rcases Nat.lt_trichotomy s r with c | c | c
  · have := Nat.mul_le_mul (show s + 1 ≤ r from c) (show s + 1 ≤ r from c)
    omega
  · exact c
  · have := Nat.mul_le_mul (show r + 1 ≤ s from c) (show r + 1 ≤ s from c)
    omega
def bs_val (o w : Nat) (a : Int32) (x y : BitVec 32) : BitVec 32 := match o with
  | 0 => bs_wd a.toBitVec
  | 1 => bs_wd x
  | 2 => bs_wd (x + y)
  | 3 => bs_wd (x - y)
  | 4 => bs_wd (x * y)
  | 5 => bs_wd ((x * y).sshiftRight 16)
  | 6 => bs_wd (x.sdiv y)
  | 7 => bs_wd (x.srem y)
  | 8 => bs_wd (x &&& y)
  | 9 => bs_wd (x ||| y)
  | 10 => bs_wd (x ^^^ y)
  | 11 => bs_wd (x <<< w)
  | 12 => bs_wd (x.sshiftRight w)
  | 13 => bs_wd (if x.toInt < y.toInt then 1#32 else 0#32)
  | 14 => bs_wd (if x = y then 1#32 else 0#32)
  | 15 => bs_wd (BitVec.ofNat 32 (bs_sq (x.toNat % 65536) 256))
  | _ => bs_wd (BitVec.ofNat 32 (bs_cnt (x.toNat % 65536) 16 0))
theorem bs_val_wd (o w : Nat) (a : Int32) (x y : BitVec 32) : bs_wd (bs_val o w a x y) = bs_val o w a x y := by
  unfold bs_val
  split <;> exact bs_wd_wd _
/-- the list L leads to one last step that widens z into d -/
def bs_dn (R : Nat → BitVec 32) (d : Nat) (L : List bs_C) (z : BitVec 32) : Prop := ∀ (t0 t1 t2 t3 t4 t5 : BitVec 32) (l : Bool), ∃ s0 s1 s2 s3 s4 s5 f l', bs_ex 0 L (bs_R R t0 t1 t2 t3 t4 t5, l) = bs_ex 0 [(6, d, f, 0, 0)] (bs_R R s0 s1 s2 s3 s4 s5, l') ∧ bs_wd (bs_R R s0 s1 s2 s3 s4 s5 f) = z
section
variable {R : Nat → BitVec 32} {d x y : Nat}
theorem bs_d0 (a : Int32) (w : Nat) : bs_dn R d (bs_prog 0 d x y w a) (bs_val 0 w a (R x) (R y)) := by
  intro t0 t1 t2 t3 t4 t5 l
  refine ⟨a.toBitVec, t1, t2, t3, t4, t5, 8, l, ?_, rfl⟩
  rw [bs_prog, bs_x11, bs_u8]
theorem bs_d1 (hx : x < 8) (a : Int32) (w : Nat) : bs_dn R d (bs_prog 1 d x y w a) (bs_val 1 w a (R x) (R y)) := by
  intro t0 t1 t2 t3 t4 t5 l
  exact ⟨t0, t1, t2, t3, t4, t5, x, l, rfl, by rw [bs_R_lo hx]; rfl⟩
theorem bs_d2 (hx : x < 8) (hy : y < 8) (a : Int32) (w : Nat) : bs_dn R d (bs_prog 2 d x y w a) (bs_val 2 w a (R x) (R y)) := by
  intro t0 t1 t2 t3 t4 t5 l
  refine ⟨R x + R y, t1, t2, t3, t4, t5, 8, bs_ca (R x) (R y) false 32, ?_, rfl⟩
  rw [bs_prog, bs_x1, nI_clamp (by omega), bs_R_lo hx, bs_R_lo hy, bs_u8]
theorem bs_d3 (hx : x < 8) (hy : y < 8) (a : Int32) (w : Nat) : bs_dn R d (bs_prog 3 d x y w a) (bs_val 3 w a (R x) (R y)) := by
  intro t0 t1 t2 t3 t4 t5 l
  refine ⟨R x - R y, t1, t2, t3, t4, t5, 8, decide ((R y).toNat ≤ (R x).toNat), ?_, rfl⟩
  rw [bs_prog, bs_x2, nI_clamp (by omega), bs_R_lo hx, bs_R_lo hy, bs_u8]
theorem bs_d8 (hx : x < 8) (hy : y < 8) (a : Int32) (w : Nat) : bs_dn R d (bs_prog 8 d x y w a) (bs_val 8 w a (R x) (R y)) := by
  intro t0 t1 t2 t3 t4 t5 l
  refine ⟨R x &&& R y, t1, t2, t3, t4, t5, 8, l, ?_, rfl⟩
  rw [bs_prog, bs_x3, nI_clamp (by omega), bs_R_lo hx, bs_R_lo hy, bs_u8]
theorem bs_d9 (hx : x < 8) (hy : y < 8) (a : Int32) (w : Nat) : bs_dn R d (bs_prog 9 d x y w a) (bs_val 9 w a (R x) (R y)) := by
  intro t0 t1 t2 t3 t4 t5 l
  refine ⟨R x ||| R y, t1, t2, t3, t4, t5, 8, l, ?_, rfl⟩
  rw [bs_prog, bs_x4, nI_clamp (by omega), bs_R_lo hx, bs_R_lo hy, bs_u8]
theorem bs_d10 (hx : x < 8) (hy : y < 8) (a : Int32) (w : Nat) : bs_dn R d (bs_prog 10 d x y w a) (bs_val 10 w a (R x) (R y)) := by
  intro t0 t1 t2 t3 t4 t5 l
  refine ⟨R x ^^^ R y, t1, t2, t3, t4, t5, 8, l, ?_, rfl⟩
  rw [bs_prog, bs_x5, nI_clamp (by omega), bs_R_lo hx, bs_R_lo hy, bs_u8]
theorem bs_d11 (hx : x < 8) (a : Int32) (w : Nat) (hw : w < 16) : bs_dn R d (bs_prog 11 d x y w a) (bs_val 11 w a (R x) (R y)) := by
  intro t0 t1 t2 t3 t4 t5 l
  refine ⟨R x <<< w, t1, t2, t3, t4, t5, 8, l, ?_, rfl⟩
  rw [bs_prog, bs_x0, bs_R_lo hx, bs_shw _ (by omega), bs_u8]
theorem bs_d12 (hx : x < 8) (a : Int32) (w : Nat) (hw : w < 16) : bs_dn R d (bs_prog 12 d x y w a) (bs_val 12 w a (R x) (R y)) := by
  intro t0 t1 t2 t3 t4 t5 l
  refine ⟨R x >>> w, t1, t2, t3, t4, t5, 8, l, ?_, bs_wd_shr (R x) (by omega)⟩
  rw [bs_prog, bs_x0, bs_R_lo hx, bs_shmw _ (by omega), bs_u8]
theorem bs_d4 (hx : x < 8) (hy : y < 8) (a : Int32) (w : Nat) : bs_dn R d (bs_prog 4 d x y w a) (bs_val 4 w a (R x) (R y)) := by
  intro t0 t1 t2 t3 t4 t5 l
  obtain ⟨s0, s1, l', h⟩ := bs_prodx (R := R) (t3 := t3) (t4 := t4) (t5 := t5) (rest := [(0, 10, 10, 0, 0), (6, d, 10, 0, 0)]) x y hx hy t0 t1 t2 l
  refine ⟨s0, s1, R x * R y, t3, t4, t5, 10, l', ?_, rfl⟩
  rw [bs_prog, h, bs_x0, bs_R_10, bs_sh0, bs_u10]
theorem bs_d5 (hx : x < 8) (hy : y < 8) (a : Int32) (w : Nat) : bs_dn R d (bs_prog 5 d x y w a) (bs_val 5 w a (R x) (R y)) := by
  intro t0 t1 t2 t3 t4 t5 l
  obtain ⟨s0, s1, l', h⟩ := bs_prodx (R := R) (t3 := t3) (t4 := t4) (t5 := t5) (rest := [(0, 10, 10, -16, 0), (6, d, 10, 0, 0)]) x y hx hy t0 t1 t2 l
  refine ⟨s0, s1, (R x * R y) >>> 16, t3, t4, t5, 10, l', ?_, bs_wd_shr (R x * R y) (by decide)⟩
  rw [bs_prog, h, bs_x0, bs_R_10, bs_shm16, bs_u10]
theorem bs_f6x (q : BitVec 32) (hx : x < 8) (hy : y < 8) (s0 s1 s2 s3 s4 : BitVec 32) (l : Bool) (hq : ¬ s1 = 0 → s3 = q) (hz : s1 = 0 → q = 0) : ∃ s4' l', bs_ex 0 (bs_f6 d x y) (bs_R R s0 s1 s2 s3 s4 0#32, l) = bs_ex 0 [(6, d, 11, 0, 0)] (bs_R R s0 s1 s2 (if (R x ^^^ R y).getLsbD 31 = true then 0#32 - q else q) s4' 0#32, l') := by
  have cy : (nI y).toNatClampNeg = y := nI_clamp (by omega)
  have h1 : ∀ l1 : List bs_C, bs_ex 0 ((12, 0, 9, 0, 1) :: (11, 11, 0, 0, 0) :: l1) (bs_R R s0 s1 s2 s3 s4 0#32, l) = bs_ex 0 l1 (bs_R R s0 s1 s2 q s4 0#32, l) := by
    intro l1
    by_cases h : s1 = 0
    · rw [bs_x12t (by rw [bs_R_9]; exact h), bs_x11, bs_u11, hz h]
      rfl
    · rw [bs_x12f (by rw [bs_R_9]; exact h), hq h]
  unfold bs_f6
  rw [h1, bs_x5, cy, bs_R_lo hx, bs_R_lo hy, bs_u12]
  cases hb : (R x ^^^ R y).getLsbD 31
  · refine ⟨R x ^^^ R y, l, ?_⟩
    rw [bs_x8f (by rw [bs_cl31, bs_R_12, hb])]
    rfl
  · refine ⟨R x ^^^ R y, decide (q.toNat ≤ (0#32).toNat), ?_⟩
    rw [bs_x8t (by rw [bs_cl31, bs_R_12, hb]), bs_x2, bs_cl11, bs_R_13, bs_R_11, bs_u11]
    rfl
theorem bs_d6 (hx : x < 8) (hy : y < 8) (wx : bs_wd (R x) = R x) (a : Int32) (w : Nat) : bs_dn R d (bs_prog 6 d x y w a) (bs_val 6 w a (R x) (R y)) := by
  intro t0 t1 t2 t3 t4 t5 l
  obtain ⟨s2, s3, s4, l', h, _, h3⟩ := bs_quotx (R := R) (rest := bs_f6 d x y) x y hx hy (bs_ab_lt wx) t0 t1 t2 t3 t4 t5 l
  obtain ⟨s4', l2, h4⟩ := bs_f6x (R := R) (d := d) (bs_ab (R x) / bs_ab (R y)) hx hy (bs_ab (R x)) (bs_ab (R y)) s2 s3 s4 l' (by
    intro hn
    apply BitVec.eq_of_toNat_eq
    rw [BitVec.toNat_udiv]
    apply h3
    rcases Nat.eq_zero_or_pos (bs_ab (R y)).toNat with h0 | h0
    · exact absurd (BitVec.eq_of_toNat_eq h0) hn
    · exact h0) (by
    intro hz
    rw [hz]
    exact BitVec.udiv_zero)
  refine ⟨_, _, _, _, _, _, 11, l2, h.trans h4, ?_⟩
  rw [bs_R_11, ← bs_sdiv]
  rfl
theorem bs_d7 (hx : x < 8) (hy : y < 8) (wx : bs_wd (R x) = R x) (a : Int32) (w : Nat) : bs_dn R d (bs_prog 7 d x y w a) (bs_val 7 w a (R x) (R y)) := by
  intro t0 t1 t2 t3 t4 t5 l
  obtain ⟨s2, s3, s4, l', h, h2, _⟩ := bs_quotx (R := R) (rest := bs_f7 d x) x y hx hy (bs_ab_lt wx) t0 t1 t2 t3 t4 t5 l
  have e : s2 = bs_ab (R x) % bs_ab (R y) := BitVec.eq_of_toNat_eq (by rw [BitVec.toNat_umod]; exact h2)
  have ev : bs_val 7 w a (R x) (R y) = bs_wd (if (R x).getLsbD 31 = true then 0#32 - s2 else s2) := by
    rw [e, ← bs_srem]
    rfl
  rw [bs_prog, ev, h]
  unfold bs_f7
  cases hb : (R x).getLsbD 31
  · refine ⟨bs_ab (R x), bs_ab (R y), s2, s3, s4, 0#32, 10, l', ?_, rfl⟩
    rw [bs_x8f (by rw [bs_cl31, bs_R_lo hx, hb])]
  · refine ⟨bs_ab (R x), bs_ab (R y), 0#32 - s2, s3, s4, 0#32, 10, decide (s2.toNat ≤ (0#32).toNat), ?_, rfl⟩
    rw [bs_x8t (by rw [bs_cl31, bs_R_lo hx, hb]), bs_x2, bs_cl10, bs_R_13, bs_R_10, bs_u10]
theorem bs_d13 (hx : x < 8) (hy : y < 8) (wx : bs_wd (R x) = R x) (wy : bs_wd (R y) = R y) (a : Int32) (w : Nat) : bs_dn R d (bs_prog 13 d x y w a) (bs_val 13 w a (R x) (R y)) := by
  intro t0 t1 t2 t3 t4 t5 l
  have cy : (nI y).toNatClampNeg = y := nI_clamp (by omega)
  have hb := bs_lt_bit wx wy
  rw [bs_prog, bs_cmp13, bs_x11, bs_u9, bs_x2, cy, bs_R_lo hx, bs_R_lo hy, bs_u8]
  by_cases h : (R x).toInt < (R y).toInt
  · rw [decide_eq_true h] at hb
    refine ⟨R x - R y, 1#32, t2, t3, t4, t5, 9, decide ((R y).toNat ≤ (R x).toNat), ?_, ?_⟩
    · rw [bs_x8t (by rw [bs_cl31, bs_R_8, hb]), bs_x10, bs_R_9, bs_cl0, bs_u9]
      rfl
    · show _ = bs_wd (if (R x).toInt < (R y).toInt then 1#32 else 0#32)
      rw [if_pos h]
      rfl
  · rw [decide_eq_false h] at hb
    refine ⟨R x - R y, 0#32, t2, t3, t4, t5, 9, decide ((R y).toNat ≤ (R x).toNat), ?_, ?_⟩
    · rw [bs_x8f (by rw [bs_cl31, bs_R_8, hb])]
      rfl
    · show _ = bs_wd (if (R x).toInt < (R y).toInt then 1#32 else 0#32)
      rw [if_neg h]
      rfl
theorem bs_d14 (hx : x < 8) (hy : y < 8) (a : Int32) (w : Nat) : bs_dn R d (bs_prog 14 d x y w a) (bs_val 14 w a (R x) (R y)) := by
  intro t0 t1 t2 t3 t4 t5 l
  have cy : (nI y).toNatClampNeg = y := nI_clamp (by omega)
  rw [bs_prog, bs_cmp14, bs_x11, bs_u9, bs_x5, cy, bs_R_lo hx, bs_R_lo hy, bs_u8]
  by_cases h : R x = R y
  · refine ⟨R x ^^^ R y, 1#32, t2, t3, t4, t5, 9, l, ?_, ?_⟩
    · rw [bs_x12t (by rw [bs_R_8]; exact BitVec.xor_eq_zero_iff.mpr h), bs_x10, bs_R_9, bs_cl0, bs_u9]
      rfl
    · show _ = bs_wd (if R x = R y then 1#32 else 0#32)
      rw [if_pos h]
      rfl
  · refine ⟨R x ^^^ R y, 0#32, t2, t3, t4, t5, 9, l, ?_, ?_⟩
    · rw [bs_x12f (by rw [bs_R_8]; exact fun e => h (BitVec.xor_eq_zero_iff.mp e))]
      rfl
    · show _ = bs_wd (if R x = R y then 1#32 else 0#32)
      rw [if_neg h]
      rfl
theorem bs_lo_nat (z : BitVec 32) : (bs_lo z).toNat = z.toNat % 65536 := by
  unfold bs_lo
  rw [BitVec.toNat_setWidth, BitVec.toNat_setWidth]
  omega
theorem bs_d15 (hx : x < 8) (a : Int32) (w : Nat) : bs_dn R d (bs_prog 15 d x y w a) (bs_val 15 w a (R x) (R y)) := by
  intro t0 t1 t2 t3 t4 t5 l
  have hz : (R x).toNat % 65536 / 2 ^ (2 * 8) = 0 := by omega
  obtain ⟨s1, s2, s3, s4, l', h, h1, h2⟩ := bs_rootx (R := R) (t0 := bs_lo (R x)) (t5 := t5) (rest := [(6, d, 10, 0, 0)]) _ (bs_lo_nat (R x)) (by omega) 8 0#32 0#32 t3 t4 l (by omega) (by rw [hz]; rfl) (by decide)
  have e := bs_sq_eq (by omega) h1 h2
  refine ⟨bs_lo (R x), s1, s2, s3, s4, t5, 10, l', ?_, ?_⟩
  · rw [← h, bs_prog, bs_root]
    simp only [List.append_assoc, List.cons_append, List.nil_append]
    rw [bs_x7, bs_R_lo hx, bs_u8, bs_x11, bs_u9, bs_x11, bs_u10]
    rfl
  · show bs_wd s2 = bs_wd (BitVec.ofNat 32 (bs_sq ((R x).toNat % 65536) 256))
    rw [e]
    congr 1
    apply BitVec.eq_of_toNat_eq
    rw [BitVec.toNat_ofNat, Nat.mod_eq_of_lt s2.isLt]
theorem bs_d16 (hx : x < 8) (a : Int32) (w : Nat) : bs_dn R d (bs_prog 16 d x y w a) (bs_val 16 w a (R x) (R y)) := by
  intro t0 t1 t2 t3 t4 t5 l
  obtain ⟨l', h⟩ := bs_onesx (R := R) (t2 := t2) (t3 := t3) (t4 := t4) (t5 := t5) (rest := [(6, d, 8, 0, 0)]) x hx 16 0 0#32 l rfl
  rw [BitVec.zero_add] at h
  refine ⟨_, _, t2, t3, t4, t5, 8, l', Eq.trans ?_ h, rfl⟩
  show bs_ex 0 (bs_ones x ++ [(6, d, 8, 0, 0)]) _ = _
  rw [bs_ones]
  simp only [List.append_assoc, List.cons_append, List.nil_append]
  rw [bs_x11, bs_u8, bs_x11, bs_u9]
  rfl
theorem bs_dall (o : Nat) (ho : o ≤ 16) (hx : x < 8) (hy : y < 8) (w : Nat) (hw : w < 16) (wx : bs_wd (R x) = R x) (wy : bs_wd (R y) = R y) (a : Int32) : bs_dn R d (bs_prog o d x y w a) (bs_val o w a (R x) (R y)) := by
  match o, ho with
  | 0, _ => exact bs_d0 a w
  | 1, _ => exact bs_d1 hx a w
  | 2, _ => exact bs_d2 hx hy a w
  | 3, _ => exact bs_d3 hx hy a w
  | 4, _ => exact bs_d4 hx hy a w
  | 5, _ => exact bs_d5 hx hy a w
  | 6, _ => exact bs_d6 hx hy wx a w
  | 7, _ => exact bs_d7 hx hy wx a w
  | 8, _ => exact bs_d8 hx hy a w
  | 9, _ => exact bs_d9 hx hy a w
  | 10, _ => exact bs_d10 hx hy a w
  | 11, _ => exact bs_d11 hx a w hw
  | 12, _ => exact bs_d12 hx a w hw
  | 13, _ => exact bs_d13 hx hy wx wy a w
  | 14, _ => exact bs_d14 hx hy a w
  | 15, _ => exact bs_d15 hx a w
  | 16, _ => exact bs_d16 hx a w
  | n + 17, h => exact absurd h (by omega)
theorem bs_run1 (o : Nat) (ho : o ≤ 16) (hx : x < 8) (hy : y < 8) (w : Nat) (hw : w < 16) (wx : bs_wd (R x) = R x) (wy : bs_wd (R y) = R y) (a : Int32) (l : Bool) (v : Nat) (hv : v < 8) : (bs_ex 0 (bs_prog o d x y w a) (R, l)).1 v = if v = d then bs_val o w a (R x) (R y) else R v := by
  obtain ⟨s0, s1, s2, s3, s4, s5, f, l', h, e⟩ := bs_dall (d := d) o ho hx hy w hw wx wy a (R 8) (R 9) (R 10) (R 11) (R 12) (R 13) l
  rw [bs_R_eta] at h
  rw [h, bs_x6, e, bs_xnil]
  show (if v = d then _ else bs_R R s0 s1 s2 s3 s4 s5 v) = _
  rw [bs_R_lo hv]
end
end
section
/-! ===== the reference's helpers ===== -/
theorem bs_bm (n : Nat) : Int.bmod n 65536 = if n % 65536 < 32768 then ((n % 65536 : Nat) : Int) else ((n % 65536 : Nat) : Int) - 65536 := by
  rw [Int.bmod_def]
  by_cases h : n % 65536 < 32768
  · rw [if_pos h, if_pos (by omega)]
    omega
  · rw [if_neg h, if_neg (by omega)]
    omega
theorem bs_m16 (r : Int32) : r &&& 65535 = nI (r.toBitVec.toNat % 65536) := pk_and r 16 (by decide)
theorem bs_wrap {post : Int32 → Prop} (r : Int32) (h : post (Int32.ofBitVec (bs_wd r.toBitVec))) : wpY_wrapped post r := by
  have e : (Int32.ofBitVec (bs_wd r.toBitVec)).toInt = Int.bmod r.toBitVec.toNat 65536 := bs_wd_int _
  rw [bs_bm] at e
  refine nm_r (bs_m16 r) ?_
  have hl : r.toBitVec.toNat % 65536 < 65536 := Nat.mod_lt _ (by decide)
  revert e hl
  generalize r.toBitVec.toNat % 65536 = m
  intro e hl
  by_cases hm : m < 32768
  · rw [if_pos hm] at e
    have q : Int32.ofBitVec (bs_wd r.toBitVec) = nI m := Int32.toInt_inj.mp (by rw [e, nI_toInt (by omega)])
    rw [q] at h
    exact br_t (nI_le (b := 32767) (by omega) (by decide)) h
  · rw [if_neg hm] at e
    have q : Int32.ofBitVec (bs_wd r.toBitVec) = nI m - 65536 := by
      apply Int32.toInt_inj.mp
      show _ = (nI m - nI 65536).toInt
      rw [e, pk_sub_toInt (by omega) (by omega)]
      rfl
    rw [q] at h
    exact br_f (nI_ge (a := 32767) (by omega) (by omega)) h
theorem bs_plain {post : Int32 → Prop} (z : BitVec 32) (hz : bs_wd z = z) (h : post (nI (z.toNat % 65536))) : wpY_plain post (Int32.ofBitVec z) := by
  have e : (Int32.ofBitVec z).toInt = Int.bmod z.toNat 65536 := by
    have e2 := bs_wd_int z
    rw [hz] at e2
    exact e2
  rw [bs_bm] at e
  have hl : z.toNat % 65536 < 65536 := Nat.mod_lt _ (by decide)
  revert e hl h
  generalize z.toNat % 65536 = m
  intro h e hl
  by_cases hm : m < 32768
  · rw [if_pos hm] at e
    have q : Int32.ofBitVec z = nI m := Int32.toInt_inj.mp (by rw [e, nI_toInt (by omega)])
    rw [q]
    exact br_t (nI_pos' (by omega)) h
  · rw [if_neg hm] at e
    have q : Int32.ofBitVec z + 65536 = nI m := by
      apply Int32.toInt_inj.mp
      show (Int32.ofBitVec z + nI 65536).toInt = _
      rw [Int32.toInt_add, e, nI_toInt (by omega), nI_toInt (by omega), Int.bmod_eq_of_le (by omega) (by omega)]
      omega
    refine br_f ?_ ?_
    · rw [Int32.le_iff_toInt_le, e, Int32.toInt_zero]
      omega
    · rw [q]
      exact h
theorem bs_pow {post : Int32 → Prop} (n : Nat) (hn : n < 16) (h : post (nI (2 ^ n))) : wpY_power post (nI n) := by
  have H : ∀ d i, i + d = n → wY_power_4 post (nI n) (d + 1) (nI (2 ^ i)) (nI i) := by
    intro d
    induction d with
    | zero =>
      intro i hi
      obtain rfl : i = n := by omega
      exact br_t (nI_le (Nat.le_refl _) (by omega)) h
    | succ d ih =>
      intro i hi
      refine br_f (nI_ge (by omega) (by omega)) (br_f (nI_ge (b := 15) (by omega) (by decide)) (nm_r (e' := nI (2 ^ (i + 1))) ?_ (nm_r (nI_1 i) (ih (i + 1) (by omega)))))
      show nI (2 ^ i) * nI 2 = _
      rw [pk_mul, Nat.pow_succ]
  exact ⟨n + 1, H n 0 (by omega)⟩
theorem bs_down {post : Int32 → Prop} (z : Int32) (k : Nat) (hk : k ≤ 16) (h : post (Int32.ofBitVec (z.toBitVec.sshiftRight k))) : wpY_down post z (nI (2 ^ k)) := by
  have hD : 2 ^ k ≤ 65536 := Nat.pow_le_pow_right (n := 2) (by decide) hk
  have hP : 0 < 2 ^ k := Nat.two_pow_pos k
  have e : (Int32.ofBitVec (z.toBitVec.sshiftRight k)).toInt = z.toInt / ((2 ^ k : Nat) : Int) := by
    show (z.toBitVec.sshiftRight k).toInt = _
    rw [BitVec.toInt_sshiftRight, Int.shiftRight_eq_div_pow]
    rfl
  revert e hD hP h
  generalize 2 ^ k = D
  generalize Int32.ofBitVec (z.toBitVec.sshiftRight k) = w
  intro h hD hP e
  have tD : (nI D).toInt = (D : Int) := nI_toInt (by omega)
  have z0 := z.le_toInt
  have z1 := z.toInt_lt
  have hne : nI D ≠ -1 := by
    intro q
    have q2 := congrArg Int32.toInt q
    rw [tD, show (-1 : Int32).toInt = -1 from by decide] at q2
    omega
  have tq : (z / nI D).toInt = z.toInt.tdiv D := by rw [Int32.toInt_div_of_ne_right _ _ hne, tD]
  have e1 := Int.mul_ediv_add_emod z.toInt (D : Int)
  have e2 := Int.emod_nonneg z.toInt (b := (D : Int)) (by omega)
  have e3 := Int.emod_lt_of_pos z.toInt (b := (D : Int)) (by omega)
  rw [Int.tdiv_eq_ediv, Int.sign_eq_one_of_pos (show (0 : Int) < (D : Int) by omega)] at tq
  refine br_t (nI_lt (a := 0) hP (by omega)) ⟨nI_ne0 hP (by omega), nm_e ?_⟩
  have tm : (z / nI D * nI D).toInt = ((z / nI D).toInt * (D : Int)).bmod (2 ^ 32) := by rw [Int32.toInt_mul, tD]
  by_cases hc : 0 ≤ z.toInt ∨ (D : Int) ∣ z.toInt
  · rw [if_pos hc, Int.add_zero] at tq
    rw [tq, Int.mul_comm] at tm
    have hb : (D : Int) * (z.toInt / (D : Int)) ≤ z.toInt ∧ -2147483648 ≤ (D : Int) * (z.toInt / (D : Int)) := by
      rcases hc with h0 | h0
      · have := Int.mul_nonneg (show (0 : Int) ≤ (D : Int) by omega) (Int.ediv_nonneg h0 (show (0 : Int) ≤ (D : Int) by omega))
        omega
      · have := Int.emod_eq_zero_of_dvd h0
        omega
    rw [Int.bmod_eq_of_le (by omega) (by omega)] at tm
    have q : w = z / nI D := Int32.toInt_inj.mp (by rw [e, tq])
    rw [q] at h
    refine br_t ?_ h
    rw [Int32.le_iff_toInt_le, tm]
    exact hb.1
  · rw [if_neg hc] at tq
    have hn : ¬ 0 ≤ z.toInt := fun h0 => hc (Or.inl h0)
    have hnd : z.toInt % (D : Int) ≠ 0 := fun h0 => hc (Or.inr (Int.dvd_of_emod_eq_zero h0))
    rw [tq, Int.mul_comm, Int.mul_add, Int.mul_one] at tm
    have hq : z.toInt / (D : Int) < 0 := by
      by_cases h0 : z.toInt / (D : Int) < 0
      · exact h0
      · have := Int.mul_nonneg (show (0 : Int) ≤ (D : Int) by omega) (show 0 ≤ z.toInt / (D : Int) by omega)
        omega
    have hb : (D : Int) * (z.toInt / (D : Int)) + (D : Int) ≤ 0 := by
      have := Int.mul_le_mul_of_nonneg_left (show z.toInt / (D : Int) ≤ -1 by omega) (show (0 : Int) ≤ (D : Int) by omega)
      omega
    rw [Int.bmod_eq_of_le (by omega) (by omega)] at tm
    have hqb : -2147483648 ≤ z.toInt / (D : Int) := by
      have := Int.mul_le_mul_of_nonpos_right (show (2 : Int) ≤ (D : Int) by omega) (show z.toInt / (D : Int) ≤ 0 by omega)
      omega
    have q : w = z / nI D - 1 := by
      apply Int32.toInt_inj.mp
      rw [e, Int32.toInt_sub, tq, show (1 : Int32).toInt = 1 from by decide, Int.bmod_eq_of_le (by omega) (by omega)]
      omega
    rw [q] at h
    refine br_f ?_ h
    rw [Int32.le_iff_toInt_le, tm]
    omega
theorem bs_yquot {post : Int32 → Prop} (x y : Int32) (h : post (x / y)) : wpY_quotient post x y := by
  by_cases hy : y = 0
  · rw [hy, Int32.div_zero] at h
    exact br_t hy h
  · exact br_f hy ⟨hy, h⟩
theorem bs_yroot {post : Int32 → Prop} (u : Nat) (hu : u < 65536) (h : post (nI (bs_sq u 256))) : wpY_root post (nI u) := by
  have H : ∀ d r, r + d = 256 → r * r ≤ u → wY_root_2 post (nI u) (d + 1) (nI r) := by
    intro d
    induction d with
    | zero =>
      intro r hr hu2
      obtain rfl : r = 256 := by omega
      omega
    | succ d ih =>
      intro r hr hu2
      have hr2 : r + 1 ≤ 256 := by omega
      have hs := Nat.mul_le_mul hr2 hr2
      have es : (nI r + 1) * (nI r + 1) = nI ((r + 1) * (r + 1)) := by rw [nI_1, pk_mul]
      have e : (r + 1) * (r + 1) = r * r + 2 * r + 1 := by grind
      refine br_f (nI_ge (b := 256) (by omega) (by decide)) ?_
      rw [es]
      by_cases hc : u < (r + 1) * (r + 1)
      · have q := bs_sq_eq (u := u) (r := r) (m := u - r * r) hu (by omega) (by omega)
        rw [q] at h
        exact br_t (nI_lt hc (by omega)) h
      · exact br_f (nI_nlt (by omega) (by omega)) (nm_r (nI_1 r) (ih (r + 1) (by omega) (by omega)))
  exact ⟨257, H 256 0 rfl (by omega)⟩
theorem bs_yones {post : Int32 → Prop} (u : Nat) (hu : u < 65536) (h : post (nI (bs_cnt u 16 0))) : wpY_ones post (nI u) := by
  have H : ∀ d i c, i + d = 16 → post (nI (c + bs_cnt u d i)) → wY_ones_6 post (d + 1) (nI c) (nI (u / 2 ^ i)) (nI i) := by
    intro d
    induction d with
    | zero =>
      intro i c hi h
      obtain rfl : i = 16 := by omega
      exact br_t (nI_le (a := 16) (b := 16) (Nat.le_refl _) (by decide)) h
    | succ d ih =>
      intro i c hi h
      have hm : u / 2 ^ i ≤ u := Nat.div_le_self _ _
      have e1 : nI (u / 2 ^ i) - nI (u / 2 ^ i) / 2 * 2 = nI (u / 2 ^ i % 2) := pk_rem (d := 2) (by omega) (by decide) (by decide)
      have e2 : nI (u / 2 ^ i) / 2 = nI (u / 2 ^ (i + 1)) := by
        have q : nI (u / 2 ^ i) / 2 = nI (u / 2 ^ i / 2) := pk_div (d := 2) (by omega) (by decide) (by decide)
        rw [q, Nat.div_div_eq_div_mul, Nat.pow_succ]
      rw [bs_cnt, ← Nat.add_assoc] at h
      refine br_f (nI_ge (b := 16) (by omega) (by decide)) ⟨by decide, nm_r (e' := nI (c + u / 2 ^ i % 2)) ?_ ⟨by decide, nm_r e2 (nm_r (nI_1 i) (ih (i + 1) _ (by omega) h))⟩⟩
      rw [e1, nI_add]
  rw [← Nat.zero_add (bs_cnt u 16 0)] at h
  have q := H 16 0 0 rfl h
  rw [Nat.pow_zero, Nat.div_one] at q
  exact ⟨17, q⟩
theorem bs_udm (A B : BitVec 32) : A = B * (A / B) + A % B := by
  apply BitVec.eq_of_toNat_eq
  rw [BitVec.toNat_add, BitVec.toNat_mul, BitVec.toNat_udiv, BitVec.toNat_umod]
  have e := Nat.div_add_mod A.toNat B.toNat
  have hl := A.isLt
  rw [Nat.mod_eq_of_lt (a := B.toNat * (A.toNat / B.toNat)) (by omega), e, Nat.mod_eq_of_lt hl]
theorem bs_yrem (x y : BitVec 32) : x - y * x.sdiv y = x.srem y := by
  rw [bs_sdiv, bs_srem, BitVec.getLsbD_xor]
  have h := bs_udm (bs_ab x) (bs_ab y)
  have hx : bs_ab x = if x.getLsbD 31 = true then 0#32 - x else x := rfl
  have hy : bs_ab y = if y.getLsbD 31 = true then 0#32 - y else y := rfl
  revert h hx hy
  generalize bs_ab x / bs_ab y = q
  generalize bs_ab x % bs_ab y = m
  generalize bs_ab x = A
  generalize bs_ab y = B
  cases x.getLsbD 31 <;> cases y.getLsbD 31 <;> intro h hx hy
  · simp only [Bool.false_eq_true, if_false, Bool.xor_self] at hx hy ⊢
    grind
  · simp only [Bool.false_eq_true, if_false, if_true, Bool.false_xor] at hx hy ⊢
    grind
  · simp only [Bool.false_eq_true, if_false, if_true, Bool.xor_false] at hx hy ⊢
    grind
  · simp only [Bool.false_eq_true, if_false, if_true, Bool.xor_self] at hx hy ⊢
    grind
end
section
/-! ===== one line: the reference's result and step, the component's step ===== -/
section
variable {ln nx : Int32} {vv op ds lf rt : Nat → Int32}
theorem bs_yres {post : Int32 → Prop} (p o x y w : Nat) (a : Int32) (X Y : BitVec 32) (hp : p < 32) (hx : x < 8) (hy : y < 8) (hw : w < 16) (eo : op (nI p).toNatClampNeg = nI o) (ea : lf (nI p).toNatClampNeg = a) (ex : lf (nI p).toNatClampNeg &&& 7 = nI x) (ey : rt (nI p).toNatClampNeg &&& 7 = nI y) (ew : rt (nI p).toNatClampNeg &&& 15 = nI w) (vx : vv x = Int32.ofBitVec X) (vy : vv y = Int32.ofBitVec Y) (wx : bs_wd X = X) (wy : bs_wd Y = Y) (ho : o ≤ 16) (h : ∀ r : Int32, bs_wd r.toBitVec = bs_val o w a X Y → post r) : wpY_result post (ln, nx, vv, op, ds, lf, rt) (nI p) := by
  have hin : vp_in (nI p) 32 := bs_in32 hp
  have cx : vv (lf (nI p).toNatClampNeg &&& 7).toNatClampNeg = Int32.ofBitVec X := by rw [ex, nI_clamp (by omega), vx]
  have cy : vv (rt (nI p).toNatClampNeg &&& 7).toNatClampNeg = Int32.ofBitVec Y := by rw [ey, nI_clamp (by omega), vy]
  have ix : vp_in (lf (nI p).toNatClampNeg &&& 7) 8 := by rw [ex]; exact vp_in_nI hx (by decide)
  have iy : vp_in (rt (nI p).toNatClampNeg &&& 7) 8 := by rw [ey]; exact vp_in_nI hy (by decide)
  have hm : X.toNat % 65536 < 65536 := Nat.mod_lt _ (by decide)
  refine ⟨hin, nm_r eo ⟨hin, ix, nm_r cx ⟨hin, iy, nm_r cy ⟨hin, ?_⟩⟩⟩⟩
  rw [ew]
  refine bs_pow w hw ?_
  refine bs_plain X wx ?_
  clear eo
  match o, ho, h with
  | 0, ho, h =>
    exact br_t rfl ⟨hin, h _ (by rw [ea]; rfl)⟩
  | 1, ho, h =>
    exact br_f (by decide) (br_t rfl (h _ rfl))
  | 2, ho, h =>
    exact br_f (by decide) (br_f (by decide) (br_f (by decide) (br_f (by decide) (br_f (by decide) (br_f (by decide) (br_t rfl (h _ rfl)))))))
  | 3, ho, h =>
    exact br_f (by decide) (br_f (by decide) (br_f (by decide) (br_f (by decide) (br_f (by decide) (br_f (by decide) (br_f (by decide) (br_t rfl (h _ rfl))))))))
  | 4, ho, h =>
    exact br_f (by decide) (br_f (by decide) (br_f (by decide) (br_f (by decide) (br_f (by decide) (br_f (by decide) (br_f (by decide) (br_f (by decide) (br_t rfl (h _ rfl)))))))))
  | 5, ho, h =>
    refine br_f (by decide) (br_f (by decide) (br_f (by decide) (br_f (by decide) (br_f (by decide) (br_f (by decide) (br_f (by decide) (br_f (by decide) (br_f (by decide) (br_t rfl ?_)))))))))
    show wpY_down _ (Int32.ofBitVec X * Int32.ofBitVec Y) (nI (2 ^ 16))
    exact bs_down _ 16 (by decide) (h _ rfl)
  | 6, ho, h =>
    exact br_f (by decide) (br_f (by decide) (br_f (by decide) (br_f (by decide) (br_f (by decide) (br_f (by decide) (br_f (by decide) (br_f (by decide) (br_f (by decide) (br_f (by decide) (br_t rfl (bs_yquot _ _ (h _ rfl))))))))))))
  | 7, ho, h =>
    exact br_f (by decide) (br_f (by decide) (br_f (by decide) (br_f (by decide) (br_f (by decide) (br_f (by decide) (br_f (by decide) (br_f (by decide) (br_f (by decide) (br_f (by decide) (br_f (by decide) (br_t rfl (bs_yquot _ _ (h _ (congrArg bs_wd (bs_yrem X Y)))))))))))))))
  | 8, ho, h =>
    exact br_f (by decide) (br_f (by decide) (br_f (by decide) (br_f (by decide) (br_f (by decide) (br_f (by decide) (br_f (by decide) (br_f (by decide) (br_f (by decide) (br_f (by decide) (br_f (by decide) (br_f (by decide) (br_t rfl (h _ rfl)))))))))))))
  | 9, ho, h =>
    exact br_f (by decide) (br_f (by decide) (br_f (by decide) (br_f (by decide) (br_f (by decide) (br_f (by decide) (br_f (by decide) (br_f (by decide) (br_f (by decide) (br_f (by decide) (br_f (by decide) (br_f (by decide) (br_f (by decide) (br_t rfl (h _ rfl))))))))))))))
  | 10, ho, h =>
    exact br_f (by decide) (br_f (by decide) (br_f (by decide) (br_f (by decide) (br_f (by decide) (br_f (by decide) (br_f (by decide) (br_f (by decide) (br_f (by decide) (br_f (by decide) (br_f (by decide) (br_f (by decide) (br_f (by decide) (br_f (by decide) (br_t rfl (h _ rfl)))))))))))))))
  | 11, ho, h =>
    refine br_f (by decide) (br_f (by decide) (br_t rfl (h _ ?_)))
    have e : BitVec.ofNat 32 (2 ^ w) = BitVec.twoPow 32 w := BitVec.eq_of_toNat_eq (by rw [BitVec.toNat_ofNat, BitVec.toNat_twoPow])
    show bs_wd (X * BitVec.ofNat 32 (2 ^ w)) = bs_wd (X <<< w)
    rw [e, BitVec.mul_twoPow_eq_shiftLeft]
  | 12, ho, h =>
    exact br_f (by decide) (br_f (by decide) (br_f (by decide) (br_t rfl (bs_down _ w (by omega) (h _ rfl)))))
  | 13, ho, h =>
    refine br_f (by decide) (br_f (by decide) (br_f (by decide) (br_f (by decide) (br_f (by decide) (br_f (by decide) (br_f (by decide) (br_f (by decide) (br_f (by decide) (br_f (by decide) (br_f (by decide) (br_f (by decide) (br_f (by decide) (br_f (by decide) (br_f (by decide) (br_t rfl ?_)))))))))))))))
    by_cases hl : X.toInt < Y.toInt
    · refine br_f ?_ (h _ ?_)
      · rw [Int32.le_iff_toInt_le]
        show ¬ Y.toInt ≤ X.toInt
        omega
      · show _ = bs_wd (if X.toInt < Y.toInt then 1#32 else 0#32)
        rw [if_pos hl]
        rfl
    · refine br_t ?_ (h _ ?_)
      · rw [Int32.le_iff_toInt_le]
        show Y.toInt ≤ X.toInt
        omega
      · show _ = bs_wd (if X.toInt < Y.toInt then 1#32 else 0#32)
        rw [if_neg hl]
        rfl
  | 14, ho, h =>
    refine br_f (by decide) (br_f (by decide) (br_f (by decide) (br_f (by decide) (br_f (by decide) (br_f (by decide) (br_f (by decide) (br_f (by decide) (br_f (by decide) (br_f (by decide) (br_f (by decide) (br_f (by decide) (br_f (by decide) (br_f (by decide) (br_f (by decide) (br_f (by decide) (?_))))))))))))))))
    by_cases hl : X = Y
    · refine br_t (by rw [hl]) (h _ ?_)
      show _ = bs_wd (if X = Y then 1#32 else 0#32)
      rw [if_pos hl]
      rfl
    · refine br_f (fun q => hl (congrArg Int32.toBitVec q)) (h _ ?_)
      show _ = bs_wd (if X = Y then 1#32 else 0#32)
      rw [if_neg hl]
      rfl
  | 15, ho, h =>
    exact br_f (by decide) (br_f (by decide) (br_f (by decide) (br_f (by decide) (br_t rfl (bs_yroot _ hm (h _ rfl))))))
  | 16, ho, h =>
    exact br_f (by decide) (br_f (by decide) (br_f (by decide) (br_f (by decide) (br_f (by decide) (br_t rfl (bs_yones _ hm (h _ rfl)))))))
  | n + 17, ho, h => exact absurd ho (by omega)
theorem bs_ne_o {o k : Nat} (ho : o ≤ 16) (hk : 17 ≤ k) (hk2 : k < 100) : ¬ nI o = nI k := by
  rw [nI_eq (by omega) (by omega)]
  omega
theorem bs_ycarA {post : SY → Prop} (p o x y w : Nat) (a : Int32) (X Y : BitVec 32) (hp : p < 32) (hx : x < 8) (hy : y < 8) (hw : w < 16) (eo : op (nI p).toNatClampNeg = nI o) (ea : lf (nI p).toNatClampNeg = a) (ex : lf (nI p).toNatClampNeg &&& 7 = nI x) (ey : rt (nI p).toNatClampNeg &&& 7 = nI y) (ew : rt (nI p).toNatClampNeg &&& 15 = nI w) (vx : vv x = Int32.ofBitVec X) (vy : vv y = Int32.ofBitVec Y) (wx : bs_wd X = X) (wy : bs_wd Y = Y) (ho : o ≤ 16) (d : Nat) (hd : d < 8) (ed : ds (nI p).toNatClampNeg = nI d) (h : post (ln, nI (p + 1), upd vv d (Int32.ofBitVec (bs_val o w a X Y)), op, ds, lf, rt)) : wpY_carryOut post (ln, nx, vv, op, ds, lf, rt) (nI p) := by
  have hin : vp_in (nI p) 32 := bs_in32 hp
  have ix : vp_in (lf (nI p).toNatClampNeg &&& 7) 8 := by rw [ex]; exact vp_in_nI hx (by decide)
  have id8 : vp_in (ds (nI p).toNatClampNeg) 8 := by rw [ed]; exact vp_in_nI hd (by decide)
  have h17 : ¬ op (nI p).toNatClampNeg = 17 := by rw [eo]; exact bs_ne_o (k := 17) ho (by decide) (by decide)
  have h18 : ¬ op (nI p).toNatClampNeg = 18 := by rw [eo]; exact bs_ne_o (k := 18) ho (by decide) (by decide)
  refine ⟨hin, ix, nm_e ⟨hin, nm_e (nm_r (nI_1 p) ⟨hin, br_f h17 ⟨hin, br_f h18 ?_⟩⟩)⟩⟩
  refine bs_yres p o x y w a X Y hp hx hy hw eo ea ex ey ew vx vy wx wy ho (fun r hr => ⟨hin, bs_wrap r ⟨id8, nm_r (e' := upd vv d (Int32.ofBitVec (bs_val o w a X Y))) ?_ h⟩⟩)
  rw [ed, nI_clamp (by omega), hr]
theorem bs_ycar17 {post : SY → Prop} (p x y : Nat) (X : BitVec 32) (hp : p < 32) (hx : x < 8) (eo : op (nI p).toNatClampNeg = nI 17) (ex : lf (nI p).toNatClampNeg &&& 7 = nI x) (ey : rt (nI p).toNatClampNeg &&& 7 = nI y) (vx : vv x = Int32.ofBitVec X) (h : post (ln, nI (if X = 0 then p + 1 + y else p + 1), vv, op, ds, lf, rt)) : wpY_carryOut post (ln, nx, vv, op, ds, lf, rt) (nI p) := by
  have hin : vp_in (nI p) 32 := bs_in32 hp
  have ix : vp_in (lf (nI p).toNatClampNeg &&& 7) 8 := by rw [ex]; exact vp_in_nI hx (by decide)
  have cx : vv (lf (nI p).toNatClampNeg &&& 7).toNatClampNeg = Int32.ofBitVec X := by rw [ex, nI_clamp (by omega), vx]
  refine ⟨hin, ix, nm_r cx ⟨hin, nm_e (nm_r (nI_1 p) ⟨hin, br_t eo ?_⟩)⟩⟩
  by_cases hX : X = 0
  · rw [if_pos hX] at h
    refine br_t (by rw [hX]; rfl) (nm_r (e' := nI (p + 1 + y)) ?_ h)
    rw [ey, nI_add]
  · rw [if_neg hX] at h
    exact br_f (fun q => hX (congrArg Int32.toBitVec q)) h
theorem bs_sub31 (p z : Nat) (hp : p < 32) (hz : z < 32) : (0 ≤ nI p - nI z → nI p - nI z = nI (p - z)) ∧ (¬ 0 ≤ nI p - nI z → (0 : Int32) = nI (p - z)) := by
  have t := pk_sub_toInt (a := p) (b := z) (by omega) (by omega)
  constructor
  · intro h
    rw [Int32.le_iff_toInt_le, t, Int32.toInt_zero] at h
    exact pk_sub (by omega)
  · intro h
    rw [Int32.le_iff_toInt_le, t, Int32.toInt_zero] at h
    rw [show p - z = 0 by omega, nI_0]
theorem bs_ycar18 {post : SY → Prop} (p x z : Nat) (X : BitVec 32) (hp : p < 32) (hx : x < 8) (hz : z < 32) (eo : op (nI p).toNatClampNeg = nI 18) (ex : lf (nI p).toNatClampNeg &&& 7 = nI x) (ez : rt (nI p).toNatClampNeg &&& 31 = nI z) (vx : vv x = Int32.ofBitVec X) (h : post (ln, nI (if X = 0 then p + 1 else p - z), vv, op, ds, lf, rt)) : wpY_carryOut post (ln, nx, vv, op, ds, lf, rt) (nI p) := by
  have hin : vp_in (nI p) 32 := bs_in32 hp
  have ix : vp_in (lf (nI p).toNatClampNeg &&& 7) 8 := by rw [ex]; exact vp_in_nI hx (by decide)
  have cx : vv (lf (nI p).toNatClampNeg &&& 7).toNatClampNeg = Int32.ofBitVec X := by rw [ex, nI_clamp (by omega), vx]
  have h17 : ¬ op (nI p).toNatClampNeg = 17 := by rw [eo]; decide
  refine ⟨hin, ix, nm_r cx ⟨hin, nm_e (nm_r (nI_1 p) ⟨hin, br_f h17 ⟨hin, br_t eo ?_⟩⟩)⟩⟩
  by_cases hX : X = 0
  · rw [if_pos hX] at h
    exact br_t (by rw [hX]; rfl) h
  · rw [if_neg hX] at h
    refine br_f (fun q => hX (congrArg Int32.toBitVec q)) ?_
    rw [ez]
    have s := bs_sub31 p z hp hz
    refine br_c (fun q => nm_r (s.1 q) h) (fun q => ?_)
    rw [s.2 q]
    exact h
end
section
variable {ln nx la st : Int32} {op ds lf rt bi fr ki tt ff oo ss : Nat → Int32}
theorem bs_xcarA {post : SX → Prop} (p o d x y w : Nat) (a : Int32) (R : Nat → BitVec 32) (l : Bool) (hp : p < 32) (ho : o ≤ 16) (hd : d < 8) (hx : x < 8) (hy : y < 8) (hw : w < 16) (eo : op (nI p).toNatClampNeg = nI o) (ed : ds (nI p).toNatClampNeg = nI d) (ea : lf (nI p).toNatClampNeg = a) (ex : lf (nI p).toNatClampNeg &&& 7 = nI x) (ey : rt (nI p).toNatClampNeg &&& 7 = nI y) (ew : rt (nI p).toNatClampNeg &&& 15 = nI w) (wx : bs_wd (R x) = R x) (wy : bs_wd (R y) = R y) (h : ∀ (R' : Nat → BitVec 32) (l' : Bool) (st : Int32) (fr ki tt ff oo ss : Nat → Int32), (∀ v, v < 8 → R' v = if v = d then bs_val o w a (R x) (R y) else R v) → post (ln, nI (p + 1), bs_i l', st, op, ds, lf, rt, bs_B R', fr, ki, tt, ff, oo, ss)) : wpX_carryOut post (ln, nx, bs_i l, st, op, ds, lf, rt, bs_B R, fr, ki, tt, ff, oo, ss) (nI p) := by
  have hin : vp_in (nI p) 32 := bs_in32 hp
  refine ⟨hin, nm_r eo (br_t (nI_lt (b := 17) (by omega) (by decide)) ?_)⟩
  refine bs_trans p o d x y w a hp ho eo ed ea ex ey ew (fun ki tt ff oo ss hH => ?_)
  exact bs_pall (bs_prog o d x y w a) (bs_len_prog o d x y w a) (bs_ok_prog o d x y w a hd hx hy hw) hH R l (fun f => nm_r (nI_1 p) (h _ _ _ _ _ _ _ _ _ (fun v hv => bs_run1 o ho hx hy w hw wx wy a l v hv)))
theorem bs_xcar17 {post : SX → Prop} (p x y : Nat) (R : Nat → BitVec 32) (hp : p < 32) (hx : x < 8) (eo : op (nI p).toNatClampNeg = nI 17) (ex : lf (nI p).toNatClampNeg &&& 7 = nI x) (ey : rt (nI p).toNatClampNeg &&& 7 = nI y) (h : post (ln, nI (if R x = 0 then p + 1 + y else p + 1), la, st, op, ds, lf, rt, bs_B R, fr, ki, tt, ff, oo, ss)) : wpX_carryOut post (ln, nx, la, st, op, ds, lf, rt, bs_B R, fr, ki, tt, ff, oo, ss) (nI p) := by
  have hin : vp_in (nI p) 32 := bs_in32 hp
  refine ⟨hin, nm_r eo (br_f (by decide) ⟨hin, ?_⟩)⟩
  rw [ex]
  refine bs_isz x (by omega) R ?_
  refine nm_r (nI_1 p) (br_t rfl ?_)
  by_cases hX : R x = 0
  · rw [if_pos hX] at h
    rw [decide_eq_true hX]
    refine br_f bs_i_ne ⟨hin, nm_r (e' := nI (p + 1 + y)) ?_ h⟩
    rw [ey, nI_add]
  · rw [if_neg hX] at h
    rw [decide_eq_false hX]
    exact br_t rfl (br_f (by decide) h)
theorem bs_xcar18 {post : SX → Prop} (p x z : Nat) (R : Nat → BitVec 32) (hp : p < 32) (hx : x < 8) (hz : z < 32) (eo : op (nI p).toNatClampNeg = nI 18) (ex : lf (nI p).toNatClampNeg &&& 7 = nI x) (ez : rt (nI p).toNatClampNeg &&& 31 = nI z) (h : post (ln, nI (if R x = 0 then p + 1 else p - z), la, st, op, ds, lf, rt, bs_B R, fr, ki, tt, ff, oo, ss)) : wpX_carryOut post (ln, nx, la, st, op, ds, lf, rt, bs_B R, fr, ki, tt, ff, oo, ss) (nI p) := by
  have hin : vp_in (nI p) 32 := bs_in32 hp
  refine ⟨hin, nm_r eo (br_f (by decide) ⟨hin, ?_⟩)⟩
  rw [ex]
  refine bs_isz x (by omega) R ?_
  refine nm_r (nI_1 p) (br_f (by decide) ?_)
  unfold wX_carryOut_59
  refine br_t rfl ?_
  by_cases hX : R x = 0
  · rw [if_pos hX] at h
    rw [decide_eq_true hX]
    exact br_f bs_i_ne h
  · rw [if_neg hX] at h
    rw [decide_eq_false hX]
    refine br_t rfl ⟨hin, ?_⟩
    rw [ez]
    have s := bs_sub31 p z hp hz
    refine nm_e (br_c (fun q => ?_) (fun q => ?_))
    · rw [s.1 q]
      exact h
    · rw [s.2 q]
      exact h
end
end
section
/-! ===== the relation and the owed statements ===== -/
def bs_G (L N : Nat) (op ds vv : Nat → Int32) (R : Nat → BitVec 32) : Prop := L ≤ 32 ∧ N ≤ 64 ∧ (∀ i, ∃ o, o ≤ 18 ∧ op i = nI o) ∧ (∀ i, ∃ d, d < 8 ∧ ds i = nI d) ∧ ∀ v, v < 8 → vv v = Int32.ofBitVec (R v) ∧ bs_wd (R v) = R v
/-- the relation at the head of a turn: the two programs, counters and places are the same; every variable is a register, sign and all; the scratch is free -/
def i_Rel (k : Nat) (u : SX) (v : SY) : Prop := ∃ (L N : Nat) (l : Bool) (st : Int32) (op ds lf rt fr ki tt ff oo ss vv : Nat → Int32) (R : Nat → BitVec 32), u = (nI L, nI N, bs_i l, st, op, ds, lf, rt, bs_B R, fr, ki, tt, ff, oo, ss) ∧ v = (nI L, nI N, vv, op, ds, lf, rt) ∧ bs_G L N op ds vv R
theorem i_up {k : Nat} {u : SX} {v : SY} (h : i_Rel k u v) : i_Rel (k + 5) u v := h
theorem bs_el {k : Nat} {u : SX} {v : SY} {P : SX → SY → Prop} (I : i_Rel k u v) (h : ∀ (L N : Nat) (l : Bool) (st : Int32) (op ds lf rt fr ki tt ff oo ss vv : Nat → Int32) (R : Nat → BitVec 32), bs_G L N op ds vv R → P (nI L, nI N, bs_i l, st, op, ds, lf, rt, bs_B R, fr, ki, tt, ff, oo, ss) (nI L, nI N, vv, op, ds, lf, rt)) : P u v := by
  obtain ⟨L, N, l, st, op, ds, lf, rt, fr, ki, tt, ff, oo, ss, vv, R, hu, hv, g⟩ := I
  rw [hu, hv]
  exact h L N l st op ds lf rt fr ki tt ff oo ss vv R g
theorem bs_mk {k L N : Nat} {l : Bool} {st : Int32} {op ds lf rt fr ki tt ff oo ss vv : Nat → Int32} {R : Nat → BitVec 32} (g : bs_G L N op ds vv R) : i_Rel k (nI L, nI N, bs_i l, st, op, ds, lf, rt, bs_B R, fr, ki, tt, ff, oo, ss) (nI L, nI N, vv, op, ds, lf, rt) := ⟨L, N, l, st, op, ds, lf, rt, fr, ki, tt, ff, oo, ss, vv, R, rfl, rfl, g⟩
theorem bs_B0 : bs_B (fun _ => 0#32) = fun _ => 0 := by
  funext j
  unfold bs_B
  rw [show (0#32).getLsbD (j % 32) = false from BitVec.getLsbD_zero]
  rfl
theorem bs_wd0 : bs_wd 0#32 = 0#32 := by decide
theorem i_vc0 : wpX_init (fun u => wpY_init (fun v => i_Rel 0 u v)) := by
  have g : bs_G 0 0 (fun _ => 0) (fun _ => 0) (fun _ => 0) (fun _ => 0#32) := ⟨by decide, by decide, fun _ => ⟨0, by decide, rfl⟩, fun _ => ⟨0, by decide, rfl⟩, fun _ _ => ⟨rfl, bs_wd0⟩⟩
  have m := bs_mk (k := 0) (l := false) (st := 0) (lf := fun _ => 0) (rt := fun _ => 0) (fr := fun _ => 0) (ki := fun _ => 0) (tt := fun _ => 0) (ff := fun _ => 0) (oo := fun _ => 0) (ss := fun _ => 0) g
  rw [bs_B0] at m
  exact m
theorem i_vc_emit {k : Nat} {u : SX} {v : SY} (I : i_Rel k u v) (hk : k + 5 ≤ 2560) (v1 : Int32) (v2 : Int32) (v3 : Int32) (v4 : Int32) : wpX_emit (fun r u' => wpY_emit (fun r' v' => r' = r ∧ i_Rel (k + 5) u' v') v v1 v2 v3 v4) u v1 v2 v3 v4 := by
  refine bs_el (P := fun u v => wpX_emit (fun r u' => wpY_emit (fun r' v' => r' = r ∧ i_Rel (k + 5) u' v') v v1 v2 v3 v4) u v1 v2 v3 v4) I ?_
  intro L N l st op ds lf rt fr ki tt ff oo ss vv R g
  have m : i_Rel (k + 5) (nI L, nI N, bs_i l, st, op, ds, lf, rt, bs_B R, fr, ki, tt, ff, oo, ss) (nI L, nI N, vv, op, ds, lf, rt) := bs_mk g
  refine br_c (fun h0 => br_t h0 ⟨rfl, m⟩) (fun h0 => br_c (fun h1 => br_f h0 (br_t h1 ⟨rfl, m⟩)) (fun h1 => ?_))
  obtain ⟨gL, gN, go, gd, gv⟩ := g
  by_cases hL : L = 32
  · subst hL
    exact br_f (by decide) (br_f h0 (br_f h1 (br_t rfl ⟨rfl, m⟩)))
  · have hin : vp_in (nI L) 32 := bs_in32 (by omega)
    have hne : ¬ nI L = 32 := by
      show ¬ nI L = nI 32
      rw [nI_eq (by omega) (by omega)]
      exact hL
    refine br_t (nI_lt (b := 32) (by omega) (by decide)) ⟨hin, nm_e ⟨hin, nm_e ⟨hin, nm_e ⟨hin, nm_e (nm_r (nI_1 L) ?_)⟩⟩⟩⟩
    refine br_f h0 (br_f h1 (br_f hne ⟨hin, nm_e ⟨hin, nm_e ⟨hin, nm_e ⟨hin, nm_e (nm_r (nI_1 L) ⟨rfl, bs_mk ?_⟩)⟩⟩⟩⟩))
    refine ⟨by omega, gN, ?_, ?_, gv⟩
    · intro i
      by_cases hi : i = (nI L).toNatClampNeg
      · subst hi
        obtain ⟨j, hj, e⟩ := nI_of2 (M := 18) (n := 18) (by decide) h0 (Int32.not_lt.mp h1)
        exact ⟨j, hj, by rw [pk_us]; exact e⟩
      · obtain ⟨o, ho, e⟩ := go i
        exact ⟨o, ho, by rw [pk_un hi]; exact e⟩
    · intro i
      by_cases hi : i = (nI L).toNatClampNeg
      · subst hi
        obtain ⟨j, hj, e⟩ := pk_andE v2 (m := 7) 3 (by decide)
        exact ⟨j, by omega, by rw [pk_us]; exact e⟩
      · obtain ⟨o, ho, e⟩ := gd i
        exact ⟨o, ho, by rw [pk_un hi]; exact e⟩
theorem i_vc_clear {k : Nat} {u : SX} {v : SY} (I : i_Rel k u v) (hk : k + 5 ≤ 2560) : wpX_clear (fun u' => wpY_clear (fun v' => i_Rel (k + 5) u' v') v) u := by
  refine bs_el (P := fun u v => wpX_clear (fun u' => wpY_clear (fun v' => i_Rel (k + 5) u' v') v) u) I ?_
  intro L N l st op ds lf rt fr ki tt ff oo ss vv R g
  obtain ⟨gL, gN, g⟩ := g
  exact bs_mk (k := k + 5) (L := 0) (N := 0) ⟨by decide, by decide, g⟩
theorem i_vc_rewind {k : Nat} {u : SX} {v : SY} (I : i_Rel k u v) (hk : k + 5 ≤ 2560) : wpX_rewind (fun u' => wpY_rewind (fun v' => i_Rel (k + 5) u' v') v) u := by
  refine bs_el (P := fun u v => wpX_rewind (fun u' => wpY_rewind (fun v' => i_Rel (k + 5) u' v') v) u) I ?_
  intro L N l st op ds lf rt fr ki tt ff oo ss vv R g
  obtain ⟨gL, gN, g⟩ := g
  exact bs_mk (k := k + 5) (N := 0) ⟨gL, by decide, g⟩
theorem i_vc_next {k : Nat} {u : SX} {v : SY} (I : i_Rel k u v) (hk : k + 5 ≤ 2560) : wpX_next (fun r => wpY_next (fun r' => r' = r ∧ i_Rel (k + 5) u v) v) u := by
  have I2 := i_up I
  revert I2
  refine bs_el (P := fun u v => i_Rel (k + 5) u v → wpX_next (fun r => wpY_next (fun r' => r' = r ∧ i_Rel (k + 5) u v) v) u) I ?_
  intro L N l st op ds lf rt fr ki tt ff oo ss vv R g I2
  exact ⟨rfl, I2⟩
theorem bs_vv_up {vv : Nat → Int32} {R R' : Nat → BitVec 32} {d : Nat} {z : BitVec 32} (gv : ∀ v, v < 8 → vv v = Int32.ofBitVec (R v) ∧ bs_wd (R v) = R v) (hz : bs_wd z = z) (h : ∀ v, v < 8 → R' v = if v = d then z else R v) : ∀ v, v < 8 → upd vv d (Int32.ofBitVec z) v = Int32.ofBitVec (R' v) ∧ bs_wd (R' v) = R' v := by
  intro v hv
  rw [h v hv]
  by_cases e : v = d
  · subst e
    rw [pk_us, if_pos rfl]
    exact ⟨rfl, hz⟩
  · rw [pk_un e, if_neg e]
    exact gv v hv
theorem i_vc_set {k : Nat} {u : SX} {v : SY} (I : i_Rel k u v) (hk : k + 5 ≤ 2560) (v1 : Int32) (v2 : Int32) : wpX_set (fun u' => wpY_set (fun v' => i_Rel (k + 5) u' v') v v1 v2) u v1 v2 := by
  refine bs_el (P := fun u v => wpX_set (fun u' => wpY_set (fun v' => i_Rel (k + 5) u' v') v v1 v2) u v1 v2) I ?_
  intro L N l st op ds lf rt fr ki tt ff oo ss vv R g
  obtain ⟨gL, gN, go, gd, gv⟩ := g
  obtain ⟨j, hj, e⟩ := pk_andE v1 (m := 7) 3 (by decide)
  unfold wpX_set
  rw [e]
  refine bs_load 8 (by decide) R v2 ?_
  refine bs_widen j 8 (by omega) (by decide) (bs_up R 8 v2.toBitVec) (fun f => ?_)
  unfold wpY_set
  rw [e]
  refine bs_wrap v2 ⟨vp_in_nI (by omega) (by decide), nm_r (e' := upd vv j (Int32.ofBitVec (bs_wd v2.toBitVec))) ?_ ?_⟩
  · rw [nI_clamp (by omega)]
  · refine bs_mk ⟨gL, gN, go, gd, bs_vv_up gv (bs_wd_wd _) ?_⟩
    intro v hv
    show (if v = j then bs_wd (bs_up R 8 v2.toBitVec 8) else bs_up R 8 v2.toBitVec v) = _
    rw [bs_up_s, bs_up_n (by omega)]
theorem i_vc_get {k : Nat} {u : SX} {v : SY} (I : i_Rel k u v) (hk : k + 5 ≤ 2560) (v1 : Int32) : wpX_get (fun r => wpY_get (fun r' => r' = r ∧ i_Rel (k + 5) u v) v v1) u v1 := by
  have I2 := i_up I
  revert I2
  refine bs_el (P := fun u v => i_Rel (k + 5) u v → wpX_get (fun r => wpY_get (fun r' => r' = r ∧ i_Rel (k + 5) u v) v v1) u v1) I ?_
  intro L N l st op ds lf rt fr ki tt ff oo ss vv R g I2
  obtain ⟨gL, gN, go, gd, gv⟩ := g
  obtain ⟨j, hj, e⟩ := pk_andE v1 (m := 7) 3 (by decide)
  obtain ⟨ev, ew⟩ := gv j (by omega)
  have hin : vp_in (nI j) 8 := vp_in_nI (by omega) (by decide)
  unfold wpX_get
  rw [e]
  refine bs_uns j (by omega) R ?_
  have t : (vv (nI j).toNatClampNeg).toInt = Int.bmod (R j).toNat 65536 := by
    rw [nI_clamp (by omega), ev]
    have t := bs_wd_int (R j)
    rw [ew] at t
    exact t
  rw [bs_bm] at t
  have hl : (R j).toNat % 65536 < 65536 := Nat.mod_lt _ (by decide)
  revert t hl
  generalize (R j).toNat % 65536 = m
  intro t hl
  by_cases hm : m < 32768
  · rw [if_pos hm] at t
    refine br_t (nI_lt (b := 32768) hm (by decide)) ?_
    unfold wpY_get
    rw [e]
    exact ⟨hin, Int32.toInt_inj.mp (by rw [t, nI_toInt (by omega)]), I2⟩
  · rw [if_neg hm] at t
    refine br_f (nI_nlt (b := 32768) (by omega) (by omega)) ?_
    unfold wpY_get
    rw [e]
    refine ⟨hin, Int32.toInt_inj.mp ?_, I2⟩
    show _ = (nI m - nI 65536).toInt
    rw [t, pk_sub_toInt (by omega) (by omega)]
    rfl
section
variable {ln nx la st : Int32} {op ds lf rt bi fr ki tt ff oo ss : Nat → Int32}
variable {vv : Nat → Int32}
theorem bs_tot {R : Nat → BitVec 32} (gv : ∀ v, v < 8 → vv v = Int32.ofBitVec (R v) ∧ bs_wd (R v) = R v) : ∀ (d i : Nat) (s : Int32), i + d = 8 → ∃ r : Int32, (∀ post : Int32 → Prop, post r → wX_total_4 post ln nx la st op ds lf rt (bs_B R) fr ki tt ff oo ss (d + 1) s (nI i)) ∧ (∀ post : Int32 → Prop, post r → wY_total_4 post ln nx vv op ds lf rt (d + 1) s (nI i)) := by
  intro d
  induction d with
  | zero =>
    intro i s hi
    obtain rfl : i = 8 := by omega
    have h8 : (8 : Int32) ≤ nI 8 := nI_le (a := 8) (b := 8) (Nat.le_refl _) (by decide)
    exact ⟨s, fun _ hp => br_t h8 hp, fun _ hp => br_t h8 hp⟩
  | succ d ih =>
    intro i s hi
    obtain ⟨r, hX, hY⟩ := ih (i + 1) (s + nI ((R i).toNat % 65536)) (by omega)
    have hn : ¬ (8 : Int32) ≤ nI i := nI_ge (b := 8) (by omega) (by decide)
    refine ⟨r, fun post hp => br_f hn (bs_uns i (by omega) R (nm_e (nm_r (nI_1 i) (hX post hp)))), fun post hp => br_f hn ⟨vp_in_nI (by omega) (by decide), ?_⟩⟩
    rw [nI_clamp (by omega), (gv i (by omega)).1]
    exact bs_plain (R i) (gv i (by omega)).2 (nm_e (nm_r (nI_1 i) (hY post hp)))
end
theorem i_vc_total {k : Nat} {u : SX} {v : SY} (I : i_Rel k u v) (hk : k + 5 ≤ 2560) : wpX_total (fun r => wpY_total (fun r' => r' = r ∧ i_Rel (k + 5) u v) v) u := by
  have I2 := i_up I
  revert I2
  refine bs_el (P := fun u v => i_Rel (k + 5) u v → wpX_total (fun r => wpY_total (fun r' => r' = r ∧ i_Rel (k + 5) u v) v) u) I ?_
  intro L N l st op ds lf rt fr ki tt ff oo ss vv R g I2
  obtain ⟨r, hX, hY⟩ := bs_tot (ln := nI L) (nx := nI N) (la := bs_i l) (st := st) (op := op) (ds := ds) (lf := lf) (rt := rt) (fr := fr) (ki := ki) (tt := tt) (ff := ff) (oo := oo) (ss := ss) (vv := vv) g.2.2.2.2 8 0 0 rfl
  exact ⟨9, hX _ ⟨9, hY _ ⟨rfl, I2⟩⟩⟩
section
variable {L : Nat} {op ds lf rt : Nat → Int32}
theorem bs_runL (lim : Nat) (hlim : lim ≤ 60) {postX : Int32 → SX → Prop} : ∀ (m dn N : Nat) (l : Bool) (st : Int32) (fr ki tt ff oo ss vv : Nat → Int32) (R : Nat → BitVec 32), dn + m = lim → bs_G L N op ds vv R → (∀ r u', (∃ v', i_Rel 0 u' v' ∧ ∀ postY : Int32 → SY → Prop, postY r v' → wY_run_23 postY (nI lim) (m + 1) (nI dn) (nI L) (nI N) vv op ds lf rt) → postX r u') → wX_run_26 postX (nI lim) (m + 1) (nI dn) (nI dn) (nI L) (nI N) (bs_i l) st op ds lf rt (bs_B R) fr ki tt ff oo ss := by
  intro m
  induction m with
  | zero =>
    intro dn N l st fr ki tt ff oo ss vv R hd g h
    obtain rfl : dn = lim := by omega
    have hle : nI dn ≤ nI dn := nI_le (Nat.le_refl _) (by omega)
    exact br_t hle (h _ _ ⟨_, bs_mk g, fun postY hp => br_t hle hp⟩)
  | succ m ih =>
    intro dn N l st fr ki tt ff oo ss vv R hd g h
    have hn : ¬ nI lim ≤ nI dn := nI_ge (by omega) (by omega)
    have g0 := g
    obtain ⟨gL, gN, go, gd, gv⟩ := g
    by_cases hN : L ≤ N
    · exact br_f hn (br_t (nI_le hN (by omega)) (h _ _ ⟨_, bs_mk g0, fun postY hp => br_f hn (br_f (nI_nlt hN (by omega)) hp)⟩))
    · have hN32 : N < 32 := by omega
      have hlt : nI N < nI L := nI_lt (by omega) (by omega)
      have cN : (nI N).toNatClampNeg = N := nI_clamp (by omega)
      refine br_f hn (br_f (nI_ge (by omega) (by omega)) ?_)
      obtain ⟨o, ho, eo⟩ := go (nI N).toNatClampNeg
      obtain ⟨d, hd8, ed⟩ := gd (nI N).toNatClampNeg
      obtain ⟨x, hx, ex⟩ := pk_andE (lf (nI N).toNatClampNeg) (m := 7) 3 (by decide)
      obtain ⟨y, hy, ey⟩ := pk_andE (rt (nI N).toNatClampNeg) (m := 7) 3 (by decide)
      obtain ⟨w, hw, ew⟩ := pk_andE (rt (nI N).toNatClampNeg) (m := 15) 4 (by decide)
      obtain ⟨z, hz, ez⟩ := pk_andE (rt (nI N).toNatClampNeg) (m := 31) 5 (by decide)
      have hx8 : x < 8 := hx
      have hy8 : y < 8 := hy
      have hw16 : w < 16 := hw
      have hz32 : z < 32 := hz
      obtain ⟨vx, wx⟩ := gv x hx8
      obtain ⟨vy, wy⟩ := gv y hy8
      by_cases h16 : o ≤ 16
      · refine bs_xcarA N o d x y w _ R l hN32 h16 hd8 hx8 hy8 hw16 eo ed rfl ex ey ew wx wy (fun R' l' st fr ki tt ff oo ss hR => ?_)
        refine nm_r (nI_1 dn) (nm_r (nI_1 dn) ?_)
        refine ih (dn + 1) (N + 1) l' st fr ki tt ff oo ss (upd vv d (Int32.ofBitVec (bs_val o w (lf (nI N).toNatClampNeg) (R x) (R y)))) R' (by omega) ⟨gL, by omega, go, gd, bs_vv_up gv (bs_val_wd _ _ _ _ _) hR⟩ ?_
        intro r u' hv
        obtain ⟨v', I, hY⟩ := hv
        refine h r u' ⟨v', I, fun postY hp => br_f hn (br_t hlt ?_)⟩
        exact bs_ycarA N o x y w _ (R x) (R y) hN32 hx8 hy8 hw16 eo rfl ex ey ew vx vy wx wy h16 d hd8 ed (nm_r (nI_1 dn) (hY postY hp))
      · by_cases h17 : o = 17
        · subst h17
          refine bs_xcar17 N x y R hN32 hx8 eo ex ey ?_
          refine nm_r (nI_1 dn) (nm_r (nI_1 dn) ?_)
          refine ih (dn + 1) (if R x = 0 then N + 1 + y else N + 1) l st fr ki tt ff oo ss vv R (by omega) ⟨gL, ?_, go, gd, gv⟩ ?_
          · by_cases hX : R x = 0
            · rw [if_pos hX]
              omega
            · rw [if_neg hX]
              omega
          · intro r u' hv
            obtain ⟨v', I, hY⟩ := hv
            refine h r u' ⟨v', I, fun postY hp => br_f hn (br_t hlt ?_)⟩
            exact bs_ycar17 N x y (R x) hN32 hx8 eo ex ey vx (nm_r (nI_1 dn) (hY postY hp))
        · obtain rfl : o = 18 := by omega
          refine bs_xcar18 N x z R hN32 hx8 hz32 eo ex ez ?_
          refine nm_r (nI_1 dn) (nm_r (nI_1 dn) ?_)
          refine ih (dn + 1) (if R x = 0 then N + 1 else N - z) l st fr ki tt ff oo ss vv R (by omega) ⟨gL, ?_, go, gd, gv⟩ ?_
          · by_cases hX : R x = 0
            · rw [if_pos hX]
              omega
            · rw [if_neg hX]
              omega
          · intro r u' hv
            obtain ⟨v', I, hY⟩ := hv
            refine h r u' ⟨v', I, fun postY hp => br_f hn (br_t hlt ?_)⟩
            exact bs_ycar18 N x z (R x) hN32 hx8 hz32 eo ex ez vx (nm_r (nI_1 dn) (hY postY hp))
end
theorem i_vc_run {k : Nat} {u : SX} {v : SY} (I : i_Rel k u v) (hk : k + 5 ≤ 2560) (v1 : Int32) : wpX_run (fun r u' => wpY_run (fun r' v' => r' = r ∧ i_Rel (k + 5) u' v') v v1) u v1 := by
  refine bs_el (P := fun u v => wpX_run (fun r u' => wpY_run (fun r' v' => r' = r ∧ i_Rel (k + 5) u' v') v v1) u v1) I ?_
  intro L N l st op ds lf rt fr ki tt ff oo ss vv R g
  by_cases h0 : 0 ≤ v1
  · by_cases h60 : v1 ≤ 60
    · obtain ⟨j, hj, rfl⟩ := nI_of2 (M := 60) (n := 60) (by decide) (Int32.not_lt.mpr h0) h60
      refine br_t h0 (br_t h60 ⟨j + 1, bs_runL j hj j 0 N l st fr ki tt ff oo ss vv R (by omega) g ?_⟩)
      intro r u' hv
      obtain ⟨v', I2, hY⟩ := hv
      exact br_t h0 (br_t h60 ⟨j + 1, hY _ ⟨rfl, I2⟩⟩)
    · refine br_t h0 (br_f h60 ⟨61, bs_runL 60 (by decide) 60 0 N l st fr ki tt ff oo ss vv R (by omega) g ?_⟩)
      intro r u' hv
      obtain ⟨v', I2, hY⟩ := hv
      exact br_t h0 (br_f h60 ⟨61, hY _ ⟨rfl, I2⟩⟩)
  · refine br_f h0 ⟨1, bs_runL 0 (by decide) 0 0 N l st fr ki tt ff oo ss vv R (by omega) g ?_⟩
    intro r u' hv
    obtain ⟨v', I2, hY⟩ := hv
    exact br_f h0 ⟨1, hY _ ⟨rfl, I2⟩⟩
end
