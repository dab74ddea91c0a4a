section
/-! rows of kit/rows (PURE-ROWS, BITS), pasted: given text -/
theorem pk_us {f : Nat → Int32} {k : Nat} {x : Int32} : upd f k x k = x := if_pos rfl
theorem pk_un {f : Nat → Int32} {k j : Nat} {x : Int32} (h : j ≠ k) : upd f k x j = f j := if_neg h
theorem pk_sub {a b : Nat} (h : b ≤ a) : nI a - nI b = nI (a - b) := by
  obtain ⟨c, rfl⟩ : ∃ c, a = c + b := ⟨a - b, by omega⟩
  rw [← nI_add, Int32.add_sub_cancel, Nat.add_sub_cancel]
theorem pk_m1 (n : Nat) : nI (n + 1) + (-1) = nI n := by
  rw [← nI_1, Int32.add_assoc, show (1 : Int32) + (-1) = 0 from rfl, Int32.add_zero]
theorem pk_mul (a b : Nat) : nI a * nI b = nI (a * b) := (Int32.ofNat_mul a b).symm
theorem pk_div {a d : Nat} (ha : a < 2 ^ 31) (h0 : 0 < d) (hd : d < 2 ^ 31) : nI a / nI d = nI (a / d) := by
  apply Int32.toInt_inj.mp
  rw [lg_idiv_nonneg (by rw [nI_toInt ha]; omega) (by rw [nI_toInt hd]; omega), nI_toInt ha, nI_toInt hd, nI_toInt (Nat.lt_of_le_of_lt (Nat.div_le_self a d) ha)]
  first | rfl | exact (Int.natCast_ediv _ _).symm
theorem pk_rem {a d : Nat} (ha : a < 2 ^ 31) (h0 : 0 < d) (hd : d < 2 ^ 31) : nI a - nI a / nI d * nI d = nI (a % d) := by
  rw [pk_div ha h0 hd, pk_mul, pk_sub (Nat.div_mul_le_self a d)]
  exact congrArg nI (by have := Nat.div_add_mod' a d; omega)
theorem pk_ix (x : Int32) {n : Nat} (hn : n < 2 ^ 31) : x < 0 ∨ nI n ≤ x ∨ ∃ j : Nat, j < n ∧ x = nI j := by
  by_cases h : x < 0
  · exact Or.inl h
  · obtain ⟨j, hj, rfl⟩ := nI_of h
    by_cases h2 : j < n
    · exact Or.inr (Or.inr ⟨j, h2, rfl⟩)
    · exact Or.inr (Or.inl (nI_le (by omega) hj))
theorem pk_le {x y : Int32} {A B : Prop} (a b : Nat) (f : a ≤ b → A) (g : b < a → B) (hx : x = nI a := by rfl) (hy : y = nI b := by rfl) (ha : a < 2 ^ 31 := by omega) (hb : b < 2 ^ 31 := by omega) : (x ≤ y → A) ∧ (¬ x ≤ y → B) := by
  subst hx hy
  rw [nI_leI ha hb]
  exact ⟨f, fun z => g (by omega)⟩
theorem pk_lt {x y : Int32} {A B : Prop} (a b : Nat) (f : a < b → A) (g : b ≤ a → B) (hx : x = nI a := by rfl) (hy : y = nI b := by rfl) (ha : a < 2 ^ 31 := by omega) (hb : b < 2 ^ 31 := by omega) : (x < y → A) ∧ (¬ x < y → B) := by
  subst hx hy
  rw [nI_ltI ha hb]
  exact ⟨f, fun z => g (by omega)⟩
theorem pk_eq {x y : Int32} {A B : Prop} (a b : Nat) (f : a = b → A) (g : a ≠ b → B) (hx : x = nI a := by rfl) (hy : y = nI b := by rfl) (ha : a < 2 ^ 31 := by omega) (hb : b < 2 ^ 31 := by omega) : (x = y → A) ∧ (¬ x = y → B) := by
  subst hx hy
  rw [nI_eq ha hb]
  exact ⟨f, g⟩
theorem pk_in {x : Int32} (n N : Nat) (h : n < N) (hx : x = nI n := by rfl) (hN : N < 2 ^ 31 := by omega) : vp_in x N := by
  subst hx
  exact vp_in_nI h hN
theorem pk_cl {x : Int32} (n : Nat) (hx : x = nI n := by rfl) (h : n < 2 ^ 31 := by omega) : x.toNatClampNeg = n := by
  subst hx
  exact nI_clamp h
def bt (x : Int32) (i : Nat) : Bool := x.toBitVec.getLsbD i
theorem b_ext {x y : Int32} (h : ∀ i, i < 32 → bt x i = bt y i) : x = y := Int32.toBitVec_inj.mp (BitVec.eq_of_getLsbD_eq (fun i hi => h i hi))
theorem b_or (x y : Int32) (i : Nat) : bt (x ||| y) i = (bt x i || bt y i) := by unfold bt; rw [Int32.toBitVec_or, BitVec.getLsbD_or]
theorem b_and (x y : Int32) (i : Nat) : bt (x &&& y) i = (bt x i && bt y i) := by unfold bt; rw [Int32.toBitVec_and, BitVec.getLsbD_and]
theorem b_xor (x y : Int32) (i : Nat) : bt (x ^^^ y) i = (bt x i ^^ bt y i) := by unfold bt; rw [Int32.toBitVec_xor, BitVec.getLsbD_xor]
theorem b_big {x : Int32} {i : Nat} (h : 32 ≤ i) : bt x i = false := BitVec.getLsbD_of_ge _ _ h
theorem b_m1 : ∀ i, i < 32 → bt (-1) i = true := by decide +kernel
theorem b_0 (i : Nat) : bt 0 i = false := BitVec.getLsbD_zero
theorem s_l : ∀ n, n < 32 → ((nI n &&& 31).toBitVec.smod 32).toNat = n := by decide +kernel
theorem b_shl (n : Nat) (hn : n < 32) (x : Int32) {i : Nat} (hi : i < 32) : bt (x <<< (nI n &&& 31)) i = (decide (n ≤ i) && bt x (i - n)) := by
  unfold bt
  rw [Int32.toBitVec_shiftLeft]
  show (x.toBitVec <<< ((nI n &&& 31).toBitVec.smod 32).toNat).getLsbD i = _
  rw [s_l n hn, BitVec.getLsbD_shiftLeft]
  rcases Nat.lt_or_ge i n with h | h
  · simp [h, Nat.not_le.mpr h]
  · simp [hi, h, Nat.not_lt.mpr h]
end
section
/-! single bits, masks, sums of bits -/
/-- a truth value as the reference keeps it -/
def cc_b (b : Bool) : Int32 := cond b 1 0
theorem cc_be (b : Bool) : cc_b b = 0 ↔ b = false := by cases b <;> decide
theorem cc_n10 : ¬ (1 : Int32) = 0 := by decide
theorem cc_sb : ∀ r, r < 32 → ∀ i, i < 32 → bt ((1 : Int32) <<< (nI r &&& 31)) i = decide (i = r) := by decide +kernel
theorem cc_sB {r : Nat} (hr : r < 32) (i : Nat) : bt ((1 : Int32) <<< (nI r &&& 31)) i = decide (i = r) := by
  rcases Nat.lt_or_ge i 32 with h | h
  · exact cc_sb r hr i h
  · rw [b_big h, decide_eq_false (by omega)]
theorem cc_s0 : ((1 : Int32) <<< (nI (0) &&& 31)) = 1 := by decide +kernel
theorem cc_te {x : Int32} {r : Nat} (hr : r < 32) : (x &&& ((1 : Int32) <<< (nI r &&& 31))) = 0 ↔ bt x r = false := by
  constructor
  · intro h
    have e : bt (x &&& ((1 : Int32) <<< (nI r &&& 31))) r = false := by rw [h]; exact b_0 r
    rw [b_and, cc_sB hr, decide_eq_true rfl, Bool.and_true] at e
    exact e
  · intro h
    apply b_ext
    intro i hi
    rw [b_and, cc_sB hr, b_0]
    by_cases z : i = r
    · rw [z, h, Bool.false_and]
    · rw [decide_eq_false z, Bool.and_false]
/-- no member at or above n -/
def cc_w (n : Nat) (x : Int32) : Prop := ∀ i, n ≤ i → bt x i = false
theorem cc_w0 (n : Nat) : cc_w n 0 := fun i _ => b_0 i
theorem cc_wo {n : Nat} {x y : Int32} (h : cc_w n x) (k : cc_w n y) : cc_w n (x ||| y) := fun i hi => by rw [b_or, h i hi, k i hi]; rfl
theorem cc_ws {n r : Nat} (h : r < n) (hr : r < 32) : cc_w n ((1 : Int32) <<< (nI r &&& 31)) := fun i hi => by rw [cc_sB hr, decide_eq_false (by omega)]
theorem cc_w1 {n : Nat} (h : 0 < n) : cc_w n 1 := by
  have e := cc_ws (n := n) (r := 0) h (by omega)
  rw [cc_s0] at e
  exact e
theorem cc_wm {n n' : Nat} {x : Int32} (h : n ≤ n') (k : cc_w n x) : cc_w n' x := fun i hi => k i (by omega)
/-- the set of all managers -/
def cc_all (m : Nat) : Int32 := ((1 : Int32) <<< (nI m &&& 31)) - 1
theorem cc_ab : ∀ m, m < 5 → ∀ i, i < 32 → bt (cc_all m) i = decide (i < m) := by decide +kernel
theorem cc_aB {m : Nat} (hm : m < 5) (i : Nat) : bt (cc_all m) i = decide (i < m) := by
  rcases Nat.lt_or_ge i 32 with h | h
  · exact cc_ab m hm i h
  · rw [b_big h, decide_eq_false (by omega)]
theorem cc_aw {m : Nat} (hm : m < 5) : cc_w m (cc_all m) := fun i hi => by rw [cc_aB hm, decide_eq_false (by omega)]
theorem cc_oa {m : Nat} (hm : m < 5) {x : Int32} (h : cc_w m x) : x ||| cc_all m = cc_all m := by
  apply b_ext
  intro i _
  rw [b_or, cc_aB hm]
  by_cases z : i < m
  · rw [decide_eq_true z, Bool.or_true]
  · rw [decide_eq_false z, Bool.or_false, h i (by omega)]
theorem cc_o1 {x : Int32} (h : cc_w 1 x) : x ||| ((1 : Int32) <<< (nI (0) &&& 31)) = 1 := by
  apply b_ext
  intro i hi
  rw [b_or, cc_s0]
  by_cases z : i = 0
  · rw [z, show bt 1 0 = true from by decide +kernel, Bool.or_true]
  · rw [h i (by omega), Bool.false_or]
/-- the managers below n -/
theorem cc_a0 : cc_all 0 = 0 := by decide +kernel
theorem cc_as : ∀ r, r < 4 → cc_all r ||| ((1 : Int32) <<< (nI r &&& 31)) = cc_all (r + 1) := by decide +kernel
theorem cc_bo {x : Int32} {r s : Nat} (hr : r < 32) : cc_b (bt (x ||| ((1 : Int32) <<< (nI r &&& 31))) s) = if s = r then 1 else cc_b (bt x s) := by
  rw [b_or, cc_sB hr]
  by_cases z : s = r
  · rw [if_pos z, decide_eq_true z, Bool.or_true]; rfl
  · rw [if_neg z, decide_eq_false z, Bool.or_false]
/-- a sum of powers of two -/
def cc_ad (b : Bool) (r : Nat) (z : Int32) : Int32 := cond b (z + ((1 : Int32) <<< (nI r &&& 31))) z
def cc_sm (x : Int32) : Nat → Int32
  | 0 => 0
  | r + 1 => cc_ad (bt x r) r (cc_sm x r)
theorem cc_s4 : ∀ b0 b1 b2 b3 : Bool, ∀ i, i < 32 → bt (cc_ad b3 3 (cc_ad b2 2 (cc_ad b1 1 (cc_ad b0 0 0)))) i = (if i = 0 then b0 else if i = 1 then b1 else if i = 2 then b2 else if i = 3 then b3 else false) := by decide +kernel
theorem cc_smE {x : Int32} (h : cc_w 4 x) : cc_sm x 4 = x := by
  apply b_ext
  intro i hi
  show bt (cc_ad (bt x 3) 3 (cc_ad (bt x 2) 2 (cc_ad (bt x 1) 1 (cc_ad (bt x 0) 0 0)))) i = bt x i
  rw [cc_s4 _ _ _ _ i hi]
  by_cases h0 : i = 0
  · rw [if_pos h0, h0]
  · by_cases h1 : i = 1
    · rw [if_neg h0, if_pos h1, h1]
    · by_cases h2 : i = 2
      · rw [if_neg h0, if_neg h1, if_pos h2, h2]
      · by_cases h3 : i = 3
        · rw [if_neg h0, if_neg h1, if_neg h2, if_pos h3, h3]
        · rw [if_neg h0, if_neg h1, if_neg h2, if_neg h3, h i (by omega)]
/-- the gathered promises: none or one -/
def cc_g1 (x : Int32) : Prop := x = 0 ∨ x = 1 ∨ x = 2 ∨ x = 4
theorem cc_g1m {x : Int32} (h : cc_g1 x) : cc_sm x 3 = x := by
  rcases h with h | h | h | h <;> rw [h] <;> decide +kernel
/-- how many of the first n hold -/
def cc_ct (f : Nat → Bool) : Nat → Nat
  | 0 => 0
  | n + 1 => cond (f n) (cc_ct f n + 1) (cc_ct f n)
theorem cc_ctl (f : Nat → Bool) (n : Nat) : cc_ct f n ≤ n := by
  induction n with
  | zero => exact Nat.le_refl 0
  | succ n ih =>
    show cond (f n) (cc_ct f n + 1) (cc_ct f n) ≤ n + 1
    cases f n
    · exact Nat.le_succ_of_le ih
    · exact Nat.succ_le_succ ih
theorem cc_c3 : ∀ p q s : Bool, (p && q || p && s || q && s) = decide (2 ≤ cond s (cond q (cond p 1 0 + 1) (cond p 1 0) + 1) (cond q (cond p 1 0 + 1) (cond p 1 0))) := by decide
/-- two of three -/
theorem cc_mj (f : Nat → Int32) (r : Nat) : bt ((f 0 &&& f 1) ||| (f 0 &&& f 2) ||| (f 1 &&& f 2)) r = decide (2 ≤ cc_ct (fun a => bt (f a) r) 3) := by
  rw [b_or, b_or, b_and, b_and, b_and, cc_c3]
  rfl
/-- what a promise makes of the gathered ones: the set, its bits, whether it is a quorum -/
theorem cc_q : ∀ a, a < 3 → (∀ x, x = 0 ∨ x = 1 ∨ x = 2 ∨ x = 4 → bt x a = false →
    ((((x ||| ((1 : Int32) <<< (nI a &&& 31))) &&& ((x ||| ((1 : Int32) <<< (nI a &&& 31))) - 1)) = 0 → cc_g1 (x ||| ((1 : Int32) <<< (nI a &&& 31))) ∧ cc_ct (fun g => bt (x ||| ((1 : Int32) <<< (nI a &&& 31))) g) 3 ≠ 2) ∧
     (¬ ((x ||| ((1 : Int32) <<< (nI a &&& 31))) &&& ((x ||| ((1 : Int32) <<< (nI a &&& 31))) - 1)) = 0 → cc_ct (fun g => bt (x ||| ((1 : Int32) <<< (nI a &&& 31))) g) 3 = 2))) := by
  intro a ha x hx
  have h3 : a = 0 ∨ a = 1 ∨ a = 2 := by omega
  unfold cc_g1
  rcases h3 with h | h | h <;> subst h <;> rcases hx with h | h | h | h <;> subst h <;> decide +kernel
end
section
/-! the reference's arrays as functions of the component's -/
section
variable {he ac fl he' ac' fl' ga f F : Nat → Int32}
/-- an index of four numbers; t, b, a alone: kind 0 -/
def cc_ix (k t x a : Nat) : Nat := ((k * 4 + t) * 8 + x) * 3 + a
def cc_vx (t r b : Nat) : Nat := (t * 4 + r) * 8 + b
theorem cc_ixE (k t x a : Nat) : ((((nI k * 4) + nI t) * 8) + nI x) * 3 + nI a = nI (cc_ix k t x a) := by
  show ((nI k * nI 4 + nI t) * nI 8 + nI x) * nI 3 + nI a = _
  rw [pk_mul, nI_add, pk_mul, nI_add, pk_mul, nI_add]
  rfl
theorem cc_ixA (t x a : Nat) : (((nI t * 8) + nI x) * 3) + nI a = nI (cc_ix 0 t x a) := by
  show (nI t * nI 8 + nI x) * nI 3 + nI a = _
  rw [pk_mul, nI_add, pk_mul, nI_add]
  exact congrArg nI (by unfold cc_ix; omega)
theorem cc_vxE (t r b : Nat) : (((nI t * 4) + nI r) * 8) + nI b = nI (cc_vx t r b) := by
  show (nI t * nI 4 + nI r) * nI 8 + nI b = _
  rw [pk_mul, nI_add, pk_mul, nI_add]
  rfl
theorem cc_3E (t a : Nat) : (nI t * 3) + nI a = nI (t * 3 + a) := by
  show nI t * nI 3 + nI a = _
  rw [pk_mul, nI_add]
theorem cc_4E (t a : Nat) : (nI t * 4) + nI a = nI (t * 4 + a) := by
  show nI t * nI 4 + nI a = _
  rw [pk_mul, nI_add]
theorem cc_ixs (k t x a : Nat) : cc_ix k t x a = cc_ix k t x 0 + a := by unfold cc_ix; omega
theorem cc_ix8 (k t x a : Nat) : cc_ix (8 + k) t x a = 768 + cc_ix k t x a := by unfold cc_ix; omega
theorem cc_ix7 (t x a : Nat) : cc_ix 7 t x a = 672 + cc_ix 0 t x a := by unfold cc_ix; omega
theorem cc_ix12 (s t x a : Nat) : cc_ix (12 + s) t x a = 768 + (cc_ix 4 t x a + s * 96) := by unfold cc_ix; omega
theorem cc_ix4 (s t x a : Nat) : cc_ix (4 + s) t x a = cc_ix 4 t x a + s * 96 := by unfold cc_ix; omega
/-- a store within the array -/
theorem cc_st {n N : Nat} {v : Int32} {P : (Nat → Int32) → Prop} (h : n < N) (hN : N < 2 ^ 31) (k : P (upd f n v)) : vp_in (nI n) N ∧ ∀ y, y = upd f (nI n).toNatClampNeg v → P y :=
  ⟨vp_in_nI h hN, nm_r (by rw [nI_clamp (by omega)]) k⟩
/-- a range filled with one value -/
def cc_fil (F : Nat → Int32) (b n : Nat) (v : Int32) : Nat → Int32 := fun j => if b ≤ j ∧ j < b + n then v else F j
theorem cc_fil0 (b : Nat) (v : Int32) : cc_fil F b 0 v = F := by
  funext j
  exact if_neg (by omega)
theorem cc_fils (b n : Nat) (v : Int32) : upd (cc_fil F b n v) (b + n) v = cc_fil F b (n + 1) v := by
  funext j
  unfold upd cc_fil
  by_cases h : j = b + n
  · rw [if_pos h, if_pos (by omega)]
  · rw [if_neg h]
    by_cases k : b ≤ j ∧ j < b + n
    · rw [if_pos k, if_pos (by omega)]
    · rw [if_neg k, if_neg (by omega)]
theorem cc_filn {b n j : Nat} {v : Int32} (h : j < b ∨ b + n ≤ j) : cc_fil F b n v j = F j := if_neg (by omega)
theorem cc_fili {b n j : Nat} {v : Int32} (h : b ≤ j) (h2 : j < b + n) : cc_fil F b n v j = v := if_pos ⟨h, h2⟩
theorem cc_filu {b n j : Nat} {v w : Int32} (h : j < b ∨ b + n ≤ j) : cc_fil (upd F j w) b n v = upd (cc_fil F b n v) j w := by
  funext i
  by_cases e : i = j
  · rw [e, cc_filn h, pk_us, pk_us]
  · rw [pk_un e]
    unfold cc_fil
    rw [pk_un e]
/-- what stands at fact q, as a mask -/
def cc_g (he ac fl : Nat → Int32) (i : Nat) : Int32 := if i < 672 then he i else if i < 768 then ac (i - 672) else fl (i - 768)
def cc_fa (he ac fl : Nat → Int32) : Nat → Int32 := fun j => cc_b (bt (cc_g he ac fl (j / 4)) (j % 4))
theorem cc_gF (i : Nat) : cc_g he ac fl (768 + i) = fl i := by
  unfold cc_g; rw [if_neg (by omega), if_neg (by omega), Nat.add_sub_cancel_left]
theorem cc_gA {i : Nat} (h : i < 96) : cc_g he ac fl (672 + i) = ac i := by
  unfold cc_g; rw [if_neg (by omega), if_pos (by omega), Nat.add_sub_cancel_left]
theorem cc_gH {i : Nat} (h : i < 672) : cc_g he ac fl i = he i := if_pos h
theorem cc_gUF {q i : Nat} {v : Int32} (h : q ≠ 768 + i) : cc_g he ac (upd fl i v) q = cc_g he ac fl q := by
  unfold cc_g
  by_cases a : q < 672
  · rw [if_pos a, if_pos a]
  · rw [if_neg a, if_neg a]
    by_cases b : q < 768
    · rw [if_pos b, if_pos b]
    · rw [if_neg b, if_neg b, pk_un (by omega)]
theorem cc_gUA {q i : Nat} {v : Int32} (hi : i < 96) (h : q ≠ 672 + i) : cc_g he (upd ac i v) fl q = cc_g he ac fl q := by
  unfold cc_g
  by_cases a : q < 672
  · rw [if_pos a, if_pos a]
  · rw [if_neg a, if_neg a]
    by_cases b : q < 768
    · rw [if_pos b, if_pos b, pk_un (by omega)]
    · rw [if_neg b, if_neg b]
theorem cc_gUH {q i : Nat} {v : Int32} (h : q ≠ i) : cc_g (upd he i v) ac fl q = cc_g he ac fl q := by
  unfold cc_g
  by_cases a : q < 672
  · rw [if_pos a, if_pos a, pk_un h]
  · rw [if_neg a, if_neg a]
theorem cc_fR {q r : Nat} (hr : r < 4) : cc_fa he ac fl (q * 4 + r) = cc_b (bt (cc_g he ac fl q) r) := by
  unfold cc_fa
  rw [show (q * 4 + r) / 4 = q by omega, show (q * 4 + r) % 4 = r by omega]
theorem cc_fu {q r : Nat} {v : Int32} (hr : r < 4) (h1 : ∀ i, i ≠ q → cc_g he' ac' fl' i = cc_g he ac fl i)
    (h2 : ∀ s, cc_b (bt (cc_g he' ac' fl' q) s) = if s = r then v else cc_b (bt (cc_g he ac fl q) s)) : upd (cc_fa he ac fl) (q * 4 + r) v = cc_fa he' ac' fl' := by
  funext j
  unfold upd cc_fa
  by_cases hj : j / 4 = q
  · rw [hj, h2]
    by_cases hs : j % 4 = r
    · rw [if_pos (by omega), if_pos hs]
    · rw [if_neg (by omega), if_neg hs]
  · rw [h1 _ hj, if_neg (by omega)]
theorem cc_uF {i r : Nat} (hr : r < 4) : upd (cc_fa he ac fl) ((768 + i) * 4 + r) 1 = cc_fa he ac (upd fl i (fl i ||| ((1 : Int32) <<< (nI r &&& 31)))) :=
  cc_fu hr (fun _ hq => cc_gUF hq) (fun s => by rw [cc_gF, cc_gF, pk_us, cc_bo (by omega)])
theorem cc_uA {i r : Nat} (hi : i < 96) (hr : r < 4) : upd (cc_fa he ac fl) ((672 + i) * 4 + r) 1 = cc_fa he (upd ac i (ac i ||| ((1 : Int32) <<< (nI r &&& 31)))) fl :=
  cc_fu hr (fun _ hq => cc_gUA hi hq) (fun s => by rw [cc_gA hi, cc_gA hi, pk_us, cc_bo (by omega)])
theorem cc_uH {i r : Nat} (hi : i < 672) (hr : r < 4) : upd (cc_fa he ac fl) (i * 4 + r) 1 = cc_fa (upd he i (he i ||| ((1 : Int32) <<< (nI r &&& 31)))) ac fl :=
  cc_fu hr (fun _ hq => cc_gUH hq) (fun s => by rw [cc_gH hi, cc_gH hi, pk_us, cc_bo (by omega)])
theorem cc_zF {i : Nat} : cc_fil (cc_fa he ac fl) ((768 + i) * 4) 4 0 = cc_fa he ac (upd fl i 0) := by
  funext j
  unfold cc_fil cc_fa
  by_cases hj : j / 4 = 768 + i
  · rw [hj, if_pos (by omega), cc_gF, pk_us, b_0]; rfl
  · rw [if_neg (by omega), cc_gUF hj]
theorem cc_zH {p : Nat} (hp : p < 7) : cc_fil (cc_fa he ac fl) (p * 384) 384 0 = cc_fa (cc_fil he (p * 96) 96 0) ac fl := by
  funext j
  by_cases hj : p * 384 ≤ j ∧ j < p * 384 + 384
  · rw [cc_fili hj.1 hj.2]
    unfold cc_fa
    rw [cc_gH (by omega), cc_fili (by omega) (by omega), b_0]
    rfl
  · rw [cc_filn (by omega)]
    unfold cc_fa
    by_cases a : j / 4 < 672
    · rw [cc_gH a, cc_gH a, cc_filn (by omega)]
    · unfold cc_g
      rw [if_neg a, if_neg a]
/-- leader and transaction turned about -/
def cc_gi (q : Nat) : Nat := q % 4 * 3 + q / 4
def cc_tr (f : Nat → Int32) : Nat → Int32 := fun q => if q < 12 then f (cc_gi q) else 0
theorem cc_gE {t k : Nat} (ht : t < 4) : cc_gi (k * 4 + t) = t * 3 + k := by unfold cc_gi; omega
theorem cc_tE {t k : Nat} (ht : t < 4) (hk : k < 3) : cc_tr f (k * 4 + t) = f (t * 3 + k) := by
  unfold cc_tr; rw [if_pos (by omega), cc_gE ht]
theorem cc_tU {t k : Nat} {v : Int32} (ht : t < 4) (hk : k < 3) : upd (cc_tr f) (k * 4 + t) v = cc_tr (upd f (t * 3 + k) v) := by
  funext q
  by_cases hq : q = k * 4 + t
  · rw [hq, pk_us, cc_tE ht hk, pk_us]
  · rw [pk_un hq]
    unfold cc_tr
    by_cases h12 : q < 12
    · rw [if_pos h12, if_pos h12, pk_un (by unfold cc_gi; omega)]
    · rw [if_neg h12, if_neg h12]
/-- the promises gathered, one truth value a member -/
def cc_gb (ga : Nat → Int32) : Nat → Int32 := fun j => if j < 36 then cc_b (bt (ga (cc_gi (j / 3))) (j % 3)) else 0
theorem cc_bE {t k a : Nat} (ht : t < 4) (hk : k < 3) (ha : a < 3) : cc_gb ga ((k * 4 + t) * 3 + a) = cc_b (bt (ga (t * 3 + k)) a) := by
  unfold cc_gb
  rw [if_pos (by omega), show ((k * 4 + t) * 3 + a) / 3 = k * 4 + t by omega, show ((k * 4 + t) * 3 + a) % 3 = a by omega, cc_gE ht]
theorem cc_bU {t k a : Nat} (ht : t < 4) (hk : k < 3) (ha : a < 3) : upd (cc_gb ga) ((k * 4 + t) * 3 + a) 1 = cc_gb (upd ga (t * 3 + k) (ga (t * 3 + k) ||| ((1 : Int32) <<< (nI a &&& 31)))) := by
  funext j
  by_cases hj : j / 3 = k * 4 + t
  · show upd (cc_gb ga) ((k * 4 + t) * 3 + a) 1 j = if j < 36 then cc_b (bt (upd ga (t * 3 + k) (ga (t * 3 + k) ||| ((1 : Int32) <<< (nI a &&& 31))) (cc_gi (j / 3))) (j % 3)) else 0
    rw [if_pos (by omega), hj, cc_gE ht, pk_us, cc_bo (by omega)]
    by_cases hs : j % 3 = a
    · rw [if_pos hs, show j = (k * 4 + t) * 3 + a by omega, pk_us]
    · rw [if_neg hs, pk_un (by omega)]
      unfold cc_gb
      rw [if_pos (by omega), hj, cc_gE ht]
  · rw [pk_un (by omega)]
    unfold cc_gb
    by_cases h36 : j < 36
    · rw [if_pos h36, if_pos h36, pk_un (by unfold cc_gi; omega)]
    · rw [if_neg h36, if_neg h36]
theorem cc_bZ {t k : Nat} (ht : t < 4) (hk : k < 3) : cc_fil (cc_gb ga) ((k * 4 + t) * 3) 3 0 = cc_gb (upd ga (t * 3 + k) 0) := by
  funext j
  by_cases hj : j / 3 = k * 4 + t
  · rw [cc_fili (by omega) (by omega)]
    unfold cc_gb
    rw [if_pos (by omega), hj, cc_gE ht, pk_us, b_0]
    rfl
  · rw [cc_filn (by omega)]
    unfold cc_gb
    by_cases h36 : j < 36
    · rw [if_pos h36, if_pos h36, pk_un (by unfold cc_gi; omega)]
    · rw [if_neg h36, if_neg h36]
/-- a leader's gathered promises forgotten, of the first n transactions -/
def cc_fg (ga : Nat → Int32) (k n : Nat) : Nat → Int32 := fun j => if j % 3 = k ∧ j / 3 < n then 0 else ga j
theorem cc_fg0 (k : Nat) : cc_fg ga k 0 = ga := by
  funext j
  exact if_neg (by omega)
theorem cc_fgs {k n : Nat} (hk : k < 3) : upd (cc_fg ga k n) (n * 3 + k) 0 = cc_fg ga k (n + 1) := by
  funext j
  unfold upd cc_fg
  by_cases h : j = n * 3 + k
  · rw [if_pos h, if_pos (by omega)]
  · rw [if_neg h]
    by_cases z : j % 3 = k ∧ j / 3 < n
    · rw [if_pos z, if_pos (by omega)]
    · rw [if_neg z, if_neg (by omega)]
theorem cc_giP {k j : Nat} (hj : k * 12 ≤ j ∧ j < k * 12 + 12) (hk : k < 3) : cc_gi (j / 3) % 3 = k ∧ cc_gi (j / 3) / 3 < 4 := by
  have e : j / 3 / 4 = k := by omega
  unfold cc_gi
  rw [e]
  have := Nat.mod_lt (j / 3) (show 0 < 4 by decide)
  generalize j / 3 % 4 = r at *
  omega
theorem cc_giN {k j : Nat} (hj : ¬ (k * 12 ≤ j ∧ j < k * 12 + 12)) (h36 : j < 36) (hk : k < 3) : ¬ (cc_gi (j / 3) % 3 = k ∧ cc_gi (j / 3) / 3 < 4) := by
  have e : ¬ j / 3 / 4 = k := by omega
  have e3 : j / 3 / 4 < 3 := by omega
  unfold cc_gi
  generalize j / 3 / 4 = w at *
  generalize j / 3 % 4 = r at *
  omega
theorem cc_bP {k : Nat} (hk : k < 3) : cc_fil (cc_gb ga) (k * 12) 12 0 = cc_gb (cc_fg ga k 4) := by
  funext j
  by_cases hj : k * 12 ≤ j ∧ j < k * 12 + 12
  · rw [cc_fili hj.1 hj.2]
    unfold cc_gb
    rw [if_pos (by omega), show cc_fg ga k 4 (cc_gi (j / 3)) = 0 from if_pos (cc_giP hj hk), b_0]
    rfl
  · rw [cc_filn (by omega)]
    unfold cc_gb
    by_cases h36 : j < 36
    · rw [if_pos h36, if_pos h36, show cc_fg ga k 4 (cc_gi (j / 3)) = ga (cc_gi (j / 3)) from if_neg (cc_giN hj h36 hk)]
    · rw [if_neg h36, if_neg h36]
/-- a set added to the bundles of the first n sites; i: the first site's -/
def cc_bun (st : Nat → Bool) (n i : Nat) (S : Int32) (fl : Nat → Int32) : Nat → Int32 := fun j => if (i ≤ j ∧ (j - i) % 96 = 0 ∧ (j - i) / 96 < n) ∧ st ((j - i) / 96) = true then fl j ||| S else fl j
theorem cc_bun0 (st : Nat → Bool) (i : Nat) (S : Int32) : cc_bun st 0 i S fl = fl := by
  funext j
  exact if_neg (fun z => by have := z.1; omega)
theorem cc_bunt {st : Nat → Bool} {n i : Nat} {S : Int32} (h : st n = true) : upd (cc_bun st n i S fl) (i + n * 96) (cc_bun st n i S fl (i + n * 96) ||| S) = cc_bun st (n + 1) i S fl := by
  funext j
  have e : cc_bun st n i S fl (i + n * 96) = fl (i + n * 96) := if_neg (fun z => by have := z.1; omega)
  rw [e]
  by_cases hj : j = i + n * 96
  · rw [hj, pk_us]
    exact (if_pos ⟨by omega, by rw [show (i + n * 96 - i) / 96 = n by omega]; exact h⟩).symm
  · rw [pk_un hj]
    unfold cc_bun
    by_cases z : (i ≤ j ∧ (j - i) % 96 = 0 ∧ (j - i) / 96 < n) ∧ st ((j - i) / 96) = true
    · rw [if_pos z, if_pos ⟨by have := z.1; omega, z.2⟩]
    · rw [if_neg z, if_neg (fun y => z ⟨by have := y.1; omega, y.2⟩)]
theorem cc_bunf {st : Nat → Bool} {n i : Nat} {S : Int32} (h : st n = false) : cc_bun st n i S fl = cc_bun st (n + 1) i S fl := by
  funext j
  unfold cc_bun
  by_cases z : (i ≤ j ∧ (j - i) % 96 = 0 ∧ (j - i) / 96 < n) ∧ st ((j - i) / 96) = true
  · rw [if_pos z, if_pos ⟨by have := z.1; omega, z.2⟩]
  · rw [if_neg z, if_neg]
    intro y
    by_cases e : (j - i) / 96 = n
    · rw [e, h] at y
      exact absurd y.2 (by decide)
    · exact z ⟨by have := y.1; omega, y.2⟩
theorem cc_bunc (st : Nat → Bool) (n i : Nat) (S1 S2 : Int32) : cc_bun st n i S2 (cc_bun st n i S1 fl) = cc_bun st n i (S1 ||| S2) fl := by
  funext j
  unfold cc_bun
  by_cases z : (i ≤ j ∧ (j - i) % 96 = 0 ∧ (j - i) / 96 < n) ∧ st ((j - i) / 96) = true
  · rw [if_pos z, if_pos z, if_pos z, Int32.or_assoc]
  · rw [if_neg z, if_neg z, if_neg z]
theorem cc_bunz (st : Nat → Bool) (n i : Nat) : cc_bun st n i 0 fl = fl := by
  funext j
  unfold cc_bun
  by_cases z : (i ≤ j ∧ (j - i) % 96 = 0 ∧ (j - i) / 96 < n) ∧ st ((j - i) / 96) = true
  · rw [if_pos z, Int32.or_zero]
  · rw [if_neg z]
theorem cc_bunl {st : Nat → Bool} {n i j : Nat} {S : Int32} (h : j < i) : cc_bun st n i S fl j = fl j := if_neg (fun z => by have := z.1; omega)
theorem cc_bunu {st : Nat → Bool} {n i j : Nat} {S w : Int32} (h : j < i) : cc_bun st n i S (upd fl j w) = upd (cc_bun st n i S fl) j w := by
  funext q
  by_cases e : q = j
  · rw [e, cc_bunl h, pk_us, pk_us]
  · rw [pk_un e]
    unfold cc_bun
    rw [pk_un e]
theorem cc_bunw {st : Nat → Bool} {n i j : Nat} {S : Int32} {P : Int32 → Prop} (h : P (fl j)) (h2 : P (fl j ||| S)) : P (cc_bun st n i S fl j) := by
  unfold cc_bun
  by_cases z : (i ≤ j ∧ (j - i) % 96 = 0 ∧ (j - i) / 96 < n) ∧ st ((j - i) / 96) = true
  · rw [if_pos z]; exact h2
  · rw [if_neg z]; exact h
end
end
section
/-! numbers, stores of truth values, the small methods of both sides -/
theorem cc_vb0 : vp_nar .boolean 0 = 0 := by decide
theorem cc_vb1 : vp_nar .boolean 1 = 1 := by decide
theorem cc_st0 {f : Nat → Int32} {n N : Nat} {P : (Nat → Int32) → Prop} (h : n < N) (hN : N < 2 ^ 31) (k : P (upd f n 0)) : vp_in (nI n) N ∧ ∀ y, y = upd f (nI n).toNatClampNeg (vp_nar .boolean 0) → P y :=
  ⟨vp_in_nI h hN, nm_r (by rw [nI_clamp (by omega), cc_vb0]) k⟩
theorem cc_st1 {f : Nat → Int32} {n N : Nat} {P : (Nat → Int32) → Prop} (h : n < N) (hN : N < 2 ^ 31) (k : P (upd f n 1)) : vp_in (nI n) N ∧ ∀ y, y = upd f (nI n).toNatClampNeg (vp_nar .boolean 1) → P y :=
  ⟨vp_in_nI h hN, nm_r (by rw [nI_clamp (by omega), cc_vb1]) k⟩
/-- a load, then a test against a value -/
theorem cc_ld {f : Nat → Int32} {n N : Nat} {v : Int32} {A B : Prop} (h : n < N) (hN : N < 2 ^ 31) (a : f n = v → A) (b : ¬ f n = v → B) : vp_in (nI n) N ∧ ((f (nI n).toNatClampNeg = v → A) ∧ (¬ f (nI n).toNatClampNeg = v → B)) := by
  refine ⟨vp_in_nI h hN, ?_⟩
  rw [nI_clamp (by omega)]
  exact ⟨a, b⟩
theorem cc_ldt {f : Nat → Int32} {n N : Nat} {v : Int32} {A B : Prop} (h : n < N) (hN : N < 2 ^ 31) (e : f n = v) (a : A) : vp_in (nI n) N ∧ ((f (nI n).toNatClampNeg = v → A) ∧ (¬ f (nI n).toNatClampNeg = v → B)) :=
  cc_ld h hN (fun _ => a) (fun z => absurd e z)
theorem cc_ldf {f : Nat → Int32} {n N : Nat} {v : Int32} {A B : Prop} (h : n < N) (hN : N < 2 ^ 31) (e : ¬ f n = v) (b : B) : vp_in (nI n) N ∧ ((f (nI n).toNatClampNeg = v → A) ∧ (¬ f (nI n).toNatClampNeg = v → B)) :=
  cc_ld h hN (fun z => absurd z e) (fun _ => b)
theorem cc_neg {p : Int32} (n : Nat) (h : p < 0) (hn : n < 2 ^ 31) : p < nI n := by
  rw [Int32.lt_iff_toInt_lt] at h ⊢
  rw [nI_toInt hn]
  have : (0 : Int32).toInt = 0 := by decide
  omega
theorem cc_nn {p : Int32} (n : Nat) (h : nI n ≤ p) (hn : n < 2 ^ 31) : ¬ p < 0 := by
  rw [Int32.le_iff_toInt_le, nI_toInt hn] at h
  rw [Int32.lt_iff_toInt_lt]
  have : (0 : Int32).toInt = 0 := by decide
  omega
theorem cc_gt {p : Int32} (n : Nat) (h : nI (n + 1) ≤ p) (hn : n + 1 < 2 ^ 31) : nI n < p := by
  rw [Int32.le_iff_toInt_le, nI_toInt hn] at h
  rw [Int32.lt_iff_toInt_lt, nI_toInt (by omega)]
  omega
theorem cc_nle {p : Int32} (n : Nat) (h : nI (n + 1) ≤ p) (hn : n + 1 < 2 ^ 31) : ¬ p ≤ nI n := by
  rw [Int32.le_iff_toInt_le, nI_toInt hn] at h
  rw [Int32.le_iff_toInt_le, nI_toInt (by omega)]
  omega
theorem cc_ne {p : Int32} (n : Nat) (h : p < 0) (hn : n < 2 ^ 31) : ¬ p = nI n := fun e => by
  rw [e] at h
  exact nI_pos hn h
theorem cc_4l (l : Nat) : (4 : Int32) + nI l = nI (4 + l) := nI_add 4 l
theorem cc_7l (l : Nat) : (7 : Int32) + nI l = nI (7 + l) := nI_add 7 l
theorem cc_8l (l : Nat) : (8 : Int32) + nI l = nI (8 + l) := nI_add 8 l
theorem cc_12l (l : Nat) : (12 : Int32) + nI l = nI (12 + l) := nI_add 12 l
theorem cc_m4 {k : Nat} (h : 4 ≤ k) : nI k - 4 = nI (k - 4) := pk_sub (b := 4) h
/-- a site: a manager or a leader's place -/
def cc_site (m l s : Nat) : Bool := decide (s < m) || (decide (4 ≤ s) && decide (s < 4 + l))
theorem cc_siT {m l s : Nat} (h : s < m ∨ (4 ≤ s ∧ s < 4 + l)) : cc_site m l s = true := by
  unfold cc_site
  rcases h with h | h
  · rw [decide_eq_true h]; rfl
  · rw [decide_eq_true h.1, decide_eq_true h.2, Bool.and_true, Bool.or_true]
theorem cc_siF {m l s : Nat} (h : ¬ s < m) (h2 : ¬ (4 ≤ s ∧ s < 4 + l)) : cc_site m l s = false := by
  unfold cc_site
  rw [decide_eq_false h, Bool.false_or]
  by_cases z : 4 ≤ s
  · rw [decide_eq_false (fun y => h2 ⟨z, y⟩), Bool.and_false]
  · rw [decide_eq_false z, Bool.false_and]
theorem cc_siL {m l s : Nat} (hm : m < 5) (hl : l < 4) (h : cc_site m l s = true) : s < 7 := by
  by_cases a : s < m
  · omega
  · by_cases b : 4 ≤ s ∧ s < 4 + l
    · omega
    · rw [cc_siF a b] at h
      exact absurd h (by decide)
/-- the addresses there are -/
def cc_vk (m l tp k x : Nat) : Prop := (k = 0 ∧ x < m) ∨ (1 ≤ k ∧ k ≤ 3 ∧ 1 ≤ x ∧ x ≤ tp) ∨ (4 ≤ k ∧ cc_site m l (k - 4) = true ∧ x ≤ tp)
theorem cc_vkL {m l tp k x : Nat} (hm : m < 5) (hl : l < 4) (ht : tp < 8) (h : cc_vk m l tp k x) : k < 11 ∧ x < 8 := by
  rcases h with h | h | ⟨h1, h2, h3⟩
  · omega
  · omega
  · have := cc_siL hm hl h2
    omega
section
variable {m l tp : Nat} {bg vl pr ac la ga po he ou fl dn : Nat → Int32}
variable {post : Int32 → Prop} {p : Int32}
theorem xx_tr1 {t : Nat} (ht : t < 4) (hp : post 1) : wpX_isTransaction post ((nI m), (nI l), (nI tp), bg, vl, pr, ac, la, ga, po, he, ou, fl, dn) (nI t) :=
  br_f (nI_pos (by omega)) (br_f (nI_ge (b := 4) ht (by decide)) hp)
theorem xx_tr0 (h : p < 0 ∨ nI 4 ≤ p) (hp : post 0) : wpX_isTransaction post ((nI m), (nI l), (nI tp), bg, vl, pr, ac, la, ga, po, he, ou, fl, dn) p :=
  br_c (fun _ => hp) (fun z => br_t (h.resolve_left z) hp)
theorem xx_mg1 {r : Nat} (hm : m < 5) (hr : r < m) (hp : post 1) : wpX_isManager post ((nI m), (nI l), (nI tp), bg, vl, pr, ac, la, ga, po, he, ou, fl, dn) (nI r) :=
  br_f (nI_pos (by omega)) (br_f (nI_ge hr (by omega)) hp)
theorem xx_mg0 (h : p < 0 ∨ nI m ≤ p) (hp : post 0) : wpX_isManager post ((nI m), (nI l), (nI tp), bg, vl, pr, ac, la, ga, po, he, ou, fl, dn) p :=
  br_c (fun _ => hp) (fun z => br_t (h.resolve_left z) hp)
theorem xx_ac1 {a : Nat} (ha : a < 3) (hp : post 1) : wpX_isAcceptor post ((nI m), (nI l), (nI tp), bg, vl, pr, ac, la, ga, po, he, ou, fl, dn) (nI a) :=
  br_f (nI_pos (by omega)) (br_f (nI_ge (b := 3) ha (by decide)) hp)
theorem xx_ac0 (h : p < 0 ∨ nI 3 ≤ p) (hp : post 0) : wpX_isAcceptor post ((nI m), (nI l), (nI tp), bg, vl, pr, ac, la, ga, po, he, ou, fl, dn) p :=
  br_c (fun _ => hp) (fun z => br_t (h.resolve_left z) hp)
theorem xx_bl1 {b : Nat} (ht : tp < 8) (hb : b ≤ tp) (hp : post 1) : wpX_isBallot post ((nI m), (nI l), (nI tp), bg, vl, pr, ac, la, ga, po, he, ou, fl, dn) (nI b) :=
  br_f (nI_pos (by omega)) (br_f (nI_nlt hb (by omega)) hp)
theorem xx_bl0 (h : p < 0 ∨ nI tp < p) (hp : post 0) : wpX_isBallot post ((nI m), (nI l), (nI tp), bg, vl, pr, ac, la, ga, po, he, ou, fl, dn) p :=
  br_c (fun _ => hp) (fun z => br_t (h.resolve_left z) hp)
theorem xx_lp1 {s : Nat} (hl : l < 4) (h : 4 ≤ s) (h2 : s < 4 + l) (hp : post 1) : wpX_isLeaderPlace post ((nI m), (nI l), (nI tp), bg, vl, pr, ac, la, ga, po, he, ou, fl, dn) (nI s) :=
  br_f (nI_nlt (b := 4) h (by omega)) (br_f (by rw [cc_4l]; exact nI_ge h2 (by omega)) hp)
theorem xx_lp0 (h : p < nI 4 ∨ nI (4 + l) ≤ p) (hp : post 0) : wpX_isLeaderPlace post ((nI m), (nI l), (nI tp), bg, vl, pr, ac, la, ga, po, he, ou, fl, dn) p :=
  br_c (fun _ => hp) (fun z => br_t (by rw [cc_4l]; exact h.resolve_left z) hp)
theorem xx_pl1 {s : Nat} (h : 7 ≤ s) (h2 : s < 10) (hp : post 1) : wpX_isAcceptorPlace post ((nI m), (nI l), (nI tp), bg, vl, pr, ac, la, ga, po, he, ou, fl, dn) (nI s) :=
  br_f (nI_nlt (b := 7) h (by omega)) (br_f (nI_ge (b := 10) h2 (by decide)) hp)
theorem xx_pl0 (h : p < nI 7 ∨ nI 10 ≤ p) (hp : post 0) : wpX_isAcceptorPlace post ((nI m), (nI l), (nI tp), bg, vl, pr, ac, la, ga, po, he, ou, fl, dn) p :=
  br_c (fun _ => hp) (fun z => br_t (h.resolve_left z) hp)
theorem xx_si {s : Nat} (hm : m < 5) (hl : l < 4) (hs : s < 2 ^ 31) (hp : post (cc_b (cc_site m l s))) : wpX_isSite post ((nI m), (nI l), (nI tp), bg, vl, pr, ac, la, ga, po, he, ou, fl, dn) (nI s) := by
  unfold wpX_isSite
  dsimp only
  by_cases a : s < m
  · rw [cc_siT (Or.inl a)] at hp
    exact xx_mg1 hm a (br_f cc_n10 hp)
  · refine xx_mg0 (Or.inr (nI_le (by omega) hs)) (br_t rfl ?_)
    by_cases b : 4 ≤ s ∧ s < 4 + l
    · rw [cc_siT (Or.inr b)] at hp
      exact xx_lp1 hl b.1 b.2 (br_f cc_n10 hp)
    · rw [cc_siF a b] at hp
      refine xx_lp0 ?_ (br_t rfl hp)
      by_cases c : 4 ≤ s
      · exact Or.inr (nI_le (by omega) hs)
      · exact Or.inl (nI_lt (by omega) (by omega))
theorem xx_siN (h : p < 0) (hp : post 0) : wpX_isSite post ((nI m), (nI l), (nI tp), bg, vl, pr, ac, la, ga, po, he, ou, fl, dn) p := by
  unfold wpX_isSite
  dsimp only
  exact xx_mg0 (Or.inl h) (br_t rfl (xx_lp0 (Or.inl (cc_neg 4 h (by decide))) (br_t rfl hp)))
theorem yy_si12 {s : Nat} (hl : l < 4) (hs : s < 2 ^ 31) (hp : post (cc_b (decide (4 ≤ s) && decide (s < 4 + l)))) : wY_isSite_12 post (nI s) (nI m) (nI l) (nI tp) (cc_fa he ac fl) bg dn (cc_tr la) (cc_tr po) (cc_gb ga) pr vl ou := by
  unfold wY_isSite_12
  by_cases c : 4 ≤ s
  · rw [decide_eq_true c, Bool.true_and] at hp
    refine br_f (nI_nlt (b := 4) c (by omega)) ?_
    rw [cc_4l]
    by_cases b : s < 4 + l
    · rw [decide_eq_true b] at hp
      exact br_f (nI_ge b (by omega)) hp
    · rw [decide_eq_false b] at hp
      exact br_t (nI_le (by omega) hs) hp
  · rw [decide_eq_false c, Bool.false_and] at hp
    exact br_t (nI_lt (b := 4) (by omega) (by decide)) hp
theorem yy_si {s : Nat} (hm : m < 5) (hl : l < 4) (hs : s < 2 ^ 31) (hp : post (cc_b (cc_site m l s))) : wpY_isSite post ((nI m), (nI l), (nI tp), (cc_fa he ac fl), bg, dn, (cc_tr la), (cc_tr po), (cc_gb ga), pr, vl, ou) (nI s) := by
  refine br_f (nI_pos hs) ?_
  by_cases a : s < m
  · rw [cc_siT (Or.inl a)] at hp
    exact br_t (nI_lt a (by omega)) hp
  · refine br_f (nI_nlt (by omega) hs) (yy_si12 hl hs ?_)
    unfold cc_site at hp
    rw [decide_eq_false a, Bool.false_or] at hp
    exact hp
theorem yy_siN (h : p < 0) (hp : post 0) : wpY_isSite post ((nI m), (nI l), (nI tp), (cc_fa he ac fl), bg, dn, (cc_tr la), (cc_tr po), (cc_gb ga), pr, vl, ou) p :=
  br_t h (br_t (cc_neg 4 h (by decide)) hp)
theorem xx_fa {k t x a : Nat} (h : post (nI (cc_ix k t x a))) : wpX_flightAt post ((nI m), (nI l), (nI tp), bg, vl, pr, ac, la, ga, po, he, ou, fl, dn) (nI k) (nI t) (nI x) (nI a) := by
  show post (((((nI k * 4) + nI t) * 8) + nI x) * 3 + nI a)
  rw [cc_ixE]
  exact h
theorem xx_ha {k t x a : Nat} (h : post (nI (cc_ix k t x a))) : wpX_heardAt post ((nI m), (nI l), (nI tp), bg, vl, pr, ac, la, ga, po, he, ou, fl, dn) (nI k) (nI t) (nI x) (nI a) := by
  show post (((((nI k * 4) + nI t) * 8) + nI x) * 3 + nI a)
  rw [cc_ixE]
  exact h
theorem xx_aa {t x a : Nat} (h : post (nI (cc_ix 0 t x a))) : wpX_acceptedAt post ((nI m), (nI l), (nI tp), bg, vl, pr, ac, la, ga, po, he, ou, fl, dn) (nI t) (nI x) (nI a) := by
  show post (((nI t * 8) + nI x) * 3 + nI a)
  rw [cc_ixA]
  exact h
theorem xx_vx {t r b : Nat} (h : post (nI (cc_vx t r b))) : wpX_valueAt post ((nI m), (nI l), (nI tp), bg, vl, pr, ac, la, ga, po, he, ou, fl, dn) (nI t) (nI r) (nI b) := by
  show post (((nI t * 4) + nI r) * 8 + nI b)
  rw [cc_vxE]
  exact h
theorem yy_at {k t x a : Nat} (h : post (nI (cc_ix k t x a * 4))) : wpY_at post ((nI m), (nI l), (nI tp), (cc_fa he ac fl), bg, dn, (cc_tr la), (cc_tr po), (cc_gb ga), pr, vl, ou) (nI k) (nI t) (nI x) (nI a) := by
  show post ((((((nI k * 4) + nI t) * 8) + nI x) * 3 + nI a) * 4)
  rw [cc_ixE, show nI (cc_ix k t x a) * 4 = nI (cc_ix k t x a * 4) from pk_mul _ 4]
  exact h
theorem cc_ow {b : Nat} (hb : 1 ≤ b) (hb2 : b < 2 ^ 31) (hl : 0 < l) (hl2 : l < 4) : (nI b - 1) - (nI b - 1) / nI l * nI l = nI ((b - 1) % l) := by
  rw [show nI b - 1 = nI (b - 1) from pk_sub (b := 1) hb]
  exact pk_rem (by omega) hl (by omega)
theorem xx_ow {b : Nat} (hb : 1 ≤ b) (hb2 : b < 2 ^ 31) (hl : 0 < l) (hl2 : l < 4) (h : post (nI ((b - 1) % l))) : wpX_owner post ((nI m), (nI l), (nI tp), bg, vl, pr, ac, la, ga, po, he, ou, fl, dn) (nI b) := by
  refine And.intro (nI_ne0 hl (by omega)) ?_
  rw [cc_ow hb hb2 hl hl2]
  exact h
theorem yy_ow {b : Nat} (hb : 1 ≤ b) (hb2 : b < 2 ^ 31) (hl : 0 < l) (hl2 : l < 4) (h : post (nI ((b - 1) % l))) : wpY_owner post ((nI m), (nI l), (nI tp), (cc_fa he ac fl), bg, dn, (cc_tr la), (cc_tr po), (cc_gb ga), pr, vl, ou) (nI b) := by
  refine And.intro (nI_ne0 hl (by omega)) ?_
  rw [cc_ow hb hb2 hl hl2]
  exact h
theorem xx_va1 {k t x a : Nat} (hm : m < 5) (hl : l < 4) (htp : tp < 8) (ht : t < 4) (ha : a < 3) (h : cc_vk m l tp k x) (hp : post 1) : wpX_validAddress post ((nI m), (nI l), (nI tp), bg, vl, pr, ac, la, ga, po, he, ou, fl, dn) (nI k) (nI t) (nI x) (nI a) := by
  have hL := cc_vkL hm hl htp h
  unfold wpX_validAddress
  dsimp only
  refine xx_tr1 ht (br_f cc_n10 (xx_ac1 ha (br_f cc_n10 ?_)))
  have J (h1 : 1 ≤ x) (h2 : x ≤ tp) : wX_validAddress_44 post (nI x) (nI m) (nI l) (nI tp) bg vl pr ac la ga po he ou fl dn :=
    br_f (nI_nlt (b := 1) h1 (by omega)) (br_f (nI_nlt h2 (by omega)) hp)
  rcases h with ⟨rfl, hx⟩ | ⟨h1, h2, h3, h4⟩ | ⟨h1, h2, h3⟩
  · exact br_t rfl (xx_mg1 hm hx ⟨narrow_b1, hp⟩)
  · have hk : k = 1 ∨ k = 2 ∨ k = 3 := by omega
    rcases hk with rfl | rfl | rfl
    · exact br_f (by decide) (br_t rfl (J h3 h4))
    · exact br_f (by decide) (br_f (by decide) (br_t rfl (J h3 h4)))
    · exact br_f (by decide) (br_f (by decide) (br_f (by decide) (br_t rfl (J h3 h4))))
  · have e (j : Nat) (hj : j < 4) : ¬ nI k = nI j := fun z => by rw [nI_eq (by omega) (by omega)] at z; omega
    refine br_f (e 0 (by decide)) (br_f (e 1 (by decide)) (br_f (e 2 (by decide)) (br_f (e 3 (by decide)) (br_f (nI_nlt (b := 4) h1 (by omega)) ?_))))
    rw [cc_m4 h1]
    refine xx_si hm hl (by omega) ?_
    rw [h2]
    exact br_f cc_n10 (xx_bl1 htp h3 (br_f cc_n10 hp))
theorem xx_va0 {k t a : Nat} (hm : m < 5) (hl : l < 4) (htp : tp < 8) (hk : k < 2 ^ 31) (ht : t < 4) (ha : a < 3) (h : ∀ x, p = nI x → ¬ cc_vk m l tp k x) (hp : post 0) : wpX_validAddress post ((nI m), (nI l), (nI tp), bg, vl, pr, ac, la, ga, po, he, ou, fl, dn) (nI k) (nI t) p (nI a) := by
  unfold wpX_validAddress
  dsimp only
  refine xx_tr1 ht (br_f cc_n10 (xx_ac1 ha (br_f cc_n10 ?_)))
  have J (h1 : 1 ≤ k) (h2 : k ≤ 3) : wX_validAddress_44 post p (nI m) (nI l) (nI tp) bg vl pr ac la ga po he ou fl dn := by
    rcases pk_ix p (n := tp + 1) (by omega) with q | q | ⟨x, hx, q⟩
    · exact br_t (cc_neg 1 q (by decide)) hp
    · exact br_c (fun _ => hp) (fun _ => br_t (cc_gt tp q (by omega)) hp)
    · subst q
      by_cases z : x = 0
      · subst z
        exact br_t (nI_lt (a := 0) (b := 1) (by decide) (by decide)) hp
      · exact absurd (Or.inr (Or.inl ⟨h1, h2, by omega, by omega⟩)) (h x rfl)
  have hk4 : k = 0 ∨ k = 1 ∨ k = 2 ∨ k = 3 ∨ 4 ≤ k := by omega
  rcases hk4 with rfl | rfl | rfl | rfl | h1
  · refine br_t rfl ?_
    rcases pk_ix p (n := m) (by omega) with q | q | ⟨x, hx, q⟩
    · exact xx_mg0 (Or.inl q) ⟨narrow_b0, hp⟩
    · exact xx_mg0 (Or.inr q) ⟨narrow_b0, hp⟩
    · exact absurd (Or.inl ⟨rfl, hx⟩) (h x q)
  · exact br_f (by decide) (br_t rfl (J (by decide) (by decide)))
  · exact br_f (by decide) (br_f (by decide) (br_t rfl (J (by decide) (by decide))))
  · exact br_f (by decide) (br_f (by decide) (br_f (by decide) (br_t rfl (J (by decide) (by decide)))))
  · have e (j : Nat) (hj : j < 4) : ¬ nI k = nI j := fun z => by rw [nI_eq (by omega) (by omega)] at z; omega
    refine br_f (e 0 (by decide)) (br_f (e 1 (by decide)) (br_f (e 2 (by decide)) (br_f (e 3 (by decide)) (br_f (nI_nlt (b := 4) h1 (by omega)) ?_))))
    rw [cc_m4 h1]
    refine xx_si hm hl (by omega) ?_
    cases hs : cc_site m l (k - 4)
    · exact br_t rfl hp
    · refine br_f cc_n10 (xx_bl0 ?_ (br_t rfl hp))
      rcases pk_ix p (n := tp + 1) (by omega) with q | q | ⟨x, hx, q⟩
      · exact Or.inl q
      · exact Or.inr (cc_gt tp q (by omega))
      · exact absurd (Or.inr (Or.inr ⟨h1, hs, by omega⟩)) (h x q)
theorem yy_va1 {k t x a : Nat} (hm : m < 5) (hl : l < 4) (htp : tp < 8) (ht : t < 4) (ha : a < 3) (h : cc_vk m l tp k x) (hp : post 1) : wpY_valid post ((nI m), (nI l), (nI tp), (cc_fa he ac fl), bg, dn, (cc_tr la), (cc_tr po), (cc_gb ga), pr, vl, ou) (nI k) (nI t) (nI x) (nI a) := by
  have hL := cc_vkL hm hl htp h
  refine br_f (nI_pos (by omega)) (br_f (nI_nlt (a := 3) (b := t) (by omega) (by decide)) (br_f (nI_pos (by omega)) (br_f (nI_nlt (a := 2) (b := a) (by omega) (by decide)) (br_f (nI_pos (by omega)) (br_t (nI_pos' (by omega)) ?_)))))
  rcases h with ⟨rfl, hx⟩ | ⟨h1, h2, h3, h4⟩ | ⟨h1, h2, h3⟩
  · exact br_t rfl (br_f (nI_ge hx (by omega)) hp)
  · exact br_f (nI_ne0 (by omega) (by omega)) (br_f (nI_nlt h4 (by omega)) (br_f (nI_ge (b := 4) (by omega) (by decide)) (br_f (nI_nlt (b := 1) h3 (by omega)) hp)))
  · refine br_f (nI_ne0 (by omega) (by omega)) (br_f (nI_nlt h3 (by omega)) (br_t (nI_le (a := 4) h1 (by omega)) ?_))
    rw [cc_m4 h1]
    refine yy_si hm hl (by omega) ?_
    rw [h2]
    exact br_f cc_n10 hp
theorem yy_va0 {k t a : Nat} (hm : m < 5) (hl : l < 4) (htp : tp < 8) (hk : k < 2 ^ 31) (ht : t < 4) (ha : a < 3) (h : ∀ x, p = nI x → ¬ cc_vk m l tp k x) (hp : post 0) : wpY_valid post ((nI m), (nI l), (nI tp), (cc_fa he ac fl), bg, dn, (cc_tr la), (cc_tr po), (cc_gb ga), pr, vl, ou) (nI k) (nI t) p (nI a) := by
  refine br_f (nI_pos (by omega)) (br_f (nI_nlt (a := 3) (b := t) (by omega) (by decide)) (br_f (nI_pos (by omega)) (br_f (nI_nlt (a := 2) (b := a) (by omega) (by decide)) (br_f (nI_pos hk) ?_))))
  by_cases q0 : p < 0
  · exact br_f (Int32.not_le.mpr q0) hp
  refine br_t (Int32.not_lt.mp q0) ?_
  by_cases k0 : k = 0
  · subst k0
    refine br_t rfl ?_
    rcases pk_ix p (n := m) (by omega) with q | q | ⟨x, hx, q⟩
    · exact absurd q q0
    · exact br_t q hp
    · exact absurd (Or.inl ⟨rfl, hx⟩) (h x q)
  · refine br_f (nI_ne0 (by omega) hk) ?_
    rcases pk_ix p (n := tp + 1) (by omega) with q | q | ⟨x, hx, q⟩
    · exact absurd q q0
    · exact br_t (cc_gt tp q (by omega)) hp
    · subst q
      refine br_f (nI_nlt (by omega) (by omega)) ?_
      by_cases h1 : 4 ≤ k
      · refine br_t (nI_le (a := 4) h1 hk) ?_
        rw [cc_m4 h1]
        refine yy_si hm hl (by omega) ?_
        cases hs : cc_site m l (k - 4)
        · exact br_t rfl hp
        · exact absurd (Or.inr (Or.inr ⟨h1, hs, by omega⟩)) (h x rfl)
      · refine br_f (nI_ge (b := 4) (by omega) (by decide)) ?_
        by_cases z : x = 0
        · subst z
          exact br_t (nI_lt (a := 0) (b := 1) (by decide) (by decide)) hp
        · exact absurd (Or.inr (Or.inl ⟨by omega, by omega, by omega, by omega⟩)) (h x rfl)
end
section
variable {m l tp : Nat} {bg vl pr ac la ga po he ou fl dn : Nat → Int32}
/-- four numbers are an address, or both sides say that they are none -/
theorem cc_va (hm : m < 5) (hl : l < 4) (htp : tp < 8) (p0 p1 p2 p3 : Int32) :
    (∃ k t x a, p0 = nI k ∧ p1 = nI t ∧ p2 = nI x ∧ p3 = nI a ∧ t < 4 ∧ a < 3 ∧ cc_vk m l tp k x) ∨
    ((∀ post : Int32 → Prop, post 0 → wpX_validAddress post ((nI m), (nI l), (nI tp), bg, vl, pr, ac, la, ga, po, he, ou, fl, dn) p0 p1 p2 p3) ∧ (∀ post : Int32 → Prop, post 0 → wpY_valid post ((nI m), (nI l), (nI tp), (cc_fa he ac fl), bg, dn, (cc_tr la), (cc_tr po), (cc_gb ga), pr, vl, ou) p0 p1 p2 p3)) := by
  rcases pk_ix p1 (n := 4) (by decide) with q | q | ⟨t, ht, rfl⟩
  · exact Or.inr ⟨fun post hp => by unfold wpX_validAddress; dsimp only; exact xx_tr0 (Or.inl q) (br_t rfl hp), fun post hp => br_t q hp⟩
  · exact Or.inr ⟨fun post hp => by unfold wpX_validAddress; dsimp only; exact xx_tr0 (Or.inr q) (br_t rfl hp), fun post hp => br_f (cc_nn 4 q (by decide)) (br_t (cc_gt 3 q (by decide)) hp)⟩
  have y1 : ¬ nI t < 0 := nI_pos (by omega)
  have y2 : ¬ (3 : Int32) < nI t := nI_nlt (a := 3) (b := t) (by omega) (by decide)
  rcases pk_ix p3 (n := 3) (by decide) with q | q | ⟨a, ha, rfl⟩
  · exact Or.inr ⟨fun post hp => by unfold wpX_validAddress; dsimp only; exact xx_tr1 ht (br_f cc_n10 (xx_ac0 (Or.inl q) (br_t rfl hp))), fun post hp => br_f y1 (br_f y2 (br_t q hp))⟩
  · exact Or.inr ⟨fun post hp => by unfold wpX_validAddress; dsimp only; exact xx_tr1 ht (br_f cc_n10 (xx_ac0 (Or.inr q) (br_t rfl hp))), fun post hp => br_f y1 (br_f y2 (br_f (cc_nn 3 q (by decide)) (br_t (cc_gt 2 q (by decide)) hp)))⟩
  have y3 : ¬ nI a < 0 := nI_pos (by omega)
  have y4 : ¬ (2 : Int32) < nI a := nI_nlt (a := 2) (b := a) (by omega) (by decide)
  by_cases q : p0 < 0
  · exact Or.inr ⟨fun post hp => by unfold wpX_validAddress; dsimp only; exact xx_tr1 ht (br_f cc_n10 (xx_ac1 ha (br_f cc_n10 (br_f (cc_ne 0 q (by decide)) (br_f (cc_ne 1 q (by decide)) (br_f (cc_ne 2 q (by decide)) (br_f (cc_ne 3 q (by decide)) (br_t (cc_neg 4 q (by decide)) hp)))))))),
      fun post hp => br_f y1 (br_f y2 (br_f y3 (br_f y4 (br_t q hp))))⟩
  obtain ⟨k, hk, rfl⟩ := nI_of q
  by_cases hv : ∃ x, p2 = nI x ∧ cc_vk m l tp k x
  · obtain ⟨x, rfl, hv⟩ := hv
    exact Or.inl ⟨k, t, x, a, rfl, rfl, rfl, rfl, ht, ha, hv⟩
  · exact Or.inr ⟨fun post hp => xx_va0 hm hl htp hk ht ha (fun x e z => hv ⟨x, e, z⟩) hp, fun post hp => yy_va0 hm hl htp hk ht ha (fun x e z => hv ⟨x, e, z⟩) hp⟩
end
end
section
/-! sums and counts of the reference; majorities; what is chosen; what a site has learnt -/
theorem cc_bn (b : Bool) : ¬ cc_b b = 0 ↔ b = true := by cases b <;> decide
theorem cc_fuel {d n : Nat} (h : d < n) : ∃ q, n = q + 1 := ⟨n - 1, by omega⟩
section
variable {m l tp : Nat} {bg vl pr ac la ga po he ou fl dn : Nat → Int32}
variable {post : Int32 → Prop}
theorem yy_smL {k t x a : Nat} {z : Int32} (hz : cc_g he ac fl (cc_ix k t x a) = z) (hq : cc_ix k t x a < 1824) (hp : post (cc_sm z 4)) :
    ∀ d r, r + d = 4 → ∀ n, d < n → wY_sum_6 post (nI k) (nI t) (nI x) (nI a) (nI m) (nI l) (nI tp) (cc_fa he ac fl) bg dn (cc_tr la) (cc_tr po) (cc_gb ga) pr vl ou n (cc_sm z r) (nI r) := by
  intro d
  induction d with
  | zero =>
    intro r h n hn
    obtain ⟨n, rfl⟩ := cc_fuel hn
    obtain rfl : r = 4 := by omega
    exact br_t (nI_le (a := 4) (b := 4) (by omega) (by decide)) hp
  | succ d ih =>
    intro r h n hn
    obtain ⟨n, rfl⟩ := cc_fuel hn
    refine br_f (nI_ge (b := 4) (by omega) (by decide)) (yy_at ?_)
    show vp_in (nI (cc_ix k t x a * 4) + nI r) 7296 ∧ _
    rw [nI_add]
    refine cc_ld (by omega) (by decide) (fun e => ?_) (fun e => ?_)
    · rw [cc_fR (by omega), hz, cc_be] at e
      have e2 : cc_sm z (r + 1) = cc_sm z r := by
        show cc_ad (bt z r) r (cc_sm z r) = cc_sm z r
        rw [e]; rfl
      refine nm_r (nI_1 r) ?_
      have H := ih (r + 1) (by omega) n (by omega)
      rw [e2] at H
      exact H
    · rw [cc_fR (by omega), hz, cc_bn] at e
      have e2 : cc_sm z (r + 1) = cc_sm z r + ((1 : Int32) <<< (nI r &&& 31)) := by
        show cc_ad (bt z r) r (cc_sm z r) = _
        rw [e]; rfl
      refine nm_e (nm_r (nI_1 r) ?_)
      have H := ih (r + 1) (by omega) n (by omega)
      rw [e2] at H
      exact H
theorem yy_sm {k t x a : Nat} {z : Int32} (hz : cc_g he ac fl (cc_ix k t x a) = z) (hq : cc_ix k t x a < 1824) (hw : cc_w 4 z) (hp : post z) : wpY_sum post ((nI m), (nI l), (nI tp), (cc_fa he ac fl), bg, dn, (cc_tr la), (cc_tr po), (cc_gb ga), pr, vl, ou) (nI k) (nI t) (nI x) (nI a) := by
  have hp' : post (cc_sm z 4) := by rw [cc_smE hw]; exact hp
  exact ⟨5, yy_smL hz hq hp' 4 0 rfl 5 (by omega)⟩
theorem yy_smF {k t x a : Nat} (hk : k < 11) (ht : t < 4) (hx : x < 8) (ha : a < 3) (hw : cc_w 4 (fl (cc_ix k t x a))) (hp : post (fl (cc_ix k t x a))) : wpY_sum post ((nI m), (nI l), (nI tp), (cc_fa he ac fl), bg, dn, (cc_tr la), (cc_tr po), (cc_gb ga), pr, vl, ou) (8 + nI k) (nI t) (nI x) (nI a) := by
  rw [cc_8l]
  exact yy_sm (by rw [cc_ix8, cc_gF]) (by unfold cc_ix; omega) hw hp
theorem yy_smA {t x a : Nat} (ht : t < 4) (hx : x < 8) (ha : a < 3) (hw : cc_w 4 (ac (cc_ix 0 t x a))) (hp : post (ac (cc_ix 0 t x a))) : wpY_sum post ((nI m), (nI l), (nI tp), (cc_fa he ac fl), bg, dn, (cc_tr la), (cc_tr po), (cc_gb ga), pr, vl, ou) 7 (nI t) (nI x) (nI a) :=
  yy_sm (k := 7) (by rw [cc_ix7, cc_gA (by unfold cc_ix; omega)]) (by unfold cc_ix; omega) hw hp
theorem yy_smH {s t x a : Nat} (hs : s < 7) (ht : t < 4) (hx : x < 8) (ha : a < 3) (hw : cc_w 4 (he (cc_ix s t x a))) (hp : post (he (cc_ix s t x a))) : wpY_sum post ((nI m), (nI l), (nI tp), (cc_fa he ac fl), bg, dn, (cc_tr la), (cc_tr po), (cc_gb ga), pr, vl, ou) (nI s) (nI t) (nI x) (nI a) :=
  yy_sm (cc_gH (by unfold cc_ix; omega)) (by unfold cc_ix; omega) hw hp
theorem yy_ctL {k t x r : Nat} {G : Nat → Int32} (hG : ∀ a, a < 3 → cc_g he ac fl (cc_ix k t x a) = G a) (hq : cc_ix k t x 2 < 1824) (hr : r < 4) (hp : post (nI (cc_ct (fun a => bt (G a) r) 3))) :
    ∀ d a, a + d = 3 → ∀ n, d < n → wY_count_6 post (nI k) (nI t) (nI x) (nI r) (nI m) (nI l) (nI tp) (cc_fa he ac fl) bg dn (cc_tr la) (cc_tr po) (cc_gb ga) pr vl ou n (nI (cc_ct (fun a => bt (G a) r) a)) (nI a) := by
  intro d
  induction d with
  | zero =>
    intro a h n hn
    obtain ⟨n, rfl⟩ := cc_fuel hn
    obtain rfl : a = 3 := by omega
    exact br_t (nI_le (a := 3) (b := 3) (by omega) (by decide)) hp
  | succ d ih =>
    intro a h n hn
    obtain ⟨n, rfl⟩ := cc_fuel hn
    refine br_f (nI_ge (b := 3) (by omega) (by decide)) (yy_at ?_)
    show vp_in (nI (cc_ix k t x a * 4) + nI r) 7296 ∧ _
    rw [nI_add]
    have H := ih (a + 1) (by omega) n (by omega)
    refine cc_ld (by unfold cc_ix at hq ⊢; omega) (by decide) (fun e => ?_) (fun e => ?_)
    · rw [cc_fR hr, hG a (by omega), cc_be] at e
      have e2 : cc_ct (fun a => bt (G a) r) (a + 1) = cc_ct (fun a => bt (G a) r) a := by
        show cond (bt (G a) r) _ _ = _
        rw [e]; rfl
      rw [e2] at H
      exact nm_r (nI_1 a) H
    · rw [cc_fR hr, hG a (by omega), cc_bn] at e
      have e2 : cc_ct (fun a => bt (G a) r) (a + 1) = cc_ct (fun a => bt (G a) r) a + 1 := by
        show cond (bt (G a) r) _ _ = _
        rw [e]; rfl
      rw [e2] at H
      exact nm_r (nI_1 _) (nm_r (nI_1 a) H)
/-- r is in two of the three sets from i on -/
def cc_m3 (f : Nat → Int32) (i r : Nat) : Bool := decide (2 ≤ cc_ct (fun a => bt (f (i + a)) r) 3)
theorem cc_mj3 (f : Nat → Int32) (i r : Nat) : bt (((f i &&& f (i + 1)) ||| (f i &&& f (i + 2))) ||| (f (i + 1) &&& f (i + 2))) r = cc_m3 f i r := cc_mj (fun a => f (i + a)) r
theorem yy_ct {k t x r : Nat} {G : Nat → Int32} (hG : ∀ a, a < 3 → cc_g he ac fl (cc_ix k t x a) = G a) (hq : cc_ix k t x 2 < 1824) (hr : r < 4) (hp : post (nI (cc_ct (fun a => bt (G a) r) 3))) : wpY_count post ((nI m), (nI l), (nI tp), (cc_fa he ac fl), bg, dn, (cc_tr la), (cc_tr po), (cc_gb ga), pr, vl, ou) (nI k) (nI t) (nI x) (nI r) :=
  ⟨4, yy_ctL hG hq hr hp 3 0 rfl 4 (by omega)⟩
theorem yy_ctA {t x r : Nat} (ht : t < 4) (hx : x < 8) (hr : r < 4) (hp : post (nI (cc_ct (fun a => bt (ac (cc_ix 0 t x 0 + a)) r) 3))) : wpY_count post ((nI m), (nI l), (nI tp), (cc_fa he ac fl), bg, dn, (cc_tr la), (cc_tr po), (cc_gb ga), pr, vl, ou) 7 (nI t) (nI x) (nI r) :=
  yy_ct (k := 7) (G := fun a => ac (cc_ix 0 t x 0 + a)) (fun a ha => by rw [cc_ix7, cc_gA (by unfold cc_ix; omega), cc_ixs]) (by unfold cc_ix; omega) hr hp
theorem yy_ctH {s t x r : Nat} (hs : s < 7) (ht : t < 4) (hx : x < 8) (hr : r < 4) (hp : post (nI (cc_ct (fun a => bt (he (cc_ix s t x 0 + a)) r) 3))) : wpY_count post ((nI m), (nI l), (nI tp), (cc_fa he ac fl), bg, dn, (cc_tr la), (cc_tr po), (cc_gb ga), pr, vl, ou) (nI s) (nI t) (nI x) (nI r) :=
  yy_ct (G := fun a => he (cc_ix s t x 0 + a)) (fun a ha => by rw [cc_gH (by unfold cc_ix; omega), cc_ixs]) (by unfold cc_ix; omega) hr hp
theorem xx_mj {p q s : Int32} (h : post (((p &&& q) ||| (p &&& s)) ||| (q &&& s))) : wpX_majority post ((nI m), (nI l), (nI tp), bg, vl, pr, ac, la, ga, po, he, ou, fl, dn) p q s := h
/-- a test of a count against two -/
theorem cc_c2 {f : Nat → Int32} {i r : Nat} {A B : Prop} (a : cc_m3 f i r = false → A) (b : cc_m3 f i r = true → B) : (nI (cc_ct (fun a => bt (f (i + a)) r) 3) < 2 → A) ∧ (¬ nI (cc_ct (fun a => bt (f (i + a)) r) 3) < 2 → B) := by
  have hl := cc_ctl (fun a => bt (f (i + a)) r) 3
  refine pk_lt _ 2 (fun h => a ?_) (fun h => b ?_) rfl rfl (by omega) (by omega)
  · exact decide_eq_false (by omega)
  · exact decide_eq_true h
theorem cc_cm {f : Nat → Int32} {i r : Nat} {A B : Prop} (hr : r < 32) (a : cc_m3 f i r = false → A) (b : cc_m3 f i r = true → B) :
    ((((((f i &&& f (i + 1)) ||| (f i &&& f (i + 2))) ||| (f (i + 1) &&& f (i + 2))) &&& ((1 : Int32) <<< (nI r &&& 31))) = 0 → A) ∧ (¬ ((((f i &&& f (i + 1)) ||| (f i &&& f (i + 2))) ||| (f (i + 1) &&& f (i + 2))) &&& ((1 : Int32) <<< (nI r &&& 31))) = 0 → B)) := by
  rw [cc_te hr, cc_mj3]
  refine ⟨a, fun z => b ?_⟩
  cases h : cc_m3 f i r
  · exact absurd h z
  · rfl
/-- the value at the first ballot from b on, of d, that a majority accepted -/
def cc_ch (f : Nat → Bool) (v : Nat → Int32) : Nat → Nat → Int32
  | 0, _ => 0
  | d + 1, b => cond (f b) (v b) (cc_ch f v d (b + 1))
theorem xx_ch {t r : Nat} (htp : tp < 8) (ht : t < 4) (hr : r < 4) : ∀ d b, b + d = tp + 1 → ∀ n, d < n → post (cc_ch (fun b => cc_m3 ac (cc_ix 0 t b 0) r) (fun b => vl (cc_vx t r b)) d b) → wX_chosen_20 post (nI t) (nI r) (nI m) (nI l) (nI tp) bg vl pr ac la ga po he ou fl dn n (nI b) := by
  intro d
  induction d with
  | zero =>
    intro b h n hn hp
    obtain ⟨n, rfl⟩ := cc_fuel hn
    exact br_t (nI_lt (by omega) (by omega)) hp
  | succ d ih =>
    intro b h n hn hp
    obtain ⟨n, rfl⟩ := cc_fuel hn
    refine br_f (nI_nlt (by omega) (by omega)) (xx_aa (a := 0) ?_)
    have hi : cc_ix 0 t b 0 + 2 < 96 := by unfold cc_ix; omega
    refine And.intro (vp_in_nI (by omega) (by decide)) ?_
    rw [nI_1 (cc_ix 0 t b 0), show nI (cc_ix 0 t b 0) + 2 = nI (cc_ix 0 t b 0 + 2) from nI_add _ 2]
    refine And.intro (vp_in_nI (by omega) (by decide)) (And.intro (vp_in_nI (by omega) (by decide)) ?_)
    rw [nI_clamp (n := cc_ix 0 t b 0) (by omega), nI_clamp (n := cc_ix 0 t b 0 + 1) (by omega), nI_clamp (n := cc_ix 0 t b 0 + 2) (by omega)]
    refine xx_mj (cc_cm (by omega) (fun e => ?_) (fun e => ?_))
    · refine nm_r (nI_1 b) (ih (b + 1) (by omega) n (by omega) ?_)
      have hp2 : post (cond (cc_m3 ac (cc_ix 0 t b 0) r) (vl (cc_vx t r b)) (cc_ch (fun b => cc_m3 ac (cc_ix 0 t b 0) r) (fun b => vl (cc_vx t r b)) d (b + 1))) := hp
      rw [e] at hp2
      exact hp2
    · refine xx_vx ?_
      have hp2 : post (cond (cc_m3 ac (cc_ix 0 t b 0) r) (vl (cc_vx t r b)) (cc_ch (fun b => cc_m3 ac (cc_ix 0 t b 0) r) (fun b => vl (cc_vx t r b)) d (b + 1))) := hp
      rw [e] at hp2
      refine And.intro (vp_in_nI (by unfold cc_vx; omega) (by decide)) ?_
      rw [nI_clamp (by unfold cc_vx; omega)]
      exact hp2
theorem yy_ch {t r : Nat} (htp : tp < 8) (ht : t < 4) (hr : r < 4) : ∀ d b, b + d = tp + 1 → ∀ n, d < n → post (cc_ch (fun b => cc_m3 ac (cc_ix 0 t b 0) r) (fun b => vl (cc_vx t r b)) d b) → wY_chosen_25 post (nI t) (nI r) (nI m) (nI l) (nI tp) (cc_fa he ac fl) bg dn (cc_tr la) (cc_tr po) (cc_gb ga) pr vl ou n (nI b) := by
  intro d
  induction d with
  | zero =>
    intro b h n hn hp
    obtain ⟨n, rfl⟩ := cc_fuel hn
    exact br_t (nI_lt (by omega) (by omega)) hp
  | succ d ih =>
    intro b h n hn hp
    obtain ⟨n, rfl⟩ := cc_fuel hn
    have hp2 : post (cond (cc_m3 ac (cc_ix 0 t b 0) r) (vl (cc_vx t r b)) (cc_ch (fun b => cc_m3 ac (cc_ix 0 t b 0) r) (fun b => vl (cc_vx t r b)) d (b + 1))) := hp
    refine br_f (nI_nlt (by omega) (by omega)) (yy_ctA ht (by omega) hr (cc_c2 (fun e => ?_) (fun e => ?_)))
    · rw [e] at hp2
      exact nm_r (nI_1 b) (ih (b + 1) (by omega) n (by omega) hp2)
    · rw [e] at hp2
      rw [cc_vxE]
      refine And.intro (vp_in_nI (by unfold cc_vx; omega) (by decide)) ?_
      rw [nI_clamp (by unfold cc_vx; omega)]
      exact hp2
/-- site s has learnt v of r, by the first n ballots -/
def cc_le (he vl : Nat → Int32) (s t : Nat) (v : Int32) (r : Nat) : Nat → Bool
  | 0 => false
  | c + 1 => cc_le he vl s t v r c || (decide (vl (cc_vx t r c) = v) && cc_m3 he (cc_ix s t c 0) r)
theorem cc_leM {s t r : Nat} {v : Int32} {c : Nat} (h : cc_le he vl s t v r c = true) (d : Nat) : cc_le he vl s t v r (c + d) = true := by
  induction d with
  | zero => exact h
  | succ d ih =>
    show (cc_le he vl s t v r (c + d) || _) = true
    rw [ih]; rfl
theorem xx_leI {J6 : Int32 → Int32 → Prop} {s t c : Nat} {v x7 : Int32} (hm : m < 5) (ht : t < 4) (hc : c < 8) (h7 : ∀ j, bt x7 j = cc_m3 he (cc_ix s t c 0) j)
    (hJ : ∀ x4, (∀ j, bt x4 j = (decide (j < m) && cc_le he vl s t v j (c + 1))) → J6 x4 (nI (c + 1))) :
    ∀ d r, r + d = m → ∀ n, d < n → ∀ x4, (∀ j, bt x4 j = (decide (j < m) && cc_le he vl s t v j (if j < r then c + 1 else c))) →
    wX_learnt_60 post J6 (nI s) (nI t) v (nI c) x7 (nI m) (nI l) (nI tp) bg vl pr ac la ga po he ou fl dn n x4 (nI r) := by
  intro d
  induction d with
  | zero =>
    intro r h n hn x4 hx
    obtain ⟨n, rfl⟩ := cc_fuel hn
    refine br_t (nI_le (by omega) (by omega)) (nm_r (nI_1 c) (hJ x4 (fun j => ?_)))
    rw [hx j]
    by_cases z : j < m
    · rw [if_pos (by omega)]
    · rw [decide_eq_false z, Bool.false_and, Bool.false_and]
  | succ d ih =>
    intro r h n hn x4 hx
    obtain ⟨n, rfl⟩ := cc_fuel hn
    refine br_f (nI_ge (by omega) (by omega)) (xx_vx ?_)
    refine cc_ld (by unfold cc_vx; omega) (by decide) (fun e => ?_) (fun e => ?_)
    · refine nm_e (nm_r (nI_1 r) (ih (r + 1) (by omega) n (by omega) _ (fun j => ?_)))
      rw [b_or, b_and, cc_sB (by omega), h7, hx j]
      by_cases z : j = r
      · subst z
        rw [if_neg (Nat.lt_irrefl j), if_pos (Nat.lt_succ_self j), decide_eq_true rfl, Bool.and_true, decide_eq_true (show j < m by omega)]
        show (true && cc_le he vl s t v j c || cc_m3 he (cc_ix s t c 0) j) = (true && (cc_le he vl s t v j c || (decide (vl (cc_vx t j c) = v) && cc_m3 he (cc_ix s t c 0) j)))
        rw [decide_eq_true e]
        rfl
      · rw [decide_eq_false z, Bool.and_false, Bool.or_false]
        by_cases y : j < r
        · rw [if_pos y, if_pos (by omega)]
        · rw [if_neg y, if_neg (by omega)]
    · refine nm_r (nI_1 r) (ih (r + 1) (by omega) n (by omega) _ (fun j => ?_))
      rw [hx j]
      by_cases z : j = r
      · subst z
        rw [if_neg (Nat.lt_irrefl j), if_pos (Nat.lt_succ_self j)]
        show (_ && cc_le he vl s t v j c) = (_ && (cc_le he vl s t v j c || (decide (vl (cc_vx t j c) = v) && cc_m3 he (cc_ix s t c 0) j)))
        rw [decide_eq_false e, Bool.false_and, Bool.or_false]
      · by_cases y : j < r
        · rw [if_pos y, if_pos (by omega)]
        · rw [if_neg y, if_neg (by omega)]
theorem xx_leO {s t : Nat} {v : Int32} (hm : m < 5) (htp : tp < 8) (hs : s < 7) (ht : t < 4) (hp : ∀ z, (∀ j, bt z j = (decide (j < m) && cc_le he vl s t v j (tp + 1))) → post z) :
    ∀ d c, c + d = tp + 1 → ∀ n, d < n → ∀ x4, (∀ j, bt x4 j = (decide (j < m) && cc_le he vl s t v j c)) → wX_learnt_6 post (nI s) (nI t) v (nI m) (nI l) (nI tp) bg vl pr ac la ga po he ou fl dn n x4 (nI c) := by
  intro d
  induction d with
  | zero =>
    intro c h n hn x4 hx
    obtain ⟨n, rfl⟩ := cc_fuel hn
    obtain rfl : c = tp + 1 := by omega
    exact br_t (nI_lt (by omega) (by omega)) (hp x4 hx)
  | succ d ih =>
    intro c h n hn x4 hx
    obtain ⟨n, rfl⟩ := cc_fuel hn
    refine br_f (nI_nlt (by omega) (by omega)) (xx_ha (a := 0) ?_)
    have hi : cc_ix s t c 0 + 2 < 672 := by unfold cc_ix; omega
    refine And.intro (vp_in_nI (by omega) (by decide)) ?_
    rw [nI_1 (cc_ix s t c 0), show nI (cc_ix s t c 0) + 2 = nI (cc_ix s t c 0 + 2) from nI_add _ 2]
    refine And.intro (vp_in_nI (by omega) (by decide)) (And.intro (vp_in_nI (by omega) (by decide)) ?_)
    rw [nI_clamp (n := cc_ix s t c 0) (by omega), nI_clamp (n := cc_ix s t c 0 + 1) (by omega), nI_clamp (n := cc_ix s t c 0 + 2) (by omega)]
    refine xx_mj (Exists.intro (m + 1) ?_)
    refine xx_leI hm ht (by omega) (fun j => cc_mj3 he (cc_ix s t c 0) j) (fun z hz => ih (c + 1) (by omega) n (by omega) z hz) m 0 (by omega) (m + 1) (by omega) x4 (fun j => ?_)
    rw [hx j, if_neg (by omega)]
theorem xx_le {s t : Nat} {v : Int32} (hm : m < 5) (htp : tp < 8) (hs : s < 7) (ht : t < 4) (hp : ∀ z, (∀ j, bt z j = (decide (j < m) && cc_le he vl s t v j (tp + 1))) → post z) : wpX_learnt post ((nI m), (nI l), (nI tp), bg, vl, pr, ac, la, ga, po, he, ou, fl, dn) (nI s) (nI t) v :=
  ⟨tp + 2, xx_leO hm htp hs ht hp (tp + 1) 0 (by omega) (tp + 2) (by omega) 0 (fun j => by rw [b_0]; exact (Bool.and_false _).symm)⟩
theorem yy_leL {s t r : Nat} {v : Int32} (htp : tp < 8) (hs : s < 7) (ht : t < 4) (hr : r < 4) (hp : post (cc_b (cc_le he vl s t v r (tp + 1)))) :
    ∀ d c, c + d = tp + 1 → ∀ n, d < n → cc_le he vl s t v r c = false → wY_learnt_3 post (nI s) (nI t) (nI r) v (nI m) (nI l) (nI tp) (cc_fa he ac fl) bg dn (cc_tr la) (cc_tr po) (cc_gb ga) pr vl ou n (nI c) := by
  intro d
  induction d with
  | zero =>
    intro c h n hn hf
    obtain ⟨n, rfl⟩ := cc_fuel hn
    obtain rfl : c = tp + 1 := by omega
    rw [hf] at hp
    exact br_t (nI_lt (by omega) (by omega)) hp
  | succ d ih =>
    intro c h n hn hf
    obtain ⟨n, rfl⟩ := cc_fuel hn
    refine br_f (nI_nlt (by omega) (by omega)) ?_
    rw [cc_vxE]
    have e1 : cc_le he vl s t v r (c + 1) = (decide (vl (cc_vx t r c) = v) && cc_m3 he (cc_ix s t c 0) r) := by
      show (cc_le he vl s t v r c || _) = _
      rw [hf, Bool.false_or]
    refine cc_ld (by unfold cc_vx; omega) (by decide) (fun e => ?_) (fun e => ?_)
    · rw [decide_eq_true e, Bool.true_and] at e1
      refine yy_ctH hs ht (by omega) hr (cc_c2 (fun e2 => ?_) (fun e2 => ?_))
      · exact nm_r (nI_1 c) (ih (c + 1) (by omega) n (by omega) (e1.trans e2))
      · have e3 := cc_leM (e1.trans e2) d
        rw [show c + 1 + d = tp + 1 by omega] at e3
        rw [e3] at hp
        exact hp
    · rw [decide_eq_false e, Bool.false_and] at e1
      exact nm_r (nI_1 c) (ih (c + 1) (by omega) n (by omega) e1)
theorem yy_le {s t r : Nat} {v : Int32} (htp : tp < 8) (hs : s < 7) (ht : t < 4) (hr : r < 4) (hp : post (cc_b (cc_le he vl s t v r (tp + 1)))) : wpY_learnt post ((nI m), (nI l), (nI tp), (cc_fa he ac fl), bg, dn, (cc_tr la), (cc_tr po), (cc_gb ga), pr, vl, ou) (nI s) (nI t) (nI r) v :=
  ⟨tp + 2, yy_leL htp hs ht hr hp (tp + 1) 0 (by omega) (tp + 2) (by omega) rfl⟩
/-- one of the first n holds -/
def cc_an (f : Nat → Bool) : Nat → Bool
  | 0 => false
  | n + 1 => cc_an f n || f n
theorem cc_anT {f : Nat → Bool} {n r : Nat} (hr : r < n) (h : f r = true) : cc_an f n = true := by
  induction n with
  | zero => omega
  | succ n ih =>
    show (cc_an f n || f n) = true
    by_cases e : r = n
    · rw [← e, h, Bool.or_true]
    · rw [ih (by omega)]; rfl
theorem cc_anF {f : Nat → Bool} {n : Nat} (h : ∀ r, r < n → f r = false) : cc_an f n = false := by
  induction n with
  | zero => rfl
  | succ n ih =>
    show (cc_an f n || f n) = false
    rw [ih (fun r hr => h r (by omega)), h n (by omega)]; rfl
theorem cc_anN {f : Nat → Bool} {n r : Nat} (h : cc_an f n = false) (hr : r < n) : f r = false := by
  cases e : f r
  · rfl
  · rw [cc_anT hr e] at h
    exact absurd h (by decide)
theorem cc_z2 {f : Nat → Bool} {z : Int32} (h : ∀ j, bt z j = (decide (j < m) && f j)) : z = 0 ↔ cc_an f m = false := by
  constructor
  · intro e
    refine cc_anF (fun r hr => ?_)
    have := h r
    rw [e, b_0, decide_eq_true hr, Bool.true_and] at this
    exact this.symm
  · intro e
    apply b_ext
    intro i _
    rw [h i, b_0]
    by_cases z : i < m
    · rw [cc_anN e z, Bool.and_false]
    · rw [decide_eq_false z, Bool.false_and]
theorem cc_z1 {f : Nat → Bool} {z : Int32} (hm : m < 5) (h : ∀ j, bt z j = (decide (j < m) && f j)) : z = cc_all m ↔ cc_an (fun r => !f r) m = false := by
  constructor
  · intro e
    refine cc_anF (fun r hr => ?_)
    have := h r
    rw [e, cc_aB hm, decide_eq_true hr, Bool.true_and] at this
    show (!f r) = false
    rw [← this]; rfl
  · intro e
    apply b_ext
    intro i _
    rw [h i, cc_aB hm]
    by_cases z : i < m
    · have : (!f i) = false := cc_anN e z
      rw [decide_eq_true z, Bool.true_and]
      cases hf : f i
      · rw [hf] at this; exact absurd this (by decide)
      · rfl
    · rw [decide_eq_false z, Bool.false_and]
/-- what a site judges -/
def cc_jd (he vl : Nat → Int32) (m tp s t : Nat) : Int32 := cond (cc_an (fun r => cc_le he vl s t 2 r (tp + 1)) m) 2 (cond (cc_an (fun r => !cc_le he vl s t 1 r (tp + 1)) m) 0 3)
theorem yy_j31 {s t : Nat} (hm : m < 5) (htp : tp < 8) (hs : s < 7) (ht : t < 4) (hp : post (cond (cc_an (fun r => !cc_le he vl s t 1 r (tp + 1)) m) 0 3)) :
    ∀ d r, r + d = m → ∀ n, d < n → cc_an (fun r => !cc_le he vl s t 1 r (tp + 1)) r = false → wY_judge_31 post (nI s) (nI t) (nI m) (nI l) (nI tp) (cc_fa he ac fl) bg dn (cc_tr la) (cc_tr po) (cc_gb ga) pr vl ou n (nI r) := by
  intro d
  induction d with
  | zero =>
    intro r h n hn hf
    obtain ⟨n, rfl⟩ := cc_fuel hn
    obtain rfl : r = m := by omega
    rw [hf] at hp
    exact br_t (nI_le (Nat.le_refl _) (by omega)) hp
  | succ d ih =>
    intro r h n hn hf
    obtain ⟨n, rfl⟩ := cc_fuel hn
    refine br_f (nI_ge (by omega) (by omega)) (yy_le htp hs ht (by omega) ?_)
    cases e : cc_le he vl s t 1 r (tp + 1)
    · rw [cc_anT (show r < m by omega) (by show (!cc_le he vl s t 1 r (tp + 1)) = true; rw [e]; rfl)] at hp
      exact br_t rfl hp
    · refine br_f cc_n10 (nm_r (nI_1 r) (ih (r + 1) (by omega) n (by omega) ?_))
      show (cc_an _ r || !cc_le he vl s t 1 r (tp + 1)) = false
      rw [hf, e]; rfl
theorem yy_j2 {s t : Nat} (hm : m < 5) (htp : tp < 8) (hs : s < 7) (ht : t < 4) (hp : post (cc_jd he vl m tp s t)) :
    ∀ d r, r + d = m → ∀ n, d < n → cc_an (fun r => cc_le he vl s t 2 r (tp + 1)) r = false → wY_judge_2 post (nI s) (nI t) (nI m) (nI l) (nI tp) (cc_fa he ac fl) bg dn (cc_tr la) (cc_tr po) (cc_gb ga) pr vl ou n (nI r) := by
  intro d
  induction d with
  | zero =>
    intro r h n hn hf
    obtain ⟨n, rfl⟩ := cc_fuel hn
    obtain rfl : r = m := by omega
    unfold cc_jd at hp
    rw [hf] at hp
    exact br_t (nI_le (Nat.le_refl _) (by omega)) ⟨r + 1, yy_j31 hm htp hs ht hp r 0 (by omega) (r + 1) (by omega) rfl⟩
  | succ d ih =>
    intro r h n hn hf
    obtain ⟨n, rfl⟩ := cc_fuel hn
    refine br_f (nI_ge (by omega) (by omega)) (yy_le htp hs ht (by omega) ?_)
    cases e : cc_le he vl s t 2 r (tp + 1)
    · refine br_t rfl (nm_r (nI_1 r) (ih (r + 1) (by omega) n (by omega) ?_))
      show (cc_an _ r || cc_le he vl s t 2 r (tp + 1)) = false
      rw [hf, e]; rfl
    · unfold cc_jd at hp
      rw [cc_anT (show r < m by omega) e] at hp
      exact br_f cc_n10 hp
theorem yy_jd {s t : Nat} (hm : m < 5) (htp : tp < 8) (hs : s < 7) (ht : t < 4) (hp : post (cc_jd he vl m tp s t)) : wpY_judge post ((nI m), (nI l), (nI tp), (cc_fa he ac fl), bg, dn, (cc_tr la), (cc_tr po), (cc_gb ga), pr, vl, ou) (nI s) (nI t) :=
  ⟨m + 1, yy_j2 hm htp hs ht hp m 0 (by omega) (m + 1) (by omega) rfl⟩
end
end
section
/-! sends and bundles -/
theorem cc_uu {f : Nat → Int32} {i : Nat} {v w : Int32} : upd (upd f i v) i w = upd f i w := by
  funext j
  by_cases h : j = i
  · rw [h, pk_us, pk_us]
  · rw [pk_un h, pk_un h, pk_un h]
theorem cc_ui {f : Nat → Int32} {i : Nat} {v : Int32} (h : f i = v) : upd f i v = f := by
  funext j
  by_cases e : j = i
  · rw [e, pk_us, h]
  · rw [pk_un e]
section
variable {m l tp : Nat} {bg vl pr ac la ga po he ou fl dn : Nat → Int32}
theorem xx_snL {post : SX → Prop} {k t x : Nat} (hk : k < 4) (ht : t < 4) (hx : x < 8) (hp : post ((nI m), (nI l), (nI tp), bg, vl, pr, ac, la, ga, po, he, ou, (cc_fil fl (cc_ix k t x 0) 3 1), dn)) :
    ∀ d a, a + d = 3 → ∀ n, d < n → wX_sendToAcceptors_3 post (nI k) (nI t) (nI x) (nI m) (nI l) (nI tp) n (nI a) bg vl pr ac la ga po he ou (cc_fil fl (cc_ix k t x 0) a 1) dn := by
  intro d
  induction d with
  | zero =>
    intro a h n hn
    obtain ⟨n, rfl⟩ := cc_fuel hn
    obtain rfl : a = 3 := by omega
    exact br_t (nI_le (a := 3) (b := 3) (by omega) (by decide)) hp
  | succ d ih =>
    intro a h n hn
    obtain ⟨n, rfl⟩ := cc_fuel hn
    have H := ih (a + 1) (by omega) n (by omega)
    rw [← cc_fils, ← cc_ixs] at H
    exact br_f (nI_ge (b := 3) (by omega) (by decide)) (xx_fa (cc_st (by unfold cc_ix; omega) (by decide) (nm_r (nI_1 a) H)))
theorem xx_sn {post : SX → Prop} {k t x : Nat} (hk : k < 4) (ht : t < 4) (hx : x < 8) (hp : post ((nI m), (nI l), (nI tp), bg, vl, pr, ac, la, ga, po, he, ou, (cc_fil fl (cc_ix k t x 0) 3 1), dn)) : wpX_sendToAcceptors post ((nI m), (nI l), (nI tp), bg, vl, pr, ac, la, ga, po, he, ou, fl, dn) (nI k) (nI t) (nI x) := by
  have H := xx_snL hk ht hx hp 3 0 rfl 4 (by omega)
  rw [cc_fil0] at H
  exact ⟨4, H⟩
/-- one message of a send, in the reference's facts -/
theorem cc_snY {k t x a : Nat} (hw : cc_w 1 (fl (cc_ix k t x a))) : upd (cc_fa he ac (cc_fil fl (cc_ix k t x 0) a 1)) (cc_ix (8 + k) t x a * 4) 1 = cc_fa he ac (cc_fil fl (cc_ix k t x 0) (a + 1) 1) := by
  have H := cc_uF (he := he) (ac := ac) (fl := cc_fil fl (cc_ix k t x 0) a 1) (i := cc_ix k t x a) (r := 0) (by omega)
  have e : cc_fil fl (cc_ix k t x 0) a 1 (cc_ix k t x a) = fl (cc_ix k t x a) := cc_filn (Or.inr (by rw [cc_ixs k t x a]; exact Nat.le_refl _))
  rw [e, cc_o1 hw] at H
  rw [cc_ix8, ← cc_fils, ← cc_ixs]
  exact H
theorem yy_vtL {post : Int32 → SY → Prop} {t r : Nat} {v : Int32} (ht : t < 4) (hr : r < 4) (hw : ∀ a, a < 3 → cc_w 1 (fl (cc_ix 0 t r a)))
    (hp2 : v = 2 → post 1 ((nI m), (nI l), (nI tp), (cc_fa he ac (cc_fil fl (cc_ix 0 t r 0) 3 1)), bg, dn, (cc_tr la), (cc_tr po), (cc_gb ga), pr, vl, (upd ou (r * 4 + t) 2))) (hp1 : ¬ v = 2 → post 1 ((nI m), (nI l), (nI tp), (cc_fa he ac (cc_fil fl (cc_ix 0 t r 0) 3 1)), bg, dn, (cc_tr la), (cc_tr po), (cc_gb ga), pr, vl, ou)) :
    ∀ d a, a + d = 3 → ∀ n, d < n → wY_vote_94 post (nI t) (nI r) v (nI m) (nI l) (nI tp) n (nI a) (cc_fa he ac (cc_fil fl (cc_ix 0 t r 0) a 1)) bg dn (cc_tr la) (cc_tr po) (cc_gb ga) pr vl ou := by
  intro d
  induction d with
  | zero =>
    intro a h n hn
    obtain ⟨n, rfl⟩ := cc_fuel hn
    obtain rfl : a = 3 := by omega
    refine br_t (nI_le (a := 3) (b := 3) (by omega) (by decide)) (br_c (fun e => ?_) hp1)
    rw [cc_4E]
    exact cc_st (by omega) (by decide) (hp2 e)
  | succ d ih =>
    intro a h n hn
    obtain ⟨n, rfl⟩ := cc_fuel hn
    have H := ih (a + 1) (by omega) n (by omega)
    rw [← cc_snY (hw a (by omega))] at H
    exact br_f (nI_ge (b := 3) (by omega) (by decide)) (yy_at (k := 8 + 0) (cc_st1 (by unfold cc_ix; omega) (by decide) (nm_r (nI_1 a) H)))
theorem yy_s129 {post : Int32 → SY → Prop} {t x : Nat} (ht : t < 4) (hx : x < 8) (hw : ∀ a, a < 3 → cc_w 1 (fl (cc_ix 1 t x a)))
    (hp : post 1 ((nI m), (nI l), (nI tp), (cc_fa he ac (cc_fil fl (cc_ix 1 t x 0) 3 1)), bg, dn, (cc_tr la), (cc_tr po), (cc_gb ga), pr, vl, ou)) :
    ∀ d a, a + d = 3 → ∀ n, d < n → wY_start_129 post (nI t) (nI x) (nI m) (nI l) (nI tp) n (nI a) (cc_fa he ac (cc_fil fl (cc_ix 1 t x 0) a 1)) bg dn (cc_tr la) (cc_tr po) (cc_gb ga) pr vl ou := by
  intro d
  induction d with
  | zero =>
    intro a h n hn
    obtain ⟨n, rfl⟩ := cc_fuel hn
    obtain rfl : a = 3 := by omega
    exact br_t (nI_le (a := 3) (b := 3) (by omega) (by decide)) hp
  | succ d ih =>
    intro a h n hn
    obtain ⟨n, rfl⟩ := cc_fuel hn
    have H := ih (a + 1) (by omega) n (by omega)
    rw [← cc_snY (hw a (by omega))] at H
    exact br_f (nI_ge (b := 3) (by omega) (by decide)) (yy_at (k := 8 + 1) (cc_st1 (by unfold cc_ix; omega) (by decide) (nm_r (nI_1 a) H)))
theorem yy_s98 {post : Int32 → SY → Prop} {t x o : Nat} (ht : t < 4) (ho : o < 3)
    (hp : ∃ n129 : Nat, wY_start_129 post (nI t) (nI x) (nI m) (nI l) (nI tp) n129 0 (cc_fa he ac fl) bg dn (cc_tr la) (cc_tr po) (cc_gb (upd ga (t * 3 + o) 0)) pr vl ou) :
    ∀ d a, a + d = 3 → ∀ n, d < n → wY_start_98 post (nI t) (nI x) (nI o) (nI m) (nI l) (nI tp) n (nI a) (cc_fa he ac fl) bg dn (cc_tr la) (cc_tr po) (cc_fil (cc_gb ga) ((o * 4 + t) * 3) a 0) pr vl ou := by
  intro d
  induction d with
  | zero =>
    intro a h n hn
    obtain ⟨n, rfl⟩ := cc_fuel hn
    obtain rfl : a = 3 := by omega
    rw [cc_bZ ht ho]
    exact br_t (nI_le (a := 3) (b := 3) (by omega) (by decide)) hp
  | succ d ih =>
    intro a h n hn
    obtain ⟨n, rfl⟩ := cc_fuel hn
    have H := ih (a + 1) (by omega) n (by omega)
    rw [← cc_fils] at H
    refine br_f (nI_ge (b := 3) (by omega) (by decide)) ?_
    rw [cc_4E, cc_3E]
    exact cc_st0 (by omega) (by decide) (nm_r (nI_1 a) H)
theorem yy_g185 {post : Int32 → SY → Prop} {t x : Nat} (ht : t < 4) (hx : x < 8) (hw : ∀ a, a < 3 → cc_w 1 (fl (cc_ix 3 t x a)))
    (hp : post 1 ((nI m), (nI l), (nI tp), (cc_fa he ac (cc_fil fl (cc_ix 3 t x 0) 3 1)), bg, dn, (cc_tr la), (cc_tr po), (cc_gb ga), pr, vl, ou)) :
    ∀ d a, a + d = 3 → ∀ n, d < n → wY_gather_185 post (nI t) (nI x) (nI m) (nI l) (nI tp) n (nI a) (cc_fa he ac (cc_fil fl (cc_ix 3 t x 0) a 1)) bg dn (cc_tr la) (cc_tr po) (cc_gb ga) pr vl ou := by
  intro d
  induction d with
  | zero =>
    intro a h n hn
    obtain ⟨n, rfl⟩ := cc_fuel hn
    obtain rfl : a = 3 := by omega
    exact br_t (nI_le (a := 3) (b := 3) (by omega) (by decide)) hp
  | succ d ih =>
    intro a h n hn
    obtain ⟨n, rfl⟩ := cc_fuel hn
    have H := ih (a + 1) (by omega) n (by omega)
    rw [← cc_snY (hw a (by omega))] at H
    exact br_f (nI_ge (b := 3) (by omega) (by decide)) (yy_at (k := 8 + 3) (cc_st1 (by unfold cc_ix; omega) (by decide) (nm_r (nI_1 a) H)))
theorem yy_g157 {post : Int32 → SY → Prop} {t x o : Nat} (ht : t < 4) (ho : o < 3)
    (hp : ∃ n185 : Nat, wY_gather_185 post (nI t) (nI x) (nI m) (nI l) (nI tp) n185 0 (cc_fa he ac fl) bg dn (cc_tr la) (cc_tr po) (cc_gb (upd ga (t * 3 + o) 0)) pr vl ou) :
    ∀ d a, a + d = 3 → ∀ n, d < n → wY_gather_157 post (nI t) (nI x) (nI (o * 4 + t)) (nI m) (nI l) (nI tp) n (nI a) (cc_fa he ac fl) bg dn (cc_tr la) (cc_tr po) (cc_fil (cc_gb ga) ((o * 4 + t) * 3) a 0) pr vl ou := by
  intro d
  induction d with
  | zero =>
    intro a h n hn
    obtain ⟨n, rfl⟩ := cc_fuel hn
    obtain rfl : a = 3 := by omega
    rw [cc_bZ ht ho]
    exact br_t (nI_le (a := 3) (b := 3) (by omega) (by decide)) hp
  | succ d ih =>
    intro a h n hn
    obtain ⟨n, rfl⟩ := cc_fuel hn
    have H := ih (a + 1) (by omega) n (by omega)
    rw [← cc_fils] at H
    refine br_f (nI_ge (b := 3) (by omega) (by decide)) ?_
    rw [cc_3E]
    exact cc_st0 (by omega) (by decide) (nm_r (nI_1 a) H)
theorem xx_bnL {post : SX → Prop} {t b a : Nat} {S : Int32} (hm : m < 5) (hl : l < 4) (ht : t < 4) (hb : b < 8) (ha : a < 3) (hp : post ((nI m), (nI l), (nI tp), bg, vl, pr, ac, la, ga, po, he, ou, (cc_bun (cc_site m l) 7 (cc_ix 4 t b a) S fl), dn)) :
    ∀ d s, s + d = 7 → ∀ n, d < n → wX_bundleToSites_3 post (nI t) (nI b) (nI a) S (nI m) (nI l) (nI tp) n (nI s) bg vl pr ac la ga po he ou (cc_bun (cc_site m l) s (cc_ix 4 t b a) S fl) dn := by
  intro d
  induction d with
  | zero =>
    intro s h n hn
    obtain ⟨n, rfl⟩ := cc_fuel hn
    obtain rfl : s = 7 := by omega
    exact br_t (nI_le (a := 7) (b := 7) (by omega) (by decide)) hp
  | succ d ih =>
    intro s h n hn
    obtain ⟨n, rfl⟩ := cc_fuel hn
    have H := ih (s + 1) (by omega) n (by omega)
    refine br_f (nI_ge (b := 7) (by omega) (by decide)) (xx_si hm hl (by omega) ?_)
    cases e : cc_site m l s
    · rw [← cc_bunf e] at H
      exact br_t rfl (nm_r (nI_1 s) H)
    · rw [← cc_bunt e, ← cc_ix4] at H
      refine br_f cc_n10 ?_
      rw [cc_4l]
      have hi : cc_ix (4 + s) t b a < 1056 := by unfold cc_ix; omega
      refine xx_fa (And.intro (vp_in_nI hi (by decide)) (And.intro (vp_in_nI hi (by decide)) (nm_r ?_ (nm_r (nI_1 s) H))))
      rw [nI_clamp (by omega)]
theorem xx_bn {post : SX → Prop} {t b a : Nat} {S : Int32} (hm : m < 5) (hl : l < 4) (ht : t < 4) (hb : b < 8) (ha : a < 3) (hp : post ((nI m), (nI l), (nI tp), bg, vl, pr, ac, la, ga, po, he, ou, (cc_bun (cc_site m l) 7 (cc_ix 4 t b a) S fl), dn)) : wpX_bundleToSites post ((nI m), (nI l), (nI tp), bg, vl, pr, ac, la, ga, po, he, ou, fl, dn) (nI t) (nI b) (nI a) S := by
  have H := xx_bnL hm hl ht hb ha hp 7 0 rfl 8 (by omega)
  rw [cc_bun0] at H
  exact ⟨8, H⟩
theorem yy_acL {post : SY → Prop} {t b a r : Nat} (hm : m < 5) (hl : l < 4) (ht : t < 4) (hb : b < 8) (ha : a < 3) (hr : r < 4) (hp : post ((nI m), (nI l), (nI tp), (cc_fa he ac (cc_bun (cc_site m l) 7 (cc_ix 4 t b a) ((1 : Int32) <<< (nI r &&& 31)) fl)), bg, dn, (cc_tr la), (cc_tr po), (cc_gb ga), pr, vl, ou)) :
    ∀ d s, s + d = 7 → ∀ n, d < n → wY_accept_21 post (nI t) (nI b) (nI a) (nI r) (nI m) (nI l) (nI tp) n (nI s) (cc_fa he ac (cc_bun (cc_site m l) s (cc_ix 4 t b a) ((1 : Int32) <<< (nI r &&& 31)) fl)) bg dn (cc_tr la) (cc_tr po) (cc_gb ga) pr vl ou := by
  intro d
  induction d with
  | zero =>
    intro s h n hn
    obtain ⟨n, rfl⟩ := cc_fuel hn
    obtain rfl : s = 7 := by omega
    exact br_t (nI_le (a := 7) (b := 7) (by omega) (by decide)) hp
  | succ d ih =>
    intro s h n hn
    obtain ⟨n, rfl⟩ := cc_fuel hn
    have H := ih (s + 1) (by omega) n (by omega)
    refine br_f (nI_ge (b := 7) (by omega) (by decide)) (yy_si hm hl (by omega) ?_)
    cases e : cc_site m l s
    · rw [← cc_bunf e] at H
      exact br_t rfl (nm_r (nI_1 s) H)
    · rw [← cc_bunt e, ← cc_uF hr, ← cc_ix12] at H
      refine br_f cc_n10 ?_
      rw [cc_12l]
      refine yy_at ?_
      show vp_in (nI (cc_ix (12 + s) t b a * 4) + nI r) 7296 ∧ _
      rw [nI_add]
      exact cc_st1 (by unfold cc_ix; omega) (by decide) (nm_r (nI_1 s) H)
theorem yy_ac {post : SY → Prop} {t b a r : Nat} (hm : m < 5) (hl : l < 4) (ht : t < 4) (hb : b < 8) (ha : a < 3) (hr : r < 4)
    (hp : post ((nI m), (nI l), (nI tp), (cc_fa he (upd ac (cc_ix 0 t b a) (ac (cc_ix 0 t b a) ||| ((1 : Int32) <<< (nI r &&& 31)))) (cc_bun (cc_site m l) 7 (cc_ix 4 t b a) ((1 : Int32) <<< (nI r &&& 31)) fl)), bg, dn, (cc_tr la), (cc_tr po), (cc_gb ga), pr, vl, ou)) : wpY_accept post ((nI m), (nI l), (nI tp), (cc_fa he ac fl), bg, dn, (cc_tr la), (cc_tr po), (cc_gb ga), pr, vl, ou) (nI t) (nI b) (nI a) (nI r) := by
  have H := yy_acL hm hl ht hb ha hr hp 7 0 rfl 8 (by omega)
  rw [cc_bun0, ← cc_uA (by unfold cc_ix; omega) hr, ← cc_ix7] at H
  unfold wpY_accept
  dsimp only
  refine yy_at (k := 7) ?_
  show vp_in (nI (cc_ix 7 t b a * 4) + nI r) 7296 ∧ _
  rw [nI_add]
  exact cc_st1 (by unfold cc_ix; omega) (by decide) ⟨8, H⟩
end
end
section
/-! what a leader proposes: the value at the highest ballot that the quorum reports -/
section
variable (vl ac : Nat → Int32) (q : Int32) (t : Nat)
/-- what the first g members of the quorum report at ballot c -/
def cc_rp (c : Nat) : Nat → Int32
  | 0 => 0
  | g + 1 => cond (bt q g) (cc_rp c g ||| ac (cc_ix 0 t c g)) (cc_rp c g)
def cc_hit (c r : Nat) : Nat → Bool
  | 0 => false
  | g + 1 => cc_hit c r g || (bt q g && bt (ac (cc_ix 0 t c g)) r)
def cc_pf (r : Nat) : Nat → Int32
  | 0 => 2
  | c + 1 => cond (cc_hit ac q t c r 3) (vl (cc_vx t r c)) (cc_pf r c)
end
/-- the values once the first r managers' are proposed at ballot b -/
def cc_vN (vl ac : Nat → Int32) (q : Int32) (t b : Nat) : Nat → Nat → Int32
  | 0 => vl
  | r + 1 => upd (cc_vN vl ac q t b r) (cc_vx t r b) (cc_pf (cc_vN vl ac q t b r) ac q t r b)
theorem cc_rpB (ac : Nat → Int32) (q : Int32) (t c r : Nat) (g : Nat) : bt (cc_rp ac q t c g) r = cc_hit ac q t c r g := by
  induction g with
  | zero => exact b_0 r
  | succ g ih =>
    show bt (cond (bt q g) (cc_rp ac q t c g ||| ac (cc_ix 0 t c g)) (cc_rp ac q t c g)) r = (cc_hit ac q t c r g || (bt q g && bt (ac (cc_ix 0 t c g)) r))
    cases bt q g
    · rw [Bool.false_and, Bool.or_false]; exact ih
    · rw [Bool.true_and, ← ih]; exact b_or _ _ _
section
variable {m l tp : Nat} {bg vl pr ac la ga po he ou fl dn : Nat → Int32}
theorem xx_rpL {post : Int32 → Prop} {q : Int32} {t c : Nat} (ht : t < 4) (hc : c < 8) (hp : post (cc_rp ac q t c 3)) :
    ∀ d g, g + d = 3 → ∀ n, d < n → wX_reportedBy_6 post (nI t) (nI c) q (nI m) (nI l) (nI tp) bg vl pr ac la ga po he ou fl dn n (cc_rp ac q t c g) (nI g) := by
  intro d
  induction d with
  | zero =>
    intro g h n hn
    obtain ⟨n, rfl⟩ := cc_fuel hn
    obtain rfl : g = 3 := by omega
    exact br_t (nI_le (a := 3) (b := 3) (by omega) (by decide)) hp
  | succ d ih =>
    intro g h n hn
    obtain ⟨n, rfl⟩ := cc_fuel hn
    have H := ih (g + 1) (by omega) n (by omega)
    refine br_f (nI_ge (b := 3) (by omega) (by decide)) ?_
    rw [cc_te (show g < 32 by omega)]
    cases e : bt q g
    · have e2 : cc_rp ac q t c (g + 1) = cc_rp ac q t c g := by
        show cond (bt q g) _ _ = _
        rw [e]; rfl
      rw [e2] at H
      exact br_t rfl (nm_r (nI_1 g) H)
    · have e2 : cc_rp ac q t c (g + 1) = cc_rp ac q t c g ||| ac (cc_ix 0 t c g) := by
        show cond (bt q g) _ _ = _
        rw [e]; rfl
      rw [e2] at H
      refine br_f (by decide) (xx_aa (And.intro (vp_in_nI (by unfold cc_ix; omega) (by decide)) (nm_r ?_ (nm_r (nI_1 g) H))))
      rw [nI_clamp (by unfold cc_ix; omega)]
theorem xx_rp {post : Int32 → Prop} {q : Int32} {t c : Nat} (ht : t < 4) (hc : c < 8) (hp : post (cc_rp ac q t c 3)) : wpX_reportedBy post ((nI m), (nI l), (nI tp), bg, vl, pr, ac, la, ga, po, he, ou, fl, dn) (nI t) (nI c) q :=
  ⟨4, xx_rpL ht hc hp 3 0 rfl 4 (by omega)⟩
theorem xx_pfL {post : Int32 → Prop} {q : Int32} {t r : Nat} (ht : t < 4) (hr : r < 4) :
    ∀ c, c < 9 → ∀ n, c < n → post (cc_pf vl ac q t r c) → wX_proposalFor_5 post (nI t) (nI r) q (nI m) (nI l) (nI tp) bg vl pr ac la ga po he ou fl dn n (nI c - 1) := by
  intro c
  induction c with
  | zero =>
    intro hc n hn hp
    obtain ⟨n, rfl⟩ := cc_fuel hn
    exact br_t (by decide) hp
  | succ c ih =>
    intro hc n hn hp
    obtain ⟨n, rfl⟩ := cc_fuel hn
    rw [nI_pred]
    have hp2 : post (cond (cc_hit ac q t c r 3) (vl (cc_vx t r c)) (cc_pf vl ac q t r c)) := hp
    refine br_f (nI_pos (by omega)) (xx_rp ht (by omega) ?_)
    show ((cc_rp ac q t c 3 &&& ((1 : Int32) <<< (nI r &&& 31))) = 0 → _) ∧ (¬ (cc_rp ac q t c 3 &&& ((1 : Int32) <<< (nI r &&& 31))) = 0 → _)
    rw [cc_te (show r < 32 by omega), cc_rpB]
    cases e : cc_hit ac q t c r 3
    · rw [e] at hp2
      exact br_t rfl (nm_r (Int32.sub_eq_add_neg _ _).symm (ih (by omega) n (by omega) hp2))
    · rw [e] at hp2
      refine br_f (by decide) (xx_vx (And.intro (vp_in_nI (by unfold cc_vx; omega) (by decide)) ?_))
      rw [nI_clamp (by unfold cc_vx; omega)]
      exact hp2
theorem xx_pf {post : Int32 → Prop} {q : Int32} {t r b : Nat} (ht : t < 4) (hr : r < 4) (hb : b < 8) (hp : post (cc_pf vl ac q t r b)) : wpX_proposalFor post ((nI m), (nI l), (nI tp), bg, vl, pr, ac, la, ga, po, he, ou, fl, dn) (nI t) (nI r) (nI b) q :=
  nm_e ⟨b + 1, xx_pfL ht hr b (by omega) (b + 1) (by omega) hp⟩
theorem xx_prL {post : SX → Prop} {q : Int32} {t b : Nat} (hm : m < 5) (ht : t < 4) (hb : b < 8) (hp : post ((nI m), (nI l), (nI tp), bg, (cc_vN vl ac q t b m), pr, ac, la, ga, po, he, ou, (cc_fil fl (cc_ix 3 t b 0) 3 1), dn)) :
    ∀ d r, r + d = m → ∀ n, d < n → wX_propose_3 post (nI t) (nI b) q (nI m) (nI l) (nI tp) n (nI r) bg (cc_vN vl ac q t b r) pr ac la ga po he ou fl dn := by
  intro d
  induction d with
  | zero =>
    intro r h n hn
    obtain ⟨n, rfl⟩ := cc_fuel hn
    obtain rfl : r = m := by omega
    exact br_t (nI_le (Nat.le_refl _) (by omega)) (xx_sn (k := 3) (by decide) ht hb hp)
  | succ d ih =>
    intro r h n hn
    obtain ⟨n, rfl⟩ := cc_fuel hn
    have H := ih (r + 1) (by omega) n (by omega)
    exact br_f (nI_ge (by omega) (by omega)) (xx_vx (xx_pf ht (by omega) hb (cc_st (by unfold cc_vx; omega) (by decide) (nm_r (nI_1 r) H))))
theorem xx_pr {post : SX → Prop} {q : Int32} {t b : Nat} (hm : m < 5) (ht : t < 4) (hb : b < 8) (hp : post ((nI m), (nI l), (nI tp), bg, (cc_vN vl ac q t b m), pr, ac, la, ga, po, he, ou, (cc_fil fl (cc_ix 3 t b 0) 3 1), dn)) : wpX_propose post ((nI m), (nI l), (nI tp), bg, vl, pr, ac, la, ga, po, he, ou, fl, dn) (nI t) (nI b) q :=
  ⟨m + 1, xx_prL hm ht hb hp m 0 (by omega) (m + 1) (by omega)⟩
/-! the reference's inheriting -/
theorem yy_i26 {post : Int32 → Prop} {J17 : Int32 → Int32 → Prop} {q v0 : Int32} {t r c o : Nat} {x3 : Int32} (ht : t < 4) (hr : r < 4) (hc : c < 8) (ho : o < 3) (hq : ga (t * 3 + o) = q)
    (hp : J17 (cond (cc_hit ac q t c r 3) (vl (cc_vx t r c)) v0) (nI (c + 1))) :
    ∀ d g, g + d = 3 → ∀ n, d < n → wY_inherit_26 post J17 (nI t) (nI r) x3 (nI (o * 4 + t)) (nI c) (nI m) (nI l) (nI tp) (cc_fa he ac fl) bg dn (cc_tr la) (cc_tr po) (cc_gb ga) pr vl ou n (cond (cc_hit ac q t c r g) (vl (cc_vx t r c)) v0) (nI g) := by
  intro d
  induction d with
  | zero =>
    intro g h n hn
    obtain ⟨n, rfl⟩ := cc_fuel hn
    obtain rfl : g = 3 := by omega
    exact br_t (nI_le (a := 3) (b := 3) (by omega) (by decide)) (nm_r (nI_1 c) hp)
  | succ d ih =>
    intro g h n hn
    obtain ⟨n, rfl⟩ := cc_fuel hn
    have H := ih (g + 1) (by omega) n (by omega)
    have e0 : cc_hit ac q t c r (g + 1) = (cc_hit ac q t c r g || (bt q g && bt (ac (cc_ix 0 t c g)) r)) := rfl
    refine br_f (nI_ge (b := 3) (by omega) (by decide)) ?_
    rw [cc_3E]
    refine cc_ld (by omega) (by decide) (fun e => ?_) (fun e => ?_)
    · rw [cc_bE ht ho (by omega), cc_be, hq] at e
      rw [e, Bool.false_and, Bool.or_false] at e0
      rw [e0] at H
      exact nm_r (nI_1 g) H
    · rw [cc_bE ht ho (by omega), cc_bn, hq] at e
      refine yy_at (k := 7) ?_
      show vp_in (nI (cc_ix 7 t c g * 4) + nI r) 7296 ∧ _
      rw [nI_add]
      refine cc_ld (by unfold cc_ix; omega) (by decide) (fun e1 => ?_) (fun e1 => ?_)
      · rw [cc_fR hr, cc_ix7, cc_gA (by unfold cc_ix; omega), cc_be] at e1
        rw [e1, Bool.and_false, Bool.or_false] at e0
        rw [e0] at H
        exact nm_r (nI_1 g) H
      · rw [cc_fR hr, cc_ix7, cc_gA (by unfold cc_ix; omega), cc_bn] at e1
        rw [e, e1, Bool.and_true, Bool.or_true] at e0
        rw [e0] at H
        rw [cc_vxE]
        refine And.intro (vp_in_nI (by unfold cc_vx; omega) (by decide)) (nm_r ?_ (nm_r (nI_1 g) H))
        rw [nI_clamp (by unfold cc_vx; omega)]
        rfl
theorem yy_i17 {post : Int32 → Prop} {q : Int32} {t r b o : Nat} (ht : t < 4) (hr : r < 4) (hb : b < 8) (ho : o < 3) (hq : ga (t * 3 + o) = q) (hp : post (cc_pf vl ac q t r b)) :
    ∀ d c, c + d = b → ∀ n, d < n → wY_inherit_17 post (nI t) (nI r) (nI b) (nI (o * 4 + t)) (nI m) (nI l) (nI tp) (cc_fa he ac fl) bg dn (cc_tr la) (cc_tr po) (cc_gb ga) pr vl ou n (cc_pf vl ac q t r c) (nI c) := by
  intro d
  induction d with
  | zero =>
    intro c h n hn
    obtain ⟨n, rfl⟩ := cc_fuel hn
    obtain rfl : c = b := by omega
    exact br_t (nI_le (Nat.le_refl _) (by omega)) hp
  | succ d ih =>
    intro c h n hn
    obtain ⟨n, rfl⟩ := cc_fuel hn
    have H := ih (c + 1) (by omega) n (by omega)
    exact br_f (nI_ge (by omega) (by omega)) ⟨4, yy_i26 (v0 := cc_pf vl ac q t r c) ht hr (by omega) ho hq H 3 0 rfl 4 (by omega)⟩
theorem yy_ih {post : Int32 → Prop} {q : Int32} {t r b : Nat} (hl : 0 < l) (hl2 : l < 4) (ht : t < 4) (hr : r < 4) (hb0 : 1 ≤ b) (hb : b < 8) (hq : ga (t * 3 + (b - 1) % l) = q) (hp : post (cc_pf vl ac q t r b)) : wpY_inherit post ((nI m), (nI l), (nI tp), (cc_fa he ac fl), bg, dn, (cc_tr la), (cc_tr po), (cc_gb ga), pr, vl, ou) (nI t) (nI r) (nI b) := by
  have ho : (b - 1) % l < 3 := Nat.lt_of_lt_of_le (Nat.mod_lt _ hl) (by omega)
  unfold wpY_inherit
  dsimp only
  refine yy_ow hb0 (by omega) hl hl2 (nm_r (cc_4E _ _) ?_)
  exact ⟨b + 1, yy_i17 ht hr hb ho hq hp b 0 (by omega) (b + 1) (by omega)⟩
theorem yy_g107 {post : Int32 → SY → Prop} {q : Int32} {t b o : Nat} (hm : m < 5) (hl : 0 < l) (hl2 : l < 4) (ht : t < 4) (hb0 : 1 ≤ b) (hb : b < 8) (ho : o = (b - 1) % l) (hq : ga (t * 3 + o) = q)
    (hw : ∀ a, a < 3 → cc_w 1 (fl (cc_ix 3 t b a)))
    (hp : post 1 ((nI m), (nI l), (nI tp), (cc_fa he ac (cc_fil fl (cc_ix 3 t b 0) 3 1)), bg, dn, (cc_tr la), (cc_tr (upd po (t * 3 + o) 1)), (cc_gb (upd ga (t * 3 + o) 0)), pr, (cc_vN vl ac q t b m), ou)) :
    ∀ d r, r + d = m → ∀ n, d < n → wY_gather_107 post (nI t) (nI b) (nI (o * 4 + t)) (nI m) (nI l) (nI tp) n (nI r) (cc_fa he ac fl) bg dn (cc_tr la) (cc_tr po) (cc_gb ga) pr (cc_vN vl ac q t b r) ou := by
  have ho3 : o < 3 := by rw [ho]; exact Nat.lt_of_lt_of_le (Nat.mod_lt _ hl) (by omega)
  intro d
  induction d with
  | zero =>
    intro r h n hn
    obtain ⟨n, rfl⟩ := cc_fuel hn
    obtain rfl : r = m := by omega
    have H1 := yy_g185 ht hb hw hp 3 0 rfl 4 (by omega)
    rw [cc_fil0] at H1
    have H := yy_g157 ht ho3 ⟨4, H1⟩ 3 0 rfl 4 (by omega)
    rw [cc_fil0, ← cc_tU ht ho3] at H
    exact br_t (nI_le (Nat.le_refl _) (by omega)) (cc_st1 (by omega) (by decide) ⟨4, H⟩)
  | succ d ih =>
    intro r h n hn
    obtain ⟨n, rfl⟩ := cc_fuel hn
    have H := ih (r + 1) (by omega) n (by omega)
    refine br_f (nI_ge (by omega) (by omega)) (yy_ih (q := q) hl hl2 ht (by omega) hb0 hb (by rw [← ho]; exact hq) ?_)
    rw [cc_vxE]
    exact cc_st (by unfold cc_vx; omega) (by decide) (nm_r (nI_1 r) H)
theorem yy_g66 {post : Int32 → SY → Prop} {q : Int32} {t b o : Nat} (ht : t < 4) (ho3 : o < 3) (hq : ga (t * 3 + o) = q)
    (hp2 : cc_ct (fun g => bt q g) 3 = 2 → ∃ n107 : Nat, wY_gather_107 post (nI t) (nI b) (nI (o * 4 + t)) (nI m) (nI l) (nI tp) n107 0 (cc_fa he ac fl) bg dn (cc_tr la) (cc_tr po) (cc_gb ga) pr vl ou) (hp1 : cc_ct (fun g => bt q g) 3 ≠ 2 → post 1 ((nI m), (nI l), (nI tp), (cc_fa he ac fl), bg, dn, (cc_tr la), (cc_tr po), (cc_gb ga), pr, vl, ou)) :
    ∀ d g, g + d = 3 → ∀ n, d < n → wY_gather_66 post (nI t) (nI b) (nI (o * 4 + t)) (nI m) (nI l) (nI tp) (cc_fa he ac fl) bg dn (cc_tr la) (cc_tr po) (cc_gb ga) pr vl ou n (nI (cc_ct (fun g => bt q g) g)) (nI g) := by
  intro d
  induction d with
  | zero =>
    intro g h n hn
    obtain ⟨n, rfl⟩ := cc_fuel hn
    obtain rfl : g = 3 := by omega
    have hl := cc_ctl (fun g => bt q g) 3
    exact br_t (nI_le (a := 3) (b := 3) (by omega) (by decide)) (pk_eq _ 2 hp2 hp1 rfl rfl (by omega) (by omega))
  | succ d ih =>
    intro g h n hn
    obtain ⟨n, rfl⟩ := cc_fuel hn
    have H := ih (g + 1) (by omega) n (by omega)
    refine br_f (nI_ge (b := 3) (by omega) (by decide)) ?_
    rw [cc_3E]
    refine cc_ld (by omega) (by decide) (fun e => ?_) (fun e => ?_)
    · rw [cc_bE ht ho3 (by omega), cc_be, hq] at e
      have e2 : cc_ct (fun g => bt q g) (g + 1) = cc_ct (fun g => bt q g) g := by
        show cond (bt q g) _ _ = _
        rw [e]; rfl
      rw [e2] at H
      exact nm_r (nI_1 g) H
    · rw [cc_bE ht ho3 (by omega), cc_bn, hq] at e
      have e2 : cc_ct (fun g => bt q g) (g + 1) = cc_ct (fun g => bt q g) g + 1 := by
        show cond (bt q g) _ _ = _
        rw [e]; rfl
      rw [e2] at H
      exact nm_r (nI_1 _) (nm_r (nI_1 g) H)
end
end
section
/-! what holds of every state; the acceptor's handlings: a vote, an opening, proposals -/
def cc_I (m l tp : Nat) (pr ac la ga he fl : Nat → Int32) : Prop :=
  ((2 ≤ m ∧ m < 5) ∧ (0 < l ∧ l < 4) ∧ (3 ≤ tp ∧ tp < 8)) ∧ ((∀ j, ∃ p, p ≤ tp ∧ pr j = nI p) ∧ (∀ j, ∃ p, p ≤ tp ∧ la j = nI p)) ∧
  (∀ j, cc_w m (ac j)) ∧ (∀ j, cc_g1 (ga j)) ∧ (∀ j, cc_w m (he j)) ∧ (∀ j, cc_w m (fl j)) ∧ (∀ j, j < 384 → cc_w 1 (fl j))
theorem cc_up {f : Nat → Int32} {i : Nat} {v : Int32} {P : Int32 → Prop} (h : ∀ j, P (f j)) (hv : P v) (j : Nat) : P (upd f i v j) := by
  by_cases e : j = i
  · rw [e, pk_us]; exact hv
  · rw [pk_un e]; exact h j
theorem cc_uc {f : Nat → Int32} {i j : Nat} {v w : Int32} (h : i ≠ j) : upd (upd f i v) j w = upd (upd f j w) i v := by
  funext q
  by_cases e : q = j
  · rw [e, pk_us, pk_un (Ne.symm h), pk_us]
  · rw [pk_un e]
    by_cases e2 : q = i
    · rw [e2, pk_us, pk_us]
    · rw [pk_un e2, pk_un e2, pk_un e]
section
variable {m l tp : Nat} {bg vl pr ac la ga po he ou fl dn : Nat → Int32}
variable {i : Nat} {v : Int32}
theorem cc_Im (I : cc_I m l tp pr ac la ga he fl) : m < 5 := I.1.1.2
theorem cc_Il0 (I : cc_I m l tp pr ac la ga he fl) : 0 < l := I.1.2.1.1
theorem cc_Il (I : cc_I m l tp pr ac la ga he fl) : l < 4 := I.1.2.1.2
theorem cc_It (I : cc_I m l tp pr ac la ga he fl) : tp < 8 := I.1.2.2.2
theorem cc_Ip (I : cc_I m l tp pr ac la ga he fl) (j : Nat) : ∃ p, p ≤ tp ∧ pr j = nI p := I.2.1.1 j
theorem cc_Ia (I : cc_I m l tp pr ac la ga he fl) (j : Nat) : ∃ p, p ≤ tp ∧ la j = nI p := I.2.1.2 j
theorem cc_Iw (I : cc_I m l tp pr ac la ga he fl) (j : Nat) : cc_w m (ac j) := I.2.2.1 j
theorem cc_Ig (I : cc_I m l tp pr ac la ga he fl) (j : Nat) : cc_g1 (ga j) := I.2.2.2.1 j
theorem cc_Ih (I : cc_I m l tp pr ac la ga he fl) (j : Nat) : cc_w m (he j) := I.2.2.2.2.1 j
theorem cc_If (I : cc_I m l tp pr ac la ga he fl) (j : Nat) : cc_w m (fl j) := I.2.2.2.2.2.1 j
theorem cc_I1 (I : cc_I m l tp pr ac la ga he fl) {j : Nat} (h : j < 384) : cc_w 1 (fl j) := I.2.2.2.2.2.2 j h
theorem cc_I4 (I : cc_I m l tp pr ac la ga he fl) (j : Nat) : cc_w 4 (fl j) := cc_wm (by have := cc_Im I; omega) (cc_If I j)
theorem cc_Jpr (I : cc_I m l tp pr ac la ga he fl) {p : Nat} (hp : p ≤ tp) : cc_I m l tp (upd pr i (nI p)) ac la ga he fl :=
  ⟨I.1, ⟨cc_up (P := fun z => ∃ p, p ≤ tp ∧ z = nI p) I.2.1.1 ⟨p, hp, rfl⟩, I.2.1.2⟩, I.2.2⟩
theorem cc_Jla (I : cc_I m l tp pr ac la ga he fl) {p : Nat} (hp : p ≤ tp) : cc_I m l tp pr ac (upd la i (nI p)) ga he fl :=
  ⟨I.1, ⟨I.2.1.1, cc_up (P := fun z => ∃ p, p ≤ tp ∧ z = nI p) I.2.1.2 ⟨p, hp, rfl⟩⟩, I.2.2⟩
theorem cc_Jac (I : cc_I m l tp pr ac la ga he fl) (h : cc_w m v) : cc_I m l tp pr (upd ac i v) la ga he fl :=
  ⟨I.1, I.2.1, cc_up I.2.2.1 h, I.2.2.2⟩
theorem cc_Jga (I : cc_I m l tp pr ac la ga he fl) (h : cc_g1 v) : cc_I m l tp pr ac la (upd ga i v) he fl :=
  ⟨I.1, I.2.1, I.2.2.1, cc_up I.2.2.2.1 h, I.2.2.2.2⟩
theorem cc_Jhe (I : cc_I m l tp pr ac la ga he fl) (h : cc_w m v) : cc_I m l tp pr ac la ga (upd he i v) fl :=
  ⟨I.1, I.2.1, I.2.2.1, I.2.2.2.1, cc_up I.2.2.2.2.1 h, I.2.2.2.2.2⟩
theorem cc_Jfl {fl' : Nat → Int32} (I : cc_I m l tp pr ac la ga he fl) (h : ∀ j, cc_w m (fl' j)) (h1 : ∀ j, j < 384 → cc_w 1 (fl' j)) : cc_I m l tp pr ac la ga he fl' :=
  ⟨I.1, I.2.1, I.2.2.1, I.2.2.2.1, I.2.2.2.2.1, h, h1⟩
theorem cc_Jf1 (I : cc_I m l tp pr ac la ga he fl) (h : cc_w 1 v) : cc_I m l tp pr ac la ga he (upd fl i v) :=
  cc_Jfl I (cc_up I.2.2.2.2.2.1 (cc_wm (by have := I.1.1.1; omega) h)) (fun j hj => by
    by_cases e : j = i
    · rw [e, pk_us]; exact h
    · rw [pk_un e]; exact cc_I1 I hj)
theorem cc_Jsn (I : cc_I m l tp pr ac la ga he fl) : cc_I m l tp pr ac la ga he (cc_fil fl i 3 1) :=
  cc_Jfl I (fun j => by
    unfold cc_fil
    by_cases e : i ≤ j ∧ j < i + 3
    · rw [if_pos e]; exact cc_w1 (by have := I.1.1.1; omega)
    · rw [if_neg e]; exact cc_If I j) (fun j hj => by
    unfold cc_fil
    by_cases e : i ≤ j ∧ j < i + 3
    · rw [if_pos e]; exact cc_w1 (by omega)
    · rw [if_neg e]; exact cc_I1 I hj)
theorem cc_Jbn (I : cc_I m l tp pr ac la ga he fl) {st : Nat → Bool} {n : Nat} (hi : 384 ≤ i) (h : cc_w m v) : cc_I m l tp pr ac la ga he (cc_bun st n i v fl) :=
  cc_Jfl I (fun j => cc_bunw (cc_If I j) (cc_wo (cc_If I j) h)) (fun j hj => by
    rw [cc_bunl (by omega)]; exact cc_I1 I hj)
end
/-- a message handled by both: the outcome, with the message left and with the message taken out -/
def cc_H (m l tp : Nat) (bg vl pr ac la ga po he ou fl dn : Nat → Int32) (k t x a : Nat) : Prop :=
  ∃ (r : Int32) (vl' pr' ac' ga' po' he' ou' fl' : Nat → Int32), cc_I m l tp pr' ac' la ga' he' fl' ∧ (r = 0 ∨ r = 1) ∧ fl' (cc_ix k t x a) = fl (cc_ix k t x a) ∧
    (∀ post : Int32 → SX → Prop, post r ((nI m), (nI l), (nI tp), bg, vl', pr', ac', la, ga', po', he', ou', fl', dn) → wpX_handle post ((nI m), (nI l), (nI tp), bg, vl, pr, ac, la, ga, po, he, ou, fl, dn) (nI k) (nI t) (nI x) (nI a) (fl (cc_ix k t x a))) ∧
    (∀ post : Int32 → SX → Prop, post r ((nI m), (nI l), (nI tp), bg, vl', pr', ac', la, ga', po', he', ou', (upd fl' (cc_ix k t x a) 0), dn) → wpX_handle post ((nI m), (nI l), (nI tp), bg, vl, pr, ac, la, ga, po, he, ou, (upd fl (cc_ix k t x a) 0), dn) (nI k) (nI t) (nI x) (nI a) (fl (cc_ix k t x a))) ∧
    (∀ z, z < 10 → dn z = 0 → ∀ post : Int32 → SY → Prop, post r ((nI m), (nI l), (nI tp), (cc_fa he' ac' fl'), bg, dn, (cc_tr la), (cc_tr po'), (cc_gb ga'), pr', vl', ou') → wY_duplicate_63 post (nI k) (nI t) (nI x) (nI a) (nI z) (nI m) (nI l) (nI tp) (cc_fa he ac fl) bg dn (cc_tr la) (cc_tr po) (cc_gb ga) pr vl ou)
section
variable {m l tp : Nat} {bg vl pr ac la ga po he ou fl dn : Nat → Int32}
variable {t x a : Nat}
theorem xx_hV1 {post : Int32 → SX → Prop} (hm : m < 5) (hl : l < 4) (ht : t < 4) (ha : a < 3) (hpr : pr (t * 3 + a) = 0)
    (hp : post 1 ((nI m), (nI l), (nI tp), bg, vl, pr, (upd ac (cc_ix 0 t 0 a) (ac (cc_ix 0 t 0 a) ||| ((1 : Int32) <<< (nI x &&& 31)))), la, ga, po, he, ou, (cc_bun (cc_site m l) 7 (cc_ix 4 t 0 a) ((1 : Int32) <<< (nI x &&& 31)) fl), dn)) : wpX_handleVote post ((nI m), (nI l), (nI tp), bg, vl, pr, ac, la, ga, po, he, ou, fl, dn) (nI t) (nI x) (nI a) := by
  unfold wpX_handleVote
  dsimp only
  rw [cc_3E]
  have hi : cc_ix 0 t 0 a < 96 := by unfold cc_ix; omega
  refine cc_ldt (by omega) (by decide) hpr (xx_aa (x := 0) (And.intro (vp_in_nI hi (by decide)) (And.intro (vp_in_nI hi (by decide)) (nm_r (e' := upd ac (cc_ix 0 t 0 a) (ac (cc_ix 0 t 0 a) ||| ((1 : Int32) <<< (nI x &&& 31)))) ?_ ?_))))
  · rw [nI_clamp (by omega)]
  · exact xx_bn (b := 0) hm hl ht (by decide) ha hp
theorem xx_hV0 {post : Int32 → SX → Prop} (ht : t < 4) (ha : a < 3) (hpr : ¬ pr (t * 3 + a) = 0) (hp : post 0 ((nI m), (nI l), (nI tp), bg, vl, pr, ac, la, ga, po, he, ou, fl, dn)) : wpX_handleVote post ((nI m), (nI l), (nI tp), bg, vl, pr, ac, la, ga, po, he, ou, fl, dn) (nI t) (nI x) (nI a) := by
  unfold wpX_handleVote
  dsimp only
  rw [cc_3E]
  exact cc_ldf (by omega) (by decide) hpr hp
theorem yy_99n {post : Int32 → SY → Prop} {p0 p1 p2 p3 : Int32} (hm : m < 5) (hk : ¬ p0 = 3) (hp : post 1 ((nI m), (nI l), (nI tp), (cc_fa he ac fl), bg, dn, (cc_tr la), (cc_tr po), (cc_gb ga), pr, vl, ou)) : ∀ d r, r + d = m → ∀ n, d < n → wY_atAcceptor_99 post p0 p1 p2 p3 n (nI r) (nI m) (nI l) (nI tp) (cc_fa he ac fl) bg dn (cc_tr la) (cc_tr po) (cc_gb ga) pr vl ou := by
  intro d
  induction d with
  | zero =>
    intro r h n hn
    obtain ⟨n, rfl⟩ := cc_fuel hn
    exact br_t (nI_le (by omega) (by omega)) hp
  | succ d ih =>
    intro r h n hn
    obtain ⟨n, rfl⟩ := cc_fuel hn
    exact br_f (nI_ge (by omega) (by omega)) (br_f hk (nm_r (nI_1 r) (ih (r + 1) (by omega) n (by omega))))
theorem yy_aV1 {post : Int32 → SY → Prop} (hm : m < 5) (hl : l < 4) (ht : t < 4) (hx : x < 4) (ha : a < 3) (hpr : pr (t * 3 + a) = 0)
    (hp : post 1 ((nI m), (nI l), (nI tp), (cc_fa he (upd ac (cc_ix 0 t 0 a) (ac (cc_ix 0 t 0 a) ||| ((1 : Int32) <<< (nI x &&& 31)))) (cc_bun (cc_site m l) 7 (cc_ix 4 t 0 a) ((1 : Int32) <<< (nI x &&& 31)) fl)), bg, dn, (cc_tr la), (cc_tr po), (cc_gb ga), pr, vl, ou)) : wpY_atAcceptor post ((nI m), (nI l), (nI tp), (cc_fa he ac fl), bg, dn, (cc_tr la), (cc_tr po), (cc_gb ga), pr, vl, ou) 0 (nI t) (nI x) (nI a) := by
  unfold wpY_atAcceptor
  dsimp only
  rw [cc_3E]
  refine And.intro (vp_in_nI (by omega) (by decide)) (nm_r (e' := 0) (by rw [nI_clamp (by omega)]; exact hpr) (br_t rfl (br_t rfl ?_)))
  unfold wY_atAcceptor_22
  refine br_f (by decide) ?_
  unfold wY_atAcceptor_33
  refine br_f (by decide) ?_
  unfold wY_atAcceptor_46
  refine br_t rfl (yy_ac (b := 0) hm hl ht (by decide) ha hx ?_)
  dsimp only
  unfold wY_atAcceptor_59
  refine br_t rfl ?_
  unfold wY_atAcceptor_75
  exact br_f (by decide) ⟨m + 1, yy_99n hm (by decide) hp m 0 (by omega) (m + 1) (by omega)⟩
theorem yy_aV0 {post : Int32 → SY → Prop} (ht : t < 4) (ha : a < 3) (hpr : ¬ pr (t * 3 + a) = 0) (hp : post 0 ((nI m), (nI l), (nI tp), (cc_fa he ac fl), bg, dn, (cc_tr la), (cc_tr po), (cc_gb ga), pr, vl, ou)) : wpY_atAcceptor post ((nI m), (nI l), (nI tp), (cc_fa he ac fl), bg, dn, (cc_tr la), (cc_tr po), (cc_gb ga), pr, vl, ou) 0 (nI t) (nI x) (nI a) := by
  unfold wpY_atAcceptor
  dsimp only
  rw [cc_3E]
  refine And.intro (vp_in_nI (by omega) (by decide)) (nm_r (e' := pr (t * 3 + a)) (by rw [nI_clamp (by omega)]) (br_t rfl (br_f hpr hp)))
theorem cc_H0 (I : cc_I m l tp pr ac la ga he fl) (ht : t < 4) (hx : x < m) (ha : a < 3) : cc_H m l tp bg vl pr ac la ga po he ou fl dn 0 t x a := by
  have hm := cc_Im I
  have hl := cc_Il I
  have h1 : cc_ix 0 t x a < cc_ix 4 t 0 a := by unfold cc_ix; omega
  have h2 : 384 ≤ cc_ix 4 t 0 a := by unfold cc_ix; omega
  have hs : cc_w m ((1 : Int32) <<< (nI x &&& 31)) := cc_ws hx (by omega)
  by_cases hpr : pr (t * 3 + a) = 0
  · refine ⟨1, vl, pr, upd ac (cc_ix 0 t 0 a) (ac (cc_ix 0 t 0 a) ||| ((1 : Int32) <<< (nI x &&& 31))), ga, po, he, ou, cc_bun (cc_site m l) 7 (cc_ix 4 t 0 a) ((1 : Int32) <<< (nI x &&& 31)) fl, cc_Jbn (cc_Jac I (cc_wo (cc_Iw I _) hs)) h2 hs, Or.inr rfl, cc_bunl h1,
      fun post hp => br_t rfl (xx_hV1 hm hl ht ha hpr hp), fun post hp => br_t rfl (xx_hV1 hm hl ht ha hpr ?_), fun z hz hd post hp => ?_⟩
    · rw [cc_bunu h1]; exact hp
    · exact cc_ldt hz (by decide) hd (br_f (by decide) (br_t (by decide) (yy_aV1 hm hl ht (by omega) ha hpr hp)))
  · refine ⟨0, vl, pr, ac, ga, po, he, ou, fl, I, Or.inl rfl, rfl, fun post hp => br_t rfl (xx_hV0 ht ha hpr hp), fun post hp => br_t rfl (xx_hV0 ht ha hpr hp), fun z hz hd post hp => ?_⟩
    exact cc_ldt hz (by decide) hd (br_f (by decide) (br_t (by decide) (yy_aV0 ht ha hpr hp)))
theorem cc_f1 {k : Nat} (hw : cc_w 1 (fl (cc_ix k t x a))) : upd (cc_fa he ac fl) (cc_ix (8 + k) t x a * 4) 1 = cc_fa he ac (upd fl (cc_ix k t x a) 1) := by
  have H := cc_uF (he := he) (ac := ac) (fl := fl) (i := cc_ix k t x a) (r := 0) (by omega)
  rw [cc_o1 hw] at H
  rw [cc_ix8]
  exact H
theorem xx_hO1 {post : Int32 → SX → Prop} (ht : t < 4) (hx : x < 8) (ha : a < 3) (hpr : pr (t * 3 + a) < nI x)
    (hp : post 1 ((nI m), (nI l), (nI tp), bg, vl, (upd pr (t * 3 + a) (nI x)), ac, la, ga, po, he, ou, (upd fl (cc_ix 2 t x a) 1), dn)) : wpX_handleOpening post ((nI m), (nI l), (nI tp), bg, vl, pr, ac, la, ga, po, he, ou, fl, dn) (nI t) (nI x) (nI a) := by
  unfold wpX_handleOpening
  dsimp only
  refine nm_r (cc_3E t a) ?_
  rw [nI_clamp (n := t * 3 + a) (by omega)]
  have hv : vp_in (nI (t * 3 + a)) 12 := vp_in_nI (by omega) (by decide)
  refine And.intro hv (br_t hpr (And.intro hv (nm_e (xx_fa (k := 2) (cc_st (by unfold cc_ix; omega) (by decide) hp)))))
theorem xx_hO0 {post : Int32 → SX → Prop} (ht : t < 4) (ha : a < 3) (hpr : ¬ pr (t * 3 + a) < nI x) (hp : post 0 ((nI m), (nI l), (nI tp), bg, vl, pr, ac, la, ga, po, he, ou, fl, dn)) : wpX_handleOpening post ((nI m), (nI l), (nI tp), bg, vl, pr, ac, la, ga, po, he, ou, fl, dn) (nI t) (nI x) (nI a) := by
  unfold wpX_handleOpening
  dsimp only
  refine nm_r (cc_3E t a) ?_
  rw [nI_clamp (n := t * 3 + a) (by omega)]
  exact And.intro (vp_in_nI (by omega) (by decide)) (br_f hpr hp)
theorem yy_aO1 {post : Int32 → SY → Prop} (hm : m < 5) (ht : t < 4) (hx : x < 8) (ha : a < 3) (hpr : pr (t * 3 + a) < nI x) (hw : cc_w 1 (fl (cc_ix 2 t x a)))
    (hp : post 1 ((nI m), (nI l), (nI tp), (cc_fa he ac (upd fl (cc_ix 2 t x a) 1)), bg, dn, (cc_tr la), (cc_tr po), (cc_gb ga), (upd pr (t * 3 + a) (nI x)), vl, ou)) : wpY_atAcceptor post ((nI m), (nI l), (nI tp), (cc_fa he ac fl), bg, dn, (cc_tr la), (cc_tr po), (cc_gb ga), pr, vl, ou) 1 (nI t) (nI x) (nI a) := by
  unfold wpY_atAcceptor
  dsimp only
  rw [cc_3E]
  refine And.intro (vp_in_nI (by omega) (by decide)) (nm_r (e' := pr (t * 3 + a)) (by rw [nI_clamp (by omega)]) (br_f (by decide) ?_))
  unfold wY_atAcceptor_22
  refine br_t rfl (br_f (Int32.not_le.mpr hpr) ?_)
  unfold wY_atAcceptor_33
  refine br_f (by decide) ?_
  unfold wY_atAcceptor_46
  refine br_f (by decide) ?_
  unfold wY_atAcceptor_59
  refine br_f (by decide) ?_
  rw [cc_3E]
  refine cc_st (by omega) (by decide) ?_
  unfold wY_atAcceptor_75
  have H : ∃ n99 : Nat, wY_atAcceptor_99 post 1 (nI t) (nI x) (nI a) n99 0 (nI m) (nI l) (nI tp) (cc_fa he ac (upd fl (cc_ix 2 t x a) 1)) bg dn (cc_tr la) (cc_tr po) (cc_gb ga) (upd pr (t * 3 + a) (nI x)) vl ou := ⟨m + 1, yy_99n hm (by decide) hp m 0 (by omega) (m + 1) (by omega)⟩
  rw [← cc_f1 hw] at H
  exact br_t rfl (yy_at (k := 8 + 2) (cc_st1 (by unfold cc_ix; omega) (by decide) H))
theorem yy_aO0 {post : Int32 → SY → Prop} (ht : t < 4) (ha : a < 3) (hpr : ¬ pr (t * 3 + a) < nI x) (hp : post 0 ((nI m), (nI l), (nI tp), (cc_fa he ac fl), bg, dn, (cc_tr la), (cc_tr po), (cc_gb ga), pr, vl, ou)) : wpY_atAcceptor post ((nI m), (nI l), (nI tp), (cc_fa he ac fl), bg, dn, (cc_tr la), (cc_tr po), (cc_gb ga), pr, vl, ou) 1 (nI t) (nI x) (nI a) := by
  unfold wpY_atAcceptor
  dsimp only
  rw [cc_3E]
  refine And.intro (vp_in_nI (by omega) (by decide)) (nm_r (e' := pr (t * 3 + a)) (by rw [nI_clamp (by omega)]) (br_f (by decide) ?_))
  unfold wY_atAcceptor_22
  exact br_t rfl (br_t (Int32.not_lt.mp hpr) hp)
theorem cc_H1 (I : cc_I m l tp pr ac la ga he fl) (ht : t < 4) (hx : x ≤ tp) (ha : a < 3) : cc_H m l tp bg vl pr ac la ga po he ou fl dn 1 t x a := by
  have hm := cc_Im I
  have hx8 : x < 8 := by have := cc_It I; omega
  have hne : cc_ix 1 t x a ≠ cc_ix 2 t x a := by unfold cc_ix; omega
  by_cases hpr : pr (t * 3 + a) < nI x
  · refine ⟨1, vl, upd pr (t * 3 + a) (nI x), ac, ga, po, he, ou, upd fl (cc_ix 2 t x a) 1, cc_Jf1 (cc_Jpr I hx) (cc_w1 (by decide)), Or.inr rfl, pk_un hne,
      fun post hp => br_f (by decide) (br_t rfl (xx_hO1 ht hx8 ha hpr hp)), fun post hp => br_f (by decide) (br_t rfl (xx_hO1 ht hx8 ha hpr ?_)), fun z hz hd post hp => ?_⟩
    · rw [cc_uc hne]; exact hp
    · exact cc_ldt hz (by decide) hd (br_f (by decide) (br_t (by decide) (yy_aO1 hm ht hx8 ha hpr (cc_I1 I (by unfold cc_ix; omega)) hp)))
  · refine ⟨0, vl, pr, ac, ga, po, he, ou, fl, I, Or.inl rfl, rfl, fun post hp => br_f (by decide) (br_t rfl (xx_hO0 ht ha hpr hp)), fun post hp => br_f (by decide) (br_t rfl (xx_hO0 ht ha hpr hp)), fun z hz hd post hp => ?_⟩
    exact cc_ldt hz (by decide) hd (br_f (by decide) (br_t (by decide) (yy_aO0 ht ha hpr hp)))
theorem xx_hA1 {post : Int32 → SX → Prop} (hm : m < 5) (hl : l < 4) (ht : t < 4) (hx : x < 8) (ha : a < 3) (hpr : pr (t * 3 + a) ≤ nI x)
    (hp : post 1 ((nI m), (nI l), (nI tp), bg, vl, (upd pr (t * 3 + a) (nI x)), (upd ac (cc_ix 0 t x a) (cc_all m)), la, ga, po, he, ou, (cc_bun (cc_site m l) 7 (cc_ix 4 t x a) (cc_all m) fl), dn)) : wpX_handleProposals post ((nI m), (nI l), (nI tp), bg, vl, pr, ac, la, ga, po, he, ou, fl, dn) (nI t) (nI x) (nI a) := by
  unfold wpX_handleProposals
  dsimp only
  refine nm_r (cc_3E t a) ?_
  rw [nI_clamp (n := t * 3 + a) (by omega)]
  have hv : vp_in (nI (t * 3 + a)) 12 := vp_in_nI (by omega) (by decide)
  have hi : cc_ix 0 t x a < 96 := by unfold cc_ix; omega
  refine And.intro hv (br_t hpr (And.intro hv (nm_e ?_)))
  unfold wpX_allManagers
  dsimp only
  exact xx_aa (cc_st hi (by decide) (xx_bn hm hl ht hx ha hp))
theorem xx_hA0 {post : Int32 → SX → Prop} (ht : t < 4) (ha : a < 3) (hpr : ¬ pr (t * 3 + a) ≤ nI x) (hp : post 0 ((nI m), (nI l), (nI tp), bg, vl, pr, ac, la, ga, po, he, ou, fl, dn)) : wpX_handleProposals post ((nI m), (nI l), (nI tp), bg, vl, pr, ac, la, ga, po, he, ou, fl, dn) (nI t) (nI x) (nI a) := by
  unfold wpX_handleProposals
  dsimp only
  refine nm_r (cc_3E t a) ?_
  rw [nI_clamp (n := t * 3 + a) (by omega)]
  exact And.intro (vp_in_nI (by omega) (by decide)) (br_f hpr hp)
theorem yy_99a {post : Int32 → SY → Prop} {v : Int32} (hv : ac (cc_ix 0 t x a) ||| cc_all m = v) (hm : m < 5) (hl : l < 4) (ht : t < 4) (hx : x < 8) (ha : a < 3)
    (hp : post 1 ((nI m), (nI l), (nI tp), (cc_fa he (upd ac (cc_ix 0 t x a) v) (cc_bun (cc_site m l) 7 (cc_ix 4 t x a) (cc_all m) fl)), bg, dn, (cc_tr la), (cc_tr po), (cc_gb ga), pr, vl, ou)) :
    ∀ d r, r + d = m → ∀ n, d < n → wY_atAcceptor_99 post 3 (nI t) (nI x) (nI a) n (nI r) (nI m) (nI l) (nI tp) (cc_fa he (upd ac (cc_ix 0 t x a) (ac (cc_ix 0 t x a) ||| cc_all r)) (cc_bun (cc_site m l) 7 (cc_ix 4 t x a) (cc_all r) fl)) bg dn (cc_tr la) (cc_tr po) (cc_gb ga) pr vl ou := by
  intro d
  induction d with
  | zero =>
    intro r h n hn
    obtain ⟨n, rfl⟩ := cc_fuel hn
    obtain rfl : r = m := by omega
    rw [hv]
    exact br_t (nI_le (Nat.le_refl _) (by omega)) hp
  | succ d ih =>
    intro r h n hn
    obtain ⟨n, rfl⟩ := cc_fuel hn
    have H := ih (r + 1) (by omega) n (by omega)
    refine br_f (nI_ge (by omega) (by omega)) (br_t rfl (yy_ac hm hl ht hx ha (by omega) ?_))
    refine nm_r (nI_1 r) ?_
    rw [pk_us, cc_uu, Int32.or_assoc, cc_bunc, cc_as r (by omega)]
    exact H
theorem yy_aA1 {post : Int32 → SY → Prop} (hm : m < 5) (hl : l < 4) (ht : t < 4) (hx : x < 8) (ha : a < 3) (hpr : pr (t * 3 + a) ≤ nI x) (hw : cc_w m (ac (cc_ix 0 t x a)))
    (hp : post 1 ((nI m), (nI l), (nI tp), (cc_fa he (upd ac (cc_ix 0 t x a) (cc_all m)) (cc_bun (cc_site m l) 7 (cc_ix 4 t x a) (cc_all m) fl)), bg, dn, (cc_tr la), (cc_tr po), (cc_gb ga), (upd pr (t * 3 + a) (nI x)), vl, ou)) : wpY_atAcceptor post ((nI m), (nI l), (nI tp), (cc_fa he ac fl), bg, dn, (cc_tr la), (cc_tr po), (cc_gb ga), pr, vl, ou) 3 (nI t) (nI x) (nI a) := by
  unfold wpY_atAcceptor
  dsimp only
  rw [cc_3E]
  refine And.intro (vp_in_nI (by omega) (by decide)) (nm_r (e' := pr (t * 3 + a)) (by rw [nI_clamp (by omega)]) (br_f (by decide) ?_))
  unfold wY_atAcceptor_22
  refine br_f (by decide) ?_
  unfold wY_atAcceptor_33
  refine br_t rfl (br_t hpr ?_)
  unfold wY_atAcceptor_46
  refine br_f (by decide) ?_
  unfold wY_atAcceptor_59
  refine br_f (by decide) ?_
  rw [cc_3E]
  refine cc_st (by omega) (by decide) ?_
  unfold wY_atAcceptor_75
  have H := yy_99a (cc_oa hm hw) hm hl ht hx ha hp m 0 (by omega) (m + 1) (by omega)
  rw [cc_a0, cc_bunz, Int32.or_zero, cc_ui rfl] at H
  exact br_f (by decide) ⟨m + 1, H⟩
theorem yy_aA0 {post : Int32 → SY → Prop} (ht : t < 4) (ha : a < 3) (hpr : ¬ pr (t * 3 + a) ≤ nI x) (hp : post 0 ((nI m), (nI l), (nI tp), (cc_fa he ac fl), bg, dn, (cc_tr la), (cc_tr po), (cc_gb ga), pr, vl, ou)) : wpY_atAcceptor post ((nI m), (nI l), (nI tp), (cc_fa he ac fl), bg, dn, (cc_tr la), (cc_tr po), (cc_gb ga), pr, vl, ou) 3 (nI t) (nI x) (nI a) := by
  unfold wpY_atAcceptor
  dsimp only
  rw [cc_3E]
  refine And.intro (vp_in_nI (by omega) (by decide)) (nm_r (e' := pr (t * 3 + a)) (by rw [nI_clamp (by omega)]) (br_f (by decide) ?_))
  unfold wY_atAcceptor_22
  refine br_f (by decide) ?_
  unfold wY_atAcceptor_33
  exact br_t rfl (br_f hpr hp)
theorem cc_H3 (I : cc_I m l tp pr ac la ga he fl) (ht : t < 4) (hx : x ≤ tp) (ha : a < 3) : cc_H m l tp bg vl pr ac la ga po he ou fl dn 3 t x a := by
  have hm := cc_Im I
  have hl := cc_Il I
  have hx8 : x < 8 := by have := cc_It I; omega
  have h1 : cc_ix 3 t x a < cc_ix 4 t x a := by unfold cc_ix; omega
  have h2 : 384 ≤ cc_ix 4 t x a := by unfold cc_ix; omega
  by_cases hpr : pr (t * 3 + a) ≤ nI x
  · refine ⟨1, vl, upd pr (t * 3 + a) (nI x), upd ac (cc_ix 0 t x a) (cc_all m), ga, po, he, ou, cc_bun (cc_site m l) 7 (cc_ix 4 t x a) (cc_all m) fl, cc_Jbn (cc_Jac (cc_Jpr I hx) (cc_aw hm)) h2 (cc_aw hm), Or.inr rfl, cc_bunl h1,
      fun post hp => br_f (by decide) (br_f (by decide) (br_f (by decide) (br_t rfl (xx_hA1 hm hl ht hx8 ha hpr hp)))), fun post hp => br_f (by decide) (br_f (by decide) (br_f (by decide) (br_t rfl (xx_hA1 hm hl ht hx8 ha hpr ?_)))), fun z hz hd post hp => ?_⟩
    · rw [cc_bunu h1]; exact hp
    · exact cc_ldt hz (by decide) hd (br_f (by decide) (br_t (by decide) (yy_aA1 hm hl ht hx8 ha hpr (cc_Iw I _) hp)))
  · refine ⟨0, vl, pr, ac, ga, po, he, ou, fl, I, Or.inl rfl, rfl, fun post hp => br_f (by decide) (br_f (by decide) (br_f (by decide) (br_t rfl (xx_hA0 ht ha hpr hp)))), fun post hp => br_f (by decide) (br_f (by decide) (br_f (by decide) (br_t rfl (xx_hA0 ht ha hpr hp)))), fun z hz hd post hp => ?_⟩
    exact cc_ldt hz (by decide) hd (br_f (by decide) (br_t (by decide) (yy_aA0 ht ha hpr hp)))
end
end
section
/-! a promise at its leader -/
section
variable {m l tp : Nat} {bg vl pr ac la ga po he ou fl dn : Nat → Int32}
variable {t x a o : Nat}
theorem xx_hP0 {post : Int32 → SX → Prop} (hl0 : 0 < l) (hl : l < 4) (ht : t < 4) (hx0 : 1 ≤ x) (hx : x < 8) (ha : a < 3) (ho : (x - 1) % l = o) (h : ¬ la (t * 3 + o) = nI x ∨ ¬ po (t * 3 + o) = 0 ∨ ¬ bt (ga (t * 3 + o)) a = false) (hp : post 0 ((nI m), (nI l), (nI tp), bg, vl, pr, ac, la, ga, po, he, ou, fl, dn)) : wpX_handlePromise post ((nI m), (nI l), (nI tp), bg, vl, pr, ac, la, ga, po, he, ou, fl, dn) (nI t) (nI x) (nI a) := by
  have ho3 : o < 3 := by rw [← ho]; exact Nat.lt_of_lt_of_le (Nat.mod_lt _ hl0) (by omega)
  unfold wpX_handlePromise
  dsimp only
  refine xx_ow hx0 (by omega) hl0 hl (nm_r (cc_3E _ _) ?_)
  rw [ho, nI_clamp (n := t * 3 + o) (by omega)]
  have hv : vp_in (nI (t * 3 + o)) 12 := vp_in_nI (by omega) (by decide)
  refine And.intro hv (br_c (fun h1 => And.intro hv (br_c (fun h2 => And.intro hv ?_) (fun _ => hp))) (fun _ => hp))
  rw [cc_te (show a < 32 by omega)]
  refine br_f ?_ hp
  rcases h with h | h | h
  · exact absurd h1 h
  · exact absurd h2 h
  · exact h
theorem xx_hP1 {post : Int32 → SX → Prop} (hl0 : 0 < l) (hl : l < 4) (ht : t < 4) (hx0 : 1 ≤ x) (hx : x < 8) (ha : a < 3) (ho : (x - 1) % l = o) (h1 : la (t * 3 + o) = nI x) (h2 : po (t * 3 + o) = 0) (h3 : bt (ga (t * 3 + o)) a = false)
    (hq : ((ga (t * 3 + o) ||| ((1 : Int32) <<< (nI a &&& 31))) &&& ((ga (t * 3 + o) ||| ((1 : Int32) <<< (nI a &&& 31))) - 1)) = 0) (hp : post 1 ((nI m), (nI l), (nI tp), bg, vl, pr, ac, la, (upd ga (t * 3 + o) (ga (t * 3 + o) ||| ((1 : Int32) <<< (nI a &&& 31)))), po, he, ou, fl, dn)) : wpX_handlePromise post ((nI m), (nI l), (nI tp), bg, vl, pr, ac, la, ga, po, he, ou, fl, dn) (nI t) (nI x) (nI a) := by
  have ho3 : o < 3 := by rw [← ho]; exact Nat.lt_of_lt_of_le (Nat.mod_lt _ hl0) (by omega)
  unfold wpX_handlePromise
  dsimp only
  refine xx_ow hx0 (by omega) hl0 hl (nm_r (cc_3E _ _) ?_)
  rw [ho, nI_clamp (n := t * 3 + o) (by omega)]
  have hv : vp_in (nI (t * 3 + o)) 12 := vp_in_nI (by omega) (by decide)
  refine And.intro hv (br_t h1 (And.intro hv (br_t h2 (And.intro hv ?_))))
  rw [cc_te (show a < 32 by omega)]
  exact br_t h3 (And.intro hv (nm_e (And.intro hv (nm_e (br_t hq hp)))))
theorem xx_hP2 {post : Int32 → SX → Prop} (hm : m < 5) (hl0 : 0 < l) (hl : l < 4) (ht : t < 4) (hx0 : 1 ≤ x) (hx : x < 8) (ha : a < 3) (ho : (x - 1) % l = o) (h1 : la (t * 3 + o) = nI x) (h2 : po (t * 3 + o) = 0) (h3 : bt (ga (t * 3 + o)) a = false)
    (hq : ¬ ((ga (t * 3 + o) ||| ((1 : Int32) <<< (nI a &&& 31))) &&& ((ga (t * 3 + o) ||| ((1 : Int32) <<< (nI a &&& 31))) - 1)) = 0)
    (hp : post 1 ((nI m), (nI l), (nI tp), bg, (cc_vN vl ac (ga (t * 3 + o) ||| ((1 : Int32) <<< (nI a &&& 31))) t x m), pr, ac, la, (upd ga (t * 3 + o) 0), (upd po (t * 3 + o) 1), he, ou, (cc_fil fl (cc_ix 3 t x 0) 3 1), dn)) : wpX_handlePromise post ((nI m), (nI l), (nI tp), bg, vl, pr, ac, la, ga, po, he, ou, fl, dn) (nI t) (nI x) (nI a) := by
  have ho3 : o < 3 := by rw [← ho]; exact Nat.lt_of_lt_of_le (Nat.mod_lt _ hl0) (by omega)
  unfold wpX_handlePromise
  dsimp only
  refine xx_ow hx0 (by omega) hl0 hl (nm_r (cc_3E _ _) ?_)
  rw [ho, nI_clamp (n := t * 3 + o) (by omega)]
  have hv : vp_in (nI (t * 3 + o)) 12 := vp_in_nI (by omega) (by decide)
  refine And.intro hv (br_t h1 (And.intro hv (br_t h2 (And.intro hv ?_))))
  rw [cc_te (show a < 32 by omega)]
  refine br_t h3 (And.intro hv (nm_e (And.intro hv (nm_e (br_f hq (xx_pr hm ht hx ?_))))))
  dsimp only
  exact And.intro hv (nm_r (by rw [cc_vb1]) (And.intro hv (nm_r cc_uu hp)))
theorem yy_ga0 {post : Int32 → SY → Prop} (hl0 : 0 < l) (hl : l < 4) (ht : t < 4) (hx0 : 1 ≤ x) (hx : x < 8) (ha : a < 3) (ho : (x - 1) % l = o) (h : ¬ la (t * 3 + o) = nI x ∨ ¬ po (t * 3 + o) = 0 ∨ ¬ bt (ga (t * 3 + o)) a = false) (hp : post 0 ((nI m), (nI l), (nI tp), (cc_fa he ac fl), bg, dn, (cc_tr la), (cc_tr po), (cc_gb ga), pr, vl, ou)) : wpY_gather post ((nI m), (nI l), (nI tp), (cc_fa he ac fl), bg, dn, (cc_tr la), (cc_tr po), (cc_gb ga), pr, vl, ou) (nI t) (nI x) (nI a) := by
  have ho3 : o < 3 := by rw [← ho]; exact Nat.lt_of_lt_of_le (Nat.mod_lt _ hl0) (by omega)
  unfold wpY_gather
  dsimp only
  refine yy_ow hx0 (by omega) hl0 hl (nm_r (cc_4E _ _) ?_)
  rw [ho, nI_clamp (n := o * 4 + t) (by omega), cc_3E, nI_clamp (n := (o * 4 + t) * 3 + a) (by omega), cc_tE ht ho3, cc_tE ht ho3, cc_bE ht ho3 ha, cc_be]
  have hv : vp_in (nI (o * 4 + t)) 12 := vp_in_nI (by omega) (by decide)
  have hv2 : vp_in (nI ((o * 4 + t) * 3 + a)) 36 := vp_in_nI (by omega) (by decide)
  refine And.intro hv (br_c (fun h1 => And.intro hv (br_c (fun h2 => And.intro hv2 (br_f ?_ hp)) (fun _ => hp))) (fun _ => hp))
  rcases h with h | h | h
  · exact absurd h1 h
  · exact absurd h2 h
  · exact h
theorem yy_ga1 {post : Int32 → SY → Prop} {q : Int32} (hl0 : 0 < l) (hl : l < 4) (ht : t < 4) (hx0 : 1 ≤ x) (hx : x < 8) (ha : a < 3) (ho : (x - 1) % l = o) (h1 : la (t * 3 + o) = nI x) (h2 : po (t * 3 + o) = 0) (h3 : bt (ga (t * 3 + o)) a = false)
    (hq : ga (t * 3 + o) ||| ((1 : Int32) <<< (nI a &&& 31)) = q)
    (hp2 : cc_ct (fun g => bt q g) 3 = 2 → ∃ n107 : Nat, wY_gather_107 post (nI t) (nI x) (nI (o * 4 + t)) (nI m) (nI l) (nI tp) n107 0 (cc_fa he ac fl) bg dn (cc_tr la) (cc_tr po) (cc_gb (upd ga (t * 3 + o) q)) pr vl ou) (hp1 : cc_ct (fun g => bt q g) 3 ≠ 2 → post 1 ((nI m), (nI l), (nI tp), (cc_fa he ac fl), bg, dn, (cc_tr la), (cc_tr po), (cc_gb (upd ga (t * 3 + o) q)), pr, vl, ou)) : wpY_gather post ((nI m), (nI l), (nI tp), (cc_fa he ac fl), bg, dn, (cc_tr la), (cc_tr po), (cc_gb ga), pr, vl, ou) (nI t) (nI x) (nI a) := by
  have ho3 : o < 3 := by rw [← ho]; exact Nat.lt_of_lt_of_le (Nat.mod_lt _ hl0) (by omega)
  unfold wpY_gather
  dsimp only
  refine yy_ow hx0 (by omega) hl0 hl (nm_r (cc_4E _ _) ?_)
  rw [ho, nI_clamp (n := o * 4 + t) (by omega), cc_3E, nI_clamp (n := (o * 4 + t) * 3 + a) (by omega), cc_tE ht ho3, cc_tE ht ho3, cc_bE ht ho3 ha, cc_be]
  have hv : vp_in (nI (o * 4 + t)) 12 := vp_in_nI (by omega) (by decide)
  have hv2 : vp_in (nI ((o * 4 + t) * 3 + a)) 36 := vp_in_nI (by omega) (by decide)
  refine And.intro hv (br_t h1 (And.intro hv (br_t h2 (And.intro hv2 (br_t h3 (And.intro hv2 (nm_r (e' := cc_gb (upd ga (t * 3 + o) q)) ?_ ?_)))))))
  · rw [cc_vb1, cc_bU ht ho3 ha, hq]
  · exact ⟨4, yy_g66 ht ho3 pk_us hp2 hp1 3 0 rfl 4 (by omega)⟩
theorem cc_H2 (I : cc_I m l tp pr ac la ga he fl) (ht : t < 4) (hx0 : 1 ≤ x) (hx : x ≤ tp) (ha : a < 3) : cc_H m l tp bg vl pr ac la ga po he ou fl dn 2 t x a := by
  have hm := cc_Im I
  have hl := cc_Il I
  have hl0 := cc_Il0 I
  have hx8 : x < 8 := by have := cc_It I; omega
  obtain ⟨o, ho⟩ : ∃ o, (x - 1) % l = o := ⟨_, rfl⟩
  have h1 : cc_ix 2 t x a < cc_ix 3 t x 0 := by unfold cc_ix; omega
  by_cases h : la (t * 3 + o) = nI x ∧ po (t * 3 + o) = 0 ∧ bt (ga (t * 3 + o)) a = false
  · obtain ⟨e1, e2, e3⟩ := h
    have K := cc_q a ha (ga (t * 3 + o)) (cc_Ig I _) e3
    by_cases hq : ((ga (t * 3 + o) ||| ((1 : Int32) <<< (nI a &&& 31))) &&& ((ga (t * 3 + o) ||| ((1 : Int32) <<< (nI a &&& 31))) - 1)) = 0
    · have K1 := K.1 hq
      refine ⟨1, vl, pr, ac, upd ga (t * 3 + o) (ga (t * 3 + o) ||| ((1 : Int32) <<< (nI a &&& 31))), po, he, ou, fl, cc_Jga I K1.1, Or.inr rfl, rfl,
        fun post hp => br_f (by decide) (br_f (by decide) (br_t rfl (xx_hP1 hl0 hl ht hx0 hx8 ha ho e1 e2 e3 hq hp))), fun post hp => br_f (by decide) (br_f (by decide) (br_t rfl (xx_hP1 hl0 hl ht hx0 hx8 ha ho e1 e2 e3 hq hp))), fun z hz hd post hp => ?_⟩
      exact cc_ldt hz (by decide) hd (br_t rfl (yy_ga1 hl0 hl ht hx0 hx8 ha ho e1 e2 e3 rfl (fun y => absurd y K1.2) (fun _ => hp)))
    · have K2 := K.2 hq
      refine ⟨1, cc_vN vl ac (ga (t * 3 + o) ||| ((1 : Int32) <<< (nI a &&& 31))) t x m, pr, ac, upd ga (t * 3 + o) 0, upd po (t * 3 + o) 1, he, ou, cc_fil fl (cc_ix 3 t x 0) 3 1, cc_Jsn (cc_Jga I (Or.inl rfl)), Or.inr rfl, cc_filn (Or.inl h1),
        fun post hp => br_f (by decide) (br_f (by decide) (br_t rfl (xx_hP2 hm hl0 hl ht hx0 hx8 ha ho e1 e2 e3 hq hp))), fun post hp => br_f (by decide) (br_f (by decide) (br_t rfl (xx_hP2 hm hl0 hl ht hx0 hx8 ha ho e1 e2 e3 hq ?_))), fun z hz hd post hp => ?_⟩
      · rw [cc_filu (Or.inl h1)]; exact hp
      · have hw : ∀ a, a < 3 → cc_w 1 (fl (cc_ix 3 t x a)) := fun a ha => cc_I1 I (by unfold cc_ix; omega)
        rw [← cc_uu (f := ga) (i := t * 3 + o) (v := ga (t * 3 + o) ||| ((1 : Int32) <<< (nI a &&& 31))) (w := 0)] at hp
        refine cc_ldt hz (by decide) hd (br_t rfl (yy_ga1 hl0 hl ht hx0 hx8 ha ho e1 e2 e3 rfl (fun _ => ?_) (fun y => absurd K2 y)))
        exact ⟨m + 1, yy_g107 hm hl0 hl ht hx0 hx8 ho.symm pk_us hw hp m 0 (by omega) (m + 1) (by omega)⟩
  · have h' : ¬ la (t * 3 + o) = nI x ∨ ¬ po (t * 3 + o) = 0 ∨ ¬ bt (ga (t * 3 + o)) a = false := by
      by_cases e1 : la (t * 3 + o) = nI x
      · by_cases e2 : po (t * 3 + o) = 0
        · exact Or.inr (Or.inr (fun e3 => h ⟨e1, e2, e3⟩))
        · exact Or.inr (Or.inl e2)
      · exact Or.inl e1
    refine ⟨0, vl, pr, ac, ga, po, he, ou, fl, I, Or.inl rfl, rfl,
      fun post hp => br_f (by decide) (br_f (by decide) (br_t rfl (xx_hP0 hl0 hl ht hx0 hx8 ha ho h' hp))), fun post hp => br_f (by decide) (br_f (by decide) (br_t rfl (xx_hP0 hl0 hl ht hx0 hx8 ha ho h' hp))), fun z hz hd post hp => ?_⟩
    exact cc_ldt hz (by decide) hd (br_t rfl (yy_ga0 hl0 hl ht hx0 hx8 ha ho h' hp))
end
end
section
/-! a bundle at a site -/
theorem cc_sub {x w : Int32} : (w &&& (x ^^^ (-1))) = 0 ↔ x ||| w = x := by
  constructor
  · intro h
    apply b_ext
    intro i hi
    have e : bt (w &&& (x ^^^ (-1))) i = false := by rw [h]; exact b_0 i
    rw [b_and, b_xor, b_m1 i hi] at e
    rw [b_or]
    cases hx : bt x i
    · rw [hx] at e
      cases hw : bt w i
      · rfl
      · rw [hw] at e; exact absurd e (by decide)
    · rfl
  · intro h
    apply b_ext
    intro i hi
    have e : bt (x ||| w) i = bt x i := by rw [h]
    rw [b_or] at e
    rw [b_and, b_xor, b_m1 i hi, b_0]
    cases hx : bt x i
    · rw [hx] at e
      cases hw : bt w i
      · rfl
      · rw [hw] at e; exact absurd e (by decide)
    · cases bt w i <;> rfl
theorem cc_waT {w : Int32} {r : Nat} (hr : r < 4) (h : bt w r = true) : (w &&& cc_all r) ||| ((1 : Int32) <<< (nI r &&& 31)) = w &&& cc_all (r + 1) := by
  apply b_ext
  intro i _
  rw [b_or, b_and, b_and, cc_aB (by omega), cc_aB (by omega), cc_sB (by omega)]
  by_cases e : i = r
  · rw [e, h, decide_eq_true rfl, decide_eq_true (Nat.lt_succ_self r), Bool.or_true]; rfl
  · rw [decide_eq_false e, Bool.or_false]
    by_cases e2 : i < r
    · rw [decide_eq_true e2, decide_eq_true (show i < r + 1 by omega)]
    · rw [decide_eq_false e2, decide_eq_false (show ¬ i < r + 1 by omega)]
theorem cc_waF {w : Int32} {r : Nat} (hr : r < 4) (h : bt w r = false) : w &&& cc_all r = w &&& cc_all (r + 1) := by
  apply b_ext
  intro i _
  rw [b_and, b_and, cc_aB (by omega), cc_aB (by omega)]
  by_cases e : i = r
  · rw [e, h, Bool.false_and, Bool.false_and]
  · by_cases e2 : i < r
    · rw [decide_eq_true e2, decide_eq_true (show i < r + 1 by omega)]
    · rw [decide_eq_false e2, decide_eq_false (show ¬ i < r + 1 by omega)]
theorem cc_wam {w : Int32} {m : Nat} (hm : m < 5) (h : cc_w m w) : w &&& cc_all m = w := by
  apply b_ext
  intro i _
  rw [b_and, cc_aB hm]
  by_cases e : i < m
  · rw [decide_eq_true e, Bool.and_true]
  · rw [h i (by omega), Bool.false_and]
theorem cc_wa0 (w : Int32) : w &&& cc_all 0 = 0 := by
  rw [cc_a0]
  exact Int32.and_zero
theorem cc_m4s (s : Nat) : nI (4 + s) - 4 = nI s := by rw [cc_m4 (by omega), Nat.add_sub_cancel_left]
section
variable {m l tp : Nat} {bg vl pr ac la ga po he ou fl dn : Nat → Int32}
variable {s t x a : Nat}
theorem xx_dc {post : SX → Prop} (hm : m < 5) (htp : tp < 8) (hs : s < 7) (ht : t < 4) (h0 : ou (s * 4 + t) = 0) (hp : post ((nI m), (nI l), (nI tp), bg, vl, pr, ac, la, ga, po, he, (upd ou (s * 4 + t) (cc_jd he vl m tp s t)), fl, dn)) : wpX_decide post ((nI m), (nI l), (nI tp), bg, vl, pr, ac, la, ga, po, he, ou, fl, dn) (nI s) (nI t) := by
  unfold wpX_decide
  dsimp only
  unfold cc_jd at hp
  refine xx_le hm htp hs ht (fun z hz => ?_)
  have e := cc_z2 (f := fun r => cc_le he vl s t 2 r (tp + 1)) hz
  cases ha : cc_an (fun r => cc_le he vl s t 2 r (tp + 1)) m
  · rw [ha] at hp
    refine br_t (e.mpr ha) (xx_le hm htp hs ht (fun z1 hz1 => ?_))
    have e1 := cc_z1 (f := fun r => cc_le he vl s t 1 r (tp + 1)) hm hz1
    unfold wpX_allManagers
    dsimp only
    cases hb : cc_an (fun r => !cc_le he vl s t 1 r (tp + 1)) m
    · rw [hb] at hp
      refine br_t (e1.mpr hb) ?_
      rw [cc_4E]
      exact cc_st (by omega) (by decide) hp
    · rw [hb] at hp
      have hp2 : post ((nI m), (nI l), (nI tp), bg, vl, pr, ac, la, ga, po, he, (upd ou (s * 4 + t) 0), fl, dn) := hp
      rw [cc_ui h0] at hp2
      exact br_f (fun q => by rw [e1.mp q] at hb; exact absurd hb (by decide)) hp2
  · rw [ha] at hp
    refine br_f (fun q => by rw [e.mp q] at ha; exact absurd ha (by decide)) ?_
    rw [cc_4E]
    exact cc_st (by omega) (by decide) hp
theorem xx_hB {post : Int32 → SX → Prop} {w : Int32} (hm : m < 5) (htp : tp < 8) (hs : s < 7) (ht : t < 4) (hx : x < 8) (ha : a < 3)
    (hp0 : he (cc_ix s t x a) ||| w = he (cc_ix s t x a) → post 0 ((nI m), (nI l), (nI tp), bg, vl, pr, ac, la, ga, po, he, ou, fl, dn))
    (hp1 : ¬ he (cc_ix s t x a) ||| w = he (cc_ix s t x a) → ¬ ou (s * 4 + t) = 0 → post 1 ((nI m), (nI l), (nI tp), bg, vl, pr, ac, la, ga, po, (upd he (cc_ix s t x a) (he (cc_ix s t x a) ||| w)), ou, fl, dn))
    (hp2 : ¬ he (cc_ix s t x a) ||| w = he (cc_ix s t x a) → ou (s * 4 + t) = 0 → post 1 ((nI m), (nI l), (nI tp), bg, vl, pr, ac, la, ga, po, (upd he (cc_ix s t x a) (he (cc_ix s t x a) ||| w)), (upd ou (s * 4 + t) (cc_jd (upd he (cc_ix s t x a) (he (cc_ix s t x a) ||| w)) vl m tp s t)), fl, dn)) :
    wpX_handleBundle post ((nI m), (nI l), (nI tp), bg, vl, pr, ac, la, ga, po, he, ou, fl, dn) (nI s) (nI t) (nI x) (nI a) w := by
  unfold wpX_handleBundle
  dsimp only
  refine xx_ha ?_
  have hi : cc_ix s t x a < 672 := by unfold cc_ix; omega
  have hv := vp_in_nI hi (by decide)
  rw [nI_clamp (n := cc_ix s t x a) (by omega), cc_sub]
  refine And.intro hv (br_c hp0 (fun e => And.intro hv (And.intro hv (nm_e ?_))))
  rw [cc_4E]
  refine cc_ld (by omega) (by decide) (fun e0 => ?_) (fun e0 => hp1 e e0)
  exact xx_dc hm htp hs ht e0 (hp2 e e0)
theorem yy_h14 {post : Int32 → SY → Prop} {w : Int32} (hm : m < 5) (htp : tp < 8) (hs : s < 7) (ht : t < 4) (hx : x < 8) (ha : a < 3)
    (hw : fl (cc_ix (4 + s) t x a) = w) (hwm : cc_w m w) (hhm : cc_w m (he (cc_ix s t x a)))
    (hp0 : he (cc_ix s t x a) ||| w = he (cc_ix s t x a) → post 0 ((nI m), (nI l), (nI tp), (cc_fa he ac fl), bg, dn, (cc_tr la), (cc_tr po), (cc_gb ga), pr, vl, ou))
    (hp1 : ¬ he (cc_ix s t x a) ||| w = he (cc_ix s t x a) → ¬ ou (s * 4 + t) = 0 → post 1 ((nI m), (nI l), (nI tp), (cc_fa (upd he (cc_ix s t x a) (he (cc_ix s t x a) ||| w)) ac fl), bg, dn, (cc_tr la), (cc_tr po), (cc_gb ga), pr, vl, ou))
    (hp2 : ¬ he (cc_ix s t x a) ||| w = he (cc_ix s t x a) → ou (s * 4 + t) = 0 → post 1 ((nI m), (nI l), (nI tp), (cc_fa (upd he (cc_ix s t x a) (he (cc_ix s t x a) ||| w)) ac fl), bg, dn, (cc_tr la), (cc_tr po), (cc_gb ga), pr, vl, (upd ou (s * 4 + t) (cc_jd (upd he (cc_ix s t x a) (he (cc_ix s t x a) ||| w)) vl m tp s t)))) :
    ∀ d r, r + d = m → ∀ n, d < n → wY_hear_14 post (nI s) (nI t) (nI x) (nI a) (he (cc_ix s t x a)) (nI m) (nI l) (nI tp) n (nI r) (cc_fa (upd he (cc_ix s t x a) (he (cc_ix s t x a) ||| (w &&& cc_all r))) ac fl) bg dn (cc_tr la) (cc_tr po) (cc_gb ga) pr vl ou := by
  have hi : cc_ix s t x a < 672 := by unfold cc_ix; omega
  intro d
  induction d with
  | zero =>
    intro r h n hn
    obtain ⟨n, rfl⟩ := cc_fuel hn
    obtain rfl : r = m := by omega
    rw [cc_wam hm hwm]
    refine br_t (nI_le (Nat.le_refl _) (by omega)) (yy_smH hs ht hx ha ?_ ?_)
    · rw [pk_us]
      exact cc_wm (by omega) (cc_wo hhm hwm)
    rw [pk_us]
    refine br_c (fun e => ?_) (fun e => ?_)
    · rw [e, cc_ui rfl]
      exact hp0 e
    · rw [cc_4E]
      refine cc_ld (by omega) (by decide) (fun e0 => ?_) (fun e0 => hp1 e e0)
      exact yy_jd hm htp hs ht (cc_st (by omega) (by decide) (hp2 e e0))
  | succ d ih =>
    intro r h n hn
    obtain ⟨n, rfl⟩ := cc_fuel hn
    have H := ih (r + 1) (by omega) n (by omega)
    refine br_f (nI_ge (by omega) (by omega)) ?_
    rw [cc_12l]
    refine yy_at ?_
    show vp_in (nI (cc_ix (12 + s) t x a * 4) + nI r) 7296 ∧ _
    rw [nI_add]
    refine cc_ld (by unfold cc_ix; omega) (by decide) (fun e => ?_) (fun e => ?_)
    · rw [cc_fR (by omega), cc_ix12, cc_gF, ← cc_ix4, hw, cc_be] at e
      rw [← cc_waF (by omega) e] at H
      exact nm_r (nI_1 r) H
    · rw [cc_fR (by omega), cc_ix12, cc_gF, ← cc_ix4, hw, cc_bn] at e
      refine yy_at ?_
      show vp_in (nI (cc_ix s t x a * 4) + nI r) 7296 ∧ _
      rw [nI_add]
      refine cc_st1 (by omega) (by decide) (nm_r (nI_1 r) ?_)
      rw [cc_uH hi (by omega), pk_us, cc_uu, Int32.or_assoc, cc_waT (by omega) e]
      exact H
theorem yy_he {post : Int32 → SY → Prop} {w : Int32} (hm : m < 5) (htp : tp < 8) (hs : s < 7) (ht : t < 4) (hx : x < 8) (ha : a < 3)
    (hw : fl (cc_ix (4 + s) t x a) = w) (hwm : cc_w m w) (hhm : cc_w m (he (cc_ix s t x a)))
    (hp0 : he (cc_ix s t x a) ||| w = he (cc_ix s t x a) → post 0 ((nI m), (nI l), (nI tp), (cc_fa he ac fl), bg, dn, (cc_tr la), (cc_tr po), (cc_gb ga), pr, vl, ou))
    (hp1 : ¬ he (cc_ix s t x a) ||| w = he (cc_ix s t x a) → ¬ ou (s * 4 + t) = 0 → post 1 ((nI m), (nI l), (nI tp), (cc_fa (upd he (cc_ix s t x a) (he (cc_ix s t x a) ||| w)) ac fl), bg, dn, (cc_tr la), (cc_tr po), (cc_gb ga), pr, vl, ou))
    (hp2 : ¬ he (cc_ix s t x a) ||| w = he (cc_ix s t x a) → ou (s * 4 + t) = 0 → post 1 ((nI m), (nI l), (nI tp), (cc_fa (upd he (cc_ix s t x a) (he (cc_ix s t x a) ||| w)) ac fl), bg, dn, (cc_tr la), (cc_tr po), (cc_gb ga), pr, vl, (upd ou (s * 4 + t) (cc_jd (upd he (cc_ix s t x a) (he (cc_ix s t x a) ||| w)) vl m tp s t)))) :
    wpY_hear post ((nI m), (nI l), (nI tp), (cc_fa he ac fl), bg, dn, (cc_tr la), (cc_tr po), (cc_gb ga), pr, vl, ou) (nI s) (nI t) (nI x) (nI a) := by
  unfold wpY_hear
  dsimp only
  have H := yy_h14 hm htp hs ht hx ha hw hwm hhm hp0 hp1 hp2 m 0 (by omega) (m + 1) (by omega)
  rw [cc_wa0, Int32.or_zero, cc_ui rfl] at H
  exact yy_smH hs ht hx ha (cc_wm (by omega) hhm) ⟨m + 1, H⟩
theorem cc_nk {s j : Nat} (hs : s < 7) (hj : j < 4) : ¬ nI (4 + s) = nI j := fun z => by rw [nI_eq (by omega) (by omega)] at z; omega
theorem cc_H4 (I : cc_I m l tp pr ac la ga he fl) (hs : s < 7) (ht : t < 4) (hx : x ≤ tp) (ha : a < 3) : cc_H m l tp bg vl pr ac la ga po he ou fl dn (4 + s) t x a := by
  have hm := cc_Im I
  have htp := cc_It I
  have hx8 : x < 8 := by omega
  have hwm := cc_If I (cc_ix (4 + s) t x a)
  have hhm := cc_Ih I (cc_ix s t x a)
  have X (fl0 : Nat → Int32) (post : Int32 → SX → Prop) (h : wpX_handleBundle (fun r u => match u with | (b1, b2, b3, b4, b5, b6, b7, b8, b9, b10, b11, b12, b13, b14) => post r (b1, b2, b3, b4, b5, b6, b7, b8, b9, b10, b11, b12, b13, b14)) ((nI m), (nI l), (nI tp), bg, vl, pr, ac, la, ga, po, he, ou, fl0, dn) (nI s) (nI t) (nI x) (nI a) (fl (cc_ix (4 + s) t x a))) : wpX_handle post ((nI m), (nI l), (nI tp), bg, vl, pr, ac, la, ga, po, he, ou, fl0, dn) (nI (4 + s)) (nI t) (nI x) (nI a) (fl (cc_ix (4 + s) t x a)) := by
    refine br_f (cc_nk (j := 0) hs (by decide)) (br_f (cc_nk (j := 1) hs (by decide)) (br_f (cc_nk (j := 2) hs (by decide)) (br_f (cc_nk (j := 3) hs (by decide)) ?_)))
    rw [cc_m4s]
    exact h
  have Y (z : Nat) (hz : z < 10) (hd : dn z = 0) (post : Int32 → SY → Prop) (h : wpY_hear (fun r u => match u with | (b1, b2, b3, b4, b5, b6, b7, b8, b9, b10, b11, b12) => post r (b1, b2, b3, b4, b5, b6, b7, b8, b9, b10, b11, b12)) ((nI m), (nI l), (nI tp), (cc_fa he ac fl), bg, dn, (cc_tr la), (cc_tr po), (cc_gb ga), pr, vl, ou) (nI s) (nI t) (nI x) (nI a)) : wY_duplicate_63 post (nI (4 + s)) (nI t) (nI x) (nI a) (nI z) (nI m) (nI l) (nI tp) (cc_fa he ac fl) bg dn (cc_tr la) (cc_tr po) (cc_gb ga) pr vl ou := by
    refine cc_ldt hz (by decide) hd (br_f (cc_nk (j := 2) hs (by decide)) (br_f (nI_nlt (b := 4) (by omega) (by omega)) ?_))
    rw [cc_m4s]
    exact h
  by_cases e : he (cc_ix s t x a) ||| fl (cc_ix (4 + s) t x a) = he (cc_ix s t x a)
  · exact ⟨0, vl, pr, ac, ga, po, he, ou, fl, I, Or.inl rfl, rfl,
      fun post hp => X fl post (xx_hB hm htp hs ht hx8 ha (fun _ => hp) (fun z => absurd e z) (fun z => absurd e z)),
      fun post hp => X _ post (xx_hB hm htp hs ht hx8 ha (fun _ => hp) (fun z => absurd e z) (fun z => absurd e z)),
      fun z hz hd post hp => Y z hz hd post (yy_he hm htp hs ht hx8 ha rfl hwm hhm (fun _ => hp) (fun z => absurd e z) (fun z => absurd e z))⟩
  · by_cases e0 : ou (s * 4 + t) = 0
    · exact ⟨1, vl, pr, ac, ga, po, upd he (cc_ix s t x a) (he (cc_ix s t x a) ||| fl (cc_ix (4 + s) t x a)), upd ou (s * 4 + t) (cc_jd (upd he (cc_ix s t x a) (he (cc_ix s t x a) ||| fl (cc_ix (4 + s) t x a))) vl m tp s t), fl, cc_Jhe I (cc_wo hhm hwm), Or.inr rfl, rfl,
        fun post hp => X fl post (xx_hB hm htp hs ht hx8 ha (fun z => absurd z e) (fun _ z => absurd e0 z) (fun _ _ => hp)),
        fun post hp => X _ post (xx_hB hm htp hs ht hx8 ha (fun z => absurd z e) (fun _ z => absurd e0 z) (fun _ _ => hp)),
        fun z hz hd post hp => Y z hz hd post (yy_he hm htp hs ht hx8 ha rfl hwm hhm (fun z => absurd z e) (fun _ z => absurd e0 z) (fun _ _ => hp))⟩
    · exact ⟨1, vl, pr, ac, ga, po, upd he (cc_ix s t x a) (he (cc_ix s t x a) ||| fl (cc_ix (4 + s) t x a)), ou, fl, cc_Jhe I (cc_wo hhm hwm), Or.inr rfl, rfl,
        fun post hp => X fl post (xx_hB hm htp hs ht hx8 ha (fun z => absurd z e) (fun _ _ => hp) (fun _ z => absurd z e0)),
        fun post hp => X _ post (xx_hB hm htp hs ht hx8 ha (fun z => absurd z e) (fun _ _ => hp) (fun _ z => absurd z e0)),
        fun z hz hd post hp => Y z hz hd post (yy_he hm htp hs ht hx8 ha rfl hwm hhm (fun z => absurd z e) (fun _ _ => hp) (fun _ z => absurd z e0))⟩
/-- every message there is -/
theorem cc_Ha {k : Nat} (I : cc_I m l tp pr ac la ga he fl) (ht : t < 4) (ha : a < 3) (hv : cc_vk m l tp k x) : cc_H m l tp bg vl pr ac la ga po he ou fl dn k t x a := by
  rcases hv with ⟨rfl, hx⟩ | ⟨h1, h2, h3, h4⟩ | ⟨h1, h2, h3⟩
  · exact cc_H0 I ht hx ha
  · have hk : k = 1 ∨ k = 2 ∨ k = 3 := by omega
    rcases hk with rfl | rfl | rfl
    · exact cc_H1 I ht h4 ha
    · exact cc_H2 I ht h3 h4 ha
    · exact cc_H3 I ht h4 ha
  · obtain ⟨s, rfl⟩ : ∃ s, k = 4 + s := ⟨k - 4, by omega⟩
    rw [Nat.add_sub_cancel_left] at h2
    exact cc_H4 I (cc_siL (cc_Im I) (cc_Il I) h2) ht h3 ha
end
end
section
/-! messages that arrive or are lost: both sides in lockstep -/
/-- related states: the same counts, the same begun and down; everything else of the reference is a function of the component's arrays -/
def cc_R (m l tp : Nat) (bg dn : Nat → Int32) (u : SX) (v : SY) : Prop :=
  ∃ vl pr ac la ga po he ou fl : Nat → Int32, cc_I m l tp pr ac la ga he fl ∧ u = ((nI m), (nI l), (nI tp), bg, vl, pr, ac, la, ga, po, he, ou, fl, dn) ∧ v = ((nI m), (nI l), (nI tp), (cc_fa he ac fl), bg, dn, (cc_tr la), (cc_tr po), (cc_gb ga), pr, vl, ou)
/-- one outcome for both -/
def cc_L (m l tp : Nat) (bg dn : Nat → Int32) (wx : (Int32 → SX → Prop) → Prop) (wy : (Int32 → SY → Prop) → Prop) : Prop :=
  ∃ (r : Int32) (u : SX) (v : SY), cc_R m l tp bg dn u v ∧ (∀ post : Int32 → SX → Prop, post r u → wx post) ∧ (∀ post : Int32 → SY → Prop, post r v → wy post)
/-- the place that a message is bound for -/
def cc_tg (l k x a : Nat) : Nat := if k = 2 then 4 + (x - 1) % l else if k < 4 then 7 + a else k - 4
section
variable {m l tp : Nat} {bg vl pr ac la ga po he ou fl dn : Nat → Int32}
theorem cc_Lm {wx : (Int32 → SX → Prop) → Prop} {wy : (Int32 → SY → Prop) → Prop} (r : Int32) (I : cc_I m l tp pr ac la ga he fl) (hx : ∀ post : Int32 → SX → Prop, post r ((nI m), (nI l), (nI tp), bg, vl, pr, ac, la, ga, po, he, ou, fl, dn) → wx post) (hy : ∀ post : Int32 → SY → Prop, post r ((nI m), (nI l), (nI tp), (cc_fa he ac fl), bg, dn, (cc_tr la), (cc_tr po), (cc_gb ga), pr, vl, ou) → wy post) : cc_L m l tp bg dn wx wy :=
  ⟨r, ((nI m), (nI l), (nI tp), bg, vl, pr, ac, la, ga, po, he, ou, fl, dn), ((nI m), (nI l), (nI tp), (cc_fa he ac fl), bg, dn, (cc_tr la), (cc_tr po), (cc_gb ga), pr, vl, ou), ⟨vl, pr, ac, la, ga, po, he, ou, fl, I, rfl, rfl⟩, hx, hy⟩
theorem yy_atG {post : Int32 → Prop} {M L T : Int32} {c1 c2 c3 c4 c5 c6 c7 c8 c9 : Nat → Int32} {k t x a : Nat} (h : post (nI (cc_ix k t x a * 4))) : wpY_at post (M, L, T, c1, c2, c3, c4, c5, c6, c7, c8, c9) (nI k) (nI t) (nI x) (nI a) := by
  show post ((((((nI k * 4) + nI t) * 8) + nI x) * 3 + nI a) * 4)
  rw [cc_ixE, show nI (cc_ix k t x a) * 4 = nI (cc_ix k t x a * 4) from pk_mul _ 4]
  exact h
variable {k t x a : Nat}
theorem cc_vkx (hv : cc_vk m l tp k x) (h : k = 2) : 1 ≤ x := by
  rcases hv with h1 | h1 | h1
  · omega
  · omega
  · have := h1.1; omega
theorem cc_tgL (hl0 : 0 < l) (hl : l < 4) (hk : k < 11) (ha : a < 3) : cc_tg l k x a < 10 := by
  unfold cc_tg
  have := Nat.mod_lt (x - 1) hl0
  by_cases h : k = 2
  · rw [if_pos h]; omega
  · rw [if_neg h]
    by_cases h4 : k < 4
    · rw [if_pos h4]; omega
    · rw [if_neg h4]; omega
theorem xx_tg {post : Int32 → Prop} (hl0 : 0 < l) (hl : l < 4) (hk : k < 11) (hx : k = 2 → 1 ≤ x) (hx8 : x < 8) (hp : post (nI (cc_tg l k x a))) : wpX_target post ((nI m), (nI l), (nI tp), bg, vl, pr, ac, la, ga, po, he, ou, fl, dn) (nI k) (nI x) (nI a) := by
  unfold cc_tg at hp
  by_cases h : k = 2
  · rw [if_pos h] at hp
    have := hx h
    subst h
    refine br_t rfl (xx_ow this (by omega) hl0 hl ?_)
    rw [cc_4l]
    exact hp
  · rw [if_neg h] at hp
    have h' : ¬ nI k = nI 2 := fun z => by rw [nI_eq (by omega) (by omega)] at z; omega
    refine br_f h' ?_
    by_cases h4 : k < 4
    · rw [if_pos h4] at hp
      refine br_t (nI_lt (b := 4) h4 (by decide)) ?_
      rw [cc_7l]
      exact hp
    · rw [if_neg h4] at hp
      refine br_f (nI_nlt (b := 4) (by omega) (by omega)) ?_
      rw [cc_m4 (by omega)]
      exact hp
theorem xx_ar {post : Int32 → SX → Prop} {p4 : Int32} (hm : m < 5) (hl0 : 0 < l) (hl : l < 4) (htp : tp < 8) (ht : t < 4) (ha : a < 3) (hv : cc_vk m l tp k x)
    (h0 : fl (cc_ix k t x a) = 0 → post (-3) ((nI m), (nI l), (nI tp), bg, vl, pr, ac, la, ga, po, he, ou, fl, dn)) (h1 : ¬ fl (cc_ix k t x a) = 0 → ¬ dn (cc_tg l k x a) = 0 → post (-4) ((nI m), (nI l), (nI tp), bg, vl, pr, ac, la, ga, po, he, ou, fl, dn))
    (h2 : ¬ fl (cc_ix k t x a) = 0 → dn (cc_tg l k x a) = 0 → (p4 = 0 → wX_arrive_74 post (nI k) (nI t) (nI x) (nI a) (fl (cc_ix k t x a)) (nI m) (nI l) (nI tp) bg vl pr ac la ga po he ou (upd fl (cc_ix k t x a) 0) dn) ∧ (¬ p4 = 0 → wX_arrive_74 post (nI k) (nI t) (nI x) (nI a) (fl (cc_ix k t x a)) (nI m) (nI l) (nI tp) bg vl pr ac la ga po he ou fl dn)) :
    wpX_arrive post ((nI m), (nI l), (nI tp), bg, vl, pr, ac, la, ga, po, he, ou, fl, dn) (nI k) (nI t) (nI x) (nI a) p4 := by
  have hL := cc_vkL hm hl htp hv
  have hi : cc_ix k t x a < 1056 := by unfold cc_ix; omega
  have hvp := vp_in_nI hi (by decide)
  unfold wpX_arrive
  dsimp only
  refine xx_va1 hm hl htp ht ha hv (br_f cc_n10 (xx_fa ?_))
  rw [nI_clamp (n := cc_ix k t x a) (by omega)]
  refine And.intro hvp (nm_e (br_c h0 (fun e => xx_tg hl0 hl hL.1 (cc_vkx hv) hL.2 ?_)))
  refine cc_ld (cc_tgL hl0 hl hL.1 ha) (by decide) (fun d => ?_) (fun d => h1 e d)
  exact ⟨fun z => And.intro hvp (nm_e ((h2 e d).1 z)), (h2 e d).2⟩
theorem yy_dp {post : Int32 → SY → Prop} (hm : m < 5) (hl0 : 0 < l) (hl : l < 4) (htp : tp < 8) (ht : t < 4) (ha : a < 3) (hv : cc_vk m l tp k x) (hw : cc_w 4 (fl (cc_ix k t x a)))
    (h0 : fl (cc_ix k t x a) = 0 → post (-3) ((nI m), (nI l), (nI tp), (cc_fa he ac fl), bg, dn, (cc_tr la), (cc_tr po), (cc_gb ga), pr, vl, ou)) (h2 : ¬ fl (cc_ix k t x a) = 0 → wY_duplicate_63 post (nI k) (nI t) (nI x) (nI a) (nI (cc_tg l k x a)) (nI m) (nI l) (nI tp) (cc_fa he ac fl) bg dn (cc_tr la) (cc_tr po) (cc_gb ga) pr vl ou) : wpY_duplicate post ((nI m), (nI l), (nI tp), (cc_fa he ac fl), bg, dn, (cc_tr la), (cc_tr po), (cc_gb ga), pr, vl, ou) (nI k) (nI t) (nI x) (nI a) := by
  have hL := cc_vkL hm hl htp hv
  unfold wpY_duplicate
  dsimp only
  refine yy_va1 hm hl htp ht ha hv (br_f cc_n10 (yy_smF hL.1 ht hL.2 ha hw (br_c h0 (fun e => ?_))))
  have H := h2 e
  unfold cc_tg at H
  by_cases h : k = 2
  · rw [if_pos h] at H
    have := cc_vkx hv h
    subst h
    refine br_t rfl (yy_ow this (by omega) hl0 hl ?_)
    rw [cc_4l]
    exact H
  · rw [if_neg h] at H
    have h' : ¬ nI k = nI 2 := fun z => by rw [nI_eq (by omega) (by omega)] at z; omega
    refine br_f h' ?_
    by_cases h4 : k < 4
    · rw [if_pos h4] at H
      refine br_t (nI_lt (b := 4) h4 (by decide)) ?_
      rw [cc_7l]
      exact H
    · rw [if_neg h4] at H
      refine br_f (nI_nlt (b := 4) (by omega) (by omega)) ?_
      rw [cc_m4 (by omega)]
      exact H
theorem yy_l35 {post : Int32 → SY → Prop} (hk : k < 11) (ht : t < 4) (hx : x < 8) (ha : a < 3) (hp : post 1 ((nI m), (nI l), (nI tp), (cc_fa he ac (upd fl (cc_ix k t x a) 0)), bg, dn, (cc_tr la), (cc_tr po), (cc_gb ga), pr, vl, ou)) :
    ∀ d r, r + d = 4 → ∀ n, d < n → wY_lose_35 post (nI k) (nI t) (nI x) (nI a) (nI m) (nI l) (nI tp) n (nI r) (cc_fil (cc_fa he ac fl) ((768 + cc_ix k t x a) * 4) r 0) bg dn (cc_tr la) (cc_tr po) (cc_gb ga) pr vl ou := by
  intro d
  induction d with
  | zero =>
    intro r h n hn
    obtain ⟨n, rfl⟩ := cc_fuel hn
    obtain rfl : r = 4 := by omega
    rw [cc_zF]
    exact br_t (nI_le (a := 4) (b := 4) (by omega) (by decide)) hp
  | succ d ih =>
    intro r h n hn
    obtain ⟨n, rfl⟩ := cc_fuel hn
    have H := ih (r + 1) (by omega) n (by omega)
    rw [← cc_fils] at H
    refine br_f (nI_ge (b := 4) (by omega) (by decide)) ?_
    rw [cc_8l]
    refine yy_atG ?_
    show vp_in (nI (cc_ix (8 + k) t x a * 4) + nI r) 7296 ∧ _
    rw [nI_add, cc_ix8]
    exact cc_st0 (by unfold cc_ix; omega) (by decide) (nm_r (nI_1 r) H)
theorem yy_lo {post : Int32 → SY → Prop} (hm : m < 5) (hl : l < 4) (htp : tp < 8) (ht : t < 4) (ha : a < 3) (hv : cc_vk m l tp k x) (hw : cc_w 4 (fl (cc_ix k t x a)))
    (h0 : fl (cc_ix k t x a) = 0 → post (-3) ((nI m), (nI l), (nI tp), (cc_fa he ac fl), bg, dn, (cc_tr la), (cc_tr po), (cc_gb ga), pr, vl, ou)) (h1 : ¬ fl (cc_ix k t x a) = 0 → post 1 ((nI m), (nI l), (nI tp), (cc_fa he ac (upd fl (cc_ix k t x a) 0)), bg, dn, (cc_tr la), (cc_tr po), (cc_gb ga), pr, vl, ou)) : wpY_lose post ((nI m), (nI l), (nI tp), (cc_fa he ac fl), bg, dn, (cc_tr la), (cc_tr po), (cc_gb ga), pr, vl, ou) (nI k) (nI t) (nI x) (nI a) := by
  have hL := cc_vkL hm hl htp hv
  unfold wpY_lose
  dsimp only
  refine yy_va1 hm hl htp ht ha hv (br_f cc_n10 (yy_smF hL.1 ht hL.2 ha hw (br_c h0 (fun e => ?_))))
  have H := yy_l35 hL.1 ht hL.2 ha (h1 e) 4 0 rfl 5 (by omega)
  rw [cc_fil0] at H
  exact ⟨5, H⟩
theorem xx_lo {post : Int32 → SX → Prop} (hm : m < 5) (hl : l < 4) (htp : tp < 8) (ht : t < 4) (ha : a < 3) (hv : cc_vk m l tp k x)
    (h0 : fl (cc_ix k t x a) = 0 → post (-3) ((nI m), (nI l), (nI tp), bg, vl, pr, ac, la, ga, po, he, ou, fl, dn)) (h1 : ¬ fl (cc_ix k t x a) = 0 → post 1 ((nI m), (nI l), (nI tp), bg, vl, pr, ac, la, ga, po, he, ou, (upd fl (cc_ix k t x a) 0), dn)) : wpX_lose post ((nI m), (nI l), (nI tp), bg, vl, pr, ac, la, ga, po, he, ou, fl, dn) (nI k) (nI t) (nI x) (nI a) := by
  have hL := cc_vkL hm hl htp hv
  have hi : cc_ix k t x a < 1056 := by unfold cc_ix; omega
  unfold wpX_lose
  dsimp only
  exact xx_va1 hm hl htp ht ha hv (br_f cc_n10 (xx_fa (cc_ld hi (by decide) h0 (fun e => cc_st hi (by decide) (h1 e)))))
end
section
variable {m l tp : Nat} {bg vl pr ac la ga po he ou fl dn : Nat → Int32}
theorem lk_lose (I : cc_I m l tp pr ac la ga he fl) (p0 p1 p2 p3 : Int32) : cc_L m l tp bg dn (fun post => wpX_lose post ((nI m), (nI l), (nI tp), bg, vl, pr, ac, la, ga, po, he, ou, fl, dn) p0 p1 p2 p3) (fun post => wpY_lose post ((nI m), (nI l), (nI tp), (cc_fa he ac fl), bg, dn, (cc_tr la), (cc_tr po), (cc_gb ga), pr, vl, ou) p0 p1 p2 p3) := by
  have hm := cc_Im I
  have hl := cc_Il I
  have htp := cc_It I
  rcases cc_va (bg := bg) (vl := vl) (pr := pr) (ac := ac) (la := la) (ga := ga) (po := po) (he := he) (ou := ou) (fl := fl) (dn := dn) hm hl htp p0 p1 p2 p3 with ⟨k, t, x, a, rfl, rfl, rfl, rfl, ht, ha, hv⟩ | ⟨hX, hY⟩
  · by_cases e : fl (cc_ix k t x a) = 0
    · exact cc_Lm (vl := vl) (po := po) (ou := ou) (-3) I (fun post hp => xx_lo hm hl htp ht ha hv (fun _ => hp) (fun z => absurd e z)) (fun post hp => yy_lo hm hl htp ht ha hv (cc_I4 I _) (fun _ => hp) (fun z => absurd e z))
    · exact cc_Lm (vl := vl) (po := po) (ou := ou) 1 (cc_Jf1 (i := cc_ix k t x a) I (cc_w0 1)) (fun post hp => xx_lo hm hl htp ht ha hv (fun z => absurd z e) (fun _ => hp)) (fun post hp => yy_lo hm hl htp ht ha hv (cc_I4 I _) (fun z => absurd z e) (fun _ => hp))
  · refine cc_Lm (vl := vl) (po := po) (ou := ou) (-1) I (fun post hp => ?_) (fun post hp => ?_)
    · unfold wpX_lose
      dsimp only
      exact hX _ (br_t rfl hp)
    · unfold wpY_lose
      dsimp only
      exact hY _ (br_t rfl hp)
theorem lk_dup (I : cc_I m l tp pr ac la ga he fl) (p0 p1 p2 p3 : Int32) : cc_L m l tp bg dn (fun post => wpX_duplicate post ((nI m), (nI l), (nI tp), bg, vl, pr, ac, la, ga, po, he, ou, fl, dn) p0 p1 p2 p3) (fun post => wpY_duplicate post ((nI m), (nI l), (nI tp), (cc_fa he ac fl), bg, dn, (cc_tr la), (cc_tr po), (cc_gb ga), pr, vl, ou) p0 p1 p2 p3) := by
  have hm := cc_Im I
  have hl0 := cc_Il0 I
  have hl := cc_Il I
  have htp := cc_It I
  rcases cc_va (bg := bg) (vl := vl) (pr := pr) (ac := ac) (la := la) (ga := ga) (po := po) (he := he) (ou := ou) (fl := fl) (dn := dn) hm hl htp p0 p1 p2 p3 with ⟨k, t, x, a, rfl, rfl, rfl, rfl, ht, ha, hv⟩ | ⟨hX, hY⟩
  · have hz := cc_tgL (x := x) hl0 hl (cc_vkL hm hl htp hv).1 ha
    by_cases e : fl (cc_ix k t x a) = 0
    · refine cc_Lm (vl := vl) (po := po) (ou := ou) (-3) I (fun post hp => ?_) (fun post hp => yy_dp hm hl0 hl htp ht ha hv (cc_I4 I _) (fun _ => hp) (fun z => absurd e z))
      unfold wpX_duplicate
      dsimp only
      exact xx_ar hm hl0 hl htp ht ha hv (fun _ => hp) (fun z => absurd e z) (fun z => absurd e z)
    · by_cases d : dn (cc_tg l k x a) = 0
      · obtain ⟨r, vl', pr', ac', ga', po', he', ou', fl', I', hr, hf, hX1, hX2, hY⟩ := cc_Ha (bg := bg) (vl := vl) (po := po) (ou := ou) (dn := dn) I ht ha hv
        refine cc_Lm (vl := vl') (po := po') (ou := ou') r I' (fun post hp => ?_) (fun post hp => yy_dp hm hl0 hl htp ht ha hv (cc_I4 I _) (fun z => absurd z e) (fun _ => hY _ hz d post hp))
        unfold wpX_duplicate
        dsimp only
        refine xx_ar hm hl0 hl htp ht ha hv (fun z => absurd z e) (fun _ z => absurd d z) (fun _ _ => ⟨fun z => absurd z cc_n10, fun _ => ?_⟩)
        unfold wX_arrive_74
        exact hX1 _ hp
      · refine cc_Lm (vl := vl) (po := po) (ou := ou) (-4) I (fun post hp => ?_) (fun post hp => yy_dp hm hl0 hl htp ht ha hv (cc_I4 I _) (fun z => absurd z e) (fun _ => cc_ldf hz (by decide) d hp))
        unfold wpX_duplicate
        dsimp only
        exact xx_ar hm hl0 hl htp ht ha hv (fun z => absurd z e) (fun _ _ => hp) (fun _ z => absurd z d)
  · refine cc_Lm (vl := vl) (po := po) (ou := ou) (-1) I (fun post hp => ?_) (fun post hp => ?_)
    · unfold wpX_duplicate wpX_arrive
      dsimp only
      exact hX _ (br_t rfl hp)
    · unfold wpY_duplicate
      dsimp only
      exact hY _ (br_t rfl hp)
theorem lk_del (I : cc_I m l tp pr ac la ga he fl) (p0 p1 p2 p3 : Int32) : cc_L m l tp bg dn (fun post => wpX_deliver post ((nI m), (nI l), (nI tp), bg, vl, pr, ac, la, ga, po, he, ou, fl, dn) p0 p1 p2 p3) (fun post => wpY_deliver post ((nI m), (nI l), (nI tp), (cc_fa he ac fl), bg, dn, (cc_tr la), (cc_tr po), (cc_gb ga), pr, vl, ou) p0 p1 p2 p3) := by
  have hm := cc_Im I
  have hl0 := cc_Il0 I
  have hl := cc_Il I
  have htp := cc_It I
  rcases cc_va (bg := bg) (vl := vl) (pr := pr) (ac := ac) (la := la) (ga := ga) (po := po) (he := he) (ou := ou) (fl := fl) (dn := dn) hm hl htp p0 p1 p2 p3 with ⟨k, t, x, a, rfl, rfl, rfl, rfl, ht, ha, hv⟩ | ⟨hX, hY⟩
  · have hz := cc_tgL (x := x) hl0 hl (cc_vkL hm hl htp hv).1 ha
    by_cases e : fl (cc_ix k t x a) = 0
    · refine cc_Lm (vl := vl) (po := po) (ou := ou) (-3) I (fun post hp => ?_) (fun post hp => ?_)
      · unfold wpX_deliver
        dsimp only
        exact xx_ar hm hl0 hl htp ht ha hv (fun _ => hp) (fun z => absurd e z) (fun z => absurd e z)
      · unfold wpY_deliver
        dsimp only
        exact yy_dp hm hl0 hl htp ht ha hv (cc_I4 I _) (fun _ => br_f (by decide) (br_f (by decide) hp)) (fun z => absurd e z)
    · by_cases d : dn (cc_tg l k x a) = 0
      · obtain ⟨r, vl', pr', ac', ga', po', he', ou', fl', I', hr, hf, hX1, hX2, hY⟩ := cc_Ha (bg := bg) (vl := vl) (po := po) (ou := ou) (dn := dn) I ht ha hv
        refine cc_Lm (vl := vl') (po := po') (ou := ou') r (cc_Jf1 (i := cc_ix k t x a) I' (cc_w0 1)) (fun post hp => ?_) (fun post hp => ?_)
        · unfold wpX_deliver
          dsimp only
          refine xx_ar hm hl0 hl htp ht ha hv (fun z => absurd z e) (fun _ z => absurd d z) (fun _ _ => ⟨fun _ => ?_, fun z => absurd rfl z⟩)
          unfold wX_arrive_74
          exact hX2 _ hp
        · unfold wpY_deliver
          dsimp only
          refine yy_dp hm hl0 hl htp ht ha hv (cc_I4 I _) (fun z => absurd z e) (fun _ => hY _ hz d _ ?_)
          have H : wY_deliver_22 post (nI k) (nI t) (nI x) (nI a) r (nI m) (nI l) (nI tp) (cc_fa he' ac' fl') bg dn (cc_tr la) (cc_tr po') (cc_gb ga') pr' vl' ou' := by
            unfold wY_deliver_22
            exact yy_lo hm hl htp ht ha hv (cc_I4 I' _) (fun z => absurd (hf.symm.trans z) e) (fun _ => hp)
          dsimp only
          rcases hr with rfl | rfl
          · exact br_f (by decide) (br_t rfl H)
          · exact br_t rfl H
      · refine cc_Lm (vl := vl) (po := po) (ou := ou) (-4) I (fun post hp => ?_) (fun post hp => ?_)
        · unfold wpX_deliver
          dsimp only
          exact xx_ar hm hl0 hl htp ht ha hv (fun z => absurd z e) (fun _ _ => hp) (fun _ z => absurd z d)
        · unfold wpY_deliver
          dsimp only
          exact yy_dp hm hl0 hl htp ht ha hv (cc_I4 I _) (fun z => absurd z e) (fun _ => cc_ldf hz (by decide) d (br_f (by decide) (br_f (by decide) hp)))
  · refine cc_Lm (vl := vl) (po := po) (ou := ou) (-1) I (fun post hp => ?_) (fun post hp => ?_)
    · unfold wpX_deliver wpX_arrive
      dsimp only
      exact hX _ (br_t rfl hp)
    · unfold wpY_deliver wpY_duplicate
      dsimp only
      exact hY _ (br_t rfl (br_f (by decide) (br_f (by decide) hp)))
end
end
section
/-! begin, vote, start, power: in lockstep -/
theorem cc_v0E (t r : Nat) : (((nI t * 4) + nI r) * 8) = nI (cc_vx t r 0) := by
  show (nI t * nI 4 + nI r) * nI 8 = _
  rw [pk_mul, nI_add, pk_mul]
  rfl
section
variable {m l tp : Nat} {bg vl pr ac la ga po he ou fl dn : Nat → Int32}
theorem lk_begin (I : cc_I m l tp pr ac la ga he fl) (p0 : Int32) : ∃ bg', cc_L m l tp bg' dn (fun post => wpX_begin post ((nI m), (nI l), (nI tp), bg, vl, pr, ac, la, ga, po, he, ou, fl, dn) p0) (fun post => wpY_begin post ((nI m), (nI l), (nI tp), (cc_fa he ac fl), bg, dn, (cc_tr la), (cc_tr po), (cc_gb ga), pr, vl, ou) p0) := by
  rcases pk_ix p0 (n := 4) (by decide) with q | q | ⟨t, ht, rfl⟩
  · refine ⟨bg, cc_Lm (vl := vl) (po := po) (ou := ou) (-1) I (fun post hp => ?_) (fun post hp => br_t q hp)⟩
    unfold wpX_begin
    dsimp only
    exact xx_tr0 (Or.inl q) (br_t rfl hp)
  · refine ⟨bg, cc_Lm (vl := vl) (po := po) (ou := ou) (-1) I (fun post hp => ?_) (fun post hp => br_f (cc_nn 4 q (by decide)) (br_f (cc_nle 3 q (by decide)) hp))⟩
    unfold wpX_begin
    dsimp only
    exact xx_tr0 (Or.inr q) (br_t rfl hp)
  have y1 : ¬ nI t < 0 := nI_pos (by omega)
  have y2 : nI t ≤ 3 := nI_le (b := 3) (by omega) (by decide)
  by_cases e : bg t = 0
  · refine ⟨upd bg t 1, cc_Lm (vl := vl) (po := po) (ou := ou) 1 I (fun post hp => ?_) (fun post hp => br_f y1 (br_t y2 (cc_ldt ht (by decide) e (cc_st1 ht (by decide) hp))))⟩
    unfold wpX_begin
    dsimp only
    exact xx_tr1 ht (br_f cc_n10 (cc_ldt ht (by decide) e (cc_st1 ht (by decide) hp)))
  · refine ⟨bg, cc_Lm (vl := vl) (po := po) (ou := ou) (-5) I (fun post hp => ?_) (fun post hp => br_f y1 (br_t y2 (cc_ldf ht (by decide) e hp)))⟩
    unfold wpX_begin
    dsimp only
    exact xx_tr1 ht (br_f cc_n10 (cc_ldf ht (by decide) e hp))
theorem xx_v30 {post : Int32 → SX → Prop} {t r : Nat} {v : Int32} (ht : t < 4) (hr : r < 4)
    (h0 : bg t = 0 → post (-2) ((nI m), (nI l), (nI tp), bg, vl, pr, ac, la, ga, po, he, ou, fl, dn)) (h1 : ¬ bg t = 0 → ¬ (vl (cc_vx t r 0) = 0 ∧ ou (r * 4 + t) = 0) → post (-5) ((nI m), (nI l), (nI tp), bg, vl, pr, ac, la, ga, po, he, ou, fl, dn))
    (h2 : ¬ bg t = 0 → vl (cc_vx t r 0) = 0 → ou (r * 4 + t) = 0 → v = 2 → post 1 ((nI m), (nI l), (nI tp), bg, (upd vl (cc_vx t r 0) v), pr, ac, la, ga, po, he, (upd ou (r * 4 + t) 2), (cc_fil fl (cc_ix 0 t r 0) 3 1), dn))
    (h3 : ¬ bg t = 0 → vl (cc_vx t r 0) = 0 → ou (r * 4 + t) = 0 → ¬ v = 2 → post 1 ((nI m), (nI l), (nI tp), bg, (upd vl (cc_vx t r 0) v), pr, ac, la, ga, po, he, ou, (cc_fil fl (cc_ix 0 t r 0) 3 1), dn)) : wX_vote_30 post (nI t) (nI r) v (nI m) (nI l) (nI tp) bg vl pr ac la ga po he ou fl dn := by
  unfold wX_vote_30
  refine cc_ld ht (by decide) h0 (fun e => xx_vx (b := 0) (nm_r (cc_4E r t) ?_))
  have hi : cc_vx t r 0 < 128 := by unfold cc_vx; omega
  refine cc_ld hi (by decide) (fun e1 => cc_ld (by omega) (by decide) (fun e2 => ?_) (fun e2 => h1 e (fun z => e2 z.2))) (fun e1 => h1 e (fun z => e1 z.1))
  refine cc_st hi (by decide) (xx_sn (k := 0) (by decide) ht (by omega) ?_)
  dsimp only
  exact br_c (fun e3 => cc_st (by omega) (by decide) (h2 e e1 e2 e3)) (fun e3 => h3 e e1 e2 e3)
theorem yy_v33 {post : Int32 → SY → Prop} {t r : Nat} {v : Int32} (ht : t < 4) (hr : r < 4) (hw : ∀ a, a < 3 → cc_w 1 (fl (cc_ix 0 t r a)))
    (h0 : bg t = 0 → post (-2) ((nI m), (nI l), (nI tp), (cc_fa he ac fl), bg, dn, (cc_tr la), (cc_tr po), (cc_gb ga), pr, vl, ou)) (h1 : ¬ bg t = 0 → ¬ (vl (cc_vx t r 0) = 0 ∧ ou (r * 4 + t) = 0) → post (-5) ((nI m), (nI l), (nI tp), (cc_fa he ac fl), bg, dn, (cc_tr la), (cc_tr po), (cc_gb ga), pr, vl, ou))
    (h2 : ¬ bg t = 0 → vl (cc_vx t r 0) = 0 → ou (r * 4 + t) = 0 → v = 2 → post 1 ((nI m), (nI l), (nI tp), (cc_fa he ac (cc_fil fl (cc_ix 0 t r 0) 3 1)), bg, dn, (cc_tr la), (cc_tr po), (cc_gb ga), pr, (upd vl (cc_vx t r 0) v), (upd ou (r * 4 + t) 2)))
    (h3 : ¬ bg t = 0 → vl (cc_vx t r 0) = 0 → ou (r * 4 + t) = 0 → ¬ v = 2 → post 1 ((nI m), (nI l), (nI tp), (cc_fa he ac (cc_fil fl (cc_ix 0 t r 0) 3 1)), bg, dn, (cc_tr la), (cc_tr po), (cc_gb ga), pr, (upd vl (cc_vx t r 0) v), ou)) : wY_vote_33 post (nI t) (nI r) v (nI m) (nI l) (nI tp) (cc_fa he ac fl) bg dn (cc_tr la) (cc_tr po) (cc_gb ga) pr vl ou := by
  unfold wY_vote_33
  rw [cc_v0E, cc_4E]
  have hi : cc_vx t r 0 < 128 := by unfold cc_vx; omega
  refine cc_ld ht (by decide) h0 (fun e => cc_ld hi (by decide) (fun e1 => cc_ld (by omega) (by decide) (fun e2 => ?_) (fun e2 => h1 e (fun z => e2 z.2))) (fun e1 => h1 e (fun z => e1 z.1)))
  refine cc_st hi (by decide) ?_
  have H := yy_vtL (v := v) ht hr hw (h2 e e1 e2) (h3 e e1 e2) 3 0 rfl 4 (by omega)
  rw [cc_fil0] at H
  exact ⟨4, H⟩
theorem lk_vote (I : cc_I m l tp pr ac la ga he fl) (p0 p1 p2 : Int32) : cc_L m l tp bg dn (fun post => wpX_vote post ((nI m), (nI l), (nI tp), bg, vl, pr, ac, la, ga, po, he, ou, fl, dn) p0 p1 p2) (fun post => wpY_vote post ((nI m), (nI l), (nI tp), (cc_fa he ac fl), bg, dn, (cc_tr la), (cc_tr po), (cc_gb ga), pr, vl, ou) p0 p1 p2) := by
  have hm := cc_Im I
  rcases pk_ix p0 (n := 4) (by decide) with q | q | ⟨t, ht, rfl⟩
  · refine cc_Lm (vl := vl) (po := po) (ou := ou) (-1) I (fun post hp => ?_) (fun post hp => br_t q hp)
    unfold wpX_vote
    dsimp only
    exact xx_tr0 (Or.inl q) (br_t rfl hp)
  · refine cc_Lm (vl := vl) (po := po) (ou := ou) (-1) I (fun post hp => ?_) (fun post hp => br_f (cc_nn 4 q (by decide)) (br_t (cc_gt 3 q (by decide)) hp))
    unfold wpX_vote
    dsimp only
    exact xx_tr0 (Or.inr q) (br_t rfl hp)
  have y1 : ¬ nI t < 0 := nI_pos (by omega)
  have y2 : ¬ (3 : Int32) < nI t := nI_nlt (a := 3) (b := t) (by omega) (by decide)
  rcases pk_ix p1 (n := m) (by omega) with q | q | ⟨r, hr, rfl⟩
  · refine cc_Lm (vl := vl) (po := po) (ou := ou) (-1) I (fun post hp => ?_) (fun post hp => br_f y1 (br_f y2 (br_t q hp)))
    unfold wpX_vote
    dsimp only
    exact xx_tr1 ht (br_f cc_n10 (xx_mg0 (Or.inl q) (br_t rfl hp)))
  · refine cc_Lm (vl := vl) (po := po) (ou := ou) (-1) I (fun post hp => ?_) (fun post hp => br_f y1 (br_f y2 (br_f (cc_nn m q (by omega)) (br_t q hp))))
    unfold wpX_vote
    dsimp only
    exact xx_tr1 ht (br_f cc_n10 (xx_mg0 (Or.inr q) (br_t rfl hp)))
  have y3 : ¬ nI r < 0 := nI_pos (by omega)
  have y4 : ¬ nI m ≤ nI r := nI_ge hr (by omega)
  by_cases hv : p2 = 1 ∨ p2 = 2
  · have X (post : Int32 → SX → Prop) (h : wX_vote_30 post (nI t) (nI r) p2 (nI m) (nI l) (nI tp) bg vl pr ac la ga po he ou fl dn) : wpX_vote post ((nI m), (nI l), (nI tp), bg, vl, pr, ac, la, ga, po, he, ou, fl, dn) (nI t) (nI r) p2 := by
      unfold wpX_vote
      dsimp only
      exact xx_tr1 ht (br_f cc_n10 (xx_mg1 hm hr (br_f cc_n10 (br_c (fun _ => h) (fun z => br_t (hv.resolve_left z) h)))))
    have Y (post : Int32 → SY → Prop) (h : wY_vote_33 post (nI t) (nI r) p2 (nI m) (nI l) (nI tp) (cc_fa he ac fl) bg dn (cc_tr la) (cc_tr po) (cc_gb ga) pr vl ou) : wpY_vote post ((nI m), (nI l), (nI tp), (cc_fa he ac fl), bg, dn, (cc_tr la), (cc_tr po), (cc_gb ga), pr, vl, ou) (nI t) (nI r) p2 :=
      br_f y1 (br_f y2 (br_f y3 (br_f y4 (br_c (fun _ => h) (fun z => br_t (hv.resolve_left z) h)))))
    have hr4 : r < 4 := by omega
    have hw : ∀ a, a < 3 → cc_w 1 (fl (cc_ix 0 t r a)) := fun a ha => cc_I1 I (by unfold cc_ix; omega)
    by_cases e : bg t = 0
    · exact cc_Lm (vl := vl) (po := po) (ou := ou) (-2) I (fun post hp => X post (xx_v30 ht hr4 (fun _ => hp) (fun z => absurd e z) (fun z => absurd e z) (fun z => absurd e z))) (fun post hp => Y post (yy_v33 ht hr4 hw (fun _ => hp) (fun z => absurd e z) (fun z => absurd e z) (fun z => absurd e z)))
    · by_cases e1 : vl (cc_vx t r 0) = 0 ∧ ou (r * 4 + t) = 0
      · by_cases e2 : p2 = 2
        · exact cc_Lm (vl := upd vl (cc_vx t r 0) p2) (po := po) (ou := upd ou (r * 4 + t) 2) 1 (cc_Jsn (i := cc_ix 0 t r 0) I) (fun post hp => X post (xx_v30 ht hr4 (fun z => absurd z e) (fun _ z => absurd e1 z) (fun _ _ _ _ => hp) (fun _ _ _ z => absurd e2 z))) (fun post hp => Y post (yy_v33 ht hr4 hw (fun z => absurd z e) (fun _ z => absurd e1 z) (fun _ _ _ _ => hp) (fun _ _ _ z => absurd e2 z)))
        · exact cc_Lm (vl := upd vl (cc_vx t r 0) p2) (po := po) (ou := ou) 1 (cc_Jsn (i := cc_ix 0 t r 0) I) (fun post hp => X post (xx_v30 ht hr4 (fun z => absurd z e) (fun _ z => absurd e1 z) (fun _ _ _ z => absurd z e2) (fun _ _ _ _ => hp))) (fun post hp => Y post (yy_v33 ht hr4 hw (fun z => absurd z e) (fun _ z => absurd e1 z) (fun _ _ _ z => absurd z e2) (fun _ _ _ _ => hp)))
      · exact cc_Lm (vl := vl) (po := po) (ou := ou) (-5) I (fun post hp => X post (xx_v30 ht hr4 (fun z => absurd z e) (fun _ _ => hp) (fun _ z1 z2 => absurd ⟨z1, z2⟩ e1) (fun _ z1 z2 => absurd ⟨z1, z2⟩ e1))) (fun post hp => Y post (yy_v33 ht hr4 hw (fun z => absurd z e) (fun _ _ => hp) (fun _ z1 z2 => absurd ⟨z1, z2⟩ e1) (fun _ z1 z2 => absurd ⟨z1, z2⟩ e1)))
  · have v1 : ¬ p2 = 1 := fun z => hv (Or.inl z)
    have v2 : ¬ p2 = 2 := fun z => hv (Or.inr z)
    refine cc_Lm (vl := vl) (po := po) (ou := ou) (-1) I (fun post hp => ?_) (fun post hp => br_f y1 (br_f y2 (br_f y3 (br_f y4 (br_f v1 (br_f v2 hp))))))
    unfold wpX_vote
    dsimp only
    exact xx_tr1 ht (br_f cc_n10 (xx_mg1 hm hr (br_f cc_n10 (br_f v1 (br_f v2 hp)))))
theorem lk_start (I : cc_I m l tp pr ac la ga he fl) (p0 p1 : Int32) : cc_L m l tp bg dn (fun post => wpX_start post ((nI m), (nI l), (nI tp), bg, vl, pr, ac, la, ga, po, he, ou, fl, dn) p0 p1) (fun post => wpY_start post ((nI m), (nI l), (nI tp), (cc_fa he ac fl), bg, dn, (cc_tr la), (cc_tr po), (cc_gb ga), pr, vl, ou) p0 p1) := by
  have hm := cc_Im I
  have hl0 := cc_Il0 I
  have hl := cc_Il I
  have htp := cc_It I
  rcases pk_ix p0 (n := 4) (by decide) with q | q | ⟨t, ht, rfl⟩
  · refine cc_Lm (vl := vl) (po := po) (ou := ou) (-1) I (fun post hp => ?_) (fun post hp => br_t q hp)
    unfold wpX_start
    dsimp only
    exact xx_tr0 (Or.inl q) (br_t rfl hp)
  · refine cc_Lm (vl := vl) (po := po) (ou := ou) (-1) I (fun post hp => ?_) (fun post hp => br_f (cc_nn 4 q (by decide)) (br_t (cc_gt 3 q (by decide)) hp))
    unfold wpX_start
    dsimp only
    exact xx_tr0 (Or.inr q) (br_t rfl hp)
  have y1 : ¬ nI t < 0 := nI_pos (by omega)
  have y2 : ¬ (3 : Int32) < nI t := nI_nlt (a := 3) (b := t) (by omega) (by decide)
  by_cases hb : ∃ b, p1 = nI b ∧ 1 ≤ b ∧ b ≤ tp
  · obtain ⟨b, rfl, hb1, hb2⟩ := hb
    have b1 : ¬ nI b < 1 := nI_nlt (b := 1) hb1 (by omega)
    have b2 : nI b ≤ nI tp := nI_le hb2 (by omega)
    obtain ⟨o, ho⟩ : ∃ o, (b - 1) % l = o := ⟨_, rfl⟩
    have ho3 : o < 3 := by rw [← ho]; exact Nat.lt_of_lt_of_le (Nat.mod_lt _ hl0) (by omega)
    have hv : vp_in (nI (t * 3 + o)) 12 := vp_in_nI (by omega) (by decide)
    have hv2 : vp_in (nI (o * 4 + t)) 12 := vp_in_nI (by omega) (by decide)
    have X (post : Int32 → SX → Prop) (h0 : bg t = 0 → post (-2) ((nI m), (nI l), (nI tp), bg, vl, pr, ac, la, ga, po, he, ou, fl, dn)) (h1 : ¬ bg t = 0 → ¬ dn (4 + o) = 0 → post (-4) ((nI m), (nI l), (nI tp), bg, vl, pr, ac, la, ga, po, he, ou, fl, dn)) (h2 : ¬ bg t = 0 → dn (4 + o) = 0 → ¬ la (t * 3 + o) < nI b → post (-5) ((nI m), (nI l), (nI tp), bg, vl, pr, ac, la, ga, po, he, ou, fl, dn))
        (h3 : ¬ bg t = 0 → dn (4 + o) = 0 → la (t * 3 + o) < nI b → post 1 ((nI m), (nI l), (nI tp), bg, vl, pr, ac, (upd la (t * 3 + o) (nI b)), (upd ga (t * 3 + o) 0), (upd po (t * 3 + o) 0), he, ou, (cc_fil fl (cc_ix 1 t b 0) 3 1), dn)) : wpX_start post ((nI m), (nI l), (nI tp), bg, vl, pr, ac, la, ga, po, he, ou, fl, dn) (nI t) (nI b) := by
      unfold wpX_start
      dsimp only
      refine xx_tr1 ht (br_f cc_n10 (br_f b1 (br_t b2 (cc_ld ht (by decide) h0 (fun e => xx_ow hb1 (by omega) hl0 hl ?_)))))
      rw [ho, cc_4l]
      refine cc_ld (by omega) (by decide) (fun d => nm_r (cc_3E t o) ?_) (fun d => h1 e d)
      rw [nI_clamp (n := t * 3 + o) (by omega)]
      refine And.intro hv (br_c (fun c => ?_) (fun c => h2 e d c))
      refine And.intro hv (nm_e (And.intro hv (nm_e (And.intro hv (nm_r (e' := upd po (t * 3 + o) 0) (by rw [cc_vb0]) ?_)))))
      exact xx_sn (k := 1) (by decide) ht (by omega) (h3 e d c)
    have Y (post : Int32 → SY → Prop) (h0 : bg t = 0 → post (-2) ((nI m), (nI l), (nI tp), (cc_fa he ac fl), bg, dn, (cc_tr la), (cc_tr po), (cc_gb ga), pr, vl, ou)) (h1 : ¬ bg t = 0 → ¬ dn (4 + o) = 0 → post (-4) ((nI m), (nI l), (nI tp), (cc_fa he ac fl), bg, dn, (cc_tr la), (cc_tr po), (cc_gb ga), pr, vl, ou)) (h2 : ¬ bg t = 0 → dn (4 + o) = 0 → ¬ la (t * 3 + o) < nI b → post (-5) ((nI m), (nI l), (nI tp), (cc_fa he ac fl), bg, dn, (cc_tr la), (cc_tr po), (cc_gb ga), pr, vl, ou))
        (h3 : ¬ bg t = 0 → dn (4 + o) = 0 → la (t * 3 + o) < nI b → post 1 ((nI m), (nI l), (nI tp), (cc_fa he ac (cc_fil fl (cc_ix 1 t b 0) 3 1)), bg, dn, (cc_tr (upd la (t * 3 + o) (nI b))), (cc_tr (upd po (t * 3 + o) 0)), (cc_gb (upd ga (t * 3 + o) 0)), pr, vl, ou)) : wpY_start post ((nI m), (nI l), (nI tp), (cc_fa he ac fl), bg, dn, (cc_tr la), (cc_tr po), (cc_gb ga), pr, vl, ou) (nI t) (nI b) := by
      unfold wpY_start
      dsimp only
      refine br_f y1 (br_f y2 (br_f b1 (br_t b2 (cc_ld ht (by decide) h0 (fun e => yy_ow hb1 (by omega) hl0 hl ?_)))))
      rw [ho, cc_4l]
      refine cc_ld (by omega) (by decide) (fun d => ?_) (fun d => h1 e d)
      rw [cc_4E, nI_clamp (n := o * 4 + t) (by omega), cc_tE ht ho3]
      refine And.intro hv2 (br_c (fun c => ?_) (fun c => h2 e d c))
      have hw : ∀ a, a < 3 → cc_w 1 (fl (cc_ix 1 t b a)) := fun a ha => cc_I1 I (by unfold cc_ix; omega)
      have H1 := yy_s129 ht (by omega) hw (h3 e d c) 3 0 rfl 4 (by omega)
      rw [cc_fil0] at H1
      have H := yy_s98 ht ho3 ⟨4, H1⟩ 3 0 rfl 4 (by omega)
      rw [cc_fil0, ← cc_tU ht ho3, ← cc_tU ht ho3] at H
      exact And.intro hv2 (nm_e (And.intro hv2 (nm_r (by rw [cc_vb0]) ⟨4, H⟩)))
    by_cases e : bg t = 0
    · exact cc_Lm (vl := vl) (po := po) (ou := ou) (-2) I (fun post hp => X post (fun _ => hp) (fun z => absurd e z) (fun z => absurd e z) (fun z => absurd e z)) (fun post hp => Y post (fun _ => hp) (fun z => absurd e z) (fun z => absurd e z) (fun z => absurd e z))
    · by_cases d : dn (4 + o) = 0
      · by_cases c : la (t * 3 + o) < nI b
        · exact cc_Lm (vl := vl) (po := upd po (t * 3 + o) 0) (ou := ou) 1 (cc_Jsn (i := cc_ix 1 t b 0) (cc_Jga (i := t * 3 + o) (cc_Jla (i := t * 3 + o) I hb2) (Or.inl rfl))) (fun post hp => X post (fun z => absurd z e) (fun _ z => absurd d z) (fun _ _ z => absurd c z) (fun _ _ _ => hp)) (fun post hp => Y post (fun z => absurd z e) (fun _ z => absurd d z) (fun _ _ z => absurd c z) (fun _ _ _ => hp))
        · exact cc_Lm (vl := vl) (po := po) (ou := ou) (-5) I (fun post hp => X post (fun z => absurd z e) (fun _ z => absurd d z) (fun _ _ _ => hp) (fun _ _ z => absurd z c)) (fun post hp => Y post (fun z => absurd z e) (fun _ z => absurd d z) (fun _ _ _ => hp) (fun _ _ z => absurd z c))
      · exact cc_Lm (vl := vl) (po := po) (ou := ou) (-4) I (fun post hp => X post (fun z => absurd z e) (fun _ _ => hp) (fun _ z => absurd z d) (fun _ z => absurd z d)) (fun post hp => Y post (fun z => absurd z e) (fun _ _ => hp) (fun _ z => absurd z d) (fun _ z => absurd z d))
  · have hb' : p1 < 1 ∨ (¬ p1 < 1 ∧ ¬ p1 ≤ nI tp) := by
      rcases pk_ix p1 (n := tp + 1) (by omega) with q | q | ⟨b, hb3, rfl⟩
      · exact Or.inl (cc_neg 1 q (by decide))
      · by_cases z : p1 < 1
        · exact Or.inl z
        · exact Or.inr ⟨z, cc_nle tp q (by omega)⟩
      · by_cases z : b = 0
        · subst z
          exact Or.inl (nI_lt (a := 0) (b := 1) (by decide) (by decide))
        · exact absurd ⟨b, rfl, by omega, by omega⟩ hb
    rcases hb' with z | ⟨z1, z2⟩
    · refine cc_Lm (vl := vl) (po := po) (ou := ou) (-1) I (fun post hp => ?_) (fun post hp => br_f y1 (br_f y2 (br_t z hp)))
      unfold wpX_start
      dsimp only
      exact xx_tr1 ht (br_f cc_n10 (br_t z hp))
    · refine cc_Lm (vl := vl) (po := po) (ou := ou) (-1) I (fun post hp => ?_) (fun post hp => br_f y1 (br_f y2 (br_f z1 (br_f z2 hp))))
      unfold wpX_start
      dsimp only
      exact xx_tr1 ht (br_f cc_n10 (br_f z1 (br_f z2 hp)))
end
end
section
/-! power: a place goes down or comes up; a leader that goes down forgets -/
theorem cc_12E (t a : Nat) : (nI t * 12) + nI a = nI (t * 12 + a) := by
  show nI t * nI 12 + nI a = _
  rw [pk_mul, nI_add]
theorem cc_384E (t a : Nat) : (nI t * 384) + nI a = nI (t * 384 + a) := by
  show nI t * nI 384 + nI a = _
  rw [pk_mul, nI_add]
section
variable {m l tp : Nat} {bg vl pr ac la ga po he ou fl dn : Nat → Int32}
variable {o : Nat}
theorem xx_f37 {post : SX → Prop} {B : Nat} (hB : B + 96 ≤ 672) (hp : post ((nI m), (nI l), (nI tp), bg, vl, pr, ac, la, ga, po, (cc_fil he B 96 0), ou, fl, dn)) :
    ∀ d i, i + d = 96 → ∀ n, d < n → wX_forget_37 post (nI B) (nI m) (nI l) (nI tp) n (nI i) bg vl pr ac la ga po (cc_fil he B i 0) ou fl dn := by
  intro d
  induction d with
  | zero =>
    intro i h n hn
    obtain ⟨n, rfl⟩ := cc_fuel hn
    obtain rfl : i = 96 := by omega
    exact br_t (nI_le (a := 96) (b := 96) (by omega) (by decide)) hp
  | succ d ih =>
    intro i h n hn
    obtain ⟨n, rfl⟩ := cc_fuel hn
    have H := ih (i + 1) (by omega) n (by omega)
    rw [← cc_fils] at H
    refine br_f (nI_ge (b := 96) (by omega) (by decide)) ?_
    rw [nI_add]
    exact cc_st (by omega) (by decide) (nm_r (nI_1 i) H)
theorem xx_f2 {post : SX → Prop} (ho : o < 3) (hp : post ((nI m), (nI l), (nI tp), bg, vl, pr, ac, la, (cc_fg ga o 4), po, (cc_fil he ((4 + o) * 96) 96 0), ou, fl, dn)) :
    ∀ d i, i + d = 4 → ∀ n, d < n → wX_forget_2 post (nI o) (nI m) (nI l) (nI tp) n (nI i) bg vl pr ac la (cc_fg ga o i) po he ou fl dn := by
  intro d
  induction d with
  | zero =>
    intro i h n hn
    obtain ⟨n, rfl⟩ := cc_fuel hn
    obtain rfl : i = 4 := by omega
    refine br_t (nI_le (a := 4) (b := 4) (by omega) (by decide)) ?_
    rw [cc_4l]
    refine xx_ha (t := 0) (x := 0) (a := 0) ?_
    rw [show cc_ix (4 + o) 0 0 0 = (4 + o) * 96 by unfold cc_ix; omega]
    have H := xx_f37 (by omega) hp 96 0 rfl 97 (by omega)
    rw [cc_fil0] at H
    exact ⟨97, H⟩
  | succ d ih =>
    intro i h n hn
    obtain ⟨n, rfl⟩ := cc_fuel hn
    have H := ih (i + 1) (by omega) n (by omega)
    rw [← cc_fgs ho] at H
    refine br_f (nI_ge (b := 4) (by omega) (by decide)) ?_
    rw [cc_3E]
    exact cc_st (by omega) (by decide) (nm_r (nI_1 i) H)
theorem xx_fg {post : SX → Prop} (ho : o < 3) (hp : post ((nI m), (nI l), (nI tp), bg, vl, pr, ac, la, (cc_fg ga o 4), po, (cc_fil he ((4 + o) * 96) 96 0), ou, fl, dn)) : wpX_forget post ((nI m), (nI l), (nI tp), bg, vl, pr, ac, la, ga, po, he, ou, fl, dn) (nI o) := by
  have H := xx_f2 ho hp 4 0 rfl 5 (by omega)
  rw [cc_fg0] at H
  exact ⟨5, H⟩
theorem yy_p117 {post : Int32 → SY → Prop} (ho : o < 3) (hp : post 1 ((nI m), (nI l), (nI tp), (cc_fa (cc_fil he ((4 + o) * 96) 96 0) ac fl), bg, dn, (cc_tr la), (cc_tr po), (cc_gb ga), pr, vl, ou)) :
    ∀ d i, i + d = 384 → ∀ n, d < n → wY_power_117 post (nI (4 + o)) (nI m) (nI l) (nI tp) n (nI i) (cc_fil (cc_fa he ac fl) ((4 + o) * 384) i 0) bg dn (cc_tr la) (cc_tr po) (cc_gb ga) pr vl ou := by
  intro d
  induction d with
  | zero =>
    intro i h n hn
    obtain ⟨n, rfl⟩ := cc_fuel hn
    obtain rfl : i = 384 := by omega
    rw [cc_zH (by omega)]
    exact br_t (nI_le (a := 384) (b := 384) (by omega) (by decide)) hp
  | succ d ih =>
    intro i h n hn
    obtain ⟨n, rfl⟩ := cc_fuel hn
    have H := ih (i + 1) (by omega) n (by omega)
    rw [← cc_fils] at H
    refine br_f (nI_ge (b := 384) (by omega) (by decide)) ?_
    rw [cc_384E]
    exact cc_st0 (by omega) (by decide) (nm_r (nI_1 i) H)
theorem yy_p89 {post : Int32 → SY → Prop} (ho : o < 3) (hp : post 1 ((nI m), (nI l), (nI tp), (cc_fa (cc_fil he ((4 + o) * 96) 96 0) ac fl), bg, dn, (cc_tr la), (cc_tr po), (cc_gb (cc_fg ga o 4)), pr, vl, ou)) :
    ∀ d i, i + d = 12 → ∀ n, d < n → wY_power_89 post (nI (4 + o)) (nI m) (nI l) (nI tp) n (nI i) (cc_fa he ac fl) bg dn (cc_tr la) (cc_tr po) (cc_fil (cc_gb ga) (o * 12) i 0) pr vl ou := by
  intro d
  induction d with
  | zero =>
    intro i h n hn
    obtain ⟨n, rfl⟩ := cc_fuel hn
    obtain rfl : i = 12 := by omega
    rw [cc_bP ho]
    have H := yy_p117 ho hp 384 0 rfl 385 (by omega)
    rw [cc_fil0] at H
    exact br_t (nI_le (a := 12) (b := 12) (by omega) (by decide)) ⟨385, H⟩
  | succ d ih =>
    intro i h n hn
    obtain ⟨n, rfl⟩ := cc_fuel hn
    have H := ih (i + 1) (by omega) n (by omega)
    rw [← cc_fils] at H
    refine br_f (nI_ge (b := 12) (by omega) (by decide)) ?_
    rw [cc_m4s, cc_12E]
    exact cc_st0 (by omega) (by decide) (nm_r (nI_1 i) H)
theorem cc_Jfg (I : cc_I m l tp pr ac la ga he fl) (k n : Nat) : cc_I m l tp pr ac la (cc_fg ga k n) he fl :=
  ⟨I.1, I.2.1, I.2.2.1, fun j => by
    unfold cc_fg
    by_cases e : j % 3 = k ∧ j / 3 < n
    · rw [if_pos e]; exact Or.inl rfl
    · rw [if_neg e]; exact cc_Ig I j, I.2.2.2.2⟩
theorem cc_Jhz (I : cc_I m l tp pr ac la ga he fl) (b n : Nat) : cc_I m l tp pr ac la ga (cc_fil he b n 0) fl :=
  ⟨I.1, I.2.1, I.2.2.1, I.2.2.2.1, fun j => by
    unfold cc_fil
    by_cases e : b ≤ j ∧ j < b + n
    · rw [if_pos e]; exact cc_w0 m
    · rw [if_neg e]; exact cc_Ih I j, I.2.2.2.2.2⟩
/-- a place that there is -/
def cc_pl (l s : Nat) : Prop := (4 ≤ s ∧ s < 4 + l) ∨ (7 ≤ s ∧ s < 10)
theorem cc_pw (hl : l < 4) (p0 p1 : Int32) :
    (∃ s, p0 = nI s ∧ cc_pl l s ∧ (∀ post : Int32 → SX → Prop, wX_power_18 post (nI s) p1 (nI m) (nI l) (nI tp) bg vl pr ac la ga po he ou fl dn → wpX_power post ((nI m), (nI l), (nI tp), bg, vl, pr, ac, la, ga, po, he, ou, fl, dn) p0 p1) ∧ (∀ post : Int32 → SY → Prop, wY_power_27 post (nI s) p1 (nI m) (nI l) (nI tp) (cc_fa he ac fl) bg dn (cc_tr la) (cc_tr po) (cc_gb ga) pr vl ou → wpY_power post ((nI m), (nI l), (nI tp), (cc_fa he ac fl), bg, dn, (cc_tr la), (cc_tr po), (cc_gb ga), pr, vl, ou) p0 p1)) ∨
    ((∀ post : Int32 → SX → Prop, post (-1) ((nI m), (nI l), (nI tp), bg, vl, pr, ac, la, ga, po, he, ou, fl, dn) → wpX_power post ((nI m), (nI l), (nI tp), bg, vl, pr, ac, la, ga, po, he, ou, fl, dn) p0 p1) ∧ (∀ post : Int32 → SY → Prop, post (-1) ((nI m), (nI l), (nI tp), (cc_fa he ac fl), bg, dn, (cc_tr la), (cc_tr po), (cc_gb ga), pr, vl, ou) → wpY_power post ((nI m), (nI l), (nI tp), (cc_fa he ac fl), bg, dn, (cc_tr la), (cc_tr po), (cc_gb ga), pr, vl, ou) p0 p1)) := by
  have X0 (h : p0 < nI 4 ∨ nI (4 + l) ≤ p0) (h2 : p0 < nI 7 ∨ nI 10 ≤ p0) (post : Int32 → SX → Prop) (hp : post (-1) ((nI m), (nI l), (nI tp), bg, vl, pr, ac, la, ga, po, he, ou, fl, dn)) : wpX_power post ((nI m), (nI l), (nI tp), bg, vl, pr, ac, la, ga, po, he, ou, fl, dn) p0 p1 := by
    unfold wpX_power
    dsimp only
    exact xx_lp0 h (br_t rfl (xx_pl0 h2 (br_t rfl hp)))
  rcases pk_ix p0 (n := 10) (by decide) with q | q | ⟨s, hs, q⟩
  · exact Or.inr ⟨X0 (Or.inl (cc_neg 4 q (by decide))) (Or.inl (cc_neg 7 q (by decide))), fun post hp => br_t (cc_neg 4 q (by decide)) hp⟩
  · refine Or.inr ⟨X0 (Or.inr (Int32.le_trans (nI_le (b := 10) (by omega) (by decide)) q)) (Or.inr q), fun post hp => br_f ?_ (br_t (cc_gt 9 q (by decide)) hp)⟩
    exact Int32.not_lt.mpr (Int32.le_trans (nI_le (a := 4) (b := 10) (by omega) (by decide)) q)
  subst q
  by_cases h4 : s < 4
  · exact Or.inr ⟨X0 (Or.inl (nI_lt h4 (by decide))) (Or.inl (nI_lt (by omega) (by decide))), fun post hp => br_t (nI_lt (b := 4) h4 (by decide)) hp⟩
  have y1 : ¬ nI s < 4 := nI_nlt (b := 4) (by omega) (by omega)
  have y2 : ¬ (9 : Int32) < nI s := nI_nlt (a := 9) (b := s) (by omega) (by decide)
  by_cases h7 : 7 ≤ s
  · refine Or.inl ⟨s, rfl, Or.inr ⟨h7, hs⟩, fun post h => ?_, fun post h => br_f y1 (br_f y2 (br_t (nI_le (a := 7) h7 (by omega)) h))⟩
    unfold wpX_power
    dsimp only
    exact xx_lp0 (Or.inr (nI_le (by omega) (by omega))) (br_t rfl (xx_pl1 h7 hs (br_f cc_n10 h)))
  · have y3 : ¬ (7 : Int32) ≤ nI s := nI_ge (b := 7) (by omega) (by decide)
    by_cases hl4 : s < 4 + l
    · refine Or.inl ⟨s, rfl, Or.inl ⟨by omega, hl4⟩, fun post h => ?_, fun post h => br_f y1 (br_f y2 (br_f y3 (br_f ?_ h)))⟩
      · unfold wpX_power
        dsimp only
        exact xx_lp1 hl (by omega) hl4 (br_f cc_n10 h)
      · rw [cc_4l]
        exact nI_ge hl4 (by omega)
    · refine Or.inr ⟨X0 (Or.inr (nI_le (by omega) (by omega))) (Or.inl (nI_lt (by omega) (by decide))), fun post hp => br_f y1 (br_f y2 (br_f y3 (br_t ?_ hp)))⟩
      rw [cc_4l]
      exact nI_le (by omega) (by omega)
theorem lk_power (I : cc_I m l tp pr ac la ga he fl) (p0 p1 : Int32) : ∃ dn', cc_L m l tp bg dn' (fun post => wpX_power post ((nI m), (nI l), (nI tp), bg, vl, pr, ac, la, ga, po, he, ou, fl, dn) p0 p1) (fun post => wpY_power post ((nI m), (nI l), (nI tp), (cc_fa he ac fl), bg, dn, (cc_tr la), (cc_tr po), (cc_gb ga), pr, vl, ou) p0 p1) := by
  have hl := cc_Il I
  rcases cc_pw (m := m) (tp := tp) (bg := bg) (vl := vl) (pr := pr) (ac := ac) (la := la) (ga := ga) (po := po) (he := he) (ou := ou) (fl := fl) (dn := dn) hl p0 p1 with ⟨s, rfl, hs, hX, hY⟩ | ⟨hX, hY⟩
  · have hs10 : s < 10 := by rcases hs with h | h <;> omega
    have hv : vp_in (nI s) 10 := vp_in_nI hs10 (by decide)
    by_cases o0 : p1 = 0
    · subst o0
      by_cases e : dn s = 1
      · refine ⟨dn, cc_Lm (vl := vl) (po := po) (ou := ou) (-5) I (fun post hp => hX post (br_t rfl (br_t rfl (cc_ldt hs10 (by decide) e hp)))) (fun post hp => hY post ?_)⟩
        refine br_t rfl (And.intro hv (br_t rfl ?_))
        rw [nI_clamp (by omega)]
        exact br_t e hp
      · by_cases h7 : s < 7
        · obtain ⟨o, rfl⟩ : ∃ o, s = 4 + o := ⟨s - 4, by rcases hs with h | h <;> omega⟩
          have ho : o < 3 := by omega
          have hol : 4 + o < 4 + l := by rcases hs with h | h <;> omega
          refine ⟨upd dn (4 + o) 1, cc_Lm (vl := vl) (po := po) (ou := ou) 1 (cc_Jhz (cc_Jfg I o 4) ((4 + o) * 96) 96) (fun post hp => hX post (br_t rfl (br_t rfl ?_))) (fun post hp => hY post ?_)⟩
          · refine cc_ldf hs10 (by decide) e (cc_st1 hs10 (by decide) (br_f cc_n10 (xx_lp1 hl (by omega) hol (br_f cc_n10 ?_))))
            rw [cc_m4s]
            exact xx_fg ho hp
          · refine br_t rfl (And.intro hv (br_t rfl ?_))
            rw [nI_clamp (by omega)]
            refine br_f e (br_t rfl (cc_st1 hs10 (by decide) (br_f (by decide) (br_t (nI_lt (b := 7) h7 (by decide)) ?_))))
            have H := yy_p89 ho hp 12 0 rfl 13 (by omega)
            rw [cc_fil0] at H
            exact ⟨13, H⟩
        · refine ⟨upd dn s 1, cc_Lm (vl := vl) (po := po) (ou := ou) 1 I (fun post hp => hX post (br_t rfl (br_t rfl ?_))) (fun post hp => hY post ?_)⟩
          · exact cc_ldf hs10 (by decide) e (cc_st1 hs10 (by decide) (br_f cc_n10 (xx_lp0 (Or.inr (nI_le (by omega) (by omega))) (br_t rfl hp))))
          · refine br_t rfl (And.intro hv (br_t rfl ?_))
            rw [nI_clamp (by omega)]
            exact br_f e (br_t rfl (cc_st1 hs10 (by decide) (br_f (by decide) (br_f (nI_nlt (b := 7) (by omega) (by omega)) hp))))
    · by_cases o1 : p1 = 1
      · subst o1
        by_cases e : dn s = 0
        · refine ⟨dn, cc_Lm (vl := vl) (po := po) (ou := ou) (-5) I (fun post hp => hX post (br_f cc_n10 (br_t rfl (br_f cc_n10 (cc_ldt hs10 (by decide) e hp))))) (fun post hp => hY post ?_)⟩
          refine br_f cc_n10 (br_t rfl (And.intro hv (br_f cc_n10 ?_)))
          rw [nI_clamp (by omega)]
          exact br_t e hp
        · refine ⟨upd dn s 0, cc_Lm (vl := vl) (po := po) (ou := ou) 1 I (fun post hp => hX post (br_f cc_n10 (br_t rfl (br_f cc_n10 (cc_ldf hs10 (by decide) e (cc_st0 hs10 (by decide) (br_t rfl hp))))))) (fun post hp => hY post ?_)⟩
          refine br_f cc_n10 (br_t rfl (And.intro hv (br_f cc_n10 ?_)))
          rw [nI_clamp (by omega)]
          exact br_f e (br_f cc_n10 (cc_st0 hs10 (by decide) (br_t rfl hp)))
      · exact ⟨dn, cc_Lm (vl := vl) (po := po) (ou := ou) (-1) I (fun post hp => hX post (br_f o0 (br_f o1 hp))) (fun post hp => hY post (br_f o0 (br_f o1 hp)))⟩
  · exact ⟨dn, cc_Lm (vl := vl) (po := po) (ou := ou) (-1) I hX hY⟩
end
end
section
/-! the next ballot of a leader: X from a floor, the reference by search -/
/-- the first of d numbers from b on that is ok; 0 if none -/
def cc_sr (ok : Nat → Bool) : Nat → Nat → Nat
  | 0, _ => 0
  | d + 1, b => cond (ok b) b (cc_sr ok d (b + 1))
theorem cc_srE {ok ok' : Nat → Bool} {f : Nat} (h : ∀ b, f < b → ok' b = ok b) : ∀ d b, f < b → cc_sr ok' d b = cc_sr ok d b := by
  intro d
  induction d with
  | zero => intro b _; rfl
  | succ d ih =>
    intro b hb
    show cond (ok' b) b (cc_sr ok' d (b + 1)) = cond (ok b) b (cc_sr ok d (b + 1))
    rw [h b hb, ih (b + 1) (by omega)]
theorem cc_srF {ok ok' : Nat → Bool} {f d : Nat} (h : ∀ b, f < b → ok' b = ok b) (h0 : ∀ b, b ≤ f → ok' b = false) : ∀ e b, b + e = f + 1 → cc_sr ok' (d + e) b = cc_sr ok d (f + 1) := by
  intro e
  induction e with
  | zero =>
    intro b hb
    obtain rfl : b = f + 1 := by omega
    exact cc_srE h d (f + 1) (by omega)
  | succ e ih =>
    intro b hb
    show cond (ok' b) b (cc_sr ok' (d + e) (b + 1)) = _
    rw [h0 b (by omega)]
    exact ih (b + 1) (by omega)
theorem cc_srL {ok : Nat → Bool} : ∀ d b, cc_sr ok d b = 0 ∨ (b ≤ cc_sr ok d b ∧ cc_sr ok d b < b + d) := by
  intro d
  induction d with
  | zero => intro b; exact Or.inl rfl
  | succ d ih =>
    intro b
    show cond (ok b) b (cc_sr ok d (b + 1)) = 0 ∨ (b ≤ cond (ok b) b (cc_sr ok d (b + 1)) ∧ cond (ok b) b (cc_sr ok d (b + 1)) < b + (d + 1))
    cases ok b
    · show cc_sr ok d (b + 1) = 0 ∨ (b ≤ cc_sr ok d (b + 1) ∧ cc_sr ok d (b + 1) < b + (d + 1))
      rcases ih (b + 1) with h | h
      · exact Or.inl h
      · exact Or.inr (by omega)
    · exact Or.inr ⟨Nat.le_refl b, by show b < b + (d + 1); omega⟩
/-- the greatest of a leader's last ballot and the promises of the first a acceptors that are up -/
def cc_fo (dn pr : Nat → Int32) (t f0 : Nat) : Nat → Nat
  | 0 => f0
  | a + 1 => cond (decide (dn (7 + a) = 0)) (if (pr (t * 3 + a)).toNatClampNeg ≤ cc_fo dn pr t f0 a then cc_fo dn pr t f0 a else (pr (t * 3 + a)).toNatClampNeg) (cc_fo dn pr t f0 a)
section
variable {dn pr : Nat → Int32} {t f0 a p : Nat}
theorem cc_foD (h : ¬ dn (7 + a) = 0) : cc_fo dn pr t f0 (a + 1) = cc_fo dn pr t f0 a := by
  show cond (decide (dn (7 + a) = 0)) _ _ = _
  rw [decide_eq_false h]; rfl
theorem cc_foU (h : dn (7 + a) = 0) (hp : pr (t * 3 + a) = nI p) (hp8 : p < 8) : cc_fo dn pr t f0 (a + 1) = if p ≤ cc_fo dn pr t f0 a then cc_fo dn pr t f0 a else p := by
  show cond (decide (dn (7 + a) = 0)) _ _ = _
  rw [decide_eq_true h, hp, nI_clamp (by omega)]; rfl
end
section
variable {m l tp : Nat} {bg vl pr ac la ga po he ou fl dn : Nat → Int32}
variable {t o f0 : Nat}
theorem cc_foL (I : cc_I m l tp pr ac la ga he fl) (h0 : f0 ≤ tp) (a : Nat) : cc_fo dn pr t f0 a ≤ tp := by
  have htp := cc_It I
  induction a with
  | zero => exact h0
  | succ a ih =>
    by_cases h : dn (7 + a) = 0
    · obtain ⟨p, hp, e⟩ := cc_Ip I (t * 3 + a)
      rw [cc_foU h e (by omega)]
      by_cases z : p ≤ cc_fo dn pr t f0 a
      · rw [if_pos z]; exact ih
      · rw [if_neg z]; exact hp
    · rw [cc_foD h]; exact ih
theorem xx_b66 {post : Int32 → Prop} (hl0 : 0 < l) (hl : l < 4) (htp : tp < 8) (ho : o < 3) : ∀ d b, 1 ≤ b → b + d = tp + 1 → ∀ n, d < n → post (nI (cc_sr (fun b => decide ((b - 1) % l = o)) d b)) → wX_freshBallot_66 post (nI o) (nI m) (nI l) (nI tp) bg vl pr ac la ga po he ou fl dn n (nI b) := by
  intro d
  induction d with
  | zero =>
    intro b hb h n hn hp
    obtain ⟨n, rfl⟩ := cc_fuel hn
    exact br_t (nI_lt (by omega) (by omega)) hp
  | succ d ih =>
    intro b hb h n hn hp
    obtain ⟨n, rfl⟩ := cc_fuel hn
    have hp2 : post (nI (cond (decide ((b - 1) % l = o)) b (cc_sr (fun b => decide ((b - 1) % l = o)) d (b + 1)))) := hp
    have hml := Nat.mod_lt (b - 1) hl0
    refine br_f (nI_nlt (by omega) (by omega)) (xx_ow hb (by omega) hl0 hl (pk_eq ((b - 1) % l) o (fun e => ?_) (fun e => ?_) rfl rfl (by omega) (by omega)))
    · rw [decide_eq_true e] at hp2
      exact hp2
    · rw [decide_eq_false e] at hp2
      exact nm_r (nI_1 b) (ih (b + 1) (by omega) (by omega) n (by omega) hp2)
theorem xx_b14 {post : Int32 → Prop} (I : cc_I m l tp pr ac la ga he fl) (ht : t < 4) (ho : o < 3) (h0 : f0 ≤ tp) (hp : post (nI (cc_sr (fun b => decide ((b - 1) % l = o)) (tp - cc_fo dn pr t f0 3) (cc_fo dn pr t f0 3 + 1)))) :
    ∀ d a, a + d = 3 → ∀ n, d < n → wX_freshBallot_14 post (nI t) (nI o) (nI m) (nI l) (nI tp) bg vl pr ac la ga po he ou fl dn n (nI (cc_fo dn pr t f0 a)) (nI a) := by
  have htp := cc_It I
  intro d
  induction d with
  | zero =>
    intro a h n hn
    obtain ⟨n, rfl⟩ := cc_fuel hn
    obtain rfl : a = 3 := by omega
    have hF := cc_foL (dn := dn) (t := t) I h0 3
    exact br_t (nI_le (a := 3) (b := 3) (by omega) (by decide)) (nm_r (nI_1 _) ⟨tp + 2, xx_b66 (cc_Il0 I) (cc_Il I) htp ho _ _ (by omega) (by omega) (tp + 2) (by omega) hp⟩)
  | succ d ih =>
    intro a h n hn
    obtain ⟨n, rfl⟩ := cc_fuel hn
    have H := ih (a + 1) (by omega) n (by omega)
    obtain ⟨p, hp', e⟩ := cc_Ip I (t * 3 + a)
    have hFa := cc_foL (dn := dn) (t := t) I h0 a
    refine br_f (nI_ge (b := 3) (by omega) (by decide)) ?_
    rw [cc_3E, cc_7l]
    refine And.intro (vp_in_nI (by omega) (by decide)) (nm_r (e' := nI p) (by rw [nI_clamp (by omega)]; exact e) ?_)
    refine cc_ld (by omega) (by decide) (fun u => ?_) (fun u => ?_)
    · rw [cc_foU u e (by omega)] at H
      refine pk_le p (cc_fo dn pr t f0 a) (fun z => ?_) (fun z => ?_) rfl rfl (by omega) (by omega)
      · rw [if_pos z] at H
        exact nm_r (nI_1 a) H
      · rw [if_neg (by omega)] at H
        exact nm_r (nI_1 a) H
    · rw [cc_foD u] at H
      exact nm_r (nI_1 a) H
theorem xx_fb {post : Int32 → Prop} (I : cc_I m l tp pr ac la ga he fl) (ht : t < 4) (ho : o < 3) (h0 : f0 ≤ tp) (hf : la (t * 3 + o) = nI f0) (hp : post (nI (cc_sr (fun b => decide ((b - 1) % l = o)) (tp - cc_fo dn pr t f0 3) (cc_fo dn pr t f0 3 + 1)))) : wpX_freshBallot post ((nI m), (nI l), (nI tp), bg, vl, pr, ac, la, ga, po, he, ou, fl, dn) (nI t) (nI o) := by
  unfold wpX_freshBallot
  dsimp only
  rw [cc_3E]
  refine And.intro (vp_in_nI (by omega) (by decide)) (nm_r (e' := nI f0) (by rw [nI_clamp (by omega)]; exact hf) ?_)
  exact ⟨4, xx_b14 I ht ho h0 hp 3 0 rfl 4 (by omega)⟩
theorem yy_n43 {post : Int32 → Prop} {J2 : Int32 → Prop} {x2 : Int32} {b : Nat} {own : Bool} (I : cc_I m l tp pr ac la ga he fl) (ht : t < 4) (hb : b < 8) (h0 : f0 ≤ tp)
    (hp0 : (own && decide (cc_fo dn pr t f0 3 < b)) = false → J2 (nI (b + 1))) (hp1 : (own && decide (cc_fo dn pr t f0 3 < b)) = true → post (nI b)) :
    ∀ d a, a + d = 3 → ∀ n, d < n → wY_nextBallot_43 post J2 (nI t) x2 (nI b) (nI m) (nI l) (nI tp) (cc_fa he ac fl) bg dn (cc_tr la) (cc_tr po) (cc_gb ga) pr vl ou n (cc_b (own && decide (cc_fo dn pr t f0 a < b))) (nI a) := by
  have htp := cc_It I
  intro d
  induction d with
  | zero =>
    intro a h n hn
    obtain ⟨n, rfl⟩ := cc_fuel hn
    obtain rfl : a = 3 := by omega
    refine br_t (nI_le (a := 3) (b := 3) (by omega) (by decide)) ?_
    cases e : (own && decide (cc_fo dn pr t f0 3 < b))
    · exact br_t rfl (nm_r (nI_1 b) (hp0 e))
    · exact br_f cc_n10 (hp1 e)
  | succ d ih =>
    intro a h n hn
    obtain ⟨n, rfl⟩ := cc_fuel hn
    have H := ih (a + 1) (by omega) n (by omega)
    obtain ⟨p, hp', e⟩ := cc_Ip I (t * 3 + a)
    have hFa := cc_foL (dn := dn) (t := t) I h0 a
    refine br_f (nI_ge (b := 3) (by omega) (by decide)) ?_
    rw [cc_3E, cc_7l]
    refine cc_ld (by omega) (by decide) (fun u => ?_) (fun u => ?_)
    · rw [cc_foU u e (by omega)] at H
      refine And.intro (vp_in_nI (by omega) (by decide)) ?_
      rw [nI_clamp (n := t * 3 + a) (by omega), e]
      refine pk_lt p b (fun z => ?_) (fun z => ?_) rfl rfl (by omega) (by omega)
      · have E : decide ((if p ≤ cc_fo dn pr t f0 a then cc_fo dn pr t f0 a else p) < b) = decide (cc_fo dn pr t f0 a < b) := by
          by_cases y : p ≤ cc_fo dn pr t f0 a
          · rw [if_pos y]
          · rw [if_neg y, decide_eq_true z, decide_eq_true (by omega)]
        rw [E] at H
        exact nm_r (nI_1 a) H
      · have E : decide ((if p ≤ cc_fo dn pr t f0 a then cc_fo dn pr t f0 a else p) < b) = false := by
          by_cases y : p ≤ cc_fo dn pr t f0 a
          · rw [if_pos y]; exact decide_eq_false (by omega)
          · rw [if_neg y]; exact decide_eq_false (by omega)
        rw [E, Bool.and_false] at H
        exact nm_r (nI_1 a) H
    · rw [cc_foD u] at H
      exact nm_r (nI_1 a) H
theorem yy_n2 {post : Int32 → Prop} (I : cc_I m l tp pr ac la ga he fl) (ht : t < 4) (ho : o < 3) (h0 : f0 ≤ tp) (hf : la (t * 3 + o) = nI f0) :
    ∀ d b, 1 ≤ b → b + d = tp + 1 → ∀ n, d < n → post (nI (cc_sr (fun b => decide ((b - 1) % l = o) && decide (cc_fo dn pr t f0 3 < b)) d b)) → wY_nextBallot_2 post (nI t) (nI o) (nI m) (nI l) (nI tp) (cc_fa he ac fl) bg dn (cc_tr la) (cc_tr po) (cc_gb ga) pr vl ou n (nI b) := by
  have htp := cc_It I
  intro d
  induction d with
  | zero =>
    intro b hb h n hn hp
    obtain ⟨n, rfl⟩ := cc_fuel hn
    exact br_t (nI_lt (by omega) (by omega)) hp
  | succ d ih =>
    intro b hb h n hn hp
    obtain ⟨n, rfl⟩ := cc_fuel hn
    have hp2 : post (nI (cond (decide ((b - 1) % l = o) && decide (cc_fo dn pr t f0 3 < b)) b (cc_sr (fun b => decide ((b - 1) % l = o) && decide (cc_fo dn pr t f0 3 < b)) d (b + 1)))) := hp
    have hml := Nat.mod_lt (b - 1) (cc_Il0 I)
    have hl := cc_Il I
    have N (own : Bool) (ho' : decide ((b - 1) % l = o) = own) : ∃ n43 : Nat, wY_nextBallot_43 post (wY_nextBallot_2 post (nI t) (nI o) (nI m) (nI l) (nI tp) (cc_fa he ac fl) bg dn (cc_tr la) (cc_tr po) (cc_gb ga) pr vl ou n) (nI t) (nI o) (nI b) (nI m) (nI l) (nI tp) (cc_fa he ac fl) bg dn (cc_tr la) (cc_tr po) (cc_gb ga) pr vl ou n43 (cc_b (own && decide (f0 < b))) 0 := by
      refine ⟨4, yy_n43 I ht (by omega) h0 (fun e => ?_) (fun e => ?_) 3 0 rfl 4 (by omega)⟩
      · rw [ho', e] at hp2
        exact ih (b + 1) (by omega) (by omega) n (by omega) hp2
      · rw [ho', e] at hp2
        exact hp2
    refine br_f (nI_nlt (by omega) (by omega)) (yy_ow hb (by omega) (cc_Il0 I) hl (pk_eq ((b - 1) % l) o (fun e => ?_) (fun e => ?_) rfl rfl (by omega) (by omega)))
    · rw [cc_4E]
      refine And.intro (vp_in_nI (by omega) (by decide)) ?_
      rw [nI_clamp (n := o * 4 + t) (by omega), cc_tE ht ho, hf]
      have N1 := N true (decide_eq_true e)
      refine pk_le b f0 (fun z => ?_) (fun z => ?_) rfl rfl (by omega) (by omega)
      · rw [decide_eq_false (show ¬ f0 < b by omega)] at N1
        exact N1
      · rw [decide_eq_true z] at N1
        exact N1
    · exact N false (decide_eq_false e)
theorem yy_nb {post : Int32 → Prop} (I : cc_I m l tp pr ac la ga he fl) (ht : t < 4) (ho : o < 3) (h0 : f0 ≤ tp) (hf : la (t * 3 + o) = nI f0) (hp : post (nI (cc_sr (fun b => decide ((b - 1) % l = o)) (tp - cc_fo dn pr t f0 3) (cc_fo dn pr t f0 3 + 1)))) : wpY_nextBallot post ((nI m), (nI l), (nI tp), (cc_fa he ac fl), bg, dn, (cc_tr la), (cc_tr po), (cc_gb ga), pr, vl, ou) (nI t) (nI o) := by
  have hF := cc_foL (dn := dn) (t := t) I h0 3
  have E := cc_srF (ok := fun b => decide ((b - 1) % l = o)) (ok' := fun b => decide ((b - 1) % l = o) && decide (cc_fo dn pr t f0 3 < b)) (f := cc_fo dn pr t f0 3) (d := tp - cc_fo dn pr t f0 3)
    (fun b hb => by rw [decide_eq_true hb, Bool.and_true]) (fun b hb => by rw [decide_eq_false (show ¬ cc_fo dn pr t f0 3 < b by omega), Bool.and_false]) (cc_fo dn pr t f0 3) 1 (by omega)
  rw [← E, show tp - cc_fo dn pr t f0 3 + cc_fo dn pr t f0 3 = tp by omega] at hp
  exact ⟨tp + 1, yy_n2 I ht ho h0 hf tp 1 (by omega) (by omega) (tp + 1) (by omega) hp⟩
theorem xx_auL {post : Int32 → Prop} (hp : post (nI (cc_ct (fun a => decide (dn (7 + a) = 0)) 3))) : ∀ d a, a + d = 3 → ∀ n, d < n → wX_acceptorsUp_4 post (nI m) (nI l) (nI tp) bg vl pr ac la ga po he ou fl dn n (nI (cc_ct (fun a => decide (dn (7 + a) = 0)) a)) (nI a) := by
  intro d
  induction d with
  | zero =>
    intro a h n hn
    obtain ⟨n, rfl⟩ := cc_fuel hn
    obtain rfl : a = 3 := by omega
    exact br_t (nI_le (a := 3) (b := 3) (by omega) (by decide)) hp
  | succ d ih =>
    intro a h n hn
    obtain ⟨n, rfl⟩ := cc_fuel hn
    have H := ih (a + 1) (by omega) n (by omega)
    have E : cc_ct (fun a => decide (dn (7 + a) = 0)) (a + 1) = cond (decide (dn (7 + a) = 0)) (cc_ct (fun a => decide (dn (7 + a) = 0)) a + 1) (cc_ct (fun a => decide (dn (7 + a) = 0)) a) := rfl
    refine br_f (nI_ge (b := 3) (by omega) (by decide)) ?_
    rw [cc_7l]
    refine cc_ld (by omega) (by decide) (fun u => ?_) (fun u => ?_)
    · rw [E, decide_eq_true u] at H
      exact nm_r (nI_1 _) (nm_r (nI_1 a) H)
    · rw [E, decide_eq_false u] at H
      exact nm_r (nI_1 a) H
theorem xx_au {post : Int32 → Prop} (hp : post (nI (cc_ct (fun a => decide (dn (7 + a) = 0)) 3))) : wpX_acceptorsUp post ((nI m), (nI l), (nI tp), bg, vl, pr, ac, la, ga, po, he, ou, fl, dn) :=
  ⟨4, xx_auL hp 3 0 rfl 4 (by omega)⟩
theorem yy_54 {post : Int32 → SY → Prop} {x1 x2 : Int32} (hp : ∀ n, wY_settle_54 post x1 x2 (nI m) (nI l) (nI tp) (cc_fa he ac fl) bg dn (cc_tr la) (cc_tr po) (cc_gb ga) pr vl ou (n + 1) (nI (cc_ct (fun a => decide (dn (7 + a) = 0)) 3)) 3) : ∀ d a, a + d = 3 → ∀ n, d < n → wY_settle_54 post x1 x2 (nI m) (nI l) (nI tp) (cc_fa he ac fl) bg dn (cc_tr la) (cc_tr po) (cc_gb ga) pr vl ou n (nI (cc_ct (fun a => decide (dn (7 + a) = 0)) a)) (nI a) := by
  intro d
  induction d with
  | zero =>
    intro a h n hn
    obtain ⟨n, rfl⟩ := cc_fuel hn
    obtain rfl : a = 3 := by omega
    exact hp n
  | succ d ih =>
    intro a h n hn
    obtain ⟨n, rfl⟩ := cc_fuel hn
    have H := ih (a + 1) (by omega) n (by omega)
    have E : cc_ct (fun a => decide (dn (7 + a) = 0)) (a + 1) = cond (decide (dn (7 + a) = 0)) (cc_ct (fun a => decide (dn (7 + a) = 0)) a + 1) (cc_ct (fun a => decide (dn (7 + a) = 0)) a) := rfl
    refine br_f (nI_ge (b := 3) (by omega) (by decide)) ?_
    rw [cc_7l]
    refine cc_ld (by omega) (by decide) (fun u => ?_) (fun u => ?_)
    · rw [E, decide_eq_true u] at H
      exact nm_r (nI_1 _) (nm_r (nI_1 a) H)
    · rw [E, decide_eq_false u] at H
      exact nm_r (nI_1 a) H
end
end
section
/-! the fair run, in lockstep -/
section
variable {m l tp : Nat} {bg dn : Nat → Int32}
theorem yy_182n {vl pr ac la ga po he ou fl : Nat → Int32} {post : Int32 → SY → Prop} {J : Int32 → Int32 → Int32 → Int32 → (Nat → Int32) → (Nat → Int32) → (Nat → Int32) → (Nat → Int32) → (Nat → Int32) → (Nat → Int32) → (Nat → Int32) → (Nat → Int32) → (Nat → Int32) → Prop} {x1 x2 x4 : Int32} {s : Nat} (hm : m < 5) (hl : l < 4) (hs : s < 7) (h : cc_site m l s = false ∨ ¬ dn s = 0) (hp : J (nI (s + 1)) (nI m) (nI l) (nI tp) (cc_fa he ac fl) bg dn (cc_tr la) (cc_tr po) (cc_gb ga) pr vl ou) :
    ∀ d a, a + d = 3 → ∀ n, d < n → wY_settle_182 post J x1 x2 x4 (nI s) n (nI a) (nI m) (nI l) (nI tp) (cc_fa he ac fl) bg dn (cc_tr la) (cc_tr po) (cc_gb ga) pr vl ou := by
  intro d
  induction d with
  | zero =>
    intro a h n hn
    obtain ⟨n, rfl⟩ := cc_fuel hn
    obtain rfl : a = 3 := by omega
    exact br_t (nI_le (a := 3) (b := 3) (by omega) (by decide)) (nm_r (nI_1 s) hp)
  | succ d ih =>
    intro a h' n hn
    obtain ⟨n, rfl⟩ := cc_fuel hn
    have H := ih (a + 1) (by omega) n (by omega)
    refine br_f (nI_ge (b := 3) (by omega) (by decide)) (yy_si hm hl (by omega) ?_)
    cases e : cc_site m l s
    · exact br_t rfl (nm_r (nI_1 a) H)
    · rcases h with h | h
      · rw [h] at e; exact absurd e (by decide)
      · exact br_f cc_n10 (cc_ldf (by omega) (by decide) h (nm_r (nI_1 a) H))
/-- one delivery for each acceptor that is up -/
theorem lk_rd {k t b : Nat} : ∀ d a, a + d = 3 → ∀ vl pr ac la ga po he ou fl : Nat → Int32, cc_I m l tp pr ac la ga he fl →
    ∃ vl' pr' ac' la' ga' po' he' ou' fl' : Nat → Int32, cc_I m l tp pr' ac' la' ga' he' fl' ∧
      (∀ post : SX → Prop, post ((nI m), (nI l), (nI tp), bg, vl', pr', ac', la', ga', po', he', ou', fl', dn) → ∀ n, d < n → wX_deliverRound_3 post (nI k) (nI t) (nI b) n (nI a) (nI m) (nI l) (nI tp) bg vl pr ac la ga po he ou fl dn) ∧
      (∀ (post : Int32 → SY → Prop) (J : Int32 → Int32 → Int32 → Int32 → (Nat → Int32) → (Nat → Int32) → (Nat → Int32) → (Nat → Int32) → (Nat → Int32) → (Nat → Int32) → (Nat → Int32) → (Nat → Int32) → (Nat → Int32) → Prop) (x2 : Int32),
        J (nI (k + 1)) (nI m) (nI l) (nI tp) (cc_fa he' ac' fl') bg dn (cc_tr la') (cc_tr po') (cc_gb ga') pr' vl' ou' → ∀ n, d < n → wY_settle_126 post J (nI t) x2 (nI b) (nI k) n (nI a) (nI m) (nI l) (nI tp) (cc_fa he ac fl) bg dn (cc_tr la) (cc_tr po) (cc_gb ga) pr vl ou) ∧
      (∀ (post : Int32 → SY → Prop) (J : Int32 → Int32 → Int32 → Int32 → (Nat → Int32) → (Nat → Int32) → (Nat → Int32) → (Nat → Int32) → (Nat → Int32) → (Nat → Int32) → (Nat → Int32) → (Nat → Int32) → (Nat → Int32) → Prop) (x2 : Int32) (s : Nat),
        k = 4 + s → s < 7 → cc_site m l s = true → dn s = 0 → J (nI (s + 1)) (nI m) (nI l) (nI tp) (cc_fa he' ac' fl') bg dn (cc_tr la') (cc_tr po') (cc_gb ga') pr' vl' ou' → ∀ n, d < n → wY_settle_182 post J (nI t) x2 (nI b) (nI s) n (nI a) (nI m) (nI l) (nI tp) (cc_fa he ac fl) bg dn (cc_tr la) (cc_tr po) (cc_gb ga) pr vl ou) := by
  intro d
  induction d with
  | zero =>
    intro a h vl pr ac la ga po he ou fl I
    obtain rfl : a = 3 := by omega
    refine ⟨vl, pr, ac, la, ga, po, he, ou, fl, I, fun post hp n hn => ?_, fun post J x2 hp n hn => ?_, fun post J x2 s hk hs e1 e2 hp n hn => ?_⟩
    · obtain ⟨n, rfl⟩ := cc_fuel hn
      exact br_t (nI_le (a := 3) (b := 3) (by omega) (by decide)) hp
    · obtain ⟨n, rfl⟩ := cc_fuel hn
      exact br_t (nI_le (a := 3) (b := 3) (by omega) (by decide)) (nm_r (nI_1 k) hp)
    · obtain ⟨n, rfl⟩ := cc_fuel hn
      exact br_t (nI_le (a := 3) (b := 3) (by omega) (by decide)) (nm_r (nI_1 s) hp)
  | succ d ih =>
    intro a h vl pr ac la ga po he ou fl I
    have hm := cc_Im I
    have hl := cc_Il I
    by_cases e : dn (7 + a) = 0
    · obtain ⟨r, u, v, ⟨vl1, pr1, ac1, la1, ga1, po1, he1, ou1, fl1, I1, rfl, rfl⟩, hX, hY⟩ := lk_del (bg := bg) (vl := vl) (po := po) (ou := ou) (dn := dn) I (nI k) (nI t) (nI b) (nI a)
      obtain ⟨vl', pr', ac', la', ga', po', he', ou', fl', I', kX, kY, kZ⟩ := ih (a + 1) (by omega) vl1 pr1 ac1 la1 ga1 po1 he1 ou1 fl1 I1
      refine ⟨vl', pr', ac', la', ga', po', he', ou', fl', I', fun post hp n hn => ?_, fun post J x2 hp n hn => ?_, fun post J x2 s hk hs e1 e2 hp n hn => ?_⟩
      · obtain ⟨n, rfl⟩ := cc_fuel hn
        refine br_f (nI_ge (b := 3) (by omega) (by decide)) ?_
        rw [cc_7l]
        exact cc_ldt (by omega) (by decide) e (hX _ (nm_r (nI_1 a) (kX post hp n (by omega))))
      · obtain ⟨n, rfl⟩ := cc_fuel hn
        refine br_f (nI_ge (b := 3) (by omega) (by decide)) ?_
        rw [cc_7l]
        exact cc_ldt (by omega) (by decide) e (hY _ (nm_r (nI_1 a) (kY post J x2 hp n (by omega))))
      · obtain ⟨n, rfl⟩ := cc_fuel hn
        subst hk
        refine br_f (nI_ge (b := 3) (by omega) (by decide)) (yy_si hm hl (by omega) ?_)
        rw [e1]
        refine br_f cc_n10 (cc_ldt (by omega) (by decide) e2 ?_)
        rw [cc_7l, cc_4l]
        exact cc_ldt (by omega) (by decide) e (hY _ (nm_r (nI_1 a) (kZ post J x2 s rfl hs e1 e2 hp n (by omega))))
    · obtain ⟨vl', pr', ac', la', ga', po', he', ou', fl', I', kX, kY, kZ⟩ := ih (a + 1) (by omega) vl pr ac la ga po he ou fl I
      refine ⟨vl', pr', ac', la', ga', po', he', ou', fl', I', fun post hp n hn => ?_, fun post J x2 hp n hn => ?_, fun post J x2 s hk hs e1 e2 hp n hn => ?_⟩
      · obtain ⟨n, rfl⟩ := cc_fuel hn
        refine br_f (nI_ge (b := 3) (by omega) (by decide)) ?_
        rw [cc_7l]
        exact cc_ldf (by omega) (by decide) e (nm_r (nI_1 a) (kX post hp n (by omega)))
      · obtain ⟨n, rfl⟩ := cc_fuel hn
        refine br_f (nI_ge (b := 3) (by omega) (by decide)) ?_
        rw [cc_7l]
        exact cc_ldf (by omega) (by decide) e (nm_r (nI_1 a) (kY post J x2 hp n (by omega)))
      · obtain ⟨n, rfl⟩ := cc_fuel hn
        refine br_f (nI_ge (b := 3) (by omega) (by decide)) (yy_si hm hl (by omega) ?_)
        rw [e1]
        refine br_f cc_n10 (cc_ldt (by omega) (by decide) e2 ?_)
        rw [cc_7l]
        exact cc_ldf (by omega) (by decide) e (nm_r (nI_1 a) (kZ post J x2 s hk hs e1 e2 hp n (by omega)))
/-- the bundles, site by site -/
theorem lk_fs {t b : Nat} : ∀ d s, s + d = 7 → ∀ vl pr ac la ga po he ou fl : Nat → Int32, cc_I m l tp pr ac la ga he fl →
    ∃ vl' pr' ac' la' ga' po' he' ou' fl' : Nat → Int32, cc_I m l tp pr' ac' la' ga' he' fl' ∧
      (∀ post : SX → Prop, post ((nI m), (nI l), (nI tp), bg, vl', pr', ac', la', ga', po', he', ou', fl', dn) → ∀ n, d < n → wX_fairRun_30 post (nI t) (nI b) n (nI s) (nI m) (nI l) (nI tp) bg vl pr ac la ga po he ou fl dn) ∧
      (∀ (post : Int32 → SY → Prop) (x2 : Int32), (vp_in (((4 + x2) * 4) + nI t) 28 ∧ post (ou' (((4 + x2) * 4) + nI t).toNatClampNeg) ((nI m), (nI l), (nI tp), (cc_fa he' ac' fl'), bg, dn, (cc_tr la'), (cc_tr po'), (cc_gb ga'), pr', vl', ou')) →
        ∀ n, d < n → wY_settle_172 post (nI t) x2 (nI b) n (nI s) (nI m) (nI l) (nI tp) (cc_fa he ac fl) bg dn (cc_tr la) (cc_tr po) (cc_gb ga) pr vl ou) := by
  intro d
  induction d with
  | zero =>
    intro s h vl pr ac la ga po he ou fl I
    obtain rfl : s = 7 := by omega
    refine ⟨vl, pr, ac, la, ga, po, he, ou, fl, I, fun post hp n hn => ?_, fun post x2 hp n hn => ?_⟩
    · obtain ⟨n, rfl⟩ := cc_fuel hn
      exact br_t (nI_le (a := 7) (b := 7) (by omega) (by decide)) hp
    · obtain ⟨n, rfl⟩ := cc_fuel hn
      exact br_t (nI_le (a := 7) (b := 7) (by omega) (by decide)) hp
  | succ d ih =>
    intro s h vl pr ac la ga po he ou fl I
    have hm := cc_Im I
    have hl := cc_Il I
    cases e : cc_site m l s
    · obtain ⟨vl', pr', ac', la', ga', po', he', ou', fl', I', kX, kY⟩ := ih (s + 1) (by omega) vl pr ac la ga po he ou fl I
      refine ⟨vl', pr', ac', la', ga', po', he', ou', fl', I', fun post hp n hn => ?_, fun post x2 hp n hn => ?_⟩
      · obtain ⟨n, rfl⟩ := cc_fuel hn
        refine br_f (nI_ge (b := 7) (by omega) (by decide)) (xx_si hm hl (by omega) ?_)
        rw [e]
        exact br_t rfl (nm_r (nI_1 s) (kX post hp n (by omega)))
      · obtain ⟨n, rfl⟩ := cc_fuel hn
        exact br_f (nI_ge (b := 7) (by omega) (by decide)) ⟨4, yy_182n hm hl (by omega) (Or.inl e) (kY post x2 hp n (by omega)) 3 0 rfl 4 (by omega)⟩
    · by_cases e2 : dn s = 0
      · obtain ⟨vl1, pr1, ac1, la1, ga1, po1, he1, ou1, fl1, I1, jX, -, jZ⟩ := lk_rd (bg := bg) (dn := dn) (k := 4 + s) (t := t) (b := b) 3 0 rfl vl pr ac la ga po he ou fl I
        obtain ⟨vl', pr', ac', la', ga', po', he', ou', fl', I', kX, kY⟩ := ih (s + 1) (by omega) vl1 pr1 ac1 la1 ga1 po1 he1 ou1 fl1 I1
        refine ⟨vl', pr', ac', la', ga', po', he', ou', fl', I', fun post hp n hn => ?_, fun post x2 hp n hn => ?_⟩
        · obtain ⟨n, rfl⟩ := cc_fuel hn
          refine br_f (nI_ge (b := 7) (by omega) (by decide)) (xx_si hm hl (by omega) ?_)
          rw [e]
          refine br_f cc_n10 (cc_ldt (by omega) (by decide) e2 ?_)
          rw [cc_4l]
          exact ⟨4, jX _ (nm_r (nI_1 s) (kX post hp n (by omega))) 4 (by omega)⟩
        · obtain ⟨n, rfl⟩ := cc_fuel hn
          exact br_f (nI_ge (b := 7) (by omega) (by decide)) ⟨4, jZ post _ x2 s rfl (by omega) e e2 (kY post x2 hp n (by omega)) 4 (by omega)⟩
      · obtain ⟨vl', pr', ac', la', ga', po', he', ou', fl', I', kX, kY⟩ := ih (s + 1) (by omega) vl pr ac la ga po he ou fl I
        refine ⟨vl', pr', ac', la', ga', po', he', ou', fl', I', fun post hp n hn => ?_, fun post x2 hp n hn => ?_⟩
        · obtain ⟨n, rfl⟩ := cc_fuel hn
          refine br_f (nI_ge (b := 7) (by omega) (by decide)) (xx_si hm hl (by omega) ?_)
          rw [e]
          exact br_f cc_n10 (cc_ldf (by omega) (by decide) e2 (nm_r (nI_1 s) (kX post hp n (by omega))))
        · obtain ⟨n, rfl⟩ := cc_fuel hn
          exact br_f (nI_ge (b := 7) (by omega) (by decide)) ⟨4, yy_182n hm hl (by omega) (Or.inr e2) (kY post x2 hp n (by omega)) 3 0 rfl 4 (by omega)⟩
end
section
variable {m l tp : Nat} {bg vl pr ac la ga po he ou fl dn : Nat → Int32}
/-- the whole run behind a ballot's start -/
theorem lk_run {t b : Nat} (I : cc_I m l tp pr ac la ga he fl) :
    ∃ vl' pr' ac' la' ga' po' he' ou' fl' : Nat → Int32, cc_I m l tp pr' ac' la' ga' he' fl' ∧
      (∀ post : SX → Prop, post ((nI m), (nI l), (nI tp), bg, vl', pr', ac', la', ga', po', he', ou', fl', dn) → wpX_fairRun post ((nI m), (nI l), (nI tp), bg, vl, pr, ac, la, ga, po, he, ou, fl, dn) (nI t) (nI b)) ∧
      (∀ (post : Int32 → SY → Prop) (x2 : Int32), (vp_in (((4 + x2) * 4) + nI t) 28 ∧ post (ou' (((4 + x2) * 4) + nI t).toNatClampNeg) ((nI m), (nI l), (nI tp), (cc_fa he' ac' fl'), bg, dn, (cc_tr la'), (cc_tr po'), (cc_gb ga'), pr', vl', ou')) →
        wpY_start (fun _ u => match u with | (b1, b2, b3, b4, b5, b6, b7, b8, b9, b10, b11, b12) => ∃ n117 : Nat, wY_settle_117 post (nI t) x2 (nI b) n117 1 b1 b2 b3 b4 b5 b6 b7 b8 b9 b10 b11 b12) ((nI m), (nI l), (nI tp), (cc_fa he ac fl), bg, dn, (cc_tr la), (cc_tr po), (cc_gb ga), pr, vl, ou) (nI t) (nI b)) := by
  obtain ⟨r, u, v, ⟨vl0, pr0, ac0, la0, ga0, po0, he0, ou0, fl0, I0, rfl, rfl⟩, sX, sY⟩ := lk_start (bg := bg) (vl := vl) (po := po) (ou := ou) (dn := dn) I (nI t) (nI b)
  obtain ⟨vl1, pr1, ac1, la1, ga1, po1, he1, ou1, fl1, I1, aX, aY, -⟩ := lk_rd (bg := bg) (dn := dn) (k := 1) (t := t) (b := b) 3 0 rfl vl0 pr0 ac0 la0 ga0 po0 he0 ou0 fl0 I0
  obtain ⟨vl2, pr2, ac2, la2, ga2, po2, he2, ou2, fl2, I2, bX, bY, -⟩ := lk_rd (bg := bg) (dn := dn) (k := 2) (t := t) (b := b) 3 0 rfl vl1 pr1 ac1 la1 ga1 po1 he1 ou1 fl1 I1
  obtain ⟨vl3, pr3, ac3, la3, ga3, po3, he3, ou3, fl3, I3, cX, cY, -⟩ := lk_rd (bg := bg) (dn := dn) (k := 3) (t := t) (b := b) 3 0 rfl vl2 pr2 ac2 la2 ga2 po2 he2 ou2 fl2 I2
  obtain ⟨vl', pr', ac', la', ga', po', he', ou', fl', I', dX, dY⟩ := lk_fs (bg := bg) (dn := dn) (t := t) (b := b) 7 0 rfl vl3 pr3 ac3 la3 ga3 po3 he3 ou3 fl3 I3
  refine ⟨vl', pr', ac', la', ga', po', he', ou', fl', I', fun post hp => ?_, fun post x2 hp => ?_⟩
  · unfold wpX_fairRun
    dsimp only
    refine sX _ ?_
    dsimp only
    refine ⟨4, aX _ ?_ 4 (by omega)⟩
    dsimp only
    refine ⟨4, bX _ ?_ 4 (by omega)⟩
    dsimp only
    refine ⟨4, cX _ ?_ 4 (by omega)⟩
    dsimp only
    exact ⟨8, dX post hp 8 (by omega)⟩
  · refine sY _ ?_
    dsimp only
    refine ⟨4, br_f (by decide) ⟨4, aY post _ x2 ?_ 4 (by omega)⟩⟩
    refine br_f (by decide) ⟨4, bY post _ x2 ?_ 4 (by omega)⟩
    refine br_f (by decide) ⟨4, cY post _ x2 ?_ 4 (by omega)⟩
    exact br_t (by decide) ⟨8, dY post x2 hp 8 (by omega)⟩
theorem lk_settle (I : cc_I m l tp pr ac la ga he fl) (p0 p1 : Int32) : cc_L m l tp bg dn (fun post => wpX_settle post ((nI m), (nI l), (nI tp), bg, vl, pr, ac, la, ga, po, he, ou, fl, dn) p0 p1) (fun post => wpY_settle post ((nI m), (nI l), (nI tp), (cc_fa he ac fl), bg, dn, (cc_tr la), (cc_tr po), (cc_gb ga), pr, vl, ou) p0 p1) := by
  have hl := cc_Il I
  have htp := cc_It I
  rcases pk_ix p0 (n := 4) (by decide) with q | q | ⟨t, ht, rfl⟩
  · refine cc_Lm (vl := vl) (po := po) (ou := ou) (-1) I (fun post hp => ?_) (fun post hp => br_t q hp)
    unfold wpX_settle
    dsimp only
    exact xx_tr0 (Or.inl q) (br_t rfl hp)
  · refine cc_Lm (vl := vl) (po := po) (ou := ou) (-1) I (fun post hp => ?_) (fun post hp => br_f (cc_nn 4 q (by decide)) (br_t (cc_gt 3 q (by decide)) hp))
    unfold wpX_settle
    dsimp only
    exact xx_tr0 (Or.inr q) (br_t rfl hp)
  have y1 : ¬ nI t < 0 := nI_pos (by omega)
  have y2 : ¬ (3 : Int32) < nI t := nI_nlt (a := 3) (b := t) (by omega) (by decide)
  rcases pk_ix p1 (n := l) (by omega) with q | q | ⟨o, ho, rfl⟩
  · refine cc_Lm (vl := vl) (po := po) (ou := ou) (-1) I (fun post hp => ?_) (fun post hp => br_f y1 (br_f y2 (br_t q hp)))
    unfold wpX_settle
    dsimp only
    exact xx_tr1 ht (br_f cc_n10 (br_t q hp))
  · have q1 := cc_nn l q (by omega)
    have q2 : ¬ p1 < nI l := Int32.not_lt.mpr q
    refine cc_Lm (vl := vl) (po := po) (ou := ou) (-1) I (fun post hp => ?_) (fun post hp => br_f y1 (br_f y2 (br_f q1 (br_f q2 hp))))
    unfold wpX_settle
    dsimp only
    exact xx_tr1 ht (br_f cc_n10 (br_f q1 (br_f q2 hp)))
  have y3 : ¬ nI o < 0 := nI_pos (by omega)
  have y4 : nI o < nI l := nI_lt ho (by omega)
  have ho3 : o < 3 := by omega
  obtain ⟨f0, h0, hf⟩ := cc_Ia I (t * 3 + o)
  obtain ⟨c, hc⟩ : ∃ c, cc_ct (fun a => decide (dn (7 + a) = 0)) 3 = c := ⟨_, rfl⟩
  have hc3 : c ≤ 3 := by rw [← hc]; exact cc_ctl _ 3
  obtain ⟨b, hb⟩ : ∃ b, cc_sr (fun b => decide ((b - 1) % l = o)) (tp - cc_fo dn pr t f0 3) (cc_fo dn pr t f0 3 + 1) = b := ⟨_, rfl⟩
  have hF := cc_foL (dn := dn) (t := t) I h0 3
  have hb8 : b < 8 := by
    have := cc_srL (ok := fun b => decide ((b - 1) % l = o)) (tp - cc_fo dn pr t f0 3) (cc_fo dn pr t f0 3 + 1)
    rw [hb] at this
    omega
  have X (post : Int32 → SX → Prop) (h1 : bg t = 0 → post (-2) ((nI m), (nI l), (nI tp), bg, vl, pr, ac, la, ga, po, he, ou, fl, dn)) (h2 : ¬ bg t = 0 → ¬ dn (4 + o) = 0 → post (-4) ((nI m), (nI l), (nI tp), bg, vl, pr, ac, la, ga, po, he, ou, fl, dn)) (h3 : ¬ bg t = 0 → dn (4 + o) = 0 → c < 2 → post (-6) ((nI m), (nI l), (nI tp), bg, vl, pr, ac, la, ga, po, he, ou, fl, dn)) (h4 : ¬ bg t = 0 → dn (4 + o) = 0 → 2 ≤ c → b = 0 → post (-7) ((nI m), (nI l), (nI tp), bg, vl, pr, ac, la, ga, po, he, ou, fl, dn))
      (h5 : ¬ bg t = 0 → dn (4 + o) = 0 → 2 ≤ c → b ≠ 0 → wpX_fairRun (fun u => match u with | (b1, b2, b3, b4, b5, b6, b7, b8, b9, b10, b11, b12, b13, b14) => vp_in (((4 + nI o) * 4) + nI t) 28 ∧ (post (b12 (((4 + nI o) * 4) + nI t).toNatClampNeg) (b1, b2, b3, b4, b5, b6, b7, b8, b9, b10, b11, b12, b13, b14))) ((nI m), (nI l), (nI tp), bg, vl, pr, ac, la, ga, po, he, ou, fl, dn) (nI t) (nI b)) : wpX_settle post ((nI m), (nI l), (nI tp), bg, vl, pr, ac, la, ga, po, he, ou, fl, dn) (nI t) (nI o) := by
    unfold wpX_settle
    dsimp only
    refine xx_tr1 ht (br_f cc_n10 (br_f y3 (br_t y4 (cc_ld ht (by decide) h1 (fun e => ?_)))))
    refine And.intro (by rw [cc_4l]; exact vp_in_nI (by omega) (by decide)) ?_
    rw [show ((4 : Int32) + nI o).toNatClampNeg = 4 + o by rw [cc_4l]; exact nI_clamp (by omega)]
    refine br_c (fun d => xx_au ?_) (fun d => h2 e d)
    rw [hc]
    refine pk_le 2 c (fun z => xx_fb I ht ho3 h0 hf ?_) (fun z => h3 e d z) rfl rfl (by omega) (by omega)
    rw [hb]
    exact pk_eq b 0 (fun w => h4 e d z w) (fun w => h5 e d z w) rfl rfl (by omega) (by omega)
  have Y (post : Int32 → SY → Prop) (h1 : bg t = 0 → post (-2) ((nI m), (nI l), (nI tp), (cc_fa he ac fl), bg, dn, (cc_tr la), (cc_tr po), (cc_gb ga), pr, vl, ou)) (h2 : ¬ bg t = 0 → ¬ dn (4 + o) = 0 → post (-4) ((nI m), (nI l), (nI tp), (cc_fa he ac fl), bg, dn, (cc_tr la), (cc_tr po), (cc_gb ga), pr, vl, ou)) (h3 : ¬ bg t = 0 → dn (4 + o) = 0 → c < 2 → post (-6) ((nI m), (nI l), (nI tp), (cc_fa he ac fl), bg, dn, (cc_tr la), (cc_tr po), (cc_gb ga), pr, vl, ou)) (h4 : ¬ bg t = 0 → dn (4 + o) = 0 → 2 ≤ c → b = 0 → post (-7) ((nI m), (nI l), (nI tp), (cc_fa he ac fl), bg, dn, (cc_tr la), (cc_tr po), (cc_gb ga), pr, vl, ou))
      (h5 : ¬ bg t = 0 → dn (4 + o) = 0 → 2 ≤ c → b ≠ 0 → wpY_start (fun _ u => match u with | (b1, b2, b3, b4, b5, b6, b7, b8, b9, b10, b11, b12) => ∃ n117 : Nat, wY_settle_117 post (nI t) (nI o) (nI b) n117 1 b1 b2 b3 b4 b5 b6 b7 b8 b9 b10 b11 b12) ((nI m), (nI l), (nI tp), (cc_fa he ac fl), bg, dn, (cc_tr la), (cc_tr po), (cc_gb ga), pr, vl, ou) (nI t) (nI b)) : wpY_settle post ((nI m), (nI l), (nI tp), (cc_fa he ac fl), bg, dn, (cc_tr la), (cc_tr po), (cc_gb ga), pr, vl, ou) (nI t) (nI o) := by
    unfold wpY_settle
    dsimp only
    refine br_f y1 (br_f y2 (br_f y3 (br_t y4 (cc_ld ht (by decide) h1 (fun e => ?_)))))
    rw [cc_4l]
    refine cc_ld (by omega) (by decide) (fun d => ⟨4, yy_54 (fun n => ?_) 3 0 rfl 4 (by omega)⟩) (fun d => h2 e d)
    rw [hc]
    refine br_t (by decide) (pk_le 2 c (fun z => yy_nb I ht ho3 h0 hf ?_) (fun z => h3 e d z) rfl rfl (by omega) (by omega))
    rw [hb]
    exact pk_eq b 0 (fun w => h4 e d z w) (fun w => h5 e d z w) rfl rfl (by omega) (by omega)
  by_cases e : bg t = 0
  · exact cc_Lm (vl := vl) (po := po) (ou := ou) (-2) I (fun post hp => X post (fun _ => hp) (fun z => absurd e z) (fun z => absurd e z) (fun z => absurd e z) (fun z => absurd e z)) (fun post hp => Y post (fun _ => hp) (fun z => absurd e z) (fun z => absurd e z) (fun z => absurd e z) (fun z => absurd e z))
  by_cases d : dn (4 + o) = 0
  · by_cases z : 2 ≤ c
    · have z' : ¬ c < 2 := by omega
      by_cases w : b = 0
      · exact cc_Lm (vl := vl) (po := po) (ou := ou) (-7) I (fun post hp => X post (fun y => absurd y e) (fun _ y => absurd d y) (fun _ _ y => absurd y z') (fun _ _ _ _ => hp) (fun _ _ _ y => absurd w y)) (fun post hp => Y post (fun y => absurd y e) (fun _ y => absurd d y) (fun _ _ y => absurd y z') (fun _ _ _ _ => hp) (fun _ _ _ y => absurd w y))
      · obtain ⟨vl', pr', ac', la', ga', po', he', ou', fl', I', hX, hY⟩ := lk_run (bg := bg) (vl := vl) (po := po) (ou := ou) (dn := dn) (t := t) (b := b) I
        have hv : vp_in (((4 + nI o) * 4) + nI t) 28 := by
          rw [cc_4l, cc_4E]
          exact vp_in_nI (by omega) (by decide)
        refine cc_Lm (vl := vl') (po := po') (ou := ou') (ou' (((4 + nI o) * 4) + nI t).toNatClampNeg) I' (fun post hp => X post (fun y => absurd y e) (fun _ y => absurd d y) (fun _ _ y => absurd y z') (fun _ _ _ y => absurd y w) (fun _ _ _ _ => ?_)) (fun post hp => Y post (fun y => absurd y e) (fun _ y => absurd d y) (fun _ _ y => absurd y z') (fun _ _ _ y => absurd y w) (fun _ _ _ _ => ?_))
        · exact hX _ (And.intro hv hp)
        · exact hY post (nI o) (And.intro hv hp)
    · have z' : c < 2 := by omega
      exact cc_Lm (vl := vl) (po := po) (ou := ou) (-6) I (fun post hp => X post (fun y => absurd y e) (fun _ y => absurd d y) (fun _ _ _ => hp) (fun _ _ y => absurd y z) (fun _ _ y => absurd y z)) (fun post hp => Y post (fun y => absurd y e) (fun _ y => absurd d y) (fun _ _ _ => hp) (fun _ _ y => absurd y z) (fun _ _ y => absurd y z))
  · exact cc_Lm (vl := vl) (po := po) (ou := ou) (-4) I (fun post hp => X post (fun y => absurd y e) (fun _ _ => hp) (fun _ y => absurd y d) (fun _ y => absurd y d) (fun _ y => absurd y d)) (fun post hp => Y post (fun y => absurd y e) (fun _ _ => hp) (fun _ y => absurd y d) (fun _ y => absurd y d) (fun _ y => absurd y d))
end
end
section
/-! the calls that only read -/
/-- one answer for both -/
def cc_D (wx wy : (Int32 → Prop) → Prop) : Prop := ∃ r : Int32, (∀ post : Int32 → Prop, post r → wx post) ∧ (∀ post : Int32 → Prop, post r → wy post)
section
variable {m l tp : Nat} {bg vl pr ac la ga po he ou fl dn : Nat → Int32}
theorem cc_sp (hm : m < 5) (hl : l < 4) (p : Int32) : (∃ s, p = nI s ∧ s < 7 ∧ cc_site m l s = true) ∨
    ((∀ post : Int32 → Prop, post 0 → wpX_isSite post ((nI m), (nI l), (nI tp), bg, vl, pr, ac, la, ga, po, he, ou, fl, dn) p) ∧ (∀ post : Int32 → Prop, post 0 → wpY_isSite post ((nI m), (nI l), (nI tp), (cc_fa he ac fl), bg, dn, (cc_tr la), (cc_tr po), (cc_gb ga), pr, vl, ou) p)) := by
  by_cases q : p < 0
  · exact Or.inr ⟨fun post hp => xx_siN q hp, fun post hp => yy_siN q hp⟩
  · obtain ⟨s, hs, rfl⟩ := nI_of q
    cases e : cc_site m l s
    · exact Or.inr ⟨fun post hp => xx_si hm hl hs (by rw [e]; exact hp), fun post hp => yy_si hm hl hs (by rw [e]; exact hp)⟩
    · exact Or.inl ⟨s, rfl, cc_siL hm hl e, e⟩
theorem xx_si1 {post : Int32 → Prop} {s : Nat} (hm : m < 5) (hl : l < 4) (hs : s < 7) (e : cc_site m l s = true) (hp : post 1) : wpX_isSite post ((nI m), (nI l), (nI tp), bg, vl, pr, ac, la, ga, po, he, ou, fl, dn) (nI s) :=
  xx_si hm hl (by omega) (by rw [e]; exact hp)
theorem yy_si1 {post : Int32 → Prop} {s : Nat} (hm : m < 5) (hl : l < 4) (hs : s < 7) (e : cc_site m l s = true) (hp : post 1) : wpY_isSite post ((nI m), (nI l), (nI tp), (cc_fa he ac fl), bg, dn, (cc_tr la), (cc_tr po), (cc_gb ga), pr, vl, ou) (nI s) :=
  yy_si hm hl (by omega) (by rw [e]; exact hp)
theorem rd_up (I : cc_I m l tp pr ac la ga he fl) (p : Int32) : cc_D (fun post => wpX_up post ((nI m), (nI l), (nI tp), bg, vl, pr, ac, la, ga, po, he, ou, fl, dn) p) (fun post => wpY_up post ((nI m), (nI l), (nI tp), (cc_fa he ac fl), bg, dn, (cc_tr la), (cc_tr po), (cc_gb ga), pr, vl, ou) p) := by
  have hm := cc_Im I
  have hl := cc_Il I
  have A (s : Nat) (hs : s < 10) : ∃ r : Int32, (∀ post : Int32 → Prop, post r → wX_up_18 post (nI s) (nI m) (nI l) (nI tp) bg vl pr ac la ga po he ou fl dn) ∧ (∀ post : Int32 → Prop, post r → wY_up_24 post (nI s) (nI m) (nI l) (nI tp) (cc_fa he ac fl) bg dn (cc_tr la) (cc_tr po) (cc_gb ga) pr vl ou) := by
    by_cases e : dn s = 0
    · exact ⟨1, fun post hp => cc_ldt hs (by decide) e hp, fun post hp => cc_ldt hs (by decide) e hp⟩
    · exact ⟨0, fun post hp => cc_ldf hs (by decide) e hp, fun post hp => cc_ldf hs (by decide) e hp⟩
  rcases cc_sp (tp := tp) (bg := bg) (vl := vl) (pr := pr) (ac := ac) (la := la) (ga := ga) (po := po) (he := he) (ou := ou) (fl := fl) (dn := dn) hm hl p with ⟨s, rfl, hs, e⟩ | ⟨hX, hY⟩
  · obtain ⟨r, aX, aY⟩ := A s (by omega)
    refine ⟨r, fun post hp => ?_, fun post hp => ?_⟩
    · unfold wpX_up
      dsimp only
      exact xx_si1 hm hl hs e (br_f cc_n10 (aX post hp))
    · unfold wpY_up
      dsimp only
      exact yy_si1 hm hl hs e (br_f cc_n10 (aY post hp))
  · have N (h : p < nI 7 ∨ (¬ p < nI 7 ∧ nI 10 ≤ p)) : cc_D (fun post => wpX_up post ((nI m), (nI l), (nI tp), bg, vl, pr, ac, la, ga, po, he, ou, fl, dn) p) (fun post => wpY_up post ((nI m), (nI l), (nI tp), (cc_fa he ac fl), bg, dn, (cc_tr la), (cc_tr po), (cc_gb ga), pr, vl, ou) p) := by
      refine ⟨-1, fun post hp => ?_, fun post hp => ?_⟩
      · unfold wpX_up
        dsimp only
        exact hX _ (br_t rfl (xx_pl0 (h.imp id (fun z => z.2)) (br_t rfl hp)))
      · unfold wpY_up
        dsimp only
        refine hY _ (br_t rfl ?_)
        rcases h with h | h
        · exact br_t h hp
        · exact br_f h.1 (br_f (cc_nle 9 h.2 (by decide)) hp)
    rcases pk_ix p (n := 10) (by decide) with q | q | ⟨s, hs, rfl⟩
    · exact N (Or.inl (cc_neg 7 q (by decide)))
    · exact N (Or.inr ⟨Int32.not_lt.mpr (Int32.le_trans (nI_le (a := 7) (b := 10) (by omega) (by decide)) q), q⟩)
    · by_cases h7 : s < 7
      · exact N (Or.inl (nI_lt h7 (by decide)))
      · obtain ⟨r, aX, aY⟩ := A s hs
        refine ⟨r, fun post hp => ?_, fun post hp => ?_⟩
        · unfold wpX_up
          dsimp only
          exact hX _ (br_t rfl (xx_pl1 (by omega) hs (br_f cc_n10 (aX post hp))))
        · unfold wpY_up
          dsimp only
          exact hY _ (br_t rfl (br_f (nI_nlt (b := 7) (by omega) (by omega)) (br_t (nI_le (b := 9) (by omega) (by decide)) (aY post hp))))
theorem rd_fly (I : cc_I m l tp pr ac la ga he fl) (p0 p1 p2 p3 : Int32) : cc_D (fun post => wpX_inFlight post ((nI m), (nI l), (nI tp), bg, vl, pr, ac, la, ga, po, he, ou, fl, dn) p0 p1 p2 p3) (fun post => wpY_inFlight post ((nI m), (nI l), (nI tp), (cc_fa he ac fl), bg, dn, (cc_tr la), (cc_tr po), (cc_gb ga), pr, vl, ou) p0 p1 p2 p3) := by
  have hm := cc_Im I
  have hl := cc_Il I
  have htp := cc_It I
  rcases cc_va (bg := bg) (vl := vl) (pr := pr) (ac := ac) (la := la) (ga := ga) (po := po) (he := he) (ou := ou) (fl := fl) (dn := dn) hm hl htp p0 p1 p2 p3 with ⟨k, t, x, a, rfl, rfl, rfl, rfl, ht, ha, hv⟩ | ⟨hX, hY⟩
  · have hL := cc_vkL hm hl htp hv
    have hi : cc_ix k t x a < 1056 := by unfold cc_ix; omega
    refine ⟨fl (cc_ix k t x a), fun post hp => ?_, fun post hp => ?_⟩
    · unfold wpX_inFlight
      dsimp only
      refine xx_va1 hm hl htp ht ha hv (br_f cc_n10 (xx_fa (And.intro (vp_in_nI hi (by decide)) ?_)))
      rw [nI_clamp (by omega)]
      exact hp
    · unfold wpY_inFlight
      dsimp only
      exact yy_va1 hm hl htp ht ha hv (br_f cc_n10 (yy_smF hL.1 ht hL.2 ha (cc_I4 I _) hp))
  · refine ⟨-1, fun post hp => ?_, fun post hp => ?_⟩
    · unfold wpX_inFlight
      dsimp only
      exact hX _ (br_t rfl hp)
    · unfold wpY_inFlight
      dsimp only
      exact hY _ (br_t rfl hp)
theorem yy_p72 {post : Int32 → Prop} {t o : Nat} (ht : t < 4) (ho : o < 3) (hg : cc_g1 (ga (t * 3 + o))) (hp0 : po (t * 3 + o) = 0 → post ((16 * la (t * 3 + o)) + ga (t * 3 + o))) (hp1 : ¬ po (t * 3 + o) = 0 → post ((16 * la (t * 3 + o)) + 8)) :
    ∀ d a, a + d = 3 → ∀ n, d < n → wY_position_72 post (nI (o * 4 + t)) (nI m) (nI l) (nI tp) (cc_fa he ac fl) bg dn (cc_tr la) (cc_tr po) (cc_gb ga) pr vl ou n (cc_sm (ga (t * 3 + o)) a) (nI a) := by
  intro d
  induction d with
  | zero =>
    intro a h n hn
    obtain ⟨n, rfl⟩ := cc_fuel hn
    obtain rfl : a = 3 := by omega
    have hv : vp_in (nI (o * 4 + t)) 12 := vp_in_nI (by omega) (by decide)
    rw [cc_g1m hg]
    refine br_t (nI_le (a := 3) (b := 3) (by omega) (by decide)) (And.intro hv (And.intro hv ?_))
    rw [nI_clamp (n := o * 4 + t) (by omega), cc_tE ht ho, cc_tE ht ho]
    exact ⟨hp0, hp1⟩
  | succ d ih =>
    intro a h n hn
    obtain ⟨n, rfl⟩ := cc_fuel hn
    have H := ih (a + 1) (by omega) n (by omega)
    have E : cc_sm (ga (t * 3 + o)) (a + 1) = cc_ad (bt (ga (t * 3 + o)) a) a (cc_sm (ga (t * 3 + o)) a) := rfl
    refine br_f (nI_ge (b := 3) (by omega) (by decide)) ?_
    rw [cc_3E]
    refine cc_ld (by omega) (by decide) (fun e => ?_) (fun e => ?_)
    · rw [cc_bE ht ho (by omega), cc_be] at e
      rw [E, e] at H
      exact nm_r (nI_1 a) H
    · rw [cc_bE ht ho (by omega), cc_bn] at e
      rw [E, e] at H
      exact nm_e (nm_r (nI_1 a) H)
theorem rd_pos (I : cc_I m l tp pr ac la ga he fl) (p0 p1 : Int32) : cc_D (fun post => wpX_position post ((nI m), (nI l), (nI tp), bg, vl, pr, ac, la, ga, po, he, ou, fl, dn) p0 p1) (fun post => wpY_position post ((nI m), (nI l), (nI tp), (cc_fa he ac fl), bg, dn, (cc_tr la), (cc_tr po), (cc_gb ga), pr, vl, ou) p0 p1) := by
  have hl := cc_Il I
  rcases pk_ix p0 (n := 4) (by decide) with q | q | ⟨t, ht, rfl⟩
  · refine ⟨-1, fun post hp => ?_, fun post hp => br_t q hp⟩
    unfold wpX_position
    dsimp only
    exact xx_tr0 (Or.inl q) (br_t rfl hp)
  · refine ⟨-1, fun post hp => ?_, fun post hp => br_f (cc_nn 4 q (by decide)) (br_t (cc_gt 3 q (by decide)) hp)⟩
    unfold wpX_position
    dsimp only
    exact xx_tr0 (Or.inr q) (br_t rfl hp)
  have y1 : ¬ nI t < 0 := nI_pos (by omega)
  have y2 : ¬ (3 : Int32) < nI t := nI_nlt (a := 3) (b := t) (by omega) (by decide)
  have X0 (h : p1 < nI 7 ∨ nI 10 ≤ p1) (h2 : p1 < nI 4 ∨ nI (4 + l) ≤ p1) (post : Int32 → Prop) (hp : post (-1)) : wpX_position post ((nI m), (nI l), (nI tp), bg, vl, pr, ac, la, ga, po, he, ou, fl, dn) (nI t) p1 := by
    unfold wpX_position
    dsimp only
    exact xx_tr1 ht (br_f cc_n10 (xx_pl0 h (br_t rfl (xx_lp0 h2 (br_t rfl hp)))))
  rcases pk_ix p1 (n := 10) (by decide) with q | q | ⟨s, hs, rfl⟩
  · exact ⟨-1, X0 (Or.inl (cc_neg 7 q (by decide))) (Or.inl (cc_neg 4 q (by decide))), fun post hp => br_f y1 (br_f y2 (br_t (cc_neg 4 q (by decide)) hp))⟩
  · exact ⟨-1, X0 (Or.inr q) (Or.inr (Int32.le_trans (nI_le (b := 10) (by omega) (by decide)) q)), fun post hp => br_f y1 (br_f y2 (br_f (Int32.not_lt.mpr (Int32.le_trans (nI_le (a := 4) (b := 10) (by omega) (by decide)) q)) (br_t (cc_gt 9 q (by decide)) hp)))⟩
  by_cases h4 : s < 4
  · exact ⟨-1, X0 (Or.inl (nI_lt (by omega) (by decide))) (Or.inl (nI_lt h4 (by decide))), fun post hp => br_f y1 (br_f y2 (br_t (nI_lt (b := 4) h4 (by decide)) hp))⟩
  have y3 : ¬ nI s < 4 := nI_nlt (b := 4) (by omega) (by omega)
  have y4 : ¬ (9 : Int32) < nI s := nI_nlt (a := 9) (b := s) (by omega) (by decide)
  by_cases h7 : 7 ≤ s
  · have E : ((nI t * 3) + nI s) - 7 = nI (t * 3 + (s - 7)) := by
      rw [cc_3E, show nI (t * 3 + s) - 7 = nI (t * 3 + s - 7) from pk_sub (b := 7) (by omega)]
      exact congrArg nI (by omega)
    refine ⟨pr (t * 3 + (s - 7)), fun post hp => ?_, fun post hp => br_f y1 (br_f y2 (br_f y3 (br_f y4 (br_t (nI_le (a := 7) h7 (by omega)) ?_))))⟩
    · unfold wpX_position
      dsimp only
      refine xx_tr1 ht (br_f cc_n10 (xx_pl1 h7 hs (br_f cc_n10 ?_)))
      rw [E]
      refine And.intro (vp_in_nI (by omega) (by decide)) ?_
      rw [nI_clamp (by omega)]
      exact hp
    · unfold wY_position_38
      refine br_f (nI_nlt (b := 7) h7 (by omega)) ?_
      rw [E]
      refine And.intro (vp_in_nI (by omega) (by decide)) ?_
      rw [nI_clamp (by omega)]
      exact hp
  · have y5 : ¬ (7 : Int32) ≤ nI s := nI_ge (b := 7) (by omega) (by decide)
    by_cases hl4 : s < 4 + l
    · obtain ⟨o, rfl⟩ : ∃ o, s = 4 + o := ⟨s - 4, by omega⟩
      have ho : o < 3 := by omega
      have y6 : nI (4 + o) < 4 + nI l := by rw [cc_4l]; exact nI_lt hl4 (by omega)
      have hv : vp_in (nI (t * 3 + o)) 12 := vp_in_nI (by omega) (by decide)
      have E : ((nI t * 3) + nI (4 + o)) - 4 = nI (t * 3 + o) := by
        rw [cc_3E, show nI (t * 3 + (4 + o)) - 4 = nI (t * 3 + (4 + o) - 4) from pk_sub (b := 4) (by omega)]
        exact congrArg nI (by omega)
      have X (post : Int32 → Prop) (h0 : po (t * 3 + o) = 0 → post ((16 * la (t * 3 + o)) + ga (t * 3 + o))) (h1 : ¬ po (t * 3 + o) = 0 → post ((16 * la (t * 3 + o)) + 8)) : wpX_position post ((nI m), (nI l), (nI tp), bg, vl, pr, ac, la, ga, po, he, ou, fl, dn) (nI t) (nI (4 + o)) := by
        unfold wpX_position
        dsimp only
        refine xx_tr1 ht (br_f cc_n10 (xx_pl0 (Or.inl (nI_lt (by omega) (by decide))) (br_t rfl (xx_lp1 hl (by omega) hl4 (br_f cc_n10 (nm_r E ?_))))))
        unfold wX_position_70
        rw [nI_clamp (n := t * 3 + o) (by omega)]
        exact And.intro hv (br_c (fun e => And.intro hv (And.intro hv (h0 e))) (fun e => And.intro hv (h1 e)))
      have Y (post : Int32 → Prop) (h0 : po (t * 3 + o) = 0 → post ((16 * la (t * 3 + o)) + ga (t * 3 + o))) (h1 : ¬ po (t * 3 + o) = 0 → post ((16 * la (t * 3 + o)) + 8)) : wpY_position post ((nI m), (nI l), (nI tp), (cc_fa he ac fl), bg, dn, (cc_tr la), (cc_tr po), (cc_gb ga), pr, vl, ou) (nI t) (nI (4 + o)) := by
        refine br_f y1 (br_f y2 (br_f y3 (br_f y4 (br_f y5 (br_t y6 ?_)))))
        unfold wY_position_38
        refine br_t (nI_lt (b := 7) (by omega) (by decide)) (nm_r (e' := nI (o * 4 + t)) (by rw [cc_m4s, cc_4E]) ?_)
        exact ⟨4, yy_p72 ht ho (cc_Ig I _) h0 h1 3 0 rfl 4 (by omega)⟩
      by_cases e : po (t * 3 + o) = 0
      · exact ⟨_, fun post hp => X post (fun _ => hp) (fun z => absurd e z), fun post hp => Y post (fun _ => hp) (fun z => absurd e z)⟩
      · exact ⟨_, fun post hp => X post (fun z => absurd z e) (fun _ => hp), fun post hp => Y post (fun z => absurd z e) (fun _ => hp)⟩
    · refine ⟨-1, X0 (Or.inl (nI_lt (by omega) (by decide))) (Or.inr (nI_le (by omega) (by omega))), fun post hp => br_f y1 (br_f y2 (br_f y3 (br_f y4 (br_f y5 (br_f ?_ hp)))))⟩
      rw [cc_4l]
      exact nI_nlt (by omega) (by omega)
theorem rd_acc (I : cc_I m l tp pr ac la ga he fl) (p0 p1 p2 : Int32) : cc_D (fun post => wpX_accepted post ((nI m), (nI l), (nI tp), bg, vl, pr, ac, la, ga, po, he, ou, fl, dn) p0 p1 p2) (fun post => wpY_accepted post ((nI m), (nI l), (nI tp), (cc_fa he ac fl), bg, dn, (cc_tr la), (cc_tr po), (cc_gb ga), pr, vl, ou) p0 p1 p2) := by
  have hm := cc_Im I
  have htp := cc_It I
  rcases pk_ix p0 (n := 4) (by decide) with q | q | ⟨t, ht, rfl⟩
  · refine ⟨-1, fun post hp => ?_, fun post hp => br_t q hp⟩
    unfold wpX_accepted
    dsimp only
    exact xx_tr0 (Or.inl q) (br_t rfl hp)
  · refine ⟨-1, fun post hp => ?_, fun post hp => br_f (cc_nn 4 q (by decide)) (br_t (cc_gt 3 q (by decide)) hp)⟩
    unfold wpX_accepted
    dsimp only
    exact xx_tr0 (Or.inr q) (br_t rfl hp)
  have y1 : ¬ nI t < 0 := nI_pos (by omega)
  have y2 : ¬ (3 : Int32) < nI t := nI_nlt (a := 3) (b := t) (by omega) (by decide)
  rcases pk_ix p1 (n := tp + 1) (by omega) with q | q | ⟨b, hb, rfl⟩
  · refine ⟨-1, fun post hp => ?_, fun post hp => br_f y1 (br_f y2 (br_t q hp))⟩
    unfold wpX_accepted
    dsimp only
    exact xx_tr1 ht (br_f cc_n10 (xx_bl0 (Or.inl q) (br_t rfl hp)))
  · refine ⟨-1, fun post hp => ?_, fun post hp => br_f y1 (br_f y2 (br_f (cc_nn (tp + 1) q (by omega)) (br_t (cc_gt tp q (by omega)) hp)))⟩
    unfold wpX_accepted
    dsimp only
    exact xx_tr1 ht (br_f cc_n10 (xx_bl0 (Or.inr (cc_gt tp q (by omega))) (br_t rfl hp)))
  have y3 : ¬ nI b < 0 := nI_pos (by omega)
  have y4 : ¬ nI tp < nI b := nI_nlt (by omega) (by omega)
  have hb' : b ≤ tp := by omega
  rcases pk_ix p2 (n := 3) (by decide) with q | q | ⟨a, ha, rfl⟩
  · refine ⟨-1, fun post hp => ?_, fun post hp => br_f y1 (br_f y2 (br_f y3 (br_f y4 (br_t q hp))))⟩
    unfold wpX_accepted
    dsimp only
    exact xx_tr1 ht (br_f cc_n10 (xx_bl1 htp hb' (br_f cc_n10 (xx_ac0 (Or.inl q) (br_t rfl hp)))))
  · refine ⟨-1, fun post hp => ?_, fun post hp => br_f y1 (br_f y2 (br_f y3 (br_f y4 (br_f (cc_nn 3 q (by decide)) (br_f (cc_nle 2 q (by decide)) hp)))))⟩
    unfold wpX_accepted
    dsimp only
    exact xx_tr1 ht (br_f cc_n10 (xx_bl1 htp hb' (br_f cc_n10 (xx_ac0 (Or.inr q) (br_t rfl hp)))))
  refine ⟨ac (cc_ix 0 t b a), fun post hp => ?_, fun post hp => br_f y1 (br_f y2 (br_f y3 (br_f y4 (br_f (nI_pos (by omega)) (br_t (nI_le (b := 2) (by omega) (by decide)) (yy_smA ht (by omega) ha (cc_wm (by omega) (cc_Iw I _)) hp))))))⟩
  unfold wpX_accepted
  dsimp only
  refine xx_tr1 ht (br_f cc_n10 (xx_bl1 htp hb' (br_f cc_n10 (xx_ac1 ha (br_f cc_n10 (xx_aa (And.intro (vp_in_nI (by unfold cc_ix; omega) (by decide)) ?_)))))))
  rw [nI_clamp (by unfold cc_ix; omega)]
  exact hp
theorem rd_val (I : cc_I m l tp pr ac la ga he fl) (p0 p1 p2 : Int32) : cc_D (fun post => wpX_value post ((nI m), (nI l), (nI tp), bg, vl, pr, ac, la, ga, po, he, ou, fl, dn) p0 p1 p2) (fun post => wpY_value post ((nI m), (nI l), (nI tp), (cc_fa he ac fl), bg, dn, (cc_tr la), (cc_tr po), (cc_gb ga), pr, vl, ou) p0 p1 p2) := by
  have hm := cc_Im I
  have htp := cc_It I
  rcases pk_ix p0 (n := 4) (by decide) with q | q | ⟨t, ht, rfl⟩
  · refine ⟨-1, fun post hp => ?_, fun post hp => br_t q hp⟩
    unfold wpX_value
    dsimp only
    exact xx_tr0 (Or.inl q) (br_t rfl hp)
  · refine ⟨-1, fun post hp => ?_, fun post hp => br_f (cc_nn 4 q (by decide)) (br_t (cc_gt 3 q (by decide)) hp)⟩
    unfold wpX_value
    dsimp only
    exact xx_tr0 (Or.inr q) (br_t rfl hp)
  have y1 : ¬ nI t < 0 := nI_pos (by omega)
  have y2 : ¬ (3 : Int32) < nI t := nI_nlt (a := 3) (b := t) (by omega) (by decide)
  rcases pk_ix p1 (n := m) (by omega) with q | q | ⟨r, hr, rfl⟩
  · refine ⟨-1, fun post hp => ?_, fun post hp => br_f y1 (br_f y2 (br_t q hp))⟩
    unfold wpX_value
    dsimp only
    exact xx_tr1 ht (br_f cc_n10 (xx_mg0 (Or.inl q) (br_t rfl hp)))
  · refine ⟨-1, fun post hp => ?_, fun post hp => br_f y1 (br_f y2 (br_f (cc_nn m q (by omega)) (br_t q hp)))⟩
    unfold wpX_value
    dsimp only
    exact xx_tr1 ht (br_f cc_n10 (xx_mg0 (Or.inr q) (br_t rfl hp)))
  have y3 : ¬ nI r < 0 := nI_pos (by omega)
  have y4 : ¬ nI m ≤ nI r := nI_ge hr (by omega)
  rcases pk_ix p2 (n := tp + 1) (by omega) with q | q | ⟨b, hb, rfl⟩
  · refine ⟨-1, fun post hp => ?_, fun post hp => br_f y1 (br_f y2 (br_f y3 (br_f y4 (br_t q hp))))⟩
    unfold wpX_value
    dsimp only
    exact xx_tr1 ht (br_f cc_n10 (xx_mg1 hm hr (br_f cc_n10 (xx_bl0 (Or.inl q) (br_t rfl hp)))))
  · refine ⟨-1, fun post hp => ?_, fun post hp => br_f y1 (br_f y2 (br_f y3 (br_f y4 (br_f (cc_nn (tp + 1) q (by omega)) (br_f (cc_nle tp q (by omega)) hp)))))⟩
    unfold wpX_value
    dsimp only
    exact xx_tr1 ht (br_f cc_n10 (xx_mg1 hm hr (br_f cc_n10 (xx_bl0 (Or.inr (cc_gt tp q (by omega))) (br_t rfl hp)))))
  have hi : cc_vx t r b < 128 := by unfold cc_vx; omega
  refine ⟨vl (cc_vx t r b), fun post hp => ?_, fun post hp => br_f y1 (br_f y2 (br_f y3 (br_f y4 (br_f (nI_pos (by omega)) (br_t (nI_le (by omega) (by omega)) ?_)))))⟩
  · unfold wpX_value
    dsimp only
    refine xx_tr1 ht (br_f cc_n10 (xx_mg1 hm hr (br_f cc_n10 (xx_bl1 htp (by omega) (br_f cc_n10 (xx_vx (And.intro (vp_in_nI hi (by decide)) ?_)))))))
    rw [nI_clamp (by omega)]
    exact hp
  · rw [cc_vxE]
    refine And.intro (vp_in_nI hi (by decide)) ?_
    rw [nI_clamp (by omega)]
    exact hp
theorem rd_heard (I : cc_I m l tp pr ac la ga he fl) (p0 p1 p2 p3 : Int32) : cc_D (fun post => wpX_heard post ((nI m), (nI l), (nI tp), bg, vl, pr, ac, la, ga, po, he, ou, fl, dn) p0 p1 p2 p3) (fun post => wpY_heard post ((nI m), (nI l), (nI tp), (cc_fa he ac fl), bg, dn, (cc_tr la), (cc_tr po), (cc_gb ga), pr, vl, ou) p0 p1 p2 p3) := by
  have hm := cc_Im I
  have hl := cc_Il I
  have htp := cc_It I
  rcases cc_sp (tp := tp) (bg := bg) (vl := vl) (pr := pr) (ac := ac) (la := la) (ga := ga) (po := po) (he := he) (ou := ou) (fl := fl) (dn := dn) hm hl p0 with ⟨s, rfl, hs, e⟩ | ⟨hX, hY⟩
  · have K (r : Int32) (kx : ∀ post : Int32 → Prop, post r → wpX_heard post ((nI m), (nI l), (nI tp), bg, vl, pr, ac, la, ga, po, he, ou, fl, dn) (nI s) p1 p2 p3) (ky : ∀ post : Int32 → Prop, post r → wpY_heard post ((nI m), (nI l), (nI tp), (cc_fa he ac fl), bg, dn, (cc_tr la), (cc_tr po), (cc_gb ga), pr, vl, ou) (nI s) p1 p2 p3) : cc_D (fun post => wpX_heard post ((nI m), (nI l), (nI tp), bg, vl, pr, ac, la, ga, po, he, ou, fl, dn) (nI s) p1 p2 p3) (fun post => wpY_heard post ((nI m), (nI l), (nI tp), (cc_fa he ac fl), bg, dn, (cc_tr la), (cc_tr po), (cc_gb ga), pr, vl, ou) (nI s) p1 p2 p3) := ⟨r, kx, ky⟩
    rcases pk_ix p1 (n := 4) (by decide) with q | q | ⟨t, ht, rfl⟩
    · refine K (-1) (fun post hp => ?_) (fun post hp => ?_)
      · unfold wpX_heard
        dsimp only
        exact xx_si1 hm hl hs e (br_f cc_n10 (xx_tr0 (Or.inl q) (br_t rfl hp)))
      · unfold wpY_heard
        dsimp only
        exact yy_si1 hm hl hs e (br_f cc_n10 (br_t q hp))
    · refine K (-1) (fun post hp => ?_) (fun post hp => ?_)
      · unfold wpX_heard
        dsimp only
        exact xx_si1 hm hl hs e (br_f cc_n10 (xx_tr0 (Or.inr q) (br_t rfl hp)))
      · unfold wpY_heard
        dsimp only
        exact yy_si1 hm hl hs e (br_f cc_n10 (br_f (cc_nn 4 q (by decide)) (br_t (cc_gt 3 q (by decide)) hp)))
    have y1 : ¬ nI t < 0 := nI_pos (by omega)
    have y2 : ¬ (3 : Int32) < nI t := nI_nlt (a := 3) (b := t) (by omega) (by decide)
    rcases pk_ix p2 (n := tp + 1) (by omega) with q | q | ⟨b, hb, rfl⟩
    · refine K (-1) (fun post hp => ?_) (fun post hp => ?_)
      · unfold wpX_heard
        dsimp only
        exact xx_si1 hm hl hs e (br_f cc_n10 (xx_tr1 ht (br_f cc_n10 (xx_bl0 (Or.inl q) (br_t rfl hp)))))
      · unfold wpY_heard
        dsimp only
        exact yy_si1 hm hl hs e (br_f cc_n10 (br_f y1 (br_f y2 (br_t q hp))))
    · refine K (-1) (fun post hp => ?_) (fun post hp => ?_)
      · unfold wpX_heard
        dsimp only
        exact xx_si1 hm hl hs e (br_f cc_n10 (xx_tr1 ht (br_f cc_n10 (xx_bl0 (Or.inr (cc_gt tp q (by omega))) (br_t rfl hp)))))
      · unfold wpY_heard
        dsimp only
        exact yy_si1 hm hl hs e (br_f cc_n10 (br_f y1 (br_f y2 (br_f (cc_nn (tp + 1) q (by omega)) (br_t (cc_gt tp q (by omega)) hp)))))
    have y3 : ¬ nI b < 0 := nI_pos (by omega)
    have y4 : ¬ nI tp < nI b := nI_nlt (by omega) (by omega)
    have hb' : b ≤ tp := by omega
    rcases pk_ix p3 (n := 3) (by decide) with q | q | ⟨a, ha, rfl⟩
    · refine K (-1) (fun post hp => ?_) (fun post hp => ?_)
      · unfold wpX_heard
        dsimp only
        exact xx_si1 hm hl hs e (br_f cc_n10 (xx_tr1 ht (br_f cc_n10 (xx_bl1 htp hb' (br_f cc_n10 (xx_ac0 (Or.inl q) (br_t rfl hp)))))))
      · unfold wpY_heard
        dsimp only
        exact yy_si1 hm hl hs e (br_f cc_n10 (br_f y1 (br_f y2 (br_f y3 (br_f y4 (br_t q hp))))))
    · refine K (-1) (fun post hp => ?_) (fun post hp => ?_)
      · unfold wpX_heard
        dsimp only
        exact xx_si1 hm hl hs e (br_f cc_n10 (xx_tr1 ht (br_f cc_n10 (xx_bl1 htp hb' (br_f cc_n10 (xx_ac0 (Or.inr q) (br_t rfl hp)))))))
      · unfold wpY_heard
        dsimp only
        exact yy_si1 hm hl hs e (br_f cc_n10 (br_f y1 (br_f y2 (br_f y3 (br_f y4 (br_f (cc_nn 3 q (by decide)) (br_f (cc_nle 2 q (by decide)) hp)))))))
    have hi : cc_ix s t b a < 672 := by unfold cc_ix; omega
    refine K (he (cc_ix s t b a)) (fun post hp => ?_) (fun post hp => ?_)
    · unfold wpX_heard
      dsimp only
      refine xx_si1 hm hl hs e (br_f cc_n10 (xx_tr1 ht (br_f cc_n10 (xx_bl1 htp hb' (br_f cc_n10 (xx_ac1 ha (br_f cc_n10 (xx_ha (And.intro (vp_in_nI hi (by decide)) ?_)))))))))
      rw [nI_clamp (by omega)]
      exact hp
    · unfold wpY_heard
      dsimp only
      exact yy_si1 hm hl hs e (br_f cc_n10 (br_f y1 (br_f y2 (br_f y3 (br_f y4 (br_f (nI_pos (by omega)) (br_t (nI_le (b := 2) (by omega) (by decide)) (yy_smH hs ht (by omega) ha (cc_wm (by omega) (cc_Ih I _)) hp))))))))
  · refine ⟨-1, fun post hp => ?_, fun post hp => ?_⟩
    · unfold wpX_heard
      dsimp only
      exact hX _ (br_t rfl hp)
    · unfold wpY_heard
      dsimp only
      exact hY _ (br_t rfl hp)
theorem rd_cho (I : cc_I m l tp pr ac la ga he fl) (p0 p1 : Int32) : cc_D (fun post => wpX_chosen post ((nI m), (nI l), (nI tp), bg, vl, pr, ac, la, ga, po, he, ou, fl, dn) p0 p1) (fun post => wpY_chosen post ((nI m), (nI l), (nI tp), (cc_fa he ac fl), bg, dn, (cc_tr la), (cc_tr po), (cc_gb ga), pr, vl, ou) p0 p1) := by
  have hm := cc_Im I
  have htp := cc_It I
  rcases pk_ix p0 (n := 4) (by decide) with q | q | ⟨t, ht, rfl⟩
  · refine ⟨-1, fun post hp => ?_, fun post hp => br_t q hp⟩
    unfold wpX_chosen
    dsimp only
    exact xx_tr0 (Or.inl q) (br_t rfl hp)
  · refine ⟨-1, fun post hp => ?_, fun post hp => br_f (cc_nn 4 q (by decide)) (br_t (cc_gt 3 q (by decide)) hp)⟩
    unfold wpX_chosen
    dsimp only
    exact xx_tr0 (Or.inr q) (br_t rfl hp)
  have y1 : ¬ nI t < 0 := nI_pos (by omega)
  have y2 : ¬ (3 : Int32) < nI t := nI_nlt (a := 3) (b := t) (by omega) (by decide)
  rcases pk_ix p1 (n := m) (by omega) with q | q | ⟨r, hr, rfl⟩
  · refine ⟨-1, fun post hp => ?_, fun post hp => br_f y1 (br_f y2 (br_t q hp))⟩
    unfold wpX_chosen
    dsimp only
    exact xx_tr1 ht (br_f cc_n10 (xx_mg0 (Or.inl q) (br_t rfl hp)))
  · refine ⟨-1, fun post hp => ?_, fun post hp => br_f y1 (br_f y2 (br_f (cc_nn m q (by omega)) (br_f (Int32.not_lt.mpr q) hp)))⟩
    unfold wpX_chosen
    dsimp only
    exact xx_tr1 ht (br_f cc_n10 (xx_mg0 (Or.inr q) (br_t rfl hp)))
  have y3 : ¬ nI r < 0 := nI_pos (by omega)
  have y4 : nI r < nI m := nI_lt hr (by omega)
  refine ⟨cc_ch (fun b => cc_m3 ac (cc_ix 0 t b 0) r) (fun b => vl (cc_vx t r b)) (tp + 1) 0, fun post hp => ?_, fun post hp => br_f y1 (br_f y2 (br_f y3 (br_t y4 ⟨tp + 2, yy_ch htp ht (by omega) (tp + 1) 0 (by omega) (tp + 2) (by omega) hp⟩)))⟩
  unfold wpX_chosen
  dsimp only
  exact xx_tr1 ht (br_f cc_n10 (xx_mg1 hm hr (br_f cc_n10 ⟨tp + 2, xx_ch htp ht (by omega) (tp + 1) 0 (by omega) (tp + 2) (by omega) hp⟩)))
theorem rd_out (I : cc_I m l tp pr ac la ga he fl) (p0 p1 : Int32) : cc_D (fun post => wpX_outcome post ((nI m), (nI l), (nI tp), bg, vl, pr, ac, la, ga, po, he, ou, fl, dn) p0 p1) (fun post => wpY_outcome post ((nI m), (nI l), (nI tp), (cc_fa he ac fl), bg, dn, (cc_tr la), (cc_tr po), (cc_gb ga), pr, vl, ou) p0 p1) := by
  have hm := cc_Im I
  have hl := cc_Il I
  rcases cc_sp (tp := tp) (bg := bg) (vl := vl) (pr := pr) (ac := ac) (la := la) (ga := ga) (po := po) (he := he) (ou := ou) (fl := fl) (dn := dn) hm hl p0 with ⟨s, rfl, hs, e⟩ | ⟨hX, hY⟩
  · rcases pk_ix p1 (n := 4) (by decide) with q | q | ⟨t, ht, rfl⟩
    · refine ⟨-1, fun post hp => ?_, fun post hp => ?_⟩
      · unfold wpX_outcome
        dsimp only
        exact xx_si1 hm hl hs e (br_f cc_n10 (xx_tr0 (Or.inl q) (br_t rfl hp)))
      · unfold wpY_outcome
        dsimp only
        exact yy_si1 hm hl hs e (br_f cc_n10 (br_t q hp))
    · refine ⟨-1, fun post hp => ?_, fun post hp => ?_⟩
      · unfold wpX_outcome
        dsimp only
        exact xx_si1 hm hl hs e (br_f cc_n10 (xx_tr0 (Or.inr q) (br_t rfl hp)))
      · unfold wpY_outcome
        dsimp only
        exact yy_si1 hm hl hs e (br_f cc_n10 (br_f (cc_nn 4 q (by decide)) (br_f (cc_nle 3 q (by decide)) hp)))
    have X (post : Int32 → Prop) (h0 : bg t = 0 → post (-2)) (h1 : ¬ bg t = 0 → post (ou (s * 4 + t))) : wpX_outcome post ((nI m), (nI l), (nI tp), bg, vl, pr, ac, la, ga, po, he, ou, fl, dn) (nI s) (nI t) := by
      unfold wpX_outcome
      dsimp only
      refine xx_si1 hm hl hs e (br_f cc_n10 (xx_tr1 ht (br_f cc_n10 (cc_ld ht (by decide) h0 (fun z => ?_)))))
      rw [cc_4E]
      refine And.intro (vp_in_nI (by omega) (by decide)) ?_
      rw [nI_clamp (by omega)]
      exact h1 z
    have Y (post : Int32 → Prop) (h0 : bg t = 0 → post (-2)) (h1 : ¬ bg t = 0 → post (ou (s * 4 + t))) : wpY_outcome post ((nI m), (nI l), (nI tp), (cc_fa he ac fl), bg, dn, (cc_tr la), (cc_tr po), (cc_gb ga), pr, vl, ou) (nI s) (nI t) := by
      unfold wpY_outcome
      dsimp only
      refine yy_si1 hm hl hs e (br_f cc_n10 (br_f (nI_pos (by omega)) (br_t (nI_le (b := 3) (by omega) (by decide)) (cc_ld ht (by decide) h0 (fun z => ?_)))))
      rw [cc_4E]
      refine And.intro (vp_in_nI (by omega) (by decide)) ?_
      rw [nI_clamp (by omega)]
      exact h1 z
    by_cases z : bg t = 0
    · exact ⟨_, fun post hp => X post (fun _ => hp) (fun y => absurd z y), fun post hp => Y post (fun _ => hp) (fun y => absurd z y)⟩
    · exact ⟨_, fun post hp => X post (fun y => absurd y z) (fun _ => hp), fun post hp => Y post (fun y => absurd y z) (fun _ => hp)⟩
  · refine ⟨-1, fun post hp => ?_, fun post hp => ?_⟩
    · unfold wpX_outcome
      dsimp only
      exact hX _ (br_t rfl hp)
    · unfold wpY_outcome
      dsimp only
      exact hY _ (br_t rfl hp)
end
end
section
/-! what is owed -/
/-- the two states are related: the reference's arrays are functions of the component's, masks within the managers -/
def i_Rel (_ : Nat) (u : SX) (v : SY) : Prop := ∃ (m l tp : Nat) (bg dn : Nat → Int32), cc_R m l tp bg dn u v
theorem i_up {k : Nat} {u : SX} {v : SY} (h : i_Rel k u v) : i_Rel (k + 5) u v := h
theorem cc_el {k : Nat} {P : SX → SY → Prop} (h : ∀ (m l tp : Nat) (bg vl pr ac la ga po he ou fl dn : Nat → Int32), cc_I m l tp pr ac la ga he fl → P ((nI m), (nI l), (nI tp), bg, vl, pr, ac, la, ga, po, he, ou, fl, dn) ((nI m), (nI l), (nI tp), (cc_fa he ac fl), bg, dn, (cc_tr la), (cc_tr po), (cc_gb ga), pr, vl, ou)) {u : SX} {v : SY} (I : i_Rel k u v) : P u v := by
  obtain ⟨m, l, tp, bg, dn, vl, pr, ac, la, ga, po, he, ou, fl, I, rfl, rfl⟩ := I
  exact h m l tp bg vl pr ac la ga po he ou fl dn I
theorem cc_fa0 : cc_fa (fun _ => 0) (fun _ => 0) (fun _ => 0) = fun _ => 0 := by
  funext j
  have e : cc_g (fun _ => 0) (fun _ => 0) (fun _ => 0) (j / 4) = 0 := by
    unfold cc_g
    by_cases a : j / 4 < 672
    · rw [if_pos a]
    · rw [if_neg a]
      by_cases b : j / 4 < 768
      · rw [if_pos b]
      · rw [if_neg b]
  unfold cc_fa
  rw [e, b_0]
  rfl
theorem cc_tr0 : cc_tr (fun _ => 0) = fun _ => 0 := by
  funext j
  unfold cc_tr
  by_cases a : j < 12
  · rw [if_pos a]
  · rw [if_neg a]
theorem cc_gb0 : cc_gb (fun _ => 0) = fun _ => 0 := by
  funext j
  unfold cc_gb
  by_cases a : j < 36
  · rw [if_pos a, b_0]; rfl
  · rw [if_neg a]
/-- a count held within its range, as both constructors do it -/
theorem cc_cl (p : Int32) (a b : Nat) (hab : a ≤ b) (hb : b < 2 ^ 31) : ∃ c, a ≤ c ∧ c ≤ b ∧ ∀ Q : Int32 → Prop, Q (nI c) → ((nI a ≤ p → ((p ≤ nI b → Q p) ∧ (¬ p ≤ nI b → Q (nI b)))) ∧ (¬ nI a ≤ p → Q (nI a))) := by
  by_cases h : nI a ≤ p
  · by_cases h2 : p ≤ nI b
    · obtain ⟨c, hc, e⟩ := nI_of2 (nI_toInt hb) (cc_nn a h (by omega)) h2
      subst e
      rw [nI_leI (by omega) (by omega)] at h
      refine ⟨c, h, hc, fun Q hq => br_t (nI_le h (by omega)) (br_t h2 hq)⟩
    · exact ⟨b, hab, Nat.le_refl b, fun Q hq => br_t h (br_f h2 hq)⟩
  · exact ⟨a, Nat.le_refl a, hab, fun Q hq => br_f h hq⟩
theorem xx_cl {post : Int32 → Prop} {p : Int32} {a b c : Nat} {M L T : Int32} {c1 c2 c3 c4 c5 c6 c7 c8 c9 c10 c11 : Nat → Int32}
    (h : ∀ Q : Int32 → Prop, Q (nI c) → ((nI a ≤ p → ((p ≤ nI b → Q p) ∧ (¬ p ≤ nI b → Q (nI b)))) ∧ (¬ nI a ≤ p → Q (nI a)))) (hp : post (nI c)) : wpX_clamp post (M, L, T, c1, c2, c3, c4, c5, c6, c7, c8, c9, c10, c11) p (nI a) (nI b) := h post hp
theorem i_vc0 (k0 : Int32) (k1 : Int32) (k2 : Int32) : wpX_init (fun u => wpY_init (fun v => i_Rel 3 u v) k0 k1 k2) k0 k1 k2 := by
  obtain ⟨m, hm1, hm2, hM⟩ := cc_cl k0 2 4 (by decide) (by decide)
  obtain ⟨l, hl1, hl2, hL⟩ := cc_cl k1 1 3 (by decide) (by decide)
  obtain ⟨tp, ht1, ht2, hT⟩ := cc_cl k2 3 7 (by decide) (by decide)
  have R : i_Rel 3 (nI m, nI l, nI tp, (fun _ => 0), (fun _ => 0), (fun _ => 0), (fun _ => 0), (fun _ => 0), (fun _ => 0), (fun _ => 0), (fun _ => 0), (fun _ => 0), (fun _ => 0), (fun _ => 0)) (nI m, nI l, nI tp, (fun _ => 0), (fun _ => 0), (fun _ => 0), (fun _ => 0), (fun _ => 0), (fun _ => 0), (fun _ => 0), (fun _ => 0), (fun _ => 0)) := by
    refine ⟨m, l, tp, fun _ => 0, fun _ => 0, fun _ => 0, fun _ => 0, fun _ => 0, fun _ => 0, fun _ => 0, fun _ => 0, fun _ => 0, fun _ => 0, fun _ => 0, ?_, rfl, ?_⟩
    · exact ⟨⟨⟨hm1, by omega⟩, ⟨by omega, by omega⟩, ⟨ht1, by omega⟩⟩, ⟨fun _ => ⟨0, by omega, rfl⟩, fun _ => ⟨0, by omega, rfl⟩⟩, fun _ => cc_w0 m, fun _ => Or.inl rfl, fun _ => cc_w0 m, fun _ => cc_w0 m, fun _ _ => cc_w0 1⟩
    · rw [cc_fa0, cc_tr0, cc_gb0]
  unfold wpX_init
  refine xx_cl hM (xx_cl hL (xx_cl hT ?_))
  unfold wpY_init
  refine hM (fun z => wY_init_97 _ k1 k2 z 0 0 0 (fun _ => 0) (fun _ => 0) (fun _ => 0) (fun _ => 0) (fun _ => 0) (fun _ => 0) (fun _ => 0) (fun _ => 0) (fun _ => 0)) ?_
  unfold wY_init_97
  refine hL (fun z => wY_init_120 _ k2 z (nI m) 0 0 (fun _ => 0) (fun _ => 0) (fun _ => 0) (fun _ => 0) (fun _ => 0) (fun _ => 0) (fun _ => 0) (fun _ => 0) (fun _ => 0)) ?_
  unfold wY_init_120
  exact hT (fun z => i_Rel 3 _ (nI m, nI l, z, (fun _ => 0), (fun _ => 0), (fun _ => 0), (fun _ => 0), (fun _ => 0), (fun _ => 0), (fun _ => 0), (fun _ => 0), (fun _ => 0))) R
/-- an outcome for both gives the owed statement -/
theorem cc_fin {k m l tp : Nat} {bg dn : Nat → Int32} {wx : (Int32 → SX → Prop) → Prop} {wy : (Int32 → SY → Prop) → Prop} (h : cc_L m l tp bg dn wx wy) : wx (fun r u' => wy (fun r' v' => r' = r ∧ i_Rel k u' v')) := by
  obtain ⟨r, u, v, hR, hX, hY⟩ := h
  exact hX _ (hY _ ⟨rfl, m, l, tp, bg, dn, hR⟩)
theorem cc_find {wx wy : (Int32 → Prop) → Prop} {Q : Prop} (h : cc_D wx wy) (hq : Q) : wx (fun r => wy (fun r' => r' = r ∧ Q)) := by
  obtain ⟨r, hX, hY⟩ := h
  exact hX _ (hY _ ⟨rfl, hq⟩)
theorem i_vc_begin {k : Nat} {u : SX} {v : SY} (I : i_Rel k u v) (hk : k + 5 ≤ 2563) (v1 : Int32) : wpX_begin (fun r u' => wpY_begin (fun r' v' => r' = r ∧ i_Rel (k + 5) u' v') v v1) u v1 := by
  refine cc_el (P := fun u v => wpX_begin (fun r u' => wpY_begin (fun r' v' => r' = r ∧ i_Rel (k + 5) u' v') v v1) u v1) ?_ I
  intro m l tp bg vl pr ac la ga po he ou fl dn J
  obtain ⟨bg', h⟩ := lk_begin (bg := bg) (vl := vl) (po := po) (ou := ou) (dn := dn) J v1
  exact cc_fin h
theorem i_vc_vote {k : Nat} {u : SX} {v : SY} (I : i_Rel k u v) (hk : k + 5 ≤ 2563) (v1 : Int32) (v2 : Int32) (v3 : Int32) : wpX_vote (fun r u' => wpY_vote (fun r' v' => r' = r ∧ i_Rel (k + 5) u' v') v v1 v2 v3) u v1 v2 v3 := by
  refine cc_el (P := fun u v => wpX_vote (fun r u' => wpY_vote (fun r' v' => r' = r ∧ i_Rel (k + 5) u' v') v v1 v2 v3) u v1 v2 v3) ?_ I
  intro m l tp bg vl pr ac la ga po he ou fl dn J
  exact cc_fin (lk_vote (bg := bg) (vl := vl) (po := po) (ou := ou) (dn := dn) J v1 v2 v3)
theorem i_vc_start {k : Nat} {u : SX} {v : SY} (I : i_Rel k u v) (hk : k + 5 ≤ 2563) (v1 : Int32) (v2 : Int32) : wpX_start (fun r u' => wpY_start (fun r' v' => r' = r ∧ i_Rel (k + 5) u' v') v v1 v2) u v1 v2 := by
  refine cc_el (P := fun u v => wpX_start (fun r u' => wpY_start (fun r' v' => r' = r ∧ i_Rel (k + 5) u' v') v v1 v2) u v1 v2) ?_ I
  intro m l tp bg vl pr ac la ga po he ou fl dn J
  exact cc_fin (lk_start (bg := bg) (vl := vl) (po := po) (ou := ou) (dn := dn) J v1 v2)
theorem i_vc_deliver {k : Nat} {u : SX} {v : SY} (I : i_Rel k u v) (hk : k + 5 ≤ 2563) (v1 : Int32) (v2 : Int32) (v3 : Int32) (v4 : Int32) : wpX_deliver (fun r u' => wpY_deliver (fun r' v' => r' = r ∧ i_Rel (k + 5) u' v') v v1 v2 v3 v4) u v1 v2 v3 v4 := by
  refine cc_el (P := fun u v => wpX_deliver (fun r u' => wpY_deliver (fun r' v' => r' = r ∧ i_Rel (k + 5) u' v') v v1 v2 v3 v4) u v1 v2 v3 v4) ?_ I
  intro m l tp bg vl pr ac la ga po he ou fl dn J
  exact cc_fin (lk_del (bg := bg) (vl := vl) (po := po) (ou := ou) (dn := dn) J v1 v2 v3 v4)
theorem i_vc_duplicate {k : Nat} {u : SX} {v : SY} (I : i_Rel k u v) (hk : k + 5 ≤ 2563) (v1 : Int32) (v2 : Int32) (v3 : Int32) (v4 : Int32) : wpX_duplicate (fun r u' => wpY_duplicate (fun r' v' => r' = r ∧ i_Rel (k + 5) u' v') v v1 v2 v3 v4) u v1 v2 v3 v4 := by
  refine cc_el (P := fun u v => wpX_duplicate (fun r u' => wpY_duplicate (fun r' v' => r' = r ∧ i_Rel (k + 5) u' v') v v1 v2 v3 v4) u v1 v2 v3 v4) ?_ I
  intro m l tp bg vl pr ac la ga po he ou fl dn J
  exact cc_fin (lk_dup (bg := bg) (vl := vl) (po := po) (ou := ou) (dn := dn) J v1 v2 v3 v4)
theorem i_vc_lose {k : Nat} {u : SX} {v : SY} (I : i_Rel k u v) (hk : k + 5 ≤ 2563) (v1 : Int32) (v2 : Int32) (v3 : Int32) (v4 : Int32) : wpX_lose (fun r u' => wpY_lose (fun r' v' => r' = r ∧ i_Rel (k + 5) u' v') v v1 v2 v3 v4) u v1 v2 v3 v4 := by
  refine cc_el (P := fun u v => wpX_lose (fun r u' => wpY_lose (fun r' v' => r' = r ∧ i_Rel (k + 5) u' v') v v1 v2 v3 v4) u v1 v2 v3 v4) ?_ I
  intro m l tp bg vl pr ac la ga po he ou fl dn J
  exact cc_fin (lk_lose (bg := bg) (vl := vl) (po := po) (ou := ou) (dn := dn) J v1 v2 v3 v4)
theorem i_vc_power {k : Nat} {u : SX} {v : SY} (I : i_Rel k u v) (hk : k + 5 ≤ 2563) (v1 : Int32) (v2 : Int32) : wpX_power (fun r u' => wpY_power (fun r' v' => r' = r ∧ i_Rel (k + 5) u' v') v v1 v2) u v1 v2 := by
  refine cc_el (P := fun u v => wpX_power (fun r u' => wpY_power (fun r' v' => r' = r ∧ i_Rel (k + 5) u' v') v v1 v2) u v1 v2) ?_ I
  intro m l tp bg vl pr ac la ga po he ou fl dn J
  obtain ⟨dn', h⟩ := lk_power (bg := bg) (vl := vl) (po := po) (ou := ou) (dn := dn) J v1 v2
  exact cc_fin h
theorem i_vc_settle {k : Nat} {u : SX} {v : SY} (I : i_Rel k u v) (hk : k + 5 ≤ 2563) (v1 : Int32) (v2 : Int32) : wpX_settle (fun r u' => wpY_settle (fun r' v' => r' = r ∧ i_Rel (k + 5) u' v') v v1 v2) u v1 v2 := by
  refine cc_el (P := fun u v => wpX_settle (fun r u' => wpY_settle (fun r' v' => r' = r ∧ i_Rel (k + 5) u' v') v v1 v2) u v1 v2) ?_ I
  intro m l tp bg vl pr ac la ga po he ou fl dn J
  exact cc_fin (lk_settle (bg := bg) (vl := vl) (po := po) (ou := ou) (dn := dn) J v1 v2)
theorem i_vc_up {k : Nat} {u : SX} {v : SY} (I : i_Rel k u v) (hk : k + 5 ≤ 2563) (v1 : Int32) : wpX_up (fun r => wpY_up (fun r' => r' = r ∧ i_Rel (k + 5) u v) v v1) u v1 := by
  refine cc_find (wx := fun post => wpX_up post u v1) (wy := fun post => wpY_up post v v1) ?_ (i_up I)
  refine cc_el (P := fun u v => cc_D (fun post => wpX_up post u v1) (fun post => wpY_up post v v1)) ?_ I
  intro m l tp bg vl pr ac la ga po he ou fl dn J
  exact rd_up J v1
theorem i_vc_inFlight {k : Nat} {u : SX} {v : SY} (I : i_Rel k u v) (hk : k + 5 ≤ 2563) (v1 : Int32) (v2 : Int32) (v3 : Int32) (v4 : Int32) : wpX_inFlight (fun r => wpY_inFlight (fun r' => r' = r ∧ i_Rel (k + 5) u v) v v1 v2 v3 v4) u v1 v2 v3 v4 := by
  refine cc_find (wx := fun post => wpX_inFlight post u v1 v2 v3 v4) (wy := fun post => wpY_inFlight post v v1 v2 v3 v4) ?_ (i_up I)
  refine cc_el (P := fun u v => cc_D (fun post => wpX_inFlight post u v1 v2 v3 v4) (fun post => wpY_inFlight post v v1 v2 v3 v4)) ?_ I
  intro m l tp bg vl pr ac la ga po he ou fl dn J
  exact rd_fly J v1 v2 v3 v4
theorem i_vc_position {k : Nat} {u : SX} {v : SY} (I : i_Rel k u v) (hk : k + 5 ≤ 2563) (v1 : Int32) (v2 : Int32) : wpX_position (fun r => wpY_position (fun r' => r' = r ∧ i_Rel (k + 5) u v) v v1 v2) u v1 v2 := by
  refine cc_find (wx := fun post => wpX_position post u v1 v2) (wy := fun post => wpY_position post v v1 v2) ?_ (i_up I)
  refine cc_el (P := fun u v => cc_D (fun post => wpX_position post u v1 v2) (fun post => wpY_position post v v1 v2)) ?_ I
  intro m l tp bg vl pr ac la ga po he ou fl dn J
  exact rd_pos J v1 v2
theorem i_vc_accepted {k : Nat} {u : SX} {v : SY} (I : i_Rel k u v) (hk : k + 5 ≤ 2563) (v1 : Int32) (v2 : Int32) (v3 : Int32) : wpX_accepted (fun r => wpY_accepted (fun r' => r' = r ∧ i_Rel (k + 5) u v) v v1 v2 v3) u v1 v2 v3 := by
  refine cc_find (wx := fun post => wpX_accepted post u v1 v2 v3) (wy := fun post => wpY_accepted post v v1 v2 v3) ?_ (i_up I)
  refine cc_el (P := fun u v => cc_D (fun post => wpX_accepted post u v1 v2 v3) (fun post => wpY_accepted post v v1 v2 v3)) ?_ I
  intro m l tp bg vl pr ac la ga po he ou fl dn J
  exact rd_acc J v1 v2 v3
theorem i_vc_value {k : Nat} {u : SX} {v : SY} (I : i_Rel k u v) (hk : k + 5 ≤ 2563) (v1 : Int32) (v2 : Int32) (v3 : Int32) : wpX_value (fun r => wpY_value (fun r' => r' = r ∧ i_Rel (k + 5) u v) v v1 v2 v3) u v1 v2 v3 := by
  refine cc_find (wx := fun post => wpX_value post u v1 v2 v3) (wy := fun post => wpY_value post v v1 v2 v3) ?_ (i_up I)
  refine cc_el (P := fun u v => cc_D (fun post => wpX_value post u v1 v2 v3) (fun post => wpY_value post v v1 v2 v3)) ?_ I
  intro m l tp bg vl pr ac la ga po he ou fl dn J
  exact rd_val J v1 v2 v3
theorem i_vc_heard {k : Nat} {u : SX} {v : SY} (I : i_Rel k u v) (hk : k + 5 ≤ 2563) (v1 : Int32) (v2 : Int32) (v3 : Int32) (v4 : Int32) : wpX_heard (fun r => wpY_heard (fun r' => r' = r ∧ i_Rel (k + 5) u v) v v1 v2 v3 v4) u v1 v2 v3 v4 := by
  refine cc_find (wx := fun post => wpX_heard post u v1 v2 v3 v4) (wy := fun post => wpY_heard post v v1 v2 v3 v4) ?_ (i_up I)
  refine cc_el (P := fun u v => cc_D (fun post => wpX_heard post u v1 v2 v3 v4) (fun post => wpY_heard post v v1 v2 v3 v4)) ?_ I
  intro m l tp bg vl pr ac la ga po he ou fl dn J
  exact rd_heard J v1 v2 v3 v4
theorem i_vc_chosen {k : Nat} {u : SX} {v : SY} (I : i_Rel k u v) (hk : k + 5 ≤ 2563) (v1 : Int32) (v2 : Int32) : wpX_chosen (fun r => wpY_chosen (fun r' => r' = r ∧ i_Rel (k + 5) u v) v v1 v2) u v1 v2 := by
  refine cc_find (wx := fun post => wpX_chosen post u v1 v2) (wy := fun post => wpY_chosen post v v1 v2) ?_ (i_up I)
  refine cc_el (P := fun u v => cc_D (fun post => wpX_chosen post u v1 v2) (fun post => wpY_chosen post v v1 v2)) ?_ I
  intro m l tp bg vl pr ac la ga po he ou fl dn J
  exact rd_cho J v1 v2
theorem i_vc_outcome {k : Nat} {u : SX} {v : SY} (I : i_Rel k u v) (hk : k + 5 ≤ 2563) (v1 : Int32) (v2 : Int32) : wpX_outcome (fun r => wpY_outcome (fun r' => r' = r ∧ i_Rel (k + 5) u v) v v1 v2) u v1 v2 := by
  refine cc_find (wx := fun post => wpX_outcome post u v1 v2) (wy := fun post => wpY_outcome post v v1 v2) ?_ (i_up I)
  refine cc_el (P := fun u v => cc_D (fun post => wpX_outcome post u v1 v2) (fun post => wpY_outcome post v v1 v2)) ?_ I
  intro m l tp bg vl pr ac la ga po he ou fl dn J
  exact rd_out J v1 v2
end
